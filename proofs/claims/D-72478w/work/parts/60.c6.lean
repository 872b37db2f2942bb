/-! the component: forms by number, a cycle is made, rivers are laid -/
set_option maxRecDepth 100000
set_option maxHeartbeats 800000 in
theorem xo_numberOf {la : Launch} {X : XE} {G0 : Gh} {xh mf : Nat} {A : Nat → Nat} {rdn rv dr : Int} {fls : List Nat} {l : List Fm} {cy nx bk mr : Nat → Int} (p q r : Int) (hx : XOB G0 xh A rdn rv dr) (hLs : LST X G0 (A 7) 5 fls mf) (hF : FLS G0 fls l cy nx bk mr) (hb : ∀ f ∈ l, FB f) (hn : l.length ≤ 1098) (hi : i32 p ∧ i32 q ∧ i32 r) : MG la X yX0_numberOf cX0_numberOf 5 (some .int) (rmk 3 0 0 64) [.ref xh, .int (iI p), .int (iI q), .int (iI r)] (fun G => G = G0) (fun zv G => zv = some (.int (iI (nof l (p, q, r)))) ∧ G = G0) := by
  refine MG.of (by decide +kernel) (Nat.le_of_ble_eq_true rfl) ?_
  intro Z C hX hL hQ
  subst hX; subst hL
  change WW Z 5 (fun G => G = G0) 0 0 0 [some (.ref xh), some (.int (iI p)), some (.int (iI q)), some (.int (iI r)), none] []
  have hfl := hF.1
  have loop : ∀ i : Nat, i ≤ l.length → (∀ j, j < i → fat l j ≠ (p, q, r)) → WW Z 5 (fun G => G = G0) 0 0 3 [some (.ref xh), some (.int (iI p)), some (.int (iI q)), some (.int (iI r)), some (.int (iI (i : Int)))] [] := by
    refine loopN _ _ (fun i hi2 ih hj => ?_)
    refine r_iload (pc := 3) C dX0_numberOf_3 rfl ?_
    refine r_aload_n (pc := 5) C dX0_numberOf_5 rfl rfl ?_
    refine r_get (pc := 6) (k := 7) (ci := 0) C dX0_numberOf_6 (g1 hx.1) (show vwC[0]? = some (RX0, TX0, 10) from rfl) in_X0 (by decide) (C.t _ q283) (fun _ h => h) rfl ?_
    refine r_invV (pc := 9) (ci := 8) 0 C dX0_numberOf_9 (jl_size hLs) (gLs hLs) (show vwC[8]? = some (RJ6, TJ6, 3) from rfl) rfl (lw_V q580 q581 q582 q89 q583) (by decide +kernel) rfl rfl ⟨Nat.le_of_ble_eq_true rfl, Nat.le_of_ble_eq_true rfl⟩ (Nat.le_of_ble_eq_true rfl) ⟨Nat.le_of_ble_eq_true rfl, Nat.le_of_ble_eq_true rfl⟩ (rd_k ?_)
    rw [hfl]
    refine r_icmp_geZ (pc := 12) (tgt := 45) C dX0_numberOf_12 (by decide) (by unfold i32; omega) (by unfold i32; omega) (fun h12 => ?_) (fun h12 => ?_)
    · refine r_ldcZ (pc := 45) (a := -2000000001) C dX0_numberOf_45 rfl q863 (by decide) ?_
      exact r_iret (pc := 47) C hQ dX0_numberOf_47 (Nat.le_of_ble_eq_true rfl) (Nat.le_of_ble_eq_true rfl) (fun G hG => ⟨(by rw [nof_none (fun j hj2 => hj j (by omega))]), hG⟩)
    · refine r_aload_n (pc := 15) C dX0_numberOf_15 rfl rfl ?_
      refine r_get (pc := 16) (k := 7) (ci := 0) C dX0_numberOf_16 (g1 hx.1) (show vwC[0]? = some (RX0, TX0, 10) from rfl) in_X0 (by decide) (C.t _ q283) (fun _ h => h) rfl ?_
      refine r_iload (pc := 19) C dX0_numberOf_19 rfl ?_
      refine r_invV (pc := 21) (ci := 8) 1 C dX0_numberOf_21 (jl_get (i : Int) hLs ⟨by omega, by omega⟩) (gLs hLs) (show vwC[8]? = some (RJ6, TJ6, 3) from rfl) rfl (lw_V q670 q671 q672 q89 q673) (by decide +kernel) rfl rfl ⟨Nat.le_of_ble_eq_true rfl, Nat.le_of_ble_eq_true rfl⟩ (Nat.le_of_ble_eq_true rfl) ⟨Nat.le_of_ble_eq_true rfl, Nat.le_of_ble_eq_true rfl⟩ (rd_k ?_)
      rw [show ((i : Int)).toNat = i from rfl]
      refine r_castO (pc := 24) (ci := 5) C dX0_numberOf_24 (g2 (hF.2.1 i (by omega))) (show vwC[5]? = some (RX6, TX6, 7) from rfl) q810 ?_
      refine r_iload_n (pc := 27) C dX0_numberOf_27 rfl rfl ?_
      refine r_iload_n (pc := 28) C dX0_numberOf_28 rfl rfl ?_
      refine r_iload_n (pc := 29) C dX0_numberOf_29 rfl rfl ?_
      refine r_invV (pc := 30) (ci := 5) 3 C dX0_numberOf_30 (xm_isAs p q r (hF.2.1 i (by omega)) (hb _ (fat_mem (by omega))).i hi) (g2 (hF.2.1 i (by omega))) (show vwC[5]? = some (RX6, TX6, 7) from rfl) rfl (lw_V q1011 q1012 q1013 q101 q1014) (by decide +kernel) rfl rfl ⟨Nat.le_of_ble_eq_true rfl, Nat.le_of_ble_eq_true rfl⟩ (Nat.le_of_ble_eq_true rfl) ⟨Nat.le_of_ble_eq_true rfl, Nat.le_of_ble_eq_true rfl⟩ (rd_k ?_)
      refine r_if_eqB (pc := 33) (tgt := 39) C dX0_numberOf_33 (by decide)  (fun h33 => ?_) (fun h33 => ?_)
      · refine r_iincZ (pc := 39) C dX0_numberOf_39 rfl (by decide) ?_
        refine r_goto (pc := 42) (tgt := 3) C dX0_numberOf_42 (by decide) ?_
        exact ih (by omega) (fun j hj2 => by by_cases e : j = i; rw [e]; exact h33; exact hj j (by omega))
      · refine r_iload (pc := 36) C dX0_numberOf_36 rfl ?_
        exact r_iret (pc := 38) C hQ dX0_numberOf_38 (Nat.le_of_ble_eq_true rfl) (Nat.le_of_ble_eq_true rfl) (fun G hG => ⟨(by rw [nof_at (by omega) hj h33]), hG⟩)
  refine r_iconstZ (pc := 0) C dX0_numberOf_0 ?_
  refine r_istore (pc := 1) C dX0_numberOf_1 (by decide) ?_
  exact loop 0 (Nat.zero_le _) (fun j hj => absurd hj (Nat.not_lt_zero _))
set_option maxHeartbeats 800000 in
theorem xc_init {la : Launch} {X : XE} {G0 : Gh} {xh a mf : Nat} {A : Nat → Nat} {rdn rv dr : Int} {fls : List Nat} {l : List Fm} {cy bk mr : Nat → Int} (k0 : Nat) (c : Int) (ha : G0 a = some (12, .inl (6, [.int (iI 0), .null, .null]))) (hx : XOB G0 xh A rdn rv dr) (hLs : LST X G0 (A 7) 5 fls mf) (hF : FLS G0 fls l cy (fun j => (nxt l j : Int)) bk mr) (hb : ∀ f ∈ l, FB f) (hn : l.length ≤ 1098) (hp : isPerm (nxt l) l.length) (hk0 : k0 < l.length) : MG la X yX7_init cX7_init 6 none (rmk 7 (2 + per (nxt l) l.length k0) (40 + 4 * per (nxt l) l.length k0) 171) [.ref a, .ref xh, .int (iI (k0 : Int)), .int (iI c)] (fun G => G = G0) (fun v G => v = none ∧ ∃ s m, G0 s = none ∧ G a = some (12, .inl (6, [.int (iI (k0 : Int)), .ref s, .ref xh])) ∧ SB G s 9 (txt (wpre l k0 (per (nxt l) l.length k0))) m ∧ FLS G fls l (cyI l k0 c cy (per (nxt l) l.length k0)) (fun j => (nxt l j : Int)) bk mr ∧ FR [6, 9, 12] G0 G) := by
  refine MG.of (by decide +kernel) (Nat.le_of_ble_eq_true rfl) ?_
  intro Z C hX hL hQ
  subst hX; subst hL
  change WW Z 6 (fun G => G = G0) 0 0 0 [some (.ref a), some (.ref xh), some (.int (iI (k0 : Int))), some (.int (iI c)), none, none] []
  obtain ⟨p1, p2, p3, p4⟩ := per_spec hp hk0
  have hfl := hF.1
  have loop : ∀ (s d i m : Nat) (v5 : Option Value), G0 s = none → per (nxt l) l.length k0 - i ≤ d → i < per (nxt l) l.length k0 → (m = 16 ∨ m ≤ 2 * i + 2) → WW Z 6 (fun G => G a = some (12, .inl (6, [.int (iI (k0 : Int)), .ref s, .ref xh])) ∧ SB G s 9 (txt (wpre l k0 i)) m ∧ FLS G fls l (cyI l k0 c cy i) (fun j => (nxt l j : Int)) bk mr ∧ FR [6, 9, 12] G0 G) (2 + i) (4 + 2 * m) 28 [some (.ref a), some (.ref xh), some (.int (iI (k0 : Int))), some (.int (iI c)), some (.int (iI (it (nxt l) i k0 : Nat))), v5] [] := by
    intro s d
    induction d with
    | zero => intro i m v5 h0 h1 h2; omega
    | succ d ih =>
      intro i m v5 h0 h1 h2 h3
      refine ww_all (fun G1 hG1 => ?_)
      obtain ⟨a1, q1, F1, f1⟩ := hG1
      have hk := it_lt hp hk0 i
      have hk1 := it_lt hp hk0 (i + 1)
      have hx1 := hx.fr f1 (by decide) (by decide)
      have L1 := hLs.fr f1 (by decide) (by decide)
      have fb := (hb _ (fat_mem hk))
      refine r_aload_n (pc := 28) C dX7_init_28 rfl rfl ?_
      refine r_getN (pc := 29) (k := 7) (ci := 0) C dX7_init_29 (g1 hx1.1) (show vwC[0]? = some (RX0, TX0, 10) from rfl) in_X0 (by decide) (C.nf (h1 := "RiverWords") (by decide +kernel)) (fun _ h => h) rfl ?_
      refine r_iload (pc := 32) C dX7_init_32 rfl ?_
      refine r_invV (pc := 34) (ci := 8) 1 C dX7_init_34 (jl_get (it (nxt l) i k0 : Nat) L1 ⟨by omega, by omega⟩) (gLs L1) (show vwC[8]? = some (RJ6, TJ6, 3) from rfl) rfl (lw_V q1023 q671 q672 q89 q673) (by decide +kernel) rfl rfl ⟨Nat.le_of_ble_eq_true rfl, Nat.le_of_ble_eq_true rfl⟩ (Nat.le_of_ble_eq_true rfl) ⟨(by first | exact Nat.le_of_ble_eq_true rfl | (dsimp only [rmk]; omega) | omega), (by first | exact Nat.le_of_ble_eq_true rfl | (dsimp only [rmk]; omega) | omega)⟩ (rd_k ?_)
      rw [show (((it (nxt l) i k0 : Nat) : Int)).toNat = it (nxt l) i k0 from rfl]
      refine r_castO (pc := 37) (ci := 5) C dX7_init_37 (g2 (F1.2.1 _ hk)) (show vwC[5]? = some (RX6, TX6, 7) from rfl) q1024 ?_
      refine r_astore (pc := 40) C dX7_init_40 (by decide) ?_
      refine r_aload (pc := 42) C dX7_init_42 rfl ?_
      refine r_iload_n (pc := 44) C dX7_init_44 rfl rfl ?_
      refine r_putN (pc := 45) (k := 3) (ci := 5) (ty := .int) C dX7_init_45 (Γ' := fun G => G = gup G1 (fls.getD (it (nxt l) i k0) 0) (6, .inl (5, [.int (iI (fat l (it (nxt l) i k0)).1), .int (iI (fat l (it (nxt l) i k0)).2.1), .int (iI (fat l (it (nxt l) i k0)).2.2), .int (iI c), .int (iI (nxt l (it (nxt l) i k0) : Nat)), .int (iI (bk (it (nxt l) i k0))), .int (iI (mr (it (nxt l) i k0)))]))) (fun G hG => ⟨6, by decide, by rw [hG]; exact F1.2.1 _ hk, by rw [hG]; rfl⟩) (show vwC[5]? = some (RX6, TX6, 7) from rfl) in_X6 tyX6 tyX6_ok nmX6 (by decide) (C.nf (h1 := "RiverWords") (by decide +kernel)) (fun _ h => h) rfl (by decide +kernel) rfl rfl (Nat.le_of_ble_eq_true rfl) ?_
      have F2 := F1.set hk c (nxt l (it (nxt l) i k0) : Nat) (bk (it (nxt l) i k0)) (mr (it (nxt l) i k0))
      have g6 := FR.up (ts := [6]) (F1.2.1 _ hk) (by decide) 6 (e' := .inl (5, [.int (iI (fat l (it (nxt l) i k0)).1), .int (iI (fat l (it (nxt l) i k0)).2.1), .int (iI (fat l (it (nxt l) i k0)).2.2), .int (iI c), .int (iI (nxt l (it (nxt l) i k0) : Nat)), .int (iI (bk (it (nxt l) i k0))), .int (iI (mr (it (nxt l) i k0)))]))
      rw [updz_self (fun j => (nxt l j : Int)) _, updz_self bk, updz_self mr, ← cyI_s] at F2
      have a2 := g6 _ _ a1 (by simp)
      have q2 := q1.fr g6 (by decide)
      have f2 := f1.tr (g6.wk (us := [6, 9, 12]) (by decide))
      generalize gup G1 _ _ = G2 at F2 a2 q2 f2 g6 ⊢
      refine r_aload_n (pc := 48) C dX7_init_48 rfl rfl ?_
      refine r_get (pc := 49) (k := 1) (ci := 6) C dX7_init_49 (g1 a2) (show vwC[6]? = some (RX7, TX7, 3) from rfl) in_X7 (by decide) (C.t _ q1029) (fun _ h => h) rfl ?_
      refine r_aload (pc := 52) C dX7_init_52 rfl ?_
      refine r_invV (pc := 54) (ci := 5) 0 C dX7_init_54 (xm_letter (F2.2.1 _ hk) (by obtain ⟨b1, b2', b3⟩ := fb; unfold i32; omega)) (g2 (F2.2.1 _ hk)) (show vwC[5]? = some (RX6, TX6, 7) from rfl) rfl (lw_V q1025 q1004 q1005 q101 q1006) (by decide +kernel) rfl rfl ⟨Nat.le_of_ble_eq_true rfl, Nat.le_of_ble_eq_true rfl⟩ (Nat.le_of_ble_eq_true rfl) ⟨(by first | exact Nat.le_of_ble_eq_true rfl | (dsimp only [rmk]; omega) | omega), (by first | exact Nat.le_of_ble_eq_true rfl | (dsimp only [rmk]; omega) | omega)⟩ (rd_k ?_)
      refine r_appA (pc := 57) (c0 := 4) (!fLeft (fat l (it (nxt l) i k0))) q2 (by decide) (by omega) ⟨Nat.le_of_ble_eq_true rfl, Nat.le_of_ble_eq_true rfl⟩ (Nat.le_of_ble_eq_true rfl) ⟨by dsimp only [rmk]; omega, by dsimp only [rmk]; omega, fun he => by rw [wpre_len] at he; dsimp only [rmk]; omega⟩ C dX7_init_57 rfl (lw_V q1026 q324 q325 q91 q326) (fun G57 m57 k57a k57b k57c => ?_)
      rw [← wpre_s] at k57a
      rw [wpre_len] at k57b
      refine r_pop (pc := 60) C dX7_init_60 rfl ?_
      refine r_aload (pc := 61) C dX7_init_61 rfl ?_
      refine r_getN (pc := 63) (k := 4) (ci := 5) C dX7_init_63 (g1 (k57c _ _ (F2.2.1 _ hk) (by simp))) (show vwC[5]? = some (RX6, TX6, 7) from rfl) in_X6 (by decide) (C.nf (h1 := "RiverWords") (by decide +kernel)) (fun _ h => h) rfl ?_
      rw [show (fun j => ((nxt l j : Nat) : Int)) (it (nxt l) i k0) = ((it (nxt l) (i + 1) k0 : Nat) : Int) from rfl]
      refine r_istore (pc := 66) C dX7_init_66 (by decide) ?_
      refine r_iload (pc := 68) C dX7_init_68 rfl ?_
      refine r_iload_n (pc := 70) C dX7_init_70 rfl rfl ?_
      refine r_icmp_neZ (pc := 71) (tgt := 28) C dX7_init_71 (by decide) (by unfold i32; omega) (by unfold i32; omega) (fun h71 => ?_) (fun h71 => ?_)
      · have hne : i + 1 < per (nxt l) l.length k0 := (by rcases Nat.lt_or_ge (i + 1) (per (nxt l) l.length k0) with q | q; exact q; exact absurd (by rw [show i + 1 = per (nxt l) l.length k0 by omega, p3]) h71)
        exact ww_to (fun G hG => by rw [hG]; exact ⟨k57c _ _ a2 (by simp), k57a, F2.fr k57c (by decide), f2.tr (k57c.wk (by decide))⟩) (ih (i + 1) m57 _ h0 (by omega) hne (by omega))
      · have hpe : i + 1 = per (nxt l) l.length k0 := (by rcases Nat.lt_or_ge (i + 1) (per (nxt l) l.length k0) with q | q; exact absurd (by omega) (p4 (i + 1) (by omega) q); omega)
        exact r_vret (pc := 74) C hQ dX7_init_74 (by dsimp only [rmk]; omega) (by dsimp only [rmk]; omega) (fun G hG => (by cases hG; rw [hpe] at F2 k57a; exact ⟨rfl, s, m57, h0, k57c _ _ a2 (by simp), k57a, F2.fr k57c (by decide), f2.tr (k57c.wk (by decide))⟩))
  refine ww_to (Γ' := P1 a 12 6 [.int (iI 0), .null, .null] G0) (fun G hG => by rw [hG]; exact P1.rf ha) ?_
  refine r_aload_n (pc := 0) C dX7_init_0 rfl rfl ?_
  refine r_aload_n (pc := 1) C dX7_init_1 rfl rfl ?_
  refine r_putF (pc := 2) (k := 2) (ci := 6) (ty := .object "RiverWords") C dX7_init_2 (fun G hG => ⟨_, (by decide), hG.1, hG.put⟩) (show vwC[6]? = some (RX7, TX7, 3) from rfl) in_X7 tyX7 tyX7_ok nmX7 (by decide) (C.t _ q1031) (fun _ h => h) rfl rfl rfl (by decide +kernel) rfl rfl (Nat.le_of_ble_eq_true rfl) ?_
  refine r_aload_n (pc := 5) C dX7_init_5 rfl rfl ?_
  refine r_objInit (pc := 6) (own := "") C dX7_init_6 q1020 q109 q110 (Nat.le_of_ble_eq_true rfl) (Nat.le_of_ble_eq_true rfl) ?_
  refine r_aload_n (pc := 9) C dX7_init_9 rfl rfl ?_
  refine ww_all (fun G1 hG1 => ?_)
  have f1 : FR [12] G0 G1 := hG1.fr ha (by simp)
  refine r_newE (pc := 10) (ci := 9) (fs := [.null, .int (iI 0), .int (iI 0), .int (iI 0)]) 9 C dX7_init_10 (show vwC[9]? = some (RJ8, TJ8, 4) from rfl) in_J8 tyJ8 tyJ8_ok q1021 q245 q91 (by decide +kernel) (by first | exact Nat.le_of_ble_eq_true rfl | (dsimp only [rmk]; omega) | omega) (by first | exact Nat.le_of_ble_eq_true rfl | (dsimp only [rmk]; omega) | omega) (fun a10 n10 => ?_)
  refine r_dup (pc := 13) C dX7_init_13 rfl ?_
  refine r_invI (pc := 14) 0 C dX7_init_14 (jb_init16 (gup_eq _ _ _) (by decide)) rfl (lw_meth q900) q91 q1022 q899 rfl (by decide +kernel) rfl rfl ⟨Nat.le_of_ble_eq_true rfl, Nat.le_of_ble_eq_true rfl⟩ (Nat.le_of_ble_eq_true rfl) ⟨(by first | exact Nat.le_of_ble_eq_true rfl | (dsimp only [rmk]; omega) | omega), (by first | exact Nat.le_of_ble_eq_true rfl | (dsimp only [rmk]; omega) | omega)⟩ (fun v14 G14 h14 => ?_)
  obtain ⟨rfl, q1, q2⟩ := h14
  have f2 := (FR.new (ts := [9]) n10).tr q2
  have a2 := f2 _ _ hG1.1 (by simp)
  refine ww_to (Γ' := P1 a 12 6 [.int (iI 0), .null, .ref xh] G14) (fun G hG => by rw [hG]; exact P1.rf a2) ?_
  refine r_putF (pc := 17) (k := 1) (ci := 6) (ty := .object "java/lang/StringBuilder") C dX7_init_17 (fun G hG => ⟨_, (by decide), hG.1, hG.put⟩) (show vwC[6]? = some (RX7, TX7, 3) from rfl) in_X7 tyX7 tyX7_ok nmX7 (by decide) (C.t _ q1029) (fun _ h => h) rfl rfl rfl (by decide +kernel) rfl rfl (Nat.le_of_ble_eq_true rfl) ?_
  refine r_aload_n (pc := 20) C dX7_init_20 rfl rfl ?_
  refine r_iload_n (pc := 21) C dX7_init_21 rfl rfl ?_
  refine r_putF (pc := 22) (k := 0) (ci := 6) (ty := .int) C dX7_init_22 (fun G hG => ⟨_, (by decide), hG.1, hG.put⟩) (show vwC[6]? = some (RX7, TX7, 3) from rfl) in_X7 tyX7 tyX7_ok nmX7 (by decide) (C.t _ q1027) (fun _ h => h) rfl rfl rfl (by decide +kernel) rfl rfl (Nat.le_of_ble_eq_true rfl) ?_
  refine r_iload_n (pc := 25) C dX7_init_25 rfl rfl ?_
  refine r_istore (pc := 26) C dX7_init_26 (by decide) ?_
  have f3 : FR [9, 12] G0 G14 := (f1.wk (by decide)).tr (f2.wk (by decide))
  refine ww_wide (n' := 2 + 0) (s' := 4 + 2 * 16) (by dsimp only [rmk]; omega) (by dsimp only [rmk]; omega) ?_
  refine ww_to (fun G hG => ?_) (loop a10 (per (nxt l) l.length k0) 0 16 none (hG1.none n10).1 (by omega) (by omega) (Or.inl rfl))
  have f4 : FR [12] G14 G := hG.fr a2 (by simp)
  exact ⟨hG.1, q1.fr f4 (by decide), by rw [cyI_0]; exact (hF.fr f3 (by decide)).fr f4 (by decide), (f3.wk (by decide)).tr (f4.wk (by decide))⟩

