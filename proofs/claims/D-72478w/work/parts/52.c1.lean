/-! the component: words that are read, numbers, tables, forms -/
set_option maxRecDepth 100000
theorem xs_length {la : Launch} {X : XE} {G0 : Gh} {s : Nat} {w : List Bool} (h : STR G0 s (txt w)) : MG la X yJ0_length cJ0_length 1 (some .int) (rmk 1 0 0 20) [.ref s] (fun G => G = G0) (fun zv G => zv = some (.int (iI (w.length : Nat))) ∧ G = G0) := by
  have := js_length (la := la) (X := X) h
  rw [txt_len] at this
  exact this
theorem xs_at {la : Launch} {X : XE} {G0 : Gh} {s : Nat} {w : List Bool} (k : Int) (h : STR G0 s (txt w)) (hk : 0 ≤ k ∧ k < w.length) : MG la X yJ0_charAt cJ0_charAt 2 (some .char) (rmk 3 0 0 64) [.ref s, .int (iI k)] (fun G => G = G0) (fun zv G => zv = some (.int (iI (codeB (wl w k.toNat)))) ∧ G = G0) := by
  have := js_charAt (la := la) (X := X) k h (by rw [txt_len]; exact hk)
  rw [txt_at w (show k.toNat < w.length by omega)] at this
  exact this
theorem xs_atc {la : Launch} {X : XE} {G0 : Gh} {s : Nat} {w : List Bool} (a k : Nat) (h : STR G0 s (txt w)) (h0 : 0 < w.length) : MG la X yJ0_charAt cJ0_charAt 2 (some .char) (rmk 3 0 0 64) [.ref s, .int (iI (((a : Int) + (k : Int)) % (w.length : Nat)))] (fun G => G = G0) (fun zv G => zv = some (.int (iI (codeB (wc w (a + k))))) ∧ G = G0) := by
  have e : ((a : Int) + (k : Int)) % ((w.length : Nat) : Int) = (((a + k) % w.length : Nat) : Int) := by push_cast; rfl
  rw [e]
  exact xs_at _ h ⟨by omega, by have := Nat.mod_lt (a + k) h0; omega⟩
theorem xb_length {la : Launch} {X : XE} {G0 : Gh} {s t m : Nat} {w : List Bool} (h : SB G0 s t (txt w) m) : MG la X yJ8_length cJ8_length 1 (some .int) (rmk 1 0 0 20) [.ref s] (fun G => G = G0) (fun zv G => zv = some (.int (iI (w.length : Nat))) ∧ G = G0) := by
  have := jb_length (la := la) (X := X) h
  rw [txt_len] at this
  exact this
theorem xb_at {la : Launch} {X : XE} {G0 : Gh} {s t m : Nat} {w : List Bool} (k : Int) (h : SB G0 s t (txt w) m) (hk : 0 ≤ k ∧ k < w.length) : MG la X yJ8_charAt cJ8_charAt 2 (some .char) (rmk 3 0 0 67) [.ref s, .int (iI k)] (fun G => G = G0) (fun zv G => zv = some (.int (iI (codeB (wl w k.toNat)))) ∧ G = G0) := by
  have := jb_charAt (la := la) (X := X) k h (by rw [txt_len]; exact hk)
  rw [txt_at w (show k.toNat < w.length by omega)] at this
  exact this
theorem xb_app {la : Launch} {X : XE} {G0 : Gh} {a t m : Nat} {u : List Bool} (b : Bool) (h : SB G0 a t (txt u) m) (ht : t ≠ 0) (hlt : u.length < m) : MG la X yJ8_append cJ8_append 2 (some (.object "java/lang/StringBuilder")) (rmk 2 0 0 43) [.ref a, .int (iI (codeB b))] (fun G => G = G0) (fun v G => v = some (.ref a) ∧ SB G a t (txt (u ++ [b])) m ∧ FR [t] G0 G) := by
  rw [codeB_N, txt_push]
  exact jb_app (cN b) h ht (by rw [txt_len]; exact hlt) (by cases b <;> decide)
theorem xb_appg {la : Launch} {X : XE} {G0 : Gh} {a t m : Nat} {u : List Bool} (b : Bool) (h : SB G0 a t (txt u) m) (ht : t ≠ 0) (hlt : u.length = m) (hm : m ≤ 20000) : MG la X yJ8_append cJ8_append 2 (some (.object "java/lang/StringBuilder")) (rmk 5 1 (2*m+2) 112) [.ref a, .int (iI (codeB b))] (fun G => G = G0) (fun v G => v = some (.ref a) ∧ SB G a t (txt (u ++ [b])) (2 * m + 2) ∧ FR [t] G0 G) := by
  rw [codeB_N, txt_push]
  exact jb_appg (cN b) h ht (by rw [txt_len]; exact hlt) hm (by cases b <;> decide)
theorem xb_toString {la : Launch} {X : XE} {G0 : Gh} {s t m : Nat} {w : List Bool} (h : SB G0 s t (txt w) m) (ht : t ≠ 0) : MG la X yJ8_toString cJ8_toString 1 (some (.object "java/lang/String")) (rmk 5 2 (4+w.length) 131) [.ref s] (fun G => G = G0) (fun v G => ∃ a, v = some (.ref a) ∧ STR G a (txt w) ∧ FR [] G0 G) := by
  have := jb_toString (la := la) (X := X) h ht
  rw [txt_len] at this
  exact this
theorem xs_repeat {la : Launch} {X : XE} {G0 : Gh} {a : Nat} {w : List Bool} (n : Nat) (h : STR G0 a (txt w)) (hn : 2 ≤ n ∧ n ≤ 5) (hw : 0 < w.length ∧ w.length ≤ 20) : MG la X yJ0_repeat cJ0_repeat 5 (some (.object "java/lang/String")) (rmk 2 2 104 63) [.ref a, .int (iI (n : Int))] (fun G => G = G0) (fun v G => ∃ x, v = some (.ref x) ∧ STR G x (txt (repW w n)) ∧ FR [] G0 G) := by
  rw [txt_repW]
  exact ms_repeat n h hn (by rw [txt_len]; exact hw)
set_option maxHeartbeats 800000 in
theorem xf_in (v a b : Int) (hv : i32 v) (ha : i32 a) (hb : i32 b) : PF yX0_in cX0_in 3 (some .boolean) 0 0 [.int (iI v), .int (iI a), .int (iI b)] (some (.int (iI (b2 (a ≤ v ∧ v ≤ b))))) := by
  intro l X Γ
  refine MG.of (by decide +kernel) (Nat.le_of_ble_eq_true rfl) ?_
  intro Z C hX hL hQ
  subst hX; subst hL
  change WW Z 3 Γ 0 0 0 [some (.int (iI v)), some (.int (iI a)), some (.int (iI b))] []
  refine r_iload_n (pc := 0) C dX0_in_0 rfl rfl ?_
  refine r_iload_n (pc := 1) C dX0_in_1 rfl rfl ?_
  refine r_icmp_ltZ (pc := 2) (tgt := 14) C dX0_in_2 (by decide) hv ha (fun h2 => ?_) (fun h2 => ?_)
  · refine r_iconstZ (pc := 14) C dX0_in_14 ?_
    exact r_zret (pc := 15) C hQ dX0_in_15 (by first | exact b2_nar _ | decide) (Nat.le_of_ble_eq_true rfl) (Nat.le_of_ble_eq_true rfl) (fun G hG => ⟨hG, (by first | rw [b2_t (by omega)] | rw [b2_f (by omega)])⟩)
  · refine r_iload_n (pc := 5) C dX0_in_5 rfl rfl ?_
    refine r_iload_n (pc := 6) C dX0_in_6 rfl rfl ?_
    refine r_icmp_gtZ (pc := 7) (tgt := 14) C dX0_in_7 (by decide) hv hb (fun h7 => ?_) (fun h7 => ?_)
    · refine r_iconstZ (pc := 14) C dX0_in_14 ?_
      exact r_zret (pc := 15) C hQ dX0_in_15 (by first | exact b2_nar _ | decide) (Nat.le_of_ble_eq_true rfl) (Nat.le_of_ble_eq_true rfl) (fun G hG => ⟨hG, (by first | rw [b2_t (by omega)] | rw [b2_f (by omega)])⟩)
    · refine r_iconstZ (pc := 10) C dX0_in_10 ?_
      refine r_goto (pc := 11) (tgt := 15) C dX0_in_11 (by decide) ?_
      exact r_zret (pc := 15) C hQ dX0_in_15 (by first | exact b2_nar _ | decide) (Nat.le_of_ble_eq_true rfl) (Nat.le_of_ble_eq_true rfl) (fun G hG => ⟨hG, (by first | rw [b2_t (by omega)] | rw [b2_f (by omega)])⟩)
set_option maxHeartbeats 800000 in
theorem xf_truth (p : Prop) [Decidable p] : PF yX0_truth cX0_truth 1 (some .int) 0 0 [.int (iI (b2 p))] (some (.int (iI (b2 p)))) := by
  intro l X Γ
  refine MG.of (by decide +kernel) (Nat.le_of_ble_eq_true rfl) ?_
  intro Z C hX hL hQ
  subst hX; subst hL
  change WW Z 1 Γ 0 0 0 [some (.int (iI (b2 p)))] []
  refine r_iload_n (pc := 0) C dX0_truth_0 rfl rfl ?_
  refine r_if_eqB (pc := 1) (tgt := 8) C dX0_truth_1 (by decide)  (fun h1 => ?_) (fun h1 => ?_)
  · refine r_iconstZ (pc := 8) C dX0_truth_8 ?_
    exact r_iret (pc := 9) C hQ dX0_truth_9 (Nat.le_of_ble_eq_true rfl) (Nat.le_of_ble_eq_true rfl) (fun G hG => ⟨hG, (by first | rw [b2_t h1] | rw [b2_f h1])⟩)
  · refine r_iconstZ (pc := 4) C dX0_truth_4 ?_
    refine r_goto (pc := 5) (tgt := 9) C dX0_truth_5 (by decide) ?_
    exact r_iret (pc := 9) C hQ dX0_truth_9 (Nat.le_of_ble_eq_true rfl) (Nat.le_of_ble_eq_true rfl) (fun G hG => ⟨hG, (by first | rw [b2_t h1] | rw [b2_f h1])⟩)
set_option maxHeartbeats 800000 in
theorem xf_common (a b : Int) (ha : i32 a ∧ a ≠ -2147483648) (hb : i32 b ∧ b ≠ -2147483648) : PF yX0_common cX0_common 5 (some .int) 1 20 [.int (iI a), .int (iI b)] (some (.int (iI (igcd a b)))) := by
  intro l X Γ
  refine MG.of (by decide +kernel) (Nat.le_of_ble_eq_true rfl) ?_
  intro Z C hX hL hQ
  subst hX; subst hL
  change WW Z 5 Γ 0 0 0 [some (.int (iI a)), some (.int (iI b)), none, none, none] []
  have loop : ∀ (m : Nat) (p q : Int) (v4 : Option Value), 0 ≤ p → i32 p → 0 ≤ q → i32 q → q.toNat ≤ m → igcd p q = igcd a b → WW Z 5 Γ 0 0 10 [some (.int (iI a)), some (.int (iI b)), some (.int (iI p)), some (.int (iI q)), v4] [] := by
    intro m
    induction m with
    | zero =>
      intro p q v4 hp0 hp hq0 hq hm he
      have e0 : q = 0 := by omega
      subst e0
      refine r_iload_n (pc := 10) C dX0_common_10 rfl rfl ?_
      refine r_if_eqZ (pc := 11) (tgt := 27) C dX0_common_11 (by decide) i32_0 (fun h11 => ?_) (fun h11 => absurd h11 (by omega))
      refine r_iload_n (pc := 27) C dX0_common_27 rfl rfl ?_
      exact r_iret (pc := 28) C hQ dX0_common_28 (Nat.le_of_ble_eq_true rfl) (Nat.le_of_ble_eq_true rfl) (fun G hG => ⟨hG, (by rw [← he]; unfold igcd; rw [Int.gcd_zero_right]; congr 3; omega)⟩)
    | succ m ih =>
      intro p q v4 hp0 hp hq0 hq hm he
      refine r_iload_n (pc := 10) C dX0_common_10 rfl rfl ?_
      refine r_if_eqZ (pc := 11) (tgt := 27) C dX0_common_11 (by decide) hq (fun h11 => ?_) (fun h11 => ?_)
      · refine r_iload_n (pc := 27) C dX0_common_27 rfl rfl ?_
        exact r_iret (pc := 28) C hQ dX0_common_28 (Nat.le_of_ble_eq_true rfl) (Nat.le_of_ble_eq_true rfl) (fun G hG => ⟨hG, (by rw [← he, h11]; unfold igcd; rw [Int.gcd_zero_right]; congr 3; omega)⟩)
      · refine r_iload_n (pc := 14) C dX0_common_14 rfl rfl ?_
        refine r_iload_n (pc := 15) C dX0_common_15 rfl rfl ?_
        refine r_iremE (pc := 16) C dX0_common_16 hp hq hp0 (by omega) ?_
        refine r_istore (pc := 17) C dX0_common_17 (by decide) ?_
        refine r_iload_n (pc := 19) C dX0_common_19 rfl rfl ?_
        refine r_istore_n (pc := 20) C dX0_common_20 rfl (by decide) ?_
        refine r_iload (pc := 21) C dX0_common_21 rfl ?_
        refine r_istore_n (pc := 23) C dX0_common_23 rfl (by decide) ?_
        refine r_goto (pc := 24) (tgt := 10) C dX0_common_24 (by decide) ?_
        have hr0 := Int.emod_nonneg p h11
        have hr1 := Int.emod_lt_of_pos p (show 0 < q by omega)
        exact ih q (p % q) _ hq0 hq hr0 (by unfold i32 at *; omega) (by omega) ((igcd_step hp0 (by omega)).trans he)
  refine r_iload_n (pc := 0) C dX0_common_0 rfl rfl ?_
  refine r_invP (pc := 1) 1 C dX0_common_1 (pf_mabs _ ha.1) rfl (lw_S q807 q808 q93 q809) (by decide +kernel) rfl rfl ⟨Nat.le_of_ble_eq_true rfl, Nat.le_of_ble_eq_true rfl⟩ (Nat.le_of_ble_eq_true rfl) ⟨Nat.le_of_ble_eq_true rfl, Nat.le_of_ble_eq_true rfl⟩ ?_
  refine r_istore_n (pc := 4) C dX0_common_4 rfl (by decide) ?_
  refine r_iload_n (pc := 5) C dX0_common_5 rfl rfl ?_
  refine r_invP (pc := 6) 1 C dX0_common_6 (pf_mabs _ hb.1) rfl (lw_S q807 q808 q93 q809) (by decide +kernel) rfl rfl ⟨Nat.le_of_ble_eq_true rfl, Nat.le_of_ble_eq_true rfl⟩ (Nat.le_of_ble_eq_true rfl) ⟨Nat.le_of_ble_eq_true rfl, Nat.le_of_ble_eq_true rfl⟩ ?_
  refine r_istore_n (pc := 9) C dX0_common_9 rfl (by decide) ?_
  exact loop (iabs b).toNat (iabs a) (iabs b) none (by unfold i32 at ha; unfold iabs; split <;> omega) (by unfold i32 at ha; unfold iabs i32; split <;> omega) (by unfold i32 at hb; unfold iabs; split <;> omega) (by unfold i32 at hb; unfold iabs i32; split <;> omega) (Nat.le_refl _) (by unfold igcd iabs; split <;> split <;> simp)
set_option maxHeartbeats 800000 in
theorem xt_init {la : Launch} {X : XE} {G0 : Gh} {a t : Nat} (p q r s : Int) (h : G0 a = some (t, .inl (1, [.int (iI 0), .int (iI 0), .int (iI 0), .int (iI 0)]))) (ht : t ≠ 0) : MG la X yX1_init cX1_init 5 none (rmk 1 0 0 20) [.ref a, .int (iI p), .int (iI q), .int (iI r), .int (iI s)] (fun G => G = G0) (fun v G => v = none ∧ P1 a t 1 [.int (iI p), .int (iI q), .int (iI r), .int (iI s)] G0 G) := by
  refine MG.of (by decide +kernel) (Nat.le_of_ble_eq_true rfl) ?_
  intro Z C hX hL hQ
  subst hX; subst hL
  change WW Z 5 (fun G => G = G0) 0 0 0 [some (.ref a), some (.int (iI p)), some (.int (iI q)), some (.int (iI r)), some (.int (iI s))] []
  refine r_aload_n (pc := 0) C dX1_init_0 rfl rfl ?_
  refine r_objInit (pc := 1) (own := "") C dX1_init_1 q197 q109 q110 (Nat.le_of_ble_eq_true rfl) (Nat.le_of_ble_eq_true rfl) ?_
  refine ww_to (Γ' := P1 a t 1 [.int (iI 0), .int (iI 0), .int (iI 0), .int (iI 0)] G0) (fun G hG => by rw [hG]; exact P1.rf h) ?_
  refine r_aload_n (pc := 4) C dX1_init_4 rfl rfl ?_
  refine r_iload_n (pc := 5) C dX1_init_5 rfl rfl ?_
  refine r_putF (pc := 6) (k := 0) (ci := 1) (ty := .int) C dX1_init_6 (fun G hG => ⟨_, ht, hG.1, hG.put⟩) (show vwC[1]? = some (RX1, TX1, 4) from rfl) in_X1 tyX1 tyX1_ok nmX1 (by decide) (C.t _ q198) (fun _ h => h) rfl rfl rfl (by decide +kernel) rfl rfl (Nat.le_of_ble_eq_true rfl) ?_
  refine r_aload_n (pc := 9) C dX1_init_9 rfl rfl ?_
  refine r_iload_n (pc := 10) C dX1_init_10 rfl rfl ?_
  refine r_putF (pc := 11) (k := 1) (ci := 1) (ty := .int) C dX1_init_11 (fun G hG => ⟨_, ht, hG.1, hG.put⟩) (show vwC[1]? = some (RX1, TX1, 4) from rfl) in_X1 tyX1 tyX1_ok nmX1 (by decide) (C.t _ q200) (fun _ h => h) rfl rfl rfl (by decide +kernel) rfl rfl (Nat.le_of_ble_eq_true rfl) ?_
  refine r_aload_n (pc := 14) C dX1_init_14 rfl rfl ?_
  refine r_iload_n (pc := 15) C dX1_init_15 rfl rfl ?_
  refine r_putF (pc := 16) (k := 2) (ci := 1) (ty := .int) C dX1_init_16 (fun G hG => ⟨_, ht, hG.1, hG.put⟩) (show vwC[1]? = some (RX1, TX1, 4) from rfl) in_X1 tyX1 tyX1_ok nmX1 (by decide) (C.t _ q202) (fun _ h => h) rfl rfl rfl (by decide +kernel) rfl rfl (Nat.le_of_ble_eq_true rfl) ?_
  refine r_aload_n (pc := 19) C dX1_init_19 rfl rfl ?_
  refine r_iload (pc := 20) C dX1_init_20 rfl ?_
  refine r_putF (pc := 22) (k := 3) (ci := 1) (ty := .int) C dX1_init_22 (fun G hG => ⟨_, ht, hG.1, hG.put⟩) (show vwC[1]? = some (RX1, TX1, 4) from rfl) in_X1 tyX1 tyX1_ok nmX1 (by decide) (C.t _ q204) (fun _ h => h) rfl rfl rfl (by decide +kernel) rfl rfl (Nat.le_of_ble_eq_true rfl) ?_
  exact r_vret (pc := 25) C hQ dX1_init_25 (by first | exact Nat.le_of_ble_eq_true rfl | (dsimp only [rmk]; omega) | omega) (by first | exact Nat.le_of_ble_eq_true rfl | (dsimp only [rmk]; omega) | omega) (fun G hG => ⟨rfl, hG⟩)
set_option maxHeartbeats 800000 in
theorem xt_times {la : Launch} {X : XE} {G0 : Gh} {a b : Nat} {q : Int × Int × Int × Int} (x : Bool) (h : TAB G0 a q) (hb : TAB G0 b (if x then (1, 1, 0, 1) else (1, 0, 1, 1))) : MG la X yX1_times cX1_times 2 (some (.object "RiverWords$Table")) (rmk 2 1 4 44) [.ref a, .ref b] (fun G => G = G0) (fun v G => ∃ e, v = some (.ref e) ∧ TAB G e (tMul q x) ∧ FR [] G0 G) := by
  refine MG.of (by decide +kernel) (Nat.le_of_ble_eq_true rfl) ?_
  intro Z C hX hL hQ
  subst hX; subst hL
  change WW Z 2 (fun G => G = G0) 0 0 0 [some (.ref a), some (.ref b)] []
  have ha0 : ∀ z : Nat, G0 z = none → ∀ e, gup G0 z e a = _ := fun z hz e => up0 hz h
  have hb0 : ∀ z : Nat, G0 z = none → ∀ e, gup G0 z e b = _ := fun z hz e => up0 hz hb
  refine r_newE (pc := 0) (ci := 1) (fs := [.int (iI 0), .int (iI 0), .int (iI 0), .int (iI 0)]) 9 C dX1_times_0 (show vwC[1]? = some (RX1, TX1, 4) from rfl) in_X1 tyX1 tyX1_ok q192 q193 q82 (by decide +kernel) (by first | exact Nat.le_of_ble_eq_true rfl | (dsimp only [rmk]; omega) | omega) (by first | exact Nat.le_of_ble_eq_true rfl | (dsimp only [rmk]; omega) | omega) (fun a0 n0 => ?_)
  refine r_dup (pc := 3) C dX1_times_3 rfl ?_
  refine r_aload_n (pc := 4) C dX1_times_4 rfl rfl ?_
  refine r_get (pc := 5) (k := 0) (ci := 1) C dX1_times_5 (g1 (ha0 _ n0 _)) (show vwC[1]? = some (RX1, TX1, 4) from rfl) in_X1 (by decide) (C.t _ q198) (fun _ h => h) rfl ?_
  refine r_aload_n (pc := 8) C dX1_times_8 rfl rfl ?_
  refine r_get (pc := 9) (k := 0) (ci := 1) C dX1_times_9 (g1 (hb0 _ n0 _)) (show vwC[1]? = some (RX1, TX1, 4) from rfl) in_X1 (by decide) (C.t _ q198) (fun _ h => h) rfl ?_
  refine r_imulZ (pc := 12) C dX1_times_12 ?_
  refine r_aload_n (pc := 13) C dX1_times_13 rfl rfl ?_
  refine r_get (pc := 14) (k := 1) (ci := 1) C dX1_times_14 (g1 (ha0 _ n0 _)) (show vwC[1]? = some (RX1, TX1, 4) from rfl) in_X1 (by decide) (C.t _ q200) (fun _ h => h) rfl ?_
  refine r_aload_n (pc := 17) C dX1_times_17 rfl rfl ?_
  refine r_get (pc := 18) (k := 2) (ci := 1) C dX1_times_18 (g1 (hb0 _ n0 _)) (show vwC[1]? = some (RX1, TX1, 4) from rfl) in_X1 (by decide) (C.t _ q202) (fun _ h => h) rfl ?_
  refine r_imulZ (pc := 21) C dX1_times_21 ?_
  refine r_iaddZ (pc := 22) C dX1_times_22 ?_
  refine r_aload_n (pc := 23) C dX1_times_23 rfl rfl ?_
  refine r_get (pc := 24) (k := 0) (ci := 1) C dX1_times_24 (g1 (ha0 _ n0 _)) (show vwC[1]? = some (RX1, TX1, 4) from rfl) in_X1 (by decide) (C.t _ q198) (fun _ h => h) rfl ?_
  refine r_aload_n (pc := 27) C dX1_times_27 rfl rfl ?_
  refine r_get (pc := 28) (k := 1) (ci := 1) C dX1_times_28 (g1 (hb0 _ n0 _)) (show vwC[1]? = some (RX1, TX1, 4) from rfl) in_X1 (by decide) (C.t _ q200) (fun _ h => h) rfl ?_
  refine r_imulZ (pc := 31) C dX1_times_31 ?_
  refine r_aload_n (pc := 32) C dX1_times_32 rfl rfl ?_
  refine r_get (pc := 33) (k := 1) (ci := 1) C dX1_times_33 (g1 (ha0 _ n0 _)) (show vwC[1]? = some (RX1, TX1, 4) from rfl) in_X1 (by decide) (C.t _ q200) (fun _ h => h) rfl ?_
  refine r_aload_n (pc := 36) C dX1_times_36 rfl rfl ?_
  refine r_get (pc := 37) (k := 3) (ci := 1) C dX1_times_37 (g1 (hb0 _ n0 _)) (show vwC[1]? = some (RX1, TX1, 4) from rfl) in_X1 (by decide) (C.t _ q204) (fun _ h => h) rfl ?_
  refine r_imulZ (pc := 40) C dX1_times_40 ?_
  refine r_iaddZ (pc := 41) C dX1_times_41 ?_
  refine r_aload_n (pc := 42) C dX1_times_42 rfl rfl ?_
  refine r_get (pc := 43) (k := 2) (ci := 1) C dX1_times_43 (g1 (ha0 _ n0 _)) (show vwC[1]? = some (RX1, TX1, 4) from rfl) in_X1 (by decide) (C.t _ q202) (fun _ h => h) rfl ?_
  refine r_aload_n (pc := 46) C dX1_times_46 rfl rfl ?_
  refine r_get (pc := 47) (k := 0) (ci := 1) C dX1_times_47 (g1 (hb0 _ n0 _)) (show vwC[1]? = some (RX1, TX1, 4) from rfl) in_X1 (by decide) (C.t _ q198) (fun _ h => h) rfl ?_
  refine r_imulZ (pc := 50) C dX1_times_50 ?_
  refine r_aload_n (pc := 51) C dX1_times_51 rfl rfl ?_
  refine r_get (pc := 52) (k := 3) (ci := 1) C dX1_times_52 (g1 (ha0 _ n0 _)) (show vwC[1]? = some (RX1, TX1, 4) from rfl) in_X1 (by decide) (C.t _ q204) (fun _ h => h) rfl ?_
  refine r_aload_n (pc := 55) C dX1_times_55 rfl rfl ?_
  refine r_get (pc := 56) (k := 2) (ci := 1) C dX1_times_56 (g1 (hb0 _ n0 _)) (show vwC[1]? = some (RX1, TX1, 4) from rfl) in_X1 (by decide) (C.t _ q202) (fun _ h => h) rfl ?_
  refine r_imulZ (pc := 59) C dX1_times_59 ?_
  refine r_iaddZ (pc := 60) C dX1_times_60 ?_
  refine r_aload_n (pc := 61) C dX1_times_61 rfl rfl ?_
  refine r_get (pc := 62) (k := 2) (ci := 1) C dX1_times_62 (g1 (ha0 _ n0 _)) (show vwC[1]? = some (RX1, TX1, 4) from rfl) in_X1 (by decide) (C.t _ q202) (fun _ h => h) rfl ?_
  refine r_aload_n (pc := 65) C dX1_times_65 rfl rfl ?_
  refine r_get (pc := 66) (k := 1) (ci := 1) C dX1_times_66 (g1 (hb0 _ n0 _)) (show vwC[1]? = some (RX1, TX1, 4) from rfl) in_X1 (by decide) (C.t _ q200) (fun _ h => h) rfl ?_
  refine r_imulZ (pc := 69) C dX1_times_69 ?_
  refine r_aload_n (pc := 70) C dX1_times_70 rfl rfl ?_
  refine r_get (pc := 71) (k := 3) (ci := 1) C dX1_times_71 (g1 (ha0 _ n0 _)) (show vwC[1]? = some (RX1, TX1, 4) from rfl) in_X1 (by decide) (C.t _ q204) (fun _ h => h) rfl ?_
  refine r_aload_n (pc := 74) C dX1_times_74 rfl rfl ?_
  refine r_get (pc := 75) (k := 3) (ci := 1) C dX1_times_75 (g1 (hb0 _ n0 _)) (show vwC[1]? = some (RX1, TX1, 4) from rfl) in_X1 (by decide) (C.t _ q204) (fun _ h => h) rfl ?_
  refine r_imulZ (pc := 78) C dX1_times_78 ?_
  refine r_iaddZ (pc := 79) C dX1_times_79 ?_
  refine r_invI (pc := 80) 4 C dX1_times_80 (xt_init _ _ _ _ (gup_eq _ _ _) (by decide)) rfl (lw_meth q196) q82 q194 q195 rfl (by decide +kernel) rfl rfl ⟨Nat.le_of_ble_eq_true rfl, Nat.le_of_ble_eq_true rfl⟩ (Nat.le_of_ble_eq_true rfl) ⟨(by first | exact Nat.le_of_ble_eq_true rfl | (dsimp only [rmk]; omega) | omega), (by first | exact Nat.le_of_ble_eq_true rfl | (dsimp only [rmk]; omega) | omega)⟩ (fun v80 G80 h80 => ?_)
  obtain ⟨rfl, q1⟩ := h80
  refine ww_retag (Γ' := fun G => TAB G a0 (tMul q x) ∧ FR [] G0 G) (fun G hG => by rw [hG]; obtain ⟨G', ⟨z1, z2, -⟩, z3⟩ := frz1 n0 q1.1 (FR.made n0 q1); refine ⟨G', ⟨?_, z2⟩, z3⟩; unfold TAB; rw [z1]; cases x <;> simp [tMul]) ?_
  exact r_aret (pc := 83) C hQ dX1_times_83 (by first | exact Or.inl ⟨_, rfl⟩ | exact Or.inr ⟨_, rfl⟩) (by first | exact Or.inr ⟨_, rfl⟩ | exact Or.inl rfl) (by first | exact Nat.le_of_ble_eq_true rfl | (dsimp only [rmk]; omega) | omega) (by first | exact Nat.le_of_ble_eq_true rfl | (dsimp only [rmk]; omega) | omega) (fun G hG => ⟨a0, rfl, hG.1, hG.2⟩)
set_option maxHeartbeats 800000 in
theorem xt_trace {la : Launch} {X : XE} {G0 : Gh} {a : Nat} {q : Int × Int × Int × Int} (h : TAB G0 a q) : MG la X yX1_trace cX1_trace 1 (some .int) (rmk 0 0 0 0) [.ref a] (fun G => G = G0) (fun zv G => zv = some (.int (iI (q.1 + q.2.2.2))) ∧ G = G0) := by
  refine MG.of (by decide +kernel) (Nat.le_of_ble_eq_true rfl) ?_
  intro Z C hX hL hQ
  subst hX; subst hL
  change WW Z 1 (fun G => G = G0) 0 0 0 [some (.ref a)] []
  refine r_aload_n (pc := 0) C dX1_trace_0 rfl rfl ?_
  refine r_get (pc := 1) (k := 0) (ci := 1) C dX1_trace_1 (g1 h) (show vwC[1]? = some (RX1, TX1, 4) from rfl) in_X1 (by decide) (C.t _ q198) (fun _ h => h) rfl ?_
  refine r_aload_n (pc := 4) C dX1_trace_4 rfl rfl ?_
  refine r_get (pc := 5) (k := 3) (ci := 1) C dX1_trace_5 (g1 h) (show vwC[1]? = some (RX1, TX1, 4) from rfl) in_X1 (by decide) (C.t _ q204) (fun _ h => h) rfl ?_
  refine r_iaddZ (pc := 8) C dX1_trace_8 ?_
  exact r_iret (pc := 9) C hQ dX1_trace_9 (Nat.le_of_ble_eq_true rfl) (Nat.le_of_ble_eq_true rfl) (fun G hG => ⟨rfl, hG⟩)
set_option maxHeartbeats 800000 in
theorem xt_told {la : Launch} {X : XE} {G0 : Gh} {a : Nat} {w : List Bool} (k : Int) (h : TAB G0 a (wTab w)) (hk : i32 k) : MG la X yX1_told cX1_told 2 (some .int) (rmk 0 0 0 0) [.ref a, .int (iI k)] (fun G => G = G0) (fun zv G => zv = some (.int (iI (tTold w k))) ∧ G = G0) := by
  refine MG.of (by decide +kernel) (Nat.le_of_ble_eq_true rfl) ?_
  intro Z C hX hL hQ
  subst hX; subst hL
  change WW Z 2 (fun G => G = G0) 0 0 0 [some (.ref a), some (.int (iI k))] []
  refine r_iload_n (pc := 0) C dX1_told_0 rfl rfl ?_
  refine r_tcase 0 (fun h1 => ?_) (fun h1_0 => ?_)
  · refine r_tableInZ (pc := 1) (off := 27) (tgt := 28) C dX1_told_1 hk (by omega) (by omega) (by rw [h1]; rfl) (by decide) ?_
    refine r_aload_n (pc := 28) C dX1_told_28 rfl rfl ?_
    refine r_get (pc := 29) (k := 0) (ci := 1) C dX1_told_29 (g1 h) (show vwC[1]? = some (RX1, TX1, 4) from rfl) in_X1 (by decide) (C.t _ q198) (fun _ h => h) rfl ?_
    refine r_goto (pc := 32) (tgt := 53) C dX1_told_32 (by decide) ?_
    exact r_iret (pc := 53) C hQ dX1_told_53 (Nat.le_of_ble_eq_true rfl) (Nat.le_of_ble_eq_true rfl) (fun G hG => ⟨(by unfold tTold; first | (rw [if_pos h1]; done) | (rw [if_neg (by omega), if_pos h1]; done) | (rw [if_neg (by omega), if_neg (by omega), if_pos h1]; done) | (rw [if_neg (by omega), if_neg (by omega), if_neg (by omega)]; done)), hG⟩)
  refine r_tcase 1 (fun h1 => ?_) (fun h1_1 => ?_)
  · refine r_tableInZ (pc := 1) (off := 34) (tgt := 35) C dX1_told_1 hk (by omega) (by omega) (by rw [h1]; rfl) (by decide) ?_
    refine r_aload_n (pc := 35) C dX1_told_35 rfl rfl ?_
    refine r_get (pc := 36) (k := 1) (ci := 1) C dX1_told_36 (g1 h) (show vwC[1]? = some (RX1, TX1, 4) from rfl) in_X1 (by decide) (C.t _ q200) (fun _ h => h) rfl ?_
    refine r_goto (pc := 39) (tgt := 53) C dX1_told_39 (by decide) ?_
    exact r_iret (pc := 53) C hQ dX1_told_53 (Nat.le_of_ble_eq_true rfl) (Nat.le_of_ble_eq_true rfl) (fun G hG => ⟨(by unfold tTold; first | (rw [if_pos h1]; done) | (rw [if_neg (by omega), if_pos h1]; done) | (rw [if_neg (by omega), if_neg (by omega), if_pos h1]; done) | (rw [if_neg (by omega), if_neg (by omega), if_neg (by omega)]; done)), hG⟩)
  refine r_tcase 2 (fun h1 => ?_) (fun h1_2 => ?_)
  · refine r_tableInZ (pc := 1) (off := 41) (tgt := 42) C dX1_told_1 hk (by omega) (by omega) (by rw [h1]; rfl) (by decide) ?_
    refine r_aload_n (pc := 42) C dX1_told_42 rfl rfl ?_
    refine r_get (pc := 43) (k := 2) (ci := 1) C dX1_told_43 (g1 h) (show vwC[1]? = some (RX1, TX1, 4) from rfl) in_X1 (by decide) (C.t _ q202) (fun _ h => h) rfl ?_
    refine r_goto (pc := 46) (tgt := 53) C dX1_told_46 (by decide) ?_
    exact r_iret (pc := 53) C hQ dX1_told_53 (Nat.le_of_ble_eq_true rfl) (Nat.le_of_ble_eq_true rfl) (fun G hG => ⟨(by unfold tTold; first | (rw [if_pos h1]; done) | (rw [if_neg (by omega), if_pos h1]; done) | (rw [if_neg (by omega), if_neg (by omega), if_pos h1]; done) | (rw [if_neg (by omega), if_neg (by omega), if_neg (by omega)]; done)), hG⟩)
  refine r_tableOutZ (pc := 1) (tgt := 49) C dX1_told_1 hk (by omega) (by decide) ?_
  refine r_aload_n (pc := 49) C dX1_told_49 rfl rfl ?_
  refine r_get (pc := 50) (k := 3) (ci := 1) C dX1_told_50 (g1 h) (show vwC[1]? = some (RX1, TX1, 4) from rfl) in_X1 (by decide) (C.t _ q204) (fun _ h => h) rfl ?_
  exact r_iret (pc := 53) C hQ dX1_told_53 (Nat.le_of_ble_eq_true rfl) (Nat.le_of_ble_eq_true rfl) (fun G hG => ⟨(by unfold tTold; first | (rw [if_pos h1]; done) | (rw [if_neg (by omega), if_pos h1]; done) | (rw [if_neg (by omega), if_neg (by omega), if_pos h1]; done) | (rw [if_neg (by omega), if_neg (by omega), if_neg (by omega)]; done)), hG⟩)
set_option maxHeartbeats 800000 in
theorem xt_grade {la : Launch} {X : XE} {G0 : Gh} {a : Nat} {w : List Bool} (h : TAB G0 a (wTab w)) (hw : w.length ≤ 20) (hc : wClosed w = true) : MG la X yX1_grade cX1_grade 1 (some .int) (rmk 2 0 0 44) [.ref a] (fun G => G = G0) (fun zv G => zv = some (.int (iI (wG w))) ∧ G = G0) := by
  refine MG.of (by decide +kernel) (Nat.le_of_ble_eq_true rfl) ?_
  intro Z C hX hL hQ
  subst hX; subst hL
  change WW Z 1 (fun G => G = G0) 0 0 0 [some (.ref a)] []
  have hb := wTab_20 hw
  have hcl := wClosed_t hc
  have hg1 := igcd_le (a := (wTab w).2.2.1) (b := (wTab w).2.2.2 - (wTab w).1) (by omega)
  refine r_aload_n (pc := 0) C dX1_grade_0 rfl rfl ?_
  refine r_get (pc := 1) (k := 2) (ci := 1) C dX1_grade_1 (g1 h) (show vwC[1]? = some (RX1, TX1, 4) from rfl) in_X1 (by decide) (C.t _ q202) (fun _ h => h) rfl ?_
  refine r_aload_n (pc := 4) C dX1_grade_4 rfl rfl ?_
  refine r_get (pc := 5) (k := 3) (ci := 1) C dX1_grade_5 (g1 h) (show vwC[1]? = some (RX1, TX1, 4) from rfl) in_X1 (by decide) (C.t _ q204) (fun _ h => h) rfl ?_
  refine r_aload_n (pc := 8) C dX1_grade_8 rfl rfl ?_
  refine r_get (pc := 9) (k := 0) (ci := 1) C dX1_grade_9 (g1 h) (show vwC[1]? = some (RX1, TX1, 4) from rfl) in_X1 (by decide) (C.t _ q198) (fun _ h => h) rfl ?_
  refine r_isubZ (pc := 12) C dX1_grade_12 ?_
  refine r_invSN (pc := 13) (host := "RiverWords") 2 C dX1_grade_13 (xf_common (wTab w).2.2.1 ((wTab w).2.2.2 - (wTab w).1) (by unfold i32; omega) (by unfold i32; omega) _ _ _) rfl (by decide +kernel) (lw_meth q806) q81 q805 (by decide +kernel) rfl rfl ⟨Nat.le_of_ble_eq_true rfl, Nat.le_of_ble_eq_true rfl⟩ (Nat.le_of_ble_eq_true rfl) ⟨Nat.le_of_ble_eq_true rfl, Nat.le_of_ble_eq_true rfl⟩ (pu_k ?_)
  refine r_aload_n (pc := 16) C dX1_grade_16 rfl rfl ?_
  refine r_get (pc := 17) (k := 1) (ci := 1) C dX1_grade_17 (g1 h) (show vwC[1]? = some (RX1, TX1, 4) from rfl) in_X1 (by decide) (C.t _ q200) (fun _ h => h) rfl ?_
  refine r_invSN (pc := 20) (host := "RiverWords") 2 C dX1_grade_20 (xf_common (igcd (wTab w).2.2.1 ((wTab w).2.2.2 - (wTab w).1)) (wTab w).2.1 (by unfold igcd i32; omega) (by unfold i32; omega) _ _ _) rfl (by decide +kernel) (lw_meth q806) q81 q805 (by decide +kernel) rfl rfl ⟨Nat.le_of_ble_eq_true rfl, Nat.le_of_ble_eq_true rfl⟩ (Nat.le_of_ble_eq_true rfl) ⟨Nat.le_of_ble_eq_true rfl, Nat.le_of_ble_eq_true rfl⟩ (pu_k ?_)
  exact r_iret (pc := 23) C hQ dX1_grade_23 (Nat.le_of_ble_eq_true rfl) (Nat.le_of_ble_eq_true rfl) (fun G hG => ⟨rfl, hG⟩)
set_option maxHeartbeats 800000 in
theorem xm_init {la : Launch} {X : XE} {G0 : Gh} {x t : Nat} (a b c : Int) (h : G0 x = some (t, .inl (5, [.int (iI 0), .int (iI 0), .int (iI 0), .int (iI 0), .int (iI 0), .int (iI 0), .int (iI 0)]))) (ht : t ≠ 0) : MG la X yX6_init cX6_init 4 none (rmk 1 0 0 20) [.ref x, .int (iI a), .int (iI b), .int (iI c)] (fun G => G = G0) (fun v G => v = none ∧ P1 x t 5 [.int (iI a), .int (iI b), .int (iI c), .int (iI NON), .int (iI 0), .int (iI 0), .int (iI 0)] G0 G) := by
  refine MG.of (by decide +kernel) (Nat.le_of_ble_eq_true rfl) ?_
  intro Z C hX hL hQ
  subst hX; subst hL
  change WW Z 4 (fun G => G = G0) 0 0 0 [some (.ref x), some (.int (iI a)), some (.int (iI b)), some (.int (iI c))] []
  refine r_aload_n (pc := 0) C dX6_init_0 rfl rfl ?_
  refine r_objInit (pc := 1) (own := "") C dX6_init_1 q815 q109 q110 (Nat.le_of_ble_eq_true rfl) (Nat.le_of_ble_eq_true rfl) ?_
  refine ww_to (Γ' := P1 x t 5 [.int (iI 0), .int (iI 0), .int (iI 0), .int (iI 0), .int (iI 0), .int (iI 0), .int (iI 0)] G0) (fun G hG => by rw [hG]; exact P1.rf h) ?_
  refine r_aload_n (pc := 4) C dX6_init_4 rfl rfl ?_
  refine r_ldcZ (pc := 5) (a := -2000000001) C dX6_init_5 rfl q816 (by decide) ?_
  refine r_put (pc := 7) (k := 3) (ci := 5) (ty := .int) C dX6_init_7 (fun G hG => ⟨_, ht, hG.1, hG.put⟩) (show vwC[5]? = some (RX6, TX6, 7) from rfl) in_X6 tyX6 tyX6_ok nmX6 (by decide) (C.t _ q823) (fun _ h => h) rfl (by decide +kernel) rfl rfl (Nat.le_of_ble_eq_true rfl) ?_
  refine r_aload_n (pc := 10) C dX6_init_10 rfl rfl ?_
  refine r_iload_n (pc := 11) C dX6_init_11 rfl rfl ?_
  refine r_putF (pc := 12) (k := 0) (ci := 5) (ty := .int) C dX6_init_12 (fun G hG => ⟨_, ht, hG.1, hG.put⟩) (show vwC[5]? = some (RX6, TX6, 7) from rfl) in_X6 tyX6 tyX6_ok nmX6 (by decide) (C.t _ q817) (fun _ h => h) rfl rfl rfl (by decide +kernel) rfl rfl (Nat.le_of_ble_eq_true rfl) ?_
  refine r_aload_n (pc := 15) C dX6_init_15 rfl rfl ?_
  refine r_iload_n (pc := 16) C dX6_init_16 rfl rfl ?_
  refine r_putF (pc := 17) (k := 1) (ci := 5) (ty := .int) C dX6_init_17 (fun G hG => ⟨_, ht, hG.1, hG.put⟩) (show vwC[5]? = some (RX6, TX6, 7) from rfl) in_X6 tyX6 tyX6_ok nmX6 (by decide) (C.t _ q819) (fun _ h => h) rfl rfl rfl (by decide +kernel) rfl rfl (Nat.le_of_ble_eq_true rfl) ?_
  refine r_aload_n (pc := 20) C dX6_init_20 rfl rfl ?_
  refine r_iload_n (pc := 21) C dX6_init_21 rfl rfl ?_
  refine r_putF (pc := 22) (k := 2) (ci := 5) (ty := .int) C dX6_init_22 (fun G hG => ⟨_, ht, hG.1, hG.put⟩) (show vwC[5]? = some (RX6, TX6, 7) from rfl) in_X6 tyX6 tyX6_ok nmX6 (by decide) (C.t _ q821) (fun _ h => h) rfl rfl rfl (by decide +kernel) rfl rfl (Nat.le_of_ble_eq_true rfl) ?_
  exact r_vret (pc := 25) C hQ dX6_init_25 (by first | exact Nat.le_of_ble_eq_true rfl | (dsimp only [rmk]; omega) | omega) (by first | exact Nat.le_of_ble_eq_true rfl | (dsimp only [rmk]; omega) | omega) (fun G hG => ⟨rfl, hG⟩)
set_option maxHeartbeats 800000 in
theorem xm_disc {la : Launch} {X : XE} {G0 : Gh} {x t : Nat} {f : Fm} {c n b m : Int} (h : FRM G0 x t f c n b m) : MG la X yX6_disc cX6_disc 1 (some .int) (rmk 0 0 0 0) [.ref x] (fun G => G = G0) (fun zv G => zv = some (.int (iI (f.2.1 * f.2.1 - 4 * f.1 * f.2.2))) ∧ G = G0) := by
  refine MG.of (by decide +kernel) (Nat.le_of_ble_eq_true rfl) ?_
  intro Z C hX hL hQ
  subst hX; subst hL
  change WW Z 1 (fun G => G = G0) 0 0 0 [some (.ref x)] []
  refine r_aload_n (pc := 0) C dX6_disc_0 rfl rfl ?_
  refine r_get (pc := 1) (k := 1) (ci := 5) C dX6_disc_1 (g1 h) (show vwC[5]? = some (RX6, TX6, 7) from rfl) in_X6 (by decide) (C.t _ q819) (fun _ h => h) rfl ?_
  refine r_aload_n (pc := 4) C dX6_disc_4 rfl rfl ?_
  refine r_get (pc := 5) (k := 1) (ci := 5) C dX6_disc_5 (g1 h) (show vwC[5]? = some (RX6, TX6, 7) from rfl) in_X6 (by decide) (C.t _ q819) (fun _ h => h) rfl ?_
  refine r_imulZ (pc := 8) C dX6_disc_8 ?_
  refine r_iconstZ (pc := 9) C dX6_disc_9 ?_
  refine r_aload_n (pc := 10) C dX6_disc_10 rfl rfl ?_
  refine r_get (pc := 11) (k := 0) (ci := 5) C dX6_disc_11 (g1 h) (show vwC[5]? = some (RX6, TX6, 7) from rfl) in_X6 (by decide) (C.t _ q817) (fun _ h => h) rfl ?_
  refine r_imulZ (pc := 14) C dX6_disc_14 ?_
  refine r_aload_n (pc := 15) C dX6_disc_15 rfl rfl ?_
  refine r_get (pc := 16) (k := 2) (ci := 5) C dX6_disc_16 (g1 h) (show vwC[5]? = some (RX6, TX6, 7) from rfl) in_X6 (by decide) (C.t _ q821) (fun _ h => h) rfl ?_
  refine r_imulZ (pc := 19) C dX6_disc_19 ?_
  refine r_isubZ (pc := 20) C dX6_disc_20 ?_
  exact r_iret (pc := 21) C hQ dX6_disc_21 (Nat.le_of_ble_eq_true rfl) (Nat.le_of_ble_eq_true rfl) (fun G hG => ⟨rfl, hG⟩)
set_option maxHeartbeats 800000 in
theorem xm_letter {la : Launch} {X : XE} {G0 : Gh} {x t : Nat} {f : Fm} {c n b m : Int} (h : FRM G0 x t f c n b m) (hi : i32 (f.1 + f.2.1 + f.2.2)) : MG la X yX6_letter cX6_letter 1 (some .char) (rmk 0 0 0 0) [.ref x] (fun G => G = G0) (fun zv G => zv = some (.int (iI (codeB (!fLeft f)))) ∧ G = G0) := by
  refine MG.of (by decide +kernel) (Nat.le_of_ble_eq_true rfl) ?_
  intro Z C hX hL hQ
  subst hX; subst hL
  change WW Z 1 (fun G => G = G0) 0 0 0 [some (.ref x)] []
  refine r_aload_n (pc := 0) C dX6_letter_0 rfl rfl ?_
  refine r_get (pc := 1) (k := 0) (ci := 5) C dX6_letter_1 (g1 h) (show vwC[5]? = some (RX6, TX6, 7) from rfl) in_X6 (by decide) (C.t _ q817) (fun _ h => h) rfl ?_
  refine r_aload_n (pc := 4) C dX6_letter_4 rfl rfl ?_
  refine r_get (pc := 5) (k := 1) (ci := 5) C dX6_letter_5 (g1 h) (show vwC[5]? = some (RX6, TX6, 7) from rfl) in_X6 (by decide) (C.t _ q819) (fun _ h => h) rfl ?_
  refine r_iaddZ (pc := 8) C dX6_letter_8 ?_
  refine r_aload_n (pc := 9) C dX6_letter_9 rfl rfl ?_
  refine r_get (pc := 10) (k := 2) (ci := 5) C dX6_letter_10 (g1 h) (show vwC[5]? = some (RX6, TX6, 7) from rfl) in_X6 (by decide) (C.t _ q821) (fun _ h => h) rfl ?_
  refine r_iaddZ (pc := 13) C dX6_letter_13 ?_
  refine r_if_leZ (pc := 14) (tgt := 22) C dX6_letter_14 (by decide) hi (fun h14 => ?_) (fun h14 => ?_)
  · refine r_bipushZ (pc := 22) C dX6_letter_22 (by decide) ?_
    exact r_zret (pc := 24) C hQ dX6_letter_24 (by decide) (Nat.le_of_ble_eq_true rfl) (Nat.le_of_ble_eq_true rfl) (fun G hG => ⟨(by unfold fLeft codeB; first | (rw [decide_eq_true (show 0 < f.1 + f.2.1 + f.2.2 by omega)]; rfl) | (rw [decide_eq_false (show ¬ 0 < f.1 + f.2.1 + f.2.2 by omega)]; rfl)), hG⟩)
  · refine r_bipushZ (pc := 17) C dX6_letter_17 (by decide) ?_
    refine r_goto (pc := 19) (tgt := 24) C dX6_letter_19 (by decide) ?_
    exact r_zret (pc := 24) C hQ dX6_letter_24 (by decide) (Nat.le_of_ble_eq_true rfl) (Nat.le_of_ble_eq_true rfl) (fun G hG => ⟨(by unfold fLeft codeB; first | (rw [decide_eq_true (show 0 < f.1 + f.2.1 + f.2.2 by omega)]; rfl) | (rw [decide_eq_false (show ¬ 0 < f.1 + f.2.1 + f.2.2 by omega)]; rfl)), hG⟩)
set_option maxHeartbeats 800000 in
theorem xm_isAs {la : Launch} {X : XE} {G0 : Gh} {x t : Nat} {f : Fm} {c n b m : Int} (p q r : Int) (h : FRM G0 x t f c n b m) (h1 : i32 f.1 ∧ i32 f.2.1 ∧ i32 f.2.2) (hp : i32 p ∧ i32 q ∧ i32 r) : MG la X yX6_isAs cX6_isAs 4 (some .boolean) (rmk 0 0 0 0) [.ref x, .int (iI p), .int (iI q), .int (iI r)] (fun G => G = G0) (fun zv G => zv = some (.int (iI (b2 (f = (p, q, r))))) ∧ G = G0) := by
  refine MG.of (by decide +kernel) (Nat.le_of_ble_eq_true rfl) ?_
  intro Z C hX hL hQ
  subst hX; subst hL
  change WW Z 4 (fun G => G = G0) 0 0 0 [some (.ref x), some (.int (iI p)), some (.int (iI q)), some (.int (iI r))] []
  refine r_aload_n (pc := 0) C dX6_isAs_0 rfl rfl ?_
  refine r_get (pc := 1) (k := 0) (ci := 5) C dX6_isAs_1 (g1 h) (show vwC[5]? = some (RX6, TX6, 7) from rfl) in_X6 (by decide) (C.t _ q817) (fun _ h => h) rfl ?_
  refine r_iload_n (pc := 4) C dX6_isAs_4 rfl rfl ?_
  refine r_icmp_neZ (pc := 5) (tgt := 28) C dX6_isAs_5 (by decide) h1.1 hp.1 (fun h5 => ?_) (fun h5 => ?_)
  · refine r_iconstZ (pc := 28) C dX6_isAs_28 ?_
    exact r_zret (pc := 29) C hQ dX6_isAs_29 (by decide) (Nat.le_of_ble_eq_true rfl) (Nat.le_of_ble_eq_true rfl) (fun G hG => ⟨(by first | (rw [b2_t (show f = (p, q, r) from Prod.ext h5 (Prod.ext h13 h21))]; done) | (rw [b2_f (fun e => h5 (congrArg (fun z : Fm => z.1) e))]; done) | (rw [b2_f (fun e => h13 (congrArg (fun z : Fm => z.2.1) e))]; done) | (rw [b2_f (fun e => h21 (congrArg (fun z : Fm => z.2.2) e))]; done)), hG⟩)
  · refine r_aload_n (pc := 8) C dX6_isAs_8 rfl rfl ?_
    refine r_get (pc := 9) (k := 1) (ci := 5) C dX6_isAs_9 (g1 h) (show vwC[5]? = some (RX6, TX6, 7) from rfl) in_X6 (by decide) (C.t _ q819) (fun _ h => h) rfl ?_
    refine r_iload_n (pc := 12) C dX6_isAs_12 rfl rfl ?_
    refine r_icmp_neZ (pc := 13) (tgt := 28) C dX6_isAs_13 (by decide) h1.2.1 hp.2.1 (fun h13 => ?_) (fun h13 => ?_)
    · refine r_iconstZ (pc := 28) C dX6_isAs_28 ?_
      exact r_zret (pc := 29) C hQ dX6_isAs_29 (by decide) (Nat.le_of_ble_eq_true rfl) (Nat.le_of_ble_eq_true rfl) (fun G hG => ⟨(by first | (rw [b2_t (show f = (p, q, r) from Prod.ext h5 (Prod.ext h13 h21))]; done) | (rw [b2_f (fun e => h5 (congrArg (fun z : Fm => z.1) e))]; done) | (rw [b2_f (fun e => h13 (congrArg (fun z : Fm => z.2.1) e))]; done) | (rw [b2_f (fun e => h21 (congrArg (fun z : Fm => z.2.2) e))]; done)), hG⟩)
    · refine r_aload_n (pc := 16) C dX6_isAs_16 rfl rfl ?_
      refine r_get (pc := 17) (k := 2) (ci := 5) C dX6_isAs_17 (g1 h) (show vwC[5]? = some (RX6, TX6, 7) from rfl) in_X6 (by decide) (C.t _ q821) (fun _ h => h) rfl ?_
      refine r_iload_n (pc := 20) C dX6_isAs_20 rfl rfl ?_
      refine r_icmp_neZ (pc := 21) (tgt := 28) C dX6_isAs_21 (by decide) h1.2.2 hp.2.2 (fun h21 => ?_) (fun h21 => ?_)
      · refine r_iconstZ (pc := 28) C dX6_isAs_28 ?_
        exact r_zret (pc := 29) C hQ dX6_isAs_29 (by decide) (Nat.le_of_ble_eq_true rfl) (Nat.le_of_ble_eq_true rfl) (fun G hG => ⟨(by first | (rw [b2_t (show f = (p, q, r) from Prod.ext h5 (Prod.ext h13 h21))]; done) | (rw [b2_f (fun e => h5 (congrArg (fun z : Fm => z.1) e))]; done) | (rw [b2_f (fun e => h13 (congrArg (fun z : Fm => z.2.1) e))]; done) | (rw [b2_f (fun e => h21 (congrArg (fun z : Fm => z.2.2) e))]; done)), hG⟩)
      · refine r_iconstZ (pc := 24) C dX6_isAs_24 ?_
        refine r_goto (pc := 25) (tgt := 29) C dX6_isAs_25 (by decide) ?_
        exact r_zret (pc := 29) C hQ dX6_isAs_29 (by decide) (Nat.le_of_ble_eq_true rfl) (Nat.le_of_ble_eq_true rfl) (fun G hG => ⟨(by first | (rw [b2_t (show f = (p, q, r) from Prod.ext h5 (Prod.ext h13 h21))]; done) | (rw [b2_f (fun e => h5 (congrArg (fun z : Fm => z.1) e))]; done) | (rw [b2_f (fun e => h13 (congrArg (fun z : Fm => z.2.1) e))]; done) | (rw [b2_f (fun e => h21 (congrArg (fun z : Fm => z.2.2) e))]; done)), hG⟩)
set_option maxHeartbeats 800000 in
theorem xm_isWhole {la : Launch} {X : XE} {G0 : Gh} {x t : Nat} {f : Fm} {c n b m : Int} (h : FRM G0 x t f c n b m) (hi : i32 f.1 ∧ f.1 ≠ -2147483648) (hj : i32 f.2.1 ∧ f.2.1 ≠ -2147483648) (hk : i32 f.2.2 ∧ f.2.2 ≠ -2147483648) (hl : i32 (igcd f.1 f.2.1) ∧ igcd f.1 f.2.1 ≠ -2147483648) (hg : i32 (igcd (igcd f.1 f.2.1) f.2.2)) : MG la X yX6_isWhole cX6_isWhole 1 (some .boolean) (rmk 2 0 0 44) [.ref x] (fun G => G = G0) (fun zv G => zv = some (.int (iI (b2 (Int.gcd (Int.gcd f.1 f.2.1 : Nat) f.2.2 = 1)))) ∧ G = G0) := by
  refine MG.of (by decide +kernel) (Nat.le_of_ble_eq_true rfl) ?_
  intro Z C hX hL hQ
  subst hX; subst hL
  change WW Z 1 (fun G => G = G0) 0 0 0 [some (.ref x)] []
  refine r_aload_n (pc := 0) C dX6_isWhole_0 rfl rfl ?_
  refine r_get (pc := 1) (k := 0) (ci := 5) C dX6_isWhole_1 (g1 h) (show vwC[5]? = some (RX6, TX6, 7) from rfl) in_X6 (by decide) (C.t _ q817) (fun _ h => h) rfl ?_
  refine r_aload_n (pc := 4) C dX6_isWhole_4 rfl rfl ?_
  refine r_get (pc := 5) (k := 1) (ci := 5) C dX6_isWhole_5 (g1 h) (show vwC[5]? = some (RX6, TX6, 7) from rfl) in_X6 (by decide) (C.t _ q819) (fun _ h => h) rfl ?_
  refine r_invSN (pc := 8) (host := "RiverWords") 2 C dX6_isWhole_8 (xf_common f.1 f.2.1 hi hj _ _ _) rfl (by decide +kernel) (lw_meth q806) q81 q805 (by decide +kernel) rfl rfl ⟨Nat.le_of_ble_eq_true rfl, Nat.le_of_ble_eq_true rfl⟩ (Nat.le_of_ble_eq_true rfl) ⟨Nat.le_of_ble_eq_true rfl, Nat.le_of_ble_eq_true rfl⟩ (pu_k ?_)
  refine r_aload_n (pc := 11) C dX6_isWhole_11 rfl rfl ?_
  refine r_get (pc := 12) (k := 2) (ci := 5) C dX6_isWhole_12 (g1 h) (show vwC[5]? = some (RX6, TX6, 7) from rfl) in_X6 (by decide) (C.t _ q821) (fun _ h => h) rfl ?_
  refine r_invSN (pc := 15) (host := "RiverWords") 2 C dX6_isWhole_15 (xf_common (igcd f.1 f.2.1) f.2.2 hl hk _ _ _) rfl (by decide +kernel) (lw_meth q806) q81 q805 (by decide +kernel) rfl rfl ⟨Nat.le_of_ble_eq_true rfl, Nat.le_of_ble_eq_true rfl⟩ (Nat.le_of_ble_eq_true rfl) ⟨Nat.le_of_ble_eq_true rfl, Nat.le_of_ble_eq_true rfl⟩ (pu_k ?_)
  refine r_iconstZ (pc := 18) C dX6_isWhole_18 ?_
  refine r_icmp_neZ (pc := 19) (tgt := 26) C dX6_isWhole_19 (by decide) hg (by unfold i32; omega) (fun h19 => ?_) (fun h19 => ?_)
  · refine r_iconstZ (pc := 26) C dX6_isWhole_26 ?_
    exact r_zret (pc := 27) C hQ dX6_isWhole_27 (by decide) (Nat.le_of_ble_eq_true rfl) (Nat.le_of_ble_eq_true rfl) (fun G hG => ⟨(by unfold igcd at h19; first | (rw [b2_t (by omega)]; done) | (rw [b2_f (by omega)]; done)), hG⟩)
  · refine r_iconstZ (pc := 22) C dX6_isWhole_22 ?_
    refine r_goto (pc := 23) (tgt := 27) C dX6_isWhole_23 (by decide) ?_
    exact r_zret (pc := 27) C hQ dX6_isWhole_27 (by decide) (Nat.le_of_ble_eq_true rfl) (Nat.le_of_ble_eq_true rfl) (fun G hG => ⟨(by unfold igcd at h19; first | (rw [b2_t (by omega)]; done) | (rw [b2_f (by omega)]; done)), hG⟩)
set_option maxHeartbeats 800000 in
theorem xm_aside {la : Launch} {X : XE} {G0 : Gh} {x t : Nat} {f : Fm} {c n b m : Int} (h : FRM G0 x t f c n b m) (hi : i32 f.1) (hk : i32 f.2.2) : MG la X yX6_isAsideOnly cX6_isAsideOnly 1 (some .boolean) (rmk 0 0 0 0) [.ref x] (fun G => G = G0) (fun zv G => zv = some (.int (iI (b2 (0 < f.1 ↔ 0 < f.2.2)))) ∧ G = G0) := by
  refine MG.of (by decide +kernel) (Nat.le_of_ble_eq_true rfl) ?_
  intro Z C hX hL hQ
  subst hX; subst hL
  change WW Z 1 (fun G => G = G0) 0 0 0 [some (.ref x)] []
  refine r_aload_n (pc := 0) C dX6_isAsideOnly_0 rfl rfl ?_
  refine r_get (pc := 1) (k := 0) (ci := 5) C dX6_isAsideOnly_1 (g1 h) (show vwC[5]? = some (RX6, TX6, 7) from rfl) in_X6 (by decide) (C.t _ q817) (fun _ h => h) rfl ?_
  refine r_if_leZ (pc := 4) (tgt := 11) C dX6_isAsideOnly_4 (by decide) hi (fun h4 => ?_) (fun h4 => ?_)
  · refine r_iconstZ (pc := 11) C dX6_isAsideOnly_11 ?_
    refine r_aload_n (pc := 12) C dX6_isAsideOnly_12 rfl rfl ?_
    refine r_get (pc := 13) (k := 2) (ci := 5) C dX6_isAsideOnly_13 (g1 h) (show vwC[5]? = some (RX6, TX6, 7) from rfl) in_X6 (by decide) (C.t _ q821) (fun _ h => h) rfl ?_
    refine r_if_leZ (pc := 16) (tgt := 23) C dX6_isAsideOnly_16 (by decide) hk (fun h16 => ?_) (fun h16 => ?_)
    · refine r_iconstZ (pc := 23) C dX6_isAsideOnly_23 ?_
      refine r_icmp_neZ (pc := 24) (tgt := 31) C dX6_isAsideOnly_24 (by decide) (by unfold i32; omega) (by unfold i32; omega) (fun h24 => ?_) (fun h24 => ?_)
      · refine r_iconstZ (pc := 31) C dX6_isAsideOnly_31 ?_
        exact r_zret (pc := 32) C hQ dX6_isAsideOnly_32 (by decide) (Nat.le_of_ble_eq_true rfl) (Nat.le_of_ble_eq_true rfl) (fun G hG => ⟨(by first | (rw [b2_t (by omega)]; done) | (rw [b2_f (by omega)]; done)), hG⟩)
      · refine r_iconstZ (pc := 27) C dX6_isAsideOnly_27 ?_
        refine r_goto (pc := 28) (tgt := 32) C dX6_isAsideOnly_28 (by decide) ?_
        exact r_zret (pc := 32) C hQ dX6_isAsideOnly_32 (by decide) (Nat.le_of_ble_eq_true rfl) (Nat.le_of_ble_eq_true rfl) (fun G hG => ⟨(by first | (rw [b2_t (by omega)]; done) | (rw [b2_f (by omega)]; done)), hG⟩)
    · refine r_iconstZ (pc := 19) C dX6_isAsideOnly_19 ?_
      refine r_goto (pc := 20) (tgt := 24) C dX6_isAsideOnly_20 (by decide) ?_
      refine r_icmp_neZ (pc := 24) (tgt := 31) C dX6_isAsideOnly_24 (by decide) (by unfold i32; omega) (by unfold i32; omega) (fun h24 => ?_) (fun h24 => ?_)
      · refine r_iconstZ (pc := 31) C dX6_isAsideOnly_31 ?_
        exact r_zret (pc := 32) C hQ dX6_isAsideOnly_32 (by decide) (Nat.le_of_ble_eq_true rfl) (Nat.le_of_ble_eq_true rfl) (fun G hG => ⟨(by first | (rw [b2_t (by omega)]; done) | (rw [b2_f (by omega)]; done)), hG⟩)
      · refine r_iconstZ (pc := 27) C dX6_isAsideOnly_27 ?_
        refine r_goto (pc := 28) (tgt := 32) C dX6_isAsideOnly_28 (by decide) ?_
        exact r_zret (pc := 32) C hQ dX6_isAsideOnly_32 (by decide) (Nat.le_of_ble_eq_true rfl) (Nat.le_of_ble_eq_true rfl) (fun G hG => ⟨(by first | (rw [b2_t (by omega)]; done) | (rw [b2_f (by omega)]; done)), hG⟩)
  · refine r_iconstZ (pc := 7) C dX6_isAsideOnly_7 ?_
    refine r_goto (pc := 8) (tgt := 12) C dX6_isAsideOnly_8 (by decide) ?_
    refine r_aload_n (pc := 12) C dX6_isAsideOnly_12 rfl rfl ?_
    refine r_get (pc := 13) (k := 2) (ci := 5) C dX6_isAsideOnly_13 (g1 h) (show vwC[5]? = some (RX6, TX6, 7) from rfl) in_X6 (by decide) (C.t _ q821) (fun _ h => h) rfl ?_
    refine r_if_leZ (pc := 16) (tgt := 23) C dX6_isAsideOnly_16 (by decide) hk (fun h16 => ?_) (fun h16 => ?_)
    · refine r_iconstZ (pc := 23) C dX6_isAsideOnly_23 ?_
      refine r_icmp_neZ (pc := 24) (tgt := 31) C dX6_isAsideOnly_24 (by decide) (by unfold i32; omega) (by unfold i32; omega) (fun h24 => ?_) (fun h24 => ?_)
      · refine r_iconstZ (pc := 31) C dX6_isAsideOnly_31 ?_
        exact r_zret (pc := 32) C hQ dX6_isAsideOnly_32 (by decide) (Nat.le_of_ble_eq_true rfl) (Nat.le_of_ble_eq_true rfl) (fun G hG => ⟨(by first | (rw [b2_t (by omega)]; done) | (rw [b2_f (by omega)]; done)), hG⟩)
      · refine r_iconstZ (pc := 27) C dX6_isAsideOnly_27 ?_
        refine r_goto (pc := 28) (tgt := 32) C dX6_isAsideOnly_28 (by decide) ?_
        exact r_zret (pc := 32) C hQ dX6_isAsideOnly_32 (by decide) (Nat.le_of_ble_eq_true rfl) (Nat.le_of_ble_eq_true rfl) (fun G hG => ⟨(by first | (rw [b2_t (by omega)]; done) | (rw [b2_f (by omega)]; done)), hG⟩)
    · refine r_iconstZ (pc := 19) C dX6_isAsideOnly_19 ?_
      refine r_goto (pc := 20) (tgt := 24) C dX6_isAsideOnly_20 (by decide) ?_
      refine r_icmp_neZ (pc := 24) (tgt := 31) C dX6_isAsideOnly_24 (by decide) (by unfold i32; omega) (by unfold i32; omega) (fun h24 => ?_) (fun h24 => ?_)
      · refine r_iconstZ (pc := 31) C dX6_isAsideOnly_31 ?_
        exact r_zret (pc := 32) C hQ dX6_isAsideOnly_32 (by decide) (Nat.le_of_ble_eq_true rfl) (Nat.le_of_ble_eq_true rfl) (fun G hG => ⟨(by first | (rw [b2_t (by omega)]; done) | (rw [b2_f (by omega)]; done)), hG⟩)
      · refine r_iconstZ (pc := 27) C dX6_isAsideOnly_27 ?_
        refine r_goto (pc := 28) (tgt := 32) C dX6_isAsideOnly_28 (by decide) ?_
        exact r_zret (pc := 32) C hQ dX6_isAsideOnly_32 (by decide) (Nat.le_of_ble_eq_true rfl) (Nat.le_of_ble_eq_true rfl) (fun G hG => ⟨(by first | (rw [b2_t (by omega)]; done) | (rw [b2_f (by omega)]; done)), hG⟩)

