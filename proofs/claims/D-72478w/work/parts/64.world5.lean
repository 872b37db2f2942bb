/-! the component's world -/
set_option maxRecDepth 100000
def ROK (ws : Wss) : Prop := ws.length ≤ 6 ∧ ∀ k : Nat, k < ws.length → 0 < (ws.getD k []).length ∧ (ws.getD k []).length ≤ 20
def RLS (G : Gh) (xh : Nat) (rls : List Nat) (ws : Wss) : Prop := rls.length = ws.length ∧ (∀ k : Nat, k < ws.length → ROAD G xh (rls.getD k 0) 3 (ws.getD k [])) ∧ ∀ i j : Nat, i < ws.length → j < ws.length → rls.getD i 0 = rls.getD j 0 → i = j
theorem RLS.fr {G G' : Gh} {xh : Nat} {rls : List Nat} {ws : Wss} {ts : List Nat} (h : RLS G xh rls ws) (hf : FR ts G G') (h0 : 0 ∉ ts) (h3 : 3 ∉ ts) : RLS G' xh rls ws := ⟨h.1, fun k hk => (h.2.1 k hk).fr hf h0 h3, h.2.2⟩
theorem RLS.obj {G : Gh} {xh : Nat} {rls : List Nat} {ws : Wss} (h : RLS G xh rls ws) : ∀ j : Nat, j < rls.length → isObj G (.ref (rls.getD j 0)) := fun j hj => by
  obtain ⟨s, tb, h1, -⟩ := h.2.1 j (by rw [← h.1]; exact hj)
  exact Or.inr ⟨_, _, _, _, rfl, h1⟩
theorem wss_app1 {ws : Wss} {w : List Bool} {j : Nat} (h : j < ws.length) : (ws ++ [w]).getD j [] = ws.getD j [] := by
  rw [List.getD_eq_getElem?_getD, List.getD_eq_getElem?_getD, List.getElem?_append_left h]
theorem wss_last {ws : Wss} {w : List Bool} : (ws ++ [w]).getD ws.length [] = w := by
  rw [List.getD_eq_getElem?_getD]
  simp
theorem RLS.push {G G' : Gh} {xh x : Nat} {rls : List Nat} {ws : Wss} {w : List Bool} (h : RLS G xh rls ws) (hx : G x = none) (h' : RLS G' xh rls ws) (hr : ROAD G' xh x 3 w) : RLS G' xh (rls ++ [x]) (ws ++ [w]) := by
  have hl : (ws ++ [w]).length = ws.length + 1 := by simp
  have hfresh : ∀ j, j < ws.length → rls.getD j 0 ≠ x := fun j hj e => by
    obtain ⟨s, tb, h1, -⟩ := h.2.1 j hj
    rw [e, hx] at h1
    cases h1
  refine ⟨by simp [h.1], fun k hk => ?_, fun i j hi hj e => ?_⟩
  · by_cases e : k = ws.length
    · subst e
      rw [wss_last, ← h.1, getD_last]
      exact hr
    · rw [wss_app1 (by omega), getD_app1 (by rw [h.1]; omega)]
      exact h'.2.1 k (by omega)
  · by_cases ei : i = ws.length
    · by_cases ej : j = ws.length
      · omega
      · rw [ei, ← h.1, getD_last, getD_app1 (by rw [h.1]; omega)] at e
        exact absurd e.symm (hfresh j (by omega))
    · by_cases ej : j = ws.length
      · rw [ej, ← h.1, getD_last, getD_app1 (by rw [h.1]; omega)] at e
        exact absurd e (hfresh i (by omega))
      · rw [getD_app1 (by rw [h.1]; omega), getD_app1 (by rw [h.1]; omega)] at e
        exact h.2.2 i j (by omega) (by omega) e
theorem wss_set {ws : Wss} {w : List Bool} {k j : Nat} (hk : k < ws.length) : (ws.set k w).getD j [] = if j = k then w else ws.getD j [] := by
  rw [List.getD_eq_getElem?_getD, List.getD_eq_getElem?_getD]
  by_cases e : j = k
  · subst e
    rw [if_pos rfl, List.getElem?_set_self hk]
    rfl
  · rw [if_neg e, List.getElem?_set_ne (fun q => e q.symm)]
/-- a road becomes another one -/
theorem RLS.set {G G' : Gh} {xh k : Nat} {rls : List Nat} {ws : Wss} {w : List Bool} (h : RLS G xh rls ws) (hk : k < ws.length) (hf : FR [3] G G') (ha : FRA (rls.getD k 0) G G') (hr : ROAD G' xh (rls.getD k 0) 3 w) : RLS G' xh rls (ws.set k w) := by
  refine ⟨by rw [List.length_set]; exact h.1, fun j hj => ?_, fun i j hi hj => ?_⟩
  · rw [List.length_set] at hj
    rw [wss_set hk]
    by_cases e : j = k
    · subst e
      rw [if_pos rfl]
      exact hr
    · rw [if_neg e]
      obtain ⟨s, tb, h1, h2, h3⟩ := h.2.1 j hj
      exact ⟨s, tb, ha _ _ h1 (fun q => e (h.2.2 j k hj hk q)), h2.fr hf (by decide), h3.fr hf (by decide)⟩
  · rw [List.length_set] at hi hj
    exact h.2.2 i j hi hj
theorem RLS.pop {G : Gh} {xh : Nat} {rls : List Nat} {ws : Wss} (h : RLS G xh rls ws) : RLS G xh rls.dropLast ws.dropLast := by
  have hl : ws.dropLast.length = ws.length - 1 := by simp
  have hr : rls.dropLast.length = rls.length - 1 := by simp
  have gw : ∀ j, j < ws.length - 1 → ws.dropLast.getD j [] = ws.getD j [] := fun j hj => by
    rw [List.getD_eq_getElem?_getD, List.getD_eq_getElem?_getD, List.getElem?_dropLast, if_pos hj]
  have gr : ∀ j, j < ws.length - 1 → rls.dropLast.getD j 0 = rls.getD j 0 := fun j hj => by
    rw [List.getD_eq_getElem?_getD, List.getD_eq_getElem?_getD, List.getElem?_dropLast, if_pos (by rw [h.1]; exact hj)]
  refine ⟨by rw [hl, hr, h.1], fun j hj => ?_, fun i j hi hj e => ?_⟩
  · rw [hl] at hj
    rw [gw j hj, gr j hj]
    exact h.2.1 j (by omega)
  · rw [hl] at hi hj
    rw [gr i hi, gr j hj] at e
    exact h.2.2 i j (by omega) (by omega) e
theorem ROK.push {ws : Wss} {w : List Bool} (h : ROK ws) (hl : ws.length < 6) (hw : 0 < w.length ∧ w.length ≤ 20) : ROK (ws ++ [w]) := by
  refine ⟨by simp; omega, fun k hk => ?_⟩
  rw [List.length_append, List.length_singleton] at hk
  by_cases e : k = ws.length
  · subst e; rw [wss_last]; exact hw
  · rw [wss_app1 (by omega)]; exact h.2 k (by omega)
theorem ROK.set {ws : Wss} {w : List Bool} {k : Nat} (h : ROK ws) (hk : k < ws.length) (hw : 0 < w.length ∧ w.length ≤ 20) : ROK (ws.set k w) := by
  refine ⟨by rw [List.length_set]; exact h.1, fun j hj => ?_⟩
  rw [List.length_set] at hj
  rw [wss_set hk]
  by_cases e : j = k
  · rw [if_pos e]; exact hw
  · rw [if_neg e]; exact h.2 j hj
theorem ROK.pop {ws : Wss} (h : ROK ws) : ROK ws.dropLast := by
  have hl : ws.dropLast.length = ws.length - 1 := by simp
  refine ⟨by have := h.1; omega, fun j hj => ?_⟩
  rw [hl] at hj
  rw [List.getD_eq_getElem?_getD, List.getElem?_dropLast, if_pos hj, ← List.getD_eq_getElem?_getD]
  exact h.2 j (by omega)
/-- the component's state in the ghost heap: its object, the constants, roads, page, forms, cycles -/
def CW (X : XE) (G : Gh) (xh : Nat) (x : AS) (A : Nat → Nat) (dr : Int) (rls : List Nat) (mr : Nat) (fls : List Nat) (mf : Nat) (cls : List Nat) (mc : Nat) : Prop :=
  XOB G xh A x.rdn x.d dr ∧ KON X G ∧ (LST X G (A 3) 2 rls mr ∧ (mr = 0 ∨ mr = 10) ∧ RLS G xh rls x.ws ∧ ROK x.ws) ∧ (SB G (A 5) 4 x.pg 20 ∧ ∀ c ∈ x.pg, 32 ≤ c ∧ c ≤ 126) ∧ (LST X G (A 7) 5 fls mf ∧ mf ≤ 1700 ∧ FLS G fls (fl x.d) (rc x.d).1 (nxZ (fl x.d)) (bkZ (fl x.d)) (mrZ (fl x.d))) ∧ (LST X G (A 8) 7 cls mc ∧ mc ≤ 1700 ∧ CLS G xh cls (rc x.d).2 (fun k => wpre (fl x.d) k (per (nxt (fl x.d)) (fl x.d).length k))) ∧ RivOK x.d
def COMP (X : XE) (G : Gh) (xh : Nat) (x : AS) : Prop := ∃ A dr rls mr fls mf cls mc, CW X G xh x A dr rls mr fls mf cls mc
section CWP
variable {X : XE} {G G' : Gh} {xh : Nat} {x : AS} {A : Nat → Nat} {dr : Int} {rls : List Nat} {mr : Nat} {fls : List Nat} {mf : Nat} {cls : List Nat} {mc : Nat}
theorem CW.xo (h : CW X G xh x A dr rls mr fls mf cls mc) : XOB G xh A x.rdn x.d dr := h.1
theorem CW.ob (h : CW X G xh x A dr rls mr fls mf cls mc) : G xh = some (1, .inl (0, xfs A x.rdn x.d dr)) := h.1.1
theorem CW.ko (h : CW X G xh x A dr rls mr fls mf cls mc) : KON X G := h.2.1
theorem CW.rl (h : CW X G xh x A dr rls mr fls mf cls mc) : LST X G (A 3) 2 rls mr := h.2.2.1.1
theorem CW.hmr (h : CW X G xh x A dr rls mr fls mf cls mc) : mr = 0 ∨ mr = 10 := h.2.2.1.2.1
theorem CW.rs (h : CW X G xh x A dr rls mr fls mf cls mc) : RLS G xh rls x.ws := h.2.2.1.2.2.1
theorem CW.rk (h : CW X G xh x A dr rls mr fls mf cls mc) : ROK x.ws := h.2.2.1.2.2.2
theorem CW.pg (h : CW X G xh x A dr rls mr fls mf cls mc) : SB G (A 5) 4 x.pg 20 := h.2.2.2.1.1
theorem CW.ch (h : CW X G xh x A dr rls mr fls mf cls mc) : ∀ c ∈ x.pg, 32 ≤ c ∧ c ≤ 126 := h.2.2.2.1.2
theorem CW.fll (h : CW X G xh x A dr rls mr fls mf cls mc) : LST X G (A 7) 5 fls mf := h.2.2.2.2.1.1
theorem CW.hmf (h : CW X G xh x A dr rls mr fls mf cls mc) : mf ≤ 1700 := h.2.2.2.2.1.2.1
theorem CW.fs (h : CW X G xh x A dr rls mr fls mf cls mc) : FLS G fls (fl x.d) (rc x.d).1 (nxZ (fl x.d)) (bkZ (fl x.d)) (mrZ (fl x.d)) := h.2.2.2.2.1.2.2
theorem CW.cl (h : CW X G xh x A dr rls mr fls mf cls mc) : LST X G (A 8) 7 cls mc := h.2.2.2.2.2.1.1
theorem CW.hmc (h : CW X G xh x A dr rls mr fls mf cls mc) : mc ≤ 1700 := h.2.2.2.2.2.1.2.1
theorem CW.cs (h : CW X G xh x A dr rls mr fls mf cls mc) : CLS G xh cls (rc x.d).2 (fun k => wpre (fl x.d) k (per (nxt (fl x.d)) (fl x.d).length k)) := h.2.2.2.2.2.1.2.2
theorem CW.rv (h : CW X G xh x A dr rls mr fls mf cls mc) : RivOK x.d := h.2.2.2.2.2.2
/-- a cycle's word -/
theorem CW.cy (h : CW X G xh x A dr rls mr fls mf cls mc) {c : Nat} (hc : c < nC x.d) : CYC G xh (cls.getD c 0) (fC x.d c : Nat) (wC x.d c) := h.cs.2 c hc
theorem CW.cn (h : CW X G xh x A dr rls mr fls mf cls mc) : cls.length = nC x.d := h.cs.1
theorem CW.rn (h : CW X G xh x A dr rls mr fls mf cls mc) : rls.length = x.ws.length := h.rs.1
theorem CW.fn (h : CW X G xh x A dr rls mr fls mf cls mc) : fls.length = nR x.d := h.fs.1
theorem CW.fr {ts : List Nat} (h : CW X G xh x A dr rls mr fls mf cls mc) (hf : FR ts G G') (ht : ∀ t, t ∈ ts → 9 ≤ t) : CW X G' xh x A dr rls mr fls mf cls mc := by
  have n : ∀ k, k < 9 → k ∉ ts := fun k hk q => by have := ht k q; omega
  exact ⟨h.xo.fr hf (n 0 (by decide)) (n 1 (by decide)), h.ko.fr hf (n 0 (by decide)), ⟨h.rl.fr hf (n 0 (by decide)) (n 2 (by decide)), h.hmr, h.rs.fr hf (n 0 (by decide)) (n 3 (by decide)), h.rk⟩, ⟨h.pg.fr hf (n 4 (by decide)), h.ch⟩, ⟨h.fll.fr hf (n 0 (by decide)) (n 5 (by decide)), h.hmf, h.fs.fr hf (n 6 (by decide))⟩, ⟨h.cl.fr hf (n 0 (by decide)) (n 7 (by decide)), h.hmc, h.cs.fr hf (n 0 (by decide)) (n 8 (by decide))⟩, h.rv⟩
theorem CW.comp (h : CW X G xh x A dr rls mr fls mf cls mc) : COMP X G xh x := ⟨A, dr, rls, mr, fls, mf, cls, mc, h⟩
end CWP
/-- the owners that the component writes -/
abbrev cT : List Nat := [1, 2, 3, 4, 5, 6, 7, 9, 12]
theorem nR_le {d : Int} (h : RivOK d) : nR d ≤ 1098 := fl_len h
theorem ROK.at {ws : Wss} {r : Int} (h : ROK ws) (hr : 0 ≤ r ∧ r ≤ (ws.length : Int) - 1) : 0 < (wsat ws r).length ∧ (wsat ws r).length ≤ 20 := h.2 r.toNat (by omega)
section CWQ
variable {X : XE} {G G' : Gh} {xh : Nat} {x : AS} {A : Nat → Nat} {dr : Int} {rls : List Nat} {rm : Nat} {fls : List Nat} {fm : Nat} {cls : List Nat} {cm : Nat}
theorem CW.road (h : CW X G xh x A dr rls rm fls fm cls cm) {r : Int} (hr : 0 ≤ r ∧ r ≤ (x.ws.length : Int) - 1) : ROAD G xh (rls.getD r.toNat 0) 3 (wsat x.ws r) := h.rs.2.1 r.toNat (by omega)
theorem CW.rix (h : CW X G xh x A dr rls rm fls fm cls cm) {r : Int} (hr : 0 ≤ r ∧ r ≤ (x.ws.length : Int) - 1) : 0 ≤ r ∧ r < (rls.length : Nat) := by rw [h.rn]; omega
theorem CW.fix (h : CW X G xh x A dr rls rm fls fm cls cm) {r : Int} (hr : 0 ≤ r ∧ r ≤ (nR x.d : Int) - 1) : 0 ≤ r ∧ r < (fls.length : Nat) := by rw [h.fn]; omega
theorem CW.cix (h : CW X G xh x A dr rls rm fls fm cls cm) {r : Int} (hr : 0 ≤ r ∧ r ≤ (nC x.d : Int) - 1) : 0 ≤ r ∧ r < (cls.length : Nat) := by rw [h.cn]; omega
def setws (x : AS) (ws : Wss) : AS := (x.1, ws, x.2.2.1, x.2.2.2)
/-- other roads -/
theorem CW.roads {ts : List Nat} {rls' : List Nat} {rm' : Nat} {ws' : Wss} (h : CW X G xh x A dr rls rm fls fm cls cm) (hf : FR ts G G') (ht : ∀ t, t ∈ ts → t = 2 ∨ t = 3 ∨ 9 ≤ t) (hl : LST X G' (A 3) 2 rls' rm') (hm : rm' = 0 ∨ rm' = 10) (hs : RLS G' xh rls' ws') (hk : ROK ws') : CW X G' xh (setws x ws') A dr rls' rm' fls fm cls cm := by
  have n : ∀ k, k < 9 → k ≠ 2 → k ≠ 3 → k ∉ ts := fun k hk h2 h3 q => by have := ht k q; omega
  exact ⟨h.xo.fr hf (n 0 (by decide) (by decide) (by decide)) (n 1 (by decide) (by decide) (by decide)), h.ko.fr hf (n 0 (by decide) (by decide) (by decide)), ⟨hl, hm, hs, hk⟩, ⟨h.pg.fr hf (n 4 (by decide) (by decide) (by decide)), h.ch⟩, ⟨h.fll.fr hf (n 0 (by decide) (by decide) (by decide)) (n 5 (by decide) (by decide) (by decide)), h.hmf, h.fs.fr hf (n 6 (by decide) (by decide) (by decide))⟩, ⟨h.cl.fr hf (n 0 (by decide) (by decide) (by decide)) (n 7 (by decide) (by decide) (by decide)), h.hmc, h.cs.fr hf (n 0 (by decide) (by decide) (by decide)) (n 8 (by decide) (by decide) (by decide))⟩, h.rv⟩
end CWQ
theorem setws_self (x : AS) : setws x x.ws = x := rfl
theorem unl_all {w : List Bool} {a b : Nat} : unl w a b = w.length ↔ ∀ j, j < w.length → wc w (a + j) = wc w (b + j) := by
  obtain ⟨h1, h2, h3⟩ := unl_spec w a b
  constructor
  · intro e j hj; exact h1 j (by omega)
  · intro h
    exact unl_eq (Nat.le_refl _) h (fun q => absurd q (Nat.lt_irrefl _))
theorem wc_per {w : List Bool} (h0 : 0 < w.length) {a b : Nat} (h : ∀ j, j < w.length → wc w (a + j) = wc w (b + j)) (j : Nat) : wc w (a + j) = wc w (b + j) := by
  have e := h (j % w.length) (Nat.mod_lt _ h0)
  have e1 : ∀ c, wc w (c + j % w.length) = wc w (c + j) := fun c => by unfold wc; rw [Nat.add_mod_mod]
  rw [e1, e1] at e
  exact e
theorem wc_turned {w : List Bool} (b : Nat) (h0 : 0 < w.length) (k : Nat) : wc (wTurned w b) k = wc w (k + b) := by
  have hl := wTurned_len w b
  have : wc (wTurned w b) k = wl (wTurned w b) (k % w.length) := by unfold wc; rw [hl]
  rw [this, wTurned_at w b (Nat.mod_lt _ h0), wc_mod]
/-- turning keeps the period -/
theorem wPeriod_turned (w : List Bool) (b : Nat) (h0 : 0 < w.length) : wPeriod (wTurned w b) = wPeriod w := by
  have hl := wTurned_len w b
  have key : ∀ k, unl (wTurned w b) k 0 = (wTurned w b).length ↔ unl w k 0 = w.length := by
    intro k
    rw [unl_all, unl_all, hl]
    constructor
    · intro h j hj
      have h2 : ∀ j, wc (wTurned w b) (k + j) = wc (wTurned w b) (0 + j) := wc_per (by rw [hl]; exact h0) (by rw [hl]; exact h)
      have h3 := h2 (j + (w.length - b % w.length))
      rw [wc_turned b h0, wc_turned b h0] at h3
      have hb := Nat.mod_lt b h0
      have hd := Nat.div_add_mod b w.length
      have e : ∀ c, wc w (c + (j + (w.length - b % w.length)) + b) = wc w (c + j) := by
        intro c
        have : c + (j + (w.length - b % w.length)) + b = (c + j) + w.length * (b / w.length + 1) := by rw [Nat.mul_add, Nat.mul_one]; omega
        unfold wc
        rw [this, Nat.add_mul_mod_self_left]
      rw [e, e] at h3
      exact h3
    · intro h j hj
      rw [wc_turned b h0, wc_turned b h0, Nat.add_assoc, Nat.add_assoc]
      exact wc_per h0 h (j + b)
  obtain ⟨p1, p2, p3⟩ := wPeriod_b w h0
  apply wPeriod_eq _ _ (by rw [hl]; exact h0) p1
  · intro j j1 j2 e
    exact wPeriod_lt w j j1 j2 ((key j).mp e)
  · exact (key _).mpr p3
