/-! the component's world -/
set_option maxRecDepth 100000
def TAB (G : Gh) (a : Nat) (q : Int × Int × Int × Int) : Prop := G a = some (0, .inl (1, [.int (iI q.1), .int (iI q.2.1), .int (iI q.2.2.1), .int (iI q.2.2.2)]))
/-- a Form of owner t: its numbers; its cycle, next, back, mirror -/
def FRM (G : Gh) (a t : Nat) (f : Fm) (c n b m : Int) : Prop := G a = some (t, .inl (5, [.int (iI f.1), .int (iI f.2.1), .int (iI f.2.2), .int (iI c), .int (iI n), .int (iI b), .int (iI m)]))
/-- a Road of owner t -/
def ROAD (G : Gh) (xh a t : Nat) (w : List Bool) : Prop := ∃ s tb, G a = some (t, .inl (4, [.ref s, .ref tb, .ref xh])) ∧ STR G s (txt w) ∧ TAB G tb (wTab w)
/-- a Cycle: its least form, its word -/
def CYC (G : Gh) (xh a : Nat) (least : Int) (w : List Bool) : Prop := ∃ s m, G a = some (0, .inl (6, [.int (iI least), .ref s, .ref xh])) ∧ SB G s 8 (txt w) m
theorem TAB.fr {G G' : Gh} {a : Nat} {q : Int × Int × Int × Int} {ts : List Nat} (h : TAB G a q) (hf : FR ts G G') (h0 : 0 ∉ ts) : TAB G' a q := hf _ _ h h0
theorem FRM.fr {G G' : Gh} {a t : Nat} {f : Fm} {c n b m : Int} {ts : List Nat} (h : FRM G a t f c n b m) (hf : FR ts G G') (ht : t ∉ ts) : FRM G' a t f c n b m := hf _ _ h ht
theorem ROAD.fr {G G' : Gh} {xh a t : Nat} {w : List Bool} {ts : List Nat} (h : ROAD G xh a t w) (hf : FR ts G G') (h0 : 0 ∉ ts) (ht : t ∉ ts) : ROAD G' xh a t w := by
  obtain ⟨s, tb, h1, h2, h3⟩ := h
  exact ⟨s, tb, hf _ _ h1 ht, h2.fr hf h0, h3.fr hf h0⟩
theorem CYC.fr {G G' : Gh} {xh a : Nat} {k : Int} {w : List Bool} {ts : List Nat} (h : CYC G xh a k w) (hf : FR ts G G') (h0 : 0 ∉ ts) (h8 : 8 ∉ ts) : CYC G' xh a k w := by
  obtain ⟨s, m, h1, h2⟩ := h
  exact ⟨s, m, hf _ _ h1 h0, h2.fr hf h8⟩
/-- an object is made: nobody writes it any more -/
theorem frz1 {G0 G : Gh} {a ci t : Nat} {fs : List Value} (ha : G0 a = none) (h1 : G a = some (t, .inl (ci, fs))) (hf : FR [] G0 G) : ∃ G', (G' a = some (0, .inl (ci, fs)) ∧ FR [] G0 G' ∧ (∀ c q, G c = some q → c ≠ a → G' c = some q)) ∧ ∀ c q, G' c = some q → ∃ t, G c = some (t, q.2) ∧ (q.1 ≠ 0 → t ≠ 0) := by
  refine ⟨gup G a (0, .inl (ci, fs)), ⟨gup_eq _ _ _, ?_, ?_⟩, ?_⟩
  · intro c q hc _
    rw [gup_ne _ _ (fun e => by rw [e, ha] at hc; cases hc)]
    exact hf c q hc (List.not_mem_nil)
  · intro c q hc hca
    rw [gup_ne _ _ hca]
    exact hc
  · intro c q hc
    by_cases e : c = a
    · subst e
      rw [gup_eq] at hc
      cases hc
      exact ⟨t, h1, fun h => absurd rfl h⟩
    · rw [gup_ne _ _ e] at hc
      exact ⟨q.1, hc, fun h => h⟩
/-- a freshly made object that its constructor has filled -/
theorem FR.made {G0 G : Gh} {a t ci : Nat} {fs : List Value} {p : Nat × GE} (n : G0 a = none) (h : P1 a t ci fs (gup G0 a p) G) : FR [] G0 G := fun c q hc _ => h.2 c q (up0 n hc) (fun e => by rw [e, n] at hc; cases hc)
theorem gS {G0 : Gh} {a : Nat} {w : Tx} (h : STR G0 a w) : ∀ G, G = G0 → ∃ t fs, G a = some (t, .inl (7, fs)) := by
  obtain ⟨-, -, b, f, q, z, k1, -⟩ := h
  exact g2 k1
theorem gB {G0 : Gh} {a t m : Nat} {w : Tx} (h : SB G0 a t w m) : ∀ G, G = G0 → ∃ t fs, G a = some (t, .inl (9, fs)) := by
  obtain ⟨-, -, -, b, f, mb, k1, -⟩ := h
  exact g2 k1
theorem gRd {G0 : Gh} {xh a t : Nat} {w : List Bool} (h : ROAD G0 xh a t w) : ∀ G, G = G0 → ∃ t fs, G a = some (t, .inl (4, fs)) := by
  obtain ⟨s, tb, k1, -⟩ := h
  exact g2 k1
theorem gCy {G0 : Gh} {xh a : Nat} {k : Int} {w : List Bool} (h : CYC G0 xh a k w) : ∀ G, G = G0 → ∃ t fs, G a = some (t, .inl (6, fs)) := by
  obtain ⟨s, m, k1, -⟩ := h
  exact g2 k1
theorem gLs {X : XE} {G0 : Gh} {a t m : Nat} {els : List Nat} (h : LST X G0 a t els m) : ∀ G, G = G0 → ∃ t fs, G a = some (t, .inl (8, fs)) := by
  obtain ⟨fs, k1⟩ := h.obj
  exact g2 k1
theorem b2_bi {p : Prop} [Decidable p] {b : Bool} (h : p ↔ b = true) : b2 p = bi b := by
  unfold b2 bi
  by_cases q : p
  · rw [if_pos q, if_pos (h.mp q)]
  · rw [if_neg q, if_neg (fun e => q (h.mpr e))]
theorem bi_b2 (b : Bool) : bi b = b2 (b = true) := (b2_bi Iff.rfl).symm
theorem cnt_not (p : Nat → Bool) (n : Nat) : cnt p n + cnt (fun k => !p k) n = n := by
  induction n with
  | zero => rfl
  | succ n ih =>
    rw [cnt_s, cnt_s]
    have : bi (p n) + bi (!p n) = 1 := by cases p n <;> rfl
    omega
theorem many_L (w : List Bool) : cnt (fun k => wl w k == false) w.length = wLefts w := cnt_congr (fun k _ => by cases wl w k <;> rfl)
theorem many_R (w : List Bool) : cnt (fun k => wl w k == true) w.length = w.length - wLefts w := by
  have h := cnt_not (fun k => wl w k) w.length
  have e : cnt (fun k => wl w k == true) w.length = cnt (fun k => wl w k) w.length := cnt_congr (fun k _ => by cases wl w k <;> rfl)
  unfold wLefts
  rw [e]
  omega
