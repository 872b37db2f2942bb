/-! lists: what an ArrayList holds -/
set_option maxRecDepth 100000
def LSTr (X : XE) (G : Gh) (a t : Nat) (els : List Nat) (m e : Nat) (f : Nat → Value) (mc : Int) : Prop := els.length ≤ m ∧ m ≤ 2700 ∧ G a = some (t, .inl (8, [.int (iI mc), .ref e, .int (iI (els.length : Nat))])) ∧ (∀ j : Nat, j < els.length → f j = .ref (els.getD j 0)) ∧ ((m = 0 ∧ e = X.2.2 6 ∧ G e = some (0, .inr (2, 0, f))) ∨ (10 ≤ m ∧ G e = some (t, .inr (2, m, f))))
/-- an ArrayList of owner t that holds the objects els, with room m -/
def LST (X : XE) (G : Gh) (a t : Nat) (els : List Nat) (m : Nat) : Prop := ∃ e f mc, LSTr X G a t els m e f mc
/-- the room behind a growth -/
def gcap (m : Nat) : Nat := if m = 0 then 10 else m + m / 2
theorem LSTr.fr {X : XE} {G G' : Gh} {a t m e : Nat} {els : List Nat} {f : Nat → Value} {mc : Int} {ts : List Nat} (h : LSTr X G a t els m e f mc) (hf : FR ts G G') (h0 : 0 ∉ ts) (ht : t ∉ ts) : LSTr X G' a t els m e f mc := by
  obtain ⟨h1, h2, h3, h4, h5⟩ := h
  refine ⟨h1, h2, hf _ _ h3 ht, h4, ?_⟩
  rcases h5 with ⟨g1, g2, g3⟩ | ⟨g1, g2⟩
  · exact Or.inl ⟨g1, g2, hf _ _ g3 h0⟩
  · exact Or.inr ⟨g1, hf _ _ g2 ht⟩
theorem LST.fr {X : XE} {G G' : Gh} {a t m : Nat} {els : List Nat} {ts : List Nat} (h : LST X G a t els m) (hf : FR ts G G') (h0 : 0 ∉ ts) (ht : t ∉ ts) : LST X G' a t els m := by
  obtain ⟨e, f, mc, h⟩ := h
  exact ⟨e, f, mc, h.fr hf h0 ht⟩
theorem LST.obj {X : XE} {G : Gh} {a t m : Nat} {els : List Nat} (h : LST X G a t els m) : ∃ fs, G a = some (t, .inl (8, fs)) := by
  obtain ⟨e, f, mc, h⟩ := h
  exact ⟨_, h.2.2.1⟩
theorem isObj.fr {G G' : Gh} {ts : List Nat} {v : Value} (h : isObj G v) (hf : ∀ b q, G b = some q → ∃ q', G' b = some q' ∧ ((∃ o, q.2 = .inl o) → ∃ o, q'.2 = .inl o)) : isObj G' v := by
  rcases h with h | ⟨b, t, ci, fs, h1, h2⟩
  · exact Or.inl h
  · obtain ⟨⟨t', e⟩, g1, g2⟩ := hf b _ h2
    obtain ⟨⟨ci', fs'⟩, g3⟩ := g2 ⟨_, rfl⟩
    refine Or.inr ⟨b, t', ci', fs', h1, ?_⟩
    rw [g1]
    have : e = .inl (ci', fs') := g3
    rw [this]
theorem isObj.up {G : Gh} {x : Nat} {p : Nat × GE} {v : Value} (h : isObj G v) (n : G x = none) : isObj (gup G x p) v := by
  rcases h with h | ⟨b, t, ci, fs, h1, h2⟩
  · exact Or.inl h
  · exact Or.inr ⟨b, t, ci, fs, h1, up0 n h2⟩
theorem isObj.P1 {a t ci : Nat} {fs : List Value} {G0 G : Gh} {v : Value} (h : isObj G0 v) (hp : P1 a t ci fs G0 G) : isObj G v := by
  rcases h with h | ⟨b, t', ci', fs', h1, h2⟩
  · exact Or.inl h
  · by_cases e : b = a
    · exact Or.inr ⟨b, _, _, _, h1, by rw [e]; exact hp.1⟩
    · exact Or.inr ⟨b, _, _, _, h1, hp.2 b _ h2 e⟩
theorem isObj.P2 {a t ci b u k N : Nat} {fs : List Value} {f : Nat → Value} {G0 G : Gh} {v : Value} {q : Nat × Nat × Nat × (Nat → Value)} (h : isObj G0 v) (hp : P2 a t ci fs b u k N f G0 G) (hb : G0 b = some (q.1, .inr q.2) ∨ G0 b = none) : isObj G v := by
  rcases h with h | ⟨c, t', ci', fs', h1, h2⟩
  · exact Or.inl h
  · by_cases e : c = a
    · exact Or.inr ⟨c, _, _, _, h1, by rw [e]; exact hp.1⟩
    · refine Or.inr ⟨c, _, _, _, h1, hp.2.2 c _ h2 e (fun e2 => ?_)⟩
      rw [e2] at h2
      rcases hb with hb | hb <;> rw [hb] at h2 <;> cases h2
section COPYO
variable {Z : ZC} {y : MethodName} {cc : ByteArray} {nL : Nat} {rt : Option FieldType} {R : Room} {n s pc : Nat} {lv : List (Option Value)} {st : List Value} {G0 : Gh}
/-- a copy of references into a new array -/
theorem r_copyOE {idx a0 a t0 t n0 n1 : Nat} {f g : Nat → Value} {sp dp m : Int} {F : Nat → Value} (C : CC Z y cc nL rt R) (d : decode cc pc = .ok (.invokestatic idx, 3)) (hlink : Cond.methodLink y.cls idx arraycopyName ∈ lw_all) (ht : t ≠ 0) (h0 : G0 a0 = some (t0, .inr (2, n0, f))) (ha : G0 a = none) (hF : F = cpyV f g sp.toNat dp.toNat m.toNat) (hob : ∀ i, i < m.toNat → isObj G0 (f (sp.toNat + i)))
    (h1 : 0 ≤ sp) (h2 : 0 ≤ dp) (h3 : 0 ≤ m) (h4 : sp + m ≤ n0) (h5 : dp + m ≤ n1) (hn0 : i32 n0) (hn1 : i32 n1) (hfr : 1 ≤ R.frames) (hlo : (st.map fun v => v.category).sum + (nativeFrameWords "java/lang/System" "arraycopy" 5 + 11) ≤ R.locals)
    (kk : WW Z nL (fun z => z = gup G0 a (t, .inr (2, n1, F))) n s (pc + 3) lv st) : WW Z nL (fun z => z = gup G0 a (t, .inr (2, n1, g))) n s pc lv (.int (iI m) :: .int (iI dp) :: .ref a :: .int (iI sp) :: .ref a0 :: st) :=
  r_copyO C d rfl hlink q364 q363 q95 ht (fun G hG => by
    have e : G = gup G0 a (t, .inr (2, n1, g)) := hG
    subst e
    refine ⟨?_, gup_eq _ _ _, fun i hi => (hob i hi).up ha, ?_⟩
    · exact up0 ha h0
    · show gup (gup G0 a _) a _ = _
      rw [gup_gup, hF]) h1 h2 h3 h4 h5 hn0 hn1 hfr hlo kk
end COPYO
theorem getD_app1 {els : List Nat} {x j : Nat} (h : j < els.length) : (els ++ [x]).getD j 0 = els.getD j 0 := by
  rw [List.getD_eq_getElem?_getD, List.getD_eq_getElem?_getD, List.getElem?_append_left h]
theorem LSTr.push {X : XE} {G0 G : Gh} {a t m e x : Nat} {els : List Nat} {f : Nat → Value} {mc n : Int} (h : LSTr X G0 a t els m e f mc) (hfit : els.length < m) (hn : n = (els.length : Int) + 1) (h1 : G a = some (t, .inl (8, [.int (iI mc), .ref e, .int (iI n)]))) (h2 : G e = some (t, .inr (2, m, vup f els.length (.ref x)))) (l3 : 10 ≤ m) : LSTr X G a t (els ++ [x]) m e (vup f els.length (.ref x)) mc := by
  have hl : (els ++ [x]).length = els.length + 1 := by simp
  refine ⟨by omega, h.2.1, ?_, fun j hj => ?_, Or.inr ⟨l3, h2⟩⟩
  · rw [h1, hn, hl]
    rfl
  · unfold vup
    by_cases e1 : j = els.length
    · rw [if_pos e1, e1, List.getD_eq_getElem?_getD]
      simp
    · rw [if_neg e1, getD_app1 (by omega)]
      exact h.2.2.2.1 j (by omega)
theorem LSTr.pop {X : XE} {G0 G : Gh} {a t m e : Nat} {els : List Nat} {f : Nat → Value} {mc n : Int} {mc' : Int} (h : LSTr X G0 a t els m e f mc) (hne : 0 < els.length) (hn : n = (els.length : Int) - 1) (h1 : G a = some (t, .inl (8, [.int (iI mc'), .ref e, .int (iI n)]))) (h2 : G e = some (t, .inr (2, m, vup f n.toNat .null))) (l3 : 10 ≤ m) : LSTr X G a t els.dropLast m e (vup f n.toNat .null) mc' := by
  have hl : els.dropLast.length = els.length - 1 := by simp
  refine ⟨by have := h.1; omega, h.2.1, ?_, fun j hj => ?_, Or.inr ⟨l3, h2⟩⟩
  · rw [h1, hn, hl, show ((els.length : Int) - 1) = ((els.length - 1 : Nat) : Int) by omega]
  · unfold vup
    rw [if_neg (by omega), h.2.2.2.1 j (by omega), List.getD_eq_getElem?_getD, List.getD_eq_getElem?_getD, List.getElem?_dropLast, if_pos (by omega)]
/-- another number of changes -/
theorem LSTr.touch {X : XE} {G0 G : Gh} {a t m e : Nat} {els : List Nat} {f : Nat → Value} {mc mc' : Int} (h : LSTr X G0 a t els m e f mc) (hp : P1 a t 8 [.int (iI mc'), .ref e, .int (iI (els.length : Nat))] G0 G) : LSTr X G a t els m e f mc' := by
  obtain ⟨h1, h2, h3, h4, h5⟩ := h
  refine ⟨h1, h2, hp.1, h4, ?_⟩
  rcases h5 with ⟨g1, g2, g3⟩ | ⟨g1, g2⟩
  · exact Or.inl ⟨g1, g2, hp.2 _ _ g3 (fun z => by rw [z, h3] at g3; cases g3)⟩
  · exact Or.inr ⟨g1, hp.2 _ _ g2 (fun z => by rw [z, h3] at g2; cases g2)⟩
