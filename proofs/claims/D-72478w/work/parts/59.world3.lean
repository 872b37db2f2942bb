/-! the component's forms and cycles -/
set_option maxRecDepth 100000
def FLS (G : Gh) (els : List Nat) (l : List Fm) (cy nx bk mr : Nat → Int) : Prop := els.length = l.length ∧ (∀ k : Nat, k < l.length → FRM G (els.getD k 0) 6 (fat l k) (cy k) (nx k) (bk k) (mr k)) ∧ ∀ i j : Nat, i < l.length → j < l.length → els.getD i 0 = els.getD j 0 → i = j
theorem FLS.fr {G G' : Gh} {els : List Nat} {l : List Fm} {cy nx bk mr : Nat → Int} {ts : List Nat} (h : FLS G els l cy nx bk mr) (hf : FR ts G G') (h6 : 6 ∉ ts) : FLS G' els l cy nx bk mr := ⟨h.1, fun k hk => (h.2.1 k hk).fr hf h6, h.2.2⟩
theorem FLS.eq {G : Gh} {els : List Nat} {l : List Fm} {cy nx bk mr cy' nx' bk' mr' : Nat → Int} (h : FLS G els l cy nx bk mr) (h1 : ∀ k, k < l.length → cy' k = cy k ∧ nx' k = nx k ∧ bk' k = bk k ∧ mr' k = mr k) : FLS G els l cy' nx' bk' mr' :=
  ⟨h.1, fun k hk => by obtain ⟨e1, e2, e3, e4⟩ := h1 k hk; rw [e1, e2, e3, e4]; exact h.2.1 k hk, h.2.2⟩
def updz (f : Nat → Int) (k : Nat) (z : Int) : Nat → Int := fun j => if j = k then z else f j
theorem updz_eq (f : Nat → Int) (k : Nat) (z : Int) : updz f k z k = z := if_pos rfl
theorem updz_ne (f : Nat → Int) {k j : Nat} (z : Int) (h : j ≠ k) : updz f k z j = f j := if_neg h
theorem updz_self (f : Nat → Int) (k : Nat) : updz f k (f k) = f := by
  funext j
  unfold updz
  split
  · rename_i e; rw [e]
  · rfl
theorem FLS.set {G : Gh} {els : List Nat} {l : List Fm} {cy nx bk mr : Nat → Int} (h : FLS G els l cy nx bk mr) {k : Nat} (hk : k < l.length) (c n b m : Int) : FLS (gup G (els.getD k 0) (6, .inl (5, [.int (iI (fat l k).1), .int (iI (fat l k).2.1), .int (iI (fat l k).2.2), .int (iI c), .int (iI n), .int (iI b), .int (iI m)]))) els l (updz cy k c) (updz nx k n) (updz bk k b) (updz mr k m) := by
  refine ⟨h.1, fun j hj => ?_, h.2.2⟩
  by_cases e : j = k
  · subst e
    unfold FRM
    rw [updz_eq, updz_eq, updz_eq, updz_eq, gup_eq]
  · rw [updz_ne _ _ e, updz_ne _ _ e, updz_ne _ _ e, updz_ne _ _ e]
    unfold FRM
    rw [gup_ne _ _ (fun q => e (h.2.2 j k hj hk q))]
    exact h.2.1 j hj
theorem FLS.nil {G : Gh} {cy nx bk mr : Nat → Int} : FLS G [] [] cy nx bk mr := ⟨rfl, fun k hk => absurd hk (Nat.not_lt_zero _), fun i j hi => absurd hi (Nat.not_lt_zero _)⟩
theorem getD_last {els : List Nat} {x : Nat} : (els ++ [x]).getD els.length 0 = x := by
  rw [List.getD_eq_getElem?_getD]
  simp
theorem fat_app1 {l : List Fm} {f : Fm} {j : Nat} (h : j < l.length) : fat (l ++ [f]) j = fat l j := by
  unfold fat
  rw [List.getD_eq_getElem?_getD, List.getD_eq_getElem?_getD, List.getElem?_append_left h]
theorem fat_last {l : List Fm} {f : Fm} : fat (l ++ [f]) l.length = f := by
  unfold fat
  rw [List.getD_eq_getElem?_getD]
  simp
/-- one more form at a new address -/
theorem FLS.push {G G' : Gh} {els : List Nat} {l : List Fm} {c n b m : Int} {x : Nat} {f : Fm} (h : FLS G els l (fun _ => c) (fun _ => n) (fun _ => b) (fun _ => m)) (hx : G x = none) (h' : FLS G' els l (fun _ => c) (fun _ => n) (fun _ => b) (fun _ => m)) (hf : FRM G' x 6 f c n b m) : FLS G' (els ++ [x]) (l ++ [f]) (fun _ => c) (fun _ => n) (fun _ => b) (fun _ => m) := by
  have hl : (l ++ [f]).length = l.length + 1 := by simp
  have hfresh : ∀ j, j < l.length → els.getD j 0 ≠ x := fun j hj e => by
    have := h.2.1 j hj
    rw [e] at this
    unfold FRM at this
    rw [hx] at this
    cases this
  refine ⟨by simp [h.1], fun k hk => ?_, fun i j hi hj e => ?_⟩
  · by_cases e : k = l.length
    · subst e
      rw [fat_last, ← h.1, getD_last]
      exact hf
    · rw [fat_app1 (by omega), getD_app1 (by rw [h.1]; omega)]
      exact h'.2.1 k (by omega)
  · by_cases ei : i = l.length
    · by_cases ej : j = l.length
      · omega
      · rw [ei, ← h.1, getD_last, getD_app1 (by rw [h.1]; omega)] at e
        exact absurd e.symm (hfresh j (by omega))
    · by_cases ej : j = l.length
      · rw [ej, ← h.1, getD_last, getD_app1 (by rw [h.1]; omega)] at e
        exact absurd e (hfresh i (by omega))
      · rw [getD_app1 (by rw [h.1]; omega), getD_app1 (by rw [h.1]; omega)] at e
        exact h.2.2 i j (by omega) (by omega) e
theorem FLS.obj {G : Gh} {els : List Nat} {l : List Fm} {cy nx bk mr : Nat → Int} (h : FLS G els l cy nx bk mr) : ∀ j : Nat, j < els.length → isObj G (.ref (els.getD j 0)) := fun j hj => Or.inr ⟨_, _, _, _, rfl, h.2.1 j (by rw [← h.1]; exact hj)⟩
theorem nof_at {l : List Fm} {f : Fm} {i : Nat} (hi : i < l.length) (h : ∀ j, j < i → fat l j ≠ f) (he : fat l i = f) : nof l f = (i : Int) := by
  have : ix l f = i := fstN_eq (by omega) (fun j hj => decide_eq_false (h j hj)) (fun _ => decide_eq_true he)
  unfold nof
  rw [this, if_pos hi]
theorem nof_none {l : List Fm} {f : Fm} (h : ∀ j, j < l.length → fat l j ≠ f) : nof l f = NON := by
  have : ix l f = l.length := fstN_eq (Nat.le_refl _) (fun j hj => decide_eq_false (h j hj)) (fun hh => absurd hh (Nat.lt_irrefl _))
  unfold nof
  rw [this, if_neg (Nat.lt_irrefl _)]
theorem FB.i {f : Fm} (h : FB f) : i32 f.1 ∧ i32 f.2.1 ∧ i32 f.2.2 := by
  obtain ⟨h1, h2, h3⟩ := h
  refine ⟨?_, ?_, ?_⟩ <;> unfold i32 <;> omega
/-- the words of cycles, letter by letter -/
def wpre (l : List Fm) (k i : Nat) : List Bool := (List.range i).map (fun t => !fLeft (fat l (it (nxt l) t k)))
theorem wpre_len (l : List Fm) (k i : Nat) : (wpre l k i).length = i := by simp [wpre]
theorem wpre_s (l : List Fm) (k i : Nat) : wpre l k (i + 1) = wpre l k i ++ [!fLeft (fat l (it (nxt l) i k))] := by
  unfold wpre
  rw [List.range_succ, List.map_append]
  rfl
/-- the marks behind i steps -/
def cyI (l : List Fm) (k : Nat) (c : Int) (cy : Nat → Int) (i : Nat) : Nat → Int := fun j => if mrk (nxt l) k i j then c else cy j
theorem cyI_0 (l : List Fm) (k : Nat) (c : Int) (cy : Nat → Int) : cyI l k c cy 0 = cy := by
  funext j
  unfold cyI
  rw [mrk_0, if_neg (by decide)]
theorem cyI_s (l : List Fm) (k : Nat) (c : Int) (cy : Nat → Int) (i : Nat) : cyI l k c cy (i + 1) = updz (cyI l k c cy i) (it (nxt l) i k) c := by
  funext j
  unfold cyI updz
  rw [mrk_s]
  by_cases e : j = it (nxt l) i k
  · rw [if_pos e, e, decide_eq_true rfl, Bool.or_true, if_pos rfl]
  · rw [if_neg e, decide_eq_false (fun q => e q.symm), Bool.or_false]
theorem mrk_per {nx : Nat → Nat} {n k j : Nat} : mrk nx k (per nx n k) j = inOrb nx n k j := rfl
section ADD
variable {Z : ZC} {y : MethodName} {cc : ByteArray} {nL : Nat} {rt : Option FieldType} {R : Room} {n s pc : Nat} {lv : List (Option Value)} {rest : List Value} {G0 : Gh}
/-- one more in a list; the slots used so far are c0 and four times the room -/
theorem r_addA {own : String} {idx a t m c0 x : Nat} {els : List Nat} (h : LST (zX Z) G0 a t els m) (ht : t ≠ 0) (hm : els.length ≤ 1800) (hob : ∀ j : Nat, j < els.length → isObj G0 (.ref (els.getD j 0))) (hx : ∃ tx ci fs, tx ≠ t ∧ G0 x = some (tx, .inl (ci, fs))) (hR : 7 ≤ R.frames ∧ 171 ≤ R.locals) (hr : (rest.map fun v => v.category).sum ≤ 8) (hc : n + 1 ≤ R.cells ∧ c0 + 4 * m ≤ R.slots ∧ (els.length = m → c0 + 4 * gcap m ≤ R.slots)) (C : CC Z y cc nL rt R) (d : decode cc pc = .ok (.invokevirtual idx, 3)) (ho : y.cls = own) (hw : GoodIn lw_all (wsV own idx RJ6 yJ6_add (ws_ yJ6_add cJ6_add 2 (some .boolean))))
    (kk : ∀ (G' : Gh) (m' : Nat), LST (zX Z) G' a t (els ++ [x]) m' → (m' = m ∨ (els.length = m ∧ m' = gcap m)) → FR [t] G0 G' → WW Z nL (fun x => x = G') (n + 1) (c0 + 4 * m') (pc + 3) lv (.int (iI 1) :: rest)) : WW Z nL (fun x => x = G0) n (c0 + 4 * m) pc lv (.ref x :: .ref a :: rest) := by
  obtain ⟨e, f, mc, hr1⟩ := id h
  have hlen : els.length ≤ m := hr1.1
  by_cases hlt : els.length < m
  · refine r_invV (ci := 8) 1 C d (jl_add h ht hlt hx) (gLs h) (show vwC[8]? = some (RJ6, TJ6, 3) from rfl) ho hw (by decide +kernel) rfl rfl ⟨by show 1 + 1 ≤ _; omega, by show 8 + (2 + 11) + 23 ≤ _; omega⟩ hr ⟨by show n + 0 ≤ _; omega, by show _ + 0 ≤ _; omega⟩ (fun v G' hv => ?_)
    obtain ⟨rfl, q1, q2⟩ := hv
    exact ww_wide (n' := n + 1) (s' := c0 + 4 * m) (by show n + 0 ≤ _; omega) (by show _ + 0 ≤ _; omega) (kk G' m q1 (Or.inl rfl) q2)
  · have he : els.length = m := by omega
    have hc3 := hc.2.2 he
    have hg : gcap m + 4 * m ≤ 4 * gcap m := by
      rcases hr1.2.2.2.2 with z | z
      · rw [z.1]; decide
      · unfold gcap; rw [if_neg (by omega)]; omega
    refine r_invV (ci := 8) 1 C d (jl_addg h ht he (by omega) hob hx) (gLs h) (show vwC[8]? = some (RJ6, TJ6, 3) from rfl) ho hw (by decide +kernel) rfl rfl ⟨by show 6 + 1 ≤ _; omega, by show 8 + (2 + 11) + 150 ≤ _; omega⟩ hr ⟨by show n + 1 ≤ _; omega, by show _ + gcap m ≤ _; omega⟩ (fun v G' hv => ?_)
    obtain ⟨rfl, q1, q2⟩ := hv
    exact ww_wide (n' := n + 1) (s' := c0 + 4 * gcap m) (by show n + 1 ≤ _; omega) (by show _ + gcap m ≤ _; omega) (kk G' (gcap m) q1 (Or.inr ⟨he, rfl⟩) q2)
end ADD
theorem cnt_or {p q : Nat → Bool} {n : Nat} (h : ∀ k, k < n → ¬ (p k = true ∧ q k = true)) : cnt (fun k => p k || q k) n = cnt p n + cnt q n := by
  induction n with
  | zero => rfl
  | succ n ih =>
    rw [cnt_s, cnt_s, cnt_s, ih (fun k hk => h k (by omega))]
    have := h n (by omega)
    cases hp : p n <;> cases hq : q n <;> simp [bi, hp, hq] at this ⊢ <;> omega
/-- how many are marked -/
def mkd (n : Nat) (cy : Nat → Int) : Int := cnt (fun j => decide (cy j ≠ NON)) n
theorem mkd_cyI {l : List Fm} (hp : isPerm (nxt l) l.length) {k : Nat} (hk : k < l.length) {c : Int} (hc : c ≠ NON) {cy : Nat → Int} (hfree : ∀ i, cy (it (nxt l) i k) = NON) : mkd l.length (cyI l k c cy (per (nxt l) l.length k)) = mkd l.length cy + per (nxt l) l.length k := by
  have e : ∀ j, decide (cyI l k c cy (per (nxt l) l.length k) j ≠ NON) = (decide (cy j ≠ NON) || mrk (nxt l) k (per (nxt l) l.length k) j) := by
    intro j
    unfold cyI
    cases hq : mrk (nxt l) k (per (nxt l) l.length k) j with
    | true => rw [if_pos rfl, Bool.or_true]; exact decide_eq_true hc
    | false => rw [if_neg (by decide), Bool.or_false]
  unfold mkd
  rw [cnt_congr (fun j _ => e j), cnt_or (fun j hj h => ?_)]
  · congr 1
    have h1 := sum_orb hp hk (fun _ => 1) (per (nxt l) l.length k) (Nat.le_refl _)
    rw [sumN_c] at h1
    rw [Int.one_mul] at h1
    rw [← h1]
    exact sumN_congr (fun j _ => by unfold bi; rfl)
  · obtain ⟨t, t1, t2⟩ := mrk_iff.mp h.2
    have := hfree t
    rw [t2] at this
    exact absurd this (of_decide_eq_true h.1)
theorem mkd_le (n : Nat) (cy : Nat → Int) : 0 ≤ mkd n cy ∧ mkd n cy ≤ n := cnt_b _ _
