/-! BASE: ghost heaps, the judgement WW over an assertion on ghost heaps, contracts MG -/
set_option maxRecDepth 100000
/-- the classes whose objects the worlds hold: 0 RiverWords, 1 Table, 2 Model, 3 Reader, 4 Road, 5 Form, 6 Cycle, 7 String, 8 ArrayList, 9 StringBuilder -/
abbrev vwC : List vw_C := [(RX0, TX0, 10), (RX1, TX1, 4), (RX2, TX2, 35), (RX3, TX3, 2), (RX4, TX4, 3), (RX6, TX6, 7), (RX7, TX7, 3), (RJ0, TJ0, 4), (RJ6, TJ6, 3), (RJ8, TJ8, 4)]
/-- a ghost cell: an object (class, fields), or an array (kind, length, contents) -/
abbrev GE : Type := (Nat × List Value) ⊕ (Nat × Nat × (Nat → Value))
/-- a ghost heap: an owner's number (0: nobody writes) and a ghost cell -/
abbrev Gh : Type := Nat → Option (Nat × GE)
/-- classes' numbers and slots; the first address of ours; addresses of constants -/
abbrev XE : Type := va_G × Nat × (Nat → Nat)
abbrev KC : Type := Program × Launch × Env × State × MethodId × Array Value × List Frame × Method × Code × Room × (State → Prop)
abbrev ZC : Type := XE × KC
abbrev zX (Z : ZC) : XE := Z.1
abbrev zB (Z : ZC) : Nat := Z.1.2.1
abbrev zp (Z : ZC) : Program := Z.2.1
abbrev zl (Z : ZC) : Launch := Z.2.2.1
abbrev ze (Z : ZC) : Env := Z.2.2.2.1
abbrev zs (Z : ZC) : State := Z.2.2.2.2.1
abbrev zm (Z : ZC) : MethodId := Z.2.2.2.2.2.1
abbrev za (Z : ZC) : Array Value := Z.2.2.2.2.2.2.1
abbrev zw (Z : ZC) : List Frame := Z.2.2.2.2.2.2.2.1
abbrev zt (Z : ZC) : Method := Z.2.2.2.2.2.2.2.2.1
abbrev zc (Z : ZC) : Code := Z.2.2.2.2.2.2.2.2.2.1
abbrev zR (Z : ZC) : Room := Z.2.2.2.2.2.2.2.2.2.2.1
abbrev zQ (Z : ZC) : State → Prop := Z.2.2.2.2.2.2.2.2.2.2.2
def aty (k : Nat) : FieldType := match k with
  | 0 => .int
  | 1 => .byte
  | _ => .object "java/lang/Object"
def gobj (X : XE) (H : Heap) (a t ci : Nat) (fs : List Value) : Prop := ∃ (r : vw_C) (cell : Cell), vwC[ci]? = some r ∧ H[a]? = some cell ∧ cell.cls = X.1.1 ci ∧ cell.vm.isStatics = false ∧ cell.vm ≠ .unknown ∧ (t ≠ 0 → cell.vm = .none) ∧ ∀ k, k < r.2.2 → cell.slots[X.1.2 ci k]? = some (vp_V fs k)
def gown (s : State) (cell : Cell) (t k n : Nat) (f : Nat → Value) : Prop := (k = 2 → s.vm.findClass "[Ljava/lang/Object;" = some cell.cls) ∧ (t ≠ 0 → k = 1 → cell.slots.size = n ∧ s.vm.findClass "[B" = some cell.cls ∧ ∀ j, j < n → fits .byte (f j) = true)
def garr (s : State) (H : Heap) (a t k n : Nat) (f : Nat → Value) : Prop := ∃ cell : Cell, H[a]? = some cell ∧ s.isArrayOf cell (aty k) ∧ cell.vm ≠ .unknown ∧ n ≤ cell.slots.size ∧ cell.slots.size.toInt32 = nI n ∧ (∀ j, j < n → cell.slots[j]? = some (f j)) ∧ gown s cell t k n f
def gat (X : XE) (s : State) (H : Heap) (a : Nat) (q : Nat × GE) : Prop := (q.1 ≠ 0 → X.2.1 ≤ a) ∧ match q.2 with
  | .inl o => gobj X H a q.1 o.1 o.2
  | .inr o => garr s H a q.1 o.1 o.2.1 o.2.2
def GH (X : XE) (G : Gh) (s : State) (H : Heap) : Prop := ∀ (a : Nat) (q : Nat × GE), G a = some q → gat X s H a q
def gup (G : Gh) (a : Nat) (q : Nat × GE) : Gh := fun b => if b = a then some q else G b
theorem gup_eq (G : Gh) (a : Nat) (q : Nat × GE) : gup G a q a = some q := by simp [gup]
theorem gup_ne (G : Gh) {a b : Nat} (q : Nat × GE) (h : b ≠ a) : gup G a q b = G b := by simp [gup, h]
theorem gobj.kept {X : XE} {H H1 : Heap} {a t ci : Nat} {fs : List Value} (h : gobj X H a t ci fs) (hq : H1[a]? = H[a]?) : gobj X H1 a t ci fs := by
  obtain ⟨r, cell, h1, h2, h3⟩ := h
  exact ⟨r, cell, h1, by rw [hq]; exact h2, h3⟩
theorem garr.kept {s : State} {H H1 : Heap} {a t k n : Nat} {f : Nat → Value} (h : garr s H a t k n f) (hq : H1[a]? = H[a]?) : garr s H1 a t k n f := by
  obtain ⟨cell, h1, h2⟩ := h
  exact ⟨cell, by rw [hq]; exact h1, h2⟩
theorem gat.kept {X : XE} {s : State} {H H1 : Heap} {a : Nat} {q : Nat × GE} (h : gat X s H a q) (hq : H1[a]? = H[a]?) : gat X s H1 a q := by
  obtain ⟨t, e⟩ := q
  cases e with
  | inl o => exact ⟨h.1, gobj.kept h.2 hq⟩
  | inr o => exact ⟨h.1, garr.kept h.2 hq⟩
theorem garr.moved {u U : State} {H : Heap} {a t k n : Nat} {f : Nat → Value} (hvm : u.vm.Alike U.vm) (h : garr u H a t k n f) : garr U H a t k n f := by
  obtain ⟨cell, h1, h2, h3, h4, h5, h6, h7, h8⟩ := h
  exact ⟨cell, h1, State.isArrayOf_alike hvm h2, h3, h4, h5, h6, fun e => by rw [hvm.findClass]; exact h7 e, fun e e2 => by rw [hvm.findClass]; exact h8 e e2⟩
theorem gat.moved {X : XE} {u U : State} {H : Heap} {a : Nat} {q : Nat × GE} (hvm : u.vm.Alike U.vm) (h : gat X u H a q) : gat X U H a q := by
  obtain ⟨t, e⟩ := q
  cases e with
  | inl o => exact h
  | inr o => exact ⟨h.1, garr.moved hvm h.2⟩
theorem gat.lt {X : XE} {s : State} {H : Heap} {a : Nat} {q : Nat × GE} (h : gat X s H a q) : a < H.size := by
  obtain ⟨t, e⟩ := q
  cases e with
  | inl o =>
    obtain ⟨-, r, cell, h1, h2, -⟩ := h
    exact (Array.getElem?_eq_some_iff.mp h2).1
  | inr o =>
    obtain ⟨-, cell, h1, -⟩ := h
    exact (Array.getElem?_eq_some_iff.mp h1).1
theorem GH.moved {X : XE} {G : Gh} {u U : State} {H : Heap} (hvm : u.vm.Alike U.vm) (h : GH X G u H) : GH X G U H := fun a q hq => (h a q hq).moved hvm
theorem GH.set {X : XE} {G : Gh} {s : State} {H H1 : Heap} {a : Nat} {q : Nat × GE} (h : GH X G s H) (he : gat X s H1 a q) (oq : ∀ b : Nat, b ≠ a → H1[b]? = H[b]?) : GH X (gup G a q) s H1 := by
  intro b q' hb
  by_cases e : b = a
  · subst e
    rw [gup_eq] at hb
    cases hb
    exact he
  · rw [gup_ne G q e] at hb
    exact (h b q' hb).kept (oq b e)
theorem GH.new {X : XE} {G : Gh} {s : State} {H H1 : Heap} {q : Nat × GE} (h : GH X G s H) (he : gat X s H1 H.size q) (oq : ∀ b : Nat, b < H.size → H1[b]? = H[b]?) : GH X (gup G H.size q) s H1 := by
  intro b q' hb
  by_cases e : b = H.size
  · subst e
    rw [gup_eq] at hb
    cases hb
    exact he
  · rw [gup_ne G q e] at hb
    exact (h b q' hb).kept (oq b (h b q' hb).lt)
/-- fewer cells -/
theorem GH.sub {X : XE} {G G' : Gh} {s : State} {H : Heap} (h : GH X G s H) (hs : ∀ a q, G' a = some q → G a = some q) : GH X G' s H := fun a q hq => h a q (hs a q hq)
/-! locals as a list by places -/
def ldrop (lv : List (Option Value)) (i : Nat) : List (Option Value) := match i with
  | 0 => lv
  | k + 1 => match lv[k]? with
    | some (some (.long _)) => lv.set k none
    | some (some (.double _)) => lv.set k none
    | _ => lv
def lset (lv : List (Option Value)) (i : Nat) (v : Value) : List (Option Value) := (ldrop lv i).set i (some v)
def lset2 (lv : List (Option Value)) (i : Nat) (v : Value) : List (Option Value) := ((ldrop lv i).set i (some v)).set (i + 1) none
def LV (ls : Array Slot) (nL : Nat) (lv : List (Option Value)) : Prop := ls.size = nL ∧ lv_wf ls ∧ ∀ (k : Nat) (v : Value), lv[k]? = some (some v) → ls[k]? = some (Slot.val v)
def lvl (lv : List (Option Value)) : List (Nat × Value) := (List.range lv.length).filterMap (fun k => match lv[k]? with
  | some (some v) => some (k, v)
  | _ => none)
theorem lvl_mem {lv : List (Option Value)} {q : Nat × Value} : q ∈ lvl lv ↔ lv[q.1]? = some (some q.2) := by
  unfold lvl
  rw [List.mem_filterMap]
  constructor
  · rintro ⟨k, -, h⟩
    split at h
    · rename_i v hv
      cases h
      exact hv
    · cases h
  · intro h
    refine ⟨q.1, List.mem_range.mpr (List.getElem?_eq_some_iff.mp h).1, ?_⟩
    rw [h]
theorem LV.has {ls : Array Slot} {nL : Nat} {lv : List (Option Value)} (h : LV ls nL lv) : lv_has ls nL (lvl lv) := ⟨h.1, h.2.1, fun q hq => h.2.2 q.1 q.2 (lvl_mem.mp hq)⟩
theorem LV.at {ls : Array Slot} {nL : Nat} {lv : List (Option Value)} (h : LV ls nL lv) {k : Nat} {v : Value} (hk : lv[k]? = some (some v)) : ls[k]? = some (.val v) := h.2.2 k v hk
theorem ldrop_spec {lv : List (Option Value)} {i k : Nat} {v : Value} (h : (ldrop lv i)[k]? = some (some v)) : lv[k]? = some (some v) ∧ (k + 1 = i → v.category ≠ 2) := by
  unfold ldrop at h
  split at h
  · exact ⟨h, fun e => by omega⟩
  · rename_i i' j
    have key : ∀ w : Option (Option Value), lv[j]? = w → (∀ z, w ≠ some (some (.long z))) → (∀ z, w ≠ some (some (.double z))) → lv[k]? = some (some v) → lv[k]? = some (some v) ∧ (k + 1 = j + 1 → v.category ≠ 2) := by
      intro w hw h1 h2 h3
      refine ⟨h3, fun e => ?_⟩
      have e' : k = j := by omega
      subst e'
      rw [hw] at h3
      subst h3
      intro hc
      cases v with
      | long z => exact h1 z rfl
      | double z => exact h2 z rfl
      | _ => simp [Value.category] at hc
    have drop : (lv.set j none)[k]? = some (some v) → lv[k]? = some (some v) ∧ (k + 1 = j + 1 → v.category ≠ 2) := by
      intro h
      by_cases e : j = k
      · subst e
        rw [List.getElem?_set_self'] at h
        simp at h
      · rw [List.getElem?_set_ne e] at h
        exact ⟨h, fun e' => absurd (by omega) e⟩
    split at h
    · exact drop h
    · exact drop h
    · rename_i h1 h2
      exact key _ rfl (fun z hz => h1 z hz) (fun z hz => h2 z hz) h
theorem lset_spec {lv : List (Option Value)} {i k : Nat} {v w : Value} (h : (lset lv i v)[k]? = some (some w)) : (k = i ∧ w = v) ∨ (k ≠ i ∧ lv[k]? = some (some w) ∧ (k + 1 = i → w.category ≠ 2)) := by
  unfold lset at h
  by_cases e : i = k
  · subst e
    have hl : i < (ldrop lv i).length := by
      have h1 := (List.getElem?_eq_some_iff.mp h).1
      simpa using h1
    rw [List.getElem?_set_self hl] at h
    cases h
    exact Or.inl ⟨rfl, rfl⟩
  · rw [List.getElem?_set_ne e] at h
    obtain ⟨h1, h2⟩ := ldrop_spec h
    exact Or.inr ⟨fun q => e q.symm, h1, h2⟩
theorem lset2_spec {lv : List (Option Value)} {i k : Nat} {v w : Value} (h : (lset2 lv i v)[k]? = some (some w)) : (k = i ∧ w = v) ∨ (k ≠ i ∧ k ≠ i + 1 ∧ lv[k]? = some (some w) ∧ (k + 1 = i → w.category ≠ 2)) := by
  unfold lset2 at h
  by_cases e : i + 1 = k
  · subst e
    rw [List.getElem?_set_self'] at h
    simp at h
  · rw [List.getElem?_set_ne e] at h
    rcases lset_spec (lv := lv) (i := i) (v := v) h with h1 | ⟨h1, h2, h3⟩
    · exact Or.inl h1
    · exact Or.inr ⟨h1, fun q => e q.symm, h2, h3⟩
theorem LV.put1 {ls : Array Slot} {nL i : Nat} {lv : List (Option Value)} {v : Value} (h : lv_has ls nL ((i, v) :: (lvl lv).filter (fun q => !(q.1 == i) && !(q.1 + 1 == i && q.2.category == 2)))) : LV ls nL (lset lv i v) := by
  refine ⟨h.1, h.2.1, fun k w hk => ?_⟩
  rcases lset_spec hk with ⟨rfl, rfl⟩ | ⟨h1, h2, h3⟩
  · exact h.2.2 (k, w) List.mem_cons_self
  · refine h.2.2 (k, w) (List.mem_cons_of_mem _ (List.mem_filter.mpr ⟨lvl_mem.mpr h2, ?_⟩))
    simp only [Bool.and_eq_true, Bool.not_eq_true', beq_eq_false_iff_ne, Bool.and_eq_false_iff]
    refine ⟨h1, ?_⟩
    by_cases e : k + 1 = i
    · exact Or.inr (h3 e)
    · exact Or.inl e
theorem LV.put2 {ls : Array Slot} {nL i : Nat} {lv : List (Option Value)} {v : Value} (h : lv_has ls nL ((i, v) :: (lvl lv).filter (fun q => !(q.1 == i) && (!(q.1 == i + 1) && !(q.1 + 1 == i && q.2.category == 2))))) : LV ls nL (lset2 lv i v) := by
  refine ⟨h.1, h.2.1, fun k w hk => ?_⟩
  rcases lset2_spec hk with ⟨rfl, rfl⟩ | ⟨h1, h1', h2, h3⟩
  · exact h.2.2 (k, w) List.mem_cons_self
  · refine h.2.2 (k, w) (List.mem_cons_of_mem _ (List.mem_filter.mpr ⟨lvl_mem.mpr h2, ?_⟩))
    simp only [Bool.and_eq_true, Bool.not_eq_true', beq_eq_false_iff_ne, Bool.and_eq_false_iff]
    refine ⟨h1, h1', ?_⟩
    by_cases e : k + 1 = i
    · exact Or.inr (h3 e)
    · exact Or.inl e
theorem LV.sub {ls : Array Slot} {nL : Nat} {lv lv' : List (Option Value)} (h : LV ls nL lv) (hs : ∀ (k : Nat) (v : Value), lv'[k]? = some (some v) → lv[k]? = some (some v)) : LV ls nL lv' := ⟨h.1, h.2.1, fun k v hk => h.2.2 k v (hs k v hk)⟩
/-! what holds of the launch all through: words of the tables that no list carries, statics, String constants, the class object of Object[] -/
abbrev nfL : List (String × Nat × String × String × String × String) := [("RiverWords", 85, "RiverWords$Table", "a", "I", "RiverWords"), ("RiverWords", 88, "RiverWords$Table", "b", "I", "RiverWords"), ("RiverWords", 78, "RiverWords$Table", "c", "I", "RiverWords"), ("RiverWords", 82, "RiverWords$Table", "d", "I", "RiverWords"), ("RiverWords$Cycle", 24, "RiverWords", "forms", "Ljava/util/ArrayList;", "RiverWords"), ("RiverWords", 132, "RiverWords$Reader", "word", "Ljava/lang/StringBuilder;", "RiverWords"), ("RiverWords", 129, "RiverWords$Reader", "place", "I", "RiverWords"), ("RiverWords", 154, "RiverWords$Road", "word", "Ljava/lang/String;", "RiverWords"), ("RiverWords", 163, "RiverWords$Road", "table", "LRiverWords$Table;", "RiverWords"), ("RiverWords", 211, "RiverWords$Form", "a", "I", "RiverWords"), ("RiverWords", 212, "RiverWords$Form", "b", "I", "RiverWords"), ("RiverWords", 213, "RiverWords$Form", "c", "I", "RiverWords"), ("RiverWords$Cycle", 38, "RiverWords$Form", "cycle", "I", "RiverWords"), ("RiverWords", 302, "RiverWords$Form", "cycle", "I", "RiverWords"), ("RiverWords$Cycle", 49, "RiverWords$Form", "next", "I", "RiverWords"), ("RiverWords", 295, "RiverWords$Form", "next", "I", "RiverWords"), ("RiverWords", 298, "RiverWords$Form", "back", "I", "RiverWords"), ("RiverWords", 300, "RiverWords$Form", "mirror", "I", "RiverWords"), ("RiverWords", 329, "RiverWords$Cycle", "least", "I", "RiverWords"), ("RiverWords", 341, "RiverWords$Cycle", "word", "Ljava/lang/StringBuilder;", "RiverWords")]
abbrev nmL : List (String × Nat × MethodName × String) := [("RiverWords$Reader", 54, ⟨"RiverWords", "in", "(III)Z"⟩, "RiverWords"), ("RiverWords$Road", 21, ⟨"RiverWords", "tableOf", "(Ljava/lang/CharSequence;)LRiverWords$Table;"⟩, "RiverWords"), ("RiverWords$Table", 39, ⟨"RiverWords", "common", "(II)I"⟩, "RiverWords"), ("RiverWords$Form", 25, ⟨"RiverWords", "common", "(II)I"⟩, "RiverWords")]
abbrev caL : List (String × String) := [("[B", "java/lang/Cloneable"), ("java/lang/String", "java/lang/CharSequence"), ("java/lang/StringBuilder", "java/lang/CharSequence"), ("RiverWords$Cycle", "RiverWords$Worded"), ("RiverWords$Road", "RiverWords$Worded"), ("RiverWords", "java/lang/Object"), ("RiverWords$Table", "java/lang/Object"), ("java/util/ArrayList", "java/lang/Object"), ("java/lang/StringBuilder", "java/lang/Object"), ("RiverWordsModel", "java/lang/Object"), ("RiverWords$Reader", "java/lang/Object"), ("java/lang/String", "java/lang/Object"), ("RiverWords$Road", "java/lang/Object"), ("RiverWords$Form", "java/lang/Object"), ("RiverWords$Cycle", "java/lang/Object"), ("[B", "java/lang/Object"), ("[Ljava/lang/Object;", "java/lang/Object"), ("[I", "java/lang/Object")]
abbrev deL : List MethodName := [⟨"java/lang/CharSequence", "length", "()I"⟩, ⟨"java/lang/CharSequence", "charAt", "(I)C"⟩, ⟨"RiverWords$Worded", "length", "()I"⟩, ⟨"RiverWords$Worded", "word", "()Ljava/lang/CharSequence;"⟩, ⟨"RiverWords$Worded", "many", "(C)I"⟩, ⟨"RiverWords$Worded", "sign", "(I)C"⟩, ⟨"RiverWords$Worded", "isClosed", "()Z"⟩, ⟨"java/lang/Object", "getClass", "()Ljava/lang/Class;"⟩]
abbrev fwL : List (String × MethodName × MethodName) := [("java/lang/String", ⟨"java/lang/CharSequence", "length", "()I"⟩, ⟨"java/lang/String", "length", "()I"⟩), ("java/lang/String", ⟨"java/lang/CharSequence", "charAt", "(I)C"⟩, ⟨"java/lang/String", "charAt", "(I)C"⟩), ("java/lang/StringBuilder", ⟨"java/lang/CharSequence", "length", "()I"⟩, ⟨"java/lang/StringBuilder", "length", "()I"⟩), ("java/lang/StringBuilder", ⟨"java/lang/CharSequence", "charAt", "(I)C"⟩, ⟨"java/lang/StringBuilder", "charAt", "(I)C"⟩), ("RiverWords$Road", ⟨"RiverWords$Worded", "word", "()Ljava/lang/CharSequence;"⟩, ⟨"RiverWords$Road", "word", "()Ljava/lang/CharSequence;"⟩), ("RiverWords$Road", ⟨"RiverWords$Worded", "length", "()I"⟩, ⟨"RiverWords$Worded", "length", "()I"⟩), ("RiverWords$Road", ⟨"RiverWords$Worded", "sign", "(I)C"⟩, ⟨"RiverWords$Worded", "sign", "(I)C"⟩), ("RiverWords$Road", ⟨"RiverWords$Worded", "many", "(C)I"⟩, ⟨"RiverWords$Worded", "many", "(C)I"⟩), ("RiverWords$Cycle", ⟨"RiverWords$Worded", "word", "()Ljava/lang/CharSequence;"⟩, ⟨"RiverWords$Cycle", "word", "()Ljava/lang/CharSequence;"⟩), ("RiverWords$Cycle", ⟨"RiverWords$Worded", "length", "()I"⟩, ⟨"RiverWords$Worded", "length", "()I"⟩), ("RiverWords$Cycle", ⟨"RiverWords$Worded", "sign", "(I)C"⟩, ⟨"RiverWords$Worded", "sign", "(I)C"⟩), ("RiverWords$Cycle", ⟨"RiverWords$Worded", "many", "(C)I"⟩, ⟨"RiverWords$Worded", "many", "(C)I"⟩)]
abbrev ldL : List (String × MethodName × MethodName) := [("RiverWords$Road", ⟨"RiverWords$Road", "length", "()I"⟩, ⟨"RiverWords$Worded", "length", "()I"⟩), ("RiverWords$Road", ⟨"RiverWords$Worded", "length", "()I"⟩, ⟨"RiverWords$Worded", "length", "()I"⟩), ("RiverWords$Road", ⟨"RiverWords$Road", "sign", "(I)C"⟩, ⟨"RiverWords$Worded", "sign", "(I)C"⟩), ("RiverWords$Road", ⟨"RiverWords$Worded", "sign", "(I)C"⟩, ⟨"RiverWords$Worded", "sign", "(I)C"⟩), ("RiverWords$Road", ⟨"RiverWords$Road", "many", "(C)I"⟩, ⟨"RiverWords$Worded", "many", "(C)I"⟩), ("RiverWords$Road", ⟨"RiverWords$Worded", "many", "(C)I"⟩, ⟨"RiverWords$Worded", "many", "(C)I"⟩), ("RiverWords$Road", ⟨"RiverWords$Road", "isClosed", "()Z"⟩, ⟨"RiverWords$Worded", "isClosed", "()Z"⟩), ("RiverWords$Cycle", ⟨"RiverWords$Cycle", "length", "()I"⟩, ⟨"RiverWords$Worded", "length", "()I"⟩), ("RiverWords$Cycle", ⟨"RiverWords$Worded", "length", "()I"⟩, ⟨"RiverWords$Worded", "length", "()I"⟩), ("RiverWords$Cycle", ⟨"RiverWords$Cycle", "sign", "(I)C"⟩, ⟨"RiverWords$Worded", "sign", "(I)C"⟩), ("RiverWords$Cycle", ⟨"RiverWords$Worded", "sign", "(I)C"⟩, ⟨"RiverWords$Worded", "sign", "(I)C"⟩), ("RiverWords$Cycle", ⟨"RiverWords$Cycle", "many", "(C)I"⟩, ⟨"RiverWords$Worded", "many", "(C)I"⟩), ("RiverWords$Cycle", ⟨"RiverWords$Worded", "many", "(C)I"⟩, ⟨"RiverWords$Worded", "many", "(C)I"⟩)]
abbrev dwL : List Cond := [.methodLink "RiverWords" 146 ⟨"RiverWords$Road", "length", "()I"⟩, .methodLink "RiverWords" 147 ⟨"RiverWords$Road", "many", "(C)I"⟩, .methodLink "RiverWords" 169 ⟨"RiverWords$Road", "isClosed", "()Z"⟩, .methodLink "RiverWords" 201 ⟨"RiverWords$Road", "sign", "(I)C"⟩, .methodLink "RiverWords" 331 ⟨"RiverWords$Cycle", "length", "()I"⟩, .methodLink "RiverWords" 332 ⟨"RiverWords$Cycle", "many", "(C)I"⟩, .methodLink "RiverWords" 340 ⟨"RiverWords$Cycle", "sign", "(I)C"⟩, .sameMethod "RiverWords$Road" "RiverWords$Worded" "length" "()I", .sameMethod "RiverWords$Road" "RiverWords$Worded" "many" "(C)I", .sameMethod "RiverWords$Road" "RiverWords$Worded" "isClosed" "()Z", .sameMethod "RiverWords$Road" "RiverWords$Worded" "sign" "(I)C", .sameMethod "RiverWords$Cycle" "RiverWords$Worded" "length" "()I", .sameMethod "RiverWords$Cycle" "RiverWords$Worded" "many" "(C)I", .sameMethod "RiverWords$Cycle" "RiverWords$Worded" "sign" "(I)C", .selects "java/lang/StringBuilder" ⟨"java/lang/AbstractStringBuilder", "ensureCapacityInternal", "(I)V"⟩ ⟨"java/lang/AbstractStringBuilder", "ensureCapacityInternal", "(I)V"⟩, .selects "java/lang/StringBuilder" ⟨"java/lang/AbstractStringBuilder", "newCapacity", "(I)I"⟩ ⟨"java/lang/AbstractStringBuilder", "newCapacity", "(I)I"⟩, .selects "java/lang/StringBuilder" ⟨"java/lang/AbstractStringBuilder", "putStringAt", "(ILjava/lang/String;)V"⟩ ⟨"java/lang/AbstractStringBuilder", "putStringAt", "(ILjava/lang/String;)V"⟩, .selects "java/lang/StringBuilder" ⟨"java/lang/AbstractStringBuilder", "inflateIfNeededFor", "(Ljava/lang/String;)V"⟩ ⟨"java/lang/AbstractStringBuilder", "inflateIfNeededFor", "(Ljava/lang/String;)V"⟩]
theorem dwL_ok : ∀ w ∈ dwL, (w.onTables && w.keeps) = true := by decide +kernel
theorem fwL_ok : ∀ q ∈ fwL, q.2.1.cls ≠ "java/lang/invoke/MethodHandle" ∧ q.2.1.cls ≠ "java/lang/invoke/VarHandle" := by decide +kernel
/-- String constants: class, entry, text, the number of its address -/
abbrev skL : List (String × Nat × String × Nat) := [("RiverWords", 7, "", 0), ("RiverWords", 21, "L", 2), ("RiverWords", 26, "R", 4), ("RiverWords$Table", 28, "L", 2), ("RiverWords$Table", 34, "R", 4), ("java/lang/String", 7, "", 0)]
def EW (s : State) : Prop :=
  (∀ q ∈ nfL, va_Nw (.fieldLinkNest q.1 q.2.1 q.2.2.1 q.2.2.2.1 q.2.2.2.2.1 q.2.2.2.2.2) s) ∧ (∀ q ∈ nmL, va_Nw (.methodLinkNest q.1 q.2.1 q.2.2.1 q.2.2.2) s) ∧ (∀ q ∈ caL, va_Nw (.castable q.1 q.2) s) ∧ (∀ q ∈ deL, va_Nw (.declares q) s) ∧ (∀ q ∈ fwL, va_Fw q.1 q.2.1 q.2.2 s) ∧ (∀ q ∈ ldL, (Cond.landsInDefault q.1 q.2.1 q.2.2).before #[] s = true) ∧ (∀ w ∈ dwL, w.before #[] s = true) ∧ va_AO "java/lang/Object" s
def EK (X : XE) (s : State) : Prop := (∀ q ∈ skL, vk_R q.1 q.2.1 q.2.2.1 (X.2.2 q.2.2.2) s) ∧ va_Mi "[Ljava/lang/Object;" (X.2.2 7) s
def EZ (X : XE) (s : State) (H : Heap) : Prop := va_Z "java/lang/String" "COMPACT_STRINGS" "Z" (.int 1) (fun q => X.2.1 ≤ q) s H ∧ va_Z "java/util/ArrayList" "DEFAULTCAPACITY_EMPTY_ELEMENTDATA" "[Ljava/lang/Object;" (.ref (X.2.2 6)) (fun q => X.2.1 ≤ q) s H ∧ va_Zq "jdk/internal/util/Preconditions" "SIOOBE_FORMATTER" "Ljava/util/function/BiFunction;" (fun q => X.2.1 ≤ q) s H
theorem EW.next {s U : State} (h : EW s) (hW : s.WarmedH U.vm) : EW U := by
  obtain ⟨h1, h2, h3, h4, h5, h6, h7, h8⟩ := h
  refine ⟨fun q hq => va_Nw.warmF hW (h1 q hq), fun q hq => va_Nw.warmM hW (h2 q hq), fun q hq => va_Nw.warmC hW (h3 q hq), fun q hq => va_Nw.warmD hW (h4 q hq), fun q hq => va_Fw.moved (fwL_ok q hq) hW.alike (h5 q hq), fun q hq => ?_, fun w hw => word_at hW (Or.inl (dwL_ok w hw)) (h7 w hw), va_AO.moved hW.alike h8⟩
  have e : (Cond.landsInDefault q.1 q.2.1 q.2.2).before #[] (s.setVm U.vm) = (Cond.landsInDefault q.1 q.2.1 q.2.2).before #[] U := rfl
  exact e.symm.trans ((Cond.landsInDefault_setVm hW.alike (State.methodFound?_setVm hW.alike _ _ _)).trans (h6 q hq))
theorem EK.next {X : XE} {s U : State} (h : EK X s) (hW : s.WarmedH U.vm) : EK X U := ⟨fun q hq => vk_R.warm hW (h.1 q hq), va_Mi.moved hW.alike h.2⟩
theorem EZ.next {X : XE} {s U : State} {H H1 : Heap} (h : EZ X s H) (hvm : s.vm.Alike U.vm) (hq : ∀ a : Nat, a < H.size → ¬ X.2.1 ≤ a → H1[a]? = H[a]?) : EZ X U H1 := ⟨(va_Z.moved hvm h.1).kept hq, (va_Z.moved hvm h.2.1).kept hq, (va_Zq.moved hvm h.2.2).kept hq⟩
theorem EW.same {u U : State} (h : EW u) (hv : u.vm = U.vm) : EW U := by
  obtain ⟨h1, h2, h3, h4, h5, h6, h7, h8⟩ := h
  refine ⟨fun q hq => va_Nw.same rfl hv (h1 q hq), fun q hq => va_Nw.same rfl hv (h2 q hq), fun q hq => va_Nw.same rfl hv (h3 q hq), fun q hq => va_Nw.same rfl hv (h4 q hq), fun q hq => va_Fw.moved (fwL_ok q hq) (by rw [hv]; exact Vm.Alike.refl _) (h5 q hq), fun q hq => ?_, fun w hw => ?_, va_AO.moved (by rw [hv]; exact Vm.Alike.refl _) h8⟩
  · have e : (Cond.landsInDefault q.1 q.2.1 q.2.2).before #[] (U.setVm u.vm) = (Cond.landsInDefault q.1 q.2.1 q.2.2).before #[] u := rfl
    rw [hv] at e
    exact e.trans (h6 q hq)
  · have := dwL_ok w hw
    rw [Bool.and_eq_true] at this
    exact va_tabs this.1 hv (h7 w hw)
theorem EK.same {X : XE} {u U : State} (h : EK X u) (hv : u.vm = U.vm) : EK X U := ⟨fun q hq => vk_R.same hv.symm (h.1 q hq), va_Mi.moved (by rw [hv]; exact Vm.Alike.refl _) h.2⟩
/-! what holds of the launch all through: the classes' numbers and slots; our cells lie from X.2.1 on -/
def EE (X : XE) (s : State) : Prop := (∀ (c : Nat) (q : vw_C), vwC[c]? = some q → u_Kn s q.1 q.2.1 q.2.2 (X.1.1 c) (X.1.2 c)) ∧ X.2.1 ≤ s.heap.size ∧ EW s ∧ EK X s ∧ EZ X s s.heap
theorem EE.next {X : XE} {s U : State} {H : Heap} {locs : List Loc} (h : EE X s) (hW : s.WarmedH U.vm) (hS : va_S (fun q => X.2.1 ≤ q) s.heap H locs) (hU : U.heap = H) : EE X U :=
  ⟨fun c q hq => u_Kn_moved hW.alike (h.1 c q hq), by rw [hU]; exact Nat.le_trans h.2.1 hS.1, h.2.2.1.next hW, h.2.2.2.1.next hW, h.2.2.2.2.next hW.alike (by rw [hU]; exact hS.2.1)⟩
theorem EE.calling {X : XE} {U : State} {g : JFrame} {mk : MethodId} {a : Array Value} (h : EE X U) : EE X (U.calling g mk a) := ⟨fun c q hq => u_Kn_moved (u := U) (U := U.calling g mk a) (Vm.Alike.refl U.vm) (h.1 c q hq), h.2.1, h.2.2.1.same rfl, h.2.2.2.1.same rfl, h.2.2.2.2.next (U := U.calling g mk a) (Vm.Alike.refl U.vm) (fun _ _ _ => rfl)⟩
def GI (Z : ZC) (G : Gh) (H : Heap) (locs : List Loc) : Prop := GH (zX Z) G (zs Z) H ∧ va_S (fun q => zB Z ≤ q) (zs Z).heap H locs
/-- from the frame at pc with locals lv and stack st, over every heap that holds a ghost heap of Γ, the machine comes to a state with zQ Z -/
def WW (Z : ZC) (nL : Nat) (Γ : Gh → Prop) (n s pc : Nat) (lv : List (Option Value)) (st : List Value) : Prop :=
  ∀ (G : Gh) (H : Heap) (locs : List Loc) (ls : Array Slot), Γ G → GI Z G H locs → LV ls nL lv → W (zp Z) (zl Z) (ze Z) (zR Z) (zs Z) (zm Z) (za Z) (zw Z) (zt Z) (zc Z) H locs n s (zQ Z) (F0 (zm Z) pc ls st)
/-- what is known of a method's frame -/
def CC (Z : ZC) (y : MethodName) (cc : ByteArray) (nL : Nat) (rt : Option FieldType) (R : Room) : Prop :=
  ((zp Z).tables.exec = Jvm.exec ∧ (zc Z).code = cc ∧ (zc Z).maxLocals = nL ∧ (zs Z).vm.findClass y.cls = some (zm Z).cls ∧ ∀ w ∈ lw_all, w.before (za Z) (zs Z) = true) ∧ (zt Z).locks = false ∧ (zt Z).sig.returnType = rt ∧ zR Z = R ∧ EE (zX Z) (zs Z) ∧ (zt Z).name = y.name
section BASE
variable {Z : ZC} {y : MethodName} {cc : ByteArray} {nL : Nat} {rt : Option FieldType} {R : Room} {Γ Γ' : Gh → Prop} {n s pc : Nat} {lv : List (Option Value)} {st : List Value}
theorem CC.x (C : CC Z y cc nL rt R) : (zp Z).tables.exec = Jvm.exec := C.1.1
theorem CC.b (C : CC Z y cc nL rt R) : (zc Z).code = cc := C.1.2.1
theorem CC.m (C : CC Z y cc nL rt R) : (zc Z).maxLocals = nL := C.1.2.2.1
theorem CC.o (C : CC Z y cc nL rt R) : (zs Z).vm.findClass y.cls = some (zm Z).cls := C.1.2.2.2.1
theorem CC.t (C : CC Z y cc nL rt R) : ∀ w ∈ lw_all, w.before (za Z) (zs Z) = true := C.1.2.2.2.2
theorem CC.l (C : CC Z y cc nL rt R) : (zt Z).locks = false := C.2.1
theorem CC.r (C : CC Z y cc nL rt R) : (zt Z).sig.returnType = rt := C.2.2.1
theorem CC.rm (C : CC Z y cc nL rt R) : zR Z = R := C.2.2.2.1
theorem CC.e (C : CC Z y cc nL rt R) : EE (zX Z) (zs Z) := C.2.2.2.2.1
theorem CC.nm (C : CC Z y cc nL rt R) : (zt Z).name = y.name := C.2.2.2.2.2
theorem CC.f (C : CC Z y cc nL rt R) : CallFix (zp Z) (zm Z) (zc Z) cc nL (zs Z) (za Z) lw_all y.cls := C.1
/-- another assertion -/
theorem ww_to (h : ∀ G, Γ G → Γ' G) (k : WW Z nL Γ' n s pc lv st) : WW Z nL Γ n s pc lv st := fun G H locs ls hG hI hl => k G H locs ls (h G hG) hI hl
theorem ww_all (k : ∀ G, Γ G → WW Z nL (fun x => x = G) n s pc lv st) : WW Z nL Γ n s pc lv st := fun G H locs ls hG hI hl => k G hG G H locs ls rfl hI hl
theorem ww_wide {n' s' : Nat} (h1 : n ≤ n') (h2 : s ≤ s') (k : WW Z nL Γ n' s' pc lv st) : WW Z nL Γ n s pc lv st := fun G H locs ls hG hI hl => W.widen h1 h2 (k G H locs ls hG hI hl)
theorem ww_lv {lv' : List (Option Value)} (h : ∀ (k : Nat) (v : Value), lv'[k]? = some (some v) → lv[k]? = some (some v)) (k : WW Z nL Γ n s pc lv' st) : WW Z nL Γ n s pc lv st := fun G H locs ls hG hI hl => k G H locs ls hG hI (hl.sub h)
/-- fewer ghost cells -/
theorem ww_less (h : ∀ G, Γ G → ∃ G', Γ' G' ∧ ∀ a q, G' a = some q → G a = some q) (k : WW Z nL Γ' n s pc lv st) : WW Z nL Γ n s pc lv st := by
  intro G H locs ls hG hI hl
  obtain ⟨G', h1, h2⟩ := h G hG
  exact k G' H locs ls h1 ⟨hI.1.sub h2, hI.2⟩ hl
theorem r_iconst {z : Int} {v : Int32} (C : CC Z y cc nL rt R) (d : decode cc pc = .ok (.iconst z, 1)) (hv : Int32.ofInt z = v) (k : WW Z nL Γ n s (pc + 1) lv (.int v :: st)) : WW Z nL Γ n s pc lv (st) := fun G H locs ls hG hI hl => lv_iconst C.x C.b d hv (k G H locs ls hG hI hl)
theorem r_bipush {z : Int} {v : Int32} (C : CC Z y cc nL rt R) (d : decode cc pc = .ok (.bipush z, 2)) (hv : (Int8.ofInt z).toInt32 = v) (k : WW Z nL Γ n s (pc + 2) lv (.int v :: st)) : WW Z nL Γ n s pc lv (st) := fun G H locs ls hG hI hl => lv_bipush C.x C.b d hv (k G H locs ls hG hI hl)
theorem r_sipush {z : Int} {v : Int32} (C : CC Z y cc nL rt R) (d : decode cc pc = .ok (.sipush z, 3)) (hv : (Int16.ofInt z).toInt32 = v) (k : WW Z nL Γ n s (pc + 3) lv (.int v :: st)) : WW Z nL Γ n s pc lv (st) := fun G H locs ls hG hI hl => lv_sipush C.x C.b d hv (k G H locs ls hG hI hl)
theorem r_lconst {z : Fin 2} {v : Int64} (C : CC Z y cc nL rt R) (d : decode cc pc = .ok (.lconst z, 1)) (hv : Int64.ofNat (z : Nat) = v) (k : WW Z nL Γ n s (pc + 1) lv (.long v :: st)) : WW Z nL Γ n s pc lv (st) := fun G H locs ls hG hI hl => lv_lconst C.x C.b d hv (k G H locs ls hG hI hl)
theorem r_iload_n {j : Fin 4} {i : Nat} {x : Int32} (C : CC Z y cc nL rt R) (d : decode cc pc = .ok (.iload_n j, 1)) (hi : (j : Nat) = i) (h : lv[i]? = some (some (.int x))) (k : WW Z nL Γ n s (pc + 1) lv (.int x :: st)) : WW Z nL Γ n s pc lv (st) := fun G H locs ls hG hI hl => lv_iload_n C.x C.b d hi (hl.at h) (k G H locs ls hG hI hl)
theorem r_iload {i : Nat} {x : Int32} (C : CC Z y cc nL rt R) (d : decode cc pc = .ok (.iload i, 2)) (h : lv[i]? = some (some (.int x))) (k : WW Z nL Γ n s (pc + 2) lv (.int x :: st)) : WW Z nL Γ n s pc lv (st) := fun G H locs ls hG hI hl => lv_iload C.x C.b d (hl.at h) (k G H locs ls hG hI hl)
theorem r_lload_n {j : Fin 4} {i : Nat} {x : Int64} (C : CC Z y cc nL rt R) (d : decode cc pc = .ok (.lload_n j, 1)) (hi : (j : Nat) = i) (h : lv[i]? = some (some (.long x))) (k : WW Z nL Γ n s (pc + 1) lv (.long x :: st)) : WW Z nL Γ n s pc lv (st) := fun G H locs ls hG hI hl => lv_lload_n C.x C.b d hi (hl.at h) (k G H locs ls hG hI hl)
theorem r_lload {i : Nat} {x : Int64} (C : CC Z y cc nL rt R) (d : decode cc pc = .ok (.lload i, 2)) (h : lv[i]? = some (some (.long x))) (k : WW Z nL Γ n s (pc + 2) lv (.long x :: st)) : WW Z nL Γ n s pc lv (st) := fun G H locs ls hG hI hl => lv_lload C.x C.b d (hl.at h) (k G H locs ls hG hI hl)
theorem r_aload_n {j : Fin 4} {i : Nat} {x : Nat} (C : CC Z y cc nL rt R) (d : decode cc pc = .ok (.aload_n j, 1)) (hi : (j : Nat) = i) (h : lv[i]? = some (some (.ref x))) (k : WW Z nL Γ n s (pc + 1) lv (.ref x :: st)) : WW Z nL Γ n s pc lv (st) := fun G H locs ls hG hI hl => lv_aload_n C.x C.b d hi (hl.at h) (k G H locs ls hG hI hl)
theorem r_aload {i : Nat} {x : Nat} (C : CC Z y cc nL rt R) (d : decode cc pc = .ok (.aload i, 2)) (h : lv[i]? = some (some (.ref x))) (k : WW Z nL Γ n s (pc + 2) lv (.ref x :: st)) : WW Z nL Γ n s pc lv (st) := fun G H locs ls hG hI hl => lv_aload C.x C.b d (hl.at h) (k G H locs ls hG hI hl)
theorem r_istore_n {j : Fin 4} {i : Nat} {x : Int32} (C : CC Z y cc nL rt R) (d : decode cc pc = .ok (.istore_n j, 1)) (hi : (j : Nat) = i) (hn : i < nL) (k : WW Z nL Γ n s (pc + 1) (lset lv i (.int x)) st) : WW Z nL Γ n s pc lv (.int x :: st) := fun G H locs ls hG hI hl => lv_istore_n C.x C.b d hi hl.has hn rfl (fun ls' hl' => k G H locs ls' hG hI (LV.put1 hl'))
theorem r_istore {i : Nat} {x : Int32} (C : CC Z y cc nL rt R) (d : decode cc pc = .ok (.istore i, 2)) (hn : i < nL) (k : WW Z nL Γ n s (pc + 2) (lset lv i (.int x)) st) : WW Z nL Γ n s pc lv (.int x :: st) := fun G H locs ls hG hI hl => lv_istore C.x C.b d hl.has hn rfl (fun ls' hl' => k G H locs ls' hG hI (LV.put1 hl'))
theorem r_lstore_n {j : Fin 4} {i : Nat} {x : Int64} (C : CC Z y cc nL rt R) (d : decode cc pc = .ok (.lstore_n j, 1)) (hi : (j : Nat) = i) (hn : i + 1 < nL) (k : WW Z nL Γ n s (pc + 1) (lset2 lv i (.long x)) st) : WW Z nL Γ n s pc lv (.long x :: st) := fun G H locs ls hG hI hl => lv_lstore_n C.x C.b d hi hl.has hn rfl (fun ls' hl' => k G H locs ls' hG hI (LV.put2 hl'))
theorem r_lstore {i : Nat} {x : Int64} (C : CC Z y cc nL rt R) (d : decode cc pc = .ok (.lstore i, 2)) (hn : i + 1 < nL) (k : WW Z nL Γ n s (pc + 2) (lset2 lv i (.long x)) st) : WW Z nL Γ n s pc lv (.long x :: st) := fun G H locs ls hG hI hl => lv_lstore C.x C.b d hl.has hn rfl (fun ls' hl' => k G H locs ls' hG hI (LV.put2 hl'))
theorem r_astore_n {j : Fin 4} {i : Nat} {x : Nat} (C : CC Z y cc nL rt R) (d : decode cc pc = .ok (.astore_n j, 1)) (hi : (j : Nat) = i) (hn : i < nL) (k : WW Z nL Γ n s (pc + 1) (lset lv i (.ref x)) st) : WW Z nL Γ n s pc lv (.ref x :: st) := fun G H locs ls hG hI hl => lv_astore_n C.x C.b d hi hl.has hn rfl (fun ls' hl' => k G H locs ls' hG hI (LV.put1 hl'))
theorem r_astore {i : Nat} {x : Nat} (C : CC Z y cc nL rt R) (d : decode cc pc = .ok (.astore i, 2)) (hn : i < nL) (k : WW Z nL Γ n s (pc + 2) (lset lv i (.ref x)) st) : WW Z nL Γ n s pc lv (.ref x :: st) := fun G H locs ls hG hI hl => lv_astore C.x C.b d hl.has hn rfl (fun ls' hl' => k G H locs ls' hG hI (LV.put1 hl'))
theorem r_iadd {x w : Int32} (C : CC Z y cc nL rt R) (d : decode cc pc = .ok (.iadd, 1)) (k : WW Z nL Γ n s (pc + 1) lv (.int (x + w) :: st)) : WW Z nL Γ n s pc lv (.int w :: .int x :: st) := fun G H locs ls hG hI hl => lv_iadd C.x C.b d (k G H locs ls hG hI hl)
theorem r_isub {x w : Int32} (C : CC Z y cc nL rt R) (d : decode cc pc = .ok (.isub, 1)) (k : WW Z nL Γ n s (pc + 1) lv (.int (x - w) :: st)) : WW Z nL Γ n s pc lv (.int w :: .int x :: st) := fun G H locs ls hG hI hl => lv_isub C.x C.b d (k G H locs ls hG hI hl)
theorem r_imul {x w : Int32} (C : CC Z y cc nL rt R) (d : decode cc pc = .ok (.imul, 1)) (k : WW Z nL Γ n s (pc + 1) lv (.int (x * w) :: st)) : WW Z nL Γ n s pc lv (.int w :: .int x :: st) := fun G H locs ls hG hI hl => lv_imul C.x C.b d (k G H locs ls hG hI hl)
theorem r_iand {x w : Int32} (C : CC Z y cc nL rt R) (d : decode cc pc = .ok (.iand, 1)) (k : WW Z nL Γ n s (pc + 1) lv (.int (x &&& w) :: st)) : WW Z nL Γ n s pc lv (.int w :: .int x :: st) := fun G H locs ls hG hI hl => lv_iand C.x C.b d (k G H locs ls hG hI hl)
theorem r_ior {x w : Int32} (C : CC Z y cc nL rt R) (d : decode cc pc = .ok (.ior, 1)) (k : WW Z nL Γ n s (pc + 1) lv (.int (x ||| w) :: st)) : WW Z nL Γ n s pc lv (.int w :: .int x :: st) := fun G H locs ls hG hI hl => lv_ior C.x C.b d (k G H locs ls hG hI hl)
theorem r_ixor {x w : Int32} (C : CC Z y cc nL rt R) (d : decode cc pc = .ok (.ixor, 1)) (k : WW Z nL Γ n s (pc + 1) lv (.int (x ^^^ w) :: st)) : WW Z nL Γ n s pc lv (.int w :: .int x :: st) := fun G H locs ls hG hI hl => lv_ixor C.x C.b d (k G H locs ls hG hI hl)
theorem r_idiv {x w : Int32} (C : CC Z y cc nL rt R) (d : decode cc pc = .ok (.idiv, 1)) (h0 : ¬ w = 0) (k : WW Z nL Γ n s (pc + 1) lv (.int (x / w) :: st)) : WW Z nL Γ n s pc lv (.int w :: .int x :: st) := fun G H locs ls hG hI hl => lv_idiv C.x C.b d h0 (k G H locs ls hG hI hl)
theorem r_irem {x w : Int32} (C : CC Z y cc nL rt R) (d : decode cc pc = .ok (.irem, 1)) (h0 : ¬ w = 0) (k : WW Z nL Γ n s (pc + 1) lv (.int (x - x / w * w) :: st)) : WW Z nL Γ n s pc lv (.int w :: .int x :: st) := fun G H locs ls hG hI hl => lv_irem C.x C.b d h0 (k G H locs ls hG hI hl)
theorem r_ineg {x : Int32} (C : CC Z y cc nL rt R) (d : decode cc pc = .ok (.ineg, 1)) (k : WW Z nL Γ n s (pc + 1) lv (.int (-x) :: st)) : WW Z nL Γ n s pc lv (.int x :: st) := fun G H locs ls hG hI hl => lv_ineg C.x C.b d (k G H locs ls hG hI hl)
theorem r_ladd {x w : Int64} (C : CC Z y cc nL rt R) (d : decode cc pc = .ok (.ladd, 1)) (k : WW Z nL Γ n s (pc + 1) lv (.long (x + w) :: st)) : WW Z nL Γ n s pc lv (.long w :: .long x :: st) := fun G H locs ls hG hI hl => lv_ladd C.x C.b d (k G H locs ls hG hI hl)
theorem r_lsub {x w : Int64} (C : CC Z y cc nL rt R) (d : decode cc pc = .ok (.lsub, 1)) (k : WW Z nL Γ n s (pc + 1) lv (.long (x - w) :: st)) : WW Z nL Γ n s pc lv (.long w :: .long x :: st) := fun G H locs ls hG hI hl => lv_lsub C.x C.b d (k G H locs ls hG hI hl)
theorem r_lmul {x w : Int64} (C : CC Z y cc nL rt R) (d : decode cc pc = .ok (.lmul, 1)) (k : WW Z nL Γ n s (pc + 1) lv (.long (x * w) :: st)) : WW Z nL Γ n s pc lv (.long w :: .long x :: st) := fun G H locs ls hG hI hl => lv_lmul C.x C.b d (k G H locs ls hG hI hl)
theorem r_land {x w : Int64} (C : CC Z y cc nL rt R) (d : decode cc pc = .ok (.land, 1)) (k : WW Z nL Γ n s (pc + 1) lv (.long (x &&& w) :: st)) : WW Z nL Γ n s pc lv (.long w :: .long x :: st) := fun G H locs ls hG hI hl => lv_land C.x C.b d (k G H locs ls hG hI hl)
theorem r_ldiv {x w : Int64} (C : CC Z y cc nL rt R) (d : decode cc pc = .ok (.ldiv, 1)) (h0 : ¬ w = 0) (k : WW Z nL Γ n s (pc + 1) lv (.long (x / w) :: st)) : WW Z nL Γ n s pc lv (.long w :: .long x :: st) := fun G H locs ls hG hI hl => lv_ldiv C.x C.b d h0 (k G H locs ls hG hI hl)
theorem r_lrem {x w : Int64} (C : CC Z y cc nL rt R) (d : decode cc pc = .ok (.lrem, 1)) (h0 : ¬ w = 0) (k : WW Z nL Γ n s (pc + 1) lv (.long (x - x / w * w) :: st)) : WW Z nL Γ n s pc lv (.long w :: .long x :: st) := fun G H locs ls hG hI hl => lv_lrem C.x C.b d h0 (k G H locs ls hG hI hl)
theorem r_dup {v : Value} (C : CC Z y cc nL rt R) (d : decode cc pc = .ok (.dup, 1)) (hc : v.category = 1) (k : WW Z nL Γ n s (pc + 1) lv (v :: v :: st)) : WW Z nL Γ n s pc lv (v :: st) := fun G H locs ls hG hI hl => lv_dup C.x C.b d hc (k G H locs ls hG hI hl)
theorem r_pop {v : Value} (C : CC Z y cc nL rt R) (d : decode cc pc = .ok (.pop, 1)) (hc : v.category = 1) (k : WW Z nL Γ n s (pc + 1) lv (st)) : WW Z nL Γ n s pc lv (v :: st) := fun G H locs ls hG hI hl => lv_pop C.x C.b d hc (k G H locs ls hG hI hl)
theorem r_dup_x1 {v w : Value} (C : CC Z y cc nL rt R) (d : decode cc pc = .ok (.dup_x1, 1)) (hc : v.category = 1) (hd : w.category = 1) (k : WW Z nL Γ n s (pc + 1) lv (v :: w :: v :: st)) : WW Z nL Γ n s pc lv (v :: w :: st) := fun G H locs ls hG hI hl => lv_dup_x1 C.x C.b d hc hd (k G H locs ls hG hI hl)
theorem r_ishl {x w : Int32} (C : CC Z y cc nL rt R) (d : decode cc pc = .ok (.ishl, 1)) (k : WW Z nL Γ n s (pc + 1) lv (.int (x <<< (w &&& 31)) :: st)) : WW Z nL Γ n s pc lv (.int w :: .int x :: st) := fun G H locs ls hG hI hl => lv_ishl C.x C.b d (k G H locs ls hG hI hl)
theorem r_ishr {x w : Int32} (C : CC Z y cc nL rt R) (d : decode cc pc = .ok (.ishr, 1)) (k : WW Z nL Γ n s (pc + 1) lv (.int (x >>> (w &&& 31)) :: st)) : WW Z nL Γ n s pc lv (.int w :: .int x :: st) := fun G H locs ls hG hI hl => lv_ishr C.x C.b d (k G H locs ls hG hI hl)
theorem r_i2l {x : Int32} {v : Int64} (C : CC Z y cc nL rt R) (d : decode cc pc = .ok (.i2l, 1)) (hv : x.toInt64 = v) (k : WW Z nL Γ n s (pc + 1) lv (.long v :: st)) : WW Z nL Γ n s pc lv (.int x :: st) := fun G H locs ls hG hI hl => lv_i2l C.x C.b d hv (k G H locs ls hG hI hl)
theorem r_l2i {x : Int64} {v : Int32} (C : CC Z y cc nL rt R) (d : decode cc pc = .ok (.l2i, 1)) (hv : x.toInt32 = v) (k : WW Z nL Γ n s (pc + 1) lv (.int v :: st)) : WW Z nL Γ n s pc lv (.long x :: st) := fun G H locs ls hG hI hl => lv_l2i C.x C.b d hv (k G H locs ls hG hI hl)
theorem r_i2b {x : Int32} {v : Int32} (C : CC Z y cc nL rt R) (d : decode cc pc = .ok (.i2b, 1)) (hv : x.toInt8.toInt32 = v) (k : WW Z nL Γ n s (pc + 1) lv (.int v :: st)) : WW Z nL Γ n s pc lv (.int x :: st) := fun G H locs ls hG hI hl => lv_i2b C.x C.b d hv (k G H locs ls hG hI hl)
theorem r_i2c {x : Int32} {v : Int32} (C : CC Z y cc nL rt R) (d : decode cc pc = .ok (.i2c, 1)) (hv : (x.toUInt32 % 65536).toInt32 = v) (k : WW Z nL Γ n s (pc + 1) lv (.int v :: st)) : WW Z nL Γ n s pc lv (.int x :: st) := fun G H locs ls hG hI hl => lv_i2c C.x C.b d hv (k G H locs ls hG hI hl)
theorem r_null (C : CC Z y cc nL rt R) (d : decode cc pc = .ok (.aconst_null, 1)) (k : WW Z nL Γ n s (pc + 1) lv (.null :: st)) : WW Z nL Γ n s pc lv (st) := fun G H locs ls hG hI hl => lv_null C.x C.b d (k G H locs ls hG hI hl)
theorem r_if_eq {x : Int32} {off : Int} {tgt : Nat} (C : CC Z y cc nL rt R) (d : decode cc pc = .ok (.ifCond .eq off, 3)) (ht : (pc : Int) + off = (tgt : Int)) (kt : x = 0 → WW Z nL Γ n s tgt lv st) (kf : ¬ x = 0 → WW Z nL Γ n s (pc + 3) lv st) : WW Z nL Γ n s pc lv (.int x :: st) := fun G H locs ls hG hI hl => lv_if_eq C.x C.b d ht (fun h => kt h G H locs ls hG hI hl) (fun h => kf h G H locs ls hG hI hl)
theorem r_icmp_eq {x w : Int32} {off : Int} {tgt : Nat} (C : CC Z y cc nL rt R) (d : decode cc pc = .ok (.if_icmp .eq off, 3)) (ht : (pc : Int) + off = (tgt : Int)) (kt : x = w → WW Z nL Γ n s tgt lv st) (kf : ¬ x = w → WW Z nL Γ n s (pc + 3) lv st) : WW Z nL Γ n s pc lv (.int w :: .int x :: st) := fun G H locs ls hG hI hl => lv_icmp_eq C.x C.b d ht (fun h => kt h G H locs ls hG hI hl) (fun h => kf h G H locs ls hG hI hl)
theorem r_if_ne {x : Int32} {off : Int} {tgt : Nat} (C : CC Z y cc nL rt R) (d : decode cc pc = .ok (.ifCond .ne off, 3)) (ht : (pc : Int) + off = (tgt : Int)) (kt : ¬ x = 0 → WW Z nL Γ n s tgt lv st) (kf : x = 0 → WW Z nL Γ n s (pc + 3) lv st) : WW Z nL Γ n s pc lv (.int x :: st) := fun G H locs ls hG hI hl => lv_if_ne C.x C.b d ht (fun h => kt h G H locs ls hG hI hl) (fun h => kf h G H locs ls hG hI hl)
theorem r_icmp_ne {x w : Int32} {off : Int} {tgt : Nat} (C : CC Z y cc nL rt R) (d : decode cc pc = .ok (.if_icmp .ne off, 3)) (ht : (pc : Int) + off = (tgt : Int)) (kt : ¬ x = w → WW Z nL Γ n s tgt lv st) (kf : x = w → WW Z nL Γ n s (pc + 3) lv st) : WW Z nL Γ n s pc lv (.int w :: .int x :: st) := fun G H locs ls hG hI hl => lv_icmp_ne C.x C.b d ht (fun h => kt h G H locs ls hG hI hl) (fun h => kf h G H locs ls hG hI hl)
theorem r_if_lt {x : Int32} {off : Int} {tgt : Nat} (C : CC Z y cc nL rt R) (d : decode cc pc = .ok (.ifCond .lt off, 3)) (ht : (pc : Int) + off = (tgt : Int)) (kt : x < 0 → WW Z nL Γ n s tgt lv st) (kf : ¬ x < 0 → WW Z nL Γ n s (pc + 3) lv st) : WW Z nL Γ n s pc lv (.int x :: st) := fun G H locs ls hG hI hl => lv_if_lt C.x C.b d ht (fun h => kt h G H locs ls hG hI hl) (fun h => kf h G H locs ls hG hI hl)
theorem r_icmp_lt {x w : Int32} {off : Int} {tgt : Nat} (C : CC Z y cc nL rt R) (d : decode cc pc = .ok (.if_icmp .lt off, 3)) (ht : (pc : Int) + off = (tgt : Int)) (kt : x < w → WW Z nL Γ n s tgt lv st) (kf : ¬ x < w → WW Z nL Γ n s (pc + 3) lv st) : WW Z nL Γ n s pc lv (.int w :: .int x :: st) := fun G H locs ls hG hI hl => lv_icmp_lt C.x C.b d ht (fun h => kt h G H locs ls hG hI hl) (fun h => kf h G H locs ls hG hI hl)
theorem r_if_ge {x : Int32} {off : Int} {tgt : Nat} (C : CC Z y cc nL rt R) (d : decode cc pc = .ok (.ifCond .ge off, 3)) (ht : (pc : Int) + off = (tgt : Int)) (kt : 0 ≤ x → WW Z nL Γ n s tgt lv st) (kf : ¬ 0 ≤ x → WW Z nL Γ n s (pc + 3) lv st) : WW Z nL Γ n s pc lv (.int x :: st) := fun G H locs ls hG hI hl => lv_if_ge C.x C.b d ht (fun h => kt h G H locs ls hG hI hl) (fun h => kf h G H locs ls hG hI hl)
theorem r_icmp_ge {x w : Int32} {off : Int} {tgt : Nat} (C : CC Z y cc nL rt R) (d : decode cc pc = .ok (.if_icmp .ge off, 3)) (ht : (pc : Int) + off = (tgt : Int)) (kt : w ≤ x → WW Z nL Γ n s tgt lv st) (kf : ¬ w ≤ x → WW Z nL Γ n s (pc + 3) lv st) : WW Z nL Γ n s pc lv (.int w :: .int x :: st) := fun G H locs ls hG hI hl => lv_icmp_ge C.x C.b d ht (fun h => kt h G H locs ls hG hI hl) (fun h => kf h G H locs ls hG hI hl)
theorem r_if_gt {x : Int32} {off : Int} {tgt : Nat} (C : CC Z y cc nL rt R) (d : decode cc pc = .ok (.ifCond .gt off, 3)) (ht : (pc : Int) + off = (tgt : Int)) (kt : 0 < x → WW Z nL Γ n s tgt lv st) (kf : ¬ 0 < x → WW Z nL Γ n s (pc + 3) lv st) : WW Z nL Γ n s pc lv (.int x :: st) := fun G H locs ls hG hI hl => lv_if_gt C.x C.b d ht (fun h => kt h G H locs ls hG hI hl) (fun h => kf h G H locs ls hG hI hl)
theorem r_icmp_gt {x w : Int32} {off : Int} {tgt : Nat} (C : CC Z y cc nL rt R) (d : decode cc pc = .ok (.if_icmp .gt off, 3)) (ht : (pc : Int) + off = (tgt : Int)) (kt : w < x → WW Z nL Γ n s tgt lv st) (kf : ¬ w < x → WW Z nL Γ n s (pc + 3) lv st) : WW Z nL Γ n s pc lv (.int w :: .int x :: st) := fun G H locs ls hG hI hl => lv_icmp_gt C.x C.b d ht (fun h => kt h G H locs ls hG hI hl) (fun h => kf h G H locs ls hG hI hl)
theorem r_if_le {x : Int32} {off : Int} {tgt : Nat} (C : CC Z y cc nL rt R) (d : decode cc pc = .ok (.ifCond .le off, 3)) (ht : (pc : Int) + off = (tgt : Int)) (kt : x ≤ 0 → WW Z nL Γ n s tgt lv st) (kf : ¬ x ≤ 0 → WW Z nL Γ n s (pc + 3) lv st) : WW Z nL Γ n s pc lv (.int x :: st) := fun G H locs ls hG hI hl => lv_if_le C.x C.b d ht (fun h => kt h G H locs ls hG hI hl) (fun h => kf h G H locs ls hG hI hl)
theorem r_icmp_le {x w : Int32} {off : Int} {tgt : Nat} (C : CC Z y cc nL rt R) (d : decode cc pc = .ok (.if_icmp .le off, 3)) (ht : (pc : Int) + off = (tgt : Int)) (kt : x ≤ w → WW Z nL Γ n s tgt lv st) (kf : ¬ x ≤ w → WW Z nL Γ n s (pc + 3) lv st) : WW Z nL Γ n s pc lv (.int w :: .int x :: st) := fun G H locs ls hG hI hl => lv_icmp_le C.x C.b d ht (fun h => kt h G H locs ls hG hI hl) (fun h => kf h G H locs ls hG hI hl)
theorem r_acmp_eq {rx rw : Option Nat} {off : Int} {tgt : Nat} (C : CC Z y cc nL rt R) (d : decode cc pc = .ok (.if_acmp .eq off, 3)) (ht : (pc : Int) + off = (tgt : Int)) (kt : rx = rw → WW Z nL Γ n s tgt lv st) (kf : ¬ rx = rw → WW Z nL Γ n s (pc + 3) lv st) : WW Z nL Γ n s pc lv (va_rf rw :: va_rf rx :: st) := fun G H locs ls hG hI hl => lv_acmp_eq C.x C.b d ht (fun h => kt h G H locs ls hG hI hl) (fun h => kf h G H locs ls hG hI hl)
theorem r_acmp_ne {rx rw : Option Nat} {off : Int} {tgt : Nat} (C : CC Z y cc nL rt R) (d : decode cc pc = .ok (.if_acmp .ne off, 3)) (ht : (pc : Int) + off = (tgt : Int)) (kt : ¬ rx = rw → WW Z nL Γ n s tgt lv st) (kf : rx = rw → WW Z nL Γ n s (pc + 3) lv st) : WW Z nL Γ n s pc lv (va_rf rw :: va_rf rx :: st) := fun G H locs ls hG hI hl => lv_acmp_ne C.x C.b d ht (fun h => kt h G H locs ls hG hI hl) (fun h => kf h G H locs ls hG hI hl)
theorem r_goto {off : Int} {tgt : Nat} (C : CC Z y cc nL rt R) (d : decode cc pc = .ok (.goto off, 3)) (ht : (pc : Int) + off = (tgt : Int)) (k : WW Z nL Γ n s tgt lv st) : WW Z nL Γ n s pc lv st := fun G H locs ls hG hI hl => lv_goto C.x C.b d ht (k G H locs ls hG hI hl)
theorem r_ldc {own : String} {index : Nat} {v : Int32} (C : CC Z y cc nL rt R) (d : decode cc pc = .ok (.ldc index, 2)) (ho : y.cls = own) (hw : Cond.constant own index v ∈ lw_all) (k : WW Z nL Γ n s (pc + 2) lv (.int v :: st)) : WW Z nL Γ n s pc lv st := fun G H locs ls hG hI hl => lv_ldc C.x C.b (ho ▸ C.o) (C.t _ hw) d (k G H locs ls hG hI hl)
theorem r_ldc2 {own : String} {index : Nat} {v : Int64} (C : CC Z y cc nL rt R) (d : decode cc pc = .ok (.ldc2_w index, 3)) (ho : y.cls = own) (hw : Cond.constantLong own index v ∈ lw_all) (k : WW Z nL Γ n s (pc + 3) lv (.long v :: st)) : WW Z nL Γ n s pc lv st := fun G H locs ls hG hI hl => lv_ldc2 C.x C.b (ho ▸ C.o) (C.t _ hw) d (k G H locs ls hG hI hl)
theorem r_lookup {dflt : Int} {ps : Array (Int × Int)} {len : Nat} {x : Int32} {off : Int} {tgt : Nat} (C : CC Z y cc nL rt R) (d : decode cc pc = .ok (.lookupswitch dflt ps, len)) (hp : (ps.toList.zip (ps.toList.drop 1)).all (fun (a, next) => a.1 < next.1) = true) (ho : Op.lookupswitch.offset ps.toList dflt x.toInt = off) (ht : (pc : Int) + off = (tgt : Int)) (k : WW Z nL Γ n s tgt lv st) : WW Z nL Γ n s pc lv (.int x :: st) := fun G H locs ls hG hI hl => lv_lookup C.x C.b d hp ho ht (k G H locs ls hG hI hl)
theorem r_tableOut {dflt lo hi : Int} {offs : Array Int} {len : Nat} {x : Int32} {tgt : Nat} (C : CC Z y cc nL rt R) (d : decode cc pc = .ok (.tableswitch dflt lo hi offs, len)) (h : x.toInt < lo ∨ hi < x.toInt) (ht : (pc : Int) + dflt = (tgt : Int)) (k : WW Z nL Γ n s tgt lv st) : WW Z nL Γ n s pc lv (.int x :: st) := fun G H locs ls hG hI hl => lv_tableOut C.x C.b d h ht (k G H locs ls hG hI hl)
theorem r_tableIn {dflt lo hi : Int} {offs : Array Int} {len : Nat} {x : Int32} {off : Int} {tgt : Nat} (C : CC Z y cc nL rt R) (d : decode cc pc = .ok (.tableswitch dflt lo hi offs, len)) (h1 : ¬ x.toInt < lo) (h2 : ¬ hi < x.toInt) (ho : offs[(x.toInt - lo).toNat]? = some off) (ht : (pc : Int) + off = (tgt : Int)) (k : WW Z nL Γ n s tgt lv st) : WW Z nL Γ n s pc lv (.int x :: st) := fun G H locs ls hG hI hl => lv_tableIn C.x C.b d h1 h2 ho ht (k G H locs ls hG hI hl)
theorem r_lcmp {x w : Int64} (C : CC Z y cc nL rt R) (d : decode cc pc = .ok (.lcmp, 1)) (k : WW Z nL Γ n s (pc + 1) lv (.int (lg_cmp x w) :: st)) : WW Z nL Γ n s pc lv (.long w :: .long x :: st) := fun G H locs ls hG hI hl => W.lcmp C.x C.b d (k G H locs ls hG hI hl)
theorem r_iinc {i : Nat} {z : Int} {x v : Int32} (C : CC Z y cc nL rt R) (d : decode cc pc = .ok (.iinc i z, 3)) (h : lv[i]? = some (some (.int x))) (hv : x + Int32.ofInt z = v) (hn : i < nL) (k : WW Z nL Γ n s (pc + 3) (lset lv i (.int v)) st) : WW Z nL Γ n s pc lv st := by
  intro G H locs ls hG hI hl
  obtain ⟨j, hj⟩ := List.getElem?_of_mem (lvl_mem (q := (i, .int x)).mpr h)
  exact lv_iinc C.x C.b d hl.has hj hv hn rfl (fun ls' hl' => k G H locs ls' hG hI (LV.put1 hl'))
def iI (z : Int) : Int32 := Int32.ofInt z
def lI (z : Int) : Int64 := Int64.ofInt z
def i32 (a : Int) : Prop := -2147483648 ≤ a ∧ a ≤ 2147483647
def i64 (a : Int) : Prop := -9223372036854775808 ≤ a ∧ a ≤ 9223372036854775807
theorem iI_add (a b : Int) : iI a + iI b = iI (a + b) := (Int32.ofInt_add a b).symm
theorem iI_sub (a b : Int) : iI a - iI b = iI (a - b) := (Int32.ofInt_sub a b).symm
theorem iI_mul (a b : Int) : iI a * iI b = iI (a * b) := (Int32.ofInt_mul a b).symm
theorem iI_neg (a : Int) : -iI a = iI (-a) := (Int32.ofInt_neg a).symm
theorem lI_add (a b : Int) : lI a + lI b = lI (a + b) := (Int64.ofInt_add a b).symm
theorem lI_sub (a b : Int) : lI a - lI b = lI (a - b) := (Int64.ofInt_sub a b).symm
theorem lI_mul (a b : Int) : lI a * lI b = lI (a * b) := (Int64.ofInt_mul a b).symm
theorem iI_toInt {a : Int} (h : i32 a) : (iI a).toInt = a := Int32.toInt_ofInt_of_le (by unfold i32 at h; omega) (by unfold i32 at h; omega)
theorem lI_toInt {a : Int} (h : i64 a) : (lI a).toInt = a := Int64.toInt_ofInt_of_le (by unfold i64 at h; omega) (by unfold i64 at h; omega)
theorem iI_of (x : Int32) : iI x.toInt = x := Int32.ofInt_toInt x
theorem lI_of (x : Int64) : lI x.toInt = x := Int64.ofInt_toInt x
theorem i32_of (x : Int32) : i32 x.toInt := ⟨Int32.le_toInt x, by have := Int32.toInt_lt x; omega⟩
theorem iI_inj {a b : Int} (ha : i32 a) (hb : i32 b) (h : iI a = iI b) : a = b := by rw [← iI_toInt ha, ← iI_toInt hb, h]
theorem lI_inj {a b : Int} (ha : i64 a) (hb : i64 b) (h : lI a = lI b) : a = b := by rw [← lI_toInt ha, ← lI_toInt hb, h]
theorem iI_eq {a b : Int} (ha : i32 a) (hb : i32 b) : iI a = iI b ↔ a = b := ⟨iI_inj ha hb, fun h => by rw [h]⟩
theorem iI_le {a b : Int} (ha : i32 a) (hb : i32 b) : iI a ≤ iI b ↔ a ≤ b := by rw [Int32.le_iff_toInt_le, iI_toInt ha, iI_toInt hb]
theorem iI_lt {a b : Int} (ha : i32 a) (hb : i32 b) : iI a < iI b ↔ a < b := by rw [Int32.lt_iff_toInt_lt, iI_toInt ha, iI_toInt hb]
theorem i32_0 : i32 0 := ⟨by decide, by decide⟩
theorem iI_eq0 {a : Int} (ha : i32 a) : iI a = 0 ↔ a = 0 := iI_eq ha i32_0
theorem iI_nI (k : Nat) : iI (k : Int) = nI k := by unfold iI nI; exact Int32.ofInt_eq_ofNat
theorem iI_div {a b : Int} (ha : i32 a) (hb : i32 b) : iI a / iI b = iI (a.tdiv b) := by
  apply Int32.toInt_inj.mp
  rw [Int32.toInt_div, iI_toInt ha, iI_toInt hb]
  unfold iI
  rw [Int32.toInt_ofInt]
theorem iI_rem {a b : Int} (ha : i32 a) (hb : i32 b) : iI a - iI a / iI b * iI b = iI (a.tmod b) := by
  rw [iI_div ha hb, iI_mul, iI_sub, Int.tmod_def, Int.mul_comm]
theorem lI_div {a b : Int} (ha : i64 a) (hb : i64 b) : lI a / lI b = lI (a.tdiv b) := by
  apply Int64.toInt_inj.mp
  rw [Int64.toInt_div, lI_toInt ha, lI_toInt hb]
  unfold lI
  rw [Int64.toInt_ofInt]
theorem lI_rem {a b : Int} (ha : i64 a) (hb : i64 b) : lI a - lI a / lI b * lI b = lI (a.tmod b) := by
  rw [lI_div ha hb, lI_mul, lI_sub, Int.tmod_def, Int.mul_comm]
theorem lI_i {a : Int} (h : i32 a) : (iI a).toInt64 = lI a := by
  apply Int64.toInt_inj.mp
  rw [Int32.toInt_toInt64, iI_toInt h, lI_toInt (by unfold i64; unfold i32 at h; omega)]
theorem iI_l {a : Int} : (lI a).toInt32 = iI a := by
  unfold lI iI
  exact Int64.toInt32_ofInt
theorem iI_clamp {a : Int} (h : i32 a) : (iI a).toNatClampNeg = a.toNat := by
  show (iI a).toInt.toNat = a.toNat
  rw [iI_toInt h]
theorem iI_in {a : Int} {N : Nat} (h0 : 0 ≤ a) (h : a < N) (hN : i32 N) : vp_in (iI a) N := by
  have ha : i32 a := by unfold i32 at hN ⊢; omega
  unfold vp_in
  rw [iI_clamp ha, Int32.lt_iff_toInt_lt, iI_toInt ha]
  intro q
  rcases q with q | q
  · have : (0 : Int32).toInt = 0 := rfl
    omega
  · omega
theorem r_iaddZ {a b : Int} (C : CC Z y cc nL rt R) (d : decode cc pc = .ok (.iadd, 1)) (k : WW Z nL Γ n s (pc + 1) lv (.int (iI (a + b)) :: st)) : WW Z nL Γ n s pc lv (.int (iI b) :: .int (iI a) :: st) := r_iadd C d (by rw [iI_add]; exact k)
theorem r_isubZ {a b : Int} (C : CC Z y cc nL rt R) (d : decode cc pc = .ok (.isub, 1)) (k : WW Z nL Γ n s (pc + 1) lv (.int (iI (a - b)) :: st)) : WW Z nL Γ n s pc lv (.int (iI b) :: .int (iI a) :: st) := r_isub C d (by rw [iI_sub]; exact k)
theorem r_imulZ {a b : Int} (C : CC Z y cc nL rt R) (d : decode cc pc = .ok (.imul, 1)) (k : WW Z nL Γ n s (pc + 1) lv (.int (iI (a * b)) :: st)) : WW Z nL Γ n s pc lv (.int (iI b) :: .int (iI a) :: st) := r_imul C d (by rw [iI_mul]; exact k)
theorem r_laddZ {a b : Int} (C : CC Z y cc nL rt R) (d : decode cc pc = .ok (.ladd, 1)) (k : WW Z nL Γ n s (pc + 1) lv (.long (lI (a + b)) :: st)) : WW Z nL Γ n s pc lv (.long (lI b) :: .long (lI a) :: st) := r_ladd C d (by rw [lI_add]; exact k)
theorem r_lsubZ {a b : Int} (C : CC Z y cc nL rt R) (d : decode cc pc = .ok (.lsub, 1)) (k : WW Z nL Γ n s (pc + 1) lv (.long (lI (a - b)) :: st)) : WW Z nL Γ n s pc lv (.long (lI b) :: .long (lI a) :: st) := r_lsub C d (by rw [lI_sub]; exact k)
theorem r_lmulZ {a b : Int} (C : CC Z y cc nL rt R) (d : decode cc pc = .ok (.lmul, 1)) (k : WW Z nL Γ n s (pc + 1) lv (.long (lI (a * b)) :: st)) : WW Z nL Γ n s pc lv (.long (lI b) :: .long (lI a) :: st) := r_lmul C d (by rw [lI_mul]; exact k)
theorem r_idivZ {a b : Int} (C : CC Z y cc nL rt R) (d : decode cc pc = .ok (.idiv, 1)) (ha : i32 a) (hb : i32 b) (h0 : b ≠ 0) (k : WW Z nL Γ n s (pc + 1) lv (.int (iI (a.tdiv b)) :: st)) : WW Z nL Γ n s pc lv (.int (iI b) :: .int (iI a) :: st) := r_idiv C d (fun e => h0 ((iI_eq0 hb).mp e)) (by rw [iI_div ha hb]; exact k)
theorem r_iremZ {a b : Int} (C : CC Z y cc nL rt R) (d : decode cc pc = .ok (.irem, 1)) (ha : i32 a) (hb : i32 b) (h0 : b ≠ 0) (k : WW Z nL Γ n s (pc + 1) lv (.int (iI (a.tmod b)) :: st)) : WW Z nL Γ n s pc lv (.int (iI b) :: .int (iI a) :: st) := r_irem C d (fun e => h0 ((iI_eq0 hb).mp e)) (by rw [iI_rem ha hb]; exact k)
theorem r_ldivZ {a b : Int} (C : CC Z y cc nL rt R) (d : decode cc pc = .ok (.ldiv, 1)) (ha : i64 a) (hb : i64 b) (h0 : b ≠ 0) (k : WW Z nL Γ n s (pc + 1) lv (.long (lI (a.tdiv b)) :: st)) : WW Z nL Γ n s pc lv (.long (lI b) :: .long (lI a) :: st) := r_ldiv C d (fun e => h0 (lI_inj hb (by unfold i64; omega) (e.trans rfl))) (by rw [lI_div ha hb]; exact k)
theorem r_lremZ {a b : Int} (C : CC Z y cc nL rt R) (d : decode cc pc = .ok (.lrem, 1)) (ha : i64 a) (hb : i64 b) (h0 : b ≠ 0) (k : WW Z nL Γ n s (pc + 1) lv (.long (lI (a.tmod b)) :: st)) : WW Z nL Γ n s pc lv (.long (lI b) :: .long (lI a) :: st) := r_lrem C d (fun e => h0 (lI_inj hb (by unfold i64; omega) (e.trans rfl))) (by rw [lI_rem ha hb]; exact k)
theorem r_inegZ {a : Int} (C : CC Z y cc nL rt R) (d : decode cc pc = .ok (.ineg, 1)) (k : WW Z nL Γ n s (pc + 1) lv (.int (iI (-a)) :: st)) : WW Z nL Γ n s pc lv (.int (iI a) :: st) := r_ineg C d (by rw [iI_neg]; exact k)
theorem r_iconstZ {z : Int} (C : CC Z y cc nL rt R) (d : decode cc pc = .ok (.iconst z, 1)) (k : WW Z nL Γ n s (pc + 1) lv (.int (iI z) :: st)) : WW Z nL Γ n s pc lv st := r_iconst C d rfl k
theorem r_bipushZ {z : Int} (C : CC Z y cc nL rt R) (d : decode cc pc = .ok (.bipush z, 2)) (hv : (Int8.ofInt z).toInt32 = iI z) (k : WW Z nL Γ n s (pc + 2) lv (.int (iI z) :: st)) : WW Z nL Γ n s pc lv st := r_bipush C d hv k
theorem r_sipushZ {z : Int} (C : CC Z y cc nL rt R) (d : decode cc pc = .ok (.sipush z, 3)) (hv : (Int16.ofInt z).toInt32 = iI z) (k : WW Z nL Γ n s (pc + 3) lv (.int (iI z) :: st)) : WW Z nL Γ n s pc lv st := r_sipush C d hv k
theorem r_i2lZ {a : Int} (C : CC Z y cc nL rt R) (d : decode cc pc = .ok (.i2l, 1)) (ha : i32 a) (k : WW Z nL Γ n s (pc + 1) lv (.long (lI a) :: st)) : WW Z nL Γ n s pc lv (.int (iI a) :: st) := r_i2l C d (lI_i ha) k
theorem r_l2iZ {a : Int} (C : CC Z y cc nL rt R) (d : decode cc pc = .ok (.l2i, 1)) (k : WW Z nL Γ n s (pc + 1) lv (.int (iI a) :: st)) : WW Z nL Γ n s pc lv (.long (lI a) :: st) := r_l2i C d iI_l k
theorem r_iincZ {i : Nat} {z a : Int} (C : CC Z y cc nL rt R) (d : decode cc pc = .ok (.iinc i z, 3)) (h : lv[i]? = some (some (.int (iI a)))) (hn : i < nL) (k : WW Z nL Γ n s (pc + 3) (lset lv i (.int (iI (a + z)))) st) : WW Z nL Γ n s pc lv st := r_iinc C d h (iI_add a z) hn k
theorem r_ldcZ {own : String} {index : Nat} {v : Int32} {a : Int} (C : CC Z y cc nL rt R) (d : decode cc pc = .ok (.ldc index, 2)) (ho : y.cls = own) (hw : Cond.constant own index v ∈ lw_all) (hv : v = iI a) (k : WW Z nL Γ n s (pc + 2) lv (.int (iI a) :: st)) : WW Z nL Γ n s pc lv st := r_ldc C d ho hw (by rw [hv]; exact k)
theorem r_ldc2Z {own : String} {index : Nat} {v : Int64} {a : Int} (C : CC Z y cc nL rt R) (d : decode cc pc = .ok (.ldc2_w index, 3)) (ho : y.cls = own) (hw : Cond.constantLong own index v ∈ lw_all) (hv : v = lI a) (k : WW Z nL Γ n s (pc + 3) lv (.long (lI a) :: st)) : WW Z nL Γ n s pc lv st := r_ldc2 C d ho hw (by rw [hv]; exact k)
theorem r_icmp_eqZ {a b : Int} {off : Int} {tgt : Nat} (C : CC Z y cc nL rt R) (d : decode cc pc = .ok (.if_icmp .eq off, 3)) (ht : (pc : Int) + off = (tgt : Int)) (ha : i32 a) (hb : i32 b) (kt : a = b → WW Z nL Γ n s tgt lv st) (kf : a ≠ b → WW Z nL Γ n s (pc + 3) lv st) : WW Z nL Γ n s pc lv (.int (iI b) :: .int (iI a) :: st) := r_icmp_eq C d ht (fun h => kt ((iI_eq ha hb).mp h)) (fun h => kf (fun e => h ((iI_eq ha hb).mpr e)))
theorem r_if_eqZ {a : Int} {off : Int} {tgt : Nat} (C : CC Z y cc nL rt R) (d : decode cc pc = .ok (.ifCond .eq off, 3)) (ht : (pc : Int) + off = (tgt : Int)) (ha : i32 a) (kt : a = 0 → WW Z nL Γ n s tgt lv st) (kf : a ≠ 0 → WW Z nL Γ n s (pc + 3) lv st) : WW Z nL Γ n s pc lv (.int (iI a) :: st) := r_if_eq C d ht (fun h => kt ((iI_eq ha i32_0).mp h)) (fun h => kf (fun e => h ((iI_eq ha i32_0).mpr e)))
theorem r_icmp_neZ {a b : Int} {off : Int} {tgt : Nat} (C : CC Z y cc nL rt R) (d : decode cc pc = .ok (.if_icmp .ne off, 3)) (ht : (pc : Int) + off = (tgt : Int)) (ha : i32 a) (hb : i32 b) (kt : a ≠ b → WW Z nL Γ n s tgt lv st) (kf : a = b → WW Z nL Γ n s (pc + 3) lv st) : WW Z nL Γ n s pc lv (.int (iI b) :: .int (iI a) :: st) := r_icmp_ne C d ht (fun h => kt (fun e => h ((iI_eq ha hb).mpr e))) (fun h => kf ((iI_eq ha hb).mp h))
theorem r_if_neZ {a : Int} {off : Int} {tgt : Nat} (C : CC Z y cc nL rt R) (d : decode cc pc = .ok (.ifCond .ne off, 3)) (ht : (pc : Int) + off = (tgt : Int)) (ha : i32 a) (kt : a ≠ 0 → WW Z nL Γ n s tgt lv st) (kf : a = 0 → WW Z nL Γ n s (pc + 3) lv st) : WW Z nL Γ n s pc lv (.int (iI a) :: st) := r_if_ne C d ht (fun h => kt (fun e => h ((iI_eq ha i32_0).mpr e))) (fun h => kf ((iI_eq ha i32_0).mp h))
theorem r_icmp_ltZ {a b : Int} {off : Int} {tgt : Nat} (C : CC Z y cc nL rt R) (d : decode cc pc = .ok (.if_icmp .lt off, 3)) (ht : (pc : Int) + off = (tgt : Int)) (ha : i32 a) (hb : i32 b) (kt : a < b → WW Z nL Γ n s tgt lv st) (kf : b ≤ a → WW Z nL Γ n s (pc + 3) lv st) : WW Z nL Γ n s pc lv (.int (iI b) :: .int (iI a) :: st) := r_icmp_lt C d ht (fun h => kt ((iI_lt ha hb).mp h)) (fun h => kf (Int.not_lt.mp (fun e => h ((iI_lt ha hb).mpr e))))
theorem r_if_ltZ {a : Int} {off : Int} {tgt : Nat} (C : CC Z y cc nL rt R) (d : decode cc pc = .ok (.ifCond .lt off, 3)) (ht : (pc : Int) + off = (tgt : Int)) (ha : i32 a) (kt : a < 0 → WW Z nL Γ n s tgt lv st) (kf : 0 ≤ a → WW Z nL Γ n s (pc + 3) lv st) : WW Z nL Γ n s pc lv (.int (iI a) :: st) := r_if_lt C d ht (fun h => kt ((iI_lt ha i32_0).mp h)) (fun h => kf (Int.not_lt.mp (fun e => h ((iI_lt ha i32_0).mpr e))))
theorem r_icmp_geZ {a b : Int} {off : Int} {tgt : Nat} (C : CC Z y cc nL rt R) (d : decode cc pc = .ok (.if_icmp .ge off, 3)) (ht : (pc : Int) + off = (tgt : Int)) (ha : i32 a) (hb : i32 b) (kt : b ≤ a → WW Z nL Γ n s tgt lv st) (kf : a < b → WW Z nL Γ n s (pc + 3) lv st) : WW Z nL Γ n s pc lv (.int (iI b) :: .int (iI a) :: st) := r_icmp_ge C d ht (fun h => kt ((iI_le hb ha).mp h)) (fun h => kf (Int.not_le.mp (fun e => h ((iI_le hb ha).mpr e))))
theorem r_if_geZ {a : Int} {off : Int} {tgt : Nat} (C : CC Z y cc nL rt R) (d : decode cc pc = .ok (.ifCond .ge off, 3)) (ht : (pc : Int) + off = (tgt : Int)) (ha : i32 a) (kt : 0 ≤ a → WW Z nL Γ n s tgt lv st) (kf : a < 0 → WW Z nL Γ n s (pc + 3) lv st) : WW Z nL Γ n s pc lv (.int (iI a) :: st) := r_if_ge C d ht (fun h => kt ((iI_le i32_0 ha).mp h)) (fun h => kf (Int.not_le.mp (fun e => h ((iI_le i32_0 ha).mpr e))))
theorem r_icmp_gtZ {a b : Int} {off : Int} {tgt : Nat} (C : CC Z y cc nL rt R) (d : decode cc pc = .ok (.if_icmp .gt off, 3)) (ht : (pc : Int) + off = (tgt : Int)) (ha : i32 a) (hb : i32 b) (kt : b < a → WW Z nL Γ n s tgt lv st) (kf : a ≤ b → WW Z nL Γ n s (pc + 3) lv st) : WW Z nL Γ n s pc lv (.int (iI b) :: .int (iI a) :: st) := r_icmp_gt C d ht (fun h => kt ((iI_lt hb ha).mp h)) (fun h => kf (Int.not_lt.mp (fun e => h ((iI_lt hb ha).mpr e))))
theorem r_if_gtZ {a : Int} {off : Int} {tgt : Nat} (C : CC Z y cc nL rt R) (d : decode cc pc = .ok (.ifCond .gt off, 3)) (ht : (pc : Int) + off = (tgt : Int)) (ha : i32 a) (kt : 0 < a → WW Z nL Γ n s tgt lv st) (kf : a ≤ 0 → WW Z nL Γ n s (pc + 3) lv st) : WW Z nL Γ n s pc lv (.int (iI a) :: st) := r_if_gt C d ht (fun h => kt ((iI_lt i32_0 ha).mp h)) (fun h => kf (Int.not_lt.mp (fun e => h ((iI_lt i32_0 ha).mpr e))))
theorem r_icmp_leZ {a b : Int} {off : Int} {tgt : Nat} (C : CC Z y cc nL rt R) (d : decode cc pc = .ok (.if_icmp .le off, 3)) (ht : (pc : Int) + off = (tgt : Int)) (ha : i32 a) (hb : i32 b) (kt : a ≤ b → WW Z nL Γ n s tgt lv st) (kf : b < a → WW Z nL Γ n s (pc + 3) lv st) : WW Z nL Γ n s pc lv (.int (iI b) :: .int (iI a) :: st) := r_icmp_le C d ht (fun h => kt ((iI_le ha hb).mp h)) (fun h => kf (Int.not_le.mp (fun e => h ((iI_le ha hb).mpr e))))
theorem r_if_leZ {a : Int} {off : Int} {tgt : Nat} (C : CC Z y cc nL rt R) (d : decode cc pc = .ok (.ifCond .le off, 3)) (ht : (pc : Int) + off = (tgt : Int)) (ha : i32 a) (kt : a ≤ 0 → WW Z nL Γ n s tgt lv st) (kf : 0 < a → WW Z nL Γ n s (pc + 3) lv st) : WW Z nL Γ n s pc lv (.int (iI a) :: st) := r_if_le C d ht (fun h => kt ((iI_le ha i32_0).mp h)) (fun h => kf (Int.not_le.mp (fun e => h ((iI_le ha i32_0).mpr e))))
theorem r_tableOutZ {dflt lo hi : Int} {offs : Array Int} {len : Nat} {a : Int} {tgt : Nat} (C : CC Z y cc nL rt R) (d : decode cc pc = .ok (.tableswitch dflt lo hi offs, len)) (ha : i32 a) (h : a < lo ∨ hi < a) (ht : (pc : Int) + dflt = (tgt : Int)) (k : WW Z nL Γ n s tgt lv st) : WW Z nL Γ n s pc lv (.int (iI a) :: st) := r_tableOut C d (by rw [iI_toInt ha]; exact h) ht k
theorem r_tableInZ {dflt lo hi : Int} {offs : Array Int} {len : Nat} {a : Int} {off : Int} {tgt : Nat} (C : CC Z y cc nL rt R) (d : decode cc pc = .ok (.tableswitch dflt lo hi offs, len)) (ha : i32 a) (h1 : lo ≤ a) (h2 : a ≤ hi) (ho : offs[(a - lo).toNat]? = some off) (ht : (pc : Int) + off = (tgt : Int)) (k : WW Z nL Γ n s tgt lv st) : WW Z nL Γ n s pc lv (.int (iI a) :: st) := r_tableIn C d (by rw [iI_toInt ha]; omega) (by rw [iI_toInt ha]; omega) (by rw [iI_toInt ha]; exact ho) ht k
/-! the heap's rows -/
theorem r_get {ci k idx N a : Nat} {T : u_T} {Cn ref : String} {fs : List Value} {v : Value} (C : CC Z y cc nL rt R) (d : decode cc pc = .ok (.getfield idx, 3)) (h : ∀ G, Γ G → ∃ t, G a = some (t, .inl (ci, fs))) (hc : vwC[ci]? = some (Cn, T, N)) (hin : ∀ w ∈ u_ws Cn T N, w ∈ lw_all) (hk : k < N) (hlink : (Cond.fieldLink y.cls idx ref (T k).2.1 (T k).2.2.1).before (za Z) (zs Z) = true) (hsame : ∀ x, (zs Z).fieldFound? (T k).1 (T k).2.1 (T k).2.2.1 = some x → (zs Z).fieldFound? ref (T k).2.1 (T k).2.2.1 = some x) (hv : fs[k]? = some v)
    (kk : WW Z nL Γ n s (pc + 3) lv (v :: st)) : WW Z nL Γ n s pc lv (.ref a :: st) := by
  intro G H locs ls hG hI hl
  obtain ⟨t, ht⟩ := h G hG
  obtain ⟨-, r, cell, h1, q1, q2, q3, q4, q5, q6⟩ := hI.1 a _ ht
  have hr : r = (Cn, T, N) := Option.some.inj (h1.symm.trans hc)
  subst hr
  obtain ⟨hS, hfc, kC, hkC, hkind⟩ := C.e.1 ci _ hc
  obtain ⟨cf, kf, fi, f, hi, hsl⟩ := hS k hk
  refine W.getf C.x C.b C.o hlink (hsame _ hi) (u_facts hfc hkC (u_lays C.t hin hk) hi).1 q1 q4 (v := v) ?_ rfl rfl d (kk G H locs ls hG hI hl)
  rw [hsl, q6 k hk]
  simp [vp_V, hv]
theorem r_getN {ci k idx N a : Nat} {T : u_T} {Cn ref host : String} {fs : List Value} {v : Value} (C : CC Z y cc nL rt R) (d : decode cc pc = .ok (.getfield idx, 3)) (h : ∀ G, Γ G → ∃ t, G a = some (t, .inl (ci, fs))) (hc : vwC[ci]? = some (Cn, T, N)) (hin : ∀ w ∈ u_ws Cn T N, w ∈ lw_all) (hk : k < N) (hlink : (Cond.fieldLinkNest y.cls idx ref (T k).2.1 (T k).2.2.1 host).before (za Z) (zs Z) = true) (hsame : ∀ x, (zs Z).fieldFound? (T k).1 (T k).2.1 (T k).2.2.1 = some x → (zs Z).fieldFound? ref (T k).2.1 (T k).2.2.1 = some x) (hv : fs[k]? = some v)
    (kk : WW Z nL Γ n s (pc + 3) lv (v :: st)) : WW Z nL Γ n s pc lv (.ref a :: st) := by
  intro G H locs ls hG hI hl
  obtain ⟨t, ht⟩ := h G hG
  obtain ⟨-, r, cell, h1, q1, q2, q3, q4, q5, q6⟩ := hI.1 a _ ht
  have hr : r = (Cn, T, N) := Option.some.inj (h1.symm.trans hc)
  subst hr
  obtain ⟨hS, hfc, kC, hkC, hkind⟩ := C.e.1 ci _ hc
  obtain ⟨cf, kf, fi, f, hi, hsl⟩ := hS k hk
  refine va_Wgetf C.x C.b C.o hlink (hsame _ hi) (u_facts hfc hkC (u_lays C.t hin hk) hi).1 q1 q4 (v := v) ?_ rfl rfl d (kk G H locs ls hG hI hl)
  rw [hsl, q6 k hk]
  simp [vp_V, hv]
/-- the class's slots are apart -/
theorem slots_apart {ci N : Nat} {T : u_T} {Cn : String} (C : CC Z y cc nL rt R) (hin : ∀ w ∈ u_ws Cn T N, w ∈ lw_all) (ty0 : Nat → FieldType) (hty : ∀ k, k < N → parseFieldDescriptor (T k).2.2.1 = some (ty0 k)) (hnm : ∀ a, a < N → ∀ b, b < N → a ≠ b → (T a).2.1 ≠ (T b).2.1) (hc : vwC[ci]? = some (Cn, T, N)) : ∀ x z, x < N → z < N → x ≠ z → ((zX Z).1.2 ci) x ≠ ((zX Z).1.2 ci) z := by
  intro x z hx hz hne
  obtain ⟨hS, -⟩ := C.e.1 ci _ hc
  obtain ⟨_, _, _, fa, hia, ea⟩ := hS x hx
  obtain ⟨_, _, _, fb, hib, eb⟩ := hS z hz
  rw [← ea, ← eb]
  refine u_apart (u_lays C.t hin hx) (u_lays C.t hin hz) hia hib ?_
  rw [(State.fieldFound?_type hia (hty x hx)).1, (State.fieldFound?_type hib (hty z hz)).1]
  exact hnm x hx z hz hne
theorem gobj_put {X : XE} {H' : Heap} {a t ci k N : Nat} {T : u_T} {Cn : String} {fs : List Value} {v : Value} {cell : Cell} (hc : vwC[ci]? = some (Cn, T, N)) (q2 : cell.cls = X.1.1 ci) (q5 : cell.vm = .none) (q6 : ∀ k, k < N → cell.slots[X.1.2 ci k]? = some (vp_V fs k)) (hap : ∀ x z, x < N → z < N → x ≠ z → (X.1.2 ci) x ≠ (X.1.2 ci) z) (hk : k < N) (hl : k < fs.length) (e1 : H'[a]? = some (cell.setSlot (X.1.2 ci k) v)) : gobj X H' a t ci (fs.set k v) := by
  refine ⟨(Cn, T, N), _, hc, e1, q2, ?_, ?_, fun _ => q5, fun j hj => ?_⟩
  · show cell.vm.isStatics = false
    rw [q5]; rfl
  · show cell.vm ≠ .unknown
    rw [q5]; exact fun h => by cases h
  · rw [t_set q6 hap hk v j hj, vp_updV_set hl v j]
theorem r_put {ci k idx N a : Nat} {T : u_T} {Cn ref : String} {ty : FieldType} {fs : List Value} {v : Value} (C : CC Z y cc nL rt R) (d : decode cc pc = .ok (.putfield idx, 3)) (h : ∀ G, Γ G → ∃ t, t ≠ 0 ∧ G a = some (t, .inl (ci, fs)) ∧ Γ' (gup G a (t, .inl (ci, fs.set k v)))) (hc : vwC[ci]? = some (Cn, T, N)) (hin : ∀ w ∈ u_ws Cn T N, w ∈ lw_all) (ty0 : Nat → FieldType) (hty : ∀ k, k < N → parseFieldDescriptor (T k).2.2.1 = some (ty0 k)) (hnm : ∀ a, a < N → ∀ b, b < N → a ≠ b → (T a).2.1 ≠ (T b).2.1) (hk : k < N) (hlink : (Cond.fieldLink y.cls idx ref (T k).2.1 (T k).2.2.1).before (za Z) (zs Z) = true) (hsame : ∀ x, (zs Z).fieldFound? (T k).1 (T k).2.1 (T k).2.2.1 = some x → (zs Z).fieldFound? ref (T k).2.1 (T k).2.2.1 = some x) (hfin : (T k).2.2.2 = false) (hd : parseFieldDescriptor (T k).2.2.1 = some ty) (hn : narrow ty v = v) (hfit : fits ty v = true) (hl : k < fs.length)
    (kk : WW Z nL Γ' n s (pc + 3) lv st) : WW Z nL Γ n s pc lv (v :: .ref a :: st) := by
  intro G H locs ls hG hI hlv
  obtain ⟨t, ht0, ht, hΓ⟩ := h G hG
  obtain ⟨hb, r, cell, h1, q1, q2, q3, q4, q5, q6⟩ := hI.1 a _ ht
  have hr : r = (Cn, T, N) := Option.some.inj (h1.symm.trans hc)
  subst hr
  have hap := slots_apart C hin ty0 hty hnm hc
  obtain ⟨hS, hfc, kC, hkC, hkind⟩ := C.e.1 ci _ hc
  obtain ⟨cf, kf, fi, f, hi, hsl⟩ := hS k hk
  have hlay := C.t _ (hin _ (u_in_lay hk))
  unfold u_lay at hlay
  rw [if_neg (by rw [hfin]; decide)] at hlay
  have hst := (u_facts hfc hkC (u_lays C.t hin hk) hi).1
  have h6 := u_store hfc hkC hkind hlay hi hd hn hfit
  refine W.putK C.x C.b (f := f) ⟨C.o, hlink, ⟨_, _, _, hsame _ hi⟩, hst⟩ (by rw [q2]; exact h6) q1 (q5 ht0) (by rw [hsl]; exact k2_hasslot (q6 k hk)) rfl rfl d fun H' e1 e2 e3 => ?_
  rw [hsl] at e1 ⊢
  exact kk _ H' _ ls hΓ ⟨hI.1.set ⟨fun _ => hb ht0, gobj_put hc q2 (q5 ht0) q6 hap hk hl e1⟩ e3, hI.2.put e2 e3 (hb ht0)⟩ hlv
theorem r_putN {ci k idx N a : Nat} {T : u_T} {Cn ref host : String} {ty : FieldType} {fs : List Value} {v : Value} (C : CC Z y cc nL rt R) (d : decode cc pc = .ok (.putfield idx, 3)) (h : ∀ G, Γ G → ∃ t, t ≠ 0 ∧ G a = some (t, .inl (ci, fs)) ∧ Γ' (gup G a (t, .inl (ci, fs.set k v)))) (hc : vwC[ci]? = some (Cn, T, N)) (hin : ∀ w ∈ u_ws Cn T N, w ∈ lw_all) (ty0 : Nat → FieldType) (hty : ∀ k, k < N → parseFieldDescriptor (T k).2.2.1 = some (ty0 k)) (hnm : ∀ a, a < N → ∀ b, b < N → a ≠ b → (T a).2.1 ≠ (T b).2.1) (hk : k < N) (hlink : (Cond.fieldLinkNest y.cls idx ref (T k).2.1 (T k).2.2.1 host).before (za Z) (zs Z) = true) (hsame : ∀ x, (zs Z).fieldFound? (T k).1 (T k).2.1 (T k).2.2.1 = some x → (zs Z).fieldFound? ref (T k).2.1 (T k).2.2.1 = some x) (hfin : (T k).2.2.2 = false) (hd : parseFieldDescriptor (T k).2.2.1 = some ty) (hn : narrow ty v = v) (hfit : fits ty v = true) (hl : k < fs.length)
    (kk : WW Z nL Γ' n s (pc + 3) lv st) : WW Z nL Γ n s pc lv (v :: .ref a :: st) := by
  intro G H locs ls hG hI hlv
  obtain ⟨t, ht0, ht, hΓ⟩ := h G hG
  obtain ⟨hb, r, cell, h1, q1, q2, q3, q4, q5, q6⟩ := hI.1 a _ ht
  have hr : r = (Cn, T, N) := Option.some.inj (h1.symm.trans hc)
  subst hr
  have hap := slots_apart C hin ty0 hty hnm hc
  obtain ⟨hS, hfc, kC, hkC, hkind⟩ := C.e.1 ci _ hc
  obtain ⟨cf, kf, fi, f, hi, hsl⟩ := hS k hk
  have hlay := C.t _ (hin _ (u_in_lay hk))
  unfold u_lay at hlay
  rw [if_neg (by rw [hfin]; decide)] at hlay
  have hst := (u_facts hfc hkC (u_lays C.t hin hk) hi).1
  have h6 := u_store hfc hkC hkind hlay hi hd hn hfit
  refine va_WputK C.x C.b (f := f) C.o hlink (hsame _ hi) hst (by rw [q2]; exact h6) q1 (q5 ht0) (by rw [hsl]; exact k2_hasslot (q6 k hk)) rfl rfl d fun H' e1 e2 e3 => ?_
  rw [hsl] at e1 ⊢
  exact kk _ H' _ ls hΓ ⟨hI.1.set ⟨fun _ => hb ht0, gobj_put hc q2 (q5 ht0) q6 hap hk hl e1⟩ e3, hI.2.put e2 e3 (hb ht0)⟩ hlv
theorem r_putF {ci k idx N a : Nat} {T : u_T} {Cn ref : String} {ty : FieldType} {fs : List Value} {v : Value} (C : CC Z y cc nL rt R) (d : decode cc pc = .ok (.putfield idx, 3)) (h : ∀ G, Γ G → ∃ t, t ≠ 0 ∧ G a = some (t, .inl (ci, fs)) ∧ Γ' (gup G a (t, .inl (ci, fs.set k v)))) (hc : vwC[ci]? = some (Cn, T, N)) (hin : ∀ w ∈ u_ws Cn T N, w ∈ lw_all) (ty0 : Nat → FieldType) (hty : ∀ k, k < N → parseFieldDescriptor (T k).2.2.1 = some (ty0 k)) (hnm : ∀ a, a < N → ∀ b, b < N → a ≠ b → (T a).2.1 ≠ (T b).2.1) (hk : k < N) (hlink : (Cond.fieldLink y.cls idx ref (T k).2.1 (T k).2.2.1).before (za Z) (zs Z) = true) (hsame : ∀ x, (zs Z).fieldFound? (T k).1 (T k).2.1 (T k).2.2.1 = some x → (zs Z).fieldFound? ref (T k).2.1 (T k).2.2.1 = some x) (hfin : (T k).2.2.2 = true) (hin2 : y.name = "<init>") (hdecl : (T k).1 = y.cls) (hd : parseFieldDescriptor (T k).2.2.1 = some ty) (hn : narrow ty v = v) (hfit : fits ty v = true) (hl : k < fs.length)
    (kk : WW Z nL Γ' n s (pc + 3) lv st) : WW Z nL Γ n s pc lv (v :: .ref a :: st) := by
  intro G H locs ls hG hI hlv
  obtain ⟨t, ht0, ht, hΓ⟩ := h G hG
  obtain ⟨hb, r, cell, h1, q1, q2, q3, q4, q5, q6⟩ := hI.1 a _ ht
  have hr : r = (Cn, T, N) := Option.some.inj (h1.symm.trans hc)
  subst hr
  have hap := slots_apart C hin ty0 hty hnm hc
  obtain ⟨hS, hfc, kC, hkC, hkind⟩ := C.e.1 ci _ hc
  obtain ⟨cf, kf, fi, f, hi, hsl⟩ := hS k hk
  have hlay := C.t _ (hin _ (u_in_lay hk))
  unfold u_lay at hlay
  rw [if_pos hfin] at hlay
  have hst := (u_facts hfc hkC (u_lays C.t hin hk) hi).1
  have hown := C.o
  have hcf : (zm Z).cls = cf := by
    obtain ⟨_, _, c', _, _, _, -, -, hf', -, -, -, hown2, -⟩ := Cond.laysFinal_spec hlay
    have e1 : c' = cf := by have := hi.symm.trans hf'; simp at this; exact this.1.symm
    rw [hdecl] at hown2
    rw [← e1]; exact Option.some.inj (hown.symm.trans hown2)
  have h6 := u_fits hfc hkC hkind (Or.inr hlay) hi hd hn hfit
  refine W.putFinK C.x C.b C.o hlink (hsame _ hi) hst hcf (C.nm.trans hin2) (by rw [q2]; exact h6) q1 (q5 ht0) (by rw [hsl]; exact k2_hasslot (q6 k hk)) rfl rfl d fun H' e1 e2 e3 => ?_
  rw [hsl] at e1 ⊢
  exact kk _ H' _ ls hΓ ⟨hI.1.set ⟨fun _ => hb ht0, gobj_put hc q2 (q5 ht0) q6 hap hk hl e1⟩ e3, hI.2.put e2 e3 (hb ht0)⟩ hlv
theorem garr_rd {s : State} {H : Heap} {a k n : Nat} {f : Nat → Value} {i : Int32} {cell : Cell} (h5 : n ≤ cell.slots.size) (h7 : ∀ j, j < n → cell.slots[j]? = some (f j)) (hin : vp_in i n) : ¬ (i < 0 ∨ cell.slots.size ≤ i.toNatClampNeg) ∧ cell.slots[i.toNatClampNeg]? = some (f i.toNatClampNeg) := by
  have h8 : i.toNatClampNeg < n := Nat.not_le.mp fun q => hin (Or.inr q)
  refine ⟨fun q => ?_, h7 _ h8⟩
  rcases q with q | q
  · exact hin (Or.inl q)
  · omega
theorem r_iald {a N : Nat} {f : Nat → Value} {i : Int32} {v : Value} (C : CC Z y cc nL rt R) (d : decode cc pc = .ok (.iaload, 1)) (h : ∀ G, Γ G → ∃ t, G a = some (t, .inr (0, N, f))) (hin : vp_in i N) (hv : f i.toNatClampNeg = v) (kk : WW Z nL Γ n s (pc + 1) lv (v :: st)) : WW Z nL Γ n s pc lv (.int i :: .ref a :: st) := by
  intro G H locs ls hG hI hl
  obtain ⟨t, ht⟩ := h G hG
  obtain ⟨-, cell, h1, h2, h3, h4, h5, h6, -⟩ := hI.1 a _ ht
  obtain ⟨g1, g2⟩ := garr_rd (s := zs Z) (H := H) (a := a) (k := 0) h4 h6 hin
  exact W.iald C.x C.b h1 h2 h3 g1 (by rw [g2]; exact congrArg some hv) rfl rfl d (kk G H locs ls hG hI hl)
theorem r_bald {a N : Nat} {f : Nat → Value} {i : Int32} {v : Value} (C : CC Z y cc nL rt R) (d : decode cc pc = .ok (.baload, 1)) (h : ∀ G, Γ G → ∃ t, G a = some (t, .inr (1, N, f))) (hin : vp_in i N) (hv : f i.toNatClampNeg = v) (kk : WW Z nL Γ n s (pc + 1) lv (v :: st)) : WW Z nL Γ n s pc lv (.int i :: .ref a :: st) := by
  intro G H locs ls hG hI hl
  obtain ⟨t, ht⟩ := h G hG
  obtain ⟨-, cell, h1, h2, h3, h4, h5, h6, -⟩ := hI.1 a _ ht
  obtain ⟨g1, g2⟩ := garr_rd (s := zs Z) (H := H) (a := a) (k := 1) h4 h6 hin
  exact W.bald C.x C.b h1 h2 h3 g1 (by rw [g2]; exact congrArg some hv) rfl rfl d (kk G H locs ls hG hI hl)
theorem r_aald {a N : Nat} {f : Nat → Value} {i : Int32} {v : Value} (C : CC Z y cc nL rt R) (d : decode cc pc = .ok (.aaload, 1)) (h : ∀ G, Γ G → ∃ t, G a = some (t, .inr (2, N, f))) (hin : vp_in i N) (hv : f i.toNatClampNeg = v) (kk : WW Z nL Γ n s (pc + 1) lv (v :: st)) : WW Z nL Γ n s pc lv (.int i :: .ref a :: st) := by
  intro G H locs ls hG hI hl
  obtain ⟨t, ht⟩ := h G hG
  obtain ⟨-, cell, h1, h2, h3, h4, h5, h6, -⟩ := hI.1 a _ ht
  obtain ⟨g1, g2⟩ := garr_rd (s := zs Z) (H := H) (a := a) (k := 2) h4 h6 hin
  exact W.aald C.x C.b h1 h2 rfl h3 g1 (by rw [g2]; exact congrArg some hv) rfl rfl d (kk G H locs ls hG hI hl)
theorem r_alen {a j N : Nat} {f : Nat → Value} {v : Int32} (C : CC Z y cc nL rt R) (d : decode cc pc = .ok (.arraylength, 1)) (h : ∀ G, Γ G → ∃ t, G a = some (t, .inr (j, N, f))) (hv : nI N = v) (kk : WW Z nL Γ n s (pc + 1) lv (.int v :: st)) : WW Z nL Γ n s pc lv (.ref a :: st) := by
  intro G H locs ls hG hI hl
  obtain ⟨t, ht⟩ := h G hG
  obtain ⟨-, cell, h1, h2, h3, h4, h5, h6, -⟩ := hI.1 a _ ht
  exact W.alen C.x C.b h1 h2 (h5.trans hv) rfl rfl d (kk G H locs ls hG hI hl)
def vup (f : Nat → Value) (k : Nat) (v : Value) : Nat → Value := fun j => if j = k then v else f j
theorem garr_st {s : State} {H' : Heap} {a t k n : Nat} {f : Nat → Value} {i : Int32} {v : Value} {cell : Cell} (hi : i.toNatClampNeg < n) (h2 : s.isArrayOf cell (aty k)) (h3 : cell.vm ≠ .unknown) (h4 : n ≤ cell.slots.size) (h5 : cell.slots.size.toInt32 = nI n) (h6 : ∀ j, j < n → cell.slots[j]? = some (f j)) (h7 : gown s cell t k n f) (hfit : k = 1 → fits .byte v = true) (e : H'[a]? = some (cell.setSlot i.toNatClampNeg v)) : garr s H' a t k n (vup f i.toNatClampNeg v) := by
  have hsz : (cell.setSlot i.toNatClampNeg v).slots.size = cell.slots.size := by simp [Cell.setSlot]
  refine ⟨_, e, ?_, h3, by rw [hsz]; exact h4, by rw [hsz]; exact h5, fun j hj => ?_, h7.1, fun e1 e2 => ⟨hsz.trans (h7.2 e1 e2).1, (h7.2 e1 e2).2.1, fun j hj => ?_⟩⟩
  · exact h2
  · show (cell.slots.setIfInBounds i.toNatClampNeg v)[j]? = _
    unfold vup
    by_cases q : j = i.toNatClampNeg
    · rw [if_pos q, q, Array.getElem?_setIfInBounds_self, if_pos (by omega)]
    · rw [if_neg q, Array.getElem?_setIfInBounds_ne (fun z => q z.symm)]
      exact h6 j hj
  · unfold vup
    split
    · exact hfit e2
    · exact (h7.2 e1 e2).2.2 j hj
theorem fits_nb (x : Int32) : fits .byte (narrow .byte (.int x)) = true := by
  simp only [fits, narrow, Bool.and_eq_true, decide_eq_true_eq]
  rw [Int32.le_iff_toInt_le, Int32.le_iff_toInt_le, Int8.toInt_toInt32]
  have h1 := Int8.le_toInt x.toInt8
  have h2 := Int8.toInt_lt x.toInt8
  exact ⟨h1, by show x.toInt8.toInt ≤ 127; omega⟩
theorem r_iast {a N : Nat} {f : Nat → Value} {i x : Int32} (C : CC Z y cc nL rt R) (d : decode cc pc = .ok (.iastore, 1)) (h : ∀ G, Γ G → ∃ t, t ≠ 0 ∧ G a = some (t, .inr (0, N, f)) ∧ Γ' (gup G a (t, .inr (0, N, vup f i.toNatClampNeg (.int x))))) (hin : vp_in i N) (kk : WW Z nL Γ' n s (pc + 1) lv st) : WW Z nL Γ n s pc lv (.int x :: .int i :: .ref a :: st) := by
  intro G H locs ls hG hI hl
  obtain ⟨t, ht0, ht, hΓ⟩ := h G hG
  obtain ⟨hb, cell, h1, h2, h3, h4, h5, h6, h7⟩ := hI.1 a _ ht
  obtain ⟨g1, g2⟩ := garr_rd (s := zs Z) (H := H) (a := a) (k := 0) h4 h6 hin
  refine W.iast C.x C.b h1 h2 h3 g1 rfl rfl d fun H' e1 e2 e3 => ?_
  exact kk _ H' _ ls hΓ ⟨hI.1.set ⟨fun _ => hb ht0, garr_st (Nat.not_le.mp fun q => hin (Or.inr q)) h2 h3 h4 h5 h6 h7 (fun h => by cases h) e1⟩ e3, hI.2.put e2 e3 (hb ht0)⟩ hl
theorem r_bast {a N : Nat} {f : Nat → Value} {i x : Int32} (C : CC Z y cc nL rt R) (d : decode cc pc = .ok (.bastore, 1)) (h : ∀ G, Γ G → ∃ t, t ≠ 0 ∧ G a = some (t, .inr (1, N, f)) ∧ Γ' (gup G a (t, .inr (1, N, vup f i.toNatClampNeg (narrow .byte (.int x)))))) (hin : vp_in i N) (kk : WW Z nL Γ' n s (pc + 1) lv st) : WW Z nL Γ n s pc lv (.int x :: .int i :: .ref a :: st) := by
  intro G H locs ls hG hI hl
  obtain ⟨t, ht0, ht, hΓ⟩ := h G hG
  obtain ⟨hb, cell, h1, h2, h3, h4, h5, h6, h7⟩ := hI.1 a _ ht
  obtain ⟨g1, g2⟩ := garr_rd (s := zs Z) (H := H) (a := a) (k := 1) h4 h6 hin
  refine W.bast C.x C.b h1 h2 h3 g1 rfl rfl d fun H' e1 e2 e3 => ?_
  exact kk _ H' _ ls hΓ ⟨hI.1.set ⟨fun _ => hb ht0, garr_st (Nat.not_le.mp fun q => hin (Or.inr q)) h2 h3 h4 h5 h6 h7 (fun _ => fits_nb x) e1⟩ e3, hI.2.put e2 e3 (hb ht0)⟩ hl
/-- a new object: its address isn't in the ghost heap -/
theorem r_new {ci idx N : Nat} {T : u_T} {Cn : String} {fs : List Value} (t : Nat) (C : CC Z y cc nL rt R) (d : decode cc pc = .ok (.new idx, 3)) (hc : vwC[ci]? = some (Cn, T, N)) (hin : ∀ w ∈ u_ws Cn T N, w ∈ lw_all) (ty0 : Nat → FieldType) (hty : ∀ k, k < N → parseFieldDescriptor (T k).2.2.1 = some (ty0 k)) (hcl : Cond.classLink y.cls idx Cn ∈ lw_all) (hinst : Cond.instantiable Cn N ∈ lw_all) (hini : Cond.initialized Cn ∈ lw_all) (hfs : ∀ j, j < N → defaultValue (ty0 j) = vp_V fs j) (hn : n + 1 ≤ R.cells) (hs : s + N ≤ R.slots)
    (kk : ∀ G a, Γ G → G a = none → WW Z nL (fun x => x = gup G a (t, .inl (ci, fs))) (n + 1) (s + N) (pc + 3) lv (.ref a :: st)) : WW Z nL Γ n s pc lv st := by
  intro G H locs ls hG hI hl
  have hKn := C.e.1 ci _ hc
  refine W.newcK C.x C.b C.o (C.t _ hcl) (C.t _ hinst) (C.t _ hini) rfl d (by rw [C.rm]; exact hn) (by rw [C.rm]; exact hs) hKn.2.1 rfl fun H1 kC hkC e1 z1 o1 => ?_
  have hnone : G H.size = none := by
    cases hq : G H.size with
    | none => rfl
    | some q => exact absurd (hI.1 _ _ hq).lt (Nat.lt_irrefl _)
  have hob := u_born ty0 C.t hin hKn hkC e1 hty
  obtain ⟨cell, g1, g2, g3, g4⟩ := hob
  refine kk G H.size hG hnone _ H1 locs ls rfl ⟨hI.1.new ⟨fun _ => Nat.le_trans C.e.2.1 hI.2.1, (Cn, T, N), cell, hc, g1, g2, by rw [g3]; rfl, (by rw [g3]; exact fun h => by cases h), fun _ => g3, fun k hk => (g4 k hk).trans (congrArg some (hfs k hk))⟩ o1, ⟨Nat.le_trans hI.2.1 (by omega), fun x h1 h2 => (o1 x (Nat.lt_of_lt_of_le h1 hI.2.1)).trans (hI.2.2.1 x h1 h2), hI.2.2.2⟩⟩ hl
theorem r_newa {atype : ArrayType} {j N : Nat} {x : Int32} {f : Nat → Value} (t : Nat) (C : CC Z y cc nL rt R) (d : decode cc pc = .ok (.newarray atype, 2)) (hty : newarray.typeOf atype = aty j) (hj : j ≠ 2) (harr : Cond.arrayClass (newarray.typeOf atype) ∈ lw_all) (hx : ¬ x < 0) (hN : x.toNatClampNeg = N) (hN2 : N * componentBytes (newarray.typeOf atype) ≤ 536870912) (hf : ∀ i, i < N → f i = defaultValue (newarray.typeOf atype)) (hn : n + 1 ≤ R.cells) (hs : s + N ≤ R.slots)
    (kk : ∀ G a, Γ G → G a = none → WW Z nL (fun z => z = gup G a (t, .inr (j, N, f))) (n + 1) (s + N) (pc + 2) lv (.ref a :: st)) : WW Z nL Γ n s pc lv (.int x :: st) := by
  intro G H locs ls hG hI hl
  refine va_newaK C.x C.b (C.t _ harr) rfl d rfl hx hN hN2 (by rw [C.rm]; exact hn) (by rw [C.rm]; exact hs) rfl fun H1 cA e1 z1 o1 hAr hNm => ?_
  have hnone : G H.size = none := by
    cases hq : G H.size with
    | none => rfl
    | some q => exact absurd (hI.1 _ _ hq).lt (Nat.lt_irrefl _)
  have hA : (zs Z).isArrayOf (arrV cA N (fun _ => defaultValue (newarray.typeOf atype))) (aty j) := hty ▸ hAr N _
  have hnm1 : j = 1 → (zs Z).vm.findClass "[B" = some cA := fun h => by
    subst h
    rw [hty] at hNm
    exact hNm
  have hft : j = 1 → ∀ i, i < N → fits .byte (f i) = true := fun h i hi => by
    subst h
    rw [hf i hi, hty]
    rfl
  refine kk G H.size hG hnone _ H1 locs ls rfl ⟨hI.1.new ⟨fun _ => Nat.le_trans C.e.2.1 hI.2.1, _, e1, hA, fun h => by (cases h), by rw [arrV_size]; exact Nat.le_refl _, by rw [arrV_size]; rfl, fun i hi => (arrV_read _ _ hi).trans (congrArg some (hf i hi).symm), fun h => absurd h hj, fun _ h => ⟨arrV_size _ _ _, hnm1 h, fun i hi => hft h i hi⟩⟩ o1, ⟨Nat.le_trans hI.2.1 (by omega), fun x h1 h2 => (o1 x (Nat.lt_of_lt_of_le h1 hI.2.1)).trans (hI.2.2.1 x h1 h2), hI.2.2.2⟩⟩ hl
theorem r_objInit {own : String} {idx a : Nat} (C : CC Z y cc nL rt R) (d : decode cc pc = .ok (.invokespecial idx, 3)) (hlink : Cond.methodLink y.cls idx objectInit ∈ lw_all) (hinst : Cond.instanceMethod objectInit ∈ lw_all) (hcode : Cond.code objectInit ⟨#[0xb1]⟩ 1 none ∈ lw_all) (hfr : 1 ≤ R.frames) (hlo : (st.map fun v => v.category).sum + 12 ≤ R.locals) (kk : WW Z nL Γ n s (pc + 3) lv st) : WW Z nL Γ n s pc lv (.ref a :: st) := by
  intro G H locs ls hG hI hl
  exact W.objInit C.x C.b C.o (C.t _ hlink) (C.t _ hinst) (C.t _ hcode) rfl (by rw [C.m]; exact hl.1) rfl d (by rw [C.rm]; exact hfr) (by rw [C.rm]; show 2 * 0 + _ + 12 ≤ _; omega) (kk G H locs ls hG hI hl)
/-! contracts, returns, calls -/
end BASE
def gQ (X : XE) (post : Option Value → Gh → Prop) : Array Value → State → Outcome → State → Prop := fun _ st oc t => (∃ v G', oc = .returned v ∧ post v G' ∧ GH X G' t t.heap) ∧ va_F (fun q => X.2.1 ≤ q) st t
def gMQ (Z : ZC) (R : Room) (post : Option Value → Gh → Prop) : State → Prop := MQ (zw Z) (gQ (zX Z) post) (za Z) (zs Z) R.cells R.slots (fun q => zB Z ≤ q)
/-- method y's contract: from every heap that holds a ghost heap of Γ, with these arguments, it returns; post of the answer and of the new ghost heap -/
def MG (l : Launch) (X : XE) (y : MethodName) (cc : ByteArray) (nL : Nat) (rt : Option FieldType) (R : Room) (args : List Value) (Γ : Gh → Prop) (post : Option Value → Gh → Prop) : Prop :=
  Met l y (ws_ y cc nL rt) R (va_Pc args (fun U => EE X U ∧ ∃ G, Γ G ∧ GH X G U U.heap)) (gQ X post) R.cells R.slots (fun q => X.2.1 ≤ q)
/-- a method's entry: its arguments as locals -/
def lv0 (k nL : Nat) (args : List Value) : List (Option Value) := match args with
  | [] => List.replicate (nL - k) none
  | v :: r => if v.category = 2 then some v :: none :: lv0 (k + 2) nL r else some v :: lv0 (k + 1) nL r
theorem lv0_at (args : List Value) : ∀ (k nL j : Nat) (w : Value), (lv0 k nL args)[j]? = some (some w) → (k + j, w) ∈ lv_args k args := by
  induction args with
  | nil =>
    intro k nL j w h
    unfold lv0 at h
    rw [List.getElem?_replicate] at h
    split at h <;> simp at h
  | cons v r ih =>
    intro k nL j w h
    unfold lv0 at h
    unfold lv_args
    by_cases hc : v.category = 2
    · rw [if_pos hc] at h
      simp only [hc, if_true]
      match j, h with
      | 0, h => cases h; exact List.mem_cons_self
      | 1, h => simp at h
      | j + 2, h =>
        have h2 := ih (k + 2) nL j w (by simpa using h)
        rw [show k + (j + 2) = k + 2 + j by omega]
        exact List.mem_cons_of_mem _ h2
    · rw [if_neg hc] at h
      simp only [hc, if_false]
      match j, h with
      | 0, h => cases h; exact List.mem_cons_self
      | j + 1, h =>
        have h2 := ih (k + 1) nL j w (by simpa using h)
        rw [show k + (j + 1) = k + 1 + j by omega]
        exact List.mem_cons_of_mem _ h2
theorem MG.of {l : Launch} {X : XE} {y : MethodName} {cc : ByteArray} {nL : Nat} {rt : Option FieldType} {R : Room} {args : List Value} {Γ : Gh → Prop} {post : Option Value → Gh → Prop} (hy : plainName y.cls = true) (hL : (lg_sl args).length ≤ nL)
    (body : ∀ Z : ZC, CC Z y cc nL rt R → zX Z = X → zl Z = l → zQ Z = gMQ Z R post → WW Z nL Γ 0 0 0 (lv0 0 nL args) []) : MG l X y cc nL rt R args Γ post := by
  refine Met.ofW (cc := cc) (maxL := nL) (ret := rt) hy rfl ?_
  intro p e s m as below meth c s₁ B hml hv
  obtain ⟨rfl, hE, G, hG, hH⟩ := hv
  have hts := atoms_spec (ws := ws_ y cc nL rt) B.pre
  have hts : ∀ w ∈ lw_all, w.before _ s = true := fun w h => hts w (List.mem_cons_of_mem _ h)
  have hl := lv_entry args (n := nL) hL
  rw [lg_entry_eq]
  generalize (lg_sl args ++ List.replicate (nL - (lg_sl args).length) Slot.unset).toArray = ls at hl ⊢
  let Z : ZC := (X, p, l, e, s, m, args.toArray, below, meth, c, R, MQ below (gQ X post) args.toArray s R.cells R.slots (fun q => X.2.1 ≤ q))
  have C : CC Z y cc nL rt R := ⟨⟨B.exec, B.bytes, hml, findClass_of_methodNamed B.named, hts⟩, B.notSynchronized, B.returns, rfl, hE, (name_of_methodNamed B.named B.method).1⟩
  exact body Z C rfl rfl rfl G s.heap [] ls hG ⟨hH, va_S.rf⟩ ⟨hl.1, hl.2.1, fun k v h => hl.2.2 (k, v) (by have := lv0_at args 0 nL k v h; rw [Nat.zero_add] at this; exact this)⟩
section BASE2
variable {Z : ZC} {y : MethodName} {cc : ByteArray} {nL : Nat} {rt : Option FieldType} {R : Room} {Γ Γ' : Gh → Prop} {n s pc : Nat} {lv : List (Option Value)} {st : List Value} {post : Option Value → Gh → Prop}
theorem r_ret_in {v : Option Value} {H : Heap} {locs : List Loc} {G : Gh} (hp : post v G) (hI : GI Z G H locs) : ∀ t : State, t.heap = H → (zs Z).WarmedH t.vm → gQ (zX Z) post (za Z) (zs Z) (.returned v) t :=
  fun t ht hW => ⟨⟨v, G, rfl, hp, by rw [ht]; exact hI.1.moved hW.alike⟩, hI.2.F ht⟩
theorem r_iret {v : Int32} (C : CC Z y cc nL (some .int) R) (hQ : zQ Z = gMQ Z R post) (d : decode cc pc = .ok (.ireturn, 1)) (hn : n ≤ R.cells) (hs : s ≤ R.slots) (hp : ∀ G, Γ G → post (some (.int v)) G) : WW Z nL Γ n s pc lv [.int v] := by
  intro G H locs ls hG hI hl
  rw [hQ]
  exact W.widen hn hs (W.iret C.x C.b C.r (r_ret_in (hp G hG) hI) hI.2.2.2 d C.l)
theorem r_zret {v : Int32} {ty : FieldType} (C : CC Z y cc nL (some ty) R) (hQ : zQ Z = gMQ Z R post) (d : decode cc pc = .ok (.ireturn, 1)) (hnar : narrow ty (.int v) = .int v) (hn : n ≤ R.cells) (hs : s ≤ R.slots) (hp : ∀ G, Γ G → post (some (.int v)) G) : WW Z nL Γ n s pc lv [.int v] := by
  intro G H locs ls hG hI hl
  rw [hQ]
  exact W.widen hn hs (W.zret C.x C.b C.r hnar (r_ret_in (hp G hG) hI) hI.2.2.2 d C.l)
theorem r_lret {v : Int64} (C : CC Z y cc nL (some .long) R) (hQ : zQ Z = gMQ Z R post) (d : decode cc pc = .ok (.lreturn, 1)) (hn : n ≤ R.cells) (hs : s ≤ R.slots) (hp : ∀ G, Γ G → post (some (.long v)) G) : WW Z nL Γ n s pc lv [.long v] := by
  intro G H locs ls hG hI hl
  rw [hQ]
  exact W.widen hn hs (W.lret C.x C.b C.r (r_ret_in (hp G hG) hI) hI.2.2.2 d C.l)
theorem r_vret (C : CC Z y cc nL none R) (hQ : zQ Z = gMQ Z R post) (d : decode cc pc = .ok (.return_, 1)) (hn : n ≤ R.cells) (hs : s ≤ R.slots) (hp : ∀ G, Γ G → post none G) : WW Z nL Γ n s pc lv [] := by
  intro G H locs ls hG hI hl
  rw [hQ]
  exact W.widen hn hs (W.vret C.x C.b C.r (r_ret_in (hp G hG) hI) hI.2.2.2 d C.l)
theorem r_aret {v : Value} {ty : FieldType} (C : CC Z y cc nL (some ty) R) (hQ : zQ Z = gMQ Z R post) (d : decode cc pc = .ok (.areturn, 1)) (hty : (∃ n, ty = .object n) ∨ ∃ t, ty = .array t) (hv : v = .null ∨ ∃ a, v = .ref a) (hn : n ≤ R.cells) (hs : s ≤ R.slots) (hp : ∀ G, Γ G → post (some v) G) : WW Z nL Γ n s pc lv [v] := by
  intro G H locs ls hG hI hl
  rw [hQ]
  exact W.widen hn hs (W.aret C.x C.b C.r hty hv (r_ret_in (hp G hG) hI) hI.2.2.2 d C.l)
/-- behind a call -/
theorem r_back {X : XE} {mc ms : Nat} {as : Array Value} {post2 : Option Value → Gh → Prop} {st0 rest : List Value} {H : Heap} {locs : List Loc} {ls : Array Slot} (hX : zX Z = X) (hS : va_S (fun q => zB Z ≤ q) (zs Z).heap H locs) (hl : LV ls nL lv)
    (hr : va_Run (zp Z) (zl Z) (ze Z) (zR Z) (zs Z) (zm Z) (za Z) (zw Z) (zt Z) (zc Z) H locs n s mc ms (F0 (zm Z) pc ls st0) rest (gQ X post2 as) (fun q => X.2.1 ≤ q))
    (kk : ∀ v G', post2 v G' → WW Z nL (fun x => x = G') (n + mc) (s + ms) (pc + 3) lv (v.toList ++ rest)) : W (zp Z) (zl Z) (ze Z) (zR Z) (zs Z) (zm Z) (za Z) (zw Z) (zt Z) (zc Z) H locs n s (zQ Z) (F0 (zm Z) pc ls st0) := by
  subst hX
  intro T hT X'
  obtain ⟨v, st₀, t, T', L, h0, X', hL, e1, e2, ⟨⟨v', G', hv, hp, hH⟩, hF⟩, stp⟩ := hr T hT X'
  cases hv
  have hal : (zs Z).vm.Alike t.vm := by rw [← e2]; exact X'.warmed.alike
  obtain ⟨t2, a1, b1⟩ := kk v G' hp G' T'.heap (locs ++ L) ls rfl ⟨by rw [e1]; exact hH.moved hal.symm, ⟨Nat.le_trans hS.1 (by rw [e1, ← h0]; exact hF.1), fun q h1 h2 => by rw [e1, hF.2 q (by rw [h0]; exact Nat.lt_of_lt_of_le h1 hS.1) h2, h0]; exact hS.2.1 q h1 h2, fun q hq => by
      rcases List.mem_append.mp hq with h | h
      · exact hS.2.2 q h
      · exact hL q h⟩⟩ hl T' rfl X'
  exact ⟨t2, stp t2 a1, b1⟩
theorem pre_of {H : Heap} {locs : List Loc} {G : Gh} {As : List Value} (C : CC Z y cc nL rt R) (hG : Γ G) (hI : GI Z G H locs) : PreS (zs Z) H (va_Pc As (fun U => EE (zX Z) U ∧ ∃ G, Γ G ∧ GH (zX Z) G U U.heap)) As :=
  ⟨fun a U g mk q => by
    obtain ⟨q0, q1, G, q2, q3⟩ := q
    exact ⟨q0, q1.calling, G, q2, q3.moved (u := U) (U := U.calling g mk a) (Vm.Alike.refl U.vm)⟩, fun U hU hW => ⟨rfl, C.e.next hW hI.2 hU, G, hG, by rw [hU]; exact hI.1.moved hW.alike⟩⟩
variable {y2 : MethodName} {cc2 : ByteArray} {nL2 idx : Nat} {rt2 : Option FieldType} {R2 : Room} {As rest : List Value} {post2 : Option Value → Gh → Prop}
/-- a static call -/
theorem r_invS {own : String} (k : Nat) (C : CC Z y cc nL rt R) (d : decode cc pc = .ok (.invokestatic idx, 3)) (hM : MG (zl Z) (zX Z) y2 cc2 nL2 rt2 R2 As Γ post2) (ho : y.cls = own) (hw : GoodIn lw_all (va_wsS own idx y2 (ws_ y2 cc2 nL2 rt2))) (hd : y2.cls ≠ "java/lang/invoke/MethodHandle" ∧ y2.cls ≠ "java/lang/invoke/VarHandle" ∧ (parseMethodDescriptor y2.desc).map (fun d => d.parameters.length) = some k) (hk : As.length = k) (hst : st = As.reverse ++ rest) (hR : R2.frames + 1 ≤ R.frames ∧ 8 + (nL2 + 11) + R2.locals ≤ R.locals) (hr : (rest.map fun v => v.category).sum ≤ 8) (hc : n + R2.cells ≤ R.cells ∧ s + R2.slots ≤ R.slots)
    (kk : ∀ v G', post2 v G' → WW Z nL (fun x => x = G') (n + R2.cells) (s + R2.slots) (pc + 3) lv (v.toList ++ rest)) : WW Z nL Γ n s pc lv st := by
  subst ho
  intro G H locs ls hG hI hl
  have hR' := C.rm
  exact r_back rfl hI.2 hl (va_runS (As := As) (rest := rest) C.f hM (va_cwS k C.t hw rfl rfl rfl hd (by rw [hR']; exact hR)) (pre_of C hG hI) rfl hk hl.1 hst (lv_room hr) d (by rw [hR']; exact hc)) kk
/-- a call through an object -/
theorem r_invV {Cn : String} {T : u_T} {own : String} {b ci N : Nat} (k : Nat) (C : CC Z y cc nL rt R) (d : decode cc pc = .ok (.invokevirtual idx, 3)) (hM : MG (zl Z) (zX Z) y2 cc2 nL2 rt2 R2 (.ref b :: As) Γ post2) (hb : ∀ G, Γ G → ∃ t fs, G b = some (t, .inl (ci, fs))) (hci : vwC[ci]? = some (Cn, T, N)) (ho : y.cls = own) (hw : GoodIn lw_all (wsV own idx Cn y2 (ws_ y2 cc2 nL2 rt2))) (hd : y2.cls = Cn ∧ y2.cls ≠ "java/lang/invoke/MethodHandle" ∧ y2.cls ≠ "java/lang/invoke/VarHandle" ∧ (parseMethodDescriptor y2.desc).map (fun d => d.parameters.length) = some k) (hk : As.length = k) (hst : st = As.reverse ++ .ref b :: rest) (hR : R2.frames + 1 ≤ R.frames ∧ 8 + (nL2 + 11) + R2.locals ≤ R.locals) (hr : (rest.map fun v => v.category).sum ≤ 8) (hc : n + R2.cells ≤ R.cells ∧ s + R2.slots ≤ R.slots)
    (kk : ∀ v G', post2 v G' → WW Z nL (fun x => x = G') (n + R2.cells) (s + R2.slots) (pc + 3) lv (v.toList ++ rest)) : WW Z nL Γ n s pc lv st := by
  subst ho
  intro G H locs ls hG hI hl
  have hR' := C.rm
  obtain ⟨t, fs, ht⟩ := hb G hG
  obtain ⟨-, r, cell, h1, q1, q2, q3, q4, q5, q6⟩ := hI.1 b _ ht
  have hr' : r = (Cn, T, N) := Option.some.inj (h1.symm.trans hci)
  subst hr'
  have hp := pre_of (As := .ref b :: As) C hG hI
  exact r_back rfl hI.2 hl (va_runV (As := As) (rest := rest) C.f hM (cwV k C.t hw rfl rfl rfl hd (by rw [hR']; exact hR)) ⟨hp.1, ⟨cell, q1, q3, by rw [q2]; exact (C.e.1 ci _ hci).2.1⟩, hp.2⟩ rfl hk hl.1 hst (lv_room hr) d (by rw [hR']; exact hc)) kk
/-- a constructor's call -/
theorem r_invI {own : String} {b : Nat} (k : Nat) (C : CC Z y cc nL rt R) (d : decode cc pc = .ok (.invokespecial idx, 3)) (hM : MG (zl Z) (zX Z) y2 cc2 nL2 none R2 (.ref b :: As) Γ post2) (ho : y.cls = own) (hw : GoodIn lw_all (ws_ y2 cc2 nL2 none)) (hini : Cond.initialized y2.cls ∈ lw_all) (hln : Cond.methodLink own idx y2 ∈ lw_all) (hin : Cond.instanceMethod y2 ∈ lw_all) (hnm : y2.name = "<init>") (hd : y2.cls ≠ "java/lang/invoke/MethodHandle" ∧ y2.cls ≠ "java/lang/invoke/VarHandle" ∧ (parseMethodDescriptor y2.desc).map (fun d => d.parameters.length) = some k) (hk : As.length = k) (hst : st = As.reverse ++ .ref b :: rest) (hR : R2.frames + 1 ≤ R.frames ∧ 8 + (nL2 + 11) + R2.locals ≤ R.locals) (hr : (rest.map fun v => v.category).sum ≤ 8) (hc : n + R2.cells ≤ R.cells ∧ s + R2.slots ≤ R.slots)
    (kk : ∀ v G', post2 v G' → WW Z nL (fun x => x = G') (n + R2.cells) (s + R2.slots) (pc + 3) lv (v.toList ++ rest)) : WW Z nL Γ n s pc lv st := by
  subst ho
  intro G H locs ls hG hI hl
  have hR' := C.rm
  exact r_back rfl hI.2 hl (va_runI (As := As) (rest := rest) C.f hM (cwI k C.t hw rfl rfl rfl (C.t _ hini) (C.t _ hln) (C.t _ hin) hnm hd (by rw [hR']; exact hR)) (pre_of (As := .ref b :: As) C hG hI) rfl hk hl.1 hst (lv_room hr) d (by rw [hR']; exact hc)) kk
/-! induction -/
end BASE2
theorem ind_lt {σ : Type} (μ : σ → Nat) (Inv : σ → Prop) (P : σ → Prop) (step : ∀ x, Inv x → (∀ y, Inv y → μ y < μ x → P y) → P x) : ∀ x, Inv x → P x := by
  have key : ∀ (k : Nat) (x : σ), μ x < k → Inv x → P x := by
    intro k
    induction k with
    | zero => intro x h; omega
    | succ k ih =>
      intro x h hx
      exact step x hx (fun y hy h2 => ih y (by omega) hy)
  exact fun x hx => key (μ x + 1) x (by omega) hx
/-- a loop that counts up to N -/
theorem ind_up (N : Int) (P : Int → Prop) (step : ∀ i, i ≤ N → (i + 1 ≤ N → P (i + 1)) → P i) : ∀ i, i ≤ N → P i :=
  fun i hi => ind_lt (fun i : Int => (N - i).toNat) (fun i => i ≤ N) P (fun i hi ih => step i hi (fun h => ih (i + 1) h (by omega))) i hi
