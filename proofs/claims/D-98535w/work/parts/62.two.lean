/-! THE SPEC, part 19: whether rows of orders can be told from one another -/
/-- what hangs over, and the beats of the row so far -/
def Der (C : Int → List Int) (N : Int) (d : List Int) (v : Int) : Prop := ∀ P : List Int → Int → Prop,
  (∀ a b : Int, 0 ≤ a → a < N → 0 ≤ b → b < N → a ≠ b → C a <+: C b → P ((C b).drop (C a).length) (C b).length) →
  (∀ (d : List Int) (v b : Int), 0 ≤ b → b < N → P d v → d ≠ [] → d <+: C b → P ((C b).drop d.length) (v + (C b).length - d.length)) →
  (∀ (d : List Int) (v b : Int), 0 ≤ b → b < N → P d v → d ≠ [] → C b <+: d → P (d.drop (C b).length) v) → P d v
theorem Der_0 {C : Int → List Int} {N a b : Int} (ha : 0 ≤ a) (ha' : a < N) (hb : 0 ≤ b) (hb' : b < N) (hab : a ≠ b) (h : C a <+: C b) : Der C N ((C b).drop (C a).length) (C b).length := fun _ h0 _ _ => h0 a b ha ha' hb hb' hab h
theorem Der_1 {C : Int → List Int} {N b v : Int} {d : List Int} (hd : Der C N d v) (hb : 0 ≤ b) (hb' : b < N) (hn : d ≠ []) (h : d <+: C b) : Der C N ((C b).drop d.length) (v + (C b).length - d.length) := fun P h0 h1 h2 => h1 d v b hb hb' (hd P h0 h1 h2) hn h
theorem Der_2 {C : Int → List Int} {N b v : Int} {d : List Int} (hd : Der C N d v) (hb : 0 ≤ b) (hb' : b < N) (hn : d ≠ []) (h : C b <+: d) : Der C N (d.drop (C b).length) v := fun P h0 h1 h2 => h2 d v b hb hb' (hd P h0 h1 h2) hn h
/-- the least row that is told twofold; -1: none -/
def isTw (C : Int → List Int) (N r : Int) : Prop := (r = -1 ∧ ∀ v, ¬ Der C N [] v) ∨ (Der C N [] r ∧ ∀ v, Der C N [] v → r ≤ v)
theorem isTw_un {C : Int → List Int} {N r r' : Int} (h : isTw C N r) (h' : isTw C N r') : r = r' := by
  rcases h with ⟨a, b⟩ | ⟨a, b⟩
  · rcases h' with ⟨a', _⟩ | ⟨a', _⟩
    · omega
    · exact absurd a' (b r')
  · rcases h' with ⟨_, b'⟩ | ⟨a', b'⟩
    · exact absurd a (b' r)
    · have := b r' a'
      have := b' r a
      omega
noncomputable def twI (C : Int → List Int) (N : Int) : Int := Classical.epsilon (isTw C N)
theorem twI_is {C : Int → List Int} {N r : Int} (h : isTw C N r) : twI C N = r := isTw_un (Classical.epsilon_spec (p := isTw C N) ⟨r, h⟩) h
/-- keys with labels that no step lessens: all that can be derived is there -/
theorem Der_cpl {C : Int → List Int} {N I : Int} (K : Int → Prop) (lab : Int → List Int) (val : Int → Int)
    (hb : ∀ a b : Int, 0 ≤ a → a < N → 0 ≤ b → b < N → a ≠ b → C a <+: C b → ∃ k, K k ∧ lab k = (C b).drop (C a).length ∧ val k ≤ (C b).length ∧ val k < I)
    (h1 : ∀ k b : Int, K k → val k < I → lab k ≠ [] → 0 ≤ b → b < N → lab k <+: C b → ∃ k', K k' ∧ lab k' = (C b).drop (lab k).length ∧ val k' ≤ val k + (C b).length - (lab k).length ∧ val k' < I)
    (h2 : ∀ k b : Int, K k → val k < I → lab k ≠ [] → 0 ≤ b → b < N → C b <+: lab k → ∃ k', K k' ∧ lab k' = (lab k).drop (C b).length ∧ val k' ≤ val k ∧ val k' < I)
    {d : List Int} {v : Int} (hd : Der C N d v) : ∃ k, K k ∧ lab k = d ∧ val k ≤ v ∧ val k < I := by
  refine hd (fun d v => ∃ k, K k ∧ lab k = d ∧ val k ≤ v ∧ val k < I) hb ?_ ?_
  · rintro d v b b0 bN ⟨k, k1, k2, k3, k4⟩ hn hp
    subst k2
    obtain ⟨k', a1, a2, a3, a4⟩ := h1 k b k1 k4 hn b0 bN hp
    exact ⟨k', a1, a2, by omega, a4⟩
  · rintro d v b b0 bN ⟨k, k1, k2, k3, k4⟩ hn hp
    subst k2
    obtain ⟨k', a1, a2, a3, a4⟩ := h2 k b k1 k4 hn b0 bN hp
    exact ⟨k', a1, a2, by omega, a4⟩
/-- how many keys have a value; the sum of all -/
def cnU (h : Int → Int) (I : Int) : Nat → Int
  | 0 => 0
  | n + 1 => cnU h I n + (if h n < I then 1 else 0)
def smU (h : Int → Int) : Nat → Int
  | 0 => 0
  | n + 1 => smU h n + h n
theorem cnU_rng {h : Int → Int} {I : Int} : ∀ n : Nat, 0 ≤ cnU h I n ∧ cnU h I n ≤ n := by
  intro n
  induction n with
  | zero => simp [cnU]
  | succ n ih => unfold cnU; split <;> omega
theorem cnU_up {h : Int → Int} {I k v : Int} (hv : v < I) : ∀ n : Nat, 0 ≤ k → cnU (fu h k v) I n = cnU h I n + (if k < n ∧ ¬ h k < I then 1 else 0) := by
  intro n h0
  induction n with
  | zero => simp [cnU]; omega
  | succ n ih =>
    show cnU (fu h k v) I n + (if fu h k v n < I then 1 else 0) = cnU h I n + (if h n < I then 1 else 0) + _
    rw [ih]
    by_cases e : ((n : Nat) : Int) = k
    · rw [e, fu_at, if_pos hv, if_neg (by omega)]
      by_cases c : h k < I
      · rw [if_pos c, if_neg (by omega)]; omega
      · rw [if_neg c, if_pos (by omega)]
    · rw [fu_ne e]
      generalize (if h n < I then (1 : Int) else 0) = q
      by_cases c : k < n ∧ ¬ h k < I
      · rw [if_pos c, if_pos (by omega)]; omega
      · rw [if_neg c, if_neg (by omega)]; omega
theorem smU_up {h : Int → Int} {k v : Int} : ∀ n : Nat, 0 ≤ k → smU (fu h k v) n = smU h n + (if k < n then v - h k else 0) := by
  intro n h0
  induction n with
  | zero => simp [smU]; omega
  | succ n ih =>
    show smU (fu h k v) n + fu h k v n = smU h n + h n + _
    rw [ih]
    by_cases e : ((n : Nat) : Int) = k
    · rw [e, fu_at, if_neg (by omega), if_pos (by omega)]; omega
    · rw [fu_ne e]
      by_cases c : k < n
      · rw [if_pos c, if_pos (by omega)]; omega
      · rw [if_neg c, if_neg (by omega)]; omega
theorem smU_nn {h : Int → Int} (hh : ∀ k : Int, 0 ≤ k → 0 ≤ h k) : ∀ n : Nat, 0 ≤ smU h n := by
  intro n
  induction n with
  | zero => exact Int.le_refl 0
  | succ n ih => unfold smU; have := hh n (by omega); omega
/-! the reference's keys: an order's beats from one on -/
def cdL (w : Int → Int) (x k : Int) : List Int := (List.range (oLen w x k).toNat).map (fun i : Nat => oBeat w x k i)
theorem cdL_len {w : Int → Int} {x k : Int} : (cdL w x k).length = (oLen w x k).toNat := by unfold cdL; rw [List.length_map, List.length_range]
theorem cdL_at {w : Int → Int} {x k : Int} {i : Nat} (h : i < (oLen w x k).toNat) : (cdL w x k)[i]? = some (oBeat w x k i) := by
  unfold cdL
  rw [List.getElem?_map, List.getElem?_range h]
  rfl
def giP (w : Int → Int) (x a f b g : Int) : Prop := oLen w x a - f ≤ oLen w x b - g ∧ ∀ i : Int, 0 ≤ i → f + i < oLen w x a → oBeat w x a (f + i) = oBeat w x b (g + i)
theorem giP_is {w : Int → Int} {x a f b g : Int} (hf : 0 ≤ f ∧ f ≤ oLen w x a) (hg : 0 ≤ g ∧ g ≤ oLen w x b) : giP w x a f b g ↔ (cdL w x a).drop f.toNat <+: (cdL w x b).drop g.toNat := by
  rw [List.prefix_iff_getElem?]
  constructor
  · rintro ⟨h1, h2⟩ i hi
    rw [List.length_drop, cdL_len] at hi
    rw [List.getElem?_drop, List.getElem_drop]
    have hi2 : g.toNat + i < (oLen w x b).toNat := by omega
    rw [cdL_at hi2]
    have e := cdL_at (w := w) (x := x) (k := a) (i := f.toNat + i) (by omega)
    have e2 := List.getElem?_eq_some_iff.mp e
    obtain ⟨p, q⟩ := e2
    rw [q]
    have h3 := h2 i (by omega) (by omega)
    rw [show ((f.toNat + i : Nat) : Int) = f + i by omega, show ((g.toNat + i : Nat) : Int) = g + i by omega, h3]
  · intro h
    have hl : oLen w x a - f ≤ oLen w x b - g := by
      by_cases hz : oLen w x a - f ≤ 0
      · omega
      · have h1 := h ((oLen w x a - f).toNat - 1) (by rw [List.length_drop, cdL_len]; omega)
        have h2 := (List.getElem?_eq_some_iff.mp h1).1
        rw [List.length_drop, cdL_len] at h2
        omega
    refine ⟨hl, fun i i0 i1 => ?_⟩
    have hi : i.toNat < ((cdL w x a).drop f.toNat).length := by rw [List.length_drop, cdL_len]; omega
    have h1 := h i.toNat hi
    rw [List.getElem?_drop, List.getElem_drop, cdL_at (by omega)] at h1
    have e := cdL_at (w := w) (x := x) (k := a) (i := f.toNat + i.toNat) (by omega)
    obtain ⟨p, q⟩ := List.getElem?_eq_some_iff.mp e
    rw [q] at h1
    have h2 := Option.some.inj h1
    rw [show ((f.toNat + i.toNat : Nat) : Int) = f + i by omega, show ((g.toNat + i.toNat : Nat) : Int) = g + i by omega] at h2
    exact h2.symm
