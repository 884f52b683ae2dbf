/-! THE SPEC, part 3: what an army makes of a row -/
def fitP (w : Int → Int) (L : List (Int × Int)) (s a o k : Int) : Prop := k + oLen w a o ≤ hrs w L.length a ∧ ∀ i : Int, 0 ≤ i → i < oLen w a o → hrd w L s a (k + i) = oBeat w a o i
noncomputable def bst (w : Int → Int) (L : List (Int × Int)) (s a k : Int) : Nat → Int
  | 0 => -1
  | n + 1 => if dP (fitP w L s a n k ∧ (bst w L s a k n = -1 ∨ oLen w a (bst w L s a k n) < oLen w a n)) = true then (n : Int) else bst w L s a k n
/-- b is the first of the longest orders from i on, below n, that fit -/
def isB (w : Int → Int) (L : List (Int × Int)) (s a k i n b : Int) : Prop := (b = -1 ∧ ∀ o : Int, i ≤ o → o < n → ¬ fitP w L s a o k) ∨ (i ≤ b ∧ b < n ∧ fitP w L s a b k ∧ ∀ o : Int, i ≤ o → o < n → fitP w L s a o k → oLen w a o < oLen w a b ∨ (oLen w a o = oLen w a b ∧ b ≤ o))
theorem isB_u {w : Int → Int} {L : List (Int × Int)} {s a k i n b b' : Int} (hi : 0 ≤ i) (h : isB w L s a k i n b) (h' : isB w L s a k i n b') : b = b' := by
  rcases h with ⟨e, h⟩ | ⟨h1, h2, h3, h4⟩ <;> rcases h' with ⟨e', h'⟩ | ⟨h1', h2', h3', h4'⟩
  · omega
  · exact absurd h3' (h b' h1' h2')
  · exact absurd h3 (h' b h1 h2)
  · have a1 := h4 b' h1' h2' h3'
    have a2 := h4' b h1 h2 h3
    omega
theorem bst_B {w : Int → Int} {L : List (Int × Int)} {s a k : Int} : ∀ n : Nat, isB w L s a k 0 n (bst w L s a k n) := by
  intro n
  induction n with
  | zero => exact Or.inl ⟨rfl, fun o h1 h2 => absurd h2 (by omega)⟩
  | succ n ih =>
    unfold bst
    by_cases h : fitP w L s a n k ∧ (bst w L s a k n = -1 ∨ oLen w a (bst w L s a k n) < oLen w a n)
    · rw [if_pos (dP_t.mpr h)]
      refine Or.inr ⟨by omega, by omega, h.1, fun o h1 h2 h3 => ?_⟩
      rcases (show o < n ∨ o = n by omega) with h4 | h4
      · rcases ih with ⟨e, ih⟩ | ⟨i1, i2, i3, i4⟩
        · exact absurd h3 (ih o h1 h4)
        · have := i4 o h1 h4 h3
          rcases h.2 with h5 | h5 <;> omega
      · subst h4; right; omega
    · rw [if_neg (fun z => h (dP_t.mp z))]
      rcases ih with ⟨e, ih⟩ | ⟨i1, i2, i3, i4⟩
      · refine Or.inl ⟨e, fun o h1 h2 h3 => ?_⟩
        rcases (show o < n ∨ o = n by omega) with h4 | h4
        · exact ih o h1 h4 h3
        · subst h4; exact h ⟨h3, Or.inl e⟩
      · refine Or.inr ⟨i1, by omega, i3, fun o h1 h2 h3 => ?_⟩
        rcases (show o < n ∨ o = n by omega) with h4 | h4
        · exact i4 o h1 h4 h3
        · subst h4
          rcases Int.lt_trichotomy (oLen w a (bst w L s a k n)) (oLen w a n) with h5 | h5 | h5
          · exact absurd ⟨h3, Or.inr h5⟩ h
          · right; omega
          · left; exact h5
noncomputable def bN (w : Int → Int) (L : List (Int × Int)) (s a k : Int) : Int := bst w L s a k (w (15 + a)).toNat
theorem bN_B {w : Int → Int} {L : List (Int × Int)} {s a k : Int} (h : 0 ≤ w (15 + a)) : isB w L s a k 0 (w (15 + a)) (bN w L s a k) := by
  have := bst_B (w := w) (L := L) (s := s) (a := a) (k := k) (w (15 + a)).toNat
  rw [show (((w (15 + a)).toNat : Nat) : Int) = w (15 + a) by omega] at this
  exact this
noncomputable def mkL (w : Int → Int) (L : List (Int × Int)) (s a k : Int) : List (Int × Int) :=
  if _h : k < hrs w L.length a then (if bN w L s a k = -1 then mkL w L s a (k + 1) else (bN w L s a k, k) :: mkL w L s a (k + max 1 (oLen w a (bN w L s a k)))) else []
termination_by (hrs w L.length a - k).toNat
decreasing_by
  · omega
  · omega
noncomputable def dnc (w : Int → Int) (L : List (Int × Int)) (s a k : Int) : Int :=
  if _h : k < hrs w L.length a then (if bN w L s a k = -1 then 1 + dnc w L s a (k + 1) else dnc w L s a (k + max 1 (oLen w a (bN w L s a k)))) else 0
termination_by (hrs w L.length a - k).toNat
decreasing_by
  · omega
  · omega
theorem mkL_end {w : Int → Int} {L : List (Int × Int)} {s a k : Int} (h : hrs w L.length a ≤ k) : mkL w L s a k = [] ∧ dnc w L s a k = 0 := by
  rw [mkL, dnc, dif_neg (by omega), dif_neg (by omega)]
  exact ⟨rfl, rfl⟩
theorem mkL_no {w : Int → Int} {L : List (Int × Int)} {s a k : Int} (h : k < hrs w L.length a) (hb : bN w L s a k = -1) : mkL w L s a k = mkL w L s a (k + 1) ∧ dnc w L s a k = 1 + dnc w L s a (k + 1) := by
  constructor
  · rw [mkL, dif_pos h, if_pos hb]
  · rw [dnc, dif_pos h, if_pos hb]
theorem mkL_yes {w : Int → Int} {L : List (Int × Int)} {s a k : Int} (h : k < hrs w L.length a) (hb : bN w L s a k ≠ -1) (hl : 1 ≤ oLen w a (bN w L s a k)) : mkL w L s a k = (bN w L s a k, k) :: mkL w L s a (k + oLen w a (bN w L s a k)) ∧ dnc w L s a k = dnc w L s a (k + oLen w a (bN w L s a k)) := by
  have e : max 1 (oLen w a (bN w L s a k)) = oLen w a (bN w L s a k) := by omega
  constructor
  · rw [mkL, dif_pos h, if_neg hb, e]
  · rw [dnc, dif_pos h, if_neg hb, e]
theorem mkL_ok {w : Int → Int} {L : List (Int × Int)} {s a : Int} (hw : WfArmy w a) : ∀ (n : Nat) (k : Int), 0 ≤ k → (hrs w L.length a - k).toNat ≤ n → (∀ y ∈ mkL w L s a k, 0 ≤ y.1 ∧ y.1 < w (15 + a) ∧ k ≤ y.2 ∧ y.2 + oLen w a y.1 ≤ hrs w L.length a) ∧ (k ≤ hrs w L.length a → ((mkL w L s a k).length : Int) ≤ hrs w L.length a - k ∧ 0 ≤ dnc w L s a k ∧ dnc w L s a k ≤ hrs w L.length a - k) := by
  intro n
  induction n with
  | zero =>
    intro k h0 h
    have e := mkL_end (w := w) (L := L) (s := s) (a := a) (k := k) (by omega)
    rw [e.1, e.2]
    exact ⟨fun y hy => absurd hy List.not_mem_nil, fun h1 => by simp; omega⟩
  | succ n ih =>
    intro k h0 h
    by_cases hk : k < hrs w L.length a
    · by_cases hb : bN w L s a k = -1
      · have e := mkL_no hk hb
        rw [e.1, e.2]
        have q := ih (k + 1) (by omega) (by omega)
        refine ⟨fun y hy => ?_, fun h1 => ?_⟩
        · have := q.1 y hy; omega
        · have := q.2 (by omega); omega
      · have hB := bN_B (L := L) (s := s) (k := k) hw.2.2.2.2.1.1
        rcases hB with ⟨z, -⟩ | ⟨b1, b2, b3, -⟩
        · exact absurd z hb
        · have hl := (hw.2.2.2.2.2 _ b1 b2).2.1
          have e := mkL_yes hk hb hl.1
          rw [e.1, e.2]
          have h3 := b3.1
          have q := ih (k + oLen w a (bN w L s a k)) (by omega) (by omega)
          refine ⟨fun y hy => ?_, fun h1 => ?_⟩
          · rcases List.mem_cons.mp hy with rfl | hy
            · exact ⟨b1, b2, Int.le_refl _, h3⟩
            · have := q.1 y hy; omega
          · have := q.2 (by omega)
            rw [List.length_cons]
            omega
    · have e := mkL_end (w := w) (L := L) (s := s) (a := a) (k := k) (by omega)
      rw [e.1, e.2]
      exact ⟨fun y hy => absurd hy List.not_mem_nil, fun h1 => by simp; omega⟩
theorem rf_mem {M : List (Int × Int)} {j : Int} (h : 0 ≤ j ∧ j < M.length) : (rf M j, rg M j) ∈ M := by
  unfold rf rg
  rw [List.getD_eq_getElem?_getD, List.getElem?_eq_getElem (by omega)]
  exact List.getElem_mem _
/-- one army's moves -/
noncomputable abbrev mvs (w : Int → Int) (L : List (Int × Int)) (s a : Int) : List (Int × Int) := mkL w L s a 0
theorem mvs_at {w : Int → Int} {L : List (Int × Int)} {s a j : Int} (hw : WfArmy w a) (h : 0 ≤ j ∧ j < (mvs w L s a).length) : 0 ≤ rf (mvs w L s a) j ∧ rf (mvs w L s a) j < w (15 + a) ∧ 0 ≤ rg (mvs w L s a) j ∧ rg (mvs w L s a) j + oLen w a (rf (mvs w L s a) j) ≤ hrs w L.length a := (mkL_ok hw _ 0 (by omega) (Nat.le_refl _)).1 _ (rf_mem h)
theorem mvs_len {w : Int → Int} {L : List (Int × Int)} {s a : Int} (hw : WfArmy w a) (hn : L.length ≤ 24) : ((mvs w L s a).length : Int) ≤ 24 ∧ 0 ≤ dnc w L s a 0 ∧ dnc w L s a 0 ≤ 24 := by
  have h := hrs_rng (n := L.length) hw (by omega)
  have := (mkL_ok (s := s) hw _ 0 (by omega) (Nat.le_refl _)).2 h.1
  refine ⟨?_, by omega, by omega⟩
  show ((mkL w L s a 0).length : Int) ≤ 24
  omega
/-- the army's moves stand in the reference's arrays -/
def Mad (σ : St) (w : Int → Int) (L : List (Int × Int)) (s a : Int) : Prop := σ 22 a = (mvs w L s a).length ∧ σ 23 a = dnc w L s a 0 ∧ ∀ j : Int, 0 ≤ j → j < (mvs w L s a).length → σ 19 (24 * a + j) = oMove w a (rf (mvs w L s a) j) ∧ σ 20 (24 * a + j) = rf (mvs w L s a) j ∧ σ 21 (24 * a + j) = rg (mvs w L s a) j
def Oth (σ σ' : St) (a : Int) : Prop := (∀ j : Int, (j < 24 * a ∨ 24 * a + 24 ≤ j) → σ' 19 j = σ 19 j ∧ σ' 20 j = σ 20 j ∧ σ' 21 j = σ 21 j) ∧ ∀ j : Int, j ≠ a → σ' 22 j = σ 22 j ∧ σ' 23 j = σ 23 j
theorem Mad_oth {σ σ' : St} {w : Int → Int} {L : List (Int × Int)} {s a b : Int} (h : Mad σ w L s b) (ho : Oth σ σ' a) (hab : b ≠ a) (hl : ((mvs w L s b).length : Int) ≤ 24) : Mad σ' w L s b := by
  refine ⟨by rw [(ho.2 b hab).1]; exact h.1, by rw [(ho.2 b hab).2]; exact h.2.1, fun j h1 h2 => ?_⟩
  have := ho.1 (24 * b + j) (by omega)
  rw [this.1, this.2.1, this.2.2]
  exact h.2.2 j h1 h2
theorem Mad_eq {σ σ' : St} {w : Int → Int} {L : List (Int × Int)} {s a : Int} (h : Mad σ w L s a) (h1 : σ' 19 = σ 19) (h2 : σ' 20 = σ 20) (h3 : σ' 21 = σ 21) (h4 : σ' 22 = σ 22) (h5 : σ' 23 = σ 23) : Mad σ' w L s a := by
  unfold Mad
  rw [h1, h2, h3, h4, h5]
  exact h
/-! counting -/
noncomputable def cn (P : Int → Prop) : Nat → Int
  | 0 => 0
  | n + 1 => cn P n + b2i (dP (P n))
theorem cn_rng (P : Int → Prop) : ∀ n : Nat, 0 ≤ cn P n ∧ cn P n ≤ n := by
  intro n
  induction n with
  | zero => exact ⟨Int.le_refl _, Int.le_refl _⟩
  | succ n ih =>
    have := b2i_in (dP (P n))
    unfold cn
    omega
noncomputable def cnI (P : Int → Prop) (n : Int) : Int := cn P n.toNat
theorem cnI_0 (P : Int → Prop) : cnI P 0 = 0 := rfl
theorem cnI_s (P : Int → Prop) {n : Int} (h : 0 ≤ n) : cnI P (n + 1) = cnI P n + b2i (dP (P n)) := by
  unfold cnI
  rw [show (n + 1).toNat = n.toNat + 1 by omega]
  show cn P n.toNat + b2i (dP (P ((n.toNat : Nat) : Int))) = _
  rw [show ((n.toNat : Nat) : Int) = n by omega]
theorem cnI_rng (P : Int → Prop) {n : Int} (h : 0 ≤ n) : 0 ≤ cnI P n ∧ cnI P n ≤ n := by
  have := cn_rng P n.toNat
  unfold cnI
  omega
noncomputable def pur (w : Int → Int) (L : List (Int × Int)) (a o b : Int) : Int := if cnI (fun i => rg L (plc w a (b + i)) = a) (oLen w a o) = oLen w a o then 0 else if cnI (fun i => rg L (plc w a (b + i)) = a) (oLen w a o) = 0 then 2 else 1
def ecd (w : Int → Int) (L : List (Int × Int)) (s a : Int) (j : Int) : Prop := ∃ i : Int, 0 ≤ i ∧ i < oLen w a (rf (mvs w L s a) j) ∧ ec w (rf L) s (plc w a (rg (mvs w L s a) j + i))
noncomputable def ecn (w : Int → Int) (L : List (Int × Int)) (s a : Int) : Int := cnI (ecd w L s a) (mvs w L s a).length
noncomputable def sMade2 (w : Int → Int) (L : List (Int × Int)) (army k what : Int) : Int := if 0 ≤ army ∧ army ≤ 1 then (if k = -1 then (if what = 0 then ((mvs w L 0 army).length : Int) else if what = 1 then dnc w L 0 army 0 else if what = 2 then ecn w L 0 army else -2) else if 0 ≤ k ∧ k ≤ ((mvs w L 0 army).length : Int) - 1 then (if what = 0 then oMove w army (rf (mvs w L 0 army) k) else if what = 1 then plc w army (rg (mvs w L 0 army) k) else if what = 2 then rf (mvs w L 0 army) k else if what = 3 then pur w L army (rf (mvs w L 0 army) k) (rg (mvs w L 0 army) k) else -2) else -2) else -2
noncomputable def sMade (a : Int → Int) (k s army j what : Int) : Int := if dP (inWS a k s) = true then sMade2 (wAt a k) (rowG (wAt a k) (gAt a s)) army j what else -2
def fitU (w : Int → Int) (L : List (Int × Int)) (s a o k n : Int) : Prop := k + oLen w a o ≤ hrs w L.length a ∧ ∀ i : Int, 0 ≤ i → i < n → hrd w L s a (k + i) = oBeat w a o i
theorem fitU_end {w : Int → Int} {L : List (Int × Int)} {s a o k n : Int} (h : n ≤ oLen w a o) (h2 : oLen w a o ≤ n ∨ ¬ fitU w L s a o k n) : fitU w L s a o k n ↔ fitP w L s a o k := by
  constructor
  · intro h3
    rcases h2 with h2 | h2
    · exact ⟨h3.1, fun i i1 i2 => h3.2 i i1 (by omega)⟩
    · exact absurd h3 h2
  · intro h3
    exact ⟨h3.1, fun i i1 i2 => h3.2 i i1 (by omega)⟩
theorem fitU_s {w : Int → Int} {L : List (Int × Int)} {s a o k n : Int} (h : fitU w L s a o k n) (hn : 0 ≤ n) : fitU w L s a o k (n + 1) ↔ hrd w L s a (k + n) = oBeat w a o n := by
  constructor
  · intro h2; exact h2.2 n hn (by omega)
  · intro h2
    refine ⟨h.1, fun i i1 i2 => ?_⟩
    rcases (show i < n ∨ i = n by omega) with h3 | h3
    · exact h.2 i i1 h3
    · subst h3; exact h2
def MadU (σ0 σ : St) (w : Int → Int) (L : List (Int × Int)) (s a k : Int) : Prop := (0 ≤ σ 22 a ∧ σ 22 a ≤ (mvs w L s a).length) ∧ dr (mvs w L s a) (σ 22 a) = mkL w L s a k ∧ (0 ≤ σ 23 a ∧ σ 23 a + dnc w L s a k = dnc w L s a 0) ∧ (∀ j : Int, 0 ≤ j → j < σ 22 a → σ 19 (24 * a + j) = oMove w a (rf (mvs w L s a) j) ∧ σ 20 (24 * a + j) = rf (mvs w L s a) j ∧ σ 21 (24 * a + j) = rg (mvs w L s a) j) ∧ Oth σ0 σ a
theorem MadU_0 {σ : St} {w : Int → Int} {L : List (Int × Int)} {s a : Int} : MadU σ (up (up σ 22 a 0) 23 a 0) w L s a 0 := by
  have e1 : (up (up σ 22 a 0) 23 a 0) 22 a = 0 := by simp [up]
  have e2 : (up (up σ 22 a 0) 23 a 0) 23 a = 0 := by simp [up]
  unfold MadU
  rw [e1, e2]
  refine ⟨by omega, rfl, by omega, fun j h1 h2 => absurd h2 (by omega), fun j _ => by simp [up], fun j hj => by simp [up, hj]⟩
theorem MadU_no {σ0 σ : St} {w : Int → Int} {L : List (Int × Int)} {s a k : Int} (h : MadU σ0 σ w L s a k) (hk : k < hrs w L.length a) (hb : bN w L s a k = -1) : MadU σ0 (up σ 23 a (σ 23 a + 1)) w L s a (k + 1) := by
  have e := mkL_no hk hb
  have e1 : (up σ 23 a (σ 23 a + 1)) 22 a = σ 22 a := up_ne (by decide)
  have h1 := h.2.2.1
  unfold MadU
  rw [e1, up_self]
  refine ⟨h.1, by rw [h.2.1, e.1], by omega, fun j j1 j2 => ?_, fun j hj => ?_, fun j hj => ?_⟩
  · simp only [up]; exact h.2.2.2.1 j j1 j2
  · simp only [up]; exact h.2.2.2.2.1 j hj
  · have := h.2.2.2.2.2 j hj
    simp only [up]
    simp [hj]
    exact this
theorem MadU_yes {σ0 σ : St} {w : Int → Int} {L : List (Int × Int)} {s a k : Int} (h : MadU σ0 σ w L s a k) (hk : k < hrs w L.length a) (hb : bN w L s a k ≠ -1) (hl : 1 ≤ oLen w a (bN w L s a k)) (ha : 0 ≤ a) (hM : ((mvs w L s a).length : Int) ≤ 24) : σ 22 a < (mvs w L s a).length ∧ MadU σ0 (up (up (up (up σ 19 (24 * a + σ 22 a) (oMove w a (bN w L s a k))) 20 (24 * a + σ 22 a) (bN w L s a k)) 21 (24 * a + σ 22 a) k) 22 a (σ 22 a + 1)) w L s a (k + oLen w a (bN w L s a k)) := by
  have e := mkL_yes hk hb hl
  have h2 := h.2.1
  rw [e.1] at h2
  obtain ⟨a1, a2, a3⟩ := dr_step (d := (0, 0)) h.1.1 h2
  refine ⟨a1, ?_⟩
  have h1 := h.1
  have h3 := h.2.2.1
  unfold MadU
  rw [up_self]
  refine ⟨by omega, a3, ?_, fun j j1 j2 => ?_, fun j hj => ?_, fun j hj => ?_⟩
  · rw [show (up (up (up (up σ 19 (24 * a + σ 22 a) (oMove w a (bN w L s a k))) 20 (24 * a + σ 22 a) (bN w L s a k)) 21 (24 * a + σ 22 a) k) 22 a (σ 22 a + 1)) 23 a = σ 23 a by simp [up], ← e.2]
    exact h3
  · rcases (show j < σ 22 a ∨ j = σ 22 a by omega) with h4 | h4
    · have := h.2.2.2.1 j j1 h4
      have h5 : 24 * a + j ≠ 24 * a + σ 22 a := by omega
      simp only [up]
      simp [h5]
      exact this
    · subst h4
      simp only [up]
      simp
      unfold rf rg
      rw [a2]
      exact ⟨rfl, rfl, rfl⟩
  · have := h.2.2.2.2.1 j hj
    have h5 : j ≠ 24 * a + σ 22 a := by omega
    simp only [up]
    simp [h5]
    exact this
  · have := h.2.2.2.2.2 j hj
    simp only [up]
    simp [hj]
    exact this
theorem MadU_end {σ0 σ : St} {w : Int → Int} {L : List (Int × Int)} {s a k : Int} (h : MadU σ0 σ w L s a k) (hk : hrs w L.length a ≤ k) : Mad σ w L s a ∧ Oth σ0 σ a := by
  have e := mkL_end (s := s) hk
  have h1 := h.2.1
  rw [e.1] at h1
  have h2 := dr_end h.1.1 h.1.2 h1
  have h3 := h.2.2.1
  rw [e.2] at h3
  refine ⟨⟨h2, by omega, fun j j1 j2 => h.2.2.2.1 j j1 (by omega)⟩, h.2.2.2.2⟩
theorem isB_no {w : Int → Int} {L : List (Int × Int)} {s a k i n b : Int} (h : isB w L s a k (i + 1) n b) (hf : ¬ fitP w L s a i k) : isB w L s a k i n b := by
  have key : ∀ o : Int, i ≤ o → fitP w L s a o k → i + 1 ≤ o := fun o h1 h2 => by
    rcases (show o = i ∨ i + 1 ≤ o by omega) with h3 | h3
    · subst h3; exact absurd h2 hf
    · exact h3
  rcases h with ⟨e, h⟩ | ⟨h1, h2, h3, h4⟩
  · exact Or.inl ⟨e, fun o o1 o2 o3 => h o (key o o1 o3) o2 o3⟩
  · exact Or.inr ⟨by omega, h2, h3, fun o o1 o2 o3 => h4 o (key o o1 o3) o2 o3⟩
theorem isB_keep {w : Int → Int} {L : List (Int × Int)} {s a k i n b : Int} (h : isB w L s a k (i + 1) n b) (hb : b ≠ -1) (hl : oLen w a i < oLen w a b) : isB w L s a k i n b := by
  rcases h with ⟨e, h⟩ | ⟨h1, h2, h3, h4⟩
  · exact absurd e hb
  · refine Or.inr ⟨by omega, h2, h3, fun o o1 o2 o3 => ?_⟩
    rcases (show o = i ∨ i + 1 ≤ o by omega) with q | q
    · subst q; exact Or.inl hl
    · exact h4 o q o2 o3
theorem isB_new {w : Int → Int} {L : List (Int × Int)} {s a k i n b : Int} (h : isB w L s a k (i + 1) n b) (hf : fitP w L s a i k) (hi : 0 ≤ i ∧ i < n) (hl : b = -1 ∨ oLen w a b ≤ oLen w a i) : isB w L s a k i n i := by
  refine Or.inr ⟨Int.le_refl _, hi.2, hf, fun o o1 o2 o3 => ?_⟩
  rcases (show o = i ∨ i + 1 ≤ o by omega) with q | q
  · subst q; right; omega
  · rcases h with ⟨e, h⟩ | ⟨h1, h2, h3, h4⟩
    · exact absurd o3 (h o q o2)
    · have := h4 o q o2 o3
      rcases hl with hl | hl <;> omega
theorem isB_in {w : Int → Int} {L : List (Int × Int)} {s a k i n b : Int} (h : isB w L s a k i n b) (hb : b ≠ -1) : i ≤ b ∧ b < n ∧ fitP w L s a b k := by
  rcases h with ⟨e, h⟩ | ⟨h1, h2, h3, h4⟩
  · exact absurd e hb
  · exact ⟨h1, h2, h3⟩
