/-! THE SPEC, part 6: codes -/
def ed (f g : Int → Int) : Nat → Nat → Int
  | 0, j => j
  | i + 1, 0 => i + 1
  | i + 1, j + 1 => min (ed f g i j + (if f i = g j then 0 else 1)) (min (ed f g i (j + 1)) (ed f g (i + 1) j) + 1)
theorem ed_sym (f g : Int → Int) : ∀ n i j : Nat, i + j ≤ n → ed f g i j = ed g f j i := by
  intro n
  induction n with
  | zero =>
    intro i j h
    have hi : i = 0 := by omega
    have hj : j = 0 := by omega
    subst hi; subst hj; simp [ed]
  | succ n ih =>
    intro i j h
    cases i with
    | zero =>
      cases j with
      | zero => simp [ed]
      | succ j => simp [ed]
    | succ i =>
      cases j with
      | zero => simp [ed]
      | succ j =>
        simp only [ed]
        rw [ih i j (by omega), ih i (j + 1) (by omega), ih (i + 1) j (by omega)]
        have e : (if f i = g j then (0 : Int) else 1) = if g j = f i then 0 else 1 := by
          by_cases h9 : f i = g j
          · rw [if_pos h9, if_pos h9.symm]
          · rw [if_neg h9, if_neg (fun z => h9 z.symm)]
        rw [e]
        omega
theorem ed_rng (f g : Int → Int) : ∀ n i j : Nat, i + j ≤ n → 0 ≤ ed f g i j ∧ ed f g i j ≤ i + j := by
  intro n
  induction n with
  | zero =>
    intro i j h
    have hi : i = 0 := by omega
    have hj : j = 0 := by omega
    subst hi; subst hj; simp [ed]
  | succ n ih =>
    intro i j h
    cases i with
    | zero => simp only [ed]; omega
    | succ i =>
      cases j with
      | zero => simp only [ed]; omega
      | succ j =>
        simp only [ed]
        have a1 := ih i j (by omega)
        have a2 := ih i (j + 1) (by omega)
        have a3 := ih (i + 1) j (by omega)
        split <;> omega
theorem ed_congr {f g f' g' : Int → Int} : ∀ n i j : Nat, i + j ≤ n → (∀ x : Nat, x < i → f x = f' x) → (∀ x : Nat, x < j → g x = g' x) → ed f g i j = ed f' g' i j := by
  intro n
  induction n with
  | zero =>
    intro i j h _ _
    have hi : i = 0 := by omega
    have hj : j = 0 := by omega
    subst hi; subst hj; simp [ed]
  | succ n ih =>
    intro i j h hf hg
    cases i with
    | zero => simp [ed]
    | succ i =>
      cases j with
      | zero => simp [ed]
      | succ j =>
        simp only [ed]
        rw [ih i j (by omega) (fun x hx => hf x (by omega)) (fun x hx => hg x (by omega)), ih i (j + 1) (by omega) (fun x hx => hf x (by omega)) hg, ih (i + 1) j (by omega) hf (fun x hx => hg x (by omega)), hf i (by omega), hg j (by omega)]
def edI (f g : Int → Int) (i j : Int) : Int := ed f g i.toNat j.toNat
theorem edI_0 {f g : Int → Int} {j : Int} (h : 0 ≤ j) : edI f g 0 j = j := by
  unfold edI
  show ed f g 0 j.toNat = j
  simp [ed]; omega
theorem edI_i0 {f g : Int → Int} {i : Int} (h : 0 ≤ i) : edI f g i 0 = i := by
  unfold edI
  show ed f g i.toNat 0 = i
  cases hi : i.toNat with
  | zero => simp [ed]; omega
  | succ n => simp [ed]; omega
theorem edI_s {f g : Int → Int} {i j : Int} (hi : 1 ≤ i) (hj : 1 ≤ j) : edI f g i j = min (edI f g (i - 1) (j - 1) + (if f (i - 1) = g (j - 1) then 0 else 1)) (min (edI f g (i - 1) j) (edI f g i (j - 1)) + 1) := by
  unfold edI
  rw [show i.toNat = (i - 1).toNat + 1 by omega, show j.toNat = (j - 1).toNat + 1 by omega]
  simp only [ed]
  rw [show (((i - 1).toNat : Nat) : Int) = i - 1 by omega, show (((j - 1).toNat : Nat) : Int) = j - 1 by omega]
theorem edI_rng {f g : Int → Int} {i j : Int} (hi : 0 ≤ i) (hj : 0 ≤ j) : 0 ≤ edI f g i j ∧ edI f g i j ≤ i + j := by
  have := ed_rng f g _ i.toNat j.toNat (Nat.le_refl _)
  unfold edI
  omega
theorem edI_sym {f g : Int → Int} {i j : Int} : edI f g i j = edI g f j i := ed_sym f g _ _ _ (Nat.le_refl _)
theorem edI_congr {f g f' g' : Int → Int} {i j : Int} (hf : ∀ x : Int, 0 ≤ x → x < i → f x = f' x) (hg : ∀ x : Int, 0 ≤ x → x < j → g x = g' x) : edI f g i j = edI f' g' i j := ed_congr _ _ _ (Nat.le_refl _) (fun x hx => hf x (by omega) (by omega)) (fun x hx => hg x (by omega) (by omega))
def edO (w : Int → Int) (army x y : Int) : Int := edI (oBeat w army x) (oBeat w army y) (oLen w army x) (oLen w army y)
def sFar (a : Int → Int) (k army x y : Int) : Int := if (0 ≤ k ∧ k ≤ a 0 - 1) ∧ (0 ≤ army ∧ army ≤ 1) ∧ (0 ≤ x ∧ x ≤ wAt a k (15 + army) - 1) ∧ (0 ≤ y ∧ y ≤ wAt a k (15 + army) - 1) then edO (wAt a k) army x y else -1
/-- the order x of an army begins with the order y of another -/
def bgn (w : Int → Int) (ax x ay y : Int) : Prop := oLen w ay y ≤ oLen w ax x ∧ allU (fun i => oBeat w ax x i = oBeat w ay y i) (oLen w ay y)
def bgU (w : Int → Int) (ax x ay y n : Int) : Prop := oLen w ay y ≤ oLen w ax x ∧ allU (fun i => oBeat w ax x i = oBeat w ay y i) n
theorem bgU_s {w : Int → Int} {ax x ay y n : Int} (h : bgU w ax x ay y n) (hn : 0 ≤ n) : bgU w ax x ay y (n + 1) ↔ oBeat w ax x n = oBeat w ay y n :=
  ⟨fun h2 => (allU_s h.2 hn).mp h2.2, fun h2 => ⟨h.1, (allU_s h.2 hn).mpr h2⟩⟩
theorem bgU_end {w : Int → Int} {ax x ay y n : Int} (h : n ≤ oLen w ay y) (h2 : oLen w ay y ≤ n ∨ ¬ bgU w ax x ay y n) : bgU w ax x ay y n ↔ bgn w ax x ay y := by
  constructor
  · intro h3
    rcases h2 with h2 | h2
    · exact ⟨h3.1, fun j j1 j2 => h3.2 j j1 (by omega)⟩
    · exact absurd h3 h2
  · intro h3; exact ⟨h3.1, fun j j1 j2 => h3.2 j j1 (by omega)⟩
/-- heads: the pairs one of which begins with the other -/
def hdP (w : Int → Int) (army hi lo : Int) : Prop := bgn w army lo army hi ∨ bgn w army hi army lo
noncomputable def hdT (w : Int → Int) (army : Int) : Nat → Int
  | 0 => 0
  | h + 1 => hdT w army h + cnI (hdP w army h) h
noncomputable def hdI (w : Int → Int) (army h : Int) : Int := hdT w army h.toNat
theorem hdI_s {w : Int → Int} {army h : Int} (hh : 0 ≤ h) : hdI w army (h + 1) = hdI w army h + cnI (hdP w army h) h := by
  unfold hdI
  rw [show (h + 1).toNat = h.toNat + 1 by omega]
  show hdT w army h.toNat + cnI (hdP w army ((h.toNat : Nat) : Int)) ((h.toNat : Nat) : Int) = _
  rw [show ((h.toNat : Nat) : Int) = h by omega]
theorem hdI_rng {w : Int → Int} {army h : Int} (hh : 0 ≤ h ∧ h ≤ 6) : 0 ≤ hdI w army h ∧ hdI w army h ≤ 36 := by
  have key : ∀ n : Nat, 0 ≤ hdT w army n ∧ hdT w army n ≤ n * n := by
    intro n
    induction n with
    | zero => simp [hdT]
    | succ n ih =>
      have := cnI_rng (hdP w army n) (n := n) (by omega)
      unfold hdT
      have e : ((n + 1 : Nat) : Int) * ((n + 1 : Nat) : Int) = n * n + n + n + 1 := by
        rw [show ((n + 1 : Nat) : Int) = (n : Int) + 1 by omega]
        rw [Int.add_mul, Int.mul_add]; omega
      omega
  have h1 := key h.toNat
  unfold hdI
  rcases (show h = 0 ∨ h = 1 ∨ h = 2 ∨ h = 3 ∨ h = 4 ∨ h = 5 ∨ h = 6 by omega) with rfl | rfl | rfl | rfl | rfl | rfl | rfl <;> simp at h1 ⊢ <;> omega
/-- the least distance of orders of different moves -/
def mnD (x d : Int) : Int := if x = -1 then d else min x d
noncomputable def sfR (w : Int → Int) (army h b : Int) : Nat → Int
  | 0 => b
  | n + 1 => if oMove w army n = oMove w army h then sfR w army h b n else mnD (sfR w army h b n) (edO w army n h)
noncomputable def sfT (w : Int → Int) (army : Int) : Nat → Int
  | 0 => -1
  | h + 1 => sfR w army h (sfT w army h) h
noncomputable def sfI (w : Int → Int) (army h n : Int) : Int := sfR w army h (sfT w army h.toNat) n.toNat
theorem sfI_s {w : Int → Int} {army h n : Int} (hn : 0 ≤ n) : sfI w army h (n + 1) = if oMove w army n = oMove w army h then sfI w army h n else mnD (sfI w army h n) (edO w army n h) := by
  unfold sfI
  rw [show (n + 1).toNat = n.toNat + 1 by omega]
  show (if oMove w army ((n.toNat : Nat) : Int) = oMove w army h then _ else mnD _ (edO w army ((n.toNat : Nat) : Int) h)) = _
  rw [show ((n.toNat : Nat) : Int) = n by omega]
theorem sfI_n {w : Int → Int} {army h : Int} (hh : 0 ≤ h) : sfI w army (h + 1) 0 = sfI w army h h := by
  unfold sfI
  show sfT w army (h + 1).toNat = _
  rw [show (h + 1).toNat = h.toNat + 1 by omega]
  show sfR w army ((h.toNat : Nat) : Int) (sfT w army h.toNat) h.toNat = _
  rw [show ((h.toNat : Nat) : Int) = h by omega]
noncomputable def sCodes (a : Int → Int) (k army what : Int) : Int := if (0 ≤ k ∧ k ≤ a 0 - 1) ∧ (0 ≤ army ∧ army ≤ 1) ∧ (0 ≤ what ∧ what ≤ 1) then (if what = 0 then sfI (wAt a k) army (wAt a k (15 + army)) 0 else hdI (wAt a k) army (wAt a k (15 + army))) else -2
def shP (w : Int → Int) (c : Int) : Prop := c / 6 ≤ w 15 - 1 ∧ c % 6 ≤ w 16 - 1 ∧ oLen w 0 (c / 6) = oLen w 1 (c % 6) ∧ bgn w 0 (c / 6) 1 (c % 6)
noncomputable def shr (P : Int → Prop) (k : Int) : Nat → Int → Int → Int
  | 0, _, n => if k = -1 then n else -1
  | f + 1, c, n => if dP (P c) = true then (if n = k then c else shr P k f (c + 1) (n + 1)) else shr P k f (c + 1) n
theorem shr_yes {P : Int → Prop} {k c n : Int} {f : Nat} (h : P c) : shr P k (f + 1) c n = if n = k then c else shr P k f (c + 1) (n + 1) := by rw [shr, if_pos (dP_t.mpr h)]
theorem shr_no {P : Int → Prop} {k c n : Int} {f : Nat} (h : ¬ P c) : shr P k (f + 1) c n = shr P k f (c + 1) n := by rw [shr, if_neg (fun z => h (dP_t.mp z))]
theorem shr_neg {P : Int → Prop} {k : Int} (hk : k < -1) : ∀ (f : Nat) (c n : Int), 0 ≤ n → shr P k f c n = -1 := by
  intro f
  induction f with
  | zero => intro c n hn; unfold shr; rw [if_neg (by omega)]
  | succ f ih =>
    intro c n hn
    unfold shr
    split
    · rw [if_neg (by omega)]; exact ih _ _ (by omega)
    · exact ih _ _ hn
noncomputable def sShared (a : Int → Int) (k j : Int) : Int := if 0 ≤ k ∧ k ≤ a 0 - 1 then shr (shP (wAt a k)) j 36 0 0 else -1
