/-! THE SPEC, part 4: marches -/
def ecU (w : Int → Int) (L : List (Int × Int)) (s a j n : Int) : Prop := ∃ i : Int, 0 ≤ i ∧ i < n ∧ ec w (rf L) s (plc w a (rg (mvs w L s a) j + i))
theorem ecU_0 {w : Int → Int} {L : List (Int × Int)} {s a j : Int} : ¬ ecU w L s a j 0 := fun ⟨i, h1, h2, _⟩ => by omega
theorem ecU_s {w : Int → Int} {L : List (Int × Int)} {s a j n : Int} (hn : 0 ≤ n) : ecU w L s a j (n + 1) ↔ ecU w L s a j n ∨ ec w (rf L) s (plc w a (rg (mvs w L s a) j + n)) := by
  constructor
  · rintro ⟨i, h1, h2, h3⟩
    rcases (show i < n ∨ i = n by omega) with h4 | h4
    · exact Or.inl ⟨i, h1, h4, h3⟩
    · subst h4; exact Or.inr h3
  · rintro (⟨i, h1, h2, h3⟩ | h)
    · exact ⟨i, h1, by omega, h3⟩
    · exact ⟨n, hn, by omega, h⟩
/-- an army's move at a step -/
noncomputable def mvA (w : Int → Int) (L : List (Int × Int)) (s a t : Int) : Int := if 0 ≤ t - 1 - w (11 + a) ∧ t - 1 - w (11 + a) ≤ ((mvs w L s a).length : Int) - 1 then oMove w a (rf (mvs w L s a) (t - 1 - w (11 + a))) else 0
def sgn (x : Int) : Int := if 0 < x then 1 else if x < 0 then -1 else 0
def goA (m a own oth : Int) : Int := if m = 1 then own - 1 else if m = 2 then own + 1 else if m = 3 then own + 2 * sgn (oth - own) else if m = 4 then own - 2 * (if sgn (oth - own) ≠ 0 then sgn (oth - own) else if a = 0 then 1 else -1) else own
/-- where both stand after so many steps -/
noncomputable def stA (w : Int → Int) (L : List (Int × Int)) (s : Int) : Nat → Int × Int
  | 0 => (w 13, w 14)
  | n + 1 => (goA (mvA w L s 0 (n + 1)) 0 (stA w L s n).1 (stA w L s n).2, goA (mvA w L s 1 (n + 1)) 1 (stA w L s n).2 (stA w L s n).1)
theorem mvA_rng {w : Int → Int} {L : List (Int × Int)} {s a t : Int} (hw : WfArmy w a) : 0 ≤ mvA w L s a t ∧ mvA w L s a t ≤ 4 := by
  unfold mvA
  split
  · rename_i h
    have := mvs_at (s := s) (L := L) hw (j := t - 1 - w (11 + a)) (by omega)
    exact (hw.2.2.2.2.2 _ this.1 this.2.1).1
  · omega
theorem sgn_rng (x : Int) : -1 ≤ sgn x ∧ sgn x ≤ 1 := by unfold sgn; split <;> (try split) <;> omega
theorem goA_rng {m a x y B : Int} (hx : -B ≤ x ∧ x ≤ B) : -(B + 2) ≤ goA m a x y ∧ goA m a x y ≤ B + 2 := by
  have := sgn_rng (y - x)
  unfold goA
  split
  · omega
  · split
    · omega
    · split
      · omega
      · split
        · split
          · omega
          · split <;> omega
        · omega
theorem stA_rng {w : Int → Int} {L : List (Int × Int)} {s : Int} (hw : WfWar w) : ∀ n : Nat, (-(20 + 2 * n : Int) ≤ (stA w L s n).1 ∧ (stA w L s n).1 ≤ 20 + 2 * n) ∧ (-(20 + 2 * n : Int) ≤ (stA w L s n).2 ∧ (stA w L s n).2 ≤ 20 + 2 * n) := by
  intro n
  induction n with
  | zero =>
    have h0 := (hw.2.2.2.2 0 (by omega) (by omega)).2.2.2.1
    have h1 := (hw.2.2.2.2 1 (by omega) (by omega)).2.2.2.1
    simp only [stA]
    simp at h0 h1
    omega
  | succ n ih =>
    simp only [stA]
    have a1 := goA_rng (m := mvA w L s 0 (n + 1)) (a := 0) (y := (stA w L s n).2) ih.1
    have a2 := goA_rng (m := mvA w L s 1 (n + 1)) (a := 1) (y := (stA w L s n).1) ih.2
    omega
/-- the first step by which they have met -/
noncomputable def mtA (w : Int → Int) (L : List (Int × Int)) (s : Int) (n : Nat) : Prop := (stA w L s n).1 = (stA w L s n).2 ∨ ∃ k, n = k + 1 ∧ sgn ((stA w L s n).2 - (stA w L s n).1) ≠ sgn ((stA w L s k).2 - (stA w L s k).1)
/-- the first of the numbers from k on, below n, with a property; -1: none -/
noncomputable def fst (P : Nat → Prop) (k : Nat) : Nat → Int
  | 0 => -1
  | n + 1 => if dP (P k) = true then (k : Int) else fst P (k + 1) n
noncomputable def meet (w : Int → Int) (L : List (Int × Int)) (s : Int) : Int := fst (mtA w L s) 0 25
theorem fst_y {P : Nat → Prop} {k n : Nat} (h : P k) : fst P k (n + 1) = k := by unfold fst; rw [if_pos (dP_t.mpr h)]
theorem fst_n {P : Nat → Prop} {k n : Nat} (h : ¬ P k) : fst P k (n + 1) = fst P (k + 1) n := by rw [fst, if_neg (fun z => h (dP_t.mp z))]
noncomputable def sMarch (a : Int → Int) (k s army t : Int) : Int := if dP (inWS a k s ∧ (0 ≤ army ∧ army ≤ 1) ∧ (0 ≤ t ∧ t ≤ 24)) = true then (if army = 0 then (stA (wAt a k) (rowG (wAt a k) (gAt a s)) 0 t.toNat).1 else (stA (wAt a k) (rowG (wAt a k) (gAt a s)) 0 t.toNat).2) else -1000
noncomputable def sMeets (a : Int → Int) (k s : Int) : Int := if dP (inWS a k s) = true then meet (wAt a k) (rowG (wAt a k) (gAt a s)) 0 else -1
