/-! THE SPEC, part 9: readings -/
def mnF (x y : Int) : Int := if y = -1 then x else if x = -1 then y + 1 else min x (y + 1)
/-- over the orders: the sum of the ways, the least of the numbers -/
noncomputable def suU (w : Int → Int) (L : List (Int × Int)) (a k : Int) (f : Int → Int × Int) : Nat → Int × Int
  | 0 => (0, -1)
  | i + 1 => if dP (fitP w L 0 a i k) = true then ((suU w L a k f i).1 + (f (k + oLen w a i)).1, mnF (suU w L a k f i).2 (f (k + oLen w a i)).2) else suU w L a k f i
noncomputable def suI (w : Int → Int) (L : List (Int × Int)) (a k : Int) (f : Int → Int × Int) (i : Int) : Int × Int := suU w L a k f i.toNat
theorem suI_s {w : Int → Int} {L : List (Int × Int)} {a k : Int} {f : Int → Int × Int} {i : Int} (h : 0 ≤ i) : suI w L a k f (i + 1) = if dP (fitP w L 0 a i k) = true then ((suI w L a k f i).1 + (f (k + oLen w a i)).1, mnF (suI w L a k f i).2 (f (k + oLen w a i)).2) else suI w L a k f i := by
  unfold suI
  rw [show (i + 1).toNat = i.toNat + 1 by omega]
  show (if dP (fitP w L 0 a ((i.toNat : Nat) : Int) k) = true then ((suU w L a k f i.toNat).1 + (f (k + oLen w a ((i.toNat : Nat) : Int))).1, mnF (suU w L a k f i.toNat).2 (f (k + oLen w a ((i.toNat : Nat) : Int))).2) else suU w L a k f i.toNat) = _
  rw [show ((i.toNat : Nat) : Int) = i by omega]
/-- the table behind m steps from the end: ways and fewest orders from each place on -/
noncomputable def rdT (w : Int → Int) (L : List (Int × Int)) (a : Int) : Nat → Int → Int × Int
  | 0 => fun _ => (1, 0)
  | m + 1 => fun k => if k = hrs w L.length a - m - 1 then suI w L a k (rdT w L a m) (w (15 + a)) else rdT w L a m k
def rdOk (q : Int × Int) (B : Int) : Prop := 0 ≤ q.1 ∧ q.1 ≤ B ∧ (q.1 = 0 ↔ q.2 = -1) ∧ -1 ≤ q.2 ∧ q.2 ≤ 24
theorem suU_ok {w : Int → Int} {L : List (Int × Int)} {a k : Int} {f : Int → Int × Int} {B : Int} (hB : 0 ≤ B) : ∀ n : Nat, (∀ i : Nat, i < n → fitP w L 0 a i k → 0 ≤ (f (k + oLen w a i)).1 ∧ (f (k + oLen w a i)).1 ≤ B ∧ ((f (k + oLen w a i)).1 = 0 ↔ (f (k + oLen w a i)).2 = -1) ∧ -1 ≤ (f (k + oLen w a i)).2 ∧ (f (k + oLen w a i)).2 ≤ 23) → 0 ≤ (suU w L a k f n).1 ∧ (suU w L a k f n).1 ≤ n * B ∧ ((suU w L a k f n).1 = 0 ↔ (suU w L a k f n).2 = -1) ∧ -1 ≤ (suU w L a k f n).2 ∧ (suU w L a k f n).2 ≤ 24 := by
  intro n
  induction n with
  | zero => intro _; simp [suU]
  | succ n ih =>
    intro h
    have h1 := ih (fun i hi => h i (by omega))
    have e : ((n + 1 : Nat) : Int) * B = n * B + B := by
      rw [show ((n + 1 : Nat) : Int) = (n : Int) + 1 by omega, Int.add_mul]; omega
    unfold suU
    by_cases hf : fitP w L 0 a n k
    · rw [if_pos (dP_t.mpr hf)]
      have h2 := h n (by omega) hf
      (try dsimp only)
      unfold mnF
      refine ⟨by omega, by omega, ?_, ?_, ?_⟩
      · split
        · omega
        · split <;> omega
      · split
        · omega
        · split <;> omega
      · split
        · omega
        · split <;> omega
    · rw [if_neg (fun z => hf (dP_t.mp z))]
      refine ⟨h1.1, by omega, h1.2.2.1, h1.2.2.2.1, h1.2.2.2.2⟩
theorem rdT_ok {w : Int → Int} {L : List (Int × Int)} {a : Int} (hw : WfArmy w a) (hL : L.length ≤ 24) : ∀ m : Nat, (m : Int) ≤ hrs w L.length a → ∀ k : Int, hrs w L.length a - m ≤ k → k ≤ hrs w L.length a → 0 ≤ (rdT w L a m k).1 ∧ (rdT w L a m k).1 ≤ 6 ^ m ∧ ((rdT w L a m k).1 = 0 ↔ (rdT w L a m k).2 = -1) ∧ -1 ≤ (rdT w L a m k).2 ∧ (rdT w L a m k).2 ≤ m := by
  intro m
  induction m with
  | zero => intro _ k h1 h2; simp [rdT]
  | succ m ih =>
    intro hm k h1 h2
    have hp : (1 : Int) ≤ 6 ^ m := by have : (0 : Int) < 6 ^ m := Int.pow_pos (by decide); omega
    have e : (6 : Int) ^ (m + 1) = 6 * 6 ^ m := by rw [Int.pow_succ, Int.mul_comm]
    unfold rdT
    (try dsimp only)
    split
    · rename_i hk
      have hor := hw.2.2.2.2.1
      have key : ∀ n : Nat, (n : Int) ≤ w (15 + a) → 0 ≤ (suU w L a k (rdT w L a m) n).1 ∧ (suU w L a k (rdT w L a m) n).1 ≤ n * 6 ^ m ∧ ((suU w L a k (rdT w L a m) n).1 = 0 ↔ (suU w L a k (rdT w L a m) n).2 = -1) ∧ -1 ≤ (suU w L a k (rdT w L a m) n).2 ∧ (suU w L a k (rdT w L a m) n).2 ≤ m + 1 := by
        intro n
        induction n with
        | zero => intro _; simp [suU]; omega
        | succ n ih2 =>
          intro hn
          have h3 := ih2 (by omega)
          have e2 : ((n + 1 : Nat) : Int) * 6 ^ m = n * 6 ^ m + 6 ^ m := by
            rw [show ((n + 1 : Nat) : Int) = (n : Int) + 1 by omega, Int.add_mul]; omega
          unfold suU
          by_cases hf : fitP w L 0 a n k
          · rw [if_pos (dP_t.mpr hf)]
            have hl := (hw.2.2.2.2.2 n (by omega) (by omega)).2.1
            have hfe := hf.1
            have h4 := ih (by omega) (k + oLen w a n) (by omega) (by omega)
            (try dsimp only)
            unfold mnF
            refine ⟨by omega, by omega, ?_, ?_, ?_⟩
            · split
              · omega
              · split <;> omega
            · split
              · omega
              · split <;> omega
            · split
              · omega
              · split <;> omega
          · rw [if_neg (fun z => hf (dP_t.mp z))]
            refine ⟨h3.1, by omega, h3.2.2.1, h3.2.2.2.1, h3.2.2.2.2⟩
      have h5 := key (w (15 + a)).toNat (by omega)
      have h6 : (((w (15 + a)).toNat : Nat) : Int) * 6 ^ m ≤ 6 * 6 ^ m := Int.mul_le_mul_of_nonneg_right (by omega) (by omega)
      unfold suI
      rw [e]
      refine ⟨h5.1, by omega, h5.2.2.1, h5.2.2.2.1, ?_⟩
      have := h5.2.2.2.2
      omega
    · have h3 := ih (by omega) k (by omega) h2
      rw [e]
      refine ⟨h3.1, by omega, h3.2.2.1, h3.2.2.2.1, by omega⟩
noncomputable def rdI (w : Int → Int) (L : List (Int × Int)) (a k : Int) : Int × Int := rdT w L a (hrs w L.length a).toNat k
theorem rdT_in {w : Int → Int} {L : List (Int × Int)} {a : Int} {k : Int} : ∀ (n m : Nat), hrs w L.length a - m ≤ k → rdT w L a (m + n) k = rdT w L a m k := by
  intro n
  induction n with
  | zero => intro m _; rfl
  | succ n ih =>
    intro m h
    rw [show m + (n + 1) = (m + n) + 1 by omega]
    have : rdT w L a (m + n + 1) k = if k = hrs w L.length a - (m + n : Nat) - 1 then suI w L a k (rdT w L a (m + n)) (w (15 + a)) else rdT w L a (m + n) k := rfl
    rw [this, if_neg (by omega)]
    exact ih m h
theorem rdI_end {w : Int → Int} {L : List (Int × Int)} {a : Int} (h : 0 ≤ hrs w L.length a) : rdI w L a (hrs w L.length a) = (1, 0) := by
  unfold rdI
  have := rdT_in (w := w) (L := L) (a := a) (k := hrs w L.length a) (hrs w L.length a).toNat 0 (by omega)
  rw [Nat.zero_add] at this
  rw [this]
  rfl
theorem suU_c {w : Int → Int} {L : List (Int × Int)} {a k : Int} {f g : Int → Int × Int} : ∀ n : Nat, (∀ i : Nat, i < n → fitP w L 0 a i k → f (k + oLen w a i) = g (k + oLen w a i)) → suU w L a k f n = suU w L a k g n := by
  intro n
  induction n with
  | zero => intro _; rfl
  | succ n ih =>
    intro h
    unfold suU
    rw [ih (fun i hi => h i (by omega))]
    by_cases hf : fitP w L 0 a n k
    · rw [if_pos (dP_t.mpr hf), if_pos (dP_t.mpr hf), h n (by omega) hf]
    · rw [if_neg (fun z => hf (dP_t.mp z)), if_neg (fun z => hf (dP_t.mp z))]
theorem rdI_s {w : Int → Int} {L : List (Int × Int)} {a k : Int} (hw : WfArmy w a) (h0 : 0 ≤ k) (h : k < hrs w L.length a) : rdI w L a k = suI w L a k (rdI w L a) (w (15 + a)) := by
  obtain ⟨m, hm⟩ : ∃ m : Nat, (m : Int) = hrs w L.length a - k - 1 := ⟨(hrs w L.length a - k - 1).toNat, by omega⟩
  have e : (hrs w L.length a).toNat = (m + 1) + k.toNat := by omega
  have h1 : rdI w L a k = rdT w L a (m + 1) k := by
    unfold rdI
    rw [e]
    exact rdT_in _ _ (by omega)
  have h2 : rdT w L a (m + 1) k = suI w L a k (rdT w L a m) (w (15 + a)) := by
    show (if k = hrs w L.length a - m - 1 then suI w L a k (rdT w L a m) (w (15 + a)) else rdT w L a m k) = _
    rw [if_pos (by omega)]
  rw [h1, h2]
  unfold suI
  apply suU_c
  intro i hi hf
  have hor := hw.2.2.2.2.1
  have hl := (hw.2.2.2.2.2 i (by omega) (by omega)).2.1
  unfold rdI
  rw [show (hrs w L.length a).toNat = m + (k.toNat + 1) by omega]
  exact (rdT_in _ _ (by omega)).symm
theorem rdI_ok {w : Int → Int} {L : List (Int × Int)} {a k : Int} (hw : WfArmy w a) (hL : L.length ≤ 24) (h0 : 0 ≤ k) (h : k ≤ hrs w L.length a) : 0 ≤ (rdI w L a k).1 ∧ (rdI w L a k).1 ≤ 4738381338321616896 ∧ ((rdI w L a k).1 = 0 ↔ (rdI w L a k).2 = -1) ∧ -1 ≤ (rdI w L a k).2 ∧ (rdI w L a k).2 ≤ 24 := by
  have hh := hrs_rng (n := L.length) hw (by omega)
  have h1 := rdT_ok hw hL (hrs w L.length a).toNat (by omega) k (by omega) h
  unfold rdI
  have h2 : (6 : Int) ^ (hrs w L.length a).toNat ≤ 4738381338321616896 := by
    have : (6 : Int) ^ (hrs w L.length a).toNat ≤ 6 ^ 24 := by
      have h3 : (6 : Nat) ^ (hrs w L.length a).toNat ≤ 6 ^ 24 := Nat.pow_le_pow_right (by decide) (by omega)
      exact_mod_cast h3
    exact Int.le_trans this (by decide)
  refine ⟨h1.1, by omega, h1.2.2.1, h1.2.2.2.1, by omega⟩
noncomputable def sRead2 (w : Int → Int) (L : List (Int × Int)) (a : Int) (few : Bool) : Int := if few = true then (rdI w L a 0).2 else (rdI w L a 0).1
noncomputable def sReadings (a : Int → Int) (k s army : Int) (few : Bool) : Int := if dP (inWS a k s ∧ (0 ≤ army ∧ army ≤ 1)) = true then sRead2 (wAt a k) (rowG (wAt a k) (gAt a s)) army few else -2
/-- partial sums over the orders -/
theorem suI_ok {w : Int → Int} {L : List (Int × Int)} {a k i : Int} (hw : WfArmy w a) (hL : L.length ≤ 24) (h0 : 0 ≤ k) (hk : k < hrs w L.length a) (hi : 0 ≤ i) (hi2 : i ≤ w (15 + a)) : -1 ≤ (suI w L a k (rdI w L a) i).2 ∧ (suI w L a k (rdI w L a) i).2 ≤ 25 := by
  have key : ∀ n : Nat, (n : Int) ≤ w (15 + a) → -1 ≤ (suU w L a k (rdI w L a) n).2 ∧ (suU w L a k (rdI w L a) n).2 ≤ 25 := by
    intro n
    induction n with
    | zero => intro _; simp [suU]
    | succ n ih =>
      intro hn
      have h3 := ih (by omega)
      unfold suU
      by_cases hf : fitP w L 0 a n k
      · rw [if_pos (dP_t.mpr hf)]
        have hl := (hw.2.2.2.2.2 n (by omega) (by omega)).2.1
        have h4 := rdI_ok (k := k + oLen w a n) hw hL (by omega) hf.1
        (try dsimp only)
        unfold mnF
        constructor
        · split
          · omega
          · split <;> omega
        · split
          · omega
          · split <;> omega
      · rw [if_neg (fun z => hf (dP_t.mp z))]
        exact h3
  have := key i.toNat (by omega)
  unfold suI
  exact this
