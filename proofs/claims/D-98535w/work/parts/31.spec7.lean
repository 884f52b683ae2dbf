/-! THE SPEC, part 7: villages -/
abbrev vr (σ : St) (j : Int) : Int := σ 0 (σ 29 0 + j)
theorem vr_at {σ' σ : St} {k : Int} (h0 : σ' 0 = σ 0) (h : σ' 29 0 = 868 + 33 * k) : vr σ' = vAt (σ 0) k := by
  funext j
  show σ' 0 (σ' 29 0 + j) = σ 0 (868 + 33 * k + j)
  rw [h0, h]
def dpt (v : Int → Int) (k : Int) : Int := if _h : 0 ≤ v (1 + 4 * k) ∧ v (1 + 4 * k) < k then 1 + dpt v (v (1 + 4 * k)) else 1
termination_by k.toNat
decreasing_by omega
theorem dpt_8 {v : Int → Int} {k : Int} (h : v (1 + 4 * k) = 8) (hk : k ≤ 7) : dpt v k = 1 := by rw [dpt, dif_neg (by omega)]
theorem dpt_p {v : Int → Int} {k : Int} (h : 0 ≤ v (1 + 4 * k) ∧ v (1 + 4 * k) < k) : dpt v k = 1 + dpt v (v (1 + 4 * k)) := by rw [dpt, dif_pos h]
theorem dpt_rng {v : Int → Int} : ∀ (n : Nat) (k : Int), k.toNat ≤ n → 1 ≤ dpt v k ∧ (0 ≤ k → dpt v k ≤ k + 1) := by
  intro n
  induction n with
  | zero =>
    intro k hk
    rw [dpt, dif_neg (by omega)]; omega
  | succ n ih =>
    intro k hk
    rw [dpt]
    split
    · rename_i h
      have := ih (v (1 + 4 * k)) (by omega)
      omega
    · omega
def sVill2 (v : Int → Int) (k what : Int) : Int := if k = -1 then (if what = 0 then v 0 else -2) else if 0 ≤ k ∧ k ≤ v 0 - 1 then (if 0 ≤ what ∧ what ≤ 3 then v (1 + 4 * k + what) else if what = 4 then dpt v k else -2) else -2
def sVillage (a : Int → Int) (x k what : Int) : Int := if 0 ≤ x ∧ x ≤ a 3 - 1 then sVill2 (vAt a x) k what else -2
/-- what a village tells of the beat at i -/
def emt (kd one two n i b : Int) : List Int := if (kd = 0 ∧ (i + 1) % one = 0) ∨ (kd = 3 ∧ i = n - 1) then [] else (if kd = 1 ∧ b = one then two else if kd = 1 ∧ b = two then one else b) :: (if kd = 2 ∧ b = one then [b] else [])
def rwU (kd one two n : Int) (f : Int → Int) : Nat → List Int
  | 0 => []
  | i + 1 => rwU kd one two n f i ++ emt kd one two n i (f i)
def rwI (kd one two n : Int) (f : Int → Int) (i : Int) : List Int := rwU kd one two n f i.toNat
theorem rwI_s {kd one two n : Int} {f : Int → Int} {i : Int} (h : 0 ≤ i) : rwI kd one two n f (i + 1) = rwI kd one two n f i ++ emt kd one two n i (f i) := by
  unfold rwI
  rw [show (i + 1).toNat = i.toNat + 1 by omega]
  show rwU kd one two n f i.toNat ++ emt kd one two n ((i.toNat : Nat) : Int) (f ((i.toNat : Nat) : Int)) = _
  rw [show ((i.toNat : Nat) : Int) = i by omega]
theorem rwI_c {kd one two n : Int} {f g : Int → Int} {i : Int} (h : ∀ x : Int, 0 ≤ x → x < i → f x = g x) : rwI kd one two n f i = rwI kd one two n g i := by
  have key : ∀ k : Nat, (∀ x : Int, 0 ≤ x → x < k → f x = g x) → rwU kd one two n f k = rwU kd one two n g k := by
    intro k
    induction k with
    | zero => intro _; rfl
    | succ k ih =>
      intro h
      unfold rwU
      rw [ih (fun x h1 h2 => h x h1 (by omega)), h k (by omega) (by omega)]
  exact key _ (fun x h1 h2 => h x h1 (by omega))
def tel (kd one two : Int) (l : List Int) : List Int := (rwI kd one two l.length (gi l) l.length).take 60
def verL (v : Int → Int) (base : List Int) (k : Int) : List Int := if _h : 0 ≤ v (1 + 4 * k) ∧ v (1 + 4 * k) < k then tel (v (1 + 4 * k + 1)) (v (1 + 4 * k + 2)) (v (1 + 4 * k + 3)) (verL v base (v (1 + 4 * k))) else tel (v (1 + 4 * k + 1)) (v (1 + 4 * k + 2)) (v (1 + 4 * k + 3)) base
termination_by k.toNat
decreasing_by omega
theorem verL_8 {v : Int → Int} {base : List Int} {k : Int} (h : v (1 + 4 * k) = 8) (hk : k ≤ 7) : verL v base k = tel (v (1 + 4 * k + 1)) (v (1 + 4 * k + 2)) (v (1 + 4 * k + 3)) base := by rw [verL, dif_neg (by omega)]
theorem verL_p {v : Int → Int} {base : List Int} {k : Int} (h : 0 ≤ v (1 + 4 * k) ∧ v (1 + 4 * k) < k) : verL v base k = tel (v (1 + 4 * k + 1)) (v (1 + 4 * k + 2)) (v (1 + 4 * k + 3)) (verL v base (v (1 + 4 * k))) := by rw [verL, dif_pos h]
theorem tel_len {kd one two : Int} {l : List Int} : (tel kd one two l).length ≤ 60 := by unfold tel; rw [List.length_take]; omega
theorem verL_len {v : Int → Int} {base : List Int} {k : Int} : (verL v base k).length ≤ 60 := by rw [verL]; split <;> exact tel_len
theorem emt_mem {kd one two n i b : Int} (hb : 0 ≤ b ∧ b ≤ 3) (h : kd = 1 → (0 ≤ one ∧ one ≤ 3) ∧ (0 ≤ two ∧ two ≤ 3)) : ∀ y ∈ emt kd one two n i b, 0 ≤ y ∧ y ≤ 3 := by
  intro y hy
  unfold emt at hy
  split at hy
  · exact absurd hy List.not_mem_nil
  · rcases List.mem_cons.mp hy with e | e
    · rw [e]
      split
      · rename_i q; exact (h q.1).2
      · split
        · rename_i q; exact (h q.1).1
        · exact hb
    · split at e
      · rcases List.mem_cons.mp e with e | e
        · rw [e]; exact hb
        · exact absurd e List.not_mem_nil
      · exact absurd e List.not_mem_nil
theorem tel_mem {kd one two : Int} {l : List Int} (hl : ∀ y ∈ l, 0 ≤ y ∧ y ≤ 3) (h : kd = 1 → (0 ≤ one ∧ one ≤ 3) ∧ (0 ≤ two ∧ two ≤ 3)) : ∀ y ∈ tel kd one two l, 0 ≤ y ∧ y ≤ 3 := by
  intro y hy
  unfold tel at hy
  have hy := List.mem_of_mem_take hy
  have key : ∀ k : Nat, k ≤ l.length → ∀ y ∈ rwU kd one two l.length (gi l) k, 0 ≤ y ∧ y ≤ 3 := by
    intro k
    induction k with
    | zero => intro _ y hy; exact absurd hy List.not_mem_nil
    | succ k ih =>
      intro hk y hy
      unfold rwU at hy
      rcases List.mem_append.mp hy with q | q
      · exact ih (by omega) y q
      · refine emt_mem ?_ h y q
        apply hl
        unfold gi
        rw [List.getD_eq_getElem?_getD, List.getElem?_eq_getElem (by omega)]
        exact List.getElem_mem _
  refine key _ ?_ y hy
  omega
theorem verL_mem {v : Int → Int} {base : List Int} (hb : ∀ y ∈ base, 0 ≤ y ∧ y ≤ 3) (hv : WfVill v) : ∀ (n : Nat) (k : Int), 0 ≤ k → k < v 0 → k.toNat ≤ n → ∀ y ∈ verL v base k, 0 ≤ y ∧ y ≤ 3 := by
  have hk1 : ∀ k : Int, 0 ≤ k → k < v 0 → v (1 + 4 * k + 1) = 1 → (0 ≤ v (1 + 4 * k + 2) ∧ v (1 + 4 * k + 2) ≤ 3) ∧ (0 ≤ v (1 + 4 * k + 3) ∧ v (1 + 4 * k + 3) ≤ 3) := by
    intro k h0 h1 h2
    have := (hv.2 k h0 h1).2
    omega
  intro n
  induction n with
  | zero =>
    intro k h0 h1 h2
    rw [verL, dif_neg (by omega)]
    exact tel_mem hb (hk1 k h0 h1)
  | succ n ih =>
    intro k h0 h1 h2
    rw [verL]
    split
    · rename_i q
      exact tel_mem (ih _ q.1 (by omega) (by omega)) (hk1 k h0 h1)
    · exact tel_mem hb (hk1 k h0 h1)
theorem gi_mem {l : List Int} {i : Int} (h : 0 ≤ i ∧ i < l.length) : gi l i ∈ l := by
  unfold gi
  rw [List.getD_eq_getElem?_getD, List.getElem?_eq_getElem (by omega)]
  exact List.getElem_mem _
noncomputable def sndL (w : Int → Int) (L : List (Int × Int)) : List Int := (List.range L.length).map (fun i : Nat => sd w (rf L) 0 i)
theorem sndL_len {w : Int → Int} {L : List (Int × Int)} : (sndL w L).length = L.length := by unfold sndL; rw [List.length_map, List.length_range]
theorem sndL_at {w : Int → Int} {L : List (Int × Int)} {i : Int} (h : 0 ≤ i ∧ i < L.length) : gi (sndL w L) i = sd w (rf L) 0 i := by
  unfold gi sndL
  rw [List.getD_eq_getElem?_getD, List.getElem?_map, List.getElem?_range (by omega)]
  show sd w (rf L) 0 ((i.toNat : Nat) : Int) = _
  rw [show ((i.toNat : Nat) : Int) = i by omega]
theorem sndL_mem {w : Int → Int} {L : List (Int × Int)} (hw : WfWar w) (hv : rowV L) : ∀ y ∈ sndL w L, 0 ≤ y ∧ y ≤ 3 := by
  intro y hy
  unfold sndL at hy
  obtain ⟨i, hi, rfl⟩ := List.mem_map.mp hy
  have hi := List.mem_range.mp hi
  exact sd_rng hw (hv i (by omega) (by omega))
/-- a version stands in the reference's arrays -/
def Vr (σ : St) (k : Int) (l : List Int) : Prop := σ 31 k = l.length ∧ ∀ i : Int, 0 ≤ i → i < l.length → σ 30 (60 * k + i) = gi l i
theorem Vr_eq {σ σ' : St} {k : Int} {l : List Int} (h : Vr σ k l) (h1 : σ' 30 = σ 30) (h2 : σ' 31 = σ 31) : Vr σ' k l := by
  unfold Vr
  rw [h1, h2]
  exact h
theorem take_snoc {l : List Int} {b : Int} (h : l.length < 60) : (l ++ [b]).take 60 = l ++ [b] ∧ l.take 60 = l := by
  constructor
  · exact List.take_of_length_le (by rw [List.length_append]; simp; omega)
  · exact List.take_of_length_le (by omega)
theorem take_full {l : List Int} {b : Int} (h : 60 ≤ l.length) : (l ++ [b]).take 60 = l.take 60 := List.take_append_of_le_length h
theorem Vr_add {σ : St} {k b : Int} {l : List Int} (h : Vr σ k (l.take 60)) (hl : σ 31 k < 60) : Vr (up (up σ 30 (60 * k + σ 31 k) b) 31 k (σ 31 k + 1)) k ((l ++ [b]).take 60) := by
  have h1 := h.1
  rw [List.length_take] at h1
  have hl2 : l.length < 60 := by omega
  obtain ⟨e1, e2⟩ := take_snoc (b := b) hl2
  rw [e2] at h
  rw [e1]
  refine ⟨by rw [up_self, h.1, List.length_append]; simp, fun i i1 i2 => ?_⟩
  rw [up_ne (by decide)]
  rw [List.length_append] at i2
  simp at i2
  have hg : gi (l ++ [b]) i = if i = l.length then b else gi l i := by
    unfold gi
    split
    · rename_i q
      rw [show i.toNat = l.length by omega, List.getD_eq_getElem?_getD, List.getElem?_append_right (Nat.le_refl _)]
      simp
    · rw [List.getD_eq_getElem?_getD, List.getD_eq_getElem?_getD, List.getElem?_append_left (by omega)]
  rw [hg]
  split
  · rename_i q
    rw [show 60 * k + i = 60 * k + σ 31 k by rw [h.1, q], up_self]
  · rw [up_nei (by rw [h.1]; omega)]
    exact h.2 i i1 (by omega)
theorem Vr_oth {σ : St} {k k' b : Int} {l : List Int} (h : Vr σ k' l) (hk : k' ≠ k) (hl : l.length ≤ 60) (h0 : 0 ≤ σ 31 k ∧ σ 31 k < 60) : Vr (up (up σ 30 (60 * k + σ 31 k) b) 31 k (σ 31 k + 1)) k' l := by
  refine ⟨by rw [up_nei hk, up_ne (by decide)]; exact h.1, fun i i1 i2 => ?_⟩
  rw [up_ne (by decide), up_nei (by omega)]
  exact h.2 i i1 i2
noncomputable def verG (w g v : Int → Int) (k : Int) : List Int := verL v (sndL w (rowG w g)) k
def inWSV (a : Int → Int) (k s x y : Int) : Prop := inWS a k s ∧ (0 ≤ x ∧ x ≤ a 3 - 1) ∧ (0 ≤ y ∧ y ≤ vAt a x 0 - 1)
noncomputable def sVers2 (l : List Int) (j : Int) : Int := if j = -1 then (l.length : Int) else if 0 ≤ j ∧ j ≤ (l.length : Int) - 1 then gi l j else -1
noncomputable def sVersion (a : Int → Int) (k s x y j : Int) : Int := if dP (inWSV a k s x y) = true then sVers2 (verG (wAt a k) (gAt a s) (vAt a x) y) j else -1
noncomputable def lkU (v : Int → Int) (base : List Int) (y : Int) : Nat → Int
  | 0 => 0
  | n + 1 => orI (lkU v base y n) (if verL v base n = verL v base y then shlI 1 n else 0)
noncomputable def lkI (v : Int → Int) (base : List Int) (y n : Int) : Int := lkU v base y n.toNat
theorem lkI_s {v : Int → Int} {base : List Int} {y n : Int} (h : 0 ≤ n) : lkI v base y (n + 1) = orI (lkI v base y n) (if verL v base n = verL v base y then shlI 1 n else 0) := by
  unfold lkI
  rw [show (n + 1).toNat = n.toNat + 1 by omega]
  show orI (lkU v base y n.toNat) (if verL v base ((n.toNat : Nat) : Int) = verL v base y then shlI 1 ((n.toNat : Nat) : Int) else 0) = _
  rw [show ((n.toNat : Nat) : Int) = n by omega]
noncomputable def sTale (a : Int → Int) (k s x y : Int) (likes : Bool) : Int := if dP (inWSV a k s x y) = true then (if likes = true then lkI (vAt a x) (sndL (wAt a k) (rowG (wAt a k) (gAt a s))) y (vAt a x 0) else edI (gi (verG (wAt a k) (gAt a s) (vAt a x) y)) (gi (sndL (wAt a k) (rowG (wAt a k) (gAt a s)))) (verG (wAt a k) (gAt a s) (vAt a x) y).length (rowG (wAt a k) (gAt a s)).length) else -1
theorem list_eqI {l l' : List Int} : l = l' ↔ ((l.length : Int) = l'.length ∧ ∀ i : Int, 0 ≤ i → i < l.length → gi l i = gi l' i) := by
  constructor
  · rintro rfl; exact ⟨rfl, fun _ _ _ => rfl⟩
  · rintro ⟨h1, h2⟩
    apply List.ext_getElem?
    intro n
    by_cases hn : n < l.length
    · have := h2 n (by omega) (by omega)
      unfold gi at this
      rw [show ((n : Int)).toNat = n by omega, List.getD_eq_getElem?_getD, List.getD_eq_getElem?_getD, List.getElem?_eq_getElem hn, List.getElem?_eq_getElem (by omega)] at this
      rw [List.getElem?_eq_getElem hn, List.getElem?_eq_getElem (by omega)]
      simp at this
      rw [this]
    · rw [List.getElem?_eq_none (by omega), List.getElem?_eq_none (by omega)]
