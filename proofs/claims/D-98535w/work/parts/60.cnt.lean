/-! THE SPEC, part 18: counts of what is read -/
theorem it_inv {α : Type} {c : α → Prop} {g : α → α} (I : α → Prop) (hg : ∀ s, c s → I s → I (g s)) : ∀ (f : Nat) (s : α), I s → I (itU c g f s) := by
  intro f
  induction f with
  | zero => intro s h; exact h
  | succ f ih =>
    intro s h
    show I (if dP (c s) = true then itU c g f (g s) else s)
    by_cases hc : dP (c s) = true
    · rw [if_pos hc]; exact ih _ (hg s (dP_t.mp hc) h)
    · rw [if_neg hc]; exact h
theorem tk_ok {t : Int → Int} {n lo hi : Int} {S : PS} (h0 : (sTk t n lo hi S).2.1.1 = 0) : sIs t n lo hi S := by
  by_cases hc : sIs t n lo hi S
  · exact hc
  · exfalso
    have e : (sTk t n lo hi S).2.1 = eEnd S.2.1 (tkW t n S.1) := by
      show tkE t n S.1 S.2.1 lo hi = _
      unfold tkE
      exact if_neg (fun z => hc (dP_t.mp z))
    rw [e, eEnd_1'] at h0
    exact absurd h0 (by decide)
theorem sTv_is {t : Int → Int} {n lo hi : Int} {S : PS} (h : sIs t n lo hi S) : lo ≤ sTv t n lo hi S ∧ sTv t n lo hi S ≤ hi := by
  unfold sTv
  rw [(tkVl_is h).1]
  exact h.2.2
theorem sNv_rng {t : Int → Int} {n lo hi : Int} {S : PS} (h : lo ≤ hi) : lo ≤ sNv t n lo hi S ∧ sNv t n lo hi S ≤ hi := nmV_rng h
def cnt (sort : Int) (f : Int → Int) : Prop := (sort = 0 → ∀ x : Int, 0 ≤ x → x ≤ 1 → 0 ≤ f (15 + x) ∧ f (15 + x) ≤ 6) ∧ (sort = 1 → ∀ x : Int, 0 ≤ x → x ≤ 1 → 0 ≤ f x ∧ f x ≤ 12) ∧ (sort = 3 → 0 ≤ f 0 ∧ f 0 ≤ 8)
theorem gL_rd {t : Int → Int} {n lo hi room base : Int} {mo : Prop} {x : PS × Int} {j : Int} (h0 : 0 ≤ x.2) (h : j < base ∨ base + room ≤ j) : (gL t n lo hi room base mo x).1.2.2 j = x.1.2.2 j ∧ x.2 ≤ (gL t n lo hi room base mo x).2 := by
  have := it_inv (c := fun x : PS × Int => (0 ≤ x.1.1 ∧ n ≤ 600) ∧ sIs t n lo hi x.1) (g := gB t n lo hi room base mo) (fun y : PS × Int => (y.1.2.2 j = x.1.2.2 j ∧ x.2 ≤ y.2)) (fun s _ h1 => ⟨(gB_rd (by omega) h).trans h1.1, by show x.2 ≤ s.2 + 1; omega⟩) (602 - x.1.1).toNat x ⟨rfl, Int.le_refl _⟩
  exact this
theorem orL_rd {t : Int → Int} {n : Int} {S : PS} {j : Int} (hG : 0 ≤ S.2.2 (15 + orG t n S)) (h : j < 17) : (orL t n S).1.2.2 j = S.2.2 j := by
  have hg : 0 ≤ orG t n S ∧ orG t n S ≤ 1 := sNv_rng (by omega)
  have hK := orK_rng hg hG
  unfold orL
  rw [(gL_rd (x := (orD t n S, 0)) (Int.le_refl 0) (Or.inl (by omega))).1]
  show (orD t n S).2.2 j = _
  rw [orD_rd]
theorem or_cnt {t : Int → Int} {n : Int} {S : PS} (h : ∀ x : Int, 0 ≤ x → x ≤ 1 → 0 ≤ S.2.2 (15 + x) ∧ S.2.2 (15 + x) ≤ 6) : ∀ x : Int, 0 ≤ x → x ≤ 1 → 0 ≤ (orS t n S).2.2 (15 + x) ∧ (orS t n S).2.2 (15 + x) ≤ 6 := by
  intro x x0 x1
  have hg : 0 ≤ orG t n S ∧ orG t n S ≤ 1 := sNv_rng (by omega)
  have h1 := h _ hg.1 hg.2
  have hK := orK_rng hg h1.1
  have hx := h x x0 x1
  have hl := orL_rd (j := 15 + x) h1.1 (by omega)
  unfold orS
  by_cases c : dP (orM t n S) = true
  · rw [if_pos c]
    have c2 := (dP_t.mp c).2
    show 0 ≤ fu (fu (fu (orL t n S).1.2.2 _ _) _ _) _ _ (15 + x) ∧ fu (fu (fu (orL t n S).1.2.2 _ _) _ _) _ _ (15 + x) ≤ 6
    by_cases e : x = orG t n S
    · rw [e, fu_at]; omega
    · rw [fu_ne (by omega), fu_ne (by omega), fu_ne (by omega), hl]; exact hx
  · rw [if_neg c, hl]; exact hx
theorem sSt_rd {i v j : Int} {S : PS} (h : j ≠ i) : (sSt i v S).2.2 j = S.2.2 j := fu_ne h
theorem sSt_at {i v : Int} {S : PS} : (sSt i v S).2.2 i = v := fu_at
theorem waB_rd {t : Int → Int} {n d : Int} {A : PS} {j : Int} (h : 15 ≤ j) : (waB t n d A).2.2 j = A.2.2 j := by
  have hg : 0 ≤ sNv t n 0 1 A ∧ sNv t n 0 1 A ≤ 1 := sNv_rng (by omega)
  have h4 : (sTk t n 10 13 (sTk t n 10 13 A)).2.1.1 = 0 → 10 ≤ sTv t n 10 13 A ∧ sTv t n 10 13 A ≤ 13 := fun z => sTv_is (tk_ok (tk_ok z).1)
  unfold waB
  split
  · exact sSt_rd (by omega)
  split
  · exact sSt_rd (by omega)
  split
  · exact sSt_rd (by omega)
  split
  · split
    · rename_i z
      have := h4 z
      exact sSt_rd (by omega)
    · rfl
  split
  · exact sSt_rd (by omega)
  split
  · exact sSt_rd (by omega)
  split
  · exact sSt_rd (by omega)
  split
  · exact sSt_rd (by omega)
  · rfl
theorem sc_cnt {t : Int → Int} {n : Int} {S : PS} (h : ∀ x : Int, 0 ≤ x → x ≤ 1 → 0 ≤ S.2.2 x ∧ S.2.2 x ≤ 12) : ∀ x : Int, 0 ≤ x → x ≤ 1 → 0 ≤ (scS t n S).2.2 x ∧ (scS t n S).2.2 x ≤ 12 := by
  have hg : 0 ≤ scG t n S ∧ scG t n S ≤ 1 := sNv_rng (by omega)
  have hA : (scA t n S).2.2 = S.2.2 := by unfold scA sWn; split <;> rfl
  exact it_inv (c := fun S => (0 ≤ S.1 ∧ n ≤ 600) ∧ sIs t n 10 13 S) (g := scB t n (scG t n S)) (fun Q : PS => ∀ x : Int, 0 ≤ x → x ≤ 1 → 0 ≤ Q.2.2 x ∧ Q.2.2 x ≤ 12) (fun Q _ hQ x x0 x1 => by
    have hx := hQ x x0 x1
    have h9 := hQ _ hg.1 hg.2
    unfold scB
    by_cases c : Q.2.2 (scG t n S) < 12
    · rw [if_pos c]
      show 0 ≤ fu (fu Q.2.2 _ _) _ _ x ∧ fu (fu Q.2.2 _ _) _ _ x ≤ 12
      by_cases e : x = scG t n S
      · rw [e, fu_at]; omega
      · rw [fu_ne e, fu_ne (by omega)]; exact hx
    · rw [if_neg c]; exact hx) (602 - (scA t n S).1).toNat (scA t n S) (by rw [hA]; exact h)
theorem vi_cnt {t : Int → Int} {n : Int} {S : PS} (h : 0 ≤ S.2.2 0 ∧ S.2.2 0 ≤ 8) : 0 ≤ (viS t n S).2.2 0 ∧ (viS t n S).2.2 0 ≤ 8 := by
  show 0 ≤ (viH t n S).2.2 0 ∧ (viH t n S).2.2 0 ≤ 8
  unfold viH
  by_cases c : S.2.2 0 < 8
  · rw [if_pos c]
    rw [sSt_at]; omega
  · rw [if_neg c, viG_rd]; exact h
theorem lnS_cnt {t : Int → Int} {n sort : Int} {S : PS} (h : cnt sort S.2.2) : cnt sort (lnS t n sort S).2.2 := by
  unfold lnS
  refine ⟨fun e => ?_, fun e => ?_, fun e => ?_⟩
  · rw [if_pos e]
    unfold waS
    split
    · exact or_cnt (h.1 e)
    · intro x x0 x1
      show 0 ≤ (waB t n _ _).2.2 (15 + x) ∧ (waB t n _ _).2.2 (15 + x) ≤ 6
      rw [waB_rd (by omega)]
      exact h.1 e x x0 x1
  · rw [if_neg (by omega), if_pos e]
    exact sc_cnt (h.2.1 e)
  · rw [if_neg (by omega), if_neg (by omega), if_neg (by omega)]
    exact vi_cnt (h.2.2 e)
theorem clR_cnt {sort : Int} : cnt sort (clR sort) := by
  refine ⟨fun e x x0 x1 => ?_, fun e x x0 x1 => ?_, fun e => ?_⟩
  · unfold clR; rw [if_pos e, if_neg (by omega), if_neg (by omega), if_neg (by omega), if_neg (by omega)]; omega
  · unfold clR; rw [if_neg (by omega), if_neg (by omega)]; omega
  · unfold clR; rw [if_neg (by omega), if_neg (by omega)]; omega
/-! a whole text -/
noncomputable def txF (a : Int → Int) (sort : Int) : PS := txL (fun j => a (10 + j)) (a 4) sort (0, (0, 0, -1), clR sort)
def txO (a : Int → Int) (sort at_ : Int) : Prop := (0 ≤ sort ∧ sort ≤ 3) ∧ (if at_ = -1 then a sort < 2 else 0 ≤ at_ ∧ at_ ≤ a sort - 1)
def plO (sort k : Int) : Int := if sort = 0 then 610 + 89 * k else if sort = 1 then 788 + 26 * k else if sort = 2 then 840 + 14 * k else 868 + 33 * k
def szO (sort : Int) : Int := if sort = 0 then 89 else if sort = 1 then 26 else if sort = 2 then 14 else 33
def txK (a : Int → Int) (sort at_ : Int) : Int := if at_ = -1 then a sort else at_
noncomputable def sText (a : Int → Int) (sort at_ : Int) : Int := if dP (txO a sort at_) = true then (if (txF a sort).2.1.2.1 = 0 then txK a sort at_ else -1) else -2
noncomputable def txA (a : Int → Int) (sort at_ : Int) : Int → Int :=
  if dP (txO a sort at_) = true then
    (if (txF a sort).2.1.2.1 = 0 then (fun j => if plO sort (txK a sort at_) ≤ j ∧ j < plO sort (txK a sort at_) + szO sort then (txF a sort).2.2 (j - plO sort (txK a sort at_)) else if j = 4 then 0 else if j = 5 then 0 else if j = 6 then (txF a sort).2.1.2.2 else if j = sort ∧ at_ = -1 then a sort + 1 else a j)
     else fun j => if j = 4 then 0 else if j = 5 then (txF a sort).2.1.2.1 else if j = 6 then (txF a sort).2.1.2.2 else a j)
  else fun j => if j = 4 then 0 else if j = 5 then 0 else if j = 6 then -1 else a j
theorem plO_rng {sort k : Int} (hs : 0 ≤ sort ∧ sort ≤ 3) (hk : 0 ≤ k ∧ k ≤ 1) : 610 ≤ plO sort k ∧ plO sort k + szO sort ≤ 934 ∧ 14 ≤ szO sort ∧ szO sort ≤ 89 := by
  unfold plO szO
  split
  · omega
  · split
    · omega
    · split <;> omega
