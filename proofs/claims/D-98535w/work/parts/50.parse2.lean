/-! THE SPEC, part 14: the reader's steps: (place, errors, what is read) -/
abbrev PS : Type := Int × ER × (Int → Int)
def fu (f : Int → Int) (i v : Int) : Int → Int := fun j => if j = i then v else f j
theorem up_fu {σ : St} {k : Nat} {i v : Int} : up σ k i v k = fu (σ k) i v := by
  funext j
  unfold up fu
  by_cases h : j = i
  · rw [if_pos ⟨rfl, h⟩, if_pos h]
  · rw [if_neg (fun z => h z.2), if_neg h]
theorem fu_at {f : Int → Int} {i v : Int} : fu f i v i = v := by unfold fu; rw [if_pos rfl]
theorem fu_ne {f : Int → Int} {i v j : Int} (h : j ≠ i) : fu f i v j = f j := by unfold fu; rw [if_neg h]
noncomputable def sTk (t : Int → Int) (n lo hi : Int) (S : PS) : PS := (tkP t n S.1 S.2.1 lo hi, tkE t n S.1 S.2.1 lo hi, S.2.2)
noncomputable def sTv (t : Int → Int) (n lo hi : Int) (S : PS) : Int := tkVl t n S.1 S.2.1 lo hi
noncomputable def sNm (t : Int → Int) (n lo hi : Int) (S : PS) : PS := (nmP t n S.1 S.2.1, nmE t n S.1 S.2.1 lo hi, S.2.2)
noncomputable def sNv (t : Int → Int) (n lo hi : Int) (S : PS) : Int := nmV t n S.1 S.2.1 lo hi
noncomputable def sEl (t : Int → Int) (n : Int) (S : PS) : PS := (elP t n S.1 S.2.1, elE t n S.1 S.2.1, S.2.2)
def sNo (k q : Int) (S : PS) : PS := (S.1, eNote S.2.1 k q, S.2.2)
noncomputable def sEn (t : Int → Int) (n : Int) (S : PS) : PS := (S.1, eEnd S.2.1 (tkW t n S.1), S.2.2)
def sSt (i v : Int) (S : PS) : PS := (S.1, S.2.1, fu S.2.2 i v)
def sIs (t : Int → Int) (n lo hi : Int) (S : PS) : Prop := isC t n S.1 S.2.1 lo hi
def sOk (S : PS) : Prop := (0 ≤ S.1 ∧ S.1 ≤ 601) ∧ eOk S.2.1
/-- a kind is wanted; else an end -/
noncomputable def sWn (t : Int → Int) (n lo hi : Int) (S : PS) : PS := if dP (S.2.1.1 = 0 ∧ ¬ sIs t n lo hi S) = true then sEn t n S else S
theorem nmV_rng {t : Int → Int} {n p : Int} {e : ER} {lo hi : Int} (h : lo ≤ hi) : lo ≤ nmV t n p e lo hi ∧ nmV t n p e lo hi ≤ hi := by
  unfold nmV
  split
  · omega
  · split <;> omega
theorem tkVl_rng {t : Int → Int} {n p : Int} {e : ER} {lo hi : Int} (h : 0 ≤ lo ∧ lo ≤ hi ∧ hi ≤ 24) : 0 ≤ tkVl t n p e lo hi ∧ tkVl t n p e lo hi ≤ hi := by
  unfold tkVl
  split
  · rename_i z
    have := dP_t.mp z
    unfold isC at this
    omega
  · omega
theorem tkVl_is {t : Int → Int} {n p : Int} {e : ER} {lo hi : Int} (h : isC t n p e lo hi) : tkVl t n p e lo hi = tkC t n p ∧ tkP t n p e lo hi = tkN t n p ∧ tkE t n p e lo hi = e := by
  unfold tkVl tkP tkE
  rw [if_pos (dP_t.mpr h), if_pos (dP_t.mpr h), if_pos (dP_t.mpr h)]
  exact ⟨rfl, rfl, rfl⟩
/-- a loop whose place goes on -/
noncomputable def itU {α : Type} (c : α → Prop) (g : α → α) : Nat → α → α
  | 0, s => s
  | f + 1, s => if dP (c s) = true then itU c g f (g s) else s
noncomputable def itP {α : Type} (q : α → Int) (c : α → Prop) (g : α → α) (s : α) : α := itU c g (602 - q s).toNat s
theorem itU_f {α : Type} {q : α → Int} {c : α → Prop} {g : α → α} (hg : ∀ s, c s → q s ≤ 601 → q s < q (g s) ∧ q (g s) ≤ 601) : ∀ (f f' : Nat) (s : α), q s ≤ 601 → (602 - q s).toNat ≤ f → (602 - q s).toNat ≤ f' → itU c g f s = itU c g f' s := by
  intro f
  induction f with
  | zero => intro f' s h1 h2 h3; exact absurd h2 (by omega)
  | succ f ih =>
    intro f' s h1 h2 h3
    cases f' with
    | zero => exact absurd h3 (by omega)
    | succ f' =>
      show (if dP (c s) = true then itU c g f (g s) else s) = (if dP (c s) = true then itU c g f' (g s) else s)
      by_cases hc : c s
      · have h4 := hg s hc h1
        rw [if_pos (dP_t.mpr hc), if_pos (dP_t.mpr hc)]
        exact ih f' (g s) (by omega) (by omega) (by omega)
      · rw [if_neg (fun z => hc (dP_t.mp z)), if_neg (fun z => hc (dP_t.mp z))]
theorem itP_y {α : Type} {q : α → Int} {c : α → Prop} {g : α → α} (hg : ∀ s, c s → q s ≤ 601 → q s < q (g s) ∧ q (g s) ≤ 601) {s : α} (hs : q s ≤ 601) (hc : c s) : itP q c g s = itP q c g (g s) := by
  have h4 := hg s hc hs
  unfold itP
  rw [itU_f hg (602 - q s).toNat ((601 - q s).toNat + 1) s hs (by omega) (by omega)]
  show (if dP (c s) = true then itU c g (601 - q s).toNat (g s) else s) = _
  rw [if_pos (dP_t.mpr hc)]
  exact itU_f hg _ _ _ (by omega) (by omega) (by omega)
theorem itP_n {α : Type} {q : α → Int} {c : α → Prop} {g : α → α} {s : α} (hc : ¬ c s) : itP q c g s = s := by
  unfold itP
  cases (602 - q s).toNat with
  | zero => rfl
  | succ f =>
    show (if dP (c s) = true then itU c g f (g s) else s) = s
    rw [if_neg (fun z => hc (dP_t.mp z))]
/-- the reference's state of reading -/
def MP (σ : St) (t : Int → Int) (n : Int) (S : PS) : Prop := MS σ t n S.1 S.2.1 ∧ σ 9 = S.2.2
theorem MP_ok {σ : St} {t : Int → Int} {n : Int} {S : PS} (h : MP σ t n S) : sOk S := ⟨h.1.2.2.1, h.1.2.2.2.2⟩
/-- the reading at a place: what else stays -/
def MSr (σ σ' : St) : Prop := sameA σ σ' ∧ same [0, 3, 4, 5, 6, 7, 8, 9] σ σ'
theorem MSr_rf {σ : St} : MSr σ σ := ⟨sameA_rf, same_rf⟩
theorem MSr_tr {σ σ' σ'' : St} (h : MSr σ σ') (h1 : sameA σ' σ'') (h2 : same [0, 3, 4, 5, 6, 7, 8] σ' σ'') : MSr σ σ'' := ⟨sameA_tr h.1 h1, same_tr h.2 h2 (by decide)⟩
theorem MSr_a {σ σ' σ'' : St} (h : MSr σ σ') (h1 : sameA σ' σ'') (h2 : same [0] σ' σ'') : MSr σ σ'' := ⟨sameA_tr h.1 h1, same_tr h.2 h2 (by decide)⟩
theorem MSr_e {σ σ' σ'' : St} (h : MSr σ σ') (h1 : sameA σ' σ'') (h2 : same [0, 8] σ' σ'') : MSr σ σ'' := ⟨sameA_tr h.1 h1, same_tr h.2 h2 (by decide)⟩
theorem MSr_u {σ σ' : St} {i z : Int} (h : MSr σ σ') : MSr σ (up σ' 9 i z) := ⟨fun j a b => (up_ne (by decide)).trans (h.1 j a b), same_up h.2 (by decide)⟩
theorem MSr_2 {σ σ' σ'' : St} (h : MSr σ σ') (h2 : MSr σ' σ'') : MSr σ σ'' := ⟨sameA_tr h.1 h2.1, same_tr h.2 h2.2 (by decide)⟩
theorem MS_u {σ : St} {t : Int → Int} {n p i z : Int} {e : ER} (h : MS σ t n p e) : MS (up σ 9 i z) t n p e := MS_eq h (fun k hk => up_nek hk)
theorem MP_u {σ : St} {t : Int → Int} {n i z : Int} {S : PS} (h : MP σ t n S) : MP (up σ 9 i z) t n (sSt i z S) := ⟨MS_u h.1, by rw [up_fu, h.2]; rfl⟩
theorem MP_also {σ σ' : St} {t : Int → Int} {n k q : Int} {S : PS} (h : MP σ t n S) (he : Er σ' (eNote S.2.1 k q)) (hq : 0 ≤ q ∧ q ≤ 601) (hk : 1 ≤ k ∧ k ≤ 4) (h1 : sameA σ σ') (h2 : same [0] σ σ') : MP σ' t n (sNo k q S) := ⟨⟨Tap_A h.1.1 (h2 2 (by decide)) h1, Cur_eq h.1.2.1 (h2 3 (by decide)) (h2 4 (by decide)) (h2 5 (by decide)) (h2 6 (by decide)) (h2 7 (by decide)), h.1.2.2.1, he, eNote_ok h.1.2.2.2.2 hq hk⟩, (h2 9 (by decide)).trans h.2⟩
theorem MP_ends {σ σ' : St} {t : Int → Int} {n : Int} {S : PS} (h : MP σ t n S) (he : Er σ' (eEnd S.2.1 (σ 4 0))) (h1 : sameA σ σ') (h2 : same [0, 8] σ σ') : MP σ' t n (sEn t n S) := by
  have h4 : σ 4 0 = tkW t n S.1 := h.1.2.1.2.1
  rw [h4] at he
  have := MS_rng h.1
  have h0 := h.1.2.2.1
  exact ⟨⟨Tap_A h.1.1 (h2 2 (by decide)) h1, Cur_eq h.1.2.1 (h2 3 (by decide)) (h2 4 (by decide)) (h2 5 (by decide)) (h2 6 (by decide)) (h2 7 (by decide)), h.1.2.2.1, he, eEnd_ok h.1.2.2.2.2 (by omega)⟩, (h2 9 (by decide)).trans h.2⟩
theorem MP_tk {σ σ' : St} {t : Int → Int} {n lo hi : Int} {S : PS} (h : MP σ t n S) (h1 : MS σ' t n (tkP t n S.1 S.2.1 lo hi) (tkE t n S.1 S.2.1 lo hi)) (h2 : same [0, 3, 4, 5, 6, 7, 8] σ σ') : MP σ' t n (sTk t n lo hi S) := ⟨h1, (h2 9 (by decide)).trans h.2⟩
theorem MP_nm {σ σ' : St} {t : Int → Int} {n lo hi : Int} {S : PS} (h : MP σ t n S) (h1 : MS σ' t n (nmP t n S.1 S.2.1) (nmE t n S.1 S.2.1 lo hi)) (h2 : same [0, 3, 4, 5, 6, 7, 8] σ σ') : MP σ' t n (sNm t n lo hi S) := ⟨h1, (h2 9 (by decide)).trans h.2⟩
theorem MP_el {σ σ' : St} {t : Int → Int} {n : Int} {S : PS} (h : MP σ t n S) (h1 : MS σ' t n (elP t n S.1 S.2.1) (elE t n S.1 S.2.1)) (h2 : same [0, 3, 4, 5, 6, 7, 8] σ σ') : MP σ' t n (sEl t n S) := ⟨h1, (h2 9 (by decide)).trans h.2⟩
/-- what a reading place is -/
theorem MP_at {σ : St} {t : Int → Int} {n : Int} {S : PS} (h : MP σ t n S) : σ 8 0 = S.2.1.1 ∧ (S.2.1.1 = 0 ∨ S.2.1.1 = 1) ∧ σ 4 0 = tkW t n S.1 ∧ (0 ≤ S.1 ∧ S.1 ≤ 601) ∧ (0 ≤ n ∧ n ≤ 600) ∧ (S.1 ≤ tkW t n S.1 ∧ tkW t n S.1 ≤ 601) ∧ ((σ 5 0 = 1 ↔ tkK t n S.1 = 1) ∧ (σ 5 0 = 3 ↔ tkK t n S.1 = 3) ∧ (σ 5 0 = 0 ↔ tkK t n S.1 = 0)) ∧ (tkK t n S.1 = 1 → σ 6 0 = tkV t n S.1) ∧ (tkK t n S.1 = 3 → σ 7 0 = tkC t n S.1) ∧ (0 ≤ tkV t n S.1 ∧ tkV t n S.1 ≤ 99) ∧ (1 ≤ tkC t n S.1 ∧ tkC t n S.1 ≤ 99) := by
  have hg := MS_rng h.1
  have h5 : σ 5 0 = mK (tkK t n S.1) := h.1.2.1.2.2.1
  refine ⟨h.1.2.2.2.1.1, h.1.2.2.2.2.1, h.1.2.1.2.1, h.1.2.2.1, hg.1, hg.2.1, ?_, h.1.2.1.2.2.2.1, h.1.2.1.2.2.2.2, hg.2.2.2.2.1, hg.2.2.2.2.2⟩
  rw [h5]
  unfold mK
  split <;> omega
theorem sIs_go {t : Int → Int} {n lo hi : Int} {S : PS} (h : sIs t n lo hi S) (hn : n ≤ 600) (hp : 0 ≤ S.1 ∧ S.1 ≤ 601) : (S.1 < tkN t n S.1 ∧ tkN t n S.1 ≤ 601) ∧ sTv t n lo hi S = tkC t n S.1 ∧ (sTk t n lo hi S).1 = tkN t n S.1 := by
  have h1 := tkN_lt (t := t) hn hp (by have := h.2.1; omega)
  have h2 := tkN_rng (t := t) hn hp
  have h3 := tkVl_is h
  exact ⟨⟨h1.1, h2.2⟩, h3.1, h3.2.1⟩
/-! a score's line -/
noncomputable def scB (t : Int → Int) (n g : Int) (S : PS) : PS := if S.2.2 g < 12 then sSt g (S.2.2 g + 1) (sSt (2 + 12 * g + S.2.2 g) (sTv t n 10 13 S - 10) (sTk t n 10 13 S)) else sTk t n 10 13 (sNo 3 (tkW t n S.1) S)
noncomputable def scG (t : Int → Int) (n : Int) (S : PS) : Int := sNv t n 0 1 (sTk t n 19 19 S)
noncomputable def scA (t : Int → Int) (n : Int) (S : PS) : PS := sWn t n 10 13 (sNm t n 0 1 (sTk t n 19 19 S))
noncomputable def scL (t : Int → Int) (n g : Int) (S : PS) : PS := itP (fun S : PS => S.1) (fun S => (0 ≤ S.1 ∧ n ≤ 600) ∧ sIs t n 10 13 S) (scB t n g) S
noncomputable def scS (t : Int → Int) (n : Int) (S : PS) : PS := sEl t n (scL t n (scG t n S) (scA t n S))
theorem sIs_no {t : Int → Int} {n lo hi k q : Int} {S : PS} : sIs t n lo hi (sNo k q S) ↔ sIs t n lo hi S := by
  unfold sIs isC
  rw [show (sNo k q S).2.1.1 = S.2.1.1 from eNote_1]
  exact Iff.rfl
theorem scB_go {t : Int → Int} {n g : Int} (S : PS) (h : (0 ≤ S.1 ∧ n ≤ 600) ∧ sIs t n 10 13 S) (hp : S.1 ≤ 601) : S.1 < (scB t n g S).1 ∧ (scB t n g S).1 ≤ 601 := by
  unfold scB
  split
  · have := sIs_go h.2 h.1.2 ⟨h.1.1, hp⟩
    show S.1 < (sTk t n 10 13 S).1 ∧ (sTk t n 10 13 S).1 ≤ 601
    rw [this.2.2]; exact this.1
  · have := sIs_go (S := sNo 3 (tkW t n S.1) S) (sIs_no.mpr h.2) h.1.2 ⟨h.1.1, hp⟩
    rw [this.2.2]; exact this.1
theorem scL_y {t : Int → Int} {n g : Int} {S : PS} (hn : n ≤ 600) (hp : 0 ≤ S.1 ∧ S.1 ≤ 601) (h : sIs t n 10 13 S) : scL t n g S = scL t n g (scB t n g S) := itP_y (fun s a b => scB_go s a b) hp.2 ⟨⟨hp.1, hn⟩, h⟩
theorem scL_n {t : Int → Int} {n g : Int} {S : PS} (h : ¬ sIs t n 10 13 S) : scL t n g S = S := itP_n (fun z => h z.2)
