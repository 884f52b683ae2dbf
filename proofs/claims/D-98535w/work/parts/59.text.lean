/-! THE SPEC, part 17: reading goes on, a whole text -/
/-- a step of reading: the place doesn't go back; what is wrong stays -/
def Gr (S S' : PS) : Prop := (0 ≤ S.1 ∧ S.1 ≤ 601) → (S.2.1.1 = 0 ∨ S.2.1.1 = 1) → (S.1 ≤ S'.1 ∧ S'.1 ≤ 601) ∧ (S'.2.1.1 = 0 ∨ S'.2.1.1 = 1) ∧ (S.2.1.1 = 1 → S'.2.1 = S.2.1) ∧ (S.2.1.2.1 ≠ 0 → S'.2.1.2.1 ≠ 0)
theorem Gr_rf {S : PS} : Gr S S := fun h1 h2 => ⟨⟨by omega, h1.2⟩, h2, fun _ => rfl, fun z => z⟩
theorem Gr_tr {S S' S'' : PS} (h : Gr S S') (h' : Gr S' S'') : Gr S S'' := by
  intro h1 h2
  obtain ⟨a1, a2, a3, a4⟩ := h h1 h2
  obtain ⟨b1, b2, b3, b4⟩ := h' ⟨by omega, a1.2⟩ a2
  exact ⟨⟨by omega, b1.2⟩, b2, fun z => by have e := a3 z; rw [b3 (by rw [e]; exact z), e], fun z => b4 (a4 z)⟩
theorem Gr_st {S S' : PS} {i v : Int} (h : Gr S S') : Gr S (sSt i v S') := h
theorem Gr_if {S A B : PS} {p : Prop} [Decidable p] (ha : Gr S A) (hb : Gr S B) : Gr S (if p then A else B) := by
  split
  · exact ha
  · exact hb
theorem eEnd_w {e : ER} {q : Int} (h : e.1 = 1) : eEnd e q = e := by unfold eEnd; rw [if_pos h]
theorem eNote_w {e : ER} {k q : Int} (h : e.1 = 1) : eNote e k q = e := by unfold eNote; rw [if_pos (Or.inl h)]
theorem eEnd_f {e : ER} {q : Int} (h : e.2.1 ≠ 0) : (eEnd e q).2.1 ≠ 0 := by
  unfold eEnd
  split
  · exact h
  · exact fun z => absurd (show (1 : Int) = 0 from z) (by decide)
theorem eNote_f {e : ER} {k q : Int} (hk : k ≠ 0) (h : e.2.1 ≠ 0) : (eNote e k q).2.1 ≠ 0 := by
  unfold eNote
  split
  · exact h
  · exact hk
theorem eEnd_1' {e : ER} {q : Int} : (eEnd e q).1 = 1 := by
  unfold eEnd
  split
  · assumption
  · rfl
theorem Gr_en {t : Int → Int} {n : Int} {S : PS} : Gr S (sEn t n S) := fun h1 h2 => ⟨⟨Int.le_refl _, h1.2⟩, Or.inr eEnd_1', fun z => eEnd_w z, fun z => eEnd_f z⟩
theorem Gr_no {k q : Int} {S : PS} (hk : k ≠ 0) : Gr S (sNo k q S) := fun h1 h2 => ⟨⟨Int.le_refl _, h1.2⟩, by rw [show (sNo k q S).2.1.1 = S.2.1.1 from eNote_1]; exact h2, fun z => eNote_w z, fun z => eNote_f hk z⟩
theorem Gr_tk {t : Int → Int} {n lo hi : Int} {S : PS} (hn : n ≤ 600) : Gr S (sTk t n lo hi S) := by
  intro h1 h2
  have h3 := tkN_rng (t := t) hn h1
  unfold sTk tkP tkE
  by_cases hc : isC t n S.1 S.2.1 lo hi
  · rw [if_pos (dP_t.mpr hc), if_pos (dP_t.mpr hc)]
    exact ⟨h3, h2, fun _ => rfl, fun z => z⟩
  · rw [if_neg (fun z => hc (dP_t.mp z)), if_neg (fun z => hc (dP_t.mp z))]
    exact ⟨⟨Int.le_refl _, h1.2⟩, Or.inr eEnd_1', fun z => eEnd_w z, fun z => eEnd_f z⟩
theorem Gr_nm {t : Int → Int} {n lo hi : Int} {S : PS} (hn : n ≤ 600) : Gr S (sNm t n lo hi S) := by
  intro h1 h2
  have h3 := tkN_rng (t := t) hn h1
  unfold sNm nmP nmE
  by_cases hc : nmF t n S.1 S.2.1
  · rw [if_pos (dP_t.mpr hc), if_pos (dP_t.mpr hc)]
    exact ⟨⟨Int.le_refl _, h1.2⟩, Or.inr eEnd_1', fun z => eEnd_w z, fun z => eEnd_f z⟩
  · rw [if_neg (fun z => hc (dP_t.mp z)), if_neg (fun z => hc (dP_t.mp z))]
    have hw : S.2.1.1 ≠ 1 := fun z => hc (Or.inl z)
    refine ⟨h3, ?_, fun z => absurd z hw, fun z => ?_⟩
    · show (if _ then S.2.1 else eNote S.2.1 2 (tkW t n S.1)).1 = 0 ∨ (if _ then S.2.1 else eNote S.2.1 2 (tkW t n S.1)).1 = 1
      split
      · exact h2
      · rw [eNote_1]; exact h2
    · show (if _ then S.2.1 else eNote S.2.1 2 (tkW t n S.1)).2.1 ≠ 0
      split
      · exact z
      · exact eNote_f (by decide) z
theorem Gr_el {t : Int → Int} {n : Int} {S : PS} (hn : n ≤ 600) : Gr S (sEl t n S) := by
  intro h1 h2
  have h3 := tkN_rng (t := t) hn h1
  unfold sEl elP elE
  by_cases hc : isS t n S.1 S.2.1
  · rw [if_pos (dP_t.mpr hc), if_pos (dP_t.mpr hc)]
    exact ⟨h3, h2, fun _ => rfl, fun z => z⟩
  · rw [if_neg (fun z => hc (dP_t.mp z)), if_neg (fun z => hc (dP_t.mp z))]
    exact ⟨⟨Int.le_refl _, h1.2⟩, Or.inr eEnd_1', fun z => eEnd_w z, fun z => eEnd_f z⟩
theorem Gr_wn {t : Int → Int} {n lo hi : Int} {S : PS} : Gr S (sWn t n lo hi S) := by
  unfold sWn
  exact Gr_if Gr_en Gr_rf
theorem Gr_it {α : Type} {c : α → Prop} {g : α → α} (pr : α → PS) (hg : ∀ s, Gr (pr s) (pr (g s))) : ∀ (f : Nat) (s : α), Gr (pr s) (pr (itU c g f s)) := by
  intro f
  induction f with
  | zero => intro s; exact Gr_rf
  | succ f ih =>
    intro s
    show Gr (pr s) (pr (if dP (c s) = true then itU c g f (g s) else s))
    by_cases hc : dP (c s) = true
    · rw [if_pos hc]; exact Gr_tr (hg s) (ih _)
    · rw [if_neg hc]; exact Gr_rf
theorem Gr_scB {t : Int → Int} {n g : Int} (hn : n ≤ 600) (S : PS) : Gr S (scB t n g S) := by
  unfold scB
  exact Gr_if (Gr_st (Gr_st (Gr_tk hn))) (Gr_tr (Gr_no (by decide)) (Gr_tk hn))
theorem Gr_gB {t : Int → Int} {n lo hi room base : Int} {mo : Prop} (hn : n ≤ 600) (x : PS × Int) : Gr x.1 (gB t n lo hi room base mo x).1 := by
  unfold gB
  exact Gr_if (Gr_if (Gr_st (Gr_tk hn)) (Gr_tk hn)) (Gr_tr (Gr_no (by decide)) (Gr_tk hn))
theorem Gr_gL {t : Int → Int} {n lo hi room base : Int} {mo : Prop} (hn : n ≤ 600) (x : PS × Int) : Gr x.1 (gL t n lo hi room base mo x).1 := Gr_it (fun x : PS × Int => x.1) (fun s => Gr_gB hn s) _ x
/-- behind a word that was wanted -/
theorem st_of {t : Int → Int} {n lo hi : Int} {S S' : PS} (hn : n ≤ 600) (h : Gr (sTk t n lo hi S) S') (h1 : 0 ≤ S.1 ∧ S.1 ≤ 601) (h2 : S.2.1.1 = 0 ∨ S.2.1.1 = 1) (h3 : S'.2.1.1 ≠ 1) : S.1 < S'.1 := by
  obtain ⟨a1, a2, a3, -⟩ := Gr_tk (t := t) (lo := lo) (hi := hi) hn h1 h2
  obtain ⟨b1, b2, b3, -⟩ := h ⟨by omega, a1.2⟩ a2
  by_cases hc : sIs t n lo hi S
  · have := sIs_go hc hn h1
    omega
  · exfalso
    have e : (sTk t n lo hi S).2.1 = eEnd S.2.1 (tkW t n S.1) := by
      show tkE t n S.1 S.2.1 lo hi = _
      unfold tkE
      exact if_neg (fun z => hc (dP_t.mp z))
    have e1 : (sTk t n lo hi S).2.1.1 = 1 := by rw [e]; exact eEnd_1'
    exact h3 (by rw [b3 e1]; exact e1)
theorem Gr_sc {t : Int → Int} {n : Int} {S : PS} (hn : n ≤ 600) : Gr (sTk t n 19 19 S) (scS t n S) := by
  unfold scS scA scL
  exact Gr_tr (Gr_tr (Gr_tr (Gr_nm hn) Gr_wn) (Gr_it (fun S : PS => S) (fun s => Gr_scB hn s) _ _)) (Gr_el hn)
theorem Gr_he {t : Int → Int} {n : Int} {S : PS} (hn : n ≤ 600) : Gr (sTk t n 20 20 S) (heS t n S) := by
  unfold heS
  exact Gr_tr (Gr_st (Gr_tr (Gr_nm hn) (Gr_gL hn (heA t n S, 0)))) (Gr_el hn)
theorem Gr_or {t : Int → Int} {n : Int} {S : PS} (hn : n ≤ 600) : Gr (sTk t n 9 9 S) (orS t n S) := by
  have h1 : Gr (sTk t n 9 9 S) (orC t n S) := by
    unfold orC
    exact Gr_if (Gr_tr (Gr_nm hn) (Gr_no (by decide))) (Gr_nm hn)
  have h2 : Gr (sTk t n 9 9 S) (orL t n S).1 := Gr_tr (Gr_tr h1 (Gr_tr (Gr_tk hn) Gr_wn)) (Gr_gL hn (orD t n S, 0))
  unfold orS
  exact Gr_if (Gr_st (Gr_st (Gr_st h2))) h2
theorem Gr_wa {t : Int → Int} {n d : Int} {A : PS} (hn : n ≤ 600) : Gr A (waB t n d A) := by
  unfold waB
  have h2 := Gr_tr (Gr_tk (t := t) (lo := 10) (hi := 13) (S := A) hn) (Gr_tk (t := t) (lo := 10) (hi := 13) hn)
  exact Gr_if (Gr_st (Gr_nm hn)) (Gr_if (Gr_st (Gr_nm hn)) (Gr_if (Gr_st (Gr_nm hn)) (Gr_if (Gr_if (Gr_st h2) h2) (Gr_if (Gr_st (Gr_tr (Gr_nm hn) (Gr_nm hn))) (Gr_if (Gr_st (Gr_tr (Gr_nm hn) (Gr_nm hn))) (Gr_if (Gr_st (Gr_tr (Gr_nm hn) (Gr_nm hn))) (Gr_if (Gr_st (Gr_tr (Gr_nm hn) (Gr_nm hn))) Gr_rf)))))))
theorem Gr_vi {t : Int → Int} {n : Int} {S : PS} (hn : n ≤ 600) : Gr (sTk t n 21 24 S) (viS t n S) := by
  have hA : Gr (sTk t n 21 24 S) (viA t n S) := by unfold viA; exact Gr_if (Gr_no (by decide)) Gr_rf
  have hB : Gr (viA t n S) (viB t n S) := by unfold viB; exact Gr_if (Gr_no (by decide)) Gr_rf
  have hC : Gr (viB t n S) (viC t n S) := Gr_nm hn
  have hE : Gr (viC t n S) (viE t n S) := by unfold viE; exact Gr_if (Gr_nm hn) (Gr_if (Gr_tk hn) Gr_rf)
  have hF : Gr (viE t n S) (viF t n S) := by unfold viF; exact Gr_if (Gr_no (by decide)) Gr_rf
  have hG : Gr (viE t n S) (viG t n S) := by unfold viG; exact Gr_if (Gr_tr hF (Gr_tk hn)) Gr_rf
  have hH : Gr (viG t n S) (viH t n S) := by unfold viH; exact Gr_if (Gr_st (Gr_st (Gr_st (Gr_st (Gr_st Gr_rf))))) Gr_rf
  unfold viS
  exact Gr_tr (Gr_tr hA (Gr_tr hB (Gr_tr hC (Gr_tr hE (Gr_tr hG hH))))) (Gr_el hn)
/-- a line of a sort -/
noncomputable def lnS (t : Int → Int) (n sort : Int) (S : PS) : PS := if sort = 0 then waS t n S else if sort = 1 then scS t n S else if sort = 2 then heS t n S else viS t n S
theorem lnS_go {t : Int → Int} {n sort : Int} {S : PS} (hn : n ≤ 600) (h1 : 0 ≤ S.1 ∧ S.1 ≤ 601) (h2 : S.2.1.1 = 0) : (S.1 ≤ (lnS t n sort S).1 ∧ (lnS t n sort S).1 ≤ 601) ∧ ((lnS t n sort S).2.1.1 = 0 ∨ (lnS t n sort S).2.1.1 = 1) ∧ ((lnS t n sort S).2.1.1 ≠ 1 → S.1 < (lnS t n sort S).1) ∧ (S.2.1.2.1 ≠ 0 → (lnS t n sort S).2.1.2.1 ≠ 0) := by
  have key : ∀ (lo hi : Int) (S' : PS), Gr (sTk t n lo hi S) S' → (S.1 ≤ S'.1 ∧ S'.1 ≤ 601) ∧ (S'.2.1.1 = 0 ∨ S'.2.1.1 = 1) ∧ (S'.2.1.1 ≠ 1 → S.1 < S'.1) ∧ (S.2.1.2.1 ≠ 0 → S'.2.1.2.1 ≠ 0) := by
    intro lo hi S' h
    have a := Gr_tr (Gr_tk hn) h h1 (Or.inl h2)
    exact ⟨a.1, a.2.1, fun z => st_of hn h h1 (Or.inl h2) z, a.2.2.2⟩
  unfold lnS
  split
  · unfold waS
    split
    · exact key 9 9 _ (Gr_tr (Gr_or hn) (Gr_el hn))
    · exact key 1 8 _ (Gr_tr (Gr_wa hn) (Gr_el hn))
  · split
    · exact key 19 19 _ (Gr_sc hn)
    · split
      · exact key 20 20 _ (Gr_he hn)
      · exact key 21 24 _ (Gr_vi hn)
noncomputable def txQ (S : PS) : Int := if S.2.1.1 = 1 then 601 else S.1
def txC (t : Int → Int) (n : Int) (S : PS) : Prop := ((0 ≤ S.1 ∧ S.1 ≤ 601) ∧ n ≤ 600) ∧ S.2.1.1 = 0 ∧ tkK t n S.1 ≠ 0
noncomputable def txL (t : Int → Int) (n sort : Int) (S : PS) : PS := itP txQ (txC t n) (lnS t n sort) S
theorem txL_go {t : Int → Int} {n sort : Int} (S : PS) (hc : txC t n S) (_ : txQ S ≤ 601) : txQ S < txQ (lnS t n sort S) ∧ txQ (lnS t n sort S) ≤ 601 := by
  have h := lnS_go (t := t) (sort := sort) hc.1.2 hc.1.1 hc.2.1
  have h1 := tkN_lt (t := t) hc.1.2 hc.1.1 hc.2.2
  have h2 := wsE_rng (t := t) (n := n) hc.1.1
  have h0 := hc.2.1
  have h9 := hc.1
  have hk : S.1 ≤ tkW t n S.1 := h2.1
  unfold txQ
  rw [if_neg (by omega)]
  by_cases e : (lnS t n sort S).2.1.1 = 1
  · rw [if_pos e]; omega
  · rw [if_neg e]; have := h.2.2.1 e; omega
theorem txQ_le {S : PS} (h : S.1 ≤ 601) : txQ S ≤ 601 := by unfold txQ; split <;> omega
theorem txL_y {t : Int → Int} {n sort : Int} {S : PS} (hc : txC t n S) : txL t n sort S = txL t n sort (lnS t n sort S) := itP_y (fun s a b => txL_go s a b) (txQ_le hc.1.1.2) hc
theorem txL_n {t : Int → Int} {n sort : Int} {S : PS} (hc : ¬ txC t n S) : txL t n sort S = S := itP_n hc
