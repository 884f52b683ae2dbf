/-! THE SPEC, part 16: a whole text; a variable's places beyond its array don't count -/
def sv (σ : St) (v : Nat) (f : Int → Int) : St := fun k => if k = v then f else σ k
theorem sv_at {σ : St} {v : Nat} {f : Int → Int} : sv σ v f v = f := if_pos rfl
theorem sv_ne {σ : St} {v k : Nat} {f : Int → Int} (h : k ≠ v) : sv σ v f k = σ k := if_neg h
theorem arrV_cg {c : ClassId} {N : Nat} {f g : Nat → Value} (h : ∀ j, j < N → f j = g j) : arrV c N f = arrV c N g := by
  have e : (fun j : Fin N => f j.val) = (fun j : Fin N => g j.val) := funext (fun j => h j.1 j.2)
  unfold arrV
  rw [e]
theorem WP_sv {cl : List vw_C} {G : GG} {sh : List CD} {ad : Nat → Nat} {σ : St} {H : Heap} (h : WP cl G sh ad σ H) (k : Nat) {t kd n v : Nat} {f : Int → Int} (hd : sh[k]? = some (.inr (t, kd, n, v))) (hkd : kd = 0) (ho : ownS sh v k) (hf : ∀ j : Int, 0 ≤ j → j < n → f j = σ v j) : WP cl G sh ad (sv σ v f) H := by
  subst hkd
  refine WP.of (fun j d hj => ?_)
  by_cases hjk : j = k
  · subst hjk
    rw [hd] at hj
    cases hj
    have h1 := h.at hd
    show H[ad j]? = some (arrV (G.2 t) n (fun i => .int (iI (sv σ v f v i))))
    have h2 : H[ad j]? = some (arrV (G.2 t) n (fun i => .int (iI (σ v i)))) := h1
    rw [h2]
    exact congrArg some (arrV_cg (fun i hi => by rw [sv_at, hf i (by omega) (by omega)]))
  · have h1 := h.at hj
    rw [cellE_ne (σ := σ) (σ' := sv σ v f) (fun w hw => sv_ne (fun z => hjk (ho j d hj (by rw [← z]; exact hw))))]
    exact h1
theorem Wd_sv {cl : List vw_C} {tys : List (ClassId × FieldType)} {G : GG} {sh : List CD} {ad : Nat → Nat} {A : Nat → Prop} {s : State} {H0 H : Heap} {σ : St} {locs : List Loc} (h : Wd cl tys G sh ad A s H0 σ H locs) (k : Nat) {t kd n v : Nat} {f : Int → Int} (hd : sh[k]? = some (.inr (t, kd, n, v))) (hkd : kd = 0) (ho : ownB sh v k = true) (hf : ∀ j : Int, 0 ≤ j → j < n → f j = σ v j) : Wd cl tys G sh ad A s H0 (sv σ v f) H locs := ⟨h.1, h.2.1, h.2.2.1, WP_sv h.2.2.2.1 k hd hkd (ownS_of ho) hf, h.2.2.2.2⟩
theorem same_sv {ks : List Nat} {σ σ' : St} {k : Nat} {f : Int → Int} (h : same ks σ σ') (hk : k ∈ ks) : same ks σ (sv σ' k f) := fun j hj => (sv_ne (fun z => hj (by rw [z]; exact hk))).trans (h j hj)
/-- what is read ere a line is read -/
def clR (sort j : Int) : Int := if sort = 0 then (if j = 0 then 1 else if 3 ≤ j ∧ j ≤ 6 then j - 3 else if j = 9 ∨ j = 10 then 1 else if j = 14 then 10 else 0) else if sort = 2 then (if j = 0 ∨ j = 1 then -1 else 0) else 0
