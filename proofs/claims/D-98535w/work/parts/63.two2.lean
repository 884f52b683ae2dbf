/-! THE SPEC, part 20: the reference's overhangs -/
def twB (w : Int → Int) (x k : Int) : List Int := (cdL w x (k / 5)).drop (k % 5).toNat
def twK (w : Int → Int) (x k : Int) : Prop := (0 ≤ k ∧ k < 30) ∧ k / 5 < w (15 + x) ∧ k % 5 ≤ oLen w x (k / 5)
def TwI (w : Int → Int) (x : Int) (h : Int → Int) : Prop := (∀ k : Int, 0 ≤ k → k < 30 → 0 ≤ h k ∧ h k ≤ 9999) ∧ (∀ k : Int, 0 ≤ k → k < 30 → h k < 9999 → twK w x k ∧ Der (cdL w x) (w (15 + x)) (twB w x k) (h k)) ∧ (∀ k : Int, 0 ≤ k → k < 30 → h k < 9999 → h k ≤ 4 + 3 * cnU h 9999 30)
theorem TwI_set {w : Int → Int} {x : Int} {h : Int → Int} {k v : Int} (hI : TwI w x h) (hk : twK w x k) (hd : Der (cdL w x) (w (15 + x)) (twB w x k) v) (hv : 0 ≤ v ∧ v < h k) (hb : v ≤ 4 + 3 * cnU h 9999 30 + 3) : TwI w x (fu h k v) := by
  have h9 := hI.1 k hk.1.1 hk.1.2
  have hc := cnU_up (h := h) (I := 9999) (k := k) (v := v) (by omega) 30 hk.1.1
  refine ⟨fun j j0 j1 => ?_, fun j j0 j1 j2 => ?_, fun j j0 j1 j2 => ?_⟩
  · by_cases e : j = k
    · rw [e, fu_at]; omega
    · rw [fu_ne e]; exact hI.1 j j0 j1
  · by_cases e : j = k
    · rw [e, fu_at]; exact ⟨hk, hd⟩
    · rw [fu_ne e] at j2 ⊢; exact hI.2.1 j j0 j1 j2
  · rw [hc]
    by_cases e : j = k
    · rw [e, fu_at]
      by_cases c : h k < 9999
      · have := hI.2.2 k hk.1.1 hk.1.2 c
        rw [if_neg (by omega)]; omega
      · rw [if_pos ⟨hk.1.2, c⟩]; omega
    · rw [fu_ne e] at j2 ⊢
      have := hI.2.2 j j0 j1 j2
      split <;> omega
theorem twB_len {w : Int → Int} {x a f : Int} (hf : 0 ≤ f ∧ f ≤ 4) (h : f ≤ oLen w x a) : ((twB w x (5 * a + f)).length : Int) = oLen w x a - f := by
  unfold twB
  rw [List.length_drop, cdL_len, show (5 * a + f) / 5 = a by omega, show (5 * a + f) % 5 = f by omega]
  omega
theorem twB_at {w : Int → Int} {x a f : Int} (hf : 0 ≤ f ∧ f ≤ 4) : twB w x (5 * a + f) = (cdL w x a).drop f.toNat := by
  unfold twB
  rw [show (5 * a + f) / 5 = a by omega, show (5 * a + f) % 5 = f by omega]
theorem ne_of_len {l : List Int} (h : (0 : Int) < l.length) : l ≠ [] := by
  intro e
  rw [e] at h
  exact absurd h (by decide)
/-- the order goes on behind what hangs over -/
theorem Tw_1 {w : Int → Int} {x : Int} {h : Int → Int} {a f b : Int} (hA : WfArmy w x) (hI : TwI w x h) (ha : 0 ≤ a ∧ a < w (15 + x)) (hf : 0 ≤ f ∧ f ≤ 4) (hb : 0 ≤ b ∧ b < w (15 + x)) (hv : h (5 * a + f) < 9999) (hn : f ≠ oLen w x a) (hg : giP w x a f b 0) (hl : h (5 * a + f) + oLen w x b - (oLen w x a - f) < h (5 * b + (oLen w x a - f))) : TwI w x (fu h (5 * b + (oLen w x a - f)) (h (5 * a + f) + oLen w x b - (oLen w x a - f))) := by
  have hN := hA.2.2.2.2.1
  have la := (hA.2.2.2.2.2 a ha.1 ha.2).2.1
  have lb := (hA.2.2.2.2.2 b hb.1 hb.2).2.1
  have k1 := hI.2.1 (5 * a + f) (by omega) (by omega) hv
  have k0 := hI.1 (5 * a + f) (by omega) (by omega)
  have k2 := hI.2.2 (5 * a + f) (by omega) (by omega) hv
  have hfl : f ≤ oLen w x a := by
    have := k1.1.2.2
    rw [show (5 * a + f) / 5 = a by omega, show (5 * a + f) % 5 = f by omega] at this
    exact this
  have g1 := hg.1
  have tl := twB_len hf hfl
  have cl : ((cdL w x b).length : Int) = oLen w x b := by rw [cdL_len]; omega
  have hp : twB w x (5 * a + f) <+: cdL w x b := by
    rw [twB_at hf]
    exact (giP_is (g := 0) ⟨hf.1, hfl⟩ ⟨by omega, by omega⟩).mp hg
  have hd := Der_1 k1.2 hb.1 hb.2 (ne_of_len (by omega)) hp
  rw [tl, cl] at hd
  refine TwI_set hI ⟨⟨by omega, by omega⟩, ?_, ?_⟩ ?_ ⟨by omega, hl⟩ (by omega)
  · rw [show (5 * b + (oLen w x a - f)) / 5 = b by omega]; exact hb.2
  · rw [show (5 * b + (oLen w x a - f)) / 5 = b by omega, show (5 * b + (oLen w x a - f)) % 5 = oLen w x a - f by omega]; omega
  · rw [twB_at (by omega), show (oLen w x a - f).toNat = (twB w x (5 * a + f)).length by omega]
    exact hd
/-- it goes on behind the order -/
theorem Tw_2 {w : Int → Int} {x : Int} {h : Int → Int} {a f b : Int} (hA : WfArmy w x) (hI : TwI w x h) (ha : 0 ≤ a ∧ a < w (15 + x)) (hf : 0 ≤ f ∧ f ≤ 4) (hb : 0 ≤ b ∧ b < w (15 + x)) (hv : h (5 * a + f) < 9999) (hn : f ≠ oLen w x a) (hg : giP w x b 0 a f) (hl : h (5 * a + f) < h (5 * a + f + oLen w x b)) : TwI w x (fu h (5 * a + f + oLen w x b) (h (5 * a + f))) := by
  have hN := hA.2.2.2.2.1
  have la := (hA.2.2.2.2.2 a ha.1 ha.2).2.1
  have lb := (hA.2.2.2.2.2 b hb.1 hb.2).2.1
  have k1 := hI.2.1 (5 * a + f) (by omega) (by omega) hv
  have k0 := hI.1 (5 * a + f) (by omega) (by omega)
  have k2 := hI.2.2 (5 * a + f) (by omega) (by omega) hv
  have hfl : f ≤ oLen w x a := by
    have := k1.1.2.2
    rw [show (5 * a + f) / 5 = a by omega, show (5 * a + f) % 5 = f by omega] at this
    exact this
  have g1 := hg.1
  have tl := twB_len hf hfl
  have cl : ((cdL w x b).length : Int) = oLen w x b := by rw [cdL_len]; omega
  have hp : cdL w x b <+: twB w x (5 * a + f) := by
    rw [twB_at hf]
    exact (giP_is (f := 0) ⟨by omega, by omega⟩ ⟨hf.1, hfl⟩).mp hg
  have hd := Der_2 k1.2 hb.1 hb.2 (ne_of_len (by omega)) hp
  refine TwI_set hI ⟨⟨by omega, by omega⟩, ?_, ?_⟩ ?_ ⟨by omega, hl⟩ (by omega)
  · rw [show (5 * a + f + oLen w x b) / 5 = a by omega]; exact ha.2
  · rw [show (5 * a + f + oLen w x b) / 5 = a by omega, show (5 * a + f + oLen w x b) % 5 = f + oLen w x b by omega]; omega
  · rw [show 5 * a + f + oLen w x b = 5 * a + (f + oLen w x b) by omega, twB_at (by omega)]
    rw [twB_at hf, List.drop_drop, show f.toNat + (cdL w x b).length = (f + oLen w x b).toNat by omega] at hd
    exact hd
/-- two orders one of which begins with the other -/
theorem Tw_0 {w : Int → Int} {x : Int} {h : Int → Int} {a b : Int} (hA : WfArmy w x) (hI : TwI w x h) (ha : 0 ≤ a ∧ a < w (15 + x)) (hb : 0 ≤ b ∧ b < w (15 + x)) (hn : a ≠ b) (hg : giP w x a 0 b 0) (hl : oLen w x b < h (5 * b + oLen w x a)) : TwI w x (fu h (5 * b + oLen w x a) (oLen w x b)) := by
  have hN := hA.2.2.2.2.1
  have la := (hA.2.2.2.2.2 a ha.1 ha.2).2.1
  have lb := (hA.2.2.2.2.2 b hb.1 hb.2).2.1
  have g1 := hg.1
  have cl : ((cdL w x b).length : Int) = oLen w x b := by rw [cdL_len]; omega
  have al : ((cdL w x a).length : Int) = oLen w x a := by rw [cdL_len]; omega
  have hp : cdL w x a <+: cdL w x b := (giP_is (f := 0) (g := 0) ⟨by omega, by omega⟩ ⟨by omega, by omega⟩).mp hg
  have hd := Der_0 ha.1 ha.2 hb.1 hb.2 hn hp
  rw [cl] at hd
  have hc := cnU_rng (h := h) (I := 9999) 30
  refine TwI_set hI ⟨⟨by omega, by omega⟩, ?_, ?_⟩ ?_ ⟨by omega, hl⟩ (by omega)
  · rw [show (5 * b + oLen w x a) / 5 = b by omega]; exact hb.2
  · rw [show (5 * b + oLen w x a) / 5 = b by omega, show (5 * b + oLen w x a) % 5 = oLen w x a by omega]; omega
  · rw [twB_at (by omega), show (oLen w x a).toNat = (cdL w x a).length by omega]
    exact hd
/-- nothing lessens by this order -/
def stP (w : Int → Int) (x : Int) (h : Int → Int) (a f b : Int) : Prop := h (5 * a + f) < 9999 → f ≠ oLen w x a → (giP w x a f b 0 → h (5 * b + (oLen w x a - f)) ≤ h (5 * a + f) + oLen w x b - (oLen w x a - f)) ∧ (¬ giP w x a f b 0 → giP w x b 0 a f → h (5 * a + f + oLen w x b) ≤ h (5 * a + f))
/-- less than before -/
def lsH (h h' : Int → Int) : Prop := (∀ j : Int, 0 ≤ j → j < 30 → h' j ≤ h j) ∧ smU h' 30 < smU h 30
theorem lsH_fu {h : Int → Int} {k v : Int} (hk : 0 ≤ k ∧ k < 30) (hv : v < h k) : lsH h (fu h k v) := by
  refine ⟨fun j _ _ => ?_, ?_⟩
  · by_cases e : j = k
    · rw [e, fu_at]; omega
    · rw [fu_ne e]; omega
  · rw [smU_up 30 hk.1, if_pos (show k < ((30 : Nat) : Int) by omega)]; omega
/-- where nothing lessens, the least is told -/
theorem Tw_end {w : Int → Int} {x : Int} {h : Int → Int} (hA : WfArmy w x) (hI : TwI w x h) (h0 : ∀ a b : Int, 0 ≤ a → a < w (15 + x) → 0 ≤ b → b < w (15 + x) → a ≠ b → giP w x a 0 b 0 → h (5 * b + oLen w x a) ≤ oLen w x b) (hs : ∀ a f b : Int, 0 ≤ a → a < w (15 + x) → 0 ≤ f → f ≤ 4 → 0 ≤ b → b < w (15 + x) → stP w x h a f b) {m : Int} (hm : m = 9999 ∨ ∃ a : Int, (0 ≤ a ∧ a < w (15 + x)) ∧ m = h (5 * a + oLen w x a)) (hl : ∀ a : Int, 0 ≤ a → a < w (15 + x) → m ≤ h (5 * a + oLen w x a)) (hm9 : m ≤ 9999) : isTw (cdL w x) (w (15 + x)) (if m = 9999 then -1 else m) := by
  have hN := hA.2.2.2.2.1
  have hL : ∀ a : Int, 0 ≤ a → a < w (15 + x) → 1 ≤ oLen w x a ∧ oLen w x a ≤ 4 := fun a a0 a1 => (hA.2.2.2.2.2 a a0 a1).2.1
  have hcn := cnU_rng (h := h) (I := 9999) 30
  have cl : ∀ b : Int, 0 ≤ b → b < w (15 + x) → ((cdL w x b).length : Int) = oLen w x b := fun b b0 b1 => by have := hL b b0 b1; rw [cdL_len]; omega
  have key : ∀ (d : List Int) (v : Int), Der (cdL w x) (w (15 + x)) d v → ∃ k, twK w x k ∧ twB w x k = d ∧ h k ≤ v ∧ h k < 9999 := by
    intro d v hd
    refine Der_cpl (twK w x) (twB w x) h ?_ ?_ ?_ hd
    · intro a b a0 a1 b0 b1 hab hp
      have la := hL a a0 a1
      have lb := hL b b0 b1
      have g : giP w x a 0 b 0 := (giP_is (f := 0) (g := 0) ⟨by omega, by omega⟩ ⟨by omega, by omega⟩).mpr hp
      have g1 := g.1
      have g2 := h0 a b a0 a1 b0 b1 hab g
      have c := cl b b0 b1
      have c' := cl a a0 a1
      refine ⟨5 * b + oLen w x a, ⟨⟨by omega, by omega⟩, ?_, ?_⟩, ?_, by omega, by omega⟩
      · rw [show (5 * b + oLen w x a) / 5 = b by omega]; exact b1
      · rw [show (5 * b + oLen w x a) / 5 = b by omega, show (5 * b + oLen w x a) % 5 = oLen w x a by omega]; omega
      · rw [twB_at (by omega), show (oLen w x a).toNat = (cdL w x a).length by omega]
    · intro k b hk hv hne b0 b1 hp
      have ek : k = 5 * (k / 5) + k % 5 := by omega
      have a0 : 0 ≤ k / 5 := by have := hk.1; omega
      have f0 : 0 ≤ k % 5 ∧ k % 5 ≤ 4 := by omega
      have la := hL (k / 5) a0 hk.2.1
      have lb := hL b b0 b1
      have hfl := hk.2.2
      have hst := hs (k / 5) (k % 5) b a0 hk.2.1 f0.1 f0.2 b0 b1
      have tl := twB_len (w := w) (x := x) (a := k / 5) f0 hfl
      unfold stP at hst
      rw [← ek] at hst tl
      have hb9 := hI.2.2 k hk.1.1 hk.1.2 hv
      have hnl : k % 5 ≠ oLen w x (k / 5) := by
        intro z
        apply hne
        exact List.eq_nil_of_length_eq_zero (by omega)
      have g : giP w x (k / 5) (k % 5) b 0 := (giP_is (g := 0) ⟨f0.1, hfl⟩ ⟨by omega, by omega⟩).mpr hp
      have g1 := g.1
      have g2 := (hst hv hnl).1 g
      have c := cl b b0 b1
      generalize oLen w x (k / 5) - k % 5 = r at *
      refine ⟨5 * b + r, ⟨⟨by omega, by omega⟩, ?_, ?_⟩, ?_, by omega, by omega⟩
      · rw [show (5 * b + r) / 5 = b by omega]; exact b1
      · rw [show (5 * b + r) / 5 = b by omega, show (5 * b + r) % 5 = r by omega]; omega
      · rw [twB_at (by omega), show r.toNat = (twB w x k).length by omega]
    · intro k b hk hv hne b0 b1 hp
      have ek : k = 5 * (k / 5) + k % 5 := by omega
      have a0 : 0 ≤ k / 5 := by have := hk.1; omega
      have f0 : 0 ≤ k % 5 ∧ k % 5 ≤ 4 := by omega
      have la := hL (k / 5) a0 hk.2.1
      have lb := hL b b0 b1
      have hfl := hk.2.2
      have hst := hs (k / 5) (k % 5) b a0 hk.2.1 f0.1 f0.2 b0 b1
      have tl := twB_len (w := w) (x := x) (a := k / 5) f0 hfl
      unfold stP at hst
      rw [← ek] at hst tl
      have hb9 := hI.2.2 k hk.1.1 hk.1.2 hv
      have hnl : k % 5 ≠ oLen w x (k / 5) := by
        intro z
        apply hne
        exact List.eq_nil_of_length_eq_zero (by omega)
      have g : giP w x b 0 (k / 5) (k % 5) := (giP_is (f := 0) ⟨by omega, by omega⟩ ⟨f0.1, hfl⟩).mpr hp
      have g1 := g.1
      have c := cl b b0 b1
      by_cases gg : giP w x (k / 5) (k % 5) b 0
      · have g2 := (hst hv hnl).1 gg
        have g3 := gg.1
        have er : oLen w x (k / 5) - k % 5 = oLen w x b := by omega
        rw [er] at g2
        refine ⟨5 * b + oLen w x b, ⟨⟨by omega, by omega⟩, ?_, ?_⟩, ?_, by omega, by omega⟩
        · rw [show (5 * b + oLen w x b) / 5 = b by omega]; exact b1
        · rw [show (5 * b + oLen w x b) / 5 = b by omega, show (5 * b + oLen w x b) % 5 = oLen w x b by omega]; omega
        · have z1 : (cdL w x b).drop (oLen w x b).toNat = [] := List.drop_eq_nil_of_le (by rw [cdL_len]; omega)
          have z2 : (twB w x k).drop (cdL w x b).length = [] := List.drop_eq_nil_of_le (by omega)
          rw [twB_at (by omega), z1, z2]
      · have g2 := (hst hv hnl).2 gg g
        have hk5 := hk.2.1
        have hk1 := hk.1
        have e5 : (k + oLen w x b) / 5 = k / 5 := by omega
        have e6 : (k + oLen w x b) % 5 = k % 5 + oLen w x b := by omega
        refine ⟨k + oLen w x b, ⟨⟨by omega, by omega⟩, ?_, ?_⟩, ?_, by omega, by omega⟩
        · rw [e5]; exact hk.2.1
        · rw [e5, e6]; omega
        · unfold twB
          rw [e5, e6, List.drop_drop, show (k % 5).toNat + (cdL w x b).length = (k % 5 + oLen w x b).toNat by omega]
  have nil : ∀ v : Int, Der (cdL w x) (w (15 + x)) [] v → m ≤ v ∧ m ≠ 9999 := by
    intro v hv
    obtain ⟨k, k1, k2, k3, k4⟩ := key [] v hv
    have ek : k = 5 * (k / 5) + k % 5 := by omega
    have a0 : 0 ≤ k / 5 := by have := k1.1; omega
    have tl := twB_len (w := w) (x := x) (a := k / 5) (f := k % 5) (by omega) k1.2.2
    rw [← ek, k2] at tl
    have e0 : oLen w x (k / 5) = k % 5 := by
      have : (([] : List Int).length : Int) = 0 := rfl
      omega
    have h3 := hl (k / 5) a0 k1.2.1
    rw [e0, ← ek] at h3
    omega
  by_cases e : m = 9999
  · rw [if_pos e]
    exact Or.inl ⟨rfl, fun v hv => (nil v hv).2 e⟩
  · rw [if_neg e]
    rcases hm with z | ⟨a, ha, z⟩
    · exact absurd z e
    · have la := hL a ha.1 ha.2
      have h3 := (hI.2.1 (5 * a + oLen w x a) (by omega) (by omega) (by omega)).2
      have z1 : (cdL w x a).drop (oLen w x a).toNat = [] := List.drop_eq_nil_of_le (by rw [cdL_len]; omega)
      rw [← z, twB_at (by omega), z1] at h3
      exact Or.inr ⟨h3, fun v hv => (nil v hv).1⟩
