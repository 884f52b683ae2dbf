/-! THE SPEC, part 8: winds by a seed, what both hear, periods -/
def nxt (x : Int) : Int := x * 1103515245 + 12345
theorem ushr16 (x : Int) : 0 ≤ ushrI x 16 ∧ ushrI x 16 < 65536 := by
  unfold ushrI
  have h := pk_ushr (iI x) (iI 16) 16 (by decide)
  generalize hy : ((iI x).toUInt32 >>> ((iI 16).toUInt32 &&& Int32.toUInt32 31)).toInt32 = y at h ⊢
  have h2 : y.toBitVec.toNat < 65536 := by
    rw [h]
    have := (iI x).toBitVec.isLt
    omega
  have h3 : y.toInt = (y.toBitVec.toNat : Int) := by
    show y.toBitVec.toInt = _
    rw [BitVec.toInt_eq_toNat_of_lt (by omega)]
  omega
def wxU (x : Int) : Nat → Int
  | 0 => x
  | n + 1 => nxt (wxU x n)
def wsU (x : Int) : Nat → Int
  | 0 => 0
  | n + 1 => orI (wsU x n) (if ushrI (wxU x (n + 1)) 16 % 8 = 0 then shlI 1 n else 0)
def wxI (x n : Int) : Int := wxU x n.toNat
def wsI (x n : Int) : Int := wsU x n.toNat
theorem wxI_s {x n : Int} (h : 0 ≤ n) : wxI x (n + 1) = nxt (wxI x n) := by
  unfold wxI
  rw [show (n + 1).toNat = n.toNat + 1 by omega]
  rfl
theorem wsI_s {x n : Int} (h : 0 ≤ n) : wsI x (n + 1) = orI (wsI x n) (if ushrI (nxt (wxI x n)) 16 % 8 = 0 then shlI 1 n else 0) := by
  unfold wsI wxI
  rw [show (n + 1).toNat = n.toNat + 1 by omega]
  show orI (wsU x n.toNat) (if ushrI (nxt (wxU x n.toNat)) 16 % 8 = 0 then shlI 1 ((n.toNat : Nat) : Int) else 0) = _
  rw [show ((n.toNat : Nat) : Int) = n by omega]
/-- the seed at an evening -/
def xsU (x len : Int) : Nat → Int
  | 0 => x
  | n + 1 => wxI (xsU x len n) len
def xsI (x len n : Int) : Int := xsU x len n.toNat
theorem xsI_s {x len n : Int} (h : 0 ≤ n) : xsI x len (n + 1) = wxI (xsI x len n) len := by
  unfold xsI
  rw [show (n + 1).toNat = n.toNat + 1 by omega]
  rfl
/-- the wind of an evening -/
def wnd (x len e : Int) : Int := wsI (xsI x len e) len
def alk (w : Int → Int) (L : List (Int × Int)) (s : Int) : Prop := ((mvs w L s 0).length : Int) = (mvs w L s 1).length ∧ allU (fun j => oMove w 0 (rf (mvs w L s 0) j) = oMove w 1 (rf (mvs w L s 1) j)) (mvs w L s 0).length
noncomputable def ofN (w : Int → Int) (L : List (Int × Int)) (x a mv : Int) : Nat → Int
  | 0 => 0
  | n + 1 => ofN w L x a mv n + cnI (fun j => oMove w a (rf (mvs w L (wnd x L.length n) a) j) = mv) (mvs w L (wnd x L.length n) a).length
noncomputable def ofI (w : Int → Int) (L : List (Int × Int)) (x a mv n : Int) : Int := ofN w L x a mv n.toNat
theorem ofI_s {w : Int → Int} {L : List (Int × Int)} {x a mv n : Int} (h : 0 ≤ n) : ofI w L x a mv (n + 1) = ofI w L x a mv n + cnI (fun j => oMove w a (rf (mvs w L (wnd x L.length n) a) j) = mv) (mvs w L (wnd x L.length n) a).length := by
  unfold ofI
  rw [show (n + 1).toNat = n.toNat + 1 by omega]
  show ofN w L x a mv n.toNat + cnI (fun j => oMove w a (rf (mvs w L (wnd x L.length ((n.toNat : Nat) : Int)) a) j) = mv) (mvs w L (wnd x L.length ((n.toNat : Nat) : Int)) a).length = _
  rw [show ((n.toNat : Nat) : Int) = n by omega]
theorem ofI_rng {w : Int → Int} {L : List (Int × Int)} {x a mv n : Int} (hw : WfArmy w a) (hL : L.length ≤ 24) (hn : 0 ≤ n) : 0 ≤ ofI w L x a mv n ∧ ofI w L x a mv n ≤ 24 * n := by
  have key : ∀ k : Nat, 0 ≤ ofN w L x a mv k ∧ ofN w L x a mv k ≤ 24 * k := by
    intro k
    induction k with
    | zero => simp [ofN]
    | succ k ih =>
      have h1 := mvs_len (s := wnd x L.length k) hw hL
      have h2 := cnI_rng (fun j => oMove w a (rf (mvs w L (wnd x L.length k) a) j) = mv) (n := (mvs w L (wnd x L.length k) a).length) (by omega)
      unfold ofN
      omega
  have := key n.toNat
  unfold ofI
  omega
noncomputable def sDrawn2 (w : Int → Int) (L : List (Int × Int)) (x n what : Int) : Int := if what = 0 then cnI (fun e => alk w L (wnd x L.length e)) n else if what = 1 then cnI (fun e => meet w L (wnd x L.length e) ≠ -1) n else ofI w L x (what / 10 - 1) (what % 10) n
noncomputable def sDrawn (a : Int → Int) (k s x n what : Int) : Int := if dP (inWS a k s ∧ (0 ≤ n ∧ n ≤ 40) ∧ ((0 ≤ what ∧ what ≤ 1) ∨ (10 ≤ what ∧ what ≤ 14) ∨ (20 ≤ what ∧ what ≤ 24))) = true then sDrawn2 (wAt a k) (rowG (wAt a k) (gAt a s)) x n what else -1
theorem fst_rng {P : Nat → Prop} : ∀ (n k : Nat), -1 ≤ fst P k n ∧ fst P k n ≤ k + n := by
  intro n
  induction n with
  | zero => intro k; unfold fst; omega
  | succ n ih =>
    intro k
    unfold fst
    split
    · omega
    · have := ih (k + 1); omega
theorem meet_rng {w : Int → Int} {L : List (Int × Int)} {s : Int} : -1 ≤ meet w L s ∧ meet w L s ≤ 25 := by
  have := fst_rng (P := mtA w L s) 25 0
  unfold meet
  omega
/-! what both hear alike -/
def cmP (w : Int → Int) (L : List (Int × Int)) (i j n : Int) : Prop := i + n < hrs w L.length 0 ∧ j + n < hrs w L.length 1 ∧ hrd w L 0 0 (i + n) = hrd w L 0 1 (j + n)
noncomputable def lcU (P : Int → Prop) : Nat → Int → Int
  | 0, n => n
  | f + 1, n => if dP (P n) = true then lcU P f (n + 1) else n
theorem lcU_y {P : Int → Prop} {f : Nat} {n : Int} (h : P n) : lcU P (f + 1) n = lcU P f (n + 1) := by rw [lcU, if_pos (dP_t.mpr h)]
theorem lcU_n {P : Int → Prop} {f : Nat} {n : Int} (h : ¬ P n) : lcU P (f + 1) n = n := by rw [lcU, if_neg (fun z => h (dP_t.mp z))]
theorem lcU_rng {P : Int → Prop} : ∀ (f : Nat) (n : Int), n ≤ lcU P f n ∧ lcU P f n ≤ n + f := by
  intro f
  induction f with
  | zero => intro n; unfold lcU; omega
  | succ f ih =>
    intro n
    unfold lcU
    split
    · have := ih (n + 1); omega
    · omega
noncomputable def lcf (w : Int → Int) (L : List (Int × Int)) (i j : Int) : Int := lcU (cmP w L i j) 25 0
theorem lcf_rng {w : Int → Int} {L : List (Int × Int)} {i j : Int} : 0 ≤ lcf w L i j ∧ lcf w L i j ≤ 25 := by
  have := lcU_rng (P := cmP w L i j) 25 0
  unfold lcf
  omega
def stp (i by_ : Int) (q : Int × Int) : Int × Int := if q.1 < by_ then (by_, i) else q
noncomputable def cmR (w : Int → Int) (L : List (Int × Int)) (i : Int) (q : Int × Int) : Nat → Int × Int
  | 0 => q
  | n + 1 => stp i (lcf w L i n) (cmR w L i q n)
noncomputable def cmT (w : Int → Int) (L : List (Int × Int)) : Nat → Int × Int
  | 0 => (0, 0)
  | i + 1 => cmR w L i (cmT w L i) (hrs w L.length 1).toNat
noncomputable def cmI (w : Int → Int) (L : List (Int × Int)) (i j : Int) : Int × Int := cmR w L i (cmT w L i.toNat) j.toNat
theorem cmI_s {w : Int → Int} {L : List (Int × Int)} {i j : Int} (h : 0 ≤ j) : cmI w L i (j + 1) = stp i (lcf w L i j) (cmI w L i j) := by
  unfold cmI
  rw [show (j + 1).toNat = j.toNat + 1 by omega]
  show stp i (lcf w L i ((j.toNat : Nat) : Int)) _ = _
  rw [show ((j.toNat : Nat) : Int) = j by omega]
theorem cmI_n {w : Int → Int} {L : List (Int × Int)} {i : Int} (h : 0 ≤ i) : cmI w L (i + 1) 0 = cmI w L i (hrs w L.length 1) := by
  unfold cmI
  show cmT w L (i + 1).toNat = _
  rw [show (i + 1).toNat = i.toNat + 1 by omega]
  show cmR w L ((i.toNat : Nat) : Int) _ _ = _
  rw [show ((i.toNat : Nat) : Int) = i by omega]
def prP (w : Int → Int) (L : List (Int × Int)) (n : Int) : Prop := ∀ k : Int, 0 ≤ k → k + n < L.length → sd w (rf L) 0 k = sd w (rf L) 0 (k + n)
noncomputable def prU (P : Int → Prop) : Nat → Int → Int
  | 0, n => n
  | f + 1, n => if dP (P n) = true then n else prU P f (n + 1)
theorem prU_y {P : Int → Prop} {f : Nat} {n : Int} (h : P n) : prU P f n = n := by
  cases f with
  | zero => rfl
  | succ f => rw [prU, if_pos (dP_t.mpr h)]
theorem prU_n {P : Int → Prop} {f : Nat} {n : Int} (h : ¬ P n) : prU P (f + 1) n = prU P f (n + 1) := by rw [prU, if_neg (fun z => h (dP_t.mp z))]
noncomputable def per (w : Int → Int) (L : List (Int × Int)) : Int := if L.length = 0 then 0 else prU (prP w L) 24 1
noncomputable def sCom2 (w : Int → Int) (L : List (Int × Int)) (what : Int) : Int := if what = 2 then per w L else if what = 0 then (cmI w L (hrs w L.length 0) 0).1 else (cmI w L (hrs w L.length 0) 0).2
noncomputable def sCommon (a : Int → Int) (k s what : Int) : Int := if dP (inWS a k s ∧ (0 ≤ what ∧ what ≤ 2)) = true then sCom2 (wAt a k) (rowG (wAt a k) (gAt a s)) what else -1
