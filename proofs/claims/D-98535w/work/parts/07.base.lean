/-! NUMBERS: Java's ints as integers of Lean -/
def iI (z : Int) : Int32 := Int32.ofInt z
def lI (z : Int) : Int64 := Int64.ofInt z
def b2i (b : Bool) : Int := if b = true then 1 else 0
theorem b2i_t : b2i true = 1 := rfl
theorem b2i_f : b2i false = 0 := rfl
theorem b2i_in (b : Bool) : 0 ≤ b2i b ∧ b2i b ≤ 1 := by cases b <;> decide
theorem b2i_eq0 {b : Bool} : b2i b = 0 ↔ b = false := by cases b <;> decide
theorem b2i_inj {a b : Bool} : b2i a = b2i b ↔ a = b := by cases a <;> cases b <;> decide
theorem iI_toInt {z : Int} (h : -2147483648 ≤ z ∧ z < 2147483648) : (iI z).toInt = z := Int32.toInt_ofInt_of_le h.1 h.2
theorem iI_of (x : Int32) : iI x.toInt = x := Int32.ofInt_toInt x
theorem iI_rng (x : Int32) : -2147483648 ≤ x.toInt ∧ x.toInt < 2147483648 := ⟨Int32.le_toInt x, Int32.toInt_lt x⟩
theorem iI_ex (x : Int32) : ∃ z : Int, x = iI z ∧ -2147483648 ≤ z ∧ z < 2147483648 := ⟨x.toInt, (iI_of x).symm, iI_rng x⟩
theorem iI_add (a b : Int) : iI a + iI b = iI (a + b) := (Int32.ofInt_add a b).symm
theorem iI_sub (a b : Int) : iI a - iI b = iI (a - b) := (Int32.ofInt_sub a b).symm
theorem iI_mul (a b : Int) : iI a * iI b = iI (a * b) := (Int32.ofInt_mul a b).symm
theorem iI_neg (a : Int) : -iI a = iI (-a) := (Int32.ofInt_neg a).symm
theorem iI_0 : iI 0 = 0 := rfl
theorem iI_le {a b : Int} (h : -2147483648 ≤ a ∧ a < 2147483648 ∧ -2147483648 ≤ b ∧ b < 2147483648) : iI a ≤ iI b ↔ a ≤ b := by
  rw [Int32.le_iff_toInt_le, iI_toInt ⟨h.1, h.2.1⟩, iI_toInt h.2.2]
theorem iI_lt {a b : Int} (h : -2147483648 ≤ a ∧ a < 2147483648 ∧ -2147483648 ≤ b ∧ b < 2147483648) : iI a < iI b ↔ a < b := by
  rw [Int32.lt_iff_toInt_lt, iI_toInt ⟨h.1, h.2.1⟩, iI_toInt h.2.2]
theorem iI_eq {a b : Int} (h : -2147483648 ≤ a ∧ a < 2147483648 ∧ -2147483648 ≤ b ∧ b < 2147483648) : iI a = iI b ↔ a = b := by
  rw [← Int32.toInt_inj, iI_toInt ⟨h.1, h.2.1⟩, iI_toInt h.2.2]
theorem iI_cl {z : Int} (h : 0 ≤ z ∧ z < 2147483648) : (iI z).toNatClampNeg = z.toNat := Int32.toNatClampNeg_ofInt_of_le (by omega) h.2
theorem iI_in {z : Int} {n : Nat} (h : 0 ≤ z ∧ z < n ∧ z < 2147483648) : vp_in (iI z) n := by
  refine vp_in_iff.mpr ?_
  rw [iI_toInt ⟨by omega, h.2.2⟩]
  exact ⟨h.1, h.2.1⟩
theorem iI_div {a b : Int} (h : 0 ≤ a ∧ a < 2147483648 ∧ 0 < b ∧ b < 2147483648) : iI a / iI b = iI (a / b) := by
  have h1 : a / b ≤ a := Int.ediv_le_self b h.1
  have h2 : 0 ≤ a / b := Int.ediv_nonneg h.1 (by omega)
  apply Int32.toInt_inj.mp
  rw [Int32.toInt_div, iI_toInt (by omega), iI_toInt (by omega), iI_toInt (by omega), Int.tdiv_eq_ediv_of_nonneg h.1]
  exact Int.bmod_eq_of_le (by omega) (by omega)
theorem iI_rem {a b : Int} (h : 0 ≤ a ∧ a < 2147483648 ∧ 0 < b ∧ b < 2147483648) : iI a - iI a / iI b * iI b = iI (a % b) := by
  rw [iI_div h, iI_mul, iI_sub, Int.mul_comm, ← Int.emod_def]
theorem iI_divT {a b : Int} (h : -2147483648 ≤ a ∧ a < 2147483648 ∧ 0 < b ∧ b < 2147483648) : iI a / iI b = iI (a.tdiv b) := by
  apply Int32.toInt_inj.mp
  rw [Int32.toInt_div, iI_toInt (by omega), iI_toInt (by omega)]
  unfold iI
  rw [Int32.toInt_ofInt]
theorem iI_remT {a b : Int} (h : -2147483648 ≤ a ∧ a < 2147483648 ∧ 0 < b ∧ b < 2147483648) : iI a - iI a / iI b * iI b = iI (a.tmod b) := by
  rw [iI_divT h, iI_mul, iI_sub, Int.mul_comm, ← Int.tmod_def]
theorem iI_ne0 {b : Int} (h : 0 < b ∧ b < 2147483648) : ¬ iI b = 0 := by
  rw [← iI_0, iI_eq (by omega)]
  omega
/-! bits: opaque on integers, computed by lemmas where it's needed -/
def andI (a b : Int) : Int := (iI a &&& iI b).toInt
def orI (a b : Int) : Int := (iI a ||| iI b).toInt
def shlI (a b : Int) : Int := (iI a <<< (iI b &&& 31)).toInt
def shrI (a b : Int) : Int := (iI a >>> (iI b &&& 31)).toInt
def ushrI (a b : Int) : Int := ((iI a).toUInt32 >>> ((iI b).toUInt32 &&& Int32.toUInt32 31)).toInt32.toInt
def byI (a : Int) : Int := (iI a).toInt8.toInt
theorem andI_rng (a b : Int) : -2147483648 ≤ andI a b ∧ andI a b < 2147483648 := iI_rng _
theorem orI_rng (a b : Int) : -2147483648 ≤ orI a b ∧ orI a b < 2147483648 := iI_rng _
theorem shlI_rng (a b : Int) : -2147483648 ≤ shlI a b ∧ shlI a b < 2147483648 := iI_rng _
theorem shrI_rng (a b : Int) : -2147483648 ≤ shrI a b ∧ shrI a b < 2147483648 := iI_rng _
theorem ushrI_rng (a b : Int) : -2147483648 ≤ ushrI a b ∧ ushrI a b < 2147483648 := iI_rng _
theorem byI_rng (a : Int) : -128 ≤ byI a ∧ byI a < 128 := by
  have h1 := Int8.le_toInt (iI a).toInt8
  have h2 := Int8.toInt_lt (iI a).toInt8
  unfold byI
  omega
theorem iI_lit (n : Nat) : (Int32.ofNat n) = iI n := by
  unfold iI
  exact (Int32.ofInt_eq_ofNat).symm
/-! a proposition as a boolean -/
noncomputable def dP (P : Prop) : Bool := @decide P (Classical.propDecidable P)
theorem dP_t {P : Prop} : dP P = true ↔ P := by unfold dP; exact @decide_eq_true_iff P (Classical.propDecidable P)
theorem dP_f {P : Prop} : dP P = false ↔ ¬ P := by unfold dP; exact @decide_eq_false_iff_not P (Classical.propDecidable P)
theorem dP_1 {P : Prop} (h : P) : (1 : Int) = b2i (dP P) := by rw [dP_t.mpr h]; rfl
theorem dP_0 {P : Prop} (h : ¬ P) : (0 : Int) = b2i (dP P) := by rw [dP_f.mpr h]; rfl
theorem dP_c {P Q : Prop} (h : P ↔ Q) : dP P = dP Q := by rw [propext h]
theorem dP_b (b : Bool) : dP (b = true) = b := by cases b <;> simp [dP_t, dP_f]
theorem dP_eq {P : Prop} {b : Bool} (h : b = true ↔ P) : b = dP P := by rw [← dP_b b]; exact dP_c h
theorem b2i_or (b : Bool) : b2i b = 0 ∨ b2i b = 1 := by cases b <;> decide
/-! longs -/
theorem lI_add (a b : Int) : lI a + lI b = lI (a + b) := (Int64.ofInt_add a b).symm
theorem lI_sub (a b : Int) : lI a - lI b = lI (a - b) := (Int64.ofInt_sub a b).symm
theorem lI_mul (a b : Int) : lI a * lI b = lI (a * b) := (Int64.ofInt_mul a b).symm
theorem lI_toInt {z : Int} (h : -9223372036854775808 ≤ z ∧ z < 9223372036854775808) : (lI z).toInt = z := Int64.toInt_ofInt_of_le h.1 h.2
theorem lI_eq {x y : Int} (h : -9223372036854775808 ≤ x ∧ x < 9223372036854775808 ∧ -9223372036854775808 ≤ y ∧ y < 9223372036854775808) : lI x = lI y ↔ x = y := by
  rw [← Int64.toInt_inj, lI_toInt ⟨h.1, h.2.1⟩, lI_toInt h.2.2]
theorem iI_l {x : Int} (h : -2147483648 ≤ x ∧ x < 2147483648) : (iI x).toInt64 = lI x := by
  unfold iI lI
  apply Int64.toInt_inj.mp
  rw [Int32.toInt_toInt64, Int32.toInt_ofInt_of_le h.1 h.2, Int64.toInt_ofInt_of_le (by omega) (by omega)]
theorem lcmp_self (x : Int64) : lg_cmp x x = iI 0 := by
  unfold lg_cmp
  rw [if_neg (Int64.lt_irrefl), if_pos rfl]
  rfl
theorem lcmp_ne (x y : Int64) (h : x ≠ y) : ∃ z : Int, lg_cmp x y = iI z ∧ z ≠ 0 ∧ -2147483648 ≤ z ∧ z < 2147483648 := by
  unfold lg_cmp
  by_cases h1 : x > y
  · rw [if_pos h1]; exact ⟨1, rfl, by decide, by decide, by decide⟩
  · rw [if_neg h1, if_neg h]; exact ⟨-1, rfl, by decide, by decide, by decide⟩
/-! ROWS: one an instruction, over integers -/
section
variable {p : Program} {l : Launch} {e : Env} {R : Room} {s : State} {m : MethodId} {args : Array Value} {below : List Frame} {meth : Method} {c : Code} {H : Heap} {locs : List Loc} {cells slots : Nat} {Q : State → Prop} {cc : ByteArray} {nL : Nat} {own : String} {Ts : List Cond} {pc : Nat} {ls : Array Slot} {rest : List Value}
theorem r_iconst (S : CallFix p m c cc nL s args Ts own) {n : Int} (hdg : decode cc pc = .ok (.iconst n, 1)) (k : W p l e R s m args below meth c H locs cells slots Q (F0 m (pc + 1) ls (.int (iI n) :: rest))) : W p l e R s m args below meth c H locs cells slots Q (F0 m pc ls rest) := lv_iconst S.1 S.2.1 hdg rfl k
theorem r_bipush (S : CallFix p m c cc nL s args Ts own) {n : Int} (hdg : decode cc pc = .ok (.bipush n, 2)) (hv : (Int8.ofInt n).toInt32 = iI n) (k : W p l e R s m args below meth c H locs cells slots Q (F0 m (pc + 2) ls (.int (iI n) :: rest))) : W p l e R s m args below meth c H locs cells slots Q (F0 m pc ls rest) := lv_bipush S.1 S.2.1 hdg hv k
theorem r_sipush (S : CallFix p m c cc nL s args Ts own) {n : Int} (hdg : decode cc pc = .ok (.sipush n, 3)) (hv : (Int16.ofInt n).toInt32 = iI n) (k : W p l e R s m args below meth c H locs cells slots Q (F0 m (pc + 3) ls (.int (iI n) :: rest))) : W p l e R s m args below meth c H locs cells slots Q (F0 m pc ls rest) := lv_sipush S.1 S.2.1 hdg hv k
theorem r_iadd (S : CallFix p m c cc nL s args Ts own) {x y : Int} (hdg : decode cc pc = .ok (.iadd, 1)) (k : W p l e R s m args below meth c H locs cells slots Q (F0 m (pc + 1) ls (.int (iI (x + y)) :: rest))) : W p l e R s m args below meth c H locs cells slots Q (F0 m pc ls (.int (iI y) :: .int (iI x) :: rest)) := lv_iadd S.1 S.2.1 hdg (by rw [iI_add x y]; exact k)
theorem r_isub (S : CallFix p m c cc nL s args Ts own) {x y : Int} (hdg : decode cc pc = .ok (.isub, 1)) (k : W p l e R s m args below meth c H locs cells slots Q (F0 m (pc + 1) ls (.int (iI (x - y)) :: rest))) : W p l e R s m args below meth c H locs cells slots Q (F0 m pc ls (.int (iI y) :: .int (iI x) :: rest)) := lv_isub S.1 S.2.1 hdg (by rw [iI_sub x y]; exact k)
theorem r_imul (S : CallFix p m c cc nL s args Ts own) {x y : Int} (hdg : decode cc pc = .ok (.imul, 1)) (k : W p l e R s m args below meth c H locs cells slots Q (F0 m (pc + 1) ls (.int (iI (x * y)) :: rest))) : W p l e R s m args below meth c H locs cells slots Q (F0 m pc ls (.int (iI y) :: .int (iI x) :: rest)) := lv_imul S.1 S.2.1 hdg (by rw [iI_mul x y]; exact k)
theorem r_ineg (S : CallFix p m c cc nL s args Ts own) {x : Int} (hdg : decode cc pc = .ok (.ineg, 1)) (k : W p l e R s m args below meth c H locs cells slots Q (F0 m (pc + 1) ls (.int (iI (-x)) :: rest))) : W p l e R s m args below meth c H locs cells slots Q (F0 m pc ls (.int (iI x) :: rest)) := lv_ineg S.1 S.2.1 hdg (by rw [iI_neg x]; exact k)
theorem r_idiv (S : CallFix p m c cc nL s args Ts own) {x y : Int} (hdg : decode cc pc = .ok (.idiv, 1)) (h : 0 ≤ x ∧ x < 2147483648 ∧ 0 < y ∧ y < 2147483648) (k : W p l e R s m args below meth c H locs cells slots Q (F0 m (pc + 1) ls (.int (iI (x / y)) :: rest))) : W p l e R s m args below meth c H locs cells slots Q (F0 m pc ls (.int (iI y) :: .int (iI x) :: rest)) := lv_idiv S.1 S.2.1 hdg (iI_ne0 h.2.2) (by rw [iI_div h]; exact k)
theorem r_irem (S : CallFix p m c cc nL s args Ts own) {x y : Int} (hdg : decode cc pc = .ok (.irem, 1)) (h : 0 ≤ x ∧ x < 2147483648 ∧ 0 < y ∧ y < 2147483648) (k : W p l e R s m args below meth c H locs cells slots Q (F0 m (pc + 1) ls (.int (iI (x % y)) :: rest))) : W p l e R s m args below meth c H locs cells slots Q (F0 m pc ls (.int (iI y) :: .int (iI x) :: rest)) := lv_irem S.1 S.2.1 hdg (iI_ne0 h.2.2) (by rw [iI_rem h]; exact k)
theorem r_idivT (S : CallFix p m c cc nL s args Ts own) {x y : Int} (hdg : decode cc pc = .ok (.idiv, 1)) (h : -2147483648 ≤ x ∧ x < 2147483648 ∧ 0 < y ∧ y < 2147483648) (k : W p l e R s m args below meth c H locs cells slots Q (F0 m (pc + 1) ls (.int (iI (x.tdiv y)) :: rest))) : W p l e R s m args below meth c H locs cells slots Q (F0 m pc ls (.int (iI y) :: .int (iI x) :: rest)) := lv_idiv S.1 S.2.1 hdg (iI_ne0 h.2.2) (by rw [iI_divT h]; exact k)
theorem r_iremT (S : CallFix p m c cc nL s args Ts own) {x y : Int} (hdg : decode cc pc = .ok (.irem, 1)) (h : -2147483648 ≤ x ∧ x < 2147483648 ∧ 0 < y ∧ y < 2147483648) (k : W p l e R s m args below meth c H locs cells slots Q (F0 m (pc + 1) ls (.int (iI (x.tmod y)) :: rest))) : W p l e R s m args below meth c H locs cells slots Q (F0 m pc ls (.int (iI y) :: .int (iI x) :: rest)) := lv_irem S.1 S.2.1 hdg (iI_ne0 h.2.2) (by rw [iI_remT h]; exact k)
theorem r_iand (S : CallFix p m c cc nL s args Ts own) {x y : Int} (hdg : decode cc pc = .ok (.iand, 1)) (k : W p l e R s m args below meth c H locs cells slots Q (F0 m (pc + 1) ls (.int (iI (andI x y)) :: rest))) : W p l e R s m args below meth c H locs cells slots Q (F0 m pc ls (.int (iI y) :: .int (iI x) :: rest)) := lv_iand S.1 S.2.1 hdg (by have h := k; unfold andI at h; rw [iI_of] at h; exact h)
theorem r_ior (S : CallFix p m c cc nL s args Ts own) {x y : Int} (hdg : decode cc pc = .ok (.ior, 1)) (k : W p l e R s m args below meth c H locs cells slots Q (F0 m (pc + 1) ls (.int (iI (orI x y)) :: rest))) : W p l e R s m args below meth c H locs cells slots Q (F0 m pc ls (.int (iI y) :: .int (iI x) :: rest)) := lv_ior S.1 S.2.1 hdg (by have h := k; unfold orI at h; rw [iI_of] at h; exact h)
theorem r_ishl (S : CallFix p m c cc nL s args Ts own) {x y : Int} (hdg : decode cc pc = .ok (.ishl, 1)) (k : W p l e R s m args below meth c H locs cells slots Q (F0 m (pc + 1) ls (.int (iI (shlI x y)) :: rest))) : W p l e R s m args below meth c H locs cells slots Q (F0 m pc ls (.int (iI y) :: .int (iI x) :: rest)) := lv_ishl S.1 S.2.1 hdg (by have h := k; unfold shlI at h; rw [iI_of] at h; exact h)
theorem r_ishr (S : CallFix p m c cc nL s args Ts own) {x y : Int} (hdg : decode cc pc = .ok (.ishr, 1)) (k : W p l e R s m args below meth c H locs cells slots Q (F0 m (pc + 1) ls (.int (iI (shrI x y)) :: rest))) : W p l e R s m args below meth c H locs cells slots Q (F0 m pc ls (.int (iI y) :: .int (iI x) :: rest)) := lv_ishr S.1 S.2.1 hdg (by have h := k; unfold shrI at h; rw [iI_of] at h; exact h)
theorem r_iushr (S : CallFix p m c cc nL s args Ts own) {x y : Int} (hdg : decode cc pc = .ok (.iushr, 1)) (k : W p l e R s m args below meth c H locs cells slots Q (F0 m (pc + 1) ls (.int (iI (ushrI x y)) :: rest))) : W p l e R s m args below meth c H locs cells slots Q (F0 m pc ls (.int (iI y) :: .int (iI x) :: rest)) := lv_iushr S.1 S.2.1 hdg rfl (by have h := k; unfold ushrI at h; rw [iI_of] at h; exact h)
theorem r_i2b (S : CallFix p m c cc nL s args Ts own) {x : Int} (hdg : decode cc pc = .ok (.i2b, 1)) (k : W p l e R s m args below meth c H locs cells slots Q (F0 m (pc + 1) ls (.int (iI (byI x)) :: rest))) : W p l e R s m args below meth c H locs cells slots Q (F0 m pc ls (.int (iI x) :: rest)) := lv_i2b S.1 S.2.1 hdg rfl (by have h := k; unfold byI iI at h; rw [Int32.ofInt_int8ToInt] at h; exact h)
theorem r_icmp_eq (S : CallFix p m c cc nL s args Ts own) {x y : Int} {off : Int} {tgt : Nat} (hdg : decode cc pc = .ok (.if_icmp .eq off, 3)) (ht : (pc : Int) + off = (tgt : Int)) (hR : -2147483648 ≤ x ∧ x < 2147483648 ∧ -2147483648 ≤ y ∧ y < 2147483648) (kt : x = y → W p l e R s m args below meth c H locs cells slots Q (F0 m tgt ls rest)) (kf : x ≠ y → W p l e R s m args below meth c H locs cells slots Q (F0 m (pc + 3) ls rest)) : W p l e R s m args below meth c H locs cells slots Q (F0 m pc ls (.int (iI y) :: .int (iI x) :: rest)) := lv_icmp_eq S.1 S.2.1 hdg ht (fun h => kt ((iI_eq hR).mp h)) (fun h => kf (fun z => h ((iI_eq hR).mpr z)))
theorem r_if_eq (S : CallFix p m c cc nL s args Ts own) {x : Int} {off : Int} {tgt : Nat} (hdg : decode cc pc = .ok (.ifCond .eq off, 3)) (ht : (pc : Int) + off = (tgt : Int)) (hR0 : -2147483648 ≤ x ∧ x < 2147483648) (kt : x = 0 → W p l e R s m args below meth c H locs cells slots Q (F0 m tgt ls rest)) (kf : x ≠ 0 → W p l e R s m args below meth c H locs cells slots Q (F0 m (pc + 3) ls rest)) : W p l e R s m args below meth c H locs cells slots Q (F0 m pc ls (.int (iI x) :: rest)) := by
  have hR : -2147483648 ≤ x ∧ x < 2147483648 ∧ -2147483648 ≤ (0 : Int) ∧ (0 : Int) < 2147483648 := ⟨hR0.1, hR0.2, by decide, by decide⟩
  exact lv_if_eq S.1 S.2.1 hdg ht (fun h => kt ((iI_eq hR).mp h)) (fun h => kf (fun z => h ((iI_eq hR).mpr z)))
theorem r_icmp_ne (S : CallFix p m c cc nL s args Ts own) {x y : Int} {off : Int} {tgt : Nat} (hdg : decode cc pc = .ok (.if_icmp .ne off, 3)) (ht : (pc : Int) + off = (tgt : Int)) (hR : -2147483648 ≤ x ∧ x < 2147483648 ∧ -2147483648 ≤ y ∧ y < 2147483648) (kt : x ≠ y → W p l e R s m args below meth c H locs cells slots Q (F0 m tgt ls rest)) (kf : x = y → W p l e R s m args below meth c H locs cells slots Q (F0 m (pc + 3) ls rest)) : W p l e R s m args below meth c H locs cells slots Q (F0 m pc ls (.int (iI y) :: .int (iI x) :: rest)) := lv_icmp_ne S.1 S.2.1 hdg ht (fun h => kt (fun z => h ((iI_eq hR).mpr z))) (fun h => kf ((iI_eq hR).mp h))
theorem r_if_ne (S : CallFix p m c cc nL s args Ts own) {x : Int} {off : Int} {tgt : Nat} (hdg : decode cc pc = .ok (.ifCond .ne off, 3)) (ht : (pc : Int) + off = (tgt : Int)) (hR0 : -2147483648 ≤ x ∧ x < 2147483648) (kt : x ≠ 0 → W p l e R s m args below meth c H locs cells slots Q (F0 m tgt ls rest)) (kf : x = 0 → W p l e R s m args below meth c H locs cells slots Q (F0 m (pc + 3) ls rest)) : W p l e R s m args below meth c H locs cells slots Q (F0 m pc ls (.int (iI x) :: rest)) := by
  have hR : -2147483648 ≤ x ∧ x < 2147483648 ∧ -2147483648 ≤ (0 : Int) ∧ (0 : Int) < 2147483648 := ⟨hR0.1, hR0.2, by decide, by decide⟩
  exact lv_if_ne S.1 S.2.1 hdg ht (fun h => kt (fun z => h ((iI_eq hR).mpr z))) (fun h => kf ((iI_eq hR).mp h))
theorem r_icmp_lt (S : CallFix p m c cc nL s args Ts own) {x y : Int} {off : Int} {tgt : Nat} (hdg : decode cc pc = .ok (.if_icmp .lt off, 3)) (ht : (pc : Int) + off = (tgt : Int)) (hR : -2147483648 ≤ x ∧ x < 2147483648 ∧ -2147483648 ≤ y ∧ y < 2147483648) (kt : x < y → W p l e R s m args below meth c H locs cells slots Q (F0 m tgt ls rest)) (kf : y ≤ x → W p l e R s m args below meth c H locs cells slots Q (F0 m (pc + 3) ls rest)) : W p l e R s m args below meth c H locs cells slots Q (F0 m pc ls (.int (iI y) :: .int (iI x) :: rest)) := lv_icmp_lt S.1 S.2.1 hdg ht (fun h => kt ((iI_lt hR).mp h)) (fun h => kf (Int.not_lt.mp (fun z => h ((iI_lt hR).mpr z))))
theorem r_if_lt (S : CallFix p m c cc nL s args Ts own) {x : Int} {off : Int} {tgt : Nat} (hdg : decode cc pc = .ok (.ifCond .lt off, 3)) (ht : (pc : Int) + off = (tgt : Int)) (hR0 : -2147483648 ≤ x ∧ x < 2147483648) (kt : x < 0 → W p l e R s m args below meth c H locs cells slots Q (F0 m tgt ls rest)) (kf : 0 ≤ x → W p l e R s m args below meth c H locs cells slots Q (F0 m (pc + 3) ls rest)) : W p l e R s m args below meth c H locs cells slots Q (F0 m pc ls (.int (iI x) :: rest)) := by
  have hR : -2147483648 ≤ x ∧ x < 2147483648 ∧ -2147483648 ≤ (0 : Int) ∧ (0 : Int) < 2147483648 := ⟨hR0.1, hR0.2, by decide, by decide⟩
  exact lv_if_lt S.1 S.2.1 hdg ht (fun h => kt ((iI_lt hR).mp h)) (fun h => kf (Int.not_lt.mp (fun z => h ((iI_lt hR).mpr z))))
theorem r_icmp_ge (S : CallFix p m c cc nL s args Ts own) {x y : Int} {off : Int} {tgt : Nat} (hdg : decode cc pc = .ok (.if_icmp .ge off, 3)) (ht : (pc : Int) + off = (tgt : Int)) (hR : -2147483648 ≤ x ∧ x < 2147483648 ∧ -2147483648 ≤ y ∧ y < 2147483648) (kt : y ≤ x → W p l e R s m args below meth c H locs cells slots Q (F0 m tgt ls rest)) (kf : x < y → W p l e R s m args below meth c H locs cells slots Q (F0 m (pc + 3) ls rest)) : W p l e R s m args below meth c H locs cells slots Q (F0 m pc ls (.int (iI y) :: .int (iI x) :: rest)) := lv_icmp_ge S.1 S.2.1 hdg ht (fun h => kt ((iI_le ⟨hR.2.2.1, hR.2.2.2, hR.1, hR.2.1⟩).mp h)) (fun h => kf (Int.not_le.mp (fun z => h ((iI_le ⟨hR.2.2.1, hR.2.2.2, hR.1, hR.2.1⟩).mpr z))))
theorem r_if_ge (S : CallFix p m c cc nL s args Ts own) {x : Int} {off : Int} {tgt : Nat} (hdg : decode cc pc = .ok (.ifCond .ge off, 3)) (ht : (pc : Int) + off = (tgt : Int)) (hR0 : -2147483648 ≤ x ∧ x < 2147483648) (kt : 0 ≤ x → W p l e R s m args below meth c H locs cells slots Q (F0 m tgt ls rest)) (kf : x < 0 → W p l e R s m args below meth c H locs cells slots Q (F0 m (pc + 3) ls rest)) : W p l e R s m args below meth c H locs cells slots Q (F0 m pc ls (.int (iI x) :: rest)) := by
  have hR : -2147483648 ≤ x ∧ x < 2147483648 ∧ -2147483648 ≤ (0 : Int) ∧ (0 : Int) < 2147483648 := ⟨hR0.1, hR0.2, by decide, by decide⟩
  exact lv_if_ge S.1 S.2.1 hdg ht (fun h => kt ((iI_le ⟨hR.2.2.1, hR.2.2.2, hR.1, hR.2.1⟩).mp h)) (fun h => kf (Int.not_le.mp (fun z => h ((iI_le ⟨hR.2.2.1, hR.2.2.2, hR.1, hR.2.1⟩).mpr z))))
theorem r_icmp_gt (S : CallFix p m c cc nL s args Ts own) {x y : Int} {off : Int} {tgt : Nat} (hdg : decode cc pc = .ok (.if_icmp .gt off, 3)) (ht : (pc : Int) + off = (tgt : Int)) (hR : -2147483648 ≤ x ∧ x < 2147483648 ∧ -2147483648 ≤ y ∧ y < 2147483648) (kt : y < x → W p l e R s m args below meth c H locs cells slots Q (F0 m tgt ls rest)) (kf : x ≤ y → W p l e R s m args below meth c H locs cells slots Q (F0 m (pc + 3) ls rest)) : W p l e R s m args below meth c H locs cells slots Q (F0 m pc ls (.int (iI y) :: .int (iI x) :: rest)) := lv_icmp_gt S.1 S.2.1 hdg ht (fun h => kt ((iI_lt ⟨hR.2.2.1, hR.2.2.2, hR.1, hR.2.1⟩).mp h)) (fun h => kf (Int.not_lt.mp (fun z => h ((iI_lt ⟨hR.2.2.1, hR.2.2.2, hR.1, hR.2.1⟩).mpr z))))
theorem r_if_gt (S : CallFix p m c cc nL s args Ts own) {x : Int} {off : Int} {tgt : Nat} (hdg : decode cc pc = .ok (.ifCond .gt off, 3)) (ht : (pc : Int) + off = (tgt : Int)) (hR0 : -2147483648 ≤ x ∧ x < 2147483648) (kt : 0 < x → W p l e R s m args below meth c H locs cells slots Q (F0 m tgt ls rest)) (kf : x ≤ 0 → W p l e R s m args below meth c H locs cells slots Q (F0 m (pc + 3) ls rest)) : W p l e R s m args below meth c H locs cells slots Q (F0 m pc ls (.int (iI x) :: rest)) := by
  have hR : -2147483648 ≤ x ∧ x < 2147483648 ∧ -2147483648 ≤ (0 : Int) ∧ (0 : Int) < 2147483648 := ⟨hR0.1, hR0.2, by decide, by decide⟩
  exact lv_if_gt S.1 S.2.1 hdg ht (fun h => kt ((iI_lt ⟨hR.2.2.1, hR.2.2.2, hR.1, hR.2.1⟩).mp h)) (fun h => kf (Int.not_lt.mp (fun z => h ((iI_lt ⟨hR.2.2.1, hR.2.2.2, hR.1, hR.2.1⟩).mpr z))))
theorem r_icmp_le (S : CallFix p m c cc nL s args Ts own) {x y : Int} {off : Int} {tgt : Nat} (hdg : decode cc pc = .ok (.if_icmp .le off, 3)) (ht : (pc : Int) + off = (tgt : Int)) (hR : -2147483648 ≤ x ∧ x < 2147483648 ∧ -2147483648 ≤ y ∧ y < 2147483648) (kt : x ≤ y → W p l e R s m args below meth c H locs cells slots Q (F0 m tgt ls rest)) (kf : y < x → W p l e R s m args below meth c H locs cells slots Q (F0 m (pc + 3) ls rest)) : W p l e R s m args below meth c H locs cells slots Q (F0 m pc ls (.int (iI y) :: .int (iI x) :: rest)) := lv_icmp_le S.1 S.2.1 hdg ht (fun h => kt ((iI_le hR).mp h)) (fun h => kf (Int.not_le.mp (fun z => h ((iI_le hR).mpr z))))
theorem r_if_le (S : CallFix p m c cc nL s args Ts own) {x : Int} {off : Int} {tgt : Nat} (hdg : decode cc pc = .ok (.ifCond .le off, 3)) (ht : (pc : Int) + off = (tgt : Int)) (hR0 : -2147483648 ≤ x ∧ x < 2147483648) (kt : x ≤ 0 → W p l e R s m args below meth c H locs cells slots Q (F0 m tgt ls rest)) (kf : 0 < x → W p l e R s m args below meth c H locs cells slots Q (F0 m (pc + 3) ls rest)) : W p l e R s m args below meth c H locs cells slots Q (F0 m pc ls (.int (iI x) :: rest)) := by
  have hR : -2147483648 ≤ x ∧ x < 2147483648 ∧ -2147483648 ≤ (0 : Int) ∧ (0 : Int) < 2147483648 := ⟨hR0.1, hR0.2, by decide, by decide⟩
  exact lv_if_le S.1 S.2.1 hdg ht (fun h => kt ((iI_le hR).mp h)) (fun h => kf (Int.not_le.mp (fun z => h ((iI_le hR).mpr z))))
theorem r_ifeq_b (S : CallFix p m c cc nL s args Ts own) {b : Bool} {off : Int} {tgt : Nat} (hdg : decode cc pc = .ok (.ifCond .eq off, 3)) (ht : (pc : Int) + off = (tgt : Int)) (kt : b = false → W p l e R s m args below meth c H locs cells slots Q (F0 m tgt ls rest)) (kf : b = true → W p l e R s m args below meth c H locs cells slots Q (F0 m (pc + 3) ls rest)) : W p l e R s m args below meth c H locs cells slots Q (F0 m pc ls (.int (iI (b2i b)) :: rest)) := by
  cases b
  · exact lv_if_eq S.1 S.2.1 hdg ht (fun _ => kt rfl) (fun h => absurd rfl h)
  · exact lv_if_eq S.1 S.2.1 hdg ht (fun h => absurd h (by decide)) (fun _ => kf rfl)
theorem r_ifne_b (S : CallFix p m c cc nL s args Ts own) {b : Bool} {off : Int} {tgt : Nat} (hdg : decode cc pc = .ok (.ifCond .ne off, 3)) (ht : (pc : Int) + off = (tgt : Int)) (kt : b = true → W p l e R s m args below meth c H locs cells slots Q (F0 m tgt ls rest)) (kf : b = false → W p l e R s m args below meth c H locs cells slots Q (F0 m (pc + 3) ls rest)) : W p l e R s m args below meth c H locs cells slots Q (F0 m pc ls (.int (iI (b2i b)) :: rest)) := by
  cases b
  · exact lv_if_ne S.1 S.2.1 hdg ht (fun h => absurd rfl h) (fun _ => kf rfl)
  · exact lv_if_ne S.1 S.2.1 hdg ht (fun _ => kt rfl) (fun h => absurd h (by decide))
theorem r_name {x : Int} (k : ∀ z : Int, z = x → W p l e R s m args below meth c H locs cells slots Q (F0 m pc ls (.int (iI z) :: rest))) : W p l e R s m args below meth c H locs cells slots Q (F0 m pc ls (.int (iI x) :: rest)) := k x rfl
theorem r_as {x : Int} (z : Int) (h : x = z) (k : W p l e R s m args below meth c H locs cells slots Q (F0 m pc ls (.int (iI z) :: rest))) : W p l e R s m args below meth c H locs cells slots Q (F0 m pc ls (.int (iI x) :: rest)) := h ▸ k
theorem r_tabIn (S : CallFix p m c cc nL s args Ts own) {dflt lo hi : Int} {offs : Array Int} {len : Nat} {x : Int} {off : Int} {tgt : Nat} (hdg : decode cc pc = .ok (.tableswitch dflt lo hi offs, len)) (hx : -2147483648 ≤ x ∧ x < 2147483648) (v : Int) (hv : x = v) (h1 : ¬ v < lo) (h2 : ¬ hi < v) (ho : offs[(v - lo).toNat]? = some off) (ht : (pc : Int) + off = (tgt : Int)) (k : W p l e R s m args below meth c H locs cells slots Q (F0 m tgt ls rest)) : W p l e R s m args below meth c H locs cells slots Q (F0 m pc ls (.int (iI x) :: rest)) := by
  subst hv
  exact lv_tableIn S.1 S.2.1 hdg (by rw [iI_toInt hx]; exact h1) (by rw [iI_toInt hx]; exact h2) (by rw [iI_toInt hx]; exact ho) ht k
theorem r_tabOut (S : CallFix p m c cc nL s args Ts own) {dflt lo hi : Int} {offs : Array Int} {len : Nat} {x : Int} {tgt : Nat} (hdg : decode cc pc = .ok (.tableswitch dflt lo hi offs, len)) (hx : -2147483648 ≤ x ∧ x < 2147483648) (h : x < lo ∨ hi < x) (ht : (pc : Int) + dflt = (tgt : Int)) (k : W p l e R s m args below meth c H locs cells slots Q (F0 m tgt ls rest)) : W p l e R s m args below meth c H locs cells slots Q (F0 m pc ls (.int (iI x) :: rest)) := lv_tableOut S.1 S.2.1 hdg (by rw [iI_toInt hx]; exact h) ht k
theorem r_ifeq_p (S : CallFix p m c cc nL s args Ts own) {P : Prop} {off : Int} {tgt : Nat} (hdg : decode cc pc = .ok (.ifCond .eq off, 3)) (ht : (pc : Int) + off = (tgt : Int)) (kt : ¬ P → W p l e R s m args below meth c H locs cells slots Q (F0 m tgt ls rest)) (kf : P → W p l e R s m args below meth c H locs cells slots Q (F0 m (pc + 3) ls rest)) : W p l e R s m args below meth c H locs cells slots Q (F0 m pc ls (.int (iI (b2i (dP P))) :: rest)) := r_ifeq_b S hdg ht (fun h => kt (dP_f.mp h)) (fun h => kf (dP_t.mp h))
theorem r_ifne_p (S : CallFix p m c cc nL s args Ts own) {P : Prop} {off : Int} {tgt : Nat} (hdg : decode cc pc = .ok (.ifCond .ne off, 3)) (ht : (pc : Int) + off = (tgt : Int)) (kt : P → W p l e R s m args below meth c H locs cells slots Q (F0 m tgt ls rest)) (kf : ¬ P → W p l e R s m args below meth c H locs cells slots Q (F0 m (pc + 3) ls rest)) : W p l e R s m args below meth c H locs cells slots Q (F0 m pc ls (.int (iI (b2i (dP P))) :: rest)) := r_ifne_b S hdg ht (fun h => kt (dP_t.mp h)) (fun h => kf (dP_f.mp h))
theorem r_ladd (S : CallFix p m c cc nL s args Ts own) {x y : Int} (hdg : decode cc pc = .ok (.ladd, 1)) (k : W p l e R s m args below meth c H locs cells slots Q (F0 m (pc + 1) ls (.long (lI (x + y)) :: rest))) : W p l e R s m args below meth c H locs cells slots Q (F0 m pc ls (.long (lI y) :: .long (lI x) :: rest)) := lv_ladd S.1 S.2.1 hdg (by rw [lI_add x y]; exact k)
theorem r_lsub (S : CallFix p m c cc nL s args Ts own) {x y : Int} (hdg : decode cc pc = .ok (.lsub, 1)) (k : W p l e R s m args below meth c H locs cells slots Q (F0 m (pc + 1) ls (.long (lI (x - y)) :: rest))) : W p l e R s m args below meth c H locs cells slots Q (F0 m pc ls (.long (lI y) :: .long (lI x) :: rest)) := lv_lsub S.1 S.2.1 hdg (by rw [lI_sub x y]; exact k)
theorem r_lmul (S : CallFix p m c cc nL s args Ts own) {x y : Int} (hdg : decode cc pc = .ok (.lmul, 1)) (k : W p l e R s m args below meth c H locs cells slots Q (F0 m (pc + 1) ls (.long (lI (x * y)) :: rest))) : W p l e R s m args below meth c H locs cells slots Q (F0 m pc ls (.long (lI y) :: .long (lI x) :: rest)) := lv_lmul S.1 S.2.1 hdg (by rw [lI_mul x y]; exact k)
theorem r_i2l (S : CallFix p m c cc nL s args Ts own) {x : Int} (hdg : decode cc pc = .ok (.i2l, 1)) (h : -2147483648 ≤ x ∧ x < 2147483648) (k : W p l e R s m args below meth c H locs cells slots Q (F0 m (pc + 1) ls (.long (lI x) :: rest))) : W p l e R s m args below meth c H locs cells slots Q (F0 m pc ls (.int (iI x) :: rest)) := lv_i2l S.1 S.2.1 hdg (iI_l h) k
theorem r_lconst0 (S : CallFix p m c cc nL s args Ts own) (hdg : decode cc pc = .ok (.lconst 0, 1)) (k : W p l e R s m args below meth c H locs cells slots Q (F0 m (pc + 1) ls (.long (lI 0) :: rest))) : W p l e R s m args below meth c H locs cells slots Q (F0 m pc ls rest) := lv_lconst S.1 S.2.1 hdg rfl k
theorem r_lconst1 (S : CallFix p m c cc nL s args Ts own) (hdg : decode cc pc = .ok (.lconst 1, 1)) (k : W p l e R s m args below meth c H locs cells slots Q (F0 m (pc + 1) ls (.long (lI 1) :: rest))) : W p l e R s m args below meth c H locs cells slots Q (F0 m pc ls rest) := lv_lconst S.1 S.2.1 hdg rfl k
theorem r_ldc2 {index : Nat} {x : Int64} {z : Int} (S : CallFix p m c cc nL s args Ts own) (hconst : Cond.constantLong own index x ∈ Ts) (hz : x = lI z) (hdg : decode cc pc = .ok (.ldc2_w index, 3)) (k : W p l e R s m args below meth c H locs cells slots Q (F0 m (pc + 3) ls (.long (lI z) :: rest))) : W p l e R s m args below meth c H locs cells slots Q (F0 m pc ls rest) := by
  subst hz
  exact lv_ldc2 S.1 S.2.1 S.2.2.2.1 (S.2.2.2.2 _ hconst) hdg k
theorem r_lcmp_eq (S : CallFix p m c cc nL s args Ts own) {x y : Int} {off : Int} {tgt : Nat} (hdg : decode cc pc = .ok (.lcmp, 1)) (hd2 : decode cc (pc + 1) = .ok (.ifCond .eq off, 3)) (ht : ((pc + 1 : Nat) : Int) + off = (tgt : Int)) (hR : -9223372036854775808 ≤ x ∧ x < 9223372036854775808 ∧ -9223372036854775808 ≤ y ∧ y < 9223372036854775808) (kt : x = y → W p l e R s m args below meth c H locs cells slots Q (F0 m tgt ls rest)) (kf : x ≠ y → W p l e R s m args below meth c H locs cells slots Q (F0 m (pc + 1 + 3) ls rest)) : W p l e R s m args below meth c H locs cells slots Q (F0 m pc ls (.long (lI y) :: .long (lI x) :: rest)) := by
  refine W.lcmp S.1 S.2.1 hdg ?_
  by_cases h : x = y
  · have e : lg_cmp (lI x) (lI y) = iI 0 := by subst h; exact lcmp_self _
    rw [e]
    exact r_if_eq S hd2 ht (by decide) (fun _ => kt h) (fun _ => by omega)
  · obtain ⟨z, e, hz, hz2⟩ := lcmp_ne (lI x) (lI y) (fun q => h ((lI_eq hR).mp q))
    rw [e]
    exact r_if_eq S hd2 ht hz2 (fun _ => by omega) (fun _ => kf h)
theorem r_lcmp_ne (S : CallFix p m c cc nL s args Ts own) {x y : Int} {off : Int} {tgt : Nat} (hdg : decode cc pc = .ok (.lcmp, 1)) (hd2 : decode cc (pc + 1) = .ok (.ifCond .ne off, 3)) (ht : ((pc + 1 : Nat) : Int) + off = (tgt : Int)) (hR : -9223372036854775808 ≤ x ∧ x < 9223372036854775808 ∧ -9223372036854775808 ≤ y ∧ y < 9223372036854775808) (kt : x ≠ y → W p l e R s m args below meth c H locs cells slots Q (F0 m tgt ls rest)) (kf : x = y → W p l e R s m args below meth c H locs cells slots Q (F0 m (pc + 1 + 3) ls rest)) : W p l e R s m args below meth c H locs cells slots Q (F0 m pc ls (.long (lI y) :: .long (lI x) :: rest)) := by
  refine W.lcmp S.1 S.2.1 hdg ?_
  by_cases h : x = y
  · have e : lg_cmp (lI x) (lI y) = iI 0 := by subst h; exact lcmp_self _
    rw [e]
    exact r_if_ne S hd2 ht (by decide) (fun _ => by omega) (fun _ => kf h)
  · obtain ⟨z, e, hz, hz2⟩ := lcmp_ne (lI x) (lI y) (fun q => h ((lI_eq hR).mp q))
    rw [e]
    exact r_if_ne S hd2 ht hz2 (fun _ => kt h) (fun _ => by omega)
end
/-! WORLDS of fixed cells: a shape says which cells there are, a state what their variables hold -/
abbrev St : Type := Nat → Int → Int
def up (σ : St) (k : Nat) (i v : Int) : St := fun k' i' => if k' = k ∧ i' = i then v else σ k' i'
theorem up_self {σ : St} {k : Nat} {i v : Int} : up σ k i v k i = v := by simp [up]
theorem up_ne {σ : St} {k k' : Nat} {i i' v : Int} (h : k' ≠ k) : up σ k i v k' i' = σ k' i' := by simp [up, h]
theorem up_nek {σ : St} {k k' : Nat} {i v : Int} (h : k' ≠ k) : up σ k i v k' = σ k' := by funext j; simp [up, h]
theorem up_nei {σ : St} {k k' : Nat} {i i' v : Int} (h : i' ≠ i) : up σ k i v k' i' = σ k' i' := by simp [up, h]
def oI (z : Int) : Option Nat := if z < 0 then none else some z.toNat
/-- a field: (0, v) an int variable, (1, k) the address of the cell k, (2, v) a reference variable -/
def fvv (ad : Nat → Nat) (σ : St) (d : Nat × Nat) : Value := match d with
  | (0, v) => .int (iI (σ v 0))
  | (1, k) => .ref (ad k)
  | (_, v) => va_rf (oI (σ v 0))
/-- an array's contents: 0 ints (booleans, bytes), 1 longs, 2 references, 3 references to the cells v, v + 1, .. -/
def arrC (ad : Nat → Nat) (kd v : Nat) (f : Int → Int) : ((Nat → Int32) ⊕ (Nat → Int64) ⊕ (Nat → UInt32) ⊕ (Nat → UInt64) ⊕ (Nat → Option Nat)) := match kd with
  | 0 => .inl (fun j => iI (f j))
  | 1 => .inr (.inl (fun j => lI (f j)))
  | 2 => .inr (.inr (.inr (.inr (fun j => oI (f j)))))
  | _ => .inr (.inr (.inr (.inr (fun j => some (ad (v + j))))))
abbrev CD : Type := (Nat × List (Nat × Nat)) ⊕ (Nat × Nat × Nat × Nat)
abbrev GG : Type := va_G × (Nat → ClassId)
def cellE (cs : Nat → ClassId) (ad : Nat → Nat) (σ : St) (d : CD) : va_E := match d with
  | .inl o => .inr (o.1, o.2.map (fvv ad σ))
  | .inr a => .inl (cs a.1, a.2.2.1, arrC ad a.2.1 a.2.2.2 (σ a.2.2.2))
def wl (cs : Nat → ClassId) (ad : Nat → Nat) (σ : St) (sh : List CD) : va_W := sh.mapIdx (fun k d => (ad k, cellE cs ad σ d))
theorem wl_at {cs : Nat → ClassId} {ad : Nat → Nat} {σ : St} {sh : List CD} {k : Nat} {d : CD} (h : sh[k]? = some d) : (wl cs ad σ sh)[k]? = some (ad k, cellE cs ad σ d) := by
  unfold wl
  rw [List.getElem?_mapIdx, h]
  rfl
theorem wl_of {cs : Nat → ClassId} {ad : Nat → Nat} {σ : St} {sh : List CD} {k : Nat} {q : Nat × va_E} (h : (wl cs ad σ sh)[k]? = some q) : ∃ d, sh[k]? = some d ∧ q = (ad k, cellE cs ad σ d) := by
  unfold wl at h
  rw [List.getElem?_mapIdx] at h
  cases hd : sh[k]? with
  | none => rw [hd] at h; cases h
  | some d => rw [hd] at h; exact ⟨d, rfl, (Option.some.inj h).symm⟩
/-- the cell's variables -/
def hasV (d : CD) (v : Nat) : Bool := match d with
  | .inl o => o.2.any (fun f => f.1 != 1 && f.2 == v)
  | .inr a => a.2.1 < 3 && a.2.2.2 == v
theorem cellE_ne {cs : Nat → ClassId} {ad : Nat → Nat} {σ σ' : St} {d : CD} (h : ∀ v, hasV d v = true → σ' v = σ v) : cellE cs ad σ' d = cellE cs ad σ d := by
  cases d with
  | inl o =>
    unfold cellE
    dsimp only
    congr 2
    apply List.map_congr_left
    intro f hf
    obtain ⟨a, b⟩ := f
    have hv : a ≠ 1 → σ' b = σ b := fun h1 => h b (by
      unfold hasV
      dsimp only
      rw [List.any_eq_true]
      exact ⟨(a, b), hf, by simp [h1]⟩)
    unfold fvv
    split
    · rename_i v e; cases e; rw [hv (by decide)]
    · rfl
    · rename_i x n h0 h1
      cases h1
      rw [hv (fun z => h0 (by rw [z]))]
  | inr a =>
    obtain ⟨t, kd, n, v⟩ := a
    unfold cellE
    dsimp only
    congr 3
    by_cases h3 : kd < 3
    · rw [h v (by simp [hasV, h3])]
    · unfold arrC
      split
      · exact absurd h3 (by decide)
      · exact absurd h3 (by decide)
      · exact absurd h3 (by decide)
      · rfl
def ownS (sh : List CD) (v k : Nat) : Prop := ∀ j d, sh[j]? = some d → hasV d v = true → j = k
def ownB (sh : List CD) (v k : Nat) : Bool := (List.range sh.length).all (fun j => j == k || (match sh[j]? with | some d => !(hasV d v) | none => true))
theorem ownS_of {sh : List CD} {v k : Nat} (h : ownB sh v k = true) : ownS sh v k := by
  intro j d hj hv
  have h1 := List.all_eq_true.mp h j (List.mem_range.mpr (List.getElem?_eq_some_iff.mp hj).1)
  rw [hj] at h1
  simp [hv] at h1
  exact h1
theorem wl_set {cs : Nat → ClassId} {ad : Nat → Nat} {σ σ' : St} {sh : List CD} {k : Nat} {d : CD} (hd : sh[k]? = some d) (h : ∀ j d', sh[j]? = some d' → j ≠ k → ∀ v, hasV d' v = true → σ' v = σ v) : (wl cs ad σ sh).set k (ad k, cellE cs ad σ' d) = wl cs ad σ' sh := by
  apply List.ext_getElem?
  intro j
  rw [List.getElem?_set]
  by_cases hj : k = j
  · subst hj
    rw [if_pos rfl]
    have hlt : k < (wl cs ad σ sh).length := by
      unfold wl
      rw [List.length_mapIdx]
      exact (List.getElem?_eq_some_iff.mp hd).1
    rw [if_pos hlt, wl_at hd]
  · rw [if_neg hj]
    unfold wl
    rw [List.getElem?_mapIdx, List.getElem?_mapIdx]
    cases hd' : sh[j]? with
    | none => rfl
    | some d' =>
      show some (ad j, cellE cs ad σ d') = some (ad j, cellE cs ad σ' d')
      rw [cellE_ne (h j d' hd' (Ne.symm hj))]
/-- the cells' addresses are apart -/
def apartN (ad : Nat → Nat) (n : Nat) : Prop := ∀ i j, i < n → j < n → ad i = ad j → i = j
/-- the cells of a world -/
def inA (ad : Nat → Nat) (n : Nat) : Nat → Prop := fun q => ∃ k, k < n ∧ q = ad k
theorem wl_D {cs : Nat → ClassId} {ad : Nat → Nat} {σ : St} {sh : List CD} {A : Nat → Prop} {n : Nat} (hn : sh.length = n) (h : apartN ad n) (hA : ∀ k, k < n → A (ad k)) : va_D A (wl cs ad σ sh) := by
  subst hn
  refine ⟨fun i j p q hi hj hpq => ?_, fun k q hk => ?_⟩
  · obtain ⟨d1, h1, rfl⟩ := wl_of hi
    obtain ⟨d2, h2, rfl⟩ := wl_of hj
    exact h i j (List.getElem?_eq_some_iff.mp h1).1 (List.getElem?_eq_some_iff.mp h2).1 hpq
  · obtain ⟨d1, h1, rfl⟩ := wl_of hk
    exact hA k (List.getElem?_eq_some_iff.mp h1).1
/-- the world stands: the heap holds the shape's cells, apart, all of A's kind -/
def WP (cl : List vw_C) (G : GG) (sh : List CD) (ad : Nat → Nat) (σ : St) (H : Heap) : Prop := va_P G.1 cl (wl G.2 ad σ sh) H
theorem WP.at {cl : List vw_C} {G : GG} {sh : List CD} {ad : Nat → Nat} {σ : St} {H : Heap} (h : WP cl G sh ad σ H) {k : Nat} {d : CD} (hd : sh[k]? = some d) : va_at G.1 cl (ad k, cellE G.2 ad σ d) H := h k _ (wl_at hd)
theorem WP.of {cl : List vw_C} {G : GG} {sh : List CD} {ad : Nat → Nat} {σ : St} {H : Heap} (h : ∀ k d, sh[k]? = some d → va_at G.1 cl (ad k, cellE G.2 ad σ d) H) : WP cl G sh ad σ H := by
  intro k q hk
  obtain ⟨d, h1, rfl⟩ := wl_of hk
  exact h k d h1
theorem WP.kept {cl : List vw_C} {G : GG} {sh : List CD} {ad : Nat → Nat} {σ : St} {H H1 : Heap} (h : WP cl G sh ad σ H) {n : Nat} (hn : sh.length = n) (hq : ∀ k, k < n → H1[ad k]? = H[ad k]?) : WP cl G sh ad σ H1 := by
  subst hn
  exact WP.of (fun k d hd => (h.at hd).kept (hq k (List.getElem?_eq_some_iff.mp hd).1))
section
variable {p : Program} {l : Launch} {e : Env} {R : Room} {s : State} {m : MethodId} {args : Array Value} {below : List Frame} {meth : Method} {c : Code} {H H0 : Heap} {locs : List Loc} {cells slots : Nat} {Q : State → Prop} {cc : ByteArray} {nL : Nat} {own : String} {Ts : List Cond} {pc : Nat} {ls : Array Slot} {rest : List Value}
variable {cl : List vw_C} {tys : List (ClassId × FieldType)} {G : GG} {sh : List CD} {ad : Nat → Nat} {σ : St} {A : Nat → Prop} {nW : Nat}
/-- the whole of what a place in a method knows of its world -/
def Wd (cl : List vw_C) (tys : List (ClassId × FieldType)) (G : GG) (sh : List CD) (ad : Nat → Nat) (A : Nat → Prop) (s : State) (H0 : Heap) (σ : St) (H : Heap) (locs : List Loc) : Prop :=
  va_K G.1 cl tys s ∧ apartN ad sh.length ∧ (∀ k, k < sh.length → A (ad k)) ∧ WP cl G sh ad σ H ∧ va_S A H0 H locs
theorem Wd.D (h : Wd cl tys G sh ad A s H0 σ H locs) : va_D A (wl G.2 ad σ sh) := wl_D rfl h.2.1 h.2.2.1
/-- getfield of a variable or of a fixed reference -/
theorem w_get (S : CallFix p m c cc nL s args Ts own) (h : Wd cl tys G sh ad A s H0 σ H locs) {ref C : String} {T : u_T} {N ci index : Nat} (hin : ∀ w ∈ u_ws C T N, w ∈ Ts) (q0 : Nat) {fds : List (Nat × Nat)} (he : sh[q0]? = some (.inl (ci, fds))) (hc : cl[ci]? = some (C, T, N)) (k : Nat) (hk : k < N) (hlink : Cond.fieldLink own index ref (T k).2.1 (T k).2.2.1 ∈ Ts) (href : ref = (T k).1) {d : Nat × Nat} (hf : fds[k]? = some d) {v : Value} (hv : fvv ad σ d = v) (hdg : decode cc pc = .ok (.getfield index, 3))
    (kk : W p l e R s m args below meth c H locs cells slots Q (F0 m (pc + 3) ls (v :: rest))) : W p l e R s m args below meth c H locs cells slots Q (F0 m pc ls (.ref (ad q0) :: rest)) := by
  subst href
  refine va_get (D := G.1) (ci := ci) (v := v) (C := C) (T := T) (N := N) S.1 S.2.1 S.2.2.2.2 hin S.2.2.2.1 h.1 h.2.2.2.1 q0 (wl_at he) hc k hk (S.2.2.2.2 _ hlink) (fun _ h9 => h9) ?_ hdg kk
  rw [List.getElem?_map, hf, ← hv]
  rfl
theorem w_geti (S : CallFix p m c cc nL s args Ts own) (h : Wd cl tys G sh ad A s H0 σ H locs) {ref C : String} {T : u_T} {N ci index : Nat} (hin : ∀ w ∈ u_ws C T N, w ∈ Ts) (q0 : Nat) {fds : List (Nat × Nat)} (he : sh[q0]? = some (.inl (ci, fds))) (hc : cl[ci]? = some (C, T, N)) (k : Nat) (hk : k < N) (hlink : Cond.fieldLink own index ref (T k).2.1 (T k).2.2.1 ∈ Ts) (href : ref = (T k).1) {v : Nat} (hf : fds[k]? = some (0, v)) (hdg : decode cc pc = .ok (.getfield index, 3))
    (kk : W p l e R s m args below meth c H locs cells slots Q (F0 m (pc + 3) ls (.int (iI (σ v 0)) :: rest))) : W p l e R s m args below meth c H locs cells slots Q (F0 m pc ls (.ref (ad q0) :: rest)) := w_get S h hin q0 he hc k hk hlink href hf rfl hdg kk
theorem w_getr (S : CallFix p m c cc nL s args Ts own) (h : Wd cl tys G sh ad A s H0 σ H locs) {ref C : String} {T : u_T} {N ci index : Nat} (hin : ∀ w ∈ u_ws C T N, w ∈ Ts) (q0 : Nat) {fds : List (Nat × Nat)} (he : sh[q0]? = some (.inl (ci, fds))) (hc : cl[ci]? = some (C, T, N)) (k : Nat) (hk : k < N) (hlink : Cond.fieldLink own index ref (T k).2.1 (T k).2.2.1 ∈ Ts) (href : ref = (T k).1) {v : Nat} (hf : fds[k]? = some (1, v)) (hdg : decode cc pc = .ok (.getfield index, 3))
    (kk : W p l e R s m args below meth c H locs cells slots Q (F0 m (pc + 3) ls (.ref (ad v) :: rest))) : W p l e R s m args below meth c H locs cells slots Q (F0 m pc ls (.ref (ad q0) :: rest)) := w_get S h hin q0 he hc k hk hlink href hf rfl hdg kk
theorem fvv_set {fds : List (Nat × Nat)} {k v : Nat} {kd : Nat} {z : Int} (hf : fds[k]? = some (kd, v)) (hkd : kd ≠ 1) (hu : ∀ j d, fds[j]? = some d → d.1 ≠ 1 → d.2 = v → j = k) : (fds.map (fvv ad σ)).set k (fvv ad (up σ v 0 z) (kd, v)) = fds.map (fvv ad (up σ v 0 z)) := by
  apply List.ext_getElem?
  intro j
  rw [List.getElem?_set, List.length_map]
  by_cases hj : k = j
  · subst hj
    rw [if_pos rfl, if_pos (List.getElem?_eq_some_iff.mp hf).1, List.getElem?_map, hf]
    rfl
  · rw [if_neg hj, List.getElem?_map, List.getElem?_map]
    cases hd : fds[j]? with
    | none => rfl
    | some d =>
      obtain ⟨a, b⟩ := d
      show some (fvv ad σ (a, b)) = some (fvv ad (up σ v 0 z) (a, b))
      congr 1
      by_cases ha : a = 1
      · subst ha; rfl
      · have hb : b ≠ v := fun hb => hj (hu j (a, b) hd ha hb).symm
        unfold fvv
        split
        · rename_i e; cases e; rw [up_ne hb]
        · rfl
        · rename_i e; cases e; rw [up_ne hb]
def uniB (fds : List (Nat × Nat)) (v k : Nat) : Bool := (List.range fds.length).all (fun j => j == k || (match fds[j]? with | some d => d.1 == 1 || d.2 != v | none => true))
theorem uni_of {fds : List (Nat × Nat)} {v k : Nat} (h : uniB fds v k = true) : ∀ j d, fds[j]? = some d → d.1 ≠ 1 → d.2 = v → j = k := by
  intro j d hj h1 h2
  have h3 := List.all_eq_true.mp h j (List.mem_range.mpr (List.getElem?_eq_some_iff.mp hj).1)
  rw [hj] at h3
  simp [h1, h2] at h3
  exact h3
theorem w_put (S : CallFix p m c cc nL s args Ts own) (h : Wd cl tys G sh ad A s H0 σ H locs) {ref C : String} {T : u_T} {N ci index : Nat} (hin : ∀ w ∈ u_ws C T N, w ∈ Ts) (ty0 : Nat → FieldType) (hty : ∀ k, k < N → parseFieldDescriptor (T k).2.2.1 = some (ty0 k)) (hnm : ∀ a, a < N → ∀ b, b < N → a ≠ b → (T a).2.1 ≠ (T b).2.1) (q0 : Nat) {fds : List (Nat × Nat)} (he : sh[q0]? = some (.inl (ci, fds))) (hc : cl[ci]? = some (C, T, N)) (k : Nat) (hk : k < N) (hlink : Cond.fieldLink own index ref (T k).2.1 (T k).2.2.1 ∈ Ts) (href : ref = (T k).1) (hfin : (T k).2.2.2 = false) {kd v : Nat} (hf : fds[k]? = some (kd, v)) (hkd : kd ≠ 1) (hown : ownB sh v q0 = true) (huni : uniB fds v k = true) {z : Int} {x : Value} (hx : x = fvv ad (up σ v 0 z) (kd, v)) (hn : narrow (ty0 k) x = x) (hfit : fits (ty0 k) x = true) (hdg : decode cc pc = .ok (.putfield index, 3))
    (kk : ∀ (H1 : Heap) (locs1 : List Loc), Wd cl tys G sh ad A s H0 (up σ v 0 z) H1 locs1 → W p l e R s m args below meth c H1 locs1 cells slots Q (F0 m (pc + 3) ls rest)) : W p l e R s m args below meth c H locs cells slots Q (F0 m pc ls (x :: .ref (ad q0) :: rest)) := by
  subst href
  refine va_put (D := G.1) (ci := ci) (v := x) (ty := ty0 k) (C := C) (T := T) (N := N) S.1 S.2.1 S.2.2.2.2 hin ty0 hty hnm S.2.2.2.1 h.1 h.2.2.2.1 h.D h.2.2.2.2 q0 (wl_at he) hc k hk (S.2.2.2.2 _ hlink) (fun _ h9 => h9) hfin (hty k hk) hn hfit (by rw [List.length_map]; exact (List.getElem?_eq_some_iff.mp hf).1) hdg (fun H1 locs1 hP hD hS => ?_)
  refine kk H1 locs1 ⟨h.1, h.2.1, h.2.2.1, ?_, hS⟩
  rw [hx] at hP
  rw [fvv_set hf hkd (uni_of huni)] at hP
  have e : (wl G.2 ad σ sh).set q0 (ad q0, cellE G.2 ad (up σ v 0 z) (.inl (ci, fds))) = wl G.2 ad (up σ v 0 z) sh := wl_set he (fun j d' hj hne v' hv' => up_nek (fun z9 => hne (ownS_of hown j d' hj (by rw [← z9]; exact hv'))))
  unfold WP
  rw [← e]
  exact hP
theorem nar_int (x : Int32) : narrow .int (.int x) = .int x := rfl
theorem w_puti (S : CallFix p m c cc nL s args Ts own) (h : Wd cl tys G sh ad A s H0 σ H locs) {ref C : String} {T : u_T} {N ci index : Nat} (hin : ∀ w ∈ u_ws C T N, w ∈ Ts) (ty0 : Nat → FieldType) (hty : ∀ k, k < N → parseFieldDescriptor (T k).2.2.1 = some (ty0 k)) (hnm : ∀ a, a < N → ∀ b, b < N → a ≠ b → (T a).2.1 ≠ (T b).2.1) (q0 : Nat) {fds : List (Nat × Nat)} (he : sh[q0]? = some (.inl (ci, fds))) (hc : cl[ci]? = some (C, T, N)) (k : Nat) (hk : k < N) (hlink : Cond.fieldLink own index ref (T k).2.1 (T k).2.2.1 ∈ Ts) (href : ref = (T k).1) (hfin : (T k).2.2.2 = false) {v : Nat} (hf : fds[k]? = some (0, v)) (hown : ownB sh v q0 = true) (huni : uniB fds v k = true) {z : Int} (hi : ty0 k = .int) (hdg : decode cc pc = .ok (.putfield index, 3))
    (kk : ∀ (H1 : Heap) (locs1 : List Loc), Wd cl tys G sh ad A s H0 (up σ v 0 z) H1 locs1 → W p l e R s m args below meth c H1 locs1 cells slots Q (F0 m (pc + 3) ls rest)) : W p l e R s m args below meth c H locs cells slots Q (F0 m pc ls (.int (iI z) :: .ref (ad q0) :: rest)) :=
  w_put S h hin ty0 hty hnm q0 he hc k hk hlink href hfin hf (by decide) hown huni (z := z) (show Value.int (iI z) = .int (iI (up σ v 0 z v 0)) by rw [up_self]) (by rw [hi]; rfl) (by rw [hi]; rfl) hdg kk
theorem w_putz (S : CallFix p m c cc nL s args Ts own) (h : Wd cl tys G sh ad A s H0 σ H locs) {ref C : String} {T : u_T} {N ci index : Nat} (hin : ∀ w ∈ u_ws C T N, w ∈ Ts) (ty0 : Nat → FieldType) (hty : ∀ k, k < N → parseFieldDescriptor (T k).2.2.1 = some (ty0 k)) (hnm : ∀ a, a < N → ∀ b, b < N → a ≠ b → (T a).2.1 ≠ (T b).2.1) (q0 : Nat) {fds : List (Nat × Nat)} (he : sh[q0]? = some (.inl (ci, fds))) (hc : cl[ci]? = some (C, T, N)) (k : Nat) (hk : k < N) (hlink : Cond.fieldLink own index ref (T k).2.1 (T k).2.2.1 ∈ Ts) (href : ref = (T k).1) (hfin : (T k).2.2.2 = false) {v : Nat} (hf : fds[k]? = some (0, v)) (hown : ownB sh v q0 = true) (huni : uniB fds v k = true) {z : Int} (hi : ty0 k = .boolean) (hz : z = 0 ∨ z = 1) (hdg : decode cc pc = .ok (.putfield index, 3))
    (kk : ∀ (H1 : Heap) (locs1 : List Loc), Wd cl tys G sh ad A s H0 (up σ v 0 z) H1 locs1 → W p l e R s m args below meth c H1 locs1 cells slots Q (F0 m (pc + 3) ls rest)) : W p l e R s m args below meth c H locs cells slots Q (F0 m pc ls (.int (iI z) :: .ref (ad q0) :: rest)) :=
  w_put S h hin ty0 hty hnm q0 he hc k hk hlink href hfin hf (by decide) hown huni (z := z) (show Value.int (iI z) = .int (iI (up σ v 0 z v 0)) by rw [up_self]) (by rw [hi]; rcases hz with rfl | rfl <;> rfl) (by rw [hi]; rcases hz with rfl | rfl <;> rfl) hdg kk
theorem clampN {i : Int} (h : 0 ≤ i ∧ i < 2147483648) : (((iI i).toNatClampNeg : Nat) : Int) = i := by
  rw [iI_cl h]
  omega
theorem w_ald (S : CallFix p m c cc nL s args Ts own) (h : Wd cl tys G sh ad A s H0 σ H locs) (q0 t0 : Nat) {t n v : Nat} (he : sh[q0]? = some (.inr (t, 0, n, v))) (ht : tys[t0]? = some (G.2 t, .int)) {i : Int} (hi : 0 ≤ i ∧ i < n ∧ i < 2147483648) (hdg : decode cc pc = .ok (.iaload, 1))
    (kk : W p l e R s m args below meth c H locs cells slots Q (F0 m (pc + 1) ls (.int (iI (σ v i)) :: rest))) : W p l e R s m args below meth c H locs cells slots Q (F0 m pc ls (.int (iI i) :: .ref (ad q0) :: rest)) := by
  refine va_iald (f := fun j : Nat => iI (σ v j)) S.1 S.2.1 h.1 h.2.2.2.1 q0 t0 (wl_at he) ht (iI_in hi) hdg ?_
  rw [clampN ⟨hi.1, hi.2.2⟩]
  exact kk
theorem w_zald (S : CallFix p m c cc nL s args Ts own) (h : Wd cl tys G sh ad A s H0 σ H locs) (q0 t0 : Nat) {t n v : Nat} (he : sh[q0]? = some (.inr (t, 0, n, v))) (ht : tys[t0]? = some (G.2 t, .boolean)) {i : Int} (hi : 0 ≤ i ∧ i < n ∧ i < 2147483648) (hdg : decode cc pc = .ok (.baload, 1))
    (kk : W p l e R s m args below meth c H locs cells slots Q (F0 m (pc + 1) ls (.int (iI (σ v i)) :: rest))) : W p l e R s m args below meth c H locs cells slots Q (F0 m pc ls (.int (iI i) :: .ref (ad q0) :: rest)) := by
  refine va_zald (f := fun j : Nat => iI (σ v j)) S.1 S.2.1 h.1 h.2.2.2.1 q0 t0 (wl_at he) ht (iI_in hi) hdg ?_
  rw [clampN ⟨hi.1, hi.2.2⟩]
  exact kk
theorem w_bald (S : CallFix p m c cc nL s args Ts own) (h : Wd cl tys G sh ad A s H0 σ H locs) (q0 t0 : Nat) {t n v : Nat} (he : sh[q0]? = some (.inr (t, 0, n, v))) (ht : tys[t0]? = some (G.2 t, .byte)) {i : Int} (hi : 0 ≤ i ∧ i < n ∧ i < 2147483648) (hdg : decode cc pc = .ok (.baload, 1))
    (kk : W p l e R s m args below meth c H locs cells slots Q (F0 m (pc + 1) ls (.int (iI (σ v i)) :: rest))) : W p l e R s m args below meth c H locs cells slots Q (F0 m pc ls (.int (iI i) :: .ref (ad q0) :: rest)) := by
  refine va_bald (f := fun j : Nat => iI (σ v j)) S.1 S.2.1 h.1 h.2.2.2.1 q0 t0 (wl_at he) ht (iI_in hi) hdg ?_
  rw [clampN ⟨hi.1, hi.2.2⟩]
  exact kk
theorem w_lald (S : CallFix p m c cc nL s args Ts own) (h : Wd cl tys G sh ad A s H0 σ H locs) (q0 t0 : Nat) {t n v : Nat} (he : sh[q0]? = some (.inr (t, 1, n, v))) (ht : tys[t0]? = some (G.2 t, .long)) {i : Int} (hi : 0 ≤ i ∧ i < n ∧ i < 2147483648) (hdg : decode cc pc = .ok (.laload, 1))
    (kk : W p l e R s m args below meth c H locs cells slots Q (F0 m (pc + 1) ls (.long (lI (σ v i)) :: rest))) : W p l e R s m args below meth c H locs cells slots Q (F0 m pc ls (.int (iI i) :: .ref (ad q0) :: rest)) := by
  refine va_lald (f := fun j : Nat => lI (σ v j)) S.1 S.2.1 h.1 h.2.2.2.1 q0 t0 (wl_at he) ht (iI_in hi) hdg ?_
  rw [clampN ⟨hi.1, hi.2.2⟩]
  exact kk
theorem wl_setA {t kd n v q0 : Nat} (hkd : kd < 3) (he : sh[q0]? = some (.inr (t, kd, n, v))) (hown : ownB sh v q0 = true) (i z : Int) : (wl G.2 ad σ sh).set q0 (ad q0, .inl (G.2 t, n, arrC ad kd v (up σ v i z v))) = wl G.2 ad (up σ v i z) sh :=
  wl_set (d := .inr (t, kd, n, v)) he (fun j d' hj hne v' hv' => up_nek (fun z9 => hne (ownS_of hown j d' hj (by rw [← z9]; exact hv'))))
theorem upd_iI {v : Nat} {i z : Int} (hi : 0 ≤ i ∧ i < 2147483648) : upd (fun j : Nat => iI (σ v j)) (iI i).toNatClampNeg (iI z) = fun j : Nat => iI (up σ v i z v j) := by
  funext j
  unfold upd up
  rw [iI_cl hi]
  by_cases hj : j = i.toNat
  · rw [if_pos hj, if_pos ⟨rfl, by omega⟩]
  · rw [if_neg hj, if_neg (fun z9 => hj (by omega))]
theorem w_ast (S : CallFix p m c cc nL s args Ts own) (h : Wd cl tys G sh ad A s H0 σ H locs) (q0 t0 : Nat) {t n v : Nat} (he : sh[q0]? = some (.inr (t, 0, n, v))) (ht : tys[t0]? = some (G.2 t, .int)) (hown : ownB sh v q0 = true) {i z : Int} (hi : 0 ≤ i ∧ i < n ∧ i < 2147483648) (hdg : decode cc pc = .ok (.iastore, 1))
    (kk : ∀ (H1 : Heap) (locs1 : List Loc), Wd cl tys G sh ad A s H0 (up σ v i z) H1 locs1 → W p l e R s m args below meth c H1 locs1 cells slots Q (F0 m (pc + 1) ls rest)) : W p l e R s m args below meth c H locs cells slots Q (F0 m pc ls (.int (iI z) :: .int (iI i) :: .ref (ad q0) :: rest)) := by
  refine va_iast (f := fun j : Nat => iI (σ v j)) S.1 S.2.1 h.1 h.2.2.2.1 h.D h.2.2.2.2 q0 t0 (wl_at he) ht (iI_in hi) hdg (fun H1 locs1 hP hD hS => kk H1 locs1 ⟨h.1, h.2.1, h.2.2.1, ?_, hS⟩)
  unfold WP
  rw [← wl_setA (by decide) he hown]
  rw [upd_iI ⟨hi.1, hi.2.2⟩] at hP
  exact hP
theorem w_zast (S : CallFix p m c cc nL s args Ts own) (h : Wd cl tys G sh ad A s H0 σ H locs) (q0 t0 : Nat) {t n v : Nat} (he : sh[q0]? = some (.inr (t, 0, n, v))) (ht : tys[t0]? = some (G.2 t, .boolean)) (hown : ownB sh v q0 = true) {i z : Int} (hi : 0 ≤ i ∧ i < n ∧ i < 2147483648) (hz : z = 0 ∨ z = 1) (hdg : decode cc pc = .ok (.bastore, 1))
    (kk : ∀ (H1 : Heap) (locs1 : List Loc), Wd cl tys G sh ad A s H0 (up σ v i z) H1 locs1 → W p l e R s m args below meth c H1 locs1 cells slots Q (F0 m (pc + 1) ls rest)) : W p l e R s m args below meth c H locs cells slots Q (F0 m pc ls (.int (iI z) :: .int (iI i) :: .ref (ad q0) :: rest)) := by
  refine va_zast (f := fun j : Nat => iI (σ v j)) S.1 S.2.1 h.1 h.2.2.2.1 h.D h.2.2.2.2 q0 t0 (wl_at he) ht (iI_in hi) hdg (fun H1 locs1 hP hD hS => kk H1 locs1 ⟨h.1, h.2.1, h.2.2.1, ?_, hS⟩)
  unfold WP
  rw [← wl_setA (by decide) he hown]
  rw [show vp_nar .boolean (iI z) = iI z by rcases hz with rfl | rfl <;> rfl, upd_iI ⟨hi.1, hi.2.2⟩] at hP
  exact hP
theorem nar_byte {z : Int} (h : -128 ≤ z ∧ z < 128) : vp_nar .byte (iI z) = iI z := by
  rw [vp_nar_byte]
  unfold iI
  rw [Int32.toInt8_ofInt]
  apply Int32.toInt_inj.mp
  rw [Int8.toInt_toInt32, Int8.toInt_ofInt_of_le (by omega) (by omega), Int32.toInt_ofInt_of_le (by omega) (by omega)]
theorem w_bast (S : CallFix p m c cc nL s args Ts own) (h : Wd cl tys G sh ad A s H0 σ H locs) (q0 t0 : Nat) {t n v : Nat} (he : sh[q0]? = some (.inr (t, 0, n, v))) (ht : tys[t0]? = some (G.2 t, .byte)) (hown : ownB sh v q0 = true) {i z : Int} (hi : 0 ≤ i ∧ i < n ∧ i < 2147483648) (hz : -128 ≤ z ∧ z < 128) (hdg : decode cc pc = .ok (.bastore, 1))
    (kk : ∀ (H1 : Heap) (locs1 : List Loc), Wd cl tys G sh ad A s H0 (up σ v i z) H1 locs1 → W p l e R s m args below meth c H1 locs1 cells slots Q (F0 m (pc + 1) ls rest)) : W p l e R s m args below meth c H locs cells slots Q (F0 m pc ls (.int (iI z) :: .int (iI i) :: .ref (ad q0) :: rest)) := by
  refine va_bast (f := fun j : Nat => iI (σ v j)) S.1 S.2.1 h.1 h.2.2.2.1 h.D h.2.2.2.2 q0 t0 (wl_at he) ht (iI_in hi) hdg (fun H1 locs1 hP hD hS => kk H1 locs1 ⟨h.1, h.2.1, h.2.2.1, ?_, hS⟩)
  unfold WP
  rw [← wl_setA (by decide) he hown]
  rw [nar_byte hz, upd_iI ⟨hi.1, hi.2.2⟩] at hP
  exact hP
theorem w_last (S : CallFix p m c cc nL s args Ts own) (h : Wd cl tys G sh ad A s H0 σ H locs) (q0 t0 : Nat) {t n v : Nat} (he : sh[q0]? = some (.inr (t, 1, n, v))) (ht : tys[t0]? = some (G.2 t, .long)) (hown : ownB sh v q0 = true) {i z : Int} (hi : 0 ≤ i ∧ i < n ∧ i < 2147483648) (hdg : decode cc pc = .ok (.lastore, 1))
    (kk : ∀ (H1 : Heap) (locs1 : List Loc), Wd cl tys G sh ad A s H0 (up σ v i z) H1 locs1 → W p l e R s m args below meth c H1 locs1 cells slots Q (F0 m (pc + 1) ls rest)) : W p l e R s m args below meth c H locs cells slots Q (F0 m pc ls (.long (lI z) :: .int (iI i) :: .ref (ad q0) :: rest)) := by
  refine va_last (f := fun j : Nat => lI (σ v j)) S.1 S.2.1 h.1 h.2.2.2.1 h.D h.2.2.2.2 q0 t0 (wl_at he) ht (iI_in hi) hdg (fun H1 locs1 hP hD hS => kk H1 locs1 ⟨h.1, h.2.1, h.2.2.1, ?_, hS⟩)
  unfold WP
  rw [← wl_setA (by decide) he hown]
  have e : vp_updL (fun j : Nat => lI (σ v j)) (iI i).toNatClampNeg (lI z) = fun j : Nat => lI (up σ v i z v j) := by
    funext j
    unfold vp_updL up
    rw [iI_cl ⟨hi.1, hi.2.2⟩]
    by_cases hj : j = i.toNat
    · rw [if_pos hj, if_pos ⟨rfl, by omega⟩]
    · rw [if_neg hj, if_neg (fun z9 => hj (by omega))]
  rw [e] at hP
  exact hP
end
