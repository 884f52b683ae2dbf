/-! the reference's world: OneDrumModel and its arrays; variable k: the field k -/
def shM : List CD := [.inl (0, [(1, 1), (1, 2), (0, 2), (0, 3), (0, 4), (0, 5), (0, 6), (0, 7), (0, 8), (1, 3), (0, 10), (0, 11), (1, 4), (1, 5), (1, 6), (1, 7), (1, 8), (1, 9), (0, 18), (1, 10), (1, 11), (1, 12), (1, 13), (1, 14), (1, 15), (0, 25), (1, 16), (1, 17), (1, 18), (0, 29), (1, 19), (1, 20), (1, 21), (0, 33), (1, 22), (1, 23), (1, 24), (1, 25)]), .inr (0, 0, 3736, 0), .inr (1, 0, 3, 1), .inr (0, 0, 89, 9), .inr (0, 0, 24, 12), .inr (0, 0, 2, 13), .inr (0, 0, 24, 14), .inr (0, 0, 24, 15), .inr (0, 0, 24, 16), .inr (1, 0, 24, 17), .inr (0, 0, 48, 19), .inr (0, 0, 48, 20), .inr (0, 0, 48, 21), .inr (0, 0, 2, 22), .inr (0, 0, 2, 23), .inr (0, 0, 2, 24), .inr (0, 0, 64, 26), .inr (0, 0, 64, 27), .inr (0, 0, 65, 28), .inr (0, 0, 480, 30), .inr (0, 0, 8, 31), .inr (0, 0, 128, 32), .inr (0, 0, 10, 34), .inr (3, 1, 25, 35), .inr (0, 0, 25, 36), .inr (0, 0, 30, 37)]
abbrev aM (ad : Nat → Nat) : Nat → Prop := inA ad shM.length

set_option maxHeartbeats 4000000 in
theorem tX5_isIn (l : Launch) (v : Int) (least : Int) (most : Int) (h : -2147483648 ≤ v ∧ v < 2147483648 ∧ -2147483648 ≤ least ∧ least < 2147483648 ∧ -2147483648 ≤ most ∧ most < 2147483648) : Met l yX5_isIn (ws_ yX5_isIn cX5_isIn 3 (some .boolean)) ⟨0, 0, 0, 0⟩ (va_Pc [.int (iI v), .int (iI least), .int (iI most)] (fun _ => True)) (qP (.int (iI (b2i (dP (least ≤ v ∧ v ≤ most)))))) 0 0 (fun _ => False) := by
  refine sStart (by decide) (Nat.le_of_ble_eq_true rfl) (fun p e s m below meth c S hr hlk ls hW hl => ?_)
  have hl : lv_has ls 3 [(0, .int (iI v)), (1, .int (iI least)), (2, .int (iI most))] := hl
  refine lv_iload_n S.1 S.2.1 dX5_isIn_0 rfl (lv_at hl 0 rfl) ?_
  refine lv_iload_n S.1 S.2.1 dX5_isIn_1 rfl (lv_at hl 1 rfl) ?_
  refine r_icmp_lt S (tgt := 14) dX5_isIn_2 rfl (by omega) (fun c_2 => ?_) (fun c_2 => ?_)
  ·
    refine r_iconst S dX5_isIn_14 ?_
    exact e_zP S hr hlk hW (by first | exact dP_1 (by omega) | exact dP_0 (by omega) | rfl) dX5_isIn_15
  ·
    refine lv_iload_n S.1 S.2.1 dX5_isIn_5 rfl (lv_at hl 0 rfl) ?_
    refine lv_iload_n S.1 S.2.1 dX5_isIn_6 rfl (lv_at hl 2 rfl) ?_
    refine r_icmp_gt S (tgt := 14) dX5_isIn_7 rfl (by omega) (fun c_7 => ?_) (fun c_7 => ?_)
    ·
      refine r_iconst S dX5_isIn_14 ?_
      exact e_zP S hr hlk hW (by first | exact dP_1 (by omega) | exact dP_0 (by omega) | rfl) dX5_isIn_15
    ·
      refine r_iconst S dX5_isIn_10 ?_
      refine lv_goto (tgt := 15) S.1 S.2.1 dX5_isIn_11 rfl ?_
      exact e_zP S hr hlk hW (by first | exact dP_1 (by omega) | exact dP_0 (by omega) | rfl) dX5_isIn_15
set_option maxHeartbeats 4000000 in
theorem tX5_lesser (l : Launch) (a : Int) (b : Int) (h : -2147483648 ≤ a ∧ a < 2147483648 ∧ -2147483648 ≤ b ∧ b < 2147483648) : Met l yX5_lesser (ws_ yX5_lesser cX5_lesser 2 (some .int)) ⟨0, 0, 0, 0⟩ (va_Pc [.int (iI a), .int (iI b)] (fun _ => True)) (qP (.int (iI (min a b)))) 0 0 (fun _ => False) := by
  refine sStart (by decide) (Nat.le_of_ble_eq_true rfl) (fun p e s m below meth c S hr hlk ls hW hl => ?_)
  have hl : lv_has ls 2 [(0, .int (iI a)), (1, .int (iI b))] := hl
  refine lv_iload_n S.1 S.2.1 dX5_lesser_0 rfl (lv_at hl 0 rfl) ?_
  refine lv_iload_n S.1 S.2.1 dX5_lesser_1 rfl (lv_at hl 1 rfl) ?_
  refine r_icmp_ge S (tgt := 9) dX5_lesser_2 rfl (by omega) (fun c_2 => ?_) (fun c_2 => ?_)
  ·
    refine lv_iload_n S.1 S.2.1 dX5_lesser_9 rfl (lv_at hl 1 rfl) ?_
    exact e_iP S hr hlk hW (by omega) dX5_lesser_10
  ·
    refine lv_iload_n S.1 S.2.1 dX5_lesser_5 rfl (lv_at hl 0 rfl) ?_
    refine lv_goto (tgt := 10) S.1 S.2.1 dX5_lesser_6 rfl ?_
    exact e_iP S hr hlk hW (by omega) dX5_lesser_10
set_option maxHeartbeats 4000000 in
theorem tX5_placeOf (l : Launch) (sort : Int) (k : Int) (h : -2147483648 ≤ sort ∧ sort < 2147483648) : Met l yX5_placeOf (ws_ yX5_placeOf cX5_placeOf 2 (some .int)) ⟨0, 0, 0, 0⟩ (va_Pc [.int (iI sort), .int (iI k)] (fun _ => True)) (qP (.int (iI (if sort = 0 then 610 + 89 * k else if sort = 1 then 788 + 26 * k else if sort = 2 then 840 + 14 * k else 868 + 33 * k)))) 0 0 (fun _ => False) := by
  refine sStart (by decide) (Nat.le_of_ble_eq_true rfl) (fun p e s m below meth c S hr hlk ls hW hl => ?_)
  have hl : lv_has ls 2 [(0, .int (iI sort)), (1, .int (iI k))] := hl
  refine lv_iload_n S.1 S.2.1 dX5_placeOf_0 rfl (lv_at hl 0 rfl) ?_
  refine r_if_ne S (tgt := 15) dX5_placeOf_1 rfl (by omega) (fun c_1 => ?_) (fun c_1 => ?_)
  ·
    refine lv_iload_n S.1 S.2.1 dX5_placeOf_15 rfl (lv_at hl 0 rfl) ?_
    refine r_iconst S dX5_placeOf_16 ?_
    refine r_icmp_ne S (tgt := 31) dX5_placeOf_17 rfl (by omega) (fun c_17 => ?_) (fun c_17 => ?_)
    ·
      refine lv_iload_n S.1 S.2.1 dX5_placeOf_31 rfl (lv_at hl 0 rfl) ?_
      refine r_iconst S dX5_placeOf_32 ?_
      refine r_icmp_ne S (tgt := 47) dX5_placeOf_33 rfl (by omega) (fun c_33 => ?_) (fun c_33 => ?_)
      ·
        refine r_sipush S dX5_placeOf_47 (by decide) ?_
        refine r_bipush S dX5_placeOf_50 (by decide) ?_
        refine lv_iload_n S.1 S.2.1 dX5_placeOf_52 rfl (lv_at hl 1 rfl) ?_
        refine r_imul S dX5_placeOf_53 ?_
        refine r_iadd S dX5_placeOf_54 ?_
        exact e_iP S hr hlk hW (by simp [*]) dX5_placeOf_55
      ·
        refine r_sipush S dX5_placeOf_36 (by decide) ?_
        refine r_bipush S dX5_placeOf_39 (by decide) ?_
        refine lv_iload_n S.1 S.2.1 dX5_placeOf_41 rfl (lv_at hl 1 rfl) ?_
        refine r_imul S dX5_placeOf_42 ?_
        refine r_iadd S dX5_placeOf_43 ?_
        refine lv_goto (tgt := 55) S.1 S.2.1 dX5_placeOf_44 rfl ?_
        exact e_iP S hr hlk hW (by simp [*]) dX5_placeOf_55
    ·
      refine r_sipush S dX5_placeOf_20 (by decide) ?_
      refine r_bipush S dX5_placeOf_23 (by decide) ?_
      refine lv_iload_n S.1 S.2.1 dX5_placeOf_25 rfl (lv_at hl 1 rfl) ?_
      refine r_imul S dX5_placeOf_26 ?_
      refine r_iadd S dX5_placeOf_27 ?_
      refine lv_goto (tgt := 55) S.1 S.2.1 dX5_placeOf_28 rfl ?_
      exact e_iP S hr hlk hW (by simp [*]) dX5_placeOf_55
  ·
    refine r_sipush S dX5_placeOf_4 (by decide) ?_
    refine r_bipush S dX5_placeOf_7 (by decide) ?_
    refine lv_iload_n S.1 S.2.1 dX5_placeOf_9 rfl (lv_at hl 1 rfl) ?_
    refine r_imul S dX5_placeOf_10 ?_
    refine r_iadd S dX5_placeOf_11 ?_
    refine lv_goto (tgt := 55) S.1 S.2.1 dX5_placeOf_12 rfl ?_
    exact e_iP S hr hlk hW (by simp [*]) dX5_placeOf_55
theorem hd_X5_isIn : yX5_isIn.cls ≠ "java/lang/invoke/MethodHandle" ∧ yX5_isIn.cls ≠ "java/lang/invoke/VarHandle" ∧ (parseMethodDescriptor yX5_isIn.desc).map (fun d => d.parameters.length) = some 3 := by decide +kernel
theorem cw_X5_145 {R : Room} {s : State} {args : Array Value} (ht : ∀ w ∈ lw_all, w.before args s = true) (hR : 0 + 1 ≤ R.frames ∧ 8 + (3 + 11) + 0 ≤ R.locals) : CallB R s args "OneDrumModel" 145 yX5_isIn cX5_isIn 3 (some .boolean) (ws_ yX5_isIn cX5_isIn 3 (some .boolean)) ⟨0, 0, 0, 0⟩ 0 0 3 ∧ (Cond.static yX5_isIn).before args s = true := va_cwS 3 ht (lw_S q1778 q1779 q126 q1780) rfl rfl rfl hd_X5_isIn hR
set_option maxHeartbeats 4000000 in
theorem tX5_isArmy (l : Launch) (a : Int) (h : -2147483648 ≤ a ∧ a < 2147483648) : Met l yX5_isArmy (ws_ yX5_isArmy cX5_isArmy 1 (some .boolean)) ⟨1, 0, 0, 22⟩ (va_Pc [.int (iI a)] (fun _ => True)) (qP (.int (iI (b2i (dP (0 ≤ a ∧ a ≤ 1)))))) 0 0 (fun _ => False) := by
  refine sStart (by decide) (Nat.le_of_ble_eq_true rfl) (fun p e s m below meth c S hr hlk ls hW hl => ?_)
  have hl : lv_has ls 1 [(0, .int (iI a))] := hl
  refine lv_iload_n S.1 S.2.1 dX5_isArmy_0 rfl (lv_at hl 0 rfl) ?_
  refine r_iconst S dX5_isArmy_1 ?_
  refine r_iconst S dX5_isArmy_2 ?_
  refine c_SP S hW (tX5_isIn l a 0 1 (by omega)) (cw_X5_145 S.2.2.2.2 ⟨Nat.le_of_ble_eq_true rfl, Nat.le_of_ble_eq_true rfl⟩) rfl hl.1 (rest := []) rfl (Nat.le_of_ble_eq_true rfl) dX5_isArmy_3 ⟨Nat.le_of_ble_eq_true rfl, Nat.le_of_ble_eq_true rfl⟩ (fun locs hW => ?_)
  exact e_zP S hr hlk hW (by rfl) dX5_isArmy_6
set_option maxHeartbeats 4000000 in
theorem tX5_isOf (l : Launch) (G : GG) (ad : Nat → Nat) (σ : St) (sort : Int) (k : Int) (hs : 0 ≤ sort ∧ sort ≤ 3) (hk : -2147483648 ≤ k ∧ k < 2147483648) (hc : 0 ≤ σ 0 sort ∧ σ 0 sort ≤ 2) : Met l yX5_isOf (ws_ yX5_isOf cX5_isOf 3 (some .boolean)) ⟨1, 0, 0, 22⟩ (wPre G shM ad σ (fun _ => True) [.ref (ad 0), .int (iI sort), .int (iI k)]) (qP (.int (iI (b2i (dP (0 ≤ k ∧ k ≤ σ 0 sort - 1)))))) 0 0 (aM ad) := by
  refine wStart (by decide) (Nat.le_of_ble_eq_true rfl) (fun k hk => ⟨k, hk, rfl⟩) (fun p e s m below meth c S hr hlk _ _ ls hW hl => ?_)
  have hl : lv_has ls 3 [(0, .ref (ad 0)), (1, .int (iI sort)), (2, .int (iI k))] := hl
  refine lv_iload_n S.1 S.2.1 dX5_isOf_0 rfl (lv_at hl 2 rfl) ?_
  refine r_iconst S dX5_isOf_1 ?_
  refine lv_aload_n S.1 S.2.1 dX5_isOf_2 rfl (lv_at hl 0 rfl) ?_
  refine w_getr S hW in_X5 0 rfl rfl 0 (by decide) q1651 rfl rfl dX5_isOf_3 ?_
  refine lv_iload_n S.1 S.2.1 dX5_isOf_6 rfl (lv_at hl 1 rfl) ?_
  refine w_ald S hW 1 0 rfl rfl (by omega) dX5_isOf_7 ?_
  refine r_iconst S dX5_isOf_8 ?_
  refine r_isub S dX5_isOf_9 ?_
  refine c_SPw S hW (tX5_isIn l k 0 ((σ 0 sort) - 1) (by omega)) (cw_X5_145 S.2.2.2.2 ⟨Nat.le_of_ble_eq_true rfl, Nat.le_of_ble_eq_true rfl⟩) rfl hl.1 (rest := []) rfl (Nat.le_of_ble_eq_true rfl) dX5_isOf_10 ⟨Nat.le_of_ble_eq_true rfl, Nat.le_of_ble_eq_true rfl⟩ (fun locs hW => ?_)
  exact e_zP S hr hlk hW.2.2.2.2 (by rfl) dX5_isOf_13
theorem hd_X5_isOf : yX5_isOf.cls = RX5 ∧ yX5_isOf.cls ≠ "java/lang/invoke/MethodHandle" ∧ yX5_isOf.cls ≠ "java/lang/invoke/VarHandle" ∧ (parseMethodDescriptor yX5_isOf.desc).map (fun d => d.parameters.length) = some 2 := by decide +kernel
theorem cw_X5_183 {R : Room} {s : State} {args : Array Value} (ht : ∀ w ∈ lw_all, w.before args s = true) (hR : 1 + 1 ≤ R.frames ∧ 8 + (3 + 11) + 22 ≤ R.locals) : CallW R s args "OneDrumModel" RX5 183 yX5_isOf cX5_isOf 3 (some .boolean) (ws_ yX5_isOf cX5_isOf 3 (some .boolean)) ⟨1, 0, 0, 22⟩ 0 0 2 := cwV 2 ht (lw_V q1781 q1783 qs50 q126 q1784) rfl rfl rfl hd_X5_isOf hR
theorem hd_X5_placeOf : yX5_placeOf.cls ≠ "java/lang/invoke/MethodHandle" ∧ yX5_placeOf.cls ≠ "java/lang/invoke/VarHandle" ∧ (parseMethodDescriptor yX5_placeOf.desc).map (fun d => d.parameters.length) = some 2 := by decide +kernel
theorem cw_X5_206 {R : Room} {s : State} {args : Array Value} (ht : ∀ w ∈ lw_all, w.before args s = true) (hR : 0 + 1 ≤ R.frames ∧ 8 + (2 + 11) + 0 ≤ R.locals) : CallB R s args "OneDrumModel" 206 yX5_placeOf cX5_placeOf 2 (some .int) (ws_ yX5_placeOf cX5_placeOf 2 (some .int)) ⟨0, 0, 0, 0⟩ 0 0 2 ∧ (Cond.static yX5_placeOf).before args s = true := va_cwS 2 ht (lw_S q1877 q1878 q126 q1879) rfl rfl rfl hd_X5_placeOf hR
set_option maxHeartbeats 4000000 in
theorem tX5_isWar (l : Launch) (G : GG) (ad : Nat → Nat) (σ : St) (k : Int) (hk : -2147483648 ≤ k ∧ k < 2147483648) (hc : 0 ≤ σ 0 0 ∧ σ 0 0 ≤ 2) : Met l yX5_isWar (ws_ yX5_isWar cX5_isWar 2 (some .boolean)) ⟨2, 0, 0, 44⟩ (wPre G shM ad σ (fun _ => True) [.ref (ad 0), .int (iI k)]) (qS G shM ad (aM ad) (rZ (fun r σ' => (r = dP (0 ≤ k ∧ k ≤ σ 0 0 - 1)) ∧ (same [10] σ σ') ∧ ((0 ≤ k ∧ k ≤ σ 0 0 - 1) → σ' 10 0 = 610 + 89 * k)))) 0 0 (aM ad) := by
  refine wStart (by decide) (Nat.le_of_ble_eq_true rfl) (fun k hk => ⟨k, hk, rfl⟩) (fun p e s m below meth c S hr hlk _ _ ls hW hl => ?_)
  have hl : lv_has ls 2 [(0, .ref (ad 0)), (1, .int (iI k))] := hl
  refine lv_aload_n S.1 S.2.1 dX5_isWar_0 rfl (lv_at hl 0 rfl) ?_
  refine r_iconst S dX5_isWar_1 ?_
  refine lv_iload_n S.1 S.2.1 dX5_isWar_2 rfl (lv_at hl 1 rfl) ?_
  refine c_VP S hW (tX5_isOf l G ad σ 0 k (by omega) (by omega) (by omega)) (cw_X5_183 S.2.2.2.2 ⟨Nat.le_of_ble_eq_true rfl, Nat.le_of_ble_eq_true rfl⟩) eBlind_T (fun _ _ _ => trivial) (w_recv hW (q0 := 0) rfl rfl) rfl hl.1 (rest := []) rfl (Nat.le_of_ble_eq_true rfl) dX5_isWar_3 ⟨Nat.le_of_ble_eq_true rfl, Nat.le_of_ble_eq_true rfl⟩ (fun locs hW => ?_)
  refine r_ifne_p S (tgt := 11) dX5_isWar_6 rfl (fun c_6 => ?_) (fun c_6 => ?_)
  ·
    refine lv_aload_n S.1 S.2.1 dX5_isWar_11 rfl (lv_at hl 0 rfl) ?_
    refine r_iconst S dX5_isWar_12 ?_
    refine lv_iload_n S.1 S.2.1 dX5_isWar_13 rfl (lv_at hl 1 rfl) ?_
    refine c_SPw S hW (tX5_placeOf l 0 k (by omega)) (cw_X5_206 S.2.2.2.2 ⟨Nat.le_of_ble_eq_true rfl, Nat.le_of_ble_eq_true rfl⟩) rfl hl.1 (rest := [.ref (ad 0)]) rfl (Nat.le_of_ble_eq_true rfl) dX5_isWar_14 ⟨Nat.le_of_ble_eq_true rfl, Nat.le_of_ble_eq_true rfl⟩ (fun locs hW => ?_)
    refine w_puti S hW in_X5 tyX5 tyX5_ok nmX5 0 rfl rfl 10 (by decide) q1661 rfl rfl rfl rfl rfl (z := (if 0 = 0 then 610 + 89 * k else if 0 = 1 then 788 + 26 * k else if 0 = 2 then 840 + 14 * k else 868 + 33 * k)) rfl dX5_isWar_17 (fun H locs hW => ?_)
    refine r_iconst S dX5_isWar_20 ?_
    exact e_zS S hr hlk hW (by decide) ⟨true, rfl, ⟨(by first | exact (dP_t.mpr (by omega)).symm | exact (dP_f.mpr (by omega)).symm), (by first | exact same_rf | exact same_up same_rf (by decide)), (by first | (intro h9; exact absurd h9 (by omega)) | (intro _; simp [up]))⟩⟩ dX5_isWar_21
  ·
    refine r_iconst S dX5_isWar_9 ?_
    exact e_zS S hr hlk hW (by decide) ⟨false, rfl, ⟨(by first | exact (dP_t.mpr (by omega)).symm | exact (dP_f.mpr (by omega)).symm), (by first | exact same_rf | exact same_up same_rf (by decide)), (by first | (intro h9; exact absurd h9 (by omega)) | (intro _; simp [up]))⟩⟩ dX5_isWar_10
set_option maxHeartbeats 4000000 in
theorem tX5_isScore (l : Launch) (G : GG) (ad : Nat → Nat) (σ : St) (k : Int) (hk : -2147483648 ≤ k ∧ k < 2147483648) (hc : 0 ≤ σ 0 1 ∧ σ 0 1 ≤ 2) : Met l yX5_isScore (ws_ yX5_isScore cX5_isScore 2 (some .boolean)) ⟨2, 0, 0, 44⟩ (wPre G shM ad σ (fun _ => True) [.ref (ad 0), .int (iI k)]) (qS G shM ad (aM ad) (rZ (fun r σ' => (r = dP (0 ≤ k ∧ k ≤ σ 0 1 - 1)) ∧ (same [11] σ σ') ∧ ((0 ≤ k ∧ k ≤ σ 0 1 - 1) → σ' 11 0 = 788 + 26 * k)))) 0 0 (aM ad) := by
  refine wStart (by decide) (Nat.le_of_ble_eq_true rfl) (fun k hk => ⟨k, hk, rfl⟩) (fun p e s m below meth c S hr hlk _ _ ls hW hl => ?_)
  have hl : lv_has ls 2 [(0, .ref (ad 0)), (1, .int (iI k))] := hl
  refine lv_aload_n S.1 S.2.1 dX5_isScore_0 rfl (lv_at hl 0 rfl) ?_
  refine r_iconst S dX5_isScore_1 ?_
  refine lv_iload_n S.1 S.2.1 dX5_isScore_2 rfl (lv_at hl 1 rfl) ?_
  refine c_VP S hW (tX5_isOf l G ad σ 1 k (by omega) (by omega) (by omega)) (cw_X5_183 S.2.2.2.2 ⟨Nat.le_of_ble_eq_true rfl, Nat.le_of_ble_eq_true rfl⟩) eBlind_T (fun _ _ _ => trivial) (w_recv hW (q0 := 0) rfl rfl) rfl hl.1 (rest := []) rfl (Nat.le_of_ble_eq_true rfl) dX5_isScore_3 ⟨Nat.le_of_ble_eq_true rfl, Nat.le_of_ble_eq_true rfl⟩ (fun locs hW => ?_)
  refine r_ifne_p S (tgt := 11) dX5_isScore_6 rfl (fun c_6 => ?_) (fun c_6 => ?_)
  ·
    refine lv_aload_n S.1 S.2.1 dX5_isScore_11 rfl (lv_at hl 0 rfl) ?_
    refine r_iconst S dX5_isScore_12 ?_
    refine lv_iload_n S.1 S.2.1 dX5_isScore_13 rfl (lv_at hl 1 rfl) ?_
    refine c_SPw S hW (tX5_placeOf l 1 k (by omega)) (cw_X5_206 S.2.2.2.2 ⟨Nat.le_of_ble_eq_true rfl, Nat.le_of_ble_eq_true rfl⟩) rfl hl.1 (rest := [.ref (ad 0)]) rfl (Nat.le_of_ble_eq_true rfl) dX5_isScore_14 ⟨Nat.le_of_ble_eq_true rfl, Nat.le_of_ble_eq_true rfl⟩ (fun locs hW => ?_)
    refine w_puti S hW in_X5 tyX5 tyX5_ok nmX5 0 rfl rfl 11 (by decide) q1662 rfl rfl rfl rfl rfl (z := (if 1 = 0 then 610 + 89 * k else if 1 = 1 then 788 + 26 * k else if 1 = 2 then 840 + 14 * k else 868 + 33 * k)) rfl dX5_isScore_17 (fun H locs hW => ?_)
    refine r_iconst S dX5_isScore_20 ?_
    exact e_zS S hr hlk hW (by decide) ⟨true, rfl, ⟨(by first | exact (dP_t.mpr (by omega)).symm | exact (dP_f.mpr (by omega)).symm), (by first | exact same_rf | exact same_up same_rf (by decide)), (by first | (intro h9; exact absurd h9 (by omega)) | (intro _; simp [up]))⟩⟩ dX5_isScore_21
  ·
    refine r_iconst S dX5_isScore_9 ?_
    exact e_zS S hr hlk hW (by decide) ⟨false, rfl, ⟨(by first | exact (dP_t.mpr (by omega)).symm | exact (dP_f.mpr (by omega)).symm), (by first | exact same_rf | exact same_up same_rf (by decide)), (by first | (intro h9; exact absurd h9 (by omega)) | (intro _; simp [up]))⟩⟩ dX5_isScore_10
set_option maxHeartbeats 4000000 in
theorem tX5_isHearing (l : Launch) (G : GG) (ad : Nat → Nat) (σ : St) (k : Int) (hk : -2147483648 ≤ k ∧ k < 2147483648) (hc : 0 ≤ σ 0 2 ∧ σ 0 2 ≤ 2) : Met l yX5_isHearing (ws_ yX5_isHearing cX5_isHearing 2 (some .boolean)) ⟨2, 0, 0, 44⟩ (wPre G shM ad σ (fun _ => True) [.ref (ad 0), .int (iI k)]) (qS G shM ad (aM ad) (rZ (fun r σ' => (r = dP (0 ≤ k ∧ k ≤ σ 0 2 - 1)) ∧ (same [25] σ σ') ∧ ((0 ≤ k ∧ k ≤ σ 0 2 - 1) → σ' 25 0 = 840 + 14 * k)))) 0 0 (aM ad) := by
  refine wStart (by decide) (Nat.le_of_ble_eq_true rfl) (fun k hk => ⟨k, hk, rfl⟩) (fun p e s m below meth c S hr hlk _ _ ls hW hl => ?_)
  have hl : lv_has ls 2 [(0, .ref (ad 0)), (1, .int (iI k))] := hl
  refine lv_aload_n S.1 S.2.1 dX5_isHearing_0 rfl (lv_at hl 0 rfl) ?_
  refine r_iconst S dX5_isHearing_1 ?_
  refine lv_iload_n S.1 S.2.1 dX5_isHearing_2 rfl (lv_at hl 1 rfl) ?_
  refine c_VP S hW (tX5_isOf l G ad σ 2 k (by omega) (by omega) (by omega)) (cw_X5_183 S.2.2.2.2 ⟨Nat.le_of_ble_eq_true rfl, Nat.le_of_ble_eq_true rfl⟩) eBlind_T (fun _ _ _ => trivial) (w_recv hW (q0 := 0) rfl rfl) rfl hl.1 (rest := []) rfl (Nat.le_of_ble_eq_true rfl) dX5_isHearing_3 ⟨Nat.le_of_ble_eq_true rfl, Nat.le_of_ble_eq_true rfl⟩ (fun locs hW => ?_)
  refine r_ifne_p S (tgt := 11) dX5_isHearing_6 rfl (fun c_6 => ?_) (fun c_6 => ?_)
  ·
    refine lv_aload_n S.1 S.2.1 dX5_isHearing_11 rfl (lv_at hl 0 rfl) ?_
    refine r_iconst S dX5_isHearing_12 ?_
    refine lv_iload_n S.1 S.2.1 dX5_isHearing_13 rfl (lv_at hl 1 rfl) ?_
    refine c_SPw S hW (tX5_placeOf l 2 k (by omega)) (cw_X5_206 S.2.2.2.2 ⟨Nat.le_of_ble_eq_true rfl, Nat.le_of_ble_eq_true rfl⟩) rfl hl.1 (rest := [.ref (ad 0)]) rfl (Nat.le_of_ble_eq_true rfl) dX5_isHearing_14 ⟨Nat.le_of_ble_eq_true rfl, Nat.le_of_ble_eq_true rfl⟩ (fun locs hW => ?_)
    refine w_puti S hW in_X5 tyX5 tyX5_ok nmX5 0 rfl rfl 25 (by decide) q1676 rfl rfl rfl rfl rfl (z := (if 2 = 0 then 610 + 89 * k else if 2 = 1 then 788 + 26 * k else if 2 = 2 then 840 + 14 * k else 868 + 33 * k)) rfl dX5_isHearing_17 (fun H locs hW => ?_)
    refine r_iconst S dX5_isHearing_20 ?_
    exact e_zS S hr hlk hW (by decide) ⟨true, rfl, ⟨(by first | exact (dP_t.mpr (by omega)).symm | exact (dP_f.mpr (by omega)).symm), (by first | exact same_rf | exact same_up same_rf (by decide)), (by first | (intro h9; exact absurd h9 (by omega)) | (intro _; simp [up]))⟩⟩ dX5_isHearing_21
  ·
    refine r_iconst S dX5_isHearing_9 ?_
    exact e_zS S hr hlk hW (by decide) ⟨false, rfl, ⟨(by first | exact (dP_t.mpr (by omega)).symm | exact (dP_f.mpr (by omega)).symm), (by first | exact same_rf | exact same_up same_rf (by decide)), (by first | (intro h9; exact absurd h9 (by omega)) | (intro _; simp [up]))⟩⟩ dX5_isHearing_10
set_option maxHeartbeats 4000000 in
theorem tX5_areVillages (l : Launch) (G : GG) (ad : Nat → Nat) (σ : St) (k : Int) (hk : -2147483648 ≤ k ∧ k < 2147483648) (hc : 0 ≤ σ 0 3 ∧ σ 0 3 ≤ 2) : Met l yX5_areVillages (ws_ yX5_areVillages cX5_areVillages 2 (some .boolean)) ⟨2, 0, 0, 44⟩ (wPre G shM ad σ (fun _ => True) [.ref (ad 0), .int (iI k)]) (qS G shM ad (aM ad) (rZ (fun r σ' => (r = dP (0 ≤ k ∧ k ≤ σ 0 3 - 1)) ∧ (same [29] σ σ') ∧ ((0 ≤ k ∧ k ≤ σ 0 3 - 1) → σ' 29 0 = 868 + 33 * k)))) 0 0 (aM ad) := by
  refine wStart (by decide) (Nat.le_of_ble_eq_true rfl) (fun k hk => ⟨k, hk, rfl⟩) (fun p e s m below meth c S hr hlk _ _ ls hW hl => ?_)
  have hl : lv_has ls 2 [(0, .ref (ad 0)), (1, .int (iI k))] := hl
  refine lv_aload_n S.1 S.2.1 dX5_areVillages_0 rfl (lv_at hl 0 rfl) ?_
  refine r_iconst S dX5_areVillages_1 ?_
  refine lv_iload_n S.1 S.2.1 dX5_areVillages_2 rfl (lv_at hl 1 rfl) ?_
  refine c_VP S hW (tX5_isOf l G ad σ 3 k (by omega) (by omega) (by omega)) (cw_X5_183 S.2.2.2.2 ⟨Nat.le_of_ble_eq_true rfl, Nat.le_of_ble_eq_true rfl⟩) eBlind_T (fun _ _ _ => trivial) (w_recv hW (q0 := 0) rfl rfl) rfl hl.1 (rest := []) rfl (Nat.le_of_ble_eq_true rfl) dX5_areVillages_3 ⟨Nat.le_of_ble_eq_true rfl, Nat.le_of_ble_eq_true rfl⟩ (fun locs hW => ?_)
  refine r_ifne_p S (tgt := 11) dX5_areVillages_6 rfl (fun c_6 => ?_) (fun c_6 => ?_)
  ·
    refine lv_aload_n S.1 S.2.1 dX5_areVillages_11 rfl (lv_at hl 0 rfl) ?_
    refine r_iconst S dX5_areVillages_12 ?_
    refine lv_iload_n S.1 S.2.1 dX5_areVillages_13 rfl (lv_at hl 1 rfl) ?_
    refine c_SPw S hW (tX5_placeOf l 3 k (by omega)) (cw_X5_206 S.2.2.2.2 ⟨Nat.le_of_ble_eq_true rfl, Nat.le_of_ble_eq_true rfl⟩) rfl hl.1 (rest := [.ref (ad 0)]) rfl (Nat.le_of_ble_eq_true rfl) dX5_areVillages_14 ⟨Nat.le_of_ble_eq_true rfl, Nat.le_of_ble_eq_true rfl⟩ (fun locs hW => ?_)
    refine w_puti S hW in_X5 tyX5 tyX5_ok nmX5 0 rfl rfl 29 (by decide) q1680 rfl rfl rfl rfl rfl (z := (if 3 = 0 then 610 + 89 * k else if 3 = 1 then 788 + 26 * k else if 3 = 2 then 840 + 14 * k else 868 + 33 * k)) rfl dX5_areVillages_17 (fun H locs hW => ?_)
    refine r_iconst S dX5_areVillages_20 ?_
    exact e_zS S hr hlk hW (by decide) ⟨true, rfl, ⟨(by first | exact (dP_t.mpr (by omega)).symm | exact (dP_f.mpr (by omega)).symm), (by first | exact same_rf | exact same_up same_rf (by decide)), (by first | (intro h9; exact absurd h9 (by omega)) | (intro _; simp [up]))⟩⟩ dX5_areVillages_21
  ·
    refine r_iconst S dX5_areVillages_9 ?_
    exact e_zS S hr hlk hW (by decide) ⟨false, rfl, ⟨(by first | exact (dP_t.mpr (by omega)).symm | exact (dP_f.mpr (by omega)).symm), (by first | exact same_rf | exact same_up same_rf (by decide)), (by first | (intro h9; exact absurd h9 (by omega)) | (intro _; simp [up]))⟩⟩ dX5_areVillages_10
set_option maxHeartbeats 4000000 in
theorem tX5_of (l : Launch) (G : GG) (ad : Nat → Nat) (σ : St) (what : Int) (h : 0 ≤ σ 10 0 + what ∧ σ 10 0 + what < 3736) : Met l yX5_of (ws_ yX5_of cX5_of 2 (some .int)) ⟨0, 0, 0, 0⟩ (wPre G shM ad σ (fun _ => True) [.ref (ad 0), .int (iI what)]) (qP (.int (iI (wr σ what)))) 0 0 (aM ad) := by
  refine wStart (by decide) (Nat.le_of_ble_eq_true rfl) (fun k hk => ⟨k, hk, rfl⟩) (fun p e s m below meth c S hr hlk _ _ ls hW hl => ?_)
  have hl : lv_has ls 2 [(0, .ref (ad 0)), (1, .int (iI what))] := hl
  refine lv_aload_n S.1 S.2.1 dX5_of_0 rfl (lv_at hl 0 rfl) ?_
  refine w_getr S hW in_X5 0 rfl rfl 0 (by decide) q1651 rfl rfl dX5_of_1 ?_
  refine lv_aload_n S.1 S.2.1 dX5_of_4 rfl (lv_at hl 0 rfl) ?_
  refine w_geti S hW in_X5 0 rfl rfl 10 (by decide) q1661 rfl rfl dX5_of_5 ?_
  refine lv_iload_n S.1 S.2.1 dX5_of_8 rfl (lv_at hl 1 rfl) ?_
  refine r_iadd S dX5_of_9 ?_
  refine w_ald S hW 1 0 rfl rfl (by omega) dX5_of_10 ?_
  exact e_iP S hr hlk hW.2.2.2.2 (by rfl) dX5_of_11
theorem hd_X5_of : yX5_of.cls = RX5 ∧ yX5_of.cls ≠ "java/lang/invoke/MethodHandle" ∧ yX5_of.cls ≠ "java/lang/invoke/VarHandle" ∧ (parseMethodDescriptor yX5_of.desc).map (fun d => d.parameters.length) = some 1 := by decide +kernel
theorem cw_X5_212 {R : Room} {s : State} {args : Array Value} (ht : ∀ w ∈ lw_all, w.before args s = true) (hR : 0 + 1 ≤ R.frames ∧ 8 + (2 + 11) + 0 ≤ R.locals) : CallW R s args "OneDrumModel" RX5 212 yX5_of cX5_of 2 (some .int) (ws_ yX5_of cX5_of 2 (some .int)) ⟨0, 0, 0, 0⟩ 0 0 1 := cwV 1 ht (lw_V q1892 q1894 qs69 q126 q1895) rfl rfl rfl hd_X5_of hR
set_option maxHeartbeats 4000000 in
theorem tX5_orders (l : Launch) (G : GG) (ad : Nat → Nat) (σ : St) (army : Int) (hw0 : 0 ≤ σ 10 0 ∧ σ 10 0 ≤ 700) (ha : 0 ≤ army ∧ army ≤ 1) : Met l yX5_orders (ws_ yX5_orders cX5_orders 2 (some .int)) ⟨1, 0, 0, 21⟩ (wPre G shM ad σ (fun _ => True) [.ref (ad 0), .int (iI army)]) (qP (.int (iI (wr σ (15 + army))))) 0 0 (aM ad) := by
  refine wStart (by decide) (Nat.le_of_ble_eq_true rfl) (fun k hk => ⟨k, hk, rfl⟩) (fun p e s m below meth c S hr hlk _ _ ls hW hl => ?_)
  have hl : lv_has ls 2 [(0, .ref (ad 0)), (1, .int (iI army))] := hl
  refine lv_aload_n S.1 S.2.1 dX5_orders_0 rfl (lv_at hl 0 rfl) ?_
  refine r_bipush S dX5_orders_1 (by decide) ?_
  refine lv_iload_n S.1 S.2.1 dX5_orders_3 rfl (lv_at hl 1 rfl) ?_
  refine r_iadd S dX5_orders_4 ?_
  refine c_VP S hW (tX5_of l G ad σ (15 + army) (by omega)) (cw_X5_212 S.2.2.2.2 ⟨Nat.le_of_ble_eq_true rfl, Nat.le_of_ble_eq_true rfl⟩) eBlind_T (fun _ _ _ => trivial) (w_recv hW (q0 := 0) rfl rfl) rfl hl.1 (rest := []) rfl (Nat.le_of_ble_eq_true rfl) dX5_orders_5 ⟨Nat.le_of_ble_eq_true rfl, Nat.le_of_ble_eq_true rfl⟩ (fun locs hW => ?_)
  exact e_iP S hr hlk hW.2.2.2.2 (by rfl) dX5_orders_8
set_option maxHeartbeats 4000000 in
theorem tX5_orderAt (l : Launch) (G : GG) (ad : Nat → Nat) (σ : St) (army : Int) (k : Int) : Met l yX5_orderAt (ws_ yX5_orderAt cX5_orderAt 3 (some .int)) ⟨0, 0, 0, 0⟩ (wPre G shM ad σ (fun _ => True) [.ref (ad 0), .int (iI army), .int (iI k)]) (qP (.int (iI (σ 10 0 + 17 + 36 * army + 6 * k)))) 0 0 (aM ad) := by
  refine wStart (by decide) (Nat.le_of_ble_eq_true rfl) (fun k hk => ⟨k, hk, rfl⟩) (fun p e s m below meth c S hr hlk _ _ ls hW hl => ?_)
  have hl : lv_has ls 3 [(0, .ref (ad 0)), (1, .int (iI army)), (2, .int (iI k))] := hl
  refine lv_aload_n S.1 S.2.1 dX5_orderAt_0 rfl (lv_at hl 0 rfl) ?_
  refine w_geti S hW in_X5 0 rfl rfl 10 (by decide) q1661 rfl rfl dX5_orderAt_1 ?_
  refine r_bipush S dX5_orderAt_4 (by decide) ?_
  refine r_iadd S dX5_orderAt_6 ?_
  refine r_bipush S dX5_orderAt_7 (by decide) ?_
  refine lv_iload_n S.1 S.2.1 dX5_orderAt_9 rfl (lv_at hl 1 rfl) ?_
  refine r_imul S dX5_orderAt_10 ?_
  refine r_iadd S dX5_orderAt_11 ?_
  refine r_bipush S dX5_orderAt_12 (by decide) ?_
  refine lv_iload_n S.1 S.2.1 dX5_orderAt_14 rfl (lv_at hl 2 rfl) ?_
  refine r_imul S dX5_orderAt_15 ?_
  refine r_iadd S dX5_orderAt_16 ?_
  exact e_iP S hr hlk hW.2.2.2.2 (by rfl) dX5_orderAt_17
theorem hd_X5_orderAt : yX5_orderAt.cls = RX5 ∧ yX5_orderAt.cls ≠ "java/lang/invoke/MethodHandle" ∧ yX5_orderAt.cls ≠ "java/lang/invoke/VarHandle" ∧ (parseMethodDescriptor yX5_orderAt.desc).map (fun d => d.parameters.length) = some 2 := by decide +kernel
theorem cw_X5_215 {R : Room} {s : State} {args : Array Value} (ht : ∀ w ∈ lw_all, w.before args s = true) (hR : 0 + 1 ≤ R.frames ∧ 8 + (3 + 11) + 0 ≤ R.locals) : CallW R s args "OneDrumModel" RX5 215 yX5_orderAt cX5_orderAt 3 (some .int) (ws_ yX5_orderAt cX5_orderAt 3 (some .int)) ⟨0, 0, 0, 0⟩ 0 0 2 := cwV 2 ht (lw_V q1911 q1913 qs72 q126 q1914) rfl rfl rfl hd_X5_orderAt hR
set_option maxHeartbeats 4000000 in
theorem tX5_lengthOf (l : Launch) (G : GG) (ad : Nat → Nat) (σ : St) (army : Int) (k : Int) (hw0 : 0 ≤ σ 10 0 ∧ σ 10 0 ≤ 700) (ha : 0 ≤ army ∧ army ≤ 1 ∧ 0 ≤ k ∧ k ≤ 5) : Met l yX5_lengthOf (ws_ yX5_lengthOf cX5_lengthOf 3 (some .int)) ⟨1, 0, 0, 22⟩ (wPre G shM ad σ (fun _ => True) [.ref (ad 0), .int (iI army), .int (iI k)]) (qP (.int (iI (oLen (wr σ) army k)))) 0 0 (aM ad) := by
  refine wStart (by decide) (Nat.le_of_ble_eq_true rfl) (fun k hk => ⟨k, hk, rfl⟩) (fun p e s m below meth c S hr hlk _ _ ls hW hl => ?_)
  have hl : lv_has ls 3 [(0, .ref (ad 0)), (1, .int (iI army)), (2, .int (iI k))] := hl
  refine lv_aload_n S.1 S.2.1 dX5_lengthOf_0 rfl (lv_at hl 0 rfl) ?_
  refine w_getr S hW in_X5 0 rfl rfl 0 (by decide) q1651 rfl rfl dX5_lengthOf_1 ?_
  refine lv_aload_n S.1 S.2.1 dX5_lengthOf_4 rfl (lv_at hl 0 rfl) ?_
  refine lv_iload_n S.1 S.2.1 dX5_lengthOf_5 rfl (lv_at hl 1 rfl) ?_
  refine lv_iload_n S.1 S.2.1 dX5_lengthOf_6 rfl (lv_at hl 2 rfl) ?_
  refine c_VP S hW (tX5_orderAt l G ad σ army k) (cw_X5_215 S.2.2.2.2 ⟨Nat.le_of_ble_eq_true rfl, Nat.le_of_ble_eq_true rfl⟩) eBlind_T (fun _ _ _ => trivial) (w_recv hW (q0 := 0) rfl rfl) rfl hl.1 (rest := [.ref (ad 1)]) rfl (Nat.le_of_ble_eq_true rfl) dX5_lengthOf_7 ⟨Nat.le_of_ble_eq_true rfl, Nat.le_of_ble_eq_true rfl⟩ (fun locs hW => ?_)
  refine r_iconst S dX5_lengthOf_10 ?_
  refine r_iadd S dX5_lengthOf_11 ?_
  refine w_ald S hW 1 0 rfl rfl (by omega) dX5_lengthOf_12 ?_
  exact e_iP S hr hlk hW.2.2.2.2 (by simp only [oLen, wr]; congr 1; omega) dX5_lengthOf_13
set_option maxHeartbeats 4000000 in
theorem tX5_beatOf (l : Launch) (G : GG) (ad : Nat → Nat) (σ : St) (army : Int) (k : Int) (i : Int) (hw0 : 0 ≤ σ 10 0 ∧ σ 10 0 ≤ 700) (ha : 0 ≤ army ∧ army ≤ 1 ∧ 0 ≤ k ∧ k ≤ 5 ∧ 0 ≤ i ∧ i ≤ 3) : Met l yX5_beatOf (ws_ yX5_beatOf cX5_beatOf 4 (some .int)) ⟨1, 0, 0, 22⟩ (wPre G shM ad σ (fun _ => True) [.ref (ad 0), .int (iI army), .int (iI k), .int (iI i)]) (qP (.int (iI (oBeat (wr σ) army k i)))) 0 0 (aM ad) := by
  refine wStart (by decide) (Nat.le_of_ble_eq_true rfl) (fun k hk => ⟨k, hk, rfl⟩) (fun p e s m below meth c S hr hlk _ _ ls hW hl => ?_)
  have hl : lv_has ls 4 [(0, .ref (ad 0)), (1, .int (iI army)), (2, .int (iI k)), (3, .int (iI i))] := hl
  refine lv_aload_n S.1 S.2.1 dX5_beatOf_0 rfl (lv_at hl 0 rfl) ?_
  refine w_getr S hW in_X5 0 rfl rfl 0 (by decide) q1651 rfl rfl dX5_beatOf_1 ?_
  refine lv_aload_n S.1 S.2.1 dX5_beatOf_4 rfl (lv_at hl 0 rfl) ?_
  refine lv_iload_n S.1 S.2.1 dX5_beatOf_5 rfl (lv_at hl 1 rfl) ?_
  refine lv_iload_n S.1 S.2.1 dX5_beatOf_6 rfl (lv_at hl 2 rfl) ?_
  refine c_VP S hW (tX5_orderAt l G ad σ army k) (cw_X5_215 S.2.2.2.2 ⟨Nat.le_of_ble_eq_true rfl, Nat.le_of_ble_eq_true rfl⟩) eBlind_T (fun _ _ _ => trivial) (w_recv hW (q0 := 0) rfl rfl) rfl hl.1 (rest := [.ref (ad 1)]) rfl (Nat.le_of_ble_eq_true rfl) dX5_beatOf_7 ⟨Nat.le_of_ble_eq_true rfl, Nat.le_of_ble_eq_true rfl⟩ (fun locs hW => ?_)
  refine r_iconst S dX5_beatOf_10 ?_
  refine r_iadd S dX5_beatOf_11 ?_
  refine lv_iload_n S.1 S.2.1 dX5_beatOf_12 rfl (lv_at hl 3 rfl) ?_
  refine r_iadd S dX5_beatOf_13 ?_
  refine w_ald S hW 1 0 rfl rfl (by omega) dX5_beatOf_14 ?_
  exact e_iP S hr hlk hW.2.2.2.2 (by simp only [oBeat, wr]; congr 1; omega) dX5_beatOf_15
set_option maxHeartbeats 4000000 in
theorem tX5_hears (l : Launch) (G : GG) (ad : Nat → Nat) (σ : St) (army : Int) (hw0 : 0 ≤ σ 10 0 ∧ σ 10 0 ≤ 700) (ha : 0 ≤ army ∧ army ≤ 1) (hA : WfArmy (wr σ) army) (hn : 0 ≤ σ 18 0 ∧ σ 18 0 ≤ 24) : Met l yX5_hears (ws_ yX5_hears cX5_hears 3 (some .int)) ⟨1, 0, 0, 21⟩ (wPre G shM ad σ (fun _ => True) [.ref (ad 0), .int (iI army)]) (qP (.int (iI (hrs (wr σ) (σ 18 0) army)))) 0 0 (aM ad) := by
  refine wStart (by decide) (Nat.le_of_ble_eq_true rfl) (fun k hk => ⟨k, hk, rfl⟩) (fun p e s m below meth c S hr hlk _ _ ls hW hl => ?_)
  have hl : lv_has ls 3 [(0, .ref (ad 0)), (1, .int (iI army))] := hl
  have hA1 := hA.1
  have hA2 := hA.2.1
  refine lv_aload_n S.1 S.2.1 dX5_hears_0 rfl (lv_at hl 0 rfl) ?_
  refine r_bipush S dX5_hears_1 (by decide) ?_
  refine lv_iload_n S.1 S.2.1 dX5_hears_3 rfl (lv_at hl 1 rfl) ?_
  refine r_iadd S dX5_hears_4 ?_
  refine c_VP S hW (tX5_of l G ad σ (7 + army) (by omega)) (cw_X5_212 S.2.2.2.2 ⟨Nat.le_of_ble_eq_true rfl, Nat.le_of_ble_eq_true rfl⟩) eBlind_T (fun _ _ _ => trivial) (w_recv hW (q0 := 0) rfl rfl) rfl hl.1 (rest := []) rfl (Nat.le_of_ble_eq_true rfl) dX5_hears_5 ⟨Nat.le_of_ble_eq_true rfl, Nat.le_of_ble_eq_true rfl⟩ (fun locs hW => ?_)
  refine lv_istore_n (lv' := [(2, .int (iI (wr σ (7 + army)))), (0, .ref (ad 0)), (1, .int (iI army))]) S.1 S.2.1 dX5_hears_8 rfl hl (by decide) rfl (fun ls hl => ?_)
  refine lv_iload_n S.1 S.2.1 dX5_hears_9 rfl (lv_at hl 0 rfl) ?_
  refine lv_aload_n S.1 S.2.1 dX5_hears_10 rfl (lv_at hl 1 rfl) ?_
  refine w_geti S hW in_X5 0 rfl rfl 18 (by decide) q1669 rfl rfl dX5_hears_11 ?_
  refine r_icmp_lt S (tgt := 21) dX5_hears_14 rfl (by omega) (fun c_14 => ?_) (fun c_14 => ?_)
  ·
    refine lv_aload_n S.1 S.2.1 dX5_hears_21 rfl (lv_at hl 1 rfl) ?_
    refine w_geti S hW in_X5 0 rfl rfl 18 (by decide) q1669 rfl rfl dX5_hears_22 ?_
    refine r_iconst S dX5_hears_25 ?_
    refine r_isub S dX5_hears_26 ?_
    refine lv_iload_n S.1 S.2.1 dX5_hears_27 rfl (lv_at hl 0 rfl) ?_
    refine r_isub S dX5_hears_28 ?_
    refine lv_aload_n S.1 S.2.1 dX5_hears_29 rfl (lv_at hl 1 rfl) ?_
    refine r_bipush S dX5_hears_30 (by decide) ?_
    refine lv_iload_n S.1 S.2.1 dX5_hears_32 rfl (lv_at hl 2 rfl) ?_
    refine r_iadd S dX5_hears_33 ?_
    refine c_VP S hW (tX5_of l G ad σ (9 + army) (by omega)) (cw_X5_212 S.2.2.2.2 ⟨Nat.le_of_ble_eq_true rfl, Nat.le_of_ble_eq_true rfl⟩) eBlind_T (fun _ _ _ => trivial) (w_recv hW (q0 := 0) rfl rfl) rfl hl.1 (rest := [.int (iI (((σ 18 0) - 1) - (wr σ (7 + army))))]) rfl (Nat.le_of_ble_eq_true rfl) dX5_hears_34 ⟨Nat.le_of_ble_eq_true rfl, Nat.le_of_ble_eq_true rfl⟩ (fun locs hW => ?_)
    refine r_idiv S dX5_hears_37 (by omega) ?_
    refine r_iconst S dX5_hears_38 ?_
    refine r_iadd S dX5_hears_39 ?_
    exact e_iP S hr hlk hW.2.2.2.2 (by unfold hrs; split <;> first | omega | (congr 2; omega)) dX5_hears_40
  ·
    refine r_iconst S dX5_hears_17 ?_
    refine lv_goto (tgt := 40) S.1 S.2.1 dX5_hears_18 rfl ?_
    exact e_iP S hr hlk hW.2.2.2.2 (by unfold hrs; split <;> first | omega | (congr 2; omega)) dX5_hears_40
set_option maxHeartbeats 4000000 in
theorem tX5_placeHeard (l : Launch) (G : GG) (ad : Nat → Nat) (σ : St) (army : Int) (k : Int) (hw0 : 0 ≤ σ 10 0 ∧ σ 10 0 ≤ 700) (ha : 0 ≤ army ∧ army ≤ 1) : Met l yX5_placeHeard (ws_ yX5_placeHeard cX5_placeHeard 3 (some .int)) ⟨1, 0, 0, 21⟩ (wPre G shM ad σ (fun _ => True) [.ref (ad 0), .int (iI army), .int (iI k)]) (qP (.int (iI (plc (wr σ) army k)))) 0 0 (aM ad) := by
  refine wStart (by decide) (Nat.le_of_ble_eq_true rfl) (fun k hk => ⟨k, hk, rfl⟩) (fun p e s m below meth c S hr hlk _ _ ls hW hl => ?_)
  have hl : lv_has ls 3 [(0, .ref (ad 0)), (1, .int (iI army)), (2, .int (iI k))] := hl
  refine lv_aload_n S.1 S.2.1 dX5_placeHeard_0 rfl (lv_at hl 0 rfl) ?_
  refine r_bipush S dX5_placeHeard_1 (by decide) ?_
  refine lv_iload_n S.1 S.2.1 dX5_placeHeard_3 rfl (lv_at hl 1 rfl) ?_
  refine r_iadd S dX5_placeHeard_4 ?_
  refine c_VP S hW (tX5_of l G ad σ (7 + army) (by omega)) (cw_X5_212 S.2.2.2.2 ⟨Nat.le_of_ble_eq_true rfl, Nat.le_of_ble_eq_true rfl⟩) eBlind_T (fun _ _ _ => trivial) (w_recv hW (q0 := 0) rfl rfl) rfl hl.1 (rest := []) rfl (Nat.le_of_ble_eq_true rfl) dX5_placeHeard_5 ⟨Nat.le_of_ble_eq_true rfl, Nat.le_of_ble_eq_true rfl⟩ (fun locs hW => ?_)
  refine lv_iload_n S.1 S.2.1 dX5_placeHeard_8 rfl (lv_at hl 2 rfl) ?_
  refine lv_aload_n S.1 S.2.1 dX5_placeHeard_9 rfl (lv_at hl 0 rfl) ?_
  refine r_bipush S dX5_placeHeard_10 (by decide) ?_
  refine lv_iload_n S.1 S.2.1 dX5_placeHeard_12 rfl (lv_at hl 1 rfl) ?_
  refine r_iadd S dX5_placeHeard_13 ?_
  refine c_VP S hW (tX5_of l G ad σ (9 + army) (by omega)) (cw_X5_212 S.2.2.2.2 ⟨Nat.le_of_ble_eq_true rfl, Nat.le_of_ble_eq_true rfl⟩) eBlind_T (fun _ _ _ => trivial) (w_recv hW (q0 := 0) rfl rfl) rfl hl.1 (rest := [.int (iI k), .int (iI (wr σ (7 + army)))]) rfl (Nat.le_of_ble_eq_true rfl) dX5_placeHeard_14 ⟨Nat.le_of_ble_eq_true rfl, Nat.le_of_ble_eq_true rfl⟩ (fun locs hW => ?_)
  refine r_imul S dX5_placeHeard_17 ?_
  refine r_iadd S dX5_placeHeard_18 ?_
  exact e_iP S hr hlk hW.2.2.2.2 (by rfl) dX5_placeHeard_19
theorem hd_X5_placeHeard : yX5_placeHeard.cls = RX5 ∧ yX5_placeHeard.cls ≠ "java/lang/invoke/MethodHandle" ∧ yX5_placeHeard.cls ≠ "java/lang/invoke/VarHandle" ∧ (parseMethodDescriptor yX5_placeHeard.desc).map (fun d => d.parameters.length) = some 2 := by decide +kernel
theorem cw_X5_258 {R : Room} {s : State} {args : Array Value} (ht : ∀ w ∈ lw_all, w.before args s = true) (hR : 1 + 1 ≤ R.frames ∧ 8 + (3 + 11) + 21 ≤ R.locals) : CallW R s args "OneDrumModel" RX5 258 yX5_placeHeard cX5_placeHeard 3 (some .int) (ws_ yX5_placeHeard cX5_placeHeard 3 (some .int)) ⟨1, 0, 0, 21⟩ 0 0 2 := cwV 2 ht (lw_V q1963 q1965 qs82 q126 q1966) rfl rfl rfl hd_X5_placeHeard hR
set_option maxHeartbeats 4000000 in
theorem tX5_heardAt (l : Launch) (G : GG) (ad : Nat → Nat) (σ : St) (army : Int) (k : Int) (hw0 : 0 ≤ σ 10 0 ∧ σ 10 0 ≤ 700) (ha : 0 ≤ army ∧ army ≤ 1) (hp : 0 ≤ plc (wr σ) army k ∧ plc (wr σ) army k < 24) : Met l yX5_heardAt (ws_ yX5_heardAt cX5_heardAt 3 (some .int)) ⟨2, 0, 0, 43⟩ (wPre G shM ad σ (fun _ => True) [.ref (ad 0), .int (iI army), .int (iI k)]) (qP (.int (iI (σ 16 (plc (wr σ) army k))))) 0 0 (aM ad) := by
  refine wStart (by decide) (Nat.le_of_ble_eq_true rfl) (fun k hk => ⟨k, hk, rfl⟩) (fun p e s m below meth c S hr hlk _ _ ls hW hl => ?_)
  have hl : lv_has ls 3 [(0, .ref (ad 0)), (1, .int (iI army)), (2, .int (iI k))] := hl
  refine lv_aload_n S.1 S.2.1 dX5_heardAt_0 rfl (lv_at hl 0 rfl) ?_
  refine w_getr S hW in_X5 0 rfl rfl 16 (by decide) q1667 rfl rfl dX5_heardAt_1 ?_
  refine lv_aload_n S.1 S.2.1 dX5_heardAt_4 rfl (lv_at hl 0 rfl) ?_
  refine lv_iload_n S.1 S.2.1 dX5_heardAt_5 rfl (lv_at hl 1 rfl) ?_
  refine lv_iload_n S.1 S.2.1 dX5_heardAt_6 rfl (lv_at hl 2 rfl) ?_
  refine c_VP S hW (tX5_placeHeard l G ad σ army k (by omega) (by omega)) (cw_X5_258 S.2.2.2.2 ⟨Nat.le_of_ble_eq_true rfl, Nat.le_of_ble_eq_true rfl⟩) eBlind_T (fun _ _ _ => trivial) (w_recv hW (q0 := 0) rfl rfl) rfl hl.1 (rest := [.ref (ad 8)]) rfl (Nat.le_of_ble_eq_true rfl) dX5_heardAt_7 ⟨Nat.le_of_ble_eq_true rfl, Nat.le_of_ble_eq_true rfl⟩ (fun locs hW => ?_)
  refine w_ald S hW 8 0 rfl rfl (by omega) dX5_heardAt_10 ?_
  exact e_iP S hr hlk hW.2.2.2.2 (by rfl) dX5_heardAt_11
