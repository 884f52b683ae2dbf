set_option maxHeartbeats 4000000 in
theorem tX5_fault (l : Launch) (G : GG) (ad : Nat → Nat) (σ : St) (what : Int) (h : -2147483648 ≤ what ∧ what < 2147483648) : Met l yX5_fault (ws_ yX5_fault cX5_fault 2 (some .int)) ⟨0, 0, 0, 0⟩ (wPre G shM ad σ (fun _ => True) [.ref (ad 0), .int (iI what)]) (qP (.int (iI (sFault (σ 0) what)))) 0 0 (aM ad) := by
  refine wStart (by decide) (Nat.le_of_ble_eq_true rfl) (fun k hk => ⟨k, hk, rfl⟩) (fun p e s m below meth c S hr hlk _ _ ls hW hl => ?_)
  have hl : lv_has ls 2 [(0, .ref (ad 0)), (1, .int (iI what))] := hl
  refine lv_iload_n S.1 S.2.1 dX5_fault_0 rfl (lv_at hl 1 rfl) ?_
  refine r_if_ne S (tgt := 13) dX5_fault_1 rfl (by omega) (fun c_1 => ?_) (fun c_1 => ?_)
  ·
    refine lv_iload_n S.1 S.2.1 dX5_fault_13 rfl (lv_at hl 1 rfl) ?_
    refine r_iconst S dX5_fault_14 ?_
    refine r_icmp_ne S (tgt := 28) dX5_fault_15 rfl (by omega) (fun c_15 => ?_) (fun c_15 => ?_)
    ·
      refine r_iconst S dX5_fault_28 ?_
      exact e_iP S hr hlk hW.2.2.2.2 (by unfold sFault; simp [*]) dX5_fault_29
    ·
      refine lv_aload_n S.1 S.2.1 dX5_fault_18 rfl (lv_at hl 0 rfl) ?_
      refine w_getr S hW in_X5 0 rfl rfl 0 (by decide) q1651 rfl rfl dX5_fault_19 ?_
      refine r_bipush S dX5_fault_22 (by decide) ?_
      refine w_ald S hW 1 0 rfl rfl (by omega) dX5_fault_24 ?_
      refine lv_goto (tgt := 29) S.1 S.2.1 dX5_fault_25 rfl ?_
      exact e_iP S hr hlk hW.2.2.2.2 (by unfold sFault; simp [*]) dX5_fault_29
  ·
    refine lv_aload_n S.1 S.2.1 dX5_fault_4 rfl (lv_at hl 0 rfl) ?_
    refine w_getr S hW in_X5 0 rfl rfl 0 (by decide) q1651 rfl rfl dX5_fault_5 ?_
    refine r_iconst S dX5_fault_8 ?_
    refine w_ald S hW 1 0 rfl rfl (by omega) dX5_fault_9 ?_
    refine lv_goto (tgt := 29) S.1 S.2.1 dX5_fault_10 rfl ?_
    exact e_iP S hr hlk hW.2.2.2.2 (by unfold sFault; simp [*]) dX5_fault_29
set_option maxHeartbeats 4000000 in
theorem tX5_count (l : Launch) (G : GG) (ad : Nat → Nat) (σ : St) (sort : Int) (h : -2147483648 ≤ sort ∧ sort < 2147483648) : Met l yX5_count (ws_ yX5_count cX5_count 2 (some .int)) ⟨1, 0, 0, 22⟩ (wPre G shM ad σ (fun _ => True) [.ref (ad 0), .int (iI sort)]) (qP (.int (iI (sCount (σ 0) sort)))) 0 0 (aM ad) := by
  refine wStart (by decide) (Nat.le_of_ble_eq_true rfl) (fun k hk => ⟨k, hk, rfl⟩) (fun p e s m below meth c S hr hlk _ _ ls hW hl => ?_)
  have hl : lv_has ls 2 [(0, .ref (ad 0)), (1, .int (iI sort))] := hl
  refine lv_iload_n S.1 S.2.1 dX5_count_0 rfl (lv_at hl 1 rfl) ?_
  refine r_iconst S dX5_count_1 ?_
  refine r_iconst S dX5_count_2 ?_
  refine c_SPw S hW (tX5_isIn l sort 0 3 (by omega)) (cw_X5_145 S.2.2.2.2 ⟨Nat.le_of_ble_eq_true rfl, Nat.le_of_ble_eq_true rfl⟩) rfl hl.1 (rest := []) rfl (Nat.le_of_ble_eq_true rfl) dX5_count_3 ⟨Nat.le_of_ble_eq_true rfl, Nat.le_of_ble_eq_true rfl⟩ (fun locs hW => ?_)
  refine r_ifeq_p S (tgt := 18) dX5_count_6 rfl (fun c_6 => ?_) (fun c_6 => ?_)
  ·
    refine r_bipush S dX5_count_18 (by decide) ?_
    exact e_iP S hr hlk hW.2.2.2.2 (by unfold sCount; simp [*]) dX5_count_20
  ·
    refine lv_aload_n S.1 S.2.1 dX5_count_9 rfl (lv_at hl 0 rfl) ?_
    refine w_getr S hW in_X5 0 rfl rfl 0 (by decide) q1651 rfl rfl dX5_count_10 ?_
    refine lv_iload_n S.1 S.2.1 dX5_count_13 rfl (lv_at hl 1 rfl) ?_
    refine w_ald S hW 1 0 rfl rfl (by omega) dX5_count_14 ?_
    refine lv_goto (tgt := 20) S.1 S.2.1 dX5_count_15 rfl ?_
    exact e_iP S hr hlk hW.2.2.2.2 (by unfold sCount; simp [*]) dX5_count_20
set_option maxHeartbeats 4000000 in
theorem tX5_end (l : Launch) (G : GG) (ad : Nat → Nat) (σ : St) (n : Int) (h : -2147483648 ≤ n ∧ n < 2147483648) (hs : 0 ≤ σ 0 4 ∧ σ 0 4 ≤ 600) : Met l yX5_end (ws_ yX5_end cX5_end 2 (some .int)) ⟨0, 0, 0, 0⟩ (wPre G shM ad σ (fun _ => True) [.ref (ad 0), .int (iI n)]) (qS G shM ad (aM ad) (rI (fun r σ' => (r = if 0 ≤ n ∧ n ≤ σ 0 4 then n else -1) ∧ (σ' = if 0 ≤ n ∧ n ≤ σ 0 4 then up σ 0 4 n else σ)))) 0 0 (aM ad) := by
  refine wStart (by decide) (Nat.le_of_ble_eq_true rfl) (fun k hk => ⟨k, hk, rfl⟩) (fun p e s m below meth c S hr hlk _ _ ls hW hl => ?_)
  have hl : lv_has ls 2 [(0, .ref (ad 0)), (1, .int (iI n))] := hl
  refine lv_iload_n S.1 S.2.1 dX5_end_0 rfl (lv_at hl 1 rfl) ?_
  refine r_if_lt S (tgt := 14) dX5_end_1 rfl (by omega) (fun c_1 => ?_) (fun c_1 => ?_)
  ·
    refine r_iconst S dX5_end_14 ?_
    exact e_iS S hr hlk hW ⟨(-1), rfl, ⟨(by first | rw [if_pos (by omega)] | rw [if_neg (by omega)]), (by first | rw [if_pos (by omega)] | rw [if_neg (by omega)])⟩⟩ dX5_end_15
  ·
    refine lv_iload_n S.1 S.2.1 dX5_end_4 rfl (lv_at hl 1 rfl) ?_
    refine lv_aload_n S.1 S.2.1 dX5_end_5 rfl (lv_at hl 0 rfl) ?_
    refine w_getr S hW in_X5 0 rfl rfl 0 (by decide) q1651 rfl rfl dX5_end_6 ?_
    refine r_iconst S dX5_end_9 ?_
    refine w_ald S hW 1 0 rfl rfl (by omega) dX5_end_10 ?_
    refine r_icmp_le S (tgt := 16) dX5_end_11 rfl (by omega) (fun c_11 => ?_) (fun c_11 => ?_)
    ·
      refine lv_aload_n S.1 S.2.1 dX5_end_16 rfl (lv_at hl 0 rfl) ?_
      refine w_getr S hW in_X5 0 rfl rfl 0 (by decide) q1651 rfl rfl dX5_end_17 ?_
      refine r_iconst S dX5_end_20 ?_
      refine lv_iload_n S.1 S.2.1 dX5_end_21 rfl (lv_at hl 1 rfl) ?_
      refine w_ast S hW 1 0 rfl rfl rfl (z := n) (by omega) dX5_end_22 (fun H locs hW => ?_)
      refine lv_iload_n S.1 S.2.1 dX5_end_23 rfl (lv_at hl 1 rfl) ?_
      exact e_iS S hr hlk hW ⟨n, rfl, ⟨(by first | rw [if_pos (by omega)] | rw [if_neg (by omega)]), (by first | rw [if_pos (by omega)] | rw [if_neg (by omega)])⟩⟩ dX5_end_24
    ·
      refine r_iconst S dX5_end_14 ?_
      exact e_iS S hr hlk hW ⟨(-1), rfl, ⟨(by first | rw [if_pos (by omega)] | rw [if_neg (by omega)]), (by first | rw [if_pos (by omega)] | rw [if_neg (by omega)])⟩⟩ dX5_end_15
theorem hd_X5_isArmy : yX5_isArmy.cls ≠ "java/lang/invoke/MethodHandle" ∧ yX5_isArmy.cls ≠ "java/lang/invoke/VarHandle" ∧ (parseMethodDescriptor yX5_isArmy.desc).map (fun d => d.parameters.length) = some 1 := by decide +kernel
theorem cw_X5_218 {R : Room} {s : State} {args : Array Value} (ht : ∀ w ∈ lw_all, w.before args s = true) (hR : 1 + 1 ≤ R.frames ∧ 8 + (1 + 11) + 22 ≤ R.locals) : CallB R s args "OneDrumModel" 218 yX5_isArmy cX5_isArmy 1 (some .boolean) (ws_ yX5_isArmy cX5_isArmy 1 (some .boolean)) ⟨1, 0, 0, 22⟩ 0 0 1 ∧ (Cond.static yX5_isArmy).before args s = true := va_cwS 1 ht (lw_S q1896 q1897 q126 q1898) rfl rfl rfl hd_X5_isArmy hR
theorem hd_X5_orders : yX5_orders.cls = RX5 ∧ yX5_orders.cls ≠ "java/lang/invoke/MethodHandle" ∧ yX5_orders.cls ≠ "java/lang/invoke/VarHandle" ∧ (parseMethodDescriptor yX5_orders.desc).map (fun d => d.parameters.length) = some 1 := by decide +kernel
theorem cw_X5_221 {R : Room} {s : State} {args : Array Value} (ht : ∀ w ∈ lw_all, w.before args s = true) (hR : 1 + 1 ≤ R.frames ∧ 8 + (2 + 11) + 21 ≤ R.locals) : CallW R s args "OneDrumModel" RX5 221 yX5_orders cX5_orders 2 (some .int) (ws_ yX5_orders cX5_orders 2 (some .int)) ⟨1, 0, 0, 21⟩ 0 0 1 := cwV 1 ht (lw_V q1907 q1909 qs71 q126 q1910) rfl rfl rfl hd_X5_orders hR
set_option maxHeartbeats 4000000 in
theorem tX5_isOrder (l : Launch) (G : GG) (ad : Nat → Nat) (σ : St) (army : Int) (k : Int) (hw0 : 0 ≤ σ 10 0 ∧ σ 10 0 ≤ 700) (hr0 : -2147483648 ≤ army ∧ army < 2147483648 ∧ -2147483648 ≤ k ∧ k < 2147483648) (ho : 0 ≤ army ∧ army ≤ 1 → 0 ≤ wr σ (15 + army) ∧ wr σ (15 + army) ≤ 6) : Met l yX5_isOrder (ws_ yX5_isOrder cX5_isOrder 3 (some .boolean)) ⟨2, 0, 0, 42⟩ (wPre G shM ad σ (fun _ => True) [.ref (ad 0), .int (iI army), .int (iI k)]) (qP (.int (iI (b2i (dP ((0 ≤ army ∧ army ≤ 1) ∧ (0 ≤ k ∧ k ≤ wr σ (15 + army) - 1))))))) 0 0 (aM ad) := by
  refine wStart (by decide) (Nat.le_of_ble_eq_true rfl) (fun k hk => ⟨k, hk, rfl⟩) (fun p e s m below meth c S hr hlk _ _ ls hW hl => ?_)
  have hl : lv_has ls 3 [(0, .ref (ad 0)), (1, .int (iI army)), (2, .int (iI k))] := hl
  refine lv_iload_n S.1 S.2.1 dX5_isOrder_0 rfl (lv_at hl 1 rfl) ?_
  refine c_SPw S hW (tX5_isArmy l army (by omega)) (cw_X5_218 S.2.2.2.2 ⟨Nat.le_of_ble_eq_true rfl, Nat.le_of_ble_eq_true rfl⟩) rfl hl.1 (rest := []) rfl (Nat.le_of_ble_eq_true rfl) dX5_isOrder_1 ⟨Nat.le_of_ble_eq_true rfl, Nat.le_of_ble_eq_true rfl⟩ (fun locs hW => ?_)
  refine r_ifeq_p S (tgt := 26) dX5_isOrder_4 rfl (fun c_4 => ?_) (fun c_4 => ?_)
  ·
    refine r_iconst S dX5_isOrder_26 ?_
    exact e_zP S hr hlk hW.2.2.2.2 (by first | exact dP_1 (by omega) | exact dP_0 (by omega) | rfl) dX5_isOrder_27
  ·
    refine lv_iload_n S.1 S.2.1 dX5_isOrder_7 rfl (lv_at hl 2 rfl) ?_
    refine r_iconst S dX5_isOrder_8 ?_
    refine lv_aload_n S.1 S.2.1 dX5_isOrder_9 rfl (lv_at hl 0 rfl) ?_
    refine lv_iload_n S.1 S.2.1 dX5_isOrder_10 rfl (lv_at hl 1 rfl) ?_
    refine c_VP S hW (tX5_orders l G ad σ army (by omega) (by omega)) (cw_X5_221 S.2.2.2.2 ⟨Nat.le_of_ble_eq_true rfl, Nat.le_of_ble_eq_true rfl⟩) eBlind_T (fun _ _ _ => trivial) (w_recv hW (q0 := 0) rfl rfl) rfl hl.1 (rest := [.int (iI 0), .int (iI k)]) rfl (Nat.le_of_ble_eq_true rfl) dX5_isOrder_11 ⟨Nat.le_of_ble_eq_true rfl, Nat.le_of_ble_eq_true rfl⟩ (fun locs hW => ?_)
    refine r_iconst S dX5_isOrder_14 ?_
    refine r_isub S dX5_isOrder_15 ?_
    refine c_SPw S hW (tX5_isIn l k 0 ((wr σ (15 + army)) - 1) (by omega)) (cw_X5_145 S.2.2.2.2 ⟨Nat.le_of_ble_eq_true rfl, Nat.le_of_ble_eq_true rfl⟩) rfl hl.1 (rest := []) rfl (Nat.le_of_ble_eq_true rfl) dX5_isOrder_16 ⟨Nat.le_of_ble_eq_true rfl, Nat.le_of_ble_eq_true rfl⟩ (fun locs hW => ?_)
    refine r_ifeq_p S (tgt := 26) dX5_isOrder_19 rfl (fun c_19 => ?_) (fun c_19 => ?_)
    ·
      refine r_iconst S dX5_isOrder_26 ?_
      exact e_zP S hr hlk hW.2.2.2.2 (by first | exact dP_1 (by omega) | exact dP_0 (by omega) | rfl) dX5_isOrder_27
    ·
      refine r_iconst S dX5_isOrder_22 ?_
      refine lv_goto (tgt := 27) S.1 S.2.1 dX5_isOrder_23 rfl ?_
      exact e_zP S hr hlk hW.2.2.2.2 (by first | exact dP_1 (by omega) | exact dP_0 (by omega) | rfl) dX5_isOrder_27
theorem hd_X5_isWar : yX5_isWar.cls = RX5 ∧ yX5_isWar.cls ≠ "java/lang/invoke/MethodHandle" ∧ yX5_isWar.cls ≠ "java/lang/invoke/VarHandle" ∧ (parseMethodDescriptor yX5_isWar.desc).map (fun d => d.parameters.length) = some 1 := by decide +kernel
theorem cw_X5_224 {R : Room} {s : State} {args : Array Value} (ht : ∀ w ∈ lw_all, w.before args s = true) (hR : 2 + 1 ≤ R.frames ∧ 8 + (2 + 11) + 44 ≤ R.locals) : CallW R s args "OneDrumModel" RX5 224 yX5_isWar cX5_isWar 2 (some .boolean) (ws_ yX5_isWar cX5_isWar 2 (some .boolean)) ⟨2, 0, 0, 44⟩ 0 0 1 := cwV 1 ht (lw_V q1888 q1890 qs68 q126 q1891) rfl rfl rfl hd_X5_isWar hR
set_option maxHeartbeats 4000000 in
theorem tX5_war (l : Launch) (G : GG) (ad : Nat → Nat) (σ : St) (k : Int) (what : Int) (hr0 : -2147483648 ≤ k ∧ k < 2147483648 ∧ -2147483648 ≤ what ∧ what < 2147483648) (hdb : WfDB (σ 0)) : Met l yX5_war (ws_ yX5_war cX5_war 4 (some .int)) ⟨3, 0, 0, 65⟩ (wPre G shM ad σ (fun _ => True) [.ref (ad 0), .int (iI k), .int (iI what)]) (qS G shM ad (aM ad) (rI (fun r σ' => (r = sWar (σ 0) k what) ∧ (same [10] σ σ')))) 0 0 (aM ad) := by
  refine wStart (by decide) (Nat.le_of_ble_eq_true rfl) (fun k hk => ⟨k, hk, rfl⟩) (fun p e s m below meth c S hr hlk _ _ ls hW hl => ?_)
  have hl : lv_has ls 4 [(0, .ref (ad 0)), (1, .int (iI k)), (2, .int (iI what))] := hl
  have d0 := hdb.1
  have d1 := hdb.2.1
  have d2 := hdb.2.2.1
  have d3 := hdb.2.2.2.1
  refine lv_aload_n S.1 S.2.1 dX5_war_0 rfl (lv_at hl 0 rfl) ?_
  refine lv_iload_n S.1 S.2.1 dX5_war_1 rfl (lv_at hl 1 rfl) ?_
  refine c_VSz S hW (tX5_isWar l G ad σ k (by omega) (by omega)) (cw_X5_224 S.2.2.2.2 ⟨Nat.le_of_ble_eq_true rfl, Nat.le_of_ble_eq_true rfl⟩) eBlind_T (fun _ _ _ => trivial) (w_recv hW (q0 := 0) rfl rfl) rfl hl.1 (rest := []) rfl (Nat.le_of_ble_eq_true rfl) dX5_war_2 ⟨Nat.le_of_ble_eq_true rfl, Nat.le_of_ble_eq_true rfl⟩ (fun r2 σ2 H locs q2 hW => ?_)
  obtain ⟨rfl, q2_sm, q2_w⟩ := q2
  have e0 : σ2 0 = σ 0 := q2_sm 0 (by decide)
  refine r_ifne_p S (tgt := 10) dX5_war_5 rfl (fun c_5 => ?_) (fun c_5 => ?_)
  ·
    have w10 := q2_w (by omega)
    have we : wr σ2 = wAt (σ 0) k := wr_at e0 w10
    have we2 : ∀ j, wr σ2 j = wAt (σ 0) k j := fun j => congrFun we j
    have hWf := hdb.2.2.2.2.2.2.2.2.1 k (by omega) (by omega)
    refine lv_iload_n S.1 S.2.1 dX5_war_10 rfl (lv_at hl 2 rfl) ?_
    refine r_iconst S dX5_war_11 ?_
    refine r_iconst S dX5_war_12 ?_
    refine c_SPw S hW (tX5_isIn l what 0 2 (by omega)) (cw_X5_145 S.2.2.2.2 ⟨Nat.le_of_ble_eq_true rfl, Nat.le_of_ble_eq_true rfl⟩) rfl hl.1 (rest := []) rfl (Nat.le_of_ble_eq_true rfl) dX5_war_13 ⟨Nat.le_of_ble_eq_true rfl, Nat.le_of_ble_eq_true rfl⟩ (fun locs hW => ?_)
    refine r_ifeq_p S (tgt := 25) dX5_war_16 rfl (fun c_16 => ?_) (fun c_16 => ?_)
    ·
      refine lv_iload_n S.1 S.2.1 dX5_war_25 rfl (lv_at hl 2 rfl) ?_
      refine r_bipush S dX5_war_26 (by decide) ?_
      refine r_bipush S dX5_war_28 (by decide) ?_
      refine c_SPw S hW (tX5_isIn l what 10 13 (by omega)) (cw_X5_145 S.2.2.2.2 ⟨Nat.le_of_ble_eq_true rfl, Nat.le_of_ble_eq_true rfl⟩) rfl hl.1 (rest := []) rfl (Nat.le_of_ble_eq_true rfl) dX5_war_30 ⟨Nat.le_of_ble_eq_true rfl, Nat.le_of_ble_eq_true rfl⟩ (fun locs hW => ?_)
      refine r_ifeq_p S (tgt := 47) dX5_war_33 rfl (fun c_33 => ?_) (fun c_33 => ?_)
      ·
        refine lv_iload_n S.1 S.2.1 dX5_war_47 rfl (lv_at hl 2 rfl) ?_
        refine r_bipush S dX5_war_48 (by decide) ?_
        refine r_iremT S dX5_war_50 (by omega) ?_
        have hm0 := Int.tmod_lt_of_pos what (show (0:Int) < 10 by decide)
        have hm1 : -10 < what.tmod 10 := Int.lt_tmod_of_pos what (by decide)
        refine lv_istore_n (lv' := [(3, .int (iI (what.tmod 10))), (0, .ref (ad 0)), (1, .int (iI k)), (2, .int (iI what))]) S.1 S.2.1 dX5_war_51 rfl hl (by decide) rfl (fun ls hl => ?_)
        refine lv_iload_n S.1 S.2.1 dX5_war_52 rfl (lv_at hl 3 rfl) ?_
        refine r_bipush S dX5_war_53 (by decide) ?_
        refine r_bipush S dX5_war_55 (by decide) ?_
        refine c_SPw S hW (tX5_isIn l what 20 69 (by omega)) (cw_X5_145 S.2.2.2.2 ⟨Nat.le_of_ble_eq_true rfl, Nat.le_of_ble_eq_true rfl⟩) rfl hl.1 (rest := []) rfl (Nat.le_of_ble_eq_true rfl) dX5_war_57 ⟨Nat.le_of_ble_eq_true rfl, Nat.le_of_ble_eq_true rfl⟩ (fun locs hW => ?_)
        refine r_ifeq_p S (tgt := 90) dX5_war_60 rfl (fun c_60 => ?_) (fun c_60 => ?_)
        ·
          refine r_iconst S dX5_war_90 ?_
          exact e_iS S hr hlk hW ⟨(-1), rfl, ⟨(by unfold sWar; (try simp only [we2]); grind), (q2_sm)⟩⟩ dX5_war_91
        ·
          have hm : what.tmod 10 = what % 10 := Int.tmod_eq_emod_of_nonneg (by omega)
          refine lv_iload_n S.1 S.2.1 dX5_war_63 rfl (lv_at hl 0 rfl) ?_
          refine c_SPw S hW (tX5_isArmy l (what.tmod 10) (by omega)) (cw_X5_218 S.2.2.2.2 ⟨Nat.le_of_ble_eq_true rfl, Nat.le_of_ble_eq_true rfl⟩) rfl hl.1 (rest := []) rfl (Nat.le_of_ble_eq_true rfl) dX5_war_64 ⟨Nat.le_of_ble_eq_true rfl, Nat.le_of_ble_eq_true rfl⟩ (fun locs hW => ?_)
          refine r_ifeq_p S (tgt := 90) dX5_war_67 rfl (fun c_67 => ?_) (fun c_67 => ?_)
          ·
            refine r_iconst S dX5_war_90 ?_
            exact e_iS S hr hlk hW ⟨(-1), rfl, ⟨(by unfold sWar; (try simp only [we2]); grind), (q2_sm)⟩⟩ dX5_war_91
          ·
            refine lv_aload_n S.1 S.2.1 dX5_war_70 rfl (lv_at hl 1 rfl) ?_
            refine r_bipush S dX5_war_71 (by decide) ?_
            refine r_iconst S dX5_war_73 ?_
            refine lv_iload_n S.1 S.2.1 dX5_war_74 rfl (lv_at hl 3 rfl) ?_
            refine r_bipush S dX5_war_75 (by decide) ?_
            refine r_idiv S dX5_war_77 (by omega) ?_
            refine r_iconst S dX5_war_78 ?_
            refine r_isub S dX5_war_79 ?_
            refine r_imul S dX5_war_80 ?_
            refine r_iadd S dX5_war_81 ?_
            refine lv_iload_n S.1 S.2.1 dX5_war_82 rfl (lv_at hl 0 rfl) ?_
            refine r_iadd S dX5_war_83 ?_
            refine c_VP S hW (tX5_of l G ad σ2 ((7 + (2 * ((what / 10) - 2))) + (what.tmod 10)) (by omega)) (cw_X5_212 S.2.2.2.2 ⟨Nat.le_of_ble_eq_true rfl, Nat.le_of_ble_eq_true rfl⟩) eBlind_T (fun _ _ _ => trivial) (w_recv hW (q0 := 0) rfl rfl) rfl hl.1 (rest := []) rfl (Nat.le_of_ble_eq_true rfl) dX5_war_84 ⟨Nat.le_of_ble_eq_true rfl, Nat.le_of_ble_eq_true rfl⟩ (fun locs hW => ?_)
            refine lv_goto (tgt := 91) S.1 S.2.1 dX5_war_87 rfl ?_
            exact e_iS S hr hlk hW ⟨(wr σ2 ((7 + (2 * ((what / 10) - 2))) + (what.tmod 10))), rfl, ⟨(by unfold sWar; (try simp only [we2]); grind), (q2_sm)⟩⟩ dX5_war_91
      ·
        refine lv_aload_n S.1 S.2.1 dX5_war_36 rfl (lv_at hl 0 rfl) ?_
        refine r_iconst S dX5_war_37 ?_
        refine lv_iload_n S.1 S.2.1 dX5_war_38 rfl (lv_at hl 2 rfl) ?_
        refine r_iadd S dX5_war_39 ?_
        refine r_bipush S dX5_war_40 (by decide) ?_
        refine r_isub S dX5_war_42 ?_
        refine c_VP S hW (tX5_of l G ad σ2 ((3 + what) - 10) (by omega)) (cw_X5_212 S.2.2.2.2 ⟨Nat.le_of_ble_eq_true rfl, Nat.le_of_ble_eq_true rfl⟩) eBlind_T (fun _ _ _ => trivial) (w_recv hW (q0 := 0) rfl rfl) rfl hl.1 (rest := []) rfl (Nat.le_of_ble_eq_true rfl) dX5_war_43 ⟨Nat.le_of_ble_eq_true rfl, Nat.le_of_ble_eq_true rfl⟩ (fun locs hW => ?_)
        exact e_iS S hr hlk hW ⟨(wr σ2 ((3 + what) - 10)), rfl, ⟨(by unfold sWar; (try simp only [we2]); grind), (q2_sm)⟩⟩ dX5_war_46
    ·
      refine lv_aload_n S.1 S.2.1 dX5_war_19 rfl (lv_at hl 0 rfl) ?_
      refine lv_iload_n S.1 S.2.1 dX5_war_20 rfl (lv_at hl 2 rfl) ?_
      refine c_VP S hW (tX5_of l G ad σ2 what (by omega)) (cw_X5_212 S.2.2.2.2 ⟨Nat.le_of_ble_eq_true rfl, Nat.le_of_ble_eq_true rfl⟩) eBlind_T (fun _ _ _ => trivial) (w_recv hW (q0 := 0) rfl rfl) rfl hl.1 (rest := []) rfl (Nat.le_of_ble_eq_true rfl) dX5_war_21 ⟨Nat.le_of_ble_eq_true rfl, Nat.le_of_ble_eq_true rfl⟩ (fun locs hW => ?_)
      exact e_iS S hr hlk hW ⟨(wr σ2 what), rfl, ⟨(by unfold sWar; (try simp only [we2]); grind), (q2_sm)⟩⟩ dX5_war_24
  ·
    refine r_iconst S dX5_war_8 ?_
    exact e_iS S hr hlk hW ⟨(-1), rfl, ⟨(by unfold sWar; rw [if_neg (by omega)]), (q2_sm)⟩⟩ dX5_war_9
theorem hd_X5_beatOf : yX5_beatOf.cls = RX5 ∧ yX5_beatOf.cls ≠ "java/lang/invoke/MethodHandle" ∧ yX5_beatOf.cls ≠ "java/lang/invoke/VarHandle" ∧ (parseMethodDescriptor yX5_beatOf.desc).map (fun d => d.parameters.length) = some 3 := by decide +kernel
theorem cw_X5_233 {R : Room} {s : State} {args : Array Value} (ht : ∀ w ∈ lw_all, w.before args s = true) (hR : 1 + 1 ≤ R.frames ∧ 8 + (4 + 11) + 22 ≤ R.locals) : CallW R s args "OneDrumModel" RX5 233 yX5_beatOf cX5_beatOf 4 (some .int) (ws_ yX5_beatOf cX5_beatOf 4 (some .int)) ⟨1, 0, 0, 22⟩ 0 0 3 := cwV 3 ht (lw_V q1919 q1921 qs74 q126 q1922) rfl rfl rfl hd_X5_beatOf hR
theorem hd_X5_isOrder : yX5_isOrder.cls = RX5 ∧ yX5_isOrder.cls ≠ "java/lang/invoke/MethodHandle" ∧ yX5_isOrder.cls ≠ "java/lang/invoke/VarHandle" ∧ (parseMethodDescriptor yX5_isOrder.desc).map (fun d => d.parameters.length) = some 2 := by decide +kernel
theorem cw_X5_227 {R : Room} {s : State} {args : Array Value} (ht : ∀ w ∈ lw_all, w.before args s = true) (hR : 2 + 1 ≤ R.frames ∧ 8 + (3 + 11) + 42 ≤ R.locals) : CallW R s args "OneDrumModel" RX5 227 yX5_isOrder cX5_isOrder 3 (some .boolean) (ws_ yX5_isOrder cX5_isOrder 3 (some .boolean)) ⟨2, 0, 0, 42⟩ 0 0 2 := cwV 2 ht (lw_V q1903 q1905 qs70 q126 q1906) rfl rfl rfl hd_X5_isOrder hR
theorem hd_X5_lengthOf : yX5_lengthOf.cls = RX5 ∧ yX5_lengthOf.cls ≠ "java/lang/invoke/MethodHandle" ∧ yX5_lengthOf.cls ≠ "java/lang/invoke/VarHandle" ∧ (parseMethodDescriptor yX5_lengthOf.desc).map (fun d => d.parameters.length) = some 2 := by decide +kernel
theorem cw_X5_230 {R : Room} {s : State} {args : Array Value} (ht : ∀ w ∈ lw_all, w.before args s = true) (hR : 1 + 1 ≤ R.frames ∧ 8 + (3 + 11) + 22 ≤ R.locals) : CallW R s args "OneDrumModel" RX5 230 yX5_lengthOf cX5_lengthOf 3 (some .int) (ws_ yX5_lengthOf cX5_lengthOf 3 (some .int)) ⟨1, 0, 0, 22⟩ 0 0 2 := cwV 2 ht (lw_V q1915 q1917 qs73 q126 q1918) rfl rfl rfl hd_X5_lengthOf hR
set_option maxHeartbeats 4000000 in
theorem tX5_order (l : Launch) (G : GG) (ad : Nat → Nat) (σ : St) (k : Int) (army : Int) (o : Int) (what : Int) (hr0 : -2147483648 ≤ k ∧ k < 2147483648 ∧ -2147483648 ≤ army ∧ army < 2147483648 ∧ -2147483648 ≤ o ∧ o < 2147483648 ∧ -2147483648 ≤ what ∧ what < 2147483648) (hdb : WfDB (σ 0)) : Met l yX5_order (ws_ yX5_order cX5_order 5 (some .int)) ⟨3, 0, 0, 65⟩ (wPre G shM ad σ (fun _ => True) [.ref (ad 0), .int (iI k), .int (iI army), .int (iI o), .int (iI what)]) (qS G shM ad (aM ad) (rI (fun r σ' => (r = sOrder (σ 0) k army o what) ∧ (same [10] σ σ')))) 0 0 (aM ad) := by
  refine wStart (by decide) (Nat.le_of_ble_eq_true rfl) (fun k hk => ⟨k, hk, rfl⟩) (fun p e s m below meth c S hr hlk _ _ ls hW hl => ?_)
  have hl : lv_has ls 5 [(0, .ref (ad 0)), (1, .int (iI k)), (2, .int (iI army)), (3, .int (iI o)), (4, .int (iI what))] := hl
  have d0 := hdb.1
  have d1 := hdb.2.1
  have d2 := hdb.2.2.1
  have d3 := hdb.2.2.2.1
  refine lv_aload_n S.1 S.2.1 dX5_order_0 rfl (lv_at hl 0 rfl) ?_
  refine lv_iload_n S.1 S.2.1 dX5_order_1 rfl (lv_at hl 1 rfl) ?_
  refine c_VSz S hW (tX5_isWar l G ad σ k (by omega) (by omega)) (cw_X5_224 S.2.2.2.2 ⟨Nat.le_of_ble_eq_true rfl, Nat.le_of_ble_eq_true rfl⟩) eBlind_T (fun _ _ _ => trivial) (w_recv hW (q0 := 0) rfl rfl) rfl hl.1 (rest := []) rfl (Nat.le_of_ble_eq_true rfl) dX5_order_2 ⟨Nat.le_of_ble_eq_true rfl, Nat.le_of_ble_eq_true rfl⟩ (fun r2 σ2 H locs q2 hW => ?_)
  obtain ⟨rfl, q2_sm, q2_w⟩ := q2
  have e0 : σ2 0 = σ 0 := q2_sm 0 (by decide)
  refine r_ifeq_p S (tgt := 17) dX5_order_5 rfl (fun c_5 => ?_) (fun c_5 => ?_)
  ·
    refine r_iconst S dX5_order_17 ?_
    exact e_iS S hr hlk hW ⟨(-1), rfl, ⟨(by unfold sOrder; (try simp only [we2] at *); grind), (q2_sm)⟩⟩ dX5_order_18
  ·
    have w10 := q2_w (by omega)
    have we : wr σ2 = wAt (σ 0) k := wr_at e0 w10
    have we2 : ∀ j, wr σ2 j = wAt (σ 0) k j := fun j => congrFun we j
    have hWf := hdb.2.2.2.2.2.2.2.2.1 k (by omega) (by omega)
    refine lv_aload_n S.1 S.2.1 dX5_order_8 rfl (lv_at hl 0 rfl) ?_
    refine lv_iload_n S.1 S.2.1 dX5_order_9 rfl (lv_at hl 2 rfl) ?_
    refine lv_iload_n S.1 S.2.1 dX5_order_10 rfl (lv_at hl 3 rfl) ?_
    refine c_VP S hW (tX5_isOrder l G ad σ2 army o (by omega) (by omega) (fun h9 => by rw [we2]; exact (hWf.2.2.2.2 army h9.1 h9.2).2.2.2.2.1)) (cw_X5_227 S.2.2.2.2 ⟨Nat.le_of_ble_eq_true rfl, Nat.le_of_ble_eq_true rfl⟩) eBlind_T (fun _ _ _ => trivial) (w_recv hW (q0 := 0) rfl rfl) rfl hl.1 (rest := []) rfl (Nat.le_of_ble_eq_true rfl) dX5_order_11 ⟨Nat.le_of_ble_eq_true rfl, Nat.le_of_ble_eq_true rfl⟩ (fun locs hW => ?_)
    refine r_ifne_p S (tgt := 19) dX5_order_14 rfl (fun c_14 => ?_) (fun c_14 => ?_)
    ·
      have hA := hWf.2.2.2.2 army (by omega) (by omega)
      have hO := hA.2.2.2.2.2 o (by omega) (by rw [← we2]; omega)
      have hO5 := hA.2.2.2.2.1
      have hO4 := we2 (15 + army)
      have ol : oLen (wr σ2) army o = oLen (wAt (σ 0) k) army o := by rw [we]
      have hO2 := hO.2.1
      refine lv_iload S.1 S.2.1 dX5_order_19 (lv_at hl 4 rfl) ?_
      refine r_iconst S dX5_order_21 ?_
      refine r_iconst S dX5_order_22 ?_
      refine c_SPw S hW (tX5_isIn l what 0 1 (by omega)) (cw_X5_145 S.2.2.2.2 ⟨Nat.le_of_ble_eq_true rfl, Nat.le_of_ble_eq_true rfl⟩) rfl hl.1 (rest := []) rfl (Nat.le_of_ble_eq_true rfl) dX5_order_23 ⟨Nat.le_of_ble_eq_true rfl, Nat.le_of_ble_eq_true rfl⟩ (fun locs hW => ?_)
      refine r_ifeq_p S (tgt := 44) dX5_order_26 rfl (fun c_26 => ?_) (fun c_26 => ?_)
      ·
        refine lv_iload S.1 S.2.1 dX5_order_44 (lv_at hl 4 rfl) ?_
        refine r_bipush S dX5_order_46 (by decide) ?_
        refine r_bipush S dX5_order_48 (by decide) ?_
        refine lv_aload_n S.1 S.2.1 dX5_order_50 rfl (lv_at hl 0 rfl) ?_
        refine lv_iload_n S.1 S.2.1 dX5_order_51 rfl (lv_at hl 2 rfl) ?_
        refine lv_iload_n S.1 S.2.1 dX5_order_52 rfl (lv_at hl 3 rfl) ?_
        refine c_VP S hW (tX5_lengthOf l G ad σ2 army o (by omega) (by omega)) (cw_X5_230 S.2.2.2.2 ⟨Nat.le_of_ble_eq_true rfl, Nat.le_of_ble_eq_true rfl⟩) eBlind_T (fun _ _ _ => trivial) (w_recv hW (q0 := 0) rfl rfl) rfl hl.1 (rest := [.int (iI 9), .int (iI 10), .int (iI what)]) rfl (Nat.le_of_ble_eq_true rfl) dX5_order_53 ⟨Nat.le_of_ble_eq_true rfl, Nat.le_of_ble_eq_true rfl⟩ (fun locs hW => ?_)
        refine r_iadd S dX5_order_56 ?_
        refine c_SPw S hW (tX5_isIn l what 10 (9 + (oLen (wr σ2) army o)) (by omega)) (cw_X5_145 S.2.2.2.2 ⟨Nat.le_of_ble_eq_true rfl, Nat.le_of_ble_eq_true rfl⟩) rfl hl.1 (rest := []) rfl (Nat.le_of_ble_eq_true rfl) dX5_order_57 ⟨Nat.le_of_ble_eq_true rfl, Nat.le_of_ble_eq_true rfl⟩ (fun locs hW => ?_)
        refine r_ifeq_p S (tgt := 77) dX5_order_60 rfl (fun c_60 => ?_) (fun c_60 => ?_)
        ·
          refine r_iconst S dX5_order_77 ?_
          exact e_iS S hr hlk hW ⟨(-1), rfl, ⟨(by unfold sOrder; rw [we] at *; grind), (q2_sm)⟩⟩ dX5_order_78
        ·
          refine lv_aload_n S.1 S.2.1 dX5_order_63 rfl (lv_at hl 0 rfl) ?_
          refine lv_iload_n S.1 S.2.1 dX5_order_64 rfl (lv_at hl 2 rfl) ?_
          refine lv_iload_n S.1 S.2.1 dX5_order_65 rfl (lv_at hl 3 rfl) ?_
          refine lv_iload S.1 S.2.1 dX5_order_66 (lv_at hl 4 rfl) ?_
          refine r_bipush S dX5_order_68 (by decide) ?_
          refine r_isub S dX5_order_70 ?_
          refine c_VP S hW (tX5_beatOf l G ad σ2 army o (what - 10) (by omega) (by omega)) (cw_X5_233 S.2.2.2.2 ⟨Nat.le_of_ble_eq_true rfl, Nat.le_of_ble_eq_true rfl⟩) eBlind_T (fun _ _ _ => trivial) (w_recv hW (q0 := 0) rfl rfl) rfl hl.1 (rest := []) rfl (Nat.le_of_ble_eq_true rfl) dX5_order_71 ⟨Nat.le_of_ble_eq_true rfl, Nat.le_of_ble_eq_true rfl⟩ (fun locs hW => ?_)
          refine lv_goto (tgt := 78) S.1 S.2.1 dX5_order_74 rfl ?_
          exact e_iS S hr hlk hW ⟨(oBeat (wr σ2) army o (what - 10)), rfl, ⟨(by unfold sOrder; rw [we] at *; grind), (q2_sm)⟩⟩ dX5_order_78
      ·
        refine lv_aload_n S.1 S.2.1 dX5_order_29 rfl (lv_at hl 0 rfl) ?_
        refine w_getr S hW in_X5 0 rfl rfl 0 (by decide) q1651 rfl rfl dX5_order_30 ?_
        refine lv_aload_n S.1 S.2.1 dX5_order_33 rfl (lv_at hl 0 rfl) ?_
        refine lv_iload_n S.1 S.2.1 dX5_order_34 rfl (lv_at hl 2 rfl) ?_
        refine lv_iload_n S.1 S.2.1 dX5_order_35 rfl (lv_at hl 3 rfl) ?_
        refine c_VP S hW (tX5_orderAt l G ad σ2 army o) (cw_X5_215 S.2.2.2.2 ⟨Nat.le_of_ble_eq_true rfl, Nat.le_of_ble_eq_true rfl⟩) eBlind_T (fun _ _ _ => trivial) (w_recv hW (q0 := 0) rfl rfl) rfl hl.1 (rest := [.ref (ad 1)]) rfl (Nat.le_of_ble_eq_true rfl) dX5_order_36 ⟨Nat.le_of_ble_eq_true rfl, Nat.le_of_ble_eq_true rfl⟩ (fun locs hW => ?_)
        refine lv_iload S.1 S.2.1 dX5_order_39 (lv_at hl 4 rfl) ?_
        refine r_iadd S dX5_order_41 ?_
        refine w_ald S hW 1 0 rfl rfl (by omega) dX5_order_42 ?_
        exact e_iS S hr hlk hW ⟨(σ2 0 ((σ2 10 0 + 17 + 36 * army + 6 * o) + what)), rfl, ⟨(by unfold sOrder; rw [if_pos (by rw [← we2]; omega)]; rcases (show what = 0 ∨ what = 1 by omega) with rfl | rfl <;> simp only [oMove, oLen, ← we] <;> simp <;> congr 1 <;> omega), (q2_sm)⟩⟩ dX5_order_43
    ·
      refine r_iconst S dX5_order_17 ?_
      exact e_iS S hr hlk hW ⟨(-1), rfl, ⟨(by unfold sOrder; (try simp only [we2] at *); grind), (q2_sm)⟩⟩ dX5_order_18
theorem hd_X5_isScore : yX5_isScore.cls = RX5 ∧ yX5_isScore.cls ≠ "java/lang/invoke/MethodHandle" ∧ yX5_isScore.cls ≠ "java/lang/invoke/VarHandle" ∧ (parseMethodDescriptor yX5_isScore.desc).map (fun d => d.parameters.length) = some 1 := by decide +kernel
theorem cw_X5_240 {R : Room} {s : State} {args : Array Value} (ht : ∀ w ∈ lw_all, w.before args s = true) (hR : 2 + 1 ≤ R.frames ∧ 8 + (2 + 11) + 44 ≤ R.locals) : CallW R s args "OneDrumModel" RX5 240 yX5_isScore cX5_isScore 2 (some .boolean) (ws_ yX5_isScore cX5_isScore 2 (some .boolean)) ⟨2, 0, 0, 44⟩ 0 0 1 := cwV 1 ht (lw_V q1927 q1929 qs75 q126 q1930) rfl rfl rfl hd_X5_isScore hR
set_option maxHeartbeats 4000000 in
theorem tX5_given (l : Launch) (G : GG) (ad : Nat → Nat) (σ : St) (s0 : Int) (gv : Int) (k : Int) (hr0 : -2147483648 ≤ s0 ∧ s0 < 2147483648 ∧ -2147483648 ≤ gv ∧ gv < 2147483648 ∧ -2147483648 ≤ k ∧ k < 2147483648) (hdb : WfDB (σ 0)) : Met l yX5_given (ws_ yX5_given cX5_given 4 (some .int)) ⟨3, 0, 0, 65⟩ (wPre G shM ad σ (fun _ => True) [.ref (ad 0), .int (iI s0), .int (iI gv), .int (iI k)]) (qS G shM ad (aM ad) (rI (fun r σ' => (r = sGiven (σ 0) s0 gv k) ∧ (same [11] σ σ')))) 0 0 (aM ad) := by
  refine wStart (by decide) (Nat.le_of_ble_eq_true rfl) (fun k hk => ⟨k, hk, rfl⟩) (fun p e s m below meth c S hr hlk _ _ ls hW hl => ?_)
  have hl : lv_has ls 4 [(0, .ref (ad 0)), (1, .int (iI s0)), (2, .int (iI gv)), (3, .int (iI k))] := hl
  have d0 := hdb.1
  have d1 := hdb.2.1
  have d2 := hdb.2.2.1
  have d3 := hdb.2.2.2.1
  refine lv_aload_n S.1 S.2.1 dX5_given_0 rfl (lv_at hl 0 rfl) ?_
  refine lv_iload_n S.1 S.2.1 dX5_given_1 rfl (lv_at hl 1 rfl) ?_
  refine c_VSz S hW (tX5_isScore l G ad σ s0 (by omega) (by omega)) (cw_X5_240 S.2.2.2.2 ⟨Nat.le_of_ble_eq_true rfl, Nat.le_of_ble_eq_true rfl⟩) eBlind_T (fun _ _ _ => trivial) (w_recv hW (q0 := 0) rfl rfl) rfl hl.1 (rest := []) rfl (Nat.le_of_ble_eq_true rfl) dX5_given_2 ⟨Nat.le_of_ble_eq_true rfl, Nat.le_of_ble_eq_true rfl⟩ (fun r2 σ2 H locs q2 hW => ?_)
  obtain ⟨rfl, q2_sm, q2_w⟩ := q2
  have e0 : σ2 0 = σ 0 := q2_sm 0 (by decide)
  refine r_ifeq_p S (tgt := 15) dX5_given_5 rfl (fun c_5 => ?_) (fun c_5 => ?_)
  ·
    refine r_iconst S dX5_given_15 ?_
    exact e_iS S hr hlk hW ⟨(-1), rfl, ⟨(by unfold sGiven; rw [if_neg (by omega)]), (q2_sm)⟩⟩ dX5_given_16
  ·
    have w11 := q2_w (by omega)
    have hg := hdb.2.2.2.2.2.2.2.2.2.1 s0 (by omega) (by omega)
    refine lv_iload_n S.1 S.2.1 dX5_given_8 rfl (lv_at hl 2 rfl) ?_
    refine c_SPw S hW (tX5_isArmy l gv (by omega)) (cw_X5_218 S.2.2.2.2 ⟨Nat.le_of_ble_eq_true rfl, Nat.le_of_ble_eq_true rfl⟩) rfl hl.1 (rest := []) rfl (Nat.le_of_ble_eq_true rfl) dX5_given_9 ⟨Nat.le_of_ble_eq_true rfl, Nat.le_of_ble_eq_true rfl⟩ (fun locs hW => ?_)
    refine r_ifne_p S (tgt := 17) dX5_given_12 rfl (fun c_12 => ?_) (fun c_12 => ?_)
    ·
      have hg0 := (hg gv (by omega) (by omega)).1
      have ge : σ2 0 (σ2 11 0 + gv) = gAt (σ 0) s0 gv := by rw [e0, w11]; rfl
      refine lv_iload_n S.1 S.2.1 dX5_given_17 rfl (lv_at hl 3 rfl) ?_
      refine r_iconst S dX5_given_18 ?_
      refine r_icmp_ne S (tgt := 36) dX5_given_19 rfl (by omega) (fun c_19 => ?_) (fun c_19 => ?_)
      ·
        refine lv_iload_n S.1 S.2.1 dX5_given_36 rfl (lv_at hl 3 rfl) ?_
        refine r_iconst S dX5_given_37 ?_
        refine lv_aload_n S.1 S.2.1 dX5_given_38 rfl (lv_at hl 0 rfl) ?_
        refine w_getr S hW in_X5 0 rfl rfl 0 (by decide) q1651 rfl rfl dX5_given_39 ?_
        refine lv_aload_n S.1 S.2.1 dX5_given_42 rfl (lv_at hl 0 rfl) ?_
        refine w_geti S hW in_X5 0 rfl rfl 11 (by decide) q1662 rfl rfl dX5_given_43 ?_
        refine lv_iload_n S.1 S.2.1 dX5_given_46 rfl (lv_at hl 2 rfl) ?_
        refine r_iadd S dX5_given_47 ?_
        refine w_ald S hW 1 0 rfl rfl (by omega) dX5_given_48 ?_
        refine r_iconst S dX5_given_49 ?_
        refine r_isub S dX5_given_50 ?_
        refine c_SPw S hW (tX5_isIn l k 0 ((σ2 0 ((σ2 11 0) + gv)) - 1) (by omega)) (cw_X5_145 S.2.2.2.2 ⟨Nat.le_of_ble_eq_true rfl, Nat.le_of_ble_eq_true rfl⟩) rfl hl.1 (rest := []) rfl (Nat.le_of_ble_eq_true rfl) dX5_given_51 ⟨Nat.le_of_ble_eq_true rfl, Nat.le_of_ble_eq_true rfl⟩ (fun locs hW => ?_)
        refine r_ifeq_p S (tgt := 78) dX5_given_54 rfl (fun c_54 => ?_) (fun c_54 => ?_)
        ·
          refine r_iconst S dX5_given_78 ?_
          exact e_iS S hr hlk hW ⟨(-1), rfl, ⟨(by unfold sGiven; rw [if_pos (by omega)]; first | (rw [if_pos (by omega)]; omega) | (rw [if_neg (by omega), if_neg (by omega)]) | (rw [if_neg (by omega), if_pos (by omega), e0, w11]; unfold gAt; congr 1; omega)), (q2_sm)⟩⟩ dX5_given_79
        ·
          refine lv_aload_n S.1 S.2.1 dX5_given_57 rfl (lv_at hl 0 rfl) ?_
          refine w_getr S hW in_X5 0 rfl rfl 0 (by decide) q1651 rfl rfl dX5_given_58 ?_
          refine lv_aload_n S.1 S.2.1 dX5_given_61 rfl (lv_at hl 0 rfl) ?_
          refine w_geti S hW in_X5 0 rfl rfl 11 (by decide) q1662 rfl rfl dX5_given_62 ?_
          refine r_iconst S dX5_given_65 ?_
          refine r_iadd S dX5_given_66 ?_
          refine r_bipush S dX5_given_67 (by decide) ?_
          refine lv_iload_n S.1 S.2.1 dX5_given_69 rfl (lv_at hl 2 rfl) ?_
          refine r_imul S dX5_given_70 ?_
          refine r_iadd S dX5_given_71 ?_
          refine lv_iload_n S.1 S.2.1 dX5_given_72 rfl (lv_at hl 3 rfl) ?_
          refine r_iadd S dX5_given_73 ?_
          refine w_ald S hW 1 0 rfl rfl (by omega) dX5_given_74 ?_
          refine lv_goto (tgt := 79) S.1 S.2.1 dX5_given_75 rfl ?_
          exact e_iS S hr hlk hW ⟨(σ2 0 ((((σ2 11 0) + 2) + (12 * gv)) + k)), rfl, ⟨(by unfold sGiven; rw [if_pos (by omega)]; first | (rw [if_pos (by omega)]; omega) | (rw [if_neg (by omega), if_neg (by omega)]) | (rw [if_neg (by omega), if_pos (by omega), e0, w11]; unfold gAt; congr 1; omega)), (q2_sm)⟩⟩ dX5_given_79
      ·
        refine lv_aload_n S.1 S.2.1 dX5_given_22 rfl (lv_at hl 0 rfl) ?_
        refine w_getr S hW in_X5 0 rfl rfl 0 (by decide) q1651 rfl rfl dX5_given_23 ?_
        refine lv_aload_n S.1 S.2.1 dX5_given_26 rfl (lv_at hl 0 rfl) ?_
        refine w_geti S hW in_X5 0 rfl rfl 11 (by decide) q1662 rfl rfl dX5_given_27 ?_
        refine lv_iload_n S.1 S.2.1 dX5_given_30 rfl (lv_at hl 2 rfl) ?_
        refine r_iadd S dX5_given_31 ?_
        refine w_ald S hW 1 0 rfl rfl (by omega) dX5_given_32 ?_
        refine lv_goto (tgt := 79) S.1 S.2.1 dX5_given_33 rfl ?_
        exact e_iS S hr hlk hW ⟨(σ2 0 ((σ2 11 0) + gv)), rfl, ⟨(by unfold sGiven; rw [if_pos (by omega)]; first | (rw [if_pos (by omega)]; omega) | (rw [if_neg (by omega), if_neg (by omega)]) | (rw [if_neg (by omega), if_pos (by omega), e0, w11]; unfold gAt; congr 1; omega)), (q2_sm)⟩⟩ dX5_given_79
    ·
      refine r_iconst S dX5_given_15 ?_
      exact e_iS S hr hlk hW ⟨(-1), rfl, ⟨(by unfold sGiven; rw [if_neg (by omega)]), (q2_sm)⟩⟩ dX5_given_16
theorem hd_X5_laysRow : yX5_laysRow.cls = RX5 ∧ yX5_laysRow.cls ≠ "java/lang/invoke/MethodHandle" ∧ yX5_laysRow.cls ≠ "java/lang/invoke/VarHandle" ∧ (parseMethodDescriptor yX5_laysRow.desc).map (fun d => d.parameters.length) = some 0 := by decide +kernel
theorem cw_X5_246 {R : Room} {s : State} {args : Array Value} (ht : ∀ w ∈ lw_all, w.before args s = true) (hR : 1 + 1 ≤ R.frames ∧ 8 + (4 + 11) + 21 ≤ R.locals) : CallW R s args "OneDrumModel" RX5 246 yX5_laysRow cX5_laysRow 4 none (ws_ yX5_laysRow cX5_laysRow 4 none) ⟨1, 0, 0, 21⟩ 0 0 0 := cwV 0 ht (lw_V q1943 q1945 qs78 q126 q1946) rfl rfl rfl hd_X5_laysRow hR
set_option maxHeartbeats 4000000 in
theorem tX5_takesScore (l : Launch) (G : GG) (ad : Nat → Nat) (σ : St) (hw0 : 0 ≤ σ 10 0 ∧ σ 10 0 ≤ 700) (hg0 : 0 ≤ σ 11 0 ∧ σ 11 0 ≤ 900) (ht : 1 ≤ wr σ 0 ∧ wr σ 0 ≤ 4) (hg : WfScore (gr σ)) : Met l yX5_takesScore (ws_ yX5_takesScore cX5_takesScore 3 none) ⟨2, 0, 0, 44⟩ (wPre G shM ad σ (fun _ => True) [.ref (ad 0)]) (qS G shM ad (aM ad) (rV (fun σ' => (σ' 18 0 = (rowG (wr σ) (gr σ)).length) ∧ (Row σ' 14 15 (rowG (wr σ) (gr σ)) (rowG (wr σ) (gr σ)).length) ∧ (σ' 13 0 = gr σ 0 ∧ σ' 13 1 = gr σ 1) ∧ (∀ i : Int, 0 ≤ i → i < gr σ 0 → σ' 12 i = gi (gl (gr σ) 0) i) ∧ (∀ i : Int, 0 ≤ i → i < gr σ 1 → σ' 12 (12 + i) = gi (gl (gr σ) 1) i) ∧ (same [12, 13, 14, 15, 18] σ σ')))) 0 0 (aM ad) := by
  refine wStart (by decide) (Nat.le_of_ble_eq_true rfl) (fun k hk => ⟨k, hk, rfl⟩) (fun p e s m below meth c S hr hlk _ _ ls hW hl => ?_)
  have hl : lv_has ls 3 [(0, .ref (ad 0))] := hl
  refine r_iconst S dX5_takesScore_0 ?_
  refine lv_istore_n (lv' := [(1, .int (iI 0)), (0, .ref (ad 0))]) S.1 S.2.1 dX5_takesScore_1 rfl hl (by decide) rfl (fun ls hl => ?_)
  have cut_2 : ∀ (N_2 : Nat) (a : Int) (σ1 : St) (H : Heap) (locs : List Loc) (ls : Array Slot), (0 ≤ a ∧ a ≤ 2) → (same [12, 13] σ σ1) → (∀ x : Int, 0 ≤ x → x < a → σ1 13 x = gr σ x ∧ ∀ i : Int, 0 ≤ i → i < gr σ x → σ1 12 (12 * x + i) = gr σ (2 + 12 * x + i)) → ((2 - a).toNat) < N_2 → WD G shM ad (aM ad) s s.heap σ1 H locs → lv_has ls 3 [(1, .int (iI a)), (0, .ref (ad 0))] → W p l e (⟨2, 0, 0, 44⟩ : Room) s m ([.ref (ad 0)] : List Value).toArray below meth c H locs 0 0 (MQ below (qS G shM ad (aM ad) (rV (fun σ' => (σ' 18 0 = (rowG (wr σ) (gr σ)).length) ∧ (Row σ' 14 15 (rowG (wr σ) (gr σ)) (rowG (wr σ) (gr σ)).length) ∧ (σ' 13 0 = gr σ 0 ∧ σ' 13 1 = gr σ 1) ∧ (∀ i : Int, 0 ≤ i → i < gr σ 0 → σ' 12 i = gi (gl (gr σ) 0) i) ∧ (∀ i : Int, 0 ≤ i → i < gr σ 1 → σ' 12 (12 + i) = gi (gl (gr σ) 1) i) ∧ (same [12, 13, 14, 15, 18] σ σ')))) ([.ref (ad 0)] : List Value).toArray s 0 0 (aM ad)) (F0 m 2 ls []) := by
    intro N_2
    induction N_2 with
    | zero =>
      intro a σ1 H locs ls ha hsm hd hμ_2 hW hl
      exact absurd hμ_2 (by omega)
    | succ N_2 ih_2 =>
      intro a σ1 H locs ls ha hsm hd hμ_2 hW hl
      have e0 : σ1 0 = σ 0 := hsm 0 (by decide)
      have e11 : σ1 11 = σ 11 := hsm 11 (by decide)
      have ge : ∀ j, σ1 0 (σ1 11 0 + j) = gr σ j := fun j => by rw [e0, e11]
      have g11 : σ1 11 0 = σ 11 0 := by rw [e11]
      refine lv_iload_n S.1 S.2.1 dX5_takesScore_2 rfl (lv_at hl 0 rfl) ?_
      refine r_iconst S dX5_takesScore_3 ?_
      refine r_icmp_ge S (tgt := 77) dX5_takesScore_4 rfl (by omega) (fun c_4 => ?_) (fun c_4 => ?_)
      ·
        have f0 := hd 0 (by omega) (by omega)
        have f1 := hd 1 (by omega) (by omega)
        have h0 := (hg 0 (by omega) (by omega)).1
        have h1 := (hg 1 (by omega) (by omega)).1
        have l0 := gl_len h0.1
        have l1 := gl_len h1.1
        have e10 : σ1 10 = σ 10 := hsm 10 (by decide)
        have e100 : σ1 10 0 = σ 10 0 := by rw [e10]
        have wq : wr σ1 = wr σ := by funext j; simp only [wr, e0, e10]
        have wq0 : wr σ1 0 = wr σ 0 := congrFun wq 0
        have k0 : ∀ i : Int, 0 ≤ i → i < (gl (gr σ) 0).length → σ1 12 i = gi (gl (gr σ) 0) i := fun i i1 i2 => by rw [gl_at (by omega), ← f0.2 i i1 (by omega)]; congr 1; omega
        have k1 : ∀ i : Int, 0 ≤ i → i < (gl (gr σ) 1).length → σ1 12 (12 + i) = gi (gl (gr σ) 1) i := fun i i1 i2 => by rw [gl_at (by omega), ← f1.2 i i1 (by omega)]; congr 1
        refine lv_aload_n S.1 S.2.1 dX5_takesScore_77 rfl (lv_at hl 1 rfl) ?_
        refine c_VSv S hW (tX5_laysRow l G ad σ1 (gl (gr σ) 0) (gl (gr σ) 1) (by omega) (by omega) (by omega) (k0) (k1)) (cw_X5_246 S.2.2.2.2 ⟨Nat.le_of_ble_eq_true rfl, Nat.le_of_ble_eq_true rfl⟩) eBlind_T (fun _ _ _ => trivial) (w_recv hW (q0 := 0) rfl rfl) rfl hl.1 (rest := []) rfl (Nat.le_of_ble_eq_true rfl) dX5_takesScore_78 ⟨Nat.le_of_ble_eq_true rfl, Nat.le_of_ble_eq_true rfl⟩ (fun σ78 H locs q78 hW => ?_)
        obtain ⟨q78_len, q78_row, q78_sm⟩ := q78
        have e12 := q78_sm 12 (by decide)
        have e13 := q78_sm 13 (by decide)
        exact e_vS S hr hlk hW ⟨rfl, ⟨(by rw [q78_len, wq0]; rfl), (by have := q78_row; rw [wq0] at this; exact this), (by rw [e13]; exact ⟨f0.1, f1.1⟩), (fun i i1 i2 => by rw [e12]; exact k0 i i1 (by omega)), (fun i i1 i2 => by rw [e12]; exact k1 i i1 (by omega)), (same_tr (same_w hsm (by decide)) q78_sm (by decide))⟩⟩ dX5_takesScore_81
      ·
        have hga := (hg a (by omega) (by omega)).1
        have gea := ge a
        refine lv_aload_n S.1 S.2.1 dX5_takesScore_7 rfl (lv_at hl 1 rfl) ?_
        refine w_getr S hW in_X5 0 rfl rfl 13 (by decide) q1664 rfl rfl dX5_takesScore_8 ?_
        refine lv_iload_n S.1 S.2.1 dX5_takesScore_11 rfl (lv_at hl 0 rfl) ?_
        refine lv_aload_n S.1 S.2.1 dX5_takesScore_12 rfl (lv_at hl 1 rfl) ?_
        refine w_getr S hW in_X5 0 rfl rfl 0 (by decide) q1651 rfl rfl dX5_takesScore_13 ?_
        refine lv_aload_n S.1 S.2.1 dX5_takesScore_16 rfl (lv_at hl 1 rfl) ?_
        refine w_geti S hW in_X5 0 rfl rfl 11 (by decide) q1662 rfl rfl dX5_takesScore_17 ?_
        refine lv_iload_n S.1 S.2.1 dX5_takesScore_20 rfl (lv_at hl 0 rfl) ?_
        refine r_iadd S dX5_takesScore_21 ?_
        refine w_ald S hW 1 0 rfl rfl (by omega) dX5_takesScore_22 ?_
        refine w_ast S hW 5 0 rfl rfl rfl (z := (σ1 0 ((σ1 11 0) + a))) (by omega) dX5_takesScore_23 (fun H locs hW => ?_)
        refine r_iconst S dX5_takesScore_24 ?_
        refine lv_istore_n (lv' := [(2, .int (iI 0)), (1, .int (iI a)), (0, .ref (ad 0))]) S.1 S.2.1 dX5_takesScore_25 rfl hl (by decide) rfl (fun ls hl => ?_)
        have cut_26 : ∀ (N_26 : Nat) (k : Int) (σ2 : St) (H : Heap) (locs : List Loc) (ls : Array Slot), (0 ≤ k ∧ k ≤ gr σ a) → (same [12, 13] σ σ2) → (∀ x : Int, 0 ≤ x → x < a → σ2 13 x = gr σ x ∧ ∀ i : Int, 0 ≤ i → i < gr σ x → σ2 12 (12 * x + i) = gr σ (2 + 12 * x + i)) → (σ2 13 a = gr σ a) → (∀ i : Int, 0 ≤ i → i < k → σ2 12 (12 * a + i) = gr σ (2 + 12 * a + i)) → ((gr σ a - k).toNat) < N_26 → WD G shM ad (aM ad) s s.heap σ2 H locs → lv_has ls 3 [(2, .int (iI k)), (1, .int (iI a)), (0, .ref (ad 0))] → W p l e (⟨2, 0, 0, 44⟩ : Room) s m ([.ref (ad 0)] : List Value).toArray below meth c H locs 0 0 (MQ below (qS G shM ad (aM ad) (rV (fun σ' => (σ' 18 0 = (rowG (wr σ) (gr σ)).length) ∧ (Row σ' 14 15 (rowG (wr σ) (gr σ)) (rowG (wr σ) (gr σ)).length) ∧ (σ' 13 0 = gr σ 0 ∧ σ' 13 1 = gr σ 1) ∧ (∀ i : Int, 0 ≤ i → i < gr σ 0 → σ' 12 i = gi (gl (gr σ) 0) i) ∧ (∀ i : Int, 0 ≤ i → i < gr σ 1 → σ' 12 (12 + i) = gi (gl (gr σ) 1) i) ∧ (same [12, 13, 14, 15, 18] σ σ')))) ([.ref (ad 0)] : List Value).toArray s 0 0 (aM ad)) (F0 m 26 ls []) := by
          intro N_26
          induction N_26 with
          | zero =>
            intro k σ2 H locs ls hk hsm hd2 hma hk2 hμ_26 hW hl
            exact absurd hμ_26 (by omega)
          | succ N_26 ih_26 =>
            intro k σ2 H locs ls hk hsm hd2 hma hk2 hμ_26 hW hl
            have e0 : σ2 0 = σ 0 := hsm 0 (by decide)
            have e11 : σ2 11 = σ 11 := hsm 11 (by decide)
            have ge : ∀ j, σ2 0 (σ2 11 0 + j) = gr σ j := fun j => by rw [e0, e11]
            have g11 : σ2 11 0 = σ 11 0 := by rw [e11]
            have ma : σ2 13 a = gr σ a := hma
            have hga := (hg a (by omega) (by omega)).1
            refine lv_iload_n S.1 S.2.1 dX5_takesScore_26 rfl (lv_at hl 0 rfl) ?_
            refine lv_aload_n S.1 S.2.1 dX5_takesScore_27 rfl (lv_at hl 2 rfl) ?_
            refine w_getr S hW in_X5 0 rfl rfl 13 (by decide) q1664 rfl rfl dX5_takesScore_28 ?_
            refine lv_iload_n S.1 S.2.1 dX5_takesScore_31 rfl (lv_at hl 1 rfl) ?_
            refine w_ald S hW 5 0 rfl rfl (by omega) dX5_takesScore_32 ?_
            refine r_icmp_ge S (tgt := 71) dX5_takesScore_33 rfl (by omega) (fun c_33 => ?_) (fun c_33 => ?_)
            ·
              refine lv_iinc (v := iI (a + 1)) (lv' := [(1, .int (iI (a + 1))), (2, .int (iI k)), (0, .ref (ad 0))]) S.1 S.2.1 dX5_takesScore_71 hl (k := 1) rfl (iI_add _ _) (by decide) rfl (fun ls hl => ?_)
              refine lv_goto (tgt := 2) S.1 S.2.1 dX5_takesScore_74 rfl ?_
              exact ih_2 (a + 1) σ2 H _ _ (by omega) (hsm) (fun x h1 h2 => (show x < a ∨ x = a by omega).elim (fun h3 => hd2 x h1 h3) (fun h3 => by subst h3; exact ⟨ma, fun i i1 i2 => hk2 i i1 (by omega)⟩)) (by omega) hW (lv_sub hl [0, 2] rfl)
            ·
              refine lv_aload_n S.1 S.2.1 dX5_takesScore_36 rfl (lv_at hl 2 rfl) ?_
              refine w_getr S hW in_X5 0 rfl rfl 12 (by decide) q1663 rfl rfl dX5_takesScore_37 ?_
              refine r_bipush S dX5_takesScore_40 (by decide) ?_
              refine lv_iload_n S.1 S.2.1 dX5_takesScore_42 rfl (lv_at hl 1 rfl) ?_
              refine r_imul S dX5_takesScore_43 ?_
              refine lv_iload_n S.1 S.2.1 dX5_takesScore_44 rfl (lv_at hl 0 rfl) ?_
              refine r_iadd S dX5_takesScore_45 ?_
              refine lv_aload_n S.1 S.2.1 dX5_takesScore_46 rfl (lv_at hl 2 rfl) ?_
              refine w_getr S hW in_X5 0 rfl rfl 0 (by decide) q1651 rfl rfl dX5_takesScore_47 ?_
              refine lv_aload_n S.1 S.2.1 dX5_takesScore_50 rfl (lv_at hl 2 rfl) ?_
              refine w_geti S hW in_X5 0 rfl rfl 11 (by decide) q1662 rfl rfl dX5_takesScore_51 ?_
              refine r_iconst S dX5_takesScore_54 ?_
              refine r_iadd S dX5_takesScore_55 ?_
              refine r_bipush S dX5_takesScore_56 (by decide) ?_
              refine lv_iload_n S.1 S.2.1 dX5_takesScore_58 rfl (lv_at hl 1 rfl) ?_
              refine r_imul S dX5_takesScore_59 ?_
              refine r_iadd S dX5_takesScore_60 ?_
              refine lv_iload_n S.1 S.2.1 dX5_takesScore_61 rfl (lv_at hl 0 rfl) ?_
              refine r_iadd S dX5_takesScore_62 ?_
              refine w_ald S hW 1 0 rfl rfl (by omega) dX5_takesScore_63 ?_
              refine w_ast S hW 4 0 rfl rfl rfl (z := (σ2 0 ((((σ2 11 0) + 2) + (12 * a)) + k))) (by omega) dX5_takesScore_64 (fun H locs hW => ?_)
              refine lv_iinc (v := iI (k + 1)) (lv' := [(2, .int (iI (k + 1))), (1, .int (iI a)), (0, .ref (ad 0))]) S.1 S.2.1 dX5_takesScore_65 hl (k := 0) rfl (iI_add _ _) (by decide) rfl (fun ls hl => ?_)
              refine lv_goto (tgt := 26) S.1 S.2.1 dX5_takesScore_68 rfl ?_
              exact ih_26 (k + 1) (up σ2 12 ((12 * a) + k) (σ2 0 ((((σ2 11 0) + 2) + (12 * a)) + k))) H _ _ (by omega) (same_up hsm (by decide)) (fun x h1 h2 => by have := hd2 x h1 h2; have hgx := (hg x (by omega) (by omega)).1; rw [up_ne (by decide)]; refine ⟨this.1, fun i i1 i2 => ?_⟩; rw [up_nei (by omega)]; exact this.2 i i1 i2) (by rw [up_ne (by decide)]; exact hma) (fun i h1 h2 => (show i < k ∨ i = k by omega).elim (fun h3 => by rw [up_nei (by omega)]; exact hk2 i h1 h3) (fun h3 => by subst h3; rw [up_self, e0, g11]; congr 1; omega)) (by omega) hW (lv_sub hl [0, 1, 2] rfl)
        exact cut_26 _ 0 (up σ1 13 a (σ1 0 ((σ1 11 0) + a))) H _ _ (by omega) (same_up hsm (by decide)) (fun x h1 h2 => by have := hd x h1 h2; rw [up_nei (by omega)]; refine ⟨this.1, fun i i1 i2 => ?_⟩; rw [up_ne (by decide)]; exact this.2 i i1 i2) (by rw [up_self]; exact ge a) (fun i h1 h2 => absurd h2 (by omega)) (Nat.lt_succ_self _) hW (lv_sub hl [0, 1, 2] rfl)
  exact cut_2 _ 0 σ s.heap _ _ (by omega) (same_rf) (fun x h1 h2 => absurd h2 (by omega)) (Nat.lt_succ_self _) hW (lv_sub hl [0, 1] rfl)
