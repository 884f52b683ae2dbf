theorem hd_X5_areTold : yX5_areTold.cls = RX5 ∧ yX5_areTold.cls ≠ "java/lang/invoke/MethodHandle" ∧ yX5_areTold.cls ≠ "java/lang/invoke/VarHandle" ∧ (parseMethodDescriptor yX5_areTold.desc).map (fun d => d.parameters.length) = some 4 := by decide +kernel
theorem cw_X5_352 {R : Room} {s : State} {args : Array Value} (ht : ∀ w ∈ lw_all, w.before args s = true) (hR : 4 + 1 ≤ R.frames ∧ 8 + (6 + 11) + 88 ≤ R.locals) : CallW R s args "OneDrumModel" RX5 352 yX5_areTold cX5_areTold 6 (some .boolean) (ws_ yX5_areTold cX5_areTold 6 (some .boolean)) ⟨4, 0, 0, 88⟩ 0 0 4 := cwV 4 ht (lw_V q2108 q2110 qs103 q126 q2111) rfl rfl rfl hd_X5_areTold hR
set_option maxHeartbeats 4000000 in
theorem tX5_version (l : Launch) (G : GG) (ad : Nat → Nat) (σ : St) (k : Int) (s0 : Int) (x : Int) (y : Int) (j : Int) (hr0 : -2147483648 ≤ k ∧ k < 2147483648 ∧ -2147483648 ≤ s0 ∧ s0 < 2147483648 ∧ -2147483648 ≤ x ∧ x < 2147483648 ∧ -2147483648 ≤ y ∧ y < 2147483648 ∧ -2147483648 ≤ j ∧ j < 2147483648) (hdb : WfDB (σ 0)) : Met l yX5_version (ws_ yX5_version cX5_version 6 (some .int)) ⟨5, 0, 0, 113⟩ (wPre G shM ad σ (fun _ => True) [.ref (ad 0), .int (iI k), .int (iI s0), .int (iI x), .int (iI y), .int (iI j)]) (qS G shM ad (aM ad) (rI (fun r σ' => (r = sVersion (σ 0) k s0 x y j) ∧ (same [10, 11, 12, 13, 14, 15, 16, 17, 18, 29, 30, 31, 32] σ σ')))) 0 0 (aM ad) := by
  refine wStart (by decide) (Nat.le_of_ble_eq_true rfl) (fun k hk => ⟨k, hk, rfl⟩) (fun p e s m below meth c S hr hlk _ _ ls hW hl => ?_)
  have hl : lv_has ls 6 [(0, .ref (ad 0)), (1, .int (iI k)), (2, .int (iI s0)), (3, .int (iI x)), (4, .int (iI y)), (5, .int (iI j))] := hl
  have d0 := hdb.1
  have d1 := hdb.2.1
  have d2 := hdb.2.2.1
  have d3 := hdb.2.2.2.1
  refine lv_aload_n S.1 S.2.1 dX5_version_0 rfl (lv_at hl 0 rfl) ?_
  refine lv_iload_n S.1 S.2.1 dX5_version_1 rfl (lv_at hl 1 rfl) ?_
  refine lv_iload_n S.1 S.2.1 dX5_version_2 rfl (lv_at hl 2 rfl) ?_
  refine lv_iload_n S.1 S.2.1 dX5_version_3 rfl (lv_at hl 3 rfl) ?_
  refine lv_iload S.1 S.2.1 dX5_version_4 (lv_at hl 4 rfl) ?_
  refine c_VSz S hW (tX5_areTold l G ad σ k s0 x y (by omega) (by omega)) (cw_X5_352 S.2.2.2.2 ⟨Nat.le_of_ble_eq_true rfl, Nat.le_of_ble_eq_true rfl⟩) eBlind_T (fun _ _ _ => trivial) (w_recv hW (q0 := 0) rfl rfl) rfl hl.1 (rest := []) rfl (Nat.le_of_ble_eq_true rfl) dX5_version_6 ⟨Nat.le_of_ble_eq_true rfl, Nat.le_of_ble_eq_true rfl⟩ (fun r6 σ6 H locs q6 hW => ?_)
  obtain ⟨rfl, q6_sm, q6_pl⟩ := q6
  have e0 : σ6 0 = σ 0 := q6_sm 0 (by decide)
  refine r_ifne_p S (tgt := 14) dX5_version_9 rfl (fun c_9 => ?_) (fun c_9 => ?_)
  ·
    obtain ⟨hvs, n18, s16, z29⟩ := q6_pl (by first | exact c_9 | assumption)
    have ws9 : inWSV (σ 0) k s0 x y := by first | exact c_9 | assumption
    have ws8 := ws9.1
    have hWf := hdb.2.2.2.2.2.2.2.2.1 k (by unfold inWS at ws8; omega) (by unfold inWS at ws8; omega)
    have hg := hdb.2.2.2.2.2.2.2.2.2.1 s0 (by unfold inWS at ws8; omega) (by unfold inWS at ws8; omega)
    have hV := hdb.2.2.2.2.2.2.2.2.2.2.2 x (by have := ws9.2; omega) (by have := ws9.2; omega)
    have hV0 := hV.1
    have hy9 : 0 ≤ y ∧ y < vAt (σ 0) x 0 := by have := ws9.2.2; omega
    have hx9 : 0 ≤ x ∧ x ≤ 1 := by have := ws9.2; omega
    have vy := hvs y hy9.1 hy9.2
    have vl := verL_len (v := vAt (σ 0) x) (base := (sndL (wAt (σ 0) k) (rowG (wAt (σ 0) k) (gAt (σ 0) s0)))) (k := y)
    have vy1 := vy.1
    have hLr := rowG_V (w := wAt (σ 0) k) hg
    have hbm := sndL_mem hWf hLr
    have vm := verL_mem hbm hV _ y hy9.1 hy9.2 (Nat.le_refl _)
    have hL9 := rowG_len hWf hg
    have hg00 := (hg 0 (by omega) (by omega)).1
    have hg11 := (hg 1 (by omega) (by omega)).1
    refine lv_iload S.1 S.2.1 dX5_version_14 (lv_at hl 5 rfl) ?_
    refine r_iconst S dX5_version_16 ?_
    refine r_icmp_ne S (tgt := 30) dX5_version_17 rfl (by omega) (fun c_17 => ?_) (fun c_17 => ?_)
    ·
      refine lv_iload S.1 S.2.1 dX5_version_30 (lv_at hl 5 rfl) ?_
      refine r_iconst S dX5_version_32 ?_
      refine lv_aload_n S.1 S.2.1 dX5_version_33 rfl (lv_at hl 0 rfl) ?_
      refine w_getr S hW in_X5 0 rfl rfl 31 (by decide) q1682 rfl rfl dX5_version_34 ?_
      refine lv_iload S.1 S.2.1 dX5_version_37 (lv_at hl 4 rfl) ?_
      refine w_ald S hW 20 0 rfl rfl (by omega) dX5_version_39 ?_
      refine r_iconst S dX5_version_40 ?_
      refine r_isub S dX5_version_41 ?_
      refine c_SPw S hW (tX5_isIn l j 0 ((σ6 31 y) - 1) (by omega)) (cw_X5_145 S.2.2.2.2 ⟨Nat.le_of_ble_eq_true rfl, Nat.le_of_ble_eq_true rfl⟩) rfl hl.1 (rest := []) rfl (Nat.le_of_ble_eq_true rfl) dX5_version_42 ⟨Nat.le_of_ble_eq_true rfl, Nat.le_of_ble_eq_true rfl⟩ (fun locs hW => ?_)
      refine r_ifeq_p S (tgt := 64) dX5_version_45 rfl (fun c_45 => ?_) (fun c_45 => ?_)
      ·
        refine r_iconst S dX5_version_64 ?_
        exact e_iS S hr hlk hW ⟨(-1), rfl, ⟨(by unfold sVersion sVers2 verG; rw [if_pos (dP_t.mpr ws9)]; first | (rw [if_pos (by omega)]; exact vy1) | (rw [if_neg (by omega), if_pos (by omega)]; exact vy.2 j (by omega) (by omega)) | (rw [if_neg (by omega), if_neg (by omega)])), (q6_sm)⟩⟩ dX5_version_65
      ·
        refine lv_aload_n S.1 S.2.1 dX5_version_48 rfl (lv_at hl 0 rfl) ?_
        refine w_getr S hW in_X5 0 rfl rfl 30 (by decide) q1681 rfl rfl dX5_version_49 ?_
        refine r_bipush S dX5_version_52 (by decide) ?_
        refine lv_iload S.1 S.2.1 dX5_version_54 (lv_at hl 4 rfl) ?_
        refine r_imul S dX5_version_56 ?_
        refine lv_iload S.1 S.2.1 dX5_version_57 (lv_at hl 5 rfl) ?_
        refine r_iadd S dX5_version_59 ?_
        refine w_ald S hW 19 0 rfl rfl (by omega) dX5_version_60 ?_
        refine lv_goto (tgt := 65) S.1 S.2.1 dX5_version_61 rfl ?_
        exact e_iS S hr hlk hW ⟨(σ6 30 ((60 * y) + j)), rfl, ⟨(by unfold sVersion sVers2 verG; rw [if_pos (dP_t.mpr ws9)]; first | (rw [if_pos (by omega)]; exact vy1) | (rw [if_neg (by omega), if_pos (by omega)]; exact vy.2 j (by omega) (by omega)) | (rw [if_neg (by omega), if_neg (by omega)])), (q6_sm)⟩⟩ dX5_version_65
    ·
      refine lv_aload_n S.1 S.2.1 dX5_version_20 rfl (lv_at hl 0 rfl) ?_
      refine w_getr S hW in_X5 0 rfl rfl 31 (by decide) q1682 rfl rfl dX5_version_21 ?_
      refine lv_iload S.1 S.2.1 dX5_version_24 (lv_at hl 4 rfl) ?_
      refine w_ald S hW 20 0 rfl rfl (by omega) dX5_version_26 ?_
      refine lv_goto (tgt := 65) S.1 S.2.1 dX5_version_27 rfl ?_
      exact e_iS S hr hlk hW ⟨(σ6 31 y), rfl, ⟨(by unfold sVersion sVers2 verG; rw [if_pos (dP_t.mpr ws9)]; first | (rw [if_pos (by omega)]; exact vy1) | (rw [if_neg (by omega), if_pos (by omega)]; exact vy.2 j (by omega) (by omega)) | (rw [if_neg (by omega), if_neg (by omega)])), (q6_sm)⟩⟩ dX5_version_65
  ·
    refine r_iconst S dX5_version_12 ?_
    exact e_iS S hr hlk hW ⟨(-1), rfl, ⟨(by unfold sVersion; rw [if_neg (fun z => absurd (dP_t.mp z) (by assumption))]), (q6_sm)⟩⟩ dX5_version_13
set_option maxHeartbeats 4000000 in
theorem tX5_areAlike (l : Launch) (G : GG) (ad : Nat → Nat) (σ : St) (x : Int) (y : Int) (la lb : List Int) (hx : 0 ≤ x ∧ x ≤ 7 ∧ 0 ≤ y ∧ y ≤ 7) (va : Vr σ x la) (vb : Vr σ y lb) (hl9 : la.length ≤ 60 ∧ lb.length ≤ 60) (ma : ∀ q ∈ la, 0 ≤ q ∧ q ≤ 3) (mb : ∀ q ∈ lb, 0 ≤ q ∧ q ≤ 3) : Met l yX5_areAlike (ws_ yX5_areAlike cX5_areAlike 5 (some .boolean)) ⟨0, 0, 0, 0⟩ (wPre G shM ad σ (fun _ => True) [.ref (ad 0), .int (iI x), .int (iI y)]) (qP (.int (iI (b2i (dP (la = lb)))))) 0 0 (aM ad) := by
  refine wStart (by decide) (Nat.le_of_ble_eq_true rfl) (fun k hk => ⟨k, hk, rfl⟩) (fun p e s m below meth c S hr hlk _ _ ls hW hl => ?_)
  have hl : lv_has ls 5 [(0, .ref (ad 0)), (1, .int (iI x)), (2, .int (iI y))] := hl
  have va1 := va.1
  have vb1 := vb.1
  refine lv_aload_n S.1 S.2.1 dX5_areAlike_0 rfl (lv_at hl 0 rfl) ?_
  refine w_getr S hW in_X5 0 rfl rfl 31 (by decide) q1682 rfl rfl dX5_areAlike_1 ?_
  refine lv_iload_n S.1 S.2.1 dX5_areAlike_4 rfl (lv_at hl 1 rfl) ?_
  refine w_ald S hW 20 0 rfl rfl (by omega) dX5_areAlike_5 ?_
  refine lv_aload_n S.1 S.2.1 dX5_areAlike_6 rfl (lv_at hl 0 rfl) ?_
  refine w_getr S hW in_X5 0 rfl rfl 31 (by decide) q1682 rfl rfl dX5_areAlike_7 ?_
  refine lv_iload_n S.1 S.2.1 dX5_areAlike_10 rfl (lv_at hl 2 rfl) ?_
  refine w_ald S hW 20 0 rfl rfl (by omega) dX5_areAlike_11 ?_
  have cut_24 : ∀ (N_24 : Nat) (i : Int) (locs : List Loc) (ls : Array Slot), (0 ≤ i ∧ i ≤ la.length) → ((la.length - i).toNat) < N_24 → WD G shM ad (aM ad) s s.heap σ s.heap locs → lv_has ls 5 [(0, .ref (ad 0)), (1, .int (iI x)), (2, .int (iI y)), (3, .int (iI (b2i (dP ((la.length : Int) = lb.length ∧ allU (fun j => gi la j = gi lb j) i))))), (4, .int (iI i))] → W p l e (⟨0, 0, 0, 0⟩ : Room) s m ([.ref (ad 0), .int (iI x), .int (iI y)] : List Value).toArray below meth c s.heap locs 0 0 (MQ below (qP (.int (iI (b2i (dP (la = lb)))))) ([.ref (ad 0), .int (iI x), .int (iI y)] : List Value).toArray s 0 0 (aM ad)) (F0 m 24 ls []) := by
    intro N_24
    induction N_24 with
    | zero =>
      intro i locs ls hi hμ_24 hW hl
      exact absurd hμ_24 (by omega)
    | succ N_24 ih_24 =>
      intro i locs ls hi hμ_24 hW hl
      refine lv_iload S.1 S.2.1 dX5_areAlike_24 (lv_at hl 4 rfl) ?_
      refine lv_aload_n S.1 S.2.1 dX5_areAlike_26 rfl (lv_at hl 0 rfl) ?_
      refine w_getr S hW in_X5 0 rfl rfl 31 (by decide) q1682 rfl rfl dX5_areAlike_27 ?_
      refine lv_iload_n S.1 S.2.1 dX5_areAlike_30 rfl (lv_at hl 1 rfl) ?_
      refine w_ald S hW 20 0 rfl rfl (by omega) dX5_areAlike_31 ?_
      refine r_icmp_ge S (tgt := 78) dX5_areAlike_32 rfl (by omega) (fun c_32 => ?_) (fun c_32 => ?_)
      ·
        refine lv_iload_n S.1 S.2.1 dX5_areAlike_78 rfl (lv_at hl 3 rfl) ?_
        exact e_zP S hr hlk hW.2.2.2.2 (congrArg b2i (dP_c (by rw [list_eqI]; first | exact ⟨fun z => ⟨z.1, fun j j1 j2 => z.2 j j1 (by omega)⟩, fun z => ⟨z.1, fun j j1 j2 => z.2 j j1 (by omega)⟩⟩ | exact ⟨fun z => absurd z c_36, fun z => absurd ⟨z.1, fun j j1 j2 => z.2 j j1 (by omega)⟩ c_36⟩))) dX5_areAlike_79
      ·
        refine lv_iload_n S.1 S.2.1 dX5_areAlike_35 rfl (lv_at hl 3 rfl) ?_
        refine r_ifeq_p S (tgt := 78) dX5_areAlike_36 rfl (fun c_36 => ?_) (fun c_36 => ?_)
        ·
          refine lv_iload_n S.1 S.2.1 dX5_areAlike_78 rfl (lv_at hl 3 rfl) ?_
          exact e_zP S hr hlk hW.2.2.2.2 (congrArg b2i (dP_c (by rw [list_eqI]; first | exact ⟨fun z => ⟨z.1, fun j j1 j2 => z.2 j j1 (by omega)⟩, fun z => ⟨z.1, fun j j1 j2 => z.2 j j1 (by omega)⟩⟩ | exact ⟨fun z => absurd z c_36, fun z => absurd ⟨z.1, fun j j1 j2 => z.2 j j1 (by omega)⟩ c_36⟩))) dX5_areAlike_79
        ·
          have hle := c_36.1
          have q1 := va.2 i (by omega) (by omega)
          have q2 := vb.2 i (by omega) (by omega)
          have p1 := ma _ (gi_mem (l := la) (i := i) (by omega))
          have p2_ := mb _ (gi_mem (l := lb) (i := i) (by omega))
          rw [← q1] at p1
          rw [← q2] at p2_
          refine lv_aload_n S.1 S.2.1 dX5_areAlike_39 rfl (lv_at hl 0 rfl) ?_
          refine w_getr S hW in_X5 0 rfl rfl 30 (by decide) q1681 rfl rfl dX5_areAlike_40 ?_
          refine r_bipush S dX5_areAlike_43 (by decide) ?_
          refine lv_iload_n S.1 S.2.1 dX5_areAlike_45 rfl (lv_at hl 1 rfl) ?_
          refine r_imul S dX5_areAlike_46 ?_
          refine lv_iload S.1 S.2.1 dX5_areAlike_47 (lv_at hl 4 rfl) ?_
          refine r_iadd S dX5_areAlike_49 ?_
          refine w_ald S hW 19 0 rfl rfl (by omega) dX5_areAlike_50 ?_
          refine lv_aload_n S.1 S.2.1 dX5_areAlike_51 rfl (lv_at hl 0 rfl) ?_
          refine w_getr S hW in_X5 0 rfl rfl 30 (by decide) q1681 rfl rfl dX5_areAlike_52 ?_
          refine r_bipush S dX5_areAlike_55 (by decide) ?_
          refine lv_iload_n S.1 S.2.1 dX5_areAlike_57 rfl (lv_at hl 2 rfl) ?_
          refine r_imul S dX5_areAlike_58 ?_
          refine lv_iload S.1 S.2.1 dX5_areAlike_59 (lv_at hl 4 rfl) ?_
          refine r_iadd S dX5_areAlike_61 ?_
          refine w_ald S hW 19 0 rfl rfl (by omega) dX5_areAlike_62 ?_
          refine r_icmp_ne S (tgt := 70) dX5_areAlike_63 rfl (by omega) (fun c_63 => ?_) (fun c_63 => ?_)
          ·
            refine r_iconst S dX5_areAlike_70 ?_
            refine r_as (b2i (dP ((la.length : Int) = lb.length ∧ allU (fun j => gi la j = gi lb j) (i + 1)))) (by first | exact dP_1 ⟨c_36.1, (allU_s c_36.2 hi.1).mpr (by rw [← q1, ← q2]; exact c_63)⟩ | exact dP_0 (fun z => c_63 (by rw [q1, q2]; exact (allU_s c_36.2 hi.1).mp z.2))) ?_
            refine lv_istore_n (lv' := [(3, .int (iI (b2i (dP ((la.length : Int) = lb.length ∧ allU (fun j => gi la j = gi lb j) (i + 1)))))), (0, .ref (ad 0)), (1, .int (iI x)), (2, .int (iI y)), (4, .int (iI i))]) S.1 S.2.1 dX5_areAlike_71 rfl hl (by decide) rfl (fun ls hl => ?_)
            refine lv_iinc (v := iI (i + 1)) (lv' := [(4, .int (iI (i + 1))), (3, .int (iI (b2i (dP ((la.length : Int) = lb.length ∧ allU (fun j => gi la j = gi lb j) (i + 1)))))), (0, .ref (ad 0)), (1, .int (iI x)), (2, .int (iI y))]) S.1 S.2.1 dX5_areAlike_72 hl (k := 4) rfl (iI_add _ _) (by decide) rfl (fun ls hl => ?_)
            refine lv_goto (tgt := 24) S.1 S.2.1 dX5_areAlike_75 rfl ?_
            exact ih_24 (i + 1) _ _ (by omega) (by omega) hW (lv_sub hl [2, 3, 4, 1, 0] rfl)
          ·
            refine r_iconst S dX5_areAlike_66 ?_
            refine lv_goto (tgt := 71) S.1 S.2.1 dX5_areAlike_67 rfl ?_
            refine r_as (b2i (dP ((la.length : Int) = lb.length ∧ allU (fun j => gi la j = gi lb j) (i + 1)))) (by first | exact dP_1 ⟨c_36.1, (allU_s c_36.2 hi.1).mpr (by rw [← q1, ← q2]; exact c_63)⟩ | exact dP_0 (fun z => c_63 (by rw [q1, q2]; exact (allU_s c_36.2 hi.1).mp z.2))) ?_
            refine lv_istore_n (lv' := [(3, .int (iI (b2i (dP ((la.length : Int) = lb.length ∧ allU (fun j => gi la j = gi lb j) (i + 1)))))), (0, .ref (ad 0)), (1, .int (iI x)), (2, .int (iI y)), (4, .int (iI i))]) S.1 S.2.1 dX5_areAlike_71 rfl hl (by decide) rfl (fun ls hl => ?_)
            refine lv_iinc (v := iI (i + 1)) (lv' := [(4, .int (iI (i + 1))), (3, .int (iI (b2i (dP ((la.length : Int) = lb.length ∧ allU (fun j => gi la j = gi lb j) (i + 1)))))), (0, .ref (ad 0)), (1, .int (iI x)), (2, .int (iI y))]) S.1 S.2.1 dX5_areAlike_72 hl (k := 4) rfl (iI_add _ _) (by decide) rfl (fun ls hl => ?_)
            refine lv_goto (tgt := 24) S.1 S.2.1 dX5_areAlike_75 rfl ?_
            exact ih_24 (i + 1) _ _ (by omega) (by omega) hW (lv_sub hl [2, 3, 4, 1, 0] rfl)
  refine r_icmp_ne S (tgt := 19) dX5_areAlike_12 rfl (by omega) (fun c_12 => ?_) (fun c_12 => ?_)
  ·
    refine r_iconst S dX5_areAlike_19 ?_
    refine r_as (b2i (dP ((la.length : Int) = lb.length ∧ allU (fun j => gi la j = gi lb j) 0))) (by first | exact dP_1 ⟨by omega, allU_0⟩ | exact dP_0 (fun z => absurd z.1 (by omega))) ?_
    refine lv_istore_n (lv' := [(3, .int (iI (b2i (dP ((la.length : Int) = lb.length ∧ allU (fun j => gi la j = gi lb j) 0))))), (0, .ref (ad 0)), (1, .int (iI x)), (2, .int (iI y))]) S.1 S.2.1 dX5_areAlike_20 rfl hl (by decide) rfl (fun ls hl => ?_)
    refine r_iconst S dX5_areAlike_21 ?_
    refine lv_istore (lv' := [(4, .int (iI 0)), (3, .int (iI (b2i (dP ((la.length : Int) = lb.length ∧ allU (fun j => gi la j = gi lb j) 0))))), (0, .ref (ad 0)), (1, .int (iI x)), (2, .int (iI y))]) S.1 S.2.1 dX5_areAlike_22 hl (by decide) rfl (fun ls hl => ?_)
    exact cut_24 _ 0 _ _ (by omega) (Nat.lt_succ_self _) hW (lv_sub hl [2, 3, 4, 1, 0] rfl)
  ·
    refine r_iconst S dX5_areAlike_15 ?_
    refine lv_goto (tgt := 20) S.1 S.2.1 dX5_areAlike_16 rfl ?_
    refine r_as (b2i (dP ((la.length : Int) = lb.length ∧ allU (fun j => gi la j = gi lb j) 0))) (by first | exact dP_1 ⟨by omega, allU_0⟩ | exact dP_0 (fun z => absurd z.1 (by omega))) ?_
    refine lv_istore_n (lv' := [(3, .int (iI (b2i (dP ((la.length : Int) = lb.length ∧ allU (fun j => gi la j = gi lb j) 0))))), (0, .ref (ad 0)), (1, .int (iI x)), (2, .int (iI y))]) S.1 S.2.1 dX5_areAlike_20 rfl hl (by decide) rfl (fun ls hl => ?_)
    refine r_iconst S dX5_areAlike_21 ?_
    refine lv_istore (lv' := [(4, .int (iI 0)), (3, .int (iI (b2i (dP ((la.length : Int) = lb.length ∧ allU (fun j => gi la j = gi lb j) 0))))), (0, .ref (ad 0)), (1, .int (iI x)), (2, .int (iI y))]) S.1 S.2.1 dX5_areAlike_22 hl (by decide) rfl (fun ls hl => ?_)
    exact cut_24 _ 0 _ _ (by omega) (Nat.lt_succ_self _) hW (lv_sub hl [2, 3, 4, 1, 0] rfl)
theorem hd_X5_areAlike : yX5_areAlike.cls = RX5 ∧ yX5_areAlike.cls ≠ "java/lang/invoke/MethodHandle" ∧ yX5_areAlike.cls ≠ "java/lang/invoke/VarHandle" ∧ (parseMethodDescriptor yX5_areAlike.desc).map (fun d => d.parameters.length) = some 2 := by decide +kernel
theorem cw_X5_355 {R : Room} {s : State} {args : Array Value} (ht : ∀ w ∈ lw_all, w.before args s = true) (hR : 0 + 1 ≤ R.frames ∧ 8 + (5 + 11) + 0 ≤ R.locals) : CallW R s args "OneDrumModel" RX5 355 yX5_areAlike cX5_areAlike 5 (some .boolean) (ws_ yX5_areAlike cX5_areAlike 5 (some .boolean)) ⟨0, 0, 0, 0⟩ 0 0 2 := cwV 2 ht (lw_V q2128 q2130 qs107 q126 q2131) rfl rfl rfl hd_X5_areAlike hR
set_option maxHeartbeats 4000000 in
theorem tX5_tale (l : Launch) (G : GG) (ad : Nat → Nat) (σ : St) (k : Int) (s0 : Int) (x : Int) (y : Int) (likes : Bool) (hr0 : -2147483648 ≤ k ∧ k < 2147483648 ∧ -2147483648 ≤ s0 ∧ s0 < 2147483648 ∧ -2147483648 ≤ x ∧ x < 2147483648 ∧ -2147483648 ≤ y ∧ y < 2147483648) (hdb : WfDB (σ 0)) : Met l yX5_tale (ws_ yX5_tale cX5_tale 8 (some .int)) ⟨5, 0, 0, 113⟩ (wPre G shM ad σ (fun _ => True) [.ref (ad 0), .int (iI k), .int (iI s0), .int (iI x), .int (iI y), .int (iI (b2i likes))]) (qS G shM ad (aM ad) (rI (fun r σ' => (r = sTale (σ 0) k s0 x y likes) ∧ (same [10, 11, 12, 13, 14, 15, 16, 17, 18, 26, 27, 28, 29, 30, 31, 32] σ σ')))) 0 0 (aM ad) := by
  refine wStart (by decide) (Nat.le_of_ble_eq_true rfl) (fun k hk => ⟨k, hk, rfl⟩) (fun p e s m below meth c S hr hlk _ _ ls hW hl => ?_)
  have hl : lv_has ls 8 [(0, .ref (ad 0)), (1, .int (iI k)), (2, .int (iI s0)), (3, .int (iI x)), (4, .int (iI y)), (5, .int (iI (b2i likes)))] := hl
  have d0 := hdb.1
  have d1 := hdb.2.1
  have d2 := hdb.2.2.1
  have d3 := hdb.2.2.2.1
  refine lv_aload_n S.1 S.2.1 dX5_tale_0 rfl (lv_at hl 0 rfl) ?_
  refine lv_iload_n S.1 S.2.1 dX5_tale_1 rfl (lv_at hl 1 rfl) ?_
  refine lv_iload_n S.1 S.2.1 dX5_tale_2 rfl (lv_at hl 2 rfl) ?_
  refine lv_iload_n S.1 S.2.1 dX5_tale_3 rfl (lv_at hl 3 rfl) ?_
  refine lv_iload S.1 S.2.1 dX5_tale_4 (lv_at hl 4 rfl) ?_
  refine c_VSz S hW (tX5_areTold l G ad σ k s0 x y (by omega) (by omega)) (cw_X5_352 S.2.2.2.2 ⟨Nat.le_of_ble_eq_true rfl, Nat.le_of_ble_eq_true rfl⟩) eBlind_T (fun _ _ _ => trivial) (w_recv hW (q0 := 0) rfl rfl) rfl hl.1 (rest := []) rfl (Nat.le_of_ble_eq_true rfl) dX5_tale_6 ⟨Nat.le_of_ble_eq_true rfl, Nat.le_of_ble_eq_true rfl⟩ (fun r6 σ6 H locs q6 hW => ?_)
  obtain ⟨rfl, q6_sm, q6_pl⟩ := q6
  have e0 : σ6 0 = σ 0 := q6_sm 0 (by decide)
  refine r_ifne_p S (tgt := 14) dX5_tale_9 rfl (fun c_9 => ?_) (fun c_9 => ?_)
  ·
    obtain ⟨hvs, n18, s16, z29⟩ := q6_pl (by first | exact c_9 | assumption)
    have ws9 : inWSV (σ 0) k s0 x y := by first | exact c_9 | assumption
    have ws8 := ws9.1
    have hWf := hdb.2.2.2.2.2.2.2.2.1 k (by unfold inWS at ws8; omega) (by unfold inWS at ws8; omega)
    have hg := hdb.2.2.2.2.2.2.2.2.2.1 s0 (by unfold inWS at ws8; omega) (by unfold inWS at ws8; omega)
    have hV := hdb.2.2.2.2.2.2.2.2.2.2.2 x (by have := ws9.2; omega) (by have := ws9.2; omega)
    have hV0 := hV.1
    have hy9 : 0 ≤ y ∧ y < vAt (σ 0) x 0 := by have := ws9.2.2; omega
    have hx9 : 0 ≤ x ∧ x ≤ 1 := by have := ws9.2; omega
    have vy := hvs y hy9.1 hy9.2
    have vl := verL_len (v := vAt (σ 0) x) (base := (sndL (wAt (σ 0) k) (rowG (wAt (σ 0) k) (gAt (σ 0) s0)))) (k := y)
    have vy1 := vy.1
    have hLr := rowG_V (w := wAt (σ 0) k) hg
    have hbm := sndL_mem hWf hLr
    have vm := verL_mem hbm hV _ y hy9.1 hy9.2 (Nat.le_refl _)
    have hL9 := rowG_len hWf hg
    have hg00 := (hg 0 (by omega) (by omega)).1
    have hg11 := (hg 1 (by omega) (by omega)).1
    have v0 : σ6 0 (σ6 29 0) = vAt (σ 0) x 0 := by rw [e0, z29]; simp only [vAt, Int.add_zero]
    have bl := sndL_len (w := wAt (σ 0) k) (L := (rowG (wAt (σ 0) k) (gAt (σ 0) s0)))
    refine lv_iload S.1 S.2.1 dX5_tale_14 (lv_at hl 5 rfl) ?_
    refine r_ifeq_b S (tgt := 72) dX5_tale_16 rfl (fun c_16 => ?_) (fun c_16 => ?_)
    ·
      refine r_iconst S dX5_tale_72 ?_
      refine lv_istore (lv' := [(6, .int (iI 0)), (0, .ref (ad 0)), (1, .int (iI k)), (2, .int (iI s0)), (3, .int (iI x)), (4, .int (iI y)), (5, .int (iI (b2i likes)))]) S.1 S.2.1 dX5_tale_73 hl (by decide) rfl (fun ls hl => ?_)
      have cut_75 : ∀ (N_75 : Nat) (i : Int) (σ1 : St) (H : Heap) (locs : List Loc) (ls : Array Slot), (0 ≤ i ∧ i ≤ (verL (vAt (σ 0) x) (sndL (wAt (σ 0) k) (rowG (wAt (σ 0) k) (gAt (σ 0) s0))) y).length) → (same [26, 27, 28] σ6 σ1) → (fil σ1 26 i (gi (verL (vAt (σ 0) x) (sndL (wAt (σ 0) k) (rowG (wAt (σ 0) k) (gAt (σ 0) s0))) y))) → (((verL (vAt (σ 0) x) (sndL (wAt (σ 0) k) (rowG (wAt (σ 0) k) (gAt (σ 0) s0))) y).length - i).toNat) < N_75 → WD G shM ad (aM ad) s s.heap σ1 H locs → lv_has ls 8 [(6, .int (iI i)), (0, .ref (ad 0)), (1, .int (iI k)), (2, .int (iI s0)), (3, .int (iI x)), (4, .int (iI y)), (5, .int (iI (b2i likes)))] → W p l e (⟨5, 0, 0, 113⟩ : Room) s m ([.ref (ad 0), .int (iI k), .int (iI s0), .int (iI x), .int (iI y), .int (iI (b2i likes))] : List Value).toArray below meth c H locs 0 0 (MQ below (qS G shM ad (aM ad) (rI (fun r σ' => (r = sTale (σ 0) k s0 x y likes) ∧ (same [10, 11, 12, 13, 14, 15, 16, 17, 18, 26, 27, 28, 29, 30, 31, 32] σ σ')))) ([.ref (ad 0), .int (iI k), .int (iI s0), .int (iI x), .int (iI y), .int (iI (b2i likes))] : List Value).toArray s 0 0 (aM ad)) (F0 m 75 ls []) := by
        intro N_75
        induction N_75 with
        | zero =>
          intro i σ1 H locs ls hi hsm hf hμ_75 hW hl
          exact absurd hμ_75 (by omega)
        | succ N_75 ih_75 =>
          intro i σ1 H locs ls hi hsm hf hμ_75 hW hl
          have y31 : σ1 31 y = (verL (vAt (σ 0) x) (sndL (wAt (σ 0) k) (rowG (wAt (σ 0) k) (gAt (σ 0) s0))) y).length := by rw [hsm 31 (by decide)]; exact vy1
          refine lv_iload S.1 S.2.1 dX5_tale_75 (lv_at hl 0 rfl) ?_
          refine lv_aload_n S.1 S.2.1 dX5_tale_77 rfl (lv_at hl 1 rfl) ?_
          refine w_getr S hW in_X5 0 rfl rfl 31 (by decide) q1682 rfl rfl dX5_tale_78 ?_
          refine lv_iload S.1 S.2.1 dX5_tale_81 (lv_at hl 5 rfl) ?_
          refine w_ald S hW 20 0 rfl rfl (by omega) dX5_tale_83 ?_
          refine r_icmp_ge S (tgt := 113) dX5_tale_84 rfl (by omega) (fun c_84 => ?_) (fun c_84 => ?_)
          ·
            refine r_iconst S dX5_tale_113 ?_
            refine lv_istore (lv' := [(6, .int (iI 0)), (0, .ref (ad 0)), (1, .int (iI k)), (2, .int (iI s0)), (3, .int (iI x)), (4, .int (iI y)), (5, .int (iI (b2i likes)))]) S.1 S.2.1 dX5_tale_114 hl (by decide) rfl (fun ls hl => ?_)
            have cut_116 : ∀ (N_116 : Nat) (i : Int) (σ2 : St) (H : Heap) (locs : List Loc) (ls : Array Slot), (0 ≤ i ∧ i ≤ (rowG (wAt (σ 0) k) (gAt (σ 0) s0)).length) → (same [26, 27, 28] σ6 σ2) → (fil σ2 26 (verL (vAt (σ 0) x) (sndL (wAt (σ 0) k) (rowG (wAt (σ 0) k) (gAt (σ 0) s0))) y).length (gi (verL (vAt (σ 0) x) (sndL (wAt (σ 0) k) (rowG (wAt (σ 0) k) (gAt (σ 0) s0))) y))) → (fil σ2 27 i (gi (sndL (wAt (σ 0) k) (rowG (wAt (σ 0) k) (gAt (σ 0) s0))))) → (((rowG (wAt (σ 0) k) (gAt (σ 0) s0)).length - i).toNat) < N_116 → WD G shM ad (aM ad) s s.heap σ2 H locs → lv_has ls 8 [(6, .int (iI i)), (0, .ref (ad 0)), (1, .int (iI k)), (2, .int (iI s0)), (3, .int (iI x)), (4, .int (iI y)), (5, .int (iI (b2i likes)))] → W p l e (⟨5, 0, 0, 113⟩ : Room) s m ([.ref (ad 0), .int (iI k), .int (iI s0), .int (iI x), .int (iI y), .int (iI (b2i likes))] : List Value).toArray below meth c H locs 0 0 (MQ below (qS G shM ad (aM ad) (rI (fun r σ' => (r = sTale (σ 0) k s0 x y likes) ∧ (same [10, 11, 12, 13, 14, 15, 16, 17, 18, 26, 27, 28, 29, 30, 31, 32] σ σ')))) ([.ref (ad 0), .int (iI k), .int (iI s0), .int (iI x), .int (iI y), .int (iI (b2i likes))] : List Value).toArray s 0 0 (aM ad)) (F0 m 116 ls []) := by
              intro N_116
              induction N_116 with
              | zero =>
                intro i σ2 H locs ls hi hsm hf hg2 hμ_116 hW hl
                exact absurd hμ_116 (by omega)
              | succ N_116 ih_116 =>
                intro i σ2 H locs ls hi hsm hf hg2 hμ_116 hW hl
                have y31 : σ2 31 y = (verL (vAt (σ 0) x) (sndL (wAt (σ 0) k) (rowG (wAt (σ 0) k) (gAt (σ 0) s0))) y).length := by rw [hsm 31 (by decide)]; exact vy1
                have y18 : σ2 18 0 = (rowG (wAt (σ 0) k) (gAt (σ 0) s0)).length := by rw [hsm 18 (by decide)]; exact n18
                refine lv_iload S.1 S.2.1 dX5_tale_116 (lv_at hl 0 rfl) ?_
                refine lv_aload_n S.1 S.2.1 dX5_tale_118 rfl (lv_at hl 1 rfl) ?_
                refine w_geti S hW in_X5 0 rfl rfl 18 (by decide) q1669 rfl rfl dX5_tale_119 ?_
                refine r_icmp_ge S (tgt := 145) dX5_tale_122 rfl (by omega) (fun c_122 => ?_) (fun c_122 => ?_)
                ·
                  refine lv_aload_n S.1 S.2.1 dX5_tale_145 rfl (lv_at hl 1 rfl) ?_
                  refine lv_aload_n S.1 S.2.1 dX5_tale_146 rfl (lv_at hl 1 rfl) ?_
                  refine w_getr S hW in_X5 0 rfl rfl 31 (by decide) q1682 rfl rfl dX5_tale_147 ?_
                  refine lv_iload S.1 S.2.1 dX5_tale_150 (lv_at hl 5 rfl) ?_
                  refine w_ald S hW 20 0 rfl rfl (by omega) dX5_tale_152 ?_
                  refine lv_aload_n S.1 S.2.1 dX5_tale_153 rfl (lv_at hl 1 rfl) ?_
                  refine w_geti S hW in_X5 0 rfl rfl 18 (by decide) q1669 rfl rfl dX5_tale_154 ?_
                  refine c_VSi S hW (tX5_apart l G ad σ2 (σ2 31 y) (σ2 18 0) (by omega) (fun j j1 j2 => by rw [hf j j1 (by omega)]; exact vm _ (gi_mem (by omega))) (fun j j1 j2 => by rw [hg2 j j1 (by omega)]; exact hbm _ (gi_mem (by omega)))) (cw_X5_323 S.2.2.2.2 ⟨Nat.le_of_ble_eq_true rfl, Nat.le_of_ble_eq_true rfl⟩) eBlind_T (fun _ _ _ => trivial) (w_recv hW (q0 := 0) rfl rfl) rfl hl.1 (rest := []) rfl (Nat.le_of_ble_eq_true rfl) dX5_tale_157 ⟨Nat.le_of_ble_eq_true rfl, Nat.le_of_ble_eq_true rfl⟩ (fun r157 σ157 H locs q157 hW => ?_)
                  obtain ⟨rfl, q157_sm⟩ := q157
                  exact e_iS S hr hlk hW ⟨(edI (σ2 26) (σ2 27) (σ2 31 y) (σ2 18 0)), rfl, ⟨(by unfold sTale verG; rw [if_pos (dP_t.mpr ws9), if_neg (by rw [c_16]; decide), y31, y18]; exact edI_congr (fun j j1 j2 => hf j j1 j2) (fun j j1 j2 => hg2 j j1 (by omega))), (same_tr (same_tr (same_w q6_sm (by decide)) hsm (by decide)) q157_sm (by decide))⟩⟩ dX5_tale_160
                ·
                  refine lv_aload_n S.1 S.2.1 dX5_tale_125 rfl (lv_at hl 1 rfl) ?_
                  refine w_getr S hW in_X5 0 rfl rfl 27 (by decide) q1678 rfl rfl dX5_tale_126 ?_
                  refine lv_iload S.1 S.2.1 dX5_tale_129 (lv_at hl 0 rfl) ?_
                  refine lv_aload_n S.1 S.2.1 dX5_tale_131 rfl (lv_at hl 1 rfl) ?_
                  refine w_getr S hW in_X5 0 rfl rfl 16 (by decide) q1667 rfl rfl dX5_tale_132 ?_
                  refine lv_iload S.1 S.2.1 dX5_tale_135 (lv_at hl 0 rfl) ?_
                  refine w_ald S hW 8 0 rfl rfl (by omega) dX5_tale_137 ?_
                  refine w_ast S hW 17 0 rfl rfl rfl (z := (σ2 16 i)) (by omega) dX5_tale_138 (fun H locs hW => ?_)
                  refine lv_iinc (v := iI (i + 1)) (lv' := [(6, .int (iI (i + 1))), (0, .ref (ad 0)), (1, .int (iI k)), (2, .int (iI s0)), (3, .int (iI x)), (4, .int (iI y)), (5, .int (iI (b2i likes)))]) S.1 S.2.1 dX5_tale_139 hl (k := 0) rfl (iI_add _ _) (by decide) rfl (fun ls hl => ?_)
                  refine lv_goto (tgt := 116) S.1 S.2.1 dX5_tale_142 rfl ?_
                  exact ih_116 (i + 1) (up σ2 27 i (σ2 16 i)) H _ _ (by omega) (same_up hsm (by decide)) (fil_ne hf (by decide)) (fil_up hg2 (by rw [hsm 16 (by decide), sndL_at (by omega)]; exact s16 i (by omega) (by omega))) (by omega) hW (lv_sub hl [0, 1, 2, 3, 4, 5, 6] rfl)
            exact cut_116 _ 0 σ1 H _ _ (by omega) (hsm) (fil_le hf (by omega)) (fil_0) (Nat.lt_succ_self _) hW (lv_sub hl [0, 1, 2, 3, 4, 5, 6] rfl)
          ·
            refine lv_aload_n S.1 S.2.1 dX5_tale_87 rfl (lv_at hl 1 rfl) ?_
            refine w_getr S hW in_X5 0 rfl rfl 26 (by decide) q1677 rfl rfl dX5_tale_88 ?_
            refine lv_iload S.1 S.2.1 dX5_tale_91 (lv_at hl 0 rfl) ?_
            refine lv_aload_n S.1 S.2.1 dX5_tale_93 rfl (lv_at hl 1 rfl) ?_
            refine w_getr S hW in_X5 0 rfl rfl 30 (by decide) q1681 rfl rfl dX5_tale_94 ?_
            refine r_bipush S dX5_tale_97 (by decide) ?_
            refine lv_iload S.1 S.2.1 dX5_tale_99 (lv_at hl 5 rfl) ?_
            refine r_imul S dX5_tale_101 ?_
            refine lv_iload S.1 S.2.1 dX5_tale_102 (lv_at hl 0 rfl) ?_
            refine r_iadd S dX5_tale_104 ?_
            refine w_ald S hW 19 0 rfl rfl (by omega) dX5_tale_105 ?_
            refine w_ast S hW 16 0 rfl rfl rfl (z := (σ1 30 ((60 * y) + i))) (by omega) dX5_tale_106 (fun H locs hW => ?_)
            refine lv_iinc (v := iI (i + 1)) (lv' := [(6, .int (iI (i + 1))), (0, .ref (ad 0)), (1, .int (iI k)), (2, .int (iI s0)), (3, .int (iI x)), (4, .int (iI y)), (5, .int (iI (b2i likes)))]) S.1 S.2.1 dX5_tale_107 hl (k := 0) rfl (iI_add _ _) (by decide) rfl (fun ls hl => ?_)
            refine lv_goto (tgt := 75) S.1 S.2.1 dX5_tale_110 rfl ?_
            exact ih_75 (i + 1) (up σ1 26 i (σ1 30 ((60 * y) + i))) H _ _ (by omega) (same_up hsm (by decide)) (fil_up hf (by rw [hsm 30 (by decide)]; exact vy.2 i (by omega) (by omega))) (by omega) hW (lv_sub hl [0, 1, 2, 3, 4, 5, 6] rfl)
      exact cut_75 _ 0 σ6 H _ _ (by omega) (same_rf) (fil_0) (Nat.lt_succ_self _) hW (lv_sub hl [0, 1, 2, 3, 4, 5, 6] rfl)
    ·
      refine r_iconst S dX5_tale_19 ?_
      refine lv_istore (lv' := [(6, .int (iI 0)), (0, .ref (ad 0)), (1, .int (iI k)), (2, .int (iI s0)), (3, .int (iI x)), (4, .int (iI y)), (5, .int (iI (b2i likes)))]) S.1 S.2.1 dX5_tale_20 hl (by decide) rfl (fun ls hl => ?_)
      refine r_iconst S dX5_tale_22 ?_
      refine lv_istore (lv' := [(7, .int (iI 0)), (6, .int (iI 0)), (0, .ref (ad 0)), (1, .int (iI k)), (2, .int (iI s0)), (3, .int (iI x)), (4, .int (iI y)), (5, .int (iI (b2i likes)))]) S.1 S.2.1 dX5_tale_23 hl (by decide) rfl (fun ls hl => ?_)
      have cut_25 : ∀ (N_25 : Nat) (set i : Int) (H : Heap) (locs : List Loc) (ls : Array Slot), (0 ≤ i ∧ i ≤ vAt (σ 0) x 0) → (set = lkI (vAt (σ 0) x) (sndL (wAt (σ 0) k) (rowG (wAt (σ 0) k) (gAt (σ 0) s0))) y i) → ((vAt (σ 0) x 0 - i).toNat) < N_25 → WD G shM ad (aM ad) s s.heap σ6 H locs → lv_has ls 8 [(7, .int (iI i)), (6, .int (iI set)), (0, .ref (ad 0)), (1, .int (iI k)), (2, .int (iI s0)), (3, .int (iI x)), (4, .int (iI y)), (5, .int (iI (b2i likes)))] → W p l e (⟨5, 0, 0, 113⟩ : Room) s m ([.ref (ad 0), .int (iI k), .int (iI s0), .int (iI x), .int (iI y), .int (iI (b2i likes))] : List Value).toArray below meth c H locs 0 0 (MQ below (qS G shM ad (aM ad) (rI (fun r σ' => (r = sTale (σ 0) k s0 x y likes) ∧ (same [10, 11, 12, 13, 14, 15, 16, 17, 18, 26, 27, 28, 29, 30, 31, 32] σ σ')))) ([.ref (ad 0), .int (iI k), .int (iI s0), .int (iI x), .int (iI y), .int (iI (b2i likes))] : List Value).toArray s 0 0 (aM ad)) (F0 m 25 ls []) := by
        intro N_25
        induction N_25 with
        | zero =>
          intro set i H locs ls hi hse hμ_25 hW hl
          exact absurd hμ_25 (by omega)
        | succ N_25 ih_25 =>
          intro set i H locs ls hi hse hμ_25 hW hl
          refine lv_iload S.1 S.2.1 dX5_tale_25 (lv_at hl 0 rfl) ?_
          refine lv_aload_n S.1 S.2.1 dX5_tale_27 rfl (lv_at hl 2 rfl) ?_
          refine w_getr S hW in_X5 0 rfl rfl 0 (by decide) q1651 rfl rfl dX5_tale_28 ?_
          refine lv_aload_n S.1 S.2.1 dX5_tale_31 rfl (lv_at hl 2 rfl) ?_
          refine w_geti S hW in_X5 0 rfl rfl 29 (by decide) q1680 rfl rfl dX5_tale_32 ?_
          refine w_ald S hW 1 0 rfl rfl (by omega) dX5_tale_35 ?_
          refine r_icmp_ge S (tgt := 69) dX5_tale_36 rfl (by omega) (fun c_36 => ?_) (fun c_36 => ?_)
          ·
            refine lv_iload S.1 S.2.1 dX5_tale_69 (lv_at hl 1 rfl) ?_
            exact e_iS S hr hlk hW ⟨set, rfl, ⟨(by unfold sTale; rw [if_pos (dP_t.mpr ws9), if_pos c_16, hse, show i = vAt (σ 0) x 0 by omega]), (same_w q6_sm (by decide))⟩⟩ dX5_tale_71
          ·
            refine lv_iload S.1 S.2.1 dX5_tale_39 (lv_at hl 1 rfl) ?_
            refine lv_aload_n S.1 S.2.1 dX5_tale_41 rfl (lv_at hl 2 rfl) ?_
            refine lv_iload S.1 S.2.1 dX5_tale_42 (lv_at hl 0 rfl) ?_
            refine lv_iload S.1 S.2.1 dX5_tale_44 (lv_at hl 6 rfl) ?_
            refine c_VP S hW (tX5_areAlike l G ad σ6 i y (verL (vAt (σ 0) x) (sndL (wAt (σ 0) k) (rowG (wAt (σ 0) k) (gAt (σ 0) s0))) i) (verL (vAt (σ 0) x) (sndL (wAt (σ 0) k) (rowG (wAt (σ 0) k) (gAt (σ 0) s0))) y) (by omega) (hvs i (by omega) (by omega)) (vy) (⟨verL_len, vl⟩) (verL_mem hbm hV _ i (by omega) (by omega) (Nat.le_refl _)) (vm)) (cw_X5_355 S.2.2.2.2 ⟨Nat.le_of_ble_eq_true rfl, Nat.le_of_ble_eq_true rfl⟩) eBlind_T (fun _ _ _ => trivial) (w_recv hW (q0 := 0) rfl rfl) rfl hl.1 (rest := [.int (iI set)]) rfl (Nat.le_of_ble_eq_true rfl) dX5_tale_46 ⟨Nat.le_of_ble_eq_true rfl, Nat.le_of_ble_eq_true rfl⟩ (fun locs hW => ?_)
            refine r_ifeq_p S (tgt := 59) dX5_tale_49 rfl (fun c_49 => ?_) (fun c_49 => ?_)
            ·
              refine r_iconst S dX5_tale_59 ?_
              refine r_ior S dX5_tale_60 ?_
              refine lv_istore (lv' := [(6, .int (iI (orI set 0))), (7, .int (iI i)), (0, .ref (ad 0)), (1, .int (iI k)), (2, .int (iI s0)), (3, .int (iI x)), (4, .int (iI y)), (5, .int (iI (b2i likes)))]) S.1 S.2.1 dX5_tale_61 hl (by decide) rfl (fun ls hl => ?_)
              refine lv_iinc (v := iI (i + 1)) (lv' := [(7, .int (iI (i + 1))), (6, .int (iI (orI set 0))), (0, .ref (ad 0)), (1, .int (iI k)), (2, .int (iI s0)), (3, .int (iI x)), (4, .int (iI y)), (5, .int (iI (b2i likes)))]) S.1 S.2.1 dX5_tale_63 hl (k := 1) rfl (iI_add _ _) (by decide) rfl (fun ls hl => ?_)
              refine lv_goto (tgt := 25) S.1 S.2.1 dX5_tale_66 rfl ?_
              exact ih_25 (orI set 0) (i + 1) H _ _ (by omega) (by rw [lkI_s hi.1, ← hse]; first | rw [if_pos c_49] | rw [if_neg c_49]) (by omega) hW (lv_sub hl [0, 1, 2, 3, 4, 5, 6, 7] rfl)
            ·
              refine r_iconst S dX5_tale_52 ?_
              refine lv_iload S.1 S.2.1 dX5_tale_53 (lv_at hl 0 rfl) ?_
              refine r_ishl S dX5_tale_55 ?_
              refine lv_goto (tgt := 60) S.1 S.2.1 dX5_tale_56 rfl ?_
              refine r_ior S dX5_tale_60 ?_
              refine lv_istore (lv' := [(6, .int (iI (orI set (shlI 1 i)))), (7, .int (iI i)), (0, .ref (ad 0)), (1, .int (iI k)), (2, .int (iI s0)), (3, .int (iI x)), (4, .int (iI y)), (5, .int (iI (b2i likes)))]) S.1 S.2.1 dX5_tale_61 hl (by decide) rfl (fun ls hl => ?_)
              refine lv_iinc (v := iI (i + 1)) (lv' := [(7, .int (iI (i + 1))), (6, .int (iI (orI set (shlI 1 i)))), (0, .ref (ad 0)), (1, .int (iI k)), (2, .int (iI s0)), (3, .int (iI x)), (4, .int (iI y)), (5, .int (iI (b2i likes)))]) S.1 S.2.1 dX5_tale_63 hl (k := 1) rfl (iI_add _ _) (by decide) rfl (fun ls hl => ?_)
              refine lv_goto (tgt := 25) S.1 S.2.1 dX5_tale_66 rfl ?_
              exact ih_25 (orI set (shlI 1 i)) (i + 1) H _ _ (by omega) (by rw [lkI_s hi.1, ← hse]; first | rw [if_pos c_49] | rw [if_neg c_49]) (by omega) hW (lv_sub hl [0, 1, 2, 3, 4, 5, 6, 7] rfl)
      exact cut_25 _ 0 0 H _ _ (by omega) (rfl) (Nat.lt_succ_self _) hW (lv_sub hl [0, 1, 2, 3, 4, 5, 6, 7] rfl)
  ·
    refine r_iconst S dX5_tale_12 ?_
    exact e_iS S hr hlk hW ⟨(-1), rfl, ⟨(by unfold sTale; rw [if_neg (fun z => absurd (dP_t.mp z) (by assumption))]), (same_w q6_sm (by decide))⟩⟩ dX5_tale_13
