set_option maxHeartbeats 4000000 in
theorem tX5_villageOf (l : Launch) (G : GG) (ad : Nat → Nat) (σ : St) (k : Int) (what : Int) (hv0 : 0 ≤ σ 29 0 ∧ σ 29 0 ≤ 950) (hk : 0 ≤ k ∧ k ≤ 7 ∧ 0 ≤ what ∧ what ≤ 3) : Met l yX5_villageOf (ws_ yX5_villageOf cX5_villageOf 3 (some .int)) ⟨0, 0, 0, 0⟩ (wPre G shM ad σ (fun _ => True) [.ref (ad 0), .int (iI k), .int (iI what)]) (qP (.int (iI (vr σ (1 + 4 * k + what))))) 0 0 (aM ad) := by
  refine wStart (by decide) (Nat.le_of_ble_eq_true rfl) (fun k hk => ⟨k, hk, rfl⟩) (fun p e s m below meth c S hr hlk _ _ ls hW hl => ?_)
  have hl : lv_has ls 3 [(0, .ref (ad 0)), (1, .int (iI k)), (2, .int (iI what))] := hl
  refine lv_aload_n S.1 S.2.1 dX5_villageOf_0 rfl (lv_at hl 0 rfl) ?_
  refine w_getr S hW in_X5 0 rfl rfl 0 (by decide) q1651 rfl rfl dX5_villageOf_1 ?_
  refine lv_aload_n S.1 S.2.1 dX5_villageOf_4 rfl (lv_at hl 0 rfl) ?_
  refine w_geti S hW in_X5 0 rfl rfl 29 (by decide) q1680 rfl rfl dX5_villageOf_5 ?_
  refine r_iconst S dX5_villageOf_8 ?_
  refine r_iadd S dX5_villageOf_9 ?_
  refine r_iconst S dX5_villageOf_10 ?_
  refine lv_iload_n S.1 S.2.1 dX5_villageOf_11 rfl (lv_at hl 1 rfl) ?_
  refine r_imul S dX5_villageOf_12 ?_
  refine r_iadd S dX5_villageOf_13 ?_
  refine lv_iload_n S.1 S.2.1 dX5_villageOf_14 rfl (lv_at hl 2 rfl) ?_
  refine r_iadd S dX5_villageOf_15 ?_
  refine w_ald S hW 1 0 rfl rfl (by omega) dX5_villageOf_16 ?_
  exact e_iP S hr hlk hW.2.2.2.2 (by simp only [vr]; congr 1; omega) dX5_villageOf_17
theorem hd_X5_villageOf : yX5_villageOf.cls = RX5 ∧ yX5_villageOf.cls ≠ "java/lang/invoke/MethodHandle" ∧ yX5_villageOf.cls ≠ "java/lang/invoke/VarHandle" ∧ (parseMethodDescriptor yX5_villageOf.desc).map (fun d => d.parameters.length) = some 2 := by decide +kernel
theorem cw_X5_334 {R : Room} {s : State} {args : Array Value} (ht : ∀ w ∈ lw_all, w.before args s = true) (hR : 0 + 1 ≤ R.frames ∧ 8 + (3 + 11) + 0 ≤ R.locals) : CallW R s args "OneDrumModel" RX5 334 yX5_villageOf cX5_villageOf 3 (some .int) (ws_ yX5_villageOf cX5_villageOf 3 (some .int)) ⟨0, 0, 0, 0⟩ 0 0 2 := cwV 2 ht (lw_V q2096 q2098 qs101 q126 q2099) rfl rfl rfl hd_X5_villageOf hR
set_option maxHeartbeats 4000000 in
theorem tX5_depthOf (l : Launch) (G : GG) (ad : Nat → Nat) (σ : St) (k : Int) (hv0 : 0 ≤ σ 29 0 ∧ σ 29 0 ≤ 950) (hV : WfVill (vr σ)) (hk : 0 ≤ k ∧ k < vr σ 0) : Met l yX5_depthOf (ws_ yX5_depthOf cX5_depthOf 4 (some .int)) ⟨1, 0, 0, 22⟩ (wPre G shM ad σ (fun _ => True) [.ref (ad 0), .int (iI k)]) (qP (.int (iI (dpt (vr σ) k)))) 0 0 (aM ad) := by
  refine wStart (by decide) (Nat.le_of_ble_eq_true rfl) (fun k hk => ⟨k, hk, rfl⟩) (fun p e s m below meth c S hr hlk _ _ ls hW hl => ?_)
  have hl : lv_has ls 4 [(0, .ref (ad 0)), (1, .int (iI k))] := hl
  have hV0 := hV.1
  have hpk := (hV.2 k hk.1 hk.2).1
  have ep : vr σ (1 + 4 * k + 0) = vr σ (1 + 4 * k) := by rw [Int.add_zero]
  have hdk := dpt_rng (v := vr σ) _ k (Nat.le_refl _)
  refine r_iconst S dX5_depthOf_0 ?_
  refine lv_istore_n (lv' := [(2, .int (iI 1)), (0, .ref (ad 0)), (1, .int (iI k))]) S.1 S.2.1 dX5_depthOf_1 rfl hl (by decide) rfl (fun ls hl => ?_)
  refine lv_aload_n S.1 S.2.1 dX5_depthOf_2 rfl (lv_at hl 1 rfl) ?_
  refine lv_iload_n S.1 S.2.1 dX5_depthOf_3 rfl (lv_at hl 2 rfl) ?_
  refine r_iconst S dX5_depthOf_4 ?_
  refine c_VP S hW (tX5_villageOf l G ad σ k 0 (by omega) (by omega)) (cw_X5_334 S.2.2.2.2 ⟨Nat.le_of_ble_eq_true rfl, Nat.le_of_ble_eq_true rfl⟩) eBlind_T (fun _ _ _ => trivial) (w_recv hW (q0 := 0) rfl rfl) rfl hl.1 (rest := []) rfl (Nat.le_of_ble_eq_true rfl) dX5_depthOf_5 ⟨Nat.le_of_ble_eq_true rfl, Nat.le_of_ble_eq_true rfl⟩ (fun locs hW => ?_)
  refine lv_istore_n (lv' := [(3, .int (iI (vr σ (1 + 4 * k + 0)))), (2, .int (iI 1)), (0, .ref (ad 0)), (1, .int (iI k))]) S.1 S.2.1 dX5_depthOf_8 rfl hl (by decide) rfl (fun ls hl => ?_)
  have cut_9 : ∀ (N_9 : Nat) (n v : Int) (locs : List Loc) (ls : Array Slot), ((v = 8 ∧ n = dpt (vr σ) k) ∨ (0 ≤ v ∧ v < k ∧ n + dpt (vr σ) v = dpt (vr σ) k)) → (1 ≤ n) → (if v = 8 then 0 else (v + 1).toNat) < N_9 → WD G shM ad (aM ad) s s.heap σ s.heap locs → lv_has ls 4 [(3, .int (iI v)), (2, .int (iI n)), (0, .ref (ad 0)), (1, .int (iI k))] → W p l e (⟨1, 0, 0, 22⟩ : Room) s m ([.ref (ad 0), .int (iI k)] : List Value).toArray below meth c s.heap locs 0 0 (MQ below (qP (.int (iI (dpt (vr σ) k)))) ([.ref (ad 0), .int (iI k)] : List Value).toArray s 0 0 (aM ad)) (F0 m 9 ls []) := by
    intro N_9
    induction N_9 with
    | zero =>
      intro n v locs ls hv hnr hμ_9 hW hl
      exact absurd hμ_9 (by omega)
    | succ N_9 ih_9 =>
      intro n v locs ls hv hnr hμ_9 hW hl
      have hdr : v ≠ 8 → 1 ≤ dpt (vr σ) v := fun _ => (dpt_rng (v := vr σ) _ v (Nat.le_refl _)).1
      refine lv_iload_n S.1 S.2.1 dX5_depthOf_9 rfl (lv_at hl 0 rfl) ?_
      refine r_bipush S dX5_depthOf_10 (by decide) ?_
      refine r_icmp_eq S (tgt := 28) dX5_depthOf_12 rfl (by omega) (fun c_12 => ?_) (fun c_12 => ?_)
      ·
        refine lv_iload_n S.1 S.2.1 dX5_depthOf_28 rfl (lv_at hl 1 rfl) ?_
        exact e_iP S hr hlk hW.2.2.2.2 (by omega) dX5_depthOf_29
      ·
        have hpv := (hV.2 v (by omega) (by omega)).1
        have epv : vr σ (1 + 4 * v + 0) = vr σ (1 + 4 * v) := by rw [Int.add_zero]
        have hd1 := hdr c_12
        refine lv_iinc (v := iI (n + 1)) (lv' := [(2, .int (iI (n + 1))), (3, .int (iI v)), (0, .ref (ad 0)), (1, .int (iI k))]) S.1 S.2.1 dX5_depthOf_15 hl (k := 1) rfl (iI_add _ _) (by decide) rfl (fun ls hl => ?_)
        refine lv_aload_n S.1 S.2.1 dX5_depthOf_18 rfl (lv_at hl 2 rfl) ?_
        refine lv_iload_n S.1 S.2.1 dX5_depthOf_19 rfl (lv_at hl 1 rfl) ?_
        refine r_iconst S dX5_depthOf_20 ?_
        refine c_VP S hW (tX5_villageOf l G ad σ v 0 (by omega) (by omega)) (cw_X5_334 S.2.2.2.2 ⟨Nat.le_of_ble_eq_true rfl, Nat.le_of_ble_eq_true rfl⟩) eBlind_T (fun _ _ _ => trivial) (w_recv hW (q0 := 0) rfl rfl) rfl hl.1 (rest := []) rfl (Nat.le_of_ble_eq_true rfl) dX5_depthOf_21 ⟨Nat.le_of_ble_eq_true rfl, Nat.le_of_ble_eq_true rfl⟩ (fun locs hW => ?_)
        refine lv_istore_n (lv' := [(3, .int (iI (vr σ (1 + 4 * v + 0)))), (2, .int (iI (n + 1))), (0, .ref (ad 0)), (1, .int (iI k))]) S.1 S.2.1 dX5_depthOf_24 rfl hl (by decide) rfl (fun ls hl => ?_)
        refine lv_goto (tgt := 9) S.1 S.2.1 dX5_depthOf_25 rfl ?_
        exact ih_9 (n + 1) (vr σ (1 + 4 * v + 0)) _ _ (by rw [epv]; rcases hpv with z | z; (have := dpt_8 z (by omega); exact Or.inl ⟨z, by omega⟩); (have := dpt_p z; exact Or.inr ⟨z.1, by omega, by omega⟩)) (by omega) (by rw [epv]; split at hμ_9 <;> split <;> omega) hW (lv_sub hl [0, 1, 2, 3] rfl)
  exact cut_9 _ 1 (vr σ (1 + 4 * k + 0)) _ _ (by rw [ep]; rcases hpk with z | z; exact Or.inl ⟨z, (dpt_8 z (by omega)).symm⟩; exact Or.inr ⟨z.1, z.2, (dpt_p z).symm⟩) (by omega) (Nat.lt_succ_self _) hW (lv_sub hl [0, 1, 2, 3] rfl)
theorem hd_X5_areVillages : yX5_areVillages.cls = RX5 ∧ yX5_areVillages.cls ≠ "java/lang/invoke/MethodHandle" ∧ yX5_areVillages.cls ≠ "java/lang/invoke/VarHandle" ∧ (parseMethodDescriptor yX5_areVillages.desc).map (fun d => d.parameters.length) = some 1 := by decide +kernel
theorem cw_X5_337 {R : Room} {s : State} {args : Array Value} (ht : ∀ w ∈ lw_all, w.before args s = true) (hR : 2 + 1 ≤ R.frames ∧ 8 + (2 + 11) + 44 ≤ R.locals) : CallW R s args "OneDrumModel" RX5 337 yX5_areVillages cX5_areVillages 2 (some .boolean) (ws_ yX5_areVillages cX5_areVillages 2 (some .boolean)) ⟨2, 0, 0, 44⟩ 0 0 1 := cwV 1 ht (lw_V q2092 q2094 qs100 q126 q2095) rfl rfl rfl hd_X5_areVillages hR
theorem hd_X5_depthOf : yX5_depthOf.cls = RX5 ∧ yX5_depthOf.cls ≠ "java/lang/invoke/MethodHandle" ∧ yX5_depthOf.cls ≠ "java/lang/invoke/VarHandle" ∧ (parseMethodDescriptor yX5_depthOf.desc).map (fun d => d.parameters.length) = some 1 := by decide +kernel
theorem cw_X5_340 {R : Room} {s : State} {args : Array Value} (ht : ∀ w ∈ lw_all, w.before args s = true) (hR : 1 + 1 ≤ R.frames ∧ 8 + (4 + 11) + 22 ≤ R.locals) : CallW R s args "OneDrumModel" RX5 340 yX5_depthOf cX5_depthOf 4 (some .int) (ws_ yX5_depthOf cX5_depthOf 4 (some .int)) ⟨1, 0, 0, 22⟩ 0 0 1 := cwV 1 ht (lw_V q2100 q2102 qs102 q126 q2103) rfl rfl rfl hd_X5_depthOf hR
set_option maxHeartbeats 4000000 in
theorem tX5_village (l : Launch) (G : GG) (ad : Nat → Nat) (σ : St) (x : Int) (k : Int) (what : Int) (hr0 : -2147483648 ≤ x ∧ x < 2147483648 ∧ -2147483648 ≤ k ∧ k < 2147483648 ∧ -2147483648 ≤ what ∧ what < 2147483648) (hdb : WfDB (σ 0)) : Met l yX5_village (ws_ yX5_village cX5_village 4 (some .int)) ⟨3, 0, 0, 65⟩ (wPre G shM ad σ (fun _ => True) [.ref (ad 0), .int (iI x), .int (iI k), .int (iI what)]) (qS G shM ad (aM ad) (rI (fun r σ' => (r = sVillage (σ 0) x k what) ∧ (same [29] σ σ')))) 0 0 (aM ad) := by
  refine wStart (by decide) (Nat.le_of_ble_eq_true rfl) (fun k hk => ⟨k, hk, rfl⟩) (fun p e s m below meth c S hr hlk _ _ ls hW hl => ?_)
  have hl : lv_has ls 4 [(0, .ref (ad 0)), (1, .int (iI x)), (2, .int (iI k)), (3, .int (iI what))] := hl
  have d0 := hdb.1
  have d1 := hdb.2.1
  have d2 := hdb.2.2.1
  have d3 := hdb.2.2.2.1
  refine lv_aload_n S.1 S.2.1 dX5_village_0 rfl (lv_at hl 0 rfl) ?_
  refine lv_iload_n S.1 S.2.1 dX5_village_1 rfl (lv_at hl 1 rfl) ?_
  refine c_VSz S hW (tX5_areVillages l G ad σ x (by omega) (by omega)) (cw_X5_337 S.2.2.2.2 ⟨Nat.le_of_ble_eq_true rfl, Nat.le_of_ble_eq_true rfl⟩) eBlind_T (fun _ _ _ => trivial) (w_recv hW (q0 := 0) rfl rfl) rfl hl.1 (rest := []) rfl (Nat.le_of_ble_eq_true rfl) dX5_village_2 ⟨Nat.le_of_ble_eq_true rfl, Nat.le_of_ble_eq_true rfl⟩ (fun r2 σ2 H locs q2 hW => ?_)
  obtain ⟨rfl, q2_sm, q2_w⟩ := q2
  have e0 : σ2 0 = σ 0 := q2_sm 0 (by decide)
  refine r_ifne_p S (tgt := 11) dX5_village_5 rfl (fun c_5 => ?_) (fun c_5 => ?_)
  ·
    have w29 := q2_w (by omega)
    have hV := hdb.2.2.2.2.2.2.2.2.2.2.2 x (by omega) (by omega)
    have vq : vr σ2 = vAt (σ 0) x := vr_at e0 w29
    have hV0 := hV.1
    have v0 : σ2 0 (σ2 29 0) = vAt (σ 0) x 0 := by have := congrFun vq 0; simp only [vr, Int.add_zero] at this; exact this
    have v0b : vr σ2 0 = vAt (σ 0) x 0 := congrFun vq 0
    refine lv_iload_n S.1 S.2.1 dX5_village_11 rfl (lv_at hl 2 rfl) ?_
    refine r_iconst S dX5_village_12 ?_
    refine r_icmp_ne S (tgt := 35) dX5_village_13 rfl (by omega) (fun c_13 => ?_) (fun c_13 => ?_)
    ·
      refine lv_iload_n S.1 S.2.1 dX5_village_35 rfl (lv_at hl 2 rfl) ?_
      refine r_iconst S dX5_village_36 ?_
      refine lv_aload_n S.1 S.2.1 dX5_village_37 rfl (lv_at hl 0 rfl) ?_
      refine w_getr S hW in_X5 0 rfl rfl 0 (by decide) q1651 rfl rfl dX5_village_38 ?_
      refine lv_aload_n S.1 S.2.1 dX5_village_41 rfl (lv_at hl 0 rfl) ?_
      refine w_geti S hW in_X5 0 rfl rfl 29 (by decide) q1680 rfl rfl dX5_village_42 ?_
      refine w_ald S hW 1 0 rfl rfl (by omega) dX5_village_45 ?_
      refine r_iconst S dX5_village_46 ?_
      refine r_isub S dX5_village_47 ?_
      refine c_SPw S hW (tX5_isIn l k 0 ((σ2 0 (σ2 29 0)) - 1) (by omega)) (cw_X5_145 S.2.2.2.2 ⟨Nat.le_of_ble_eq_true rfl, Nat.le_of_ble_eq_true rfl⟩) rfl hl.1 (rest := []) rfl (Nat.le_of_ble_eq_true rfl) dX5_village_48 ⟨Nat.le_of_ble_eq_true rfl, Nat.le_of_ble_eq_true rfl⟩ (fun locs hW => ?_)
      refine r_ifne_p S (tgt := 57) dX5_village_51 rfl (fun c_51 => ?_) (fun c_51 => ?_)
      ·
        refine lv_iload_n S.1 S.2.1 dX5_village_57 rfl (lv_at hl 3 rfl) ?_
        refine r_iconst S dX5_village_58 ?_
        refine r_iconst S dX5_village_59 ?_
        refine c_SPw S hW (tX5_isIn l what 0 3 (by omega)) (cw_X5_145 S.2.2.2.2 ⟨Nat.le_of_ble_eq_true rfl, Nat.le_of_ble_eq_true rfl⟩) rfl hl.1 (rest := []) rfl (Nat.le_of_ble_eq_true rfl) dX5_village_60 ⟨Nat.le_of_ble_eq_true rfl, Nat.le_of_ble_eq_true rfl⟩ (fun locs hW => ?_)
        refine r_ifeq_p S (tgt := 75) dX5_village_63 rfl (fun c_63 => ?_) (fun c_63 => ?_)
        ·
          refine lv_iload_n S.1 S.2.1 dX5_village_75 rfl (lv_at hl 3 rfl) ?_
          refine r_iconst S dX5_village_76 ?_
          refine r_icmp_ne S (tgt := 88) dX5_village_77 rfl (by omega) (fun c_77 => ?_) (fun c_77 => ?_)
          ·
            refine r_bipush S dX5_village_88 (by decide) ?_
            exact e_iS S hr hlk hW ⟨(-2), rfl, ⟨(by unfold sVillage sVill2; rw [if_pos (by omega)]; first | (rw [if_pos (by omega), if_pos (by omega)]; exact v0) | (rw [if_pos (by omega), if_neg (by omega)]) | (rw [if_neg (by omega), if_neg (by omega)]) | (rw [if_neg (by omega), if_pos (by omega), if_pos (by omega), vq]) | (rw [if_neg (by omega), if_pos (by omega), if_neg (by omega), if_pos (by omega), vq]) | (rw [if_neg (by omega), if_pos (by omega), if_neg (by omega), if_neg (by omega)])), (q2_sm)⟩⟩ dX5_village_90
          ·
            refine lv_aload_n S.1 S.2.1 dX5_village_80 rfl (lv_at hl 0 rfl) ?_
            refine lv_iload_n S.1 S.2.1 dX5_village_81 rfl (lv_at hl 2 rfl) ?_
            refine c_VP S hW (tX5_depthOf l G ad σ2 k (by omega) (by rw [vq]; exact hV) (by omega)) (cw_X5_340 S.2.2.2.2 ⟨Nat.le_of_ble_eq_true rfl, Nat.le_of_ble_eq_true rfl⟩) eBlind_T (fun _ _ _ => trivial) (w_recv hW (q0 := 0) rfl rfl) rfl hl.1 (rest := []) rfl (Nat.le_of_ble_eq_true rfl) dX5_village_82 ⟨Nat.le_of_ble_eq_true rfl, Nat.le_of_ble_eq_true rfl⟩ (fun locs hW => ?_)
            refine lv_goto (tgt := 90) S.1 S.2.1 dX5_village_85 rfl ?_
            exact e_iS S hr hlk hW ⟨(dpt (vr σ2) k), rfl, ⟨(by unfold sVillage sVill2; rw [if_pos (by omega)]; first | (rw [if_pos (by omega), if_pos (by omega)]; exact v0) | (rw [if_pos (by omega), if_neg (by omega)]) | (rw [if_neg (by omega), if_neg (by omega)]) | (rw [if_neg (by omega), if_pos (by omega), if_pos (by omega), vq]) | (rw [if_neg (by omega), if_pos (by omega), if_neg (by omega), if_pos (by omega), vq]) | (rw [if_neg (by omega), if_pos (by omega), if_neg (by omega), if_neg (by omega)])), (q2_sm)⟩⟩ dX5_village_90
        ·
          refine lv_aload_n S.1 S.2.1 dX5_village_66 rfl (lv_at hl 0 rfl) ?_
          refine lv_iload_n S.1 S.2.1 dX5_village_67 rfl (lv_at hl 2 rfl) ?_
          refine lv_iload_n S.1 S.2.1 dX5_village_68 rfl (lv_at hl 3 rfl) ?_
          refine c_VP S hW (tX5_villageOf l G ad σ2 k what (by omega) (by omega)) (cw_X5_334 S.2.2.2.2 ⟨Nat.le_of_ble_eq_true rfl, Nat.le_of_ble_eq_true rfl⟩) eBlind_T (fun _ _ _ => trivial) (w_recv hW (q0 := 0) rfl rfl) rfl hl.1 (rest := []) rfl (Nat.le_of_ble_eq_true rfl) dX5_village_69 ⟨Nat.le_of_ble_eq_true rfl, Nat.le_of_ble_eq_true rfl⟩ (fun locs hW => ?_)
          refine lv_goto (tgt := 90) S.1 S.2.1 dX5_village_72 rfl ?_
          exact e_iS S hr hlk hW ⟨(vr σ2 (1 + 4 * k + what)), rfl, ⟨(by unfold sVillage sVill2; rw [if_pos (by omega)]; first | (rw [if_pos (by omega), if_pos (by omega)]; exact v0) | (rw [if_pos (by omega), if_neg (by omega)]) | (rw [if_neg (by omega), if_neg (by omega)]) | (rw [if_neg (by omega), if_pos (by omega), if_pos (by omega), vq]) | (rw [if_neg (by omega), if_pos (by omega), if_neg (by omega), if_pos (by omega), vq]) | (rw [if_neg (by omega), if_pos (by omega), if_neg (by omega), if_neg (by omega)])), (q2_sm)⟩⟩ dX5_village_90
      ·
        refine r_bipush S dX5_village_54 (by decide) ?_
        exact e_iS S hr hlk hW ⟨(-2), rfl, ⟨(by unfold sVillage sVill2; rw [if_pos (by omega)]; first | (rw [if_pos (by omega), if_pos (by omega)]; exact v0) | (rw [if_pos (by omega), if_neg (by omega)]) | (rw [if_neg (by omega), if_neg (by omega)]) | (rw [if_neg (by omega), if_pos (by omega), if_pos (by omega), vq]) | (rw [if_neg (by omega), if_pos (by omega), if_neg (by omega), if_pos (by omega), vq]) | (rw [if_neg (by omega), if_pos (by omega), if_neg (by omega), if_neg (by omega)])), (q2_sm)⟩⟩ dX5_village_56
    ·
      refine lv_iload_n S.1 S.2.1 dX5_village_16 rfl (lv_at hl 3 rfl) ?_
      refine r_if_ne S (tgt := 32) dX5_village_17 rfl (by omega) (fun c_17 => ?_) (fun c_17 => ?_)
      ·
        refine r_bipush S dX5_village_32 (by decide) ?_
        exact e_iS S hr hlk hW ⟨(-2), rfl, ⟨(by unfold sVillage sVill2; rw [if_pos (by omega)]; first | (rw [if_pos (by omega), if_pos (by omega)]; exact v0) | (rw [if_pos (by omega), if_neg (by omega)]) | (rw [if_neg (by omega), if_neg (by omega)]) | (rw [if_neg (by omega), if_pos (by omega), if_pos (by omega), vq]) | (rw [if_neg (by omega), if_pos (by omega), if_neg (by omega), if_pos (by omega), vq]) | (rw [if_neg (by omega), if_pos (by omega), if_neg (by omega), if_neg (by omega)])), (q2_sm)⟩⟩ dX5_village_34
      ·
        refine lv_aload_n S.1 S.2.1 dX5_village_20 rfl (lv_at hl 0 rfl) ?_
        refine w_getr S hW in_X5 0 rfl rfl 0 (by decide) q1651 rfl rfl dX5_village_21 ?_
        refine lv_aload_n S.1 S.2.1 dX5_village_24 rfl (lv_at hl 0 rfl) ?_
        refine w_geti S hW in_X5 0 rfl rfl 29 (by decide) q1680 rfl rfl dX5_village_25 ?_
        refine w_ald S hW 1 0 rfl rfl (by omega) dX5_village_28 ?_
        refine lv_goto (tgt := 34) S.1 S.2.1 dX5_village_29 rfl ?_
        exact e_iS S hr hlk hW ⟨(σ2 0 (σ2 29 0)), rfl, ⟨(by unfold sVillage sVill2; rw [if_pos (by omega)]; first | (rw [if_pos (by omega), if_pos (by omega)]; exact v0) | (rw [if_pos (by omega), if_neg (by omega)]) | (rw [if_neg (by omega), if_neg (by omega)]) | (rw [if_neg (by omega), if_pos (by omega), if_pos (by omega), vq]) | (rw [if_neg (by omega), if_pos (by omega), if_neg (by omega), if_pos (by omega), vq]) | (rw [if_neg (by omega), if_pos (by omega), if_neg (by omega), if_neg (by omega)])), (q2_sm)⟩⟩ dX5_village_34
  ·
    refine r_bipush S dX5_village_8 (by decide) ?_
    exact e_iS S hr hlk hW ⟨(-2), rfl, ⟨(by unfold sVillage; rw [if_neg (by omega)]), (q2_sm)⟩⟩ dX5_village_10
set_option maxHeartbeats 4000000 in
theorem tX5_repeats (l : Launch) (G : GG) (ad : Nat → Nat) (σ : St) (parent : Int) (pl : List Int) (hp : (parent = 8 ∧ σ 18 0 = pl.length ∧ ∀ i : Int, 0 ≤ i → i < pl.length → σ 16 i = gi pl i) ∨ (0 ≤ parent ∧ parent ≤ 7 ∧ Vr σ parent pl)) (hpl : pl.length ≤ 60 ∧ (parent = 8 → pl.length ≤ 24)) : Met l yX5_repeats (ws_ yX5_repeats cX5_repeats 4 (some .int)) ⟨0, 0, 0, 0⟩ (wPre G shM ad σ (fun _ => True) [.ref (ad 0), .int (iI parent)]) (qS G shM ad (aM ad) (rI (fun r σ' => (r = (pl.length : Int)) ∧ (fil σ' 32 pl.length (gi pl)) ∧ (same [32] σ σ')))) 0 0 (aM ad) := by
  refine wStart (by decide) (Nat.le_of_ble_eq_true rfl) (fun k hk => ⟨k, hk, rfl⟩) (fun p e s m below meth c S hr hlk _ _ ls hW hl => ?_)
  have hl : lv_has ls 4 [(0, .ref (ad 0)), (1, .int (iI parent))] := hl
  refine lv_iload_n S.1 S.2.1 dX5_repeats_0 rfl (lv_at hl 1 rfl) ?_
  refine r_bipush S dX5_repeats_1 (by decide) ?_
  have cut_22 : ∀ (N_22 : Nat) (i : Int) (σ1 : St) (H : Heap) (locs : List Loc) (ls : Array Slot), (0 ≤ i ∧ i ≤ pl.length) → (same [32] σ σ1) → (fil σ1 32 i (gi pl)) → ((pl.length - i).toNat) < N_22 → WD G shM ad (aM ad) s s.heap σ1 H locs → lv_has ls 4 [(0, .ref (ad 0)), (1, .int (iI parent)), (2, .int (iI (pl.length : Int))), (3, .int (iI i))] → W p l e (⟨0, 0, 0, 0⟩ : Room) s m ([.ref (ad 0), .int (iI parent)] : List Value).toArray below meth c H locs 0 0 (MQ below (qS G shM ad (aM ad) (rI (fun r σ' => (r = (pl.length : Int)) ∧ (fil σ' 32 pl.length (gi pl)) ∧ (same [32] σ σ')))) ([.ref (ad 0), .int (iI parent)] : List Value).toArray s 0 0 (aM ad)) (F0 m 22 ls []) := by
    intro N_22
    induction N_22 with
    | zero =>
      intro i σ1 H locs ls hi hsm hf hμ_22 hW hl
      exact absurd hμ_22 (by omega)
    | succ N_22 ih_22 =>
      intro i σ1 H locs ls hi hsm hf hμ_22 hW hl
      refine lv_iload_n S.1 S.2.1 dX5_repeats_22 rfl (lv_at hl 3 rfl) ?_
      refine lv_iload_n S.1 S.2.1 dX5_repeats_23 rfl (lv_at hl 2 rfl) ?_
      refine r_icmp_ge S (tgt := 65) dX5_repeats_24 rfl (by omega) (fun c_24 => ?_) (fun c_24 => ?_)
      ·
        refine lv_iload_n S.1 S.2.1 dX5_repeats_65 rfl (lv_at hl 2 rfl) ?_
        exact e_iS S hr hlk hW ⟨(pl.length : Int), rfl, ⟨(rfl), (fil_le hf (by omega)), (hsm)⟩⟩ dX5_repeats_66
      ·
        refine lv_aload_n S.1 S.2.1 dX5_repeats_27 rfl (lv_at hl 0 rfl) ?_
        refine w_getr S hW in_X5 0 rfl rfl 32 (by decide) q1683 rfl rfl dX5_repeats_28 ?_
        refine lv_iload_n S.1 S.2.1 dX5_repeats_31 rfl (lv_at hl 3 rfl) ?_
        refine lv_iload_n S.1 S.2.1 dX5_repeats_32 rfl (lv_at hl 1 rfl) ?_
        refine r_bipush S dX5_repeats_33 (by decide) ?_
        refine r_icmp_ne S (tgt := 47) dX5_repeats_35 rfl (by omega) (fun c_35 => ?_) (fun c_35 => ?_)
        ·
          have hp7 := hp.resolve_left (fun z => by omega)
          have hq2 : σ1 30 (60 * parent + i) = gi pl i := by rw [hsm 30 (by decide)]; exact hp7.2.2.2 i (by omega) (by omega)
          refine lv_aload_n S.1 S.2.1 dX5_repeats_47 rfl (lv_at hl 0 rfl) ?_
          refine w_getr S hW in_X5 0 rfl rfl 30 (by decide) q1681 rfl rfl dX5_repeats_48 ?_
          refine r_bipush S dX5_repeats_51 (by decide) ?_
          refine lv_iload_n S.1 S.2.1 dX5_repeats_53 rfl (lv_at hl 1 rfl) ?_
          refine r_imul S dX5_repeats_54 ?_
          refine lv_iload_n S.1 S.2.1 dX5_repeats_55 rfl (lv_at hl 3 rfl) ?_
          refine r_iadd S dX5_repeats_56 ?_
          refine w_ald S hW 19 0 rfl rfl (by omega) dX5_repeats_57 ?_
          refine w_ast S hW 21 0 rfl rfl rfl (z := (σ1 30 ((60 * parent) + i))) (by omega) dX5_repeats_58 (fun H locs hW => ?_)
          refine lv_iinc (v := iI (i + 1)) (lv' := [(3, .int (iI (i + 1))), (0, .ref (ad 0)), (1, .int (iI parent)), (2, .int (iI (pl.length : Int)))]) S.1 S.2.1 dX5_repeats_59 hl (k := 3) rfl (iI_add _ _) (by decide) rfl (fun ls hl => ?_)
          refine lv_goto (tgt := 22) S.1 S.2.1 dX5_repeats_62 rfl ?_
          exact ih_22 (i + 1) (up σ1 32 i (σ1 30 ((60 * parent) + i))) H _ _ (by omega) (same_up hsm (by decide)) (fil_up hf (by first | exact hq1 | exact hq2)) (by omega) hW (lv_sub hl [1, 2, 3, 0] rfl)
        ·
          have hq1 : σ1 16 i = gi pl i := by rw [hsm 16 (by decide)]; exact (hp.resolve_right (fun z => by omega)).2.2 i (by omega) (by omega)
          refine lv_aload_n S.1 S.2.1 dX5_repeats_38 rfl (lv_at hl 0 rfl) ?_
          refine w_getr S hW in_X5 0 rfl rfl 16 (by decide) q1667 rfl rfl dX5_repeats_39 ?_
          refine lv_iload_n S.1 S.2.1 dX5_repeats_42 rfl (lv_at hl 3 rfl) ?_
          refine w_ald S hW 8 0 rfl rfl (by omega) dX5_repeats_43 ?_
          refine lv_goto (tgt := 58) S.1 S.2.1 dX5_repeats_44 rfl ?_
          refine w_ast S hW 21 0 rfl rfl rfl (z := (σ1 16 i)) (by omega) dX5_repeats_58 (fun H locs hW => ?_)
          refine lv_iinc (v := iI (i + 1)) (lv' := [(3, .int (iI (i + 1))), (0, .ref (ad 0)), (1, .int (iI parent)), (2, .int (iI (pl.length : Int)))]) S.1 S.2.1 dX5_repeats_59 hl (k := 3) rfl (iI_add _ _) (by decide) rfl (fun ls hl => ?_)
          refine lv_goto (tgt := 22) S.1 S.2.1 dX5_repeats_62 rfl ?_
          exact ih_22 (i + 1) (up σ1 32 i (σ1 16 i)) H _ _ (by omega) (same_up hsm (by decide)) (fil_up hf (by first | exact hq1 | exact hq2)) (by omega) hW (lv_sub hl [1, 2, 3, 0] rfl)
  refine r_icmp_ne S (tgt := 13) dX5_repeats_3 rfl (by omega) (fun c_3 => ?_) (fun c_3 => ?_)
  ·
    have hp7 := hp.resolve_left (fun z => by omega)
    refine lv_aload_n S.1 S.2.1 dX5_repeats_13 rfl (lv_at hl 0 rfl) ?_
    refine w_getr S hW in_X5 0 rfl rfl 31 (by decide) q1682 rfl rfl dX5_repeats_14 ?_
    refine lv_iload_n S.1 S.2.1 dX5_repeats_17 rfl (lv_at hl 1 rfl) ?_
    refine w_ald S hW 20 0 rfl rfl (by omega) dX5_repeats_18 ?_
    refine r_as (pl.length : Int) (by first | exact (hp.resolve_right (fun z => by omega)).2.1 | exact (hp.resolve_left (fun z => by omega)).2.2.1) ?_
    refine lv_istore_n (lv' := [(2, .int (iI (pl.length : Int))), (0, .ref (ad 0)), (1, .int (iI parent))]) S.1 S.2.1 dX5_repeats_19 rfl hl (by decide) rfl (fun ls hl => ?_)
    refine r_iconst S dX5_repeats_20 ?_
    refine lv_istore_n (lv' := [(3, .int (iI 0)), (2, .int (iI (pl.length : Int))), (0, .ref (ad 0)), (1, .int (iI parent))]) S.1 S.2.1 dX5_repeats_21 rfl hl (by decide) rfl (fun ls hl => ?_)
    exact cut_22 _ 0 σ s.heap _ _ (by omega) (same_rf) (fil_0) (Nat.lt_succ_self _) hW (lv_sub hl [2, 3, 1, 0] rfl)
  ·
    refine lv_aload_n S.1 S.2.1 dX5_repeats_6 rfl (lv_at hl 0 rfl) ?_
    refine w_geti S hW in_X5 0 rfl rfl 18 (by decide) q1669 rfl rfl dX5_repeats_7 ?_
    refine lv_goto (tgt := 19) S.1 S.2.1 dX5_repeats_10 rfl ?_
    refine r_as (pl.length : Int) (by first | exact (hp.resolve_right (fun z => by omega)).2.1 | exact (hp.resolve_left (fun z => by omega)).2.2.1) ?_
    refine lv_istore_n (lv' := [(2, .int (iI (pl.length : Int))), (0, .ref (ad 0)), (1, .int (iI parent))]) S.1 S.2.1 dX5_repeats_19 rfl hl (by decide) rfl (fun ls hl => ?_)
    refine r_iconst S dX5_repeats_20 ?_
    refine lv_istore_n (lv' := [(3, .int (iI 0)), (2, .int (iI (pl.length : Int))), (0, .ref (ad 0)), (1, .int (iI parent))]) S.1 S.2.1 dX5_repeats_21 rfl hl (by decide) rfl (fun ls hl => ?_)
    exact cut_22 _ 0 σ s.heap _ _ (by omega) (same_rf) (fil_0) (Nat.lt_succ_self _) hW (lv_sub hl [2, 3, 1, 0] rfl)
set_option maxHeartbeats 4000000 in
theorem tX5_adds (l : Launch) (G : GG) (ad : Nat → Nat) (σ : St) (k : Int) (beat : Int) (l0 : List Int) (hk : 0 ≤ k ∧ k ≤ 7) (hv : Vr σ k (l0.take 60)) : Met l yX5_adds (ws_ yX5_adds cX5_adds 3 none) ⟨0, 0, 0, 0⟩ (wPre G shM ad σ (fun _ => True) [.ref (ad 0), .int (iI k), .int (iI beat)]) (qS G shM ad (aM ad) (rV (fun σ' => (Vr σ' k ((l0 ++ [beat]).take 60)) ∧ (∀ (j : Int) (l' : List Int), j ≠ k → l'.length ≤ 60 → Vr σ j l' → Vr σ' j l') ∧ (same [30, 31] σ σ')))) 0 0 (aM ad) := by
  refine wStart (by decide) (Nat.le_of_ble_eq_true rfl) (fun k hk => ⟨k, hk, rfl⟩) (fun p e s m below meth c S hr hlk _ _ ls hW hl => ?_)
  have hl : lv_has ls 3 [(0, .ref (ad 0)), (1, .int (iI k)), (2, .int (iI beat))] := hl
  have h1 := hv.1
  rw [List.length_take] at h1
  refine lv_aload_n S.1 S.2.1 dX5_adds_0 rfl (lv_at hl 0 rfl) ?_
  refine w_getr S hW in_X5 0 rfl rfl 31 (by decide) q1682 rfl rfl dX5_adds_1 ?_
  refine lv_iload_n S.1 S.2.1 dX5_adds_4 rfl (lv_at hl 1 rfl) ?_
  refine w_ald S hW 20 0 rfl rfl (by omega) dX5_adds_5 ?_
  refine r_bipush S dX5_adds_6 (by decide) ?_
  refine r_icmp_lt S (tgt := 12) dX5_adds_8 rfl (by omega) (fun c_8 => ?_) (fun c_8 => ?_)
  ·
    refine lv_aload_n S.1 S.2.1 dX5_adds_12 rfl (lv_at hl 0 rfl) ?_
    refine w_getr S hW in_X5 0 rfl rfl 30 (by decide) q1681 rfl rfl dX5_adds_13 ?_
    refine r_bipush S dX5_adds_16 (by decide) ?_
    refine lv_iload_n S.1 S.2.1 dX5_adds_18 rfl (lv_at hl 1 rfl) ?_
    refine r_imul S dX5_adds_19 ?_
    refine lv_aload_n S.1 S.2.1 dX5_adds_20 rfl (lv_at hl 0 rfl) ?_
    refine w_getr S hW in_X5 0 rfl rfl 31 (by decide) q1682 rfl rfl dX5_adds_21 ?_
    refine lv_iload_n S.1 S.2.1 dX5_adds_24 rfl (lv_at hl 1 rfl) ?_
    refine w_ald S hW 20 0 rfl rfl (by omega) dX5_adds_25 ?_
    refine r_iadd S dX5_adds_26 ?_
    refine lv_iload_n S.1 S.2.1 dX5_adds_27 rfl (lv_at hl 2 rfl) ?_
    refine w_ast S hW 19 0 rfl rfl rfl (z := beat) (by omega) dX5_adds_28 (fun H locs hW => ?_)
    refine lv_aload_n S.1 S.2.1 dX5_adds_29 rfl (lv_at hl 0 rfl) ?_
    refine w_getr S hW in_X5 0 rfl rfl 31 (by decide) q1682 rfl rfl dX5_adds_30 ?_
    refine lv_iload_n S.1 S.2.1 dX5_adds_33 rfl (lv_at hl 1 rfl) ?_
    refine lv_dup2_11 S.1 S.2.1 dX5_adds_34 rfl rfl ?_
    refine w_ald S hW 20 0 rfl rfl (by omega) dX5_adds_35 ?_
    refine r_as (σ 31 k) (up_ne (by decide)) ?_
    refine r_iconst S dX5_adds_36 ?_
    refine r_iadd S dX5_adds_37 ?_
    refine w_ast S hW 20 0 rfl rfl rfl (z := ((σ 31 k) + 1)) (by omega) dX5_adds_38 (fun H locs hW => ?_)
    exact e_vS S hr hlk hW ⟨rfl, ⟨(Vr_add hv (by omega)), (fun j l' hj hl' h => Vr_oth h hj hl' (by omega)), (same_up (same_up same_rf (by decide)) (by decide))⟩⟩ dX5_adds_39
  ·
    exact e_vS S hr hlk hW ⟨rfl, ⟨(by rw [take_full (by omega)]; exact hv), (fun j l' _ _ h => h), (same_rf)⟩⟩ dX5_adds_11
