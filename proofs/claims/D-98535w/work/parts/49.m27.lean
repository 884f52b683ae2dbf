set_option maxHeartbeats 4000000 in
theorem tX5_ends (l : Launch) (G : GG) (ad : Nat → Nat) (σ : St) (e_ : ER) (he : Er σ e_) (ho : eOk e_) : Met l yX5_ends (ws_ yX5_ends cX5_ends 1 none) ⟨0, 0, 0, 0⟩ (wPre G shM ad σ (fun _ => True) [.ref (ad 0)]) (qS G shM ad (aM ad) (rV (fun σ' => (Er σ' (eEnd e_ (σ 4 0))) ∧ (sameA σ σ') ∧ (same [0, 8] σ σ')))) 0 0 (aM ad) := by
  refine wStart (by decide) (Nat.le_of_ble_eq_true rfl) (fun k hk => ⟨k, hk, rfl⟩) (fun p e s m below meth c S hr hlk _ _ ls hW hl => ?_)
  have hl : lv_has ls 1 [(0, .ref (ad 0))] := hl
  have h8 := he.1
  have ho1 := ho.1
  refine lv_aload_n S.1 S.2.1 dX5_ends_0 rfl (lv_at hl 0 rfl) ?_
  refine w_geti S hW in_X5 0 rfl rfl 8 (by decide) q1659 rfl rfl dX5_ends_1 ?_
  refine r_if_eq S (tgt := 8) dX5_ends_4 rfl (by omega) (fun c_4 => ?_) (fun c_4 => ?_)
  ·
    refine lv_aload_n S.1 S.2.1 dX5_ends_8 rfl (lv_at hl 0 rfl) ?_
    refine r_iconst S dX5_ends_9 ?_
    refine w_putz S hW in_X5 tyX5 tyX5_ok nmX5 0 rfl rfl 8 (by decide) q1659 rfl rfl rfl rfl rfl (z := 1) rfl (by omega) dX5_ends_10 (fun H locs hW => ?_)
    refine lv_aload_n S.1 S.2.1 dX5_ends_13 rfl (lv_at hl 0 rfl) ?_
    refine w_getr S hW in_X5 0 rfl rfl 0 (by decide) q1651 rfl rfl dX5_ends_14 ?_
    refine r_iconst S dX5_ends_17 ?_
    refine r_iconst S dX5_ends_18 ?_
    refine w_ast S hW 1 0 rfl rfl rfl (z := 1) (by omega) dX5_ends_19 (fun H locs hW => ?_)
    refine lv_aload_n S.1 S.2.1 dX5_ends_20 rfl (lv_at hl 0 rfl) ?_
    refine w_getr S hW in_X5 0 rfl rfl 0 (by decide) q1651 rfl rfl dX5_ends_21 ?_
    refine r_bipush S dX5_ends_24 (by decide) ?_
    refine lv_aload_n S.1 S.2.1 dX5_ends_26 rfl (lv_at hl 0 rfl) ?_
    refine w_geti S hW in_X5 0 rfl rfl 4 (by decide) q1655 rfl rfl dX5_ends_27 ?_
    refine r_as (σ 4 0) ((up_ne (by decide)).trans (up_ne (by decide))) ?_
    refine w_ast S hW 1 0 rfl rfl rfl (z := (σ 4 0)) (by omega) dX5_ends_30 (fun H locs hW => ?_)
    exact e_vS S hr hlk hW ⟨rfl, ⟨(by unfold eEnd; rw [if_neg (by omega)]; exact ⟨by simp [up], by simp [up], by simp [up]⟩), (fun j j5 j6 => by simp [up, j5, j6]), (same_up (same_up (same_up same_rf (by decide)) (by decide)) (by decide))⟩⟩ dX5_ends_31
  ·
    exact e_vS S hr hlk hW ⟨rfl, ⟨(by unfold eEnd; rw [if_pos (by omega)]; exact he), (sameA_rf), (same_rf)⟩⟩ dX5_ends_7
set_option maxHeartbeats 4000000 in
theorem tX5_also (l : Launch) (G : GG) (ad : Nat → Nat) (σ : St) (kind : Int) (at_ : Int) (e_ : ER) (he : Er σ e_) (ho : eOk e_) (hk : 1 ≤ kind ∧ kind ≤ 4 ∧ 0 ≤ at_ ∧ at_ ≤ 601) : Met l yX5_also (ws_ yX5_also cX5_also 3 none) ⟨0, 0, 0, 0⟩ (wPre G shM ad σ (fun _ => True) [.ref (ad 0), .int (iI kind), .int (iI at_)]) (qS G shM ad (aM ad) (rV (fun σ' => (Er σ' (eNote e_ kind at_)) ∧ (sameA σ σ') ∧ (same [0] σ σ')))) 0 0 (aM ad) := by
  refine wStart (by decide) (Nat.le_of_ble_eq_true rfl) (fun k hk => ⟨k, hk, rfl⟩) (fun p e s m below meth c S hr hlk _ _ ls hW hl => ?_)
  have hl : lv_has ls 3 [(0, .ref (ad 0)), (1, .int (iI kind)), (2, .int (iI at_))] := hl
  have h8 := he.1
  have h5 := he.2.1
  have h6 := he.2.2
  have ho1 := ho.1
  have ho2 := ho.2.1
  have ho3 := ho.2.2
  refine lv_aload_n S.1 S.2.1 dX5_also_0 rfl (lv_at hl 0 rfl) ?_
  refine w_geti S hW in_X5 0 rfl rfl 8 (by decide) q1659 rfl rfl dX5_also_1 ?_
  refine r_if_ne S (tgt := 48) dX5_also_4 rfl (by omega) (fun c_4 => ?_) (fun c_4 => ?_)
  ·
    exact e_vS S hr hlk hW ⟨rfl, ⟨(by unfold eNote; rw [if_pos (by omega)]; exact he), (sameA_rf), (same_rf)⟩⟩ dX5_also_48
  ·
    refine lv_aload_n S.1 S.2.1 dX5_also_7 rfl (lv_at hl 0 rfl) ?_
    refine w_getr S hW in_X5 0 rfl rfl 0 (by decide) q1651 rfl rfl dX5_also_8 ?_
    refine r_iconst S dX5_also_11 ?_
    refine w_ald S hW 1 0 rfl rfl (by omega) dX5_also_12 ?_
    refine r_if_eq S (tgt := 49) dX5_also_13 rfl (by omega) (fun c_13 => ?_) (fun c_13 => ?_)
    ·
      refine lv_aload_n S.1 S.2.1 dX5_also_49 rfl (lv_at hl 0 rfl) ?_
      refine w_getr S hW in_X5 0 rfl rfl 0 (by decide) q1651 rfl rfl dX5_also_50 ?_
      refine r_iconst S dX5_also_53 ?_
      refine lv_iload_n S.1 S.2.1 dX5_also_54 rfl (lv_at hl 1 rfl) ?_
      refine w_ast S hW 1 0 rfl rfl rfl (z := kind) (by omega) dX5_also_55 (fun H locs hW => ?_)
      refine lv_aload_n S.1 S.2.1 dX5_also_56 rfl (lv_at hl 0 rfl) ?_
      refine w_getr S hW in_X5 0 rfl rfl 0 (by decide) q1651 rfl rfl dX5_also_57 ?_
      refine r_bipush S dX5_also_60 (by decide) ?_
      refine lv_iload_n S.1 S.2.1 dX5_also_62 rfl (lv_at hl 2 rfl) ?_
      refine w_ast S hW 1 0 rfl rfl rfl (z := at_) (by omega) dX5_also_63 (fun H locs hW => ?_)
      exact e_vS S hr hlk hW ⟨rfl, ⟨(by unfold eNote; rw [if_neg (by omega)]; exact ⟨by simp [up]; exact h8, by simp [up], by simp [up]⟩), (fun j j5 j6 => by simp [up, j5, j6]), (same_up (same_up same_rf (by decide)) (by decide))⟩⟩ dX5_also_64
    ·
      refine lv_aload_n S.1 S.2.1 dX5_also_16 rfl (lv_at hl 0 rfl) ?_
      refine w_getr S hW in_X5 0 rfl rfl 0 (by decide) q1651 rfl rfl dX5_also_17 ?_
      refine r_bipush S dX5_also_20 (by decide) ?_
      refine w_ald S hW 1 0 rfl rfl (by omega) dX5_also_22 ?_
      refine lv_iload_n S.1 S.2.1 dX5_also_23 rfl (lv_at hl 2 rfl) ?_
      refine r_icmp_lt S (tgt := 48) dX5_also_24 rfl (by omega) (fun c_24 => ?_) (fun c_24 => ?_)
      ·
        exact e_vS S hr hlk hW ⟨rfl, ⟨(by unfold eNote; rw [if_pos (by omega)]; exact he), (sameA_rf), (same_rf)⟩⟩ dX5_also_48
      ·
        refine lv_aload_n S.1 S.2.1 dX5_also_27 rfl (lv_at hl 0 rfl) ?_
        refine w_getr S hW in_X5 0 rfl rfl 0 (by decide) q1651 rfl rfl dX5_also_28 ?_
        refine r_bipush S dX5_also_31 (by decide) ?_
        refine w_ald S hW 1 0 rfl rfl (by omega) dX5_also_33 ?_
        refine lv_iload_n S.1 S.2.1 dX5_also_34 rfl (lv_at hl 2 rfl) ?_
        refine r_icmp_ne S (tgt := 49) dX5_also_35 rfl (by omega) (fun c_35 => ?_) (fun c_35 => ?_)
        ·
          refine lv_aload_n S.1 S.2.1 dX5_also_49 rfl (lv_at hl 0 rfl) ?_
          refine w_getr S hW in_X5 0 rfl rfl 0 (by decide) q1651 rfl rfl dX5_also_50 ?_
          refine r_iconst S dX5_also_53 ?_
          refine lv_iload_n S.1 S.2.1 dX5_also_54 rfl (lv_at hl 1 rfl) ?_
          refine w_ast S hW 1 0 rfl rfl rfl (z := kind) (by omega) dX5_also_55 (fun H locs hW => ?_)
          refine lv_aload_n S.1 S.2.1 dX5_also_56 rfl (lv_at hl 0 rfl) ?_
          refine w_getr S hW in_X5 0 rfl rfl 0 (by decide) q1651 rfl rfl dX5_also_57 ?_
          refine r_bipush S dX5_also_60 (by decide) ?_
          refine lv_iload_n S.1 S.2.1 dX5_also_62 rfl (lv_at hl 2 rfl) ?_
          refine w_ast S hW 1 0 rfl rfl rfl (z := at_) (by omega) dX5_also_63 (fun H locs hW => ?_)
          exact e_vS S hr hlk hW ⟨rfl, ⟨(by unfold eNote; rw [if_neg (by omega)]; exact ⟨by simp [up]; exact h8, by simp [up], by simp [up]⟩), (fun j j5 j6 => by simp [up, j5, j6]), (same_up (same_up same_rf (by decide)) (by decide))⟩⟩ dX5_also_64
        ·
          refine lv_aload_n S.1 S.2.1 dX5_also_38 rfl (lv_at hl 0 rfl) ?_
          refine w_getr S hW in_X5 0 rfl rfl 0 (by decide) q1651 rfl rfl dX5_also_39 ?_
          refine r_iconst S dX5_also_42 ?_
          refine w_ald S hW 1 0 rfl rfl (by omega) dX5_also_43 ?_
          refine lv_iload_n S.1 S.2.1 dX5_also_44 rfl (lv_at hl 1 rfl) ?_
          refine r_icmp_gt S (tgt := 49) dX5_also_45 rfl (by omega) (fun c_45 => ?_) (fun c_45 => ?_)
          ·
            refine lv_aload_n S.1 S.2.1 dX5_also_49 rfl (lv_at hl 0 rfl) ?_
            refine w_getr S hW in_X5 0 rfl rfl 0 (by decide) q1651 rfl rfl dX5_also_50 ?_
            refine r_iconst S dX5_also_53 ?_
            refine lv_iload_n S.1 S.2.1 dX5_also_54 rfl (lv_at hl 1 rfl) ?_
            refine w_ast S hW 1 0 rfl rfl rfl (z := kind) (by omega) dX5_also_55 (fun H locs hW => ?_)
            refine lv_aload_n S.1 S.2.1 dX5_also_56 rfl (lv_at hl 0 rfl) ?_
            refine w_getr S hW in_X5 0 rfl rfl 0 (by decide) q1651 rfl rfl dX5_also_57 ?_
            refine r_bipush S dX5_also_60 (by decide) ?_
            refine lv_iload_n S.1 S.2.1 dX5_also_62 rfl (lv_at hl 2 rfl) ?_
            refine w_ast S hW 1 0 rfl rfl rfl (z := at_) (by omega) dX5_also_63 (fun H locs hW => ?_)
            exact e_vS S hr hlk hW ⟨rfl, ⟨(by unfold eNote; rw [if_neg (by omega)]; exact ⟨by simp [up]; exact h8, by simp [up], by simp [up]⟩), (fun j j5 j6 => by simp [up, j5, j6]), (same_up (same_up same_rf (by decide)) (by decide))⟩⟩ dX5_also_64
          ·
            exact e_vS S hr hlk hW ⟨rfl, ⟨(by unfold eNote; rw [if_pos (by omega)]; exact he), (sameA_rf), (same_rf)⟩⟩ dX5_also_48
theorem hd_X5_advance : yX5_advance.cls = RX5 ∧ yX5_advance.cls ≠ "java/lang/invoke/MethodHandle" ∧ yX5_advance.cls ≠ "java/lang/invoke/VarHandle" ∧ (parseMethodDescriptor yX5_advance.desc).map (fun d => d.parameters.length) = some 0 := by decide +kernel
theorem cw_X5_153 {R : Room} {s : State} {args : Array Value} (ht : ∀ w ∈ lw_all, w.before args s = true) (hR : 4 + 1 ≤ R.frames ∧ 8 + (4 + 11) + 92 ≤ R.locals) : CallW R s args "OneDrumModel" RX5 153 yX5_advance cX5_advance 4 none (ws_ yX5_advance cX5_advance 4 none) ⟨4, 0, 0, 92⟩ 0 0 0 := cwV 0 ht (lw_V q1789 q1791 qs52 q126 q1792) rfl rfl rfl hd_X5_advance hR
theorem hd_X5_also : yX5_also.cls = RX5 ∧ yX5_also.cls ≠ "java/lang/invoke/MethodHandle" ∧ yX5_also.cls ≠ "java/lang/invoke/VarHandle" ∧ (parseMethodDescriptor yX5_also.desc).map (fun d => d.parameters.length) = some 2 := by decide +kernel
theorem cw_X5_149 {R : Room} {s : State} {args : Array Value} (ht : ∀ w ∈ lw_all, w.before args s = true) (hR : 0 + 1 ≤ R.frames ∧ 8 + (3 + 11) + 0 ≤ R.locals) : CallW R s args "OneDrumModel" RX5 149 yX5_also cX5_also 3 none (ws_ yX5_also cX5_also 3 none) ⟨0, 0, 0, 0⟩ 0 0 2 := cwV 2 ht (lw_V q1842 q1844 qs60 q126 q1845) rfl rfl rfl hd_X5_also hR
theorem hd_X5_ends : yX5_ends.cls = RX5 ∧ yX5_ends.cls ≠ "java/lang/invoke/MethodHandle" ∧ yX5_ends.cls ≠ "java/lang/invoke/VarHandle" ∧ (parseMethodDescriptor yX5_ends.desc).map (fun d => d.parameters.length) = some 0 := by decide +kernel
theorem cw_X5_142 {R : Room} {s : State} {args : Array Value} (ht : ∀ w ∈ lw_all, w.before args s = true) (hR : 0 + 1 ≤ R.frames ∧ 8 + (1 + 11) + 0 ≤ R.locals) : CallW R s args "OneDrumModel" RX5 142 yX5_ends cX5_ends 1 none (ws_ yX5_ends cX5_ends 1 none) ⟨0, 0, 0, 0⟩ 0 0 0 := cwV 0 ht (lw_V q1830 q1832 qs57 q126 q1833) rfl rfl rfl hd_X5_ends hR
set_option maxHeartbeats 4000000 in
theorem tX5_numbered (l : Launch) (G : GG) (ad : Nat → Nat) (σ : St) (lo : Int) (hi : Int) (t : Int → Int) (n : Int) (p_ : Int) (e_ : ER) (hm : MS σ t n p_ e_) (hl : 0 ≤ lo ∧ lo ≤ hi ∧ hi ≤ 99) : Met l yX5_numbered (ws_ yX5_numbered cX5_numbered 4 (some .int)) ⟨5, 0, 0, 115⟩ (wPre G shM ad σ (fun _ => True) [.ref (ad 0), .int (iI lo), .int (iI hi)]) (qS G shM ad (aM ad) (rI (fun r σ' => (r = nmV t n p_ e_ lo hi) ∧ (MS σ' t n (nmP t n p_ e_) (nmE t n p_ e_ lo hi)) ∧ (sameA σ σ') ∧ (same [0, 3, 4, 5, 6, 7, 8] σ σ')))) 0 0 (aM ad) := by
  refine wStart (by decide) (Nat.le_of_ble_eq_true rfl) (fun k hk => ⟨k, hk, rfl⟩) (fun p e s m below meth c S hr hlk _ _ ls hW hl => ?_)
  have hl : lv_has ls 4 [(0, .ref (ad 0)), (1, .int (iI lo)), (2, .int (iI hi))] := hl
  have hg := MS_rng hm
  have hp0 := hm.2.2.1
  have h8 : σ 8 0 = e_.1 := hm.2.2.2.1.1
  have h5 : σ 5 0 = mK (tkK t n p_) := hm.2.1.2.2.1
  have h4 : σ 4 0 = tkW t n p_ := hm.2.1.2.1
  have h3 : σ 3 0 = tkN t n p_ := hm.2.1.1
  have ho1 := hm.2.2.2.2.1
  have hmk : (0 ≤ mK (tkK t n p_) ∧ mK (tkK t n p_) ≤ 4) ∧ (mK (tkK t n p_) = 1 ↔ tkK t n p_ = 1) ∧ (mK (tkK t n p_) = 3 ↔ tkK t n p_ = 3) ∧ (mK (tkK t n p_) = 2 ↔ tkK t n p_ = 2) ∧ (mK (tkK t n p_) = 0 ↔ tkK t n p_ = 0) := by unfold mK; split <;> omega
  refine lv_aload_n S.1 S.2.1 dX5_numbered_0 rfl (lv_at hl 0 rfl) ?_
  refine w_geti S hW in_X5 0 rfl rfl 8 (by decide) q1659 rfl rfl dX5_numbered_1 ?_
  refine r_if_ne S (tgt := 15) dX5_numbered_4 rfl (by omega) (fun c_4 => ?_) (fun c_4 => ?_)
  ·
    refine lv_aload_n S.1 S.2.1 dX5_numbered_15 rfl (lv_at hl 0 rfl) ?_
    refine c_VSv S hW (tX5_ends l G ad σ e_ (hm.2.2.2.1) (hm.2.2.2.2)) (cw_X5_142 S.2.2.2.2 ⟨Nat.le_of_ble_eq_true rfl, Nat.le_of_ble_eq_true rfl⟩) eBlind_T (fun _ _ _ => trivial) (w_recv hW (q0 := 0) rfl rfl) rfl hl.1 (rest := []) rfl (Nat.le_of_ble_eq_true rfl) dX5_numbered_16 ⟨Nat.le_of_ble_eq_true rfl, Nat.le_of_ble_eq_true rfl⟩ (fun σ16 H locs q16 hW => ?_)
    obtain ⟨q16_e, q16_a, q16_sm⟩ := q16
    rw [h4] at q16_e
    have hnf : nmF t n p_ e_ := by unfold nmF; omega
    refine lv_iload_n S.1 S.2.1 dX5_numbered_19 rfl (lv_at hl 1 rfl) ?_
    exact e_iS S hr hlk hW ⟨lo, rfl, ⟨(by unfold nmV; rw [if_pos (dP_t.mpr hnf)]), (by unfold nmP nmE; rw [if_pos (dP_t.mpr hnf), if_pos (dP_t.mpr hnf)]; exact ⟨Tap_A hm.1 (q16_sm 2 (by decide)) q16_a, Cur_eq hm.2.1 (q16_sm 3 (by decide)) (q16_sm 4 (by decide)) (q16_sm 5 (by decide)) (q16_sm 6 (by decide)) (q16_sm 7 (by decide)), hm.2.2.1, q16_e, eEnd_ok hm.2.2.2.2 (by omega)⟩), (q16_a), (same_w q16_sm (by decide))⟩⟩ dX5_numbered_20
  ·
    refine lv_aload_n S.1 S.2.1 dX5_numbered_7 rfl (lv_at hl 0 rfl) ?_
    refine w_geti S hW in_X5 0 rfl rfl 5 (by decide) q1656 rfl rfl dX5_numbered_8 ?_
    refine r_iconst S dX5_numbered_11 ?_
    refine r_icmp_eq S (tgt := 21) dX5_numbered_12 rfl (by omega) (fun c_12 => ?_) (fun c_12 => ?_)
    ·
      have h6 : σ 6 0 = tkV t n p_ := hm.2.1.2.2.2.1 (by omega)
      have hnf : ¬ nmF t n p_ e_ := by unfold nmF; omega
      refine lv_aload_n S.1 S.2.1 dX5_numbered_21 rfl (lv_at hl 0 rfl) ?_
      refine w_geti S hW in_X5 0 rfl rfl 6 (by decide) q1657 rfl rfl dX5_numbered_22 ?_
      refine lv_istore_n (lv' := [(3, .int (iI (σ 6 0))), (0, .ref (ad 0)), (1, .int (iI lo)), (2, .int (iI hi))]) S.1 S.2.1 dX5_numbered_25 rfl hl (by decide) rfl (fun ls hl => ?_)
      refine lv_iload_n S.1 S.2.1 dX5_numbered_26 rfl (lv_at hl 0 rfl) ?_
      refine lv_iload_n S.1 S.2.1 dX5_numbered_27 rfl (lv_at hl 2 rfl) ?_
      refine lv_iload_n S.1 S.2.1 dX5_numbered_28 rfl (lv_at hl 3 rfl) ?_
      refine c_SPw S hW (tX5_isIn l (σ 6 0) lo hi (by omega)) (cw_X5_145 S.2.2.2.2 ⟨Nat.le_of_ble_eq_true rfl, Nat.le_of_ble_eq_true rfl⟩) rfl hl.1 (rest := []) rfl (Nat.le_of_ble_eq_true rfl) dX5_numbered_29 ⟨Nat.le_of_ble_eq_true rfl, Nat.le_of_ble_eq_true rfl⟩ (fun locs hW => ?_)
      refine r_ifne_p S (tgt := 44) dX5_numbered_32 rfl (fun c_32 => ?_) (fun c_32 => ?_)
      ·
        refine lv_aload_n S.1 S.2.1 dX5_numbered_44 rfl (lv_at hl 1 rfl) ?_
        refine c_VSv S hW (tX5_advance l G ad σ t n (tkN t n p_) (by first | exact Tap_A hm.1 (q41_sm 2 (by decide)) q41_a | exact hm.1) (by first | (rw [q41_sm 3 (by decide)]; exact ⟨h3, by omega, by omega⟩) | exact ⟨h3, by omega, by omega⟩)) (cw_X5_153 S.2.2.2.2 ⟨Nat.le_of_ble_eq_true rfl, Nat.le_of_ble_eq_true rfl⟩) eBlind_T (fun _ _ _ => trivial) (w_recv hW (q0 := 0) rfl rfl) rfl hl.1 (rest := []) rfl (Nat.le_of_ble_eq_true rfl) dX5_numbered_45 ⟨Nat.le_of_ble_eq_true rfl, Nat.le_of_ble_eq_true rfl⟩ (fun σ45 H locs q45 hW => ?_)
        obtain ⟨q45_cur, q45_sm⟩ := q45
        refine lv_iload_n S.1 S.2.1 dX5_numbered_48 rfl (lv_at hl 0 rfl) ?_
        refine lv_iload_n S.1 S.2.1 dX5_numbered_49 rfl (lv_at hl 2 rfl) ?_
        refine lv_iload_n S.1 S.2.1 dX5_numbered_50 rfl (lv_at hl 3 rfl) ?_
        refine c_SPw S hW (tX5_isIn l (σ 6 0) lo hi (by omega)) (cw_X5_145 S.2.2.2.2 ⟨Nat.le_of_ble_eq_true rfl, Nat.le_of_ble_eq_true rfl⟩) rfl hl.1 (rest := []) rfl (Nat.le_of_ble_eq_true rfl) dX5_numbered_51 ⟨Nat.le_of_ble_eq_true rfl, Nat.le_of_ble_eq_true rfl⟩ (fun locs hW => ?_)
        refine r_ifeq_p S (tgt := 61) dX5_numbered_54 rfl (fun c_54 => ?_) (fun c_54 => ?_)
        ·
          refine lv_iload_n S.1 S.2.1 dX5_numbered_61 rfl (lv_at hl 2 rfl) ?_
          exact e_iS S hr hlk hW ⟨lo, rfl, ⟨(by unfold nmV; rw [if_neg (fun z => hnf (dP_t.mp z)), ← h6]; first | rw [if_pos c_54] | rw [if_neg c_54]), (by unfold nmP nmE; rw [if_neg (fun z => hnf (dP_t.mp z)), if_neg (fun z => hnf (dP_t.mp z))]; first | (rw [if_neg i41]; exact ⟨Tap_A (Tap_A hm.1 (q41_sm 2 (by decide)) q41_a) (q45_sm 2 (by decide)) (sameA_eq (q45_sm 0 (by decide))), q45_cur, by omega, by unfold Er; rw [q45_sm 8 (by decide), q45_sm 0 (by decide)]; exact q41_e, eNote_ok hm.2.2.2.2 (by omega) (by omega)⟩) | (rw [if_pos (by rw [← h6]; exact c_32)]; exact ⟨Tap_A hm.1 (q45_sm 2 (by decide)) (sameA_eq (q45_sm 0 (by decide))), q45_cur, by omega, by unfold Er; rw [q45_sm 8 (by decide), q45_sm 0 (by decide)]; exact hm.2.2.2.1, hm.2.2.2.2⟩)), (by first | exact sameA_tr q41_a (sameA_eq (q45_sm 0 (by decide))) | exact sameA_eq (q45_sm 0 (by decide))), (by first | exact same_tr (same_w q41_sm (by decide)) q45_sm (by decide) | exact same_w q45_sm (by decide))⟩⟩ dX5_numbered_62
        ·
          refine lv_iload_n S.1 S.2.1 dX5_numbered_57 rfl (lv_at hl 0 rfl) ?_
          refine lv_goto (tgt := 62) S.1 S.2.1 dX5_numbered_58 rfl ?_
          exact e_iS S hr hlk hW ⟨(σ 6 0), rfl, ⟨(by unfold nmV; rw [if_neg (fun z => hnf (dP_t.mp z)), ← h6]; first | rw [if_pos c_54] | rw [if_neg c_54]), (by unfold nmP nmE; rw [if_neg (fun z => hnf (dP_t.mp z)), if_neg (fun z => hnf (dP_t.mp z))]; first | (rw [if_neg i41]; exact ⟨Tap_A (Tap_A hm.1 (q41_sm 2 (by decide)) q41_a) (q45_sm 2 (by decide)) (sameA_eq (q45_sm 0 (by decide))), q45_cur, by omega, by unfold Er; rw [q45_sm 8 (by decide), q45_sm 0 (by decide)]; exact q41_e, eNote_ok hm.2.2.2.2 (by omega) (by omega)⟩) | (rw [if_pos (by rw [← h6]; exact c_32)]; exact ⟨Tap_A hm.1 (q45_sm 2 (by decide)) (sameA_eq (q45_sm 0 (by decide))), q45_cur, by omega, by unfold Er; rw [q45_sm 8 (by decide), q45_sm 0 (by decide)]; exact hm.2.2.2.1, hm.2.2.2.2⟩)), (by first | exact sameA_tr q41_a (sameA_eq (q45_sm 0 (by decide))) | exact sameA_eq (q45_sm 0 (by decide))), (by first | exact same_tr (same_w q41_sm (by decide)) q45_sm (by decide) | exact same_w q45_sm (by decide))⟩⟩ dX5_numbered_62
      ·
        refine lv_aload_n S.1 S.2.1 dX5_numbered_35 rfl (lv_at hl 1 rfl) ?_
        refine r_iconst S dX5_numbered_36 ?_
        refine lv_aload_n S.1 S.2.1 dX5_numbered_37 rfl (lv_at hl 1 rfl) ?_
        refine w_geti S hW in_X5 0 rfl rfl 4 (by decide) q1655 rfl rfl dX5_numbered_38 ?_
        refine c_VSv S hW (tX5_also l G ad σ 2 (σ 4 0) e_ (hm.2.2.2.1) (hm.2.2.2.2) (by omega)) (cw_X5_149 S.2.2.2.2 ⟨Nat.le_of_ble_eq_true rfl, Nat.le_of_ble_eq_true rfl⟩) eBlind_T (fun _ _ _ => trivial) (w_recv hW (q0 := 0) rfl rfl) rfl hl.1 (rest := []) rfl (Nat.le_of_ble_eq_true rfl) dX5_numbered_41 ⟨Nat.le_of_ble_eq_true rfl, Nat.le_of_ble_eq_true rfl⟩ (fun σ41 H locs q41 hW => ?_)
        obtain ⟨q41_e, q41_a, q41_sm⟩ := q41
        rw [h4] at q41_e
        have i41 : ¬ (lo ≤ tkV t n p_ ∧ tkV t n p_ ≤ hi) := by rw [h6] at c_32; exact c_32
        refine lv_aload_n S.1 S.2.1 dX5_numbered_44 rfl (lv_at hl 1 rfl) ?_
        refine c_VSv S hW (tX5_advance l G ad σ41 t n (tkN t n p_) (by first | exact Tap_A hm.1 (q41_sm 2 (by decide)) q41_a | exact hm.1) (by first | (rw [q41_sm 3 (by decide)]; exact ⟨h3, by omega, by omega⟩) | exact ⟨h3, by omega, by omega⟩)) (cw_X5_153 S.2.2.2.2 ⟨Nat.le_of_ble_eq_true rfl, Nat.le_of_ble_eq_true rfl⟩) eBlind_T (fun _ _ _ => trivial) (w_recv hW (q0 := 0) rfl rfl) rfl hl.1 (rest := []) rfl (Nat.le_of_ble_eq_true rfl) dX5_numbered_45 ⟨Nat.le_of_ble_eq_true rfl, Nat.le_of_ble_eq_true rfl⟩ (fun σ45 H locs q45 hW => ?_)
        obtain ⟨q45_cur, q45_sm⟩ := q45
        refine lv_iload_n S.1 S.2.1 dX5_numbered_48 rfl (lv_at hl 0 rfl) ?_
        refine lv_iload_n S.1 S.2.1 dX5_numbered_49 rfl (lv_at hl 2 rfl) ?_
        refine lv_iload_n S.1 S.2.1 dX5_numbered_50 rfl (lv_at hl 3 rfl) ?_
        refine c_SPw S hW (tX5_isIn l (σ 6 0) lo hi (by omega)) (cw_X5_145 S.2.2.2.2 ⟨Nat.le_of_ble_eq_true rfl, Nat.le_of_ble_eq_true rfl⟩) rfl hl.1 (rest := []) rfl (Nat.le_of_ble_eq_true rfl) dX5_numbered_51 ⟨Nat.le_of_ble_eq_true rfl, Nat.le_of_ble_eq_true rfl⟩ (fun locs hW => ?_)
        refine r_ifeq_p S (tgt := 61) dX5_numbered_54 rfl (fun c_54 => ?_) (fun c_54 => ?_)
        ·
          refine lv_iload_n S.1 S.2.1 dX5_numbered_61 rfl (lv_at hl 2 rfl) ?_
          exact e_iS S hr hlk hW ⟨lo, rfl, ⟨(by unfold nmV; rw [if_neg (fun z => hnf (dP_t.mp z)), ← h6]; first | rw [if_pos c_54] | rw [if_neg c_54]), (by unfold nmP nmE; rw [if_neg (fun z => hnf (dP_t.mp z)), if_neg (fun z => hnf (dP_t.mp z))]; first | (rw [if_neg i41]; exact ⟨Tap_A (Tap_A hm.1 (q41_sm 2 (by decide)) q41_a) (q45_sm 2 (by decide)) (sameA_eq (q45_sm 0 (by decide))), q45_cur, by omega, by unfold Er; rw [q45_sm 8 (by decide), q45_sm 0 (by decide)]; exact q41_e, eNote_ok hm.2.2.2.2 (by omega) (by omega)⟩) | (rw [if_pos (by rw [← h6]; exact c_32)]; exact ⟨Tap_A hm.1 (q45_sm 2 (by decide)) (sameA_eq (q45_sm 0 (by decide))), q45_cur, by omega, by unfold Er; rw [q45_sm 8 (by decide), q45_sm 0 (by decide)]; exact hm.2.2.2.1, hm.2.2.2.2⟩)), (by first | exact sameA_tr q41_a (sameA_eq (q45_sm 0 (by decide))) | exact sameA_eq (q45_sm 0 (by decide))), (by first | exact same_tr (same_w q41_sm (by decide)) q45_sm (by decide) | exact same_w q45_sm (by decide))⟩⟩ dX5_numbered_62
        ·
          refine lv_iload_n S.1 S.2.1 dX5_numbered_57 rfl (lv_at hl 0 rfl) ?_
          refine lv_goto (tgt := 62) S.1 S.2.1 dX5_numbered_58 rfl ?_
          exact e_iS S hr hlk hW ⟨(σ 6 0), rfl, ⟨(by unfold nmV; rw [if_neg (fun z => hnf (dP_t.mp z)), ← h6]; first | rw [if_pos c_54] | rw [if_neg c_54]), (by unfold nmP nmE; rw [if_neg (fun z => hnf (dP_t.mp z)), if_neg (fun z => hnf (dP_t.mp z))]; first | (rw [if_neg i41]; exact ⟨Tap_A (Tap_A hm.1 (q41_sm 2 (by decide)) q41_a) (q45_sm 2 (by decide)) (sameA_eq (q45_sm 0 (by decide))), q45_cur, by omega, by unfold Er; rw [q45_sm 8 (by decide), q45_sm 0 (by decide)]; exact q41_e, eNote_ok hm.2.2.2.2 (by omega) (by omega)⟩) | (rw [if_pos (by rw [← h6]; exact c_32)]; exact ⟨Tap_A hm.1 (q45_sm 2 (by decide)) (sameA_eq (q45_sm 0 (by decide))), q45_cur, by omega, by unfold Er; rw [q45_sm 8 (by decide), q45_sm 0 (by decide)]; exact hm.2.2.2.1, hm.2.2.2.2⟩)), (by first | exact sameA_tr q41_a (sameA_eq (q45_sm 0 (by decide))) | exact sameA_eq (q45_sm 0 (by decide))), (by first | exact same_tr (same_w q41_sm (by decide)) q45_sm (by decide) | exact same_w q45_sm (by decide))⟩⟩ dX5_numbered_62
    ·
      refine lv_aload_n S.1 S.2.1 dX5_numbered_15 rfl (lv_at hl 0 rfl) ?_
      refine c_VSv S hW (tX5_ends l G ad σ e_ (hm.2.2.2.1) (hm.2.2.2.2)) (cw_X5_142 S.2.2.2.2 ⟨Nat.le_of_ble_eq_true rfl, Nat.le_of_ble_eq_true rfl⟩) eBlind_T (fun _ _ _ => trivial) (w_recv hW (q0 := 0) rfl rfl) rfl hl.1 (rest := []) rfl (Nat.le_of_ble_eq_true rfl) dX5_numbered_16 ⟨Nat.le_of_ble_eq_true rfl, Nat.le_of_ble_eq_true rfl⟩ (fun σ16 H locs q16 hW => ?_)
      obtain ⟨q16_e, q16_a, q16_sm⟩ := q16
      rw [h4] at q16_e
      have hnf : nmF t n p_ e_ := by unfold nmF; omega
      refine lv_iload_n S.1 S.2.1 dX5_numbered_19 rfl (lv_at hl 1 rfl) ?_
      exact e_iS S hr hlk hW ⟨lo, rfl, ⟨(by unfold nmV; rw [if_pos (dP_t.mpr hnf)]), (by unfold nmP nmE; rw [if_pos (dP_t.mpr hnf), if_pos (dP_t.mpr hnf)]; exact ⟨Tap_A hm.1 (q16_sm 2 (by decide)) q16_a, Cur_eq hm.2.1 (q16_sm 3 (by decide)) (q16_sm 4 (by decide)) (q16_sm 5 (by decide)) (q16_sm 6 (by decide)) (q16_sm 7 (by decide)), hm.2.2.1, q16_e, eEnd_ok hm.2.2.2.2 (by omega)⟩), (q16_a), (same_w q16_sm (by decide))⟩⟩ dX5_numbered_20
set_option maxHeartbeats 4000000 in
theorem tX5_takes (l : Launch) (G : GG) (ad : Nat → Nat) (σ : St) (lo : Int) (hi : Int) (t : Int → Int) (n : Int) (p_ : Int) (e_ : ER) (hm : MS σ t n p_ e_) (hl : 0 ≤ lo ∧ lo ≤ hi ∧ hi ≤ 24) : Met l yX5_takes (ws_ yX5_takes cX5_takes 4 (some .int)) ⟨5, 0, 0, 115⟩ (wPre G shM ad σ (fun _ => True) [.ref (ad 0), .int (iI lo), .int (iI hi)]) (qS G shM ad (aM ad) (rI (fun r σ' => (r = tkVl t n p_ e_ lo hi) ∧ (MS σ' t n (tkP t n p_ e_ lo hi) (tkE t n p_ e_ lo hi)) ∧ (sameA σ σ') ∧ (same [0, 3, 4, 5, 6, 7, 8] σ σ')))) 0 0 (aM ad) := by
  refine wStart (by decide) (Nat.le_of_ble_eq_true rfl) (fun k hk => ⟨k, hk, rfl⟩) (fun p e s m below meth c S hr hlk _ _ ls hW hl => ?_)
  have hl : lv_has ls 4 [(0, .ref (ad 0)), (1, .int (iI lo)), (2, .int (iI hi))] := hl
  have hg := MS_rng hm
  have hp0 := hm.2.2.1
  have h8 : σ 8 0 = e_.1 := hm.2.2.2.1.1
  have h5 : σ 5 0 = mK (tkK t n p_) := hm.2.1.2.2.1
  have h4 : σ 4 0 = tkW t n p_ := hm.2.1.2.1
  have h3 : σ 3 0 = tkN t n p_ := hm.2.1.1
  have ho1 := hm.2.2.2.2.1
  have hmk : (0 ≤ mK (tkK t n p_) ∧ mK (tkK t n p_) ≤ 4) ∧ (mK (tkK t n p_) = 1 ↔ tkK t n p_ = 1) ∧ (mK (tkK t n p_) = 3 ↔ tkK t n p_ = 3) ∧ (mK (tkK t n p_) = 2 ↔ tkK t n p_ = 2) ∧ (mK (tkK t n p_) = 0 ↔ tkK t n p_ = 0) := by unfold mK; split <;> omega
  refine lv_aload_n S.1 S.2.1 dX5_takes_0 rfl (lv_at hl 0 rfl) ?_
  refine w_geti S hW in_X5 0 rfl rfl 8 (by decide) q1659 rfl rfl dX5_takes_1 ?_
  refine r_if_ne S (tgt := 27) dX5_takes_4 rfl (by omega) (fun c_4 => ?_) (fun c_4 => ?_)
  ·
    refine lv_aload_n S.1 S.2.1 dX5_takes_27 rfl (lv_at hl 0 rfl) ?_
    refine c_VSv S hW (tX5_ends l G ad σ e_ (hm.2.2.2.1) (hm.2.2.2.2)) (cw_X5_142 S.2.2.2.2 ⟨Nat.le_of_ble_eq_true rfl, Nat.le_of_ble_eq_true rfl⟩) eBlind_T (fun _ _ _ => trivial) (w_recv hW (q0 := 0) rfl rfl) rfl hl.1 (rest := []) rfl (Nat.le_of_ble_eq_true rfl) dX5_takes_28 ⟨Nat.le_of_ble_eq_true rfl, Nat.le_of_ble_eq_true rfl⟩ (fun σ28 H locs q28 hW => ?_)
    obtain ⟨q28_e, q28_a, q28_sm⟩ := q28
    rw [h4] at q28_e
    have hnc : ¬ isC t n p_ e_ lo hi := by unfold isC; first | omega | (rw [h7] at c_24; omega)
    refine r_iconst S dX5_takes_31 ?_
    exact e_iS S hr hlk hW ⟨0, rfl, ⟨(by unfold tkVl; rw [if_neg (fun z => hnc (dP_t.mp z))]), (by unfold tkP tkE; rw [if_neg (fun z => hnc (dP_t.mp z)), if_neg (fun z => hnc (dP_t.mp z))]; exact ⟨Tap_A hm.1 (q28_sm 2 (by decide)) q28_a, Cur_eq hm.2.1 (q28_sm 3 (by decide)) (q28_sm 4 (by decide)) (q28_sm 5 (by decide)) (q28_sm 6 (by decide)) (q28_sm 7 (by decide)), hm.2.2.1, q28_e, eEnd_ok hm.2.2.2.2 (by omega)⟩), (q28_a), (same_w q28_sm (by decide))⟩⟩ dX5_takes_32
  ·
    refine lv_aload_n S.1 S.2.1 dX5_takes_7 rfl (lv_at hl 0 rfl) ?_
    refine w_geti S hW in_X5 0 rfl rfl 5 (by decide) q1656 rfl rfl dX5_takes_8 ?_
    refine r_iconst S dX5_takes_11 ?_
    refine r_icmp_ne S (tgt := 27) dX5_takes_12 rfl (by omega) (fun c_12 => ?_) (fun c_12 => ?_)
    ·
      refine lv_aload_n S.1 S.2.1 dX5_takes_27 rfl (lv_at hl 0 rfl) ?_
      refine c_VSv S hW (tX5_ends l G ad σ e_ (hm.2.2.2.1) (hm.2.2.2.2)) (cw_X5_142 S.2.2.2.2 ⟨Nat.le_of_ble_eq_true rfl, Nat.le_of_ble_eq_true rfl⟩) eBlind_T (fun _ _ _ => trivial) (w_recv hW (q0 := 0) rfl rfl) rfl hl.1 (rest := []) rfl (Nat.le_of_ble_eq_true rfl) dX5_takes_28 ⟨Nat.le_of_ble_eq_true rfl, Nat.le_of_ble_eq_true rfl⟩ (fun σ28 H locs q28 hW => ?_)
      obtain ⟨q28_e, q28_a, q28_sm⟩ := q28
      rw [h4] at q28_e
      have hnc : ¬ isC t n p_ e_ lo hi := by unfold isC; first | omega | (rw [h7] at c_24; omega)
      refine r_iconst S dX5_takes_31 ?_
      exact e_iS S hr hlk hW ⟨0, rfl, ⟨(by unfold tkVl; rw [if_neg (fun z => hnc (dP_t.mp z))]), (by unfold tkP tkE; rw [if_neg (fun z => hnc (dP_t.mp z)), if_neg (fun z => hnc (dP_t.mp z))]; exact ⟨Tap_A hm.1 (q28_sm 2 (by decide)) q28_a, Cur_eq hm.2.1 (q28_sm 3 (by decide)) (q28_sm 4 (by decide)) (q28_sm 5 (by decide)) (q28_sm 6 (by decide)) (q28_sm 7 (by decide)), hm.2.2.1, q28_e, eEnd_ok hm.2.2.2.2 (by omega)⟩), (q28_a), (same_w q28_sm (by decide))⟩⟩ dX5_takes_32
    ·
      have h7 : σ 7 0 = tkC t n p_ := hm.2.1.2.2.2.2 (by omega)
      refine lv_aload_n S.1 S.2.1 dX5_takes_15 rfl (lv_at hl 0 rfl) ?_
      refine w_geti S hW in_X5 0 rfl rfl 7 (by decide) q1658 rfl rfl dX5_takes_16 ?_
      refine lv_iload_n S.1 S.2.1 dX5_takes_19 rfl (lv_at hl 1 rfl) ?_
      refine lv_iload_n S.1 S.2.1 dX5_takes_20 rfl (lv_at hl 2 rfl) ?_
      refine c_SPw S hW (tX5_isIn l (σ 7 0) lo hi (by omega)) (cw_X5_145 S.2.2.2.2 ⟨Nat.le_of_ble_eq_true rfl, Nat.le_of_ble_eq_true rfl⟩) rfl hl.1 (rest := []) rfl (Nat.le_of_ble_eq_true rfl) dX5_takes_21 ⟨Nat.le_of_ble_eq_true rfl, Nat.le_of_ble_eq_true rfl⟩ (fun locs hW => ?_)
      refine r_ifne_p S (tgt := 33) dX5_takes_24 rfl (fun c_24 => ?_) (fun c_24 => ?_)
      ·
        have hc : isC t n p_ e_ lo hi := by unfold isC; rw [h7] at c_24; omega
        refine lv_aload_n S.1 S.2.1 dX5_takes_33 rfl (lv_at hl 0 rfl) ?_
        refine w_geti S hW in_X5 0 rfl rfl 7 (by decide) q1658 rfl rfl dX5_takes_34 ?_
        refine lv_istore_n (lv' := [(3, .int (iI (σ 7 0))), (0, .ref (ad 0)), (1, .int (iI lo)), (2, .int (iI hi))]) S.1 S.2.1 dX5_takes_37 rfl hl (by decide) rfl (fun ls hl => ?_)
        refine lv_aload_n S.1 S.2.1 dX5_takes_38 rfl (lv_at hl 1 rfl) ?_
        refine c_VSv S hW (tX5_advance l G ad σ t n (tkN t n p_) (hm.1) (⟨h3, by omega, by omega⟩)) (cw_X5_153 S.2.2.2.2 ⟨Nat.le_of_ble_eq_true rfl, Nat.le_of_ble_eq_true rfl⟩) eBlind_T (fun _ _ _ => trivial) (w_recv hW (q0 := 0) rfl rfl) rfl hl.1 (rest := []) rfl (Nat.le_of_ble_eq_true rfl) dX5_takes_39 ⟨Nat.le_of_ble_eq_true rfl, Nat.le_of_ble_eq_true rfl⟩ (fun σ39 H locs q39 hW => ?_)
        obtain ⟨q39_cur, q39_sm⟩ := q39
        refine lv_iload_n S.1 S.2.1 dX5_takes_42 rfl (lv_at hl 0 rfl) ?_
        exact e_iS S hr hlk hW ⟨(σ 7 0), rfl, ⟨(by unfold tkVl; rw [if_pos (dP_t.mpr hc)]; exact h7), (by unfold tkP tkE; rw [if_pos (dP_t.mpr hc), if_pos (dP_t.mpr hc)]; exact ⟨Tap_A hm.1 (q39_sm 2 (by decide)) (sameA_eq (q39_sm 0 (by decide))), q39_cur, by omega, by unfold Er; rw [q39_sm 8 (by decide), q39_sm 0 (by decide)]; exact hm.2.2.2.1, hm.2.2.2.2⟩), (sameA_eq (q39_sm 0 (by decide))), (same_w q39_sm (by decide))⟩⟩ dX5_takes_43
      ·
        refine lv_aload_n S.1 S.2.1 dX5_takes_27 rfl (lv_at hl 0 rfl) ?_
        refine c_VSv S hW (tX5_ends l G ad σ e_ (hm.2.2.2.1) (hm.2.2.2.2)) (cw_X5_142 S.2.2.2.2 ⟨Nat.le_of_ble_eq_true rfl, Nat.le_of_ble_eq_true rfl⟩) eBlind_T (fun _ _ _ => trivial) (w_recv hW (q0 := 0) rfl rfl) rfl hl.1 (rest := []) rfl (Nat.le_of_ble_eq_true rfl) dX5_takes_28 ⟨Nat.le_of_ble_eq_true rfl, Nat.le_of_ble_eq_true rfl⟩ (fun σ28 H locs q28 hW => ?_)
        obtain ⟨q28_e, q28_a, q28_sm⟩ := q28
        rw [h4] at q28_e
        have hnc : ¬ isC t n p_ e_ lo hi := by unfold isC; first | omega | (rw [h7] at c_24; omega)
        refine r_iconst S dX5_takes_31 ?_
        exact e_iS S hr hlk hW ⟨0, rfl, ⟨(by unfold tkVl; rw [if_neg (fun z => hnc (dP_t.mp z))]), (by unfold tkP tkE; rw [if_neg (fun z => hnc (dP_t.mp z)), if_neg (fun z => hnc (dP_t.mp z))]; exact ⟨Tap_A hm.1 (q28_sm 2 (by decide)) q28_a, Cur_eq hm.2.1 (q28_sm 3 (by decide)) (q28_sm 4 (by decide)) (q28_sm 5 (by decide)) (q28_sm 6 (by decide)) (q28_sm 7 (by decide)), hm.2.2.1, q28_e, eEnd_ok hm.2.2.2.2 (by omega)⟩), (q28_a), (same_w q28_sm (by decide))⟩⟩ dX5_takes_32
set_option maxHeartbeats 4000000 in
theorem tX5_endsLine (l : Launch) (G : GG) (ad : Nat → Nat) (σ : St) (t : Int → Int) (n : Int) (p_ : Int) (e_ : ER) (hm : MS σ t n p_ e_) : Met l yX5_endsLine (ws_ yX5_endsLine cX5_endsLine 1 none) ⟨5, 0, 0, 115⟩ (wPre G shM ad σ (fun _ => True) [.ref (ad 0)]) (qS G shM ad (aM ad) (rV (fun σ' => (MS σ' t n (elP t n p_ e_) (elE t n p_ e_)) ∧ (sameA σ σ') ∧ (same [0, 3, 4, 5, 6, 7, 8] σ σ')))) 0 0 (aM ad) := by
  refine wStart (by decide) (Nat.le_of_ble_eq_true rfl) (fun k hk => ⟨k, hk, rfl⟩) (fun p e s m below meth c S hr hlk _ _ ls hW hl => ?_)
  have hl : lv_has ls 1 [(0, .ref (ad 0))] := hl
  have hg := MS_rng hm
  have hp0 := hm.2.2.1
  have h8 : σ 8 0 = e_.1 := hm.2.2.2.1.1
  have h5 : σ 5 0 = mK (tkK t n p_) := hm.2.1.2.2.1
  have h4 : σ 4 0 = tkW t n p_ := hm.2.1.2.1
  have h3 : σ 3 0 = tkN t n p_ := hm.2.1.1
  have ho1 := hm.2.2.2.2.1
  have hmk : (0 ≤ mK (tkK t n p_) ∧ mK (tkK t n p_) ≤ 4) ∧ (mK (tkK t n p_) = 1 ↔ tkK t n p_ = 1) ∧ (mK (tkK t n p_) = 3 ↔ tkK t n p_ = 3) ∧ (mK (tkK t n p_) = 2 ↔ tkK t n p_ = 2) ∧ (mK (tkK t n p_) = 0 ↔ tkK t n p_ = 0) := by unfold mK; split <;> omega
  refine lv_aload_n S.1 S.2.1 dX5_endsLine_0 rfl (lv_at hl 0 rfl) ?_
  refine w_geti S hW in_X5 0 rfl rfl 8 (by decide) q1659 rfl rfl dX5_endsLine_1 ?_
  refine r_if_ne S (tgt := 22) dX5_endsLine_4 rfl (by omega) (fun c_4 => ?_) (fun c_4 => ?_)
  ·
    refine lv_aload_n S.1 S.2.1 dX5_endsLine_22 rfl (lv_at hl 0 rfl) ?_
    refine c_VSv S hW (tX5_ends l G ad σ e_ (hm.2.2.2.1) (hm.2.2.2.2)) (cw_X5_142 S.2.2.2.2 ⟨Nat.le_of_ble_eq_true rfl, Nat.le_of_ble_eq_true rfl⟩) eBlind_T (fun _ _ _ => trivial) (w_recv hW (q0 := 0) rfl rfl) rfl hl.1 (rest := []) rfl (Nat.le_of_ble_eq_true rfl) dX5_endsLine_23 ⟨Nat.le_of_ble_eq_true rfl, Nat.le_of_ble_eq_true rfl⟩ (fun σ23 H locs q23 hW => ?_)
    obtain ⟨q23_e, q23_a, q23_sm⟩ := q23
    rw [h4] at q23_e
    have hns : ¬ isS t n p_ e_ := by unfold isS; omega
    exact e_vS S hr hlk hW ⟨rfl, ⟨(by unfold elP elE; first | (rw [if_pos (dP_t.mpr his), if_pos (dP_t.mpr his)]; exact ⟨Tap_A hm.1 (q16_sm 2 (by decide)) (sameA_eq (q16_sm 0 (by decide))), q16_cur, by omega, by unfold Er; rw [q16_sm 8 (by decide), q16_sm 0 (by decide)]; exact hm.2.2.2.1, hm.2.2.2.2⟩) | (rw [if_neg (fun z => hns (dP_t.mp z)), if_neg (fun z => hns (dP_t.mp z))]; exact ⟨Tap_A hm.1 (q23_sm 2 (by decide)) q23_a, Cur_eq hm.2.1 (q23_sm 3 (by decide)) (q23_sm 4 (by decide)) (q23_sm 5 (by decide)) (q23_sm 6 (by decide)) (q23_sm 7 (by decide)), hm.2.2.1, q23_e, eEnd_ok hm.2.2.2.2 (by omega)⟩)), (by first | exact sameA_eq (q16_sm 0 (by decide)) | exact q23_a), (by first | exact same_w q16_sm (by decide) | exact same_w q23_sm (by decide))⟩⟩ dX5_endsLine_26
  ·
    refine lv_aload_n S.1 S.2.1 dX5_endsLine_7 rfl (lv_at hl 0 rfl) ?_
    refine w_geti S hW in_X5 0 rfl rfl 5 (by decide) q1656 rfl rfl dX5_endsLine_8 ?_
    refine r_iconst S dX5_endsLine_11 ?_
    refine r_icmp_ne S (tgt := 22) dX5_endsLine_12 rfl (by omega) (fun c_12 => ?_) (fun c_12 => ?_)
    ·
      refine lv_aload_n S.1 S.2.1 dX5_endsLine_22 rfl (lv_at hl 0 rfl) ?_
      refine c_VSv S hW (tX5_ends l G ad σ e_ (hm.2.2.2.1) (hm.2.2.2.2)) (cw_X5_142 S.2.2.2.2 ⟨Nat.le_of_ble_eq_true rfl, Nat.le_of_ble_eq_true rfl⟩) eBlind_T (fun _ _ _ => trivial) (w_recv hW (q0 := 0) rfl rfl) rfl hl.1 (rest := []) rfl (Nat.le_of_ble_eq_true rfl) dX5_endsLine_23 ⟨Nat.le_of_ble_eq_true rfl, Nat.le_of_ble_eq_true rfl⟩ (fun σ23 H locs q23 hW => ?_)
      obtain ⟨q23_e, q23_a, q23_sm⟩ := q23
      rw [h4] at q23_e
      have hns : ¬ isS t n p_ e_ := by unfold isS; omega
      exact e_vS S hr hlk hW ⟨rfl, ⟨(by unfold elP elE; first | (rw [if_pos (dP_t.mpr his), if_pos (dP_t.mpr his)]; exact ⟨Tap_A hm.1 (q16_sm 2 (by decide)) (sameA_eq (q16_sm 0 (by decide))), q16_cur, by omega, by unfold Er; rw [q16_sm 8 (by decide), q16_sm 0 (by decide)]; exact hm.2.2.2.1, hm.2.2.2.2⟩) | (rw [if_neg (fun z => hns (dP_t.mp z)), if_neg (fun z => hns (dP_t.mp z))]; exact ⟨Tap_A hm.1 (q23_sm 2 (by decide)) q23_a, Cur_eq hm.2.1 (q23_sm 3 (by decide)) (q23_sm 4 (by decide)) (q23_sm 5 (by decide)) (q23_sm 6 (by decide)) (q23_sm 7 (by decide)), hm.2.2.1, q23_e, eEnd_ok hm.2.2.2.2 (by omega)⟩)), (by first | exact sameA_eq (q16_sm 0 (by decide)) | exact q23_a), (by first | exact same_w q16_sm (by decide) | exact same_w q23_sm (by decide))⟩⟩ dX5_endsLine_26
    ·
      refine lv_aload_n S.1 S.2.1 dX5_endsLine_15 rfl (lv_at hl 0 rfl) ?_
      refine c_VSv S hW (tX5_advance l G ad σ t n (tkN t n p_) (hm.1) (⟨h3, by omega, by omega⟩)) (cw_X5_153 S.2.2.2.2 ⟨Nat.le_of_ble_eq_true rfl, Nat.le_of_ble_eq_true rfl⟩) eBlind_T (fun _ _ _ => trivial) (w_recv hW (q0 := 0) rfl rfl) rfl hl.1 (rest := []) rfl (Nat.le_of_ble_eq_true rfl) dX5_endsLine_16 ⟨Nat.le_of_ble_eq_true rfl, Nat.le_of_ble_eq_true rfl⟩ (fun σ16 H locs q16 hW => ?_)
      obtain ⟨q16_cur, q16_sm⟩ := q16
      have his : isS t n p_ e_ := by unfold isS; omega
      refine lv_goto (tgt := 26) S.1 S.2.1 dX5_endsLine_19 rfl ?_
      exact e_vS S hr hlk hW ⟨rfl, ⟨(by unfold elP elE; first | (rw [if_pos (dP_t.mpr his), if_pos (dP_t.mpr his)]; exact ⟨Tap_A hm.1 (q16_sm 2 (by decide)) (sameA_eq (q16_sm 0 (by decide))), q16_cur, by omega, by unfold Er; rw [q16_sm 8 (by decide), q16_sm 0 (by decide)]; exact hm.2.2.2.1, hm.2.2.2.2⟩) | (rw [if_neg (fun z => hns (dP_t.mp z)), if_neg (fun z => hns (dP_t.mp z))]; exact ⟨Tap_A hm.1 (q23_sm 2 (by decide)) q23_a, Cur_eq hm.2.1 (q23_sm 3 (by decide)) (q23_sm 4 (by decide)) (q23_sm 5 (by decide)) (q23_sm 6 (by decide)) (q23_sm 7 (by decide)), hm.2.2.1, q23_e, eEnd_ok hm.2.2.2.2 (by omega)⟩)), (by first | exact sameA_eq (q16_sm 0 (by decide)) | exact q23_a), (by first | exact same_w q16_sm (by decide) | exact same_w q23_sm (by decide))⟩⟩ dX5_endsLine_26
set_option maxHeartbeats 4000000 in
theorem tX5_isBeat (l : Launch) (G : GG) (ad : Nat → Nat) (σ : St) (t : Int → Int) (n : Int) (p_ : Int) (e_ : ER) (hm : MS σ t n p_ e_) : Met l yX5_isBeat (ws_ yX5_isBeat cX5_isBeat 1 (some .boolean)) ⟨1, 0, 0, 22⟩ (wPre G shM ad σ (fun _ => True) [.ref (ad 0)]) (qP (.int (iI (b2i (dP (isC t n p_ e_ 10 13)))))) 0 0 (aM ad) := by
  refine wStart (by decide) (Nat.le_of_ble_eq_true rfl) (fun k hk => ⟨k, hk, rfl⟩) (fun p e s m below meth c S hr hlk _ _ ls hW hl => ?_)
  have hl : lv_has ls 1 [(0, .ref (ad 0))] := hl
  have hg := MS_rng hm
  have hp0 := hm.2.2.1
  have h8 : σ 8 0 = e_.1 := hm.2.2.2.1.1
  have h5 : σ 5 0 = mK (tkK t n p_) := hm.2.1.2.2.1
  have h4 : σ 4 0 = tkW t n p_ := hm.2.1.2.1
  have h3 : σ 3 0 = tkN t n p_ := hm.2.1.1
  have ho1 := hm.2.2.2.2.1
  have hmk : (0 ≤ mK (tkK t n p_) ∧ mK (tkK t n p_) ≤ 4) ∧ (mK (tkK t n p_) = 1 ↔ tkK t n p_ = 1) ∧ (mK (tkK t n p_) = 3 ↔ tkK t n p_ = 3) ∧ (mK (tkK t n p_) = 2 ↔ tkK t n p_ = 2) ∧ (mK (tkK t n p_) = 0 ↔ tkK t n p_ = 0) := by unfold mK; split <;> omega
  refine lv_aload_n S.1 S.2.1 dX5_isBeat_0 rfl (lv_at hl 0 rfl) ?_
  refine w_geti S hW in_X5 0 rfl rfl 8 (by decide) q1659 rfl rfl dX5_isBeat_1 ?_
  refine r_if_ne S (tgt := 33) dX5_isBeat_4 rfl (by omega) (fun c_4 => ?_) (fun c_4 => ?_)
  ·
    refine r_iconst S dX5_isBeat_33 ?_
    exact e_zP S hr hlk hW.2.2.2.2 (by first | exact dP_1 (by unfold isC; rw [h7] at c_26; omega) | exact dP_0 (by unfold isC; first | omega | (rw [h7] at c_26; omega))) dX5_isBeat_34
  ·
    refine lv_aload_n S.1 S.2.1 dX5_isBeat_7 rfl (lv_at hl 0 rfl) ?_
    refine w_geti S hW in_X5 0 rfl rfl 5 (by decide) q1656 rfl rfl dX5_isBeat_8 ?_
    refine r_iconst S dX5_isBeat_11 ?_
    refine r_icmp_ne S (tgt := 33) dX5_isBeat_12 rfl (by omega) (fun c_12 => ?_) (fun c_12 => ?_)
    ·
      refine r_iconst S dX5_isBeat_33 ?_
      exact e_zP S hr hlk hW.2.2.2.2 (by first | exact dP_1 (by unfold isC; rw [h7] at c_26; omega) | exact dP_0 (by unfold isC; first | omega | (rw [h7] at c_26; omega))) dX5_isBeat_34
    ·
      have h7 : σ 7 0 = tkC t n p_ := hm.2.1.2.2.2.2 (by omega)
      refine lv_aload_n S.1 S.2.1 dX5_isBeat_15 rfl (lv_at hl 0 rfl) ?_
      refine w_geti S hW in_X5 0 rfl rfl 7 (by decide) q1658 rfl rfl dX5_isBeat_16 ?_
      refine r_bipush S dX5_isBeat_19 (by decide) ?_
      refine r_bipush S dX5_isBeat_21 (by decide) ?_
      refine c_SPw S hW (tX5_isIn l (σ 7 0) 10 13 (by omega)) (cw_X5_145 S.2.2.2.2 ⟨Nat.le_of_ble_eq_true rfl, Nat.le_of_ble_eq_true rfl⟩) rfl hl.1 (rest := []) rfl (Nat.le_of_ble_eq_true rfl) dX5_isBeat_23 ⟨Nat.le_of_ble_eq_true rfl, Nat.le_of_ble_eq_true rfl⟩ (fun locs hW => ?_)
      refine r_ifeq_p S (tgt := 33) dX5_isBeat_26 rfl (fun c_26 => ?_) (fun c_26 => ?_)
      ·
        refine r_iconst S dX5_isBeat_33 ?_
        exact e_zP S hr hlk hW.2.2.2.2 (by first | exact dP_1 (by unfold isC; rw [h7] at c_26; omega) | exact dP_0 (by unfold isC; first | omega | (rw [h7] at c_26; omega))) dX5_isBeat_34
      ·
        refine r_iconst S dX5_isBeat_29 ?_
        refine lv_goto (tgt := 34) S.1 S.2.1 dX5_isBeat_30 rfl ?_
        exact e_zP S hr hlk hW.2.2.2.2 (by first | exact dP_1 (by unfold isC; rw [h7] at c_26; omega) | exact dP_0 (by unfold isC; first | omega | (rw [h7] at c_26; omega))) dX5_isBeat_34
set_option maxHeartbeats 4000000 in
theorem tX5_isMove (l : Launch) (G : GG) (ad : Nat → Nat) (σ : St) (t : Int → Int) (n : Int) (p_ : Int) (e_ : ER) (hm : MS σ t n p_ e_) : Met l yX5_isMove (ws_ yX5_isMove cX5_isMove 1 (some .boolean)) ⟨1, 0, 0, 22⟩ (wPre G shM ad σ (fun _ => True) [.ref (ad 0)]) (qP (.int (iI (b2i (dP (isC t n p_ e_ 14 18)))))) 0 0 (aM ad) := by
  refine wStart (by decide) (Nat.le_of_ble_eq_true rfl) (fun k hk => ⟨k, hk, rfl⟩) (fun p e s m below meth c S hr hlk _ _ ls hW hl => ?_)
  have hl : lv_has ls 1 [(0, .ref (ad 0))] := hl
  have hg := MS_rng hm
  have hp0 := hm.2.2.1
  have h8 : σ 8 0 = e_.1 := hm.2.2.2.1.1
  have h5 : σ 5 0 = mK (tkK t n p_) := hm.2.1.2.2.1
  have h4 : σ 4 0 = tkW t n p_ := hm.2.1.2.1
  have h3 : σ 3 0 = tkN t n p_ := hm.2.1.1
  have ho1 := hm.2.2.2.2.1
  have hmk : (0 ≤ mK (tkK t n p_) ∧ mK (tkK t n p_) ≤ 4) ∧ (mK (tkK t n p_) = 1 ↔ tkK t n p_ = 1) ∧ (mK (tkK t n p_) = 3 ↔ tkK t n p_ = 3) ∧ (mK (tkK t n p_) = 2 ↔ tkK t n p_ = 2) ∧ (mK (tkK t n p_) = 0 ↔ tkK t n p_ = 0) := by unfold mK; split <;> omega
  refine lv_aload_n S.1 S.2.1 dX5_isMove_0 rfl (lv_at hl 0 rfl) ?_
  refine w_geti S hW in_X5 0 rfl rfl 8 (by decide) q1659 rfl rfl dX5_isMove_1 ?_
  refine r_if_ne S (tgt := 33) dX5_isMove_4 rfl (by omega) (fun c_4 => ?_) (fun c_4 => ?_)
  ·
    refine r_iconst S dX5_isMove_33 ?_
    exact e_zP S hr hlk hW.2.2.2.2 (by first | exact dP_1 (by unfold isC; rw [h7] at c_26; omega) | exact dP_0 (by unfold isC; first | omega | (rw [h7] at c_26; omega))) dX5_isMove_34
  ·
    refine lv_aload_n S.1 S.2.1 dX5_isMove_7 rfl (lv_at hl 0 rfl) ?_
    refine w_geti S hW in_X5 0 rfl rfl 5 (by decide) q1656 rfl rfl dX5_isMove_8 ?_
    refine r_iconst S dX5_isMove_11 ?_
    refine r_icmp_ne S (tgt := 33) dX5_isMove_12 rfl (by omega) (fun c_12 => ?_) (fun c_12 => ?_)
    ·
      refine r_iconst S dX5_isMove_33 ?_
      exact e_zP S hr hlk hW.2.2.2.2 (by first | exact dP_1 (by unfold isC; rw [h7] at c_26; omega) | exact dP_0 (by unfold isC; first | omega | (rw [h7] at c_26; omega))) dX5_isMove_34
    ·
      have h7 : σ 7 0 = tkC t n p_ := hm.2.1.2.2.2.2 (by omega)
      refine lv_aload_n S.1 S.2.1 dX5_isMove_15 rfl (lv_at hl 0 rfl) ?_
      refine w_geti S hW in_X5 0 rfl rfl 7 (by decide) q1658 rfl rfl dX5_isMove_16 ?_
      refine r_bipush S dX5_isMove_19 (by decide) ?_
      refine r_bipush S dX5_isMove_21 (by decide) ?_
      refine c_SPw S hW (tX5_isIn l (σ 7 0) 14 18 (by omega)) (cw_X5_145 S.2.2.2.2 ⟨Nat.le_of_ble_eq_true rfl, Nat.le_of_ble_eq_true rfl⟩) rfl hl.1 (rest := []) rfl (Nat.le_of_ble_eq_true rfl) dX5_isMove_23 ⟨Nat.le_of_ble_eq_true rfl, Nat.le_of_ble_eq_true rfl⟩ (fun locs hW => ?_)
      refine r_ifeq_p S (tgt := 33) dX5_isMove_26 rfl (fun c_26 => ?_) (fun c_26 => ?_)
      ·
        refine r_iconst S dX5_isMove_33 ?_
        exact e_zP S hr hlk hW.2.2.2.2 (by first | exact dP_1 (by unfold isC; rw [h7] at c_26; omega) | exact dP_0 (by unfold isC; first | omega | (rw [h7] at c_26; omega))) dX5_isMove_34
      ·
        refine r_iconst S dX5_isMove_29 ?_
        refine lv_goto (tgt := 34) S.1 S.2.1 dX5_isMove_30 rfl ?_
        exact e_zP S hr hlk hW.2.2.2.2 (by first | exact dP_1 (by unfold isC; rw [h7] at c_26; omega) | exact dP_0 (by unfold isC; first | omega | (rw [h7] at c_26; omega))) dX5_isMove_34
theorem hd_X5_takes : yX5_takes.cls = RX5 ∧ yX5_takes.cls ≠ "java/lang/invoke/MethodHandle" ∧ yX5_takes.cls ≠ "java/lang/invoke/VarHandle" ∧ (parseMethodDescriptor yX5_takes.desc).map (fun d => d.parameters.length) = some 2 := by decide +kernel
theorem cw_X5_156 {R : Room} {s : State} {args : Array Value} (ht : ∀ w ∈ lw_all, w.before args s = true) (hR : 5 + 1 ≤ R.frames ∧ 8 + (4 + 11) + 115 ≤ R.locals) : CallW R s args "OneDrumModel" RX5 156 yX5_takes cX5_takes 4 (some .int) (ws_ yX5_takes cX5_takes 4 (some .int)) ⟨5, 0, 0, 115⟩ 0 0 2 := cwV 2 ht (lw_V q1826 q1828 qs56 q126 q1829) rfl rfl rfl hd_X5_takes hR
set_option maxHeartbeats 4000000 in
theorem tX5_beatTold (l : Launch) (G : GG) (ad : Nat → Nat) (σ : St) (t : Int → Int) (n : Int) (p_ : Int) (e_ : ER) (hm : MS σ t n p_ e_) : Met l yX5_beatTold (ws_ yX5_beatTold cX5_beatTold 1 (some .int)) ⟨6, 0, 0, 138⟩ (wPre G shM ad σ (fun _ => True) [.ref (ad 0)]) (qS G shM ad (aM ad) (rI (fun r σ' => (r = tkVl t n p_ e_ 10 13 - 10) ∧ (MS σ' t n (tkP t n p_ e_ 10 13) (tkE t n p_ e_ 10 13)) ∧ (sameA σ σ') ∧ (same [0, 3, 4, 5, 6, 7, 8] σ σ')))) 0 0 (aM ad) := by
  refine wStart (by decide) (Nat.le_of_ble_eq_true rfl) (fun k hk => ⟨k, hk, rfl⟩) (fun p e s m below meth c S hr hlk _ _ ls hW hl => ?_)
  have hl : lv_has ls 1 [(0, .ref (ad 0))] := hl
  refine lv_aload_n S.1 S.2.1 dX5_beatTold_0 rfl (lv_at hl 0 rfl) ?_
  refine r_bipush S dX5_beatTold_1 (by decide) ?_
  refine r_bipush S dX5_beatTold_3 (by decide) ?_
  refine c_VSi S hW (tX5_takes l G ad σ 10 13 t n p_ e_ (hm) (by omega)) (cw_X5_156 S.2.2.2.2 ⟨Nat.le_of_ble_eq_true rfl, Nat.le_of_ble_eq_true rfl⟩) eBlind_T (fun _ _ _ => trivial) (w_recv hW (q0 := 0) rfl rfl) rfl hl.1 (rest := []) rfl (Nat.le_of_ble_eq_true rfl) dX5_beatTold_5 ⟨Nat.le_of_ble_eq_true rfl, Nat.le_of_ble_eq_true rfl⟩ (fun r5 σ5 H locs q5 hW => ?_)
  obtain ⟨rfl, q5_ms, q5_a, q5_sm⟩ := q5
  refine r_bipush S dX5_beatTold_8 (by decide) ?_
  refine r_isub S dX5_beatTold_10 ?_
  exact e_iS S hr hlk hW ⟨((tkVl t n p_ e_ 10 13) - 10), rfl, ⟨(rfl), (q5_ms), (q5_a), (q5_sm)⟩⟩ dX5_beatTold_11
theorem hd_X5_numbered : yX5_numbered.cls = RX5 ∧ yX5_numbered.cls ≠ "java/lang/invoke/MethodHandle" ∧ yX5_numbered.cls ≠ "java/lang/invoke/VarHandle" ∧ (parseMethodDescriptor yX5_numbered.desc).map (fun d => d.parameters.length) = some 2 := by decide +kernel
theorem cw_X5_160 {R : Room} {s : State} {args : Array Value} (ht : ∀ w ∈ lw_all, w.before args s = true) (hR : 5 + 1 ≤ R.frames ∧ 8 + (4 + 11) + 115 ≤ R.locals) : CallW R s args "OneDrumModel" RX5 160 yX5_numbered cX5_numbered 4 (some .int) (ws_ yX5_numbered cX5_numbered 4 (some .int)) ⟨5, 0, 0, 115⟩ 0 0 2 := cwV 2 ht (lw_V q1838 q1840 qs59 q126 q1841) rfl rfl rfl hd_X5_numbered hR
set_option maxHeartbeats 4000000 in
theorem tX5_armyTold (l : Launch) (G : GG) (ad : Nat → Nat) (σ : St) (t : Int → Int) (n : Int) (p_ : Int) (e_ : ER) (hm : MS σ t n p_ e_) : Met l yX5_armyTold (ws_ yX5_armyTold cX5_armyTold 1 (some .int)) ⟨6, 0, 0, 138⟩ (wPre G shM ad σ (fun _ => True) [.ref (ad 0)]) (qS G shM ad (aM ad) (rI (fun r σ' => (r = nmV t n p_ e_ 0 1) ∧ (MS σ' t n (nmP t n p_ e_) (nmE t n p_ e_ 0 1)) ∧ (sameA σ σ') ∧ (same [0, 3, 4, 5, 6, 7, 8] σ σ')))) 0 0 (aM ad) := by
  refine wStart (by decide) (Nat.le_of_ble_eq_true rfl) (fun k hk => ⟨k, hk, rfl⟩) (fun p e s m below meth c S hr hlk _ _ ls hW hl => ?_)
  have hl : lv_has ls 1 [(0, .ref (ad 0))] := hl
  refine lv_aload_n S.1 S.2.1 dX5_armyTold_0 rfl (lv_at hl 0 rfl) ?_
  refine r_iconst S dX5_armyTold_1 ?_
  refine r_iconst S dX5_armyTold_2 ?_
  refine c_VSi S hW (tX5_numbered l G ad σ 0 1 t n p_ e_ (hm) (by omega)) (cw_X5_160 S.2.2.2.2 ⟨Nat.le_of_ble_eq_true rfl, Nat.le_of_ble_eq_true rfl⟩) eBlind_T (fun _ _ _ => trivial) (w_recv hW (q0 := 0) rfl rfl) rfl hl.1 (rest := []) rfl (Nat.le_of_ble_eq_true rfl) dX5_armyTold_3 ⟨Nat.le_of_ble_eq_true rfl, Nat.le_of_ble_eq_true rfl⟩ (fun r3 σ3 H locs q3 hW => ?_)
  obtain ⟨rfl, q3_ms, q3_a, q3_sm⟩ := q3
  exact e_iS S hr hlk hW ⟨(nmV t n p_ e_ 0 1), rfl, ⟨(rfl), (q3_ms), (q3_a), (q3_sm)⟩⟩ dX5_armyTold_6
