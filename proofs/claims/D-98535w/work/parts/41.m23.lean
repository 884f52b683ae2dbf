set_option maxHeartbeats 4000000 in
theorem tX5_isFixed (l : Launch) (G : GG) (ad : Nat → Nat) (σ : St) (army : Int) (mv : Int) (p_ : Int) (q_ : Int) (L : List (Int × Int)) (hw0 : 0 ≤ σ 10 0 ∧ σ 10 0 ≤ 700) (ha : 0 ≤ army ∧ army ≤ 1) (hWf : WfWar (wr σ)) (hn : σ 18 0 = L.length) (hL : L.length ≤ 24) (hv : rowV L) (hrow : fil σ 14 L.length (rf L)) (hmv : 0 ≤ mv ∧ mv ≤ 4) (hp : 0 ≤ p_ ∧ p_ < L.length) (hq : 0 ≤ q_ ∧ q_ < L.length) : Met l yX5_isFixed (ws_ yX5_isFixed cX5_isFixed 9 (some .boolean)) ⟨6, 0, 0, 138⟩ (wPre G shM ad σ (fun _ => True) [.ref (ad 0), .int (iI army), .int (iI mv), .int (iI p_), .int (iI q_)]) (qS G shM ad (aM ad) (rZ (fun r σ' => (r = dP (fxP (wr σ) L army mv p_ q_)) ∧ (fil σ' 14 L.length (rf L)) ∧ (same [14, 16, 17, 19, 20, 21, 22, 23] σ σ')))) 0 0 (aM ad) := by
  refine wStart (by decide) (Nat.le_of_ble_eq_true rfl) (fun k hk => ⟨k, hk, rfl⟩) (fun p e s m below meth c S hr hlk _ _ ls hW hl => ?_)
  have hl : lv_has ls 9 [(0, .ref (ad 0)), (1, .int (iI army)), (2, .int (iI mv)), (3, .int (iI p_)), (4, .int (iI q_))] := hl
  have rp := hrow p_ hp.1 hp.2
  have rq := hrow q_ hq.1 hq.2
  have vp := hv p_ hp.1 hp.2
  have vq := hv q_ hq.1 hq.2
  refine lv_aload_n S.1 S.2.1 dX5_isFixed_0 rfl (lv_at hl 0 rfl) ?_
  refine w_getr S hW in_X5 0 rfl rfl 14 (by decide) q1665 rfl rfl dX5_isFixed_1 ?_
  refine lv_iload_n S.1 S.2.1 dX5_isFixed_4 rfl (lv_at hl 3 rfl) ?_
  refine w_ald S hW 6 0 rfl rfl (by omega) dX5_isFixed_5 ?_
  refine r_as (rf L p_) (rp) ?_
  refine lv_istore (lv' := [(5, .int (iI (rf L p_))), (0, .ref (ad 0)), (1, .int (iI army)), (2, .int (iI mv)), (3, .int (iI p_)), (4, .int (iI q_))]) S.1 S.2.1 dX5_isFixed_6 hl (by decide) rfl (fun ls hl => ?_)
  refine lv_aload_n S.1 S.2.1 dX5_isFixed_8 rfl (lv_at hl 1 rfl) ?_
  refine w_getr S hW in_X5 0 rfl rfl 14 (by decide) q1665 rfl rfl dX5_isFixed_9 ?_
  refine lv_iload S.1 S.2.1 dX5_isFixed_12 (lv_at hl 5 rfl) ?_
  refine w_ald S hW 6 0 rfl rfl (by omega) dX5_isFixed_14 ?_
  refine r_as (rf L q_) (rq) ?_
  refine lv_istore (lv' := [(6, .int (iI (rf L q_))), (5, .int (iI (rf L p_))), (0, .ref (ad 0)), (1, .int (iI army)), (2, .int (iI mv)), (3, .int (iI p_)), (4, .int (iI q_))]) S.1 S.2.1 dX5_isFixed_15 hl (by decide) rfl (fun ls hl => ?_)
  refine r_iconst S dX5_isFixed_17 ?_
  refine r_as (b2i (dP (exU (fxC (wr σ) L army mv p_ q_) 0))) (dP_0 exU_0) ?_
  refine lv_istore (lv' := [(7, .int (iI (b2i (dP (exU (fxC (wr σ) L army mv p_ q_) 0))))), (6, .int (iI (rf L q_))), (5, .int (iI (rf L p_))), (0, .ref (ad 0)), (1, .int (iI army)), (2, .int (iI mv)), (3, .int (iI p_)), (4, .int (iI q_))]) S.1 S.2.1 dX5_isFixed_18 hl (by decide) rfl (fun ls hl => ?_)
  refine r_iconst S dX5_isFixed_20 ?_
  refine lv_istore (lv' := [(8, .int (iI 0)), (7, .int (iI (b2i (dP (exU (fxC (wr σ) L army mv p_ q_) 0))))), (6, .int (iI (rf L q_))), (5, .int (iI (rf L p_))), (0, .ref (ad 0)), (1, .int (iI army)), (2, .int (iI mv)), (3, .int (iI p_)), (4, .int (iI q_))]) S.1 S.2.1 dX5_isFixed_21 hl (by decide) rfl (fun ls hl => ?_)
  have cut_23 : ∀ (N_23 : Nat) (cd : Int) (σ1 : St) (H : Heap) (locs : List Loc) (ls : Array Slot), (0 ≤ cd ∧ cd ≤ 16) → (same [14, 16, 17, 19, 20, 21, 22, 23] σ σ1) → (∀ i : Int, 0 ≤ i → i < L.length → i ≠ p_ → i ≠ q_ → σ1 14 i = rf L i) → ((16 - cd).toNat) < N_23 → WD G shM ad (aM ad) s s.heap σ1 H locs → lv_has ls 9 [(8, .int (iI cd)), (7, .int (iI (b2i (dP (exU (fxC (wr σ) L army mv p_ q_) cd))))), (6, .int (iI (rf L q_))), (5, .int (iI (rf L p_))), (0, .ref (ad 0)), (1, .int (iI army)), (2, .int (iI mv)), (3, .int (iI p_)), (4, .int (iI q_))] → W p l e (⟨6, 0, 0, 138⟩ : Room) s m ([.ref (ad 0), .int (iI army), .int (iI mv), .int (iI p_), .int (iI q_)] : List Value).toArray below meth c H locs 0 0 (MQ below (qS G shM ad (aM ad) (rZ (fun r σ' => (r = dP (fxP (wr σ) L army mv p_ q_)) ∧ (fil σ' 14 L.length (rf L)) ∧ (same [14, 16, 17, 19, 20, 21, 22, 23] σ σ')))) ([.ref (ad 0), .int (iI army), .int (iI mv), .int (iI p_), .int (iI q_)] : List Value).toArray s 0 0 (aM ad)) (F0 m 23 ls []) := by
    intro N_23
    induction N_23 with
    | zero =>
      intro cd σ1 H locs ls hcd hsm hro hμ_23 hW hl
      exact absurd hμ_23 (by omega)
    | succ N_23 ih_23 =>
      intro cd σ1 H locs ls hcd hsm hro hμ_23 hW hl
      have e0 : σ1 0 = σ 0 := hsm 0 (by decide)
      have e10 : σ1 10 = σ 10 := hsm 10 (by decide)
      have wq : wr σ1 = wr σ := by funext j; simp only [wr, e0, e10]
      have w10 : σ1 10 0 = σ 10 0 := by rw [e10]
      have wq0 : wr σ1 0 = wr σ 0 := by rw [wq]
      have n18 : σ1 18 0 = L.length := by rw [hsm 18 (by decide)]; exact hn
      refine lv_iload S.1 S.2.1 dX5_isFixed_23 (lv_at hl 0 rfl) ?_
      refine r_bipush S dX5_isFixed_25 (by decide) ?_
      refine r_icmp_ge S (tgt := 113) dX5_isFixed_27 rfl (by omega) (fun c_27 => ?_) (fun c_27 => ?_)
      ·
        refine lv_aload_n S.1 S.2.1 dX5_isFixed_113 rfl (lv_at hl 4 rfl) ?_
        refine w_getr S hW in_X5 0 rfl rfl 14 (by decide) q1665 rfl rfl dX5_isFixed_114 ?_
        refine lv_iload_n S.1 S.2.1 dX5_isFixed_117 rfl (lv_at hl 7 rfl) ?_
        refine lv_iload S.1 S.2.1 dX5_isFixed_118 (lv_at hl 3 rfl) ?_
        refine w_ast S hW 6 0 rfl rfl rfl (z := (rf L p_)) (by omega) dX5_isFixed_120 (fun H locs hW => ?_)
        refine lv_aload_n S.1 S.2.1 dX5_isFixed_121 rfl (lv_at hl 4 rfl) ?_
        refine w_getr S hW in_X5 0 rfl rfl 14 (by decide) q1665 rfl rfl dX5_isFixed_122 ?_
        refine lv_iload S.1 S.2.1 dX5_isFixed_125 (lv_at hl 8 rfl) ?_
        refine lv_iload S.1 S.2.1 dX5_isFixed_127 (lv_at hl 2 rfl) ?_
        refine w_ast S hW 6 0 rfl rfl rfl (z := (rf L q_)) (by omega) dX5_isFixed_129 (fun H locs hW => ?_)
        refine lv_iload S.1 S.2.1 dX5_isFixed_130 (lv_at hl 1 rfl) ?_
        exact e_zS S hr hlk hW (b2i_or _) ⟨(dP (exU (fxC (wr σ) L army mv p_ q_) cd)), rfl, ⟨(dP_c (exU_end hcd.2 (by first | exact Or.inl (by omega) | exact Or.inr c_32))), (fun i i1 i2 => (show i = q_ ∨ i ≠ q_ by omega).elim (fun z => by rw [z, up_self]) (fun z => by rw [up_nei z]; exact (show i = p_ ∨ i ≠ p_ by omega).elim (fun z2 => by rw [z2, up_self]) (fun z2 => by rw [up_nei z2]; exact hro i i1 i2 z2 z))), (same_up (same_up hsm (by decide)) (by decide))⟩⟩ dX5_isFixed_132
      ·
        refine lv_iload S.1 S.2.1 dX5_isFixed_30 (lv_at hl 1 rfl) ?_
        refine r_ifne_p S (tgt := 113) dX5_isFixed_32 rfl (fun c_32 => ?_) (fun c_32 => ?_)
        ·
          refine lv_aload_n S.1 S.2.1 dX5_isFixed_113 rfl (lv_at hl 4 rfl) ?_
          refine w_getr S hW in_X5 0 rfl rfl 14 (by decide) q1665 rfl rfl dX5_isFixed_114 ?_
          refine lv_iload_n S.1 S.2.1 dX5_isFixed_117 rfl (lv_at hl 7 rfl) ?_
          refine lv_iload S.1 S.2.1 dX5_isFixed_118 (lv_at hl 3 rfl) ?_
          refine w_ast S hW 6 0 rfl rfl rfl (z := (rf L p_)) (by omega) dX5_isFixed_120 (fun H locs hW => ?_)
          refine lv_aload_n S.1 S.2.1 dX5_isFixed_121 rfl (lv_at hl 4 rfl) ?_
          refine w_getr S hW in_X5 0 rfl rfl 14 (by decide) q1665 rfl rfl dX5_isFixed_122 ?_
          refine lv_iload S.1 S.2.1 dX5_isFixed_125 (lv_at hl 8 rfl) ?_
          refine lv_iload S.1 S.2.1 dX5_isFixed_127 (lv_at hl 2 rfl) ?_
          refine w_ast S hW 6 0 rfl rfl rfl (z := (rf L q_)) (by omega) dX5_isFixed_129 (fun H locs hW => ?_)
          refine lv_iload S.1 S.2.1 dX5_isFixed_130 (lv_at hl 1 rfl) ?_
          exact e_zS S hr hlk hW (b2i_or _) ⟨(dP (exU (fxC (wr σ) L army mv p_ q_) cd)), rfl, ⟨(dP_c (exU_end hcd.2 (by first | exact Or.inl (by omega) | exact Or.inr c_32))), (fun i i1 i2 => (show i = q_ ∨ i ≠ q_ by omega).elim (fun z => by rw [z, up_self]) (fun z => by rw [up_nei z]; exact (show i = p_ ∨ i ≠ p_ by omega).elim (fun z2 => by rw [z2, up_self]) (fun z2 => by rw [up_nei z2]; exact hro i i1 i2 z2 z))), (same_up (same_up hsm (by decide)) (by decide))⟩⟩ dX5_isFixed_132
        ·
          refine lv_iload S.1 S.2.1 dX5_isFixed_35 (lv_at hl 0 rfl) ?_
          refine r_iconst S dX5_isFixed_37 ?_
          refine r_idiv S dX5_isFixed_38 (by omega) ?_
          refine lv_iload S.1 S.2.1 dX5_isFixed_39 (lv_at hl 3 rfl) ?_
          refine r_icmp_eq S (tgt := 107) dX5_isFixed_41 rfl (by omega) (fun c_41 => ?_) (fun c_41 => ?_)
          ·
            refine lv_iinc (v := iI (cd + 1)) (lv' := [(8, .int (iI (cd + 1))), (7, .int (iI (b2i (dP (exU (fxC (wr σ) L army mv p_ q_) cd))))), (6, .int (iI (rf L q_))), (5, .int (iI (rf L p_))), (0, .ref (ad 0)), (1, .int (iI army)), (2, .int (iI mv)), (3, .int (iI p_)), (4, .int (iI q_))]) S.1 S.2.1 dX5_isFixed_107 hl (k := 0) rfl (iI_add _ _) (by decide) rfl (fun ls hl => ?_)
            refine lv_goto (tgt := 23) S.1 S.2.1 dX5_isFixed_110 rfl ?_
            rw [show (b2i (dP (exU (fxC (wr σ) L army mv p_ q_) cd))) = (b2i (dP (exU (fxC (wr σ) L army mv p_ q_) (cd + 1)))) from congrArg b2i (dP_c ⟨fun z => (exU_s hcd.1).mpr (Or.inl z), fun z => ((exU_s hcd.1).mp z).elim id (fun z2 => absurd z2 (by first | exact fun z3 => z3.1 c_41 | exact fun z3 => z3.2.1 c_50 | exact fun z3 => c_67 (z3.2.2.1 c_56)))⟩)] at hl
            exact ih_23 (cd + 1) σ1 H _ _ (by omega) (by first | exact hsm | exact same_tr hs9 q102_sm (by decide)) (by first | exact hro | exact fun i i1 i2 i3 i4 => by rw [q102_sm 14 (by decide), q96_sm 14 (by decide), e_σ9, up_nei i4, up_nei i3]; exact hro i i1 i2 i3 i4) (by omega) hW (lv_sub hl [0, 1, 2, 3, 4, 5, 6, 7, 8] rfl)
          ·
            refine lv_iload S.1 S.2.1 dX5_isFixed_44 (lv_at hl 0 rfl) ?_
            refine r_iconst S dX5_isFixed_46 ?_
            refine r_irem S dX5_isFixed_47 (by omega) ?_
            refine lv_iload S.1 S.2.1 dX5_isFixed_48 (lv_at hl 2 rfl) ?_
            refine r_icmp_eq S (tgt := 107) dX5_isFixed_50 rfl (by omega) (fun c_50 => ?_) (fun c_50 => ?_)
            ·
              refine lv_iinc (v := iI (cd + 1)) (lv' := [(8, .int (iI (cd + 1))), (7, .int (iI (b2i (dP (exU (fxC (wr σ) L army mv p_ q_) cd))))), (6, .int (iI (rf L q_))), (5, .int (iI (rf L p_))), (0, .ref (ad 0)), (1, .int (iI army)), (2, .int (iI mv)), (3, .int (iI p_)), (4, .int (iI q_))]) S.1 S.2.1 dX5_isFixed_107 hl (k := 0) rfl (iI_add _ _) (by decide) rfl (fun ls hl => ?_)
              refine lv_goto (tgt := 23) S.1 S.2.1 dX5_isFixed_110 rfl ?_
              rw [show (b2i (dP (exU (fxC (wr σ) L army mv p_ q_) cd))) = (b2i (dP (exU (fxC (wr σ) L army mv p_ q_) (cd + 1)))) from congrArg b2i (dP_c ⟨fun z => (exU_s hcd.1).mpr (Or.inl z), fun z => ((exU_s hcd.1).mp z).elim id (fun z2 => absurd z2 (by first | exact fun z3 => z3.1 c_41 | exact fun z3 => z3.2.1 c_50 | exact fun z3 => c_67 (z3.2.2.1 c_56)))⟩)] at hl
              exact ih_23 (cd + 1) σ1 H _ _ (by omega) (by first | exact hsm | exact same_tr hs9 q102_sm (by decide)) (by first | exact hro | exact fun i i1 i2 i3 i4 => by rw [q102_sm 14 (by decide), q96_sm 14 (by decide), e_σ9, up_nei i4, up_nei i3]; exact hro i i1 i2 i3 i4) (by omega) hW (lv_sub hl [0, 1, 2, 3, 4, 5, 6, 7, 8] rfl)
            ·
              refine lv_iload_n S.1 S.2.1 dX5_isFixed_53 rfl (lv_at hl 7 rfl) ?_
              refine lv_iload S.1 S.2.1 dX5_isFixed_54 (lv_at hl 8 rfl) ?_
              refine r_icmp_ne S (tgt := 73) dX5_isFixed_56 rfl (by omega) (fun c_56 => ?_) (fun c_56 => ?_)
              ·
                have hpq : p_ = q_ → cd / 4 = cd % 4 := fun z => by first | exact absurd z (by assumption) | omega
                refine lv_aload_n S.1 S.2.1 dX5_isFixed_73 rfl (lv_at hl 4 rfl) ?_
                refine w_getr S hW in_X5 0 rfl rfl 14 (by decide) q1665 rfl rfl dX5_isFixed_74 ?_
                refine lv_iload_n S.1 S.2.1 dX5_isFixed_77 rfl (lv_at hl 7 rfl) ?_
                refine lv_iload S.1 S.2.1 dX5_isFixed_78 (lv_at hl 0 rfl) ?_
                refine r_iconst S dX5_isFixed_80 ?_
                refine r_idiv S dX5_isFixed_81 (by omega) ?_
                refine w_ast S hW 6 0 rfl rfl rfl (z := (cd / 4)) (by omega) dX5_isFixed_82 (fun H locs hW => ?_)
                refine lv_aload_n S.1 S.2.1 dX5_isFixed_83 rfl (lv_at hl 4 rfl) ?_
                refine w_getr S hW in_X5 0 rfl rfl 14 (by decide) q1665 rfl rfl dX5_isFixed_84 ?_
                refine lv_iload S.1 S.2.1 dX5_isFixed_87 (lv_at hl 8 rfl) ?_
                refine lv_iload S.1 S.2.1 dX5_isFixed_89 (lv_at hl 0 rfl) ?_
                refine r_iconst S dX5_isFixed_91 ?_
                refine r_irem S dX5_isFixed_92 (by omega) ?_
                refine w_ast S hW 6 0 rfl rfl rfl (z := (cd % 4)) (by omega) dX5_isFixed_93 (fun H locs hW => ?_)
                obtain ⟨σ9, e_σ9⟩ : ∃ z, z = (up (up σ1 14 p_ (cd / 4)) 14 q_ (cd % 4)) := ⟨_, rfl⟩
                rw [← e_σ9] at hW
                have hsY : same [14, 16, 17, 19, 20, 21, 22, 23] σ σ9 := by rw [e_σ9]; exact same_up (same_up hsm (by decide)) (by decide)
                have e0 : σ9 0 = σ 0 := hsY 0 (by decide)
                have e10 : σ9 10 = σ 10 := hsY 10 (by decide)
                have wq : wr σ9 = wr σ := by funext j; simp only [wr, e0, e10]
                have w10 : σ9 10 0 = σ 10 0 := by rw [e10]
                have wq0 : wr σ9 0 = wr σ 0 := by rw [wq]
                have n18 : σ9 18 0 = L.length := by rw [hsY 18 (by decide)]; exact hn
                have hV9 : rowV (stR (stR L p_ (cd / 4)) q_ (cd % 4)) := stR_V (stR_V hv hp (by omega)) (by rw [stR_len]; exact hq) (by omega)
                have hrow9 : fil σ9 14 (stR (stR L p_ (cd / 4)) q_ (cd % 4)).length (rf (stR (stR L p_ (cd / 4)) q_ (cd % 4))) := by
                  rw [e_σ9, stR_len, stR_len]
                  intro i i1 i2
                  rw [stR_rf (by rw [stR_len]; exact hq) i1, stR_rf hp i1]
                  by_cases z1 : i = q_
                  · rw [z1, up_self, if_pos rfl]
                  · rw [up_nei z1, if_neg z1]
                    by_cases z2 : i = p_
                    · rw [z2, up_self, if_pos rfl]
                    · rw [up_nei z2, if_neg z2]; exact hro i i1 i2 z2 z1
                refine lv_aload_n S.1 S.2.1 dX5_isFixed_94 rfl (lv_at hl 4 rfl) ?_
                refine r_iconst S dX5_isFixed_95 ?_
                refine c_VSv S hW (tX5_plays l G ad σ9 0 (stR (stR L p_ (cd / 4)) q_ (cd % 4)) (by omega) (by rw [wq]; exact hWf) (by rw [stR_len, stR_len]; exact n18) (by rw [stR_len, stR_len]; exact hL) (hrow9) (hV9)) (cw_X5_252 S.2.2.2.2 ⟨Nat.le_of_ble_eq_true rfl, Nat.le_of_ble_eq_true rfl⟩) eBlind_T (fun _ _ _ => trivial) (w_recv hW (q0 := 0) rfl rfl) rfl hl.1 (rest := []) rfl (Nat.le_of_ble_eq_true rfl) dX5_isFixed_96 ⟨Nat.le_of_ble_eq_true rfl, Nat.le_of_ble_eq_true rfl⟩ (fun σ96 H locs q96 hW => ?_)
                obtain ⟨q96_snd, q96_sm⟩ := q96
                rw [wq] at q96_snd
                have hs9 : same [14, 16, 17, 19, 20, 21, 22, 23] σ σ96 := same_tr hsY q96_sm (by decide)
                have e0 : σ96 0 = σ 0 := hs9 0 (by decide)
                have e10 : σ96 10 = σ 10 := hs9 10 (by decide)
                have wq : wr σ96 = wr σ := by funext j; simp only [wr, e0, e10]
                have w10 : σ96 10 0 = σ 10 0 := by rw [e10]
                have wq0 : wr σ96 0 = wr σ 0 := by rw [wq]
                have n18 : σ96 18 0 = L.length := by rw [hs9 18 (by decide)]; exact hn
                refine lv_aload_n S.1 S.2.1 dX5_isFixed_99 rfl (lv_at hl 4 rfl) ?_
                refine lv_iload_n S.1 S.2.1 dX5_isFixed_100 rfl (lv_at hl 5 rfl) ?_
                refine lv_iload_n S.1 S.2.1 dX5_isFixed_101 rfl (lv_at hl 6 rfl) ?_
                refine c_VSz S hW (tX5_isMade l G ad σ96 army mv (stR (stR L p_ (cd / 4)) q_ (cd % 4)) 0 (by omega) (ha) (by rw [wq]; exact hWf) (by rw [stR_len, stR_len]; exact n18) (by rw [stR_len, stR_len]; exact hL) (hV9) (by rw [wq]; exact q96_snd.1) (by omega)) (cw_X5_301 S.2.2.2.2 ⟨Nat.le_of_ble_eq_true rfl, Nat.le_of_ble_eq_true rfl⟩) eBlind_T (fun _ _ _ => trivial) (w_recv hW (q0 := 0) rfl rfl) rfl hl.1 (rest := []) rfl (Nat.le_of_ble_eq_true rfl) dX5_isFixed_102 ⟨Nat.le_of_ble_eq_true rfl, Nat.le_of_ble_eq_true rfl⟩ (fun r102 σ102 H locs q102 hW => ?_)
                obtain ⟨rfl, q102_mad, q102_oth, q102_sm⟩ := q102
                refine r_as (b2i (dP (exU (fxC (wr σ) L army mv p_ q_) (cd + 1)))) (congrArg b2i (dP_c (by rw [wq]; exact ⟨fun z => (exU_s hcd.1).mpr (Or.inr ⟨c_41, c_50, hpq, z⟩), fun z => ((exU_s hcd.1).mp z).elim (fun z2 => absurd z2 c_32) (fun z2 => z2.2.2.2)⟩))) ?_
                refine lv_istore (lv' := [(7, .int (iI (b2i (dP (exU (fxC (wr σ) L army mv p_ q_) (cd + 1)))))), (8, .int (iI cd)), (6, .int (iI (rf L q_))), (5, .int (iI (rf L p_))), (0, .ref (ad 0)), (1, .int (iI army)), (2, .int (iI mv)), (3, .int (iI p_)), (4, .int (iI q_))]) S.1 S.2.1 dX5_isFixed_105 hl (by decide) rfl (fun ls hl => ?_)
                refine lv_iinc (v := iI (cd + 1)) (lv' := [(8, .int (iI (cd + 1))), (7, .int (iI (b2i (dP (exU (fxC (wr σ) L army mv p_ q_) (cd + 1)))))), (6, .int (iI (rf L q_))), (5, .int (iI (rf L p_))), (0, .ref (ad 0)), (1, .int (iI army)), (2, .int (iI mv)), (3, .int (iI p_)), (4, .int (iI q_))]) S.1 S.2.1 dX5_isFixed_107 hl (k := 1) rfl (iI_add _ _) (by decide) rfl (fun ls hl => ?_)
                refine lv_goto (tgt := 23) S.1 S.2.1 dX5_isFixed_110 rfl ?_
                exact ih_23 (cd + 1) σ102 H _ _ (by omega) (by first | exact hsm | exact same_tr hs9 q102_sm (by decide)) (by first | exact hro | exact fun i i1 i2 i3 i4 => by rw [q102_sm 14 (by decide), q96_sm 14 (by decide), e_σ9, up_nei i4, up_nei i3]; exact hro i i1 i2 i3 i4) (by omega) hW (lv_sub hl [0, 1, 2, 3, 4, 5, 6, 7, 8] rfl)
              ·
                refine lv_iload S.1 S.2.1 dX5_isFixed_59 (lv_at hl 0 rfl) ?_
                refine r_iconst S dX5_isFixed_61 ?_
                refine r_idiv S dX5_isFixed_62 (by omega) ?_
                refine lv_iload S.1 S.2.1 dX5_isFixed_63 (lv_at hl 0 rfl) ?_
                refine r_iconst S dX5_isFixed_65 ?_
                refine r_irem S dX5_isFixed_66 (by omega) ?_
                refine r_icmp_eq S (tgt := 73) dX5_isFixed_67 rfl (by omega) (fun c_67 => ?_) (fun c_67 => ?_)
                ·
                  have hpq : p_ = q_ → cd / 4 = cd % 4 := fun z => by first | exact absurd z (by assumption) | omega
                  refine lv_aload_n S.1 S.2.1 dX5_isFixed_73 rfl (lv_at hl 4 rfl) ?_
                  refine w_getr S hW in_X5 0 rfl rfl 14 (by decide) q1665 rfl rfl dX5_isFixed_74 ?_
                  refine lv_iload_n S.1 S.2.1 dX5_isFixed_77 rfl (lv_at hl 7 rfl) ?_
                  refine lv_iload S.1 S.2.1 dX5_isFixed_78 (lv_at hl 0 rfl) ?_
                  refine r_iconst S dX5_isFixed_80 ?_
                  refine r_idiv S dX5_isFixed_81 (by omega) ?_
                  refine w_ast S hW 6 0 rfl rfl rfl (z := (cd / 4)) (by omega) dX5_isFixed_82 (fun H locs hW => ?_)
                  refine lv_aload_n S.1 S.2.1 dX5_isFixed_83 rfl (lv_at hl 4 rfl) ?_
                  refine w_getr S hW in_X5 0 rfl rfl 14 (by decide) q1665 rfl rfl dX5_isFixed_84 ?_
                  refine lv_iload S.1 S.2.1 dX5_isFixed_87 (lv_at hl 8 rfl) ?_
                  refine lv_iload S.1 S.2.1 dX5_isFixed_89 (lv_at hl 0 rfl) ?_
                  refine r_iconst S dX5_isFixed_91 ?_
                  refine r_irem S dX5_isFixed_92 (by omega) ?_
                  refine w_ast S hW 6 0 rfl rfl rfl (z := (cd % 4)) (by omega) dX5_isFixed_93 (fun H locs hW => ?_)
                  obtain ⟨σ9, e_σ9⟩ : ∃ z, z = (up (up σ1 14 p_ (cd / 4)) 14 q_ (cd % 4)) := ⟨_, rfl⟩
                  rw [← e_σ9] at hW
                  have hsY : same [14, 16, 17, 19, 20, 21, 22, 23] σ σ9 := by rw [e_σ9]; exact same_up (same_up hsm (by decide)) (by decide)
                  have e0 : σ9 0 = σ 0 := hsY 0 (by decide)
                  have e10 : σ9 10 = σ 10 := hsY 10 (by decide)
                  have wq : wr σ9 = wr σ := by funext j; simp only [wr, e0, e10]
                  have w10 : σ9 10 0 = σ 10 0 := by rw [e10]
                  have wq0 : wr σ9 0 = wr σ 0 := by rw [wq]
                  have n18 : σ9 18 0 = L.length := by rw [hsY 18 (by decide)]; exact hn
                  have hV9 : rowV (stR (stR L p_ (cd / 4)) q_ (cd % 4)) := stR_V (stR_V hv hp (by omega)) (by rw [stR_len]; exact hq) (by omega)
                  have hrow9 : fil σ9 14 (stR (stR L p_ (cd / 4)) q_ (cd % 4)).length (rf (stR (stR L p_ (cd / 4)) q_ (cd % 4))) := by
                    rw [e_σ9, stR_len, stR_len]
                    intro i i1 i2
                    rw [stR_rf (by rw [stR_len]; exact hq) i1, stR_rf hp i1]
                    by_cases z1 : i = q_
                    · rw [z1, up_self, if_pos rfl]
                    · rw [up_nei z1, if_neg z1]
                      by_cases z2 : i = p_
                      · rw [z2, up_self, if_pos rfl]
                      · rw [up_nei z2, if_neg z2]; exact hro i i1 i2 z2 z1
                  refine lv_aload_n S.1 S.2.1 dX5_isFixed_94 rfl (lv_at hl 4 rfl) ?_
                  refine r_iconst S dX5_isFixed_95 ?_
                  refine c_VSv S hW (tX5_plays l G ad σ9 0 (stR (stR L p_ (cd / 4)) q_ (cd % 4)) (by omega) (by rw [wq]; exact hWf) (by rw [stR_len, stR_len]; exact n18) (by rw [stR_len, stR_len]; exact hL) (hrow9) (hV9)) (cw_X5_252 S.2.2.2.2 ⟨Nat.le_of_ble_eq_true rfl, Nat.le_of_ble_eq_true rfl⟩) eBlind_T (fun _ _ _ => trivial) (w_recv hW (q0 := 0) rfl rfl) rfl hl.1 (rest := []) rfl (Nat.le_of_ble_eq_true rfl) dX5_isFixed_96 ⟨Nat.le_of_ble_eq_true rfl, Nat.le_of_ble_eq_true rfl⟩ (fun σ96 H locs q96 hW => ?_)
                  obtain ⟨q96_snd, q96_sm⟩ := q96
                  rw [wq] at q96_snd
                  have hs9 : same [14, 16, 17, 19, 20, 21, 22, 23] σ σ96 := same_tr hsY q96_sm (by decide)
                  have e0 : σ96 0 = σ 0 := hs9 0 (by decide)
                  have e10 : σ96 10 = σ 10 := hs9 10 (by decide)
                  have wq : wr σ96 = wr σ := by funext j; simp only [wr, e0, e10]
                  have w10 : σ96 10 0 = σ 10 0 := by rw [e10]
                  have wq0 : wr σ96 0 = wr σ 0 := by rw [wq]
                  have n18 : σ96 18 0 = L.length := by rw [hs9 18 (by decide)]; exact hn
                  refine lv_aload_n S.1 S.2.1 dX5_isFixed_99 rfl (lv_at hl 4 rfl) ?_
                  refine lv_iload_n S.1 S.2.1 dX5_isFixed_100 rfl (lv_at hl 5 rfl) ?_
                  refine lv_iload_n S.1 S.2.1 dX5_isFixed_101 rfl (lv_at hl 6 rfl) ?_
                  refine c_VSz S hW (tX5_isMade l G ad σ96 army mv (stR (stR L p_ (cd / 4)) q_ (cd % 4)) 0 (by omega) (ha) (by rw [wq]; exact hWf) (by rw [stR_len, stR_len]; exact n18) (by rw [stR_len, stR_len]; exact hL) (hV9) (by rw [wq]; exact q96_snd.1) (by omega)) (cw_X5_301 S.2.2.2.2 ⟨Nat.le_of_ble_eq_true rfl, Nat.le_of_ble_eq_true rfl⟩) eBlind_T (fun _ _ _ => trivial) (w_recv hW (q0 := 0) rfl rfl) rfl hl.1 (rest := []) rfl (Nat.le_of_ble_eq_true rfl) dX5_isFixed_102 ⟨Nat.le_of_ble_eq_true rfl, Nat.le_of_ble_eq_true rfl⟩ (fun r102 σ102 H locs q102 hW => ?_)
                  obtain ⟨rfl, q102_mad, q102_oth, q102_sm⟩ := q102
                  refine r_as (b2i (dP (exU (fxC (wr σ) L army mv p_ q_) (cd + 1)))) (congrArg b2i (dP_c (by rw [wq]; exact ⟨fun z => (exU_s hcd.1).mpr (Or.inr ⟨c_41, c_50, hpq, z⟩), fun z => ((exU_s hcd.1).mp z).elim (fun z2 => absurd z2 c_32) (fun z2 => z2.2.2.2)⟩))) ?_
                  refine lv_istore (lv' := [(7, .int (iI (b2i (dP (exU (fxC (wr σ) L army mv p_ q_) (cd + 1)))))), (8, .int (iI cd)), (6, .int (iI (rf L q_))), (5, .int (iI (rf L p_))), (0, .ref (ad 0)), (1, .int (iI army)), (2, .int (iI mv)), (3, .int (iI p_)), (4, .int (iI q_))]) S.1 S.2.1 dX5_isFixed_105 hl (by decide) rfl (fun ls hl => ?_)
                  refine lv_iinc (v := iI (cd + 1)) (lv' := [(8, .int (iI (cd + 1))), (7, .int (iI (b2i (dP (exU (fxC (wr σ) L army mv p_ q_) (cd + 1)))))), (6, .int (iI (rf L q_))), (5, .int (iI (rf L p_))), (0, .ref (ad 0)), (1, .int (iI army)), (2, .int (iI mv)), (3, .int (iI p_)), (4, .int (iI q_))]) S.1 S.2.1 dX5_isFixed_107 hl (k := 1) rfl (iI_add _ _) (by decide) rfl (fun ls hl => ?_)
                  refine lv_goto (tgt := 23) S.1 S.2.1 dX5_isFixed_110 rfl ?_
                  exact ih_23 (cd + 1) σ102 H _ _ (by omega) (by first | exact hsm | exact same_tr hs9 q102_sm (by decide)) (by first | exact hro | exact fun i i1 i2 i3 i4 => by rw [q102_sm 14 (by decide), q96_sm 14 (by decide), e_σ9, up_nei i4, up_nei i3]; exact hro i i1 i2 i3 i4) (by omega) hW (lv_sub hl [0, 1, 2, 3, 4, 5, 6, 7, 8] rfl)
                ·
                  refine lv_goto (tgt := 107) S.1 S.2.1 dX5_isFixed_70 rfl ?_
                  refine lv_iinc (v := iI (cd + 1)) (lv' := [(8, .int (iI (cd + 1))), (7, .int (iI (b2i (dP (exU (fxC (wr σ) L army mv p_ q_) cd))))), (6, .int (iI (rf L q_))), (5, .int (iI (rf L p_))), (0, .ref (ad 0)), (1, .int (iI army)), (2, .int (iI mv)), (3, .int (iI p_)), (4, .int (iI q_))]) S.1 S.2.1 dX5_isFixed_107 hl (k := 0) rfl (iI_add _ _) (by decide) rfl (fun ls hl => ?_)
                  refine lv_goto (tgt := 23) S.1 S.2.1 dX5_isFixed_110 rfl ?_
                  rw [show (b2i (dP (exU (fxC (wr σ) L army mv p_ q_) cd))) = (b2i (dP (exU (fxC (wr σ) L army mv p_ q_) (cd + 1)))) from congrArg b2i (dP_c ⟨fun z => (exU_s hcd.1).mpr (Or.inl z), fun z => ((exU_s hcd.1).mp z).elim id (fun z2 => absurd z2 (by first | exact fun z3 => z3.1 c_41 | exact fun z3 => z3.2.1 c_50 | exact fun z3 => c_67 (z3.2.2.1 c_56)))⟩)] at hl
                  exact ih_23 (cd + 1) σ1 H _ _ (by omega) (by first | exact hsm | exact same_tr hs9 q102_sm (by decide)) (by first | exact hro | exact fun i i1 i2 i3 i4 => by rw [q102_sm 14 (by decide), q96_sm 14 (by decide), e_σ9, up_nei i4, up_nei i3]; exact hro i i1 i2 i3 i4) (by omega) hW (lv_sub hl [0, 1, 2, 3, 4, 5, 6, 7, 8] rfl)
  exact cut_23 _ 0 σ s.heap _ _ (by omega) (same_rf) (fun i i1 i2 _ _ => hrow i i1 i2) (Nat.lt_succ_self _) hW (lv_sub hl [0, 1, 2, 3, 4, 5, 6, 7, 8] rfl)
