set_option maxHeartbeats 4000000 in
theorem tX5_laysRow (l : Launch) (G : GG) (ad : Nat → Nat) (σ : St) (l0 l1 : List Int) (hw0 : 0 ≤ σ 10 0 ∧ σ 10 0 ≤ 700) (ht : 1 ≤ wr σ 0 ∧ wr σ 0 ≤ 4) (hm : σ 13 0 = l0.length ∧ σ 13 1 = l1.length ∧ l0.length ≤ 12 ∧ l1.length ≤ 12) (hg0 : ∀ i : Int, 0 ≤ i → i < l0.length → σ 12 i = gi l0 i) (hg1 : ∀ i : Int, 0 ≤ i → i < l1.length → σ 12 (12 + i) = gi l1 i) : Met l yX5_laysRow (ws_ yX5_laysRow cX5_laysRow 4 none) ⟨1, 0, 0, 21⟩ (wPre G shM ad σ (fun _ => True) [.ref (ad 0)]) (qS G shM ad (aM ad) (rV (fun σ' => (σ' 18 0 = (rowL (wr σ 0).toNat l0 l1).length) ∧ (Row σ' 14 15 (rowL (wr σ 0).toNat l0 l1) (rowL (wr σ 0).toNat l0 l1).length) ∧ (same [14, 15, 18] σ σ')))) 0 0 (aM ad) := by
  refine wStart (by decide) (Nat.le_of_ble_eq_true rfl) (fun k hk => ⟨k, hk, rfl⟩) (fun p e s m below meth c S hr hlk _ _ ls hW hl => ?_)
  have hl : lv_has ls 4 [(0, .ref (ad 0))] := hl
  have hlen : ((rowL (wr σ 0).toNat l0 l1).length : Int) = l0.length + l1.length := by rw [rowL_len (by omega) _ _ _ (Nat.le_refl _)]; simp
  refine lv_aload_n S.1 S.2.1 dX5_laysRow_0 rfl (lv_at hl 0 rfl) ?_
  refine r_iconst S dX5_laysRow_1 ?_
  refine w_puti S hW in_X5 tyX5 tyX5_ok nmX5 0 rfl rfl 18 (by decide) q1669 rfl rfl rfl rfl rfl (z := 0) rfl dX5_laysRow_2 (fun H locs hW => ?_)
  refine r_iconst S dX5_laysRow_5 ?_
  refine lv_istore_n (lv' := [(1, .int (iI 0)), (0, .ref (ad 0))]) S.1 S.2.1 dX5_laysRow_6 rfl hl (by decide) rfl (fun ls hl => ?_)
  refine r_iconst S dX5_laysRow_7 ?_
  refine lv_istore_n (lv' := [(2, .int (iI 0)), (1, .int (iI 0)), (0, .ref (ad 0))]) S.1 S.2.1 dX5_laysRow_8 rfl hl (by decide) rfl (fun ls hl => ?_)
  have cut_9 : ∀ (N_9 : Nat) (one two : Int) (σ1 : St) (H : Heap) (locs : List Loc) (ls : Array Slot), (0 ≤ one ∧ one ≤ l0.length ∧ 0 ≤ two ∧ two ≤ l1.length) → (same [14, 15, 18] σ σ1) → (0 ≤ σ1 18 0 ∧ σ1 18 0 ≤ (rowL (wr σ 0).toNat l0 l1).length) → (Row σ1 14 15 (rowL (wr σ 0).toNat l0 l1) (σ1 18 0)) → (rowL (wr σ 0).toNat (dr l0 one) (dr l1 two) = dr (rowL (wr σ 0).toNat l0 l1) (σ1 18 0)) → ((l0.length + l1.length - one - two).toNat) < N_9 → WD G shM ad (aM ad) s s.heap σ1 H locs → lv_has ls 4 [(2, .int (iI two)), (1, .int (iI one)), (0, .ref (ad 0))] → W p l e (⟨1, 0, 0, 21⟩ : Room) s m ([.ref (ad 0)] : List Value).toArray below meth c H locs 0 0 (MQ below (qS G shM ad (aM ad) (rV (fun σ' => (σ' 18 0 = (rowL (wr σ 0).toNat l0 l1).length) ∧ (Row σ' 14 15 (rowL (wr σ 0).toNat l0 l1) (rowL (wr σ 0).toNat l0 l1).length) ∧ (same [14, 15, 18] σ σ')))) ([.ref (ad 0)] : List Value).toArray s 0 0 (aM ad)) (F0 m 9 ls []) := by
    intro N_9
    induction N_9 with
    | zero =>
      intro one two σ1 H locs ls hi hsm hb hR hF hμ_9 hW hl
      exact absurd hμ_9 (by omega)
    | succ N_9 ih_9 =>
      intro one two σ1 H locs ls hi hsm hb hR hF hμ_9 hW hl
      have e0 := hsm 0 (by decide)
      have e10 := hsm 10 (by decide)
      have e12 := hsm 12 (by decide)
      have e13 := hsm 13 (by decide)
      have m0 : σ1 13 0 = l0.length := by rw [e13]; exact hm.1
      have m1 : σ1 13 1 = l1.length := by rw [e13]; exact hm.2.1
      have w0 : wr σ1 0 = wr σ 0 := by simp only [wr, e0, e10]
      have w10 : σ1 10 0 = σ 10 0 := by rw [e10]
      have cut_31 : ∀ (N_31 : Nat) (k o1 : Int) (σ2 : St) (H : Heap) (locs : List Loc) (ls : Array Slot), (0 ≤ k ∧ o1 = one + k ∧ o1 ≤ l0.length) → (¬ (l0.length ≤ one ∧ l1.length ≤ two)) → (same [14, 15, 18] σ σ2) → (0 ≤ σ2 18 0 ∧ σ2 18 0 ≤ (rowL (wr σ 0).toNat l0 l1).length) → (Row σ2 14 15 (rowL (wr σ 0).toNat l0 l1) (σ2 18 0)) → (futA (wr σ 0).toNat k.toNat (dr l0 o1) (dr l1 two) = dr (rowL (wr σ 0).toNat l0 l1) (σ2 18 0)) → ((l0.length - o1).toNat) < N_31 → WD G shM ad (aM ad) s s.heap σ2 H locs → lv_has ls 4 [(2, .int (iI two)), (1, .int (iI o1)), (0, .ref (ad 0)), (3, .int (iI k))] → W p l e (⟨1, 0, 0, 21⟩ : Room) s m ([.ref (ad 0)] : List Value).toArray below meth c H locs 0 0 (MQ below (qS G shM ad (aM ad) (rV (fun σ' => (σ' 18 0 = (rowL (wr σ 0).toNat l0 l1).length) ∧ (Row σ' 14 15 (rowL (wr σ 0).toNat l0 l1) (rowL (wr σ 0).toNat l0 l1).length) ∧ (same [14, 15, 18] σ σ')))) ([.ref (ad 0)] : List Value).toArray s 0 0 (aM ad)) (F0 m 31 ls []) := by
        intro N_31
        induction N_31 with
        | zero =>
          intro k o1 σ2 H locs ls hk hne hsm hb hR hF hμ_31 hW hl
          exact absurd hμ_31 (by omega)
        | succ N_31 ih_31 =>
          intro k o1 σ2 H locs ls hk hne hsm hb hR hF hμ_31 hW hl
          have e0 := hsm 0 (by decide)
          have e10 := hsm 10 (by decide)
          have e12 := hsm 12 (by decide)
          have e13 := hsm 13 (by decide)
          have m0 : σ2 13 0 = l0.length := by rw [e13]; exact hm.1
          have m1 : σ2 13 1 = l1.length := by rw [e13]; exact hm.2.1
          have w0 : wr σ2 0 = wr σ 0 := by simp only [wr, e0, e10]
          have w10 : σ2 10 0 = σ 10 0 := by rw [e10]
          have cut_96 : ∀ (N_96 : Nat) (k t2 : Int) (σ3 : St) (H : Heap) (locs : List Loc) (ls : Array Slot), (0 ≤ k ∧ t2 = two + k ∧ t2 ≤ l1.length) → (one < o1 ∨ two < l1.length) → (same [14, 15, 18] σ σ3) → (0 ≤ σ3 18 0 ∧ σ3 18 0 ≤ (rowL (wr σ 0).toNat l0 l1).length) → (Row σ3 14 15 (rowL (wr σ 0).toNat l0 l1) (σ3 18 0)) → (futB (wr σ 0).toNat k.toNat (dr l0 o1) (dr l1 t2) = dr (rowL (wr σ 0).toNat l0 l1) (σ3 18 0)) → ((l1.length - t2).toNat) < N_96 → WD G shM ad (aM ad) s s.heap σ3 H locs → lv_has ls 4 [(2, .int (iI t2)), (1, .int (iI o1)), (0, .ref (ad 0)), (3, .int (iI k))] → W p l e (⟨1, 0, 0, 21⟩ : Room) s m ([.ref (ad 0)] : List Value).toArray below meth c H locs 0 0 (MQ below (qS G shM ad (aM ad) (rV (fun σ' => (σ' 18 0 = (rowL (wr σ 0).toNat l0 l1).length) ∧ (Row σ' 14 15 (rowL (wr σ 0).toNat l0 l1) (rowL (wr σ 0).toNat l0 l1).length) ∧ (same [14, 15, 18] σ σ')))) ([.ref (ad 0)] : List Value).toArray s 0 0 (aM ad)) (F0 m 96 ls []) := by
            intro N_96
            induction N_96 with
            | zero =>
              intro k t2 σ3 H locs ls hk3 hx3 hsm hb hR hF hμ_96 hW hl
              exact absurd hμ_96 (by omega)
            | succ N_96 ih_96 =>
              intro k t2 σ3 H locs ls hk3 hx3 hsm hb hR hF hμ_96 hW hl
              have e0 := hsm 0 (by decide)
              have e10 := hsm 10 (by decide)
              have e12 := hsm 12 (by decide)
              have e13 := hsm 13 (by decide)
              have m0 : σ3 13 0 = l0.length := by rw [e13]; exact hm.1
              have m1 : σ3 13 1 = l1.length := by rw [e13]; exact hm.2.1
              have w0 : wr σ3 0 = wr σ 0 := by simp only [wr, e0, e10]
              have w10 : σ3 10 0 = σ 10 0 := by rw [e10]
              refine lv_iload_n S.1 S.2.1 dX5_laysRow_96 rfl (lv_at hl 3 rfl) ?_
              refine lv_aload_n S.1 S.2.1 dX5_laysRow_97 rfl (lv_at hl 2 rfl) ?_
              refine r_iconst S dX5_laysRow_98 ?_
              refine c_VP S hW (tX5_of l G ad σ3 0 (by omega)) (cw_X5_212 S.2.2.2.2 ⟨Nat.le_of_ble_eq_true rfl, Nat.le_of_ble_eq_true rfl⟩) eBlind_T (fun _ _ _ => trivial) (w_recv hW (q0 := 0) rfl rfl) rfl hl.1 (rest := [.int (iI k)]) rfl (Nat.le_of_ble_eq_true rfl) dX5_laysRow_99 ⟨Nat.le_of_ble_eq_true rfl, Nat.le_of_ble_eq_true rfl⟩ (fun locs hW => ?_)
              refine r_icmp_ge S (tgt := 162) dX5_laysRow_102 rfl (by omega) (fun c_102 => ?_) (fun c_102 => ?_)
              ·
                have hend : (wr σ 0).toNat ≤ k.toNat ∨ dr l1 t2 = [] := by left; omega
                refine lv_goto (tgt := 9) S.1 S.2.1 dX5_laysRow_162 rfl ?_
                exact ih_9 o1 t2 σ3 H _ _ (by omega) (hsm) (hb) (hR) (by rw [← hF, futB_end hend]) (by omega) hW (lv_sub hl [0, 1, 2] rfl)
              ·
                refine lv_iload_n S.1 S.2.1 dX5_laysRow_105 rfl (lv_at hl 0 rfl) ?_
                refine lv_aload_n S.1 S.2.1 dX5_laysRow_106 rfl (lv_at hl 2 rfl) ?_
                refine w_getr S hW in_X5 0 rfl rfl 13 (by decide) q1664 rfl rfl dX5_laysRow_107 ?_
                refine r_iconst S dX5_laysRow_110 ?_
                refine w_ald S hW 5 0 rfl rfl (by omega) dX5_laysRow_111 ?_
                refine r_icmp_ge S (tgt := 162) dX5_laysRow_112 rfl (by omega) (fun c_112 => ?_) (fun c_112 => ?_)
                ·
                  have hend : (wr σ 0).toNat ≤ k.toNat ∨ dr l1 t2 = [] := by right; exact dr_nil (by omega)
                  refine lv_goto (tgt := 9) S.1 S.2.1 dX5_laysRow_162 rfl ?_
                  exact ih_9 o1 t2 σ3 H _ _ (by omega) (hsm) (hb) (hR) (by rw [← hF, futB_end hend]) (by omega) hW (lv_sub hl [0, 1, 2] rfl)
                ·
                  have hd9 : dr (rowL (wr σ 0).toNat l0 l1) (σ3 18 0) = (σ3 12 (12 + t2), 1) :: futB (wr σ 0).toNat (k.toNat + 1) (dr l0 o1) (dr l1 (t2 + 1)) := by
                    rw [← hF, dr_cons (l := l1) (by omega), futB_cons (by omega), e12, hg1 t2 (by omega) (by omega)]
                  have st9 := lay_step 14 15 18 hR hb.1 hd9 (by decide)
                  refine lv_aload_n S.1 S.2.1 dX5_laysRow_115 rfl (lv_at hl 2 rfl) ?_
                  refine w_getr S hW in_X5 0 rfl rfl 14 (by decide) q1665 rfl rfl dX5_laysRow_116 ?_
                  refine lv_aload_n S.1 S.2.1 dX5_laysRow_119 rfl (lv_at hl 2 rfl) ?_
                  refine w_geti S hW in_X5 0 rfl rfl 18 (by decide) q1669 rfl rfl dX5_laysRow_120 ?_
                  refine lv_aload_n S.1 S.2.1 dX5_laysRow_123 rfl (lv_at hl 2 rfl) ?_
                  refine w_getr S hW in_X5 0 rfl rfl 12 (by decide) q1663 rfl rfl dX5_laysRow_124 ?_
                  refine r_bipush S dX5_laysRow_127 (by decide) ?_
                  refine lv_iload_n S.1 S.2.1 dX5_laysRow_129 rfl (lv_at hl 0 rfl) ?_
                  refine r_iadd S dX5_laysRow_130 ?_
                  refine w_ald S hW 4 0 rfl rfl (by omega) dX5_laysRow_131 ?_
                  refine w_ast S hW 6 0 rfl rfl rfl (z := (σ3 12 (12 + t2))) (by omega) dX5_laysRow_132 (fun H locs hW => ?_)
                  refine lv_aload_n S.1 S.2.1 dX5_laysRow_133 rfl (lv_at hl 2 rfl) ?_
                  refine w_getr S hW in_X5 0 rfl rfl 15 (by decide) q1666 rfl rfl dX5_laysRow_134 ?_
                  refine lv_aload_n S.1 S.2.1 dX5_laysRow_137 rfl (lv_at hl 2 rfl) ?_
                  refine w_geti S hW in_X5 0 rfl rfl 18 (by decide) q1669 rfl rfl dX5_laysRow_138 ?_
                  refine r_as (σ3 18 0) (up_ne (by decide)) ?_
                  refine r_iconst S dX5_laysRow_141 ?_
                  refine w_ast S hW 7 0 rfl rfl rfl (z := 1) (by omega) dX5_laysRow_142 (fun H locs hW => ?_)
                  refine lv_aload_n S.1 S.2.1 dX5_laysRow_143 rfl (lv_at hl 2 rfl) ?_
                  refine lv_dup S.1 S.2.1 dX5_laysRow_144 rfl ?_
                  refine w_geti S hW in_X5 0 rfl rfl 18 (by decide) q1669 rfl rfl dX5_laysRow_145 ?_
                  refine r_as (σ3 18 0) ((up_ne (by decide)).trans (up_ne (by decide))) ?_
                  refine r_iconst S dX5_laysRow_148 ?_
                  refine r_iadd S dX5_laysRow_149 ?_
                  refine w_puti S hW in_X5 tyX5 tyX5_ok nmX5 0 rfl rfl 18 (by decide) q1669 rfl rfl rfl rfl rfl (z := ((σ3 18 0) + 1)) rfl dX5_laysRow_150 (fun H locs hW => ?_)
                  refine lv_iinc (v := iI (t2 + 1)) (lv' := [(2, .int (iI (t2 + 1))), (1, .int (iI o1)), (0, .ref (ad 0)), (3, .int (iI k))]) S.1 S.2.1 dX5_laysRow_153 hl (k := 0) rfl (iI_add _ _) (by decide) rfl (fun ls hl => ?_)
                  refine lv_iinc (v := iI (k + 1)) (lv' := [(3, .int (iI (k + 1))), (2, .int (iI (t2 + 1))), (1, .int (iI o1)), (0, .ref (ad 0))]) S.1 S.2.1 dX5_laysRow_156 hl (k := 3) rfl (iI_add _ _) (by decide) rfl (fun ls hl => ?_)
                  refine lv_goto (tgt := 96) S.1 S.2.1 dX5_laysRow_159 rfl ?_
                  exact ih_96 (k + 1) (t2 + 1) (up (up (up σ3 14 (σ3 18 0) (σ3 12 (12 + t2))) 15 (σ3 18 0) 1) 18 0 ((σ3 18 0) + 1)) H _ _ (by omega) (by omega) (same_up (same_up (same_up hsm (by decide)) (by decide)) (by decide)) (by rw [up_self]; omega) (st9.1) (by rw [st9.2.2, show (k + 1).toNat = k.toNat + 1 by omega]) (by omega) hW (lv_sub hl [1, 2, 3, 0] rfl)
          refine lv_iload_n S.1 S.2.1 dX5_laysRow_31 rfl (lv_at hl 3 rfl) ?_
          refine lv_aload_n S.1 S.2.1 dX5_laysRow_32 rfl (lv_at hl 2 rfl) ?_
          refine r_iconst S dX5_laysRow_33 ?_
          refine c_VP S hW (tX5_of l G ad σ2 0 (by omega)) (cw_X5_212 S.2.2.2.2 ⟨Nat.le_of_ble_eq_true rfl, Nat.le_of_ble_eq_true rfl⟩) eBlind_T (fun _ _ _ => trivial) (w_recv hW (q0 := 0) rfl rfl) rfl hl.1 (rest := [.int (iI k)]) rfl (Nat.le_of_ble_eq_true rfl) dX5_laysRow_34 ⟨Nat.le_of_ble_eq_true rfl, Nat.le_of_ble_eq_true rfl⟩ (fun locs hW => ?_)
          refine r_icmp_ge S (tgt := 94) dX5_laysRow_37 rfl (by omega) (fun c_37 => ?_) (fun c_37 => ?_)
          ·
            have hend : (wr σ 0).toNat ≤ k.toNat ∨ dr l0 o1 = [] := by left; omega
            refine r_iconst S dX5_laysRow_94 ?_
            refine lv_istore_n (lv' := [(3, .int (iI 0)), (2, .int (iI two)), (1, .int (iI o1)), (0, .ref (ad 0))]) S.1 S.2.1 dX5_laysRow_95 rfl hl (by decide) rfl (fun ls hl => ?_)
            exact cut_96 _ 0 two σ2 H _ _ (by omega) (by omega) (hsm) (hb) (hR) (by rw [← hF]; exact (futA_end hend).symm) (Nat.lt_succ_self _) hW (lv_sub hl [1, 2, 3, 0] rfl)
          ·
            refine lv_iload_n S.1 S.2.1 dX5_laysRow_40 rfl (lv_at hl 1 rfl) ?_
            refine lv_aload_n S.1 S.2.1 dX5_laysRow_41 rfl (lv_at hl 2 rfl) ?_
            refine w_getr S hW in_X5 0 rfl rfl 13 (by decide) q1664 rfl rfl dX5_laysRow_42 ?_
            refine r_iconst S dX5_laysRow_45 ?_
            refine w_ald S hW 5 0 rfl rfl (by omega) dX5_laysRow_46 ?_
            refine r_icmp_ge S (tgt := 94) dX5_laysRow_47 rfl (by omega) (fun c_47 => ?_) (fun c_47 => ?_)
            ·
              have hend : (wr σ 0).toNat ≤ k.toNat ∨ dr l0 o1 = [] := by right; exact dr_nil (by omega)
              refine r_iconst S dX5_laysRow_94 ?_
              refine lv_istore_n (lv' := [(3, .int (iI 0)), (2, .int (iI two)), (1, .int (iI o1)), (0, .ref (ad 0))]) S.1 S.2.1 dX5_laysRow_95 rfl hl (by decide) rfl (fun ls hl => ?_)
              exact cut_96 _ 0 two σ2 H _ _ (by omega) (by omega) (hsm) (hb) (hR) (by rw [← hF]; exact (futA_end hend).symm) (Nat.lt_succ_self _) hW (lv_sub hl [1, 2, 3, 0] rfl)
            ·
              have hd9 : dr (rowL (wr σ 0).toNat l0 l1) (σ2 18 0) = (σ2 12 o1, 0) :: futA (wr σ 0).toNat (k.toNat + 1) (dr l0 (o1 + 1)) (dr l1 two) := by
                rw [← hF, dr_cons (l := l0) (by omega), futA_cons (by omega), e12, hg0 o1 (by omega) (by omega)]
              have st9 := lay_step 14 15 18 hR hb.1 hd9 (by decide)
              refine lv_aload_n S.1 S.2.1 dX5_laysRow_50 rfl (lv_at hl 2 rfl) ?_
              refine w_getr S hW in_X5 0 rfl rfl 14 (by decide) q1665 rfl rfl dX5_laysRow_51 ?_
              refine lv_aload_n S.1 S.2.1 dX5_laysRow_54 rfl (lv_at hl 2 rfl) ?_
              refine w_geti S hW in_X5 0 rfl rfl 18 (by decide) q1669 rfl rfl dX5_laysRow_55 ?_
              refine lv_aload_n S.1 S.2.1 dX5_laysRow_58 rfl (lv_at hl 2 rfl) ?_
              refine w_getr S hW in_X5 0 rfl rfl 12 (by decide) q1663 rfl rfl dX5_laysRow_59 ?_
              refine lv_iload_n S.1 S.2.1 dX5_laysRow_62 rfl (lv_at hl 1 rfl) ?_
              refine w_ald S hW 4 0 rfl rfl (by omega) dX5_laysRow_63 ?_
              refine w_ast S hW 6 0 rfl rfl rfl (z := (σ2 12 o1)) (by omega) dX5_laysRow_64 (fun H locs hW => ?_)
              refine lv_aload_n S.1 S.2.1 dX5_laysRow_65 rfl (lv_at hl 2 rfl) ?_
              refine w_getr S hW in_X5 0 rfl rfl 15 (by decide) q1666 rfl rfl dX5_laysRow_66 ?_
              refine lv_aload_n S.1 S.2.1 dX5_laysRow_69 rfl (lv_at hl 2 rfl) ?_
              refine w_geti S hW in_X5 0 rfl rfl 18 (by decide) q1669 rfl rfl dX5_laysRow_70 ?_
              refine r_as (σ2 18 0) (up_ne (by decide)) ?_
              refine r_iconst S dX5_laysRow_73 ?_
              refine w_ast S hW 7 0 rfl rfl rfl (z := 0) (by omega) dX5_laysRow_74 (fun H locs hW => ?_)
              refine lv_aload_n S.1 S.2.1 dX5_laysRow_75 rfl (lv_at hl 2 rfl) ?_
              refine lv_dup S.1 S.2.1 dX5_laysRow_76 rfl ?_
              refine w_geti S hW in_X5 0 rfl rfl 18 (by decide) q1669 rfl rfl dX5_laysRow_77 ?_
              refine r_as (σ2 18 0) ((up_ne (by decide)).trans (up_ne (by decide))) ?_
              refine r_iconst S dX5_laysRow_80 ?_
              refine r_iadd S dX5_laysRow_81 ?_
              refine w_puti S hW in_X5 tyX5 tyX5_ok nmX5 0 rfl rfl 18 (by decide) q1669 rfl rfl rfl rfl rfl (z := ((σ2 18 0) + 1)) rfl dX5_laysRow_82 (fun H locs hW => ?_)
              refine lv_iinc (v := iI (o1 + 1)) (lv' := [(1, .int (iI (o1 + 1))), (2, .int (iI two)), (0, .ref (ad 0)), (3, .int (iI k))]) S.1 S.2.1 dX5_laysRow_85 hl (k := 1) rfl (iI_add _ _) (by decide) rfl (fun ls hl => ?_)
              refine lv_iinc (v := iI (k + 1)) (lv' := [(3, .int (iI (k + 1))), (1, .int (iI (o1 + 1))), (2, .int (iI two)), (0, .ref (ad 0))]) S.1 S.2.1 dX5_laysRow_88 hl (k := 3) rfl (iI_add _ _) (by decide) rfl (fun ls hl => ?_)
              refine lv_goto (tgt := 31) S.1 S.2.1 dX5_laysRow_91 rfl ?_
              exact ih_31 (k + 1) (o1 + 1) (up (up (up σ2 14 (σ2 18 0) (σ2 12 o1)) 15 (σ2 18 0) 0) 18 0 ((σ2 18 0) + 1)) H _ _ (by omega) (by omega) (same_up (same_up (same_up hsm (by decide)) (by decide)) (by decide)) (by rw [up_self]; omega) (st9.1) (by rw [st9.2.2, show (k + 1).toNat = k.toNat + 1 by omega]) (by omega) hW (lv_sub hl [2, 1, 3, 0] rfl)
      refine lv_iload_n S.1 S.2.1 dX5_laysRow_9 rfl (lv_at hl 1 rfl) ?_
      refine lv_aload_n S.1 S.2.1 dX5_laysRow_10 rfl (lv_at hl 2 rfl) ?_
      refine w_getr S hW in_X5 0 rfl rfl 13 (by decide) q1664 rfl rfl dX5_laysRow_11 ?_
      refine r_iconst S dX5_laysRow_14 ?_
      refine w_ald S hW 5 0 rfl rfl (by omega) dX5_laysRow_15 ?_
      refine r_icmp_lt S (tgt := 29) dX5_laysRow_16 rfl (by omega) (fun c_16 => ?_) (fun c_16 => ?_)
      ·
        refine r_iconst S dX5_laysRow_29 ?_
        refine lv_istore_n (lv' := [(3, .int (iI 0)), (2, .int (iI two)), (1, .int (iI one)), (0, .ref (ad 0))]) S.1 S.2.1 dX5_laysRow_30 rfl hl (by decide) rfl (fun ls hl => ?_)
        have hne : ¬ (dr l0 one = [] ∧ dr l1 two = []) := by
          intro z
          have z1 := dr_end (by omega) (by omega) z.1
          have z2 := dr_end (by omega) (by omega) z.2
          omega
        exact cut_31 _ 0 one σ1 H _ _ (by omega) (by omega) (hsm) (hb) (hR) (by rw [← hF]; exact (rowL_go hne (by omega)).symm) (Nat.lt_succ_self _) hW (lv_sub hl [1, 2, 3, 0] rfl)
      ·
        refine lv_iload_n S.1 S.2.1 dX5_laysRow_19 rfl (lv_at hl 0 rfl) ?_
        refine lv_aload_n S.1 S.2.1 dX5_laysRow_20 rfl (lv_at hl 2 rfl) ?_
        refine w_getr S hW in_X5 0 rfl rfl 13 (by decide) q1664 rfl rfl dX5_laysRow_21 ?_
        refine r_iconst S dX5_laysRow_24 ?_
        refine w_ald S hW 5 0 rfl rfl (by omega) dX5_laysRow_25 ?_
        refine r_icmp_ge S (tgt := 165) dX5_laysRow_26 rfl (by omega) (fun c_26 => ?_) (fun c_26 => ?_)
        ·
          have he : σ1 18 0 = (rowL (wr σ 0).toNat l0 l1).length := by
            rw [dr_nil (l := l0) (by omega), dr_nil (l := l1) (by omega), rowL_nil] at hF
            exact dr_end hb.1 hb.2 hF.symm
          exact e_vS S hr hlk hW ⟨rfl, ⟨(he), (by rw [← he]; exact hR), (hsm)⟩⟩ dX5_laysRow_165
        ·
          refine r_iconst S dX5_laysRow_29 ?_
          refine lv_istore_n (lv' := [(3, .int (iI 0)), (2, .int (iI two)), (1, .int (iI one)), (0, .ref (ad 0))]) S.1 S.2.1 dX5_laysRow_30 rfl hl (by decide) rfl (fun ls hl => ?_)
          have hne : ¬ (dr l0 one = [] ∧ dr l1 two = []) := by
            intro z
            have z1 := dr_end (by omega) (by omega) z.1
            have z2 := dr_end (by omega) (by omega) z.2
            omega
          exact cut_31 _ 0 one σ1 H _ _ (by omega) (by omega) (hsm) (hb) (hR) (by rw [← hF]; exact (rowL_go hne (by omega)).symm) (Nat.lt_succ_self _) hW (lv_sub hl [1, 2, 3, 0] rfl)
  exact cut_9 _ 0 0 (up σ 18 0 0) H _ _ (by omega) (same_up same_rf (by decide)) (by rw [up_self]; omega) (by rw [up_self]; exact ⟨fil_0, fil_0⟩) (by rw [up_self]; rfl) (Nat.lt_succ_self _) hW (lv_sub hl [0, 1, 2] rfl)
