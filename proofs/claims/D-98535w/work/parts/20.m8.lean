theorem hd_X5_echoed : yX5_echoed.cls = RX5 ∧ yX5_echoed.cls ≠ "java/lang/invoke/MethodHandle" ∧ yX5_echoed.cls ≠ "java/lang/invoke/VarHandle" ∧ (parseMethodDescriptor yX5_echoed.desc).map (fun d => d.parameters.length) = some 1 := by decide +kernel
theorem cw_X5_273 {R : Room} {s : State} {args : Array Value} (ht : ∀ w ∈ lw_all, w.before args s = true) (hR : 2 + 1 ≤ R.frames ∧ 8 + (7 + 11) + 44 ≤ R.locals) : CallW R s args "OneDrumModel" RX5 273 yX5_echoed cX5_echoed 7 (some .int) (ws_ yX5_echoed cX5_echoed 7 (some .int)) ⟨2, 0, 0, 44⟩ 0 0 1 := cwV 1 ht (lw_V q1979 q1981 qs85 q126 q1982) rfl rfl rfl hd_X5_echoed hR
theorem hd_X5_makes : yX5_makes.cls = RX5 ∧ yX5_makes.cls ≠ "java/lang/invoke/MethodHandle" ∧ yX5_makes.cls ≠ "java/lang/invoke/VarHandle" ∧ (parseMethodDescriptor yX5_makes.desc).map (fun d => d.parameters.length) = some 1 := by decide +kernel
theorem cw_X5_270 {R : Room} {s : State} {args : Array Value} (ht : ∀ w ∈ lw_all, w.before args s = true) (hR : 4 + 1 ≤ R.frames ∧ 8 + (5 + 11) + 90 ≤ R.locals) : CallW R s args "OneDrumModel" RX5 270 yX5_makes cX5_makes 5 none (ws_ yX5_makes cX5_makes 5 none) ⟨4, 0, 0, 90⟩ 0 0 1 := cwV 1 ht (lw_V q1971 q1973 qs83 q126 q1974) rfl rfl rfl hd_X5_makes hR
theorem hd_X5_purity : yX5_purity.cls = RX5 ∧ yX5_purity.cls ≠ "java/lang/invoke/MethodHandle" ∧ yX5_purity.cls ≠ "java/lang/invoke/VarHandle" ∧ (parseMethodDescriptor yX5_purity.desc).map (fun d => d.parameters.length) = some 2 := by decide +kernel
theorem cw_X5_276 {R : Room} {s : State} {args : Array Value} (ht : ∀ w ∈ lw_all, w.before args s = true) (hR : 2 + 1 ≤ R.frames ∧ 8 + (6 + 11) + 44 ≤ R.locals) : CallW R s args "OneDrumModel" RX5 276 yX5_purity cX5_purity 6 (some .int) (ws_ yX5_purity cX5_purity 6 (some .int)) ⟨2, 0, 0, 44⟩ 0 0 2 := cwV 2 ht (lw_V q1983 q1985 qs86 q126 q1986) rfl rfl rfl hd_X5_purity hR
set_option maxHeartbeats 4000000 in
theorem tX5_made (l : Launch) (G : GG) (ad : Nat → Nat) (σ : St) (k : Int) (s0 : Int) (army : Int) (j : Int) (what : Int) (hr0 : -2147483648 ≤ k ∧ k < 2147483648 ∧ -2147483648 ≤ s0 ∧ s0 < 2147483648 ∧ -2147483648 ≤ army ∧ army < 2147483648 ∧ -2147483648 ≤ j ∧ j < 2147483648 ∧ -2147483648 ≤ what ∧ what < 2147483648) (hdb : WfDB (σ 0)) : Met l yX5_made (ws_ yX5_made cX5_made 7 (some .int)) ⟨5, 0, 0, 114⟩ (wPre G shM ad σ (fun _ => True) [.ref (ad 0), .int (iI k), .int (iI s0), .int (iI army), .int (iI j), .int (iI what)]) (qS G shM ad (aM ad) (rI (fun r σ' => (r = sMade (σ 0) k s0 army j what) ∧ (same [10, 11, 12, 13, 14, 15, 16, 17, 18, 19, 20, 21, 22, 23] σ σ')))) 0 0 (aM ad) := by
  refine wStart (by decide) (Nat.le_of_ble_eq_true rfl) (fun k hk => ⟨k, hk, rfl⟩) (fun p e s m below meth c S hr hlk _ _ ls hW hl => ?_)
  have hl : lv_has ls 7 [(0, .ref (ad 0)), (1, .int (iI k)), (2, .int (iI s0)), (3, .int (iI army)), (4, .int (iI j)), (5, .int (iI what))] := hl
  have d0 := hdb.1
  have d1 := hdb.2.1
  have d2 := hdb.2.2.1
  have d3 := hdb.2.2.2.1
  refine lv_aload_n S.1 S.2.1 dX5_made_0 rfl (lv_at hl 0 rfl) ?_
  refine lv_iload_n S.1 S.2.1 dX5_made_1 rfl (lv_at hl 1 rfl) ?_
  refine lv_iload_n S.1 S.2.1 dX5_made_2 rfl (lv_at hl 2 rfl) ?_
  refine c_VSz S hW (tX5_arePlayed l G ad σ k s0 (by omega) (by omega)) (cw_X5_255 S.2.2.2.2 ⟨Nat.le_of_ble_eq_true rfl, Nat.le_of_ble_eq_true rfl⟩) eBlind_T (fun _ _ _ => trivial) (w_recv hW (q0 := 0) rfl rfl) rfl hl.1 (rest := []) rfl (Nat.le_of_ble_eq_true rfl) dX5_made_3 ⟨Nat.le_of_ble_eq_true rfl, Nat.le_of_ble_eq_true rfl⟩ (fun r3 σ3 H locs q3 hW => ?_)
  obtain ⟨rfl, q3_sm, q3_pl⟩ := q3
  have e0 : σ3 0 = σ 0 := q3_sm 0 (by decide)
  refine r_ifeq_p S (tgt := 16) dX5_made_6 rfl (fun c_6 => ?_) (fun c_6 => ?_)
  ·
    refine r_bipush S dX5_made_16 (by decide) ?_
    exact e_iS S hr hlk hW ⟨(-2), rfl, ⟨(by unfold sMade; first | rw [if_neg (fun z => absurd (dP_t.mp z) (by assumption))] | (rw [if_pos (dP_t.mpr ws9)]; unfold sMade2; rw [if_neg (by omega)])), (by first | exact same_w q3_sm (by decide) | exact same_tr (same_w q3_sm (by decide)) q21_sm (by decide))⟩⟩ dX5_made_18
  ·
    obtain ⟨w10, pl⟩ := q3_pl (by first | exact c_6 | assumption)
    have ws9 : inWS (σ 0) k s0 := by first | exact c_6 | assumption
    have hWf := hdb.2.2.2.2.2.2.2.2.1 k (by unfold inWS at ws9; omega) (by unfold inWS at ws9; omega)
    have hg := hdb.2.2.2.2.2.2.2.2.2.1 s0 (by unfold inWS at ws9; omega) (by unfold inWS at ws9; omega)
    have w10b : σ3 10 0 = 610 ∨ σ3 10 0 = 699 := by unfold inWS at ws9; omega
    have wq : wr σ3 = wAt (σ 0) k := wr_at e0 w10
    have n18 := pl.1
    have hL9 := rowG_len hWf hg
    have hg00 := (hg 0 (by omega) (by omega)).1
    have hg11 := (hg 1 (by omega) (by omega)).1
    obtain ⟨LL, eLL⟩ : ∃ z, z = rowG (wAt (σ 0) k) (gAt (σ 0) s0) := ⟨_, rfl⟩
    have hLr := rowG_V (w := wAt (σ 0) k) hg
    have hLg := (rowL_V (t := (wAt (σ 0) k 0).toNat) (gl_mem hg (x := 0) (by omega)) (gl_mem hg (x := 1) (by omega))).2
    have w10c : 0 ≤ σ3 10 0 ∧ σ3 10 0 ≤ 700 := by omega
    have sn9 : fil σ3 16 (rowG (wAt (σ 0) k) (gAt (σ 0) s0)).length (sd (wr σ3) (rf (rowG (wAt (σ 0) k) (gAt (σ 0) s0))) 0) := by rw [wq]; exact pl.2.2.1
    have l24 : (rowG (wAt (σ 0) k) (gAt (σ 0) s0)).length ≤ 24 := by omega
    refine lv_iload_n S.1 S.2.1 dX5_made_9 rfl (lv_at hl 3 rfl) ?_
    refine c_SPw S hW (tX5_isArmy l army (by omega)) (cw_X5_218 S.2.2.2.2 ⟨Nat.le_of_ble_eq_true rfl, Nat.le_of_ble_eq_true rfl⟩) rfl hl.1 (rest := []) rfl (Nat.le_of_ble_eq_true rfl) dX5_made_10 ⟨Nat.le_of_ble_eq_true rfl, Nat.le_of_ble_eq_true rfl⟩ (fun locs hW => ?_)
    refine r_ifne_p S (tgt := 19) dX5_made_13 rfl (fun c_13 => ?_) (fun c_13 => ?_)
    ·
      refine lv_aload_n S.1 S.2.1 dX5_made_19 rfl (lv_at hl 0 rfl) ?_
      refine lv_iload_n S.1 S.2.1 dX5_made_20 rfl (lv_at hl 3 rfl) ?_
      refine c_VSv S hW (tX5_makes l G ad σ3 army (rowG (wAt (σ 0) k) (gAt (σ 0) s0)) 0 (w10c) (by omega) (by rw [wq]; exact hWf) (n18) (l24) (hLr) (sn9)) (cw_X5_270 S.2.2.2.2 ⟨Nat.le_of_ble_eq_true rfl, Nat.le_of_ble_eq_true rfl⟩) eBlind_T (fun _ _ _ => trivial) (w_recv hW (q0 := 0) rfl rfl) rfl hl.1 (rest := []) rfl (Nat.le_of_ble_eq_true rfl) dX5_made_21 ⟨Nat.le_of_ble_eq_true rfl, Nat.le_of_ble_eq_true rfl⟩ (fun σ21 H locs q21 hW => ?_)
      obtain ⟨q21_mad, q21_oth, q21_sm⟩ := q21
      have f0 := q21_sm 0 (by decide)
      have f10 := q21_sm 10 (by decide)
      have f16 := q21_sm 16 (by decide)
      have f17 := q21_sm 17 (by decide)
      have f15 := q21_sm 15 (by decide)
      have f18 := q21_sm 18 (by decide)
      have wq2 : wr σ21 = wAt (σ 0) k := by rw [← wq]; funext j; simp only [wr, f0, f10]
      rw [wq] at q21_mad
      have hA := hWf.2.2.2.2 army (by omega) (by omega)
      have hM := mvs_len (s := 0) hA l24
      have md1 := q21_mad.1
      have md2 := q21_mad.2.1
      have f10b : σ21 10 0 = σ3 10 0 := by rw [f10]
      have n18b : σ21 18 0 = (rowG (wAt (σ 0) k) (gAt (σ 0) s0)).length := by rw [f18]; exact n18
      have snb : fil σ21 16 (rowG (wAt (σ 0) k) (gAt (σ 0) s0)).length (sd (wr σ21) (rf (rowG (wAt (σ 0) k) (gAt (σ 0) s0))) 0) := by rw [wq2]; exact fil_eq pl.2.2.1 f16
      refine lv_iload S.1 S.2.1 dX5_made_24 (lv_at hl 4 rfl) ?_
      refine r_iconst S dX5_made_26 ?_
      refine r_icmp_ne S (tgt := 76) dX5_made_27 rfl (by omega) (fun c_27 => ?_) (fun c_27 => ?_)
      ·
        refine lv_iload S.1 S.2.1 dX5_made_76 (lv_at hl 4 rfl) ?_
        refine r_iconst S dX5_made_78 ?_
        refine lv_aload_n S.1 S.2.1 dX5_made_79 rfl (lv_at hl 0 rfl) ?_
        refine w_getr S hW in_X5 0 rfl rfl 22 (by decide) q1673 rfl rfl dX5_made_80 ?_
        refine lv_iload_n S.1 S.2.1 dX5_made_83 rfl (lv_at hl 3 rfl) ?_
        refine w_ald S hW 13 0 rfl rfl (by omega) dX5_made_84 ?_
        refine r_iconst S dX5_made_85 ?_
        refine r_isub S dX5_made_86 ?_
        refine c_SPw S hW (tX5_isIn l j 0 ((σ21 22 army) - 1) (by omega)) (cw_X5_145 S.2.2.2.2 ⟨Nat.le_of_ble_eq_true rfl, Nat.le_of_ble_eq_true rfl⟩) rfl hl.1 (rest := []) rfl (Nat.le_of_ble_eq_true rfl) dX5_made_87 ⟨Nat.le_of_ble_eq_true rfl, Nat.le_of_ble_eq_true rfl⟩ (fun locs hW => ?_)
        refine r_ifne_p S (tgt := 96) dX5_made_90 rfl (fun c_90 => ?_) (fun c_90 => ?_)
        ·
          have hE := q21_mad.2.2 j (by omega) (by omega)
          refine r_bipush S dX5_made_96 (by decide) ?_
          refine lv_iload_n S.1 S.2.1 dX5_made_98 rfl (lv_at hl 3 rfl) ?_
          refine r_imul S dX5_made_99 ?_
          refine lv_iload S.1 S.2.1 dX5_made_100 (lv_at hl 4 rfl) ?_
          refine r_iadd S dX5_made_102 ?_
          refine lv_istore (lv' := [(6, .int (iI ((24 * army) + j))), (0, .ref (ad 0)), (1, .int (iI k)), (2, .int (iI s0)), (3, .int (iI army)), (4, .int (iI j)), (5, .int (iI what))]) S.1 S.2.1 dX5_made_103 hl (by decide) rfl (fun ls hl => ?_)
          refine lv_iload S.1 S.2.1 dX5_made_105 (lv_at hl 6 rfl) ?_
          have sw_107 : what = 0 ∨ what = 1 ∨ what = 2 ∨ what = 3 ∨ (what < 0 ∨ 3 < what) := by omega
          rcases sw_107 with c_107 | c_107 | c_107 | c_107 | c_107
          ·
            refine r_tabIn S (tgt := 136) dX5_made_107 (by omega) 0 c_107 (by decide) (by decide) rfl rfl ?_
            refine lv_aload_n S.1 S.2.1 dX5_made_136 rfl (lv_at hl 1 rfl) ?_
            refine w_getr S hW in_X5 0 rfl rfl 19 (by decide) q1670 rfl rfl dX5_made_137 ?_
            refine lv_iload S.1 S.2.1 dX5_made_140 (lv_at hl 0 rfl) ?_
            refine w_ald S hW 10 0 rfl rfl (by omega) dX5_made_142 ?_
            exact e_iS S hr hlk hW ⟨(σ21 19 ((24 * army) + j)), rfl, ⟨(by unfold sMade sMade2; rw [if_pos (dP_t.mpr ws9), if_pos (by omega), if_neg (by omega), if_pos (by omega), c_107]; exact hE.1), (by first | exact same_w q3_sm (by decide) | exact same_tr (same_w q3_sm (by decide)) q21_sm (by decide))⟩⟩ dX5_made_143
          ·
            refine r_tabIn S (tgt := 144) dX5_made_107 (by omega) 1 c_107 (by decide) (by decide) rfl rfl ?_
            refine lv_aload_n S.1 S.2.1 dX5_made_144 rfl (lv_at hl 1 rfl) ?_
            refine lv_iload_n S.1 S.2.1 dX5_made_145 rfl (lv_at hl 4 rfl) ?_
            refine lv_aload_n S.1 S.2.1 dX5_made_146 rfl (lv_at hl 1 rfl) ?_
            refine w_getr S hW in_X5 0 rfl rfl 21 (by decide) q1672 rfl rfl dX5_made_147 ?_
            refine lv_iload S.1 S.2.1 dX5_made_150 (lv_at hl 0 rfl) ?_
            refine w_ald S hW 12 0 rfl rfl (by omega) dX5_made_152 ?_
            refine c_VP S hW (tX5_placeHeard l G ad σ21 army (σ21 21 ((24 * army) + j)) (by omega) (by omega)) (cw_X5_258 S.2.2.2.2 ⟨Nat.le_of_ble_eq_true rfl, Nat.le_of_ble_eq_true rfl⟩) eBlind_T (fun _ _ _ => trivial) (w_recv hW (q0 := 0) rfl rfl) rfl hl.1 (rest := []) rfl (Nat.le_of_ble_eq_true rfl) dX5_made_153 ⟨Nat.le_of_ble_eq_true rfl, Nat.le_of_ble_eq_true rfl⟩ (fun locs hW => ?_)
            exact e_iS S hr hlk hW ⟨(plc (wr σ21) army (σ21 21 ((24 * army) + j))), rfl, ⟨(by unfold sMade sMade2; rw [if_pos (dP_t.mpr ws9), if_pos (by omega), if_neg (by omega), if_pos (by omega), c_107, wq2, hE.2.2]; rfl), (by first | exact same_w q3_sm (by decide) | exact same_tr (same_w q3_sm (by decide)) q21_sm (by decide))⟩⟩ dX5_made_156
          ·
            refine r_tabIn S (tgt := 157) dX5_made_107 (by omega) 2 c_107 (by decide) (by decide) rfl rfl ?_
            refine lv_aload_n S.1 S.2.1 dX5_made_157 rfl (lv_at hl 1 rfl) ?_
            refine w_getr S hW in_X5 0 rfl rfl 20 (by decide) q1671 rfl rfl dX5_made_158 ?_
            refine lv_iload S.1 S.2.1 dX5_made_161 (lv_at hl 0 rfl) ?_
            refine w_ald S hW 11 0 rfl rfl (by omega) dX5_made_163 ?_
            exact e_iS S hr hlk hW ⟨(σ21 20 ((24 * army) + j)), rfl, ⟨(by unfold sMade sMade2; rw [if_pos (dP_t.mpr ws9), if_pos (by omega), if_neg (by omega), if_pos (by omega), c_107]; exact hE.2.1), (by first | exact same_w q3_sm (by decide) | exact same_tr (same_w q3_sm (by decide)) q21_sm (by decide))⟩⟩ dX5_made_164
          ·
            refine r_tabIn S (tgt := 165) dX5_made_107 (by omega) 3 c_107 (by decide) (by decide) rfl rfl ?_
            refine lv_aload_n S.1 S.2.1 dX5_made_165 rfl (lv_at hl 1 rfl) ?_
            refine lv_iload_n S.1 S.2.1 dX5_made_166 rfl (lv_at hl 4 rfl) ?_
            refine lv_iload S.1 S.2.1 dX5_made_167 (lv_at hl 0 rfl) ?_
            refine c_VP S hW (tX5_purity l G ad σ21 army ((24 * army) + j) (rowG (wAt (σ 0) k) (gAt (σ 0) s0)) 0 j (by omega) (by omega) (by rw [wq2]; exact hWf) (n18b) (l24) (hLr) (snb) (fil_eq pl.2.1.2 f15) (hLg) (by rw [wq2]; exact q21_mad) (by rw [wq2]; omega)) (cw_X5_276 S.2.2.2.2 ⟨Nat.le_of_ble_eq_true rfl, Nat.le_of_ble_eq_true rfl⟩) eBlind_T (fun _ _ _ => trivial) (w_recv hW (q0 := 0) rfl rfl) rfl hl.1 (rest := []) rfl (Nat.le_of_ble_eq_true rfl) dX5_made_169 ⟨Nat.le_of_ble_eq_true rfl, Nat.le_of_ble_eq_true rfl⟩ (fun locs hW => ?_)
            exact e_iS S hr hlk hW ⟨(pur (wr σ21) (rowG (wAt (σ 0) k) (gAt (σ 0) s0)) army (rf (mvs (wr σ21) (rowG (wAt (σ 0) k) (gAt (σ 0) s0)) 0 army) j) (rg (mvs (wr σ21) (rowG (wAt (σ 0) k) (gAt (σ 0) s0)) 0 army) j)), rfl, ⟨(by unfold sMade sMade2; rw [if_pos (dP_t.mpr ws9), if_pos (by omega), if_neg (by omega), if_pos (by omega), c_107, wq2]; rfl), (by first | exact same_w q3_sm (by decide) | exact same_tr (same_w q3_sm (by decide)) q21_sm (by decide))⟩⟩ dX5_made_172
          ·
            refine r_tabOut S (tgt := 173) dX5_made_107 (by omega) c_107 rfl ?_
            refine r_bipush S dX5_made_173 (by decide) ?_
            exact e_iS S hr hlk hW ⟨(-2), rfl, ⟨(by unfold sMade sMade2; rw [if_pos (dP_t.mpr ws9), if_pos (by omega), if_neg (by omega), if_pos (by omega), if_neg (by omega), if_neg (by omega), if_neg (by omega), if_neg (by omega)]), (by first | exact same_w q3_sm (by decide) | exact same_tr (same_w q3_sm (by decide)) q21_sm (by decide))⟩⟩ dX5_made_175
        ·
          refine r_bipush S dX5_made_93 (by decide) ?_
          exact e_iS S hr hlk hW ⟨(-2), rfl, ⟨(by unfold sMade sMade2; rw [if_pos (dP_t.mpr ws9), if_pos (by omega), if_neg (by omega), if_neg (by omega)]), (by first | exact same_w q3_sm (by decide) | exact same_tr (same_w q3_sm (by decide)) q21_sm (by decide))⟩⟩ dX5_made_95
      ·
        refine lv_iload S.1 S.2.1 dX5_made_30 (lv_at hl 5 rfl) ?_
        refine r_if_ne S (tgt := 44) dX5_made_32 rfl (by omega) (fun c_32 => ?_) (fun c_32 => ?_)
        ·
          refine lv_iload S.1 S.2.1 dX5_made_44 (lv_at hl 5 rfl) ?_
          refine r_iconst S dX5_made_46 ?_
          refine r_icmp_ne S (tgt := 59) dX5_made_47 rfl (by omega) (fun c_47 => ?_) (fun c_47 => ?_)
          ·
            refine lv_iload S.1 S.2.1 dX5_made_59 (lv_at hl 5 rfl) ?_
            refine r_iconst S dX5_made_61 ?_
            refine r_icmp_ne S (tgt := 73) dX5_made_62 rfl (by omega) (fun c_62 => ?_) (fun c_62 => ?_)
            ·
              refine r_bipush S dX5_made_73 (by decide) ?_
              exact e_iS S hr hlk hW ⟨(-2), rfl, ⟨(by unfold sMade sMade2; rw [if_pos (dP_t.mpr ws9), if_pos (by omega), if_pos (by omega)]; first | (rw [if_pos (by omega)]; exact md1) | (rw [if_neg (by omega), if_pos (by omega)]; exact md2) | (rw [if_neg (by omega), if_neg (by omega), if_pos (by omega), wq2]) | (rw [if_neg (by omega), if_neg (by omega), if_neg (by omega)])), (by first | exact same_w q3_sm (by decide) | exact same_tr (same_w q3_sm (by decide)) q21_sm (by decide))⟩⟩ dX5_made_75
            ·
              refine lv_aload_n S.1 S.2.1 dX5_made_65 rfl (lv_at hl 0 rfl) ?_
              refine lv_iload_n S.1 S.2.1 dX5_made_66 rfl (lv_at hl 3 rfl) ?_
              refine c_VP S hW (tX5_echoed l G ad σ21 army (rowG (wAt (σ 0) k) (gAt (σ 0) s0)) 0 (by omega) (by omega) (by rw [wq2]; exact hWf) (n18b) (l24) (hLr) (snb) (by rw [wq2]; exact fil_eq pl.2.2.2 f17) (by rw [wq2]; exact q21_mad)) (cw_X5_273 S.2.2.2.2 ⟨Nat.le_of_ble_eq_true rfl, Nat.le_of_ble_eq_true rfl⟩) eBlind_T (fun _ _ _ => trivial) (w_recv hW (q0 := 0) rfl rfl) rfl hl.1 (rest := []) rfl (Nat.le_of_ble_eq_true rfl) dX5_made_67 ⟨Nat.le_of_ble_eq_true rfl, Nat.le_of_ble_eq_true rfl⟩ (fun locs hW => ?_)
              refine lv_goto (tgt := 75) S.1 S.2.1 dX5_made_70 rfl ?_
              exact e_iS S hr hlk hW ⟨(ecn (wr σ21) (rowG (wAt (σ 0) k) (gAt (σ 0) s0)) 0 army), rfl, ⟨(by unfold sMade sMade2; rw [if_pos (dP_t.mpr ws9), if_pos (by omega), if_pos (by omega)]; first | (rw [if_pos (by omega)]; exact md1) | (rw [if_neg (by omega), if_pos (by omega)]; exact md2) | (rw [if_neg (by omega), if_neg (by omega), if_pos (by omega), wq2]) | (rw [if_neg (by omega), if_neg (by omega), if_neg (by omega)])), (by first | exact same_w q3_sm (by decide) | exact same_tr (same_w q3_sm (by decide)) q21_sm (by decide))⟩⟩ dX5_made_75
          ·
            refine lv_aload_n S.1 S.2.1 dX5_made_50 rfl (lv_at hl 0 rfl) ?_
            refine w_getr S hW in_X5 0 rfl rfl 23 (by decide) q1674 rfl rfl dX5_made_51 ?_
            refine lv_iload_n S.1 S.2.1 dX5_made_54 rfl (lv_at hl 3 rfl) ?_
            refine w_ald S hW 14 0 rfl rfl (by omega) dX5_made_55 ?_
            refine lv_goto (tgt := 75) S.1 S.2.1 dX5_made_56 rfl ?_
            exact e_iS S hr hlk hW ⟨(σ21 23 army), rfl, ⟨(by unfold sMade sMade2; rw [if_pos (dP_t.mpr ws9), if_pos (by omega), if_pos (by omega)]; first | (rw [if_pos (by omega)]; exact md1) | (rw [if_neg (by omega), if_pos (by omega)]; exact md2) | (rw [if_neg (by omega), if_neg (by omega), if_pos (by omega), wq2]) | (rw [if_neg (by omega), if_neg (by omega), if_neg (by omega)])), (by first | exact same_w q3_sm (by decide) | exact same_tr (same_w q3_sm (by decide)) q21_sm (by decide))⟩⟩ dX5_made_75
        ·
          refine lv_aload_n S.1 S.2.1 dX5_made_35 rfl (lv_at hl 0 rfl) ?_
          refine w_getr S hW in_X5 0 rfl rfl 22 (by decide) q1673 rfl rfl dX5_made_36 ?_
          refine lv_iload_n S.1 S.2.1 dX5_made_39 rfl (lv_at hl 3 rfl) ?_
          refine w_ald S hW 13 0 rfl rfl (by omega) dX5_made_40 ?_
          refine lv_goto (tgt := 75) S.1 S.2.1 dX5_made_41 rfl ?_
          exact e_iS S hr hlk hW ⟨(σ21 22 army), rfl, ⟨(by unfold sMade sMade2; rw [if_pos (dP_t.mpr ws9), if_pos (by omega), if_pos (by omega)]; first | (rw [if_pos (by omega)]; exact md1) | (rw [if_neg (by omega), if_pos (by omega)]; exact md2) | (rw [if_neg (by omega), if_neg (by omega), if_pos (by omega), wq2]) | (rw [if_neg (by omega), if_neg (by omega), if_neg (by omega)])), (by first | exact same_w q3_sm (by decide) | exact same_tr (same_w q3_sm (by decide)) q21_sm (by decide))⟩⟩ dX5_made_75
    ·
      refine r_bipush S dX5_made_16 (by decide) ?_
      exact e_iS S hr hlk hW ⟨(-2), rfl, ⟨(by unfold sMade; first | rw [if_neg (fun z => absurd (dP_t.mp z) (by assumption))] | (rw [if_pos (dP_t.mpr ws9)]; unfold sMade2; rw [if_neg (by omega)])), (by first | exact same_w q3_sm (by decide) | exact same_tr (same_w q3_sm (by decide)) q21_sm (by decide))⟩⟩ dX5_made_18
set_option maxHeartbeats 4000000 in
theorem tX5_moveAt (l : Launch) (G : GG) (ad : Nat → Nat) (σ : St) (army : Int) (t : Int) (L : List (Int × Int)) (s1 : Int) (hw0 : 0 ≤ σ 10 0 ∧ σ 10 0 ≤ 700) (ha : 0 ≤ army ∧ army ≤ 1) (hA : WfArmy (wr σ) army) (hL : L.length ≤ 24) (hmd : Mad σ (wr σ) L s1 army) (ht : 0 ≤ t ∧ t ≤ 25) : Met l yX5_moveAt (ws_ yX5_moveAt cX5_moveAt 4 (some .int)) ⟨1, 0, 0, 22⟩ (wPre G shM ad σ (fun _ => True) [.ref (ad 0), .int (iI army), .int (iI t)]) (qP (.int (iI (mvA (wr σ) L s1 army t)))) 0 0 (aM ad) := by
  refine wStart (by decide) (Nat.le_of_ble_eq_true rfl) (fun k hk => ⟨k, hk, rfl⟩) (fun p e s m below meth c S hr hlk _ _ ls hW hl => ?_)
  have hl : lv_has ls 4 [(0, .ref (ad 0)), (1, .int (iI army)), (2, .int (iI t))] := hl
  have hM := mvs_len (s := s1) hA hL
  have hm0 := hmd.1
  have hlg := hA.2.2.1
  refine lv_iload_n S.1 S.2.1 dX5_moveAt_0 rfl (lv_at hl 2 rfl) ?_
  refine r_iconst S dX5_moveAt_1 ?_
  refine r_isub S dX5_moveAt_2 ?_
  refine lv_aload_n S.1 S.2.1 dX5_moveAt_3 rfl (lv_at hl 0 rfl) ?_
  refine r_bipush S dX5_moveAt_4 (by decide) ?_
  refine lv_iload_n S.1 S.2.1 dX5_moveAt_6 rfl (lv_at hl 1 rfl) ?_
  refine r_iadd S dX5_moveAt_7 ?_
  refine c_VP S hW (tX5_of l G ad σ (11 + army) (by omega)) (cw_X5_212 S.2.2.2.2 ⟨Nat.le_of_ble_eq_true rfl, Nat.le_of_ble_eq_true rfl⟩) eBlind_T (fun _ _ _ => trivial) (w_recv hW (q0 := 0) rfl rfl) rfl hl.1 (rest := [.int (iI (t - 1))]) rfl (Nat.le_of_ble_eq_true rfl) dX5_moveAt_8 ⟨Nat.le_of_ble_eq_true rfl, Nat.le_of_ble_eq_true rfl⟩ (fun locs hW => ?_)
  refine r_isub S dX5_moveAt_11 ?_
  refine lv_istore_n (lv' := [(3, .int (iI ((t - 1) - (wr σ (11 + army))))), (0, .ref (ad 0)), (1, .int (iI army)), (2, .int (iI t))]) S.1 S.2.1 dX5_moveAt_12 rfl hl (by decide) rfl (fun ls hl => ?_)
  refine lv_iload_n S.1 S.2.1 dX5_moveAt_13 rfl (lv_at hl 0 rfl) ?_
  refine r_iconst S dX5_moveAt_14 ?_
  refine lv_aload_n S.1 S.2.1 dX5_moveAt_15 rfl (lv_at hl 1 rfl) ?_
  refine w_getr S hW in_X5 0 rfl rfl 22 (by decide) q1673 rfl rfl dX5_moveAt_16 ?_
  refine lv_iload_n S.1 S.2.1 dX5_moveAt_19 rfl (lv_at hl 2 rfl) ?_
  refine w_ald S hW 13 0 rfl rfl (by omega) dX5_moveAt_20 ?_
  refine r_iconst S dX5_moveAt_21 ?_
  refine r_isub S dX5_moveAt_22 ?_
  refine c_SPw S hW (tX5_isIn l ((t - 1) - (wr σ (11 + army))) 0 ((σ 22 army) - 1) (by omega)) (cw_X5_145 S.2.2.2.2 ⟨Nat.le_of_ble_eq_true rfl, Nat.le_of_ble_eq_true rfl⟩) rfl hl.1 (rest := []) rfl (Nat.le_of_ble_eq_true rfl) dX5_moveAt_23 ⟨Nat.le_of_ble_eq_true rfl, Nat.le_of_ble_eq_true rfl⟩ (fun locs hW => ?_)
  refine r_ifeq_p S (tgt := 43) dX5_moveAt_26 rfl (fun c_26 => ?_) (fun c_26 => ?_)
  ·
    refine r_iconst S dX5_moveAt_43 ?_
    exact e_iP S hr hlk hW.2.2.2.2 (by unfold mvA; first | rw [if_neg (by omega)] | (rw [if_pos (by omega)]; exact hE.1)) dX5_moveAt_44
  ·
    have hE := hmd.2.2 (t - 1 - wr σ (11 + army)) (by omega) (by omega)
    refine lv_aload_n S.1 S.2.1 dX5_moveAt_29 rfl (lv_at hl 1 rfl) ?_
    refine w_getr S hW in_X5 0 rfl rfl 19 (by decide) q1670 rfl rfl dX5_moveAt_30 ?_
    refine r_bipush S dX5_moveAt_33 (by decide) ?_
    refine lv_iload_n S.1 S.2.1 dX5_moveAt_35 rfl (lv_at hl 2 rfl) ?_
    refine r_imul S dX5_moveAt_36 ?_
    refine lv_iload_n S.1 S.2.1 dX5_moveAt_37 rfl (lv_at hl 0 rfl) ?_
    refine r_iadd S dX5_moveAt_38 ?_
    refine w_ald S hW 10 0 rfl rfl (by omega) dX5_moveAt_39 ?_
    refine lv_goto (tgt := 44) S.1 S.2.1 dX5_moveAt_40 rfl ?_
    exact e_iP S hr hlk hW.2.2.2.2 (by unfold mvA; first | rw [if_neg (by omega)] | (rw [if_pos (by omega)]; exact hE.1)) dX5_moveAt_44
theorem hd_X5_moveAt : yX5_moveAt.cls = RX5 ∧ yX5_moveAt.cls ≠ "java/lang/invoke/MethodHandle" ∧ yX5_moveAt.cls ≠ "java/lang/invoke/VarHandle" ∧ (parseMethodDescriptor yX5_moveAt.desc).map (fun d => d.parameters.length) = some 2 := by decide +kernel
theorem cw_X5_279 {R : Room} {s : State} {args : Array Value} (ht : ∀ w ∈ lw_all, w.before args s = true) (hR : 1 + 1 ≤ R.frames ∧ 8 + (4 + 11) + 22 ≤ R.locals) : CallW R s args "OneDrumModel" RX5 279 yX5_moveAt cX5_moveAt 4 (some .int) (ws_ yX5_moveAt cX5_moveAt 4 (some .int)) ⟨1, 0, 0, 22⟩ 0 0 2 := cwV 2 ht (lw_V q2003 q2005 qs90 q126 q2006) rfl rfl rfl hd_X5_moveAt hR
set_option maxHeartbeats 4000000 in
theorem tX5_goesTo (l : Launch) (G : GG) (ad : Nat → Nat) (σ : St) (army : Int) (t : Int) (L : List (Int × Int)) (s1 : Int) (hw0 : 0 ≤ σ 10 0 ∧ σ 10 0 ≤ 700) (ha : 0 ≤ army ∧ army ≤ 1) (hA : WfArmy (wr σ) army) (hL : L.length ≤ 24) (hmd : Mad σ (wr σ) L s1 army) (ht : 0 ≤ t ∧ t ≤ 25) (hp : -100 ≤ σ 24 0 ∧ σ 24 0 ≤ 100 ∧ -100 ≤ σ 24 1 ∧ σ 24 1 ≤ 100) : Met l yX5_goesTo (ws_ yX5_goesTo cX5_goesTo 7 (some .int)) ⟨2, 0, 0, 45⟩ (wPre G shM ad σ (fun _ => True) [.ref (ad 0), .int (iI army), .int (iI t)]) (qP (.int (iI (goA (mvA (wr σ) L s1 army t) army (σ 24 army) (σ 24 (1 - army)))))) 0 0 (aM ad) := by
  refine wStart (by decide) (Nat.le_of_ble_eq_true rfl) (fun k hk => ⟨k, hk, rfl⟩) (fun p e s m below meth c S hr hlk _ _ ls hW hl => ?_)
  have hl : lv_has ls 7 [(0, .ref (ad 0)), (1, .int (iI army)), (2, .int (iI t))] := hl
  have hm := mvA_rng (L := L) (s := s1) (t := t) hA
  have hpa : (-100 ≤ σ 24 army ∧ σ 24 army ≤ 100) ∧ (-100 ≤ σ 24 (1 - army) ∧ σ 24 (1 - army) ≤ 100) := by rcases (show army = 0 ∨ army = 1 by omega) with rfl | rfl <;> simp <;> omega
  have hsg := sgn_rng (σ 24 (1 - army) - σ 24 army)
  refine lv_aload_n S.1 S.2.1 dX5_goesTo_0 rfl (lv_at hl 0 rfl) ?_
  refine w_getr S hW in_X5 0 rfl rfl 24 (by decide) q1675 rfl rfl dX5_goesTo_1 ?_
  refine lv_iload_n S.1 S.2.1 dX5_goesTo_4 rfl (lv_at hl 1 rfl) ?_
  refine w_ald S hW 15 0 rfl rfl (by omega) dX5_goesTo_5 ?_
  refine lv_istore_n (lv' := [(3, .int (iI (σ 24 army))), (0, .ref (ad 0)), (1, .int (iI army)), (2, .int (iI t))]) S.1 S.2.1 dX5_goesTo_6 rfl hl (by decide) rfl (fun ls hl => ?_)
  refine lv_aload_n S.1 S.2.1 dX5_goesTo_7 rfl (lv_at hl 1 rfl) ?_
  refine w_getr S hW in_X5 0 rfl rfl 24 (by decide) q1675 rfl rfl dX5_goesTo_8 ?_
  refine r_iconst S dX5_goesTo_11 ?_
  refine lv_iload_n S.1 S.2.1 dX5_goesTo_12 rfl (lv_at hl 2 rfl) ?_
  refine r_isub S dX5_goesTo_13 ?_
  refine w_ald S hW 15 0 rfl rfl (by omega) dX5_goesTo_14 ?_
  refine lv_iload_n S.1 S.2.1 dX5_goesTo_15 rfl (lv_at hl 0 rfl) ?_
  refine r_isub S dX5_goesTo_16 ?_
  refine lv_istore (lv' := [(4, .int (iI ((σ 24 (1 - army)) - (σ 24 army)))), (3, .int (iI (σ 24 army))), (0, .ref (ad 0)), (1, .int (iI army)), (2, .int (iI t))]) S.1 S.2.1 dX5_goesTo_17 hl (by decide) rfl (fun ls hl => ?_)
  have cut_39 : ∀ (locs : List Loc) (ls : Array Slot), WD G shM ad (aM ad) s s.heap σ s.heap locs → lv_has ls 7 [(4, .int (iI ((σ 24 (1 - army)) - (σ 24 army)))), (3, .int (iI (σ 24 army))), (0, .ref (ad 0)), (1, .int (iI army)), (2, .int (iI t))] → W p l e (⟨2, 0, 0, 45⟩ : Room) s m ([.ref (ad 0), .int (iI army), .int (iI t)] : List Value).toArray below meth c s.heap locs 0 0 (MQ below (qP (.int (iI (goA (mvA (wr σ) L s1 army t) army (σ 24 army) (σ 24 (1 - army)))))) ([.ref (ad 0), .int (iI army), .int (iI t)] : List Value).toArray s 0 0 (aM ad)) (F0 m 39 ls [.int (iI (2 * sgn (σ 24 (1 - army) - σ 24 army)))]) := by
    intro locs ls hW hl
    refine lv_istore (lv' := [(5, .int (iI (2 * sgn (σ 24 (1 - army) - σ 24 army)))), (4, .int (iI ((σ 24 (1 - army)) - (σ 24 army)))), (3, .int (iI (σ 24 army))), (0, .ref (ad 0)), (1, .int (iI army)), (2, .int (iI t))]) S.1 S.2.1 dX5_goesTo_39 hl (by decide) rfl (fun ls hl => ?_)
    have cut_70 : ∀ (locs : List Loc) (ls : Array Slot), WD G shM ad (aM ad) s s.heap σ s.heap locs → lv_has ls 7 [(5, .int (iI (2 * sgn (σ 24 (1 - army) - σ 24 army)))), (4, .int (iI ((σ 24 (1 - army)) - (σ 24 army)))), (3, .int (iI (σ 24 army))), (0, .ref (ad 0)), (1, .int (iI army)), (2, .int (iI t))] → W p l e (⟨2, 0, 0, 45⟩ : Room) s m ([.ref (ad 0), .int (iI army), .int (iI t)] : List Value).toArray below meth c s.heap locs 0 0 (MQ below (qP (.int (iI (goA (mvA (wr σ) L s1 army t) army (σ 24 army) (σ 24 (1 - army)))))) ([.ref (ad 0), .int (iI army), .int (iI t)] : List Value).toArray s 0 0 (aM ad)) (F0 m 70 ls [.int (iI (-(2 * (if sgn (σ 24 (1 - army) - σ 24 army) ≠ 0 then sgn (σ 24 (1 - army) - σ 24 army) else if army = 0 then 1 else -1))))]) := by
      intro locs ls hW hl
      refine lv_istore (lv' := [(6, .int (iI (-(2 * (if sgn (σ 24 (1 - army) - σ 24 army) ≠ 0 then sgn (σ 24 (1 - army) - σ 24 army) else if army = 0 then 1 else -1))))), (5, .int (iI (2 * sgn (σ 24 (1 - army) - σ 24 army)))), (4, .int (iI ((σ 24 (1 - army)) - (σ 24 army)))), (3, .int (iI (σ 24 army))), (0, .ref (ad 0)), (1, .int (iI army)), (2, .int (iI t))]) S.1 S.2.1 dX5_goesTo_70 hl (by decide) rfl (fun ls hl => ?_)
      refine lv_aload_n S.1 S.2.1 dX5_goesTo_72 rfl (lv_at hl 4 rfl) ?_
      refine lv_iload_n S.1 S.2.1 dX5_goesTo_73 rfl (lv_at hl 5 rfl) ?_
      refine lv_iload_n S.1 S.2.1 dX5_goesTo_74 rfl (lv_at hl 6 rfl) ?_
      refine c_VP S hW (tX5_moveAt l G ad σ army t L s1 (hw0) (ha) (hA) (hL) (hmd) (ht)) (cw_X5_279 S.2.2.2.2 ⟨Nat.le_of_ble_eq_true rfl, Nat.le_of_ble_eq_true rfl⟩) eBlind_T (fun _ _ _ => trivial) (w_recv hW (q0 := 0) rfl rfl) rfl hl.1 (rest := []) rfl (Nat.le_of_ble_eq_true rfl) dX5_goesTo_75 ⟨Nat.le_of_ble_eq_true rfl, Nat.le_of_ble_eq_true rfl⟩ (fun locs hW => ?_)
      have sw_78 : (mvA (wr σ) L s1 army t) = 1 ∨ (mvA (wr σ) L s1 army t) = 2 ∨ (mvA (wr σ) L s1 army t) = 3 ∨ (mvA (wr σ) L s1 army t) = 4 ∨ ((mvA (wr σ) L s1 army t) < 1 ∨ 4 < (mvA (wr σ) L s1 army t)) := by omega
      rcases sw_78 with c_78 | c_78 | c_78 | c_78 | c_78
      ·
        refine r_tabIn S (tgt := 108) dX5_goesTo_78 (by omega) 1 c_78 (by decide) (by decide) rfl rfl ?_
        refine lv_iload_n S.1 S.2.1 dX5_goesTo_108 rfl (lv_at hl 3 rfl) ?_
        refine r_iconst S dX5_goesTo_109 ?_
        refine r_isub S dX5_goesTo_110 ?_
        exact e_iP S hr hlk hW.2.2.2.2 (by unfold goA; rw [c_78]; rfl) dX5_goesTo_111
      ·
        refine r_tabIn S (tgt := 112) dX5_goesTo_78 (by omega) 2 c_78 (by decide) (by decide) rfl rfl ?_
        refine lv_iload_n S.1 S.2.1 dX5_goesTo_112 rfl (lv_at hl 3 rfl) ?_
        refine r_iconst S dX5_goesTo_113 ?_
        refine r_iadd S dX5_goesTo_114 ?_
        exact e_iP S hr hlk hW.2.2.2.2 (by unfold goA; rw [c_78]; rfl) dX5_goesTo_115
      ·
        refine r_tabIn S (tgt := 116) dX5_goesTo_78 (by omega) 3 c_78 (by decide) (by decide) rfl rfl ?_
        refine lv_iload_n S.1 S.2.1 dX5_goesTo_116 rfl (lv_at hl 3 rfl) ?_
        refine lv_iload S.1 S.2.1 dX5_goesTo_117 (lv_at hl 1 rfl) ?_
        refine r_iadd S dX5_goesTo_119 ?_
        exact e_iP S hr hlk hW.2.2.2.2 (by unfold goA; rw [c_78]; rfl) dX5_goesTo_120
      ·
        refine r_tabIn S (tgt := 121) dX5_goesTo_78 (by omega) 4 c_78 (by decide) (by decide) rfl rfl ?_
        refine lv_iload_n S.1 S.2.1 dX5_goesTo_121 rfl (lv_at hl 3 rfl) ?_
        refine lv_iload S.1 S.2.1 dX5_goesTo_122 (lv_at hl 0 rfl) ?_
        refine r_iadd S dX5_goesTo_124 ?_
        exact e_iP S hr hlk hW.2.2.2.2 (by unfold goA; rw [c_78]; rfl) dX5_goesTo_125
      ·
        refine r_tabOut S (tgt := 126) dX5_goesTo_78 (by omega) c_78 rfl ?_
        refine lv_iload_n S.1 S.2.1 dX5_goesTo_126 rfl (lv_at hl 3 rfl) ?_
        exact e_iP S hr hlk hW.2.2.2.2 (by unfold goA; rw [if_neg (by omega), if_neg (by omega), if_neg (by omega), if_neg (by omega)]) dX5_goesTo_127
    refine lv_iload S.1 S.2.1 dX5_goesTo_41 (lv_at hl 1 rfl) ?_
    refine r_if_le S (tgt := 51) dX5_goesTo_43 rfl (by omega) (fun c_43 => ?_) (fun c_43 => ?_)
    ·
      refine lv_iload S.1 S.2.1 dX5_goesTo_51 (lv_at hl 1 rfl) ?_
      refine r_if_ge S (tgt := 60) dX5_goesTo_53 rfl (by omega) (fun c_53 => ?_) (fun c_53 => ?_)
      ·
        refine lv_iload_n S.1 S.2.1 dX5_goesTo_60 rfl (lv_at hl 4 rfl) ?_
        refine r_if_ne S (tgt := 69) dX5_goesTo_61 rfl (by omega) (fun c_61 => ?_) (fun c_61 => ?_)
        ·
          refine r_iconst S dX5_goesTo_69 ?_
          refine r_as (-(2 * (if sgn (σ 24 (1 - army) - σ 24 army) ≠ 0 then sgn (σ 24 (1 - army) - σ 24 army) else if army = 0 then 1 else -1))) (by unfold sgn; split <;> (try split) <;> (try split) <;> (try split) <;> (try split) <;> omega) ?_
          exact cut_70 _ _ hW (lv_sub hl [0, 1, 2, 3, 4, 5] rfl)
        ·
          refine r_bipush S dX5_goesTo_64 (by decide) ?_
          refine lv_goto (tgt := 70) S.1 S.2.1 dX5_goesTo_66 rfl ?_
          refine r_as (-(2 * (if sgn (σ 24 (1 - army) - σ 24 army) ≠ 0 then sgn (σ 24 (1 - army) - σ 24 army) else if army = 0 then 1 else -1))) (by unfold sgn; split <;> (try split) <;> (try split) <;> (try split) <;> (try split) <;> omega) ?_
          exact cut_70 _ _ hW (lv_sub hl [0, 1, 2, 3, 4, 5] rfl)
      ·
        refine r_iconst S dX5_goesTo_56 ?_
        refine lv_goto (tgt := 70) S.1 S.2.1 dX5_goesTo_57 rfl ?_
        refine r_as (-(2 * (if sgn (σ 24 (1 - army) - σ 24 army) ≠ 0 then sgn (σ 24 (1 - army) - σ 24 army) else if army = 0 then 1 else -1))) (by unfold sgn; split <;> (try split) <;> (try split) <;> (try split) <;> (try split) <;> omega) ?_
        exact cut_70 _ _ hW (lv_sub hl [0, 1, 2, 3, 4, 5] rfl)
    ·
      refine r_bipush S dX5_goesTo_46 (by decide) ?_
      refine lv_goto (tgt := 70) S.1 S.2.1 dX5_goesTo_48 rfl ?_
      refine r_as (-(2 * (if sgn (σ 24 (1 - army) - σ 24 army) ≠ 0 then sgn (σ 24 (1 - army) - σ 24 army) else if army = 0 then 1 else -1))) (by unfold sgn; split <;> (try split) <;> (try split) <;> (try split) <;> (try split) <;> omega) ?_
      exact cut_70 _ _ hW (lv_sub hl [0, 1, 2, 3, 4, 5] rfl)
  refine lv_iload S.1 S.2.1 dX5_goesTo_19 (lv_at hl 0 rfl) ?_
  refine r_if_le S (tgt := 28) dX5_goesTo_21 rfl (by omega) (fun c_21 => ?_) (fun c_21 => ?_)
  ·
    refine lv_iload S.1 S.2.1 dX5_goesTo_28 (lv_at hl 0 rfl) ?_
    refine r_if_ge S (tgt := 38) dX5_goesTo_30 rfl (by omega) (fun c_30 => ?_) (fun c_30 => ?_)
    ·
      refine r_iconst S dX5_goesTo_38 ?_
      refine r_as (2 * sgn (σ 24 (1 - army) - σ 24 army)) (by unfold sgn; split <;> (try split) <;> omega) ?_
      exact cut_39 _ _ hW (lv_sub hl [0, 1, 2, 3, 4] rfl)
    ·
      refine r_bipush S dX5_goesTo_33 (by decide) ?_
      refine lv_goto (tgt := 39) S.1 S.2.1 dX5_goesTo_35 rfl ?_
      refine r_as (2 * sgn (σ 24 (1 - army) - σ 24 army)) (by unfold sgn; split <;> (try split) <;> omega) ?_
      exact cut_39 _ _ hW (lv_sub hl [0, 1, 2, 3, 4] rfl)
  ·
    refine r_iconst S dX5_goesTo_24 ?_
    refine lv_goto (tgt := 39) S.1 S.2.1 dX5_goesTo_25 rfl ?_
    refine r_as (2 * sgn (σ 24 (1 - army) - σ 24 army)) (by unfold sgn; split <;> (try split) <;> omega) ?_
    exact cut_39 _ _ hW (lv_sub hl [0, 1, 2, 3, 4] rfl)
set_option maxHeartbeats 4000000 in
theorem tX5_begins (l : Launch) (G : GG) (ad : Nat → Nat) (σ : St) (L : List (Int × Int)) (s1 : Int) (hw0 : 0 ≤ σ 10 0 ∧ σ 10 0 ≤ 700) (hWf : WfWar (wr σ)) (hn : σ 18 0 = L.length) (hL : L.length ≤ 24) (hv : rowV L) (hs : fil σ 16 L.length (sd (wr σ) (rf L) s1)) : Met l yX5_begins (ws_ yX5_begins cX5_begins 1 none) ⟨5, 0, 0, 114⟩ (wPre G shM ad σ (fun _ => True) [.ref (ad 0)]) (qS G shM ad (aM ad) (rV (fun σ' => (Mad σ' (wr σ) L s1 0) ∧ (Mad σ' (wr σ) L s1 1) ∧ (σ' 24 0 = wr σ 13 ∧ σ' 24 1 = wr σ 14) ∧ (same [19, 20, 21, 22, 23, 24] σ σ')))) 0 0 (aM ad) := by
  refine wStart (by decide) (Nat.le_of_ble_eq_true rfl) (fun k hk => ⟨k, hk, rfl⟩) (fun p e s m below meth c S hr hlk _ _ ls hW hl => ?_)
  have hl : lv_has ls 1 [(0, .ref (ad 0))] := hl
  refine lv_aload_n S.1 S.2.1 dX5_begins_0 rfl (lv_at hl 0 rfl) ?_
  refine r_iconst S dX5_begins_1 ?_
  refine c_VSv S hW (tX5_makes l G ad σ 0 L s1 (by omega) (by omega) (hWf) (hn) (hL) (hv) (hs)) (cw_X5_270 S.2.2.2.2 ⟨Nat.le_of_ble_eq_true rfl, Nat.le_of_ble_eq_true rfl⟩) eBlind_T (fun _ _ _ => trivial) (w_recv hW (q0 := 0) rfl rfl) rfl hl.1 (rest := []) rfl (Nat.le_of_ble_eq_true rfl) dX5_begins_2 ⟨Nat.le_of_ble_eq_true rfl, Nat.le_of_ble_eq_true rfl⟩ (fun σ2 H locs q2 hW => ?_)
  obtain ⟨q2_mad, q2_oth, q2_sm⟩ := q2
  have f0 := q2_sm 0 (by decide)
  have f10 := q2_sm 10 (by decide)
  have f16 := q2_sm 16 (by decide)
  have f18 := q2_sm 18 (by decide)
  have wq : wr σ2 = wr σ := by funext j; simp only [wr, f0, f10]
  have f10b : σ2 10 0 = σ 10 0 := by rw [f10]
  refine lv_aload_n S.1 S.2.1 dX5_begins_5 rfl (lv_at hl 0 rfl) ?_
  refine r_iconst S dX5_begins_6 ?_
  refine c_VSv S hW (tX5_makes l G ad σ2 1 L s1 (by omega) (by omega) (by rw [wq]; exact hWf) (by rw [f18]; exact hn) (hL) (hv) (by rw [wq]; exact fil_eq hs f16)) (cw_X5_270 S.2.2.2.2 ⟨Nat.le_of_ble_eq_true rfl, Nat.le_of_ble_eq_true rfl⟩) eBlind_T (fun _ _ _ => trivial) (w_recv hW (q0 := 0) rfl rfl) rfl hl.1 (rest := []) rfl (Nat.le_of_ble_eq_true rfl) dX5_begins_7 ⟨Nat.le_of_ble_eq_true rfl, Nat.le_of_ble_eq_true rfl⟩ (fun σ7 H locs q7 hW => ?_)
  obtain ⟨q7_mad, q7_oth, q7_sm⟩ := q7
  rw [wq] at q7_mad
  have g0 : σ7 0 = σ 0 := (q7_sm 0 (by decide)).trans f0
  have g10 : σ7 10 = σ 10 := (q7_sm 10 (by decide)).trans f10
  have wq2 : wr σ7 = wr σ := by funext j; simp only [wr, g0, g10]
  have g10b : σ7 10 0 = σ 10 0 := by rw [g10]
  have m0 := Mad_oth q2_mad q7_oth (by decide) (mvs_len (s := s1) (hWf.2.2.2.2 0 (by omega) (by omega)) hL).1
  refine lv_aload_n S.1 S.2.1 dX5_begins_10 rfl (lv_at hl 0 rfl) ?_
  refine w_getr S hW in_X5 0 rfl rfl 24 (by decide) q1675 rfl rfl dX5_begins_11 ?_
  refine r_iconst S dX5_begins_14 ?_
  refine lv_aload_n S.1 S.2.1 dX5_begins_15 rfl (lv_at hl 0 rfl) ?_
  refine r_bipush S dX5_begins_16 (by decide) ?_
  refine c_VP S hW (tX5_of l G ad σ7 13 (by omega)) (cw_X5_212 S.2.2.2.2 ⟨Nat.le_of_ble_eq_true rfl, Nat.le_of_ble_eq_true rfl⟩) eBlind_T (fun _ _ _ => trivial) (w_recv hW (q0 := 0) rfl rfl) rfl hl.1 (rest := [.int (iI 0), .ref (ad 15)]) rfl (Nat.le_of_ble_eq_true rfl) dX5_begins_18 ⟨Nat.le_of_ble_eq_true rfl, Nat.le_of_ble_eq_true rfl⟩ (fun locs hW => ?_)
  refine r_as (wr σ 13) (by rw [wq2]) ?_
  refine w_ast S hW 15 0 rfl rfl rfl (z := (wr σ 13)) (by omega) dX5_begins_21 (fun H locs hW => ?_)
  refine lv_aload_n S.1 S.2.1 dX5_begins_22 rfl (lv_at hl 0 rfl) ?_
  refine w_getr S hW in_X5 0 rfl rfl 24 (by decide) q1675 rfl rfl dX5_begins_23 ?_
  refine r_iconst S dX5_begins_26 ?_
  refine lv_aload_n S.1 S.2.1 dX5_begins_27 rfl (lv_at hl 0 rfl) ?_
  refine r_bipush S dX5_begins_28 (by decide) ?_
  refine c_VP S hW (tX5_of l G ad (up σ7 24 0 (wr σ 13)) 14 (by simp only [up]; simp; omega)) (cw_X5_212 S.2.2.2.2 ⟨Nat.le_of_ble_eq_true rfl, Nat.le_of_ble_eq_true rfl⟩) eBlind_T (fun _ _ _ => trivial) (w_recv hW (q0 := 0) rfl rfl) rfl hl.1 (rest := [.int (iI 1), .ref (ad 15)]) rfl (Nat.le_of_ble_eq_true rfl) dX5_begins_30 ⟨Nat.le_of_ble_eq_true rfl, Nat.le_of_ble_eq_true rfl⟩ (fun locs hW => ?_)
  refine r_as (wr σ 14) (by simp only [wr, up]; simp [g0, g10]) ?_
  refine w_ast S hW 15 0 rfl rfl rfl (z := (wr σ 14)) (by omega) dX5_begins_33 (fun H locs hW => ?_)
  exact e_vS S hr hlk hW ⟨rfl, ⟨(Mad_eq m0 rfl rfl rfl rfl rfl), (Mad_eq q7_mad rfl rfl rfl rfl rfl), (by simp [up]), (same_up (same_up (same_tr (same_w q2_sm (by decide)) q7_sm (by decide)) (by decide)) (by decide))⟩⟩ dX5_begins_34
theorem hd_X5_goesTo : yX5_goesTo.cls = RX5 ∧ yX5_goesTo.cls ≠ "java/lang/invoke/MethodHandle" ∧ yX5_goesTo.cls ≠ "java/lang/invoke/VarHandle" ∧ (parseMethodDescriptor yX5_goesTo.desc).map (fun d => d.parameters.length) = some 2 := by decide +kernel
theorem cw_X5_282 {R : Room} {s : State} {args : Array Value} (ht : ∀ w ∈ lw_all, w.before args s = true) (hR : 2 + 1 ≤ R.frames ∧ 8 + (7 + 11) + 45 ≤ R.locals) : CallW R s args "OneDrumModel" RX5 282 yX5_goesTo cX5_goesTo 7 (some .int) (ws_ yX5_goesTo cX5_goesTo 7 (some .int)) ⟨2, 0, 0, 45⟩ 0 0 2 := cwV 2 ht (lw_V q1999 q2001 qs89 q126 q2002) rfl rfl rfl hd_X5_goesTo hR
set_option maxHeartbeats 4000000 in
theorem tX5_steps (l : Launch) (G : GG) (ad : Nat → Nat) (σ : St) (t : Int) (L : List (Int × Int)) (s1 : Int) (hw0 : 0 ≤ σ 10 0 ∧ σ 10 0 ≤ 700) (hWf : WfWar (wr σ)) (hL : L.length ≤ 24) (m0 : Mad σ (wr σ) L s1 0) (m1 : Mad σ (wr σ) L s1 1) (ht : 0 ≤ t ∧ t ≤ 25) (hp : -100 ≤ σ 24 0 ∧ σ 24 0 ≤ 100 ∧ -100 ≤ σ 24 1 ∧ σ 24 1 ≤ 100) : Met l yX5_steps (ws_ yX5_steps cX5_steps 4 none) ⟨3, 0, 0, 71⟩ (wPre G shM ad σ (fun _ => True) [.ref (ad 0), .int (iI t)]) (qS G shM ad (aM ad) (rV (fun σ' => (σ' 24 0 = goA (mvA (wr σ) L s1 0 t) 0 (σ 24 0) (σ 24 1)) ∧ (σ' 24 1 = goA (mvA (wr σ) L s1 1 t) 1 (σ 24 1) (σ 24 0)) ∧ (same [24] σ σ')))) 0 0 (aM ad) := by
  refine wStart (by decide) (Nat.le_of_ble_eq_true rfl) (fun k hk => ⟨k, hk, rfl⟩) (fun p e s m below meth c S hr hlk _ _ ls hW hl => ?_)
  have hl : lv_has ls 4 [(0, .ref (ad 0)), (1, .int (iI t))] := hl
  have hA0 := hWf.2.2.2.2 0 (by omega) (by omega)
  have hA1 := hWf.2.2.2.2 1 (by omega) (by omega)
  refine lv_aload_n S.1 S.2.1 dX5_steps_0 rfl (lv_at hl 0 rfl) ?_
  refine r_iconst S dX5_steps_1 ?_
  refine lv_iload_n S.1 S.2.1 dX5_steps_2 rfl (lv_at hl 1 rfl) ?_
  refine c_VP S hW (tX5_goesTo l G ad σ 0 t L s1 (hw0) (by omega) (hA0) (hL) (m0) (ht) (hp)) (cw_X5_282 S.2.2.2.2 ⟨Nat.le_of_ble_eq_true rfl, Nat.le_of_ble_eq_true rfl⟩) eBlind_T (fun _ _ _ => trivial) (w_recv hW (q0 := 0) rfl rfl) rfl hl.1 (rest := []) rfl (Nat.le_of_ble_eq_true rfl) dX5_steps_3 ⟨Nat.le_of_ble_eq_true rfl, Nat.le_of_ble_eq_true rfl⟩ (fun locs hW => ?_)
  refine lv_istore_n (lv' := [(2, .int (iI (goA (mvA (wr σ) L s1 0 t) 0 (σ 24 0) (σ 24 (1 - 0))))), (0, .ref (ad 0)), (1, .int (iI t))]) S.1 S.2.1 dX5_steps_6 rfl hl (by decide) rfl (fun ls hl => ?_)
  refine lv_aload_n S.1 S.2.1 dX5_steps_7 rfl (lv_at hl 1 rfl) ?_
  refine r_iconst S dX5_steps_8 ?_
  refine lv_iload_n S.1 S.2.1 dX5_steps_9 rfl (lv_at hl 2 rfl) ?_
  refine c_VP S hW (tX5_goesTo l G ad σ 1 t L s1 (hw0) (by omega) (hA1) (hL) (m1) (ht) (hp)) (cw_X5_282 S.2.2.2.2 ⟨Nat.le_of_ble_eq_true rfl, Nat.le_of_ble_eq_true rfl⟩) eBlind_T (fun _ _ _ => trivial) (w_recv hW (q0 := 0) rfl rfl) rfl hl.1 (rest := []) rfl (Nat.le_of_ble_eq_true rfl) dX5_steps_10 ⟨Nat.le_of_ble_eq_true rfl, Nat.le_of_ble_eq_true rfl⟩ (fun locs hW => ?_)
  refine lv_istore_n (lv' := [(3, .int (iI (goA (mvA (wr σ) L s1 1 t) 1 (σ 24 1) (σ 24 (1 - 1))))), (2, .int (iI (goA (mvA (wr σ) L s1 0 t) 0 (σ 24 0) (σ 24 (1 - 0))))), (0, .ref (ad 0)), (1, .int (iI t))]) S.1 S.2.1 dX5_steps_13 rfl hl (by decide) rfl (fun ls hl => ?_)
  refine lv_aload_n S.1 S.2.1 dX5_steps_14 rfl (lv_at hl 2 rfl) ?_
  refine w_getr S hW in_X5 0 rfl rfl 24 (by decide) q1675 rfl rfl dX5_steps_15 ?_
  refine r_iconst S dX5_steps_18 ?_
  refine lv_iload_n S.1 S.2.1 dX5_steps_19 rfl (lv_at hl 1 rfl) ?_
  refine w_ast S hW 15 0 rfl rfl rfl (z := (goA (mvA (wr σ) L s1 0 t) 0 (σ 24 0) (σ 24 (1 - 0)))) (by omega) dX5_steps_20 (fun H locs hW => ?_)
  refine lv_aload_n S.1 S.2.1 dX5_steps_21 rfl (lv_at hl 2 rfl) ?_
  refine w_getr S hW in_X5 0 rfl rfl 24 (by decide) q1675 rfl rfl dX5_steps_22 ?_
  refine r_iconst S dX5_steps_25 ?_
  refine lv_iload_n S.1 S.2.1 dX5_steps_26 rfl (lv_at hl 0 rfl) ?_
  refine w_ast S hW 15 0 rfl rfl rfl (z := (goA (mvA (wr σ) L s1 1 t) 1 (σ 24 1) (σ 24 (1 - 1)))) (by omega) dX5_steps_27 (fun H locs hW => ?_)
  exact e_vS S hr hlk hW ⟨rfl, ⟨(by simp [up]), (by simp [up]), (same_up (same_up same_rf (by decide)) (by decide))⟩⟩ dX5_steps_28
theorem hd_X5_begins : yX5_begins.cls = RX5 ∧ yX5_begins.cls ≠ "java/lang/invoke/MethodHandle" ∧ yX5_begins.cls ≠ "java/lang/invoke/VarHandle" ∧ (parseMethodDescriptor yX5_begins.desc).map (fun d => d.parameters.length) = some 0 := by decide +kernel
theorem cw_X5_285 {R : Room} {s : State} {args : Array Value} (ht : ∀ w ∈ lw_all, w.before args s = true) (hR : 5 + 1 ≤ R.frames ∧ 8 + (1 + 11) + 114 ≤ R.locals) : CallW R s args "OneDrumModel" RX5 285 yX5_begins cX5_begins 1 none (ws_ yX5_begins cX5_begins 1 none) ⟨5, 0, 0, 114⟩ 0 0 0 := cwV 0 ht (lw_V q1991 q1993 qs87 q126 q1994) rfl rfl rfl hd_X5_begins hR
theorem hd_X5_steps : yX5_steps.cls = RX5 ∧ yX5_steps.cls ≠ "java/lang/invoke/MethodHandle" ∧ yX5_steps.cls ≠ "java/lang/invoke/VarHandle" ∧ (parseMethodDescriptor yX5_steps.desc).map (fun d => d.parameters.length) = some 1 := by decide +kernel
theorem cw_X5_288 {R : Room} {s : State} {args : Array Value} (ht : ∀ w ∈ lw_all, w.before args s = true) (hR : 3 + 1 ≤ R.frames ∧ 8 + (4 + 11) + 71 ≤ R.locals) : CallW R s args "OneDrumModel" RX5 288 yX5_steps cX5_steps 4 none (ws_ yX5_steps cX5_steps 4 none) ⟨3, 0, 0, 71⟩ 0 0 1 := cwV 1 ht (lw_V q1995 q1997 qs88 q126 q1998) rfl rfl rfl hd_X5_steps hR
set_option maxHeartbeats 4000000 in
theorem tX5_march (l : Launch) (G : GG) (ad : Nat → Nat) (σ : St) (k : Int) (s0 : Int) (army : Int) (t : Int) (hr0 : -2147483648 ≤ k ∧ k < 2147483648 ∧ -2147483648 ≤ s0 ∧ s0 < 2147483648 ∧ -2147483648 ≤ army ∧ army < 2147483648 ∧ -2147483648 ≤ t ∧ t < 2147483648) (hdb : WfDB (σ 0)) : Met l yX5_march (ws_ yX5_march cX5_march 6 (some .int)) ⟨6, 0, 0, 134⟩ (wPre G shM ad σ (fun _ => True) [.ref (ad 0), .int (iI k), .int (iI s0), .int (iI army), .int (iI t)]) (qS G shM ad (aM ad) (rI (fun r σ' => (r = sMarch (σ 0) k s0 army t) ∧ (same [10, 11, 12, 13, 14, 15, 16, 17, 18, 19, 20, 21, 22, 23, 24] σ σ')))) 0 0 (aM ad) := by
  refine wStart (by decide) (Nat.le_of_ble_eq_true rfl) (fun k hk => ⟨k, hk, rfl⟩) (fun p e s m below meth c S hr hlk _ _ ls hW hl => ?_)
  have hl : lv_has ls 6 [(0, .ref (ad 0)), (1, .int (iI k)), (2, .int (iI s0)), (3, .int (iI army)), (4, .int (iI t))] := hl
  have d0 := hdb.1
  have d1 := hdb.2.1
  have d2 := hdb.2.2.1
  have d3 := hdb.2.2.2.1
  refine lv_aload_n S.1 S.2.1 dX5_march_0 rfl (lv_at hl 0 rfl) ?_
  refine lv_iload_n S.1 S.2.1 dX5_march_1 rfl (lv_at hl 1 rfl) ?_
  refine lv_iload_n S.1 S.2.1 dX5_march_2 rfl (lv_at hl 2 rfl) ?_
  refine c_VSz S hW (tX5_arePlayed l G ad σ k s0 (by omega) (by omega)) (cw_X5_255 S.2.2.2.2 ⟨Nat.le_of_ble_eq_true rfl, Nat.le_of_ble_eq_true rfl⟩) eBlind_T (fun _ _ _ => trivial) (w_recv hW (q0 := 0) rfl rfl) rfl hl.1 (rest := []) rfl (Nat.le_of_ble_eq_true rfl) dX5_march_3 ⟨Nat.le_of_ble_eq_true rfl, Nat.le_of_ble_eq_true rfl⟩ (fun r3 σ3 H locs q3 hW => ?_)
  obtain ⟨rfl, q3_sm, q3_pl⟩ := q3
  have e0 : σ3 0 = σ 0 := q3_sm 0 (by decide)
  refine r_ifeq_p S (tgt := 27) dX5_march_6 rfl (fun c_6 => ?_) (fun c_6 => ?_)
  ·
    refine r_sipush S dX5_march_27 (by decide) ?_
    exact e_iS S hr hlk hW ⟨(-1000), rfl, ⟨(by unfold sMarch; rw [if_neg (fun z => absurd (dP_t.mp z) (fun z2 => by first | exact absurd z2.1 (by assumption) | exact absurd z2.2 (by omega)))]), (same_w q3_sm (by decide))⟩⟩ dX5_march_30
  ·
    obtain ⟨w10, pl⟩ := q3_pl (by first | exact c_6 | assumption)
    have ws9 : inWS (σ 0) k s0 := by first | exact c_6 | assumption
    have hWf := hdb.2.2.2.2.2.2.2.2.1 k (by unfold inWS at ws9; omega) (by unfold inWS at ws9; omega)
    have hg := hdb.2.2.2.2.2.2.2.2.2.1 s0 (by unfold inWS at ws9; omega) (by unfold inWS at ws9; omega)
    have w10b : σ3 10 0 = 610 ∨ σ3 10 0 = 699 := by unfold inWS at ws9; omega
    have wq : wr σ3 = wAt (σ 0) k := wr_at e0 w10
    have n18 := pl.1
    have hL9 := rowG_len hWf hg
    have hg00 := (hg 0 (by omega) (by omega)).1
    have hg11 := (hg 1 (by omega) (by omega)).1
    obtain ⟨LL, eLL⟩ : ∃ z, z = rowG (wAt (σ 0) k) (gAt (σ 0) s0) := ⟨_, rfl⟩
    have hLr := rowG_V (w := wAt (σ 0) k) hg
    have hLg := (rowL_V (t := (wAt (σ 0) k 0).toNat) (gl_mem hg (x := 0) (by omega)) (gl_mem hg (x := 1) (by omega))).2
    have w10c : 0 ≤ σ3 10 0 ∧ σ3 10 0 ≤ 700 := by omega
    have sn9 : fil σ3 16 (rowG (wAt (σ 0) k) (gAt (σ 0) s0)).length (sd (wr σ3) (rf (rowG (wAt (σ 0) k) (gAt (σ 0) s0))) 0) := by rw [wq]; exact pl.2.2.1
    have l24 : (rowG (wAt (σ 0) k) (gAt (σ 0) s0)).length ≤ 24 := by omega
    refine lv_iload_n S.1 S.2.1 dX5_march_9 rfl (lv_at hl 3 rfl) ?_
    refine c_SPw S hW (tX5_isArmy l army (by omega)) (cw_X5_218 S.2.2.2.2 ⟨Nat.le_of_ble_eq_true rfl, Nat.le_of_ble_eq_true rfl⟩) rfl hl.1 (rest := []) rfl (Nat.le_of_ble_eq_true rfl) dX5_march_10 ⟨Nat.le_of_ble_eq_true rfl, Nat.le_of_ble_eq_true rfl⟩ (fun locs hW => ?_)
    refine r_ifeq_p S (tgt := 27) dX5_march_13 rfl (fun c_13 => ?_) (fun c_13 => ?_)
    ·
      refine r_sipush S dX5_march_27 (by decide) ?_
      exact e_iS S hr hlk hW ⟨(-1000), rfl, ⟨(by unfold sMarch; rw [if_neg (fun z => absurd (dP_t.mp z) (fun z2 => by first | exact absurd z2.1 (by assumption) | exact absurd z2.2 (by omega)))]), (same_w q3_sm (by decide))⟩⟩ dX5_march_30
    ·
      refine lv_iload S.1 S.2.1 dX5_march_16 (lv_at hl 4 rfl) ?_
      refine r_iconst S dX5_march_18 ?_
      refine r_bipush S dX5_march_19 (by decide) ?_
      refine c_SPw S hW (tX5_isIn l t 0 24 (by omega)) (cw_X5_145 S.2.2.2.2 ⟨Nat.le_of_ble_eq_true rfl, Nat.le_of_ble_eq_true rfl⟩) rfl hl.1 (rest := []) rfl (Nat.le_of_ble_eq_true rfl) dX5_march_21 ⟨Nat.le_of_ble_eq_true rfl, Nat.le_of_ble_eq_true rfl⟩ (fun locs hW => ?_)
      refine r_ifne_p S (tgt := 31) dX5_march_24 rfl (fun c_24 => ?_) (fun c_24 => ?_)
      ·
        refine lv_aload_n S.1 S.2.1 dX5_march_31 rfl (lv_at hl 0 rfl) ?_
        refine c_VSv S hW (tX5_begins l G ad σ3 (rowG (wAt (σ 0) k) (gAt (σ 0) s0)) 0 (w10c) (by rw [wq]; exact hWf) (n18) (l24) (hLr) (sn9)) (cw_X5_285 S.2.2.2.2 ⟨Nat.le_of_ble_eq_true rfl, Nat.le_of_ble_eq_true rfl⟩) eBlind_T (fun _ _ _ => trivial) (w_recv hW (q0 := 0) rfl rfl) rfl hl.1 (rest := []) rfl (Nat.le_of_ble_eq_true rfl) dX5_march_32 ⟨Nat.le_of_ble_eq_true rfl, Nat.le_of_ble_eq_true rfl⟩ (fun σ32 H locs q32 hW => ?_)
        obtain ⟨q32_m0, q32_m1, q32_p, q32_sm⟩ := q32
        rw [wq] at q32_m0 q32_m1 q32_p
        refine r_iconst S dX5_march_35 ?_
        refine lv_istore (lv' := [(5, .int (iI 1)), (0, .ref (ad 0)), (1, .int (iI k)), (2, .int (iI s0)), (3, .int (iI army)), (4, .int (iI t))]) S.1 S.2.1 dX5_march_36 hl (by decide) rfl (fun ls hl => ?_)
        have cut_38 : ∀ (N_38 : Nat) (kk : Int) (σ4 : St) (H : Heap) (locs : List Loc) (ls : Array Slot), (1 ≤ kk ∧ kk ≤ t + 1) → (same [24] σ32 σ4) → (σ4 24 0 = (stA (wAt (σ 0) k) (rowG (wAt (σ 0) k) (gAt (σ 0) s0)) 0 (kk - 1).toNat).1) → (σ4 24 1 = (stA (wAt (σ 0) k) (rowG (wAt (σ 0) k) (gAt (σ 0) s0)) 0 (kk - 1).toNat).2) → ((t + 1 - kk).toNat) < N_38 → WD G shM ad (aM ad) s s.heap σ4 H locs → lv_has ls 6 [(5, .int (iI kk)), (0, .ref (ad 0)), (1, .int (iI k)), (2, .int (iI s0)), (3, .int (iI army)), (4, .int (iI t))] → W p l e (⟨6, 0, 0, 134⟩ : Room) s m ([.ref (ad 0), .int (iI k), .int (iI s0), .int (iI army), .int (iI t)] : List Value).toArray below meth c H locs 0 0 (MQ below (qS G shM ad (aM ad) (rI (fun r σ' => (r = sMarch (σ 0) k s0 army t) ∧ (same [10, 11, 12, 13, 14, 15, 16, 17, 18, 19, 20, 21, 22, 23, 24] σ σ')))) ([.ref (ad 0), .int (iI k), .int (iI s0), .int (iI army), .int (iI t)] : List Value).toArray s 0 0 (aM ad)) (F0 m 38 ls []) := by
          intro N_38
          induction N_38 with
          | zero =>
            intro kk σ4 H locs ls hkk hsm hp1 hp2 hμ_38 hW hl
            exact absurd hμ_38 (by omega)
          | succ N_38 ih_38 =>
            intro kk σ4 H locs ls hkk hsm hp1 hp2 hμ_38 hW hl
            have z0 : σ4 0 = σ3 0 := (hsm 0 (by decide)).trans (q32_sm 0 (by decide))
            have z10 : σ4 10 = σ3 10 := (hsm 10 (by decide)).trans (q32_sm 10 (by decide))
            have wq1 : wr σ4 = wAt (σ 0) k := by rw [← wq]; funext j; simp only [wr, z0, z10]
            have z10b : σ4 10 0 = σ3 10 0 := by rw [z10]
            have hrg := stA_rng (L := (rowG (wAt (σ 0) k) (gAt (σ 0) s0))) (s := 0) hWf (kk - 1).toNat
            refine lv_iload S.1 S.2.1 dX5_march_38 (lv_at hl 0 rfl) ?_
            refine lv_iload S.1 S.2.1 dX5_march_40 (lv_at hl 5 rfl) ?_
            refine r_icmp_gt S (tgt := 57) dX5_march_42 rfl (by omega) (fun c_42 => ?_) (fun c_42 => ?_)
            ·
              refine lv_aload_n S.1 S.2.1 dX5_march_57 rfl (lv_at hl 1 rfl) ?_
              refine w_getr S hW in_X5 0 rfl rfl 24 (by decide) q1675 rfl rfl dX5_march_58 ?_
              refine lv_iload_n S.1 S.2.1 dX5_march_61 rfl (lv_at hl 4 rfl) ?_
              refine w_ald S hW 15 0 rfl rfl (by omega) dX5_march_62 ?_
              exact e_iS S hr hlk hW ⟨(σ4 24 army), rfl, ⟨(by unfold sMarch; rw [if_pos (dP_t.mpr ⟨ws9, by omega, by omega⟩), ← show (kk - 1).toNat = t.toNat by omega]; rcases (show army = 0 ∨ army = 1 by omega) with rfl | rfl; exact hp1; exact hp2), (same_tr (same_tr (same_w q3_sm (by decide)) q32_sm (by decide)) hsm (by decide))⟩⟩ dX5_march_63
            ·
              refine lv_aload_n S.1 S.2.1 dX5_march_45 rfl (lv_at hl 1 rfl) ?_
              refine lv_iload S.1 S.2.1 dX5_march_46 (lv_at hl 0 rfl) ?_
              refine c_VSv S hW (tX5_steps l G ad σ4 kk (rowG (wAt (σ 0) k) (gAt (σ 0) s0)) 0 (by omega) (by rw [wq1]; exact hWf) (l24) (by rw [wq1]; exact Mad_eq q32_m0 (hsm 19 (by decide)) (hsm 20 (by decide)) (hsm 21 (by decide)) (hsm 22 (by decide)) (hsm 23 (by decide))) (by rw [wq1]; exact Mad_eq q32_m1 (hsm 19 (by decide)) (hsm 20 (by decide)) (hsm 21 (by decide)) (hsm 22 (by decide)) (hsm 23 (by decide))) (by omega) (by omega)) (cw_X5_288 S.2.2.2.2 ⟨Nat.le_of_ble_eq_true rfl, Nat.le_of_ble_eq_true rfl⟩) eBlind_T (fun _ _ _ => trivial) (w_recv hW (q0 := 0) rfl rfl) rfl hl.1 (rest := []) rfl (Nat.le_of_ble_eq_true rfl) dX5_march_48 ⟨Nat.le_of_ble_eq_true rfl, Nat.le_of_ble_eq_true rfl⟩ (fun σ48 H locs q48 hW => ?_)
              obtain ⟨q48_a, q48_b, q48_sm⟩ := q48
              rw [wq1, hp1, hp2] at q48_a q48_b
              have est : stA (wAt (σ 0) k) (rowG (wAt (σ 0) k) (gAt (σ 0) s0)) 0 (kk + 1 - 1).toNat = (goA (mvA (wAt (σ 0) k) (rowG (wAt (σ 0) k) (gAt (σ 0) s0)) 0 0 kk) 0 (stA (wAt (σ 0) k) (rowG (wAt (σ 0) k) (gAt (σ 0) s0)) 0 (kk - 1).toNat).1 (stA (wAt (σ 0) k) (rowG (wAt (σ 0) k) (gAt (σ 0) s0)) 0 (kk - 1).toNat).2, goA (mvA (wAt (σ 0) k) (rowG (wAt (σ 0) k) (gAt (σ 0) s0)) 0 1 kk) 1 (stA (wAt (σ 0) k) (rowG (wAt (σ 0) k) (gAt (σ 0) s0)) 0 (kk - 1).toNat).2 (stA (wAt (σ 0) k) (rowG (wAt (σ 0) k) (gAt (σ 0) s0)) 0 (kk - 1).toNat).1) := by rw [show (kk + 1 - 1).toNat = (kk - 1).toNat + 1 by omega]; simp only [stA]; rw [show ((((kk - 1).toNat : Nat) : Int) + 1) = kk by omega]
              refine lv_iinc (v := iI (kk + 1)) (lv' := [(5, .int (iI (kk + 1))), (0, .ref (ad 0)), (1, .int (iI k)), (2, .int (iI s0)), (3, .int (iI army)), (4, .int (iI t))]) S.1 S.2.1 dX5_march_51 hl (k := 0) rfl (iI_add _ _) (by decide) rfl (fun ls hl => ?_)
              refine lv_goto (tgt := 38) S.1 S.2.1 dX5_march_54 rfl ?_
              exact ih_38 (kk + 1) σ48 H _ _ (by omega) (same_tr hsm q48_sm (by decide)) (by rw [est]; exact q48_a) (by rw [est]; exact q48_b) (by omega) hW (lv_sub hl [0, 1, 2, 3, 4, 5] rfl)
        exact cut_38 _ 1 σ32 H _ _ (by omega) (same_rf) (q32_p.1) (q32_p.2) (Nat.lt_succ_self _) hW (lv_sub hl [0, 1, 2, 3, 4, 5] rfl)
      ·
        refine r_sipush S dX5_march_27 (by decide) ?_
        exact e_iS S hr hlk hW ⟨(-1000), rfl, ⟨(by unfold sMarch; rw [if_neg (fun z => absurd (dP_t.mp z) (fun z2 => by first | exact absurd z2.1 (by assumption) | exact absurd z2.2 (by omega)))]), (same_w q3_sm (by decide))⟩⟩ dX5_march_30
set_option maxHeartbeats 4000000 in
theorem tX5_meeting (l : Launch) (G : GG) (ad : Nat → Nat) (σ : St) (L : List (Int × Int)) (s1 : Int) (hw0 : 0 ≤ σ 10 0 ∧ σ 10 0 ≤ 700) (hWf : WfWar (wr σ)) (hn : σ 18 0 = L.length) (hL : L.length ≤ 24) (hv : rowV L) (hs : fil σ 16 L.length (sd (wr σ) (rf L) s1)) : Met l yX5_meeting (ws_ yX5_meeting cX5_meeting 4 (some .int)) ⟨6, 0, 0, 134⟩ (wPre G shM ad σ (fun _ => True) [.ref (ad 0)]) (qS G shM ad (aM ad) (rI (fun r σ' => (r = meet (wr σ) L s1) ∧ (Mad σ' (wr σ) L s1 0) ∧ (Mad σ' (wr σ) L s1 1) ∧ (same [19, 20, 21, 22, 23, 24] σ σ')))) 0 0 (aM ad) := by
  refine wStart (by decide) (Nat.le_of_ble_eq_true rfl) (fun k hk => ⟨k, hk, rfl⟩) (fun p e s m below meth c S hr hlk _ _ ls hW hl => ?_)
  have hl : lv_has ls 4 [(0, .ref (ad 0))] := hl
  refine lv_aload_n S.1 S.2.1 dX5_meeting_0 rfl (lv_at hl 0 rfl) ?_
  refine c_VSv S hW (tX5_begins l G ad σ L s1 (hw0) (hWf) (hn) (hL) (hv) (hs)) (cw_X5_285 S.2.2.2.2 ⟨Nat.le_of_ble_eq_true rfl, Nat.le_of_ble_eq_true rfl⟩) eBlind_T (fun _ _ _ => trivial) (w_recv hW (q0 := 0) rfl rfl) rfl hl.1 (rest := []) rfl (Nat.le_of_ble_eq_true rfl) dX5_meeting_1 ⟨Nat.le_of_ble_eq_true rfl, Nat.le_of_ble_eq_true rfl⟩ (fun σ1 H locs q1 hW => ?_)
  obtain ⟨q1_m0, q1_m1, q1_p, q1_sm⟩ := q1
  refine r_iconst S dX5_meeting_4 ?_
  refine lv_istore_n (lv' := [(1, .int (iI 0)), (0, .ref (ad 0))]) S.1 S.2.1 dX5_meeting_5 rfl hl (by decide) rfl (fun ls hl => ?_)
  have cut_6 : ∀ (N_6 : Nat) (st : Int) (σ2 : St) (H : Heap) (locs : List Loc) (ls : Array Slot), (0 ≤ st ∧ st ≤ 25) → (same [24] σ1 σ2) → (σ2 24 0 = (stA (wr σ) L s1 (st - 1).toNat).1) → (σ2 24 1 = (stA (wr σ) L s1 (st - 1).toNat).2) → (1 ≤ st → (stA (wr σ) L s1 (st - 1).toNat).1 ≠ (stA (wr σ) L s1 (st - 1).toNat).2) → (fst (mtA (wr σ) L s1) st.toNat (25 - st.toNat) = meet (wr σ) L s1) → ((25 - st).toNat) < N_6 → WD G shM ad (aM ad) s s.heap σ2 H locs → lv_has ls 4 [(1, .int (iI st)), (0, .ref (ad 0))] → W p l e (⟨6, 0, 0, 134⟩ : Room) s m ([.ref (ad 0)] : List Value).toArray below meth c H locs 0 0 (MQ below (qS G shM ad (aM ad) (rI (fun r σ' => (r = meet (wr σ) L s1) ∧ (Mad σ' (wr σ) L s1 0) ∧ (Mad σ' (wr σ) L s1 1) ∧ (same [19, 20, 21, 22, 23, 24] σ σ')))) ([.ref (ad 0)] : List Value).toArray s 0 0 (aM ad)) (F0 m 6 ls []) := by
    intro N_6
    induction N_6 with
    | zero =>
      intro st σ2 H locs ls hst hsm hp1 hp2 hne hf hμ_6 hW hl
      exact absurd hμ_6 (by omega)
    | succ N_6 ih_6 =>
      intro st σ2 H locs ls hst hsm hp1 hp2 hne hf hμ_6 hW hl
      have z0 : σ2 0 = σ 0 := (hsm 0 (by decide)).trans (q1_sm 0 (by decide))
      have z10 : σ2 10 = σ 10 := (hsm 10 (by decide)).trans (q1_sm 10 (by decide))
      have wq : wr σ2 = wr σ := by funext j; simp only [wr, z0, z10]
      have z10b : σ2 10 0 = σ 10 0 := by rw [z10]
      have hrg := stA_rng (L := L) (s := s1) hWf (st - 1).toNat
      have hrh := stA_rng (L := L) (s := s1) hWf st.toNat
      have hM0 := Mad_eq q1_m0 (hsm 19 (by decide)) (hsm 20 (by decide)) (hsm 21 (by decide)) (hsm 22 (by decide)) (hsm 23 (by decide))
      have hM1 := Mad_eq q1_m1 (hsm 19 (by decide)) (hsm 20 (by decide)) (hsm 21 (by decide)) (hsm 22 (by decide)) (hsm 23 (by decide))
      refine lv_iload_n S.1 S.2.1 dX5_meeting_6 rfl (lv_at hl 0 rfl) ?_
      refine r_bipush S dX5_meeting_7 (by decide) ?_
      refine r_icmp_gt S (tgt := 77) dX5_meeting_9 rfl (by omega) (fun c_9 => ?_) (fun c_9 => ?_)
      ·
        refine r_iconst S dX5_meeting_77 ?_
        exact e_iS S hr hlk hW ⟨(-1), rfl, ⟨(by rw [← hf, show 25 - st.toNat = 0 by omega]; rfl), (hM0), (hM1), (same_tr q1_sm hsm (by decide))⟩⟩ dX5_meeting_78
      ·
        refine lv_aload_n S.1 S.2.1 dX5_meeting_12 rfl (lv_at hl 1 rfl) ?_
        refine w_getr S hW in_X5 0 rfl rfl 24 (by decide) q1675 rfl rfl dX5_meeting_13 ?_
        refine r_iconst S dX5_meeting_16 ?_
        refine w_ald S hW 15 0 rfl rfl (by omega) dX5_meeting_17 ?_
        refine lv_aload_n S.1 S.2.1 dX5_meeting_18 rfl (lv_at hl 1 rfl) ?_
        refine w_getr S hW in_X5 0 rfl rfl 24 (by decide) q1675 rfl rfl dX5_meeting_19 ?_
        refine r_iconst S dX5_meeting_22 ?_
        refine w_ald S hW 15 0 rfl rfl (by omega) dX5_meeting_23 ?_
        refine r_isub S dX5_meeting_24 ?_
        refine lv_istore_n (lv' := [(2, .int (iI ((σ2 24 1) - (σ2 24 0)))), (1, .int (iI st)), (0, .ref (ad 0))]) S.1 S.2.1 dX5_meeting_25 rfl hl (by decide) rfl (fun ls hl => ?_)
        refine lv_iload_n S.1 S.2.1 dX5_meeting_26 rfl (lv_at hl 1 rfl) ?_
        have cut_35 : ∀  (σ3 : St) (H : Heap) (locs : List Loc) (ls : Array Slot), (same [24] σ1 σ3) → (σ3 24 0 = (stA (wr σ) L s1 st.toNat).1 ∧ σ3 24 1 = (stA (wr σ) L s1 st.toNat).2) → WD G shM ad (aM ad) s s.heap σ3 H locs → lv_has ls 4 [(2, .int (iI ((σ2 24 1) - (σ2 24 0)))), (1, .int (iI st)), (0, .ref (ad 0))] → W p l e (⟨6, 0, 0, 134⟩ : Room) s m ([.ref (ad 0)] : List Value).toArray below meth c H locs 0 0 (MQ below (qS G shM ad (aM ad) (rI (fun r σ' => (r = meet (wr σ) L s1) ∧ (Mad σ' (wr σ) L s1 0) ∧ (Mad σ' (wr σ) L s1 1) ∧ (same [19, 20, 21, 22, 23, 24] σ σ')))) ([.ref (ad 0)] : List Value).toArray s 0 0 (aM ad)) (F0 m 35 ls []) := by
          intro σ3 H locs ls hsm3 hp3 hW hl
          have g1 := hp3.1
          have g2 := hp3.2
          refine lv_aload_n S.1 S.2.1 dX5_meeting_35 rfl (lv_at hl 2 rfl) ?_
          refine w_getr S hW in_X5 0 rfl rfl 24 (by decide) q1675 rfl rfl dX5_meeting_36 ?_
          refine r_iconst S dX5_meeting_39 ?_
          refine w_ald S hW 15 0 rfl rfl (by omega) dX5_meeting_40 ?_
          refine lv_aload_n S.1 S.2.1 dX5_meeting_41 rfl (lv_at hl 2 rfl) ?_
          refine w_getr S hW in_X5 0 rfl rfl 24 (by decide) q1675 rfl rfl dX5_meeting_42 ?_
          refine r_iconst S dX5_meeting_45 ?_
          refine w_ald S hW 15 0 rfl rfl (by omega) dX5_meeting_46 ?_
          refine r_isub S dX5_meeting_47 ?_
          refine lv_istore_n (lv' := [(3, .int (iI ((σ3 24 1) - (σ3 24 0)))), (2, .int (iI ((σ2 24 1) - (σ2 24 0)))), (1, .int (iI st)), (0, .ref (ad 0))]) S.1 S.2.1 dX5_meeting_48 rfl hl (by decide) rfl (fun ls hl => ?_)
          refine lv_iload_n S.1 S.2.1 dX5_meeting_49 rfl (lv_at hl 0 rfl) ?_
          refine r_if_eq S (tgt := 69) dX5_meeting_50 rfl (by omega) (fun c_50 => ?_) (fun c_50 => ?_)
          ·
            have hmt : mtA (wr σ) L s1 st.toNat := by
              rcases (show σ3 24 1 - σ3 24 0 = 0 ∨ σ3 24 1 - σ3 24 0 ≠ 0 by omega) with z | z
              · exact Or.inl (by omega)
              · refine Or.inr ⟨(st - 1).toNat, ?_, ?_⟩
                · rcases (show st = 0 ∨ 1 ≤ st by omega) with z2 | z2
                  · exfalso; rw [show st.toNat = (st - 1).toNat by omega] at g1 g2; omega
                  · omega
                · rw [← g1, ← g2, ← hp1, ← hp2]; unfold sgn; split <;> (try split) <;> (try split) <;> (try split) <;> omega
            refine lv_iload_n S.1 S.2.1 dX5_meeting_69 rfl (lv_at hl 2 rfl) ?_
            exact e_iS S hr hlk hW ⟨st, rfl, ⟨(by rw [← hf, show 25 - st.toNat = (24 - st.toNat) + 1 by omega, fst_y hmt]; omega), (Mad_eq q1_m0 (hsm3 19 (by decide)) (hsm3 20 (by decide)) (hsm3 21 (by decide)) (hsm3 22 (by decide)) (hsm3 23 (by decide))), (Mad_eq q1_m1 (hsm3 19 (by decide)) (hsm3 20 (by decide)) (hsm3 21 (by decide)) (hsm3 22 (by decide)) (hsm3 23 (by decide))), (same_tr q1_sm hsm3 (by decide))⟩⟩ dX5_meeting_70
          ·
            refine lv_iload_n S.1 S.2.1 dX5_meeting_53 rfl (lv_at hl 1 rfl) ?_
            refine r_if_le S (tgt := 61) dX5_meeting_54 rfl (by omega) (fun c_54 => ?_) (fun c_54 => ?_)
            ·
              refine lv_iload_n S.1 S.2.1 dX5_meeting_61 rfl (lv_at hl 1 rfl) ?_
              refine r_if_ge S (tgt := 71) dX5_meeting_62 rfl (by omega) (fun c_62 => ?_) (fun c_62 => ?_)
              ·
                have hmt : ¬ mtA (wr σ) L s1 st.toNat := by
                  rintro (z | ⟨n9, z1, z2⟩)
                  · omega
                  · have hn9 : n9 = (st - 1).toNat := by omega
                    have hne9 := hne (by omega)
                    rw [hn9, ← g1, ← g2, ← hp1, ← hp2] at z2
                    revert z2; unfold sgn; split <;> (try split) <;> (try split) <;> (try split) <;> omega
                refine lv_iinc (v := iI (st + 1)) (lv' := [(1, .int (iI (st + 1))), (3, .int (iI ((σ3 24 1) - (σ3 24 0)))), (2, .int (iI ((σ2 24 1) - (σ2 24 0)))), (0, .ref (ad 0))]) S.1 S.2.1 dX5_meeting_71 hl (k := 2) rfl (iI_add _ _) (by decide) rfl (fun ls hl => ?_)
                refine lv_goto (tgt := 6) S.1 S.2.1 dX5_meeting_74 rfl ?_
                exact ih_6 (st + 1) σ3 H _ _ (by omega) (hsm3) (by rw [show (st + 1 - 1).toNat = st.toNat by omega]; exact g1) (by rw [show (st + 1 - 1).toNat = st.toNat by omega]; exact g2) (fun _ z => hmt (Or.inl (by rw [show (st + 1 - 1).toNat = st.toNat by omega] at z; exact z))) (by rw [← hf, show 25 - st.toNat = (25 - (st + 1).toNat) + 1 by omega, fst_n hmt, show (st + 1).toNat = st.toNat + 1 by omega]) (by omega) hW (lv_sub hl [0, 3] rfl)
              ·
                refine lv_iload_n S.1 S.2.1 dX5_meeting_65 rfl (lv_at hl 0 rfl) ?_
                refine r_if_le S (tgt := 71) dX5_meeting_66 rfl (by omega) (fun c_66 => ?_) (fun c_66 => ?_)
                ·
                  have hmt : ¬ mtA (wr σ) L s1 st.toNat := by
                    rintro (z | ⟨n9, z1, z2⟩)
                    · omega
                    · have hn9 : n9 = (st - 1).toNat := by omega
                      have hne9 := hne (by omega)
                      rw [hn9, ← g1, ← g2, ← hp1, ← hp2] at z2
                      revert z2; unfold sgn; split <;> (try split) <;> (try split) <;> (try split) <;> omega
                  refine lv_iinc (v := iI (st + 1)) (lv' := [(1, .int (iI (st + 1))), (3, .int (iI ((σ3 24 1) - (σ3 24 0)))), (2, .int (iI ((σ2 24 1) - (σ2 24 0)))), (0, .ref (ad 0))]) S.1 S.2.1 dX5_meeting_71 hl (k := 2) rfl (iI_add _ _) (by decide) rfl (fun ls hl => ?_)
                  refine lv_goto (tgt := 6) S.1 S.2.1 dX5_meeting_74 rfl ?_
                  exact ih_6 (st + 1) σ3 H _ _ (by omega) (hsm3) (by rw [show (st + 1 - 1).toNat = st.toNat by omega]; exact g1) (by rw [show (st + 1 - 1).toNat = st.toNat by omega]; exact g2) (fun _ z => hmt (Or.inl (by rw [show (st + 1 - 1).toNat = st.toNat by omega] at z; exact z))) (by rw [← hf, show 25 - st.toNat = (25 - (st + 1).toNat) + 1 by omega, fst_n hmt, show (st + 1).toNat = st.toNat + 1 by omega]) (by omega) hW (lv_sub hl [0, 3] rfl)
                ·
                  have hmt : mtA (wr σ) L s1 st.toNat := by
                    rcases (show σ3 24 1 - σ3 24 0 = 0 ∨ σ3 24 1 - σ3 24 0 ≠ 0 by omega) with z | z
                    · exact Or.inl (by omega)
                    · refine Or.inr ⟨(st - 1).toNat, ?_, ?_⟩
                      · rcases (show st = 0 ∨ 1 ≤ st by omega) with z2 | z2
                        · exfalso; rw [show st.toNat = (st - 1).toNat by omega] at g1 g2; omega
                        · omega
                      · rw [← g1, ← g2, ← hp1, ← hp2]; unfold sgn; split <;> (try split) <;> (try split) <;> (try split) <;> omega
                  refine lv_iload_n S.1 S.2.1 dX5_meeting_69 rfl (lv_at hl 2 rfl) ?_
                  exact e_iS S hr hlk hW ⟨st, rfl, ⟨(by rw [← hf, show 25 - st.toNat = (24 - st.toNat) + 1 by omega, fst_y hmt]; omega), (Mad_eq q1_m0 (hsm3 19 (by decide)) (hsm3 20 (by decide)) (hsm3 21 (by decide)) (hsm3 22 (by decide)) (hsm3 23 (by decide))), (Mad_eq q1_m1 (hsm3 19 (by decide)) (hsm3 20 (by decide)) (hsm3 21 (by decide)) (hsm3 22 (by decide)) (hsm3 23 (by decide))), (same_tr q1_sm hsm3 (by decide))⟩⟩ dX5_meeting_70
            ·
              refine lv_iload_n S.1 S.2.1 dX5_meeting_57 rfl (lv_at hl 0 rfl) ?_
              refine r_if_lt S (tgt := 69) dX5_meeting_58 rfl (by omega) (fun c_58 => ?_) (fun c_58 => ?_)
              ·
                have hmt : mtA (wr σ) L s1 st.toNat := by
                  rcases (show σ3 24 1 - σ3 24 0 = 0 ∨ σ3 24 1 - σ3 24 0 ≠ 0 by omega) with z | z
                  · exact Or.inl (by omega)
                  · refine Or.inr ⟨(st - 1).toNat, ?_, ?_⟩
                    · rcases (show st = 0 ∨ 1 ≤ st by omega) with z2 | z2
                      · exfalso; rw [show st.toNat = (st - 1).toNat by omega] at g1 g2; omega
                      · omega
                    · rw [← g1, ← g2, ← hp1, ← hp2]; unfold sgn; split <;> (try split) <;> (try split) <;> (try split) <;> omega
                refine lv_iload_n S.1 S.2.1 dX5_meeting_69 rfl (lv_at hl 2 rfl) ?_
                exact e_iS S hr hlk hW ⟨st, rfl, ⟨(by rw [← hf, show 25 - st.toNat = (24 - st.toNat) + 1 by omega, fst_y hmt]; omega), (Mad_eq q1_m0 (hsm3 19 (by decide)) (hsm3 20 (by decide)) (hsm3 21 (by decide)) (hsm3 22 (by decide)) (hsm3 23 (by decide))), (Mad_eq q1_m1 (hsm3 19 (by decide)) (hsm3 20 (by decide)) (hsm3 21 (by decide)) (hsm3 22 (by decide)) (hsm3 23 (by decide))), (same_tr q1_sm hsm3 (by decide))⟩⟩ dX5_meeting_70
              ·
                refine lv_iload_n S.1 S.2.1 dX5_meeting_61 rfl (lv_at hl 1 rfl) ?_
                refine r_if_ge S (tgt := 71) dX5_meeting_62 rfl (by omega) (fun c_62 => ?_) (fun c_62 => ?_)
                ·
                  have hmt : ¬ mtA (wr σ) L s1 st.toNat := by
                    rintro (z | ⟨n9, z1, z2⟩)
                    · omega
                    · have hn9 : n9 = (st - 1).toNat := by omega
                      have hne9 := hne (by omega)
                      rw [hn9, ← g1, ← g2, ← hp1, ← hp2] at z2
                      revert z2; unfold sgn; split <;> (try split) <;> (try split) <;> (try split) <;> omega
                  refine lv_iinc (v := iI (st + 1)) (lv' := [(1, .int (iI (st + 1))), (3, .int (iI ((σ3 24 1) - (σ3 24 0)))), (2, .int (iI ((σ2 24 1) - (σ2 24 0)))), (0, .ref (ad 0))]) S.1 S.2.1 dX5_meeting_71 hl (k := 2) rfl (iI_add _ _) (by decide) rfl (fun ls hl => ?_)
                  refine lv_goto (tgt := 6) S.1 S.2.1 dX5_meeting_74 rfl ?_
                  exact ih_6 (st + 1) σ3 H _ _ (by omega) (hsm3) (by rw [show (st + 1 - 1).toNat = st.toNat by omega]; exact g1) (by rw [show (st + 1 - 1).toNat = st.toNat by omega]; exact g2) (fun _ z => hmt (Or.inl (by rw [show (st + 1 - 1).toNat = st.toNat by omega] at z; exact z))) (by rw [← hf, show 25 - st.toNat = (25 - (st + 1).toNat) + 1 by omega, fst_n hmt, show (st + 1).toNat = st.toNat + 1 by omega]) (by omega) hW (lv_sub hl [0, 3] rfl)
                ·
                  refine lv_iload_n S.1 S.2.1 dX5_meeting_65 rfl (lv_at hl 0 rfl) ?_
                  refine r_if_le S (tgt := 71) dX5_meeting_66 rfl (by omega) (fun c_66 => ?_) (fun c_66 => ?_)
                  ·
                    have hmt : ¬ mtA (wr σ) L s1 st.toNat := by
                      rintro (z | ⟨n9, z1, z2⟩)
                      · omega
                      · have hn9 : n9 = (st - 1).toNat := by omega
                        have hne9 := hne (by omega)
                        rw [hn9, ← g1, ← g2, ← hp1, ← hp2] at z2
                        revert z2; unfold sgn; split <;> (try split) <;> (try split) <;> (try split) <;> omega
                    refine lv_iinc (v := iI (st + 1)) (lv' := [(1, .int (iI (st + 1))), (3, .int (iI ((σ3 24 1) - (σ3 24 0)))), (2, .int (iI ((σ2 24 1) - (σ2 24 0)))), (0, .ref (ad 0))]) S.1 S.2.1 dX5_meeting_71 hl (k := 2) rfl (iI_add _ _) (by decide) rfl (fun ls hl => ?_)
                    refine lv_goto (tgt := 6) S.1 S.2.1 dX5_meeting_74 rfl ?_
                    exact ih_6 (st + 1) σ3 H _ _ (by omega) (hsm3) (by rw [show (st + 1 - 1).toNat = st.toNat by omega]; exact g1) (by rw [show (st + 1 - 1).toNat = st.toNat by omega]; exact g2) (fun _ z => hmt (Or.inl (by rw [show (st + 1 - 1).toNat = st.toNat by omega] at z; exact z))) (by rw [← hf, show 25 - st.toNat = (25 - (st + 1).toNat) + 1 by omega, fst_n hmt, show (st + 1).toNat = st.toNat + 1 by omega]) (by omega) hW (lv_sub hl [0, 3] rfl)
                  ·
                    have hmt : mtA (wr σ) L s1 st.toNat := by
                      rcases (show σ3 24 1 - σ3 24 0 = 0 ∨ σ3 24 1 - σ3 24 0 ≠ 0 by omega) with z | z
                      · exact Or.inl (by omega)
                      · refine Or.inr ⟨(st - 1).toNat, ?_, ?_⟩
                        · rcases (show st = 0 ∨ 1 ≤ st by omega) with z2 | z2
                          · exfalso; rw [show st.toNat = (st - 1).toNat by omega] at g1 g2; omega
                          · omega
                        · rw [← g1, ← g2, ← hp1, ← hp2]; unfold sgn; split <;> (try split) <;> (try split) <;> (try split) <;> omega
                    refine lv_iload_n S.1 S.2.1 dX5_meeting_69 rfl (lv_at hl 2 rfl) ?_
                    exact e_iS S hr hlk hW ⟨st, rfl, ⟨(by rw [← hf, show 25 - st.toNat = (24 - st.toNat) + 1 by omega, fst_y hmt]; omega), (Mad_eq q1_m0 (hsm3 19 (by decide)) (hsm3 20 (by decide)) (hsm3 21 (by decide)) (hsm3 22 (by decide)) (hsm3 23 (by decide))), (Mad_eq q1_m1 (hsm3 19 (by decide)) (hsm3 20 (by decide)) (hsm3 21 (by decide)) (hsm3 22 (by decide)) (hsm3 23 (by decide))), (same_tr q1_sm hsm3 (by decide))⟩⟩ dX5_meeting_70
        refine r_if_le S (tgt := 35) dX5_meeting_27 rfl (by omega) (fun c_27 => ?_) (fun c_27 => ?_)
        ·
          exact cut_35 σ2 H _ _ (hsm) (by rw [show st.toNat = (st - 1).toNat by omega]; exact ⟨hp1, hp2⟩) hW (lv_sub hl [0, 1, 2] rfl)
        ·
          refine lv_aload_n S.1 S.2.1 dX5_meeting_30 rfl (lv_at hl 2 rfl) ?_
          refine lv_iload_n S.1 S.2.1 dX5_meeting_31 rfl (lv_at hl 1 rfl) ?_
          refine c_VSv S hW (tX5_steps l G ad σ2 st L s1 (by omega) (by rw [wq]; exact hWf) (hL) (by rw [wq]; exact hM0) (by rw [wq]; exact hM1) (by omega) (by omega)) (cw_X5_288 S.2.2.2.2 ⟨Nat.le_of_ble_eq_true rfl, Nat.le_of_ble_eq_true rfl⟩) eBlind_T (fun _ _ _ => trivial) (w_recv hW (q0 := 0) rfl rfl) rfl hl.1 (rest := []) rfl (Nat.le_of_ble_eq_true rfl) dX5_meeting_32 ⟨Nat.le_of_ble_eq_true rfl, Nat.le_of_ble_eq_true rfl⟩ (fun σ32 H locs q32 hW => ?_)
          obtain ⟨q32_a, q32_b, q32_sm⟩ := q32
          rw [wq, hp1, hp2] at q32_a q32_b
          exact cut_35 σ32 H _ _ (same_tr hsm q32_sm (by decide)) (by rw [show st.toNat = (st - 1).toNat + 1 by omega]; simp only [stA]; rw [show ((((st - 1).toNat : Nat) : Int) + 1) = st by omega]; exact ⟨q32_a, q32_b⟩) hW (lv_sub hl [0, 1, 2] rfl)
  exact cut_6 _ 0 σ1 H _ _ (by omega) (same_rf) (q1_p.1) (q1_p.2) (fun h9 => absurd h9 (by omega)) (rfl) (Nat.lt_succ_self _) hW (lv_sub hl [0, 1] rfl)
theorem hd_X5_meeting : yX5_meeting.cls = RX5 ∧ yX5_meeting.cls ≠ "java/lang/invoke/MethodHandle" ∧ yX5_meeting.cls ≠ "java/lang/invoke/VarHandle" ∧ (parseMethodDescriptor yX5_meeting.desc).map (fun d => d.parameters.length) = some 0 := by decide +kernel
theorem cw_X5_291 {R : Room} {s : State} {args : Array Value} (ht : ∀ w ∈ lw_all, w.before args s = true) (hR : 6 + 1 ≤ R.frames ∧ 8 + (4 + 11) + 134 ≤ R.locals) : CallW R s args "OneDrumModel" RX5 291 yX5_meeting cX5_meeting 4 (some .int) (ws_ yX5_meeting cX5_meeting 4 (some .int)) ⟨6, 0, 0, 134⟩ 0 0 0 := cwV 0 ht (lw_V q2011 q2013 qs91 q126 q2014) rfl rfl rfl hd_X5_meeting hR
set_option maxHeartbeats 4000000 in
theorem tX5_meets (l : Launch) (G : GG) (ad : Nat → Nat) (σ : St) (k : Int) (s0 : Int) (hr0 : -2147483648 ≤ k ∧ k < 2147483648 ∧ -2147483648 ≤ s0 ∧ s0 < 2147483648) (hdb : WfDB (σ 0)) : Met l yX5_meets (ws_ yX5_meets cX5_meets 3 (some .int)) ⟨7, 0, 0, 157⟩ (wPre G shM ad σ (fun _ => True) [.ref (ad 0), .int (iI k), .int (iI s0)]) (qS G shM ad (aM ad) (rI (fun r σ' => (r = sMeets (σ 0) k s0) ∧ (same [10, 11, 12, 13, 14, 15, 16, 17, 18, 19, 20, 21, 22, 23, 24] σ σ')))) 0 0 (aM ad) := by
  refine wStart (by decide) (Nat.le_of_ble_eq_true rfl) (fun k hk => ⟨k, hk, rfl⟩) (fun p e s m below meth c S hr hlk _ _ ls hW hl => ?_)
  have hl : lv_has ls 3 [(0, .ref (ad 0)), (1, .int (iI k)), (2, .int (iI s0))] := hl
  have d0 := hdb.1
  have d1 := hdb.2.1
  have d2 := hdb.2.2.1
  have d3 := hdb.2.2.2.1
  refine lv_aload_n S.1 S.2.1 dX5_meets_0 rfl (lv_at hl 0 rfl) ?_
  refine lv_iload_n S.1 S.2.1 dX5_meets_1 rfl (lv_at hl 1 rfl) ?_
  refine lv_iload_n S.1 S.2.1 dX5_meets_2 rfl (lv_at hl 2 rfl) ?_
  refine c_VSz S hW (tX5_arePlayed l G ad σ k s0 (by omega) (by omega)) (cw_X5_255 S.2.2.2.2 ⟨Nat.le_of_ble_eq_true rfl, Nat.le_of_ble_eq_true rfl⟩) eBlind_T (fun _ _ _ => trivial) (w_recv hW (q0 := 0) rfl rfl) rfl hl.1 (rest := []) rfl (Nat.le_of_ble_eq_true rfl) dX5_meets_3 ⟨Nat.le_of_ble_eq_true rfl, Nat.le_of_ble_eq_true rfl⟩ (fun r3 σ3 H locs q3 hW => ?_)
  obtain ⟨rfl, q3_sm, q3_pl⟩ := q3
  have e0 : σ3 0 = σ 0 := q3_sm 0 (by decide)
  refine r_ifeq_p S (tgt := 16) dX5_meets_6 rfl (fun c_6 => ?_) (fun c_6 => ?_)
  ·
    refine r_iconst S dX5_meets_16 ?_
    exact e_iS S hr hlk hW ⟨(-1), rfl, ⟨(by unfold sMeets; first | rw [if_neg (fun z => absurd (dP_t.mp z) (by assumption))] | (rw [if_pos (dP_t.mpr ws9), wq])), (by first | exact same_w q3_sm (by decide) | exact same_tr (same_w q3_sm (by decide)) q10_sm (by decide))⟩⟩ dX5_meets_17
  ·
    obtain ⟨w10, pl⟩ := q3_pl (by first | exact c_6 | assumption)
    have ws9 : inWS (σ 0) k s0 := by first | exact c_6 | assumption
    have hWf := hdb.2.2.2.2.2.2.2.2.1 k (by unfold inWS at ws9; omega) (by unfold inWS at ws9; omega)
    have hg := hdb.2.2.2.2.2.2.2.2.2.1 s0 (by unfold inWS at ws9; omega) (by unfold inWS at ws9; omega)
    have w10b : σ3 10 0 = 610 ∨ σ3 10 0 = 699 := by unfold inWS at ws9; omega
    have wq : wr σ3 = wAt (σ 0) k := wr_at e0 w10
    have n18 := pl.1
    have hL9 := rowG_len hWf hg
    have hg00 := (hg 0 (by omega) (by omega)).1
    have hg11 := (hg 1 (by omega) (by omega)).1
    obtain ⟨LL, eLL⟩ : ∃ z, z = rowG (wAt (σ 0) k) (gAt (σ 0) s0) := ⟨_, rfl⟩
    have hLr := rowG_V (w := wAt (σ 0) k) hg
    have hLg := (rowL_V (t := (wAt (σ 0) k 0).toNat) (gl_mem hg (x := 0) (by omega)) (gl_mem hg (x := 1) (by omega))).2
    have w10c : 0 ≤ σ3 10 0 ∧ σ3 10 0 ≤ 700 := by omega
    have sn9 : fil σ3 16 (rowG (wAt (σ 0) k) (gAt (σ 0) s0)).length (sd (wr σ3) (rf (rowG (wAt (σ 0) k) (gAt (σ 0) s0))) 0) := by rw [wq]; exact pl.2.2.1
    have l24 : (rowG (wAt (σ 0) k) (gAt (σ 0) s0)).length ≤ 24 := by omega
    refine lv_aload_n S.1 S.2.1 dX5_meets_9 rfl (lv_at hl 0 rfl) ?_
    refine c_VSi S hW (tX5_meeting l G ad σ3 (rowG (wAt (σ 0) k) (gAt (σ 0) s0)) 0 (w10c) (by rw [wq]; exact hWf) (n18) (l24) (hLr) (sn9)) (cw_X5_291 S.2.2.2.2 ⟨Nat.le_of_ble_eq_true rfl, Nat.le_of_ble_eq_true rfl⟩) eBlind_T (fun _ _ _ => trivial) (w_recv hW (q0 := 0) rfl rfl) rfl hl.1 (rest := []) rfl (Nat.le_of_ble_eq_true rfl) dX5_meets_10 ⟨Nat.le_of_ble_eq_true rfl, Nat.le_of_ble_eq_true rfl⟩ (fun r10 σ10 H locs q10 hW => ?_)
    obtain ⟨rfl, q10_m0, q10_m1, q10_sm⟩ := q10
    refine lv_goto (tgt := 17) S.1 S.2.1 dX5_meets_13 rfl ?_
    exact e_iS S hr hlk hW ⟨(meet (wr σ3) (rowG (wAt (σ 0) k) (gAt (σ 0) s0)) 0), rfl, ⟨(by unfold sMeets; first | rw [if_neg (fun z => absurd (dP_t.mp z) (by assumption))] | (rw [if_pos (dP_t.mpr ws9), wq])), (by first | exact same_w q3_sm (by decide) | exact same_tr (same_w q3_sm (by decide)) q10_sm (by decide))⟩⟩ dX5_meets_17
