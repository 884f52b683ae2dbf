set_option maxHeartbeats 4000000 in
theorem tX5_isLetter (l : Launch) (b : Int) (h : -2147483648 ≤ b ∧ b < 2147483648) : Met l yX5_isLetter (ws_ yX5_isLetter cX5_isLetter 1 (some .boolean)) ⟨0, 0, 0, 0⟩ (va_Pc [.int (iI b)] (fun _ => True)) (qP (.int (iI (b2i (dP (97 ≤ b ∧ b ≤ 122)))))) 0 0 (fun _ => False) := by
  refine sStart (by decide) (Nat.le_of_ble_eq_true rfl) (fun p e s m below meth c S hr hlk ls hW hl => ?_)
  have hl : lv_has ls 1 [(0, .int (iI b))] := hl
  refine lv_iload_n S.1 S.2.1 dX5_isLetter_0 rfl (lv_at hl 0 rfl) ?_
  refine r_bipush S dX5_isLetter_1 (by decide) ?_
  refine r_icmp_lt S (tgt := 16) dX5_isLetter_3 rfl (by omega) (fun c_3 => ?_) (fun c_3 => ?_)
  ·
    refine r_iconst S dX5_isLetter_16 ?_
    exact e_zP S hr hlk hW (by first | exact dP_1 (by omega) | exact dP_0 (by omega) | rfl) dX5_isLetter_17
  ·
    refine lv_iload_n S.1 S.2.1 dX5_isLetter_6 rfl (lv_at hl 0 rfl) ?_
    refine r_bipush S dX5_isLetter_7 (by decide) ?_
    refine r_icmp_gt S (tgt := 16) dX5_isLetter_9 rfl (by omega) (fun c_9 => ?_) (fun c_9 => ?_)
    ·
      refine r_iconst S dX5_isLetter_16 ?_
      exact e_zP S hr hlk hW (by first | exact dP_1 (by omega) | exact dP_0 (by omega) | rfl) dX5_isLetter_17
    ·
      refine r_iconst S dX5_isLetter_12 ?_
      refine lv_goto (tgt := 17) S.1 S.2.1 dX5_isLetter_13 rfl ?_
      exact e_zP S hr hlk hW (by first | exact dP_1 (by omega) | exact dP_0 (by omega) | rfl) dX5_isLetter_17
set_option maxHeartbeats 4000000 in
theorem tX5_isDigit (l : Launch) (b : Int) (h : -2147483648 ≤ b ∧ b < 2147483648) : Met l yX5_isDigit (ws_ yX5_isDigit cX5_isDigit 1 (some .boolean)) ⟨0, 0, 0, 0⟩ (va_Pc [.int (iI b)] (fun _ => True)) (qP (.int (iI (b2i (dP (48 ≤ b ∧ b ≤ 57)))))) 0 0 (fun _ => False) := by
  refine sStart (by decide) (Nat.le_of_ble_eq_true rfl) (fun p e s m below meth c S hr hlk ls hW hl => ?_)
  have hl : lv_has ls 1 [(0, .int (iI b))] := hl
  refine lv_iload_n S.1 S.2.1 dX5_isDigit_0 rfl (lv_at hl 0 rfl) ?_
  refine r_bipush S dX5_isDigit_1 (by decide) ?_
  refine r_icmp_lt S (tgt := 16) dX5_isDigit_3 rfl (by omega) (fun c_3 => ?_) (fun c_3 => ?_)
  ·
    refine r_iconst S dX5_isDigit_16 ?_
    exact e_zP S hr hlk hW (by first | exact dP_1 (by omega) | exact dP_0 (by omega) | rfl) dX5_isDigit_17
  ·
    refine lv_iload_n S.1 S.2.1 dX5_isDigit_6 rfl (lv_at hl 0 rfl) ?_
    refine r_bipush S dX5_isDigit_7 (by decide) ?_
    refine r_icmp_gt S (tgt := 16) dX5_isDigit_9 rfl (by omega) (fun c_9 => ?_) (fun c_9 => ?_)
    ·
      refine r_iconst S dX5_isDigit_16 ?_
      exact e_zP S hr hlk hW (by first | exact dP_1 (by omega) | exact dP_0 (by omega) | rfl) dX5_isDigit_17
    ·
      refine r_iconst S dX5_isDigit_12 ?_
      refine lv_goto (tgt := 17) S.1 S.2.1 dX5_isDigit_13 rfl ?_
      exact e_zP S hr hlk hW (by first | exact dP_1 (by omega) | exact dP_0 (by omega) | rfl) dX5_isDigit_17
set_option maxHeartbeats 4000000 in
theorem tX5_four (l : Launch) (a1 : Int) (a2 : Int) (a3 : Int) (a4 : Int) (h : 0 ≤ a1 ∧ a1 ≤ 31 ∧ 0 ≤ a2 ∧ a2 ≤ 31 ∧ 0 ≤ a3 ∧ a3 ≤ 31 ∧ 0 ≤ a4 ∧ a4 ≤ 31) : Met l yX5_four (ws_ yX5_four cX5_four 4 (some .long)) ⟨0, 0, 0, 0⟩ (va_Pc [.int (iI a1), .int (iI a2), .int (iI a3), .int (iI a4)] (fun _ => True)) (qP (.long (lI (((a1 * 32 + a2) * 32 + a3) * 32 + a4)))) 0 0 (fun _ => False) := by
  refine sStart (by decide) (Nat.le_of_ble_eq_true rfl) (fun p e s m below meth c S hr hlk ls hW hl => ?_)
  have hl : lv_has ls 4 [(0, .int (iI a1)), (1, .int (iI a2)), (2, .int (iI a3)), (3, .int (iI a4))] := hl
  refine lv_iload_n S.1 S.2.1 dX5_four_0 rfl (lv_at hl 0 rfl) ?_
  refine r_bipush S dX5_four_1 (by decide) ?_
  refine r_imul S dX5_four_3 ?_
  refine lv_iload_n S.1 S.2.1 dX5_four_4 rfl (lv_at hl 1 rfl) ?_
  refine r_iadd S dX5_four_5 ?_
  refine r_bipush S dX5_four_6 (by decide) ?_
  refine r_imul S dX5_four_8 ?_
  refine lv_iload_n S.1 S.2.1 dX5_four_9 rfl (lv_at hl 2 rfl) ?_
  refine r_iadd S dX5_four_10 ?_
  refine r_bipush S dX5_four_11 (by decide) ?_
  refine r_imul S dX5_four_13 ?_
  refine lv_iload_n S.1 S.2.1 dX5_four_14 rfl (lv_at hl 3 rfl) ?_
  refine r_iadd S dX5_four_15 ?_
  refine r_i2l S dX5_four_16 (by omega) ?_
  exact e_lP S hr hlk hW (by rfl) dX5_four_17
theorem hd_X5_four : yX5_four.cls ≠ "java/lang/invoke/MethodHandle" ∧ yX5_four.cls ≠ "java/lang/invoke/VarHandle" ∧ (parseMethodDescriptor yX5_four.desc).map (fun d => d.parameters.length) = some 4 := by decide +kernel
theorem cw_X5_91 {R : Room} {s : State} {args : Array Value} (ht : ∀ w ∈ lw_all, w.before args s = true) (hR : 0 + 1 ≤ R.frames ∧ 8 + (4 + 11) + 0 ≤ R.locals) : CallB R s args "OneDrumModel" 91 yX5_four cX5_four 4 (some .long) (ws_ yX5_four cX5_four 4 (some .long)) ⟨0, 0, 0, 0⟩ 0 0 4 ∧ (Cond.static yX5_four).before args s = true := va_cwS 4 ht (lw_S q1805 q1806 q126 q1807) rfl rfl rfl hd_X5_four hR
set_option maxHeartbeats 4000000 in
theorem tX5_eight (l : Launch) (a1 : Int) (a2 : Int) (a3 : Int) (a4 : Int) (a5 : Int) (a6 : Int) (a7 : Int) (a8 : Int) (h : 0 ≤ a1 ∧ a1 ≤ 31 ∧ 0 ≤ a2 ∧ a2 ≤ 31 ∧ 0 ≤ a3 ∧ a3 ≤ 31 ∧ 0 ≤ a4 ∧ a4 ≤ 31 ∧ 0 ≤ a5 ∧ a5 ≤ 31 ∧ 0 ≤ a6 ∧ a6 ≤ 31 ∧ 0 ≤ a7 ∧ a7 ≤ 31 ∧ 0 ≤ a8 ∧ a8 ≤ 31) : Met l yX5_eight (ws_ yX5_eight cX5_eight 8 (some .long)) ⟨1, 0, 0, 23⟩ (va_Pc [.int (iI a1), .int (iI a2), .int (iI a3), .int (iI a4), .int (iI a5), .int (iI a6), .int (iI a7), .int (iI a8)] (fun _ => True)) (qP (.long (lI ((((a1 * 32 + a2) * 32 + a3) * 32 + a4) * 1048576 + (((a5 * 32 + a6) * 32 + a7) * 32 + a8))))) 0 0 (fun _ => False) := by
  refine sStart (by decide) (Nat.le_of_ble_eq_true rfl) (fun p e s m below meth c S hr hlk ls hW hl => ?_)
  have hl : lv_has ls 8 [(0, .int (iI a1)), (1, .int (iI a2)), (2, .int (iI a3)), (3, .int (iI a4)), (4, .int (iI a5)), (5, .int (iI a6)), (6, .int (iI a7)), (7, .int (iI a8))] := hl
  refine lv_iload_n S.1 S.2.1 dX5_eight_0 rfl (lv_at hl 0 rfl) ?_
  refine lv_iload_n S.1 S.2.1 dX5_eight_1 rfl (lv_at hl 1 rfl) ?_
  refine lv_iload_n S.1 S.2.1 dX5_eight_2 rfl (lv_at hl 2 rfl) ?_
  refine lv_iload_n S.1 S.2.1 dX5_eight_3 rfl (lv_at hl 3 rfl) ?_
  refine c_SP S hW (tX5_four l a1 a2 a3 a4 (by omega)) (cw_X5_91 S.2.2.2.2 ⟨Nat.le_of_ble_eq_true rfl, Nat.le_of_ble_eq_true rfl⟩) rfl hl.1 (rest := []) rfl (Nat.le_of_ble_eq_true rfl) dX5_eight_4 ⟨Nat.le_of_ble_eq_true rfl, Nat.le_of_ble_eq_true rfl⟩ (fun locs hW => ?_)
  refine r_ldc2 (z := 1048576) S q1811 (by decide) dX5_eight_7 ?_
  refine r_lmul S dX5_eight_10 ?_
  refine lv_iload S.1 S.2.1 dX5_eight_11 (lv_at hl 4 rfl) ?_
  refine lv_iload S.1 S.2.1 dX5_eight_13 (lv_at hl 5 rfl) ?_
  refine lv_iload S.1 S.2.1 dX5_eight_15 (lv_at hl 6 rfl) ?_
  refine lv_iload S.1 S.2.1 dX5_eight_17 (lv_at hl 7 rfl) ?_
  refine c_SP S hW (tX5_four l a5 a6 a7 a8 (by omega)) (cw_X5_91 S.2.2.2.2 ⟨Nat.le_of_ble_eq_true rfl, Nat.le_of_ble_eq_true rfl⟩) rfl hl.1 (rest := [.long (lI ((((a1 * 32 + a2) * 32 + a3) * 32 + a4) * 1048576))]) rfl (Nat.le_of_ble_eq_true rfl) dX5_eight_19 ⟨Nat.le_of_ble_eq_true rfl, Nat.le_of_ble_eq_true rfl⟩ (fun locs hW => ?_)
  refine r_ladd S dX5_eight_22 ?_
  exact e_lP S hr hlk hW (by rfl) dX5_eight_23
theorem hd_X5_eight : yX5_eight.cls ≠ "java/lang/invoke/MethodHandle" ∧ yX5_eight.cls ≠ "java/lang/invoke/VarHandle" ∧ (parseMethodDescriptor yX5_eight.desc).map (fun d => d.parameters.length) = some 8 := by decide +kernel
theorem cw_X5_97 {R : Room} {s : State} {args : Array Value} (ht : ∀ w ∈ lw_all, w.before args s = true) (hR : 1 + 1 ≤ R.frames ∧ 8 + (8 + 11) + 23 ≤ R.locals) : CallB R s args "OneDrumModel" 97 yX5_eight cX5_eight 8 (some .long) (ws_ yX5_eight cX5_eight 8 (some .long)) ⟨1, 0, 0, 23⟩ 0 0 8 ∧ (Cond.static yX5_eight).before args s = true := va_cwS 8 ht (lw_S q1808 q1809 q126 q1810) rfl rfl rfl hd_X5_eight hR
set_option maxHeartbeats 4000000 in
theorem tX5_otherWord (l : Launch) (v : Int) (hv : 0 ≤ v ∧ v < 1099511627776) : Met l yX5_otherWord (ws_ yX5_otherWord cX5_otherWord 2 (some .int)) ⟨2, 0, 0, 50⟩ (va_Pc [.long (lI v)] (fun _ => True)) (qP (.int (iI (wrdB v)))) 0 0 (fun _ => False) := by
  refine sStart (by decide) (Nat.le_of_ble_eq_true rfl) (fun p e s m below meth c S hr hlk ls hW hl => ?_)
  have hl : lv_has ls 2 [(0, .long (lI v))] := hl
  refine lv_lload_n S.1 S.2.1 dX5_otherWord_0 rfl (lv_at hl 0 rfl) ?_
  refine r_bipush S dX5_otherWord_1 (by decide) ?_
  refine r_iconst S dX5_otherWord_3 ?_
  refine r_bipush S dX5_otherWord_4 (by decide) ?_
  refine r_bipush S dX5_otherWord_6 (by decide) ?_
  refine c_SP S hW (tX5_four l 8 1 12 20 (by omega)) (cw_X5_91 S.2.2.2.2 ⟨Nat.le_of_ble_eq_true rfl, Nat.le_of_ble_eq_true rfl⟩) rfl hl.1 (rest := [.long (lI v)]) rfl (Nat.le_of_ble_eq_true rfl) dX5_otherWord_8 ⟨Nat.le_of_ble_eq_true rfl, Nat.le_of_ble_eq_true rfl⟩ (fun locs hW => ?_)
  refine r_lcmp_ne S (tgt := 18) dX5_otherWord_11 dX5_otherWord_12 rfl (by omega) (fun c_11 => ?_) (fun c_11 => ?_)
  ·
    refine lv_lload_n S.1 S.2.1 dX5_otherWord_18 rfl (lv_at hl 0 rfl) ?_
    refine r_bipush S dX5_otherWord_19 (by decide) ?_
    refine r_iconst S dX5_otherWord_21 ?_
    refine r_bipush S dX5_otherWord_22 (by decide) ?_
    refine r_bipush S dX5_otherWord_24 (by decide) ?_
    refine c_SP S hW (tX5_four l 12 5 6 20 (by omega)) (cw_X5_91 S.2.2.2.2 ⟨Nat.le_of_ble_eq_true rfl, Nat.le_of_ble_eq_true rfl⟩) rfl hl.1 (rest := [.long (lI v)]) rfl (Nat.le_of_ble_eq_true rfl) dX5_otherWord_26 ⟨Nat.le_of_ble_eq_true rfl, Nat.le_of_ble_eq_true rfl⟩ (fun locs hW => ?_)
    refine r_lcmp_ne S (tgt := 36) dX5_otherWord_29 dX5_otherWord_30 rfl (by omega) (fun c_29 => ?_) (fun c_29 => ?_)
    ·
      refine lv_lload_n S.1 S.2.1 dX5_otherWord_36 rfl (lv_at hl 0 rfl) ?_
      refine r_iconst S dX5_otherWord_37 ?_
      refine r_iconst S dX5_otherWord_38 ?_
      refine r_iconst S dX5_otherWord_39 ?_
      refine r_bipush S dX5_otherWord_40 (by decide) ?_
      refine r_bipush S dX5_otherWord_42 (by decide) ?_
      refine r_bipush S dX5_otherWord_44 (by decide) ?_
      refine r_bipush S dX5_otherWord_46 (by decide) ?_
      refine r_bipush S dX5_otherWord_48 (by decide) ?_
      refine c_SP S hW (tX5_eight l 0 0 0 18 9 7 8 20 (by omega)) (cw_X5_97 S.2.2.2.2 ⟨Nat.le_of_ble_eq_true rfl, Nat.le_of_ble_eq_true rfl⟩) rfl hl.1 (rest := [.long (lI v)]) rfl (Nat.le_of_ble_eq_true rfl) dX5_otherWord_50 ⟨Nat.le_of_ble_eq_true rfl, Nat.le_of_ble_eq_true rfl⟩ (fun locs hW => ?_)
      refine r_lcmp_ne S (tgt := 60) dX5_otherWord_53 dX5_otherWord_54 rfl (by omega) (fun c_53 => ?_) (fun c_53 => ?_)
      ·
        refine lv_lload_n S.1 S.2.1 dX5_otherWord_60 rfl (lv_at hl 0 rfl) ?_
        refine r_iconst S dX5_otherWord_61 ?_
        refine r_iconst S dX5_otherWord_62 ?_
        refine r_iconst S dX5_otherWord_63 ?_
        refine r_bipush S dX5_otherWord_64 (by decide) ?_
        refine r_iconst S dX5_otherWord_66 ?_
        refine r_bipush S dX5_otherWord_67 (by decide) ?_
        refine r_bipush S dX5_otherWord_69 (by decide) ?_
        refine r_iconst S dX5_otherWord_71 ?_
        refine c_SP S hW (tX5_eight l 0 0 3 8 1 18 7 5 (by omega)) (cw_X5_97 S.2.2.2.2 ⟨Nat.le_of_ble_eq_true rfl, Nat.le_of_ble_eq_true rfl⟩) rfl hl.1 (rest := [.long (lI v)]) rfl (Nat.le_of_ble_eq_true rfl) dX5_otherWord_72 ⟨Nat.le_of_ble_eq_true rfl, Nat.le_of_ble_eq_true rfl⟩ (fun locs hW => ?_)
        refine r_lcmp_ne S (tgt := 82) dX5_otherWord_75 dX5_otherWord_76 rfl (by omega) (fun c_75 => ?_) (fun c_75 => ?_)
        ·
          refine lv_lload_n S.1 S.2.1 dX5_otherWord_82 rfl (lv_at hl 0 rfl) ?_
          refine r_iconst S dX5_otherWord_83 ?_
          refine r_bipush S dX5_otherWord_84 (by decide) ?_
          refine r_iconst S dX5_otherWord_86 ?_
          refine r_bipush S dX5_otherWord_87 (by decide) ?_
          refine r_bipush S dX5_otherWord_89 (by decide) ?_
          refine r_iconst S dX5_otherWord_91 ?_
          refine r_iconst S dX5_otherWord_92 ?_
          refine r_bipush S dX5_otherWord_93 (by decide) ?_
          refine c_SP S hW (tX5_eight l 0 18 5 20 18 5 1 20 (by omega)) (cw_X5_97 S.2.2.2.2 ⟨Nat.le_of_ble_eq_true rfl, Nat.le_of_ble_eq_true rfl⟩) rfl hl.1 (rest := [.long (lI v)]) rfl (Nat.le_of_ble_eq_true rfl) dX5_otherWord_95 ⟨Nat.le_of_ble_eq_true rfl, Nat.le_of_ble_eq_true rfl⟩ (fun locs hW => ?_)
          refine r_lcmp_ne S (tgt := 105) dX5_otherWord_98 dX5_otherWord_99 rfl (by omega) (fun c_98 => ?_) (fun c_98 => ?_)
          ·
            refine lv_lload_n S.1 S.2.1 dX5_otherWord_105 rfl (lv_at hl 0 rfl) ?_
            refine r_iconst S dX5_otherWord_106 ?_
            refine r_iconst S dX5_otherWord_107 ?_
            refine r_iconst S dX5_otherWord_108 ?_
            refine r_bipush S dX5_otherWord_109 (by decide) ?_
            refine r_bipush S dX5_otherWord_111 (by decide) ?_
            refine r_bipush S dX5_otherWord_113 (by decide) ?_
            refine r_iconst S dX5_otherWord_115 ?_
            refine r_bipush S dX5_otherWord_116 (by decide) ?_
            refine c_SP S hW (tX5_eight l 0 0 0 7 9 22 5 19 (by omega)) (cw_X5_97 S.2.2.2.2 ⟨Nat.le_of_ble_eq_true rfl, Nat.le_of_ble_eq_true rfl⟩) rfl hl.1 (rest := [.long (lI v)]) rfl (Nat.le_of_ble_eq_true rfl) dX5_otherWord_118 ⟨Nat.le_of_ble_eq_true rfl, Nat.le_of_ble_eq_true rfl⟩ (fun locs hW => ?_)
            refine r_lcmp_ne S (tgt := 128) dX5_otherWord_121 dX5_otherWord_122 rfl (by omega) (fun c_121 => ?_) (fun c_121 => ?_)
            ·
              refine lv_lload_n S.1 S.2.1 dX5_otherWord_128 rfl (lv_at hl 0 rfl) ?_
              refine r_bipush S dX5_otherWord_129 (by decide) ?_
              refine r_iconst S dX5_otherWord_131 ?_
              refine r_iconst S dX5_otherWord_132 ?_
              refine r_iconst S dX5_otherWord_133 ?_
              refine c_SP S hW (tX5_four l 13 1 4 5 (by omega)) (cw_X5_91 S.2.2.2.2 ⟨Nat.le_of_ble_eq_true rfl, Nat.le_of_ble_eq_true rfl⟩) rfl hl.1 (rest := [.long (lI v)]) rfl (Nat.le_of_ble_eq_true rfl) dX5_otherWord_134 ⟨Nat.le_of_ble_eq_true rfl, Nat.le_of_ble_eq_true rfl⟩ (fun locs hW => ?_)
              refine r_lcmp_ne S (tgt := 144) dX5_otherWord_137 dX5_otherWord_138 rfl (by omega) (fun c_137 => ?_) (fun c_137 => ?_)
              ·
                refine lv_lload_n S.1 S.2.1 dX5_otherWord_144 rfl (lv_at hl 0 rfl) ?_
                refine r_iconst S dX5_otherWord_145 ?_
                refine r_bipush S dX5_otherWord_146 (by decide) ?_
                refine r_bipush S dX5_otherWord_148 (by decide) ?_
                refine r_bipush S dX5_otherWord_150 (by decide) ?_
                refine c_SP S hW (tX5_four l 4 18 15 16 (by omega)) (cw_X5_91 S.2.2.2.2 ⟨Nat.le_of_ble_eq_true rfl, Nat.le_of_ble_eq_true rfl⟩) rfl hl.1 (rest := [.long (lI v)]) rfl (Nat.le_of_ble_eq_true rfl) dX5_otherWord_152 ⟨Nat.le_of_ble_eq_true rfl, Nat.le_of_ble_eq_true rfl⟩ (fun locs hW => ?_)
                refine r_lcmp_ne S (tgt := 162) dX5_otherWord_155 dX5_otherWord_156 rfl (by omega) (fun c_155 => ?_) (fun c_155 => ?_)
                ·
                  refine lv_lload_n S.1 S.2.1 dX5_otherWord_162 rfl (lv_at hl 0 rfl) ?_
                  refine r_bipush S dX5_otherWord_163 (by decide) ?_
                  refine r_bipush S dX5_otherWord_165 (by decide) ?_
                  refine r_iconst S dX5_otherWord_167 ?_
                  refine r_bipush S dX5_otherWord_168 (by decide) ?_
                  refine c_SP S hW (tX5_four l 19 23 1 16 (by omega)) (cw_X5_91 S.2.2.2.2 ⟨Nat.le_of_ble_eq_true rfl, Nat.le_of_ble_eq_true rfl⟩) rfl hl.1 (rest := [.long (lI v)]) rfl (Nat.le_of_ble_eq_true rfl) dX5_otherWord_170 ⟨Nat.le_of_ble_eq_true rfl, Nat.le_of_ble_eq_true rfl⟩ (fun locs hW => ?_)
                  refine r_lcmp_ne S (tgt := 180) dX5_otherWord_173 dX5_otherWord_174 rfl (by omega) (fun c_173 => ?_) (fun c_173 => ?_)
                  ·
                    refine lv_lload_n S.1 S.2.1 dX5_otherWord_180 rfl (lv_at hl 0 rfl) ?_
                    refine r_iconst S dX5_otherWord_181 ?_
                    refine r_iconst S dX5_otherWord_182 ?_
                    refine r_iconst S dX5_otherWord_183 ?_
                    refine r_bipush S dX5_otherWord_184 (by decide) ?_
                    refine r_bipush S dX5_otherWord_186 (by decide) ?_
                    refine r_bipush S dX5_otherWord_188 (by decide) ?_
                    refine r_iconst S dX5_otherWord_190 ?_
                    refine r_iconst S dX5_otherWord_191 ?_
                    refine c_SP S hW (tX5_eight l 0 0 0 20 23 9 3 5 (by omega)) (cw_X5_97 S.2.2.2.2 ⟨Nat.le_of_ble_eq_true rfl, Nat.le_of_ble_eq_true rfl⟩) rfl hl.1 (rest := [.long (lI v)]) rfl (Nat.le_of_ble_eq_true rfl) dX5_otherWord_192 ⟨Nat.le_of_ble_eq_true rfl, Nat.le_of_ble_eq_true rfl⟩ (fun locs hW => ?_)
                    refine r_lcmp_ne S (tgt := 202) dX5_otherWord_195 dX5_otherWord_196 rfl (by omega) (fun c_195 => ?_) (fun c_195 => ?_)
                    ·
                      refine lv_lload_n S.1 S.2.1 dX5_otherWord_202 rfl (lv_at hl 0 rfl) ?_
                      refine r_bipush S dX5_otherWord_203 (by decide) ?_
                      refine r_iconst S dX5_otherWord_205 ?_
                      refine r_bipush S dX5_otherWord_206 (by decide) ?_
                      refine r_bipush S dX5_otherWord_208 (by decide) ?_
                      refine c_SP S hW (tX5_four l 12 1 19 20 (by omega)) (cw_X5_91 S.2.2.2.2 ⟨Nat.le_of_ble_eq_true rfl, Nat.le_of_ble_eq_true rfl⟩) rfl hl.1 (rest := [.long (lI v)]) rfl (Nat.le_of_ble_eq_true rfl) dX5_otherWord_210 ⟨Nat.le_of_ble_eq_true rfl, Nat.le_of_ble_eq_true rfl⟩ (fun locs hW => ?_)
                      refine r_lcmp_ne S (tgt := 222) dX5_otherWord_213 dX5_otherWord_214 rfl (by omega) (fun c_213 => ?_) (fun c_213 => ?_)
                      ·
                        refine r_bipush S dX5_otherWord_222 (by decide) ?_
                        exact e_iP S hr hlk hW (by unfold wrdB; repeat (first | rw [if_pos (by omega)] | rw [if_neg (by omega)])) dX5_otherWord_224
                      ·
                        refine r_bipush S dX5_otherWord_217 (by decide) ?_
                        refine lv_goto (tgt := 224) S.1 S.2.1 dX5_otherWord_219 rfl ?_
                        exact e_iP S hr hlk hW (by unfold wrdB; repeat (first | rw [if_pos (by omega)] | rw [if_neg (by omega)])) dX5_otherWord_224
                    ·
                      refine r_bipush S dX5_otherWord_199 (by decide) ?_
                      exact e_iP S hr hlk hW (by unfold wrdB; repeat (first | rw [if_pos (by omega)] | rw [if_neg (by omega)])) dX5_otherWord_201
                  ·
                    refine r_bipush S dX5_otherWord_177 (by decide) ?_
                    exact e_iP S hr hlk hW (by unfold wrdB; repeat (first | rw [if_pos (by omega)] | rw [if_neg (by omega)])) dX5_otherWord_179
                ·
                  refine r_bipush S dX5_otherWord_159 (by decide) ?_
                  exact e_iP S hr hlk hW (by unfold wrdB; repeat (first | rw [if_pos (by omega)] | rw [if_neg (by omega)])) dX5_otherWord_161
              ·
                refine r_bipush S dX5_otherWord_141 (by decide) ?_
                exact e_iP S hr hlk hW (by unfold wrdB; repeat (first | rw [if_pos (by omega)] | rw [if_neg (by omega)])) dX5_otherWord_143
            ·
              refine r_bipush S dX5_otherWord_125 (by decide) ?_
              exact e_iP S hr hlk hW (by unfold wrdB; repeat (first | rw [if_pos (by omega)] | rw [if_neg (by omega)])) dX5_otherWord_127
          ·
            refine r_bipush S dX5_otherWord_102 (by decide) ?_
            exact e_iP S hr hlk hW (by unfold wrdB; repeat (first | rw [if_pos (by omega)] | rw [if_neg (by omega)])) dX5_otherWord_104
        ·
          refine r_bipush S dX5_otherWord_79 (by decide) ?_
          exact e_iP S hr hlk hW (by unfold wrdB; repeat (first | rw [if_pos (by omega)] | rw [if_neg (by omega)])) dX5_otherWord_81
      ·
        refine r_bipush S dX5_otherWord_57 (by decide) ?_
        exact e_iP S hr hlk hW (by unfold wrdB; repeat (first | rw [if_pos (by omega)] | rw [if_neg (by omega)])) dX5_otherWord_59
    ·
      refine r_bipush S dX5_otherWord_33 (by decide) ?_
      exact e_iP S hr hlk hW (by unfold wrdB; repeat (first | rw [if_pos (by omega)] | rw [if_neg (by omega)])) dX5_otherWord_35
  ·
    refine r_bipush S dX5_otherWord_15 (by decide) ?_
    exact e_iP S hr hlk hW (by unfold wrdB; repeat (first | rw [if_pos (by omega)] | rw [if_neg (by omega)])) dX5_otherWord_17
theorem hd_X5_otherWord : yX5_otherWord.cls ≠ "java/lang/invoke/MethodHandle" ∧ yX5_otherWord.cls ≠ "java/lang/invoke/VarHandle" ∧ (parseMethodDescriptor yX5_otherWord.desc).map (fun d => d.parameters.length) = some 1 := by decide +kernel
theorem cw_X5_101 {R : Room} {s : State} {args : Array Value} (ht : ∀ w ∈ lw_all, w.before args s = true) (hR : 2 + 1 ≤ R.frames ∧ 8 + (2 + 11) + 50 ≤ R.locals) : CallB R s args "OneDrumModel" 101 yX5_otherWord cX5_otherWord 2 (some .int) (ws_ yX5_otherWord cX5_otherWord 2 (some .int)) ⟨2, 0, 0, 50⟩ 0 0 1 ∧ (Cond.static yX5_otherWord).before args s = true := va_cwS 1 ht (lw_S q1812 q1813 q126 q1814) rfl rfl rfl hd_X5_otherWord hR
set_option maxHeartbeats 4000000 in
theorem tX5_wordOf (l : Launch) (v : Int) (hv : 0 ≤ v ∧ v < 1099511627776) : Met l yX5_wordOf (ws_ yX5_wordOf cX5_wordOf 2 (some .int)) ⟨3, 0, 0, 71⟩ (va_Pc [.long (lI v)] (fun _ => True)) (qP (.int (iI (wrdN v)))) 0 0 (fun _ => False) := by
  refine sStart (by decide) (Nat.le_of_ble_eq_true rfl) (fun p e s m below meth c S hr hlk ls hW hl => ?_)
  have hl : lv_has ls 2 [(0, .long (lI v))] := hl
  refine lv_lload_n S.1 S.2.1 dX5_wordOf_0 rfl (lv_at hl 0 rfl) ?_
  refine r_bipush S dX5_wordOf_1 (by decide) ?_
  refine r_bipush S dX5_wordOf_3 (by decide) ?_
  refine r_bipush S dX5_wordOf_5 (by decide) ?_
  refine r_bipush S dX5_wordOf_7 (by decide) ?_
  refine c_SP S hW (tX5_four l 20 21 18 14 (by omega)) (cw_X5_91 S.2.2.2.2 ⟨Nat.le_of_ble_eq_true rfl, Nat.le_of_ble_eq_true rfl⟩) rfl hl.1 (rest := [.long (lI v)]) rfl (Nat.le_of_ble_eq_true rfl) dX5_wordOf_9 ⟨Nat.le_of_ble_eq_true rfl, Nat.le_of_ble_eq_true rfl⟩ (fun locs hW => ?_)
  refine r_lcmp_ne S (tgt := 18) dX5_wordOf_12 dX5_wordOf_13 rfl (by omega) (fun c_12 => ?_) (fun c_12 => ?_)
  ·
    refine lv_lload_n S.1 S.2.1 dX5_wordOf_18 rfl (lv_at hl 0 rfl) ?_
    refine r_iconst S dX5_wordOf_19 ?_
    refine r_iconst S dX5_wordOf_20 ?_
    refine r_iconst S dX5_wordOf_21 ?_
    refine r_bipush S dX5_wordOf_22 (by decide) ?_
    refine r_bipush S dX5_wordOf_24 (by decide) ?_
    refine r_bipush S dX5_wordOf_26 (by decide) ?_
    refine r_iconst S dX5_wordOf_28 ?_
    refine r_iconst S dX5_wordOf_29 ?_
    refine c_SP S hW (tX5_eight l 0 0 0 20 9 18 5 4 (by omega)) (cw_X5_97 S.2.2.2.2 ⟨Nat.le_of_ble_eq_true rfl, Nat.le_of_ble_eq_true rfl⟩) rfl hl.1 (rest := [.long (lI v)]) rfl (Nat.le_of_ble_eq_true rfl) dX5_wordOf_30 ⟨Nat.le_of_ble_eq_true rfl, Nat.le_of_ble_eq_true rfl⟩ (fun locs hW => ?_)
    refine r_lcmp_ne S (tgt := 39) dX5_wordOf_33 dX5_wordOf_34 rfl (by omega) (fun c_33 => ?_) (fun c_33 => ?_)
    ·
      refine lv_lload_n S.1 S.2.1 dX5_wordOf_39 rfl (lv_at hl 0 rfl) ?_
      refine r_iconst S dX5_wordOf_40 ?_
      refine r_iconst S dX5_wordOf_41 ?_
      refine r_bipush S dX5_wordOf_42 (by decide) ?_
      refine r_bipush S dX5_wordOf_44 (by decide) ?_
      refine c_SP S hW (tX5_four l 5 3 8 15 (by omega)) (cw_X5_91 S.2.2.2.2 ⟨Nat.le_of_ble_eq_true rfl, Nat.le_of_ble_eq_true rfl⟩) rfl hl.1 (rest := [.long (lI v)]) rfl (Nat.le_of_ble_eq_true rfl) dX5_wordOf_46 ⟨Nat.le_of_ble_eq_true rfl, Nat.le_of_ble_eq_true rfl⟩ (fun locs hW => ?_)
      refine r_lcmp_ne S (tgt := 55) dX5_wordOf_49 dX5_wordOf_50 rfl (by omega) (fun c_49 => ?_) (fun c_49 => ?_)
      ·
        refine lv_lload_n S.1 S.2.1 dX5_wordOf_55 rfl (lv_at hl 0 rfl) ?_
        refine r_iconst S dX5_wordOf_56 ?_
        refine r_bipush S dX5_wordOf_57 (by decide) ?_
        refine r_iconst S dX5_wordOf_59 ?_
        refine r_bipush S dX5_wordOf_60 (by decide) ?_
        refine c_SP S hW (tX5_four l 0 23 5 20 (by omega)) (cw_X5_91 S.2.2.2.2 ⟨Nat.le_of_ble_eq_true rfl, Nat.le_of_ble_eq_true rfl⟩) rfl hl.1 (rest := [.long (lI v)]) rfl (Nat.le_of_ble_eq_true rfl) dX5_wordOf_62 ⟨Nat.le_of_ble_eq_true rfl, Nat.le_of_ble_eq_true rfl⟩ (fun locs hW => ?_)
        refine r_lcmp_ne S (tgt := 71) dX5_wordOf_65 dX5_wordOf_66 rfl (by omega) (fun c_65 => ?_) (fun c_65 => ?_)
        ·
          refine lv_lload_n S.1 S.2.1 dX5_wordOf_71 rfl (lv_at hl 0 rfl) ?_
          refine r_bipush S dX5_wordOf_72 (by decide) ?_
          refine r_bipush S dX5_wordOf_74 (by decide) ?_
          refine r_bipush S dX5_wordOf_76 (by decide) ?_
          refine r_bipush S dX5_wordOf_78 (by decide) ?_
          refine c_SP S hW (tX5_four l 6 18 15 13 (by omega)) (cw_X5_91 S.2.2.2.2 ⟨Nat.le_of_ble_eq_true rfl, Nat.le_of_ble_eq_true rfl⟩) rfl hl.1 (rest := [.long (lI v)]) rfl (Nat.le_of_ble_eq_true rfl) dX5_wordOf_80 ⟨Nat.le_of_ble_eq_true rfl, Nat.le_of_ble_eq_true rfl⟩ (fun locs hW => ?_)
          refine r_lcmp_ne S (tgt := 89) dX5_wordOf_83 dX5_wordOf_84 rfl (by omega) (fun c_83 => ?_) (fun c_83 => ?_)
          ·
            refine lv_lload_n S.1 S.2.1 dX5_wordOf_89 rfl (lv_at hl 0 rfl) ?_
            refine r_bipush S dX5_wordOf_90 (by decide) ?_
            refine r_bipush S dX5_wordOf_92 (by decide) ?_
            refine r_iconst S dX5_wordOf_94 ?_
            refine r_bipush S dX5_wordOf_95 (by decide) ?_
            refine c_SP S hW (tX5_four l 19 20 5 16 (by omega)) (cw_X5_91 S.2.2.2.2 ⟨Nat.le_of_ble_eq_true rfl, Nat.le_of_ble_eq_true rfl⟩) rfl hl.1 (rest := [.long (lI v)]) rfl (Nat.le_of_ble_eq_true rfl) dX5_wordOf_97 ⟨Nat.le_of_ble_eq_true rfl, Nat.le_of_ble_eq_true rfl⟩ (fun locs hW => ?_)
            refine r_lcmp_ne S (tgt := 107) dX5_wordOf_100 dX5_wordOf_101 rfl (by omega) (fun c_100 => ?_) (fun c_100 => ?_)
            ·
              refine lv_lload_n S.1 S.2.1 dX5_wordOf_107 rfl (lv_at hl 0 rfl) ?_
              refine r_iconst S dX5_wordOf_108 ?_
              refine r_bipush S dX5_wordOf_109 (by decide) ?_
              refine r_iconst S dX5_wordOf_111 ?_
              refine r_bipush S dX5_wordOf_112 (by decide) ?_
              refine c_SP S hW (tX5_four l 0 12 1 7 (by omega)) (cw_X5_91 S.2.2.2.2 ⟨Nat.le_of_ble_eq_true rfl, Nat.le_of_ble_eq_true rfl⟩) rfl hl.1 (rest := [.long (lI v)]) rfl (Nat.le_of_ble_eq_true rfl) dX5_wordOf_114 ⟨Nat.le_of_ble_eq_true rfl, Nat.le_of_ble_eq_true rfl⟩ (fun locs hW => ?_)
              refine r_lcmp_ne S (tgt := 124) dX5_wordOf_117 dX5_wordOf_118 rfl (by omega) (fun c_117 => ?_) (fun c_117 => ?_)
              ·
                refine lv_lload_n S.1 S.2.1 dX5_wordOf_124 rfl (lv_at hl 0 rfl) ?_
                refine r_iconst S dX5_wordOf_125 ?_
                refine r_iconst S dX5_wordOf_126 ?_
                refine r_iconst S dX5_wordOf_127 ?_
                refine r_bipush S dX5_wordOf_128 (by decide) ?_
                refine r_bipush S dX5_wordOf_130 (by decide) ?_
                refine r_iconst S dX5_wordOf_132 ?_
                refine r_iconst S dX5_wordOf_133 ?_
                refine r_iconst S dX5_wordOf_134 ?_
                refine c_SP S hW (tX5_eight l 0 0 0 16 12 1 3 5 (by omega)) (cw_X5_97 S.2.2.2.2 ⟨Nat.le_of_ble_eq_true rfl, Nat.le_of_ble_eq_true rfl⟩) rfl hl.1 (rest := [.long (lI v)]) rfl (Nat.le_of_ble_eq_true rfl) dX5_wordOf_135 ⟨Nat.le_of_ble_eq_true rfl, Nat.le_of_ble_eq_true rfl⟩ (fun locs hW => ?_)
                refine r_lcmp_ne S (tgt := 145) dX5_wordOf_138 dX5_wordOf_139 rfl (by omega) (fun c_138 => ?_) (fun c_138 => ?_)
                ·
                  refine lv_lload_n S.1 S.2.1 dX5_wordOf_145 rfl (lv_at hl 0 rfl) ?_
                  refine r_iconst S dX5_wordOf_146 ?_
                  refine r_iconst S dX5_wordOf_147 ?_
                  refine r_iconst S dX5_wordOf_148 ?_
                  refine r_bipush S dX5_wordOf_149 (by decide) ?_
                  refine r_bipush S dX5_wordOf_151 (by decide) ?_
                  refine r_iconst S dX5_wordOf_153 ?_
                  refine r_iconst S dX5_wordOf_154 ?_
                  refine r_bipush S dX5_wordOf_155 (by decide) ?_
                  refine c_SP S hW (tX5_eight l 0 0 0 15 18 4 5 18 (by omega)) (cw_X5_97 S.2.2.2.2 ⟨Nat.le_of_ble_eq_true rfl, Nat.le_of_ble_eq_true rfl⟩) rfl hl.1 (rest := [.long (lI v)]) rfl (Nat.le_of_ble_eq_true rfl) dX5_wordOf_157 ⟨Nat.le_of_ble_eq_true rfl, Nat.le_of_ble_eq_true rfl⟩ (fun locs hW => ?_)
                  refine r_lcmp_ne S (tgt := 167) dX5_wordOf_160 dX5_wordOf_161 rfl (by omega) (fun c_160 => ?_) (fun c_160 => ?_)
                  ·
                    refine lv_lload_n S.1 S.2.1 dX5_wordOf_167 rfl (lv_at hl 0 rfl) ?_
                    refine r_bipush S dX5_wordOf_168 (by decide) ?_
                    refine r_iconst S dX5_wordOf_170 ?_
                    refine r_bipush S dX5_wordOf_171 (by decide) ?_
                    refine r_bipush S dX5_wordOf_173 (by decide) ?_
                    refine c_SP S hW (tX5_four l 18 5 19 20 (by omega)) (cw_X5_91 S.2.2.2.2 ⟨Nat.le_of_ble_eq_true rfl, Nat.le_of_ble_eq_true rfl⟩) rfl hl.1 (rest := [.long (lI v)]) rfl (Nat.le_of_ble_eq_true rfl) dX5_wordOf_175 ⟨Nat.le_of_ble_eq_true rfl, Nat.le_of_ble_eq_true rfl⟩ (fun locs hW => ?_)
                    refine r_lcmp_ne S (tgt := 185) dX5_wordOf_178 dX5_wordOf_179 rfl (by omega) (fun c_178 => ?_) (fun c_178 => ?_)
                    ·
                      refine lv_lload_n S.1 S.2.1 dX5_wordOf_185 rfl (lv_at hl 0 rfl) ?_
                      refine r_iconst S dX5_wordOf_186 ?_
                      refine r_bipush S dX5_wordOf_187 (by decide) ?_
                      refine r_iconst S dX5_wordOf_189 ?_
                      refine r_bipush S dX5_wordOf_190 (by decide) ?_
                      refine c_SP S hW (tX5_four l 0 20 1 16 (by omega)) (cw_X5_91 S.2.2.2.2 ⟨Nat.le_of_ble_eq_true rfl, Nat.le_of_ble_eq_true rfl⟩) rfl hl.1 (rest := [.long (lI v)]) rfl (Nat.le_of_ble_eq_true rfl) dX5_wordOf_192 ⟨Nat.le_of_ble_eq_true rfl, Nat.le_of_ble_eq_true rfl⟩ (fun locs hW => ?_)
                      refine r_lcmp_ne S (tgt := 202) dX5_wordOf_195 dX5_wordOf_196 rfl (by omega) (fun c_195 => ?_) (fun c_195 => ?_)
                      ·
                        refine lv_lload_n S.1 S.2.1 dX5_wordOf_202 rfl (lv_at hl 0 rfl) ?_
                        refine r_bipush S dX5_wordOf_203 (by decide) ?_
                        refine r_bipush S dX5_wordOf_205 (by decide) ?_
                        refine r_iconst S dX5_wordOf_207 ?_
                        refine r_bipush S dX5_wordOf_208 (by decide) ?_
                        refine c_SP S hW (tX5_four l 6 12 1 13 (by omega)) (cw_X5_91 S.2.2.2.2 ⟨Nat.le_of_ble_eq_true rfl, Nat.le_of_ble_eq_true rfl⟩) rfl hl.1 (rest := [.long (lI v)]) rfl (Nat.le_of_ble_eq_true rfl) dX5_wordOf_210 ⟨Nat.le_of_ble_eq_true rfl, Nat.le_of_ble_eq_true rfl⟩ (fun locs hW => ?_)
                        refine r_lcmp_ne S (tgt := 220) dX5_wordOf_213 dX5_wordOf_214 rfl (by omega) (fun c_213 => ?_) (fun c_213 => ?_)
                        ·
                          refine lv_lload_n S.1 S.2.1 dX5_wordOf_220 rfl (lv_at hl 0 rfl) ?_
                          refine r_bipush S dX5_wordOf_221 (by decide) ?_
                          refine r_bipush S dX5_wordOf_223 (by decide) ?_
                          refine r_bipush S dX5_wordOf_225 (by decide) ?_
                          refine r_bipush S dX5_wordOf_227 (by decide) ?_
                          refine c_SP S hW (tX5_four l 18 15 12 12 (by omega)) (cw_X5_91 S.2.2.2.2 ⟨Nat.le_of_ble_eq_true rfl, Nat.le_of_ble_eq_true rfl⟩) rfl hl.1 (rest := [.long (lI v)]) rfl (Nat.le_of_ble_eq_true rfl) dX5_wordOf_229 ⟨Nat.le_of_ble_eq_true rfl, Nat.le_of_ble_eq_true rfl⟩ (fun locs hW => ?_)
                          refine r_lcmp_ne S (tgt := 239) dX5_wordOf_232 dX5_wordOf_233 rfl (by omega) (fun c_232 => ?_) (fun c_232 => ?_)
                          ·
                            refine lv_lload_n S.1 S.2.1 dX5_wordOf_239 rfl (lv_at hl 0 rfl) ?_
                            refine c_SP S hW (tX5_otherWord l v (by omega)) (cw_X5_101 S.2.2.2.2 ⟨Nat.le_of_ble_eq_true rfl, Nat.le_of_ble_eq_true rfl⟩) rfl hl.1 (rest := []) rfl (Nat.le_of_ble_eq_true rfl) dX5_wordOf_240 ⟨Nat.le_of_ble_eq_true rfl, Nat.le_of_ble_eq_true rfl⟩ (fun locs hW => ?_)
                            exact e_iP S hr hlk hW (by unfold wrdN; repeat (first | rw [if_pos (by omega)] | rw [if_neg (by omega)])) dX5_wordOf_243
                          ·
                            refine r_bipush S dX5_wordOf_236 (by decide) ?_
                            exact e_iP S hr hlk hW (by unfold wrdN; repeat (first | rw [if_pos (by omega)] | rw [if_neg (by omega)])) dX5_wordOf_238
                        ·
                          refine r_bipush S dX5_wordOf_217 (by decide) ?_
                          exact e_iP S hr hlk hW (by unfold wrdN; repeat (first | rw [if_pos (by omega)] | rw [if_neg (by omega)])) dX5_wordOf_219
                      ·
                        refine r_bipush S dX5_wordOf_199 (by decide) ?_
                        exact e_iP S hr hlk hW (by unfold wrdN; repeat (first | rw [if_pos (by omega)] | rw [if_neg (by omega)])) dX5_wordOf_201
                    ·
                      refine r_bipush S dX5_wordOf_182 (by decide) ?_
                      exact e_iP S hr hlk hW (by unfold wrdN; repeat (first | rw [if_pos (by omega)] | rw [if_neg (by omega)])) dX5_wordOf_184
                  ·
                    refine r_bipush S dX5_wordOf_164 (by decide) ?_
                    exact e_iP S hr hlk hW (by unfold wrdN; repeat (first | rw [if_pos (by omega)] | rw [if_neg (by omega)])) dX5_wordOf_166
                ·
                  refine r_bipush S dX5_wordOf_142 (by decide) ?_
                  exact e_iP S hr hlk hW (by unfold wrdN; repeat (first | rw [if_pos (by omega)] | rw [if_neg (by omega)])) dX5_wordOf_144
              ·
                refine r_bipush S dX5_wordOf_121 (by decide) ?_
                exact e_iP S hr hlk hW (by unfold wrdN; repeat (first | rw [if_pos (by omega)] | rw [if_neg (by omega)])) dX5_wordOf_123
            ·
              refine r_bipush S dX5_wordOf_104 (by decide) ?_
              exact e_iP S hr hlk hW (by unfold wrdN; repeat (first | rw [if_pos (by omega)] | rw [if_neg (by omega)])) dX5_wordOf_106
          ·
            refine r_iconst S dX5_wordOf_87 ?_
            exact e_iP S hr hlk hW (by unfold wrdN; repeat (first | rw [if_pos (by omega)] | rw [if_neg (by omega)])) dX5_wordOf_88
        ·
          refine r_iconst S dX5_wordOf_69 ?_
          exact e_iP S hr hlk hW (by unfold wrdN; repeat (first | rw [if_pos (by omega)] | rw [if_neg (by omega)])) dX5_wordOf_70
      ·
        refine r_iconst S dX5_wordOf_53 ?_
        exact e_iP S hr hlk hW (by unfold wrdN; repeat (first | rw [if_pos (by omega)] | rw [if_neg (by omega)])) dX5_wordOf_54
    ·
      refine r_iconst S dX5_wordOf_37 ?_
      exact e_iP S hr hlk hW (by unfold wrdN; repeat (first | rw [if_pos (by omega)] | rw [if_neg (by omega)])) dX5_wordOf_38
  ·
    refine r_iconst S dX5_wordOf_16 ?_
    exact e_iP S hr hlk hW (by unfold wrdN; repeat (first | rw [if_pos (by omega)] | rw [if_neg (by omega)])) dX5_wordOf_17
set_option maxHeartbeats 4000000 in
theorem tX5_byteAt (l : Launch) (G : GG) (ad : Nat → Nat) (σ : St) (p_ : Int) (t : Int → Int) (n : Int) (ht : Tap σ t n) (hp : 0 ≤ p_ ∧ p_ ≤ 601) : Met l yX5_byteAt (ws_ yX5_byteAt cX5_byteAt 2 (some .int)) ⟨0, 0, 0, 0⟩ (wPre G shM ad σ (fun _ => True) [.ref (ad 0), .int (iI p_)]) (qP (.int (iI (bA t n p_)))) 0 0 (aM ad) := by
  refine wStart (by decide) (Nat.le_of_ble_eq_true rfl) (fun k hk => ⟨k, hk, rfl⟩) (fun p e s m below meth c S hr hlk _ _ ls hW hl => ?_)
  have hl : lv_has ls 2 [(0, .ref (ad 0)), (1, .int (iI p_))] := hl
  have h2 := ht.1
  have hn := ht.2.1
  refine lv_iload_n S.1 S.2.1 dX5_byteAt_0 rfl (lv_at hl 1 rfl) ?_
  refine lv_aload_n S.1 S.2.1 dX5_byteAt_1 rfl (lv_at hl 0 rfl) ?_
  refine w_geti S hW in_X5 0 rfl rfl 2 (by decide) q1653 rfl rfl dX5_byteAt_2 ?_
  refine r_icmp_ge S (tgt := 20) dX5_byteAt_5 rfl (by omega) (fun c_5 => ?_) (fun c_5 => ?_)
  ·
    refine r_iconst S dX5_byteAt_20 ?_
    exact e_iP S hr hlk hW.2.2.2.2 (by unfold bA; first | (rw [if_pos (by omega)]; exact hj) | rw [if_neg (by omega)]) dX5_byteAt_21
  ·
    have hj := (ht.2.2 p_ (by omega) (by omega)).1
    refine lv_aload_n S.1 S.2.1 dX5_byteAt_8 rfl (lv_at hl 0 rfl) ?_
    refine w_getr S hW in_X5 0 rfl rfl 0 (by decide) q1651 rfl rfl dX5_byteAt_9 ?_
    refine r_bipush S dX5_byteAt_12 (by decide) ?_
    refine lv_iload_n S.1 S.2.1 dX5_byteAt_14 rfl (lv_at hl 1 rfl) ?_
    refine r_iadd S dX5_byteAt_15 ?_
    refine w_ald S hW 1 0 rfl rfl (by omega) dX5_byteAt_16 ?_
    refine lv_goto (tgt := 21) S.1 S.2.1 dX5_byteAt_17 rfl ?_
    exact e_iP S hr hlk hW.2.2.2.2 (by unfold bA; first | (rw [if_pos (by omega)]; exact hj) | rw [if_neg (by omega)]) dX5_byteAt_21
theorem hd_X5_byteAt : yX5_byteAt.cls = RX5 ∧ yX5_byteAt.cls ≠ "java/lang/invoke/MethodHandle" ∧ yX5_byteAt.cls ≠ "java/lang/invoke/VarHandle" ∧ (parseMethodDescriptor yX5_byteAt.desc).map (fun d => d.parameters.length) = some 1 := by decide +kernel
theorem cw_X5_108 {R : Room} {s : State} {args : Array Value} (ht : ∀ w ∈ lw_all, w.before args s = true) (hR : 0 + 1 ≤ R.frames ∧ 8 + (2 + 11) + 0 ≤ R.locals) : CallW R s args "OneDrumModel" RX5 108 yX5_byteAt cX5_byteAt 2 (some .int) (ws_ yX5_byteAt cX5_byteAt 2 (some .int)) ⟨0, 0, 0, 0⟩ 0 0 1 := cwV 1 ht (lw_V q1793 q1795 qs53 q126 q1796) rfl rfl rfl hd_X5_byteAt hR
theorem hd_X5_isDigit : yX5_isDigit.cls ≠ "java/lang/invoke/MethodHandle" ∧ yX5_isDigit.cls ≠ "java/lang/invoke/VarHandle" ∧ (parseMethodDescriptor yX5_isDigit.desc).map (fun d => d.parameters.length) = some 1 := by decide +kernel
theorem cw_X5_132 {R : Room} {s : State} {args : Array Value} (ht : ∀ w ∈ lw_all, w.before args s = true) (hR : 0 + 1 ≤ R.frames ∧ 8 + (1 + 11) + 0 ≤ R.locals) : CallB R s args "OneDrumModel" 132 yX5_isDigit cX5_isDigit 1 (some .boolean) (ws_ yX5_isDigit cX5_isDigit 1 (some .boolean)) ⟨0, 0, 0, 0⟩ 0 0 1 ∧ (Cond.static yX5_isDigit).before args s = true := va_cwS 1 ht (lw_S q1815 q1816 q126 q1817) rfl rfl rfl hd_X5_isDigit hR
theorem hd_X5_isLetter : yX5_isLetter.cls ≠ "java/lang/invoke/MethodHandle" ∧ yX5_isLetter.cls ≠ "java/lang/invoke/VarHandle" ∧ (parseMethodDescriptor yX5_isLetter.desc).map (fun d => d.parameters.length) = some 1 := by decide +kernel
theorem cw_X5_118 {R : Room} {s : State} {args : Array Value} (ht : ∀ w ∈ lw_all, w.before args s = true) (hR : 0 + 1 ≤ R.frames ∧ 8 + (1 + 11) + 0 ≤ R.locals) : CallB R s args "OneDrumModel" 118 yX5_isLetter cX5_isLetter 1 (some .boolean) (ws_ yX5_isLetter cX5_isLetter 1 (some .boolean)) ⟨0, 0, 0, 0⟩ 0 0 1 ∧ (Cond.static yX5_isLetter).before args s = true := va_cwS 1 ht (lw_S q1797 q1798 q126 q1799) rfl rfl rfl hd_X5_isLetter hR
theorem hd_X5_wordOf : yX5_wordOf.cls ≠ "java/lang/invoke/MethodHandle" ∧ yX5_wordOf.cls ≠ "java/lang/invoke/VarHandle" ∧ (parseMethodDescriptor yX5_wordOf.desc).map (fun d => d.parameters.length) = some 1 := by decide +kernel
theorem cw_X5_126 {R : Room} {s : State} {args : Array Value} (ht : ∀ w ∈ lw_all, w.before args s = true) (hR : 3 + 1 ≤ R.frames ∧ 8 + (2 + 11) + 71 ≤ R.locals) : CallB R s args "OneDrumModel" 126 yX5_wordOf cX5_wordOf 2 (some .int) (ws_ yX5_wordOf cX5_wordOf 2 (some .int)) ⟨3, 0, 0, 71⟩ 0 0 1 ∧ (Cond.static yX5_wordOf).before args s = true := va_cwS 1 ht (lw_S q1802 q1803 q126 q1804) rfl rfl rfl hd_X5_wordOf hR
set_option maxHeartbeats 4000000 in
theorem tX5_advance (l : Launch) (G : GG) (ad : Nat → Nat) (σ : St) (t : Int → Int) (n : Int) (p_ : Int) (ht : Tap σ t n) (hp : σ 3 0 = p_ ∧ 0 ≤ p_ ∧ p_ ≤ 601) : Met l yX5_advance (ws_ yX5_advance cX5_advance 4 none) ⟨4, 0, 0, 92⟩ (wPre G shM ad σ (fun _ => True) [.ref (ad 0)]) (qS G shM ad (aM ad) (rV (fun σ' => (Cur σ' t n p_) ∧ (same [3, 4, 5, 6, 7] σ σ')))) 0 0 (aM ad) := by
  refine wStart (by decide) (Nat.le_of_ble_eq_true rfl) (fun k hk => ⟨k, hk, rfl⟩) (fun p e s m below meth c S hr hlk _ _ ls hW hl => ?_)
  have hl : lv_has ls 4 [(0, .ref (ad 0))] := hl
  have hn := ht.2.1
  have cut_0 : ∀ (N_0 : Nat)  (σ1 : St) (H : Heap) (locs : List Loc) (ls : Array Slot), (same [3] σ σ1) → (p_ ≤ σ1 3 0 ∧ σ1 3 0 ≤ 601) → (wsE t n (σ1 3 0) = wsE t n p_) → ((601 - σ1 3 0).toNat) < N_0 → WD G shM ad (aM ad) s s.heap σ1 H locs → lv_has ls 4 [(0, .ref (ad 0))] → W p l e (⟨4, 0, 0, 92⟩ : Room) s m ([.ref (ad 0)] : List Value).toArray below meth c H locs 0 0 (MQ below (qS G shM ad (aM ad) (rV (fun σ' => (Cur σ' t n p_) ∧ (same [3, 4, 5, 6, 7] σ σ')))) ([.ref (ad 0)] : List Value).toArray s 0 0 (aM ad)) (F0 m 0 ls []) := by
    intro N_0
    induction N_0 with
    | zero =>
      intro σ1 H locs ls hsm hb hw hμ_0 hW hl
      exact absurd hμ_0 (by omega)
    | succ N_0 ih_0 =>
      intro σ1 H locs ls hsm hb hw hμ_0 hW hl
      have tp9 : Tap σ1 t n := Tap_eq ht (hsm 2 (by decide)) (hsm 0 (by decide))
      have br := Tap_bA tp9 (p := σ1 3 0) (by omega)
      refine lv_aload_n S.1 S.2.1 dX5_advance_0 rfl (lv_at hl 0 rfl) ?_
      refine lv_aload_n S.1 S.2.1 dX5_advance_1 rfl (lv_at hl 0 rfl) ?_
      refine w_geti S hW in_X5 0 rfl rfl 3 (by decide) q1654 rfl rfl dX5_advance_2 ?_
      refine c_VP S hW (tX5_byteAt l G ad σ1 (σ1 3 0) t n (tp9) (by omega)) (cw_X5_108 S.2.2.2.2 ⟨Nat.le_of_ble_eq_true rfl, Nat.le_of_ble_eq_true rfl⟩) eBlind_T (fun _ _ _ => trivial) (w_recv hW (q0 := 0) rfl rfl) rfl hl.1 (rest := []) rfl (Nat.le_of_ble_eq_true rfl) dX5_advance_5 ⟨Nat.le_of_ble_eq_true rfl, Nat.le_of_ble_eq_true rfl⟩ (fun locs hW => ?_)
      refine r_bipush S dX5_advance_8 (by decide) ?_
      refine r_icmp_eq S (tgt := 26) dX5_advance_10 rfl (by omega) (fun c_10 => ?_) (fun c_10 => ?_)
      ·
        have hin := Tap_in tp9 (p := σ1 3 0) (by omega) (by omega)
        refine lv_aload_n S.1 S.2.1 dX5_advance_26 rfl (lv_at hl 0 rfl) ?_
        refine lv_dup S.1 S.2.1 dX5_advance_27 rfl ?_
        refine w_geti S hW in_X5 0 rfl rfl 3 (by decide) q1654 rfl rfl dX5_advance_28 ?_
        refine r_iconst S dX5_advance_31 ?_
        refine r_iadd S dX5_advance_32 ?_
        refine w_puti S hW in_X5 tyX5 tyX5_ok nmX5 0 rfl rfl 3 (by decide) q1654 rfl rfl rfl rfl rfl (z := ((σ1 3 0) + 1)) rfl dX5_advance_33 (fun H locs hW => ?_)
        refine lv_goto (tgt := 0) S.1 S.2.1 dX5_advance_36 rfl ?_
        exact ih_0 (up σ1 3 0 ((σ1 3 0) + 1)) H _ _ (same_up hsm (by decide)) (by rw [up_self]; omega) (by rw [up_self, ← hw]; unfold wsE; exact (adv_y (by first | exact Or.inl c_10 | exact Or.inr c_23) (by omega)).symm) (by rw [up_self]; omega) hW (lv_sub hl [0] rfl)
      ·
        refine lv_aload_n S.1 S.2.1 dX5_advance_13 rfl (lv_at hl 0 rfl) ?_
        refine lv_aload_n S.1 S.2.1 dX5_advance_14 rfl (lv_at hl 0 rfl) ?_
        refine w_geti S hW in_X5 0 rfl rfl 3 (by decide) q1654 rfl rfl dX5_advance_15 ?_
        refine c_VP S hW (tX5_byteAt l G ad σ1 (σ1 3 0) t n (tp9) (by omega)) (cw_X5_108 S.2.2.2.2 ⟨Nat.le_of_ble_eq_true rfl, Nat.le_of_ble_eq_true rfl⟩) eBlind_T (fun _ _ _ => trivial) (w_recv hW (q0 := 0) rfl rfl) rfl hl.1 (rest := []) rfl (Nat.le_of_ble_eq_true rfl) dX5_advance_18 ⟨Nat.le_of_ble_eq_true rfl, Nat.le_of_ble_eq_true rfl⟩ (fun locs hW => ?_)
        refine r_bipush S dX5_advance_21 (by decide) ?_
        refine r_icmp_ne S (tgt := 39) dX5_advance_23 rfl (by omega) (fun c_23 => ?_) (fun c_23 => ?_)
        ·
          have eq9 : σ1 3 0 = wsE t n p_ := by rw [← hw]; exact (adv_n (fun z => by rcases z with z | z <;> omega)).symm
          refine lv_aload_n S.1 S.2.1 dX5_advance_39 rfl (lv_at hl 0 rfl) ?_
          refine lv_aload_n S.1 S.2.1 dX5_advance_40 rfl (lv_at hl 0 rfl) ?_
          refine w_geti S hW in_X5 0 rfl rfl 3 (by decide) q1654 rfl rfl dX5_advance_41 ?_
          refine r_as (wsE t n p_) (eq9) ?_
          refine w_puti S hW in_X5 tyX5 tyX5_ok nmX5 0 rfl rfl 4 (by decide) q1655 rfl rfl rfl rfl rfl (z := (wsE t n p_)) rfl dX5_advance_44 (fun H locs hW => ?_)
          obtain ⟨σ2, e_σ2⟩ : ∃ z, z = (up σ1 4 0 (wsE t n p_)) := ⟨_, rfl⟩
          rw [← e_σ2] at hW
          have hs2 : same [3, 4, 5, 6, 7] σ σ2 := by rw [e_σ2]; exact same_up (same_w hsm (by decide)) (by decide)
          have e3 : σ2 3 0 = (wsE t n p_) := by rw [e_σ2, up_ne (by decide)]; exact eq9
          have e4 : σ2 4 0 = (wsE t n p_) := by rw [e_σ2, up_self]
          have hq := wsE_rng (t := t) (n := n) (p := p_) hp.2
          have tp9 : Tap σ2 t n := Tap_eq ht (hs2 2 (by decide)) (hs2 0 (by decide))
          have br2 := Tap_bA tp9 (p := (wsE t n p_)) (by omega)
          refine lv_aload_n S.1 S.2.1 dX5_advance_47 rfl (lv_at hl 0 rfl) ?_
          refine lv_aload_n S.1 S.2.1 dX5_advance_48 rfl (lv_at hl 0 rfl) ?_
          refine w_geti S hW in_X5 0 rfl rfl 3 (by decide) q1654 rfl rfl dX5_advance_49 ?_
          refine c_VP S hW (tX5_byteAt l G ad σ2 (σ2 3 0) t n (tp9) (by omega)) (cw_X5_108 S.2.2.2.2 ⟨Nat.le_of_ble_eq_true rfl, Nat.le_of_ble_eq_true rfl⟩) eBlind_T (fun _ _ _ => trivial) (w_recv hW (q0 := 0) rfl rfl) rfl hl.1 (rest := []) rfl (Nat.le_of_ble_eq_true rfl) dX5_advance_52 ⟨Nat.le_of_ble_eq_true rfl, Nat.le_of_ble_eq_true rfl⟩ (fun locs hW => ?_)
          refine r_as (bA t n (wsE t n p_)) (by rw [e3]) ?_
          refine lv_istore_n (lv' := [(1, .int (iI (bA t n (wsE t n p_)))), (0, .ref (ad 0))]) S.1 S.2.1 dX5_advance_55 rfl hl (by decide) rfl (fun ls hl => ?_)
          refine lv_iload_n S.1 S.2.1 dX5_advance_56 rfl (lv_at hl 0 rfl) ?_
          refine r_if_ge S (tgt := 68) dX5_advance_57 rfl (by omega) (fun c_57 => ?_) (fun c_57 => ?_)
          ·
            refine lv_iload_n S.1 S.2.1 dX5_advance_68 rfl (lv_at hl 0 rfl) ?_
            refine c_SPw S hW (tX5_isLetter l (bA t n (wsE t n p_)) (by omega)) (cw_X5_118 S.2.2.2.2 ⟨Nat.le_of_ble_eq_true rfl, Nat.le_of_ble_eq_true rfl⟩) rfl hl.1 (rest := []) rfl (Nat.le_of_ble_eq_true rfl) dX5_advance_69 ⟨Nat.le_of_ble_eq_true rfl, Nat.le_of_ble_eq_true rfl⟩ (fun locs hW => ?_)
            refine r_ifeq_p S (tgt := 186) dX5_advance_72 rfl (fun c_72 => ?_) (fun c_72 => ?_)
            ·
              refine lv_iload_n S.1 S.2.1 dX5_advance_186 rfl (lv_at hl 0 rfl) ?_
              refine c_SPw S hW (tX5_isDigit l (bA t n (wsE t n p_)) (by omega)) (cw_X5_132 S.2.2.2.2 ⟨Nat.le_of_ble_eq_true rfl, Nat.le_of_ble_eq_true rfl⟩) rfl hl.1 (rest := []) rfl (Nat.le_of_ble_eq_true rfl) dX5_advance_187 ⟨Nat.le_of_ble_eq_true rfl, Nat.le_of_ble_eq_true rfl⟩ (fun locs hW => ?_)
              refine r_ifeq_p S (tgt := 286) dX5_advance_190 rfl (fun c_190 => ?_) (fun c_190 => ?_)
              ·
                refine lv_aload_n S.1 S.2.1 dX5_advance_286 rfl (lv_at hl 1 rfl) ?_
                refine lv_dup S.1 S.2.1 dX5_advance_287 rfl ?_
                refine w_geti S hW in_X5 0 rfl rfl 3 (by decide) q1654 rfl rfl dX5_advance_288 ?_
                refine r_iconst S dX5_advance_291 ?_
                refine r_iadd S dX5_advance_292 ?_
                refine w_puti S hW in_X5 tyX5 tyX5_ok nmX5 0 rfl rfl 3 (by decide) q1654 rfl rfl rfl rfl rfl (z := ((σ2 3 0) + 1)) rfl dX5_advance_293 (fun H locs hW => ?_)
                refine lv_aload_n S.1 S.2.1 dX5_advance_296 rfl (lv_at hl 1 rfl) ?_
                refine lv_iload_n S.1 S.2.1 dX5_advance_297 rfl (lv_at hl 0 rfl) ?_
                refine r_bipush S dX5_advance_298 (by decide) ?_
                refine r_icmp_ne S (tgt := 307) dX5_advance_300 rfl (by omega) (fun c_300 => ?_) (fun c_300 => ?_)
                ·
                  have hkd : kdQ t n (wsE t n p_) = 4 := by unfold kdQ; rw [if_neg (by omega), if_neg c_72, if_neg c_190, if_neg c_300]
                  have hnx : nxQ t n (wsE t n p_) = (wsE t n p_) + 1 := by unfold nxQ; rw [if_neg (by omega), if_neg c_72, if_neg c_190]
                  refine r_iconst S dX5_advance_307 ?_
                  refine w_puti S hW in_X5 tyX5 tyX5_ok nmX5 0 rfl rfl 5 (by decide) q1656 rfl rfl rfl rfl rfl (z := 4) rfl dX5_advance_308 (fun H locs hW => ?_)
                  exact e_vS S hr hlk hW ⟨rfl, ⟨(by first | exact ⟨(up_ne (by decide)).trans (e3.trans hnx.symm), (up_ne (by decide)).trans e4, by unfold tkK; rw [up_self, hkd]; rfl, fun z => absurd z (by unfold tkK; rw [hkd]; decide), fun z => absurd z (by unfold tkK; rw [hkd]; decide)⟩ | exact ⟨(up_ne (by decide)).trans ((up_ne (by decide)).trans (el.trans hnx.symm)), (up_ne (by decide)).trans ((up_ne (by decide)).trans e34), by unfold tkK; rw [up_self, hkd]; rfl, fun z => absurd z (by unfold tkK; rw [hkd]; decide), fun _ => (up_ne (by decide)).trans (up_self.trans (by unfold tkC; rw [← el]))⟩ | exact ⟨(up_ne (by decide)).trans (el.trans hnx.symm), (up_ne (by decide)).trans e44, by unfold tkK; rw [up_self, hkd]; rfl, fun _ => (up_ne (by decide)).trans (hnu.1.trans (by unfold tkV; rw [← el])), fun z => absurd z (by unfold tkK; rw [hkd]; decide)⟩ | exact ⟨(up_ne (by decide)).trans (up_self.trans (by unfold tkN; rw [hnx, e3])), (up_ne (by decide)).trans ((up_ne (by decide)).trans e4), by unfold tkK; rw [up_self, hkd]; rfl, fun z => absurd z (by unfold tkK; rw [hkd]; decide), fun z => absurd z (by unfold tkK; rw [hkd]; decide)⟩), (by first | exact same_up hs2 (by decide) | exact same_up (same_up hs3 (by decide)) (by decide) | exact same_up hs4 (by decide) | exact same_up (same_up hs2 (by decide)) (by decide))⟩⟩ dX5_advance_311
                ·
                  have hkd : kdQ t n (wsE t n p_) = 2 := by unfold kdQ; rw [if_neg (by omega), if_neg c_72, if_neg c_190, if_pos c_300]
                  have hnx : nxQ t n (wsE t n p_) = (wsE t n p_) + 1 := by unfold nxQ; rw [if_neg (by omega), if_neg c_72, if_neg c_190]
                  refine r_iconst S dX5_advance_303 ?_
                  refine lv_goto (tgt := 308) S.1 S.2.1 dX5_advance_304 rfl ?_
                  refine w_puti S hW in_X5 tyX5 tyX5_ok nmX5 0 rfl rfl 5 (by decide) q1656 rfl rfl rfl rfl rfl (z := 2) rfl dX5_advance_308 (fun H locs hW => ?_)
                  exact e_vS S hr hlk hW ⟨rfl, ⟨(by first | exact ⟨(up_ne (by decide)).trans (e3.trans hnx.symm), (up_ne (by decide)).trans e4, by unfold tkK; rw [up_self, hkd]; rfl, fun z => absurd z (by unfold tkK; rw [hkd]; decide), fun z => absurd z (by unfold tkK; rw [hkd]; decide)⟩ | exact ⟨(up_ne (by decide)).trans ((up_ne (by decide)).trans (el.trans hnx.symm)), (up_ne (by decide)).trans ((up_ne (by decide)).trans e34), by unfold tkK; rw [up_self, hkd]; rfl, fun z => absurd z (by unfold tkK; rw [hkd]; decide), fun _ => (up_ne (by decide)).trans (up_self.trans (by unfold tkC; rw [← el]))⟩ | exact ⟨(up_ne (by decide)).trans (el.trans hnx.symm), (up_ne (by decide)).trans e44, by unfold tkK; rw [up_self, hkd]; rfl, fun _ => (up_ne (by decide)).trans (hnu.1.trans (by unfold tkV; rw [← el])), fun z => absurd z (by unfold tkK; rw [hkd]; decide)⟩ | exact ⟨(up_ne (by decide)).trans (up_self.trans (by unfold tkN; rw [hnx, e3])), (up_ne (by decide)).trans ((up_ne (by decide)).trans e4), by unfold tkK; rw [up_self, hkd]; rfl, fun z => absurd z (by unfold tkK; rw [hkd]; decide), fun z => absurd z (by unfold tkK; rw [hkd]; decide)⟩), (by first | exact same_up hs2 (by decide) | exact same_up (same_up hs3 (by decide)) (by decide) | exact same_up hs4 (by decide) | exact same_up (same_up hs2 (by decide)) (by decide))⟩⟩ dX5_advance_311
              ·
                refine lv_aload_n S.1 S.2.1 dX5_advance_193 rfl (lv_at hl 1 rfl) ?_
                refine r_iconst S dX5_advance_194 ?_
                refine w_puti S hW in_X5 tyX5 tyX5_ok nmX5 0 rfl rfl 6 (by decide) q1657 rfl rfl rfl rfl rfl (z := 0) rfl dX5_advance_195 (fun H locs hW => ?_)
                obtain ⟨σ7, e_σ7⟩ : ∃ z, z = (up σ2 6 0 0) := ⟨_, rfl⟩
                rw [← e_σ7] at hW
                have cut_198 : ∀ (N_198 : Nat)  (σ4 : St) (H : Heap) (locs : List Loc) (ls : Array Slot), (same [3, 6] σ2 σ4) → (same [3, 4, 5, 6, 7] σ σ4) → ((wsE t n p_) ≤ σ4 3 0 ∧ σ4 3 0 ≤ 601) → (dgE t n (σ4 3 0) = dgE t n (wsE t n p_)) → (σ4 6 0 = numI t (wsE t n p_) (σ4 3 0 - (wsE t n p_)) ∧ 0 ≤ σ4 6 0 ∧ σ4 6 0 ≤ 99 ∧ (σ4 3 0 - (wsE t n p_) ≤ 1 → σ4 6 0 ≤ 9) ∧ (σ4 3 0 = (wsE t n p_) → σ4 6 0 = 0)) → ((601 - σ4 3 0).toNat) < N_198 → WD G shM ad (aM ad) s s.heap σ4 H locs → lv_has ls 4 [(1, .int (iI (bA t n (wsE t n p_)))), (0, .ref (ad 0))] → W p l e (⟨4, 0, 0, 92⟩ : Room) s m ([.ref (ad 0)] : List Value).toArray below meth c H locs 0 0 (MQ below (qS G shM ad (aM ad) (rV (fun σ' => (Cur σ' t n p_) ∧ (same [3, 4, 5, 6, 7] σ σ')))) ([.ref (ad 0)] : List Value).toArray s 0 0 (aM ad)) (F0 m 198 ls []) := by
                  intro N_198
                  induction N_198 with
                  | zero =>
                    intro σ4 H locs ls hsd hs4 hb4 hde hnu hμ_198 hW hl
                    exact absurd hμ_198 (by omega)
                  | succ N_198 ih_198 =>
                    intro σ4 H locs ls hsd hs4 hb4 hde hnu hμ_198 hW hl
                    have tp9 : Tap σ4 t n := Tap_eq ht (hs4 2 (by decide)) (hs4 0 (by decide))
                    have br4 := Tap_bA tp9 (p := σ4 3 0) (by omega)
                    have e44 : σ4 4 0 = (wsE t n p_) := by rw [hsd 4 (by decide)]; exact e4
                    refine lv_aload_n S.1 S.2.1 dX5_advance_198 rfl (lv_at hl 1 rfl) ?_
                    refine lv_aload_n S.1 S.2.1 dX5_advance_199 rfl (lv_at hl 1 rfl) ?_
                    refine w_geti S hW in_X5 0 rfl rfl 3 (by decide) q1654 rfl rfl dX5_advance_200 ?_
                    refine c_VP S hW (tX5_byteAt l G ad σ4 (σ4 3 0) t n (tp9) (by omega)) (cw_X5_108 S.2.2.2.2 ⟨Nat.le_of_ble_eq_true rfl, Nat.le_of_ble_eq_true rfl⟩) eBlind_T (fun _ _ _ => trivial) (w_recv hW (q0 := 0) rfl rfl) rfl hl.1 (rest := []) rfl (Nat.le_of_ble_eq_true rfl) dX5_advance_203 ⟨Nat.le_of_ble_eq_true rfl, Nat.le_of_ble_eq_true rfl⟩ (fun locs hW => ?_)
                    refine c_SPw S hW (tX5_isDigit l (bA t n (σ4 3 0)) (by omega)) (cw_X5_132 S.2.2.2.2 ⟨Nat.le_of_ble_eq_true rfl, Nat.le_of_ble_eq_true rfl⟩) rfl hl.1 (rest := []) rfl (Nat.le_of_ble_eq_true rfl) dX5_advance_206 ⟨Nat.le_of_ble_eq_true rfl, Nat.le_of_ble_eq_true rfl⟩ (fun locs hW => ?_)
                    refine r_ifeq_p S (tgt := 261) dX5_advance_209 rfl (fun c_209 => ?_) (fun c_209 => ?_)
                    ·
                      have el : σ4 3 0 = dgE t n (wsE t n p_) := by rw [← hde]; exact (adv_n (fun z => c_209 z)).symm
                      refine lv_aload_n S.1 S.2.1 dX5_advance_261 rfl (lv_at hl 1 rfl) ?_
                      refine lv_aload_n S.1 S.2.1 dX5_advance_262 rfl (lv_at hl 1 rfl) ?_
                      refine w_geti S hW in_X5 0 rfl rfl 3 (by decide) q1654 rfl rfl dX5_advance_263 ?_
                      refine lv_aload_n S.1 S.2.1 dX5_advance_266 rfl (lv_at hl 1 rfl) ?_
                      refine w_geti S hW in_X5 0 rfl rfl 4 (by decide) q1655 rfl rfl dX5_advance_267 ?_
                      refine r_isub S dX5_advance_270 ?_
                      refine r_iconst S dX5_advance_271 ?_
                      refine r_icmp_le S (tgt := 279) dX5_advance_272 rfl (by omega) (fun c_272 => ?_) (fun c_272 => ?_)
                      ·
                        have hkd : kdQ t n (wsE t n p_) = 1 := by unfold kdQ; rw [if_neg (by omega), if_neg c_72, if_pos c_190, ← el, if_neg (by omega)]
                        have hnx : nxQ t n (wsE t n p_) = dgE t n (wsE t n p_) := by unfold nxQ; rw [if_neg (by omega), if_neg c_72, if_pos c_190]
                        refine r_iconst S dX5_advance_279 ?_
                        refine w_puti S hW in_X5 tyX5 tyX5_ok nmX5 0 rfl rfl 5 (by decide) q1656 rfl rfl rfl rfl rfl (z := 1) rfl dX5_advance_280 (fun H locs hW => ?_)
                        refine lv_goto (tgt := 311) S.1 S.2.1 dX5_advance_283 rfl ?_
                        exact e_vS S hr hlk hW ⟨rfl, ⟨(by first | exact ⟨(up_ne (by decide)).trans (e3.trans hnx.symm), (up_ne (by decide)).trans e4, by unfold tkK; rw [up_self, hkd]; rfl, fun z => absurd z (by unfold tkK; rw [hkd]; decide), fun z => absurd z (by unfold tkK; rw [hkd]; decide)⟩ | exact ⟨(up_ne (by decide)).trans ((up_ne (by decide)).trans (el.trans hnx.symm)), (up_ne (by decide)).trans ((up_ne (by decide)).trans e34), by unfold tkK; rw [up_self, hkd]; rfl, fun z => absurd z (by unfold tkK; rw [hkd]; decide), fun _ => (up_ne (by decide)).trans (up_self.trans (by unfold tkC; rw [← el]))⟩ | exact ⟨(up_ne (by decide)).trans (el.trans hnx.symm), (up_ne (by decide)).trans e44, by unfold tkK; rw [up_self, hkd]; rfl, fun _ => (up_ne (by decide)).trans (hnu.1.trans (by unfold tkV; rw [← el])), fun z => absurd z (by unfold tkK; rw [hkd]; decide)⟩ | exact ⟨(up_ne (by decide)).trans (up_self.trans (by unfold tkN; rw [hnx, e3])), (up_ne (by decide)).trans ((up_ne (by decide)).trans e4), by unfold tkK; rw [up_self, hkd]; rfl, fun z => absurd z (by unfold tkK; rw [hkd]; decide), fun z => absurd z (by unfold tkK; rw [hkd]; decide)⟩), (by first | exact same_up hs2 (by decide) | exact same_up (same_up hs3 (by decide)) (by decide) | exact same_up hs4 (by decide) | exact same_up (same_up hs2 (by decide)) (by decide))⟩⟩ dX5_advance_311
                      ·
                        have hkd : kdQ t n (wsE t n p_) = 4 := by unfold kdQ; rw [if_neg (by omega), if_neg c_72, if_pos c_190, ← el, if_pos (by omega)]
                        have hnx : nxQ t n (wsE t n p_) = dgE t n (wsE t n p_) := by unfold nxQ; rw [if_neg (by omega), if_neg c_72, if_pos c_190]
                        refine r_iconst S dX5_advance_275 ?_
                        refine lv_goto (tgt := 280) S.1 S.2.1 dX5_advance_276 rfl ?_
                        refine w_puti S hW in_X5 tyX5 tyX5_ok nmX5 0 rfl rfl 5 (by decide) q1656 rfl rfl rfl rfl rfl (z := 4) rfl dX5_advance_280 (fun H locs hW => ?_)
                        refine lv_goto (tgt := 311) S.1 S.2.1 dX5_advance_283 rfl ?_
                        exact e_vS S hr hlk hW ⟨rfl, ⟨(by first | exact ⟨(up_ne (by decide)).trans (e3.trans hnx.symm), (up_ne (by decide)).trans e4, by unfold tkK; rw [up_self, hkd]; rfl, fun z => absurd z (by unfold tkK; rw [hkd]; decide), fun z => absurd z (by unfold tkK; rw [hkd]; decide)⟩ | exact ⟨(up_ne (by decide)).trans ((up_ne (by decide)).trans (el.trans hnx.symm)), (up_ne (by decide)).trans ((up_ne (by decide)).trans e34), by unfold tkK; rw [up_self, hkd]; rfl, fun z => absurd z (by unfold tkK; rw [hkd]; decide), fun _ => (up_ne (by decide)).trans (up_self.trans (by unfold tkC; rw [← el]))⟩ | exact ⟨(up_ne (by decide)).trans (el.trans hnx.symm), (up_ne (by decide)).trans e44, by unfold tkK; rw [up_self, hkd]; rfl, fun _ => (up_ne (by decide)).trans (hnu.1.trans (by unfold tkV; rw [← el])), fun z => absurd z (by unfold tkK; rw [hkd]; decide)⟩ | exact ⟨(up_ne (by decide)).trans (up_self.trans (by unfold tkN; rw [hnx, e3])), (up_ne (by decide)).trans ((up_ne (by decide)).trans e4), by unfold tkK; rw [up_self, hkd]; rfl, fun z => absurd z (by unfold tkK; rw [hkd]; decide), fun z => absurd z (by unfold tkK; rw [hkd]; decide)⟩), (by first | exact same_up hs2 (by decide) | exact same_up (same_up hs3 (by decide)) (by decide) | exact same_up hs4 (by decide) | exact same_up (same_up hs2 (by decide)) (by decide))⟩⟩ dX5_advance_311
                    ·
                      have hin := Tap_in tp9 (p := σ4 3 0) (by omega) (by omega)
                      refine lv_aload_n S.1 S.2.1 dX5_advance_212 rfl (lv_at hl 1 rfl) ?_
                      refine w_geti S hW in_X5 0 rfl rfl 3 (by decide) q1654 rfl rfl dX5_advance_213 ?_
                      refine lv_aload_n S.1 S.2.1 dX5_advance_216 rfl (lv_at hl 1 rfl) ?_
                      refine w_geti S hW in_X5 0 rfl rfl 4 (by decide) q1655 rfl rfl dX5_advance_217 ?_
                      refine r_isub S dX5_advance_220 ?_
                      refine r_iconst S dX5_advance_221 ?_
                      refine r_icmp_ge S (tgt := 248) dX5_advance_222 rfl (by omega) (fun c_222 => ?_) (fun c_222 => ?_)
                      ·
                        refine lv_aload_n S.1 S.2.1 dX5_advance_248 rfl (lv_at hl 1 rfl) ?_
                        refine lv_dup S.1 S.2.1 dX5_advance_249 rfl ?_
                        refine w_geti S hW in_X5 0 rfl rfl 3 (by decide) q1654 rfl rfl dX5_advance_250 ?_
                        refine r_iconst S dX5_advance_253 ?_
                        refine r_iadd S dX5_advance_254 ?_
                        refine w_puti S hW in_X5 tyX5 tyX5_ok nmX5 0 rfl rfl 3 (by decide) q1654 rfl rfl rfl rfl rfl (z := ((σ4 3 0) + 1)) rfl dX5_advance_255 (fun H locs hW => ?_)
                        refine lv_goto (tgt := 198) S.1 S.2.1 dX5_advance_258 rfl ?_
                        exact ih_198 (up σ4 3 0 ((σ4 3 0) + 1)) H _ _ (by first | exact same_up (same_up hsd (by decide)) (by decide) | exact same_up hsd (by decide)) (by first | exact same_up (same_up hs4 (by decide)) (by decide) | exact same_up hs4 (by decide)) (by rw [up_self]; omega) (by rw [up_self, ← hde]; unfold dgE; exact (adv_y c_209 (by omega)).symm) (by rw [up_self, show σ4 3 0 + 1 - (wsE t n p_) = σ4 3 0 - (wsE t n p_) + 1 by omega, numI_s (by omega), ← hnu.1]; first | (rw [up_ne (by decide), if_neg (by omega)]; omega) | (rw [up_ne (by decide), up_self, if_pos (by omega), show (wsE t n p_) + (σ4 3 0 - (wsE t n p_)) = σ4 3 0 by omega, ← hin.2]; omega)) (by rw [up_self]; omega) hW (lv_sub hl [0, 1] rfl)
                      ·
                        refine lv_aload_n S.1 S.2.1 dX5_advance_225 rfl (lv_at hl 1 rfl) ?_
                        refine r_bipush S dX5_advance_226 (by decide) ?_
                        refine lv_aload_n S.1 S.2.1 dX5_advance_228 rfl (lv_at hl 1 rfl) ?_
                        refine w_geti S hW in_X5 0 rfl rfl 6 (by decide) q1657 rfl rfl dX5_advance_229 ?_
                        refine r_imul S dX5_advance_232 ?_
                        refine lv_aload_n S.1 S.2.1 dX5_advance_233 rfl (lv_at hl 1 rfl) ?_
                        refine lv_aload_n S.1 S.2.1 dX5_advance_234 rfl (lv_at hl 1 rfl) ?_
                        refine w_geti S hW in_X5 0 rfl rfl 3 (by decide) q1654 rfl rfl dX5_advance_235 ?_
                        refine c_VP S hW (tX5_byteAt l G ad σ4 (σ4 3 0) t n (tp9) (by omega)) (cw_X5_108 S.2.2.2.2 ⟨Nat.le_of_ble_eq_true rfl, Nat.le_of_ble_eq_true rfl⟩) eBlind_T (fun _ _ _ => trivial) (w_recv hW (q0 := 0) rfl rfl) rfl hl.1 (rest := [.int (iI (10 * (σ4 6 0))), .ref (ad 0)]) rfl (Nat.le_of_ble_eq_true rfl) dX5_advance_238 ⟨Nat.le_of_ble_eq_true rfl, Nat.le_of_ble_eq_true rfl⟩ (fun locs hW => ?_)
                        refine r_iadd S dX5_advance_241 ?_
                        refine r_bipush S dX5_advance_242 (by decide) ?_
                        refine r_isub S dX5_advance_244 ?_
                        refine w_puti S hW in_X5 tyX5 tyX5_ok nmX5 0 rfl rfl 6 (by decide) q1657 rfl rfl rfl rfl rfl (z := (((10 * (σ4 6 0)) + (bA t n (σ4 3 0))) - 48)) rfl dX5_advance_245 (fun H locs hW => ?_)
                        refine lv_aload_n S.1 S.2.1 dX5_advance_248 rfl (lv_at hl 1 rfl) ?_
                        refine lv_dup S.1 S.2.1 dX5_advance_249 rfl ?_
                        refine w_geti S hW in_X5 0 rfl rfl 3 (by decide) q1654 rfl rfl dX5_advance_250 ?_
                        refine r_as (σ4 3 0) (up_ne (by decide)) ?_
                        refine r_iconst S dX5_advance_253 ?_
                        refine r_iadd S dX5_advance_254 ?_
                        refine w_puti S hW in_X5 tyX5 tyX5_ok nmX5 0 rfl rfl 3 (by decide) q1654 rfl rfl rfl rfl rfl (z := ((σ4 3 0) + 1)) rfl dX5_advance_255 (fun H locs hW => ?_)
                        refine lv_goto (tgt := 198) S.1 S.2.1 dX5_advance_258 rfl ?_
                        exact ih_198 (up (up σ4 6 0 (((10 * (σ4 6 0)) + (bA t n (σ4 3 0))) - 48)) 3 0 ((σ4 3 0) + 1)) H _ _ (by first | exact same_up (same_up hsd (by decide)) (by decide) | exact same_up hsd (by decide)) (by first | exact same_up (same_up hs4 (by decide)) (by decide) | exact same_up hs4 (by decide)) (by rw [up_self]; omega) (by rw [up_self, ← hde]; unfold dgE; exact (adv_y c_209 (by omega)).symm) (by rw [up_self, show σ4 3 0 + 1 - (wsE t n p_) = σ4 3 0 - (wsE t n p_) + 1 by omega, numI_s (by omega), ← hnu.1]; first | (rw [up_ne (by decide), if_neg (by omega)]; omega) | (rw [up_ne (by decide), up_self, if_pos (by omega), show (wsE t n p_) + (σ4 3 0 - (wsE t n p_)) = σ4 3 0 by omega, ← hin.2]; omega)) (by rw [up_self]; omega) hW (lv_sub hl [0, 1] rfl)
                exact cut_198 _ σ7 H _ _ (by rw [e_σ7]; exact same_up same_rf (by decide)) (by rw [e_σ7]; exact same_up hs2 (by decide)) (by rw [e_σ7, up_ne (by decide), e3]; omega) (by rw [e_σ7, up_ne (by decide), e3]) (by rw [e_σ7, up_self, up_ne (by decide), e3, show (wsE t n p_) - (wsE t n p_) = 0 by omega]; exact ⟨rfl, by omega, by omega, by omega, by omega⟩) (Nat.lt_succ_self _) hW (lv_sub hl [0, 1] rfl)
            ·
              refine r_lconst0 S dX5_advance_75 ?_
              refine lv_lstore_n (lv' := [(2, .long (lI 0)), (1, .int (iI (bA t n (wsE t n p_)))), (0, .ref (ad 0))]) S.1 S.2.1 dX5_advance_76 rfl hl (by decide) rfl (fun ls hl => ?_)
              have cut_77 : ∀ (N_77 : Nat) (v : Int) (σ3 : St) (H : Heap) (locs : List Loc) (ls : Array Slot), (same [3] σ2 σ3) → (same [3, 4, 5, 6, 7] σ σ3) → ((wsE t n p_) ≤ σ3 3 0 ∧ σ3 3 0 ≤ 601) → (leE t n (σ3 3 0) = leE t n (wsE t n p_)) → (letL (wlI t (wsE t n p_) (min (σ3 3 0 - (wsE t n p_)) 8))) → (v = pk5 (wlI t (wsE t n p_) (min (σ3 3 0 - (wsE t n p_)) 8))) → ((601 - σ3 3 0).toNat) < N_77 → WD G shM ad (aM ad) s s.heap σ3 H locs → lv_has ls 4 [(2, .long (lI v)), (1, .int (iI (bA t n (wsE t n p_)))), (0, .ref (ad 0))] → W p l e (⟨4, 0, 0, 92⟩ : Room) s m ([.ref (ad 0)] : List Value).toArray below meth c H locs 0 0 (MQ below (qS G shM ad (aM ad) (rV (fun σ' => (Cur σ' t n p_) ∧ (same [3, 4, 5, 6, 7] σ σ')))) ([.ref (ad 0)] : List Value).toArray s 0 0 (aM ad)) (F0 m 77 ls []) := by
                intro N_77
                induction N_77 with
                | zero =>
                  intro v σ3 H locs ls hsl hs3 hb3 hle hlt hv5 hμ_77 hW hl
                  exact absurd hμ_77 (by omega)
                | succ N_77 ih_77 =>
                  intro v σ3 H locs ls hsl hs3 hb3 hle hlt hv5 hμ_77 hW hl
                  have tp9 : Tap σ3 t n := Tap_eq ht (hs3 2 (by decide)) (hs3 0 (by decide))
                  have br3 := Tap_bA tp9 (p := σ3 3 0) (by omega)
                  have e34 : σ3 4 0 = (wsE t n p_) := by rw [hsl 4 (by decide)]; exact e4
                  refine lv_aload_n S.1 S.2.1 dX5_advance_77 rfl (lv_at hl 2 rfl) ?_
                  refine lv_aload_n S.1 S.2.1 dX5_advance_78 rfl (lv_at hl 2 rfl) ?_
                  refine w_geti S hW in_X5 0 rfl rfl 3 (by decide) q1654 rfl rfl dX5_advance_79 ?_
                  refine c_VP S hW (tX5_byteAt l G ad σ3 (σ3 3 0) t n (tp9) (by omega)) (cw_X5_108 S.2.2.2.2 ⟨Nat.le_of_ble_eq_true rfl, Nat.le_of_ble_eq_true rfl⟩) eBlind_T (fun _ _ _ => trivial) (w_recv hW (q0 := 0) rfl rfl) rfl hl.1 (rest := []) rfl (Nat.le_of_ble_eq_true rfl) dX5_advance_82 ⟨Nat.le_of_ble_eq_true rfl, Nat.le_of_ble_eq_true rfl⟩ (fun locs hW => ?_)
                  refine c_SPw S hW (tX5_isLetter l (bA t n (σ3 3 0)) (by omega)) (cw_X5_118 S.2.2.2.2 ⟨Nat.le_of_ble_eq_true rfl, Nat.le_of_ble_eq_true rfl⟩) rfl hl.1 (rest := []) rfl (Nat.le_of_ble_eq_true rfl) dX5_advance_85 ⟨Nat.le_of_ble_eq_true rfl, Nat.le_of_ble_eq_true rfl⟩ (fun locs hW => ?_)
                  refine r_ifeq_p S (tgt := 138) dX5_advance_88 rfl (fun c_88 => ?_) (fun c_88 => ?_)
                  ·
                    have el : σ3 3 0 = leE t n (wsE t n p_) := by rw [← hle]; exact (adv_n (fun z => c_88 z)).symm
                    have wm := wcd_min (t := t) (q := (wsE t n p_)) (d := σ3 3 0 - (wsE t n p_)) (by omega) hlt
                    have pr5 := pk5_rng _ hlt (by unfold wlI; rw [wlr_len]; omega)
                    have wr5 := wcd_rng (wlI t (wsE t n p_) (σ3 3 0 - (wsE t n p_)))
                    refine lv_aload_n S.1 S.2.1 dX5_advance_138 rfl (lv_at hl 2 rfl) ?_
                    refine lv_aload_n S.1 S.2.1 dX5_advance_139 rfl (lv_at hl 2 rfl) ?_
                    refine w_geti S hW in_X5 0 rfl rfl 3 (by decide) q1654 rfl rfl dX5_advance_140 ?_
                    refine lv_aload_n S.1 S.2.1 dX5_advance_143 rfl (lv_at hl 2 rfl) ?_
                    refine w_geti S hW in_X5 0 rfl rfl 4 (by decide) q1655 rfl rfl dX5_advance_144 ?_
                    refine r_isub S dX5_advance_147 ?_
                    have cut_162 : ∀ (H : Heap) (locs : List Loc) (ls : Array Slot), WD G shM ad (aM ad) s s.heap σ3 H locs → lv_has ls 4 [(2, .long (lI v)), (1, .int (iI (bA t n (wsE t n p_)))), (0, .ref (ad 0))] → W p l e (⟨4, 0, 0, 92⟩ : Room) s m ([.ref (ad 0)] : List Value).toArray below meth c H locs 0 0 (MQ below (qS G shM ad (aM ad) (rV (fun σ' => (Cur σ' t n p_) ∧ (same [3, 4, 5, 6, 7] σ σ')))) ([.ref (ad 0)] : List Value).toArray s 0 0 (aM ad)) (F0 m 162 ls [.int (iI (wcd (wlI t (wsE t n p_) (σ3 3 0 - (wsE t n p_))))), .ref (ad 0)]) := by
                      intro H locs ls hW hl
                      refine w_puti S hW in_X5 tyX5 tyX5_ok nmX5 0 rfl rfl 7 (by decide) q1658 rfl rfl rfl rfl rfl (z := (wcd (wlI t (wsE t n p_) (σ3 3 0 - (wsE t n p_))))) rfl dX5_advance_162 (fun H locs hW => ?_)
                      refine lv_aload_n S.1 S.2.1 dX5_advance_165 rfl (lv_at hl 2 rfl) ?_
                      refine lv_aload_n S.1 S.2.1 dX5_advance_166 rfl (lv_at hl 2 rfl) ?_
                      refine w_geti S hW in_X5 0 rfl rfl 7 (by decide) q1658 rfl rfl dX5_advance_167 ?_
                      refine r_as (wcd (wlI t (wsE t n p_) (σ3 3 0 - (wsE t n p_)))) up_self ?_
                      refine r_bipush S dX5_advance_170 (by decide) ?_
                      refine r_icmp_ne S (tgt := 179) dX5_advance_172 rfl (by omega) (fun c_172 => ?_) (fun c_172 => ?_)
                      ·
                        have hkd : kdQ t n (wsE t n p_) = 3 := by unfold kdQ; rw [if_neg (by omega), if_pos c_72, ← el, if_neg c_172]
                        have hnx : nxQ t n (wsE t n p_) = leE t n (wsE t n p_) := by unfold nxQ; rw [if_neg (by omega), if_pos c_72]
                        refine r_iconst S dX5_advance_179 ?_
                        refine w_puti S hW in_X5 tyX5 tyX5_ok nmX5 0 rfl rfl 5 (by decide) q1656 rfl rfl rfl rfl rfl (z := 3) rfl dX5_advance_180 (fun H locs hW => ?_)
                        refine lv_goto (tgt := 311) S.1 S.2.1 dX5_advance_183 rfl ?_
                        exact e_vS S hr hlk hW ⟨rfl, ⟨(by first | exact ⟨(up_ne (by decide)).trans (e3.trans hnx.symm), (up_ne (by decide)).trans e4, by unfold tkK; rw [up_self, hkd]; rfl, fun z => absurd z (by unfold tkK; rw [hkd]; decide), fun z => absurd z (by unfold tkK; rw [hkd]; decide)⟩ | exact ⟨(up_ne (by decide)).trans ((up_ne (by decide)).trans (el.trans hnx.symm)), (up_ne (by decide)).trans ((up_ne (by decide)).trans e34), by unfold tkK; rw [up_self, hkd]; rfl, fun z => absurd z (by unfold tkK; rw [hkd]; decide), fun _ => (up_ne (by decide)).trans (up_self.trans (by unfold tkC; rw [← el]))⟩ | exact ⟨(up_ne (by decide)).trans (el.trans hnx.symm), (up_ne (by decide)).trans e44, by unfold tkK; rw [up_self, hkd]; rfl, fun _ => (up_ne (by decide)).trans (hnu.1.trans (by unfold tkV; rw [← el])), fun z => absurd z (by unfold tkK; rw [hkd]; decide)⟩ | exact ⟨(up_ne (by decide)).trans (up_self.trans (by unfold tkN; rw [hnx, e3])), (up_ne (by decide)).trans ((up_ne (by decide)).trans e4), by unfold tkK; rw [up_self, hkd]; rfl, fun z => absurd z (by unfold tkK; rw [hkd]; decide), fun z => absurd z (by unfold tkK; rw [hkd]; decide)⟩), (by first | exact same_up hs2 (by decide) | exact same_up (same_up hs3 (by decide)) (by decide) | exact same_up hs4 (by decide) | exact same_up (same_up hs2 (by decide)) (by decide))⟩⟩ dX5_advance_311
                      ·
                        have hkd : kdQ t n (wsE t n p_) = 5 := by unfold kdQ; rw [if_neg (by omega), if_pos c_72, ← el, if_pos c_172]
                        have hnx : nxQ t n (wsE t n p_) = leE t n (wsE t n p_) := by unfold nxQ; rw [if_neg (by omega), if_pos c_72]
                        refine r_iconst S dX5_advance_175 ?_
                        refine lv_goto (tgt := 180) S.1 S.2.1 dX5_advance_176 rfl ?_
                        refine w_puti S hW in_X5 tyX5 tyX5_ok nmX5 0 rfl rfl 5 (by decide) q1656 rfl rfl rfl rfl rfl (z := 4) rfl dX5_advance_180 (fun H locs hW => ?_)
                        refine lv_goto (tgt := 311) S.1 S.2.1 dX5_advance_183 rfl ?_
                        exact e_vS S hr hlk hW ⟨rfl, ⟨(by first | exact ⟨(up_ne (by decide)).trans (e3.trans hnx.symm), (up_ne (by decide)).trans e4, by unfold tkK; rw [up_self, hkd]; rfl, fun z => absurd z (by unfold tkK; rw [hkd]; decide), fun z => absurd z (by unfold tkK; rw [hkd]; decide)⟩ | exact ⟨(up_ne (by decide)).trans ((up_ne (by decide)).trans (el.trans hnx.symm)), (up_ne (by decide)).trans ((up_ne (by decide)).trans e34), by unfold tkK; rw [up_self, hkd]; rfl, fun z => absurd z (by unfold tkK; rw [hkd]; decide), fun _ => (up_ne (by decide)).trans (up_self.trans (by unfold tkC; rw [← el]))⟩ | exact ⟨(up_ne (by decide)).trans (el.trans hnx.symm), (up_ne (by decide)).trans e44, by unfold tkK; rw [up_self, hkd]; rfl, fun _ => (up_ne (by decide)).trans (hnu.1.trans (by unfold tkV; rw [← el])), fun z => absurd z (by unfold tkK; rw [hkd]; decide)⟩ | exact ⟨(up_ne (by decide)).trans (up_self.trans (by unfold tkN; rw [hnx, e3])), (up_ne (by decide)).trans ((up_ne (by decide)).trans e4), by unfold tkK; rw [up_self, hkd]; rfl, fun z => absurd z (by unfold tkK; rw [hkd]; decide), fun z => absurd z (by unfold tkK; rw [hkd]; decide)⟩), (by first | exact same_up hs2 (by decide) | exact same_up (same_up hs3 (by decide)) (by decide) | exact same_up hs4 (by decide) | exact same_up (same_up hs2 (by decide)) (by decide))⟩⟩ dX5_advance_311
                    refine r_bipush S dX5_advance_148 (by decide) ?_
                    refine r_icmp_le S (tgt := 158) dX5_advance_150 rfl (by omega) (fun c_150 => ?_) (fun c_150 => ?_)
                    ·
                      refine lv_lload_n S.1 S.2.1 dX5_advance_158 rfl (lv_at hl 0 rfl) ?_
                      refine c_SPw S hW (tX5_wordOf l v (by omega)) (cw_X5_126 S.2.2.2.2 ⟨Nat.le_of_ble_eq_true rfl, Nat.le_of_ble_eq_true rfl⟩) rfl hl.1 (rest := [.ref (ad 0)]) rfl (Nat.le_of_ble_eq_true rfl) dX5_advance_159 ⟨Nat.le_of_ble_eq_true rfl, Nat.le_of_ble_eq_true rfl⟩ (fun locs hW => ?_)
                      refine r_as (wcd (wlI t (wsE t n p_) (σ3 3 0 - (wsE t n p_)))) (by rw [← wm]; first | rw [if_pos (by omega)] | (rw [if_neg (by omega), hv5])) ?_
                      exact cut_162 H _ _ hW (lv_sub hl [0, 1, 2] rfl)
                    ·
                      refine r_bipush S dX5_advance_153 (by decide) ?_
                      refine lv_goto (tgt := 162) S.1 S.2.1 dX5_advance_155 rfl ?_
                      refine r_as (wcd (wlI t (wsE t n p_) (σ3 3 0 - (wsE t n p_)))) (by rw [← wm]; first | rw [if_pos (by omega)] | (rw [if_neg (by omega), hv5])) ?_
                      exact cut_162 H _ _ hW (lv_sub hl [0, 1, 2] rfl)
                  ·
                    have hin := Tap_in tp9 (p := σ3 3 0) (by omega) (by omega)
                    refine lv_aload_n S.1 S.2.1 dX5_advance_91 rfl (lv_at hl 2 rfl) ?_
                    refine w_geti S hW in_X5 0 rfl rfl 3 (by decide) q1654 rfl rfl dX5_advance_92 ?_
                    refine lv_aload_n S.1 S.2.1 dX5_advance_95 rfl (lv_at hl 2 rfl) ?_
                    refine w_geti S hW in_X5 0 rfl rfl 4 (by decide) q1655 rfl rfl dX5_advance_96 ?_
                    refine r_isub S dX5_advance_99 ?_
                    refine r_bipush S dX5_advance_100 (by decide) ?_
                    refine r_icmp_ge S (tgt := 125) dX5_advance_102 rfl (by omega) (fun c_102 => ?_) (fun c_102 => ?_)
                    ·
                      refine lv_aload_n S.1 S.2.1 dX5_advance_125 rfl (lv_at hl 2 rfl) ?_
                      refine lv_dup S.1 S.2.1 dX5_advance_126 rfl ?_
                      refine w_geti S hW in_X5 0 rfl rfl 3 (by decide) q1654 rfl rfl dX5_advance_127 ?_
                      refine r_iconst S dX5_advance_130 ?_
                      refine r_iadd S dX5_advance_131 ?_
                      refine w_puti S hW in_X5 tyX5 tyX5_ok nmX5 0 rfl rfl 3 (by decide) q1654 rfl rfl rfl rfl rfl (z := ((σ3 3 0) + 1)) rfl dX5_advance_132 (fun H locs hW => ?_)
                      refine lv_goto (tgt := 77) S.1 S.2.1 dX5_advance_135 rfl ?_
                      exact ih_77 v (up σ3 3 0 ((σ3 3 0) + 1)) H _ _ (same_up hsl (by decide)) (same_up hs3 (by decide)) (by rw [up_self]; omega) (by rw [up_self, ← hle]; unfold leE; exact (adv_y c_88 (by omega)).symm) (by rw [up_self]; first | (rw [show min (σ3 3 0 + 1 - (wsE t n p_)) 8 = min (σ3 3 0 - (wsE t n p_)) 8 by omega]; exact hlt) | (rw [show min (σ3 3 0 + 1 - (wsE t n p_)) 8 = min (σ3 3 0 - (wsE t n p_)) 8 + 1 by omega, wlI_s (by omega)]; exact letL_cons (by rw [show (wsE t n p_) + min (σ3 3 0 - (wsE t n p_)) 8 = σ3 3 0 by omega, ← hin.2]; exact c_88) hlt)) (by rw [up_self]; first | (rw [show min (σ3 3 0 + 1 - (wsE t n p_)) 8 = min (σ3 3 0 - (wsE t n p_)) 8 by omega]; exact hv5) | (rw [show min (σ3 3 0 + 1 - (wsE t n p_)) 8 = min (σ3 3 0 - (wsE t n p_)) 8 + 1 by omega, wlI_s (by omega)]; show _ = 32 * pk5 _ + (_ - 96); rw [← hv5, show (wsE t n p_) + min (σ3 3 0 - (wsE t n p_)) 8 = σ3 3 0 by omega, ← hin.2]; omega)) (by rw [up_self]; omega) hW (lv_sub hl [0, 1, 2] rfl)
                    ·
                      refine r_ldc2 (z := 32) S q1800 (by decide) dX5_advance_105 ?_
                      refine lv_lload_n S.1 S.2.1 dX5_advance_108 rfl (lv_at hl 0 rfl) ?_
                      refine r_lmul S dX5_advance_109 ?_
                      refine lv_aload_n S.1 S.2.1 dX5_advance_110 rfl (lv_at hl 2 rfl) ?_
                      refine lv_aload_n S.1 S.2.1 dX5_advance_111 rfl (lv_at hl 2 rfl) ?_
                      refine w_geti S hW in_X5 0 rfl rfl 3 (by decide) q1654 rfl rfl dX5_advance_112 ?_
                      refine c_VP S hW (tX5_byteAt l G ad σ3 (σ3 3 0) t n (tp9) (by omega)) (cw_X5_108 S.2.2.2.2 ⟨Nat.le_of_ble_eq_true rfl, Nat.le_of_ble_eq_true rfl⟩) eBlind_T (fun _ _ _ => trivial) (w_recv hW (q0 := 0) rfl rfl) rfl hl.1 (rest := [.long (lI (32 * v))]) rfl (Nat.le_of_ble_eq_true rfl) dX5_advance_115 ⟨Nat.le_of_ble_eq_true rfl, Nat.le_of_ble_eq_true rfl⟩ (fun locs hW => ?_)
                      refine r_i2l S dX5_advance_118 (by omega) ?_
                      refine r_ladd S dX5_advance_119 ?_
                      refine r_ldc2 (z := 96) S q1801 (by decide) dX5_advance_120 ?_
                      refine r_lsub S dX5_advance_123 ?_
                      refine lv_lstore_n (lv' := [(2, .long (lI (((32 * v) + (bA t n (σ3 3 0))) - 96))), (1, .int (iI (bA t n (wsE t n p_)))), (0, .ref (ad 0))]) S.1 S.2.1 dX5_advance_124 rfl hl (by decide) rfl (fun ls hl => ?_)
                      refine lv_aload_n S.1 S.2.1 dX5_advance_125 rfl (lv_at hl 2 rfl) ?_
                      refine lv_dup S.1 S.2.1 dX5_advance_126 rfl ?_
                      refine w_geti S hW in_X5 0 rfl rfl 3 (by decide) q1654 rfl rfl dX5_advance_127 ?_
                      refine r_iconst S dX5_advance_130 ?_
                      refine r_iadd S dX5_advance_131 ?_
                      refine w_puti S hW in_X5 tyX5 tyX5_ok nmX5 0 rfl rfl 3 (by decide) q1654 rfl rfl rfl rfl rfl (z := ((σ3 3 0) + 1)) rfl dX5_advance_132 (fun H locs hW => ?_)
                      refine lv_goto (tgt := 77) S.1 S.2.1 dX5_advance_135 rfl ?_
                      exact ih_77 (((32 * v) + (bA t n (σ3 3 0))) - 96) (up σ3 3 0 ((σ3 3 0) + 1)) H _ _ (same_up hsl (by decide)) (same_up hs3 (by decide)) (by rw [up_self]; omega) (by rw [up_self, ← hle]; unfold leE; exact (adv_y c_88 (by omega)).symm) (by rw [up_self]; first | (rw [show min (σ3 3 0 + 1 - (wsE t n p_)) 8 = min (σ3 3 0 - (wsE t n p_)) 8 by omega]; exact hlt) | (rw [show min (σ3 3 0 + 1 - (wsE t n p_)) 8 = min (σ3 3 0 - (wsE t n p_)) 8 + 1 by omega, wlI_s (by omega)]; exact letL_cons (by rw [show (wsE t n p_) + min (σ3 3 0 - (wsE t n p_)) 8 = σ3 3 0 by omega, ← hin.2]; exact c_88) hlt)) (by rw [up_self]; first | (rw [show min (σ3 3 0 + 1 - (wsE t n p_)) 8 = min (σ3 3 0 - (wsE t n p_)) 8 by omega]; exact hv5) | (rw [show min (σ3 3 0 + 1 - (wsE t n p_)) 8 = min (σ3 3 0 - (wsE t n p_)) 8 + 1 by omega, wlI_s (by omega)]; show _ = 32 * pk5 _ + (_ - 96); rw [← hv5, show (wsE t n p_) + min (σ3 3 0 - (wsE t n p_)) 8 = σ3 3 0 by omega, ← hin.2]; omega)) (by rw [up_self]; omega) hW (lv_sub hl [0, 1, 2] rfl)
              exact cut_77 _ 0 σ2 H _ _ (same_rf) (hs2) (by rw [e3]; omega) (by rw [e3]) (by rw [e3, show min ((wsE t n p_) - (wsE t n p_)) 8 = 0 by omega]; exact fun y hy => absurd hy List.not_mem_nil) (by rw [e3, show min ((wsE t n p_) - (wsE t n p_)) 8 = 0 by omega]; rfl) (Nat.lt_succ_self _) hW (lv_sub hl [0, 1, 2] rfl)
          ·
            have hkd : kdQ t n (wsE t n p_) = 0 := by unfold kdQ; rw [if_pos (by omega)]
            have hnx : nxQ t n (wsE t n p_) = (wsE t n p_) := by unfold nxQ; rw [if_pos (by omega)]
            refine lv_aload_n S.1 S.2.1 dX5_advance_60 rfl (lv_at hl 1 rfl) ?_
            refine r_iconst S dX5_advance_61 ?_
            refine w_puti S hW in_X5 tyX5 tyX5_ok nmX5 0 rfl rfl 5 (by decide) q1656 rfl rfl rfl rfl rfl (z := 0) rfl dX5_advance_62 (fun H locs hW => ?_)
            refine lv_goto (tgt := 311) S.1 S.2.1 dX5_advance_65 rfl ?_
            exact e_vS S hr hlk hW ⟨rfl, ⟨(by first | exact ⟨(up_ne (by decide)).trans (e3.trans hnx.symm), (up_ne (by decide)).trans e4, by unfold tkK; rw [up_self, hkd]; rfl, fun z => absurd z (by unfold tkK; rw [hkd]; decide), fun z => absurd z (by unfold tkK; rw [hkd]; decide)⟩ | exact ⟨(up_ne (by decide)).trans ((up_ne (by decide)).trans (el.trans hnx.symm)), (up_ne (by decide)).trans ((up_ne (by decide)).trans e34), by unfold tkK; rw [up_self, hkd]; rfl, fun z => absurd z (by unfold tkK; rw [hkd]; decide), fun _ => (up_ne (by decide)).trans (up_self.trans (by unfold tkC; rw [← el]))⟩ | exact ⟨(up_ne (by decide)).trans (el.trans hnx.symm), (up_ne (by decide)).trans e44, by unfold tkK; rw [up_self, hkd]; rfl, fun _ => (up_ne (by decide)).trans (hnu.1.trans (by unfold tkV; rw [← el])), fun z => absurd z (by unfold tkK; rw [hkd]; decide)⟩ | exact ⟨(up_ne (by decide)).trans (up_self.trans (by unfold tkN; rw [hnx, e3])), (up_ne (by decide)).trans ((up_ne (by decide)).trans e4), by unfold tkK; rw [up_self, hkd]; rfl, fun z => absurd z (by unfold tkK; rw [hkd]; decide), fun z => absurd z (by unfold tkK; rw [hkd]; decide)⟩), (by first | exact same_up hs2 (by decide) | exact same_up (same_up hs3 (by decide)) (by decide) | exact same_up hs4 (by decide) | exact same_up (same_up hs2 (by decide)) (by decide))⟩⟩ dX5_advance_311
        ·
          have hin := Tap_in tp9 (p := σ1 3 0) (by omega) (by omega)
          refine lv_aload_n S.1 S.2.1 dX5_advance_26 rfl (lv_at hl 0 rfl) ?_
          refine lv_dup S.1 S.2.1 dX5_advance_27 rfl ?_
          refine w_geti S hW in_X5 0 rfl rfl 3 (by decide) q1654 rfl rfl dX5_advance_28 ?_
          refine r_iconst S dX5_advance_31 ?_
          refine r_iadd S dX5_advance_32 ?_
          refine w_puti S hW in_X5 tyX5 tyX5_ok nmX5 0 rfl rfl 3 (by decide) q1654 rfl rfl rfl rfl rfl (z := ((σ1 3 0) + 1)) rfl dX5_advance_33 (fun H locs hW => ?_)
          refine lv_goto (tgt := 0) S.1 S.2.1 dX5_advance_36 rfl ?_
          exact ih_0 (up σ1 3 0 ((σ1 3 0) + 1)) H _ _ (same_up hsm (by decide)) (by rw [up_self]; omega) (by rw [up_self, ← hw]; unfold wsE; exact (adv_y (by first | exact Or.inl c_10 | exact Or.inr c_23) (by omega)).symm) (by rw [up_self]; omega) hW (lv_sub hl [0] rfl)
  exact cut_0 _ σ s.heap _ _ (same_rf) (by omega) (by rw [hp.1]) (Nat.lt_succ_self _) hW (lv_sub hl [0] rfl)
