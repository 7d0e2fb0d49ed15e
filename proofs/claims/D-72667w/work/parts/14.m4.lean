/-! MODEL 4: a name is dropped; spellings -/
set_option maxRecDepth 100000
abbrev q_X1_moveName (G : Gw) (M : Mg) (B : Hp) (S : Ms) (a : Int) (b : Int) : Option Value → Hp → Prop := fun v_ h_ => v_ = none ∧ h_ = mh G M B (s_mv S a b 8)
set_option maxHeartbeats 4000000 in
theorem c_X1_moveName (l : Launch) (G : Gw) (M : Mg) (B : Hp) (S : Ms) (a : Int) (b : Int) (hM : MOk M) (hp0 : 0 ≤ a ∧ a < 14) (hp1 : 0 ≤ b ∧ b < 14) (hp2 : a ≠ b) : Mt l G yX1_moveName cX1_moveName 4 none 0 [.ref (M.1), iv (a), iv (b)] (mh G M B S) (q_X1_moveName G M B S a b) (0) (0) := by
  refine Mt.of (lv := [(0, .ref (M.1)), (1, iv (a)), (2, iv (b))]) (by decide) (Nat.le_of_ble_eq_true rfl) rfl (fun X => ?_)
  refine x_aload_n dX1_moveName_0 rfl ?_
  refine m_get_length hM dX1_moveName_1 ?_
  refine x_iload_n dX1_moveName_4 rfl ?_
  refine x_aload_n dX1_moveName_5 rfl ?_
  refine m_get_length hM dX1_moveName_6 ?_
  refine x_iload_n dX1_moveName_9 rfl ?_
  refine m_ald hM (N := 14) rfl (by omega) (by decide) dX1_moveName_10 ?_
  refine m_ast hM (N := 14) rfl (by omega) (by decide) dX1_moveName_11 ?_
  refine x_aload_n dX1_moveName_12 rfl ?_
  refine m_get_uses hM dX1_moveName_13 ?_
  refine x_iload_n dX1_moveName_16 rfl ?_
  refine x_aload_n dX1_moveName_17 rfl ?_
  refine m_get_uses hM dX1_moveName_18 ?_
  refine x_iload_n dX1_moveName_21 rfl ?_
  refine m_ald hM (N := 14) rfl (by omega) (by decide) dX1_moveName_22 ?_
  refine m_ast hM (N := 14) rfl (by omega) (by decide) dX1_moveName_23 ?_
  refine x_iconst dX1_moveName_24 ?_
  refine x_istore_n (lv' := [(0, _), (1, _), (2, _), (3, _)]) dX1_moveName_25 rfl (by decide) ?_
  have L26 : ∀ (n26 : Nat) (k : Nat), ((8 : Int) - k) < (n26 : Int) → (k : Int) ≤ 8 → V G X cX1_moveName 4 yX1_moveName none 0 (q_X1_moveName G M B S a b) (0) (0) 26 [(0, .ref (M.1)), (1, iv (a)), (2, iv (b)), (3, iv (k))] [] (mh G M B (s_mv S a b k)) (0) (0) := by
    intro n26
    induction n26 with
    | zero =>
      intro k hm hk
      exact absurd hm (by omega)
    | succ n26 ih26 =>
      intro k hm26 hk
      refine x_iload_n dX1_moveName_26 rfl ?_
      refine x_bipush dX1_moveName_27 ?_
      refine x_icmp_ge 60 dX1_moveName_29 rfl (by omega) (by omega) (fun c_29 => ?_) (fun c_29 => ?_)
      · exact x_vret rfl ⟨rfl, congrArg (mh G M B) (by rw [show (k : Int) = 8 by omega])⟩ dX1_moveName_60
      · refine x_aload_n dX1_moveName_32 rfl ?_
        refine m_get_letters hM dX1_moveName_33 ?_
        refine x_bipush dX1_moveName_36 ?_
        refine x_iload_n dX1_moveName_38 rfl ?_
        refine x_imul dX1_moveName_39 ?_
        refine x_iload_n dX1_moveName_40 rfl ?_
        refine x_iadd dX1_moveName_41 ?_
        refine x_aload_n dX1_moveName_42 rfl ?_
        refine m_get_letters hM dX1_moveName_43 ?_
        refine x_bipush dX1_moveName_46 ?_
        refine x_iload_n dX1_moveName_48 rfl ?_
        refine x_imul dX1_moveName_49 ?_
        refine x_iload_n dX1_moveName_50 rfl ?_
        refine x_iadd dX1_moveName_51 ?_
        refine m_ald hM (N := 112) rfl (by omega) (by decide) dX1_moveName_52 ?_
        refine m_ast hM (N := 112) rfl (by omega) (by decide) dX1_moveName_53 ?_
        refine x_iinc (lv' := [(0, _), (1, _), (2, _), (3, _)]) dX1_moveName_54 rfl rfl (by decide) ?_
        refine x_goto 26 dX1_moveName_57 rfl ?_
        refine x_h (congrArg (mh G M B) (s_mv_s hp2 (by omega))) ?_
        exact ih26 (k + 1) (by omega) (by omega)
  refine x_h (congrArg (mh G M B) (s_mv_0 S a b)) ?_
  exact L26 (9) (0) (by decide) (by omega)
theorem k_X1_moveName {G : Gw} {X : Cx} {cc : ByteArray} {nL : Nat} {y : MethodName} {ret : Option FieldType} {dp : Nat} {P : Option Value → Hp → Prop} {mc ms pc : Nat} {lv : List (Nat × Value)} {st : List Value} {kc ks : Nat} {M : Mg} {B : Hp} {S : Ms} {a : Int} {b : Int} (hM : MOk M) (hd : decode cc pc = .ok (.invokevirtual 116, 3)) (hp0 : 0 ≤ a ∧ a < 14) (hp1 : 0 ≤ b ∧ b < 14) (hp2 : a ≠ b) (kk : V G X cc nL y ret dp P mc ms (pc + 3) lv (st) (mh G M B (s_mv S a b 8)) kc ks) (hy : y.cls = RX1 := by rfl) (hdp : 0 + 1 ≤ dp := by decide) (hrs : (st.map fun v => v.category).sum ≤ 8 := by first | decide | (simp [Value.category, iv, jv]; done)) : V G X cc nL y ret dp P mc ms pc lv (iv (b) :: iv (a) :: .ref M.1 :: st) (mh G M B S) kc ks := by
  refine x_callV (ci := 1) (T := TX1) (N := 33) (As := [iv (a), iv (b)]) 2 (fun l => c_X1_moveName l G M B S a b hM hp0 hp1 hp2) (by rw [hy]; exact q2983) q2985 qs83 q173 q2986 (by decide +kernel) hdp (by decide) (mh_o hM) rfl rfl rfl hrs hd (Nat.zero_le _) (Nat.zero_le _) (fun v h hv => ?_)
  obtain ⟨rfl, rfl⟩ := hv
  exact kk
abbrev q_X1_drop (G : Gw) (M : Mg) (B : Hp) (S : Ms) (a : Int) : Option Value → Hp → Prop := fun v_ h_ => v_ = some (iv (f_drop S a)) ∧ h_ = mh G M B (s_drop S a)
set_option maxHeartbeats 4000000 in
theorem c_X1_drop (l : Launch) (G : Gw) (M : Mg) (B : Hp) (S : Ms) (a : Int) (hM : MOk M) (hp0 : Wf S) (hp1 : -2147483648 ≤ a ∧ a ≤ 2147483647) : Mt l G yX1_drop cX1_drop 3 (some .int) 2 [.ref (M.1), iv (a)] (mh G M B S) (q_X1_drop G M B S a) (0) (0) := by
  refine Mt.of (lv := [(0, .ref (M.1)), (1, iv (a))]) (by decide) (Nat.le_of_ble_eq_true rfl) rfl (fun X => ?_)
  have h2 := hp0.nm
  refine x_aload_n dX1_drop_0 rfl ?_
  refine x_iload_n dX1_drop_1 rfl ?_
  refine k_X1_isName (a := a) hM dX1_drop_2 (hp0) (hp1) ?_
  refine x_ifb_ne 11 dX1_drop_5 rfl (fun c_5 => ?_) (fun c_5 => ?_)
  · have h9 : 0 ≤ a ∧ a < S.1 2 := by simp at c_5; omega
    refine x_aload_n dX1_drop_11 rfl ?_
    refine x_dup dX1_drop_12 ?_
    refine m_get_names hM dX1_drop_13 ?_
    refine x_iconst dX1_drop_16 ?_
    refine x_isub dX1_drop_17 ?_
    refine m_put_names hM dX1_drop_18 ?_
    refine x_iload_n dX1_drop_21 rfl ?_
    refine x_istore_n (lv' := [(0, _), (1, _), (2, _)]) dX1_drop_22 rfl (by decide) ?_
    have L23 : ∀ (n23 : Nat) (k : Int), (S.1 2 - 1 - k) < (n23 : Int) → a ≤ k ∧ k ≤ S.1 2 - 1 → V G X cX1_drop 3 yX1_drop (some .int) 2 (q_X1_drop G M B S a) (0) (0) 23 [(0, .ref (M.1)), (1, iv (a)), (2, iv (k))] [] (mh G M B (s_dr S a k)) (0) (0) := by
      intro n23
      induction n23 with
      | zero =>
        intro k hm hk
        exact absurd hm (by omega)
      | succ n23 ih23 =>
        intro k hm23 hk
        have h5 : (s_dr S a k).1 2 = S.1 2 - 1 := rfl
        refine x_iload_n dX1_drop_23 rfl ?_
        refine x_aload_n dX1_drop_24 rfl ?_
        refine m_get_names hM dX1_drop_25 ?_
        refine x_icmp_ge 45 dX1_drop_28 rfl (by omega) (by omega) (fun c_28 => ?_) (fun c_28 => ?_)
        · refine x_aload_n dX1_drop_45 rfl ?_
          refine x_dup dX1_drop_46 ?_
          refine m_get_gone hM dX1_drop_47 ?_
          refine x_iconst dX1_drop_50 ?_
          refine x_iadd dX1_drop_51 ?_
          refine m_put_gone hM dX1_drop_52 ?_
          refine x_aload_n dX1_drop_55 rfl ?_
          refine x_iconst dX1_drop_56 ?_
          refine m_put_width hM dX1_drop_57 ?_
          refine x_aload_n dX1_drop_60 rfl ?_
          refine m_get_names hM dX1_drop_61 ?_
          exact x_iret rfl ⟨ri (by rw [f_drop, if_pos c_5]; rfl), by rw [s_drop, if_pos c_5, ← show k = S.1 2 - 1 by omega]; rfl⟩ dX1_drop_64
        · refine x_aload_n dX1_drop_31 rfl ?_
          refine x_iload_n dX1_drop_32 rfl ?_
          refine x_iconst dX1_drop_33 ?_
          refine x_iadd dX1_drop_34 ?_
          refine x_iload_n dX1_drop_35 rfl ?_
          refine k_X1_moveName (a := k + 1) (b := k) hM dX1_drop_36 (by omega) (by omega) (by omega) ?_
          refine x_iinc (lv' := [(0, _), (1, _), (2, _)]) dX1_drop_39 rfl rfl (by decide) ?_
          refine x_goto 23 dX1_drop_42 rfl ?_
          refine x_h (congrArg (mh G M B) (s_dr_s (by omega))) ?_
          exact ih23 (k + 1) (by omega) (by omega)
    refine x_h (congrArg (mh G M B) (s_dr_0 S a)) ?_
    exact L23 ((S.1 2).toNat + 1) (a) (by omega) (by omega)
  · refine x_bipush dX1_drop_8 ?_
    exact x_iret rfl ⟨ri (by rw [f_drop, if_neg (bf c_5)]), by rw [s_drop, if_neg (bf c_5)]⟩ dX1_drop_10
abbrev q_X1_takesPiece (G : Gw) (M : Mg) (B : Hp) (S : Ms) (p : Int) (n : Int) (m : Int) : Option Value → Hp → Prop := fun v_ h_ => v_ = none ∧ h_ = mh G M B (setp S p (tkp (getp S p) (getp S n) m))
set_option maxHeartbeats 4000000 in
theorem c_X1_takesPiece (l : Launch) (G : Gw) (M : Mg) (B : Hp) (S : Ms) (p : Int) (n : Int) (m : Int) (hM : MOk M) (hp0 : 0 ≤ p ∧ p < 11) (hp1 : 0 ≤ n ∧ n < 11) (hp2 : n ≠ p) (hp3 : tOk (getp S p)) (hp4 : tOk (getp S n)) (hp5 : 0 ≤ m ∧ m ≤ 1) : Mt l G yX1_takesPiece cX1_takesPiece 5 none 0 [.ref (M.1), iv (p), iv (n), iv (m)] (mh G M B S) (q_X1_takesPiece G M B S p n m) (0) (0) := by
  refine Mt.of (lv := [(0, .ref (M.1)), (1, iv (p)), (2, iv (n)), (3, iv (m))]) (by decide) (Nat.le_of_ble_eq_true rfl) rfl (fun X => ?_)
  obtain ⟨a1, a2, a3, a4⟩ := hp3
  obtain ⟨b1, b2, b3, b4⟩ := hp4
  dsimp only [getp] at a1 a2 a3 a4 b1 b2 b3 b4
  refine x_aload_n dX1_takesPiece_0 rfl ?_
  refine m_get_ways hM dX1_takesPiece_1 ?_
  refine x_iload_n dX1_takesPiece_4 rfl ?_
  refine x_aload_n dX1_takesPiece_5 rfl ?_
  refine m_get_ways hM dX1_takesPiece_6 ?_
  refine x_iload_n dX1_takesPiece_9 rfl ?_
  refine m_ald hM (N := 11) rfl (by omega) (by decide) dX1_takesPiece_10 ?_
  refine x_aload_n dX1_takesPiece_11 rfl ?_
  refine m_get_ways hM dX1_takesPiece_12 ?_
  refine x_iload_n dX1_takesPiece_15 rfl ?_
  refine m_ald hM (N := 11) rfl (by omega) (by decide) dX1_takesPiece_16 ?_
  refine x_iadd dX1_takesPiece_17 ?_
  refine x_ldc 1000000 q3176 dX1_takesPiece_18 rfl ?_
  refine x_irem dX1_takesPiece_20 (by omega) (by omega) ?_
  refine m_ast hM (N := 11) rfl (by omega) (by decide) dX1_takesPiece_21 ?_
  refine x_aload_n dX1_takesPiece_22 rfl ?_
  refine m_get_loose hM dX1_takesPiece_23 ?_
  refine x_iload_n dX1_takesPiece_26 rfl ?_
  refine m_ald hM (N := 11) rfl (by omega) (by decide) dX1_takesPiece_27 ?_
  refine x_iload_n dX1_takesPiece_28 rfl ?_
  refine x_iadd dX1_takesPiece_29 ?_
  refine x_istore (lv' := [(0, _), (1, _), (2, _), (3, _), (4, _)]) dX1_takesPiece_30 rfl (by decide) ?_
  refine x_iload dX1_takesPiece_32 rfl ?_
  refine x_aload_n dX1_takesPiece_34 rfl ?_
  refine m_get_loose hM dX1_takesPiece_35 ?_
  refine x_iload_n dX1_takesPiece_38 rfl ?_
  refine m_ald hM (N := 11) rfl (by omega) (by decide) dX1_takesPiece_39 ?_
  refine x_icmp_ge 66 dX1_takesPiece_40 rfl (by first | (simp [sa, hp2]; done) | (simp [sa, hp2]; omega)) (by first | (simp [sa, hp2]; done) | (simp [sa, hp2]; omega)) (fun c_40 => ?_) (fun c_40 => ?_)
  · have c1 : ¬ S.2 23 n + m < S.2 23 p := by have := c_40; simp [sa, hp2] at this; omega
    refine x_iload dX1_takesPiece_66 rfl ?_
    refine x_aload_n dX1_takesPiece_68 rfl ?_
    refine m_get_loose hM dX1_takesPiece_69 ?_
    refine x_iload_n dX1_takesPiece_72 rfl ?_
    refine m_ald hM (N := 11) rfl (by omega) (by decide) dX1_takesPiece_73 ?_
    refine x_icmp_ne 139 dX1_takesPiece_74 rfl (by first | (simp [sa, hp2]; done) | (simp [sa, hp2]; omega)) (by first | (simp [sa, hp2]; done) | (simp [sa, hp2]; omega)) (fun c_74 => ?_) (fun c_74 => ?_)
    · exact x_vret rfl ⟨rfl, congrArg (mh G M B) (by first | exact (tk_3 c1 c_74).symm | exact absurd (by simp [sa, hp2]) c_74)⟩ dX1_takesPiece_139
    · refine x_aload_n dX1_takesPiece_77 rfl ?_
      refine m_get_sizes hM dX1_takesPiece_78 ?_
      refine x_iload_n dX1_takesPiece_81 rfl ?_
      refine x_aload_n dX1_takesPiece_82 rfl ?_
      refine m_get_sizes hM dX1_takesPiece_83 ?_
      refine x_iload_n dX1_takesPiece_86 rfl ?_
      refine m_ald hM (N := 11) rfl (by omega) (by decide) dX1_takesPiece_87 ?_
      refine x_iconst dX1_takesPiece_88 ?_
      refine x_iadd dX1_takesPiece_89 ?_
      refine x_aload_n dX1_takesPiece_90 rfl ?_
      refine m_get_sizes hM dX1_takesPiece_91 ?_
      refine x_iload_n dX1_takesPiece_94 rfl ?_
      refine m_ald hM (N := 11) rfl (by omega) (by decide) dX1_takesPiece_95 ?_
      refine x_icmp_ge 110 dX1_takesPiece_96 rfl (by first | (simp [sa, hp2]; done) | (simp [sa, hp2]; omega)) (by first | (simp [sa, hp2]; done) | (simp [sa, hp2]; omega)) (fun c_96 => ?_) (fun c_96 => ?_)
      · refine x_aload_n dX1_takesPiece_110 rfl ?_
        refine m_get_sizes hM dX1_takesPiece_111 ?_
        refine x_iload_n dX1_takesPiece_114 rfl ?_
        refine m_ald hM (N := 11) rfl (by omega) (by decide) dX1_takesPiece_115 ?_
        refine m_ast hM (N := 11) rfl (by omega) (by decide) dX1_takesPiece_116 ?_
        refine x_aload_n dX1_takesPiece_117 rfl ?_
        refine m_get_looseWays hM dX1_takesPiece_118 ?_
        refine x_iload_n dX1_takesPiece_121 rfl ?_
        refine x_aload_n dX1_takesPiece_122 rfl ?_
        refine m_get_looseWays hM dX1_takesPiece_123 ?_
        refine x_iload_n dX1_takesPiece_126 rfl ?_
        refine m_ald hM (N := 11) rfl (by omega) (by decide) dX1_takesPiece_127 ?_
        refine x_aload_n dX1_takesPiece_128 rfl ?_
        refine m_get_looseWays hM dX1_takesPiece_129 ?_
        refine x_iload_n dX1_takesPiece_132 rfl ?_
        refine m_ald hM (N := 11) rfl (by omega) (by decide) dX1_takesPiece_133 ?_
        refine x_iadd dX1_takesPiece_134 ?_
        refine x_ldc 1000000 q3176 dX1_takesPiece_135 rfl ?_
        refine x_irem dX1_takesPiece_137 (by simp [sa, hp2]; omega) (by decide) ?_
        refine m_ast hM (N := 11) rfl (by omega) (by decide) dX1_takesPiece_138 ?_
        exact x_vret rfl ⟨rfl, congrArg (mh G M B) (by first | exact tk_1' (S := S) (p := p) (n := n) (m := m) c1 (by have c9 := c_96; simp [sa, hp2] at c9; simp only [sa, hp2]; simp; first | omega | (split <;> omega)) (by simp [sa, hp2]) | exact tk_2' (S := S) (p := p) (n := n) (m := m) c_74 (by have c9 := c_96; simp [sa, hp2] at c9; simp only [sa, hp2]; simp; first | omega | (split <;> omega)))⟩ dX1_takesPiece_139
      · refine x_aload_n dX1_takesPiece_99 rfl ?_
        refine m_get_sizes hM dX1_takesPiece_100 ?_
        refine x_iload_n dX1_takesPiece_103 rfl ?_
        refine m_ald hM (N := 11) rfl (by omega) (by decide) dX1_takesPiece_104 ?_
        refine x_iconst dX1_takesPiece_105 ?_
        refine x_iadd dX1_takesPiece_106 ?_
        refine x_goto 116 dX1_takesPiece_107 rfl ?_
        refine m_ast hM (N := 11) rfl (by omega) (by decide) dX1_takesPiece_116 ?_
        refine x_aload_n dX1_takesPiece_117 rfl ?_
        refine m_get_looseWays hM dX1_takesPiece_118 ?_
        refine x_iload_n dX1_takesPiece_121 rfl ?_
        refine x_aload_n dX1_takesPiece_122 rfl ?_
        refine m_get_looseWays hM dX1_takesPiece_123 ?_
        refine x_iload_n dX1_takesPiece_126 rfl ?_
        refine m_ald hM (N := 11) rfl (by omega) (by decide) dX1_takesPiece_127 ?_
        refine x_aload_n dX1_takesPiece_128 rfl ?_
        refine m_get_looseWays hM dX1_takesPiece_129 ?_
        refine x_iload_n dX1_takesPiece_132 rfl ?_
        refine m_ald hM (N := 11) rfl (by omega) (by decide) dX1_takesPiece_133 ?_
        refine x_iadd dX1_takesPiece_134 ?_
        refine x_ldc 1000000 q3176 dX1_takesPiece_135 rfl ?_
        refine x_irem dX1_takesPiece_137 (by simp [sa, hp2]; omega) (by decide) ?_
        refine m_ast hM (N := 11) rfl (by omega) (by decide) dX1_takesPiece_138 ?_
        exact x_vret rfl ⟨rfl, congrArg (mh G M B) (by first | exact tk_1' (S := S) (p := p) (n := n) (m := m) c1 (by have c9 := c_96; simp [sa, hp2] at c9; simp only [sa, hp2]; simp; first | omega | (split <;> omega)) (by simp [sa, hp2]) | exact tk_2' (S := S) (p := p) (n := n) (m := m) c_74 (by have c9 := c_96; simp [sa, hp2] at c9; simp only [sa, hp2]; simp; first | omega | (split <;> omega)))⟩ dX1_takesPiece_139
  · have c1 : S.2 23 n + m < S.2 23 p := by simpa [sa, hp2] using c_40
    refine x_aload_n dX1_takesPiece_43 rfl ?_
    refine m_get_loose hM dX1_takesPiece_44 ?_
    refine x_iload_n dX1_takesPiece_47 rfl ?_
    refine x_iload dX1_takesPiece_48 rfl ?_
    refine m_ast hM (N := 11) rfl (by omega) (by decide) dX1_takesPiece_50 ?_
    refine x_aload_n dX1_takesPiece_51 rfl ?_
    refine m_get_sizes hM dX1_takesPiece_52 ?_
    refine x_iload_n dX1_takesPiece_55 rfl ?_
    refine x_ldc 268435456 q3039 dX1_takesPiece_56 rfl ?_
    refine m_ast hM (N := 11) rfl (by omega) (by decide) dX1_takesPiece_58 ?_
    refine x_aload_n dX1_takesPiece_59 rfl ?_
    refine m_get_looseWays hM dX1_takesPiece_60 ?_
    refine x_iload_n dX1_takesPiece_63 rfl ?_
    refine x_iconst dX1_takesPiece_64 ?_
    refine m_ast hM (N := 11) rfl (by omega) (by decide) dX1_takesPiece_65 ?_
    refine x_iload dX1_takesPiece_66 rfl ?_
    refine x_aload_n dX1_takesPiece_68 rfl ?_
    refine m_get_loose hM dX1_takesPiece_69 ?_
    refine x_iload_n dX1_takesPiece_72 rfl ?_
    refine m_ald hM (N := 11) rfl (by omega) (by decide) dX1_takesPiece_73 ?_
    refine x_icmp_ne 139 dX1_takesPiece_74 rfl (by first | (simp [sa, hp2]; done) | (simp [sa, hp2]; omega)) (by first | (simp [sa, hp2]; done) | (simp [sa, hp2]; omega)) (fun c_74 => ?_) (fun c_74 => ?_)
    · exact x_vret rfl ⟨rfl, congrArg (mh G M B) (by first | exact (tk_3 c1 c_74).symm | exact absurd (by simp [sa, hp2]) c_74)⟩ dX1_takesPiece_139
    · refine x_aload_n dX1_takesPiece_77 rfl ?_
      refine m_get_sizes hM dX1_takesPiece_78 ?_
      refine x_iload_n dX1_takesPiece_81 rfl ?_
      refine x_aload_n dX1_takesPiece_82 rfl ?_
      refine m_get_sizes hM dX1_takesPiece_83 ?_
      refine x_iload_n dX1_takesPiece_86 rfl ?_
      refine m_ald hM (N := 11) rfl (by omega) (by decide) dX1_takesPiece_87 ?_
      refine x_iconst dX1_takesPiece_88 ?_
      refine x_iadd dX1_takesPiece_89 ?_
      refine x_aload_n dX1_takesPiece_90 rfl ?_
      refine m_get_sizes hM dX1_takesPiece_91 ?_
      refine x_iload_n dX1_takesPiece_94 rfl ?_
      refine m_ald hM (N := 11) rfl (by omega) (by decide) dX1_takesPiece_95 ?_
      refine x_icmp_ge 110 dX1_takesPiece_96 rfl (by first | (simp [sa, hp2]; done) | (simp [sa, hp2]; omega)) (by first | (simp [sa, hp2]; done) | (simp [sa, hp2]; omega)) (fun c_96 => ?_) (fun c_96 => ?_)
      · refine x_aload_n dX1_takesPiece_110 rfl ?_
        refine m_get_sizes hM dX1_takesPiece_111 ?_
        refine x_iload_n dX1_takesPiece_114 rfl ?_
        refine m_ald hM (N := 11) rfl (by omega) (by decide) dX1_takesPiece_115 ?_
        refine m_ast hM (N := 11) rfl (by omega) (by decide) dX1_takesPiece_116 ?_
        refine x_aload_n dX1_takesPiece_117 rfl ?_
        refine m_get_looseWays hM dX1_takesPiece_118 ?_
        refine x_iload_n dX1_takesPiece_121 rfl ?_
        refine x_aload_n dX1_takesPiece_122 rfl ?_
        refine m_get_looseWays hM dX1_takesPiece_123 ?_
        refine x_iload_n dX1_takesPiece_126 rfl ?_
        refine m_ald hM (N := 11) rfl (by omega) (by decide) dX1_takesPiece_127 ?_
        refine x_aload_n dX1_takesPiece_128 rfl ?_
        refine m_get_looseWays hM dX1_takesPiece_129 ?_
        refine x_iload_n dX1_takesPiece_132 rfl ?_
        refine m_ald hM (N := 11) rfl (by omega) (by decide) dX1_takesPiece_133 ?_
        refine x_iadd dX1_takesPiece_134 ?_
        refine x_ldc 1000000 q3176 dX1_takesPiece_135 rfl ?_
        refine x_irem dX1_takesPiece_137 (by simp [sa, hp2]; omega) (by decide) ?_
        refine m_ast hM (N := 11) rfl (by omega) (by decide) dX1_takesPiece_138 ?_
        exact x_vret rfl ⟨rfl, congrArg (mh G M B) (by first | exact tk_1' (S := S) (p := p) (n := n) (m := m) c1 (by have c9 := c_96; simp [sa, hp2] at c9; simp only [sa, hp2]; simp; first | omega | (split <;> omega)) (by simp [sa, hp2]) | exact tk_2' (S := S) (p := p) (n := n) (m := m) c_74 (by have c9 := c_96; simp [sa, hp2] at c9; simp only [sa, hp2]; simp; first | omega | (split <;> omega)))⟩ dX1_takesPiece_139
      · refine x_aload_n dX1_takesPiece_99 rfl ?_
        refine m_get_sizes hM dX1_takesPiece_100 ?_
        refine x_iload_n dX1_takesPiece_103 rfl ?_
        refine m_ald hM (N := 11) rfl (by omega) (by decide) dX1_takesPiece_104 ?_
        refine x_iconst dX1_takesPiece_105 ?_
        refine x_iadd dX1_takesPiece_106 ?_
        refine x_goto 116 dX1_takesPiece_107 rfl ?_
        refine m_ast hM (N := 11) rfl (by omega) (by decide) dX1_takesPiece_116 ?_
        refine x_aload_n dX1_takesPiece_117 rfl ?_
        refine m_get_looseWays hM dX1_takesPiece_118 ?_
        refine x_iload_n dX1_takesPiece_121 rfl ?_
        refine x_aload_n dX1_takesPiece_122 rfl ?_
        refine m_get_looseWays hM dX1_takesPiece_123 ?_
        refine x_iload_n dX1_takesPiece_126 rfl ?_
        refine m_ald hM (N := 11) rfl (by omega) (by decide) dX1_takesPiece_127 ?_
        refine x_aload_n dX1_takesPiece_128 rfl ?_
        refine m_get_looseWays hM dX1_takesPiece_129 ?_
        refine x_iload_n dX1_takesPiece_132 rfl ?_
        refine m_ald hM (N := 11) rfl (by omega) (by decide) dX1_takesPiece_133 ?_
        refine x_iadd dX1_takesPiece_134 ?_
        refine x_ldc 1000000 q3176 dX1_takesPiece_135 rfl ?_
        refine x_irem dX1_takesPiece_137 (by simp [sa, hp2]; omega) (by decide) ?_
        refine m_ast hM (N := 11) rfl (by omega) (by decide) dX1_takesPiece_138 ?_
        exact x_vret rfl ⟨rfl, congrArg (mh G M B) (by first | exact tk_1' (S := S) (p := p) (n := n) (m := m) c1 (by have c9 := c_96; simp [sa, hp2] at c9; simp only [sa, hp2]; simp; first | omega | (split <;> omega)) (by simp [sa, hp2]) | exact tk_2' (S := S) (p := p) (n := n) (m := m) c_74 (by have c9 := c_96; simp [sa, hp2] at c9; simp only [sa, hp2]; simp; first | omega | (split <;> omega)))⟩ dX1_takesPiece_139
theorem k_X1_takesPiece {G : Gw} {X : Cx} {cc : ByteArray} {nL : Nat} {y : MethodName} {ret : Option FieldType} {dp : Nat} {P : Option Value → Hp → Prop} {mc ms pc : Nat} {lv : List (Nat × Value)} {st : List Value} {kc ks : Nat} {M : Mg} {B : Hp} {S : Ms} {p : Int} {n : Int} {m : Int} (hM : MOk M) (hd : decode cc pc = .ok (.invokevirtual 209, 3)) (hp0 : 0 ≤ p ∧ p < 11) (hp1 : 0 ≤ n ∧ n < 11) (hp2 : n ≠ p) (hp3 : tOk (getp S p)) (hp4 : tOk (getp S n)) (hp5 : 0 ≤ m ∧ m ≤ 1) (kk : V G X cc nL y ret dp P mc ms (pc + 3) lv (st) (mh G M B (setp S p (tkp (getp S p) (getp S n) m))) kc ks) (hy : y.cls = RX1 := by rfl) (hdp : 0 + 1 ≤ dp := by decide) (hrs : (st.map fun v => v.category).sum ≤ 8 := by first | decide | (simp [Value.category, iv, jv]; done)) : V G X cc nL y ret dp P mc ms pc lv (iv (m) :: iv (n) :: iv (p) :: .ref M.1 :: st) (mh G M B S) kc ks := by
  refine x_callV (ci := 1) (T := TX1) (N := 33) (As := [iv (p), iv (n), iv (m)]) 3 (fun l => c_X1_takesPiece l G M B S p n m hM hp0 hp1 hp2 hp3 hp4 hp5) (by rw [hy]; exact q3172) q3174 qs116 q173 q3175 (by decide +kernel) hdp (by decide) (mh_o hM) rfl rfl rfl hrs hd (Nat.zero_le _) (Nat.zero_le _) (fun v h hv => ?_)
  obtain ⟨rfl, rfl⟩ := hv
  exact kk
