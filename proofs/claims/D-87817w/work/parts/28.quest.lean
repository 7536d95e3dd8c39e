set_option maxRecDepth 100000
def bitsQ (Q : JQ) : Nat → Int32
  | 0 => nI 0
  | p + 1 => if qk Q p = 0 then bitsQ Q p ||| nmF (qm Q p) (ql Q p) else bitsQ Q p
def alW (T : JT) (Q : JQ) : Nat → Bool
  | 0 => true
  | p + 1 => alW T Q p && whP T Q p
def stB (T : JT) (Q : JQ) : Bool := alW T Q (qp Q) && decide (bitsQ Q (qp Q) = (nI 1 <<< (nI (qn Q) &&& 31)) - nI 1)
/-- places of a has or not are three at most -/
theorem wPt_l3 {T : JT} {Q : JQ} {p : Nat} (hT : wT T) (hw : wPt T Q p) : qk Q p ≤ 1 → ql Q p ≤ 3 := fun h => by
  obtain ⟨h8, -, h3⟩ := hw.2.1 h
  have := (hT _ h8).1
  omega
theorem lp_X6_stands {Γ : JC} {l : Launch} {z : JZ} {T : JT} {Q : JQ} (C : jOk Γ l (jrm 2 0 0) cX6_stands "JoinLoom$Question" (some FieldType.boolean) 4) (hQ : jRt Γ (jRi (jb (stB T Q)) z) 0 0 "stands") (hT : wT T) (hw : wQ T Q) (hq : sQn z T Q) :
    ∀ (m k : Nat), k + m = qp Q → jG Γ 0 0 z 6 [(0, .ref (zA z (24, 0))), (1, .int (bitsQ Q k)), (2, .int (jb (alW T Q k))), (3, .int (nI k))] [] := by
  obtain ⟨a24, a25, a26, hn, hp, hh, hor, hpt, htb⟩ := hq
  obtain ⟨w1, w2, w3, w4, w5, w6⟩ := hw
  intro m
  induction m with
  | zero =>
    intro k hk
    have e : k = qp Q := by omega
    subst e
    refine g_iload_n C dX6_stands_6 rfl rfl ?_
    refine g_aload_n C dX6_stands_7 rfl rfl ?_
    refine f_X6_many C a24 (Or.inl q334) (Or.inl rfl) dX6_stands_8 ?_
    refine g_top (hp) ?_
    first | refine g_icmp_ge_n (tgt := 66) C dX6_stands_11 (by decide) (by omega) (by omega) (fun c11 => ?_) (fun c11 => ?_) | refine g_icmp_ge (tgt := 66) C dX6_stands_11 (by decide) (fun c11 => ?_) (fun c11 => ?_)
    · refine g_iload_n C dX6_stands_66 rfl rfl ?_
      refine g_if_eq_b (tgt := 86) C dX6_stands_67 (by decide) (fun c67 => ?_) (fun c67 => ?_)
      · refine g_iconst (v := nI 0) C dX6_stands_86 (by decide) ?_
        exact g_ireturn C hQ rfl (by omega) (by omega) dX6_stands_87 (by first | exact ⟨by rw [stB, c67]; rfl, rfl⟩ | exact ⟨by rw [stB, c67, decide_eq_true c79]; rfl, rfl⟩ | exact ⟨by rw [stB, c67, decide_eq_false c79]; rfl, rfl⟩)
      · refine g_iload_n C dX6_stands_70 rfl rfl ?_
        refine g_iconst (v := nI 1) C dX6_stands_71 (by decide) ?_
        refine g_aload_n C dX6_stands_72 rfl rfl ?_
        refine f_X6_names C a24 (Or.inl q327) (Or.inl rfl) dX6_stands_73 ?_
        refine g_top (hn) ?_
        refine g_ishl C dX6_stands_76 ?_
        refine g_iconst (v := nI 1) C dX6_stands_77 (by decide) ?_
        first | refine g_isub_n C dX6_stands_78 (by omega) ?_ | refine g_isub C dX6_stands_78 ?_
        refine g_icmp_ne (tgt := 86) C dX6_stands_79 (by decide) (fun c79 => ?_) (fun c79 => ?_)
        · refine g_iconst (v := nI 0) C dX6_stands_86 (by decide) ?_
          exact g_ireturn C hQ rfl (by omega) (by omega) dX6_stands_87 (by first | exact ⟨by rw [stB, c67]; rfl, rfl⟩ | exact ⟨by rw [stB, c67, decide_eq_true c79]; rfl, rfl⟩ | exact ⟨by rw [stB, c67, decide_eq_false c79]; rfl, rfl⟩)
        · refine g_iconst (v := nI 1) C dX6_stands_82 (by decide) ?_
          refine g_goto (tgt := 87) C dX6_stands_83 (by decide) ?_
          exact g_ireturn C hQ rfl (by omega) (by omega) dX6_stands_87 (by first | exact ⟨by rw [stB, c67]; rfl, rfl⟩ | exact ⟨by rw [stB, c67, decide_eq_true c79]; rfl, rfl⟩ | exact ⟨by rw [stB, c67, decide_eq_false c79]; rfl, rfl⟩)
    · omega
  | succ m ih =>
    intro k hk
    have hk2 : k < qp Q := by omega
    have hs := hpt k hk2
    have hwk := w3 k hk2
    have hk3 := hwk.1
    have J : ∀ x : Int32, x = jb (alW T Q (k + 1)) → jG Γ 0 0 z 36 [(0, .ref (zA z (24, 0))), (1, .int (bitsQ Q k)), (2, .int x), (3, .int (nI k))] [] := by
      intro x hx
      subst hx
      refine g_aload_n C dX6_stands_36 rfl rfl ?_
      refine f_X6_parts C a24 (Or.inl q330) (Or.inl rfl) dX6_stands_37 ?_
      refine g_iload_n C dX6_stands_40 rfl rfl ?_
      refine g_aald (n := 10) C rfl (by decide) a25 rfl (by omega) (by decide) dX6_stands_41 ?_
      refine g_topR (hs.1) ?_
      refine f_P_kind (qTag_or _) C hs.2.1 (Or.inl q381) (Or.inl rfl) dX6_stands_42 ?_
      refine g_top (hs.2.2.1) ?_
      refine g_if_ne_n (tgt := 60) C dX6_stands_45 (by decide) (by omega) (fun c45 => ?_) (fun c45 => ?_)
      · refine g_iinc1 (lv' := [(0, _), (1, _), (2, _), (3, _)]) C dX6_stands_60 rfl (by decide) rfl ?_
        refine g_goto (tgt := 6) C dX6_stands_63 (by decide) ?_
        have h9 := ih (k + 1) (by omega)
        first | (rw [bitsQ, if_neg c45] at h9; exact h9) | (rw [bitsQ, if_pos c45] at h9; exact h9)
      · refine g_iload_n C dX6_stands_48 rfl rfl ?_
        refine g_aload_n C dX6_stands_49 rfl rfl ?_
        refine f_X6_parts C a24 (Or.inl q330) (Or.inl rfl) dX6_stands_50 ?_
        refine g_iload_n C dX6_stands_53 rfl rfl ?_
        refine g_aald (n := 10) C rfl (by decide) a25 rfl (by omega) (by decide) dX6_stands_54 ?_
        refine g_topR (hs.1) ?_
        refine g_pnames (T := T) C w1 hwk hs (wPt_l3 hT hwk) q490 (Nat.le_of_ble_eq_true rfl) dX6_stands_55 (by decide) ?_
        refine g_ior C dX6_stands_58 ?_
        refine g_istore_n (lv' := [(0, _), (1, _), (2, _), (3, _)]) C dX6_stands_59 rfl (by decide) rfl ?_
        refine g_iinc1 (lv' := [(0, _), (1, _), (2, _), (3, _)]) C dX6_stands_60 rfl (by decide) rfl ?_
        refine g_goto (tgt := 6) C dX6_stands_63 (by decide) ?_
        have h9 := ih (k + 1) (by omega)
        first | (rw [bitsQ, if_neg c45] at h9; exact h9) | (rw [bitsQ, if_pos c45] at h9; exact h9)
    refine g_iload_n C dX6_stands_6 rfl rfl ?_
    refine g_aload_n C dX6_stands_7 rfl rfl ?_
    refine f_X6_many C a24 (Or.inl q334) (Or.inl rfl) dX6_stands_8 ?_
    refine g_top (hp) ?_
    first | refine g_icmp_ge_n (tgt := 66) C dX6_stands_11 (by decide) (by omega) (by omega) (fun c11 => ?_) (fun c11 => ?_) | refine g_icmp_ge (tgt := 66) C dX6_stands_11 (by decide) (fun c11 => ?_) (fun c11 => ?_)
    · omega
    · refine g_iload_n C dX6_stands_14 rfl rfl ?_
      refine g_if_eq_b (tgt := 34) C dX6_stands_15 (by decide) (fun c15 => ?_) (fun c15 => ?_)
      · refine g_iconst (v := nI 0) C dX6_stands_34 (by decide) ?_
        refine g_istore_n (lv' := [(0, _), (1, _), (2, _), (3, _)]) C dX6_stands_35 rfl (by decide) rfl ?_
        first | exact J _ (by rw [alW, c15]; rfl) | exact J _ (by rw [alW, c15, c27]; rfl)
      · refine g_aload_n C dX6_stands_18 rfl rfl ?_
        refine f_X6_parts C a24 (Or.inl q330) (Or.inl rfl) dX6_stands_19 ?_
        refine g_iload_n C dX6_stands_22 rfl rfl ?_
        refine g_aald (n := 10) C rfl (by decide) a25 rfl (by omega) (by decide) dX6_stands_23 ?_
        refine g_topR (hs.1) ?_
        refine g_pwhole (T := T) C hwk hs hT (htb k hk2) q480 (Nat.le_of_ble_eq_true rfl) dX6_stands_24 (by decide) ?_
        refine g_if_eq_b (tgt := 34) C dX6_stands_27 (by decide) (fun c27 => ?_) (fun c27 => ?_)
        · refine g_iconst (v := nI 0) C dX6_stands_34 (by decide) ?_
          refine g_istore_n (lv' := [(0, _), (1, _), (2, _), (3, _)]) C dX6_stands_35 rfl (by decide) rfl ?_
          first | exact J _ (by rw [alW, c15]; rfl) | exact J _ (by rw [alW, c15, c27]; rfl)
        · refine g_iconst (v := nI 1) C dX6_stands_30 (by decide) ?_
          refine g_goto (tgt := 35) C dX6_stands_31 (by decide) ?_
          refine g_istore_n (lv' := [(0, _), (1, _), (2, _), (3, _)]) C dX6_stands_35 rfl (by decide) rfl ?_
          first | exact J _ (by rw [alW, c15]; rfl) | exact J _ (by rw [alW, c15, c27]; rfl)
theorem m_X6_stands (l : Launch) (z : JZ) (T : JT) (Q : JQ) (hT : wT T) (hw : wQ T Q) (hq : sQn z T Q) : jCt l yX6_stands cX6_stands 4 (some FieldType.boolean) 2 0 0 [.ref (zA z (24, 0))] z (jRi (jb (stB T Q)) z) := by
  refine (jCt.of "JoinLoom$Question" "stands" [(0, _)] rfl rfl (by decide) (Nat.le_of_ble_eq_true rfl) rfl (fun Γ C hQ => ?_))
  refine g_iconst (v := nI 0) C dX6_stands_0 (by decide) ?_
  refine g_istore_n (lv' := [(0, _), (1, _)]) C dX6_stands_1 rfl (by decide) rfl ?_
  refine g_iconst (v := nI 1) C dX6_stands_2 (by decide) ?_
  refine g_istore_n (lv' := [(0, _), (1, _), (2, _)]) C dX6_stands_3 rfl (by decide) rfl ?_
  refine g_iconst (v := nI 0) C dX6_stands_4 (by decide) ?_
  refine g_istore_n (lv' := [(0, _), (1, _), (2, _), (3, _)]) C dX6_stands_5 rfl (by decide) rfl ?_
  exact lp_X6_stands C hQ hT hw hq (qp Q) 0 (by omega)
def ofB (Q : JQ) (t : Nat) : Nat → Bool := anyF (fun p => decide (qk Q p ≤ 1) && decide (qt Q p = t))
theorem lp_X6_isOf {Γ : JC} {l : Launch} {z : JZ} {T : JT} {Q : JQ} {t : Nat} (C : jOk Γ l (jrm 1 0 0) cX6_isOf "JoinLoom$Question" (some FieldType.boolean) 4) (hQ : jRt Γ (jRi (jb (ofB Q t (qp Q))) z) 0 0 "isOf") (ht : t < 8) (hw : wQ T Q) (hq : sQn z T Q) :
    ∀ (m k : Nat), k + m = qp Q → jG Γ 0 0 z 4 [(0, .ref (zA z (24, 0))), (1, .int (nI t)), (2, .int (jb (ofB Q t k))), (3, .int (nI k))] [] := by
  obtain ⟨a24, a25, a26, hn, hp, hh, hor, hpt, htb⟩ := hq
  obtain ⟨w1, w2, w3, w4, w5, w6⟩ := hw
  intro m
  induction m with
  | zero =>
    intro k hk
    have e : k = qp Q := by omega
    subst e
    refine g_iload_n C dX6_isOf_4 rfl rfl ?_
    refine g_aload_n C dX6_isOf_5 rfl rfl ?_
    refine f_X6_many C a24 (Or.inl q334) (Or.inl rfl) dX6_isOf_6 ?_
    refine g_top (hp) ?_
    first | refine g_icmp_ge_n (tgt := 56) C dX6_isOf_9 (by decide) (by omega) (by omega) (fun c9 => ?_) (fun c9 => ?_) | refine g_icmp_ge (tgt := 56) C dX6_isOf_9 (by decide) (fun c9 => ?_) (fun c9 => ?_)
    · refine g_iload_n C dX6_isOf_56 rfl rfl ?_
      exact g_ireturn C hQ (jb_nar _) (by omega) (by omega) dX6_isOf_57 (⟨rfl, rfl⟩)
    · omega
  | succ m ih =>
    intro k hk
    have hk2 : k < qp Q := by omega
    have hs := hpt k hk2
    have hwk := w3 k hk2
    have hk3 := hwk.1
    have J : ∀ x : Int32, x = jb (ofB Q t (k + 1)) → jG Γ 0 0 z 50 [(0, .ref (zA z (24, 0))), (1, .int (nI t)), (2, .int x), (3, .int (nI k))] [] := by
      intro x hx
      subst hx
      first | refine g_iinc1 (lv' := [(0, _), (1, _), (2, _), (3, _)]) C dX6_isOf_50 rfl (by decide) rfl ?_ | refine g_iinc (lv' := [(0, _), (1, _), (2, _), (3, _)]) C dX6_isOf_50 rfl rfl (by decide) rfl ?_
      refine g_goto (tgt := 4) C dX6_isOf_53 (by decide) ?_
      exact ih (k + 1) (by omega)
    refine g_iload_n C dX6_isOf_4 rfl rfl ?_
    refine g_aload_n C dX6_isOf_5 rfl rfl ?_
    refine f_X6_many C a24 (Or.inl q334) (Or.inl rfl) dX6_isOf_6 ?_
    refine g_top (hp) ?_
    first | refine g_icmp_ge_n (tgt := 56) C dX6_isOf_9 (by decide) (by omega) (by omega) (fun c9 => ?_) (fun c9 => ?_) | refine g_icmp_ge (tgt := 56) C dX6_isOf_9 (by decide) (fun c9 => ?_) (fun c9 => ?_)
    · omega
    · refine g_iload_n C dX6_isOf_12 rfl rfl ?_
      refine g_if_ne_b (tgt := 44) C dX6_isOf_13 (by decide) (fun c13 => ?_) (fun c13 => ?_)
      · refine g_iconst (v := nI 1) C dX6_isOf_44 (by decide) ?_
        refine g_goto (tgt := 49) C dX6_isOf_45 (by decide) ?_
        refine g_istore_n (lv' := [(0, _), (1, _), (2, _), (3, _)]) C dX6_isOf_49 rfl (by decide) rfl ?_
        first | exact J _ (by unfold ofB at c13 ⊢; rw [anyF, c13]; rfl) | exact J _ (by unfold ofB at c13 ⊢; rw [anyF, c13, c25]; rfl) | exact J _ (by unfold ofB at c13 ⊢; rw [anyF, c13, c25, decide_eq_true c41]; rfl) | exact J _ (by unfold ofB at c13 ⊢; rw [anyF, c13, c25, decide_eq_false c41]; rfl)
      · refine g_aload_n C dX6_isOf_16 rfl rfl ?_
        refine f_X6_parts C a24 (Or.inl q330) (Or.inl rfl) dX6_isOf_17 ?_
        refine g_iload_n C dX6_isOf_20 rfl rfl ?_
        refine g_aald (n := 10) C rfl (by decide) a25 rfl (by omega) (by decide) dX6_isOf_21 ?_
        refine g_topR (hs.1) ?_
        refine g_pinst C hwk hs q240 dX6_isOf_22 ?_
        refine g_if_eq_b (tgt := 48) C dX6_isOf_25 (by decide) (fun c25 => ?_) (fun c25 => ?_)
        · refine g_iconst (v := nI 0) C dX6_isOf_48 (by decide) ?_
          refine g_istore_n (lv' := [(0, _), (1, _), (2, _), (3, _)]) C dX6_isOf_49 rfl (by decide) rfl ?_
          first | exact J _ (by unfold ofB at c13 ⊢; rw [anyF, c13]; rfl) | exact J _ (by unfold ofB at c13 ⊢; rw [anyF, c13, c25]; rfl) | exact J _ (by unfold ofB at c13 ⊢; rw [anyF, c13, c25, decide_eq_true c41]; rfl) | exact J _ (by unfold ofB at c13 ⊢; rw [anyF, c13, c25, decide_eq_false c41]; rfl)
        · refine g_aload_n C dX6_isOf_28 rfl rfl ?_
          refine f_X6_parts C a24 (Or.inl q330) (Or.inl rfl) dX6_isOf_29 ?_
          refine g_iload_n C dX6_isOf_32 rfl rfl ?_
          refine g_aald (n := 10) C rfl (by decide) a25 rfl (by omega) (by decide) dX6_isOf_33 ?_
          refine g_topR (hs.1) ?_
          refine g_pcast C hs (of_decide_eq_true c25) q240 dX6_isOf_34 ?_
          have htn := (hs.2.2.2.1 (of_decide_eq_true c25)).2.2.2.1
          have h8 := (hwk.2.1 (of_decide_eq_true c25)).1
          refine f_H_tableNumber (qTag_le (of_decide_eq_true c25)) C hs.2.1 (Or.inl q369) (Or.inl rfl) dX6_isOf_37 ?_
          refine g_top (htn) ?_
          refine g_iload_n C dX6_isOf_40 rfl rfl ?_
          refine g_icmp_ne_n (tgt := 48) C dX6_isOf_41 (by decide) (by omega) (by omega) (fun c41 => ?_) (fun c41 => ?_)
          · refine g_iconst (v := nI 0) C dX6_isOf_48 (by decide) ?_
            refine g_istore_n (lv' := [(0, _), (1, _), (2, _), (3, _)]) C dX6_isOf_49 rfl (by decide) rfl ?_
            first | exact J _ (by unfold ofB at c13 ⊢; rw [anyF, c13]; rfl) | exact J _ (by unfold ofB at c13 ⊢; rw [anyF, c13, c25]; rfl) | exact J _ (by unfold ofB at c13 ⊢; rw [anyF, c13, c25, decide_eq_true c41]; rfl) | exact J _ (by unfold ofB at c13 ⊢; rw [anyF, c13, c25, decide_eq_false c41]; rfl)
          · refine g_iconst (v := nI 1) C dX6_isOf_44 (by decide) ?_
            refine g_goto (tgt := 49) C dX6_isOf_45 (by decide) ?_
            refine g_istore_n (lv' := [(0, _), (1, _), (2, _), (3, _)]) C dX6_isOf_49 rfl (by decide) rfl ?_
            first | exact J _ (by unfold ofB at c13 ⊢; rw [anyF, c13]; rfl) | exact J _ (by unfold ofB at c13 ⊢; rw [anyF, c13, c25]; rfl) | exact J _ (by unfold ofB at c13 ⊢; rw [anyF, c13, c25, decide_eq_true c41]; rfl) | exact J _ (by unfold ofB at c13 ⊢; rw [anyF, c13, c25, decide_eq_false c41]; rfl)
theorem m_X6_isOf (l : Launch) (z : JZ) (T : JT) (Q : JQ) (t : Nat) (ht : t < 8) (hw : wQ T Q) (hq : sQn z T Q) : jCt l yX6_isOf cX6_isOf 4 (some FieldType.boolean) 1 0 0 [.ref (zA z (24, 0)), .int (nI t)] z (jRi (jb (ofB Q t (qp Q))) z) := by
  refine (jCt.of "JoinLoom$Question" "isOf" [(0, _), (1, _)] rfl rfl (by decide) (Nat.le_of_ble_eq_true rfl) rfl (fun Γ C hQ => ?_))
  refine g_iconst (v := nI 0) C dX6_isOf_0 (by decide) ?_
  refine g_istore_n (lv' := [(0, _), (1, _), (2, _)]) C dX6_isOf_1 rfl (by decide) rfl ?_
  refine g_iconst (v := nI 0) C dX6_isOf_2 (by decide) ?_
  refine g_istore_n (lv' := [(0, _), (1, _), (2, _), (3, _)]) C dX6_isOf_3 rfl (by decide) rfl ?_
  exact lp_X6_isOf C hQ ht hw hq (qp Q) 0 (by omega)
def lastO (z : JZ) (Q : JQ) : Option Nat := if 0 < qp Q ∧ qk Q (qp Q - 1) ≤ 1 then some (zA z (qTag (qk Q (qp Q - 1)), qp Q - 1)) else none
theorem m_X6_last (l : Launch) (z : JZ) (T : JT) (Q : JQ) (hw : wQ T Q) (hq : sQn z T Q) : jCt l yX6_last cX6_last 1 (some (FieldType.object "JoinLoom$Has")) 1 0 0 [.ref (zA z (24, 0))] z (jRr (lastO z Q) z) := by
  obtain ⟨a24, a25, a26, hn, hp, hh, hor, hpt, htb⟩ := hq
  obtain ⟨w1, w2, w3, w4, w5, w6⟩ := hw
  refine (jCt.of "JoinLoom$Question" "last" [(0, _)] rfl rfl (by decide) (Nat.le_of_ble_eq_true rfl) rfl (fun Γ C hQ => ?_))
  refine g_aload_n C dX6_last_0 rfl rfl ?_
  refine f_X6_many C a24 (Or.inl q334) (Or.inl rfl) dX6_last_1 ?_
  refine g_top (hp) ?_
  refine g_if_le_n (tgt := 41) C dX6_last_4 (by decide) (by omega) (fun c4 => ?_) (fun c4 => ?_)
  · refine g_null C dX6_last_41 ?_
    exact g_areturn C hQ (Or.inl rfl) (by omega) (by omega) dX6_last_42 (by first | exact ⟨by rw [lastO, if_pos ⟨c4, of_decide_eq_true c21⟩]; rfl, rfl⟩ | exact ⟨by rw [lastO, if_neg (fun e => of_decide_eq_false c21 e.2)]; rfl, rfl⟩ | exact ⟨by rw [lastO, if_neg (fun e => by omega)]; rfl, rfl⟩)
  · have hs := hpt (qp Q - 1) (by omega)
    have hwk := w3 (qp Q - 1) (by omega)
    refine g_aload_n C dX6_last_7 rfl rfl ?_
    refine f_X6_parts C a24 (Or.inl q330) (Or.inl rfl) dX6_last_8 ?_
    refine g_aload_n C dX6_last_11 rfl rfl ?_
    refine f_X6_many C a24 (Or.inl q334) (Or.inl rfl) dX6_last_12 ?_
    refine g_top (hp) ?_
    refine g_iconst (v := nI 1) C dX6_last_15 (by decide) ?_
    first | refine g_isub_n C dX6_last_16 (by omega) ?_ | refine g_isub C dX6_last_16 ?_
    refine g_aald (n := 10) C rfl (by decide) a25 rfl (by omega) (by decide) dX6_last_17 ?_
    refine g_topR (hs.1) ?_
    refine g_pinst C hwk hs q240 dX6_last_18 ?_
    refine g_if_eq_b (tgt := 41) C dX6_last_21 (by decide) (fun c21 => ?_) (fun c21 => ?_)
    · refine g_null C dX6_last_41 ?_
      exact g_areturn C hQ (Or.inl rfl) (by omega) (by omega) dX6_last_42 (by first | exact ⟨by rw [lastO, if_pos ⟨c4, of_decide_eq_true c21⟩]; rfl, rfl⟩ | exact ⟨by rw [lastO, if_neg (fun e => of_decide_eq_false c21 e.2)]; rfl, rfl⟩ | exact ⟨by rw [lastO, if_neg (fun e => by omega)]; rfl, rfl⟩)
    · refine g_aload_n C dX6_last_24 rfl rfl ?_
      refine f_X6_parts C a24 (Or.inl q330) (Or.inl rfl) dX6_last_25 ?_
      refine g_aload_n C dX6_last_28 rfl rfl ?_
      refine f_X6_many C a24 (Or.inl q334) (Or.inl rfl) dX6_last_29 ?_
      refine g_top (hp) ?_
      refine g_iconst (v := nI 1) C dX6_last_32 (by decide) ?_
      first | refine g_isub_n C dX6_last_33 (by omega) ?_ | refine g_isub C dX6_last_33 ?_
      refine g_aald (n := 10) C rfl (by decide) a25 rfl (by omega) (by decide) dX6_last_34 ?_
      refine g_topR (hs.1) ?_
      refine g_pcast C hs (of_decide_eq_true c21) q240 dX6_last_35 ?_
      refine g_goto (tgt := 42) C dX6_last_38 (by decide) ?_
      exact g_areturn C hQ (Or.inr ⟨_, rfl⟩) (by omega) (by omega) dX6_last_42 (by first | exact ⟨by rw [lastO, if_pos ⟨c4, of_decide_eq_true c21⟩]; rfl, rfl⟩ | exact ⟨by rw [lastO, if_neg (fun e => of_decide_eq_false c21 e.2)]; rfl, rfl⟩ | exact ⟨by rw [lastO, if_neg (fun e => by omega)]; rfl, rfl⟩)
theorem m_X6_adds (l : Launch) (z : JZ) (n t1 j1 : Nat) (ht : t1 = 29 ∨ t1 = 32 ∨ t1 = 35 ∨ t1 = 36) (h1 : zL z (t1, j1) = true) (a24 : zL z (24, 0) = true) (a25 : zL z (25, 0) = true) (hp : zM z (24, 0) 2 = nI n) (hn : n < 10) : jCt l yX6_adds cX6_adds 2 (none) 1 0 0 [.ref (zA z (24, 0)), .ref (zA z (t1, j1))] z (jRv (sM (sR z (25, 0) n (some (zA z (t1, j1)))) (24, 0) 2 (nI (n + 1)))) := by
  rcases ht with rfl | rfl | rfl | rfl
  · refine (jCt.of "JoinLoom$Question" "adds" [(0, _), (1, _)] rfl rfl (by decide) (Nat.le_of_ble_eq_true rfl) rfl (fun Γ C hQ => ?_))
    refine g_aload_n C dX6_adds_0 rfl rfl ?_
    refine f_X6_parts C a24 (Or.inl q330) (Or.inl rfl) dX6_adds_1 ?_
    refine g_aload_n C dX6_adds_4 rfl rfl ?_
    refine f_X6_many C a24 (Or.inl q334) (Or.inl rfl) dX6_adds_5 ?_
    refine g_top (hp) ?_
    refine g_aload_n C dX6_adds_8 rfl rfl ?_
    refine g_aast (n := 10) C rfl (by decide) (fun _ => rfl) a25 rfl (by omega) (by decide) h1 rfl rfl (Or.inr nq1111) dX6_adds_9 ?_
    refine g_aload_n C dX6_adds_10 rfl rfl ?_
    refine g_dup C dX6_adds_11 rfl ?_
    refine f_X6_many C a24 (Or.inl q334) (Or.inl rfl) dX6_adds_12 ?_
    refine g_top (hp) ?_
    refine g_iconst (v := nI 1) C dX6_adds_15 (by decide) ?_
    first | refine g_iadd_n C dX6_adds_16 ?_ | refine g_iadd C dX6_adds_16 ?_
    refine p_X6_many C hQ a24 (Or.inl q334) (Or.inl rfl) dX6_adds_17 ?_
    exact g_vreturn C hQ (by omega) (by omega) dX6_adds_20 (⟨rfl, rfl⟩)
  · refine (jCt.of "JoinLoom$Question" "adds" [(0, _), (1, _)] rfl rfl (by decide) (Nat.le_of_ble_eq_true rfl) rfl (fun Γ C hQ => ?_))
    refine g_aload_n C dX6_adds_0 rfl rfl ?_
    refine f_X6_parts C a24 (Or.inl q330) (Or.inl rfl) dX6_adds_1 ?_
    refine g_aload_n C dX6_adds_4 rfl rfl ?_
    refine f_X6_many C a24 (Or.inl q334) (Or.inl rfl) dX6_adds_5 ?_
    refine g_top (hp) ?_
    refine g_aload_n C dX6_adds_8 rfl rfl ?_
    refine g_aast (n := 10) C rfl (by decide) (fun _ => rfl) a25 rfl (by omega) (by decide) h1 rfl rfl (Or.inr nq1112) dX6_adds_9 ?_
    refine g_aload_n C dX6_adds_10 rfl rfl ?_
    refine g_dup C dX6_adds_11 rfl ?_
    refine f_X6_many C a24 (Or.inl q334) (Or.inl rfl) dX6_adds_12 ?_
    refine g_top (hp) ?_
    refine g_iconst (v := nI 1) C dX6_adds_15 (by decide) ?_
    first | refine g_iadd_n C dX6_adds_16 ?_ | refine g_iadd C dX6_adds_16 ?_
    refine p_X6_many C hQ a24 (Or.inl q334) (Or.inl rfl) dX6_adds_17 ?_
    exact g_vreturn C hQ (by omega) (by omega) dX6_adds_20 (⟨rfl, rfl⟩)
  · refine (jCt.of "JoinLoom$Question" "adds" [(0, _), (1, _)] rfl rfl (by decide) (Nat.le_of_ble_eq_true rfl) rfl (fun Γ C hQ => ?_))
    refine g_aload_n C dX6_adds_0 rfl rfl ?_
    refine f_X6_parts C a24 (Or.inl q330) (Or.inl rfl) dX6_adds_1 ?_
    refine g_aload_n C dX6_adds_4 rfl rfl ?_
    refine f_X6_many C a24 (Or.inl q334) (Or.inl rfl) dX6_adds_5 ?_
    refine g_top (hp) ?_
    refine g_aload_n C dX6_adds_8 rfl rfl ?_
    refine g_aast (n := 10) C rfl (by decide) (fun _ => rfl) a25 rfl (by omega) (by decide) h1 rfl rfl (Or.inr nq1113) dX6_adds_9 ?_
    refine g_aload_n C dX6_adds_10 rfl rfl ?_
    refine g_dup C dX6_adds_11 rfl ?_
    refine f_X6_many C a24 (Or.inl q334) (Or.inl rfl) dX6_adds_12 ?_
    refine g_top (hp) ?_
    refine g_iconst (v := nI 1) C dX6_adds_15 (by decide) ?_
    first | refine g_iadd_n C dX6_adds_16 ?_ | refine g_iadd C dX6_adds_16 ?_
    refine p_X6_many C hQ a24 (Or.inl q334) (Or.inl rfl) dX6_adds_17 ?_
    exact g_vreturn C hQ (by omega) (by omega) dX6_adds_20 (⟨rfl, rfl⟩)
  · refine (jCt.of "JoinLoom$Question" "adds" [(0, _), (1, _)] rfl rfl (by decide) (Nat.le_of_ble_eq_true rfl) rfl (fun Γ C hQ => ?_))
    refine g_aload_n C dX6_adds_0 rfl rfl ?_
    refine f_X6_parts C a24 (Or.inl q330) (Or.inl rfl) dX6_adds_1 ?_
    refine g_aload_n C dX6_adds_4 rfl rfl ?_
    refine f_X6_many C a24 (Or.inl q334) (Or.inl rfl) dX6_adds_5 ?_
    refine g_top (hp) ?_
    refine g_aload_n C dX6_adds_8 rfl rfl ?_
    refine g_aast (n := 10) C rfl (by decide) (fun _ => rfl) a25 rfl (by omega) (by decide) h1 rfl rfl (Or.inr nq1114) dX6_adds_9 ?_
    refine g_aload_n C dX6_adds_10 rfl rfl ?_
    refine g_dup C dX6_adds_11 rfl ?_
    refine f_X6_many C a24 (Or.inl q334) (Or.inl rfl) dX6_adds_12 ?_
    refine g_top (hp) ?_
    refine g_iconst (v := nI 1) C dX6_adds_15 (by decide) ?_
    first | refine g_iadd_n C dX6_adds_16 ?_ | refine g_iadd C dX6_adds_16 ?_
    refine p_X6_many C hQ a24 (Or.inl q334) (Or.inl rfl) dX6_adds_17 ?_
    exact g_vreturn C hQ (by omega) (by omega) dX6_adds_20 (⟨rfl, rfl⟩)
/-! whether what compares or is not holds -/
def skP2 (Q : JQ) (p : Nat) (b b0 : Int32) (f : Bool) : Bool := decide (qk Q p = 0) || !decide (nmF (qm Q p) (ql Q p) &&& (b ^^^ (-1)) = 0) || (!f && decide (nmF (qm Q p) (ql Q p) &&& (b0 ^^^ (-1)) = 0))
def hoR (T : JT) (Q : JQ) (va : Nat → Int32) (b b0 : Int32) (f : Bool) : Nat → Nat → Bool
  | 0, _ => true
  | m + 1, k => (skP2 Q k b b0 f || trP T Q k va) && hoR T Q va b b0 f m (k + 1)
theorem lp_X2_holds {Γ : JC} {l : Launch} {z : JZ} {T : JT} {Q : JQ} {b b0 : Int32} {f : Bool} (C : jOk Γ l (jrm 8 0 0) cX2_holds "JoinLoom$Loom" (some FieldType.boolean) 7) (hQ : jRt Γ (jRi (jb (hoR T Q (zM z (11, 0)) b b0 f (qp Q) 0)) z) 0 0 "holds") (hT : wT T) (hw : wQ T Q) (hq : sQn z T Q) (hwh : ∀ p, p < qp Q → qk Q p ≤ 1 → ql Q p = tc T (qt Q p)) (a7 : zL z (7, 0) = true) (a11 : zL z (11, 0) = true) (hr : zR z (7, 0) 0 = some (zA z (24, 0))) :
    ∀ (m k : Nat), k + m = qp Q → ∀ (g : Bool), hoR T Q (zM z (11, 0)) b b0 f (qp Q) 0 = (g && hoR T Q (zM z (11, 0)) b b0 f m k) → ∀ x : Int32, x = jb g → jG Γ 0 0 z 6 [(0, .ref (zA z (7, 0))), (1, .int b), (2, .int b0), (3, .int (jb f)), (4, .int x), (5, .int (nI k))] [] := by
  obtain ⟨a24, a25, a26, hn, hp, hh, hor, hpt, htb⟩ := hq
  obtain ⟨w1, w2, w3, w4, w5, w6⟩ := hw
  intro m
  induction m with
  | zero =>
    intro k hk g he x hx
    subst hx
    refine g_iload C dX2_holds_6 rfl ?_
    refine g_aload_n C dX2_holds_8 rfl rfl ?_
    refine f_X2_q C a7 (Or.inl q170) (Or.inl rfl) dX2_holds_9 ?_
    refine g_topR (hr) ?_
    refine f_X6_many C a24 (Or.inr ⟨_, nq335⟩) (Or.inl rfl) dX2_holds_12 ?_
    refine g_top (hp) ?_
    first | refine g_icmp_ge_n (tgt := 91) C dX2_holds_15 (by decide) (by omega) (by omega) (fun c15 => ?_) (fun c15 => ?_) | refine g_icmp_ge (tgt := 91) C dX2_holds_15 (by decide) (fun c15 => ?_) (fun c15 => ?_)
    · refine g_iload C dX2_holds_91 rfl ?_
      exact g_ireturn C hQ (jb_nar _) (by omega) (by omega) dX2_holds_93 (⟨by rw [he, hoR, Bool.and_true], rfl⟩)
    · omega
  | succ m ih =>
    intro k hk g he x hx
    subst hx
    have hk2 : k < qp Q := by omega
    have hs := hpt k hk2
    have hwk := w3 k hk2
    have hk3 := hwk.1
    have J : ∀ (g2 : Bool) (x : Int32) (y : Nat), g2 = (g && (skP2 Q k b b0 f || trP T Q k (zM z (11, 0)))) → x = jb g2 → jG Γ 0 0 z 85 [(0, .ref (zA z (7, 0))), (1, .int b), (2, .int b0), (3, .int (jb f)), (4, .int x), (5, .int (nI k)), (6, .ref y)] [] := by
      intro g2 x y hg hx
      subst hx
      first | refine g_iinc1 (lv' := [(0, _), (1, _), (2, _), (3, _), (4, _), (5, _), (6, _)]) C dX2_holds_85 rfl (by decide) rfl ?_ | refine g_iinc (lv' := [(0, _), (1, _), (2, _), (3, _), (4, _), (5, _), (6, _)]) C dX2_holds_85 rfl rfl (by decide) rfl ?_
      refine g_goto (tgt := 6) C dX2_holds_88 (by decide) ?_
      refine g_take 6 rfl ?_
      exact ih (k + 1) (by omega) g2 (by rw [he, hoR, hg, Bool.and_assoc]) _ rfl
    refine g_iload C dX2_holds_6 rfl ?_
    refine g_aload_n C dX2_holds_8 rfl rfl ?_
    refine f_X2_q C a7 (Or.inl q170) (Or.inl rfl) dX2_holds_9 ?_
    refine g_topR (hr) ?_
    refine f_X6_many C a24 (Or.inr ⟨_, nq335⟩) (Or.inl rfl) dX2_holds_12 ?_
    refine g_top (hp) ?_
    first | refine g_icmp_ge_n (tgt := 91) C dX2_holds_15 (by decide) (by omega) (by omega) (fun c15 => ?_) (fun c15 => ?_) | refine g_icmp_ge (tgt := 91) C dX2_holds_15 (by decide) (fun c15 => ?_) (fun c15 => ?_)
    · omega
    · refine g_iload C dX2_holds_18 rfl ?_
      refine g_if_eq_b (tgt := 91) C dX2_holds_20 (by decide) (fun c20 => ?_) (fun c20 => ?_)
      · refine g_iload C dX2_holds_91 rfl ?_
        exact g_ireturn C hQ (jb_nar _) (by omega) (by omega) dX2_holds_93 (⟨by rw [he, c20]; rfl, rfl⟩)
      · refine g_aload_n C dX2_holds_23 rfl rfl ?_
        refine f_X2_q C a7 (Or.inl q170) (Or.inl rfl) dX2_holds_24 ?_
        refine g_topR (hr) ?_
        refine f_X6_parts C a24 (Or.inr ⟨_, nq331⟩) (Or.inl rfl) dX2_holds_27 ?_
        refine g_iload C dX2_holds_30 rfl ?_
        refine g_aald (n := 10) C rfl (by decide) a25 rfl (by omega) (by decide) dX2_holds_32 ?_
        refine g_topR (hs.1) ?_
        refine g_astore (lv' := [(0, _), (1, _), (2, _), (3, _), (4, _), (5, _), (6, _)]) C dX2_holds_33 (by decide) rfl ?_
        refine g_aload C dX2_holds_35 rfl ?_
        refine f_P_kind (qTag_or _) C hs.2.1 (Or.inl q380) (Or.inl rfl) dX2_holds_37 ?_
        refine g_top (hs.2.2.1) ?_
        refine g_if_eq_n (tgt := 85) C dX2_holds_40 (by decide) (by omega) (fun c40 => ?_) (fun c40 => ?_)
        · subst c20
          first | exact J _ _ _ rfl (by rw [skP2, decide_eq_true c40]; rfl) | exact J _ _ _ rfl (by rw [skP2, decide_eq_false c52]; simp) | exact J _ _ _ rfl (by rw [skP2, c56, decide_eq_true c68]; simp) | exact J _ _ _ rfl (by rw [skP2, c56, decide_eq_false c40, decide_eq_true c52]; rfl) | exact J _ _ _ rfl (by rw [skP2, c56, decide_eq_false c40, decide_eq_true c52, decide_eq_false c68]; rfl)
        · refine g_aload C dX2_holds_43 rfl ?_
          refine g_pnames (T := T) C w1 hwk hs (wPt_l3 hT hwk) q581 (Nat.le_of_ble_eq_true rfl) dX2_holds_45 (by decide) ?_
          refine g_iload_n C dX2_holds_48 rfl rfl ?_
          refine g_iconst (v := (-1)) C dX2_holds_49 (by decide) ?_
          refine g_ixor C dX2_holds_50 ?_
          refine g_iand C dX2_holds_51 ?_
          refine g_if_ne (tgt := 85) C dX2_holds_52 (by decide) (fun c52 => ?_) (fun c52 => ?_)
          · subst c20
            first | exact J _ _ _ rfl (by rw [skP2, decide_eq_true c40]; rfl) | exact J _ _ _ rfl (by rw [skP2, decide_eq_false c52]; simp) | exact J _ _ _ rfl (by rw [skP2, c56, decide_eq_true c68]; simp) | exact J _ _ _ rfl (by rw [skP2, c56, decide_eq_false c40, decide_eq_true c52]; rfl) | exact J _ _ _ rfl (by rw [skP2, c56, decide_eq_false c40, decide_eq_true c52, decide_eq_false c68]; rfl)
          · refine g_iload_n C dX2_holds_55 rfl rfl ?_
            refine g_if_ne_b (tgt := 74) C dX2_holds_56 (by decide) (fun c56 => ?_) (fun c56 => ?_)
            · refine g_aload C dX2_holds_74 rfl ?_
              refine g_aload_n C dX2_holds_76 rfl rfl ?_
              refine f_X2_values C a7 (Or.inl q176) (Or.inl rfl) dX2_holds_77 ?_
              refine g_ptrue (T := T) C hwk hs hT w1 (by omega) (hwh k hk2) (htb k hk2) a11 q582 (Nat.le_of_ble_eq_true rfl) dX2_holds_80 (by decide) ?_
              refine g_istore (lv' := [(0, _), (1, _), (2, _), (3, _), (4, _), (5, _), (6, _)]) C dX2_holds_83 (by decide) rfl ?_
              subst c20
              first | exact J _ _ _ rfl (by rw [skP2, decide_eq_true c40]; rfl) | exact J _ _ _ rfl (by rw [skP2, decide_eq_false c52]; simp) | exact J _ _ _ rfl (by rw [skP2, c56, decide_eq_true c68]; simp) | exact J _ _ _ rfl (by rw [skP2, c56, decide_eq_false c40, decide_eq_true c52]; rfl) | exact J _ _ _ rfl (by rw [skP2, c56, decide_eq_false c40, decide_eq_true c52, decide_eq_false c68]; rfl)
            · refine g_aload C dX2_holds_59 rfl ?_
              refine g_pnames (T := T) C w1 hwk hs (wPt_l3 hT hwk) q581 (Nat.le_of_ble_eq_true rfl) dX2_holds_61 (by decide) ?_
              refine g_iload_n C dX2_holds_64 rfl rfl ?_
              refine g_iconst (v := (-1)) C dX2_holds_65 (by decide) ?_
              refine g_ixor C dX2_holds_66 ?_
              refine g_iand C dX2_holds_67 ?_
              refine g_if_ne (tgt := 74) C dX2_holds_68 (by decide) (fun c68 => ?_) (fun c68 => ?_)
              · refine g_aload C dX2_holds_74 rfl ?_
                refine g_aload_n C dX2_holds_76 rfl rfl ?_
                refine f_X2_values C a7 (Or.inl q176) (Or.inl rfl) dX2_holds_77 ?_
                refine g_ptrue (T := T) C hwk hs hT w1 (by omega) (hwh k hk2) (htb k hk2) a11 q582 (Nat.le_of_ble_eq_true rfl) dX2_holds_80 (by decide) ?_
                refine g_istore (lv' := [(0, _), (1, _), (2, _), (3, _), (4, _), (5, _), (6, _)]) C dX2_holds_83 (by decide) rfl ?_
                subst c20
                first | exact J _ _ _ rfl (by rw [skP2, decide_eq_true c40]; rfl) | exact J _ _ _ rfl (by rw [skP2, decide_eq_false c52]; simp) | exact J _ _ _ rfl (by rw [skP2, c56, decide_eq_true c68]; simp) | exact J _ _ _ rfl (by rw [skP2, c56, decide_eq_false c40, decide_eq_true c52]; rfl) | exact J _ _ _ rfl (by rw [skP2, c56, decide_eq_false c40, decide_eq_true c52, decide_eq_false c68]; rfl)
              · refine g_goto (tgt := 85) C dX2_holds_71 (by decide) ?_
                subst c20
                first | exact J _ _ _ rfl (by rw [skP2, decide_eq_true c40]; rfl) | exact J _ _ _ rfl (by rw [skP2, decide_eq_false c52]; simp) | exact J _ _ _ rfl (by rw [skP2, c56, decide_eq_true c68]; simp) | exact J _ _ _ rfl (by rw [skP2, c56, decide_eq_false c40, decide_eq_true c52]; rfl) | exact J _ _ _ rfl (by rw [skP2, c56, decide_eq_false c40, decide_eq_true c52, decide_eq_false c68]; rfl)
theorem m_X2_holds (l : Launch) (z : JZ) (T : JT) (Q : JQ) (b b0 : Int32) (f : Bool) (hT : wT T) (hw : wQ T Q) (hq : sQn z T Q) (hwh : ∀ p, p < qp Q → qk Q p ≤ 1 → ql Q p = tc T (qt Q p)) (a7 : zL z (7, 0) = true) (a11 : zL z (11, 0) = true) (hr : zR z (7, 0) 0 = some (zA z (24, 0))) : jCt l yX2_holds cX2_holds 7 (some FieldType.boolean) 8 0 0 [.ref (zA z (7, 0)), .int b, .int b0, .int (jb f)] z (jRi (jb (hoR T Q (zM z (11, 0)) b b0 f (qp Q) 0)) z) := by
  refine (jCt.of "JoinLoom$Loom" "holds" [(0, _), (1, _), (2, _), (3, _)] rfl rfl (by decide) (Nat.le_of_ble_eq_true rfl) rfl (fun Γ C hQ => ?_))
  refine g_iconst (v := nI 1) C dX2_holds_0 (by decide) ?_
  refine g_istore (lv' := [(0, _), (1, _), (2, _), (3, _), (4, _)]) C dX2_holds_1 (by decide) rfl ?_
  refine g_iconst (v := nI 0) C dX2_holds_3 (by decide) ?_
  refine g_istore (lv' := [(0, _), (1, _), (2, _), (3, _), (4, _), (5, _)]) C dX2_holds_4 (by decide) rfl ?_
  exact lp_X2_holds C hQ hT hw hq hwh a7 a11 hr (qp Q) 0 (by omega) true (Bool.true_and _).symm _ rfl
