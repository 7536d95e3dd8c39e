set_option maxRecDepth 100000
section JCPY
variable {Γ : JC} {l : Launch} {R : Room} {cc : ByteArray} {own : String} {ret : Option FieldType} {nL : Nat} {cells slots : Nat} {z : JZ} {pc : Nat} {lv : List (Nat × Value)} {st : List Value}
theorem g_copy {t0 j0 t1 j1 m0 m1 n idx : Nat} (C : jOk Γ l R cc own ret nL) (hk0 : kd t0 = .inl (0, m0)) (hk1 : kd t1 = .inl (0, m1)) (l0 : zL z (t0, j0) = true) (l1 : zL z (t1, j1) = true) (hn0 : n ≤ m0) (hn1 : n ≤ m1) (hn31 : n < 2147483648) (hq : Cond.methodLink own idx arraycopyName ∈ lw_all) (hR : 1 ≤ R.frames ∧ 100 ≤ R.locals) (hst : (st.map fun v => v.category).sum ≤ 8) (d : decode cc pc = .ok (.invokestatic idx, 3)) (kk : jG Γ cells slots (sA z (t1, j1) (va_cpy (zM z (t0, j0)) (zM z (t1, j1)) 0 0 n)) (pc + 3) lv st) : jG Γ cells slots z pc lv (.int (nI n) :: .int (nI 0) :: .ref (zA z (t1, j1)) :: .int (nI 0) :: .ref (zA z (t0, j0)) :: st) := by
  obtain ⟨p, l, e, R, s, m, args, below, meth, c, Q, D, cA, n0, nL⟩ := Γ
  obtain ⟨rfl, rfl, hx, hb, hml, hown, hts, hr, hlk, ⟨hK, rfl⟩, hn⟩ := C
  intro H locs ls hW hS hl
  obtain ⟨ws, hP, hD, hw, -⟩ := hW.list
  obtain ⟨q0, hq0⟩ := hw (t0, j0) l0
  obtain ⟨q1, hq1⟩ := hw (t1, j1) l1
  have hq0' := hq0
  have hq1' := hq1
  rw [jcel_a hk0 (by decide)] at hq0'
  rw [jcel_a hk1 (by decide)] at hq1'
  have e0 : (nI 0).toNatClampNeg = 0 := rfl
  have en : (nI n).toNatClampNeg = n := nI_clamp hn31
  have hw8 : nativeFrameWords "java/lang/System" "arraycopy" 5 + 19 ≤ 100 := by decide
  refine va_copyi (ty := .int) hx hb (by rw [hml]; exact hl.1.symm) hown (hts _ hq) (hts _ q645) (hts _ q644) (hts _ q70) hK.1 hP hD hS q0 q1 0 0 hq0' hq1' rfl rfl rfl (nI_pos (by decide)) (nI_pos (by decide)) (nI_pos hn31) (by rw [e0, en]; omega) (by rw [e0, en]; omega) (fun i _ => rfl) hR.1 (by omega) d (fun H1 locs1 hP1 _ hS1 => ?_)
  rw [e0, en] at hP1
  exact kk H1 locs1 ls (hW.back l1 hw hq1 hP1 rfl rfl (by rw [jcel_a hk1 (by decide), zM_sA_s]) (fun i hi => jcel_sA_n hi)) hS1 hl
end JCPY
theorem cmpF_congr {u u' v v' : Nat → Int32} : ∀ {n k : Nat}, (∀ i, k ≤ i → i < k + n → u i = u' i ∧ v i = v' i) → cmpF u v n k = cmpF u' v' n k
  | 0, k, _ => rfl
  | n + 1, k, h => by
    obtain ⟨h1, h2⟩ := h k (by omega) (by omega)
    have ih := cmpF_congr (u := u) (u' := u') (v := v) (v' := v') (n := n) (k := k + 1) (fun i hi hi2 => h i (by omega) (by omega))
    simp only [cmpF, h1, h2, ih]
theorem m_X1_at (l : Launch) (z : JZ) (j i k : Nat) (h1 : zL z (2, j) = true) (h2 : zL z (3, j) = true) (hb : i * 6 + k < 3006) : jCt l yX1_at cX1_at 3 (some FieldType.int) 1 0 0 [.ref (zA z (2, j)), .int (nI i), .int (nI k)] z (jRi (zM z (3, j) (i * 6 + k)) z) := by
  refine (jCt.of "JoinLoom$Cloth" "at" [(0, _), (1, _), (2, _)] rfl rfl (by decide) (Nat.le_of_ble_eq_true rfl) rfl (fun Γ C hQ => ?_))
  refine g_aload_n C dX1_at_0 rfl rfl ?_
  refine f_X1_values C h1 (Or.inl q93) (Or.inl rfl) dX1_at_1 ?_
  refine g_iload_n C dX1_at_4 rfl rfl ?_
  refine g_bipush (v := nI 6) C dX1_at_5 (by decide) ?_
  first | refine g_imul_n C dX1_at_7 ?_ | refine g_imul C dX1_at_7 ?_
  refine g_iload_n C dX1_at_8 rfl rfl ?_
  first | refine g_iadd_n C dX1_at_9 ?_ | refine g_iadd C dX1_at_9 ?_
  refine g_iald (n := 3006) C rfl h2 rfl (by omega) (by decide) dX1_at_10 ?_
  exact g_ireturn C hQ rfl (by omega) (by omega) dX1_at_11 (⟨rfl, rfl⟩)
theorem lp_X1_compare {Γ : JC} {l : Launch} {z : JZ} {j i n tv jv : Nat} (C : jOk Γ l (jrm 2 0 0) cX1_compare "JoinLoom$Cloth" (some FieldType.int) 4) (hQ : jRt Γ (jRi (cmpF (fun k => zM z (3, j) (i * 6 + k)) (zM z (tv, jv)) n 0) z) 0 0 "compare") (h1 : zL z (2, j) = true) (h2 : zL z (3, j) = true) (hkv : kd tv = .inl (0, 6)) (h4 : zL z (tv, jv) = true) (hn : zM z (2, j) 0 = nI n) (hn6 : n ≤ 6) (hi : i < 501) :
    ∀ (m k : Nat), k + m = n → cmpF (fun k => zM z (3, j) (i * 6 + k)) (zM z (tv, jv)) n 0 = cmpF (fun k => zM z (3, j) (i * 6 + k)) (zM z (tv, jv)) m k → jG Γ 0 0 z 2 [(0, .ref (zA z (2, j))), (1, .int (nI i)), (2, .ref (zA z (tv, jv))), (3, .int (nI k))] [] := by
  intro m
  induction m with
  | zero =>
    intro k hk he
    refine g_iload_n C dX1_compare_2 rfl rfl ?_
    refine g_aload_n C dX1_compare_3 rfl rfl ?_
    refine f_X1_names C h1 (Or.inl q88) (Or.inl rfl) dX1_compare_4 ?_
    refine g_top (hn) ?_
    first | refine g_icmp_ge_n (tgt := 53) C dX1_compare_7 (by decide) (by omega) (by omega) (fun c7 => ?_) (fun c7 => ?_) | refine g_icmp_ge (tgt := 53) C dX1_compare_7 (by decide) (fun c7 => ?_) (fun c7 => ?_)
    · refine g_iconst (v := nI 0) C dX1_compare_53 (by decide) ?_
      exact g_ireturn C hQ rfl (by omega) (by omega) dX1_compare_54 (⟨by rw [he]; rfl, rfl⟩)
    · omega
  | succ m ih =>
    intro k hk he
    refine g_iload_n C dX1_compare_2 rfl rfl ?_
    refine g_aload_n C dX1_compare_3 rfl rfl ?_
    refine f_X1_names C h1 (Or.inl q88) (Or.inl rfl) dX1_compare_4 ?_
    refine g_top (hn) ?_
    first | refine g_icmp_ge_n (tgt := 53) C dX1_compare_7 (by decide) (by omega) (by omega) (fun c7 => ?_) (fun c7 => ?_) | refine g_icmp_ge (tgt := 53) C dX1_compare_7 (by decide) (fun c7 => ?_) (fun c7 => ?_)
    · omega
    · refine g_aload_n C dX1_compare_10 rfl rfl ?_
      refine g_iload_n C dX1_compare_11 rfl rfl ?_
      refine g_iload_n C dX1_compare_12 rfl rfl ?_
      refine g_cfi (g_runV C (m_X1_at l z j i k h1 h2 (by omega)) ciX1_at q538 (Or.inl q539) (Or.inl q537) h1 rfl rfl rfl rfl (Nat.le_of_ble_eq_true rfl) dX1_compare_13 (by decide)) ?_
      refine g_aload_n C dX1_compare_16 rfl rfl ?_
      refine g_iload_n C dX1_compare_17 rfl rfl ?_
      refine g_iald (n := 6) C hkv h4 rfl (by omega) (by decide) dX1_compare_18 ?_
      refine g_icmp_eq (tgt := 47) C dX1_compare_19 (by decide) (fun c19 => ?_) (fun c19 => ?_)
      · first | refine g_iinc1 (lv' := [(0, _), (1, _), (2, _), (3, _)]) C dX1_compare_47 rfl (by decide) rfl ?_ | refine g_iinc (lv' := [(0, _), (1, _), (2, _), (3, _)]) C dX1_compare_47 rfl rfl (by decide) rfl ?_
        refine g_goto (tgt := 2) C dX1_compare_50 (by decide) ?_
        exact ih (k + 1) (by omega) (by rw [he, cmpF, if_pos c19])
      · refine g_aload_n C dX1_compare_22 rfl rfl ?_
        refine g_iload_n C dX1_compare_23 rfl rfl ?_
        refine g_iload_n C dX1_compare_24 rfl rfl ?_
        refine g_cfi (g_runV C (m_X1_at l z j i k h1 h2 (by omega)) ciX1_at q538 (Or.inl q539) (Or.inl q537) h1 rfl rfl rfl rfl (Nat.le_of_ble_eq_true rfl) dX1_compare_25 (by decide)) ?_
        refine g_cfl (g_runS C (m_X0_rank l z _) ciX0_rank q285 (Or.inr ⟨_, nq541⟩) rfl rfl (Nat.le_of_ble_eq_true rfl) dX1_compare_28 (by decide)) ?_
        refine g_aload_n C dX1_compare_31 rfl rfl ?_
        refine g_iload_n C dX1_compare_32 rfl rfl ?_
        refine g_iald (n := 6) C hkv h4 rfl (by omega) (by decide) dX1_compare_33 ?_
        refine g_cfl (g_runS C (m_X0_rank l z _) ciX0_rank q285 (Or.inr ⟨_, nq541⟩) rfl rfl (Nat.le_of_ble_eq_true rfl) dX1_compare_34 (by decide)) ?_
        refine g_lcmp C dX1_compare_37 ?_
        refine g_if_ge_c (tgt := 45) C dX1_compare_38 (by decide) (fun c38 => ?_) (fun c38 => ?_)
        · refine g_iconst (v := nI 1) C dX1_compare_45 (by decide) ?_
          exact g_ireturn C hQ rfl (by omega) (by omega) dX1_compare_46 (by first | exact ⟨by rw [he, cmpF, if_neg c19, if_pos ((rkL_lt _ _).mp c38)] <;> rfl, rfl⟩ | exact ⟨by rw [he, cmpF, if_neg c19, if_neg (fun e => c38 ((rkL_lt _ _).mpr e))] <;> rfl, rfl⟩)
        · refine g_iconst (v := (-1)) C dX1_compare_41 (by decide) ?_
          refine g_goto (tgt := 46) C dX1_compare_42 (by decide) ?_
          exact g_ireturn C hQ rfl (by omega) (by omega) dX1_compare_46 (by first | exact ⟨by rw [he, cmpF, if_neg c19, if_pos ((rkL_lt _ _).mp c38)] <;> rfl, rfl⟩ | exact ⟨by rw [he, cmpF, if_neg c19, if_neg (fun e => c38 ((rkL_lt _ _).mpr e))] <;> rfl, rfl⟩)
theorem m_X1_compare (l : Launch) (z : JZ) (j i n tv jv : Nat) (h1 : zL z (2, j) = true) (h2 : zL z (3, j) = true) (hkv : kd tv = .inl (0, 6)) (h4 : zL z (tv, jv) = true) (hn : zM z (2, j) 0 = nI n) (hn6 : n ≤ 6) (hi : i < 501) : jCt l yX1_compare cX1_compare 4 (some FieldType.int) 2 0 0 [.ref (zA z (2, j)), .int (nI i), .ref (zA z (tv, jv))] z (jRi (cmpF (fun k => zM z (3, j) (i * 6 + k)) (zM z (tv, jv)) n 0) z) := by
  refine (jCt.of "JoinLoom$Cloth" "compare" [(0, _), (1, _), (2, _)] rfl rfl (by decide) (Nat.le_of_ble_eq_true rfl) rfl (fun Γ C hQ => ?_))
  refine g_iconst (v := nI 0) C dX1_compare_0 (by decide) ?_
  refine g_istore_n (lv' := [(0, _), (1, _), (2, _), (3, _)]) C dX1_compare_1 rfl (by decide) rfl ?_
  exact lp_X1_compare C hQ h1 h2 hkv h4 hn hn6 hi n 0 (by omega) rfl
theorem lp_X1_compare_2 {Γ : JC} {l : Launch} {z : JZ} {j i j2 i2 n : Nat} (C : jOk Γ l (jrm 2 0 0) cX1_compare_2 "JoinLoom$Cloth" (some FieldType.int) 5) (hQ : jRt Γ (jRi (cmpF (fun k => zM z (3, j) (i * 6 + k)) (fun k => zM z (3, j2) (i2 * 6 + k)) n 0) z) 0 0 "compare") (h1 : zL z (2, j) = true) (h2 : zL z (3, j) = true) (h3 : zL z (2, j2) = true) (h4 : zL z (3, j2) = true) (hn : zM z (2, j) 0 = nI n) (hn6 : n ≤ 6) (hi : i < 501) (hi2 : i2 < 501) :
    ∀ (m k : Nat), k + m = n → cmpF (fun k => zM z (3, j) (i * 6 + k)) (fun k => zM z (3, j2) (i2 * 6 + k)) n 0 = cmpF (fun k => zM z (3, j) (i * 6 + k)) (fun k => zM z (3, j2) (i2 * 6 + k)) m k → jG Γ 0 0 z 3 [(0, .ref (zA z (2, j))), (1, .int (nI i)), (2, .ref (zA z (2, j2))), (3, .int (nI i2)), (4, .int (nI k))] [] := by
  intro m
  induction m with
  | zero =>
    intro k hk he
    refine g_iload C dX1_compare_2_3 rfl ?_
    refine g_aload_n C dX1_compare_2_5 rfl rfl ?_
    refine f_X1_names C h1 (Or.inl q88) (Or.inl rfl) dX1_compare_2_6 ?_
    refine g_top (hn) ?_
    first | refine g_icmp_ge_n (tgt := 65) C dX1_compare_2_9 (by decide) (by omega) (by omega) (fun c9 => ?_) (fun c9 => ?_) | refine g_icmp_ge (tgt := 65) C dX1_compare_2_9 (by decide) (fun c9 => ?_) (fun c9 => ?_)
    · refine g_iconst (v := nI 0) C dX1_compare_2_65 (by decide) ?_
      exact g_ireturn C hQ rfl (by omega) (by omega) dX1_compare_2_66 (⟨by rw [he]; rfl, rfl⟩)
    · omega
  | succ m ih =>
    intro k hk he
    refine g_iload C dX1_compare_2_3 rfl ?_
    refine g_aload_n C dX1_compare_2_5 rfl rfl ?_
    refine f_X1_names C h1 (Or.inl q88) (Or.inl rfl) dX1_compare_2_6 ?_
    refine g_top (hn) ?_
    first | refine g_icmp_ge_n (tgt := 65) C dX1_compare_2_9 (by decide) (by omega) (by omega) (fun c9 => ?_) (fun c9 => ?_) | refine g_icmp_ge (tgt := 65) C dX1_compare_2_9 (by decide) (fun c9 => ?_) (fun c9 => ?_)
    · omega
    · refine g_aload_n C dX1_compare_2_12 rfl rfl ?_
      refine g_iload_n C dX1_compare_2_13 rfl rfl ?_
      refine g_iload C dX1_compare_2_14 rfl ?_
      refine g_cfi (g_runV C (m_X1_at l z j i k h1 h2 (by omega)) ciX1_at q538 (Or.inl q539) (Or.inl q537) h1 rfl rfl rfl rfl (Nat.le_of_ble_eq_true rfl) dX1_compare_2_16 (by decide)) ?_
      refine g_aload_n C dX1_compare_2_19 rfl rfl ?_
      refine g_iload_n C dX1_compare_2_20 rfl rfl ?_
      refine g_iload C dX1_compare_2_21 rfl ?_
      refine g_cfi (g_runV C (m_X1_at l z j2 i2 k h3 h4 (by omega)) ciX1_at q538 (Or.inl q539) (Or.inl q537) (h3) rfl rfl rfl rfl (Nat.le_of_ble_eq_true rfl) dX1_compare_2_23 (by decide)) ?_
      refine g_icmp_eq (tgt := 59) C dX1_compare_2_26 (by decide) (fun c26 => ?_) (fun c26 => ?_)
      · first | refine g_iinc1 (lv' := [(0, _), (1, _), (2, _), (3, _), (4, _)]) C dX1_compare_2_59 rfl (by decide) rfl ?_ | refine g_iinc (lv' := [(0, _), (1, _), (2, _), (3, _), (4, _)]) C dX1_compare_2_59 rfl rfl (by decide) rfl ?_
        refine g_goto (tgt := 3) C dX1_compare_2_62 (by decide) ?_
        exact ih (k + 1) (by omega) (by rw [he, cmpF, if_pos c26])
      · refine g_aload_n C dX1_compare_2_29 rfl rfl ?_
        refine g_iload_n C dX1_compare_2_30 rfl rfl ?_
        refine g_iload C dX1_compare_2_31 rfl ?_
        refine g_cfi (g_runV C (m_X1_at l z j i k h1 h2 (by omega)) ciX1_at q538 (Or.inl q539) (Or.inl q537) h1 rfl rfl rfl rfl (Nat.le_of_ble_eq_true rfl) dX1_compare_2_33 (by decide)) ?_
        refine g_cfl (g_runS C (m_X0_rank l z _) ciX0_rank q285 (Or.inr ⟨_, nq541⟩) rfl rfl (Nat.le_of_ble_eq_true rfl) dX1_compare_2_36 (by decide)) ?_
        refine g_aload_n C dX1_compare_2_39 rfl rfl ?_
        refine g_iload_n C dX1_compare_2_40 rfl rfl ?_
        refine g_iload C dX1_compare_2_41 rfl ?_
        refine g_cfi (g_runV C (m_X1_at l z j2 i2 k h3 h4 (by omega)) ciX1_at q538 (Or.inl q539) (Or.inl q537) (h3) rfl rfl rfl rfl (Nat.le_of_ble_eq_true rfl) dX1_compare_2_43 (by decide)) ?_
        refine g_cfl (g_runS C (m_X0_rank l z _) ciX0_rank q285 (Or.inr ⟨_, nq541⟩) rfl rfl (Nat.le_of_ble_eq_true rfl) dX1_compare_2_46 (by decide)) ?_
        refine g_lcmp C dX1_compare_2_49 ?_
        refine g_if_ge_c (tgt := 57) C dX1_compare_2_50 (by decide) (fun c50 => ?_) (fun c50 => ?_)
        · refine g_iconst (v := nI 1) C dX1_compare_2_57 (by decide) ?_
          exact g_ireturn C hQ rfl (by omega) (by omega) dX1_compare_2_58 (by first | exact ⟨by rw [he, cmpF, if_neg c26, if_pos ((rkL_lt _ _).mp c50)] <;> rfl, rfl⟩ | exact ⟨by rw [he, cmpF, if_neg c26, if_neg (fun e => c50 ((rkL_lt _ _).mpr e))] <;> rfl, rfl⟩)
        · refine g_iconst (v := (-1)) C dX1_compare_2_53 (by decide) ?_
          refine g_goto (tgt := 58) C dX1_compare_2_54 (by decide) ?_
          exact g_ireturn C hQ rfl (by omega) (by omega) dX1_compare_2_58 (by first | exact ⟨by rw [he, cmpF, if_neg c26, if_pos ((rkL_lt _ _).mp c50)] <;> rfl, rfl⟩ | exact ⟨by rw [he, cmpF, if_neg c26, if_neg (fun e => c50 ((rkL_lt _ _).mpr e))] <;> rfl, rfl⟩)
theorem m_X1_compare_2 (l : Launch) (z : JZ) (j i j2 i2 n : Nat) (h1 : zL z (2, j) = true) (h2 : zL z (3, j) = true) (h3 : zL z (2, j2) = true) (h4 : zL z (3, j2) = true) (hn : zM z (2, j) 0 = nI n) (hn6 : n ≤ 6) (hi : i < 501) (hi2 : i2 < 501) : jCt l yX1_compare_2 cX1_compare_2 5 (some FieldType.int) 2 0 0 [.ref (zA z (2, j)), .int (nI i), .ref (zA z (2, j2)), .int (nI i2)] z (jRi (cmpF (fun k => zM z (3, j) (i * 6 + k)) (fun k => zM z (3, j2) (i2 * 6 + k)) n 0) z) := by
  refine (jCt.of "JoinLoom$Cloth" "compare" [(0, _), (1, _), (2, _), (3, _)] rfl rfl (by decide) (Nat.le_of_ble_eq_true rfl) rfl (fun Γ C hQ => ?_))
  refine g_iconst (v := nI 0) C dX1_compare_2_0 (by decide) ?_
  refine g_istore (lv' := [(0, _), (1, _), (2, _), (3, _), (4, _)]) C dX1_compare_2_1 (by decide) rfl ?_
  exact lp_X1_compare_2 C hQ h1 h2 h3 h4 hn hn6 hi hi2 n 0 (by omega) rfl
/-- cloth j becomes cloth i -/
def cpZ (z : JZ) (j i : Nat) : JZ := sA (sA (sA (sM (sM (sM z (2, j) 0 (zM z (2, i) 0)) (2, j) 1 (zM z (2, i) 1)) (2, j) 5 (zM z (2, i) 5)) (3, j) (va_cpy (zM z (3, i)) (zM z (3, j)) 0 0 3006)) (4, j) (va_cpy (zM z (4, i)) (zM z (4, j)) 0 0 6)) (5, j) (va_cpy (zM z (5, i)) (zM z (5, j)) 0 0 5010)
theorem m_X1_copy (l : Launch) (z : JZ) (j i : Nat) (hij : i ≠ j) (b : Bool) (hb : zM z (2, i) 5 = jb b) (a2 : zL z (2, j) = true) (a3 : zL z (3, j) = true) (a4 : zL z (4, j) = true) (a5 : zL z (5, j) = true) (b2 : zL z (2, i) = true) (b3 : zL z (3, i) = true) (b4 : zL z (4, i) = true) (b5 : zL z (5, i) = true) : jCt l yX1_copy cX1_copy 2 (none) 1 0 0 [.ref (zA z (2, j)), .ref (zA z (2, i))] z (jRv (cpZ z j i)) := by
  have hne : ((2, i) : JId) ≠ (2, j) := fun e => hij (congrArg Prod.snd e)
  refine (jCt.of "JoinLoom$Cloth" "copy" [(0, _), (1, _)] rfl rfl (by decide) (Nat.le_of_ble_eq_true rfl) rfl (fun Γ C hQ => ?_))
  refine g_aload_n C dX1_copy_0 rfl rfl ?_
  refine g_aload_n C dX1_copy_1 rfl rfl ?_
  refine f_X1_names C (b2) (Or.inl q88) (Or.inl rfl) dX1_copy_2 ?_
  refine p_X1_names C hQ a2 (Or.inl q88) (Or.inl rfl) dX1_copy_5 ?_
  refine g_aload_n C dX1_copy_8 rfl rfl ?_
  refine g_aload_n C dX1_copy_9 rfl rfl ?_
  refine f_X1_many C (b2) (Or.inl q91) (Or.inl rfl) dX1_copy_10 ?_
  refine g_top ((show _ = zM z (2, i) 1 by rw [zM_sM_n hne])) ?_
  refine p_X1_many C hQ a2 (Or.inl q91) (Or.inl rfl) dX1_copy_13 ?_
  refine g_aload_n C dX1_copy_16 rfl rfl ?_
  refine g_aload_n C dX1_copy_17 rfl rfl ?_
  refine f_X1_isThere C (b2) (Or.inl q100) (Or.inl rfl) dX1_copy_18 ?_
  refine g_top ((show _ = jb b by rw [zM_sM_n hne, zM_sM_n hne]; exact hb)) ?_
  refine p_X1_isThere C hQ a2 (Or.inl q100) (Or.inl rfl) (jb_nar b) (jb_fit b) dX1_copy_21 ?_
  refine g_aload_n C dX1_copy_24 rfl rfl ?_
  refine f_X1_values C (b2) (Or.inl q93) (Or.inl rfl) dX1_copy_25 ?_
  refine g_iconst (v := nI 0) C dX1_copy_28 (by decide) ?_
  refine g_aload_n C dX1_copy_29 rfl rfl ?_
  refine f_X1_values C a2 (Or.inl q93) (Or.inl rfl) dX1_copy_30 ?_
  refine g_iconst (v := nI 0) C dX1_copy_33 (by decide) ?_
  refine g_aload_n C dX1_copy_34 rfl rfl ?_
  refine f_X1_values C a2 (Or.inl q93) (Or.inl rfl) dX1_copy_35 ?_
  refine g_alen (n := 3006) (v := nI 3006) C rfl a3 rfl dX1_copy_38 ?_
  refine g_copy (m0 := 3006) (m1 := 3006) C rfl rfl b3 a3 (by decide) (by decide) (by decide) q643 (by decide) (Nat.le_of_ble_eq_true rfl) dX1_copy_39 ?_
  refine g_aload_n C dX1_copy_42 rfl rfl ?_
  refine f_X1_meetings C (b2) (Or.inl q94) (Or.inl rfl) dX1_copy_43 ?_
  refine g_iconst (v := nI 0) C dX1_copy_46 (by decide) ?_
  refine g_aload_n C dX1_copy_47 rfl rfl ?_
  refine f_X1_meetings C a2 (Or.inl q94) (Or.inl rfl) dX1_copy_48 ?_
  refine g_iconst (v := nI 0) C dX1_copy_51 (by decide) ?_
  refine g_bipush (v := nI 6) C dX1_copy_52 (by decide) ?_
  refine g_copy (m0 := 6) (m1 := 6) C rfl rfl b4 a4 (by decide) (by decide) (by decide) q643 (by decide) (Nat.le_of_ble_eq_true rfl) dX1_copy_54 ?_
  refine g_aload_n C dX1_copy_57 rfl rfl ?_
  refine f_X1_witness C (b2) (Or.inl q97) (Or.inl rfl) dX1_copy_58 ?_
  refine g_iconst (v := nI 0) C dX1_copy_61 (by decide) ?_
  refine g_aload_n C dX1_copy_62 rfl rfl ?_
  refine f_X1_witness C a2 (Or.inl q97) (Or.inl rfl) dX1_copy_63 ?_
  refine g_iconst (v := nI 0) C dX1_copy_66 (by decide) ?_
  refine g_aload_n C dX1_copy_67 rfl rfl ?_
  refine f_X1_witness C a2 (Or.inl q97) (Or.inl rfl) dX1_copy_68 ?_
  refine g_alen (n := 5010) (v := nI 5010) C rfl a5 rfl dX1_copy_71 ?_
  refine g_copy (m0 := 5010) (m1 := 5010) C rfl rfl b5 a5 (by decide) (by decide) (by decide) q643 (by decide) (Nat.le_of_ble_eq_true rfl) dX1_copy_72 ?_
  exact g_vreturn C hQ (by omega) (by omega) dX1_copy_75 (⟨rfl, by unfold cpZ; rw [hb]; rfl⟩)
/-- rows lo .. hi - 1, of six values each, go one on -/
def shC (f : Nat → Int32) (lo hi : Nat) : Nat → Int32 := fun j => if lo * 6 + 6 ≤ j ∧ j < hi * 6 + 6 then f (j - 6) else f j
def mvC (f : Nat → Int32) (fr to k : Nat) : Nat → Int32 := fun j => if to * 6 ≤ j ∧ j < to * 6 + k then f (fr * 6 + (j - to * 6)) else f j
theorem mv_shC (f : Nat → Int32) {i n : Nat} (h0 : 0 < i) (hi : i ≤ n) : mvC (shC f i n) (i - 1) i 6 = shC f (i - 1) n := by
  funext j
  simp only [mvC, shC]
  by_cases e : i * 6 ≤ j ∧ j < i * 6 + 6
  · rw [if_pos e, if_neg (by omega), if_pos (by omega)]
    congr 1
    omega
  · rw [if_neg e]
    by_cases e2 : i * 6 + 6 ≤ j ∧ j < n * 6 + 6
    · rw [if_pos e2, if_pos (by omega)]
    · rw [if_neg e2, if_neg (by omega)]
theorem shC_id (f : Nat → Int32) (n : Nat) : shC f n n = f := by
  funext j
  simp only [shC]
  rw [if_neg (by omega)]
theorem mvC_step (f : Nat → Int32) {fr to k : Nat} (hne : fr ≠ to) (hk : k < 6) : upd (mvC f fr to k) (to * 6 + k) (mvC f fr to k (fr * 6 + k)) = mvC f fr to (k + 1) := by
  funext j
  simp only [upd, mvC]
  by_cases e : j = to * 6 + k
  · subst e
    rw [if_pos rfl, if_neg (by omega), if_pos (by omega)]
    congr 1
    omega
  · rw [if_neg e]
    by_cases e2 : to * 6 ≤ j ∧ j < to * 6 + k
    · rw [if_pos e2, if_pos (by omega)]
    · rw [if_neg e2, if_neg (by omega)]
theorem mvC_0 (f : Nat → Int32) (fr to : Nat) : mvC f fr to 0 = f := by
  funext j
  simp only [mvC]
  rw [if_neg (by omega)]
/-- a row is set into place i, its first k values -/
def stC (f row : Nat → Int32) (i k : Nat) : Nat → Int32 := fun j => if i * 6 ≤ j ∧ j < i * 6 + k then row (j - i * 6) else f j
theorem stC_0 (f row : Nat → Int32) (i : Nat) : stC f row i 0 = f := by
  funext j
  simp only [stC]
  rw [if_neg (by omega)]
theorem stC_step (f row : Nat → Int32) (i k : Nat) : upd (stC f row i k) (i * 6 + k) (row k) = stC f row i (k + 1) := by
  funext j
  simp only [upd, stC]
  by_cases e : j = i * 6 + k
  · subst e
    rw [if_pos rfl, if_pos (by omega)]
    congr 1
    omega
  · rw [if_neg e]
    by_cases e2 : i * 6 ≤ j ∧ j < i * 6 + k
    · rw [if_pos e2, if_pos (by omega)]
    · rw [if_neg e2, if_neg (by omega)]
/-- the end of 'comes': the row goes to place p -/
theorem tl_X1_comes {Γ : JC} {l : Launch} {z : JZ} {j n m p tv jv : Nat} {g : Nat → Int32} (C : jOk Γ l (jrm 3 0 0) cX1_comes "JoinLoom$Cloth" (none) 4) (hQ : jRt Γ (jRv (sM (sA z (3, j) (stC g (zM z (tv, jv)) p n)) (2, j) 1 (nI (m + 1)))) 0 0 "comes") (h1 : zL z (2, j) = true) (h2 : zL z (3, j) = true) (hkv : kd tv = .inl (0, 6)) (h4 : zL z (tv, jv) = true) (hne : (tv, jv) ≠ (3, j)) (hn : zM z (2, j) 0 = nI n) (hn6 : n ≤ 6) (hm : zM z (2, j) 1 = nI m) (hm5 : m ≤ 500) (hp : p ≤ m) :
    ∀ (w k : Nat), k + w = n → jG Γ 0 0 (sA z (3, j) (stC g (zM z (tv, jv)) p k)) 66 [(0, .ref (zA z (2, j))), (1, .ref (zA z (tv, jv))), (2, .int (nI p)), (3, .int (nI k))] [] := by
  have hv : ∀ f, zM (sA z (3, j) f) (2, j) 0 = nI n := fun f => by rw [zM_sA_n (by simp)]; exact hn
  have hv1 : ∀ f, zM (sA z (3, j) f) (2, j) 1 = nI m := fun f => by rw [zM_sA_n (by simp)]; exact hm
  intro w
  induction w with
  | zero =>
    intro k hk
    have e : k = n := by omega
    subst e
    refine g_iload_n C dX1_comes_66 rfl rfl ?_
    refine g_aload_n C dX1_comes_67 rfl rfl ?_
    refine f_X1_names C h1 (Or.inl q88) (Or.inl rfl) dX1_comes_68 ?_
    refine g_top (hv _) ?_
    first | refine g_icmp_ge_n (tgt := 94) C dX1_comes_71 (by decide) (by omega) (by omega) (fun c71 => ?_) (fun c71 => ?_) | refine g_icmp_ge (tgt := 94) C dX1_comes_71 (by decide) (fun c71 => ?_) (fun c71 => ?_)
    · refine g_aload_n C dX1_comes_94 rfl rfl ?_
      refine g_dup C dX1_comes_95 rfl ?_
      refine f_X1_many C h1 (Or.inl q91) (Or.inl rfl) dX1_comes_96 ?_
      refine g_top (hv1 _) ?_
      refine g_iconst (v := nI 1) C dX1_comes_99 (by decide) ?_
      first | refine g_iadd_n C dX1_comes_100 ?_ | refine g_iadd C dX1_comes_100 ?_
      refine p_X1_many C hQ h1 (Or.inl q91) (Or.inl rfl) dX1_comes_101 ?_
      exact g_vreturn C hQ (by omega) (by omega) dX1_comes_104 (⟨rfl, rfl⟩)
    · omega
  | succ w ih =>
    intro k hk
    refine g_iload_n C dX1_comes_66 rfl rfl ?_
    refine g_aload_n C dX1_comes_67 rfl rfl ?_
    refine f_X1_names C h1 (Or.inl q88) (Or.inl rfl) dX1_comes_68 ?_
    refine g_top (hv _) ?_
    first | refine g_icmp_ge_n (tgt := 94) C dX1_comes_71 (by decide) (by omega) (by omega) (fun c71 => ?_) (fun c71 => ?_) | refine g_icmp_ge (tgt := 94) C dX1_comes_71 (by decide) (fun c71 => ?_) (fun c71 => ?_)
    · omega
    · refine g_aload_n C dX1_comes_74 rfl rfl ?_
      refine f_X1_values C h1 (Or.inl q93) (Or.inl rfl) dX1_comes_75 ?_
      refine g_iload_n C dX1_comes_78 rfl rfl ?_
      refine g_bipush (v := nI 6) C dX1_comes_79 (by decide) ?_
      first | refine g_imul_n C dX1_comes_81 ?_ | refine g_imul C dX1_comes_81 ?_
      refine g_iload_n C dX1_comes_82 rfl rfl ?_
      first | refine g_iadd_n C dX1_comes_83 ?_ | refine g_iadd C dX1_comes_83 ?_
      refine g_aload_n C dX1_comes_84 rfl rfl ?_
      refine g_iload_n C dX1_comes_85 rfl rfl ?_
      refine g_iald (n := 6) C hkv h4 rfl (by omega) (by decide) dX1_comes_86 ?_
      refine g_top ((show _ = zM z (tv, jv) k by rw [zM_sA_n hne])) ?_
      refine g_iast (n := 3006) C rfl h2 rfl (by omega) (by decide) dX1_comes_87 ?_
      first | refine g_iinc1 (lv' := [(0, _), (1, _), (2, _), (3, _)]) C dX1_comes_88 rfl (by decide) rfl ?_ | refine g_iinc (lv' := [(0, _), (1, _), (2, _), (3, _)]) C dX1_comes_88 rfl rfl (by decide) rfl ?_
      refine g_goto (tgt := 66) C dX1_comes_91 (by decide) ?_
      refine g_z ?_ (ih (k + 1) (by omega))
      rw [sM_sA, stC_step]
/-- the inner loop: a row goes one on -/
theorem li_X1_comes {Γ : JC} {l : Launch} {z : JZ} {j i : Nat} {g : Nat → Int32} {w : Value} {R : Room} {ret : Option FieldType} (C : jOk Γ l R cX1_comes "JoinLoom$Cloth" ret 4) (h1 : zL z (2, j) = true) (h2 : zL z (3, j) = true) (h0 : 0 < i) (hi : i ≤ 500) (K : jG Γ 0 0 (sA z (3, j) (mvC g (i - 1) i 6)) 58 [(0, .ref (zA z (2, j))), (1, w), (2, .int (nI i)), (3, .int (nI 6))] []) :
    ∀ (w' k : Nat), k + w' = 6 → jG Γ 0 0 (sA z (3, j) (mvC g (i - 1) i k)) 22 [(0, .ref (zA z (2, j))), (1, w), (2, .int (nI i)), (3, .int (nI k))] [] := by
  intro w'
  induction w' with
  | zero =>
    intro k hk
    have e : k = 6 := by omega
    subst e
    refine g_iload_n C dX1_comes_22 rfl rfl ?_
    refine g_bipush (v := nI 6) C dX1_comes_23 (by decide) ?_
    first | refine g_icmp_ge_n (tgt := 58) C dX1_comes_25 (by decide) (by omega) (by omega) (fun c25 => ?_) (fun c25 => ?_) | refine g_icmp_ge (tgt := 58) C dX1_comes_25 (by decide) (fun c25 => ?_) (fun c25 => ?_)
    · exact K
    · omega
  | succ w' ih =>
    intro k hk
    refine g_iload_n C dX1_comes_22 rfl rfl ?_
    refine g_bipush (v := nI 6) C dX1_comes_23 (by decide) ?_
    first | refine g_icmp_ge_n (tgt := 58) C dX1_comes_25 (by decide) (by omega) (by omega) (fun c25 => ?_) (fun c25 => ?_) | refine g_icmp_ge (tgt := 58) C dX1_comes_25 (by decide) (fun c25 => ?_) (fun c25 => ?_)
    · omega
    · refine g_aload_n C dX1_comes_28 rfl rfl ?_
      refine f_X1_values C h1 (Or.inl q93) (Or.inl rfl) dX1_comes_29 ?_
      refine g_iload_n C dX1_comes_32 rfl rfl ?_
      refine g_bipush (v := nI 6) C dX1_comes_33 (by decide) ?_
      first | refine g_imul_n C dX1_comes_35 ?_ | refine g_imul C dX1_comes_35 ?_
      refine g_iload_n C dX1_comes_36 rfl rfl ?_
      first | refine g_iadd_n C dX1_comes_37 ?_ | refine g_iadd C dX1_comes_37 ?_
      refine g_aload_n C dX1_comes_38 rfl rfl ?_
      refine f_X1_values C h1 (Or.inl q93) (Or.inl rfl) dX1_comes_39 ?_
      refine g_iload_n C dX1_comes_42 rfl rfl ?_
      refine g_iconst (v := nI 1) C dX1_comes_43 (by decide) ?_
      first | refine g_isub_n C dX1_comes_44 (by omega) ?_ | refine g_isub C dX1_comes_44 ?_
      refine g_bipush (v := nI 6) C dX1_comes_45 (by decide) ?_
      first | refine g_imul_n C dX1_comes_47 ?_ | refine g_imul C dX1_comes_47 ?_
      refine g_iload_n C dX1_comes_48 rfl rfl ?_
      first | refine g_iadd_n C dX1_comes_49 ?_ | refine g_iadd C dX1_comes_49 ?_
      refine g_iald (n := 3006) C rfl h2 rfl (by omega) (by decide) dX1_comes_50 ?_
      refine g_top ((show _ = mvC g (i - 1) i k ((i - 1) * 6 + k) by rw [zM_sA_s])) ?_
      refine g_iast (n := 3006) C rfl h2 rfl (by omega) (by decide) dX1_comes_51 ?_
      first | refine g_iinc1 (lv' := [(0, _), (1, _), (2, _), (3, _)]) C dX1_comes_52 rfl (by decide) rfl ?_ | refine g_iinc (lv' := [(0, _), (1, _), (2, _), (3, _)]) C dX1_comes_52 rfl rfl (by decide) rfl ?_
      refine g_goto (tgt := 22) C dX1_comes_55 (by decide) ?_
      refine g_z ?_ (ih (k + 1) (by omega))
      rw [sM_sA, mvC_step g (by omega) (by omega)]
theorem lp_X1_comes {Γ : JC} {l : Launch} {z : JZ} {j n m p tv jv : Nat} (C : jOk Γ l (jrm 3 0 0) cX1_comes "JoinLoom$Cloth" (none) 4) (hQ : jRt Γ (jRv (sM (sA z (3, j) (stC (shC (zM z (3, j)) p m) (zM z (tv, jv)) p n)) (2, j) 1 (nI (m + 1)))) 0 0 "comes") (h1 : zL z (2, j) = true) (h2 : zL z (3, j) = true) (hkv : kd tv = .inl (0, 6)) (h4 : zL z (tv, jv) = true) (hne : (tv, jv) ≠ (3, j)) (hn : zM z (2, j) 0 = nI n) (hn6 : n ≤ 6) (hm : zM z (2, j) 1 = nI m) (hm5 : m < 500) (hp : p ≤ m)
    (hp1 : ∀ i, p ≤ i → i < m → 0 < cmpF (fun k => zM z (3, j) (i * 6 + k)) (zM z (tv, jv)) n 0) (hp2 : 0 < p → ¬ 0 < cmpF (fun k => zM z (3, j) ((p - 1) * 6 + k)) (zM z (tv, jv)) n 0) :
    ∀ (w i : Nat), i = p + w → i ≤ m → jG Γ 0 0 (sA z (3, j) (shC (zM z (3, j)) i m)) 5 [(0, .ref (zA z (2, j))), (1, .ref (zA z (tv, jv))), (2, .int (nI i))] [] := by
  have hv : ∀ f, zM (sA z (3, j) f) (2, j) 0 = nI n := fun f => by rw [zM_sA_n (by simp)]; exact hn
  have hrow : ∀ f, zM (sA z (3, j) f) (tv, jv) = zM z (tv, jv) := fun f => by rw [zM_sA_n hne]
  have hcm : ∀ i, 0 < i → i ≤ m → cmpF (fun k => zM (sA z (3, j) (shC (zM z (3, j)) i m)) (3, j) ((i - 1) * 6 + k)) (zM (sA z (3, j) (shC (zM z (3, j)) i m)) (tv, jv)) n 0 = cmpF (fun k => zM z (3, j) ((i - 1) * 6 + k)) (zM z (tv, jv)) n 0 := by
    intro i h0 hi
    rw [hrow, zM_sA_s]
    refine cmpF_congr (fun k _ hk => ⟨?_, rfl⟩)
    simp only [shC]
    rw [if_neg (by omega)]
  intro w
  induction w with
  | zero =>
    intro i hi hin
    have e : i = p := by omega
    subst e
    refine g_iload_n C dX1_comes_5 rfl rfl ?_
    refine g_if_le_n (tgt := 64) C dX1_comes_6 (by decide) (by omega) (fun c6 => ?_) (fun c6 => ?_)
    · refine g_iconst (v := nI 0) C dX1_comes_64 (by decide) ?_
      refine g_istore_n (lv' := [(0, _), (1, _), (2, _), (3, _)]) C dX1_comes_65 rfl (by decide) rfl ?_
      refine g_z ?_ (tl_X1_comes C hQ h1 h2 hkv h4 hne hn hn6 hm (by omega) hp n 0 (by omega))
      rw [stC_0]
    · refine g_aload_n C dX1_comes_9 rfl rfl ?_
      refine g_iload_n C dX1_comes_10 rfl rfl ?_
      refine g_iconst (v := nI 1) C dX1_comes_11 (by decide) ?_
      first | refine g_isub_n C dX1_comes_12 (by omega) ?_ | refine g_isub C dX1_comes_12 ?_
      refine g_aload_n C dX1_comes_13 rfl rfl ?_
      refine g_cfi (g_runV C (m_X1_compare l _ j (i - 1) n tv jv h1 h2 hkv h4 (hv _) hn6 (by omega)) ciX1_compare q535 (Or.inl qs10) (Or.inl q533) h1 rfl rfl rfl rfl (Nat.le_of_ble_eq_true rfl) dX1_comes_14 (by decide)) ?_
      refine g_top (hcm i (by omega) hin) ?_
      refine g_if_le (tgt := 64) C dX1_comes_17 (by decide) (fun c17 => ?_) (fun c17 => ?_)
      · refine g_iconst (v := nI 0) C dX1_comes_64 (by decide) ?_
        refine g_istore_n (lv' := [(0, _), (1, _), (2, _), (3, _)]) C dX1_comes_65 rfl (by decide) rfl ?_
        refine g_z ?_ (tl_X1_comes C hQ h1 h2 hkv h4 hne hn hn6 hm (by omega) hp n 0 (by omega))
        rw [stC_0]
      · exact absurd (Int32.not_le.mp c17) (hp2 (by omega))
  | succ w ih =>
    intro i hi hin
    refine g_iload_n C dX1_comes_5 rfl rfl ?_
    refine g_if_le_n (tgt := 64) C dX1_comes_6 (by decide) (by omega) (fun c6 => ?_) (fun c6 => ?_)
    · omega
    · refine g_aload_n C dX1_comes_9 rfl rfl ?_
      refine g_iload_n C dX1_comes_10 rfl rfl ?_
      refine g_iconst (v := nI 1) C dX1_comes_11 (by decide) ?_
      first | refine g_isub_n C dX1_comes_12 (by omega) ?_ | refine g_isub C dX1_comes_12 ?_
      refine g_aload_n C dX1_comes_13 rfl rfl ?_
      refine g_cfi (g_runV C (m_X1_compare l _ j (i - 1) n tv jv h1 h2 hkv h4 (hv _) hn6 (by omega)) ciX1_compare q535 (Or.inl qs10) (Or.inl q533) h1 rfl rfl rfl rfl (Nat.le_of_ble_eq_true rfl) dX1_comes_14 (by decide)) ?_
      refine g_top (hcm i (by omega) hin) ?_
      refine g_if_le (tgt := 64) C dX1_comes_17 (by decide) (fun c17 => ?_) (fun c17 => ?_)
      · exact absurd (hp1 (i - 1) (by omega) (by omega)) (Int32.not_lt.mpr c17)
      · refine g_iconst (v := nI 0) C dX1_comes_20 (by decide) ?_
        refine g_istore_n (lv' := [(0, _), (1, _), (2, _), (3, _)]) C dX1_comes_21 rfl (by decide) rfl ?_
        refine g_z (show _ = sA z (3, j) (mvC (shC (zM z (3, j)) i m) (i - 1) i 0) by rw [mvC_0]) ?_
        refine li_X1_comes C h1 h2 (by omega) (by omega) ?_ 6 0 (by omega)
        refine g_iincm (lv' := [(0, _), (1, _), (2, _), (3, _)]) C dX1_comes_58 rfl (by omega) (by decide) rfl ?_
        refine g_goto (tgt := 5) C dX1_comes_61 (by decide) ?_
        refine g_take 3 rfl ?_
        refine g_z ?_ (ih (i - 1) (by omega) (by omega))
        rw [mv_shC _ (by omega) hin]
theorem m_X1_comes (l : Launch) (z : JZ) (j n m p tv jv : Nat) (h1 : zL z (2, j) = true) (h2 : zL z (3, j) = true) (hkv : kd tv = .inl (0, 6)) (h4 : zL z (tv, jv) = true) (hne : (tv, jv) ≠ (3, j)) (hn : zM z (2, j) 0 = nI n) (hn6 : n ≤ 6) (hm : zM z (2, j) 1 = nI m) (hm5 : m < 500) (hp : p ≤ m)
    (hp1 : ∀ i, p ≤ i → i < m → 0 < cmpF (fun k => zM z (3, j) (i * 6 + k)) (zM z (tv, jv)) n 0) (hp2 : 0 < p → ¬ 0 < cmpF (fun k => zM z (3, j) ((p - 1) * 6 + k)) (zM z (tv, jv)) n 0) : jCt l yX1_comes cX1_comes 4 (none) 3 0 0 [.ref (zA z (2, j)), .ref (zA z (tv, jv))] z (jRv (sM (sA z (3, j) (stC (shC (zM z (3, j)) p m) (zM z (tv, jv)) p n)) (2, j) 1 (nI (m + 1)))) := by
  refine (jCt.of "JoinLoom$Cloth" "comes" [(0, _), (1, _)] rfl rfl (by decide) (Nat.le_of_ble_eq_true rfl) rfl (fun Γ C hQ => ?_))
  refine g_aload_n C dX1_comes_0 rfl rfl ?_
  refine f_X1_many C h1 (Or.inl q91) (Or.inl rfl) dX1_comes_1 ?_
  refine g_top (hm) ?_
  refine g_istore_n (lv' := [(0, _), (1, _), (2, _)]) C dX1_comes_4 rfl (by decide) rfl ?_
  refine g_z ?_ (lp_X1_comes C hQ h1 h2 hkv h4 hne hn hn6 hm hm5 hp hp1 hp2 (m - p) m (by omega) (by omega))
  rw [shC_id, sA_self]
