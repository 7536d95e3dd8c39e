set_option maxRecDepth 100000
/-- values by their order -/
def jNO : Int32 := -2147483648
def rkL (v : Int32) : Int64 := if v = -2147483648 then 4294967296 else v.toInt64
def rk (v : Int32) : Int := if v = -2147483648 then 4294967296 else v.toInt
theorem rkL_int (v : Int32) : (rkL v).toInt = rk v := by
  unfold rkL rk
  split
  · rfl
  · simp
theorem rkL_lt (a b : Int32) : rkL a < rkL b ↔ rk a < rk b := by
  rw [Int64.lt_iff_toInt_lt, rkL_int, rkL_int]
theorem rk_inj {a b : Int32} (h : rk a = rk b) : a = b := by
  have ha := a.toInt_lt
  have hb := b.toInt_lt
  unfold rk at h
  split at h <;> split at h
  · rename_i h1 h2; rw [h1, h2]
  · omega
  · omega
  · exact Int32.toInt_inj.mp h
theorem rkL_eq (a b : Int32) : rkL a = rkL b ↔ a = b := by
  constructor
  · intro h
    apply rk_inj
    rw [← rkL_int, ← rkL_int, h]
  · rintro rfl; rfl
/-- two rows of values, from k on, n of them -/
def cmpF (u v : Nat → Int32) : Nat → Nat → Int32
  | 0, _ => 0
  | n + 1, k => if u k = v k then cmpF u v n (k + 1) else if rk (u k) < rk (v k) then -1 else 1
def sel3 (a b c : Int32) : Nat → Int32 := fun k => if k = 0 then a else if k = 1 then b else c
theorem m_X0_rank (l : Launch) (z : JZ) (v : Int32) : jCt l yX0_rank cX0_rank 1 (some FieldType.long) 1 0 0 [.int v] z (jRl (rkL v) z) := by
  refine (jCt.of "JoinLoom" "rank" [(0, _)] rfl rfl (by decide) (Nat.le_of_ble_eq_true rfl) rfl (fun Γ C hQ => ?_))
  refine g_iload_n C dX0_rank_0 rfl rfl ?_
  refine g_ldc C dX0_rank_1 q287 ?_
  first | refine g_icmp_ne_n (tgt := 12) C dX0_rank_3 (by decide) (by omega) (by omega) (fun c3 => ?_) (fun c3 => ?_) | refine g_icmp_ne (tgt := 12) C dX0_rank_3 (by decide) (fun c3 => ?_) (fun c3 => ?_)
  · refine g_iload_n C dX0_rank_12 rfl rfl ?_
    refine g_i2l C dX0_rank_13 ?_
    exact g_lreturn C hQ (by omega) (by omega) dX0_rank_14 (⟨by rw [rkL]; split <;> first | rfl | contradiction, rfl⟩)
  · refine g_ldc2 C dX0_rank_6 q288 ?_
    refine g_goto (tgt := 14) C dX0_rank_9 (by decide) ?_
    exact g_lreturn C hQ (by omega) (by omega) dX0_rank_14 (⟨by rw [rkL]; split <;> first | rfl | contradiction, rfl⟩)
theorem m_X5_at (l : Launch) (z : JZ) (t r c : Nat) (h1 : zL z (27, t) = true) (h2 : zL z (28, t) = true) (hb : r * 3 + c < 120) : jCt l yX5_at cX5_at 3 (some FieldType.int) 1 0 0 [.ref (zA z (27, t)), .int (nI r), .int (nI c)] z (jRi (zM z (28, t) (r * 3 + c)) z) := by
  refine (jCt.of "JoinLoom$Table" "at" [(0, _), (1, _), (2, _)] rfl rfl (by decide) (Nat.le_of_ble_eq_true rfl) rfl (fun Γ C hQ => ?_))
  refine g_aload_n C dX5_at_0 rfl rfl ?_
  refine f_X5_values C h1 (Or.inl q249) (Or.inl rfl) dX5_at_1 ?_
  refine g_iload_n C dX5_at_4 rfl rfl ?_
  refine g_iconst (v := nI 3) C dX5_at_5 (by decide) ?_
  first | refine g_imul_n C dX5_at_6 ?_ | refine g_imul C dX5_at_6 ?_
  refine g_iload_n C dX5_at_7 rfl rfl ?_
  first | refine g_iadd_n C dX5_at_8 ?_ | refine g_iadd C dX5_at_8 ?_
  refine g_iald (n := 120) C rfl h2 rfl (by omega) (by decide) dX5_at_9 ?_
  exact g_ireturn C hQ rfl (by omega) (by omega) dX5_at_10 (⟨rfl, rfl⟩)
theorem sA_sA (z : JZ) (i : JId) (f g : Nat → Int32) : sA (sA z i f) i g = sA z i g := by
  unfold sA wM
  simp only [Prod.mk.injEq, true_and, and_true]
  funext j
  by_cases h : j = i <;> simp [h]
theorem sM_sA (z : JZ) (i : JId) (f : Nat → Int32) (k : Nat) (v : Int32) : sM (sA z i f) i k v = sA z i (upd f k v) := by
  unfold sM
  rw [zM_sA_s, sA_sA]
theorem sA_self (z : JZ) (i : JId) : sA z i (zM z i) = z := by
  unfold sA wM
  obtain ⟨a, b, c, d⟩ := z
  simp only [Prod.mk.injEq, true_and, and_true]
  funext j
  by_cases h : j = i
  · subst h; simp [zM]
  · simp [h]
theorem sA_comm (z : JZ) {i j : JId} (h : i ≠ j) (f g : Nat → Int32) : sA (sA z i f) j g = sA (sA z j g) i f := by
  unfold sA wM
  simp only [Prod.mk.injEq, true_and, and_true]
  funext k
  by_cases h1 : k = i <;> by_cases h2 : k = j <;> simp_all
set_option maxHeartbeats 1000000 in
theorem lp_X5_compare {Γ : JC} {l : Launch} {z : JZ} {t r n : Nat} {a b c : Int32} (C : jOk Γ l (jrm 2 0 0) cX5_compare "JoinLoom$Table" (some FieldType.int) 7) (hQ : jRt Γ (jRi (cmpF (fun k => zM z (28, t) (r * 3 + k)) (sel3 a b c) n 0) z) 0 0 "compare") (h1 : zL z (27, t) = true) (h2 : zL z (28, t) = true) (hn : zM z (27, t) 0 = nI n) (hn3 : n ≤ 3) (hr : r < 40) :
    ∀ (m k : Nat), k + m = n → cmpF (fun k => zM z (28, t) (r * 3 + k)) (sel3 a b c) n 0 = cmpF (fun k => zM z (28, t) (r * 3 + k)) (sel3 a b c) m k → jG Γ 0 0 z 3 [(0, .ref (zA z (27, t))), (1, .int (nI r)), (2, .int a), (3, .int b), (4, .int c), (5, .int (nI k))] [] := by
  intro m
  induction m with
  | zero =>
    intro k hk he
    refine g_iload C dX5_compare_3 rfl ?_
    refine g_aload_n C dX5_compare_5 rfl rfl ?_
    refine f_X5_columns C h1 (Or.inl q246) (Or.inl rfl) dX5_compare_6 ?_
    refine g_top (hn) ?_
    first | refine g_icmp_ge_n (tgt := 78) C dX5_compare_9 (by decide) (by omega) (by omega) (fun c9 => ?_) (fun c9 => ?_) | refine g_icmp_ge (tgt := 78) C dX5_compare_9 (by decide) (fun c9 => ?_) (fun c9 => ?_)
    · refine g_iconst (v := nI 0) C dX5_compare_78 (by decide) ?_
      exact g_ireturn C hQ rfl (by omega) (by omega) dX5_compare_79 (⟨by rw [he]; rfl, rfl⟩)
    · omega
  | succ m ih =>
    intro k hk he
    have J : jG Γ 0 0 z 33 [(0, .ref (zA z (27, t))), (1, .int (nI r)), (2, .int a), (3, .int b), (4, .int c), (5, .int (nI k))] [.int (sel3 a b c k)] := by
      refine g_istore (lv' := [(0, _), (1, _), (2, _), (3, _), (4, _), (5, _), (6, _)]) C dX5_compare_33 (by decide) rfl ?_
      refine g_aload_n C dX5_compare_35 rfl rfl ?_
      refine g_iload_n C dX5_compare_36 rfl rfl ?_
      refine g_iload C dX5_compare_37 rfl ?_
      refine g_cfi (g_runV C (m_X5_at l z t r k h1 h2 (by omega)) ciX5_at q281 (Or.inl q282) (Or.inl q280) h1 rfl rfl rfl rfl (Nat.le_of_ble_eq_true rfl) dX5_compare_39 (by decide)) ?_
      refine g_iload C dX5_compare_42 rfl ?_
      refine g_icmp_eq (tgt := 72) C dX5_compare_44 (by decide) (fun c44 => ?_) (fun c44 => ?_)
      · first | refine g_iinc1 (lv' := [(0, _), (1, _), (2, _), (3, _), (4, _), (5, _), (6, _)]) C dX5_compare_72 rfl (by decide) rfl ?_ | refine g_iinc (lv' := [(0, _), (1, _), (2, _), (3, _), (4, _), (5, _), (6, _)]) C dX5_compare_72 rfl rfl (by decide) rfl ?_
        refine g_goto (tgt := 3) C dX5_compare_75 (by decide) ?_
        refine g_take 6 rfl ?_
        exact ih (k + 1) (by omega) (by rw [he, cmpF, if_pos c44])
      · refine g_aload_n C dX5_compare_47 rfl rfl ?_
        refine g_iload_n C dX5_compare_48 rfl rfl ?_
        refine g_iload C dX5_compare_49 rfl ?_
        refine g_cfi (g_runV C (m_X5_at l z t r k h1 h2 (by omega)) ciX5_at q281 (Or.inl q282) (Or.inl q280) h1 rfl rfl rfl rfl (Nat.le_of_ble_eq_true rfl) dX5_compare_51 (by decide)) ?_
        refine g_cfl (g_runS C (m_X0_rank l z _) ciX0_rank q285 (Or.inr ⟨_, nq284⟩) rfl rfl (Nat.le_of_ble_eq_true rfl) dX5_compare_54 (by decide)) ?_
        refine g_iload C dX5_compare_57 rfl ?_
        refine g_cfl (g_runS C (m_X0_rank l z _) ciX0_rank q285 (Or.inr ⟨_, nq284⟩) rfl rfl (Nat.le_of_ble_eq_true rfl) dX5_compare_59 (by decide)) ?_
        refine g_lcmp C dX5_compare_62 ?_
        refine g_if_ge_c (tgt := 70) C dX5_compare_63 (by decide) (fun c63 => ?_) (fun c63 => ?_)
        · refine g_iconst (v := nI 1) C dX5_compare_70 (by decide) ?_
          exact g_ireturn C hQ rfl (by omega) (by omega) dX5_compare_71 (⟨by first | (rw [he, cmpF, if_neg c44, if_pos ((rkL_lt _ _).mp c63)] <;> rfl) | (rw [he, cmpF, if_neg c44, if_neg (fun e => c63 ((rkL_lt _ _).mpr e))] <;> rfl), rfl⟩)
        · refine g_iconst (v := (-1)) C dX5_compare_66 (by decide) ?_
          refine g_goto (tgt := 71) C dX5_compare_67 (by decide) ?_
          exact g_ireturn C hQ rfl (by omega) (by omega) dX5_compare_71 (⟨by first | (rw [he, cmpF, if_neg c44, if_pos ((rkL_lt _ _).mp c63)] <;> rfl) | (rw [he, cmpF, if_neg c44, if_neg (fun e => c63 ((rkL_lt _ _).mpr e))] <;> rfl), rfl⟩)
    refine g_iload C dX5_compare_3 rfl ?_
    refine g_aload_n C dX5_compare_5 rfl rfl ?_
    refine f_X5_columns C h1 (Or.inl q246) (Or.inl rfl) dX5_compare_6 ?_
    refine g_top (hn) ?_
    first | refine g_icmp_ge_n (tgt := 78) C dX5_compare_9 (by decide) (by omega) (by omega) (fun c9 => ?_) (fun c9 => ?_) | refine g_icmp_ge (tgt := 78) C dX5_compare_9 (by decide) (fun c9 => ?_) (fun c9 => ?_)
    · omega
    · refine g_iload C dX5_compare_12 rfl ?_
      refine g_if_ne_n (tgt := 21) C dX5_compare_14 (by decide) (by omega) (fun c14 => ?_) (fun c14 => ?_)
      · refine g_iload C dX5_compare_21 rfl ?_
        refine g_iconst (v := nI 1) C dX5_compare_23 (by decide) ?_
        refine g_icmp_ne_n (tgt := 31) C dX5_compare_24 (by decide) (by omega) (by omega) (fun c24 => ?_) (fun c24 => ?_)
        · refine g_iload C dX5_compare_31 rfl ?_
          exact g_top (by simp [sel3, *]) J
        · refine g_iload_n C dX5_compare_27 rfl rfl ?_
          refine g_goto (tgt := 33) C dX5_compare_28 (by decide) ?_
          exact g_top (by simp [sel3, *]) J
      · refine g_iload_n C dX5_compare_17 rfl rfl ?_
        refine g_goto (tgt := 33) C dX5_compare_18 (by decide) ?_
        exact g_top (by simp [sel3, *]) J
theorem m_X5_compare (l : Launch) (z : JZ) (t r n : Nat) (a b c : Int32) (h1 : zL z (27, t) = true) (h2 : zL z (28, t) = true) (hn : zM z (27, t) 0 = nI n) (hn3 : n ≤ 3) (hr : r < 40) : jCt l yX5_compare cX5_compare 7 (some FieldType.int) 2 0 0 [.ref (zA z (27, t)), .int (nI r), .int a, .int b, .int c] z (jRi (cmpF (fun k => zM z (28, t) (r * 3 + k)) (sel3 a b c) n 0) z) := by
  refine (jCt.of "JoinLoom$Table" "compare" [(0, _), (1, _), (2, _), (3, _), (4, _)] rfl rfl (by decide) (Nat.le_of_ble_eq_true rfl) rfl (fun Γ C hQ => ?_))
  refine g_iconst (v := nI 0) C dX5_compare_0 (by decide) ?_
  refine g_istore (lv' := [(0, _), (1, _), (2, _), (3, _), (4, _), (5, _)]) C dX5_compare_1 (by decide) rfl ?_
  exact lp_X5_compare C hQ h1 h2 hn hn3 hr n 0 (by omega) rfl
/-- the first row that is not ahead of three values is row p -/
def jPl3 (z : JZ) (t n m p : Nat) (a b c : Int32) : Prop := p ≤ m ∧ (∀ i, i < p → cmpF (fun k => zM z (28, t) (i * 3 + k)) (sel3 a b c) n 0 < 0) ∧ ∀ i, p ≤ i → i < m → ¬ cmpF (fun k => zM z (28, t) (i * 3 + k)) (sel3 a b c) n 0 < 0
theorem lp_X5_place {Γ : JC} {l : Launch} {z : JZ} {t n m p : Nat} {a b c : Int32} (C : jOk Γ l (jrm 3 0 0) cX5_place "JoinLoom$Table" (some FieldType.int) 7) (hQ : jRt Γ (jRi (nI p) z) 0 0 "place") (h1 : zL z (27, t) = true) (h2 : zL z (28, t) = true) (hn : zM z (27, t) 0 = nI n) (hn3 : n ≤ 3) (hm : m ≤ 40) (hp : jPl3 z t n m p a b c) :
    ∀ (w lo hi : Nat), hi - lo ≤ w → lo ≤ p → p ≤ hi → hi ≤ m → jG Γ 0 0 z 9 [(0, .ref (zA z (27, t))), (1, .int a), (2, .int b), (3, .int c), (4, .int (nI lo)), (5, .int (nI hi))] [] := by
  obtain ⟨hp0, hp1, hp2⟩ := hp
  intro w
  induction w with
  | zero =>
    intro lo hi hw h3 h4 h5
    have e : lo = p := by omega
    subst e
    refine g_iload C dX5_place_9 rfl ?_
    refine g_iload C dX5_place_11 rfl ?_
    first | refine g_icmp_ge_n (tgt := 53) C dX5_place_13 (by decide) (by omega) (by omega) (fun c13 => ?_) (fun c13 => ?_) | refine g_icmp_ge (tgt := 53) C dX5_place_13 (by decide) (fun c13 => ?_) (fun c13 => ?_)
    · refine g_iload C dX5_place_53 rfl ?_
      exact g_ireturn C hQ rfl (by omega) (by omega) dX5_place_55 (⟨rfl, rfl⟩)
    · omega
  | succ w ih =>
    intro lo hi hw h3 h4 h5
    refine g_iload C dX5_place_9 rfl ?_
    refine g_iload C dX5_place_11 rfl ?_
    first | refine g_icmp_ge_n (tgt := 53) C dX5_place_13 (by decide) (by omega) (by omega) (fun c13 => ?_) (fun c13 => ?_) | refine g_icmp_ge (tgt := 53) C dX5_place_13 (by decide) (fun c13 => ?_) (fun c13 => ?_)
    · have e : lo = p := by omega
      subst e
      refine g_iload C dX5_place_53 rfl ?_
      exact g_ireturn C hQ rfl (by omega) (by omega) dX5_place_55 (⟨rfl, rfl⟩)
    · refine g_iload C dX5_place_16 rfl ?_
      refine g_iload C dX5_place_18 rfl ?_
      first | refine g_iadd_n C dX5_place_20 ?_ | refine g_iadd C dX5_place_20 ?_
      refine g_iconst (v := nI 2) C dX5_place_21 (by decide) ?_
      first | refine g_idiv_n C dX5_place_22 (by omega) (by omega) (by omega) ?_ | refine g_idiv C dX5_place_22 (by decide) ?_
      refine g_istore (lv' := [(0, _), (1, _), (2, _), (3, _), (4, _), (5, _), (6, _)]) C dX5_place_23 (by decide) rfl ?_
      refine g_aload_n C dX5_place_25 rfl rfl ?_
      refine g_iload C dX5_place_26 rfl ?_
      refine g_iload_n C dX5_place_28 rfl rfl ?_
      refine g_iload_n C dX5_place_29 rfl rfl ?_
      refine g_iload_n C dX5_place_30 rfl rfl ?_
      refine g_cfi (g_runV C (m_X5_compare l z t _ n a b c h1 h2 hn hn3 (by omega)) ciX5_compare q278 (Or.inl qs1) (Or.inl q276) h1 rfl rfl rfl rfl (Nat.le_of_ble_eq_true rfl) dX5_place_31 (by decide)) ?_
      refine g_if_ge (tgt := 46) C dX5_place_34 (by decide) (fun c34 => ?_) (fun c34 => ?_)
      · refine g_iload C dX5_place_46 rfl ?_
        refine g_istore (lv' := [(0, _), (1, _), (2, _), (3, _), (4, _), (5, _), (6, _)]) C dX5_place_48 (by decide) rfl ?_
        refine g_goto (tgt := 9) C dX5_place_50 (by decide) ?_
        refine g_take 6 rfl ?_
        first | exact ih _ _ (by omega) (Nat.not_lt.mp (fun e => Int32.not_lt.mpr c34 (hp1 _ e))) (by omega) (by omega) | exact ih _ _ (by omega) (by omega) (Nat.not_lt.mp (fun e => Int32.not_lt.mpr c34 (hp1 _ e))) (by omega) | exact ih _ _ (by omega) (Nat.not_le.mp (fun e => hp2 _ e (by omega) (Int32.not_le.mp c34))) (by omega) (by omega)
      · refine g_iload C dX5_place_37 rfl ?_
        refine g_iconst (v := nI 1) C dX5_place_39 (by decide) ?_
        first | refine g_iadd_n C dX5_place_40 ?_ | refine g_iadd C dX5_place_40 ?_
        refine g_istore (lv' := [(0, _), (1, _), (2, _), (3, _), (4, _), (5, _), (6, _)]) C dX5_place_41 (by decide) rfl ?_
        refine g_goto (tgt := 50) C dX5_place_43 (by decide) ?_
        refine g_goto (tgt := 9) C dX5_place_50 (by decide) ?_
        refine g_take 6 rfl ?_
        first | exact ih _ _ (by omega) (Nat.not_lt.mp (fun e => Int32.not_lt.mpr c34 (hp1 _ e))) (by omega) (by omega) | exact ih _ _ (by omega) (by omega) (Nat.not_lt.mp (fun e => Int32.not_lt.mpr c34 (hp1 _ e))) (by omega) | exact ih _ _ (by omega) (Nat.not_le.mp (fun e => hp2 _ e (by omega) (Int32.not_le.mp c34))) (by omega) (by omega)
theorem m_X5_place (l : Launch) (z : JZ) (t n m p : Nat) (a b c : Int32) (h1 : zL z (27, t) = true) (h2 : zL z (28, t) = true) (hn : zM z (27, t) 0 = nI n) (hn3 : n ≤ 3) (hm : m ≤ 40) (hmm : zM z (27, t) 2 = nI m) (hp : jPl3 z t n m p a b c) : jCt l yX5_place cX5_place 7 (some FieldType.int) 3 0 0 [.ref (zA z (27, t)), .int a, .int b, .int c] z (jRi (nI p) z) := by
  refine (jCt.of "JoinLoom$Table" "place" [(0, _), (1, _), (2, _), (3, _)] rfl rfl (by decide) (Nat.le_of_ble_eq_true rfl) rfl (fun Γ C hQ => ?_))
  refine g_iconst (v := nI 0) C dX5_place_0 (by decide) ?_
  refine g_istore (lv' := [(0, _), (1, _), (2, _), (3, _), (4, _)]) C dX5_place_1 (by decide) rfl ?_
  refine g_aload_n C dX5_place_3 rfl rfl ?_
  refine f_X5_many C h1 (Or.inl q251) (Or.inl rfl) dX5_place_4 ?_
  refine g_top (hmm) ?_
  refine g_istore (lv' := [(0, _), (1, _), (2, _), (3, _), (4, _), (5, _)]) C dX5_place_7 (by decide) rfl ?_
  exact lp_X5_place C hQ h1 h2 hn hn3 hm hp m 0 m (by omega) (by omega) hp.1 (by omega)
def jFind (z : JZ) (t n m p : Nat) (a b c : Int32) : Int32 := if p < m ∧ cmpF (fun k => zM z (28, t) (p * 3 + k)) (sel3 a b c) n 0 = 0 then nI p else -1
theorem m_X5_find (l : Launch) (z : JZ) (t n m p : Nat) (a b c : Int32) (h1 : zL z (27, t) = true) (h2 : zL z (28, t) = true) (hn : zM z (27, t) 0 = nI n) (hn3 : n ≤ 3) (hm : m ≤ 40) (hmm : zM z (27, t) 2 = nI m) (hp : jPl3 z t n m p a b c) : jCt l yX5_find cX5_find 5 (some FieldType.int) 4 0 0 [.ref (zA z (27, t)), .int a, .int b, .int c] z (jRi (jFind z t n m p a b c) z) := by
  have hpm := hp.1
  refine (jCt.of "JoinLoom$Table" "find" [(0, _), (1, _), (2, _), (3, _)] rfl rfl (by decide) (Nat.le_of_ble_eq_true rfl) rfl (fun Γ C hQ => ?_))
  refine g_aload_n C dX5_find_0 rfl rfl ?_
  refine g_iload_n C dX5_find_1 rfl rfl ?_
  refine g_iload_n C dX5_find_2 rfl rfl ?_
  refine g_iload_n C dX5_find_3 rfl rfl ?_
  refine g_cfi (g_runV C (m_X5_place l z t n m p a b c h1 h2 hn hn3 hm hmm hp) ciX5_place q273 (Or.inl q274) (Or.inl q272) h1 rfl rfl rfl rfl (Nat.le_of_ble_eq_true rfl) dX5_find_4 (by decide)) ?_
  refine g_istore (lv' := [(0, _), (1, _), (2, _), (3, _), (4, _)]) C dX5_find_7 (by decide) rfl ?_
  refine g_iload C dX5_find_9 rfl ?_
  refine g_aload_n C dX5_find_11 rfl rfl ?_
  refine f_X5_many C h1 (Or.inl q251) (Or.inl rfl) dX5_find_12 ?_
  refine g_top (hmm) ?_
  first | refine g_icmp_ge_n (tgt := 35) C dX5_find_15 (by decide) (by omega) (by omega) (fun c15 => ?_) (fun c15 => ?_) | refine g_icmp_ge (tgt := 35) C dX5_find_15 (by decide) (fun c15 => ?_) (fun c15 => ?_)
  · refine g_iconst (v := (-1)) C dX5_find_35 (by decide) ?_
    exact g_ireturn C hQ rfl (by omega) (by omega) dX5_find_36 (by first | exact ⟨congrArg (fun x => some (Value.int x)) (if_pos ⟨c15, c27⟩).symm, rfl⟩ | exact ⟨congrArg (fun x => some (Value.int x)) (if_neg (fun e => c27 e.2)).symm, rfl⟩ | exact ⟨congrArg (fun x => some (Value.int x)) (if_neg (fun e => absurd e.1 (Nat.not_lt.mpr c15))).symm, rfl⟩)
  · refine g_aload_n C dX5_find_18 rfl rfl ?_
    refine g_iload C dX5_find_19 rfl ?_
    refine g_iload_n C dX5_find_21 rfl rfl ?_
    refine g_iload_n C dX5_find_22 rfl rfl ?_
    refine g_iload_n C dX5_find_23 rfl rfl ?_
    refine g_cfi (g_runV C (m_X5_compare l z t p n a b c h1 h2 hn hn3 (by omega)) ciX5_compare q278 (Or.inl qs1) (Or.inl q276) h1 rfl rfl rfl rfl (Nat.le_of_ble_eq_true rfl) dX5_find_24 (by decide)) ?_
    refine g_if_ne (tgt := 35) C dX5_find_27 (by decide) (fun c27 => ?_) (fun c27 => ?_)
    · refine g_iconst (v := (-1)) C dX5_find_35 (by decide) ?_
      exact g_ireturn C hQ rfl (by omega) (by omega) dX5_find_36 (by first | exact ⟨congrArg (fun x => some (Value.int x)) (if_pos ⟨c15, c27⟩).symm, rfl⟩ | exact ⟨congrArg (fun x => some (Value.int x)) (if_neg (fun e => c27 e.2)).symm, rfl⟩ | exact ⟨congrArg (fun x => some (Value.int x)) (if_neg (fun e => absurd e.1 (Nat.not_lt.mpr c15))).symm, rfl⟩)
    · refine g_iload C dX5_find_30 rfl ?_
      refine g_goto (tgt := 36) C dX5_find_32 (by decide) ?_
      exact g_ireturn C hQ rfl (by omega) (by omega) dX5_find_36 (by first | exact ⟨congrArg (fun x => some (Value.int x)) (if_pos ⟨c15, c27⟩).symm, rfl⟩ | exact ⟨congrArg (fun x => some (Value.int x)) (if_neg (fun e => c27 e.2)).symm, rfl⟩ | exact ⟨congrArg (fun x => some (Value.int x)) (if_neg (fun e => absurd e.1 (Nat.not_lt.mpr c15))).symm, rfl⟩)
def mvF (f : Nat → Int32) (fr to k : Nat) : Nat → Int32 := fun j => if to * 3 ≤ j ∧ j < to * 3 + k then f (fr * 3 + (j - to * 3)) else f j
theorem lp_X5_moves {Γ : JC} {l : Launch} {z : JZ} {t fr to : Nat} (C : jOk Γ l (jrm 1 0 0) cX5_moves "JoinLoom$Table" (none) 4) (hQ : jRt Γ (jRv (sA z (28, t) (mvF (zM z (28, t)) fr to 3))) 0 0 "moves") (h1 : zL z (27, t) = true) (h2 : zL z (28, t) = true) (hf : fr < 40) (ht : to < 40) (hne : fr ≠ to) :
    ∀ (m k : Nat), k + m = 3 → jG Γ 0 0 (sA z (28, t) (mvF (zM z (28, t)) fr to k)) 2 [(0, .ref (zA z (27, t))), (1, .int (nI fr)), (2, .int (nI to)), (3, .int (nI k))] [] := by
  intro m
  induction m with
  | zero =>
    intro k hk
    have e : k = 3 := by omega
    subst e
    refine g_iload_n C dX5_moves_2 rfl rfl ?_
    refine g_iconst (v := nI 3) C dX5_moves_3 (by decide) ?_
    first | refine g_icmp_ge_n (tgt := 33) C dX5_moves_4 (by decide) (by omega) (by omega) (fun c4 => ?_) (fun c4 => ?_) | refine g_icmp_ge (tgt := 33) C dX5_moves_4 (by decide) (fun c4 => ?_) (fun c4 => ?_)
    · exact g_vreturn C hQ (by omega) (by omega) dX5_moves_33 (⟨rfl, rfl⟩)
    · omega
  | succ m ih =>
    intro k hk
    refine g_iload_n C dX5_moves_2 rfl rfl ?_
    refine g_iconst (v := nI 3) C dX5_moves_3 (by decide) ?_
    first | refine g_icmp_ge_n (tgt := 33) C dX5_moves_4 (by decide) (by omega) (by omega) (fun c4 => ?_) (fun c4 => ?_) | refine g_icmp_ge (tgt := 33) C dX5_moves_4 (by decide) (fun c4 => ?_) (fun c4 => ?_)
    · omega
    · refine g_aload_n C dX5_moves_7 rfl rfl ?_
      refine f_X5_values C h1 (Or.inl q249) (Or.inl rfl) dX5_moves_8 ?_
      refine g_iload_n C dX5_moves_11 rfl rfl ?_
      refine g_iconst (v := nI 3) C dX5_moves_12 (by decide) ?_
      first | refine g_imul_n C dX5_moves_13 ?_ | refine g_imul C dX5_moves_13 ?_
      refine g_iload_n C dX5_moves_14 rfl rfl ?_
      first | refine g_iadd_n C dX5_moves_15 ?_ | refine g_iadd C dX5_moves_15 ?_
      refine g_aload_n C dX5_moves_16 rfl rfl ?_
      refine f_X5_values C h1 (Or.inl q249) (Or.inl rfl) dX5_moves_17 ?_
      refine g_iload_n C dX5_moves_20 rfl rfl ?_
      refine g_iconst (v := nI 3) C dX5_moves_21 (by decide) ?_
      first | refine g_imul_n C dX5_moves_22 ?_ | refine g_imul C dX5_moves_22 ?_
      refine g_iload_n C dX5_moves_23 rfl rfl ?_
      first | refine g_iadd_n C dX5_moves_24 ?_ | refine g_iadd C dX5_moves_24 ?_
      refine g_iald (n := 120) C rfl h2 rfl (by omega) (by decide) dX5_moves_25 ?_
      refine g_iast (n := 120) C rfl h2 rfl (by omega) (by decide) dX5_moves_26 ?_
      first | refine g_iinc1 (lv' := [(0, _), (1, _), (2, _), (3, _)]) C dX5_moves_27 rfl (by decide) rfl ?_ | refine g_iinc (lv' := [(0, _), (1, _), (2, _), (3, _)]) C dX5_moves_27 rfl rfl (by decide) rfl ?_
      refine g_goto (tgt := 2) C dX5_moves_30 (by decide) ?_
      refine g_z ?_ (ih (k + 1) (by omega))
      rw [sM_sA, zM_sA_s]
      congr 1
      funext j
      simp only [upd, mvF]
      by_cases e : j = to * 3 + k
      · subst e
        simp (disch := omega) only [if_pos, if_neg, ite_true]
        congr 1
        omega
      · rw [if_neg e]
        by_cases e2 : to * 3 ≤ j ∧ j < to * 3 + k
        · rw [if_pos e2, if_pos (by omega)]
        · rw [if_neg e2, if_neg (by omega)]
theorem m_X5_moves (l : Launch) (z : JZ) (t fr to : Nat) (h1 : zL z (27, t) = true) (h2 : zL z (28, t) = true) (hf : fr < 40) (ht : to < 40) (hne : fr ≠ to) : jCt l yX5_moves cX5_moves 4 (none) 1 0 0 [.ref (zA z (27, t)), .int (nI fr), .int (nI to)] z (jRv (sA z (28, t) (mvF (zM z (28, t)) fr to 3))) := by
  refine (jCt.of "JoinLoom$Table" "moves" [(0, _), (1, _), (2, _)] rfl rfl (by decide) (Nat.le_of_ble_eq_true rfl) rfl (fun Γ C hQ => ?_))
  refine g_iconst (v := nI 0) C dX5_moves_0 (by decide) ?_
  refine g_istore_n (lv' := [(0, _), (1, _), (2, _), (3, _)]) C dX5_moves_1 rfl (by decide) rfl ?_
  refine g_z ?_ (lp_X5_moves C hQ h1 h2 hf ht hne 3 0 (by omega))
  have e : mvF (zM z (28, t)) fr to 0 = zM z (28, t) := by funext j; simp only [mvF]; rw [if_neg (by omega)]
  rw [e, sA_self]
/-- rows lo .. hi - 1 go one on -/
def shF (f : Nat → Int32) (lo hi : Nat) : Nat → Int32 := fun j => if lo * 3 + 3 ≤ j ∧ j < hi * 3 + 3 then f (j - 3) else f j
/-- rows lo + 1 .. hi go one back -/
def slF (f : Nat → Int32) (lo hi : Nat) : Nat → Int32 := fun j => if lo * 3 ≤ j ∧ j < hi * 3 then f (j + 3) else f j
theorem mv_shF (f : Nat → Int32) {i n : Nat} (h0 : 0 < i) (hi : i ≤ n) : mvF (shF f i n) (i - 1) i 3 = shF f (i - 1) n := by
  funext j
  simp only [mvF, shF]
  by_cases e : i * 3 ≤ j ∧ j < i * 3 + 3
  · rw [if_pos e, if_neg (by omega), if_pos (by omega)]
    congr 1
    omega
  · rw [if_neg e]
    by_cases e2 : i * 3 + 3 ≤ j ∧ j < n * 3 + 3
    · rw [if_pos e2, if_pos (by omega)]
    · rw [if_neg e2, if_neg (by omega)]
theorem mv_slF (f : Nat → Int32) {k i : Nat} (hi : k ≤ i) : mvF (slF f k i) (i + 1) i 3 = slF f k (i + 1) := by
  funext j
  simp only [mvF, slF]
  by_cases e : i * 3 ≤ j ∧ j < i * 3 + 3
  · rw [if_pos e, if_neg (by omega), if_pos (by omega)]
    congr 1
    omega
  · rw [if_neg e]
    by_cases e2 : k * 3 ≤ j ∧ j < i * 3
    · rw [if_pos e2, if_pos (by omega)]
    · rw [if_neg e2, if_neg (by omega)]
theorem sh_id (f : Nat → Int32) (n : Nat) : shF f n n = f := by
  funext j
  simp only [shF]
  rw [if_neg (by omega)]
theorem sl_id (f : Nat → Int32) (k : Nat) : slF f k k = f := by
  funext j
  simp only [slF]
  rw [if_neg (by omega)]
def putF (f : Nat → Int32) (k n c : Nat) (x y w : Int32) : Nat → Int32 := upd (upd (upd (shF f k n) (k * 3) x) (k * 3 + 1) (if 1 < c then y else 0)) (k * 3 + 2) (if 2 < c then w else 0)
theorem tl_X5_puts {Γ : JC} {l : Launch} {z : JZ} {t k n c : Nat} {f : Nat → Int32} {x y w : Int32} (C : jOk Γ l (jrm 2 0 0) cX5_puts "JoinLoom$Table" (none) 6) (hQ : jRt Γ (jRv (sM (sA z (28, t) (putF f k n c x y w)) (27, t) 2 (nI (n + 1)))) 0 0 "puts") (h1 : zL z (27, t) = true) (h2 : zL z (28, t) = true) (hc : zM z (27, t) 0 = nI c) (hc3 : c ≤ 3) (hm : zM z (27, t) 2 = nI n) (hn : n < 40) (hk : k ≤ n) (i : Nat) :
    jG Γ 0 0 (sA z (28, t) (shF f k n)) 28 [(0, .ref (zA z (27, t))), (1, .int (nI k)), (2, .int x), (3, .int y), (4, .int w), (5, .int (nI i))] [] := by
  have J2 : jG Γ 0 0 (sA z (28, t) (upd (upd (shF f k n) (k * 3) x) (k * 3 + 1) (if 1 < c then y else 0))) 83 [(0, .ref (zA z (27, t))), (1, .int (nI k)), (2, .int x), (3, .int y), (4, .int w), (5, .int (nI i))] [.int (if 2 < c then w else 0), .int (nI (k * 3 + 2)), .ref (zA z (28, t))] := by
    refine g_iast (n := 120) C rfl h2 rfl (by omega) (by decide) dX5_puts_83 ?_
    refine g_aload_n C dX5_puts_84 rfl rfl ?_
    refine g_dup C dX5_puts_85 rfl ?_
    refine f_X5_many C h1 (Or.inl q251) (Or.inl rfl) dX5_puts_86 ?_
    refine g_top ((show _ = nI n by rw [sM_sA, zM_sA_n (by simp)]; exact hm)) ?_
    refine g_iconst (v := nI 1) C dX5_puts_89 (by decide) ?_
    first | refine g_iadd_n C dX5_puts_90 ?_ | refine g_iadd C dX5_puts_90 ?_
    refine p_X5_many C hQ h1 (Or.inl q251) (Or.inl rfl) dX5_puts_91 ?_
    exact g_vreturn C hQ (by omega) (by omega) dX5_puts_94 (⟨rfl, by rw [sM_sA]; rfl⟩)
  have J1 : jG Γ 0 0 (sA z (28, t) (upd (shF f k n) (k * 3) x)) 59 [(0, .ref (zA z (27, t))), (1, .int (nI k)), (2, .int x), (3, .int y), (4, .int w), (5, .int (nI i))] [.int (if 1 < c then y else 0), .int (nI (k * 3 + 1)), .ref (zA z (28, t))] := by
    refine g_iast (n := 120) C rfl h2 rfl (by omega) (by decide) dX5_puts_59 ?_
    refine g_aload_n C dX5_puts_60 rfl rfl ?_
    refine f_X5_values C h1 (Or.inl q249) (Or.inl rfl) dX5_puts_61 ?_
    refine g_iload_n C dX5_puts_64 rfl rfl ?_
    refine g_iconst (v := nI 3) C dX5_puts_65 (by decide) ?_
    first | refine g_imul_n C dX5_puts_66 ?_ | refine g_imul C dX5_puts_66 ?_
    refine g_iconst (v := nI 2) C dX5_puts_67 (by decide) ?_
    first | refine g_iadd_n C dX5_puts_68 ?_ | refine g_iadd C dX5_puts_68 ?_
    refine g_aload_n C dX5_puts_69 rfl rfl ?_
    refine f_X5_columns C h1 (Or.inl q246) (Or.inl rfl) dX5_puts_70 ?_
    refine g_top ((show _ = nI c by rw [sM_sA, zM_sA_n (by simp)]; exact hc)) ?_
    refine g_iconst (v := nI 2) C dX5_puts_73 (by decide) ?_
    first | refine g_icmp_le_n (tgt := 82) C dX5_puts_74 (by decide) (by omega) (by omega) (fun c74 => ?_) (fun c74 => ?_) | refine g_icmp_le (tgt := 82) C dX5_puts_74 (by decide) (fun c74 => ?_) (fun c74 => ?_)
    · refine g_iconst (v := nI 0) C dX5_puts_82 (by decide) ?_
      refine g_z (sM_sA _ _ _ _ _) ?_
      first | exact g_top (if_pos (by assumption)).symm J2 | exact g_top (if_neg (Nat.not_lt.mpr (by assumption))).symm J2
    · refine g_iload C dX5_puts_77 rfl ?_
      refine g_goto (tgt := 83) C dX5_puts_79 (by decide) ?_
      refine g_z (sM_sA _ _ _ _ _) ?_
      first | exact g_top (if_pos (by assumption)).symm J2 | exact g_top (if_neg (Nat.not_lt.mpr (by assumption))).symm J2
  refine g_aload_n C dX5_puts_28 rfl rfl ?_
  refine f_X5_values C h1 (Or.inl q249) (Or.inl rfl) dX5_puts_29 ?_
  refine g_iload_n C dX5_puts_32 rfl rfl ?_
  refine g_iconst (v := nI 3) C dX5_puts_33 (by decide) ?_
  first | refine g_imul_n C dX5_puts_34 ?_ | refine g_imul C dX5_puts_34 ?_
  refine g_iload_n C dX5_puts_35 rfl rfl ?_
  refine g_iast (n := 120) C rfl h2 rfl (by omega) (by decide) dX5_puts_36 ?_
  refine g_aload_n C dX5_puts_37 rfl rfl ?_
  refine f_X5_values C h1 (Or.inl q249) (Or.inl rfl) dX5_puts_38 ?_
  refine g_iload_n C dX5_puts_41 rfl rfl ?_
  refine g_iconst (v := nI 3) C dX5_puts_42 (by decide) ?_
  first | refine g_imul_n C dX5_puts_43 ?_ | refine g_imul C dX5_puts_43 ?_
  refine g_iconst (v := nI 1) C dX5_puts_44 (by decide) ?_
  first | refine g_iadd_n C dX5_puts_45 ?_ | refine g_iadd C dX5_puts_45 ?_
  refine g_aload_n C dX5_puts_46 rfl rfl ?_
  refine f_X5_columns C h1 (Or.inl q246) (Or.inl rfl) dX5_puts_47 ?_
  refine g_top ((show _ = nI c by rw [sM_sA, zM_sA_n (by simp)]; exact hc)) ?_
  refine g_iconst (v := nI 1) C dX5_puts_50 (by decide) ?_
  first | refine g_icmp_le_n (tgt := 58) C dX5_puts_51 (by decide) (by omega) (by omega) (fun c51 => ?_) (fun c51 => ?_) | refine g_icmp_le (tgt := 58) C dX5_puts_51 (by decide) (fun c51 => ?_) (fun c51 => ?_)
  · refine g_iconst (v := nI 0) C dX5_puts_58 (by decide) ?_
    refine g_z (sM_sA _ _ _ _ _) ?_
    first | exact g_top (if_pos (by assumption)).symm J1 | exact g_top (if_neg (Nat.not_lt.mpr (by assumption))).symm J1
  · refine g_iload_n C dX5_puts_54 rfl rfl ?_
    refine g_goto (tgt := 59) C dX5_puts_55 (by decide) ?_
    refine g_z (sM_sA _ _ _ _ _) ?_
    first | exact g_top (if_pos (by assumption)).symm J1 | exact g_top (if_neg (Nat.not_lt.mpr (by assumption))).symm J1
theorem lp_X5_puts {Γ : JC} {l : Launch} {z : JZ} {t k n c : Nat} {f : Nat → Int32} {x y w : Int32} (C : jOk Γ l (jrm 2 0 0) cX5_puts "JoinLoom$Table" (none) 6) (hQ : jRt Γ (jRv (sM (sA z (28, t) (putF f k n c x y w)) (27, t) 2 (nI (n + 1)))) 0 0 "puts") (h1 : zL z (27, t) = true) (h2 : zL z (28, t) = true) (hc : zM z (27, t) 0 = nI c) (hc3 : c ≤ 3) (hm : zM z (27, t) 2 = nI n) (hn : n < 40) (hk : k ≤ n) :
    ∀ (m i : Nat), i = k + m → i ≤ n → jG Γ 0 0 (sA z (28, t) (shF f i n)) 6 [(0, .ref (zA z (27, t))), (1, .int (nI k)), (2, .int x), (3, .int y), (4, .int w), (5, .int (nI i))] [] := by
  intro m
  induction m with
  | zero =>
    intro i hi hin
    have e : i = k := by omega
    subst e
    refine g_iload C dX5_puts_6 rfl ?_
    refine g_iload_n C dX5_puts_8 rfl rfl ?_
    first | refine g_icmp_le_n (tgt := 28) C dX5_puts_9 (by decide) (by omega) (by omega) (fun c9 => ?_) (fun c9 => ?_) | refine g_icmp_le (tgt := 28) C dX5_puts_9 (by decide) (fun c9 => ?_) (fun c9 => ?_)
    · exact tl_X5_puts C hQ h1 h2 hc hc3 hm hn hk _
    · omega
  | succ m ih =>
    intro i hi hin
    refine g_iload C dX5_puts_6 rfl ?_
    refine g_iload_n C dX5_puts_8 rfl rfl ?_
    first | refine g_icmp_le_n (tgt := 28) C dX5_puts_9 (by decide) (by omega) (by omega) (fun c9 => ?_) (fun c9 => ?_) | refine g_icmp_le (tgt := 28) C dX5_puts_9 (by decide) (fun c9 => ?_) (fun c9 => ?_)
    · omega
    · refine g_aload_n C dX5_puts_12 rfl rfl ?_
      refine g_iload C dX5_puts_13 rfl ?_
      refine g_iconst (v := nI 1) C dX5_puts_15 (by decide) ?_
      first | refine g_isub_n C dX5_puts_16 (by omega) ?_ | refine g_isub C dX5_puts_16 ?_
      refine g_iload C dX5_puts_17 rfl ?_
      refine g_cfv (g_runV C (m_X5_moves l _ t (i - 1) i h1 h2 (by omega) (by omega) (by omega)) ciX5_moves q296 (Or.inl qs2) (Or.inl q294) h1 rfl rfl rfl rfl (Nat.le_of_ble_eq_true rfl) dX5_puts_19 (by decide)) ?_
      first | refine g_iincm (lv' := [(0, _), (1, _), (2, _), (3, _), (4, _), (5, _)]) C dX5_puts_22 rfl (by omega) (by decide) rfl ?_ | refine g_iinc (lv' := [(0, _), (1, _), (2, _), (3, _), (4, _), (5, _)]) C dX5_puts_22 rfl rfl (by decide) rfl ?_
      refine g_goto (tgt := 6) C dX5_puts_25 (by decide) ?_
      refine g_z ?_ (ih (i - 1) (by omega) (by omega))
      rw [sA_sA, zM_sA_s, mv_shF f (by omega) hin]
theorem m_X5_puts (l : Launch) (z : JZ) (t k n c : Nat) (x y w : Int32) (h1 : zL z (27, t) = true) (h2 : zL z (28, t) = true) (hc : zM z (27, t) 0 = nI c) (hc3 : c ≤ 3) (hm : zM z (27, t) 2 = nI n) (hn : n < 40) (hk : k ≤ n) : jCt l yX5_puts cX5_puts 6 (none) 2 0 0 [.ref (zA z (27, t)), .int (nI k), .int x, .int y, .int w] z (jRv (sM (sA z (28, t) (putF (zM z (28, t)) k n c x y w)) (27, t) 2 (nI (n + 1)))) := by
  refine (jCt.of "JoinLoom$Table" "puts" [(0, _), (1, _), (2, _), (3, _), (4, _)] rfl rfl (by decide) (Nat.le_of_ble_eq_true rfl) rfl (fun Γ C hQ => ?_))
  refine g_aload_n C dX5_puts_0 rfl rfl ?_
  refine f_X5_many C h1 (Or.inl q251) (Or.inl rfl) dX5_puts_1 ?_
  refine g_top (hm) ?_
  refine g_istore (lv' := [(0, _), (1, _), (2, _), (3, _), (4, _), (5, _)]) C dX5_puts_4 (by decide) rfl ?_
  refine g_z ?_ (lp_X5_puts C hQ h1 h2 hc hc3 hm hn hk (n - k) n (by omega) (by omega))
  rw [sh_id, sA_self]
theorem lp_X5_drops {Γ : JC} {l : Launch} {z : JZ} {t k n : Nat} {f : Nat → Int32} (C : jOk Γ l (jrm 2 0 0) cX5_drops "JoinLoom$Table" (none) 3) (hQ : jRt Γ (jRv (sA z (28, t) (slF f k n))) 0 0 "drops") (h1 : zL z (27, t) = true) (h2 : zL z (28, t) = true) (hm : zM z (27, t) 2 = nI n) (hn : n < 40) :
    ∀ (m i : Nat), i + m = n → k ≤ i → jG Γ 0 0 (sA z (28, t) (slF f k i)) 12 [(0, .ref (zA z (27, t))), (1, .int (nI k)), (2, .int (nI i))] [] := by
  have hv : ∀ g, zM (sA z (28, t) g) (27, t) 2 = nI n := fun g => by rw [zM_sA_n (by simp)]; exact hm
  intro m
  induction m with
  | zero =>
    intro i hi hk
    have e : i = n := by omega
    subst e
    refine g_iload_n C dX5_drops_12 rfl rfl ?_
    refine g_aload_n C dX5_drops_13 rfl rfl ?_
    refine f_X5_many C h1 (Or.inl q251) (Or.inl rfl) dX5_drops_14 ?_
    refine g_top (hv _) ?_
    first | refine g_icmp_ge_n (tgt := 34) C dX5_drops_17 (by decide) (by omega) (by omega) (fun c17 => ?_) (fun c17 => ?_) | refine g_icmp_ge (tgt := 34) C dX5_drops_17 (by decide) (fun c17 => ?_) (fun c17 => ?_)
    · exact g_vreturn C hQ (by omega) (by omega) dX5_drops_34 (⟨rfl, rfl⟩)
    · omega
  | succ m ih =>
    intro i hi hk
    refine g_iload_n C dX5_drops_12 rfl rfl ?_
    refine g_aload_n C dX5_drops_13 rfl rfl ?_
    refine f_X5_many C h1 (Or.inl q251) (Or.inl rfl) dX5_drops_14 ?_
    refine g_top (hv _) ?_
    first | refine g_icmp_ge_n (tgt := 34) C dX5_drops_17 (by decide) (by omega) (by omega) (fun c17 => ?_) (fun c17 => ?_) | refine g_icmp_ge (tgt := 34) C dX5_drops_17 (by decide) (fun c17 => ?_) (fun c17 => ?_)
    · omega
    · refine g_aload_n C dX5_drops_20 rfl rfl ?_
      refine g_iload_n C dX5_drops_21 rfl rfl ?_
      refine g_iconst (v := nI 1) C dX5_drops_22 (by decide) ?_
      first | refine g_iadd_n C dX5_drops_23 ?_ | refine g_iadd C dX5_drops_23 ?_
      refine g_iload_n C dX5_drops_24 rfl rfl ?_
      refine g_cfv (g_runV C (m_X5_moves l _ t (i + 1) i h1 h2 (by omega) (by omega) (by omega)) ciX5_moves q296 (Or.inl qs2) (Or.inl q294) h1 rfl rfl rfl rfl (Nat.le_of_ble_eq_true rfl) dX5_drops_25 (by decide)) ?_
      first | refine g_iinc1 (lv' := [(0, _), (1, _), (2, _)]) C dX5_drops_28 rfl (by decide) rfl ?_ | refine g_iinc (lv' := [(0, _), (1, _), (2, _)]) C dX5_drops_28 rfl rfl (by decide) rfl ?_
      refine g_goto (tgt := 12) C dX5_drops_31 (by decide) ?_
      refine g_z ?_ (ih (i + 1) (by omega) (by omega))
      rw [sA_sA, zM_sA_s, mv_slF f hk]
theorem m_X5_drops (l : Launch) (z : JZ) (t k n : Nat) (h1 : zL z (27, t) = true) (h2 : zL z (28, t) = true) (hm : zM z (27, t) 2 = nI (n + 1)) (hn : n < 40) (hk : k ≤ n) : jCt l yX5_drops cX5_drops 3 (none) 2 0 0 [.ref (zA z (27, t)), .int (nI k)] z (jRv (sA (sM z (27, t) 2 (nI n)) (28, t) (slF (zM z (28, t)) k n))) := by
  refine (jCt.of "JoinLoom$Table" "drops" [(0, _), (1, _)] rfl rfl (by decide) (Nat.le_of_ble_eq_true rfl) rfl (fun Γ C hQ => ?_))
  refine g_aload_n C dX5_drops_0 rfl rfl ?_
  refine g_dup C dX5_drops_1 rfl ?_
  refine f_X5_many C h1 (Or.inl q251) (Or.inl rfl) dX5_drops_2 ?_
  refine g_top (hm) ?_
  refine g_iconst (v := nI 1) C dX5_drops_5 (by decide) ?_
  first | refine g_isub_n C dX5_drops_6 (by omega) ?_ | refine g_isub C dX5_drops_6 ?_
  refine p_X5_many C hQ h1 (Or.inl q251) (Or.inl rfl) dX5_drops_7 ?_
  refine g_iload_n C dX5_drops_10 rfl rfl ?_
  refine g_istore_n (lv' := [(0, _), (1, _), (2, _)]) C dX5_drops_11 rfl (by decide) rfl ?_
  refine g_z ?_ (lp_X5_drops (z := sM z (27, t) 2 (nI n)) C hQ h1 h2 (by rw [zM_sM_s]; rfl) hn (n - k) k (by omega) (by omega))
  rw [sl_id]
  exact (show sA _ _ (zM (sM z (27, t) 2 (nI n)) (28, t)) = _ from sA_self _ _).symm
