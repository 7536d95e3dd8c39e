set_option maxRecDepth 100000
/-! ===== sorted lists of rows ===== -/
def insL (p : Nat) (g : Nat → Int32) (L : List (Nat → Int32)) : List (Nat → Int32) := L.take p ++ g :: L.drop p
def rAt (L : List (Nat → Int32)) (i : Nat) : Nat → Int32 := L.getD i (fun _ => 0)
def srtF (n : Nat) (L : List (Nat → Int32)) : Prop := ∀ a b, a < b → b < L.length → ¬ 0 < cmpF (rAt L a) (rAt L b) n 0
theorem insL_len {p : Nat} {g : Nat → Int32} {L : List (Nat → Int32)} (hp : p ≤ L.length) : (insL p g L).length = L.length + 1 := by
  unfold insL
  rw [List.length_append, List.length_cons, List.length_take, List.length_drop]
  omega
theorem insL_perm (p : Nat) (g : Nat → Int32) (L : List (Nat → Int32)) : (insL p g L).Perm (L ++ [g]) := by
  unfold insL
  refine List.perm_middle.trans ?_
  rw [List.take_append_drop]
  exact (List.perm_append_singleton g L).symm
theorem insL_at {p : Nat} {g : Nat → Int32} {L : List (Nat → Int32)} (hp : p ≤ L.length) (i : Nat) : rAt (insL p g L) i = if i < p then rAt L i else if i = p then g else rAt L (i - 1) := by
  have hl : (L.take p).length = p := by rw [List.length_take]; omega
  unfold rAt insL
  simp only [List.getD_eq_getElem?_getD]
  by_cases c1 : i < p
  · rw [if_pos c1, List.getElem?_append_left (by omega), List.getElem?_take, if_pos c1]
  · rw [if_neg c1, List.getElem?_append_right (by omega), hl]
    by_cases c2 : i = p
    · rw [if_pos c2, c2, Nat.sub_self]; rfl
    · rw [if_neg c2, show i - p = (i - p - 1) + 1 by omega, List.getElem?_cons_succ, List.getElem?_drop, show p + (i - p - 1) = i - 1 by omega]
theorem insL_srt {n p : Nat} {g : Nat → Int32} {L : List (Nat → Int32)} (hs : srtF n L) (hp : p ≤ L.length) (h1 : ∀ i, p ≤ i → i < L.length → 0 < cmpF (rAt L i) g n 0) (h2 : 0 < p → ¬ 0 < cmpF (rAt L (p - 1)) g n 0) : srtF n (insL p g L) := by
  have hlow : ∀ k, k < p → ¬ 0 < cmpF (rAt L k) g n 0 := by
    intro k hk
    rcases Nat.lt_or_ge k (p - 1) with h4 | h4
    · exact cmpF_le_trans (hs k (p - 1) h4 (by omega)) (h2 (by omega))
    · have : k = p - 1 := by omega
      rw [this]; exact h2 (by omega)
  intro a b hab hb
  rw [insL_len hp] at hb
  rw [insL_at hp, insL_at hp]
  by_cases a1 : a < p
  · rw [if_pos a1]
    by_cases b1 : b < p
    · rw [if_pos b1]; exact hs a b hab (by omega)
    · rw [if_neg b1]
      by_cases b2 : b = p
      · rw [if_pos b2]; exact hlow a a1
      · rw [if_neg b2]; exact hs a (b - 1) (by omega) (by omega)
  · rw [if_neg a1, if_neg (show ¬ b < p by omega), if_neg (show ¬ b = p by omega)]
    by_cases a2 : a = p
    · rw [if_pos a2]; exact cmpF_lt_asym (h1 (b - 1) (by omega) (by omega))
    · rw [if_neg a2]; exact hs (a - 1) (b - 1) (by omega) (by omega)
/-! ===== the reference's weave: rows come to their places ===== -/
def shM (f : Nat → Int32) (lo hi : Nat) : Nat → Int32 := fun j => if 6 * lo + 6 ≤ j ∧ j < 6 * hi + 6 then f (j - 6) else f j
theorem shM_id (f : Nat → Int32) (n : Nat) : shM f n n = f := by
  funext j
  simp only [shM]
  rw [if_neg (by omega)]
theorem stM_sh (f : Nat → Int32) {i n : Nat} (h0 : 0 < i) (hi : i ≤ n) : stM (shM f i n) (fun j => shM f i n (6 * i - 6 + j)) i 6 = shM f (i - 1) n := by
  funext j
  simp only [stM, shM]
  by_cases e : 6 * i ≤ j ∧ j < 6 * i + 6
  · rw [if_pos e, if_neg (by omega), if_pos (by omega)]
    congr 1
    omega
  · rw [if_neg e]
    by_cases e2 : 6 * i + 6 ≤ j ∧ j < 6 * n + 6
    · rw [if_pos e2, if_pos (by omega)]
    · rw [if_neg e2, if_neg (by omega)]
/-- the rows behind an insertion -/
theorem rpL_ins {V R : Nat → Int32} {L : List (Nat → Int32)} {g : Nat → Int32} {p : Nat} (hp : p ≤ L.length) (h : rpL V L) (hR : ∀ j, j < 6 → R j = g j) : rpL (stM (shM V p L.length) R p 6) (insL p g L) := by
  intro m hm j hj
  rw [insL_len hp] at hm
  show _ = rAt (insL p g L) m j
  rw [insL_at hp]
  simp only [stM, shM]
  by_cases c1 : m < p
  · rw [if_pos c1, if_neg (by omega), if_neg (by omega)]
    exact h m (by omega) j hj
  · rw [if_neg c1]
    by_cases c2 : m = p
    · rw [if_pos c2, if_pos (by omega), show 6 * m + j - 6 * p = j by omega]
      exact hR j hj
    · rw [if_neg c2, if_neg (by omega), if_pos (by omega), show 6 * m + j - 6 = 6 * (m - 1) + j by omega]
      exact h (m - 1) (by omega) j hj
section MW
variable {Γ : JC} {l : Launch} {R : Room} {ret : Option FieldType} {z : JZ} {V : Nat → Int32}
theorem l111_weave {i : Nat} {x1 : Int32} (C : jOk Γ l R cX4_weave "JoinLoomModel" ret 4) (hL : mdL z) (h0 : 0 < i) (hi : i ≤ 500) (K : jG Γ 0 0 (sA z (53, 0) (stM V (fun j => V (6 * i - 6 + j)) i 6)) 148 [(0, .ref (zA z (40, 0))), (1, .int x1), (2, .int (nI i)), (3, .int (nI 6))] []) :
    ∀ (w j : Nat), j + w = 6 → jG Γ 0 0 (sA z (53, 0) (stM V (fun j => V (6 * i - 6 + j)) i j)) 111 [(0, .ref (zA z (40, 0))), (1, .int x1), (2, .int (nI i)), (3, .int (nI j))] [] := by
  intro w
  induction w with
  | zero =>
    intro j hj
    have e : j = 6 := by omega
    subst e
    refine g_iload_n C dX4_weave_111 rfl rfl ?_
    refine g_bipush (v := nI 6) C dX4_weave_112 (by decide) ?_
    first | refine g_icmp_ge_n (tgt := 148) C dX4_weave_114 (by decide) (by omega) (by omega) (fun c114 => ?_) (fun c114 => ?_) | refine g_icmp_ge (tgt := 148) C dX4_weave_114 (by decide) (fun c114 => ?_) (fun c114 => ?_)
    · exact K
    · omega
  | succ w ih =>
    intro j hj
    refine g_iload_n C dX4_weave_111 rfl rfl ?_
    refine g_bipush (v := nI 6) C dX4_weave_112 (by decide) ?_
    first | refine g_icmp_ge_n (tgt := 148) C dX4_weave_114 (by decide) (by omega) (by omega) (fun c114 => ?_) (fun c114 => ?_) | refine g_icmp_ge (tgt := 148) C dX4_weave_114 (by decide) (fun c114 => ?_) (fun c114 => ?_)
    · omega
    · refine g_aload_n C dX4_weave_117 rfl rfl ?_
      refine f_X4_woven C (hL _ (by decide)) (Or.inl q783) (Or.inl rfl) dX4_weave_118 ?_
      refine g_bipush (v := nI 6) C dX4_weave_121 (by decide) ?_
      refine g_iload_n C dX4_weave_123 rfl rfl ?_
      first | refine g_imul_n C dX4_weave_124 ?_ | refine g_imul C dX4_weave_124 ?_
      refine g_iload_n C dX4_weave_125 rfl rfl ?_
      first | refine g_iadd_n C dX4_weave_126 ?_ | refine g_iadd C dX4_weave_126 ?_
      refine g_aload_n C dX4_weave_127 rfl rfl ?_
      refine f_X4_woven C (hL _ (by decide)) (Or.inl q783) (Or.inl rfl) dX4_weave_128 ?_
      refine g_bipush (v := nI 6) C dX4_weave_131 (by decide) ?_
      refine g_iload_n C dX4_weave_133 rfl rfl ?_
      first | refine g_imul_n C dX4_weave_134 ?_ | refine g_imul C dX4_weave_134 ?_
      refine g_bipush (v := nI 6) C dX4_weave_135 (by decide) ?_
      first | refine g_isub_n C dX4_weave_137 (by omega) ?_ | refine g_isub C dX4_weave_137 ?_
      refine g_iload_n C dX4_weave_138 rfl rfl ?_
      first | refine g_iadd_n C dX4_weave_139 ?_ | refine g_iadd C dX4_weave_139 ?_
      refine g_iald (n := 3006) C rfl (hL _ (by decide)) rfl (by omega) (by decide) dX4_weave_140 ?_
      refine g_top ((show _ = V (6 * i - 6 + j) by rw [zM_sA_s]; simp only [stM]; rw [if_neg (by omega)])) ?_
      refine g_iast (n := 3006) C rfl (hL _ (by decide)) rfl (by omega) (by decide) dX4_weave_141 ?_
      first | refine g_iinc1 (lv' := [(0, _), (1, _), (2, _), (3, _)]) C dX4_weave_142 rfl (by decide) rfl ?_ | refine g_iinc (lv' := [(0, _), (1, _), (2, _), (3, _)]) C dX4_weave_142 rfl rfl (by decide) rfl ?_
      refine g_goto (tgt := 111) C dX4_weave_145 (by decide) ?_
      refine g_z ?_ (ih (j + 1) (by omega))
      rw [sM_sA, stM_step V (fun j => V (6 * i - 6 + j))]
theorem l156_weave {m p : Nat} (C : jOk Γ l R cX4_weave "JoinLoomModel" ret 4) (hL : mdL z) (hp : p ≤ 500) (hm : m ≤ 500) (K : jG Γ 0 0 (sA z (53, 0) (stM V (fun j => zM z (50, 0) (6 * m + j)) p 6)) 190 [(0, .ref (zA z (40, 0))), (1, .int (nI m)), (2, .int (nI p)), (3, .int (nI 6))] []) :
    ∀ (w j : Nat), j + w = 6 → jG Γ 0 0 (sA z (53, 0) (stM V (fun j => zM z (50, 0) (6 * m + j)) p j)) 156 [(0, .ref (zA z (40, 0))), (1, .int (nI m)), (2, .int (nI p)), (3, .int (nI j))] [] := by
  intro w
  induction w with
  | zero =>
    intro j hj
    have e : j = 6 := by omega
    subst e
    refine g_iload_n C dX4_weave_156 rfl rfl ?_
    refine g_bipush (v := nI 6) C dX4_weave_157 (by decide) ?_
    first | refine g_icmp_ge_n (tgt := 190) C dX4_weave_159 (by decide) (by omega) (by omega) (fun c159 => ?_) (fun c159 => ?_) | refine g_icmp_ge (tgt := 190) C dX4_weave_159 (by decide) (fun c159 => ?_) (fun c159 => ?_)
    · exact K
    · omega
  | succ w ih =>
    intro j hj
    refine g_iload_n C dX4_weave_156 rfl rfl ?_
    refine g_bipush (v := nI 6) C dX4_weave_157 (by decide) ?_
    first | refine g_icmp_ge_n (tgt := 190) C dX4_weave_159 (by decide) (by omega) (by omega) (fun c159 => ?_) (fun c159 => ?_) | refine g_icmp_ge (tgt := 190) C dX4_weave_159 (by decide) (fun c159 => ?_) (fun c159 => ?_)
    · omega
    · refine g_aload_n C dX4_weave_162 rfl rfl ?_
      refine f_X4_woven C (hL _ (by decide)) (Or.inl q783) (Or.inl rfl) dX4_weave_163 ?_
      refine g_bipush (v := nI 6) C dX4_weave_166 (by decide) ?_
      refine g_iload_n C dX4_weave_168 rfl rfl ?_
      first | refine g_imul_n C dX4_weave_169 ?_ | refine g_imul C dX4_weave_169 ?_
      refine g_iload_n C dX4_weave_170 rfl rfl ?_
      first | refine g_iadd_n C dX4_weave_171 ?_ | refine g_iadd C dX4_weave_171 ?_
      refine g_aload_n C dX4_weave_172 rfl rfl ?_
      refine f_X4_rows C (hL _ (by decide)) (Or.inl q776) (Or.inl rfl) dX4_weave_173 ?_
      refine g_bipush (v := nI 6) C dX4_weave_176 (by decide) ?_
      refine g_iload_n C dX4_weave_178 rfl rfl ?_
      first | refine g_imul_n C dX4_weave_179 ?_ | refine g_imul C dX4_weave_179 ?_
      refine g_iload_n C dX4_weave_180 rfl rfl ?_
      first | refine g_iadd_n C dX4_weave_181 ?_ | refine g_iadd C dX4_weave_181 ?_
      refine g_iald (n := 3006) C rfl (hL _ (by decide)) rfl (by omega) (by decide) dX4_weave_182 ?_
      refine g_top ((show _ = zM z (50, 0) (6 * m + j) from rfl)) ?_
      refine g_iast (n := 3006) C rfl (hL _ (by decide)) rfl (by omega) (by decide) dX4_weave_183 ?_
      first | refine g_iinc1 (lv' := [(0, _), (1, _), (2, _), (3, _)]) C dX4_weave_184 rfl (by decide) rfl ?_ | refine g_iinc (lv' := [(0, _), (1, _), (2, _), (3, _)]) C dX4_weave_184 rfl rfl (by decide) rfl ?_
      refine g_goto (tgt := 156) C dX4_weave_187 (by decide) ?_
      refine g_z ?_ (ih (j + 1) (by omega))
      rw [sM_sA, stM_step V (fun j => zM z (50, 0) (6 * m + j))]
theorem l83_weave {m n p : Nat} {L : List (Nat → Int32)} {g : Nat → Int32} (C : jOk Γ l (jrm 7 0 0) cX4_weave "JoinLoomModel" ret 4) (hL : mdL z) (hn : zM z (40, 0) 3 = nI n) (hn6 : n ≤ 6) (hm : m < 500) (hml : L.length = m) (hV : rpL V L) (hg : ∀ j, j < 6 → zM z (50, 0) (6 * m + j) = g j) (hp : p ≤ m) (h1 : ∀ i, p ≤ i → i < m → 0 < cmpF (rAt L i) g n 0) (h2 : 0 < p → ¬ 0 < cmpF (rAt L (p - 1)) g n 0)
    (K : ∀ V' : Nat → Int32, rpL V' (insL p g L) → ∀ a b, jG Γ 0 0 (sA z (53, 0) V') 190 [(0, .ref (zA z (40, 0))), (1, .int (nI m)), (2, .int a), (3, .int b)] []) :
    ∀ (w i : Nat), i = p + w → i ≤ m → jG Γ 0 0 (sA z (53, 0) (shM V i m)) 83 [(0, .ref (zA z (40, 0))), (1, .int (nI m)), (2, .int (nI i))] [] := by
  have hcm : ∀ i, 0 < i → i ≤ m → cmpF (fun k => zM (sA z (53, 0) (shM V i m)) (53, 0) (6 * (i - 1) + k)) (fun k => zM (sA z (53, 0) (shM V i m)) (50, 0) (6 * m + k)) n 0 = cmpF (rAt L (i - 1)) g n 0 := by
    intro i h0 hi
    refine cmpF_congr (fun k _ hk => ⟨?_, hg k (by omega)⟩)
    rw [zM_sA_s]
    simp only [shM]
    rw [if_neg (by omega)]
    exact hV (i - 1) (by omega) k (by omega)
  intro w
  induction w with
  | zero =>
    intro i hi him
    have e : i = p := by omega
    subst e
    refine g_iload_n C dX4_weave_83 rfl rfl ?_
    refine g_if_le_n (tgt := 154) C dX4_weave_84 (by decide) (by omega) (fun c84 => ?_) (fun c84 => ?_)
    · refine g_iconst (v := nI 0) C dX4_weave_154 (by decide) ?_
      refine g_istore_n (lv' := [(0, _), (1, _), (2, _), (3, _)]) C dX4_weave_155 rfl (by decide) rfl ?_
      refine g_z (show _ = sA z (53, 0) (stM (shM V i m) (fun j => zM z (50, 0) (6 * m + j)) i 0) by rw [stM_0]) ?_
      refine l156_weave C hL (by omega) (by omega) (K _ (by rw [← hml] at hp ⊢; exact rpL_ins hp hV (by rw [hml]; exact hg)) _ _) 6 0 (by omega)
    · refine g_aload_n C dX4_weave_87 rfl rfl ?_
      refine f_X4_woven C (hL _ (by decide)) (Or.inl q783) (Or.inl rfl) dX4_weave_88 ?_
      refine g_iload_n C dX4_weave_91 rfl rfl ?_
      refine g_iconst (v := nI 1) C dX4_weave_92 (by decide) ?_
      first | refine g_isub_n C dX4_weave_93 (by omega) ?_ | refine g_isub C dX4_weave_93 ?_
      refine g_aload_n C dX4_weave_94 rfl rfl ?_
      refine f_X4_rows C (hL _ (by decide)) (Or.inl q776) (Or.inl rfl) dX4_weave_95 ?_
      refine g_iload_n C dX4_weave_98 rfl rfl ?_
      refine g_aload_n C dX4_weave_99 rfl rfl ?_
      refine f_X4_names C (hL _ (by decide)) (Or.inl q768) (Or.inl rfl) dX4_weave_100 ?_
      refine g_top (hn) ?_
      refine g_cfi (g_runS C (m_X4_against_2 l _ 53 50 (i - 1) m n rfl rfl (hL _ (by decide)) (hL _ (by decide)) (by omega) (by omega) hn6) ciX4_against_2 q992 (Or.inl q991) rfl rfl (Nat.le_of_ble_eq_true rfl) dX4_weave_103 (by decide)) ?_
      refine g_top (hcm i (by omega) him) ?_
      refine g_if_le (tgt := 154) C dX4_weave_106 (by decide) (fun c106 => ?_) (fun c106 => ?_)
      · refine g_iconst (v := nI 0) C dX4_weave_154 (by decide) ?_
        refine g_istore_n (lv' := [(0, _), (1, _), (2, _), (3, _)]) C dX4_weave_155 rfl (by decide) rfl ?_
        refine g_z (show _ = sA z (53, 0) (stM (shM V i m) (fun j => zM z (50, 0) (6 * m + j)) i 0) by rw [stM_0]) ?_
        refine l156_weave C hL (by omega) (by omega) (K _ (by rw [← hml] at hp ⊢; exact rpL_ins hp hV (by rw [hml]; exact hg)) _ _) 6 0 (by omega)
      · exact absurd (Int32.not_le.mp c106) (h2 (by omega))
  | succ w ih =>
    intro i hi him
    refine g_iload_n C dX4_weave_83 rfl rfl ?_
    refine g_if_le_n (tgt := 154) C dX4_weave_84 (by decide) (by omega) (fun c84 => ?_) (fun c84 => ?_)
    · omega
    · refine g_aload_n C dX4_weave_87 rfl rfl ?_
      refine f_X4_woven C (hL _ (by decide)) (Or.inl q783) (Or.inl rfl) dX4_weave_88 ?_
      refine g_iload_n C dX4_weave_91 rfl rfl ?_
      refine g_iconst (v := nI 1) C dX4_weave_92 (by decide) ?_
      first | refine g_isub_n C dX4_weave_93 (by omega) ?_ | refine g_isub C dX4_weave_93 ?_
      refine g_aload_n C dX4_weave_94 rfl rfl ?_
      refine f_X4_rows C (hL _ (by decide)) (Or.inl q776) (Or.inl rfl) dX4_weave_95 ?_
      refine g_iload_n C dX4_weave_98 rfl rfl ?_
      refine g_aload_n C dX4_weave_99 rfl rfl ?_
      refine f_X4_names C (hL _ (by decide)) (Or.inl q768) (Or.inl rfl) dX4_weave_100 ?_
      refine g_top (hn) ?_
      refine g_cfi (g_runS C (m_X4_against_2 l _ 53 50 (i - 1) m n rfl rfl (hL _ (by decide)) (hL _ (by decide)) (by omega) (by omega) hn6) ciX4_against_2 q992 (Or.inl q991) rfl rfl (Nat.le_of_ble_eq_true rfl) dX4_weave_103 (by decide)) ?_
      refine g_top (hcm i (by omega) him) ?_
      refine g_if_le (tgt := 154) C dX4_weave_106 (by decide) (fun c106 => ?_) (fun c106 => ?_)
      · exact absurd (h1 (i - 1) (by omega) (by omega)) (Int32.not_lt.mpr c106)
      · refine g_iconst (v := nI 0) C dX4_weave_109 (by decide) ?_
        refine g_istore_n (lv' := [(0, _), (1, _), (2, _), (3, _)]) C dX4_weave_110 rfl (by decide) rfl ?_
        refine g_z (show _ = sA z (53, 0) (stM (shM V i m) (fun j => shM V i m (6 * i - 6 + j)) i 0) by rw [stM_0]) ?_
        refine l111_weave C hL (by omega) (by omega) ?_ 6 0 (by omega)
        refine g_iincm (lv' := [(0, _), (1, _), (2, _), (3, _)]) C dX4_weave_148 rfl (by omega) (by decide) rfl ?_
        refine g_goto (tgt := 83) C dX4_weave_151 (by decide) ?_
        refine g_take 3 rfl ?_
        refine g_z ?_ (ih (i - 1) (by omega) (by omega))
        rw [stM_sh _ (by omega) him]
end MW
