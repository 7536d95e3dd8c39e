/-! ===== THE STORE: cells by ids (tag, number); a pure picture of the heap ===== -/
set_option maxRecDepth 100000
abbrev JId : Type := Nat × Nat
abbrev JZ : Type := (JId → Nat) × (JId → Bool) × (JId → Nat → Int32) × (JId → Nat → Option Nat)
def zA (z : JZ) : JId → Nat := z.1
def zL (z : JZ) : JId → Bool := z.2.1
def zM (z : JZ) : JId → Nat → Int32 := z.2.2.1
def zR (z : JZ) : JId → Nat → Option Nat := z.2.2.2
/-- all ints anew -/
def wM (z : JZ) (f : JId → Nat → Int32) : JZ := (z.1, z.2.1, f, z.2.2.2)
def sA (z : JZ) (i : JId) (f : Nat → Int32) : JZ := wM z (fun j => if j = i then f else z.2.2.1 j)
def sM (z : JZ) (i : JId) (k : Nat) (v : Int32) : JZ := sA z i (upd (zM z i) k v)
def wR (z : JZ) (f : JId → Nat → Option Nat) : JZ := (z.1, z.2.1, z.2.2.1, f)
def sR (z : JZ) (i : JId) (k : Nat) (v : Option Nat) : JZ := wR z (fun j => if j = i then va_up (z.2.2.2 i) k v else z.2.2.2 j)
/-- a new cell at the id i, at the address a -/
def sN (z : JZ) (i : JId) (a : Nat) : JZ := ((fun j => if j = i then a else z.1 j), (fun j => if j = i then true else z.2.1 j), (fun j => if j = i then (fun _ => 0) else z.2.2.1 j), (fun j => if j = i then (fun _ => none) else z.2.2.2 j))
/-- forget a cell -/
def sF (z : JZ) (i : JId) : JZ := (z.1, (fun j => if j = i then false else z.2.1 j), z.2.2.1, z.2.2.2)
theorem zM_sA {z : JZ} {i : JId} {f : Nat → Int32} {j : JId} : zM (sA z i f) j = if j = i then f else zM z j := rfl
theorem zM_sA_s {z : JZ} {i : JId} {f : Nat → Int32} : zM (sA z i f) i = f := if_pos rfl
theorem zM_sA_n {z : JZ} {i : JId} {f : Nat → Int32} {j : JId} (h : j ≠ i) : zM (sA z i f) j = zM z j := if_neg h
theorem zM_sM_s {z : JZ} {i : JId} {k : Nat} {v : Int32} : zM (sM z i k v) i = upd (zM z i) k v := if_pos rfl
theorem zM_sM_n {z : JZ} {i : JId} {k : Nat} {v : Int32} {j : JId} (h : j ≠ i) : zM (sM z i k v) j = zM z j := if_neg h
theorem zM_wM {z : JZ} {f : JId → Nat → Int32} : zM (wM z f) = f := rfl
theorem wM_self (z : JZ) : wM z (zM z) = z := rfl
theorem wM_wM (z : JZ) (f g : JId → Nat → Int32) : wM (wM z f) g = wM z g := rfl
theorem zR_sR_s {z : JZ} {i : JId} {k : Nat} {v : Option Nat} : zR (sR z i k v) i = va_up (zR z i) k v := if_pos rfl
theorem zR_sR_n {z : JZ} {i : JId} {k : Nat} {v : Option Nat} {j : JId} (h : j ≠ i) : zR (sR z i k v) j = zR z j := if_neg h
/-! kinds by tag: .inl (array class, length) or .inr (class, codes of fields): (0,_,_) an int, (1,_,_) a reference, (2,t,d) a reference to (t, n + d) that never changes -/
abbrev JKd : Type := (Nat × Nat) ⊕ (Nat × List (Nat × Nat × Nat))
abbrev cI_ : Nat × Nat × Nat := (0, 0, 0)
abbrev cD_ : Nat × Nat × Nat := (1, 0, 0)
abbrev cS_ (t : Nat) : Nat × Nat × Nat := (2, t, 0)
def jkds : List JKd := [
  .inr (0, [cS_ 1, cD_, cS_ 2, (2, 2, 1), (2, 2, 2), cS_ 7, cS_ 12, cS_ 13, cS_ 14, cS_ 15, cI_]), .inl (2, 8),
  .inr (1, [cI_, cI_, cS_ 3, cS_ 4, cS_ 5, cI_, cS_ 6]), .inl (0, 3006), .inl (0, 6), .inl (0, 5010), .inl (0, 6),
  .inr (2, [cD_, cD_, cD_, cS_ 8, cI_, cS_ 9, cS_ 11, cI_]), .inl (4, 5), .inl (5, 6), .inl (4, 5), .inl (0, 6),
  .inl (0, 10), .inl (0, 10), .inl (0, 6), .inl (0, 6),
  .inr (3, [cD_, cS_ 17, cI_, cS_ 18, cS_ 19, cI_, cS_ 20, cS_ 21, cS_ 22, cS_ 23, cI_]), .inl (0, 40), .inl (0, 3), .inl (0, 3), .inl (0, 4), .inl (0, 4), .inl (0, 4), .inl (0, 4),
  .inr (6, [cI_, cS_ 25, cI_, cI_, cS_ 26]), .inl (3, 10), .inl (0, 6),
  .inr (5, [cI_, cS_ 28, cI_]), .inl (0, 120),
  .inr (7, [cI_, cD_, cI_, cS_ 30, cS_ 31, cI_]), .inl (0, 3), .inl (0, 3),
  .inr (8, [cI_, cD_, cI_, cS_ 30, cS_ 31, cI_]), .inl (0, 0), .inl (0, 0),
  .inr (9, [cI_, cI_, cI_, cI_]), .inr (10, [cI_, cI_, cI_, cI_]), .inl (0, 0), .inl (0, 0), .inl (0, 0),
  .inr (4, [cS_ 41, cS_ 42, cS_ 43, cI_, cI_, cS_ 44, cS_ 45, cS_ 46, cS_ 47, cS_ 48, cS_ 49, cS_ 50, cS_ 51, cI_, cS_ 52, cI_, cI_, cI_, cS_ 53, cS_ 54, cS_ 55, cS_ 56, cI_, cI_, cS_ 57, cS_ 58, cS_ 59, cS_ 60, cS_ 61, cS_ 62, cS_ 63]),
  .inl (0, 8), .inl (0, 8), .inl (0, 960), .inl (0, 10), .inl (0, 10), .inl (0, 10), .inl (0, 30), .inl (0, 30), .inl (0, 6), .inl (0, 3006), .inl (0, 3006), .inl (0, 6), .inl (0, 3006), .inl (0, 6), .inl (0, 5010), .inl (1, 10), .inl (0, 3006), .inl (0, 6), .inl (0, 10), .inl (0, 10), .inl (0, 6), .inl (0, 6), .inl (0, 3),
  .inl (0, 0), .inl (0, 0), .inl (0, 0), .inl (0, 0), .inl (0, 0), .inl (0, 0),
  .inr (0, [cD_, cD_, cD_, cD_, cD_, cD_, cD_, cD_, cD_, cD_, cI_]),
  .inr (1, [cI_, cI_, cD_, cD_, cD_, cI_, cD_]),
  .inr (2, [cD_, cD_, cD_, cD_, cI_, cD_, cD_, cI_]),
  .inr (3, [cD_, cD_, cI_, cD_, cD_, cI_, cD_, cD_, cD_, cD_, cI_]),
  .inr (4, [cD_, cD_, cD_, cI_, cI_, cD_, cD_, cD_, cD_, cD_, cD_, cD_, cD_, cI_, cD_, cI_, cI_, cI_, cD_, cD_, cD_, cD_, cI_, cI_, cD_, cD_, cD_, cD_, cD_, cD_, cD_]),
  .inr (5, [cI_, cD_, cI_]),
  .inr (6, [cI_, cD_, cI_, cI_, cD_]),
  .inr (7, [cI_, cD_, cI_, cD_, cD_, cI_]),
  .inr (8, [cI_, cD_, cI_, cD_, cD_, cI_]),
  .inr (9, [cI_, cI_, cI_, cI_]),
  .inr (10, [cI_, cI_, cI_, cI_])]
def kd (t : Nat) : JKd := jkds.getD t (.inl (0, 0))
def fv1 (ad : JId → Nat) (n : Nat) (m : Nat → Int32) (r : Nat → Option Nat) (k : Nat) : Nat × Nat × Nat → Value
  | (0, _, _) => .int (m k)
  | (1, _, _) => va_rf (r k)
  | (_, t, d) => .ref (ad (t, n + d))
def fvl (ad : JId → Nat) (n : Nat) (m : Nat → Int32) (r : Nat → Option Nat) : Nat → List (Nat × Nat × Nat) → List Value
  | _, [] => []
  | k, c :: cs => fv1 ad n m r k c :: fvl ad n m r (k + 1) cs
theorem fvl_get {ad : JId → Nat} {n : Nat} {m : Nat → Int32} {r : Nat → Option Nat} : ∀ (cs : List (Nat × Nat × Nat)) (b k : Nat), (fvl ad n m r b cs)[k]? = (cs[k]?).map (fv1 ad n m r (b + k))
  | [], b, k => by simp [fvl]
  | c :: cs, b, 0 => by simp [fvl]
  | c :: cs, b, k + 1 => by
    simp only [fvl, List.getElem?_cons_succ]
    rw [fvl_get cs (b + 1) k, show b + 1 + k = b + (k + 1) by omega]
theorem fvl_len {ad : JId → Nat} {n : Nat} {m : Nat → Int32} {r : Nat → Option Nat} : ∀ (cs : List (Nat × Nat × Nat)) (b : Nat), (fvl ad n m r b cs).length = cs.length
  | [], b => rfl
  | c :: cs, b => by simp [fvl, fvl_len cs (b + 1)]
theorem fv1_m {ad : JId → Nat} {n k j : Nat} {m : Nat → Int32} {r : Nat → Option Nat} {v : Int32} {c : Nat × Nat × Nat} (h : j ≠ k ∨ c.1 ≠ 0) : fv1 ad n (upd m k v) r j c = fv1 ad n m r j c := by
  obtain ⟨a, t, d⟩ := c
  match a, h with
  | 0, h =>
    rcases h with h | h
    · simp [fv1, upd, h]
    · exact absurd rfl h
  | 1, _ => rfl
  | a + 2, _ => rfl
theorem fv1_r {ad : JId → Nat} {n k j : Nat} {m : Nat → Int32} {r : Nat → Option Nat} {v : Option Nat} {c : Nat × Nat × Nat} (h : j ≠ k ∨ c.1 ≠ 1) : fv1 ad n m (va_up r k v) j c = fv1 ad n m r j c := by
  obtain ⟨a, t, d⟩ := c
  match a, h with
  | 0, _ => rfl
  | 1, h =>
    rcases h with h | h
    · simp [fv1, va_up, h]
    · exact absurd rfl h
  | a + 2, _ => rfl
theorem fvl_setM {ad : JId → Nat} {n k : Nat} {m : Nat → Int32} {r : Nat → Option Nat} {v : Int32} {cs : List (Nat × Nat × Nat)} {t d : Nat} (hc : cs[k]? = some (0, t, d)) : fvl ad n (upd m k v) r 0 cs = (fvl ad n m r 0 cs).set k (.int v) := by
  apply List.ext_getElem?
  intro j
  rw [fvl_get, List.getElem?_set, fvl_get]
  have hl : k < (fvl ad n m r 0 cs).length := by rw [fvl_len]; exact (List.getElem?_eq_some_iff.mp hc).1
  by_cases hj : k = j
  · subst hj
    simp [hc, fv1, upd, hl]
  · rw [if_neg hj]
    cases cs[j]? with
    | none => rfl
    | some c => simp only [Option.map_some]; rw [fv1_m (Or.inl (by omega))]
theorem fvl_setR {ad : JId → Nat} {n k : Nat} {m : Nat → Int32} {r : Nat → Option Nat} {v : Option Nat} {cs : List (Nat × Nat × Nat)} {t d : Nat} (hc : cs[k]? = some (1, t, d)) : fvl ad n m (va_up r k v) 0 cs = (fvl ad n m r 0 cs).set k (va_rf v) := by
  apply List.ext_getElem?
  intro j
  rw [fvl_get, List.getElem?_set, fvl_get]
  have hl : k < (fvl ad n m r 0 cs).length := by rw [fvl_len]; exact (List.getElem?_eq_some_iff.mp hc).1
  by_cases hj : k = j
  · subst hj
    simp [hc, fv1, va_up, hl]
  · rw [if_neg hj]
    cases cs[j]? with
    | none => rfl
    | some c => simp only [Option.map_some]; rw [fv1_r (Or.inl (by omega))]
/-- the cell at an id -/
def jcel (cA : Nat → ClassId) (z : JZ) (i : JId) : va_E := match kd i.1 with
  | .inl (a, n) => .inl (cA a, n, if a < 2 then .inl (zM z i) else .inr (.inr (.inr (.inr (zR z i)))))
  | .inr (c, cs) => .inr (c, fvl (zA z) i.2 (zM z i) (zR z i) 0 cs)
theorem jcel_a {cA : Nat → ClassId} {z : JZ} {t j a n : Nat} (h : kd t = .inl (a, n)) (ha : a < 2) : jcel cA z (t, j) = .inl (cA a, n, .inl (zM z (t, j))) := by
  simp only [jcel, h, if_pos ha]
theorem jcel_q {cA : Nat → ClassId} {z : JZ} {t j a n : Nat} (h : kd t = .inl (a, n)) (ha : ¬ a < 2) : jcel cA z (t, j) = .inl (cA a, n, .inr (.inr (.inr (.inr (zR z (t, j)))))) := by
  simp only [jcel, h, if_neg ha]
theorem jcel_o {cA : Nat → ClassId} {z : JZ} {t j c : Nat} {cs : List (Nat × Nat × Nat)} (h : kd t = .inr (c, cs)) : jcel cA z (t, j) = .inr (c, fvl (zA z) j (zM z (t, j)) (zR z (t, j)) 0 cs) := by
  simp only [jcel, h]
/-- ints elsewhere change no cell here -/
theorem jcel_sA_n {cA : Nat → ClassId} {z : JZ} {i : JId} {f : Nat → Int32} {j : JId} (h : j ≠ i) : jcel cA (sA z i f) j = jcel cA z j := by
  unfold jcel
  rw [zM_sA_n h]
  rfl
theorem jcel_sR_n {cA : Nat → ClassId} {z : JZ} {i : JId} {k : Nat} {v : Option Nat} {j : JId} (h : j ≠ i) : jcel cA (sR z i k v) j = jcel cA z j := by
  unfold jcel
  rw [zR_sR_n h]
  rfl
abbrev jcls : List vw_C := [(RX0, TX0, 11), (RX1, TX1, 7), (RX2, TX2, 8), (RX3, TX3, 11), (RX4, TX4, 31), (RX5, TX5, 3), (RX6, TX6, 5), (RX8, TX8, 6), (RX9, TX9, 6), (RX10, TX10, 4), (RX11, TX11, 4)]
abbrev jtys (cA : Nat → ClassId) : List (ClassId × FieldType) := [(cA 0, .int), (cA 1, .boolean), (cA 2, .object "JoinLoom$Table"), (cA 3, .object "JoinLoom$Part"), (cA 4, .object "JoinLoom$Tree"), (cA 5, .array (.object "JoinLoom$Tree"))]
/-- the heap holds the picture; all cells lie at n0 or behind, apart -/
def jW (D : va_G) (cA : Nat → ClassId) (n0 : Nat) (z : JZ) (H : Heap) : Prop :=
  (∀ i, zL z i = true → va_at D jcls (zA z i, jcel cA z i) H) ∧ (∀ i, zL z i = true → n0 ≤ zA z i) ∧ (∀ i j, zL z i = true → zL z j = true → zA z i = zA z j → i = j) ∧ ∃ ids : List JId, ∀ i, zL z i = true → i ∈ ids
/-- the same as a list of cells, for the kit's rows -/
theorem jW.list {D : va_G} {cA : Nat → ClassId} {n0 : Nat} {z : JZ} {H : Heap} (h : jW D cA n0 z H) : ∃ ws : va_W, va_P D jcls ws H ∧ va_D (fun q => n0 ≤ q) ws ∧ (∀ i, zL z i = true → ∃ q : Nat, ws[q]? = some (zA z i, jcel cA z i)) ∧ ∀ (q : Nat) (x : Nat × va_E), ws[q]? = some x → ∃ i, zL z i = true ∧ x = (zA z i, jcel cA z i) := by
  obtain ⟨h1, h2, h3, ids, h4⟩ := h
  have key : ∀ ids : List JId, ∃ ws : va_W, (∀ (q : Nat) (x : Nat × va_E), ws[q]? = some x → ∃ i, zL z i = true ∧ x = (zA z i, jcel cA z i)) ∧ (∀ i ∈ ids, zL z i = true → ∃ q : Nat, ws[q]? = some (zA z i, jcel cA z i)) ∧ ∀ (a b : Nat) (x y : Nat × va_E), ws[a]? = some x → ws[b]? = some y → x.1 = y.1 → a = b := by
    intro ids
    induction ids with
    | nil => exact ⟨[], fun q x hx => by simp at hx, fun i hi => by simp at hi, fun a b x y hx => by simp at hx⟩
    | cons j ids ih =>
      obtain ⟨ws, a1, a2, a3⟩ := ih
      by_cases hj : zL z j = true ∧ ¬ ∃ q : Nat, ws[q]? = some (zA z j, jcel cA z j)
      · refine ⟨(zA z j, jcel cA z j) :: ws, fun q x hx => ?_, fun i hi hl => ?_, fun a b x y hx hy he => ?_⟩
        · cases q with
          | zero => simp at hx; exact ⟨j, hj.1, hx.symm⟩
          | succ q => exact a1 q x (by simpa using hx)
        · rcases List.mem_cons.mp hi with rfl | hi
          · exact ⟨0, rfl⟩
          · obtain ⟨q, hq⟩ := a2 i hi hl
            exact ⟨q + 1, by simpa using hq⟩
        · have key2 : ∀ (c : Nat) (w : Nat × va_E), ws[c]? = some w → w.1 ≠ zA z j := by
            intro c w hw hne
            obtain ⟨i, hi1, rfl⟩ := a1 c w hw
            have := h3 i j hi1 hj.1 hne
            subst this
            exact hj.2 ⟨c, hw⟩
          cases a with
          | zero =>
            cases b with
            | zero => rfl
            | succ b =>
              simp at hx hy
              subst hx
              exact absurd he.symm (key2 b y hy)
          | succ a =>
            cases b with
            | zero =>
              simp at hx hy
              subst hy
              exact absurd he (key2 a x hx)
            | succ b =>
              simp at hx hy
              rw [a3 a b x y hx hy he]
      · refine ⟨ws, a1, fun i hi hl => ?_, a3⟩
        rcases List.mem_cons.mp hi with rfl | hi
        · exact Classical.not_not.mp fun hn => hj ⟨hl, hn⟩
        · exact a2 i hi hl
  obtain ⟨ws, a1, a2, a3⟩ := key ids
  refine ⟨ws, fun k q hk => ?_, ⟨fun i j p q hp hq he => a3 i j p q hp hq he, fun k q hk => ?_⟩, fun i hl => a2 i (h4 i hl) hl, a1⟩
  · obtain ⟨i, hi, rfl⟩ := a1 k q hk
    exact h1 i hi
  · obtain ⟨i, hi, rfl⟩ := a1 k q hk
    exact h2 i hi
/-- behind a write of one cell -/
theorem jW.back {D : va_G} {cA : Nat → ClassId} {n0 : Nat} {z z' : JZ} {H H1 : Heap} {ws : va_W} {q0 : Nat} {i0 : JId} {e' : va_E} (h : jW D cA n0 z H) (hlive : zL z i0 = true) (hw : ∀ i, zL z i = true → ∃ q : Nat, ws[q]? = some (zA z i, jcel cA z i)) (hq : ws[q0]? = some (zA z i0, jcel cA z i0))
    (hP : va_P D jcls (ws.set q0 (zA z i0, e')) H1) (hz : zA z' = zA z) (hL : zL z' = zL z) (he : jcel cA z' i0 = e') (ho : ∀ i, i ≠ i0 → jcel cA z' i = jcel cA z i) : jW D cA n0 z' H1 := by
  obtain ⟨h1, h2, h3, ids, h4⟩ := h
  refine ⟨fun i hi => ?_, fun i hi => by rw [hz]; exact h2 i (by rw [← hL]; exact hi), fun i j hi hj he => h3 i j (by rw [← hL]; exact hi) (by rw [← hL]; exact hj) (by rw [← hz]; exact he), ids, fun i hi => h4 i (by rw [← hL]; exact hi)⟩
  have hlt := (List.getElem?_eq_some_iff.mp hq).1
  rw [hL] at hi
  rw [hz]
  by_cases hii : i = i0
  · subst hii
    rw [he]
    exact hP q0 _ (by rw [List.getElem?_set_self hlt])
  · rw [ho i hii]
    obtain ⟨q, hq1⟩ := hw i hi
    refine hP q _ ?_
    rw [List.getElem?_set_ne (fun hh => ?_)]
    · exact hq1
    · subst hh
      rw [hq] at hq1
      have := congrArg Prod.fst (Option.some.inj hq1)
      exact hii (h3 i i0 hi hlive this.symm)
/-- behind a new cell -/
theorem jW.push {D : va_G} {cA : Nat → ClassId} {n0 : Nat} {z : JZ} {H H1 : Heap} {ws : va_W} {a : Nat} {i0 : JId} {e : va_E} (h : jW D cA n0 z H) (hw : ∀ i, zL z i = true → ∃ q : Nat, ws[q]? = some (zA z i, jcel cA z i))
    (hP : va_P D jcls (ws ++ [(a, e)]) H1) (hD : va_D (fun q => n0 ≤ q) (ws ++ [(a, e)])) (he : jcel cA (sN z i0 a) i0 = e) (ho : ∀ i, i ≠ i0 → zL z i = true → jcel cA (sN z i0 a) i = jcel cA z i) : jW D cA n0 (sN z i0 a) H1 := by
  obtain ⟨h1, h2, h3, ids, h4⟩ := h
  have hself : (ws ++ [(a, e)])[ws.length]? = some (a, e) := by simp
  have hold : ∀ i, zL z i = true → ∃ q : Nat, q < ws.length ∧ (ws ++ [(a, e)])[q]? = some (zA z i, jcel cA z i) := by
    intro i hi
    obtain ⟨q, hq⟩ := hw i hi
    have hlt := (List.getElem?_eq_some_iff.mp hq).1
    exact ⟨q, hlt, by rw [List.getElem?_append_left hlt]; exact hq⟩
  have ha : ∀ i, zA (sN z i0 a) i = if i = i0 then a else zA z i := fun i => rfl
  have hl : ∀ i, zL (sN z i0 a) i = if i = i0 then true else zL z i := fun i => rfl
  refine ⟨fun i hi => ?_, fun i hi => ?_, fun i j hi hj hij => ?_, i0 :: ids, fun i hi => ?_⟩
  · rw [ha]
    by_cases hii : i = i0
    · subst hii
      rw [if_pos rfl, he]
      exact hP _ _ hself
    · rw [hl, if_neg hii] at hi
      rw [if_neg hii, ho i hii hi]
      obtain ⟨q, -, hq⟩ := hold i hi
      exact hP _ _ hq
  · rw [ha]
    by_cases hii : i = i0
    · rw [if_pos hii]
      exact hD.2 _ _ hself
    · rw [hl, if_neg hii] at hi
      rw [if_neg hii]
      exact h2 i hi
  · rw [ha, ha] at hij
    by_cases hii : i = i0
    · by_cases hjj : j = i0
      · rw [hii, hjj]
      · rw [hl, if_neg hjj] at hj
        rw [if_pos hii, if_neg hjj] at hij
        obtain ⟨q, hq1, hq⟩ := hold j hj
        have := hD.1 _ _ _ _ hself hq hij
        omega
    · rw [hl, if_neg hii] at hi
      by_cases hjj : j = i0
      · rw [if_neg hii, if_pos hjj] at hij
        obtain ⟨q, hq1, hq⟩ := hold i hi
        have := hD.1 _ _ _ _ hself hq hij.symm
        omega
      · rw [hl, if_neg hjj] at hj
        rw [if_neg hii, if_neg hjj] at hij
        exact h3 i j hi hj hij
  · rw [hl] at hi
    by_cases hii : i = i0
    · rw [hii]; exact List.mem_cons_self
    · rw [if_neg hii] at hi
      exact List.mem_cons_of_mem _ (h4 i hi)
/-- fewer cells, by another picture of the same ones -/
theorem jW.re {D : va_G} {cA : Nat → ClassId} {n0 : Nat} {z z' : JZ} {H : Heap} (h : jW D cA n0 z H) (φ : JId → JId) (hφ : ∀ i, zL z' i = true → zL z (φ i) = true ∧ zA z' i = zA z (φ i) ∧ jcel cA z' i = jcel cA z (φ i)) (hinj : ∀ i j, zL z' i = true → zL z' j = true → φ i = φ j → i = j) (hfin : ∃ ids : List JId, ∀ i, zL z' i = true → i ∈ ids) : jW D cA n0 z' H := by
  obtain ⟨h1, h2, h3, -⟩ := h
  refine ⟨fun i hi => ?_, fun i hi => ?_, fun i j hi hj hij => ?_, hfin⟩
  · obtain ⟨a, b, c⟩ := hφ i hi
    rw [b, c]
    exact h1 _ a
  · obtain ⟨a, b, c⟩ := hφ i hi
    rw [b]
    exact h2 _ a
  · obtain ⟨a, b, -⟩ := hφ i hi
    obtain ⟨a', b', -⟩ := hφ j hj
    exact hinj i j hi hj (h3 _ _ a a' (by rw [← b, ← b']; exact hij))

/-- the words that ride in no list: nest mates, casts, abstract methods -/
def jnw : List Cond := [
  (Jvm.Cond.methodLinkNest "JoinLoom" (20 : Nat) ({ cls := "JoinLoom$Cloth", name := "<init>", desc := "()V" } : Jvm.MethodName) "JoinLoom"),
  (Jvm.Cond.fieldLinkNest "JoinLoom$Loom" (51 : Nat) "JoinLoom$Cloth" "names" "I" "JoinLoom"),
  (Jvm.Cond.fieldLinkNest "JoinLoom" (172 : Nat) "JoinLoom$Cloth" "names" "I" "JoinLoom"),
  (Jvm.Cond.fieldLinkNest "JoinLoom$Loom" (54 : Nat) "JoinLoom$Cloth" "many" "I" "JoinLoom"),
  (Jvm.Cond.fieldLinkNest "JoinLoom" (167 : Nat) "JoinLoom$Cloth" "many" "I" "JoinLoom"),
  (Jvm.Cond.fieldLinkNest "JoinLoom$Loom" (60 : Nat) "JoinLoom$Cloth" "meetings" "[I" "JoinLoom"),
  (Jvm.Cond.fieldLinkNest "JoinLoom" (180 : Nat) "JoinLoom$Cloth" "meetings" "[I" "JoinLoom"),
  (Jvm.Cond.fieldLinkNest "JoinLoom" (183 : Nat) "JoinLoom$Cloth" "witness" "[I" "JoinLoom"),
  (Jvm.Cond.fieldLinkNest "JoinLoom$Loom" (57 : Nat) "JoinLoom$Cloth" "isThere" "Z" "JoinLoom"),
  (Jvm.Cond.fieldLinkNest "JoinLoom" (168 : Nat) "JoinLoom$Cloth" "isThere" "Z" "JoinLoom"),
  (Jvm.Cond.methodLinkNest "JoinLoom" (33 : Nat) ({ cls := "JoinLoom$Loom", name := "<init>", desc := "()V" } : Jvm.MethodName) "JoinLoom"),
  (Jvm.Cond.methodLinkNest "JoinLoom$Loom" (11 : Nat) ({ cls := "JoinLoom$Tree", name := "<init>", desc := "()V" } : Jvm.MethodName) "JoinLoom"),
  (Jvm.Cond.fieldLinkNest "JoinLoom$Loom" (82 : Nat) "JoinLoom$Tree" "many" "I" "JoinLoom"),
  (Jvm.Cond.fieldLinkNest "JoinLoom$Loom" (79 : Nat) "JoinLoom$Tree" "deep" "I" "JoinLoom"),
  (Jvm.Cond.fieldLinkNest "JoinLoom$Has" (29 : Nat) "JoinLoom$Table" "columns" "I" "JoinLoom"),
  (Jvm.Cond.fieldLinkNest "JoinLoom" (89 : Nat) "JoinLoom$Table" "columns" "I" "JoinLoom"),
  (Jvm.Cond.fieldLinkNest "JoinLoom$Tree" (58 : Nat) "JoinLoom$Table" "many" "I" "JoinLoom"),
  (Jvm.Cond.fieldLinkNest "JoinLoom" (75 : Nat) "JoinLoom$Table" "many" "I" "JoinLoom"),
  (Jvm.Cond.methodLinkNest "JoinLoom$Table" (23 : Nat) ({ cls := "JoinLoom", name := "rank", desc := "(I)J" } : Jvm.MethodName) "JoinLoom"),
  (Jvm.Cond.fieldLinkNest "JoinLoom$Loom" (46 : Nat) "JoinLoom$Question" "names" "I" "JoinLoom"),
  (Jvm.Cond.fieldLinkNest "JoinLoom" (126 : Nat) "JoinLoom$Question" "names" "I" "JoinLoom"),
  (Jvm.Cond.fieldLinkNest "JoinLoom$Loom" (64 : Nat) "JoinLoom$Question" "parts" "[LJoinLoom$Part;" "JoinLoom"),
  (Jvm.Cond.fieldLinkNest "JoinLoom$Cloth" (56 : Nat) "JoinLoom$Question" "parts" "[LJoinLoom$Part;" "JoinLoom"),
  (Jvm.Cond.fieldLinkNest "JoinLoom" (209 : Nat) "JoinLoom$Question" "parts" "[LJoinLoom$Part;" "JoinLoom"),
  (Jvm.Cond.fieldLinkNest "JoinLoom$Loom" (63 : Nat) "JoinLoom$Question" "many" "I" "JoinLoom"),
  (Jvm.Cond.fieldLinkNest "JoinLoom$Cloth" (53 : Nat) "JoinLoom$Question" "many" "I" "JoinLoom"),
  (Jvm.Cond.fieldLinkNest "JoinLoom" (97 : Nat) "JoinLoom$Question" "many" "I" "JoinLoom"),
  (Jvm.Cond.fieldLinkNest "JoinLoom" (98 : Nat) "JoinLoom$Question" "haves" "I" "JoinLoom"),
  (Jvm.Cond.fieldLinkNest "JoinLoom" (147 : Nat) "JoinLoom$Question" "order" "[I" "JoinLoom"),
  (Jvm.Cond.methodLinkNest "JoinLoom" (115 : Nat) ({ cls := "JoinLoom$Question", name := "last", desc := "()LJoinLoom$Has;" } : Jvm.MethodName) "JoinLoom"),
  (Jvm.Cond.declares ({ cls := "JoinLoom$Part", name := "names", desc := "()I" } : Jvm.MethodName)),
  (Jvm.Cond.methodLinkNest "JoinLoom$Tree" (79 : Nat) ({ cls := "JoinLoom", name := "rank", desc := "(I)J" } : Jvm.MethodName) "JoinLoom"),
  (Jvm.Cond.methodLinkNest "JoinLoom$Cloth" (45 : Nat) ({ cls := "JoinLoom", name := "rank", desc := "(I)J" } : Jvm.MethodName) "JoinLoom"),
  (Jvm.Cond.methodLinkNest "JoinLoom$Loom" (133 : Nat) ({ cls := "JoinLoom", name := "rank", desc := "(I)J" } : Jvm.MethodName) "JoinLoom"),
  (Jvm.Cond.declares ({ cls := "JoinLoom$Part", name := "isTrue", desc := "([I)Z" } : Jvm.MethodName)),
  (Jvm.Cond.methodLinkNest "JoinLoom$Less" (15 : Nat) ({ cls := "JoinLoom", name := "rank", desc := "(I)J" } : Jvm.MethodName) "JoinLoom"),
  (Jvm.Cond.declares ({ cls := "JoinLoom$Same", name := "other", desc := "([I)I" } : Jvm.MethodName)),
  (Jvm.Cond.castable "JoinLoom$Not" "JoinLoom$Has"),
  (Jvm.Cond.castable "JoinLoom$Has" "JoinLoom$Part"),
  (Jvm.Cond.castable "JoinLoom$Not" "JoinLoom$Part"),
  (Jvm.Cond.castable "JoinLoom$Same" "JoinLoom$Part"),
  (Jvm.Cond.castable "JoinLoom$Less" "JoinLoom$Part")]
theorem nq83 : (Jvm.Cond.methodLinkNest "JoinLoom" (20 : Nat) ({ cls := "JoinLoom$Cloth", name := "<init>", desc := "()V" } : Jvm.MethodName) "JoinLoom") ∈ jnw := List.mem_of_getElem? (i := 0) rfl
theorem nq87 : (Jvm.Cond.fieldLinkNest "JoinLoom$Loom" (51 : Nat) "JoinLoom$Cloth" "names" "I" "JoinLoom") ∈ jnw := List.mem_of_getElem? (i := 1) rfl
theorem nq89 : (Jvm.Cond.fieldLinkNest "JoinLoom" (172 : Nat) "JoinLoom$Cloth" "names" "I" "JoinLoom") ∈ jnw := List.mem_of_getElem? (i := 2) rfl
theorem nq90 : (Jvm.Cond.fieldLinkNest "JoinLoom$Loom" (54 : Nat) "JoinLoom$Cloth" "many" "I" "JoinLoom") ∈ jnw := List.mem_of_getElem? (i := 3) rfl
theorem nq92 : (Jvm.Cond.fieldLinkNest "JoinLoom" (167 : Nat) "JoinLoom$Cloth" "many" "I" "JoinLoom") ∈ jnw := List.mem_of_getElem? (i := 4) rfl
theorem nq95 : (Jvm.Cond.fieldLinkNest "JoinLoom$Loom" (60 : Nat) "JoinLoom$Cloth" "meetings" "[I" "JoinLoom") ∈ jnw := List.mem_of_getElem? (i := 5) rfl
theorem nq96 : (Jvm.Cond.fieldLinkNest "JoinLoom" (180 : Nat) "JoinLoom$Cloth" "meetings" "[I" "JoinLoom") ∈ jnw := List.mem_of_getElem? (i := 6) rfl
theorem nq98 : (Jvm.Cond.fieldLinkNest "JoinLoom" (183 : Nat) "JoinLoom$Cloth" "witness" "[I" "JoinLoom") ∈ jnw := List.mem_of_getElem? (i := 7) rfl
theorem nq99 : (Jvm.Cond.fieldLinkNest "JoinLoom$Loom" (57 : Nat) "JoinLoom$Cloth" "isThere" "Z" "JoinLoom") ∈ jnw := List.mem_of_getElem? (i := 8) rfl
theorem nq101 : (Jvm.Cond.fieldLinkNest "JoinLoom" (168 : Nat) "JoinLoom$Cloth" "isThere" "Z" "JoinLoom") ∈ jnw := List.mem_of_getElem? (i := 9) rfl
theorem nq121 : (Jvm.Cond.methodLinkNest "JoinLoom" (33 : Nat) ({ cls := "JoinLoom$Loom", name := "<init>", desc := "()V" } : Jvm.MethodName) "JoinLoom") ∈ jnw := List.mem_of_getElem? (i := 10) rfl
theorem nq128 : (Jvm.Cond.methodLinkNest "JoinLoom$Loom" (11 : Nat) ({ cls := "JoinLoom$Tree", name := "<init>", desc := "()V" } : Jvm.MethodName) "JoinLoom") ∈ jnw := List.mem_of_getElem? (i := 11) rfl
theorem nq135 : (Jvm.Cond.fieldLinkNest "JoinLoom$Loom" (82 : Nat) "JoinLoom$Tree" "many" "I" "JoinLoom") ∈ jnw := List.mem_of_getElem? (i := 12) rfl
theorem nq139 : (Jvm.Cond.fieldLinkNest "JoinLoom$Loom" (79 : Nat) "JoinLoom$Tree" "deep" "I" "JoinLoom") ∈ jnw := List.mem_of_getElem? (i := 13) rfl
theorem nq247 : (Jvm.Cond.fieldLinkNest "JoinLoom$Has" (29 : Nat) "JoinLoom$Table" "columns" "I" "JoinLoom") ∈ jnw := List.mem_of_getElem? (i := 14) rfl
theorem nq248 : (Jvm.Cond.fieldLinkNest "JoinLoom" (89 : Nat) "JoinLoom$Table" "columns" "I" "JoinLoom") ∈ jnw := List.mem_of_getElem? (i := 15) rfl
theorem nq250 : (Jvm.Cond.fieldLinkNest "JoinLoom$Tree" (58 : Nat) "JoinLoom$Table" "many" "I" "JoinLoom") ∈ jnw := List.mem_of_getElem? (i := 16) rfl
theorem nq252 : (Jvm.Cond.fieldLinkNest "JoinLoom" (75 : Nat) "JoinLoom$Table" "many" "I" "JoinLoom") ∈ jnw := List.mem_of_getElem? (i := 17) rfl
theorem nq284 : (Jvm.Cond.methodLinkNest "JoinLoom$Table" (23 : Nat) ({ cls := "JoinLoom", name := "rank", desc := "(I)J" } : Jvm.MethodName) "JoinLoom") ∈ jnw := List.mem_of_getElem? (i := 18) rfl
theorem nq328 : (Jvm.Cond.fieldLinkNest "JoinLoom$Loom" (46 : Nat) "JoinLoom$Question" "names" "I" "JoinLoom") ∈ jnw := List.mem_of_getElem? (i := 19) rfl
theorem nq329 : (Jvm.Cond.fieldLinkNest "JoinLoom" (126 : Nat) "JoinLoom$Question" "names" "I" "JoinLoom") ∈ jnw := List.mem_of_getElem? (i := 20) rfl
theorem nq331 : (Jvm.Cond.fieldLinkNest "JoinLoom$Loom" (64 : Nat) "JoinLoom$Question" "parts" "[LJoinLoom$Part;" "JoinLoom") ∈ jnw := List.mem_of_getElem? (i := 21) rfl
theorem nq332 : (Jvm.Cond.fieldLinkNest "JoinLoom$Cloth" (56 : Nat) "JoinLoom$Question" "parts" "[LJoinLoom$Part;" "JoinLoom") ∈ jnw := List.mem_of_getElem? (i := 22) rfl
theorem nq333 : (Jvm.Cond.fieldLinkNest "JoinLoom" (209 : Nat) "JoinLoom$Question" "parts" "[LJoinLoom$Part;" "JoinLoom") ∈ jnw := List.mem_of_getElem? (i := 23) rfl
theorem nq335 : (Jvm.Cond.fieldLinkNest "JoinLoom$Loom" (63 : Nat) "JoinLoom$Question" "many" "I" "JoinLoom") ∈ jnw := List.mem_of_getElem? (i := 24) rfl
theorem nq336 : (Jvm.Cond.fieldLinkNest "JoinLoom$Cloth" (53 : Nat) "JoinLoom$Question" "many" "I" "JoinLoom") ∈ jnw := List.mem_of_getElem? (i := 25) rfl
theorem nq337 : (Jvm.Cond.fieldLinkNest "JoinLoom" (97 : Nat) "JoinLoom$Question" "many" "I" "JoinLoom") ∈ jnw := List.mem_of_getElem? (i := 26) rfl
theorem nq338 : (Jvm.Cond.fieldLinkNest "JoinLoom" (98 : Nat) "JoinLoom$Question" "haves" "I" "JoinLoom") ∈ jnw := List.mem_of_getElem? (i := 27) rfl
theorem nq340 : (Jvm.Cond.fieldLinkNest "JoinLoom" (147 : Nat) "JoinLoom$Question" "order" "[I" "JoinLoom") ∈ jnw := List.mem_of_getElem? (i := 28) rfl
theorem nq422 : (Jvm.Cond.methodLinkNest "JoinLoom" (115 : Nat) ({ cls := "JoinLoom$Question", name := "last", desc := "()LJoinLoom$Has;" } : Jvm.MethodName) "JoinLoom") ∈ jnw := List.mem_of_getElem? (i := 29) rfl
theorem nq491 : (Jvm.Cond.declares ({ cls := "JoinLoom$Part", name := "names", desc := "()I" } : Jvm.MethodName)) ∈ jnw := List.mem_of_getElem? (i := 30) rfl
theorem nq524 : (Jvm.Cond.methodLinkNest "JoinLoom$Tree" (79 : Nat) ({ cls := "JoinLoom", name := "rank", desc := "(I)J" } : Jvm.MethodName) "JoinLoom") ∈ jnw := List.mem_of_getElem? (i := 31) rfl
theorem nq541 : (Jvm.Cond.methodLinkNest "JoinLoom$Cloth" (45 : Nat) ({ cls := "JoinLoom", name := "rank", desc := "(I)J" } : Jvm.MethodName) "JoinLoom") ∈ jnw := List.mem_of_getElem? (i := 32) rfl
theorem nq569 : (Jvm.Cond.methodLinkNest "JoinLoom$Loom" (133 : Nat) ({ cls := "JoinLoom", name := "rank", desc := "(I)J" } : Jvm.MethodName) "JoinLoom") ∈ jnw := List.mem_of_getElem? (i := 33) rfl
theorem nq583 : (Jvm.Cond.declares ({ cls := "JoinLoom$Part", name := "isTrue", desc := "([I)Z" } : Jvm.MethodName)) ∈ jnw := List.mem_of_getElem? (i := 34) rfl
theorem nq602 : (Jvm.Cond.methodLinkNest "JoinLoom$Less" (15 : Nat) ({ cls := "JoinLoom", name := "rank", desc := "(I)J" } : Jvm.MethodName) "JoinLoom") ∈ jnw := List.mem_of_getElem? (i := 35) rfl
theorem nq605 : (Jvm.Cond.declares ({ cls := "JoinLoom$Same", name := "other", desc := "([I)I" } : Jvm.MethodName)) ∈ jnw := List.mem_of_getElem? (i := 36) rfl
theorem nq1110 : (Jvm.Cond.castable "JoinLoom$Not" "JoinLoom$Has") ∈ jnw := List.mem_of_getElem? (i := 37) rfl
theorem nq1111 : (Jvm.Cond.castable "JoinLoom$Has" "JoinLoom$Part") ∈ jnw := List.mem_of_getElem? (i := 38) rfl
theorem nq1112 : (Jvm.Cond.castable "JoinLoom$Not" "JoinLoom$Part") ∈ jnw := List.mem_of_getElem? (i := 39) rfl
theorem nq1113 : (Jvm.Cond.castable "JoinLoom$Same" "JoinLoom$Part") ∈ jnw := List.mem_of_getElem? (i := 40) rfl
theorem nq1114 : (Jvm.Cond.castable "JoinLoom$Less" "JoinLoom$Part") ∈ jnw := List.mem_of_getElem? (i := 41) rfl
theorem jnw_tbl : ∀ w ∈ jnw, w ∈ lw_tbl := by
  refine List.forall_mem_cons.mpr ⟨q83, List.forall_mem_cons.mpr ⟨q87, List.forall_mem_cons.mpr ⟨q89, List.forall_mem_cons.mpr ⟨q90, List.forall_mem_cons.mpr ⟨q92, List.forall_mem_cons.mpr ⟨q95, List.forall_mem_cons.mpr ⟨q96, List.forall_mem_cons.mpr ⟨q98, List.forall_mem_cons.mpr ⟨q99, List.forall_mem_cons.mpr ⟨q101, List.forall_mem_cons.mpr ⟨q121, List.forall_mem_cons.mpr ⟨q128, List.forall_mem_cons.mpr ⟨q135, List.forall_mem_cons.mpr ⟨q139, List.forall_mem_cons.mpr ⟨q247, List.forall_mem_cons.mpr ⟨q248, List.forall_mem_cons.mpr ⟨q250, List.forall_mem_cons.mpr ⟨q252, List.forall_mem_cons.mpr ⟨q284, List.forall_mem_cons.mpr ⟨q328, List.forall_mem_cons.mpr ⟨q329, List.forall_mem_cons.mpr ⟨q331, List.forall_mem_cons.mpr ⟨q332, List.forall_mem_cons.mpr ⟨q333, List.forall_mem_cons.mpr ⟨q335, List.forall_mem_cons.mpr ⟨q336, List.forall_mem_cons.mpr ⟨q337, List.forall_mem_cons.mpr ⟨q338, List.forall_mem_cons.mpr ⟨q340, List.forall_mem_cons.mpr ⟨q422, List.forall_mem_cons.mpr ⟨q491, List.forall_mem_cons.mpr ⟨q524, List.forall_mem_cons.mpr ⟨q541, List.forall_mem_cons.mpr ⟨q569, List.forall_mem_cons.mpr ⟨q583, List.forall_mem_cons.mpr ⟨q602, List.forall_mem_cons.mpr ⟨q605, List.forall_mem_cons.mpr ⟨q1110, List.forall_mem_cons.mpr ⟨q1111, List.forall_mem_cons.mpr ⟨q1112, List.forall_mem_cons.mpr ⟨q1113, List.forall_mem_cons.mpr ⟨q1114, fun _ h => absurd h List.not_mem_nil⟩⟩⟩⟩⟩⟩⟩⟩⟩⟩⟩⟩⟩⟩⟩⟩⟩⟩⟩⟩⟩⟩⟩⟩⟩⟩⟩⟩⟩⟩⟩⟩⟩⟩⟩⟩⟩⟩⟩⟩⟩⟩
theorem jnw_on : ∀ w ∈ jnw, w.onTables = true := by
  refine List.forall_mem_cons.mpr ⟨rfl, List.forall_mem_cons.mpr ⟨rfl, List.forall_mem_cons.mpr ⟨rfl, List.forall_mem_cons.mpr ⟨rfl, List.forall_mem_cons.mpr ⟨rfl, List.forall_mem_cons.mpr ⟨rfl, List.forall_mem_cons.mpr ⟨rfl, List.forall_mem_cons.mpr ⟨rfl, List.forall_mem_cons.mpr ⟨rfl, List.forall_mem_cons.mpr ⟨rfl, List.forall_mem_cons.mpr ⟨rfl, List.forall_mem_cons.mpr ⟨rfl, List.forall_mem_cons.mpr ⟨rfl, List.forall_mem_cons.mpr ⟨rfl, List.forall_mem_cons.mpr ⟨rfl, List.forall_mem_cons.mpr ⟨rfl, List.forall_mem_cons.mpr ⟨rfl, List.forall_mem_cons.mpr ⟨rfl, List.forall_mem_cons.mpr ⟨rfl, List.forall_mem_cons.mpr ⟨rfl, List.forall_mem_cons.mpr ⟨rfl, List.forall_mem_cons.mpr ⟨rfl, List.forall_mem_cons.mpr ⟨rfl, List.forall_mem_cons.mpr ⟨rfl, List.forall_mem_cons.mpr ⟨rfl, List.forall_mem_cons.mpr ⟨rfl, List.forall_mem_cons.mpr ⟨rfl, List.forall_mem_cons.mpr ⟨rfl, List.forall_mem_cons.mpr ⟨rfl, List.forall_mem_cons.mpr ⟨rfl, List.forall_mem_cons.mpr ⟨rfl, List.forall_mem_cons.mpr ⟨rfl, List.forall_mem_cons.mpr ⟨rfl, List.forall_mem_cons.mpr ⟨rfl, List.forall_mem_cons.mpr ⟨rfl, List.forall_mem_cons.mpr ⟨rfl, List.forall_mem_cons.mpr ⟨rfl, List.forall_mem_cons.mpr ⟨rfl, List.forall_mem_cons.mpr ⟨rfl, List.forall_mem_cons.mpr ⟨rfl, List.forall_mem_cons.mpr ⟨rfl, List.forall_mem_cons.mpr ⟨rfl, fun _ h => absurd h List.not_mem_nil⟩⟩⟩⟩⟩⟩⟩⟩⟩⟩⟩⟩⟩⟩⟩⟩⟩⟩⟩⟩⟩⟩⟩⟩⟩⟩⟩⟩⟩⟩⟩⟩⟩⟩⟩⟩⟩⟩⟩⟩⟩⟩
theorem jnw_warm {s U : State} (hW : s.WarmedH U.vm) (h : ∀ w ∈ jnw, va_Nw w s) : ∀ w ∈ jnw, va_Nw w U := by
  refine List.forall_mem_cons.mpr ⟨va_Nw.warmM hW (h _ nq83), List.forall_mem_cons.mpr ⟨va_Nw.warmF hW (h _ nq87), List.forall_mem_cons.mpr ⟨va_Nw.warmF hW (h _ nq89), List.forall_mem_cons.mpr ⟨va_Nw.warmF hW (h _ nq90), List.forall_mem_cons.mpr ⟨va_Nw.warmF hW (h _ nq92), List.forall_mem_cons.mpr ⟨va_Nw.warmF hW (h _ nq95), List.forall_mem_cons.mpr ⟨va_Nw.warmF hW (h _ nq96), List.forall_mem_cons.mpr ⟨va_Nw.warmF hW (h _ nq98), List.forall_mem_cons.mpr ⟨va_Nw.warmF hW (h _ nq99), List.forall_mem_cons.mpr ⟨va_Nw.warmF hW (h _ nq101), List.forall_mem_cons.mpr ⟨va_Nw.warmM hW (h _ nq121), List.forall_mem_cons.mpr ⟨va_Nw.warmM hW (h _ nq128), List.forall_mem_cons.mpr ⟨va_Nw.warmF hW (h _ nq135), List.forall_mem_cons.mpr ⟨va_Nw.warmF hW (h _ nq139), List.forall_mem_cons.mpr ⟨va_Nw.warmF hW (h _ nq247), List.forall_mem_cons.mpr ⟨va_Nw.warmF hW (h _ nq248), List.forall_mem_cons.mpr ⟨va_Nw.warmF hW (h _ nq250), List.forall_mem_cons.mpr ⟨va_Nw.warmF hW (h _ nq252), List.forall_mem_cons.mpr ⟨va_Nw.warmM hW (h _ nq284), List.forall_mem_cons.mpr ⟨va_Nw.warmF hW (h _ nq328), List.forall_mem_cons.mpr ⟨va_Nw.warmF hW (h _ nq329), List.forall_mem_cons.mpr ⟨va_Nw.warmF hW (h _ nq331), List.forall_mem_cons.mpr ⟨va_Nw.warmF hW (h _ nq332), List.forall_mem_cons.mpr ⟨va_Nw.warmF hW (h _ nq333), List.forall_mem_cons.mpr ⟨va_Nw.warmF hW (h _ nq335), List.forall_mem_cons.mpr ⟨va_Nw.warmF hW (h _ nq336), List.forall_mem_cons.mpr ⟨va_Nw.warmF hW (h _ nq337), List.forall_mem_cons.mpr ⟨va_Nw.warmF hW (h _ nq338), List.forall_mem_cons.mpr ⟨va_Nw.warmF hW (h _ nq340), List.forall_mem_cons.mpr ⟨va_Nw.warmM hW (h _ nq422), List.forall_mem_cons.mpr ⟨va_Nw.warmD hW (h _ nq491), List.forall_mem_cons.mpr ⟨va_Nw.warmM hW (h _ nq524), List.forall_mem_cons.mpr ⟨va_Nw.warmM hW (h _ nq541), List.forall_mem_cons.mpr ⟨va_Nw.warmM hW (h _ nq569), List.forall_mem_cons.mpr ⟨va_Nw.warmD hW (h _ nq583), List.forall_mem_cons.mpr ⟨va_Nw.warmM hW (h _ nq602), List.forall_mem_cons.mpr ⟨va_Nw.warmD hW (h _ nq605), List.forall_mem_cons.mpr ⟨va_Nw.warmC hW (h _ nq1110), List.forall_mem_cons.mpr ⟨va_Nw.warmC hW (h _ nq1111), List.forall_mem_cons.mpr ⟨va_Nw.warmC hW (h _ nq1112), List.forall_mem_cons.mpr ⟨va_Nw.warmC hW (h _ nq1113), List.forall_mem_cons.mpr ⟨va_Nw.warmC hW (h _ nq1114), fun _ h => absurd h List.not_mem_nil⟩⟩⟩⟩⟩⟩⟩⟩⟩⟩⟩⟩⟩⟩⟩⟩⟩⟩⟩⟩⟩⟩⟩⟩⟩⟩⟩⟩⟩⟩⟩⟩⟩⟩⟩⟩⟩⟩⟩⟩⟩⟩
/-- what is known of the tables at a state -/
def jKK (D : va_G) (cA : Nat → ClassId) (U : State) : Prop := va_K D jcls (jtys cA) U ∧ (∀ w ∈ jnw, va_Nw w U) ∧ va_Nc "JoinLoom$Same" "JoinLoom$Has" U ∧ va_Nc "JoinLoom$Less" "JoinLoom$Has" U ∧ va_Nw (.selects "JoinLoom$Not" yX8_value yX8_value) U
theorem jsel_warm {s U : State} (hW : s.WarmedH U.vm) (h : va_Nw (.selects "JoinLoom$Not" yX8_value yX8_value) s) : va_Nw (.selects "JoinLoom$Not" yX8_value yX8_value) U := word_at hW (Or.inl rfl) h
theorem jKK.warm {D : va_G} {cA : Nat → ClassId} {s U : State} (hW : s.WarmedH U.vm) (h : jKK D cA s) : jKK D cA U := ⟨va_K.moved hW.alike h.1, jnw_warm hW h.2.1, h.2.2.1.moved hW.alike, h.2.2.2.1.moved hW.alike, jsel_warm hW h.2.2.2.2⟩
theorem jKK.same {D : va_G} {cA : Nat → ClassId} {s U : State} (hv : s.vm = U.vm) (h : jKK D cA s) : jKK D cA U :=
  ⟨va_K.moved (by rw [hv]; exact Vm.Alike.refl _) h.1, fun w hw => va_Nw.same (jnw_on w hw) hv (h.2.1 w hw), h.2.2.1.moved (by rw [hv]; exact Vm.Alike.refl _), h.2.2.2.1.moved (by rw [hv]; exact Vm.Alike.refl _), va_Nw.same rfl hv h.2.2.2.2⟩
abbrev JC : Type := Program × Launch × Env × Room × State × MethodId × Array Value × List Frame × Method × Code × (State → Prop) × va_G × (Nat → ClassId) × Nat × Nat
/-- the machine, at the picture z, the place pc, locals lv, stack st, comes to its end -/
def jG (Γ : JC) (cells slots : Nat) (z : JZ) (pc : Nat) (lv : List (Nat × Value)) (st : List Value) : Prop := match Γ with
  | (p, l, e, R, s, m, args, below, meth, c, Q, D, cA, n0, nL) => ∀ (H : Heap) (locs : List Loc) (ls : Array Slot), jW D cA n0 z H → va_S (fun q => n0 ≤ q) s.heap H locs → lv_has ls nL lv → W p l e R s m args below meth c H locs cells slots Q (F0 m pc ls st)
def jOk (Γ : JC) (l : Launch) (R : Room) (cc : ByteArray) (own : String) (ret : Option FieldType) (nL : Nat) : Prop := match Γ with
  | (p, l', _, R', s, m, args, _, meth, c, _, D, cA, n0, nL') => l' = l ∧ R' = R ∧ p.tables.exec = Jvm.exec ∧ c.code = cc ∧ c.maxLocals = nL' ∧ s.vm.findClass own = some m.cls ∧ (∀ w ∈ lw_all, w.before args s = true) ∧ meth.sig.returnType = ret ∧ meth.locks = false ∧ (jKK D cA s ∧ nL' = nL) ∧ n0 ≤ s.heap.size
/-- a method's end -/
def jQ (D : va_G) (cA : Nat → ClassId) (n0 : Nat) (post : Option Value → JZ → Prop) : Array Value → State → Outcome → State → Prop := fun _ st oc t => (∃ (v : Option Value) (z' : JZ), oc = .returned v ∧ post v z' ∧ jW D cA n0 z' t.heap) ∧ va_F (fun q => n0 ≤ q) st t
def jRt (Γ : JC) (post : Option Value → JZ → Prop) (mc ms : Nat) (nm : String) : Prop := match Γ with
  | (_, _, _, _, s, _, args, below, meth, _, Q, D, cA, n0, _) => Q = MQ below (jQ D cA n0 post) args s mc ms (fun q => n0 ≤ q) ∧ meth.name = nm
def jrm (h mc ms : Nat) : Room := { frames := h, cells := mc, slots := ms, locals := 100 * h }
/-- a method's contract, at the picture z -/
def jCt (l : Launch) (y : MethodName) (cc : ByteArray) (nL : Nat) (ret : Option FieldType) (h mc ms : Nat) (ar : List Value) (z : JZ) (post : Option Value → JZ → Prop) : Prop :=
  ∀ (D : va_G) (cA : Nat → ClassId) (n0 : Nat), Met l y (ws_ y cc nL ret) (jrm h mc ms) (va_Pc ar (fun U => n0 ≤ U.heap.size ∧ jW D cA n0 z U.heap ∧ jKK D cA U)) (jQ D cA n0 post) mc ms (fun q => n0 ≤ q)
theorem jCt.of {l : Launch} {y : MethodName} {cc : ByteArray} {nL : Nat} {ret : Option FieldType} {h mc ms : Nat} {ar : List Value} {z : JZ} {post : Option Value → JZ → Prop} (own nm : String) (lv : List (Nat × Value)) (hcl : y.cls = own) (hnm : y.name = nm) (hy : plainName y.cls = true) (hvs : (lg_sl ar).length ≤ nL) (hlv : lv_args 0 ar = lv)
    (body : ∀ Γ : JC, jOk Γ l (jrm h mc ms) cc own ret nL → jRt Γ post mc ms nm → jG Γ 0 0 z 0 lv []) : jCt l y cc nL ret h mc ms ar z post := by
  intro D cA n0
  subst hcl
  subst hnm
  subst hlv
  refine Met.ofW (cc := cc) (maxL := nL) (ret := ret) hy rfl ?_
  intro p e s m args below meth c s₁ B hml hv
  obtain ⟨rfl, hsz, hW, hK⟩ := hv
  have hts := atoms_spec (ws := ws_ y cc nL ret) B.pre
  have hts : ∀ w ∈ lw_all, w.before _ s = true := fun w h => hts w (List.mem_cons_of_mem _ h)
  have hown : s.vm.findClass y.cls = some m.cls := findClass_of_methodNamed B.named
  have hl := lv_entry ar (n := nL) hvs
  rw [lg_entry_eq]
  exact body (p, l, e, _, s, m, ar.toArray, below, meth, c, _, D, cA, n0, nL) ⟨rfl, rfl, B.exec, B.bytes, hml, hown, hts, B.returns, B.notSynchronized, ⟨hK, rfl⟩, hsz⟩ ⟨rfl, (name_of_methodNamed B.named B.method).1⟩ s.heap [] _ hW va_S.rf hl
/-! locals by lists -/
def jget : List (Nat × Value) → Nat → Option Value
  | [], _ => none
  | (j, v) :: l, i => if j = i then some v else jget l i
def jrep : List (Nat × Value) → Nat → Value → List (Nat × Value)
  | [], i, v => [(i, v)]
  | (j, w) :: l, i, v => if j = i then (i, v) :: l.filter (fun q => !(q.1 == i)) else (j, w) :: jrep l i v
def jput (lv : List (Nat × Value)) (i : Nat) (v : Value) : List (Nat × Value) := jrep (lv.filter (fun q => !(q.1 + 1 == i && q.2.category == 2))) i v
def jputL (lv : List (Nat × Value)) (i : Nat) (v : Value) : List (Nat × Value) := jrep (lv.filter (fun q => !(q.1 == i + 1) && !(q.1 + 1 == i && q.2.category == 2))) i v
theorem jget_at : ∀ {lv : List (Nat × Value)} {i : Nat} {v : Value}, jget lv i = some v → ∃ k : Nat, lv[k]? = some (i, v)
  | (j, w) :: l, i, v, h => by
    unfold jget at h
    by_cases hj : j = i
    · rw [if_pos hj] at h
      cases h
      exact ⟨0, by rw [hj]; rfl⟩
    · rw [if_neg hj] at h
      obtain ⟨k, hk⟩ := jget_at h
      exact ⟨k + 1, by simpa using hk⟩
theorem jget_has {ls : Array Slot} {nL : Nat} {lv : List (Nat × Value)} (hl : lv_has ls nL lv) {i : Nat} {v : Value} (h : jget lv i = some v) : ls[i]? = some (.val v) := by
  obtain ⟨k, hk⟩ := jget_at h
  exact lv_at hl k hk
theorem jrep_mem {i : Nat} {v : Value} {q : Nat × Value} : ∀ {l : List (Nat × Value)}, q ∈ jrep l i v → q = (i, v) ∨ (q ∈ l ∧ q.1 ≠ i)
  | [], h => by
    rcases List.mem_cons.mp h with h | h
    · exact Or.inl h
    · cases h
  | (j, w) :: l, h => by
    unfold jrep at h
    by_cases hj : j = i
    · rw [if_pos hj] at h
      rcases List.mem_cons.mp h with h | h
      · exact Or.inl h
      · obtain ⟨h1, h2⟩ := List.mem_filter.mp h
        exact Or.inr ⟨List.mem_cons_of_mem _ h1, by simpa using h2⟩
    · rw [if_neg hj] at h
      rcases List.mem_cons.mp h with h | h
      · exact Or.inr ⟨by rw [h]; exact List.mem_cons_self, by rw [h]; exact hj⟩
      · rcases jrep_mem h with h | ⟨h1, h2⟩
        · exact Or.inl h
        · exact Or.inr ⟨List.mem_cons_of_mem _ h1, h2⟩
theorem jput_has {ls : Array Slot} {nL : Nat} {lv : List (Nat × Value)} {i : Nat} {v : Value} (h : lv_has ls nL ((i, v) :: lv.filter (fun q => !(q.1 == i) && !(q.1 + 1 == i && q.2.category == 2)))) : lv_has ls nL (jput lv i v) := by
  refine ⟨h.1, h.2.1, fun q hq => h.2.2 q ?_⟩
  rcases jrep_mem hq with rfl | ⟨h1, h2⟩
  · exact List.mem_cons_self
  · obtain ⟨h3, h4⟩ := List.mem_filter.mp h1
    refine List.mem_cons_of_mem _ (List.mem_filter.mpr ⟨h3, ?_⟩)
    rw [h4, Bool.and_true]
    simpa using h2
theorem jputL_has {ls : Array Slot} {nL : Nat} {lv : List (Nat × Value)} {i : Nat} {v : Value} (h : lv_has ls nL ((i, v) :: lv.filter (fun q => !(q.1 == i) && (!(q.1 == i + 1) && !(q.1 + 1 == i && q.2.category == 2))))) : lv_has ls nL (jputL lv i v) := by
  refine ⟨h.1, h.2.1, fun q hq => h.2.2 q ?_⟩
  rcases jrep_mem hq with rfl | ⟨h1, h2⟩
  · exact List.mem_cons_self
  · obtain ⟨h3, h4⟩ := List.mem_filter.mp h1
    refine List.mem_cons_of_mem _ (List.mem_filter.mpr ⟨h3, ?_⟩)
    rw [h4, Bool.and_true]
    simpa using h2
section JROW
variable {Γ : JC} {l : Launch} {R : Room} {cc : ByteArray} {own : String} {ret : Option FieldType} {nL : Nat} {cells slots : Nat} {z : JZ} {pc : Nat} {lv : List (Nat × Value)} {st : List Value}
/-- fewer locals -/
theorem g_take (n : Nat) {lv' : List (Nat × Value)} (h : lv.take n = lv') (k : jG Γ cells slots z pc lv' st) : jG Γ cells slots z pc lv st := by
  obtain ⟨p, l, e, R, s, m, args, below, meth, c, Q, D, cA, n0, nL⟩ := Γ
  intro H locs ls hW hS hl
  exact k H locs ls hW hS ⟨hl.1, hl.2.1, fun q hq => hl.2.2 q (List.mem_of_mem_take (h ▸ hq))⟩
theorem g_pick (ks : List Nat) {lv' : List (Nat × Value)} (h : lv_pick lv ks = lv') (k : jG Γ cells slots z pc lv' st) : jG Γ cells slots z pc lv st := by
  obtain ⟨p, l, e, R, s, m, args, below, meth, c, Q, D, cA, n0, nL⟩ := Γ
  intro H locs ls hW hS hl
  exact k H locs ls hW hS (lv_sub hl ks h)
theorem jOk.w (C : jOk Γ l R cc own ret nL) {w : Cond} (h : w ∈ lw_all) : w.before Γ.2.2.2.2.2.2.1 Γ.2.2.2.2.1 = true := by
  obtain ⟨p, l, e, R, s, m, args, below, meth, c, Q, D, cA, n0, nL⟩ := Γ
  obtain ⟨rfl, rfl, hx, hb, hml, hown, hts, hr, hlk, ⟨hK, rfl⟩, hn⟩ := C
  exact hts w h
/-- a field's link: its own or a nest mate's word -/
def jFl (own : String) (idx : Nat) (ref nm ds : String) : Prop := Cond.fieldLink own idx ref nm ds ∈ lw_all ∨ ∃ host, Cond.fieldLinkNest own idx ref nm ds host ∈ jnw
/-- an inherited field under another class's name -/
def jSame (ref o nm ds : String) : Prop := ref = o ∨ Cond.sameField ref o nm ds ∈ lw_all

theorem g_iconst (C : jOk Γ l R cc own ret nL) {n : Int} {v : Int32} (d : decode cc pc = .ok (.iconst n, 1)) (hv : Int32.ofInt n = v) (k : jG Γ cells slots z (pc + 1) lv (.int v :: st)) : jG Γ cells slots z pc lv st := by
  obtain ⟨p, l, e, R, s, m, args, below, meth, c, Q, D, cA, n0, nL⟩ := Γ
  obtain ⟨rfl, rfl, hx, hb, hml, hown, hts, hr, hlk, ⟨hK, rfl⟩, hn⟩ := C
  intro H locs ls hW hS hl
  exact lv_iconst hx hb d hv (k H locs ls hW hS hl)
theorem g_bipush (C : jOk Γ l R cc own ret nL) {n : Int} {v : Int32} (d : decode cc pc = .ok (.bipush n, 2)) (hv : (Int8.ofInt n).toInt32 = v) (k : jG Γ cells slots z (pc + 2) lv (.int v :: st)) : jG Γ cells slots z pc lv st := by
  obtain ⟨p, l, e, R, s, m, args, below, meth, c, Q, D, cA, n0, nL⟩ := Γ
  obtain ⟨rfl, rfl, hx, hb, hml, hown, hts, hr, hlk, ⟨hK, rfl⟩, hn⟩ := C
  intro H locs ls hW hS hl
  exact lv_bipush hx hb d hv (k H locs ls hW hS hl)
theorem g_sipush (C : jOk Γ l R cc own ret nL) {n : Int} {v : Int32} (d : decode cc pc = .ok (.sipush n, 3)) (hv : (Int16.ofInt n).toInt32 = v) (k : jG Γ cells slots z (pc + 3) lv (.int v :: st)) : jG Γ cells slots z pc lv st := by
  obtain ⟨p, l, e, R, s, m, args, below, meth, c, Q, D, cA, n0, nL⟩ := Γ
  obtain ⟨rfl, rfl, hx, hb, hml, hown, hts, hr, hlk, ⟨hK, rfl⟩, hn⟩ := C
  intro H locs ls hW hS hl
  exact lv_sipush hx hb d hv (k H locs ls hW hS hl)
theorem g_lconst (C : jOk Γ l R cc own ret nL) {n : Fin 2} {v : Int64} (d : decode cc pc = .ok (.lconst n, 1)) (hv : Int64.ofNat (n : Nat) = v) (k : jG Γ cells slots z (pc + 1) lv (.long v :: st)) : jG Γ cells slots z pc lv st := by
  obtain ⟨p, l, e, R, s, m, args, below, meth, c, Q, D, cA, n0, nL⟩ := Γ
  obtain ⟨rfl, rfl, hx, hb, hml, hown, hts, hr, hlk, ⟨hK, rfl⟩, hn⟩ := C
  intro H locs ls hW hS hl
  exact lv_lconst hx hb d hv (k H locs ls hW hS hl)
theorem g_null (C : jOk Γ l R cc own ret nL) (d : decode cc pc = .ok (.aconst_null, 1)) (k : jG Γ cells slots z (pc + 1) lv (.null :: st)) : jG Γ cells slots z pc lv st := by
  obtain ⟨p, l, e, R, s, m, args, below, meth, c, Q, D, cA, n0, nL⟩ := Γ
  obtain ⟨rfl, rfl, hx, hb, hml, hown, hts, hr, hlk, ⟨hK, rfl⟩, hn⟩ := C
  intro H locs ls hW hS hl
  exact lv_null hx hb d (k H locs ls hW hS hl)
theorem g_ldc (C : jOk Γ l R cc own ret nL) {i : Nat} {v : Int32} (d : decode cc pc = .ok (.ldc i, 2)) (hq : Jvm.Cond.constant own i v ∈ lw_all) (k : jG Γ cells slots z (pc + 2) lv (.int v :: st)) : jG Γ cells slots z pc lv st := by
  obtain ⟨p, l, e, R, s, m, args, below, meth, c, Q, D, cA, n0, nL⟩ := Γ
  obtain ⟨rfl, rfl, hx, hb, hml, hown, hts, hr, hlk, ⟨hK, rfl⟩, hn⟩ := C
  intro H locs ls hW hS hl
  exact lv_ldc hx hb hown (hts _ hq) d (k H locs ls hW hS hl)
theorem g_ldc2 (C : jOk Γ l R cc own ret nL) {i : Nat} {v : Int64} (d : decode cc pc = .ok (.ldc2_w i, 3)) (hq : Jvm.Cond.constantLong own i v ∈ lw_all) (k : jG Γ cells slots z (pc + 3) lv (.long v :: st)) : jG Γ cells slots z pc lv st := by
  obtain ⟨p, l, e, R, s, m, args, below, meth, c, Q, D, cA, n0, nL⟩ := Γ
  obtain ⟨rfl, rfl, hx, hb, hml, hown, hts, hr, hlk, ⟨hK, rfl⟩, hn⟩ := C
  intro H locs ls hW hS hl
  exact lv_ldc2 hx hb hown (hts _ hq) d (k H locs ls hW hS hl)
theorem g_iload_n (C : jOk Γ l R cc own ret nL) {j : Fin 4} {i : Nat} {x : Int32} (d : decode cc pc = .ok (.iload_n j, 1)) (hj : (j : Nat) = i) (h : jget lv i = some (.int x)) (k : jG Γ cells slots z (pc + 1) lv (.int x :: st)) : jG Γ cells slots z pc lv st := by
  obtain ⟨p, l, e, R, s, m, args, below, meth, c, Q, D, cA, n0, nL⟩ := Γ
  obtain ⟨rfl, rfl, hx, hb, hml, hown, hts, hr, hlk, ⟨hK, rfl⟩, hn⟩ := C
  intro H locs ls hW hS hl
  exact lv_iload_n hx hb d hj (jget_has hl h) (k H locs ls hW hS hl)
theorem g_iload (C : jOk Γ l R cc own ret nL) {i : Nat} {x : Int32} (d : decode cc pc = .ok (.iload i, 2)) (h : jget lv i = some (.int x)) (k : jG Γ cells slots z (pc + 2) lv (.int x :: st)) : jG Γ cells slots z pc lv st := by
  obtain ⟨p, l, e, R, s, m, args, below, meth, c, Q, D, cA, n0, nL⟩ := Γ
  obtain ⟨rfl, rfl, hx, hb, hml, hown, hts, hr, hlk, ⟨hK, rfl⟩, hn⟩ := C
  intro H locs ls hW hS hl
  exact lv_iload hx hb d (jget_has hl h) (k H locs ls hW hS hl)
theorem g_lload_n (C : jOk Γ l R cc own ret nL) {j : Fin 4} {i : Nat} {x : Int64} (d : decode cc pc = .ok (.lload_n j, 1)) (hj : (j : Nat) = i) (h : jget lv i = some (.long x)) (k : jG Γ cells slots z (pc + 1) lv (.long x :: st)) : jG Γ cells slots z pc lv st := by
  obtain ⟨p, l, e, R, s, m, args, below, meth, c, Q, D, cA, n0, nL⟩ := Γ
  obtain ⟨rfl, rfl, hx, hb, hml, hown, hts, hr, hlk, ⟨hK, rfl⟩, hn⟩ := C
  intro H locs ls hW hS hl
  exact lv_lload_n hx hb d hj (jget_has hl h) (k H locs ls hW hS hl)
theorem g_lload (C : jOk Γ l R cc own ret nL) {i : Nat} {x : Int64} (d : decode cc pc = .ok (.lload i, 2)) (h : jget lv i = some (.long x)) (k : jG Γ cells slots z (pc + 2) lv (.long x :: st)) : jG Γ cells slots z pc lv st := by
  obtain ⟨p, l, e, R, s, m, args, below, meth, c, Q, D, cA, n0, nL⟩ := Γ
  obtain ⟨rfl, rfl, hx, hb, hml, hown, hts, hr, hlk, ⟨hK, rfl⟩, hn⟩ := C
  intro H locs ls hW hS hl
  exact lv_lload hx hb d (jget_has hl h) (k H locs ls hW hS hl)
theorem g_aload_n (C : jOk Γ l R cc own ret nL) {j : Fin 4} {i : Nat} {x : Nat} (d : decode cc pc = .ok (.aload_n j, 1)) (hj : (j : Nat) = i) (h : jget lv i = some (.ref x)) (k : jG Γ cells slots z (pc + 1) lv (.ref x :: st)) : jG Γ cells slots z pc lv st := by
  obtain ⟨p, l, e, R, s, m, args, below, meth, c, Q, D, cA, n0, nL⟩ := Γ
  obtain ⟨rfl, rfl, hx, hb, hml, hown, hts, hr, hlk, ⟨hK, rfl⟩, hn⟩ := C
  intro H locs ls hW hS hl
  exact lv_aload_n hx hb d hj (jget_has hl h) (k H locs ls hW hS hl)
theorem g_aload (C : jOk Γ l R cc own ret nL) {i : Nat} {x : Nat} (d : decode cc pc = .ok (.aload i, 2)) (h : jget lv i = some (.ref x)) (k : jG Γ cells slots z (pc + 2) lv (.ref x :: st)) : jG Γ cells slots z pc lv st := by
  obtain ⟨p, l, e, R, s, m, args, below, meth, c, Q, D, cA, n0, nL⟩ := Γ
  obtain ⟨rfl, rfl, hx, hb, hml, hown, hts, hr, hlk, ⟨hK, rfl⟩, hn⟩ := C
  intro H locs ls hW hS hl
  exact lv_aload hx hb d (jget_has hl h) (k H locs ls hW hS hl)
theorem g_aload_nN (C : jOk Γ l R cc own ret nL) {j : Fin 4} {i : Nat} (d : decode cc pc = .ok (.aload_n j, 1)) (hj : (j : Nat) = i) (h : jget lv i = some .null) (k : jG Γ cells slots z (pc + 1) lv (.null :: st)) : jG Γ cells slots z pc lv st := by
  obtain ⟨p, l, e, R, s, m, args, below, meth, c, Q, D, cA, n0, nL⟩ := Γ
  obtain ⟨rfl, rfl, hx, hb, hml, hown, hts, hr, hlk, ⟨hK, rfl⟩, hn⟩ := C
  intro H locs ls hW hS hl
  exact lv_aload_nN hx hb d hj (jget_has hl h) (k H locs ls hW hS hl)
theorem g_aloadN (C : jOk Γ l R cc own ret nL) {i : Nat} (d : decode cc pc = .ok (.aload i, 2)) (h : jget lv i = some .null) (k : jG Γ cells slots z (pc + 2) lv (.null :: st)) : jG Γ cells slots z pc lv st := by
  obtain ⟨p, l, e, R, s, m, args, below, meth, c, Q, D, cA, n0, nL⟩ := Γ
  obtain ⟨rfl, rfl, hx, hb, hml, hown, hts, hr, hlk, ⟨hK, rfl⟩, hn⟩ := C
  intro H locs ls hW hS hl
  exact lv_aloadN hx hb d (jget_has hl h) (k H locs ls hW hS hl)
theorem g_istore_n (C : jOk Γ l R cc own ret nL) {j : Fin 4} {i : Nat} {x : Int32} {lv' : List (Nat × Value)} (d : decode cc pc = .ok (.istore_n j, 1)) (hj : (j : Nat) = i) (hi : i < nL) (h : jput lv i (.int x) = lv') (k : jG Γ cells slots z (pc + 1) lv' st) : jG Γ cells slots z pc lv (.int x :: st) := by
  obtain ⟨p, l, e, R, s, m, args, below, meth, c, Q, D, cA, n0, nL⟩ := Γ
  obtain ⟨rfl, rfl, hx, hb, hml, hown, hts, hr, hlk, ⟨hK, rfl⟩, hn⟩ := C
  intro H locs ls hW hS hl
  exact lv_istore_n hx hb d hj hl hi rfl (fun ls' hl' => k H locs ls' hW hS (h ▸ jput_has hl'))
theorem g_istore (C : jOk Γ l R cc own ret nL) {i : Nat} {x : Int32} {lv' : List (Nat × Value)} (d : decode cc pc = .ok (.istore i, 2)) (hi : i < nL) (h : jput lv i (.int x) = lv') (k : jG Γ cells slots z (pc + 2) lv' st) : jG Γ cells slots z pc lv (.int x :: st) := by
  obtain ⟨p, l, e, R, s, m, args, below, meth, c, Q, D, cA, n0, nL⟩ := Γ
  obtain ⟨rfl, rfl, hx, hb, hml, hown, hts, hr, hlk, ⟨hK, rfl⟩, hn⟩ := C
  intro H locs ls hW hS hl
  exact lv_istore hx hb d hl hi rfl (fun ls' hl' => k H locs ls' hW hS (h ▸ jput_has hl'))
theorem g_astore_n (C : jOk Γ l R cc own ret nL) {j : Fin 4} {i : Nat} {x : Nat} {lv' : List (Nat × Value)} (d : decode cc pc = .ok (.astore_n j, 1)) (hj : (j : Nat) = i) (hi : i < nL) (h : jput lv i (.ref x) = lv') (k : jG Γ cells slots z (pc + 1) lv' st) : jG Γ cells slots z pc lv (.ref x :: st) := by
  obtain ⟨p, l, e, R, s, m, args, below, meth, c, Q, D, cA, n0, nL⟩ := Γ
  obtain ⟨rfl, rfl, hx, hb, hml, hown, hts, hr, hlk, ⟨hK, rfl⟩, hn⟩ := C
  intro H locs ls hW hS hl
  exact lv_astore_n hx hb d hj hl hi rfl (fun ls' hl' => k H locs ls' hW hS (h ▸ jput_has hl'))
theorem g_astore (C : jOk Γ l R cc own ret nL) {i : Nat} {x : Nat} {lv' : List (Nat × Value)} (d : decode cc pc = .ok (.astore i, 2)) (hi : i < nL) (h : jput lv i (.ref x) = lv') (k : jG Γ cells slots z (pc + 2) lv' st) : jG Γ cells slots z pc lv (.ref x :: st) := by
  obtain ⟨p, l, e, R, s, m, args, below, meth, c, Q, D, cA, n0, nL⟩ := Γ
  obtain ⟨rfl, rfl, hx, hb, hml, hown, hts, hr, hlk, ⟨hK, rfl⟩, hn⟩ := C
  intro H locs ls hW hS hl
  exact lv_astore hx hb d hl hi rfl (fun ls' hl' => k H locs ls' hW hS (h ▸ jput_has hl'))
theorem g_astore_nN (C : jOk Γ l R cc own ret nL) {j : Fin 4} {i : Nat}  {lv' : List (Nat × Value)} (d : decode cc pc = .ok (.astore_n j, 1)) (hj : (j : Nat) = i) (hi : i < nL) (h : jput lv i (.null) = lv') (k : jG Γ cells slots z (pc + 1) lv' st) : jG Γ cells slots z pc lv (.null :: st) := by
  obtain ⟨p, l, e, R, s, m, args, below, meth, c, Q, D, cA, n0, nL⟩ := Γ
  obtain ⟨rfl, rfl, hx, hb, hml, hown, hts, hr, hlk, ⟨hK, rfl⟩, hn⟩ := C
  intro H locs ls hW hS hl
  exact lv_astore_nN hx hb d hj hl hi rfl (fun ls' hl' => k H locs ls' hW hS (h ▸ jput_has hl'))
theorem g_astoreN (C : jOk Γ l R cc own ret nL) {i : Nat}  {lv' : List (Nat × Value)} (d : decode cc pc = .ok (.astore i, 2)) (hi : i < nL) (h : jput lv i (.null) = lv') (k : jG Γ cells slots z (pc + 2) lv' st) : jG Γ cells slots z pc lv (.null :: st) := by
  obtain ⟨p, l, e, R, s, m, args, below, meth, c, Q, D, cA, n0, nL⟩ := Γ
  obtain ⟨rfl, rfl, hx, hb, hml, hown, hts, hr, hlk, ⟨hK, rfl⟩, hn⟩ := C
  intro H locs ls hW hS hl
  exact lv_astoreN hx hb d hl hi rfl (fun ls' hl' => k H locs ls' hW hS (h ▸ jput_has hl'))
theorem g_lstore_n (C : jOk Γ l R cc own ret nL) {j : Fin 4} {i : Nat} {x : Int64} {lv' : List (Nat × Value)} (d : decode cc pc = .ok (.lstore_n j, 1)) (hj : (j : Nat) = i) (hi : i + 1 < nL) (h : jputL lv i (.long x) = lv') (k : jG Γ cells slots z (pc + 1) lv' st) : jG Γ cells slots z pc lv (.long x :: st) := by
  obtain ⟨p, l, e, R, s, m, args, below, meth, c, Q, D, cA, n0, nL⟩ := Γ
  obtain ⟨rfl, rfl, hx, hb, hml, hown, hts, hr, hlk, ⟨hK, rfl⟩, hn⟩ := C
  intro H locs ls hW hS hl
  exact lv_lstore_n hx hb d hj hl hi rfl (fun ls' hl' => k H locs ls' hW hS (h ▸ jputL_has hl'))
theorem g_lstore (C : jOk Γ l R cc own ret nL) {i : Nat} {x : Int64} {lv' : List (Nat × Value)} (d : decode cc pc = .ok (.lstore i, 2)) (hi : i + 1 < nL) (h : jputL lv i (.long x) = lv') (k : jG Γ cells slots z (pc + 2) lv' st) : jG Γ cells slots z pc lv (.long x :: st) := by
  obtain ⟨p, l, e, R, s, m, args, below, meth, c, Q, D, cA, n0, nL⟩ := Γ
  obtain ⟨rfl, rfl, hx, hb, hml, hown, hts, hr, hlk, ⟨hK, rfl⟩, hn⟩ := C
  intro H locs ls hW hS hl
  exact lv_lstore hx hb d hl hi rfl (fun ls' hl' => k H locs ls' hW hS (h ▸ jputL_has hl'))
theorem g_iinc (C : jOk Γ l R cc own ret nL) {i : Nat} {n : Int} {x v : Int32} {lv' : List (Nat × Value)} (d : decode cc pc = .ok (.iinc i n, 3)) (hg : jget lv i = some (.int x)) (hv : x + Int32.ofInt n = v) (hi : i < nL) (h : jput lv i (.int v) = lv') (k : jG Γ cells slots z (pc + 3) lv' st) : jG Γ cells slots z pc lv st := by
  obtain ⟨p, l, e, R, s, m, args, below, meth, c, Q, D, cA, n0, nL⟩ := Γ
  obtain ⟨rfl, rfl, hx, hb, hml, hown, hts, hr, hlk, ⟨hK, rfl⟩, hn⟩ := C
  intro H locs ls hW hS hl
  obtain ⟨kk, hkk⟩ := jget_at hg
  exact lv_iinc hx hb d hl hkk hv hi rfl (fun ls' hl' => k H locs ls' hW hS (h ▸ jput_has hl'))
theorem g_iadd (C : jOk Γ l R cc own ret nL) {x y : Int32} (d : decode cc pc = .ok (.iadd, 1)) (k : jG Γ cells slots z (pc + 1) lv (.int (x + y) :: st)) : jG Γ cells slots z pc lv (.int y :: .int x :: st) := by
  obtain ⟨p, l, e, R, s, m, args, below, meth, c, Q, D, cA, n0, nL⟩ := Γ
  obtain ⟨rfl, rfl, hx, hb, hml, hown, hts, hr, hlk, ⟨hK, rfl⟩, hn⟩ := C
  intro H locs ls hW hS hl
  exact lv_iadd hx hb d (k H locs ls hW hS hl)
theorem g_isub (C : jOk Γ l R cc own ret nL) {x y : Int32} (d : decode cc pc = .ok (.isub, 1)) (k : jG Γ cells slots z (pc + 1) lv (.int (x - y) :: st)) : jG Γ cells slots z pc lv (.int y :: .int x :: st) := by
  obtain ⟨p, l, e, R, s, m, args, below, meth, c, Q, D, cA, n0, nL⟩ := Γ
  obtain ⟨rfl, rfl, hx, hb, hml, hown, hts, hr, hlk, ⟨hK, rfl⟩, hn⟩ := C
  intro H locs ls hW hS hl
  exact lv_isub hx hb d (k H locs ls hW hS hl)
theorem g_imul (C : jOk Γ l R cc own ret nL) {x y : Int32} (d : decode cc pc = .ok (.imul, 1)) (k : jG Γ cells slots z (pc + 1) lv (.int (x * y) :: st)) : jG Γ cells slots z pc lv (.int y :: .int x :: st) := by
  obtain ⟨p, l, e, R, s, m, args, below, meth, c, Q, D, cA, n0, nL⟩ := Γ
  obtain ⟨rfl, rfl, hx, hb, hml, hown, hts, hr, hlk, ⟨hK, rfl⟩, hn⟩ := C
  intro H locs ls hW hS hl
  exact lv_imul hx hb d (k H locs ls hW hS hl)
theorem g_iand (C : jOk Γ l R cc own ret nL) {x y : Int32} (d : decode cc pc = .ok (.iand, 1)) (k : jG Γ cells slots z (pc + 1) lv (.int (x &&& y) :: st)) : jG Γ cells slots z pc lv (.int y :: .int x :: st) := by
  obtain ⟨p, l, e, R, s, m, args, below, meth, c, Q, D, cA, n0, nL⟩ := Γ
  obtain ⟨rfl, rfl, hx, hb, hml, hown, hts, hr, hlk, ⟨hK, rfl⟩, hn⟩ := C
  intro H locs ls hW hS hl
  exact lv_iand hx hb d (k H locs ls hW hS hl)
theorem g_ior (C : jOk Γ l R cc own ret nL) {x y : Int32} (d : decode cc pc = .ok (.ior, 1)) (k : jG Γ cells slots z (pc + 1) lv (.int (x ||| y) :: st)) : jG Γ cells slots z pc lv (.int y :: .int x :: st) := by
  obtain ⟨p, l, e, R, s, m, args, below, meth, c, Q, D, cA, n0, nL⟩ := Γ
  obtain ⟨rfl, rfl, hx, hb, hml, hown, hts, hr, hlk, ⟨hK, rfl⟩, hn⟩ := C
  intro H locs ls hW hS hl
  exact lv_ior hx hb d (k H locs ls hW hS hl)
theorem g_ixor (C : jOk Γ l R cc own ret nL) {x y : Int32} (d : decode cc pc = .ok (.ixor, 1)) (k : jG Γ cells slots z (pc + 1) lv (.int (x ^^^ y) :: st)) : jG Γ cells slots z pc lv (.int y :: .int x :: st) := by
  obtain ⟨p, l, e, R, s, m, args, below, meth, c, Q, D, cA, n0, nL⟩ := Γ
  obtain ⟨rfl, rfl, hx, hb, hml, hown, hts, hr, hlk, ⟨hK, rfl⟩, hn⟩ := C
  intro H locs ls hW hS hl
  exact lv_ixor hx hb d (k H locs ls hW hS hl)
theorem g_ishl (C : jOk Γ l R cc own ret nL) {x y : Int32} (d : decode cc pc = .ok (.ishl, 1)) (k : jG Γ cells slots z (pc + 1) lv (.int (x <<< (y &&& 31)) :: st)) : jG Γ cells slots z pc lv (.int y :: .int x :: st) := by
  obtain ⟨p, l, e, R, s, m, args, below, meth, c, Q, D, cA, n0, nL⟩ := Γ
  obtain ⟨rfl, rfl, hx, hb, hml, hown, hts, hr, hlk, ⟨hK, rfl⟩, hn⟩ := C
  intro H locs ls hW hS hl
  exact lv_ishl hx hb d (k H locs ls hW hS hl)
theorem g_ishr (C : jOk Γ l R cc own ret nL) {x y : Int32} (d : decode cc pc = .ok (.ishr, 1)) (k : jG Γ cells slots z (pc + 1) lv (.int (x >>> (y &&& 31)) :: st)) : jG Γ cells slots z pc lv (.int y :: .int x :: st) := by
  obtain ⟨p, l, e, R, s, m, args, below, meth, c, Q, D, cA, n0, nL⟩ := Γ
  obtain ⟨rfl, rfl, hx, hb, hml, hown, hts, hr, hlk, ⟨hK, rfl⟩, hn⟩ := C
  intro H locs ls hW hS hl
  exact lv_ishr hx hb d (k H locs ls hW hS hl)
theorem g_idiv (C : jOk Γ l R cc own ret nL) {x y : Int32} (d : decode cc pc = .ok (.idiv, 1)) (h0 : ¬ y = 0) (k : jG Γ cells slots z (pc + 1) lv (.int (x / y) :: st)) : jG Γ cells slots z pc lv (.int y :: .int x :: st) := by
  obtain ⟨p, l, e, R, s, m, args, below, meth, c, Q, D, cA, n0, nL⟩ := Γ
  obtain ⟨rfl, rfl, hx, hb, hml, hown, hts, hr, hlk, ⟨hK, rfl⟩, hn⟩ := C
  intro H locs ls hW hS hl
  exact lv_idiv hx hb d h0 (k H locs ls hW hS hl)
theorem g_irem (C : jOk Γ l R cc own ret nL) {x y : Int32} (d : decode cc pc = .ok (.irem, 1)) (h0 : ¬ y = 0) (k : jG Γ cells slots z (pc + 1) lv (.int (x - x / y * y) :: st)) : jG Γ cells slots z pc lv (.int y :: .int x :: st) := by
  obtain ⟨p, l, e, R, s, m, args, below, meth, c, Q, D, cA, n0, nL⟩ := Γ
  obtain ⟨rfl, rfl, hx, hb, hml, hown, hts, hr, hlk, ⟨hK, rfl⟩, hn⟩ := C
  intro H locs ls hW hS hl
  exact lv_irem hx hb d h0 (k H locs ls hW hS hl)
theorem g_ladd (C : jOk Γ l R cc own ret nL) {x y : Int64} (d : decode cc pc = .ok (.ladd, 1)) (k : jG Γ cells slots z (pc + 1) lv (.long (x + y) :: st)) : jG Γ cells slots z pc lv (.long y :: .long x :: st) := by
  obtain ⟨p, l, e, R, s, m, args, below, meth, c, Q, D, cA, n0, nL⟩ := Γ
  obtain ⟨rfl, rfl, hx, hb, hml, hown, hts, hr, hlk, ⟨hK, rfl⟩, hn⟩ := C
  intro H locs ls hW hS hl
  exact lv_ladd hx hb d (k H locs ls hW hS hl)
theorem g_lmul (C : jOk Γ l R cc own ret nL) {x y : Int64} (d : decode cc pc = .ok (.lmul, 1)) (k : jG Γ cells slots z (pc + 1) lv (.long (x * y) :: st)) : jG Γ cells slots z pc lv (.long y :: .long x :: st) := by
  obtain ⟨p, l, e, R, s, m, args, below, meth, c, Q, D, cA, n0, nL⟩ := Γ
  obtain ⟨rfl, rfl, hx, hb, hml, hown, hts, hr, hlk, ⟨hK, rfl⟩, hn⟩ := C
  intro H locs ls hW hS hl
  exact lv_lmul hx hb d (k H locs ls hW hS hl)
theorem g_lcmp (C : jOk Γ l R cc own ret nL) {x y : Int64} (d : decode cc pc = .ok (.lcmp, 1)) (k : jG Γ cells slots z (pc + 1) lv (.int (lg_cmp x y) :: st)) : jG Γ cells slots z pc lv (.long y :: .long x :: st) := by
  obtain ⟨p, l, e, R, s, m, args, below, meth, c, Q, D, cA, n0, nL⟩ := Γ
  obtain ⟨rfl, rfl, hx, hb, hml, hown, hts, hr, hlk, ⟨hK, rfl⟩, hn⟩ := C
  intro H locs ls hW hS hl
  exact W.lcmp hx hb d (k H locs ls hW hS hl)
theorem g_i2l (C : jOk Γ l R cc own ret nL) {x : Int32} (d : decode cc pc = .ok (.i2l, 1)) (k : jG Γ cells slots z (pc + 1) lv (.long x.toInt64 :: st)) : jG Γ cells slots z pc lv (.int x :: st) := by
  obtain ⟨p, l, e, R, s, m, args, below, meth, c, Q, D, cA, n0, nL⟩ := Γ
  obtain ⟨rfl, rfl, hx, hb, hml, hown, hts, hr, hlk, ⟨hK, rfl⟩, hn⟩ := C
  intro H locs ls hW hS hl
  exact lv_i2l hx hb d rfl (k H locs ls hW hS hl)
theorem g_dup (C : jOk Γ l R cc own ret nL) {v : Value} (d : decode cc pc = .ok (.dup, 1)) (hv : v.category = 1) (k : jG Γ cells slots z (pc + 1) lv (v :: v :: st)) : jG Γ cells slots z pc lv (v :: st) := by
  obtain ⟨p, l, e, R, s, m, args, below, meth, c, Q, D, cA, n0, nL⟩ := Γ
  obtain ⟨rfl, rfl, hx, hb, hml, hown, hts, hr, hlk, ⟨hK, rfl⟩, hn⟩ := C
  intro H locs ls hW hS hl
  exact lv_dup hx hb d hv (k H locs ls hW hS hl)
theorem g_dup2 (C : jOk Γ l R cc own ret nL) {v w : Value} (d : decode cc pc = .ok (.dup2, 1)) (hv : v.category = 1) (hw : w.category = 1) (k : jG Γ cells slots z (pc + 1) lv (v :: w :: v :: w :: st)) : jG Γ cells slots z pc lv (v :: w :: st) := by
  obtain ⟨p, l, e, R, s, m, args, below, meth, c, Q, D, cA, n0, nL⟩ := Γ
  obtain ⟨rfl, rfl, hx, hb, hml, hown, hts, hr, hlk, ⟨hK, rfl⟩, hn⟩ := C
  intro H locs ls hW hS hl
  exact lv_dup2_11 hx hb d hv hw (k H locs ls hW hS hl)
theorem g_pop2 (C : jOk Γ l R cc own ret nL) {x : Int64} (d : decode cc pc = .ok (.pop2, 1)) (k : jG Γ cells slots z (pc + 1) lv (st)) : jG Γ cells slots z pc lv (.long x :: st) := by
  obtain ⟨p, l, e, R, s, m, args, below, meth, c, Q, D, cA, n0, nL⟩ := Γ
  obtain ⟨rfl, rfl, hx, hb, hml, hown, hts, hr, hlk, ⟨hK, rfl⟩, hn⟩ := C
  intro H locs ls hW hS hl
  exact lv_pop2_2 hx hb d rfl (k H locs ls hW hS hl)
theorem g_goto (C : jOk Γ l R cc own ret nL) {off : Int} {tgt : Nat} (d : decode cc pc = .ok (.goto off, 3)) (ht : (pc : Int) + off = (tgt : Int)) (k : jG Γ cells slots z tgt lv st) : jG Γ cells slots z pc lv st := by
  obtain ⟨p, l, e, R, s, m, args, below, meth, c, Q, D, cA, n0, nL⟩ := Γ
  obtain ⟨rfl, rfl, hx, hb, hml, hown, hts, hr, hlk, ⟨hK, rfl⟩, hn⟩ := C
  intro H locs ls hW hS hl
  exact lv_goto hx hb d ht (k H locs ls hW hS hl)
--CMPS
theorem g_icmp_eq (C : jOk Γ l R cc own ret nL) {x y : Int32} {off : Int} {tgt : Nat} (d : decode cc pc = .ok (.if_icmp .eq off, 3)) (ht : (pc : Int) + off = (tgt : Int)) (kt : x = y → jG Γ cells slots z tgt lv st) (kf : ¬ (x = y) → jG Γ cells slots z (pc + 3) lv st) : jG Γ cells slots z pc lv (.int y :: .int x :: st) := by
  obtain ⟨p, l, e, R, s, m, args, below, meth, c, Q, D, cA, n0, nL⟩ := Γ
  obtain ⟨rfl, rfl, hx, hb, hml, hown, hts, hr, hlk, ⟨hK, rfl⟩, hn⟩ := C
  intro H locs ls hW hS hl
  exact lv_icmp_eq hx hb d ht (fun h => kt h H locs ls hW hS hl) (fun h => kf h H locs ls hW hS hl)
theorem g_if_eq (C : jOk Γ l R cc own ret nL) {x : Int32} {off : Int} {tgt : Nat} (d : decode cc pc = .ok (.ifCond .eq off, 3)) (ht : (pc : Int) + off = (tgt : Int)) (kt : x = 0 → jG Γ cells slots z tgt lv st) (kf : ¬ (x = 0) → jG Γ cells slots z (pc + 3) lv st) : jG Γ cells slots z pc lv (.int x :: st) := by
  obtain ⟨p, l, e, R, s, m, args, below, meth, c, Q, D, cA, n0, nL⟩ := Γ
  obtain ⟨rfl, rfl, hx, hb, hml, hown, hts, hr, hlk, ⟨hK, rfl⟩, hn⟩ := C
  intro H locs ls hW hS hl
  exact lv_if_eq hx hb d ht (fun h => kt h H locs ls hW hS hl) (fun h => kf h H locs ls hW hS hl)
theorem g_icmp_ne (C : jOk Γ l R cc own ret nL) {x y : Int32} {off : Int} {tgt : Nat} (d : decode cc pc = .ok (.if_icmp .ne off, 3)) (ht : (pc : Int) + off = (tgt : Int)) (kt : ¬ x = y → jG Γ cells slots z tgt lv st) (kf : x = y → jG Γ cells slots z (pc + 3) lv st) : jG Γ cells slots z pc lv (.int y :: .int x :: st) := by
  obtain ⟨p, l, e, R, s, m, args, below, meth, c, Q, D, cA, n0, nL⟩ := Γ
  obtain ⟨rfl, rfl, hx, hb, hml, hown, hts, hr, hlk, ⟨hK, rfl⟩, hn⟩ := C
  intro H locs ls hW hS hl
  exact lv_icmp_ne hx hb d ht (fun h => kt h H locs ls hW hS hl) (fun h => kf h H locs ls hW hS hl)
theorem g_if_ne (C : jOk Γ l R cc own ret nL) {x : Int32} {off : Int} {tgt : Nat} (d : decode cc pc = .ok (.ifCond .ne off, 3)) (ht : (pc : Int) + off = (tgt : Int)) (kt : ¬ x = 0 → jG Γ cells slots z tgt lv st) (kf : x = 0 → jG Γ cells slots z (pc + 3) lv st) : jG Γ cells slots z pc lv (.int x :: st) := by
  obtain ⟨p, l, e, R, s, m, args, below, meth, c, Q, D, cA, n0, nL⟩ := Γ
  obtain ⟨rfl, rfl, hx, hb, hml, hown, hts, hr, hlk, ⟨hK, rfl⟩, hn⟩ := C
  intro H locs ls hW hS hl
  exact lv_if_ne hx hb d ht (fun h => kt h H locs ls hW hS hl) (fun h => kf h H locs ls hW hS hl)
theorem g_icmp_lt (C : jOk Γ l R cc own ret nL) {x y : Int32} {off : Int} {tgt : Nat} (d : decode cc pc = .ok (.if_icmp .lt off, 3)) (ht : (pc : Int) + off = (tgt : Int)) (kt : x < y → jG Γ cells slots z tgt lv st) (kf : ¬ (x < y) → jG Γ cells slots z (pc + 3) lv st) : jG Γ cells slots z pc lv (.int y :: .int x :: st) := by
  obtain ⟨p, l, e, R, s, m, args, below, meth, c, Q, D, cA, n0, nL⟩ := Γ
  obtain ⟨rfl, rfl, hx, hb, hml, hown, hts, hr, hlk, ⟨hK, rfl⟩, hn⟩ := C
  intro H locs ls hW hS hl
  exact lv_icmp_lt hx hb d ht (fun h => kt h H locs ls hW hS hl) (fun h => kf h H locs ls hW hS hl)
theorem g_if_lt (C : jOk Γ l R cc own ret nL) {x : Int32} {off : Int} {tgt : Nat} (d : decode cc pc = .ok (.ifCond .lt off, 3)) (ht : (pc : Int) + off = (tgt : Int)) (kt : x < 0 → jG Γ cells slots z tgt lv st) (kf : ¬ (x < 0) → jG Γ cells slots z (pc + 3) lv st) : jG Γ cells slots z pc lv (.int x :: st) := by
  obtain ⟨p, l, e, R, s, m, args, below, meth, c, Q, D, cA, n0, nL⟩ := Γ
  obtain ⟨rfl, rfl, hx, hb, hml, hown, hts, hr, hlk, ⟨hK, rfl⟩, hn⟩ := C
  intro H locs ls hW hS hl
  exact lv_if_lt hx hb d ht (fun h => kt h H locs ls hW hS hl) (fun h => kf h H locs ls hW hS hl)
theorem g_icmp_ge (C : jOk Γ l R cc own ret nL) {x y : Int32} {off : Int} {tgt : Nat} (d : decode cc pc = .ok (.if_icmp .ge off, 3)) (ht : (pc : Int) + off = (tgt : Int)) (kt : y ≤ x → jG Γ cells slots z tgt lv st) (kf : ¬ (y ≤ x) → jG Γ cells slots z (pc + 3) lv st) : jG Γ cells slots z pc lv (.int y :: .int x :: st) := by
  obtain ⟨p, l, e, R, s, m, args, below, meth, c, Q, D, cA, n0, nL⟩ := Γ
  obtain ⟨rfl, rfl, hx, hb, hml, hown, hts, hr, hlk, ⟨hK, rfl⟩, hn⟩ := C
  intro H locs ls hW hS hl
  exact lv_icmp_ge hx hb d ht (fun h => kt h H locs ls hW hS hl) (fun h => kf h H locs ls hW hS hl)
theorem g_if_ge (C : jOk Γ l R cc own ret nL) {x : Int32} {off : Int} {tgt : Nat} (d : decode cc pc = .ok (.ifCond .ge off, 3)) (ht : (pc : Int) + off = (tgt : Int)) (kt : 0 ≤ x → jG Γ cells slots z tgt lv st) (kf : ¬ (0 ≤ x) → jG Γ cells slots z (pc + 3) lv st) : jG Γ cells slots z pc lv (.int x :: st) := by
  obtain ⟨p, l, e, R, s, m, args, below, meth, c, Q, D, cA, n0, nL⟩ := Γ
  obtain ⟨rfl, rfl, hx, hb, hml, hown, hts, hr, hlk, ⟨hK, rfl⟩, hn⟩ := C
  intro H locs ls hW hS hl
  exact lv_if_ge hx hb d ht (fun h => kt h H locs ls hW hS hl) (fun h => kf h H locs ls hW hS hl)
theorem g_icmp_gt (C : jOk Γ l R cc own ret nL) {x y : Int32} {off : Int} {tgt : Nat} (d : decode cc pc = .ok (.if_icmp .gt off, 3)) (ht : (pc : Int) + off = (tgt : Int)) (kt : y < x → jG Γ cells slots z tgt lv st) (kf : ¬ (y < x) → jG Γ cells slots z (pc + 3) lv st) : jG Γ cells slots z pc lv (.int y :: .int x :: st) := by
  obtain ⟨p, l, e, R, s, m, args, below, meth, c, Q, D, cA, n0, nL⟩ := Γ
  obtain ⟨rfl, rfl, hx, hb, hml, hown, hts, hr, hlk, ⟨hK, rfl⟩, hn⟩ := C
  intro H locs ls hW hS hl
  exact lv_icmp_gt hx hb d ht (fun h => kt h H locs ls hW hS hl) (fun h => kf h H locs ls hW hS hl)
theorem g_if_gt (C : jOk Γ l R cc own ret nL) {x : Int32} {off : Int} {tgt : Nat} (d : decode cc pc = .ok (.ifCond .gt off, 3)) (ht : (pc : Int) + off = (tgt : Int)) (kt : 0 < x → jG Γ cells slots z tgt lv st) (kf : ¬ (0 < x) → jG Γ cells slots z (pc + 3) lv st) : jG Γ cells slots z pc lv (.int x :: st) := by
  obtain ⟨p, l, e, R, s, m, args, below, meth, c, Q, D, cA, n0, nL⟩ := Γ
  obtain ⟨rfl, rfl, hx, hb, hml, hown, hts, hr, hlk, ⟨hK, rfl⟩, hn⟩ := C
  intro H locs ls hW hS hl
  exact lv_if_gt hx hb d ht (fun h => kt h H locs ls hW hS hl) (fun h => kf h H locs ls hW hS hl)
theorem g_icmp_le (C : jOk Γ l R cc own ret nL) {x y : Int32} {off : Int} {tgt : Nat} (d : decode cc pc = .ok (.if_icmp .le off, 3)) (ht : (pc : Int) + off = (tgt : Int)) (kt : x ≤ y → jG Γ cells slots z tgt lv st) (kf : ¬ (x ≤ y) → jG Γ cells slots z (pc + 3) lv st) : jG Γ cells slots z pc lv (.int y :: .int x :: st) := by
  obtain ⟨p, l, e, R, s, m, args, below, meth, c, Q, D, cA, n0, nL⟩ := Γ
  obtain ⟨rfl, rfl, hx, hb, hml, hown, hts, hr, hlk, ⟨hK, rfl⟩, hn⟩ := C
  intro H locs ls hW hS hl
  exact lv_icmp_le hx hb d ht (fun h => kt h H locs ls hW hS hl) (fun h => kf h H locs ls hW hS hl)
theorem g_if_le (C : jOk Γ l R cc own ret nL) {x : Int32} {off : Int} {tgt : Nat} (d : decode cc pc = .ok (.ifCond .le off, 3)) (ht : (pc : Int) + off = (tgt : Int)) (kt : x ≤ 0 → jG Γ cells slots z tgt lv st) (kf : ¬ (x ≤ 0) → jG Γ cells slots z (pc + 3) lv st) : jG Γ cells slots z pc lv (.int x :: st) := by
  obtain ⟨p, l, e, R, s, m, args, below, meth, c, Q, D, cA, n0, nL⟩ := Γ
  obtain ⟨rfl, rfl, hx, hb, hml, hown, hts, hr, hlk, ⟨hK, rfl⟩, hn⟩ := C
  intro H locs ls hW hS hl
  exact lv_if_le hx hb d ht (fun h => kt h H locs ls hW hS hl) (fun h => kf h H locs ls hW hS hl)
theorem g_ifnull (C : jOk Γ l R cc own ret nL) {x : Nat} {off : Int} (d : decode cc pc = .ok (.ifnull off, 3)) (k : jG Γ cells slots z (pc + 3) lv (st)) : jG Γ cells slots z pc lv (.ref x :: st) := by
  obtain ⟨p, l, e, R, s, m, args, below, meth, c, Q, D, cA, n0, nL⟩ := Γ
  obtain ⟨rfl, rfl, hx, hb, hml, hown, hts, hr, hlk, ⟨hK, rfl⟩, hn⟩ := C
  intro H locs ls hW hS hl
  exact lv_ifnull hx hb d (k H locs ls hW hS hl)
theorem g_ifnullN (C : jOk Γ l R cc own ret nL) {off : Int} {tgt : Nat} (d : decode cc pc = .ok (.ifnull off, 3)) (ht : (pc : Int) + off = (tgt : Int)) (k : jG Γ cells slots z tgt lv st) : jG Γ cells slots z pc lv (.null :: st) := by
  obtain ⟨p, l, e, R, s, m, args, below, meth, c, Q, D, cA, n0, nL⟩ := Γ
  obtain ⟨rfl, rfl, hx, hb, hml, hown, hts, hr, hlk, ⟨hK, rfl⟩, hn⟩ := C
  intro H locs ls hW hS hl
  exact lv_ifnullN hx hb d ht (k H locs ls hW hS hl)
theorem g_ifnonnull (C : jOk Γ l R cc own ret nL) {x : Nat} {off : Int} {tgt : Nat} (d : decode cc pc = .ok (.ifnonnull off, 3)) (ht : (pc : Int) + off = (tgt : Int)) (k : jG Γ cells slots z tgt lv st) : jG Γ cells slots z pc lv (.ref x :: st) := by
  obtain ⟨p, l, e, R, s, m, args, below, meth, c, Q, D, cA, n0, nL⟩ := Γ
  obtain ⟨rfl, rfl, hx, hb, hml, hown, hts, hr, hlk, ⟨hK, rfl⟩, hn⟩ := C
  intro H locs ls hW hS hl
  exact lv_ifnonnull hx hb d ht (k H locs ls hW hS hl)
theorem g_ifnonnullN (C : jOk Γ l R cc own ret nL) {off : Int} (d : decode cc pc = .ok (.ifnonnull off, 3)) (k : jG Γ cells slots z (pc + 3) lv (st)) : jG Γ cells slots z pc lv (.null :: st) := by
  obtain ⟨p, l, e, R, s, m, args, below, meth, c, Q, D, cA, n0, nL⟩ := Γ
  obtain ⟨rfl, rfl, hx, hb, hml, hown, hts, hr, hlk, ⟨hK, rfl⟩, hn⟩ := C
  intro H locs ls hW hS hl
  exact lv_ifnonnullN hx hb d (k H locs ls hW hS hl)
theorem g_tableIn (C : jOk Γ l R cc own ret nL) {dflt lo hi : Int} {offs : Array Int} {len : Nat} {x : Int32} {off : Int} {tgt : Nat} (d : decode cc pc = .ok (.tableswitch dflt lo hi offs, len)) (h1 : ¬ x.toInt < lo) (h2 : ¬ hi < x.toInt) (ho : offs[(x.toInt - lo).toNat]? = some off) (ht : (pc : Int) + off = (tgt : Int)) (k : jG Γ cells slots z tgt lv st) : jG Γ cells slots z pc lv (.int x :: st) := by
  obtain ⟨p, l, e, R, s, m, args, below, meth, c, Q, D, cA, n0, nL⟩ := Γ
  obtain ⟨rfl, rfl, hx, hb, hml, hown, hts, hr, hlk, ⟨hK, rfl⟩, hn⟩ := C
  intro H locs ls hW hS hl
  exact lv_tableIn hx hb d h1 h2 ho ht (k H locs ls hW hS hl)
theorem g_tableOut (C : jOk Γ l R cc own ret nL) {dflt lo hi : Int} {offs : Array Int} {len : Nat} {x : Int32} {tgt : Nat} (d : decode cc pc = .ok (.tableswitch dflt lo hi offs, len)) (h1 : x.toInt < lo ∨ hi < x.toInt) (ht : (pc : Int) + dflt = (tgt : Int)) (k : jG Γ cells slots z tgt lv st) : jG Γ cells slots z pc lv (.int x :: st) := by
  obtain ⟨p, l, e, R, s, m, args, below, meth, c, Q, D, cA, n0, nL⟩ := Γ
  obtain ⟨rfl, rfl, hx, hb, hml, hown, hts, hr, hlk, ⟨hK, rfl⟩, hn⟩ := C
  intro H locs ls hW hS hl
  exact lv_tableOut hx hb d h1 ht (k H locs ls hW hS hl)
theorem jFl.get {s : State} {args : Array Value} {m : MethodId} {own : String} {idx : Nat} {ref nm ds : String} {D : va_G} {cA : Nat → ClassId} (h : jFl own idx ref nm ds) (hts : ∀ w ∈ lw_all, w.before args s = true) (hK : jKK D cA s) : (Cond.fieldLink own idx ref nm ds).before args s = true ∨ ∃ host, (Cond.fieldLinkNest own idx ref nm ds host).before args s = true := by
  rcases h with h | ⟨host, h⟩
  · exact Or.inl (hts _ h)
  · exact Or.inr ⟨host, va_Nw.use (jnw_on _ h) (hK.2.1 _ h)⟩
theorem jSame.get {s : State} {args : Array Value} {ref o nm ds : String} (h : jSame ref o nm ds) (hts : ∀ w ∈ lw_all, w.before args s = true) : ∀ x, s.fieldFound? o nm ds = some x → s.fieldFound? ref nm ds = some x := by
  intro x hx
  rcases h with rfl | h
  · exact hx
  · exact u_same (hts _ h) x hx
theorem jW.one {D : va_G} {cA : Nat → ClassId} {n0 : Nat} {z : JZ} {H : Heap} (h : jW D cA n0 z H) {i : JId} (hi : zL z i = true) {e : va_E} (he : jcel cA z i = e) : va_P D jcls [(zA z i, e)] H := by
  intro k q hk
  have hz : k < 1 := (List.getElem?_eq_some_iff.mp hk).1
  rw [show k = 0 by omega] at hk
  cases hk
  rw [← he]
  exact h.1 i hi
theorem g_getG {Cn : String} {T : u_T} {N ci t j idx : Nat} {cs : List (Nat × Nat × Nat)} (C : jOk Γ l R cc own ret nL) (hin : ∀ w ∈ u_ws Cn T N, w ∈ lw_all) (hc : jcls[ci]? = some (Cn, T, N)) (hk : kd t = .inr (ci, cs)) (hlive : zL z (t, j) = true) (k : Nat) (hkN : k < N) {ref : String} (hf : jFl own idx ref (T k).2.1 (T k).2.2.1) (hsame : jSame ref (T k).1 (T k).2.1 (T k).2.2.1) {v : Value} (hv : (fvl (zA z) j (zM z (t, j)) (zR z (t, j)) 0 cs)[k]? = some v) (d : decode cc pc = .ok (.getfield idx, 3))
    (kk : jG Γ cells slots z (pc + 3) lv (v :: st)) : jG Γ cells slots z pc lv (.ref (zA z (t, j)) :: st) := by
  obtain ⟨p, l, e, R, s, m, args, below, meth, c, Q, D, cA, n0, nL⟩ := Γ
  obtain ⟨rfl, rfl, hx, hb, hml, hown, hts, hr, hlk, ⟨hK, rfl⟩, hn⟩ := C
  intro H locs ls hW hS hl
  have hP := hW.one hlive (jcel_o hk)
  rcases hf.get (m := m) hts hK with h | ⟨host, h⟩
  · exact va_get hx hb hts hin hown hK.1 hP 0 rfl hc k hkN h (hsame.get hts) hv d (kk H locs ls hW hS hl)
  · exact va_getN hx hb hts hin hown hK.1 hP 0 rfl hc k hkN h (hsame.get hts) hv d (kk H locs ls hW hS hl)
/-- what a put of a field needs of its class -/
def jPu (own nm : String) (T : u_T) (k idx : Nat) (ref : String) : Prop := (T k).2.2.2 = false ∨ ((T k).2.2.2 = true ∧ nm = "<init>" ∧ (T k).1 = own ∧ Cond.fieldLink own idx ref (T k).2.1 (T k).2.2.1 ∈ lw_all)
theorem g_putG {Cn : String} {T : u_T} {N ci t j idx : Nat} {cs : List (Nat × Nat × Nat)} {ty0 : Nat → FieldType} {post : Option Value → JZ → Prop} {mc ms : Nat} {nm : String} (C : jOk Γ l R cc own ret nL) (hQ : jRt Γ post mc ms nm) (hin : ∀ w ∈ u_ws Cn T N, w ∈ lw_all) (hty : ∀ k, k < N → parseFieldDescriptor (T k).2.2.1 = some (ty0 k)) (hnm : ∀ a, a < N → ∀ b, b < N → a ≠ b → (T a).2.1 ≠ (T b).2.1) (hc : jcls[ci]? = some (Cn, T, N)) (hk : kd t = .inr (ci, cs)) (hN : cs.length = N) (hlive : zL z (t, j) = true) (k : Nat) (hkN : k < N) {ref : String} (hf : jFl own idx ref (T k).2.1 (T k).2.2.1) (hsame : jSame ref (T k).1 (T k).2.1 (T k).2.2.1) (hpu : jPu own nm T k idx ref) {v : Value} {ty : FieldType} (hd : parseFieldDescriptor (T k).2.2.1 = some ty) (hn : narrow ty v = v) (hfit : fits ty v = true) (d : decode cc pc = .ok (.putfield idx, 3)) {z' : JZ} (hzA : zA z' = zA z) (hzL : zL z' = zL z) (hzc : fvl (zA z') j (zM z' (t, j)) (zR z' (t, j)) 0 cs = (fvl (zA z) j (zM z (t, j)) (zR z (t, j)) 0 cs).set k v) (hzo : ∀ cA i, i ≠ (t, j) → jcel cA z' i = jcel cA z i)
    (kk : jG Γ cells slots z' (pc + 3) lv st) : jG Γ cells slots z pc lv (v :: .ref (zA z (t, j)) :: st) := by
  obtain ⟨p, l, e, R, s, m, args, below, meth, c, Q, D, cA, n0, nL⟩ := Γ
  obtain ⟨rfl, rfl, hx, hb, hml, hown, hts, hr, hlk, ⟨hK, rfl⟩, hn0⟩ := C
  obtain ⟨-, hmn⟩ := hQ
  intro H locs ls hW hS hl
  obtain ⟨ws, hP, hD, hw, -⟩ := hW.list
  obtain ⟨q0, hq⟩ := hw (t, j) hlive
  have hq' := hq
  rw [jcel_o hk] at hq'
  have hlen : k < (fvl (zA z) j (zM z (t, j)) (zR z (t, j)) 0 cs).length := by rw [fvl_len, hN]; exact hkN
  have fin : ∀ (H1 : Heap) (locs1 : List Loc), va_P D jcls (ws.set q0 (zA z (t, j), .inr (ci, (fvl (zA z) j (zM z (t, j)) (zR z (t, j)) 0 cs).set k v))) H1 → va_S (fun q => n0 ≤ q) s.heap H1 locs1 → W p l e R s m args below meth c H1 locs1 cells slots Q (F0 m (pc + 3) ls st) := by
    intro H1 locs1 hP1 hS1
    exact kk H1 locs1 ls (hW.back hlive hw hq hP1 hzA hzL (by rw [jcel_o hk, hzc]) (hzo cA)) hS1 hl
  rcases hpu with hfin | ⟨hfin, hin2, hdecl, h⟩
  · rcases hf.get (m := m) hts hK with h | ⟨host, h⟩
    · exact va_put hx hb hts hin ty0 hty hnm hown hK.1 hP hD hS q0 hq' hc k hkN h (hsame.get hts) hfin hd hn hfit hlen d (fun H1 locs1 hP1 _ hS1 => fin H1 locs1 hP1 hS1)
    · exact va_putN hx hb hts hin ty0 hty hnm hown hK.1 hP hD hS q0 hq' hc k hkN h (hsame.get hts) hfin hd hn hfit hlen d (fun H1 locs1 hP1 _ hS1 => fin H1 locs1 hP1 hS1)
  · exact va_putF hx hb hts hin ty0 hty hnm hown hK.1 hP hD hS q0 hq' hc k hkN (hts _ h) (hsame.get hts) hfin (hmn.trans hin2) hdecl hd hn hfit hlen d (fun H1 locs1 hP1 _ hS1 => fin H1 locs1 hP1 hS1)
theorem jfit_i (x : Int32) : narrow .int (.int x) = .int x ∧ fits .int (.int x) = true := ⟨rfl, rfl⟩
/-! arrays -/
theorem g_iald {t j n k : Nat} {i : Int32} (C : jOk Γ l R cc own ret nL) (hk : kd t = .inl (0, n)) (hlive : zL z (t, j) = true) (hi : i = nI k) (hkn : k < n) (hn31 : n < 2147483648) (d : decode cc pc = .ok (.iaload, 1)) (kk : jG Γ cells slots z (pc + 1) lv (.int (zM z (t, j) k) :: st)) : jG Γ cells slots z pc lv (.int i :: .ref (zA z (t, j)) :: st) := by
  obtain ⟨p, l, e, R, s, m, args, below, meth, c, Q, D, cA, n0, nL⟩ := Γ
  obtain ⟨rfl, rfl, hx, hb, hml, hown, hts, hr, hlk, ⟨hK, rfl⟩, hn⟩ := C
  intro H locs ls hW hS hl
  have hP := hW.one hlive (jcel_a hk (by decide))
  subst hi
  refine va_iald hx hb hK.1 hP 0 0 rfl rfl (vp_in_nI hkn hn31) d ?_
  rw [nI_clamp (by omega)]
  exact kk H locs ls hW hS hl
theorem g_iast {t j n k : Nat} {i x : Int32} (C : jOk Γ l R cc own ret nL) (hk : kd t = .inl (0, n)) (hlive : zL z (t, j) = true) (hi : i = nI k) (hkn : k < n) (hn31 : n < 2147483648) (d : decode cc pc = .ok (.iastore, 1)) (kk : jG Γ cells slots (sM z (t, j) k x) (pc + 1) lv st) : jG Γ cells slots z pc lv (.int x :: .int i :: .ref (zA z (t, j)) :: st) := by
  obtain ⟨p, l, e, R, s, m, args, below, meth, c, Q, D, cA, n0, nL⟩ := Γ
  obtain ⟨rfl, rfl, hx, hb, hml, hown, hts, hr, hlk, ⟨hK, rfl⟩, hn⟩ := C
  intro H locs ls hW hS hl
  obtain ⟨ws, hP, hD, hw, -⟩ := hW.list
  obtain ⟨q0, hq⟩ := hw (t, j) hlive
  have hq' := hq
  rw [jcel_a hk (by decide)] at hq'
  subst hi
  refine va_iast hx hb hK.1 hP hD hS q0 0 hq' rfl (vp_in_nI hkn hn31) d (fun H1 locs1 hP1 _ hS1 => ?_)
  rw [nI_clamp (by omega)] at hP1
  exact kk H1 locs1 ls (hW.back hlive hw hq hP1 rfl rfl (by rw [jcel_a hk (by decide), zM_sM_s]) (fun i hi => jcel_sA_n hi)) hS1 hl
theorem g_zald {t j n k : Nat} {i : Int32} (C : jOk Γ l R cc own ret nL) (hk : kd t = .inl (1, n)) (hlive : zL z (t, j) = true) (hi : i = nI k) (hkn : k < n) (hn31 : n < 2147483648) (d : decode cc pc = .ok (.baload, 1)) (kk : jG Γ cells slots z (pc + 1) lv (.int (zM z (t, j) k) :: st)) : jG Γ cells slots z pc lv (.int i :: .ref (zA z (t, j)) :: st) := by
  obtain ⟨p, l, e, R, s, m, args, below, meth, c, Q, D, cA, n0, nL⟩ := Γ
  obtain ⟨rfl, rfl, hx, hb, hml, hown, hts, hr, hlk, ⟨hK, rfl⟩, hn⟩ := C
  intro H locs ls hW hS hl
  have hP := hW.one hlive (jcel_a hk (by decide))
  subst hi
  refine va_zald hx hb hK.1 hP 0 1 rfl rfl (vp_in_nI hkn hn31) d ?_
  rw [nI_clamp (by omega)]
  exact kk H locs ls hW hS hl
theorem g_zast {t j n k : Nat} {i x : Int32} (C : jOk Γ l R cc own ret nL) (hk : kd t = .inl (1, n)) (hlive : zL z (t, j) = true) (hi : i = nI k) (hkn : k < n) (hn31 : n < 2147483648) (hx0 : vp_nar .boolean x = x) (d : decode cc pc = .ok (.bastore, 1)) (kk : jG Γ cells slots (sM z (t, j) k x) (pc + 1) lv st) : jG Γ cells slots z pc lv (.int x :: .int i :: .ref (zA z (t, j)) :: st) := by
  obtain ⟨p, l, e, R, s, m, args, below, meth, c, Q, D, cA, n0, nL⟩ := Γ
  obtain ⟨rfl, rfl, hx, hb, hml, hown, hts, hr, hlk, ⟨hK, rfl⟩, hn⟩ := C
  intro H locs ls hW hS hl
  obtain ⟨ws, hP, hD, hw, -⟩ := hW.list
  obtain ⟨q0, hq⟩ := hw (t, j) hlive
  have hq' := hq
  rw [jcel_a hk (by decide)] at hq'
  subst hi
  refine va_zast hx hb hK.1 hP hD hS q0 1 hq' rfl (vp_in_nI hkn hn31) d (fun H1 locs1 hP1 _ hS1 => ?_)
  rw [nI_clamp (by omega), hx0] at hP1
  exact kk H1 locs1 ls (hW.back hlive hw hq hP1 rfl rfl (by rw [jcel_a hk (by decide), zM_sM_s]) (fun i hi => jcel_sA_n hi)) hS1 hl
theorem g_alen {t j n : Nat} {v : Int32} (C : jOk Γ l R cc own ret nL) (hk : kd t = .inl (0, n)) (hlive : zL z (t, j) = true) (hv : Int32.ofNat n = v) (d : decode cc pc = .ok (.arraylength, 1)) (kk : jG Γ cells slots z (pc + 1) lv (.int v :: st)) : jG Γ cells slots z pc lv (.ref (zA z (t, j)) :: st) := by
  obtain ⟨p, l, e, R, s, m, args, below, meth, c, Q, D, cA, n0, nL⟩ := Γ
  obtain ⟨rfl, rfl, hx, hb, hml, hown, hts, hr, hlk, ⟨hK, rfl⟩, hn⟩ := C
  intro H locs ls hW hS hl
  have hP := hW.one hlive (jcel_a hk (by decide))
  exact va_alen hx hb hK.1 hP 0 0 rfl rfl hv d (kk H locs ls hW hS hl)
theorem jty_ref {a : Nat} (ha : a = 2 ∨ a = 3 ∨ a = 4 ∨ a = 5) (cA : Nat → ClassId) : ∃ ty : FieldType, (jtys cA)[a]? = some (cA a, ty) ∧ ty.isReference = true := by
  rcases ha with rfl | rfl | rfl | rfl
  · exact ⟨_, rfl, rfl⟩
  · exact ⟨_, rfl, rfl⟩
  · exact ⟨_, rfl, rfl⟩
  · exact ⟨_, rfl, rfl⟩
theorem g_aald {t j a n k : Nat} {i : Int32} (C : jOk Γ l R cc own ret nL) (hk : kd t = .inl (a, n)) (ha : a = 2 ∨ a = 3 ∨ a = 4 ∨ a = 5) (hlive : zL z (t, j) = true) (hi : i = nI k) (hkn : k < n) (hn31 : n < 2147483648) (d : decode cc pc = .ok (.aaload, 1)) (kk : jG Γ cells slots z (pc + 1) lv (va_rf (zR z (t, j) k) :: st)) : jG Γ cells slots z pc lv (.int i :: .ref (zA z (t, j)) :: st) := by
  obtain ⟨p, l, e, R, s, m, args, below, meth, c, Q, D, cA, n0, nL⟩ := Γ
  obtain ⟨rfl, rfl, hx, hb, hml, hown, hts, hr, hlk, ⟨hK, rfl⟩, hn⟩ := C
  intro H locs ls hW hS hl
  obtain ⟨ty, hty, href⟩ := jty_ref ha cA
  have hP := hW.one hlive (jcel_q hk (by omega)) 0 _ rfl
  subst hi
  have hlt : (nI k).toNatClampNeg < n := by rw [nI_clamp (by omega)]; exact hkn
  refine W.aald (v := va_rf (zR z (t, j) k)) (ty := ty) hx hb hP ((hK.1.2 a _ hty).1 n (fun j' => va_rf (zR z (t, j) j'))) href (fun q => by cases q) (by show ¬ (nI k < 0 ∨ (arrV _ _ _).slots.size ≤ _); rw [arrV_size]; exact vp_in_nI hkn hn31) (by show (arrV _ _ _).slots[_]? = _; rw [arrV_read _ _ hlt, nI_clamp (by omega)]) rfl rfl d ?_
  exact kk H locs ls hW hS hl
/-- the object at an id, as a call's receiver -/
theorem jrecv {s : State} {D : va_G} {cA : Nat → ClassId} {n0 : Nat} {H : Heap} {t j ci : Nat} {cs : List (Nat × Nat × Nat)} {q : vw_C} (hW : jW D cA n0 z H) (hK : jKK D cA s) (hlive : zL z (t, j) = true) (hk : kd t = .inr (ci, cs)) (hc : jcls[ci]? = some q) : ∃ cell : Cell, H[zA z (t, j)]? = some cell ∧ cell.vm.isStatics = false ∧ s.vm.findClass q.1 = some cell.cls :=
  va_recv hK.1 (hW.one hlive (jcel_o hk)) hc (q0 := 0) rfl
/-- a reference into an array of references -/
theorem g_aast {t j a n k t1 j1 ci : Nat} {cs : List (Nat × Nat × Nat)} {i : Int32} {E : String} {q : vw_C} (C : jOk Γ l R cc own ret nL) (hk : kd t = .inl (a, n)) (ha : ¬ a < 2) (hE : ∀ cA, (jtys cA)[a]? = some (cA a, .object E)) (hlive : zL z (t, j) = true) (hi : i = nI k) (hkn : k < n) (hn31 : n < 2147483648) (hlive1 : zL z (t1, j1) = true) (hk1 : kd t1 = .inr (ci, cs)) (hc : jcls[ci]? = some q) (hE1 : q.1 = E ∨ Cond.castable q.1 E ∈ jnw) (d : decode cc pc = .ok (.aastore, 1)) (kk : jG Γ cells slots (sR z (t, j) k (some (zA z (t1, j1)))) (pc + 1) lv st) : jG Γ cells slots z pc lv (.ref (zA z (t1, j1)) :: .int i :: .ref (zA z (t, j)) :: st) := by
  obtain ⟨p, l, e, R, s, m, args, below, meth, c, Q, D, cA, n0, nL⟩ := Γ
  obtain ⟨rfl, rfl, hx, hb, hml, hown, hts, hr, hlk, ⟨hK, rfl⟩, hn⟩ := C
  intro H locs ls hW hS hl
  have hany : va_Any E s H (zA z (t1, j1)) := by
    refine va_rAny hK.1 (hW.one hlive1 (jcel_o hk1)) (q0 := 0) rfl hc (fun comp c0 h1 h2 => ?_)
    rcases hE1 with h | h
    · rw [h] at h2
      rw [h1] at h2
      cases h2
      obtain ⟨-, hca⟩ := hK.1.1 ci q hc
      rw [h] at hca
      have := hca.1
      rw [h1] at this
      cases this
      exact va_assign hca
    · have hz := hK.2.1 _ h
      simp only [va_Nw, Cond.before, Cond.holds, Cond.value] at hz
      simpa [h1, h2] using hz
  obtain ⟨ws, hP, hD, hw, -⟩ := hW.list
  obtain ⟨q0, hq⟩ := hw (t, j) hlive
  have hq' := hq
  rw [jcel_q hk ha] at hq'
  subst hi
  refine va_astqM hx hb hK.1 hP hD hS q0 a hq' (hE cA) hany (vp_in_nI hkn hn31) d (fun H1 locs1 hP1 _ hS1 => ?_)
  rw [nI_clamp (by omega)] at hP1
  exact kk H1 locs1 ls (hW.back hlive hw hq hP1 rfl rfl (by rw [jcel_q hk ha, zR_sR_s]) (fun i hi => jcel_sR_n hi)) hS1 hl
/-! casts -/
theorem g_castS {t j ci idx : Nat} {cs : List (Nat × Nat × Nat)} {q : vw_C} {nm : String} (C : jOk Γ l R cc own ret nL) (hk : kd t = .inr (ci, cs)) (hlive : zL z (t, j) = true) (hc : jcls[ci]? = some q) (hE : q.1 = nm ∨ Cond.castable q.1 nm ∈ jnw) (hlink : Cond.classLink own idx nm ∈ lw_all) (d : decode cc pc = .ok (.checkcast idx, 3)) (kk : jG Γ cells slots z (pc + 3) lv (.ref (zA z (t, j)) :: st)) : jG Γ cells slots z pc lv (.ref (zA z (t, j)) :: st) := by
  obtain ⟨p, l, e, R, s, m, args, below, meth, c, Q, D, cA, n0, nL⟩ := Γ
  obtain ⟨rfl, rfl, hx, hb, hml, hown, hts, hr, hlk, ⟨hK, rfl⟩, hn⟩ := C
  intro H locs ls hW hS hl
  have hrc := jrecv hW hK hlive hk hc
  rcases hE with h | h
  · rw [h] at hrc
    have hca := (hK.1.1 ci q hc).2
    rw [h] at hca
    exact va_castS hx hb hown (hts _ hlink) hca hrc d (kk H locs ls hW hS hl)
  · exact va_castY hx hb hown (hts _ hlink) (hK.2.1 _ h) hrc d (kk H locs ls hW hS hl)
theorem g_instS {t j ci idx : Nat} {cs : List (Nat × Nat × Nat)} {q : vw_C} {nm : String} (C : jOk Γ l R cc own ret nL) (hk : kd t = .inr (ci, cs)) (hlive : zL z (t, j) = true) (hc : jcls[ci]? = some q) (hE : q.1 = nm ∨ Cond.castable q.1 nm ∈ jnw) (hlink : Cond.classLink own idx nm ∈ lw_all) (d : decode cc pc = .ok (.instanceof idx, 3)) (kk : jG Γ cells slots z (pc + 3) lv (.int 1 :: st)) : jG Γ cells slots z pc lv (.ref (zA z (t, j)) :: st) := by
  obtain ⟨p, l, e, R, s, m, args, below, meth, c, Q, D, cA, n0, nL⟩ := Γ
  obtain ⟨rfl, rfl, hx, hb, hml, hown, hts, hr, hlk, ⟨hK, rfl⟩, hn⟩ := C
  intro H locs ls hW hS hl
  have hrc := jrecv hW hK hlive hk hc
  rcases hE with h | h
  · rw [h] at hrc
    have hca := (hK.1.1 ci q hc).2
    rw [h] at hca
    exact va_instS hx hb hown (hts _ hlink) hca hrc d (kk H locs ls hW hS hl)
  · exact va_instY hx hb hown (hts _ hlink) (hK.2.1 _ h) hrc d (kk H locs ls hW hS hl)
theorem g_instN {t j ci idx : Nat} {cs : List (Nat × Nat × Nat)} {q : vw_C} (C : jOk Γ l R cc own ret nL) (hk : kd t = .inr (ci, cs)) (hlive : zL z (t, j) = true) (hc : jcls[ci]? = some q) (hE : q.1 = "JoinLoom$Same" ∨ q.1 = "JoinLoom$Less") (hlink : Cond.classLink own idx "JoinLoom$Has" ∈ lw_all) (d : decode cc pc = .ok (.instanceof idx, 3)) (kk : jG Γ cells slots z (pc + 3) lv (.int 0 :: st)) : jG Γ cells slots z pc lv (.ref (zA z (t, j)) :: st) := by
  obtain ⟨p, l, e, R, s, m, args, below, meth, c, Q, D, cA, n0, nL⟩ := Γ
  obtain ⟨rfl, rfl, hx, hb, hml, hown, hts, hr, hlk, ⟨hK, rfl⟩, hn⟩ := C
  intro H locs ls hW hS hl
  have hrc := jrecv hW hK hlive hk hc
  rcases hE with h | h
  · rw [h] at hrc
    exact va_instNo hx hb hown (hts _ hlink) hK.2.2.1 hrc d (kk H locs ls hW hS hl)
  · rw [h] at hrc
    exact va_instNo hx hb hown (hts _ hlink) hK.2.2.2.1 hrc d (kk H locs ls hW hS hl)
/-! returns -/
theorem g_ireturn {post : Option Value → JZ → Prop} {mc ms : Nat} {nm : String} {v : Int32} {ty : FieldType} (C : jOk Γ l R cc own (some ty) nL) (hQ : jRt Γ post mc ms nm) (hn : narrow ty (.int v) = .int v) (hc : cells ≤ mc) (hs : slots ≤ ms) (d : decode cc pc = .ok (.ireturn, 1)) (hp : post (some (.int v)) z) : jG Γ cells slots z pc lv [.int v] := by
  obtain ⟨p, l, e, R, s, m, args, below, meth, c, Q, D, cA, n0, nL⟩ := Γ
  obtain ⟨rfl, rfl, hx, hb, hml, hown, hts, hr, hlk, ⟨hK, rfl⟩, hn0⟩ := C
  obtain ⟨rfl, -⟩ := hQ
  intro H locs ls hW hS hl
  refine W.widen hc hs ?_
  exact W.zret hx hb hr hn (fun t ht _ => ⟨⟨_, z, rfl, hp, by rw [ht]; exact hW⟩, hS.F ht⟩) hS.2.2 d hlk
theorem g_lreturn {post : Option Value → JZ → Prop} {mc ms : Nat} {nm : String} {v : Int64} (C : jOk Γ l R cc own (some .long) nL) (hQ : jRt Γ post mc ms nm) (hc : cells ≤ mc) (hs : slots ≤ ms) (d : decode cc pc = .ok (.lreturn, 1)) (hp : post (some (.long v)) z) : jG Γ cells slots z pc lv [.long v] := by
  obtain ⟨p, l, e, R, s, m, args, below, meth, c, Q, D, cA, n0, nL⟩ := Γ
  obtain ⟨rfl, rfl, hx, hb, hml, hown, hts, hr, hlk, ⟨hK, rfl⟩, hn0⟩ := C
  obtain ⟨rfl, -⟩ := hQ
  intro H locs ls hW hS hl
  refine W.widen hc hs ?_
  exact W.lret hx hb hr (fun t ht _ => ⟨⟨_, z, rfl, hp, by rw [ht]; exact hW⟩, hS.F ht⟩) hS.2.2 d hlk
theorem g_vreturn {post : Option Value → JZ → Prop} {mc ms : Nat} {nm : String} (C : jOk Γ l R cc own none nL) (hQ : jRt Γ post mc ms nm) (hc : cells ≤ mc) (hs : slots ≤ ms) (d : decode cc pc = .ok (.return_, 1)) (hp : post none z) : jG Γ cells slots z pc lv [] := by
  obtain ⟨p, l, e, R, s, m, args, below, meth, c, Q, D, cA, n0, nL⟩ := Γ
  obtain ⟨rfl, rfl, hx, hb, hml, hown, hts, hr, hlk, ⟨hK, rfl⟩, hn0⟩ := C
  obtain ⟨rfl, -⟩ := hQ
  intro H locs ls hW hS hl
  refine W.widen hc hs ?_
  exact W.vret hx hb hr (fun t ht _ => ⟨⟨_, z, rfl, hp, by rw [ht]; exact hW⟩, hS.F ht⟩) hS.2.2 d hlk
theorem g_areturn {post : Option Value → JZ → Prop} {mc ms : Nat} {nm cn : String} {v : Value} (C : jOk Γ l R cc own (some (.object cn)) nL) (hQ : jRt Γ post mc ms nm) (hv : v = .null ∨ ∃ a, v = .ref a) (hc : cells ≤ mc) (hs : slots ≤ ms) (d : decode cc pc = .ok (.areturn, 1)) (hp : post (some v) z) : jG Γ cells slots z pc lv [v] := by
  obtain ⟨p, l, e, R, s, m, args, below, meth, c, Q, D, cA, n0, nL⟩ := Γ
  obtain ⟨rfl, rfl, hx, hb, hml, hown, hts, hr, hlk, ⟨hK, rfl⟩, hn0⟩ := C
  obtain ⟨rfl, -⟩ := hQ
  intro H locs ls hW hS hl
  refine W.widen hc hs ?_
  exact W.aret hx hb hr (Or.inl ⟨_, rfl⟩) hv (fun t ht _ => ⟨⟨_, z, rfl, hp, by rw [ht]; exact hW⟩, hS.F ht⟩) hS.2.2 d hlk
/-! calls -/
/-- what a call of a method needs of the callee -/
def jRun (Γ : JC) (cells slots mc ms : Nat) (z : JZ) (pc : Nat) (lv : List (Nat × Value)) (st rest : List Value) (post : Option Value → JZ → Prop) : Prop := match Γ with
  | (p, l, e, R, s, m, args, below, meth, c, _, D, cA, n0, nL) => ∀ (H : Heap) (locs : List Loc) (ls : Array Slot), jW D cA n0 z H → va_S (fun q => n0 ≤ q) s.heap H locs → lv_has ls nL lv → ∃ ar : Array Value, va_Run p l e R s m args below meth c H locs cells slots mc ms (F0 m pc ls st) rest (jQ D cA n0 post ar) (fun q => n0 ≤ q)
theorem g_call {mc ms : Nat} {rest : List Value} {post : Option Value → JZ → Prop} (hr : jRun Γ cells slots mc ms z pc lv st rest post) (kk : ∀ (v : Option Value) (z' : JZ), post v z' → jG Γ (cells + mc) (slots + ms) z' (pc + 3) lv (v.toList ++ rest)) : jG Γ cells slots z pc lv st := by
  obtain ⟨p, l, e, R, s, m, args, below, meth, c, Q, D, cA, n0, nL⟩ := Γ
  intro H locs ls hW hS hl
  obtain ⟨ar, hr⟩ := hr H locs ls hW hS hl
  intro T hT X
  obtain ⟨v, st₀, t, T', L, h0, X', hL, e1, e2, ⟨⟨v', z', hv, hp, hW'⟩, hz, hk⟩, stp⟩ := hr T hT X
  cases hv
  rw [h0] at hz hk
  obtain ⟨t2, a1, b1⟩ := kk v z' hp T'.heap (locs ++ L) ls (by rw [e1]; exact hW')
    ⟨Nat.le_trans hS.1 (by rw [e1]; exact hz), fun q h1 h2 => by rw [e1, hk q (Nat.lt_of_lt_of_le h1 hS.1) h2]; exact hS.2.1 q h1 h2, fun q hq => by
      rcases List.mem_append.mp hq with h | h
      · exact hS.2.2 q h
      · exact hL q h⟩ hl T' rfl X'
  exact ⟨t2, stp t2 a1, b1⟩
def jPi (post : Int32 → JZ → Prop) : Option Value → JZ → Prop := fun v z' => ∃ r : Int32, v = some (.int r) ∧ post r z'
def jPl (post : Int64 → JZ → Prop) : Option Value → JZ → Prop := fun v z' => ∃ r : Int64, v = some (.long r) ∧ post r z'
def jPv (post : JZ → Prop) : Option Value → JZ → Prop := fun v z' => v = none ∧ post z'
def jPr (post : Option Nat → JZ → Prop) : Option Value → JZ → Prop := fun v z' => ∃ r : Option Nat, v = some (va_rf r) ∧ post r z'
theorem g_ci {mc ms : Nat} {rest : List Value} {post : Int32 → JZ → Prop} (hr : jRun Γ cells slots mc ms z pc lv st rest (jPi post)) (kk : ∀ (r : Int32) (z' : JZ), post r z' → jG Γ (cells + mc) (slots + ms) z' (pc + 3) lv (.int r :: rest)) : jG Γ cells slots z pc lv st :=
  g_call hr (fun v z' ⟨r, hv, hp⟩ => by subst hv; exact kk r z' hp)
theorem g_cl {mc ms : Nat} {rest : List Value} {post : Int64 → JZ → Prop} (hr : jRun Γ cells slots mc ms z pc lv st rest (jPl post)) (kk : ∀ (r : Int64) (z' : JZ), post r z' → jG Γ (cells + mc) (slots + ms) z' (pc + 3) lv (.long r :: rest)) : jG Γ cells slots z pc lv st :=
  g_call hr (fun v z' ⟨r, hv, hp⟩ => by subst hv; exact kk r z' hp)
theorem g_cv {mc ms : Nat} {rest : List Value} {post : JZ → Prop} (hr : jRun Γ cells slots mc ms z pc lv st rest (jPv post)) (kk : ∀ (z' : JZ), post z' → jG Γ (cells + mc) (slots + ms) z' (pc + 3) lv rest) : jG Γ cells slots z pc lv st :=
  g_call hr (fun v z' ⟨hv, hp⟩ => by subst hv; exact kk z' hp)
theorem g_cr {mc ms : Nat} {rest : List Value} {post : Option Nat → JZ → Prop} (hr : jRun Γ cells slots mc ms z pc lv st rest (jPr post)) (kk : ∀ (r : Option Nat) (z' : JZ), post r z' → jG Γ (cells + mc) (slots + ms) z' (pc + 3) lv (va_rf r :: rest)) : jG Γ cells slots z pc lv st :=
  g_call hr (fun v z' ⟨r, hv, hp⟩ => by subst hv; exact kk r z' hp)
theorem jblind {D : va_G} {cA : Nat → ClassId} {n0 : Nat} {ar : List Value} : FrameBlind (va_Pc ar (fun U => n0 ≤ U.heap.size ∧ jW D cA n0 z U.heap ∧ jKK D cA U)) := by
  intro a U g mk q
  obtain ⟨q0, q1, q2, q3⟩ := q
  exact ⟨q0, q1, q2, jKK.same (s := U) rfl q3⟩
/-- a method as a call sees it -/
abbrev jY (y : MethodName) (b : ByteArray) (L : Nat) (r : Option FieldType) (n : Nat) : Prop := Cond.code y b L r ∈ lw_all ∧ Cond.initialized y.cls ∈ lw_all ∧ y.cls ≠ "java/lang/invoke/MethodHandle" ∧ y.cls ≠ "java/lang/invoke/VarHandle" ∧ (parseMethodDescriptor y.desc).map (fun d => d.parameters.length) = some n
/-- the callee's room fits -/
abbrev jFit (R : Room) (cells slots h mc ms L : Nat) : Prop := (h + 1 ≤ R.frames ∧ 8 + (L + 11) + 100 * h ≤ R.locals) ∧ cells + mc ≤ R.cells ∧ slots + ms ≤ R.slots
theorem g_runV {y : MethodName} {b : ByteArray} {L n h mc ms idx t j ci : Nat} {r : Option FieldType} {cs : List (Nat × Nat × Nat)} {q : vw_C} {As rest : List Value} {post : Option Value → JZ → Prop} (C : jOk Γ l R cc own ret nL) (hM : jCt l y b L r h mc ms (.ref (zA z (t, j)) :: As) z post) (hy : jY y b L r n) (hi : Cond.instanceMethod y ∈ lw_all) (hs : Cond.selects q.1 y y ∈ lw_all ∨ (q.1 = "JoinLoom$Not" ∧ y = yX8_value)) (hl : Cond.methodLink own idx y ∈ lw_all ∨ ∃ host, Cond.methodLinkNest own idx y host ∈ jnw) (hlive : zL z (t, j) = true) (hk : kd t = .inr (ci, cs)) (hc : jcls[ci]? = some q) (hn : As.length = n) (hst : st = As.reverse ++ .ref (zA z (t, j)) :: rest) (hcat : (rest.map fun v => v.category).sum ≤ 8) (d : decode cc pc = .ok (.invokevirtual idx, 3)) (hf : jFit R cells slots h mc ms L) : jRun Γ cells slots mc ms z pc lv st rest post := by
  obtain ⟨p, l, e, R, s, m, args, below, meth, c, Q, D, cA, n0, nL⟩ := Γ
  obtain ⟨rfl, rfl, hx, hb, hml, hown, hts, hr, hlk, ⟨hK, rfl⟩, hn0⟩ := C
  intro H locs ls hW hS hls
  subst hst
  obtain ⟨y1, y2, y3, y4, y5⟩ := hy
  have hpre : PreV s H q.1 (zA z (t, j)) (va_Pc (.ref (zA z (t, j)) :: As) (fun U => n0 ≤ U.heap.size ∧ jW D cA n0 z U.heap ∧ jKK D cA U)) As := ⟨jblind, jrecv hW hK hlive hk hc, fun U hU hWm => ⟨rfl, by rw [hU]; exact Nat.le_trans hn0 hS.1, by rw [hU]; exact hW, hK.warm hWm⟩⟩
  have hsel : (Cond.selects q.1 y y).before args s = true := by
    rcases hs with h | ⟨h1, h2⟩
    · exact hts _ h
    · rw [h1, h2]; exact va_Nw.use rfl hK.2.2.2.2
  rcases hl with hl | ⟨host, hl⟩
  · exact ⟨_, va_runV ⟨hx, hb, hml, hown, hts⟩ (hM D cA n0) ⟨callB_of n hts (lw_meth y1) rfl rfl rfl (hts _ y2) (hts _ hl) ⟨y3, y4, y5⟩ hf.1, hts _ hi, hsel⟩ hpre rfl hn hls.1 rfl (lv_room hcat) d hf.2⟩
  · exact ⟨_, va_runVN ⟨hx, hb, hml, hown, hts⟩ (hM D cA n0) ⟨va_cnB n hts (lw_meth y1) rfl rfl rfl (hK.2.1 _ hl) (hts _ y2) ⟨y3, y4, y5⟩ hf.1, hts _ hi, hsel⟩ hpre rfl hn hls.1 rfl (lv_room hcat) d hf.2⟩
theorem jwsU {own C owner : String} {idx : Nat} {x y : MethodName} {b : ByteArray} {L : Nat} {r : Option FieldType} (q1 : Cond.methodLink own idx x ∈ lw_all) (q2 : Cond.sameMethod x.cls owner x.name x.desc ∈ lw_all) (q3 : Cond.selects C x y ∈ lw_all) (q4 : Cond.instanceMethod y ∈ lw_all) (q5 : Cond.initialized y.cls ∈ lw_all) (q6 : Cond.code y b L r ∈ lw_all) : GoodIn lw_all (va_wsU own idx C owner x y (ws_ y b L r)) := by
  unfold va_wsU
  exact lw_app (List.forall_mem_cons.mpr ⟨q1, List.forall_mem_cons.mpr ⟨q2, List.forall_mem_cons.mpr ⟨q3, List.forall_mem_cons.mpr ⟨q4, List.forall_mem_cons.mpr ⟨q5, fun _ h => absurd h List.not_mem_nil⟩⟩⟩⟩⟩) (lw_meth q6)
theorem jwsO {own C owner : String} {idx : Nat} {x y : MethodName} {b : ByteArray} {L : Nat} {r : Option FieldType} (q1 : Cond.methodLink own idx x ∈ lw_all) (q2 : Cond.sameMethod x.cls owner x.name x.desc ∈ lw_all) (q0 : Cond.instanceMethod ⟨owner, x.name, x.desc⟩ ∈ lw_all) (q3 : Cond.selects C x y ∈ lw_all) (q4 : Cond.instanceMethod y ∈ lw_all) (q5 : Cond.initialized y.cls ∈ lw_all) (q6 : Cond.code y b L r ∈ lw_all) : GoodIn lw_all (va_wsO own idx C owner x y (ws_ y b L r)) := by
  unfold va_wsO
  exact lw_app (List.forall_mem_cons.mpr ⟨q1, List.forall_mem_cons.mpr ⟨q2, List.forall_mem_cons.mpr ⟨q0, List.forall_mem_cons.mpr ⟨q3, List.forall_mem_cons.mpr ⟨q4, List.forall_mem_cons.mpr ⟨q5, fun _ h => absurd h List.not_mem_nil⟩⟩⟩⟩⟩⟩) (lw_meth q6)
/-- which way a call that names another method comes to y: abstract, inherited, overriding -/
def jVia (owner : String) (x y : MethodName) : Prop := Cond.declares ⟨owner, x.name, x.desc⟩ ∈ jnw ∨ y = ⟨owner, x.name, x.desc⟩ ∨ (Cond.instanceMethod ⟨owner, x.name, x.desc⟩ ∈ lw_all ∧ ∃ b0 m0 r0, Cond.code ⟨owner, x.name, x.desc⟩ b0 m0 r0 ∈ lw_all)
theorem g_runU {x y : MethodName} {owner : String} {b : ByteArray} {L n h mc ms idx t j ci : Nat} {r : Option FieldType} {cs : List (Nat × Nat × Nat)} {q : vw_C} {As rest : List Value} {post : Option Value → JZ → Prop} (C : jOk Γ l R cc own ret nL) (hM : jCt l y b L r h mc ms (.ref (zA z (t, j)) :: As) z post) (hy : jY y b L r n) (hvia : jVia owner x y) (hxd : x.desc = y.desc) (ho : owner ≠ "java/lang/invoke/MethodHandle" ∧ owner ≠ "java/lang/invoke/VarHandle") (q1 : Cond.methodLink own idx x ∈ lw_all) (q2 : Cond.sameMethod x.cls owner x.name x.desc ∈ lw_all) (q3 : Cond.selects q.1 x y ∈ lw_all) (q4 : Cond.instanceMethod y ∈ lw_all) (hlive : zL z (t, j) = true) (hk : kd t = .inr (ci, cs)) (hc : jcls[ci]? = some q) (hn : As.length = n) (hst : st = As.reverse ++ .ref (zA z (t, j)) :: rest) (hcat : (rest.map fun v => v.category).sum ≤ 8) (d : decode cc pc = .ok (.invokevirtual idx, 3)) (hf : jFit R cells slots h mc ms L) : jRun Γ cells slots mc ms z pc lv st rest post := by
  obtain ⟨p, l, e, R, s, m, args, below, meth, c, Q, D, cA, n0, nL⟩ := Γ
  obtain ⟨rfl, rfl, hx, hb, hml, hown, hts, hr, hlk, ⟨hK, rfl⟩, hn0⟩ := C
  intro H locs ls hW hS hls
  subst hst
  obtain ⟨y1, y2, y3, y4, y5⟩ := hy
  rw [← hxd] at y5
  have hpre : PreV s H q.1 (zA z (t, j)) (va_Pc (.ref (zA z (t, j)) :: As) (fun U => n0 ≤ U.heap.size ∧ jW D cA n0 z U.heap ∧ jKK D cA U)) As := ⟨jblind, jrecv hW hK hlive hk hc, fun U hU hWm => ⟨rfl, by rw [hU]; exact Nat.le_trans hn0 hS.1, by rw [hU]; exact hW, hK.warm hWm⟩⟩
  have hcu : va_CU R s args own q.1 owner idx x y b L r (ws_ y b L r) (jrm h mc ms) mc ms n := by
    rcases hvia with h | h | ⟨h, b0, m0, r0, h0⟩
    · exact va_cwA n hts (jwsU q1 q2 q3 q4 y2 y1) rfl rfl rfl (hK.2.1 _ h) ⟨ho.1, ho.2, y5⟩ hf.1
    · exact va_cwU n hts (jwsU q1 q2 q3 q4 y2 y1) rfl rfl rfl h ⟨ho.1, ho.2, y5⟩ hf.1
    · exact va_cwO n hts (jwsO q1 q2 h q3 q4 y2 y1) rfl rfl rfl h0 ⟨ho.1, ho.2, y5⟩ hf.1
  exact ⟨_, va_runU ⟨hx, hb, hml, hown, hts⟩ (hM D cA n0) hcu hpre rfl hn hls.1 rfl (lv_room hcat) d hf.2⟩
/-- a call of the superclass's own method -/
theorem g_runP {y : MethodName} {b : ByteArray} {L n h mc ms idx t j ci : Nat} {r : Option FieldType} {cs : List (Nat × Nat × Nat)} {q : vw_C} {As rest : List Value} {post : Option Value → JZ → Prop} (C : jOk Γ l R cc own ret nL) (hM : jCt l y b L r h mc ms (.ref (zA z (t, j)) :: As) z post) (hy : jY y b L r n) (hyn : y.name ≠ "<init>") (q1 : Cond.methodLink own idx y ∈ lw_all) (q2 : Cond.sameMethod y.cls y.cls y.name y.desc ∈ lw_all) (q3 : Cond.superclass own y.cls ∈ lw_all) (q4 : Cond.instanceMethod y ∈ lw_all) (hlive : zL z (t, j) = true) (hk : kd t = .inr (ci, cs)) (hc : jcls[ci]? = some q) (hn : As.length = n) (hst : st = As.reverse ++ .ref (zA z (t, j)) :: rest) (hcat : (rest.map fun v => v.category).sum ≤ 8) (d : decode cc pc = .ok (.invokespecial idx, 3)) (hf : jFit R cells slots h mc ms L) : jRun Γ cells slots mc ms z pc lv st rest post := by
  obtain ⟨p, l, e, R, s, m, args, below, meth, c, Q, D, cA, n0, nL⟩ := Γ
  obtain ⟨rfl, rfl, hx, hb, hml, hown, hts, hr, hlk, ⟨hK, rfl⟩, hn0⟩ := C
  intro H locs ls hW hS hls
  subst hst
  obtain ⟨y1, y2, y3, y4, y5⟩ := hy
  have hpre : PreV s H q.1 (zA z (t, j)) (va_Pc (.ref (zA z (t, j)) :: As) (fun U => n0 ≤ U.heap.size ∧ jW D cA n0 z U.heap ∧ jKK D cA U)) As := ⟨jblind, jrecv hW hK hlive hk hc, fun U hU hWm => ⟨rfl, by rw [hU]; exact Nat.le_trans hn0 hS.1, by rw [hU]; exact hW, hK.warm hWm⟩⟩
  have hG : GoodIn lw_all (va_wsSU own idx y (ws_ y b L r)) := by
    unfold va_wsSU
    exact lw_app (List.forall_mem_cons.mpr ⟨q1, List.forall_mem_cons.mpr ⟨q2, List.forall_mem_cons.mpr ⟨q3, List.forall_mem_cons.mpr ⟨q4, List.forall_mem_cons.mpr ⟨y2, fun _ h => absurd h List.not_mem_nil⟩⟩⟩⟩⟩) (lw_meth y1)
  exact ⟨_, va_runSU (hK.1.1 ci q hc).2 ⟨hx, hb, hml, hown, hts⟩ (hM D cA n0) (va_cwSU n hts hG rfl rfl rfl ⟨hyn, y5⟩ hf.1) hpre rfl hn hls.1 rfl (lv_room hcat) d hf.2⟩
theorem g_runS {y : MethodName} {b : ByteArray} {L n h mc ms idx : Nat} {r : Option FieldType} {As rest : List Value} {post : Option Value → JZ → Prop} (C : jOk Γ l R cc own ret nL) (hM : jCt l y b L r h mc ms As z post) (hy : jY y b L r n) (hs : Cond.static y ∈ lw_all) (hl : Cond.methodLink own idx y ∈ lw_all ∨ ∃ host, Cond.methodLinkNest own idx y host ∈ jnw) (hn : As.length = n) (hst : st = As.reverse ++ rest) (hcat : (rest.map fun v => v.category).sum ≤ 8) (d : decode cc pc = .ok (.invokestatic idx, 3)) (hf : jFit R cells slots h mc ms L) : jRun Γ cells slots mc ms z pc lv st rest post := by
  obtain ⟨p, l, e, R, s, m, args, below, meth, c, Q, D, cA, n0, nL⟩ := Γ
  obtain ⟨rfl, rfl, hx, hb, hml, hown, hts, hr, hlk, ⟨hK, rfl⟩, hn0⟩ := C
  intro H locs ls hW hS hls
  subst hst
  obtain ⟨y1, y2, y3, y4, y5⟩ := hy
  have hpre : PreS s H (va_Pc As (fun U => n0 ≤ U.heap.size ∧ jW D cA n0 z U.heap ∧ jKK D cA U)) As := ⟨jblind, fun U hU hWm => ⟨rfl, by rw [hU]; exact Nat.le_trans hn0 hS.1, by rw [hU]; exact hW, hK.warm hWm⟩⟩
  rcases hl with hl | ⟨host, hl⟩
  · exact ⟨_, va_runS ⟨hx, hb, hml, hown, hts⟩ (hM D cA n0) ⟨callB_of n hts (lw_meth y1) rfl rfl rfl (hts _ y2) (hts _ hl) ⟨y3, y4, y5⟩ hf.1, hts _ hs⟩ hpre rfl hn hls.1 rfl (lv_room hcat) d hf.2⟩
  · exact ⟨_, va_runSN ⟨hx, hb, hml, hown, hts⟩ (hM D cA n0) ⟨va_cnB n hts (lw_meth y1) rfl rfl rfl (hK.2.1 _ hl) (hts _ y2) ⟨y3, y4, y5⟩ hf.1, hts _ hs, trivial⟩ hpre rfl hn hls.1 rfl (lv_room hcat) d hf.2⟩
/-- a constructor -/
theorem g_runI {y : MethodName} {b : ByteArray} {L n h mc ms idx : Nat} {a : Nat} {As rest : List Value} {post : Option Value → JZ → Prop} (C : jOk Γ l R cc own ret nL) (hM : jCt l y b L none h mc ms (.ref a :: As) z post) (hy : jY y b L none n) (hyn : y.name = "<init>") (hi : Cond.instanceMethod y ∈ lw_all) (hl : Cond.methodLink own idx y ∈ lw_all ∨ ∃ host, Cond.methodLinkNest own idx y host ∈ jnw) (hn : As.length = n) (hst : st = As.reverse ++ .ref a :: rest) (hcat : (rest.map fun v => v.category).sum ≤ 8) (d : decode cc pc = .ok (.invokespecial idx, 3)) (hf : jFit R cells slots h mc ms L) : jRun Γ cells slots mc ms z pc lv st rest post := by
  obtain ⟨p, l, e, R, s, m, args, below, meth, c, Q, D, cA, n0, nL⟩ := Γ
  obtain ⟨rfl, rfl, hx, hb, hml, hown, hts, hr, hlk, ⟨hK, rfl⟩, hn0⟩ := C
  intro H locs ls hW hS hls
  subst hst
  obtain ⟨y1, y2, y3, y4, y5⟩ := hy
  have hpre : PreS s H (va_Pc (.ref a :: As) (fun U => n0 ≤ U.heap.size ∧ jW D cA n0 z U.heap ∧ jKK D cA U)) (.ref a :: As) := ⟨jblind, fun U hU hWm => ⟨rfl, by rw [hU]; exact Nat.le_trans hn0 hS.1, by rw [hU]; exact hW, hK.warm hWm⟩⟩
  rcases hl with hl | ⟨host, hl⟩
  · exact ⟨_, va_runI ⟨hx, hb, hml, hown, hts⟩ (hM D cA n0) ⟨callB_of n hts (lw_meth y1) rfl rfl rfl (hts _ y2) (hts _ hl) ⟨y3, y4, y5⟩ hf.1, hyn, hts _ hi⟩ hpre rfl hn hls.1 rfl (lv_room hcat) d hf.2⟩
  · exact ⟨_, va_runIN ⟨hx, hb, hml, hown, hts⟩ (hM D cA n0) ⟨va_cnB n hts (lw_meth y1) rfl rfl rfl (hK.2.1 _ hl) (hts _ y2) ⟨y3, y4, y5⟩ hf.1, hyn, hts _ hi⟩ hpre rfl hn hls.1 rfl (lv_room hcat) d hf.2⟩
/-- Object's own constructor -/
theorem g_objInit {a idx : Nat} (C : jOk Γ l R cc own ret nL) (q1 : Cond.methodLink own idx Lib.objectInit ∈ lw_all) (q2 : Cond.instanceMethod Lib.objectInit ∈ lw_all) (q3 : Cond.code Lib.objectInit ⟨#[0xb1]⟩ 1 none ∈ lw_all) (d : decode cc pc = .ok (.invokespecial idx, 3)) (hR : 1 ≤ R.frames ∧ 100 ≤ R.locals) (hst : (st.map fun v => v.category).sum ≤ 8) (kk : jG Γ cells slots z (pc + 3) lv st) : jG Γ cells slots z pc lv (.ref a :: st) := by
  obtain ⟨p, l, e, R, s, m, args, below, meth, c, Q, D, cA, n0, nL⟩ := Γ
  obtain ⟨rfl, rfl, hx, hb, hml, hown, hts, hr, hlk, ⟨hK, rfl⟩, hn0⟩ := C
  intro H locs ls hW hS hl
  refine W.objInit hx hb hown (hts _ q1) (hts _ q2) (hts _ q3) rfl (by rw [hml]; exact hl.1) rfl d ?_ ?_ ?_
  · exact hR.1
  · have h8 := lv_room (m := m) (pc := pc) (ls := ls) (rest := .ref a :: st) hst
    omega
  · exact kk H locs ls hW hS hl
/-! new cells -/
/-- no live cell holds a lasting reference to i0 -/
def jFree (z : JZ) (i0 : JId) : Prop := ∀ i : JId, i ≠ i0 → zL z i = true → ∀ (c : Nat) (cs : List (Nat × Nat × Nat)) (k a t d : Nat), kd i.1 = .inr (c, cs) → cs[k]? = some (a + 2, t, d) → (t, i.2 + d) ≠ i0
theorem fvl_sN {z : JZ} {i0 i : JId} {a n : Nat} {m : Nat → Int32} {r : Nat → Option Nat} : ∀ (cs : List (Nat × Nat × Nat)) (b : Nat), (∀ (k a' t d : Nat), cs[k]? = some (a' + 2, t, d) → (t, n + d) ≠ i0) → fvl (zA (sN z i0 a)) n m r b cs = fvl (zA z) n m r b cs
  | [], b, _ => rfl
  | c :: cs, b, h => by
    simp only [fvl]
    rw [fvl_sN (i := i) cs (b + 1) (fun k a' t d hk => h (k + 1) a' t d (by simpa using hk))]
    congr 1
    obtain ⟨x, t, d⟩ := c
    match x, h with
    | 0, _ => rfl
    | 1, _ => rfl
    | x + 2, h =>
      have := h 0 x t d rfl
      show Value.ref (if (t, n + d) = i0 then a else z.1 (t, n + d)) = Value.ref (z.1 (t, n + d))
      rw [if_neg this]
theorem jcel_sN_n {cA : Nat → ClassId} {z : JZ} {i0 i : JId} {a : Nat} (hf : jFree z i0) (hi : i ≠ i0) (hl : zL z i = true) : jcel cA (sN z i0 a) i = jcel cA z i := by
  have hm : zM (sN z i0 a) i = zM z i := if_neg hi
  have hr : zR (sN z i0 a) i = zR z i := if_neg hi
  unfold jcel
  rw [hm, hr]
  cases hk : kd i.1 with
  | inl x => rfl
  | inr x =>
    obtain ⟨c, cs⟩ := x
    simp only
    rw [fvl_sN (i := i) cs 0 (fun k a' t d h => hf i hi hl c cs k a' t d hk h)]
theorem jself {t j ci : Nat} {cs : List (Nat × Nat × Nat)} (hk : kd t = .inr (ci, cs)) {k a t' d : Nat} (h : cs[k]? = some (a + 2, t', d)) (he : (t', j + d) = (t, j)) : False := by
  have h1 : t' = t := congrArg Prod.fst he
  subst h1
  have hall : ∀ t ∈ List.range 81, ∀ c ∈ (match kd t with | .inl _ => [] | .inr x => x.2), c.1 < 2 ∨ c.2.1 ≠ t := by decide +kernel
  have ht : t' < 81 := by
    apply Classical.byContradiction
    intro hn
    have : kd t' = .inl (0, 0) := by
      unfold kd
      rw [List.getD_eq_getElem?_getD, List.getElem?_eq_none (by show jkds.length ≤ t'; have : jkds.length = 81 := rfl; omega)]
      rfl
    rw [this] at hk
    cases hk
  have := hall t' (List.mem_range.mpr ht) (a + 2, t', d) (by rw [hk]; exact List.mem_of_getElem? h)
  rcases this with h | h
  · omega
  · exact h rfl
theorem g_newG {Cn : String} {T : u_T} {N ci t j idx : Nat} {cs : List (Nat × Nat × Nat)} {ty0 : Nat → FieldType} (C : jOk Γ l R cc own ret nL) (hin : ∀ w ∈ u_ws Cn T N, w ∈ lw_all) (hty : ∀ k, k < N → parseFieldDescriptor (T k).2.2.1 = some (ty0 k)) (hc : jcls[ci]? = some (Cn, T, N)) (hk : kd t = .inr (ci, cs)) (hfree : jFree z (t, j)) (hcl : Cond.classLink own idx Cn ∈ lw_all) (hinst : Cond.instantiable Cn N ∈ lw_all) (hini : Cond.initialized Cn ∈ lw_all) (hfs : ∀ (ad : JId → Nat) (k : Nat), k < N → defaultValue (ty0 k) = vp_V (fvl ad j (fun _ => 0) (fun _ => none) 0 cs) k) (hcells : cells + 1 ≤ R.cells) (hslots : slots + N ≤ R.slots) (d : decode cc pc = .ok (.new idx, 3))
    (kk : ∀ a : Nat, jG Γ (cells + 1) (slots + N) (sN z (t, j) a) (pc + 3) lv (.ref a :: st)) : jG Γ cells slots z pc lv st := by
  obtain ⟨p, l, e, R, s, m, args, below, meth, c, Q, D, cA, n0, nL⟩ := Γ
  obtain ⟨rfl, rfl, hx, hb, hml, hown, hts, hr, hlk, ⟨hK, rfl⟩, hn0⟩ := C
  intro H locs ls hW hS hl
  obtain ⟨ws, hP, hD, hw, -⟩ := hW.list
  refine va_new hx hb hts hin ty0 hty hown (hts _ hcl) (hts _ hinst) (hts _ hini) hK.1 hP hD hS (fun q h => Nat.le_trans hn0 h) hc (fs := fvl (zA z) j (fun _ => 0) (fun _ => none) 0 cs) (fun k hk => hfs _ k hk) hcells hslots d (fun q H1 hP1 hD1 hS1 => ?_)
  refine kk q H1 locs ls (hW.push hw hP1 hD1 ?_ (fun i hi hl => jcel_sN_n hfree hi hl)) hS1 hl
  have hm : zM (sN z (t, j) q) (t, j) = fun _ => 0 := if_pos rfl
  have hr' : zR (sN z (t, j) q) (t, j) = fun _ => none := if_pos rfl
  rw [jcel_o hk, hm, hr', fvl_sN (i := (t, j)) cs 0 (fun k a' t' d' h => ?_)]
  intro he
  exact jself hk h he
theorem g_newaG {t j n idx : Nat} {x : Int32} (C : jOk Γ l R cc own ret nL) (hk : kd t = .inl (0, n)) (hfree : jFree z (t, j)) (hx : x = nI n) (hn31 : n < 100000) (hcells : cells + 1 ≤ R.cells) (hslots : slots + n ≤ R.slots) (d : decode cc pc = .ok (.newarray .int, 2)) (kk : ∀ a : Nat, jG Γ (cells + 1) (slots + n) (sN z (t, j) a) (pc + 2) lv (.ref a :: st)) : jG Γ cells slots z pc lv (.int x :: st) := by
  obtain ⟨p, l, e, R, s, m, args, below, meth, c, Q, D, cA, n0, nL⟩ := Γ
  obtain ⟨rfl, rfl, hex, hb, hml, hown, hts, hr, hlk, ⟨hK, rfl⟩, hn0⟩ := C
  intro H locs ls hW hS hl
  obtain ⟨ws, hP, hD, hw, -⟩ := hW.list
  subst hx
  refine va_newa (atype := .int) (ty := .int) (N' := n) (a0 := (n, .inl (fun _ => 0))) hex hb (hts _ q118) rfl hK.1 hP hD hS (fun q h => Nat.le_trans hn0 h) (fun cA => rfl) (nI_pos (by omega)) (nI_clamp (by omega)) (by show n * 4 ≤ _; omega) hcells hslots d (fun q cA' H1 hK1 hP1 hD1 hS1 => ?_)
  have hcA : cA' = cA 0 := by
    have h1 := (hK.1.2 0 _ rfl).2
    have h2 := (hK1.2 6 (cA', .int) rfl).2
    have h1 : s.vm.findClass ("[" ++ FieldType.int.toString) = some (cA 0) := h1
    have h2 : s.vm.findClass ("[" ++ FieldType.int.toString) = some cA' := h2
    rw [h1] at h2
    exact (Option.some.inj h2).symm
  subst hcA
  refine kk q H1 locs ls (hW.push hw hP1 hD1 ?_ (fun i hi hl => jcel_sN_n hfree hi hl)) hS1 hl
  rw [jcel_a hk (by decide)]
  have hm : zM (sN z (t, j) q) (t, j) = fun _ => 0 := if_pos rfl
  rw [hm]
theorem g_newzG {t j n idx : Nat} {x : Int32} (C : jOk Γ l R cc own ret nL) (hk : kd t = .inl (1, n)) (hfree : jFree z (t, j)) (hx : x = nI n) (hn31 : n < 100000) (hcells : cells + 1 ≤ R.cells) (hslots : slots + n ≤ R.slots) (d : decode cc pc = .ok (.newarray .boolean, 2)) (kk : ∀ a : Nat, jG Γ (cells + 1) (slots + n) (sN z (t, j) a) (pc + 2) lv (.ref a :: st)) : jG Γ cells slots z pc lv (.int x :: st) := by
  obtain ⟨p, l, e, R, s, m, args, below, meth, c, Q, D, cA, n0, nL⟩ := Γ
  obtain ⟨rfl, rfl, hex, hb, hml, hown, hts, hr, hlk, ⟨hK, rfl⟩, hn0⟩ := C
  intro H locs ls hW hS hl
  obtain ⟨ws, hP, hD, hw, -⟩ := hW.list
  subst hx
  refine va_newa (atype := .boolean) (ty := .boolean) (N' := n) (a0 := (n, .inl (fun _ => 0))) hex hb (hts _ q859) rfl hK.1 hP hD hS (fun q h => Nat.le_trans hn0 h) (fun cA => rfl) (nI_pos (by omega)) (nI_clamp (by omega)) (by show n * 1 ≤ _; omega) hcells hslots d (fun q cA' H1 hK1 hP1 hD1 hS1 => ?_)
  have hcA : cA' = cA 1 := by
    have h1 := (hK.1.2 1 _ rfl).2
    have h2 := (hK1.2 6 (cA', .boolean) rfl).2
    have h1 : s.vm.findClass ("[" ++ FieldType.boolean.toString) = some (cA 1) := h1
    have h2 : s.vm.findClass ("[" ++ FieldType.boolean.toString) = some cA' := h2
    rw [h1] at h2
    exact (Option.some.inj h2).symm
  subst hcA
  refine kk q H1 locs ls (hW.push hw hP1 hD1 ?_ (fun i hi hl => jcel_sN_n hfree hi hl)) hS1 hl
  rw [jcel_a hk (by decide)]
  have hm : zM (sN z (t, j) q) (t, j) = fun _ => 0 := if_pos rfl
  rw [hm]

end JROW
