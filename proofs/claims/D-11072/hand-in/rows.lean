section
/-! 01: general rows -/
/-- the head of a list as the program holds it: -1 for none -/
def za_h : List Nat → Int32
  | [] => -1
  | a :: _ => nI a
/-- the last of a list, or p -/
def za_l (p : Int32) : List Nat → Int32
  | [] => p
  | a :: L => za_l (nI a) L
theorem za_neg : (-1 : Int32) < 0 := by decide
theorem za_neg' : ¬ (0 : Int32) ≤ -1 := by decide
theorem za_a0 (x : Nat) : nI x + 0 = nI x := nI_add x 0
theorem za_a1 (x : Nat) : nI x + 1 = nI (x + 1) := nI_add x 1
theorem za_a2 (x : Nat) : nI x + 2 = nI (x + 2) := nI_add x 2
theorem za_a3 (x : Nat) : nI x + 3 = nI (x + 3) := nI_add x 3
theorem za_a4 (x : Nat) : nI x + 4 = nI (x + 4) := nI_add x 4
theorem za_a5 (x : Nat) : nI x + 5 = nI (x + 5) := nI_add x 5
theorem za_a6 (x : Nat) : nI x + 6 = nI (x + 6) := nI_add x 6
theorem za_a7 (x : Nat) : nI x + 7 = nI (x + 7) := nI_add x 7
theorem za_40 (x : Nat) : 4 + nI x = nI (4 + x) := nI_add 4 x
theorem za_ar (a : Nat) : (100 : Int32) + 10 * nI a = nI (100 + 10 * a) := by
  rw [show (10 : Int32) * nI a = nI (10 * a) from pk_mul 10 a]
  exact nI_add 100 (10 * a)
theorem za_nr (n : Nat) : (16 : Int32) + 7 * nI n = nI (16 + 7 * n) := by
  rw [show (7 : Int32) * nI n = nI (7 * n) from pk_mul 7 n]
  exact nI_add 16 (7 * n)
theorem za_ac {post : Int32 → Prop} {a : Nat} (h : post (nI (100 + 10 * a))) : wpX_arrowCell post () (nI a) := by
  show post (100 + 10 * nI a)
  rw [za_ar]; exact h
theorem za_na {post : Int32 → Prop} {n : Nat} (h : post (nI (16 + 7 * n))) : wpX_nodeAt post () (nI n) := by
  show post (16 + 7 * nI n)
  rw [za_nr]; exact h
/-- a read -/
theorem za_rd {x : Int32} {N : Nat} {f : Nat → Int32} {P : Int32 → Prop} (n : Nat) (hx : x = nI n) (hn : n < N) (h : ∀ y, y = f n → P y) (hN : N < 2 ^ 31 := by omega) : vp_in x N ∧ (∀ y, y = f x.toNatClampNeg → P y) := by
  subst hx
  rw [nI_clamp (by omega)]
  exact ⟨vp_in_nI hn hN, h⟩
/-- a store -/
theorem za_st {x v : Int32} {N : Nat} {f : Nat → Int32} {P : (Nat → Int32) → Prop} (n : Nat) (hx : x = nI n) (hn : n < N) (h : P (upd f n v)) (hN : N < 2 ^ 31 := by omega) : vp_in x N ∧ (∀ g, g = upd f x.toNatClampNeg v → P g) := by
  subst hx
  rw [nI_clamp (by omega)]
  exact ⟨vp_in_nI hn hN, fun g e => e ▸ h⟩
theorem za_h_neg {L : List Nat} (h : L = []) : za_h L < 0 := by subst h; decide
theorem za_h_pos {a : Nat} {L : List Nat} (h : a < 2 ^ 31) : ¬ za_h (a :: L) < 0 := nI_pos h
theorem za_h_pos' {a : Nat} {L : List Nat} (h : a < 2 ^ 31) : 0 ≤ za_h (a :: L) := nI_pos' h
theorem za_pg {L : List Nat} {N : Nat} (hn : L.Nodup) (h : ∀ x, x ∈ L → x < N) : L.length ≤ N := by
  have := List.Nodup.length_le_of_subset (l₂ := List.range N) hn (fun x hx => List.mem_range.mpr (h x hx))
  rwa [List.length_range] at this
theorem za_full {L : List Nat} {N : Nat} (hn : L.Nodup) (h : ∀ x, x ∈ L → x < N) (hl : L.length = N) : ∀ x, x < N → x ∈ L := by
  intro x hx
  apply Classical.byContradiction
  intro hc
  have := za_pg (L := x :: L) (N := N) (List.nodup_cons.mpr ⟨hc, hn⟩) (fun y hy => by
    rcases List.mem_cons.mp hy with e | e
    · omega
    · exact h y e)
  simp at this
  omega
theorem za_len {L M : List Nat} (hl : L.Nodup) (hm : M.Nodup) (h : ∀ x, x ∈ L ↔ x ∈ M) : L.length = M.length :=
  ((List.perm_ext_iff_of_nodup hl hm).mpr h).length_eq
theorem za_part {F A : List Nat} {N : Nat} (hf : F.Nodup) (ha : A.Nodup) (h : ∀ x, x ∈ F ↔ x < N ∧ x ∉ A) (hA : ∀ x, x ∈ A → x < N) : F.length + A.length = N := by
  have h1 : (F ++ A).length = (List.range N).length := by
    refine za_len (List.nodup_append.mpr ⟨hf, ha, fun x hx y hy e => ((h x).mp hx).2 (e ▸ hy)⟩) List.nodup_range (fun x => ?_)
    rw [List.mem_append, List.mem_range, h x]
    constructor
    · rintro (z | z)
      · exact z.1
      · exact hA x z
    · intro z
      by_cases q : x ∈ A
      · exact Or.inr q
      · exact Or.inl ⟨z, q⟩
  rw [List.length_append, List.length_range] at h1
  exact h1
theorem za_asc_nodup {F : List Nat} (h : F.Pairwise (· < ·)) : F.Nodup := h.imp (fun h => Nat.ne_of_lt h)
/-- the number of k < n with P k -/
def za_cnt (P : Nat → Bool) : Nat → Nat
  | 0 => 0
  | n + 1 => za_cnt P n + (if P n = true then 1 else 0)
theorem za_cnt_congr {P Q : Nat → Bool} {n : Nat} (h : ∀ k, k < n → P k = Q k) : za_cnt P n = za_cnt Q n := by
  induction n with
  | zero => rfl
  | succ n ih => simp only [za_cnt]; rw [ih (fun k hk => h k (by omega)), h n (by omega)]
theorem za_cnt_f {P : Nat → Bool} {n : Nat} (h : ∀ k, k < n → P k = false) : za_cnt P n = 0 := by
  induction n with
  | zero => rfl
  | succ n ih => simp only [za_cnt]; rw [ih (fun k hk => h k (by omega)), h n (by omega)]; rfl
theorem za_cnt_add {P Q S : Nat → Bool} {n : Nat} (h : ∀ k, k < n → (if S k = true then 1 else 0) = (if P k = true then 1 else 0) + (if Q k = true then 1 else 0)) : za_cnt S n = za_cnt P n + za_cnt Q n := by
  induction n with
  | zero => rfl
  | succ n ih => simp only [za_cnt]; rw [ih (fun k hk => h k (by omega)), h n (by omega)]; omega
theorem za_cnt_le (P : Nat → Bool) (n : Nat) : za_cnt P n ≤ n := by
  induction n with
  | zero => exact Nat.le_refl 0
  | succ n ih => simp only [za_cnt]; split <;> omega
theorem za_cnt_1 {a : Nat} : ∀ {n : Nat}, a < n → za_cnt (fun k => decide (k = a)) n = 1
  | 0, h => absurd h (by omega)
  | n + 1, h => by
    simp only [za_cnt]
    by_cases e : n = a
    · subst e
      rw [za_cnt_f (fun k hk => by simp; omega)]; simp
    · rw [za_cnt_1 (by omega)]; simp [e]
theorem za_cnt_mem {L : List Nat} {n : Nat} (hn : L.Nodup) (h : ∀ x, x ∈ L → x < n) : za_cnt (fun k => decide (k ∈ L)) n = L.length := by
  induction L with
  | nil => exact za_cnt_f (fun k _ => by simp)
  | cons a L ih =>
    rw [List.nodup_cons] at hn
    rw [za_cnt_add (P := fun k => decide (k = a)) (Q := fun k => decide (k ∈ L)), za_cnt_1 (h a (by simp)), ih hn.2 (fun x hx => h x (by simp [hx])), List.length_cons, Nat.add_comm]
    intro k _
    by_cases e : k = a
    · subst e; simp [hn.1]
    · simp [e]
/-- sums -/
def za_sm (f : Nat → Nat) : Nat → Nat
  | 0 => 0
  | n + 1 => za_sm f n + f n
theorem za_sm_congr {f g : Nat → Nat} {n : Nat} (h : ∀ k, k < n → f k = g k) : za_sm f n = za_sm g n := by
  induction n with
  | zero => rfl
  | succ n ih => simp only [za_sm]; rw [ih (fun k hk => h k (by omega)), h n (by omega)]
theorem za_sm_add {f g h : Nat → Nat} {n : Nat} (e : ∀ k, k < n → h k = f k + g k) : za_sm h n = za_sm f n + za_sm g n := by
  induction n with
  | zero => rfl
  | succ n ih => simp only [za_sm]; rw [ih (fun k hk => e k (by omega)), e n (by omega)]; omega
theorem za_sm_0 {f : Nat → Nat} {n : Nat} (h : ∀ k, k < n → f k = 0) : za_sm f n = 0 := by
  induction n with
  | zero => rfl
  | succ n ih => simp only [za_sm]; rw [ih (fun k hk => h k (by omega)), h n (by omega)]
theorem za_sm_1 {a d : Nat} : ∀ {n : Nat}, a < n → za_sm (fun k => if k = a then d else 0) n = d
  | 0, h => absurd h (by omega)
  | n + 1, h => by
    simp only [za_sm]
    by_cases e : n = a
    · subst e
      rw [za_sm_0 (fun k hk => by rw [if_neg (by omega)])]; simp
    · rw [za_sm_1 (by omega)]; simp [e]
theorem za_sm_cnt (P : Nat → Bool) (n : Nat) : za_cnt P n = za_sm (fun k => if P k = true then 1 else 0) n := by
  induction n with
  | zero => rfl
  | succ n ih => simp only [za_cnt, za_sm, ih]
/-- a list sorted by a key: the lengths add up to its own -/
theorem za_sm_len {L : List Nat} {g : Nat → Nat} {n : Nat} (h : ∀ x, x ∈ L → g x < n) : za_sm (fun k => (L.filter (fun x => decide (g x = k))).length) n = L.length := by
  induction L with
  | nil => exact za_sm_0 (fun k _ => rfl)
  | cons a L ih =>
    rw [za_sm_add (f := fun k => (L.filter (fun x => decide (g x = k))).length) (g := fun k => if k = g a then 1 else 0), ih (fun x hx => h x (by simp [hx])), za_sm_1 (h a (by simp))]
    · rfl
    · intro k _
      rw [List.filter_cons]
      by_cases e : g a = k
      · simp [e]
      · simp [e, Ne.symm e]
end
section
/-! 02: cells that are kept: put, keepOld, add, begin, undo, forget, end -/
def zt_l (l : Nat) (a2 a3 a4 a5 old cur : Nat → Int32) : Prop :=
  ∃ E : List Nat, E.Nodup ∧ (∀ v, v ∈ E → v < 340) ∧ a5 l = nI E.length ∧
    (∀ j v, E[j]? = some v → a2 (340 * l + j) = nI v ∧ a3 (340 * l + j) = old v) ∧
    (∀ v, v < 340 → a4 (340 * l + v) = if v ∈ E then 1 else 0) ∧
    (∀ v, v ∉ E → cur v = old v)
def zt_0 (l : Nat) (a4 a5 : Nat → Int32) : Prop := a5 l = 0 ∧ ∀ v, v < 340 → a4 (340 * l + v) = 0
/-- o transactions have begun over cells c; B l: the cells when level l began -/
def zt (o : Nat) (c a2 a3 a4 a5 : Nat → Int32) (B : Nat → Nat → Int32) : Prop :=
  o ≤ 2 ∧ (∀ l, l < o → zt_l l a2 a3 a4 a5 (B l) (if l + 1 < o then B (l + 1) else c)) ∧ (∀ l, l < 4 → o ≤ l → zt_0 l a4 a5)
theorem zt_l_frame {l : Nat} {a2 a3 a4 a5 b2 b3 b4 b5 old cur : Nat → Int32} (h : zt_l l a2 a3 a4 a5 old cur)
    (hf : ∀ j, 340 * l ≤ j → j < 340 * l + 340 → b2 j = a2 j ∧ b3 j = a3 j ∧ b4 j = a4 j) (h5 : b5 l = a5 l) : zt_l l b2 b3 b4 b5 old cur := by
  obtain ⟨E, e1, e2, e3, e4, e5, e6⟩ := h
  have hl := za_pg e1 e2
  refine ⟨E, e1, e2, h5.trans e3, fun j v hj => ?_, fun v hv => ?_, e6⟩
  · have hj' : j < E.length := (List.getElem?_eq_some_iff.mp hj).1
    have := hf (340 * l + j) (by omega) (by omega)
    rw [this.1, this.2.1]
    exact e4 j v hj
  · rw [(hf (340 * l + v) (by omega) (by omega)).2.2]
    exact e5 v hv
section
variable {oo pi ck gs wg : Int32} {a1 a2 a3 a4 a5 a6 a7 a8 a9 a10 a11 a12 a13 : Nat → Int32}
theorem zt_keep {post : St2 → Prop} {l p : Nat} {old cur : Nat → Int32} {x y z : Int32} (v : Int32) (hx : x = nI l) (hy : y = nI p) (hz : z = cur p) (hl : l < 4) (hp : p < 340) (h : zt_l l a2 a3 a4 a5 old cur)
    (H : ∀ b2 b3 b4 b5, zt_l l b2 b3 b4 b5 old (upd cur p v) → (∀ j, (j < 340 * l ∨ 340 * l + 340 ≤ j) → b2 j = a2 j ∧ b3 j = a3 j ∧ b4 j = a4 j) → (∀ j, j ≠ l → b5 j = a5 j) → post (oo, pi, ck, gs, wg, a1, b2, b3, b4, b5, a6, a7, a8, a9, a10, a11, a12, a13)) :
    wpX_keepOld post (oo, pi, ck, gs, wg, a1, a2, a3, a4, a5, a6, a7, a8, a9, a10, a11, a12, a13) x y z := by
  subst hx hy hz
  obtain ⟨E, e1, e2, e3, e4, e5, e6⟩ := h
  have hlen := za_pg e1 e2
  have hk : (340 : Int32) * nI l + nI p = nI (340 * l + p) := by
    rw [show (340 : Int32) * nI l = nI (340 * l) from pk_mul 340 l]; exact nI_add _ _
  have hn : (340 : Int32) * nI l + nI E.length = nI (340 * l + E.length) := by
    rw [show (340 : Int32) * nI l = nI (340 * l) from pk_mul 340 l]; exact nI_add _ _
  unfold wpX_keepOld
  dsimp only
  rw [hk, nI_clamp (show l < 2 ^ 31 by omega), e3, hn]
  refine nm_e ?_
  rw [nI_clamp (show 340 * l + p < 2 ^ 31 by omega), e5 p hp]
  refine ⟨vp_in_nI (by omega) (by decide), ?_⟩
  by_cases hE : p ∈ E
  · refine br_f (by rw [if_pos hE]; decide) (H a2 a3 a4 a5 ⟨E, e1, e2, e3, e4, e5, fun w hw => ?_⟩ (fun j _ => ⟨rfl, rfl, rfl⟩) (fun j _ => rfl))
    rw [pk_un (show w ≠ p from fun q => hw (by rw [q]; exact hE))]
    exact e6 w hw
  · have hlen' : E.length + 1 ≤ 340 := za_pg (L := p :: E) (List.nodup_cons.mpr ⟨hE, e1⟩) (fun w hw => by
      rcases List.mem_cons.mp hw with e | e
      · omega
      · exact e2 w e)
    refine br_t (by rw [if_neg hE]) ⟨vp_in_nI (by omega) (by decide), nm_e ⟨vp_in_nI (by omega) (by decide), nm_e ?_⟩⟩
    rw [nI_clamp (show 340 * l + E.length < 2 ^ 31 by omega)]
    refine ⟨vp_in_nI (by omega) (by decide), nm_e ⟨vp_in_nI (by omega) (by decide), nm_e ⟨vp_in_nI (by omega) (by decide), vp_in_nI (by omega) (by decide), nm_e ?_⟩⟩⟩
    refine H _ _ _ _ ⟨E ++ [p], ?_, ?_, ?_, ?_, ?_, ?_⟩ ?_ ?_
    · exact List.nodup_append.mpr ⟨e1, by simp, fun a ha b hb e => by simp at hb; exact hE (by rw [← hb, ← e]; exact ha)⟩
    · intro w hw
      rcases List.mem_append.mp hw with e | e
      · exact e2 w e
      · simp at e; omega
    · rw [pk_us, List.length_append]; exact za_a1 _
    · intro j w hj
      rcases Nat.lt_or_ge j E.length with q | q
      · rw [List.getElem?_append_left q] at hj
        rw [pk_un (by omega), pk_un (by omega)]
        exact e4 j w hj
      · rw [List.getElem?_append_right q] at hj
        have hj0 : j - E.length = 0 := by
          rcases Nat.eq_zero_or_pos (j - E.length) with z | z
          · exact z
          · rw [List.getElem?_eq_none (by simp; omega)] at hj
            exact absurd hj (by simp)
        rw [hj0] at hj
        have ew : p = w := by simpa using hj
        have ej : j = E.length := by omega
        subst ew ej
        rw [pk_us, pk_us]
        exact ⟨rfl, e6 p hE⟩
    · intro w hw
      by_cases ew : w = p
      · subst ew
        rw [pk_us, if_pos (by simp)]
      · rw [pk_un (by omega), e5 w hw]
        by_cases q : w ∈ E
        · rw [if_pos q, if_pos (by simp [q])]
        · rw [if_neg q, if_neg (by simp [q, ew])]
    · intro w hw
      simp only [List.mem_append, List.mem_singleton, not_or] at hw
      rw [pk_un hw.2]
      exact e6 w hw.1
    · intro j hj
      exact ⟨pk_un (by omega), pk_un (by omega), pk_un (by omega)⟩
    · intro j hj
      exact pk_un hj
theorem zt_put {post : St2 → Prop} {o : Nat} {B : Nat → Nat → Int32} {x v : Int32} (p : Nat) (hx : x = nI p) (ht : zt o a1 a2 a3 a4 a5 B) (hp : p < 340)
    (H : ∀ b2 b3 b4 b5, zt o (upd a1 p v) b2 b3 b4 b5 B → post (nI o, pi, ck, gs, wg, upd a1 p v, b2, b3, b4, b5, a6, a7, a8, a9, a10, a11, a12, a13)) :
    wpX_put post (nI o, pi, ck, gs, wg, a1, a2, a3, a4, a5, a6, a7, a8, a9, a10, a11, a12, a13) x v := by
  subst hx
  obtain ⟨ho, h1, h2⟩ := ht
  cases o with
  | zero =>
    refine br_t (by decide) (za_st p rfl hp ?_)
    exact H a2 a3 a4 a5 ⟨by omega, fun l hl => absurd hl (by omega), h2⟩
  | succ l =>
    refine br_f (nI_nle (by omega) (by omega)) ⟨vp_in_nI hp (by decide), ?_⟩
    rw [nI_clamp (show p < 2 ^ 31 by omega)]
    have hl := h1 l (by omega)
    rw [if_neg (by omega)] at hl
    refine zt_keep v (nI_pred l) rfl rfl (by omega) hp hl (fun b2 b3 b4 b5 k1 k2 k3 => ?_)
    refine ⟨vp_in_nI hp (by decide), nm_e (H b2 b3 b4 b5 ⟨ho, fun l' hl' => ?_, fun l' hl4 hl' => ?_⟩)⟩
    · by_cases e : l' = l
      · subst e
        rw [if_neg (by omega)]
        exact k1
      · have := h1 l' hl'
        rw [if_pos (by omega)] at this ⊢
        exact zt_l_frame this (fun j q1 q2 => k2 j (by omega)) (k3 l' e)
    · have := h2 l' hl4 hl'
      exact ⟨(k3 l' (by omega)).trans this.1, fun v hv => ((k2 _ (by omega)).2.2).trans (this.2 v hv)⟩
theorem zt_add {post : St2 → Prop} {o : Nat} {B : Nat → Nat → Int32} {x v : Int32} (p : Nat) (hx : x = nI p) (ht : zt o a1 a2 a3 a4 a5 B) (hp : p < 340)
    (H : ∀ b2 b3 b4 b5, zt o (upd a1 p (a1 p + v)) b2 b3 b4 b5 B → post (nI o, pi, ck, gs, wg, upd a1 p (a1 p + v), b2, b3, b4, b5, a6, a7, a8, a9, a10, a11, a12, a13)) :
    wpX_add post (nI o, pi, ck, gs, wg, a1, a2, a3, a4, a5, a6, a7, a8, a9, a10, a11, a12, a13) x v := by
  subst hx
  refine ⟨vp_in_nI hp (by decide), ?_⟩
  rw [nI_clamp (show p < 2 ^ 31 by omega)]
  exact zt_put p rfl ht hp H
theorem zt_begin {post : Int32 → St2 → Prop} {o : Nat} {B : Nat → Nat → Int32} (ht : zt o a1 a2 a3 a4 a5 B) (ho : o < 2)
    (H : zt (o + 1) a1 a2 a3 a4 a5 (fun l => if l = o then a1 else B l) → post (nI (o + 1)) (nI (o + 1), pi, ck, gs, wg, a1, a2, a3, a4, a5, a6, a7, a8, a9, a10, a11, a12, a13)) :
    wpX_begin post (nI o, pi, ck, gs, wg, a1, a2, a3, a4, a5, a6, a7, a8, a9, a10, a11, a12, a13) := by
  refine br_t (nI_lt (b := 4) (by omega) (by decide)) (nm_r (za_a1 o) (H ?_))
  obtain ⟨_, h1, h2⟩ := ht
  refine ⟨by omega, fun l hl => ?_, fun l q1 q2 => h2 l q1 (by omega)⟩
  dsimp only
  by_cases e : l = o
  · subst e
    rw [if_pos rfl, if_neg (by omega)]
    obtain ⟨z1, z2⟩ := h2 l (by omega) (by omega)
    exact ⟨[], by simp, by simp, z1, by simp, fun v hv => by rw [z2 v hv]; simp, fun _ _ => rfl⟩
  · have := h1 l (by omega)
    rw [if_neg e]
    by_cases e2 : l + 1 = o
    · rw [if_neg (by omega)] at this
      rw [if_pos (by omega), if_pos e2]
      exact this
    · rw [if_pos (by omega)] at this
      rw [if_pos (by omega), if_neg e2]
      exact this
theorem zt_forget {post : St2 → Prop} {l : Nat} {E : List Nat} {x : Int32} (hx : x = nI l) (hl : l < 4) (e1 : E.Nodup) (e2 : ∀ v, v ∈ E → v < 340) (e3 : a5 l = nI E.length)
    (e4 : ∀ j v, E[j]? = some v → a2 (340 * l + j) = nI v) (e5 : ∀ v, v < 340 → a4 (340 * l + v) = if v ∈ E then 1 else 0)
    (H : ∀ b4 b5, (∀ v, v < 340 → b4 (340 * l + v) = 0) → b5 l = 0 → (∀ j, (j < 340 * l ∨ 340 * l + 340 ≤ j) → b4 j = a4 j) → (∀ j, j ≠ l → b5 j = a5 j) → post (oo, pi, ck, gs, wg, a1, a2, a3, b4, b5, a6, a7, a8, a9, a10, a11, a12, a13)) :
    wpX_forget post (oo, pi, ck, gs, wg, a1, a2, a3, a4, a5, a6, a7, a8, a9, a10, a11, a12, a13) x := by
  subst hx
  have hlen := za_pg e1 e2
  have hm : (340 : Int32) * nI l = nI (340 * l) := pk_mul 340 l
  refine pk_loop (fun n i s => wX_forget_2 post (nI l) oo pi ck gs wg n (nI i) a1 a2 a3 s a5 a6 a7 a8 a9 a10 a11 a12 a13) (fun i s => (∀ v, v < 340 → s (340 * l + v) = if v ∈ E.drop i then 1 else 0) ∧ (∀ j, (j < 340 * l ∨ 340 * l + 340 ≤ j) → s j = a4 j)) E.length 0 a4 (by omega) ⟨by simpa using e5, fun _ _ => rfl⟩ ?_ ?_
  · intro n s ⟨h1, h2⟩
    refine ⟨vp_in_nI hl (by decide), ?_⟩
    rw [nI_clamp (show l < 2 ^ 31 by omega), e3]
    refine pk_le E.length E.length (fun _ => ⟨vp_in_nI hl (by decide), nm_e (H s _ ?_ pk_us h2 (fun j hj => pk_un hj))⟩) (fun z => absurd z (by omega))
    intro v hv
    rw [h1 v hv]; simp
  · intro n i s hi ⟨h1, h2⟩ hw
    refine ⟨vp_in_nI hl (by decide), ?_⟩
    rw [nI_clamp (show l < 2 ^ 31 by omega), e3]
    refine pk_le E.length i (fun z => absurd z (by omega)) (fun _ => ?_)
    have hg := e4 i E[i] (List.getElem?_eq_getElem hi)
    have hb := e2 E[i] (List.getElem_mem hi)
    rw [hm, nI_add, nI_clamp (show 340 * l + i < 2 ^ 31 by omega), hg, nI_add, nI_clamp (show 340 * l + E[i] < 2 ^ 31 by omega)]
    refine ⟨vp_in_nI (by omega) (by decide), vp_in_nI (by omega) (by decide), nm_e (nm_r (za_a1 i) (hw _ ⟨fun v hv => ?_, fun j hj => ?_⟩))⟩
    · have hd : E.drop i = E[i] :: E.drop (i + 1) := List.drop_eq_getElem_cons hi
      have hnd : (E.drop i).Nodup := e1.sublist (List.drop_sublist i E)
      rw [hd, List.nodup_cons] at hnd
      by_cases e : v = E[i]
      · subst e
        rw [pk_us, if_neg hnd.1]
      · rw [pk_un (by omega), h1 v hv, hd]
        by_cases q : v ∈ List.drop (i + 1) E
        · rw [if_pos q, if_pos (List.mem_cons_of_mem _ q)]
        · rw [if_neg q, if_neg (fun z => (List.mem_cons.mp z).elim e q)]
    · rw [pk_un (by omega)]
      exact h2 j hj
theorem zt_undo {post : Int32 → St2 → Prop} {o : Nat} {B : Nat → Nat → Int32} (ht : zt (o + 1) a1 a2 a3 a4 a5 B)
    (H : ∀ b4 b5, zt o (B o) a2 a3 b4 b5 B → post (nI o) (nI o, pi, ck, gs, wg, B o, a2, a3, b4, b5, a6, a7, a8, a9, a10, a11, a12, a13)) :
    wpX_undo post (nI (o + 1), pi, ck, gs, wg, a1, a2, a3, a4, a5, a6, a7, a8, a9, a10, a11, a12, a13) := by
  obtain ⟨ho, h1, h2⟩ := ht
  have hl := h1 o (by omega)
  rw [if_neg (by omega)] at hl
  obtain ⟨E, e1, e2, e3, e4, e5, e6⟩ := hl
  have hlen := za_pg e1 e2
  have hm : (340 : Int32) * nI o = nI (340 * o) := pk_mul 340 o
  refine br_f (nI_ne0 (by omega) (by omega)) (nm_r (nI_pred o) (nm_r hm ?_))
  refine pk_loop (fun n i s => wX_undo_23 post (nI o) (nI (o + 1)) pi ck gs wg n (nI i) s a2 a3 a4 a5 a6 a7 a8 a9 a10 a11 a12 a13) (fun i s => 340 * o ≤ i ∧ (∀ v, v ∈ E.take (i - 340 * o) → s v = B o v) ∧ (∀ v, v ∉ E → s v = B o v)) (340 * o + E.length) (340 * o) a1 (by omega) ⟨by omega, by simp, e6⟩ ?_ ?_
  · intro n s ⟨g0, g1, g2⟩
    have hs : s = B o := by
      funext v
      by_cases q : v ∈ E
      · exact g1 v (by rw [List.take_of_length_le (by omega)]; exact q)
      · exact g2 v q
    refine ⟨vp_in_nI (by omega) (by decide), ?_⟩
    rw [nI_clamp (show o < 2 ^ 31 by omega), e3, hm, nI_add]
    refine pk_le (340 * o + E.length) (340 * o + E.length) (fun _ => ?_) (fun z => absurd z (by omega))
    refine zt_forget rfl (by omega) e1 e2 e3 (fun j v hj => (e4 j v hj).1) e5 (fun b4 b5 k1 k2 k3 k4 => nm_r (nI_pred o) ?_)
    rw [hs]
    refine H b4 b5 ⟨by omega, fun l hl => ?_, fun l hl4 hlo => ?_⟩
    · have q := h1 l (by omega)
      rw [if_pos (by omega)] at q
      have q' : zt_l l a2 a3 b4 b5 (B l) (B (l + 1)) := zt_l_frame q (fun j j1 j2 => ⟨rfl, rfl, k3 j (by omega)⟩) (k4 l (by omega))
      by_cases e : l + 1 < o
      · rw [if_pos e]; exact q'
      · rw [if_neg e, show o = l + 1 by omega]; exact q'
    · by_cases e : l = o
      · subst e; exact ⟨k2, k1⟩
      · have q := h2 l hl4 (by omega)
        exact ⟨(k4 l e).trans q.1, fun v hv => (k3 _ (by omega)).trans (q.2 v hv)⟩
  · intro n i s hi ⟨g0, g1, g2⟩ hw
    refine ⟨vp_in_nI (by omega) (by decide), ?_⟩
    rw [nI_clamp (show o < 2 ^ 31 by omega), e3, hm, nI_add]
    refine pk_le (340 * o + E.length) i (fun z => absurd z (by omega)) (fun _ => ?_)
    have hj : i - 340 * o < E.length := by omega
    have hg := e4 (i - 340 * o) E[i - 340 * o] (List.getElem?_eq_getElem hj)
    rw [show 340 * o + (i - 340 * o) = i by omega] at hg
    have hb := e2 E[i - 340 * o] (List.getElem_mem hj)
    rw [nI_clamp (show i < 2 ^ 31 by omega), hg.1, hg.2, nI_clamp (show E[i - 340 * o] < 2 ^ 31 by omega)]
    refine ⟨vp_in_nI (by omega) (by decide), vp_in_nI (by omega) (by decide), vp_in_nI (by omega) (by decide), nm_e (nm_r (za_a1 i) (hw _ ⟨by omega, fun v hv => ?_, fun v hv => ?_⟩))⟩
    · rw [show i + 1 - 340 * o = (i - 340 * o) + 1 by omega, List.take_succ_eq_append_getElem hj] at hv
      by_cases e : v = E[i - 340 * o]
      · subst e
        rw [pk_us]
      · rw [pk_un e]
        refine g1 v ?_
        rcases List.mem_append.mp hv with q | q
        · exact q
        · exact absurd (by simpa using q) e
    · rw [pk_un (fun e => hv (by rw [e]; exact List.getElem_mem hj))]
      exact g2 v hv
theorem zt_end {post : Int32 → St2 → Prop} {B : Nat → Nat → Int32} (ht : zt 1 a1 a2 a3 a4 a5 B)
    (H : ∀ b4 b5, zt 0 a1 a2 a3 b4 b5 B → post 0 (0, pi, ck, gs, wg, a1, a2, a3, b4, b5, a6, a7, a8, a9, a10, a11, a12, a13)) :
    wpX_end post (1, pi, ck, gs, wg, a1, a2, a3, a4, a5, a6, a7, a8, a9, a10, a11, a12, a13) := by
  obtain ⟨ho, h1, h2⟩ := ht
  have hl := h1 0 (by omega)
  rw [if_neg (by omega)] at hl
  obtain ⟨E, e1, e2, e3, e4, e5, e6⟩ := hl
  have F : wX_end_68 post (nI 0) 1 pi ck gs wg a1 a2 a3 a4 a5 a6 a7 a8 a9 a10 a11 a12 a13 := by
    refine zt_forget rfl (by omega) e1 e2 e3 (fun j v hj => (e4 j v hj).1) e5 (fun b4 b5 k1 k2 k3 k4 => nm_r (e' := 0) (by decide) ?_)
    refine H b4 b5 ⟨by omega, fun l hl => absurd hl (by omega), fun l hl4 hlo => ?_⟩
    by_cases e : l = 0
    · subst e; exact ⟨k2, k1⟩
    · have q := h2 l hl4 (by omega)
      exact ⟨(k4 l e).trans q.1, fun v hv => (k3 _ (by omega)).trans (q.2 v hv)⟩
  refine br_f (by decide) (nm_r (e' := nI 0) (by decide) (nm_e ⟨1, ?_⟩))
  exact ⟨vp_in_nI (by omega) (by decide), br_c (fun _ => F) (fun _ => br_t (by decide) F)⟩
end
end
section
/-! 03: the graph as the looking methods see it -/
/-- the chain list: before and next of each of L on side s; p stands before the first -/
def zl (c : Nat → Int32) (s : Nat) : Int32 → List Nat → Prop
  | _, [] => True
  | p, a :: L => c (100 + 10 * a + 7 + s) = p ∧ c (100 + 10 * a + 5 + s) = za_h L ∧ zl c s (nI a) L
/-- the chain of n on side s -/
def zk (A : List Nat) (e : Nat → Nat → Nat) (s n : Nat) : List Nat := A.filter (fun a => decide (e s a = n))
theorem zk_mem {A : List Nat} {e : Nat → Nat → Nat} {s n a : Nat} : a ∈ zk A e s n ↔ a ∈ A ∧ e s a = n := by
  simp [zk]
theorem zk_nodup {A : List Nat} {e : Nat → Nat → Nat} {s n : Nat} (h : A.Nodup) : (zk A e s n).Nodup := h.sublist (List.filter_sublist)
/-- is of type T -/
def zo (T : Nat) (y : Nat → Nat) (a : Nat) : Prop := T = 4 ∨ y a = T
/-- what the looking methods need -/
def zv (c : Nat → Int32) (A : List Nat) (e : Nat → Nat → Nat) (y w : Nat → Nat) (R : List Nat) : Prop :=
  A.Nodup ∧ (∀ a, a ∈ A → a < 24 ∧ e 0 a ∈ R ∧ e 1 a ∈ R ∧ c (100 + 10 * a + 2) = nI (e 1 a) ∧ c (100 + 10 * a + 3) = nI (y a) ∧ c (100 + 10 * a + 4) = nI (w a) ∧ y a ≤ 3 ∧ w a ≤ 99) ∧
  (∀ s n, s < 2 → n ∈ R → c (16 + 7 * n + 3 + s) = za_h (zk A e s n) ∧ zl c s (-1) (zk A e s n)) ∧
  (∀ n, n ∈ R → n < 12) ∧ (∀ n, n < 12 → (c (16 + 7 * n) = 1 ↔ n ∈ R))
section
variable {oo pi ck gs wg : Int32} {a1 a2 a3 a4 a5 a6 a7 a8 a9 a10 a11 a12 a13 : Nat → Int32}
theorem zr_isNode {post : Int32 → Prop} {n : Nat} (hn : n < 12) (H1 : a1 (16 + 7 * n) = 1 → post 1) (H0 : ¬ a1 (16 + 7 * n) = 1 → post 0) : wpX_isNode post (oo, pi, ck, gs, wg, a1, a2, a3, a4, a5, a6, a7, a8, a9, a10, a11, a12, a13) (nI n) := by
  refine br_f (nI_pos (by omega)) (br_f (nI_ge (b := 12) hn (by decide)) (za_na ?_))
  rw [nI_clamp (by omega)]
  exact ⟨vp_in_nI (by omega) (by decide), br_c H1 H0⟩
theorem zr_isArrow {post : Int32 → Prop} {a : Nat} (ha : a < 24) (H1 : a1 (100 + 10 * a) = 1 → post 1) (H0 : ¬ a1 (100 + 10 * a) = 1 → post 0) : wpX_isArrow post (oo, pi, ck, gs, wg, a1, a2, a3, a4, a5, a6, a7, a8, a9, a10, a11, a12, a13) (nI a) := by
  refine br_f (nI_pos (by omega)) (br_f (nI_ge (b := 24) ha (by decide)) (za_ac ?_))
  rw [nI_clamp (by omega)]
  exact ⟨vp_in_nI (by omega) (by decide), br_c H1 H0⟩
theorem zr_div {u v : Nat} (hu : u < 12) (hv : v < 12) : nI (12 * u + v) / 12 = nI u := by
  have := pk_div (a := 12 * u + v) (d := 12) (by omega) (by decide) (by decide)
  rw [show (12 * u + v) / 12 = u by omega] at this
  exact this
theorem zr_rem {u v : Nat} (hu : u < 12) (hv : v < 12) : nI (12 * u + v) - nI (12 * u + v) / 12 * 12 = nI v := by
  have := pk_rem (a := 12 * u + v) (d := 12) (by omega) (by decide) (by decide)
  rw [show (12 * u + v) % 12 = v by omega] at this
  exact this
theorem zr_areEnds {post : Int32 → Prop} {u v : Nat} (hu : u < 12) (hv : v < 12) (H1 : a1 (16 + 7 * u) = 1 → a1 (16 + 7 * v) = 1 → post 1) (H0 : ¬ (a1 (16 + 7 * u) = 1 ∧ a1 (16 + 7 * v) = 1) → post 0) : wpX_areEnds post (oo, pi, ck, gs, wg, a1, a2, a3, a4, a5, a6, a7, a8, a9, a10, a11, a12, a13) (nI (12 * u + v)) := by
  refine br_f (nI_pos (by omega)) (br_f (nI_ge (b := 144) (by omega) (by decide)) ⟨by decide, ?_⟩)
  rw [zr_rem hu hv, zr_div hu hv]
  exact zr_isNode hu (fun z => br_f (by decide) ⟨by decide, zr_isNode hv (fun z' => br_f (by decide) (H1 z z')) (fun z' => br_t rfl (H0 (fun q => z' q.2)))⟩) (fun z => br_t rfl (H0 (fun q => z q.1)))
theorem zr_isType {post : Int32 → Prop} {T : Nat} (hT : T ≤ 4) (H : post 1) : wpX_isType post () (nI T) :=
  br_f (nI_pos (by omega)) (br_f (nI_nlt (a := 4) (b := T) hT (by decide)) H)
theorem zr_isOf {post : Int32 → Prop} {a T : Nat} {y : Nat → Nat} (ha : a < 24) (hy : a1 (100 + 10 * a + 3) = nI (y a)) (hy3 : y a ≤ 3) (hT : T ≤ 4) (H1 : zo T y a → post 1) (H0 : ¬ zo T y a → post 0) : wpX_isOf post (oo, pi, ck, gs, wg, a1, a2, a3, a4, a5, a6, a7, a8, a9, a10, a11, a12, a13) (nI a) (nI T) := by
  refine pk_eq T 4 (fun q => H1 (Or.inl q)) (fun q => za_ac ?_)
  rw [za_a3, nI_clamp (by omega), hy]
  exact ⟨vp_in_nI (by omega) (by decide), pk_eq (y a) T (fun z => H1 (Or.inr z)) (fun z => H0 (fun t => t.elim q z))⟩
end
end
section
/-! 04: distance -/
/-- queue Q, what is reached -/
def zq (Q : List Nat) (a6 a8 : Nat → Int32) (dv : Nat → Nat) : Prop :=
  Q.Nodup ∧ (∀ v, v ∈ Q → v < 12) ∧ (∀ i v, Q[i]? = some v → a8 i = nI v) ∧ (∀ v, v < 12 → a6 v = if v ∈ Q then nI (dv v) else -1)
theorem zq_add {Q : List Nat} {a6 a8 : Nat → Int32} {dv : Nat → Nat} {v : Nat} (h : zq Q a6 a8 dv) (hv : v < 12) (hq : v ∉ Q) : Q.length < 12 ∧ zq (Q ++ [v]) (upd a6 v (nI (dv v))) (upd a8 Q.length (nI v)) dv := by
  obtain ⟨h1, h2, h3, h4⟩ := h
  have hl : Q.length + 1 ≤ 12 := za_pg (L := v :: Q) (List.nodup_cons.mpr ⟨hq, h1⟩) (fun w hw => by
      rcases List.mem_cons.mp hw with e | e
      · omega
      · exact h2 w e)
  refine ⟨by omega, ?_, ?_, ?_, ?_⟩
  · exact List.nodup_append.mpr ⟨h1, by simp, fun a ha b hb e => by simp at hb; exact hq (by rw [← hb, ← e]; exact ha)⟩
  · intro w hw
    rcases List.mem_append.mp hw with e | e
    · exact h2 w e
    · simp at e; omega
  · intro i w hi
    rcases Nat.lt_or_ge i Q.length with q | q
    · rw [List.getElem?_append_left q] at hi
      rw [pk_un (by omega)]
      exact h3 i w hi
    · have hi' := (List.getElem?_eq_some_iff.mp hi).1
      simp at hi'
      have ei : i = Q.length := by omega
      subst ei
      simp at hi
      rw [pk_us, hi]
  · intro w hw
    by_cases e : w = v
    · subst e
      rw [pk_us, if_pos (by simp)]
    · rw [pk_un e, h4 w hw]
      by_cases q : w ∈ Q
      · rw [if_pos q, if_pos (by simp [q])]
      · rw [if_neg q, if_neg (by simp [q, e])]
section
variable {oo pi ck gs wg : Int32} {a1 a2 a3 a4 a5 a6 a7 a8 a9 a10 a11 a12 a13 : Nat → Int32}
theorem zd_94 {post : Int32 → St2 → Prop} {J : Int32 → Int32 → Int32 → (Nat → Int32) → (Nat → Int32) → (Nat → Int32) → (Nat → Int32) → (Nat → Int32) → (Nat → Int32) → (Nat → Int32) → (Nat → Int32) → (Nat → Int32) → (Nat → Int32) → (Nat → Int32) → (Nat → Int32) → (Nat → Int32) → Prop} {x1 x2 x4 : Int32} {a k : Nat} {L : List Nat} (ha : a < 24) (hn : a1 (100 + 10 * a + 5) = za_h L)
    (H : J x4 (za_h L) (nI (k + 1)) a1 a2 a3 a4 a5 a6 a7 a8 a9 a10 a11 a12 a13) : wX_goOn_94 post J x1 x2 x4 (nI a) (nI k) oo pi ck gs wg a1 a2 a3 a4 a5 a6 a7 a8 a9 a10 a11 a12 a13 := by
  refine za_ac ?_
  rw [za_a5, nI_clamp (by omega), hn]
  exact ⟨vp_in_nI (by omega) (by decide), nm_e (nm_r (za_a1 k) H)⟩
theorem zd_go {post : Int32 → St2 → Prop} {e : Nat → Nat → Nat} {y dv : Nat → Nat} {T u : Nat} (hT : T ≤ 4) (hu : u < 12) :
    ∀ (L Q : List Nat) (k : Nat) (p : Int32) (a6 a8 : Nat → Int32), zl a1 0 p L → (∀ a, a ∈ L → a < 24 ∧ e 1 a < 12 ∧ a1 (100 + 10 * a + 2) = nI (e 1 a) ∧ a1 (100 + 10 * a + 3) = nI (y a) ∧ y a ≤ 3) →
      k + L.length ≤ 24 → zq Q a6 a8 dv → u ∈ Q → (∀ v, v < 12 → dv v < 1000) → (∀ a, a ∈ L → zo T y a → e 1 a ∉ Q → dv (e 1 a) = dv u + 1) →
      (∀ (M : List Nat) (b6 b8 : Nat → Int32), zq (Q ++ M) b6 b8 dv → (∀ v, v ∈ M → ∃ a, a ∈ L ∧ zo T y a ∧ e 1 a = v ∧ v ∉ Q) → (∀ a, a ∈ L → zo T y a → e 1 a ∈ Q ++ M) → post (nI (Q ++ M).length) (oo, pi, ck, gs, wg, a1, a2, a3, a4, a5, b6, a7, b8, a9, a10, a11, a12, a13)) →
      wX_goOn_19 post (nI u) (nI T) oo pi ck gs wg (L.length + 1) (nI Q.length) (za_h L) (nI k) a1 a2 a3 a4 a5 a6 a7 a8 a9 a10 a11 a12 a13
  | [], Q, k, p, a6, a8, hl, hL, hk, hq, huQ, hd, hs, H => by
    have := H [] a6 a8 (by simpa using hq) (by simp) (by simp)
    rw [List.append_nil] at this
    exact br_c (fun _ => this) (fun _ => br_t za_neg this)
  | a :: L, Q, k, p, a6, a8, hl, hL, hk, hq, huQ, hd, hs, H => by
    obtain ⟨l1, l2, l3⟩ := hl
    obtain ⟨g1, g2, g3, g4, g5⟩ := hL a (by simp)
    have hk' : k + (L.length + 1) ≤ 24 := by simpa using hk
    have q := hq
    obtain ⟨q1, q2, q3, q4⟩ := q
    -- skipping an arrow
    have skip : (zo T y a → e 1 a ∈ Q) → wX_goOn_94 post (wX_goOn_19 post (nI u) (nI T) oo pi ck gs wg (L.length + 1)) (nI u) (nI T) (nI Q.length) (nI a) (nI k) oo pi ck gs wg a1 a2 a3 a4 a5 a6 a7 a8 a9 a10 a11 a12 a13 := by
      intro hin
      refine zd_94 g1 l2 ?_
      refine zd_go hT hu L Q (k + 1) (nI a) a6 a8 l3 (fun b hb => hL b (by simp [hb])) (by omega) hq huQ hd (fun b hb => hs b (by simp [hb])) (fun M b6 b8 m1 m2 m3 => H M b6 b8 m1 (fun v hv => ?_) (fun b hb ho => ?_))
      · obtain ⟨b, hb, r⟩ := m2 v hv
        exact ⟨b, by simp [hb], r⟩
      · rcases List.mem_cons.mp hb with z | z
        · subst z
          exact List.mem_append_left _ (hin ho)
        · exact m3 b z ho
    show wX_goOn_19 post (nI u) (nI T) oo pi ck gs wg (L.length + 1 + 1) (nI Q.length) (nI a) (nI k) a1 a2 a3 a4 a5 a6 a7 a8 a9 a10 a11 a12 a13
    refine br_f (nI_ge (b := 24) (by omega) (by decide)) (br_f (nI_pos (by omega)) (za_ac ?_))
    rw [za_a1, za_a1, nI_clamp (show 100 + 10 * a + 1 + 1 < 2 ^ 31 by omega), show 100 + 10 * a + 1 + 1 = 100 + 10 * a + 2 by omega, g3]
    refine ⟨vp_in_nI (by omega) (by decide), nm_e (zr_isOf g1 g4 g5 hT (fun ho => ?_) (fun ho => br_t rfl (skip (fun z => absurd z ho))))⟩
    refine br_f (by decide) ⟨vp_in_nI g2 (by decide), ?_⟩
    rw [nI_clamp (show e 1 a < 2 ^ 31 by omega), q4 _ g2, nI_clamp (show u < 2 ^ 31 by omega), q4 u hu, if_pos huQ]
    by_cases hin : e 1 a ∈ Q
    · rw [if_pos hin]
      have := hd _ g2
      exact br_t (nI_pos' (by omega)) (skip (fun _ => hin))
    · rw [if_neg hin]
      obtain ⟨f1, f2⟩ := zq_add hq g2 hin
      have hv := hs a (by simp) ho hin
      refine br_f za_neg' ⟨vp_in_nI hu (by decide), vp_in_nI g2 (by decide), nm_e ?_⟩
      rw [nI_clamp (show Q.length < 2 ^ 31 by omega), za_a1 (dv u), ← hv]
      refine ⟨vp_in_nI f1 (by decide), nm_e (nm_r (za_a1 _) (zd_94 g1 l2 ?_))⟩
      have hlen : (Q ++ [e 1 a]).length = Q.length + 1 := by simp
      rw [← hlen]
      refine zd_go hT hu L (Q ++ [e 1 a]) (k + 1) (nI a) _ _ l3 (fun b hb => hL b (by simp [hb])) (by omega) f2 (by simp [huQ]) hd (fun b hb h1 h2 => hs b (by simp [hb]) h1 (fun z => h2 (by simp [z]))) (fun M b6 b8 m1 m2 m3 => ?_)
      have hM : Q ++ [e 1 a] ++ M = Q ++ (e 1 a :: M) := by simp
      rw [hM] at m1 m3 ⊢
      refine H (e 1 a :: M) b6 b8 m1 (fun v hv' => ?_) (fun b hb h1 => ?_)
      · rcases List.mem_cons.mp hv' with z | z
        · exact ⟨a, by simp, ho, z.symm, by rw [z]; exact hin⟩
        · obtain ⟨b, hb, r1, r2, r3⟩ := m2 v z
          exact ⟨b, by simp [hb], r1, r2, fun t => r3 (by simp [t])⟩
      · rcases List.mem_cons.mp hb with z | z
        · subst z; simp
        · exact m3 b z h1
/-- dv is the distance from s0, rc says what is reached -/
def zd_ok (A : List Nat) (e : Nat → Nat → Nat) (y : Nat → Nat) (T s0 : Nat) (dv : Nat → Nat) (rc : Nat → Prop) : Prop :=
  rc s0 ∧ dv s0 = 0 ∧ (∀ v, v < 12 → dv v < 1000) ∧ (∀ a, a ∈ A → zo T y a → rc (e 0 a) → rc (e 1 a) ∧ dv (e 1 a) ≤ dv (e 0 a) + 1) ∧
  (∀ v, rc v → v = s0 ∨ ∃ a, a ∈ A ∧ zo T y a ∧ e 1 a = v ∧ rc (e 0 a) ∧ dv v = dv (e 0 a) + 1)
theorem zd_near {A : List Nat} {e : Nat → Nat → Nat} {y : Nat → Nat} {T s0 : Nat} {dv : Nat → Nat} {rc : Nat → Prop} {P S : List Nat} (ok : zd_ok A e y T s0 dv rc) (hs : s0 ∈ P ++ S)
    (hp : ∀ u, u ∈ P → ∀ a, a ∈ A → e 0 a = u → zo T y a → e 1 a ∈ P ++ S) (B : Nat) (hS : ∀ v, v ∈ S → B ≤ dv v) : ∀ d v, rc v → dv v = d → d ≤ B → v ∈ P ++ S := by
  obtain ⟨k1, k2, _, k3, k4⟩ := ok
  intro d
  induction d with
  | zero =>
    intro v hv hd _
    rcases k4 v hv with z | ⟨a, h1, h2, h3, h4, h5⟩
    · rw [z]; exact hs
    · omega
  | succ d ih =>
    intro v hv hd hB
    rcases k4 v hv with z | ⟨a, h1, h2, h3, h4, h5⟩
    · rw [z]; exact hs
    · have q := ih (e 0 a) h4 (by omega) (by omega)
      rcases List.mem_append.mp q with z | z
      · rw [← h3]; exact hp _ z a h1 rfl h2
      · have := hS _ z
        omega
theorem zd_63 {post : Int32 → St2 → Prop} {A R : List Nat} {e : Nat → Nat → Nat} {y w dv : Nat → Nat} {rc : Nat → Prop} {T s0 v0 : Nat} {r x1 : Int32} (hT : T ≤ 4) (hv : zv a1 A e y w R) (ok : zd_ok A e y T s0 dv rc) (hv0 : v0 < 12) (hx : x1 - x1 / 12 * 12 = nI v0)
    (hr : (rc v0 ∧ r = nI (dv v0)) ∨ (¬ rc v0 ∧ r = -2)) (H : ∀ b6 b8, post r (oo, pi, ck, gs, wg, a1, a2, a3, a4, a5, b6, a7, b8, a9, a10, a11, a12, a13)) :
    ∀ (m : Nat) (P S : List Nat) (a6 a8 : Nat → Int32), 12 < m + P.length → zq (P ++ S) a6 a8 dv → s0 ∈ P ++ S → (∀ v, v ∈ P ++ S → v ∈ R ∧ rc v) → (P ++ S).Pairwise (fun a b => dv a ≤ dv b) →
      (∀ u, u ∈ P → ∀ a, a ∈ A → e 0 a = u → zo T y a → e 1 a ∈ P ++ S) → (∀ u S', S = u :: S' → ∀ v, v ∈ P ++ S → dv v ≤ dv u + 1) →
      wX_distance_63 post x1 (nI T) m (nI (P ++ S).length) (nI P.length) oo pi ck gs wg a1 a2 a3 a4 a5 a6 a7 a8 a9 a10 a11 a12 a13
  | 0, P, S, a6, a8, hm, hq, _, _, _, _, _ => by
    have := za_pg hq.1 hq.2.1
    simp at this
    omega
  | m + 1, P, [], a6, a8, hm, hq, hs, hR, hsort, hp, hS => by
    have hlen := za_pg hq.1 hq.2.1
    refine br_t ?_ ⟨by decide, ?_⟩
    · rw [List.append_nil] at hlen ⊢
      exact nI_le (Nat.le_refl _) (by omega)
    rw [hx, nI_clamp (show v0 < 2 ^ 31 by omega), hq.2.2.2 v0 hv0]
    refine ⟨vp_in_nI hv0 (by decide), nm_e ?_⟩
    rcases hr with ⟨h1, h2⟩ | ⟨h1, h2⟩
    · have hin := zd_near ok hs hp (dv v0) (fun v hv => absurd hv (by simp)) (dv v0) v0 h1 rfl (Nat.le_refl _)
      rw [if_pos hin, ← h2]
      have := ok.2.2.1 v0 hv0
      exact br_t (by rw [h2]; exact nI_pos' (by omega)) (H a6 a8)
    · rw [if_neg (fun z => h1 (hR v0 z).2)]
      have := H a6 a8
      rw [h2] at this
      exact br_f za_neg' this
  | m + 1, P, u :: S, a6, a8, hm, hq, hs, hR, hsort, hp, hS => by
    have hlen := za_pg hq.1 hq.2.1
    obtain ⟨v1, v2, v3, v4, v5⟩ := hv
    have huM : u ∈ P ++ u :: S := by simp
    have huR := hR u huM
    have hu12 := v4 u huR.1
    have hlen2 : (P ++ u :: S).length = P.length + S.length + 1 := by simp; omega
    have hq8 : a8 P.length = nI u := hq.2.2.1 P.length u (by simp)
    refine br_f (nI_ge (by omega) (by omega)) ?_
    rw [nI_clamp (show P.length < 2 ^ 31 by omega), hq8]
    refine ⟨vp_in_nI (by omega) (by decide), ?_⟩
    obtain ⟨c1, c2⟩ := v3 0 u (by decide) huR.1
    have hLl : (zk A e 0 u).length ≤ 24 := za_pg (zk_nodup v1) (fun x hx => (v2 x (zk_mem.mp hx).1).1)
    have sorted := List.pairwise_append.mp hsort
    have hnew : ∀ a, a ∈ zk A e 0 u → zo T y a → e 1 a ∉ P ++ u :: S → dv (e 1 a) = dv u + 1 := by
      intro a ha ho hni
      obtain ⟨ha1, ha2⟩ := zk_mem.mp ha
      have k3 := ok.2.2.2.1 a ha1 ho (by rw [ha2]; exact huR.2)
      rw [ha2] at k3
      rcases Nat.lt_or_ge (dv u) (dv (e 1 a)) with z | z
      · omega
      · refine absurd (zd_near ok hs hp (dv u) (fun v hv => ?_) (dv (e 1 a)) (e 1 a) k3.1 rfl z) hni
        rcases List.mem_cons.mp hv with q | q
        · rw [q]; exact Nat.le_refl _
        · exact (List.pairwise_cons.mp sorted.2.1).1 v q
    unfold wpX_goOn
    dsimp only
    refine za_na ?_
    rw [za_a3, nI_clamp (show 16 + 7 * u + 3 < 2 ^ 31 by omega), show a1 (16 + 7 * u + 3) = za_h (zk A e 0 u) from c1]
    refine ⟨vp_in_nI (by omega) (by decide), nm_e ⟨(zk A e 0 u).length + 1, ?_⟩⟩
    refine zd_go hT hu12 (zk A e 0 u) (P ++ u :: S) 0 (-1) a6 a8 c2 (fun a ha => ?_) (by omega) hq huM ok.2.2.1 hnew (fun M b6 b8 m1 m2 m3 => ?_)
    · obtain ⟨g1, g2, g3, g4, g5, g6, g7, g8⟩ := v2 a (zk_mem.mp ha).1
      exact ⟨g1, v4 _ g3, g4, g5, g7⟩
    · refine nm_r (za_a1 _) ?_
      have hassoc : P ++ u :: S ++ M = (P ++ [u]) ++ (S ++ M) := by simp
      have hPl : P.length + 1 = (P ++ [u]).length := by simp
      rw [hassoc] at m1 m3 ⊢
      rw [hPl]
      have hM : ∀ v, v ∈ M → dv v = dv u + 1 ∧ v ∈ R ∧ rc v := by
        intro v hv
        obtain ⟨a, a1, a2, a3, a4⟩ := m2 v hv
        obtain ⟨ha1, ha2⟩ := zk_mem.mp a1
        rw [← a3] at a4 ⊢
        exact ⟨hnew a a1 a2 a4, (v2 a ha1).2.2.1, (ok.2.2.2.1 a ha1 a2 (by rw [ha2]; exact huR.2)).1⟩
      have hold : ∀ v, v ∈ P ++ [u] ++ (S ++ M) ↔ v ∈ P ++ u :: S ∨ v ∈ M := by
        intro v; simp [or_assoc]
      refine zd_63 hT ⟨v1, v2, v3, v4, v5⟩ ok hv0 hx hr H m (P ++ [u]) (S ++ M) b6 b8 (by simp; omega) m1 ((hold s0).mpr (Or.inl hs)) (fun v hv => ?_) ?_ (fun x hx a ha hax ho => ?_) (fun u' S' hS' v hv => ?_)
      · rcases (hold v).mp hv with z | z
        · exact hR v z
        · exact (hM v z).2
      · rw [← hassoc]
        refine List.pairwise_append.mpr ⟨hsort, ?_, fun a ha b hb => ?_⟩
        · refine List.Pairwise.imp_of_mem (R := fun _ _ => True) (fun {a b} ha hb _ => ?_) (List.pairwise_of_forall (fun _ _ => trivial))
          rw [(hM a ha).1, (hM b hb).1]; exact Nat.le_refl _
        · rw [(hM b hb).1]
          exact hS u S rfl a ha
      · rcases List.mem_append.mp hx with z | z
        · exact (hold _).mpr (Or.inl (hp x z a ha hax ho))
        · have : x = u := by simpa using z
          subst this
          exact m3 a (zk_mem.mpr ⟨ha, hax⟩) ho
      · have hu' : dv u ≤ dv u' := by
          have hmem : u' ∈ S ++ M := by rw [hS']; simp
          rcases List.mem_append.mp hmem with z | z
          · exact (List.pairwise_cons.mp sorted.2.1).1 u' z
          · rw [(hM u' z).1]; omega
        rcases (hold v).mp hv with z | z
        · have := hS u S rfl v z; omega
        · rw [(hM v z).1]; omega
theorem zd_19 {post : Int32 → St2 → Prop} {s0 : Nat} {dv : Nat → Nat} {x1 x2 : Int32} (hs : s0 < 12) (hd : dv s0 = 0) (hx : x1 / 12 = nI s0) (H : ∀ b6 b8, zq [s0] b6 b8 dv → ∃ fu, wX_distance_63 post x1 x2 fu 1 0 oo pi ck gs wg a1 a2 a3 a4 a5 b6 a7 b8 a9 a10 a11 a12 a13) :
    ∃ fu, wX_distance_19 post x1 x2 oo pi ck gs wg fu 0 a1 a2 a3 a4 a5 a6 a7 a8 a9 a10 a11 a12 a13 := by
  refine pk_loop (fun n i s => wX_distance_19 post x1 x2 oo pi ck gs wg n (nI i) a1 a2 a3 a4 a5 s a7 a8 a9 a10 a11 a12 a13) (fun i s => ∀ v, v < i → s v = -1) 12 0 a6 (by omega) (fun v hv => absurd hv (by omega)) ?_ ?_
  · intro n s hI
    refine br_t (nI_le (Nat.le_refl _) (by decide)) ⟨by decide, ?_⟩
    rw [hx, nI_clamp (show s0 < 2 ^ 31 by omega)]
    refine ⟨vp_in_nI hs (by decide), nm_e ⟨by decide, nm_e (H _ _ ⟨by simp, by simpa using hs, fun i v hi => ?_, fun v hv => ?_⟩)⟩⟩
    · have hi' := (List.getElem?_eq_some_iff.mp hi).1
      simp at hi'
      subst hi'
      simp at hi
      rw [pk_us, hi]
    · by_cases e : v = s0
      · subst e
        rw [pk_us, if_pos (by simp), hd]; rfl
      · rw [pk_un e, if_neg (by simpa using e)]
        exact hI v hv
  · intro n i s hi hI hw
    refine br_f (nI_ge hi (by decide)) ⟨vp_in_nI hi (by decide), nm_e (nm_r (za_a1 i) (hw _ ?_))⟩
    rw [nI_clamp (show i < 2 ^ 31 by omega)]
    intro v hv
    by_cases e : v = i
    · subst e; rw [pk_us]
    · rw [pk_un e]; exact hI v (by omega)
theorem zd_distance {post : Int32 → St2 → Prop} {A R : List Nat} {e : Nat → Nat → Nat} {y w dv : Nat → Nat} {rc : Nat → Prop} {T u v : Nat} {r : Int32} (hT : T ≤ 4) (hz : zv a1 A e y w R) (hu : u ∈ R) (hv : v ∈ R) (ok : zd_ok A e y T u dv rc)
    (hr : (rc v ∧ r = nI (dv v)) ∨ (¬ rc v ∧ r = -2)) (H : ∀ b6 b8, post r (oo, pi, ck, gs, wg, a1, a2, a3, a4, a5, b6, a7, b8, a9, a10, a11, a12, a13)) : wpX_distance post (oo, pi, ck, gs, wg, a1, a2, a3, a4, a5, a6, a7, a8, a9, a10, a11, a12, a13) (nI (12 * u + v)) (nI T) := by
  obtain ⟨v1, v2, v3, v4, v5⟩ := hz
  have hu' := v4 u hu
  have hv' := v4 v hv
  unfold wpX_distance
  dsimp only
  refine zr_areEnds hu' hv' (fun _ _ => br_f (by decide) (zr_isType hT (br_f (by decide) ?_))) (fun z => absurd ⟨(v5 u hu').mpr hu, (v5 v hv').mpr hv⟩ z)
  refine zd_19 (dv := dv) hu' ok.2.1 (zr_div hu' hv') (fun b6 b8 hq => ⟨13, ?_⟩)
  refine zd_63 hT ⟨v1, v2, v3, v4, v5⟩ ok hv' (zr_rem hu' hv') hr H 13 [] [u] b6 b8 (by simp) hq (by simp) (fun x hx => ?_) (by simp) (by simp) (fun x S' hS x' hx' => ?_)
  · have : x = u := by simpa using hx
    subst this
    exact ⟨hu, ok.1⟩
  · have e1 : x = u := by have := congrArg List.head? hS; simpa using this.symm
    have e2 : x' = u := by simpa using hx'
    rw [e1, e2]; omega
theorem zd_bad {post : Int32 → St2 → Prop} {A R : List Nat} {e : Nat → Nat → Nat} {y w : Nat → Nat} {T u v : Nat} (hz : zv a1 A e y w R) (hu : u < 12) (hv : v < 12) (hR : v ∉ R) (H : post (-1) (oo, pi, ck, gs, wg, a1, a2, a3, a4, a5, a6, a7, a8, a9, a10, a11, a12, a13)) : wpX_distance post (oo, pi, ck, gs, wg, a1, a2, a3, a4, a5, a6, a7, a8, a9, a10, a11, a12, a13) (nI (12 * u + v)) (nI T) := by
  unfold wpX_distance
  dsimp only
  exact zr_areEnds hu hv (fun _ z => absurd ((hz.2.2.2.2 v hv).mp z) hR) (fun _ => br_t rfl H)
end
end
section
/-! 05: cheapest -/
def za_o : Option Nat → Int32
  | none => -1
  | some x => nI x
section
variable {oo pi ck gs wg : Int32} {a1 a2 a3 a4 a5 a6 a7 a8 a9 a10 a11 a12 a13 : Nat → Int32}
theorem zj_near {post : Int32 → Prop} {D : List Nat} {r : Nat → Option Nat} (h7 : ∀ v, v < 12 → a7 v = if v ∈ D then 1 else 0) (h6 : ∀ v, v < 12 → a6 v = za_o (r v)) (hb : ∀ v x, r v = some x → x < 10000)
    (Hn : (∀ v, v < 12 → v ∉ D → r v = none) → post (-1)) (Hs : ∀ b x, b < 12 → b ∉ D → r b = some x → (∀ v x', v < 12 → v ∉ D → r v = some x' → x ≤ x') → post (nI b)) : wpX_nearest post (oo, pi, ck, gs, wg, a1, a2, a3, a4, a5, a6, a7, a8, a9, a10, a11, a12, a13) := by
  refine pk_loop (fun n i s => wX_nearest_4 post oo pi ck gs wg a1 a2 a3 a4 a5 a6 a7 a8 a9 a10 a11 a12 a13 n s (nI i)) (fun i s => (s = -1 ∧ ∀ v, v < i → v ∉ D → r v = none) ∨ (∃ b x, s = nI b ∧ b < i ∧ b ∉ D ∧ r b = some x ∧ ∀ v x', v < i → v ∉ D → r v = some x' → x ≤ x')) 12 0 (-1) (by omega) (Or.inl ⟨rfl, fun v hv => absurd hv (by omega)⟩) ?_ ?_
  · intro n s hI
    refine br_t (nI_le (Nat.le_refl _) (by decide)) ?_
    rcases hI with ⟨e, h⟩ | ⟨b, x, e, h1, h2, h3, h4⟩
    · rw [e]; exact Hn h
    · rw [e]; exact Hs b x h1 h2 h3 h4
  · intro n i s hi hI hw
    refine br_f (nI_ge hi (by decide)) ?_
    rw [nI_clamp (show i < 2 ^ 31 by omega), h7 i hi, h6 i hi]
    refine ⟨vp_in_nI hi (by decide), ?_⟩
    -- the same best as before
    have same : (i ∈ D ∨ r i = none) → ∀ x2, x2 = nI i + 1 → wX_nearest_4 post oo pi ck gs wg a1 a2 a3 a4 a5 a6 a7 a8 a9 a10 a11 a12 a13 n s x2 := by
      intro hc
      refine nm_r (za_a1 i) (hw s ?_)
      rcases hI with ⟨e, h⟩ | ⟨b, x, e, h1, h2, h3, h4⟩
      · refine Or.inl ⟨e, fun v hv hd => ?_⟩
        by_cases q : v = i
        · subst q
          exact hc.elim (fun z => absurd z hd) id
        · exact h v (by omega) hd
      · refine Or.inr ⟨b, x, e, by omega, h2, h3, fun v x' hv hd hr => ?_⟩
        by_cases q : v = i
        · subst q
          exact hc.elim (fun z => absurd z hd) (fun z => by rw [z] at hr; exact absurd hr (by simp))
        · exact h4 v x' (by omega) hd hr
    by_cases hD : i ∈ D
    · rw [if_pos hD]
      exact br_f (by decide) (same (Or.inl hD))
    · rw [if_neg hD]
      refine br_t rfl ⟨vp_in_nI hi (by decide), ?_⟩
      cases hr : r i with
      | none => exact br_t za_neg (same (Or.inr hr))
      | some x =>
        have hx := hb i x hr
        refine br_f (nI_pos (by omega)) ?_
        rcases hI with ⟨e, h⟩ | ⟨b, x0, e, h1, h2, h3, h4⟩
        · rw [e]
          refine br_t za_neg (nm_r (za_a1 i) (hw (nI i) (Or.inr ⟨i, x, rfl, by omega, hD, hr, fun v x' hv hd hr' => ?_⟩)))
          by_cases q : v = i
          · subst q
            rw [hr] at hr'
            injection hr' with z
            omega
          · rw [h v (by omega) hd] at hr'
            exact absurd hr' (by simp)
        · have hx0 := hb b x0 h3
          rw [e]
          refine br_f (nI_pos (by omega)) ⟨vp_in_nI hi (by decide), vp_in_nI (by omega) (by decide), ?_⟩
          rw [nI_clamp (show b < 2 ^ 31 by omega), h6 b (by omega), h3]
          refine pk_le x0 x (fun z => ?_) (fun z => ?_)
          · refine nm_r (za_a1 i) (hw (nI b) (Or.inr ⟨b, x0, rfl, by omega, h2, h3, fun v x' hv hd hr' => ?_⟩))
            by_cases q : v = i
            · subst q
              rw [hr] at hr'
              injection hr' with z'
              omega
            · exact h4 v x' (by omega) hd hr'
          · refine nm_r (za_a1 i) (hw (nI i) (Or.inr ⟨i, x, rfl, by omega, hD, hr, fun v x' hv hd hr' => ?_⟩))
            by_cases q : v = i
            · subst q
              rw [hr] at hr'
              injection hr' with z'
              omega
            · have := h4 v x' (by omega) hd hr'
              omega
theorem zj_101 {post : St2 → Prop} {J : Int32 → Int32 → (Nat → Int32) → (Nat → Int32) → (Nat → Int32) → (Nat → Int32) → (Nat → Int32) → (Nat → Int32) → (Nat → Int32) → (Nat → Int32) → (Nat → Int32) → (Nat → Int32) → (Nat → Int32) → (Nat → Int32) → (Nat → Int32) → Prop} {x1 x2 : Int32} {a k : Nat} {L : List Nat} (ha : a < 24) (hn : a1 (100 + 10 * a + 5) = za_h L)
    (H : J (za_h L) (nI (k + 1)) a1 a2 a3 a4 a5 a6 a7 a8 a9 a10 a11 a12 a13) : wX_relax_101 post J x1 x2 (nI a) (nI k) oo pi ck gs wg a1 a2 a3 a4 a5 a6 a7 a8 a9 a10 a11 a12 a13 := by
  refine za_ac ?_
  rw [za_a5, nI_clamp (by omega), hn]
  exact ⟨vp_in_nI (by omega) (by decide), nm_e (nm_r (za_a1 k) H)⟩
theorem zj_rx {post : St2 → Prop} {e : Nat → Nat → Nat} {y w : Nat → Nat} {T u du : Nat} (hT : T ≤ 4) (hu : u < 12) (hdu : du < 1000) :
    ∀ (L : List Nat) (r : Nat → Option Nat) (k : Nat) (p : Int32) (a6 : Nat → Int32), zl a1 0 p L → (∀ a, a ∈ L → a < 24 ∧ e 1 a < 12 ∧ a1 (100 + 10 * a + 2) = nI (e 1 a) ∧ a1 (100 + 10 * a + 3) = nI (y a) ∧ a1 (100 + 10 * a + 4) = nI (w a) ∧ y a ≤ 3 ∧ w a ≤ 99) →
      k + L.length ≤ 24 → (∀ v, v < 12 → a6 v = za_o (r v)) → r u = some du → (∀ v x, r v = some x → x < 10000) →
      (∀ (r' : Nat → Option Nat) (b6 : Nat → Int32), (∀ v, v < 12 → b6 v = za_o (r' v)) → (∀ z x, r z = some x → ∃ x', r' z = some x' ∧ x' ≤ x) →
        (∀ z x', r' z = some x' → r z = some x' ∨ ∃ a, a ∈ L ∧ zo T y a ∧ e 1 a = z ∧ x' = du + w a) → (∀ a, a ∈ L → zo T y a → ∃ x, r' (e 1 a) = some x ∧ x ≤ du + w a) → post (oo, pi, ck, gs, wg, a1, a2, a3, a4, a5, b6, a7, a8, a9, a10, a11, a12, a13)) →
      wX_relax_15 post (nI u) (nI T) oo pi ck gs wg (L.length + 1) (za_h L) (nI k) a1 a2 a3 a4 a5 a6 a7 a8 a9 a10 a11 a12 a13
  | [], r, k, p, a6, hl, hL, hk, h6, hru, hb, H => by
    have := H r a6 h6 (fun z x h => ⟨x, h, Nat.le_refl _⟩) (fun z x h => Or.inl h) (by simp)
    exact br_c (fun _ => this) (fun _ => br_t za_neg this)
  | a :: L, r, k, p, a6, hl, hL, hk, h6, hru, hb, H => by
    obtain ⟨l1, l2, l3⟩ := hl
    obtain ⟨g1, g2, g3, g4, g5, g6, g7⟩ := hL a (by simp)
    have hk' : k + (L.length + 1) ≤ 24 := by simpa using hk
    -- skipping an arrow
    have skip : (zo T y a → ∃ x, r (e 1 a) = some x ∧ x ≤ du + w a) → wX_relax_101 post (wX_relax_15 post (nI u) (nI T) oo pi ck gs wg (L.length + 1)) (nI u) (nI T) (nI a) (nI k) oo pi ck gs wg a1 a2 a3 a4 a5 a6 a7 a8 a9 a10 a11 a12 a13 := by
      intro hin
      refine zj_101 g1 l2 ?_
      refine zj_rx hT hu hdu L r (k + 1) (nI a) a6 l3 (fun b hb => hL b (by simp [hb])) (by omega) h6 hru hb (fun r' b6 m0 m1 m2 m3 => H r' b6 m0 m1 (fun z x' hz => ?_) (fun b hb ho => ?_))
      · rcases m2 z x' hz with q | ⟨b, q1, q2⟩
        · exact Or.inl q
        · exact Or.inr ⟨b, by simp [q1], q2⟩
      · rcases List.mem_cons.mp hb with z | z
        · subst z
          obtain ⟨x, x1, x2⟩ := hin ho
          obtain ⟨x', x3, x4⟩ := m1 _ x x1
          exact ⟨x', x3, by omega⟩
        · exact m3 b z ho
    show wX_relax_15 post (nI u) (nI T) oo pi ck gs wg (L.length + 1 + 1) (nI a) (nI k) a1 a2 a3 a4 a5 a6 a7 a8 a9 a10 a11 a12 a13
    refine br_f (nI_ge (b := 24) (by omega) (by decide)) (br_f (nI_pos (by omega)) (za_ac ?_))
    rw [za_a1, za_a1, nI_clamp (show 100 + 10 * a + 1 + 1 < 2 ^ 31 by omega), show 100 + 10 * a + 1 + 1 = 100 + 10 * a + 2 by omega, g3]
    refine ⟨vp_in_nI (by omega) (by decide), nm_e ⟨vp_in_nI hu (by decide), za_ac ?_⟩⟩
    rw [za_a4, nI_clamp (show 100 + 10 * a + 4 < 2 ^ 31 by omega), g5, nI_clamp (show u < 2 ^ 31 by omega), h6 u hu, hru]
    refine ⟨vp_in_nI (by omega) (by decide), nm_r (e' := nI (du + w a)) (nI_add du (w a)) (zr_isOf g1 g4 g6 hT (fun ho => ?_) (fun ho => br_t rfl (skip (fun z => absurd z ho))))⟩
    refine br_f (by decide) ⟨vp_in_nI g2 (by decide), ?_⟩
    -- storing
    have store : (∀ x, r (e 1 a) = some x → du + w a < x) → wX_relax_92 post (wX_relax_15 post (nI u) (nI T) oo pi ck gs wg (L.length + 1)) (nI u) (nI T) (nI a) (nI k) (nI (e 1 a)) (nI (du + w a)) oo pi ck gs wg a1 a2 a3 a4 a5 a6 a7 a8 a9 a10 a11 a12 a13 := by
      intro hlt
      refine ⟨vp_in_nI g2 (by decide), nm_e (zj_101 g1 l2 ?_)⟩
      rw [nI_clamp (show e 1 a < 2 ^ 31 by omega)]
      have hne : u ≠ e 1 a := fun z => by
        have := hlt du (by rw [← z]; exact hru)
        omega
      refine zj_rx hT hu hdu L (fun z => if z = e 1 a then some (du + w a) else r z) (k + 1) (nI a) _ l3 (fun b hb => hL b (by simp [hb])) (by omega) (fun v hv => ?_) (by rw [if_neg hne]; exact hru) (fun v x hx => ?_) (fun r' b6 m0 m1 m2 m3 => H r' b6 m0 (fun z x hz => ?_) (fun z x' hz => ?_) (fun b hb ho' => ?_))
      · by_cases q : v = e 1 a
        · subst q; rw [pk_us, if_pos rfl]; rfl
        · rw [pk_un q, if_neg q]; exact h6 v hv
      · by_cases q : v = e 1 a
        · rw [if_pos q] at hx
          injection hx with hx
          omega
        · rw [if_neg q] at hx
          exact hb v x hx
      · by_cases q : z = e 1 a
        · obtain ⟨x', q1, q2⟩ := m1 z (du + w a) (if_pos q)
          have := hlt x (q ▸ hz)
          exact ⟨x', q1, by omega⟩
        · exact m1 z x (by rw [if_neg q]; exact hz)
      · rcases m2 z x' hz with q | ⟨b, q1, q2⟩
        · by_cases q' : z = e 1 a
          · rw [if_pos q'] at q
            injection q with q
            exact Or.inr ⟨a, by simp, ho, q'.symm, q.symm⟩
          · rw [if_neg q'] at q
            exact Or.inl q
        · exact Or.inr ⟨b, by simp [q1], q2⟩
      · rcases List.mem_cons.mp hb with z | z
        · subst z
          obtain ⟨x', q1, q2⟩ := m1 (e 1 b) (du + w b) (if_pos rfl)
          exact ⟨x', q1, q2⟩
        · exact m3 b z ho'
    rw [nI_clamp (show e 1 a < 2 ^ 31 by omega), h6 _ g2]
    cases hr : r (e 1 a) with
    | none => exact br_t za_neg (store (fun x hx => by rw [hr] at hx; exact absurd hx (by simp)))
    | some x =>
      have hx := hb _ x hr
      refine br_f (nI_pos (by omega)) ⟨vp_in_nI g2 (by decide), ?_⟩
      refine pk_le x (du + w a) (fun z => skip (fun _ => ⟨x, hr, z⟩)) (fun z => store (fun x' hx' => ?_))
      rw [hr] at hx'
      injection hx' with hx'
      omega
/-- dv is the least weight from s0, rc says what is reached, rk a rank along the arrows that say so -/
def zj_ok (A : List Nat) (e : Nat → Nat → Nat) (y w : Nat → Nat) (T s0 : Nat) (dv : Nat → Nat) (rc : Nat → Prop) (rk : Nat → Nat) : Prop :=
  rc s0 ∧ dv s0 = 0 ∧ (∀ v, dv v < 1000) ∧ (∀ a, a ∈ A → zo T y a → rc (e 0 a) → rc (e 1 a) ∧ dv (e 1 a) ≤ dv (e 0 a) + w a) ∧
  (∀ v, rc v → v = s0 ∨ ∃ a, a ∈ A ∧ zo T y a ∧ e 1 a = v ∧ rc (e 0 a) ∧ dv v = dv (e 0 a) + w a ∧ rk (e 0 a) < rk v)
def zj_inv (A : List Nat) (e : Nat → Nat → Nat) (y w : Nat → Nat) (T s0 : Nat) (dv : Nat → Nat) (rc : Nat → Prop) (R D : List Nat) (r : Nat → Option Nat) : Prop :=
  D.Nodup ∧ (∀ v, v ∈ D → v ∈ R) ∧ (∀ v x, r v = some x → v ∈ R ∧ rc v ∧ dv v ≤ x ∧ x ≤ 1099) ∧ (∀ v, v ∈ D → r v = some (dv v)) ∧
  (∀ v, v ∈ D → ∀ a, a ∈ A → e 0 a = v → zo T y a → ∃ x, r (e 1 a) = some x ∧ x ≤ dv v + w a) ∧ r s0 = some 0
theorem zj_cand {A R D : List Nat} {e : Nat → Nat → Nat} {y w : Nat → Nat} {T s0 : Nat} {dv rk : Nat → Nat} {rc : Nat → Prop} {r : Nat → Option Nat} (ok : zj_ok A e y w T s0 dv rc rk) (hi : zj_inv A e y w T s0 dv rc R D r) :
    ∀ m v, rk v < m → rc v → v ∉ D → ∃ v' x, v' ∉ D ∧ r v' = some x ∧ x ≤ dv v := by
  intro m
  induction m with
  | zero => intro v h; exact absurd h (by omega)
  | succ m ih =>
    intro v hm hrc hD
    obtain ⟨k1, k2, k3, k4, k5⟩ := ok
    obtain ⟨i1, i2, i3, i4, i5, i6⟩ := hi
    rcases k5 v hrc with z | ⟨a, h1, h2, h3, h4, h5, h6⟩
    · subst z
      exact ⟨v, 0, hD, i6, by omega⟩
    · by_cases q : e 0 a ∈ D
      · obtain ⟨x, x1, x2⟩ := i5 _ q a h1 rfl h2
        exact ⟨v, x, hD, h3 ▸ x1, by omega⟩
      · obtain ⟨v', x, x1, x2, x3⟩ := ih (e 0 a) (by omega) h4 q
        exact ⟨v', x, x1, x2, by omega⟩
theorem zj_65 {post : Int32 → St2 → Prop} {A R : List Nat} {e : Nat → Nat → Nat} {y w dv rk : Nat → Nat} {rc : Nat → Prop} {T s0 v0 : Nat} {res x1 : Int32} (hT : T ≤ 4) (hv : zv a1 A e y w R) (ok : zj_ok A e y w T s0 dv rc rk) (hv0 : v0 < 12) (hx : x1 - x1 / 12 * 12 = nI v0)
    (hr : (rc v0 ∧ res = nI (dv v0)) ∨ (¬ rc v0 ∧ res = -2)) (H : ∀ b6 b7, post res (oo, pi, ck, gs, wg, a1, a2, a3, a4, a5, b6, b7, a8, a9, a10, a11, a12, a13)) :
    ∀ (m : Nat) (D : List Nat) (r : Nat → Option Nat) (x3 : Int32) (a6 a7 : Nat → Int32), 12 < m + D.length → zj_inv A e y w T s0 dv rc R D r → (∀ v, v < 12 → a7 v = if v ∈ D then 1 else 0) → (∀ v, v < 12 → a6 v = za_o (r v)) →
      ((x3 = -1 ∧ ∀ v, v < 12 → v ∉ D → r v = none) ∨ (∃ b x, x3 = nI b ∧ b < 12 ∧ b ∉ D ∧ r b = some x ∧ ∀ v x', v < 12 → v ∉ D → r v = some x' → x ≤ x')) →
      wX_cheapest_65 post x1 (nI T) m x3 (nI D.length) oo pi ck gs wg a1 a2 a3 a4 a5 a6 a7 a8 a9 a10 a11 a12 a13 := by
  obtain ⟨v1, v2, v3, v4, v5⟩ := hv
  intro m
  induction m with
  | zero =>
    intro D r x3 a6 a7 hm hi
    have := za_pg hi.1 (fun v hv => v4 v (hi.2.1 v hv))
    omega
  | succ m ih =>
    intro D r x3 a6 a7 hm hi h7 h6 hn
    have hlen := za_pg hi.1 (fun v hv => v4 v (hi.2.1 v hv))
    have fin : (∀ v, v < 12 → v ∉ D → r v = none) → wX_cheapest_100 post x1 oo pi ck gs wg a1 a2 a3 a4 a5 a6 a7 a8 a9 a10 a11 a12 a13 := by
      intro hno
      refine ⟨by decide, ?_⟩
      rw [hx, nI_clamp (show v0 < 2 ^ 31 by omega), h6 v0 hv0]
      refine ⟨vp_in_nI hv0 (by decide), nm_e ?_⟩
      rcases hr with ⟨r1, r2⟩ | ⟨r1, r2⟩
      · have hD : v0 ∈ D := by
          apply Classical.byContradiction
          intro q
          obtain ⟨v', x, q1, q2, q3⟩ := zj_cand ok hi (rk v0 + 1) v0 (by omega) r1 q
          have := hno v' (v4 v' (hi.2.2.1 v' x q2).1) q1
          rw [this] at q2
          exact absurd q2 (by simp)
        rw [hi.2.2.2.1 v0 hD]
        have := ok.2.2.1 v0
        have HH := H a6 a7
        rw [r2] at HH
        exact br_t (nI_pos' (by omega)) HH
      · have hnone : r v0 = none := by
          cases q : r v0 with
          | none => rfl
          | some x => exact absurd (hi.2.2.1 v0 x q).2.1 r1
        rw [hnone]
        have HH := H a6 a7
        rw [r2] at HH
        exact br_f za_neg' HH
    rcases Nat.lt_or_ge D.length 12 with hD | hD
    · refine br_f (nI_ge hD (by decide)) ?_
      rcases hn with ⟨n1, n2⟩ | ⟨b, x, n1, n2, n3, n4, n5⟩
      · rw [n1]
        exact br_t za_neg (fin n2)
      · rw [n1]
        refine br_f (nI_pos (by omega)) ⟨vp_in_nI n2 (by decide), nm_e ?_⟩
        rw [nI_clamp (show b < 2 ^ 31 by omega)]
        obtain ⟨i1, i2, i3, i4, i5, i6⟩ := hi
        obtain ⟨k1, k2, k3, k4, k5⟩ := ok
        obtain ⟨bR, brc, bd, bx⟩ := i3 b x n4
        have hxb : x = dv b := by
          obtain ⟨v', x', q1, q2, q3⟩ := zj_cand ⟨k1, k2, k3, k4, k5⟩ ⟨i1, i2, i3, i4, i5, i6⟩ (rk b + 1) b (by omega) brc n3
          have := n5 v' x' (v4 v' (i3 v' x' q2).1) q1 q2
          omega
        subst hxb
        have hdb := k3 b
        obtain ⟨c1, c2⟩ := v3 0 b (by decide) bR
        have hLl : (zk A e 0 b).length ≤ 24 := za_pg (zk_nodup v1) (fun x hx => (v2 x (zk_mem.mp hx).1).1)
        unfold wpX_relax
        dsimp only
        refine za_na ?_
        rw [za_a3, nI_clamp (show 16 + 7 * b + 3 < 2 ^ 31 by omega), show a1 (16 + 7 * b + 3) = za_h (zk A e 0 b) from c1]
        refine ⟨vp_in_nI (by omega) (by decide), nm_e ⟨(zk A e 0 b).length + 1, ?_⟩⟩
        refine zj_rx (e := e) (y := y) (w := w) hT n2 hdb (zk A e 0 b) r 0 (-1) a6 c2 (fun a ha => ?_) (by omega) h6 n4 (fun v x hvx => ?_) (fun r' b6 m0 m1 m2 m3 => ?_)
        · obtain ⟨g1, g2, g3, g4, g5, g6, g7, g8⟩ := v2 a (zk_mem.mp ha).1
          exact ⟨g1, v4 _ g3, g4, g5, g6, g7, g8⟩
        · have := (i3 v x hvx).2.2.2; omega
        · -- the new invariant
          have hrc : ∀ a, a ∈ zk A e 0 b → zo T y a → rc (e 1 a) ∧ dv (e 1 a) ≤ dv b + w a := by
            intro a ha ho
            obtain ⟨ha1, ha2⟩ := zk_mem.mp ha
            have := k4 a ha1 ho (by rw [ha2]; exact brc)
            rw [ha2] at this
            exact this
          have h3' : ∀ v x, r' v = some x → v ∈ R ∧ rc v ∧ dv v ≤ x ∧ x ≤ 1099 := by
            intro v x hvx
            rcases m2 v x hvx with q | ⟨a, q1, q2, q3, q4⟩
            · exact i3 v x q
            · obtain ⟨ha1, ha2⟩ := zk_mem.mp q1
              have g := v2 a ha1
              have hq := hrc a q1 q2
              rw [q3] at hq
              exact ⟨q3 ▸ g.2.2.1, hq.1, by omega, by omega⟩
          have hkeep : ∀ v, r v = some (dv v) → r' v = some (dv v) := by
            intro v hvx
            obtain ⟨x', q1, q2⟩ := m1 v _ hvx
            have := (h3' v x' q1).2.2.1
            rw [q1, show x' = dv v by omega]
          have hinv : zj_inv A e y w T s0 dv rc R (D ++ [b]) r' := by
            refine ⟨?_, fun v hv => ?_, h3', fun v hv => ?_, fun v hv a ha hav ho => ?_, ?_⟩
            · exact List.nodup_append.mpr ⟨i1, by simp, fun a ha c hc q => by simp at hc; exact n3 (by rw [← hc, ← q]; exact ha)⟩
            · rcases List.mem_append.mp hv with q | q
              · exact i2 v q
              · have : v = b := by simpa using q
                rw [this]; exact bR
            · rcases List.mem_append.mp hv with q | q
              · exact hkeep v (i4 v q)
              · have : v = b := by simpa using q
                rw [this]; exact hkeep b n4
            · rcases List.mem_append.mp hv with q | q
              · obtain ⟨x, x1, x2⟩ := i5 v q a ha hav ho
                obtain ⟨x', x3, x4⟩ := m1 _ x x1
                exact ⟨x', x3, by omega⟩
              · have hvb : v = b := by simpa using q
                subst hvb
                exact m3 a (zk_mem.mpr ⟨ha, hav⟩) ho
            · have := hkeep s0 (by rw [i6, k2])
              rw [this, k2]
          have hlen' : D.length + 1 = (D ++ [b]).length := by simp
          have h7' : ∀ v, v < 12 → upd a7 b 1 v = if v ∈ D ++ [b] then 1 else 0 := by
            intro v hv
            by_cases q : v = b
            · subst q; rw [pk_us, if_pos (by simp)]
            · rw [pk_un q, h7 v hv]
              by_cases q' : v ∈ D
              · rw [if_pos q', if_pos (by simp [q'])]
              · rw [if_neg q', if_neg (by simp [q', q])]
          refine zj_near h7' m0 (fun v x hvx => by have := (h3' v x hvx).2.2.2; omega) (fun hno => ?_) (fun b' x' z1 z2 z3 z4 => ?_)
          · refine nm_r (za_a1 _) ?_
            rw [hlen']
            exact ih (D ++ [b]) r' (-1) b6 _ (by rw [← hlen']; omega) hinv h7' m0 (Or.inl ⟨rfl, hno⟩)
          · refine nm_r (za_a1 _) ?_
            rw [hlen']
            exact ih (D ++ [b]) r' (nI b') b6 _ (by rw [← hlen']; omega) hinv h7' m0 (Or.inr ⟨b', x', rfl, z1, z2, z3, z4⟩)
    · refine br_t (nI_le (a := 12) hD (by omega)) (fin (fun v hv q => ?_))
      exact absurd (za_full hi.1 (fun v hv => v4 v (hi.2.1 v hv)) (by omega) v hv) q
theorem zj_cheapest {post : Int32 → St2 → Prop} {A R : List Nat} {e : Nat → Nat → Nat} {y w dv rk : Nat → Nat} {rc : Nat → Prop} {T u v : Nat} {r : Int32} (hT : T ≤ 4) (hz : zv a1 A e y w R) (hu : u ∈ R) (hv : v ∈ R) (ok : zj_ok A e y w T u dv rc rk)
    (hr : (rc v ∧ r = nI (dv v)) ∨ (¬ rc v ∧ r = -2)) (H : ∀ b6 b7, post r (oo, pi, ck, gs, wg, a1, a2, a3, a4, a5, b6, b7, a8, a9, a10, a11, a12, a13)) : wpX_cheapest post (oo, pi, ck, gs, wg, a1, a2, a3, a4, a5, a6, a7, a8, a9, a10, a11, a12, a13) (nI (12 * u + v)) (nI T) := by
  obtain ⟨v1, v2, v3, v4, v5⟩ := hz
  have hu' := v4 u hu
  have hv' := v4 v hv
  unfold wpX_cheapest
  dsimp only
  refine zr_areEnds hu' hv' (fun _ _ => br_f (by decide) (zr_isType hT (br_f (by decide) ?_))) (fun z => absurd ⟨(v5 u hu').mpr hu, (v5 v hv').mpr hv⟩ z)
  refine pk_loop (fun n i s => wX_cheapest_19 post (nI (12 * u + v)) (nI T) oo pi ck gs wg n (nI i) a1 a2 a3 a4 a5 (s.1) (s.2) a8 a9 a10 a11 a12 a13) (fun i s => ∀ z, z < i → s.1 z = (if z = u then 0 else -1) ∧ s.2 z = 0) 12 0 (a6, a7) (by omega) (fun z hz => absurd hz (by omega)) ?_ ?_
  · intro n s hI
    refine br_t (nI_le (Nat.le_refl _) (by decide)) ?_
    have inv : zj_inv A e y w T u dv rc R [] (fun z => if z = u then some 0 else none) := by
      refine ⟨by simp, by simp, fun z x hzx => ?_, by simp, by simp, if_pos rfl⟩
      dsimp only at hzx
      by_cases q : z = u
      · rw [if_pos q] at hzx
        injection hzx with hzx
        subst q
        exact ⟨hu, ok.1, by rw [ok.2.1]; omega, by omega⟩
      · rw [if_neg q] at hzx
        exact absurd hzx (by simp)
    have h7 : ∀ z, z < 12 → s.2 z = if z ∈ ([] : List Nat) then 1 else 0 := fun z hz => by rw [(hI z hz).2, if_neg (by simp)]
    have h6 : ∀ z, z < 12 → s.1 z = za_o (if z = u then some 0 else none) := fun z hz => by
      rw [(hI z hz).1]; split <;> rfl
    refine zj_near (r := fun z => if z = u then some 0 else none) h7 h6 (fun z x hzx => by have := (inv.2.2.1 z x hzx).2.2.2; omega) (fun hno => ⟨13, ?_⟩) (fun b' x' z1 z2 z3 z4 => ⟨13, ?_⟩)
    · exact zj_65 hT ⟨v1, v2, v3, v4, v5⟩ ok hv' (zr_rem hu' hv') hr H 13 [] _ (-1) _ _ (by simp) inv h7 h6 (Or.inl ⟨rfl, hno⟩)
    · exact zj_65 hT ⟨v1, v2, v3, v4, v5⟩ ok hv' (zr_rem hu' hv') hr H 13 [] _ (nI b') _ _ (by simp) inv h7 h6 (Or.inr ⟨b', x', rfl, z1, z2, z3, z4⟩)
  · intro n i s hi hI hw
    refine br_f (nI_ge hi (by decide)) ⟨by decide, ?_⟩
    rw [zr_div hu' hv']
    have F : ∀ z0 : Int32, z0 = (if i = u then 0 else -1) → wX_cheapest_43 post (wX_cheapest_19 post (nI (12 * u + v)) (nI T) oo pi ck gs wg n) (nI (12 * u + v)) (nI T) (nI i) z0 (nI i) oo pi ck gs wg a1 a2 a3 a4 a5 (s.1) (s.2) a8 a9 a10 a11 a12 a13 := by
      intro z0 hz0
      refine za_st i rfl hi (za_st i rfl hi (nm_r (za_a1 i) (hw (upd s.1 i z0, upd s.2 i 0) (fun z hz => ?_))))
      by_cases q : z = i
      · subst q
        exact ⟨pk_us.trans hz0, pk_us⟩
      · obtain ⟨q1, q2⟩ := hI z (by omega)
        exact ⟨(pk_un q).trans q1, (pk_un q).trans q2⟩
    exact pk_eq i u (fun z => F 0 (by rw [if_pos z])) (fun z => F (-1) (by rw [if_neg z]))
end
end
section
/-! 06: rounds, the plain part. Frames: the nodes of the way in depth (top first), each with the left nodes above it on the pile -/
def zp : List (Nat × List Nat) → List Nat
  | [] => []
  | (n, S) :: F => zp F ++ n :: S
def zw_top : List (Nat × List Nat) → Int32
  | [] => -1
  | (n, _) :: _ => nI n
/-- an arrow that has been looked at, from a segment with lowest l -/
def zw_k (e : Nat → Nat → Nat) (y : Nat → Nat) (T : Nat) (kp : Nat → Nat) (Kl En : List Nat) (en : Nat → Nat) (l a : Nat) : Prop :=
  zo T y a → e 1 a ∈ En ∧ (kp (e 1 a) ∈ Kl ∨ l ≤ en (e 1 a))
def zw_fr (c a10 a11 a12 : Nat → Int32) (A : List Nat) (e : Nat → Nat → Nat) (y : Nat → Nat) (T : Nat) (kp : Nat → Nat) (Kl En : List Nat) (en lo : Nat → Nat) (rem : Nat → List Nat) : List (Nat × List Nat) → Prop
  | [] => True
  | (n, S) :: F => ((∀ v, v ∈ S → kp v = kp n) ∧ a11 n = zw_top F ∧ (∀ m S' F', F = (m, S') :: F' → kp m ≤ kp n) ∧ a10 n = nI (lo n) ∧ lo n ≤ en n ∧ (∃ x, x ∈ zp F ++ [n] ∧ en x = lo n ∧ kp n ≤ kp x) ∧
      (∃ D p, zk A e 0 n = D ++ rem n ∧ zl c 0 p (rem n) ∧ ∀ a, a ∈ D → zw_k e y T kp Kl En en (lo n) a) ∧ a12 n = za_h (rem n) ∧
      (∀ v, v ∈ S → ∀ a, a ∈ zk A e 0 v → zw_k e y T kp Kl En en (lo n) a)) ∧ zw_fr c a10 a11 a12 A e y T kp Kl En en lo rem F
def zw_b (a7 a9 a13 : Nat → Int32) (A R : List Nat) (e : Nat → Nat → Nat) (y : Nat → Nat) (T : Nat) (kp : Nat → Nat) (Kl En : List Nat) (en : Nat → Nat) (P : List Nat) : Prop :=
  P.Nodup ∧ (∀ v, v ∈ P → v ∈ R ∧ v ∈ En ∧ kp v ∉ Kl) ∧ P.Pairwise (fun a b => en a < en b) ∧ (∀ v, v ∈ En → v ∈ R ∧ en v < En.length ∧ (v ∈ P ∨ kp v ∈ Kl)) ∧ En.Nodup ∧
  (∀ v, v ∈ R → kp v ∈ Kl → v ∈ En) ∧ (∀ v, v ∈ R → a9 v = if v ∈ En then nI (en v) else -1) ∧ (∀ v, v ∈ R → a7 v = if kp v ∈ Kl then 1 else 0) ∧
  (∀ i v, P[i]? = some v → a13 i = nI v) ∧ (Kl.Nodup ∧ ∀ k, k ∈ Kl → ∃ v, v ∈ R ∧ kp v = k) ∧ (∀ a, a ∈ A → zo T y a → kp (e 0 a) ∈ Kl → kp (e 1 a) ∈ Kl)
section
variable {c a7 a9 a10 a11 a12 a13 b7 b9 b10 b11 b12 b13 : Nat → Int32} {A R : List Nat} {e : Nat → Nat → Nat} {y kp : Nat → Nat} {T : Nat} {Kl Kl' En En' P : List Nat} {en en' lo lo' : Nat → Nat} {rem rem' : Nat → List Nat} {F : List (Nat × List Nat)}
theorem zw_k_mono {l l' a : Nat} (h : zw_k e y T kp Kl En en l a) (hE : ∀ x, x ∈ En → x ∈ En' ∧ en' x = en x) (hK : ∀ k, k ∈ Kl → k ∈ Kl') (hl : l' ≤ l) : zw_k e y T kp Kl' En' en' l' a := by
  intro ho
  obtain ⟨h1, h2⟩ := h ho
  refine ⟨(hE _ h1).1, h2.elim (fun z => Or.inl (hK _ z)) (fun z => Or.inr ?_)⟩
  rw [(hE _ h1).2]; omega
theorem zw_fr_congr : ∀ {F : List (Nat × List Nat)}, zw_fr c a10 a11 a12 A e y T kp Kl En en lo rem F → (∀ n, n ∈ zp F → n ∈ En ∧ b10 n = a10 n ∧ b11 n = a11 n ∧ b12 n = a12 n ∧ lo' n = lo n ∧ rem' n = rem n) →
    (∀ x, x ∈ En → x ∈ En' ∧ en' x = en x) → (∀ k, k ∈ Kl → k ∈ Kl') → zw_fr c b10 b11 b12 A e y T kp Kl' En' en' lo' rem' F
  | [], _, _, _, _ => trivial
  | (n, S) :: F, ⟨⟨h1, h2, h3, h4, h5, ⟨x, x1, x2, x3⟩, ⟨D, p, d1, d2, d3⟩, h8, h9⟩, hF⟩, hn, hE, hK => by
    obtain ⟨n0, n1, n2, n3, n4, n5⟩ := hn n (by simp [zp])
    have hx : x ∈ En := (hn x (by rcases List.mem_append.mp x1 with z | z
                                  · simp [zp, z]
                                  · simp at z; simp [zp, z])).1
    refine ⟨⟨h1, n2.trans h2, h3, by rw [n1, h4, n4], by rw [n4, (hE n n0).2]; exact h5, ⟨x, x1, by rw [(hE x hx).2, n4]; exact x2, x3⟩, ⟨D, p, by rw [n5]; exact d1, by rw [n5]; exact d2, fun a ha => zw_k_mono (d3 a ha) hE hK (by omega)⟩, by rw [n3, h8, n5], fun v hv a ha => zw_k_mono (h9 v hv a ha) hE hK (by omega)⟩, ?_⟩
    exact zw_fr_congr hF (fun m hm => hn m (by simp [zp, hm])) hE hK
/-- the top node looks at an arrow -/
theorem zw_adv {n a l : Nat} {S r : List Nat} (h : zw_fr c a10 a11 a12 A e y T kp Kl En en lo rem ((n, S) :: F)) (hP : (zp ((n, S) :: F)).Nodup) (hE : ∀ v, v ∈ zp ((n, S) :: F) → v ∈ En) (hr : rem n = a :: r)
    (hl : l ≤ lo n) (hx : ∃ x, x ∈ zp F ++ [n] ∧ en x = l ∧ kp n ≤ kp x) (hk : zw_k e y T kp Kl En en l a) (h10 : b10 n = nI l) (h10' : ∀ x, x ≠ n → b10 x = a10 x) :
    zw_fr c b10 a11 (upd a12 n (za_h r)) A e y T kp Kl En en (fun x => if x = n then l else lo x) (fun x => if x = n then r else rem x) ((n, S) :: F) := by
  obtain ⟨⟨h1, h2, h3, h4, h5, _, ⟨D, p, d1, d2, d3⟩, h8, h9⟩, hF⟩ := h
  rw [hr] at d1 d2
  have hnF : n ∉ zp F := fun z => by
    have := (List.nodup_append.mp hP).2.2 n z n (by simp)
    exact this rfl
  have hkm : ∀ {a : Nat}, zw_k e y T kp Kl En en (lo n) a → zw_k e y T kp Kl En en l a := fun q => zw_k_mono q (fun x hx => ⟨hx, rfl⟩) (fun k hk => hk) hl
  refine ⟨⟨h1, h2, h3, by simp [h10], by simp; omega, by simpa using hx, ⟨D ++ [a], nI a, by simp [d1], by simpa using d2.2.2, fun b hb => ?_⟩, by simp [upd], fun v hv b hb => ?_⟩, ?_⟩
  · simp only [if_pos]
    rcases List.mem_append.mp hb with z | z
    · exact hkm (d3 b z)
    · simp at z; rw [z]; exact hk
  · simp only [if_pos]
    exact hkm (h9 v hv b hb)
  · refine zw_fr_congr hF (fun m hm => ?_) (fun x hx => ⟨hx, rfl⟩) (fun k hk => hk)
    have hmn : m ≠ n := fun z => hnF (z ▸ hm)
    exact ⟨hE m (by simp [zp, hm]), h10' m hmn, rfl, pk_un hmn, if_neg hmn, if_neg hmn⟩
theorem zw_kp_top : ∀ {F : List (Nat × List Nat)} {n : Nat} {S : List Nat}, zw_fr c a10 a11 a12 A e y T kp Kl En en lo rem ((n, S) :: F) → ∀ x, x ∈ zp ((n, S) :: F) → kp x ≤ kp n
  | F, n, S, ⟨⟨h1, h2, h3, _⟩, hF⟩, x, hx => by
    rcases List.mem_append.mp hx with z | z
    · cases F with
      | nil => exact absurd z (by simp [zp])
      | cons f F' =>
        obtain ⟨m, S'⟩ := f
        have := zw_kp_top hF x z
        have := h3 m S' F' rfl
        omega
    · rcases List.mem_cons.mp z with q | q
      · rw [q]; exact Nat.le_refl _
      · rw [h1 x q]; exact Nat.le_refl _
/-- a new node -/
theorem zw_b_push {v : Nat} (h : zw_b a7 a9 a13 A R e y T kp Kl En en P) (hv : v ∈ R) (hn : v ∉ En) :
    zw_b a7 (upd a9 v (nI En.length)) (upd a13 P.length (nI v)) A R e y T kp Kl (v :: En) (fun x => if x = v then En.length else en x) (P ++ [v]) := by
  obtain ⟨h1, h2, h3, h4, h5, h6, h7, h8, h9, h10, h11⟩ := h
  have hvP : v ∉ P := fun z => hn (h2 v z).2.1
  have hne : ∀ x, x ∈ En → x ≠ v := fun x hx z => hn (z ▸ hx)
  refine ⟨?_, fun x hx => ?_, ?_, fun x hx => ?_, List.nodup_cons.mpr ⟨hn, h5⟩, fun x hx hk => List.mem_cons_of_mem _ (h6 x hx hk), fun x hx => ?_, h8, fun i x hi => ?_, h10, h11⟩
  · exact List.nodup_append.mpr ⟨h1, by simp, fun a ha b hb q => by simp at hb; exact hvP (by rw [← hb, ← q]; exact ha)⟩
  · rcases List.mem_append.mp hx with z | z
    · obtain ⟨q1, q2, q3⟩ := h2 x z
      exact ⟨q1, List.mem_cons_of_mem _ q2, q3⟩
    · have : x = v := by simpa using z
      subst this
      exact ⟨hv, by simp, fun z => hn (h6 x hv z)⟩
  · refine List.pairwise_append.mpr ⟨?_, by simp, fun a ha b hb => ?_⟩
    · refine h3.imp_of_mem (fun {a b} ha hb hab => ?_)
      dsimp only
      rw [if_neg (hne a (h2 a ha).2.1), if_neg (hne b (h2 b hb).2.1)]; exact hab
    · have : b = v := by simpa using hb
      subst this
      dsimp only
      rw [if_neg (hne a (h2 a ha).2.1), if_pos rfl]
      exact (h4 a (h2 a ha).2.1).2.1
  · rcases List.mem_cons.mp hx with z | z
    · subst z
      exact ⟨hv, by simp, Or.inl (by simp)⟩
    · obtain ⟨q1, q2, q3⟩ := h4 x z
      refine ⟨q1, ?_, q3.elim (fun t => Or.inl (by simp [t])) Or.inr⟩
      dsimp only
      rw [if_neg (hne x z), List.length_cons]; omega
  · dsimp only
    by_cases q : x = v
    · subst q
      rw [pk_us, if_pos (by simp), if_pos rfl]
    · rw [pk_un q, h7 x hx]
      by_cases q' : x ∈ En
      · rw [if_pos q', if_pos (by simp [q']), if_neg q]
      · rw [if_neg q', if_neg (by simp [q', q])]
  · rcases Nat.lt_or_ge i P.length with q | q
    · rw [List.getElem?_append_left q] at hi
      rw [pk_un (by omega)]
      exact h9 i x hi
    · have hi' := (List.getElem?_eq_some_iff.mp hi).1
      simp at hi'
      have ei : i = P.length := by omega
      subst ei
      simp at hi
      rw [pk_us, hi]
/-- a group is closed -/
theorem zw_close {n : Nat} {S : List Nat} (hb : zw_b a7 a9 a13 A R e y T kp Kl En en (zp ((n, S) :: F))) (hf : zw_fr c a10 a11 a12 A e y T kp Kl En en lo rem ((n, S) :: F)) (hr : rem n = []) (hl : lo n = en n)
    (hA : ∀ a, a ∈ A → e 0 a ∈ R ∧ e 1 a ∈ R) (H2 : ∀ u w, u ∈ R → w ∈ R → kp u = kp w → ∀ Z : Nat → Prop, (∀ a, a ∈ A → zo T y a → Z (e 0 a) → Z (e 1 a)) → Z u → Z w)
    (h7 : ∀ v, b7 v = if v ∈ n :: S then 1 else a7 v) :
    zw_b b7 a9 a13 A R e y T kp (kp n :: Kl) En en (zp F) ∧ zw_fr c a10 a11 a12 A e y T kp (kp n :: Kl) En en lo rem F := by
  obtain ⟨b1, b2, b3, b4, b5, b6, b7', b8, b9, ⟨b10, b10'⟩, b11⟩ := hb
  obtain ⟨⟨f1, f2, f3, f4, f5, f6, ⟨D, p, d1, d2, d3⟩, f8, f9⟩, hF⟩ := hf
  have nP : n ∈ zp ((n, S) :: F) := by simp [zp]
  have sub : ∀ x, x ∈ zp F → x ∈ zp ((n, S) :: F) := fun x hx => by simp [zp, hx]
  have sub2 : ∀ x, x ∈ n :: S → x ∈ zp ((n, S) :: F) := fun x hx => List.mem_append_right _ hx
  have apart := (List.nodup_append.mp b1).2.2
  have low := (List.pairwise_append.mp b3).2.2
  rw [hr, List.append_nil] at d1
  have kS : ∀ x, x ∈ n :: S → kp x = kp n := fun x hx => by
    rcases List.mem_cons.mp hx with z | z
    · rw [z]
    · exact f1 x z
  have closed : ∀ a, a ∈ A → zo T y a → (e 0 a ∈ n :: S ∨ kp (e 0 a) ∈ Kl) → (e 1 a ∈ n :: S ∨ kp (e 1 a) ∈ Kl) := by
    intro a ha ho h
    rcases h with z | z
    · have hk : zw_k e y T kp Kl En en (lo n) a := by
        rcases List.mem_cons.mp z with q | q
        · exact d3 a (by rw [← d1]; exact zk_mem.mpr ⟨ha, q⟩)
        · exact f9 _ q a (zk_mem.mpr ⟨ha, rfl⟩)
      obtain ⟨k1, k2⟩ := hk ho
      rcases k2 with q | q
      · exact Or.inr q
      · rcases (b4 _ k1).2.2 with t | t
        · rcases List.mem_append.mp t with t' | t'
          · have := low _ t' n (by simp)
            omega
          · exact Or.inl t'
        · exact Or.inr t
    · exact Or.inr (b11 a ha ho z)
  have cls : ∀ x, x ∈ R → kp x = kp n → (x ∈ n :: S ∨ kp x ∈ Kl) := fun x hx hk =>
    H2 n x (b2 n nP).1 hx hk.symm (fun z => z ∈ n :: S ∨ kp z ∈ Kl) closed (Or.inl (by simp))
  have nK : kp n ∉ Kl := (b2 n nP).2.2
  refine ⟨⟨(List.nodup_append.mp b1).1, fun v hv => ?_, (List.pairwise_append.mp b3).1, fun v hv => ?_, b5, fun v hv hk => ?_, b7', fun v hv => ?_, fun i v hi => ?_, ⟨List.nodup_cons.mpr ⟨nK, b10⟩, fun k hk => ?_⟩, fun a ha ho hk => ?_⟩, ?_⟩
  · obtain ⟨q1, q2, q3⟩ := b2 v (sub v hv)
    refine ⟨q1, q2, fun z => ?_⟩
    rcases List.mem_cons.mp z with t | t
    · rcases cls v q1 t with t' | t'
      · exact apart v hv v t' rfl
      · exact q3 t'
    · exact q3 t
  · obtain ⟨q1, q2, q3⟩ := b4 v hv
    refine ⟨q1, q2, ?_⟩
    rcases q3 with t | t
    · rcases List.mem_append.mp t with t' | t'
      · exact Or.inl t'
      · exact Or.inr (by rw [kS v t']; simp)
    · exact Or.inr (List.mem_cons_of_mem _ t)
  · rcases List.mem_cons.mp hk with t | t
    · rcases cls v hv t with t' | t'
      · exact (b2 v (sub2 v t')).2.1
      · exact b6 v hv t'
    · exact b6 v hv t
  · rw [h7 v]
    by_cases q : v ∈ n :: S
    · rw [if_pos q, if_pos (by rw [kS v q]; simp)]
    · rw [if_neg q, b8 v hv]
      by_cases q' : kp v ∈ Kl
      · rw [if_pos q', if_pos (List.mem_cons_of_mem _ q')]
      · rw [if_neg q', if_neg (fun z => ?_)]
        rcases List.mem_cons.mp z with t | t
        · exact (cls v hv t).elim q q'
        · exact q' t
  · refine b9 i v ?_
    have := (List.getElem?_eq_some_iff.mp hi).1
    show (zp F ++ n :: S)[i]? = some v
    rw [List.getElem?_append_left this]
    exact hi
  · rcases List.mem_cons.mp hk with t | t
    · exact ⟨n, (b2 n nP).1, t.symm⟩
    · exact b10' k t
  · rcases List.mem_cons.mp hk with t | t
    · rcases closed a ha ho (cls _ (hA a ha).1 t) with t' | t'
      · rw [kS _ t']; simp
      · exact List.mem_cons_of_mem _ t'
    · exact List.mem_cons_of_mem _ (b11 a ha ho t)
  · exact zw_fr_congr hF (fun m hm => ⟨(b2 m (sub m hm)).2.1, rfl, rfl, rfl, rfl, rfl⟩) (fun x hx => ⟨hx, rfl⟩) (fun k hk => List.mem_cons_of_mem _ hk)
/-- a node is left, its segment goes to the one above -/
theorem zw_merge {n m l : Nat} {S S' : List Nat} (hb : zw_b a7 a9 a13 A R e y T kp Kl En en (zp ((n, S) :: (m, S') :: F))) (hf : zw_fr c a10 a11 a12 A e y T kp Kl En en lo rem ((n, S) :: (m, S') :: F)) (hr : rem n = []) (hl : lo n ≠ en n)
    (hl' : l = if lo m ≤ lo n then lo m else lo n) (h10 : b10 m = nI l) (h10' : ∀ x, x ≠ m → b10 x = a10 x) :
    zp ((m, S' ++ n :: S) :: F) = zp ((n, S) :: (m, S') :: F) ∧ zw_fr c b10 a11 a12 A e y T kp Kl En en (fun x => if x = m then l else lo x) rem ((m, S' ++ n :: S) :: F) := by
  have hzp : zp ((m, S' ++ n :: S) :: F) = zp ((n, S) :: (m, S') :: F) := by simp [zp]
  refine ⟨hzp, ?_⟩
  obtain ⟨b1, b2, b3, _⟩ := hb
  have hf0 := hf
  obtain ⟨⟨f1, f2, f3, f4, f5, ⟨x, x1, x2, x3⟩, ⟨D, p, d1, d2, d3⟩, f8, f9⟩, hF1⟩ := hf
  obtain ⟨⟨g1, g2, g3, g4, g5, ⟨z, z1, z2, z3⟩, ⟨D', p', k1, k2, k3⟩, g8, g9⟩, hF⟩ := hF1
  rw [hr, List.append_nil] at d1
  have kmn := f3 m S' F rfl
  -- the node that lowest speaks of lies below n
  have hx : x ∈ zp ((m, S') :: F) := by
    rcases List.mem_append.mp x1 with q | q
    · exact q
    · have : x = n := by simpa using q
      subst this
      exact absurd x2.symm hl
  have hkx : kp x ≤ kp m := zw_kp_top (c := c) (a10 := a10) (a11 := a11) (a12 := a12) (Kl := Kl) (En := En) (en := en) (lo := lo) (rem := rem) ⟨⟨g1, g2, g3, g4, g5, ⟨z, z1, z2, z3⟩, ⟨D', p', k1, k2, k3⟩, g8, g9⟩, hF⟩ x hx
  have hk : kp n = kp m := by omega
  have b1' := (List.nodup_append.mp b1).1
  have b3' := (List.pairwise_append.mp b3).1
  have hmF : m ∉ zp F := fun q => (List.nodup_append.mp b1').2.2 m q m (by simp) rfl
  have lm : l ≤ lo m := by rw [hl']; split <;> omega
  have ln : l ≤ lo n := by rw [hl']; split <;> omega
  have mono : ∀ {q a : Nat}, l ≤ q → zw_k e y T kp Kl En en q a → zw_k e y T kp Kl En en l a := fun hq t => zw_k_mono t (fun x hx => ⟨hx, rfl⟩) (fun k hk => hk) hq
  refine ⟨⟨fun v hv => ?_, g2, g3, by simp [h10], by simp; omega, ?_, ⟨D', p', k1, k2, fun a ha => ?_⟩, g8, fun v hv a ha => ?_⟩, ?_⟩
  · rcases List.mem_append.mp hv with q | q
    · exact g1 v q
    · rcases List.mem_cons.mp q with t | t
      · rw [t]; exact hk
      · rw [f1 v t]; exact hk
  · simp only [if_pos]
    by_cases q : lo m ≤ lo n
    · rw [if_pos q] at hl'
      exact ⟨z, z1, by rw [hl']; exact z2, z3⟩
    · rw [if_neg q] at hl'
      refine ⟨x, ?_, by rw [hl']; exact x2, by omega⟩
      rcases List.mem_append.mp hx with t | t
      · exact List.mem_append_left _ t
      · exfalso
        have : en m ≤ en x := by
          rcases List.mem_cons.mp t with t' | t'
          · rw [t']; exact Nat.le_refl _
          · exact Nat.le_of_lt ((List.pairwise_cons.mp (List.pairwise_append.mp b3').2.1).1 x t')
        omega
  · simp only [if_pos]
    exact mono lm (k3 a ha)
  · simp only [if_pos]
    rcases List.mem_append.mp hv with q | q
    · exact mono lm (g9 v q a ha)
    · rcases List.mem_cons.mp q with t | t
      · subst t
        exact mono ln (d3 a (by rw [← d1]; exact ha))
      · exact mono ln (f9 v t a ha)
  · refine zw_fr_congr hF (fun q hq => ?_) (fun x hx => ⟨hx, rfl⟩) (fun k hk => hk)
    have hqm : q ≠ m := fun t => hmF (t ▸ hq)
    exact ⟨(b2 q (by simp [zp, hq])).2.1, h10' q hqm, rfl, rfl, if_neg hqm, rfl⟩
/-- a node without a lower one: it closes -/
theorem zw_root {n : Nat} {S : List Nat} (hf : zw_fr c a10 a11 a12 A e y T kp Kl En en lo rem [(n, S)]) : lo n = en n := by
  obtain ⟨⟨_, _, _, _, _, ⟨x, x1, x2, x3⟩, _⟩, _⟩ := hf
  have : x = n := by simpa [zp] using x1
  rw [← this, x2, this]
end
end
section
/-! 07: rounds, the walk -/
def zw_mf (rem : Nat → List Nat) : List (Nat × List Nat) → Nat
  | [] => 0
  | (n, _) :: F => (rem n).length + 1 + zw_mf rem F
def zw_un (A : List Nat) (e : Nat → Nat → Nat) (R En : List Nat) : Nat :=
  za_sm (fun v => if v ∈ R ∧ v ∉ En then (zk A e 0 v).length + 1 else 0) 12
theorem zw_mf_congr {rem rem' : Nat → List Nat} : ∀ {F : List (Nat × List Nat)}, (∀ n, n ∈ zp F → rem' n = rem n) → zw_mf rem' F = zw_mf rem F
  | [], _ => rfl
  | (n, S) :: F, h => by
    simp only [zw_mf]
    rw [h n (by simp [zp]), zw_mf_congr (F := F) (fun m hm => h m (by simp [zp, hm]))]
theorem zw_un_push {A R En : List Nat} {e : Nat → Nat → Nat} {v : Nat} (hv : v ∈ R) (hv12 : v < 12) (hn : v ∉ En) : zw_un A e R En = zw_un A e R (v :: En) + ((zk A e 0 v).length + 1) := by
  unfold zw_un
  rw [za_sm_add (f := fun x => if x ∈ R ∧ x ∉ v :: En then (zk A e 0 x).length + 1 else 0) (g := fun x => if x = v then (zk A e 0 v).length + 1 else 0), za_sm_1 hv12]
  intro k _
  by_cases q : k = v
  · subst q
    simp [hv, hn]
  · simp [q]
theorem zw_un_le {A R En : List Nat} {e : Nat → Nat → Nat} (hA : ∀ a, a ∈ A → e 0 a < 12) (hl : A.length ≤ 24) : zw_un A e R En ≤ 36 := by
  have h1 := za_sm_len (L := A) (g := e 0) (n := 12) hA
  have h2 : ∀ n, za_sm (fun v => if v ∈ R ∧ v ∉ En then (zk A e 0 v).length + 1 else 0) n ≤ za_sm (fun k => (A.filter (fun x => decide (e 0 x = k))).length) n + n := by
    intro n
    induction n with
    | zero => simp [za_sm]
    | succ n ih =>
      simp only [za_sm]
      split
      · show _ + ((A.filter (fun x => decide (e 0 x = n))).length + 1) ≤ _
        omega
      · omega
  have h3 := h2 12
  unfold zw_un
  omega
theorem zw_updc {f : Nat → Int32} {n v : Nat} {x z : Int32} (h : n ≠ v) : upd (upd f n x) v z = upd (upd f v z) n x := by
  funext j
  simp only [upd]
  by_cases q : j = v
  · subst q
    rw [if_pos rfl, if_neg (Ne.symm h), if_pos rfl]
  · rw [if_neg q]
    by_cases q' : j = n
    · rw [if_pos q', if_pos q']
    · rw [if_neg q', if_neg q', if_neg q]
section
variable {oo pi ck gs wg : Int32} {a1 a2 a3 a4 a5 a6 a7 a8 a9 a10 a11 a12 a13 : Nat → Int32}
theorem zw_enter {post : St2 → Prop} {v P C : Nat} {x : Int32} (hv : v < 12) (hP : P < 12)
    (H : post (oo, nI (P + 1), nI (C + 1), gs, wg, a1, a2, a3, a4, a5, a6, a7, a8, upd a9 v (nI C), upd a10 v (nI C), upd a11 v x, upd a12 v (a1 (16 + 7 * v + 3)), upd a13 P (nI v))) : wpX_enter post (oo, nI P, nI C, gs, wg, a1, a2, a3, a4, a5, a6, a7, a8, a9, a10, a11, a12, a13) (nI v) x := by
  unfold wpX_enter
  dsimp only
  rw [nI_clamp (show v < 2 ^ 31 by omega), nI_clamp (show P < 2 ^ 31 by omega)]
  refine ⟨vp_in_nI hv (by decide), nm_e ⟨vp_in_nI hv (by decide), nm_e (nm_r (za_a1 C) ⟨vp_in_nI hv (by decide), nm_e (za_na ?_)⟩)⟩⟩
  rw [za_a3, nI_clamp (show 16 + 7 * v + 3 < 2 ^ 31 by omega)]
  exact ⟨vp_in_nI (by omega) (by decide), vp_in_nI hv (by decide), nm_e ⟨vp_in_nI hP (by decide), nm_e (nm_r (za_a1 P) H)⟩⟩
theorem zw_pop {post : St2 → Prop} {G : List Nat} {n : Nat} : ∀ (Z : List Nat) (a7 : Nat → Int32), (∀ i v, (G ++ n :: Z.reverse)[i]? = some v → a13 i = nI v) → (∀ v, v ∈ n :: Z → v < 12) → n ∉ Z → (G ++ n :: Z.reverse).length ≤ 12 →
    (∀ b7 : Nat → Int32, (∀ v, b7 v = if v ∈ n :: Z then 1 else a7 v) → post (oo, nI G.length, ck, gs, wg, a1, a2, a3, a4, a5, a6, b7, a8, a9, a10, a11, a12, a13)) →
    wX_leave_34 post (nI n) oo ck gs wg (Z.length + 2) 1 (nI (G ++ n :: Z.reverse).length) a1 a2 a3 a4 a5 a6 a7 a8 a9 a10 a11 a12 a13
  | [], a7, h13, h12, hn, hl, H => by
    have hg := h13 G.length n (by simp)
    have hn12 := h12 n (by simp)
    simp at hl
    refine br_f (by decide) (nm_r (e' := nI G.length) (by simp only [List.reverse_nil, List.length_append, List.length_singleton]; exact nI_pred _) ?_)
    rw [nI_clamp (show G.length < 2 ^ 31 by omega), hg, nI_clamp (show n < 2 ^ 31 by omega)]
    refine ⟨vp_in_nI (by omega) (by decide), vp_in_nI hn12 (by decide), nm_e ⟨vp_in_nI (by omega) (by decide), br_t rfl (br_t rfl (H _ (fun v => ?_)))⟩⟩
    by_cases q : v = n
    · subst q; rw [pk_us, if_pos (by simp)]
    · rw [pk_un q, if_neg (by simpa using q)]
  | z :: Z, a7, h13, h12, hn, hl, H => by
    have e0 : G ++ n :: (z :: Z).reverse = (G ++ n :: Z.reverse) ++ [z] := by simp
    rw [e0] at h13 hl ⊢
    have hg := h13 (G ++ n :: Z.reverse).length z (by simp)
    have hz12 := h12 z (by simp)
    have hzn : z ≠ n := fun q => hn (by simp [q])
    have hl' : (G ++ n :: Z.reverse).length + 1 ≤ 12 := by
      rw [List.length_append (bs := [z])] at hl
      exact hl
    refine br_f (by decide) (nm_r (e' := nI (G ++ n :: Z.reverse).length) (by rw [List.length_append (bs := [z])]; exact nI_pred _) ?_)
    rw [nI_clamp (show (G ++ n :: Z.reverse).length < 2 ^ 31 by omega), hg, nI_clamp (show z < 2 ^ 31 by omega)]
    have hn12 := h12 n (by simp)
    refine ⟨vp_in_nI (by omega) (by decide), vp_in_nI hz12 (by decide), nm_e ⟨vp_in_nI (by omega) (by decide), br_f (fun q => hzn ((nI_eq (by omega) (by omega)).mp q)) ?_⟩⟩
    refine zw_pop Z _ (fun i v hi => h13 i v ?_) (fun v hv => ?_) (fun q => hn (by simp [q])) (by omega) (fun b7 hb => H b7 (fun v => ?_))
    · rw [List.getElem?_append_left (List.getElem?_eq_some_iff.mp hi).1]; exact hi
    · rcases List.mem_cons.mp hv with q | q
      · exact h12 v (by simp [q])
      · exact h12 v (by simp [q])
    · rw [hb v]
      by_cases q : v ∈ n :: Z
      · rw [if_pos q, if_pos (by rcases List.mem_cons.mp q with t | t <;> simp [t])]
      · rw [if_neg q]
        by_cases q' : v = z
        · subst q'; rw [pk_us, if_pos (by simp)]
        · rw [pk_un q', if_neg (fun t => ?_)]
          rcases List.mem_cons.mp t with t' | t'
          · exact q (by simp [t'])
          · rcases List.mem_cons.mp t' with t2 | t2
            · exact q' t2
            · exact q (by simp [t2])
theorem zw_loop {post : St2 → Prop} {A R En0 : List Nat} {e : Nat → Nat → Nat} {y w kp : Nat → Nat} {T : Nat} (hT : T ≤ 4) (hz : zv a1 A e y w R) (H1 : ∀ a, a ∈ A → zo T y a → kp (e 0 a) ≤ kp (e 1 a))
    (H2 : ∀ u w, u ∈ R → w ∈ R → kp u = kp w → ∀ Z : Nat → Prop, (∀ a, a ∈ A → zo T y a → Z (e 0 a) → Z (e 1 a)) → Z u → Z w)
    (HP : ∀ (b7 b9 b10 b11 b12 b13 : Nat → Int32) (Kl En : List Nat) (en : Nat → Nat), zw_b b7 b9 b13 A R e y T kp Kl En en [] → (∀ x, x ∈ En0 → x ∈ En) → post (oo, nI 0, nI En.length, nI Kl.length, wg, a1, a2, a3, a4, a5, a6, b7, a8, b9, b10, b11, b12, b13)) :
    ∀ (m : Nat) (F : List (Nat × List Nat)) (Kl En : List Nat) (en lo : Nat → Nat) (rem : Nat → List Nat) (a7 a9 a10 a11 a12 a13 : Nat → Int32) (st : Nat), zw_mf rem F + zw_un A e R En = m → st + m ≤ 99 →
      zw_b a7 a9 a13 A R e y T kp Kl En en (zp F) → zw_fr a1 a10 a11 a12 A e y T kp Kl En en lo rem F → (∀ x, x ∈ En0 → x ∈ En) →
      wX_walk_11 post (nI T) (m + 1) (zw_top F) (nI st) oo (nI (zp F).length) (nI En.length) (nI Kl.length) wg a1 a2 a3 a4 a5 a6 a7 a8 a9 a10 a11 a12 a13 := by
  obtain ⟨v1, v2, v3, v4, v5⟩ := hz
  intro m
  induction m with
  | zero =>
    intro F Kl En en lo rem a7 a9 a10 a11 a12 a13 st hm hst hb hf hE
    cases F with
    | nil =>
      have := HP a7 a9 a10 a11 a12 a13 Kl En en hb hE
      exact br_c (fun _ => this) (fun _ => br_t za_neg this)
    | cons f F =>
      obtain ⟨n, S⟩ := f
      simp only [zw_mf] at hm
      omega
  | succ m ih =>
    intro F Kl En en lo rem a7 a9 a10 a11 a12 a13 st hm hst hb hf hE
    cases F with
    | nil =>
      have := HP a7 a9 a10 a11 a12 a13 Kl En en hb hE
      exact br_c (fun _ => this) (fun _ => br_t za_neg this)
    | cons f F =>
      obtain ⟨n, S⟩ := f
      have hb0 := hb
      have hf0 := hf
      obtain ⟨b1, b2, b3, b4, b5, b6, b7, b8, b9, b10, b11⟩ := hb
      obtain ⟨⟨f1, f2, f3, f4, f5, f6, ⟨D, p, d1, d2, d3⟩, f8, f9⟩, hF⟩ := hf
      have nP : n ∈ zp ((n, S) :: F) := by simp [zp]
      obtain ⟨nR, nE, nK⟩ := b2 n nP
      have n12 := v4 n nR
      have pE : ∀ v, v ∈ zp ((n, S) :: F) → v ∈ En := fun v hv => (b2 v hv).2.1
      have hnF : n ∉ zp F := fun z => (List.nodup_append.mp b1).2.2 n z n (by simp) rfl
      have hPl : (zp ((n, S) :: F)).length ≤ 12 := za_pg b1 (fun v hv => v4 v (b2 v hv).1)
      have hEl : En.length ≤ 12 := za_pg b5 (fun v hv => v4 v (b4 v hv).1)
      have hen : en n < En.length := (b4 n nE).2.1
      show wX_walk_11 post (nI T) (m + 1 + 1) (nI n) (nI st) oo (nI (zp ((n, S) :: F)).length) (nI En.length) (nI Kl.length) wg a1 a2 a3 a4 a5 a6 a7 a8 a9 a10 a11 a12 a13
      refine br_f (nI_ge (b := 100) (by omega) (by decide)) (br_f (nI_pos (by omega)) ⟨vp_in_nI n12 (by decide), ?_⟩)
      rw [nI_clamp (show n < 2 ^ 31 by omega), f8]
      cases hr : rem n with
      | nil =>
        have hmu : zw_mf rem F + zw_un A e R En = m := by
          simp only [zw_mf, hr, List.length_nil] at hm
          omega
        refine nm_e (br_f za_neg' ?_)
        unfold wpX_leave
        dsimp only
        rw [nI_clamp (show n < 2 ^ 31 by omega), f2, f4, b7 n nR, if_pos nE]
        refine ⟨vp_in_nI n12 (by decide), nm_e ⟨vp_in_nI n12 (by decide), vp_in_nI n12 (by decide), ?_⟩⟩
        refine pk_eq (lo n) (en n) (fun hl => ?_) (fun hl => ?_)
        · refine nm_r (za_a1 _) ⟨S.reverse.length + 2, ?_⟩
          have hzp : zp ((n, S) :: F) = zp F ++ n :: S.reverse.reverse := by simp [zp]
          have hnS : n ∉ S := fun z => (List.nodup_cons.mp (List.nodup_append.mp b1).2.1).1 z
          rw [hzp]
          refine zw_pop S.reverse a7 (fun i v hi => b9 i v (by rw [hzp]; exact hi)) (fun v hv => ?_) (by simpa using hnS) (by rw [← hzp]; exact hPl) (fun b7' hb7 => ?_)
          · refine v4 v (b2 v (List.mem_append_right _ ?_)).1
            rcases List.mem_cons.mp hv with q | q
            · simp [q]
            · simp at q; simp [q]
          · dsimp only
            rw [f2]
            refine ⟨vp_in_nI n12 (by decide), nm_e (nm_r (za_a1 _) ?_)⟩
            obtain ⟨c1, c2⟩ := zw_close (b7 := b7') hb0 hf0 hr hl (fun a ha => ⟨(v2 a ha).2.1, (v2 a ha).2.2.1⟩) H2 (fun v => by rw [hb7 v]; simp)
            exact ih F (kp n :: Kl) En en lo rem b7' a9 a10 a11 a12 a13 (st + 1) hmu (by omega) c1 c2 hE
        · cases F with
          | nil => exact absurd (zw_root hf0) hl
          | cons g F =>
            obtain ⟨k, S'⟩ := g
            have f2 : a11 n = nI k := f2
            rw [show zw_top ((k, S') :: F) = nI k from rfl]
            have kP : k ∈ zp ((n, S) :: (k, S') :: F) := by simp [zp]
            have k12 := v4 k (b2 k kP).1
            have f4' := hF.1.2.2.2.1
            have l1 : lo k ≤ en k := hF.1.2.2.2.2.1
            have l2 : en k < En.length := (b4 k (b2 k kP).2.1).2.1
            refine br_f (nI_pos (by omega)) ⟨vp_in_nI n12 (by decide), vp_in_nI k12 (by decide), ?_⟩
            have fin : ∀ (l : Nat) (c10 : Nat → Int32), l = (if lo k ≤ lo n then lo k else lo n) → c10 k = nI l → (∀ x, x ≠ k → c10 x = a10 x) →
                wX_walk_11 post (nI T) (m + 1) (nI k) (nI (st + 1)) oo (nI (zp ((n, S) :: (k, S') :: F)).length) (nI En.length) (nI Kl.length) wg a1 a2 a3 a4 a5 a6 a7 a8 a9 c10 a11 a12 a13 := by
              intro l c10 q1 q2 q3
              obtain ⟨e1, e2⟩ := zw_merge hb0 hf0 hr hl q1 q2 q3
              have := ih ((k, S' ++ n :: S) :: F) Kl En en _ rem a7 a9 c10 a11 a12 a13 (st + 1) hmu (by omega) (by rw [e1]; exact hb0) e2 hE
              rw [e1] at this
              exact this
            rw [nI_clamp (show k < 2 ^ 31 by omega), f4']
            refine pk_le (lo k) (lo n) (fun q => ?_) (fun q => ?_)
            · refine ⟨vp_in_nI k12 (by decide), vp_in_nI k12 (by decide), nm_e ?_⟩
              refine ⟨vp_in_nI n12 (by decide), ?_⟩
              exact nm_e (nm_r (za_a1 _) (fin (lo k) _ (by rw [if_pos q]) pk_us (fun x hx => pk_un hx)))
            · refine ⟨vp_in_nI n12 (by decide), vp_in_nI k12 (by decide), nm_e ?_⟩
              refine ⟨vp_in_nI n12 (by decide), ?_⟩
              exact nm_e (nm_r (za_a1 _) (fin (lo n) _ (by rw [if_neg (by omega)]) pk_us (fun x hx => pk_un hx)))
      | cons a r =>
        rw [hr] at d1 d2
        have ha : a ∈ zk A e 0 n := by rw [d1]; simp
        obtain ⟨aA, aS⟩ := zk_mem.mp ha
        obtain ⟨g1, g2, g3, g4, g5, g6, g7, g8⟩ := v2 a aA
        have t12 := v4 _ g3
        have hmu : (r.length + 1 + zw_mf rem F) + zw_un A e R En = m := by
          simp only [zw_mf, hr, List.length_cons] at hm
          omega
        have l2 : a1 (100 + 10 * a + 5) = za_h r := d2.2.1
        rw [show za_h (a :: r) = nI a from rfl]
        refine nm_e (br_t (nI_pos' (by omega)) (za_ac ?_))
        rw [za_a5, nI_clamp (show 100 + 10 * a + 5 < 2 ^ 31 by omega), l2]
        refine ⟨vp_in_nI (by omega) (by decide), vp_in_nI n12 (by decide), nm_e (za_ac ?_)⟩
        rw [za_a1, za_a1, nI_clamp (show 100 + 10 * a + 1 + 1 < 2 ^ 31 by omega), show 100 + 10 * a + 1 + 1 = 100 + 10 * a + 2 by omega, g4]
        refine ⟨vp_in_nI (by omega) (by decide), nm_e ?_⟩
        have hmf : ∀ q : Nat → List Nat, (∀ x, x ≠ n → q x = rem x) → zw_mf q F = zw_mf rem F := fun q hq => zw_mf_congr (fun x hx => hq x (fun t => hnF (t ▸ hx)))
        -- the next step with the arrow looked at
        have go : ∀ (l : Nat) (c10 : Nat → Int32), l ≤ lo n → (∃ x, x ∈ zp F ++ [n] ∧ en x = l ∧ kp n ≤ kp x) → zw_k e y T kp Kl En en l a → c10 n = nI l → (∀ x, x ≠ n → c10 x = a10 x) →
            wX_walk_11 post (nI T) (m + 1) (nI n) (nI (st + 1)) oo (nI (zp ((n, S) :: F)).length) (nI En.length) (nI Kl.length) wg a1 a2 a3 a4 a5 a6 a7 a8 a9 c10 a11 (upd a12 n (za_h r)) a13 := by
          intro l c10 q1 q2 q3 q4 q5
          have q := zw_adv hf0 b1 pE hr q1 q2 q3 q4 q5
          refine ih ((n, S) :: F) Kl En en _ _ a7 a9 c10 a11 _ a13 (st + 1) ?_ (by omega) hb0 q hE
          simp only [zw_mf, if_pos]
          rw [hmf _ (fun x hx => if_neg hx)]
          exact hmu
        have w117 : (zo T y a → e 1 a ∈ En) → wX_walk_117 post (wX_walk_11 post (nI T) (m + 1)) (nI T) (nI n) (nI st) (nI a) (nI (e 1 a)) oo (nI (zp ((n, S) :: F)).length) (nI En.length) (nI Kl.length) wg a1 a2 a3 a4 a5 a6 a7 a8 a9 a10 a11 (upd a12 n (za_h r)) a13 := by
          intro hin
          unfold wX_walk_117
          refine zr_isOf g1 g5 g7 hT (fun ho => br_f (by decide) ⟨vp_in_nI t12 (by decide), ?_⟩) (fun ho => br_t rfl (nm_r (za_a1 _) ?_))
          · have hvE := hin ho
            obtain ⟨_, w1, w2⟩ := b4 _ hvE
            rw [nI_clamp (show e 1 a < 2 ^ 31 by omega), b8 _ g3, b7 _ g3, if_pos hvE, nI_clamp (show n < 2 ^ 31 by omega), f4]
            by_cases hk : kp (e 1 a) ∈ Kl
            · rw [if_pos hk]
              exact br_f (by decide) (nm_r (za_a1 _) (go (lo n) a10 (Nat.le_refl _) f6 (fun _ => ⟨hvE, Or.inl hk⟩) f4 (fun x hx => rfl)))
            · rw [if_neg hk]
              refine br_t rfl ⟨vp_in_nI t12 (by decide), vp_in_nI n12 (by decide), ?_⟩
              refine pk_le (lo n) (en (e 1 a)) (fun q => ?_) (fun q => ?_)
              · exact ⟨vp_in_nI n12 (by decide), vp_in_nI n12 (by decide), nm_e (nm_r (za_a1 _) (go (lo n) _ (Nat.le_refl _) f6 (fun _ => ⟨hvE, Or.inr q⟩) pk_us (fun x hx => pk_un hx)))⟩
              · refine ⟨vp_in_nI t12 (by decide), vp_in_nI n12 (by decide), nm_e (nm_r (za_a1 _) (go (en (e 1 a)) _ (by omega) ⟨e 1 a, ?_, rfl, ?_⟩ (fun _ => ⟨hvE, Or.inr (Nat.le_refl _)⟩) pk_us (fun x hx => pk_un hx)))⟩
                · rcases w2 with t | t
                  · rcases List.mem_append.mp t with t' | t'
                    · exact List.mem_append_left _ t'
                    · rcases List.mem_cons.mp t' with t2 | t2
                      · rw [t2]; simp
                      · have := (List.pairwise_cons.mp (List.pairwise_append.mp b3).2.1).1 _ t2
                        omega
                  · exact absurd t hk
                · have := H1 a aA ho
                  rw [aS] at this
                  exact this
          · exact go (lo n) a10 (Nat.le_refl _) f6 (fun t => absurd t ho) f4 (fun x hx => rfl)
        refine zr_isOf g1 g5 g7 hT (fun ho => br_f (by decide) ⟨vp_in_nI t12 (by decide), ?_⟩) (fun ho => br_t rfl (w117 (fun t => absurd t ho)))
        rw [nI_clamp (show e 1 a < 2 ^ 31 by omega), b7 _ g3]
        by_cases hvE : e 1 a ∈ En
        · rw [if_pos hvE]
          have := (b4 _ hvE).2.1
          exact br_t (nI_pos' (by omega)) (w117 (fun _ => hvE))
        · rw [if_neg hvE]
          have hvP : e 1 a ∉ zp ((n, S) :: F) := fun t => hvE (pE _ t)
          have hPl' : (zp ((n, S) :: F)).length + 1 ≤ 12 := za_pg (L := e 1 a :: zp ((n, S) :: F)) (List.nodup_cons.mpr ⟨hvP, b1⟩) (fun v hv => by
            rcases List.mem_cons.mp hv with q | q
            · rw [q]; exact t12
            · exact v4 v (b2 v q).1)
          have hnv : n ≠ e 1 a := fun t => hvE (t ▸ nE)
          have hne : ∀ x, x ∈ En → x ≠ e 1 a := fun x hx t => hvE (t ▸ hx)
          have hkk : kp n ≤ kp (e 1 a) := by
            have := H1 a aA ho
            rw [aS] at this
            exact this
          refine br_f za_neg' (zw_enter t12 (by omega) (nm_r (za_a1 _) ?_))
          have hhd : a1 (16 + 7 * e 1 a + 3) = za_h (zk A e 0 (e 1 a)) := (v3 0 (e 1 a) (by decide) g3).1
          rw [hhd, zw_updc hnv]
          have hb' := zw_b_push hb0 g3 hvE
          -- the frames below, over the new state
          have c1 : zw_fr a1 (upd a10 (e 1 a) (nI En.length)) (upd a11 (e 1 a) (nI n)) (upd a12 (e 1 a) (za_h (zk A e 0 (e 1 a)))) A e y T kp Kl (e 1 a :: En) (fun x => if x = e 1 a then En.length else en x) (fun x => if x = e 1 a then En.length else lo x) (fun x => if x = e 1 a then zk A e 0 (e 1 a) else rem x) ((n, S) :: F) := by
            refine zw_fr_congr hf0 (fun x hx => ?_) (fun x hx => ⟨List.mem_cons_of_mem _ hx, if_neg (hne x hx)⟩) (fun k hk => hk)
            have := hne x (pE x hx)
            exact ⟨pE x hx, pk_un this, pk_un this, pk_un this, if_neg this, if_neg this⟩
          have hlo : (if n = e 1 a then En.length else lo n) = lo n := if_neg hnv
          have c2 := zw_adv (l := lo n) (a := a) (r := r) (b10 := upd a10 (e 1 a) (nI En.length)) c1 b1 (fun v hv => List.mem_cons_of_mem _ (pE v hv)) (by rw [if_neg hnv]; exact hr) (by rw [hlo]; exact Nat.le_refl _) (by
              obtain ⟨x, x1, x2, x3⟩ := f6
              refine ⟨x, x1, ?_, x3⟩
              have hx : x ∈ zp ((n, S) :: F) := by
                rcases List.mem_append.mp x1 with t | t
                · simp [zp, t]
                · simp at t; simp [zp, t]
              rw [if_neg (hne x (pE x hx))]; exact x2) (fun _ => ⟨by simp, Or.inr (by rw [if_pos rfl]; omega)⟩) ((pk_un hnv).trans f4) (fun x hx => rfl)
          have hz : zp ((e 1 a, []) :: (n, S) :: F) = zp ((n, S) :: F) ++ [e 1 a] := rfl
          have hl' : (zp ((n, S) :: F)).length + 1 = (zp ((e 1 a, []) :: (n, S) :: F)).length := by rw [hz]; simp
          have hEl' : En.length + 1 = (e 1 a :: En).length := rfl
          rw [hl', hEl']
          refine ih ((e 1 a, []) :: (n, S) :: F) Kl (e 1 a :: En) _ (fun x => if x = n then lo n else if x = e 1 a then En.length else lo x) (fun x => if x = n then r else if x = e 1 a then zk A e 0 (e 1 a) else rem x) a7 _ _ _ _ _ (st + 1) ?_ (by omega) (by rw [hz]; exact hb') ⟨⟨by simp, pk_us, ?_, ?_, ?_, ?_, ?_, ?_, by simp⟩, c2⟩ (fun x hx => List.mem_cons_of_mem _ (hE x hx))
          · simp only [zw_mf, if_pos, if_neg (Ne.symm hnv)]
            have h3 := zw_un_push (A := A) (e := e) g3 t12 hvE
            have h4 : zw_mf (fun x => if x = n then r else if x = e 1 a then zk A e 0 (e 1 a) else rem x) F = zw_mf rem F := zw_mf_congr (fun x hx => by
              rw [if_neg (show x ≠ n from fun t => hnF (t ▸ hx)), if_neg (hne x (pE x (by simp [zp, hx])))])
            rw [h4]
            omega
          · intro k S1 F1 hk
            injection hk with hk1 hk2
            injection hk1 with hk1 hk3
            rw [← hk1]; exact hkk
          · rw [pk_us]; simp [Ne.symm hnv]
          · simp [Ne.symm hnv]
          · exact ⟨e 1 a, by simp, by simp [Ne.symm hnv], Nat.le_refl _⟩
          · refine ⟨[], -1, ?_, ?_, by simp⟩
            · simp [Ne.symm hnv]
            · dsimp only
              rw [if_neg (Ne.symm hnv), if_pos rfl]; exact (v3 0 (e 1 a) (by decide) g3).2
          · dsimp only
            rw [if_neg (Ne.symm hnv), if_pos rfl, pk_un (Ne.symm hnv), pk_us]
end
end
section
/-! 08: rounds -/
section
variable {oo pi ck gs wg : Int32} {a1 a2 a3 a4 a5 a6 a7 a8 a9 a10 a11 a12 a13 : Nat → Int32}
theorem zw_54 {post : Int32 → St2 → Prop} {A R K0 : List Nat} {e : Nat → Nat → Nat} {y w kp : Nat → Nat} {T : Nat} (hT : T ≤ 4) (hz : zv a1 A e y w R) (H1 : ∀ a, a ∈ A → zo T y a → kp (e 0 a) ≤ kp (e 1 a))
    (H2 : ∀ u w, u ∈ R → w ∈ R → kp u = kp w → ∀ Z : Nat → Prop, (∀ a, a ∈ A → zo T y a → Z (e 0 a) → Z (e 1 a)) → Z u → Z w) (hK : K0.Nodup) (hK' : ∀ k, k ∈ K0 ↔ ∃ v, v ∈ R ∧ kp v = k)
    (H : ∀ (p' c' g' : Int32) (b7 b9 b10 b11 b12 b13 : Nat → Int32), post (nI K0.length) (oo, p', c', g', wg, a1, a2, a3, a4, a5, a6, b7, a8, b9, b10, b11, b12, b13)) :
    ∀ (m i : Nat) (Kl En : List Nat) (en : Nat → Nat) (a7 a9 a10 a11 a12 a13 : Nat → Int32), i + m = 12 → zw_b a7 a9 a13 A R e y T kp Kl En en [] → (∀ v, v ∈ R → v < i → v ∈ En) →
      wX_rounds_54 post (nI T) (m + 1) (nI i) oo (nI 0) (nI En.length) (nI Kl.length) wg a1 a2 a3 a4 a5 a6 a7 a8 a9 a10 a11 a12 a13 := by
  have hz0 := hz
  obtain ⟨v1, v2, v3, v4, v5⟩ := hz
  intro m
  induction m with
  | zero =>
    intro i Kl En en a7 a9 a10 a11 a12 a13 hi hb hv
    have h12 : i = 12 := by omega
    subst h12
    refine br_t (nI_le (Nat.le_refl _) (by decide)) ?_
    have hl : Kl.length = K0.length := by
      refine za_len hb.2.2.2.2.2.2.2.2.2.1.1 hK (fun k => ?_)
      rw [hK' k]
      constructor
      · exact hb.2.2.2.2.2.2.2.2.2.1.2 k
      · rintro ⟨v, q1, q2⟩
        rcases (hb.2.2.2.1 v (hv v q1 (v4 v q1))).2.2 with t | t
        · exact absurd t (by simp)
        · rw [← q2]; exact t
    rw [hl]
    exact H _ _ _ _ _ _ _ _ _
  | succ m ih =>
    intro i Kl En en a7 a9 a10 a11 a12 a13 hi hb hv
    refine br_f (nI_ge (b := 12) (by omega) (by decide)) (zr_isNode (by omega) (fun hn => ?_) (fun hn => ?_))
    · have hR : i ∈ R := (v5 i (by omega)).mp hn
      obtain ⟨b1, b2, b3, b4, b5, b6, b7, b8, b9, b10, b11⟩ := hb
      refine br_f (by decide) ⟨vp_in_nI (by omega) (by decide), ?_⟩
      rw [nI_clamp (show i < 2 ^ 31 by omega), b7 i hR]
      by_cases q : i ∈ En
      · rw [if_pos q]
        have hE : En.length ≤ 12 := za_pg b5 (fun v hv => v4 v (b4 v hv).1)
        have := (b4 i q).2.1
        refine br_t (nI_pos' (by omega)) (nm_r (za_a1 i) (ih (i + 1) Kl En en a7 a9 a10 a11 a12 a13 (by omega) ⟨b1, b2, b3, b4, b5, b6, b7, b8, b9, b10, b11⟩ (fun v hv1 hv2 => ?_)))
        by_cases t : v = i
        · rw [t]; exact q
        · exact hv v hv1 (by omega)
      · rw [if_neg q]
        refine br_f za_neg' ?_
        unfold wpX_walk
        dsimp only
        refine zw_enter (by omega) (by omega) ?_
        have hhd : a1 (16 + 7 * i + 3) = za_h (zk A e 0 i) := (v3 0 i (by decide) hR).1
        rw [hhd]
        have hb' := zw_b_push (P := []) ⟨b1, b2, b3, b4, b5, b6, b7, b8, b9, b10, b11⟩ hR q
        have hun := zw_un_push (A := A) (e := e) hR (by omega) q
        have hle : zw_un A e R En ≤ 36 := zw_un_le (fun a ha => v4 _ (v2 a ha).2.1) (za_pg v1 (fun a ha => (v2 a ha).1))
        refine ⟨_, zw_loop (En0 := i :: En) hT hz0 H1 H2 ?_ _ [(i, [])] Kl (i :: En) _ (fun _ => En.length) (fun _ => zk A e 0 i) a7 _ _ _ _ _ 0 rfl ?_ hb' ⟨⟨by simp, pk_us, by simp, pk_us, ?_, ?_, ?_, pk_us, by simp⟩, trivial⟩ (fun x hx => hx)⟩
        · intro c7 c9 c10 c11 c12 c13 Kl' En' en' hb2 hE2
          refine nm_r (za_a1 i) (ih (i + 1) Kl' En' en' c7 c9 c10 c11 c12 c13 (by omega) hb2 (fun v hv1 hv2 => ?_))
          refine hE2 v ?_
          by_cases t : v = i
          · rw [t]; simp
          · exact List.mem_cons_of_mem _ (hv v hv1 (by omega))
        · simp only [zw_mf]
          omega
        · dsimp only
          rw [if_pos rfl]; exact Nat.le_refl _
        · exact ⟨i, by simp, by simp, Nat.le_refl _⟩
        · exact ⟨[], -1, by simp, (v3 0 i (by decide) hR).2, by simp⟩
    · have hR : i ∉ R := fun z => hn ((v5 i (by omega)).mpr z)
      refine br_t rfl (nm_r (za_a1 i) (ih (i + 1) Kl En en a7 a9 a10 a11 a12 a13 (by omega) hb (fun v hv1 hv2 => ?_)))
      by_cases t : v = i
      · exact absurd (t ▸ hv1) hR
      · exact hv v hv1 (by omega)
theorem zw_rounds {post : Int32 → St2 → Prop} {A R K0 : List Nat} {e : Nat → Nat → Nat} {y w kp : Nat → Nat} {T : Nat} (hT : T ≤ 4) (hz : zv a1 A e y w R) (H1 : ∀ a, a ∈ A → zo T y a → kp (e 0 a) ≤ kp (e 1 a))
    (H2 : ∀ u w, u ∈ R → w ∈ R → kp u = kp w → ∀ Z : Nat → Prop, (∀ a, a ∈ A → zo T y a → Z (e 0 a) → Z (e 1 a)) → Z u → Z w) (hK : K0.Nodup) (hK' : ∀ k, k ∈ K0 ↔ ∃ v, v ∈ R ∧ kp v = k)
    (H : ∀ (p' c' g' : Int32) (b7 b9 b10 b11 b12 b13 : Nat → Int32), post (nI K0.length) (oo, p', c', g', wg, a1, a2, a3, a4, a5, a6, b7, a8, b9, b10, b11, b12, b13)) :
    wpX_rounds post (oo, pi, ck, gs, wg, a1, a2, a3, a4, a5, a6, a7, a8, a9, a10, a11, a12, a13) (nI T) := by
  unfold wpX_rounds
  dsimp only
  refine zr_isType hT (br_f (by decide) ?_)
  refine pk_loop (fun n i s => wX_rounds_26 post (nI T) oo 0 0 0 wg n (nI i) a1 a2 a3 a4 a5 a6 (s.1) a8 (s.2) a10 a11 a12 a13) (fun i s => ∀ v, v < i → s.1 v = 0 ∧ s.2 v = -1) 12 0 (a7, a9) (by omega) (fun v hv => absurd hv (by omega)) ?_ ?_
  · intro n s hI
    refine br_t (nI_le (Nat.le_refl _) (by decide)) ⟨13, ?_⟩
    refine zw_54 hT hz H1 H2 hK hK' H 12 0 [] [] (fun _ => 0) _ _ _ _ _ _ (by omega) ⟨by simp, by simp, by simp, by simp, by simp, by simp, fun v hv => ?_, fun v hv => ?_, by simp, by simp, by simp⟩ (fun v _ hv => absurd hv (by omega))
    · rw [(hI v (hz.2.2.2.1 v hv)).2]; simp
    · rw [(hI v (hz.2.2.2.1 v hv)).1]; simp
  · intro n i s hi hI hw
    refine br_f (nI_ge hi (by decide)) (za_st i rfl hi (za_st i rfl hi (nm_r (za_a1 i) (hw (upd s.1 i 0, upd s.2 i (-1)) (fun v hv => ?_)))))
    by_cases q : v = i
    · subst q
      exact ⟨pk_us, pk_us⟩
    · obtain ⟨q1, q2⟩ := hI v (by omega)
      exact ⟨(pk_un q).trans q1, (pk_un q).trans q2⟩
end
end
section
/-! 09: sets of arrows as bits; chains, degree (the first rows are out of kit/laws/BITS.to-paste, renamed) -/
def zi_b (x : Int32) (i : Nat) : Bool := x.toBitVec.getLsbD i
theorem zi_ext {x y : Int32} (h : ∀ i, i < 32 → zi_b x i = zi_b y i) : x = y := Int32.toBitVec_inj.mp (BitVec.eq_of_getLsbD_eq (fun i hi => h i hi))
theorem zi_or (x y : Int32) (i : Nat) : zi_b (x ||| y) i = (zi_b x i || zi_b y i) := by unfold zi_b; rw [Int32.toBitVec_or, BitVec.getLsbD_or]
theorem zi_and (x y : Int32) (i : Nat) : zi_b (x &&& y) i = (zi_b x i && zi_b y i) := by unfold zi_b; rw [Int32.toBitVec_and, BitVec.getLsbD_and]
theorem zi_0 (i : Nat) : zi_b 0 i = false := BitVec.getLsbD_zero
theorem zi_1 : ∀ i, i < 32 → zi_b 1 i = decide (i = 0) := by decide +kernel
theorem zi_sl : ∀ n, n < 32 → ((nI n &&& 31).toBitVec.smod 32).toNat = n := by decide +kernel
theorem zi_shl (n : Nat) (hn : n < 32) (x : Int32) {i : Nat} (hi : i < 32) : zi_b (x <<< (nI n &&& 31)) i = (decide (n ≤ i) && zi_b x (i - n)) := by
  unfold zi_b
  rw [Int32.toBitVec_shiftLeft]
  show (x.toBitVec <<< ((nI n &&& 31).toBitVec.smod 32).toNat).getLsbD i = _
  rw [zi_sl n hn, BitVec.getLsbD_shiftLeft]
  rcases Nat.lt_or_ge i n with h | h
  · simp [h, Nat.not_le.mpr h]
  · simp [hi, h, Nat.not_lt.mpr h]
theorem zi_sshr (n : Nat) (hn : n < 32) (x : Int32) {i : Nat} (hi : i < 32) : zi_b (x >>> (nI n &&& 31)) i = if n + i < 32 then zi_b x (n + i) else zi_b x 31 := by
  unfold zi_b
  rw [Int32.toBitVec_shiftRight]
  show (x.toBitVec.sshiftRight ((nI n &&& 31).toBitVec.smod 32).toNat).getLsbD i = _
  rw [zi_sl n hn, BitVec.getLsbD_sshiftRight, BitVec.msb_eq_getLsbD_last]
  simp [hi]
theorem zi_bit (x : Int32) {k : Nat} (hk : k < 32) : (x >>> (nI k &&& 31)) &&& 1 = if zi_b x k = true then 1 else 0 := by
  apply zi_ext
  intro i hi
  rw [zi_and, zi_sshr k hk x hi, zi_1 i hi]
  by_cases q : i = 0
  · subst q
    rw [if_pos (by omega)]
    cases h : zi_b x k <;> simp [h, zi_0, zi_1]
  · cases h : zi_b x k
    · simp [q, zi_0]
    · simp [q, zi_1 i hi]
theorem zi_one {a i : Nat} (ha : a < 32) (hi : i < 32) : zi_b ((1 : Int32) <<< (nI a &&& 31)) i = decide (i = a) := by
  rw [zi_shl a ha 1 hi]
  by_cases q : i = a
  · subst q
    simp [zi_1]
  · rcases Nat.lt_or_ge i a with h | h
    · simp [q, Nat.not_le.mpr h]
    · rw [zi_1 _ (by omega)]
      simp [q]; omega
theorem zi_ones {post : Int32 → Prop} {S : Int32} (H : post (nI (za_cnt (fun k => zi_b S k) 24))) : wpX_ones post () S := by
  refine pk_loop (fun n i s => wX_ones_4 post S n s (nI i)) (fun i s => s = nI (za_cnt (fun k => zi_b S k) i)) 24 0 0 (by omega) rfl ?_ ?_
  · intro n s h
    rw [h]
    exact br_t (nI_le (Nat.le_refl _) (by decide)) H
  · intro n i s hi h hw
    refine br_f (nI_ge hi (by decide)) (nm_r (e' := nI (za_cnt (fun k => zi_b S k) (i + 1))) ?_ (nm_r (za_a1 i) (hw _ rfl)))
    rw [h, zi_bit S (by omega)]
    simp only [za_cnt]
    split
    · exact za_a1 _
    · exact za_a0 _
section
variable {oo pi ck gs wg : Int32} {a1 a2 a3 a4 a5 a6 a7 a8 a9 a10 a11 a12 a13 : Nat → Int32}
theorem zi_go {post : Int32 → Prop} {y : Nat → Nat} {T s : Nat} (hT : T ≤ 4) (hs : s < 2) :
    ∀ (L : List Nat) (k : Nat) (p X : Int32), zl a1 s p L → (∀ a, a ∈ L → a < 24 ∧ a1 (100 + 10 * a + 3) = nI (y a) ∧ y a ≤ 3) → k + L.length ≤ 24 →
      (∀ S : Int32, (∀ i, i < 24 → zi_b S i = (zi_b X i || decide (i ∈ L ∧ (T = 4 ∨ y i = T)))) → post S) →
      wX_along_21 post (nI T) (nI s) oo pi ck gs wg a1 a2 a3 a4 a5 a6 a7 a8 a9 a10 a11 a12 a13 (L.length + 1) X (za_h L) (nI k)
  | [], k, p, X, hl, hL, hk, H => by
    have := H X (fun i hi => by simp)
    exact br_c (fun _ => this) (fun _ => br_t za_neg this)
  | a :: L, k, p, X, hl, hL, hk, H => by
    obtain ⟨l1, l2, l3⟩ := hl
    obtain ⟨g1, g2, g3⟩ := hL a (by simp)
    have hk' : k + (L.length + 1) ≤ 24 := by simpa using hk
    have step : ∀ z : Int32, (∀ i, i < 24 → zi_b z i = decide (i = a ∧ (T = 4 ∨ y a = T))) → wX_along_53 post (wX_along_21 post (nI T) (nI s) oo pi ck gs wg a1 a2 a3 a4 a5 a6 a7 a8 a9 a10 a11 a12 a13 (L.length + 1)) (nI T) (nI s) (nI a) (nI k) z X oo pi ck gs wg a1 a2 a3 a4 a5 a6 a7 a8 a9 a10 a11 a12 a13 := by
      intro z hz
      refine nm_e (za_ac ?_)
      rw [za_a5, nI_add, nI_clamp (show 100 + 10 * a + 5 + s < 2 ^ 31 by omega), l2]
      refine ⟨vp_in_nI (by omega) (by decide), nm_e (nm_r (za_a1 k) ?_)⟩
      refine zi_go hT hs L (k + 1) (nI a) (X ||| z) l3 (fun b hb => hL b (by simp [hb])) (by omega) (fun S hS => H S (fun i hi => ?_))
      rw [hS i hi, zi_or, hz i hi, Bool.or_assoc]
      congr 1
      by_cases q : i = a
      · subst q; simp
      · simp [q]
    show wX_along_21 post (nI T) (nI s) oo pi ck gs wg a1 a2 a3 a4 a5 a6 a7 a8 a9 a10 a11 a12 a13 (L.length + 1 + 1) X (nI a) (nI k)
    refine br_f (nI_ge (b := 24) (by omega) (by decide)) (br_f (nI_pos (by omega)) (zr_isOf g1 g2 g3 hT (fun ho => br_f (by decide) (step _ (fun i hi => ?_))) (fun ho => br_t rfl (step 0 (fun i hi => ?_)))))
    · rw [zi_one (by omega) (by omega)]
      have : T = 4 ∨ y a = T := ho
      simp [this]
    · have : ¬ (T = 4 ∨ y a = T) := ho
      rw [zi_0]; simp [this]
theorem zi_along {post : Int32 → Prop} {A R : List Nat} {e : Nat → Nat → Nat} {y w : Nat → Nat} {T s n : Nat} (hT : T ≤ 4) (hs : s < 2) (hz : zv a1 A e y w R) (hn : n ∈ R)
    (H : ∀ S : Int32, (∀ i, i < 24 → zi_b S i = decide (i ∈ zk A e s n ∧ (T = 4 ∨ y i = T))) → post S) : wpX_along post (oo, pi, ck, gs, wg, a1, a2, a3, a4, a5, a6, a7, a8, a9, a10, a11, a12, a13) (nI n) (nI T) (nI s) := by
  obtain ⟨v1, v2, v3, v4, v5⟩ := hz
  have n12 := v4 n hn
  obtain ⟨c1, c2⟩ := v3 s n hs hn
  have hLl : (zk A e s n).length ≤ 24 := za_pg (zk_nodup v1) (fun x hx => (v2 x (zk_mem.mp hx).1).1)
  unfold wpX_along
  dsimp only
  refine za_na ?_
  rw [za_a3, nI_add, nI_clamp (show 16 + 7 * n + 3 + s < 2 ^ 31 by omega), c1]
  refine ⟨vp_in_nI (by omega) (by decide), nm_e ⟨(zk A e s n).length + 1, ?_⟩⟩
  refine zi_go (y := y) hT hs (zk A e s n) 0 (-1) 0 c2 (fun a ha => ?_) (by omega) (fun S hS => H S (fun i hi => ?_))
  · obtain ⟨g1, g2, g3, g4, g5, g6, g7, g8⟩ := v2 a (zk_mem.mp ha).1
    exact ⟨g1, g5, g7⟩
  · rw [hS i hi, zi_0, Bool.false_or]
/-- in and out arrows at a node, as numbers -/
def zi_n (A : List Nat) (e : Nat → Nat → Nat) (y : Nat → Nat) (s b T : Nat) : Nat := za_cnt (fun k => decide (k ∈ zk A e s b ∧ (T = 4 ∨ y k = T))) 24
def zi_m (A : List Nat) (e : Nat → Nat → Nat) (y : Nat → Nat) (b T U : Nat) : Nat := za_cnt (fun k => decide (k ∈ zk A e 1 b ∧ (T = 4 ∨ y k = T)) && decide (k ∈ zk A e 0 b ∧ (U = 4 ∨ y k = U))) 24
theorem zi_chains {post : Int32 → Prop} {A R : List Nat} {e : Nat → Nat → Nat} {y w lb g : Nat → Nat} {T U l : Nat} (hT : T ≤ 4) (hU : U ≤ 4) (hl : l ≤ 7) (hz : zv a1 A e y w R) (hlb : ∀ b, b ∈ R → a1 (16 + 7 * b + 1) = nI (lb b))
    (hg0 : ∀ b, b < 12 → ¬ (b ∈ R ∧ nI (lb b) &&& nI l = nI l) → g b = 0) (hg1 : ∀ b, b ∈ R → nI (lb b) &&& nI l = nI l → zi_n A e y 1 b T * zi_n A e y 0 b U = g b + zi_m A e y b T U)
    (H : post (nI (za_sm g 12))) : wpX_chains post (oo, pi, ck, gs, wg, a1, a2, a3, a4, a5, a6, a7, a8, a9, a10, a11, a12, a13) (nI T) (nI U) (nI l) := by
  unfold wpX_chains
  dsimp only
  refine zr_isType hT (br_f (by decide) (zr_isType hU (br_f (by decide) (br_f (nI_pos (by omega)) (br_t (nI_le (b := 7) hl (by decide)) ?_)))))
  refine pk_loop (fun n i s => wX_chains_32 post (nI T) (nI U) (nI l) oo pi ck gs wg a1 a2 a3 a4 a5 a6 a7 a8 a9 a10 a11 a12 a13 n s (nI i)) (fun i s => s = nI (za_sm g i)) 12 0 0 (by omega) rfl ?_ ?_
  · intro n s h
    rw [h]
    exact br_t (nI_le (Nat.le_refl _) (by decide)) H
  · intro n i s hi h hw
    have v5 := hz.2.2.2.2 i hi
    have next : g i = 0 → ∀ x5, x5 = nI i + 1 → wX_chains_32 post (nI T) (nI U) (nI l) oo pi ck gs wg a1 a2 a3 a4 a5 a6 a7 a8 a9 a10 a11 a12 a13 n s x5 := by
      intro h0
      refine nm_r (za_a1 i) (hw s ?_)
      rw [h]
      simp only [za_sm]
      rw [h0, Nat.add_zero]
    refine br_f (nI_ge hi (by decide)) (zr_isNode hi (fun hn => ?_) (fun hn => br_t rfl (next (hg0 i hi (fun z => hn (v5.mpr z.1))))))
    have hR := v5.mp hn
    refine br_f (by decide) (za_na ?_)
    rw [za_a1, nI_clamp (show 16 + 7 * i + 1 < 2 ^ 31 by omega), hlb i hR]
    refine ⟨vp_in_nI (by omega) (by decide), br_c (fun hc => ?_) (fun hc => next (hg0 i hi (fun z => hc z.2)))⟩
    refine zi_along (s := 1) hT (by omega) hz hR (fun S1 h1 => zi_along (s := 0) hU (by omega) hz hR (fun S0 h0 => zi_ones (zi_ones (zi_ones ?_))))
    have e1 : za_cnt (fun k => zi_b S1 k) 24 = zi_n A e y 1 i T := za_cnt_congr h1
    have e0 : za_cnt (fun k => zi_b S0 k) 24 = zi_n A e y 0 i U := za_cnt_congr h0
    have e2 : za_cnt (fun k => zi_b (S1 &&& S0) k) 24 = zi_m A e y i T U := za_cnt_congr (fun k hk => by rw [zi_and, h1 k hk, h0 k hk])
    rw [e1, e0, e2, pk_mul, hg1 i hR hc, pk_sub (by omega), h]
    refine nm_r (nI_add _ _) (nm_r (za_a1 i) (hw _ ?_))
    simp only [za_sm]
    rw [show g i + zi_m A e y i T U - zi_m A e y i T U = g i by omega]
theorem zi_degree {post : Int32 → Prop} {A R : List Nat} {e : Nat → Nat → Nat} {y w : Nat → Nat} {n : Nat} (hz : zv a1 A e y w R) (hn : n ∈ R)
    (H : post (nI (za_cnt (fun k => decide (k ∈ A ∧ (e 0 k = n ∨ e 1 k = n))) 24))) : wpX_degree post (oo, pi, ck, gs, wg, a1, a2, a3, a4, a5, a6, a7, a8, a9, a10, a11, a12, a13) (nI n) 4 2 := by
  have n12 := hz.2.2.2.1 n hn
  unfold wpX_degree
  dsimp only
  refine zr_isNode n12 (fun _ => br_f (by decide) (zr_isType (T := 4) (by omega) (br_f (by decide) (br_f (by decide) (br_t (by decide) ?_))))) (fun h => absurd ((hz.2.2.2.2 n n12).mpr hn) h)
  unfold wpX_arrowsOf
  dsimp only
  refine br_f (by decide) (zi_along (s := 0) (T := 4) (by omega) (by omega) hz hn (fun S0 h0 => ?_))
  unfold wX_arrowsOf_16
  refine br_f (by decide) (zi_along (s := 1) (T := 4) (by omega) (by omega) hz hn (fun S1 h1 => zi_ones ?_))
  rw [za_cnt_congr (Q := fun k => decide (k ∈ A ∧ (e 0 k = n ∨ e 1 k = n))) (fun k hk => ?_)]
  · exact H
  · rw [zi_or, h0 k hk, h1 k hk, ← Bool.decide_or]
    simp only [zk_mem]
    by_cases q : k ∈ A <;> simp [q]
end
end
section
/-! 10: the whole picture; chain and arrow, the walk -/
def zf (c : Nat → Int32) (f wd : Nat) : List Nat → Prop
  | [] => True
  | a :: L => c (f + wd * a) = 0 ∧ c (f + wd * a + 5) = za_h L ∧ zf c f wd L
def zg_s (A : List Nat) (e : Nat → Nat → Nat) (y w : Nat → Nat) (R : List Nat) : Prop :=
  A.Nodup ∧ (∀ a, a ∈ A → a < 24 ∧ e 0 a ∈ R ∧ e 1 a ∈ R ∧ y a ≤ 3 ∧ w a ≤ 99) ∧ R.Nodup ∧ (∀ n, n ∈ R → n < 12)
def zg_a (c : Nat → Int32) (A : List Nat) (e : Nat → Nat → Nat) (y w : Nat → Nat) : Prop :=
  ∀ a, a ∈ A → c (100 + 10 * a) = 1 ∧ c (100 + 10 * a + 1) = nI (e 0 a) ∧ c (100 + 10 * a + 2) = nI (e 1 a) ∧ c (100 + 10 * a + 3) = nI (y a) ∧ c (100 + 10 * a + 4) = nI (w a)
def zg_c (c : Nat → Int32) (A : List Nat) (e : Nat → Nat → Nat) (R : List Nat) : Prop :=
  ∀ s n, s < 2 → n ∈ R → c (16 + 7 * n + 3 + s) = za_h (zk A e s n) ∧ zl c s (-1) (zk A e s n)
def zg_n (c : Nat → Int32) (R : List Nat) (lb vl : Nat → Nat) : Prop := ∀ n, n ∈ R → c (16 + 7 * n) = 1 ∧ c (16 + 7 * n + 1) = nI (lb n) ∧ c (16 + 7 * n + 2) = nI (vl n)
def zg_h (c : Nat → Int32) (A : List Nat) (e : Nat → Nat → Nat) (R : List Nat) : Prop := ∀ n, n ∈ R → c (16 + 7 * n + 6) = nI ((zk A e 0 n).length + (zk A e 1 n).length)
def zg_f (c : Nat → Int32) (h f wd N : Nat) (A : List Nat) : Prop := ∃ Fa : List Nat, Fa.Pairwise (fun a b => a < b) ∧ (∀ a, a ∈ Fa ↔ a < N ∧ a ∉ A) ∧ c h = za_h Fa ∧ zf c f wd Fa
def zg_r (c : Nat → Int32) (R : List Nat) (vl : Nat → Nat) : Prop := c 2 = nI R.length ∧ (∀ i n, R[i]? = some n → c (4 + i) = nI n) ∧ R.Pairwise (fun a b => vl a < vl b ∨ vl a = vl b ∧ a < b)
def zg (c : Nat → Int32) (A : List Nat) (e : Nat → Nat → Nat) (y w : Nat → Nat) (R : List Nat) (lb vl : Nat → Nat) : Prop :=
  zg_s A e y w R ∧ zg_a c A e y w ∧ zg_c c A e R ∧ zg_n c R lb vl ∧ zg_h c A e R ∧ zg_f c 1 100 10 24 A ∧ zg_f c 0 16 7 12 R ∧ zg_r c R vl ∧ c 3 = nI A.length
theorem zf_mem {c : Nat → Int32} {f wd : Nat} : ∀ {L : List Nat}, zf c f wd L → ∀ a, a ∈ L → c (f + wd * a) = 0
  | [], _, a, ha => absurd ha (by simp)
  | b :: L, h, a, ha => by
    rcases List.mem_cons.mp ha with z | z
    · rw [z]; exact h.1
    · exact zf_mem h.2.2 a z
theorem zf_congr {c c' : Nat → Int32} {f wd : Nat} : ∀ {L : List Nat}, zf c f wd L → (∀ a, a ∈ L → c' (f + wd * a) = c (f + wd * a) ∧ c' (f + wd * a + 5) = c (f + wd * a + 5)) → zf c' f wd L
  | [], _, _ => trivial
  | b :: L, h, hc => ⟨(hc b (by simp)).1.trans h.1, (hc b (by simp)).2.trans h.2.1, zf_congr h.2.2 (fun a ha => hc a (by simp [ha]))⟩
theorem zl_congr {c c' : Nat → Int32} {s : Nat} : ∀ {L : List Nat} {p : Int32}, zl c s p L → (∀ a, a ∈ L → c' (100 + 10 * a + 7 + s) = c (100 + 10 * a + 7 + s) ∧ c' (100 + 10 * a + 5 + s) = c (100 + 10 * a + 5 + s)) → zl c' s p L
  | [], _, _, _ => trivial
  | b :: L, p, h, hc => ⟨(hc b (by simp)).1.trans h.1, (hc b (by simp)).2.trans h.2.1, zl_congr h.2.2 (fun a ha => hc a (by simp [ha]))⟩
/-- another one stands before the first -/
theorem zl_re {c c' : Nat → Int32} {s : Nat} {L : List Nat} {p p' : Int32} (h : zl c s p L) (hn : ∀ a, a ∈ L → c' (100 + 10 * a + 5 + s) = c (100 + 10 * a + 5 + s)) (h0 : ∀ b L', L = b :: L' → c' (100 + 10 * b + 7 + s) = p')
    (hb : ∀ b L', L = b :: L' → ∀ a, a ∈ L' → c' (100 + 10 * a + 7 + s) = c (100 + 10 * a + 7 + s)) : zl c' s p' L := by
  cases L with
  | nil => trivial
  | cons b L => exact ⟨h0 b L rfl, (hn b (by simp)).trans h.2.1, zl_congr h.2.2 (fun a ha => ⟨hb b L rfl a ha, hn a (by simp [ha])⟩)⟩
theorem zg_free1 {c : Nat → Int32} {h f wd N : Nat} {A : List Nat} (hf : zg_f c h f wd N A) {n : Nat} (hn : n < N) (hA : n ∉ A) : c (f + wd * n) = 0 := by
  obtain ⟨Fa, f1, f2, f3, f4⟩ := hf
  exact zf_mem f4 n ((f2 n).mpr ⟨hn, hA⟩)
/-- the least free one is the first -/
theorem zg_least {c : Nat → Int32} {h f wd N a : Nat} {A : List Nat} (hf : zg_f c h f wd N A) (ha : a < N) (hA : a ∉ A) (hl : ∀ b, b < a → b ∈ A) :
    c h = nI a ∧ ∃ Fa : List Nat, (a :: Fa).Pairwise (fun a b => a < b) ∧ (∀ b, b ∈ a :: Fa ↔ b < N ∧ b ∉ A) ∧ c (f + wd * a + 5) = za_h Fa ∧ zf c f wd Fa := by
  obtain ⟨Fa, f1, f2, f3, f4⟩ := hf
  cases Fa with
  | nil => exact absurd ((f2 a).mpr ⟨ha, hA⟩) (by simp)
  | cons b F =>
    have hb := (f2 b).mp (by simp)
    have e : b = a := by
      rcases List.mem_cons.mp ((f2 a).mpr ⟨ha, hA⟩) with z | z
      · exact z.symm
      · have := (List.pairwise_cons.mp f1).1 a z
        exact absurd (hl b this) hb.2
    subst e
    exact ⟨f3, F, f1, f2, f4.2.1, f4.2.2⟩
theorem zg_v {c : Nat → Int32} {A R : List Nat} {e : Nat → Nat → Nat} {y w lb vl : Nat → Nat} (h : zg c A e y w R lb vl) : zv c A e y w R := by
  obtain ⟨⟨s1, s2, s3, s4⟩, ha, hc, hn, hh, hf, hfn, hr, hm⟩ := h
  refine ⟨s1, fun a haA => ?_, hc, s4, fun n hn' => ⟨fun z => ?_, fun z => (hn n z).1⟩⟩
  · obtain ⟨p1, p2, p3, p4, p5⟩ := s2 a haA
    obtain ⟨q1, q2, q3, q4, q5⟩ := ha a haA
    exact ⟨p1, p2, p3, q3, q4, q5, p4, p5⟩
  · apply Classical.byContradiction
    intro q
    rw [zg_free1 hfn hn' q] at z
    exact absurd z (by decide)
def zbf (c : Nat → Int32) (s : Nat) (L : List Nat) (v : Int32) : Nat → Int32 := match L with
  | [] => c
  | b :: _ => upd c (100 + 10 * b + 7 + s) v
def zch (c : Nat → Int32) (a s n : Nat) (L : List Nat) : Nat → Int32 := upd (zbf (upd (upd c (100 + 10 * a + 5 + s) (za_h L)) (100 + 10 * a + 7 + s) (-1)) s L (nI a)) (16 + 7 * n + 3 + s) (nI a)
def zinc (c : Nat → Int32) (x : Nat) (v : Int32) : Nat → Int32 := upd c x (c x + v)
def zar1 (c : Nat → Int32) (a n m ty wt : Nat) : Nat → Int32 := upd (upd (upd (upd (upd (upd c 1 (c (100 + 10 * a + 5))) (100 + 10 * a) 1) (100 + 10 * a + 1) (nI n)) (100 + 10 * a + 2) (nI m)) (100 + 10 * a + 3) (nI ty)) (100 + 10 * a + 4) (nI wt)
def zar (c : Nat → Int32) (a n m ty wt : Nat) (L0 L1 : List Nat) : Nat → Int32 := zinc (zinc (zinc (zch (zch (zar1 c a n m ty wt) a 0 n L0) a 1 m L1) (16 + 7 * n + 6) 1) (16 + 7 * m + 6) 1) 3 1
theorem zbf_ne {c : Nat → Int32} {s x : Nat} {L : List Nat} {v : Int32} (h : ∀ b, b ∈ L → x ≠ 100 + 10 * b + 7 + s) : zbf c s L v x = c x := by
  cases L with
  | nil => rfl
  | cons b L => exact pk_un (h b (by simp))
section
variable {oo pi ck gs wg : Int32} {a1 a2 a3 a4 a5 a6 a7 a8 a9 a10 a11 a12 a13 : Nat → Int32}
theorem zs_chain {post : St2 → Prop} {o a s n : Nat} {B : Nat → Nat → Int32} {L : List Nat} (ht : zt o a1 a2 a3 a4 a5 B) (ha : a < 24) (hs : s < 2) (hn : n < 12) (hL : ∀ b, b ∈ L → b < 24)
    (h1 : a1 (100 + 10 * a + 1 + s) = nI n) (h2 : a1 (16 + 7 * n + 3 + s) = za_h L)
    (H : ∀ b2 b3 b4 b5, zt o (zch a1 a s n L) b2 b3 b4 b5 B → post (nI o, pi, ck, gs, wg, zch a1 a s n L, b2, b3, b4, b5, a6, a7, a8, a9, a10, a11, a12, a13)) : wpX_chain post (nI o, pi, ck, gs, wg, a1, a2, a3, a4, a5, a6, a7, a8, a9, a10, a11, a12, a13) (nI a) (nI s) := by
  unfold wpX_chain
  refine za_ac ?_
  rw [za_a1, nI_add, nI_clamp (show 100 + 10 * a + 1 + s < 2 ^ 31 by omega), h1]
  refine ⟨vp_in_nI (by omega) (by decide), za_na (nm_r (e' := nI (16 + 7 * n + 3 + s)) (by rw [za_a3, nI_add]) ?_)⟩
  rw [nI_clamp (show 16 + 7 * n + 3 + s < 2 ^ 31 by omega), h2]
  refine ⟨vp_in_nI (by omega) (by decide), nm_e (zt_put (100 + 10 * a + 5 + s) (by rw [za_a5, nI_add]) ht (by omega) (fun b2 b3 b4 b5 ht => zt_put (100 + 10 * a + 7 + s) (by rw [za_a7, nI_add]) ht (by omega) (fun b2 b3 b4 b5 ht => ?_)))⟩
  cases L with
  | nil => exact br_t za_neg (zt_put (16 + 7 * n + 3 + s) rfl ht (by omega) H)
  | cons b L =>
    have hb := hL b (by simp)
    exact br_f (za_h_pos (by omega)) (za_ac (zt_put (100 + 10 * b + 7 + s) (by rw [za_a7, nI_add]) ht (by omega) (fun b2 b3 b4 b5 ht => zt_put (16 + 7 * n + 3 + s) rfl ht (by omega) H)))
theorem zs_arrow {post : Int32 → St2 → Prop} {o a n m ty wt : Nat} {B : Nat → Nat → Int32} {L0 L1 : List Nat} (ht : zt o a1 a2 a3 a4 a5 B) (ha : a < 24) (hn : n < 12) (hm : m < 12) (hty : ty ≤ 3) (hwt : wt ≤ 99)
    (hN : a1 (16 + 7 * n) = 1) (hM : a1 (16 + 7 * m) = 1) (h1 : a1 1 = nI a) (h0 : a1 (16 + 7 * n + 3) = za_h L0) (h0' : a1 (16 + 7 * m + 4) = za_h L1) (hL0 : ∀ b, b ∈ L0 → b < 24) (hL1 : ∀ b, b ∈ L1 → b < 24)
    (H : ∀ b2 b3 b4 b5, zt o (zar a1 a n m ty wt L0 L1) b2 b3 b4 b5 B → post (nI a) (nI o, pi, ck, gs, wg, zar a1 a n m ty wt L0 L1, b2, b3, b4, b5, a6, a7, a8, a9, a10, a11, a12, a13)) : wpX_arrow post (nI o, pi, ck, gs, wg, a1, a2, a3, a4, a5, a6, a7, a8, a9, a10, a11, a12, a13) (nI (12 * n + m)) (nI ty) (nI wt) := by
  unfold wpX_arrow
  rw [zr_rem hn hm, zr_div hn hm]
  refine zr_areEnds hn hm (fun _ _ => br_f (by decide) (br_f (nI_pos (by omega)) (br_f (nI_nlt (a := 3) (b := ty) hty (by decide)) (br_f (nI_pos (by omega)) (br_t (nI_le (b := 99) hwt (by decide)) (nm_r h1 (br_t (nI_pos' (by omega)) (za_ac ?_)))))))) (fun z => absurd ⟨hN, hM⟩ z)
  rw [za_a5, nI_clamp (show 100 + 10 * a + 5 < 2 ^ 31 by omega)]
  refine ⟨vp_in_nI (by omega) (by decide), zt_put 1 rfl ht (by omega) (fun b2 b3 b4 b5 ht => zt_put (100 + 10 * a) (za_a0 _) ht (by omega) (fun b2 b3 b4 b5 ht => ⟨by decide, zt_put (100 + 10 * a + 1) (za_a1 _) ht (by omega) (fun b2 b3 b4 b5 ht => ⟨by decide, zt_put (100 + 10 * a + 2) (by rw [za_a1, za_a1]) ht (by omega) (fun b2 b3 b4 b5 ht => zt_put (100 + 10 * a + 3) (za_a3 _) ht (by omega) (fun b2 b3 b4 b5 ht => zt_put (100 + 10 * a + 4) (za_a4 _) ht (by omega) (fun b2 b3 b4 b5 ht => ?_)))⟩)⟩))⟩
  refine zs_chain (s := 0) (n := n) (L := L0) ht ha (by omega) hn hL0 ?_ ?_ (fun b2 b3 b4 b5 ht => ?_)
  · rw [pk_un (by omega), pk_un (by omega), pk_un (by omega)]; exact pk_us
  · rw [pk_un (by omega), pk_un (by omega), pk_un (by omega), pk_un (by omega), pk_un (by omega), pk_un (by omega)]; exact h0
  refine zs_chain (s := 1) (n := m) (L := L1) ht ha (by omega) hm hL1 ?_ ?_ (fun b2 b3 b4 b5 ht => ?_)
  · unfold zch
    rw [pk_un (by omega), zbf_ne (fun b hb => by have := hL0 b hb; omega), pk_un (by omega), pk_un (by omega), pk_un (by omega), pk_un (by omega)]; exact pk_us
  · unfold zch
    rw [pk_un (by omega), zbf_ne (fun b hb => by have := hL0 b hb; omega), pk_un (by omega), pk_un (by omega), pk_un (by omega), pk_un (by omega), pk_un (by omega), pk_un (by omega), pk_un (by omega), pk_un (by omega)]; exact h0'
  refine ⟨by decide, za_na (zt_add (16 + 7 * n + 6) (za_a6 _) ht (by omega) (fun b2 b3 b4 b5 ht => ⟨by decide, za_na (zt_add (16 + 7 * m + 6) (za_a6 _) ht (by omega) (fun b2 b3 b4 b5 ht => zt_add 3 rfl ht (by omega) H))⟩))⟩
end
end
section
/-! 11: the picture after arrow -/
theorem zbf_ne' {c : Nat → Int32} {s x : Nat} {L : List Nat} {v : Int32} (h : ∀ b L', L = b :: L' → x ≠ 100 + 10 * b + 7 + s) : zbf c s L v x = c x := by
  cases L with
  | nil => rfl
  | cons b L => exact pk_un (h b L rfl)
theorem zk_cons_t {A : List Nat} {e e' : Nat → Nat → Nat} {s n a : Nat} (h : e' s a = n) (he : ∀ b, b ∈ A → e' s b = e s b) : zk (a :: A) e' s n = a :: zk A e s n := by
  unfold zk
  rw [List.filter_cons_of_pos (by simp [h])]
  congr 1
  exact List.filter_congr (fun b hb => by rw [he b hb])
theorem zk_cons_f {A : List Nat} {e e' : Nat → Nat → Nat} {s n a : Nat} (h : e' s a ≠ n) (he : ∀ b, b ∈ A → e' s b = e s b) : zk (a :: A) e' s n = zk A e s n := by
  unfold zk
  rw [List.filter_cons_of_neg (by simp [h])]
  exact List.filter_congr (fun b hb => by rw [he b hb])
section
variable {c : Nat → Int32} {A R : List Nat} {e e' : Nat → Nat → Nat} {y w y' w' lb vl : Nat → Nat} {a n m ty wt : Nat} {L0 L1 : List Nat}
theorem zar_fr {x : Nat} (h3 : x ≠ 3) (h1 : x ≠ 1) (hm6 : x ≠ 16 + 7 * m + 6) (hn6 : x ≠ 16 + 7 * n + 6) (hm4 : x ≠ 16 + 7 * m + 4) (hn3 : x ≠ 16 + 7 * n + 3) (ha : x < 100 + 10 * a ∨ 100 + 10 * a + 9 ≤ x)
    (hL0 : ∀ b L', L0 = b :: L' → x ≠ 100 + 10 * b + 7) (hL1 : ∀ b L', L1 = b :: L' → x ≠ 100 + 10 * b + 8) : zar c a n m ty wt L0 L1 x = c x := by
  unfold zar zinc zch zar1
  rw [pk_un (by omega), pk_un (by omega), pk_un (by omega), pk_un (by omega), zbf_ne' (fun b L' h => by have := hL1 b L' h; omega), pk_un (by omega), pk_un (by omega), pk_un (by omega), zbf_ne' (fun b L' h => by have := hL0 b L' h; omega), pk_un (by omega), pk_un (by omega), pk_un (by omega), pk_un (by omega), pk_un (by omega), pk_un (by omega), pk_un (by omega), pk_un (by omega)]
theorem zg_arrow (h : zg c A e y w R lb vl) (ha : a < 24) (haA : a ∉ A) (hl : ∀ b, b < a → b ∈ A) (hn : n ∈ R) (hm : m ∈ R) (hty : ty ≤ 3) (hwt : wt ≤ 99) (he : ∀ s b, b ∈ A → e' s b = e s b) (hy : ∀ b, b ∈ A → y' b = y b) (hw : ∀ b, b ∈ A → w' b = w b)
    (he0 : e' 0 a = n) (he1 : e' 1 a = m) (hya : y' a = ty) (hwa : w' a = wt) : zg (zar c a n m ty wt (zk A e 0 n) (zk A e 1 m)) (a :: A) e' y' w' R lb vl := by
  obtain ⟨⟨s1, s2, s3, s4⟩, gA, gC, gN, gH, gF, gFn, gR, gM⟩ := h
  have n12 := s4 n hn
  have m12 := s4 m hm
  have ne : ∀ b, b ∈ A → b ≠ a := fun b hb q => haA (q ▸ hb)
  have l0 : ∀ b L', zk A e 0 n = b :: L' → b < 24 ∧ b ≠ a := fun b L' q => by
    have : b ∈ zk A e 0 n := by rw [q]; simp
    exact ⟨(s2 b (zk_mem.mp this).1).1, ne b (zk_mem.mp this).1⟩
  have l1 : ∀ b L', zk A e 1 m = b :: L' → b < 24 ∧ b ≠ a := fun b L' q => by
    have : b ∈ zk A e 1 m := by rw [q]; simp
    exact ⟨(s2 b (zk_mem.mp this).1).1, ne b (zk_mem.mp this).1⟩
  obtain ⟨_, Fa, F1, F2, F3, F4⟩ := zg_least gF ha haA hl
  have hRl : R.length ≤ 12 := za_pg s3 s4
  refine ⟨⟨List.nodup_cons.mpr ⟨haA, s1⟩, fun b hb => ?_, s3, s4⟩, fun b hb => ?_, fun s n' hs hn' => ?_, fun n' hn' => ?_, fun n' hn' => ?_, ⟨Fa, (List.pairwise_cons.mp F1).2, fun b => ?_, ?_, zf_congr F4 (fun b hb => ?_)⟩, ?_, ⟨?_, fun i n' hi => ?_, gR.2.2⟩, ?_⟩
  · rcases List.mem_cons.mp hb with z | z
    · subst z
      rw [he0, he1, hya, hwa]
      exact ⟨ha, hn, hm, hty, hwt⟩
    · rw [he 0 b z, he 1 b z, hy b z, hw b z]
      exact s2 b z
  · rcases List.mem_cons.mp hb with z | z
    · subst z
      rw [he0, he1, hya, hwa]
      unfold zar zinc zch zar1
      refine ⟨?_, ?_, ?_, ?_, ?_⟩
      · rw [pk_un (by omega), pk_un (by omega), pk_un (by omega), pk_un (by omega), zbf_ne' (fun b L' h => by have := l1 b L' h; omega), pk_un (by omega), pk_un (by omega), pk_un (by omega), zbf_ne' (fun b L' h => by have := l0 b L' h; omega), pk_un (by omega), pk_un (by omega), pk_un (by omega), pk_un (by omega), pk_un (by omega), pk_un (by omega), pk_us]
      · rw [pk_un (by omega), pk_un (by omega), pk_un (by omega), pk_un (by omega), zbf_ne' (fun b L' h => by have := l1 b L' h; omega), pk_un (by omega), pk_un (by omega), pk_un (by omega), zbf_ne' (fun b L' h => by have := l0 b L' h; omega), pk_un (by omega), pk_un (by omega), pk_un (by omega), pk_un (by omega), pk_un (by omega), pk_us]
      · rw [pk_un (by omega), pk_un (by omega), pk_un (by omega), pk_un (by omega), zbf_ne' (fun b L' h => by have := l1 b L' h; omega), pk_un (by omega), pk_un (by omega), pk_un (by omega), zbf_ne' (fun b L' h => by have := l0 b L' h; omega), pk_un (by omega), pk_un (by omega), pk_un (by omega), pk_un (by omega), pk_us]
      · rw [pk_un (by omega), pk_un (by omega), pk_un (by omega), pk_un (by omega), zbf_ne' (fun b L' h => by have := l1 b L' h; omega), pk_un (by omega), pk_un (by omega), pk_un (by omega), zbf_ne' (fun b L' h => by have := l0 b L' h; omega), pk_un (by omega), pk_un (by omega), pk_un (by omega), pk_us]
      · rw [pk_un (by omega), pk_un (by omega), pk_un (by omega), pk_un (by omega), zbf_ne' (fun b L' h => by have := l1 b L' h; omega), pk_un (by omega), pk_un (by omega), pk_un (by omega), zbf_ne' (fun b L' h => by have := l0 b L' h; omega), pk_un (by omega), pk_un (by omega), pk_us]
    · have b24 := (s2 b z).1
      have bne := ne b z
      rw [he 0 b z, he 1 b z, hy b z, hw b z, zar_fr (by omega) (by omega) (by omega) (by omega) (by omega) (by omega) (by omega) (fun b' L' h => by omega) (fun b' L' h => by omega), zar_fr (by omega) (by omega) (by omega) (by omega) (by omega) (by omega) (by omega) (fun b' L' h => by omega) (fun b' L' h => by omega), zar_fr (by omega) (by omega) (by omega) (by omega) (by omega) (by omega) (by omega) (fun b' L' h => by omega) (fun b' L' h => by omega), zar_fr (by omega) (by omega) (by omega) (by omega) (by omega) (by omega) (by omega) (fun b' L' h => by omega) (fun b' L' h => by omega), zar_fr (by omega) (by omega) (by omega) (by omega) (by omega) (by omega) (by omega) (fun b' L' h => by omega) (fun b' L' h => by omega)]
      exact gA b z
  · -- chains
    have n12' := s4 n' hn'
    obtain ⟨c1, c2⟩ := gC s n' hs hn'
    have hs' : s = 0 ∨ s = 1 := by omega
    rcases hs' with rfl | rfl
    · by_cases q : n' = n
      · subst q
        rw [zk_cons_t he0 (he 0)]
        refine ⟨?_, ?_, ?_, ?_⟩
        · unfold zar zinc zch zar1
          rw [pk_un (by omega), pk_un (by omega), pk_un (by omega), pk_un (by omega), zbf_ne' (fun b L' h => by have := l1 b L' h; omega), pk_un (by omega), pk_un (by omega)]; exact pk_us
        · unfold zar zinc zch zar1
          rw [pk_un (by omega), pk_un (by omega), pk_un (by omega), pk_un (by omega), zbf_ne' (fun b L' h => by have := l1 b L' h; omega), pk_un (by omega), pk_un (by omega), pk_un (by omega), zbf_ne' (fun b L' h => by have := l0 b L' h; omega)]; exact pk_us
        · unfold zar zinc zch zar1
          rw [pk_un (by omega), pk_un (by omega), pk_un (by omega), pk_un (by omega), zbf_ne' (fun b L' h => by have := l1 b L' h; omega), pk_un (by omega), pk_un (by omega), pk_un (by omega), zbf_ne' (fun b L' h => by have := l0 b L' h; omega), pk_un (by omega)]; exact pk_us
        · refine zl_re c2 (fun b hb => ?_) (fun b L' hbL => ?_) (fun b L' hbL b2 hb2 => ?_)
          · have hbA := (zk_mem.mp hb).1
            have := (s2 b hbA).1
            have := ne b hbA
            exact zar_fr (by omega) (by omega) (by omega) (by omega) (by omega) (by omega) (by omega) (fun b' L' h => by omega) (fun b' L' h => by omega)
          · have := l0 b L' hbL
            rw [hbL]
            unfold zar zinc zch zar1
            rw [pk_un (by omega), pk_un (by omega), pk_un (by omega), pk_un (by omega), zbf_ne' (fun b L' h => by have := l1 b L' h; omega), pk_un (by omega), pk_un (by omega), pk_un (by omega)]; exact pk_us
          · have hbA := (zk_mem.mp (show b2 ∈ zk A e 0 n' by rw [hbL]; simp [hb2])).1
            have := (s2 b2 hbA).1
            have := ne b2 hbA
            have hnd := zk_nodup (e := e) (s := 0) (n := n') s1
            rw [hbL] at hnd
            have hb0 : b2 ≠ b := fun t => (List.nodup_cons.mp hnd).1 (t ▸ hb2)
            exact zar_fr (by omega) (by omega) (by omega) (by omega) (by omega) (by omega) (by omega) (fun b' L'' h => by
              rw [hbL] at h
              injection h with h _
              omega) (fun b' L' h => by omega)
      · rw [zk_cons_f (by rw [he0]; exact Ne.symm q) (he 0)]
        refine ⟨(zar_fr (by omega) (by omega) (by omega) (by omega) (by omega) (by omega) (by omega) (fun b' L' h => by omega) (fun b' L' h => by omega)).trans c1, zl_congr c2 (fun b hb => ?_)⟩
        obtain ⟨hbA, hbs⟩ := zk_mem.mp hb
        have := (s2 b hbA).1
        have := ne b hbA
        refine ⟨zar_fr (by omega) (by omega) (by omega) (by omega) (by omega) (by omega) (by omega) (fun b' L' h => ?_) (fun b' L' h => by omega), zar_fr (by omega) (by omega) (by omega) (by omega) (by omega) (by omega) (by omega) (fun b' L' h => by omega) (fun b' L' h => by omega)⟩
        have hb' := (zk_mem.mp (show b' ∈ zk A e 0 n by rw [h]; simp)).2
        have : b ≠ b' := fun t => q (by rw [← hbs, t, hb'])
        omega
    · by_cases q : n' = m
      · subst q
        rw [zk_cons_t he1 (he 1)]
        refine ⟨?_, ?_, ?_, ?_⟩
        · unfold zar zinc zch zar1
          rw [pk_un (by omega), pk_un (by omega), pk_un (by omega)]; exact pk_us
        · unfold zar zinc zch zar1
          rw [pk_un (by omega), pk_un (by omega), pk_un (by omega), pk_un (by omega), zbf_ne' (fun b L' h => by have := l1 b L' h; omega)]; exact pk_us
        · unfold zar zinc zch zar1
          rw [pk_un (by omega), pk_un (by omega), pk_un (by omega), pk_un (by omega), zbf_ne' (fun b L' h => by have := l1 b L' h; omega), pk_un (by omega)]; exact pk_us
        · refine zl_re c2 (fun b hb => ?_) (fun b L' hbL => ?_) (fun b L' hbL b2 hb2 => ?_)
          · have hbA := (zk_mem.mp hb).1
            have := (s2 b hbA).1
            have := ne b hbA
            exact zar_fr (by omega) (by omega) (by omega) (by omega) (by omega) (by omega) (by omega) (fun b' L' h => by omega) (fun b' L' h => by omega)
          · have := l1 b L' hbL
            rw [hbL]
            unfold zar zinc zch zar1
            rw [pk_un (by omega), pk_un (by omega), pk_un (by omega), pk_un (by omega)]; exact pk_us
          · have hbA := (zk_mem.mp (show b2 ∈ zk A e 1 n' by rw [hbL]; simp [hb2])).1
            have := (s2 b2 hbA).1
            have := ne b2 hbA
            have hnd := zk_nodup (e := e) (s := 1) (n := n') s1
            rw [hbL] at hnd
            have hb0 : b2 ≠ b := fun t => (List.nodup_cons.mp hnd).1 (t ▸ hb2)
            exact zar_fr (by omega) (by omega) (by omega) (by omega) (by omega) (by omega) (by omega) (fun b' L' h => by omega) (fun b' L'' h => by
              rw [hbL] at h
              injection h with h _
              omega)
      · rw [zk_cons_f (by rw [he1]; exact Ne.symm q) (he 1)]
        refine ⟨(zar_fr (by omega) (by omega) (by omega) (by omega) (by omega) (by omega) (by omega) (fun b' L' h => by omega) (fun b' L' h => by omega)).trans c1, zl_congr c2 (fun b hb => ?_)⟩
        obtain ⟨hbA, hbs⟩ := zk_mem.mp hb
        have := (s2 b hbA).1
        have := ne b hbA
        refine ⟨zar_fr (by omega) (by omega) (by omega) (by omega) (by omega) (by omega) (by omega) (fun b' L' h => by omega) (fun b' L' h => ?_), zar_fr (by omega) (by omega) (by omega) (by omega) (by omega) (by omega) (by omega) (fun b' L' h => by omega) (fun b' L' h => by omega)⟩
        have hb' := (zk_mem.mp (show b' ∈ zk A e 1 m by rw [h]; simp)).2
        have : b ≠ b' := fun t => q (by rw [← hbs, t, hb'])
        omega
  · have n12' := s4 n' hn'
    rw [zar_fr (by omega) (by omega) (by omega) (by omega) (by omega) (by omega) (by omega) (fun b' L' h => by omega) (fun b' L' h => by omega), zar_fr (by omega) (by omega) (by omega) (by omega) (by omega) (by omega) (by omega) (fun b' L' h => by omega) (fun b' L' h => by omega), zar_fr (by omega) (by omega) (by omega) (by omega) (by omega) (by omega) (by omega) (fun b' L' h => by omega) (fun b' L' h => by omega)]
    exact gN n' hn'
  · -- holds
    have n12' := s4 n' hn'
    have hlen : (zk (a :: A) e' 0 n').length + (zk (a :: A) e' 1 n').length = ((zk A e 0 n').length + (zk A e 1 n').length) + (if n' = n then 1 else 0) + (if n' = m then 1 else 0) := by
      by_cases q0 : n' = n
      · by_cases q1 : n' = m
        · rw [if_pos q0, if_pos q1, zk_cons_t (he0.trans q0.symm) (he 0), zk_cons_t (he1.trans q1.symm) (he 1), List.length_cons, List.length_cons]; omega
        · rw [if_pos q0, if_neg q1, zk_cons_t (he0.trans q0.symm) (he 0), zk_cons_f (by rw [he1]; exact Ne.symm q1) (he 1), List.length_cons]; omega
      · by_cases q1 : n' = m
        · rw [if_neg q0, if_pos q1, zk_cons_f (by rw [he0]; exact Ne.symm q0) (he 0), zk_cons_t (he1.trans q1.symm) (he 1), List.length_cons]; omega
        · rw [if_neg q0, if_neg q1, zk_cons_f (by rw [he0]; exact Ne.symm q0) (he 0), zk_cons_f (by rw [he1]; exact Ne.symm q1) (he 1)]; omega
    have base : zch (zch (zar1 c a n m ty wt) a 0 n (zk A e 0 n)) a 1 m (zk A e 1 m) (16 + 7 * n' + 6) = nI ((zk A e 0 n').length + (zk A e 1 n').length) := by
      rw [← gH n' hn']
      unfold zch zar1
      rw [pk_un (by omega), zbf_ne' (fun b L' h => by have := l1 b L' h; omega), pk_un (by omega), pk_un (by omega), pk_un (by omega), zbf_ne' (fun b L' h => by have := l0 b L' h; omega), pk_un (by omega), pk_un (by omega), pk_un (by omega), pk_un (by omega), pk_un (by omega), pk_un (by omega), pk_un (by omega), pk_un (by omega)]
    rw [hlen]
    unfold zar
    unfold zinc
    rw [pk_un (show 16 + 7 * n' + 6 ≠ 3 by omega)]
    by_cases q0 : n' = n
    · by_cases q1 : n' = m
      · subst q0
        subst q1
        rw [pk_us, pk_us, base, if_pos rfl, za_a1, za_a1]
      · subst q0
        rw [pk_un (by omega), pk_us, base, if_pos rfl, if_neg q1, za_a1]
    · by_cases q1 : n' = m
      · subst q1
        rw [pk_us, pk_un (by omega), base, if_neg q0, if_pos rfl, za_a1]
      · rw [pk_un (by omega), pk_un (by omega), base, if_neg q0, if_neg q1]; rfl
  · rw [List.mem_cons, not_or]
    constructor
    · intro hb
      have := (F2 b).mp (by simp [hb])
      have := (List.pairwise_cons.mp F1).1 b hb
      exact ⟨by omega, by omega, ((F2 b).mp (by simp [hb])).2⟩
    · rintro ⟨q1, q2, q3⟩
      rcases List.mem_cons.mp ((F2 b).mpr ⟨q1, q3⟩) with t | t
      · exact absurd t q2
      · exact t
  · rw [← F3]
    unfold zar zinc zch zar1
    rw [pk_un (by omega), pk_un (by omega), pk_un (by omega), pk_un (by omega), zbf_ne' (fun b L' h => by have := l1 b L' h; omega), pk_un (by omega), pk_un (by omega), pk_un (by omega), zbf_ne' (fun b L' h => by have := l0 b L' h; omega), pk_un (by omega), pk_un (by omega), pk_un (by omega), pk_un (by omega), pk_un (by omega), pk_un (by omega), pk_un (by omega)]; exact pk_us
  · have hb1 := (List.pairwise_cons.mp F1).1 b hb
    have hb2 := (F2 b).mp (by simp [hb])
    exact ⟨zar_fr (by omega) (by omega) (by omega) (by omega) (by omega) (by omega) (by omega) (fun b' L' h => by omega) (fun b' L' h => by omega), zar_fr (by omega) (by omega) (by omega) (by omega) (by omega) (by omega) (by omega) (fun b' L' h => by omega) (fun b' L' h => by omega)⟩
  · obtain ⟨Fn, N1, N2, N3, N4⟩ := gFn
    refine ⟨Fn, N1, N2, (zar_fr (by omega) (by omega) (by omega) (by omega) (by omega) (by omega) (by omega) (fun b' L' h => by omega) (fun b' L' h => by omega)).trans N3, zf_congr N4 (fun b hb => ?_)⟩
    have hb2 := (N2 b).mp hb
    exact ⟨zar_fr (by omega) (by omega) (by omega) (by omega) (by omega) (by omega) (by omega) (fun b' L' h => by omega) (fun b' L' h => by omega), zar_fr (by omega) (by omega) (by omega) (by omega) (by omega) (by omega) (by omega) (fun b' L' h => by omega) (fun b' L' h => by omega)⟩
  · rw [zar_fr (by omega) (by omega) (by omega) (by omega) (by omega) (by omega) (by omega) (fun b' L' h => by omega) (fun b' L' h => by omega)]
    exact gR.1
  · have hi' := (List.getElem?_eq_some_iff.mp hi).1
    rw [zar_fr (by omega) (by omega) (by omega) (by omega) (by omega) (by omega) (by omega) (fun b' L' h => by omega) (fun b' L' h => by omega)]
    exact gR.2.1 i n' hi
  · unfold zar zinc zch zar1
    rw [pk_us, pk_un (by omega), pk_un (by omega), pk_un (by omega), zbf_ne' (fun b L' h => by have := l1 b L' h; omega), pk_un (by omega), pk_un (by omega), pk_un (by omega), zbf_ne' (fun b L' h => by have := l0 b L' h; omega), pk_un (by omega), pk_un (by omega), pk_un (by omega), pk_un (by omega), pk_un (by omega), pk_un (by omega), pk_un (by omega), pk_un (by omega), gM]
    exact za_a1 _
end
section
variable {oo pi ck gs wg : Int32} {a1 a2 a3 a4 a5 a6 a7 a8 a9 a10 a11 a12 a13 : Nat → Int32}
theorem zm_arrow {post : Int32 → St2 → Prop} {o : Nat} {B : Nat → Nat → Int32} {A R : List Nat} {e e' : Nat → Nat → Nat} {y w y' w' lb vl : Nat → Nat} {a n m ty wt : Nat} (ht : zt o a1 a2 a3 a4 a5 B) (h : zg a1 A e y w R lb vl) (ha : a < 24) (haA : a ∉ A) (hl : ∀ b, b < a → b ∈ A) (hn : n ∈ R) (hm : m ∈ R) (hty : ty ≤ 3) (hwt : wt ≤ 99)
    (he : ∀ s b, b ∈ A → e' s b = e s b) (hy : ∀ b, b ∈ A → y' b = y b) (hw : ∀ b, b ∈ A → w' b = w b) (he0 : e' 0 a = n) (he1 : e' 1 a = m) (hya : y' a = ty) (hwa : w' a = wt)
    (H : ∀ c b2 b3 b4 b5, zt o c b2 b3 b4 b5 B → zg c (a :: A) e' y' w' R lb vl → post (nI a) (nI o, pi, ck, gs, wg, c, b2, b3, b4, b5, a6, a7, a8, a9, a10, a11, a12, a13)) : wpX_arrow post (nI o, pi, ck, gs, wg, a1, a2, a3, a4, a5, a6, a7, a8, a9, a10, a11, a12, a13) (nI (12 * n + m)) (nI ty) (nI wt) := by
  have hv := zg_v h
  obtain ⟨v1, v2, v3, v4, v5⟩ := hv
  refine zs_arrow (L0 := zk A e 0 n) (L1 := zk A e 1 m) ht ha (v4 n hn) (v4 m hm) hty hwt ((v5 n (v4 n hn)).mpr hn) ((v5 m (v4 m hm)).mpr hm) ?_ (v3 0 n (by omega) hn).1 (v3 1 m (by omega) hm).1 (fun b hb => (v2 b (zk_mem.mp hb).1).1) (fun b hb => (v2 b (zk_mem.mp hb).1).1) (fun b2 b3 b4 b5 ht => H _ b2 b3 b4 b5 ht (zg_arrow h ha haA hl hn hm hty hwt he hy hw he0 he1 hya hwa))
  exact (zg_least h.2.2.2.2.2.1 ha haA hl).1
end
end
section
/-! 12: unchain, giveBack, cutArrow: the walk -/
theorem za_l_app (p : Int32) : ∀ (K : List Nat) (b : Nat), za_l p (K ++ [b]) = nI b
  | [], b => rfl
  | d :: K, b => za_l_app (nI d) K b
def znx (c : Nat → Int32) (s n : Nat) (L : List Nat) (v : Int32) : Nat → Int32 := match L.getLast? with
  | none => upd c (16 + 7 * n + 3 + s) v
  | some b => upd c (100 + 10 * b + 5 + s) v
theorem znx_nil {c : Nat → Int32} {s n : Nat} {v : Int32} : znx c s n [] v = upd c (16 + 7 * n + 3 + s) v := rfl
theorem znx_app {c : Nat → Int32} {s n b : Nat} {K : List Nat} {v : Int32} : znx c s n (K ++ [b]) v = upd c (100 + 10 * b + 5 + s) v := by
  unfold znx
  rw [List.getLast?_concat]
theorem zc_last (L : List Nat) : L = [] ∨ ∃ K b, L = K ++ [b] := by
  rcases List.eq_nil_or_concat L with h | ⟨K, b, h⟩
  · exact Or.inl h
  · exact Or.inr ⟨K, b, by simpa using h⟩
def zun (c : Nat → Int32) (s n : Nat) (P Q : List Nat) : Nat → Int32 := zbf (znx c s n P (za_h Q)) s Q (za_l (-1) P)
theorem znx_ne {c : Nat → Int32} {s n x : Nat} {L : List Nat} {v : Int32} (h : L = [] → x ≠ 16 + 7 * n + 3 + s) (h2 : ∀ K b, L = K ++ [b] → x ≠ 100 + 10 * b + 5 + s) : znx c s n L v x = c x := by
  rcases zc_last L with q | ⟨K, b, q⟩
  · subst q
    rw [znx_nil]
    exact pk_un (h rfl)
  · subst q
    rw [znx_app]
    exact pk_un (h2 K b rfl)
theorem zun_ne {c : Nat → Int32} {s n x : Nat} {P Q : List Nat} (h : P = [] → x ≠ 16 + 7 * n + 3 + s) (h2 : ∀ K b, P = K ++ [b] → x ≠ 100 + 10 * b + 5 + s) (h3 : ∀ b L', Q = b :: L' → x ≠ 100 + 10 * b + 7 + s) : zun c s n P Q x = c x := by
  unfold zun
  rw [zbf_ne' h3, znx_ne h h2]
def zat (f wd : Nat) : Nat → List Nat → Nat
  | p, [] => p
  | _, b :: L => zat f wd (f + wd * b + 5) L
def zgv (c : Nat → Int32) (h f wd k : Nat) (P Q : List Nat) : Nat → Int32 := upd (upd c (f + wd * k + 5) (za_h Q)) (zat f wd h P) (nI k)
theorem zat_in {f wd : Nat} : ∀ (P : List Nat) (h : Nat), zat f wd h P = h ∨ ∃ b, b ∈ P ∧ zat f wd h P = f + wd * b + 5
  | [], h => Or.inl rfl
  | b :: P, h => by
    rcases zat_in P (f + wd * b + 5) with q | ⟨d, q1, q2⟩
    · exact Or.inr ⟨b, by simp, q⟩
    · exact Or.inr ⟨d, by simp [q1], q2⟩
theorem zgv_ne {c : Nat → Int32} {h f wd k x : Nat} {P Q : List Nat} (h1 : x ≠ f + wd * k + 5) (h2 : x ≠ h) (h3 : ∀ b, b ∈ P → x ≠ f + wd * b + 5) : zgv c h f wd k P Q x = c x := by
  unfold zgv
  rw [pk_un, pk_un h1]
  rcases zat_in (f := f) (wd := wd) P h with q | ⟨b, q1, q2⟩
  · rw [q]; exact h2
  · rw [q2]; exact h3 b q1
def zct (c : Nat → Int32) (a n m : Nat) (P0 Q0 P1 Q1 fp fq : List Nat) : Nat → Int32 :=
  zinc (zgv (upd (zinc (zinc (zun (zun c 0 n P0 Q0) 1 m P1 Q1) (16 + 7 * n + 6) (-1)) (16 + 7 * m + 6) (-1)) (100 + 10 * a) 0) 1 100 10 a fp fq) 3 (-1)
section
variable {oo pi ck gs wg : Int32} {a1 a2 a3 a4 a5 a6 a7 a8 a9 a10 a11 a12 a13 : Nat → Int32}
theorem zs_unchain {post : St2 → Prop} {o a s n : Nat} {B : Nat → Nat → Int32} {P Q : List Nat} (ht : zt o a1 a2 a3 a4 a5 B) (ha : a < 24) (hs : s < 2) (hn : n < 12) (hP : ∀ b, b ∈ P → b < 24) (hQ : ∀ b, b ∈ Q → b < 24)
    (h1 : a1 (100 + 10 * a + 1 + s) = nI n) (h5 : a1 (100 + 10 * a + 5 + s) = za_h Q) (h7 : a1 (100 + 10 * a + 7 + s) = za_l (-1) P)
    (H : ∀ b2 b3 b4 b5, zt o (zun a1 s n P Q) b2 b3 b4 b5 B → post (nI o, pi, ck, gs, wg, zun a1 s n P Q, b2, b3, b4, b5, a6, a7, a8, a9, a10, a11, a12, a13)) : wpX_unchain post (nI o, pi, ck, gs, wg, a1, a2, a3, a4, a5, a6, a7, a8, a9, a10, a11, a12, a13) (nI a) (nI s) := by
  unfold wpX_unchain
  refine za_ac ?_
  rw [za_a1, za_a5, za_a7, nI_add, nI_add, nI_add, nI_clamp (show 100 + 10 * a + 1 + s < 2 ^ 31 by omega), nI_clamp (show 100 + 10 * a + 5 + s < 2 ^ 31 by omega), nI_clamp (show 100 + 10 * a + 7 + s < 2 ^ 31 by omega), h1, h5, h7]
  refine ⟨vp_in_nI (by omega) (by decide), nm_e ⟨vp_in_nI (by omega) (by decide), nm_e ?_⟩⟩
  -- the second half
  have F : ∀ (c b2 b3 b4 b5 : Nat → Int32), zt o c b2 b3 b4 b5 B → (∀ b2 b3 b4 b5, zt o (zbf c s Q (za_l (-1) P)) b2 b3 b4 b5 B → post (nI o, pi, ck, gs, wg, zbf c s Q (za_l (-1) P), b2, b3, b4, b5, a6, a7, a8, a9, a10, a11, a12, a13)) →
      wX_unchain_76 post (nI s) (za_h Q) (za_l (-1) P) (nI o) pi ck gs wg c b2 b3 b4 b5 a6 a7 a8 a9 a10 a11 a12 a13 := by
    intro c b2 b3 b4 b5 ht H'
    cases Q with
    | nil => exact br_t za_neg (H' b2 b3 b4 b5 ht)
    | cons b Q =>
      have hb := hQ b (by simp)
      exact br_f (za_h_pos (by omega)) (za_ac (zt_put (100 + 10 * b + 7 + s) (by rw [za_a7, nI_add]) ht (by omega) H'))
  rcases zc_last P with q | ⟨K, b, q⟩
  · subst q
    exact br_t za_neg ⟨vp_in_nI (by omega) (by decide), za_na (zt_put (16 + 7 * n + 3 + s) (by rw [za_a3, nI_add]) ht (by omega) (fun b2 b3 b4 b5 ht => F _ b2 b3 b4 b5 ht H))⟩
  · have hb := hP b (by rw [q]; simp)
    have hl : za_l (-1) P = nI b := by rw [q]; exact za_l_app _ _ _
    have hx : znx a1 s n P (za_h Q) = upd a1 (100 + 10 * b + 5 + s) (za_h Q) := by rw [q]; exact znx_app
    unfold zun at H
    rw [hx] at H
    rw [hl] at H F ⊢
    exact br_f (nI_pos (by omega)) (za_ac (zt_put (100 + 10 * b + 5 + s) (by rw [za_a5, nI_add]) ht (by omega) (fun b2 b3 b4 b5 ht => F _ b2 b3 b4 b5 ht H)))
theorem zs_gb {post : St2 → Prop} {o f wd k N : Nat} {B : Nat → Nat → Int32} (ht : zt o a1 a2 a3 a4 a5 B) (hk : k < N) (hN : ∀ b, b < N → f + wd * b + 5 < 340) (hN2 : N < 1000) :
    ∀ (L : List Nat) (h : Nat), h < 340 → a1 h = za_h L → zf a1 f wd L → (∀ b, b ∈ L → b < N) →
      (∀ P Q, L = P ++ Q → (∀ b, b ∈ P → b < k) → (∀ b Q', Q = b :: Q' → k ≤ b) → ∀ b2 b3 b4 b5, zt o (zgv a1 h f wd k P Q) b2 b3 b4 b5 B → post (nI o, pi, ck, gs, wg, zgv a1 h f wd k P Q, b2, b3, b4, b5, a6, a7, a8, a9, a10, a11, a12, a13)) →
      wX_giveBack_3 post (nI f) (nI wd) 5 (nI k) (nI o) pi ck gs wg a1 a2 a3 a4 a5 a6 a7 a8 a9 a10 a11 a12 a13 (L.length + 1) (nI h) := by
  have hk5 := hN k hk
  have hadd : ∀ b, (nI f + nI wd * nI b) + 5 = nI (f + wd * b + 5) := fun b => by rw [pk_mul, nI_add, za_a5]
  have fin : ∀ (Q : List Nat) (h : Nat), h < 340 → a1 h = za_h Q → (∀ b2 b3 b4 b5, zt o (zgv a1 h f wd k [] Q) b2 b3 b4 b5 B → post (nI o, pi, ck, gs, wg, zgv a1 h f wd k [] Q, b2, b3, b4, b5, a6, a7, a8, a9, a10, a11, a12, a13)) →
      wX_giveBack_44 post (nI f) (nI wd) 5 (nI k) (nI h) (nI o) pi ck gs wg a1 a2 a3 a4 a5 a6 a7 a8 a9 a10 a11 a12 a13 := by
    intro Q h hh hc H
    refine ⟨vp_in_nI hh (by decide), ?_⟩
    rw [nI_clamp (show h < 2 ^ 31 by omega), hc]
    exact zt_put (f + wd * k + 5) (hadd k) ht hk5 (fun b2 b3 b4 b5 ht => zt_put h rfl ht hh H)
  intro L
  induction L with
  | nil =>
    intro h hh hc hz hL H
    refine ⟨vp_in_nI hh (by decide), ?_⟩
    rw [nI_clamp (show h < 2 ^ 31 by omega), hc]
    exact br_t za_neg (fin [] h hh hc (H [] [] rfl (by simp) (by simp)))
  | cons b L ih =>
    intro h hh hc hz hL H
    have hb := hL b (by simp)
    refine ⟨vp_in_nI hh (by decide), ?_⟩
    rw [nI_clamp (show h < 2 ^ 31 by omega), hc]
    refine br_f (za_h_pos (by omega)) ⟨vp_in_nI hh (by decide), ?_⟩
    show (nI k ≤ nI b → _) ∧ _
    refine pk_le k b (fun q => fin (b :: L) h hh hc (H [] (b :: L) rfl (by simp) (fun b' Q' e => by injection e with e _; omega))) (fun q => ?_)
    refine ⟨vp_in_nI hh (by decide), nm_r (hadd b) ?_⟩
    refine ih (f + wd * b + 5) (hN b hb) hz.2.1 hz.2.2 (fun b' hb' => hL b' (by simp [hb'])) (fun P Q e p1 p2 b2 b3 b4 b5 ht => ?_)
    exact H (b :: P) Q (by rw [e]; rfl) (fun b' hb' => by
      rcases List.mem_cons.mp hb' with t | t
      · omega
      · exact p1 b' t) p2 b2 b3 b4 b5 ht
theorem zs_cut {post : St2 → Prop} {o a n m : Nat} {B : Nat → Nat → Int32} {P0 Q0 P1 Q1 Fa : List Nat} (ht : zt o a1 a2 a3 a4 a5 B) (ha : a < 24) (hn : n < 12) (hm : m < 12)
    (hP0 : ∀ b, b ∈ P0 → b < 24 ∧ b ≠ a) (hQ0 : ∀ b, b ∈ Q0 → b < 24 ∧ b ≠ a) (hP1 : ∀ b, b ∈ P1 → b < 24 ∧ b ≠ a) (hQ1 : ∀ b, b ∈ Q1 → b < 24 ∧ b ≠ a)
    (h1 : a1 (100 + 10 * a + 1) = nI n) (h2 : a1 (100 + 10 * a + 2) = nI m) (h5 : a1 (100 + 10 * a + 5) = za_h Q0) (h6 : a1 (100 + 10 * a + 6) = za_h Q1) (h7 : a1 (100 + 10 * a + 7) = za_l (-1) P0) (h8 : a1 (100 + 10 * a + 8) = za_l (-1) P1)
    (hF : a1 1 = za_h Fa) (hFz : zf a1 100 10 Fa) (hFa : ∀ b, b ∈ Fa → b < 24 ∧ b ≠ a ∧ b ∉ P0 ∧ b ∉ P1)
    (H : ∀ P Q, Fa = P ++ Q → (∀ b, b ∈ P → b < a) → (∀ b Q', Q = b :: Q' → a ≤ b) → ∀ b2 b3 b4 b5, zt o (zct a1 a n m P0 Q0 P1 Q1 P Q) b2 b3 b4 b5 B → post (nI o, pi, ck, gs, wg, zct a1 a n m P0 Q0 P1 Q1 P Q, b2, b3, b4, b5, a6, a7, a8, a9, a10, a11, a12, a13)) : wpX_cutArrow post (nI o, pi, ck, gs, wg, a1, a2, a3, a4, a5, a6, a7, a8, a9, a10, a11, a12, a13) (nI a) := by
  have l0 : ∀ K b, P0 = K ++ [b] → b < 24 ∧ b ≠ a := fun K b q => hP0 b (by rw [q]; simp)
  have l1 : ∀ K b, P1 = K ++ [b] → b < 24 ∧ b ≠ a := fun K b q => hP1 b (by rw [q]; simp)
  have r0 : ∀ b L', Q0 = b :: L' → b < 24 ∧ b ≠ a := fun b L' q => hQ0 b (by rw [q]; simp)
  have r1 : ∀ b L', Q1 = b :: L' → b < 24 ∧ b ≠ a := fun b L' q => hQ1 b (by rw [q]; simp)
  unfold wpX_cutArrow
  refine za_ac (zs_unchain (s := 0) ht ha (by omega) hn (fun b hb => (hP0 b hb).1) (fun b hb => (hQ0 b hb).1) h1 h5 h7 (fun b2 b3 b4 b5 ht => ?_))
  refine zs_unchain (s := 1) (n := m) (P := P1) (Q := Q1) ht ha (by omega) hm (fun b hb => (hP1 b hb).1) (fun b hb => (hQ1 b hb).1) ?_ ?_ ?_ (fun b2 b3 b4 b5 ht => ?_)
  · rw [zun_ne (fun _ => by omega) (fun K b q => by have := l0 K b q; omega) (fun b L' q => by have := r0 b L' q; omega)]; exact h2
  · rw [zun_ne (fun _ => by omega) (fun K b q => by have := l0 K b q; omega) (fun b L' q => by have := r0 b L' q; omega)]; exact h6
  · rw [zun_ne (fun _ => by omega) (fun K b q => by have := l0 K b q; omega) (fun b L' q => by have := r0 b L' q; omega)]; exact h8
  have k1 : zun (zun a1 0 n P0 Q0) 1 m P1 Q1 (100 + 10 * a + 1) = nI n := by
    rw [zun_ne (fun _ => by omega) (fun K b q => by have := l1 K b q; omega) (fun b L' q => by have := r1 b L' q; omega), zun_ne (fun _ => by omega) (fun K b q => by have := l0 K b q; omega) (fun b L' q => by have := r0 b L' q; omega)]; exact h1
  have k2 : zun (zun a1 0 n P0 Q0) 1 m P1 Q1 (100 + 10 * a + 2) = nI m := by
    rw [zun_ne (fun _ => by omega) (fun K b q => by have := l1 K b q; omega) (fun b L' q => by have := r1 b L' q; omega), zun_ne (fun _ => by omega) (fun K b q => by have := l0 K b q; omega) (fun b L' q => by have := r0 b L' q; omega)]; exact h2
  refine ⟨pk_in (100 + 10 * a + 1) 340 (by omega) (za_a1 _), ?_⟩
  show wpX_nodeAt _ () (zun (zun a1 0 n P0 Q0) 1 m P1 Q1 (nI (100 + 10 * a) + 1).toNatClampNeg)
  rw [za_a1, nI_clamp (show 100 + 10 * a + 1 < 2 ^ 31 by omega), k1]
  refine za_na (zt_add (16 + 7 * n + 6) (za_a6 _) ht (by omega) (fun b2 b3 b4 b5 ht => ⟨pk_in (100 + 10 * a + 2) 340 (by omega) (za_a1 _), ?_⟩))
  show wpX_nodeAt _ () (upd (zun (zun a1 0 n P0 Q0) 1 m P1 Q1) (16 + 7 * n + 6) _ (nI (100 + 10 * a + 1) + 1).toNatClampNeg)
  rw [za_a1, nI_clamp (show 100 + 10 * a + 1 + 1 < 2 ^ 31 by omega), show 100 + 10 * a + 1 + 1 = 100 + 10 * a + 2 by omega, pk_un (show 100 + 10 * a + 2 ≠ 16 + 7 * n + 6 by omega), k2]
  refine za_na (zt_add (16 + 7 * m + 6) (za_a6 _) ht (by omega) (fun b2 b3 b4 b5 ht => zt_put (100 + 10 * a) (za_a0 _) ht (by omega) (fun b2 b3 b4 b5 ht => ?_)))
  refine ⟨Fa.length + 1, zs_gb (f := 100) (wd := 10) (N := 24) ht ha (fun b hb => by omega) (by omega) Fa 1 (by omega) ?_ (zf_congr hFz (fun b hb => ?_)) (fun b hb => (hFa b hb).1) (fun P Q q1 q2 q3 b2 b3 b4 b5 ht => zt_add 3 rfl ht (by omega) (H P Q q1 q2 q3))⟩
  · rw [pk_un (by omega), pk_un (by omega), pk_un (by omega), zun_ne (fun _ => by omega) (fun K b q => by have := l1 K b q; omega) (fun b L' q => by have := r1 b L' q; omega), zun_ne (fun _ => by omega) (fun K b q => by have := l0 K b q; omega) (fun b L' q => by have := r0 b L' q; omega)]; exact hF
  · obtain ⟨g1, g2, g3, g4⟩ := hFa b hb
    constructor
    · rw [pk_un (by omega), pk_un (by omega), pk_un (by omega), zun_ne (fun _ => by omega) (fun K b q => by have := l1 K b q; omega) (fun b L' q => by have := r1 b L' q; omega), zun_ne (fun _ => by omega) (fun K b q => by have := l0 K b q; omega) (fun b L' q => by have := r0 b L' q; omega)]
    · rw [pk_un (by omega), pk_un (by omega), pk_un (by omega), zun_ne (fun _ => by omega) (fun K b q => by have := l1 K b q; omega) (fun b L' q => by have := r1 b L' q; omega), zun_ne (fun _ => by omega) (fun K b' q => by
        have h := l0 K b' q
        have : b ≠ b' := fun t => g3 (by rw [q, t]; simp)
        omega) (fun b L' q => by have := r0 b L' q; omega)]
end
end
section
/-! 13: the picture after cutArrow -/
theorem zl_mid {c : Nat → Int32} {s : Nat} : ∀ (L1 : List Nat) {a : Nat} {L2 : List Nat} {p : Int32}, zl c s p (L1 ++ a :: L2) → c (100 + 10 * a + 7 + s) = za_l p L1 ∧ c (100 + 10 * a + 5 + s) = za_h L2
  | [], a, L2, p, h => ⟨h.1, h.2.1⟩
  | d :: L1, a, L2, p, h => zl_mid L1 h.2.2
theorem zl_del {c c' : Nat → Int32} {s : Nat} : ∀ (L1 : List Nat) {a : Nat} {L2 : List Nat} {p : Int32}, zl c s p (L1 ++ a :: L2) → (L1 ++ a :: L2).Nodup →
    (∀ b K, L1 = K ++ [b] → c' (100 + 10 * b + 5 + s) = za_h L2) → (∀ b, b ∈ L1 ++ L2 → (∀ K, L1 ≠ K ++ [b]) → c' (100 + 10 * b + 5 + s) = c (100 + 10 * b + 5 + s)) →
    (∀ b L', L2 = b :: L' → c' (100 + 10 * b + 7 + s) = za_l p L1) → (∀ b, b ∈ L1 ++ L2 → (∀ L', L2 ≠ b :: L') → c' (100 + 10 * b + 7 + s) = c (100 + 10 * b + 7 + s)) → zl c' s p (L1 ++ L2)
  | [], a, L2, p, h, hn, h1, h2, h3, h4 => by
    show zl c' s p L2
    refine zl_re h.2.2 (fun b hb => h2 b hb (fun K q => ?_)) h3 (fun b L' hL d hd => h4 d ?_ (fun L'' q => ?_))
    · simp at q
    · show d ∈ L2
      rw [hL]; simp [hd]
    · rw [hL] at q
      injection q with q _
      have hn' : (b :: L').Nodup := by rw [← hL]; exact (List.nodup_cons.mp hn).2
      exact (List.nodup_cons.mp hn').1 (q ▸ hd)
  | d :: L1, a, L2, p, h, hn, h1, h2, h3, h4 => by
    have hn' : (L1 ++ a :: L2).Nodup := (List.nodup_cons.mp hn).2
    have hd : d ∉ L1 ++ a :: L2 := (List.nodup_cons.mp hn).1
    refine ⟨?_, ?_, zl_del L1 h.2.2 hn' (fun b K q => h1 b (d :: K) (by rw [q]; rfl)) (fun b hb hK => h2 b (List.mem_cons_of_mem _ hb) (fun K q => ?_)) h3 (fun b hb hK => h4 b (List.mem_cons_of_mem _ hb) hK)⟩
    · rw [h4 d (by simp) (fun L' q => hd (by rw [q]; simp))]
      exact h.1
    · cases L1 with
      | nil => exact h1 d [] rfl
      | cons x L1 =>
        rw [h2 d (by simp) (fun K q => ?_)]
        · exact h.2.1
        · have : d ∈ x :: L1 := by
            cases K with
            | nil => simp at q
            | cons k K =>
              have q' : x :: L1 = K ++ [d] := by injection q
              rw [q']; simp
          exact hd (List.mem_append_left _ this)
    · cases K with
      | nil =>
        have hbd : d = b ∧ L1 = [] := by simpa using q
        rw [hbd.2] at hb
        have hb' : b ∈ L2 := by simpa using hb
        exact hd (by rw [hbd.1, hbd.2]; simp [hb'])
      | cons k K => exact hK K (by injection q)
theorem zk_del_t {A P Q : List Nat} {e : Nat → Nat → Nat} {s n a : Nat} (hA : A.Nodup) (h : zk A e s n = P ++ a :: Q) : zk (A.filter (fun b => decide (b ≠ a))) e s n = P ++ Q := by
  have hnd : (P ++ a :: Q).Nodup := h ▸ zk_nodup hA
  have h1 : zk (A.filter (fun b => decide (b ≠ a))) e s n = (zk A e s n).filter (fun b => decide (b ≠ a)) := by
    unfold zk
    rw [List.filter_filter, List.filter_filter]
    exact List.filter_congr (fun b _ => by rw [Bool.and_comm])
  have hP : ∀ b, b ∈ P → b ≠ a := fun b hb q => (List.nodup_append.mp hnd).2.2 b hb a (by simp) q
  have hQ : ∀ b, b ∈ Q → b ≠ a := fun b hb q => (List.nodup_cons.mp (List.nodup_append.mp hnd).2.1).1 (q ▸ hb)
  rw [h1, h, List.filter_append, List.filter_cons_of_neg (by simp), List.filter_eq_self.mpr (fun b hb => by simpa using hP b hb), List.filter_eq_self.mpr (fun b hb => by simpa using hQ b hb)]
theorem zk_del_f {A : List Nat} {e : Nat → Nat → Nat} {s n a : Nat} (h : e s a ≠ n) : zk (A.filter (fun b => decide (b ≠ a))) e s n = zk A e s n := by
  unfold zk
  rw [List.filter_filter]
  refine List.filter_congr (fun b _ => ?_)
  by_cases q : b = a
  · subst q; simp [h]
  · simp [q]
theorem zk_del_len {A : List Nat} {a : Nat} (hA : A.Nodup) (ha : a ∈ A) : (A.filter (fun b => decide (b ≠ a))).length + 1 = A.length := by
  obtain ⟨P, Q, h⟩ := List.append_of_mem ha
  have hnd : (P ++ a :: Q).Nodup := h ▸ hA
  have hP : ∀ b, b ∈ P → b ≠ a := fun b hb q => (List.nodup_append.mp hnd).2.2 b hb a (by simp) q
  have hQ : ∀ b, b ∈ Q → b ≠ a := fun b hb q => (List.nodup_cons.mp (List.nodup_append.mp hnd).2.1).1 (q ▸ hb)
  rw [h, List.filter_append, List.filter_cons_of_neg (by simp), List.filter_eq_self.mpr (fun b hb => by simpa using hP b hb), List.filter_eq_self.mpr (fun b hb => by simpa using hQ b hb)]
  simp; omega
/-- a record comes back to the free ones -/
theorem zf_ins {c : Nat → Int32} {f wd k : Nat} (hinj : ∀ a b, f + wd * a + 5 = f + wd * b + 5 → a = b) (hap : ∀ a b, f + wd * a + 5 ≠ f + wd * b) (hk0 : c (f + wd * k) = 0) :
    ∀ (P : List Nat) (Q : List Nat) (h : Nat), zf c f wd (P ++ Q) → (P ++ Q).Nodup → k ∉ P ++ Q → c h = za_h (P ++ Q) → (∀ b, b ∈ k :: (P ++ Q) → h ≠ f + wd * b ∧ h ≠ f + wd * b + 5) →
      zf (zgv c h f wd k P Q) f wd (P ++ k :: Q) ∧ zgv c h f wd k P Q h = za_h (P ++ k :: Q)
  | [], Q, h, hz, hn, hk, hc, hh => by
    have hk1 := hh k (by simp)
    refine ⟨⟨?_, ?_, zf_congr hz (fun b hb => ?_)⟩, ?_⟩
    · unfold zgv zat
      rw [pk_un (Ne.symm hk1.1), pk_un (Ne.symm (hap k k))]; exact hk0
    · unfold zgv zat
      rw [pk_un (Ne.symm hk1.2), pk_us]
    · have hb : b ∈ Q := hb
      have hb1 := hh b (by simp [hb])
      have hbk : b ≠ k := fun t => hk (by simp [← t, hb])
      unfold zgv zat
      rw [pk_un (Ne.symm hb1.1), pk_un (Ne.symm (hap k b)), pk_un (Ne.symm hb1.2), pk_un (fun t => hbk (hinj b k t))]
      exact ⟨rfl, rfl⟩
    · unfold zgv zat
      exact pk_us
  | d :: P, Q, h, hz, hn, hk, hc, hh => by
    have hn' : (P ++ Q).Nodup := (List.nodup_cons.mp hn).2
    have hd : d ∉ P ++ Q := (List.nodup_cons.mp hn).1
    have hdk : d ≠ k := fun t => hk (by simp [t])
    have hk' : k ∉ P ++ Q := fun t => hk (List.mem_cons_of_mem _ t)
    have e0 : zgv c h f wd k (d :: P) Q = zgv c (f + wd * d + 5) f wd k P Q := rfl
    obtain ⟨i1, i2⟩ := zf_ins hinj hap hk0 P Q (f + wd * d + 5) hz.2.2 hn' hk' hz.2.1 (fun b hb => by
      refine ⟨hap d b, fun t => ?_⟩
      have := hinj d b t
      rcases List.mem_cons.mp hb with z | z
      · exact hdk (this.trans z)
      · exact hd (this ▸ z))
    rw [e0]
    refine ⟨⟨?_, i2, i1⟩, ?_⟩
    · rw [zgv_ne (Ne.symm (hap k d)) (Ne.symm (hap d d)) (fun b hb => Ne.symm (hap b d))]
      exact hz.1
    · have hd1 := hh d (by simp)
      rw [zgv_ne (hh k (by simp)).2 hd1.2 (fun b hb => (hh b (by simp [hb])).2)]
      exact hc
section
variable {c : Nat → Int32} {A R : List Nat} {e : Nat → Nat → Nat} {y w lb vl : Nat → Nat} {a n m : Nat} {P0 Q0 P1 Q1 fp fq : List Nat}
theorem zct_in {x : Nat} (h3 : x ≠ 3) (h1 : x ≠ 1) (hm6 : x ≠ 16 + 7 * m + 6) (hn6 : x ≠ 16 + 7 * n + 6) (ha : x ≠ 100 + 10 * a) (ha5 : x ≠ 100 + 10 * a + 5) (hf : ∀ b, b ∈ fp → x ≠ 100 + 10 * b + 5) : zct c a n m P0 Q0 P1 Q1 fp fq x = zun (zun c 0 n P0 Q0) 1 m P1 Q1 x := by
  unfold zct
  unfold zinc
  rw [pk_un h3, zgv_ne ha5 h1 hf, pk_un ha, pk_un hm6, pk_un hn6]
theorem zun_h {c : Nat → Int32} {s n : Nat} {Q : List Nat} (hn : n < 12) : zun c s n [] Q (16 + 7 * n + 3 + s) = za_h Q ∨ 12 ≤ s := by
  rcases Nat.lt_or_ge s 12 with hs | hs
  · refine Or.inl ?_
    unfold zun
    rw [zbf_ne' (fun b L' _ => by omega), znx_nil, pk_us]
  · exact Or.inr hs
theorem zun_n {c : Nat → Int32} {s n b : Nat} {P K Q : List Nat} (hs : s < 2) (h : P = K ++ [b]) : zun c s n P Q (100 + 10 * b + 5 + s) = za_h Q := by
  subst h
  unfold zun
  rw [zbf_ne' (fun b' L' _ => by omega), znx_app, pk_us]
theorem zun_b {c : Nat → Int32} {s n b : Nat} {P Q L' : List Nat} (h : Q = b :: L') : zun c s n P Q (100 + 10 * b + 7 + s) = za_l (-1) P := by
  subst h
  exact pk_us
theorem zg_cut (h : zg c A e y w R lb vl) (haA : a ∈ A) (hn : e 0 a = n) (hm : e 1 a = m) (hk0 : zk A e 0 n = P0 ++ a :: Q0) (hk1 : zk A e 1 m = P1 ++ a :: Q1) {Fa : List Nat} (F1 : Fa.Pairwise (fun a b => a < b)) (F2 : ∀ a, a ∈ Fa ↔ a < 24 ∧ a ∉ A) (F3 : c 1 = za_h Fa) (F4 : zf c 100 10 Fa)
    (hF : Fa = fp ++ fq) (hfp : ∀ b, b ∈ fp → b < a) (hfq : ∀ b Q', fq = b :: Q' → a ≤ b) : zg (zct c a n m P0 Q0 P1 Q1 fp fq) (A.filter (fun b => decide (b ≠ a))) e y w R lb vl := by
  obtain ⟨⟨s1, s2, s3, s4⟩, gA, gC, gN, gH, gF, gFn, gR, gM⟩ := h
  have a24 := (s2 a haA).1
  have nR : n ∈ R := hn ▸ (s2 a haA).2.1
  have mR : m ∈ R := hm ▸ (s2 a haA).2.2.1
  have n12 := s4 n nR
  have m12 := s4 m mR
  have hRl : R.length ≤ 12 := za_pg s3 s4
  have mem' : ∀ b, b ∈ A.filter (fun b => decide (b ≠ a)) ↔ b ∈ A ∧ b ≠ a := fun b => by simp
  have fpA : ∀ b, b ∈ fp → b ∉ A ∧ b < 24 := fun b hb => ⟨((F2 b).mp (by rw [hF]; simp [hb])).2, ((F2 b).mp (by rw [hF]; simp [hb])).1⟩
  have fpN : ∀ {b : Nat}, b ∈ A → ∀ b', b' ∈ fp → b ≠ b' := fun hb b' hb' t => (fpA b' hb').1 (t ▸ hb)
  have nd0 : (P0 ++ a :: Q0).Nodup := hk0 ▸ zk_nodup s1
  have nd1 : (P1 ++ a :: Q1).Nodup := hk1 ▸ zk_nodup s1
  have p0 : ∀ b, b ∈ P0 ++ Q0 → b ∈ A ∧ e 0 b = n ∧ b ≠ a ∧ b < 24 := fun b hb => by
    have : b ∈ zk A e 0 n := by rw [hk0]; rcases List.mem_append.mp hb with t | t <;> simp [t]
    obtain ⟨q1, q2⟩ := zk_mem.mp this
    refine ⟨q1, q2, fun t => ?_, (s2 b q1).1⟩
    subst t
    rcases List.mem_append.mp hb with t | t
    · exact (List.nodup_append.mp nd0).2.2 b t b (by simp) rfl
    · exact (List.nodup_cons.mp (List.nodup_append.mp nd0).2.1).1 t
  have p1 : ∀ b, b ∈ P1 ++ Q1 → b ∈ A ∧ e 1 b = m ∧ b ≠ a ∧ b < 24 := fun b hb => by
    have : b ∈ zk A e 1 m := by rw [hk1]; rcases List.mem_append.mp hb with t | t <;> simp [t]
    obtain ⟨q1, q2⟩ := zk_mem.mp this
    refine ⟨q1, q2, fun t => ?_, (s2 b q1).1⟩
    subst t
    rcases List.mem_append.mp hb with t | t
    · exact (List.nodup_append.mp nd1).2.2 b t b (by simp) rfl
    · exact (List.nodup_cons.mp (List.nodup_append.mp nd1).2.1).1 t
  have l0 : ∀ K b, P0 = K ++ [b] → b ∈ A ∧ e 0 b = n ∧ b ≠ a ∧ b < 24 := fun K b q => p0 b (by rw [q]; simp)
  have l1 : ∀ K b, P1 = K ++ [b] → b ∈ A ∧ e 1 b = m ∧ b ≠ a ∧ b < 24 := fun K b q => p1 b (by rw [q]; simp)
  have r0 : ∀ b L', Q0 = b :: L' → b ∈ A ∧ e 0 b = n ∧ b ≠ a ∧ b < 24 := fun b L' q => p0 b (by rw [q]; simp)
  have r1 : ∀ b L', Q1 = b :: L' → b ∈ A ∧ e 1 b = m ∧ b ≠ a ∧ b < 24 := fun b L' q => p1 b (by rw [q]; simp)
  -- outside the touched places
  have fr : ∀ x, x ≠ 3 → x ≠ 1 → x ≠ 16 + 7 * m + 6 → x ≠ 16 + 7 * n + 6 → x ≠ 100 + 10 * a → x ≠ 100 + 10 * a + 5 → (∀ b, b ∈ fp → x ≠ 100 + 10 * b + 5) → x ≠ 16 + 7 * n + 3 → x ≠ 16 + 7 * m + 4 → (∀ K b, P0 = K ++ [b] → x ≠ 100 + 10 * b + 5) → (∀ K b, P1 = K ++ [b] → x ≠ 100 + 10 * b + 6) →
      (∀ b L', Q0 = b :: L' → x ≠ 100 + 10 * b + 7) → (∀ b L', Q1 = b :: L' → x ≠ 100 + 10 * b + 8) → zct c a n m P0 Q0 P1 Q1 fp fq x = c x := by
    intro x h3 h1 hm6 hn6 ha ha5 hf hn3 hm4 g0 g1 g2 g3
    rw [zct_in h3 h1 hm6 hn6 ha ha5 hf, zun_ne (fun _ => hm4) g1 g3, zun_ne (fun _ => hn3) g0 g2]
  have fnd : Fa.Nodup := za_asc_nodup F1
  obtain ⟨c01, c02⟩ := gC 0 n (by omega) nR
  obtain ⟨c11, c12⟩ := gC 1 m (by omega) mR
  rw [hk0] at c01 c02
  rw [hk1] at c11 c12
  refine ⟨⟨s1.sublist List.filter_sublist, fun b hb => s2 b ((mem' b).mp hb).1, s3, s4⟩, fun b hb => ?_, fun s n' hs hn' => ?_, fun n' hn' => ?_, fun n' hn' => ?_, ⟨fp ++ a :: fq, ?_, fun b => ?_, ?_⟩, ?_, ⟨?_, fun i n' hi => ?_, gR.2.2⟩, ?_⟩
  · obtain ⟨hbA, hba⟩ := (mem' b).mp hb
    have b24 := (s2 b hbA).1
    rw [fr _ (by omega) (by omega) (by omega) (by omega) (by omega) (by omega) (fun b' hb' => by omega) (by omega) (by omega) (fun K b' q => by omega) (fun K b' q => by omega) (fun b' L' q => by omega) (fun b' L' q => by omega),
      fr _ (by omega) (by omega) (by omega) (by omega) (by omega) (by omega) (fun b' hb' => by omega) (by omega) (by omega) (fun K b' q => by omega) (fun K b' q => by omega) (fun b' L' q => by omega) (fun b' L' q => by omega),
      fr _ (by omega) (by omega) (by omega) (by omega) (by omega) (by omega) (fun b' hb' => by omega) (by omega) (by omega) (fun K b' q => by omega) (fun K b' q => by omega) (fun b' L' q => by omega) (fun b' L' q => by omega),
      fr _ (by omega) (by omega) (by omega) (by omega) (by omega) (by omega) (fun b' hb' => by omega) (by omega) (by omega) (fun K b' q => by omega) (fun K b' q => by omega) (fun b' L' q => by omega) (fun b' L' q => by omega),
      fr _ (by omega) (by omega) (by omega) (by omega) (by omega) (by omega) (fun b' hb' => by omega) (by omega) (by omega) (fun K b' q => by omega) (fun K b' q => by omega) (fun b' L' q => by omega) (fun b' L' q => by omega)]
    exact gA b hbA
  · have n12' := s4 n' hn'
    have hs' : s = 0 ∨ s = 1 := by omega
    rcases hs' with rfl | rfl
    · by_cases q : n' = n
      · subst q
        rw [zk_del_t s1 hk0]
        constructor
        · rcases zc_last P0 with t | ⟨K, b, t⟩
          · subst t
            rw [zct_in (by omega) (by omega) (by omega) (by omega) (by omega) (by omega) (fun b' hb' => by omega), zun_ne (fun _ => by omega) (fun K b q => by omega) (fun b L' q => by omega)]
            exact (zun_h n12').resolve_right (by omega)
          · have : za_h (P0 ++ Q0) = za_h (P0 ++ a :: Q0) := by
              rw [t]; cases K <;> rfl
            rw [this, zct_in (by omega) (by omega) (by omega) (by omega) (by omega) (by omega) (fun b' hb' => by omega), zun_ne (fun _ => by omega) (fun K b q => by omega) (fun b L' q => by omega), zun_ne (fun z => by rw [z] at t; simp at t) (fun K b q => by omega) (fun b L' q => by omega)]
            exact c01
        · refine zl_del P0 c02 nd0 (fun b K q => ?_) (fun b hb hK => ?_) (fun b L' q => ?_) (fun b hb hK => ?_)
          · obtain ⟨t1, t2, t3, t4⟩ := l0 K b q
            rw [zct_in (by omega) (by omega) (by omega) (by omega) (by omega) (by omega) (fun b' hb' => by have := fpN t1 b' hb'; omega), zun_ne (fun _ => by omega) (fun K b q => by omega) (fun b L' q => by omega)]
            exact zun_n (by omega) q
          · obtain ⟨t1, t2, t3, t4⟩ := p0 b hb
            exact fr _ (by omega) (by omega) (by omega) (by omega) (by omega) (by omega) (fun b' hb' => by have := fpN t1 b' hb'; omega) (by omega) (by omega) (fun K b' q => by
              have : b ≠ b' := fun t => hK K (by rw [q, t])
              omega) (fun K b' q => by omega) (fun b' L' q => by omega) (fun b' L' q => by omega)
          · obtain ⟨t1, t2, t3, t4⟩ := r0 b L' q
            rw [zct_in (by omega) (by omega) (by omega) (by omega) (by omega) (by omega) (fun b' hb' => by omega), zun_ne (fun _ => by omega) (fun K b q => by omega) (fun b L' q => by omega)]
            exact zun_b q
          · obtain ⟨t1, t2, t3, t4⟩ := p0 b hb
            exact fr _ (by omega) (by omega) (by omega) (by omega) (by omega) (by omega) (fun b' hb' => by omega) (by omega) (by omega) (fun K b' q => by omega) (fun K b' q => by omega) (fun b' L' q => by
              have : b ≠ b' := fun t => hK L' (by rw [q, t])
              omega) (fun b' L' q => by omega)
      · rw [zk_del_f (by rw [hn]; exact Ne.symm q)]
        obtain ⟨d1, d2⟩ := gC 0 n' (by omega) hn'
        refine ⟨(fr _ (by omega) (by omega) (by omega) (by omega) (by omega) (by omega) (fun b' hb' => by omega) (by omega) (by omega) (fun K b' q => by omega) (fun K b' q => by omega) (fun b' L' q => by omega) (fun b' L' q => by omega)).trans d1, zl_congr d2 (fun b hb => ?_)⟩
        obtain ⟨t1, t2⟩ := zk_mem.mp hb
        have t3 := (s2 b t1).1
        have t4 : b ≠ a := fun t => q (by rw [← t2, t, hn])
        refine ⟨fr _ (by omega) (by omega) (by omega) (by omega) (by omega) (by omega) (fun b' hb' => by omega) (by omega) (by omega) (fun K b' q => by omega) (fun K b' q => by omega) (fun b' L' q' => by
            have := (r0 b' L' q').2.1
            have : b ≠ b' := fun t => q (by rw [← t2, t, this])
            omega) (fun b' L' q => by omega),
          fr _ (by omega) (by omega) (by omega) (by omega) (by omega) (by omega) (fun b' hb' => by have := fpN t1 b' hb'; omega) (by omega) (by omega) (fun K b' q' => by
            have := (l0 K b' q').2.1
            have : b ≠ b' := fun t => q (by rw [← t2, t, this])
            omega) (fun K b' q => by omega) (fun b' L' q => by omega) (fun b' L' q => by omega)⟩
    · by_cases q : n' = m
      · subst q
        rw [zk_del_t s1 hk1]
        constructor
        · rcases zc_last P1 with t | ⟨K, b, t⟩
          · subst t
            rw [zct_in (by omega) (by omega) (by omega) (by omega) (by omega) (by omega) (fun b' hb' => by omega)]
            exact (zun_h n12').resolve_right (by omega)
          · have : za_h (P1 ++ Q1) = za_h (P1 ++ a :: Q1) := by
              rw [t]; cases K <;> rfl
            rw [this, zct_in (by omega) (by omega) (by omega) (by omega) (by omega) (by omega) (fun b' hb' => by omega), zun_ne (fun z => by rw [z] at t; simp at t) (fun K b q => by omega) (fun b L' q => by omega), zun_ne (fun _ => by omega) (fun K b q => by omega) (fun b L' q => by omega)]
            exact c11
        · refine zl_del P1 c12 nd1 (fun b K q => ?_) (fun b hb hK => ?_) (fun b L' q => ?_) (fun b hb hK => ?_)
          · obtain ⟨t1, t2, t3, t4⟩ := l1 K b q
            rw [zct_in (by omega) (by omega) (by omega) (by omega) (by omega) (by omega) (fun b' hb' => by omega)]
            exact zun_n (by omega) q
          · obtain ⟨t1, t2, t3, t4⟩ := p1 b hb
            exact fr _ (by omega) (by omega) (by omega) (by omega) (by omega) (by omega) (fun b' hb' => by omega) (by omega) (by omega) (fun K b' q => by omega) (fun K b' q => by
              have : b ≠ b' := fun t => hK K (by rw [q, t])
              omega) (fun b' L' q => by omega) (fun b' L' q => by omega)
          · obtain ⟨t1, t2, t3, t4⟩ := r1 b L' q
            rw [zct_in (by omega) (by omega) (by omega) (by omega) (by omega) (by omega) (fun b' hb' => by omega)]
            exact zun_b q
          · obtain ⟨t1, t2, t3, t4⟩ := p1 b hb
            exact fr _ (by omega) (by omega) (by omega) (by omega) (by omega) (by omega) (fun b' hb' => by omega) (by omega) (by omega) (fun K b' q => by omega) (fun K b' q => by omega) (fun b' L' q => by omega) (fun b' L' q => by
              have : b ≠ b' := fun t => hK L' (by rw [q, t])
              omega)
      · rw [zk_del_f (by rw [hm]; exact Ne.symm q)]
        obtain ⟨d1, d2⟩ := gC 1 n' (by omega) hn'
        refine ⟨(fr _ (by omega) (by omega) (by omega) (by omega) (by omega) (by omega) (fun b' hb' => by omega) (by omega) (by omega) (fun K b' q => by omega) (fun K b' q => by omega) (fun b' L' q => by omega) (fun b' L' q => by omega)).trans d1, zl_congr d2 (fun b hb => ?_)⟩
        obtain ⟨t1, t2⟩ := zk_mem.mp hb
        have t3 := (s2 b t1).1
        have t4 : b ≠ a := fun t => q (by rw [← t2, t, hm])
        refine ⟨fr _ (by omega) (by omega) (by omega) (by omega) (by omega) (by omega) (fun b' hb' => by omega) (by omega) (by omega) (fun K b' q => by omega) (fun K b' q => by omega) (fun b' L' q => by omega) (fun b' L' q' => by
            have := (r1 b' L' q').2.1
            have : b ≠ b' := fun t => q (by rw [← t2, t, this])
            omega),
          fr _ (by omega) (by omega) (by omega) (by omega) (by omega) (by omega) (fun b' hb' => by omega) (by omega) (by omega) (fun K b' q' => by omega) (fun K b' q' => by
            have := (l1 K b' q').2.1
            have : b ≠ b' := fun t => q (by rw [← t2, t, this])
            omega) (fun b' L' q => by omega) (fun b' L' q => by omega)⟩
  · have n12' := s4 n' hn'
    rw [fr _ (by omega) (by omega) (by omega) (by omega) (by omega) (by omega) (fun b' hb' => by omega) (by omega) (by omega) (fun K b' q => by omega) (fun K b' q => by omega) (fun b' L' q => by omega) (fun b' L' q => by omega),
      fr _ (by omega) (by omega) (by omega) (by omega) (by omega) (by omega) (fun b' hb' => by omega) (by omega) (by omega) (fun K b' q => by omega) (fun K b' q => by omega) (fun b' L' q => by omega) (fun b' L' q => by omega),
      fr _ (by omega) (by omega) (by omega) (by omega) (by omega) (by omega) (fun b' hb' => by omega) (by omega) (by omega) (fun K b' q => by omega) (fun K b' q => by omega) (fun b' L' q => by omega) (fun b' L' q => by omega)]
    exact gN n' hn'
  · -- holds
    have n12' := s4 n' hn'
    have base : zun (zun c 0 n P0 Q0) 1 m P1 Q1 (16 + 7 * n' + 6) = nI ((zk A e 0 n').length + (zk A e 1 n').length) := by
      rw [zun_ne (fun _ => by omega) (fun K b q => by omega) (fun b L' q => by omega), zun_ne (fun _ => by omega) (fun K b q => by omega) (fun b L' q => by omega)]
      exact gH n' hn'
    have e0 : (zk A e 0 n').length = (zk (A.filter (fun b => decide (b ≠ a))) e 0 n').length + (if n' = n then 1 else 0) := by
      by_cases q : n' = n
      · subst q
        rw [zk_del_t s1 hk0, hk0, if_pos rfl]; simp; omega
      · rw [zk_del_f (by rw [hn]; exact Ne.symm q), if_neg q]; rfl
    have e1 : (zk A e 1 n').length = (zk (A.filter (fun b => decide (b ≠ a))) e 1 n').length + (if n' = m then 1 else 0) := by
      by_cases q : n' = m
      · subst q
        rw [zk_del_t s1 hk1, hk1, if_pos rfl]; simp; omega
      · rw [zk_del_f (by rw [hm]; exact Ne.symm q), if_neg q]; rfl
    rw [e0, e1] at base
    unfold zct
    unfold zinc
    rw [pk_un (by omega), zgv_ne (by omega) (by omega) (fun b' hb' => by omega), pk_un (by omega)]
    by_cases q0 : n' = n
    · by_cases q1 : n' = m
      · subst q0
        subst q1
        rw [pk_us, pk_us, base, if_pos rfl]
        rw [show ∀ x z : Nat, x + 1 + (z + 1) = (x + z + 1) + 1 from fun x z => by omega, pk_m1, pk_m1]
      · subst q0
        rw [pk_un (by omega), pk_us, base, if_pos rfl, if_neg q1]
        rw [show ∀ x z : Nat, x + 1 + (z + 0) = (x + z) + 1 from fun x z => by omega, pk_m1]
    · by_cases q1 : n' = m
      · subst q1
        rw [pk_us, pk_un (by omega), base, if_neg q0, if_pos rfl]
        rw [show ∀ x z : Nat, x + 0 + (z + 1) = (x + z) + 1 from fun x z => by omega, pk_m1]
      · rw [pk_un (by omega), pk_un (by omega), base, if_neg q0, if_neg q1]; rfl
  · -- the free ones ascend
    rw [hF] at F1
    obtain ⟨u1, u2, u3⟩ := List.pairwise_append.mp F1
    have hq : ∀ b, b ∈ fq → a < b := by
      intro b hb
      cases fq with
      | nil => exact absurd hb (by simp)
      | cons d Q' =>
        have h1 := hfq d Q' rfl
        have h2 : d ≠ a := fun t => ((F2 d).mp (by rw [hF]; simp)).2 (t ▸ haA)
        rcases List.mem_cons.mp hb with t | t
        · omega
        · have := (List.pairwise_cons.mp u2).1 b t
          omega
    refine List.pairwise_append.mpr ⟨u1, List.pairwise_cons.mpr ⟨hq, u2⟩, fun b hb d hd => ?_⟩
    rcases List.mem_cons.mp hd with t | t
    · rw [t]; exact hfp b hb
    · exact u3 b hb d t
  · have := F2 b
    rw [hF] at this
    rw [mem' b]
    constructor
    · intro hb
      rcases List.mem_append.mp hb with t | t
      · have q := this.mp (by simp [t])
        exact ⟨q.1, fun z => q.2 z.1⟩
      · rcases List.mem_cons.mp t with t | t
        · subst t
          exact ⟨a24, fun z => z.2 rfl⟩
        · have q := this.mp (by simp [t])
          exact ⟨q.1, fun z => q.2 z.1⟩
    · rintro ⟨q1, q2⟩
      by_cases t : b = a
      · simp [t]
      · have q := this.mpr ⟨q1, fun z => q2 ⟨z, t⟩⟩
        rcases List.mem_append.mp q with z | z <;> simp [z]
  · -- the free chain
    rw [hF] at F3 F4 fnd
    have hnf : a ∉ fp ++ fq := fun t => ((F2 a).mp (by rw [hF]; exact t)).2 haA
    have core := zf_ins (c := upd (zinc (zinc (zun (zun c 0 n P0 Q0) 1 m P1 Q1) (16 + 7 * n + 6) (-1)) (16 + 7 * m + 6) (-1)) (100 + 10 * a) 0) (f := 100) (wd := 10) (k := a) (fun a b h => by omega) (fun a b => by omega) pk_us fp fq 1 (zf_congr F4 (fun b hb => ?_)) fnd hnf ?_ (fun b hb => by omega)
    · obtain ⟨k1, k2⟩ := core
      unfold zct
      unfold zinc at k1 k2 ⊢
      refine ⟨(pk_un (by omega)).trans k2, zf_congr k1 (fun b hb => ⟨pk_un (by omega), pk_un (by omega)⟩)⟩
    · have hb1 := (F2 b).mp (by rw [hF]; exact hb)
      unfold zinc
      have hba : b ≠ a := fun t => hb1.2 (t ▸ haA)
      constructor
      · rw [pk_un (by omega), pk_un (by omega), pk_un (by omega), zun_ne (fun _ => by omega) (fun K b q => by omega) (fun b L' q => by omega), zun_ne (fun _ => by omega) (fun K b q => by omega) (fun b L' q => by omega)]
      · rw [pk_un (by omega), pk_un (by omega), pk_un (by omega), zun_ne (fun _ => by omega) (fun K b q => by omega) (fun b L' q => by omega), zun_ne (fun _ => by omega) (fun K b' q => by
          have h := (l0 K b' q).1
          have : b ≠ b' := fun t => hb1.2 (t ▸ h)
          omega) (fun b L' q => by omega)]
    · unfold zinc
      rw [pk_un (by omega), pk_un (by omega), pk_un (by omega), zun_ne (fun _ => by omega) (fun K b q => by omega) (fun b L' q => by omega), zun_ne (fun _ => by omega) (fun K b q => by omega) (fun b L' q => by omega)]
      exact F3
  · obtain ⟨Fn, N1, N2, N3, N4⟩ := gFn
    refine ⟨Fn, N1, N2, (fr _ (by omega) (by omega) (by omega) (by omega) (by omega) (by omega) (fun b' hb' => by omega) (by omega) (by omega) (fun K b' q => by omega) (fun K b' q => by omega) (fun b' L' q => by omega) (fun b' L' q => by omega)).trans N3, zf_congr N4 (fun b hb => ?_)⟩
    have hb2 := (N2 b).mp hb
    exact ⟨fr _ (by omega) (by omega) (by omega) (by omega) (by omega) (by omega) (fun b' hb' => by omega) (by omega) (by omega) (fun K b' q => by omega) (fun K b' q => by omega) (fun b' L' q => by omega) (fun b' L' q => by omega),
      fr _ (by omega) (by omega) (by omega) (by omega) (by omega) (by omega) (fun b' hb' => by omega) (by omega) (by omega) (fun K b' q => by omega) (fun K b' q => by omega) (fun b' L' q => by omega) (fun b' L' q => by omega)⟩
  · rw [fr _ (by omega) (by omega) (by omega) (by omega) (by omega) (by omega) (fun b' hb' => by omega) (by omega) (by omega) (fun K b' q => by omega) (fun K b' q => by omega) (fun b' L' q => by omega) (fun b' L' q => by omega)]
    exact gR.1
  · have hi' := (List.getElem?_eq_some_iff.mp hi).1
    rw [fr _ (by omega) (by omega) (by omega) (by omega) (by omega) (by omega) (fun b' hb' => by omega) (by omega) (by omega) (fun K b' q => by omega) (fun K b' q => by omega) (fun b' L' q => by omega) (fun b' L' q => by omega)]
    exact gR.2.1 i n' hi
  · have hlen := zk_del_len s1 haA
    unfold zct
    unfold zinc
    rw [pk_us, zgv_ne (by omega) (by omega) (fun b' hb' => by omega), pk_un (by omega), pk_un (by omega), pk_un (by omega), zun_ne (fun _ => by omega) (fun K b q => by omega) (fun b L' q => by omega), zun_ne (fun _ => by omega) (fun K b q => by omega) (fun b L' q => by omega), gM, ← hlen, pk_m1]
end
section
variable {oo pi ck gs wg : Int32} {a1 a2 a3 a4 a5 a6 a7 a8 a9 a10 a11 a12 a13 : Nat → Int32}
theorem zm_cutArrow {post : St2 → Prop} {o : Nat} {B : Nat → Nat → Int32} {A R : List Nat} {e : Nat → Nat → Nat} {y w lb vl : Nat → Nat} {a : Nat} (ht : zt o a1 a2 a3 a4 a5 B) (h : zg a1 A e y w R lb vl) (haA : a ∈ A)
    (H : ∀ c b2 b3 b4 b5, zt o c b2 b3 b4 b5 B → zg c (A.filter (fun b => decide (b ≠ a))) e y w R lb vl → post (nI o, pi, ck, gs, wg, c, b2, b3, b4, b5, a6, a7, a8, a9, a10, a11, a12, a13)) : wpX_cutArrow post (nI o, pi, ck, gs, wg, a1, a2, a3, a4, a5, a6, a7, a8, a9, a10, a11, a12, a13) (nI a) := by
  have hg := h
  obtain ⟨⟨s1, s2, s3, s4⟩, gA, gC, gN, gH, gF, gFn, gR, gM⟩ := h
  obtain ⟨a24, aR0, aR1, _, _⟩ := s2 a haA
  obtain ⟨g0, g1, g2, g3, g4⟩ := gA a haA
  obtain ⟨P0, Q0, k0⟩ := List.append_of_mem (zk_mem.mpr ⟨haA, rfl⟩ : a ∈ zk A e 0 (e 0 a))
  obtain ⟨P1, Q1, k1⟩ := List.append_of_mem (zk_mem.mpr ⟨haA, rfl⟩ : a ∈ zk A e 1 (e 1 a))
  obtain ⟨Fa, F1, F2, F3, F4⟩ := gF
  obtain ⟨c01, c02⟩ := gC 0 _ (by omega) aR0
  obtain ⟨c11, c12⟩ := gC 1 _ (by omega) aR1
  rw [k0] at c02
  rw [k1] at c12
  have nd0 : (P0 ++ a :: Q0).Nodup := k0 ▸ zk_nodup s1
  have nd1 : (P1 ++ a :: Q1).Nodup := k1 ▸ zk_nodup s1
  have m0 : ∀ b, b ∈ P0 ++ a :: Q0 → b ∈ A := fun b hb => (zk_mem.mp (k0.symm ▸ hb)).1
  have m1 : ∀ b, b ∈ P1 ++ a :: Q1 → b ∈ A := fun b hb => (zk_mem.mp (k1.symm ▸ hb)).1
  refine zs_cut (Fa := Fa) ht a24 (s4 _ aR0) (s4 _ aR1) (fun b hb => ⟨(s2 b (m0 b (by simp [hb]))).1, fun t => ?_⟩) (fun b hb => ⟨(s2 b (m0 b (by simp [hb]))).1, fun t => ?_⟩) (fun b hb => ⟨(s2 b (m1 b (by simp [hb]))).1, fun t => ?_⟩) (fun b hb => ⟨(s2 b (m1 b (by simp [hb]))).1, fun t => ?_⟩)
    g1 g2 (zl_mid P0 c02).2 (zl_mid P1 c12).2 (zl_mid P0 c02).1 (zl_mid P1 c12).1 F3 F4 (fun b hb => ?_) (fun P Q q1 q2 q3 b2 b3 b4 b5 ht => H _ b2 b3 b4 b5 ht (zg_cut hg haA rfl rfl k0 k1 F1 F2 F3 F4 q1 q2 q3))
  · exact (List.nodup_append.mp nd0).2.2 b hb a (by simp) t
  · exact (List.nodup_cons.mp (List.nodup_append.mp nd0).2.1).1 (t ▸ hb)
  · exact (List.nodup_append.mp nd1).2.2 b hb a (by simp) t
  · exact (List.nodup_cons.mp (List.nodup_append.mp nd1).2.1).1 (t ▸ hb)
  · obtain ⟨q1, q2⟩ := (F2 b).mp hb
    exact ⟨q1, fun t => q2 (t ▸ haA), fun t => q2 (m0 b (by simp [t])), fun t => q2 (m1 b (by simp [t]))⟩
theorem zm_cut {post : Int32 → St2 → Prop} {o : Nat} {B : Nat → Nat → Int32} {A R : List Nat} {e : Nat → Nat → Nat} {y w lb vl : Nat → Nat} {a : Nat} (ht : zt o a1 a2 a3 a4 a5 B) (h : zg a1 A e y w R lb vl) (haA : a ∈ A)
    (H : ∀ c b2 b3 b4 b5, zt o c b2 b3 b4 b5 B → zg c (A.filter (fun b => decide (b ≠ a))) e y w R lb vl → post (nI (A.length - 1)) (nI o, pi, ck, gs, wg, c, b2, b3, b4, b5, a6, a7, a8, a9, a10, a11, a12, a13)) : wpX_cut post (nI o, pi, ck, gs, wg, a1, a2, a3, a4, a5, a6, a7, a8, a9, a10, a11, a12, a13) (nI a) := by
  unfold wpX_cut
  refine zr_isArrow (h.1.2.1 a haA).1 (fun _ => br_f (by decide) (zm_cutArrow ht h haA (fun c b2 b3 b4 b5 ht' h' => ?_))) (fun z => absurd (h.2.1 a haA).1 z)
  have := H c b2 b3 b4 b5 ht' h'
  have hlen := zk_del_len h.1.1 haA
  rw [show A.length - 1 = (A.filter (fun b => decide (b ≠ a))).length by omega, ← h'.2.2.2.2.2.2.2.2] at this
  exact this
end
end
section
/-! 14: placeFor, insertInRow, node -/
def znd1 (c : Nat → Int32) (n l V : Nat) : Nat → Int32 := upd (upd (upd (upd (upd (upd (upd c 0 (c (16 + 7 * n + 5))) (16 + 7 * n) 1) (16 + 7 * n + 1) (nI l)) (16 + 7 * n + 2) (nI V)) (16 + 7 * n + 3) (-1)) (16 + 7 * n + 4) (-1)) (16 + 7 * n + 6) 0
def znd (c : Nat → Int32) (n l V k : Nat) : Nat → Int32 := zinc (upd (znd1 c n l V) (4 + k) (nI n)) 2 1
theorem znd1_ne {c : Nat → Int32} {n l V x : Nat} (h0 : x ≠ 0) (h : x < 16 + 7 * n ∨ 16 + 7 * n + 7 ≤ x ∨ x = 16 + 7 * n + 5) : znd1 c n l V x = c x := by
  unfold znd1
  rw [pk_un (by omega), pk_un (by omega), pk_un (by omega), pk_un (by omega), pk_un (by omega), pk_un (by omega), pk_un (by omega)]
theorem znd_ne {c : Nat → Int32} {n l V k x : Nat} (h2 : x ≠ 2) (hk : x ≠ 4 + k) (h0 : x ≠ 0) (h : x < 16 + 7 * n ∨ 16 + 7 * n + 7 ≤ x ∨ x = 16 + 7 * n + 5) : znd c n l V k x = c x := by
  unfold znd
  unfold zinc
  rw [pk_un h2, pk_un hk, znd1_ne h0 h]
section
variable {oo pi ck gs wg : Int32} {a1 a2 a3 a4 a5 a6 a7 a8 a9 a10 a11 a12 a13 : Nat → Int32}
theorem zq_place {post : Int32 → Prop} {R : List Nat} {vl : Nat → Nat} {V N t : Nat} (hV : V < 1000) (hN : N < 1000) (hR : R.length ≤ 12) (hR12 : ∀ n, n ∈ R → n < 12) (hvl : ∀ n, n ∈ R → vl n < 1000) (hrow : ∀ i n, R[i]? = some n → a1 (4 + i) = nI n) (hval : ∀ n, n ∈ R → a1 (16 + 7 * n + 2) = nI (vl n))
    (hlo : ∀ i n, R[i]? = some n → i < t → (vl n < V ∨ vl n = V ∧ n < N)) (hhi : ∀ i n, R[i]? = some n → t ≤ i → ¬ (vl n < V ∨ vl n = V ∧ n < N)) (H : post (nI t)) :
    ∀ (m lo hi : Nat), hi - lo < m → lo ≤ t → t ≤ hi → hi ≤ R.length → wX_placeFor_10 post (nI V) (nI N) oo pi ck gs wg a1 a2 a3 a4 a5 a6 a7 a8 a9 a10 a11 a12 a13 m (nI lo) (nI hi)
  | 0, lo, hi, hm, _, _, _ => absurd hm (by omega)
  | m + 1, lo, hi, hm, h1, h2, h3 => by
    refine pk_le hi lo (fun q => ?_) (fun q => ?_)
    · rw [show lo = t by omega]; exact H
    · have hmid : (nI lo + nI hi) >>> ((1 : Int32) &&& 31) = nI ((lo + hi) / 2) := by
        rw [nI_add]
        exact pk_shrN (by omega) _ 1 (by decide)
      refine nm_r hmid ?_
      have hi' : (lo + hi) / 2 < R.length := by omega
      have hget : R[(lo + hi) / 2]? = some R[(lo + hi) / 2] := List.getElem?_eq_getElem hi'
      have hmem := List.getElem_mem hi'
      have h12 := hR12 _ hmem
      have hv := hvl _ hmem
      rw [za_40, nI_clamp (show 4 + (lo + hi) / 2 < 2 ^ 31 by omega), hrow _ _ hget]
      refine ⟨vp_in_nI (by omega) (by decide), nm_e (za_na ?_)⟩
      rw [za_a2, nI_clamp (show 16 + 7 * R[(lo + hi) / 2] + 2 < 2 ^ 31 by omega), hval _ hmem]
      refine ⟨vp_in_nI (by omega) (by decide), nm_e ?_⟩
      have up : (vl R[(lo + hi) / 2] < V ∨ vl R[(lo + hi) / 2] = V ∧ R[(lo + hi) / 2] < N) → ∀ x, x = nI ((lo + hi) / 2) + 1 → wX_placeFor_10 post (nI V) (nI N) oo pi ck gs wg a1 a2 a3 a4 a5 a6 a7 a8 a9 a10 a11 a12 a13 m x (nI hi) := by
        intro z
        refine nm_r (za_a1 _) (zq_place hV hN hR hR12 hvl hrow hval hlo hhi H m _ hi (by omega) ?_ h2 h3)
        apply Classical.byContradiction
        intro z'
        exact hhi _ _ hget (by omega) z
      have dn : ¬ (vl R[(lo + hi) / 2] < V ∨ vl R[(lo + hi) / 2] = V ∧ R[(lo + hi) / 2] < N) → wX_placeFor_10 post (nI V) (nI N) oo pi ck gs wg a1 a2 a3 a4 a5 a6 a7 a8 a9 a10 a11 a12 a13 m (nI lo) (nI ((lo + hi) / 2)) := by
        intro z
        refine zq_place hV hN hR hR12 hvl hrow hval hlo hhi H m lo _ (by omega) h1 ?_ (by omega)
        apply Classical.byContradiction
        intro z'
        exact z (hlo _ _ hget (by omega))
      refine pk_lt (vl R[(lo + hi) / 2]) V (fun z => up (Or.inl z)) (fun z => ?_)
      refine pk_eq (vl R[(lo + hi) / 2]) V (fun z2 => ?_) (fun z2 => dn (by omega))
      exact pk_le N R[(lo + hi) / 2] (fun z3 => dn (by omega)) (fun z3 => up (Or.inr ⟨z2, z3⟩))
theorem zs_placeFor {post : Int32 → Prop} {R : List Nat} {vl : Nat → Nat} {V N t : Nat} (hV : V < 1000) (hN : N < 1000) (hR : R.length ≤ 12) (hR12 : ∀ n, n ∈ R → n < 12) (hvl : ∀ n, n ∈ R → vl n < 1000) (h2 : a1 2 = nI R.length) (hrow : ∀ i n, R[i]? = some n → a1 (4 + i) = nI n) (hval : ∀ n, n ∈ R → a1 (16 + 7 * n + 2) = nI (vl n))
    (hlo : ∀ i n, R[i]? = some n → i < t → (vl n < V ∨ vl n = V ∧ n < N)) (hhi : ∀ i n, R[i]? = some n → t ≤ i → ¬ (vl n < V ∨ vl n = V ∧ n < N)) (ht : t ≤ R.length) (H : post (nI t)) : wpX_placeFor post (oo, pi, ck, gs, wg, a1, a2, a3, a4, a5, a6, a7, a8, a9, a10, a11, a12, a13) (nI V) (nI N) := by
  refine nm_r h2 ⟨R.length + 1, ?_⟩
  exact zq_place hV hN hR hR12 hvl hrow hval hlo hhi H (R.length + 1) 0 R.length (by omega) (by omega) ht (by omega)
theorem zs_node {post : Int32 → St2 → Prop} {o n l V : Nat} {B : Nat → Nat → Int32} {R : List Nat} {vl : Nat → Nat} (ht : zt o a1 a2 a3 a4 a5 B) (hl : l ≤ 7) (hn : n < 12) (h0 : a1 0 = nI n) (hnR : n ∉ R) (hV : V < 1000) (hRn : R.Nodup) (hR12 : ∀ n, n ∈ R → n < 12) (hvl : ∀ n, n ∈ R → vl n < 1000) (h2 : a1 2 = nI R.length) (hrow : ∀ i n, R[i]? = some n → a1 (4 + i) = nI n) (hval : ∀ n, n ∈ R → a1 (16 + 7 * n + 2) = nI (vl n))
    (hless : ∀ r, r ∈ R → (vl r < V ∨ vl r = V ∧ r < n))
    (H : ∀ b2 b3 b4 b5, zt o (znd a1 n l V R.length) b2 b3 b4 b5 B → post (nI n) (nI o, pi, ck, gs, wg, znd a1 n l V R.length, b2, b3, b4, b5, a6, a7, a8, a9, a10, a11, a12, a13)) : wpX_node post (nI o, pi, ck, gs, wg, a1, a2, a3, a4, a5, a6, a7, a8, a9, a10, a11, a12, a13) (nI l) (nI V) := by
  have hR : R.length + 1 ≤ 12 := za_pg (L := n :: R) (List.nodup_cons.mpr ⟨hnR, hRn⟩) (fun w hw => by
      rcases List.mem_cons.mp hw with q | q
      · omega
      · exact hR12 w q)
  unfold wpX_node
  refine br_f (nI_pos (by omega)) (br_t (nI_le (b := 7) hl (by decide)) (nm_r h0 (br_t (nI_pos' (by omega)) (za_na ?_))))
  rw [za_a5, nI_clamp (show 16 + 7 * n + 5 < 2 ^ 31 by omega)]
  refine ⟨vp_in_nI (by omega) (by decide), zt_put 0 rfl ht (by omega) (fun b2 b3 b4 b5 ht => zt_put (16 + 7 * n) (za_a0 _) ht (by omega) (fun b2 b3 b4 b5 ht => zt_put (16 + 7 * n + 1) (za_a1 _) ht (by omega) (fun b2 b3 b4 b5 ht => zt_put (16 + 7 * n + 2) (za_a2 _) ht (by omega) (fun b2 b3 b4 b5 ht => zt_put (16 + 7 * n + 3) (za_a3 _) ht (by omega) (fun b2 b3 b4 b5 ht => zt_put (16 + 7 * n + 4) (by rw [za_a3, za_a1]) ht (by omega) (fun b2 b3 b4 b5 ht => zt_put (16 + 7 * n + 6) (za_a6 _) ht (by omega) (fun b2 b3 b4 b5 ht => ?_)))))))⟩
  have ht' : zt o (znd1 a1 n l V) b2 b3 b4 b5 B := ht
  show wpX_insertInRow _ (nI o, pi, ck, gs, wg, znd1 a1 n l V, b2, b3, b4, b5, a6, a7, a8, a9, a10, a11, a12, a13) _ _
  have k2 : znd1 a1 n l V 2 = nI R.length := by rw [znd1_ne (by omega) (by omega)]; exact h2
  unfold wpX_insertInRow
  refine zs_placeFor (R := R) (vl := vl) (t := R.length) hV (by omega) (by omega) hR12 hvl k2 (fun i r hi => ?_) (fun r hr => ?_) (fun i r hi _ => hless r (List.mem_of_getElem? hi)) (fun i r hi hti => ?_) (Nat.le_refl _) (nm_r k2 ⟨1, ?_⟩)
  · have := (List.getElem?_eq_some_iff.mp hi).1
    rw [znd1_ne (by omega) (by omega)]
    exact hrow i r hi
  · have := hR12 r hr
    have hne : r ≠ n := fun t => hnR (t ▸ hr)
    rw [znd1_ne (by omega) (by omega)]
    exact hval r hr
  · have := (List.getElem?_eq_some_iff.mp hi).1
    omega
  · exact br_t (nI_le (Nat.le_refl _) (by omega)) (zt_put (4 + R.length) (za_40 _) ht' (by omega) (fun b2 b3 b4 b5 ht => zt_add 2 rfl ht (by omega) H))
end
section
variable {c : Nat → Int32} {A R : List Nat} {e : Nat → Nat → Nat} {y w lb vl lb' vl' : Nat → Nat} {n l V : Nat}
theorem zg_node (h : zg c A e y w R lb vl) (hn : n < 12) (hnR : n ∉ R) (hl : ∀ b, b < n → b ∈ R) (hless : ∀ r, r ∈ R → (vl r < V ∨ vl r = V ∧ r < n)) (hlb : ∀ r, r ∈ R → lb' r = lb r) (hvl : ∀ r, r ∈ R → vl' r = vl r) (hlb' : lb' n = l) (hvl' : vl' n = V) :
    zg (znd c n l V R.length) A e y w (R ++ [n]) lb' vl' := by
  obtain ⟨⟨s1, s2, s3, s4⟩, gA, gC, gN, gH, gF, gFn, gR, gM⟩ := h
  have hR : R.length + 1 ≤ 12 := za_pg (L := n :: R) (List.nodup_cons.mpr ⟨hnR, s3⟩) (fun w hw => by
      rcases List.mem_cons.mp hw with q | q
      · omega
      · exact s4 w q)
  have mem : ∀ r, r ∈ R ++ [n] ↔ r ∈ R ∨ r = n := fun r => by simp
  obtain ⟨_, Fn, F1, F2, F3, F4⟩ := zg_least gFn hn hnR hl
  have hzk : ∀ s, s < 2 → zk A e s n = [] := fun s hs => by
    cases hz : zk A e s n with
    | nil => rfl
    | cons b L =>
      obtain ⟨q1, q2⟩ := zk_mem.mp (show b ∈ zk A e s n by rw [hz]; simp)
      have hs' : s = 0 ∨ s = 1 := by omega
      rcases hs' with rfl | rfl
      · exact absurd (q2 ▸ (s2 b q1).2.1) hnR
      · exact absurd (q2 ▸ (s2 b q1).2.2.1) hnR
  refine ⟨⟨s1, fun a ha => ?_, ?_, fun r hr => ?_⟩, fun a ha => ?_, fun s r hs hr => ?_, fun r hr => ?_, fun r hr => ?_, ?_, ⟨Fn, (List.pairwise_cons.mp F1).2, fun b => ?_, ?_, zf_congr F4 (fun b hb => ?_)⟩, ⟨?_, fun i r hi => ?_, ?_⟩, ?_⟩
  · obtain ⟨q1, q2, q3, q4⟩ := s2 a ha
    exact ⟨q1, by simp [q2], by simp [q3], q4⟩
  · exact List.nodup_append.mpr ⟨s3, by simp, fun a ha b hb q => by simp at hb; exact hnR (by rw [← hb, ← q]; exact ha)⟩
  · rcases (mem r).mp hr with q | q
    · exact s4 r q
    · omega
  · have := (s2 a ha).1
    rw [znd_ne (by omega) (by omega) (by omega) (by omega), znd_ne (by omega) (by omega) (by omega) (by omega), znd_ne (by omega) (by omega) (by omega) (by omega), znd_ne (by omega) (by omega) (by omega) (by omega), znd_ne (by omega) (by omega) (by omega) (by omega)]
    exact gA a ha
  · rcases (mem r).mp hr with q | q
    · have hrn : r ≠ n := fun t => hnR (t ▸ q)
      obtain ⟨d1, d2⟩ := gC s r hs q
      have := s4 r q
      refine ⟨(znd_ne (by omega) (by omega) (by omega) (by omega)).trans d1, zl_congr d2 (fun b hb => ⟨znd_ne (by omega) (by omega) (by omega) (by omega), znd_ne (by omega) (by omega) (by omega) (by omega)⟩)⟩
    · subst q
      rw [hzk s hs]
      refine ⟨?_, trivial⟩
      have hs' : s = 0 ∨ s = 1 := by omega
      unfold znd zinc znd1
      rcases hs' with rfl | rfl
      · rw [pk_un (by omega), pk_un (by omega), pk_un (by omega), pk_un (by omega)]; exact pk_us
      · rw [pk_un (by omega), pk_un (by omega), pk_un (by omega)]; exact pk_us
  · rcases (mem r).mp hr with q | q
    · have hrn : r ≠ n := fun t => hnR (t ▸ q)
      have := s4 r q
      rw [znd_ne (by omega) (by omega) (by omega) (by omega), znd_ne (by omega) (by omega) (by omega) (by omega), znd_ne (by omega) (by omega) (by omega) (by omega), hlb r q, hvl r q]
      exact gN r q
    · subst q
      rw [hlb', hvl']
      unfold znd zinc znd1
      refine ⟨?_, ?_, ?_⟩
      · rw [pk_un (by omega), pk_un (by omega), pk_un (by omega), pk_un (by omega), pk_un (by omega), pk_un (by omega), pk_un (by omega)]; exact pk_us
      · rw [pk_un (by omega), pk_un (by omega), pk_un (by omega), pk_un (by omega), pk_un (by omega), pk_un (by omega)]; exact pk_us
      · rw [pk_un (by omega), pk_un (by omega), pk_un (by omega), pk_un (by omega), pk_un (by omega)]; exact pk_us
  · rcases (mem r).mp hr with q | q
    · have hrn : r ≠ n := fun t => hnR (t ▸ q)
      have := s4 r q
      rw [znd_ne (by omega) (by omega) (by omega) (by omega)]
      exact gH r q
    · subst q
      rw [hzk 0 (by omega), hzk 1 (by omega)]
      unfold znd zinc znd1
      rw [pk_un (by omega), pk_un (by omega)]; exact pk_us
  · obtain ⟨Fa, N1, N2, N3, N4⟩ := gF
    refine ⟨Fa, N1, N2, (znd_ne (by omega) (by omega) (by omega) (by omega)).trans N3, zf_congr N4 (fun b hb => ⟨znd_ne (by omega) (by omega) (by omega) (by omega), znd_ne (by omega) (by omega) (by omega) (by omega)⟩)⟩
  · rw [mem b, not_or]
    constructor
    · intro hb
      have := (F2 b).mp (by simp [hb])
      have := (List.pairwise_cons.mp F1).1 b hb
      exact ⟨by omega, ((F2 b).mp (by simp [hb])).2, by omega⟩
    · rintro ⟨q1, q2, q3⟩
      rcases List.mem_cons.mp ((F2 b).mpr ⟨q1, q2⟩) with t | t
      · exact absurd t q3
      · exact t
  · rw [← F3]
    unfold znd zinc znd1
    rw [pk_un (by omega), pk_un (by omega), pk_un (by omega), pk_un (by omega), pk_un (by omega), pk_un (by omega), pk_un (by omega), pk_un (by omega)]; exact pk_us
  · have hb1 := (List.pairwise_cons.mp F1).1 b hb
    exact ⟨znd_ne (by omega) (by omega) (by omega) (by omega), znd_ne (by omega) (by omega) (by omega) (by omega)⟩
  · unfold znd zinc
    rw [pk_us, pk_un (by omega), znd1_ne (by omega) (by omega), gR.1, List.length_append]
    exact za_a1 _
  · rcases Nat.lt_or_ge i R.length with q | q
    · rw [List.getElem?_append_left q] at hi
      rw [znd_ne (by omega) (by omega) (by omega) (by omega)]
      exact gR.2.1 i r hi
    · have hi' := (List.getElem?_eq_some_iff.mp hi).1
      simp at hi'
      have ei : i = R.length := by omega
      subst ei
      simp at hi
      rw [← hi]
      unfold znd zinc
      rw [pk_un (by omega), pk_us]
  · refine List.pairwise_append.mpr ⟨?_, by simp, fun a ha b hb => ?_⟩
    · refine gR.2.2.imp_of_mem (fun {a b} ha hb hab => ?_)
      rw [hvl a ha, hvl b hb]; exact hab
    · have : b = n := by simpa using hb
      subst this
      rw [hvl a ha, hvl']
      exact hless a ha
  · rw [znd_ne (by omega) (by omega) (by omega) (by omega)]
    exact gM
end
section
variable {oo pi ck gs wg : Int32} {a1 a2 a3 a4 a5 a6 a7 a8 a9 a10 a11 a12 a13 : Nat → Int32}
theorem zm_node {post : Int32 → St2 → Prop} {o : Nat} {B : Nat → Nat → Int32} {A R : List Nat} {e : Nat → Nat → Nat} {y w lb vl lb' vl' : Nat → Nat} {n l V : Nat} (ht : zt o a1 a2 a3 a4 a5 B) (h : zg a1 A e y w R lb vl) (hl : l ≤ 7) (hV : V < 1000) (hv : ∀ r, r ∈ R → vl r < 1000) (hn : n < 12) (hnR : n ∉ R) (hlt : ∀ b, b < n → b ∈ R)
    (hless : ∀ r, r ∈ R → (vl r < V ∨ vl r = V ∧ r < n)) (hlb : ∀ r, r ∈ R → lb' r = lb r) (hvl : ∀ r, r ∈ R → vl' r = vl r) (hlb' : lb' n = l) (hvl' : vl' n = V)
    (H : ∀ c b2 b3 b4 b5, zt o c b2 b3 b4 b5 B → zg c A e y w (R ++ [n]) lb' vl' → post (nI n) (nI o, pi, ck, gs, wg, c, b2, b3, b4, b5, a6, a7, a8, a9, a10, a11, a12, a13)) : wpX_node post (nI o, pi, ck, gs, wg, a1, a2, a3, a4, a5, a6, a7, a8, a9, a10, a11, a12, a13) (nI l) (nI V) :=
  zs_node ht hl hn (zg_least h.2.2.2.2.2.2.1 hn hnR hlt).1 hnR hV h.1.2.2.1 h.1.2.2.2 hv h.2.2.2.2.2.2.2.1.1 h.2.2.2.2.2.2.2.1.2.1 (fun r hr => (h.2.2.2.1 r hr).2.2) hless
    (fun b2 b3 b4 b5 ht' => H _ b2 b3 b4 b5 ht' (zg_node h hn hnR hlt hless hlb hvl hlb' hvl'))
end
end
section
/-! 15: removeFromRow, drop -/
section
variable {oo pi ck gs wg : Int32} {a1 a2 a3 a4 a5 a6 a7 a8 a9 a10 a11 a12 a13 : Nat → Int32}
theorem zs_rem25 {post : St2 → Prop} {o t k : Nat} {B : Nat → Nat → Int32} {c0 : Nat → Int32} (hk : k ≤ 11) (h2 : c0 2 = nI k)
    (H : ∀ c b2 b3 b4 b5, zt o c b2 b3 b4 b5 B → (∀ i, t ≤ i → i < k → c (4 + i) = c0 (4 + i + 1)) → (∀ x, (x < 4 + t ∨ 4 + k ≤ x) → c x = c0 x) → post (nI o, pi, ck, gs, wg, c, b2, b3, b4, b5, a6, a7, a8, a9, a10, a11, a12, a13)) :
    ∀ (m j : Nat) (a1 a2 a3 a4 a5 : Nat → Int32), j + m = k → t ≤ j → zt o a1 a2 a3 a4 a5 B → (∀ i, t ≤ i → i < j → a1 (4 + i) = c0 (4 + i + 1)) → (∀ x, (x < 4 + t ∨ 4 + j ≤ x) → a1 x = c0 x) →
      wX_removeFromRow_25 post (m + 1) (nI j) (nI o) pi ck gs wg a1 a2 a3 a4 a5 a6 a7 a8 a9 a10 a11 a12 a13
  | 0, j, a1, a2, a3, a4, a5, hj, htj, ht, g1, g2 => by
    have e : j = k := by omega
    subst e
    refine br_t ?_ (H a1 a2 a3 a4 a5 ht g1 g2)
    rw [g2 2 (by omega), h2]
    exact nI_le (Nat.le_refl _) (by omega)
  | m + 1, j, a1, a2, a3, a4, a5, hj, htj, ht, g1, g2 => by
    refine br_f ?_ ?_
    · rw [g2 2 (by omega), h2]
      exact nI_ge (by omega) (by omega)
    · rw [za_40, za_a1 (4 + j), nI_clamp (show 4 + j + 1 < 2 ^ 31 by omega), g2 (4 + j + 1) (by omega)]
      refine ⟨vp_in_nI (by omega) (by decide), zt_put (4 + j) rfl ht (by omega) (fun b2 b3 b4 b5 ht => nm_r (za_a1 j) ?_)⟩
      refine zs_rem25 hk h2 H m (j + 1) _ b2 b3 b4 b5 (by omega) (by omega) ht (fun i q1 q2 => ?_) (fun x hx => ?_)
      · by_cases q : i = j
        · subst q; exact pk_us
        · rw [pk_un (by omega)]; exact g1 i q1 (by omega)
      · rw [pk_un (by omega)]; exact g2 x (by omega)
theorem zs_remove {post : St2 → Prop} {o n : Nat} {B : Nat → Nat → Int32} {R R1 R2 : List Nat} {vl : Nat → Nat} (ht : zt o a1 a2 a3 a4 a5 B) (hRR : R = R1 ++ n :: R2) (hRn : R.Nodup) (hR12 : ∀ n, n ∈ R → n < 12) (hvl : ∀ n, n ∈ R → vl n < 1000) (h2 : a1 2 = nI R.length) (hrow : ∀ i n, R[i]? = some n → a1 (4 + i) = nI n) (hval : ∀ n, n ∈ R → a1 (16 + 7 * n + 2) = nI (vl n))
    (hsort : R.Pairwise (fun a b => vl a < vl b ∨ vl a = vl b ∧ a < b))
    (H : ∀ c b2 b3 b4 b5, zt o c b2 b3 b4 b5 B → c 2 = nI (R1 ++ R2).length → (∀ i r, (R1 ++ R2)[i]? = some r → c (4 + i) = nI r) → (∀ x, x ≠ 2 → (x < 4 ∨ 16 ≤ x) → c x = a1 x) → post (nI o, pi, ck, gs, wg, c, b2, b3, b4, b5, a6, a7, a8, a9, a10, a11, a12, a13)) :
    wpX_removeFromRow post (nI o, pi, ck, gs, wg, a1, a2, a3, a4, a5, a6, a7, a8, a9, a10, a11, a12, a13) (nI n) := by
  have hl12 : R.length ≤ 12 := za_pg hRn hR12
  have hlen : R.length = R1.length + R2.length + 1 := by rw [hRR]; simp; omega
  have nR : n ∈ R := by rw [hRR]; simp
  have n12 := hR12 n nR
  unfold wpX_removeFromRow
  refine za_na ?_
  rw [za_a2, nI_clamp (show 16 + 7 * n + 2 < 2 ^ 31 by omega), hval n nR]
  refine ⟨vp_in_nI (by omega) (by decide), ?_⟩
  have hs := hsort
  rw [hRR] at hs
  obtain ⟨u1, u2, u3⟩ := List.pairwise_append.mp hs
  refine zs_placeFor (R := R) (vl := vl) (V := vl n) (N := n) (t := R1.length) (hvl n nR) (by omega) hl12 hR12 hvl h2 hrow hval (fun i r hi hit => ?_) (fun i r hi hti => ?_) (by omega) ?_
  · rw [hRR, List.getElem?_append_left hit] at hi
    exact u3 r (List.mem_of_getElem? hi) n (by simp)
  · rw [hRR, List.getElem?_append_right hti] at hi
    have hr : r ∈ n :: R2 := List.mem_of_getElem? hi
    rcases List.mem_cons.mp hr with q | q
    · rw [q]; omega
    · have := (List.pairwise_cons.mp u2).1 r q
      omega
  · refine zt_add 2 rfl ht (by omega) (fun b2 b3 b4 b5 ht => ⟨R2.length + 1, ?_⟩)
    have hc2 : a1 2 + (-1) = nI (R1.length + R2.length) := by
      rw [h2, hlen, pk_m1]
    refine zs_rem25 (t := R1.length) (k := R1.length + R2.length) (c0 := upd a1 2 (a1 2 + (-1))) (by omega) (by rw [pk_us, hc2]) (fun c b2 b3 b4 b5 ht g1 g2 => H c b2 b3 b4 b5 ht ?_ (fun i r hi => ?_) (fun x hx2 hx => ?_)) R2.length R1.length _ b2 b3 b4 b5 (by omega) (Nat.le_refl _) ht (fun i q1 q2 => absurd q2 (by omega)) (fun x _ => rfl)
    · rw [g2 2 (by omega), pk_us, hc2, List.length_append]
    · rcases Nat.lt_or_ge i R1.length with q | q
      · rw [List.getElem?_append_left q] at hi
        rw [g2 (4 + i) (by omega), pk_un (by omega)]
        exact hrow i r (by rw [hRR, List.getElem?_append_left q]; exact hi)
      · have hi' := (List.getElem?_eq_some_iff.mp hi).1
        rw [List.length_append] at hi'
        rw [List.getElem?_append_right q] at hi
        rw [g1 i q hi', pk_un (by omega)]
        refine hrow (i + 1) r ?_
        rw [hRR, List.getElem?_append_right (by omega), show i + 1 - R1.length = (i - R1.length) + 1 by omega, List.getElem?_cons_succ]
        exact hi
    · rw [g2 x (by omega), pk_un hx2]
theorem zs_drop46 {post : Int32 → St2 → Prop} {J : Int32 → Int32 → Int32 → Int32 → Int32 → Int32 → Int32 → (Nat → Int32) → (Nat → Int32) → (Nat → Int32) → (Nat → Int32) → (Nat → Int32) → (Nat → Int32) → (Nat → Int32) → (Nat → Int32) → (Nat → Int32) → (Nat → Int32) → (Nat → Int32) → (Nat → Int32) → (Nat → Int32) → Prop}
    {o n s tot : Nat} {B : Nat → Nat → Int32} {R A0 : List Nat} {e : Nat → Nat → Nat} {y w lb vl : Nat → Nat} (hn : n ∈ R) (hs : s < 2)
    (H : ∀ (c b2 b3 b4 b5 : Nat → Int32) (A : List Nat) (g : Nat), zt o c b2 b3 b4 b5 B → zg c A e y w R lb vl → (∀ a, a ∈ A ↔ a ∈ A0 ∧ e s a ≠ n) → A.length + g = tot → J (nI g) (nI (s + 1)) (nI o) pi ck gs wg c b2 b3 b4 b5 a6 a7 a8 a9 a10 a11 a12 a13) :
    ∀ (k : Nat) (A : List Nat) (g : Nat) (a1 a2 a3 a4 a5 : Nat → Int32), (zk A e s n).length = k → zt o a1 a2 a3 a4 a5 B → zg a1 A e y w R lb vl → (∀ a, a ∈ A → a ∈ A0) → (∀ a, a ∈ A0 → e s a ≠ n → a ∈ A) → A.length + g = tot →
      wX_drop_46 post J (nI n) (nI (16 + 7 * n)) (nI s) (k + 1) (nI g) (nI o) pi ck gs wg a1 a2 a3 a4 a5 a6 a7 a8 a9 a10 a11 a12 a13 := by
  intro k
  induction k with
  | zero =>
    intro A g a1 a2 a3 a4 a5 hk ht hg h1 h2 hlen
    have n12 := hg.1.2.2.2 n hn
    have hz : zk A e s n = [] := List.eq_nil_of_length_eq_zero hk
    obtain ⟨c1, _⟩ := hg.2.2.1 s n hs hn
    refine ⟨pk_in (16 + 7 * n + 3 + s) 340 (by omega) (by rw [za_a3, nI_add]), ?_⟩
    rw [za_a3, nI_add, nI_clamp (show 16 + 7 * n + 3 + s < 2 ^ 31 by omega), c1, hz]
    refine br_t za_neg (nm_r (za_a1 s) (H a1 a2 a3 a4 a5 A g ht hg (fun a => ⟨fun ha => ⟨h1 a ha, fun q => ?_⟩, fun ha => h2 a ha.1 ha.2⟩) hlen))
    have : a ∈ zk A e s n := zk_mem.mpr ⟨ha, q⟩
    rw [hz] at this
    exact absurd this (by simp)
  | succ k ih =>
    intro A g a1 a2 a3 a4 a5 hk ht hg h1 h2 hlen
    have n12 := hg.1.2.2.2 n hn
    obtain ⟨c1, _⟩ := hg.2.2.1 s n hs hn
    cases hz : zk A e s n with
    | nil => rw [hz] at hk; exact absurd hk (by simp)
    | cons a L =>
      have haz : a ∈ zk A e s n := by rw [hz]; simp
      obtain ⟨haA, has⟩ := zk_mem.mp haz
      have a24 := (hg.1.2.1 a haA).1
      refine ⟨pk_in (16 + 7 * n + 3 + s) 340 (by omega) (by rw [za_a3, nI_add]), ?_⟩
      rw [za_a3, nI_add, nI_clamp (show 16 + 7 * n + 3 + s < 2 ^ 31 by omega), c1, hz]
      refine br_f (za_h_pos (by omega)) ⟨vp_in_nI (by omega) (by decide), zm_cutArrow ht hg haA (fun c b2 b3 b4 b5 ht' hg' => nm_r (za_a1 g) ?_)⟩
      have hl := zk_del_len hg.1.1 haA
      refine ih (A.filter (fun b => decide (b ≠ a))) (g + 1) c b2 b3 b4 b5 ?_ ht' hg' (fun b hb => h1 b (List.mem_filter.mp hb).1) (fun b hb hbs => ?_) (by omega)
      · rw [zk_del_t (P := []) hg.1.1 hz]
        rw [hz] at hk
        simpa using hk
      · refine List.mem_filter.mpr ⟨h2 b hb hbs, ?_⟩
        have : b ≠ a := fun q => hbs (q ▸ has)
        simpa using this
end
theorem zg_drop {c c1 : Nat → Int32} {A R1 R2 P Q Fn : List Nat} {e : Nat → Nat → Nat} {y w lb vl : Nat → Nat} {n : Nat} (h : zg c A e y w (R1 ++ n :: R2) lb vl) (hA : ∀ a, a ∈ A → e 0 a ≠ n ∧ e 1 a ≠ n) (hc2 : c1 2 = nI (R1 ++ R2).length) (hcr : ∀ i r, (R1 ++ R2)[i]? = some r → c1 (4 + i) = nI r) (hc : ∀ x, x ≠ 2 → (x < 4 ∨ 16 ≤ x) → c1 x = c x)
    (F1 : Fn.Pairwise (fun a b => a < b)) (F2 : ∀ a, a ∈ Fn ↔ a < 12 ∧ a ∉ R1 ++ n :: R2) (F3 : c 0 = za_h Fn) (F4 : zf c 16 7 Fn) (hF : Fn = P ++ Q) (hP : ∀ b, b ∈ P → b < n) (hQ : ∀ b Q', Q = b :: Q' → n ≤ b) :
    zg (zgv (upd c1 (16 + 7 * n) 0) 0 16 7 n P Q) A e y w (R1 ++ R2) lb vl := by
  obtain ⟨⟨s1, s2, s3, s4⟩, gA, gC, gN, gH, gF, gFn, gR, gM⟩ := h
  have nR : n ∈ R1 ++ n :: R2 := by simp
  have n12 := s4 n nR
  have hnd := List.nodup_append.mp s3
  have nn1 : n ∉ R1 := fun t => hnd.2.2 n t n (by simp) rfl
  have nn2 : n ∉ R2 := (List.nodup_cons.mp hnd.2.1).1
  have mem : ∀ r, r ∈ R1 ++ R2 ↔ r ∈ R1 ++ n :: R2 ∧ r ≠ n := fun r => by
    simp only [List.mem_append, List.mem_cons]
    constructor
    · rintro (q | q)
      · exact ⟨Or.inl q, fun t => nn1 (t ▸ q)⟩
      · exact ⟨Or.inr (Or.inr q), fun t => nn2 (t ▸ q)⟩
    · rintro ⟨q | q | q, t⟩
      · exact Or.inl q
      · exact absurd q t
      · exact Or.inr q
  have fpR : ∀ b, b ∈ P → b ∉ R1 ++ n :: R2 := fun b hb => ((F2 b).mp (by rw [hF]; simp [hb])).2
  have fr : ∀ x, x ≠ 16 + 7 * n → x ≠ 16 + 7 * n + 5 → x ≠ 0 → (∀ b, b ∈ P → x ≠ 16 + 7 * b + 5) → zgv (upd c1 (16 + 7 * n) 0) 0 16 7 n P Q x = c1 x := by
    intro x h1 h2 h3 h4
    rw [zgv_ne h2 h3 h4, pk_un h1]
  have hP12 : ∀ b, b ∈ P → b < 12 := fun b hb => ((F2 b).mp (by rw [hF]; simp [hb])).1
  have hsub : (R1 ++ R2).Sublist (R1 ++ n :: R2) := List.Sublist.append (List.Sublist.refl _) (List.sublist_cons_self _ _)
  have hnd' : (R1 ++ R2).Nodup := s3.sublist hsub
  have hlen : (R1 ++ R2).length ≤ 12 := za_pg hnd' (fun r hr => s4 r ((mem r).mp hr).1)
  have hfr : ∀ x, (x = 1 ∨ x = 3 ∨ 100 ≤ x) → zgv (upd c1 (16 + 7 * n) 0) 0 16 7 n P Q x = c x := fun x hx => by
    rw [fr x (by omega) (by omega) (by omega) (fun b hb => by have := hP12 b hb; omega), hc x (by omega) (by omega)]
  refine ⟨⟨s1, fun a ha => ?_, hnd', fun r hr => s4 r ((mem r).mp hr).1⟩, fun a ha => ?_, fun s r hs hr => ?_, fun r hr => ?_, fun r hr => ?_, ?_, ⟨P ++ n :: Q, ?_, fun b => ?_, ?_⟩, ⟨?_, fun i r hi => ?_, gR.2.2.sublist hsub⟩, ?_⟩
  · obtain ⟨q1, q2, q3, q4⟩ := s2 a ha
    exact ⟨q1, (mem _).mpr ⟨q2, (hA a ha).1⟩, (mem _).mpr ⟨q3, (hA a ha).2⟩, q4⟩
  · rw [hfr _ (by omega), hfr _ (by omega), hfr _ (by omega), hfr _ (by omega), hfr _ (by omega)]
    exact gA a ha
  · obtain ⟨q1, q2⟩ := (mem r).mp hr
    have r12 := s4 r q1
    obtain ⟨d1, d2⟩ := gC s r hs q1
    refine ⟨?_, zl_congr d2 (fun b hb => ⟨hfr _ (by omega), hfr _ (by omega)⟩)⟩
    rw [fr _ (by omega) (by omega) (by omega) (fun b hb => by omega), hc _ (by omega) (by omega)]
    exact d1
  · obtain ⟨q1, q2⟩ := (mem r).mp hr
    have r12 := s4 r q1
    rw [fr _ (by omega) (by omega) (by omega) (fun b hb => by omega), hc _ (by omega) (by omega), fr _ (by omega) (by omega) (by omega) (fun b hb => by omega), hc _ (by omega) (by omega), fr _ (by omega) (by omega) (by omega) (fun b hb => by omega), hc _ (by omega) (by omega)]
    exact gN r q1
  · obtain ⟨q1, q2⟩ := (mem r).mp hr
    have r12 := s4 r q1
    rw [fr _ (by omega) (by omega) (by omega) (fun b hb => by omega), hc _ (by omega) (by omega)]
    exact gH r q1
  · obtain ⟨Fa, N1, N2, N3, N4⟩ := gF
    exact ⟨Fa, N1, N2, (hfr _ (by omega)).trans N3, zf_congr N4 (fun b hb => ⟨hfr _ (by omega), hfr _ (by omega)⟩)⟩
  · rw [hF] at F1
    obtain ⟨u1, u2, u3⟩ := List.pairwise_append.mp F1
    have hq : ∀ b, b ∈ Q → n < b := by
      intro b hb
      cases Q with
      | nil => exact absurd hb (by simp)
      | cons d Q' =>
        have h1 := hQ d Q' rfl
        have h2 : d ≠ n := fun t => ((F2 d).mp (by rw [hF]; simp)).2 (t ▸ nR)
        rcases List.mem_cons.mp hb with t | t
        · omega
        · have := (List.pairwise_cons.mp u2).1 b t
          omega
    refine List.pairwise_append.mpr ⟨u1, List.pairwise_cons.mpr ⟨hq, u2⟩, fun b hb d hd => ?_⟩
    rcases List.mem_cons.mp hd with t | t
    · rw [t]; exact hP b hb
    · exact u3 b hb d t
  · have := F2 b
    rw [hF] at this
    rw [mem b]
    constructor
    · intro hb
      rcases List.mem_append.mp hb with t | t
      · have q := this.mp (by simp [t])
        exact ⟨q.1, fun z => q.2 z.1⟩
      · rcases List.mem_cons.mp t with t | t
        · subst t
          exact ⟨n12, fun z => z.2 rfl⟩
        · have q := this.mp (by simp [t])
          exact ⟨q.1, fun z => q.2 z.1⟩
    · rintro ⟨q1, q2⟩
      by_cases t : b = n
      · simp [t]
      · have q := this.mpr ⟨q1, fun z => q2 ⟨z, t⟩⟩
        rcases List.mem_append.mp q with z | z <;> simp [z]
  · have fnd : Fn.Nodup := za_asc_nodup F1
    rw [hF] at F3 F4 fnd
    have hnf : n ∉ P ++ Q := fun t => ((F2 n).mp (by rw [hF]; exact t)).2 nR
    have core := zf_ins (c := upd c1 (16 + 7 * n) 0) (f := 16) (wd := 7) (k := n) (fun a b h => by omega) (fun a b => by omega) pk_us P Q 0 (zf_congr F4 (fun b hb => ?_)) fnd hnf ?_ (fun b hb => by omega)
    · exact ⟨core.2, core.1⟩
    · have hb1 := (F2 b).mp (by rw [hF]; exact hb)
      have hbn : b ≠ n := fun t => hb1.2 (t ▸ nR)
      exact ⟨by rw [pk_un (by omega), hc _ (by omega) (by omega)], by rw [pk_un (by omega), hc _ (by omega) (by omega)]⟩
    · rw [pk_un (by omega), hc 0 (by omega) (by omega)]
      exact F3
  · rw [fr _ (by omega) (by omega) (by omega) (fun b hb => by omega)]
    exact hc2
  · have hi' := (List.getElem?_eq_some_iff.mp hi).1
    rw [fr _ (by omega) (by omega) (by omega) (fun b hb => by omega)]
    exact hcr i r hi
  · rw [hfr _ (by omega)]
    exact gM
section
variable {oo pi ck gs wg : Int32} {a1 a2 a3 a4 a5 a6 a7 a8 a9 a10 a11 a12 a13 : Nat → Int32}
theorem zm_drop {post : Int32 → St2 → Prop} {o : Nat} {B : Nat → Nat → Int32} {A R1 R2 : List Nat} {e : Nat → Nat → Nat} {y w lb vl : Nat → Nat} {n : Nat} (ht : zt o a1 a2 a3 a4 a5 B) (h : zg a1 A e y w (R1 ++ n :: R2) lb vl) (hvl : ∀ r, r ∈ R1 ++ n :: R2 → vl r < 1000)
    (H : ∀ c b2 b3 b4 b5 (A' : List Nat) (g : Nat), zt o c b2 b3 b4 b5 B → zg c A' e y w (R1 ++ R2) lb vl → (∀ a, a ∈ A' ↔ a ∈ A ∧ e 0 a ≠ n ∧ e 1 a ≠ n) → A'.length + g = A.length → post (nI g) (nI o, pi, ck, gs, wg, c, b2, b3, b4, b5, a6, a7, a8, a9, a10, a11, a12, a13)) : wpX_drop post (nI o, pi, ck, gs, wg, a1, a2, a3, a4, a5, a6, a7, a8, a9, a10, a11, a12, a13) (nI n) 1 := by
  have nR : n ∈ R1 ++ n :: R2 := by simp
  have n12 := h.1.2.2.2 n nR
  unfold wpX_drop
  refine zr_isNode n12 (fun _ => br_f (by decide) (za_na (br_f (by decide) ⟨3, ?_⟩))) (fun z => absurd (h.2.2.2.1 n nR).1 z)
  refine br_f (by decide) ⟨(zk A e 0 n).length + 1, ?_⟩
  refine zs_drop46 (s := 0) (A0 := A) (tot := A.length) nR (by omega) (fun c b2 b3 b4 b5 A1 g ht1 h1 m1 l1 => ?_) (zk A e 0 n).length A 0 a1 a2 a3 a4 a5 rfl ht h (fun a ha => ha) (fun a ha _ => ha) (by omega)
  refine br_f (by decide) ⟨(zk A1 e 1 n).length + 1, ?_⟩
  refine zs_drop46 (s := 1) (A0 := A1) (tot := A.length) nR (by omega) (fun c' d2 d3 d4 d5 A2 g2 ht2 h2 m2 l2 => ?_) (zk A1 e 1 n).length A1 g c b2 b3 b4 b5 rfl ht1 h1 (fun a ha => ha) (fun a ha _ => ha) l1
  have hg2 := h2
  obtain ⟨⟨s1, s2, s3, s4⟩, gA, gC, gN, gH, gF, gFn, gR, gM⟩ := h2
  obtain ⟨Fn, F1, F2, F3, F4⟩ := gFn
  have hA2 : ∀ a, a ∈ A2 ↔ a ∈ A ∧ e 0 a ≠ n ∧ e 1 a ≠ n := fun a => by rw [m2 a, m1 a, and_assoc]
  refine br_t (by decide) (zs_remove (R := R1 ++ n :: R2) (vl := vl) ht2 rfl s3 s4 hvl gR.1 gR.2.1 (fun r hr => (gN r hr).2.2) gR.2.2 (fun c3 e2 e3 e4 e5 ht3 k1 k2 k3 => zt_put (16 + 7 * n) (za_a0 _) ht3 (by omega) (fun e2 e3 e4 e5 ht4 => ?_)))
  have hz : zf (upd c3 (16 + 7 * n) 0) 16 7 Fn := zf_congr F4 (fun b hb => by
    have hb1 := (F2 b).mp hb
    have hbn : b ≠ n := fun t => hb1.2 (t ▸ nR)
    exact ⟨by rw [pk_un (by omega), k3 _ (by omega) (by omega)], by rw [pk_un (by omega), k3 _ (by omega) (by omega)]⟩)
  refine ⟨Fn.length + 1, zs_gb (f := 16) (wd := 7) (N := 12) ht4 n12 (fun b hb => by omega) (by omega) Fn 0 (by omega) ?_ hz (fun b hb => ((F2 b).mp hb).1) (fun P Q q1 q2 q3 e2 e3 e4 e5 ht5 => ?_)⟩
  · rw [pk_un (by omega), k3 _ (by omega) (by omega)]; exact F3
  · exact H _ e2 e3 e4 e5 A2 g2 ht5 (zg_drop hg2 (fun a ha => ((hA2 a).mp ha).2) k1 k2 k3 F1 F2 F3 F4 q1 q2 q3) hA2 l2
end
end
section
/-! 16: faults, labels, find -/
section
variable {oo pi ck gs wg : Int32} {a1 a2 a3 a4 a5 a6 a7 a8 a9 a10 a11 a12 a13 : Nat → Int32}
theorem zx_exp {post : St2 → Prop} (H : post (oo, pi, ck, gs, 0, a1, a2, a3, a4, a5, a6, a7, a8, a9, a10, a11, a12, a13)) : wpX_expect post (oo, pi, ck, gs, 0, a1, a2, a3, a4, a5, a6, a7, a8, a9, a10, a11, a12, a13) 1 :=
  br_f (by decide) (nm_r (e' := 0) (by decide) H)
theorem zx_chain {post : Int32 → St2 → Prop} {n s : Nat} (hn : n < 12) (hs : s < 2) : ∀ (L : List Nat) (k : Nat) (p : Int32), zl a1 s p L → (∀ a, a ∈ L → a < 24 ∧ a1 (100 + 10 * a) = 1 ∧ a1 (100 + 10 * a + 1 + s) = nI n) → k + L.length ≤ 24 → post (nI (k + L.length)) (oo, pi, ck, gs, 0, a1, a2, a3, a4, a5, a6, a7, a8, a9, a10, a11, a12, a13) →
    wX_checkChain_20 post (nI n) (nI s) (L.length + 1) p (nI k) (za_h L) oo pi ck gs 0 a1 a2 a3 a4 a5 a6 a7 a8 a9 a10 a11 a12 a13
  | [], k, p, hl, hL, hk, H => br_t za_neg H
  | a :: L, k, p, hl, hL, hk, H => by
    obtain ⟨l1, l2, l3⟩ := hl
    obtain ⟨g1, g2, g3⟩ := hL a (by simp)
    have hk' : k + (L.length + 1) ≤ 24 := by simpa using hk
    show wX_checkChain_20 post (nI n) (nI s) (L.length + 1 + 1) p (nI k) (nI a) oo pi ck gs 0 a1 a2 a3 a4 a5 a6 a7 a8 a9 a10 a11 a12 a13
    refine br_f (nI_pos (by omega)) (br_f (nI_nlt (a := 24) (b := k) (by omega) (by decide)) (za_ac ?_))
    rw [nI_clamp (show 100 + 10 * a < 2 ^ 31 by omega), g2, za_a1, nI_add, nI_clamp (show 100 + 10 * a + 1 + s < 2 ^ 31 by omega), g3, za_a7, nI_add, nI_clamp (show 100 + 10 * a + 7 + s < 2 ^ 31 by omega), l1]
    refine ⟨vp_in_nI (by omega) (by decide), br_t rfl ⟨vp_in_nI (by omega) (by decide), br_t rfl ⟨vp_in_nI (by omega) (by decide), br_t rfl (zx_exp ?_)⟩⟩⟩
    refine ⟨pk_in (100 + 10 * a + 5 + s) 340 (by omega) (by rw [za_a5, nI_add]), ?_⟩
    rw [za_a5, nI_add, nI_clamp (show 100 + 10 * a + 5 + s < 2 ^ 31 by omega), l2]
    refine nm_e (nm_r (za_a1 k) (zx_chain hn hs L (k + 1) (nI a) l3 (fun b hb => hL b (by simp [hb])) (by omega) ?_))
    rw [show k + 1 + L.length = k + (a :: L).length by rw [List.length_cons]; omega]
    exact H
theorem zx_checkChain {post : Int32 → St2 → Prop} {A R : List Nat} {e : Nat → Nat → Nat} {y w lb vl : Nat → Nat} {n s : Nat} (hs : s < 2) (h : zg a1 A e y w R lb vl) (hn : n ∈ R) (H : post (nI (zk A e s n).length) (oo, pi, ck, gs, 0, a1, a2, a3, a4, a5, a6, a7, a8, a9, a10, a11, a12, a13)) : wpX_checkChain post (oo, pi, ck, gs, 0, a1, a2, a3, a4, a5, a6, a7, a8, a9, a10, a11, a12, a13) (nI n) (nI s) := by
  have n12 := h.1.2.2.2 n hn
  obtain ⟨c1, c2⟩ := h.2.2.1 s n hs hn
  have hl : (zk A e s n).length ≤ 24 := za_pg (zk_nodup h.1.1) (fun a ha => (h.1.2.1 a (zk_mem.mp ha).1).1)
  unfold wpX_checkChain
  refine za_na ?_
  rw [za_a3, nI_add, nI_clamp (show 16 + 7 * n + 3 + s < 2 ^ 31 by omega), c1]
  refine ⟨vp_in_nI (by omega) (by decide), nm_e ⟨(zk A e s n).length + 1, zx_chain n12 hs (zk A e s n) 0 (-1) c2 (fun a ha => ?_) (by omega) ?_⟩⟩
  · obtain ⟨q1, q2⟩ := zk_mem.mp ha
    obtain ⟨g0, g1, g2, g3, g4⟩ := h.2.1 a q1
    refine ⟨(h.1.2.1 a q1).1, g0, ?_⟩
    have hs' : s = 0 ∨ s = 1 := by omega
    rcases hs' with rfl | rfl
    · rw [← q2]; exact g1
    · rw [← q2]; exact g2
  · rw [Nat.zero_add]; exact H
theorem zx_free {post : Int32 → St2 → Prop} {f wd N : Nat} (hN : ∀ b, b < N → f + wd * b + 5 < 340) (hN2 : N ≤ 24) : ∀ (L : List Nat) (k : Nat) (p : Int32), zf a1 f wd L → L.Pairwise (fun a b => a < b) → (∀ b, b ∈ L → b < N) → (∀ b L', L = b :: L' → ¬ nI b ≤ p) → k + L.length ≤ 24 → post (nI (k + L.length)) (oo, pi, ck, gs, 0, a1, a2, a3, a4, a5, a6, a7, a8, a9, a10, a11, a12, a13) →
    wX_checkFree_14 post (nI f) (nI wd) 5 (L.length + 1) p (nI k) (za_h L) oo pi ck gs 0 a1 a2 a3 a4 a5 a6 a7 a8 a9 a10 a11 a12 a13
  | [], k, p, hz, hp, hb, hh, hk, H => br_t za_neg H
  | a :: L, k, p, hz, hp, hb, hh, hk, H => by
    obtain ⟨z1, z2, z3⟩ := hz
    have ha := hb a (by simp)
    have h5 := hN a ha
    have hk' : k + (L.length + 1) ≤ 24 := by simpa using hk
    have e1 : nI f + nI wd * nI a = nI (f + wd * a) := by rw [pk_mul, nI_add]
    show wX_checkFree_14 post (nI f) (nI wd) 5 (L.length + 1 + 1) p (nI k) (nI a) oo pi ck gs 0 a1 a2 a3 a4 a5 a6 a7 a8 a9 a10 a11 a12 a13
    refine br_f (nI_pos (by omega)) (br_f (nI_nlt (a := 24) (b := k) (by omega) (by decide)) (br_f (hh a L rfl) ?_))
    rw [e1, nI_clamp (show f + wd * a < 2 ^ 31 by omega), z1]
    refine ⟨vp_in_nI (by omega) (by decide), br_t rfl (zx_exp ?_)⟩
    refine ⟨pk_in (f + wd * a + 5) 340 (by omega) (by rw [e1, za_a5]), ?_⟩
    rw [e1, za_a5, nI_clamp (show f + wd * a + 5 < 2 ^ 31 by omega), z2]
    refine nm_e (nm_r (za_a1 k) (zx_free hN hN2 L (k + 1) (nI a) z3 (List.pairwise_cons.mp hp).2 (fun b hb' => hb b (by simp [hb'])) (fun b L' hL => ?_) (by omega) ?_))
    · have := (List.pairwise_cons.mp hp).1 b (by rw [hL]; simp)
      have := hb b (by rw [hL]; simp)
      exact nI_ge (by omega) (by omega)
    · rw [show k + 1 + L.length = k + (a :: L).length by rw [List.length_cons]; omega]
      exact H
theorem zx_checkFree {post : Int32 → St2 → Prop} {h f wd N : Nat} {x1 x2 x3 : Int32} {L : List Nat} (e1 : x1 = nI h) (e2 : x2 = nI f) (e3 : x3 = nI wd) (hh : h < 340) (hN : ∀ b, b < N → f + wd * b + 5 < 340) (hN2 : N ≤ 24) (hc : a1 h = za_h L) (hz : zf a1 f wd L) (hp : L.Pairwise (fun a b => a < b)) (hb : ∀ b, b ∈ L → b < N) (H : post (nI L.length) (oo, pi, ck, gs, 0, a1, a2, a3, a4, a5, a6, a7, a8, a9, a10, a11, a12, a13)) :
    wpX_checkFree post (oo, pi, ck, gs, 0, a1, a2, a3, a4, a5, a6, a7, a8, a9, a10, a11, a12, a13) x1 x2 x3 5 := by
  subst e1 e2 e3
  have hl : L.length ≤ N := za_pg (za_asc_nodup hp) hb
  refine ⟨vp_in_nI hh (by decide), ?_⟩
  rw [nI_clamp (show h < 2 ^ 31 by omega), hc]
  refine nm_e ⟨L.length + 1, zx_free hN hN2 L 0 (-1) hz hp hb (fun b L' hL => ?_) (by omega) (by rw [Nat.zero_add]; exact H)⟩
  have := hb b (by rw [hL]; simp)
  exact fun q => by
    have h1 := nI_pos' (n := b) (by omega)
    have h2 : (0 : Int32) ≤ -1 := Int32.le_trans h1 q
    exact absurd h2 (by decide)
theorem zx_row {post : St2 → Prop} {A R : List Nat} {e : Nat → Nat → Nat} {y w lb vl : Nat → Nat} (h : zg a1 A e y w R lb vl) (hv : ∀ r, r ∈ R → vl r < 1000) (H : post (oo, pi, ck, gs, 0, a1, a2, a3, a4, a5, a6, a7, a8, a9, a10, a11, a12, a13)) : ∀ (m k : Nat), 1 ≤ k → R.length ≤ k + m → k + m ≤ 13 → wX_checkRow_2 post (m + 1) (nI k) oo pi ck gs 0 a1 a2 a3 a4 a5 a6 a7 a8 a9 a10 a11 a12 a13 := by
  have hr := h.2.2.2.2.2.2.2.1
  have hl12 : R.length ≤ 12 := za_pg h.1.2.2.1 h.1.2.2.2
  have key : ∀ k, R.length ≤ k → k ≤ 13 → ∀ m, wX_checkRow_2 post (m + 1) (nI k) oo pi ck gs 0 a1 a2 a3 a4 a5 a6 a7 a8 a9 a10 a11 a12 a13 := fun k hk hk2 m => by
    refine br_t ?_ H
    rw [hr.1]
    exact nI_le hk (by omega)
  intro m
  induction m with
  | zero => intro k h1 hk hk2; exact key k hk (by omega) 0
  | succ m ih =>
    intro k h1 hk hk2
    rcases Nat.lt_or_ge k R.length with q | q
    · have g1 : R[k]? = some R[k] := List.getElem?_eq_getElem q
      have g0 : R[k - 1]? = some R[k - 1] := List.getElem?_eq_getElem (by omega)
      have m1 : R[k] ∈ R := List.getElem_mem q
      have m0 : R[k - 1] ∈ R := List.getElem_mem (by omega)
      have p1 := h.1.2.2.2 _ m1
      have p0 := h.1.2.2.2 _ m0
      have v1 := hv _ m1
      have v0 := hv _ m0
      have hs := List.pairwise_iff_getElem.mp hr.2.2 (k - 1) k (by omega) q (by omega)
      refine br_f ?_ ?_
      · rw [hr.1]; exact nI_ge q (by omega)
      · have ek : (nI (4 + k) - 1) = nI (4 + (k - 1)) := by
          rw [show 4 + k = (4 + (k - 1)) + 1 by omega]; exact nI_pred _
        rw [za_40, ek, nI_clamp (show 4 + k < 2 ^ 31 by omega), nI_clamp (show 4 + (k - 1) < 2 ^ 31 by omega), hr.2.1 k _ g1, hr.2.1 (k - 1) _ g0]
        refine ⟨vp_in_nI (by omega) (by decide), nm_e ⟨vp_in_nI (by omega) (by decide), nm_e (za_na ?_)⟩⟩
        rw [za_a2, nI_clamp (show 16 + 7 * R[k] + 2 < 2 ^ 31 by omega), (h.2.2.2.1 _ m1).2.2]
        refine ⟨vp_in_nI (by omega) (by decide), nm_e (za_na ?_)⟩
        rw [za_a2, nI_clamp (show 16 + 7 * R[k - 1] + 2 < 2 ^ 31 by omega), (h.2.2.2.1 _ m0).2.2]
        refine ⟨vp_in_nI (by omega) (by decide), nm_e ?_⟩
        have good : wX_checkRow_78 post (wX_checkRow_2 post (m + 1)) (nI k) oo pi ck gs 0 a1 a2 a3 a4 a5 a6 a7 a8 a9 a10 a11 a12 a13 := by
          unfold wX_checkRow_78 wX_checkRow_83
          exact zx_exp (nm_r (za_a1 k) (ih (k + 1) (by omega) (by omega) (by omega)))
        refine pk_lt (vl R[k - 1]) (vl R[k]) (fun _ => good) (fun z => ?_)
        refine pk_eq (vl R[k - 1]) (vl R[k]) (fun z2 => ?_) (fun z2 => absurd hs (by omega))
        exact pk_le R[k] R[k - 1] (fun z3 => absurd hs (by omega)) (fun _ => good)
    · exact key k q (by omega) (m + 1)
theorem zx_fin {post : Int32 → St2 → Prop} {A R : List Nat} {e : Nat → Nat → Nat} {y w lb vl : Nat → Nat} (h : zg a1 A e y w R lb vl) (hv : ∀ r, r ∈ R → vl r < 1000) (H : post 0 (oo, pi, ck, gs, 0, a1, a2, a3, a4, a5, a6, a7, a8, a9, a10, a11, a12, a13)) : wX_faults_110 post (nI R.length) (nI A.length) 1 oo pi ck gs 0 a1 a2 a3 a4 a5 a6 a7 a8 a9 a10 a11 a12 a13 := by
  obtain ⟨⟨s1, s2, s3, s4⟩, gA, gC, gN, gH, ⟨Fa, A1, A2, A3, A4⟩, ⟨Fn, N1, N2, N3, N4⟩, gR, gM⟩ := id h
  have l1 := za_part (za_asc_nodup N1) s3 N2 s4
  have l2 := za_part (za_asc_nodup A1) s1 A2 (fun a ha => (s2 a ha).1)
  unfold wX_faults_110
  refine zx_exp (zx_checkFree (h := 0) (f := 16) (wd := 7) (N := 12) rfl rfl rfl (by omega) (fun b hb => by omega) (by omega) N3 N4 N1 (fun b hb => ((N2 b).mp hb).1) ?_)
  refine zx_checkFree (h := 1) (f := 100) (wd := 10) (N := 24) rfl rfl rfl (by omega) (fun b hb => by omega) (by omega) A3 A4 A1 (fun b hb => ((A2 b).mp hb).1) ?_
  refine br_t ?_ (br_t ?_ ?_)
  · rw [show (12 : Int32) = nI 12 from rfl, pk_sub (by omega), show Fn.length = 12 - R.length by omega]
  · rw [show (24 : Int32) = nI 24 from rfl, pk_sub (by omega), show Fa.length = 24 - A.length by omega]
  · unfold wX_faults_159
    refine zx_exp ?_
    refine ⟨13, zx_row h hv ?_ 12 1 (by omega) (by have := za_pg s3 s4; omega) (by omega)⟩
    exact H
theorem zx_11 {post : Int32 → St2 → Prop} {A R : List Nat} {e : Nat → Nat → Nat} {y w lb vl : Nat → Nat} (h : zg a1 A e y w R lb vl) (hv : ∀ r, r ∈ R → vl r < 1000) (H : post 0 (oo, pi, ck, gs, 0, a1, a2, a3, a4, a5, a6, a7, a8, a9, a10, a11, a12, a13)) : ∀ (m i : Nat), i + m = 12 →
    wX_faults_11 post (m + 1) (nI (za_cnt (fun j => decide (j ∈ R)) i)) (nI (za_sm (fun j => (zk A e 0 j).length) i)) (nI i) oo pi ck gs 0 a1 a2 a3 a4 a5 a6 a7 a8 a9 a10 a11 a12 a13 := by
  have hvv := zg_v h
  obtain ⟨⟨s1, s2, s3, s4⟩, gA, gC, gN, gH, gF, gFn, gR, gM⟩ := id h
  intro m
  induction m with
  | zero =>
    intro i hi
    have e12 : i = 12 := by omega
    subst e12
    have e1 : za_cnt (fun j => decide (j ∈ R)) 12 = R.length := za_cnt_mem s3 s4
    have e2 : za_sm (fun j => (zk A e 0 j).length) 12 = A.length := za_sm_len (fun a ha => s4 _ (s2 a ha).2.1)
    rw [e1, e2]
    refine br_t (nI_le (Nat.le_refl _) (by decide)) (br_t gR.1.symm (br_t gM.symm ?_))
    exact zx_fin h hv H
  | succ m ih =>
    intro i hi
    have hnext := ih (i + 1) (by omega)
    simp only [za_cnt, za_sm] at hnext
    refine br_f (nI_ge (b := 12) (by omega) (by decide)) (zr_isNode (by omega) (fun hn => ?_) (fun hn => ?_))
    · have hR := (hvv.2.2.2.2 i (by omega)).mp hn
      rw [if_pos (by simpa using hR)] at hnext
      refine br_f (by decide) (nm_r (za_a1 _) ?_)
      refine zx_checkChain (s := 0) (by omega) h hR (nm_r (nI_add _ _) ?_)
      refine zx_checkChain (s := 1) (by omega) h hR (za_na ?_)
      rw [za_a6, nI_clamp (show 16 + 7 * i + 6 < 2 ^ 31 by omega), gH i hR, nI_add]
      refine ⟨vp_in_nI (by omega) (by decide), br_t rfl ?_⟩
      unfold wX_faults_75
      exact zx_exp (nm_r (za_a1 _) hnext)
    · have hR : i ∉ R := fun z => hn ((hvv.2.2.2.2 i (by omega)).mpr z)
      have hz : zk A e 0 i = [] := by
        cases hz : zk A e 0 i with
        | nil => rfl
        | cons b L =>
          obtain ⟨q1, q2⟩ := zk_mem.mp (show b ∈ zk A e 0 i by rw [hz]; simp)
          exact absurd (q2 ▸ (s2 b q1).2.1) hR
      rw [if_neg (by simpa using hR), hz] at hnext
      exact br_t rfl (nm_r (za_a1 _) hnext)
theorem zm_faults {post : Int32 → St2 → Prop} {A R : List Nat} {e : Nat → Nat → Nat} {y w lb vl : Nat → Nat} (h : zg a1 A e y w R lb vl) (hv : ∀ r, r ∈ R → vl r < 1000) (H : post 0 (oo, pi, ck, gs, 0, a1, a2, a3, a4, a5, a6, a7, a8, a9, a10, a11, a12, a13)) : wpX_faults post (oo, pi, ck, gs, wg, a1, a2, a3, a4, a5, a6, a7, a8, a9, a10, a11, a12, a13) :=
  ⟨13, zx_11 h hv H 12 0 (by omega)⟩
theorem zm_labels {post : Int32 → Prop} {A R : List Nat} {e : Nat → Nat → Nat} {y w : Nat → Nat} {n : Nat} (h : zv a1 A e y w R) (hn : n < 12) (hR : n ∉ R) (H : post (-1)) : wpX_labels post (oo, pi, ck, gs, wg, a1, a2, a3, a4, a5, a6, a7, a8, a9, a10, a11, a12, a13) (nI n) := by
  unfold wpX_labels
  exact zr_isNode hn (fun z => absurd ((h.2.2.2.2 n hn).mp z) hR) (fun _ => br_t rfl H)
theorem zm_find {post : Int32 → Prop} {A R : List Nat} {e : Nat → Nat → Nat} {y w lb vl : Nat → Nat} {n l V t : Nat} (h : zg a1 A e y w R lb vl) (hl : l ≤ 7) (hV : V < 1000) (hv : ∀ r, r ∈ R → vl r < 1000) (ht : R[t]? = some n) (hlo : ∀ i r, R[i]? = some r → i < t → vl r < V) (hhi : ∀ i r, R[i]? = some r → t ≤ i → V ≤ vl r) (hn : vl n = V) (hlb : nI (lb n) &&& nI l = nI l)
    (H : post (nI n)) : wpX_find post (oo, pi, ck, gs, wg, a1, a2, a3, a4, a5, a6, a7, a8, a9, a10, a11, a12, a13) (nI l) (nI V) := by
  obtain ⟨⟨s1, s2, s3, s4⟩, gA, gC, gN, gH, gF, gFn, gR, gM⟩ := h
  have hl12 : R.length ≤ 12 := za_pg s3 s4
  have htl := (List.getElem?_eq_some_iff.mp ht).1
  have hmem : n ∈ R := List.mem_of_getElem? ht
  have n12 := s4 n hmem
  unfold wpX_find
  refine br_f (nI_pos (by omega)) (br_t (nI_le (b := 7) hl (by decide)) (nm_r gR.1 ?_))
  refine zs_placeFor (R := R) (vl := vl) (N := 0) (t := t) hV (by omega) hl12 s4 hv gR.1 gR.2.1 (fun r hr => (gN r hr).2.2) (fun i r hi hit => Or.inl (hlo i r hi hit)) (fun i r hi hti => by have := hhi i r hi hti; omega) (by omega) ⟨1, ?_⟩
  refine br_f (nI_ge htl (by omega)) ?_
  rw [za_40, nI_clamp (show 4 + t < 2 ^ 31 by omega), gR.2.1 t n ht]
  refine ⟨vp_in_nI (by omega) (by decide), za_na ?_⟩
  rw [za_a2, nI_clamp (show 16 + 7 * n + 2 < 2 ^ 31 by omega), (gN n hmem).2.2, za_a1, nI_clamp (show 16 + 7 * n + 1 < 2 ^ 31 by omega), (gN n hmem).2.1]
  exact ⟨vp_in_nI (by omega) (by decide), br_t (by rw [hn]) ⟨vp_in_nI (by omega) (by decide), br_t hlb ⟨vp_in_nI (by omega) (by decide), H⟩⟩⟩
end
end
section
/-! 17: the constructor; the law's numbers -/
theorem zf_range {c : Nat → Int32} {f wd N : Nat} (h : ∀ a, a < N → c (f + wd * a) = 0 ∧ c (f + wd * a + 5) = (if a + 1 < N then nI (a + 1) else -1)) : ∀ (m k : Nat), k + m = N → zf c f wd (List.range' k m)
  | 0, k, _ => trivial
  | m + 1, k, hk => by
    rw [List.range'_succ]
    obtain ⟨h1, h2⟩ := h k (by omega)
    refine ⟨h1, ?_, zf_range h m (k + 1) (by omega)⟩
    rw [h2]
    cases m with
    | zero => rw [if_neg (by omega)]; rfl
    | succ m => rw [if_pos (by omega), List.range'_succ]; rfl
theorem zy_init {post : St2 → Prop} {mc ms : Nat} (hmc : 13 ≤ mc) (hms : 4520 ≤ ms)
    (H : ∀ c : Nat → Int32, (∀ (e : Nat → Nat → Nat) (y w lb vl : Nat → Nat), zg c [] e y w [] lb vl) → post (0, 0, 0, 0, 0, c, (fun _ => 0), (fun _ => 0), (fun _ => 0), (fun _ => 0), (fun _ => 0), (fun _ => 0), (fun _ => 0), (fun _ => 0), (fun _ => 0), (fun _ => 0), (fun _ => 0), (fun _ => 0))) :
    wpX_init post mc ms (0, 0, 0, 0, 0) := by
  refine ⟨by omega, by omega, by omega, by omega, by omega, by omega, by omega, by omega, by omega, by omega, by omega, by omega, by omega, by omega, by omega, by omega, by omega, by omega, by omega, by omega, by omega, by omega, by omega, by omega, by omega, by omega, ?_⟩
  refine pk_loop (fun n i s => wX_init_113 post mc ms 13 4520 0 0 0 0 0 n (nI i) s (fun _ => 0) (fun _ => 0) (fun _ => 0) (fun _ => 0) (fun _ => 0) (fun _ => 0) (fun _ => 0) (fun _ => 0) (fun _ => 0) (fun _ => 0) (fun _ => 0) (fun _ => 0))
    (fun i s => (∀ n, n < i → s (16 + 7 * n + 5) = (if n + 1 < 12 then nI (n + 1) else -1)) ∧ (∀ x, (∀ n, n < i → x ≠ 16 + 7 * n + 5) → s x = 0)) 12 0 (fun _ => 0) (by omega) ⟨fun n hn => absurd hn (by omega), fun x _ => rfl⟩ ?_ ?_
  · intro n s ⟨g1, g2⟩
    refine br_t (nI_le (Nat.le_refl _) (by decide)) ?_
    refine pk_loop (fun n i s => wX_init_153 post mc ms 13 4520 0 0 0 0 0 n (nI i) s (fun _ => 0) (fun _ => 0) (fun _ => 0) (fun _ => 0) (fun _ => 0) (fun _ => 0) (fun _ => 0) (fun _ => 0) (fun _ => 0) (fun _ => 0) (fun _ => 0) (fun _ => 0))
      (fun i s => (∀ n, n < 12 → s (16 + 7 * n + 5) = (if n + 1 < 12 then nI (n + 1) else -1)) ∧ (∀ a, a < i → s (100 + 10 * a + 5) = (if a + 1 < 24 then nI (a + 1) else -1)) ∧ (∀ x, (∀ n, n < 12 → x ≠ 16 + 7 * n + 5) → (∀ a, a < i → x ≠ 100 + 10 * a + 5) → s x = 0)) 24 0 s (by omega) ⟨g1, fun n hn => absurd hn (by omega), fun x hx _ => g2 x hx⟩ ?_ ?_
    · intro n s ⟨k1, k2, k3⟩
      refine br_t (nI_le (Nat.le_refl _) (by decide)) (H s (fun e y w lb vl => ?_))
      have z0 : s 0 = 0 := k3 0 (fun n _ => by omega) (fun a _ => by omega)
      have z1 : s 1 = 0 := k3 1 (fun n _ => by omega) (fun a _ => by omega)
      have z2 : s 2 = 0 := k3 2 (fun n _ => by omega) (fun a _ => by omega)
      have z3 : s 3 = 0 := k3 3 (fun n _ => by omega) (fun a _ => by omega)
      refine ⟨⟨by simp, by simp, by simp, by simp⟩, fun a ha => absurd ha (by simp), fun s n _ hn => absurd hn (by simp), fun n hn => absurd hn (by simp), fun n hn => absurd hn (by simp), ⟨List.range 24, List.pairwise_lt_range, by simp, ?_, ?_⟩, ⟨List.range 12, List.pairwise_lt_range, by simp, ?_, ?_⟩, ⟨z2, by simp, by simp⟩, z3⟩
      · rw [z1]; rfl
      · rw [List.range_eq_range']
        exact zf_range (N := 24) (fun a ha => ⟨k3 _ (fun n _ => by omega) (fun b _ => by omega), k2 a ha⟩) 24 0 (by omega)
      · rw [z0]; rfl
      · rw [List.range_eq_range']
        exact zf_range (N := 12) (fun a ha => ⟨k3 _ (fun n _ => by omega) (fun b _ => by omega), k1 a ha⟩) 12 0 (by omega)
    · intro n i s hi ⟨k1, k2, k3⟩ hw
      refine br_f (nI_ge hi (by decide)) (za_ac ?_)
      have step : ∀ v : Int32, v = (if i + 1 < 24 then nI (i + 1) else -1) → ((∀ n, n < 12 → upd s (100 + 10 * i + 5) v (16 + 7 * n + 5) = (if n + 1 < 12 then nI (n + 1) else -1)) ∧ (∀ a, a < i + 1 → upd s (100 + 10 * i + 5) v (100 + 10 * a + 5) = (if a + 1 < 24 then nI (a + 1) else -1)) ∧ (∀ x, (∀ n, n < 12 → x ≠ 16 + 7 * n + 5) → (∀ a, a < i + 1 → x ≠ 100 + 10 * a + 5) → upd s (100 + 10 * i + 5) v x = 0)) := by
        intro v hv
        refine ⟨fun n hn => ?_, fun a ha => ?_, fun x h1 h2 => ?_⟩
        · rw [pk_un (by omega)]; exact k1 n hn
        · by_cases q : a = i
          · subst q; rw [pk_us]; exact hv
          · rw [pk_un (by omega)]; exact k2 a (by omega)
        · rw [pk_un (h2 i (by omega))]; exact k3 x h1 (fun a ha => h2 a (by omega))
      rw [za_a1]
      refine pk_le 24 (i + 1) (fun q => za_st (100 + 10 * i + 5) (za_a5 _) (by omega) (nm_e (hw _ (step (-1) (by rw [if_neg (by omega)]))))) (fun q => za_st (100 + 10 * i + 5) (za_a5 _) (by omega) (nm_e (hw _ (step _ (by rw [if_pos (by omega)])))))
  · intro n i s hi ⟨g1, g2⟩ hw
    refine br_f (nI_ge hi (by decide)) (za_na ?_)
    have step : ∀ v : Int32, v = (if i + 1 < 12 then nI (i + 1) else -1) → ((∀ n, n < i + 1 → upd s (16 + 7 * i + 5) v (16 + 7 * n + 5) = (if n + 1 < 12 then nI (n + 1) else -1)) ∧ (∀ x, (∀ n, n < i + 1 → x ≠ 16 + 7 * n + 5) → upd s (16 + 7 * i + 5) v x = 0)) := by
      intro v hv
      refine ⟨fun n hn => ?_, fun x h1 => ?_⟩
      · by_cases q : n = i
        · subst q; rw [pk_us]; exact hv
        · rw [pk_un (by omega)]; exact g1 n (by omega)
      · rw [pk_un (h1 i (by omega))]; exact g2 x (fun a ha => h1 a (by omega))
    rw [za_a1]
    refine pk_le 12 (i + 1) (fun q => za_st (16 + 7 * i + 5) (za_a5 _) (by omega) (nm_e (hw _ (step (-1) (by rw [if_neg (by omega)]))))) (fun q => za_st (16 + 7 * i + 5) (za_a5 _) (by omega) (nm_e (hw _ (step _ (by rw [if_pos (by omega)])))))
/-- the places of the law's nodes -/
def zy_p (M s0 j : Nat) : Nat := (j * M + s0) % 12
def zy_q (M s0 n : Nat) : Nat := ((n + 48 - s0) * M) % 12
theorem zy_pq : ∀ M, (M = 1 ∨ M = 5 ∨ M = 7 ∨ M = 11) → ∀ s0, s0 < 16 → ∀ j, j < 12 → zy_q M s0 (zy_p M s0 j) = j ∧ zy_p M s0 (zy_q M s0 j) = j := by
  intro M hM
  rcases hM with rfl | rfl | rfl | rfl <;> decide +kernel
theorem zy_at (x : Int32) : ∃ M s0 : Nat, (M = 1 ∨ M = 5 ∨ M = 7 ∨ M = 11) ∧ s0 < 16 ∧ ∀ (post : Int32 → Prop) (i : Nat), i < 1000 → post (nI (zy_p M s0 i)) → wpL_at post () x (nI i) := by
  obtain ⟨s0, hs, es⟩ := pk_andE (x >>> ((2 : Int32) &&& 31)) (m := 15) 4 (by decide)
  have hs' : s0 < 16 := hs
  have key : ∀ (M : Nat) (post : Int32 → Prop) (i : Nat), M ≤ 11 → i < 1000 → post (nI (zy_p M s0 i)) → wL_at_34 post x (nI M) (nI i) := by
    intro M post i hM hi hp
    have hMi : i * M ≤ i * 11 := Nat.mul_le_mul_left i hM
    refine ⟨by decide, ?_⟩
    rw [es, pk_mul, nI_add]
    have := pk_rem (a := i * M + s0) (d := 12) (by omega) (by decide) (by decide)
    have e2 : nI (i * M + s0) - nI (i * M + s0) / 12 * 12 = nI (zy_p M s0 i) := this
    rw [e2]; exact hp
  by_cases h1 : x &&& 1 = 0
  · by_cases h2 : x &&& 2 = 0
    · exact ⟨1, s0, by simp, hs', fun post i hi hp => br_t h1 (br_t h2 (key 1 post i (by omega) hi hp))⟩
    · exact ⟨5, s0, by simp, hs', fun post i hi hp => br_t h1 (br_f h2 (key 5 post i (by omega) hi hp))⟩
  · by_cases h2 : x &&& 2 = 0
    · exact ⟨7, s0, by simp, hs', fun post i hi hp => br_f h1 (br_t h2 (key 7 post i (by omega) hi hp))⟩
    · exact ⟨11, s0, by simp, hs', fun post i hi hp => br_f h1 (br_f h2 (key 11 post i (by omega) hi hp))⟩
end
section
/-! 18: the law's graphs, in plain numbers: a way p 0, p 1, .. p (m-1), and arrows Ex (from, to, weight) beside it -/
def zy_per (p q : Nat → Nat) : Prop := ∀ j, j < 12 → p j < 12 ∧ q j < 12 ∧ q (p j) = j ∧ p (q j) = j
def zy_gr (p : Nat → Nat) (m X : Nat) (A : List Nat) (e : Nat → Nat → Nat) (y w wt : Nat → Nat) (Ex : List (Nat × Nat × Nat)) : Prop :=
  (∀ a, a ∈ A → zo X y a → (a + 1 < m ∧ e 0 a = p a ∧ e 1 a = p (a + 1) ∧ w a = wt a) ∨ (∃ x, x ∈ Ex ∧ e 0 a = p x.1 ∧ e 1 a = p x.2.1 ∧ w a = x.2.2)) ∧
  (∀ a, a + 1 < m → a ∈ A ∧ zo X y a ∧ e 0 a = p a ∧ e 1 a = p (a + 1) ∧ w a = wt a) ∧
  (∀ x, x ∈ Ex → ∃ a, a ∈ A ∧ zo X y a ∧ e 0 a = p x.1 ∧ e 1 a = p x.2.1 ∧ w a = x.2.2)
section
variable {p q : Nat → Nat} {m X : Nat} {A R : List Nat} {e : Nat → Nat → Nat} {y w wt : Nat → Nat} {Ex : List (Nat × Nat × Nat)}
theorem zy_dist {D : Nat → Nat} {i0 : Nat} (hp : zy_per p q) (hm : m ≤ 12) (g : zy_gr p m X A e y w wt Ex) (hi : i0 < m) (hE : ∀ x, x ∈ Ex → x.1 < m ∧ x.2.1 < m) (h0 : D i0 = 0) (hb : ∀ j, j < 12 → D j < 1000) (h1 : ∀ j, j + 1 < m → D (j + 1) ≤ D j + 1) (h2 : ∀ x, x ∈ Ex → D x.2.1 ≤ D x.1 + 1)
    (h3 : ∀ j, j < m → j = i0 ∨ (∃ i, i + 1 = j ∧ D j = D i + 1) ∨ (∃ x, x ∈ Ex ∧ x.2.1 = j ∧ D j = D x.1 + 1)) : zd_ok A e y X (p i0) (fun n => D (q n)) (fun n => n < 12 ∧ q n < m) := by
  obtain ⟨g1, g2, g3⟩ := g
  have pj : ∀ j, j < m → p j < 12 ∧ q (p j) = j := fun j hj => ⟨(hp j (by omega)).1, (hp j (by omega)).2.2.1⟩
  refine ⟨?_, ?_, fun v hv => hb _ (hp v hv).2.1, fun a ha ho hr => ?_, fun v hv => ?_⟩
  · dsimp only
    rw [(pj i0 hi).2]; exact ⟨(pj i0 hi).1, hi⟩
  · dsimp only
    rw [(pj i0 hi).2]; exact h0
  · dsimp only
    rcases g1 a ha ho with ⟨q1, q2, q3, _⟩ | ⟨x, x1, x2, x3, _⟩
    · rw [q2, q3, (pj a (by omega)).2, (pj (a + 1) q1).2]
      exact ⟨⟨(pj (a + 1) q1).1, q1⟩, h1 a q1⟩
    · obtain ⟨u1, u2⟩ := hE x x1
      rw [x2, x3, (pj _ u1).2, (pj _ u2).2]
      exact ⟨⟨(pj _ u2).1, u2⟩, h2 x x1⟩
  · obtain ⟨v1, v2⟩ := hv
    have hpv := (hp v v1).2.2.2
    rcases h3 (q v) v2 with z | ⟨i, z1, z2⟩ | ⟨x, z1, z2, z3⟩
    · exact Or.inl (by rw [← z]; exact hpv.symm)
    · obtain ⟨k1, k2, k3, k4, _⟩ := g2 i (by omega)
      refine Or.inr ⟨i, k1, k2, by rw [k4, z1]; exact hpv, ?_, ?_⟩
      · dsimp only
        rw [k3, (pj i (by omega)).2]; exact ⟨(pj i (by omega)).1, by omega⟩
      · dsimp only
        rw [k3, (pj i (by omega)).2]; exact z2
    · obtain ⟨a, k1, k2, k3, k4, _⟩ := g3 x z1
      obtain ⟨u1, u2⟩ := hE x z1
      refine Or.inr ⟨a, k1, k2, by rw [k4, z2]; exact hpv, ?_, ?_⟩
      · dsimp only
        rw [k3, (pj _ u1).2]; exact ⟨(pj _ u1).1, u1⟩
      · dsimp only
        rw [k3, (pj _ u1).2]; exact z3
theorem zy_cheap {D K : Nat → Nat} {i0 : Nat} (hp : zy_per p q) (hm : m ≤ 12) (g : zy_gr p m X A e y w wt Ex) (hi : i0 < m) (hE : ∀ x, x ∈ Ex → x.1 < m ∧ x.2.1 < m) (h0 : D i0 = 0) (hb : ∀ j, j < m → D j < 1000) (h1 : ∀ j, j + 1 < m → D (j + 1) ≤ D j + wt j) (h2 : ∀ x, x ∈ Ex → D x.2.1 ≤ D x.1 + x.2.2)
    (h3 : ∀ j, j < m → j = i0 ∨ (∃ i, i + 1 = j ∧ D j = D i + wt i ∧ K i < K j) ∨ (∃ x, x ∈ Ex ∧ x.2.1 = j ∧ D j = D x.1 + x.2.2 ∧ K x.1 < K j)) : zj_ok A e y w X (p i0) (fun n => if q n < m then D (q n) else 0) (fun n => n < 12 ∧ q n < m) (fun n => K (q n)) := by
  obtain ⟨g1, g2, g3⟩ := g
  have pj : ∀ j, j < m → p j < 12 ∧ q (p j) = j := fun j hj => ⟨(hp j (by omega)).1, (hp j (by omega)).2.2.1⟩
  refine ⟨?_, ?_, fun v => ?_, fun a ha ho hr => ?_, fun v hv => ?_⟩
  · dsimp only
    rw [(pj i0 hi).2]; exact ⟨(pj i0 hi).1, hi⟩
  · dsimp only
    rw [(pj i0 hi).2, if_pos hi]; exact h0
  · dsimp only
    split
    · rename_i z; exact hb _ z
    · omega
  · dsimp only
    rcases g1 a ha ho with ⟨q1, q2, q3, q4⟩ | ⟨x, x1, x2, x3, x4⟩
    · rw [q2, q3, q4, (pj a (by omega)).2, (pj (a + 1) q1).2, if_pos q1, if_pos (by omega)]
      exact ⟨⟨(pj (a + 1) q1).1, q1⟩, h1 a q1⟩
    · obtain ⟨u1, u2⟩ := hE x x1
      rw [x2, x3, x4, (pj _ u1).2, (pj _ u2).2, if_pos u1, if_pos u2]
      exact ⟨⟨(pj _ u2).1, u2⟩, h2 x x1⟩
  · obtain ⟨v1, v2⟩ := hv
    have hpv := (hp v v1).2.2.2
    rcases h3 (q v) v2 with z | ⟨i, z1, z2, z3⟩ | ⟨x, z1, z2, z3, z4⟩
    · exact Or.inl (by rw [← z]; exact hpv.symm)
    · obtain ⟨k1, k2, k3, k4, k5⟩ := g2 i (by omega)
      refine Or.inr ⟨i, k1, k2, by rw [k4, z1]; exact hpv, ?_, ?_, ?_⟩
      · dsimp only
        rw [k3, (pj i (by omega)).2]; exact ⟨(pj i (by omega)).1, by omega⟩
      · dsimp only
        rw [k3, k5, (pj i (by omega)).2, if_pos v2, if_pos (by omega)]; exact z2
      · dsimp only
        rw [k3, (pj i (by omega)).2]; exact z3
    · obtain ⟨a, k1, k2, k3, k4, k5⟩ := g3 x z1
      obtain ⟨u1, u2⟩ := hE x z1
      refine Or.inr ⟨a, k1, k2, by rw [k4, z2]; exact hpv, ?_, ?_, ?_⟩
      · dsimp only
        rw [k3, (pj _ u1).2]; exact ⟨(pj _ u1).1, u1⟩
      · dsimp only
        rw [k3, k5, (pj _ u1).2, if_pos v2, if_pos u1]; exact z3
      · dsimp only
        rw [k3, (pj _ u1).2]; exact z4
theorem zy_rH1 {K : Nat → Nat} (hp : zy_per p q) (hm : m ≤ 12) (g : zy_gr p m X A e y w wt Ex) (hE : ∀ x, x ∈ Ex → x.1 < m ∧ x.2.1 < m) (h1 : ∀ j, j + 1 < m → K j ≤ K (j + 1)) (h2 : ∀ x, x ∈ Ex → K x.1 ≤ K x.2.1) : ∀ a, a ∈ A → zo X y a → (fun n => K (q n)) (e 0 a) ≤ (fun n => K (q n)) (e 1 a) := by
  intro a ha ho
  have pj : ∀ j, j < m → p j < 12 ∧ q (p j) = j := fun j hj => ⟨(hp j (by omega)).1, (hp j (by omega)).2.2.1⟩
  dsimp only
  rcases g.1 a ha ho with ⟨q1, q2, q3, q4⟩ | ⟨x, x1, x2, x3, x4⟩
  · rw [q2, q3, (pj a (by omega)).2, (pj (a + 1) q1).2]; exact h1 a q1
  · obtain ⟨u1, u2⟩ := hE x x1
    rw [x2, x3, (pj _ u1).2, (pj _ u2).2]; exact h2 x x1
theorem zy_rH2 {K : Nat → Nat} (hp : zy_per p q) (hR : ∀ n, n ∈ R → n < 12) (g : zy_gr p m X A e y w wt Ex)
    (h : ∀ i j, i < 12 → j < 12 → K i = K j → ∀ Z : Nat → Prop, (∀ j, j + 1 < m → Z j → Z (j + 1)) → (∀ x, x ∈ Ex → Z x.1 → Z x.2.1) → Z i → Z j) :
    ∀ u w, u ∈ R → w ∈ R → (fun n => K (q n)) u = (fun n => K (q n)) w → ∀ Z : Nat → Prop, (∀ a, a ∈ A → zo X y a → Z (e 0 a) → Z (e 1 a)) → Z u → Z w := by
  intro u v hu hv hk Z hZ hZu
  have u12 := hR u hu
  have v12 := hR v hv
  have := h (q u) (q v) (hp u u12).2.1 (hp v v12).2.1 hk (fun j => Z (p j)) (fun j hj hz => ?_) (fun x hx hz => ?_) (by rw [(hp u u12).2.2.2]; exact hZu)
  · rw [(hp v v12).2.2.2] at this
    exact this
  · obtain ⟨k1, k2, k3, k4, k5⟩ := g.2.1 j hj
    have := hZ j k1 k2 (by rw [k3]; exact hz)
    rw [k4] at this
    exact this
  · obtain ⟨a, k1, k2, k3, k4, k5⟩ := g.2.2 x hx
    have := hZ a k1 k2 (by rw [k3]; exact hz)
    rw [k4] at this
    exact this
/-- on and on along the way -/
theorem zy_on {Z : Nat → Prop} (h : ∀ j, j + 1 < m → Z j → Z (j + 1)) : ∀ (d i : Nat), i + d < m → Z i → Z (i + d)
  | 0, i, _, hz => hz
  | d + 1, i, hi, hz => by
    have := zy_on h d i (by omega) hz
    exact h (i + d) (by omega) this
theorem zy_alone {s0 : Nat} (h : ∀ a, a ∈ A → zo X y a → e 0 a ≠ s0) : zd_ok A e y X s0 (fun _ => 0) (fun n => n = s0) :=
  ⟨rfl, rfl, fun _ _ => (by decide : (0 : Nat) < 1000), fun a ha ho hr => absurd hr (h a ha ho), fun v hv => Or.inl hv⟩
theorem zy_aloneJ {s0 : Nat} (h : ∀ a, a ∈ A → zo X y a → e 0 a ≠ s0) : zj_ok A e y w X s0 (fun _ => 0) (fun n => n = s0) (fun _ => 0) :=
  ⟨rfl, rfl, fun _ => (by decide : (0 : Nat) < 1000), fun a ha ho hr => absurd hr (h a ha ho), fun v hv => Or.inl hv⟩
end
/-- sums of weights -/
theorem zy_sm_le {wt : Nat → Nat} (h : ∀ i, wt i ≤ 15) : ∀ j, za_sm wt j ≤ 15 * j
  | 0 => by simp [za_sm]
  | j + 1 => by
    have := zy_sm_le h j
    have := h j
    simp only [za_sm]; omega
theorem zy_sm_mono {wt : Nat → Nat} {i : Nat} : ∀ d, za_sm wt i ≤ za_sm wt (i + d)
  | 0 => Nat.le_refl _
  | d + 1 => by
    have := zy_sm_mono (wt := wt) (i := i) d
    show _ ≤ za_sm wt (i + d) + wt (i + d)
    omega
theorem zy_sm_le2 {wt : Nat → Nat} {i j : Nat} (h : i ≤ j) : za_sm wt i ≤ za_sm wt j := by
  have := zy_sm_mono (wt := wt) (i := i) (j - i)
  rwa [show i + (j - i) = j by omega] at this
/-- sums over a permutation -/
theorem zy_sum_list (g : Nat → Nat) : ∀ n, za_sm g n = ((List.range n).map g).sum
  | 0 => rfl
  | n + 1 => by
    rw [List.range_succ, List.map_append, List.sum_append]
    simp only [za_sm, zy_sum_list g n]
    simp
theorem zy_sum_per {p q g : Nat → Nat} (hp : zy_per p q) : za_sm g 12 = za_sm (fun j => g (p j)) 12 := by
  rw [zy_sum_list g 12, zy_sum_list (fun j => g (p j)) 12]
  have : (List.range 12).Perm ((List.range 12).map p) := by
    refine (List.perm_ext_iff_of_nodup List.nodup_range ?_).mpr (fun n => ?_)
    · refine List.Pairwise.map (R := fun a b => a ∈ List.range 12 ∧ b ∈ List.range 12 ∧ a ≠ b) p (fun a b hab t => ?_) ?_
      · have ha := hp a (List.mem_range.mp hab.1)
        have hb := hp b (List.mem_range.mp hab.2.1)
        exact hab.2.2 (by rw [← ha.2.2.1, ← hb.2.2.1, t])
      · exact List.Pairwise.imp_of_mem (fun {a b} ha hb h => ⟨ha, hb, h⟩) (List.nodup_range (n := 12))
    · rw [List.mem_range, List.mem_map]
      constructor
      · intro h
        exact ⟨q n, List.mem_range.mpr (hp n h).2.1, (hp n h).2.2.2⟩
      · rintro ⟨j, h1, h2⟩
        rw [← h2]
        exact (hp j (List.mem_range.mp h1)).1
  have h2 := (this.map g).sum_nat
  rw [List.map_map] at h2
  exact h2
end
section
/-! 19: the law's graphs step by step; what the looking methods answer over them -/
def zy_dn : Nat → List Nat
  | 0 => []
  | k + 1 => k :: zy_dn k
theorem zy_dn_mem {a : Nat} : ∀ {k : Nat}, a ∈ zy_dn k ↔ a < k
  | 0 => by simp [zy_dn]
  | k + 1 => by
    simp only [zy_dn, List.mem_cons, zy_dn_mem (k := k)]
    omega
theorem zy_dn_len : ∀ k, (zy_dn k).length = k
  | 0 => rfl
  | k + 1 => by simp [zy_dn, zy_dn_len k]
def zy_e0 (p : Nat → Nat) (s a : Nat) : Nat := if s = 0 then p a else p (a + 1)
def zy_x (k u v : Nat) (e : Nat → Nat → Nat) (s a : Nat) : Nat := if a < k then e s a else if s = 0 then u else v
def zy_yx (k v : Nat) (y : Nat → Nat) (a : Nat) : Nat := if a < k then y a else v
theorem zy_x_lt {k u v s a : Nat} {e : Nat → Nat → Nat} (h : a < k) : zy_x k u v e s a = e s a := if_pos h
theorem zy_x_0 {k u v : Nat} {e : Nat → Nat → Nat} : zy_x k u v e 0 k = u := by simp [zy_x]
theorem zy_x_1 {k u v : Nat} {e : Nat → Nat → Nat} : zy_x k u v e 1 k = v := by simp [zy_x]
theorem zy_yx_lt {k v a : Nat} {y : Nat → Nat} (h : a < k) : zy_yx k v y a = y a := if_pos h
theorem zy_yx_k {k v : Nat} {y : Nat → Nat} : zy_yx k v y k = v := if_neg (by omega)
section
variable {p q : Nat → Nat} {m X T k : Nat} {e : Nat → Nat → Nat} {y w wt : Nat → Nat} {Ex : List (Nat × Nat × Nat)}
theorem zy_gr0 (hX : X = 4 ∨ T = X) : zy_gr p m X (zy_dn (m - 1)) (zy_e0 p) (fun _ => T) wt wt [] := by
  refine ⟨fun a ha _ => Or.inl ⟨?_, rfl, rfl, rfl⟩, fun a ha => ⟨zy_dn_mem.mpr (by omega), hX, rfl, rfl, rfl⟩, fun x hx => absurd hx (by simp)⟩
  have := zy_dn_mem.mp ha
  omega
theorem zy_gr_add {u v ty W : Nat} (g : zy_gr p m X (zy_dn k) e y w wt Ex) (hX : X = 4 ∨ ty = X) : zy_gr p m X (zy_dn (k + 1)) (zy_x k (p u) (p v) e) (zy_yx k ty y) (zy_yx k W w) wt (Ex ++ [(u, v, W)]) := by
  obtain ⟨g1, g2, g3⟩ := g
  refine ⟨fun a ha ho => ?_, fun a ha => ?_, fun x hx => ?_⟩
  · rcases List.mem_cons.mp ha with z | z
    · subst z
      refine Or.inr ⟨(u, v, W), by simp, zy_x_0, zy_x_1, zy_yx_k⟩
    · have hk := zy_dn_mem.mp z
      rw [zy_x_lt hk, zy_x_lt hk, zy_yx_lt hk]
      have ho' : zo X y a := by
        have : X = 4 ∨ zy_yx k ty y a = X := ho
        rw [zy_yx_lt hk] at this
        exact this
      rcases g1 a z ho' with t | ⟨x, x1, x2⟩
      · exact Or.inl t
      · exact Or.inr ⟨x, by simp [x1], x2⟩
  · obtain ⟨k1, k2, k3, k4, k5⟩ := g2 a ha
    have hk := zy_dn_mem.mp k1
    rw [zy_x_lt hk, zy_x_lt hk, zy_yx_lt hk]
    refine ⟨List.mem_cons_of_mem _ k1, ?_, k3, k4, k5⟩
    show X = 4 ∨ zy_yx k ty y a = X
    rw [zy_yx_lt hk]; exact k2
  · rcases List.mem_append.mp hx with z | z
    · obtain ⟨a, k1, k2, k3, k4, k5⟩ := g3 x z
      have hk := zy_dn_mem.mp k1
      refine ⟨a, List.mem_cons_of_mem _ k1, ?_, by rw [zy_x_lt hk]; exact k3, by rw [zy_x_lt hk]; exact k4, by rw [zy_yx_lt hk]; exact k5⟩
      show X = 4 ∨ zy_yx k ty y a = X
      rw [zy_yx_lt hk]; exact k2
    · have hx' : x = (u, v, W) := by simpa using z
      subst hx'
      refine ⟨k, by simp [zy_dn], ?_, zy_x_0, zy_x_1, zy_yx_k⟩
      show X = 4 ∨ zy_yx k ty y k = X
      rw [zy_yx_k]; exact hX
theorem zy_gr_skip {u v ty W : Nat} (g : zy_gr p m X (zy_dn k) e y w wt Ex) (hX : ¬ (X = 4 ∨ ty = X)) : zy_gr p m X (zy_dn (k + 1)) (zy_x k u v e) (zy_yx k ty y) (zy_yx k W w) wt Ex := by
  obtain ⟨g1, g2, g3⟩ := g
  refine ⟨fun a ha ho => ?_, fun a ha => ?_, fun x hx => ?_⟩
  · have ho1 : X = 4 ∨ zy_yx k ty y a = X := ho
    rcases List.mem_cons.mp ha with z | z
    · subst z
      rw [zy_yx_k] at ho1
      exact absurd ho1 hX
    · have hk := zy_dn_mem.mp z
      rw [zy_x_lt hk, zy_x_lt hk, zy_yx_lt hk]
      rw [zy_yx_lt hk] at ho1
      exact g1 a z ho1
  · obtain ⟨k1, k2, k3, k4, k5⟩ := g2 a ha
    have hk := zy_dn_mem.mp k1
    rw [zy_x_lt hk, zy_x_lt hk, zy_yx_lt hk]
    refine ⟨List.mem_cons_of_mem _ k1, ?_, k3, k4, k5⟩
    show X = 4 ∨ zy_yx k ty y a = X
    rw [zy_yx_lt hk]; exact k2
  · obtain ⟨a, k1, k2, k3, k4, k5⟩ := g3 x hx
    have hk := zy_dn_mem.mp k1
    refine ⟨a, List.mem_cons_of_mem _ k1, ?_, by rw [zy_x_lt hk]; exact k3, by rw [zy_x_lt hk]; exact k4, by rw [zy_yx_lt hk]; exact k5⟩
    show X = 4 ∨ zy_yx k ty y a = X
    rw [zy_yx_lt hk]; exact k2
end
section
variable {oo pi ck gs wg : Int32} {a1 a2 a3 a4 a5 a6 a7 a8 a9 a10 a11 a12 a13 : Nat → Int32}
variable {p q : Nat → Nat} {m X : Nat} {A R : List Nat} {e : Nat → Nat → Nat} {y w wt lb : Nat → Nat}
theorem zz_dist_path {post : Int32 → St2 → Prop} (hp : zy_per p q) (h2 : 2 ≤ m) (hm : m ≤ 12) (hX : X ≤ 4) (g : zy_gr p m X A e y w wt []) (hz : zv a1 A e y w R) (hR : ∀ n, n < 12 → n ∈ R) (H : ∀ b6 b8, post (nI (m - 1)) (oo, pi, ck, gs, wg, a1, a2, a3, a4, a5, b6, a7, b8, a9, a10, a11, a12, a13)) : wpX_distance post (oo, pi, ck, gs, wg, a1, a2, a3, a4, a5, a6, a7, a8, a9, a10, a11, a12, a13) (nI (12 * p 0 + p (m - 1))) (nI X) := by
  have ok := zy_dist (D := fun j => j) (i0 := 0) hp hm g (by omega) (by simp) rfl (fun j hj => by omega) (fun j hj => by omega) (by simp) (fun j hj => by
    by_cases t : j = 0
    · exact Or.inl t
    · exact Or.inr (Or.inl ⟨j - 1, by omega, by omega⟩))
  have h0 := hp 0 (by omega)
  have h1 := hp (m - 1) (by omega)
  exact zd_distance hX hz (hR _ h0.1) (hR _ h1.1) ok (Or.inl ⟨⟨h1.1, by rw [h1.2.2.1]; omega⟩, by rw [h1.2.2.1]⟩) H
theorem zz_cheap_path {post : Int32 → St2 → Prop} (hp : zy_per p q) (h2 : 2 ≤ m) (hm : m ≤ 12) (hX : X ≤ 4) (hw : ∀ i, wt i ≤ 15) (g : zy_gr p m X A e y w wt []) (hz : zv a1 A e y w R) (hR : ∀ n, n < 12 → n ∈ R) (H : ∀ b6 b7, post (nI (za_sm wt (m - 1))) (oo, pi, ck, gs, wg, a1, a2, a3, a4, a5, b6, b7, a8, a9, a10, a11, a12, a13)) : wpX_cheapest post (oo, pi, ck, gs, wg, a1, a2, a3, a4, a5, a6, a7, a8, a9, a10, a11, a12, a13) (nI (12 * p 0 + p (m - 1))) (nI X) := by
  have ok := zy_cheap (D := za_sm wt) (K := fun j => j) (i0 := 0) hp hm g (by omega) (by simp) rfl (fun j hj => by have := zy_sm_le hw j; omega) (fun j hj => Nat.le_refl _) (by simp) (fun j hj => by
    by_cases t : j = 0
    · exact Or.inl t
    · refine Or.inr (Or.inl ⟨j - 1, by omega, ?_, by omega⟩)
      obtain ⟨i, rfl⟩ : ∃ i, j = i + 1 := ⟨j - 1, by omega⟩
      rfl)
  have h0 := hp 0 (by omega)
  have h1 := hp (m - 1) (by omega)
  exact zj_cheapest hX hz (hR _ h0.1) (hR _ h1.1) ok (Or.inl ⟨⟨h1.1, by rw [h1.2.2.1]; omega⟩, by rw [h1.2.2.1, if_pos (by omega)]⟩) H
theorem zz_cheap_none {post : Int32 → St2 → Prop} (hp : zy_per p q) (h2 : 2 ≤ m) (hm : m ≤ 12) (hX : X ≤ 4) (hA : ∀ a, a ∈ A → ¬ zo X y a) (hz : zv a1 A e y w R) (hR : ∀ n, n < 12 → n ∈ R) (H : ∀ b6 b7, post (-2) (oo, pi, ck, gs, wg, a1, a2, a3, a4, a5, b6, b7, a8, a9, a10, a11, a12, a13)) : wpX_cheapest post (oo, pi, ck, gs, wg, a1, a2, a3, a4, a5, a6, a7, a8, a9, a10, a11, a12, a13) (nI (12 * p 0 + p (m - 1))) (nI X) := by
  have h0 := hp 0 (by omega)
  have h1 := hp (m - 1) (by omega)
  refine zj_cheapest hX hz (hR _ h0.1) (hR _ h1.1) (zy_aloneJ (fun a ha ho => absurd ho (hA a ha))) (Or.inr ⟨fun t => ?_, rfl⟩) H
  have : q (p (m - 1)) = q (p 0) := by rw [t]
  rw [h0.2.2.1, h1.2.2.1] at this
  omega
theorem zz_dist_none {post : Int32 → St2 → Prop} (hp : zy_per p q) (h2 : 2 ≤ m) (hm : m ≤ 12) (hX : X ≤ 4) (g : zy_gr p m X A e y w wt []) (hz : zv a1 A e y w R) (hR : ∀ n, n < 12 → n ∈ R) (H : ∀ b6 b8, post (-2) (oo, pi, ck, gs, wg, a1, a2, a3, a4, a5, b6, a7, b8, a9, a10, a11, a12, a13)) : wpX_distance post (oo, pi, ck, gs, wg, a1, a2, a3, a4, a5, a6, a7, a8, a9, a10, a11, a12, a13) (nI (12 * p (m - 1) + p 0)) (nI X) := by
  have h0 := hp 0 (by omega)
  have h1 := hp (m - 1) (by omega)
  refine zd_distance hX hz (hR _ h1.1) (hR _ h0.1) (zy_alone (fun a ha ho t => ?_)) (Or.inr ⟨fun t => ?_, rfl⟩) H
  · rcases g.1 a ha ho with ⟨q1, q2, _⟩ | ⟨x, x1, _⟩
    · have ha' := hp a (by omega)
      have : q (p a) = q (p (m - 1)) := by rw [← t, q2]
      rw [ha'.2.2.1, h1.2.2.1] at this
      omega
    · exact absurd x1 (by simp)
  · have : q (p (m - 1)) = q (p 0) := by rw [t]
    rw [h0.2.2.1, h1.2.2.1] at this
    omega
theorem zz_rounds_up {post : Int32 → St2 → Prop} {Ex : List (Nat × Nat × Nat)} (hp : zy_per p q) (hm : m ≤ 12) (hX : X ≤ 4) (g : zy_gr p m X A e y w wt Ex) (hE : ∀ x, x ∈ Ex → x.1 < m ∧ x.2.1 < m ∧ x.1 ≤ x.2.1) (hz : zv a1 A e y w R) (hR : ∀ n, n < 12 → n ∈ R)
    (H : ∀ (p' c' g' : Int32) (b7 b9 b10 b11 b12 b13 : Nat → Int32), post 12 (oo, p', c', g', wg, a1, a2, a3, a4, a5, a6, b7, a8, b9, b10, b11, b12, b13)) : wpX_rounds post (oo, pi, ck, gs, wg, a1, a2, a3, a4, a5, a6, a7, a8, a9, a10, a11, a12, a13) (nI X) := by
  refine zw_rounds (K0 := List.range 12) (kp := fun n => q n) hX hz (zy_rH1 (K := fun j => j) hp hm g (fun x hx => ⟨(hE x hx).1, (hE x hx).2.1⟩) (fun j _ => by omega) (fun x hx => (hE x hx).2.2)) (zy_rH2 (K := fun j => j) hp hz.2.2.2.1 g (fun i j _ _ hk Z _ _ hZ => by have hk : i = j := hk; rw [← hk]; exact hZ)) List.nodup_range (fun k => ?_) ?_
  · rw [List.mem_range]
    constructor
    · intro hk
      exact ⟨p k, hR _ (hp k hk).1, (hp k hk).2.2.1⟩
    · rintro ⟨v, v1, v2⟩
      rw [← v2]
      exact (hp v (hz.2.2.2.1 v v1)).2.1
  · exact H
theorem zz_cheap_over {post : Int32 → St2 → Prop} {f t W : Nat} (hp : zy_per p q) (h2 : 2 ≤ m) (hm : m ≤ 12) (hX : X ≤ 4) (hft : f ≤ t) (htm : t < m) (hW : W ≤ 99) (hw : ∀ i, wt i ≤ 15) (g : zy_gr p m X A e y w wt [(f, t, W)]) (hz : zv a1 A e y w R) (hR : ∀ n, n < 12 → n ∈ R) {r : Nat} (hr : r = if f = t ∨ za_sm wt t - za_sm wt f < W then za_sm wt (m - 1) else za_sm wt (m - 1) - (za_sm wt t - za_sm wt f) + W)
    (H : ∀ b6 b7, post (nI r) (oo, pi, ck, gs, wg, a1, a2, a3, a4, a5, b6, b7, a8, a9, a10, a11, a12, a13)) : wpX_cheapest post (oo, pi, ck, gs, wg, a1, a2, a3, a4, a5, a6, a7, a8, a9, a10, a11, a12, a13) (nI (12 * p 0 + p (m - 1))) (nI X) := by
  have hS := zy_sm_le2 (wt := wt) hft
  have hb := zy_sm_le hw
  have ok := zy_cheap (D := fun j => if f < t ∧ t ≤ j ∧ ¬ za_sm wt t - za_sm wt f < W then za_sm wt j - (za_sm wt t - za_sm wt f) + W else za_sm wt j) (K := fun j => j) (i0 := 0) hp hm g (by omega) (by simp; omega) ?_ (fun j hj => ?_) (fun j hj => ?_) (fun x hx => ?_) (fun j hj => ?_)
  · have h0 := hp 0 (by omega)
    have h1 := hp (m - 1) (by omega)
    refine zj_cheapest hX hz (hR _ h0.1) (hR _ h1.1) ok (Or.inl ⟨⟨h1.1, by rw [h1.2.2.1]; omega⟩, ?_⟩) H
    try dsimp only
    rw [h1.2.2.1, if_pos (by omega), hr]
    by_cases c1 : f = t ∨ za_sm wt t - za_sm wt f < W
    · rw [if_pos c1, if_neg (by omega)]
    · rw [if_neg c1, if_pos (by omega)]
  · try dsimp only
    rw [if_neg (by omega)]; rfl
  · try dsimp only
    have := hb j
    have := zy_sm_le2 (wt := wt) (show j ≤ 12 by omega)
    split <;> omega
  · try dsimp only
    have e1 : za_sm wt (j + 1) = za_sm wt j + wt j := rfl
    by_cases c1 : f < t ∧ t ≤ j ∧ ¬ za_sm wt t - za_sm wt f < W
    · have := zy_sm_le2 (wt := wt) c1.2.1
      rw [if_pos c1, if_pos (by omega)]; omega
    · rw [if_neg c1]
      split
      · rename_i c2
        have := zy_sm_le2 (wt := wt) c2.2.1
        omega
      · omega
  · have hx' : x = (f, t, W) := by simpa using hx
    subst hx'
    try dsimp only
    rw [if_neg (show ¬ (f < t ∧ t ≤ f ∧ _) by omega)]
    have hfe : f = t → za_sm wt f = za_sm wt t := fun z => by rw [z]
    split <;> omega
  · try dsimp only
    by_cases j0 : j = 0
    · exact Or.inl j0
    · obtain ⟨i, rfl⟩ : ∃ i, j = i + 1 := ⟨j - 1, by omega⟩
      have e1 : za_sm wt (i + 1) = za_sm wt i + wt i := rfl
      by_cases c1 : f < t ∧ t = i + 1 ∧ ¬ za_sm wt t - za_sm wt f < W
      · refine Or.inr (Or.inr ⟨(f, t, W), by simp, c1.2.1, ?_, by try dsimp only; omega⟩)
        try dsimp only
        rw [if_pos (by omega), if_neg (by omega), ← c1.2.1]; omega
      · refine Or.inr (Or.inl ⟨i, rfl, ?_, by omega⟩)
        by_cases c2 : f < t ∧ t ≤ i ∧ ¬ za_sm wt t - za_sm wt f < W
        · have := zy_sm_le2 (wt := wt) c2.2.1
          rw [if_pos c2, if_pos (by omega)]; omega
        · rw [if_neg c2, if_neg (by omega)]; omega
theorem zz_dist_over {post : Int32 → St2 → Prop} {f t W : Nat} (hp : zy_per p q) (h2 : 2 ≤ m) (hm : m ≤ 12) (hX : X ≤ 4) (hft : f ≤ t) (htm : t < m) (g : zy_gr p m X A e y w wt [(f, t, W)]) (hz : zv a1 A e y w R) (hR : ∀ n, n < 12 → n ∈ R) {r : Nat} (hr : r = if f = t then m - 1 else m - 1 - (t - f) + 1)
    (H : ∀ b6 b8, post (nI r) (oo, pi, ck, gs, wg, a1, a2, a3, a4, a5, b6, a7, b8, a9, a10, a11, a12, a13)) : wpX_distance post (oo, pi, ck, gs, wg, a1, a2, a3, a4, a5, a6, a7, a8, a9, a10, a11, a12, a13) (nI (12 * p 0 + p (m - 1))) (nI X) := by
  have ok := zy_dist (D := fun j => if f < t ∧ t ≤ j then j - (t - f) + 1 else j) (i0 := 0) hp hm g (by omega) (by simp; omega) ?_ (fun j hj => ?_) (fun j hj => ?_) (fun x hx => ?_) (fun j hj => ?_)
  · have h0 := hp 0 (by omega)
    have h1 := hp (m - 1) (by omega)
    refine zd_distance hX hz (hR _ h0.1) (hR _ h1.1) ok (Or.inl ⟨⟨h1.1, by rw [h1.2.2.1]; omega⟩, ?_⟩) H
    try dsimp only
    rw [h1.2.2.1, hr]
    by_cases c1 : f = t
    · rw [if_pos c1, if_neg (by omega)]
    · rw [if_neg c1, if_pos (by omega)]
  · try dsimp only
    rw [if_neg (by omega)]
  · try dsimp only
    split <;> omega
  · try dsimp only
    split <;> split <;> omega
  · have hx' : x = (f, t, W) := by simpa using hx
    subst hx'
    try dsimp only
    split <;> split <;> omega
  · try dsimp only
    by_cases j0 : j = 0
    · exact Or.inl j0
    · by_cases c1 : f < t ∧ t = j
      · refine Or.inr (Or.inr ⟨(f, t, W), by simp, c1.2, ?_⟩)
        try dsimp only
        rw [if_pos (by omega), if_neg (by omega)]; omega
      · refine Or.inr (Or.inl ⟨j - 1, by omega, ?_⟩)
        by_cases c2 : f < t ∧ t ≤ j
        · rw [if_pos c2, if_pos (by omega)]; omega
        · rw [if_neg c2, if_neg (by omega)]; omega
theorem zz_rounds_mid {post : Int32 → St2 → Prop} {f t W V : Nat} (hp : zy_per p q) (h2 : 2 ≤ m) (hm : m ≤ 12) (hX : X ≤ 4) (hft : f ≤ t) (htm : t < m) (g : zy_gr p m X A e y w wt [(f, t, W), (t, f, V)]) (hz : zv a1 A e y w R) (hR : ∀ n, n < 12 → n ∈ R)
    (H : ∀ (p' c' g' : Int32) (b7 b9 b10 b11 b12 b13 : Nat → Int32), post (nI (12 - (t - f))) (oo, p', c', g', wg, a1, a2, a3, a4, a5, a6, b7, a8, b9, b10, b11, b12, b13)) : wpX_rounds post (oo, pi, ck, gs, wg, a1, a2, a3, a4, a5, a6, a7, a8, a9, a10, a11, a12, a13) (nI X) := by
  have hl : (List.range (f + 1) ++ List.range' (t + 1) (11 - t)).length = 12 - (t - f) := by simp; omega
  rw [← hl] at H
  refine zw_rounds (kp := fun n => (fun j => if f ≤ j ∧ j ≤ t then f else j) (q n)) hX hz (zy_rH1 (K := fun j => if f ≤ j ∧ j ≤ t then f else j) hp hm g (fun x hx => ?_) (fun j _ => ?_) (fun x hx => ?_)) (zy_rH2 (K := fun j => if f ≤ j ∧ j ≤ t then f else j) hp hz.2.2.2.1 g (fun i j hi hj hk Z hZ1 hZ2 hZ => ?_)) ?_ (fun k => ?_) H
  · simp only [List.mem_cons, List.not_mem_nil, or_false] at hx
    rcases hx with rfl | rfl <;> exact ⟨by try dsimp only; omega, by try dsimp only; omega⟩
  · try dsimp only
    split <;> split <;> omega
  · simp only [List.mem_cons, List.not_mem_nil, or_false] at hx
    rcases hx with rfl | rfl
    · try dsimp only
      rw [if_pos (by omega), if_pos (by omega)]; exact Nat.le_refl _
    · try dsimp only
      rw [if_pos (by omega), if_pos (by omega)]; exact Nat.le_refl _
  · try dsimp only at hk
    by_cases c1 : f ≤ i ∧ i ≤ t
    · rw [if_pos c1] at hk
      have c2 : f ≤ j ∧ j ≤ t := by
        by_cases c2 : f ≤ j ∧ j ≤ t
        · exact c2
        · rw [if_neg c2] at hk; omega
      have z1 := zy_on hZ1 (t - i) i (by omega) hZ
      rw [show i + (t - i) = t by omega] at z1
      have z2 : Z f := hZ2 (t, f, V) (by simp) z1
      have z3 := zy_on hZ1 (j - f) f (by omega) z2
      rwa [show f + (j - f) = j by omega] at z3
    · rw [if_neg c1] at hk
      by_cases c2 : f ≤ j ∧ j ≤ t
      · rw [if_pos c2] at hk; omega
      · rw [if_neg c2] at hk
        rw [← hk]; exact hZ
  · refine List.nodup_append.mpr ⟨List.nodup_range, List.nodup_range', fun a ha b hb hab => ?_⟩
    have := List.mem_range.mp ha
    have := (List.mem_range'_1.mp hb).1
    omega
  · rw [List.mem_append, List.mem_range, List.mem_range'_1]
    constructor
    · intro hk
      refine ⟨p k, hR _ (hp k (by omega)).1, ?_⟩
      try dsimp only
      rw [(hp k (by omega)).2.2.1]
      split <;> omega
    · rintro ⟨v, v1, v2⟩
      have := (hp v (hz.2.2.2.1 v v1)).2.1
      dsimp only at v2
      split at v2 <;> omega
theorem zz_rounds_cyc {post : Int32 → St2 → Prop} {W : Nat} (hp : zy_per p q) (h2 : 2 ≤ m) (hm : m ≤ 12) (hX : X ≤ 4) (g : zy_gr p m X A e y w wt [(m - 1, 0, W)]) (hz : zv a1 A e y w R) (hR : ∀ n, n < 12 → n ∈ R)
    (H : ∀ (p' c' g' : Int32) (b7 b9 b10 b11 b12 b13 : Nat → Int32), post (nI (12 - m + 1)) (oo, p', c', g', wg, a1, a2, a3, a4, a5, a6, b7, a8, b9, b10, b11, b12, b13)) : wpX_rounds post (oo, pi, ck, gs, wg, a1, a2, a3, a4, a5, a6, a7, a8, a9, a10, a11, a12, a13) (nI X) := by
  have hl : (0 :: List.range' m (12 - m)).length = 12 - m + 1 := by simp
  rw [← hl] at H
  refine zw_rounds (kp := fun n => (fun j => if j < m then 0 else j) (q n)) hX hz (zy_rH1 (K := fun j => if j < m then 0 else j) hp hm g (fun x hx => ?_) (fun j _ => ?_) (fun x hx => ?_)) (zy_rH2 (K := fun j => if j < m then 0 else j) hp hz.2.2.2.1 g (fun i j hi hj hk Z hZ1 hZ2 hZ => ?_)) ?_ (fun k => ?_) H
  · have hx' : x = (m - 1, 0, W) := by simpa using hx
    subst hx'
    exact ⟨by try dsimp only; omega, by try dsimp only; omega⟩
  · try dsimp only
    rw [if_pos (by omega)]; exact Nat.zero_le _
  · have hx' : x = (m - 1, 0, W) := by simpa using hx
    subst hx'
    try dsimp only
    rw [if_pos (by omega), if_pos (by omega)]; exact Nat.le_refl _
  · try dsimp only at hk
    by_cases c1 : i < m
    · rw [if_pos c1] at hk
      have c2 : j < m := by
        by_cases c2 : j < m
        · exact c2
        · rw [if_neg c2] at hk; omega
      have z1 := zy_on hZ1 (m - 1 - i) i (by omega) hZ
      rw [show i + (m - 1 - i) = m - 1 by omega] at z1
      have z2 : Z 0 := hZ2 (m - 1, 0, W) (by simp) z1
      have z3 := zy_on hZ1 j 0 (by omega) z2
      rwa [Nat.zero_add] at z3
    · rw [if_neg c1] at hk
      by_cases c2 : j < m
      · rw [if_pos c2] at hk; omega
      · rw [if_neg c2] at hk
        rw [← hk]; exact hZ
  · refine List.nodup_cons.mpr ⟨fun ha => ?_, List.nodup_range'⟩
    have := (List.mem_range'_1.mp ha).1
    omega
  · rw [List.mem_cons, List.mem_range'_1]
    constructor
    · intro hk
      refine ⟨p k, hR _ (hp k (by omega)).1, ?_⟩
      try dsimp only
      rw [(hp k (by omega)).2.2.1]
      split <;> omega
    · rintro ⟨v, v1, v2⟩
      have := (hp v (hz.2.2.2.1 v v1)).2.1
      dsimp only at v2
      split at v2 <;> omega
theorem zz_dist_cyc {post : Int32 → St2 → Prop} {W : Nat} (hp : zy_per p q) (h2 : 2 ≤ m) (hm : m ≤ 12) (hX : X ≤ 4) (g : zy_gr p m X A e y w wt [(m - 1, 0, W)]) (hz : zv a1 A e y w R) (hR : ∀ n, n < 12 → n ∈ R)
    (H : ∀ b6 b8, post 1 (oo, pi, ck, gs, wg, a1, a2, a3, a4, a5, b6, a7, b8, a9, a10, a11, a12, a13)) : wpX_distance post (oo, pi, ck, gs, wg, a1, a2, a3, a4, a5, a6, a7, a8, a9, a10, a11, a12, a13) (nI (12 * p (m - 1) + p 0)) (nI X) := by
  have ok := zy_dist (D := fun j => if j = m - 1 then 0 else j + 1) (i0 := m - 1) hp hm g (by omega) (fun x hx => ?_) (if_pos rfl) (fun j hj => ?_) (fun j hj => ?_) (fun x hx => ?_) (fun j hj => ?_)
  · have h0 := hp 0 (by omega)
    have h1 := hp (m - 1) (by omega)
    refine zd_distance hX hz (hR _ h1.1) (hR _ h0.1) ok (Or.inl ⟨⟨h0.1, by rw [h0.2.2.1]; omega⟩, ?_⟩) H
    try dsimp only
    rw [h0.2.2.1, if_neg (by omega)]; rfl
  · have hx' : x = (m - 1, 0, W) := by simpa using hx
    subst hx'
    exact ⟨by try dsimp only; omega, by try dsimp only; omega⟩
  · try dsimp only
    split <;> omega
  · try dsimp only
    split <;> split <;> omega
  · have hx' : x = (m - 1, 0, W) := by simpa using hx
    subst hx'
    try dsimp only
    split <;> split <;> omega
  · try dsimp only
    by_cases j0 : j = m - 1
    · exact Or.inl j0
    · by_cases j1 : j = 0
      · refine Or.inr (Or.inr ⟨(m - 1, 0, W), by simp, j1.symm, ?_⟩)
        try dsimp only
        rw [if_neg j0, if_pos rfl]; omega
      · refine Or.inr (Or.inl ⟨j - 1, by omega, ?_⟩)
        rw [if_neg j0, if_neg (by omega)]; omega
theorem zz_cheap_cyc {post : Int32 → St2 → Prop} {f t W : Nat} (hp : zy_per p q) (h2 : 2 ≤ m) (hm : m ≤ 12) (hX : X ≤ 4) (hft : f ≤ t) (htm : t < m) (hW : W ≤ 99) (hw : ∀ i, wt i ≤ 15) (g : zy_gr p m X A e y w wt [(m - 1, 0, W)]) (hz : zv a1 A e y w R) (hR : ∀ n, n < 12 → n ∈ R) {r : Nat} (hr : r = if f = t then 0 else za_sm wt (m - 1) - (za_sm wt t - za_sm wt f) + W)
    (H : ∀ b6 b7, post (nI r) (oo, pi, ck, gs, wg, a1, a2, a3, a4, a5, b6, b7, a8, a9, a10, a11, a12, a13)) : wpX_cheapest post (oo, pi, ck, gs, wg, a1, a2, a3, a4, a5, a6, a7, a8, a9, a10, a11, a12, a13) (nI (12 * p t + p f)) (nI X) := by
  have hS := zy_sm_le2 (wt := wt) hft
  have hT := zy_sm_le2 (wt := wt) (show t ≤ m - 1 by omega)
  have hb := zy_sm_le hw
  have ok := zy_cheap (D := fun j => if t ≤ j then za_sm wt j - za_sm wt t else za_sm wt (m - 1) - za_sm wt t + W + za_sm wt j) (K := fun j => if t ≤ j then j - t else j + m - t) (i0 := t) hp hm g htm (fun x hx => ?_) ?_ (fun j hj => ?_) (fun j hj => ?_) (fun x hx => ?_) (fun j hj => ?_)
  · have h0 := hp f (by omega)
    have h1 := hp t (by omega)
    refine zj_cheapest hX hz (hR _ h1.1) (hR _ h0.1) ok (Or.inl ⟨⟨h0.1, by rw [h0.2.2.1]; omega⟩, ?_⟩) H
    try dsimp only
    rw [h0.2.2.1, if_pos (by omega), hr]
    by_cases c1 : f = t
    · rw [if_pos c1, if_pos (by omega), c1, Nat.sub_self]
    · rw [if_neg c1, if_neg (by omega)]
      congr 1
      omega
  · have hx' : x = (m - 1, 0, W) := by simpa using hx
    subst hx'
    exact ⟨by try dsimp only; omega, by try dsimp only; omega⟩
  · try dsimp only
    rw [if_pos (Nat.le_refl _), Nat.sub_self]
  · try dsimp only
    have := hb j
    have := hb (m - 1)
    split <;> omega
  · try dsimp only
    have e1 : za_sm wt (j + 1) = za_sm wt j + wt j := rfl
    by_cases c1 : t ≤ j
    · have := zy_sm_le2 (wt := wt) c1
      rw [if_pos c1, if_pos (by omega)]; omega
    · rw [if_neg c1]
      split
      · rename_i c2
        have : t = j + 1 := by omega
        rw [this]; omega
      · omega
  · have hx' : x = (m - 1, 0, W) := by simpa using hx
    subst hx'
    try dsimp only
    have e0 : za_sm wt 0 = 0 := rfl
    rw [if_pos (show t ≤ m - 1 by omega), e0]
    split <;> omega
  · try dsimp only
    by_cases j0 : j = t
    · exact Or.inl j0
    · by_cases j1 : j = 0
      · refine Or.inr (Or.inr ⟨(m - 1, 0, W), by simp, j1.symm, ?_, ?_⟩)
        · try dsimp only
          have e0 : za_sm wt 0 = 0 := rfl
          rw [j1, if_neg (by omega), if_pos (by omega), e0]; omega
        · try dsimp only
          rw [if_pos (by omega), if_neg (by omega)]; omega
      · obtain ⟨i, rfl⟩ : ∃ i, j = i + 1 := ⟨j - 1, by omega⟩
        have e1 : za_sm wt (i + 1) = za_sm wt i + wt i := rfl
        refine Or.inr (Or.inl ⟨i, rfl, ?_, ?_⟩)
        · by_cases c1 : t ≤ i
          · have := zy_sm_le2 (wt := wt) c1
            rw [if_pos c1, if_pos (by omega)]; omega
          · rw [if_neg c1, if_neg (by omega)]; omega
        · split <;> split <;> omega
end
end
section
/-! 20: more answers over the law's graphs: chains, the other type, after drop -/
section
variable {p q : Nat → Nat} {m X : Nat} {A R : List Nat} {e : Nat → Nat → Nat} {y w wt lb : Nat → Nat}
theorem zz_n1 {s b k0 : Nat} (hk : k0 < 24) (h : ∀ k, (k ∈ zk A e s b ∧ (X = 4 ∨ y k = X)) ↔ k = k0) : zi_n A e y s b X = 1 := by
  unfold zi_n
  rw [za_cnt_congr (Q := fun k => decide (k = k0)) (fun k _ => decide_eq_decide.mpr (h k)), za_cnt_1 hk]
theorem zz_n0 {s b : Nat} (h : ∀ k, ¬ (k ∈ zk A e s b ∧ (X = 4 ∨ y k = X))) : zi_n A e y s b X = 0 :=
  za_cnt_f (fun k _ => decide_eq_false (h k))
theorem zz_m0 {b Y : Nat} (h : ∀ k, (k ∈ zk A e 1 b ∧ (X = 4 ∨ y k = X)) → ¬ (k ∈ zk A e 0 b ∧ (Y = 4 ∨ y k = Y))) : zi_m A e y b X Y = 0 :=
  za_cnt_f (fun k _ => by
    by_cases t : k ∈ zk A e 1 b ∧ (X = 4 ∨ y k = X)
    · rw [decide_eq_false (h k t), Bool.and_false]
    · rw [decide_eq_false t, Bool.false_and])
theorem zz_in (hp : zy_per p q) (hm : m ≤ 12) (g : zy_gr p m X A e y w wt []) {b : Nat} (hb : b < 12) (k : Nat) : (k ∈ zk A e 1 b ∧ (X = 4 ∨ y k = X)) ↔ (k + 1 = q b ∧ q b < m) := by
  constructor
  · rintro ⟨h1, h2⟩
    obtain ⟨h3, h4⟩ := zk_mem.mp h1
    rcases g.1 k h3 h2 with ⟨q1, q2, q3, _⟩ | ⟨x, x1, _⟩
    · have := (hp (k + 1) (by omega)).2.2.1
      rw [← q3, h4] at this
      omega
    · exact absurd x1 (by simp)
  · rintro ⟨h1, h2⟩
    obtain ⟨k1, k2, k3, k4, _⟩ := g.2.1 k (by omega)
    exact ⟨zk_mem.mpr ⟨k1, by rw [k4, h1]; exact (hp b hb).2.2.2⟩, k2⟩
theorem zz_out (hp : zy_per p q) (hm : m ≤ 12) (g : zy_gr p m X A e y w wt []) {b : Nat} (hb : b < 12) (k : Nat) : (k ∈ zk A e 0 b ∧ (X = 4 ∨ y k = X)) ↔ (k = q b ∧ q b + 1 < m) := by
  constructor
  · rintro ⟨h1, h2⟩
    obtain ⟨h3, h4⟩ := zk_mem.mp h1
    rcases g.1 k h3 h2 with ⟨q1, q2, q3, _⟩ | ⟨x, x1, _⟩
    · have := (hp k (by omega)).2.2.1
      rw [← q2, h4] at this
      omega
    · exact absurd x1 (by simp)
  · rintro ⟨h1, h2⟩
    obtain ⟨k1, k2, k3, k4, _⟩ := g.2.1 k (by omega)
    exact ⟨zk_mem.mpr ⟨k1, by rw [k3, h1]; exact (hp b hb).2.2.2⟩, k2⟩
theorem zz_deg {A' : List Nat} {n g : Nat} (hA : A.Nodup) (hA' : A'.Nodup) (h24 : ∀ a, a ∈ A → a < 24) (hm : ∀ a, a ∈ A' ↔ a ∈ A ∧ e 0 a ≠ n ∧ e 1 a ≠ n) (hl : A'.length + g = A.length) : za_cnt (fun k => decide (k ∈ A ∧ (e 0 k = n ∨ e 1 k = n))) 24 = g := by
  have h1 := za_cnt_mem hA h24
  have h2 := za_cnt_mem hA' (fun a ha => h24 a ((hm a).mp ha).1)
  have h3 : za_cnt (fun k => decide (k ∈ A)) 24 = za_cnt (fun k => decide (k ∈ A ∧ (e 0 k = n ∨ e 1 k = n))) 24 + za_cnt (fun k => decide (k ∈ A')) 24 := by
    refine za_cnt_add (fun k _ => ?_)
    have := hm k
    by_cases t : k ∈ A
    · by_cases t2 : e 0 k = n ∨ e 1 k = n
      · have t3 : k ∉ A' := fun z => by
          have := (this.mp z).2
          rcases t2 with z2 | z2
          · exact this.1 z2
          · exact this.2 z2
        simp [t, t2, t3]
      · have t3 : k ∈ A' := this.mpr ⟨t, fun z => t2 (Or.inl z), fun z => t2 (Or.inr z)⟩
        simp [t, t2, t3]
    · have t3 : k ∉ A' := fun z => t (this.mp z).1
      simp [t, t3]
  omega
end
section
variable {oo pi ck gs wg : Int32} {a1 a2 a3 a4 a5 a6 a7 a8 a9 a10 a11 a12 a13 : Nat → Int32}
variable {p q : Nat → Nat} {m X Y l : Nat} {A R : List Nat} {e : Nat → Nat → Nat} {y w wt lb : Nat → Nat}
theorem zz_chains {post : Int32 → Prop} (hp : zy_per p q) (hm : m ≤ 12) (hX : X ≤ 4) (hY : Y ≤ 4) (hl : l ≤ 7) (g : zy_gr p m X A e y w wt []) (g' : zy_gr p m Y A e y w wt []) (hz : zv a1 A e y w R) (hR : ∀ n, n < 12 → n ∈ R) (hlb : ∀ b, b ∈ R → a1 (16 + 7 * b + 1) = nI (lb b))
    (H : post (nI (za_sm (fun j => if 1 ≤ j ∧ j + 1 < m ∧ nI (lb (p j)) &&& nI l = nI l then 1 else 0) 12))) : wpX_chains post (oo, pi, ck, gs, wg, a1, a2, a3, a4, a5, a6, a7, a8, a9, a10, a11, a12, a13) (nI X) (nI Y) (nI l) := by
  refine zi_chains (lb := lb) (g := fun b => if 1 ≤ q b ∧ q b + 1 < m ∧ nI (lb b) &&& nI l = nI l then 1 else 0) hX hY hl hz hlb (fun b hb hn => ?_) (fun b hb hn => ?_) ?_
  · try dsimp only
    exact if_neg (fun z => hn ⟨hR b hb, z.2.2⟩)
  · try dsimp only
    have b12 := hz.2.2.2.1 b hb
    rw [zz_m0 (fun k h1 h2 => by
      have := (zz_in hp hm g b12 k).mp h1
      have := (zz_out hp hm g' b12 k).mp h2
      omega)]
    by_cases c1 : 1 ≤ q b ∧ q b < m
    · by_cases c2 : q b + 1 < m
      · rw [if_pos ⟨c1.1, c2, hn⟩, zz_n1 (k0 := q b - 1) (by omega) (fun k => by rw [zz_in hp hm g b12 k]; omega), zz_n1 (k0 := q b) (by omega) (fun k => by rw [zz_out hp hm g' b12 k]; omega)]
      · rw [if_neg (fun z => c2 z.2.1), zz_n0 (s := 0) (fun k hk => by have := (zz_out hp hm g' b12 k).mp hk; omega), Nat.mul_zero]
    · rw [if_neg (fun z => c1 ⟨z.1, by omega⟩), zz_n0 (s := 1) (fun k hk => by have := (zz_in hp hm g b12 k).mp hk; omega), Nat.zero_mul]
  · rw [zy_sum_per hp]
    rw [za_sm_congr (g := fun j => if 1 ≤ j ∧ j + 1 < m ∧ nI (lb (p j)) &&& nI l = nI l then 1 else 0) (fun k hk => by rw [(hp k hk).2.2.1])]
    exact H
theorem zz_chains0 {post : Int32 → Prop} (hX : X ≤ 4) (hY : Y ≤ 4) (hl : l ≤ 7) (hA : ∀ a, a ∈ A → ¬ zo Y y a) (hz : zv a1 A e y w R) (hlb : ∀ b, b ∈ R → a1 (16 + 7 * b + 1) = nI (lb b)) (H : post 0) : wpX_chains post (oo, pi, ck, gs, wg, a1, a2, a3, a4, a5, a6, a7, a8, a9, a10, a11, a12, a13) (nI X) (nI Y) (nI l) := by
  refine zi_chains (lb := lb) (g := fun _ => 0) hX hY hl hz hlb (fun b hb hn => rfl) (fun b hb hn => ?_) ?_
  · rw [zz_n0 (s := 0) (fun k hk => hA k (zk_mem.mp hk.1).1 hk.2), zz_m0 (fun k _ hk => hA k (zk_mem.mp hk.1).1 hk.2)]; rfl
  · rw [za_sm_0 (fun _ _ => rfl)]; exact H
theorem zz_dist_O {post : Int32 → St2 → Prop} {f t : Nat} {r : Int32} (hp : zy_per p q) (h2 : 2 ≤ m) (hm : m ≤ 12) (hX : X ≤ 4) (hft : f ≤ t) (htm : t < m) (hA : ∀ a, a ∈ A → zo X y a → e 0 a = p f ∧ e 1 a = p t) (hex : ∃ a, a ∈ A ∧ zo X y a ∧ e 0 a = p f ∧ e 1 a = p t) (hz : zv a1 A e y w R) (hR : ∀ n, n < 12 → n ∈ R)
    (hr : (f = 0 ∧ t = m - 1 ∧ r = 1) ∨ (¬ (f = 0 ∧ t = m - 1) ∧ r = -2)) (H : ∀ b6 b8, post r (oo, pi, ck, gs, wg, a1, a2, a3, a4, a5, b6, a7, b8, a9, a10, a11, a12, a13)) : wpX_distance post (oo, pi, ck, gs, wg, a1, a2, a3, a4, a5, a6, a7, a8, a9, a10, a11, a12, a13) (nI (12 * p 0 + p (m - 1))) (nI X) := by
  have h0 := hp 0 (by omega)
  have h1 := hp (m - 1) (by omega)
  have hf := hp f (by omega)
  have ht := hp t (by omega)
  have inj : ∀ i j, i < 12 → j < 12 → p i = p j → i = j := fun i j hi hj h => by
    rw [← (hp i hi).2.2.1, h, (hp j hj).2.2.1]
  have ok : zd_ok A e y X (p 0) (fun n => if n = p 0 then 0 else 1) (fun n => n = p 0 ∨ (f = 0 ∧ n = p t)) := by
    refine ⟨Or.inl rfl, if_pos rfl, fun v _ => ?_, fun a ha ho hrc => ?_, fun v hv => ?_⟩
    · try dsimp only
      split <;> omega
    · obtain ⟨q1, q2⟩ := hA a ha ho
      dsimp only at hrc ⊢
      have hf0 : f = 0 := by
        rcases hrc with z | z
        · exact inj f 0 (by omega) (by omega) (by rw [← q1, z])
        · exact z.1
      refine ⟨Or.inr ⟨hf0, q2⟩, ?_⟩
      split <;> omega
    · rcases hv with z | ⟨z1, z2⟩
      · exact Or.inl z
      · by_cases t0 : t = 0
        · exact Or.inl (by rw [z2, t0])
        · obtain ⟨a, a1, a2, a3, a4⟩ := hex
          refine Or.inr ⟨a, a1, a2, by rw [a4, z2], Or.inl (by rw [a3, z1]), ?_⟩
          try dsimp only
          rw [a3, z1, if_pos rfl, if_neg (fun h => t0 (inj t 0 (by omega) (by omega) (by rw [← z2, h])))]
  refine zd_distance hX hz (hR _ h0.1) (hR _ h1.1) ok ?_ H
  have hne : p (m - 1) ≠ p 0 := fun h => by have := inj (m - 1) 0 (by omega) (by omega) h; omega
  rcases hr with ⟨r1, r2, r3⟩ | ⟨r1, r2⟩
  · refine Or.inl ⟨Or.inr ⟨r1, by rw [r2]⟩, ?_⟩
    rw [if_neg hne, r3]; rfl
  · refine Or.inr ⟨fun h => ?_, r2⟩
    rcases h with z | ⟨z1, z2⟩
    · exact hne z
    · exact r1 ⟨z1, (inj (m - 1) t (by omega) (by omega) z2).symm⟩
theorem zz_rounds_drop {post : Int32 → St2 → Prop} (hp : zy_per p q) (h2 : 2 ≤ m) (hm : m ≤ 12) (hX : X ≤ 4) (hA : ∀ a, a ∈ A → zo X y a → a + 1 < m ∧ e 0 a = p a ∧ e 1 a = p (a + 1)) (hz : zv a1 A e y w R) (hR : ∀ n, n ∈ R ↔ n < 12 ∧ n ≠ p (m - 1))
    (H : ∀ (p' c' g' : Int32) (b7 b9 b10 b11 b12 b13 : Nat → Int32), post 11 (oo, p', c', g', wg, a1, a2, a3, a4, a5, a6, b7, a8, b9, b10, b11, b12, b13)) : wpX_rounds post (oo, pi, ck, gs, wg, a1, a2, a3, a4, a5, a6, a7, a8, a9, a10, a11, a12, a13) (nI X) := by
  have hl : (List.range (m - 1) ++ List.range' m (12 - m)).length = 11 := by simp; omega
  have H' : ∀ (p' c' g' : Int32) (b7 b9 b10 b11 b12 b13 : Nat → Int32), post (nI (List.range (m - 1) ++ List.range' m (12 - m)).length) (oo, p', c', g', wg, a1, a2, a3, a4, a5, a6, b7, a8, b9, b10, b11, b12, b13) := by
    rw [hl]; exact H
  have h1 := hp (m - 1) (by omega)
  refine zw_rounds (kp := q) hX hz (fun a ha ho => ?_) (fun u v hu hv hk Z _ hZ => ?_) ?_ (fun k => ?_) H'
  · obtain ⟨q1, q2, q3⟩ := hA a ha ho
    rw [q2, q3, (hp a (by omega)).2.2.1, (hp (a + 1) (by omega)).2.2.1]; omega
  · have : u = v := by
      rw [← (hp u (hz.2.2.2.1 u hu)).2.2.2, hk, (hp v (hz.2.2.2.1 v hv)).2.2.2]
    rw [← this]; exact hZ
  · refine List.nodup_append.mpr ⟨List.nodup_range, List.nodup_range', fun a ha b hb hab => ?_⟩
    have := List.mem_range.mp ha
    have := (List.mem_range'_1.mp hb).1
    omega
  · rw [List.mem_append, List.mem_range, List.mem_range'_1]
    constructor
    · intro hk
      have hk12 := hp k (by omega)
      refine ⟨p k, (hR _).mpr ⟨hk12.1, fun h => ?_⟩, hk12.2.2.1⟩
      have : q (p k) = q (p (m - 1)) := by rw [h]
      rw [hk12.2.2.1, h1.2.2.1] at this
      omega
    · rintro ⟨v, v1, v2⟩
      obtain ⟨v3, v4⟩ := (hR v).mp v1
      have hv := hp v v3
      have : q v ≠ m - 1 := fun h => v4 (by rw [← h]; exact hv.2.2.2.symm)
      have := hv.2.1
      omega
/-- at every node of the round one comes in and one goes out -/
theorem zz_chains_cyc {post : Int32 → Prop} {c : Nat} (hp : zy_per p q) (h2 : 2 ≤ m) (hm : m ≤ 12) (hX : X ≤ 4) (hA : ∀ a, a ∈ A → zo X y a → (a + 1 < m ∧ e 0 a = p a ∧ e 1 a = p (a + 1)) ∨ (a = m ∧ e 0 a = p (m - 1) ∧ e 1 a = p 0)) (hP : ∀ a, a + 1 < m → a ∈ A ∧ zo X y a ∧ e 0 a = p a ∧ e 1 a = p (a + 1)) (hB : m ∈ A ∧ zo X y m ∧ e 0 m = p (m - 1) ∧ e 1 m = p 0)
    (hz : zv a1 A e y w R) (hR : ∀ n, n < 12 → n ∈ R) (hlb : ∀ b, b ∈ R → a1 (16 + 7 * b + 1) = nI (lb b)) (H : post (nI m)) : wpX_chains post (oo, pi, ck, gs, wg, a1, a2, a3, a4, a5, a6, a7, a8, a9, a10, a11, a12, a13) (nI X) (nI X) 0 := by
  have hin : ∀ b, b < 12 → ∀ k, (k ∈ zk A e 1 b ∧ (X = 4 ∨ y k = X)) ↔ (q b < m ∧ k = if q b = 0 then m else q b - 1) := by
    intro b hb k
    have hqb := hp b hb
    constructor
    · rintro ⟨h1, h2'⟩
      obtain ⟨h3, h4⟩ := zk_mem.mp h1
      rcases hA k h3 h2' with ⟨q1, q2, q3⟩ | ⟨q1, q2, q3⟩
      · have := (hp (k + 1) (by omega)).2.2.1
        rw [← q3, h4] at this
        rw [if_neg (by omega)]; omega
      · have := (hp 0 (by omega)).2.2.1
        rw [← q3, h4] at this
        rw [if_pos this]; omega
    · rintro ⟨h1, h2'⟩
      by_cases t : q b = 0
      · rw [if_pos t] at h2'
        subst h2'
        exact ⟨zk_mem.mpr ⟨hB.1, by rw [hB.2.2.2, ← t]; exact hqb.2.2.2⟩, hB.2.1⟩
      · rw [if_neg t] at h2'
        obtain ⟨k1, k2, k3, k4⟩ := hP k (by omega)
        exact ⟨zk_mem.mpr ⟨k1, by rw [k4, show k + 1 = q b by omega]; exact hqb.2.2.2⟩, k2⟩
  have hout : ∀ b, b < 12 → ∀ k, (k ∈ zk A e 0 b ∧ (X = 4 ∨ y k = X)) ↔ (q b < m ∧ k = if q b = m - 1 then m else q b) := by
    intro b hb k
    have hqb := hp b hb
    constructor
    · rintro ⟨h1, h2'⟩
      obtain ⟨h3, h4⟩ := zk_mem.mp h1
      rcases hA k h3 h2' with ⟨q1, q2, q3⟩ | ⟨q1, q2, q3⟩
      · have := (hp k (by omega)).2.2.1
        rw [← q2, h4] at this
        rw [if_neg (by omega)]; omega
      · have := (hp (m - 1) (by omega)).2.2.1
        rw [← q2, h4] at this
        rw [if_pos this]; omega
    · rintro ⟨h1, h2'⟩
      by_cases t : q b = m - 1
      · rw [if_pos t] at h2'
        subst h2'
        exact ⟨zk_mem.mpr ⟨hB.1, by rw [hB.2.2.1, ← t]; exact hqb.2.2.2⟩, hB.2.1⟩
      · rw [if_neg t] at h2'
        obtain ⟨k1, k2, k3, k4⟩ := hP k (by omega)
        exact ⟨zk_mem.mpr ⟨k1, by rw [k3, h2']; exact hqb.2.2.2⟩, k2⟩
  refine zi_chains (l := 0) (lb := lb) (g := fun b => if q b < m then 1 else 0) hX hX (by omega) hz hlb (fun b hb hn => ?_) (fun b hb hn => ?_) ?_
  · exfalso
    refine hn ⟨hR b hb, ?_⟩
    rw [show nI 0 = (0 : Int32) from rfl]
    exact Int32.and_zero
  · try dsimp only
    have b12 := hz.2.2.2.1 b hb
    rw [zz_m0 (fun k h1 h2 => by
      have g1 := (hin b b12 k).mp h1
      have g2 := (hout b b12 k).mp h2
      by_cases t : q b = 0
      · rw [if_pos t] at g1
        rw [if_neg (by omega)] at g2
        omega
      · rw [if_neg t] at g1
        by_cases t2 : q b = m - 1
        · rw [if_pos t2] at g2
          omega
        · rw [if_neg t2] at g2
          omega)]
    by_cases c1 : q b < m
    · rw [if_pos c1, zz_n1 (s := 1) (k0 := if q b = 0 then m else q b - 1) (by split <;> omega) (fun k => by rw [hin b b12 k]; exact ⟨fun z => z.2, fun z => ⟨c1, z⟩⟩), zz_n1 (s := 0) (k0 := if q b = m - 1 then m else q b) (by split <;> omega) (fun k => by rw [hout b b12 k]; exact ⟨fun z => z.2, fun z => ⟨c1, z⟩⟩)]
    · rw [if_neg c1, zz_n0 (s := 1) (fun k hk => c1 ((hin b b12 k).mp hk).1), Nat.zero_mul]
  · rw [zy_sum_per hp]
    have hs : za_sm (fun j => if q (p j) < m then 1 else 0) 12 = m := by
      rw [za_sm_congr (g := fun j => if j < m then 1 else 0) (fun k hk => by rw [(hp k hk).2.2.1])]
      have : ∀ m, m < 13 → za_sm (fun j => if j < m then 1 else 0) 12 = m := by decide
      exact this m (by omega)
    rw [hs]; exact H
end
end
section
/-! 21: the law, its end -/
abbrev ze_1 (p : Nat → Nat) (m f t : Nat) : Nat → Nat → Nat := zy_x (m - 1) (p f) (p t) (zy_e0 p)
abbrev ze_2 (p : Nat → Nat) (m f t : Nat) : Nat → Nat → Nat := zy_x m (p t) (p f) (ze_1 p m f t)
abbrev ze_3 (p : Nat → Nat) (m f t : Nat) : Nat → Nat → Nat := zy_x m (p (m - 1)) (p 0) (ze_1 p m f t)
abbrev zy_1 (m T O : Nat) : Nat → Nat := zy_yx (m - 1) O (fun _ => T)
abbrev zy_2 (m T O : Nat) : Nat → Nat := zy_yx m O (zy_1 m T O)
abbrev zy_3 (m T O : Nat) : Nat → Nat := zy_yx m T (zy_1 m T O)
abbrev zw_1 (m W : Nat) (wt : Nat → Nat) : Nat → Nat := zy_yx (m - 1) W wt
abbrev zw_2 (m W : Nat) (wt : Nat → Nat) : Nat → Nat := zy_yx m 1 (zw_1 m W wt)
abbrev zw_3 (m W : Nat) (wt : Nat → Nat) : Nat → Nat := zy_yx m 7 (zw_1 m W wt)
theorem zv_ends (a b : Nat) : (12 : Int32) * nI a + nI b = nI (12 * a + b) := by
  rw [show (12 : Int32) * nI a = nI (12 * a) from pk_mul 12 a, nI_add]
theorem zv_13 {p : Nat → Nat} {m f t T O : Nat} {a : Nat} (h : a + 1 < m) : ze_3 p m f t 0 a = p a ∧ ze_3 p m f t 1 a = p (a + 1) ∧ zy_3 m T O a = T := by
  refine ⟨?_, ?_, ?_⟩
  · rw [ze_3, zy_x_lt (by omega), ze_1, zy_x_lt (by omega)]; rfl
  · rw [ze_3, zy_x_lt (by omega), ze_1, zy_x_lt (by omega)]; rfl
  · rw [zy_3, zy_yx_lt (by omega), zy_1, zy_yx_lt (by omega)]
theorem zv_23 {p : Nat → Nat} {m f t T O : Nat} (h : 2 ≤ m) : ze_3 p m f t 0 (m - 1) = p f ∧ ze_3 p m f t 1 (m - 1) = p t ∧ zy_3 m T O (m - 1) = O := by
  refine ⟨?_, ?_, ?_⟩
  · rw [ze_3, zy_x_lt (by omega), ze_1, zy_x_0]
  · rw [ze_3, zy_x_lt (by omega), ze_1, zy_x_1]
  · rw [zy_3, zy_yx_lt (by omega), zy_1, zy_yx_k]
theorem zv_33 {p : Nat → Nat} {m f t T O : Nat} : ze_3 p m f t 0 m = p (m - 1) ∧ ze_3 p m f t 1 m = p 0 ∧ zy_3 m T O m = T := ⟨zy_x_0, zy_x_1, zy_yx_k⟩
section
variable {oo pi ck gs wg : Int32} {a1 a2 a3 a4 a5 a6 a7 a8 a9 a10 a11 a12 a13 : Nat → Int32}
variable {p q wt : Nat → Nat} {m T O f t W : Nat}
theorem zv_852 {post : Int32 → St0 → Prop} {mc ms kc ks : Nat} {z0 z1 : Int32} {B : Nat → Nat → Int32} (hp : zy_per p q) (h2 : 2 ≤ m) (hm : m ≤ 12) (hT : T ≤ 3) (hOT : O ≠ T) (ht : zt 0 a1 a2 a3 a4 a5 B) (hg : zg a1 (zy_dn (m + 1)) (ze_3 p m f t) (zy_3 m T O) (zw_3 m W wt) (List.range 12) (fun b => b % 8) (fun _ => 5))
    (hzz : z1 = z0) (H : post 1 ()) : wL_lawOf_852 post mc ms (nI m) (nI T) (nI (p (m - 1))) (nI (12 * p 0 + p (m - 1))) z0 z1 kc ks (nI 0) pi ck gs wg a1 a2 a3 a4 a5 a6 a7 a8 a9 a10 a11 a12 a13 := by
  have hz := zg_v hg
  have hR : ∀ n, n < 12 → n ∈ List.range 12 := fun n hn => List.mem_range.mpr hn
  have h0 := hp 0 (by omega)
  have h1 := hp (m - 1) (by omega)
  have hcls : ∀ a, a ∈ zy_dn (m + 1) → zo T (zy_3 m T O) a → (a + 1 < m ∧ ze_3 p m f t 0 a = p a ∧ ze_3 p m f t 1 a = p (a + 1)) ∨ (a = m ∧ ze_3 p m f t 0 a = p (m - 1) ∧ ze_3 p m f t 1 a = p 0) := by
    intro a ha ho
    have ha' := zy_dn_mem.mp ha
    by_cases c1 : a + 1 < m
    · have := zv_13 (p := p) (f := f) (t := t) (T := T) (O := O) c1
      exact Or.inl ⟨c1, this.1, this.2.1⟩
    · by_cases c2 : a = m
      · subst c2
        have := zv_33 (p := p) (m := a) (f := f) (t := t) (T := T) (O := O)
        exact Or.inr ⟨rfl, this.1, this.2.1⟩
      · have c3 : a = m - 1 := by omega
        subst c3
        have := zv_23 (p := p) (f := f) (t := t) (T := T) (O := O) h2
        have ho' : T = 4 ∨ zy_3 m T O (m - 1) = T := ho
        rw [this.2.2] at ho'
        rcases ho' with z | z
        · omega
        · exact absurd z hOT
  have nR : p (m - 1) ∈ List.range 12 := hR _ h1.1
  obtain ⟨R1, R2, hRR⟩ := List.append_of_mem nR
  have hRm : ∀ n, n ∈ R1 ++ R2 ↔ n < 12 ∧ n ≠ p (m - 1) := by
    intro n
    have hnd : (R1 ++ p (m - 1) :: R2).Nodup := hRR ▸ List.nodup_range
    have e1 : n ∈ R1 ++ p (m - 1) :: R2 ↔ n < 12 := by rw [← hRR, List.mem_range]
    have nn1 : p (m - 1) ∉ R1 := fun z => (List.nodup_append.mp hnd).2.2 _ z _ (by simp) rfl
    have nn2 : p (m - 1) ∉ R2 := (List.nodup_cons.mp (List.nodup_append.mp hnd).2.1).1
    rw [← e1]
    simp only [List.mem_append, List.mem_cons]
    constructor
    · rintro (z | z)
      · exact ⟨Or.inl z, fun h => nn1 (h ▸ z)⟩
      · exact ⟨Or.inr (Or.inr z), fun h => nn2 (h ▸ z)⟩
    · rintro ⟨z | z | z, h⟩
      · exact Or.inl z
      · exact absurd z h
      · exact Or.inr z
  have hg' := hg
  rw [hRR] at hg'
  unfold wL_lawOf_852
  refine br_t hzz ?_
  refine zz_chains_cyc (lb := fun b => b % 8) (c := 0) hp h2 hm (by omega) hcls (fun a ha => ?_) ?_ hz hR (fun b hb => (hg.2.2.2.1 b hb).2.1) (br_t rfl ?_)
  · have := zv_13 (p := p) (f := f) (t := t) (T := T) (O := O) ha
    exact ⟨zy_dn_mem.mpr (by omega), Or.inr this.2.2, this.1, this.2.1⟩
  · have := zv_33 (p := p) (m := m) (f := f) (t := t) (T := T) (O := O)
    exact ⟨zy_dn_mem.mpr (by omega), Or.inr this.2.2, this.1, this.2.1⟩
  refine zi_degree hz nR (zt_begin ht (by omega) (fun ht1 => br_t rfl ?_))
  refine zm_drop (o := 1) ht1 hg' (fun r _ => by omega) (fun c b2 b3 b4 b5 A' g ht2 hg2 hmem hlen => br_t ?_ ?_)
  · rw [zz_deg (A' := A') hg.1.1 hg2.1.1 (fun a ha => (hg.1.2.1 a ha).1) hmem hlen]
  have hz2 := zg_v hg2
  refine zz_rounds_drop (y := zy_3 m T O) hp h2 hm (by omega) (fun a ha ho => ?_) hz2 hRm (fun p' c' g' b7 b9 b10 b11 b12 b13 => br_t rfl ?_)
  · obtain ⟨q1, q2, q3⟩ := (hmem a).mp ha
    rcases hcls a q1 ho with z | ⟨z1, z2, z3⟩
    · exact z
    · exact absurd z2 q2
  refine zt_end ht2 (fun b4 b5 ht3 => br_t rfl ?_)
  refine zm_faults hg2 (fun r _ => by omega) (br_t rfl ?_)
  refine zd_bad hz2 h0.1 h1.1 (fun z => ((hRm _).mp z).2 rfl) (br_t rfl ?_)
  refine zm_labels hz2 h1.1 (fun z => ((hRm _).mp z).2 rfl) (br_t rfl ?_)
  refine zm_node (o := 0) (l := 2) (V := 9) (n := p (m - 1)) (lb' := fun x => if x = p (m - 1) then 2 else x % 8) (vl' := fun x => if x = p (m - 1) then 9 else 5) ht3 hg2 (by omega) (by omega) (fun r _ => by omega) h1.1 (fun z => ((hRm _).mp z).2 rfl) (fun b hb => (hRm b).mpr ⟨by omega, by omega⟩) (fun r _ => Or.inl (by omega)) (fun r hr => if_neg ((hRm r).mp hr).2) (fun r hr => if_neg ((hRm r).mp hr).2) (if_pos rfl) (if_pos rfl) (fun c3 d2 d3 d4 d5 ht4 hg4 => br_t rfl ?_)
  have hz4 := zg_v hg4
  refine zm_find (n := p (m - 1)) (l := 2) (V := 9) (t := (R1 ++ R2).length) hg4 (by omega) (by omega) (fun r _ => ?_) (by simp) (fun i r hi hit => ?_) (fun i r hi hit => ?_) (if_pos rfl) ?_ (br_t rfl ?_)
  · try dsimp only
    split <;> omega
  · rw [List.getElem?_append_left hit] at hi
    try dsimp only
    rw [if_neg ((hRm r).mp (List.mem_of_getElem? hi)).2]; omega
  · rw [List.getElem?_append_right hit] at hi
    have hr : r = p (m - 1) := by simpa using List.mem_of_getElem? hi
    try dsimp only
    rw [if_pos hr]; exact Nat.le_refl _
  · try dsimp only
    rw [if_pos rfl]; decide
  refine zi_degree hz4 (by simp) (br_t ?_ H)
  rw [za_cnt_f (fun k _ => ?_)]
  · rfl
  · refine decide_eq_false (fun z => ?_)
    have := ((hmem k).mp z.1).2
    rcases z.2 with z2 | z2
    · exact this.1 z2
    · exact this.2 z2
end
end
section
/-! 22: the law, its middle: transactions, the arrow back -/
section
variable {p q wt : Nat → Nat} {m T O f t W : Nat}
theorem zv_g1 (h2 : 2 ≤ m) : zy_gr p m 4 (zy_dn m) (ze_1 p m f t) (zy_1 m T O) (zw_1 m W wt) wt [(f, t, W)] := by
  have g := zy_gr_add (u := f) (v := t) (ty := O) (W := W) (zy_gr0 (p := p) (m := m) (X := 4) (T := T) (wt := wt) (Or.inl rfl)) (Or.inl rfl)
  rw [show m - 1 + 1 = m by omega] at g
  exact g
theorem zv_g1T (h2 : 2 ≤ m) (hT : T ≤ 3) (hOT : O ≠ T) : zy_gr p m T (zy_dn m) (ze_1 p m f t) (zy_1 m T O) (zw_1 m W wt) wt [] := by
  have g := zy_gr_skip (u := p f) (v := p t) (ty := O) (W := W) (zy_gr0 (p := p) (m := m) (X := T) (T := T) (wt := wt) (Or.inr rfl)) (by omega)
  rw [show m - 1 + 1 = m by omega] at g
  exact g
theorem zv_g2 (h2 : 2 ≤ m) : zy_gr p m 4 (zy_dn (m + 1)) (ze_2 p m f t) (zy_2 m T O) (zw_2 m W wt) wt [(f, t, W), (t, f, 1)] :=
  zy_gr_add (u := t) (v := f) (ty := O) (W := 1) (zv_g1 h2) (Or.inl rfl)
theorem zv_g2T (h2 : 2 ≤ m) (hT : T ≤ 3) (hOT : O ≠ T) : zy_gr p m T (zy_dn (m + 1)) (ze_2 p m f t) (zy_2 m T O) (zw_2 m W wt) wt [] :=
  zy_gr_skip (u := p t) (v := p f) (ty := O) (W := 1) (zv_g1T h2 hT hOT) (by omega)
theorem zv_g3T (h2 : 2 ≤ m) (hT : T ≤ 3) (hOT : O ≠ T) : zy_gr p m T (zy_dn (m + 1)) (ze_3 p m f t) (zy_3 m T O) (zw_3 m W wt) wt [(m - 1, 0, 7)] :=
  zy_gr_add (u := m - 1) (v := 0) (ty := T) (W := 7) (zv_g1T h2 hT hOT) (Or.inr rfl)
end
section
variable {oo pi ck gs wg : Int32} {a1 a2 a3 a4 a5 a6 a7 a8 a9 a10 a11 a12 a13 : Nat → Int32}
theorem zt_undo' {post : Int32 → St2 → Prop} {o : Nat} {B : Nat → Nat → Int32} {c : Nat → Int32} (ht : zt (o + 1) a1 a2 a3 a4 a5 B) (hc : B o = c)
    (H : ∀ b4 b5, zt o c a2 a3 b4 b5 B → post (nI o) (nI o, pi, ck, gs, wg, c, a2, a3, b4, b5, a6, a7, a8, a9, a10, a11, a12, a13)) : wpX_undo post (nI (o + 1), pi, ck, gs, wg, a1, a2, a3, a4, a5, a6, a7, a8, a9, a10, a11, a12, a13) := by
  subst hc
  exact zt_undo ht H
variable {p q wt : Nat → Nat} {m T O f t W : Nat}
theorem zv_613 {post : Int32 → St0 → Prop} {mc ms kc ks : Nat} {x z0 z1 : Int32} {B : Nat → Nat → Int32} (hp : zy_per p q) (hat : ∀ (post : Int32 → Prop) (i : Nat), i < 1000 → post (nI (p i)) → wpL_at post () x (nI i)) (h2 : 2 ≤ m) (hm : m ≤ 12) (hT : T ≤ 3) (hO : O ≤ 3) (hOT : O ≠ T) (hft : f ≤ t) (htm : t < m) (hw : ∀ i, wt i ≤ 15)
    (ht : zt 0 a1 a2 a3 a4 a5 B) (hg : zg a1 (zy_dn m) (ze_1 p m f t) (zy_1 m T O) (zw_1 m W wt) (List.range 12) (fun b => b % 8) (fun _ => 5)) (hzz : z1 = z0) (H : post 1 ()) :
    wL_lawOf_613 post mc ms x (nI m) (nI T) (nI (za_sm wt (m - 1))) (nI (p 0)) (nI (p (m - 1))) (nI (12 * p 0 + p (m - 1))) (nI f) (nI t) (nI (za_sm wt t - za_sm wt f)) (nI O) z0 z1 kc ks (nI 0) pi ck gs wg a1 a2 a3 a4 a5 a6 a7 a8 a9 a10 a11 a12 a13 := by
  have hz := zg_v hg
  have hR : ∀ n, n < 12 → n ∈ List.range 12 := fun n hn => List.mem_range.mpr hn
  have h0 := hp 0 (by omega)
  have h1 := hp (m - 1) (by omega)
  have hf := hp f (by omega)
  have htt := hp t (by omega)
  have nR : p (m - 1) ∈ List.range 12 := hR _ h1.1
  obtain ⟨R1, R2, hRR⟩ := List.append_of_mem nR
  have e12 : (12 : Int32) - (nI t - nI f) = nI (12 - (t - f)) := by
    rw [pk_sub hft]
    exact pk_sub (a := 12) (b := t - f) (by omega)
  unfold wL_lawOf_613
  refine br_t hzz (zt_begin ht (by omega) (fun ht1 => br_t rfl (hat _ t (by omega) (hat _ f (by omega) ?_))))
  rw [zv_ends, zv_ends, e12]
  refine zm_arrow (o := 1) (a := m) (n := p t) (m := p f) (ty := O) (wt := 1) (e' := ze_2 p m f t) (y' := zy_2 m T O) (w' := zw_2 m W wt) ht1 hg (by omega) (fun z => by have := zy_dn_mem.mp z; omega) (fun b hb => zy_dn_mem.mpr hb) (hR _ htt.1) (hR _ hf.1) hO (by omega) (fun s b hb => zy_x_lt (zy_dn_mem.mp hb)) (fun b hb => zy_yx_lt (zy_dn_mem.mp hb)) (fun b hb => zy_yx_lt (zy_dn_mem.mp hb)) zy_x_0 zy_x_1 zy_yx_k zy_yx_k (fun c2 b2 b3 b4 b5 ht2 hg2 => br_t rfl ?_)
  have hg2 : zg c2 (zy_dn (m + 1)) (ze_2 p m f t) (zy_2 m T O) (zw_2 m W wt) (List.range 12) (fun b => b % 8) (fun _ => 5) := hg2
  have hz2 := zg_v hg2
  refine zz_rounds_mid (X := 4) hp h2 hm (by omega) hft htm (zv_g2 h2) hz2 hR (fun p' c' g' d7 d9 d10 d11 d12 d13 => br_t rfl ?_)
  refine zz_rounds_up (X := T) (Ex := []) hp hm (by omega) (zv_g2T h2 hT hOT) (by simp) hz2 hR (fun p' c' g' d7 d9 d10 d11 d12 d13 => br_t rfl ?_)
  refine zt_begin (o := 1) ht2 (by omega) (fun ht3 => br_t rfl ?_)
  refine zm_cut (o := 2) (a := 0) ht3 hg2 (zy_dn_mem.mpr (by omega)) (fun c3 b2 b3 b4 b5 ht4 hg3 => br_t (by rw [zy_dn_len]; rfl) ?_)
  have hg3' := hg3
  rw [hRR] at hg3'
  have hl3 : ((zy_dn (m + 1)).filter (fun b => decide (b ≠ 0))).length ≤ 24 := za_pg hg3.1.1 (fun a ha => (hg3.1.2.1 a ha).1)
  refine zm_drop (o := 2) ht4 hg3' (fun r _ => by omega) (fun c4 b2 b3 b4 b5 A' g ht5 hg5 _ hlen => br_f (nI_pos (by omega)) ?_)
  refine zt_undo' (o := 1) (c := c2) ht5 rfl (fun b4 b5 ht6 => br_t rfl ?_)
  refine zz_rounds_mid (X := 4) hp h2 hm (by omega) hft htm (zv_g2 h2) hz2 hR (fun p' c' g' d7 d9 d10 d11 d12 d13 => br_t rfl ?_)
  refine zt_undo' (o := 0) (c := a1) ht6 rfl (fun b4 b5 ht7 => br_t rfl ?_)
  refine zz_rounds_up (X := 4) (Ex := [(f, t, W)]) hp hm (by omega) (zv_g1 h2) (by simp; omega) hz hR (fun p' c' g' d7 d9 d10 d11 d12 d13 => br_t rfl ?_)
  refine zm_arrow (o := 0) (a := m) (n := p (m - 1)) (m := p 0) (ty := T) (wt := 7) (e' := ze_3 p m f t) (y' := zy_3 m T O) (w' := zw_3 m W wt) ht7 hg (by omega) (fun z => by have := zy_dn_mem.mp z; omega) (fun b hb => zy_dn_mem.mpr hb) (hR _ h1.1) (hR _ h0.1) hT (by omega) (fun s b hb => zy_x_lt (zy_dn_mem.mp hb)) (fun b hb => zy_yx_lt (zy_dn_mem.mp hb)) (fun b hb => zy_yx_lt (zy_dn_mem.mp hb)) zy_x_0 zy_x_1 zy_yx_k zy_yx_k (fun c5 b2 b3 b4 b5 ht8 hg8 => br_t rfl ?_)
  have hg8 : zg c5 (zy_dn (m + 1)) (ze_3 p m f t) (zy_3 m T O) (zw_3 m W wt) (List.range 12) (fun b => b % 8) (fun _ => 5) := hg8
  have hz8 := zg_v hg8
  refine zz_rounds_cyc (X := T) hp h2 hm (by omega) (zv_g3T h2 hT hOT) hz8 hR (fun p' c' g' d7 d9 d10 d11 d12 d13 => br_t ?_ ?_)
  · rw [show (12 : Int32) - nI m = nI (12 - m) from pk_sub (a := 12) hm, za_a1]
  refine zz_dist_cyc (X := T) hp h2 hm (by omega) (zv_g3T h2 hT hOT) hz8 hR (fun d6 d8 => br_t rfl (hat _ t (by omega) (hat _ f (by omega) ?_)))
  rw [zv_ends]
  have hS := zy_sm_le2 (wt := wt) hft
  have hS2 := zy_sm_le2 (wt := wt) (show t ≤ m - 1 by omega)
  refine zz_cheap_cyc (X := T) (f := f) (t := t) hp h2 hm (by omega) hft htm (by omega) hw (zv_g3T h2 hT hOT) hz8 hR rfl (fun d6 d7 => pk_eq f t (fun h => ?_) (fun h => ?_))
  · exact zv_852 hp h2 hm hT hOT ht8 hg8 (by rw [if_pos h]; rfl) H
  · refine zv_852 hp h2 hm hT hOT ht8 hg8 ?_ H
    rw [if_neg h, pk_sub (by omega), za_a7]
end
end
section
/-! 23: the law: the second arrow and what is asked of it -/
section
variable {oo pi ck gs wg : Int32} {a1 a2 a3 a4 a5 a6 a7 a8 a9 a10 a11 a12 a13 : Nat → Int32}
variable {p q wt : Nat → Nat} {m T O f t W : Nat}
theorem zv_520 {post : Int32 → St0 → Prop} {mc ms kc ks r18 r0 : Nat} {x z0 : Int32} {B : Nat → Nat → Int32} (hp : zy_per p q) (hat : ∀ (post : Int32 → Prop) (i : Nat), i < 1000 → post (nI (p i)) → wpL_at post () x (nI i)) (h2 : 2 ≤ m) (hm : m ≤ 12) (hT : T ≤ 3) (hO : O ≤ 3) (hOT : O ≠ T) (hft : f ≤ t) (htm : t < m) (hW : W ≤ 63) (hw : ∀ i, wt i ≤ 15)
    (ht : zt 0 a1 a2 a3 a4 a5 B) (hg : zg a1 (zy_dn m) (ze_1 p m f t) (zy_1 m T O) (zw_1 m W wt) (List.range 12) (fun b => b % 8) (fun _ => 5))
    (h18 : r18 = if f = t ∨ za_sm wt t - za_sm wt f < W then za_sm wt (m - 1) else za_sm wt (m - 1) - (za_sm wt t - za_sm wt f) + W) (hr0 : r0 = if f = t then m - 1 else m - 1 - (t - f) + 1) (hz0 : z0 = nI r0) (H : post 1 ()) :
    wL_lawOf_520 post mc ms x (nI m) (nI T) (nI (za_sm wt (m - 1))) (nI (p 0)) (nI (p (m - 1))) (nI (12 * p 0 + p (m - 1))) (nI f) (nI t) (nI (za_sm wt t - za_sm wt f)) (nI O) (nI (m - 1)) (nI r18) z0 kc ks (nI 0) pi ck gs wg a1 a2 a3 a4 a5 a6 a7 a8 a9 a10 a11 a12 a13 := by
  subst hz0
  have hz := zg_v hg
  have hR : ∀ n, n < 12 → n ∈ List.range 12 := fun n hn => List.mem_range.mpr hn
  have em : nI m - 1 = nI (m - 1) := pk_sub (a := m) (b := 1) (by omega)
  unfold wL_lawOf_520
  rw [em]
  refine br_t rfl ?_
  refine zz_cheap_over (X := 4) hp h2 hm (by omega) hft htm (by omega) hw (zv_g1 h2) hz hR h18 (fun d6 d7 => br_t rfl ?_)
  refine zz_dist_over (X := 4) hp h2 hm (by omega) hft htm (zv_g1 h2) hz hR hr0 (fun d6 d8 => br_t rfl ?_)
  refine zz_cheap_path (X := T) hp h2 hm (by omega) hw (zv_g1T h2 hT hOT) hz hR (fun d6 d7 => br_t rfl ?_)
  have hA : ∀ a, a ∈ zy_dn m → zo O (zy_1 m T O) a → ze_1 p m f t 0 a = p f ∧ ze_1 p m f t 1 a = p t := by
    intro a ha ho
    have ha' := zy_dn_mem.mp ha
    have ho' : O = 4 ∨ zy_1 m T O a = O := ho
    by_cases c1 : a < m - 1
    · rw [zy_1, zy_yx_lt c1] at ho'
      rcases ho' with z | z
      · omega
      · exact absurd z.symm hOT
    · have c3 : a = m - 1 := by omega
      subst c3
      exact ⟨zy_x_0, zy_x_1⟩
  have hex : ∃ a, a ∈ zy_dn m ∧ zo O (zy_1 m T O) a ∧ ze_1 p m f t 0 a = p f ∧ ze_1 p m f t 1 a = p t :=
    ⟨m - 1, zy_dn_mem.mpr (by omega), Or.inr zy_yx_k, zy_x_0, zy_x_1⟩
  by_cases c : f = 0 ∧ t = m - 1
  · refine zz_dist_O (X := O) (r := 1) hp h2 hm (by omega) hft htm hA hex hz hR (Or.inl ⟨c.1, c.2, rfl⟩) (fun d6 d8 => ?_)
    refine br_t (by rw [c.1]; rfl) (br_t (by rw [c.2]) (br_f ?_ (br_f ?_ ?_)))
    · exact nI_ge (a := 1) (b := m) (by omega) (by omega) |> fun h => h
    · exact fun h => by have := (nI_eq (by omega) (by omega)).mp h; omega
    · exact zv_613 hp hat h2 hm hT hO hOT hft htm hw ht hg rfl H
  · refine zz_dist_O (X := O) (r := -2) hp h2 hm (by omega) hft htm hA hex hz hR (Or.inr ⟨c, rfl⟩) (fun d6 d8 => ?_)
    have fin : wL_lawOf_611 post mc ms x (nI m) (nI T) (nI (za_sm wt (m - 1))) (nI (p 0)) (nI (p (m - 1))) (nI (12 * p 0 + p (m - 1))) (nI f) (nI t) (nI (za_sm wt t - za_sm wt f)) (nI O) (-2) kc ks (nI 0) pi ck gs wg a1 a2 a3 a4 a5 d6 d7 d8 a9 a10 a11 a12 a13 := by
      unfold wL_lawOf_611
      exact zv_613 hp hat h2 hm hT hO hOT hft htm hw ht hg rfl H
    refine br_c (fun z1 => br_c (fun z2 => ?_) (fun _ => fin)) (fun _ => fin)
    exfalso
    refine c ⟨?_, ?_⟩
    · have z1' : nI f = nI 0 := z1
      exact (nI_eq (by omega) (by omega)).mp z1'
    · exact (nI_eq (by omega) (by omega)).mp z2
theorem zv_492 {post : Int32 → St0 → Prop} {mc ms kc ks r18 : Nat} {x : Int32} {B : Nat → Nat → Int32} (hp : zy_per p q) (hat : ∀ (post : Int32 → Prop) (i : Nat), i < 1000 → post (nI (p i)) → wpL_at post () x (nI i)) (h2 : 2 ≤ m) (hm : m ≤ 12) (hT : T ≤ 3) (hO : O ≤ 3) (hOT : O ≠ T) (hft : f ≤ t) (htm : t < m) (hW : W ≤ 63) (hw : ∀ i, wt i ≤ 15)
    (ht : zt 0 a1 a2 a3 a4 a5 B) (hg : zg a1 (zy_dn m) (ze_1 p m f t) (zy_1 m T O) (zw_1 m W wt) (List.range 12) (fun b => b % 8) (fun _ => 5))
    (h18 : r18 = if f = t ∨ za_sm wt t - za_sm wt f < W then za_sm wt (m - 1) else za_sm wt (m - 1) - (za_sm wt t - za_sm wt f) + W) (H : post 1 ()) :
    wL_lawOf_492 post mc ms x (nI m) (nI T) (nI (za_sm wt (m - 1))) (nI (p 0)) (nI (p (m - 1))) (nI (12 * p 0 + p (m - 1))) (nI f) (nI t) (nI (za_sm wt t - za_sm wt f)) (nI O) (nI (m - 1)) (nI r18) kc ks (nI 0) pi ck gs wg a1 a2 a3 a4 a5 a6 a7 a8 a9 a10 a11 a12 a13 := by
  have em : nI m - 1 = nI (m - 1) := pk_sub (a := m) (b := 1) (by omega)
  unfold wL_lawOf_492
  refine pk_eq f t (fun h => ?_) (fun h => ?_)
  · exact zv_520 (r0 := m - 1) hp hat h2 hm hT hO hOT hft htm hW hw ht hg h18 (by rw [if_pos h]) em H
  · refine zv_520 (r0 := m - 1 - (t - f) + 1) hp hat h2 hm hT hO hOT hft htm hW hw ht hg h18 (by rw [if_neg h]) ?_ H
    rw [em, pk_sub hft, pk_sub (by omega), za_a1]
theorem zv_393 {post : Int32 → St0 → Prop} {mc ms kc ks : Nat} {x x1 x2 : Int32} {B : Nat → Nat → Int32} (hp : zy_per p q) (hat : ∀ (post : Int32 → Prop) (i : Nat), i < 1000 → post (nI (p i)) → wpL_at post () x (nI i)) (h2 : 2 ≤ m) (hm : m ≤ 12) (hT : T ≤ 3) (hft : f ≤ t) (htm : t < m) (hW : W ≤ 63) (hw : ∀ i, wt i ≤ 15) (hwt : ∀ i, i < 12 → (x1 >>> (nI i &&& 31)) &&& 15 = nI (wt i))
    (ht : zt 0 a1 a2 a3 a4 a5 B) (hg : zg a1 (zy_dn (m - 1)) (zy_e0 p) (fun _ => T) wt (List.range 12) (fun b => b % 8) (fun _ => 5)) (H : post 1 ()) :
    ∃ fu, wL_lawOf_393 post mc ms x x1 x2 (nI m) (nI T) (nI (za_sm wt (m - 1))) (nI (p 0)) (nI (p (m - 1))) (nI (12 * p 0 + p (m - 1))) (nI f) (nI t) (nI W) kc ks (nI 0) pi ck gs wg a1 a2 a3 a4 a5 a6 a7 a8 a9 a10 a11 a12 a13 fu 0 (nI f) := by
  have hR : ∀ n, n < 12 → n ∈ List.range 12 := fun n hn => List.mem_range.mpr hn
  have hf := hp f (by omega)
  have htt := hp t (by omega)
  have hS := zy_sm_le2 (wt := wt) hft
  have hS2 := zy_sm_le2 (wt := wt) (show t ≤ m - 1 by omega)
  have hb := zy_sm_le hw (m - 1)
  obtain ⟨b, hb2, eb⟩ := pk_andE (x2 >>> ((27 : Int32) &&& 31)) (m := 1) 1 (by decide)
  have hO : (T + 1 + b) % 4 ≤ 3 := by omega
  have hOT : (T + 1 + b) % 4 ≠ T := by have : b < 2 := hb2; omega
  refine pk_loop (fun n i s => wL_lawOf_393 post mc ms x x1 x2 (nI m) (nI T) (nI (za_sm wt (m - 1))) (nI (p 0)) (nI (p (m - 1))) (nI (12 * p 0 + p (m - 1))) (nI f) (nI t) (nI W) kc ks (nI 0) pi ck gs wg a1 a2 a3 a4 a5 a6 a7 a8 a9 a10 a11 a12 a13 n s (nI i)) (fun i s => f ≤ i ∧ s = nI (za_sm wt i - za_sm wt f)) t f 0 hft ⟨Nat.le_refl _, by rw [Nat.sub_self]; rfl⟩ ?_ ?_
  · rintro n s ⟨_, rfl⟩
    refine pk_le t t (fun _ => nm_r (e' := nI ((T + 1 + b) % 4)) ?_ (hat _ f (by omega) (hat _ t (by omega) ?_))) (fun z => absurd z (by omega))
    · rw [eb, za_a1, nI_add]
      exact pk_andN (by have : b < 2 := hb2; omega) 2 (by decide)
    rw [zv_ends]
    refine zm_arrow (o := 0) (a := m - 1) (n := p f) (m := p t) (ty := (T + 1 + b) % 4) (wt := W) (e' := ze_1 p m f t) (y' := zy_1 m T ((T + 1 + b) % 4)) (w' := zw_1 m W wt) ht hg (by omega) (fun z => by have := zy_dn_mem.mp z; omega) (fun b hb => zy_dn_mem.mpr hb) (hR _ hf.1) (hR _ htt.1) hO (by omega) (fun s b hb => zy_x_lt (zy_dn_mem.mp hb)) (fun b hb => zy_yx_lt (zy_dn_mem.mp hb)) (fun b hb => zy_yx_lt (zy_dn_mem.mp hb)) zy_x_0 zy_x_1 zy_yx_k zy_yx_k (fun c2 b2 b3 b4 b5 ht2 hg2 => ?_)
    have hg2 : zg c2 (zy_dn (m - 1 + 1)) (ze_1 p m f t) (zy_1 m T ((T + 1 + b) % 4)) (zw_1 m W wt) (List.range 12) (fun b => b % 8) (fun _ => 5) := hg2
    rw [show m - 1 + 1 = m by omega] at hg2
    have e479 : (f = t ∨ za_sm wt t - za_sm wt f < W) → wL_lawOf_479 post mc ms x (nI m) (nI T) (nI (za_sm wt (m - 1))) (nI (p 0)) (nI (p (m - 1))) (nI (12 * p 0 + p (m - 1))) (nI f) (nI t) (nI (za_sm wt t - za_sm wt f)) (nI ((T + 1 + b) % 4)) (nI (m - 1)) kc ks (nI 0) pi ck gs wg c2 b2 b3 b4 b5 a6 a7 a8 a9 a10 a11 a12 a13 := by
      intro hc
      unfold wL_lawOf_479
      exact zv_492 hp hat h2 hm hT hO hOT hft htm hW hw ht2 hg2 (by rw [if_pos hc]) H
    have esum : (nI (za_sm wt (m - 1)) - nI (za_sm wt t - za_sm wt f)) + nI W = nI (za_sm wt (m - 1) - (za_sm wt t - za_sm wt f) + W) := by
      rw [pk_sub (by omega), nI_add]
    refine pk_eq f t (fun h => e479 (Or.inl h)) (fun h => ?_)
    rw [esum]
    refine pk_le (za_sm wt (m - 1) - (za_sm wt t - za_sm wt f) + W) (za_sm wt (m - 1)) (fun h' => ?_) (fun h' => e479 (Or.inr (by omega)))
    exact zv_492 hp hat h2 hm hT hO hOT hft htm hW hw ht2 hg2 (by rw [if_neg (by omega)]) H
  · rintro n i s hi ⟨hfi, rfl⟩ hw'
    refine pk_le t i (fun z => absurd z (by omega)) (fun _ => ?_)
    have hSi := zy_sm_le2 (wt := wt) hfi
    refine nm_r (e' := nI (za_sm wt (i + 1) - za_sm wt f)) ?_ (nm_r (za_a1 i) (hw' _ ⟨by omega, rfl⟩))
    rw [hwt i (by omega), nI_add]
    have e1 : za_sm wt (i + 1) = za_sm wt i + wt i := rfl
    rw [e1, show za_sm wt i - za_sm wt f + wt i = za_sm wt i + wt i - za_sm wt f by omega]
end
end
section
/-! 24: the law: its first loops -/
theorem zv_tail {g : Nat → Nat} {a : Nat} (h : ∀ j, a ≤ j → g j = 0) : ∀ d, za_sm g (a + d) = za_sm g a
  | 0 => rfl
  | d + 1 => by
    have := zv_tail h d
    show za_sm g (a + d) + g (a + d) = _
    rw [this, h _ (by omega), Nat.add_zero]
theorem zv_m2 : ∀ m, m < 13 → 2 ≤ m → za_sm (fun j => if 1 ≤ j ∧ j + 1 < m then 1 else 0) 12 = m - 2 := by decide
section
variable {oo pi ck gs wg : Int32} {a1 a2 a3 a4 a5 a6 a7 a8 a9 a10 a11 a12 a13 : Nat → Int32}
variable {p q wt : Nat → Nat} {m T : Nat}
theorem zv_287 {post : Int32 → St0 → Prop} {mc ms kc ks l : Nat} {x x1 x2 : Int32} {B : Nat → Nat → Int32} (hp : zy_per p q) (hat : ∀ (post : Int32 → Prop) (i : Nat), i < 1000 → post (nI (p i)) → wpL_at post () x (nI i)) (h2 : 2 ≤ m) (hm : m ≤ 12) (hT : T ≤ 3) (hl : l ≤ 7) (hw : ∀ i, wt i ≤ 15) (hwt : ∀ i, i < 12 → (x1 >>> (nI i &&& 31)) &&& 15 = nI (wt i))
    (ht : zt 0 a1 a2 a3 a4 a5 B) (hg : zg a1 (zy_dn (m - 1)) (zy_e0 p) (fun _ => T) wt (List.range 12) (fun b => b % 8) (fun _ => 5)) (H : post 1 ()) :
    ∃ fu, wL_lawOf_287 post mc ms x x1 x2 (nI m) (nI T) (nI (za_sm wt (m - 1))) (nI (p 0)) (nI (p (m - 1))) (nI (12 * p 0 + p (m - 1))) (nI l) kc ks (nI 0) pi ck gs wg a1 a2 a3 a4 a5 a6 a7 a8 a9 a10 a11 a12 a13 fu 0 1 := by
  have hz := zg_v hg
  have hR : ∀ n, n < 12 → n ∈ List.range 12 := fun n hn => List.mem_range.mpr hn
  refine pk_loop (fun n i s => wL_lawOf_287 post mc ms x x1 x2 (nI m) (nI T) (nI (za_sm wt (m - 1))) (nI (p 0)) (nI (p (m - 1))) (nI (12 * p 0 + p (m - 1))) (nI l) kc ks (nI 0) pi ck gs wg a1 a2 a3 a4 a5 a6 a7 a8 a9 a10 a11 a12 a13 n s (nI i)) (fun i s => 1 ≤ i ∧ s = nI (za_sm (fun j => if 1 ≤ j ∧ j + 1 < m ∧ nI (p j % 8) &&& nI l = nI l then 1 else 0) i)) (m - 1) 1 0 (by omega) ⟨by omega, rfl⟩ ?_ ?_
  · rintro n s ⟨_, rfl⟩
    show _ ∧ _
    rw [za_a1 (m - 1)]
    refine pk_le m (m - 1 + 1) (fun _ => ?_) (fun z => absurd z (by omega))
    refine zz_chains (X := 4) (Y := T) (l := l) (lb := fun b => b % 8) hp hm (by omega) (by omega) hl (zy_gr0 (Or.inl rfl)) (zy_gr0 (Or.inr rfl)) hz hR (fun b hb => (hg.2.2.2.1 b hb).2.1) (br_t ?_ ?_)
    · have := zv_tail (g := fun j => if 1 ≤ j ∧ j + 1 < m ∧ nI (p j % 8) &&& nI l = nI l then 1 else 0) (a := m - 1) (fun j hj => if_neg (by omega)) (12 - (m - 1))
      rw [show m - 1 + (12 - (m - 1)) = 12 by omega] at this
      rw [this]
    · obtain ⟨k1, hk1, ek1⟩ := pk_andE (x2 >>> ((5 : Int32) &&& 31)) (m := 255) 8 (by decide)
      obtain ⟨k2, hk2, ek2⟩ := pk_andE (x2 >>> ((13 : Int32) &&& 31)) (m := 255) 8 (by decide)
      obtain ⟨k3, hk3, ek3⟩ := pk_andE (x2 >>> ((21 : Int32) &&& 31)) (m := 63) 6 (by decide)
      have hk1 : k1 < 256 := hk1
      have hk2 : k2 < 256 := hk2
      have hk3 : k3 < 64 := hk3
      have hf : k1 % m < m := Nat.mod_lt _ (by omega)
      have ht2 : k2 % (m - k1 % m) < m - k1 % m := Nat.mod_lt _ (by omega)
      refine ⟨nI_ne0 (by omega) (by omega), nm_r (e' := nI (k1 % m)) ?_ ?_⟩
      · rw [ek1]
        exact pk_rem (by omega) (by omega) (by omega)
      have esub : nI m - nI (k1 % m) = nI (m - k1 % m) := pk_sub (by omega)
      rw [esub]
      refine ⟨nI_ne0 (by omega) (by omega), nm_r (e' := nI (k1 % m + k2 % (m - k1 % m))) ?_ (nm_r ek3 ?_)⟩
      · rw [ek2, pk_rem (by omega) (by omega) (by omega), nI_add]
      exact zv_393 hp hat h2 hm hT (by omega) (by omega) (by omega) hw hwt ht hg H
  · rintro n i s hi ⟨h1, rfl⟩ hw'
    show _ ∧ _
    rw [za_a1 i]
    refine pk_le m (i + 1) (fun z => absurd z (by omega)) (fun _ => hat _ i (by omega) ?_)
    have h8 : nI (p i) &&& 7 = nI (p i % 8) := pk_andN (by have := (hp i (by omega)).1; omega) 3 (by decide)
    rw [h8]
    refine br_c (fun z => ?_) (fun z => ?_)
    · refine nm_r (za_a1 _) (nm_e (hw' _ ⟨by omega, ?_⟩))
      simp only [za_sm]
      rw [if_pos ⟨h1, by omega, z⟩]
    · refine nm_e (hw' _ ⟨by omega, ?_⟩)
      simp only [za_sm]
      rw [if_neg (fun t => z t.2.2), Nat.add_zero]
theorem zv_61 {post : Int32 → St0 → Prop} {mc ms kc ks : Nat} {x x1 x2 : Int32} {B : Nat → Nat → Int32} (hp : zy_per p q) (hat : ∀ (post : Int32 → Prop) (i : Nat), i < 1000 → post (nI (p i)) → wpL_at post () x (nI i)) (h2 : 2 ≤ m) (hm : m ≤ 12) (hT : T ≤ 3) (hw : ∀ i, wt i ≤ 15) (hwt : ∀ i, i < 12 → (x1 >>> (nI i &&& 31)) &&& 15 = nI (wt i)) (H : post 1 ()) :
    ∀ (r i : Nat) (a1 a2 a3 a4 a5 : Nat → Int32), i + r = m - 1 → zt 0 a1 a2 a3 a4 a5 B → zg a1 (zy_dn i) (zy_e0 p) (fun _ => T) wt (List.range 12) (fun b => b % 8) (fun _ => 5) →
      wL_lawOf_61 post mc ms x x1 x2 (nI m) (nI T) kc ks (r + 1) (nI (za_sm wt i)) (nI i) (nI 0) pi ck gs wg a1 a2 a3 a4 a5 a6 a7 a8 a9 a10 a11 a12 a13 := by
  have hR : ∀ n, n < 12 → n ∈ List.range 12 := fun n hn => List.mem_range.mpr hn
  have em : nI m - 1 = nI (m - 1) := pk_sub (a := m) (b := 1) (by omega)
  have em2 : nI m - 2 = nI (m - 2) := pk_sub (a := m) (b := 2) (by omega)
  have eT : (nI T + 1) &&& 3 = nI ((T + 1) % 4) := by
    rw [za_a1]
    exact pk_andN (by omega) 2 (by decide)
  intro r
  induction r with
  | zero =>
    intro i a1 a2 a3 a4 a5 hi ht hg
    have ei : i = m - 1 := by omega
    subst ei
    have hz := zg_v hg
    have hno : ∀ a, a ∈ zy_dn (m - 1) → ¬ zo ((T + 1) % 4) (fun _ => T) a := by
      intro a _ ho
      have : (T + 1) % 4 = 4 ∨ T = (T + 1) % 4 := ho
      omega
    have hlb : ∀ b, b ∈ List.range 12 → a1 (16 + 7 * b + 1) = nI (b % 8) := fun b hb => (hg.2.2.2.1 b hb).2.1
    show _ ∧ _
    rw [za_a1, em, em2, eT]
    refine pk_le m (m - 1 + 1) (fun _ => hat _ 0 (by omega) (hat _ (m - 1) (by omega) (nm_r (zv_ends _ _) ?_))) (fun z => absurd z (by omega))
    rw [zv_ends]
    refine zz_dist_path (X := T) hp h2 hm (by omega) (zy_gr0 (Or.inr rfl)) hz hR (fun d6 d8 => br_t rfl ?_)
    refine zz_dist_path (X := 4) hp h2 hm (by omega) (zy_gr0 (Or.inl rfl)) hz hR (fun d6 d8 => br_t rfl ?_)
    refine zz_cheap_path (X := T) hp h2 hm (by omega) hw (zy_gr0 (Or.inr rfl)) hz hR (fun d6 d7 => br_t rfl ?_)
    refine zz_cheap_none (X := (T + 1) % 4) hp h2 hm (by omega) hno hz hR (fun d6 d7 => br_t rfl ?_)
    refine zz_dist_none (X := 4) hp h2 hm (by omega) (zy_gr0 (Or.inl rfl)) hz hR (fun d6 d8 => br_t rfl ?_)
    refine zz_rounds_up (X := T) (Ex := []) hp hm (by omega) (zy_gr0 (Or.inr rfl)) (by simp) hz hR (fun p' c' g' d7 d9 d10 d11 d12 d13 => br_t rfl ?_)
    refine zz_chains (X := T) (Y := 4) (l := 0) (lb := fun b => b % 8) hp hm (by omega) (by omega) (by omega) (zy_gr0 (Or.inr rfl)) (zy_gr0 (Or.inl rfl)) hz hR hlb (br_t ?_ ?_)
    · rw [za_sm_congr (g := fun j => if 1 ≤ j ∧ j + 1 < m then 1 else 0) (fun k _ => ?_), zv_m2 m (by omega) h2]
      have h0 : nI (p k % 8) &&& nI 0 = nI 0 := by
        rw [show nI 0 = (0 : Int32) from rfl]
        exact Int32.and_zero
      by_cases c : 1 ≤ k ∧ k + 1 < m
      · rw [if_pos ⟨c.1, c.2, h0⟩, if_pos c]
      · rw [if_neg (fun z => c ⟨z.1, z.2.1⟩), if_neg c]
    refine zz_chains0 (X := T) (Y := (T + 1) % 4) (l := 0) (lb := fun b => b % 8) (by omega) (by omega) (by omega) hno hz hlb (br_t rfl ?_)
    obtain ⟨l, hl, el⟩ := pk_andE (x2 >>> ((2 : Int32) &&& 31)) (m := 7) 3 (by decide)
    have hl : l < 8 := hl
    exact nm_r el (zv_287 hp hat h2 hm hT (by omega) hw hwt ht hg H)
  | succ r ih =>
    intro i a1 a2 a3 a4 a5 hi ht hg
    have hwi := hw i
    show _ ∧ _
    rw [za_a1]
    refine pk_le m (i + 1) (fun z => absurd z (by omega)) (fun _ => ?_)
    refine nm_r (hwt i (by omega)) (nm_r (nI_add _ _) (hat _ i (by omega) (hat _ (i + 1) (by omega) ?_)))
    rw [zv_ends]
    refine zm_arrow (o := 0) (a := i) (n := p i) (m := p (i + 1)) (ty := T) (wt := wt i) (e' := zy_e0 p) (y' := fun _ => T) (w' := wt) ht hg (by omega) (fun z => by have := zy_dn_mem.mp z; omega) (fun b hb => zy_dn_mem.mpr hb) (hR _ (hp i (by omega)).1) (hR _ (hp (i + 1) (by omega)).1) hT (by omega) (fun s b hb => rfl) (fun b hb => rfl) (fun b hb => rfl) rfl rfl rfl rfl (fun c2 b2 b3 b4 b5 ht2 hg2 => br_t rfl (nm_e ?_))
    exact ih (i + 1) c2 b2 b3 b4 b5 (by omega) ht2 hg2
end
section
variable {oo pi ck gs wg : Int32} {a1 a2 a3 a4 a5 a6 a7 a8 a9 a10 a11 a12 a13 : Nat → Int32}
variable {p q wt : Nat → Nat} {T : Nat}
theorem zv_11 {post : Int32 → St0 → Prop} {mc ms kc ks : Nat} {x x1 x2 : Int32} {B : Nat → Nat → Int32} (hp : zy_per p q) (hat : ∀ (post : Int32 → Prop) (i : Nat), i < 1000 → post (nI (p i)) → wpL_at post () x (nI i)) (hT : T ≤ 3) (eT : x2 &&& 3 = nI T) (hw : ∀ i, wt i ≤ 15) (hwt : ∀ i, i < 12 → (x1 >>> (nI i &&& 31)) &&& 15 = nI (wt i)) (H : post 1 ()) :
    ∀ (r i : Nat) (a1 a2 a3 a4 a5 : Nat → Int32), i + r = 12 → zt 0 a1 a2 a3 a4 a5 B → zg a1 [] (zy_e0 p) (fun _ => T) wt (List.range i) (fun b => b % 8) (fun _ => 5) →
      wL_lawOf_11 post mc ms x x1 x2 kc ks (r + 1) (nI i) (nI 0) pi ck gs wg a1 a2 a3 a4 a5 a6 a7 a8 a9 a10 a11 a12 a13 := by
  intro r
  induction r with
  | zero =>
    intro i a1 a2 a3 a4 a5 hi ht hg
    have ei : i = 12 := by omega
    subst ei
    obtain ⟨k, hk, ek⟩ := pk_andE (x >>> ((6 : Int32) &&& 31)) (m := 255) 8 (by decide)
    have hk : k < 256 := hk
    have hk11 : k % 11 < 11 := Nat.mod_lt _ (by omega)
    refine br_t (nI_le (Nat.le_refl _) (by decide)) ⟨by decide, nm_r (e' := nI (2 + k % 11)) ?_ (nm_r eT ⟨2 + k % 11 - 1 + 1, ?_⟩)⟩
    · rw [ek]
      have h11 : nI k - nI k / 11 * 11 = nI (k % 11) := pk_rem (d := 11) (by omega) (by omega) (by omega)
      rw [h11]
      exact nI_add 2 (k % 11)
    exact zv_61 hp hat (by omega) (by omega) hT hw hwt H (2 + k % 11 - 1) 0 a1 a2 a3 a4 a5 (by omega) ht hg
  | succ r ih =>
    intro i a1 a2 a3 a4 a5 hi ht hg
    have h8 : nI i &&& 7 = nI (i % 8) := pk_andN (by omega) 3 (by decide)
    show _ ∧ _
    rw [h8]
    refine pk_le 12 i (fun z => absurd z (by omega)) (fun _ => ?_)
    refine zm_node (o := 0) (l := i % 8) (V := 5) (n := i) (lb' := fun b => b % 8) (vl' := fun _ => 5) ht hg (by omega) (by omega) (fun r _ => by omega) (by omega) (by simp) (fun b hb => List.mem_range.mpr hb) (fun r hr => Or.inr ⟨rfl, List.mem_range.mp hr⟩) (fun r hr => rfl) (fun r hr => rfl) rfl rfl (fun c2 b2 b3 b4 b5 ht2 hg2 => nm_r (za_a1 i) ?_)
    rw [← List.range_succ] at hg2
    exact ih (i + 1) c2 b2 b3 b4 b5 (by omega) ht2 hg2
end
theorem zv_cell {post : Int32 → Prop} {L i : Nat} {xs : Nat → Int32} (hL : L ≤ 3) (hi : i < 3) (H : ∀ v, post v) : wpL_cellAt post L xs () (nI i) := by
  refine br_c (fun _ => H _) (fun z => ⟨vp_in_nI ?_ (by omega), H _⟩)
  rcases Nat.lt_or_ge i L with q | q
  · exact q
  · exact absurd (nI_le q (by omega)) z
end
section
/-! 25: the owed statement -/
theorem zv_lawOf {post : Int32 → St0 → Prop} {x y n : Int32} (H : post 1 ()) : wpL_lawOf post 1784 28528 () x y n := by
  obtain ⟨M, s0, hM, hs, hat⟩ := zy_at x
  have hper : zy_per (zy_p M s0) (zy_q M s0) := fun j hj => ⟨Nat.mod_lt _ (by omega), Nat.mod_lt _ (by omega), (zy_pq M hM s0 hs j hj).1, (zy_pq M hM s0 hs j hj).2⟩
  obtain ⟨T, hT, eT⟩ := pk_andE n (m := 3) 2 (by decide)
  have hT : T < 4 := hT
  have hex : ∀ i : Nat, ∃ k : Nat, k < 2 ^ 4 ∧ (y >>> (nI i &&& 31)) &&& 15 = nI k := fun i => pk_andE (y >>> (nI i &&& 31)) (m := 15) 4 (by decide)
  refine ⟨by omega, by omega, 100, 10000, by omega, by omega, zy_init (by omega) (by omega) (fun c hc => ⟨13, ?_⟩)⟩
  refine zv_11 (B := fun _ => c) (wt := fun i => Classical.choose (hex i)) (T := T) hper hat (by omega) eT (fun i => ?_) (fun i _ => (Classical.choose_spec (hex i)).2) H 12 0 c (fun _ => 0) (fun _ => 0) (fun _ => 0) (fun _ => 0) (by omega) ⟨by omega, fun l hl => absurd hl (by omega), fun l _ _ => ⟨rfl, fun v _ => rfl⟩⟩ (hc _ _ _ _ _)
  have h16 : Classical.choose (hex i) < 16 := (Classical.choose_spec (hex i)).1
  omega
theorem i_vc (xs : Nat → Int32) (L : Nat) (hL : L ≤ 3) : wpL_law (fun r => r = 1) L xs :=
  zv_cell (i := 0) hL (by omega) (fun v1 => zv_cell (i := 1) hL (by omega) (fun v2 => zv_cell (i := 2) hL (by omega) (fun v3 => ⟨1784, 28528, by omega, by omega, zv_lawOf rfl⟩)))
end
