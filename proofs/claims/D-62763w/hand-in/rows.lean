section
/-! PURE 1: sums, masks, maxima -/
def pd_sm (f : Nat → Nat) : Nat → Nat
  | 0 => 0
  | n + 1 => pd_sm f n + f n
theorem pd_sm_s (f : Nat → Nat) (n : Nat) : pd_sm f (n + 1) = pd_sm f n + f n := rfl
theorem pd_sm_congr {f g : Nat → Nat} : ∀ {n : Nat}, (∀ i, i < n → f i = g i) → pd_sm f n = pd_sm g n
  | 0, _ => rfl
  | n + 1, h => by
    show pd_sm f n + f n = pd_sm g n + g n
    rw [pd_sm_congr (n := n) (fun i hi => h i (by omega)), h n (by omega)]
theorem pd_sm_le {f g : Nat → Nat} : ∀ {n : Nat}, (∀ i, i < n → f i ≤ g i) → pd_sm f n ≤ pd_sm g n
  | 0, _ => Nat.le_refl _
  | n + 1, h => by
    show pd_sm f n + f n ≤ pd_sm g n + g n
    exact Nat.add_le_add (pd_sm_le (n := n) (fun i hi => h i (by omega))) (h n (by omega))
theorem pd_sm_add (f g : Nat → Nat) : ∀ n : Nat, pd_sm (fun i => f i + g i) n = pd_sm f n + pd_sm g n
  | 0 => rfl
  | n + 1 => by
    show pd_sm (fun i => f i + g i) n + (f n + g n) = (pd_sm f n + f n) + (pd_sm g n + g n)
    rw [pd_sm_add f g n]; omega
theorem pd_sm_zero {f : Nat → Nat} : ∀ {n : Nat}, (∀ i, i < n → f i = 0) → pd_sm f n = 0
  | 0, _ => rfl
  | n + 1, h => by
    show pd_sm f n + f n = 0
    rw [pd_sm_zero (n := n) (fun i hi => h i (by omega)), h n (by omega)]
theorem pd_sm_swap (F : Nat → Nat → Nat) (n : Nat) : ∀ m : Nat, pd_sm (fun i => pd_sm (fun j => F i j) m) n = pd_sm (fun j => pd_sm (fun i => F i j) n) m
  | 0 => pd_sm_zero (fun _ _ => rfl)
  | m + 1 => by
    show pd_sm (fun i => pd_sm (fun j => F i j) m + F i m) n = pd_sm (fun j => pd_sm (fun i => F i j) n) m + pd_sm (fun i => F i m) n
    rw [pd_sm_add (fun i => pd_sm (fun j => F i j) m) (fun i => F i m) n, pd_sm_swap F n m]
/-- one place changed -/
theorem pd_sm_upd {f g : Nat → Nat} {k : Nat} : ∀ {n : Nat}, k < n → (∀ i, i < n → i ≠ k → g i = f i) → pd_sm g n + f k = pd_sm f n + g k
  | 0, h, _ => absurd h (Nat.not_lt_zero _)
  | n + 1, h, hg => by
    show pd_sm g n + g n + f k = pd_sm f n + f n + g k
    by_cases e : k = n
    · subst e
      rw [pd_sm_congr (f := g) (g := f) (n := k) (fun i hi => hg i (by omega) (by omega))]
      omega
    · have h1 := pd_sm_upd (f := f) (g := g) (k := k) (n := n) (by omega) (fun i hi hk => hg i (by omega) hk)
      have h2 := hg n (by omega) (fun q => e q.symm)
      omega
theorem pd_sm_ge {f : Nat → Nat} {k : Nat} : ∀ {n : Nat}, k < n → f k ≤ pd_sm f n
  | 0, h => absurd h (Nat.not_lt_zero _)
  | n + 1, h => by
    show f k ≤ pd_sm f n + f n
    by_cases e : k = n
    · subst e; omega
    · have := pd_sm_ge (f := f) (k := k) (n := n) (by omega)
      omega
theorem pd_sm_pos {f : Nat → Nat} : ∀ {n : Nat}, 0 < pd_sm f n → ∃ k, k < n ∧ 0 < f k
  | 0, h => absurd h (Nat.not_lt_zero _)
  | n + 1, h => by
    by_cases e : 0 < f n
    · exact ⟨n, by omega, e⟩
    · have h1 : 0 < pd_sm f n + f n := h
      obtain ⟨k, hk, h2⟩ := pd_sm_pos (f := f) (n := n) (by omega)
      exact ⟨k, by omega, h2⟩
theorem pd_sm_bd {f : Nat → Nat} {c : Nat} : ∀ {n : Nat}, (∀ i, i < n → f i ≤ c) → pd_sm f n ≤ n * c
  | 0, _ => by simp [pd_sm]
  | n + 1, h => by
    show pd_sm f n + f n ≤ (n + 1) * c
    have h1 := pd_sm_bd (f := f) (c := c) (n := n) (fun i hi => h i (by omega))
    have h2 := h n (by omega)
    rw [Nat.add_mul, Nat.one_mul]; omega
theorem pd_sm_split (f : Nat → Nat) (m : Nat) : ∀ n : Nat, pd_sm f (m + n) = pd_sm f m + pd_sm (fun i => f (m + i)) n
  | 0 => rfl
  | n + 1 => by
    show pd_sm f (m + n) + f (m + n) = pd_sm f m + (pd_sm (fun i => f (m + i)) n + f (m + n))
    rw [pd_sm_split f m n]; omega
/-- an array with one place changed -/
def pd_st {α : Type} (f : Nat → α) (k : Nat) (x : α) : Nat → α := fun j => if j = k then x else f j
theorem pd_st_s {α : Type} {f : Nat → α} {k : Nat} {x : α} : pd_st f k x k = x := if_pos rfl
theorem pd_st_n {α : Type} {f : Nat → α} {k j : Nat} {x : α} (h : j ≠ k) : pd_st f k x j = f j := if_neg h
/-! masks -/
theorem pd_bit (s v : Nat) : (s >>> v) &&& 1 = (s.testBit v).toNat := by
  rw [Nat.and_one_is_mod, Nat.shiftRight_eq_div_pow, Nat.toNat_testBit]
theorem pd_t10 {s i : Nat} (h : s < 1024) (hb : s.testBit i = true) : i < 10 := by
  rcases Nat.lt_or_ge i 10 with q | q
  · exact q
  · have h1 : (2 : Nat) ^ 10 ≤ 2 ^ i := Nat.pow_le_pow_right (by decide) q
    have h2 := Nat.testBit_lt_two_pow (x := s) (i := i) (Nat.lt_of_lt_of_le h h1)
    rw [h2] at hb; cases hb
theorem pd_t10f {s i : Nat} (h : s < 1024) (hi : 10 ≤ i) : s.testBit i = false := by
  cases hb : s.testBit i with
  | false => rfl
  | true => exact absurd (pd_t10 h hb) (by omega)
theorem pd_ext {s t : Nat} (hs : s < 1024) (ht : t < 1024) (h : ∀ i, i < 10 → s.testBit i = t.testBit i) : s = t := by
  refine Nat.eq_of_testBit_eq fun i => ?_
  rcases Nat.lt_or_ge i 10 with q | q
  · exact h i q
  · rw [pd_t10f hs q, pd_t10f ht q]
theorem pd_nb {b : Bool} (h : ¬ b = true) : b = false := by cases b <;> simp at h ⊢
def pd_mk (p : Nat → Bool) : Nat → Nat
  | 0 => 0
  | n + 1 => if p n = true then pd_mk p n ||| 2 ^ n else pd_mk p n
theorem pd_mk_tb (p : Nat → Bool) (i : Nat) : ∀ n : Nat, (pd_mk p n).testBit i = (decide (i < n) && p i)
  | 0 => by simp [pd_mk]
  | n + 1 => by
    show (if p n = true then pd_mk p n ||| 2 ^ n else pd_mk p n).testBit i = _
    have ih := pd_mk_tb p i n
    by_cases e : i = n
    · subst e
      by_cases h : p i = true
      · rw [if_pos h, Nat.testBit_or, Nat.testBit_two_pow_self]; simp [h]
      · rw [if_neg h, ih]; simp [pd_nb h]
    · have h1 : decide (i < n + 1) = decide (i < n) := decide_eq_decide.mpr (by omega)
      rw [h1, ← ih]
      split
      · rw [Nat.testBit_or, Nat.testBit_two_pow_of_ne (fun q => e q.symm), Bool.or_false]
      · rfl
theorem pd_mk_lt (p : Nat → Bool) (n : Nat) : pd_mk p n < 2 ^ n := by
  refine Nat.lt_pow_two_of_testBit _ fun i hi => ?_
  rw [pd_mk_tb]
  have : decide (i < n) = false := decide_eq_false (by omega)
  rw [this]; rfl
/-- the bits of a that b lacks -/
def pd_df (a b : Nat) : Nat := Nat.bitwise (fun x y => x && !y) a b
theorem pd_df_tb (a b i : Nat) : (pd_df a b).testBit i = (a.testBit i && !(b.testBit i)) := Nat.testBit_bitwise rfl a b i
theorem pd_df_le (a b : Nat) : pd_df a b ≤ a := by
  refine Nat.le_of_testBit fun i h => ?_
  rw [pd_df_tb] at h
  simp at h; exact h.1
theorem pd_df_lt {a b : Nat} (i : Nat) (ha : a.testBit i = true) (hb : b.testBit i = true) : pd_df a b < a := by
  refine Nat.lt_of_le_of_ne (pd_df_le a b) fun e => ?_
  have h := pd_df_tb a b i
  rw [e, ha, hb] at h
  cases h
/-- bits with a weight -/
def pd_ws (w : Nat → Nat) (s : Nat) : Nat := pd_sm (fun v => if s.testBit v = true then w v else 0) 10
def pd_bc (s : Nat) : Nat := pd_ws (fun _ => 1) s
theorem pd_bc_le (s : Nat) : pd_bc s ≤ 10 := by
  have := pd_sm_bd (f := fun v => if s.testBit v = true then 1 else 0) (c := 1) (n := 10) (fun i _ => by
    show (if s.testBit i = true then 1 else 0) ≤ 1
    split <;> omega)
  exact this
theorem pd_ws_0 (w : Nat → Nat) : pd_ws w 0 = 0 := pd_sm_zero (fun i _ => by simp)
theorem pd_ws_bd {w : Nat → Nat} (hw : ∀ v, v < 10 → w v ≤ 9) (s : Nat) : pd_ws w s ≤ 90 := by
  have := pd_sm_bd (f := fun v => if s.testBit v = true then w v else 0) (c := 9) (n := 10) (fun i hi => by
    show (if s.testBit i = true then w i else 0) ≤ 9
    have := hw i hi
    split <;> omega)
  exact this
theorem pd_ws_mono {w : Nat → Nat} {s t : Nat} (h : ∀ i, i < 10 → s.testBit i = true → t.testBit i = true) : pd_ws w s ≤ pd_ws w t := by
  refine pd_sm_le fun i hi => ?_
  by_cases e : s.testBit i = true
  · rw [if_pos e, if_pos (h i hi e)]; exact Nat.le_refl _
  · rw [if_neg e]; exact Nat.zero_le _
/-- a set in two parts -/
theorem pd_ws_cut {w : Nat → Nat} {s p r : Nat} (h : ∀ i, i < 10 → s.testBit i = (p.testBit i || r.testBit i) ∧ ¬ (p.testBit i = true ∧ r.testBit i = true)) : pd_ws w s = pd_ws w p + pd_ws w r := by
  unfold pd_ws
  rw [← pd_sm_add]
  refine pd_sm_congr fun i hi => ?_
  obtain ⟨h1, h2⟩ := h i hi
  show (if s.testBit i = true then w i else 0) = (if p.testBit i = true then w i else 0) + (if r.testBit i = true then w i else 0)
  rw [h1]
  cases hp : p.testBit i <;> cases hr : r.testBit i <;> simp_all
theorem pd_ws_df {w : Nat → Nat} {s p : Nat} (h : ∀ i, p.testBit i = true → s.testBit i = true) : pd_ws w s = pd_ws w p + pd_ws w (pd_df s p) := by
  refine pd_ws_cut fun i _ => ?_
  rw [pd_df_tb]
  cases hp : p.testBit i with
  | false => simp
  | true => simp [h i hp]
theorem pd_ws_one {w : Nat → Nat} {k : Nat} (hk : k < 10) : pd_ws w (2 ^ k) = w k := by
  have h := pd_sm_upd (f := fun _ => 0) (g := fun v => if (2 ^ k).testBit v = true then w v else 0) (k := k) (n := 10) hk (fun i _ hne => by
    show (if (2 ^ k).testBit i = true then w i else 0) = 0
    rw [Nat.testBit_two_pow_of_ne (fun q => hne q.symm)]; simp)
  have h0 : pd_sm (fun _ => 0) 10 = 0 := pd_sm_zero (fun _ _ => rfl)
  rw [h0, if_pos Nat.testBit_two_pow_self, Nat.zero_add, Nat.add_zero] at h
  unfold pd_ws
  exact h
/-- the least bit -/
theorem pd_least {s : Nat} (h : s ≠ 0) : ∃ k, s.testBit k = true ∧ ∀ j, j < k → s.testBit j = false := by
  obtain ⟨k, hk, hj⟩ := pk_least (fun k => s.testBit k = true) (Nat.exists_testBit_of_ne_zero h)
  exact ⟨k, hk, fun j q => pd_nb (hj j q)⟩
/-- numbers by their topmost different bit -/
theorem pd_ltb {x y i : Nat} (hx : x.testBit i = false) (hy : y.testBit i = true) (h : ∀ j, i < j → x.testBit j = y.testBit j) : x < y := by
  have e : x / 2 ^ (i + 1) = y / 2 ^ (i + 1) := by
    refine Nat.eq_of_testBit_eq fun j => ?_
    rw [Nat.testBit_div_two_pow, Nat.testBit_div_two_pow]
    exact h _ (by omega)
  have hx' : x / 2 ^ i % 2 = 0 := by
    have := Nat.toNat_testBit x i
    rw [hx] at this; exact this.symm
  have hy' : y / 2 ^ i % 2 = 1 := by
    have := Nat.toNat_testBit y i
    rw [hy] at this; exact this.symm
  rw [Nat.pow_succ, ← Nat.div_div_eq_div_mul, ← Nat.div_div_eq_div_mul] at e
  have h1 : x / 2 ^ i < y / 2 ^ i := by omega
  rcases Nat.lt_or_ge x y with q | q
  · exact q
  · exact absurd (Nat.div_le_div_right (c := 2 ^ i) q) (by omega)
/-! exists, all, the greatest -/
def pd_ex (q : Nat → Bool) : Nat → Bool
  | 0 => false
  | n + 1 => pd_ex q n || q n
theorem pd_ex_iff (q : Nat → Bool) : ∀ n : Nat, pd_ex q n = true ↔ ∃ i, i < n ∧ q i = true
  | 0 => ⟨fun h => (Bool.false_ne_true h).elim, fun ⟨i, h, _⟩ => absurd h (Nat.not_lt_zero _)⟩
  | n + 1 => by
    show (pd_ex q n || q n) = true ↔ _
    rw [Bool.or_eq_true, pd_ex_iff q n]
    constructor
    · rintro (⟨i, h, hi⟩ | h)
      · exact ⟨i, by omega, hi⟩
      · exact ⟨n, by omega, h⟩
    · rintro ⟨i, h, hi⟩
      by_cases e : i = n
      · subst e; exact Or.inr hi
      · exact Or.inl ⟨i, by omega, hi⟩
def pd_al (q : Nat → Bool) : Nat → Bool
  | 0 => true
  | n + 1 => pd_al q n && q n
theorem pd_al_iff (q : Nat → Bool) : ∀ n : Nat, pd_al q n = true ↔ ∀ i, i < n → q i = true
  | 0 => ⟨fun _ i h => absurd h (Nat.not_lt_zero _), fun _ => rfl⟩
  | n + 1 => by
    show (pd_al q n && q n) = true ↔ _
    rw [Bool.and_eq_true, pd_al_iff q n]
    constructor
    · rintro ⟨h, hn⟩ i hi
      by_cases e : i = n
      · subst e; exact hn
      · exact h i (by omega)
    · intro h
      exact ⟨fun i hi => h i (by omega), h n (by omega)⟩
def pd_mx (p : Nat → Bool) (f : Nat → Nat) : Nat → Nat
  | 0 => 0
  | k + 1 => if p k = true ∧ pd_mx p f k < f k then f k else pd_mx p f k
theorem pd_mx_ge {p : Nat → Bool} {f : Nat → Nat} {k : Nat} (hp : p k = true) : ∀ {n : Nat}, k < n → f k ≤ pd_mx p f n
  | 0, h => absurd h (Nat.not_lt_zero _)
  | n + 1, h => by
    show f k ≤ (if p n = true ∧ pd_mx p f n < f n then f n else pd_mx p f n)
    by_cases e : k = n
    · subst e
      split
      · exact Nat.le_refl _
      · rename_i q
        rcases Nat.lt_or_ge (pd_mx p f k) (f k) with z | z
        · exact absurd ⟨hp, z⟩ q
        · exact z
    · have ih := pd_mx_ge (f := f) hp (n := n) (by omega)
      split
      · rename_i q; omega
      · exact ih
theorem pd_mx_at (p : Nat → Bool) (f : Nat → Nat) : ∀ n : Nat, pd_mx p f n = 0 ∨ ∃ k, k < n ∧ p k = true ∧ f k = pd_mx p f n
  | 0 => Or.inl rfl
  | n + 1 => by
    show (if p n = true ∧ pd_mx p f n < f n then f n else pd_mx p f n) = 0 ∨ ∃ k, k < n + 1 ∧ p k = true ∧ f k = (if p n = true ∧ pd_mx p f n < f n then f n else pd_mx p f n)
    split
    · rename_i q
      exact Or.inr ⟨n, by omega, q.1, rfl⟩
    · rcases pd_mx_at p f n with h | ⟨k, h1, h2, h3⟩
      · exact Or.inl h
      · exact Or.inr ⟨k, by omega, h2, h3⟩
theorem pd_mx_eq {p : Nat → Bool} {f : Nat → Nat} {n m : Nat} (hu : ∀ k, k < n → p k = true → f k ≤ m) (ha : m = 0 ∨ ∃ k, k < n ∧ p k = true ∧ m ≤ f k) : pd_mx p f n = m := by
  apply Nat.le_antisymm
  · rcases pd_mx_at p f n with h | ⟨k, h1, h2, h3⟩
    · omega
    · rw [← h3]; exact hu k h1 h2
  · rcases ha with h | ⟨k, h1, h2, h3⟩
    · omega
    · exact Nat.le_trans h3 (pd_mx_ge h2 h1)
theorem pd_mx_congr {p q : Nat → Bool} {f g : Nat → Nat} : ∀ {n : Nat}, (∀ k, k < n → p k = q k ∧ f k = g k) → pd_mx p f n = pd_mx q g n
  | 0, _ => rfl
  | n + 1, h => by
    show (if p n = true ∧ pd_mx p f n < f n then f n else pd_mx p f n) = (if q n = true ∧ pd_mx q g n < g n then g n else pd_mx q g n)
    rw [pd_mx_congr (n := n) (fun k hk => h k (by omega)), (h n (by omega)).1, (h n (by omega)).2]
end
section
/-! PURE 2: flows, covers, antichains -/
def pd_arc (T : Nat → Nat) (S u w : Nat) : Prop := S.testBit u = true ∧ S.testBit w = true ∧ (T u).testBit w = true
def pd_fl (T : Nat → Nat) (S : Nat) (c : Nat → Nat) (F : Nat → Nat → Nat) : Prop :=
  (∀ u, u < 10 → ∀ w, w < 10 → 0 < F u w → pd_arc T S u w) ∧ (∀ u, u < 10 → pd_sm (fun w => F u w) 10 ≤ c u) ∧ ∀ w, w < 10 → pd_sm (fun u => F u w) 10 ≤ c w
def pd_to (F : Nat → Nat → Nat) : Nat := pd_sm (fun u => pd_sm (fun w => F u w) 10) 10
def pd_cv (T : Nat → Nat) (S : Nat) (L R : Nat → Bool) : Prop := ∀ u, u < 10 → ∀ w, w < 10 → pd_arc T S u w → L u = true → R w = true
def pd_co (c : Nat → Nat) (L R : Nat → Bool) : Nat := pd_sm (fun u => if L u = true then 0 else c u) 10 + pd_sm (fun w => if R w = true then c w else 0) 10
theorem pd_weak {T : Nat → Nat} {S : Nat} {c : Nat → Nat} {F : Nat → Nat → Nat} {L R : Nat → Bool} (hF : pd_fl T S c F) (hC : pd_cv T S L R) : pd_to F ≤ pd_co c L R := by
  have h1 : pd_to F ≤ pd_sm (fun u => pd_sm (fun w => (if L u = true then 0 else F u w) + (if R w = true then F u w else 0)) 10) 10 := by
    refine pd_sm_le fun u hu => pd_sm_le fun w hw => ?_
    show F u w ≤ (if L u = true then 0 else F u w) + (if R w = true then F u w else 0)
    by_cases h0 : 0 < F u w
    · by_cases hl : L u = true
      · rw [if_pos (hC u hu w hw (hF.1 u hu w hw h0) hl)]; omega
      · rw [if_neg hl]; omega
    · have : F u w = 0 := by omega
      rw [this]; exact Nat.zero_le _
  have h2 : pd_sm (fun u => pd_sm (fun w => (if L u = true then 0 else F u w) + (if R w = true then F u w else 0)) 10) 10 = pd_sm (fun u => (if L u = true then 0 else pd_sm (fun w => F u w) 10) + pd_sm (fun w => if R w = true then F u w else 0) 10) 10 := by
    refine pd_sm_congr fun u _ => ?_
    show pd_sm (fun w => (if L u = true then 0 else F u w) + (if R w = true then F u w else 0)) 10 = _
    rw [pd_sm_add (fun w => if L u = true then 0 else F u w) (fun w => if R w = true then F u w else 0)]
    congr 1
    by_cases hl : L u = true
    · rw [if_pos hl]
      exact pd_sm_zero fun w _ => by show (if L u = true then 0 else F u w) = 0; rw [if_pos hl]
    · rw [if_neg hl]
      exact pd_sm_congr fun w _ => by show (if L u = true then 0 else F u w) = F u w; rw [if_neg hl]
  have h3 : pd_sm (fun u => (if L u = true then 0 else pd_sm (fun w => F u w) 10)) 10 ≤ pd_sm (fun u => if L u = true then 0 else c u) 10 := by
    refine pd_sm_le fun u hu => ?_
    show (if L u = true then 0 else pd_sm (fun w => F u w) 10) ≤ (if L u = true then 0 else c u)
    split
    · exact Nat.le_refl _
    · exact hF.2.1 u hu
  have h4 : pd_sm (fun u => pd_sm (fun w => if R w = true then F u w else 0) 10) 10 ≤ pd_sm (fun w => if R w = true then c w else 0) 10 := by
    rw [pd_sm_swap (fun u w => if R w = true then F u w else 0) 10 10]
    refine pd_sm_le fun w hw => ?_
    show pd_sm (fun u => if R w = true then F u w else 0) 10 ≤ (if R w = true then c w else 0)
    by_cases hr : R w = true
    · rw [if_pos hr]
      refine Nat.le_trans (Nat.le_of_eq (pd_sm_congr fun u _ => ?_)) (hF.2.2 w hw)
      show (if R w = true then F u w else 0) = F u w
      rw [if_pos hr]
    · rw [if_neg hr]
      exact Nat.le_of_eq (pd_sm_zero fun u _ => by show (if R w = true then F u w else 0) = 0; rw [if_neg hr])
  rw [h2, pd_sm_add (fun u => if L u = true then 0 else pd_sm (fun w => F u w) 10) (fun u => pd_sm (fun w => if R w = true then F u w else 0) 10)] at h1
  unfold pd_co
  omega
/-- what a greatest matching or flow of n shows for itself -/
def pd_MC (T : Nat → Nat) (S : Nat) (c : Nat → Nat) (n : Nat) : Prop :=
  ∃ (F : Nat → Nat → Nat) (L R : Nat → Bool), pd_fl T S c F ∧ pd_to F = n ∧ pd_cv T S L R ∧ pd_co c L R ≤ n
theorem pd_MC_le {T : Nat → Nat} {S : Nat} {c : Nat → Nat} {n : Nat} (h : pd_MC T S c n) : n ≤ pd_sm c 10 := by
  obtain ⟨F, L, R, hF, rfl, -⟩ := h
  exact pd_sm_le fun u hu => hF.2.1 u hu
/-- what a vertex counts for within S -/
def pd_cp (w : Nat → Nat) (S : Nat) : Nat → Nat := fun v => if S.testBit v = true then w v else 0
theorem pd_cp_sm (w : Nat → Nat) (S : Nat) : pd_sm (pd_cp w S) 10 = pd_ws w S := rfl
/-- an antichain within S -/
def pd_An (U : Nat → Nat) (S A : Nat) : Prop := (∀ v, A.testBit v = true → S.testBit v = true) ∧ ∀ u v, A.testBit u = true → A.testBit v = true → (U u).testBit v = false
def pd_anB (U : Nat → Nat) (S A : Nat) : Bool := decide (pd_df A S = 0) && pd_al (fun v => !(A.testBit v && !decide (U v &&& A = 0))) 10
theorem pd_df0 {a b : Nat} : pd_df a b = 0 ↔ ∀ i, a.testBit i = true → b.testBit i = true := by
  constructor
  · intro h i hi
    have h1 := pd_df_tb a b i
    rw [h, hi] at h1
    cases hb : b.testBit i with
    | true => rfl
    | false => rw [hb] at h1; simp at h1
  · intro h
    refine Nat.eq_of_testBit_eq fun i => ?_
    rw [pd_df_tb, Nat.zero_testBit]
    cases ha : a.testBit i with
    | false => rfl
    | true => rw [h i ha]; rfl
theorem pd_and0 {a b : Nat} : a &&& b = 0 ↔ ∀ i, a.testBit i = true → b.testBit i = true → False := by
  constructor
  · intro h i ha hb
    have h1 := Nat.testBit_and a b i
    rw [h, ha, hb, Nat.zero_testBit] at h1
    cases h1
  · intro h
    refine Nat.eq_of_testBit_eq fun i => ?_
    rw [Nat.testBit_and, Nat.zero_testBit]
    cases ha : a.testBit i with
    | false => rfl
    | true =>
      cases hb : b.testBit i with
      | false => rfl
      | true => exact absurd (h i ha hb) id
theorem pd_anB_iff {U : Nat → Nat} {S A : Nat} (hA : A < 1024) : pd_anB U S A = true ↔ pd_An U S A := by
  unfold pd_anB pd_An
  rw [Bool.and_eq_true, decide_eq_true_iff, pd_df0, pd_al_iff]
  refine and_congr Iff.rfl ?_
  constructor
  · intro h u v hu hv
    have h1 := h u (pd_t10 hA hu)
    rw [hu] at h1
    have h2 : U u &&& A = 0 := by
      by_cases e : U u &&& A = 0
      · exact e
      · simp [e] at h1
    cases hb : (U u).testBit v with
    | false => rfl
    | true => exact absurd (pd_and0.mp h2 v hb hv) id
  · intro h v _
    cases hb : A.testBit v with
    | false => rfl
    | true =>
      have : U v &&& A = 0 := pd_and0.mpr fun i h1 h2 => by
        have := h v i hb h2
        rw [this] at h1; cases h1
      simp [this]
/-- an order given by its masks: edges go up, it is transitive -/
def pd_Or (U : Nat → Nat) : Prop := (∀ u, u < 10 → ∀ v, (U u).testBit v = true → u < v ∧ v < 10) ∧ ∀ u v w, u < 10 → v < 10 → (U u).testBit v = true → (U v).testBit w = true → (U u).testBit w = true
theorem pd_anti_le {U : Nat → Nat} {S : Nat} {w : Nat → Nat} {n A : Nat} (hU : pd_Or U) (hM : pd_MC U S (pd_cp w S) n) (hA1 : A < 1024) (hA : pd_An U S A) : pd_ws w A + n ≤ pd_ws w S := by
  obtain ⟨F, L0, R0, hF, rfl, -⟩ := hM
  have hDn : ∀ v, pd_ex (fun a => A.testBit a && (U a).testBit v) 10 = true ↔ ∃ a, a < 10 ∧ A.testBit a = true ∧ (U a).testBit v = true := fun v => by
    rw [pd_ex_iff]
    constructor
    · rintro ⟨i, h1, h2⟩
      rw [Bool.and_eq_true] at h2
      exact ⟨i, h1, h2.1, h2.2⟩
    · rintro ⟨i, h1, h2, h3⟩
      exact ⟨i, h1, by rw [h2, h3]; rfl⟩
  have hw := pd_weak (L := fun u => A.testBit u || pd_ex (fun a => A.testBit a && (U a).testBit u) 10) (R := fun v => pd_ex (fun a => A.testBit a && (U a).testBit v) 10) hF (by
    intro u hu v hv ha hl
    show pd_ex _ 10 = true
    rw [hDn]
    have hl : (A.testBit u || pd_ex (fun a => A.testBit a && (U a).testBit u) 10) = true := hl
    rw [Bool.or_eq_true, hDn] at hl
    rcases hl with h | ⟨a, h1, h2, h3⟩
    · exact ⟨u, hu, h, ha.2.2⟩
    · exact ⟨a, h1, h2, hU.2 a u v h1 hu h3 ha.2.2⟩)
  have hp : pd_ws w A + pd_co (pd_cp w S) (fun u => A.testBit u || pd_ex (fun a => A.testBit a && (U a).testBit u) 10) (fun v => pd_ex (fun a => A.testBit a && (U a).testBit v) 10) ≤ pd_ws w S := by
    unfold pd_co
    rw [← pd_cp_sm w S]
    unfold pd_ws
    rw [← pd_sm_add, ← pd_sm_add]
    refine pd_sm_le fun v hv => ?_
    show (if A.testBit v = true then w v else 0) + ((if (A.testBit v || pd_ex (fun a => A.testBit a && (U a).testBit v) 10) = true then 0 else pd_cp w S v) + (if pd_ex (fun a => A.testBit a && (U a).testBit v) 10 = true then pd_cp w S v else 0)) ≤ pd_cp w S v
    cases ha : A.testBit v with
    | true =>
      have hs : pd_cp w S v = w v := if_pos (hA.1 v ha)
      have hd : ¬ pd_ex (fun a => A.testBit a && (U a).testBit v) 10 = true := by
        rw [hDn]
        rintro ⟨a, h1, h2, h3⟩
        rw [hA.2 a v h2 ha] at h3; cases h3
      rw [if_neg hd, hs]; simp
    | false =>
      by_cases hd : pd_ex (fun a => A.testBit a && (U a).testBit v) 10 = true
      · rw [if_pos hd, hd]; simp
      · rw [if_neg hd, pd_nb hd]; simp
  omega
theorem pd_anti_ge {U : Nat → Nat} {S : Nat} {w : Nat → Nat} {n : Nat} (hM : pd_MC U S (pd_cp w S) n) : ∃ A, A < 1024 ∧ pd_An U S A ∧ pd_ws w S ≤ pd_ws w A + n := by
  obtain ⟨F, L, R, -, -, hC, hn⟩ := hM
  have hb : ∀ v, (pd_mk (fun v => S.testBit v && (L v && !(R v))) 10).testBit v = true ↔ v < 10 ∧ S.testBit v = true ∧ L v = true ∧ R v = false := fun v => by
    rw [pd_mk_tb]
    cases S.testBit v <;> cases L v <;> cases R v <;> simp
  refine ⟨pd_mk (fun v => S.testBit v && (L v && !(R v))) 10, pd_mk_lt _ 10, ⟨fun v hv => ((hb v).mp hv).2.1, fun u v hu hv => ?_⟩, ?_⟩
  · obtain ⟨h1, h2, h3, h4⟩ := (hb u).mp hu
    obtain ⟨g1, g2, g3, g4⟩ := (hb v).mp hv
    cases hx : (U u).testBit v with
    | false => rfl
    | true =>
      have := hC u h1 v g1 ⟨h2, g2, hx⟩ h3
      rw [g4] at this; cases this
  · refine Nat.le_trans ?_ (Nat.add_le_add_left hn _)
    unfold pd_co
    rw [← pd_cp_sm w S]
    unfold pd_ws
    rw [← pd_sm_add, ← pd_sm_add]
    refine pd_sm_le fun v hv => ?_
    show pd_cp w S v ≤ (if (pd_mk (fun v => S.testBit v && (L v && !(R v))) 10).testBit v = true then w v else 0) + ((if L v = true then 0 else pd_cp w S v) + (if R v = true then pd_cp w S v else 0))
    cases hs : S.testBit v with
    | false =>
      have : pd_cp w S v = 0 := if_neg (by rw [hs]; exact fun h => by cases h)
      rw [this]; exact Nat.zero_le _
    | true =>
      have hw : pd_cp w S v = w v := if_pos hs
      by_cases hl : L v = true
      · by_cases hr : R v = true
        · rw [if_pos hr]; omega
        · rw [if_pos ((hb v).mpr ⟨hv, hs, hl, pd_nb hr⟩), hw]; omega
      · rw [if_neg hl]; omega
/-- the heaviest antichain, as the reference takes it -/
theorem pd_heavy {U : Nat → Nat} {S : Nat} {w : Nat → Nat} {n : Nat} (hU : pd_Or U) (hM : pd_MC U S (pd_cp w S) n) : pd_mx (pd_anB U S) (pd_ws w) 1024 = pd_ws w S - n := by
  refine pd_mx_eq (fun A hA h => ?_) (Or.inr ?_)
  · have := pd_anti_le hU hM hA ((pd_anB_iff hA).mp h)
    omega
  · obtain ⟨A, h1, h2, h3⟩ := pd_anti_ge hM
    exact ⟨A, h1, (pd_anB_iff h1).mpr h2, by omega⟩
def pd_wd (U : Nat → Nat) (S : Nat) : Nat := pd_mx (pd_anB U S) pd_bc 1024
theorem pd_wd_eq {U : Nat → Nat} {S : Nat} {n : Nat} (hU : pd_Or U) (hM : pd_MC U S (pd_cp (fun _ => 1) S) n) : pd_wd U S = pd_bc S - n := pd_heavy hU hM
/-! rows and how few of them -/
def pd_la (s : Nat) : Nat → Option Nat
  | 0 => none
  | v + 1 => if s.testBit v = true then some v else pd_la s v
def pd_ok (T : Nat → Nat) (o : Option Nat) (v : Nat) : Bool := match o with
  | none => true
  | some u => (T u).testBit v
def pd_ro (T : Nat → Nat) (s : Nat) : Nat → Bool
  | 0 => true
  | v + 1 => pd_ro T s v && (!(s.testBit v) || pd_ok T (pd_la s v) v)
theorem pd_la_some {s : Nat} : ∀ {v u : Nat}, pd_la s v = some u → u < v ∧ s.testBit u = true ∧ ∀ x, u < x → x < v → s.testBit x = false
  | 0, u, h => by cases h
  | v + 1, u, h => by
    by_cases e : s.testBit v = true
    · have h1 : some v = some u := by rw [← h]; exact (if_pos e).symm
      cases h1
      exact ⟨by omega, e, fun x h1 h2 => absurd h2 (by omega)⟩
    · have h1 : pd_la s v = some u := by rw [← h]; exact (if_neg e).symm
      obtain ⟨g1, g2, g3⟩ := pd_la_some h1
      refine ⟨by omega, g2, fun x h2 h3 => ?_⟩
      by_cases q : x = v
      · subst q; exact pd_nb e
      · exact g3 x h2 (by omega)
theorem pd_la_none {s : Nat} : ∀ {v : Nat}, pd_la s v = none → ∀ x, x < v → s.testBit x = false
  | 0, _, x, hx => absurd hx (Nat.not_lt_zero _)
  | v + 1, h, x, hx => by
    by_cases e : s.testBit v = true
    · have h1 : some v = none := by rw [← h]; exact (if_pos e).symm
      cases h1
    · have h1 : pd_la s v = none := by rw [← h]; exact (if_neg e).symm
      by_cases q : x = v
      · subst q; exact pd_nb e
      · exact pd_la_none h1 x (by omega)
theorem pd_la_of {s : Nat} : ∀ {v u : Nat}, u < v → s.testBit u = true → (∀ x, u < x → x < v → s.testBit x = false) → pd_la s v = some u
  | 0, u, h, _, _ => absurd h (Nat.not_lt_zero _)
  | v + 1, u, h, hu, hx => by
    show (if s.testBit v = true then some v else pd_la s v) = some u
    by_cases q : u = v
    · subst q; rw [if_pos hu]
    · rw [if_neg (by rw [hx v (by omega) (by omega)]; exact fun h => by cases h)]
      exact pd_la_of (by omega) hu (fun x h1 h2 => hx x h1 (by omega))
theorem pd_ro_le {T : Nat → Nat} {s : Nat} : ∀ {n v : Nat}, v ≤ n → pd_ro T s n = true → pd_ro T s v = true
  | 0, v, h, hr => by
    have : v = 0 := by omega
    subst this; exact hr
  | n + 1, v, h, hr => by
    by_cases q : v = n + 1
    · subst q; exact hr
    · have hr1 : (pd_ro T s n && (!(s.testBit n) || pd_ok T (pd_la s n) n)) = true := hr
      rw [Bool.and_eq_true] at hr1
      exact pd_ro_le (by omega) hr1.1
/-- consecutive members of a row are joined -/
theorem pd_ro_at {T : Nat → Nat} {s n v u : Nat} (hr : pd_ro T s n = true) (hv : v < n) (h : s.testBit v = true) (hl : pd_la s v = some u) : (T u).testBit v = true := by
  have h1 : (pd_ro T s v && (!(s.testBit v) || pd_ok T (pd_la s v) v)) = true := pd_ro_le (show v + 1 ≤ n from hv) hr
  rw [Bool.and_eq_true, h, hl] at h1
  exact h1.2
/-- how few rows each set below k needs -/
def pd_Nd (T : Nat → Nat) (N : Nat → Nat) (k : Nat) : Prop := N 0 = 0 ∧ ∀ s, 0 < s → s < k →
  (∃ p, (∀ i, p.testBit i = true → s.testBit i = true) ∧ (∃ i, p.testBit i = true) ∧ pd_ro T p 10 = true ∧ N (pd_df s p) + 1 = N s) ∧
  ∀ p b, (∀ i, p.testBit i = true → s.testBit i = true) → s.testBit b = true → (∀ j, j < b → s.testBit j = false) → p.testBit b = true → pd_ro T p 10 = true → N s ≤ N (pd_df s p) + 1
/-- a row of k members needs k - 1 of a cover -/
theorem pd_row_cover {T : Nat → Nat} {S p : Nat} {L R : Nat → Bool} (hC : pd_cv T S L R) (hp : ∀ i, p.testBit i = true → S.testBit i = true) (hr : pd_ro T p 10 = true) : ∀ v, v ≤ 10 →
    pd_sm (fun i => if p.testBit i = true then 1 else 0) v + (match pd_la p v with | none => 0 | some u => if L u = true then 0 else 1) ≤ (if pd_la p v = none then 0 else 1) + (pd_sm (fun i => if p.testBit i = true then (if L i = true then 0 else 1) else 0) v + pd_sm (fun i => if p.testBit i = true then (if R i = true then 1 else 0) else 0) v)
  | 0, _ => by simp [pd_sm, pd_la]
  | v + 1, hv => by
    have ih := pd_row_cover hC hp hr v (by omega)
    simp only [pd_sm_s]
    have hla : pd_la p (v + 1) = (if p.testBit v = true then some v else pd_la p v) := rfl
    rw [hla]
    by_cases e : p.testBit v = true
    · simp only [if_pos e]
      cases hl : pd_la p v with
      | none =>
        rw [hl] at ih
        simp at ih ⊢
        omega
      | some u =>
        rw [hl] at ih
        have ha := pd_ro_at hr (by omega) e hl
        obtain ⟨g1, g2, -⟩ := pd_la_some hl
        have hc := hC u (by omega) v (by omega) ⟨hp u g2, hp v e, ha⟩
        by_cases hL : L u = true
        · have hR := hc hL
          simp [hL] at ih
          simp [hR]
          omega
        · simp [hL] at ih
          simp
          omega
    · simp only [if_neg e]
      simpa using ih
theorem pd_few_ge {T : Nat → Nat} {S : Nat} {L R : Nat → Bool} {N : Nat → Nat} (hN : pd_Nd T N 1024) (hC : pd_cv T S L R) : ∀ (s : Nat), s < 1024 → (∀ i, s.testBit i = true → S.testBit i = true) →
    pd_bc s ≤ N s + (pd_ws (fun i => if L i = true then 0 else 1) s + pd_ws (fun i => if R i = true then 1 else 0) s) := by
  intro s
  induction s using Nat.strongRecOn with
  | _ s ih =>
    intro hs hsub
    by_cases h0 : s = 0
    · subst h0
      rw [show pd_bc 0 = 0 from pd_ws_0 _]; exact Nat.zero_le _
    · obtain ⟨⟨p, hp, ⟨i, hi⟩, hr, he⟩, -⟩ := hN.2 s (by omega) hs
      have hlt : pd_df s p < s := pd_df_lt i (hp i hi) hi
      have h1 := ih (pd_df s p) hlt (by omega) (fun j hj => hsub j (by
        rw [pd_df_tb, Bool.and_eq_true] at hj; exact hj.1))
      have h2 := pd_row_cover hC (fun j hj => hsub j (hp j hj)) hr 10 (Nat.le_refl _)
      have e1 : pd_bc s = pd_bc p + pd_bc (pd_df s p) := pd_ws_df hp
      have e2 := pd_ws_df (w := fun i => if L i = true then 0 else 1) hp
      have e3 := pd_ws_df (w := fun i => if R i = true then 1 else 0) hp
      have h3 : pd_bc p ≤ 1 + (pd_ws (fun i => if L i = true then 0 else 1) p + pd_ws (fun i => if R i = true then 1 else 0) p) := by
        unfold pd_bc pd_ws
        refine Nat.le_trans (Nat.le_add_right _ _) (Nat.le_trans h2 ?_)
        refine Nat.add_le_add_right ?_ _
        split <;> omega
      omega
end
section
/-! PURE 3: rows out of a matching; the best chain -/
theorem pd_sm_two {f : Nat → Nat} {j k n : Nat} (hj : j < n) (hk : k < n) (hne : j ≠ k) : f j + f k ≤ pd_sm f n := by
  have h := pd_sm_upd (f := f) (g := pd_st f k 0) (k := k) hk (fun i _ hi => pd_st_n hi)
  have h1 := pd_sm_ge (f := pd_st f k 0) hj
  rw [pd_st_n hne] at h1
  rw [pd_st_s] at h
  omega
theorem pd_ro_iff {T : Nat → Nat} {s : Nat} : ∀ n : Nat, pd_ro T s n = true ↔ ∀ v u, v < n → s.testBit v = true → pd_la s v = some u → (T u).testBit v = true
  | 0 => ⟨fun _ v u h => absurd h (Nat.not_lt_zero _), fun _ => rfl⟩
  | n + 1 => by
    constructor
    · intro h v u hv hb hl
      exact pd_ro_at h hv hb hl
    · intro h
      show (pd_ro T s n && (!(s.testBit n) || pd_ok T (pd_la s n) n)) = true
      rw [Bool.and_eq_true]
      refine ⟨(pd_ro_iff n).mpr (fun v u hv => h v u (by omega)), ?_⟩
      cases hb : s.testBit n with
      | false => rfl
      | true =>
        cases hl : pd_la s n with
        | none => rfl
        | some u => exact h n u (by omega) hb hl
/-- the path from x along F -/
def pd_pt (F : Nat → Nat → Nat) (x : Nat) : Nat → Nat
  | 0 => 0
  | v + 1 => if (decide (v = x) || pd_ex (fun u => (pd_pt F x v).testBit u && decide (0 < F u v)) v) = true then pd_pt F x v ||| 2 ^ v else pd_pt F x v
theorem pd_pt_hi (F : Nat → Nat → Nat) (x : Nat) : ∀ (v i : Nat), v ≤ i → (pd_pt F x v).testBit i = false
  | 0, i, _ => Nat.zero_testBit i
  | v + 1, i, h => by
    show (if _ then pd_pt F x v ||| 2 ^ v else pd_pt F x v).testBit i = false
    split
    · rw [Nat.testBit_or, pd_pt_hi F x v i (by omega), Nat.testBit_two_pow_of_ne (by omega)]; rfl
    · exact pd_pt_hi F x v i (by omega)
theorem pd_pt_lo (F : Nat → Nat → Nat) (x : Nat) : ∀ (n v i : Nat), i < v → (pd_pt F x (v + n)).testBit i = (pd_pt F x v).testBit i
  | 0, v, i, _ => rfl
  | n + 1, v, i, h => by
    rw [← pd_pt_lo F x n v i h]
    show (if _ then pd_pt F x (v + n) ||| 2 ^ (v + n) else pd_pt F x (v + n)).testBit i = _
    split
    · rw [Nat.testBit_or, Nat.testBit_two_pow_of_ne (by omega), Bool.or_false]
    · rfl
theorem pd_pt_iff (F : Nat → Nat → Nat) (x : Nat) {i : Nat} (hi : i < 10) : (pd_pt F x 10).testBit i = true ↔ i = x ∨ ∃ u, u < i ∧ (pd_pt F x 10).testBit u = true ∧ 0 < F u i := by
  have e1 : (pd_pt F x 10).testBit i = (pd_pt F x (i + 1)).testBit i := by
    have := pd_pt_lo F x (9 - i) (i + 1) i (by omega)
    rwa [show i + 1 + (9 - i) = 10 by omega] at this
  have e2 : (pd_pt F x (i + 1)).testBit i = (decide (i = x) || pd_ex (fun u => (pd_pt F x i).testBit u && decide (0 < F u i)) i) := by
    show (if _ then pd_pt F x i ||| 2 ^ i else pd_pt F x i).testBit i = _
    split
    · rename_i h
      rw [h, Nat.testBit_or, Nat.testBit_two_pow_self, Bool.or_true]
    · rename_i h
      rw [pd_nb h, pd_pt_hi F x i i (Nat.le_refl _)]
  have e3 : ∀ u, u < i → (pd_pt F x i).testBit u = (pd_pt F x 10).testBit u := fun u hu => by
    have := pd_pt_lo F x (10 - i) i u hu
    rw [show i + (10 - i) = 10 by omega] at this
    exact this.symm
  rw [e1, e2, Bool.or_eq_true, decide_eq_true_iff, pd_ex_iff]
  refine or_congr Iff.rfl ?_
  constructor
  · rintro ⟨u, h1, h2⟩
    rw [Bool.and_eq_true, decide_eq_true_iff, e3 u h1] at h2
    exact ⟨u, h1, h2.1, h2.2⟩
  · rintro ⟨u, h1, h2, h3⟩
    exact ⟨u, h1, by rw [Bool.and_eq_true, decide_eq_true_iff, e3 u h1]; exact ⟨h2, h3⟩⟩
theorem pd_pt_lt (F : Nat → Nat → Nat) (x : Nat) : pd_pt F x 10 < 1024 := Nat.lt_pow_two_of_testBit (n := 10) _ fun i hi => pd_pt_hi F x 10 i hi
theorem pd_few_le {T : Nat → Nat} {S : Nat} {N : Nat → Nat} {F : Nat → Nat → Nat} (hN : pd_Nd T N 1024) (hF : pd_fl T S (pd_cp (fun _ => 1) S) F) (hT : ∀ u, u < 10 → ∀ v, (T u).testBit v = true → u < v ∧ v < 10) : ∀ (s : Nat), s < 1024 →
    (∀ u, u < 10 → ∀ w, w < 10 → 0 < F u w → (s.testBit u = true ↔ s.testBit w = true)) → N s + pd_ws (fun u => pd_sm (fun w => F u w) 10) s ≤ pd_bc s := by
  have cap : ∀ v, pd_cp (fun _ => 1) S v ≤ 1 := fun v => by unfold pd_cp; split <;> simp
  have rowu : ∀ u, u < 10 → ∀ w w', w < 10 → w' < 10 → 0 < F u w → 0 < F u w' → w = w' := fun u hu w w' hw hw' h1 h2 => by
    by_cases e : w = w'
    · exact e
    · have h3 := pd_sm_two (f := fun w => F u w) hw hw' e
      have h4 := hF.2.1 u hu
      have h5 := cap u
      have h6 : F u w + F u w' ≤ pd_sm (fun w => F u w) 10 := h3
      omega
  have colu : ∀ w, w < 10 → ∀ u u', u < 10 → u' < 10 → 0 < F u w → 0 < F u' w → u = u' := fun w hw u u' hu hu' h1 h2 => by
    by_cases e : u = u'
    · exact e
    · have h3 := pd_sm_two (f := fun u => F u w) hu hu' e
      have h4 := hF.2.2 w hw
      have h5 := cap w
      have h6 : F u w + F u' w ≤ pd_sm (fun u => F u w) 10 := h3
      omega
  have up : ∀ u, u < 10 → ∀ w, w < 10 → 0 < F u w → u < w := fun u hu w hw h => (hT u hu w (hF.1 u hu w hw h).2.2).1
  intro s
  induction s using Nat.strongRecOn with
  | _ s ih =>
    intro hs hcl
    by_cases h0 : s = 0
    · subst h0
      rw [hN.1, pd_ws_0]; exact Nat.zero_le _
    · obtain ⟨x, hx, hlow⟩ := pd_least h0
      have hx10 : x < 10 := pd_t10 hs hx
      obtain ⟨p, hplt, hpiff⟩ : ∃ p, p < 1024 ∧ ∀ i, i < 10 → (p.testBit i = true ↔ i = x ∨ ∃ u, u < i ∧ p.testBit u = true ∧ 0 < F u i) := ⟨pd_pt F x 10, pd_pt_lt F x, fun i hi => pd_pt_iff F x hi⟩
      have p10 : ∀ i, p.testBit i = true → i < 10 := fun i h => pd_t10 hplt h
      have pge : ∀ i, p.testBit i = true → x ≤ i := by
        intro i
        induction i using Nat.strongRecOn with
        | _ i ihi =>
          intro h
          rcases (hpiff _ (p10 i h)).mp h with e | ⟨u, h1, h2, -⟩
          · omega
          · have := ihi u h1 h2; omega
      have psub : ∀ i, p.testBit i = true → s.testBit i = true := by
        intro i
        induction i using Nat.strongRecOn with
        | _ i ihi =>
          intro h
          rcases (hpiff _ (p10 i h)).mp h with e | ⟨u, h1, h2, h3⟩
          · rw [e]; exact hx
          · exact (hcl u (p10 u h2) i (p10 i h) h3).mp (ihi u h1 h2)
      have px : p.testBit x = true := (hpiff _ hx10).mpr (Or.inl rfl)
      have pfw : ∀ u w, u < 10 → w < 10 → 0 < F u w → p.testBit u = true → p.testBit w = true := fun u w hu hw h hp =>
        (hpiff _ hw).mpr (Or.inr ⟨u, up u hu w hw h, hp, h⟩)
      have pbw : ∀ u w, u < 10 → w < 10 → 0 < F u w → p.testBit w = true → p.testBit u = true := fun u w hu hw h hp => by
        rcases (hpiff _ hw).mp hp with e | ⟨u', h1, h2, h3⟩
        · have h5 := (hcl u hu w hw h).mpr (psub w hp)
          have h6 := hlow u (by have := up u hu w hw h; omega)
          rw [h5] at h6; cases h6
        · rw [colu w hw u u' hu (p10 u' h2) h h3]; exact h2
      have key : ∀ v, v ≤ 10 → pd_ro T p v = true ∧ ∀ u, u < v → p.testBit u = true → pd_la p v ≠ some u → ∃ w, w < v ∧ 0 < F u w := by
        intro v
        induction v with
        | zero => exact fun _ => ⟨rfl, fun u h => absurd h (Nat.not_lt_zero _)⟩
        | succ v ihv =>
          intro hv
          obtain ⟨hr, hI⟩ := ihv (by omega)
          have hla : pd_la p (v + 1) = (if p.testBit v = true then some v else pd_la p v) := rfl
          have hro : pd_ro T p (v + 1) = (pd_ro T p v && (!(p.testBit v) || pd_ok T (pd_la p v) v)) := rfl
          by_cases e : p.testBit v = true
          · have pred : ∀ u, pd_la p v = some u → 0 < F u v := by
              intro u hl
              obtain ⟨g1, g2, g3⟩ := pd_la_some hl
              rcases (hpiff _ (by omega)).mp e with e2 | ⟨u', h1, h2, h3⟩
              · have := pge u g2; omega
              · by_cases q : u' = u
                · rw [← q]; exact h3
                · obtain ⟨w, hw1, hw2⟩ := hI u' h1 h2 (by rw [hl]; exact fun z => q (Option.some.inj z).symm)
                  have := rowu u' (by omega) w v (by omega) (by omega) hw2 h3
                  omega
            refine ⟨?_, ?_⟩
            · rw [hro, hr, e]
              cases hl : pd_la p v with
              | none => rfl
              | some u =>
                obtain ⟨g1, g2, g3⟩ := pd_la_some hl
                have := (hF.1 u (by omega) v (by omega) (pred u hl)).2.2
                show (true && (!true || (T u).testBit v)) = true
                rw [this]; rfl
            · intro u hu hp hne
              rw [hla, if_pos e] at hne
              have huv : u < v := by
                rcases Nat.lt_or_ge u v with q | q
                · exact q
                · exact absurd (by rw [show u = v by omega]) hne
              by_cases hl : pd_la p v = some u
              · exact ⟨v, by omega, pred u hl⟩
              · obtain ⟨w, hw1, hw2⟩ := hI u huv hp hl
                exact ⟨w, by omega, hw2⟩
          · refine ⟨?_, ?_⟩
            · rw [hro, hr, pd_nb e]; rfl
            · intro u hu hp hne
              rw [hla, if_neg e] at hne
              have huv : u ≠ v := fun q => e (by rw [← q]; exact hp)
              obtain ⟨w, hw1, hw2⟩ := hI u (by omega) hp hne
              exact ⟨w, by omega, hw2⟩
      have hr := (key 10 (Nat.le_refl _)).1
      have h1 := (hN.2 s (by omega) hs).2 p x psub hx hlow px hr
      have h2 := ih (pd_df s p) (pd_df_lt x hx px) (by have := pd_df_le s p; omega) (fun u hu w hw h => by
        rw [pd_df_tb, pd_df_tb]
        have a1 := hcl u hu w hw h
        have a2 := pfw u w hu hw h
        have a3 := pbw u w hu hw h
        rw [Bool.eq_iff_iff.mpr a1, Bool.eq_iff_iff.mpr ⟨a2, a3⟩])
      have e1 : pd_bc s = pd_bc p + pd_bc (pd_df s p) := pd_ws_df psub
      have e2 := pd_ws_df (w := fun u => pd_sm (fun w => F u w) 10) psub
      have h3 : pd_ws (fun u => pd_sm (fun w => F u w) 10) p + 1 ≤ pd_bc p := by
        cases hl : pd_la p 10 with
        | none =>
          have := pd_la_none hl x hx10
          rw [px] at this; cases this
        | some m =>
          obtain ⟨g1, g2, g3⟩ := pd_la_some hl
          have hz : pd_sm (fun w => F m w) 10 = 0 := by
            refine pd_sm_zero fun w hw => ?_
            rcases Nat.eq_zero_or_pos (F m w) with q | q
            · exact q
            · have a1 := pfw m w g1 hw q g2
              rw [g3 w (up m g1 w hw q) hw] at a1; cases a1
          have hone : pd_sm (fun u => if u = m then 1 else 0) 10 = 1 := by
            have := pd_sm_upd (f := fun _ => 0) (g := fun u => if u = m then 1 else 0) (k := m) (n := 10) g1 (fun i _ hi => if_neg hi)
            rw [show pd_sm (fun _ => 0) 10 = 0 from rfl, if_pos rfl] at this
            omega
          rw [← hone]
          unfold pd_ws pd_bc pd_ws
          rw [← pd_sm_add]
          refine pd_sm_le fun u hu => ?_
          show (if p.testBit u = true then pd_sm (fun w => F u w) 10 else 0) + (if u = m then 1 else 0) ≤ (if p.testBit u = true then 1 else 0)
          by_cases q : u = m
          · subst q
            rw [if_pos g2, if_pos g2, if_pos rfl, hz]
            exact Nat.le_refl _
          · rw [if_neg q]
            have a1 := hF.2.1 u hu
            have a2 := cap u
            split <;> omega
      omega
theorem pd_few_eq {T : Nat → Nat} {S n : Nat} {N : Nat → Nat} (hN : pd_Nd T N 1024) (hS : S < 1024) (hT : ∀ u, u < 10 → ∀ v, (T u).testBit v = true → u < v ∧ v < 10) (hM : pd_MC T S (pd_cp (fun _ => 1) S) n) : N S = pd_bc S - n := by
  obtain ⟨F, L, R, hF, hn, hC, hc⟩ := hM
  have h1 := pd_few_ge hN hC S hS (fun _ h => h)
  have h2 := pd_few_le hN hF hT S hS (fun u hu w hw h => by
    have := hF.1 u hu w hw h
    rw [this.1, this.2.1])
  have h3 : pd_ws (fun u => pd_sm (fun w => F u w) 10) S = n := by
    rw [← hn]
    refine pd_sm_congr fun u hu => ?_
    show (if S.testBit u = true then pd_sm (fun w => F u w) 10 else 0) = pd_sm (fun w => F u w) 10
    by_cases e : S.testBit u = true
    · rw [if_pos e]
    · rw [if_neg e]
      have := hF.2.1 u hu
      have h0 : pd_cp (fun _ => 1) S u = 0 := if_neg e
      omega
  have h4 : pd_co (pd_cp (fun _ => 1) S) L R = pd_ws (fun i => if L i = true then 0 else 1) S + pd_ws (fun i => if R i = true then 1 else 0) S := by
    unfold pd_co pd_ws pd_cp
    congr 1
    · refine pd_sm_congr fun u _ => ?_
      show (if L u = true then 0 else if S.testBit u = true then 1 else 0) = (if S.testBit u = true then (if L u = true then 0 else 1) else 0)
      cases L u <;> cases S.testBit u <;> rfl
    · refine pd_sm_congr fun u _ => ?_
      show (if R u = true then (if S.testBit u = true then 1 else 0) else 0) = (if S.testBit u = true then (if R u = true then 1 else 0) else 0)
      cases R u <;> cases S.testBit u <;> rfl
  omega
/-! the best chain -/
theorem pd_tw {v i : Nat} : (2 ^ v).testBit i = true ↔ v = i := by
  rw [Nat.testBit_two_pow, decide_eq_true_iff]
section PDBEST
variable {U : Nat → Nat} {on : Nat} {wt q : Nat → Nat} {best : Nat}
theorem pd_best_le (hq : ∀ v, v < 10 → q v = pd_mx (fun w => decide (v < w) && (U v &&& on).testBit w) q 10 + wt v) : ∀ (s v : Nat), s < 1024 → s.testBit v = true → (∀ j, j < v → s.testBit j = false) → pd_ro U s 10 = true → (∀ i, s.testBit i = true → i ≠ v → on.testBit i = true) → pd_ws wt s ≤ q v := by
  intro s
  induction s using Nat.strongRecOn with
  | _ s ih =>
    intro v hs hv hlow hr hon
    have hv10 := pd_t10 hs hv
    have e1 : pd_ws wt s = pd_ws wt (2 ^ v) + pd_ws wt (pd_df s (2 ^ v)) := pd_ws_df fun i hi => by rw [← pd_tw.mp hi]; exact hv
    rw [pd_ws_one hv10] at e1
    rw [hq v hv10]
    have tb : ∀ i, (pd_df s (2 ^ v)).testBit i = true ↔ s.testBit i = true ∧ i ≠ v := fun i => by
      rw [pd_df_tb, Nat.testBit_two_pow]
      by_cases z : v = i
      · simp [z]
      · simp [z]; exact fun _ h => z h.symm
    by_cases h0 : pd_df s (2 ^ v) = 0
    · rw [h0, pd_ws_0] at e1; omega
    · obtain ⟨w, hw, hwlow⟩ := pd_least h0
      obtain ⟨hw1, hw2⟩ := (tb w).mp hw
      have hvw : v < w := by
        rcases Nat.lt_trichotomy v w with z | z | z
        · exact z
        · exact absurd z.symm hw2
        · rw [hlow w z] at hw1; cases hw1
      have hw10 := pd_t10 hs hw1
      have hla : pd_la s w = some v := pd_la_of hvw hv fun x h1 h2 => by
        have h3 := hwlow x h2
        cases hb : s.testBit x with
        | false => rfl
        | true => rw [(tb x).mpr ⟨hb, by omega⟩] at h3; cases h3
      have hU := pd_ro_at hr hw10 hw1 hla
      have hs' : pd_df s (2 ^ v) < s := pd_df_lt v hv Nat.testBit_two_pow_self
      have h1 := ih (pd_df s (2 ^ v)) hs' w (by omega) hw hwlow ((pd_ro_iff 10).mpr fun x u hx hb hl => by
        obtain ⟨g1, g2, g3⟩ := pd_la_some hl
        obtain ⟨a1, a2⟩ := (tb u).mp g2
        have hvu : v < u := by
          rcases Nat.lt_trichotomy v u with z | z | z
          · exact z
          · exact absurd z.symm a2
          · rw [hlow u z] at a1; cases a1
        refine pd_ro_at hr hx ((tb x).mp hb).1 (pd_la_of g1 a1 fun y h1 h2 => ?_)
        cases hb2 : s.testBit y with
        | false => rfl
        | true =>
          have h3 := g3 y h1 h2
          rw [(tb y).mpr ⟨hb2, by omega⟩] at h3; cases h3) (fun i hi hne => hon i ((tb i).mp hi).1 ((tb i).mp hi).2)
      have h2 := pd_mx_ge (p := fun w => decide (v < w) && (U v &&& on).testBit w) (f := q) (k := w) (by
        show (decide (v < w) && (U v &&& on).testBit w) = true
        rw [Nat.testBit_and, hU, hon w hw1 hw2, decide_eq_true hvw]; rfl) hw10
      omega
theorem pd_best_ex (hq : ∀ v, v < 10 → q v = pd_mx (fun w => decide (v < w) && (U v &&& on).testBit w) q 10 + wt v) : ∀ (k v : Nat), v < 10 → 10 - v ≤ k → ∃ s, s < 1024 ∧ s.testBit v = true ∧ (∀ j, j < v → s.testBit j = false) ∧ pd_ro U s 10 = true ∧ (∀ i, s.testBit i = true → i ≠ v → on.testBit i = true) ∧ pd_ws wt s = q v := by
  intro k
  induction k with
  | zero => intro v h1 h2; exact absurd h2 (by omega)
  | succ k ih =>
    intro v hv hk
    have hone : (2 : Nat) ^ v < 1024 := Nat.pow_lt_pow_right (by decide) hv
    rcases pd_mx_at (fun w => decide (v < w) && (U v &&& on).testBit w) q 10 with h | ⟨w, hw, hp, hm⟩
    · refine ⟨2 ^ v, hone, Nat.testBit_two_pow_self, fun j hj => Nat.testBit_two_pow_of_ne (by omega), (pd_ro_iff 10).mpr fun x u hx hb hl => ?_, fun i hi hne => absurd (pd_tw.mp hi).symm hne, ?_⟩
      · obtain ⟨g1, g2, -⟩ := pd_la_some hl
        have := pd_tw.mp hb
        have := pd_tw.mp g2
        omega
      · rw [pd_ws_one hv, hq v hv, h]; omega
    · have hp : (decide (v < w) && (U v &&& on).testBit w) = true := hp
      rw [Bool.and_eq_true, decide_eq_true_iff, Nat.testBit_and, Bool.and_eq_true] at hp
      obtain ⟨hvw, hU, hon⟩ := hp
      obtain ⟨s, hs, hsw, hlow, hr, hson, hws⟩ := ih w hw (by omega)
      have hsv : s.testBit v = false := hlow v hvw
      have tb : ∀ i, (s ||| 2 ^ v).testBit i = true ↔ s.testBit i = true ∨ v = i := fun i => by
        rw [Nat.testBit_or, Bool.or_eq_true, pd_tw]
      refine ⟨s ||| 2 ^ v, Nat.or_lt_two_pow (n := 10) hs hone, (tb v).mpr (Or.inr rfl), fun j hj => ?_, (pd_ro_iff 10).mpr fun x u hx hb hl => ?_, fun i hi hne => ?_, ?_⟩
      · cases hb : (s ||| 2 ^ v).testBit j with
        | false => rfl
        | true =>
          rcases (tb j).mp hb with z | z
          · rw [hlow j (by omega)] at z; cases z
          · omega
      · obtain ⟨g1, g2, g3⟩ := pd_la_some hl
        rcases (tb u).mp g2 with zu | zu
        · rcases (tb x).mp hb with zx | zx
          · refine pd_ro_at hr hx zx (pd_la_of g1 zu fun y h1 h2 => ?_)
            have h3 := g3 y h1 h2
            cases hb2 : s.testBit y with
            | false => rfl
            | true => rw [(tb y).mpr (Or.inl hb2)] at h3; cases h3
          · rw [hlow u (by omega)] at zu; cases zu
        · rcases (tb x).mp hb with zx | zx
          · have hxw : x = w := by
              rcases Nat.lt_trichotomy x w with z | z | z
              · rw [hlow x z] at zx; cases zx
              · exact z
              · have h3 := g3 w (by omega) z
                rw [(tb w).mpr (Or.inl hsw)] at h3; cases h3
            rw [hxw, ← zu]; exact hU
          · omega
      · rcases (tb i).mp hi with z | z
        · by_cases e : i = w
          · rw [e]; exact hon
          · exact hson i z e
        · exact absurd z.symm hne
      · rw [pd_ws_cut (p := 2 ^ v) (r := s) (fun i _ => ⟨by rw [Nat.testBit_or, Bool.or_comm], fun ⟨h1, h2⟩ => by
          rw [← pd_tw.mp h1, hsv] at h2; cases h2⟩), pd_ws_one hv, hq v hv, hws, ← hm]
        omega
theorem pd_best (hon : on < 1024) (hq : ∀ v, v < 10 → q v = pd_mx (fun w => decide (v < w) && (U v &&& on).testBit w) q 10 + wt v) (h1 : ∀ v, v < 10 → on.testBit v = true → q v ≤ best) (h2 : best = 0 ∨ ∃ v, v < 10 ∧ on.testBit v = true ∧ q v = best) : pd_mx (fun s => decide (pd_df s on = 0) && pd_ro U s 10) (pd_ws wt) 1024 = best := by
  refine pd_mx_eq (fun s hs hp => ?_) ?_
  · have hp : (decide (pd_df s on = 0) && pd_ro U s 10) = true := hp
    rw [Bool.and_eq_true, decide_eq_true_iff, pd_df0] at hp
    by_cases h0 : s = 0
    · rw [h0, pd_ws_0]; exact Nat.zero_le _
    · obtain ⟨v, hv, hlow⟩ := pd_least h0
      exact Nat.le_trans (pd_best_le hq s v hs hv hlow hp.2 (fun i hi _ => hp.1 i hi)) (h1 v (pd_t10 hs hv) (hp.1 v hv))
  · rcases h2 with h | ⟨v, hv, hb, he⟩
    · exact Or.inl h
    · obtain ⟨s, a1, a2, a3, a4, a5, a6⟩ := pd_best_ex hq 10 v hv (by omega)
      refine Or.inr ⟨s, a1, ?_, by omega⟩
      show (decide (pd_df s on = 0) && pd_ro U s 10) = true
      rw [Bool.and_eq_true, decide_eq_true_iff, pd_df0]
      refine ⟨fun i hi => ?_, a4⟩
      by_cases e : i = v
      · rw [e]; exact hb
      · exact a5 i hi e
end PDBEST
end
section
/-! PURE 4: what is above; related; counting antichains; the least antichain; submasks -/
def pd_ac (e T : Nat → Nat) (v : Nat) : Nat → Nat
  | 0 => e v
  | j + 1 => if v < j ∧ (e v).testBit j = true then pd_ac e T v j ||| T j else pd_ac e T v j
def pd_uk (e : Nat → Nat) : Nat → Nat → Nat
  | 0 => fun _ => 0
  | k + 1 => fun v => if v = 9 - k then pd_ac e (pd_uk e k) v 10 else pd_uk e k v
def pd_up (e : Nat → Nat) : Nat → Nat := pd_uk e 10
theorem pd_ac_congr {e T T' : Nat → Nat} {v : Nat} : ∀ {n : Nat}, n ≤ 10 → (∀ x, v < x → x < 10 → T x = T' x) → pd_ac e T v n = pd_ac e T' v n
  | 0, _, _ => rfl
  | n + 1, hn, h => by
    show (if v < n ∧ (e v).testBit n = true then pd_ac e T v n ||| T n else pd_ac e T v n) = (if v < n ∧ (e v).testBit n = true then pd_ac e T' v n ||| T' n else pd_ac e T' v n)
    rw [pd_ac_congr (n := n) (by omega) h]
    by_cases q : v < n ∧ (e v).testBit n = true
    · rw [if_pos q, if_pos q, h n q.1 (by omega)]
    · rw [if_neg q, if_neg q]
/-- the first steps of the loop from v + 1 on do nothing -/
theorem pd_ac_lo {e T : Nat → Nat} {v : Nat} : ∀ {n : Nat}, n ≤ v + 1 → pd_ac e T v n = e v
  | 0, _ => rfl
  | n + 1, h => by
    show (if v < n ∧ (e v).testBit n = true then pd_ac e T v n ||| T n else pd_ac e T v n) = e v
    rw [if_neg (fun q => absurd q.1 (by omega))]
    exact pd_ac_lo (by omega)
theorem pd_ac_s {e T : Nat → Nat} {v j : Nat} (h : v < j) (hb : (e v).testBit j = true) : pd_ac e T v (j + 1) = pd_ac e T v j ||| T j := if_pos ⟨h, hb⟩
theorem pd_ac_n {e T : Nat → Nat} {v j : Nat} (hb : ¬ (e v).testBit j = true) : pd_ac e T v (j + 1) = pd_ac e T v j := if_neg (fun q => hb q.2)
theorem pd_uk_st {e : Nat → Nat} {v k : Nat} (hk : 10 - k ≤ v) : ∀ m : Nat, k + m ≤ 10 → pd_uk e (k + m) v = pd_uk e k v
  | 0, _ => rfl
  | m + 1, h => by
    show (if v = 9 - (k + m) then pd_ac e (pd_uk e (k + m)) v 10 else pd_uk e (k + m) v) = _
    rw [if_neg (by omega)]
    exact pd_uk_st hk m (by omega)
theorem pd_up_eq {e : Nat → Nat} {v : Nat} (hv : v < 10) : pd_up e v = pd_ac e (pd_up e) v 10 := by
  have h1 := pd_uk_st (e := e) (v := v) (k := (9 - v) + 1) (by omega) v (by omega)
  rw [show (9 - v) + 1 + v = 10 by omega] at h1
  have h2 : pd_uk e ((9 - v) + 1) v = pd_ac e (pd_uk e (9 - v)) v 10 := by
    show (if v = 9 - (9 - v) then pd_ac e (pd_uk e (9 - v)) v 10 else pd_uk e (9 - v) v) = _
    rw [if_pos (by omega)]
  show pd_uk e 10 v = _
  rw [h1, h2]
  refine pd_ac_congr (Nat.le_refl _) fun x hx hx10 => ?_
  have h3 := pd_uk_st (e := e) (v := x) (k := 9 - v) (by omega) (v + 1) (by omega)
  rw [show 9 - v + (v + 1) = 10 by omega] at h3
  exact h3.symm
theorem pd_ac_tb {e T : Nat → Nat} {v w : Nat} : ∀ n : Nat, (pd_ac e T v n).testBit w = true ↔ (e v).testBit w = true ∨ ∃ x, v < x ∧ x < n ∧ (e v).testBit x = true ∧ (T x).testBit w = true
  | 0 => ⟨Or.inl, fun h => h.elim id fun ⟨x, _, hx, _⟩ => absurd hx (Nat.not_lt_zero _)⟩
  | n + 1 => by
    have ih := pd_ac_tb (e := e) (T := T) (v := v) (w := w) n
    by_cases q : v < n ∧ (e v).testBit n = true
    · rw [pd_ac_s q.1 q.2, Nat.testBit_or, Bool.or_eq_true, ih]
      constructor
      · rintro ((h | ⟨x, h1, h2, h3⟩) | h)
        · exact Or.inl h
        · exact Or.inr ⟨x, h1, by omega, h3⟩
        · exact Or.inr ⟨n, q.1, by omega, q.2, h⟩
      · rintro (h | ⟨x, h1, h2, h3, h4⟩)
        · exact Or.inl (Or.inl h)
        · by_cases z : x = n
          · subst z; exact Or.inr h4
          · exact Or.inl (Or.inr ⟨x, h1, by omega, h3, h4⟩)
    · have e1 : pd_ac e T v (n + 1) = pd_ac e T v n := if_neg q
      rw [e1, ih]
      constructor
      · rintro (h | ⟨x, h1, h2, h3⟩)
        · exact Or.inl h
        · exact Or.inr ⟨x, h1, by omega, h3⟩
      · rintro (h | ⟨x, h1, h2, h3, h4⟩)
        · exact Or.inl h
        · by_cases z : x = n
          · subst z; exact absurd ⟨h1, h3⟩ q
          · exact Or.inr ⟨x, h1, by omega, h3, h4⟩
/-- edges go to greater vertices -/
def pd_Ed (e : Nat → Nat) : Prop := ∀ v, v < 10 → ∀ w, (e v).testBit w = true → v < w ∧ w < 10
theorem pd_Ed_lt {e : Nat → Nat} (h : pd_Ed e) {v : Nat} (hv : v < 10) : e v < 1024 := Nat.lt_pow_two_of_testBit (n := 10) _ fun i hi => by
  cases hb : (e v).testBit i with
  | false => rfl
  | true => exact absurd (h v hv i hb).2 (by omega)
theorem pd_up_iff {e : Nat → Nat} {v w : Nat} (hv : v < 10) : (pd_up e v).testBit w = true ↔ (e v).testBit w = true ∨ ∃ x, v < x ∧ x < 10 ∧ (e v).testBit x = true ∧ (pd_up e x).testBit w = true := by
  rw [pd_up_eq hv]; exact pd_ac_tb 10
theorem pd_up_ed {e : Nat → Nat} (h : pd_Ed e) : ∀ (k v : Nat), v < 10 → 10 - v ≤ k → ∀ w, (pd_up e v).testBit w = true → v < w ∧ w < 10
  | 0, v, hv, hk => absurd hk (by omega)
  | k + 1, v, hv, hk => fun w hw => by
    rcases (pd_up_iff hv).mp hw with q | ⟨x, h1, h2, h3, h4⟩
    · exact h v hv w q
    · have := pd_up_ed h k x h2 (by omega) w h4
      omega
theorem pd_up_tr {e : Nat → Nat} (h : pd_Ed e) : ∀ (k u : Nat), u < 10 → 10 - u ≤ k → ∀ v w, v < 10 → (pd_up e u).testBit v = true → (pd_up e v).testBit w = true → (pd_up e u).testBit w = true
  | 0, u, hu, hk => absurd hk (by omega)
  | k + 1, u, hu, hk => fun v w hv h1 h2 => by
    rcases (pd_up_iff hu).mp h1 with q | ⟨x, g1, g2, g3, g4⟩
    · exact (pd_up_iff hu).mpr (Or.inr ⟨v, (h u hu v q).1, hv, q, h2⟩)
    · exact (pd_up_iff hu).mpr (Or.inr ⟨x, g1, g2, g3, pd_up_tr h k x g2 (by omega) v w hv g4 h2⟩)
theorem pd_up_or {e : Nat → Nat} (h : pd_Ed e) : pd_Or (pd_up e) := ⟨fun u hu v hv => pd_up_ed h 10 u hu (by omega) v hv, fun u v w hu hv h1 h2 => pd_up_tr h 10 u hu (by omega) v w hv h1 h2⟩
theorem pd_up_lt {e : Nat → Nat} (h : pd_Ed e) {v : Nat} (hv : v < 10) : pd_up e v < 1024 := pd_Ed_lt (pd_up_or h).1 hv
/-! related -/
def pd_rk (U : Nat → Nat) (v : Nat) : Nat → Nat
  | 0 => U v
  | u + 1 => if (U u).testBit v = true then pd_rk U v u ||| 2 ^ u else pd_rk U v u
def pd_rl (U : Nat → Nat) (v : Nat) : Nat := pd_rk U v v
theorem pd_rk_tb (U : Nat → Nat) (v i : Nat) : ∀ n : Nat, (pd_rk U v n).testBit i = true ↔ (U v).testBit i = true ∨ (i < n ∧ (U i).testBit v = true)
  | 0 => ⟨Or.inl, fun h => h.elim id fun ⟨h, _⟩ => absurd h (Nat.not_lt_zero _)⟩
  | n + 1 => by
    have ih := pd_rk_tb U v i n
    show (if (U n).testBit v = true then pd_rk U v n ||| 2 ^ n else pd_rk U v n).testBit i = true ↔ _
    by_cases q : (U n).testBit v = true
    · rw [if_pos q, Nat.testBit_or, Bool.or_eq_true, ih, pd_tw]
      constructor
      · rintro ((h | ⟨h1, h2⟩) | h)
        · exact Or.inl h
        · exact Or.inr ⟨by omega, h2⟩
        · exact Or.inr ⟨by omega, by rw [← h]; exact q⟩
      · rintro (h | ⟨h1, h2⟩)
        · exact Or.inl (Or.inl h)
        · by_cases z : n = i
          · exact Or.inr z
          · exact Or.inl (Or.inr ⟨by omega, h2⟩)
    · rw [if_neg q, ih]
      constructor
      · rintro (h | ⟨h1, h2⟩)
        · exact Or.inl h
        · exact Or.inr ⟨by omega, h2⟩
      · rintro (h | ⟨h1, h2⟩)
        · exact Or.inl h
        · by_cases z : n = i
          · rw [z] at q; exact absurd h2 q
          · exact Or.inr ⟨by omega, h2⟩
theorem pd_rk_lt {U : Nat → Nat} (hU : ∀ v, v < 10 → U v < 1024) {v : Nat} (hv : v < 10) : ∀ n : Nat, n ≤ 10 → pd_rk U v n < 1024
  | 0, _ => hU v hv
  | n + 1, hn => by
    show (if (U n).testBit v = true then pd_rk U v n ||| 2 ^ n else pd_rk U v n) < 1024
    have ih := pd_rk_lt hU hv n (by omega)
    split
    · exact Nat.or_lt_two_pow (n := 10) ih (Nat.pow_lt_pow_right (by decide) (by omega))
    · exact ih
theorem pd_rl_tb {U : Nat → Nat} (hU : pd_Or U) {v i : Nat} (hv : v < 10) : (pd_rl U v).testBit i = true ↔ (U v).testBit i = true ∨ (i < 10 ∧ (U i).testBit v = true) := by
  unfold pd_rl
  rw [pd_rk_tb]
  refine or_congr Iff.rfl ⟨fun h => ⟨by omega, h.2⟩, fun h => ⟨(hU.1 i h.1 v h.2).1, h.2⟩⟩
/-! counting antichains -/
def pd_cn (U : Nat → Nat) (S : Nat) : Nat := pd_sm (fun s => (pd_anB U S s).toNat) 1024
theorem pd_cn_k {U : Nat → Nat} {S k : Nat} (hS : S < 2 ^ k) (hk : k ≤ 10) : pd_cn U S = pd_sm (fun s => (pd_anB U S s).toNat) (2 ^ k) := by
  have hp : (2 : Nat) ^ k ≤ 1024 := Nat.pow_le_pow_right (n := 2) (by decide) hk
  have e := pd_sm_split (fun s => (pd_anB U S s).toNat) (2 ^ k) (1024 - 2 ^ k)
  rw [show 2 ^ k + (1024 - 2 ^ k) = 1024 by omega] at e
  unfold pd_cn
  rw [e, pd_sm_zero (n := 1024 - 2 ^ k), Nat.add_zero]
  intro i hi
  show (pd_anB U S (2 ^ k + i)).toNat = 0
  have : pd_anB U S (2 ^ k + i) = false := by
    obtain ⟨j, hj, hb⟩ := Nat.exists_ge_and_testBit_of_ge_two_pow (n := k) (x := 2 ^ k + i) (by omega)
    cases hq : pd_anB U S (2 ^ k + i) with
    | false => rfl
    | true =>
      have h1 := ((pd_anB_iff (by omega)).mp hq).1 j hb
      have h2 : S.testBit j = false := Nat.testBit_lt_two_pow (Nat.lt_of_lt_of_le hS (Nat.pow_le_pow_right (by decide) hj))
      rw [h2] at h1; cases h1
  rw [this]; rfl
theorem pd_lt_tb {s k i : Nat} (h : s < 2 ^ k) (hb : s.testBit i = true) : i < k := by
  rcases Nat.lt_or_ge i k with q | q
  · exact q
  · rw [Nat.testBit_lt_two_pow (Nat.lt_of_lt_of_le h (Nat.pow_le_pow_right (by decide) q))] at hb; cases hb
theorem pd_cn_step {U : Nat → Nat} (hU : pd_Or U) {v r : Nat} (hv : v < 10) (hr : r < 2 ^ v) : pd_cn U (r ||| 2 ^ v) = pd_cn U r + pd_cn U (pd_df r (pd_rl U v)) := by
  have h2 : (2 : Nat) ^ (v + 1) = 2 ^ v + 2 ^ v := by rw [Nat.pow_succ]; omega
  have hb : (2 : Nat) ^ (v + 1) ≤ 1024 := (Nat.pow_le_pow_right (n := 2) (i := v + 1) (j := 10) (by decide) (by omega))
  have hd : pd_df r (pd_rl U v) < 2 ^ v := Nat.lt_of_le_of_lt (pd_df_le _ _) hr
  have hw : r ||| 2 ^ v < 2 ^ (v + 1) := Nat.or_lt_two_pow (by omega) (by omega)
  rw [pd_cn_k hw (by omega), pd_cn_k hr (by omega), pd_cn_k hd (by omega), h2, pd_sm_split]
  congr 1
  · refine pd_sm_congr fun s hs => ?_
    show (pd_anB U (r ||| 2 ^ v) s).toNat = (pd_anB U r s).toNat
    congr 1
    rw [Bool.eq_iff_iff, pd_anB_iff (by omega), pd_anB_iff (by omega)]
    refine and_congr ⟨fun h i hi => ?_, fun h i hi => ?_⟩ Iff.rfl
    · have h1 := h i hi
      rw [Nat.testBit_or, Bool.or_eq_true, pd_tw] at h1
      rcases h1 with z | z
      · exact z
      · have := pd_lt_tb hs hi; omega
    · rw [Nat.testBit_or, h i hi]; rfl
  · refine pd_sm_congr fun t ht => ?_
    show (pd_anB U (r ||| 2 ^ v) (2 ^ v + t)).toNat = (pd_anB U (pd_df r (pd_rl U v)) t).toNat
    congr 1
    have et : 2 ^ v + t = t ||| 2 ^ v := by rw [Nat.or_two_pow_eq_add_of_lt ht]; omega
    have tb : ∀ i, (t ||| 2 ^ v).testBit i = true ↔ t.testBit i = true ∨ v = i := fun i => by rw [Nat.testBit_or, Bool.or_eq_true, pd_tw]
    have rb : ∀ i, (r ||| 2 ^ v).testBit i = true ↔ r.testBit i = true ∨ v = i := fun i => by rw [Nat.testBit_or, Bool.or_eq_true, pd_tw]
    have db : ∀ i, (pd_df r (pd_rl U v)).testBit i = true ↔ r.testBit i = true ∧ ¬ ((U v).testBit i = true ∨ (i < 10 ∧ (U i).testBit v = true)) := fun i => by
      rw [pd_df_tb, Bool.and_eq_true, Bool.not_eq_true', ← pd_rl_tb hU hv, Bool.not_eq_true]
    rw [Bool.eq_iff_iff, pd_anB_iff (by omega), pd_anB_iff (by omega), et]
    constructor
    · rintro ⟨h1, h3⟩
      refine ⟨fun i hi => (db i).mpr ⟨?_, ?_⟩, fun a b ha hb => h3 a b ((tb a).mpr (Or.inl ha)) ((tb b).mpr (Or.inl hb))⟩
      · rcases (rb i).mp (h1 i ((tb i).mpr (Or.inl hi))) with z | z
        · exact z
        · have := pd_lt_tb ht hi; omega
      · rintro (z | ⟨-, z⟩)
        · rw [h3 v i ((tb v).mpr (Or.inr rfl)) ((tb i).mpr (Or.inl hi))] at z; cases z
        · rw [h3 i v ((tb i).mpr (Or.inl hi)) ((tb v).mpr (Or.inr rfl))] at z; cases z
    · rintro ⟨h1, h3⟩
      refine ⟨fun i hi => ?_, fun a b ha hb => ?_⟩
      · rcases (tb i).mp hi with z | z
        · exact (rb i).mpr (Or.inl ((db i).mp (h1 i z)).1)
        · exact (rb i).mpr (Or.inr z)
      · refine pd_nb fun hab => ?_
        rcases (tb a).mp ha with za | za
        · rcases (tb b).mp hb with zb | zb
          · rw [h3 a b za zb] at hab; cases hab
          · have := pd_lt_tb ht za
            exact ((db a).mp (h1 a za)).2 (Or.inr ⟨by omega, by rw [zb]; exact hab⟩)
        · rcases (tb b).mp hb with zb | zb
          · exact ((db b).mp (h1 b zb)).2 (Or.inl (by rw [za]; exact hab))
          · have := hU.1 a (by omega) b hab
            omega
theorem pd_cn_0 (U : Nat → Nat) : pd_cn U 0 = 1 := by
  rw [pd_cn_k (k := 0) (by decide) (by decide)]
  show 0 + (pd_anB U 0 0).toNat = 1
  have : pd_anB U 0 0 = true := (pd_anB_iff (by decide)).mpr ⟨fun v h => h, fun u v h => by rw [Nat.zero_testBit] at h; cases h⟩
  rw [this]; rfl
theorem pd_cn_le (U : Nat → Nat) (S : Nat) : pd_cn U S ≤ 1024 := by
  have := pd_sm_bd (f := fun s => (pd_anB U S s).toNat) (c := 1) (n := 1024) (fun i _ => by
    show (pd_anB U S i).toNat ≤ 1
    cases pd_anB U S i <;> decide)
  unfold pd_cn; omega
/-! the widest, and the least of the widest -/
theorem pd_wd_ge {U : Nat → Nat} {S A : Nat} (hA : A < 1024) (h : pd_An U S A) : pd_bc A ≤ pd_wd U S := pd_mx_ge ((pd_anB_iff hA).mpr h) hA
theorem pd_wd_at (U : Nat → Nat) (S : Nat) : ∃ A, A < 1024 ∧ pd_An U S A ∧ pd_bc A = pd_wd U S := by
  rcases pd_mx_at (pd_anB U S) pd_bc 1024 with h | ⟨A, h1, h2, h3⟩
  · refine ⟨0, by decide, ⟨fun v hv => ?_, fun u v hu => ?_⟩, ?_⟩
    · rw [Nat.zero_testBit] at hv; cases hv
    · rw [Nat.zero_testBit] at hu; cases hu
    · rw [show pd_bc 0 = 0 from pd_ws_0 _]; exact h.symm
  · exact ⟨A, h1, (pd_anB_iff h1).mp h2, h3⟩
theorem pd_An_sub {U : Nat → Nat} {S S' A : Nat} (h : pd_An U S A) (hs : ∀ i, A.testBit i = true → S'.testBit i = true) : pd_An U S' A := ⟨hs, h.2⟩
def pd_GI (U : Nat → Nat) (on most v0 tk fr : Nat) : Prop :=
  (tk < 1024 ∧ fr < 1024) ∧ (∀ u, tk.testBit u = true → v0 ≤ u ∧ on.testBit u = true) ∧ (∀ u t, tk.testBit u = true → tk.testBit t = true → (U u).testBit t = false) ∧
  (∀ u, fr.testBit u = true ↔ u < v0 ∧ on.testBit u = true ∧ ∀ t, tk.testBit t = true → (U u).testBit t = false ∧ (U t).testBit u = false) ∧
  pd_bc tk + pd_wd U fr = most ∧
  ∀ A, A < 1024 → pd_An U on A → pd_bc A = most → (∀ j, v0 ≤ j → A.testBit j = tk.testBit j) ∨ ∃ i, v0 ≤ i ∧ tk.testBit i = false ∧ A.testBit i = true ∧ ∀ j, i < j → A.testBit j = tk.testBit j
theorem pd_GI_0 {U : Nat → Nat} {on : Nat} (hon : on < 1024) : pd_GI U on (pd_wd U on) 10 0 on := by
  refine ⟨⟨by decide, hon⟩, fun u h => ?_, fun u t h => ?_, fun u => ⟨fun h => ⟨pd_t10 hon h, h, fun t ht => ?_⟩, fun h => h.2.1⟩, ?_, fun A hA h1 h2 => Or.inl fun j hj => ?_⟩
  · rw [Nat.zero_testBit] at h; cases h
  · rw [Nat.zero_testBit] at h; cases h
  · rw [Nat.zero_testBit] at ht; cases ht
  · rw [show pd_bc 0 = 0 from pd_ws_0 _]; omega
  · rw [pd_t10f hA hj, Nat.zero_testBit]
theorem pd_GI_end {U : Nat → Nat} {on most tk fr : Nat} (h : pd_GI U on most 0 tk fr) : tk < 1024 ∧ pd_An U on tk ∧ pd_bc tk = most ∧ ∀ A, A < tk → pd_An U on A → pd_bc A ≠ most := by
  obtain ⟨⟨h1, h1'⟩, h2, h3, h4, h5, h6⟩ := h
  have hf : fr = 0 := by
    refine Nat.eq_of_testBit_eq fun i => ?_
    rw [Nat.zero_testBit]
    exact pd_nb fun q => absurd ((h4 i).mp q).1 (Nat.not_lt_zero _)
  have hw : pd_wd U fr = 0 := by
    obtain ⟨A, a1, a2, a3⟩ := pd_wd_at U fr
    have : A = 0 := by
      refine Nat.eq_of_testBit_eq fun i => ?_
      rw [Nat.zero_testBit]
      refine pd_nb fun q => ?_
      have := a2.1 i q
      rw [hf, Nat.zero_testBit] at this; cases this
    rw [← a3, this]; exact pd_ws_0 _
  refine ⟨h1, ⟨fun v hv => (h2 v hv).2, h3⟩, by omega, fun A hA hAn hb => ?_⟩
  rcases h6 A (by omega) hAn hb with q | ⟨i, -, q2, q3, q4⟩
  · have : A = tk := Nat.eq_of_testBit_eq fun i => q i (Nat.zero_le _)
    omega
  · have := pd_ltb q2 q3 (fun j hj => (q4 j hj).symm)
    omega
theorem pd_GI_skip {U : Nat → Nat} {on most v tk fr : Nat} (h : pd_GI U on most (v + 1) tk fr) (hv : ¬ fr.testBit v = true) : pd_GI U on most v tk fr := by
  obtain ⟨h1, h2, h3, h4, h5, h6⟩ := h
  have ht : tk.testBit v = false := pd_nb fun q => absurd (h2 v q).1 (by omega)
  refine ⟨h1, fun u hu => ⟨by have := (h2 u hu).1; omega, (h2 u hu).2⟩, h3, fun u => ⟨fun hu => ?_, fun hu => (h4 u).mpr ⟨by omega, hu.2⟩⟩, h5, fun A hA hAn hb => ?_⟩
  · obtain ⟨g1, g2⟩ := (h4 u).mp hu
    refine ⟨?_, g2⟩
    by_cases z : u = v
    · rw [z] at hu; exact absurd hu hv
    · omega
  · rcases h6 A hA hAn hb with q | ⟨i, q1, q2⟩
    · by_cases z : A.testBit v = true
      · exact Or.inr ⟨v, Nat.le_refl _, ht, z, fun j hj => q j (by omega)⟩
      · refine Or.inl fun j hj => ?_
        by_cases zz : j = v
        · rw [zz, ht, pd_nb z]
        · exact q j (by omega)
    · exact Or.inr ⟨i, by omega, q2⟩
theorem pd_clr {fr v u : Nat} : (pd_df fr (2 ^ v)).testBit u = true ↔ fr.testBit u = true ∧ v ≠ u := by
  rw [pd_df_tb, Bool.and_eq_true, Bool.not_eq_true', ← Bool.not_eq_true, pd_tw]
theorem pd_wd_mono {U : Nat → Nat} {S S' : Nat} (h : ∀ i, S.testBit i = true → S'.testBit i = true) : pd_wd U S ≤ pd_wd U S' := by
  obtain ⟨A, a1, a2, a3⟩ := pd_wd_at U S
  rw [← a3]
  exact pd_wd_ge a1 (pd_An_sub a2 fun i hi => h i (a2.1 i hi))
theorem pd_GI_out {U : Nat → Nat} {on most v tk fr : Nat} (h : pd_GI U on most (v + 1) tk fr) (hq : most ≤ pd_bc tk + pd_wd U (pd_df fr (2 ^ v))) : pd_GI U on most v tk (pd_df fr (2 ^ v)) := by
  obtain ⟨h1, h2, h3, h4, h5, h6⟩ := h
  have ht : tk.testBit v = false := pd_nb fun q => absurd (h2 v q).1 (by omega)
  have hm : pd_wd U (pd_df fr (2 ^ v)) ≤ pd_wd U fr := pd_wd_mono fun i hi => (pd_clr.mp hi).1
  refine ⟨⟨h1.1, Nat.lt_of_le_of_lt (pd_df_le _ _) h1.2⟩, fun u hu => ⟨by have := (h2 u hu).1; omega, (h2 u hu).2⟩, h3, fun u => ?_, by omega, fun A hA hAn hb => ?_⟩
  · rw [pd_clr, h4 u]
    constructor
    · rintro ⟨⟨g1, g2⟩, g3⟩; exact ⟨by omega, g2⟩
    · rintro ⟨g1, g2⟩; exact ⟨⟨by omega, g2⟩, by omega⟩
  · rcases h6 A hA hAn hb with q | ⟨i, q1, q2⟩
    · by_cases z : A.testBit v = true
      · exact Or.inr ⟨v, Nat.le_refl _, ht, z, fun j hj => q j (by omega)⟩
      · refine Or.inl fun j hj => ?_
        by_cases zz : j = v
        · rw [zz, ht, pd_nb z]
        · exact q j (by omega)
    · exact Or.inr ⟨i, by omega, q2⟩
theorem pd_GI_in {U : Nat → Nat} {on most v tk fr : Nat} (hU : pd_Or U) (hv10 : v < 10) (h : pd_GI U on most (v + 1) tk fr) (hv : fr.testBit v = true) (hq : pd_bc tk + pd_wd U (pd_df fr (2 ^ v)) < most) : pd_GI U on most v (tk ||| 2 ^ v) (pd_df (pd_df fr (2 ^ v)) (pd_rl U v)) := by
  obtain ⟨h1, h2, h3, h4, h5, h6⟩ := h
  have h2v : (2 : Nat) ^ v < 1024 := Nat.pow_lt_pow_right (by decide) hv10
  have ht : tk.testBit v = false := pd_nb fun q => absurd (h2 v q).1 (by omega)
  obtain ⟨-, hvon, hvun⟩ := (h4 v).mp hv
  have tb : ∀ i, (tk ||| 2 ^ v).testBit i = true ↔ tk.testBit i = true ∨ v = i := fun i => by rw [Nat.testBit_or, Bool.or_eq_true, pd_tw]
  have fb : ∀ u, (pd_df (pd_df fr (2 ^ v)) (pd_rl U v)).testBit u = true ↔ (fr.testBit u = true ∧ v ≠ u) ∧ ¬ ((U v).testBit u = true ∨ (u < 10 ∧ (U u).testBit v = true)) := fun u => by
    rw [pd_df_tb, Bool.and_eq_true, Bool.not_eq_true', ← Bool.not_eq_true, pd_clr, pd_rl_tb hU hv10]
  have vv : (U v).testBit v = false := pd_nb fun q => by have := hU.1 v hv10 v q; omega
  have bct : pd_bc (tk ||| 2 ^ v) = pd_bc tk + 1 := by
    unfold pd_bc
    rw [pd_ws_cut (p := tk) (r := 2 ^ v) (fun i _ => ⟨Nat.testBit_or _ _ _, fun ⟨a1, a2⟩ => by rw [← pd_tw.mp a2, ht] at a1; cases a1⟩), pd_ws_one hv10]
  have hfr : pd_wd U fr = 1 + pd_wd U (pd_df (pd_df fr (2 ^ v)) (pd_rl U v)) := by
    apply Nat.le_antisymm
    · obtain ⟨A, a1, a2, a3⟩ := pd_wd_at U fr
      by_cases z : A.testBit v = true
      · have e1 : pd_bc A = pd_ws (fun _ => 1) (2 ^ v) + pd_bc (pd_df A (2 ^ v)) := pd_ws_df fun i hi => by rw [← pd_tw.mp hi]; exact z
        rw [pd_ws_one hv10] at e1
        have e2 := pd_wd_ge (U := U) (S := pd_df (pd_df fr (2 ^ v)) (pd_rl U v)) (A := pd_df A (2 ^ v)) (Nat.lt_of_le_of_lt (pd_df_le _ _) a1) ⟨fun i hi => by
          obtain ⟨b1, b2⟩ := pd_clr.mp hi
          refine (fb i).mpr ⟨⟨a2.1 i b1, b2⟩, ?_⟩
          rintro (q | ⟨-, q⟩)
          · rw [a2.2 v i z b1] at q; cases q
          · rw [a2.2 i v b1 z] at q; exact absurd q (by decide), fun a b ha hb => a2.2 a b (pd_clr.mp ha).1 (pd_clr.mp hb).1⟩
        omega
      · have e2 := pd_wd_ge (U := U) (S := pd_df fr (2 ^ v)) a1 ⟨fun i hi => pd_clr.mpr ⟨a2.1 i hi, fun q => z (by rw [q]; exact hi)⟩, a2.2⟩
        omega
    · obtain ⟨A, a1, a2, a3⟩ := pd_wd_at U (pd_df (pd_df fr (2 ^ v)) (pd_rl U v))
      have ab : ∀ i, (A ||| 2 ^ v).testBit i = true ↔ A.testBit i = true ∨ v = i := fun i => by rw [Nat.testBit_or, Bool.or_eq_true, pd_tw]
      have av : A.testBit v = false := pd_nb fun q => ((fb v).mp (a2.1 v q)).1.2 rfl
      have e1 : pd_bc (A ||| 2 ^ v) = pd_bc A + 1 := by
        unfold pd_bc
        rw [pd_ws_cut (p := A) (r := 2 ^ v) (fun i _ => ⟨Nat.testBit_or _ _ _, fun ⟨b1, b2⟩ => by rw [← pd_tw.mp b2, av] at b1; cases b1⟩), pd_ws_one hv10]
      have e2 := pd_wd_ge (U := U) (S := fr) (A := A ||| 2 ^ v) (Nat.or_lt_two_pow (n := 10) a1 h2v) ⟨fun i hi => by
        rcases (ab i).mp hi with q | q
        · exact ((fb i).mp (a2.1 i q)).1.1
        · rw [← q]; exact hv, fun a b ha hb => by
        refine pd_nb fun hab => ?_
        rcases (ab a).mp ha with za | za
        · rcases (ab b).mp hb with zb | zb
          · rw [a2.2 a b za zb] at hab; cases hab
          · exact ((fb a).mp (a2.1 a za)).2 (Or.inr ⟨pd_t10 a1 za, by rw [zb]; exact hab⟩)
        · rcases (ab b).mp hb with zb | zb
          · exact ((fb b).mp (a2.1 b zb)).2 (Or.inl (by rw [za]; exact hab))
          · rw [← za, ← zb, vv] at hab; cases hab⟩
      omega
  refine ⟨⟨Nat.or_lt_two_pow (n := 10) h1.1 h2v, Nat.lt_of_le_of_lt (pd_df_le _ _) (Nat.lt_of_le_of_lt (pd_df_le _ _) h1.2)⟩, fun u hu => ?_, fun a b ha hb => ?_, fun u => ?_, by omega, fun A hA hAn hb => ?_⟩
  · rcases (tb u).mp hu with q | q
    · exact ⟨by have := (h2 u q).1; omega, (h2 u q).2⟩
    · exact ⟨by omega, by rw [← q]; exact hvon⟩
  · rcases (tb a).mp ha with za | za
    · rcases (tb b).mp hb with zb | zb
      · exact h3 a b za zb
      · rw [← zb]; exact (hvun a za).2
    · rcases (tb b).mp hb with zb | zb
      · rw [← za]; exact (hvun b zb).1
      · rw [← za, ← zb]; exact vv
  · rw [fb u, h4 u]
    constructor
    · rintro ⟨⟨⟨g1, g2, g3⟩, g4⟩, g5⟩
      refine ⟨by omega, g2, fun t htt => ?_⟩
      rcases (tb t).mp htt with q | q
      · exact g3 t q
      · rw [← q]
        exact ⟨pd_nb fun z => g5 (Or.inr ⟨by omega, z⟩), pd_nb fun z => g5 (Or.inl z)⟩
    · rintro ⟨g1, g2, g3⟩
      have g4 := g3 v ((tb v).mpr (Or.inr rfl))
      refine ⟨⟨⟨by omega, g2, fun t q => g3 t ((tb t).mpr (Or.inl q))⟩, by omega⟩, ?_⟩
      rintro (z | ⟨-, z⟩)
      · rw [g4.2] at z; cases z
      · rw [g4.1] at z; cases z
  · rcases h6 A hA hAn hb with q | ⟨i, q1, q2, q3, q4⟩
    · by_cases z : A.testBit v = true
      · refine Or.inl fun j hj => ?_
        rw [Nat.testBit_or]
        by_cases zz : j = v
        · rw [zz, z, Nat.testBit_two_pow_self, Bool.or_true]
        · rw [Nat.testBit_two_pow_of_ne (fun y => zz y.symm), Bool.or_false]
          exact q j (by omega)
      · exfalso
        have sub : ∀ i, tk.testBit i = true → A.testBit i = true := fun i hi => by
          rw [q i (h2 i hi).1]; exact hi
        have e1 : pd_bc A = pd_bc tk + pd_bc (pd_df A tk) := pd_ws_df sub
        have e2 := pd_wd_ge (U := U) (S := pd_df fr (2 ^ v)) (A := pd_df A tk) (Nat.lt_of_le_of_lt (pd_df_le _ _) hA) ⟨fun i hi => by
          rw [pd_df_tb, Bool.and_eq_true, Bool.not_eq_true'] at hi
          have hiv : i ≠ v := fun y => z (by rw [← y]; exact hi.1)
          have hlt : i < v + 1 := by
            rcases Nat.lt_or_ge i (v + 1) with y | y
            · exact y
            · have y2 := q i y
              rw [hi.1, hi.2] at y2; cases y2
          exact pd_clr.mpr ⟨(h4 i).mpr ⟨hlt, hAn.1 i hi.1, fun t htt => ⟨hAn.2 i t hi.1 (sub t htt), hAn.2 t i (sub t htt) hi.1⟩⟩, fun y => hiv y.symm⟩, fun a b ha hb => by
          rw [pd_df_tb, Bool.and_eq_true] at ha hb
          exact hAn.2 a b ha.1 hb.1⟩
        omega
    · refine Or.inr ⟨i, by omega, ?_, q3, fun j hj => ?_⟩
      · rw [Nat.testBit_or, q2, Nat.testBit_two_pow_of_ne (by omega)]; rfl
      · rw [Nat.testBit_or, Nat.testBit_two_pow_of_ne (by omega), Bool.or_false]
        exact q4 j hj
/-! submasks -/
theorem pd_subm : ∀ (p s x : Nat), p &&& s = p → x &&& s = x → x < p → x ≤ (p - 1) &&& s := by
  intro p
  induction p using Nat.strongRecOn with
  | _ p ih =>
    intro s x hp hx hlt
    have zd : ((p - 1) &&& s) / 2 = (p - 1) / 2 &&& s / 2 := Nat.and_div_two
    have zm : ((p - 1) &&& s) % 2 = 1 ↔ (p - 1) % 2 = 1 ∧ s % 2 = 1 := Nat.and_mod_two_eq_one
    have pd : p / 2 &&& s / 2 = p / 2 := by rw [← Nat.and_div_two, hp]
    have xd : x / 2 &&& s / 2 = x / 2 := by rw [← Nat.and_div_two, hx]
    have xm : x % 2 = 1 → s % 2 = 1 := fun h => by
      rw [← hx] at h
      exact (Nat.and_mod_two_eq_one.mp h).2
    rcases Nat.mod_two_eq_zero_or_one p with h | h
    · have e1 : (p - 1) / 2 = p / 2 - 1 := by omega
      have h1 := ih (p / 2) (by omega) (s / 2) (x / 2) pd xd (by omega)
      rw [e1] at zd
      rcases Nat.mod_two_eq_zero_or_one x with q | q
      · omega
      · have := zm.mpr ⟨by omega, xm q⟩
        omega
    · have e1 : (p - 1) / 2 = p / 2 := by omega
      rw [e1, pd] at zd
      omega
theorem pd_sub_iff {p s : Nat} : p &&& s = p ↔ ∀ i, p.testBit i = true → s.testBit i = true := by
  constructor
  · intro h i hi
    have h1 := Nat.testBit_and p s i
    rw [h, hi] at h1
    simpa using h1.symm
  · intro h
    refine Nat.eq_of_testBit_eq fun i => ?_
    rw [Nat.testBit_and]
    cases hb : p.testBit i with
    | false => rfl
    | true => rw [h i hb]; rfl
end
section
/-! PURE 5: alternating ways; f is the flow, flat: from u to w at u * 10 + w -/
def pd_tt (f : Nat → Nat) : Nat := pd_to (fun u w => f (u * 10 + w))
def pd_FI (T : Nat → Nat) (S : Nat) (c ro ri f : Nat → Nat) : Prop :=
  (∀ u, u < 10 → ∀ w, w < 10 → 0 < f (u * 10 + w) → pd_arc T S u w) ∧ (∀ u, u < 10 → ro u + pd_sm (fun w => f (u * 10 + w)) 10 = c u) ∧ ∀ w, w < 10 → ri w + pd_sm (fun u => f (u * 10 + w)) 10 = c w
theorem pd_FI_le {T : Nat → Nat} {S : Nat} {c ro ri f : Nat → Nat} (h : pd_FI T S c ro ri f) {u w : Nat} (hu : u < 10) (hw : w < 10) : f (u * 10 + w) ≤ c u ∧ ro u ≤ c u ∧ ri w ≤ c w := by
  have h1 := h.2.1 u hu
  have h2 := h.2.2 w hw
  have h3 := pd_sm_ge (f := fun w => f (u * 10 + w)) hw
  have h4 : f (u * 10 + w) ≤ pd_sm (fun w => f (u * 10 + w)) 10 := h3
  omega
theorem pd_FI_fl {T : Nat → Nat} {S : Nat} {c ro ri f : Nat → Nat} (h : pd_FI T S c ro ri f) : pd_fl T S c (fun u w => f (u * 10 + w)) :=
  ⟨h.1, fun u hu => by have := h.2.1 u hu; show pd_sm (fun w => f (u * 10 + w)) 10 ≤ c u; omega, fun w hw => by have := h.2.2 w hw; show pd_sm (fun u => f (u * 10 + w)) 10 ≤ c w; omega⟩
theorem pd_FI_tt {T : Nat → Nat} {S : Nat} {c ro ri f : Nat → Nat} (h : pd_FI T S c ro ri f) : pd_tt f ≤ pd_sm c 10 := pd_sm_le fun u hu => (pd_FI_fl h).2.1 u hu
theorem pd_row_st {f : Nat → Nat} {v w y u : Nat} (hw : w < 10) : pd_sm (fun x => pd_st f (v * 10 + w) y (u * 10 + x)) 10 + (if u = v then f (v * 10 + w) else 0) = pd_sm (fun x => f (u * 10 + x)) 10 + (if u = v then y else 0) := by
  by_cases e : u = v
  · subst e
    rw [if_pos rfl, if_pos rfl]
    have h := pd_sm_upd (f := fun x => f (u * 10 + x)) (g := fun x => pd_st f (u * 10 + w) y (u * 10 + x)) (k := w) hw (fun i _ hi => pd_st_n (by omega))
    have h2 : pd_st f (u * 10 + w) y (u * 10 + w) = y := pd_st_s
    have h3 : pd_sm (fun x => pd_st f (u * 10 + w) y (u * 10 + x)) 10 + f (u * 10 + w) = pd_sm (fun x => f (u * 10 + x)) 10 + pd_st f (u * 10 + w) y (u * 10 + w) := h
    rw [h2] at h3; exact h3
  · rw [if_neg e, if_neg e]
    congr 1
    refine pd_sm_congr fun x hx => ?_
    show pd_st f (v * 10 + w) y (u * 10 + x) = f (u * 10 + x)
    exact pd_st_n (by omega)
theorem pd_col_st {f : Nat → Nat} {v w y x : Nat} (hv : v < 10) (hw : w < 10) (hx : x < 10) : pd_sm (fun u => pd_st f (v * 10 + w) y (u * 10 + x)) 10 + (if x = w then f (v * 10 + w) else 0) = pd_sm (fun u => f (u * 10 + x)) 10 + (if x = w then y else 0) := by
  by_cases e : x = w
  · subst e
    rw [if_pos rfl, if_pos rfl]
    have h := pd_sm_upd (f := fun u => f (u * 10 + x)) (g := fun u => pd_st f (v * 10 + x) y (u * 10 + x)) (k := v) hv (fun i _ hi => pd_st_n (by omega))
    have h2 : pd_st f (v * 10 + x) y (v * 10 + x) = y := pd_st_s
    have h3 : pd_sm (fun u => pd_st f (v * 10 + x) y (u * 10 + x)) 10 + f (v * 10 + x) = pd_sm (fun u => f (u * 10 + x)) 10 + pd_st f (v * 10 + x) y (v * 10 + x) := h
    rw [h2] at h3; exact h3
  · rw [if_neg e, if_neg e]
    congr 1
    refine pd_sm_congr fun u hu => ?_
    show pd_st f (v * 10 + w) y (u * 10 + x) = f (u * 10 + x)
    exact pd_st_n (by omega)
theorem pd_tt_st {f : Nat → Nat} {v w y : Nat} (hv : v < 10) (hw : w < 10) : pd_tt (pd_st f (v * 10 + w) y) + f (v * 10 + w) = pd_tt f + y := by
  have h1 := pd_sm_upd (f := fun u => pd_sm (fun x => f (u * 10 + x)) 10) (g := fun u => pd_sm (fun x => pd_st f (v * 10 + w) y (u * 10 + x)) 10) (k := v) hv (fun u _ hu => by
    have := pd_row_st (f := f) (v := v) (w := w) (y := y) (u := u) hw
    rw [if_neg hu, if_neg hu] at this
    exact this)
  have h2 := pd_row_st (f := f) (v := v) (w := w) (y := y) (u := v) hw
  rw [if_pos rfl, if_pos rfl] at h2
  have h3 : pd_tt (pd_st f (v * 10 + w) y) + pd_sm (fun x => f (v * 10 + x)) 10 = pd_tt f + pd_sm (fun x => pd_st f (v * 10 + w) y (v * 10 + x)) 10 := h1
  omega
/-! the search -/
def pd_sc (CO : Nat → Option Nat) (n : Nat) : Nat := pd_sm (fun v => (CO v).isSome.toNat) n
def pd_B0 (S : Nat) (ro : Nat → Nat) (CO CI : Nat → Option Nat) (Q rk : Nat → Nat) (e v0 : Nat) : Prop :=
  e = pd_sc CO v0 ∧
  (∀ j, j < e → Q j < v0 ∧ (CO (Q j)).isSome = true ∧ rk (Q j) = j) ∧
  (∀ v, v < v0 → (CO v).isSome = true → rk v < e ∧ Q (rk v) = v) ∧
  (∀ v, v < v0 → ∀ k, CO v = some k → k = v ∧ 0 < ro v ∧ S.testBit v = true) ∧
  (∀ v, v < v0 → S.testBit v = true → 0 < ro v → (CO v).isSome = true) ∧
  (∀ v, v < v0 → CI v = none)
theorem pd_sc_le (CO : Nat → Option Nat) (n : Nat) : pd_sc CO n ≤ n := by
  have := pd_sm_bd (f := fun v => (CO v).isSome.toNat) (c := 1) (n := n) (fun i _ => by
    show (CO i).isSome.toNat ≤ 1
    cases (CO i).isSome <;> decide)
  unfold pd_sc; omega
theorem pd_B0_0 {S : Nat} {ro : Nat → Nat} {CO CI : Nat → Option Nat} {Q rk : Nat → Nat} : pd_B0 S ro CO CI Q rk 0 0 :=
  ⟨rfl, fun j h => absurd h (Nat.not_lt_zero _), fun j h => absurd h (Nat.not_lt_zero _), fun j h => absurd h (Nat.not_lt_zero _), fun j h => absurd h (Nat.not_lt_zero _), fun j h => absurd h (Nat.not_lt_zero _)⟩
theorem pd_B0_le {S : Nat} {ro : Nat → Nat} {CO CI : Nat → Option Nat} {Q rk : Nat → Nat} {e v0 : Nat} (h : pd_B0 S ro CO CI Q rk e v0) : e ≤ v0 := by
  rw [h.1]; exact pd_sc_le CO v0
theorem pd_B0_no {S : Nat} {ro : Nat → Nat} {CO CI : Nat → Option Nat} {Q rk : Nat → Nat} {e v0 : Nat} (h : pd_B0 S ro CO CI Q rk e v0) (hn : ¬ (S.testBit v0 = true ∧ 0 < ro v0)) : pd_B0 S ro (pd_st CO v0 none) (pd_st CI v0 none) Q rk e (v0 + 1) := by
  obtain ⟨h1, h2, h3, h4, h5, h6⟩ := h
  have lo : ∀ v, v < v0 → pd_st CO v0 none v = CO v := fun v hv => pd_st_n (by omega)
  have at0 : pd_st CO v0 none v0 = none := pd_st_s
  refine ⟨?_, fun j hj => ?_, fun v hv hs => ?_, fun v hv k hk => ?_, fun v hv hs hr => ?_, fun v hv => ?_⟩
  · show e = pd_sm (fun v => (pd_st CO v0 none v).isSome.toNat) v0 + (pd_st CO v0 none v0).isSome.toNat
    rw [at0, h1]
    show pd_sm (fun v => (CO v).isSome.toNat) v0 = _ + 0
    rw [Nat.add_zero]
    refine pd_sm_congr fun v hv => ?_
    show (CO v).isSome.toNat = (pd_st CO v0 none v).isSome.toNat
    rw [lo v hv]
  · obtain ⟨a1, a2, a3⟩ := h2 j hj
    exact ⟨by omega, by rw [lo _ a1]; exact a2, a3⟩
  · by_cases z : v = v0
    · rw [z, at0] at hs; cases hs
    · rw [lo v (by omega)] at hs; exact h3 v (by omega) hs
  · by_cases z : v = v0
    · rw [z, at0] at hk; cases hk
    · rw [lo v (by omega)] at hk; exact h4 v (by omega) k hk
  · by_cases z : v = v0
    · rw [z] at hs hr; exact absurd ⟨hs, hr⟩ hn
    · rw [lo v (by omega)]; exact h5 v (by omega) hs hr
  · by_cases z : v = v0
    · rw [z]; exact pd_st_s
    · rw [pd_st_n z]; exact h6 v (by omega)
theorem pd_B0_yes {S : Nat} {ro : Nat → Nat} {CO CI : Nat → Option Nat} {Q rk : Nat → Nat} {e v0 : Nat} (h : pd_B0 S ro CO CI Q rk e v0) (hs : S.testBit v0 = true) (hr : 0 < ro v0) : pd_B0 S ro (pd_st (pd_st CO v0 none) v0 (some v0)) (pd_st CI v0 none) (pd_st Q e v0) (pd_st rk v0 e) (e + 1) (v0 + 1) := by
  obtain ⟨h1, h2, h3, h4, h5, h6⟩ := h
  have lo : ∀ v, v < v0 → pd_st (pd_st CO v0 none) v0 (some v0) v = CO v := fun v hv => by rw [pd_st_n (by omega), pd_st_n (by omega)]
  have at0 : pd_st (pd_st CO v0 none) v0 (some v0) v0 = some v0 := pd_st_s
  have rlo : ∀ v, v < v0 → pd_st rk v0 e v = rk v := fun v hv => pd_st_n (by omega)
  refine ⟨?_, fun j hj => ?_, fun v hv hss => ?_, fun v hv k hk => ?_, fun v hv hss hrr => ?_, fun v hv => ?_⟩
  · show e + 1 = pd_sm (fun v => (pd_st (pd_st CO v0 none) v0 (some v0) v).isSome.toNat) v0 + (pd_st (pd_st CO v0 none) v0 (some v0) v0).isSome.toNat
    rw [at0, h1]
    show pd_sm (fun v => (CO v).isSome.toNat) v0 + 1 = _ + 1
    congr 1
    refine pd_sm_congr fun v hv => ?_
    show (CO v).isSome.toNat = (pd_st (pd_st CO v0 none) v0 (some v0) v).isSome.toNat
    rw [lo v hv]
  · by_cases z : j = e
    · rw [z, pd_st_s]
      exact ⟨by omega, by rw [at0]; rfl, pd_st_s⟩
    · obtain ⟨a1, a2, a3⟩ := h2 j (by omega)
      rw [pd_st_n z]
      exact ⟨by omega, by rw [lo _ a1]; exact a2, by rw [rlo _ a1]; exact a3⟩
  · by_cases z : v = v0
    · rw [z, pd_st_s]
      exact ⟨by omega, pd_st_s⟩
    · rw [lo v (by omega)] at hss
      obtain ⟨a1, a2⟩ := h3 v (by omega) hss
      rw [rlo v (by omega)]
      exact ⟨by omega, by rw [pd_st_n (by omega)]; exact a2⟩
  · by_cases z : v = v0
    · rw [z, at0] at hk
      rw [z]
      exact ⟨(Option.some.inj hk).symm, hr, hs⟩
    · rw [lo v (by omega)] at hk; exact h4 v (by omega) k hk
  · by_cases z : v = v0
    · rw [z, at0]; rfl
    · rw [lo v (by omega)]; exact h5 v (by omega) hss hrr
  · by_cases z : v = v0
    · rw [z]; exact pd_st_s
    · rw [pd_st_n z]; exact h6 v (by omega)
def pd_BI (T : Nat → Nat) (S : Nat) (ro f : Nat → Nat) (CO CI : Nat → Option Nat) (Q rk : Nat → Nat) (e i : Nat) : Prop :=
  e = pd_sc CO 10 ∧
  (∀ j, j < e → Q j < 10 ∧ (CO (Q j)).isSome = true ∧ rk (Q j) = j) ∧
  (∀ v, v < 10 → (CO v).isSome = true → rk v < e ∧ Q (rk v) = v) ∧
  (∀ v, v < 10 → ∀ k, CO v = some k → (k = v ∧ 0 < ro v ∧ S.testBit v = true) ∨ ∃ x, x < 10 ∧ k = x + 10 ∧ 0 < f (v * 10 + x) ∧ ∃ v', CI x = some v' ∧ rk v' < rk v) ∧
  (∀ x, x < 10 → ∀ v, CI x = some v → v < 10 ∧ (CO v).isSome = true ∧ pd_arc T S v x ∧ rk v ≤ i)
section PDB
variable {T : Nat → Nat} {S : Nat} {c ro ri f : Nat → Nat} {CO CI : Nat → Option Nat} {Q rk : Nat → Nat} {e i : Nat}
theorem pd_BI_e (h : pd_BI T S ro f CO CI Q rk e i) : e ≤ 10 := by
  rw [h.1]; exact pd_sc_le CO 10
theorem pd_BI_i (h : pd_BI T S ro f CO CI Q rk e i) : pd_BI T S ro f CO CI Q rk e (i + 1) := by
  obtain ⟨h1, h2, h3, h4, h5⟩ := h
  exact ⟨h1, h2, h3, h4, fun x hx v hv => by
    obtain ⟨a1, a2, a3, a4⟩ := h5 x hx v hv
    exact ⟨a1, a2, a3, by omega⟩⟩
theorem pd_BI_push (h : pd_BI T S ro f CO CI Q rk e i) (hie : i < e) {u w v : Nat} (hu : u < 10) (hn : CO u = none) (hw : w < 10) (hf : 0 < f (u * 10 + w)) (hc : CI w = some v) : e < 10 ∧ pd_BI T S ro f (pd_st CO u (some (w + 10))) CI (pd_st Q e u) (pd_st rk u e) (e + 1) i := by
  have hsc : e + 1 = pd_sc (pd_st CO u (some (w + 10))) 10 := by
    have h0 := pd_sm_upd (f := fun v => (CO v).isSome.toNat) (g := fun v => (pd_st CO u (some (w + 10)) v).isSome.toNat) (k := u) hu (fun j _ hj => by
      show (pd_st CO u (some (w + 10)) j).isSome.toNat = (CO j).isSome.toNat
      rw [pd_st_n hj])
    have h0' : pd_sc (pd_st CO u (some (w + 10))) 10 + (CO u).isSome.toNat = pd_sc CO 10 + (pd_st CO u (some (w + 10)) u).isSome.toNat := h0
    rw [hn, pd_st_s, ← h.1] at h0'
    exact h0'.symm
  have hle := pd_sc_le (pd_st CO u (some (w + 10))) 10
  obtain ⟨h1, h2, h3, h4, h5⟩ := h
  have ne : ∀ v, (CO v).isSome = true → v ≠ u := fun v hv z => by rw [z, hn] at hv; cases hv
  refine ⟨by omega, hsc, fun j hj => ?_, fun v' hv' hs => ?_, fun v' hv' k hk => ?_, fun x hx v' hv' => ?_⟩
  · by_cases z : j = e
    · rw [z, pd_st_s, pd_st_s, pd_st_s]
      exact ⟨hu, rfl, rfl⟩
    · obtain ⟨a1, a2, a3⟩ := h2 j (by omega)
      rw [pd_st_n z, pd_st_n (ne _ a2), pd_st_n (ne _ a2)]
      exact ⟨a1, a2, a3⟩
  · by_cases z : v' = u
    · rw [z, pd_st_s]
      exact ⟨by omega, pd_st_s⟩
    · rw [pd_st_n z] at hs
      obtain ⟨a1, a2⟩ := h3 v' hv' hs
      rw [pd_st_n z, pd_st_n (by omega)]
      exact ⟨by omega, a2⟩
  · by_cases z : v' = u
    · rw [z, pd_st_s] at hk
      have hk := (Option.some.inj hk).symm
      obtain ⟨a1, a2, a3, a4⟩ := h5 w hw v hc
      refine Or.inr ⟨w, hw, hk, by rw [z]; exact hf, v, hc, ?_⟩
      rw [z, pd_st_s, pd_st_n (ne _ a2)]; omega
    · rw [pd_st_n z] at hk
      rcases h4 v' hv' k hk with q | ⟨x, b1, b2, b3, v'', b4, b5⟩
      · exact Or.inl q
      · refine Or.inr ⟨x, b1, b2, b3, v'', b4, ?_⟩
        rw [pd_st_n z, pd_st_n (ne _ (h5 x b1 v'' b4).2.1)]; exact b5
  · obtain ⟨a1, a2, a3, a4⟩ := h5 x hx v' hv'
    rw [pd_st_n (ne _ a2), pd_st_n (ne _ a2)]
    exact ⟨a1, a2, a3, a4⟩
theorem pd_BI_ci (h : pd_BI T S ro f CO CI Q rk e i) (hie : i < e) {w : Nat} (hn : CI w = none) (ha : pd_arc T S (Q i) w) : pd_BI T S ro f CO (pd_st CI w (some (Q i))) Q rk e i := by
  obtain ⟨h1, h2, h3, h4, h5⟩ := h
  refine ⟨h1, h2, h3, fun v hv k hk => ?_, fun x hx v hv => ?_⟩
  · rcases h4 v hv k hk with q | ⟨x, b1, b2, b3, v', b4, b5⟩
    · exact Or.inl q
    · refine Or.inr ⟨x, b1, b2, b3, v', ?_, b5⟩
      rw [pd_st_n (fun z => by rw [z, hn] at b4; cases b4)]; exact b4
  · by_cases z : x = w
    · rw [z, pd_st_s] at hv
      obtain ⟨a1, a2, a3⟩ := h2 i hie
      rw [← Option.some.inj hv]
      exact ⟨a1, a2, by rw [z]; exact ha, by omega⟩
    · rw [pd_st_n z] at hv
      exact h5 x hx v hv
/-- a queued vertex lies in S -/
theorem pd_BI_S (h : pd_BI T S ro f CO CI Q rk e i) (hs : ∀ u, u < 10 → ∀ w, w < 10 → 0 < f (u * 10 + w) → pd_arc T S u w) (hie : i < e) : Q i < 10 ∧ S.testBit (Q i) = true := by
  obtain ⟨h1, h2, h3, h4, h5⟩ := h
  obtain ⟨a1, a2, a3⟩ := h2 i hie
  refine ⟨a1, ?_⟩
  cases hk : CO (Q i) with
  | none => rw [hk] at a2; cases a2
  | some k =>
    rcases h4 (Q i) a1 k hk with q | ⟨x, b1, b2, b3, -⟩
    · exact q.2.2
    · exact (hs (Q i) a1 x b1 b3).1
end PDB
/-- going back from w -/
def pd_GB (T : Nat → Nat) (S : Nat) (ro f : Nat → Nat) (CI : Nat → Option Nat) (w i : Nat) (CO0 : Nat → Option Nat) (Q0 : Nat → Nat) (e0 : Nat) (CO : Nat → Option Nat) (Q rk : Nat → Nat) (e u0 : Nat) : Prop :=
  pd_BI T S ro f CO CI Q rk e i ∧ e0 ≤ e ∧ (∀ j, j < e0 → Q j = Q0 j) ∧ (∀ u, u < 10 → (CO0 u).isSome = true → (CO u).isSome = true) ∧ ∀ u, u < u0 → 0 < f (u * 10 + w) → (CO u).isSome = true
section PDG
variable {T : Nat → Nat} {S : Nat} {c ro ri f : Nat → Nat} {CO CO0 CI : Nat → Option Nat} {Q Q0 rk : Nat → Nat} {e e0 i w u0 : Nat}
theorem pd_GB_0 (h : pd_BI T S ro f CO CI Q rk e i) : pd_GB T S ro f CI w i CO Q e CO Q rk e 0 := ⟨h, Nat.le_refl _, fun _ _ => rfl, fun _ _ h => h, fun u hu => absurd hu (Nat.not_lt_zero _)⟩
theorem pd_GB_no (h : pd_GB T S ro f CI w i CO0 Q0 e0 CO Q rk e u0) (hn : 0 < f (u0 * 10 + w) → (CO u0).isSome = true) : pd_GB T S ro f CI w i CO0 Q0 e0 CO Q rk e (u0 + 1) := by
  obtain ⟨h1, h2, h3, h4, h5⟩ := h
  refine ⟨h1, h2, h3, h4, fun u hu hf => ?_⟩
  by_cases z : u = u0
  · rw [z] at hf ⊢; exact hn hf
  · exact h5 u (by omega) hf
theorem pd_GB_yes {v : Nat} (h : pd_GB T S ro f CI w i CO0 Q0 e0 CO Q rk e u0) (hie : i < e0) (hu : u0 < 10) (hw : w < 10) (hc : CI w = some v) (hf : 0 < f (u0 * 10 + w)) (hn : CO u0 = none) : e < 10 ∧ pd_GB T S ro f CI w i CO0 Q0 e0 (pd_st CO u0 (some (w + 10))) (pd_st Q e u0) (pd_st rk u0 e) (e + 1) (u0 + 1) := by
  obtain ⟨h1, h2, h3, h4, h5⟩ := h
  obtain ⟨g1, g2⟩ := pd_BI_push h1 (by omega) hu hn hw hf hc
  refine ⟨g1, g2, by omega, fun j hj => ?_, fun u hu' hs => ?_, fun u hu' hf' => ?_⟩
  · rw [pd_st_n (by omega)]; exact h3 j hj
  · by_cases z : u = u0
    · rw [z, pd_st_s]; rfl
    · rw [pd_st_n z]; exact h4 u hu' hs
  · by_cases z : u = u0
    · rw [z, pd_st_s]; rfl
    · rw [pd_st_n z]; exact h5 u (by omega) hf'
end PDG
/-- the search at place i of the queue, w0 of its targets seen -/
def pd_FW (T : Nat → Nat) (S : Nat) (ro ri f : Nat → Nat) (CO CI : Nat → Option Nat) (Q rk : Nat → Nat) (e i w0 : Nat) : Prop :=
  pd_BI T S ro f CO CI Q rk e i ∧ (∀ v, v < 10 → S.testBit v = true → 0 < ro v → (CO v).isSome = true) ∧
  (∀ j, j < i → ∀ w, w < 10 → pd_arc T S (Q j) w → (CI w).isSome = true) ∧ (∀ w, w < w0 → pd_arc T S (Q i) w → (CI w).isSome = true) ∧
  ∀ x, x < 10 → (CI x).isSome = true → ri x = 0 ∧ ∀ u, u < 10 → 0 < f (u * 10 + x) → (CO u).isSome = true
def pd_wy (T : Nat → Nat) (S : Nat) (ro ri f : Nat → Nat) (CO CI : Nat → Option Nat) (rk : Nat → Nat) (w : Nat) : Prop :=
  w < 10 ∧ 0 < ri w ∧ (CI w).isSome = true ∧ (∀ x, x < 10 → ∀ v, CI x = some v → v < 10 ∧ (CO v).isSome = true ∧ pd_arc T S v x ∧ rk v < 10) ∧
  ∀ v, v < 10 → ∀ k, CO v = some k → (k = v ∧ 0 < ro v) ∨ ∃ x, x < 10 ∧ k = x + 10 ∧ 0 < f (v * 10 + x) ∧ ∃ v', CI x = some v' ∧ rk v' < rk v
section PDF
variable {T : Nat → Nat} {S : Nat} {c ro ri f : Nat → Nat} {CO CI : Nat → Option Nat} {Q rk : Nat → Nat} {e i w0 : Nat}
theorem pd_FW_0 (h : pd_B0 S ro CO CI Q rk e 10) : pd_FW T S ro ri f CO CI Q rk e 0 0 := by
  obtain ⟨h1, h2, h3, h4, h5, h6⟩ := h
  refine ⟨⟨h1, h2, h3, fun v hv k hk => Or.inl (h4 v hv k hk), fun x hx v hv => ?_⟩, h5, fun j hj => absurd hj (Nat.not_lt_zero _), fun j hj => absurd hj (Nat.not_lt_zero _), fun x hx hs => ?_⟩
  · rw [h6 x hx] at hv; cases hv
  · rw [h6 x hx] at hs; cases hs
theorem pd_FW_skip (h : pd_FW T S ro ri f CO CI Q rk e i w0) (hn : pd_arc T S (Q i) w0 → (CI w0).isSome = true) : pd_FW T S ro ri f CO CI Q rk e i (w0 + 1) := by
  obtain ⟨h1, h2, h3, h4, h5⟩ := h
  refine ⟨h1, h2, h3, fun w hw ha => ?_, h5⟩
  by_cases z : w = w0
  · rw [z] at ha ⊢; exact hn ha
  · exact h4 w (by omega) ha
theorem pd_FW_next (h : pd_FW T S ro ri f CO CI Q rk e i 10) : pd_FW T S ro ri f CO CI Q rk e (i + 1) 0 := by
  obtain ⟨h1, h2, h3, h4, h5⟩ := h
  refine ⟨pd_BI_i h1, h2, fun j hj w hw ha => ?_, fun j hj => absurd hj (Nat.not_lt_zero _), h5⟩
  by_cases z : j = i
  · rw [z] at ha; exact h4 w hw ha
  · exact h3 j (by omega) w hw ha
theorem pd_FW_arc (h : pd_FW T S ro ri f CO CI Q rk e i w0) (hs : ∀ u, u < 10 → ∀ w, w < 10 → 0 < f (u * 10 + w) → pd_arc T S u w) (hie : i < e) (ho : (T (Q i) &&& S).testBit w0 = true) : pd_arc T S (Q i) w0 := by
  rw [Nat.testBit_and, Bool.and_eq_true] at ho
  exact ⟨(pd_BI_S h.1 hs hie).2, ho.2, ho.1⟩
theorem pd_FW_way (h : pd_FW T S ro ri f CO CI Q rk e i w0) (hie : i < e) (hw : w0 < 10) (ha : pd_arc T S (Q i) w0) (hn : CI w0 = none) (hr : 0 < ri w0) : pd_wy T S ro ri f CO (pd_st CI w0 (some (Q i))) rk w0 := by
  have hb := pd_BI_ci h.1 hie hn ha
  have he := pd_BI_e hb
  obtain ⟨h1, h2, h3, h4, h5⟩ := hb
  refine ⟨hw, hr, by rw [pd_st_s]; rfl, fun x hx v hv => ?_, fun v hv k hk => ?_⟩
  · obtain ⟨a1, a2, a3, a4⟩ := h5 x hx v hv
    exact ⟨a1, a2, a3, by have := (h3 v a1 a2).1; omega⟩
  · rcases h4 v hv k hk with q | q
    · exact Or.inl ⟨q.1, q.2.1⟩
    · exact Or.inr q
/-- behind goBack -/
theorem pd_FW_back {CO' : Nat → Option Nat} {Q' rk' : Nat → Nat} {e' : Nat} (h : pd_FW T S ro ri f CO CI Q rk e i w0) (hie : i < e) (hw : w0 < 10) (hn : CI w0 = none) (hr : ri w0 = 0) (hg : pd_GB T S ro f (pd_st CI w0 (some (Q i))) w0 i CO Q e CO' Q' rk' e' 10) : i < e' ∧ pd_FW T S ro ri f CO' (pd_st CI w0 (some (Q i))) Q' rk' e' i (w0 + 1) := by
  obtain ⟨h1, h2, h3, h4, h5⟩ := h
  obtain ⟨g1, g2, g3, g4, g5⟩ := hg
  have mono : ∀ x, (CI x).isSome = true → (pd_st CI w0 (some (Q i)) x).isSome = true := fun x hx => by
    by_cases z : x = w0
    · rw [z, pd_st_s]; rfl
    · rw [pd_st_n z]; exact hx
  refine ⟨by omega, g1, fun v hv hs hr => g4 v hv (h2 v hv hs hr), fun j hj w hw ha => mono w (h3 j hj w hw (by rw [← g3 j (by omega)]; exact ha)), fun w hw ha => ?_, fun x hx hs => ?_⟩
  · by_cases z : w = w0
    · rw [z, pd_st_s]; rfl
    · exact mono w (h4 w (by omega) (by rw [← g3 i hie]; exact ha))
  · by_cases z : x = w0
    · rw [z]; exact ⟨hr, g5⟩
    · rw [pd_st_n z] at hs
      obtain ⟨a1, a2⟩ := h5 x hx hs
      exact ⟨a1, fun u hu hf => g4 u hu (a2 u hu hf)⟩
/-- nothing more can be sent -/
theorem pd_FW_end (h : pd_FW T S ro ri f CO CI Q rk e e 0) (hF : pd_FI T S c ro ri f) (hc : ∀ v, v < 10 → ¬ S.testBit v = true → c v = 0) : pd_MC T S c (pd_tt f) := by
  obtain ⟨⟨h1, h2, h3, h4, h5⟩, hroot, hdone, -, hcl⟩ := h
  refine ⟨fun u w => f (u * 10 + w), fun u => (CO u).isSome, fun w => (CI w).isSome, pd_FI_fl hF, rfl, fun u hu w hw ha hl => ?_, ?_⟩
  · obtain ⟨a1, a2⟩ := h3 u hu hl
    exact hdone (rk u) a1 w hw (by rw [a2]; exact ha)
  · have k1 : pd_sm (fun u => pd_sm (fun w => (if (CO u).isSome = true then 0 else f (u * 10 + w)) + (if (CI w).isSome = true then f (u * 10 + w) else 0)) 10) 10 ≤ pd_tt f := by
      refine pd_sm_le fun u hu => pd_sm_le fun w hw => ?_
      show (if (CO u).isSome = true then 0 else f (u * 10 + w)) + (if (CI w).isSome = true then f (u * 10 + w) else 0) ≤ f (u * 10 + w)
      by_cases hl : (CO u).isSome = true
      · rw [if_pos hl]; split <;> omega
      · rw [if_neg hl]
        by_cases hr : (CI w).isSome = true
        · rcases Nat.eq_zero_or_pos (f (u * 10 + w)) with q | q
          · rw [q]; simp
          · exact absurd ((hcl w hw hr).2 u hu q) hl
        · rw [if_neg hr]; omega
    have k2 : pd_sm (fun u => pd_sm (fun w => (if (CO u).isSome = true then 0 else f (u * 10 + w)) + (if (CI w).isSome = true then f (u * 10 + w) else 0)) 10) 10 = pd_sm (fun u => pd_sm (fun w => if (CO u).isSome = true then 0 else f (u * 10 + w)) 10) 10 + pd_sm (fun u => pd_sm (fun w => if (CI w).isSome = true then f (u * 10 + w) else 0) 10) 10 := by
      rw [← pd_sm_add]
      refine pd_sm_congr fun u _ => ?_
      exact pd_sm_add (fun w => if (CO u).isSome = true then 0 else f (u * 10 + w)) (fun w => if (CI w).isSome = true then f (u * 10 + w) else 0) 10
    have k3 : pd_sm (fun u => if (CO u).isSome = true then 0 else c u) 10 ≤ pd_sm (fun u => pd_sm (fun w => if (CO u).isSome = true then 0 else f (u * 10 + w)) 10) 10 := by
      refine pd_sm_le fun u hu => ?_
      show (if (CO u).isSome = true then 0 else c u) ≤ pd_sm (fun w => if (CO u).isSome = true then 0 else f (u * 10 + w)) 10
      by_cases hl : (CO u).isSome = true
      · rw [if_pos hl]; exact Nat.zero_le _
      · rw [if_neg hl]
        have e1 : pd_sm (fun w => if (CO u).isSome = true then 0 else f (u * 10 + w)) 10 = pd_sm (fun w => f (u * 10 + w)) 10 := pd_sm_congr fun w _ => if_neg hl
        have e2 := hF.2.1 u hu
        rw [e1]
        by_cases hs : S.testBit u = true
        · rcases Nat.eq_zero_or_pos (ro u) with q | q
          · omega
          · exact absurd (hroot u hu hs q) hl
        · have := hc u hu hs
          omega
    have k4 : pd_sm (fun w => if (CI w).isSome = true then c w else 0) 10 ≤ pd_sm (fun u => pd_sm (fun w => if (CI w).isSome = true then f (u * 10 + w) else 0) 10) 10 := by
      rw [pd_sm_swap (fun u w => if (CI w).isSome = true then f (u * 10 + w) else 0) 10 10]
      refine pd_sm_le fun w hw => ?_
      show (if (CI w).isSome = true then c w else 0) ≤ pd_sm (fun u => if (CI w).isSome = true then f (u * 10 + w) else 0) 10
      by_cases hr : (CI w).isSome = true
      · rw [if_pos hr]
        have e1 : pd_sm (fun u => if (CI w).isSome = true then f (u * 10 + w) else 0) 10 = pd_sm (fun u => f (u * 10 + w)) 10 := pd_sm_congr fun u _ => if_pos hr
        have e2 := hF.2.2 w hw
        have e3 := (hcl w hw hr).1
        rw [e1]; omega
      · rw [if_neg hr]; exact Nat.zero_le _
    unfold pd_co
    show pd_sm (fun u => if (CO u).isSome = true then 0 else c u) 10 + pd_sm (fun w => if (CI w).isSome = true then c w else 0) 10 ≤ pd_tt f
    omega
end PDF
/-! sending one more -/
def pd_SI (T : Nat → Nat) (S : Nat) (c ro ri f f0 : Nat → Nat) (CI : Nat → Option Nat) (rk : Nat → Nat) (n w i : Nat) : Prop :=
  (∀ u, u < 10 → ∀ x, x < 10 → 0 < f (u * 10 + x) → pd_arc T S u x) ∧ (∀ u, u < 10 → ro u + pd_sm (fun x => f (u * 10 + x)) 10 = c u) ∧
  (∀ x, x < 10 → ri x + pd_sm (fun u => f (u * 10 + x)) 10 + (if x = w then 1 else 0) = c x) ∧ pd_tt f = n ∧ w < 10 ∧
  ∃ v0, CI w = some v0 ∧ i + rk v0 < 10 ∧ ∀ v, v < 10 → rk v ≤ rk v0 → ∀ x, x < 10 → f (v * 10 + x) = f0 (v * 10 + x)
section PDS
variable {T : Nat → Nat} {S : Nat} {c ro ri f f0 : Nat → Nat} {CO CI : Nat → Option Nat} {rk : Nat → Nat} {n w i : Nat}
theorem pd_SI_0 (hF : pd_FI T S c ro ri f) (hw : pd_wy T S ro ri f CO CI rk w) : pd_SI T S c ro (pd_st ri w (ri w - 1)) f f CI rk (pd_tt f) w 0 := by
  obtain ⟨w1, w2, w3, w4, w5⟩ := hw
  obtain ⟨f1, f2, f3⟩ := hF
  cases hc : CI w with
  | none => rw [hc] at w3; cases w3
  | some v0 =>
    obtain ⟨a1, a2, a3, a4⟩ := w4 w w1 v0 hc
    refine ⟨f1, f2, fun x hx => ?_, rfl, w1, v0, hc, by omega, fun _ _ _ _ _ => rfl⟩
    have := f3 x hx
    by_cases z : x = w
    · rw [if_pos z, z, pd_st_s]
      rw [z] at this; omega
    · rw [if_neg z, pd_st_n z]; omega
theorem pd_SI_end {v : Nat} (h : pd_SI T S c ro ri f f0 CI rk n w i) (hv : v < 10) (hc : CI w = some v) (ha : pd_arc T S v w) (hr : 0 < ro v) : pd_FI T S c (pd_st ro v (ro v - 1)) ri (pd_st f (v * 10 + w) (f (v * 10 + w) + 1)) ∧ pd_tt (pd_st f (v * 10 + w) (f (v * 10 + w) + 1)) = n + 1 := by
  obtain ⟨h1, h2, h3, h4, h5, -⟩ := h
  refine ⟨⟨fun u hu x hx hf => ?_, fun u hu => ?_, fun x hx => ?_⟩, ?_⟩
  · by_cases z : u = v ∧ x = w
    · rw [z.1, z.2]; exact ha
    · rw [pd_st_n (by omega)] at hf
      exact h1 u hu x hx hf
  · have e1 := pd_row_st (f := f) (v := v) (w := w) (y := f (v * 10 + w) + 1) (u := u) h5
    have e2 := h2 u hu
    by_cases z : u = v
    · rw [if_pos z, if_pos z] at e1
      rw [z, pd_st_s]
      rw [z] at e1 e2
      omega
    · rw [if_neg z, if_neg z] at e1
      rw [pd_st_n z]
      omega
  · have e1 := pd_col_st (f := f) (v := v) (w := w) (y := f (v * 10 + w) + 1) (x := x) hv h5 hx
    have e2 := h3 x hx
    by_cases z : x = w
    · rw [if_pos z, if_pos z] at e1
      rw [if_pos z] at e2
      omega
    · rw [if_neg z, if_neg z] at e1
      rw [if_neg z] at e2
      omega
  · have := pd_tt_st (f := f) (v := v) (w := w) (y := f (v * 10 + w) + 1) hv h5
    omega
theorem pd_SI_step {v x v' : Nat} (h : pd_SI T S c ro ri f f0 CI rk n w i) (hv : v < 10) (hc : CI w = some v) (ha : pd_arc T S v w) (hx : x < 10) (hf : 0 < f0 (v * 10 + x)) (hc' : CI x = some v') (hrk : rk v' < rk v) :
    0 < pd_st f (v * 10 + w) (f (v * 10 + w) + 1) (v * 10 + x) ∧ pd_SI T S c ro ri (pd_st (pd_st f (v * 10 + w) (f (v * 10 + w) + 1)) (v * 10 + x) (pd_st f (v * 10 + w) (f (v * 10 + w) + 1) (v * 10 + x) - 1)) f0 CI rk n x (i + 1) := by
  obtain ⟨h1, h2, h3, h4, h5, v0, hv0, hi, hun⟩ := h
  have e0 : v0 = v := Option.some.inj (hv0.symm.trans hc)
  rw [e0] at hi hun
  have hpos : 0 < pd_st f (v * 10 + w) (f (v * 10 + w) + 1) (v * 10 + x) := by
    have := hun v hv (Nat.le_refl _) x hx
    by_cases z : x = w
    · rw [z, pd_st_s]; omega
    · rw [pd_st_n (by omega), this]; exact hf
  generalize hf1 : pd_st f (v * 10 + w) (f (v * 10 + w) + 1) = f1 at hpos ⊢
  refine ⟨hpos, fun u hu y hy hf' => ?_, fun u hu => ?_, fun y hy => ?_, ?_, hx, v', hc', by omega, fun u hu hru y hy => ?_⟩
  · have g1 : 0 < f1 (u * 10 + y) := by
      by_cases z : u = v ∧ y = x
      · rw [z.1, z.2]; exact hpos
      · rw [pd_st_n (by omega)] at hf'; exact hf'
    rw [← hf1] at g1
    by_cases z : u = v ∧ y = w
    · rw [z.1, z.2]; exact ha
    · rw [pd_st_n (by omega)] at g1
      exact h1 u hu y hy g1
  · have a1 := pd_row_st (f := f) (v := v) (w := w) (y := f (v * 10 + w) + 1) (u := u) h5
    have a2 := pd_row_st (f := f1) (v := v) (w := x) (y := f1 (v * 10 + x) - 1) (u := u) hx
    rw [hf1] at a1
    have a3 := h2 u hu
    by_cases z : u = v
    · rw [if_pos z, if_pos z] at a1 a2
      omega
    · rw [if_neg z, if_neg z] at a1 a2
      omega
  · have a1 := pd_col_st (f := f) (v := v) (w := w) (y := f (v * 10 + w) + 1) (x := y) hv h5 hy
    have a2 := pd_col_st (f := f1) (v := v) (w := x) (y := f1 (v * 10 + x) - 1) (x := y) hv hx hy
    rw [hf1] at a1
    have a3 := h3 y hy
    by_cases z : y = w
    · rw [if_pos z, if_pos z] at a1
      rw [if_pos z] at a3
      by_cases zz : y = x
      · rw [if_pos zz, if_pos zz] at a2
        rw [if_pos zz]; omega
      · rw [if_neg zz, if_neg zz] at a2
        rw [if_neg zz]; omega
    · rw [if_neg z, if_neg z] at a1
      rw [if_neg z] at a3
      by_cases zz : y = x
      · rw [if_pos zz, if_pos zz] at a2
        rw [if_pos zz]; omega
      · rw [if_neg zz, if_neg zz] at a2
        rw [if_neg zz]; omega
  · have a1 := pd_tt_st (f := f) (v := v) (w := w) (y := f (v * 10 + w) + 1) hv h5
    have a2 := pd_tt_st (f := f1) (v := v) (w := x) (y := f1 (v * 10 + x) - 1) hv hx
    rw [hf1] at a1
    omega
  · have hne : u ≠ v := fun z => by rw [z] at hru; omega
    rw [pd_st_n (by omega), ← hf1, pd_st_n (by omega)]
    exact hun u hu (by omega) y hy
end PDS
end
section
-- ===== PART A: goes FIRST, ahead of the names: the tables' words, and 'selects' of the private methods out of them =====
/-- a private method of a class that the tables say can be made, by its rows of tables_1 -/
def lw_okq (q : MethodName × Nat) : Prop := (q.1.cls ≠ "java/lang/invoke/MethodHandle" ∧ q.1.cls ≠ "java/lang/invoke/VarHandle") ∧ Cond.instantiable q.1.cls q.2 ∈ tables_1 ∧ Cond.privateMethod q.1 ∈ tables_1 ∧ Cond.instanceMethod q.1 ∈ tables_1
set_option maxRecDepth 100000
theorem lw_t1 {w : Cond} (h : w ∈ tables_1_1) : w ∈ tables_1 := List.mem_append_left _ h
theorem lw_t2 {w : Cond} (h : w ∈ tables_1_2) : w ∈ tables_1 := List.mem_append_right _ h
theorem lw_p0 : lw_okq (⟨"PathCoverDag", "close", "()V"⟩, 13) := ⟨⟨by decide +kernel, by decide +kernel⟩, lw_t1 (List.mem_of_getElem? (i := 4) rfl), lw_t1 (List.mem_of_getElem? (i := 72) rfl), lw_t1 (List.mem_of_getElem? (i := 73) rfl)⟩
theorem lw_p1 : lw_okq (⟨"PathCoverDag", "widthOf", "(I)I"⟩, 13) := ⟨⟨by decide +kernel, by decide +kernel⟩, lw_t1 (List.mem_of_getElem? (i := 4) rfl), lw_t1 (List.mem_of_getElem? (i := 80) rfl), lw_t1 (List.mem_of_getElem? (i := 81) rfl)⟩
theorem lw_p2 : lw_okq (⟨"PathCoverDag", "match", "(IZZ)I"⟩, 13) := ⟨⟨by decide +kernel, by decide +kernel⟩, lw_t1 (List.mem_of_getElem? (i := 4) rfl), lw_t1 (List.mem_of_getElem? (i := 84) rfl), lw_t1 (List.mem_of_getElem? (i := 85) rfl)⟩
theorem lw_p3 : lw_okq (⟨"PathCoverDag", "findWay", "(IZ)I"⟩, 13) := ⟨⟨by decide +kernel, by decide +kernel⟩, lw_t1 (List.mem_of_getElem? (i := 4) rfl), lw_t1 (List.mem_of_getElem? (i := 88) rfl), lw_t1 (List.mem_of_getElem? (i := 89) rfl)⟩
theorem lw_p4 : lw_okq (⟨"PathCoverDag", "targets", "(IZ)I"⟩, 13) := ⟨⟨by decide +kernel, by decide +kernel⟩, lw_t1 (List.mem_of_getElem? (i := 4) rfl), lw_t1 (List.mem_of_getElem? (i := 92) rfl), lw_t1 (List.mem_of_getElem? (i := 93) rfl)⟩
theorem lw_p5 : lw_okq (⟨"PathCoverDag", "goBack", "(II)I"⟩, 13) := ⟨⟨by decide +kernel, by decide +kernel⟩, lw_t1 (List.mem_of_getElem? (i := 4) rfl), lw_t1 (List.mem_of_getElem? (i := 96) rfl), lw_t1 (List.mem_of_getElem? (i := 97) rfl)⟩
theorem lw_p6 : lw_okq (⟨"PathCoverDag", "send", "(I)V"⟩, 13) := ⟨⟨by decide +kernel, by decide +kernel⟩, lw_t1 (List.mem_of_getElem? (i := 4) rfl), lw_t1 (List.mem_of_getElem? (i := 100) rfl), lw_t1 (List.mem_of_getElem? (i := 101) rfl)⟩
theorem lw_p7 : lw_okq (⟨"PathCoverDag", "related", "(I)I"⟩, 13) := ⟨⟨by decide +kernel, by decide +kernel⟩, lw_t1 (List.mem_of_getElem? (i := 4) rfl), lw_t1 (List.mem_of_getElem? (i := 115) rfl), lw_t1 (List.mem_of_getElem? (i := 116) rfl)⟩
theorem lw_p8 : lw_okq (⟨"PathCoverDag", "bestChain", "(Z)I"⟩, 13) := ⟨⟨by decide +kernel, by decide +kernel⟩, lw_t1 (List.mem_of_getElem? (i := 4) rfl), lw_t1 (List.mem_of_getElem? (i := 131) rfl), lw_t1 (List.mem_of_getElem? (i := 132) rfl)⟩
theorem lw_p9 : lw_okq (⟨"PathCoverDag", "countWith", "(I)V"⟩, 13) := ⟨⟨by decide +kernel, by decide +kernel⟩, lw_t1 (List.mem_of_getElem? (i := 4) rfl), lw_t1 (List.mem_of_getElem? (i := 143) rfl), lw_t1 (List.mem_of_getElem? (i := 144) rfl)⟩
theorem lw_p10 : lw_okq (⟨"PathCoverDagModel", "bad", "(I)Z"⟩, 6) := ⟨⟨by decide +kernel, by decide +kernel⟩, lw_t1 (List.mem_of_getElem? (i := 151) rfl), lw_t1 (List.mem_of_getElem? (i := 185) rfl), lw_t1 (List.mem_of_getElem? (i := 186) rfl)⟩
theorem lw_p11 : lw_okq (⟨"PathCoverDagModel", "close", "()V"⟩, 6) := ⟨⟨by decide +kernel, by decide +kernel⟩, lw_t1 (List.mem_of_getElem? (i := 151) rfl), lw_t1 (List.mem_of_getElem? (i := 197) rfl), lw_t1 (List.mem_of_getElem? (i := 198) rfl)⟩
theorem lw_p12 : lw_okq (⟨"PathCoverDagModel", "has", "(II)Z"⟩, 6) := ⟨⟨by decide +kernel, by decide +kernel⟩, lw_t1 (List.mem_of_getElem? (i := 151) rfl), lw_t1 (List.mem_of_getElem? (i := 201) rfl), lw_t1 (List.mem_of_getElem? (i := 202) rfl)⟩
theorem lw_p13 : lw_okq (⟨"PathCoverDagModel", "fewest", "(Z)I"⟩, 6) := ⟨⟨by decide +kernel, by decide +kernel⟩, lw_t1 (List.mem_of_getElem? (i := 151) rfl), lw_t1 (List.mem_of_getElem? (i := 209) rfl), lw_t1 (List.mem_of_getElem? (i := 210) rfl)⟩
theorem lw_p14 : lw_okq (⟨"PathCoverDagModel", "row", "(IZ)Z"⟩, 6) := ⟨⟨by decide +kernel, by decide +kernel⟩, lw_t1 (List.mem_of_getElem? (i := 151) rfl), lw_t1 (List.mem_of_getElem? (i := 213) rfl), lw_t1 (List.mem_of_getElem? (i := 214) rfl)⟩
theorem lw_p15 : lw_okq (⟨"PathCoverDagModel", "anti", "(I)Z"⟩, 6) := ⟨⟨by decide +kernel, by decide +kernel⟩, lw_t1 (List.mem_of_getElem? (i := 151) rfl), lw_t1 (List.mem_of_getElem? (i := 221) rfl), lw_t1 (List.mem_of_getElem? (i := 222) rfl)⟩
def lw_privs_1 : List (MethodName × Nat) := [(⟨"PathCoverDag", "close", "()V"⟩, 13), (⟨"PathCoverDag", "widthOf", "(I)I"⟩, 13), (⟨"PathCoverDag", "match", "(IZZ)I"⟩, 13), (⟨"PathCoverDag", "findWay", "(IZ)I"⟩, 13), (⟨"PathCoverDag", "targets", "(IZ)I"⟩, 13), (⟨"PathCoverDag", "goBack", "(II)I"⟩, 13), (⟨"PathCoverDag", "send", "(I)V"⟩, 13), (⟨"PathCoverDag", "related", "(I)I"⟩, 13), (⟨"PathCoverDag", "bestChain", "(Z)I"⟩, 13), (⟨"PathCoverDag", "countWith", "(I)V"⟩, 13), (⟨"PathCoverDagModel", "bad", "(I)Z"⟩, 6), (⟨"PathCoverDagModel", "close", "()V"⟩, 6), (⟨"PathCoverDagModel", "has", "(II)Z"⟩, 6), (⟨"PathCoverDagModel", "fewest", "(Z)I"⟩, 6), (⟨"PathCoverDagModel", "row", "(IZ)Z"⟩, 6), (⟨"PathCoverDagModel", "anti", "(I)Z"⟩, 6)]
theorem lw_r1 : ∀ q ∈ lw_privs_1, lw_okq q := List.forall_mem_cons.mpr ⟨lw_p0, List.forall_mem_cons.mpr ⟨lw_p1, List.forall_mem_cons.mpr ⟨lw_p2, List.forall_mem_cons.mpr ⟨lw_p3, List.forall_mem_cons.mpr ⟨lw_p4, List.forall_mem_cons.mpr ⟨lw_p5, List.forall_mem_cons.mpr ⟨lw_p6, List.forall_mem_cons.mpr ⟨lw_p7, List.forall_mem_cons.mpr ⟨lw_p8, List.forall_mem_cons.mpr ⟨lw_p9, List.forall_mem_cons.mpr ⟨lw_p10, List.forall_mem_cons.mpr ⟨lw_p11, List.forall_mem_cons.mpr ⟨lw_p12, List.forall_mem_cons.mpr ⟨lw_p13, List.forall_mem_cons.mpr ⟨lw_p14, List.forall_mem_cons.mpr ⟨lw_p15, fun _ h => absurd h List.not_mem_nil⟩⟩⟩⟩⟩⟩⟩⟩⟩⟩⟩⟩⟩⟩⟩⟩
theorem lw_p16 : lw_okq (⟨"PathCoverDagModel", "size", "(I)I"⟩, 6) := ⟨⟨by decide +kernel, by decide +kernel⟩, lw_t1 (List.mem_of_getElem? (i := 151) rfl), lw_t1 (List.mem_of_getElem? (i := 225) rfl), lw_t1 (List.mem_of_getElem? (i := 226) rfl)⟩
theorem lw_p17 : lw_okq (⟨"PathCoverDagModel", "sum", "(I)I"⟩, 6) := ⟨⟨by decide +kernel, by decide +kernel⟩, lw_t1 (List.mem_of_getElem? (i := 151) rfl), lw_t2 (List.mem_of_getElem? (i := 2) rfl), lw_t2 (List.mem_of_getElem? (i := 3) rfl)⟩
theorem lw_p18 : lw_okq (⟨"PathCoverDagModel", "chain", "(I)Z"⟩, 6) := ⟨⟨by decide +kernel, by decide +kernel⟩, lw_t1 (List.mem_of_getElem? (i := 151) rfl), lw_t2 (List.mem_of_getElem? (i := 10) rfl), lw_t2 (List.mem_of_getElem? (i := 11) rfl)⟩
def lw_privs_2 : List (MethodName × Nat) := [(⟨"PathCoverDagModel", "size", "(I)I"⟩, 6), (⟨"PathCoverDagModel", "sum", "(I)I"⟩, 6), (⟨"PathCoverDagModel", "chain", "(I)Z"⟩, 6)]
theorem lw_r2 : ∀ q ∈ lw_privs_2, lw_okq q := List.forall_mem_cons.mpr ⟨lw_p16, List.forall_mem_cons.mpr ⟨lw_p17, List.forall_mem_cons.mpr ⟨lw_p18, fun _ h => absurd h List.not_mem_nil⟩⟩⟩
def lw_privs : List (MethodName × Nat) := lw_privs_1 ++ (lw_privs_2)
def lw_tbl : List Cond := k2_sels lw_privs ++ tables_1
theorem lw_privs_ok : ∀ q ∈ lw_privs, lw_okq q := by
  show ∀ q ∈ lw_privs_1 ++ (lw_privs_2), lw_okq q
  exact List.forall_mem_append.mpr ⟨lw_r1, lw_r2⟩
-- ===== ONE list of words for every method: the tables' words that hold all through a run =====
def lw_all : List Cond := lw_tbl.filter goodWord
/-- a word of the tables by its place: claim/WORDS.tsv -/
theorem lw_w {w : Cond} (i : Nat) (h : lw_tbl[i]? = some w) (g : goodWord w = true) : w ∈ lw_all := List.mem_filter.mpr ⟨List.mem_of_getElem? h, g⟩
theorem lw_all_tbl {w : Cond} (h : w ∈ lw_all) : w ∈ lw_tbl := (List.mem_filter.mp h).1
theorem lw_self : GoodIn lw_all lw_all := fun w h => ⟨h, good_of_word (List.mem_filter.mp h).2⟩
/-- a class's field words, by their places -/
theorem lw_in (ws : List Cond) (ps : List Nat) (hp : ws = ps.filterMap (fun i => lw_tbl[i]?)) (hg : ws.all goodWord = true) : ∀ w ∈ ws, w ∈ lw_all := by
  intro w h
  have h1 := List.all_eq_true.mp hg w h
  rw [hp] at h
  obtain ⟨i, -, hi⟩ := List.mem_filterMap.mp h
  exact lw_w i hi h1
/-- the words of a contract for the method y with code b, L locals, answer r -/
abbrev ws_ (y : MethodName) (b : ByteArray) (L : Nat) (r : Option FieldType) : List Cond := Cond.code y b L r :: lw_all
theorem lw_meth {y : MethodName} {b : ByteArray} {L : Nat} {r : Option FieldType} (h : Cond.code y b L r ∈ lw_all) : GoodIn lw_all (ws_ y b L r) := by
  intro w hw
  rcases List.mem_cons.mp hw with e | e
  · rw [e]
    exact lw_self _ h
  · exact lw_self _ e
theorem lw_app {a c : List Cond} (ha : ∀ w ∈ a, w ∈ lw_all) (hc : GoodIn lw_all c) : GoodIn lw_all (a ++ c) := by
  intro w hw
  rcases List.mem_append.mp hw with e | e
  · exact lw_self w (ha w e)
  · exact hc w e
/-- what a call through an object asks: cwV n hts (lw_V ..) -/
theorem lw_V {own : String} {idx : Nat} {C : String} {y : MethodName} {b : ByteArray} {L : Nat} {r : Option FieldType} (h1 : Cond.methodLink own idx y ∈ lw_all) (h2 : Cond.instanceMethod y ∈ lw_all) (h3 : Cond.selects C y y ∈ lw_all) (h4 : Cond.initialized C ∈ lw_all) (h5 : Cond.code y b L r ∈ lw_all) : GoodIn lw_all (wsV own idx C y (ws_ y b L r)) := by
  refine lw_app ?_ (lw_meth h5)
  intro w hw
  simp only [List.mem_cons, List.not_mem_nil, or_false] at hw
  rcases hw with e | e | e | e
  · rw [e]; exact h1
  · rw [e]; exact h2
  · rw [e]; exact h3
  · rw [e]; exact h4
/-- what a static call asks: va_cwS n hts (lw_S ..) -/
theorem lw_S {own : String} {idx : Nat} {y : MethodName} {b : ByteArray} {L : Nat} {r : Option FieldType} (h1 : Cond.methodLink own idx y ∈ lw_all) (h2 : Cond.static y ∈ lw_all) (h3 : Cond.initialized y.cls ∈ lw_all) (h4 : Cond.code y b L r ∈ lw_all) : GoodIn lw_all (va_wsS own idx y (ws_ y b L r)) := by
  refine lw_app ?_ (lw_meth h4)
  intro w hw
  simp only [List.mem_cons, List.not_mem_nil, or_false] at hw
  rcases hw with e | e | e
  · rw [e]; exact h1
  · rw [e]; exact h2
  · rw [e]; exact h3
/-- the words of a contract for a method WITH HANDLERS (hh: its table) -/
abbrev wsW_ (y : MethodName) (b : ByteArray) (L : Nat) (r : Option FieldType) (hh : List (Nat × Nat × Nat × Nat)) : List Cond := Cond.codeWith y b L r hh :: lw_all
theorem lw_methW {y : MethodName} {b : ByteArray} {L : Nat} {r : Option FieldType} {hh : List (Nat × Nat × Nat × Nat)} (h : Cond.codeWith y b L r hh ∈ lw_all) : GoodIn lw_all (wsW_ y b L r hh) := by
  intro w hw
  rcases List.mem_cons.mp hw with e | e
  · rw [e]
    exact lw_self _ h
  · exact lw_self _ e
/-- any list of words by their places (lw_in), good -/
theorem lw_good {ws : List Cond} (h : ∀ w ∈ ws, w ∈ lw_all) : GoodIn lw_all ws := fun w hw => lw_self w (h w hw)
/-- what a call of a method with handlers asks: vx_cwVW n hts (lw_VW ..), vx_cwSW n hts (lw_SW ..) -/
theorem lw_VW {own : String} {idx : Nat} {C : String} {y : MethodName} {b : ByteArray} {L : Nat} {r : Option FieldType} {hh : List (Nat × Nat × Nat × Nat)} (h1 : Cond.methodLink own idx y ∈ lw_all) (h2 : Cond.instanceMethod y ∈ lw_all) (h3 : Cond.selects C y y ∈ lw_all) (h4 : Cond.initialized C ∈ lw_all) (h5 : Cond.codeWith y b L r hh ∈ lw_all) : GoodIn lw_all (wsV own idx C y (wsW_ y b L r hh)) := by
  refine lw_app ?_ (lw_methW h5)
  intro w hw
  simp only [List.mem_cons, List.not_mem_nil, or_false] at hw
  rcases hw with e | e | e | e
  · rw [e]; exact h1
  · rw [e]; exact h2
  · rw [e]; exact h3
  · rw [e]; exact h4
theorem lw_SW {own : String} {idx : Nat} {y : MethodName} {b : ByteArray} {L : Nat} {r : Option FieldType} {hh : List (Nat × Nat × Nat × Nat)} (h1 : Cond.methodLink own idx y ∈ lw_all) (h2 : Cond.static y ∈ lw_all) (h3 : Cond.initialized y.cls ∈ lw_all) (h4 : Cond.codeWith y b L r hh ∈ lw_all) : GoodIn lw_all (va_wsS own idx y (wsW_ y b L r hh)) := by
  refine lw_app ?_ (lw_methW h4)
  intro w hw
  simp only [List.mem_cons, List.not_mem_nil, or_false] at hw
  rcases hw with e | e | e
  · rw [e]; exact h1
  · rw [e]; exact h2
  · rw [e]; exact h3
/-- a word by its place in its run of the tables -/
theorem lw_at {r : List Cond} (hr : ∀ w ∈ r, w ∈ lw_tbl) {w : Cond} (i : Nat) (h : r[i]? = some w) : w ∈ lw_tbl := hr w (List.mem_of_getElem? h)
theorem lw_g {w : Cond} (h : w ∈ lw_tbl) (g : goodWord w = true) : w ∈ lw_all := List.mem_filter.mpr ⟨h, g⟩
theorem lw_ms : ∀ w ∈ k2_sels lw_privs, w ∈ lw_tbl := fun w h => show w ∈ k2_sels lw_privs ++ tables_1 from List.mem_append_left _ h
theorem lw_m1 : ∀ w ∈ tables_1_1, w ∈ lw_tbl := fun w h => show w ∈ k2_sels lw_privs ++ tables_1 from List.mem_append_right (k2_sels lw_privs) (show w ∈ tables_1 from List.mem_append_left _ h)
theorem lw_m2 : ∀ w ∈ tables_1_2, w ∈ lw_tbl := fun w h => show w ∈ k2_sels lw_privs ++ tables_1 from List.mem_append_right (k2_sels lw_privs) (show w ∈ tables_1 from List.mem_append_right _ h)
theorem qs0 : (Cond.selects "PathCoverDag" ⟨"PathCoverDag", "close", "()V"⟩ ⟨"PathCoverDag", "close", "()V"⟩) ∈ lw_all := lw_g (lw_at lw_ms 0 rfl) rfl
theorem qs1 : (Cond.selects "PathCoverDag" ⟨"PathCoverDag", "widthOf", "(I)I"⟩ ⟨"PathCoverDag", "widthOf", "(I)I"⟩) ∈ lw_all := lw_g (lw_at lw_ms 1 rfl) rfl
theorem qs2 : (Cond.selects "PathCoverDag" ⟨"PathCoverDag", "match", "(IZZ)I"⟩ ⟨"PathCoverDag", "match", "(IZZ)I"⟩) ∈ lw_all := lw_g (lw_at lw_ms 2 rfl) rfl
theorem qs3 : (Cond.selects "PathCoverDag" ⟨"PathCoverDag", "findWay", "(IZ)I"⟩ ⟨"PathCoverDag", "findWay", "(IZ)I"⟩) ∈ lw_all := lw_g (lw_at lw_ms 3 rfl) rfl
theorem qs4 : (Cond.selects "PathCoverDag" ⟨"PathCoverDag", "targets", "(IZ)I"⟩ ⟨"PathCoverDag", "targets", "(IZ)I"⟩) ∈ lw_all := lw_g (lw_at lw_ms 4 rfl) rfl
theorem qs5 : (Cond.selects "PathCoverDag" ⟨"PathCoverDag", "goBack", "(II)I"⟩ ⟨"PathCoverDag", "goBack", "(II)I"⟩) ∈ lw_all := lw_g (lw_at lw_ms 5 rfl) rfl
theorem qs6 : (Cond.selects "PathCoverDag" ⟨"PathCoverDag", "send", "(I)V"⟩ ⟨"PathCoverDag", "send", "(I)V"⟩) ∈ lw_all := lw_g (lw_at lw_ms 6 rfl) rfl
theorem qs7 : (Cond.selects "PathCoverDag" ⟨"PathCoverDag", "related", "(I)I"⟩ ⟨"PathCoverDag", "related", "(I)I"⟩) ∈ lw_all := lw_g (lw_at lw_ms 7 rfl) rfl
theorem qs8 : (Cond.selects "PathCoverDag" ⟨"PathCoverDag", "bestChain", "(Z)I"⟩ ⟨"PathCoverDag", "bestChain", "(Z)I"⟩) ∈ lw_all := lw_g (lw_at lw_ms 8 rfl) rfl
theorem qs9 : (Cond.selects "PathCoverDag" ⟨"PathCoverDag", "countWith", "(I)V"⟩ ⟨"PathCoverDag", "countWith", "(I)V"⟩) ∈ lw_all := lw_g (lw_at lw_ms 9 rfl) rfl
theorem qs10 : (Cond.selects "PathCoverDagModel" ⟨"PathCoverDagModel", "bad", "(I)Z"⟩ ⟨"PathCoverDagModel", "bad", "(I)Z"⟩) ∈ lw_all := lw_g (lw_at lw_ms 10 rfl) rfl
theorem qs11 : (Cond.selects "PathCoverDagModel" ⟨"PathCoverDagModel", "close", "()V"⟩ ⟨"PathCoverDagModel", "close", "()V"⟩) ∈ lw_all := lw_g (lw_at lw_ms 11 rfl) rfl
theorem qs12 : (Cond.selects "PathCoverDagModel" ⟨"PathCoverDagModel", "has", "(II)Z"⟩ ⟨"PathCoverDagModel", "has", "(II)Z"⟩) ∈ lw_all := lw_g (lw_at lw_ms 12 rfl) rfl
theorem qs13 : (Cond.selects "PathCoverDagModel" ⟨"PathCoverDagModel", "fewest", "(Z)I"⟩ ⟨"PathCoverDagModel", "fewest", "(Z)I"⟩) ∈ lw_all := lw_g (lw_at lw_ms 13 rfl) rfl
theorem qs14 : (Cond.selects "PathCoverDagModel" ⟨"PathCoverDagModel", "row", "(IZ)Z"⟩ ⟨"PathCoverDagModel", "row", "(IZ)Z"⟩) ∈ lw_all := lw_g (lw_at lw_ms 14 rfl) rfl
theorem qs15 : (Cond.selects "PathCoverDagModel" ⟨"PathCoverDagModel", "anti", "(I)Z"⟩ ⟨"PathCoverDagModel", "anti", "(I)Z"⟩) ∈ lw_all := lw_g (lw_at lw_ms 15 rfl) rfl
theorem qs16 : (Cond.selects "PathCoverDagModel" ⟨"PathCoverDagModel", "size", "(I)I"⟩ ⟨"PathCoverDagModel", "size", "(I)I"⟩) ∈ lw_all := lw_g (lw_at lw_ms 16 rfl) rfl
theorem qs17 : (Cond.selects "PathCoverDagModel" ⟨"PathCoverDagModel", "sum", "(I)I"⟩ ⟨"PathCoverDagModel", "sum", "(I)I"⟩) ∈ lw_all := lw_g (lw_at lw_ms 17 rfl) rfl
theorem qs18 : (Cond.selects "PathCoverDagModel" ⟨"PathCoverDagModel", "chain", "(I)Z"⟩ ⟨"PathCoverDagModel", "chain", "(I)Z"⟩) ∈ lw_all := lw_g (lw_at lw_ms 18 rfl) rfl
end
section
/-! NAMES: classes, fields, methods, the words by their places (claim/names) -/
set_option maxRecDepth 100000
/-! java/lang/Object -/
def RJ0 : String := "java/lang/Object"
abbrev cJ0_init : ByteArray := object_method_1_code
def yJ0_init : MethodName := ⟨RJ0, "<init>", "()V"⟩
theorem q28 : (Jvm.Cond.instanceMethod ({ cls := "java/lang/Object", name := "<init>", desc := "()V" } : Jvm.MethodName)) ∈ lw_all := lw_g (lw_at lw_m1 9 rfl) rfl
theorem q29 : (Jvm.Cond.code ({ cls := "java/lang/Object", name := "<init>", desc := "()V" } : Jvm.MethodName) object_method_1_code (1 : Nat) (Option.none : Option Jvm.ClassFile.FieldType)) ∈ lw_all := lw_g (lw_at lw_m1 10 rfl) rfl
/-! PathCoverDag -/
def RX0 : String := "PathCoverDag"
def TX0 : u_T := fun k => match k with
  | 0 => ("PathCoverDag", "on", "I", false)
  | 1 => ("PathCoverDag", "weights", "[I", true)
  | 2 => ("PathCoverDag", "edges", "[I", true)
  | 3 => ("PathCoverDag", "closed", "Z", false)
  | 4 => ("PathCoverDag", "higher", "[I", true)
  | 5 => ("PathCoverDag", "counted", "Z", false)
  | 6 => ("PathCoverDag", "within", "[I", true)
  | 7 => ("PathCoverDag", "roomOut", "[I", true)
  | 8 => ("PathCoverDag", "roomIn", "[I", true)
  | 9 => ("PathCoverDag", "flow", "[I", true)
  | 10 => ("PathCoverDag", "cameOut", "[I", true)
  | 11 => ("PathCoverDag", "cameIn", "[I", true)
  | _ => ("PathCoverDag", "queue", "[I", true)
def tyX0 : Nat → FieldType := fun k => match k with
  | 0 => .int
  | 1 => .array .int
  | 2 => .array .int
  | 3 => .boolean
  | 4 => .array .int
  | 5 => .boolean
  | 6 => .array .int
  | 7 => .array .int
  | 8 => .array .int
  | 9 => .array .int
  | 10 => .array .int
  | 11 => .array .int
  | _ => .array .int
abbrev wsX00 : List Cond := u_ws RX0 TX0 13
set_option maxRecDepth 100000 in
theorem nmX0 : ∀ a, a < 13 → ∀ b, b < 13 → a ≠ b → (TX0 a).2.1 ≠ (TX0 b).2.1 := by decide +kernel
set_option maxRecDepth 100000 in
theorem tyX0_ok : ∀ k, k < 13 → parseFieldDescriptor (TX0 k).2.2.1 = some (tyX0 k) := by decide +kernel
abbrev cX0_init : ByteArray := prog_1_method_1_code
def yX0_init : MethodName := ⟨RX0, "<init>", "()V"⟩
abbrev cX0_edge : ByteArray := prog_1_method_3_code
def yX0_edge : MethodName := ⟨RX0, "edge", "(IIZ)I"⟩
abbrev cX0_turn : ByteArray := prog_1_method_4_code
def yX0_turn : MethodName := ⟨RX0, "turn", "(IZ)I"⟩
abbrev cX0_bad : ByteArray := prog_1_method_2_code
def yX0_bad : MethodName := ⟨RX0, "bad", "(I)Z"⟩
abbrev cX0_weight : ByteArray := prog_1_method_5_code
def yX0_weight : MethodName := ⟨RX0, "weight", "(II)I"⟩
abbrev cX0_above : ByteArray := prog_1_method_15_code
def yX0_above : MethodName := ⟨RX0, "above", "(II)Z"⟩
abbrev cX0_close : ByteArray := prog_1_method_6_code
def yX0_close : MethodName := ⟨RX0, "close", "()V"⟩
abbrev cX0_chains : ByteArray := prog_1_method_16_code
def yX0_chains : MethodName := ⟨RX0, "chains", "()I"⟩
abbrev cX0_widthOf : ByteArray := prog_1_method_14_code
def yX0_widthOf : MethodName := ⟨RX0, "widthOf", "(I)I"⟩
abbrev cX0_match : ByteArray := prog_1_method_13_code
def yX0_match : MethodName := ⟨RX0, "match", "(IZZ)I"⟩
abbrev cX0_findWay : ByteArray := prog_1_method_10_code
def yX0_findWay : MethodName := ⟨RX0, "findWay", "(IZ)I"⟩
abbrev cX0_targets : ByteArray := prog_1_method_9_code
def yX0_targets : MethodName := ⟨RX0, "targets", "(IZ)I"⟩
abbrev cX0_goBack : ByteArray := prog_1_method_11_code
def yX0_goBack : MethodName := ⟨RX0, "goBack", "(II)I"⟩
abbrev cX0_send : ByteArray := prog_1_method_12_code
def yX0_send : MethodName := ⟨RX0, "send", "(I)V"⟩
abbrev cX0_bits : ByteArray := prog_1_method_8_code
def yX0_bits : MethodName := ⟨RX0, "bits", "(I)I"⟩
abbrev cX0_width : ByteArray := prog_1_method_17_code
def yX0_width : MethodName := ⟨RX0, "width", "()I"⟩
abbrev cX0_antichain : ByteArray := prog_1_method_18_code
def yX0_antichain : MethodName := ⟨RX0, "antichain", "()I"⟩
abbrev cX0_related : ByteArray := prog_1_method_7_code
def yX0_related : MethodName := ⟨RX0, "related", "(I)I"⟩
abbrev cX0_paths : ByteArray := prog_1_method_19_code
def yX0_paths : MethodName := ⟨RX0, "paths", "()I"⟩
abbrev cX0_heaviest : ByteArray := prog_1_method_20_code
def yX0_heaviest : MethodName := ⟨RX0, "heaviest", "()I"⟩
abbrev cX0_height : ByteArray := prog_1_method_22_code
def yX0_height : MethodName := ⟨RX0, "height", "()I"⟩
abbrev cX0_bestChain : ByteArray := prog_1_method_21_code
def yX0_bestChain : MethodName := ⟨RX0, "bestChain", "(Z)I"⟩
abbrev cX0_heaviestChain : ByteArray := prog_1_method_23_code
def yX0_heaviestChain : MethodName := ⟨RX0, "heaviestChain", "()I"⟩
abbrev cX0_antichains : ByteArray := prog_1_method_24_code
def yX0_antichains : MethodName := ⟨RX0, "antichains", "()I"⟩
abbrev cX0_countWith : ByteArray := prog_1_method_25_code
def yX0_countWith : MethodName := ⟨RX0, "countWith", "(I)V"⟩
abbrev cX0_apart : ByteArray := prog_1_method_26_code
def yX0_apart : MethodName := ⟨RX0, "apart", "()I"⟩
theorem q20 : (Jvm.Cond.initialized "PathCoverDag") ∈ lw_all := lw_g (lw_at lw_m1 1 rfl) rfl
theorem q23 : (Jvm.Cond.instantiable "PathCoverDag" (13 : Nat)) ∈ lw_all := lw_g (lw_at lw_m1 4 rfl) rfl
theorem q25 : (Jvm.Cond.instanceMethod ({ cls := "PathCoverDag", name := "<init>", desc := "()V" } : Jvm.MethodName)) ∈ lw_all := lw_g (lw_at lw_m1 6 rfl) rfl
theorem q26 : (Jvm.Cond.code ({ cls := "PathCoverDag", name := "<init>", desc := "()V" } : Jvm.MethodName) prog_1_method_1_code (2 : Nat) (Option.none : Option Jvm.ClassFile.FieldType)) ∈ lw_all := lw_g (lw_at lw_m1 7 rfl) rfl
theorem q27 : (Jvm.Cond.methodLink "PathCoverDag" (1 : Nat) ({ cls := "java/lang/Object", name := "<init>", desc := "()V" } : Jvm.MethodName)) ∈ lw_all := lw_g (lw_at lw_m1 8 rfl) rfl
theorem q30 : (Jvm.Cond.fieldLink "PathCoverDag" (40 : Nat) "PathCoverDag" "on" "I") ∈ lw_all := lw_g (lw_at lw_m1 11 rfl) rfl
theorem q31 : (Jvm.Cond.fieldLink "PathCoverDag" (7 : Nat) "PathCoverDag" "weights" "[I") ∈ lw_all := lw_g (lw_at lw_m1 12 rfl) rfl
theorem q32 : (Jvm.Cond.fieldLink "PathCoverDag" (13 : Nat) "PathCoverDag" "edges" "[I") ∈ lw_all := lw_g (lw_at lw_m1 13 rfl) rfl
theorem q33 : (Jvm.Cond.fieldLink "PathCoverDag" (44 : Nat) "PathCoverDag" "closed" "Z") ∈ lw_all := lw_g (lw_at lw_m1 14 rfl) rfl
theorem q34 : (Jvm.Cond.fieldLink "PathCoverDag" (16 : Nat) "PathCoverDag" "higher" "[I") ∈ lw_all := lw_g (lw_at lw_m1 15 rfl) rfl
theorem q35 : (Jvm.Cond.fieldLink "PathCoverDag" (48 : Nat) "PathCoverDag" "counted" "Z") ∈ lw_all := lw_g (lw_at lw_m1 16 rfl) rfl
theorem q36 : (Jvm.Cond.fieldLink "PathCoverDag" (19 : Nat) "PathCoverDag" "within" "[I") ∈ lw_all := lw_g (lw_at lw_m1 17 rfl) rfl
theorem q37 : (Jvm.Cond.fieldLink "PathCoverDag" (22 : Nat) "PathCoverDag" "roomOut" "[I") ∈ lw_all := lw_g (lw_at lw_m1 18 rfl) rfl
theorem q38 : (Jvm.Cond.fieldLink "PathCoverDag" (25 : Nat) "PathCoverDag" "roomIn" "[I") ∈ lw_all := lw_g (lw_at lw_m1 19 rfl) rfl
theorem q39 : (Jvm.Cond.fieldLink "PathCoverDag" (28 : Nat) "PathCoverDag" "flow" "[I") ∈ lw_all := lw_g (lw_at lw_m1 20 rfl) rfl
theorem q40 : (Jvm.Cond.fieldLink "PathCoverDag" (31 : Nat) "PathCoverDag" "cameOut" "[I") ∈ lw_all := lw_g (lw_at lw_m1 21 rfl) rfl
theorem q41 : (Jvm.Cond.fieldLink "PathCoverDag" (34 : Nat) "PathCoverDag" "cameIn" "[I") ∈ lw_all := lw_g (lw_at lw_m1 22 rfl) rfl
theorem q42 : (Jvm.Cond.fieldLink "PathCoverDag" (37 : Nat) "PathCoverDag" "queue" "[I") ∈ lw_all := lw_g (lw_at lw_m1 23 rfl) rfl
theorem q43 : (Jvm.Cond.lays "PathCoverDag" "PathCoverDag" "on" "I") ∈ lw_all := lw_g (lw_at lw_m1 24 rfl) rfl
theorem q44 : (Jvm.Cond.soleField "PathCoverDag" "on") ∈ lw_all := lw_g (lw_at lw_m1 25 rfl) rfl
theorem q45 : (Jvm.Cond.laysFinal "PathCoverDag" "PathCoverDag" "weights" "[I") ∈ lw_all := lw_g (lw_at lw_m1 26 rfl) rfl
theorem q46 : (Jvm.Cond.soleField "PathCoverDag" "weights") ∈ lw_all := lw_g (lw_at lw_m1 27 rfl) rfl
theorem q47 : (Jvm.Cond.laysFinal "PathCoverDag" "PathCoverDag" "edges" "[I") ∈ lw_all := lw_g (lw_at lw_m1 28 rfl) rfl
theorem q48 : (Jvm.Cond.soleField "PathCoverDag" "edges") ∈ lw_all := lw_g (lw_at lw_m1 29 rfl) rfl
theorem q49 : (Jvm.Cond.lays "PathCoverDag" "PathCoverDag" "closed" "Z") ∈ lw_all := lw_g (lw_at lw_m1 30 rfl) rfl
theorem q50 : (Jvm.Cond.soleField "PathCoverDag" "closed") ∈ lw_all := lw_g (lw_at lw_m1 31 rfl) rfl
theorem q51 : (Jvm.Cond.laysFinal "PathCoverDag" "PathCoverDag" "higher" "[I") ∈ lw_all := lw_g (lw_at lw_m1 32 rfl) rfl
theorem q52 : (Jvm.Cond.soleField "PathCoverDag" "higher") ∈ lw_all := lw_g (lw_at lw_m1 33 rfl) rfl
theorem q53 : (Jvm.Cond.lays "PathCoverDag" "PathCoverDag" "counted" "Z") ∈ lw_all := lw_g (lw_at lw_m1 34 rfl) rfl
theorem q54 : (Jvm.Cond.soleField "PathCoverDag" "counted") ∈ lw_all := lw_g (lw_at lw_m1 35 rfl) rfl
theorem q55 : (Jvm.Cond.laysFinal "PathCoverDag" "PathCoverDag" "within" "[I") ∈ lw_all := lw_g (lw_at lw_m1 36 rfl) rfl
theorem q56 : (Jvm.Cond.soleField "PathCoverDag" "within") ∈ lw_all := lw_g (lw_at lw_m1 37 rfl) rfl
theorem q57 : (Jvm.Cond.laysFinal "PathCoverDag" "PathCoverDag" "roomOut" "[I") ∈ lw_all := lw_g (lw_at lw_m1 38 rfl) rfl
theorem q58 : (Jvm.Cond.soleField "PathCoverDag" "roomOut") ∈ lw_all := lw_g (lw_at lw_m1 39 rfl) rfl
theorem q59 : (Jvm.Cond.laysFinal "PathCoverDag" "PathCoverDag" "roomIn" "[I") ∈ lw_all := lw_g (lw_at lw_m1 40 rfl) rfl
theorem q60 : (Jvm.Cond.soleField "PathCoverDag" "roomIn") ∈ lw_all := lw_g (lw_at lw_m1 41 rfl) rfl
theorem q61 : (Jvm.Cond.laysFinal "PathCoverDag" "PathCoverDag" "flow" "[I") ∈ lw_all := lw_g (lw_at lw_m1 42 rfl) rfl
theorem q62 : (Jvm.Cond.soleField "PathCoverDag" "flow") ∈ lw_all := lw_g (lw_at lw_m1 43 rfl) rfl
theorem q63 : (Jvm.Cond.laysFinal "PathCoverDag" "PathCoverDag" "cameOut" "[I") ∈ lw_all := lw_g (lw_at lw_m1 44 rfl) rfl
theorem q64 : (Jvm.Cond.soleField "PathCoverDag" "cameOut") ∈ lw_all := lw_g (lw_at lw_m1 45 rfl) rfl
theorem q65 : (Jvm.Cond.laysFinal "PathCoverDag" "PathCoverDag" "cameIn" "[I") ∈ lw_all := lw_g (lw_at lw_m1 46 rfl) rfl
theorem q66 : (Jvm.Cond.soleField "PathCoverDag" "cameIn") ∈ lw_all := lw_g (lw_at lw_m1 47 rfl) rfl
theorem q67 : (Jvm.Cond.laysFinal "PathCoverDag" "PathCoverDag" "queue" "[I") ∈ lw_all := lw_g (lw_at lw_m1 48 rfl) rfl
theorem q68 : (Jvm.Cond.soleField "PathCoverDag" "queue") ∈ lw_all := lw_g (lw_at lw_m1 49 rfl) rfl
theorem q69 : (Jvm.Cond.superclass "PathCoverDag" "java/lang/Object") ∈ lw_all := lw_g (lw_at lw_m1 50 rfl) rfl
theorem q72 : (Jvm.Cond.instanceMethod ({ cls := "PathCoverDag", name := "edge", desc := "(IIZ)I" } : Jvm.MethodName)) ∈ lw_all := lw_g (lw_at lw_m1 53 rfl) rfl
theorem q73 : (Jvm.Cond.selects "PathCoverDag" ({ cls := "PathCoverDag", name := "edge", desc := "(IIZ)I" } : Jvm.MethodName) ({ cls := "PathCoverDag", name := "edge", desc := "(IIZ)I" } : Jvm.MethodName)) ∈ lw_all := lw_g (lw_at lw_m1 54 rfl) rfl
theorem q74 : (Jvm.Cond.code ({ cls := "PathCoverDag", name := "edge", desc := "(IIZ)I" } : Jvm.MethodName) prog_1_method_3_code (5 : Nat) (Option.some Jvm.ClassFile.FieldType.int)) ∈ lw_all := lw_g (lw_at lw_m1 55 rfl) rfl
theorem q76 : (Jvm.Cond.instanceMethod ({ cls := "PathCoverDag", name := "turn", desc := "(IZ)I" } : Jvm.MethodName)) ∈ lw_all := lw_g (lw_at lw_m1 57 rfl) rfl
theorem q77 : (Jvm.Cond.selects "PathCoverDag" ({ cls := "PathCoverDag", name := "turn", desc := "(IZ)I" } : Jvm.MethodName) ({ cls := "PathCoverDag", name := "turn", desc := "(IZ)I" } : Jvm.MethodName)) ∈ lw_all := lw_g (lw_at lw_m1 58 rfl) rfl
theorem q78 : (Jvm.Cond.code ({ cls := "PathCoverDag", name := "turn", desc := "(IZ)I" } : Jvm.MethodName) prog_1_method_4_code (4 : Nat) (Option.some Jvm.ClassFile.FieldType.int)) ∈ lw_all := lw_g (lw_at lw_m1 59 rfl) rfl
theorem q79 : (Jvm.Cond.methodLink "PathCoverDag" (51 : Nat) ({ cls := "PathCoverDag", name := "bad", desc := "(I)Z" } : Jvm.MethodName)) ∈ lw_all := lw_g (lw_at lw_m1 60 rfl) rfl
theorem q80 : (Jvm.Cond.static ({ cls := "PathCoverDag", name := "bad", desc := "(I)Z" } : Jvm.MethodName)) ∈ lw_all := lw_g (lw_at lw_m1 61 rfl) rfl
theorem q81 : (Jvm.Cond.code ({ cls := "PathCoverDag", name := "bad", desc := "(I)Z" } : Jvm.MethodName) prog_1_method_2_code (1 : Nat) (Option.some Jvm.ClassFile.FieldType.boolean)) ∈ lw_all := lw_g (lw_at lw_m1 62 rfl) rfl
theorem q83 : (Jvm.Cond.instanceMethod ({ cls := "PathCoverDag", name := "weight", desc := "(II)I" } : Jvm.MethodName)) ∈ lw_all := lw_g (lw_at lw_m1 64 rfl) rfl
theorem q84 : (Jvm.Cond.selects "PathCoverDag" ({ cls := "PathCoverDag", name := "weight", desc := "(II)I" } : Jvm.MethodName) ({ cls := "PathCoverDag", name := "weight", desc := "(II)I" } : Jvm.MethodName)) ∈ lw_all := lw_g (lw_at lw_m1 65 rfl) rfl
theorem q85 : (Jvm.Cond.code ({ cls := "PathCoverDag", name := "weight", desc := "(II)I" } : Jvm.MethodName) prog_1_method_5_code (4 : Nat) (Option.some Jvm.ClassFile.FieldType.int)) ∈ lw_all := lw_g (lw_at lw_m1 66 rfl) rfl
theorem q87 : (Jvm.Cond.instanceMethod ({ cls := "PathCoverDag", name := "above", desc := "(II)Z" } : Jvm.MethodName)) ∈ lw_all := lw_g (lw_at lw_m1 68 rfl) rfl
theorem q88 : (Jvm.Cond.selects "PathCoverDag" ({ cls := "PathCoverDag", name := "above", desc := "(II)Z" } : Jvm.MethodName) ({ cls := "PathCoverDag", name := "above", desc := "(II)Z" } : Jvm.MethodName)) ∈ lw_all := lw_g (lw_at lw_m1 69 rfl) rfl
theorem q89 : (Jvm.Cond.code ({ cls := "PathCoverDag", name := "above", desc := "(II)Z" } : Jvm.MethodName) prog_1_method_15_code (3 : Nat) (Option.some Jvm.ClassFile.FieldType.boolean)) ∈ lw_all := lw_g (lw_at lw_m1 70 rfl) rfl
theorem q90 : (Jvm.Cond.methodLink "PathCoverDag" (63 : Nat) ({ cls := "PathCoverDag", name := "close", desc := "()V" } : Jvm.MethodName)) ∈ lw_all := lw_g (lw_at lw_m1 71 rfl) rfl
theorem q91 : (Jvm.Cond.privateMethod ({ cls := "PathCoverDag", name := "close", desc := "()V" } : Jvm.MethodName)) ∈ lw_tbl := lw_at lw_m1 72 rfl
theorem q92 : (Jvm.Cond.instanceMethod ({ cls := "PathCoverDag", name := "close", desc := "()V" } : Jvm.MethodName)) ∈ lw_all := lw_g (lw_at lw_m1 73 rfl) rfl
theorem q93 : (Jvm.Cond.code ({ cls := "PathCoverDag", name := "close", desc := "()V" } : Jvm.MethodName) prog_1_method_6_code (4 : Nat) (Option.none : Option Jvm.ClassFile.FieldType)) ∈ lw_all := lw_g (lw_at lw_m1 74 rfl) rfl
theorem q95 : (Jvm.Cond.instanceMethod ({ cls := "PathCoverDag", name := "chains", desc := "()I" } : Jvm.MethodName)) ∈ lw_all := lw_g (lw_at lw_m1 76 rfl) rfl
theorem q96 : (Jvm.Cond.selects "PathCoverDag" ({ cls := "PathCoverDag", name := "chains", desc := "()I" } : Jvm.MethodName) ({ cls := "PathCoverDag", name := "chains", desc := "()I" } : Jvm.MethodName)) ∈ lw_all := lw_g (lw_at lw_m1 77 rfl) rfl
theorem q97 : (Jvm.Cond.code ({ cls := "PathCoverDag", name := "chains", desc := "()I" } : Jvm.MethodName) prog_1_method_16_code (1 : Nat) (Option.some Jvm.ClassFile.FieldType.int)) ∈ lw_all := lw_g (lw_at lw_m1 78 rfl) rfl
theorem q98 : (Jvm.Cond.methodLink "PathCoverDag" (81 : Nat) ({ cls := "PathCoverDag", name := "widthOf", desc := "(I)I" } : Jvm.MethodName)) ∈ lw_all := lw_g (lw_at lw_m1 79 rfl) rfl
theorem q99 : (Jvm.Cond.privateMethod ({ cls := "PathCoverDag", name := "widthOf", desc := "(I)I" } : Jvm.MethodName)) ∈ lw_tbl := lw_at lw_m1 80 rfl
theorem q100 : (Jvm.Cond.instanceMethod ({ cls := "PathCoverDag", name := "widthOf", desc := "(I)I" } : Jvm.MethodName)) ∈ lw_all := lw_g (lw_at lw_m1 81 rfl) rfl
theorem q101 : (Jvm.Cond.code ({ cls := "PathCoverDag", name := "widthOf", desc := "(I)I" } : Jvm.MethodName) prog_1_method_14_code (3 : Nat) (Option.some Jvm.ClassFile.FieldType.int)) ∈ lw_all := lw_g (lw_at lw_m1 82 rfl) rfl
theorem q102 : (Jvm.Cond.methodLink "PathCoverDag" (73 : Nat) ({ cls := "PathCoverDag", name := "match", desc := "(IZZ)I" } : Jvm.MethodName)) ∈ lw_all := lw_g (lw_at lw_m1 83 rfl) rfl
theorem q103 : (Jvm.Cond.privateMethod ({ cls := "PathCoverDag", name := "match", desc := "(IZZ)I" } : Jvm.MethodName)) ∈ lw_tbl := lw_at lw_m1 84 rfl
theorem q104 : (Jvm.Cond.instanceMethod ({ cls := "PathCoverDag", name := "match", desc := "(IZZ)I" } : Jvm.MethodName)) ∈ lw_all := lw_g (lw_at lw_m1 85 rfl) rfl
theorem q105 : (Jvm.Cond.code ({ cls := "PathCoverDag", name := "match", desc := "(IZZ)I" } : Jvm.MethodName) prog_1_method_13_code (7 : Nat) (Option.some Jvm.ClassFile.FieldType.int)) ∈ lw_all := lw_g (lw_at lw_m1 86 rfl) rfl
theorem q106 : (Jvm.Cond.methodLink "PathCoverDag" (66 : Nat) ({ cls := "PathCoverDag", name := "findWay", desc := "(IZ)I" } : Jvm.MethodName)) ∈ lw_all := lw_g (lw_at lw_m1 87 rfl) rfl
theorem q107 : (Jvm.Cond.privateMethod ({ cls := "PathCoverDag", name := "findWay", desc := "(IZ)I" } : Jvm.MethodName)) ∈ lw_tbl := lw_at lw_m1 88 rfl
theorem q108 : (Jvm.Cond.instanceMethod ({ cls := "PathCoverDag", name := "findWay", desc := "(IZ)I" } : Jvm.MethodName)) ∈ lw_all := lw_g (lw_at lw_m1 89 rfl) rfl
theorem q109 : (Jvm.Cond.code ({ cls := "PathCoverDag", name := "findWay", desc := "(IZ)I" } : Jvm.MethodName) prog_1_method_10_code (8 : Nat) (Option.some Jvm.ClassFile.FieldType.int)) ∈ lw_all := lw_g (lw_at lw_m1 90 rfl) rfl
theorem q110 : (Jvm.Cond.methodLink "PathCoverDag" (55 : Nat) ({ cls := "PathCoverDag", name := "targets", desc := "(IZ)I" } : Jvm.MethodName)) ∈ lw_all := lw_g (lw_at lw_m1 91 rfl) rfl
theorem q111 : (Jvm.Cond.privateMethod ({ cls := "PathCoverDag", name := "targets", desc := "(IZ)I" } : Jvm.MethodName)) ∈ lw_tbl := lw_at lw_m1 92 rfl
theorem q112 : (Jvm.Cond.instanceMethod ({ cls := "PathCoverDag", name := "targets", desc := "(IZ)I" } : Jvm.MethodName)) ∈ lw_all := lw_g (lw_at lw_m1 93 rfl) rfl
theorem q113 : (Jvm.Cond.code ({ cls := "PathCoverDag", name := "targets", desc := "(IZ)I" } : Jvm.MethodName) prog_1_method_9_code (3 : Nat) (Option.some Jvm.ClassFile.FieldType.int)) ∈ lw_all := lw_g (lw_at lw_m1 94 rfl) rfl
theorem q114 : (Jvm.Cond.methodLink "PathCoverDag" (59 : Nat) ({ cls := "PathCoverDag", name := "goBack", desc := "(II)I" } : Jvm.MethodName)) ∈ lw_all := lw_g (lw_at lw_m1 95 rfl) rfl
theorem q115 : (Jvm.Cond.privateMethod ({ cls := "PathCoverDag", name := "goBack", desc := "(II)I" } : Jvm.MethodName)) ∈ lw_tbl := lw_at lw_m1 96 rfl
theorem q116 : (Jvm.Cond.instanceMethod ({ cls := "PathCoverDag", name := "goBack", desc := "(II)I" } : Jvm.MethodName)) ∈ lw_all := lw_g (lw_at lw_m1 97 rfl) rfl
theorem q117 : (Jvm.Cond.code ({ cls := "PathCoverDag", name := "goBack", desc := "(II)I" } : Jvm.MethodName) prog_1_method_11_code (5 : Nat) (Option.some Jvm.ClassFile.FieldType.int)) ∈ lw_all := lw_g (lw_at lw_m1 98 rfl) rfl
theorem q118 : (Jvm.Cond.methodLink "PathCoverDag" (69 : Nat) ({ cls := "PathCoverDag", name := "send", desc := "(I)V" } : Jvm.MethodName)) ∈ lw_all := lw_g (lw_at lw_m1 99 rfl) rfl
theorem q119 : (Jvm.Cond.privateMethod ({ cls := "PathCoverDag", name := "send", desc := "(I)V" } : Jvm.MethodName)) ∈ lw_tbl := lw_at lw_m1 100 rfl
theorem q120 : (Jvm.Cond.instanceMethod ({ cls := "PathCoverDag", name := "send", desc := "(I)V" } : Jvm.MethodName)) ∈ lw_all := lw_g (lw_at lw_m1 101 rfl) rfl
theorem q121 : (Jvm.Cond.code ({ cls := "PathCoverDag", name := "send", desc := "(I)V" } : Jvm.MethodName) prog_1_method_12_code (5 : Nat) (Option.none : Option Jvm.ClassFile.FieldType)) ∈ lw_all := lw_g (lw_at lw_m1 102 rfl) rfl
theorem q122 : (Jvm.Cond.methodLink "PathCoverDag" (77 : Nat) ({ cls := "PathCoverDag", name := "bits", desc := "(I)I" } : Jvm.MethodName)) ∈ lw_all := lw_g (lw_at lw_m1 103 rfl) rfl
theorem q123 : (Jvm.Cond.static ({ cls := "PathCoverDag", name := "bits", desc := "(I)I" } : Jvm.MethodName)) ∈ lw_all := lw_g (lw_at lw_m1 104 rfl) rfl
theorem q124 : (Jvm.Cond.code ({ cls := "PathCoverDag", name := "bits", desc := "(I)I" } : Jvm.MethodName) prog_1_method_8_code (3 : Nat) (Option.some Jvm.ClassFile.FieldType.int)) ∈ lw_all := lw_g (lw_at lw_m1 105 rfl) rfl
theorem q126 : (Jvm.Cond.instanceMethod ({ cls := "PathCoverDag", name := "width", desc := "()I" } : Jvm.MethodName)) ∈ lw_all := lw_g (lw_at lw_m1 107 rfl) rfl
theorem q127 : (Jvm.Cond.selects "PathCoverDag" ({ cls := "PathCoverDag", name := "width", desc := "()I" } : Jvm.MethodName) ({ cls := "PathCoverDag", name := "width", desc := "()I" } : Jvm.MethodName)) ∈ lw_all := lw_g (lw_at lw_m1 108 rfl) rfl
theorem q128 : (Jvm.Cond.code ({ cls := "PathCoverDag", name := "width", desc := "()I" } : Jvm.MethodName) prog_1_method_17_code (1 : Nat) (Option.some Jvm.ClassFile.FieldType.int)) ∈ lw_all := lw_g (lw_at lw_m1 109 rfl) rfl
theorem q130 : (Jvm.Cond.instanceMethod ({ cls := "PathCoverDag", name := "antichain", desc := "()I" } : Jvm.MethodName)) ∈ lw_all := lw_g (lw_at lw_m1 111 rfl) rfl
theorem q131 : (Jvm.Cond.selects "PathCoverDag" ({ cls := "PathCoverDag", name := "antichain", desc := "()I" } : Jvm.MethodName) ({ cls := "PathCoverDag", name := "antichain", desc := "()I" } : Jvm.MethodName)) ∈ lw_all := lw_g (lw_at lw_m1 112 rfl) rfl
theorem q132 : (Jvm.Cond.code ({ cls := "PathCoverDag", name := "antichain", desc := "()I" } : Jvm.MethodName) prog_1_method_18_code (6 : Nat) (Option.some Jvm.ClassFile.FieldType.int)) ∈ lw_all := lw_g (lw_at lw_m1 113 rfl) rfl
theorem q133 : (Jvm.Cond.methodLink "PathCoverDag" (84 : Nat) ({ cls := "PathCoverDag", name := "related", desc := "(I)I" } : Jvm.MethodName)) ∈ lw_all := lw_g (lw_at lw_m1 114 rfl) rfl
theorem q134 : (Jvm.Cond.privateMethod ({ cls := "PathCoverDag", name := "related", desc := "(I)I" } : Jvm.MethodName)) ∈ lw_tbl := lw_at lw_m1 115 rfl
theorem q135 : (Jvm.Cond.instanceMethod ({ cls := "PathCoverDag", name := "related", desc := "(I)I" } : Jvm.MethodName)) ∈ lw_all := lw_g (lw_at lw_m1 116 rfl) rfl
theorem q136 : (Jvm.Cond.code ({ cls := "PathCoverDag", name := "related", desc := "(I)I" } : Jvm.MethodName) prog_1_method_7_code (4 : Nat) (Option.some Jvm.ClassFile.FieldType.int)) ∈ lw_all := lw_g (lw_at lw_m1 117 rfl) rfl
theorem q138 : (Jvm.Cond.instanceMethod ({ cls := "PathCoverDag", name := "paths", desc := "()I" } : Jvm.MethodName)) ∈ lw_all := lw_g (lw_at lw_m1 119 rfl) rfl
theorem q139 : (Jvm.Cond.selects "PathCoverDag" ({ cls := "PathCoverDag", name := "paths", desc := "()I" } : Jvm.MethodName) ({ cls := "PathCoverDag", name := "paths", desc := "()I" } : Jvm.MethodName)) ∈ lw_all := lw_g (lw_at lw_m1 120 rfl) rfl
theorem q140 : (Jvm.Cond.code ({ cls := "PathCoverDag", name := "paths", desc := "()I" } : Jvm.MethodName) prog_1_method_19_code (2 : Nat) (Option.some Jvm.ClassFile.FieldType.int)) ∈ lw_all := lw_g (lw_at lw_m1 121 rfl) rfl
theorem q142 : (Jvm.Cond.instanceMethod ({ cls := "PathCoverDag", name := "heaviest", desc := "()I" } : Jvm.MethodName)) ∈ lw_all := lw_g (lw_at lw_m1 123 rfl) rfl
theorem q143 : (Jvm.Cond.selects "PathCoverDag" ({ cls := "PathCoverDag", name := "heaviest", desc := "()I" } : Jvm.MethodName) ({ cls := "PathCoverDag", name := "heaviest", desc := "()I" } : Jvm.MethodName)) ∈ lw_all := lw_g (lw_at lw_m1 124 rfl) rfl
theorem q144 : (Jvm.Cond.code ({ cls := "PathCoverDag", name := "heaviest", desc := "()I" } : Jvm.MethodName) prog_1_method_20_code (4 : Nat) (Option.some Jvm.ClassFile.FieldType.int)) ∈ lw_all := lw_g (lw_at lw_m1 125 rfl) rfl
theorem q146 : (Jvm.Cond.instanceMethod ({ cls := "PathCoverDag", name := "height", desc := "()I" } : Jvm.MethodName)) ∈ lw_all := lw_g (lw_at lw_m1 127 rfl) rfl
theorem q147 : (Jvm.Cond.selects "PathCoverDag" ({ cls := "PathCoverDag", name := "height", desc := "()I" } : Jvm.MethodName) ({ cls := "PathCoverDag", name := "height", desc := "()I" } : Jvm.MethodName)) ∈ lw_all := lw_g (lw_at lw_m1 128 rfl) rfl
theorem q148 : (Jvm.Cond.code ({ cls := "PathCoverDag", name := "height", desc := "()I" } : Jvm.MethodName) prog_1_method_22_code (1 : Nat) (Option.some Jvm.ClassFile.FieldType.int)) ∈ lw_all := lw_g (lw_at lw_m1 129 rfl) rfl
theorem q149 : (Jvm.Cond.methodLink "PathCoverDag" (87 : Nat) ({ cls := "PathCoverDag", name := "bestChain", desc := "(Z)I" } : Jvm.MethodName)) ∈ lw_all := lw_g (lw_at lw_m1 130 rfl) rfl
theorem q150 : (Jvm.Cond.privateMethod ({ cls := "PathCoverDag", name := "bestChain", desc := "(Z)I" } : Jvm.MethodName)) ∈ lw_tbl := lw_at lw_m1 131 rfl
theorem q151 : (Jvm.Cond.instanceMethod ({ cls := "PathCoverDag", name := "bestChain", desc := "(Z)I" } : Jvm.MethodName)) ∈ lw_all := lw_g (lw_at lw_m1 132 rfl) rfl
theorem q152 : (Jvm.Cond.code ({ cls := "PathCoverDag", name := "bestChain", desc := "(Z)I" } : Jvm.MethodName) prog_1_method_21_code (7 : Nat) (Option.some Jvm.ClassFile.FieldType.int)) ∈ lw_all := lw_g (lw_at lw_m1 133 rfl) rfl
theorem q154 : (Jvm.Cond.instanceMethod ({ cls := "PathCoverDag", name := "heaviestChain", desc := "()I" } : Jvm.MethodName)) ∈ lw_all := lw_g (lw_at lw_m1 135 rfl) rfl
theorem q155 : (Jvm.Cond.selects "PathCoverDag" ({ cls := "PathCoverDag", name := "heaviestChain", desc := "()I" } : Jvm.MethodName) ({ cls := "PathCoverDag", name := "heaviestChain", desc := "()I" } : Jvm.MethodName)) ∈ lw_all := lw_g (lw_at lw_m1 136 rfl) rfl
theorem q156 : (Jvm.Cond.code ({ cls := "PathCoverDag", name := "heaviestChain", desc := "()I" } : Jvm.MethodName) prog_1_method_23_code (1 : Nat) (Option.some Jvm.ClassFile.FieldType.int)) ∈ lw_all := lw_g (lw_at lw_m1 137 rfl) rfl
theorem q158 : (Jvm.Cond.instanceMethod ({ cls := "PathCoverDag", name := "antichains", desc := "()I" } : Jvm.MethodName)) ∈ lw_all := lw_g (lw_at lw_m1 139 rfl) rfl
theorem q159 : (Jvm.Cond.selects "PathCoverDag" ({ cls := "PathCoverDag", name := "antichains", desc := "()I" } : Jvm.MethodName) ({ cls := "PathCoverDag", name := "antichains", desc := "()I" } : Jvm.MethodName)) ∈ lw_all := lw_g (lw_at lw_m1 140 rfl) rfl
theorem q160 : (Jvm.Cond.code ({ cls := "PathCoverDag", name := "antichains", desc := "()I" } : Jvm.MethodName) prog_1_method_24_code (2 : Nat) (Option.some Jvm.ClassFile.FieldType.int)) ∈ lw_all := lw_g (lw_at lw_m1 141 rfl) rfl
theorem q161 : (Jvm.Cond.methodLink "PathCoverDag" (91 : Nat) ({ cls := "PathCoverDag", name := "countWith", desc := "(I)V" } : Jvm.MethodName)) ∈ lw_all := lw_g (lw_at lw_m1 142 rfl) rfl
theorem q162 : (Jvm.Cond.privateMethod ({ cls := "PathCoverDag", name := "countWith", desc := "(I)V" } : Jvm.MethodName)) ∈ lw_tbl := lw_at lw_m1 143 rfl
theorem q163 : (Jvm.Cond.instanceMethod ({ cls := "PathCoverDag", name := "countWith", desc := "(I)V" } : Jvm.MethodName)) ∈ lw_all := lw_g (lw_at lw_m1 144 rfl) rfl
theorem q164 : (Jvm.Cond.code ({ cls := "PathCoverDag", name := "countWith", desc := "(I)V" } : Jvm.MethodName) prog_1_method_25_code (4 : Nat) (Option.none : Option Jvm.ClassFile.FieldType)) ∈ lw_all := lw_g (lw_at lw_m1 145 rfl) rfl
theorem q166 : (Jvm.Cond.instanceMethod ({ cls := "PathCoverDag", name := "apart", desc := "()I" } : Jvm.MethodName)) ∈ lw_all := lw_g (lw_at lw_m1 147 rfl) rfl
theorem q167 : (Jvm.Cond.selects "PathCoverDag" ({ cls := "PathCoverDag", name := "apart", desc := "()I" } : Jvm.MethodName) ({ cls := "PathCoverDag", name := "apart", desc := "()I" } : Jvm.MethodName)) ∈ lw_all := lw_g (lw_at lw_m1 148 rfl) rfl
theorem q168 : (Jvm.Cond.code ({ cls := "PathCoverDag", name := "apart", desc := "()I" } : Jvm.MethodName) prog_1_method_26_code (5 : Nat) (Option.some Jvm.ClassFile.FieldType.int)) ∈ lw_all := lw_g (lw_at lw_m1 149 rfl) rfl
theorem in_X0 : ∀ w ∈ wsX00, w ∈ lw_all := lw_in wsX00 [43, 45, 47, 49, 51, 53, 55, 57, 59, 61, 63, 65, 67] (by decide +kernel) (by decide +kernel)
/-! PathCoverDagModel -/
def RX1 : String := "PathCoverDagModel"
def TX1 : u_T := fun k => match k with
  | 0 => ("PathCoverDagModel", "edges", "[I", true)
  | 1 => ("PathCoverDagModel", "ups", "[I", true)
  | 2 => ("PathCoverDagModel", "weights", "[I", true)
  | 3 => ("PathCoverDagModel", "on", "I", false)
  | 4 => ("PathCoverDagModel", "single", "[Z", true)
  | _ => ("PathCoverDagModel", "need", "[I", true)
def tyX1 : Nat → FieldType := fun k => match k with
  | 0 => .array .int
  | 1 => .array .int
  | 2 => .array .int
  | 3 => .int
  | 4 => .array .boolean
  | _ => .array .int
abbrev wsX10 : List Cond := u_ws RX1 TX1 6
theorem nmX1 : ∀ a, a < 6 → ∀ b, b < 6 → a ≠ b → (TX1 a).2.1 ≠ (TX1 b).2.1 := by decide +kernel
theorem tyX1_ok : ∀ k, k < 6 → parseFieldDescriptor (TX1 k).2.2.1 = some (tyX1 k) := by decide +kernel
abbrev cX1_init : ByteArray := prog_3_method_1_code
def yX1_init : MethodName := ⟨RX1, "<init>", "()V"⟩
abbrev cX1_edge : ByteArray := prog_3_method_3_code
def yX1_edge : MethodName := ⟨RX1, "edge", "(IIZ)I"⟩
abbrev cX1_turn : ByteArray := prog_3_method_4_code
def yX1_turn : MethodName := ⟨RX1, "turn", "(IZ)I"⟩
abbrev cX1_bad : ByteArray := prog_3_method_2_code
def yX1_bad : MethodName := ⟨RX1, "bad", "(I)Z"⟩
abbrev cX1_weight : ByteArray := prog_3_method_5_code
def yX1_weight : MethodName := ⟨RX1, "weight", "(II)I"⟩
abbrev cX1_above : ByteArray := prog_3_method_8_code
def yX1_above : MethodName := ⟨RX1, "above", "(II)Z"⟩
abbrev cX1_close : ByteArray := prog_3_method_7_code
def yX1_close : MethodName := ⟨RX1, "close", "()V"⟩
abbrev cX1_has : ByteArray := prog_3_method_6_code
def yX1_has : MethodName := ⟨RX1, "has", "(II)Z"⟩
abbrev cX1_chains : ByteArray := prog_3_method_14_code
def yX1_chains : MethodName := ⟨RX1, "chains", "()I"⟩
abbrev cX1_fewest : ByteArray := prog_3_method_13_code
def yX1_fewest : MethodName := ⟨RX1, "fewest", "(Z)I"⟩
abbrev cX1_row : ByteArray := prog_3_method_12_code
def yX1_row : MethodName := ⟨RX1, "row", "(IZ)Z"⟩
abbrev cX1_width : ByteArray := prog_3_method_15_code
def yX1_width : MethodName := ⟨RX1, "width", "()I"⟩
abbrev cX1_anti : ByteArray := prog_3_method_9_code
def yX1_anti : MethodName := ⟨RX1, "anti", "(I)Z"⟩
abbrev cX1_size : ByteArray := prog_3_method_10_code
def yX1_size : MethodName := ⟨RX1, "size", "(I)I"⟩
abbrev cX1_antichain : ByteArray := prog_3_method_16_code
def yX1_antichain : MethodName := ⟨RX1, "antichain", "()I"⟩
abbrev cX1_paths : ByteArray := prog_3_method_17_code
def yX1_paths : MethodName := ⟨RX1, "paths", "()I"⟩
abbrev cX1_heaviest : ByteArray := prog_3_method_18_code
def yX1_heaviest : MethodName := ⟨RX1, "heaviest", "()I"⟩
abbrev cX1_sum : ByteArray := prog_3_method_11_code
def yX1_sum : MethodName := ⟨RX1, "sum", "(I)I"⟩
abbrev cX1_height : ByteArray := prog_3_method_20_code
def yX1_height : MethodName := ⟨RX1, "height", "()I"⟩
abbrev cX1_chain : ByteArray := prog_3_method_19_code
def yX1_chain : MethodName := ⟨RX1, "chain", "(I)Z"⟩
abbrev cX1_heaviestChain : ByteArray := prog_3_method_21_code
def yX1_heaviestChain : MethodName := ⟨RX1, "heaviestChain", "()I"⟩
abbrev cX1_antichains : ByteArray := prog_3_method_22_code
def yX1_antichains : MethodName := ⟨RX1, "antichains", "()I"⟩
abbrev cX1_apart : ByteArray := prog_3_method_23_code
def yX1_apart : MethodName := ⟨RX1, "apart", "()I"⟩
theorem q21 : (Jvm.Cond.initialized "PathCoverDagModel") ∈ lw_all := lw_g (lw_at lw_m1 2 rfl) rfl
theorem q170 : (Jvm.Cond.instantiable "PathCoverDagModel" (6 : Nat)) ∈ lw_all := lw_g (lw_at lw_m1 151 rfl) rfl
theorem q172 : (Jvm.Cond.instanceMethod ({ cls := "PathCoverDagModel", name := "<init>", desc := "()V" } : Jvm.MethodName)) ∈ lw_all := lw_g (lw_at lw_m1 153 rfl) rfl
theorem q173 : (Jvm.Cond.code ({ cls := "PathCoverDagModel", name := "<init>", desc := "()V" } : Jvm.MethodName) prog_3_method_1_code (2 : Nat) (Option.none : Option Jvm.ClassFile.FieldType)) ∈ lw_all := lw_g (lw_at lw_m1 154 rfl) rfl
theorem q174 : (Jvm.Cond.methodLink "PathCoverDagModel" (1 : Nat) ({ cls := "java/lang/Object", name := "<init>", desc := "()V" } : Jvm.MethodName)) ∈ lw_all := lw_g (lw_at lw_m1 155 rfl) rfl
theorem q175 : (Jvm.Cond.fieldLink "PathCoverDagModel" (7 : Nat) "PathCoverDagModel" "edges" "[I") ∈ lw_all := lw_g (lw_at lw_m1 156 rfl) rfl
theorem q176 : (Jvm.Cond.fieldLink "PathCoverDagModel" (13 : Nat) "PathCoverDagModel" "ups" "[I") ∈ lw_all := lw_g (lw_at lw_m1 157 rfl) rfl
theorem q177 : (Jvm.Cond.fieldLink "PathCoverDagModel" (16 : Nat) "PathCoverDagModel" "weights" "[I") ∈ lw_all := lw_g (lw_at lw_m1 158 rfl) rfl
theorem q178 : (Jvm.Cond.fieldLink "PathCoverDagModel" (26 : Nat) "PathCoverDagModel" "on" "I") ∈ lw_all := lw_g (lw_at lw_m1 159 rfl) rfl
theorem q179 : (Jvm.Cond.fieldLink "PathCoverDagModel" (19 : Nat) "PathCoverDagModel" "single" "[Z") ∈ lw_all := lw_g (lw_at lw_m1 160 rfl) rfl
theorem q180 : (Jvm.Cond.fieldLink "PathCoverDagModel" (23 : Nat) "PathCoverDagModel" "need" "[I") ∈ lw_all := lw_g (lw_at lw_m1 161 rfl) rfl
theorem q181 : (Jvm.Cond.laysFinal "PathCoverDagModel" "PathCoverDagModel" "edges" "[I") ∈ lw_all := lw_g (lw_at lw_m1 162 rfl) rfl
theorem q182 : (Jvm.Cond.soleField "PathCoverDagModel" "edges") ∈ lw_all := lw_g (lw_at lw_m1 163 rfl) rfl
theorem q183 : (Jvm.Cond.laysFinal "PathCoverDagModel" "PathCoverDagModel" "ups" "[I") ∈ lw_all := lw_g (lw_at lw_m1 164 rfl) rfl
theorem q184 : (Jvm.Cond.soleField "PathCoverDagModel" "ups") ∈ lw_all := lw_g (lw_at lw_m1 165 rfl) rfl
theorem q185 : (Jvm.Cond.laysFinal "PathCoverDagModel" "PathCoverDagModel" "weights" "[I") ∈ lw_all := lw_g (lw_at lw_m1 166 rfl) rfl
theorem q186 : (Jvm.Cond.soleField "PathCoverDagModel" "weights") ∈ lw_all := lw_g (lw_at lw_m1 167 rfl) rfl
theorem q187 : (Jvm.Cond.lays "PathCoverDagModel" "PathCoverDagModel" "on" "I") ∈ lw_all := lw_g (lw_at lw_m1 168 rfl) rfl
theorem q188 : (Jvm.Cond.soleField "PathCoverDagModel" "on") ∈ lw_all := lw_g (lw_at lw_m1 169 rfl) rfl
theorem q189 : (Jvm.Cond.laysFinal "PathCoverDagModel" "PathCoverDagModel" "single" "[Z") ∈ lw_all := lw_g (lw_at lw_m1 170 rfl) rfl
theorem q190 : (Jvm.Cond.soleField "PathCoverDagModel" "single") ∈ lw_all := lw_g (lw_at lw_m1 171 rfl) rfl
theorem q191 : (Jvm.Cond.laysFinal "PathCoverDagModel" "PathCoverDagModel" "need" "[I") ∈ lw_all := lw_g (lw_at lw_m1 172 rfl) rfl
theorem q192 : (Jvm.Cond.soleField "PathCoverDagModel" "need") ∈ lw_all := lw_g (lw_at lw_m1 173 rfl) rfl
theorem q193 : (Jvm.Cond.superclass "PathCoverDagModel" "java/lang/Object") ∈ lw_all := lw_g (lw_at lw_m1 174 rfl) rfl
theorem q196 : (Jvm.Cond.instanceMethod ({ cls := "PathCoverDagModel", name := "edge", desc := "(IIZ)I" } : Jvm.MethodName)) ∈ lw_all := lw_g (lw_at lw_m1 177 rfl) rfl
theorem q197 : (Jvm.Cond.selects "PathCoverDagModel" ({ cls := "PathCoverDagModel", name := "edge", desc := "(IIZ)I" } : Jvm.MethodName) ({ cls := "PathCoverDagModel", name := "edge", desc := "(IIZ)I" } : Jvm.MethodName)) ∈ lw_all := lw_g (lw_at lw_m1 178 rfl) rfl
theorem q198 : (Jvm.Cond.code ({ cls := "PathCoverDagModel", name := "edge", desc := "(IIZ)I" } : Jvm.MethodName) prog_3_method_3_code (5 : Nat) (Option.some Jvm.ClassFile.FieldType.int)) ∈ lw_all := lw_g (lw_at lw_m1 179 rfl) rfl
theorem q200 : (Jvm.Cond.instanceMethod ({ cls := "PathCoverDagModel", name := "turn", desc := "(IZ)I" } : Jvm.MethodName)) ∈ lw_all := lw_g (lw_at lw_m1 181 rfl) rfl
theorem q201 : (Jvm.Cond.selects "PathCoverDagModel" ({ cls := "PathCoverDagModel", name := "turn", desc := "(IZ)I" } : Jvm.MethodName) ({ cls := "PathCoverDagModel", name := "turn", desc := "(IZ)I" } : Jvm.MethodName)) ∈ lw_all := lw_g (lw_at lw_m1 182 rfl) rfl
theorem q202 : (Jvm.Cond.code ({ cls := "PathCoverDagModel", name := "turn", desc := "(IZ)I" } : Jvm.MethodName) prog_3_method_4_code (4 : Nat) (Option.some Jvm.ClassFile.FieldType.int)) ∈ lw_all := lw_g (lw_at lw_m1 183 rfl) rfl
theorem q203 : (Jvm.Cond.methodLink "PathCoverDagModel" (30 : Nat) ({ cls := "PathCoverDagModel", name := "bad", desc := "(I)Z" } : Jvm.MethodName)) ∈ lw_all := lw_g (lw_at lw_m1 184 rfl) rfl
theorem q204 : (Jvm.Cond.privateMethod ({ cls := "PathCoverDagModel", name := "bad", desc := "(I)Z" } : Jvm.MethodName)) ∈ lw_tbl := lw_at lw_m1 185 rfl
theorem q205 : (Jvm.Cond.instanceMethod ({ cls := "PathCoverDagModel", name := "bad", desc := "(I)Z" } : Jvm.MethodName)) ∈ lw_all := lw_g (lw_at lw_m1 186 rfl) rfl
theorem q206 : (Jvm.Cond.code ({ cls := "PathCoverDagModel", name := "bad", desc := "(I)Z" } : Jvm.MethodName) prog_3_method_2_code (2 : Nat) (Option.some Jvm.ClassFile.FieldType.boolean)) ∈ lw_all := lw_g (lw_at lw_m1 187 rfl) rfl
theorem q208 : (Jvm.Cond.instanceMethod ({ cls := "PathCoverDagModel", name := "weight", desc := "(II)I" } : Jvm.MethodName)) ∈ lw_all := lw_g (lw_at lw_m1 189 rfl) rfl
theorem q209 : (Jvm.Cond.selects "PathCoverDagModel" ({ cls := "PathCoverDagModel", name := "weight", desc := "(II)I" } : Jvm.MethodName) ({ cls := "PathCoverDagModel", name := "weight", desc := "(II)I" } : Jvm.MethodName)) ∈ lw_all := lw_g (lw_at lw_m1 190 rfl) rfl
theorem q210 : (Jvm.Cond.code ({ cls := "PathCoverDagModel", name := "weight", desc := "(II)I" } : Jvm.MethodName) prog_3_method_5_code (4 : Nat) (Option.some Jvm.ClassFile.FieldType.int)) ∈ lw_all := lw_g (lw_at lw_m1 191 rfl) rfl
theorem q212 : (Jvm.Cond.instanceMethod ({ cls := "PathCoverDagModel", name := "above", desc := "(II)Z" } : Jvm.MethodName)) ∈ lw_all := lw_g (lw_at lw_m1 193 rfl) rfl
theorem q213 : (Jvm.Cond.selects "PathCoverDagModel" ({ cls := "PathCoverDagModel", name := "above", desc := "(II)Z" } : Jvm.MethodName) ({ cls := "PathCoverDagModel", name := "above", desc := "(II)Z" } : Jvm.MethodName)) ∈ lw_all := lw_g (lw_at lw_m1 194 rfl) rfl
theorem q214 : (Jvm.Cond.code ({ cls := "PathCoverDagModel", name := "above", desc := "(II)Z" } : Jvm.MethodName) prog_3_method_8_code (3 : Nat) (Option.some Jvm.ClassFile.FieldType.boolean)) ∈ lw_all := lw_g (lw_at lw_m1 195 rfl) rfl
theorem q215 : (Jvm.Cond.methodLink "PathCoverDagModel" (38 : Nat) ({ cls := "PathCoverDagModel", name := "close", desc := "()V" } : Jvm.MethodName)) ∈ lw_all := lw_g (lw_at lw_m1 196 rfl) rfl
theorem q216 : (Jvm.Cond.privateMethod ({ cls := "PathCoverDagModel", name := "close", desc := "()V" } : Jvm.MethodName)) ∈ lw_tbl := lw_at lw_m1 197 rfl
theorem q217 : (Jvm.Cond.instanceMethod ({ cls := "PathCoverDagModel", name := "close", desc := "()V" } : Jvm.MethodName)) ∈ lw_all := lw_g (lw_at lw_m1 198 rfl) rfl
theorem q218 : (Jvm.Cond.code ({ cls := "PathCoverDagModel", name := "close", desc := "()V" } : Jvm.MethodName) prog_3_method_7_code (3 : Nat) (Option.none : Option Jvm.ClassFile.FieldType)) ∈ lw_all := lw_g (lw_at lw_m1 199 rfl) rfl
theorem q219 : (Jvm.Cond.methodLink "PathCoverDagModel" (34 : Nat) ({ cls := "PathCoverDagModel", name := "has", desc := "(II)Z" } : Jvm.MethodName)) ∈ lw_all := lw_g (lw_at lw_m1 200 rfl) rfl
theorem q220 : (Jvm.Cond.privateMethod ({ cls := "PathCoverDagModel", name := "has", desc := "(II)Z" } : Jvm.MethodName)) ∈ lw_tbl := lw_at lw_m1 201 rfl
theorem q221 : (Jvm.Cond.instanceMethod ({ cls := "PathCoverDagModel", name := "has", desc := "(II)Z" } : Jvm.MethodName)) ∈ lw_all := lw_g (lw_at lw_m1 202 rfl) rfl
theorem q222 : (Jvm.Cond.code ({ cls := "PathCoverDagModel", name := "has", desc := "(II)Z" } : Jvm.MethodName) prog_3_method_6_code (3 : Nat) (Option.some Jvm.ClassFile.FieldType.boolean)) ∈ lw_all := lw_g (lw_at lw_m1 203 rfl) rfl
theorem q224 : (Jvm.Cond.instanceMethod ({ cls := "PathCoverDagModel", name := "chains", desc := "()I" } : Jvm.MethodName)) ∈ lw_all := lw_g (lw_at lw_m1 205 rfl) rfl
theorem q225 : (Jvm.Cond.selects "PathCoverDagModel" ({ cls := "PathCoverDagModel", name := "chains", desc := "()I" } : Jvm.MethodName) ({ cls := "PathCoverDagModel", name := "chains", desc := "()I" } : Jvm.MethodName)) ∈ lw_all := lw_g (lw_at lw_m1 206 rfl) rfl
theorem q226 : (Jvm.Cond.code ({ cls := "PathCoverDagModel", name := "chains", desc := "()I" } : Jvm.MethodName) prog_3_method_14_code (1 : Nat) (Option.some Jvm.ClassFile.FieldType.int)) ∈ lw_all := lw_g (lw_at lw_m1 207 rfl) rfl
theorem q227 : (Jvm.Cond.methodLink "PathCoverDagModel" (45 : Nat) ({ cls := "PathCoverDagModel", name := "fewest", desc := "(Z)I" } : Jvm.MethodName)) ∈ lw_all := lw_g (lw_at lw_m1 208 rfl) rfl
theorem q228 : (Jvm.Cond.privateMethod ({ cls := "PathCoverDagModel", name := "fewest", desc := "(Z)I" } : Jvm.MethodName)) ∈ lw_tbl := lw_at lw_m1 209 rfl
theorem q229 : (Jvm.Cond.instanceMethod ({ cls := "PathCoverDagModel", name := "fewest", desc := "(Z)I" } : Jvm.MethodName)) ∈ lw_all := lw_g (lw_at lw_m1 210 rfl) rfl
theorem q230 : (Jvm.Cond.code ({ cls := "PathCoverDagModel", name := "fewest", desc := "(Z)I" } : Jvm.MethodName) prog_3_method_13_code (6 : Nat) (Option.some Jvm.ClassFile.FieldType.int)) ∈ lw_all := lw_g (lw_at lw_m1 211 rfl) rfl
theorem q231 : (Jvm.Cond.methodLink "PathCoverDagModel" (41 : Nat) ({ cls := "PathCoverDagModel", name := "row", desc := "(IZ)Z" } : Jvm.MethodName)) ∈ lw_all := lw_g (lw_at lw_m1 212 rfl) rfl
theorem q232 : (Jvm.Cond.privateMethod ({ cls := "PathCoverDagModel", name := "row", desc := "(IZ)Z" } : Jvm.MethodName)) ∈ lw_tbl := lw_at lw_m1 213 rfl
theorem q233 : (Jvm.Cond.instanceMethod ({ cls := "PathCoverDagModel", name := "row", desc := "(IZ)Z" } : Jvm.MethodName)) ∈ lw_all := lw_g (lw_at lw_m1 214 rfl) rfl
theorem q234 : (Jvm.Cond.code ({ cls := "PathCoverDagModel", name := "row", desc := "(IZ)Z" } : Jvm.MethodName) prog_3_method_12_code (5 : Nat) (Option.some Jvm.ClassFile.FieldType.boolean)) ∈ lw_all := lw_g (lw_at lw_m1 215 rfl) rfl
theorem q236 : (Jvm.Cond.instanceMethod ({ cls := "PathCoverDagModel", name := "width", desc := "()I" } : Jvm.MethodName)) ∈ lw_all := lw_g (lw_at lw_m1 217 rfl) rfl
theorem q237 : (Jvm.Cond.selects "PathCoverDagModel" ({ cls := "PathCoverDagModel", name := "width", desc := "()I" } : Jvm.MethodName) ({ cls := "PathCoverDagModel", name := "width", desc := "()I" } : Jvm.MethodName)) ∈ lw_all := lw_g (lw_at lw_m1 218 rfl) rfl
theorem q238 : (Jvm.Cond.code ({ cls := "PathCoverDagModel", name := "width", desc := "()I" } : Jvm.MethodName) prog_3_method_15_code (3 : Nat) (Option.some Jvm.ClassFile.FieldType.int)) ∈ lw_all := lw_g (lw_at lw_m1 219 rfl) rfl
theorem q239 : (Jvm.Cond.methodLink "PathCoverDagModel" (49 : Nat) ({ cls := "PathCoverDagModel", name := "anti", desc := "(I)Z" } : Jvm.MethodName)) ∈ lw_all := lw_g (lw_at lw_m1 220 rfl) rfl
theorem q240 : (Jvm.Cond.privateMethod ({ cls := "PathCoverDagModel", name := "anti", desc := "(I)Z" } : Jvm.MethodName)) ∈ lw_tbl := lw_at lw_m1 221 rfl
theorem q241 : (Jvm.Cond.instanceMethod ({ cls := "PathCoverDagModel", name := "anti", desc := "(I)Z" } : Jvm.MethodName)) ∈ lw_all := lw_g (lw_at lw_m1 222 rfl) rfl
theorem q242 : (Jvm.Cond.code ({ cls := "PathCoverDagModel", name := "anti", desc := "(I)Z" } : Jvm.MethodName) prog_3_method_9_code (3 : Nat) (Option.some Jvm.ClassFile.FieldType.boolean)) ∈ lw_all := lw_g (lw_at lw_m1 223 rfl) rfl
theorem q243 : (Jvm.Cond.methodLink "PathCoverDagModel" (52 : Nat) ({ cls := "PathCoverDagModel", name := "size", desc := "(I)I" } : Jvm.MethodName)) ∈ lw_all := lw_g (lw_at lw_m1 224 rfl) rfl
theorem q244 : (Jvm.Cond.privateMethod ({ cls := "PathCoverDagModel", name := "size", desc := "(I)I" } : Jvm.MethodName)) ∈ lw_tbl := lw_at lw_m1 225 rfl
theorem q245 : (Jvm.Cond.instanceMethod ({ cls := "PathCoverDagModel", name := "size", desc := "(I)I" } : Jvm.MethodName)) ∈ lw_all := lw_g (lw_at lw_m1 226 rfl) rfl
theorem q246 : (Jvm.Cond.code ({ cls := "PathCoverDagModel", name := "size", desc := "(I)I" } : Jvm.MethodName) prog_3_method_10_code (4 : Nat) (Option.some Jvm.ClassFile.FieldType.int)) ∈ lw_all := lw_g (lw_at lw_m1 227 rfl) rfl
theorem q248 : (Jvm.Cond.instanceMethod ({ cls := "PathCoverDagModel", name := "antichain", desc := "()I" } : Jvm.MethodName)) ∈ lw_all := lw_g (lw_at lw_m1 229 rfl) rfl
theorem q249 : (Jvm.Cond.selects "PathCoverDagModel" ({ cls := "PathCoverDagModel", name := "antichain", desc := "()I" } : Jvm.MethodName) ({ cls := "PathCoverDagModel", name := "antichain", desc := "()I" } : Jvm.MethodName)) ∈ lw_all := lw_g (lw_at lw_m1 230 rfl) rfl
theorem q250 : (Jvm.Cond.code ({ cls := "PathCoverDagModel", name := "antichain", desc := "()I" } : Jvm.MethodName) prog_3_method_16_code (3 : Nat) (Option.some Jvm.ClassFile.FieldType.int)) ∈ lw_all := lw_g (lw_at lw_m1 231 rfl) rfl
theorem q251 : (Jvm.Cond.methodLink "PathCoverDagModel" (56 : Nat) ({ cls := "PathCoverDagModel", name := "width", desc := "()I" } : Jvm.MethodName)) ∈ lw_all := lw_g (lw_at lw_m1 232 rfl) rfl
theorem q253 : (Jvm.Cond.instanceMethod ({ cls := "PathCoverDagModel", name := "paths", desc := "()I" } : Jvm.MethodName)) ∈ lw_all := lw_g (lw_at lw_m1 234 rfl) rfl
theorem q254 : (Jvm.Cond.selects "PathCoverDagModel" ({ cls := "PathCoverDagModel", name := "paths", desc := "()I" } : Jvm.MethodName) ({ cls := "PathCoverDagModel", name := "paths", desc := "()I" } : Jvm.MethodName)) ∈ lw_all := lw_g (lw_at lw_m1 235 rfl) rfl
theorem q255 : (Jvm.Cond.code ({ cls := "PathCoverDagModel", name := "paths", desc := "()I" } : Jvm.MethodName) prog_3_method_17_code (1 : Nat) (Option.some Jvm.ClassFile.FieldType.int)) ∈ lw_all := lw_g (lw_at lw_m1 236 rfl) rfl
theorem q257 : (Jvm.Cond.instanceMethod ({ cls := "PathCoverDagModel", name := "heaviest", desc := "()I" } : Jvm.MethodName)) ∈ lw_all := lw_g (lw_at lw_m1 238 rfl) rfl
theorem q258 : (Jvm.Cond.selects "PathCoverDagModel" ({ cls := "PathCoverDagModel", name := "heaviest", desc := "()I" } : Jvm.MethodName) ({ cls := "PathCoverDagModel", name := "heaviest", desc := "()I" } : Jvm.MethodName)) ∈ lw_all := lw_g (lw_at lw_m1 239 rfl) rfl
theorem q259 : (Jvm.Cond.code ({ cls := "PathCoverDagModel", name := "heaviest", desc := "()I" } : Jvm.MethodName) prog_3_method_18_code (3 : Nat) (Option.some Jvm.ClassFile.FieldType.int)) ∈ lw_all := lw_g (lw_at lw_m2 0 rfl) rfl
theorem q260 : (Jvm.Cond.methodLink "PathCoverDagModel" (60 : Nat) ({ cls := "PathCoverDagModel", name := "sum", desc := "(I)I" } : Jvm.MethodName)) ∈ lw_all := lw_g (lw_at lw_m2 1 rfl) rfl
theorem q261 : (Jvm.Cond.privateMethod ({ cls := "PathCoverDagModel", name := "sum", desc := "(I)I" } : Jvm.MethodName)) ∈ lw_tbl := lw_at lw_m2 2 rfl
theorem q262 : (Jvm.Cond.instanceMethod ({ cls := "PathCoverDagModel", name := "sum", desc := "(I)I" } : Jvm.MethodName)) ∈ lw_all := lw_g (lw_at lw_m2 3 rfl) rfl
theorem q263 : (Jvm.Cond.code ({ cls := "PathCoverDagModel", name := "sum", desc := "(I)I" } : Jvm.MethodName) prog_3_method_11_code (4 : Nat) (Option.some Jvm.ClassFile.FieldType.int)) ∈ lw_all := lw_g (lw_at lw_m2 4 rfl) rfl
theorem q265 : (Jvm.Cond.instanceMethod ({ cls := "PathCoverDagModel", name := "height", desc := "()I" } : Jvm.MethodName)) ∈ lw_all := lw_g (lw_at lw_m2 6 rfl) rfl
theorem q266 : (Jvm.Cond.selects "PathCoverDagModel" ({ cls := "PathCoverDagModel", name := "height", desc := "()I" } : Jvm.MethodName) ({ cls := "PathCoverDagModel", name := "height", desc := "()I" } : Jvm.MethodName)) ∈ lw_all := lw_g (lw_at lw_m2 7 rfl) rfl
theorem q267 : (Jvm.Cond.code ({ cls := "PathCoverDagModel", name := "height", desc := "()I" } : Jvm.MethodName) prog_3_method_20_code (3 : Nat) (Option.some Jvm.ClassFile.FieldType.int)) ∈ lw_all := lw_g (lw_at lw_m2 8 rfl) rfl
theorem q268 : (Jvm.Cond.methodLink "PathCoverDagModel" (63 : Nat) ({ cls := "PathCoverDagModel", name := "chain", desc := "(I)Z" } : Jvm.MethodName)) ∈ lw_all := lw_g (lw_at lw_m2 9 rfl) rfl
theorem q269 : (Jvm.Cond.privateMethod ({ cls := "PathCoverDagModel", name := "chain", desc := "(I)Z" } : Jvm.MethodName)) ∈ lw_tbl := lw_at lw_m2 10 rfl
theorem q270 : (Jvm.Cond.instanceMethod ({ cls := "PathCoverDagModel", name := "chain", desc := "(I)Z" } : Jvm.MethodName)) ∈ lw_all := lw_g (lw_at lw_m2 11 rfl) rfl
theorem q271 : (Jvm.Cond.code ({ cls := "PathCoverDagModel", name := "chain", desc := "(I)Z" } : Jvm.MethodName) prog_3_method_19_code (2 : Nat) (Option.some Jvm.ClassFile.FieldType.boolean)) ∈ lw_all := lw_g (lw_at lw_m2 12 rfl) rfl
theorem q273 : (Jvm.Cond.instanceMethod ({ cls := "PathCoverDagModel", name := "heaviestChain", desc := "()I" } : Jvm.MethodName)) ∈ lw_all := lw_g (lw_at lw_m2 14 rfl) rfl
theorem q274 : (Jvm.Cond.selects "PathCoverDagModel" ({ cls := "PathCoverDagModel", name := "heaviestChain", desc := "()I" } : Jvm.MethodName) ({ cls := "PathCoverDagModel", name := "heaviestChain", desc := "()I" } : Jvm.MethodName)) ∈ lw_all := lw_g (lw_at lw_m2 15 rfl) rfl
theorem q275 : (Jvm.Cond.code ({ cls := "PathCoverDagModel", name := "heaviestChain", desc := "()I" } : Jvm.MethodName) prog_3_method_21_code (3 : Nat) (Option.some Jvm.ClassFile.FieldType.int)) ∈ lw_all := lw_g (lw_at lw_m2 16 rfl) rfl
theorem q277 : (Jvm.Cond.instanceMethod ({ cls := "PathCoverDagModel", name := "antichains", desc := "()I" } : Jvm.MethodName)) ∈ lw_all := lw_g (lw_at lw_m2 18 rfl) rfl
theorem q278 : (Jvm.Cond.selects "PathCoverDagModel" ({ cls := "PathCoverDagModel", name := "antichains", desc := "()I" } : Jvm.MethodName) ({ cls := "PathCoverDagModel", name := "antichains", desc := "()I" } : Jvm.MethodName)) ∈ lw_all := lw_g (lw_at lw_m2 19 rfl) rfl
theorem q279 : (Jvm.Cond.code ({ cls := "PathCoverDagModel", name := "antichains", desc := "()I" } : Jvm.MethodName) prog_3_method_22_code (3 : Nat) (Option.some Jvm.ClassFile.FieldType.int)) ∈ lw_all := lw_g (lw_at lw_m2 20 rfl) rfl
theorem q281 : (Jvm.Cond.instanceMethod ({ cls := "PathCoverDagModel", name := "apart", desc := "()I" } : Jvm.MethodName)) ∈ lw_all := lw_g (lw_at lw_m2 22 rfl) rfl
theorem q282 : (Jvm.Cond.selects "PathCoverDagModel" ({ cls := "PathCoverDagModel", name := "apart", desc := "()I" } : Jvm.MethodName) ({ cls := "PathCoverDagModel", name := "apart", desc := "()I" } : Jvm.MethodName)) ∈ lw_all := lw_g (lw_at lw_m2 23 rfl) rfl
theorem q283 : (Jvm.Cond.code ({ cls := "PathCoverDagModel", name := "apart", desc := "()I" } : Jvm.MethodName) prog_3_method_23_code (4 : Nat) (Option.some Jvm.ClassFile.FieldType.int)) ∈ lw_all := lw_g (lw_at lw_m2 24 rfl) rfl
theorem in_X1 : ∀ w ∈ wsX10, w ∈ lw_all := lw_in wsX10 [181, 183, 185, 187, 189, 191] (by decide +kernel) (by decide +kernel)
theorem q19 : (Jvm.Cond.initialized "PathCoverDagLaw") ∈ lw_all := lw_g (lw_at lw_m1 0 rfl) rfl
theorem q22 : (Jvm.Cond.classLink "PathCoverDagLaw" (7 : Nat) "PathCoverDag") ∈ lw_all := lw_g (lw_at lw_m1 3 rfl) rfl
theorem q24 : (Jvm.Cond.methodLink "PathCoverDagLaw" (9 : Nat) ({ cls := "PathCoverDag", name := "<init>", desc := "()V" } : Jvm.MethodName)) ∈ lw_all := lw_g (lw_at lw_m1 5 rfl) rfl
theorem q71 : (Jvm.Cond.methodLink "PathCoverDagLaw" (13 : Nat) ({ cls := "PathCoverDag", name := "edge", desc := "(IIZ)I" } : Jvm.MethodName)) ∈ lw_all := lw_g (lw_at lw_m1 52 rfl) rfl
theorem q75 : (Jvm.Cond.methodLink "PathCoverDagLaw" (18 : Nat) ({ cls := "PathCoverDag", name := "turn", desc := "(IZ)I" } : Jvm.MethodName)) ∈ lw_all := lw_g (lw_at lw_m1 56 rfl) rfl
theorem q82 : (Jvm.Cond.methodLink "PathCoverDagLaw" (23 : Nat) ({ cls := "PathCoverDag", name := "weight", desc := "(II)I" } : Jvm.MethodName)) ∈ lw_all := lw_g (lw_at lw_m1 63 rfl) rfl
theorem q86 : (Jvm.Cond.methodLink "PathCoverDagLaw" (28 : Nat) ({ cls := "PathCoverDag", name := "above", desc := "(II)Z" } : Jvm.MethodName)) ∈ lw_all := lw_g (lw_at lw_m1 67 rfl) rfl
theorem q94 : (Jvm.Cond.methodLink "PathCoverDagLaw" (33 : Nat) ({ cls := "PathCoverDag", name := "chains", desc := "()I" } : Jvm.MethodName)) ∈ lw_all := lw_g (lw_at lw_m1 75 rfl) rfl
theorem q125 : (Jvm.Cond.methodLink "PathCoverDagLaw" (38 : Nat) ({ cls := "PathCoverDag", name := "width", desc := "()I" } : Jvm.MethodName)) ∈ lw_all := lw_g (lw_at lw_m1 106 rfl) rfl
theorem q129 : (Jvm.Cond.methodLink "PathCoverDagLaw" (42 : Nat) ({ cls := "PathCoverDag", name := "antichain", desc := "()I" } : Jvm.MethodName)) ∈ lw_all := lw_g (lw_at lw_m1 110 rfl) rfl
theorem q137 : (Jvm.Cond.methodLink "PathCoverDagLaw" (46 : Nat) ({ cls := "PathCoverDag", name := "paths", desc := "()I" } : Jvm.MethodName)) ∈ lw_all := lw_g (lw_at lw_m1 118 rfl) rfl
theorem q141 : (Jvm.Cond.methodLink "PathCoverDagLaw" (50 : Nat) ({ cls := "PathCoverDag", name := "heaviest", desc := "()I" } : Jvm.MethodName)) ∈ lw_all := lw_g (lw_at lw_m1 122 rfl) rfl
theorem q145 : (Jvm.Cond.methodLink "PathCoverDagLaw" (54 : Nat) ({ cls := "PathCoverDag", name := "height", desc := "()I" } : Jvm.MethodName)) ∈ lw_all := lw_g (lw_at lw_m1 126 rfl) rfl
theorem q153 : (Jvm.Cond.methodLink "PathCoverDagLaw" (58 : Nat) ({ cls := "PathCoverDag", name := "heaviestChain", desc := "()I" } : Jvm.MethodName)) ∈ lw_all := lw_g (lw_at lw_m1 134 rfl) rfl
theorem q157 : (Jvm.Cond.methodLink "PathCoverDagLaw" (62 : Nat) ({ cls := "PathCoverDag", name := "antichains", desc := "()I" } : Jvm.MethodName)) ∈ lw_all := lw_g (lw_at lw_m1 138 rfl) rfl
theorem q165 : (Jvm.Cond.methodLink "PathCoverDagLaw" (66 : Nat) ({ cls := "PathCoverDag", name := "apart", desc := "()I" } : Jvm.MethodName)) ∈ lw_all := lw_g (lw_at lw_m1 146 rfl) rfl
theorem q169 : (Jvm.Cond.classLink "PathCoverDagLaw" (10 : Nat) "PathCoverDagModel") ∈ lw_all := lw_g (lw_at lw_m1 150 rfl) rfl
theorem q171 : (Jvm.Cond.methodLink "PathCoverDagLaw" (12 : Nat) ({ cls := "PathCoverDagModel", name := "<init>", desc := "()V" } : Jvm.MethodName)) ∈ lw_all := lw_g (lw_at lw_m1 152 rfl) rfl
theorem q195 : (Jvm.Cond.methodLink "PathCoverDagLaw" (17 : Nat) ({ cls := "PathCoverDagModel", name := "edge", desc := "(IIZ)I" } : Jvm.MethodName)) ∈ lw_all := lw_g (lw_at lw_m1 176 rfl) rfl
theorem q199 : (Jvm.Cond.methodLink "PathCoverDagLaw" (22 : Nat) ({ cls := "PathCoverDagModel", name := "turn", desc := "(IZ)I" } : Jvm.MethodName)) ∈ lw_all := lw_g (lw_at lw_m1 180 rfl) rfl
theorem q207 : (Jvm.Cond.methodLink "PathCoverDagLaw" (27 : Nat) ({ cls := "PathCoverDagModel", name := "weight", desc := "(II)I" } : Jvm.MethodName)) ∈ lw_all := lw_g (lw_at lw_m1 188 rfl) rfl
theorem q211 : (Jvm.Cond.methodLink "PathCoverDagLaw" (32 : Nat) ({ cls := "PathCoverDagModel", name := "above", desc := "(II)Z" } : Jvm.MethodName)) ∈ lw_all := lw_g (lw_at lw_m1 192 rfl) rfl
theorem q223 : (Jvm.Cond.methodLink "PathCoverDagLaw" (37 : Nat) ({ cls := "PathCoverDagModel", name := "chains", desc := "()I" } : Jvm.MethodName)) ∈ lw_all := lw_g (lw_at lw_m1 204 rfl) rfl
theorem q235 : (Jvm.Cond.methodLink "PathCoverDagLaw" (41 : Nat) ({ cls := "PathCoverDagModel", name := "width", desc := "()I" } : Jvm.MethodName)) ∈ lw_all := lw_g (lw_at lw_m1 216 rfl) rfl
theorem q247 : (Jvm.Cond.methodLink "PathCoverDagLaw" (45 : Nat) ({ cls := "PathCoverDagModel", name := "antichain", desc := "()I" } : Jvm.MethodName)) ∈ lw_all := lw_g (lw_at lw_m1 228 rfl) rfl
theorem q252 : (Jvm.Cond.methodLink "PathCoverDagLaw" (49 : Nat) ({ cls := "PathCoverDagModel", name := "paths", desc := "()I" } : Jvm.MethodName)) ∈ lw_all := lw_g (lw_at lw_m1 233 rfl) rfl
theorem q256 : (Jvm.Cond.methodLink "PathCoverDagLaw" (53 : Nat) ({ cls := "PathCoverDagModel", name := "heaviest", desc := "()I" } : Jvm.MethodName)) ∈ lw_all := lw_g (lw_at lw_m1 237 rfl) rfl
theorem q264 : (Jvm.Cond.methodLink "PathCoverDagLaw" (57 : Nat) ({ cls := "PathCoverDagModel", name := "height", desc := "()I" } : Jvm.MethodName)) ∈ lw_all := lw_g (lw_at lw_m2 5 rfl) rfl
theorem q272 : (Jvm.Cond.methodLink "PathCoverDagLaw" (61 : Nat) ({ cls := "PathCoverDagModel", name := "heaviestChain", desc := "()I" } : Jvm.MethodName)) ∈ lw_all := lw_g (lw_at lw_m2 13 rfl) rfl
theorem q276 : (Jvm.Cond.methodLink "PathCoverDagLaw" (65 : Nat) ({ cls := "PathCoverDagModel", name := "antichains", desc := "()I" } : Jvm.MethodName)) ∈ lw_all := lw_g (lw_at lw_m2 17 rfl) rfl
theorem q280 : (Jvm.Cond.methodLink "PathCoverDagLaw" (69 : Nat) ({ cls := "PathCoverDagModel", name := "apart", desc := "()I" } : Jvm.MethodName)) ∈ lw_all := lw_g (lw_at lw_m2 21 rfl) rfl
theorem q70 : (Jvm.Cond.arrayClass Jvm.ClassFile.FieldType.int) ∈ lw_all := lw_g (lw_at lw_m1 51 rfl) rfl
theorem q194 : (Jvm.Cond.arrayClass Jvm.ClassFile.FieldType.boolean) ∈ lw_all := lw_g (lw_at lw_m1 175 rfl) rfl
abbrev cL_law : ByteArray := code
end
section
/-! decode rows of PathCoverDag -/
set_option maxRecDepth 100000
theorem dX0_init_0 : decode cX0_init 0 = .ok (.aload_n 0, 1) := by decide +kernel
theorem dX0_init_1 : decode cX0_init 1 = .ok (.invokespecial 1, 3) := by decide +kernel
theorem dX0_init_4 : decode cX0_init 4 = .ok (.aload_n 0, 1) := by decide +kernel
theorem dX0_init_5 : decode cX0_init 5 = .ok (.bipush 10, 2) := by decide +kernel
theorem dX0_init_7 : decode cX0_init 7 = .ok (.newarray .int, 2) := by decide +kernel
theorem dX0_init_9 : decode cX0_init 9 = .ok (.putfield 7, 3) := by decide +kernel
theorem dX0_init_12 : decode cX0_init 12 = .ok (.aload_n 0, 1) := by decide +kernel
theorem dX0_init_13 : decode cX0_init 13 = .ok (.bipush 10, 2) := by decide +kernel
theorem dX0_init_15 : decode cX0_init 15 = .ok (.newarray .int, 2) := by decide +kernel
theorem dX0_init_17 : decode cX0_init 17 = .ok (.putfield 13, 3) := by decide +kernel
theorem dX0_init_20 : decode cX0_init 20 = .ok (.aload_n 0, 1) := by decide +kernel
theorem dX0_init_21 : decode cX0_init 21 = .ok (.bipush 10, 2) := by decide +kernel
theorem dX0_init_23 : decode cX0_init 23 = .ok (.newarray .int, 2) := by decide +kernel
theorem dX0_init_25 : decode cX0_init 25 = .ok (.putfield 16, 3) := by decide +kernel
theorem dX0_init_28 : decode cX0_init 28 = .ok (.aload_n 0, 1) := by decide +kernel
theorem dX0_init_29 : decode cX0_init 29 = .ok (.sipush 1024, 3) := by decide +kernel
theorem dX0_init_32 : decode cX0_init 32 = .ok (.newarray .int, 2) := by decide +kernel
theorem dX0_init_34 : decode cX0_init 34 = .ok (.putfield 19, 3) := by decide +kernel
theorem dX0_init_37 : decode cX0_init 37 = .ok (.aload_n 0, 1) := by decide +kernel
theorem dX0_init_38 : decode cX0_init 38 = .ok (.bipush 10, 2) := by decide +kernel
theorem dX0_init_40 : decode cX0_init 40 = .ok (.newarray .int, 2) := by decide +kernel
theorem dX0_init_42 : decode cX0_init 42 = .ok (.putfield 22, 3) := by decide +kernel
theorem dX0_init_45 : decode cX0_init 45 = .ok (.aload_n 0, 1) := by decide +kernel
theorem dX0_init_46 : decode cX0_init 46 = .ok (.bipush 10, 2) := by decide +kernel
theorem dX0_init_48 : decode cX0_init 48 = .ok (.newarray .int, 2) := by decide +kernel
theorem dX0_init_50 : decode cX0_init 50 = .ok (.putfield 25, 3) := by decide +kernel
theorem dX0_init_53 : decode cX0_init 53 = .ok (.aload_n 0, 1) := by decide +kernel
theorem dX0_init_54 : decode cX0_init 54 = .ok (.bipush 100, 2) := by decide +kernel
theorem dX0_init_56 : decode cX0_init 56 = .ok (.newarray .int, 2) := by decide +kernel
theorem dX0_init_58 : decode cX0_init 58 = .ok (.putfield 28, 3) := by decide +kernel
theorem dX0_init_61 : decode cX0_init 61 = .ok (.aload_n 0, 1) := by decide +kernel
theorem dX0_init_62 : decode cX0_init 62 = .ok (.bipush 10, 2) := by decide +kernel
theorem dX0_init_64 : decode cX0_init 64 = .ok (.newarray .int, 2) := by decide +kernel
theorem dX0_init_66 : decode cX0_init 66 = .ok (.putfield 31, 3) := by decide +kernel
theorem dX0_init_69 : decode cX0_init 69 = .ok (.aload_n 0, 1) := by decide +kernel
theorem dX0_init_70 : decode cX0_init 70 = .ok (.bipush 10, 2) := by decide +kernel
theorem dX0_init_72 : decode cX0_init 72 = .ok (.newarray .int, 2) := by decide +kernel
theorem dX0_init_74 : decode cX0_init 74 = .ok (.putfield 34, 3) := by decide +kernel
theorem dX0_init_77 : decode cX0_init 77 = .ok (.aload_n 0, 1) := by decide +kernel
theorem dX0_init_78 : decode cX0_init 78 = .ok (.bipush 20, 2) := by decide +kernel
theorem dX0_init_80 : decode cX0_init 80 = .ok (.newarray .int, 2) := by decide +kernel
theorem dX0_init_82 : decode cX0_init 82 = .ok (.putfield 37, 3) := by decide +kernel
theorem dX0_init_85 : decode cX0_init 85 = .ok (.aload_n 0, 1) := by decide +kernel
theorem dX0_init_86 : decode cX0_init 86 = .ok (.sipush 1023, 3) := by decide +kernel
theorem dX0_init_89 : decode cX0_init 89 = .ok (.putfield 40, 3) := by decide +kernel
theorem dX0_init_92 : decode cX0_init 92 = .ok (.iconst 0, 1) := by decide +kernel
theorem dX0_init_93 : decode cX0_init 93 = .ok (.istore_n 1, 1) := by decide +kernel
theorem dX0_init_94 : decode cX0_init 94 = .ok (.iload_n 1, 1) := by decide +kernel
theorem dX0_init_95 : decode cX0_init 95 = .ok (.bipush 10, 2) := by decide +kernel
theorem dX0_init_97 : decode cX0_init 97 = .ok (.if_icmp .ge 16, 3) := by decide +kernel
theorem dX0_init_100 : decode cX0_init 100 = .ok (.aload_n 0, 1) := by decide +kernel
theorem dX0_init_101 : decode cX0_init 101 = .ok (.getfield 7, 3) := by decide +kernel
theorem dX0_init_104 : decode cX0_init 104 = .ok (.iload_n 1, 1) := by decide +kernel
theorem dX0_init_105 : decode cX0_init 105 = .ok (.iconst 1, 1) := by decide +kernel
theorem dX0_init_106 : decode cX0_init 106 = .ok (.iastore, 1) := by decide +kernel
theorem dX0_init_107 : decode cX0_init 107 = .ok (.iinc 1 1, 3) := by decide +kernel
theorem dX0_init_110 : decode cX0_init 110 = .ok (.goto (-16), 3) := by decide +kernel
theorem dX0_init_113 : decode cX0_init 113 = .ok (.return_, 1) := by decide +kernel
theorem dX0_edge_0 : decode cX0_edge 0 = .ok (.iload_n 1, 1) := by decide +kernel
theorem dX0_edge_1 : decode cX0_edge 1 = .ok (.ifCond .lt 14, 3) := by decide +kernel
theorem dX0_edge_4 : decode cX0_edge 4 = .ok (.iload_n 1, 1) := by decide +kernel
theorem dX0_edge_5 : decode cX0_edge 5 = .ok (.iload_n 2, 1) := by decide +kernel
theorem dX0_edge_6 : decode cX0_edge 6 = .ok (.if_icmp .ge 9, 3) := by decide +kernel
theorem dX0_edge_9 : decode cX0_edge 9 = .ok (.iload_n 2, 1) := by decide +kernel
theorem dX0_edge_10 : decode cX0_edge 10 = .ok (.bipush 10, 2) := by decide +kernel
theorem dX0_edge_12 : decode cX0_edge 12 = .ok (.if_icmp .lt 5, 3) := by decide +kernel
theorem dX0_edge_15 : decode cX0_edge 15 = .ok (.iconst (-1), 1) := by decide +kernel
theorem dX0_edge_16 : decode cX0_edge 16 = .ok (.ireturn, 1) := by decide +kernel
theorem dX0_edge_17 : decode cX0_edge 17 = .ok (.aload_n 0, 1) := by decide +kernel
theorem dX0_edge_18 : decode cX0_edge 18 = .ok (.getfield 13, 3) := by decide +kernel
theorem dX0_edge_21 : decode cX0_edge 21 = .ok (.iload_n 1, 1) := by decide +kernel
theorem dX0_edge_22 : decode cX0_edge 22 = .ok (.iaload, 1) := by decide +kernel
theorem dX0_edge_23 : decode cX0_edge 23 = .ok (.iload_n 2, 1) := by decide +kernel
theorem dX0_edge_24 : decode cX0_edge 24 = .ok (.ishr, 1) := by decide +kernel
theorem dX0_edge_25 : decode cX0_edge 25 = .ok (.iconst 1, 1) := by decide +kernel
theorem dX0_edge_26 : decode cX0_edge 26 = .ok (.iand, 1) := by decide +kernel
theorem dX0_edge_27 : decode cX0_edge 27 = .ok (.istore 4, 2) := by decide +kernel
theorem dX0_edge_29 : decode cX0_edge 29 = .ok (.aload_n 0, 1) := by decide +kernel
theorem dX0_edge_30 : decode cX0_edge 30 = .ok (.getfield 13, 3) := by decide +kernel
theorem dX0_edge_33 : decode cX0_edge 33 = .ok (.iload_n 1, 1) := by decide +kernel
theorem dX0_edge_34 : decode cX0_edge 34 = .ok (.dup2, 1) := by decide +kernel
theorem dX0_edge_35 : decode cX0_edge 35 = .ok (.iaload, 1) := by decide +kernel
theorem dX0_edge_36 : decode cX0_edge 36 = .ok (.iconst 1, 1) := by decide +kernel
theorem dX0_edge_37 : decode cX0_edge 37 = .ok (.iload_n 2, 1) := by decide +kernel
theorem dX0_edge_38 : decode cX0_edge 38 = .ok (.ishl, 1) := by decide +kernel
theorem dX0_edge_39 : decode cX0_edge 39 = .ok (.iconst (-1), 1) := by decide +kernel
theorem dX0_edge_40 : decode cX0_edge 40 = .ok (.ixor, 1) := by decide +kernel
theorem dX0_edge_41 : decode cX0_edge 41 = .ok (.iand, 1) := by decide +kernel
theorem dX0_edge_42 : decode cX0_edge 42 = .ok (.iastore, 1) := by decide +kernel
theorem dX0_edge_43 : decode cX0_edge 43 = .ok (.iload_n 3, 1) := by decide +kernel
theorem dX0_edge_44 : decode cX0_edge 44 = .ok (.ifCond .eq 15, 3) := by decide +kernel
theorem dX0_edge_47 : decode cX0_edge 47 = .ok (.aload_n 0, 1) := by decide +kernel
theorem dX0_edge_48 : decode cX0_edge 48 = .ok (.getfield 13, 3) := by decide +kernel
theorem dX0_edge_51 : decode cX0_edge 51 = .ok (.iload_n 1, 1) := by decide +kernel
theorem dX0_edge_52 : decode cX0_edge 52 = .ok (.dup2, 1) := by decide +kernel
theorem dX0_edge_53 : decode cX0_edge 53 = .ok (.iaload, 1) := by decide +kernel
theorem dX0_edge_54 : decode cX0_edge 54 = .ok (.iconst 1, 1) := by decide +kernel
theorem dX0_edge_55 : decode cX0_edge 55 = .ok (.iload_n 2, 1) := by decide +kernel
theorem dX0_edge_56 : decode cX0_edge 56 = .ok (.ishl, 1) := by decide +kernel
theorem dX0_edge_57 : decode cX0_edge 57 = .ok (.ior, 1) := by decide +kernel
theorem dX0_edge_58 : decode cX0_edge 58 = .ok (.iastore, 1) := by decide +kernel
theorem dX0_edge_59 : decode cX0_edge 59 = .ok (.aload_n 0, 1) := by decide +kernel
theorem dX0_edge_60 : decode cX0_edge 60 = .ok (.iconst 0, 1) := by decide +kernel
theorem dX0_edge_61 : decode cX0_edge 61 = .ok (.putfield 44, 3) := by decide +kernel
theorem dX0_edge_64 : decode cX0_edge 64 = .ok (.aload_n 0, 1) := by decide +kernel
theorem dX0_edge_65 : decode cX0_edge 65 = .ok (.iconst 0, 1) := by decide +kernel
theorem dX0_edge_66 : decode cX0_edge 66 = .ok (.putfield 48, 3) := by decide +kernel
theorem dX0_edge_69 : decode cX0_edge 69 = .ok (.iload 4, 2) := by decide +kernel
theorem dX0_edge_71 : decode cX0_edge 71 = .ok (.ireturn, 1) := by decide +kernel
theorem dX0_turn_0 : decode cX0_turn 0 = .ok (.iload_n 1, 1) := by decide +kernel
theorem dX0_turn_1 : decode cX0_turn 1 = .ok (.invokestatic 51, 3) := by decide +kernel
theorem dX0_turn_4 : decode cX0_turn 4 = .ok (.ifCond .eq 5, 3) := by decide +kernel
theorem dX0_turn_7 : decode cX0_turn 7 = .ok (.iconst (-1), 1) := by decide +kernel
theorem dX0_turn_8 : decode cX0_turn 8 = .ok (.ireturn, 1) := by decide +kernel
theorem dX0_turn_9 : decode cX0_turn 9 = .ok (.aload_n 0, 1) := by decide +kernel
theorem dX0_turn_10 : decode cX0_turn 10 = .ok (.getfield 40, 3) := by decide +kernel
theorem dX0_turn_13 : decode cX0_turn 13 = .ok (.iload_n 1, 1) := by decide +kernel
theorem dX0_turn_14 : decode cX0_turn 14 = .ok (.ishr, 1) := by decide +kernel
theorem dX0_turn_15 : decode cX0_turn 15 = .ok (.iconst 1, 1) := by decide +kernel
theorem dX0_turn_16 : decode cX0_turn 16 = .ok (.iand, 1) := by decide +kernel
theorem dX0_turn_17 : decode cX0_turn 17 = .ok (.istore_n 3, 1) := by decide +kernel
theorem dX0_turn_18 : decode cX0_turn 18 = .ok (.aload_n 0, 1) := by decide +kernel
theorem dX0_turn_19 : decode cX0_turn 19 = .ok (.dup, 1) := by decide +kernel
theorem dX0_turn_20 : decode cX0_turn 20 = .ok (.getfield 40, 3) := by decide +kernel
theorem dX0_turn_23 : decode cX0_turn 23 = .ok (.iconst 1, 1) := by decide +kernel
theorem dX0_turn_24 : decode cX0_turn 24 = .ok (.iload_n 1, 1) := by decide +kernel
theorem dX0_turn_25 : decode cX0_turn 25 = .ok (.ishl, 1) := by decide +kernel
theorem dX0_turn_26 : decode cX0_turn 26 = .ok (.iconst (-1), 1) := by decide +kernel
theorem dX0_turn_27 : decode cX0_turn 27 = .ok (.ixor, 1) := by decide +kernel
theorem dX0_turn_28 : decode cX0_turn 28 = .ok (.iand, 1) := by decide +kernel
theorem dX0_turn_29 : decode cX0_turn 29 = .ok (.putfield 40, 3) := by decide +kernel
theorem dX0_turn_32 : decode cX0_turn 32 = .ok (.iload_n 2, 1) := by decide +kernel
theorem dX0_turn_33 : decode cX0_turn 33 = .ok (.ifCond .eq 15, 3) := by decide +kernel
theorem dX0_turn_36 : decode cX0_turn 36 = .ok (.aload_n 0, 1) := by decide +kernel
theorem dX0_turn_37 : decode cX0_turn 37 = .ok (.dup, 1) := by decide +kernel
theorem dX0_turn_38 : decode cX0_turn 38 = .ok (.getfield 40, 3) := by decide +kernel
theorem dX0_turn_41 : decode cX0_turn 41 = .ok (.iconst 1, 1) := by decide +kernel
theorem dX0_turn_42 : decode cX0_turn 42 = .ok (.iload_n 1, 1) := by decide +kernel
theorem dX0_turn_43 : decode cX0_turn 43 = .ok (.ishl, 1) := by decide +kernel
theorem dX0_turn_44 : decode cX0_turn 44 = .ok (.ior, 1) := by decide +kernel
theorem dX0_turn_45 : decode cX0_turn 45 = .ok (.putfield 40, 3) := by decide +kernel
theorem dX0_turn_48 : decode cX0_turn 48 = .ok (.iload_n 3, 1) := by decide +kernel
theorem dX0_turn_49 : decode cX0_turn 49 = .ok (.ireturn, 1) := by decide +kernel
theorem dX0_bad_0 : decode cX0_bad 0 = .ok (.iload_n 0, 1) := by decide +kernel
theorem dX0_bad_1 : decode cX0_bad 1 = .ok (.ifCond .lt 9, 3) := by decide +kernel
theorem dX0_bad_4 : decode cX0_bad 4 = .ok (.iload_n 0, 1) := by decide +kernel
theorem dX0_bad_5 : decode cX0_bad 5 = .ok (.bipush 10, 2) := by decide +kernel
theorem dX0_bad_7 : decode cX0_bad 7 = .ok (.if_icmp .lt 7, 3) := by decide +kernel
theorem dX0_bad_10 : decode cX0_bad 10 = .ok (.iconst 1, 1) := by decide +kernel
theorem dX0_bad_11 : decode cX0_bad 11 = .ok (.goto 4, 3) := by decide +kernel
theorem dX0_bad_14 : decode cX0_bad 14 = .ok (.iconst 0, 1) := by decide +kernel
theorem dX0_bad_15 : decode cX0_bad 15 = .ok (.ireturn, 1) := by decide +kernel
theorem dX0_weight_0 : decode cX0_weight 0 = .ok (.iload_n 1, 1) := by decide +kernel
theorem dX0_weight_1 : decode cX0_weight 1 = .ok (.invokestatic 51, 3) := by decide +kernel
theorem dX0_weight_4 : decode cX0_weight 4 = .ok (.ifCond .eq 5, 3) := by decide +kernel
theorem dX0_weight_7 : decode cX0_weight 7 = .ok (.iconst (-1), 1) := by decide +kernel
theorem dX0_weight_8 : decode cX0_weight 8 = .ok (.ireturn, 1) := by decide +kernel
theorem dX0_weight_9 : decode cX0_weight 9 = .ok (.iload_n 2, 1) := by decide +kernel
theorem dX0_weight_10 : decode cX0_weight 10 = .ok (.ifCond .lt 9, 3) := by decide +kernel
theorem dX0_weight_13 : decode cX0_weight 13 = .ok (.iload_n 2, 1) := by decide +kernel
theorem dX0_weight_14 : decode cX0_weight 14 = .ok (.bipush 9, 2) := by decide +kernel
theorem dX0_weight_16 : decode cX0_weight 16 = .ok (.if_icmp .le 6, 3) := by decide +kernel
theorem dX0_weight_19 : decode cX0_weight 19 = .ok (.bipush (-2), 2) := by decide +kernel
theorem dX0_weight_21 : decode cX0_weight 21 = .ok (.ireturn, 1) := by decide +kernel
theorem dX0_weight_22 : decode cX0_weight 22 = .ok (.aload_n 0, 1) := by decide +kernel
theorem dX0_weight_23 : decode cX0_weight 23 = .ok (.getfield 7, 3) := by decide +kernel
theorem dX0_weight_26 : decode cX0_weight 26 = .ok (.iload_n 1, 1) := by decide +kernel
theorem dX0_weight_27 : decode cX0_weight 27 = .ok (.iaload, 1) := by decide +kernel
theorem dX0_weight_28 : decode cX0_weight 28 = .ok (.istore_n 3, 1) := by decide +kernel
theorem dX0_weight_29 : decode cX0_weight 29 = .ok (.aload_n 0, 1) := by decide +kernel
theorem dX0_weight_30 : decode cX0_weight 30 = .ok (.getfield 7, 3) := by decide +kernel
theorem dX0_weight_33 : decode cX0_weight 33 = .ok (.iload_n 1, 1) := by decide +kernel
theorem dX0_weight_34 : decode cX0_weight 34 = .ok (.iload_n 2, 1) := by decide +kernel
theorem dX0_weight_35 : decode cX0_weight 35 = .ok (.iastore, 1) := by decide +kernel
theorem dX0_weight_36 : decode cX0_weight 36 = .ok (.iload_n 3, 1) := by decide +kernel
theorem dX0_weight_37 : decode cX0_weight 37 = .ok (.ireturn, 1) := by decide +kernel
theorem dX0_above_0 : decode cX0_above 0 = .ok (.iload_n 1, 1) := by decide +kernel
theorem dX0_above_1 : decode cX0_above 1 = .ok (.invokestatic 51, 3) := by decide +kernel
theorem dX0_above_4 : decode cX0_above 4 = .ok (.ifCond .ne 10, 3) := by decide +kernel
theorem dX0_above_7 : decode cX0_above 7 = .ok (.iload_n 2, 1) := by decide +kernel
theorem dX0_above_8 : decode cX0_above 8 = .ok (.invokestatic 51, 3) := by decide +kernel
theorem dX0_above_11 : decode cX0_above 11 = .ok (.ifCond .eq 5, 3) := by decide +kernel
theorem dX0_above_14 : decode cX0_above 14 = .ok (.iconst 0, 1) := by decide +kernel
theorem dX0_above_15 : decode cX0_above 15 = .ok (.ireturn, 1) := by decide +kernel
theorem dX0_above_16 : decode cX0_above 16 = .ok (.aload_n 0, 1) := by decide +kernel
theorem dX0_above_17 : decode cX0_above 17 = .ok (.invokevirtual 63, 3) := by decide +kernel
theorem dX0_above_20 : decode cX0_above 20 = .ok (.aload_n 0, 1) := by decide +kernel
theorem dX0_above_21 : decode cX0_above 21 = .ok (.getfield 16, 3) := by decide +kernel
theorem dX0_above_24 : decode cX0_above 24 = .ok (.iload_n 1, 1) := by decide +kernel
theorem dX0_above_25 : decode cX0_above 25 = .ok (.iaload, 1) := by decide +kernel
theorem dX0_above_26 : decode cX0_above 26 = .ok (.iload_n 2, 1) := by decide +kernel
theorem dX0_above_27 : decode cX0_above 27 = .ok (.ishr, 1) := by decide +kernel
theorem dX0_above_28 : decode cX0_above 28 = .ok (.iconst 1, 1) := by decide +kernel
theorem dX0_above_29 : decode cX0_above 29 = .ok (.iand, 1) := by decide +kernel
theorem dX0_above_30 : decode cX0_above 30 = .ok (.iconst 1, 1) := by decide +kernel
theorem dX0_above_31 : decode cX0_above 31 = .ok (.if_icmp .ne 7, 3) := by decide +kernel
theorem dX0_above_34 : decode cX0_above 34 = .ok (.iconst 1, 1) := by decide +kernel
theorem dX0_above_35 : decode cX0_above 35 = .ok (.goto 4, 3) := by decide +kernel
theorem dX0_above_38 : decode cX0_above 38 = .ok (.iconst 0, 1) := by decide +kernel
theorem dX0_above_39 : decode cX0_above 39 = .ok (.ireturn, 1) := by decide +kernel
theorem dX0_close_0 : decode cX0_close 0 = .ok (.aload_n 0, 1) := by decide +kernel
theorem dX0_close_1 : decode cX0_close 1 = .ok (.getfield 44, 3) := by decide +kernel
theorem dX0_close_4 : decode cX0_close 4 = .ok (.ifCond .eq 4, 3) := by decide +kernel
theorem dX0_close_7 : decode cX0_close 7 = .ok (.return_, 1) := by decide +kernel
theorem dX0_close_8 : decode cX0_close 8 = .ok (.aload_n 0, 1) := by decide +kernel
theorem dX0_close_9 : decode cX0_close 9 = .ok (.iconst 1, 1) := by decide +kernel
theorem dX0_close_10 : decode cX0_close 10 = .ok (.putfield 44, 3) := by decide +kernel
theorem dX0_close_13 : decode cX0_close 13 = .ok (.bipush 9, 2) := by decide +kernel
theorem dX0_close_15 : decode cX0_close 15 = .ok (.istore_n 1, 1) := by decide +kernel
theorem dX0_close_16 : decode cX0_close 16 = .ok (.iload_n 1, 1) := by decide +kernel
theorem dX0_close_17 : decode cX0_close 17 = .ok (.ifCond .lt 62, 3) := by decide +kernel
theorem dX0_close_20 : decode cX0_close 20 = .ok (.aload_n 0, 1) := by decide +kernel
theorem dX0_close_21 : decode cX0_close 21 = .ok (.getfield 13, 3) := by decide +kernel
theorem dX0_close_24 : decode cX0_close 24 = .ok (.iload_n 1, 1) := by decide +kernel
theorem dX0_close_25 : decode cX0_close 25 = .ok (.iaload, 1) := by decide +kernel
theorem dX0_close_26 : decode cX0_close 26 = .ok (.istore_n 2, 1) := by decide +kernel
theorem dX0_close_27 : decode cX0_close 27 = .ok (.iload_n 1, 1) := by decide +kernel
theorem dX0_close_28 : decode cX0_close 28 = .ok (.iconst 1, 1) := by decide +kernel
theorem dX0_close_29 : decode cX0_close 29 = .ok (.iadd, 1) := by decide +kernel
theorem dX0_close_30 : decode cX0_close 30 = .ok (.istore_n 3, 1) := by decide +kernel
theorem dX0_close_31 : decode cX0_close 31 = .ok (.iload_n 3, 1) := by decide +kernel
theorem dX0_close_32 : decode cX0_close 32 = .ok (.bipush 10, 2) := by decide +kernel
theorem dX0_close_34 : decode cX0_close 34 = .ok (.if_icmp .ge 32, 3) := by decide +kernel
theorem dX0_close_37 : decode cX0_close 37 = .ok (.aload_n 0, 1) := by decide +kernel
theorem dX0_close_38 : decode cX0_close 38 = .ok (.getfield 13, 3) := by decide +kernel
theorem dX0_close_41 : decode cX0_close 41 = .ok (.iload_n 1, 1) := by decide +kernel
theorem dX0_close_42 : decode cX0_close 42 = .ok (.iaload, 1) := by decide +kernel
theorem dX0_close_43 : decode cX0_close 43 = .ok (.iload_n 3, 1) := by decide +kernel
theorem dX0_close_44 : decode cX0_close 44 = .ok (.ishr, 1) := by decide +kernel
theorem dX0_close_45 : decode cX0_close 45 = .ok (.iconst 1, 1) := by decide +kernel
theorem dX0_close_46 : decode cX0_close 46 = .ok (.iand, 1) := by decide +kernel
theorem dX0_close_47 : decode cX0_close 47 = .ok (.iconst 1, 1) := by decide +kernel
theorem dX0_close_48 : decode cX0_close 48 = .ok (.if_icmp .ne 12, 3) := by decide +kernel
theorem dX0_close_51 : decode cX0_close 51 = .ok (.iload_n 2, 1) := by decide +kernel
theorem dX0_close_52 : decode cX0_close 52 = .ok (.aload_n 0, 1) := by decide +kernel
theorem dX0_close_53 : decode cX0_close 53 = .ok (.getfield 16, 3) := by decide +kernel
theorem dX0_close_56 : decode cX0_close 56 = .ok (.iload_n 3, 1) := by decide +kernel
theorem dX0_close_57 : decode cX0_close 57 = .ok (.iaload, 1) := by decide +kernel
theorem dX0_close_58 : decode cX0_close 58 = .ok (.ior, 1) := by decide +kernel
theorem dX0_close_59 : decode cX0_close 59 = .ok (.istore_n 2, 1) := by decide +kernel
theorem dX0_close_60 : decode cX0_close 60 = .ok (.iinc 3 1, 3) := by decide +kernel
theorem dX0_close_63 : decode cX0_close 63 = .ok (.goto (-32), 3) := by decide +kernel
theorem dX0_close_66 : decode cX0_close 66 = .ok (.aload_n 0, 1) := by decide +kernel
theorem dX0_close_67 : decode cX0_close 67 = .ok (.getfield 16, 3) := by decide +kernel
theorem dX0_close_70 : decode cX0_close 70 = .ok (.iload_n 1, 1) := by decide +kernel
theorem dX0_close_71 : decode cX0_close 71 = .ok (.iload_n 2, 1) := by decide +kernel
theorem dX0_close_72 : decode cX0_close 72 = .ok (.iastore, 1) := by decide +kernel
theorem dX0_close_73 : decode cX0_close 73 = .ok (.iinc 1 (-1), 3) := by decide +kernel
theorem dX0_close_76 : decode cX0_close 76 = .ok (.goto (-60), 3) := by decide +kernel
theorem dX0_close_79 : decode cX0_close 79 = .ok (.return_, 1) := by decide +kernel
theorem dX0_chains_0 : decode cX0_chains 0 = .ok (.aload_n 0, 1) := by decide +kernel
theorem dX0_chains_1 : decode cX0_chains 1 = .ok (.aload_n 0, 1) := by decide +kernel
theorem dX0_chains_2 : decode cX0_chains 2 = .ok (.getfield 40, 3) := by decide +kernel
theorem dX0_chains_5 : decode cX0_chains 5 = .ok (.invokevirtual 81, 3) := by decide +kernel
theorem dX0_chains_8 : decode cX0_chains 8 = .ok (.ireturn, 1) := by decide +kernel
theorem dX0_widthOf_0 : decode cX0_widthOf 0 = .ok (.aload_n 0, 1) := by decide +kernel
theorem dX0_widthOf_1 : decode cX0_widthOf 1 = .ok (.iload_n 1, 1) := by decide +kernel
theorem dX0_widthOf_2 : decode cX0_widthOf 2 = .ok (.iconst 0, 1) := by decide +kernel
theorem dX0_widthOf_3 : decode cX0_widthOf 3 = .ok (.iconst 0, 1) := by decide +kernel
theorem dX0_widthOf_4 : decode cX0_widthOf 4 = .ok (.invokevirtual 73, 3) := by decide +kernel
theorem dX0_widthOf_7 : decode cX0_widthOf 7 = .ok (.istore_n 2, 1) := by decide +kernel
theorem dX0_widthOf_8 : decode cX0_widthOf 8 = .ok (.iload_n 1, 1) := by decide +kernel
theorem dX0_widthOf_9 : decode cX0_widthOf 9 = .ok (.invokestatic 77, 3) := by decide +kernel
theorem dX0_widthOf_12 : decode cX0_widthOf 12 = .ok (.iload_n 2, 1) := by decide +kernel
theorem dX0_widthOf_13 : decode cX0_widthOf 13 = .ok (.isub, 1) := by decide +kernel
theorem dX0_widthOf_14 : decode cX0_widthOf 14 = .ok (.ireturn, 1) := by decide +kernel
theorem dX0_match_0 : decode cX0_match 0 = .ok (.aload_n 0, 1) := by decide +kernel
theorem dX0_match_1 : decode cX0_match 1 = .ok (.invokevirtual 63, 3) := by decide +kernel
theorem dX0_match_4 : decode cX0_match 4 = .ok (.iconst 0, 1) := by decide +kernel
theorem dX0_match_5 : decode cX0_match 5 = .ok (.istore 4, 2) := by decide +kernel
theorem dX0_match_7 : decode cX0_match 7 = .ok (.iload 4, 2) := by decide +kernel
theorem dX0_match_9 : decode cX0_match 9 = .ok (.bipush 100, 2) := by decide +kernel
theorem dX0_match_11 : decode cX0_match 11 = .ok (.if_icmp .ge 17, 3) := by decide +kernel
theorem dX0_match_14 : decode cX0_match 14 = .ok (.aload_n 0, 1) := by decide +kernel
theorem dX0_match_15 : decode cX0_match 15 = .ok (.getfield 28, 3) := by decide +kernel
theorem dX0_match_18 : decode cX0_match 18 = .ok (.iload 4, 2) := by decide +kernel
theorem dX0_match_20 : decode cX0_match 20 = .ok (.iconst 0, 1) := by decide +kernel
theorem dX0_match_21 : decode cX0_match 21 = .ok (.iastore, 1) := by decide +kernel
theorem dX0_match_22 : decode cX0_match 22 = .ok (.iinc 4 1, 3) := by decide +kernel
theorem dX0_match_25 : decode cX0_match 25 = .ok (.goto (-18), 3) := by decide +kernel
theorem dX0_match_28 : decode cX0_match 28 = .ok (.iconst 0, 1) := by decide +kernel
theorem dX0_match_29 : decode cX0_match 29 = .ok (.istore 4, 2) := by decide +kernel
theorem dX0_match_31 : decode cX0_match 31 = .ok (.iload 4, 2) := by decide +kernel
theorem dX0_match_33 : decode cX0_match 33 = .ok (.bipush 10, 2) := by decide +kernel
theorem dX0_match_35 : decode cX0_match 35 = .ok (.if_icmp .ge 71, 3) := by decide +kernel
theorem dX0_match_38 : decode cX0_match 38 = .ok (.iload_n 1, 1) := by decide +kernel
theorem dX0_match_39 : decode cX0_match 39 = .ok (.iload 4, 2) := by decide +kernel
theorem dX0_match_41 : decode cX0_match 41 = .ok (.ishr, 1) := by decide +kernel
theorem dX0_match_42 : decode cX0_match 42 = .ok (.iconst 1, 1) := by decide +kernel
theorem dX0_match_43 : decode cX0_match 43 = .ok (.iand, 1) := by decide +kernel
theorem dX0_match_44 : decode cX0_match 44 = .ok (.iconst 1, 1) := by decide +kernel
theorem dX0_match_45 : decode cX0_match 45 = .ok (.if_icmp .ne 7, 3) := by decide +kernel
theorem dX0_match_48 : decode cX0_match 48 = .ok (.iconst 1, 1) := by decide +kernel
theorem dX0_match_49 : decode cX0_match 49 = .ok (.goto 4, 3) := by decide +kernel
theorem dX0_match_52 : decode cX0_match 52 = .ok (.iconst 0, 1) := by decide +kernel
theorem dX0_match_53 : decode cX0_match 53 = .ok (.istore 5, 2) := by decide +kernel
theorem dX0_match_55 : decode cX0_match 55 = .ok (.aload_n 0, 1) := by decide +kernel
theorem dX0_match_56 : decode cX0_match 56 = .ok (.getfield 22, 3) := by decide +kernel
theorem dX0_match_59 : decode cX0_match 59 = .ok (.iload 4, 2) := by decide +kernel
theorem dX0_match_61 : decode cX0_match 61 = .ok (.iload 5, 2) := by decide +kernel
theorem dX0_match_63 : decode cX0_match 63 = .ok (.ifCond .ne 7, 3) := by decide +kernel
theorem dX0_match_66 : decode cX0_match 66 = .ok (.iconst 0, 1) := by decide +kernel
theorem dX0_match_67 : decode cX0_match 67 = .ok (.goto 18, 3) := by decide +kernel
theorem dX0_match_70 : decode cX0_match 70 = .ok (.iload_n 3, 1) := by decide +kernel
theorem dX0_match_71 : decode cX0_match 71 = .ok (.ifCond .eq 13, 3) := by decide +kernel
theorem dX0_match_74 : decode cX0_match 74 = .ok (.aload_n 0, 1) := by decide +kernel
theorem dX0_match_75 : decode cX0_match 75 = .ok (.getfield 7, 3) := by decide +kernel
theorem dX0_match_78 : decode cX0_match 78 = .ok (.iload 4, 2) := by decide +kernel
theorem dX0_match_80 : decode cX0_match 80 = .ok (.iaload, 1) := by decide +kernel
theorem dX0_match_81 : decode cX0_match 81 = .ok (.goto 4, 3) := by decide +kernel
theorem dX0_match_84 : decode cX0_match 84 = .ok (.iconst 1, 1) := by decide +kernel
theorem dX0_match_85 : decode cX0_match 85 = .ok (.iastore, 1) := by decide +kernel
theorem dX0_match_86 : decode cX0_match 86 = .ok (.aload_n 0, 1) := by decide +kernel
theorem dX0_match_87 : decode cX0_match 87 = .ok (.getfield 25, 3) := by decide +kernel
theorem dX0_match_90 : decode cX0_match 90 = .ok (.iload 4, 2) := by decide +kernel
theorem dX0_match_92 : decode cX0_match 92 = .ok (.aload_n 0, 1) := by decide +kernel
theorem dX0_match_93 : decode cX0_match 93 = .ok (.getfield 22, 3) := by decide +kernel
theorem dX0_match_96 : decode cX0_match 96 = .ok (.iload 4, 2) := by decide +kernel
theorem dX0_match_98 : decode cX0_match 98 = .ok (.iaload, 1) := by decide +kernel
theorem dX0_match_99 : decode cX0_match 99 = .ok (.iastore, 1) := by decide +kernel
theorem dX0_match_100 : decode cX0_match 100 = .ok (.iinc 4 1, 3) := by decide +kernel
theorem dX0_match_103 : decode cX0_match 103 = .ok (.goto (-72), 3) := by decide +kernel
theorem dX0_match_106 : decode cX0_match 106 = .ok (.iconst 0, 1) := by decide +kernel
theorem dX0_match_107 : decode cX0_match 107 = .ok (.istore 4, 2) := by decide +kernel
theorem dX0_match_109 : decode cX0_match 109 = .ok (.aload_n 0, 1) := by decide +kernel
theorem dX0_match_110 : decode cX0_match 110 = .ok (.iload_n 1, 1) := by decide +kernel
theorem dX0_match_111 : decode cX0_match 111 = .ok (.iload_n 2, 1) := by decide +kernel
theorem dX0_match_112 : decode cX0_match 112 = .ok (.invokevirtual 66, 3) := by decide +kernel
theorem dX0_match_115 : decode cX0_match 115 = .ok (.istore 5, 2) := by decide +kernel
theorem dX0_match_117 : decode cX0_match 117 = .ok (.iconst 0, 1) := by decide +kernel
theorem dX0_match_118 : decode cX0_match 118 = .ok (.istore 6, 2) := by decide +kernel
theorem dX0_match_120 : decode cX0_match 120 = .ok (.iload 6, 2) := by decide +kernel
theorem dX0_match_122 : decode cX0_match 122 = .ok (.bipush 100, 2) := by decide +kernel
theorem dX0_match_124 : decode cX0_match 124 = .ok (.if_icmp .ge 31, 3) := by decide +kernel
theorem dX0_match_127 : decode cX0_match 127 = .ok (.iload 5, 2) := by decide +kernel
theorem dX0_match_129 : decode cX0_match 129 = .ok (.ifCond .lt 26, 3) := by decide +kernel
theorem dX0_match_132 : decode cX0_match 132 = .ok (.aload_n 0, 1) := by decide +kernel
theorem dX0_match_133 : decode cX0_match 133 = .ok (.iload 5, 2) := by decide +kernel
theorem dX0_match_135 : decode cX0_match 135 = .ok (.invokevirtual 69, 3) := by decide +kernel
theorem dX0_match_138 : decode cX0_match 138 = .ok (.iinc 4 1, 3) := by decide +kernel
theorem dX0_match_141 : decode cX0_match 141 = .ok (.aload_n 0, 1) := by decide +kernel
theorem dX0_match_142 : decode cX0_match 142 = .ok (.iload_n 1, 1) := by decide +kernel
theorem dX0_match_143 : decode cX0_match 143 = .ok (.iload_n 2, 1) := by decide +kernel
theorem dX0_match_144 : decode cX0_match 144 = .ok (.invokevirtual 66, 3) := by decide +kernel
theorem dX0_match_147 : decode cX0_match 147 = .ok (.istore 5, 2) := by decide +kernel
theorem dX0_match_149 : decode cX0_match 149 = .ok (.iinc 6 1, 3) := by decide +kernel
theorem dX0_match_152 : decode cX0_match 152 = .ok (.goto (-32), 3) := by decide +kernel
theorem dX0_match_155 : decode cX0_match 155 = .ok (.iload 4, 2) := by decide +kernel
theorem dX0_match_157 : decode cX0_match 157 = .ok (.ireturn, 1) := by decide +kernel
theorem dX0_findWay_0 : decode cX0_findWay 0 = .ok (.iconst 0, 1) := by decide +kernel
theorem dX0_findWay_1 : decode cX0_findWay 1 = .ok (.istore_n 3, 1) := by decide +kernel
theorem dX0_findWay_2 : decode cX0_findWay 2 = .ok (.iconst 0, 1) := by decide +kernel
theorem dX0_findWay_3 : decode cX0_findWay 3 = .ok (.istore 4, 2) := by decide +kernel
theorem dX0_findWay_5 : decode cX0_findWay 5 = .ok (.iload 4, 2) := by decide +kernel
theorem dX0_findWay_7 : decode cX0_findWay 7 = .ok (.bipush 10, 2) := by decide +kernel
theorem dX0_findWay_9 : decode cX0_findWay 9 = .ok (.if_icmp .ge 65, 3) := by decide +kernel
theorem dX0_findWay_12 : decode cX0_findWay 12 = .ok (.aload_n 0, 1) := by decide +kernel
theorem dX0_findWay_13 : decode cX0_findWay 13 = .ok (.getfield 31, 3) := by decide +kernel
theorem dX0_findWay_16 : decode cX0_findWay 16 = .ok (.iload 4, 2) := by decide +kernel
theorem dX0_findWay_18 : decode cX0_findWay 18 = .ok (.iconst (-1), 1) := by decide +kernel
theorem dX0_findWay_19 : decode cX0_findWay 19 = .ok (.iastore, 1) := by decide +kernel
theorem dX0_findWay_20 : decode cX0_findWay 20 = .ok (.aload_n 0, 1) := by decide +kernel
theorem dX0_findWay_21 : decode cX0_findWay 21 = .ok (.getfield 34, 3) := by decide +kernel
theorem dX0_findWay_24 : decode cX0_findWay 24 = .ok (.iload 4, 2) := by decide +kernel
theorem dX0_findWay_26 : decode cX0_findWay 26 = .ok (.iconst (-1), 1) := by decide +kernel
theorem dX0_findWay_27 : decode cX0_findWay 27 = .ok (.iastore, 1) := by decide +kernel
theorem dX0_findWay_28 : decode cX0_findWay 28 = .ok (.iload_n 1, 1) := by decide +kernel
theorem dX0_findWay_29 : decode cX0_findWay 29 = .ok (.iload 4, 2) := by decide +kernel
theorem dX0_findWay_31 : decode cX0_findWay 31 = .ok (.ishr, 1) := by decide +kernel
theorem dX0_findWay_32 : decode cX0_findWay 32 = .ok (.iconst 1, 1) := by decide +kernel
theorem dX0_findWay_33 : decode cX0_findWay 33 = .ok (.iand, 1) := by decide +kernel
theorem dX0_findWay_34 : decode cX0_findWay 34 = .ok (.iconst 1, 1) := by decide +kernel
theorem dX0_findWay_35 : decode cX0_findWay 35 = .ok (.if_icmp .ne 33, 3) := by decide +kernel
theorem dX0_findWay_38 : decode cX0_findWay 38 = .ok (.aload_n 0, 1) := by decide +kernel
theorem dX0_findWay_39 : decode cX0_findWay 39 = .ok (.getfield 22, 3) := by decide +kernel
theorem dX0_findWay_42 : decode cX0_findWay 42 = .ok (.iload 4, 2) := by decide +kernel
theorem dX0_findWay_44 : decode cX0_findWay 44 = .ok (.iaload, 1) := by decide +kernel
theorem dX0_findWay_45 : decode cX0_findWay 45 = .ok (.ifCond .le 23, 3) := by decide +kernel
theorem dX0_findWay_48 : decode cX0_findWay 48 = .ok (.aload_n 0, 1) := by decide +kernel
theorem dX0_findWay_49 : decode cX0_findWay 49 = .ok (.getfield 31, 3) := by decide +kernel
theorem dX0_findWay_52 : decode cX0_findWay 52 = .ok (.iload 4, 2) := by decide +kernel
theorem dX0_findWay_54 : decode cX0_findWay 54 = .ok (.iload 4, 2) := by decide +kernel
theorem dX0_findWay_56 : decode cX0_findWay 56 = .ok (.iastore, 1) := by decide +kernel
theorem dX0_findWay_57 : decode cX0_findWay 57 = .ok (.aload_n 0, 1) := by decide +kernel
theorem dX0_findWay_58 : decode cX0_findWay 58 = .ok (.getfield 37, 3) := by decide +kernel
theorem dX0_findWay_61 : decode cX0_findWay 61 = .ok (.iload_n 3, 1) := by decide +kernel
theorem dX0_findWay_62 : decode cX0_findWay 62 = .ok (.iload 4, 2) := by decide +kernel
theorem dX0_findWay_64 : decode cX0_findWay 64 = .ok (.iastore, 1) := by decide +kernel
theorem dX0_findWay_65 : decode cX0_findWay 65 = .ok (.iinc 3 1, 3) := by decide +kernel
theorem dX0_findWay_68 : decode cX0_findWay 68 = .ok (.iinc 4 1, 3) := by decide +kernel
theorem dX0_findWay_71 : decode cX0_findWay 71 = .ok (.goto (-66), 3) := by decide +kernel
theorem dX0_findWay_74 : decode cX0_findWay 74 = .ok (.iconst 0, 1) := by decide +kernel
theorem dX0_findWay_75 : decode cX0_findWay 75 = .ok (.istore 4, 2) := by decide +kernel
theorem dX0_findWay_77 : decode cX0_findWay 77 = .ok (.iload 4, 2) := by decide +kernel
theorem dX0_findWay_79 : decode cX0_findWay 79 = .ok (.iload_n 3, 1) := by decide +kernel
theorem dX0_findWay_80 : decode cX0_findWay 80 = .ok (.if_icmp .ge 96, 3) := by decide +kernel
theorem dX0_findWay_83 : decode cX0_findWay 83 = .ok (.aload_n 0, 1) := by decide +kernel
theorem dX0_findWay_84 : decode cX0_findWay 84 = .ok (.getfield 37, 3) := by decide +kernel
theorem dX0_findWay_87 : decode cX0_findWay 87 = .ok (.iload 4, 2) := by decide +kernel
theorem dX0_findWay_89 : decode cX0_findWay 89 = .ok (.iaload, 1) := by decide +kernel
theorem dX0_findWay_90 : decode cX0_findWay 90 = .ok (.istore 5, 2) := by decide +kernel
theorem dX0_findWay_92 : decode cX0_findWay 92 = .ok (.aload_n 0, 1) := by decide +kernel
theorem dX0_findWay_93 : decode cX0_findWay 93 = .ok (.iload 5, 2) := by decide +kernel
theorem dX0_findWay_95 : decode cX0_findWay 95 = .ok (.iload_n 2, 1) := by decide +kernel
theorem dX0_findWay_96 : decode cX0_findWay 96 = .ok (.invokevirtual 55, 3) := by decide +kernel
theorem dX0_findWay_99 : decode cX0_findWay 99 = .ok (.iload_n 1, 1) := by decide +kernel
theorem dX0_findWay_100 : decode cX0_findWay 100 = .ok (.iand, 1) := by decide +kernel
theorem dX0_findWay_101 : decode cX0_findWay 101 = .ok (.istore 6, 2) := by decide +kernel
theorem dX0_findWay_103 : decode cX0_findWay 103 = .ok (.iconst 0, 1) := by decide +kernel
theorem dX0_findWay_104 : decode cX0_findWay 104 = .ok (.istore 7, 2) := by decide +kernel
theorem dX0_findWay_106 : decode cX0_findWay 106 = .ok (.iload 7, 2) := by decide +kernel
theorem dX0_findWay_108 : decode cX0_findWay 108 = .ok (.bipush 10, 2) := by decide +kernel
theorem dX0_findWay_110 : decode cX0_findWay 110 = .ok (.if_icmp .ge 60, 3) := by decide +kernel
theorem dX0_findWay_113 : decode cX0_findWay 113 = .ok (.iload 6, 2) := by decide +kernel
theorem dX0_findWay_115 : decode cX0_findWay 115 = .ok (.iload 7, 2) := by decide +kernel
theorem dX0_findWay_117 : decode cX0_findWay 117 = .ok (.ishr, 1) := by decide +kernel
theorem dX0_findWay_118 : decode cX0_findWay 118 = .ok (.iconst 1, 1) := by decide +kernel
theorem dX0_findWay_119 : decode cX0_findWay 119 = .ok (.iand, 1) := by decide +kernel
theorem dX0_findWay_120 : decode cX0_findWay 120 = .ok (.iconst 1, 1) := by decide +kernel
theorem dX0_findWay_121 : decode cX0_findWay 121 = .ok (.if_icmp .ne 43, 3) := by decide +kernel
theorem dX0_findWay_124 : decode cX0_findWay 124 = .ok (.aload_n 0, 1) := by decide +kernel
theorem dX0_findWay_125 : decode cX0_findWay 125 = .ok (.getfield 34, 3) := by decide +kernel
theorem dX0_findWay_128 : decode cX0_findWay 128 = .ok (.iload 7, 2) := by decide +kernel
theorem dX0_findWay_130 : decode cX0_findWay 130 = .ok (.iaload, 1) := by decide +kernel
theorem dX0_findWay_131 : decode cX0_findWay 131 = .ok (.ifCond .ge 33, 3) := by decide +kernel
theorem dX0_findWay_134 : decode cX0_findWay 134 = .ok (.aload_n 0, 1) := by decide +kernel
theorem dX0_findWay_135 : decode cX0_findWay 135 = .ok (.getfield 34, 3) := by decide +kernel
theorem dX0_findWay_138 : decode cX0_findWay 138 = .ok (.iload 7, 2) := by decide +kernel
theorem dX0_findWay_140 : decode cX0_findWay 140 = .ok (.iload 5, 2) := by decide +kernel
theorem dX0_findWay_142 : decode cX0_findWay 142 = .ok (.iastore, 1) := by decide +kernel
theorem dX0_findWay_143 : decode cX0_findWay 143 = .ok (.aload_n 0, 1) := by decide +kernel
theorem dX0_findWay_144 : decode cX0_findWay 144 = .ok (.getfield 25, 3) := by decide +kernel
theorem dX0_findWay_147 : decode cX0_findWay 147 = .ok (.iload 7, 2) := by decide +kernel
theorem dX0_findWay_149 : decode cX0_findWay 149 = .ok (.iaload, 1) := by decide +kernel
theorem dX0_findWay_150 : decode cX0_findWay 150 = .ok (.ifCond .le 6, 3) := by decide +kernel
theorem dX0_findWay_153 : decode cX0_findWay 153 = .ok (.iload 7, 2) := by decide +kernel
theorem dX0_findWay_155 : decode cX0_findWay 155 = .ok (.ireturn, 1) := by decide +kernel
theorem dX0_findWay_156 : decode cX0_findWay 156 = .ok (.aload_n 0, 1) := by decide +kernel
theorem dX0_findWay_157 : decode cX0_findWay 157 = .ok (.iload 7, 2) := by decide +kernel
theorem dX0_findWay_159 : decode cX0_findWay 159 = .ok (.iload_n 3, 1) := by decide +kernel
theorem dX0_findWay_160 : decode cX0_findWay 160 = .ok (.invokevirtual 59, 3) := by decide +kernel
theorem dX0_findWay_163 : decode cX0_findWay 163 = .ok (.istore_n 3, 1) := by decide +kernel
theorem dX0_findWay_164 : decode cX0_findWay 164 = .ok (.iinc 7 1, 3) := by decide +kernel
theorem dX0_findWay_167 : decode cX0_findWay 167 = .ok (.goto (-61), 3) := by decide +kernel
theorem dX0_findWay_170 : decode cX0_findWay 170 = .ok (.iinc 4 1, 3) := by decide +kernel
theorem dX0_findWay_173 : decode cX0_findWay 173 = .ok (.goto (-96), 3) := by decide +kernel
theorem dX0_findWay_176 : decode cX0_findWay 176 = .ok (.iconst (-1), 1) := by decide +kernel
theorem dX0_findWay_177 : decode cX0_findWay 177 = .ok (.ireturn, 1) := by decide +kernel
theorem dX0_targets_0 : decode cX0_targets 0 = .ok (.iload_n 2, 1) := by decide +kernel
theorem dX0_targets_1 : decode cX0_targets 1 = .ok (.ifCond .eq 12, 3) := by decide +kernel
theorem dX0_targets_4 : decode cX0_targets 4 = .ok (.aload_n 0, 1) := by decide +kernel
theorem dX0_targets_5 : decode cX0_targets 5 = .ok (.getfield 13, 3) := by decide +kernel
theorem dX0_targets_8 : decode cX0_targets 8 = .ok (.iload_n 1, 1) := by decide +kernel
theorem dX0_targets_9 : decode cX0_targets 9 = .ok (.iaload, 1) := by decide +kernel
theorem dX0_targets_10 : decode cX0_targets 10 = .ok (.goto 9, 3) := by decide +kernel
theorem dX0_targets_13 : decode cX0_targets 13 = .ok (.aload_n 0, 1) := by decide +kernel
theorem dX0_targets_14 : decode cX0_targets 14 = .ok (.getfield 16, 3) := by decide +kernel
theorem dX0_targets_17 : decode cX0_targets 17 = .ok (.iload_n 1, 1) := by decide +kernel
theorem dX0_targets_18 : decode cX0_targets 18 = .ok (.iaload, 1) := by decide +kernel
theorem dX0_targets_19 : decode cX0_targets 19 = .ok (.ireturn, 1) := by decide +kernel
theorem dX0_goBack_0 : decode cX0_goBack 0 = .ok (.iload_n 2, 1) := by decide +kernel
theorem dX0_goBack_1 : decode cX0_goBack 1 = .ok (.istore_n 3, 1) := by decide +kernel
theorem dX0_goBack_2 : decode cX0_goBack 2 = .ok (.iconst 0, 1) := by decide +kernel
theorem dX0_goBack_3 : decode cX0_goBack 3 = .ok (.istore 4, 2) := by decide +kernel
theorem dX0_goBack_5 : decode cX0_goBack 5 = .ok (.iload 4, 2) := by decide +kernel
theorem dX0_goBack_7 : decode cX0_goBack 7 = .ok (.bipush 10, 2) := by decide +kernel
theorem dX0_goBack_9 : decode cX0_goBack 9 = .ok (.if_icmp .ge 56, 3) := by decide +kernel
theorem dX0_goBack_12 : decode cX0_goBack 12 = .ok (.aload_n 0, 1) := by decide +kernel
theorem dX0_goBack_13 : decode cX0_goBack 13 = .ok (.getfield 28, 3) := by decide +kernel
theorem dX0_goBack_16 : decode cX0_goBack 16 = .ok (.iload 4, 2) := by decide +kernel
theorem dX0_goBack_18 : decode cX0_goBack 18 = .ok (.bipush 10, 2) := by decide +kernel
theorem dX0_goBack_20 : decode cX0_goBack 20 = .ok (.imul, 1) := by decide +kernel
theorem dX0_goBack_21 : decode cX0_goBack 21 = .ok (.iload_n 1, 1) := by decide +kernel
theorem dX0_goBack_22 : decode cX0_goBack 22 = .ok (.iadd, 1) := by decide +kernel
theorem dX0_goBack_23 : decode cX0_goBack 23 = .ok (.iaload, 1) := by decide +kernel
theorem dX0_goBack_24 : decode cX0_goBack 24 = .ok (.ifCond .le 35, 3) := by decide +kernel
theorem dX0_goBack_27 : decode cX0_goBack 27 = .ok (.aload_n 0, 1) := by decide +kernel
theorem dX0_goBack_28 : decode cX0_goBack 28 = .ok (.getfield 31, 3) := by decide +kernel
theorem dX0_goBack_31 : decode cX0_goBack 31 = .ok (.iload 4, 2) := by decide +kernel
theorem dX0_goBack_33 : decode cX0_goBack 33 = .ok (.iaload, 1) := by decide +kernel
theorem dX0_goBack_34 : decode cX0_goBack 34 = .ok (.ifCond .ge 25, 3) := by decide +kernel
theorem dX0_goBack_37 : decode cX0_goBack 37 = .ok (.aload_n 0, 1) := by decide +kernel
theorem dX0_goBack_38 : decode cX0_goBack 38 = .ok (.getfield 31, 3) := by decide +kernel
theorem dX0_goBack_41 : decode cX0_goBack 41 = .ok (.iload 4, 2) := by decide +kernel
theorem dX0_goBack_43 : decode cX0_goBack 43 = .ok (.iload_n 1, 1) := by decide +kernel
theorem dX0_goBack_44 : decode cX0_goBack 44 = .ok (.bipush 10, 2) := by decide +kernel
theorem dX0_goBack_46 : decode cX0_goBack 46 = .ok (.iadd, 1) := by decide +kernel
theorem dX0_goBack_47 : decode cX0_goBack 47 = .ok (.iastore, 1) := by decide +kernel
theorem dX0_goBack_48 : decode cX0_goBack 48 = .ok (.aload_n 0, 1) := by decide +kernel
theorem dX0_goBack_49 : decode cX0_goBack 49 = .ok (.getfield 37, 3) := by decide +kernel
theorem dX0_goBack_52 : decode cX0_goBack 52 = .ok (.iload_n 3, 1) := by decide +kernel
theorem dX0_goBack_53 : decode cX0_goBack 53 = .ok (.iload 4, 2) := by decide +kernel
theorem dX0_goBack_55 : decode cX0_goBack 55 = .ok (.iastore, 1) := by decide +kernel
theorem dX0_goBack_56 : decode cX0_goBack 56 = .ok (.iinc 3 1, 3) := by decide +kernel
theorem dX0_goBack_59 : decode cX0_goBack 59 = .ok (.iinc 4 1, 3) := by decide +kernel
theorem dX0_goBack_62 : decode cX0_goBack 62 = .ok (.goto (-57), 3) := by decide +kernel
theorem dX0_goBack_65 : decode cX0_goBack 65 = .ok (.iload_n 3, 1) := by decide +kernel
theorem dX0_goBack_66 : decode cX0_goBack 66 = .ok (.ireturn, 1) := by decide +kernel
theorem dX0_send_0 : decode cX0_send 0 = .ok (.iload_n 1, 1) := by decide +kernel
theorem dX0_send_1 : decode cX0_send 1 = .ok (.istore_n 2, 1) := by decide +kernel
theorem dX0_send_2 : decode cX0_send 2 = .ok (.aload_n 0, 1) := by decide +kernel
theorem dX0_send_3 : decode cX0_send 3 = .ok (.getfield 25, 3) := by decide +kernel
theorem dX0_send_6 : decode cX0_send 6 = .ok (.iload_n 2, 1) := by decide +kernel
theorem dX0_send_7 : decode cX0_send 7 = .ok (.dup2, 1) := by decide +kernel
theorem dX0_send_8 : decode cX0_send 8 = .ok (.iaload, 1) := by decide +kernel
theorem dX0_send_9 : decode cX0_send 9 = .ok (.iconst 1, 1) := by decide +kernel
theorem dX0_send_10 : decode cX0_send 10 = .ok (.isub, 1) := by decide +kernel
theorem dX0_send_11 : decode cX0_send 11 = .ok (.iastore, 1) := by decide +kernel
theorem dX0_send_12 : decode cX0_send 12 = .ok (.iconst 0, 1) := by decide +kernel
theorem dX0_send_13 : decode cX0_send 13 = .ok (.istore_n 3, 1) := by decide +kernel
theorem dX0_send_14 : decode cX0_send 14 = .ok (.iload_n 3, 1) := by decide +kernel
theorem dX0_send_15 : decode cX0_send 15 = .ok (.bipush 10, 2) := by decide +kernel
theorem dX0_send_17 : decode cX0_send 17 = .ok (.if_icmp .ge 84, 3) := by decide +kernel
theorem dX0_send_20 : decode cX0_send 20 = .ok (.aload_n 0, 1) := by decide +kernel
theorem dX0_send_21 : decode cX0_send 21 = .ok (.getfield 34, 3) := by decide +kernel
theorem dX0_send_24 : decode cX0_send 24 = .ok (.iload_n 2, 1) := by decide +kernel
theorem dX0_send_25 : decode cX0_send 25 = .ok (.iaload, 1) := by decide +kernel
theorem dX0_send_26 : decode cX0_send 26 = .ok (.istore 4, 2) := by decide +kernel
theorem dX0_send_28 : decode cX0_send 28 = .ok (.aload_n 0, 1) := by decide +kernel
theorem dX0_send_29 : decode cX0_send 29 = .ok (.getfield 28, 3) := by decide +kernel
theorem dX0_send_32 : decode cX0_send 32 = .ok (.iload 4, 2) := by decide +kernel
theorem dX0_send_34 : decode cX0_send 34 = .ok (.bipush 10, 2) := by decide +kernel
theorem dX0_send_36 : decode cX0_send 36 = .ok (.imul, 1) := by decide +kernel
theorem dX0_send_37 : decode cX0_send 37 = .ok (.iload_n 2, 1) := by decide +kernel
theorem dX0_send_38 : decode cX0_send 38 = .ok (.iadd, 1) := by decide +kernel
theorem dX0_send_39 : decode cX0_send 39 = .ok (.dup2, 1) := by decide +kernel
theorem dX0_send_40 : decode cX0_send 40 = .ok (.iaload, 1) := by decide +kernel
theorem dX0_send_41 : decode cX0_send 41 = .ok (.iconst 1, 1) := by decide +kernel
theorem dX0_send_42 : decode cX0_send 42 = .ok (.iadd, 1) := by decide +kernel
theorem dX0_send_43 : decode cX0_send 43 = .ok (.iastore, 1) := by decide +kernel
theorem dX0_send_44 : decode cX0_send 44 = .ok (.aload_n 0, 1) := by decide +kernel
theorem dX0_send_45 : decode cX0_send 45 = .ok (.getfield 31, 3) := by decide +kernel
theorem dX0_send_48 : decode cX0_send 48 = .ok (.iload 4, 2) := by decide +kernel
theorem dX0_send_50 : decode cX0_send 50 = .ok (.iaload, 1) := by decide +kernel
theorem dX0_send_51 : decode cX0_send 51 = .ok (.iload 4, 2) := by decide +kernel
theorem dX0_send_53 : decode cX0_send 53 = .ok (.if_icmp .ne 15, 3) := by decide +kernel
theorem dX0_send_56 : decode cX0_send 56 = .ok (.aload_n 0, 1) := by decide +kernel
theorem dX0_send_57 : decode cX0_send 57 = .ok (.getfield 22, 3) := by decide +kernel
theorem dX0_send_60 : decode cX0_send 60 = .ok (.iload 4, 2) := by decide +kernel
theorem dX0_send_62 : decode cX0_send 62 = .ok (.dup2, 1) := by decide +kernel
theorem dX0_send_63 : decode cX0_send 63 = .ok (.iaload, 1) := by decide +kernel
theorem dX0_send_64 : decode cX0_send 64 = .ok (.iconst 1, 1) := by decide +kernel
theorem dX0_send_65 : decode cX0_send 65 = .ok (.isub, 1) := by decide +kernel
theorem dX0_send_66 : decode cX0_send 66 = .ok (.iastore, 1) := by decide +kernel
theorem dX0_send_67 : decode cX0_send 67 = .ok (.return_, 1) := by decide +kernel
theorem dX0_send_68 : decode cX0_send 68 = .ok (.aload_n 0, 1) := by decide +kernel
theorem dX0_send_69 : decode cX0_send 69 = .ok (.getfield 31, 3) := by decide +kernel
theorem dX0_send_72 : decode cX0_send 72 = .ok (.iload 4, 2) := by decide +kernel
theorem dX0_send_74 : decode cX0_send 74 = .ok (.iaload, 1) := by decide +kernel
theorem dX0_send_75 : decode cX0_send 75 = .ok (.bipush 10, 2) := by decide +kernel
theorem dX0_send_77 : decode cX0_send 77 = .ok (.isub, 1) := by decide +kernel
theorem dX0_send_78 : decode cX0_send 78 = .ok (.istore_n 2, 1) := by decide +kernel
theorem dX0_send_79 : decode cX0_send 79 = .ok (.aload_n 0, 1) := by decide +kernel
theorem dX0_send_80 : decode cX0_send 80 = .ok (.getfield 28, 3) := by decide +kernel
theorem dX0_send_83 : decode cX0_send 83 = .ok (.iload 4, 2) := by decide +kernel
theorem dX0_send_85 : decode cX0_send 85 = .ok (.bipush 10, 2) := by decide +kernel
theorem dX0_send_87 : decode cX0_send 87 = .ok (.imul, 1) := by decide +kernel
theorem dX0_send_88 : decode cX0_send 88 = .ok (.iload_n 2, 1) := by decide +kernel
theorem dX0_send_89 : decode cX0_send 89 = .ok (.iadd, 1) := by decide +kernel
theorem dX0_send_90 : decode cX0_send 90 = .ok (.dup2, 1) := by decide +kernel
theorem dX0_send_91 : decode cX0_send 91 = .ok (.iaload, 1) := by decide +kernel
theorem dX0_send_92 : decode cX0_send 92 = .ok (.iconst 1, 1) := by decide +kernel
theorem dX0_send_93 : decode cX0_send 93 = .ok (.isub, 1) := by decide +kernel
theorem dX0_send_94 : decode cX0_send 94 = .ok (.iastore, 1) := by decide +kernel
theorem dX0_send_95 : decode cX0_send 95 = .ok (.iinc 3 1, 3) := by decide +kernel
theorem dX0_send_98 : decode cX0_send 98 = .ok (.goto (-84), 3) := by decide +kernel
theorem dX0_send_101 : decode cX0_send 101 = .ok (.return_, 1) := by decide +kernel
theorem dX0_bits_0 : decode cX0_bits 0 = .ok (.iconst 0, 1) := by decide +kernel
theorem dX0_bits_1 : decode cX0_bits 1 = .ok (.istore_n 1, 1) := by decide +kernel
theorem dX0_bits_2 : decode cX0_bits 2 = .ok (.iconst 0, 1) := by decide +kernel
theorem dX0_bits_3 : decode cX0_bits 3 = .ok (.istore_n 2, 1) := by decide +kernel
theorem dX0_bits_4 : decode cX0_bits 4 = .ok (.iload_n 2, 1) := by decide +kernel
theorem dX0_bits_5 : decode cX0_bits 5 = .ok (.bipush 10, 2) := by decide +kernel
theorem dX0_bits_7 : decode cX0_bits 7 = .ok (.if_icmp .ge 17, 3) := by decide +kernel
theorem dX0_bits_10 : decode cX0_bits 10 = .ok (.iload_n 1, 1) := by decide +kernel
theorem dX0_bits_11 : decode cX0_bits 11 = .ok (.iload_n 0, 1) := by decide +kernel
theorem dX0_bits_12 : decode cX0_bits 12 = .ok (.iload_n 2, 1) := by decide +kernel
theorem dX0_bits_13 : decode cX0_bits 13 = .ok (.ishr, 1) := by decide +kernel
theorem dX0_bits_14 : decode cX0_bits 14 = .ok (.iconst 1, 1) := by decide +kernel
theorem dX0_bits_15 : decode cX0_bits 15 = .ok (.iand, 1) := by decide +kernel
theorem dX0_bits_16 : decode cX0_bits 16 = .ok (.iadd, 1) := by decide +kernel
theorem dX0_bits_17 : decode cX0_bits 17 = .ok (.istore_n 1, 1) := by decide +kernel
theorem dX0_bits_18 : decode cX0_bits 18 = .ok (.iinc 2 1, 3) := by decide +kernel
theorem dX0_bits_21 : decode cX0_bits 21 = .ok (.goto (-17), 3) := by decide +kernel
theorem dX0_bits_24 : decode cX0_bits 24 = .ok (.iload_n 1, 1) := by decide +kernel
theorem dX0_bits_25 : decode cX0_bits 25 = .ok (.ireturn, 1) := by decide +kernel
theorem dX0_width_0 : decode cX0_width 0 = .ok (.aload_n 0, 1) := by decide +kernel
theorem dX0_width_1 : decode cX0_width 1 = .ok (.aload_n 0, 1) := by decide +kernel
theorem dX0_width_2 : decode cX0_width 2 = .ok (.getfield 40, 3) := by decide +kernel
theorem dX0_width_5 : decode cX0_width 5 = .ok (.invokevirtual 81, 3) := by decide +kernel
theorem dX0_width_8 : decode cX0_width 8 = .ok (.ireturn, 1) := by decide +kernel
theorem dX0_antichain_0 : decode cX0_antichain 0 = .ok (.aload_n 0, 1) := by decide +kernel
theorem dX0_antichain_1 : decode cX0_antichain 1 = .ok (.aload_n 0, 1) := by decide +kernel
theorem dX0_antichain_2 : decode cX0_antichain 2 = .ok (.getfield 40, 3) := by decide +kernel
theorem dX0_antichain_5 : decode cX0_antichain 5 = .ok (.invokevirtual 81, 3) := by decide +kernel
theorem dX0_antichain_8 : decode cX0_antichain 8 = .ok (.istore_n 1, 1) := by decide +kernel
theorem dX0_antichain_9 : decode cX0_antichain 9 = .ok (.iconst 0, 1) := by decide +kernel
theorem dX0_antichain_10 : decode cX0_antichain 10 = .ok (.istore_n 2, 1) := by decide +kernel
theorem dX0_antichain_11 : decode cX0_antichain 11 = .ok (.aload_n 0, 1) := by decide +kernel
theorem dX0_antichain_12 : decode cX0_antichain 12 = .ok (.getfield 40, 3) := by decide +kernel
theorem dX0_antichain_15 : decode cX0_antichain 15 = .ok (.istore_n 3, 1) := by decide +kernel
theorem dX0_antichain_16 : decode cX0_antichain 16 = .ok (.bipush 9, 2) := by decide +kernel
theorem dX0_antichain_18 : decode cX0_antichain 18 = .ok (.istore 4, 2) := by decide +kernel
theorem dX0_antichain_20 : decode cX0_antichain 20 = .ok (.iload 4, 2) := by decide +kernel
theorem dX0_antichain_22 : decode cX0_antichain 22 = .ok (.ifCond .lt 64, 3) := by decide +kernel
theorem dX0_antichain_25 : decode cX0_antichain 25 = .ok (.iload_n 3, 1) := by decide +kernel
theorem dX0_antichain_26 : decode cX0_antichain 26 = .ok (.iload 4, 2) := by decide +kernel
theorem dX0_antichain_28 : decode cX0_antichain 28 = .ok (.ishr, 1) := by decide +kernel
theorem dX0_antichain_29 : decode cX0_antichain 29 = .ok (.iconst 1, 1) := by decide +kernel
theorem dX0_antichain_30 : decode cX0_antichain 30 = .ok (.iand, 1) := by decide +kernel
theorem dX0_antichain_31 : decode cX0_antichain 31 = .ok (.iconst 1, 1) := by decide +kernel
theorem dX0_antichain_32 : decode cX0_antichain 32 = .ok (.if_icmp .ne 48, 3) := by decide +kernel
theorem dX0_antichain_35 : decode cX0_antichain 35 = .ok (.iload_n 3, 1) := by decide +kernel
theorem dX0_antichain_36 : decode cX0_antichain 36 = .ok (.iconst 1, 1) := by decide +kernel
theorem dX0_antichain_37 : decode cX0_antichain 37 = .ok (.iload 4, 2) := by decide +kernel
theorem dX0_antichain_39 : decode cX0_antichain 39 = .ok (.ishl, 1) := by decide +kernel
theorem dX0_antichain_40 : decode cX0_antichain 40 = .ok (.iconst (-1), 1) := by decide +kernel
theorem dX0_antichain_41 : decode cX0_antichain 41 = .ok (.ixor, 1) := by decide +kernel
theorem dX0_antichain_42 : decode cX0_antichain 42 = .ok (.iand, 1) := by decide +kernel
theorem dX0_antichain_43 : decode cX0_antichain 43 = .ok (.istore_n 3, 1) := by decide +kernel
theorem dX0_antichain_44 : decode cX0_antichain 44 = .ok (.aload_n 0, 1) := by decide +kernel
theorem dX0_antichain_45 : decode cX0_antichain 45 = .ok (.iload_n 3, 1) := by decide +kernel
theorem dX0_antichain_46 : decode cX0_antichain 46 = .ok (.invokevirtual 81, 3) := by decide +kernel
theorem dX0_antichain_49 : decode cX0_antichain 49 = .ok (.istore 5, 2) := by decide +kernel
theorem dX0_antichain_51 : decode cX0_antichain 51 = .ok (.iload_n 2, 1) := by decide +kernel
theorem dX0_antichain_52 : decode cX0_antichain 52 = .ok (.invokestatic 77, 3) := by decide +kernel
theorem dX0_antichain_55 : decode cX0_antichain 55 = .ok (.iload 5, 2) := by decide +kernel
theorem dX0_antichain_57 : decode cX0_antichain 57 = .ok (.iadd, 1) := by decide +kernel
theorem dX0_antichain_58 : decode cX0_antichain 58 = .ok (.iload_n 1, 1) := by decide +kernel
theorem dX0_antichain_59 : decode cX0_antichain 59 = .ok (.if_icmp .ge 21, 3) := by decide +kernel
theorem dX0_antichain_62 : decode cX0_antichain 62 = .ok (.iload_n 2, 1) := by decide +kernel
theorem dX0_antichain_63 : decode cX0_antichain 63 = .ok (.iconst 1, 1) := by decide +kernel
theorem dX0_antichain_64 : decode cX0_antichain 64 = .ok (.iload 4, 2) := by decide +kernel
theorem dX0_antichain_66 : decode cX0_antichain 66 = .ok (.ishl, 1) := by decide +kernel
theorem dX0_antichain_67 : decode cX0_antichain 67 = .ok (.ior, 1) := by decide +kernel
theorem dX0_antichain_68 : decode cX0_antichain 68 = .ok (.istore_n 2, 1) := by decide +kernel
theorem dX0_antichain_69 : decode cX0_antichain 69 = .ok (.iload_n 3, 1) := by decide +kernel
theorem dX0_antichain_70 : decode cX0_antichain 70 = .ok (.aload_n 0, 1) := by decide +kernel
theorem dX0_antichain_71 : decode cX0_antichain 71 = .ok (.iload 4, 2) := by decide +kernel
theorem dX0_antichain_73 : decode cX0_antichain 73 = .ok (.invokevirtual 84, 3) := by decide +kernel
theorem dX0_antichain_76 : decode cX0_antichain 76 = .ok (.iconst (-1), 1) := by decide +kernel
theorem dX0_antichain_77 : decode cX0_antichain 77 = .ok (.ixor, 1) := by decide +kernel
theorem dX0_antichain_78 : decode cX0_antichain 78 = .ok (.iand, 1) := by decide +kernel
theorem dX0_antichain_79 : decode cX0_antichain 79 = .ok (.istore_n 3, 1) := by decide +kernel
theorem dX0_antichain_80 : decode cX0_antichain 80 = .ok (.iinc 4 (-1), 3) := by decide +kernel
theorem dX0_antichain_83 : decode cX0_antichain 83 = .ok (.goto (-63), 3) := by decide +kernel
theorem dX0_antichain_86 : decode cX0_antichain 86 = .ok (.iload_n 2, 1) := by decide +kernel
theorem dX0_antichain_87 : decode cX0_antichain 87 = .ok (.ireturn, 1) := by decide +kernel
theorem dX0_related_0 : decode cX0_related 0 = .ok (.aload_n 0, 1) := by decide +kernel
theorem dX0_related_1 : decode cX0_related 1 = .ok (.getfield 16, 3) := by decide +kernel
theorem dX0_related_4 : decode cX0_related 4 = .ok (.iload_n 1, 1) := by decide +kernel
theorem dX0_related_5 : decode cX0_related 5 = .ok (.iaload, 1) := by decide +kernel
theorem dX0_related_6 : decode cX0_related 6 = .ok (.istore_n 2, 1) := by decide +kernel
theorem dX0_related_7 : decode cX0_related 7 = .ok (.iconst 0, 1) := by decide +kernel
theorem dX0_related_8 : decode cX0_related 8 = .ok (.istore_n 3, 1) := by decide +kernel
theorem dX0_related_9 : decode cX0_related 9 = .ok (.iload_n 3, 1) := by decide +kernel
theorem dX0_related_10 : decode cX0_related 10 = .ok (.iload_n 1, 1) := by decide +kernel
theorem dX0_related_11 : decode cX0_related 11 = .ok (.if_icmp .ge 29, 3) := by decide +kernel
theorem dX0_related_14 : decode cX0_related 14 = .ok (.aload_n 0, 1) := by decide +kernel
theorem dX0_related_15 : decode cX0_related 15 = .ok (.getfield 16, 3) := by decide +kernel
theorem dX0_related_18 : decode cX0_related 18 = .ok (.iload_n 3, 1) := by decide +kernel
theorem dX0_related_19 : decode cX0_related 19 = .ok (.iaload, 1) := by decide +kernel
theorem dX0_related_20 : decode cX0_related 20 = .ok (.iload_n 1, 1) := by decide +kernel
theorem dX0_related_21 : decode cX0_related 21 = .ok (.ishr, 1) := by decide +kernel
theorem dX0_related_22 : decode cX0_related 22 = .ok (.iconst 1, 1) := by decide +kernel
theorem dX0_related_23 : decode cX0_related 23 = .ok (.iand, 1) := by decide +kernel
theorem dX0_related_24 : decode cX0_related 24 = .ok (.iconst 1, 1) := by decide +kernel
theorem dX0_related_25 : decode cX0_related 25 = .ok (.if_icmp .ne 9, 3) := by decide +kernel
theorem dX0_related_28 : decode cX0_related 28 = .ok (.iload_n 2, 1) := by decide +kernel
theorem dX0_related_29 : decode cX0_related 29 = .ok (.iconst 1, 1) := by decide +kernel
theorem dX0_related_30 : decode cX0_related 30 = .ok (.iload_n 3, 1) := by decide +kernel
theorem dX0_related_31 : decode cX0_related 31 = .ok (.ishl, 1) := by decide +kernel
theorem dX0_related_32 : decode cX0_related 32 = .ok (.ior, 1) := by decide +kernel
theorem dX0_related_33 : decode cX0_related 33 = .ok (.istore_n 2, 1) := by decide +kernel
theorem dX0_related_34 : decode cX0_related 34 = .ok (.iinc 3 1, 3) := by decide +kernel
theorem dX0_related_37 : decode cX0_related 37 = .ok (.goto (-28), 3) := by decide +kernel
theorem dX0_related_40 : decode cX0_related 40 = .ok (.iload_n 2, 1) := by decide +kernel
theorem dX0_related_41 : decode cX0_related 41 = .ok (.ireturn, 1) := by decide +kernel
theorem dX0_paths_0 : decode cX0_paths 0 = .ok (.aload_n 0, 1) := by decide +kernel
theorem dX0_paths_1 : decode cX0_paths 1 = .ok (.aload_n 0, 1) := by decide +kernel
theorem dX0_paths_2 : decode cX0_paths 2 = .ok (.getfield 40, 3) := by decide +kernel
theorem dX0_paths_5 : decode cX0_paths 5 = .ok (.iconst 1, 1) := by decide +kernel
theorem dX0_paths_6 : decode cX0_paths 6 = .ok (.iconst 0, 1) := by decide +kernel
theorem dX0_paths_7 : decode cX0_paths 7 = .ok (.invokevirtual 73, 3) := by decide +kernel
theorem dX0_paths_10 : decode cX0_paths 10 = .ok (.istore_n 1, 1) := by decide +kernel
theorem dX0_paths_11 : decode cX0_paths 11 = .ok (.aload_n 0, 1) := by decide +kernel
theorem dX0_paths_12 : decode cX0_paths 12 = .ok (.getfield 40, 3) := by decide +kernel
theorem dX0_paths_15 : decode cX0_paths 15 = .ok (.invokestatic 77, 3) := by decide +kernel
theorem dX0_paths_18 : decode cX0_paths 18 = .ok (.iload_n 1, 1) := by decide +kernel
theorem dX0_paths_19 : decode cX0_paths 19 = .ok (.isub, 1) := by decide +kernel
theorem dX0_paths_20 : decode cX0_paths 20 = .ok (.ireturn, 1) := by decide +kernel
theorem dX0_heaviest_0 : decode cX0_heaviest 0 = .ok (.aload_n 0, 1) := by decide +kernel
theorem dX0_heaviest_1 : decode cX0_heaviest 1 = .ok (.aload_n 0, 1) := by decide +kernel
theorem dX0_heaviest_2 : decode cX0_heaviest 2 = .ok (.getfield 40, 3) := by decide +kernel
theorem dX0_heaviest_5 : decode cX0_heaviest 5 = .ok (.iconst 0, 1) := by decide +kernel
theorem dX0_heaviest_6 : decode cX0_heaviest 6 = .ok (.iconst 1, 1) := by decide +kernel
theorem dX0_heaviest_7 : decode cX0_heaviest 7 = .ok (.invokevirtual 73, 3) := by decide +kernel
theorem dX0_heaviest_10 : decode cX0_heaviest 10 = .ok (.istore_n 1, 1) := by decide +kernel
theorem dX0_heaviest_11 : decode cX0_heaviest 11 = .ok (.iconst 0, 1) := by decide +kernel
theorem dX0_heaviest_12 : decode cX0_heaviest 12 = .ok (.istore_n 2, 1) := by decide +kernel
theorem dX0_heaviest_13 : decode cX0_heaviest 13 = .ok (.iconst 0, 1) := by decide +kernel
theorem dX0_heaviest_14 : decode cX0_heaviest 14 = .ok (.istore_n 3, 1) := by decide +kernel
theorem dX0_heaviest_15 : decode cX0_heaviest 15 = .ok (.iload_n 3, 1) := by decide +kernel
theorem dX0_heaviest_16 : decode cX0_heaviest 16 = .ok (.bipush 10, 2) := by decide +kernel
theorem dX0_heaviest_18 : decode cX0_heaviest 18 = .ok (.if_icmp .ge 30, 3) := by decide +kernel
theorem dX0_heaviest_21 : decode cX0_heaviest 21 = .ok (.aload_n 0, 1) := by decide +kernel
theorem dX0_heaviest_22 : decode cX0_heaviest 22 = .ok (.getfield 40, 3) := by decide +kernel
theorem dX0_heaviest_25 : decode cX0_heaviest 25 = .ok (.iload_n 3, 1) := by decide +kernel
theorem dX0_heaviest_26 : decode cX0_heaviest 26 = .ok (.ishr, 1) := by decide +kernel
theorem dX0_heaviest_27 : decode cX0_heaviest 27 = .ok (.iconst 1, 1) := by decide +kernel
theorem dX0_heaviest_28 : decode cX0_heaviest 28 = .ok (.iand, 1) := by decide +kernel
theorem dX0_heaviest_29 : decode cX0_heaviest 29 = .ok (.iconst 1, 1) := by decide +kernel
theorem dX0_heaviest_30 : decode cX0_heaviest 30 = .ok (.if_icmp .ne 12, 3) := by decide +kernel
theorem dX0_heaviest_33 : decode cX0_heaviest 33 = .ok (.iload_n 2, 1) := by decide +kernel
theorem dX0_heaviest_34 : decode cX0_heaviest 34 = .ok (.aload_n 0, 1) := by decide +kernel
theorem dX0_heaviest_35 : decode cX0_heaviest 35 = .ok (.getfield 7, 3) := by decide +kernel
theorem dX0_heaviest_38 : decode cX0_heaviest 38 = .ok (.iload_n 3, 1) := by decide +kernel
theorem dX0_heaviest_39 : decode cX0_heaviest 39 = .ok (.iaload, 1) := by decide +kernel
theorem dX0_heaviest_40 : decode cX0_heaviest 40 = .ok (.iadd, 1) := by decide +kernel
theorem dX0_heaviest_41 : decode cX0_heaviest 41 = .ok (.istore_n 2, 1) := by decide +kernel
theorem dX0_heaviest_42 : decode cX0_heaviest 42 = .ok (.iinc 3 1, 3) := by decide +kernel
theorem dX0_heaviest_45 : decode cX0_heaviest 45 = .ok (.goto (-30), 3) := by decide +kernel
theorem dX0_heaviest_48 : decode cX0_heaviest 48 = .ok (.iload_n 2, 1) := by decide +kernel
theorem dX0_heaviest_49 : decode cX0_heaviest 49 = .ok (.iload_n 1, 1) := by decide +kernel
theorem dX0_heaviest_50 : decode cX0_heaviest 50 = .ok (.isub, 1) := by decide +kernel
theorem dX0_heaviest_51 : decode cX0_heaviest 51 = .ok (.ireturn, 1) := by decide +kernel
theorem dX0_height_0 : decode cX0_height 0 = .ok (.aload_n 0, 1) := by decide +kernel
theorem dX0_height_1 : decode cX0_height 1 = .ok (.iconst 0, 1) := by decide +kernel
theorem dX0_height_2 : decode cX0_height 2 = .ok (.invokevirtual 87, 3) := by decide +kernel
theorem dX0_height_5 : decode cX0_height 5 = .ok (.ireturn, 1) := by decide +kernel
theorem dX0_bestChain_0 : decode cX0_bestChain 0 = .ok (.aload_n 0, 1) := by decide +kernel
theorem dX0_bestChain_1 : decode cX0_bestChain 1 = .ok (.invokevirtual 63, 3) := by decide +kernel
theorem dX0_bestChain_4 : decode cX0_bestChain 4 = .ok (.iconst 0, 1) := by decide +kernel
theorem dX0_bestChain_5 : decode cX0_bestChain 5 = .ok (.istore_n 2, 1) := by decide +kernel
theorem dX0_bestChain_6 : decode cX0_bestChain 6 = .ok (.bipush 9, 2) := by decide +kernel
theorem dX0_bestChain_8 : decode cX0_bestChain 8 = .ok (.istore_n 3, 1) := by decide +kernel
theorem dX0_bestChain_9 : decode cX0_bestChain 9 = .ok (.iload_n 3, 1) := by decide +kernel
theorem dX0_bestChain_10 : decode cX0_bestChain 10 = .ok (.ifCond .lt 127, 3) := by decide +kernel
theorem dX0_bestChain_13 : decode cX0_bestChain 13 = .ok (.iconst 0, 1) := by decide +kernel
theorem dX0_bestChain_14 : decode cX0_bestChain 14 = .ok (.istore 4, 2) := by decide +kernel
theorem dX0_bestChain_16 : decode cX0_bestChain 16 = .ok (.aload_n 0, 1) := by decide +kernel
theorem dX0_bestChain_17 : decode cX0_bestChain 17 = .ok (.getfield 16, 3) := by decide +kernel
theorem dX0_bestChain_20 : decode cX0_bestChain 20 = .ok (.iload_n 3, 1) := by decide +kernel
theorem dX0_bestChain_21 : decode cX0_bestChain 21 = .ok (.iaload, 1) := by decide +kernel
theorem dX0_bestChain_22 : decode cX0_bestChain 22 = .ok (.aload_n 0, 1) := by decide +kernel
theorem dX0_bestChain_23 : decode cX0_bestChain 23 = .ok (.getfield 40, 3) := by decide +kernel
theorem dX0_bestChain_26 : decode cX0_bestChain 26 = .ok (.iand, 1) := by decide +kernel
theorem dX0_bestChain_27 : decode cX0_bestChain 27 = .ok (.istore 5, 2) := by decide +kernel
theorem dX0_bestChain_29 : decode cX0_bestChain 29 = .ok (.iload_n 3, 1) := by decide +kernel
theorem dX0_bestChain_30 : decode cX0_bestChain 30 = .ok (.iconst 1, 1) := by decide +kernel
theorem dX0_bestChain_31 : decode cX0_bestChain 31 = .ok (.iadd, 1) := by decide +kernel
theorem dX0_bestChain_32 : decode cX0_bestChain 32 = .ok (.istore 6, 2) := by decide +kernel
theorem dX0_bestChain_34 : decode cX0_bestChain 34 = .ok (.iload 6, 2) := by decide +kernel
theorem dX0_bestChain_36 : decode cX0_bestChain 36 = .ok (.bipush 10, 2) := by decide +kernel
theorem dX0_bestChain_38 : decode cX0_bestChain 38 = .ok (.if_icmp .ge 41, 3) := by decide +kernel
theorem dX0_bestChain_41 : decode cX0_bestChain 41 = .ok (.iload 5, 2) := by decide +kernel
theorem dX0_bestChain_43 : decode cX0_bestChain 43 = .ok (.iload 6, 2) := by decide +kernel
theorem dX0_bestChain_45 : decode cX0_bestChain 45 = .ok (.ishr, 1) := by decide +kernel
theorem dX0_bestChain_46 : decode cX0_bestChain 46 = .ok (.iconst 1, 1) := by decide +kernel
theorem dX0_bestChain_47 : decode cX0_bestChain 47 = .ok (.iand, 1) := by decide +kernel
theorem dX0_bestChain_48 : decode cX0_bestChain 48 = .ok (.iconst 1, 1) := by decide +kernel
theorem dX0_bestChain_49 : decode cX0_bestChain 49 = .ok (.if_icmp .ne 24, 3) := by decide +kernel
theorem dX0_bestChain_52 : decode cX0_bestChain 52 = .ok (.aload_n 0, 1) := by decide +kernel
theorem dX0_bestChain_53 : decode cX0_bestChain 53 = .ok (.getfield 37, 3) := by decide +kernel
theorem dX0_bestChain_56 : decode cX0_bestChain 56 = .ok (.iload 6, 2) := by decide +kernel
theorem dX0_bestChain_58 : decode cX0_bestChain 58 = .ok (.iaload, 1) := by decide +kernel
theorem dX0_bestChain_59 : decode cX0_bestChain 59 = .ok (.iload 4, 2) := by decide +kernel
theorem dX0_bestChain_61 : decode cX0_bestChain 61 = .ok (.if_icmp .le 12, 3) := by decide +kernel
theorem dX0_bestChain_64 : decode cX0_bestChain 64 = .ok (.aload_n 0, 1) := by decide +kernel
theorem dX0_bestChain_65 : decode cX0_bestChain 65 = .ok (.getfield 37, 3) := by decide +kernel
theorem dX0_bestChain_68 : decode cX0_bestChain 68 = .ok (.iload 6, 2) := by decide +kernel
theorem dX0_bestChain_70 : decode cX0_bestChain 70 = .ok (.iaload, 1) := by decide +kernel
theorem dX0_bestChain_71 : decode cX0_bestChain 71 = .ok (.istore 4, 2) := by decide +kernel
theorem dX0_bestChain_73 : decode cX0_bestChain 73 = .ok (.iinc 6 1, 3) := by decide +kernel
theorem dX0_bestChain_76 : decode cX0_bestChain 76 = .ok (.goto (-42), 3) := by decide +kernel
theorem dX0_bestChain_79 : decode cX0_bestChain 79 = .ok (.aload_n 0, 1) := by decide +kernel
theorem dX0_bestChain_80 : decode cX0_bestChain 80 = .ok (.getfield 37, 3) := by decide +kernel
theorem dX0_bestChain_83 : decode cX0_bestChain 83 = .ok (.iload_n 3, 1) := by decide +kernel
theorem dX0_bestChain_84 : decode cX0_bestChain 84 = .ok (.iload 4, 2) := by decide +kernel
theorem dX0_bestChain_86 : decode cX0_bestChain 86 = .ok (.iload_n 1, 1) := by decide +kernel
theorem dX0_bestChain_87 : decode cX0_bestChain 87 = .ok (.ifCond .eq 12, 3) := by decide +kernel
theorem dX0_bestChain_90 : decode cX0_bestChain 90 = .ok (.aload_n 0, 1) := by decide +kernel
theorem dX0_bestChain_91 : decode cX0_bestChain 91 = .ok (.getfield 7, 3) := by decide +kernel
theorem dX0_bestChain_94 : decode cX0_bestChain 94 = .ok (.iload_n 3, 1) := by decide +kernel
theorem dX0_bestChain_95 : decode cX0_bestChain 95 = .ok (.iaload, 1) := by decide +kernel
theorem dX0_bestChain_96 : decode cX0_bestChain 96 = .ok (.goto 4, 3) := by decide +kernel
theorem dX0_bestChain_99 : decode cX0_bestChain 99 = .ok (.iconst 1, 1) := by decide +kernel
theorem dX0_bestChain_100 : decode cX0_bestChain 100 = .ok (.iadd, 1) := by decide +kernel
theorem dX0_bestChain_101 : decode cX0_bestChain 101 = .ok (.iastore, 1) := by decide +kernel
theorem dX0_bestChain_102 : decode cX0_bestChain 102 = .ok (.aload_n 0, 1) := by decide +kernel
theorem dX0_bestChain_103 : decode cX0_bestChain 103 = .ok (.getfield 40, 3) := by decide +kernel
theorem dX0_bestChain_106 : decode cX0_bestChain 106 = .ok (.iload_n 3, 1) := by decide +kernel
theorem dX0_bestChain_107 : decode cX0_bestChain 107 = .ok (.ishr, 1) := by decide +kernel
theorem dX0_bestChain_108 : decode cX0_bestChain 108 = .ok (.iconst 1, 1) := by decide +kernel
theorem dX0_bestChain_109 : decode cX0_bestChain 109 = .ok (.iand, 1) := by decide +kernel
theorem dX0_bestChain_110 : decode cX0_bestChain 110 = .ok (.iconst 1, 1) := by decide +kernel
theorem dX0_bestChain_111 : decode cX0_bestChain 111 = .ok (.if_icmp .ne 20, 3) := by decide +kernel
theorem dX0_bestChain_114 : decode cX0_bestChain 114 = .ok (.aload_n 0, 1) := by decide +kernel
theorem dX0_bestChain_115 : decode cX0_bestChain 115 = .ok (.getfield 37, 3) := by decide +kernel
theorem dX0_bestChain_118 : decode cX0_bestChain 118 = .ok (.iload_n 3, 1) := by decide +kernel
theorem dX0_bestChain_119 : decode cX0_bestChain 119 = .ok (.iaload, 1) := by decide +kernel
theorem dX0_bestChain_120 : decode cX0_bestChain 120 = .ok (.iload_n 2, 1) := by decide +kernel
theorem dX0_bestChain_121 : decode cX0_bestChain 121 = .ok (.if_icmp .le 10, 3) := by decide +kernel
theorem dX0_bestChain_124 : decode cX0_bestChain 124 = .ok (.aload_n 0, 1) := by decide +kernel
theorem dX0_bestChain_125 : decode cX0_bestChain 125 = .ok (.getfield 37, 3) := by decide +kernel
theorem dX0_bestChain_128 : decode cX0_bestChain 128 = .ok (.iload_n 3, 1) := by decide +kernel
theorem dX0_bestChain_129 : decode cX0_bestChain 129 = .ok (.iaload, 1) := by decide +kernel
theorem dX0_bestChain_130 : decode cX0_bestChain 130 = .ok (.istore_n 2, 1) := by decide +kernel
theorem dX0_bestChain_131 : decode cX0_bestChain 131 = .ok (.iinc 3 (-1), 3) := by decide +kernel
theorem dX0_bestChain_134 : decode cX0_bestChain 134 = .ok (.goto (-125), 3) := by decide +kernel
theorem dX0_bestChain_137 : decode cX0_bestChain 137 = .ok (.iload_n 2, 1) := by decide +kernel
theorem dX0_bestChain_138 : decode cX0_bestChain 138 = .ok (.ireturn, 1) := by decide +kernel
theorem dX0_heaviestChain_0 : decode cX0_heaviestChain 0 = .ok (.aload_n 0, 1) := by decide +kernel
theorem dX0_heaviestChain_1 : decode cX0_heaviestChain 1 = .ok (.iconst 1, 1) := by decide +kernel
theorem dX0_heaviestChain_2 : decode cX0_heaviestChain 2 = .ok (.invokevirtual 87, 3) := by decide +kernel
theorem dX0_heaviestChain_5 : decode cX0_heaviestChain 5 = .ok (.ireturn, 1) := by decide +kernel
theorem dX0_antichains_0 : decode cX0_antichains 0 = .ok (.aload_n 0, 1) := by decide +kernel
theorem dX0_antichains_1 : decode cX0_antichains 1 = .ok (.invokevirtual 63, 3) := by decide +kernel
theorem dX0_antichains_4 : decode cX0_antichains 4 = .ok (.aload_n 0, 1) := by decide +kernel
theorem dX0_antichains_5 : decode cX0_antichains 5 = .ok (.getfield 48, 3) := by decide +kernel
theorem dX0_antichains_8 : decode cX0_antichains 8 = .ok (.ifCond .ne 34, 3) := by decide +kernel
theorem dX0_antichains_11 : decode cX0_antichains 11 = .ok (.aload_n 0, 1) := by decide +kernel
theorem dX0_antichains_12 : decode cX0_antichains 12 = .ok (.getfield 19, 3) := by decide +kernel
theorem dX0_antichains_15 : decode cX0_antichains 15 = .ok (.iconst 0, 1) := by decide +kernel
theorem dX0_antichains_16 : decode cX0_antichains 16 = .ok (.iconst 1, 1) := by decide +kernel
theorem dX0_antichains_17 : decode cX0_antichains 17 = .ok (.iastore, 1) := by decide +kernel
theorem dX0_antichains_18 : decode cX0_antichains 18 = .ok (.iconst 0, 1) := by decide +kernel
theorem dX0_antichains_19 : decode cX0_antichains 19 = .ok (.istore_n 1, 1) := by decide +kernel
theorem dX0_antichains_20 : decode cX0_antichains 20 = .ok (.iload_n 1, 1) := by decide +kernel
theorem dX0_antichains_21 : decode cX0_antichains 21 = .ok (.bipush 10, 2) := by decide +kernel
theorem dX0_antichains_23 : decode cX0_antichains 23 = .ok (.if_icmp .ge 14, 3) := by decide +kernel
theorem dX0_antichains_26 : decode cX0_antichains 26 = .ok (.aload_n 0, 1) := by decide +kernel
theorem dX0_antichains_27 : decode cX0_antichains 27 = .ok (.iload_n 1, 1) := by decide +kernel
theorem dX0_antichains_28 : decode cX0_antichains 28 = .ok (.invokevirtual 91, 3) := by decide +kernel
theorem dX0_antichains_31 : decode cX0_antichains 31 = .ok (.iinc 1 1, 3) := by decide +kernel
theorem dX0_antichains_34 : decode cX0_antichains 34 = .ok (.goto (-14), 3) := by decide +kernel
theorem dX0_antichains_37 : decode cX0_antichains 37 = .ok (.aload_n 0, 1) := by decide +kernel
theorem dX0_antichains_38 : decode cX0_antichains 38 = .ok (.iconst 1, 1) := by decide +kernel
theorem dX0_antichains_39 : decode cX0_antichains 39 = .ok (.putfield 48, 3) := by decide +kernel
theorem dX0_antichains_42 : decode cX0_antichains 42 = .ok (.aload_n 0, 1) := by decide +kernel
theorem dX0_antichains_43 : decode cX0_antichains 43 = .ok (.getfield 19, 3) := by decide +kernel
theorem dX0_antichains_46 : decode cX0_antichains 46 = .ok (.aload_n 0, 1) := by decide +kernel
theorem dX0_antichains_47 : decode cX0_antichains 47 = .ok (.getfield 40, 3) := by decide +kernel
theorem dX0_antichains_50 : decode cX0_antichains 50 = .ok (.iaload, 1) := by decide +kernel
theorem dX0_antichains_51 : decode cX0_antichains 51 = .ok (.ireturn, 1) := by decide +kernel
theorem dX0_countWith_0 : decode cX0_countWith 0 = .ok (.aload_n 0, 1) := by decide +kernel
theorem dX0_countWith_1 : decode cX0_countWith 1 = .ok (.iload_n 1, 1) := by decide +kernel
theorem dX0_countWith_2 : decode cX0_countWith 2 = .ok (.invokevirtual 84, 3) := by decide +kernel
theorem dX0_countWith_5 : decode cX0_countWith 5 = .ok (.iconst (-1), 1) := by decide +kernel
theorem dX0_countWith_6 : decode cX0_countWith 6 = .ok (.ixor, 1) := by decide +kernel
theorem dX0_countWith_7 : decode cX0_countWith 7 = .ok (.istore_n 2, 1) := by decide +kernel
theorem dX0_countWith_8 : decode cX0_countWith 8 = .ok (.iconst 0, 1) := by decide +kernel
theorem dX0_countWith_9 : decode cX0_countWith 9 = .ok (.istore_n 3, 1) := by decide +kernel
theorem dX0_countWith_10 : decode cX0_countWith 10 = .ok (.iload_n 3, 1) := by decide +kernel
theorem dX0_countWith_11 : decode cX0_countWith 11 = .ok (.iconst 1, 1) := by decide +kernel
theorem dX0_countWith_12 : decode cX0_countWith 12 = .ok (.iload_n 1, 1) := by decide +kernel
theorem dX0_countWith_13 : decode cX0_countWith 13 = .ok (.ishl, 1) := by decide +kernel
theorem dX0_countWith_14 : decode cX0_countWith 14 = .ok (.if_icmp .ge 34, 3) := by decide +kernel
theorem dX0_countWith_17 : decode cX0_countWith 17 = .ok (.aload_n 0, 1) := by decide +kernel
theorem dX0_countWith_18 : decode cX0_countWith 18 = .ok (.getfield 19, 3) := by decide +kernel
theorem dX0_countWith_21 : decode cX0_countWith 21 = .ok (.iload_n 3, 1) := by decide +kernel
theorem dX0_countWith_22 : decode cX0_countWith 22 = .ok (.iconst 1, 1) := by decide +kernel
theorem dX0_countWith_23 : decode cX0_countWith 23 = .ok (.iload_n 1, 1) := by decide +kernel
theorem dX0_countWith_24 : decode cX0_countWith 24 = .ok (.ishl, 1) := by decide +kernel
theorem dX0_countWith_25 : decode cX0_countWith 25 = .ok (.ior, 1) := by decide +kernel
theorem dX0_countWith_26 : decode cX0_countWith 26 = .ok (.aload_n 0, 1) := by decide +kernel
theorem dX0_countWith_27 : decode cX0_countWith 27 = .ok (.getfield 19, 3) := by decide +kernel
theorem dX0_countWith_30 : decode cX0_countWith 30 = .ok (.iload_n 3, 1) := by decide +kernel
theorem dX0_countWith_31 : decode cX0_countWith 31 = .ok (.iaload, 1) := by decide +kernel
theorem dX0_countWith_32 : decode cX0_countWith 32 = .ok (.aload_n 0, 1) := by decide +kernel
theorem dX0_countWith_33 : decode cX0_countWith 33 = .ok (.getfield 19, 3) := by decide +kernel
theorem dX0_countWith_36 : decode cX0_countWith 36 = .ok (.iload_n 3, 1) := by decide +kernel
theorem dX0_countWith_37 : decode cX0_countWith 37 = .ok (.iload_n 2, 1) := by decide +kernel
theorem dX0_countWith_38 : decode cX0_countWith 38 = .ok (.iand, 1) := by decide +kernel
theorem dX0_countWith_39 : decode cX0_countWith 39 = .ok (.iaload, 1) := by decide +kernel
theorem dX0_countWith_40 : decode cX0_countWith 40 = .ok (.iadd, 1) := by decide +kernel
theorem dX0_countWith_41 : decode cX0_countWith 41 = .ok (.iastore, 1) := by decide +kernel
theorem dX0_countWith_42 : decode cX0_countWith 42 = .ok (.iinc 3 1, 3) := by decide +kernel
theorem dX0_countWith_45 : decode cX0_countWith 45 = .ok (.goto (-35), 3) := by decide +kernel
theorem dX0_countWith_48 : decode cX0_countWith 48 = .ok (.return_, 1) := by decide +kernel
theorem dX0_apart_0 : decode cX0_apart 0 = .ok (.aload_n 0, 1) := by decide +kernel
theorem dX0_apart_1 : decode cX0_apart 1 = .ok (.invokevirtual 63, 3) := by decide +kernel
theorem dX0_apart_4 : decode cX0_apart 4 = .ok (.iconst 0, 1) := by decide +kernel
theorem dX0_apart_5 : decode cX0_apart 5 = .ok (.istore_n 1, 1) := by decide +kernel
theorem dX0_apart_6 : decode cX0_apart 6 = .ok (.iconst 0, 1) := by decide +kernel
theorem dX0_apart_7 : decode cX0_apart 7 = .ok (.istore_n 2, 1) := by decide +kernel
theorem dX0_apart_8 : decode cX0_apart 8 = .ok (.iload_n 2, 1) := by decide +kernel
theorem dX0_apart_9 : decode cX0_apart 9 = .ok (.bipush 10, 2) := by decide +kernel
theorem dX0_apart_11 : decode cX0_apart 11 = .ok (.if_icmp .ge 77, 3) := by decide +kernel
theorem dX0_apart_14 : decode cX0_apart 14 = .ok (.iload_n 2, 1) := by decide +kernel
theorem dX0_apart_15 : decode cX0_apart 15 = .ok (.iconst 1, 1) := by decide +kernel
theorem dX0_apart_16 : decode cX0_apart 16 = .ok (.iadd, 1) := by decide +kernel
theorem dX0_apart_17 : decode cX0_apart 17 = .ok (.istore_n 3, 1) := by decide +kernel
theorem dX0_apart_18 : decode cX0_apart 18 = .ok (.iload_n 3, 1) := by decide +kernel
theorem dX0_apart_19 : decode cX0_apart 19 = .ok (.bipush 10, 2) := by decide +kernel
theorem dX0_apart_21 : decode cX0_apart 21 = .ok (.if_icmp .ge 61, 3) := by decide +kernel
theorem dX0_apart_24 : decode cX0_apart 24 = .ok (.aload_n 0, 1) := by decide +kernel
theorem dX0_apart_25 : decode cX0_apart 25 = .ok (.getfield 40, 3) := by decide +kernel
theorem dX0_apart_28 : decode cX0_apart 28 = .ok (.iload_n 2, 1) := by decide +kernel
theorem dX0_apart_29 : decode cX0_apart 29 = .ok (.ishr, 1) := by decide +kernel
theorem dX0_apart_30 : decode cX0_apart 30 = .ok (.iconst 1, 1) := by decide +kernel
theorem dX0_apart_31 : decode cX0_apart 31 = .ok (.iand, 1) := by decide +kernel
theorem dX0_apart_32 : decode cX0_apart 32 = .ok (.iconst 1, 1) := by decide +kernel
theorem dX0_apart_33 : decode cX0_apart 33 = .ok (.if_icmp .ne 19, 3) := by decide +kernel
theorem dX0_apart_36 : decode cX0_apart 36 = .ok (.aload_n 0, 1) := by decide +kernel
theorem dX0_apart_37 : decode cX0_apart 37 = .ok (.getfield 40, 3) := by decide +kernel
theorem dX0_apart_40 : decode cX0_apart 40 = .ok (.iload_n 3, 1) := by decide +kernel
theorem dX0_apart_41 : decode cX0_apart 41 = .ok (.ishr, 1) := by decide +kernel
theorem dX0_apart_42 : decode cX0_apart 42 = .ok (.iconst 1, 1) := by decide +kernel
theorem dX0_apart_43 : decode cX0_apart 43 = .ok (.iand, 1) := by decide +kernel
theorem dX0_apart_44 : decode cX0_apart 44 = .ok (.iconst 1, 1) := by decide +kernel
theorem dX0_apart_45 : decode cX0_apart 45 = .ok (.if_icmp .ne 7, 3) := by decide +kernel
theorem dX0_apart_48 : decode cX0_apart 48 = .ok (.iconst 1, 1) := by decide +kernel
theorem dX0_apart_49 : decode cX0_apart 49 = .ok (.goto 4, 3) := by decide +kernel
theorem dX0_apart_52 : decode cX0_apart 52 = .ok (.iconst 0, 1) := by decide +kernel
theorem dX0_apart_53 : decode cX0_apart 53 = .ok (.istore 4, 2) := by decide +kernel
theorem dX0_apart_55 : decode cX0_apart 55 = .ok (.iload 4, 2) := by decide +kernel
theorem dX0_apart_57 : decode cX0_apart 57 = .ok (.ifCond .eq 19, 3) := by decide +kernel
theorem dX0_apart_60 : decode cX0_apart 60 = .ok (.aload_n 0, 1) := by decide +kernel
theorem dX0_apart_61 : decode cX0_apart 61 = .ok (.getfield 16, 3) := by decide +kernel
theorem dX0_apart_64 : decode cX0_apart 64 = .ok (.iload_n 2, 1) := by decide +kernel
theorem dX0_apart_65 : decode cX0_apart 65 = .ok (.iaload, 1) := by decide +kernel
theorem dX0_apart_66 : decode cX0_apart 66 = .ok (.iload_n 3, 1) := by decide +kernel
theorem dX0_apart_67 : decode cX0_apart 67 = .ok (.ishr, 1) := by decide +kernel
theorem dX0_apart_68 : decode cX0_apart 68 = .ok (.iconst 1, 1) := by decide +kernel
theorem dX0_apart_69 : decode cX0_apart 69 = .ok (.iand, 1) := by decide +kernel
theorem dX0_apart_70 : decode cX0_apart 70 = .ok (.ifCond .ne 6, 3) := by decide +kernel
theorem dX0_apart_73 : decode cX0_apart 73 = .ok (.iinc 1 1, 3) := by decide +kernel
theorem dX0_apart_76 : decode cX0_apart 76 = .ok (.iinc 3 1, 3) := by decide +kernel
theorem dX0_apart_79 : decode cX0_apart 79 = .ok (.goto (-61), 3) := by decide +kernel
theorem dX0_apart_82 : decode cX0_apart 82 = .ok (.iinc 2 1, 3) := by decide +kernel
theorem dX0_apart_85 : decode cX0_apart 85 = .ok (.goto (-77), 3) := by decide +kernel
theorem dX0_apart_88 : decode cX0_apart 88 = .ok (.iload_n 1, 1) := by decide +kernel
theorem dX0_apart_89 : decode cX0_apart 89 = .ok (.ireturn, 1) := by decide +kernel
end
section
/-! decode rows of PathCoverDagModel and of the law -/
set_option maxRecDepth 100000
theorem dX1_init_0 : decode cX1_init 0 = .ok (.aload_n 0, 1) := by decide +kernel
theorem dX1_init_1 : decode cX1_init 1 = .ok (.invokespecial 1, 3) := by decide +kernel
theorem dX1_init_4 : decode cX1_init 4 = .ok (.aload_n 0, 1) := by decide +kernel
theorem dX1_init_5 : decode cX1_init 5 = .ok (.bipush 10, 2) := by decide +kernel
theorem dX1_init_7 : decode cX1_init 7 = .ok (.newarray .int, 2) := by decide +kernel
theorem dX1_init_9 : decode cX1_init 9 = .ok (.putfield 7, 3) := by decide +kernel
theorem dX1_init_12 : decode cX1_init 12 = .ok (.aload_n 0, 1) := by decide +kernel
theorem dX1_init_13 : decode cX1_init 13 = .ok (.bipush 10, 2) := by decide +kernel
theorem dX1_init_15 : decode cX1_init 15 = .ok (.newarray .int, 2) := by decide +kernel
theorem dX1_init_17 : decode cX1_init 17 = .ok (.putfield 13, 3) := by decide +kernel
theorem dX1_init_20 : decode cX1_init 20 = .ok (.aload_n 0, 1) := by decide +kernel
theorem dX1_init_21 : decode cX1_init 21 = .ok (.bipush 10, 2) := by decide +kernel
theorem dX1_init_23 : decode cX1_init 23 = .ok (.newarray .int, 2) := by decide +kernel
theorem dX1_init_25 : decode cX1_init 25 = .ok (.putfield 16, 3) := by decide +kernel
theorem dX1_init_28 : decode cX1_init 28 = .ok (.aload_n 0, 1) := by decide +kernel
theorem dX1_init_29 : decode cX1_init 29 = .ok (.sipush 1024, 3) := by decide +kernel
theorem dX1_init_32 : decode cX1_init 32 = .ok (.newarray .boolean, 2) := by decide +kernel
theorem dX1_init_34 : decode cX1_init 34 = .ok (.putfield 19, 3) := by decide +kernel
theorem dX1_init_37 : decode cX1_init 37 = .ok (.aload_n 0, 1) := by decide +kernel
theorem dX1_init_38 : decode cX1_init 38 = .ok (.sipush 1024, 3) := by decide +kernel
theorem dX1_init_41 : decode cX1_init 41 = .ok (.newarray .int, 2) := by decide +kernel
theorem dX1_init_43 : decode cX1_init 43 = .ok (.putfield 23, 3) := by decide +kernel
theorem dX1_init_46 : decode cX1_init 46 = .ok (.aload_n 0, 1) := by decide +kernel
theorem dX1_init_47 : decode cX1_init 47 = .ok (.sipush 1023, 3) := by decide +kernel
theorem dX1_init_50 : decode cX1_init 50 = .ok (.putfield 26, 3) := by decide +kernel
theorem dX1_init_53 : decode cX1_init 53 = .ok (.iconst 0, 1) := by decide +kernel
theorem dX1_init_54 : decode cX1_init 54 = .ok (.istore_n 1, 1) := by decide +kernel
theorem dX1_init_55 : decode cX1_init 55 = .ok (.iload_n 1, 1) := by decide +kernel
theorem dX1_init_56 : decode cX1_init 56 = .ok (.bipush 10, 2) := by decide +kernel
theorem dX1_init_58 : decode cX1_init 58 = .ok (.if_icmp .ge 16, 3) := by decide +kernel
theorem dX1_init_61 : decode cX1_init 61 = .ok (.aload_n 0, 1) := by decide +kernel
theorem dX1_init_62 : decode cX1_init 62 = .ok (.getfield 16, 3) := by decide +kernel
theorem dX1_init_65 : decode cX1_init 65 = .ok (.iload_n 1, 1) := by decide +kernel
theorem dX1_init_66 : decode cX1_init 66 = .ok (.iconst 1, 1) := by decide +kernel
theorem dX1_init_67 : decode cX1_init 67 = .ok (.iastore, 1) := by decide +kernel
theorem dX1_init_68 : decode cX1_init 68 = .ok (.iinc 1 1, 3) := by decide +kernel
theorem dX1_init_71 : decode cX1_init 71 = .ok (.goto (-16), 3) := by decide +kernel
theorem dX1_init_74 : decode cX1_init 74 = .ok (.return_, 1) := by decide +kernel
theorem dX1_edge_0 : decode cX1_edge 0 = .ok (.iload_n 1, 1) := by decide +kernel
theorem dX1_edge_1 : decode cX1_edge 1 = .ok (.ifCond .lt 14, 3) := by decide +kernel
theorem dX1_edge_4 : decode cX1_edge 4 = .ok (.iload_n 2, 1) := by decide +kernel
theorem dX1_edge_5 : decode cX1_edge 5 = .ok (.bipush 9, 2) := by decide +kernel
theorem dX1_edge_7 : decode cX1_edge 7 = .ok (.if_icmp .gt 8, 3) := by decide +kernel
theorem dX1_edge_10 : decode cX1_edge 10 = .ok (.iload_n 1, 1) := by decide +kernel
theorem dX1_edge_11 : decode cX1_edge 11 = .ok (.iload_n 2, 1) := by decide +kernel
theorem dX1_edge_12 : decode cX1_edge 12 = .ok (.if_icmp .lt 5, 3) := by decide +kernel
theorem dX1_edge_15 : decode cX1_edge 15 = .ok (.iconst (-1), 1) := by decide +kernel
theorem dX1_edge_16 : decode cX1_edge 16 = .ok (.ireturn, 1) := by decide +kernel
theorem dX1_edge_17 : decode cX1_edge 17 = .ok (.aload_n 0, 1) := by decide +kernel
theorem dX1_edge_18 : decode cX1_edge 18 = .ok (.getfield 7, 3) := by decide +kernel
theorem dX1_edge_21 : decode cX1_edge 21 = .ok (.iload_n 1, 1) := by decide +kernel
theorem dX1_edge_22 : decode cX1_edge 22 = .ok (.iaload, 1) := by decide +kernel
theorem dX1_edge_23 : decode cX1_edge 23 = .ok (.iload_n 2, 1) := by decide +kernel
theorem dX1_edge_24 : decode cX1_edge 24 = .ok (.ishr, 1) := by decide +kernel
theorem dX1_edge_25 : decode cX1_edge 25 = .ok (.iconst 1, 1) := by decide +kernel
theorem dX1_edge_26 : decode cX1_edge 26 = .ok (.iand, 1) := by decide +kernel
theorem dX1_edge_27 : decode cX1_edge 27 = .ok (.istore 4, 2) := by decide +kernel
theorem dX1_edge_29 : decode cX1_edge 29 = .ok (.aload_n 0, 1) := by decide +kernel
theorem dX1_edge_30 : decode cX1_edge 30 = .ok (.getfield 7, 3) := by decide +kernel
theorem dX1_edge_33 : decode cX1_edge 33 = .ok (.iload_n 1, 1) := by decide +kernel
theorem dX1_edge_34 : decode cX1_edge 34 = .ok (.iload_n 3, 1) := by decide +kernel
theorem dX1_edge_35 : decode cX1_edge 35 = .ok (.ifCond .eq 16, 3) := by decide +kernel
theorem dX1_edge_38 : decode cX1_edge 38 = .ok (.aload_n 0, 1) := by decide +kernel
theorem dX1_edge_39 : decode cX1_edge 39 = .ok (.getfield 7, 3) := by decide +kernel
theorem dX1_edge_42 : decode cX1_edge 42 = .ok (.iload_n 1, 1) := by decide +kernel
theorem dX1_edge_43 : decode cX1_edge 43 = .ok (.iaload, 1) := by decide +kernel
theorem dX1_edge_44 : decode cX1_edge 44 = .ok (.iconst 1, 1) := by decide +kernel
theorem dX1_edge_45 : decode cX1_edge 45 = .ok (.iload_n 2, 1) := by decide +kernel
theorem dX1_edge_46 : decode cX1_edge 46 = .ok (.ishl, 1) := by decide +kernel
theorem dX1_edge_47 : decode cX1_edge 47 = .ok (.ior, 1) := by decide +kernel
theorem dX1_edge_48 : decode cX1_edge 48 = .ok (.goto 15, 3) := by decide +kernel
theorem dX1_edge_51 : decode cX1_edge 51 = .ok (.aload_n 0, 1) := by decide +kernel
theorem dX1_edge_52 : decode cX1_edge 52 = .ok (.getfield 7, 3) := by decide +kernel
theorem dX1_edge_55 : decode cX1_edge 55 = .ok (.iload_n 1, 1) := by decide +kernel
theorem dX1_edge_56 : decode cX1_edge 56 = .ok (.iaload, 1) := by decide +kernel
theorem dX1_edge_57 : decode cX1_edge 57 = .ok (.iconst 1, 1) := by decide +kernel
theorem dX1_edge_58 : decode cX1_edge 58 = .ok (.iload_n 2, 1) := by decide +kernel
theorem dX1_edge_59 : decode cX1_edge 59 = .ok (.ishl, 1) := by decide +kernel
theorem dX1_edge_60 : decode cX1_edge 60 = .ok (.iconst (-1), 1) := by decide +kernel
theorem dX1_edge_61 : decode cX1_edge 61 = .ok (.ixor, 1) := by decide +kernel
theorem dX1_edge_62 : decode cX1_edge 62 = .ok (.iand, 1) := by decide +kernel
theorem dX1_edge_63 : decode cX1_edge 63 = .ok (.iastore, 1) := by decide +kernel
theorem dX1_edge_64 : decode cX1_edge 64 = .ok (.iload 4, 2) := by decide +kernel
theorem dX1_edge_66 : decode cX1_edge 66 = .ok (.ireturn, 1) := by decide +kernel
theorem dX1_turn_0 : decode cX1_turn 0 = .ok (.aload_n 0, 1) := by decide +kernel
theorem dX1_turn_1 : decode cX1_turn 1 = .ok (.iload_n 1, 1) := by decide +kernel
theorem dX1_turn_2 : decode cX1_turn 2 = .ok (.invokevirtual 30, 3) := by decide +kernel
theorem dX1_turn_5 : decode cX1_turn 5 = .ok (.ifCond .eq 5, 3) := by decide +kernel
theorem dX1_turn_8 : decode cX1_turn 8 = .ok (.iconst (-1), 1) := by decide +kernel
theorem dX1_turn_9 : decode cX1_turn 9 = .ok (.ireturn, 1) := by decide +kernel
theorem dX1_turn_10 : decode cX1_turn 10 = .ok (.aload_n 0, 1) := by decide +kernel
theorem dX1_turn_11 : decode cX1_turn 11 = .ok (.getfield 26, 3) := by decide +kernel
theorem dX1_turn_14 : decode cX1_turn 14 = .ok (.iload_n 1, 1) := by decide +kernel
theorem dX1_turn_15 : decode cX1_turn 15 = .ok (.ishr, 1) := by decide +kernel
theorem dX1_turn_16 : decode cX1_turn 16 = .ok (.iconst 1, 1) := by decide +kernel
theorem dX1_turn_17 : decode cX1_turn 17 = .ok (.iand, 1) := by decide +kernel
theorem dX1_turn_18 : decode cX1_turn 18 = .ok (.istore_n 3, 1) := by decide +kernel
theorem dX1_turn_19 : decode cX1_turn 19 = .ok (.aload_n 0, 1) := by decide +kernel
theorem dX1_turn_20 : decode cX1_turn 20 = .ok (.iload_n 2, 1) := by decide +kernel
theorem dX1_turn_21 : decode cX1_turn 21 = .ok (.ifCond .eq 14, 3) := by decide +kernel
theorem dX1_turn_24 : decode cX1_turn 24 = .ok (.aload_n 0, 1) := by decide +kernel
theorem dX1_turn_25 : decode cX1_turn 25 = .ok (.getfield 26, 3) := by decide +kernel
theorem dX1_turn_28 : decode cX1_turn 28 = .ok (.iconst 1, 1) := by decide +kernel
theorem dX1_turn_29 : decode cX1_turn 29 = .ok (.iload_n 1, 1) := by decide +kernel
theorem dX1_turn_30 : decode cX1_turn 30 = .ok (.ishl, 1) := by decide +kernel
theorem dX1_turn_31 : decode cX1_turn 31 = .ok (.ior, 1) := by decide +kernel
theorem dX1_turn_32 : decode cX1_turn 32 = .ok (.goto 13, 3) := by decide +kernel
theorem dX1_turn_35 : decode cX1_turn 35 = .ok (.aload_n 0, 1) := by decide +kernel
theorem dX1_turn_36 : decode cX1_turn 36 = .ok (.getfield 26, 3) := by decide +kernel
theorem dX1_turn_39 : decode cX1_turn 39 = .ok (.iconst 1, 1) := by decide +kernel
theorem dX1_turn_40 : decode cX1_turn 40 = .ok (.iload_n 1, 1) := by decide +kernel
theorem dX1_turn_41 : decode cX1_turn 41 = .ok (.ishl, 1) := by decide +kernel
theorem dX1_turn_42 : decode cX1_turn 42 = .ok (.iconst (-1), 1) := by decide +kernel
theorem dX1_turn_43 : decode cX1_turn 43 = .ok (.ixor, 1) := by decide +kernel
theorem dX1_turn_44 : decode cX1_turn 44 = .ok (.iand, 1) := by decide +kernel
theorem dX1_turn_45 : decode cX1_turn 45 = .ok (.putfield 26, 3) := by decide +kernel
theorem dX1_turn_48 : decode cX1_turn 48 = .ok (.iload_n 3, 1) := by decide +kernel
theorem dX1_turn_49 : decode cX1_turn 49 = .ok (.ireturn, 1) := by decide +kernel
theorem dX1_bad_0 : decode cX1_bad 0 = .ok (.iload_n 1, 1) := by decide +kernel
theorem dX1_bad_1 : decode cX1_bad 1 = .ok (.ifCond .lt 9, 3) := by decide +kernel
theorem dX1_bad_4 : decode cX1_bad 4 = .ok (.iload_n 1, 1) := by decide +kernel
theorem dX1_bad_5 : decode cX1_bad 5 = .ok (.bipush 9, 2) := by decide +kernel
theorem dX1_bad_7 : decode cX1_bad 7 = .ok (.if_icmp .le 7, 3) := by decide +kernel
theorem dX1_bad_10 : decode cX1_bad 10 = .ok (.iconst 1, 1) := by decide +kernel
theorem dX1_bad_11 : decode cX1_bad 11 = .ok (.goto 4, 3) := by decide +kernel
theorem dX1_bad_14 : decode cX1_bad 14 = .ok (.iconst 0, 1) := by decide +kernel
theorem dX1_bad_15 : decode cX1_bad 15 = .ok (.ireturn, 1) := by decide +kernel
theorem dX1_weight_0 : decode cX1_weight 0 = .ok (.aload_n 0, 1) := by decide +kernel
theorem dX1_weight_1 : decode cX1_weight 1 = .ok (.iload_n 1, 1) := by decide +kernel
theorem dX1_weight_2 : decode cX1_weight 2 = .ok (.invokevirtual 30, 3) := by decide +kernel
theorem dX1_weight_5 : decode cX1_weight 5 = .ok (.ifCond .eq 5, 3) := by decide +kernel
theorem dX1_weight_8 : decode cX1_weight 8 = .ok (.iconst (-1), 1) := by decide +kernel
theorem dX1_weight_9 : decode cX1_weight 9 = .ok (.ireturn, 1) := by decide +kernel
theorem dX1_weight_10 : decode cX1_weight 10 = .ok (.iload_n 2, 1) := by decide +kernel
theorem dX1_weight_11 : decode cX1_weight 11 = .ok (.ifCond .lt 9, 3) := by decide +kernel
theorem dX1_weight_14 : decode cX1_weight 14 = .ok (.iload_n 2, 1) := by decide +kernel
theorem dX1_weight_15 : decode cX1_weight 15 = .ok (.bipush 9, 2) := by decide +kernel
theorem dX1_weight_17 : decode cX1_weight 17 = .ok (.if_icmp .le 6, 3) := by decide +kernel
theorem dX1_weight_20 : decode cX1_weight 20 = .ok (.bipush (-2), 2) := by decide +kernel
theorem dX1_weight_22 : decode cX1_weight 22 = .ok (.ireturn, 1) := by decide +kernel
theorem dX1_weight_23 : decode cX1_weight 23 = .ok (.aload_n 0, 1) := by decide +kernel
theorem dX1_weight_24 : decode cX1_weight 24 = .ok (.getfield 16, 3) := by decide +kernel
theorem dX1_weight_27 : decode cX1_weight 27 = .ok (.iload_n 1, 1) := by decide +kernel
theorem dX1_weight_28 : decode cX1_weight 28 = .ok (.iaload, 1) := by decide +kernel
theorem dX1_weight_29 : decode cX1_weight 29 = .ok (.istore_n 3, 1) := by decide +kernel
theorem dX1_weight_30 : decode cX1_weight 30 = .ok (.aload_n 0, 1) := by decide +kernel
theorem dX1_weight_31 : decode cX1_weight 31 = .ok (.getfield 16, 3) := by decide +kernel
theorem dX1_weight_34 : decode cX1_weight 34 = .ok (.iload_n 1, 1) := by decide +kernel
theorem dX1_weight_35 : decode cX1_weight 35 = .ok (.iload_n 2, 1) := by decide +kernel
theorem dX1_weight_36 : decode cX1_weight 36 = .ok (.iastore, 1) := by decide +kernel
theorem dX1_weight_37 : decode cX1_weight 37 = .ok (.iload_n 3, 1) := by decide +kernel
theorem dX1_weight_38 : decode cX1_weight 38 = .ok (.ireturn, 1) := by decide +kernel
theorem dX1_above_0 : decode cX1_above 0 = .ok (.aload_n 0, 1) := by decide +kernel
theorem dX1_above_1 : decode cX1_above 1 = .ok (.iload_n 1, 1) := by decide +kernel
theorem dX1_above_2 : decode cX1_above 2 = .ok (.invokevirtual 30, 3) := by decide +kernel
theorem dX1_above_5 : decode cX1_above 5 = .ok (.ifCond .ne 11, 3) := by decide +kernel
theorem dX1_above_8 : decode cX1_above 8 = .ok (.aload_n 0, 1) := by decide +kernel
theorem dX1_above_9 : decode cX1_above 9 = .ok (.iload_n 2, 1) := by decide +kernel
theorem dX1_above_10 : decode cX1_above 10 = .ok (.invokevirtual 30, 3) := by decide +kernel
theorem dX1_above_13 : decode cX1_above 13 = .ok (.ifCond .eq 5, 3) := by decide +kernel
theorem dX1_above_16 : decode cX1_above 16 = .ok (.iconst 0, 1) := by decide +kernel
theorem dX1_above_17 : decode cX1_above 17 = .ok (.ireturn, 1) := by decide +kernel
theorem dX1_above_18 : decode cX1_above 18 = .ok (.aload_n 0, 1) := by decide +kernel
theorem dX1_above_19 : decode cX1_above 19 = .ok (.invokevirtual 38, 3) := by decide +kernel
theorem dX1_above_22 : decode cX1_above 22 = .ok (.aload_n 0, 1) := by decide +kernel
theorem dX1_above_23 : decode cX1_above 23 = .ok (.aload_n 0, 1) := by decide +kernel
theorem dX1_above_24 : decode cX1_above 24 = .ok (.getfield 13, 3) := by decide +kernel
theorem dX1_above_27 : decode cX1_above 27 = .ok (.iload_n 1, 1) := by decide +kernel
theorem dX1_above_28 : decode cX1_above 28 = .ok (.iaload, 1) := by decide +kernel
theorem dX1_above_29 : decode cX1_above 29 = .ok (.iload_n 2, 1) := by decide +kernel
theorem dX1_above_30 : decode cX1_above 30 = .ok (.invokevirtual 34, 3) := by decide +kernel
theorem dX1_above_33 : decode cX1_above 33 = .ok (.ireturn, 1) := by decide +kernel
theorem dX1_close_0 : decode cX1_close 0 = .ok (.bipush 9, 2) := by decide +kernel
theorem dX1_close_2 : decode cX1_close 2 = .ok (.istore_n 1, 1) := by decide +kernel
theorem dX1_close_3 : decode cX1_close 3 = .ok (.iload_n 1, 1) := by decide +kernel
theorem dX1_close_4 : decode cX1_close 4 = .ok (.ifCond .lt 70, 3) := by decide +kernel
theorem dX1_close_7 : decode cX1_close 7 = .ok (.aload_n 0, 1) := by decide +kernel
theorem dX1_close_8 : decode cX1_close 8 = .ok (.getfield 13, 3) := by decide +kernel
theorem dX1_close_11 : decode cX1_close 11 = .ok (.iload_n 1, 1) := by decide +kernel
theorem dX1_close_12 : decode cX1_close 12 = .ok (.aload_n 0, 1) := by decide +kernel
theorem dX1_close_13 : decode cX1_close 13 = .ok (.getfield 7, 3) := by decide +kernel
theorem dX1_close_16 : decode cX1_close 16 = .ok (.iload_n 1, 1) := by decide +kernel
theorem dX1_close_17 : decode cX1_close 17 = .ok (.iaload, 1) := by decide +kernel
theorem dX1_close_18 : decode cX1_close 18 = .ok (.iastore, 1) := by decide +kernel
theorem dX1_close_19 : decode cX1_close 19 = .ok (.iload_n 1, 1) := by decide +kernel
theorem dX1_close_20 : decode cX1_close 20 = .ok (.iconst 1, 1) := by decide +kernel
theorem dX1_close_21 : decode cX1_close 21 = .ok (.iadd, 1) := by decide +kernel
theorem dX1_close_22 : decode cX1_close 22 = .ok (.istore_n 2, 1) := by decide +kernel
theorem dX1_close_23 : decode cX1_close 23 = .ok (.iload_n 2, 1) := by decide +kernel
theorem dX1_close_24 : decode cX1_close 24 = .ok (.bipush 10, 2) := by decide +kernel
theorem dX1_close_26 : decode cX1_close 26 = .ok (.if_icmp .ge 42, 3) := by decide +kernel
theorem dX1_close_29 : decode cX1_close 29 = .ok (.aload_n 0, 1) := by decide +kernel
theorem dX1_close_30 : decode cX1_close 30 = .ok (.aload_n 0, 1) := by decide +kernel
theorem dX1_close_31 : decode cX1_close 31 = .ok (.getfield 7, 3) := by decide +kernel
theorem dX1_close_34 : decode cX1_close 34 = .ok (.iload_n 1, 1) := by decide +kernel
theorem dX1_close_35 : decode cX1_close 35 = .ok (.iaload, 1) := by decide +kernel
theorem dX1_close_36 : decode cX1_close 36 = .ok (.iload_n 2, 1) := by decide +kernel
theorem dX1_close_37 : decode cX1_close 37 = .ok (.invokevirtual 34, 3) := by decide +kernel
theorem dX1_close_40 : decode cX1_close 40 = .ok (.ifCond .eq 22, 3) := by decide +kernel
theorem dX1_close_43 : decode cX1_close 43 = .ok (.aload_n 0, 1) := by decide +kernel
theorem dX1_close_44 : decode cX1_close 44 = .ok (.getfield 13, 3) := by decide +kernel
theorem dX1_close_47 : decode cX1_close 47 = .ok (.iload_n 1, 1) := by decide +kernel
theorem dX1_close_48 : decode cX1_close 48 = .ok (.aload_n 0, 1) := by decide +kernel
theorem dX1_close_49 : decode cX1_close 49 = .ok (.getfield 13, 3) := by decide +kernel
theorem dX1_close_52 : decode cX1_close 52 = .ok (.iload_n 1, 1) := by decide +kernel
theorem dX1_close_53 : decode cX1_close 53 = .ok (.iaload, 1) := by decide +kernel
theorem dX1_close_54 : decode cX1_close 54 = .ok (.aload_n 0, 1) := by decide +kernel
theorem dX1_close_55 : decode cX1_close 55 = .ok (.getfield 13, 3) := by decide +kernel
theorem dX1_close_58 : decode cX1_close 58 = .ok (.iload_n 2, 1) := by decide +kernel
theorem dX1_close_59 : decode cX1_close 59 = .ok (.iaload, 1) := by decide +kernel
theorem dX1_close_60 : decode cX1_close 60 = .ok (.ior, 1) := by decide +kernel
theorem dX1_close_61 : decode cX1_close 61 = .ok (.iastore, 1) := by decide +kernel
theorem dX1_close_62 : decode cX1_close 62 = .ok (.iinc 2 1, 3) := by decide +kernel
theorem dX1_close_65 : decode cX1_close 65 = .ok (.goto (-42), 3) := by decide +kernel
theorem dX1_close_68 : decode cX1_close 68 = .ok (.iinc 1 (-1), 3) := by decide +kernel
theorem dX1_close_71 : decode cX1_close 71 = .ok (.goto (-68), 3) := by decide +kernel
theorem dX1_close_74 : decode cX1_close 74 = .ok (.return_, 1) := by decide +kernel
theorem dX1_has_0 : decode cX1_has 0 = .ok (.iload_n 1, 1) := by decide +kernel
theorem dX1_has_1 : decode cX1_has 1 = .ok (.iload_n 2, 1) := by decide +kernel
theorem dX1_has_2 : decode cX1_has 2 = .ok (.ishr, 1) := by decide +kernel
theorem dX1_has_3 : decode cX1_has 3 = .ok (.iconst 1, 1) := by decide +kernel
theorem dX1_has_4 : decode cX1_has 4 = .ok (.iand, 1) := by decide +kernel
theorem dX1_has_5 : decode cX1_has 5 = .ok (.iconst 1, 1) := by decide +kernel
theorem dX1_has_6 : decode cX1_has 6 = .ok (.if_icmp .ne 7, 3) := by decide +kernel
theorem dX1_has_9 : decode cX1_has 9 = .ok (.iconst 1, 1) := by decide +kernel
theorem dX1_has_10 : decode cX1_has 10 = .ok (.goto 4, 3) := by decide +kernel
theorem dX1_has_13 : decode cX1_has 13 = .ok (.iconst 0, 1) := by decide +kernel
theorem dX1_has_14 : decode cX1_has 14 = .ok (.ireturn, 1) := by decide +kernel
theorem dX1_chains_0 : decode cX1_chains 0 = .ok (.aload_n 0, 1) := by decide +kernel
theorem dX1_chains_1 : decode cX1_chains 1 = .ok (.iconst 0, 1) := by decide +kernel
theorem dX1_chains_2 : decode cX1_chains 2 = .ok (.invokevirtual 45, 3) := by decide +kernel
theorem dX1_chains_5 : decode cX1_chains 5 = .ok (.ireturn, 1) := by decide +kernel
theorem dX1_fewest_0 : decode cX1_fewest 0 = .ok (.aload_n 0, 1) := by decide +kernel
theorem dX1_fewest_1 : decode cX1_fewest 1 = .ok (.invokevirtual 38, 3) := by decide +kernel
theorem dX1_fewest_4 : decode cX1_fewest 4 = .ok (.aload_n 0, 1) := by decide +kernel
theorem dX1_fewest_5 : decode cX1_fewest 5 = .ok (.getfield 23, 3) := by decide +kernel
theorem dX1_fewest_8 : decode cX1_fewest 8 = .ok (.iconst 0, 1) := by decide +kernel
theorem dX1_fewest_9 : decode cX1_fewest 9 = .ok (.iconst 0, 1) := by decide +kernel
theorem dX1_fewest_10 : decode cX1_fewest 10 = .ok (.iastore, 1) := by decide +kernel
theorem dX1_fewest_11 : decode cX1_fewest 11 = .ok (.iconst 1, 1) := by decide +kernel
theorem dX1_fewest_12 : decode cX1_fewest 12 = .ok (.istore_n 2, 1) := by decide +kernel
theorem dX1_fewest_13 : decode cX1_fewest 13 = .ok (.iload_n 2, 1) := by decide +kernel
theorem dX1_fewest_14 : decode cX1_fewest 14 = .ok (.sipush 1024, 3) := by decide +kernel
theorem dX1_fewest_17 : decode cX1_fewest 17 = .ok (.if_icmp .ge 107, 3) := by decide +kernel
theorem dX1_fewest_20 : decode cX1_fewest 20 = .ok (.aload_n 0, 1) := by decide +kernel
theorem dX1_fewest_21 : decode cX1_fewest 21 = .ok (.getfield 19, 3) := by decide +kernel
theorem dX1_fewest_24 : decode cX1_fewest 24 = .ok (.iload_n 2, 1) := by decide +kernel
theorem dX1_fewest_25 : decode cX1_fewest 25 = .ok (.aload_n 0, 1) := by decide +kernel
theorem dX1_fewest_26 : decode cX1_fewest 26 = .ok (.iload_n 2, 1) := by decide +kernel
theorem dX1_fewest_27 : decode cX1_fewest 27 = .ok (.iload_n 1, 1) := by decide +kernel
theorem dX1_fewest_28 : decode cX1_fewest 28 = .ok (.invokevirtual 41, 3) := by decide +kernel
theorem dX1_fewest_31 : decode cX1_fewest 31 = .ok (.bastore, 1) := by decide +kernel
theorem dX1_fewest_32 : decode cX1_fewest 32 = .ok (.iload_n 2, 1) := by decide +kernel
theorem dX1_fewest_33 : decode cX1_fewest 33 = .ok (.iload_n 2, 1) := by decide +kernel
theorem dX1_fewest_34 : decode cX1_fewest 34 = .ok (.ineg, 1) := by decide +kernel
theorem dX1_fewest_35 : decode cX1_fewest 35 = .ok (.iand, 1) := by decide +kernel
theorem dX1_fewest_36 : decode cX1_fewest 36 = .ok (.istore_n 3, 1) := by decide +kernel
theorem dX1_fewest_37 : decode cX1_fewest 37 = .ok (.bipush 11, 2) := by decide +kernel
theorem dX1_fewest_39 : decode cX1_fewest 39 = .ok (.istore 4, 2) := by decide +kernel
theorem dX1_fewest_41 : decode cX1_fewest 41 = .ok (.iload_n 2, 1) := by decide +kernel
theorem dX1_fewest_42 : decode cX1_fewest 42 = .ok (.istore 5, 2) := by decide +kernel
theorem dX1_fewest_44 : decode cX1_fewest 44 = .ok (.iload 5, 2) := by decide +kernel
theorem dX1_fewest_46 : decode cX1_fewest 46 = .ok (.ifCond .le 64, 3) := by decide +kernel
theorem dX1_fewest_49 : decode cX1_fewest 49 = .ok (.iload 5, 2) := by decide +kernel
theorem dX1_fewest_51 : decode cX1_fewest 51 = .ok (.iload_n 3, 1) := by decide +kernel
theorem dX1_fewest_52 : decode cX1_fewest 52 = .ok (.iand, 1) := by decide +kernel
theorem dX1_fewest_53 : decode cX1_fewest 53 = .ok (.ifCond .eq 46, 3) := by decide +kernel
theorem dX1_fewest_56 : decode cX1_fewest 56 = .ok (.aload_n 0, 1) := by decide +kernel
theorem dX1_fewest_57 : decode cX1_fewest 57 = .ok (.getfield 19, 3) := by decide +kernel
theorem dX1_fewest_60 : decode cX1_fewest 60 = .ok (.iload 5, 2) := by decide +kernel
theorem dX1_fewest_62 : decode cX1_fewest 62 = .ok (.baload, 1) := by decide +kernel
theorem dX1_fewest_63 : decode cX1_fewest 63 = .ok (.ifCond .eq 36, 3) := by decide +kernel
theorem dX1_fewest_66 : decode cX1_fewest 66 = .ok (.aload_n 0, 1) := by decide +kernel
theorem dX1_fewest_67 : decode cX1_fewest 67 = .ok (.getfield 23, 3) := by decide +kernel
theorem dX1_fewest_70 : decode cX1_fewest 70 = .ok (.iload_n 2, 1) := by decide +kernel
theorem dX1_fewest_71 : decode cX1_fewest 71 = .ok (.iload 5, 2) := by decide +kernel
theorem dX1_fewest_73 : decode cX1_fewest 73 = .ok (.iconst (-1), 1) := by decide +kernel
theorem dX1_fewest_74 : decode cX1_fewest 74 = .ok (.ixor, 1) := by decide +kernel
theorem dX1_fewest_75 : decode cX1_fewest 75 = .ok (.iand, 1) := by decide +kernel
theorem dX1_fewest_76 : decode cX1_fewest 76 = .ok (.iaload, 1) := by decide +kernel
theorem dX1_fewest_77 : decode cX1_fewest 77 = .ok (.iconst 1, 1) := by decide +kernel
theorem dX1_fewest_78 : decode cX1_fewest 78 = .ok (.iadd, 1) := by decide +kernel
theorem dX1_fewest_79 : decode cX1_fewest 79 = .ok (.iload 4, 2) := by decide +kernel
theorem dX1_fewest_81 : decode cX1_fewest 81 = .ok (.if_icmp .ge 18, 3) := by decide +kernel
theorem dX1_fewest_84 : decode cX1_fewest 84 = .ok (.aload_n 0, 1) := by decide +kernel
theorem dX1_fewest_85 : decode cX1_fewest 85 = .ok (.getfield 23, 3) := by decide +kernel
theorem dX1_fewest_88 : decode cX1_fewest 88 = .ok (.iload_n 2, 1) := by decide +kernel
theorem dX1_fewest_89 : decode cX1_fewest 89 = .ok (.iload 5, 2) := by decide +kernel
theorem dX1_fewest_91 : decode cX1_fewest 91 = .ok (.iconst (-1), 1) := by decide +kernel
theorem dX1_fewest_92 : decode cX1_fewest 92 = .ok (.ixor, 1) := by decide +kernel
theorem dX1_fewest_93 : decode cX1_fewest 93 = .ok (.iand, 1) := by decide +kernel
theorem dX1_fewest_94 : decode cX1_fewest 94 = .ok (.iaload, 1) := by decide +kernel
theorem dX1_fewest_95 : decode cX1_fewest 95 = .ok (.iconst 1, 1) := by decide +kernel
theorem dX1_fewest_96 : decode cX1_fewest 96 = .ok (.iadd, 1) := by decide +kernel
theorem dX1_fewest_97 : decode cX1_fewest 97 = .ok (.istore 4, 2) := by decide +kernel
theorem dX1_fewest_99 : decode cX1_fewest 99 = .ok (.iload 5, 2) := by decide +kernel
theorem dX1_fewest_101 : decode cX1_fewest 101 = .ok (.iconst 1, 1) := by decide +kernel
theorem dX1_fewest_102 : decode cX1_fewest 102 = .ok (.isub, 1) := by decide +kernel
theorem dX1_fewest_103 : decode cX1_fewest 103 = .ok (.iload_n 2, 1) := by decide +kernel
theorem dX1_fewest_104 : decode cX1_fewest 104 = .ok (.iand, 1) := by decide +kernel
theorem dX1_fewest_105 : decode cX1_fewest 105 = .ok (.istore 5, 2) := by decide +kernel
theorem dX1_fewest_107 : decode cX1_fewest 107 = .ok (.goto (-63), 3) := by decide +kernel
theorem dX1_fewest_110 : decode cX1_fewest 110 = .ok (.aload_n 0, 1) := by decide +kernel
theorem dX1_fewest_111 : decode cX1_fewest 111 = .ok (.getfield 23, 3) := by decide +kernel
theorem dX1_fewest_114 : decode cX1_fewest 114 = .ok (.iload_n 2, 1) := by decide +kernel
theorem dX1_fewest_115 : decode cX1_fewest 115 = .ok (.iload 4, 2) := by decide +kernel
theorem dX1_fewest_117 : decode cX1_fewest 117 = .ok (.iastore, 1) := by decide +kernel
theorem dX1_fewest_118 : decode cX1_fewest 118 = .ok (.iinc 2 1, 3) := by decide +kernel
theorem dX1_fewest_121 : decode cX1_fewest 121 = .ok (.goto (-108), 3) := by decide +kernel
theorem dX1_fewest_124 : decode cX1_fewest 124 = .ok (.aload_n 0, 1) := by decide +kernel
theorem dX1_fewest_125 : decode cX1_fewest 125 = .ok (.getfield 23, 3) := by decide +kernel
theorem dX1_fewest_128 : decode cX1_fewest 128 = .ok (.aload_n 0, 1) := by decide +kernel
theorem dX1_fewest_129 : decode cX1_fewest 129 = .ok (.getfield 26, 3) := by decide +kernel
theorem dX1_fewest_132 : decode cX1_fewest 132 = .ok (.iaload, 1) := by decide +kernel
theorem dX1_fewest_133 : decode cX1_fewest 133 = .ok (.ireturn, 1) := by decide +kernel
theorem dX1_row_0 : decode cX1_row 0 = .ok (.iconst (-1), 1) := by decide +kernel
theorem dX1_row_1 : decode cX1_row 1 = .ok (.istore_n 3, 1) := by decide +kernel
theorem dX1_row_2 : decode cX1_row 2 = .ok (.iconst 0, 1) := by decide +kernel
theorem dX1_row_3 : decode cX1_row 3 = .ok (.istore 4, 2) := by decide +kernel
theorem dX1_row_5 : decode cX1_row 5 = .ok (.iload 4, 2) := by decide +kernel
theorem dX1_row_7 : decode cX1_row 7 = .ok (.bipush 10, 2) := by decide +kernel
theorem dX1_row_9 : decode cX1_row 9 = .ok (.if_icmp .ge 56, 3) := by decide +kernel
theorem dX1_row_12 : decode cX1_row 12 = .ok (.aload_n 0, 1) := by decide +kernel
theorem dX1_row_13 : decode cX1_row 13 = .ok (.iload_n 1, 1) := by decide +kernel
theorem dX1_row_14 : decode cX1_row 14 = .ok (.iload 4, 2) := by decide +kernel
theorem dX1_row_16 : decode cX1_row 16 = .ok (.invokevirtual 34, 3) := by decide +kernel
theorem dX1_row_19 : decode cX1_row 19 = .ok (.ifCond .eq 40, 3) := by decide +kernel
theorem dX1_row_22 : decode cX1_row 22 = .ok (.iload_n 3, 1) := by decide +kernel
theorem dX1_row_23 : decode cX1_row 23 = .ok (.ifCond .lt 33, 3) := by decide +kernel
theorem dX1_row_26 : decode cX1_row 26 = .ok (.aload_n 0, 1) := by decide +kernel
theorem dX1_row_27 : decode cX1_row 27 = .ok (.iload_n 2, 1) := by decide +kernel
theorem dX1_row_28 : decode cX1_row 28 = .ok (.ifCond .eq 12, 3) := by decide +kernel
theorem dX1_row_31 : decode cX1_row 31 = .ok (.aload_n 0, 1) := by decide +kernel
theorem dX1_row_32 : decode cX1_row 32 = .ok (.getfield 7, 3) := by decide +kernel
theorem dX1_row_35 : decode cX1_row 35 = .ok (.iload_n 3, 1) := by decide +kernel
theorem dX1_row_36 : decode cX1_row 36 = .ok (.iaload, 1) := by decide +kernel
theorem dX1_row_37 : decode cX1_row 37 = .ok (.goto 9, 3) := by decide +kernel
theorem dX1_row_40 : decode cX1_row 40 = .ok (.aload_n 0, 1) := by decide +kernel
theorem dX1_row_41 : decode cX1_row 41 = .ok (.getfield 13, 3) := by decide +kernel
theorem dX1_row_44 : decode cX1_row 44 = .ok (.iload_n 3, 1) := by decide +kernel
theorem dX1_row_45 : decode cX1_row 45 = .ok (.iaload, 1) := by decide +kernel
theorem dX1_row_46 : decode cX1_row 46 = .ok (.iload 4, 2) := by decide +kernel
theorem dX1_row_48 : decode cX1_row 48 = .ok (.invokevirtual 34, 3) := by decide +kernel
theorem dX1_row_51 : decode cX1_row 51 = .ok (.ifCond .ne 5, 3) := by decide +kernel
theorem dX1_row_54 : decode cX1_row 54 = .ok (.iconst 0, 1) := by decide +kernel
theorem dX1_row_55 : decode cX1_row 55 = .ok (.ireturn, 1) := by decide +kernel
theorem dX1_row_56 : decode cX1_row 56 = .ok (.iload 4, 2) := by decide +kernel
theorem dX1_row_58 : decode cX1_row 58 = .ok (.istore_n 3, 1) := by decide +kernel
theorem dX1_row_59 : decode cX1_row 59 = .ok (.iinc 4 1, 3) := by decide +kernel
theorem dX1_row_62 : decode cX1_row 62 = .ok (.goto (-57), 3) := by decide +kernel
theorem dX1_row_65 : decode cX1_row 65 = .ok (.iconst 1, 1) := by decide +kernel
theorem dX1_row_66 : decode cX1_row 66 = .ok (.ireturn, 1) := by decide +kernel
theorem dX1_width_0 : decode cX1_width 0 = .ok (.aload_n 0, 1) := by decide +kernel
theorem dX1_width_1 : decode cX1_width 1 = .ok (.invokevirtual 38, 3) := by decide +kernel
theorem dX1_width_4 : decode cX1_width 4 = .ok (.iconst 0, 1) := by decide +kernel
theorem dX1_width_5 : decode cX1_width 5 = .ok (.istore_n 1, 1) := by decide +kernel
theorem dX1_width_6 : decode cX1_width 6 = .ok (.iconst 0, 1) := by decide +kernel
theorem dX1_width_7 : decode cX1_width 7 = .ok (.istore_n 2, 1) := by decide +kernel
theorem dX1_width_8 : decode cX1_width 8 = .ok (.iload_n 2, 1) := by decide +kernel
theorem dX1_width_9 : decode cX1_width 9 = .ok (.sipush 1024, 3) := by decide +kernel
theorem dX1_width_12 : decode cX1_width 12 = .ok (.if_icmp .ge 32, 3) := by decide +kernel
theorem dX1_width_15 : decode cX1_width 15 = .ok (.aload_n 0, 1) := by decide +kernel
theorem dX1_width_16 : decode cX1_width 16 = .ok (.iload_n 2, 1) := by decide +kernel
theorem dX1_width_17 : decode cX1_width 17 = .ok (.invokevirtual 49, 3) := by decide +kernel
theorem dX1_width_20 : decode cX1_width 20 = .ok (.ifCond .eq 18, 3) := by decide +kernel
theorem dX1_width_23 : decode cX1_width 23 = .ok (.aload_n 0, 1) := by decide +kernel
theorem dX1_width_24 : decode cX1_width 24 = .ok (.iload_n 2, 1) := by decide +kernel
theorem dX1_width_25 : decode cX1_width 25 = .ok (.invokevirtual 52, 3) := by decide +kernel
theorem dX1_width_28 : decode cX1_width 28 = .ok (.iload_n 1, 1) := by decide +kernel
theorem dX1_width_29 : decode cX1_width 29 = .ok (.if_icmp .le 9, 3) := by decide +kernel
theorem dX1_width_32 : decode cX1_width 32 = .ok (.aload_n 0, 1) := by decide +kernel
theorem dX1_width_33 : decode cX1_width 33 = .ok (.iload_n 2, 1) := by decide +kernel
theorem dX1_width_34 : decode cX1_width 34 = .ok (.invokevirtual 52, 3) := by decide +kernel
theorem dX1_width_37 : decode cX1_width 37 = .ok (.istore_n 1, 1) := by decide +kernel
theorem dX1_width_38 : decode cX1_width 38 = .ok (.iinc 2 1, 3) := by decide +kernel
theorem dX1_width_41 : decode cX1_width 41 = .ok (.goto (-33), 3) := by decide +kernel
theorem dX1_width_44 : decode cX1_width 44 = .ok (.iload_n 1, 1) := by decide +kernel
theorem dX1_width_45 : decode cX1_width 45 = .ok (.ireturn, 1) := by decide +kernel
theorem dX1_anti_0 : decode cX1_anti 0 = .ok (.iload_n 1, 1) := by decide +kernel
theorem dX1_anti_1 : decode cX1_anti 1 = .ok (.aload_n 0, 1) := by decide +kernel
theorem dX1_anti_2 : decode cX1_anti 2 = .ok (.getfield 26, 3) := by decide +kernel
theorem dX1_anti_5 : decode cX1_anti 5 = .ok (.iconst (-1), 1) := by decide +kernel
theorem dX1_anti_6 : decode cX1_anti 6 = .ok (.ixor, 1) := by decide +kernel
theorem dX1_anti_7 : decode cX1_anti 7 = .ok (.iand, 1) := by decide +kernel
theorem dX1_anti_8 : decode cX1_anti 8 = .ok (.ifCond .eq 5, 3) := by decide +kernel
theorem dX1_anti_11 : decode cX1_anti 11 = .ok (.iconst 0, 1) := by decide +kernel
theorem dX1_anti_12 : decode cX1_anti 12 = .ok (.ireturn, 1) := by decide +kernel
theorem dX1_anti_13 : decode cX1_anti 13 = .ok (.iconst 0, 1) := by decide +kernel
theorem dX1_anti_14 : decode cX1_anti 14 = .ok (.istore_n 2, 1) := by decide +kernel
theorem dX1_anti_15 : decode cX1_anti 15 = .ok (.iload_n 2, 1) := by decide +kernel
theorem dX1_anti_16 : decode cX1_anti 16 = .ok (.bipush 10, 2) := by decide +kernel
theorem dX1_anti_18 : decode cX1_anti 18 = .ok (.if_icmp .ge 31, 3) := by decide +kernel
theorem dX1_anti_21 : decode cX1_anti 21 = .ok (.aload_n 0, 1) := by decide +kernel
theorem dX1_anti_22 : decode cX1_anti 22 = .ok (.iload_n 1, 1) := by decide +kernel
theorem dX1_anti_23 : decode cX1_anti 23 = .ok (.iload_n 2, 1) := by decide +kernel
theorem dX1_anti_24 : decode cX1_anti 24 = .ok (.invokevirtual 34, 3) := by decide +kernel
theorem dX1_anti_27 : decode cX1_anti 27 = .ok (.ifCond .eq 16, 3) := by decide +kernel
theorem dX1_anti_30 : decode cX1_anti 30 = .ok (.aload_n 0, 1) := by decide +kernel
theorem dX1_anti_31 : decode cX1_anti 31 = .ok (.getfield 13, 3) := by decide +kernel
theorem dX1_anti_34 : decode cX1_anti 34 = .ok (.iload_n 2, 1) := by decide +kernel
theorem dX1_anti_35 : decode cX1_anti 35 = .ok (.iaload, 1) := by decide +kernel
theorem dX1_anti_36 : decode cX1_anti 36 = .ok (.iload_n 1, 1) := by decide +kernel
theorem dX1_anti_37 : decode cX1_anti 37 = .ok (.iand, 1) := by decide +kernel
theorem dX1_anti_38 : decode cX1_anti 38 = .ok (.ifCond .eq 5, 3) := by decide +kernel
theorem dX1_anti_41 : decode cX1_anti 41 = .ok (.iconst 0, 1) := by decide +kernel
theorem dX1_anti_42 : decode cX1_anti 42 = .ok (.ireturn, 1) := by decide +kernel
theorem dX1_anti_43 : decode cX1_anti 43 = .ok (.iinc 2 1, 3) := by decide +kernel
theorem dX1_anti_46 : decode cX1_anti 46 = .ok (.goto (-31), 3) := by decide +kernel
theorem dX1_anti_49 : decode cX1_anti 49 = .ok (.iconst 1, 1) := by decide +kernel
theorem dX1_anti_50 : decode cX1_anti 50 = .ok (.ireturn, 1) := by decide +kernel
theorem dX1_size_0 : decode cX1_size 0 = .ok (.iconst 0, 1) := by decide +kernel
theorem dX1_size_1 : decode cX1_size 1 = .ok (.istore_n 2, 1) := by decide +kernel
theorem dX1_size_2 : decode cX1_size 2 = .ok (.iconst 0, 1) := by decide +kernel
theorem dX1_size_3 : decode cX1_size 3 = .ok (.istore_n 3, 1) := by decide +kernel
theorem dX1_size_4 : decode cX1_size 4 = .ok (.iload_n 3, 1) := by decide +kernel
theorem dX1_size_5 : decode cX1_size 5 = .ok (.bipush 10, 2) := by decide +kernel
theorem dX1_size_7 : decode cX1_size 7 = .ok (.if_icmp .ge 17, 3) := by decide +kernel
theorem dX1_size_10 : decode cX1_size 10 = .ok (.iload_n 2, 1) := by decide +kernel
theorem dX1_size_11 : decode cX1_size 11 = .ok (.iload_n 1, 1) := by decide +kernel
theorem dX1_size_12 : decode cX1_size 12 = .ok (.iload_n 3, 1) := by decide +kernel
theorem dX1_size_13 : decode cX1_size 13 = .ok (.ishr, 1) := by decide +kernel
theorem dX1_size_14 : decode cX1_size 14 = .ok (.iconst 1, 1) := by decide +kernel
theorem dX1_size_15 : decode cX1_size 15 = .ok (.iand, 1) := by decide +kernel
theorem dX1_size_16 : decode cX1_size 16 = .ok (.iadd, 1) := by decide +kernel
theorem dX1_size_17 : decode cX1_size 17 = .ok (.istore_n 2, 1) := by decide +kernel
theorem dX1_size_18 : decode cX1_size 18 = .ok (.iinc 3 1, 3) := by decide +kernel
theorem dX1_size_21 : decode cX1_size 21 = .ok (.goto (-17), 3) := by decide +kernel
theorem dX1_size_24 : decode cX1_size 24 = .ok (.iload_n 2, 1) := by decide +kernel
theorem dX1_size_25 : decode cX1_size 25 = .ok (.ireturn, 1) := by decide +kernel
theorem dX1_antichain_0 : decode cX1_antichain 0 = .ok (.aload_n 0, 1) := by decide +kernel
theorem dX1_antichain_1 : decode cX1_antichain 1 = .ok (.invokevirtual 56, 3) := by decide +kernel
theorem dX1_antichain_4 : decode cX1_antichain 4 = .ok (.istore_n 1, 1) := by decide +kernel
theorem dX1_antichain_5 : decode cX1_antichain 5 = .ok (.iconst 0, 1) := by decide +kernel
theorem dX1_antichain_6 : decode cX1_antichain 6 = .ok (.istore_n 2, 1) := by decide +kernel
theorem dX1_antichain_7 : decode cX1_antichain 7 = .ok (.iload_n 2, 1) := by decide +kernel
theorem dX1_antichain_8 : decode cX1_antichain 8 = .ok (.sipush 1024, 3) := by decide +kernel
theorem dX1_antichain_11 : decode cX1_antichain 11 = .ok (.if_icmp .ge 28, 3) := by decide +kernel
theorem dX1_antichain_14 : decode cX1_antichain 14 = .ok (.aload_n 0, 1) := by decide +kernel
theorem dX1_antichain_15 : decode cX1_antichain 15 = .ok (.iload_n 2, 1) := by decide +kernel
theorem dX1_antichain_16 : decode cX1_antichain 16 = .ok (.invokevirtual 49, 3) := by decide +kernel
theorem dX1_antichain_19 : decode cX1_antichain 19 = .ok (.ifCond .eq 14, 3) := by decide +kernel
theorem dX1_antichain_22 : decode cX1_antichain 22 = .ok (.aload_n 0, 1) := by decide +kernel
theorem dX1_antichain_23 : decode cX1_antichain 23 = .ok (.iload_n 2, 1) := by decide +kernel
theorem dX1_antichain_24 : decode cX1_antichain 24 = .ok (.invokevirtual 52, 3) := by decide +kernel
theorem dX1_antichain_27 : decode cX1_antichain 27 = .ok (.iload_n 1, 1) := by decide +kernel
theorem dX1_antichain_28 : decode cX1_antichain 28 = .ok (.if_icmp .ne 5, 3) := by decide +kernel
theorem dX1_antichain_31 : decode cX1_antichain 31 = .ok (.iload_n 2, 1) := by decide +kernel
theorem dX1_antichain_32 : decode cX1_antichain 32 = .ok (.ireturn, 1) := by decide +kernel
theorem dX1_antichain_33 : decode cX1_antichain 33 = .ok (.iinc 2 1, 3) := by decide +kernel
theorem dX1_antichain_36 : decode cX1_antichain 36 = .ok (.goto (-29), 3) := by decide +kernel
theorem dX1_antichain_39 : decode cX1_antichain 39 = .ok (.iconst 0, 1) := by decide +kernel
theorem dX1_antichain_40 : decode cX1_antichain 40 = .ok (.ireturn, 1) := by decide +kernel
theorem dX1_paths_0 : decode cX1_paths 0 = .ok (.aload_n 0, 1) := by decide +kernel
theorem dX1_paths_1 : decode cX1_paths 1 = .ok (.iconst 1, 1) := by decide +kernel
theorem dX1_paths_2 : decode cX1_paths 2 = .ok (.invokevirtual 45, 3) := by decide +kernel
theorem dX1_paths_5 : decode cX1_paths 5 = .ok (.ireturn, 1) := by decide +kernel
theorem dX1_heaviest_0 : decode cX1_heaviest 0 = .ok (.aload_n 0, 1) := by decide +kernel
theorem dX1_heaviest_1 : decode cX1_heaviest 1 = .ok (.invokevirtual 38, 3) := by decide +kernel
theorem dX1_heaviest_4 : decode cX1_heaviest 4 = .ok (.iconst 0, 1) := by decide +kernel
theorem dX1_heaviest_5 : decode cX1_heaviest 5 = .ok (.istore_n 1, 1) := by decide +kernel
theorem dX1_heaviest_6 : decode cX1_heaviest 6 = .ok (.iconst 0, 1) := by decide +kernel
theorem dX1_heaviest_7 : decode cX1_heaviest 7 = .ok (.istore_n 2, 1) := by decide +kernel
theorem dX1_heaviest_8 : decode cX1_heaviest 8 = .ok (.iload_n 2, 1) := by decide +kernel
theorem dX1_heaviest_9 : decode cX1_heaviest 9 = .ok (.sipush 1024, 3) := by decide +kernel
theorem dX1_heaviest_12 : decode cX1_heaviest 12 = .ok (.if_icmp .ge 32, 3) := by decide +kernel
theorem dX1_heaviest_15 : decode cX1_heaviest 15 = .ok (.aload_n 0, 1) := by decide +kernel
theorem dX1_heaviest_16 : decode cX1_heaviest 16 = .ok (.iload_n 2, 1) := by decide +kernel
theorem dX1_heaviest_17 : decode cX1_heaviest 17 = .ok (.invokevirtual 49, 3) := by decide +kernel
theorem dX1_heaviest_20 : decode cX1_heaviest 20 = .ok (.ifCond .eq 18, 3) := by decide +kernel
theorem dX1_heaviest_23 : decode cX1_heaviest 23 = .ok (.aload_n 0, 1) := by decide +kernel
theorem dX1_heaviest_24 : decode cX1_heaviest 24 = .ok (.iload_n 2, 1) := by decide +kernel
theorem dX1_heaviest_25 : decode cX1_heaviest 25 = .ok (.invokevirtual 60, 3) := by decide +kernel
theorem dX1_heaviest_28 : decode cX1_heaviest 28 = .ok (.iload_n 1, 1) := by decide +kernel
theorem dX1_heaviest_29 : decode cX1_heaviest 29 = .ok (.if_icmp .le 9, 3) := by decide +kernel
theorem dX1_heaviest_32 : decode cX1_heaviest 32 = .ok (.aload_n 0, 1) := by decide +kernel
theorem dX1_heaviest_33 : decode cX1_heaviest 33 = .ok (.iload_n 2, 1) := by decide +kernel
theorem dX1_heaviest_34 : decode cX1_heaviest 34 = .ok (.invokevirtual 60, 3) := by decide +kernel
theorem dX1_heaviest_37 : decode cX1_heaviest 37 = .ok (.istore_n 1, 1) := by decide +kernel
theorem dX1_heaviest_38 : decode cX1_heaviest 38 = .ok (.iinc 2 1, 3) := by decide +kernel
theorem dX1_heaviest_41 : decode cX1_heaviest 41 = .ok (.goto (-33), 3) := by decide +kernel
theorem dX1_heaviest_44 : decode cX1_heaviest 44 = .ok (.iload_n 1, 1) := by decide +kernel
theorem dX1_heaviest_45 : decode cX1_heaviest 45 = .ok (.ireturn, 1) := by decide +kernel
theorem dX1_sum_0 : decode cX1_sum 0 = .ok (.iconst 0, 1) := by decide +kernel
theorem dX1_sum_1 : decode cX1_sum 1 = .ok (.istore_n 2, 1) := by decide +kernel
theorem dX1_sum_2 : decode cX1_sum 2 = .ok (.iconst 0, 1) := by decide +kernel
theorem dX1_sum_3 : decode cX1_sum 3 = .ok (.istore_n 3, 1) := by decide +kernel
theorem dX1_sum_4 : decode cX1_sum 4 = .ok (.iload_n 3, 1) := by decide +kernel
theorem dX1_sum_5 : decode cX1_sum 5 = .ok (.bipush 10, 2) := by decide +kernel
theorem dX1_sum_7 : decode cX1_sum 7 = .ok (.if_icmp .ge 27, 3) := by decide +kernel
theorem dX1_sum_10 : decode cX1_sum 10 = .ok (.aload_n 0, 1) := by decide +kernel
theorem dX1_sum_11 : decode cX1_sum 11 = .ok (.iload_n 1, 1) := by decide +kernel
theorem dX1_sum_12 : decode cX1_sum 12 = .ok (.iload_n 3, 1) := by decide +kernel
theorem dX1_sum_13 : decode cX1_sum 13 = .ok (.invokevirtual 34, 3) := by decide +kernel
theorem dX1_sum_16 : decode cX1_sum 16 = .ok (.ifCond .eq 12, 3) := by decide +kernel
theorem dX1_sum_19 : decode cX1_sum 19 = .ok (.iload_n 2, 1) := by decide +kernel
theorem dX1_sum_20 : decode cX1_sum 20 = .ok (.aload_n 0, 1) := by decide +kernel
theorem dX1_sum_21 : decode cX1_sum 21 = .ok (.getfield 16, 3) := by decide +kernel
theorem dX1_sum_24 : decode cX1_sum 24 = .ok (.iload_n 3, 1) := by decide +kernel
theorem dX1_sum_25 : decode cX1_sum 25 = .ok (.iaload, 1) := by decide +kernel
theorem dX1_sum_26 : decode cX1_sum 26 = .ok (.iadd, 1) := by decide +kernel
theorem dX1_sum_27 : decode cX1_sum 27 = .ok (.istore_n 2, 1) := by decide +kernel
theorem dX1_sum_28 : decode cX1_sum 28 = .ok (.iinc 3 1, 3) := by decide +kernel
theorem dX1_sum_31 : decode cX1_sum 31 = .ok (.goto (-27), 3) := by decide +kernel
theorem dX1_sum_34 : decode cX1_sum 34 = .ok (.iload_n 2, 1) := by decide +kernel
theorem dX1_sum_35 : decode cX1_sum 35 = .ok (.ireturn, 1) := by decide +kernel
theorem dX1_height_0 : decode cX1_height 0 = .ok (.aload_n 0, 1) := by decide +kernel
theorem dX1_height_1 : decode cX1_height 1 = .ok (.invokevirtual 38, 3) := by decide +kernel
theorem dX1_height_4 : decode cX1_height 4 = .ok (.iconst 0, 1) := by decide +kernel
theorem dX1_height_5 : decode cX1_height 5 = .ok (.istore_n 1, 1) := by decide +kernel
theorem dX1_height_6 : decode cX1_height 6 = .ok (.iconst 0, 1) := by decide +kernel
theorem dX1_height_7 : decode cX1_height 7 = .ok (.istore_n 2, 1) := by decide +kernel
theorem dX1_height_8 : decode cX1_height 8 = .ok (.iload_n 2, 1) := by decide +kernel
theorem dX1_height_9 : decode cX1_height 9 = .ok (.sipush 1024, 3) := by decide +kernel
theorem dX1_height_12 : decode cX1_height 12 = .ok (.if_icmp .ge 32, 3) := by decide +kernel
theorem dX1_height_15 : decode cX1_height 15 = .ok (.aload_n 0, 1) := by decide +kernel
theorem dX1_height_16 : decode cX1_height 16 = .ok (.iload_n 2, 1) := by decide +kernel
theorem dX1_height_17 : decode cX1_height 17 = .ok (.invokevirtual 63, 3) := by decide +kernel
theorem dX1_height_20 : decode cX1_height 20 = .ok (.ifCond .eq 18, 3) := by decide +kernel
theorem dX1_height_23 : decode cX1_height 23 = .ok (.aload_n 0, 1) := by decide +kernel
theorem dX1_height_24 : decode cX1_height 24 = .ok (.iload_n 2, 1) := by decide +kernel
theorem dX1_height_25 : decode cX1_height 25 = .ok (.invokevirtual 52, 3) := by decide +kernel
theorem dX1_height_28 : decode cX1_height 28 = .ok (.iload_n 1, 1) := by decide +kernel
theorem dX1_height_29 : decode cX1_height 29 = .ok (.if_icmp .le 9, 3) := by decide +kernel
theorem dX1_height_32 : decode cX1_height 32 = .ok (.aload_n 0, 1) := by decide +kernel
theorem dX1_height_33 : decode cX1_height 33 = .ok (.iload_n 2, 1) := by decide +kernel
theorem dX1_height_34 : decode cX1_height 34 = .ok (.invokevirtual 52, 3) := by decide +kernel
theorem dX1_height_37 : decode cX1_height 37 = .ok (.istore_n 1, 1) := by decide +kernel
theorem dX1_height_38 : decode cX1_height 38 = .ok (.iinc 2 1, 3) := by decide +kernel
theorem dX1_height_41 : decode cX1_height 41 = .ok (.goto (-33), 3) := by decide +kernel
theorem dX1_height_44 : decode cX1_height 44 = .ok (.iload_n 1, 1) := by decide +kernel
theorem dX1_height_45 : decode cX1_height 45 = .ok (.ireturn, 1) := by decide +kernel
theorem dX1_chain_0 : decode cX1_chain 0 = .ok (.iload_n 1, 1) := by decide +kernel
theorem dX1_chain_1 : decode cX1_chain 1 = .ok (.aload_n 0, 1) := by decide +kernel
theorem dX1_chain_2 : decode cX1_chain 2 = .ok (.getfield 26, 3) := by decide +kernel
theorem dX1_chain_5 : decode cX1_chain 5 = .ok (.iconst (-1), 1) := by decide +kernel
theorem dX1_chain_6 : decode cX1_chain 6 = .ok (.ixor, 1) := by decide +kernel
theorem dX1_chain_7 : decode cX1_chain 7 = .ok (.iand, 1) := by decide +kernel
theorem dX1_chain_8 : decode cX1_chain 8 = .ok (.ifCond .ne 16, 3) := by decide +kernel
theorem dX1_chain_11 : decode cX1_chain 11 = .ok (.aload_n 0, 1) := by decide +kernel
theorem dX1_chain_12 : decode cX1_chain 12 = .ok (.iload_n 1, 1) := by decide +kernel
theorem dX1_chain_13 : decode cX1_chain 13 = .ok (.iconst 0, 1) := by decide +kernel
theorem dX1_chain_14 : decode cX1_chain 14 = .ok (.invokevirtual 41, 3) := by decide +kernel
theorem dX1_chain_17 : decode cX1_chain 17 = .ok (.ifCond .eq 7, 3) := by decide +kernel
theorem dX1_chain_20 : decode cX1_chain 20 = .ok (.iconst 1, 1) := by decide +kernel
theorem dX1_chain_21 : decode cX1_chain 21 = .ok (.goto 4, 3) := by decide +kernel
theorem dX1_chain_24 : decode cX1_chain 24 = .ok (.iconst 0, 1) := by decide +kernel
theorem dX1_chain_25 : decode cX1_chain 25 = .ok (.ireturn, 1) := by decide +kernel
theorem dX1_heaviestChain_0 : decode cX1_heaviestChain 0 = .ok (.aload_n 0, 1) := by decide +kernel
theorem dX1_heaviestChain_1 : decode cX1_heaviestChain 1 = .ok (.invokevirtual 38, 3) := by decide +kernel
theorem dX1_heaviestChain_4 : decode cX1_heaviestChain 4 = .ok (.iconst 0, 1) := by decide +kernel
theorem dX1_heaviestChain_5 : decode cX1_heaviestChain 5 = .ok (.istore_n 1, 1) := by decide +kernel
theorem dX1_heaviestChain_6 : decode cX1_heaviestChain 6 = .ok (.iconst 0, 1) := by decide +kernel
theorem dX1_heaviestChain_7 : decode cX1_heaviestChain 7 = .ok (.istore_n 2, 1) := by decide +kernel
theorem dX1_heaviestChain_8 : decode cX1_heaviestChain 8 = .ok (.iload_n 2, 1) := by decide +kernel
theorem dX1_heaviestChain_9 : decode cX1_heaviestChain 9 = .ok (.sipush 1024, 3) := by decide +kernel
theorem dX1_heaviestChain_12 : decode cX1_heaviestChain 12 = .ok (.if_icmp .ge 32, 3) := by decide +kernel
theorem dX1_heaviestChain_15 : decode cX1_heaviestChain 15 = .ok (.aload_n 0, 1) := by decide +kernel
theorem dX1_heaviestChain_16 : decode cX1_heaviestChain 16 = .ok (.iload_n 2, 1) := by decide +kernel
theorem dX1_heaviestChain_17 : decode cX1_heaviestChain 17 = .ok (.invokevirtual 63, 3) := by decide +kernel
theorem dX1_heaviestChain_20 : decode cX1_heaviestChain 20 = .ok (.ifCond .eq 18, 3) := by decide +kernel
theorem dX1_heaviestChain_23 : decode cX1_heaviestChain 23 = .ok (.aload_n 0, 1) := by decide +kernel
theorem dX1_heaviestChain_24 : decode cX1_heaviestChain 24 = .ok (.iload_n 2, 1) := by decide +kernel
theorem dX1_heaviestChain_25 : decode cX1_heaviestChain 25 = .ok (.invokevirtual 60, 3) := by decide +kernel
theorem dX1_heaviestChain_28 : decode cX1_heaviestChain 28 = .ok (.iload_n 1, 1) := by decide +kernel
theorem dX1_heaviestChain_29 : decode cX1_heaviestChain 29 = .ok (.if_icmp .le 9, 3) := by decide +kernel
theorem dX1_heaviestChain_32 : decode cX1_heaviestChain 32 = .ok (.aload_n 0, 1) := by decide +kernel
theorem dX1_heaviestChain_33 : decode cX1_heaviestChain 33 = .ok (.iload_n 2, 1) := by decide +kernel
theorem dX1_heaviestChain_34 : decode cX1_heaviestChain 34 = .ok (.invokevirtual 60, 3) := by decide +kernel
theorem dX1_heaviestChain_37 : decode cX1_heaviestChain 37 = .ok (.istore_n 1, 1) := by decide +kernel
theorem dX1_heaviestChain_38 : decode cX1_heaviestChain 38 = .ok (.iinc 2 1, 3) := by decide +kernel
theorem dX1_heaviestChain_41 : decode cX1_heaviestChain 41 = .ok (.goto (-33), 3) := by decide +kernel
theorem dX1_heaviestChain_44 : decode cX1_heaviestChain 44 = .ok (.iload_n 1, 1) := by decide +kernel
theorem dX1_heaviestChain_45 : decode cX1_heaviestChain 45 = .ok (.ireturn, 1) := by decide +kernel
theorem dX1_antichains_0 : decode cX1_antichains 0 = .ok (.aload_n 0, 1) := by decide +kernel
theorem dX1_antichains_1 : decode cX1_antichains 1 = .ok (.invokevirtual 38, 3) := by decide +kernel
theorem dX1_antichains_4 : decode cX1_antichains 4 = .ok (.iconst 0, 1) := by decide +kernel
theorem dX1_antichains_5 : decode cX1_antichains 5 = .ok (.istore_n 1, 1) := by decide +kernel
theorem dX1_antichains_6 : decode cX1_antichains 6 = .ok (.iconst 0, 1) := by decide +kernel
theorem dX1_antichains_7 : decode cX1_antichains 7 = .ok (.istore_n 2, 1) := by decide +kernel
theorem dX1_antichains_8 : decode cX1_antichains 8 = .ok (.iload_n 2, 1) := by decide +kernel
theorem dX1_antichains_9 : decode cX1_antichains 9 = .ok (.sipush 1024, 3) := by decide +kernel
theorem dX1_antichains_12 : decode cX1_antichains 12 = .ok (.if_icmp .ge 20, 3) := by decide +kernel
theorem dX1_antichains_15 : decode cX1_antichains 15 = .ok (.aload_n 0, 1) := by decide +kernel
theorem dX1_antichains_16 : decode cX1_antichains 16 = .ok (.iload_n 2, 1) := by decide +kernel
theorem dX1_antichains_17 : decode cX1_antichains 17 = .ok (.invokevirtual 49, 3) := by decide +kernel
theorem dX1_antichains_20 : decode cX1_antichains 20 = .ok (.ifCond .eq 6, 3) := by decide +kernel
theorem dX1_antichains_23 : decode cX1_antichains 23 = .ok (.iinc 1 1, 3) := by decide +kernel
theorem dX1_antichains_26 : decode cX1_antichains 26 = .ok (.iinc 2 1, 3) := by decide +kernel
theorem dX1_antichains_29 : decode cX1_antichains 29 = .ok (.goto (-21), 3) := by decide +kernel
theorem dX1_antichains_32 : decode cX1_antichains 32 = .ok (.iload_n 1, 1) := by decide +kernel
theorem dX1_antichains_33 : decode cX1_antichains 33 = .ok (.ireturn, 1) := by decide +kernel
theorem dX1_apart_0 : decode cX1_apart 0 = .ok (.aload_n 0, 1) := by decide +kernel
theorem dX1_apart_1 : decode cX1_apart 1 = .ok (.invokevirtual 38, 3) := by decide +kernel
theorem dX1_apart_4 : decode cX1_apart 4 = .ok (.iconst 0, 1) := by decide +kernel
theorem dX1_apart_5 : decode cX1_apart 5 = .ok (.istore_n 1, 1) := by decide +kernel
theorem dX1_apart_6 : decode cX1_apart 6 = .ok (.iconst 0, 1) := by decide +kernel
theorem dX1_apart_7 : decode cX1_apart 7 = .ok (.istore_n 2, 1) := by decide +kernel
theorem dX1_apart_8 : decode cX1_apart 8 = .ok (.iload_n 2, 1) := by decide +kernel
theorem dX1_apart_9 : decode cX1_apart 9 = .ok (.bipush 10, 2) := by decide +kernel
theorem dX1_apart_11 : decode cX1_apart 11 = .ok (.if_icmp .ge 66, 3) := by decide +kernel
theorem dX1_apart_14 : decode cX1_apart 14 = .ok (.iload_n 2, 1) := by decide +kernel
theorem dX1_apart_15 : decode cX1_apart 15 = .ok (.iconst 1, 1) := by decide +kernel
theorem dX1_apart_16 : decode cX1_apart 16 = .ok (.iadd, 1) := by decide +kernel
theorem dX1_apart_17 : decode cX1_apart 17 = .ok (.istore_n 3, 1) := by decide +kernel
theorem dX1_apart_18 : decode cX1_apart 18 = .ok (.iload_n 3, 1) := by decide +kernel
theorem dX1_apart_19 : decode cX1_apart 19 = .ok (.bipush 10, 2) := by decide +kernel
theorem dX1_apart_21 : decode cX1_apart 21 = .ok (.if_icmp .ge 50, 3) := by decide +kernel
theorem dX1_apart_24 : decode cX1_apart 24 = .ok (.aload_n 0, 1) := by decide +kernel
theorem dX1_apart_25 : decode cX1_apart 25 = .ok (.aload_n 0, 1) := by decide +kernel
theorem dX1_apart_26 : decode cX1_apart 26 = .ok (.getfield 26, 3) := by decide +kernel
theorem dX1_apart_29 : decode cX1_apart 29 = .ok (.iload_n 2, 1) := by decide +kernel
theorem dX1_apart_30 : decode cX1_apart 30 = .ok (.invokevirtual 34, 3) := by decide +kernel
theorem dX1_apart_33 : decode cX1_apart 33 = .ok (.ifCond .eq 32, 3) := by decide +kernel
theorem dX1_apart_36 : decode cX1_apart 36 = .ok (.aload_n 0, 1) := by decide +kernel
theorem dX1_apart_37 : decode cX1_apart 37 = .ok (.aload_n 0, 1) := by decide +kernel
theorem dX1_apart_38 : decode cX1_apart 38 = .ok (.getfield 26, 3) := by decide +kernel
theorem dX1_apart_41 : decode cX1_apart 41 = .ok (.iload_n 3, 1) := by decide +kernel
theorem dX1_apart_42 : decode cX1_apart 42 = .ok (.invokevirtual 34, 3) := by decide +kernel
theorem dX1_apart_45 : decode cX1_apart 45 = .ok (.ifCond .eq 20, 3) := by decide +kernel
theorem dX1_apart_48 : decode cX1_apart 48 = .ok (.aload_n 0, 1) := by decide +kernel
theorem dX1_apart_49 : decode cX1_apart 49 = .ok (.aload_n 0, 1) := by decide +kernel
theorem dX1_apart_50 : decode cX1_apart 50 = .ok (.getfield 13, 3) := by decide +kernel
theorem dX1_apart_53 : decode cX1_apart 53 = .ok (.iload_n 2, 1) := by decide +kernel
theorem dX1_apart_54 : decode cX1_apart 54 = .ok (.iaload, 1) := by decide +kernel
theorem dX1_apart_55 : decode cX1_apart 55 = .ok (.iload_n 3, 1) := by decide +kernel
theorem dX1_apart_56 : decode cX1_apart 56 = .ok (.invokevirtual 34, 3) := by decide +kernel
theorem dX1_apart_59 : decode cX1_apart 59 = .ok (.ifCond .ne 6, 3) := by decide +kernel
theorem dX1_apart_62 : decode cX1_apart 62 = .ok (.iinc 1 1, 3) := by decide +kernel
theorem dX1_apart_65 : decode cX1_apart 65 = .ok (.iinc 3 1, 3) := by decide +kernel
theorem dX1_apart_68 : decode cX1_apart 68 = .ok (.goto (-50), 3) := by decide +kernel
theorem dX1_apart_71 : decode cX1_apart 71 = .ok (.iinc 2 1, 3) := by decide +kernel
theorem dX1_apart_74 : decode cX1_apart 74 = .ok (.goto (-66), 3) := by decide +kernel
theorem dX1_apart_77 : decode cX1_apart 77 = .ok (.iload_n 1, 1) := by decide +kernel
theorem dX1_apart_78 : decode cX1_apart 78 = .ok (.ireturn, 1) := by decide +kernel
theorem dL_law_0 : decode cL_law 0 = .ok (.new 7, 3) := by decide +kernel
theorem dL_law_3 : decode cL_law 3 = .ok (.dup, 1) := by decide +kernel
theorem dL_law_4 : decode cL_law 4 = .ok (.invokespecial 9, 3) := by decide +kernel
theorem dL_law_7 : decode cL_law 7 = .ok (.astore_n 1, 1) := by decide +kernel
theorem dL_law_8 : decode cL_law 8 = .ok (.new 10, 3) := by decide +kernel
theorem dL_law_11 : decode cL_law 11 = .ok (.dup, 1) := by decide +kernel
theorem dL_law_12 : decode cL_law 12 = .ok (.invokespecial 12, 3) := by decide +kernel
theorem dL_law_15 : decode cL_law 15 = .ok (.astore_n 2, 1) := by decide +kernel
theorem dL_law_16 : decode cL_law 16 = .ok (.iconst 0, 1) := by decide +kernel
theorem dL_law_17 : decode cL_law 17 = .ok (.istore_n 3, 1) := by decide +kernel
theorem dL_law_18 : decode cL_law 18 = .ok (.iload_n 3, 1) := by decide +kernel
theorem dL_law_19 : decode cL_law 19 = .ok (.aload_n 0, 1) := by decide +kernel
theorem dL_law_20 : decode cL_law 20 = .ok (.arraylength, 1) := by decide +kernel
theorem dL_law_21 : decode cL_law 21 = .ok (.iconst 4, 1) := by decide +kernel
theorem dL_law_22 : decode cL_law 22 = .ok (.isub, 1) := by decide +kernel
theorem dL_law_23 : decode cL_law 23 = .ok (.if_icmp .gt 374, 3) := by decide +kernel
theorem dL_law_26 : decode cL_law 26 = .ok (.aload_n 0, 1) := by decide +kernel
theorem dL_law_27 : decode cL_law 27 = .ok (.iload_n 3, 1) := by decide +kernel
theorem dL_law_28 : decode cL_law 28 = .ok (.iaload, 1) := by decide +kernel
theorem dL_law_29 : decode cL_law 29 = .ok (.bipush 15, 2) := by decide +kernel
theorem dL_law_31 : decode cL_law 31 = .ok (.iand, 1) := by decide +kernel
theorem dL_law_32 : decode cL_law 32 = .ok (.tableswitch 359 0 12 #[68, 127, 176, 209, 242, 255, 268, 281, 294, 307, 320, 333, 346], 68) := by decide +kernel
theorem dL_law_100 : decode cL_law 100 = .ok (.aload_n 1, 1) := by decide +kernel
theorem dL_law_101 : decode cL_law 101 = .ok (.aload_n 0, 1) := by decide +kernel
theorem dL_law_102 : decode cL_law 102 = .ok (.iload_n 3, 1) := by decide +kernel
theorem dL_law_103 : decode cL_law 103 = .ok (.iconst 1, 1) := by decide +kernel
theorem dL_law_104 : decode cL_law 104 = .ok (.iadd, 1) := by decide +kernel
theorem dL_law_105 : decode cL_law 105 = .ok (.iaload, 1) := by decide +kernel
theorem dL_law_106 : decode cL_law 106 = .ok (.aload_n 0, 1) := by decide +kernel
theorem dL_law_107 : decode cL_law 107 = .ok (.iload_n 3, 1) := by decide +kernel
theorem dL_law_108 : decode cL_law 108 = .ok (.iconst 2, 1) := by decide +kernel
theorem dL_law_109 : decode cL_law 109 = .ok (.iadd, 1) := by decide +kernel
theorem dL_law_110 : decode cL_law 110 = .ok (.iaload, 1) := by decide +kernel
theorem dL_law_111 : decode cL_law 111 = .ok (.aload_n 0, 1) := by decide +kernel
theorem dL_law_112 : decode cL_law 112 = .ok (.iload_n 3, 1) := by decide +kernel
theorem dL_law_113 : decode cL_law 113 = .ok (.iconst 3, 1) := by decide +kernel
theorem dL_law_114 : decode cL_law 114 = .ok (.iadd, 1) := by decide +kernel
theorem dL_law_115 : decode cL_law 115 = .ok (.iaload, 1) := by decide +kernel
theorem dL_law_116 : decode cL_law 116 = .ok (.ifCond .eq 7, 3) := by decide +kernel
theorem dL_law_119 : decode cL_law 119 = .ok (.iconst 1, 1) := by decide +kernel
theorem dL_law_120 : decode cL_law 120 = .ok (.goto 4, 3) := by decide +kernel
theorem dL_law_123 : decode cL_law 123 = .ok (.iconst 0, 1) := by decide +kernel
theorem dL_law_124 : decode cL_law 124 = .ok (.invokevirtual 13, 3) := by decide +kernel
theorem dL_law_127 : decode cL_law 127 = .ok (.aload_n 2, 1) := by decide +kernel
theorem dL_law_128 : decode cL_law 128 = .ok (.aload_n 0, 1) := by decide +kernel
theorem dL_law_129 : decode cL_law 129 = .ok (.iload_n 3, 1) := by decide +kernel
theorem dL_law_130 : decode cL_law 130 = .ok (.iconst 1, 1) := by decide +kernel
theorem dL_law_131 : decode cL_law 131 = .ok (.iadd, 1) := by decide +kernel
theorem dL_law_132 : decode cL_law 132 = .ok (.iaload, 1) := by decide +kernel
theorem dL_law_133 : decode cL_law 133 = .ok (.aload_n 0, 1) := by decide +kernel
theorem dL_law_134 : decode cL_law 134 = .ok (.iload_n 3, 1) := by decide +kernel
theorem dL_law_135 : decode cL_law 135 = .ok (.iconst 2, 1) := by decide +kernel
theorem dL_law_136 : decode cL_law 136 = .ok (.iadd, 1) := by decide +kernel
theorem dL_law_137 : decode cL_law 137 = .ok (.iaload, 1) := by decide +kernel
theorem dL_law_138 : decode cL_law 138 = .ok (.aload_n 0, 1) := by decide +kernel
theorem dL_law_139 : decode cL_law 139 = .ok (.iload_n 3, 1) := by decide +kernel
theorem dL_law_140 : decode cL_law 140 = .ok (.iconst 3, 1) := by decide +kernel
theorem dL_law_141 : decode cL_law 141 = .ok (.iadd, 1) := by decide +kernel
theorem dL_law_142 : decode cL_law 142 = .ok (.iaload, 1) := by decide +kernel
theorem dL_law_143 : decode cL_law 143 = .ok (.ifCond .eq 7, 3) := by decide +kernel
theorem dL_law_146 : decode cL_law 146 = .ok (.iconst 1, 1) := by decide +kernel
theorem dL_law_147 : decode cL_law 147 = .ok (.goto 4, 3) := by decide +kernel
theorem dL_law_150 : decode cL_law 150 = .ok (.iconst 0, 1) := by decide +kernel
theorem dL_law_151 : decode cL_law 151 = .ok (.invokevirtual 17, 3) := by decide +kernel
theorem dL_law_154 : decode cL_law 154 = .ok (.if_icmp .eq 237, 3) := by decide +kernel
theorem dL_law_157 : decode cL_law 157 = .ok (.iconst 0, 1) := by decide +kernel
theorem dL_law_158 : decode cL_law 158 = .ok (.ireturn, 1) := by decide +kernel
theorem dL_law_159 : decode cL_law 159 = .ok (.aload_n 1, 1) := by decide +kernel
theorem dL_law_160 : decode cL_law 160 = .ok (.aload_n 0, 1) := by decide +kernel
theorem dL_law_161 : decode cL_law 161 = .ok (.iload_n 3, 1) := by decide +kernel
theorem dL_law_162 : decode cL_law 162 = .ok (.iconst 1, 1) := by decide +kernel
theorem dL_law_163 : decode cL_law 163 = .ok (.iadd, 1) := by decide +kernel
theorem dL_law_164 : decode cL_law 164 = .ok (.iaload, 1) := by decide +kernel
theorem dL_law_165 : decode cL_law 165 = .ok (.aload_n 0, 1) := by decide +kernel
theorem dL_law_166 : decode cL_law 166 = .ok (.iload_n 3, 1) := by decide +kernel
theorem dL_law_167 : decode cL_law 167 = .ok (.iconst 2, 1) := by decide +kernel
theorem dL_law_168 : decode cL_law 168 = .ok (.iadd, 1) := by decide +kernel
theorem dL_law_169 : decode cL_law 169 = .ok (.iaload, 1) := by decide +kernel
theorem dL_law_170 : decode cL_law 170 = .ok (.ifCond .eq 7, 3) := by decide +kernel
theorem dL_law_173 : decode cL_law 173 = .ok (.iconst 1, 1) := by decide +kernel
theorem dL_law_174 : decode cL_law 174 = .ok (.goto 4, 3) := by decide +kernel
theorem dL_law_177 : decode cL_law 177 = .ok (.iconst 0, 1) := by decide +kernel
theorem dL_law_178 : decode cL_law 178 = .ok (.invokevirtual 18, 3) := by decide +kernel
theorem dL_law_181 : decode cL_law 181 = .ok (.aload_n 2, 1) := by decide +kernel
theorem dL_law_182 : decode cL_law 182 = .ok (.aload_n 0, 1) := by decide +kernel
theorem dL_law_183 : decode cL_law 183 = .ok (.iload_n 3, 1) := by decide +kernel
theorem dL_law_184 : decode cL_law 184 = .ok (.iconst 1, 1) := by decide +kernel
theorem dL_law_185 : decode cL_law 185 = .ok (.iadd, 1) := by decide +kernel
theorem dL_law_186 : decode cL_law 186 = .ok (.iaload, 1) := by decide +kernel
theorem dL_law_187 : decode cL_law 187 = .ok (.aload_n 0, 1) := by decide +kernel
theorem dL_law_188 : decode cL_law 188 = .ok (.iload_n 3, 1) := by decide +kernel
theorem dL_law_189 : decode cL_law 189 = .ok (.iconst 2, 1) := by decide +kernel
theorem dL_law_190 : decode cL_law 190 = .ok (.iadd, 1) := by decide +kernel
theorem dL_law_191 : decode cL_law 191 = .ok (.iaload, 1) := by decide +kernel
theorem dL_law_192 : decode cL_law 192 = .ok (.ifCond .eq 7, 3) := by decide +kernel
theorem dL_law_195 : decode cL_law 195 = .ok (.iconst 1, 1) := by decide +kernel
theorem dL_law_196 : decode cL_law 196 = .ok (.goto 4, 3) := by decide +kernel
theorem dL_law_199 : decode cL_law 199 = .ok (.iconst 0, 1) := by decide +kernel
theorem dL_law_200 : decode cL_law 200 = .ok (.invokevirtual 22, 3) := by decide +kernel
theorem dL_law_203 : decode cL_law 203 = .ok (.if_icmp .eq 188, 3) := by decide +kernel
theorem dL_law_206 : decode cL_law 206 = .ok (.iconst 0, 1) := by decide +kernel
theorem dL_law_207 : decode cL_law 207 = .ok (.ireturn, 1) := by decide +kernel
theorem dL_law_208 : decode cL_law 208 = .ok (.aload_n 1, 1) := by decide +kernel
theorem dL_law_209 : decode cL_law 209 = .ok (.aload_n 0, 1) := by decide +kernel
theorem dL_law_210 : decode cL_law 210 = .ok (.iload_n 3, 1) := by decide +kernel
theorem dL_law_211 : decode cL_law 211 = .ok (.iconst 1, 1) := by decide +kernel
theorem dL_law_212 : decode cL_law 212 = .ok (.iadd, 1) := by decide +kernel
theorem dL_law_213 : decode cL_law 213 = .ok (.iaload, 1) := by decide +kernel
theorem dL_law_214 : decode cL_law 214 = .ok (.aload_n 0, 1) := by decide +kernel
theorem dL_law_215 : decode cL_law 215 = .ok (.iload_n 3, 1) := by decide +kernel
theorem dL_law_216 : decode cL_law 216 = .ok (.iconst 2, 1) := by decide +kernel
theorem dL_law_217 : decode cL_law 217 = .ok (.iadd, 1) := by decide +kernel
theorem dL_law_218 : decode cL_law 218 = .ok (.iaload, 1) := by decide +kernel
theorem dL_law_219 : decode cL_law 219 = .ok (.invokevirtual 23, 3) := by decide +kernel
theorem dL_law_222 : decode cL_law 222 = .ok (.aload_n 2, 1) := by decide +kernel
theorem dL_law_223 : decode cL_law 223 = .ok (.aload_n 0, 1) := by decide +kernel
theorem dL_law_224 : decode cL_law 224 = .ok (.iload_n 3, 1) := by decide +kernel
theorem dL_law_225 : decode cL_law 225 = .ok (.iconst 1, 1) := by decide +kernel
theorem dL_law_226 : decode cL_law 226 = .ok (.iadd, 1) := by decide +kernel
theorem dL_law_227 : decode cL_law 227 = .ok (.iaload, 1) := by decide +kernel
theorem dL_law_228 : decode cL_law 228 = .ok (.aload_n 0, 1) := by decide +kernel
theorem dL_law_229 : decode cL_law 229 = .ok (.iload_n 3, 1) := by decide +kernel
theorem dL_law_230 : decode cL_law 230 = .ok (.iconst 2, 1) := by decide +kernel
theorem dL_law_231 : decode cL_law 231 = .ok (.iadd, 1) := by decide +kernel
theorem dL_law_232 : decode cL_law 232 = .ok (.iaload, 1) := by decide +kernel
theorem dL_law_233 : decode cL_law 233 = .ok (.invokevirtual 27, 3) := by decide +kernel
theorem dL_law_236 : decode cL_law 236 = .ok (.if_icmp .eq 155, 3) := by decide +kernel
theorem dL_law_239 : decode cL_law 239 = .ok (.iconst 0, 1) := by decide +kernel
theorem dL_law_240 : decode cL_law 240 = .ok (.ireturn, 1) := by decide +kernel
theorem dL_law_241 : decode cL_law 241 = .ok (.aload_n 1, 1) := by decide +kernel
theorem dL_law_242 : decode cL_law 242 = .ok (.aload_n 0, 1) := by decide +kernel
theorem dL_law_243 : decode cL_law 243 = .ok (.iload_n 3, 1) := by decide +kernel
theorem dL_law_244 : decode cL_law 244 = .ok (.iconst 1, 1) := by decide +kernel
theorem dL_law_245 : decode cL_law 245 = .ok (.iadd, 1) := by decide +kernel
theorem dL_law_246 : decode cL_law 246 = .ok (.iaload, 1) := by decide +kernel
theorem dL_law_247 : decode cL_law 247 = .ok (.aload_n 0, 1) := by decide +kernel
theorem dL_law_248 : decode cL_law 248 = .ok (.iload_n 3, 1) := by decide +kernel
theorem dL_law_249 : decode cL_law 249 = .ok (.iconst 2, 1) := by decide +kernel
theorem dL_law_250 : decode cL_law 250 = .ok (.iadd, 1) := by decide +kernel
theorem dL_law_251 : decode cL_law 251 = .ok (.iaload, 1) := by decide +kernel
theorem dL_law_252 : decode cL_law 252 = .ok (.invokevirtual 28, 3) := by decide +kernel
theorem dL_law_255 : decode cL_law 255 = .ok (.aload_n 2, 1) := by decide +kernel
theorem dL_law_256 : decode cL_law 256 = .ok (.aload_n 0, 1) := by decide +kernel
theorem dL_law_257 : decode cL_law 257 = .ok (.iload_n 3, 1) := by decide +kernel
theorem dL_law_258 : decode cL_law 258 = .ok (.iconst 1, 1) := by decide +kernel
theorem dL_law_259 : decode cL_law 259 = .ok (.iadd, 1) := by decide +kernel
theorem dL_law_260 : decode cL_law 260 = .ok (.iaload, 1) := by decide +kernel
theorem dL_law_261 : decode cL_law 261 = .ok (.aload_n 0, 1) := by decide +kernel
theorem dL_law_262 : decode cL_law 262 = .ok (.iload_n 3, 1) := by decide +kernel
theorem dL_law_263 : decode cL_law 263 = .ok (.iconst 2, 1) := by decide +kernel
theorem dL_law_264 : decode cL_law 264 = .ok (.iadd, 1) := by decide +kernel
theorem dL_law_265 : decode cL_law 265 = .ok (.iaload, 1) := by decide +kernel
theorem dL_law_266 : decode cL_law 266 = .ok (.invokevirtual 32, 3) := by decide +kernel
theorem dL_law_269 : decode cL_law 269 = .ok (.if_icmp .eq 122, 3) := by decide +kernel
theorem dL_law_272 : decode cL_law 272 = .ok (.iconst 0, 1) := by decide +kernel
theorem dL_law_273 : decode cL_law 273 = .ok (.ireturn, 1) := by decide +kernel
theorem dL_law_274 : decode cL_law 274 = .ok (.aload_n 1, 1) := by decide +kernel
theorem dL_law_275 : decode cL_law 275 = .ok (.invokevirtual 33, 3) := by decide +kernel
theorem dL_law_278 : decode cL_law 278 = .ok (.aload_n 2, 1) := by decide +kernel
theorem dL_law_279 : decode cL_law 279 = .ok (.invokevirtual 37, 3) := by decide +kernel
theorem dL_law_282 : decode cL_law 282 = .ok (.if_icmp .eq 109, 3) := by decide +kernel
theorem dL_law_285 : decode cL_law 285 = .ok (.iconst 0, 1) := by decide +kernel
theorem dL_law_286 : decode cL_law 286 = .ok (.ireturn, 1) := by decide +kernel
theorem dL_law_287 : decode cL_law 287 = .ok (.aload_n 1, 1) := by decide +kernel
theorem dL_law_288 : decode cL_law 288 = .ok (.invokevirtual 38, 3) := by decide +kernel
theorem dL_law_291 : decode cL_law 291 = .ok (.aload_n 2, 1) := by decide +kernel
theorem dL_law_292 : decode cL_law 292 = .ok (.invokevirtual 41, 3) := by decide +kernel
theorem dL_law_295 : decode cL_law 295 = .ok (.if_icmp .eq 96, 3) := by decide +kernel
theorem dL_law_298 : decode cL_law 298 = .ok (.iconst 0, 1) := by decide +kernel
theorem dL_law_299 : decode cL_law 299 = .ok (.ireturn, 1) := by decide +kernel
theorem dL_law_300 : decode cL_law 300 = .ok (.aload_n 1, 1) := by decide +kernel
theorem dL_law_301 : decode cL_law 301 = .ok (.invokevirtual 42, 3) := by decide +kernel
theorem dL_law_304 : decode cL_law 304 = .ok (.aload_n 2, 1) := by decide +kernel
theorem dL_law_305 : decode cL_law 305 = .ok (.invokevirtual 45, 3) := by decide +kernel
theorem dL_law_308 : decode cL_law 308 = .ok (.if_icmp .eq 83, 3) := by decide +kernel
theorem dL_law_311 : decode cL_law 311 = .ok (.iconst 0, 1) := by decide +kernel
theorem dL_law_312 : decode cL_law 312 = .ok (.ireturn, 1) := by decide +kernel
theorem dL_law_313 : decode cL_law 313 = .ok (.aload_n 1, 1) := by decide +kernel
theorem dL_law_314 : decode cL_law 314 = .ok (.invokevirtual 46, 3) := by decide +kernel
theorem dL_law_317 : decode cL_law 317 = .ok (.aload_n 2, 1) := by decide +kernel
theorem dL_law_318 : decode cL_law 318 = .ok (.invokevirtual 49, 3) := by decide +kernel
theorem dL_law_321 : decode cL_law 321 = .ok (.if_icmp .eq 70, 3) := by decide +kernel
theorem dL_law_324 : decode cL_law 324 = .ok (.iconst 0, 1) := by decide +kernel
theorem dL_law_325 : decode cL_law 325 = .ok (.ireturn, 1) := by decide +kernel
theorem dL_law_326 : decode cL_law 326 = .ok (.aload_n 1, 1) := by decide +kernel
theorem dL_law_327 : decode cL_law 327 = .ok (.invokevirtual 50, 3) := by decide +kernel
theorem dL_law_330 : decode cL_law 330 = .ok (.aload_n 2, 1) := by decide +kernel
theorem dL_law_331 : decode cL_law 331 = .ok (.invokevirtual 53, 3) := by decide +kernel
theorem dL_law_334 : decode cL_law 334 = .ok (.if_icmp .eq 57, 3) := by decide +kernel
theorem dL_law_337 : decode cL_law 337 = .ok (.iconst 0, 1) := by decide +kernel
theorem dL_law_338 : decode cL_law 338 = .ok (.ireturn, 1) := by decide +kernel
theorem dL_law_339 : decode cL_law 339 = .ok (.aload_n 1, 1) := by decide +kernel
theorem dL_law_340 : decode cL_law 340 = .ok (.invokevirtual 54, 3) := by decide +kernel
theorem dL_law_343 : decode cL_law 343 = .ok (.aload_n 2, 1) := by decide +kernel
theorem dL_law_344 : decode cL_law 344 = .ok (.invokevirtual 57, 3) := by decide +kernel
theorem dL_law_347 : decode cL_law 347 = .ok (.if_icmp .eq 44, 3) := by decide +kernel
theorem dL_law_350 : decode cL_law 350 = .ok (.iconst 0, 1) := by decide +kernel
theorem dL_law_351 : decode cL_law 351 = .ok (.ireturn, 1) := by decide +kernel
theorem dL_law_352 : decode cL_law 352 = .ok (.aload_n 1, 1) := by decide +kernel
theorem dL_law_353 : decode cL_law 353 = .ok (.invokevirtual 58, 3) := by decide +kernel
theorem dL_law_356 : decode cL_law 356 = .ok (.aload_n 2, 1) := by decide +kernel
theorem dL_law_357 : decode cL_law 357 = .ok (.invokevirtual 61, 3) := by decide +kernel
theorem dL_law_360 : decode cL_law 360 = .ok (.if_icmp .eq 31, 3) := by decide +kernel
theorem dL_law_363 : decode cL_law 363 = .ok (.iconst 0, 1) := by decide +kernel
theorem dL_law_364 : decode cL_law 364 = .ok (.ireturn, 1) := by decide +kernel
theorem dL_law_365 : decode cL_law 365 = .ok (.aload_n 1, 1) := by decide +kernel
theorem dL_law_366 : decode cL_law 366 = .ok (.invokevirtual 62, 3) := by decide +kernel
theorem dL_law_369 : decode cL_law 369 = .ok (.aload_n 2, 1) := by decide +kernel
theorem dL_law_370 : decode cL_law 370 = .ok (.invokevirtual 65, 3) := by decide +kernel
theorem dL_law_373 : decode cL_law 373 = .ok (.if_icmp .eq 18, 3) := by decide +kernel
theorem dL_law_376 : decode cL_law 376 = .ok (.iconst 0, 1) := by decide +kernel
theorem dL_law_377 : decode cL_law 377 = .ok (.ireturn, 1) := by decide +kernel
theorem dL_law_378 : decode cL_law 378 = .ok (.aload_n 1, 1) := by decide +kernel
theorem dL_law_379 : decode cL_law 379 = .ok (.invokevirtual 66, 3) := by decide +kernel
theorem dL_law_382 : decode cL_law 382 = .ok (.aload_n 2, 1) := by decide +kernel
theorem dL_law_383 : decode cL_law 383 = .ok (.invokevirtual 69, 3) := by decide +kernel
theorem dL_law_386 : decode cL_law 386 = .ok (.if_icmp .eq 5, 3) := by decide +kernel
theorem dL_law_389 : decode cL_law 389 = .ok (.iconst 0, 1) := by decide +kernel
theorem dL_law_390 : decode cL_law 390 = .ok (.ireturn, 1) := by decide +kernel
theorem dL_law_391 : decode cL_law 391 = .ok (.iinc 3 4, 3) := by decide +kernel
theorem dL_law_394 : decode cL_law 394 = .ok (.goto (-376), 3) := by decide +kernel
theorem dL_law_397 : decode cL_law 397 = .ok (.iconst 1, 1) := by decide +kernel
theorem dL_law_398 : decode cL_law 398 = .ok (.ireturn, 1) := by decide +kernel
end
section
/-! NUMBERS: ints that are small naturals -/
theorem pn_ext {x y : Int32} (h : ∀ i, i < 32 → x.toBitVec.getLsbD i = y.toBitVec.getLsbD i) : x = y := Int32.toBitVec_inj.mp (BitVec.eq_of_getLsbD_eq (fun i hi => h i hi))
theorem pn_tb (n : Nat) {i : Nat} (hi : i < 32) : (nI n).toBitVec.getLsbD i = n.testBit i := by
  show (BitVec.ofNat 32 n).getLsbD i = _
  rw [BitVec.getLsbD_ofNat]
  simp [hi]
theorem pn_and (a b : Nat) : nI a &&& nI b = nI (a &&& b) := pn_ext fun i hi => by
  rw [Int32.toBitVec_and, BitVec.getLsbD_and, pn_tb a hi, pn_tb b hi, pn_tb _ hi, Nat.testBit_and]
theorem pn_or (a b : Nat) : nI a ||| nI b = nI (a ||| b) := pn_ext fun i hi => by
  rw [Int32.toBitVec_or, BitVec.getLsbD_or, pn_tb a hi, pn_tb b hi, pn_tb _ hi, Nat.testBit_or]
theorem pn_m1 : ∀ i, i < 32 → (-1 : Int32).toBitVec.getLsbD i = true := by decide +kernel
theorem pn_df (a b : Nat) : nI a &&& (nI b ^^^ (-1)) = nI (pd_df a b) := pn_ext fun i hi => by
  rw [Int32.toBitVec_and, BitVec.getLsbD_and, Int32.toBitVec_xor, BitVec.getLsbD_xor, pn_m1 i hi, pn_tb a hi, pn_tb b hi, pn_tb _ hi, pd_df_tb, Bool.xor_true]
theorem pn_sl : ∀ n, n < 32 → ((nI n &&& 31).toBitVec.smod 32).toNat = n := by decide +kernel
theorem pn_shr {a k : Nat} (ha : a < 2 ^ 31) (hk : k < 32) : nI a >>> (nI k &&& 31) = nI (a >>> k) := by
  rw [pk_shrN ha _ k (pn_sl k hk), Nat.shiftRight_eq_div_pow]
theorem pn_shl {k : Nat} (hk : k < 31) : nI 1 <<< (nI k &&& 31) = nI (2 ^ k) := by
  have h : (1 : Nat) * 2 ^ k < 2 ^ 32 := by
    rw [Nat.one_mul]; exact Nat.pow_lt_pow_right (by decide) (by omega)
  rw [pk_shlN (n := 1) _ k (pn_sl k (by omega)) h, Nat.one_mul]
theorem pn_b1 (s k : Nat) : nI ((s >>> k) &&& 1) = nI 1 ↔ s.testBit k = true := by
  rw [pd_bit]
  cases s.testBit k <;> decide
theorem pn_b0 (s k : Nat) : nI ((s >>> k) &&& 1) = 0 ↔ ¬ s.testBit k = true := by
  rw [pd_bit]
  cases s.testBit k <;> decide
theorem pn_bz (b : Bool) : nI b.toNat = 0 ↔ ¬ b = true := by cases b <;> decide
theorem pn_z {a : Nat} (ha : a < 2 ^ 31) : nI a = 0 ↔ a = 0 := by
  rw [← nI_0]; exact nI_eq ha (by decide)
theorem pn_le0 {a : Nat} (ha : a < 2 ^ 31) : nI a ≤ 0 ↔ a = 0 := by
  rw [← nI_0]
  exact (nI_leI ha (by decide)).trans (by omega)
theorem pn_lt0 {a : Nat} (ha : a < 2 ^ 31) : nI a < 0 ↔ False := by
  rw [← nI_0]
  exact (nI_ltI ha (by decide)).trans ⟨fun h => absurd h (Nat.not_lt_zero _), fun h => h.elim⟩
def oI : Option Nat → Int32
  | none => -1
  | some n => nI n
theorem pn_oneg {o : Option Nat} (h : ∀ n, o = some n → n < 2 ^ 31) : oI o < 0 ↔ o = none := by
  cases o with
  | none => exact ⟨fun _ => rfl, fun _ => by decide⟩
  | some n =>
    show nI n < 0 ↔ _
    rw [pn_lt0 (h n rfl)]
    exact ⟨fun h => h.elim, fun h => by cases h⟩
theorem pn_oge {o : Option Nat} (h : ∀ n, o = some n → n < 2 ^ 31) : 0 ≤ oI o ↔ o.isSome = true := by
  cases o with
  | none => exact ⟨fun h => absurd h (by decide), fun h => by cases h⟩
  | some n =>
    show 0 ≤ nI n ↔ _
    exact ⟨fun _ => rfl, fun _ => nI_pos' (h n rfl)⟩
def nF (f : Nat → Nat) : Nat → Int32 := fun j => nI (f j)
def oF (f : Nat → Option Nat) : Nat → Int32 := fun j => oI (f j)
theorem nF_st (f : Nat → Nat) (k x : Nat) : upd (nF f) k (nI x) = nF (pd_st f k x) := by
  funext j
  unfold upd nF pd_st
  split <;> rfl
theorem oF_st (f : Nat → Option Nat) (k : Nat) (x : Option Nat) : upd (oF f) k (oI x) = oF (pd_st f k x) := by
  funext j
  unfold upd oF pd_st
  split <;> rfl
theorem pn_dec (n : Nat) : nI (n + 1) + Int32.ofInt (-1) = nI n := pk_m1 n
theorem pn_dec0 : nI 0 + Int32.ofInt (-1) = -1 := by decide
/-- the lowest bit of a set -/
theorem pn_low : ∀ s, s < 1024 → 0 < s → ∃ b, b < 10 ∧ s.testBit b = true ∧ (∀ j, j < b → s.testBit j = false) ∧ nI s &&& -(nI s) = nI (2 ^ b) := by decide +kernel
theorem pn_andp {p b : Nat} : p &&& 2 ^ b = 0 ↔ ¬ p.testBit b = true := by
  rw [pd_and0]
  constructor
  · intro h hb; exact h b hb Nat.testBit_two_pow_self
  · intro h i h1 h2
    rw [Nat.testBit_two_pow, decide_eq_true_iff] at h2
    rw [← h2] at h1; exact h h1
/-! what the plain methods do -/
/-- edge: the place is bad, or it is set -/
def pd_eg (E : Nat → Nat) (a b : Int32) (t : Bool) (r : Int32) (E' : Nat → Nat) : Prop :=
  ((a < 0 ∨ b ≤ a ∨ 10 ≤ b) ∧ r = -1 ∧ E' = E) ∨ ∃ i j, i < j ∧ j < 10 ∧ a = nI i ∧ b = nI j ∧ r = nI ((E i >>> j) &&& 1) ∧ E' = pd_st E i (if t = true then E i ||| 2 ^ j else pd_df (E i) (2 ^ j))
theorem pd_eg_ok {a b : Int32} {i j : Nat} (hij : i < j) (hj : j < 10) (ha : a = nI i) (hb : b = nI j) : ¬ (a < 0 ∨ b ≤ a ∨ 10 ≤ b) := by
  subst ha; subst hb
  rintro (h | h | h)
  · exact (pn_lt0 (by omega)).mp h
  · have := (nI_leI (a := j) (b := i) (by omega) (by omega)).mp h; omega
  · have := (nI_leI (a := 10) (b := j) (by omega) (by omega)).mp h; omega
theorem pd_nI_inj {i j : Nat} (hi : i < 10) (hj : j < 10) (h : nI i = nI j) : i = j := (nI_eq (by omega) (by omega)).mp h
theorem pd_eg_fun {E : Nat → Nat} {a b : Int32} {t : Bool} {r r' : Int32} {E' E'' : Nat → Nat} (h : pd_eg E a b t r E') (h' : pd_eg E a b t r' E'') : r = r' ∧ E' = E'' := by
  rcases h with ⟨h1, h2, h3⟩ | ⟨i, j, h1, h2, h3, h4, h5, h6⟩
  · rcases h' with ⟨g1, g2, g3⟩ | ⟨i, j, g1, g2, g3, g4, g5, g6⟩
    · exact ⟨by rw [h2, g2], by rw [h3, g3]⟩
    · exact absurd h1 (pd_eg_ok g1 g2 g3 g4)
  · rcases h' with ⟨g1, g2, g3⟩ | ⟨i', j', g1, g2, g3, g4, g5, g6⟩
    · exact absurd g1 (pd_eg_ok h1 h2 h3 h4)
    · have e1 : i = i' := pd_nI_inj (by omega) (by omega) (h3.symm.trans g3)
      have e2 : j = j' := pd_nI_inj h2 g2 (h4.symm.trans g4)
      subst e1; subst e2
      exact ⟨by rw [h5, g5], by rw [h6, g6]⟩
theorem pd_eg_ed {E : Nat → Nat} {a b : Int32} {t : Bool} {r : Int32} {E' : Nat → Nat} (hE : pd_Ed E) (h : pd_eg E a b t r E') : pd_Ed E' := by
  rcases h with ⟨-, -, h3⟩ | ⟨i, j, h1, h2, -, -, -, h6⟩
  · rw [h3]; exact hE
  · intro v hv w hw
    rw [h6] at hw
    by_cases z : v = i
    · rw [z, pd_st_s] at hw
      rw [z]
      cases t with
      | true =>
        rw [if_pos rfl, Nat.testBit_or, Bool.or_eq_true, pd_tw] at hw
        rcases hw with q | q
        · exact hE i (by omega) w q
        · omega
      | false =>
        rw [if_neg (by decide), pd_clr] at hw
        exact hE i (by omega) w hw.1
    · rw [pd_st_n z] at hw
      exact hE v hv w hw
theorem pd_setb (e j : Nat) : pd_df e (2 ^ j) ||| 2 ^ j = e ||| 2 ^ j := Nat.eq_of_testBit_eq fun i => by
  rw [Nat.testBit_or, Nat.testBit_or, pd_df_tb]
  cases e.testBit i <;> cases (2 ^ j).testBit i <;> rfl
/-- turn -/
def pd_tu (on : Nat) (v : Int32) (t : Bool) (r : Int32) (on' : Nat) : Prop :=
  ((v < 0 ∨ 10 ≤ v) ∧ r = -1 ∧ on' = on) ∨ ∃ i, i < 10 ∧ v = nI i ∧ r = nI ((on >>> i) &&& 1) ∧ on' = (if t = true then on ||| 2 ^ i else pd_df on (2 ^ i))
theorem pd_v_ok {v : Int32} {i : Nat} (hi : i < 10) (hv : v = nI i) : ¬ (v < 0 ∨ 10 ≤ v) := by
  subst hv
  rintro (h | h)
  · exact (pn_lt0 (by omega)).mp h
  · have := (nI_leI (a := 10) (b := i) (by omega) (by omega)).mp h; omega
theorem pd_v_in {v : Int32} (h : ¬ v < 0) (h' : ¬ 10 ≤ v) : ∃ i, i < 10 ∧ v = nI i := by
  rcases pk_ix v (n := 10) (by decide) with q | q | q
  · exact absurd q h
  · exact absurd q h'
  · exact q
theorem pd_tu_fun {on : Nat} {v : Int32} {t : Bool} {r r' : Int32} {o o' : Nat} (h : pd_tu on v t r o) (h' : pd_tu on v t r' o') : r = r' ∧ o = o' := by
  rcases h with ⟨h1, h2, h3⟩ | ⟨i, h1, h2, h3, h4⟩
  · rcases h' with ⟨g1, g2, g3⟩ | ⟨i, g1, g2, g3, g4⟩
    · exact ⟨by rw [h2, g2], by rw [h3, g3]⟩
    · exact absurd h1 (pd_v_ok g1 g2)
  · rcases h' with ⟨g1, g2, g3⟩ | ⟨i', g1, g2, g3, g4⟩
    · exact absurd g1 (pd_v_ok h1 h2)
    · have e1 : i = i' := pd_nI_inj h1 g1 (h2.symm.trans g2)
      subst e1
      exact ⟨by rw [h3, g3], by rw [h4, g4]⟩
theorem pd_tu_lt {on : Nat} {v : Int32} {t : Bool} {r : Int32} {o : Nat} (hon : on < 1024) (h : pd_tu on v t r o) : o < 1024 := by
  rcases h with ⟨h1, h2, h3⟩ | ⟨i, h1, h2, h3, h4⟩
  · rw [h3]; exact hon
  · rw [h4]
    split
    · exact Nat.or_lt_two_pow (n := 10) hon (Nat.pow_lt_pow_right (by decide) h1)
    · exact Nat.lt_of_le_of_lt (pd_df_le _ _) hon
/-- weight -/
def pd_we (W : Nat → Nat) (v x : Int32) (r : Int32) (W' : Nat → Nat) : Prop :=
  ((v < 0 ∨ 10 ≤ v) ∧ r = -1 ∧ W' = W) ∨ (¬ (v < 0 ∨ 10 ≤ v) ∧ (x < 0 ∨ 10 ≤ x) ∧ r = -2 ∧ W' = W) ∨ ∃ i k, i < 10 ∧ k < 10 ∧ v = nI i ∧ x = nI k ∧ r = nI (W i) ∧ W' = pd_st W i k
theorem pd_we_fun {W : Nat → Nat} {v x : Int32} {r r' : Int32} {o o' : Nat → Nat} (h : pd_we W v x r o) (h' : pd_we W v x r' o') : r = r' ∧ o = o' := by
  rcases h with ⟨h1, h2, h3⟩ | ⟨h0, h1, h2, h3⟩ | ⟨i, k, h1, h2, h3, h4, h5, h6⟩
  · rcases h' with ⟨g1, g2, g3⟩ | ⟨g0, g1, g2, g3⟩ | ⟨i, k, g1, g2, g3, g4, g5, g6⟩
    · exact ⟨by rw [h2, g2], by rw [h3, g3]⟩
    · exact absurd h1 g0
    · exact absurd h1 (pd_v_ok g1 g3)
  · rcases h' with ⟨g1, g2, g3⟩ | ⟨g0, g1, g2, g3⟩ | ⟨i, k, g1, g2, g3, g4, g5, g6⟩
    · exact absurd g1 h0
    · exact ⟨by rw [h2, g2], by rw [h3, g3]⟩
    · exact absurd h1 (pd_v_ok g2 g4)
  · rcases h' with ⟨g1, g2, g3⟩ | ⟨g0, g1, g2, g3⟩ | ⟨i', k', g1, g2, g3, g4, g5, g6⟩
    · exact absurd g1 (pd_v_ok h1 h3)
    · exact absurd g1 (pd_v_ok h2 h4)
    · have e1 : i = i' := pd_nI_inj h1 g1 (h3.symm.trans g3)
      have e2 : k = k' := pd_nI_inj h2 g2 (h4.symm.trans g4)
      subst e1; subst e2
      exact ⟨by rw [h5, g5], by rw [h6, g6]⟩
theorem pd_we_le {W : Nat → Nat} {v x : Int32} {r : Int32} {o : Nat → Nat} (hW : ∀ v, v < 10 → W v ≤ 9) (h : pd_we W v x r o) : ∀ v, v < 10 → o v ≤ 9 := by
  rcases h with ⟨h1, h2, h3⟩ | ⟨h0, h1, h2, h3⟩ | ⟨i, k, h1, h2, h3, h4, h5, h6⟩
  · rw [h3]; exact hW
  · rw [h3]; exact hW
  · intro u hu
    rw [h6]
    by_cases z : u = i
    · rw [z, pd_st_s]; omega
    · rw [pd_st_n z]; exact hW u hu
/-- above -/
def pd_bv (U : Nat → Nat) (a b : Int32) (r : Int32) : Prop :=
  (((a < 0 ∨ 10 ≤ a) ∨ (b < 0 ∨ 10 ≤ b)) ∧ r = 0) ∨ ∃ i j, i < 10 ∧ j < 10 ∧ a = nI i ∧ b = nI j ∧ r = nI ((U i).testBit j).toNat
theorem pd_bv_fun {U : Nat → Nat} {a b : Int32} {r r' : Int32} (h : pd_bv U a b r) (h' : pd_bv U a b r') : r = r' := by
  rcases h with ⟨h1, h2⟩ | ⟨i, j, h1, h2, h3, h4, h5⟩
  · rcases h' with ⟨g1, g2⟩ | ⟨i, j, g1, g2, g3, g4, g5⟩
    · rw [h2, g2]
    · rcases h1 with q | q
      · exact absurd q (pd_v_ok g1 g3)
      · exact absurd q (pd_v_ok g2 g4)
  · rcases h' with ⟨g1, g2⟩ | ⟨i', j', g1, g2, g3, g4, g5⟩
    · rcases g1 with q | q
      · exact absurd q (pd_v_ok h1 h3)
      · exact absurd q (pd_v_ok h2 h4)
    · have e1 : i = i' := pd_nI_inj h1 g1 (h3.symm.trans g3)
      have e2 : j = j' := pd_nI_inj h2 g2 (h4.symm.trans g4)
      subst e1; subst e2
      rw [h5, g5]
end
section
/-! GO: a method's walk with the heap, the locals' array and the locations out of sight. Go K cs sl ws L pc st: from pc with locals L and stack st over the world ws the method comes to its end -/
abbrev vwCl : List vw_C := [(RX0, TX0, 13), (RX1, TX1, 6)]
abbrev KK : Type := (Program × Launch × Env × Room) × (State × MethodId × Array Value × List Frame) × (Method × Code × Nat) × ((State → Prop) × (Nat → Prop) × va_G × List (ClassId × FieldType))
abbrev kp (K : KK) : Program := K.1.1
abbrev kl (K : KK) : Launch := K.1.2.1
abbrev ke (K : KK) : Env := K.1.2.2.1
abbrev kR (K : KK) : Room := K.1.2.2.2
abbrev ks (K : KK) : State := K.2.1.1
abbrev km (K : KK) : MethodId := K.2.1.2.1
abbrev ka (K : KK) : Array Value := K.2.1.2.2.1
abbrev kb (K : KK) : List Frame := K.2.1.2.2.2
abbrev kM (K : KK) : Method := K.2.2.1.1
abbrev kc (K : KK) : Code := K.2.2.1.2.1
abbrev kN (K : KK) : Nat := K.2.2.1.2.2
abbrev kQ (K : KK) : State → Prop := K.2.2.2.1
abbrev kA (K : KK) : Nat → Prop := K.2.2.2.2.1
abbrev kD (K : KK) : va_G := K.2.2.2.2.2.1
abbrev kT (K : KK) : List (ClassId × FieldType) := K.2.2.2.2.2.2
def Go (K : KK) (cs sl : Nat) (ws : va_W) (L : List (Nat × Value)) (pc : Nat) (st : List Value) : Prop :=
  ∀ (H : Heap) (locs : List Loc) (ls : Array Slot), va_P (kD K) vwCl ws H → va_D (kA K) ws → va_S (kA K) (ks K).heap H locs → lv_has ls (kN K) L → W (kp K) (kl K) (ke K) (kR K) (ks K) (km K) (ka K) (kb K) (kM K) (kc K) H locs cs sl (kQ K) (F0 (km K) pc ls st)
/-- what is fixed in a method -/
def Cx (K : KK) (cc : ByteArray) (own : String) (ret : Option FieldType) (nL : Nat) (rm : Room) : Prop :=
  (kp K).tables.exec = Jvm.exec ∧ (kc K).code = cc ∧ (kM K).sig.returnType = ret ∧ kN K = nL ∧ (kc K).maxLocals = nL ∧ (ks K).vm.findClass own = some (km K).cls ∧ (∀ w ∈ lw_all, w.before (ka K) (ks K) = true) ∧ (kM K).locks = false ∧ (∀ q, (ks K).heap.size ≤ q → kA K q) ∧ va_K (kD K) vwCl (kT K) (ks K) ∧ kR K = rm
section GO
variable {K : KK} {cc : ByteArray} {own : String} {ret : Option FieldType} {nL : Nat} {rm : Room} {cs sl pc : Nat} {ws : va_W} {L : List (Nat × Value)} {st : List Value}
theorem g_iload_n (X : Cx K cc own ret nL rm) {k : Fin 4} {i : Nat} (hd : decode cc pc = .ok (.iload_n k, 1)) (j : Nat) {x : Int32} (hi : (k : Nat) = i) (hl : L[j]? = some (i, .int x)) (kk : Go K cs sl ws L (pc + 1) (.int x :: st)) : Go K cs sl ws L pc st :=
  fun H locs ls hP hD hS h => lv_iload_n X.1 X.2.1 hd hi (lv_at h j hl) (kk H locs ls hP hD hS h)
theorem g_iload (X : Cx K cc own ret nL rm) {i : Nat} (hd : decode cc pc = .ok (.iload i, 2)) (j : Nat) {x : Int32} (hl : L[j]? = some (i, .int x)) (kk : Go K cs sl ws L (pc + 2) (.int x :: st)) : Go K cs sl ws L pc st :=
  fun H locs ls hP hD hS h => lv_iload X.1 X.2.1 hd (lv_at h j hl) (kk H locs ls hP hD hS h)
theorem g_aload_n (X : Cx K cc own ret nL rm) {k : Fin 4} {i : Nat} (hd : decode cc pc = .ok (.aload_n k, 1)) (j : Nat) {x : Nat} (hi : (k : Nat) = i) (hl : L[j]? = some (i, .ref x)) (kk : Go K cs sl ws L (pc + 1) (.ref x :: st)) : Go K cs sl ws L pc st :=
  fun H locs ls hP hD hS h => lv_aload_n X.1 X.2.1 hd hi (lv_at h j hl) (kk H locs ls hP hD hS h)
theorem g_istore_n (X : Cx K cc own ret nL rm) {k : Fin 4} {i : Nat} {x : Int32} {L' : List (Nat × Value)} (hd : decode cc pc = .ok (.istore_n k, 1)) (hi : (k : Nat) = i) (hn : i < nL) (hl : (i, Value.int x) :: L.filter (fun q => !(q.1 == i) && !(q.1 + 1 == i && q.2.category == 2)) = L') (kk : Go K cs sl ws L' (pc + 1) st) : Go K cs sl ws L pc (.int x :: st) :=
  fun H locs ls hP hD hS h => lv_istore_n X.1 X.2.1 hd hi h (by rw [X.2.2.2.1]; exact hn) hl (fun ls' h' => kk H locs ls' hP hD hS h')
theorem g_istore (X : Cx K cc own ret nL rm) {i : Nat} {x : Int32} {L' : List (Nat × Value)} (hd : decode cc pc = .ok (.istore i, 2)) (hn : i < nL) (hl : (i, Value.int x) :: L.filter (fun q => !(q.1 == i) && !(q.1 + 1 == i && q.2.category == 2)) = L') (kk : Go K cs sl ws L' (pc + 2) st) : Go K cs sl ws L pc (.int x :: st) :=
  fun H locs ls hP hD hS h => lv_istore X.1 X.2.1 hd h (by rw [X.2.2.2.1]; exact hn) hl (fun ls' h' => kk H locs ls' hP hD hS h')
theorem g_astore_n (X : Cx K cc own ret nL rm) {k : Fin 4} {i : Nat} {x : Nat} {L' : List (Nat × Value)} (hd : decode cc pc = .ok (.astore_n k, 1)) (hi : (k : Nat) = i) (hn : i < nL) (hl : (i, Value.ref x) :: L.filter (fun q => !(q.1 == i) && !(q.1 + 1 == i && q.2.category == 2)) = L') (kk : Go K cs sl ws L' (pc + 1) st) : Go K cs sl ws L pc (.ref x :: st) :=
  fun H locs ls hP hD hS h => lv_astore_n X.1 X.2.1 hd hi h (by rw [X.2.2.2.1]; exact hn) hl (fun ls' h' => kk H locs ls' hP hD hS h')
theorem g_iinc (X : Cx K cc own ret nL rm) {i : Nat} {n : Int} {x v : Int32} {L' : List (Nat × Value)} (hd : decode cc pc = .ok (.iinc i n, 3)) (j : Nat) (hj : L[j]? = some (i, .int x)) (hv : x + Int32.ofInt n = v) (hn : i < nL) (hl : (i, Value.int v) :: L.filter (fun q => !(q.1 == i) && !(q.1 + 1 == i && q.2.category == 2)) = L') (kk : Go K cs sl ws L' (pc + 3) st) : Go K cs sl ws L pc st :=
  fun H locs ls hP hD hS h => lv_iinc X.1 X.2.1 hd h hj hv (by rw [X.2.2.2.1]; exact hn) hl (fun ls' h' => kk H locs ls' hP hD hS h')
theorem g_iconst (X : Cx K cc own ret nL rm) {n : Int} {v : Int32} (hd : decode cc pc = .ok (.iconst n, 1)) (hv : Int32.ofInt n = v) (kk : Go K cs sl ws L (pc + 1) (.int v :: st)) : Go K cs sl ws L pc st :=
  fun H locs ls hP hD hS h => lv_iconst X.1 X.2.1 hd hv (kk H locs ls hP hD hS h)
theorem g_bipush (X : Cx K cc own ret nL rm) {n : Int} {v : Int32} (hd : decode cc pc = .ok (.bipush n, 2)) (hv : (Int8.ofInt n).toInt32 = v) (kk : Go K cs sl ws L (pc + 2) (.int v :: st)) : Go K cs sl ws L pc st :=
  fun H locs ls hP hD hS h => lv_bipush X.1 X.2.1 hd hv (kk H locs ls hP hD hS h)
theorem g_sipush (X : Cx K cc own ret nL rm) {n : Int} {v : Int32} (hd : decode cc pc = .ok (.sipush n, 3)) (hv : (Int16.ofInt n).toInt32 = v) (kk : Go K cs sl ws L (pc + 3) (.int v :: st)) : Go K cs sl ws L pc st :=
  fun H locs ls hP hD hS h => lv_sipush X.1 X.2.1 hd hv (kk H locs ls hP hD hS h)
theorem g_iadd (X : Cx K cc own ret nL rm) {x y v : Int32} (hd : decode cc pc = .ok (.iadd, 1)) (hv : x + y = v) (kk : Go K cs sl ws L (pc + 1) (.int v :: st)) : Go K cs sl ws L pc (.int y :: .int x :: st) :=
  fun H locs ls hP hD hS h => lv_iadd X.1 X.2.1 hd (by rw [hv]; exact kk H locs ls hP hD hS h)
theorem g_isub (X : Cx K cc own ret nL rm) {x y v : Int32} (hd : decode cc pc = .ok (.isub, 1)) (hv : x - y = v) (kk : Go K cs sl ws L (pc + 1) (.int v :: st)) : Go K cs sl ws L pc (.int y :: .int x :: st) :=
  fun H locs ls hP hD hS h => lv_isub X.1 X.2.1 hd (by rw [hv]; exact kk H locs ls hP hD hS h)
theorem g_imul (X : Cx K cc own ret nL rm) {x y v : Int32} (hd : decode cc pc = .ok (.imul, 1)) (hv : x * y = v) (kk : Go K cs sl ws L (pc + 1) (.int v :: st)) : Go K cs sl ws L pc (.int y :: .int x :: st) :=
  fun H locs ls hP hD hS h => lv_imul X.1 X.2.1 hd (by rw [hv]; exact kk H locs ls hP hD hS h)
theorem g_iand (X : Cx K cc own ret nL rm) {x y v : Int32} (hd : decode cc pc = .ok (.iand, 1)) (hv : x &&& y = v) (kk : Go K cs sl ws L (pc + 1) (.int v :: st)) : Go K cs sl ws L pc (.int y :: .int x :: st) :=
  fun H locs ls hP hD hS h => lv_iand X.1 X.2.1 hd (by rw [hv]; exact kk H locs ls hP hD hS h)
theorem g_ior (X : Cx K cc own ret nL rm) {x y v : Int32} (hd : decode cc pc = .ok (.ior, 1)) (hv : x ||| y = v) (kk : Go K cs sl ws L (pc + 1) (.int v :: st)) : Go K cs sl ws L pc (.int y :: .int x :: st) :=
  fun H locs ls hP hD hS h => lv_ior X.1 X.2.1 hd (by rw [hv]; exact kk H locs ls hP hD hS h)
theorem g_ixor (X : Cx K cc own ret nL rm) {x y v : Int32} (hd : decode cc pc = .ok (.ixor, 1)) (hv : x ^^^ y = v) (kk : Go K cs sl ws L (pc + 1) (.int v :: st)) : Go K cs sl ws L pc (.int y :: .int x :: st) :=
  fun H locs ls hP hD hS h => lv_ixor X.1 X.2.1 hd (by rw [hv]; exact kk H locs ls hP hD hS h)
theorem g_ineg (X : Cx K cc own ret nL rm) {x v : Int32} (hd : decode cc pc = .ok (.ineg, 1)) (hv : -x = v) (kk : Go K cs sl ws L (pc + 1) (.int v :: st)) : Go K cs sl ws L pc (.int x :: st) :=
  fun H locs ls hP hD hS h => lv_ineg X.1 X.2.1 hd (by rw [hv]; exact kk H locs ls hP hD hS h)
theorem g_ishl (X : Cx K cc own ret nL rm) {x y v : Int32} (hd : decode cc pc = .ok (.ishl, 1)) (hv : x <<< (y &&& 31) = v) (kk : Go K cs sl ws L (pc + 1) (.int v :: st)) : Go K cs sl ws L pc (.int y :: .int x :: st) :=
  fun H locs ls hP hD hS h => lv_ishl X.1 X.2.1 hd (by rw [hv]; exact kk H locs ls hP hD hS h)
theorem g_ishr (X : Cx K cc own ret nL rm) {x y v : Int32} (hd : decode cc pc = .ok (.ishr, 1)) (hv : x >>> (y &&& 31) = v) (kk : Go K cs sl ws L (pc + 1) (.int v :: st)) : Go K cs sl ws L pc (.int y :: .int x :: st) :=
  fun H locs ls hP hD hS h => lv_ishr X.1 X.2.1 hd (by rw [hv]; exact kk H locs ls hP hD hS h)
theorem g_dup (X : Cx K cc own ret nL rm) {va : Value} (hd : decode cc pc = .ok (.dup, 1)) (hva : va.category = 1) (kk : Go K cs sl ws L (pc + 1) (va :: va :: st)) : Go K cs sl ws L pc (va :: st) :=
  fun H locs ls hP hD hS h => lv_dup X.1 X.2.1 hd hva (kk H locs ls hP hD hS h)
theorem g_dup2 (X : Cx K cc own ret nL rm) {va vb : Value} (hd : decode cc pc = .ok (.dup2, 1)) (hva : va.category = 1) (hvb : vb.category = 1) (kk : Go K cs sl ws L (pc + 1) (va :: vb :: va :: vb :: st)) : Go K cs sl ws L pc (va :: vb :: st) :=
  fun H locs ls hP hD hS h => lv_dup2_11 X.1 X.2.1 hd hva hvb (kk H locs ls hP hD hS h)
theorem g_goto (X : Cx K cc own ret nL rm) {off : Int} (tgt : Nat) (hd : decode cc pc = .ok (.goto off, 3)) (ht : (pc : Int) + off = (tgt : Int)) (kk : Go K cs sl ws L tgt st) : Go K cs sl ws L pc st :=
  fun H locs ls hP hD hS h => lv_goto X.1 X.2.1 hd ht (kk H locs ls hP hD hS h)
/-- other words for the locals, the stack -/
theorem g_loc {L' : List (Nat × Value)} (is : List Nat) (hl : lv_pick L is = L') (kk : Go K cs sl ws L' pc st) : Go K cs sl ws L pc st :=
  fun H locs ls hP hD hS h => kk H locs ls hP hD hS (lv_sub h is hl)
theorem g_eq {ws' : va_W} {L' : List (Nat × Value)} {pc' : Nat} {st' : List Value} (hw : ws = ws') (hl : L = L') (hp : pc = pc') (hs : st = st') (kk : Go K cs sl ws' L' pc' st') : Go K cs sl ws L pc st := by
  subst hw; subst hl; subst hp; subst hs; exact kk
section GBR
variable {x y : Int32} {off : Int} {P : Prop}
theorem g_if_eq (X : Cx K cc own ret nL rm) (tgt : Nat) (hd : decode cc pc = .ok (.ifCond .eq off, 3)) (ht : (pc : Int) + off = (tgt : Int)) (hP : x = 0 ↔ P) (kt : P → Go K cs sl ws L tgt st) (kf : ¬ P → Go K cs sl ws L (pc + 3) st) : Go K cs sl ws L pc (.int x :: st) :=
  fun H locs ls h1 hD hS h => lv_if_eq X.1 X.2.1 hd ht (fun q => kt (hP.mp q) H locs ls h1 hD hS h) (fun q => kf (fun z => q (hP.mpr z)) H locs ls h1 hD hS h)
theorem g_if_ne (X : Cx K cc own ret nL rm) (tgt : Nat) (hd : decode cc pc = .ok (.ifCond .ne off, 3)) (ht : (pc : Int) + off = (tgt : Int)) (hP : x = 0 ↔ P) (kt : ¬ P → Go K cs sl ws L tgt st) (kf : P → Go K cs sl ws L (pc + 3) st) : Go K cs sl ws L pc (.int x :: st) :=
  fun H locs ls h1 hD hS h => lv_if_ne X.1 X.2.1 hd ht (fun q => kt (fun z => q (hP.mpr z)) H locs ls h1 hD hS h) (fun q => kf (hP.mp q) H locs ls h1 hD hS h)
theorem g_if_lt (X : Cx K cc own ret nL rm) (tgt : Nat) (hd : decode cc pc = .ok (.ifCond .lt off, 3)) (ht : (pc : Int) + off = (tgt : Int)) (hP : x < 0 ↔ P) (kt : P → Go K cs sl ws L tgt st) (kf : ¬ P → Go K cs sl ws L (pc + 3) st) : Go K cs sl ws L pc (.int x :: st) :=
  fun H locs ls h1 hD hS h => lv_if_lt X.1 X.2.1 hd ht (fun q => kt (hP.mp q) H locs ls h1 hD hS h) (fun q => kf (fun z => q (hP.mpr z)) H locs ls h1 hD hS h)
theorem g_if_ge (X : Cx K cc own ret nL rm) (tgt : Nat) (hd : decode cc pc = .ok (.ifCond .ge off, 3)) (ht : (pc : Int) + off = (tgt : Int)) (hP : 0 ≤ x ↔ P) (kt : P → Go K cs sl ws L tgt st) (kf : ¬ P → Go K cs sl ws L (pc + 3) st) : Go K cs sl ws L pc (.int x :: st) :=
  fun H locs ls h1 hD hS h => lv_if_ge X.1 X.2.1 hd ht (fun q => kt (hP.mp q) H locs ls h1 hD hS h) (fun q => kf (fun z => q (hP.mpr z)) H locs ls h1 hD hS h)
theorem g_if_le (X : Cx K cc own ret nL rm) (tgt : Nat) (hd : decode cc pc = .ok (.ifCond .le off, 3)) (ht : (pc : Int) + off = (tgt : Int)) (hP : x ≤ 0 ↔ P) (kt : P → Go K cs sl ws L tgt st) (kf : ¬ P → Go K cs sl ws L (pc + 3) st) : Go K cs sl ws L pc (.int x :: st) :=
  fun H locs ls h1 hD hS h => lv_if_le X.1 X.2.1 hd ht (fun q => kt (hP.mp q) H locs ls h1 hD hS h) (fun q => kf (fun z => q (hP.mpr z)) H locs ls h1 hD hS h)
theorem g_icmp_eq (X : Cx K cc own ret nL rm) (tgt : Nat) (hd : decode cc pc = .ok (.if_icmp .eq off, 3)) (ht : (pc : Int) + off = (tgt : Int)) (hP : x = y ↔ P) (kt : P → Go K cs sl ws L tgt st) (kf : ¬ P → Go K cs sl ws L (pc + 3) st) : Go K cs sl ws L pc (.int y :: .int x :: st) :=
  fun H locs ls h1 hD hS h => lv_icmp_eq X.1 X.2.1 hd ht (fun q => kt (hP.mp q) H locs ls h1 hD hS h) (fun q => kf (fun z => q (hP.mpr z)) H locs ls h1 hD hS h)
theorem g_icmp_ne (X : Cx K cc own ret nL rm) (tgt : Nat) (hd : decode cc pc = .ok (.if_icmp .ne off, 3)) (ht : (pc : Int) + off = (tgt : Int)) (hP : x = y ↔ P) (kt : ¬ P → Go K cs sl ws L tgt st) (kf : P → Go K cs sl ws L (pc + 3) st) : Go K cs sl ws L pc (.int y :: .int x :: st) :=
  fun H locs ls h1 hD hS h => lv_icmp_ne X.1 X.2.1 hd ht (fun q => kt (fun z => q (hP.mpr z)) H locs ls h1 hD hS h) (fun q => kf (hP.mp q) H locs ls h1 hD hS h)
theorem g_icmp_lt (X : Cx K cc own ret nL rm) (tgt : Nat) (hd : decode cc pc = .ok (.if_icmp .lt off, 3)) (ht : (pc : Int) + off = (tgt : Int)) (hP : x < y ↔ P) (kt : P → Go K cs sl ws L tgt st) (kf : ¬ P → Go K cs sl ws L (pc + 3) st) : Go K cs sl ws L pc (.int y :: .int x :: st) :=
  fun H locs ls h1 hD hS h => lv_icmp_lt X.1 X.2.1 hd ht (fun q => kt (hP.mp q) H locs ls h1 hD hS h) (fun q => kf (fun z => q (hP.mpr z)) H locs ls h1 hD hS h)
theorem g_icmp_ge (X : Cx K cc own ret nL rm) (tgt : Nat) (hd : decode cc pc = .ok (.if_icmp .ge off, 3)) (ht : (pc : Int) + off = (tgt : Int)) (hP : y ≤ x ↔ P) (kt : P → Go K cs sl ws L tgt st) (kf : ¬ P → Go K cs sl ws L (pc + 3) st) : Go K cs sl ws L pc (.int y :: .int x :: st) :=
  fun H locs ls h1 hD hS h => lv_icmp_ge X.1 X.2.1 hd ht (fun q => kt (hP.mp q) H locs ls h1 hD hS h) (fun q => kf (fun z => q (hP.mpr z)) H locs ls h1 hD hS h)
theorem g_icmp_gt (X : Cx K cc own ret nL rm) (tgt : Nat) (hd : decode cc pc = .ok (.if_icmp .gt off, 3)) (ht : (pc : Int) + off = (tgt : Int)) (hP : y < x ↔ P) (kt : P → Go K cs sl ws L tgt st) (kf : ¬ P → Go K cs sl ws L (pc + 3) st) : Go K cs sl ws L pc (.int y :: .int x :: st) :=
  fun H locs ls h1 hD hS h => lv_icmp_gt X.1 X.2.1 hd ht (fun q => kt (hP.mp q) H locs ls h1 hD hS h) (fun q => kf (fun z => q (hP.mpr z)) H locs ls h1 hD hS h)
theorem g_icmp_le (X : Cx K cc own ret nL rm) (tgt : Nat) (hd : decode cc pc = .ok (.if_icmp .le off, 3)) (ht : (pc : Int) + off = (tgt : Int)) (hP : x ≤ y ↔ P) (kt : P → Go K cs sl ws L tgt st) (kf : ¬ P → Go K cs sl ws L (pc + 3) st) : Go K cs sl ws L pc (.int y :: .int x :: st) :=
  fun H locs ls h1 hD hS h => lv_icmp_le X.1 X.2.1 hd ht (fun q => kt (hP.mp q) H locs ls h1 hD hS h) (fun q => kf (fun z => q (hP.mpr z)) H locs ls h1 hD hS h)
end GBR
section GME
variable {C : String} {T : u_T} {N ci index a : Nat} {fs : List Value} {v : Value} {ws' : va_W}
theorem g_get (X : Cx K cc own ret nL rm) (hin : ∀ w ∈ u_ws C T N, w ∈ lw_all) (q0 : Nat) (he : ws[q0]? = some (a, .inr (ci, fs))) (hc : vwCl[ci]? = some (C, T, N)) (k : Nat) (hk : k < N) (hlink : Cond.fieldLink own index (T k).1 (T k).2.1 (T k).2.2.1 ∈ lw_all) (hv : fs[k]? = some v) (hd : decode cc pc = .ok (.getfield index, 3)) (kk : Go K cs sl ws L (pc + 3) (v :: st)) : Go K cs sl ws L pc (.ref a :: st) :=
  fun H locs ls hP hD hS h => va_get X.1 X.2.1 X.2.2.2.2.2.2.1 hin X.2.2.2.2.2.1 X.2.2.2.2.2.2.2.2.2.1 hP q0 he hc k hk (X.2.2.2.2.2.2.1 _ hlink) (fun _ h9 => h9) hv hd (kk H locs ls hP hD hS h)
theorem g_put (X : Cx K cc own ret nL rm) (hin : ∀ w ∈ u_ws C T N, w ∈ lw_all) (ty0 : Nat → FieldType) (hty : ∀ k, k < N → parseFieldDescriptor (T k).2.2.1 = some (ty0 k)) (hnm : ∀ a, a < N → ∀ b, b < N → a ≠ b → (T a).2.1 ≠ (T b).2.1) (q0 : Nat) (he : ws[q0]? = some (a, .inr (ci, fs))) (hc : vwCl[ci]? = some (C, T, N)) (k : Nat) (hk : k < N) (hlink : Cond.fieldLink own index (T k).1 (T k).2.1 (T k).2.2.1 ∈ lw_all) (hfin : (T k).2.2.2 = false) {ty : FieldType} (hdd : parseFieldDescriptor (T k).2.2.1 = some ty) (hn : narrow ty v = v) (hfit : fits ty v = true) (hl : k < fs.length) (hw : ws.set q0 (a, .inr (ci, fs.set k v)) = ws') (hd : decode cc pc = .ok (.putfield index, 3)) (kk : Go K cs sl ws' L (pc + 3) st) : Go K cs sl ws L pc (v :: .ref a :: st) :=
  fun H locs ls hP hD hS h => va_put X.1 X.2.1 X.2.2.2.2.2.2.1 hin ty0 hty hnm X.2.2.2.2.2.1 X.2.2.2.2.2.2.2.2.2.1 hP hD hS q0 he hc k hk (X.2.2.2.2.2.2.1 _ hlink) (fun _ h9 => h9) hfin hdd hn hfit hl hd (fun H1 l1 hP1 hD1 hS1 => kk H1 l1 ls (hw ▸ hP1) (hw ▸ hD1) hS1 h)
theorem g_putF (X : Cx K cc own ret nL rm) (hin : ∀ w ∈ u_ws C T N, w ∈ lw_all) (ty0 : Nat → FieldType) (hty : ∀ k, k < N → parseFieldDescriptor (T k).2.2.1 = some (ty0 k)) (hnm : ∀ a, a < N → ∀ b, b < N → a ≠ b → (T a).2.1 ≠ (T b).2.1) (q0 : Nat) (he : ws[q0]? = some (a, .inr (ci, fs))) (hc : vwCl[ci]? = some (C, T, N)) (k : Nat) (hk : k < N) (hlink : Cond.fieldLink own index (T k).1 (T k).2.1 (T k).2.2.1 ∈ lw_all) (hfin : (T k).2.2.2 = true) (hin2 : (kM K).name = "<init>") (hdecl : (T k).1 = own) {ty : FieldType} (hdd : parseFieldDescriptor (T k).2.2.1 = some ty) (hn : narrow ty v = v) (hfit : fits ty v = true) (hl : k < fs.length) (hw : ws.set q0 (a, .inr (ci, fs.set k v)) = ws') (hd : decode cc pc = .ok (.putfield index, 3)) (kk : Go K cs sl ws' L (pc + 3) st) : Go K cs sl ws L pc (v :: .ref a :: st) :=
  fun H locs ls hP hD hS h => va_putF X.1 X.2.1 X.2.2.2.2.2.2.1 hin ty0 hty hnm X.2.2.2.2.2.1 X.2.2.2.2.2.2.2.2.2.1 hP hD hS q0 he hc k hk (X.2.2.2.2.2.2.1 _ hlink) (fun _ h9 => h9) hfin hin2 hdecl hdd hn hfit hl hd (fun H1 l1 hP1 hD1 hS1 => kk H1 l1 ls (hw ▸ hP1) (hw ▸ hD1) hS1 h)
end GME
section GAR
variable {cA : ClassId} {n i a : Nat} {f g : Nat → Int32} {v x : Int32} {ws' : va_W}
theorem g_iald (X : Cx K cc own ret nL rm) (q0 t0 : Nat) (ha : ws[q0]? = some (a, .inl (cA, n, .inl f))) (ht : (kT K)[t0]? = some (cA, .int)) (hi : i < n) (hn : n < 2 ^ 31) (hv : f i = v) (hd : decode cc pc = .ok (.iaload, 1)) (kk : Go K cs sl ws L (pc + 1) (.int v :: st)) : Go K cs sl ws L pc (.int (nI i) :: .ref a :: st) :=
  fun H locs ls hP hD hS h => va_iald X.1 X.2.1 X.2.2.2.2.2.2.2.2.2.1 hP q0 t0 ha ht (vp_in_nI hi hn) hd (by rw [nI_clamp (by omega), hv]; exact kk H locs ls hP hD hS h)
theorem g_iast (X : Cx K cc own ret nL rm) (q0 t0 : Nat) (ha : ws[q0]? = some (a, .inl (cA, n, .inl f))) (ht : (kT K)[t0]? = some (cA, .int)) (hi : i < n) (hn : n < 2 ^ 31) (hg : upd f i x = g) (hw : ws.set q0 (a, .inl (cA, n, .inl g)) = ws') (hd : decode cc pc = .ok (.iastore, 1)) (kk : Go K cs sl ws' L (pc + 1) st) : Go K cs sl ws L pc (.int x :: .int (nI i) :: .ref a :: st) :=
  fun H locs ls hP hD hS h => va_iast X.1 X.2.1 X.2.2.2.2.2.2.2.2.2.1 hP hD hS q0 t0 ha ht (vp_in_nI hi hn) hd (fun H1 l1 hP1 hD1 hS1 => by
    rw [nI_clamp (by omega), hg, hw] at hP1 hD1
    exact kk H1 l1 ls hP1 hD1 hS1 h)
theorem g_zald (X : Cx K cc own ret nL rm) (q0 t0 : Nat) (ha : ws[q0]? = some (a, .inl (cA, n, .inl f))) (ht : (kT K)[t0]? = some (cA, .boolean)) (hi : i < n) (hn : n < 2 ^ 31) (hv : f i = v) (hd : decode cc pc = .ok (.baload, 1)) (kk : Go K cs sl ws L (pc + 1) (.int v :: st)) : Go K cs sl ws L pc (.int (nI i) :: .ref a :: st) :=
  fun H locs ls hP hD hS h => va_zald X.1 X.2.1 X.2.2.2.2.2.2.2.2.2.1 hP q0 t0 ha ht (vp_in_nI hi hn) hd (by rw [nI_clamp (by omega), hv]; exact kk H locs ls hP hD hS h)
theorem g_zast (X : Cx K cc own ret nL rm) (q0 t0 : Nat) (ha : ws[q0]? = some (a, .inl (cA, n, .inl f))) (ht : (kT K)[t0]? = some (cA, .boolean)) (hi : i < n) (hn : n < 2 ^ 31) (hx : vp_nar .boolean x = x) (hg : upd f i x = g) (hw : ws.set q0 (a, .inl (cA, n, .inl g)) = ws') (hd : decode cc pc = .ok (.bastore, 1)) (kk : Go K cs sl ws' L (pc + 1) st) : Go K cs sl ws L pc (.int x :: .int (nI i) :: .ref a :: st) :=
  fun H locs ls hP hD hS h => va_zast X.1 X.2.1 X.2.2.2.2.2.2.2.2.2.1 hP hD hS q0 t0 ha ht (vp_in_nI hi hn) hd (fun H1 l1 hP1 hD1 hS1 => by
    rw [nI_clamp (by omega), hx, hg, hw] at hP1 hD1
    exact kk H1 l1 ls hP1 hD1 hS1 h)
/-- a new array of ints or booleans -/
theorem g_newa (X : Cx K cc own ret nL rm) {atype : ArrayType} {ty : FieldType} (hty : newarray.typeOf atype = ty) (harr : Cond.arrayClass ty ∈ lw_all) (t0 : Nat) {d : ClassId} (ht : (kT K)[t0]? = some (d, ty)) (hra : va_RA (ks K) d ty → (ks K).vm.findClass ("[" ++ ty.toString) = some d) {N' : Nat} {z : Int32} {a0 : vp_A} (ha0 : ∀ cA : ClassId, vp_cell cA a0 = arrV cA N' (fun _ => defaultValue ty)) (hz : ¬ z < 0) (hzN : z.toNatClampNeg = N') (hby : N' * componentBytes ty ≤ 536870912) (hcs : cs + 1 ≤ rm.cells) (hsl : sl + N' ≤ rm.slots) (hd : decode cc pc = .ok (.newarray atype, 2)) (kk : ∀ q : Nat, Go K (cs + 1) (sl + N') (ws ++ [(q, .inl (d, a0))]) L (pc + 2) (.ref q :: st)) : Go K cs sl ws L pc (.int z :: st) :=
  fun H locs ls hP hD hS h => by
    subst hty
    have hR := X.2.2.2.2.2.2.2.2.2.2
    have hK := X.2.2.2.2.2.2.2.2.2.1
    refine va_newa X.1 X.2.1 (X.2.2.2.2.2.2.1 _ harr) rfl hK hP hD hS X.2.2.2.2.2.2.2.2.1 ha0 hz hzN hby (by rw [hR]; exact hcs) (by rw [hR]; exact hsl) hd (fun q cA H1 hK1 hP1 hD1 hS1 => ?_)
    have e1 : (ks K).vm.findClass ("[" ++ (newarray.typeOf atype).toString) = some d := hra (hK.2 t0 _ ht).2
    have e2 : (ks K).vm.findClass ("[" ++ (newarray.typeOf atype).toString) = some cA := by
      have e3 := (hK1.2 (kT K).length (cA, newarray.typeOf atype) (by simp)).2
      cases atype <;> exact e3
    have e4 : cA = d := Option.some.inj (e2.symm.trans e1)
    subst e4
    exact kk q H1 locs ls hP1 hD1 hS1 h
end GAR
end GO
/-- a method that answers an int or a boolean, over the world ws; behind it the world w' u, and 'post answer u' -/
def MI (l : Launch) (y : MethodName) (cc : ByteArray) (nL : Nat) (ty : FieldType) (fr lo : Nat) (D : va_G) (tys : List (ClassId × FieldType)) (av : List Value) (ws : va_W) {S : Type} (w' : S → va_W) (post : Int32 → S → Prop) : Prop :=
  ∀ sz : Nat, Met l y (ws_ y cc nL (some ty)) ({ frames := fr, cells := 0, slots := 0, locals := lo }) (va_Pc av (fun U => U.heap.size = sz ∧ va_P D vwCl ws U.heap ∧ va_K D vwCl tys U ∧ va_D (fun _ => True) ws)) (va_Qi post (fun u t => va_P D vwCl (w' u) t.heap ∧ va_K D vwCl tys t ∧ va_D (va_A ws sz) (w' u)) (va_A ws sz)) 0 0 (va_A ws sz)
/-- a void method that makes mc cells of ms places -/
def MV (l : Launch) (y : MethodName) (cc : ByteArray) (nL : Nat) (fr lo mc ms : Nat) (D : va_G) (tys : List (ClassId × FieldType)) (av : List Value) (ws : va_W) {S : Type} (w' : S → va_W) (post : S → Prop) : Prop :=
  ∀ sz : Nat, Met l y (ws_ y cc nL none) ({ frames := fr, cells := mc, slots := ms, locals := lo }) (va_Pc av (fun U => U.heap.size = sz ∧ va_P D vwCl ws U.heap ∧ va_K D vwCl tys U ∧ va_D (fun _ => True) ws)) (va_Qv post (fun u t => va_P D vwCl (w' u) t.heap ∧ va_K D vwCl tys t ∧ va_D (va_A ws sz) (w' u)) (va_A ws sz)) mc ms (va_A ws sz)
set_option maxHeartbeats 4000000 in
theorem MI_of {l : Launch} {y : MethodName} {cc : ByteArray} {nL : Nat} {ty : FieldType} {fr lo : Nat} {D : va_G} {tys : List (ClassId × FieldType)} {av : List Value} {ws : va_W} {S : Type} {w' : S → va_W} {post : Int32 → S → Prop} (hy : plainName y.cls = true) (hav : (lg_sl av).length ≤ nL)
    (H : ∀ K : KK, kl K = l → kD K = D → kT K = tys → Cx K cc y.cls (some ty) nL ({ frames := fr, cells := 0, slots := 0, locals := lo }) → (∀ (u : S) (r : Int32) (L : List (Nat × Value)) (pc : Nat), post r u → narrow ty (.int r) = .int r → decode cc pc = .ok (.ireturn, 1) → Go K 0 0 (w' u) L pc [.int r]) → Go K 0 0 ws (lv_args 0 av) 0 []) : MI l y cc nL ty fr lo D tys av ws w' post := by
  intro sz
  refine Met.ofW (cc := cc) (maxL := nL) (ret := some ty) hy rfl ?_
  intro p e s m args below meth c s₁ B hml hv
  obtain ⟨rfl, hsz, hP, hK, hD0⟩ := hv
  have hx := B.exec
  have hb := B.bytes
  have hr := B.returns
  have hts := atoms_spec (ws := ws_ y cc nL (some ty)) B.pre
  have hts : ∀ w ∈ lw_all, w.before _ s = true := fun w h => hts w (List.mem_cons_of_mem _ h)
  have hown : s.vm.findClass y.cls = some m.cls := findClass_of_methodNamed B.named
  have hlocks := B.notSynchronized
  subst hsz
  have hD := hD0.self (sz := s.heap.size)
  have hA : ∀ q : Nat, s.heap.size ≤ q → va_A ws s.heap.size q := fun q h => Or.inr h
  have hl := lv_entry av (n := nL) hav
  rw [lg_entry_eq]
  generalize (lg_sl av ++ List.replicate (nL - (lg_sl av).length) Slot.unset).toArray = ls at hl ⊢
  exact H ((p, l, e, (headSpec (ws_ y cc nL (some ty)) ({ frames := fr, cells := 0, slots := 0, locals := lo })).room), (s, m, av.toArray, below), (meth, c, nL), (MQ below (va_Qi post (fun u t => va_P D vwCl (w' u) t.heap ∧ va_K D vwCl tys t ∧ va_D (va_A ws s.heap.size) (w' u)) (va_A ws s.heap.size)) av.toArray s 0 0 (va_A ws s.heap.size)), va_A ws s.heap.size, D, tys) rfl rfl rfl
    ⟨hx, hb, hr, rfl, hml, hown, hts, hlocks, hA, hK, rfl⟩
    (fun u r L pc hpost hn hd H1 locs ls1 hP1 hD1 hS1 h1 => W.zret (v := r) hx hb hr hn (fun t ht hW => ⟨⟨r, u, rfl, hpost, by rw [ht]; exact hP1, va_K.moved hW.alike hK, hD1⟩, hS1.F ht⟩) hS1.2.2 hd hlocks)
    s.heap [] ls hP hD va_S.rf hl
set_option maxHeartbeats 4000000 in
theorem MV_of {l : Launch} {y : MethodName} {cc : ByteArray} {nL : Nat} {fr lo mc ms : Nat} {D : va_G} {tys : List (ClassId × FieldType)} {av : List Value} {ws : va_W} {S : Type} {w' : S → va_W} {post : S → Prop} (hy : plainName y.cls = true) (hav : (lg_sl av).length ≤ nL)
    (H : ∀ K : KK, kl K = l → kD K = D → kT K = tys → Cx K cc y.cls none nL ({ frames := fr, cells := mc, slots := ms, locals := lo }) → (kM K).name = y.name → (∀ (u : S) (L : List (Nat × Value)) (pc : Nat), post u → decode cc pc = .ok (.return_, 1) → Go K mc ms (w' u) L pc []) → Go K 0 0 ws (lv_args 0 av) 0 []) : MV l y cc nL fr lo mc ms D tys av ws w' post := by
  intro sz
  refine Met.ofW (cc := cc) (maxL := nL) (ret := none) hy rfl ?_
  intro p e s m args below meth c s₁ B hml hv
  obtain ⟨rfl, hsz, hP, hK, hD0⟩ := hv
  have hx := B.exec
  have hb := B.bytes
  have hr := B.returns
  have hts := atoms_spec (ws := ws_ y cc nL none) B.pre
  have hts : ∀ w ∈ lw_all, w.before _ s = true := fun w h => hts w (List.mem_cons_of_mem _ h)
  have hown : s.vm.findClass y.cls = some m.cls := findClass_of_methodNamed B.named
  have hlocks := B.notSynchronized
  have hin := (name_of_methodNamed B.named B.method).1
  subst hsz
  have hD := hD0.self (sz := s.heap.size)
  have hA : ∀ q : Nat, s.heap.size ≤ q → va_A ws s.heap.size q := fun q h => Or.inr h
  have hl := lv_entry av (n := nL) hav
  rw [lg_entry_eq]
  generalize (lg_sl av ++ List.replicate (nL - (lg_sl av).length) Slot.unset).toArray = ls at hl ⊢
  exact H ((p, l, e, (headSpec (ws_ y cc nL none) ({ frames := fr, cells := mc, slots := ms, locals := lo })).room), (s, m, av.toArray, below), (meth, c, nL), (MQ below (va_Qv post (fun u t => va_P D vwCl (w' u) t.heap ∧ va_K D vwCl tys t ∧ va_D (va_A ws s.heap.size) (w' u)) (va_A ws s.heap.size)) av.toArray s mc ms (va_A ws s.heap.size)), va_A ws s.heap.size, D, tys) rfl rfl rfl
    ⟨hx, hb, hr, rfl, hml, hown, hts, hlocks, hA, hK, rfl⟩ hin
    (fun u L pc hpost hd H1 locs ls1 hP1 hD1 hS1 h1 => W.vret hx hb hr (fun t ht hW => ⟨⟨u, rfl, hpost, by rw [ht]; exact hP1, va_K.moved hW.alike hK, hD1⟩, hS1.F ht⟩) hS1.2.2 hd hlocks)
    s.heap [] ls hP hD va_S.rf hl
section GCALL
variable {K : KK} {cc : ByteArray} {own : String} {ret : Option FieldType} {nL : Nat} {rm : Room} {cs sl pc : Nat} {ws : va_W} {L : List (Nat × Value)} {st stk : List Value}
variable {y : MethodName} {cc' : ByteArray} {nL' : Nat} {ty : FieldType} {fr' lo' : Nat} {tysC : List (ClassId × FieldType)} {wsC wr rst : va_W} {S : Type} {w' : S → va_W} {idx b n ci : Nat} {fs As : List Value} {q : vw_C}
set_option maxHeartbeats 4000000 in
/-- a call through an object that answers an int -/
theorem g_callV {post : Int32 → S → Prop} (X : Cx K cc own ret nL rm) (M : MI (kl K) y cc' nL' ty fr' lo' (kD K) tysC (.ref b :: As) wsC w' post) (hG : GoodIn lw_all (wsV own idx q.1 y (ws_ y cc' nL' (some ty)))) (n : Nat)
    (hds : y.cls = q.1 ∧ y.cls ≠ "java/lang/invoke/MethodHandle" ∧ y.cls ≠ "java/lang/invoke/VarHandle" ∧ (parseMethodDescriptor y.desc).map (fun d => d.parameters.length) = some n) (hR : fr' + 1 ≤ rm.frames ∧ 8 + (nL' + 11) + lo' ≤ rm.locals) (hcs : cs ≤ rm.cells ∧ sl ≤ rm.slots) (hn : As.length = n)
    (hrc : wsC[0]? = some (b, .inr (ci, fs))) (hci : vwCl[ci]? = some q) (isC isR isT : List Nat) (hC : isC.map (fun i => ws[i]?) = wsC.map some) (hC2 : isC.filterMap (fun i => ws[i]?) = wsC) (hRr : isR.map (fun i => ws[i]?) = wr.map some) (hndC : va_nd isC = true) (hnd : va_nd isR = true) (hdis : ∀ i ∈ isR, i ∉ isC) (hT : isT.filterMap (fun i => (kT K)[i]?) = tysC)
    (hst : stk = As.reverse ++ .ref b :: st) (hcat : (st.map fun v => v.category).sum ≤ 8) (hd : decode cc pc = .ok (.invokevirtual idx, 3)) (kk : ∀ (r : Int32) (u : S), post r u → Go K cs sl (wr ++ w' u) L (pc + 3) (.int r :: st)) : Go K cs sl ws L pc stk := by
  subst hst
  intro H locs ls hP hD hS h
  obtain ⟨hx, hb, hr, hN, hml, hown, hts, hlk, hA, hK, hRm⟩ := X
  have hPc := hP.sub (ws' := wsC) isC hC2
  have hDc := hD.sub (ws' := wsC) isC hndC hC
  have hKc := hK.sub (tys' := tysC) isT hT
  have hFc := va_free (wc := wsC) hD hS hA isC hC
  refine va_calli (va_runV (As := As) (rest := st) ⟨hx, hb, hml, hown, hts⟩ (M H.size) (cwV n hts hG rfl rfl rfl hds (by rw [hRm]; exact hR)) ⟨fun a U g mk qq => by obtain ⟨q0, q1, qP, qK, qD⟩ := qq; exact ⟨q0, q1, qP, va_K.moved (u := U) (U := U.calling g mk a) (Vm.Alike.refl U.vm) qK, qD⟩, va_recv hKc hPc hci hrc, fun U hU hW => ⟨rfl, by rw [hU], by rw [hU]; exact hPc, va_K.moved hW.alike hKc, hDc.weaken (fun _ _ _ _ => trivial)⟩⟩ rfl hn (h.1.trans hN) rfl (lv_room hcat) hd (by rw [hRm]; exact hcs)) hS (fun q _ h => hFc q h) hFc (fun r u t H1 locs1 ht hvm hpost hB hz1 hk1 hS1 => ?_)
  obtain ⟨hP1, hK1, hD1⟩ := hB
  rw [ht] at hP1
  obtain ⟨hP2, hD2⟩ := va_join (wr := wr) hP hD isC isR hC hRr hnd hdis hk1 hFc hP1 hD1
  exact kk r u hpost H1 locs1 ls hP2 hD2 hS1 h
set_option maxHeartbeats 4000000 in
theorem g_callVv {post : S → Prop} (X : Cx K cc own ret nL rm) (M : MV (kl K) y cc' nL' fr' lo' 0 0 (kD K) tysC (.ref b :: As) wsC w' post) (hG : GoodIn lw_all (wsV own idx q.1 y (ws_ y cc' nL' none))) (n : Nat)
    (hds : y.cls = q.1 ∧ y.cls ≠ "java/lang/invoke/MethodHandle" ∧ y.cls ≠ "java/lang/invoke/VarHandle" ∧ (parseMethodDescriptor y.desc).map (fun d => d.parameters.length) = some n) (hR : fr' + 1 ≤ rm.frames ∧ 8 + (nL' + 11) + lo' ≤ rm.locals) (hcs : cs ≤ rm.cells ∧ sl ≤ rm.slots) (hn : As.length = n)
    (hrc : wsC[0]? = some (b, .inr (ci, fs))) (hci : vwCl[ci]? = some q) (isC isR isT : List Nat) (hC : isC.map (fun i => ws[i]?) = wsC.map some) (hC2 : isC.filterMap (fun i => ws[i]?) = wsC) (hRr : isR.map (fun i => ws[i]?) = wr.map some) (hndC : va_nd isC = true) (hnd : va_nd isR = true) (hdis : ∀ i ∈ isR, i ∉ isC) (hT : isT.filterMap (fun i => (kT K)[i]?) = tysC)
    (hst : stk = As.reverse ++ .ref b :: st) (hcat : (st.map fun v => v.category).sum ≤ 8) (hd : decode cc pc = .ok (.invokevirtual idx, 3)) (kk : ∀ (u : S), post u → Go K cs sl (wr ++ w' u) L (pc + 3) st) : Go K cs sl ws L pc stk := by
  subst hst
  intro H locs ls hP hD hS h
  obtain ⟨hx, hb, hr, hN, hml, hown, hts, hlk, hA, hK, hRm⟩ := X
  have hPc := hP.sub (ws' := wsC) isC hC2
  have hDc := hD.sub (ws' := wsC) isC hndC hC
  have hKc := hK.sub (tys' := tysC) isT hT
  have hFc := va_free (wc := wsC) hD hS hA isC hC
  refine va_callv (va_runV (As := As) (rest := st) ⟨hx, hb, hml, hown, hts⟩ (M H.size) (cwV n hts hG rfl rfl rfl hds (by rw [hRm]; exact hR)) ⟨fun a U g mk qq => by obtain ⟨q0, q1, qP, qK, qD⟩ := qq; exact ⟨q0, q1, qP, va_K.moved (u := U) (U := U.calling g mk a) (Vm.Alike.refl U.vm) qK, qD⟩, va_recv hKc hPc hci hrc, fun U hU hW => ⟨rfl, by rw [hU], by rw [hU]; exact hPc, va_K.moved hW.alike hKc, hDc.weaken (fun _ _ _ _ => trivial)⟩⟩ rfl hn (h.1.trans hN) rfl (lv_room hcat) hd (by rw [hRm]; exact hcs)) hS (fun q _ h => hFc q h) hFc (fun u t H1 locs1 ht hvm hpost hB hz1 hk1 hS1 => ?_)
  obtain ⟨hP1, hK1, hD1⟩ := hB
  rw [ht] at hP1
  obtain ⟨hP2, hD2⟩ := va_join (wr := wr) hP hD isC isR hC hRr hnd hdis hk1 hFc hP1 hD1
  exact kk u hpost H1 locs1 ls hP2 hD2 hS1 h
set_option maxHeartbeats 4000000 in
/-- a static call that answers an int, over no world -/
theorem g_callS {post : Int32 → Unit → Prop} (X : Cx K cc own ret nL rm) (M : MI (kl K) y cc' nL' ty fr' lo' (kD K) [] As [] (fun _ => []) post) (hG : GoodIn lw_all (va_wsS own idx y (ws_ y cc' nL' (some ty)))) (n : Nat)
    (hds : y.cls ≠ "java/lang/invoke/MethodHandle" ∧ y.cls ≠ "java/lang/invoke/VarHandle" ∧ (parseMethodDescriptor y.desc).map (fun d => d.parameters.length) = some n) (hR : fr' + 1 ≤ rm.frames ∧ 8 + (nL' + 11) + lo' ≤ rm.locals) (hcs : cs ≤ rm.cells ∧ sl ≤ rm.slots) (hn : As.length = n)
    (hst : stk = As.reverse ++ st) (hcat : (st.map fun v => v.category).sum ≤ 8) (hd : decode cc pc = .ok (.invokestatic idx, 3)) (kk : ∀ (r : Int32), post r () → Go K cs sl ws L (pc + 3) (.int r :: st)) : Go K cs sl ws L pc stk := by
  subst hst
  intro H locs ls hP hD hS h
  obtain ⟨hx, hb, hr, hN, hml, hown, hts, hlk, hA, hK, hRm⟩ := X
  have hKc := hK.sub (tys' := []) [] rfl
  have hFc : ∀ q, va_A [] H.size q → kA K q := fun q hq => by
    rcases hq with ⟨k, e, hk⟩ | hq
    · cases hk
    · exact hA q (Nat.le_trans hS.1 hq)
  have hP0 : ∀ U : Heap, va_P (kD K) vwCl [] U := fun U k q hk => by cases hk
  have hD0 : ∀ A : Nat → Prop, va_D A [] := fun A => ⟨fun i j p q hp => (by cases hp), fun k q hk => (by cases hk)⟩
  refine va_calli (va_runS (As := As) (rest := st) ⟨hx, hb, hml, hown, hts⟩ (M H.size) (va_cwS n hts hG rfl rfl rfl hds (by rw [hRm]; exact hR)) ⟨fun a U g mk qq => by obtain ⟨q0, q1, qP, qK, qD⟩ := qq; exact ⟨q0, q1, qP, va_K.moved (u := U) (U := U.calling g mk a) (Vm.Alike.refl U.vm) qK, qD⟩, fun U hU hW => ⟨rfl, by rw [hU], hP0 _, va_K.moved hW.alike hKc, hD0 _⟩⟩ rfl hn (h.1.trans hN) rfl (lv_room hcat) hd (by rw [hRm]; exact hcs)) hS (fun q _ h => hFc q h) hFc (fun r u t H1 locs1 ht hvm hpost hB hz1 hk1 hS1 => ?_)
  have hkeep : ∀ (k : Nat) (x : Nat × va_E), ws[k]? = some x → H1[x.1]? = H[x.1]? := fun k x hx => by
    have hlt := (hP k x hx).lt
    refine hk1 x.1 hlt (fun hq => ?_)
    rcases hq with ⟨k, e, hk⟩ | hq
    · cases hk
    · omega
  exact kk r hpost H1 locs1 ls (hP.kept hkeep) hD hS1 h
set_option maxHeartbeats 4000000 in
/-- a constructor's call -/
theorem g_callI {mc ms : Nat} {post : S → Prop} (X : Cx K cc own ret nL rm) (M : MV (kl K) y cc' nL' fr' lo' mc ms (kD K) tysC (.ref b :: As) wsC w' post) (hG : GoodIn lw_all (ws_ y cc' nL' none)) (hini : Cond.initialized y.cls ∈ lw_all) (hlk1 : Cond.methodLink own idx y ∈ lw_all) (hinm : Cond.instanceMethod y ∈ lw_all) (hy1 : y.name = "<init>") (n : Nat)
    (hds : y.cls ≠ "java/lang/invoke/MethodHandle" ∧ y.cls ≠ "java/lang/invoke/VarHandle" ∧ (parseMethodDescriptor y.desc).map (fun d => d.parameters.length) = some n) (hR : fr' + 1 ≤ rm.frames ∧ 8 + (nL' + 11) + lo' ≤ rm.locals) (hcs : cs + mc ≤ rm.cells ∧ sl + ms ≤ rm.slots) (hn : As.length = n)
    (isC isR isT : List Nat) (hC : isC.map (fun i => ws[i]?) = wsC.map some) (hC2 : isC.filterMap (fun i => ws[i]?) = wsC) (hRr : isR.map (fun i => ws[i]?) = wr.map some) (hndC : va_nd isC = true) (hnd : va_nd isR = true) (hdis : ∀ i ∈ isR, i ∉ isC) (hT : isT.filterMap (fun i => (kT K)[i]?) = tysC)
    (hst : stk = As.reverse ++ .ref b :: st) (hcat : (st.map fun v => v.category).sum ≤ 8) (hd : decode cc pc = .ok (.invokespecial idx, 3)) (kk : ∀ (u : S), post u → Go K (cs + mc) (sl + ms) (wr ++ w' u) L (pc + 3) st) : Go K cs sl ws L pc stk := by
  subst hst
  intro H locs ls hP hD hS h
  obtain ⟨hx, hb, hr, hN, hml, hown, hts, hlk, hA, hK, hRm⟩ := X
  have hPc := hP.sub (ws' := wsC) isC hC2
  have hDc := hD.sub (ws' := wsC) isC hndC hC
  have hKc := hK.sub (tys' := tysC) isT hT
  have hFc := va_free (wc := wsC) hD hS hA isC hC
  refine va_callv (va_runI (As := As) (rest := st) ⟨hx, hb, hml, hown, hts⟩ (M H.size) (cwI n hts hG rfl rfl rfl (hts _ hini) (hts _ hlk1) (hts _ hinm) hy1 hds (by rw [hRm]; exact hR)) ⟨fun a U g mk qq => by obtain ⟨q0, q1, qP, qK, qD⟩ := qq; exact ⟨q0, q1, qP, va_K.moved (u := U) (U := U.calling g mk a) (Vm.Alike.refl U.vm) qK, qD⟩, fun U hU hW => ⟨rfl, by rw [hU], by rw [hU]; exact hPc, va_K.moved hW.alike hKc, hDc.weaken (fun _ _ _ _ => trivial)⟩⟩ rfl hn (h.1.trans hN) rfl (lv_room hcat) hd (by rw [hRm]; exact hcs)) hS (fun q _ h => hFc q h) hFc (fun u t H1 locs1 ht hvm hpost hB hz1 hk1 hS1 => ?_)
  obtain ⟨hP1, hK1, hD1⟩ := hB
  rw [ht] at hP1
  obtain ⟨hP2, hD2⟩ := va_join (wr := wr) hP hD isC isR hC hRr hnd hdis hk1 hFc hP1 hD1
  exact kk u hpost H1 locs1 ls hP2 hD2 hS1 h
end GCALL
end
section
/-! WORLDS: the component's object with its ten arrays, the reference's with its five -/
def wX (d : ClassId) (h : Nat) (ad : Nat → Nat) (on : Nat) (w e : Nat → Nat) (cl : Nat) (hi : Nat → Nat) (ct : Nat) (wi ro ri fl : Nat → Nat) (co ci : Nat → Option Nat) (q : Nat → Nat) : va_W :=
  [(h, .inr (0, [.int (nI on), .ref (ad 1), .ref (ad 2), .int (nI cl), .ref (ad 4), .int (nI ct), .ref (ad 6), .ref (ad 7), .ref (ad 8), .ref (ad 9), .ref (ad 10), .ref (ad 11), .ref (ad 12)])),
   (ad 1, .inl (d, 10, .inl (nF w))), (ad 2, .inl (d, 10, .inl (nF e))), (ad 4, .inl (d, 10, .inl (nF hi))), (ad 6, .inl (d, 1024, .inl (nF wi))), (ad 7, .inl (d, 10, .inl (nF ro))), (ad 8, .inl (d, 10, .inl (nF ri))), (ad 9, .inl (d, 100, .inl (nF fl))), (ad 10, .inl (d, 10, .inl (oF co))), (ad 11, .inl (d, 10, .inl (oF ci))), (ad 12, .inl (d, 20, .inl (nF q)))]
def wM (d dz : ClassId) (h : Nat) (ad : Nat → Nat) (e up w : Nat → Nat) (on : Nat) (sg nd : Nat → Nat) : va_W :=
  [(h, .inr (1, [.ref (ad 0), .ref (ad 1), .ref (ad 2), .int (nI on), .ref (ad 4), .ref (ad 5)])),
   (ad 0, .inl (d, 10, .inl (nF e))), (ad 1, .inl (d, 10, .inl (nF up))), (ad 2, .inl (d, 10, .inl (nF w))), (ad 4, .inl (dz, 1024, .inl (nF sg))), (ad 5, .inl (d, 1024, .inl (nF nd)))]
theorem pn_inc (n : Nat) : nI n + Int32.ofInt 1 = nI (n + 1) := nI_1 n
theorem pn_inc4 (n : Nat) : nI n + Int32.ofInt 4 = nI (n + 4) := nI_add n 4
/-- a counter that goes down to -1 -/
def dI (j : Nat) : Int32 := nI j + Int32.ofInt (-1)
theorem pn_di (v : Nat) : dI (v + 1) = nI v := pn_dec v
theorem pn_di0 {j : Nat} (h : j < 2 ^ 31) : dI j < 0 ↔ j = 0 := by
  cases j with
  | zero => exact ⟨fun _ => rfl, fun _ => by decide⟩
  | succ v =>
    rw [pn_di, pn_lt0 (by omega)]
    exact ⟨fun h => h.elim, fun h => by omega⟩
theorem pn_nz (b : Bool) : narrow .boolean (.int (nI b.toNat)) = .int (nI b.toNat) := by cases b <;> rfl
theorem pn_vz (b : Bool) : vp_nar .boolean (nI b.toNat) = nI b.toNat := by cases b <;> rfl
theorem pn_nle (x y : Int32) : x < y ↔ ¬ y ≤ x := Int32.not_le.symm
theorem pn_le9 (x : Int32) : x ≤ 9 ↔ ¬ 10 ≤ x := by
  rw [Int32.le_iff_toInt_le, Int32.le_iff_toInt_le, show (9 : Int32).toInt = 9 from by decide, show (10 : Int32).toInt = 10 from by decide]
  omega
theorem pd_st2 {α : Type} (f : Nat → α) (k : Nat) (x y : α) : pd_st (pd_st f k x) k y = pd_st f k y := by
  funext j
  unfold pd_st
  split <;> rfl
theorem pd_eg_in {a b : Int32} (h1 : ¬ a < 0) (h2 : ¬ b ≤ a) (h3 : ¬ 10 ≤ b) : ∃ i j, i < j ∧ j < 10 ∧ a = nI i ∧ b = nI j := by
  rcases pk_ix b (n := 10) (by decide) with q | q | ⟨j, hj, rfl⟩
  · exfalso
    have e1 := Int32.lt_iff_toInt_lt.mp q
    have e2 : ¬ a.toInt < (0 : Int32).toInt := fun z => h1 (Int32.lt_iff_toInt_lt.mpr z)
    have e3 : ¬ b.toInt ≤ a.toInt := fun z => h2 (Int32.le_iff_toInt_le.mpr z)
    omega
  · exact absurd q h3
  · rcases pk_ix a (n := 10) (by decide) with q | q | ⟨i, hi, rfl⟩
    · exact absurd q h1
    · exfalso
      apply h2
      rw [Int32.le_iff_toInt_le] at q ⊢
      have e1 : (nI j).toInt = j := nI_toInt (by omega)
      have e2 : (nI 10).toInt = ((10 : Nat) : Int) := nI_toInt (by omega)
      omega
    · refine ⟨i, j, ?_, hj, rfl, rfl⟩
      rcases Nat.lt_or_ge i j with z | z
      · exact z
      · exact absurd (nI_le z (by omega)) h2
/-- what the component's cells hold between two calls -/
def XI (on : Nat) (w e : Nat → Nat) (cl : Nat) (hi : Nat → Nat) (ct : Nat) (wi : Nat → Nat) : Prop :=
  on < 1024 ∧ (∀ v, v < 10 → w v ≤ 9) ∧ pd_Ed e ∧ (cl = 0 ∨ (cl = 1 ∧ ∀ v, v < 10 → hi v = pd_up e v)) ∧ (ct = 0 ∨ (ct = 1 ∧ ∀ s, s < 1024 → wi s = pd_cn (pd_up e) s))
end
section
/-! HELP: pure rows that the walks ask for -/
theorem pd_bc_eq (s : Nat) : pd_sm (fun v => (s >>> v) &&& 1) 10 = pd_bc s := by
  unfold pd_bc pd_ws
  refine pd_sm_congr fun v _ => ?_
  show (s >>> v) &&& 1 = (if s.testBit v = true then 1 else 0)
  rw [pd_bit]
  cases s.testBit v <;> rfl
theorem pd_rk_congr {U U' : Nat → Nat} (h : ∀ x, x < 10 → U x = U' x) {v : Nat} (hv : v < 10) : ∀ n : Nat, n ≤ 10 → pd_rk U v n = pd_rk U' v n
  | 0, _ => h v hv
  | n + 1, hn => by
    show (if (U n).testBit v = true then pd_rk U v n ||| 2 ^ n else pd_rk U v n) = (if (U' n).testBit v = true then pd_rk U' v n ||| 2 ^ n else pd_rk U' v n)
    rw [pd_rk_congr h hv n (by omega), h n (by omega)]
theorem pd_rk_s {U : Nat → Nat} {v u : Nat} (h : (U u).testBit v = true) : pd_rk U v (u + 1) = pd_rk U v u ||| 2 ^ u := if_pos h
theorem pd_rk_n {U : Nat → Nat} {v u : Nat} (h : ¬ (U u).testBit v = true) : pd_rk U v (u + 1) = pd_rk U v u := if_neg h
theorem pd_close_step {e hi : Nat → Nat} {v w : Nat} (hu : ∀ u, v + 1 ≤ u → u < 10 → hi u = pd_up e u) (hv : v < 10) (hw : w = 10) : ∀ u, v ≤ u → u < 10 → pd_st hi v (pd_ac e hi v w) u = pd_up e u := by
  intro u h1 h2
  by_cases z : u = v
  · rw [z, pd_st_s, hw, pd_up_eq hv]
    exact pd_ac_congr (Nat.le_refl _) fun x hx hx10 => hu x hx hx10
  · rw [pd_st_n z]; exact hu u (by omega) h2
theorem pd_none {α : Type} {o : Option α} (h : ¬ o.isSome = true) : o = none := by
  cases o with
  | none => rfl
  | some k => exact absurd rfl h
theorem pd_BI_co {T : Nat → Nat} {S : Nat} {ro f : Nat → Nat} {CO CI : Nat → Option Nat} {Q rk : Nat → Nat} {e i v k : Nat} (h : pd_BI T S ro f CO CI Q rk e i) (hv : v < 10) (hk : CO v = some k) : k < 20 := by
  rcases h.2.2.2.1 v hv k hk with z | ⟨x, z1, z2, -⟩ <;> omega
theorem pd_FI_9 {T : Nat → Nat} {S : Nat} {c ro ri f : Nat → Nat} (h : pd_FI T S c ro ri f) (hc : ∀ v, v < 10 → c v ≤ 9) : ∀ k, k < 100 → f k ≤ 9 := by
  intro k hk
  have h1 := pd_FI_le h (u := k / 10) (w := k % 10) (by omega) (by omega)
  have h2 := hc (k / 10) (by omega)
  rw [show k / 10 * 10 + k % 10 = k by omega] at h1
  omega
theorem pd_zst {f : Nat → Nat} {i : Nat} (h : ∀ k, k < i → f k = 0) : ∀ k, k < i + 1 → pd_st f i 0 k = 0 := by
  intro k hk
  by_cases z : k = i
  · rw [z]; exact pd_st_s
  · rw [pd_st_n z]; exact h k (by omega)
theorem pd_cst {f c : Nat → Nat} {i x : Nat} (h : ∀ k, k < i → f k = c k) (hx : c i = x) : ∀ k, k < i + 1 → pd_st f i x k = c k := by
  intro k hk
  by_cases z : k = i
  · rw [z, pd_st_s, hx]
  · rw [pd_st_n z]; exact h k (by omega)
theorem pd_cp_y {w : Nat → Nat} {S v : Nat} (h : S.testBit v = true) : pd_cp w S v = w v := if_pos h
theorem pd_cp_n {w : Nat → Nat} {S v : Nat} (h : ¬ S.testBit v = true) : pd_cp w S v = 0 := if_neg h
/-- nothing is sent yet -/
theorem pd_FI_0 {T : Nat → Nat} {S : Nat} {c ro ri f : Nat → Nat} (hf : ∀ k, k < 100 → f k = 0) (hro : ∀ u, u < 10 → ro u = c u) (hri : ∀ u, u < 10 → ri u = c u) : pd_FI T S c ro ri f ∧ pd_tt f = 0 := by
  refine ⟨⟨fun u hu w hw h => ?_, fun u hu => ?_, fun w hw => ?_⟩, ?_⟩
  · rw [hf _ (by omega)] at h; exact absurd h (by omega)
  · rw [pd_sm_zero (fun w hw => hf _ (by omega)), hro u hu]; rfl
  · rw [pd_sm_zero (fun u hu => hf _ (by omega)), hri w hw]; rfl
  · exact pd_sm_zero (fun u hu => pd_sm_zero (fun w hw => hf _ (by omega)))
def pd_T (dr : Bool) (e : Nat → Nat) : Nat → Nat := fun v => if dr = true then e v else pd_up e v
def pd_W (wt : Bool) (w : Nat → Nat) : Nat → Nat := fun v => if wt = true then w v else 1
theorem pd_T_f (e : Nat → Nat) : pd_T false e = pd_up e := rfl
theorem pd_T_t (e : Nat → Nat) : pd_T true e = e := rfl
theorem pd_W_f (w : Nat → Nat) : pd_W false w = fun _ => 1 := rfl
theorem pd_W_t (w : Nat → Nat) : pd_W true w = w := rfl
theorem pd_T_lt {dr : Bool} {e : Nat → Nat} (hE : pd_Ed e) : ∀ v, v < 10 → pd_T dr e v < 1024 := fun v hv => by
  unfold pd_T
  split
  · exact pd_Ed_lt hE hv
  · exact pd_up_lt hE hv
theorem pd_W_le {wt : Bool} {w : Nat → Nat} (hw : ∀ v, v < 10 → w v ≤ 9) : ∀ v, v < 10 → pd_W wt w v ≤ 9 := fun v hv => by
  unfold pd_W
  have := hw v hv
  split <;> omega
theorem pd_cp_9 {w : Nat → Nat} {S : Nat} (hw : ∀ v, v < 10 → w v ≤ 9) : ∀ v, v < 10 → pd_cp w S v ≤ 9 := fun v hv => by
  unfold pd_cp
  have := hw v hv
  split <;> omega
theorem pd_cp_s9 {w : Nat → Nat} {S : Nat} (hw : ∀ v, v < 10 → w v ≤ 9) : pd_sm (pd_cp w S) 10 ≤ 90 := pd_ws_bd hw S
end
section
/-! WALK 30: PathCoverDag, the leaves -/

set_option maxHeartbeats 4000000 in
set_option maxRecDepth 100000 in
/-- bad(v) -/
theorem mX_bad (l : Launch) (D : va_G) (v : Int32) : MI l yX0_bad cX0_bad 1 .boolean 0 0 D [] [.int v] [] (fun _ : Unit => []) (fun r _ => r = nI (decide (v < 0 ∨ 10 ≤ v)).toNat) := by
  refine MI_of (by decide) (Nat.le_of_ble_eq_true rfl) ?_
  intro K hl hD hT X R
  subst hl; subst hD
  have X : Cx K cX0_bad RX0 (some .boolean) 1 ({ frames := 0, cells := 0, slots := 0, locals := 0 }) := X
  show Go K 0 0 [] [(0, .int v)] 0 []
  refine g_iload_n X dX0_bad_0 0 rfl rfl ?_
  refine g_if_lt (P := v < 0) X 10 dX0_bad_1 (by decide) Iff.rfl (fun c1 => ?_) (fun c1 => ?_)
  · refine g_iconst (v := (nI 1)) X dX0_bad_10 (by decide) ?_
    refine g_goto X 15 dX0_bad_11 (by decide) ?_
    exact R () (nI 1) _ _ (by rw [decide_eq_true (Or.inl c1)]; rfl) rfl dX0_bad_15
  · refine g_iload_n X dX0_bad_4 0 rfl rfl ?_
    refine g_bipush (v := 10) X dX0_bad_5 (by decide) ?_
    refine g_icmp_lt (P := ¬ 10 ≤ v) X 14 dX0_bad_7 (by decide) (pn_nle _ _) (fun c7 => ?_) (fun c7 => ?_)
    · refine g_iconst (v := (nI 0)) X dX0_bad_14 (by decide) ?_
      exact R () (nI 0) _ _ (by rw [decide_eq_false (fun z => z.elim c1 c7)]; rfl) rfl dX0_bad_15
    · refine g_iconst (v := (nI 1)) X dX0_bad_10 (by decide) ?_
      refine g_goto X 15 dX0_bad_11 (by decide) ?_
      exact R () (nI 1) _ _ (by rw [decide_eq_true (Or.inr (Decidable.not_not.mp c7))]; rfl) rfl dX0_bad_15

set_option maxHeartbeats 4000000 in
set_option maxRecDepth 100000 in
/-- bits(s) -/
theorem mX_bits (l : Launch) (D : va_G) (s : Nat) (hs : s < 1024) : MI l yX0_bits cX0_bits 3 .int 0 0 D [] [.int (nI s)] [] (fun _ : Unit => []) (fun r _ => r = nI (pd_bc s)) := by
  refine MI_of (by decide) (Nat.le_of_ble_eq_true rfl) ?_
  intro K hl hD hT X R
  subst hl; subst hD
  have X : Cx K cX0_bits RX0 (some .int) 3 ({ frames := 0, cells := 0, slots := 0, locals := 0 }) := X
  show Go K 0 0 [] [(0, .int (nI s))] 0 []
  refine g_iconst (v := (nI 0)) X dX0_bits_0 (by decide) ?_
  refine g_istore_n (L' := [(1, .int (nI 0)), (0, .int (nI s))]) X dX0_bits_1 rfl (by decide) rfl ?_
  refine g_iconst (v := (nI 0)) X dX0_bits_2 (by decide) ?_
  refine g_istore_n (L' := [(2, .int (nI 0)), (1, .int (nI 0)), (0, .int (nI s))]) X dX0_bits_3 rfl (by decide) rfl ?_
  have lp4 : ∀ (n : Nat) (v : Nat), (v ≤ 10) → 10 - v < n → Go K 0 0 [] [(0, .int (nI s)), (1, .int (nI (pd_sm (fun v => (s >>> v) &&& 1) v))), (2, .int (nI v))] 4 [] := by
    intro n
    induction n with
    | zero => intro v hv hm; exact absurd hm (Nat.not_lt_zero _)
    | succ n ih4 =>
      intro v hv hm
      refine g_iload_n X dX0_bits_4 2 rfl rfl ?_
      refine g_bipush (v := (nI 10)) X dX0_bits_5 (by decide) ?_
      refine g_icmp_ge (P := 10 ≤ v) X 24 dX0_bits_7 (by decide) (nI_leI (by omega) (by omega)) (fun c7 => ?_) (fun c7 => ?_)
      · refine g_iload_n X dX0_bits_24 1 rfl rfl ?_
        exact R () (nI (pd_sm (fun v => (s >>> v) &&& 1) v)) _ _ (by rw [show v = 10 by omega, pd_bc_eq]) rfl dX0_bits_25
      · refine g_iload_n X dX0_bits_10 1 rfl rfl ?_
        refine g_iload_n X dX0_bits_11 0 rfl rfl ?_
        refine g_iload_n X dX0_bits_12 2 rfl rfl ?_
        refine g_ishr (v := (nI (s >>> v))) X dX0_bits_13 (pn_shr (by omega) (by omega)) ?_
        refine g_iconst (v := (nI 1)) X dX0_bits_14 (by decide) ?_
        refine g_iand (v := (nI ((s >>> v) &&& 1))) X dX0_bits_15 (pn_and _ _) ?_
        refine g_iadd (v := (nI ((pd_sm (fun v => (s >>> v) &&& 1) v) + ((s >>> v) &&& 1)))) X dX0_bits_16 (nI_add _ _) ?_
        refine g_istore_n (L' := [(1, .int (nI ((pd_sm (fun v => (s >>> v) &&& 1) v) + ((s >>> v) &&& 1)))), (0, .int (nI s)), (2, .int (nI v))]) X dX0_bits_17 rfl (by decide) rfl ?_
        refine g_iinc (v := (nI (v + 1))) (L' := [(2, .int (nI (v + 1))), (1, .int (nI ((pd_sm (fun v => (s >>> v) &&& 1) v) + ((s >>> v) &&& 1)))), (0, .int (nI s))]) X dX0_bits_18 2 rfl (pn_inc _) (by decide) rfl ?_
        refine g_goto X 4 dX0_bits_21 (by decide) ?_
        refine g_loc (L' := [(0, .int (nI s)), (1, .int (nI ((pd_sm (fun v => (s >>> v) &&& 1) v) + ((s >>> v) &&& 1)))), (2, .int (nI (v + 1)))]) [2, 1, 0] rfl ?_
        exact ih4 (v + 1) (by omega) (by omega)
  refine g_loc (L' := [(0, .int (nI s)), (1, .int (nI 0)), (2, .int (nI 0))]) [2, 1, 0] rfl ?_
  exact lp4 _ 0 (by omega) (Nat.lt_succ_self _)

set_option maxHeartbeats 4000000 in
set_option maxRecDepth 100000 in
/-- targets(v, direct) -/
theorem mX_targets (l : Launch) (D : va_G) (d : ClassId) (h : Nat) (ad : Nat → Nat) (on : Nat) (w e : Nat → Nat) (cl : Nat) (hi : Nat → Nat) (ct : Nat) (wi ro ri fl : Nat → Nat) (co ci : Nat → Option Nat) (q : Nat → Nat) (v : Nat) (hv : v < 10) (dr : Bool) : MI l yX0_targets cX0_targets 3 .int 0 0 D [(d, .int)] [.ref h, .int (nI v), .int (nI dr.toNat)] (wX d h ad on w e cl hi ct wi ro ri fl co ci q) (fun _ : Unit => (wX d h ad on w e cl hi ct wi ro ri fl co ci q)) (fun r _ => r = nI (if dr = true then e v else hi v)) := by
  refine MI_of (by decide) (Nat.le_of_ble_eq_true rfl) ?_
  intro K hl hD hT X R
  subst hl; subst hD
  have X : Cx K cX0_targets RX0 (some .int) 3 ({ frames := 0, cells := 0, slots := 0, locals := 0 }) := X
  have t0 : (kT K)[0]? = some (d, .int) := by rw [hT]; rfl
  show Go K 0 0 (wX d h ad on w e cl hi ct wi ro ri fl co ci q) [(0, .ref h), (1, .int (nI v)), (2, .int (nI dr.toNat))] 0 []
  refine g_iload_n X dX0_targets_0 2 rfl rfl ?_
  refine g_if_eq (P := ¬ dr = true) X 13 dX0_targets_1 (by decide) (pn_bz _) (fun c1 => ?_) (fun c1 => ?_)
  · refine g_aload_n X dX0_targets_13 0 rfl rfl ?_
    refine g_get X in_X0 0 rfl rfl 4 (by decide) q34 rfl dX0_targets_14 ?_
    refine g_iload_n X dX0_targets_17 1 rfl rfl ?_
    refine g_iald (v := (nI (hi v))) X 3 0 rfl t0 (by omega) (by decide) rfl dX0_targets_18 ?_
    exact R () (nI (hi v)) _ _ (by rw [if_neg c1]) rfl dX0_targets_19
  · refine g_aload_n X dX0_targets_4 0 rfl rfl ?_
    refine g_get X in_X0 0 rfl rfl 2 (by decide) q32 rfl dX0_targets_5 ?_
    refine g_iload_n X dX0_targets_8 1 rfl rfl ?_
    refine g_iald (v := (nI (e v))) X 2 0 rfl t0 (by omega) (by decide) rfl dX0_targets_9 ?_
    refine g_goto X 19 dX0_targets_10 (by decide) ?_
    exact R () (nI (e v)) _ _ (by rw [if_pos (Decidable.not_not.mp c1)]) rfl dX0_targets_19

set_option maxHeartbeats 4000000 in
set_option maxRecDepth 100000 in
/-- related(v) -/
theorem mX_related (l : Launch) (D : va_G) (d : ClassId) (h : Nat) (ad : Nat → Nat) (on : Nat) (w e : Nat → Nat) (cl : Nat) (hi : Nat → Nat) (ct : Nat) (wi ro ri fl : Nat → Nat) (co ci : Nat → Option Nat) (q : Nat → Nat) (hE : pd_Ed e) (hh : ∀ v, v < 10 → hi v = pd_up e v) (v : Nat) (hv : v < 10) : MI l yX0_related cX0_related 4 .int 0 0 D [(d, .int)] [.ref h, .int (nI v)] (wX d h ad on w e cl hi ct wi ro ri fl co ci q) (fun _ : Unit => (wX d h ad on w e cl hi ct wi ro ri fl co ci q)) (fun r _ => r = nI (pd_rl (pd_up e) v)) := by
  refine MI_of (by decide) (Nat.le_of_ble_eq_true rfl) ?_
  intro K hl hD hT X R
  subst hl; subst hD
  have X : Cx K cX0_related RX0 (some .int) 4 ({ frames := 0, cells := 0, slots := 0, locals := 0 }) := X
  have t0 : (kT K)[0]? = some (d, .int) := by rw [hT]; rfl
  show Go K 0 0 (wX d h ad on w e cl hi ct wi ro ri fl co ci q) [(0, .ref h), (1, .int (nI v))] 0 []
  refine g_aload_n X dX0_related_0 0 rfl rfl ?_
  refine g_get X in_X0 0 rfl rfl 4 (by decide) q34 rfl dX0_related_1 ?_
  refine g_iload_n X dX0_related_4 1 rfl rfl ?_
  refine g_iald (v := (nI (hi v))) X 3 0 rfl t0 (by omega) (by decide) rfl dX0_related_5 ?_
  refine g_istore_n (L' := [(2, .int (nI (hi v))), (0, .ref h), (1, .int (nI v))]) X dX0_related_6 rfl (by decide) rfl ?_
  refine g_iconst (v := (nI 0)) X dX0_related_7 (by decide) ?_
  refine g_istore_n (L' := [(3, .int (nI 0)), (2, .int (nI (hi v))), (0, .ref h), (1, .int (nI v))]) X dX0_related_8 rfl (by decide) rfl ?_
  have lp9 : ∀ (n : Nat) (u : Nat), (u ≤ v) → 10 - u < n → Go K 0 0 (wX d h ad on w e cl hi ct wi ro ri fl co ci q) [(0, .ref h), (1, .int (nI v)), (2, .int (nI (pd_rk hi v u))), (3, .int (nI u))] 9 [] := by
    intro n
    induction n with
    | zero => intro u hu hm; exact absurd hm (Nat.not_lt_zero _)
    | succ n ih9 =>
      intro u hu hm
      refine g_iload_n X dX0_related_9 3 rfl rfl ?_
      refine g_iload_n X dX0_related_10 1 rfl rfl ?_
      refine g_icmp_ge (P := v ≤ u) X 40 dX0_related_11 (by decide) (nI_leI (by omega) (by omega)) (fun c11 => ?_) (fun c11 => ?_)
      · refine g_iload_n X dX0_related_40 2 rfl rfl ?_
        exact R () (nI (pd_rk hi v u)) _ _ (by rw [show u = v by omega]; exact congrArg nI (pd_rk_congr hh hv v (by omega))) rfl dX0_related_41
      · have hb : hi u < 1024 := by rw [hh u (by omega)]; exact pd_up_lt hE (by omega)
        refine g_aload_n X dX0_related_14 0 rfl rfl ?_
        refine g_get X in_X0 0 rfl rfl 4 (by decide) q34 rfl dX0_related_15 ?_
        refine g_iload_n X dX0_related_18 3 rfl rfl ?_
        refine g_iald (v := (nI (hi u))) X 3 0 rfl t0 (by omega) (by decide) rfl dX0_related_19 ?_
        refine g_iload_n X dX0_related_20 1 rfl rfl ?_
        refine g_ishr (v := (nI ((hi u) >>> v))) X dX0_related_21 (pn_shr (by omega) (by omega)) ?_
        refine g_iconst (v := (nI 1)) X dX0_related_22 (by decide) ?_
        refine g_iand (v := (nI (((hi u) >>> v) &&& 1))) X dX0_related_23 (pn_and _ _) ?_
        refine g_iconst (v := (nI 1)) X dX0_related_24 (by decide) ?_
        refine g_icmp_ne (P := (hi u).testBit v = true) X 34 dX0_related_25 (by decide) (pn_b1 _ _) (fun c25 => ?_) (fun c25 => ?_)
        · rw [← pd_rk_n (U := hi) c25]
          refine g_iinc (v := (nI (u + 1))) (L' := [(3, .int (nI (u + 1))), (0, .ref h), (1, .int (nI v)), (2, .int (nI (pd_rk hi v (u + 1))))]) X dX0_related_34 3 rfl (pn_inc _) (by decide) rfl ?_
          refine g_goto X 9 dX0_related_37 (by decide) ?_
          refine g_loc (L' := [(0, .ref h), (1, .int (nI v)), (2, .int (nI (pd_rk hi v (u + 1)))), (3, .int (nI (u + 1)))]) [1, 2, 3, 0] rfl ?_
          exact ih9 (u + 1) (by omega) (by omega)
        · refine g_iload_n X dX0_related_28 2 rfl rfl ?_
          refine g_iconst (v := (nI 1)) X dX0_related_29 (by decide) ?_
          refine g_iload_n X dX0_related_30 3 rfl rfl ?_
          refine g_ishl (v := (nI (2 ^ u))) X dX0_related_31 (pn_shl (by omega)) ?_
          refine g_ior (v := (nI (pd_rk hi v (u + 1)))) X dX0_related_32 ((pn_or _ _).trans (congrArg nI (pd_rk_s c25).symm)) ?_
          refine g_istore_n (L' := [(2, .int (nI (pd_rk hi v (u + 1)))), (0, .ref h), (1, .int (nI v)), (3, .int (nI u))]) X dX0_related_33 rfl (by decide) rfl ?_
          refine g_iinc (v := (nI (u + 1))) (L' := [(3, .int (nI (u + 1))), (2, .int (nI (pd_rk hi v (u + 1)))), (0, .ref h), (1, .int (nI v))]) X dX0_related_34 3 rfl (pn_inc _) (by decide) rfl ?_
          refine g_goto X 9 dX0_related_37 (by decide) ?_
          refine g_loc (L' := [(0, .ref h), (1, .int (nI v)), (2, .int (nI (pd_rk hi v (u + 1)))), (3, .int (nI (u + 1)))]) [2, 3, 1, 0] rfl ?_
          exact ih9 (u + 1) (by omega) (by omega)
  refine g_loc (L' := [(0, .ref h), (1, .int (nI v)), (2, .int (nI (hi v))), (3, .int (nI 0))]) [2, 3, 1, 0] rfl ?_
  exact lp9 _ 0 (by omega) (Nat.lt_succ_self _)

set_option maxHeartbeats 4000000 in
set_option maxRecDepth 100000 in
/-- close() -/
theorem mX_close (l : Launch) (D : va_G) (d : ClassId) (h : Nat) (ad : Nat → Nat) (on : Nat) (w e : Nat → Nat) (cl : Nat) (hi : Nat → Nat) (ct : Nat) (wi ro ri fl : Nat → Nat) (co ci : Nat → Option Nat) (q : Nat → Nat) (hE : pd_Ed e) (hcl : cl = 0 ∨ (cl = 1 ∧ ∀ v, v < 10 → hi v = pd_up e v)) : MV l yX0_close cX0_close 4 0 0 0 0 D [(d, .int)] [.ref h] (wX d h ad on w e cl hi ct wi ro ri fl co ci q) (fun u : Nat → Nat => (wX d h ad on w e 1 u ct wi ro ri fl co ci q)) (fun u => ∀ v, v < 10 → u v = pd_up e v) := by
  refine MV_of (by decide) (Nat.le_of_ble_eq_true rfl) ?_
  intro K hl hD hT X hnm R
  subst hl; subst hD
  have X : Cx K cX0_close RX0 none 4 ({ frames := 0, cells := 0, slots := 0, locals := 0 }) := X
  have t0 : (kT K)[0]? = some (d, .int) := by rw [hT]; rfl
  show Go K 0 0 (wX d h ad on w e cl hi ct wi ro ri fl co ci q) [(0, .ref h)] 0 []
  refine g_aload_n X dX0_close_0 0 rfl rfl ?_
  refine g_get X in_X0 0 rfl rfl 3 (by decide) q33 rfl dX0_close_1 ?_
  refine g_if_eq (P := cl = 0) X 8 dX0_close_4 (by decide) (pn_z (by rcases hcl with z | z <;> omega)) (fun c4 => ?_) (fun c4 => ?_)
  · refine g_aload_n X dX0_close_8 0 rfl rfl ?_
    refine g_iconst (v := (nI 1)) X dX0_close_9 (by decide) ?_
    refine g_put (ty := .boolean) (ws' := (wX d h ad on w e 1 hi ct wi ro ri fl co ci q)) X in_X0 tyX0 tyX0_ok nmX0 0 rfl rfl 3 (by decide) q33 rfl (by decide +kernel) rfl rfl (Nat.le_of_ble_eq_true rfl) rfl dX0_close_10 ?_
    refine g_bipush (v := (dI 10)) X dX0_close_13 (by decide) ?_
    refine g_istore_n (L' := [(1, .int (dI 10)), (0, .ref h)]) X dX0_close_15 rfl (by decide) rfl ?_
    have lp16 : ∀ (n : Nat) (j : Nat) (hi1 : Nat → Nat), (j ≤ 10) → (∀ u, j ≤ u → u < 10 → hi1 u = pd_up e u) → j < n → Go K 0 0 (wX d h ad on w e 1 hi1 ct wi ro ri fl co ci q) [(0, .ref h), (1, .int (dI j))] 16 [] := by
      intro n
      induction n with
      | zero => intro j hi1 hj hu hm; exact absurd hm (Nat.not_lt_zero _)
      | succ n ih16 =>
        intro j hi1 hj hu hm
        refine g_iload_n X dX0_close_16 1 rfl rfl ?_
        refine g_if_lt (P := j = 0) X 79 dX0_close_17 (by decide) (pn_di0 (by omega)) (fun c17 => ?_) (fun c17 => ?_)
        · exact R hi1 _ _ (fun v hv => hu v (by omega) hv) dX0_close_79
        · obtain ⟨v, rfl⟩ : ∃ v, j = v + 1 := ⟨j - 1, by omega⟩
          rw [pn_di v]
          have hev : e v < 1024 := pd_Ed_lt hE (by omega)
          refine g_aload_n X dX0_close_20 0 rfl rfl ?_
          refine g_get X in_X0 0 rfl rfl 2 (by decide) q32 rfl dX0_close_21 ?_
          refine g_iload_n X dX0_close_24 1 rfl rfl ?_
          refine g_iald (v := (nI (pd_ac e hi1 v (v + 1)))) X 2 0 rfl t0 (by omega) (by decide) (congrArg nI (pd_ac_lo (Nat.le_refl _)).symm) dX0_close_25 ?_
          refine g_istore_n (L' := [(2, .int (nI (pd_ac e hi1 v (v + 1)))), (0, .ref h), (1, .int (nI v))]) X dX0_close_26 rfl (by decide) rfl ?_
          refine g_iload_n X dX0_close_27 2 rfl rfl ?_
          refine g_iconst (v := (nI 1)) X dX0_close_28 (by decide) ?_
          refine g_iadd (v := (nI (v + 1))) X dX0_close_29 (nI_add _ _) ?_
          refine g_istore_n (L' := [(3, .int (nI (v + 1))), (2, .int (nI (pd_ac e hi1 v (v + 1)))), (0, .ref h), (1, .int (nI v))]) X dX0_close_30 rfl (by decide) rfl ?_
          have lp31 : ∀ (n : Nat) (w1 : Nat), (v + 1 ≤ w1) → (w1 ≤ 10) → 10 - w1 < n → Go K 0 0 (wX d h ad on w e 1 hi1 ct wi ro ri fl co ci q) [(0, .ref h), (1, .int (nI v)), (2, .int (nI (pd_ac e hi1 v w1))), (3, .int (nI w1))] 31 [] := by
            intro n
            induction n with
            | zero => intro w1 hw1 hw2 hm; exact absurd hm (Nat.not_lt_zero _)
            | succ n ih31 =>
              intro w1 hw1 hw2 hm
              refine g_iload_n X dX0_close_31 3 rfl rfl ?_
              refine g_bipush (v := (nI 10)) X dX0_close_32 (by decide) ?_
              refine g_icmp_ge (P := 10 ≤ w1) X 66 dX0_close_34 (by decide) (nI_leI (by omega) (by omega)) (fun c34 => ?_) (fun c34 => ?_)
              · refine g_aload_n X dX0_close_66 0 rfl rfl ?_
                refine g_get X in_X0 0 rfl rfl 4 (by decide) q34 rfl dX0_close_67 ?_
                refine g_iload_n X dX0_close_70 1 rfl rfl ?_
                refine g_iload_n X dX0_close_71 2 rfl rfl ?_
                refine g_iast (ws' := (wX d h ad on w e 1 (pd_st hi1 v (pd_ac e hi1 v w1)) ct wi ro ri fl co ci q)) X 3 0 rfl t0 (by omega) (by decide) (nF_st _ _ _) rfl dX0_close_72 ?_
                refine g_iinc (v := (dI v)) (L' := [(1, .int (dI v)), (0, .ref h), (2, .int (nI (pd_ac e hi1 v w1))), (3, .int (nI w1))]) X dX0_close_73 1 rfl rfl (by decide) rfl ?_
                refine g_goto X 16 dX0_close_76 (by decide) ?_
                refine g_loc (L' := [(0, .ref h), (1, .int (dI v))]) [1, 0] rfl ?_
                exact ih16 v (pd_st hi1 v (pd_ac e hi1 v w1)) (by omega) (pd_close_step hu (by omega) (by omega)) (by omega)
              · refine g_aload_n X dX0_close_37 0 rfl rfl ?_
                refine g_get X in_X0 0 rfl rfl 2 (by decide) q32 rfl dX0_close_38 ?_
                refine g_iload_n X dX0_close_41 1 rfl rfl ?_
                refine g_iald (v := (nI (e v))) X 2 0 rfl t0 (by omega) (by decide) rfl dX0_close_42 ?_
                refine g_iload_n X dX0_close_43 3 rfl rfl ?_
                refine g_ishr (v := (nI ((e v) >>> w1))) X dX0_close_44 (pn_shr (by omega) (by omega)) ?_
                refine g_iconst (v := (nI 1)) X dX0_close_45 (by decide) ?_
                refine g_iand (v := (nI (((e v) >>> w1) &&& 1))) X dX0_close_46 (pn_and _ _) ?_
                refine g_iconst (v := (nI 1)) X dX0_close_47 (by decide) ?_
                refine g_icmp_ne (P := (e v).testBit w1 = true) X 60 dX0_close_48 (by decide) (pn_b1 _ _) (fun c48 => ?_) (fun c48 => ?_)
                · rw [← pd_ac_n (T := hi1) c48]
                  refine g_iinc (v := (nI (w1 + 1))) (L' := [(3, .int (nI (w1 + 1))), (0, .ref h), (1, .int (nI v)), (2, .int (nI (pd_ac e hi1 v (w1 + 1))))]) X dX0_close_60 3 rfl (pn_inc _) (by decide) rfl ?_
                  refine g_goto X 31 dX0_close_63 (by decide) ?_
                  refine g_loc (L' := [(0, .ref h), (1, .int (nI v)), (2, .int (nI (pd_ac e hi1 v (w1 + 1)))), (3, .int (nI (w1 + 1)))]) [1, 2, 3, 0] rfl ?_
                  exact ih31 (w1 + 1) (by omega) (by omega) (by omega)
                · refine g_iload_n X dX0_close_51 2 rfl rfl ?_
                  refine g_aload_n X dX0_close_52 0 rfl rfl ?_
                  refine g_get X in_X0 0 rfl rfl 4 (by decide) q34 rfl dX0_close_53 ?_
                  refine g_iload_n X dX0_close_56 3 rfl rfl ?_
                  refine g_iald (v := (nI (hi1 w1))) X 3 0 rfl t0 (by omega) (by decide) rfl dX0_close_57 ?_
                  refine g_ior (v := (nI (pd_ac e hi1 v (w1 + 1)))) X dX0_close_58 ((pn_or _ _).trans (congrArg nI (pd_ac_s (by omega) c48).symm)) ?_
                  refine g_istore_n (L' := [(2, .int (nI (pd_ac e hi1 v (w1 + 1)))), (0, .ref h), (1, .int (nI v)), (3, .int (nI w1))]) X dX0_close_59 rfl (by decide) rfl ?_
                  refine g_iinc (v := (nI (w1 + 1))) (L' := [(3, .int (nI (w1 + 1))), (2, .int (nI (pd_ac e hi1 v (w1 + 1)))), (0, .ref h), (1, .int (nI v))]) X dX0_close_60 3 rfl (pn_inc _) (by decide) rfl ?_
                  refine g_goto X 31 dX0_close_63 (by decide) ?_
                  refine g_loc (L' := [(0, .ref h), (1, .int (nI v)), (2, .int (nI (pd_ac e hi1 v (w1 + 1)))), (3, .int (nI (w1 + 1)))]) [2, 3, 1, 0] rfl ?_
                  exact ih31 (w1 + 1) (by omega) (by omega) (by omega)
          refine g_loc (L' := [(0, .ref h), (1, .int (nI v)), (2, .int (nI (pd_ac e hi1 v (v + 1)))), (3, .int (nI (v + 1)))]) [2, 3, 1, 0] rfl ?_
          exact lp31 _ (v + 1) (by omega) (by omega) (Nat.lt_succ_self _)
    refine g_loc (L' := [(0, .ref h), (1, .int (dI 10))]) [1, 0] rfl ?_
    exact lp16 _ 10 hi (by omega) (fun u h1 h2 => absurd h1 (by omega)) (Nat.lt_succ_self _)
  · obtain ⟨rfl, hh⟩ : cl = 1 ∧ _ := hcl.resolve_left c4
    exact R hi _ _ hh dX0_close_7
end
section
/-! WALK 31: PathCoverDag, edge, turn, weight, above -/

set_option maxHeartbeats 4000000 in
set_option maxRecDepth 100000 in
/-- edge(a, b, there) -/
theorem mX_edge (l : Launch) (D : va_G) (d : ClassId) (h : Nat) (ad : Nat → Nat) (on : Nat) (w e : Nat → Nat) (cl : Nat) (hi : Nat → Nat) (ct : Nat) (wi ro ri fl : Nat → Nat) (co ci : Nat → Option Nat) (q : Nat → Nat) (hE : pd_Ed e) (a b : Int32) (t : Bool) : MI l yX0_edge cX0_edge 5 .int 0 0 D [(d, .int)] [.ref h, .int a, .int b, .int (nI t.toNat)] (wX d h ad on w e cl hi ct wi ro ri fl co ci q) (fun u : (Nat → Nat) × Nat × Nat => (wX d h ad on w u.1 u.2.1 hi u.2.2 wi ro ri fl co ci q)) (fun r u => pd_eg e a b t r u.1 ∧ ((u.2.1 = 0 ∧ u.2.2 = 0) ∨ (u.1 = e ∧ u.2.1 = cl ∧ u.2.2 = ct))) := by
  refine MI_of (by decide) (Nat.le_of_ble_eq_true rfl) ?_
  intro K hl hD hT X R
  subst hl; subst hD
  have X : Cx K cX0_edge RX0 (some .int) 5 ({ frames := 0, cells := 0, slots := 0, locals := 0 }) := X
  have t0 : (kT K)[0]? = some (d, .int) := by rw [hT]; rfl
  show Go K 0 0 (wX d h ad on w e cl hi ct wi ro ri fl co ci q) [(0, .ref h), (1, .int a), (2, .int b), (3, .int (nI t.toNat))] 0 []
  refine g_iload_n X dX0_edge_0 1 rfl rfl ?_
  refine g_if_lt (P := a < 0) X 15 dX0_edge_1 (by decide) Iff.rfl (fun c1 => ?_) (fun c1 => ?_)
  · refine g_iconst (v := (-1)) X dX0_edge_15 (by decide) ?_
    exact R (e, cl, ct) (-1) _ _ ⟨Or.inl ⟨Or.inl c1, rfl, rfl⟩, Or.inr ⟨rfl, rfl, rfl⟩⟩ rfl dX0_edge_16
  · refine g_iload_n X dX0_edge_4 1 rfl rfl ?_
    refine g_iload_n X dX0_edge_5 2 rfl rfl ?_
    refine g_icmp_ge (P := b ≤ a) X 15 dX0_edge_6 (by decide) Iff.rfl (fun c6 => ?_) (fun c6 => ?_)
    · refine g_iconst (v := (-1)) X dX0_edge_15 (by decide) ?_
      exact R (e, cl, ct) (-1) _ _ ⟨Or.inl ⟨Or.inr (Or.inl c6), rfl, rfl⟩, Or.inr ⟨rfl, rfl, rfl⟩⟩ rfl dX0_edge_16
    · refine g_iload_n X dX0_edge_9 2 rfl rfl ?_
      refine g_bipush (v := 10) X dX0_edge_10 (by decide) ?_
      refine g_icmp_lt (P := ¬ 10 ≤ b) X 17 dX0_edge_12 (by decide) (pn_nle _ _) (fun c12 => ?_) (fun c12 => ?_)
      · obtain ⟨i, j, hij, hj, rfl, rfl⟩ := pd_eg_in c1 c6 c12
        have hei : e i < 1024 := pd_Ed_lt hE (by omega)
        refine g_aload_n X dX0_edge_17 0 rfl rfl ?_
        refine g_get X in_X0 0 rfl rfl 2 (by decide) q32 rfl dX0_edge_18 ?_
        refine g_iload_n X dX0_edge_21 1 rfl rfl ?_
        refine g_iald (v := (nI (e i))) X 2 0 rfl t0 (by omega) (by decide) rfl dX0_edge_22 ?_
        refine g_iload_n X dX0_edge_23 2 rfl rfl ?_
        refine g_ishr (v := (nI ((e i) >>> j))) X dX0_edge_24 (pn_shr (by omega) (by omega)) ?_
        refine g_iconst (v := (nI 1)) X dX0_edge_25 (by decide) ?_
        refine g_iand (v := (nI (((e i) >>> j) &&& 1))) X dX0_edge_26 (pn_and _ _) ?_
        refine g_istore (L' := [(4, .int (nI (((e i) >>> j) &&& 1))), (0, .ref h), (1, .int (nI i)), (2, .int (nI j)), (3, .int (nI t.toNat))]) X dX0_edge_27 (by decide) rfl ?_
        refine g_aload_n X dX0_edge_29 1 rfl rfl ?_
        refine g_get X in_X0 0 rfl rfl 2 (by decide) q32 rfl dX0_edge_30 ?_
        refine g_iload_n X dX0_edge_33 2 rfl rfl ?_
        refine g_dup2 X dX0_edge_34 rfl rfl ?_
        refine g_iald (v := (nI (e i))) X 2 0 rfl t0 (by omega) (by decide) rfl dX0_edge_35 ?_
        refine g_iconst (v := (nI 1)) X dX0_edge_36 (by decide) ?_
        refine g_iload_n X dX0_edge_37 3 rfl rfl ?_
        refine g_ishl (v := (nI (2 ^ j))) X dX0_edge_38 (pn_shl (by omega)) ?_
        refine g_iconst (v := (-1)) X dX0_edge_39 (by decide) ?_
        refine g_ixor (v := (nI (2 ^ j) ^^^ (-1))) X dX0_edge_40 rfl ?_
        refine g_iand (v := (nI (pd_df (e i) (2 ^ j)))) X dX0_edge_41 (pn_df _ _) ?_
        refine g_iast (ws' := (wX d h ad on w (pd_st e i (pd_df (e i) (2 ^ j))) cl hi ct wi ro ri fl co ci q)) X 2 0 rfl t0 (by omega) (by decide) (nF_st _ _ _) rfl dX0_edge_42 ?_
        refine g_iload_n X dX0_edge_43 4 rfl rfl ?_
        refine g_if_eq (P := ¬ t = true) X 59 dX0_edge_44 (by decide) (pn_bz _) (fun c44 => ?_) (fun c44 => ?_)
        · refine g_aload_n X dX0_edge_59 1 rfl rfl ?_
          refine g_iconst (v := (nI 0)) X dX0_edge_60 (by decide) ?_
          refine g_put (ty := .boolean) (ws' := (wX d h ad on w (pd_st e i (pd_df (e i) (2 ^ j))) 0 hi ct wi ro ri fl co ci q)) X in_X0 tyX0 tyX0_ok nmX0 0 rfl rfl 3 (by decide) q33 rfl (by decide +kernel) rfl rfl (Nat.le_of_ble_eq_true rfl) rfl dX0_edge_61 ?_
          refine g_aload_n X dX0_edge_64 1 rfl rfl ?_
          refine g_iconst (v := (nI 0)) X dX0_edge_65 (by decide) ?_
          refine g_put (ty := .boolean) (ws' := (wX d h ad on w (pd_st e i (pd_df (e i) (2 ^ j))) 0 hi 0 wi ro ri fl co ci q)) X in_X0 tyX0 tyX0_ok nmX0 0 rfl rfl 5 (by decide) q35 rfl (by decide +kernel) rfl rfl (Nat.le_of_ble_eq_true rfl) rfl dX0_edge_66 ?_
          refine g_iload X dX0_edge_69 0 rfl ?_
          exact R (pd_st e i (pd_df (e i) (2 ^ j)), 0, 0) (nI (((e i) >>> j) &&& 1)) _ _ ⟨Or.inr ⟨i, j, hij, hj, rfl, rfl, rfl, by rw [if_neg c44]⟩, Or.inl ⟨rfl, rfl⟩⟩ rfl dX0_edge_71
        · refine g_aload_n X dX0_edge_47 1 rfl rfl ?_
          refine g_get X in_X0 0 rfl rfl 2 (by decide) q32 rfl dX0_edge_48 ?_
          refine g_iload_n X dX0_edge_51 2 rfl rfl ?_
          refine g_dup2 X dX0_edge_52 rfl rfl ?_
          refine g_iald (v := (nI (pd_df (e i) (2 ^ j)))) X 2 0 rfl t0 (by omega) (by decide) (congrArg nI pd_st_s) dX0_edge_53 ?_
          refine g_iconst (v := (nI 1)) X dX0_edge_54 (by decide) ?_
          refine g_iload_n X dX0_edge_55 3 rfl rfl ?_
          refine g_ishl (v := (nI (2 ^ j))) X dX0_edge_56 (pn_shl (by omega)) ?_
          refine g_ior (v := (nI ((pd_df (e i) (2 ^ j)) ||| (2 ^ j)))) X dX0_edge_57 (pn_or _ _) ?_
          refine g_iast (ws' := (wX d h ad on w (pd_st (pd_st e i (pd_df (e i) (2 ^ j))) i ((pd_df (e i) (2 ^ j)) ||| (2 ^ j))) cl hi ct wi ro ri fl co ci q)) X 2 0 rfl t0 (by omega) (by decide) (nF_st _ _ _) rfl dX0_edge_58 ?_
          refine g_aload_n X dX0_edge_59 1 rfl rfl ?_
          refine g_iconst (v := (nI 0)) X dX0_edge_60 (by decide) ?_
          refine g_put (ty := .boolean) (ws' := (wX d h ad on w (pd_st (pd_st e i (pd_df (e i) (2 ^ j))) i ((pd_df (e i) (2 ^ j)) ||| (2 ^ j))) 0 hi ct wi ro ri fl co ci q)) X in_X0 tyX0 tyX0_ok nmX0 0 rfl rfl 3 (by decide) q33 rfl (by decide +kernel) rfl rfl (Nat.le_of_ble_eq_true rfl) rfl dX0_edge_61 ?_
          refine g_aload_n X dX0_edge_64 1 rfl rfl ?_
          refine g_iconst (v := (nI 0)) X dX0_edge_65 (by decide) ?_
          refine g_put (ty := .boolean) (ws' := (wX d h ad on w (pd_st (pd_st e i (pd_df (e i) (2 ^ j))) i ((pd_df (e i) (2 ^ j)) ||| (2 ^ j))) 0 hi 0 wi ro ri fl co ci q)) X in_X0 tyX0 tyX0_ok nmX0 0 rfl rfl 5 (by decide) q35 rfl (by decide +kernel) rfl rfl (Nat.le_of_ble_eq_true rfl) rfl dX0_edge_66 ?_
          refine g_iload X dX0_edge_69 0 rfl ?_
          exact R (pd_st (pd_st e i (pd_df (e i) (2 ^ j))) i ((pd_df (e i) (2 ^ j)) ||| (2 ^ j)), 0, 0) (nI (((e i) >>> j) &&& 1)) _ _ ⟨Or.inr ⟨i, j, hij, hj, rfl, rfl, rfl, by rw [if_pos (Decidable.not_not.mp c44), pd_st2, pd_setb]⟩, Or.inl ⟨rfl, rfl⟩⟩ rfl dX0_edge_71
      · refine g_iconst (v := (-1)) X dX0_edge_15 (by decide) ?_
        exact R (e, cl, ct) (-1) _ _ ⟨Or.inl ⟨Or.inr (Or.inr (Decidable.not_not.mp c12)), rfl, rfl⟩, Or.inr ⟨rfl, rfl, rfl⟩⟩ rfl dX0_edge_16

set_option maxHeartbeats 4000000 in
set_option maxRecDepth 100000 in
/-- turn(v, on) -/
theorem mX_turn (l : Launch) (D : va_G) (d : ClassId) (h : Nat) (ad : Nat → Nat) (on : Nat) (w e : Nat → Nat) (cl : Nat) (hi : Nat → Nat) (ct : Nat) (wi ro ri fl : Nat → Nat) (co ci : Nat → Option Nat) (q : Nat → Nat) (hon : on < 1024) (v : Int32) (t : Bool) : MI l yX0_turn cX0_turn 4 .int 1 20 D [(d, .int)] [.ref h, .int v, .int (nI t.toNat)] (wX d h ad on w e cl hi ct wi ro ri fl co ci q) (fun u : Nat => (wX d h ad u w e cl hi ct wi ro ri fl co ci q)) (fun r u => pd_tu on v t r u) := by
  refine MI_of (by decide) (Nat.le_of_ble_eq_true rfl) ?_
  intro K hl hD hT X R
  subst hl; subst hD
  have X : Cx K cX0_turn RX0 (some .int) 4 ({ frames := 1, cells := 0, slots := 0, locals := 20 }) := X
  have t0 : (kT K)[0]? = some (d, .int) := by rw [hT]; rfl
  show Go K 0 0 (wX d h ad on w e cl hi ct wi ro ri fl co ci q) [(0, .ref h), (1, .int v), (2, .int (nI t.toNat))] 0 []
  refine g_iload_n X dX0_turn_0 1 rfl rfl ?_
  refine g_callS (st := []) X (mX_bad _ _ v) (lw_S q79 q80 q20 q81) 1 (by decide +kernel) (by decide) (by decide) rfl rfl (Nat.le_of_ble_eq_true rfl) dX0_turn_1 (fun r hp => ?_)
  obtain rfl := hp
  show Go K 0 0 (wX d h ad on w e cl hi ct wi ro ri fl co ci q) [(0, .ref h), (1, .int v), (2, .int (nI t.toNat))] 4 [.int (nI ((decide (v < 0 ∨ 10 ≤ v)).toNat))]
  refine g_if_eq (P := ¬ (decide (v < 0 ∨ 10 ≤ v)) = true) X 9 dX0_turn_4 (by decide) (pn_bz _) (fun c4 => ?_) (fun c4 => ?_)
  · obtain ⟨i, hi9, rfl⟩ := pd_v_in (fun z => c4 (decide_eq_true (Or.inl z))) (fun z => c4 (decide_eq_true (Or.inr z)))
    refine g_aload_n X dX0_turn_9 0 rfl rfl ?_
    refine g_get X in_X0 0 rfl rfl 0 (by decide) q30 rfl dX0_turn_10 ?_
    refine g_iload_n X dX0_turn_13 1 rfl rfl ?_
    refine g_ishr (v := (nI (on >>> i))) X dX0_turn_14 (pn_shr (by omega) (by omega)) ?_
    refine g_iconst (v := (nI 1)) X dX0_turn_15 (by decide) ?_
    refine g_iand (v := (nI ((on >>> i) &&& 1))) X dX0_turn_16 (pn_and _ _) ?_
    refine g_istore_n (L' := [(3, .int (nI ((on >>> i) &&& 1))), (0, .ref h), (1, .int (nI i)), (2, .int (nI t.toNat))]) X dX0_turn_17 rfl (by decide) rfl ?_
    refine g_aload_n X dX0_turn_18 1 rfl rfl ?_
    refine g_dup X dX0_turn_19 rfl ?_
    refine g_get X in_X0 0 rfl rfl 0 (by decide) q30 rfl dX0_turn_20 ?_
    refine g_iconst (v := (nI 1)) X dX0_turn_23 (by decide) ?_
    refine g_iload_n X dX0_turn_24 2 rfl rfl ?_
    refine g_ishl (v := (nI (2 ^ i))) X dX0_turn_25 (pn_shl (by omega)) ?_
    refine g_iconst (v := (-1)) X dX0_turn_26 (by decide) ?_
    refine g_ixor (v := (nI (2 ^ i) ^^^ (-1))) X dX0_turn_27 rfl ?_
    refine g_iand (v := (nI (pd_df on (2 ^ i)))) X dX0_turn_28 (pn_df _ _) ?_
    refine g_put (ty := .int) (ws' := (wX d h ad (pd_df on (2 ^ i)) w e cl hi ct wi ro ri fl co ci q)) X in_X0 tyX0 tyX0_ok nmX0 0 rfl rfl 0 (by decide) q30 rfl (by decide +kernel) rfl rfl (Nat.le_of_ble_eq_true rfl) rfl dX0_turn_29 ?_
    refine g_iload_n X dX0_turn_32 3 rfl rfl ?_
    refine g_if_eq (P := ¬ t = true) X 48 dX0_turn_33 (by decide) (pn_bz _) (fun c33 => ?_) (fun c33 => ?_)
    · refine g_iload_n X dX0_turn_48 0 rfl rfl ?_
      exact R (pd_df on (2 ^ i)) (nI ((on >>> i) &&& 1)) _ _ (Or.inr ⟨i, hi9, rfl, rfl, by rw [if_neg c33]⟩) rfl dX0_turn_49
    · refine g_aload_n X dX0_turn_36 1 rfl rfl ?_
      refine g_dup X dX0_turn_37 rfl ?_
      refine g_get X in_X0 0 rfl rfl 0 (by decide) q30 rfl dX0_turn_38 ?_
      refine g_iconst (v := (nI 1)) X dX0_turn_41 (by decide) ?_
      refine g_iload_n X dX0_turn_42 2 rfl rfl ?_
      refine g_ishl (v := (nI (2 ^ i))) X dX0_turn_43 (pn_shl (by omega)) ?_
      refine g_ior (v := (nI ((pd_df on (2 ^ i)) ||| (2 ^ i)))) X dX0_turn_44 (pn_or _ _) ?_
      refine g_put (ty := .int) (ws' := (wX d h ad ((pd_df on (2 ^ i)) ||| (2 ^ i)) w e cl hi ct wi ro ri fl co ci q)) X in_X0 tyX0 tyX0_ok nmX0 0 rfl rfl 0 (by decide) q30 rfl (by decide +kernel) rfl rfl (Nat.le_of_ble_eq_true rfl) rfl dX0_turn_45 ?_
      refine g_iload_n X dX0_turn_48 0 rfl rfl ?_
      exact R ((pd_df on (2 ^ i)) ||| (2 ^ i)) (nI ((on >>> i) &&& 1)) _ _ (Or.inr ⟨i, hi9, rfl, rfl, by rw [if_pos (Decidable.not_not.mp c33), pd_setb]⟩) rfl dX0_turn_49
  · refine g_iconst (v := (-1)) X dX0_turn_7 (by decide) ?_
    exact R on (-1) _ _ (Or.inl ⟨of_decide_eq_true (Decidable.not_not.mp c4), rfl, rfl⟩) rfl dX0_turn_8

set_option maxHeartbeats 4000000 in
set_option maxRecDepth 100000 in
/-- weight(v, x) -/
theorem mX_weight (l : Launch) (D : va_G) (d : ClassId) (h : Nat) (ad : Nat → Nat) (on : Nat) (w e : Nat → Nat) (cl : Nat) (hi : Nat → Nat) (ct : Nat) (wi ro ri fl : Nat → Nat) (co ci : Nat → Option Nat) (q : Nat → Nat) (v x : Int32) : MI l yX0_weight cX0_weight 4 .int 1 20 D [(d, .int)] [.ref h, .int v, .int x] (wX d h ad on w e cl hi ct wi ro ri fl co ci q) (fun u : Nat → Nat => (wX d h ad on u e cl hi ct wi ro ri fl co ci q)) (fun r u => pd_we w v x r u) := by
  refine MI_of (by decide) (Nat.le_of_ble_eq_true rfl) ?_
  intro K hl hD hT X R
  subst hl; subst hD
  have X : Cx K cX0_weight RX0 (some .int) 4 ({ frames := 1, cells := 0, slots := 0, locals := 20 }) := X
  have t0 : (kT K)[0]? = some (d, .int) := by rw [hT]; rfl
  show Go K 0 0 (wX d h ad on w e cl hi ct wi ro ri fl co ci q) [(0, .ref h), (1, .int v), (2, .int x)] 0 []
  refine g_iload_n X dX0_weight_0 1 rfl rfl ?_
  refine g_callS (st := []) X (mX_bad _ _ v) (lw_S q79 q80 q20 q81) 1 (by decide +kernel) (by decide) (by decide) rfl rfl (Nat.le_of_ble_eq_true rfl) dX0_weight_1 (fun r hp => ?_)
  obtain rfl := hp
  show Go K 0 0 (wX d h ad on w e cl hi ct wi ro ri fl co ci q) [(0, .ref h), (1, .int v), (2, .int x)] 4 [.int (nI ((decide (v < 0 ∨ 10 ≤ v)).toNat))]
  refine g_if_eq (P := ¬ (decide (v < 0 ∨ 10 ≤ v)) = true) X 9 dX0_weight_4 (by decide) (pn_bz _) (fun c4 => ?_) (fun c4 => ?_)
  · obtain ⟨i, hi9, rfl⟩ := pd_v_in (fun z => c4 (decide_eq_true (Or.inl z))) (fun z => c4 (decide_eq_true (Or.inr z)))
    refine g_iload_n X dX0_weight_9 2 rfl rfl ?_
    refine g_if_lt (P := x < 0) X 19 dX0_weight_10 (by decide) Iff.rfl (fun c10 => ?_) (fun c10 => ?_)
    · refine g_bipush (v := (-2)) X dX0_weight_19 (by decide) ?_
      exact R w (-2) _ _ (Or.inr (Or.inl ⟨pd_v_ok hi9 rfl, Or.inl c10, rfl, rfl⟩)) rfl dX0_weight_21
    · refine g_iload_n X dX0_weight_13 2 rfl rfl ?_
      refine g_bipush (v := 9) X dX0_weight_14 (by decide) ?_
      refine g_icmp_le (P := ¬ 10 ≤ x) X 22 dX0_weight_16 (by decide) (pn_le9 _) (fun c16 => ?_) (fun c16 => ?_)
      · obtain ⟨k, hk, rfl⟩ := pd_v_in c10 c16
        refine g_aload_n X dX0_weight_22 0 rfl rfl ?_
        refine g_get X in_X0 0 rfl rfl 1 (by decide) q31 rfl dX0_weight_23 ?_
        refine g_iload_n X dX0_weight_26 1 rfl rfl ?_
        refine g_iald (v := (nI (w i))) X 1 0 rfl t0 (by omega) (by decide) rfl dX0_weight_27 ?_
        refine g_istore_n (L' := [(3, .int (nI (w i))), (0, .ref h), (1, .int (nI i)), (2, .int (nI k))]) X dX0_weight_28 rfl (by decide) rfl ?_
        refine g_aload_n X dX0_weight_29 1 rfl rfl ?_
        refine g_get X in_X0 0 rfl rfl 1 (by decide) q31 rfl dX0_weight_30 ?_
        refine g_iload_n X dX0_weight_33 2 rfl rfl ?_
        refine g_iload_n X dX0_weight_34 3 rfl rfl ?_
        refine g_iast (ws' := (wX d h ad on (pd_st w i k) e cl hi ct wi ro ri fl co ci q)) X 1 0 rfl t0 (by omega) (by decide) (nF_st _ _ _) rfl dX0_weight_35 ?_
        refine g_iload_n X dX0_weight_36 0 rfl rfl ?_
        exact R (pd_st w i k) (nI (w i)) _ _ (Or.inr (Or.inr ⟨i, k, hi9, hk, rfl, rfl, rfl, rfl⟩)) rfl dX0_weight_37
      · refine g_bipush (v := (-2)) X dX0_weight_19 (by decide) ?_
        exact R w (-2) _ _ (Or.inr (Or.inl ⟨pd_v_ok hi9 rfl, Or.inr (Decidable.not_not.mp c16), rfl, rfl⟩)) rfl dX0_weight_21
  · refine g_iconst (v := (-1)) X dX0_weight_7 (by decide) ?_
    exact R w (-1) _ _ (Or.inl ⟨of_decide_eq_true (Decidable.not_not.mp c4), rfl, rfl⟩) rfl dX0_weight_8

set_option maxHeartbeats 4000000 in
set_option maxRecDepth 100000 in
/-- above(a, b) -/
theorem mX_above (l : Launch) (D : va_G) (d : ClassId) (h : Nat) (ad : Nat → Nat) (on : Nat) (w e : Nat → Nat) (cl : Nat) (hi : Nat → Nat) (ct : Nat) (wi ro ri fl : Nat → Nat) (co ci : Nat → Option Nat) (q : Nat → Nat) (hE : pd_Ed e) (hcl : cl = 0 ∨ (cl = 1 ∧ ∀ v, v < 10 → hi v = pd_up e v)) (a b : Int32) : MI l yX0_above cX0_above 3 .boolean 1 23 D [(d, .int)] [.ref h, .int a, .int b] (wX d h ad on w e cl hi ct wi ro ri fl co ci q) (fun u : Nat × (Nat → Nat) => (wX d h ad on w e u.1 u.2 ct wi ro ri fl co ci q)) (fun r u => pd_bv (pd_up e) a b r ∧ (u.1 = 0 ∨ (u.1 = 1 ∧ ∀ v, v < 10 → u.2 v = pd_up e v))) := by
  refine MI_of (by decide) (Nat.le_of_ble_eq_true rfl) ?_
  intro K hl hD hT X R
  subst hl; subst hD
  have X : Cx K cX0_above RX0 (some .boolean) 3 ({ frames := 1, cells := 0, slots := 0, locals := 23 }) := X
  have t0 : (kT K)[0]? = some (d, .int) := by rw [hT]; rfl
  show Go K 0 0 (wX d h ad on w e cl hi ct wi ro ri fl co ci q) [(0, .ref h), (1, .int a), (2, .int b)] 0 []
  refine g_iload_n X dX0_above_0 1 rfl rfl ?_
  refine g_callS (st := []) X (mX_bad _ _ a) (lw_S q79 q80 q20 q81) 1 (by decide +kernel) (by decide) (by decide) rfl rfl (Nat.le_of_ble_eq_true rfl) dX0_above_1 (fun r hp => ?_)
  obtain rfl := hp
  show Go K 0 0 (wX d h ad on w e cl hi ct wi ro ri fl co ci q) [(0, .ref h), (1, .int a), (2, .int b)] 4 [.int (nI ((decide (a < 0 ∨ 10 ≤ a)).toNat))]
  refine g_if_ne (P := ¬ (decide (a < 0 ∨ 10 ≤ a)) = true) X 14 dX0_above_4 (by decide) (pn_bz _) (fun c4 => ?_) (fun c4 => ?_)
  · refine g_iconst (v := (nI 0)) X dX0_above_14 (by decide) ?_
    exact R (cl, hi) (nI 0) _ _ ⟨Or.inl ⟨Or.inl (of_decide_eq_true (Decidable.not_not.mp c4)), rfl⟩, hcl⟩ rfl dX0_above_15
  · refine g_iload_n X dX0_above_7 2 rfl rfl ?_
    refine g_callS (st := []) X (mX_bad _ _ b) (lw_S q79 q80 q20 q81) 1 (by decide +kernel) (by decide) (by decide) rfl rfl (Nat.le_of_ble_eq_true rfl) dX0_above_8 (fun r hp => ?_)
    obtain rfl := hp
    show Go K 0 0 (wX d h ad on w e cl hi ct wi ro ri fl co ci q) [(0, .ref h), (1, .int a), (2, .int b)] 11 [.int (nI ((decide (b < 0 ∨ 10 ≤ b)).toNat))]
    refine g_if_eq (P := ¬ (decide (b < 0 ∨ 10 ≤ b)) = true) X 16 dX0_above_11 (by decide) (pn_bz _) (fun c11 => ?_) (fun c11 => ?_)
    · obtain ⟨i, hi9, rfl⟩ := pd_v_in (fun z => c4 (decide_eq_true (Or.inl z))) (fun z => c4 (decide_eq_true (Or.inr z)))
      obtain ⟨j, hj9, rfl⟩ := pd_v_in (fun z => c11 (decide_eq_true (Or.inl z))) (fun z => c11 (decide_eq_true (Or.inr z)))
      refine g_aload_n X dX0_above_16 0 rfl rfl ?_
      refine g_callVv (st := []) (ci := 0) (q := (RX0, TX0, 13)) (wr := []) X (mX_close _ _ d h ad on w e cl hi ct wi ro ri fl co ci q hE hcl) (lw_V q90 q92 qs0 q20 q93) 0 (by decide +kernel) (by decide) (by decide) rfl rfl rfl [0, 1, 2, 3, 4, 5, 6, 7, 8, 9, 10] [] [0] rfl rfl rfl (by decide) (by decide) (by decide) (by rw [hT]; rfl) rfl (Nat.le_of_ble_eq_true rfl) dX0_above_17 (fun u hp => ?_)
      show Go K 0 0 (wX d h ad on w e 1 u ct wi ro ri fl co ci q) [(0, .ref h), (1, .int (nI i)), (2, .int (nI j))] 20 []
      have hb : u i < 1024 := by rw [hp i hi9]; exact pd_up_lt hE hi9
      refine g_aload_n X dX0_above_20 0 rfl rfl ?_
      refine g_get X in_X0 0 rfl rfl 4 (by decide) q34 rfl dX0_above_21 ?_
      refine g_iload_n X dX0_above_24 1 rfl rfl ?_
      refine g_iald (v := (nI (u i))) X 3 0 rfl t0 (by omega) (by decide) rfl dX0_above_25 ?_
      refine g_iload_n X dX0_above_26 2 rfl rfl ?_
      refine g_ishr (v := (nI ((u i) >>> j))) X dX0_above_27 (pn_shr (by omega) (by omega)) ?_
      refine g_iconst (v := (nI 1)) X dX0_above_28 (by decide) ?_
      refine g_iand (v := (nI (((u i) >>> j) &&& 1))) X dX0_above_29 (pn_and _ _) ?_
      refine g_iconst (v := (nI 1)) X dX0_above_30 (by decide) ?_
      refine g_icmp_ne (P := (u i).testBit j = true) X 38 dX0_above_31 (by decide) (pn_b1 _ _) (fun c31 => ?_) (fun c31 => ?_)
      · refine g_iconst (v := (nI 0)) X dX0_above_38 (by decide) ?_
        exact R (1, u) (nI 0) _ _ ⟨Or.inr ⟨i, j, hi9, hj9, rfl, rfl, by rw [← hp i hi9, pd_nb c31]; rfl⟩, Or.inr ⟨rfl, hp⟩⟩ rfl dX0_above_39
      · refine g_iconst (v := (nI 1)) X dX0_above_34 (by decide) ?_
        refine g_goto X 39 dX0_above_35 (by decide) ?_
        exact R (1, u) (nI 1) _ _ ⟨Or.inr ⟨i, j, hi9, hj9, rfl, rfl, by rw [← hp i hi9, c31]; rfl⟩, Or.inr ⟨rfl, hp⟩⟩ rfl dX0_above_39
    · refine g_iconst (v := (nI 0)) X dX0_above_14 (by decide) ?_
      exact R (cl, hi) (nI 0) _ _ ⟨Or.inl ⟨Or.inr (of_decide_eq_true (Decidable.not_not.mp c11)), rfl⟩, hcl⟩ rfl dX0_above_15
end
section
/-! WALK 32: PathCoverDag, goBack, findWay, send -/

set_option maxHeartbeats 4000000 in
set_option maxRecDepth 100000 in
/-- goBack(x, end) -/
theorem mX_goBack (l : Launch) (D : va_G) (d : ClassId) (h : Nat) (ad : Nat → Nat) (on : Nat) (w e : Nat → Nat) (cl : Nat) (hi : Nat → Nat) (ct : Nat) (wi ro ri fl : Nat → Nat) (co ci : Nat → Option Nat) (q : Nat → Nat) (T : Nat → Nat) (Sm : Nat) (rk : Nat → Nat) (x e0 i vv : Nat) (hB : pd_BI T Sm ro fl co ci q rk e0 i) (hi0 : i < e0) (hx : x < 10) (hc : ci x = some vv) (hf9 : ∀ k, k < 100 → fl k ≤ 9) : MI l yX0_goBack cX0_goBack 5 .int 0 0 D [(d, .int)] [.ref h, .int (nI x), .int (nI e0)] (wX d h ad on w e cl hi ct wi ro ri fl co ci q) (fun u : (Nat → Option Nat) × (Nat → Nat) × Nat × (Nat → Nat) => (wX d h ad on w e cl hi ct wi ro ri fl u.1 ci u.2.1)) (fun r u => r = nI u.2.2.1 ∧ pd_GB T Sm ro fl ci x i co q e0 u.1 u.2.1 u.2.2.2 u.2.2.1 10) := by
  refine MI_of (by decide) (Nat.le_of_ble_eq_true rfl) ?_
  intro K hl hD hT X R
  subst hl; subst hD
  have X : Cx K cX0_goBack RX0 (some .int) 5 ({ frames := 0, cells := 0, slots := 0, locals := 0 }) := X
  have t0 : (kT K)[0]? = some (d, .int) := by rw [hT]; rfl
  show Go K 0 0 (wX d h ad on w e cl hi ct wi ro ri fl co ci q) [(0, .ref h), (1, .int (nI x)), (2, .int (nI e0))] 0 []
  refine g_iload_n X dX0_goBack_0 2 rfl rfl ?_
  refine g_istore_n (L' := [(3, .int (nI e0)), (0, .ref h), (1, .int (nI x)), (2, .int (nI e0))]) X dX0_goBack_1 rfl (by decide) rfl ?_
  refine g_iconst (v := (nI 0)) X dX0_goBack_2 (by decide) ?_
  refine g_istore (L' := [(4, .int (nI 0)), (3, .int (nI e0)), (0, .ref h), (1, .int (nI x)), (2, .int (nI e0))]) X dX0_goBack_3 (by decide) rfl ?_
  have lp5 : ∀ (n : Nat) (co1 : Nat → Option Nat) (q1 : Nat → Nat) (rk1 : Nat → Nat) (e1 : Nat) (u0 : Nat), (u0 ≤ 10) → (pd_GB T Sm ro fl ci x i co q e0 co1 q1 rk1 e1 u0) → 10 - u0 < n → Go K 0 0 (wX d h ad on w e cl hi ct wi ro ri fl co1 ci q1) [(0, .ref h), (1, .int (nI x)), (3, .int (nI e1)), (4, .int (nI u0))] 5 [] := by
    intro n
    induction n with
    | zero => intro co1 q1 rk1 e1 u0 hu hG hm; exact absurd hm (Nat.not_lt_zero _)
    | succ n ih5 =>
      intro co1 q1 rk1 e1 u0 hu hG hm
      refine g_iload X dX0_goBack_5 3 rfl ?_
      refine g_bipush (v := (nI 10)) X dX0_goBack_7 (by decide) ?_
      refine g_icmp_ge (P := 10 ≤ u0) X 65 dX0_goBack_9 (by decide) (nI_leI (by omega) (by omega)) (fun c9 => ?_) (fun c9 => ?_)
      · refine g_iload_n X dX0_goBack_65 2 rfl rfl ?_
        exact R (co1, q1, e1, rk1) (nI e1) _ _ ⟨rfl, by rw [show u0 = 10 by omega] at hG; exact hG⟩ rfl dX0_goBack_66
      · refine g_aload_n X dX0_goBack_12 0 rfl rfl ?_
        refine g_get X in_X0 0 rfl rfl 9 (by decide) q39 rfl dX0_goBack_13 ?_
        refine g_iload X dX0_goBack_16 3 rfl ?_
        refine g_bipush (v := (nI 10)) X dX0_goBack_18 (by decide) ?_
        refine g_imul (v := (nI (u0 * 10))) X dX0_goBack_20 (pk_mul _ _) ?_
        refine g_iload_n X dX0_goBack_21 1 rfl rfl ?_
        refine g_iadd (v := (nI ((u0 * 10) + x))) X dX0_goBack_22 (nI_add _ _) ?_
        refine g_iald (v := (nI (fl ((u0 * 10) + x)))) X 7 0 rfl t0 (by omega) (by decide) rfl dX0_goBack_23 ?_
        refine g_if_le (P := fl ((u0 * 10) + x) = 0) X 59 dX0_goBack_24 (by decide) (pn_le0 (by have := hf9 (u0 * 10 + x) (by omega); omega)) (fun c24 => ?_) (fun c24 => ?_)
        · refine g_iinc (v := (nI (u0 + 1))) (L' := [(4, .int (nI (u0 + 1))), (0, .ref h), (1, .int (nI x)), (3, .int (nI e1))]) X dX0_goBack_59 3 rfl (pn_inc _) (by decide) rfl ?_
          refine g_goto X 5 dX0_goBack_62 (by decide) ?_
          refine g_loc (L' := [(0, .ref h), (1, .int (nI x)), (3, .int (nI e1)), (4, .int (nI (u0 + 1)))]) [1, 2, 3, 0] rfl ?_
          exact ih5 co1 q1 rk1 e1 (u0 + 1) (by omega) (pd_GB_no hG (fun z => absurd z (by omega))) (by omega)
        · refine g_aload_n X dX0_goBack_27 0 rfl rfl ?_
          refine g_get X in_X0 0 rfl rfl 10 (by decide) q40 rfl dX0_goBack_28 ?_
          refine g_iload X dX0_goBack_31 3 rfl ?_
          refine g_iald (v := (oI (co1 u0))) X 8 0 rfl t0 (by omega) (by decide) rfl dX0_goBack_33 ?_
          refine g_if_ge (P := (co1 u0).isSome = true) X 59 dX0_goBack_34 (by decide) (pn_oge (fun k hk => by have := pd_BI_co hG.1 (by omega) hk; omega)) (fun c34 => ?_) (fun c34 => ?_)
          · refine g_iinc (v := (nI (u0 + 1))) (L' := [(4, .int (nI (u0 + 1))), (0, .ref h), (1, .int (nI x)), (3, .int (nI e1))]) X dX0_goBack_59 3 rfl (pn_inc _) (by decide) rfl ?_
            refine g_goto X 5 dX0_goBack_62 (by decide) ?_
            refine g_loc (L' := [(0, .ref h), (1, .int (nI x)), (3, .int (nI e1)), (4, .int (nI (u0 + 1)))]) [1, 2, 3, 0] rfl ?_
            exact ih5 co1 q1 rk1 e1 (u0 + 1) (by omega) (pd_GB_no hG (fun _ => c34)) (by omega)
          · obtain ⟨he1, hG2⟩ := pd_GB_yes hG hi0 (by omega) hx hc (by omega) (pd_none c34)
            refine g_aload_n X dX0_goBack_37 0 rfl rfl ?_
            refine g_get X in_X0 0 rfl rfl 10 (by decide) q40 rfl dX0_goBack_38 ?_
            refine g_iload X dX0_goBack_41 3 rfl ?_
            refine g_iload_n X dX0_goBack_43 1 rfl rfl ?_
            refine g_bipush (v := (nI 10)) X dX0_goBack_44 (by decide) ?_
            refine g_iadd (v := (nI (x + 10))) X dX0_goBack_46 (nI_add _ _) ?_
            refine g_iast (ws' := (wX d h ad on w e cl hi ct wi ro ri fl (pd_st co1 u0 (some (x + 10))) ci q1)) X 8 0 rfl t0 (by omega) (by decide) (oF_st co1 u0 (some (x + 10))) rfl dX0_goBack_47 ?_
            refine g_aload_n X dX0_goBack_48 0 rfl rfl ?_
            refine g_get X in_X0 0 rfl rfl 12 (by decide) q42 rfl dX0_goBack_49 ?_
            refine g_iload_n X dX0_goBack_52 2 rfl rfl ?_
            refine g_iload X dX0_goBack_53 3 rfl ?_
            refine g_iast (ws' := (wX d h ad on w e cl hi ct wi ro ri fl (pd_st co1 u0 (some (x + 10))) ci (pd_st q1 e1 u0))) X 10 0 rfl t0 (by omega) (by decide) (nF_st _ _ _) rfl dX0_goBack_55 ?_
            refine g_iinc (v := (nI (e1 + 1))) (L' := [(3, .int (nI (e1 + 1))), (0, .ref h), (1, .int (nI x)), (4, .int (nI u0))]) X dX0_goBack_56 2 rfl (pn_inc _) (by decide) rfl ?_
            refine g_iinc (v := (nI (u0 + 1))) (L' := [(4, .int (nI (u0 + 1))), (3, .int (nI (e1 + 1))), (0, .ref h), (1, .int (nI x))]) X dX0_goBack_59 3 rfl (pn_inc _) (by decide) rfl ?_
            refine g_goto X 5 dX0_goBack_62 (by decide) ?_
            refine g_loc (L' := [(0, .ref h), (1, .int (nI x)), (3, .int (nI (e1 + 1))), (4, .int (nI (u0 + 1)))]) [2, 3, 1, 0] rfl ?_
            exact ih5 (pd_st co1 u0 (some (x + 10))) (pd_st q1 e1 u0) (pd_st rk1 u0 e1) (e1 + 1) (u0 + 1) (by omega) hG2 (by omega)
  refine g_loc (L' := [(0, .ref h), (1, .int (nI x)), (3, .int (nI e0)), (4, .int (nI 0))]) [2, 3, 1, 0] rfl ?_
  exact lp5 _ co q rk e0 0 (by omega) (pd_GB_0 hB) (Nat.lt_succ_self _)

set_option maxHeartbeats 4000000 in
set_option maxRecDepth 100000 in
/-- findWay(set, direct) -/
theorem mX_findWay (l : Launch) (D : va_G) (d : ClassId) (h : Nat) (ad : Nat → Nat) (on : Nat) (w e : Nat → Nat) (cl : Nat) (hi : Nat → Nat) (ct : Nat) (wi ro ri fl : Nat → Nat) (co ci : Nat → Option Nat) (q : Nat → Nat) (T : Nat → Nat) (Sm : Nat) (c : Nat → Nat) (dr : Bool) (hTT : ∀ v, v < 10 → (if dr = true then e v else hi v) = T v) (hS : Sm < 1024) (hF : pd_FI T Sm c ro ri fl) (hc0 : ∀ v, v < 10 → ¬ Sm.testBit v = true → c v = 0) (hc9 : ∀ v, v < 10 → c v ≤ 9) : MI l yX0_findWay cX0_findWay 8 .int 1 24 D [(d, .int)] [.ref h, .int (nI Sm), .int (nI dr.toNat)] (wX d h ad on w e cl hi ct wi ro ri fl co ci q) (fun u : (Nat → Option Nat) × (Nat → Option Nat) × (Nat → Nat) × Option Nat × (Nat → Nat) => (wX d h ad on w e cl hi ct wi ro ri fl u.1 u.2.1 u.2.2.1)) (fun r u => r = oI u.2.2.2.1 ∧ (u.2.2.2.1 = none → pd_MC T Sm c (pd_tt fl)) ∧ ∀ x, u.2.2.2.1 = some x → pd_wy T Sm ro ri fl u.1 u.2.1 u.2.2.2.2 x) := by
  refine MI_of (by decide) (Nat.le_of_ble_eq_true rfl) ?_
  intro K hl hD hT X R
  subst hl; subst hD
  have X : Cx K cX0_findWay RX0 (some .int) 8 ({ frames := 1, cells := 0, slots := 0, locals := 24 }) := X
  have t0 : (kT K)[0]? = some (d, .int) := by rw [hT]; rfl
  show Go K 0 0 (wX d h ad on w e cl hi ct wi ro ri fl co ci q) [(0, .ref h), (1, .int (nI Sm)), (2, .int (nI dr.toNat))] 0 []
  refine g_iconst (v := (nI 0)) X dX0_findWay_0 (by decide) ?_
  refine g_istore_n (L' := [(3, .int (nI 0)), (0, .ref h), (1, .int (nI Sm)), (2, .int (nI dr.toNat))]) X dX0_findWay_1 rfl (by decide) rfl ?_
  refine g_iconst (v := (nI 0)) X dX0_findWay_2 (by decide) ?_
  refine g_istore (L' := [(4, .int (nI 0)), (3, .int (nI 0)), (0, .ref h), (1, .int (nI Sm)), (2, .int (nI dr.toNat))]) X dX0_findWay_3 (by decide) rfl ?_
  have lp5 : ∀ (n : Nat) (co1 : Nat → Option Nat) (ci1 : Nat → Option Nat) (q1 : Nat → Nat) (rk1 : Nat → Nat) (e1 : Nat) (v : Nat), (v ≤ 10) → (pd_B0 Sm ro co1 ci1 q1 rk1 e1 v) → 10 - v < n → Go K 0 0 (wX d h ad on w e cl hi ct wi ro ri fl co1 ci1 q1) [(0, .ref h), (1, .int (nI Sm)), (2, .int (nI dr.toNat)), (3, .int (nI e1)), (4, .int (nI v))] 5 [] := by
    intro n
    induction n with
    | zero => intro co1 ci1 q1 rk1 e1 v hv hB hm; exact absurd hm (Nat.not_lt_zero _)
    | succ n ih5 =>
      intro co1 ci1 q1 rk1 e1 v hv hB hm
      refine g_iload X dX0_findWay_5 4 rfl ?_
      refine g_bipush (v := (nI 10)) X dX0_findWay_7 (by decide) ?_
      refine g_icmp_ge (P := 10 ≤ v) X 74 dX0_findWay_9 (by decide) (nI_leI (by omega) (by omega)) (fun c9 => ?_) (fun c9 => ?_)
      · rw [show v = 10 by omega] at hB
        have hW := pd_FW_0 (T := T) (ri := ri) (f := fl) hB
        refine g_iconst (v := (nI 0)) X dX0_findWay_74 (by decide) ?_
        refine g_istore (L' := [(4, .int (nI 0)), (0, .ref h), (1, .int (nI Sm)), (2, .int (nI dr.toNat)), (3, .int (nI e1))]) X dX0_findWay_75 (by decide) rfl ?_
        have lp77 : ∀ (n : Nat) (co2 : Nat → Option Nat) (ci2 : Nat → Option Nat) (q2 : Nat → Nat) (rk2 : Nat → Nat) (e2 : Nat) (i : Nat), (i ≤ e2) → (pd_FW T Sm ro ri fl co2 ci2 q2 rk2 e2 i 0) → 10 - i < n → Go K 0 0 (wX d h ad on w e cl hi ct wi ro ri fl co2 ci2 q2) [(0, .ref h), (1, .int (nI Sm)), (2, .int (nI dr.toNat)), (3, .int (nI e2)), (4, .int (nI i))] 77 [] := by
          intro n
          induction n with
          | zero => intro co2 ci2 q2 rk2 e2 i hie2 hW2 hm; exact absurd hm (Nat.not_lt_zero _)
          | succ n ih77 =>
            intro co2 ci2 q2 rk2 e2 i hie2 hW2 hm
            have he2 := pd_BI_e hW2.1
            refine g_iload X dX0_findWay_77 4 rfl ?_
            refine g_iload_n X dX0_findWay_79 3 rfl rfl ?_
            refine g_icmp_ge (P := e2 ≤ i) X 176 dX0_findWay_80 (by decide) (nI_leI (by omega) (by omega)) (fun c80 => ?_) (fun c80 => ?_)
            · refine g_iconst (v := (-1)) X dX0_findWay_176 (by decide) ?_
              exact R (co2, ci2, q2, none, rk2) (-1) _ _ ⟨rfl, fun _ => pd_FW_end (by rw [show i = e2 by omega] at hW2; exact hW2) hF hc0, fun x hx => by cases hx⟩ rfl dX0_findWay_177
            · have hq := pd_BI_S hW2.1 hF.1 (by omega)
              refine g_aload_n X dX0_findWay_83 0 rfl rfl ?_
              refine g_get X in_X0 0 rfl rfl 12 (by decide) q42 rfl dX0_findWay_84 ?_
              refine g_iload X dX0_findWay_87 4 rfl ?_
              refine g_iald (v := (nI (q2 i))) X 10 0 rfl t0 (by omega) (by decide) rfl dX0_findWay_89 ?_
              refine g_istore (L' := [(5, .int (nI (q2 i))), (0, .ref h), (1, .int (nI Sm)), (2, .int (nI dr.toNat)), (3, .int (nI e2)), (4, .int (nI i))]) X dX0_findWay_90 (by decide) rfl ?_
              refine g_aload_n X dX0_findWay_92 1 rfl rfl ?_
              refine g_iload X dX0_findWay_93 0 rfl ?_
              refine g_iload_n X dX0_findWay_95 3 rfl rfl ?_
              refine g_callV (st := []) (ci := 0) (q := (RX0, TX0, 13)) (wr := []) X (mX_targets _ _ d h ad on w e cl hi ct wi ro ri fl co2 ci2 q2 (q2 i) hq.1 dr) (lw_V q110 q112 qs4 q20 q113) 2 (by decide +kernel) (by decide) (by decide) rfl rfl rfl [0, 1, 2, 3, 4, 5, 6, 7, 8, 9, 10] [] [0] rfl rfl rfl (by decide) (by decide) (by decide) (by rw [hT]; rfl) rfl (Nat.le_of_ble_eq_true rfl) dX0_findWay_96 (fun r u hp => ?_)
              obtain rfl := hp
              rw [hTT (q2 i) hq.1]
              show Go K 0 0 (wX d h ad on w e cl hi ct wi ro ri fl co2 ci2 q2) [(5, .int (nI (q2 i))), (0, .ref h), (1, .int (nI Sm)), (2, .int (nI dr.toNat)), (3, .int (nI e2)), (4, .int (nI i))] 99 [.int (nI (T (q2 i)))]
              refine g_iload_n X dX0_findWay_99 2 rfl rfl ?_
              refine g_iand (v := (nI ((T (q2 i)) &&& Sm))) X dX0_findWay_100 (pn_and _ _) ?_
              refine g_istore (L' := [(6, .int (nI ((T (q2 i)) &&& Sm))), (5, .int (nI (q2 i))), (0, .ref h), (1, .int (nI Sm)), (2, .int (nI dr.toNat)), (3, .int (nI e2)), (4, .int (nI i))]) X dX0_findWay_101 (by decide) rfl ?_
              have hand : T (q2 i) &&& Sm < 1024 := Nat.lt_of_le_of_lt Nat.and_le_right hS
              refine g_iconst (v := (nI 0)) X dX0_findWay_103 (by decide) ?_
              refine g_istore (L' := [(7, .int (nI 0)), (6, .int (nI ((T (q2 i)) &&& Sm))), (5, .int (nI (q2 i))), (0, .ref h), (1, .int (nI Sm)), (2, .int (nI dr.toNat)), (3, .int (nI e2)), (4, .int (nI i))]) X dX0_findWay_104 (by decide) rfl ?_
              have lp106 : ∀ (n : Nat) (co3 : Nat → Option Nat) (ci3 : Nat → Option Nat) (q3 : Nat → Nat) (rk3 : Nat → Nat) (e3 : Nat) (w1 : Nat), (w1 ≤ 10) → (i < e3) → (q3 i = q2 i) → (pd_FW T Sm ro ri fl co3 ci3 q3 rk3 e3 i w1) → 10 - w1 < n → Go K 0 0 (wX d h ad on w e cl hi ct wi ro ri fl co3 ci3 q3) [(0, .ref h), (1, .int (nI Sm)), (2, .int (nI dr.toNat)), (3, .int (nI e3)), (4, .int (nI i)), (5, .int (nI (q2 i))), (6, .int (nI ((T (q2 i)) &&& Sm))), (7, .int (nI w1))] 106 [] := by
                intro n
                induction n with
                | zero => intro co3 ci3 q3 rk3 e3 w1 hw1 hie hq3 hW3 hm; exact absurd hm (Nat.not_lt_zero _)
                | succ n ih106 =>
                  intro co3 ci3 q3 rk3 e3 w1 hw1 hie hq3 hW3 hm
                  have he3 := pd_BI_e hW3.1
                  refine g_iload X dX0_findWay_106 7 rfl ?_
                  refine g_bipush (v := (nI 10)) X dX0_findWay_108 (by decide) ?_
                  refine g_icmp_ge (P := 10 ≤ w1) X 170 dX0_findWay_110 (by decide) (nI_leI (by omega) (by omega)) (fun c110 => ?_) (fun c110 => ?_)
                  · refine g_iinc (v := (nI (i + 1))) (L' := [(4, .int (nI (i + 1))), (0, .ref h), (1, .int (nI Sm)), (2, .int (nI dr.toNat)), (3, .int (nI e3)), (5, .int (nI (q2 i))), (6, .int (nI ((T (q2 i)) &&& Sm))), (7, .int (nI w1))]) X dX0_findWay_170 4 rfl (pn_inc _) (by decide) rfl ?_
                    refine g_goto X 77 dX0_findWay_173 (by decide) ?_
                    refine g_loc (L' := [(0, .ref h), (1, .int (nI Sm)), (2, .int (nI dr.toNat)), (3, .int (nI e3)), (4, .int (nI (i + 1)))]) [1, 2, 3, 4, 0] rfl ?_
                    exact ih77 co3 ci3 q3 rk3 e3 (i + 1) (by omega) (pd_FW_next (by rw [show w1 = 10 by omega] at hW3; exact hW3)) (by have := pd_BI_e hW3.1; omega)
                  · refine g_iload X dX0_findWay_113 6 rfl ?_
                    refine g_iload X dX0_findWay_115 7 rfl ?_
                    refine g_ishr (v := (nI (((T (q2 i)) &&& Sm) >>> w1))) X dX0_findWay_117 (pn_shr (by omega) (by omega)) ?_
                    refine g_iconst (v := (nI 1)) X dX0_findWay_118 (by decide) ?_
                    refine g_iand (v := (nI ((((T (q2 i)) &&& Sm) >>> w1) &&& 1))) X dX0_findWay_119 (pn_and _ _) ?_
                    refine g_iconst (v := (nI 1)) X dX0_findWay_120 (by decide) ?_
                    refine g_icmp_ne (P := ((T (q2 i)) &&& Sm).testBit w1 = true) X 164 dX0_findWay_121 (by decide) (pn_b1 _ _) (fun c121 => ?_) (fun c121 => ?_)
                    · refine g_iinc (v := (nI (w1 + 1))) (L' := [(7, .int (nI (w1 + 1))), (0, .ref h), (1, .int (nI Sm)), (2, .int (nI dr.toNat)), (3, .int (nI e3)), (4, .int (nI i)), (5, .int (nI (q2 i))), (6, .int (nI ((T (q2 i)) &&& Sm)))]) X dX0_findWay_164 7 rfl (pn_inc _) (by decide) rfl ?_
                      refine g_goto X 106 dX0_findWay_167 (by decide) ?_
                      refine g_loc (L' := [(0, .ref h), (1, .int (nI Sm)), (2, .int (nI dr.toNat)), (3, .int (nI e3)), (4, .int (nI i)), (5, .int (nI (q2 i))), (6, .int (nI ((T (q2 i)) &&& Sm))), (7, .int (nI (w1 + 1)))]) [1, 2, 3, 4, 5, 6, 7, 0] rfl ?_
                      exact ih106 co3 ci3 q3 rk3 e3 (w1 + 1) (by omega) hie hq3 (pd_FW_skip hW3 (fun z => absurd (by rw [Nat.testBit_and, ← hq3, z.2.2, z.2.1]; rfl) c121)) (by omega)
                    · refine g_aload_n X dX0_findWay_124 0 rfl rfl ?_
                      refine g_get X in_X0 0 rfl rfl 11 (by decide) q41 rfl dX0_findWay_125 ?_
                      refine g_iload X dX0_findWay_128 7 rfl ?_
                      refine g_iald (v := (oI (ci3 w1))) X 9 0 rfl t0 (by omega) (by decide) rfl dX0_findWay_130 ?_
                      refine g_if_ge (P := (ci3 w1).isSome = true) X 164 dX0_findWay_131 (by decide) (pn_oge (fun k hk => by have := (hW3.1.2.2.2.2 w1 (by omega) k hk).1; omega)) (fun c131 => ?_) (fun c131 => ?_)
                      · refine g_iinc (v := (nI (w1 + 1))) (L' := [(7, .int (nI (w1 + 1))), (0, .ref h), (1, .int (nI Sm)), (2, .int (nI dr.toNat)), (3, .int (nI e3)), (4, .int (nI i)), (5, .int (nI (q2 i))), (6, .int (nI ((T (q2 i)) &&& Sm)))]) X dX0_findWay_164 7 rfl (pn_inc _) (by decide) rfl ?_
                        refine g_goto X 106 dX0_findWay_167 (by decide) ?_
                        refine g_loc (L' := [(0, .ref h), (1, .int (nI Sm)), (2, .int (nI dr.toNat)), (3, .int (nI e3)), (4, .int (nI i)), (5, .int (nI (q2 i))), (6, .int (nI ((T (q2 i)) &&& Sm))), (7, .int (nI (w1 + 1)))]) [1, 2, 3, 4, 5, 6, 7, 0] rfl ?_
                        exact ih106 co3 ci3 q3 rk3 e3 (w1 + 1) (by omega) hie hq3 (pd_FW_skip hW3 (fun _ => c131)) (by omega)
                      · have hn3 := pd_none c131
                        have harc : pd_arc T Sm (q3 i) w1 := pd_FW_arc hW3 hF.1 hie (by rw [hq3]; exact c121)
                        refine g_aload_n X dX0_findWay_134 0 rfl rfl ?_
                        refine g_get X in_X0 0 rfl rfl 11 (by decide) q41 rfl dX0_findWay_135 ?_
                        refine g_iload X dX0_findWay_138 7 rfl ?_
                        refine g_iload X dX0_findWay_140 5 rfl ?_
                        refine g_iast (ws' := (wX d h ad on w e cl hi ct wi ro ri fl co3 (pd_st ci3 w1 (some (q2 i))) q3)) X 9 0 rfl t0 (by omega) (by decide) (oF_st ci3 w1 (some (q2 i))) rfl dX0_findWay_142 ?_
                        refine g_aload_n X dX0_findWay_143 0 rfl rfl ?_
                        refine g_get X in_X0 0 rfl rfl 8 (by decide) q38 rfl dX0_findWay_144 ?_
                        refine g_iload X dX0_findWay_147 7 rfl ?_
                        refine g_iald (v := (nI (ri w1))) X 6 0 rfl t0 (by omega) (by decide) rfl dX0_findWay_149 ?_
                        refine g_if_le (P := ri w1 = 0) X 156 dX0_findWay_150 (by decide) (pn_le0 (by have := pd_FI_le hF (u := 0) (w := w1) (by omega) (by omega); have := hc9 w1 (by omega); omega)) (fun c150 => ?_) (fun c150 => ?_)
                        · have hBI := pd_BI_ci hW3.1 hie hn3 harc
                          rw [hq3] at hBI
                          refine g_aload_n X dX0_findWay_156 0 rfl rfl ?_
                          refine g_iload X dX0_findWay_157 7 rfl ?_
                          refine g_iload_n X dX0_findWay_159 3 rfl rfl ?_
                          refine g_callV (st := []) (ci := 0) (q := (RX0, TX0, 13)) (wr := []) X (mX_goBack _ _ d h ad on w e cl hi ct wi ro ri fl co3 (pd_st ci3 w1 (some (q2 i))) q3 T Sm rk3 w1 e3 i (q2 i) hBI hie (by omega) pd_st_s (pd_FI_9 hF hc9)) (lw_V q114 q116 qs5 q20 q117) 2 (by decide +kernel) (by decide) (by decide) rfl rfl rfl [0, 1, 2, 3, 4, 5, 6, 7, 8, 9, 10] [] [0] rfl rfl rfl (by decide) (by decide) (by decide) (by rw [hT]; rfl) rfl (Nat.le_of_ble_eq_true rfl) dX0_findWay_160 (fun r u hp => ?_)
                          obtain ⟨co4, q4, e4, rk4⟩ := u
                          obtain ⟨hr, hg⟩ := hp
                          have hr : r = nI e4 := hr
                          subst hr
                          have hg : pd_GB T Sm ro fl (pd_st ci3 w1 (some (q2 i))) w1 i co3 q3 e3 co4 q4 rk4 e4 10 := hg
                          have hfb := pd_FW_back hW3 hie (by omega) hn3 c150 (by rw [hq3]; exact hg)
                          rw [hq3] at hfb
                          show Go K 0 0 (wX d h ad on w e cl hi ct wi ro ri fl co4 (pd_st ci3 w1 (some (q2 i))) q4) [(0, .ref h), (1, .int (nI Sm)), (2, .int (nI dr.toNat)), (3, .int (nI e3)), (4, .int (nI i)), (5, .int (nI (q2 i))), (6, .int (nI ((T (q2 i)) &&& Sm))), (7, .int (nI w1))] 163 [.int (nI e4)]
                          refine g_istore_n (L' := [(3, .int (nI e4)), (0, .ref h), (1, .int (nI Sm)), (2, .int (nI dr.toNat)), (4, .int (nI i)), (5, .int (nI (q2 i))), (6, .int (nI ((T (q2 i)) &&& Sm))), (7, .int (nI w1))]) X dX0_findWay_163 rfl (by decide) rfl ?_
                          refine g_iinc (v := (nI (w1 + 1))) (L' := [(7, .int (nI (w1 + 1))), (3, .int (nI e4)), (0, .ref h), (1, .int (nI Sm)), (2, .int (nI dr.toNat)), (4, .int (nI i)), (5, .int (nI (q2 i))), (6, .int (nI ((T (q2 i)) &&& Sm)))]) X dX0_findWay_164 7 rfl (pn_inc _) (by decide) rfl ?_
                          refine g_goto X 106 dX0_findWay_167 (by decide) ?_
                          refine g_loc (L' := [(0, .ref h), (1, .int (nI Sm)), (2, .int (nI dr.toNat)), (3, .int (nI e4)), (4, .int (nI i)), (5, .int (nI (q2 i))), (6, .int (nI ((T (q2 i)) &&& Sm))), (7, .int (nI (w1 + 1)))]) [2, 3, 4, 1, 5, 6, 7, 0] rfl ?_
                          exact ih106 co4 (pd_st ci3 w1 (some (q2 i))) q4 rk4 e4 (w1 + 1) (by omega) hfb.1 ((hg.2.2.1 i hie).trans hq3) hfb.2 (by omega)
                        · refine g_iload X dX0_findWay_153 7 rfl ?_
                          exact R (co3, pd_st ci3 w1 (some (q2 i)), q3, some w1, rk3) (nI w1) _ _ ⟨rfl, fun z => (by cases z), fun x hx => by cases hx; rw [← hq3]; exact pd_FW_way hW3 hie (by omega) harc hn3 (by omega)⟩ rfl dX0_findWay_155
              refine g_loc (L' := [(0, .ref h), (1, .int (nI Sm)), (2, .int (nI dr.toNat)), (3, .int (nI e2)), (4, .int (nI i)), (5, .int (nI (q2 i))), (6, .int (nI ((T (q2 i)) &&& Sm))), (7, .int (nI 0))]) [3, 4, 5, 6, 7, 2, 1, 0] rfl ?_
              exact lp106 _ co2 ci2 q2 rk2 e2 0 (by omega) (by omega) rfl hW2 (Nat.lt_succ_self _)
        refine g_loc (L' := [(0, .ref h), (1, .int (nI Sm)), (2, .int (nI dr.toNat)), (3, .int (nI e1)), (4, .int (nI 0))]) [1, 2, 3, 4, 0] rfl ?_
        exact lp77 _ co1 ci1 q1 rk1 e1 0 (by omega) hW (Nat.lt_succ_self _)
      · refine g_aload_n X dX0_findWay_12 0 rfl rfl ?_
        refine g_get X in_X0 0 rfl rfl 10 (by decide) q40 rfl dX0_findWay_13 ?_
        refine g_iload X dX0_findWay_16 4 rfl ?_
        refine g_iconst (v := (-1)) X dX0_findWay_18 (by decide) ?_
        refine g_iast (ws' := (wX d h ad on w e cl hi ct wi ro ri fl (pd_st co1 v none) ci1 q1)) X 8 0 rfl t0 (by omega) (by decide) (oF_st co1 v none) rfl dX0_findWay_19 ?_
        refine g_aload_n X dX0_findWay_20 0 rfl rfl ?_
        refine g_get X in_X0 0 rfl rfl 11 (by decide) q41 rfl dX0_findWay_21 ?_
        refine g_iload X dX0_findWay_24 4 rfl ?_
        refine g_iconst (v := (-1)) X dX0_findWay_26 (by decide) ?_
        refine g_iast (ws' := (wX d h ad on w e cl hi ct wi ro ri fl (pd_st co1 v none) (pd_st ci1 v none) q1)) X 9 0 rfl t0 (by omega) (by decide) (oF_st ci1 v none) rfl dX0_findWay_27 ?_
        refine g_iload_n X dX0_findWay_28 1 rfl rfl ?_
        refine g_iload X dX0_findWay_29 4 rfl ?_
        refine g_ishr (v := (nI (Sm >>> v))) X dX0_findWay_31 (pn_shr (by omega) (by omega)) ?_
        refine g_iconst (v := (nI 1)) X dX0_findWay_32 (by decide) ?_
        refine g_iand (v := (nI ((Sm >>> v) &&& 1))) X dX0_findWay_33 (pn_and _ _) ?_
        refine g_iconst (v := (nI 1)) X dX0_findWay_34 (by decide) ?_
        refine g_icmp_ne (P := (Sm).testBit v = true) X 68 dX0_findWay_35 (by decide) (pn_b1 _ _) (fun c35 => ?_) (fun c35 => ?_)
        · refine g_iinc (v := (nI (v + 1))) (L' := [(4, .int (nI (v + 1))), (0, .ref h), (1, .int (nI Sm)), (2, .int (nI dr.toNat)), (3, .int (nI e1))]) X dX0_findWay_68 4 rfl (pn_inc _) (by decide) rfl ?_
          refine g_goto X 5 dX0_findWay_71 (by decide) ?_
          refine g_loc (L' := [(0, .ref h), (1, .int (nI Sm)), (2, .int (nI dr.toNat)), (3, .int (nI e1)), (4, .int (nI (v + 1)))]) [1, 2, 3, 4, 0] rfl ?_
          exact ih5 (pd_st co1 v none) (pd_st ci1 v none) q1 rk1 e1 (v + 1) (by omega) (pd_B0_no hB (fun z => c35 z.1)) (by omega)
        · refine g_aload_n X dX0_findWay_38 0 rfl rfl ?_
          refine g_get X in_X0 0 rfl rfl 7 (by decide) q37 rfl dX0_findWay_39 ?_
          refine g_iload X dX0_findWay_42 4 rfl ?_
          refine g_iald (v := (nI (ro v))) X 5 0 rfl t0 (by omega) (by decide) rfl dX0_findWay_44 ?_
          refine g_if_le (P := ro v = 0) X 68 dX0_findWay_45 (by decide) (pn_le0 (by have := pd_FI_le hF (u := v) (w := 0) (by omega) (by omega); have := hc9 v (by omega); omega)) (fun c45 => ?_) (fun c45 => ?_)
          · refine g_iinc (v := (nI (v + 1))) (L' := [(4, .int (nI (v + 1))), (0, .ref h), (1, .int (nI Sm)), (2, .int (nI dr.toNat)), (3, .int (nI e1))]) X dX0_findWay_68 4 rfl (pn_inc _) (by decide) rfl ?_
            refine g_goto X 5 dX0_findWay_71 (by decide) ?_
            refine g_loc (L' := [(0, .ref h), (1, .int (nI Sm)), (2, .int (nI dr.toNat)), (3, .int (nI e1)), (4, .int (nI (v + 1)))]) [1, 2, 3, 4, 0] rfl ?_
            exact ih5 (pd_st co1 v none) (pd_st ci1 v none) q1 rk1 e1 (v + 1) (by omega) (pd_B0_no hB (fun z => absurd z.2 (by omega))) (by omega)
          · refine g_aload_n X dX0_findWay_48 0 rfl rfl ?_
            refine g_get X in_X0 0 rfl rfl 10 (by decide) q40 rfl dX0_findWay_49 ?_
            refine g_iload X dX0_findWay_52 4 rfl ?_
            refine g_iload X dX0_findWay_54 4 rfl ?_
            refine g_iast (ws' := (wX d h ad on w e cl hi ct wi ro ri fl (pd_st (pd_st co1 v none) v (some v)) (pd_st ci1 v none) q1)) X 8 0 rfl t0 (by omega) (by decide) (oF_st (pd_st co1 v none) v (some v)) rfl dX0_findWay_56 ?_
            refine g_aload_n X dX0_findWay_57 0 rfl rfl ?_
            refine g_get X in_X0 0 rfl rfl 12 (by decide) q42 rfl dX0_findWay_58 ?_
            refine g_iload_n X dX0_findWay_61 3 rfl rfl ?_
            refine g_iload X dX0_findWay_62 4 rfl ?_
            refine g_iast (ws' := (wX d h ad on w e cl hi ct wi ro ri fl (pd_st (pd_st co1 v none) v (some v)) (pd_st ci1 v none) (pd_st q1 e1 v))) X 10 0 rfl t0 (by have := pd_B0_le hB; omega) (by decide) (nF_st _ _ _) rfl dX0_findWay_64 ?_
            refine g_iinc (v := (nI (e1 + 1))) (L' := [(3, .int (nI (e1 + 1))), (0, .ref h), (1, .int (nI Sm)), (2, .int (nI dr.toNat)), (4, .int (nI v))]) X dX0_findWay_65 3 rfl (pn_inc _) (by decide) rfl ?_
            refine g_iinc (v := (nI (v + 1))) (L' := [(4, .int (nI (v + 1))), (3, .int (nI (e1 + 1))), (0, .ref h), (1, .int (nI Sm)), (2, .int (nI dr.toNat))]) X dX0_findWay_68 4 rfl (pn_inc _) (by decide) rfl ?_
            refine g_goto X 5 dX0_findWay_71 (by decide) ?_
            refine g_loc (L' := [(0, .ref h), (1, .int (nI Sm)), (2, .int (nI dr.toNat)), (3, .int (nI (e1 + 1))), (4, .int (nI (v + 1)))]) [2, 3, 4, 1, 0] rfl ?_
            exact ih5 (pd_st (pd_st co1 v none) v (some v)) (pd_st ci1 v none) (pd_st q1 e1 v) (pd_st rk1 v e1) (e1 + 1) (v + 1) (by omega) (pd_B0_yes hB c35 (by omega)) (by omega)
  refine g_loc (L' := [(0, .ref h), (1, .int (nI Sm)), (2, .int (nI dr.toNat)), (3, .int (nI 0)), (4, .int (nI 0))]) [2, 3, 4, 1, 0] rfl ?_
  exact lp5 _ co ci q (fun _ => 0) 0 0 (by omega) pd_B0_0 (Nat.lt_succ_self _)

set_option maxHeartbeats 4000000 in
set_option maxRecDepth 100000 in
/-- send(x) -/
theorem mX_send (l : Launch) (D : va_G) (d : ClassId) (h : Nat) (ad : Nat → Nat) (on : Nat) (w e : Nat → Nat) (cl : Nat) (hi : Nat → Nat) (ct : Nat) (wi ro ri fl : Nat → Nat) (co ci : Nat → Option Nat) (q : Nat → Nat) (T : Nat → Nat) (Sm : Nat) (c : Nat → Nat) (rk : Nat → Nat) (x : Nat) (hF : pd_FI T Sm c ro ri fl) (hwy : pd_wy T Sm ro ri fl co ci rk x) (hc9 : ∀ v, v < 10 → c v ≤ 9) : MV l yX0_send cX0_send 5 0 0 0 0 D [(d, .int)] [.ref h, .int (nI x)] (wX d h ad on w e cl hi ct wi ro ri fl co ci q) (fun u : (Nat → Nat) × (Nat → Nat) × (Nat → Nat) => (wX d h ad on w e cl hi ct wi u.1 u.2.1 u.2.2 co ci q)) (fun u => pd_FI T Sm c u.1 u.2.1 u.2.2 ∧ pd_tt u.2.2 = pd_tt fl + 1) := by
  refine MV_of (by decide) (Nat.le_of_ble_eq_true rfl) ?_
  intro K hl hD hT X hnm R
  subst hl; subst hD
  have X : Cx K cX0_send RX0 none 5 ({ frames := 0, cells := 0, slots := 0, locals := 0 }) := X
  have t0 : (kT K)[0]? = some (d, .int) := by rw [hT]; rfl
  show Go K 0 0 (wX d h ad on w e cl hi ct wi ro ri fl co ci q) [(0, .ref h), (1, .int (nI x))] 0 []
  have hx10 := hwy.1
  have hrx := hwy.2.1
  refine g_iload_n X dX0_send_0 1 rfl rfl ?_
  refine g_istore_n (L' := [(2, .int (nI x)), (0, .ref h), (1, .int (nI x))]) X dX0_send_1 rfl (by decide) rfl ?_
  refine g_aload_n X dX0_send_2 1 rfl rfl ?_
  refine g_get X in_X0 0 rfl rfl 8 (by decide) q38 rfl dX0_send_3 ?_
  refine g_iload_n X dX0_send_6 0 rfl rfl ?_
  refine g_dup2 X dX0_send_7 rfl rfl ?_
  refine g_iald (v := (nI (ri x))) X 6 0 rfl t0 (by omega) (by decide) rfl dX0_send_8 ?_
  refine g_iconst (v := (nI 1)) X dX0_send_9 (by decide) ?_
  refine g_isub (v := (nI ((ri x) - 1))) X dX0_send_10 (pk_sub (by omega)) ?_
  refine g_iast (ws' := (wX d h ad on w e cl hi ct wi ro (pd_st ri x ((ri x) - 1)) fl co ci q)) X 6 0 rfl t0 (by omega) (by decide) (nF_st _ _ _) rfl dX0_send_11 ?_
  refine g_iconst (v := (nI 0)) X dX0_send_12 (by decide) ?_
  refine g_istore_n (L' := [(3, .int (nI 0)), (2, .int (nI x)), (0, .ref h), (1, .int (nI x))]) X dX0_send_13 rfl (by decide) rfl ?_
  have lp14 : ∀ (n : Nat) (f1 : Nat → Nat) (w1 : Nat) (i : Nat), (pd_SI T Sm c ro (pd_st ri x (ri x - 1)) f1 fl ci rk (pd_tt fl) w1 i) → 10 - i < n → Go K 0 0 (wX d h ad on w e cl hi ct wi ro (pd_st ri x ((ri x) - 1)) f1 co ci q) [(0, .ref h), (2, .int (nI w1)), (3, .int (nI i))] 14 [] := by
    intro n
    induction n with
    | zero => intro f1 w1 i hSI hm; exact absurd hm (Nat.not_lt_zero _)
    | succ n ih14 =>
      intro f1 w1 i hSI hm
      have hi10 : i < 10 := by obtain ⟨-, -, -, -, -, v0, -, hlt, -⟩ := hSI; omega
      have hw10 : w1 < 10 := hSI.2.2.2.2.1
      refine g_iload_n X dX0_send_14 2 rfl rfl ?_
      refine g_bipush (v := (nI 10)) X dX0_send_15 (by decide) ?_
      refine g_icmp_ge (P := 10 ≤ i) X 101 dX0_send_17 (by decide) (nI_leI (by omega) (by omega)) (fun c17 => ?_) (fun c17 => ?_)
      · exact absurd c17 (by omega)
      · obtain ⟨v, hcv⟩ : ∃ v, ci w1 = some v := by obtain ⟨-, -, -, -, -, v0, h0, -⟩ := hSI; exact ⟨v0, h0⟩
        obtain ⟨hv10, hvs, harc, hrk⟩ := hwy.2.2.2.1 w1 hw10 v hcv
        obtain ⟨k, hk⟩ := Option.isSome_iff_exists.mp hvs
        have hk2 := hwy.2.2.2.2 v hv10 k hk
        refine g_aload_n X dX0_send_20 0 rfl rfl ?_
        refine g_get X in_X0 0 rfl rfl 11 (by decide) q41 rfl dX0_send_21 ?_
        refine g_iload_n X dX0_send_24 1 rfl rfl ?_
        refine g_iald (v := (nI v)) X 9 0 rfl t0 (by omega) (by decide) (congrArg oI hcv) dX0_send_25 ?_
        refine g_istore (L' := [(4, .int (nI v)), (0, .ref h), (2, .int (nI w1)), (3, .int (nI i))]) X dX0_send_26 (by decide) rfl ?_
        refine g_aload_n X dX0_send_28 1 rfl rfl ?_
        refine g_get X in_X0 0 rfl rfl 9 (by decide) q39 rfl dX0_send_29 ?_
        refine g_iload X dX0_send_32 0 rfl ?_
        refine g_bipush (v := (nI 10)) X dX0_send_34 (by decide) ?_
        refine g_imul (v := (nI (v * 10))) X dX0_send_36 (pk_mul _ _) ?_
        refine g_iload_n X dX0_send_37 2 rfl rfl ?_
        refine g_iadd (v := (nI ((v * 10) + w1))) X dX0_send_38 (nI_add _ _) ?_
        refine g_dup2 X dX0_send_39 rfl rfl ?_
        refine g_iald (v := (nI (f1 ((v * 10) + w1)))) X 7 0 rfl t0 (by omega) (by decide) rfl dX0_send_40 ?_
        refine g_iconst (v := (nI 1)) X dX0_send_41 (by decide) ?_
        refine g_iadd (v := (nI ((f1 ((v * 10) + w1)) + 1))) X dX0_send_42 (nI_add _ _) ?_
        refine g_iast (ws' := (wX d h ad on w e cl hi ct wi ro (pd_st ri x ((ri x) - 1)) (pd_st f1 ((v * 10) + w1) ((f1 ((v * 10) + w1)) + 1)) co ci q)) X 7 0 rfl t0 (by omega) (by decide) (nF_st _ _ _) rfl dX0_send_43 ?_
        refine g_aload_n X dX0_send_44 1 rfl rfl ?_
        refine g_get X in_X0 0 rfl rfl 10 (by decide) q40 rfl dX0_send_45 ?_
        refine g_iload X dX0_send_48 0 rfl ?_
        refine g_iald (v := (nI k)) X 8 0 rfl t0 (by omega) (by decide) (congrArg oI hk) dX0_send_50 ?_
        refine g_iload X dX0_send_51 0 rfl ?_
        refine g_icmp_ne (P := k = v) X 68 dX0_send_53 (by decide) (nI_eq (by rcases hk2 with z | ⟨z, z1, z2, -⟩ <;> omega) (by omega)) (fun c53 => ?_) (fun c53 => ?_)
        · obtain ⟨y, hy, rfl, hfy, v', hcv', hrk'⟩ := hk2.resolve_left (fun z => c53 z.1)
          have hst := pd_SI_step hSI hv10 hcv harc hy hfy hcv' hrk'
          refine g_aload_n X dX0_send_68 1 rfl rfl ?_
          refine g_get X in_X0 0 rfl rfl 10 (by decide) q40 rfl dX0_send_69 ?_
          refine g_iload X dX0_send_72 0 rfl ?_
          refine g_iald (v := (nI (y + 10))) X 8 0 rfl t0 (by omega) (by decide) (congrArg oI hk) dX0_send_74 ?_
          refine g_bipush (v := (nI 10)) X dX0_send_75 (by decide) ?_
          refine g_isub (v := (nI y)) X dX0_send_77 ((pk_sub (by omega)).trans (congrArg nI (Nat.add_sub_cancel _ _))) ?_
          refine g_istore_n (L' := [(2, .int (nI y)), (4, .int (nI v)), (0, .ref h), (3, .int (nI i))]) X dX0_send_78 rfl (by decide) rfl ?_
          refine g_aload_n X dX0_send_79 2 rfl rfl ?_
          refine g_get X in_X0 0 rfl rfl 9 (by decide) q39 rfl dX0_send_80 ?_
          refine g_iload X dX0_send_83 1 rfl ?_
          refine g_bipush (v := (nI 10)) X dX0_send_85 (by decide) ?_
          refine g_imul (v := (nI (v * 10))) X dX0_send_87 (pk_mul _ _) ?_
          refine g_iload_n X dX0_send_88 0 rfl rfl ?_
          refine g_iadd (v := (nI ((v * 10) + y))) X dX0_send_89 (nI_add _ _) ?_
          refine g_dup2 X dX0_send_90 rfl rfl ?_
          refine g_iald (v := (nI ((pd_st f1 ((v * 10) + w1) ((f1 ((v * 10) + w1)) + 1)) ((v * 10) + y)))) X 7 0 rfl t0 (by omega) (by decide) rfl dX0_send_91 ?_
          refine g_iconst (v := (nI 1)) X dX0_send_92 (by decide) ?_
          refine g_isub (v := (nI (((pd_st f1 ((v * 10) + w1) ((f1 ((v * 10) + w1)) + 1)) ((v * 10) + y)) - 1))) X dX0_send_93 (pk_sub (by have := hst.1; omega)) ?_
          refine g_iast (ws' := (wX d h ad on w e cl hi ct wi ro (pd_st ri x ((ri x) - 1)) (pd_st (pd_st f1 ((v * 10) + w1) ((f1 ((v * 10) + w1)) + 1)) ((v * 10) + y) (((pd_st f1 ((v * 10) + w1) ((f1 ((v * 10) + w1)) + 1)) ((v * 10) + y)) - 1)) co ci q)) X 7 0 rfl t0 (by omega) (by decide) (nF_st _ _ _) rfl dX0_send_94 ?_
          refine g_iinc (v := (nI (i + 1))) (L' := [(3, .int (nI (i + 1))), (2, .int (nI y)), (4, .int (nI v)), (0, .ref h)]) X dX0_send_95 3 rfl (pn_inc _) (by decide) rfl ?_
          refine g_goto X 14 dX0_send_98 (by decide) ?_
          refine g_loc (L' := [(0, .ref h), (2, .int (nI y)), (3, .int (nI (i + 1)))]) [3, 1, 0] rfl ?_
          exact ih14 (pd_st (pd_st f1 (v * 10 + w1) (f1 (v * 10 + w1) + 1)) (v * 10 + y) (pd_st f1 (v * 10 + w1) (f1 (v * 10 + w1) + 1) (v * 10 + y) - 1)) y (i + 1) hst.2 (by omega)
        · have hro : 0 < ro v := by rcases hk2 with z | ⟨z, z1, z2, -⟩ <;> first | exact z.2 | omega
          refine g_aload_n X dX0_send_56 1 rfl rfl ?_
          refine g_get X in_X0 0 rfl rfl 7 (by decide) q37 rfl dX0_send_57 ?_
          refine g_iload X dX0_send_60 0 rfl ?_
          refine g_dup2 X dX0_send_62 rfl rfl ?_
          refine g_iald (v := (nI (ro v))) X 5 0 rfl t0 (by omega) (by decide) rfl dX0_send_63 ?_
          refine g_iconst (v := (nI 1)) X dX0_send_64 (by decide) ?_
          refine g_isub (v := (nI ((ro v) - 1))) X dX0_send_65 (pk_sub (by omega)) ?_
          refine g_iast (ws' := (wX d h ad on w e cl hi ct wi (pd_st ro v ((ro v) - 1)) (pd_st ri x ((ri x) - 1)) (pd_st f1 ((v * 10) + w1) ((f1 ((v * 10) + w1)) + 1)) co ci q)) X 5 0 rfl t0 (by omega) (by decide) (nF_st _ _ _) rfl dX0_send_66 ?_
          exact R (pd_st ro v (ro v - 1), pd_st ri x (ri x - 1), pd_st f1 (v * 10 + w1) (f1 (v * 10 + w1) + 1)) _ _ (pd_SI_end hSI hv10 hcv harc hro) dX0_send_67
  refine g_loc (L' := [(0, .ref h), (2, .int (nI x)), (3, .int (nI 0))]) [2, 1, 0] rfl ?_
  exact lp14 _ fl x 0 (pd_SI_0 hF hwy) (Nat.lt_succ_self _)
end
section
/-! HELP 2 -/
theorem pd_wd_le (U : Nat → Nat) (S : Nat) : pd_wd U S ≤ 10 := by
  obtain ⟨A, -, -, h⟩ := pd_wd_at U S
  rw [← h]; exact pd_bc_le A
/-- a weight summed up to n -/
def pd_wk (w : Nat → Nat) (s : Nat) (n : Nat) : Nat := pd_sm (fun v => if s.testBit v = true then w v else 0) n
theorem pd_wk_y {w : Nat → Nat} {s n : Nat} (h : s.testBit n = true) : pd_wk w s (n + 1) = pd_wk w s n + w n := by
  show pd_wk w s n + (if s.testBit n = true then w n else 0) = _
  rw [if_pos h]
theorem pd_wk_n {w : Nat → Nat} {s n : Nat} (h : ¬ s.testBit n = true) : pd_wk w s (n + 1) = pd_wk w s n := by
  show pd_wk w s n + (if s.testBit n = true then w n else 0) = _
  rw [if_neg h]; rfl
abbrev SX : Type := Nat × (Nat → Nat) × (Nat → Nat) × (Nat → Nat) × (Nat → Nat) × (Nat → Option Nat) × (Nat → Option Nat) × (Nat → Nat)
end
section
/-! WALK 33: PathCoverDag, match, widthOf, chains, width, antichain, paths, heaviest -/

set_option maxHeartbeats 4000000 in
set_option maxRecDepth 100000 in
/-- match(set, direct, weighted) -/
theorem mX_match (l : Launch) (D : va_G) (d : ClassId) (h : Nat) (ad : Nat → Nat) (on : Nat) (w e : Nat → Nat) (cl : Nat) (hi : Nat → Nat) (ct : Nat) (wi ro ri fl : Nat → Nat) (co ci : Nat → Option Nat) (q : Nat → Nat) (hE : pd_Ed e) (hw9 : ∀ v, v < 10 → w v ≤ 9) (hcl : cl = 0 ∨ (cl = 1 ∧ ∀ v, v < 10 → hi v = pd_up e v)) (s : Nat) (hs : s < 1024) (dr wt : Bool) : MI l yX0_match cX0_match 7 .int 2 51 D [(d, .int)] [.ref h, .int (nI s), .int (nI dr.toNat), .int (nI wt.toNat)] (wX d h ad on w e cl hi ct wi ro ri fl co ci q) (fun u : SX => (wX d h ad on w e 1 u.2.1 ct wi u.2.2.1 u.2.2.2.1 u.2.2.2.2.1 u.2.2.2.2.2.1 u.2.2.2.2.2.2.1 u.2.2.2.2.2.2.2)) (fun r u => r = nI u.1 ∧ pd_MC (pd_T dr e) s (pd_cp (pd_W wt w) s) u.1 ∧ ∀ v, v < 10 → u.2.1 v = pd_up e v) := by
  refine MI_of (by decide) (Nat.le_of_ble_eq_true rfl) ?_
  intro K hl hD hT X R
  subst hl; subst hD
  have X : Cx K cX0_match RX0 (some .int) 7 ({ frames := 2, cells := 0, slots := 0, locals := 51 }) := X
  have t0 : (kT K)[0]? = some (d, .int) := by rw [hT]; rfl
  show Go K 0 0 (wX d h ad on w e cl hi ct wi ro ri fl co ci q) [(0, .ref h), (1, .int (nI s)), (2, .int (nI dr.toNat)), (3, .int (nI wt.toNat))] 0 []
  refine g_aload_n X dX0_match_0 0 rfl rfl ?_
  refine g_callVv (st := []) (ci := 0) (q := (RX0, TX0, 13)) (wr := []) X (mX_close _ _ d h ad on w e cl hi ct wi ro ri fl co ci q hE hcl) (lw_V q90 q92 qs0 q20 q93) 0 (by decide +kernel) (by decide) (by decide) rfl rfl rfl [0, 1, 2, 3, 4, 5, 6, 7, 8, 9, 10] [] [0] rfl rfl rfl (by decide) (by decide) (by decide) (by rw [hT]; rfl) rfl (Nat.le_of_ble_eq_true rfl) dX0_match_1 (fun hi1 hh => ?_)
  show Go K 0 0 (wX d h ad on w e 1 hi1 ct wi ro ri fl co ci q) [(0, .ref h), (1, .int (nI s)), (2, .int (nI dr.toNat)), (3, .int (nI wt.toNat))] 4 []
  have hTT : ∀ v, v < 10 → (if dr = true then e v else hi1 v) = pd_T dr e v := fun v hv => by rw [hh v hv]; rfl
  have hc0 : ∀ v, v < 10 → ¬ s.testBit v = true → (pd_cp (pd_W wt w) s) v = 0 := fun v _ z => pd_cp_n z
  have hc9 : ∀ v, v < 10 → (pd_cp (pd_W wt w) s) v ≤ 9 := pd_cp_9 (pd_W_le hw9)
  have hsum : pd_sm (pd_cp (pd_W wt w) s) 10 ≤ 90 := pd_cp_s9 (pd_W_le hw9)
  refine g_iconst (v := (nI 0)) X dX0_match_4 (by decide) ?_
  refine g_istore (L' := [(4, .int (nI 0)), (0, .ref h), (1, .int (nI s)), (2, .int (nI dr.toNat)), (3, .int (nI wt.toNat))]) X dX0_match_5 (by decide) rfl ?_
  have lp7 : ∀ (n : Nat) (f1 : Nat → Nat) (i : Nat), (i ≤ 100) → (∀ k, k < i → f1 k = 0) → 100 - i < n → Go K 0 0 (wX d h ad on w e 1 hi1 ct wi ro ri f1 co ci q) [(0, .ref h), (1, .int (nI s)), (2, .int (nI dr.toNat)), (3, .int (nI wt.toNat)), (4, .int (nI i))] 7 [] := by
    intro n
    induction n with
    | zero => intro f1 i hi100 hf hm; exact absurd hm (Nat.not_lt_zero _)
    | succ n ih7 =>
      intro f1 i hi100 hf hm
      refine g_iload X dX0_match_7 4 rfl ?_
      refine g_bipush (v := (nI 100)) X dX0_match_9 (by decide) ?_
      refine g_icmp_ge (P := 100 ≤ i) X 28 dX0_match_11 (by decide) (nI_leI (by omega) (by omega)) (fun c11 => ?_) (fun c11 => ?_)
      · rw [show i = 100 by omega] at hf
        refine g_iconst (v := (nI 0)) X dX0_match_28 (by decide) ?_
        refine g_istore (L' := [(4, .int (nI 0)), (0, .ref h), (1, .int (nI s)), (2, .int (nI dr.toNat)), (3, .int (nI wt.toNat))]) X dX0_match_29 (by decide) rfl ?_
        have lp31 : ∀ (n : Nat) (ro1 : Nat → Nat) (ri1 : Nat → Nat) (v : Nat), (v ≤ 10) → (∀ k, k < v → ro1 k = (pd_cp (pd_W wt w) s) k) → (∀ k, k < v → ri1 k = (pd_cp (pd_W wt w) s) k) → 10 - v < n → Go K 0 0 (wX d h ad on w e 1 hi1 ct wi ro1 ri1 f1 co ci q) [(0, .ref h), (1, .int (nI s)), (2, .int (nI dr.toNat)), (3, .int (nI wt.toNat)), (4, .int (nI v))] 31 [] := by
          intro n
          induction n with
          | zero => intro ro1 ri1 v hv hro hri hm; exact absurd hm (Nat.not_lt_zero _)
          | succ n ih31 =>
            intro ro1 ri1 v hv hro hri hm
            refine g_iload X dX0_match_31 4 rfl ?_
            refine g_bipush (v := (nI 10)) X dX0_match_33 (by decide) ?_
            refine g_icmp_ge (P := 10 ≤ v) X 106 dX0_match_35 (by decide) (nI_leI (by omega) (by omega)) (fun c35 => ?_) (fun c35 => ?_)
            · rw [show v = 10 by omega] at hro hri
              obtain ⟨hF, htt⟩ := pd_FI_0 (T := (pd_T dr e)) (S := s) hf hro hri
              refine g_iconst (v := (nI 0)) X dX0_match_106 (by decide) ?_
              refine g_istore (L' := [(4, .int (nI 0)), (0, .ref h), (1, .int (nI s)), (2, .int (nI dr.toNat)), (3, .int (nI wt.toNat))]) X dX0_match_107 (by decide) rfl ?_
              refine g_aload_n X dX0_match_109 1 rfl rfl ?_
              refine g_iload_n X dX0_match_110 2 rfl rfl ?_
              refine g_iload_n X dX0_match_111 3 rfl rfl ?_
              refine g_callV (st := []) (ci := 0) (q := (RX0, TX0, 13)) (wr := []) X (mX_findWay _ _ d h ad on w e 1 hi1 ct wi ro1 ri1 f1 co ci q (pd_T dr e) s (pd_cp (pd_W wt w) s) dr hTT hs hF hc0 hc9) (lw_V q106 q108 qs3 q20 q109) 2 (by decide +kernel) (by decide) (by decide) rfl rfl rfl [0, 1, 2, 3, 4, 5, 6, 7, 8, 9, 10] [] [0] rfl rfl rfl (by decide) (by decide) (by decide) (by rw [hT]; rfl) rfl (Nat.le_of_ble_eq_true rfl) dX0_match_112 (fun r u hp => ?_)
              obtain ⟨co2, ci2, q2, ow2, rk2⟩ := u
              obtain ⟨hr, hnone, hsome⟩ := hp
              have hr : r = oI ow2 := hr
              subst hr
              show Go K 0 0 (wX d h ad on w e 1 hi1 ct wi ro1 ri1 f1 co2 ci2 q2) [(4, .int (nI 0)), (0, .ref h), (1, .int (nI s)), (2, .int (nI dr.toNat)), (3, .int (nI wt.toNat))] 115 [.int (oI ow2)]
              have hnone : ow2 = none → pd_MC (pd_T dr e) s (pd_cp (pd_W wt w) s) (pd_tt f1) := hnone
              have hsome : ∀ x, ow2 = some x → pd_wy (pd_T dr e) s ro1 ri1 f1 co2 ci2 rk2 x := hsome
              refine g_istore (L' := [(5, .int (oI ow2)), (4, .int (nI 0)), (0, .ref h), (1, .int (nI s)), (2, .int (nI dr.toNat)), (3, .int (nI wt.toNat))]) X dX0_match_115 (by decide) rfl ?_
              refine g_iconst (v := (nI 0)) X dX0_match_117 (by decide) ?_
              refine g_istore (L' := [(6, .int (nI 0)), (5, .int (oI ow2)), (4, .int (nI 0)), (0, .ref h), (1, .int (nI s)), (2, .int (nI dr.toNat)), (3, .int (nI wt.toNat))]) X dX0_match_118 (by decide) rfl ?_
              have lp120 : ∀ (n : Nat) (ro3 : Nat → Nat) (ri3 : Nat → Nat) (fl3 : Nat → Nat) (co3 : Nat → Option Nat) (ci3 : Nat → Option Nat) (q3 : Nat → Nat) (ow3 : Option Nat) (rk3 : Nat → Nat) (i3 : Nat), (pd_FI (pd_T dr e) s (pd_cp (pd_W wt w) s) ro3 ri3 fl3) → (pd_tt fl3 = i3) → (ow3 = none → pd_MC (pd_T dr e) s (pd_cp (pd_W wt w) s) (pd_tt fl3)) → (∀ x, ow3 = some x → pd_wy (pd_T dr e) s ro3 ri3 fl3 co3 ci3 rk3 x) → 100 - i3 < n → Go K 0 0 (wX d h ad on w e 1 hi1 ct wi ro3 ri3 fl3 co3 ci3 q3) [(0, .ref h), (1, .int (nI s)), (2, .int (nI dr.toNat)), (3, .int (nI wt.toNat)), (4, .int (nI i3)), (5, .int (oI ow3)), (6, .int (nI i3))] 120 [] := by
                intro n
                induction n with
                | zero => intro ro3 ri3 fl3 co3 ci3 q3 ow3 rk3 i3 hF3 htt3 hn3 hs3 hm; exact absurd hm (Nat.not_lt_zero _)
                | succ n ih120 =>
                  intro ro3 ri3 fl3 co3 ci3 q3 ow3 rk3 i3 hF3 htt3 hn3 hs3 hm
                  have hi90 : i3 ≤ 90 := by have := pd_FI_tt hF3; omega
                  refine g_iload X dX0_match_120 6 rfl ?_
                  refine g_bipush (v := (nI 100)) X dX0_match_122 (by decide) ?_
                  refine g_icmp_ge (P := 100 ≤ i3) X 155 dX0_match_124 (by decide) (nI_leI (by omega) (by omega)) (fun c124 => ?_) (fun c124 => ?_)
                  · exact absurd c124 (by omega)
                  · refine g_iload X dX0_match_127 5 rfl ?_
                    refine g_if_lt (P := ow3 = none) X 155 dX0_match_129 (by decide) (pn_oneg (fun k hk => by have := (hs3 k hk).1; omega)) (fun c129 => ?_) (fun c129 => ?_)
                    · refine g_iload X dX0_match_155 4 rfl ?_
                      exact R (i3, hi1, ro3, ri3, fl3, co3, ci3, q3) (nI i3) _ _ ⟨rfl, by rw [← htt3]; exact hn3 c129, hh⟩ rfl dX0_match_157
                    · obtain ⟨x, rfl⟩ : ∃ x, ow3 = some x := by cases ow3 with | none => exact absurd rfl c129 | some x => exact ⟨x, rfl⟩
                      show Go K 0 0 (wX d h ad on w e 1 hi1 ct wi ro3 ri3 fl3 co3 ci3 q3) [(0, .ref h), (1, .int (nI s)), (2, .int (nI dr.toNat)), (3, .int (nI wt.toNat)), (4, .int (nI i3)), (5, .int (nI x)), (6, .int (nI i3))] 132 []
                      refine g_aload_n X dX0_match_132 0 rfl rfl ?_
                      refine g_iload X dX0_match_133 5 rfl ?_
                      refine g_callVv (st := []) (ci := 0) (q := (RX0, TX0, 13)) (wr := []) X (mX_send _ _ d h ad on w e 1 hi1 ct wi ro3 ri3 fl3 co3 ci3 q3 (pd_T dr e) s (pd_cp (pd_W wt w) s) rk3 x hF3 (hs3 x rfl) hc9) (lw_V q118 q120 qs6 q20 q121) 1 (by decide +kernel) (by decide) (by decide) rfl rfl rfl [0, 1, 2, 3, 4, 5, 6, 7, 8, 9, 10] [] [0] rfl rfl rfl (by decide) (by decide) (by decide) (by rw [hT]; rfl) rfl (Nat.le_of_ble_eq_true rfl) dX0_match_135 (fun u hp => ?_)
                      obtain ⟨ro5, ri5, fl5⟩ := u
                      obtain ⟨hF5, htt5⟩ := hp
                      have hF5 : pd_FI (pd_T dr e) s (pd_cp (pd_W wt w) s) ro5 ri5 fl5 := hF5
                      have htt5 : pd_tt fl5 = pd_tt fl3 + 1 := htt5
                      show Go K 0 0 (wX d h ad on w e 1 hi1 ct wi ro5 ri5 fl5 co3 ci3 q3) [(0, .ref h), (1, .int (nI s)), (2, .int (nI dr.toNat)), (3, .int (nI wt.toNat)), (4, .int (nI i3)), (5, .int (nI x)), (6, .int (nI i3))] 138 []
                      refine g_iinc (v := (nI (i3 + 1))) (L' := [(4, .int (nI (i3 + 1))), (0, .ref h), (1, .int (nI s)), (2, .int (nI dr.toNat)), (3, .int (nI wt.toNat)), (5, .int (nI x)), (6, .int (nI i3))]) X dX0_match_138 4 rfl (pn_inc _) (by decide) rfl ?_
                      refine g_aload_n X dX0_match_141 1 rfl rfl ?_
                      refine g_iload_n X dX0_match_142 2 rfl rfl ?_
                      refine g_iload_n X dX0_match_143 3 rfl rfl ?_
                      refine g_callV (st := []) (ci := 0) (q := (RX0, TX0, 13)) (wr := []) X (mX_findWay _ _ d h ad on w e 1 hi1 ct wi ro5 ri5 fl5 co3 ci3 q3 (pd_T dr e) s (pd_cp (pd_W wt w) s) dr hTT hs hF5 hc0 hc9) (lw_V q106 q108 qs3 q20 q109) 2 (by decide +kernel) (by decide) (by decide) rfl rfl rfl [0, 1, 2, 3, 4, 5, 6, 7, 8, 9, 10] [] [0] rfl rfl rfl (by decide) (by decide) (by decide) (by rw [hT]; rfl) rfl (Nat.le_of_ble_eq_true rfl) dX0_match_144 (fun r u hp => ?_)
                      obtain ⟨co6, ci6, q6, ow6, rk6⟩ := u
                      obtain ⟨hr, hnone, hsome⟩ := hp
                      have hr : r = oI ow6 := hr
                      subst hr
                      show Go K 0 0 (wX d h ad on w e 1 hi1 ct wi ro5 ri5 fl5 co6 ci6 q6) [(4, .int (nI (i3 + 1))), (0, .ref h), (1, .int (nI s)), (2, .int (nI dr.toNat)), (3, .int (nI wt.toNat)), (5, .int (nI x)), (6, .int (nI i3))] 147 [.int (oI ow6)]
                      refine g_istore (L' := [(5, .int (oI ow6)), (4, .int (nI (i3 + 1))), (0, .ref h), (1, .int (nI s)), (2, .int (nI dr.toNat)), (3, .int (nI wt.toNat)), (6, .int (nI i3))]) X dX0_match_147 (by decide) rfl ?_
                      refine g_iinc (v := (nI (i3 + 1))) (L' := [(6, .int (nI (i3 + 1))), (5, .int (oI ow6)), (4, .int (nI (i3 + 1))), (0, .ref h), (1, .int (nI s)), (2, .int (nI dr.toNat)), (3, .int (nI wt.toNat))]) X dX0_match_149 6 rfl (pn_inc _) (by decide) rfl ?_
                      refine g_goto X 120 dX0_match_152 (by decide) ?_
                      refine g_loc (L' := [(0, .ref h), (1, .int (nI s)), (2, .int (nI dr.toNat)), (3, .int (nI wt.toNat)), (4, .int (nI (i3 + 1))), (5, .int (oI ow6)), (6, .int (nI (i3 + 1)))]) [3, 4, 5, 6, 2, 1, 0] rfl ?_
                      exact ih120 ro5 ri5 fl5 co6 ci6 q6 ow6 rk6 (i3 + 1) hF5 (by omega) hnone hsome (by omega)
              refine g_loc (L' := [(0, .ref h), (1, .int (nI s)), (2, .int (nI dr.toNat)), (3, .int (nI wt.toNat)), (4, .int (nI 0)), (5, .int (oI ow2)), (6, .int (nI 0))]) [3, 4, 5, 6, 2, 1, 0] rfl ?_
              exact lp120 _ ro1 ri1 f1 co2 ci2 q2 ow2 rk2 0 hF htt hnone hsome (Nat.lt_succ_self _)
            · refine g_iload_n X dX0_match_38 1 rfl rfl ?_
              refine g_iload X dX0_match_39 4 rfl ?_
              refine g_ishr (v := (nI (s >>> v))) X dX0_match_41 (pn_shr (by omega) (by omega)) ?_
              refine g_iconst (v := (nI 1)) X dX0_match_42 (by decide) ?_
              refine g_iand (v := (nI ((s >>> v) &&& 1))) X dX0_match_43 (pn_and _ _) ?_
              refine g_iconst (v := (nI 1)) X dX0_match_44 (by decide) ?_
              refine g_icmp_ne (P := (s).testBit v = true) X 52 dX0_match_45 (by decide) (pn_b1 _ _) (fun c45 => ?_) (fun c45 => ?_)
              · refine g_iconst (v := (nI 0)) X dX0_match_52 (by decide) ?_
                refine g_istore (L' := [(5, .int (nI 0)), (0, .ref h), (1, .int (nI s)), (2, .int (nI dr.toNat)), (3, .int (nI wt.toNat)), (4, .int (nI v))]) X dX0_match_53 (by decide) rfl ?_
                refine g_aload_n X dX0_match_55 1 rfl rfl ?_
                refine g_get X in_X0 0 rfl rfl 7 (by decide) q37 rfl dX0_match_56 ?_
                refine g_iload X dX0_match_59 5 rfl ?_
                refine g_iload X dX0_match_61 0 rfl ?_
                refine g_if_ne (P := 0 = 0) X 70 dX0_match_63 (by decide) (pn_z (by omega)) (fun c => absurd rfl c) (fun c => ?_)
                refine g_iconst (v := (nI 0)) X dX0_match_66 (by decide) ?_
                refine g_goto X 85 dX0_match_67 (by decide) ?_
                refine g_iast (ws' := (wX d h ad on w e 1 hi1 ct wi (pd_st ro1 v 0) ri1 f1 co ci q)) X 5 0 rfl t0 (by omega) (by decide) (nF_st _ _ _) rfl dX0_match_85 ?_
                refine g_aload_n X dX0_match_86 1 rfl rfl ?_
                refine g_get X in_X0 0 rfl rfl 8 (by decide) q38 rfl dX0_match_87 ?_
                refine g_iload X dX0_match_90 5 rfl ?_
                refine g_aload_n X dX0_match_92 1 rfl rfl ?_
                refine g_get X in_X0 0 rfl rfl 7 (by decide) q37 rfl dX0_match_93 ?_
                refine g_iload X dX0_match_96 5 rfl ?_
                refine g_iald (v := (nI 0)) X 5 0 rfl t0 (by omega) (by decide) (congrArg nI pd_st_s) dX0_match_98 ?_
                refine g_iast (ws' := (wX d h ad on w e 1 hi1 ct wi (pd_st ro1 v 0) (pd_st ri1 v 0) f1 co ci q)) X 6 0 rfl t0 (by omega) (by decide) (nF_st _ _ _) rfl dX0_match_99 ?_
                refine g_iinc (v := (nI (v + 1))) (L' := [(4, .int (nI (v + 1))), (5, .int (nI 0)), (0, .ref h), (1, .int (nI s)), (2, .int (nI dr.toNat)), (3, .int (nI wt.toNat))]) X dX0_match_100 5 rfl (pn_inc _) (by decide) rfl ?_
                refine g_goto X 31 dX0_match_103 (by decide) ?_
                refine g_loc (L' := [(0, .ref h), (1, .int (nI s)), (2, .int (nI dr.toNat)), (3, .int (nI wt.toNat)), (4, .int (nI (v + 1)))]) [2, 3, 4, 5, 0] rfl ?_
                exact ih31 (pd_st ro1 v 0) (pd_st ri1 v 0) (v + 1) (by omega) (pd_cst hro (pd_cp_n c45)) (pd_cst hri (pd_cp_n c45)) (by omega)
              · refine g_iconst (v := (nI 1)) X dX0_match_48 (by decide) ?_
                refine g_goto X 53 dX0_match_49 (by decide) ?_
                refine g_istore (L' := [(5, .int (nI 1)), (0, .ref h), (1, .int (nI s)), (2, .int (nI dr.toNat)), (3, .int (nI wt.toNat)), (4, .int (nI v))]) X dX0_match_53 (by decide) rfl ?_
                refine g_aload_n X dX0_match_55 1 rfl rfl ?_
                refine g_get X in_X0 0 rfl rfl 7 (by decide) q37 rfl dX0_match_56 ?_
                refine g_iload X dX0_match_59 5 rfl ?_
                refine g_iload X dX0_match_61 0 rfl ?_
                refine g_if_ne (P := 1 = 0) X 70 dX0_match_63 (by decide) (pn_z (by omega)) (fun c => ?_) (fun c => absurd c (by decide))
                refine g_iload_n X dX0_match_70 4 rfl rfl ?_
                refine g_if_eq (P := ¬ wt = true) X 84 dX0_match_71 (by decide) (pn_bz _) (fun c71 => ?_) (fun c71 => ?_)
                · refine g_iconst (v := (nI 1)) X dX0_match_84 (by decide) ?_
                  refine g_iast (ws' := (wX d h ad on w e 1 hi1 ct wi (pd_st ro1 v 1) ri1 f1 co ci q)) X 5 0 rfl t0 (by omega) (by decide) (nF_st _ _ _) rfl dX0_match_85 ?_
                  refine g_aload_n X dX0_match_86 1 rfl rfl ?_
                  refine g_get X in_X0 0 rfl rfl 8 (by decide) q38 rfl dX0_match_87 ?_
                  refine g_iload X dX0_match_90 5 rfl ?_
                  refine g_aload_n X dX0_match_92 1 rfl rfl ?_
                  refine g_get X in_X0 0 rfl rfl 7 (by decide) q37 rfl dX0_match_93 ?_
                  refine g_iload X dX0_match_96 5 rfl ?_
                  refine g_iald (v := (nI 1)) X 5 0 rfl t0 (by omega) (by decide) (congrArg nI pd_st_s) dX0_match_98 ?_
                  refine g_iast (ws' := (wX d h ad on w e 1 hi1 ct wi (pd_st ro1 v 1) (pd_st ri1 v 1) f1 co ci q)) X 6 0 rfl t0 (by omega) (by decide) (nF_st _ _ _) rfl dX0_match_99 ?_
                  refine g_iinc (v := (nI (v + 1))) (L' := [(4, .int (nI (v + 1))), (5, .int (nI 1)), (0, .ref h), (1, .int (nI s)), (2, .int (nI dr.toNat)), (3, .int (nI wt.toNat))]) X dX0_match_100 5 rfl (pn_inc _) (by decide) rfl ?_
                  refine g_goto X 31 dX0_match_103 (by decide) ?_
                  refine g_loc (L' := [(0, .ref h), (1, .int (nI s)), (2, .int (nI dr.toNat)), (3, .int (nI wt.toNat)), (4, .int (nI (v + 1)))]) [2, 3, 4, 5, 0] rfl ?_
                  exact ih31 (pd_st ro1 v 1) (pd_st ri1 v 1) (v + 1) (by omega) (pd_cst hro ((pd_cp_y c45).trans (if_neg c71))) (pd_cst hri ((pd_cp_y c45).trans (if_neg c71))) (by omega)
                · refine g_aload_n X dX0_match_74 1 rfl rfl ?_
                  refine g_get X in_X0 0 rfl rfl 1 (by decide) q31 rfl dX0_match_75 ?_
                  refine g_iload X dX0_match_78 5 rfl ?_
                  refine g_iald (v := (nI (w v))) X 1 0 rfl t0 (by omega) (by decide) rfl dX0_match_80 ?_
                  refine g_goto X 85 dX0_match_81 (by decide) ?_
                  refine g_iast (ws' := (wX d h ad on w e 1 hi1 ct wi (pd_st ro1 v (w v)) ri1 f1 co ci q)) X 5 0 rfl t0 (by omega) (by decide) (nF_st _ _ _) rfl dX0_match_85 ?_
                  refine g_aload_n X dX0_match_86 1 rfl rfl ?_
                  refine g_get X in_X0 0 rfl rfl 8 (by decide) q38 rfl dX0_match_87 ?_
                  refine g_iload X dX0_match_90 5 rfl ?_
                  refine g_aload_n X dX0_match_92 1 rfl rfl ?_
                  refine g_get X in_X0 0 rfl rfl 7 (by decide) q37 rfl dX0_match_93 ?_
                  refine g_iload X dX0_match_96 5 rfl ?_
                  refine g_iald (v := (nI (w v))) X 5 0 rfl t0 (by omega) (by decide) (congrArg nI pd_st_s) dX0_match_98 ?_
                  refine g_iast (ws' := (wX d h ad on w e 1 hi1 ct wi (pd_st ro1 v (w v)) (pd_st ri1 v (w v)) f1 co ci q)) X 6 0 rfl t0 (by omega) (by decide) (nF_st _ _ _) rfl dX0_match_99 ?_
                  refine g_iinc (v := (nI (v + 1))) (L' := [(4, .int (nI (v + 1))), (5, .int (nI 1)), (0, .ref h), (1, .int (nI s)), (2, .int (nI dr.toNat)), (3, .int (nI wt.toNat))]) X dX0_match_100 5 rfl (pn_inc _) (by decide) rfl ?_
                  refine g_goto X 31 dX0_match_103 (by decide) ?_
                  refine g_loc (L' := [(0, .ref h), (1, .int (nI s)), (2, .int (nI dr.toNat)), (3, .int (nI wt.toNat)), (4, .int (nI (v + 1)))]) [2, 3, 4, 5, 0] rfl ?_
                  exact ih31 (pd_st ro1 v (w v)) (pd_st ri1 v (w v)) (v + 1) (by omega) (pd_cst hro ((pd_cp_y c45).trans (if_pos (Decidable.not_not.mp c71)))) (pd_cst hri ((pd_cp_y c45).trans (if_pos (Decidable.not_not.mp c71)))) (by omega)
        refine g_loc (L' := [(0, .ref h), (1, .int (nI s)), (2, .int (nI dr.toNat)), (3, .int (nI wt.toNat)), (4, .int (nI 0))]) [1, 2, 3, 4, 0] rfl ?_
        exact lp31 _ ro ri 0 (by omega) (fun k hk => absurd hk (Nat.not_lt_zero _)) (fun k hk => absurd hk (Nat.not_lt_zero _)) (Nat.lt_succ_self _)
      · refine g_aload_n X dX0_match_14 0 rfl rfl ?_
        refine g_get X in_X0 0 rfl rfl 9 (by decide) q39 rfl dX0_match_15 ?_
        refine g_iload X dX0_match_18 4 rfl ?_
        refine g_iconst (v := (nI 0)) X dX0_match_20 (by decide) ?_
        refine g_iast (ws' := (wX d h ad on w e 1 hi1 ct wi ro ri (pd_st f1 i 0) co ci q)) X 7 0 rfl t0 (by omega) (by decide) (nF_st _ _ _) rfl dX0_match_21 ?_
        refine g_iinc (v := (nI (i + 1))) (L' := [(4, .int (nI (i + 1))), (0, .ref h), (1, .int (nI s)), (2, .int (nI dr.toNat)), (3, .int (nI wt.toNat))]) X dX0_match_22 4 rfl (pn_inc _) (by decide) rfl ?_
        refine g_goto X 7 dX0_match_25 (by decide) ?_
        refine g_loc (L' := [(0, .ref h), (1, .int (nI s)), (2, .int (nI dr.toNat)), (3, .int (nI wt.toNat)), (4, .int (nI (i + 1)))]) [1, 2, 3, 4, 0] rfl ?_
        exact ih7 (pd_st f1 i 0) (i + 1) (by omega) (pd_zst hf) (by omega)
  refine g_loc (L' := [(0, .ref h), (1, .int (nI s)), (2, .int (nI dr.toNat)), (3, .int (nI wt.toNat)), (4, .int (nI 0))]) [1, 2, 3, 4, 0] rfl ?_
  exact lp7 _ fl 0 (by omega) (fun k hk => absurd hk (Nat.not_lt_zero _)) (Nat.lt_succ_self _)

set_option maxHeartbeats 4000000 in
set_option maxRecDepth 100000 in
/-- widthOf(set) -/
theorem mX_widthOf (l : Launch) (D : va_G) (d : ClassId) (h : Nat) (ad : Nat → Nat) (on : Nat) (w e : Nat → Nat) (cl : Nat) (hi : Nat → Nat) (ct : Nat) (wi ro ri fl : Nat → Nat) (co ci : Nat → Option Nat) (q : Nat → Nat) (hE : pd_Ed e) (hw9 : ∀ v, v < 10 → w v ≤ 9) (hcl : cl = 0 ∨ (cl = 1 ∧ ∀ v, v < 10 → hi v = pd_up e v)) (s : Nat) (hs : s < 1024) : MI l yX0_widthOf cX0_widthOf 3 .int 3 77 D [(d, .int)] [.ref h, .int (nI s)] (wX d h ad on w e cl hi ct wi ro ri fl co ci q) (fun u : SX => (wX d h ad on w e 1 u.2.1 ct wi u.2.2.1 u.2.2.2.1 u.2.2.2.2.1 u.2.2.2.2.2.1 u.2.2.2.2.2.2.1 u.2.2.2.2.2.2.2)) (fun r u => r = nI (pd_bc s - u.1) ∧ pd_MC (pd_up e) s (pd_cp (fun _ => 1) s) u.1 ∧ ∀ v, v < 10 → u.2.1 v = pd_up e v) := by
  refine MI_of (by decide) (Nat.le_of_ble_eq_true rfl) ?_
  intro K hl hD hT X R
  subst hl; subst hD
  have X : Cx K cX0_widthOf RX0 (some .int) 3 ({ frames := 3, cells := 0, slots := 0, locals := 77 }) := X
  have t0 : (kT K)[0]? = some (d, .int) := by rw [hT]; rfl
  show Go K 0 0 (wX d h ad on w e cl hi ct wi ro ri fl co ci q) [(0, .ref h), (1, .int (nI s))] 0 []
  refine g_aload_n X dX0_widthOf_0 0 rfl rfl ?_
  refine g_iload_n X dX0_widthOf_1 1 rfl rfl ?_
  refine g_iconst (v := (nI false.toNat)) X dX0_widthOf_2 (by decide) ?_
  refine g_iconst (v := (nI false.toNat)) X dX0_widthOf_3 (by decide) ?_
  refine g_callV (st := []) (ci := 0) (q := (RX0, TX0, 13)) (wr := []) X (mX_match _ _ d h ad on w e cl hi ct wi ro ri fl co ci q hE hw9 hcl s hs false false) (lw_V q102 q104 qs2 q20 q105) 3 (by decide +kernel) (by decide) (by decide) rfl rfl rfl [0, 1, 2, 3, 4, 5, 6, 7, 8, 9, 10] [] [0] rfl rfl rfl (by decide) (by decide) (by decide) (by rw [hT]; rfl) rfl (Nat.le_of_ble_eq_true rfl) dX0_widthOf_4 (fun r u hp => ?_)
  obtain ⟨n1, hi1, ro1, ri1, fl1, co1, ci1, q1⟩ := u
  obtain ⟨hr, hM, hh1⟩ := hp
  have hr : r = nI n1 := hr
  subst hr
  have hh1 : ∀ v, v < 10 → hi1 v = pd_up e v := hh1
  have hM : pd_MC (pd_up e) s (pd_cp (fun _ => 1) s) n1 := hM
  show Go K 0 0 (wX d h ad on w e 1 hi1 ct wi ro1 ri1 fl1 co1 ci1 q1) [(0, .ref h), (1, .int (nI s))] 7 [.int (nI n1)]
  refine g_istore_n (L' := [(2, .int (nI n1)), (0, .ref h), (1, .int (nI s))]) X dX0_widthOf_7 rfl (by decide) rfl ?_
  refine g_iload_n X dX0_widthOf_8 2 rfl rfl ?_
  refine g_callS (st := []) X (mX_bits _ _ s hs) (lw_S q122 q123 q20 q124) 1 (by decide +kernel) (by decide) (by decide) rfl rfl (Nat.le_of_ble_eq_true rfl) dX0_widthOf_9 (fun r hp => ?_)
  obtain rfl := hp
  show Go K 0 0 (wX d h ad on w e 1 hi1 ct wi ro1 ri1 fl1 co1 ci1 q1) [(2, .int (nI n1)), (0, .ref h), (1, .int (nI s))] 12 [.int (nI (pd_bc s))]
  refine g_iload_n X dX0_widthOf_12 0 rfl rfl ?_
  refine g_isub (v := (nI ((pd_bc s) - n1))) X dX0_widthOf_13 (pk_sub (pd_MC_le hM)) ?_
  exact R (n1, hi1, ro1, ri1, fl1, co1, ci1, q1) (nI ((pd_bc s) - n1)) _ _ ⟨rfl, hM, hh1⟩ rfl dX0_widthOf_14

set_option maxHeartbeats 4000000 in
set_option maxRecDepth 100000 in
/-- chains() -/
theorem mX_chains (l : Launch) (D : va_G) (d : ClassId) (h : Nat) (ad : Nat → Nat) (on : Nat) (w e : Nat → Nat) (cl : Nat) (hi : Nat → Nat) (ct : Nat) (wi ro ri fl : Nat → Nat) (co ci : Nat → Option Nat) (q : Nat → Nat) (hE : pd_Ed e) (hw9 : ∀ v, v < 10 → w v ≤ 9) (hcl : cl = 0 ∨ (cl = 1 ∧ ∀ v, v < 10 → hi v = pd_up e v)) (hon : on < 1024) : MI l yX0_chains cX0_chains 1 .int 4 99 D [(d, .int)] [.ref h] (wX d h ad on w e cl hi ct wi ro ri fl co ci q) (fun u : SX => (wX d h ad on w e 1 u.2.1 ct wi u.2.2.1 u.2.2.2.1 u.2.2.2.2.1 u.2.2.2.2.2.1 u.2.2.2.2.2.2.1 u.2.2.2.2.2.2.2)) (fun r u => r = nI (pd_bc on - u.1) ∧ pd_MC (pd_up e) on (pd_cp (fun _ => 1) on) u.1 ∧ ∀ v, v < 10 → u.2.1 v = pd_up e v) := by
  refine MI_of (by decide) (Nat.le_of_ble_eq_true rfl) ?_
  intro K hl hD hT X R
  subst hl; subst hD
  have X : Cx K cX0_chains RX0 (some .int) 1 ({ frames := 4, cells := 0, slots := 0, locals := 99 }) := X
  have t0 : (kT K)[0]? = some (d, .int) := by rw [hT]; rfl
  show Go K 0 0 (wX d h ad on w e cl hi ct wi ro ri fl co ci q) [(0, .ref h)] 0 []
  refine g_aload_n X dX0_chains_0 0 rfl rfl ?_
  refine g_aload_n X dX0_chains_1 0 rfl rfl ?_
  refine g_get X in_X0 0 rfl rfl 0 (by decide) q30 rfl dX0_chains_2 ?_
  refine g_callV (st := []) (ci := 0) (q := (RX0, TX0, 13)) (wr := []) X (mX_widthOf _ _ d h ad on w e cl hi ct wi ro ri fl co ci q hE hw9 hcl on hon) (lw_V q98 q100 qs1 q20 q101) 1 (by decide +kernel) (by decide) (by decide) rfl rfl rfl [0, 1, 2, 3, 4, 5, 6, 7, 8, 9, 10] [] [0] rfl rfl rfl (by decide) (by decide) (by decide) (by rw [hT]; rfl) rfl (Nat.le_of_ble_eq_true rfl) dX0_chains_5 (fun r u hp => ?_)
  obtain ⟨n1, hi1, ro1, ri1, fl1, co1, ci1, q1⟩ := u
  obtain ⟨hr, hM1, hh1⟩ := hp
  have hr : r = nI (pd_bc on - n1) := hr
  have hM1 : pd_MC (pd_up e) on (pd_cp (fun _ => 1) on) n1 := hM1
  have hh1 : ∀ v, v < 10 → hi1 v = pd_up e v := hh1
  subst hr
  show Go K 0 0 (wX d h ad on w e 1 hi1 ct wi ro1 ri1 fl1 co1 ci1 q1) [(0, .ref h)] 8 [.int (nI (pd_bc on - n1))]
  exact R (n1, hi1, ro1, ri1, fl1, co1, ci1, q1) (nI (pd_bc on - n1)) _ _ ⟨rfl, hM1, hh1⟩ rfl dX0_chains_8

set_option maxHeartbeats 4000000 in
set_option maxRecDepth 100000 in
/-- width() -/
theorem mX_width (l : Launch) (D : va_G) (d : ClassId) (h : Nat) (ad : Nat → Nat) (on : Nat) (w e : Nat → Nat) (cl : Nat) (hi : Nat → Nat) (ct : Nat) (wi ro ri fl : Nat → Nat) (co ci : Nat → Option Nat) (q : Nat → Nat) (hE : pd_Ed e) (hw9 : ∀ v, v < 10 → w v ≤ 9) (hcl : cl = 0 ∨ (cl = 1 ∧ ∀ v, v < 10 → hi v = pd_up e v)) (hon : on < 1024) : MI l yX0_width cX0_width 1 .int 4 99 D [(d, .int)] [.ref h] (wX d h ad on w e cl hi ct wi ro ri fl co ci q) (fun u : SX => (wX d h ad on w e 1 u.2.1 ct wi u.2.2.1 u.2.2.2.1 u.2.2.2.2.1 u.2.2.2.2.2.1 u.2.2.2.2.2.2.1 u.2.2.2.2.2.2.2)) (fun r u => r = nI (pd_bc on - u.1) ∧ pd_MC (pd_up e) on (pd_cp (fun _ => 1) on) u.1 ∧ ∀ v, v < 10 → u.2.1 v = pd_up e v) := by
  refine MI_of (by decide) (Nat.le_of_ble_eq_true rfl) ?_
  intro K hl hD hT X R
  subst hl; subst hD
  have X : Cx K cX0_width RX0 (some .int) 1 ({ frames := 4, cells := 0, slots := 0, locals := 99 }) := X
  have t0 : (kT K)[0]? = some (d, .int) := by rw [hT]; rfl
  show Go K 0 0 (wX d h ad on w e cl hi ct wi ro ri fl co ci q) [(0, .ref h)] 0 []
  refine g_aload_n X dX0_width_0 0 rfl rfl ?_
  refine g_aload_n X dX0_width_1 0 rfl rfl ?_
  refine g_get X in_X0 0 rfl rfl 0 (by decide) q30 rfl dX0_width_2 ?_
  refine g_callV (st := []) (ci := 0) (q := (RX0, TX0, 13)) (wr := []) X (mX_widthOf _ _ d h ad on w e cl hi ct wi ro ri fl co ci q hE hw9 hcl on hon) (lw_V q98 q100 qs1 q20 q101) 1 (by decide +kernel) (by decide) (by decide) rfl rfl rfl [0, 1, 2, 3, 4, 5, 6, 7, 8, 9, 10] [] [0] rfl rfl rfl (by decide) (by decide) (by decide) (by rw [hT]; rfl) rfl (Nat.le_of_ble_eq_true rfl) dX0_width_5 (fun r u hp => ?_)
  obtain ⟨n1, hi1, ro1, ri1, fl1, co1, ci1, q1⟩ := u
  obtain ⟨hr, hM1, hh1⟩ := hp
  have hr : r = nI (pd_bc on - n1) := hr
  have hM1 : pd_MC (pd_up e) on (pd_cp (fun _ => 1) on) n1 := hM1
  have hh1 : ∀ v, v < 10 → hi1 v = pd_up e v := hh1
  subst hr
  show Go K 0 0 (wX d h ad on w e 1 hi1 ct wi ro1 ri1 fl1 co1 ci1 q1) [(0, .ref h)] 8 [.int (nI (pd_bc on - n1))]
  exact R (n1, hi1, ro1, ri1, fl1, co1, ci1, q1) (nI (pd_bc on - n1)) _ _ ⟨rfl, hM1, hh1⟩ rfl dX0_width_8

set_option maxHeartbeats 4000000 in
set_option maxRecDepth 100000 in
/-- antichain() -/
theorem mX_antichain (l : Launch) (D : va_G) (d : ClassId) (h : Nat) (ad : Nat → Nat) (on : Nat) (w e : Nat → Nat) (cl : Nat) (hi : Nat → Nat) (ct : Nat) (wi ro ri fl : Nat → Nat) (co ci : Nat → Option Nat) (q : Nat → Nat) (hE : pd_Ed e) (hw9 : ∀ v, v < 10 → w v ≤ 9) (hcl : cl = 0 ∨ (cl = 1 ∧ ∀ v, v < 10 → hi v = pd_up e v)) (hon : on < 1024) : MI l yX0_antichain cX0_antichain 6 .int 4 99 D [(d, .int)] [.ref h] (wX d h ad on w e cl hi ct wi ro ri fl co ci q) (fun u : SX => (wX d h ad on w e 1 u.2.1 ct wi u.2.2.1 u.2.2.2.1 u.2.2.2.2.1 u.2.2.2.2.2.1 u.2.2.2.2.2.2.1 u.2.2.2.2.2.2.2)) (fun r u => r = nI u.1 ∧ u.1 < 1024 ∧ pd_An (pd_up e) on u.1 ∧ pd_bc u.1 = pd_wd (pd_up e) on ∧ (∀ A, A < u.1 → pd_An (pd_up e) on A → pd_bc A ≠ pd_wd (pd_up e) on) ∧ ∀ v, v < 10 → u.2.1 v = pd_up e v) := by
  refine MI_of (by decide) (Nat.le_of_ble_eq_true rfl) ?_
  intro K hl hD hT X R
  subst hl; subst hD
  have X : Cx K cX0_antichain RX0 (some .int) 6 ({ frames := 4, cells := 0, slots := 0, locals := 99 }) := X
  have t0 : (kT K)[0]? = some (d, .int) := by rw [hT]; rfl
  show Go K 0 0 (wX d h ad on w e cl hi ct wi ro ri fl co ci q) [(0, .ref h)] 0 []
  refine g_aload_n X dX0_antichain_0 0 rfl rfl ?_
  refine g_aload_n X dX0_antichain_1 0 rfl rfl ?_
  refine g_get X in_X0 0 rfl rfl 0 (by decide) q30 rfl dX0_antichain_2 ?_
  refine g_callV (st := []) (ci := 0) (q := (RX0, TX0, 13)) (wr := []) X (mX_widthOf _ _ d h ad on w e cl hi ct wi ro ri fl co ci q hE hw9 hcl on hon) (lw_V q98 q100 qs1 q20 q101) 1 (by decide +kernel) (by decide) (by decide) rfl rfl rfl [0, 1, 2, 3, 4, 5, 6, 7, 8, 9, 10] [] [0] rfl rfl rfl (by decide) (by decide) (by decide) (by rw [hT]; rfl) rfl (Nat.le_of_ble_eq_true rfl) dX0_antichain_5 (fun r u hp => ?_)
  obtain ⟨n1, hi1, ro1, ri1, fl1, co1, ci1, q1⟩ := u
  obtain ⟨hr, hM1, hh1⟩ := hp
  have hr : r = nI (pd_bc on - n1) := hr
  have hM1 : pd_MC (pd_up e) on (pd_cp (fun _ => 1) on) n1 := hM1
  have hh1 : ∀ v, v < 10 → hi1 v = pd_up e v := hh1
  rw [← pd_wd_eq (pd_up_or hE) hM1] at hr
  subst hr
  show Go K 0 0 (wX d h ad on w e 1 hi1 ct wi ro1 ri1 fl1 co1 ci1 q1) [(0, .ref h)] 8 [.int (nI (pd_wd (pd_up e) on))]
  refine g_istore_n (L' := [(1, .int (nI (pd_wd (pd_up e) on))), (0, .ref h)]) X dX0_antichain_8 rfl (by decide) rfl ?_
  refine g_iconst (v := (nI 0)) X dX0_antichain_9 (by decide) ?_
  refine g_istore_n (L' := [(2, .int (nI 0)), (1, .int (nI (pd_wd (pd_up e) on))), (0, .ref h)]) X dX0_antichain_10 rfl (by decide) rfl ?_
  refine g_aload_n X dX0_antichain_11 2 rfl rfl ?_
  refine g_get X in_X0 0 rfl rfl 0 (by decide) q30 rfl dX0_antichain_12 ?_
  refine g_istore_n (L' := [(3, .int (nI on)), (2, .int (nI 0)), (1, .int (nI (pd_wd (pd_up e) on))), (0, .ref h)]) X dX0_antichain_15 rfl (by decide) rfl ?_
  refine g_bipush (v := (dI 10)) X dX0_antichain_16 (by decide) ?_
  refine g_istore (L' := [(4, .int (dI 10)), (3, .int (nI on)), (2, .int (nI 0)), (1, .int (nI (pd_wd (pd_up e) on))), (0, .ref h)]) X dX0_antichain_18 (by decide) rfl ?_
  have lp20 : ∀ (n : Nat) (hi2 : Nat → Nat) (ro2 : Nat → Nat) (ri2 : Nat → Nat) (fl2 : Nat → Nat) (co2 : Nat → Option Nat) (ci2 : Nat → Option Nat) (q2 : Nat → Nat) (tk : Nat) (fr : Nat) (j : Nat), (∀ v, v < 10 → hi2 v = pd_up e v) → (j ≤ 10) → (pd_GI (pd_up e) on (pd_wd (pd_up e) on) j tk fr) → j < n → Go K 0 0 (wX d h ad on w e 1 hi2 ct wi ro2 ri2 fl2 co2 ci2 q2) [(0, .ref h), (1, .int (nI (pd_wd (pd_up e) on))), (2, .int (nI tk)), (3, .int (nI fr)), (4, .int (dI j))] 20 [] := by
    intro n
    induction n with
    | zero => intro hi2 ro2 ri2 fl2 co2 ci2 q2 tk fr j hh2 hj hG hm; exact absurd hm (Nat.not_lt_zero _)
    | succ n ih20 =>
      intro hi2 ro2 ri2 fl2 co2 ci2 q2 tk fr j hh2 hj hG hm
      have hfr := hG.1.2
      have htk := hG.1.1
      refine g_iload X dX0_antichain_20 4 rfl ?_
      refine g_if_lt (P := j = 0) X 86 dX0_antichain_22 (by decide) (pn_di0 (by omega)) (fun c22 => ?_) (fun c22 => ?_)
      · refine g_iload_n X dX0_antichain_86 2 rfl rfl ?_
        exact R (tk, hi2, ro2, ri2, fl2, co2, ci2, q2) (nI tk) _ _ (by rw [c22] at hG; obtain ⟨a1, a2, a3, a4⟩ := pd_GI_end hG; exact ⟨rfl, a1, a2, a3, a4, hh2⟩) rfl dX0_antichain_87
      · obtain ⟨v, rfl⟩ : ∃ v, j = v + 1 := ⟨j - 1, by omega⟩
        rw [pn_di v]
        refine g_iload_n X dX0_antichain_25 3 rfl rfl ?_
        refine g_iload X dX0_antichain_26 4 rfl ?_
        refine g_ishr (v := (nI (fr >>> v))) X dX0_antichain_28 (pn_shr (by omega) (by omega)) ?_
        refine g_iconst (v := (nI 1)) X dX0_antichain_29 (by decide) ?_
        refine g_iand (v := (nI ((fr >>> v) &&& 1))) X dX0_antichain_30 (pn_and _ _) ?_
        refine g_iconst (v := (nI 1)) X dX0_antichain_31 (by decide) ?_
        refine g_icmp_ne (P := (fr).testBit v = true) X 80 dX0_antichain_32 (by decide) (pn_b1 _ _) (fun c32 => ?_) (fun c32 => ?_)
        · refine g_iinc (v := (dI v)) (L' := [(4, .int (dI v)), (0, .ref h), (1, .int (nI (pd_wd (pd_up e) on))), (2, .int (nI tk)), (3, .int (nI fr))]) X dX0_antichain_80 4 rfl rfl (by decide) rfl ?_
          refine g_goto X 20 dX0_antichain_83 (by decide) ?_
          refine g_loc (L' := [(0, .ref h), (1, .int (nI (pd_wd (pd_up e) on))), (2, .int (nI tk)), (3, .int (nI fr)), (4, .int (dI v))]) [1, 2, 3, 4, 0] rfl ?_
          exact ih20 hi2 ro2 ri2 fl2 co2 ci2 q2 tk fr v hh2 (by omega) (pd_GI_skip hG c32) (by omega)
        · refine g_iload_n X dX0_antichain_35 3 rfl rfl ?_
          refine g_iconst (v := (nI 1)) X dX0_antichain_36 (by decide) ?_
          refine g_iload X dX0_antichain_37 4 rfl ?_
          refine g_ishl (v := (nI (2 ^ v))) X dX0_antichain_39 (pn_shl (by omega)) ?_
          refine g_iconst (v := (-1)) X dX0_antichain_40 (by decide) ?_
          refine g_ixor (v := (nI (2 ^ v) ^^^ (-1))) X dX0_antichain_41 rfl ?_
          refine g_iand (v := (nI (pd_df fr (2 ^ v)))) X dX0_antichain_42 (pn_df _ _) ?_
          refine g_istore_n (L' := [(3, .int (nI (pd_df fr (2 ^ v)))), (0, .ref h), (1, .int (nI (pd_wd (pd_up e) on))), (2, .int (nI tk)), (4, .int (nI v))]) X dX0_antichain_43 rfl (by decide) rfl ?_
          have hfd : pd_df fr (2 ^ v) < 1024 := Nat.lt_of_le_of_lt (pd_df_le _ _) hfr
          refine g_aload_n X dX0_antichain_44 1 rfl rfl ?_
          refine g_iload_n X dX0_antichain_45 0 rfl rfl ?_
          refine g_callV (st := []) (ci := 0) (q := (RX0, TX0, 13)) (wr := []) X (mX_widthOf _ _ d h ad on w e 1 hi2 ct wi ro2 ri2 fl2 co2 ci2 q2 hE hw9 (Or.inr ⟨rfl, hh2⟩) (pd_df fr (2 ^ v)) hfd) (lw_V q98 q100 qs1 q20 q101) 1 (by decide +kernel) (by decide) (by decide) rfl rfl rfl [0, 1, 2, 3, 4, 5, 6, 7, 8, 9, 10] [] [0] rfl rfl rfl (by decide) (by decide) (by decide) (by rw [hT]; rfl) rfl (Nat.le_of_ble_eq_true rfl) dX0_antichain_46 (fun r u hp => ?_)
          obtain ⟨n3, hi3, ro3, ri3, fl3, co3, ci3, q3⟩ := u
          obtain ⟨hr, hM3, hh3⟩ := hp
          have hr : r = nI (pd_bc (pd_df fr (2 ^ v)) - n3) := hr
          have hM3 : pd_MC (pd_up e) (pd_df fr (2 ^ v)) (pd_cp (fun _ => 1) (pd_df fr (2 ^ v))) n3 := hM3
          have hh3 : ∀ v, v < 10 → hi3 v = pd_up e v := hh3
          rw [← pd_wd_eq (pd_up_or hE) hM3] at hr
          subst hr
          show Go K 0 0 (wX d h ad on w e 1 hi3 ct wi ro3 ri3 fl3 co3 ci3 q3) [(3, .int (nI (pd_df fr (2 ^ v)))), (0, .ref h), (1, .int (nI (pd_wd (pd_up e) on))), (2, .int (nI tk)), (4, .int (nI v))] 49 [.int (nI (pd_wd (pd_up e) (pd_df fr (2 ^ v))))]
          refine g_istore (L' := [(5, .int (nI (pd_wd (pd_up e) (pd_df fr (2 ^ v))))), (3, .int (nI (pd_df fr (2 ^ v)))), (0, .ref h), (1, .int (nI (pd_wd (pd_up e) on))), (2, .int (nI tk)), (4, .int (nI v))]) X dX0_antichain_49 (by decide) rfl ?_
          refine g_iload_n X dX0_antichain_51 4 rfl rfl ?_
          refine g_callS (st := []) X (mX_bits _ _ tk htk) (lw_S q122 q123 q20 q124) 1 (by decide +kernel) (by decide) (by decide) rfl rfl (Nat.le_of_ble_eq_true rfl) dX0_antichain_52 (fun r hp => ?_)
          obtain rfl := hp
          show Go K 0 0 (wX d h ad on w e 1 hi3 ct wi ro3 ri3 fl3 co3 ci3 q3) [(5, .int (nI (pd_wd (pd_up e) (pd_df fr (2 ^ v))))), (3, .int (nI (pd_df fr (2 ^ v)))), (0, .ref h), (1, .int (nI (pd_wd (pd_up e) on))), (2, .int (nI tk)), (4, .int (nI v))] 55 [.int (nI (pd_bc tk))]
          refine g_iload X dX0_antichain_55 0 rfl ?_
          refine g_iadd (v := (nI ((pd_bc tk) + (pd_wd (pd_up e) (pd_df fr (2 ^ v)))))) X dX0_antichain_57 (nI_add _ _) ?_
          refine g_iload_n X dX0_antichain_58 3 rfl rfl ?_
          refine g_icmp_ge (P := pd_wd (pd_up e) on ≤ (pd_bc tk) + (pd_wd (pd_up e) (pd_df fr (2 ^ v)))) X 80 dX0_antichain_59 (by decide) (nI_leI (by have := pd_wd_le (pd_up e) on; omega) (by have := pd_wd_le (pd_up e) (pd_df fr (2 ^ v)); have := pd_bc_le tk; omega)) (fun c59 => ?_) (fun c59 => ?_)
          · refine g_iinc (v := (dI v)) (L' := [(4, .int (dI v)), (5, .int (nI (pd_wd (pd_up e) (pd_df fr (2 ^ v))))), (3, .int (nI (pd_df fr (2 ^ v)))), (0, .ref h), (1, .int (nI (pd_wd (pd_up e) on))), (2, .int (nI tk))]) X dX0_antichain_80 5 rfl rfl (by decide) rfl ?_
            refine g_goto X 20 dX0_antichain_83 (by decide) ?_
            refine g_loc (L' := [(0, .ref h), (1, .int (nI (pd_wd (pd_up e) on))), (2, .int (nI tk)), (3, .int (nI (pd_df fr (2 ^ v)))), (4, .int (dI v))]) [3, 4, 5, 2, 0] rfl ?_
            exact ih20 hi3 ro3 ri3 fl3 co3 ci3 q3 tk (pd_df fr (2 ^ v)) v hh3 (by omega) (pd_GI_out hG c59) (by omega)
          · refine g_iload_n X dX0_antichain_62 4 rfl rfl ?_
            refine g_iconst (v := (nI 1)) X dX0_antichain_63 (by decide) ?_
            refine g_iload X dX0_antichain_64 5 rfl ?_
            refine g_ishl (v := (nI (2 ^ v))) X dX0_antichain_66 (pn_shl (by omega)) ?_
            refine g_ior (v := (nI (tk ||| (2 ^ v)))) X dX0_antichain_67 (pn_or _ _) ?_
            refine g_istore_n (L' := [(2, .int (nI (tk ||| (2 ^ v)))), (5, .int (nI (pd_wd (pd_up e) (pd_df fr (2 ^ v))))), (3, .int (nI (pd_df fr (2 ^ v)))), (0, .ref h), (1, .int (nI (pd_wd (pd_up e) on))), (4, .int (nI v))]) X dX0_antichain_68 rfl (by decide) rfl ?_
            refine g_iload_n X dX0_antichain_69 2 rfl rfl ?_
            refine g_aload_n X dX0_antichain_70 3 rfl rfl ?_
            refine g_iload X dX0_antichain_71 5 rfl ?_
            refine g_callV (st := [.int (nI (pd_df fr (2 ^ v)))]) (ci := 0) (q := (RX0, TX0, 13)) (wr := []) X (mX_related _ _ d h ad on w e 1 hi3 ct wi ro3 ri3 fl3 co3 ci3 q3 hE hh3 v (by omega)) (lw_V q133 q135 qs7 q20 q136) 1 (by decide +kernel) (by decide) (by decide) rfl rfl rfl [0, 1, 2, 3, 4, 5, 6, 7, 8, 9, 10] [] [0] rfl rfl rfl (by decide) (by decide) (by decide) (by rw [hT]; rfl) rfl (Nat.le_of_ble_eq_true rfl) dX0_antichain_73 (fun r u hp => ?_)
            obtain rfl := hp
            show Go K 0 0 (wX d h ad on w e 1 hi3 ct wi ro3 ri3 fl3 co3 ci3 q3) [(2, .int (nI (tk ||| (2 ^ v)))), (5, .int (nI (pd_wd (pd_up e) (pd_df fr (2 ^ v))))), (3, .int (nI (pd_df fr (2 ^ v)))), (0, .ref h), (1, .int (nI (pd_wd (pd_up e) on))), (4, .int (nI v))] 76 [.int (nI (pd_rl (pd_up e) v)), .int (nI (pd_df fr (2 ^ v)))]
            refine g_iconst (v := (-1)) X dX0_antichain_76 (by decide) ?_
            refine g_ixor (v := (nI (pd_rl (pd_up e) v) ^^^ (-1))) X dX0_antichain_77 rfl ?_
            refine g_iand (v := (nI (pd_df (pd_df fr (2 ^ v)) (pd_rl (pd_up e) v)))) X dX0_antichain_78 (pn_df _ _) ?_
            refine g_istore_n (L' := [(3, .int (nI (pd_df (pd_df fr (2 ^ v)) (pd_rl (pd_up e) v)))), (2, .int (nI (tk ||| (2 ^ v)))), (5, .int (nI (pd_wd (pd_up e) (pd_df fr (2 ^ v))))), (0, .ref h), (1, .int (nI (pd_wd (pd_up e) on))), (4, .int (nI v))]) X dX0_antichain_79 rfl (by decide) rfl ?_
            refine g_iinc (v := (dI v)) (L' := [(4, .int (dI v)), (3, .int (nI (pd_df (pd_df fr (2 ^ v)) (pd_rl (pd_up e) v)))), (2, .int (nI (tk ||| (2 ^ v)))), (5, .int (nI (pd_wd (pd_up e) (pd_df fr (2 ^ v))))), (0, .ref h), (1, .int (nI (pd_wd (pd_up e) on)))]) X dX0_antichain_80 5 rfl rfl (by decide) rfl ?_
            refine g_goto X 20 dX0_antichain_83 (by decide) ?_
            refine g_loc (L' := [(0, .ref h), (1, .int (nI (pd_wd (pd_up e) on))), (2, .int (nI (tk ||| (2 ^ v)))), (3, .int (nI (pd_df (pd_df fr (2 ^ v)) (pd_rl (pd_up e) v)))), (4, .int (dI v))]) [4, 5, 2, 1, 0] rfl ?_
            exact ih20 hi3 ro3 ri3 fl3 co3 ci3 q3 (tk ||| (2 ^ v)) (pd_df (pd_df fr (2 ^ v)) (pd_rl (pd_up e) v)) v hh3 (by omega) (pd_GI_in (pd_up_or hE) (by omega) hG c32 (by omega)) (by omega)
  refine g_loc (L' := [(0, .ref h), (1, .int (nI (pd_wd (pd_up e) on))), (2, .int (nI 0)), (3, .int (nI on)), (4, .int (dI 10))]) [4, 3, 2, 1, 0] rfl ?_
  exact lp20 _ hi1 ro1 ri1 fl1 co1 ci1 q1 0 on 10 hh1 (by omega) (pd_GI_0 hon) (Nat.lt_succ_self _)

set_option maxHeartbeats 4000000 in
set_option maxRecDepth 100000 in
/-- paths() -/
theorem mX_paths (l : Launch) (D : va_G) (d : ClassId) (h : Nat) (ad : Nat → Nat) (on : Nat) (w e : Nat → Nat) (cl : Nat) (hi : Nat → Nat) (ct : Nat) (wi ro ri fl : Nat → Nat) (co ci : Nat → Option Nat) (q : Nat → Nat) (hE : pd_Ed e) (hw9 : ∀ v, v < 10 → w v ≤ 9) (hcl : cl = 0 ∨ (cl = 1 ∧ ∀ v, v < 10 → hi v = pd_up e v)) (hon : on < 1024) : MI l yX0_paths cX0_paths 2 .int 3 77 D [(d, .int)] [.ref h] (wX d h ad on w e cl hi ct wi ro ri fl co ci q) (fun u : SX => (wX d h ad on w e 1 u.2.1 ct wi u.2.2.1 u.2.2.2.1 u.2.2.2.2.1 u.2.2.2.2.2.1 u.2.2.2.2.2.2.1 u.2.2.2.2.2.2.2)) (fun r u => r = nI (pd_bc on - u.1) ∧ pd_MC e on (pd_cp (fun _ => 1) on) u.1 ∧ ∀ v, v < 10 → u.2.1 v = pd_up e v) := by
  refine MI_of (by decide) (Nat.le_of_ble_eq_true rfl) ?_
  intro K hl hD hT X R
  subst hl; subst hD
  have X : Cx K cX0_paths RX0 (some .int) 2 ({ frames := 3, cells := 0, slots := 0, locals := 77 }) := X
  have t0 : (kT K)[0]? = some (d, .int) := by rw [hT]; rfl
  show Go K 0 0 (wX d h ad on w e cl hi ct wi ro ri fl co ci q) [(0, .ref h)] 0 []
  refine g_aload_n X dX0_paths_0 0 rfl rfl ?_
  refine g_aload_n X dX0_paths_1 0 rfl rfl ?_
  refine g_get X in_X0 0 rfl rfl 0 (by decide) q30 rfl dX0_paths_2 ?_
  refine g_iconst (v := (nI true.toNat)) X dX0_paths_5 (by decide) ?_
  refine g_iconst (v := (nI false.toNat)) X dX0_paths_6 (by decide) ?_
  refine g_callV (st := []) (ci := 0) (q := (RX0, TX0, 13)) (wr := []) X (mX_match _ _ d h ad on w e cl hi ct wi ro ri fl co ci q hE hw9 hcl on hon true false) (lw_V q102 q104 qs2 q20 q105) 3 (by decide +kernel) (by decide) (by decide) rfl rfl rfl [0, 1, 2, 3, 4, 5, 6, 7, 8, 9, 10] [] [0] rfl rfl rfl (by decide) (by decide) (by decide) (by rw [hT]; rfl) rfl (Nat.le_of_ble_eq_true rfl) dX0_paths_7 (fun r u hp => ?_)
  obtain ⟨n1, hi1, ro1, ri1, fl1, co1, ci1, q1⟩ := u
  obtain ⟨hr, hM, hh1⟩ := hp
  have hr : r = nI n1 := hr
  subst hr
  have hh1 : ∀ v, v < 10 → hi1 v = pd_up e v := hh1
  have hM : pd_MC e on (pd_cp (fun _ => 1) on) n1 := hM
  show Go K 0 0 (wX d h ad on w e 1 hi1 ct wi ro1 ri1 fl1 co1 ci1 q1) [(0, .ref h)] 10 [.int (nI n1)]
  refine g_istore_n (L' := [(1, .int (nI n1)), (0, .ref h)]) X dX0_paths_10 rfl (by decide) rfl ?_
  refine g_aload_n X dX0_paths_11 1 rfl rfl ?_
  refine g_get X in_X0 0 rfl rfl 0 (by decide) q30 rfl dX0_paths_12 ?_
  refine g_callS (st := []) X (mX_bits _ _ on hon) (lw_S q122 q123 q20 q124) 1 (by decide +kernel) (by decide) (by decide) rfl rfl (Nat.le_of_ble_eq_true rfl) dX0_paths_15 (fun r hp => ?_)
  obtain rfl := hp
  show Go K 0 0 (wX d h ad on w e 1 hi1 ct wi ro1 ri1 fl1 co1 ci1 q1) [(1, .int (nI n1)), (0, .ref h)] 18 [.int (nI (pd_bc on))]
  refine g_iload_n X dX0_paths_18 0 rfl rfl ?_
  refine g_isub (v := (nI ((pd_bc on) - n1))) X dX0_paths_19 (pk_sub (pd_MC_le hM)) ?_
  exact R (n1, hi1, ro1, ri1, fl1, co1, ci1, q1) (nI ((pd_bc on) - n1)) _ _ ⟨rfl, hM, hh1⟩ rfl dX0_paths_20

set_option maxHeartbeats 4000000 in
set_option maxRecDepth 100000 in
/-- heaviest() -/
theorem mX_heaviest (l : Launch) (D : va_G) (d : ClassId) (h : Nat) (ad : Nat → Nat) (on : Nat) (w e : Nat → Nat) (cl : Nat) (hi : Nat → Nat) (ct : Nat) (wi ro ri fl : Nat → Nat) (co ci : Nat → Option Nat) (q : Nat → Nat) (hE : pd_Ed e) (hw9 : ∀ v, v < 10 → w v ≤ 9) (hcl : cl = 0 ∨ (cl = 1 ∧ ∀ v, v < 10 → hi v = pd_up e v)) (hon : on < 1024) : MI l yX0_heaviest cX0_heaviest 4 .int 3 77 D [(d, .int)] [.ref h] (wX d h ad on w e cl hi ct wi ro ri fl co ci q) (fun u : SX => (wX d h ad on w e 1 u.2.1 ct wi u.2.2.1 u.2.2.2.1 u.2.2.2.2.1 u.2.2.2.2.2.1 u.2.2.2.2.2.2.1 u.2.2.2.2.2.2.2)) (fun r u => r = nI (pd_ws w on - u.1) ∧ pd_MC (pd_up e) on (pd_cp w on) u.1 ∧ ∀ v, v < 10 → u.2.1 v = pd_up e v) := by
  refine MI_of (by decide) (Nat.le_of_ble_eq_true rfl) ?_
  intro K hl hD hT X R
  subst hl; subst hD
  have X : Cx K cX0_heaviest RX0 (some .int) 4 ({ frames := 3, cells := 0, slots := 0, locals := 77 }) := X
  have t0 : (kT K)[0]? = some (d, .int) := by rw [hT]; rfl
  show Go K 0 0 (wX d h ad on w e cl hi ct wi ro ri fl co ci q) [(0, .ref h)] 0 []
  refine g_aload_n X dX0_heaviest_0 0 rfl rfl ?_
  refine g_aload_n X dX0_heaviest_1 0 rfl rfl ?_
  refine g_get X in_X0 0 rfl rfl 0 (by decide) q30 rfl dX0_heaviest_2 ?_
  refine g_iconst (v := (nI false.toNat)) X dX0_heaviest_5 (by decide) ?_
  refine g_iconst (v := (nI true.toNat)) X dX0_heaviest_6 (by decide) ?_
  refine g_callV (st := []) (ci := 0) (q := (RX0, TX0, 13)) (wr := []) X (mX_match _ _ d h ad on w e cl hi ct wi ro ri fl co ci q hE hw9 hcl on hon false true) (lw_V q102 q104 qs2 q20 q105) 3 (by decide +kernel) (by decide) (by decide) rfl rfl rfl [0, 1, 2, 3, 4, 5, 6, 7, 8, 9, 10] [] [0] rfl rfl rfl (by decide) (by decide) (by decide) (by rw [hT]; rfl) rfl (Nat.le_of_ble_eq_true rfl) dX0_heaviest_7 (fun r u hp => ?_)
  obtain ⟨n1, hi1, ro1, ri1, fl1, co1, ci1, q1⟩ := u
  obtain ⟨hr, hM, hh1⟩ := hp
  have hr : r = nI n1 := hr
  subst hr
  have hh1 : ∀ v, v < 10 → hi1 v = pd_up e v := hh1
  have hM : pd_MC (pd_up e) on (pd_cp w on) n1 := hM
  show Go K 0 0 (wX d h ad on w e 1 hi1 ct wi ro1 ri1 fl1 co1 ci1 q1) [(0, .ref h)] 10 [.int (nI n1)]
  refine g_istore_n (L' := [(1, .int (nI n1)), (0, .ref h)]) X dX0_heaviest_10 rfl (by decide) rfl ?_
  refine g_iconst (v := (nI 0)) X dX0_heaviest_11 (by decide) ?_
  refine g_istore_n (L' := [(2, .int (nI 0)), (1, .int (nI n1)), (0, .ref h)]) X dX0_heaviest_12 rfl (by decide) rfl ?_
  refine g_iconst (v := (nI 0)) X dX0_heaviest_13 (by decide) ?_
  refine g_istore_n (L' := [(3, .int (nI 0)), (2, .int (nI 0)), (1, .int (nI n1)), (0, .ref h)]) X dX0_heaviest_14 rfl (by decide) rfl ?_
  have lp15 : ∀ (n : Nat) (v : Nat), (v ≤ 10) → 10 - v < n → Go K 0 0 (wX d h ad on w e 1 hi1 ct wi ro1 ri1 fl1 co1 ci1 q1) [(0, .ref h), (1, .int (nI n1)), (2, .int (nI (pd_wk w on v))), (3, .int (nI v))] 15 [] := by
    intro n
    induction n with
    | zero => intro v hv hm; exact absurd hm (Nat.not_lt_zero _)
    | succ n ih15 =>
      intro v hv hm
      refine g_iload_n X dX0_heaviest_15 3 rfl rfl ?_
      refine g_bipush (v := (nI 10)) X dX0_heaviest_16 (by decide) ?_
      refine g_icmp_ge (P := 10 ≤ v) X 48 dX0_heaviest_18 (by decide) (nI_leI (by omega) (by omega)) (fun c18 => ?_) (fun c18 => ?_)
      · rw [show v = 10 by omega]
        have hle : n1 ≤ pd_wk w on 10 := pd_MC_le hM
        refine g_iload_n X dX0_heaviest_48 2 rfl rfl ?_
        refine g_iload_n X dX0_heaviest_49 1 rfl rfl ?_
        refine g_isub (v := (nI ((pd_wk w on 10) - n1))) X dX0_heaviest_50 (pk_sub (by omega)) ?_
        exact R (n1, hi1, ro1, ri1, fl1, co1, ci1, q1) (nI ((pd_wk w on 10) - n1)) _ _ ⟨rfl, hM, hh1⟩ rfl dX0_heaviest_51
      · refine g_aload_n X dX0_heaviest_21 0 rfl rfl ?_
        refine g_get X in_X0 0 rfl rfl 0 (by decide) q30 rfl dX0_heaviest_22 ?_
        refine g_iload_n X dX0_heaviest_25 3 rfl rfl ?_
        refine g_ishr (v := (nI (on >>> v))) X dX0_heaviest_26 (pn_shr (by omega) (by omega)) ?_
        refine g_iconst (v := (nI 1)) X dX0_heaviest_27 (by decide) ?_
        refine g_iand (v := (nI ((on >>> v) &&& 1))) X dX0_heaviest_28 (pn_and _ _) ?_
        refine g_iconst (v := (nI 1)) X dX0_heaviest_29 (by decide) ?_
        refine g_icmp_ne (P := (on).testBit v = true) X 42 dX0_heaviest_30 (by decide) (pn_b1 _ _) (fun c30 => ?_) (fun c30 => ?_)
        · rw [← pd_wk_n (w := w) c30]
          refine g_iinc (v := (nI (v + 1))) (L' := [(3, .int (nI (v + 1))), (0, .ref h), (1, .int (nI n1)), (2, .int (nI (pd_wk w on (v + 1))))]) X dX0_heaviest_42 3 rfl (pn_inc _) (by decide) rfl ?_
          refine g_goto X 15 dX0_heaviest_45 (by decide) ?_
          refine g_loc (L' := [(0, .ref h), (1, .int (nI n1)), (2, .int (nI (pd_wk w on (v + 1)))), (3, .int (nI (v + 1)))]) [1, 2, 3, 0] rfl ?_
          exact ih15 (v + 1) (by omega) (by omega)
        · refine g_iload_n X dX0_heaviest_33 2 rfl rfl ?_
          refine g_aload_n X dX0_heaviest_34 0 rfl rfl ?_
          refine g_get X in_X0 0 rfl rfl 1 (by decide) q31 rfl dX0_heaviest_35 ?_
          refine g_iload_n X dX0_heaviest_38 3 rfl rfl ?_
          refine g_iald (v := (nI (w v))) X 1 0 rfl t0 (by omega) (by decide) rfl dX0_heaviest_39 ?_
          refine g_iadd (v := (nI (pd_wk w on (v + 1)))) X dX0_heaviest_40 ((nI_add _ _).trans (congrArg nI (pd_wk_y c30).symm)) ?_
          refine g_istore_n (L' := [(2, .int (nI (pd_wk w on (v + 1)))), (0, .ref h), (1, .int (nI n1)), (3, .int (nI v))]) X dX0_heaviest_41 rfl (by decide) rfl ?_
          refine g_iinc (v := (nI (v + 1))) (L' := [(3, .int (nI (v + 1))), (2, .int (nI (pd_wk w on (v + 1)))), (0, .ref h), (1, .int (nI n1))]) X dX0_heaviest_42 3 rfl (pn_inc _) (by decide) rfl ?_
          refine g_goto X 15 dX0_heaviest_45 (by decide) ?_
          refine g_loc (L' := [(0, .ref h), (1, .int (nI n1)), (2, .int (nI (pd_wk w on (v + 1)))), (3, .int (nI (v + 1)))]) [2, 3, 1, 0] rfl ?_
          exact ih15 (v + 1) (by omega) (by omega)
  refine g_loc (L' := [(0, .ref h), (1, .int (nI n1)), (2, .int (nI 0)), (3, .int (nI 0))]) [3, 2, 1, 0] rfl ?_
  exact lp15 _ 0 (by omega) (Nat.lt_succ_self _)
end
section
/-! HELP 3: the best chain's table, counting, apart -/
theorem pd_W_n {wt : Bool} {w : Nat → Nat} {v : Nat} (h : ¬ wt = true) : pd_W wt w v = 1 := if_neg h
theorem pd_W_y {wt : Bool} {w : Nat → Nat} {v : Nat} (h : wt = true) : pd_W wt w v = w v := if_pos h
theorem pd_mx_cg {p : Nat → Bool} {f g : Nat → Nat} : ∀ {n : Nat}, (∀ k, k < n → p k = true → f k = g k) → pd_mx p f n = pd_mx p g n
  | 0, _ => rfl
  | n + 1, h => by
    show (if p n = true ∧ pd_mx p f n < f n then f n else pd_mx p f n) = (if p n = true ∧ pd_mx p g n < g n then g n else pd_mx p g n)
    rw [pd_mx_cg (n := n) (fun k hk => h k (by omega))]
    by_cases q : p n = true
    · rw [h n (by omega) q]
    · rw [if_neg (fun z => q z.1), if_neg (fun z => q z.1)]
def pd_bh (U : Nat → Nat) (on : Nat) (q : Nat → Nat) (v n : Nat) : Nat := pd_mx (fun x => decide (v < x) && (U v &&& on).testBit x) q n
theorem pd_bh_lo {U : Nat → Nat} {on : Nat} {q : Nat → Nat} {v : Nat} : ∀ {n : Nat}, n ≤ v + 1 → pd_bh U on q v n = 0
  | 0, _ => rfl
  | n + 1, h => by
    show (if (decide (v < n) && (U v &&& on).testBit n) = true ∧ pd_bh U on q v n < q n then q n else pd_bh U on q v n) = 0
    rw [if_neg (fun z => by rw [decide_eq_false (by omega)] at z; exact absurd z.1 (by simp)), pd_bh_lo (by omega)]
theorem pd_bh_s {U : Nat → Nat} {on : Nat} {q : Nat → Nat} {v n : Nat} (h : v < n) (hb : (U v &&& on).testBit n = true) (hq : pd_bh U on q v n < q n) : pd_bh U on q v (n + 1) = q n := by
  refine if_pos ⟨?_, hq⟩
  show (decide (v < n) && (U v &&& on).testBit n) = true
  rw [decide_eq_true h, hb]; rfl
theorem pd_bh_n1 {U : Nat → Nat} {on : Nat} {q : Nat → Nat} {v n : Nat} (hb : ¬ (U v &&& on).testBit n = true) : pd_bh U on q v (n + 1) = pd_bh U on q v n := by
  refine if_neg (fun z => hb ?_)
  have := z.1
  rw [Bool.and_eq_true] at this
  exact this.2
theorem pd_bh_n2 {U : Nat → Nat} {on : Nat} {q : Nat → Nat} {v n : Nat} (hq : q n ≤ pd_bh U on q v n) : pd_bh U on q v (n + 1) = pd_bh U on q v n :=
  if_neg (fun z => absurd z.2 (Nat.not_lt.mpr hq))
def pd_QI (U : Nat → Nat) (on : Nat) (W q : Nat → Nat) (best j : Nat) : Prop :=
  (∀ v, j ≤ v → v < 10 → q v = pd_bh U on q v 10 + W v) ∧ (∀ v, j ≤ v → v < 10 → q v ≤ 9 * (10 - v)) ∧ (∀ v, j ≤ v → v < 10 → on.testBit v = true → q v ≤ best) ∧
  (best = 0 ∨ ∃ v, v < 10 ∧ j ≤ v ∧ on.testBit v = true ∧ q v = best) ∧ best ≤ 90
theorem pd_QI_0 {U : Nat → Nat} {on : Nat} {W q : Nat → Nat} : pd_QI U on W q 0 10 :=
  ⟨fun v h1 h2 => absurd h1 (by omega), fun v h1 h2 => absurd h1 (by omega), fun v h1 h2 => absurd h1 (by omega), Or.inl rfl, by omega⟩
theorem pd_bh_le {U : Nat → Nat} {on : Nat} {W q : Nat → Nat} {best v : Nat} (h : pd_QI U on W q best (v + 1)) {n : Nat} (hn : n ≤ 10) (hv : v < 10) : pd_bh U on q v n ≤ 9 * (9 - v) := by
  rcases pd_mx_at (fun x => decide (v < x) && (U v &&& on).testBit x) q n with z | ⟨k, h1, h2, h3⟩
  · have : pd_bh U on q v n = 0 := z
    omega
  · have h2 : (decide (v < k) && (U v &&& on).testBit k) = true := h2
    rw [Bool.and_eq_true, decide_eq_true_iff] at h2
    have h3 : q k = pd_bh U on q v n := h3
    have := h.2.1 k (by omega) (by omega)
    omega
theorem pd_QI_q {U : Nat → Nat} {on : Nat} {W q : Nat → Nat} {best v w : Nat} (h : pd_QI U on W q best (v + 1)) (hv : v < 10) (hW : W v ≤ 9) (hw : w = 10) :
    (∀ u, v ≤ u → u < 10 → pd_st q v (pd_bh U on q v w + W v) u = pd_bh U on (pd_st q v (pd_bh U on q v w + W v)) u 10 + W u) ∧ (∀ u, v ≤ u → u < 10 → pd_st q v (pd_bh U on q v w + W v) u ≤ 9 * (10 - u)) ∧ pd_bh U on q v w + W v ≤ 90 := by
  subst hw
  have hb := pd_bh_le h (n := 10) (Nat.le_refl _) hv
  have cg : ∀ u, v ≤ u → pd_bh U on (pd_st q v (pd_bh U on q v 10 + W v)) u 10 = pd_bh U on q u 10 := fun u hu => pd_mx_cg (fun k hk hp => by
    have hp : (decide (u < k) && (U u &&& on).testBit k) = true := hp
    rw [Bool.and_eq_true, decide_eq_true_iff] at hp
    exact pd_st_n (by omega))
  refine ⟨fun u h1 h2 => ?_, fun u h1 h2 => ?_, by omega⟩
  · rw [cg u h1]
    by_cases z : u = v
    · rw [z, pd_st_s]
    · rw [pd_st_n z]; exact h.1 u (by omega) h2
  · by_cases z : u = v
    · rw [z, pd_st_s]; omega
    · rw [pd_st_n z]; exact h.2.1 u (by omega) h2
theorem pd_QI_a {U : Nat → Nat} {on : Nat} {W q : Nat → Nat} {best v w : Nat} (h : pd_QI U on W q best (v + 1)) (hv : v < 10) (hW : W v ≤ 9) (hw : w = 10) (hn : on.testBit v = true → pd_bh U on q v w + W v ≤ best) : pd_QI U on W (pd_st q v (pd_bh U on q v w + W v)) best v := by
  obtain ⟨a1, a2, a3⟩ := pd_QI_q h hv hW hw
  obtain ⟨h1, h2, h3, h4, h5⟩ := h
  refine ⟨a1, a2, fun u g1 g2 g3 => ?_, ?_, h5⟩
  · by_cases z : u = v
    · rw [z] at g3; rw [z, pd_st_s]; exact hn g3
    · rw [pd_st_n z]; exact h3 u (by omega) g2 g3
  · rcases h4 with z | ⟨u, b1, b2, b3, b4⟩
    · exact Or.inl z
    · exact Or.inr ⟨u, b1, by omega, b3, by rw [pd_st_n (by omega)]; exact b4⟩
theorem pd_QI_c {U : Nat → Nat} {on : Nat} {W q : Nat → Nat} {best v w : Nat} (h : pd_QI U on W q best (v + 1)) (hv : v < 10) (hW : W v ≤ 9) (hw : w = 10) (ho : on.testBit v = true) (hn : best < pd_bh U on q v w + W v) : pd_QI U on W (pd_st q v (pd_bh U on q v w + W v)) (pd_bh U on q v w + W v) v := by
  obtain ⟨a1, a2, a3⟩ := pd_QI_q h hv hW hw
  obtain ⟨h1, h2, h3, h4, h5⟩ := h
  refine ⟨a1, a2, fun u g1 g2 g3 => ?_, Or.inr ⟨v, hv, Nat.le_refl _, ho, pd_st_s⟩, a3⟩
  by_cases z : u = v
  · rw [z, pd_st_s]; exact Nat.le_refl _
  · rw [pd_st_n z]
    have := h3 u (by omega) g2 g3
    omega
/-- the weight of the best chain within on -/
def pd_ch (U : Nat → Nat) (on : Nat) (f : Nat → Nat) : Nat := pd_mx (fun s => decide (pd_df s on = 0) && pd_ro U s 10) f 1024
theorem pd_QI_end {U : Nat → Nat} {on : Nat} {W q : Nat → Nat} {best : Nat} (h : pd_QI U on W q best 0) (hon : on < 1024) : pd_ch U on (pd_ws W) = best := by
  obtain ⟨h1, h2, h3, h4, h5⟩ := h
  refine pd_best hon (fun v hv => h1 v (Nat.zero_le _) hv) (fun v hv hb => h3 v (Nat.zero_le _) hv hb) ?_
  rcases h4 with z | ⟨v, b1, b2, b3, b4⟩
  · exact Or.inl z
  · exact Or.inr ⟨v, b1, b3, b4⟩
/-! counting -/
theorem pd_cw_A {wi : Nat → Nat} {v r x : Nat} {c : Nat → Nat} (hr : r < 2 ^ v) (hA : ∀ s, s < 2 ^ v → wi s = c s) : ∀ s, s < 2 ^ v → pd_st wi (r ||| 2 ^ v) x s = c s := fun s hs => by
  have h1 : r ||| 2 ^ v = r + 2 ^ v := Nat.or_two_pow_eq_add_of_lt hr
  rw [pd_st_n (by omega)]; exact hA s hs
theorem pd_cw_B {wi : Nat → Nat} {v r : Nat} {c : Nat → Nat} (hr : r < 2 ^ v) (hB : ∀ s, s < r → wi (s ||| 2 ^ v) = c (s ||| 2 ^ v)) : ∀ s, s < r + 1 → pd_st wi (r ||| 2 ^ v) (c (r ||| 2 ^ v)) (s ||| 2 ^ v) = c (s ||| 2 ^ v) := fun s hs => by
  by_cases z : s = r
  · rw [z]; exact pd_st_s
  · have h1 : r ||| 2 ^ v = r + 2 ^ v := Nat.or_two_pow_eq_add_of_lt hr
    have h2 : s ||| 2 ^ v = s + 2 ^ v := Nat.or_two_pow_eq_add_of_lt (by omega)
    rw [pd_st_n (by omega)]; exact hB s (by omega)
theorem pd_cw_end {wi : Nat → Nat} {v r : Nat} {c : Nat → Nat} (hr : 2 ^ v ≤ r) (hA : ∀ s, s < 2 ^ v → wi s = c s) (hB : ∀ s, s < r → wi (s ||| 2 ^ v) = c (s ||| 2 ^ v)) : ∀ s, s < 2 ^ (v + 1) → wi s = c s := fun s hs => by
  have h2 : (2 : Nat) ^ (v + 1) = 2 ^ v + 2 ^ v := by rw [Nat.pow_succ]; omega
  rcases Nat.lt_or_ge s (2 ^ v) with z | z
  · exact hA s z
  · have h3 : (s - 2 ^ v) ||| 2 ^ v = s := by rw [Nat.or_two_pow_eq_add_of_lt (by omega)]; omega
    have := hB (s - 2 ^ v) (by omega)
    rw [h3] at this; exact this
/-! apart -/
def pd_ar (U : Nat → Nat) (on a n : Nat) : Nat := pd_sm (fun b => (decide (a < b) && (on.testBit a && (on.testBit b && !((U a).testBit b)))).toNat) n
def pd_ap (U : Nat → Nat) (on n : Nat) : Nat := pd_sm (fun a => pd_ar U on a 10) n
theorem pd_ar_lo {U : Nat → Nat} {on a : Nat} {n : Nat} (h : n ≤ a + 1) : pd_ar U on a n = 0 := pd_sm_zero fun b hb => by
  show (decide (a < b) && _).toNat = 0
  rw [decide_eq_false (by omega)]; rfl
theorem pd_ar_y {U : Nat → Nat} {on a b : Nat} (h : a < b) (ha : on.testBit a = true) (hb : on.testBit b = true) (hu : ¬ (U a).testBit b = true) : pd_ar U on a (b + 1) = pd_ar U on a b + 1 := by
  show pd_ar U on a b + (decide (a < b) && (on.testBit a && (on.testBit b && !((U a).testBit b)))).toNat = _
  rw [decide_eq_true h, ha, hb, pd_nb hu]; rfl
theorem pd_ar_n {U : Nat → Nat} {on a b : Nat} (h : ¬ (on.testBit a = true ∧ on.testBit b = true ∧ ¬ (U a).testBit b = true)) : pd_ar U on a (b + 1) = pd_ar U on a b := by
  show pd_ar U on a b + (decide (a < b) && (on.testBit a && (on.testBit b && !((U a).testBit b)))).toNat = _
  have : (decide (a < b) && (on.testBit a && (on.testBit b && !((U a).testBit b)))) = false := by
    refine pd_nb fun z => h ?_
    rw [Bool.and_eq_true, Bool.and_eq_true, Bool.and_eq_true] at z
    obtain ⟨-, z1, z2, z3⟩ := z
    refine ⟨z1, z2, fun y => ?_⟩
    rw [y] at z3; cases z3
  rw [this]; rfl
end
section
/-! WALK 34: PathCoverDag, bestChain, height, heaviestChain, countWith, antichains, apart -/

set_option maxHeartbeats 4000000 in
set_option maxRecDepth 100000 in
/-- bestChain(weighted) -/
theorem mX_bestChain (l : Launch) (D : va_G) (d : ClassId) (h : Nat) (ad : Nat → Nat) (on : Nat) (w e : Nat → Nat) (cl : Nat) (hi : Nat → Nat) (ct : Nat) (wi ro ri fl : Nat → Nat) (co ci : Nat → Option Nat) (q : Nat → Nat) (hE : pd_Ed e) (hw9 : ∀ v, v < 10 → w v ≤ 9) (hcl : cl = 0 ∨ (cl = 1 ∧ ∀ v, v < 10 → hi v = pd_up e v)) (hon : on < 1024) (wt : Bool) : MI l yX0_bestChain cX0_bestChain 7 .int 1 23 D [(d, .int)] [.ref h, .int (nI wt.toNat)] (wX d h ad on w e cl hi ct wi ro ri fl co ci q) (fun u : SX => (wX d h ad on w e 1 u.2.1 ct wi u.2.2.1 u.2.2.2.1 u.2.2.2.2.1 u.2.2.2.2.2.1 u.2.2.2.2.2.2.1 u.2.2.2.2.2.2.2)) (fun r u => r = nI (pd_ch (pd_up e) on (pd_ws (pd_W wt w))) ∧ ∀ v, v < 10 → u.2.1 v = pd_up e v) := by
  refine MI_of (by decide) (Nat.le_of_ble_eq_true rfl) ?_
  intro K hl hD hT X R
  subst hl; subst hD
  have X : Cx K cX0_bestChain RX0 (some .int) 7 ({ frames := 1, cells := 0, slots := 0, locals := 23 }) := X
  have t0 : (kT K)[0]? = some (d, .int) := by rw [hT]; rfl
  show Go K 0 0 (wX d h ad on w e cl hi ct wi ro ri fl co ci q) [(0, .ref h), (1, .int (nI wt.toNat))] 0 []
  refine g_aload_n X dX0_bestChain_0 0 rfl rfl ?_
  refine g_callVv (st := []) (ci := 0) (q := (RX0, TX0, 13)) (wr := []) X (mX_close _ _ d h ad on w e cl hi ct wi ro ri fl co ci q hE hcl) (lw_V q90 q92 qs0 q20 q93) 0 (by decide +kernel) (by decide) (by decide) rfl rfl rfl [0, 1, 2, 3, 4, 5, 6, 7, 8, 9, 10] [] [0] rfl rfl rfl (by decide) (by decide) (by decide) (by rw [hT]; rfl) rfl (Nat.le_of_ble_eq_true rfl) dX0_bestChain_1 (fun hi1 hh => ?_)
  show Go K 0 0 (wX d h ad on w e 1 hi1 ct wi ro ri fl co ci q) [(0, .ref h), (1, .int (nI wt.toNat))] 4 []
  refine g_iconst (v := (nI 0)) X dX0_bestChain_4 (by decide) ?_
  refine g_istore_n (L' := [(2, .int (nI 0)), (0, .ref h), (1, .int (nI wt.toNat))]) X dX0_bestChain_5 rfl (by decide) rfl ?_
  refine g_bipush (v := (dI 10)) X dX0_bestChain_6 (by decide) ?_
  refine g_istore_n (L' := [(3, .int (dI 10)), (2, .int (nI 0)), (0, .ref h), (1, .int (nI wt.toNat))]) X dX0_bestChain_8 rfl (by decide) rfl ?_
  have lp9 : ∀ (n : Nat) (q1 : Nat → Nat) (best : Nat) (j : Nat), (j ≤ 10) → (pd_QI (pd_up e) on (pd_W wt w) q1 best j) → j < n → Go K 0 0 (wX d h ad on w e 1 hi1 ct wi ro ri fl co ci q1) [(0, .ref h), (1, .int (nI wt.toNat)), (2, .int (nI best)), (3, .int (dI j))] 9 [] := by
    intro n
    induction n with
    | zero => intro q1 best j hj hQ hm; exact absurd hm (Nat.not_lt_zero _)
    | succ n ih9 =>
      intro q1 best j hj hQ hm
      refine g_iload_n X dX0_bestChain_9 3 rfl rfl ?_
      refine g_if_lt (P := j = 0) X 137 dX0_bestChain_10 (by decide) (pn_di0 (by omega)) (fun c10 => ?_) (fun c10 => ?_)
      · refine g_iload_n X dX0_bestChain_137 2 rfl rfl ?_
        exact R (best, hi1, ro, ri, fl, co, ci, q1) (nI best) _ _ ⟨by rw [c10] at hQ; rw [pd_QI_end hQ hon], hh⟩ rfl dX0_bestChain_138
      · obtain ⟨v, rfl⟩ : ∃ v, j = v + 1 := ⟨j - 1, by omega⟩
        rw [pn_di v]
        have hand : pd_up e v &&& on < 1024 := Nat.lt_of_le_of_lt Nat.and_le_right hon
        refine g_iconst (v := (nI 0)) X dX0_bestChain_13 (by decide) ?_
        refine g_istore (L' := [(4, .int (nI 0)), (0, .ref h), (1, .int (nI wt.toNat)), (2, .int (nI best)), (3, .int (nI v))]) X dX0_bestChain_14 (by decide) rfl ?_
        refine g_aload_n X dX0_bestChain_16 1 rfl rfl ?_
        refine g_get X in_X0 0 rfl rfl 4 (by decide) q34 rfl dX0_bestChain_17 ?_
        refine g_iload_n X dX0_bestChain_20 4 rfl rfl ?_
        refine g_iald (v := (nI (pd_up e v))) X 3 0 rfl t0 (by omega) (by decide) (congrArg nI (hh v (by omega))) dX0_bestChain_21 ?_
        refine g_aload_n X dX0_bestChain_22 1 rfl rfl ?_
        refine g_get X in_X0 0 rfl rfl 0 (by decide) q30 rfl dX0_bestChain_23 ?_
        refine g_iand (v := (nI ((pd_up e v) &&& on))) X dX0_bestChain_26 (pn_and _ _) ?_
        refine g_istore (L' := [(5, .int (nI ((pd_up e v) &&& on))), (4, .int (nI 0)), (0, .ref h), (1, .int (nI wt.toNat)), (2, .int (nI best)), (3, .int (nI v))]) X dX0_bestChain_27 (by decide) rfl ?_
        refine g_iload_n X dX0_bestChain_29 5 rfl rfl ?_
        refine g_iconst (v := (nI 1)) X dX0_bestChain_30 (by decide) ?_
        refine g_iadd (v := (nI (v + 1))) X dX0_bestChain_31 (nI_add _ _) ?_
        refine g_istore (L' := [(6, .int (nI (v + 1))), (5, .int (nI ((pd_up e v) &&& on))), (4, .int (nI 0)), (0, .ref h), (1, .int (nI wt.toNat)), (2, .int (nI best)), (3, .int (nI v))]) X dX0_bestChain_32 (by decide) rfl ?_
        have lp34 : ∀ (n : Nat) (w1 : Nat), (v + 1 ≤ w1) → (w1 ≤ 10) → 10 - w1 < n → Go K 0 0 (wX d h ad on w e 1 hi1 ct wi ro ri fl co ci q1) [(0, .ref h), (1, .int (nI wt.toNat)), (2, .int (nI best)), (3, .int (nI v)), (4, .int (nI (pd_bh (pd_up e) on q1 v w1))), (5, .int (nI ((pd_up e v) &&& on))), (6, .int (nI w1))] 34 [] := by
          intro n
          induction n with
          | zero => intro w1 hw1 hw2 hm; exact absurd hm (Nat.not_lt_zero _)
          | succ n ih34 =>
            intro w1 hw1 hw2 hm
            refine g_iload X dX0_bestChain_34 6 rfl ?_
            refine g_bipush (v := (nI 10)) X dX0_bestChain_36 (by decide) ?_
            refine g_icmp_ge (P := 10 ≤ w1) X 79 dX0_bestChain_38 (by decide) (nI_leI (by omega) (by omega)) (fun c38 => ?_) (fun c38 => ?_)
            · refine g_aload_n X dX0_bestChain_79 0 rfl rfl ?_
              refine g_get X in_X0 0 rfl rfl 12 (by decide) q42 rfl dX0_bestChain_80 ?_
              refine g_iload_n X dX0_bestChain_83 3 rfl rfl ?_
              refine g_iload X dX0_bestChain_84 4 rfl ?_
              refine g_iload_n X dX0_bestChain_86 1 rfl rfl ?_
              refine g_if_eq (P := ¬ wt = true) X 99 dX0_bestChain_87 (by decide) (pn_bz _) (fun c87 => ?_) (fun c87 => ?_)
              · refine g_iconst (v := (nI 1)) X dX0_bestChain_99 (by decide) ?_
                refine g_iadd (v := (nI ((pd_bh (pd_up e) on q1 v w1) + (pd_W wt w v)))) X dX0_bestChain_100 (by rw [pd_W_n c87]; exact nI_add _ _) ?_
                refine g_iast (ws' := (wX d h ad on w e 1 hi1 ct wi ro ri fl co ci (pd_st q1 v ((pd_bh (pd_up e) on q1 v w1) + (pd_W wt w v))))) X 10 0 rfl t0 (by omega) (by decide) (nF_st _ _ _) rfl dX0_bestChain_101 ?_
                refine g_aload_n X dX0_bestChain_102 0 rfl rfl ?_
                refine g_get X in_X0 0 rfl rfl 0 (by decide) q30 rfl dX0_bestChain_103 ?_
                refine g_iload_n X dX0_bestChain_106 3 rfl rfl ?_
                refine g_ishr (v := (nI (on >>> v))) X dX0_bestChain_107 (pn_shr (by omega) (by omega)) ?_
                refine g_iconst (v := (nI 1)) X dX0_bestChain_108 (by decide) ?_
                refine g_iand (v := (nI ((on >>> v) &&& 1))) X dX0_bestChain_109 (pn_and _ _) ?_
                refine g_iconst (v := (nI 1)) X dX0_bestChain_110 (by decide) ?_
                refine g_icmp_ne (P := (on).testBit v = true) X 131 dX0_bestChain_111 (by decide) (pn_b1 _ _) (fun c111 => ?_) (fun c111 => ?_)
                · refine g_iinc (v := (dI v)) (L' := [(3, .int (dI v)), (0, .ref h), (1, .int (nI wt.toNat)), (2, .int (nI best)), (4, .int (nI (pd_bh (pd_up e) on q1 v w1))), (5, .int (nI ((pd_up e v) &&& on))), (6, .int (nI w1))]) X dX0_bestChain_131 3 rfl rfl (by decide) rfl ?_
                  refine g_goto X 9 dX0_bestChain_134 (by decide) ?_
                  refine g_loc (L' := [(0, .ref h), (1, .int (nI wt.toNat)), (2, .int (nI best)), (3, .int (dI v))]) [1, 2, 3, 0] rfl ?_
                  exact ih9 (pd_st q1 v ((pd_bh (pd_up e) on q1 v w1) + (pd_W wt w v))) best v (by omega) (pd_QI_a hQ (by omega) (pd_W_le hw9 v (by omega)) (by omega) (fun z => absurd z c111)) (by omega)
                · refine g_aload_n X dX0_bestChain_114 0 rfl rfl ?_
                  refine g_get X in_X0 0 rfl rfl 12 (by decide) q42 rfl dX0_bestChain_115 ?_
                  refine g_iload_n X dX0_bestChain_118 3 rfl rfl ?_
                  refine g_iald (v := (nI ((pd_bh (pd_up e) on q1 v w1) + (pd_W wt w v)))) X 10 0 rfl t0 (by omega) (by decide) (congrArg nI pd_st_s) dX0_bestChain_119 ?_
                  refine g_iload_n X dX0_bestChain_120 2 rfl rfl ?_
                  refine g_icmp_le (P := (pd_bh (pd_up e) on q1 v w1) + (pd_W wt w v) ≤ best) X 131 dX0_bestChain_121 (by decide) (nI_leI (by have := pd_bh_le hQ (n := w1) (by omega) (by omega); have := pd_W_le (wt := wt) hw9 v (by omega); omega) (by have := hQ.2.2.2.2; omega)) (fun c121 => ?_) (fun c121 => ?_)
                  · refine g_iinc (v := (dI v)) (L' := [(3, .int (dI v)), (0, .ref h), (1, .int (nI wt.toNat)), (2, .int (nI best)), (4, .int (nI (pd_bh (pd_up e) on q1 v w1))), (5, .int (nI ((pd_up e v) &&& on))), (6, .int (nI w1))]) X dX0_bestChain_131 3 rfl rfl (by decide) rfl ?_
                    refine g_goto X 9 dX0_bestChain_134 (by decide) ?_
                    refine g_loc (L' := [(0, .ref h), (1, .int (nI wt.toNat)), (2, .int (nI best)), (3, .int (dI v))]) [1, 2, 3, 0] rfl ?_
                    exact ih9 (pd_st q1 v ((pd_bh (pd_up e) on q1 v w1) + (pd_W wt w v))) best v (by omega) (pd_QI_a hQ (by omega) (pd_W_le hw9 v (by omega)) (by omega) (fun _ => c121)) (by omega)
                  · refine g_aload_n X dX0_bestChain_124 0 rfl rfl ?_
                    refine g_get X in_X0 0 rfl rfl 12 (by decide) q42 rfl dX0_bestChain_125 ?_
                    refine g_iload_n X dX0_bestChain_128 3 rfl rfl ?_
                    refine g_iald (v := (nI ((pd_bh (pd_up e) on q1 v w1) + (pd_W wt w v)))) X 10 0 rfl t0 (by omega) (by decide) (congrArg nI pd_st_s) dX0_bestChain_129 ?_
                    refine g_istore_n (L' := [(2, .int (nI ((pd_bh (pd_up e) on q1 v w1) + (pd_W wt w v)))), (0, .ref h), (1, .int (nI wt.toNat)), (3, .int (nI v)), (4, .int (nI (pd_bh (pd_up e) on q1 v w1))), (5, .int (nI ((pd_up e v) &&& on))), (6, .int (nI w1))]) X dX0_bestChain_130 rfl (by decide) rfl ?_
                    refine g_iinc (v := (dI v)) (L' := [(3, .int (dI v)), (2, .int (nI ((pd_bh (pd_up e) on q1 v w1) + (pd_W wt w v)))), (0, .ref h), (1, .int (nI wt.toNat)), (4, .int (nI (pd_bh (pd_up e) on q1 v w1))), (5, .int (nI ((pd_up e v) &&& on))), (6, .int (nI w1))]) X dX0_bestChain_131 3 rfl rfl (by decide) rfl ?_
                    refine g_goto X 9 dX0_bestChain_134 (by decide) ?_
                    refine g_loc (L' := [(0, .ref h), (1, .int (nI wt.toNat)), (2, .int (nI ((pd_bh (pd_up e) on q1 v w1) + (pd_W wt w v)))), (3, .int (dI v))]) [2, 3, 1, 0] rfl ?_
                    exact ih9 (pd_st q1 v ((pd_bh (pd_up e) on q1 v w1) + (pd_W wt w v))) ((pd_bh (pd_up e) on q1 v w1) + (pd_W wt w v)) v (by omega) (pd_QI_c hQ (by omega) (pd_W_le hw9 v (by omega)) (by omega) c111 (by omega)) (by omega)
              · refine g_aload_n X dX0_bestChain_90 0 rfl rfl ?_
                refine g_get X in_X0 0 rfl rfl 1 (by decide) q31 rfl dX0_bestChain_91 ?_
                refine g_iload_n X dX0_bestChain_94 3 rfl rfl ?_
                refine g_iald (v := (nI (w v))) X 1 0 rfl t0 (by omega) (by decide) rfl dX0_bestChain_95 ?_
                refine g_goto X 100 dX0_bestChain_96 (by decide) ?_
                refine g_iadd (v := (nI ((pd_bh (pd_up e) on q1 v w1) + (pd_W wt w v)))) X dX0_bestChain_100 (by rw [pd_W_y (Decidable.not_not.mp c87)]; exact nI_add _ _) ?_
                refine g_iast (ws' := (wX d h ad on w e 1 hi1 ct wi ro ri fl co ci (pd_st q1 v ((pd_bh (pd_up e) on q1 v w1) + (pd_W wt w v))))) X 10 0 rfl t0 (by omega) (by decide) (nF_st _ _ _) rfl dX0_bestChain_101 ?_
                refine g_aload_n X dX0_bestChain_102 0 rfl rfl ?_
                refine g_get X in_X0 0 rfl rfl 0 (by decide) q30 rfl dX0_bestChain_103 ?_
                refine g_iload_n X dX0_bestChain_106 3 rfl rfl ?_
                refine g_ishr (v := (nI (on >>> v))) X dX0_bestChain_107 (pn_shr (by omega) (by omega)) ?_
                refine g_iconst (v := (nI 1)) X dX0_bestChain_108 (by decide) ?_
                refine g_iand (v := (nI ((on >>> v) &&& 1))) X dX0_bestChain_109 (pn_and _ _) ?_
                refine g_iconst (v := (nI 1)) X dX0_bestChain_110 (by decide) ?_
                refine g_icmp_ne (P := (on).testBit v = true) X 131 dX0_bestChain_111 (by decide) (pn_b1 _ _) (fun c111 => ?_) (fun c111 => ?_)
                · refine g_iinc (v := (dI v)) (L' := [(3, .int (dI v)), (0, .ref h), (1, .int (nI wt.toNat)), (2, .int (nI best)), (4, .int (nI (pd_bh (pd_up e) on q1 v w1))), (5, .int (nI ((pd_up e v) &&& on))), (6, .int (nI w1))]) X dX0_bestChain_131 3 rfl rfl (by decide) rfl ?_
                  refine g_goto X 9 dX0_bestChain_134 (by decide) ?_
                  refine g_loc (L' := [(0, .ref h), (1, .int (nI wt.toNat)), (2, .int (nI best)), (3, .int (dI v))]) [1, 2, 3, 0] rfl ?_
                  exact ih9 (pd_st q1 v ((pd_bh (pd_up e) on q1 v w1) + (pd_W wt w v))) best v (by omega) (pd_QI_a hQ (by omega) (pd_W_le hw9 v (by omega)) (by omega) (fun z => absurd z c111)) (by omega)
                · refine g_aload_n X dX0_bestChain_114 0 rfl rfl ?_
                  refine g_get X in_X0 0 rfl rfl 12 (by decide) q42 rfl dX0_bestChain_115 ?_
                  refine g_iload_n X dX0_bestChain_118 3 rfl rfl ?_
                  refine g_iald (v := (nI ((pd_bh (pd_up e) on q1 v w1) + (pd_W wt w v)))) X 10 0 rfl t0 (by omega) (by decide) (congrArg nI pd_st_s) dX0_bestChain_119 ?_
                  refine g_iload_n X dX0_bestChain_120 2 rfl rfl ?_
                  refine g_icmp_le (P := (pd_bh (pd_up e) on q1 v w1) + (pd_W wt w v) ≤ best) X 131 dX0_bestChain_121 (by decide) (nI_leI (by have := pd_bh_le hQ (n := w1) (by omega) (by omega); have := pd_W_le (wt := wt) hw9 v (by omega); omega) (by have := hQ.2.2.2.2; omega)) (fun c121 => ?_) (fun c121 => ?_)
                  · refine g_iinc (v := (dI v)) (L' := [(3, .int (dI v)), (0, .ref h), (1, .int (nI wt.toNat)), (2, .int (nI best)), (4, .int (nI (pd_bh (pd_up e) on q1 v w1))), (5, .int (nI ((pd_up e v) &&& on))), (6, .int (nI w1))]) X dX0_bestChain_131 3 rfl rfl (by decide) rfl ?_
                    refine g_goto X 9 dX0_bestChain_134 (by decide) ?_
                    refine g_loc (L' := [(0, .ref h), (1, .int (nI wt.toNat)), (2, .int (nI best)), (3, .int (dI v))]) [1, 2, 3, 0] rfl ?_
                    exact ih9 (pd_st q1 v ((pd_bh (pd_up e) on q1 v w1) + (pd_W wt w v))) best v (by omega) (pd_QI_a hQ (by omega) (pd_W_le hw9 v (by omega)) (by omega) (fun _ => c121)) (by omega)
                  · refine g_aload_n X dX0_bestChain_124 0 rfl rfl ?_
                    refine g_get X in_X0 0 rfl rfl 12 (by decide) q42 rfl dX0_bestChain_125 ?_
                    refine g_iload_n X dX0_bestChain_128 3 rfl rfl ?_
                    refine g_iald (v := (nI ((pd_bh (pd_up e) on q1 v w1) + (pd_W wt w v)))) X 10 0 rfl t0 (by omega) (by decide) (congrArg nI pd_st_s) dX0_bestChain_129 ?_
                    refine g_istore_n (L' := [(2, .int (nI ((pd_bh (pd_up e) on q1 v w1) + (pd_W wt w v)))), (0, .ref h), (1, .int (nI wt.toNat)), (3, .int (nI v)), (4, .int (nI (pd_bh (pd_up e) on q1 v w1))), (5, .int (nI ((pd_up e v) &&& on))), (6, .int (nI w1))]) X dX0_bestChain_130 rfl (by decide) rfl ?_
                    refine g_iinc (v := (dI v)) (L' := [(3, .int (dI v)), (2, .int (nI ((pd_bh (pd_up e) on q1 v w1) + (pd_W wt w v)))), (0, .ref h), (1, .int (nI wt.toNat)), (4, .int (nI (pd_bh (pd_up e) on q1 v w1))), (5, .int (nI ((pd_up e v) &&& on))), (6, .int (nI w1))]) X dX0_bestChain_131 3 rfl rfl (by decide) rfl ?_
                    refine g_goto X 9 dX0_bestChain_134 (by decide) ?_
                    refine g_loc (L' := [(0, .ref h), (1, .int (nI wt.toNat)), (2, .int (nI ((pd_bh (pd_up e) on q1 v w1) + (pd_W wt w v)))), (3, .int (dI v))]) [2, 3, 1, 0] rfl ?_
                    exact ih9 (pd_st q1 v ((pd_bh (pd_up e) on q1 v w1) + (pd_W wt w v))) ((pd_bh (pd_up e) on q1 v w1) + (pd_W wt w v)) v (by omega) (pd_QI_c hQ (by omega) (pd_W_le hw9 v (by omega)) (by omega) c111 (by omega)) (by omega)
            · refine g_iload X dX0_bestChain_41 5 rfl ?_
              refine g_iload X dX0_bestChain_43 6 rfl ?_
              refine g_ishr (v := (nI (((pd_up e v) &&& on) >>> w1))) X dX0_bestChain_45 (pn_shr (by omega) (by omega)) ?_
              refine g_iconst (v := (nI 1)) X dX0_bestChain_46 (by decide) ?_
              refine g_iand (v := (nI ((((pd_up e v) &&& on) >>> w1) &&& 1))) X dX0_bestChain_47 (pn_and _ _) ?_
              refine g_iconst (v := (nI 1)) X dX0_bestChain_48 (by decide) ?_
              refine g_icmp_ne (P := ((pd_up e v) &&& on).testBit w1 = true) X 73 dX0_bestChain_49 (by decide) (pn_b1 _ _) (fun c49 => ?_) (fun c49 => ?_)
              · rw [← pd_bh_n1 (q := q1) c49]
                refine g_iinc (v := (nI (w1 + 1))) (L' := [(6, .int (nI (w1 + 1))), (0, .ref h), (1, .int (nI wt.toNat)), (2, .int (nI best)), (3, .int (nI v)), (4, .int (nI (pd_bh (pd_up e) on q1 v (w1 + 1)))), (5, .int (nI ((pd_up e v) &&& on)))]) X dX0_bestChain_73 6 rfl (pn_inc _) (by decide) rfl ?_
                refine g_goto X 34 dX0_bestChain_76 (by decide) ?_
                refine g_loc (L' := [(0, .ref h), (1, .int (nI wt.toNat)), (2, .int (nI best)), (3, .int (nI v)), (4, .int (nI (pd_bh (pd_up e) on q1 v (w1 + 1)))), (5, .int (nI ((pd_up e v) &&& on))), (6, .int (nI (w1 + 1)))]) [1, 2, 3, 4, 5, 6, 0] rfl ?_
                exact ih34 (w1 + 1) (by omega) (by omega) (by omega)
              · refine g_aload_n X dX0_bestChain_52 0 rfl rfl ?_
                refine g_get X in_X0 0 rfl rfl 12 (by decide) q42 rfl dX0_bestChain_53 ?_
                refine g_iload X dX0_bestChain_56 6 rfl ?_
                refine g_iald (v := (nI (q1 w1))) X 10 0 rfl t0 (by omega) (by decide) rfl dX0_bestChain_58 ?_
                refine g_iload X dX0_bestChain_59 4 rfl ?_
                refine g_icmp_le (P := q1 w1 ≤ pd_bh (pd_up e) on q1 v w1) X 73 dX0_bestChain_61 (by decide) (nI_leI (by have := hQ.2.1 w1 (by omega) (by omega); omega) (by have := pd_bh_le hQ (n := w1) (by omega) (by omega); omega)) (fun c61 => ?_) (fun c61 => ?_)
                · rw [← pd_bh_n2 c61]
                  refine g_iinc (v := (nI (w1 + 1))) (L' := [(6, .int (nI (w1 + 1))), (0, .ref h), (1, .int (nI wt.toNat)), (2, .int (nI best)), (3, .int (nI v)), (4, .int (nI (pd_bh (pd_up e) on q1 v (w1 + 1)))), (5, .int (nI ((pd_up e v) &&& on)))]) X dX0_bestChain_73 6 rfl (pn_inc _) (by decide) rfl ?_
                  refine g_goto X 34 dX0_bestChain_76 (by decide) ?_
                  refine g_loc (L' := [(0, .ref h), (1, .int (nI wt.toNat)), (2, .int (nI best)), (3, .int (nI v)), (4, .int (nI (pd_bh (pd_up e) on q1 v (w1 + 1)))), (5, .int (nI ((pd_up e v) &&& on))), (6, .int (nI (w1 + 1)))]) [1, 2, 3, 4, 5, 6, 0] rfl ?_
                  exact ih34 (w1 + 1) (by omega) (by omega) (by omega)
                · refine g_aload_n X dX0_bestChain_64 0 rfl rfl ?_
                  refine g_get X in_X0 0 rfl rfl 12 (by decide) q42 rfl dX0_bestChain_65 ?_
                  refine g_iload X dX0_bestChain_68 6 rfl ?_
                  refine g_iald (v := (nI (pd_bh (pd_up e) on q1 v (w1 + 1)))) X 10 0 rfl t0 (by omega) (by decide) (congrArg nI (pd_bh_s (by omega) c49 (by omega)).symm) dX0_bestChain_70 ?_
                  refine g_istore (L' := [(4, .int (nI (pd_bh (pd_up e) on q1 v (w1 + 1)))), (0, .ref h), (1, .int (nI wt.toNat)), (2, .int (nI best)), (3, .int (nI v)), (5, .int (nI ((pd_up e v) &&& on))), (6, .int (nI w1))]) X dX0_bestChain_71 (by decide) rfl ?_
                  refine g_iinc (v := (nI (w1 + 1))) (L' := [(6, .int (nI (w1 + 1))), (4, .int (nI (pd_bh (pd_up e) on q1 v (w1 + 1)))), (0, .ref h), (1, .int (nI wt.toNat)), (2, .int (nI best)), (3, .int (nI v)), (5, .int (nI ((pd_up e v) &&& on)))]) X dX0_bestChain_73 6 rfl (pn_inc _) (by decide) rfl ?_
                  refine g_goto X 34 dX0_bestChain_76 (by decide) ?_
                  refine g_loc (L' := [(0, .ref h), (1, .int (nI wt.toNat)), (2, .int (nI best)), (3, .int (nI v)), (4, .int (nI (pd_bh (pd_up e) on q1 v (w1 + 1)))), (5, .int (nI ((pd_up e v) &&& on))), (6, .int (nI (w1 + 1)))]) [2, 3, 4, 5, 1, 6, 0] rfl ?_
                  exact ih34 (w1 + 1) (by omega) (by omega) (by omega)
        refine g_eq (L' := [(6, .int (nI (v + 1))), (5, .int (nI ((pd_up e v) &&& on))), (4, .int (nI (pd_bh (pd_up e) on q1 v (v + 1)))), (0, .ref h), (1, .int (nI wt.toNat)), (2, .int (nI best)), (3, .int (nI v))]) rfl (by rw [pd_bh_lo (Nat.le_refl _)]) rfl rfl ?_
        refine g_loc (L' := [(0, .ref h), (1, .int (nI wt.toNat)), (2, .int (nI best)), (3, .int (nI v)), (4, .int (nI (pd_bh (pd_up e) on q1 v (v + 1)))), (5, .int (nI ((pd_up e v) &&& on))), (6, .int (nI (v + 1)))]) [3, 4, 5, 6, 2, 1, 0] rfl ?_
        exact lp34 _ (v + 1) (by omega) (by omega) (Nat.lt_succ_self _)
  refine g_loc (L' := [(0, .ref h), (1, .int (nI wt.toNat)), (2, .int (nI 0)), (3, .int (dI 10))]) [2, 3, 1, 0] rfl ?_
  exact lp9 _ q 0 10 (by omega) pd_QI_0 (Nat.lt_succ_self _)

set_option maxHeartbeats 4000000 in
set_option maxRecDepth 100000 in
/-- height() -/
theorem mX_height (l : Launch) (D : va_G) (d : ClassId) (h : Nat) (ad : Nat → Nat) (on : Nat) (w e : Nat → Nat) (cl : Nat) (hi : Nat → Nat) (ct : Nat) (wi ro ri fl : Nat → Nat) (co ci : Nat → Option Nat) (q : Nat → Nat) (hE : pd_Ed e) (hw9 : ∀ v, v < 10 → w v ≤ 9) (hcl : cl = 0 ∨ (cl = 1 ∧ ∀ v, v < 10 → hi v = pd_up e v)) (hon : on < 1024) : MI l yX0_height cX0_height 1 .int 2 49 D [(d, .int)] [.ref h] (wX d h ad on w e cl hi ct wi ro ri fl co ci q) (fun u : SX => (wX d h ad on w e 1 u.2.1 ct wi u.2.2.1 u.2.2.2.1 u.2.2.2.2.1 u.2.2.2.2.2.1 u.2.2.2.2.2.2.1 u.2.2.2.2.2.2.2)) (fun r u => r = nI (pd_ch (pd_up e) on (pd_ws (fun _ => 1))) ∧ ∀ v, v < 10 → u.2.1 v = pd_up e v) := by
  refine MI_of (by decide) (Nat.le_of_ble_eq_true rfl) ?_
  intro K hl hD hT X R
  subst hl; subst hD
  have X : Cx K cX0_height RX0 (some .int) 1 ({ frames := 2, cells := 0, slots := 0, locals := 49 }) := X
  have t0 : (kT K)[0]? = some (d, .int) := by rw [hT]; rfl
  show Go K 0 0 (wX d h ad on w e cl hi ct wi ro ri fl co ci q) [(0, .ref h)] 0 []
  refine g_aload_n X dX0_height_0 0 rfl rfl ?_
  refine g_iconst (v := (nI false.toNat)) X dX0_height_1 (by decide) ?_
  refine g_callV (st := []) (ci := 0) (q := (RX0, TX0, 13)) (wr := []) X (mX_bestChain _ _ d h ad on w e cl hi ct wi ro ri fl co ci q hE hw9 hcl hon false) (lw_V q149 q151 qs8 q20 q152) 1 (by decide +kernel) (by decide) (by decide) rfl rfl rfl [0, 1, 2, 3, 4, 5, 6, 7, 8, 9, 10] [] [0] rfl rfl rfl (by decide) (by decide) (by decide) (by rw [hT]; rfl) rfl (Nat.le_of_ble_eq_true rfl) dX0_height_2 (fun r u hp => ?_)
  obtain ⟨n1, hi1, ro1, ri1, fl1, co1, ci1, q1⟩ := u
  obtain ⟨hr, hh⟩ := hp
  have hr : r = nI (pd_ch (pd_up e) on (pd_ws (fun _ => 1))) := hr
  subst hr
  show Go K 0 0 (wX d h ad on w e 1 hi1 ct wi ro1 ri1 fl1 co1 ci1 q1) [(0, .ref h)] 5 [.int (nI (pd_ch (pd_up e) on (pd_ws (fun _ => 1))))]
  exact R (n1, hi1, ro1, ri1, fl1, co1, ci1, q1) (nI (pd_ch (pd_up e) on (pd_ws (fun _ => 1)))) _ _ ⟨rfl, hh⟩ rfl dX0_height_5

set_option maxHeartbeats 4000000 in
set_option maxRecDepth 100000 in
/-- heaviestChain() -/
theorem mX_heaviestChain (l : Launch) (D : va_G) (d : ClassId) (h : Nat) (ad : Nat → Nat) (on : Nat) (w e : Nat → Nat) (cl : Nat) (hi : Nat → Nat) (ct : Nat) (wi ro ri fl : Nat → Nat) (co ci : Nat → Option Nat) (q : Nat → Nat) (hE : pd_Ed e) (hw9 : ∀ v, v < 10 → w v ≤ 9) (hcl : cl = 0 ∨ (cl = 1 ∧ ∀ v, v < 10 → hi v = pd_up e v)) (hon : on < 1024) : MI l yX0_heaviestChain cX0_heaviestChain 1 .int 2 49 D [(d, .int)] [.ref h] (wX d h ad on w e cl hi ct wi ro ri fl co ci q) (fun u : SX => (wX d h ad on w e 1 u.2.1 ct wi u.2.2.1 u.2.2.2.1 u.2.2.2.2.1 u.2.2.2.2.2.1 u.2.2.2.2.2.2.1 u.2.2.2.2.2.2.2)) (fun r u => r = nI (pd_ch (pd_up e) on (pd_ws w)) ∧ ∀ v, v < 10 → u.2.1 v = pd_up e v) := by
  refine MI_of (by decide) (Nat.le_of_ble_eq_true rfl) ?_
  intro K hl hD hT X R
  subst hl; subst hD
  have X : Cx K cX0_heaviestChain RX0 (some .int) 1 ({ frames := 2, cells := 0, slots := 0, locals := 49 }) := X
  have t0 : (kT K)[0]? = some (d, .int) := by rw [hT]; rfl
  show Go K 0 0 (wX d h ad on w e cl hi ct wi ro ri fl co ci q) [(0, .ref h)] 0 []
  refine g_aload_n X dX0_heaviestChain_0 0 rfl rfl ?_
  refine g_iconst (v := (nI true.toNat)) X dX0_heaviestChain_1 (by decide) ?_
  refine g_callV (st := []) (ci := 0) (q := (RX0, TX0, 13)) (wr := []) X (mX_bestChain _ _ d h ad on w e cl hi ct wi ro ri fl co ci q hE hw9 hcl hon true) (lw_V q149 q151 qs8 q20 q152) 1 (by decide +kernel) (by decide) (by decide) rfl rfl rfl [0, 1, 2, 3, 4, 5, 6, 7, 8, 9, 10] [] [0] rfl rfl rfl (by decide) (by decide) (by decide) (by rw [hT]; rfl) rfl (Nat.le_of_ble_eq_true rfl) dX0_heaviestChain_2 (fun r u hp => ?_)
  obtain ⟨n1, hi1, ro1, ri1, fl1, co1, ci1, q1⟩ := u
  obtain ⟨hr, hh⟩ := hp
  have hr : r = nI (pd_ch (pd_up e) on (pd_ws w)) := hr
  subst hr
  show Go K 0 0 (wX d h ad on w e 1 hi1 ct wi ro1 ri1 fl1 co1 ci1 q1) [(0, .ref h)] 5 [.int (nI (pd_ch (pd_up e) on (pd_ws w)))]
  exact R (n1, hi1, ro1, ri1, fl1, co1, ci1, q1) (nI (pd_ch (pd_up e) on (pd_ws w))) _ _ ⟨rfl, hh⟩ rfl dX0_heaviestChain_5

set_option maxHeartbeats 4000000 in
set_option maxRecDepth 100000 in
/-- countWith(v) -/
theorem mX_countWith (l : Launch) (D : va_G) (d : ClassId) (h : Nat) (ad : Nat → Nat) (on : Nat) (w e : Nat → Nat) (cl : Nat) (hi : Nat → Nat) (ct : Nat) (wi ro ri fl : Nat → Nat) (co ci : Nat → Option Nat) (q : Nat → Nat) (hE : pd_Ed e) (hh : ∀ v, v < 10 → hi v = pd_up e v) (v : Nat) (hv : v < 10) (hA : ∀ s, s < 2 ^ v → wi s = pd_cn (pd_up e) s) : MV l yX0_countWith cX0_countWith 4 1 23 0 0 D [(d, .int)] [.ref h, .int (nI v)] (wX d h ad on w e cl hi ct wi ro ri fl co ci q) (fun u : Nat → Nat => (wX d h ad on w e cl hi ct u ro ri fl co ci q)) (fun u => ∀ s, s < 2 ^ (v + 1) → u s = pd_cn (pd_up e) s) := by
  refine MV_of (by decide) (Nat.le_of_ble_eq_true rfl) ?_
  intro K hl hD hT X hnm R
  subst hl; subst hD
  have X : Cx K cX0_countWith RX0 none 4 ({ frames := 1, cells := 0, slots := 0, locals := 23 }) := X
  have t0 : (kT K)[0]? = some (d, .int) := by rw [hT]; rfl
  show Go K 0 0 (wX d h ad on w e cl hi ct wi ro ri fl co ci q) [(0, .ref h), (1, .int (nI v))] 0 []
  have h2v : 2 ^ v ≤ 2 ^ 9 := Nat.pow_le_pow_right (by decide) (by omega)
  refine g_aload_n X dX0_countWith_0 0 rfl rfl ?_
  refine g_iload_n X dX0_countWith_1 1 rfl rfl ?_
  refine g_callV (st := []) (ci := 0) (q := (RX0, TX0, 13)) (wr := []) X (mX_related _ _ d h ad on w e cl hi ct wi ro ri fl co ci q hE hh v hv) (lw_V q133 q135 qs7 q20 q136) 1 (by decide +kernel) (by decide) (by decide) rfl rfl rfl [0, 1, 2, 3, 4, 5, 6, 7, 8, 9, 10] [] [0] rfl rfl rfl (by decide) (by decide) (by decide) (by rw [hT]; rfl) rfl (Nat.le_of_ble_eq_true rfl) dX0_countWith_2 (fun r u hp => ?_)
  obtain rfl := hp
  show Go K 0 0 (wX d h ad on w e cl hi ct wi ro ri fl co ci q) [(0, .ref h), (1, .int (nI v))] 5 [.int (nI (pd_rl (pd_up e) v))]
  refine g_iconst (v := (-1)) X dX0_countWith_5 (by decide) ?_
  refine g_ixor (v := (nI (pd_rl (pd_up e) v) ^^^ (-1))) X dX0_countWith_6 rfl ?_
  refine g_istore_n (L' := [(2, .int (nI (pd_rl (pd_up e) v) ^^^ (-1))), (0, .ref h), (1, .int (nI v))]) X dX0_countWith_7 rfl (by decide) rfl ?_
  refine g_iconst (v := (nI 0)) X dX0_countWith_8 (by decide) ?_
  refine g_istore_n (L' := [(3, .int (nI 0)), (2, .int (nI (pd_rl (pd_up e) v) ^^^ (-1))), (0, .ref h), (1, .int (nI v))]) X dX0_countWith_9 rfl (by decide) rfl ?_
  have lp10 : ∀ (n : Nat) (wi1 : Nat → Nat) (r : Nat), (r ≤ 2 ^ v) → (∀ s, s < 2 ^ v → wi1 s = pd_cn (pd_up e) s) → (∀ s, s < r → wi1 (s ||| 2 ^ v) = pd_cn (pd_up e) (s ||| 2 ^ v)) → 2 ^ v - r < n → Go K 0 0 (wX d h ad on w e cl hi ct wi1 ro ri fl co ci q) [(0, .ref h), (1, .int (nI v)), (2, .int (nI (pd_rl (pd_up e) v) ^^^ (-1))), (3, .int (nI r))] 10 [] := by
    intro n
    induction n with
    | zero => intro wi1 r hr hA1 hB1 hm; exact absurd hm (Nat.not_lt_zero _)
    | succ n ih10 =>
      intro wi1 r hr hA1 hB1 hm
      refine g_iload_n X dX0_countWith_10 3 rfl rfl ?_
      refine g_iconst (v := (nI 1)) X dX0_countWith_11 (by decide) ?_
      refine g_iload_n X dX0_countWith_12 1 rfl rfl ?_
      refine g_ishl (v := (nI (2 ^ v))) X dX0_countWith_13 (pn_shl (by omega)) ?_
      refine g_icmp_ge (P := 2 ^ v ≤ r) X 48 dX0_countWith_14 (by decide) (nI_leI (by omega) (by omega)) (fun c14 => ?_) (fun c14 => ?_)
      · exact R wi1 _ _ (pd_cw_end c14 hA1 hB1) dX0_countWith_48
      · have hor : r ||| 2 ^ v = r + 2 ^ v := Nat.or_two_pow_eq_add_of_lt (by omega)
        have hdf := pd_df_le r (pd_rl (pd_up e) v)
        refine g_aload_n X dX0_countWith_17 0 rfl rfl ?_
        refine g_get X in_X0 0 rfl rfl 6 (by decide) q36 rfl dX0_countWith_18 ?_
        refine g_iload_n X dX0_countWith_21 3 rfl rfl ?_
        refine g_iconst (v := (nI 1)) X dX0_countWith_22 (by decide) ?_
        refine g_iload_n X dX0_countWith_23 1 rfl rfl ?_
        refine g_ishl (v := (nI (2 ^ v))) X dX0_countWith_24 (pn_shl (by omega)) ?_
        refine g_ior (v := (nI (r ||| (2 ^ v)))) X dX0_countWith_25 (pn_or _ _) ?_
        refine g_aload_n X dX0_countWith_26 0 rfl rfl ?_
        refine g_get X in_X0 0 rfl rfl 6 (by decide) q36 rfl dX0_countWith_27 ?_
        refine g_iload_n X dX0_countWith_30 3 rfl rfl ?_
        refine g_iald (v := (nI (pd_cn (pd_up e) r))) X 4 0 rfl t0 (by omega) (by decide) (congrArg nI (hA1 r (by omega))) dX0_countWith_31 ?_
        refine g_aload_n X dX0_countWith_32 0 rfl rfl ?_
        refine g_get X in_X0 0 rfl rfl 6 (by decide) q36 rfl dX0_countWith_33 ?_
        refine g_iload_n X dX0_countWith_36 3 rfl rfl ?_
        refine g_iload_n X dX0_countWith_37 2 rfl rfl ?_
        refine g_iand (v := (nI (pd_df r (pd_rl (pd_up e) v)))) X dX0_countWith_38 (pn_df _ _) ?_
        refine g_iald (v := (nI (pd_cn (pd_up e) (pd_df r (pd_rl (pd_up e) v))))) X 4 0 rfl t0 (by omega) (by decide) (congrArg nI (hA1 _ (by omega))) dX0_countWith_39 ?_
        refine g_iadd (v := (nI (pd_cn (pd_up e) (r ||| (2 ^ v))))) X dX0_countWith_40 ((nI_add _ _).trans (congrArg nI (pd_cn_step (pd_up_or hE) hv (by omega)).symm)) ?_
        refine g_iast (ws' := (wX d h ad on w e cl hi ct (pd_st wi1 (r ||| (2 ^ v)) (pd_cn (pd_up e) (r ||| (2 ^ v)))) ro ri fl co ci q)) X 4 0 rfl t0 (by omega) (by decide) (nF_st _ _ _) rfl dX0_countWith_41 ?_
        refine g_iinc (v := (nI (r + 1))) (L' := [(3, .int (nI (r + 1))), (0, .ref h), (1, .int (nI v)), (2, .int (nI (pd_rl (pd_up e) v) ^^^ (-1)))]) X dX0_countWith_42 3 rfl (pn_inc _) (by decide) rfl ?_
        refine g_goto X 10 dX0_countWith_45 (by decide) ?_
        refine g_loc (L' := [(0, .ref h), (1, .int (nI v)), (2, .int (nI (pd_rl (pd_up e) v) ^^^ (-1))), (3, .int (nI (r + 1)))]) [1, 2, 3, 0] rfl ?_
        exact ih10 (pd_st wi1 (r ||| 2 ^ v) (pd_cn (pd_up e) (r ||| 2 ^ v))) (r + 1) (by omega) (pd_cw_A (by omega) hA1) (pd_cw_B (by omega) hB1) (by omega)
  refine g_loc (L' := [(0, .ref h), (1, .int (nI v)), (2, .int (nI (pd_rl (pd_up e) v) ^^^ (-1))), (3, .int (nI 0))]) [2, 3, 1, 0] rfl ?_
  exact lp10 _ wi 0 (Nat.zero_le _) hA (fun s hs => absurd hs (Nat.not_lt_zero _)) (Nat.lt_succ_self _)

set_option maxHeartbeats 4000000 in
set_option maxRecDepth 100000 in
/-- antichains() -/
theorem mX_antichains (l : Launch) (D : va_G) (d : ClassId) (h : Nat) (ad : Nat → Nat) (on : Nat) (w e : Nat → Nat) (cl : Nat) (hi : Nat → Nat) (ct : Nat) (wi ro ri fl : Nat → Nat) (co ci : Nat → Option Nat) (q : Nat → Nat) (hE : pd_Ed e) (hw9 : ∀ v, v < 10 → w v ≤ 9) (hcl : cl = 0 ∨ (cl = 1 ∧ ∀ v, v < 10 → hi v = pd_up e v)) (hon : on < 1024) (hct : ct = 0 ∨ (ct = 1 ∧ ∀ s, s < 1024 → wi s = pd_cn (pd_up e) s)) : MI l yX0_antichains cX0_antichains 2 .int 2 46 D [(d, .int)] [.ref h] (wX d h ad on w e cl hi ct wi ro ri fl co ci q) (fun u : (Nat → Nat) × (Nat → Nat) => (wX d h ad on w e 1 u.1 1 u.2 ro ri fl co ci q)) (fun r u => r = nI (pd_cn (pd_up e) on) ∧ (∀ v, v < 10 → u.1 v = pd_up e v) ∧ ∀ s, s < 1024 → u.2 s = pd_cn (pd_up e) s) := by
  refine MI_of (by decide) (Nat.le_of_ble_eq_true rfl) ?_
  intro K hl hD hT X R
  subst hl; subst hD
  have X : Cx K cX0_antichains RX0 (some .int) 2 ({ frames := 2, cells := 0, slots := 0, locals := 46 }) := X
  have t0 : (kT K)[0]? = some (d, .int) := by rw [hT]; rfl
  show Go K 0 0 (wX d h ad on w e cl hi ct wi ro ri fl co ci q) [(0, .ref h)] 0 []
  refine g_aload_n X dX0_antichains_0 0 rfl rfl ?_
  refine g_callVv (st := []) (ci := 0) (q := (RX0, TX0, 13)) (wr := []) X (mX_close _ _ d h ad on w e cl hi ct wi ro ri fl co ci q hE hcl) (lw_V q90 q92 qs0 q20 q93) 0 (by decide +kernel) (by decide) (by decide) rfl rfl rfl [0, 1, 2, 3, 4, 5, 6, 7, 8, 9, 10] [] [0] rfl rfl rfl (by decide) (by decide) (by decide) (by rw [hT]; rfl) rfl (Nat.le_of_ble_eq_true rfl) dX0_antichains_1 (fun hi1 hh => ?_)
  show Go K 0 0 (wX d h ad on w e 1 hi1 ct wi ro ri fl co ci q) [(0, .ref h)] 4 []
  refine g_aload_n X dX0_antichains_4 0 rfl rfl ?_
  refine g_get X in_X0 0 rfl rfl 5 (by decide) q35 rfl dX0_antichains_5 ?_
  refine g_if_ne (P := ct = 0) X 42 dX0_antichains_8 (by decide) (pn_z (by rcases hct with z | z <;> omega)) (fun c8 => ?_) (fun c8 => ?_)
  · obtain ⟨rfl, hwi⟩ := hct.resolve_left c8
    refine g_aload_n X dX0_antichains_42 0 rfl rfl ?_
    refine g_get X in_X0 0 rfl rfl 6 (by decide) q36 rfl dX0_antichains_43 ?_
    refine g_aload_n X dX0_antichains_46 0 rfl rfl ?_
    refine g_get X in_X0 0 rfl rfl 0 (by decide) q30 rfl dX0_antichains_47 ?_
    refine g_iald (v := (nI (pd_cn (pd_up e) on))) X 4 0 rfl t0 (by omega) (by decide) (congrArg nI (hwi on hon)) dX0_antichains_50 ?_
    exact R (hi1, wi) (nI (pd_cn (pd_up e) on)) _ _ ⟨rfl, hh, hwi⟩ rfl dX0_antichains_51
  · subst c8
    refine g_aload_n X dX0_antichains_11 0 rfl rfl ?_
    refine g_get X in_X0 0 rfl rfl 6 (by decide) q36 rfl dX0_antichains_12 ?_
    refine g_iconst (v := (nI 0)) X dX0_antichains_15 (by decide) ?_
    refine g_iconst (v := (nI 1)) X dX0_antichains_16 (by decide) ?_
    refine g_iast (ws' := (wX d h ad on w e 1 hi1 0 (pd_st wi 0 1) ro ri fl co ci q)) X 4 0 rfl t0 (by omega) (by decide) (nF_st _ _ _) rfl dX0_antichains_17 ?_
    refine g_iconst (v := (nI 0)) X dX0_antichains_18 (by decide) ?_
    refine g_istore_n (L' := [(1, .int (nI 0)), (0, .ref h)]) X dX0_antichains_19 rfl (by decide) rfl ?_
    have lp20 : ∀ (n : Nat) (wi1 : Nat → Nat) (v : Nat), (v ≤ 10) → (∀ s, s < 2 ^ v → wi1 s = pd_cn (pd_up e) s) → 10 - v < n → Go K 0 0 (wX d h ad on w e 1 hi1 0 wi1 ro ri fl co ci q) [(0, .ref h), (1, .int (nI v))] 20 [] := by
      intro n
      induction n with
      | zero => intro wi1 v hv hA hm; exact absurd hm (Nat.not_lt_zero _)
      | succ n ih20 =>
        intro wi1 v hv hA hm
        refine g_iload_n X dX0_antichains_20 1 rfl rfl ?_
        refine g_bipush (v := (nI 10)) X dX0_antichains_21 (by decide) ?_
        refine g_icmp_ge (P := 10 ≤ v) X 37 dX0_antichains_23 (by decide) (nI_leI (by omega) (by omega)) (fun c23 => ?_) (fun c23 => ?_)
        · have hwi : ∀ s, s < 1024 → wi1 s = pd_cn (pd_up e) s := by rw [show v = 10 by omega] at hA; exact hA
          refine g_aload_n X dX0_antichains_37 0 rfl rfl ?_
          refine g_iconst (v := (nI 1)) X dX0_antichains_38 (by decide) ?_
          refine g_put (ty := .boolean) (ws' := (wX d h ad on w e 1 hi1 1 wi1 ro ri fl co ci q)) X in_X0 tyX0 tyX0_ok nmX0 0 rfl rfl 5 (by decide) q35 rfl (by decide +kernel) rfl rfl (Nat.le_of_ble_eq_true rfl) rfl dX0_antichains_39 ?_
          refine g_aload_n X dX0_antichains_42 0 rfl rfl ?_
          refine g_get X in_X0 0 rfl rfl 6 (by decide) q36 rfl dX0_antichains_43 ?_
          refine g_aload_n X dX0_antichains_46 0 rfl rfl ?_
          refine g_get X in_X0 0 rfl rfl 0 (by decide) q30 rfl dX0_antichains_47 ?_
          refine g_iald (v := (nI (pd_cn (pd_up e) on))) X 4 0 rfl t0 (by omega) (by decide) (congrArg nI (hwi on hon)) dX0_antichains_50 ?_
          exact R (hi1, wi1) (nI (pd_cn (pd_up e) on)) _ _ ⟨rfl, hh, hwi⟩ rfl dX0_antichains_51
        · refine g_aload_n X dX0_antichains_26 0 rfl rfl ?_
          refine g_iload_n X dX0_antichains_27 1 rfl rfl ?_
          refine g_callVv (st := []) (ci := 0) (q := (RX0, TX0, 13)) (wr := []) X (mX_countWith _ _ d h ad on w e 1 hi1 0 wi1 ro ri fl co ci q hE hh v (by omega) hA) (lw_V q161 q163 qs9 q20 q164) 1 (by decide +kernel) (by decide) (by decide) rfl rfl rfl [0, 1, 2, 3, 4, 5, 6, 7, 8, 9, 10] [] [0] rfl rfl rfl (by decide) (by decide) (by decide) (by rw [hT]; rfl) rfl (Nat.le_of_ble_eq_true rfl) dX0_antichains_28 (fun wi2 hA2 => ?_)
          show Go K 0 0 (wX d h ad on w e 1 hi1 0 wi2 ro ri fl co ci q) [(0, .ref h), (1, .int (nI v))] 31 []
          refine g_iinc (v := (nI (v + 1))) (L' := [(1, .int (nI (v + 1))), (0, .ref h)]) X dX0_antichains_31 1 rfl (pn_inc _) (by decide) rfl ?_
          refine g_goto X 20 dX0_antichains_34 (by decide) ?_
          refine g_loc (L' := [(0, .ref h), (1, .int (nI (v + 1)))]) [1, 0] rfl ?_
          exact ih20 wi2 (v + 1) (by omega) hA2 (by omega)
    refine g_loc (L' := [(0, .ref h), (1, .int (nI 0))]) [1, 0] rfl ?_
    exact lp20 _ (pd_st wi 0 1) 0 (by omega) (fun s hs => by rw [show s = 0 by (have hs1 : s < 1 := hs; omega), pd_st_s, pd_cn_0]) (Nat.lt_succ_self _)

set_option maxHeartbeats 4000000 in
set_option maxRecDepth 100000 in
/-- apart() -/
theorem mX_apart (l : Launch) (D : va_G) (d : ClassId) (h : Nat) (ad : Nat → Nat) (on : Nat) (w e : Nat → Nat) (cl : Nat) (hi : Nat → Nat) (ct : Nat) (wi ro ri fl : Nat → Nat) (co ci : Nat → Option Nat) (q : Nat → Nat) (hE : pd_Ed e) (hw9 : ∀ v, v < 10 → w v ≤ 9) (hcl : cl = 0 ∨ (cl = 1 ∧ ∀ v, v < 10 → hi v = pd_up e v)) (hon : on < 1024) : MI l yX0_apart cX0_apart 5 .int 1 23 D [(d, .int)] [.ref h] (wX d h ad on w e cl hi ct wi ro ri fl co ci q) (fun u : SX => (wX d h ad on w e 1 u.2.1 ct wi u.2.2.1 u.2.2.2.1 u.2.2.2.2.1 u.2.2.2.2.2.1 u.2.2.2.2.2.2.1 u.2.2.2.2.2.2.2)) (fun r u => r = nI (pd_ap (pd_up e) on 10) ∧ ∀ v, v < 10 → u.2.1 v = pd_up e v) := by
  refine MI_of (by decide) (Nat.le_of_ble_eq_true rfl) ?_
  intro K hl hD hT X R
  subst hl; subst hD
  have X : Cx K cX0_apart RX0 (some .int) 5 ({ frames := 1, cells := 0, slots := 0, locals := 23 }) := X
  have t0 : (kT K)[0]? = some (d, .int) := by rw [hT]; rfl
  show Go K 0 0 (wX d h ad on w e cl hi ct wi ro ri fl co ci q) [(0, .ref h)] 0 []
  refine g_aload_n X dX0_apart_0 0 rfl rfl ?_
  refine g_callVv (st := []) (ci := 0) (q := (RX0, TX0, 13)) (wr := []) X (mX_close _ _ d h ad on w e cl hi ct wi ro ri fl co ci q hE hcl) (lw_V q90 q92 qs0 q20 q93) 0 (by decide +kernel) (by decide) (by decide) rfl rfl rfl [0, 1, 2, 3, 4, 5, 6, 7, 8, 9, 10] [] [0] rfl rfl rfl (by decide) (by decide) (by decide) (by rw [hT]; rfl) rfl (Nat.le_of_ble_eq_true rfl) dX0_apart_1 (fun hi1 hh => ?_)
  show Go K 0 0 (wX d h ad on w e 1 hi1 ct wi ro ri fl co ci q) [(0, .ref h)] 4 []
  refine g_iconst (v := (nI 0)) X dX0_apart_4 (by decide) ?_
  refine g_istore_n (L' := [(1, .int (nI 0)), (0, .ref h)]) X dX0_apart_5 rfl (by decide) rfl ?_
  refine g_iconst (v := (nI 0)) X dX0_apart_6 (by decide) ?_
  refine g_istore_n (L' := [(2, .int (nI 0)), (1, .int (nI 0)), (0, .ref h)]) X dX0_apart_7 rfl (by decide) rfl ?_
  have lp8 : ∀ (n : Nat) (a : Nat), (a ≤ 10) → 10 - a < n → Go K 0 0 (wX d h ad on w e 1 hi1 ct wi ro ri fl co ci q) [(0, .ref h), (1, .int (nI (pd_ap (pd_up e) on a))), (2, .int (nI a))] 8 [] := by
    intro n
    induction n with
    | zero => intro a ha hm; exact absurd hm (Nat.not_lt_zero _)
    | succ n ih8 =>
      intro a ha hm
      refine g_iload_n X dX0_apart_8 2 rfl rfl ?_
      refine g_bipush (v := (nI 10)) X dX0_apart_9 (by decide) ?_
      refine g_icmp_ge (P := 10 ≤ a) X 88 dX0_apart_11 (by decide) (nI_leI (by omega) (by omega)) (fun c11 => ?_) (fun c11 => ?_)
      · refine g_iload_n X dX0_apart_88 1 rfl rfl ?_
        exact R (0, hi1, ro, ri, fl, co, ci, q) (nI (pd_ap (pd_up e) on a)) _ _ ⟨by rw [show a = 10 by omega], hh⟩ rfl dX0_apart_89
      · have hb : pd_up e a < 1024 := pd_up_lt hE (by omega)
        refine g_iload_n X dX0_apart_14 2 rfl rfl ?_
        refine g_iconst (v := (nI 1)) X dX0_apart_15 (by decide) ?_
        refine g_iadd (v := (nI (a + 1))) X dX0_apart_16 (nI_add _ _) ?_
        refine g_istore_n (L' := [(3, .int (nI (a + 1))), (0, .ref h), (1, .int (nI (pd_ap (pd_up e) on a))), (2, .int (nI a))]) X dX0_apart_17 rfl (by decide) rfl ?_
        have lp18 : ∀ (n : Nat) (b : Nat), (a + 1 ≤ b) → (b ≤ 10) → 10 - b < n → Go K 0 0 (wX d h ad on w e 1 hi1 ct wi ro ri fl co ci q) [(0, .ref h), (1, .int (nI ((pd_ap (pd_up e) on a) + (pd_ar (pd_up e) on a b)))), (2, .int (nI a)), (3, .int (nI b))] 18 [] := by
          intro n
          induction n with
          | zero => intro b hb1 hb2 hm; exact absurd hm (Nat.not_lt_zero _)
          | succ n ih18 =>
            intro b hb1 hb2 hm
            refine g_iload_n X dX0_apart_18 3 rfl rfl ?_
            refine g_bipush (v := (nI 10)) X dX0_apart_19 (by decide) ?_
            refine g_icmp_ge (P := 10 ≤ b) X 82 dX0_apart_21 (by decide) (nI_leI (by omega) (by omega)) (fun c21 => ?_) (fun c21 => ?_)
            · rw [show b = 10 by omega]
              refine g_iinc (v := (nI (a + 1))) (L' := [(2, .int (nI (a + 1))), (0, .ref h), (1, .int (nI ((pd_ap (pd_up e) on a) + (pd_ar (pd_up e) on a 10)))), (3, .int (nI 10))]) X dX0_apart_82 2 rfl (pn_inc _) (by decide) rfl ?_
              refine g_goto X 8 dX0_apart_85 (by decide) ?_
              refine g_loc (L' := [(0, .ref h), (1, .int (nI ((pd_ap (pd_up e) on a) + (pd_ar (pd_up e) on a 10)))), (2, .int (nI (a + 1)))]) [1, 2, 0] rfl ?_
              exact ih8 (a + 1) (by omega) (by omega)
            · refine g_aload_n X dX0_apart_24 0 rfl rfl ?_
              refine g_get X in_X0 0 rfl rfl 0 (by decide) q30 rfl dX0_apart_25 ?_
              refine g_iload_n X dX0_apart_28 2 rfl rfl ?_
              refine g_ishr (v := (nI (on >>> a))) X dX0_apart_29 (pn_shr (by omega) (by omega)) ?_
              refine g_iconst (v := (nI 1)) X dX0_apart_30 (by decide) ?_
              refine g_iand (v := (nI ((on >>> a) &&& 1))) X dX0_apart_31 (pn_and _ _) ?_
              refine g_iconst (v := (nI 1)) X dX0_apart_32 (by decide) ?_
              refine g_icmp_ne (P := (on).testBit a = true) X 52 dX0_apart_33 (by decide) (pn_b1 _ _) (fun c33 => ?_) (fun c33 => ?_)
              · rw [← pd_ar_n (U := pd_up e) (on := on) (a := a) (b := b) (fun z => c33 z.1)]
                refine g_iconst (v := (nI 0)) X dX0_apart_52 (by decide) ?_
                refine g_istore (L' := [(4, .int (nI 0)), (0, .ref h), (1, .int (nI ((pd_ap (pd_up e) on a) + (pd_ar (pd_up e) on a (b + 1))))), (2, .int (nI a)), (3, .int (nI b))]) X dX0_apart_53 (by decide) rfl ?_
                refine g_iload X dX0_apart_55 0 rfl ?_
                refine g_if_eq (P := 0 = 0) X 76 dX0_apart_57 (by decide) (pn_z (by omega)) (fun c => ?_) (fun c => absurd rfl c)
                refine g_iinc (v := (nI (b + 1))) (L' := [(3, .int (nI (b + 1))), (4, .int (nI 0)), (0, .ref h), (1, .int (nI ((pd_ap (pd_up e) on a) + (pd_ar (pd_up e) on a (b + 1))))), (2, .int (nI a))]) X dX0_apart_76 4 rfl (pn_inc _) (by decide) rfl ?_
                refine g_goto X 18 dX0_apart_79 (by decide) ?_
                refine g_loc (L' := [(0, .ref h), (1, .int (nI ((pd_ap (pd_up e) on a) + (pd_ar (pd_up e) on a (b + 1))))), (2, .int (nI a)), (3, .int (nI (b + 1)))]) [2, 3, 4, 0] rfl ?_
                exact ih18 (b + 1) (by omega) (by omega) (by omega)
              · refine g_aload_n X dX0_apart_36 0 rfl rfl ?_
                refine g_get X in_X0 0 rfl rfl 0 (by decide) q30 rfl dX0_apart_37 ?_
                refine g_iload_n X dX0_apart_40 3 rfl rfl ?_
                refine g_ishr (v := (nI (on >>> b))) X dX0_apart_41 (pn_shr (by omega) (by omega)) ?_
                refine g_iconst (v := (nI 1)) X dX0_apart_42 (by decide) ?_
                refine g_iand (v := (nI ((on >>> b) &&& 1))) X dX0_apart_43 (pn_and _ _) ?_
                refine g_iconst (v := (nI 1)) X dX0_apart_44 (by decide) ?_
                refine g_icmp_ne (P := (on).testBit b = true) X 52 dX0_apart_45 (by decide) (pn_b1 _ _) (fun c45 => ?_) (fun c45 => ?_)
                · rw [← pd_ar_n (U := pd_up e) (on := on) (a := a) (b := b) (fun z => c45 z.2.1)]
                  refine g_iconst (v := (nI 0)) X dX0_apart_52 (by decide) ?_
                  refine g_istore (L' := [(4, .int (nI 0)), (0, .ref h), (1, .int (nI ((pd_ap (pd_up e) on a) + (pd_ar (pd_up e) on a (b + 1))))), (2, .int (nI a)), (3, .int (nI b))]) X dX0_apart_53 (by decide) rfl ?_
                  refine g_iload X dX0_apart_55 0 rfl ?_
                  refine g_if_eq (P := 0 = 0) X 76 dX0_apart_57 (by decide) (pn_z (by omega)) (fun c => ?_) (fun c => absurd rfl c)
                  refine g_iinc (v := (nI (b + 1))) (L' := [(3, .int (nI (b + 1))), (4, .int (nI 0)), (0, .ref h), (1, .int (nI ((pd_ap (pd_up e) on a) + (pd_ar (pd_up e) on a (b + 1))))), (2, .int (nI a))]) X dX0_apart_76 4 rfl (pn_inc _) (by decide) rfl ?_
                  refine g_goto X 18 dX0_apart_79 (by decide) ?_
                  refine g_loc (L' := [(0, .ref h), (1, .int (nI ((pd_ap (pd_up e) on a) + (pd_ar (pd_up e) on a (b + 1))))), (2, .int (nI a)), (3, .int (nI (b + 1)))]) [2, 3, 4, 0] rfl ?_
                  exact ih18 (b + 1) (by omega) (by omega) (by omega)
                · refine g_iconst (v := (nI 1)) X dX0_apart_48 (by decide) ?_
                  refine g_goto X 53 dX0_apart_49 (by decide) ?_
                  refine g_istore (L' := [(4, .int (nI 1)), (0, .ref h), (1, .int (nI ((pd_ap (pd_up e) on a) + (pd_ar (pd_up e) on a b)))), (2, .int (nI a)), (3, .int (nI b))]) X dX0_apart_53 (by decide) rfl ?_
                  refine g_iload X dX0_apart_55 0 rfl ?_
                  refine g_if_eq (P := 1 = 0) X 76 dX0_apart_57 (by decide) (pn_z (by omega)) (fun c => absurd c (by decide)) (fun c => ?_)
                  refine g_aload_n X dX0_apart_60 1 rfl rfl ?_
                  refine g_get X in_X0 0 rfl rfl 4 (by decide) q34 rfl dX0_apart_61 ?_
                  refine g_iload_n X dX0_apart_64 3 rfl rfl ?_
                  refine g_iald (v := (nI (pd_up e a))) X 3 0 rfl t0 (by omega) (by decide) (congrArg nI (hh a (by omega))) dX0_apart_65 ?_
                  refine g_iload_n X dX0_apart_66 4 rfl rfl ?_
                  refine g_ishr (v := (nI ((pd_up e a) >>> b))) X dX0_apart_67 (pn_shr (by omega) (by omega)) ?_
                  refine g_iconst (v := (nI 1)) X dX0_apart_68 (by decide) ?_
                  refine g_iand (v := (nI (((pd_up e a) >>> b) &&& 1))) X dX0_apart_69 (pn_and _ _) ?_
                  refine g_if_ne (P := ¬ (pd_up e a).testBit b = true) X 76 dX0_apart_70 (by decide) (pn_b0 _ _) (fun c70 => ?_) (fun c70 => ?_)
                  · rw [← pd_ar_n (U := pd_up e) (on := on) (a := a) (b := b) (fun z => c70 z.2.2)]
                    refine g_iinc (v := (nI (b + 1))) (L' := [(3, .int (nI (b + 1))), (4, .int (nI 1)), (0, .ref h), (1, .int (nI ((pd_ap (pd_up e) on a) + (pd_ar (pd_up e) on a (b + 1))))), (2, .int (nI a))]) X dX0_apart_76 4 rfl (pn_inc _) (by decide) rfl ?_
                    refine g_goto X 18 dX0_apart_79 (by decide) ?_
                    refine g_loc (L' := [(0, .ref h), (1, .int (nI ((pd_ap (pd_up e) on a) + (pd_ar (pd_up e) on a (b + 1))))), (2, .int (nI a)), (3, .int (nI (b + 1)))]) [2, 3, 4, 0] rfl ?_
                    exact ih18 (b + 1) (by omega) (by omega) (by omega)
                  · refine g_iinc (v := (nI ((pd_ap (pd_up e) on a) + (pd_ar (pd_up e) on a (b + 1))))) (L' := [(1, .int (nI ((pd_ap (pd_up e) on a) + (pd_ar (pd_up e) on a (b + 1))))), (4, .int (nI 1)), (0, .ref h), (2, .int (nI a)), (3, .int (nI b))]) X dX0_apart_73 2 rfl ((pn_inc _).trans (congrArg nI (by rw [pd_ar_y (by omega) c33 c45 c70]; rfl))) (by decide) rfl ?_
                    refine g_iinc (v := (nI (b + 1))) (L' := [(3, .int (nI (b + 1))), (1, .int (nI ((pd_ap (pd_up e) on a) + (pd_ar (pd_up e) on a (b + 1))))), (4, .int (nI 1)), (0, .ref h), (2, .int (nI a))]) X dX0_apart_76 4 rfl (pn_inc _) (by decide) rfl ?_
                    refine g_goto X 18 dX0_apart_79 (by decide) ?_
                    refine g_loc (L' := [(0, .ref h), (1, .int (nI ((pd_ap (pd_up e) on a) + (pd_ar (pd_up e) on a (b + 1))))), (2, .int (nI a)), (3, .int (nI (b + 1)))]) [3, 1, 4, 0] rfl ?_
                    exact ih18 (b + 1) (by omega) (by omega) (by omega)
        refine g_eq (L' := [(3, .int (nI (a + 1))), (0, .ref h), (1, .int (nI ((pd_ap (pd_up e) on a) + (pd_ar (pd_up e) on a (a + 1))))), (2, .int (nI a))]) rfl (by rw [pd_ar_lo (Nat.le_refl _)]; rfl) rfl rfl ?_
        refine g_loc (L' := [(0, .ref h), (1, .int (nI ((pd_ap (pd_up e) on a) + (pd_ar (pd_up e) on a (a + 1))))), (2, .int (nI a)), (3, .int (nI (a + 1)))]) [1, 2, 3, 0] rfl ?_
        exact lp18 _ (a + 1) (by omega) (by omega) (Nat.lt_succ_self _)
  refine g_loc (L' := [(0, .ref h), (1, .int (nI 0)), (2, .int (nI 0))]) [2, 1, 0] rfl ?_
  exact lp8 _ 0 (by omega) (Nat.lt_succ_self _)
end
section
/-! HELP 4: pure rows for the reference's walks -/
theorem pn_gt9 (x : Int32) : 9 < x ↔ 10 ≤ x := by
  rw [Int32.lt_iff_toInt_lt, Int32.le_iff_toInt_le, show (9 : Int32).toInt = 9 from by decide, show (10 : Int32).toInt = 10 from by decide]
  omega
theorem pd_la_y {s v : Nat} (h : s.testBit v = true) : pd_la s (v + 1) = some v := if_pos h
theorem pd_la_n {s v : Nat} (h : ¬ s.testBit v = true) : pd_la s (v + 1) = pd_la s v := if_neg h
theorem pd_ro_n {T : Nat → Nat} {s v : Nat} (hr : pd_ro T s v = true) (h : ¬ s.testBit v = true) : pd_ro T s (v + 1) = true := by
  show (pd_ro T s v && (!(s.testBit v) || pd_ok T (pd_la s v) v)) = true
  rw [hr, pd_nb h]; rfl
theorem pd_ro_0 {T : Nat → Nat} {s v : Nat} (hr : pd_ro T s v = true) (hl : pd_la s v = none) : pd_ro T s (v + 1) = true := by
  show (pd_ro T s v && (!(s.testBit v) || pd_ok T (pd_la s v) v)) = true
  rw [hr, hl]
  show (true && (!(s.testBit v) || true)) = true
  cases s.testBit v <;> rfl
theorem pd_ro_y {T : Nat → Nat} {s v u : Nat} (hr : pd_ro T s v = true) (hl : pd_la s v = some u) (h : (T u).testBit v = true) : pd_ro T s (v + 1) = true := by
  show (pd_ro T s v && (!(s.testBit v) || pd_ok T (pd_la s v) v)) = true
  rw [hr, hl]
  show (true && (!(s.testBit v) || (T u).testBit v)) = true
  rw [h]
  cases s.testBit v <;> rfl
theorem pd_ro_bad {T : Nat → Nat} {s v u : Nat} (hv : v < 10) (hs : s.testBit v = true) (hl : pd_la s v = some u) (h : ¬ (T u).testBit v = true) : pd_ro T s 10 = false :=
  pd_nb fun z => h (pd_ro_at z hv hs hl)
/-! antichains -/
theorem pd_al_s {q : Nat → Bool} {n : Nat} (h : pd_al q n = true) (hn : q n = true) : pd_al q (n + 1) = true := by
  show (pd_al q n && q n) = true
  rw [h, hn]; rfl
theorem pd_al_bad {q : Nat → Bool} {n v : Nat} (hv : v < n) (h : q v = false) : pd_al q n = false := pd_nb fun z => by
  have := (pd_al_iff q n).mp z v hv
  rw [h] at this; cases this
def pd_aq (U : Nat → Nat) (A : Nat) : Nat → Bool := fun v => !(A.testBit v && !decide (U v &&& A = 0))
theorem pd_anB_f {U : Nat → Nat} {S A : Nat} (h : ¬ pd_df A S = 0) : pd_anB U S A = false := by
  unfold pd_anB
  rw [decide_eq_false h]; rfl
theorem pd_anB_y {U : Nat → Nat} {S A : Nat} (h : pd_df A S = 0) (h2 : pd_al (pd_aq U A) 10 = true) : pd_anB U S A = true := by
  show (decide (pd_df A S = 0) && pd_al (pd_aq U A) 10) = true
  rw [decide_eq_true h, h2]; rfl
theorem pd_anB_n {U : Nat → Nat} {S A v : Nat} (hv : v < 10) (h : A.testBit v = true) (h2 : ¬ U v &&& A = 0) : pd_anB U S A = false := by
  have h3 : pd_al (pd_aq U A) 10 = false := pd_al_bad hv (by
    show (!(A.testBit v && !decide (U v &&& A = 0))) = false
    rw [h, decide_eq_false h2]; rfl)
  show (decide (pd_df A S = 0) && pd_al (pd_aq U A) 10) = false
  rw [h3, Bool.and_false]
theorem pd_aq_1 {U : Nat → Nat} {A v : Nat} (h : ¬ A.testBit v = true) : pd_aq U A v = true := by
  show (!(A.testBit v && !decide (U v &&& A = 0))) = true
  rw [pd_nb h]; rfl
theorem pd_aq_2 {U : Nat → Nat} {A v : Nat} (h : U v &&& A = 0) : pd_aq U A v = true := by
  show (!(A.testBit v && !decide (U v &&& A = 0))) = true
  rw [decide_eq_true h]
  cases A.testBit v <;> rfl
/-- a chain within on -/
def pd_cB (U : Nat → Nat) (on s : Nat) : Bool := decide (pd_df s on = 0) && pd_ro U s 10
/-! maxima, counts -/
theorem pd_mx_y {p : Nat → Bool} {f : Nat → Nat} {n : Nat} (hp : p n = true) (h : pd_mx p f n < f n) : pd_mx p f (n + 1) = f n := if_pos ⟨hp, h⟩
theorem pd_mx_n1 {p : Nat → Bool} {f : Nat → Nat} {n : Nat} (hp : ¬ p n = true) : pd_mx p f (n + 1) = pd_mx p f n := if_neg fun z => hp z.1
theorem pd_mx_n2 {p : Nat → Bool} {f : Nat → Nat} {n : Nat} (h : f n ≤ pd_mx p f n) : pd_mx p f (n + 1) = pd_mx p f n := if_neg fun z => absurd z.2 (Nat.not_lt.mpr h)
theorem pd_mx_bd {p : Nat → Bool} {f : Nat → Nat} {c : Nat} (h : ∀ k, f k ≤ c) (n : Nat) : pd_mx p f n ≤ c := by
  rcases pd_mx_at p f n with z | ⟨k, -, -, z⟩
  · omega
  · rw [← z]; exact h k
def pd_ck (U : Nat → Nat) (S n : Nat) : Nat := pd_sm (fun s => (pd_anB U S s).toNat) n
theorem pd_ck_y {U : Nat → Nat} {S n : Nat} (h : pd_anB U S n = true) : pd_ck U S (n + 1) = pd_ck U S n + 1 := by
  show pd_ck U S n + (pd_anB U S n).toNat = _
  rw [h]; rfl
theorem pd_ck_n {U : Nat → Nat} {S n : Nat} (h : ¬ pd_anB U S n = true) : pd_ck U S (n + 1) = pd_ck U S n := by
  show pd_ck U S n + (pd_anB U S n).toNat = _
  rw [pd_nb h]; rfl
/-- none of the sets below k is an antichain of that size -/
def pd_No (U : Nat → Nat) (on m k : Nat) : Prop := ∀ A, A < k → pd_An U on A → pd_bc A ≠ m
theorem pd_No_1 {U : Nat → Nat} {on m k : Nat} (h : pd_No U on m k) (hk : k < 1024) (hn : ¬ pd_anB U on k = true) : pd_No U on m (k + 1) := fun A hA hAn => by
  by_cases z : A = k
  · rw [z] at hAn; exact absurd ((pd_anB_iff hk).mpr hAn) hn
  · exact h A (by omega) hAn
theorem pd_No_2 {U : Nat → Nat} {on m k : Nat} (h : pd_No U on m k) (hn : ¬ pd_bc k = m) : pd_No U on m (k + 1) := fun A hA hAn => by
  by_cases z : A = k
  · rw [z]; exact hn
  · exact h A (by omega) hAn
theorem pd_No_end {U : Nat → Nat} {on k : Nat} (h : pd_No U on (pd_wd U on) k) (hk : 1024 ≤ k) : False := by
  obtain ⟨A, h1, h2, h3⟩ := pd_wd_at U on
  exact h A (by omega) h2 h3
/-! the table of fewest rows -/
def pd_LI (T nd : Nat → Nat) (k b least part : Nat) : Prop :=
  (least = 11 ∨ ∃ p, p &&& k = p ∧ p.testBit b = true ∧ pd_ro T p 10 = true ∧ nd (pd_df k p) + 1 = least) ∧ (∀ p, p &&& k = p → part < p → p.testBit b = true → pd_ro T p 10 = true → least ≤ nd (pd_df k p) + 1) ∧ least ≤ 11
theorem pd_LI_0 {T nd : Nat → Nat} {k b : Nat} : pd_LI T nd k b 11 k := by
  refine ⟨Or.inl rfl, fun p hp hlt => ?_, Nat.le_refl _⟩
  have : p &&& k ≤ k := Nat.and_le_right
  rw [hp] at this
  exact absurd this (by omega)
theorem pd_LI_skip {T nd : Nat → Nat} {k b least part : Nat} (h : pd_LI T nd k b least part) (hp : part &&& k = part) (hn : ¬ (part.testBit b = true ∧ pd_ro T part 10 = true ∧ nd (pd_df k part) + 1 < least)) : pd_LI T nd k b least ((part - 1) &&& k) := by
  obtain ⟨h1, h2, h3⟩ := h
  refine ⟨h1, fun p g1 g2 g3 g4 => ?_, h3⟩
  rcases Nat.lt_trichotomy p part with z | z | z
  · have := pd_subm part k p hp g1 z
    omega
  · rw [z] at g3 g4 ⊢
    rcases Nat.lt_or_ge (nd (pd_df k part) + 1) least with y | y
    · exact absurd ⟨g3, g4, y⟩ hn
    · exact y
  · exact h2 p g1 z g3 g4
theorem pd_LI_take {T nd : Nat → Nat} {k b least part : Nat} (h : pd_LI T nd k b least part) (hp : part &&& k = part) (hb : part.testBit b = true) (hr : pd_ro T part 10 = true) (hl : nd (pd_df k part) + 1 < least) : pd_LI T nd k b (nd (pd_df k part) + 1) ((part - 1) &&& k) := by
  obtain ⟨h1, h2, h3⟩ := h
  refine ⟨Or.inr ⟨part, hp, hb, hr, rfl⟩, fun p g1 g2 g3 g4 => ?_, by omega⟩
  rcases Nat.lt_trichotomy p part with z | z | z
  · have := pd_subm part k p hp g1 z
    omega
  · rw [z]; exact Nat.le_refl _
  · have := h2 p g1 z g3 g4
    omega
theorem pd_ro_one (T : Nat → Nat) (b : Nat) : pd_ro T (2 ^ b) 10 = true := (pd_ro_iff 10).mpr fun v u hv hs hl => by
  obtain ⟨h1, h2, -⟩ := pd_la_some hl
  rw [pd_tw] at hs h2
  omega
theorem pd_LI_end {T nd : Nat → Nat} {k b least : Nat} (h : pd_LI T nd k b least 0) (hb : b < 10) (hbk : k.testBit b = true) (hnd : ∀ s, s < k → nd s ≤ pd_bc s) : least ≤ pd_bc k ∧ ∃ p, p &&& k = p ∧ p.testBit b = true ∧ pd_ro T p 10 = true ∧ nd (pd_df k p) + 1 = least := by
  obtain ⟨h1, h2, h3⟩ := h
  have hsub : ∀ i, (2 ^ b).testBit i = true → k.testBit i = true := fun i hi => by
    rw [pd_tw] at hi; rw [← hi]; exact hbk
  have hself : (2 ^ b).testBit b = true := pd_tw.mpr rfl
  have g1 := h2 (2 ^ b) (pd_sub_iff.mpr hsub) (Nat.two_pow_pos b) hself (pd_ro_one T b)
  have g2 := hnd (pd_df k (2 ^ b)) (pd_df_lt b hbk hself)
  have g3 : pd_bc k = pd_bc (2 ^ b) + pd_bc (pd_df k (2 ^ b)) := pd_ws_df hsub
  have g4 : pd_bc (2 ^ b) = 1 := pd_ws_one hb
  have g5 := pd_bc_le k
  refine ⟨by omega, ?_⟩
  rcases h1 with z | z
  · exact absurd z (by omega)
  · exact z
def pd_NI (T nd sg : Nat → Nat) (k : Nat) : Prop := pd_Nd T nd k ∧ (∀ s, s < k → nd s ≤ pd_bc s) ∧ ∀ s, 0 < s → s < k → sg s = (pd_ro T s 10).toNat
theorem pd_NI_0 {T nd sg : Nat → Nat} : pd_NI T (pd_st nd 0 0) sg 1 := by
  refine ⟨⟨pd_st_s, fun s h1 h2 => absurd h1 (by omega)⟩, fun s hs => ?_, fun s h1 h2 => absurd h1 (by omega)⟩
  rw [show s = 0 by omega, pd_st_s]; exact Nat.zero_le _
theorem pd_NI_step {T nd sg : Nat → Nat} {k b least : Nat} (h : pd_NI T nd sg k) (hk0 : 0 < k) (hb : b < 10) (hbk : k.testBit b = true) (hbl : ∀ j, j < b → k.testBit j = false) (hL : pd_LI T nd k b least 0) : pd_NI T (pd_st nd k least) (pd_st sg k (pd_ro T k 10).toNat) (k + 1) := by
  obtain ⟨⟨h0, h1⟩, h2, h3⟩ := h
  obtain ⟨g1, p, g2, g3, g4, g5⟩ := pd_LI_end hL hb hbk h2
  refine ⟨⟨?_, fun s hs0 hs => ?_⟩, fun s hs => ?_, fun s hs0 hs => ?_⟩
  · rw [pd_st_n (by omega)]; exact h0
  · by_cases z : s = k
    · subst z
      refine ⟨⟨p, pd_sub_iff.mp g2, ⟨b, g3⟩, g4, ?_⟩, fun p' b' e1 e2 e3 e4 e5 => ?_⟩
      · have := pd_df_lt b hbk g3
        rw [pd_st_n (by omega), pd_st_s]; exact g5
      · have eb : b' = b := by
          rcases Nat.lt_trichotomy b' b with z | z | z
          · rw [hbl b' z] at e2; cases e2
          · exact z
          · rw [e3 b z] at hbk; cases hbk
        rw [eb] at e4
        have := pd_df_lt b hbk e4
        rw [pd_st_s, pd_st_n (by omega)]
        refine hL.2.1 p' (pd_sub_iff.mpr e1) ?_ e4 e5
        rcases Nat.eq_zero_or_pos p' with y | y
        · rw [y, Nat.zero_testBit] at e4; cases e4
        · exact y
    · obtain ⟨⟨q, e1, e2, e3, e4⟩, e5⟩ := h1 s hs0 (by omega)
      refine ⟨⟨q, e1, e2, e3, ?_⟩, fun p' b' f1 f2 f3 f4 f5 => ?_⟩
      · have := pd_df_le s q
        rw [pd_st_n (by omega), pd_st_n (by omega)]; exact e4
      · have := pd_df_le s p'
        rw [pd_st_n (by omega), pd_st_n (by omega)]; exact e5 p' b' f1 f2 f3 f4 f5
  · by_cases z : s = k
    · rw [z, pd_st_s]; exact g1
    · rw [pd_st_n z]; exact h2 s (by omega)
  · by_cases z : s = k
    · rw [z, pd_st_s]
    · rw [pd_st_n z]; exact h3 s hs0 (by omega)
theorem pd_NI_9 {T nd sg : Nat → Nat} {k s : Nat} (h : pd_NI T nd sg k) (hs : s < k) : nd s ≤ 10 := Nat.le_trans (h.2.1 s hs) (pd_bc_le s)
theorem pd_and_idem (p k : Nat) : (p &&& k) &&& k = p &&& k := by rw [Nat.and_assoc, Nat.and_self]
abbrev SM : Type := (Nat → Nat) × (Nat → Nat) × (Nat → Nat)
end
section
/-! WALK 41: PathCoverDagModel, the leaves -/

set_option maxHeartbeats 4000000 in
set_option maxRecDepth 100000 in
/-- bad(v) -/
theorem mM_bad (l : Launch) (D : va_G) (d dz : ClassId) (h : Nat) (ad : Nat → Nat) (e up w : Nat → Nat) (on : Nat) (sg nd : Nat → Nat) (v : Int32) : MI l yX1_bad cX1_bad 2 .boolean 0 0 D [(d, .int), (dz, .boolean)] [.ref h, .int v] (wM d dz h ad e up w on sg nd) (fun _ : Unit => (wM d dz h ad e up w on sg nd)) (fun r _ => r = nI (decide (v < 0 ∨ 10 ≤ v)).toNat) := by
  refine MI_of (by decide) (Nat.le_of_ble_eq_true rfl) ?_
  intro K hl hD hT X R
  subst hl; subst hD
  have X : Cx K cX1_bad RX1 (some .boolean) 2 ({ frames := 0, cells := 0, slots := 0, locals := 0 }) := X
  have t0 : (kT K)[0]? = some (d, .int) := by rw [hT]; rfl
  have t1 : (kT K)[1]? = some (dz, .boolean) := by rw [hT]; rfl
  show Go K 0 0 (wM d dz h ad e up w on sg nd) [(0, .ref h), (1, .int v)] 0 []
  refine g_iload_n X dX1_bad_0 1 rfl rfl ?_
  refine g_if_lt (P := v < 0) X 10 dX1_bad_1 (by decide) Iff.rfl (fun c1 => ?_) (fun c1 => ?_)
  · refine g_iconst (v := (nI 1)) X dX1_bad_10 (by decide) ?_
    refine g_goto X 15 dX1_bad_11 (by decide) ?_
    exact R () (nI 1) _ _ (by rw [decide_eq_true (Or.inl c1)]; rfl) rfl dX1_bad_15
  · refine g_iload_n X dX1_bad_4 1 rfl rfl ?_
    refine g_bipush (v := 9) X dX1_bad_5 (by decide) ?_
    refine g_icmp_le (P := ¬ 10 ≤ v) X 14 dX1_bad_7 (by decide) (pn_le9 _) (fun c7 => ?_) (fun c7 => ?_)
    · refine g_iconst (v := (nI 0)) X dX1_bad_14 (by decide) ?_
      exact R () (nI 0) _ _ (by rw [decide_eq_false (fun z => z.elim c1 c7)]; rfl) rfl dX1_bad_15
    · refine g_iconst (v := (nI 1)) X dX1_bad_10 (by decide) ?_
      refine g_goto X 15 dX1_bad_11 (by decide) ?_
      exact R () (nI 1) _ _ (by rw [decide_eq_true (Or.inr (Decidable.not_not.mp c7))]; rfl) rfl dX1_bad_15

set_option maxHeartbeats 4000000 in
set_option maxRecDepth 100000 in
/-- has(s, v) -/
theorem mM_has (l : Launch) (D : va_G) (d dz : ClassId) (h : Nat) (ad : Nat → Nat) (e up w : Nat → Nat) (on : Nat) (sg nd : Nat → Nat) (s v : Nat) (hs : s < 2 ^ 31) (hv : v < 32) : MI l yX1_has cX1_has 3 .boolean 0 0 D [(d, .int), (dz, .boolean)] [.ref h, .int (nI s), .int (nI v)] (wM d dz h ad e up w on sg nd) (fun _ : Unit => (wM d dz h ad e up w on sg nd)) (fun r _ => r = nI (s.testBit v).toNat) := by
  refine MI_of (by decide) (Nat.le_of_ble_eq_true rfl) ?_
  intro K hl hD hT X R
  subst hl; subst hD
  have X : Cx K cX1_has RX1 (some .boolean) 3 ({ frames := 0, cells := 0, slots := 0, locals := 0 }) := X
  have t0 : (kT K)[0]? = some (d, .int) := by rw [hT]; rfl
  have t1 : (kT K)[1]? = some (dz, .boolean) := by rw [hT]; rfl
  show Go K 0 0 (wM d dz h ad e up w on sg nd) [(0, .ref h), (1, .int (nI s)), (2, .int (nI v))] 0 []
  refine g_iload_n X dX1_has_0 1 rfl rfl ?_
  refine g_iload_n X dX1_has_1 2 rfl rfl ?_
  refine g_ishr (v := (nI (s >>> v))) X dX1_has_2 (pn_shr hs hv) ?_
  refine g_iconst (v := (nI 1)) X dX1_has_3 (by decide) ?_
  refine g_iand (v := (nI ((s >>> v) &&& 1))) X dX1_has_4 (pn_and _ _) ?_
  refine g_iconst (v := (nI 1)) X dX1_has_5 (by decide) ?_
  refine g_icmp_ne (P := (s).testBit v = true) X 13 dX1_has_6 (by decide) (pn_b1 _ _) (fun c6 => ?_) (fun c6 => ?_)
  · refine g_iconst (v := (nI 0)) X dX1_has_13 (by decide) ?_
    exact R () (nI 0) _ _ (by rw [pd_nb c6]; rfl) rfl dX1_has_14
  · refine g_iconst (v := (nI 1)) X dX1_has_9 (by decide) ?_
    refine g_goto X 14 dX1_has_10 (by decide) ?_
    exact R () (nI 1) _ _ (by rw [c6]; rfl) rfl dX1_has_14

set_option maxHeartbeats 4000000 in
set_option maxRecDepth 100000 in
/-- size(s) -/
theorem mM_size (l : Launch) (D : va_G) (d dz : ClassId) (h : Nat) (ad : Nat → Nat) (e up w : Nat → Nat) (on : Nat) (sg nd : Nat → Nat) (s : Nat) (hs : s < 1024) : MI l yX1_size cX1_size 4 .int 0 0 D [(d, .int), (dz, .boolean)] [.ref h, .int (nI s)] (wM d dz h ad e up w on sg nd) (fun _ : Unit => (wM d dz h ad e up w on sg nd)) (fun r _ => r = nI (pd_bc s)) := by
  refine MI_of (by decide) (Nat.le_of_ble_eq_true rfl) ?_
  intro K hl hD hT X R
  subst hl; subst hD
  have X : Cx K cX1_size RX1 (some .int) 4 ({ frames := 0, cells := 0, slots := 0, locals := 0 }) := X
  have t0 : (kT K)[0]? = some (d, .int) := by rw [hT]; rfl
  have t1 : (kT K)[1]? = some (dz, .boolean) := by rw [hT]; rfl
  show Go K 0 0 (wM d dz h ad e up w on sg nd) [(0, .ref h), (1, .int (nI s))] 0 []
  refine g_iconst (v := (nI 0)) X dX1_size_0 (by decide) ?_
  refine g_istore_n (L' := [(2, .int (nI 0)), (0, .ref h), (1, .int (nI s))]) X dX1_size_1 rfl (by decide) rfl ?_
  refine g_iconst (v := (nI 0)) X dX1_size_2 (by decide) ?_
  refine g_istore_n (L' := [(3, .int (nI 0)), (2, .int (nI 0)), (0, .ref h), (1, .int (nI s))]) X dX1_size_3 rfl (by decide) rfl ?_
  have lp4 : ∀ (n : Nat) (v : Nat), (v ≤ 10) → 10 - v < n → Go K 0 0 (wM d dz h ad e up w on sg nd) [(0, .ref h), (1, .int (nI s)), (2, .int (nI (pd_sm (fun v => (s >>> v) &&& 1) v))), (3, .int (nI v))] 4 [] := by
    intro n
    induction n with
    | zero => intro v hv hm; exact absurd hm (Nat.not_lt_zero _)
    | succ n ih4 =>
      intro v hv hm
      refine g_iload_n X dX1_size_4 3 rfl rfl ?_
      refine g_bipush (v := (nI 10)) X dX1_size_5 (by decide) ?_
      refine g_icmp_ge (P := 10 ≤ v) X 24 dX1_size_7 (by decide) (nI_leI (by omega) (by omega)) (fun c7 => ?_) (fun c7 => ?_)
      · refine g_iload_n X dX1_size_24 2 rfl rfl ?_
        exact R () (nI (pd_sm (fun v => (s >>> v) &&& 1) v)) _ _ (by rw [show v = 10 by omega, pd_bc_eq]) rfl dX1_size_25
      · refine g_iload_n X dX1_size_10 2 rfl rfl ?_
        refine g_iload_n X dX1_size_11 1 rfl rfl ?_
        refine g_iload_n X dX1_size_12 3 rfl rfl ?_
        refine g_ishr (v := (nI (s >>> v))) X dX1_size_13 (pn_shr (by omega) (by omega)) ?_
        refine g_iconst (v := (nI 1)) X dX1_size_14 (by decide) ?_
        refine g_iand (v := (nI ((s >>> v) &&& 1))) X dX1_size_15 (pn_and _ _) ?_
        refine g_iadd (v := (nI ((pd_sm (fun v => (s >>> v) &&& 1) v) + ((s >>> v) &&& 1)))) X dX1_size_16 (nI_add _ _) ?_
        refine g_istore_n (L' := [(2, .int (nI ((pd_sm (fun v => (s >>> v) &&& 1) v) + ((s >>> v) &&& 1)))), (0, .ref h), (1, .int (nI s)), (3, .int (nI v))]) X dX1_size_17 rfl (by decide) rfl ?_
        refine g_iinc (v := (nI (v + 1))) (L' := [(3, .int (nI (v + 1))), (2, .int (nI ((pd_sm (fun v => (s >>> v) &&& 1) v) + ((s >>> v) &&& 1)))), (0, .ref h), (1, .int (nI s))]) X dX1_size_18 3 rfl (pn_inc _) (by decide) rfl ?_
        refine g_goto X 4 dX1_size_21 (by decide) ?_
        refine g_loc (L' := [(0, .ref h), (1, .int (nI s)), (2, .int (nI ((pd_sm (fun v => (s >>> v) &&& 1) v) + ((s >>> v) &&& 1)))), (3, .int (nI (v + 1)))]) [2, 3, 1, 0] rfl ?_
        exact ih4 (v + 1) (by omega) (by omega)
  refine g_loc (L' := [(0, .ref h), (1, .int (nI s)), (2, .int (nI 0)), (3, .int (nI 0))]) [2, 3, 1, 0] rfl ?_
  exact lp4 _ 0 (by omega) (Nat.lt_succ_self _)

set_option maxHeartbeats 4000000 in
set_option maxRecDepth 100000 in
/-- sum(s) -/
theorem mM_sum (l : Launch) (D : va_G) (d dz : ClassId) (h : Nat) (ad : Nat → Nat) (e up w : Nat → Nat) (on : Nat) (sg nd : Nat → Nat) (s : Nat) (hs : s < 1024) : MI l yX1_sum cX1_sum 4 .int 1 22 D [(d, .int), (dz, .boolean)] [.ref h, .int (nI s)] (wM d dz h ad e up w on sg nd) (fun _ : Unit => (wM d dz h ad e up w on sg nd)) (fun r _ => r = nI (pd_ws w s)) := by
  refine MI_of (by decide) (Nat.le_of_ble_eq_true rfl) ?_
  intro K hl hD hT X R
  subst hl; subst hD
  have X : Cx K cX1_sum RX1 (some .int) 4 ({ frames := 1, cells := 0, slots := 0, locals := 22 }) := X
  have t0 : (kT K)[0]? = some (d, .int) := by rw [hT]; rfl
  have t1 : (kT K)[1]? = some (dz, .boolean) := by rw [hT]; rfl
  show Go K 0 0 (wM d dz h ad e up w on sg nd) [(0, .ref h), (1, .int (nI s))] 0 []
  refine g_iconst (v := (nI 0)) X dX1_sum_0 (by decide) ?_
  refine g_istore_n (L' := [(2, .int (nI 0)), (0, .ref h), (1, .int (nI s))]) X dX1_sum_1 rfl (by decide) rfl ?_
  refine g_iconst (v := (nI 0)) X dX1_sum_2 (by decide) ?_
  refine g_istore_n (L' := [(3, .int (nI 0)), (2, .int (nI 0)), (0, .ref h), (1, .int (nI s))]) X dX1_sum_3 rfl (by decide) rfl ?_
  have lp4 : ∀ (n : Nat) (v : Nat), (v ≤ 10) → 10 - v < n → Go K 0 0 (wM d dz h ad e up w on sg nd) [(0, .ref h), (1, .int (nI s)), (2, .int (nI (pd_wk w s v))), (3, .int (nI v))] 4 [] := by
    intro n
    induction n with
    | zero => intro v hv hm; exact absurd hm (Nat.not_lt_zero _)
    | succ n ih4 =>
      intro v hv hm
      refine g_iload_n X dX1_sum_4 3 rfl rfl ?_
      refine g_bipush (v := (nI 10)) X dX1_sum_5 (by decide) ?_
      refine g_icmp_ge (P := 10 ≤ v) X 34 dX1_sum_7 (by decide) (nI_leI (by omega) (by omega)) (fun c7 => ?_) (fun c7 => ?_)
      · refine g_iload_n X dX1_sum_34 2 rfl rfl ?_
        exact R () (nI (pd_wk w s v)) _ _ (by rw [show v = 10 by omega]; rfl) rfl dX1_sum_35
      · refine g_aload_n X dX1_sum_10 0 rfl rfl ?_
        refine g_iload_n X dX1_sum_11 1 rfl rfl ?_
        refine g_iload_n X dX1_sum_12 3 rfl rfl ?_
        refine g_callV (st := []) (ci := 1) (q := (RX1, TX1, 6)) (wr := []) X (mM_has _ _ d dz h ad e up w on sg nd s v (by omega) (by omega)) (lw_V q219 q221 qs12 q21 q222) 2 (by decide +kernel) (by decide) (by decide) rfl rfl rfl [0, 1, 2, 3, 4, 5] [] [0, 1] rfl rfl rfl (by decide) (by decide) (by decide) (by rw [hT]; rfl) rfl (Nat.le_of_ble_eq_true rfl) dX1_sum_13 (fun r u hp => ?_)
        obtain rfl := hp
        show Go K 0 0 (wM d dz h ad e up w on sg nd) [(0, .ref h), (1, .int (nI s)), (2, .int (nI (pd_wk w s v))), (3, .int (nI v))] 16 [.int (nI ((s.testBit v).toNat))]
        refine g_if_eq (P := ¬ (s.testBit v) = true) X 28 dX1_sum_16 (by decide) (pn_bz _) (fun c16 => ?_) (fun c16 => ?_)
        · rw [← pd_wk_n (w := w) c16]
          refine g_iinc (v := (nI (v + 1))) (L' := [(3, .int (nI (v + 1))), (0, .ref h), (1, .int (nI s)), (2, .int (nI (pd_wk w s (v + 1))))]) X dX1_sum_28 3 rfl (pn_inc _) (by decide) rfl ?_
          refine g_goto X 4 dX1_sum_31 (by decide) ?_
          refine g_loc (L' := [(0, .ref h), (1, .int (nI s)), (2, .int (nI (pd_wk w s (v + 1)))), (3, .int (nI (v + 1)))]) [1, 2, 3, 0] rfl ?_
          exact ih4 (v + 1) (by omega) (by omega)
        · have c16 := Decidable.not_not.mp c16
          refine g_iload_n X dX1_sum_19 2 rfl rfl ?_
          refine g_aload_n X dX1_sum_20 0 rfl rfl ?_
          refine g_get X in_X1 0 rfl rfl 2 (by decide) q177 rfl dX1_sum_21 ?_
          refine g_iload_n X dX1_sum_24 3 rfl rfl ?_
          refine g_iald (v := (nI (w v))) X 3 0 rfl t0 (by omega) (by decide) rfl dX1_sum_25 ?_
          refine g_iadd (v := (nI (pd_wk w s (v + 1)))) X dX1_sum_26 ((nI_add _ _).trans (congrArg nI (pd_wk_y c16).symm)) ?_
          refine g_istore_n (L' := [(2, .int (nI (pd_wk w s (v + 1)))), (0, .ref h), (1, .int (nI s)), (3, .int (nI v))]) X dX1_sum_27 rfl (by decide) rfl ?_
          refine g_iinc (v := (nI (v + 1))) (L' := [(3, .int (nI (v + 1))), (2, .int (nI (pd_wk w s (v + 1)))), (0, .ref h), (1, .int (nI s))]) X dX1_sum_28 3 rfl (pn_inc _) (by decide) rfl ?_
          refine g_goto X 4 dX1_sum_31 (by decide) ?_
          refine g_loc (L' := [(0, .ref h), (1, .int (nI s)), (2, .int (nI (pd_wk w s (v + 1)))), (3, .int (nI (v + 1)))]) [2, 3, 1, 0] rfl ?_
          exact ih4 (v + 1) (by omega) (by omega)
  refine g_loc (L' := [(0, .ref h), (1, .int (nI s)), (2, .int (nI 0)), (3, .int (nI 0))]) [2, 3, 1, 0] rfl ?_
  exact lp4 _ 0 (by omega) (Nat.lt_succ_self _)

set_option maxHeartbeats 4000000 in
set_option maxRecDepth 100000 in
/-- close() -/
theorem mM_close (l : Launch) (D : va_G) (d dz : ClassId) (h : Nat) (ad : Nat → Nat) (e up w : Nat → Nat) (on : Nat) (sg nd : Nat → Nat) (hE : pd_Ed e) : MV l yX1_close cX1_close 3 1 22 0 0 D [(d, .int), (dz, .boolean)] [.ref h] (wM d dz h ad e up w on sg nd) (fun u : Nat → Nat => (wM d dz h ad e u w on sg nd)) (fun u => ∀ v, v < 10 → u v = pd_up e v) := by
  refine MV_of (by decide) (Nat.le_of_ble_eq_true rfl) ?_
  intro K hl hD hT X hnm R
  subst hl; subst hD
  have X : Cx K cX1_close RX1 none 3 ({ frames := 1, cells := 0, slots := 0, locals := 22 }) := X
  have t0 : (kT K)[0]? = some (d, .int) := by rw [hT]; rfl
  have t1 : (kT K)[1]? = some (dz, .boolean) := by rw [hT]; rfl
  show Go K 0 0 (wM d dz h ad e up w on sg nd) [(0, .ref h)] 0 []
  refine g_bipush (v := (dI 10)) X dX1_close_0 (by decide) ?_
  refine g_istore_n (L' := [(1, .int (dI 10)), (0, .ref h)]) X dX1_close_2 rfl (by decide) rfl ?_
  have lp3 : ∀ (n : Nat) (j : Nat) (up1 : Nat → Nat), (j ≤ 10) → (∀ u, j ≤ u → u < 10 → up1 u = pd_up e u) → j < n → Go K 0 0 (wM d dz h ad e up1 w on sg nd) [(0, .ref h), (1, .int (dI j))] 3 [] := by
    intro n
    induction n with
    | zero => intro j up1 hj hu hm; exact absurd hm (Nat.not_lt_zero _)
    | succ n ih3 =>
      intro j up1 hj hu hm
      refine g_iload_n X dX1_close_3 1 rfl rfl ?_
      refine g_if_lt (P := j = 0) X 74 dX1_close_4 (by decide) (pn_di0 (by omega)) (fun c4 => ?_) (fun c4 => ?_)
      · exact R up1 _ _ (fun v hv => hu v (by omega) hv) dX1_close_74
      · obtain ⟨v, rfl⟩ : ∃ v, j = v + 1 := ⟨j - 1, by omega⟩
        rw [pn_di v]
        have hev : e v < 1024 := pd_Ed_lt hE (by omega)
        refine g_aload_n X dX1_close_7 0 rfl rfl ?_
        refine g_get X in_X1 0 rfl rfl 1 (by decide) q176 rfl dX1_close_8 ?_
        refine g_iload_n X dX1_close_11 1 rfl rfl ?_
        refine g_aload_n X dX1_close_12 0 rfl rfl ?_
        refine g_get X in_X1 0 rfl rfl 0 (by decide) q175 rfl dX1_close_13 ?_
        refine g_iload_n X dX1_close_16 1 rfl rfl ?_
        refine g_iald (v := (nI (pd_ac e up1 v (v + 1)))) X 1 0 rfl t0 (by omega) (by decide) (congrArg nI (pd_ac_lo (Nat.le_refl _)).symm) dX1_close_17 ?_
        refine g_iast (ws' := (wM d dz h ad e (pd_st up1 v (pd_ac e up1 v (v + 1))) w on sg nd)) X 2 0 rfl t0 (by omega) (by decide) (nF_st _ _ _) rfl dX1_close_18 ?_
        refine g_iload_n X dX1_close_19 1 rfl rfl ?_
        refine g_iconst (v := (nI 1)) X dX1_close_20 (by decide) ?_
        refine g_iadd (v := (nI (v + 1))) X dX1_close_21 (nI_add _ _) ?_
        refine g_istore_n (L' := [(2, .int (nI (v + 1))), (0, .ref h), (1, .int (nI v))]) X dX1_close_22 rfl (by decide) rfl ?_
        have lp23 : ∀ (n : Nat) (w1 : Nat), (v + 1 ≤ w1) → (w1 ≤ 10) → 10 - w1 < n → Go K 0 0 (wM d dz h ad e (pd_st up1 v (pd_ac e up1 v w1)) w on sg nd) [(0, .ref h), (1, .int (nI v)), (2, .int (nI w1))] 23 [] := by
          intro n
          induction n with
          | zero => intro w1 hw1 hw2 hm; exact absurd hm (Nat.not_lt_zero _)
          | succ n ih23 =>
            intro w1 hw1 hw2 hm
            refine g_iload_n X dX1_close_23 2 rfl rfl ?_
            refine g_bipush (v := (nI 10)) X dX1_close_24 (by decide) ?_
            refine g_icmp_ge (P := 10 ≤ w1) X 68 dX1_close_26 (by decide) (nI_leI (by omega) (by omega)) (fun c26 => ?_) (fun c26 => ?_)
            · refine g_iinc (v := (dI v)) (L' := [(1, .int (dI v)), (0, .ref h), (2, .int (nI w1))]) X dX1_close_68 1 rfl rfl (by decide) rfl ?_
              refine g_goto X 3 dX1_close_71 (by decide) ?_
              refine g_loc (L' := [(0, .ref h), (1, .int (dI v))]) [1, 0] rfl ?_
              exact ih3 v (pd_st up1 v (pd_ac e up1 v w1)) (by omega) (pd_close_step hu (by omega) (by omega)) (by omega)
            · refine g_aload_n X dX1_close_29 0 rfl rfl ?_
              refine g_aload_n X dX1_close_30 0 rfl rfl ?_
              refine g_get X in_X1 0 rfl rfl 0 (by decide) q175 rfl dX1_close_31 ?_
              refine g_iload_n X dX1_close_34 1 rfl rfl ?_
              refine g_iald (v := (nI (e v))) X 1 0 rfl t0 (by omega) (by decide) rfl dX1_close_35 ?_
              refine g_iload_n X dX1_close_36 2 rfl rfl ?_
              refine g_callV (st := []) (ci := 1) (q := (RX1, TX1, 6)) (wr := []) X (mM_has _ _ d dz h ad e (pd_st up1 v (pd_ac e up1 v w1)) w on sg nd (e v) w1 (by omega) (by omega)) (lw_V q219 q221 qs12 q21 q222) 2 (by decide +kernel) (by decide) (by decide) rfl rfl rfl [0, 1, 2, 3, 4, 5] [] [0, 1] rfl rfl rfl (by decide) (by decide) (by decide) (by rw [hT]; rfl) rfl (Nat.le_of_ble_eq_true rfl) dX1_close_37 (fun r u hp => ?_)
              obtain rfl := hp
              show Go K 0 0 (wM d dz h ad e (pd_st up1 v (pd_ac e up1 v w1)) w on sg nd) [(0, .ref h), (1, .int (nI v)), (2, .int (nI w1))] 40 [.int (nI (((e v).testBit w1).toNat))]
              refine g_if_eq (P := ¬ ((e v).testBit w1) = true) X 62 dX1_close_40 (by decide) (pn_bz _) (fun c40 => ?_) (fun c40 => ?_)
              · rw [← pd_ac_n (T := up1) c40]
                show Go K 0 0 (wM d dz h ad e (pd_st up1 v (pd_ac e up1 v (w1 + 1))) w on sg nd) [(0, .ref h), (1, .int (nI v)), (2, .int (nI w1))] 62 []
                refine g_iinc (v := (nI (w1 + 1))) (L' := [(2, .int (nI (w1 + 1))), (0, .ref h), (1, .int (nI v))]) X dX1_close_62 2 rfl (pn_inc _) (by decide) rfl ?_
                refine g_goto X 23 dX1_close_65 (by decide) ?_
                refine g_loc (L' := [(0, .ref h), (1, .int (nI v)), (2, .int (nI (w1 + 1)))]) [1, 2, 0] rfl ?_
                exact ih23 (w1 + 1) (by omega) (by omega) (by omega)
              · have c40 := Decidable.not_not.mp c40
                refine g_aload_n X dX1_close_43 0 rfl rfl ?_
                refine g_get X in_X1 0 rfl rfl 1 (by decide) q176 rfl dX1_close_44 ?_
                refine g_iload_n X dX1_close_47 1 rfl rfl ?_
                refine g_aload_n X dX1_close_48 0 rfl rfl ?_
                refine g_get X in_X1 0 rfl rfl 1 (by decide) q176 rfl dX1_close_49 ?_
                refine g_iload_n X dX1_close_52 1 rfl rfl ?_
                refine g_iald (v := (nI (pd_ac e up1 v w1))) X 2 0 rfl t0 (by omega) (by decide) (congrArg nI pd_st_s) dX1_close_53 ?_
                refine g_aload_n X dX1_close_54 0 rfl rfl ?_
                refine g_get X in_X1 0 rfl rfl 1 (by decide) q176 rfl dX1_close_55 ?_
                refine g_iload_n X dX1_close_58 2 rfl rfl ?_
                refine g_iald (v := (nI (up1 w1))) X 2 0 rfl t0 (by omega) (by decide) (congrArg nI (pd_st_n (by omega))) dX1_close_59 ?_
                refine g_ior (v := (nI (pd_ac e up1 v (w1 + 1)))) X dX1_close_60 ((pn_or _ _).trans (congrArg nI (pd_ac_s (by omega) c40).symm)) ?_
                refine g_iast (ws' := (wM d dz h ad e (pd_st (pd_st up1 v (pd_ac e up1 v w1)) v (pd_ac e up1 v (w1 + 1))) w on sg nd)) X 2 0 rfl t0 (by omega) (by decide) (nF_st _ _ _) rfl dX1_close_61 ?_
                rw [pd_st2]
                show Go K 0 0 (wM d dz h ad e (pd_st up1 v (pd_ac e up1 v (w1 + 1))) w on sg nd) [(0, .ref h), (1, .int (nI v)), (2, .int (nI w1))] 62 []
                refine g_iinc (v := (nI (w1 + 1))) (L' := [(2, .int (nI (w1 + 1))), (0, .ref h), (1, .int (nI v))]) X dX1_close_62 2 rfl (pn_inc _) (by decide) rfl ?_
                refine g_goto X 23 dX1_close_65 (by decide) ?_
                refine g_loc (L' := [(0, .ref h), (1, .int (nI v)), (2, .int (nI (w1 + 1)))]) [1, 2, 0] rfl ?_
                exact ih23 (w1 + 1) (by omega) (by omega) (by omega)
        refine g_loc (L' := [(0, .ref h), (1, .int (nI v)), (2, .int (nI (v + 1)))]) [1, 2, 0] rfl ?_
        exact lp23 _ (v + 1) (by omega) (by omega) (Nat.lt_succ_self _)
  refine g_loc (L' := [(0, .ref h), (1, .int (dI 10))]) [1, 0] rfl ?_
  exact lp3 _ 10 up (by omega) (fun u h1 h2 => absurd h1 (by omega)) (Nat.lt_succ_self _)

set_option maxHeartbeats 4000000 in
set_option maxRecDepth 100000 in
/-- row(s, byEdges) -/
theorem mM_row (l : Launch) (D : va_G) (d dz : ClassId) (h : Nat) (ad : Nat → Nat) (e up w : Nat → Nat) (on : Nat) (sg nd : Nat → Nat) (hE : pd_Ed e) (hh : ∀ v, v < 10 → up v = pd_up e v) (s : Nat) (hs : s < 1024) (be : Bool) : MI l yX1_row cX1_row 5 .boolean 1 22 D [(d, .int), (dz, .boolean)] [.ref h, .int (nI s), .int (nI be.toNat)] (wM d dz h ad e up w on sg nd) (fun _ : Unit => (wM d dz h ad e up w on sg nd)) (fun r _ => r = nI (pd_ro (pd_T be e) s 10).toNat) := by
  refine MI_of (by decide) (Nat.le_of_ble_eq_true rfl) ?_
  intro K hl hD hT X R
  subst hl; subst hD
  have X : Cx K cX1_row RX1 (some .boolean) 5 ({ frames := 1, cells := 0, slots := 0, locals := 22 }) := X
  have t0 : (kT K)[0]? = some (d, .int) := by rw [hT]; rfl
  have t1 : (kT K)[1]? = some (dz, .boolean) := by rw [hT]; rfl
  show Go K 0 0 (wM d dz h ad e up w on sg nd) [(0, .ref h), (1, .int (nI s)), (2, .int (nI be.toNat))] 0 []
  refine g_iconst (v := (oI none)) X dX1_row_0 (by decide) ?_
  refine g_istore_n (L' := [(3, .int (oI none)), (0, .ref h), (1, .int (nI s)), (2, .int (nI be.toNat))]) X dX1_row_1 rfl (by decide) rfl ?_
  refine g_iconst (v := (nI 0)) X dX1_row_2 (by decide) ?_
  refine g_istore (L' := [(4, .int (nI 0)), (3, .int (oI none)), (0, .ref h), (1, .int (nI s)), (2, .int (nI be.toNat))]) X dX1_row_3 (by decide) rfl ?_
  have lp5 : ∀ (n : Nat) (v : Nat), (v ≤ 10) → (pd_ro (pd_T be e) s v = true) → 10 - v < n → Go K 0 0 (wM d dz h ad e up w on sg nd) [(0, .ref h), (1, .int (nI s)), (2, .int (nI be.toNat)), (3, .int (oI (pd_la s v))), (4, .int (nI v))] 5 [] := by
    intro n
    induction n with
    | zero => intro v hv hr hm; exact absurd hm (Nat.not_lt_zero _)
    | succ n ih5 =>
      intro v hv hr hm
      refine g_iload X dX1_row_5 4 rfl ?_
      refine g_bipush (v := (nI 10)) X dX1_row_7 (by decide) ?_
      refine g_icmp_ge (P := 10 ≤ v) X 65 dX1_row_9 (by decide) (nI_leI (by omega) (by omega)) (fun c9 => ?_) (fun c9 => ?_)
      · refine g_iconst (v := (nI 1)) X dX1_row_65 (by decide) ?_
        exact R () (nI 1) _ _ (by rw [show v = 10 by omega] at hr; rw [hr]; rfl) rfl dX1_row_66
      · refine g_aload_n X dX1_row_12 0 rfl rfl ?_
        refine g_iload_n X dX1_row_13 1 rfl rfl ?_
        refine g_iload X dX1_row_14 4 rfl ?_
        refine g_callV (st := []) (ci := 1) (q := (RX1, TX1, 6)) (wr := []) X (mM_has _ _ d dz h ad e up w on sg nd s v (by omega) (by omega)) (lw_V q219 q221 qs12 q21 q222) 2 (by decide +kernel) (by decide) (by decide) rfl rfl rfl [0, 1, 2, 3, 4, 5] [] [0, 1] rfl rfl rfl (by decide) (by decide) (by decide) (by rw [hT]; rfl) rfl (Nat.le_of_ble_eq_true rfl) dX1_row_16 (fun r u hp => ?_)
        obtain rfl := hp
        show Go K 0 0 (wM d dz h ad e up w on sg nd) [(0, .ref h), (1, .int (nI s)), (2, .int (nI be.toNat)), (3, .int (oI (pd_la s v))), (4, .int (nI v))] 19 [.int (nI ((s.testBit v).toNat))]
        refine g_if_eq (P := ¬ (s.testBit v) = true) X 59 dX1_row_19 (by decide) (pn_bz _) (fun c19 => ?_) (fun c19 => ?_)
        · rw [← pd_la_n c19]
          refine g_iinc (v := (nI (v + 1))) (L' := [(4, .int (nI (v + 1))), (0, .ref h), (1, .int (nI s)), (2, .int (nI be.toNat)), (3, .int (oI (pd_la s (v + 1))))]) X dX1_row_59 4 rfl (pn_inc _) (by decide) rfl ?_
          refine g_goto X 5 dX1_row_62 (by decide) ?_
          refine g_loc (L' := [(0, .ref h), (1, .int (nI s)), (2, .int (nI be.toNat)), (3, .int (oI (pd_la s (v + 1)))), (4, .int (nI (v + 1)))]) [1, 2, 3, 4, 0] rfl ?_
          exact ih5 (v + 1) (by omega) (pd_ro_n hr c19) (by omega)
        · have c19 := Decidable.not_not.mp c19
          refine g_iload_n X dX1_row_22 3 rfl rfl ?_
          refine g_if_lt (P := pd_la s v = none) X 56 dX1_row_23 (by decide) (pn_oneg (fun k hk => by have := (pd_la_some hk).1; omega)) (fun c23 => ?_) (fun c23 => ?_)
          · refine g_iload X dX1_row_56 4 rfl ?_
            refine g_istore_n (L' := [(3, .int (nI v)), (0, .ref h), (1, .int (nI s)), (2, .int (nI be.toNat)), (4, .int (nI v))]) X dX1_row_58 rfl (by decide) rfl ?_
            refine g_iinc (v := (nI (v + 1))) (L' := [(4, .int (nI (v + 1))), (3, .int (nI v)), (0, .ref h), (1, .int (nI s)), (2, .int (nI be.toNat))]) X dX1_row_59 4 rfl (pn_inc _) (by decide) rfl ?_
            refine g_goto X 5 dX1_row_62 (by decide) ?_
            refine g_eq (L' := [(4, .int (nI (v + 1))), (3, .int (oI (pd_la s (v + 1)))), (0, .ref h), (1, .int (nI s)), (2, .int (nI be.toNat))]) rfl (by first | (rw [pd_la_y c19]; done) | (rw [pd_la_y c19]; rfl)) rfl rfl ?_
            refine g_loc (L' := [(0, .ref h), (1, .int (nI s)), (2, .int (nI be.toNat)), (3, .int (oI (pd_la s (v + 1)))), (4, .int (nI (v + 1)))]) [2, 3, 4, 1, 0] rfl ?_
            exact ih5 (v + 1) (by omega) (pd_ro_0 hr c23) (by omega)
          · obtain ⟨u0, hu⟩ : ∃ u, pd_la s v = some u := Option.isSome_iff_exists.mp (by cases hq : pd_la s v with | none => exact absurd hq c23 | some u => rfl)
            have hu0 := (pd_la_some hu).1
            have hTl : pd_T be e u0 < 1024 := pd_T_lt hE u0 (by omega)
            rw [hu]
            show Go K 0 0 (wM d dz h ad e up w on sg nd) [(0, .ref h), (1, .int (nI s)), (2, .int (nI be.toNat)), (3, .int (nI u0)), (4, .int (nI v))] 26 []
            refine g_aload_n X dX1_row_26 0 rfl rfl ?_
            refine g_iload_n X dX1_row_27 2 rfl rfl ?_
            refine g_if_eq (P := ¬ be = true) X 40 dX1_row_28 (by decide) (pn_bz _) (fun c28 => ?_) (fun c28 => ?_)
            · have hTu : pd_T be e u0 = pd_up e u0 := if_neg c28
              refine g_aload_n X dX1_row_40 0 rfl rfl ?_
              refine g_get X in_X1 0 rfl rfl 1 (by decide) q176 rfl dX1_row_41 ?_
              refine g_iload_n X dX1_row_44 3 rfl rfl ?_
              refine g_iald (v := (nI (pd_T be e u0))) X 2 0 rfl t0 (by omega) (by decide) (congrArg nI ((hh u0 (by omega)).trans hTu.symm)) dX1_row_45 ?_
              refine g_iload X dX1_row_46 4 rfl ?_
              refine g_callV (st := []) (ci := 1) (q := (RX1, TX1, 6)) (wr := []) X (mM_has _ _ d dz h ad e up w on sg nd (pd_T be e u0) v (by omega) (by omega)) (lw_V q219 q221 qs12 q21 q222) 2 (by decide +kernel) (by decide) (by decide) rfl rfl rfl [0, 1, 2, 3, 4, 5] [] [0, 1] rfl rfl rfl (by decide) (by decide) (by decide) (by rw [hT]; rfl) rfl (Nat.le_of_ble_eq_true rfl) dX1_row_48 (fun r u hp => ?_)
              obtain rfl := hp
              show Go K 0 0 (wM d dz h ad e up w on sg nd) [(0, .ref h), (1, .int (nI s)), (2, .int (nI be.toNat)), (3, .int (nI u0)), (4, .int (nI v))] 51 [.int (nI (((pd_T be e u0).testBit v).toNat))]
              refine g_if_ne (P := ¬ ((pd_T be e u0).testBit v) = true) X 56 dX1_row_51 (by decide) (pn_bz _) (fun c51 => ?_) (fun c51 => ?_)
              · refine g_iload X dX1_row_56 4 rfl ?_
                refine g_istore_n (L' := [(3, .int (nI v)), (0, .ref h), (1, .int (nI s)), (2, .int (nI be.toNat)), (4, .int (nI v))]) X dX1_row_58 rfl (by decide) rfl ?_
                refine g_iinc (v := (nI (v + 1))) (L' := [(4, .int (nI (v + 1))), (3, .int (nI v)), (0, .ref h), (1, .int (nI s)), (2, .int (nI be.toNat))]) X dX1_row_59 4 rfl (pn_inc _) (by decide) rfl ?_
                refine g_goto X 5 dX1_row_62 (by decide) ?_
                refine g_eq (L' := [(4, .int (nI (v + 1))), (3, .int (oI (pd_la s (v + 1)))), (0, .ref h), (1, .int (nI s)), (2, .int (nI be.toNat))]) rfl (by first | (rw [pd_la_y c19]; done) | (rw [pd_la_y c19]; rfl)) rfl rfl ?_
                refine g_loc (L' := [(0, .ref h), (1, .int (nI s)), (2, .int (nI be.toNat)), (3, .int (oI (pd_la s (v + 1)))), (4, .int (nI (v + 1)))]) [2, 3, 4, 1, 0] rfl ?_
                exact ih5 (v + 1) (by omega) (pd_ro_y hr hu (Decidable.not_not.mp c51)) (by omega)
              · refine g_iconst (v := (nI 0)) X dX1_row_54 (by decide) ?_
                exact R () (nI 0) _ _ (by rw [pd_ro_bad (by omega) c19 hu c51]; rfl) rfl dX1_row_55
            · have hTu : pd_T be e u0 = e u0 := if_pos (Decidable.not_not.mp c28)
              refine g_aload_n X dX1_row_31 0 rfl rfl ?_
              refine g_get X in_X1 0 rfl rfl 0 (by decide) q175 rfl dX1_row_32 ?_
              refine g_iload_n X dX1_row_35 3 rfl rfl ?_
              refine g_iald (v := (nI (pd_T be e u0))) X 1 0 rfl t0 (by omega) (by decide) (congrArg nI hTu.symm) dX1_row_36 ?_
              refine g_goto X 46 dX1_row_37 (by decide) ?_
              refine g_iload X dX1_row_46 4 rfl ?_
              refine g_callV (st := []) (ci := 1) (q := (RX1, TX1, 6)) (wr := []) X (mM_has _ _ d dz h ad e up w on sg nd (pd_T be e u0) v (by omega) (by omega)) (lw_V q219 q221 qs12 q21 q222) 2 (by decide +kernel) (by decide) (by decide) rfl rfl rfl [0, 1, 2, 3, 4, 5] [] [0, 1] rfl rfl rfl (by decide) (by decide) (by decide) (by rw [hT]; rfl) rfl (Nat.le_of_ble_eq_true rfl) dX1_row_48 (fun r u hp => ?_)
              obtain rfl := hp
              show Go K 0 0 (wM d dz h ad e up w on sg nd) [(0, .ref h), (1, .int (nI s)), (2, .int (nI be.toNat)), (3, .int (nI u0)), (4, .int (nI v))] 51 [.int (nI (((pd_T be e u0).testBit v).toNat))]
              refine g_if_ne (P := ¬ ((pd_T be e u0).testBit v) = true) X 56 dX1_row_51 (by decide) (pn_bz _) (fun c51 => ?_) (fun c51 => ?_)
              · refine g_iload X dX1_row_56 4 rfl ?_
                refine g_istore_n (L' := [(3, .int (nI v)), (0, .ref h), (1, .int (nI s)), (2, .int (nI be.toNat)), (4, .int (nI v))]) X dX1_row_58 rfl (by decide) rfl ?_
                refine g_iinc (v := (nI (v + 1))) (L' := [(4, .int (nI (v + 1))), (3, .int (nI v)), (0, .ref h), (1, .int (nI s)), (2, .int (nI be.toNat))]) X dX1_row_59 4 rfl (pn_inc _) (by decide) rfl ?_
                refine g_goto X 5 dX1_row_62 (by decide) ?_
                refine g_eq (L' := [(4, .int (nI (v + 1))), (3, .int (oI (pd_la s (v + 1)))), (0, .ref h), (1, .int (nI s)), (2, .int (nI be.toNat))]) rfl (by first | (rw [pd_la_y c19]; done) | (rw [pd_la_y c19]; rfl)) rfl rfl ?_
                refine g_loc (L' := [(0, .ref h), (1, .int (nI s)), (2, .int (nI be.toNat)), (3, .int (oI (pd_la s (v + 1)))), (4, .int (nI (v + 1)))]) [2, 3, 4, 1, 0] rfl ?_
                exact ih5 (v + 1) (by omega) (pd_ro_y hr hu (Decidable.not_not.mp c51)) (by omega)
              · refine g_iconst (v := (nI 0)) X dX1_row_54 (by decide) ?_
                exact R () (nI 0) _ _ (by rw [pd_ro_bad (by omega) c19 hu c51]; rfl) rfl dX1_row_55
  refine g_loc (L' := [(0, .ref h), (1, .int (nI s)), (2, .int (nI be.toNat)), (3, .int (oI none)), (4, .int (nI 0))]) [2, 3, 4, 1, 0] rfl ?_
  exact lp5 _ 0 (by omega) rfl (Nat.lt_succ_self _)

set_option maxHeartbeats 4000000 in
set_option maxRecDepth 100000 in
/-- anti(s) -/
theorem mM_anti (l : Launch) (D : va_G) (d dz : ClassId) (h : Nat) (ad : Nat → Nat) (e up w : Nat → Nat) (on : Nat) (sg nd : Nat → Nat) (hh : ∀ v, v < 10 → up v = pd_up e v) (s : Nat) (hs : s < 1024) : MI l yX1_anti cX1_anti 3 .boolean 1 22 D [(d, .int), (dz, .boolean)] [.ref h, .int (nI s)] (wM d dz h ad e up w on sg nd) (fun _ : Unit => (wM d dz h ad e up w on sg nd)) (fun r _ => r = nI (pd_anB (pd_up e) on s).toNat) := by
  refine MI_of (by decide) (Nat.le_of_ble_eq_true rfl) ?_
  intro K hl hD hT X R
  subst hl; subst hD
  have X : Cx K cX1_anti RX1 (some .boolean) 3 ({ frames := 1, cells := 0, slots := 0, locals := 22 }) := X
  have t0 : (kT K)[0]? = some (d, .int) := by rw [hT]; rfl
  have t1 : (kT K)[1]? = some (dz, .boolean) := by rw [hT]; rfl
  show Go K 0 0 (wM d dz h ad e up w on sg nd) [(0, .ref h), (1, .int (nI s))] 0 []
  refine g_iload_n X dX1_anti_0 1 rfl rfl ?_
  refine g_aload_n X dX1_anti_1 0 rfl rfl ?_
  refine g_get X in_X1 0 rfl rfl 3 (by decide) q178 rfl dX1_anti_2 ?_
  refine g_iconst (v := (-1)) X dX1_anti_5 (by decide) ?_
  refine g_ixor (v := (nI on ^^^ (-1))) X dX1_anti_6 rfl ?_
  refine g_iand (v := (nI (pd_df s on))) X dX1_anti_7 (pn_df _ _) ?_
  refine g_if_eq (P := pd_df s on = 0) X 13 dX1_anti_8 (by decide) (pn_z (by have := pd_df_le s on; omega)) (fun c8 => ?_) (fun c8 => ?_)
  · refine g_iconst (v := (nI 0)) X dX1_anti_13 (by decide) ?_
    refine g_istore_n (L' := [(2, .int (nI 0)), (0, .ref h), (1, .int (nI s))]) X dX1_anti_14 rfl (by decide) rfl ?_
    have lp15 : ∀ (n : Nat) (v : Nat), (v ≤ 10) → (pd_al (pd_aq (pd_up e) s) v = true) → 10 - v < n → Go K 0 0 (wM d dz h ad e up w on sg nd) [(0, .ref h), (1, .int (nI s)), (2, .int (nI v))] 15 [] := by
      intro n
      induction n with
      | zero => intro v hv ha hm; exact absurd hm (Nat.not_lt_zero _)
      | succ n ih15 =>
        intro v hv ha hm
        refine g_iload_n X dX1_anti_15 2 rfl rfl ?_
        refine g_bipush (v := (nI 10)) X dX1_anti_16 (by decide) ?_
        refine g_icmp_ge (P := 10 ≤ v) X 49 dX1_anti_18 (by decide) (nI_leI (by omega) (by omega)) (fun c18 => ?_) (fun c18 => ?_)
        · refine g_iconst (v := (nI 1)) X dX1_anti_49 (by decide) ?_
          exact R () (nI 1) _ _ (by rw [pd_anB_y c8 (by rw [show v = 10 by omega] at ha; exact ha)]; rfl) rfl dX1_anti_50
        · refine g_aload_n X dX1_anti_21 0 rfl rfl ?_
          refine g_iload_n X dX1_anti_22 1 rfl rfl ?_
          refine g_iload_n X dX1_anti_23 2 rfl rfl ?_
          refine g_callV (st := []) (ci := 1) (q := (RX1, TX1, 6)) (wr := []) X (mM_has _ _ d dz h ad e up w on sg nd s v (by omega) (by omega)) (lw_V q219 q221 qs12 q21 q222) 2 (by decide +kernel) (by decide) (by decide) rfl rfl rfl [0, 1, 2, 3, 4, 5] [] [0, 1] rfl rfl rfl (by decide) (by decide) (by decide) (by rw [hT]; rfl) rfl (Nat.le_of_ble_eq_true rfl) dX1_anti_24 (fun r u hp => ?_)
          obtain rfl := hp
          show Go K 0 0 (wM d dz h ad e up w on sg nd) [(0, .ref h), (1, .int (nI s)), (2, .int (nI v))] 27 [.int (nI ((s.testBit v).toNat))]
          refine g_if_eq (P := ¬ (s.testBit v) = true) X 43 dX1_anti_27 (by decide) (pn_bz _) (fun c27 => ?_) (fun c27 => ?_)
          · refine g_iinc (v := (nI (v + 1))) (L' := [(2, .int (nI (v + 1))), (0, .ref h), (1, .int (nI s))]) X dX1_anti_43 2 rfl (pn_inc _) (by decide) rfl ?_
            refine g_goto X 15 dX1_anti_46 (by decide) ?_
            refine g_loc (L' := [(0, .ref h), (1, .int (nI s)), (2, .int (nI (v + 1)))]) [1, 2, 0] rfl ?_
            exact ih15 (v + 1) (by omega) (pd_al_s ha (pd_aq_1 c27)) (by omega)
          · have c27 := Decidable.not_not.mp c27
            refine g_aload_n X dX1_anti_30 0 rfl rfl ?_
            refine g_get X in_X1 0 rfl rfl 1 (by decide) q176 rfl dX1_anti_31 ?_
            refine g_iload_n X dX1_anti_34 2 rfl rfl ?_
            refine g_iald (v := (nI (pd_up e v))) X 2 0 rfl t0 (by omega) (by decide) (congrArg nI (hh v (by omega))) dX1_anti_35 ?_
            refine g_iload_n X dX1_anti_36 1 rfl rfl ?_
            refine g_iand (v := (nI ((pd_up e v) &&& s))) X dX1_anti_37 (pn_and _ _) ?_
            refine g_if_eq (P := (pd_up e v) &&& s = 0) X 43 dX1_anti_38 (by decide) (pn_z (by have : pd_up e v &&& s ≤ s := Nat.and_le_right; omega)) (fun c38 => ?_) (fun c38 => ?_)
            · refine g_iinc (v := (nI (v + 1))) (L' := [(2, .int (nI (v + 1))), (0, .ref h), (1, .int (nI s))]) X dX1_anti_43 2 rfl (pn_inc _) (by decide) rfl ?_
              refine g_goto X 15 dX1_anti_46 (by decide) ?_
              refine g_loc (L' := [(0, .ref h), (1, .int (nI s)), (2, .int (nI (v + 1)))]) [1, 2, 0] rfl ?_
              exact ih15 (v + 1) (by omega) (pd_al_s ha (pd_aq_2 c38)) (by omega)
            · refine g_iconst (v := (nI 0)) X dX1_anti_41 (by decide) ?_
              exact R () (nI 0) _ _ (by rw [pd_anB_n (by omega) c27 c38]; rfl) rfl dX1_anti_42
    refine g_loc (L' := [(0, .ref h), (1, .int (nI s)), (2, .int (nI 0))]) [1, 2, 0] rfl ?_
    exact lp15 _ 0 (by omega) rfl (Nat.lt_succ_self _)
  · refine g_iconst (v := (nI 0)) X dX1_anti_11 (by decide) ?_
    exact R () (nI 0) _ _ (by rw [pd_anB_f c8]; rfl) rfl dX1_anti_12

set_option maxHeartbeats 4000000 in
set_option maxRecDepth 100000 in
/-- chain(s) -/
theorem mM_chain (l : Launch) (D : va_G) (d dz : ClassId) (h : Nat) (ad : Nat → Nat) (e up w : Nat → Nat) (on : Nat) (sg nd : Nat → Nat) (hE : pd_Ed e) (hh : ∀ v, v < 10 → up v = pd_up e v) (s : Nat) (hs : s < 1024) : MI l yX1_chain cX1_chain 2 .boolean 2 46 D [(d, .int), (dz, .boolean)] [.ref h, .int (nI s)] (wM d dz h ad e up w on sg nd) (fun _ : Unit => (wM d dz h ad e up w on sg nd)) (fun r _ => r = nI (pd_cB (pd_up e) on s).toNat) := by
  refine MI_of (by decide) (Nat.le_of_ble_eq_true rfl) ?_
  intro K hl hD hT X R
  subst hl; subst hD
  have X : Cx K cX1_chain RX1 (some .boolean) 2 ({ frames := 2, cells := 0, slots := 0, locals := 46 }) := X
  have t0 : (kT K)[0]? = some (d, .int) := by rw [hT]; rfl
  have t1 : (kT K)[1]? = some (dz, .boolean) := by rw [hT]; rfl
  show Go K 0 0 (wM d dz h ad e up w on sg nd) [(0, .ref h), (1, .int (nI s))] 0 []
  refine g_iload_n X dX1_chain_0 1 rfl rfl ?_
  refine g_aload_n X dX1_chain_1 0 rfl rfl ?_
  refine g_get X in_X1 0 rfl rfl 3 (by decide) q178 rfl dX1_chain_2 ?_
  refine g_iconst (v := (-1)) X dX1_chain_5 (by decide) ?_
  refine g_ixor (v := (nI on ^^^ (-1))) X dX1_chain_6 rfl ?_
  refine g_iand (v := (nI (pd_df s on))) X dX1_chain_7 (pn_df _ _) ?_
  refine g_if_ne (P := pd_df s on = 0) X 24 dX1_chain_8 (by decide) (pn_z (by have := pd_df_le s on; omega)) (fun c8 => ?_) (fun c8 => ?_)
  · refine g_iconst (v := (nI 0)) X dX1_chain_24 (by decide) ?_
    exact R () (nI 0) _ _ (by unfold pd_cB; rw [decide_eq_false c8]; rfl) rfl dX1_chain_25
  · refine g_aload_n X dX1_chain_11 0 rfl rfl ?_
    refine g_iload_n X dX1_chain_12 1 rfl rfl ?_
    refine g_iconst (v := (nI false.toNat)) X dX1_chain_13 (by decide) ?_
    refine g_callV (st := []) (ci := 1) (q := (RX1, TX1, 6)) (wr := []) X (mM_row _ _ d dz h ad e up w on sg nd hE hh s hs false) (lw_V q231 q233 qs14 q21 q234) 2 (by decide +kernel) (by decide) (by decide) rfl rfl rfl [0, 1, 2, 3, 4, 5] [] [0, 1] rfl rfl rfl (by decide) (by decide) (by decide) (by rw [hT]; rfl) rfl (Nat.le_of_ble_eq_true rfl) dX1_chain_14 (fun r u hp => ?_)
    have hp : r = nI (pd_ro (pd_up e) s 10).toNat := hp
    subst hp
    show Go K 0 0 (wM d dz h ad e up w on sg nd) [(0, .ref h), (1, .int (nI s))] 17 [.int (nI ((pd_ro (pd_up e) s 10).toNat))]
    refine g_if_eq (P := ¬ (pd_ro (pd_up e) s 10) = true) X 24 dX1_chain_17 (by decide) (pn_bz _) (fun c17 => ?_) (fun c17 => ?_)
    · refine g_iconst (v := (nI 0)) X dX1_chain_24 (by decide) ?_
      exact R () (nI 0) _ _ (by unfold pd_cB; rw [pd_nb c17, Bool.and_false]; rfl) rfl dX1_chain_25
    · refine g_iconst (v := (nI 1)) X dX1_chain_20 (by decide) ?_
      refine g_goto X 25 dX1_chain_21 (by decide) ?_
      exact R () (nI 1) _ _ (by unfold pd_cB; rw [Decidable.not_not.mp c17, decide_eq_true c8]; rfl) rfl dX1_chain_25
end
section
/-! WALK 42: PathCoverDagModel, edge, turn, weight, above, fewest, chains, paths -/

set_option maxHeartbeats 4000000 in
set_option maxRecDepth 100000 in
/-- edge(a, b, there) -/
theorem mM_edge (l : Launch) (D : va_G) (d dz : ClassId) (h : Nat) (ad : Nat → Nat) (e up w : Nat → Nat) (on : Nat) (sg nd : Nat → Nat) (hE : pd_Ed e) (a b : Int32) (t : Bool) : MI l yX1_edge cX1_edge 5 .int 0 0 D [(d, .int), (dz, .boolean)] [.ref h, .int a, .int b, .int (nI t.toNat)] (wM d dz h ad e up w on sg nd) (fun u : Nat → Nat => (wM d dz h ad u up w on sg nd)) (fun r u => pd_eg e a b t r u) := by
  refine MI_of (by decide) (Nat.le_of_ble_eq_true rfl) ?_
  intro K hl hD hT X R
  subst hl; subst hD
  have X : Cx K cX1_edge RX1 (some .int) 5 ({ frames := 0, cells := 0, slots := 0, locals := 0 }) := X
  have t0 : (kT K)[0]? = some (d, .int) := by rw [hT]; rfl
  have t1 : (kT K)[1]? = some (dz, .boolean) := by rw [hT]; rfl
  show Go K 0 0 (wM d dz h ad e up w on sg nd) [(0, .ref h), (1, .int a), (2, .int b), (3, .int (nI t.toNat))] 0 []
  refine g_iload_n X dX1_edge_0 1 rfl rfl ?_
  refine g_if_lt (P := a < 0) X 15 dX1_edge_1 (by decide) Iff.rfl (fun c1 => ?_) (fun c1 => ?_)
  · refine g_iconst (v := (-1)) X dX1_edge_15 (by decide) ?_
    exact R e (-1) _ _ (Or.inl ⟨Or.inl c1, rfl, rfl⟩) rfl dX1_edge_16
  · refine g_iload_n X dX1_edge_4 2 rfl rfl ?_
    refine g_bipush (v := 9) X dX1_edge_5 (by decide) ?_
    refine g_icmp_gt (P := 10 ≤ b) X 15 dX1_edge_7 (by decide) (pn_gt9 _) (fun c7 => ?_) (fun c7 => ?_)
    · refine g_iconst (v := (-1)) X dX1_edge_15 (by decide) ?_
      exact R e (-1) _ _ (Or.inl ⟨Or.inr (Or.inr c7), rfl, rfl⟩) rfl dX1_edge_16
    · refine g_iload_n X dX1_edge_10 1 rfl rfl ?_
      refine g_iload_n X dX1_edge_11 2 rfl rfl ?_
      refine g_icmp_lt (P := ¬ b ≤ a) X 17 dX1_edge_12 (by decide) (pn_nle _ _) (fun c12 => ?_) (fun c12 => ?_)
      · obtain ⟨i, j, hij, hj, rfl, rfl⟩ := pd_eg_in c1 c12 c7
        have hei : e i < 1024 := pd_Ed_lt hE (by omega)
        refine g_aload_n X dX1_edge_17 0 rfl rfl ?_
        refine g_get X in_X1 0 rfl rfl 0 (by decide) q175 rfl dX1_edge_18 ?_
        refine g_iload_n X dX1_edge_21 1 rfl rfl ?_
        refine g_iald (v := (nI (e i))) X 1 0 rfl t0 (by omega) (by decide) rfl dX1_edge_22 ?_
        refine g_iload_n X dX1_edge_23 2 rfl rfl ?_
        refine g_ishr (v := (nI ((e i) >>> j))) X dX1_edge_24 (pn_shr (by omega) (by omega)) ?_
        refine g_iconst (v := (nI 1)) X dX1_edge_25 (by decide) ?_
        refine g_iand (v := (nI (((e i) >>> j) &&& 1))) X dX1_edge_26 (pn_and _ _) ?_
        refine g_istore (L' := [(4, .int (nI (((e i) >>> j) &&& 1))), (0, .ref h), (1, .int (nI i)), (2, .int (nI j)), (3, .int (nI t.toNat))]) X dX1_edge_27 (by decide) rfl ?_
        refine g_aload_n X dX1_edge_29 1 rfl rfl ?_
        refine g_get X in_X1 0 rfl rfl 0 (by decide) q175 rfl dX1_edge_30 ?_
        refine g_iload_n X dX1_edge_33 2 rfl rfl ?_
        refine g_iload_n X dX1_edge_34 4 rfl rfl ?_
        refine g_if_eq (P := ¬ t = true) X 51 dX1_edge_35 (by decide) (pn_bz _) (fun c35 => ?_) (fun c35 => ?_)
        · refine g_aload_n X dX1_edge_51 1 rfl rfl ?_
          refine g_get X in_X1 0 rfl rfl 0 (by decide) q175 rfl dX1_edge_52 ?_
          refine g_iload_n X dX1_edge_55 2 rfl rfl ?_
          refine g_iald (v := (nI (e i))) X 1 0 rfl t0 (by omega) (by decide) rfl dX1_edge_56 ?_
          refine g_iconst (v := (nI 1)) X dX1_edge_57 (by decide) ?_
          refine g_iload_n X dX1_edge_58 3 rfl rfl ?_
          refine g_ishl (v := (nI (2 ^ j))) X dX1_edge_59 (pn_shl (by omega)) ?_
          refine g_iconst (v := (-1)) X dX1_edge_60 (by decide) ?_
          refine g_ixor (v := (nI (2 ^ j) ^^^ (-1))) X dX1_edge_61 rfl ?_
          refine g_iand (v := (nI (pd_df (e i) (2 ^ j)))) X dX1_edge_62 (pn_df _ _) ?_
          refine g_iast (ws' := (wM d dz h ad (pd_st e i (pd_df (e i) (2 ^ j))) up w on sg nd)) X 1 0 rfl t0 (by omega) (by decide) (nF_st _ _ _) rfl dX1_edge_63 ?_
          refine g_iload X dX1_edge_64 0 rfl ?_
          exact R (pd_st e i (pd_df (e i) (2 ^ j))) (nI (((e i) >>> j) &&& 1)) _ _ (Or.inr ⟨i, j, hij, hj, rfl, rfl, rfl, by rw [if_neg c35]⟩) rfl dX1_edge_66
        · refine g_aload_n X dX1_edge_38 1 rfl rfl ?_
          refine g_get X in_X1 0 rfl rfl 0 (by decide) q175 rfl dX1_edge_39 ?_
          refine g_iload_n X dX1_edge_42 2 rfl rfl ?_
          refine g_iald (v := (nI (e i))) X 1 0 rfl t0 (by omega) (by decide) rfl dX1_edge_43 ?_
          refine g_iconst (v := (nI 1)) X dX1_edge_44 (by decide) ?_
          refine g_iload_n X dX1_edge_45 3 rfl rfl ?_
          refine g_ishl (v := (nI (2 ^ j))) X dX1_edge_46 (pn_shl (by omega)) ?_
          refine g_ior (v := (nI ((e i) ||| (2 ^ j)))) X dX1_edge_47 (pn_or _ _) ?_
          refine g_goto X 63 dX1_edge_48 (by decide) ?_
          refine g_iast (ws' := (wM d dz h ad (pd_st e i ((e i) ||| (2 ^ j))) up w on sg nd)) X 1 0 rfl t0 (by omega) (by decide) (nF_st _ _ _) rfl dX1_edge_63 ?_
          refine g_iload X dX1_edge_64 0 rfl ?_
          exact R (pd_st e i ((e i) ||| (2 ^ j))) (nI (((e i) >>> j) &&& 1)) _ _ (Or.inr ⟨i, j, hij, hj, rfl, rfl, rfl, by rw [if_pos (Decidable.not_not.mp c35)]⟩) rfl dX1_edge_66
      · refine g_iconst (v := (-1)) X dX1_edge_15 (by decide) ?_
        exact R e (-1) _ _ (Or.inl ⟨Or.inr (Or.inl (Decidable.not_not.mp c12)), rfl, rfl⟩) rfl dX1_edge_16

set_option maxHeartbeats 4000000 in
set_option maxRecDepth 100000 in
/-- turn(v, on) -/
theorem mM_turn (l : Launch) (D : va_G) (d dz : ClassId) (h : Nat) (ad : Nat → Nat) (e up w : Nat → Nat) (on : Nat) (sg nd : Nat → Nat) (hon : on < 1024) (v : Int32) (t : Bool) : MI l yX1_turn cX1_turn 4 .int 1 21 D [(d, .int), (dz, .boolean)] [.ref h, .int v, .int (nI t.toNat)] (wM d dz h ad e up w on sg nd) (fun u : Nat => (wM d dz h ad e up w u sg nd)) (fun r u => pd_tu on v t r u) := by
  refine MI_of (by decide) (Nat.le_of_ble_eq_true rfl) ?_
  intro K hl hD hT X R
  subst hl; subst hD
  have X : Cx K cX1_turn RX1 (some .int) 4 ({ frames := 1, cells := 0, slots := 0, locals := 21 }) := X
  have t0 : (kT K)[0]? = some (d, .int) := by rw [hT]; rfl
  have t1 : (kT K)[1]? = some (dz, .boolean) := by rw [hT]; rfl
  show Go K 0 0 (wM d dz h ad e up w on sg nd) [(0, .ref h), (1, .int v), (2, .int (nI t.toNat))] 0 []
  refine g_aload_n X dX1_turn_0 0 rfl rfl ?_
  refine g_iload_n X dX1_turn_1 1 rfl rfl ?_
  refine g_callV (st := []) (ci := 1) (q := (RX1, TX1, 6)) (wr := []) X (mM_bad _ _ d dz h ad e up w on sg nd v) (lw_V q203 q205 qs10 q21 q206) 1 (by decide +kernel) (by decide) (by decide) rfl rfl rfl [0, 1, 2, 3, 4, 5] [] [0, 1] rfl rfl rfl (by decide) (by decide) (by decide) (by rw [hT]; rfl) rfl (Nat.le_of_ble_eq_true rfl) dX1_turn_2 (fun r u hp => ?_)
  obtain rfl := hp
  show Go K 0 0 (wM d dz h ad e up w on sg nd) [(0, .ref h), (1, .int v), (2, .int (nI t.toNat))] 5 [.int (nI ((decide (v < 0 ∨ 10 ≤ v)).toNat))]
  refine g_if_eq (P := ¬ (decide (v < 0 ∨ 10 ≤ v)) = true) X 10 dX1_turn_5 (by decide) (pn_bz _) (fun c5 => ?_) (fun c5 => ?_)
  · obtain ⟨i, hi9, rfl⟩ := pd_v_in (fun z => c5 (decide_eq_true (Or.inl z))) (fun z => c5 (decide_eq_true (Or.inr z)))
    refine g_aload_n X dX1_turn_10 0 rfl rfl ?_
    refine g_get X in_X1 0 rfl rfl 3 (by decide) q178 rfl dX1_turn_11 ?_
    refine g_iload_n X dX1_turn_14 1 rfl rfl ?_
    refine g_ishr (v := (nI (on >>> i))) X dX1_turn_15 (pn_shr (by omega) (by omega)) ?_
    refine g_iconst (v := (nI 1)) X dX1_turn_16 (by decide) ?_
    refine g_iand (v := (nI ((on >>> i) &&& 1))) X dX1_turn_17 (pn_and _ _) ?_
    refine g_istore_n (L' := [(3, .int (nI ((on >>> i) &&& 1))), (0, .ref h), (1, .int (nI i)), (2, .int (nI t.toNat))]) X dX1_turn_18 rfl (by decide) rfl ?_
    refine g_aload_n X dX1_turn_19 1 rfl rfl ?_
    refine g_iload_n X dX1_turn_20 3 rfl rfl ?_
    refine g_if_eq (P := ¬ t = true) X 35 dX1_turn_21 (by decide) (pn_bz _) (fun c21 => ?_) (fun c21 => ?_)
    · refine g_aload_n X dX1_turn_35 1 rfl rfl ?_
      refine g_get X in_X1 0 rfl rfl 3 (by decide) q178 rfl dX1_turn_36 ?_
      refine g_iconst (v := (nI 1)) X dX1_turn_39 (by decide) ?_
      refine g_iload_n X dX1_turn_40 2 rfl rfl ?_
      refine g_ishl (v := (nI (2 ^ i))) X dX1_turn_41 (pn_shl (by omega)) ?_
      refine g_iconst (v := (-1)) X dX1_turn_42 (by decide) ?_
      refine g_ixor (v := (nI (2 ^ i) ^^^ (-1))) X dX1_turn_43 rfl ?_
      refine g_iand (v := (nI (pd_df on (2 ^ i)))) X dX1_turn_44 (pn_df _ _) ?_
      refine g_put (ty := .int) (ws' := (wM d dz h ad e up w (pd_df on (2 ^ i)) sg nd)) X in_X1 tyX1 tyX1_ok nmX1 0 rfl rfl 3 (by decide) q178 rfl (by decide +kernel) rfl rfl (Nat.le_of_ble_eq_true rfl) rfl dX1_turn_45 ?_
      refine g_iload_n X dX1_turn_48 0 rfl rfl ?_
      exact R (pd_df on (2 ^ i)) (nI ((on >>> i) &&& 1)) _ _ (Or.inr ⟨i, hi9, rfl, rfl, by rw [if_neg c21]⟩) rfl dX1_turn_49
    · refine g_aload_n X dX1_turn_24 1 rfl rfl ?_
      refine g_get X in_X1 0 rfl rfl 3 (by decide) q178 rfl dX1_turn_25 ?_
      refine g_iconst (v := (nI 1)) X dX1_turn_28 (by decide) ?_
      refine g_iload_n X dX1_turn_29 2 rfl rfl ?_
      refine g_ishl (v := (nI (2 ^ i))) X dX1_turn_30 (pn_shl (by omega)) ?_
      refine g_ior (v := (nI (on ||| (2 ^ i)))) X dX1_turn_31 (pn_or _ _) ?_
      refine g_goto X 45 dX1_turn_32 (by decide) ?_
      refine g_put (ty := .int) (ws' := (wM d dz h ad e up w (on ||| (2 ^ i)) sg nd)) X in_X1 tyX1 tyX1_ok nmX1 0 rfl rfl 3 (by decide) q178 rfl (by decide +kernel) rfl rfl (Nat.le_of_ble_eq_true rfl) rfl dX1_turn_45 ?_
      refine g_iload_n X dX1_turn_48 0 rfl rfl ?_
      exact R (on ||| (2 ^ i)) (nI ((on >>> i) &&& 1)) _ _ (Or.inr ⟨i, hi9, rfl, rfl, by rw [if_pos (Decidable.not_not.mp c21)]⟩) rfl dX1_turn_49
  · refine g_iconst (v := (-1)) X dX1_turn_8 (by decide) ?_
    exact R on (-1) _ _ (Or.inl ⟨of_decide_eq_true (Decidable.not_not.mp c5), rfl, rfl⟩) rfl dX1_turn_9

set_option maxHeartbeats 4000000 in
set_option maxRecDepth 100000 in
/-- weight(v, x) -/
theorem mM_weight (l : Launch) (D : va_G) (d dz : ClassId) (h : Nat) (ad : Nat → Nat) (e up w : Nat → Nat) (on : Nat) (sg nd : Nat → Nat) (v x : Int32) : MI l yX1_weight cX1_weight 4 .int 1 21 D [(d, .int), (dz, .boolean)] [.ref h, .int v, .int x] (wM d dz h ad e up w on sg nd) (fun u : Nat → Nat => (wM d dz h ad e up u on sg nd)) (fun r u => pd_we w v x r u) := by
  refine MI_of (by decide) (Nat.le_of_ble_eq_true rfl) ?_
  intro K hl hD hT X R
  subst hl; subst hD
  have X : Cx K cX1_weight RX1 (some .int) 4 ({ frames := 1, cells := 0, slots := 0, locals := 21 }) := X
  have t0 : (kT K)[0]? = some (d, .int) := by rw [hT]; rfl
  have t1 : (kT K)[1]? = some (dz, .boolean) := by rw [hT]; rfl
  show Go K 0 0 (wM d dz h ad e up w on sg nd) [(0, .ref h), (1, .int v), (2, .int x)] 0 []
  refine g_aload_n X dX1_weight_0 0 rfl rfl ?_
  refine g_iload_n X dX1_weight_1 1 rfl rfl ?_
  refine g_callV (st := []) (ci := 1) (q := (RX1, TX1, 6)) (wr := []) X (mM_bad _ _ d dz h ad e up w on sg nd v) (lw_V q203 q205 qs10 q21 q206) 1 (by decide +kernel) (by decide) (by decide) rfl rfl rfl [0, 1, 2, 3, 4, 5] [] [0, 1] rfl rfl rfl (by decide) (by decide) (by decide) (by rw [hT]; rfl) rfl (Nat.le_of_ble_eq_true rfl) dX1_weight_2 (fun r u hp => ?_)
  obtain rfl := hp
  show Go K 0 0 (wM d dz h ad e up w on sg nd) [(0, .ref h), (1, .int v), (2, .int x)] 5 [.int (nI ((decide (v < 0 ∨ 10 ≤ v)).toNat))]
  refine g_if_eq (P := ¬ (decide (v < 0 ∨ 10 ≤ v)) = true) X 10 dX1_weight_5 (by decide) (pn_bz _) (fun c5 => ?_) (fun c5 => ?_)
  · obtain ⟨i, hi9, rfl⟩ := pd_v_in (fun z => c5 (decide_eq_true (Or.inl z))) (fun z => c5 (decide_eq_true (Or.inr z)))
    refine g_iload_n X dX1_weight_10 2 rfl rfl ?_
    refine g_if_lt (P := x < 0) X 20 dX1_weight_11 (by decide) Iff.rfl (fun c11 => ?_) (fun c11 => ?_)
    · refine g_bipush (v := (-2)) X dX1_weight_20 (by decide) ?_
      exact R w (-2) _ _ (Or.inr (Or.inl ⟨pd_v_ok hi9 rfl, Or.inl c11, rfl, rfl⟩)) rfl dX1_weight_22
    · refine g_iload_n X dX1_weight_14 2 rfl rfl ?_
      refine g_bipush (v := 9) X dX1_weight_15 (by decide) ?_
      refine g_icmp_le (P := ¬ 10 ≤ x) X 23 dX1_weight_17 (by decide) (pn_le9 _) (fun c17 => ?_) (fun c17 => ?_)
      · obtain ⟨k, hk, rfl⟩ := pd_v_in c11 c17
        refine g_aload_n X dX1_weight_23 0 rfl rfl ?_
        refine g_get X in_X1 0 rfl rfl 2 (by decide) q177 rfl dX1_weight_24 ?_
        refine g_iload_n X dX1_weight_27 1 rfl rfl ?_
        refine g_iald (v := (nI (w i))) X 3 0 rfl t0 (by omega) (by decide) rfl dX1_weight_28 ?_
        refine g_istore_n (L' := [(3, .int (nI (w i))), (0, .ref h), (1, .int (nI i)), (2, .int (nI k))]) X dX1_weight_29 rfl (by decide) rfl ?_
        refine g_aload_n X dX1_weight_30 1 rfl rfl ?_
        refine g_get X in_X1 0 rfl rfl 2 (by decide) q177 rfl dX1_weight_31 ?_
        refine g_iload_n X dX1_weight_34 2 rfl rfl ?_
        refine g_iload_n X dX1_weight_35 3 rfl rfl ?_
        refine g_iast (ws' := (wM d dz h ad e up (pd_st w i k) on sg nd)) X 3 0 rfl t0 (by omega) (by decide) (nF_st _ _ _) rfl dX1_weight_36 ?_
        refine g_iload_n X dX1_weight_37 0 rfl rfl ?_
        exact R (pd_st w i k) (nI (w i)) _ _ (Or.inr (Or.inr ⟨i, k, hi9, hk, rfl, rfl, rfl, rfl⟩)) rfl dX1_weight_38
      · refine g_bipush (v := (-2)) X dX1_weight_20 (by decide) ?_
        exact R w (-2) _ _ (Or.inr (Or.inl ⟨pd_v_ok hi9 rfl, Or.inr (Decidable.not_not.mp c17), rfl, rfl⟩)) rfl dX1_weight_22
  · refine g_iconst (v := (-1)) X dX1_weight_8 (by decide) ?_
    exact R w (-1) _ _ (Or.inl ⟨of_decide_eq_true (Decidable.not_not.mp c5), rfl, rfl⟩) rfl dX1_weight_9

set_option maxHeartbeats 4000000 in
set_option maxRecDepth 100000 in
/-- above(a, b) -/
theorem mM_above (l : Launch) (D : va_G) (d dz : ClassId) (h : Nat) (ad : Nat → Nat) (e up w : Nat → Nat) (on : Nat) (sg nd : Nat → Nat) (hE : pd_Ed e) (a b : Int32) : MI l yX1_above cX1_above 3 .boolean 2 44 D [(d, .int), (dz, .boolean)] [.ref h, .int a, .int b] (wM d dz h ad e up w on sg nd) (fun u : Nat → Nat => (wM d dz h ad e u w on sg nd)) (fun r _ => pd_bv (pd_up e) a b r) := by
  refine MI_of (by decide) (Nat.le_of_ble_eq_true rfl) ?_
  intro K hl hD hT X R
  subst hl; subst hD
  have X : Cx K cX1_above RX1 (some .boolean) 3 ({ frames := 2, cells := 0, slots := 0, locals := 44 }) := X
  have t0 : (kT K)[0]? = some (d, .int) := by rw [hT]; rfl
  have t1 : (kT K)[1]? = some (dz, .boolean) := by rw [hT]; rfl
  show Go K 0 0 (wM d dz h ad e up w on sg nd) [(0, .ref h), (1, .int a), (2, .int b)] 0 []
  refine g_aload_n X dX1_above_0 0 rfl rfl ?_
  refine g_iload_n X dX1_above_1 1 rfl rfl ?_
  refine g_callV (st := []) (ci := 1) (q := (RX1, TX1, 6)) (wr := []) X (mM_bad _ _ d dz h ad e up w on sg nd a) (lw_V q203 q205 qs10 q21 q206) 1 (by decide +kernel) (by decide) (by decide) rfl rfl rfl [0, 1, 2, 3, 4, 5] [] [0, 1] rfl rfl rfl (by decide) (by decide) (by decide) (by rw [hT]; rfl) rfl (Nat.le_of_ble_eq_true rfl) dX1_above_2 (fun r u hp => ?_)
  obtain rfl := hp
  show Go K 0 0 (wM d dz h ad e up w on sg nd) [(0, .ref h), (1, .int a), (2, .int b)] 5 [.int (nI ((decide (a < 0 ∨ 10 ≤ a)).toNat))]
  refine g_if_ne (P := ¬ (decide (a < 0 ∨ 10 ≤ a)) = true) X 16 dX1_above_5 (by decide) (pn_bz _) (fun c5 => ?_) (fun c5 => ?_)
  · refine g_iconst (v := (nI 0)) X dX1_above_16 (by decide) ?_
    exact R up (nI 0) _ _ (Or.inl ⟨Or.inl (of_decide_eq_true (Decidable.not_not.mp c5)), rfl⟩) rfl dX1_above_17
  · refine g_aload_n X dX1_above_8 0 rfl rfl ?_
    refine g_iload_n X dX1_above_9 2 rfl rfl ?_
    refine g_callV (st := []) (ci := 1) (q := (RX1, TX1, 6)) (wr := []) X (mM_bad _ _ d dz h ad e up w on sg nd b) (lw_V q203 q205 qs10 q21 q206) 1 (by decide +kernel) (by decide) (by decide) rfl rfl rfl [0, 1, 2, 3, 4, 5] [] [0, 1] rfl rfl rfl (by decide) (by decide) (by decide) (by rw [hT]; rfl) rfl (Nat.le_of_ble_eq_true rfl) dX1_above_10 (fun r u hp => ?_)
    obtain rfl := hp
    show Go K 0 0 (wM d dz h ad e up w on sg nd) [(0, .ref h), (1, .int a), (2, .int b)] 13 [.int (nI ((decide (b < 0 ∨ 10 ≤ b)).toNat))]
    refine g_if_eq (P := ¬ (decide (b < 0 ∨ 10 ≤ b)) = true) X 18 dX1_above_13 (by decide) (pn_bz _) (fun c13 => ?_) (fun c13 => ?_)
    · obtain ⟨i, hi9, rfl⟩ := pd_v_in (fun z => c5 (decide_eq_true (Or.inl z))) (fun z => c5 (decide_eq_true (Or.inr z)))
      obtain ⟨j, hj9, rfl⟩ := pd_v_in (fun z => c13 (decide_eq_true (Or.inl z))) (fun z => c13 (decide_eq_true (Or.inr z)))
      have hup : pd_up e i < 1024 := pd_up_lt hE hi9
      refine g_aload_n X dX1_above_18 0 rfl rfl ?_
      refine g_callVv (st := []) (ci := 1) (q := (RX1, TX1, 6)) (wr := []) X (mM_close _ _ d dz h ad e up w on sg nd hE) (lw_V q215 q217 qs11 q21 q218) 0 (by decide +kernel) (by decide) (by decide) rfl rfl rfl [0, 1, 2, 3, 4, 5] [] [0, 1] rfl rfl rfl (by decide) (by decide) (by decide) (by rw [hT]; rfl) rfl (Nat.le_of_ble_eq_true rfl) dX1_above_19 (fun up1 hh1 => ?_)
      show Go K 0 0 (wM d dz h ad e up1 w on sg nd) [(0, .ref h), (1, .int (nI i)), (2, .int (nI j))] 22 []
      refine g_aload_n X dX1_above_22 0 rfl rfl ?_
      refine g_aload_n X dX1_above_23 0 rfl rfl ?_
      refine g_get X in_X1 0 rfl rfl 1 (by decide) q176 rfl dX1_above_24 ?_
      refine g_iload_n X dX1_above_27 1 rfl rfl ?_
      refine g_iald (v := (nI (pd_up e i))) X 2 0 rfl t0 (by omega) (by decide) (congrArg nI (hh1 i hi9)) dX1_above_28 ?_
      refine g_iload_n X dX1_above_29 2 rfl rfl ?_
      refine g_callV (st := []) (ci := 1) (q := (RX1, TX1, 6)) (wr := []) X (mM_has _ _ d dz h ad e up1 w on sg nd (pd_up e i) j (by omega) (by omega)) (lw_V q219 q221 qs12 q21 q222) 2 (by decide +kernel) (by decide) (by decide) rfl rfl rfl [0, 1, 2, 3, 4, 5] [] [0, 1] rfl rfl rfl (by decide) (by decide) (by decide) (by rw [hT]; rfl) rfl (Nat.le_of_ble_eq_true rfl) dX1_above_30 (fun r u hp => ?_)
      obtain rfl := hp
      show Go K 0 0 (wM d dz h ad e up1 w on sg nd) [(0, .ref h), (1, .int (nI i)), (2, .int (nI j))] 33 [.int (nI (((pd_up e i).testBit j).toNat))]
      exact R up1 (nI (((pd_up e i).testBit j).toNat)) _ _ (Or.inr ⟨i, j, hi9, hj9, rfl, rfl, rfl⟩) (pn_nz _) dX1_above_33
    · refine g_iconst (v := (nI 0)) X dX1_above_16 (by decide) ?_
      exact R up (nI 0) _ _ (Or.inl ⟨Or.inr (of_decide_eq_true (Decidable.not_not.mp c13)), rfl⟩) rfl dX1_above_17

set_option maxHeartbeats 4000000 in
set_option maxRecDepth 100000 in
/-- fewest(byEdges) -/
theorem mM_fewest (l : Launch) (D : va_G) (d dz : ClassId) (h : Nat) (ad : Nat → Nat) (e up w : Nat → Nat) (on : Nat) (sg nd : Nat → Nat) (hE : pd_Ed e) (hon : on < 1024) (be : Bool) : MI l yX1_fewest cX1_fewest 6 .int 2 46 D [(d, .int), (dz, .boolean)] [.ref h, .int (nI be.toNat)] (wM d dz h ad e up w on sg nd) (fun u : SM => (wM d dz h ad e u.1 w on u.2.1 u.2.2)) (fun r u => r = nI (u.2.2 on) ∧ pd_Nd (pd_T be e) u.2.2 1024) := by
  refine MI_of (by decide) (Nat.le_of_ble_eq_true rfl) ?_
  intro K hl hD hT X R
  subst hl; subst hD
  have X : Cx K cX1_fewest RX1 (some .int) 6 ({ frames := 2, cells := 0, slots := 0, locals := 46 }) := X
  have t0 : (kT K)[0]? = some (d, .int) := by rw [hT]; rfl
  have t1 : (kT K)[1]? = some (dz, .boolean) := by rw [hT]; rfl
  show Go K 0 0 (wM d dz h ad e up w on sg nd) [(0, .ref h), (1, .int (nI be.toNat))] 0 []
  refine g_aload_n X dX1_fewest_0 0 rfl rfl ?_
  refine g_callVv (st := []) (ci := 1) (q := (RX1, TX1, 6)) (wr := []) X (mM_close _ _ d dz h ad e up w on sg nd hE) (lw_V q215 q217 qs11 q21 q218) 0 (by decide +kernel) (by decide) (by decide) rfl rfl rfl [0, 1, 2, 3, 4, 5] [] [0, 1] rfl rfl rfl (by decide) (by decide) (by decide) (by rw [hT]; rfl) rfl (Nat.le_of_ble_eq_true rfl) dX1_fewest_1 (fun up1 hh1 => ?_)
  show Go K 0 0 (wM d dz h ad e up1 w on sg nd) [(0, .ref h), (1, .int (nI be.toNat))] 4 []
  refine g_aload_n X dX1_fewest_4 0 rfl rfl ?_
  refine g_get X in_X1 0 rfl rfl 5 (by decide) q180 rfl dX1_fewest_5 ?_
  refine g_iconst (v := (nI 0)) X dX1_fewest_8 (by decide) ?_
  refine g_iconst (v := (nI 0)) X dX1_fewest_9 (by decide) ?_
  refine g_iast (ws' := (wM d dz h ad e up1 w on sg (pd_st nd 0 0))) X 5 0 rfl t0 (by omega) (by decide) (nF_st _ _ _) rfl dX1_fewest_10 ?_
  refine g_iconst (v := (nI 1)) X dX1_fewest_11 (by decide) ?_
  refine g_istore_n (L' := [(2, .int (nI 1)), (0, .ref h), (1, .int (nI be.toNat))]) X dX1_fewest_12 rfl (by decide) rfl ?_
  have lp13 : ∀ (n : Nat) (sg1 : Nat → Nat) (nd1 : Nat → Nat) (k : Nat), (1 ≤ k) → (k ≤ 1024) → (pd_NI (pd_T be e) nd1 sg1 k) → 1024 - k < n → Go K 0 0 (wM d dz h ad e up1 w on sg1 nd1) [(0, .ref h), (1, .int (nI be.toNat)), (2, .int (nI k))] 13 [] := by
    intro n
    induction n with
    | zero => intro sg1 nd1 k hk1 hk hN hm; exact absurd hm (Nat.not_lt_zero _)
    | succ n ih13 =>
      intro sg1 nd1 k hk1 hk hN hm
      refine g_iload_n X dX1_fewest_13 2 rfl rfl ?_
      refine g_sipush (v := (nI 1024)) X dX1_fewest_14 (by decide) ?_
      refine g_icmp_ge (P := 1024 ≤ k) X 124 dX1_fewest_17 (by decide) (nI_leI (by omega) (by omega)) (fun c17 => ?_) (fun c17 => ?_)
      · refine g_aload_n X dX1_fewest_124 0 rfl rfl ?_
        refine g_get X in_X1 0 rfl rfl 5 (by decide) q180 rfl dX1_fewest_125 ?_
        refine g_aload_n X dX1_fewest_128 0 rfl rfl ?_
        refine g_get X in_X1 0 rfl rfl 3 (by decide) q178 rfl dX1_fewest_129 ?_
        refine g_iald (v := (nI (nd1 on))) X 5 0 rfl t0 (by omega) (by decide) rfl dX1_fewest_132 ?_
        exact R (up1, sg1, nd1) (nI (nd1 on)) _ _ ⟨rfl, by have hN := hN.1; rw [show k = 1024 by omega] at hN; exact hN⟩ rfl dX1_fewest_133
      · obtain ⟨b, hb10, hbk, hbl, hlow⟩ := pn_low k (by omega) (by omega)
        refine g_aload_n X dX1_fewest_20 0 rfl rfl ?_
        refine g_get X in_X1 0 rfl rfl 4 (by decide) q179 rfl dX1_fewest_21 ?_
        refine g_iload_n X dX1_fewest_24 2 rfl rfl ?_
        refine g_aload_n X dX1_fewest_25 0 rfl rfl ?_
        refine g_iload_n X dX1_fewest_26 2 rfl rfl ?_
        refine g_iload_n X dX1_fewest_27 1 rfl rfl ?_
        refine g_callV (st := [.int (nI k), .ref (ad 4)]) (ci := 1) (q := (RX1, TX1, 6)) (wr := []) X (mM_row _ _ d dz h ad e up1 w on sg1 nd1 hE hh1 k (by omega) be) (lw_V q231 q233 qs14 q21 q234) 2 (by decide +kernel) (by decide) (by decide) rfl rfl rfl [0, 1, 2, 3, 4, 5] [] [0, 1] rfl rfl rfl (by decide) (by decide) (by decide) (by rw [hT]; rfl) rfl (Nat.le_of_ble_eq_true rfl) dX1_fewest_28 (fun r u hp => ?_)
        obtain rfl := hp
        show Go K 0 0 (wM d dz h ad e up1 w on sg1 nd1) [(0, .ref h), (1, .int (nI be.toNat)), (2, .int (nI k))] 31 [.int (nI ((pd_ro (pd_T be e) k 10).toNat)), .int (nI k), .ref (ad 4)]
        refine g_zast (ws' := (wM d dz h ad e up1 w on (pd_st sg1 k ((pd_ro (pd_T be e) k 10).toNat)) nd1)) X 4 1 rfl t1 (by omega) (by decide) (pn_vz _) (nF_st _ _ _) rfl dX1_fewest_31 ?_
        refine g_iload_n X dX1_fewest_32 2 rfl rfl ?_
        refine g_iload_n X dX1_fewest_33 2 rfl rfl ?_
        refine g_ineg (v := (-((nI k)))) X dX1_fewest_34 rfl ?_
        refine g_iand (v := (nI (2 ^ b))) X dX1_fewest_35 hlow ?_
        refine g_istore_n (L' := [(3, .int (nI (2 ^ b))), (0, .ref h), (1, .int (nI be.toNat)), (2, .int (nI k))]) X dX1_fewest_36 rfl (by decide) rfl ?_
        refine g_bipush (v := (nI 11)) X dX1_fewest_37 (by decide) ?_
        refine g_istore (L' := [(4, .int (nI 11)), (3, .int (nI (2 ^ b))), (0, .ref h), (1, .int (nI be.toNat)), (2, .int (nI k))]) X dX1_fewest_39 (by decide) rfl ?_
        refine g_iload_n X dX1_fewest_41 4 rfl rfl ?_
        refine g_istore (L' := [(5, .int (nI k)), (4, .int (nI 11)), (3, .int (nI (2 ^ b))), (0, .ref h), (1, .int (nI be.toNat)), (2, .int (nI k))]) X dX1_fewest_42 (by decide) rfl ?_
        have lp44 : ∀ (n : Nat) (least : Nat) (part : Nat), (part &&& k = part) → (pd_LI (pd_T be e) nd1 k b least part) → part < n → Go K 0 0 (wM d dz h ad e up1 w on (pd_st sg1 k ((pd_ro (pd_T be e) k 10).toNat)) nd1) [(0, .ref h), (1, .int (nI be.toNat)), (2, .int (nI k)), (3, .int (nI (2 ^ b))), (4, .int (nI least)), (5, .int (nI part))] 44 [] := by
          intro n
          induction n with
          | zero => intro least part hpk hLI hm; exact absurd hm (Nat.not_lt_zero _)
          | succ n ih44 =>
            intro least part hpk hLI hm
            have hle : part ≤ k := by rw [← hpk]; exact Nat.and_le_right
            refine g_iload X dX1_fewest_44 5 rfl ?_
            refine g_if_le (P := part = 0) X 110 dX1_fewest_46 (by decide) (pn_le0 (by omega)) (fun c46 => ?_) (fun c46 => ?_)
            · refine g_aload_n X dX1_fewest_110 0 rfl rfl ?_
              refine g_get X in_X1 0 rfl rfl 5 (by decide) q180 rfl dX1_fewest_111 ?_
              refine g_iload_n X dX1_fewest_114 2 rfl rfl ?_
              refine g_iload X dX1_fewest_115 4 rfl ?_
              refine g_iast (ws' := (wM d dz h ad e up1 w on (pd_st sg1 k ((pd_ro (pd_T be e) k 10).toNat)) (pd_st nd1 k least))) X 5 0 rfl t0 (by omega) (by decide) (nF_st _ _ _) rfl dX1_fewest_117 ?_
              refine g_iinc (v := (nI (k + 1))) (L' := [(2, .int (nI (k + 1))), (0, .ref h), (1, .int (nI be.toNat)), (3, .int (nI (2 ^ b))), (4, .int (nI least)), (5, .int (nI part))]) X dX1_fewest_118 2 rfl (pn_inc _) (by decide) rfl ?_
              refine g_goto X 13 dX1_fewest_121 (by decide) ?_
              refine g_loc (L' := [(0, .ref h), (1, .int (nI be.toNat)), (2, .int (nI (k + 1)))]) [1, 2, 0] rfl ?_
              exact ih13 (pd_st sg1 k (pd_ro (pd_T be e) k 10).toNat) (pd_st nd1 k least) (k + 1) (by omega) (by omega) (pd_NI_step hN (by omega) hb10 hbk hbl (by rw [c46] at hLI; exact hLI)) (by omega)
            · refine g_iload X dX1_fewest_49 5 rfl ?_
              refine g_iload_n X dX1_fewest_51 3 rfl rfl ?_
              refine g_iand (v := (nI (part &&& (2 ^ b)))) X dX1_fewest_52 (pn_and _ _) ?_
              refine g_if_eq (P := ¬ part.testBit b = true) X 99 dX1_fewest_53 (by decide) ((pn_z (by have : part &&& 2 ^ b ≤ part := Nat.and_le_left; omega)).trans pn_andp) (fun c53 => ?_) (fun c53 => ?_)
              · refine g_iload X dX1_fewest_99 5 rfl ?_
                refine g_iconst (v := (nI 1)) X dX1_fewest_101 (by decide) ?_
                refine g_isub (v := (nI (part - 1))) X dX1_fewest_102 (pk_sub (by omega)) ?_
                refine g_iload_n X dX1_fewest_103 2 rfl rfl ?_
                refine g_iand (v := (nI ((part - 1) &&& k))) X dX1_fewest_104 (pn_and _ _) ?_
                refine g_istore (L' := [(5, .int (nI ((part - 1) &&& k))), (0, .ref h), (1, .int (nI be.toNat)), (2, .int (nI k)), (3, .int (nI (2 ^ b))), (4, .int (nI least))]) X dX1_fewest_105 (by decide) rfl ?_
                refine g_goto X 44 dX1_fewest_107 (by decide) ?_
                refine g_loc (L' := [(0, .ref h), (1, .int (nI be.toNat)), (2, .int (nI k)), (3, .int (nI (2 ^ b))), (4, .int (nI least)), (5, .int (nI ((part - 1) &&& k)))]) [1, 2, 3, 4, 5, 0] rfl ?_
                exact ih44 least ((part - 1) &&& k) (pd_and_idem _ _) (pd_LI_skip hLI hpk (fun z => c53 z.1)) (by have : (part - 1) &&& k ≤ part - 1 := Nat.and_le_left; omega)
              · have c53 := Decidable.not_not.mp c53
                have hdf : pd_df k part < k := pd_df_lt b hbk c53
                have hnd := pd_NI_9 hN hdf
                have hl11 := hLI.2.2
                refine g_aload_n X dX1_fewest_56 0 rfl rfl ?_
                refine g_get X in_X1 0 rfl rfl 4 (by decide) q179 rfl dX1_fewest_57 ?_
                refine g_iload X dX1_fewest_60 5 rfl ?_
                refine g_zald (v := (nI ((pd_ro (pd_T be e) part 10).toNat))) X 4 1 rfl t1 (by omega) (by decide) (congrArg nI (by by_cases z : part = k; (· rw [z, pd_st_s]); (· rw [pd_st_n z]; exact hN.2.2 part (by omega) (by omega)))) dX1_fewest_62 ?_
                refine g_if_eq (P := ¬ (pd_ro (pd_T be e) part 10) = true) X 99 dX1_fewest_63 (by decide) (pn_bz _) (fun c63 => ?_) (fun c63 => ?_)
                · refine g_iload X dX1_fewest_99 5 rfl ?_
                  refine g_iconst (v := (nI 1)) X dX1_fewest_101 (by decide) ?_
                  refine g_isub (v := (nI (part - 1))) X dX1_fewest_102 (pk_sub (by omega)) ?_
                  refine g_iload_n X dX1_fewest_103 2 rfl rfl ?_
                  refine g_iand (v := (nI ((part - 1) &&& k))) X dX1_fewest_104 (pn_and _ _) ?_
                  refine g_istore (L' := [(5, .int (nI ((part - 1) &&& k))), (0, .ref h), (1, .int (nI be.toNat)), (2, .int (nI k)), (3, .int (nI (2 ^ b))), (4, .int (nI least))]) X dX1_fewest_105 (by decide) rfl ?_
                  refine g_goto X 44 dX1_fewest_107 (by decide) ?_
                  refine g_loc (L' := [(0, .ref h), (1, .int (nI be.toNat)), (2, .int (nI k)), (3, .int (nI (2 ^ b))), (4, .int (nI least)), (5, .int (nI ((part - 1) &&& k)))]) [1, 2, 3, 4, 5, 0] rfl ?_
                  exact ih44 least ((part - 1) &&& k) (pd_and_idem _ _) (pd_LI_skip hLI hpk (fun z => c63 z.2.1)) (by have : (part - 1) &&& k ≤ part - 1 := Nat.and_le_left; omega)
                · have c63 := Decidable.not_not.mp c63
                  refine g_aload_n X dX1_fewest_66 0 rfl rfl ?_
                  refine g_get X in_X1 0 rfl rfl 5 (by decide) q180 rfl dX1_fewest_67 ?_
                  refine g_iload_n X dX1_fewest_70 2 rfl rfl ?_
                  refine g_iload X dX1_fewest_71 5 rfl ?_
                  refine g_iconst (v := (-1)) X dX1_fewest_73 (by decide) ?_
                  refine g_ixor (v := (nI part ^^^ (-1))) X dX1_fewest_74 rfl ?_
                  refine g_iand (v := (nI (pd_df k part))) X dX1_fewest_75 (pn_df _ _) ?_
                  refine g_iald (v := (nI (nd1 (pd_df k part)))) X 5 0 rfl t0 (by omega) (by decide) rfl dX1_fewest_76 ?_
                  refine g_iconst (v := (nI 1)) X dX1_fewest_77 (by decide) ?_
                  refine g_iadd (v := (nI ((nd1 (pd_df k part)) + 1))) X dX1_fewest_78 (nI_add _ _) ?_
                  refine g_iload X dX1_fewest_79 4 rfl ?_
                  refine g_icmp_ge (P := least ≤ (nd1 (pd_df k part)) + 1) X 99 dX1_fewest_81 (by decide) (nI_leI (by omega) (by omega)) (fun c81 => ?_) (fun c81 => ?_)
                  · refine g_iload X dX1_fewest_99 5 rfl ?_
                    refine g_iconst (v := (nI 1)) X dX1_fewest_101 (by decide) ?_
                    refine g_isub (v := (nI (part - 1))) X dX1_fewest_102 (pk_sub (by omega)) ?_
                    refine g_iload_n X dX1_fewest_103 2 rfl rfl ?_
                    refine g_iand (v := (nI ((part - 1) &&& k))) X dX1_fewest_104 (pn_and _ _) ?_
                    refine g_istore (L' := [(5, .int (nI ((part - 1) &&& k))), (0, .ref h), (1, .int (nI be.toNat)), (2, .int (nI k)), (3, .int (nI (2 ^ b))), (4, .int (nI least))]) X dX1_fewest_105 (by decide) rfl ?_
                    refine g_goto X 44 dX1_fewest_107 (by decide) ?_
                    refine g_loc (L' := [(0, .ref h), (1, .int (nI be.toNat)), (2, .int (nI k)), (3, .int (nI (2 ^ b))), (4, .int (nI least)), (5, .int (nI ((part - 1) &&& k)))]) [1, 2, 3, 4, 5, 0] rfl ?_
                    exact ih44 least ((part - 1) &&& k) (pd_and_idem _ _) (pd_LI_skip hLI hpk (fun z => absurd z.2.2 (by omega))) (by have : (part - 1) &&& k ≤ part - 1 := Nat.and_le_left; omega)
                  · refine g_aload_n X dX1_fewest_84 0 rfl rfl ?_
                    refine g_get X in_X1 0 rfl rfl 5 (by decide) q180 rfl dX1_fewest_85 ?_
                    refine g_iload_n X dX1_fewest_88 2 rfl rfl ?_
                    refine g_iload X dX1_fewest_89 5 rfl ?_
                    refine g_iconst (v := (-1)) X dX1_fewest_91 (by decide) ?_
                    refine g_ixor (v := (nI part ^^^ (-1))) X dX1_fewest_92 rfl ?_
                    refine g_iand (v := (nI (pd_df k part))) X dX1_fewest_93 (pn_df _ _) ?_
                    refine g_iald (v := (nI (nd1 (pd_df k part)))) X 5 0 rfl t0 (by omega) (by decide) rfl dX1_fewest_94 ?_
                    refine g_iconst (v := (nI 1)) X dX1_fewest_95 (by decide) ?_
                    refine g_iadd (v := (nI ((nd1 (pd_df k part)) + 1))) X dX1_fewest_96 (nI_add _ _) ?_
                    refine g_istore (L' := [(4, .int (nI ((nd1 (pd_df k part)) + 1))), (0, .ref h), (1, .int (nI be.toNat)), (2, .int (nI k)), (3, .int (nI (2 ^ b))), (5, .int (nI part))]) X dX1_fewest_97 (by decide) rfl ?_
                    refine g_iload X dX1_fewest_99 5 rfl ?_
                    refine g_iconst (v := (nI 1)) X dX1_fewest_101 (by decide) ?_
                    refine g_isub (v := (nI (part - 1))) X dX1_fewest_102 (pk_sub (by omega)) ?_
                    refine g_iload_n X dX1_fewest_103 3 rfl rfl ?_
                    refine g_iand (v := (nI ((part - 1) &&& k))) X dX1_fewest_104 (pn_and _ _) ?_
                    refine g_istore (L' := [(5, .int (nI ((part - 1) &&& k))), (4, .int (nI ((nd1 (pd_df k part)) + 1))), (0, .ref h), (1, .int (nI be.toNat)), (2, .int (nI k)), (3, .int (nI (2 ^ b)))]) X dX1_fewest_105 (by decide) rfl ?_
                    refine g_goto X 44 dX1_fewest_107 (by decide) ?_
                    refine g_loc (L' := [(0, .ref h), (1, .int (nI be.toNat)), (2, .int (nI k)), (3, .int (nI (2 ^ b))), (4, .int (nI ((nd1 (pd_df k part)) + 1))), (5, .int (nI ((part - 1) &&& k)))]) [2, 3, 4, 5, 1, 0] rfl ?_
                    exact ih44 ((nd1 (pd_df k part)) + 1) ((part - 1) &&& k) (pd_and_idem _ _) (pd_LI_take hLI hpk c53 c63 (by omega)) (by have : (part - 1) &&& k ≤ part - 1 := Nat.and_le_left; omega)
        refine g_loc (L' := [(0, .ref h), (1, .int (nI be.toNat)), (2, .int (nI k)), (3, .int (nI (2 ^ b))), (4, .int (nI 11)), (5, .int (nI k))]) [3, 4, 5, 2, 1, 0] rfl ?_
        exact lp44 _ 11 k (Nat.and_self k) pd_LI_0 (Nat.lt_succ_self _)
  refine g_loc (L' := [(0, .ref h), (1, .int (nI be.toNat)), (2, .int (nI 1))]) [1, 2, 0] rfl ?_
  exact lp13 _ sg (pd_st nd 0 0) 1 (by omega) (by omega) pd_NI_0 (Nat.lt_succ_self _)

set_option maxHeartbeats 4000000 in
set_option maxRecDepth 100000 in
/-- chains() -/
theorem mM_chains (l : Launch) (D : va_G) (d dz : ClassId) (h : Nat) (ad : Nat → Nat) (e up w : Nat → Nat) (on : Nat) (sg nd : Nat → Nat) (hE : pd_Ed e) (hon : on < 1024) : MI l yX1_chains cX1_chains 1 .int 3 71 D [(d, .int), (dz, .boolean)] [.ref h] (wM d dz h ad e up w on sg nd) (fun u : SM => (wM d dz h ad e u.1 w on u.2.1 u.2.2)) (fun r u => r = nI (u.2.2 on) ∧ pd_Nd (pd_up e) u.2.2 1024) := by
  refine MI_of (by decide) (Nat.le_of_ble_eq_true rfl) ?_
  intro K hl hD hT X R
  subst hl; subst hD
  have X : Cx K cX1_chains RX1 (some .int) 1 ({ frames := 3, cells := 0, slots := 0, locals := 71 }) := X
  have t0 : (kT K)[0]? = some (d, .int) := by rw [hT]; rfl
  have t1 : (kT K)[1]? = some (dz, .boolean) := by rw [hT]; rfl
  show Go K 0 0 (wM d dz h ad e up w on sg nd) [(0, .ref h)] 0 []
  refine g_aload_n X dX1_chains_0 0 rfl rfl ?_
  refine g_iconst (v := (nI false.toNat)) X dX1_chains_1 (by decide) ?_
  refine g_callV (st := []) (ci := 1) (q := (RX1, TX1, 6)) (wr := []) X (mM_fewest _ _ d dz h ad e up w on sg nd hE hon false) (lw_V q227 q229 qs13 q21 q230) 1 (by decide +kernel) (by decide) (by decide) rfl rfl rfl [0, 1, 2, 3, 4, 5] [] [0, 1] rfl rfl rfl (by decide) (by decide) (by decide) (by rw [hT]; rfl) rfl (Nat.le_of_ble_eq_true rfl) dX1_chains_2 (fun r u hp => ?_)
  obtain ⟨up1, sg1, nd1⟩ := u
  show Go K 0 0 (wM d dz h ad e up1 w on sg1 nd1) [(0, .ref h)] 5 [.int r]
  exact R (up1, sg1, nd1) r _ _ hp rfl dX1_chains_5

set_option maxHeartbeats 4000000 in
set_option maxRecDepth 100000 in
/-- paths() -/
theorem mM_paths (l : Launch) (D : va_G) (d dz : ClassId) (h : Nat) (ad : Nat → Nat) (e up w : Nat → Nat) (on : Nat) (sg nd : Nat → Nat) (hE : pd_Ed e) (hon : on < 1024) : MI l yX1_paths cX1_paths 1 .int 3 71 D [(d, .int), (dz, .boolean)] [.ref h] (wM d dz h ad e up w on sg nd) (fun u : SM => (wM d dz h ad e u.1 w on u.2.1 u.2.2)) (fun r u => r = nI (u.2.2 on) ∧ pd_Nd e u.2.2 1024) := by
  refine MI_of (by decide) (Nat.le_of_ble_eq_true rfl) ?_
  intro K hl hD hT X R
  subst hl; subst hD
  have X : Cx K cX1_paths RX1 (some .int) 1 ({ frames := 3, cells := 0, slots := 0, locals := 71 }) := X
  have t0 : (kT K)[0]? = some (d, .int) := by rw [hT]; rfl
  have t1 : (kT K)[1]? = some (dz, .boolean) := by rw [hT]; rfl
  show Go K 0 0 (wM d dz h ad e up w on sg nd) [(0, .ref h)] 0 []
  refine g_aload_n X dX1_paths_0 0 rfl rfl ?_
  refine g_iconst (v := (nI true.toNat)) X dX1_paths_1 (by decide) ?_
  refine g_callV (st := []) (ci := 1) (q := (RX1, TX1, 6)) (wr := []) X (mM_fewest _ _ d dz h ad e up w on sg nd hE hon true) (lw_V q227 q229 qs13 q21 q230) 1 (by decide +kernel) (by decide) (by decide) rfl rfl rfl [0, 1, 2, 3, 4, 5] [] [0, 1] rfl rfl rfl (by decide) (by decide) (by decide) (by rw [hT]; rfl) rfl (Nat.le_of_ble_eq_true rfl) dX1_paths_2 (fun r u hp => ?_)
  obtain ⟨up1, sg1, nd1⟩ := u
  show Go K 0 0 (wM d dz h ad e up1 w on sg1 nd1) [(0, .ref h)] 5 [.int r]
  exact R (up1, sg1, nd1) r _ _ hp rfl dX1_paths_5
end
section
/-! WALK 43: PathCoverDagModel, width, antichain, heaviest, height, heaviestChain, antichains, apart -/

set_option maxHeartbeats 4000000 in
set_option maxRecDepth 100000 in
/-- width() -/
theorem mM_width (l : Launch) (D : va_G) (d dz : ClassId) (h : Nat) (ad : Nat → Nat) (e up w : Nat → Nat) (on : Nat) (sg nd : Nat → Nat) (hE : pd_Ed e) (hw9 : ∀ v, v < 10 → w v ≤ 9) : MI l yX1_width cX1_width 3 .int 2 44 D [(d, .int), (dz, .boolean)] [.ref h] (wM d dz h ad e up w on sg nd) (fun u : Nat → Nat => (wM d dz h ad e u w on sg nd)) (fun r u => r = nI (pd_wd (pd_up e) on) ∧ ∀ v, v < 10 → u v = pd_up e v) := by
  refine MI_of (by decide) (Nat.le_of_ble_eq_true rfl) ?_
  intro K hl hD hT X R
  subst hl; subst hD
  have X : Cx K cX1_width RX1 (some .int) 3 ({ frames := 2, cells := 0, slots := 0, locals := 44 }) := X
  have t0 : (kT K)[0]? = some (d, .int) := by rw [hT]; rfl
  have t1 : (kT K)[1]? = some (dz, .boolean) := by rw [hT]; rfl
  show Go K 0 0 (wM d dz h ad e up w on sg nd) [(0, .ref h)] 0 []
  refine g_aload_n X dX1_width_0 0 rfl rfl ?_
  refine g_callVv (st := []) (ci := 1) (q := (RX1, TX1, 6)) (wr := []) X (mM_close _ _ d dz h ad e up w on sg nd hE) (lw_V q215 q217 qs11 q21 q218) 0 (by decide +kernel) (by decide) (by decide) rfl rfl rfl [0, 1, 2, 3, 4, 5] [] [0, 1] rfl rfl rfl (by decide) (by decide) (by decide) (by rw [hT]; rfl) rfl (Nat.le_of_ble_eq_true rfl) dX1_width_1 (fun up1 hh1 => ?_)
  show Go K 0 0 (wM d dz h ad e up1 w on sg nd) [(0, .ref h)] 4 []
  refine g_iconst (v := (nI 0)) X dX1_width_4 (by decide) ?_
  refine g_istore_n (L' := [(1, .int (nI 0)), (0, .ref h)]) X dX1_width_5 rfl (by decide) rfl ?_
  refine g_iconst (v := (nI 0)) X dX1_width_6 (by decide) ?_
  refine g_istore_n (L' := [(2, .int (nI 0)), (1, .int (nI 0)), (0, .ref h)]) X dX1_width_7 rfl (by decide) rfl ?_
  have lp8 : ∀ (n : Nat) (k : Nat), (k ≤ 1024) → 1024 - k < n → Go K 0 0 (wM d dz h ad e up1 w on sg nd) [(0, .ref h), (1, .int (nI (pd_mx (pd_anB (pd_up e) on) pd_bc k))), (2, .int (nI k))] 8 [] := by
    intro n
    induction n with
    | zero => intro k hk hm; exact absurd hm (Nat.not_lt_zero _)
    | succ n ih8 =>
      intro k hk hm
      refine g_iload_n X dX1_width_8 2 rfl rfl ?_
      refine g_sipush (v := (nI 1024)) X dX1_width_9 (by decide) ?_
      refine g_icmp_ge (P := 1024 ≤ k) X 44 dX1_width_12 (by decide) (nI_leI (by omega) (by omega)) (fun c12 => ?_) (fun c12 => ?_)
      · refine g_iload_n X dX1_width_44 1 rfl rfl ?_
        exact R up1 (nI (pd_mx (pd_anB (pd_up e) on) pd_bc k)) _ _ ⟨by rw [show k = 1024 by omega]; rfl, hh1⟩ rfl dX1_width_45
      · refine g_aload_n X dX1_width_15 0 rfl rfl ?_
        refine g_iload_n X dX1_width_16 2 rfl rfl ?_
        refine g_callV (st := []) (ci := 1) (q := (RX1, TX1, 6)) (wr := []) X (mM_anti _ _ d dz h ad e up1 w on sg nd hh1 k (by omega)) (lw_V q239 q241 qs15 q21 q242) 1 (by decide +kernel) (by decide) (by decide) rfl rfl rfl [0, 1, 2, 3, 4, 5] [] [0, 1] rfl rfl rfl (by decide) (by decide) (by decide) (by rw [hT]; rfl) rfl (Nat.le_of_ble_eq_true rfl) dX1_width_17 (fun r u hp => ?_)
        obtain rfl := hp
        show Go K 0 0 (wM d dz h ad e up1 w on sg nd) [(0, .ref h), (1, .int (nI (pd_mx (pd_anB (pd_up e) on) pd_bc k))), (2, .int (nI k))] 20 [.int (nI ((pd_anB (pd_up e) on k).toNat))]
        refine g_if_eq (P := ¬ (pd_anB (pd_up e) on k) = true) X 38 dX1_width_20 (by decide) (pn_bz _) (fun c20 => ?_) (fun c20 => ?_)
        · rw [← pd_mx_n1 (p := (pd_anB (pd_up e) on)) (f := pd_bc) (n := k) c20]
          refine g_iinc (v := (nI (k + 1))) (L' := [(2, .int (nI (k + 1))), (0, .ref h), (1, .int (nI (pd_mx (pd_anB (pd_up e) on) pd_bc (k + 1))))]) X dX1_width_38 2 rfl (pn_inc _) (by decide) rfl ?_
          refine g_goto X 8 dX1_width_41 (by decide) ?_
          refine g_loc (L' := [(0, .ref h), (1, .int (nI (pd_mx (pd_anB (pd_up e) on) pd_bc (k + 1)))), (2, .int (nI (k + 1)))]) [1, 2, 0] rfl ?_
          exact ih8 (k + 1) (by omega) (by omega)
        · have c20 := Decidable.not_not.mp c20
          refine g_aload_n X dX1_width_23 0 rfl rfl ?_
          refine g_iload_n X dX1_width_24 2 rfl rfl ?_
          refine g_callV (st := []) (ci := 1) (q := (RX1, TX1, 6)) (wr := []) X (mM_size _ _ d dz h ad e up1 w on sg nd k (by omega)) (lw_V q243 q245 qs16 q21 q246) 1 (by decide +kernel) (by decide) (by decide) rfl rfl rfl [0, 1, 2, 3, 4, 5] [] [0, 1] rfl rfl rfl (by decide) (by decide) (by decide) (by rw [hT]; rfl) rfl (Nat.le_of_ble_eq_true rfl) dX1_width_25 (fun r u hp => ?_)
          obtain rfl := hp
          show Go K 0 0 (wM d dz h ad e up1 w on sg nd) [(0, .ref h), (1, .int (nI (pd_mx (pd_anB (pd_up e) on) pd_bc k))), (2, .int (nI k))] 28 [.int (nI (pd_bc k))]
          refine g_iload_n X dX1_width_28 1 rfl rfl ?_
          refine g_icmp_le (P := pd_bc k ≤ pd_mx (pd_anB (pd_up e) on) pd_bc k) X 38 dX1_width_29 (by decide) (nI_leI (by have := pd_bc_le k; omega) (by have := pd_mx_bd (p := (pd_anB (pd_up e) on)) (f := pd_bc) (pd_bc_le) k; omega)) (fun c29 => ?_) (fun c29 => ?_)
          · rw [← pd_mx_n2 (p := (pd_anB (pd_up e) on)) (f := pd_bc) (n := k) c29]
            refine g_iinc (v := (nI (k + 1))) (L' := [(2, .int (nI (k + 1))), (0, .ref h), (1, .int (nI (pd_mx (pd_anB (pd_up e) on) pd_bc (k + 1))))]) X dX1_width_38 2 rfl (pn_inc _) (by decide) rfl ?_
            refine g_goto X 8 dX1_width_41 (by decide) ?_
            refine g_loc (L' := [(0, .ref h), (1, .int (nI (pd_mx (pd_anB (pd_up e) on) pd_bc (k + 1)))), (2, .int (nI (k + 1)))]) [1, 2, 0] rfl ?_
            exact ih8 (k + 1) (by omega) (by omega)
          · refine g_aload_n X dX1_width_32 0 rfl rfl ?_
            refine g_iload_n X dX1_width_33 2 rfl rfl ?_
            refine g_callV (st := []) (ci := 1) (q := (RX1, TX1, 6)) (wr := []) X (mM_size _ _ d dz h ad e up1 w on sg nd k (by omega)) (lw_V q243 q245 qs16 q21 q246) 1 (by decide +kernel) (by decide) (by decide) rfl rfl rfl [0, 1, 2, 3, 4, 5] [] [0, 1] rfl rfl rfl (by decide) (by decide) (by decide) (by rw [hT]; rfl) rfl (Nat.le_of_ble_eq_true rfl) dX1_width_34 (fun r u hp => ?_)
            obtain rfl := hp
            rw [show pd_bc k = pd_mx (pd_anB (pd_up e) on) pd_bc (k + 1) from (pd_mx_y (p := (pd_anB (pd_up e) on)) (f := pd_bc) (n := k) c20 (Nat.lt_of_not_le c29)).symm]
            show Go K 0 0 (wM d dz h ad e up1 w on sg nd) [(0, .ref h), (1, .int (nI (pd_mx (pd_anB (pd_up e) on) pd_bc k))), (2, .int (nI k))] 37 [.int (nI (pd_mx (pd_anB (pd_up e) on) pd_bc (k + 1)))]
            refine g_istore_n (L' := [(1, .int (nI (pd_mx (pd_anB (pd_up e) on) pd_bc (k + 1)))), (0, .ref h), (2, .int (nI k))]) X dX1_width_37 rfl (by decide) rfl ?_
            refine g_iinc (v := (nI (k + 1))) (L' := [(2, .int (nI (k + 1))), (1, .int (nI (pd_mx (pd_anB (pd_up e) on) pd_bc (k + 1)))), (0, .ref h)]) X dX1_width_38 2 rfl (pn_inc _) (by decide) rfl ?_
            refine g_goto X 8 dX1_width_41 (by decide) ?_
            refine g_loc (L' := [(0, .ref h), (1, .int (nI (pd_mx (pd_anB (pd_up e) on) pd_bc (k + 1)))), (2, .int (nI (k + 1)))]) [2, 1, 0] rfl ?_
            exact ih8 (k + 1) (by omega) (by omega)
  refine g_loc (L' := [(0, .ref h), (1, .int (nI 0)), (2, .int (nI 0))]) [2, 1, 0] rfl ?_
  exact lp8 _ 0 (by omega) (Nat.lt_succ_self _)

set_option maxHeartbeats 4000000 in
set_option maxRecDepth 100000 in
/-- antichain() -/
theorem mM_antichain (l : Launch) (D : va_G) (d dz : ClassId) (h : Nat) (ad : Nat → Nat) (e up w : Nat → Nat) (on : Nat) (sg nd : Nat → Nat) (hE : pd_Ed e) (hw9 : ∀ v, v < 10 → w v ≤ 9) : MI l yX1_antichain cX1_antichain 3 .int 3 66 D [(d, .int), (dz, .boolean)] [.ref h] (wM d dz h ad e up w on sg nd) (fun u : Nat × (Nat → Nat) => (wM d dz h ad e u.2 w on sg nd)) (fun r u => r = nI u.1 ∧ u.1 < 1024 ∧ pd_An (pd_up e) on u.1 ∧ pd_bc u.1 = pd_wd (pd_up e) on ∧ pd_No (pd_up e) on (pd_wd (pd_up e) on) u.1) := by
  refine MI_of (by decide) (Nat.le_of_ble_eq_true rfl) ?_
  intro K hl hD hT X R
  subst hl; subst hD
  have X : Cx K cX1_antichain RX1 (some .int) 3 ({ frames := 3, cells := 0, slots := 0, locals := 66 }) := X
  have t0 : (kT K)[0]? = some (d, .int) := by rw [hT]; rfl
  have t1 : (kT K)[1]? = some (dz, .boolean) := by rw [hT]; rfl
  show Go K 0 0 (wM d dz h ad e up w on sg nd) [(0, .ref h)] 0 []
  refine g_aload_n X dX1_antichain_0 0 rfl rfl ?_
  refine g_callV (st := []) (ci := 1) (q := (RX1, TX1, 6)) (wr := []) X (mM_width _ _ d dz h ad e up w on sg nd hE hw9) (lw_V q251 q236 q237 q21 q238) 0 (by decide +kernel) (by decide) (by decide) rfl rfl rfl [0, 1, 2, 3, 4, 5] [] [0, 1] rfl rfl rfl (by decide) (by decide) (by decide) (by rw [hT]; rfl) rfl (Nat.le_of_ble_eq_true rfl) dX1_antichain_1 (fun r up1 hp => ?_)
  obtain ⟨hr, hh1⟩ := hp
  subst hr
  show Go K 0 0 (wM d dz h ad e up1 w on sg nd) [(0, .ref h)] 4 [.int (nI (pd_wd (pd_up e) on))]
  refine g_istore_n (L' := [(1, .int (nI (pd_wd (pd_up e) on))), (0, .ref h)]) X dX1_antichain_4 rfl (by decide) rfl ?_
  refine g_iconst (v := (nI 0)) X dX1_antichain_5 (by decide) ?_
  refine g_istore_n (L' := [(2, .int (nI 0)), (1, .int (nI (pd_wd (pd_up e) on))), (0, .ref h)]) X dX1_antichain_6 rfl (by decide) rfl ?_
  have lp7 : ∀ (n : Nat) (k : Nat), (k ≤ 1024) → (pd_No (pd_up e) on (pd_wd (pd_up e) on) k) → 1024 - k < n → Go K 0 0 (wM d dz h ad e up1 w on sg nd) [(0, .ref h), (1, .int (nI (pd_wd (pd_up e) on))), (2, .int (nI k))] 7 [] := by
    intro n
    induction n with
    | zero => intro k hk hn hm; exact absurd hm (Nat.not_lt_zero _)
    | succ n ih7 =>
      intro k hk hn hm
      refine g_iload_n X dX1_antichain_7 2 rfl rfl ?_
      refine g_sipush (v := (nI 1024)) X dX1_antichain_8 (by decide) ?_
      refine g_icmp_ge (P := 1024 ≤ k) X 39 dX1_antichain_11 (by decide) (nI_leI (by omega) (by omega)) (fun c11 => ?_) (fun c11 => ?_)
      · exact (pd_No_end hn (by omega)).elim
      · refine g_aload_n X dX1_antichain_14 0 rfl rfl ?_
        refine g_iload_n X dX1_antichain_15 2 rfl rfl ?_
        refine g_callV (st := []) (ci := 1) (q := (RX1, TX1, 6)) (wr := []) X (mM_anti _ _ d dz h ad e up1 w on sg nd hh1 k (by omega)) (lw_V q239 q241 qs15 q21 q242) 1 (by decide +kernel) (by decide) (by decide) rfl rfl rfl [0, 1, 2, 3, 4, 5] [] [0, 1] rfl rfl rfl (by decide) (by decide) (by decide) (by rw [hT]; rfl) rfl (Nat.le_of_ble_eq_true rfl) dX1_antichain_16 (fun r u hp => ?_)
        obtain rfl := hp
        show Go K 0 0 (wM d dz h ad e up1 w on sg nd) [(0, .ref h), (1, .int (nI (pd_wd (pd_up e) on))), (2, .int (nI k))] 19 [.int (nI ((pd_anB (pd_up e) on k).toNat))]
        refine g_if_eq (P := ¬ (pd_anB (pd_up e) on k) = true) X 33 dX1_antichain_19 (by decide) (pn_bz _) (fun c19 => ?_) (fun c19 => ?_)
        · refine g_iinc (v := (nI (k + 1))) (L' := [(2, .int (nI (k + 1))), (0, .ref h), (1, .int (nI (pd_wd (pd_up e) on)))]) X dX1_antichain_33 2 rfl (pn_inc _) (by decide) rfl ?_
          refine g_goto X 7 dX1_antichain_36 (by decide) ?_
          refine g_loc (L' := [(0, .ref h), (1, .int (nI (pd_wd (pd_up e) on))), (2, .int (nI (k + 1)))]) [1, 2, 0] rfl ?_
          exact ih7 (k + 1) (by omega) (pd_No_1 hn (by omega) c19) (by omega)
        · have c19 := Decidable.not_not.mp c19
          refine g_aload_n X dX1_antichain_22 0 rfl rfl ?_
          refine g_iload_n X dX1_antichain_23 2 rfl rfl ?_
          refine g_callV (st := []) (ci := 1) (q := (RX1, TX1, 6)) (wr := []) X (mM_size _ _ d dz h ad e up1 w on sg nd k (by omega)) (lw_V q243 q245 qs16 q21 q246) 1 (by decide +kernel) (by decide) (by decide) rfl rfl rfl [0, 1, 2, 3, 4, 5] [] [0, 1] rfl rfl rfl (by decide) (by decide) (by decide) (by rw [hT]; rfl) rfl (Nat.le_of_ble_eq_true rfl) dX1_antichain_24 (fun r u hp => ?_)
          obtain rfl := hp
          show Go K 0 0 (wM d dz h ad e up1 w on sg nd) [(0, .ref h), (1, .int (nI (pd_wd (pd_up e) on))), (2, .int (nI k))] 27 [.int (nI (pd_bc k))]
          refine g_iload_n X dX1_antichain_27 1 rfl rfl ?_
          refine g_icmp_ne (P := pd_bc k = pd_wd (pd_up e) on) X 33 dX1_antichain_28 (by decide) (nI_eq (by have := pd_bc_le k; omega) (by have := pd_wd_le (pd_up e) on; omega)) (fun c28 => ?_) (fun c28 => ?_)
          · refine g_iinc (v := (nI (k + 1))) (L' := [(2, .int (nI (k + 1))), (0, .ref h), (1, .int (nI (pd_wd (pd_up e) on)))]) X dX1_antichain_33 2 rfl (pn_inc _) (by decide) rfl ?_
            refine g_goto X 7 dX1_antichain_36 (by decide) ?_
            refine g_loc (L' := [(0, .ref h), (1, .int (nI (pd_wd (pd_up e) on))), (2, .int (nI (k + 1)))]) [1, 2, 0] rfl ?_
            exact ih7 (k + 1) (by omega) (pd_No_2 hn c28) (by omega)
          · refine g_iload_n X dX1_antichain_31 2 rfl rfl ?_
            exact R (k, up1) (nI k) _ _ ⟨rfl, by omega, (pd_anB_iff (by omega)).mp c19, c28, hn⟩ rfl dX1_antichain_32
  refine g_loc (L' := [(0, .ref h), (1, .int (nI (pd_wd (pd_up e) on))), (2, .int (nI 0))]) [2, 1, 0] rfl ?_
  exact lp7 _ 0 (by omega) (fun A hA => absurd hA (Nat.not_lt_zero _)) (Nat.lt_succ_self _)

set_option maxHeartbeats 4000000 in
set_option maxRecDepth 100000 in
/-- heaviest() -/
theorem mM_heaviest (l : Launch) (D : va_G) (d dz : ClassId) (h : Nat) (ad : Nat → Nat) (e up w : Nat → Nat) (on : Nat) (sg nd : Nat → Nat) (hE : pd_Ed e) (hw9 : ∀ v, v < 10 → w v ≤ 9) : MI l yX1_heaviest cX1_heaviest 3 .int 2 45 D [(d, .int), (dz, .boolean)] [.ref h] (wM d dz h ad e up w on sg nd) (fun u : Nat → Nat => (wM d dz h ad e u w on sg nd)) (fun r u => r = nI (pd_mx (pd_anB (pd_up e) on) (pd_ws w) 1024) ∧ ∀ v, v < 10 → u v = pd_up e v) := by
  refine MI_of (by decide) (Nat.le_of_ble_eq_true rfl) ?_
  intro K hl hD hT X R
  subst hl; subst hD
  have X : Cx K cX1_heaviest RX1 (some .int) 3 ({ frames := 2, cells := 0, slots := 0, locals := 45 }) := X
  have t0 : (kT K)[0]? = some (d, .int) := by rw [hT]; rfl
  have t1 : (kT K)[1]? = some (dz, .boolean) := by rw [hT]; rfl
  show Go K 0 0 (wM d dz h ad e up w on sg nd) [(0, .ref h)] 0 []
  refine g_aload_n X dX1_heaviest_0 0 rfl rfl ?_
  refine g_callVv (st := []) (ci := 1) (q := (RX1, TX1, 6)) (wr := []) X (mM_close _ _ d dz h ad e up w on sg nd hE) (lw_V q215 q217 qs11 q21 q218) 0 (by decide +kernel) (by decide) (by decide) rfl rfl rfl [0, 1, 2, 3, 4, 5] [] [0, 1] rfl rfl rfl (by decide) (by decide) (by decide) (by rw [hT]; rfl) rfl (Nat.le_of_ble_eq_true rfl) dX1_heaviest_1 (fun up1 hh1 => ?_)
  show Go K 0 0 (wM d dz h ad e up1 w on sg nd) [(0, .ref h)] 4 []
  refine g_iconst (v := (nI 0)) X dX1_heaviest_4 (by decide) ?_
  refine g_istore_n (L' := [(1, .int (nI 0)), (0, .ref h)]) X dX1_heaviest_5 rfl (by decide) rfl ?_
  refine g_iconst (v := (nI 0)) X dX1_heaviest_6 (by decide) ?_
  refine g_istore_n (L' := [(2, .int (nI 0)), (1, .int (nI 0)), (0, .ref h)]) X dX1_heaviest_7 rfl (by decide) rfl ?_
  have lp8 : ∀ (n : Nat) (k : Nat), (k ≤ 1024) → 1024 - k < n → Go K 0 0 (wM d dz h ad e up1 w on sg nd) [(0, .ref h), (1, .int (nI (pd_mx (pd_anB (pd_up e) on) (pd_ws w) k))), (2, .int (nI k))] 8 [] := by
    intro n
    induction n with
    | zero => intro k hk hm; exact absurd hm (Nat.not_lt_zero _)
    | succ n ih8 =>
      intro k hk hm
      refine g_iload_n X dX1_heaviest_8 2 rfl rfl ?_
      refine g_sipush (v := (nI 1024)) X dX1_heaviest_9 (by decide) ?_
      refine g_icmp_ge (P := 1024 ≤ k) X 44 dX1_heaviest_12 (by decide) (nI_leI (by omega) (by omega)) (fun c12 => ?_) (fun c12 => ?_)
      · refine g_iload_n X dX1_heaviest_44 1 rfl rfl ?_
        exact R up1 (nI (pd_mx (pd_anB (pd_up e) on) (pd_ws w) k)) _ _ ⟨by rw [show k = 1024 by omega], hh1⟩ rfl dX1_heaviest_45
      · refine g_aload_n X dX1_heaviest_15 0 rfl rfl ?_
        refine g_iload_n X dX1_heaviest_16 2 rfl rfl ?_
        refine g_callV (st := []) (ci := 1) (q := (RX1, TX1, 6)) (wr := []) X (mM_anti _ _ d dz h ad e up1 w on sg nd hh1 k (by omega)) (lw_V q239 q241 qs15 q21 q242) 1 (by decide +kernel) (by decide) (by decide) rfl rfl rfl [0, 1, 2, 3, 4, 5] [] [0, 1] rfl rfl rfl (by decide) (by decide) (by decide) (by rw [hT]; rfl) rfl (Nat.le_of_ble_eq_true rfl) dX1_heaviest_17 (fun r u hp => ?_)
        obtain rfl := hp
        show Go K 0 0 (wM d dz h ad e up1 w on sg nd) [(0, .ref h), (1, .int (nI (pd_mx (pd_anB (pd_up e) on) (pd_ws w) k))), (2, .int (nI k))] 20 [.int (nI ((pd_anB (pd_up e) on k).toNat))]
        refine g_if_eq (P := ¬ (pd_anB (pd_up e) on k) = true) X 38 dX1_heaviest_20 (by decide) (pn_bz _) (fun c20 => ?_) (fun c20 => ?_)
        · rw [← pd_mx_n1 (p := (pd_anB (pd_up e) on)) (f := (pd_ws w)) (n := k) c20]
          refine g_iinc (v := (nI (k + 1))) (L' := [(2, .int (nI (k + 1))), (0, .ref h), (1, .int (nI (pd_mx (pd_anB (pd_up e) on) (pd_ws w) (k + 1))))]) X dX1_heaviest_38 2 rfl (pn_inc _) (by decide) rfl ?_
          refine g_goto X 8 dX1_heaviest_41 (by decide) ?_
          refine g_loc (L' := [(0, .ref h), (1, .int (nI (pd_mx (pd_anB (pd_up e) on) (pd_ws w) (k + 1)))), (2, .int (nI (k + 1)))]) [1, 2, 0] rfl ?_
          exact ih8 (k + 1) (by omega) (by omega)
        · have c20 := Decidable.not_not.mp c20
          refine g_aload_n X dX1_heaviest_23 0 rfl rfl ?_
          refine g_iload_n X dX1_heaviest_24 2 rfl rfl ?_
          refine g_callV (st := []) (ci := 1) (q := (RX1, TX1, 6)) (wr := []) X (mM_sum _ _ d dz h ad e up1 w on sg nd k (by omega)) (lw_V q260 q262 qs17 q21 q263) 1 (by decide +kernel) (by decide) (by decide) rfl rfl rfl [0, 1, 2, 3, 4, 5] [] [0, 1] rfl rfl rfl (by decide) (by decide) (by decide) (by rw [hT]; rfl) rfl (Nat.le_of_ble_eq_true rfl) dX1_heaviest_25 (fun r u hp => ?_)
          obtain rfl := hp
          show Go K 0 0 (wM d dz h ad e up1 w on sg nd) [(0, .ref h), (1, .int (nI (pd_mx (pd_anB (pd_up e) on) (pd_ws w) k))), (2, .int (nI k))] 28 [.int (nI (pd_ws w k))]
          refine g_iload_n X dX1_heaviest_28 1 rfl rfl ?_
          refine g_icmp_le (P := pd_ws w k ≤ pd_mx (pd_anB (pd_up e) on) (pd_ws w) k) X 38 dX1_heaviest_29 (by decide) (nI_leI (by have := pd_ws_bd hw9 k; omega) (by have := pd_mx_bd (p := (pd_anB (pd_up e) on)) (f := (pd_ws w)) (pd_ws_bd hw9) k; omega)) (fun c29 => ?_) (fun c29 => ?_)
          · rw [← pd_mx_n2 (p := (pd_anB (pd_up e) on)) (f := (pd_ws w)) (n := k) c29]
            refine g_iinc (v := (nI (k + 1))) (L' := [(2, .int (nI (k + 1))), (0, .ref h), (1, .int (nI (pd_mx (pd_anB (pd_up e) on) (pd_ws w) (k + 1))))]) X dX1_heaviest_38 2 rfl (pn_inc _) (by decide) rfl ?_
            refine g_goto X 8 dX1_heaviest_41 (by decide) ?_
            refine g_loc (L' := [(0, .ref h), (1, .int (nI (pd_mx (pd_anB (pd_up e) on) (pd_ws w) (k + 1)))), (2, .int (nI (k + 1)))]) [1, 2, 0] rfl ?_
            exact ih8 (k + 1) (by omega) (by omega)
          · refine g_aload_n X dX1_heaviest_32 0 rfl rfl ?_
            refine g_iload_n X dX1_heaviest_33 2 rfl rfl ?_
            refine g_callV (st := []) (ci := 1) (q := (RX1, TX1, 6)) (wr := []) X (mM_sum _ _ d dz h ad e up1 w on sg nd k (by omega)) (lw_V q260 q262 qs17 q21 q263) 1 (by decide +kernel) (by decide) (by decide) rfl rfl rfl [0, 1, 2, 3, 4, 5] [] [0, 1] rfl rfl rfl (by decide) (by decide) (by decide) (by rw [hT]; rfl) rfl (Nat.le_of_ble_eq_true rfl) dX1_heaviest_34 (fun r u hp => ?_)
            obtain rfl := hp
            rw [show pd_ws w k = pd_mx (pd_anB (pd_up e) on) (pd_ws w) (k + 1) from (pd_mx_y (p := (pd_anB (pd_up e) on)) (f := (pd_ws w)) (n := k) c20 (Nat.lt_of_not_le c29)).symm]
            show Go K 0 0 (wM d dz h ad e up1 w on sg nd) [(0, .ref h), (1, .int (nI (pd_mx (pd_anB (pd_up e) on) (pd_ws w) k))), (2, .int (nI k))] 37 [.int (nI (pd_mx (pd_anB (pd_up e) on) (pd_ws w) (k + 1)))]
            refine g_istore_n (L' := [(1, .int (nI (pd_mx (pd_anB (pd_up e) on) (pd_ws w) (k + 1)))), (0, .ref h), (2, .int (nI k))]) X dX1_heaviest_37 rfl (by decide) rfl ?_
            refine g_iinc (v := (nI (k + 1))) (L' := [(2, .int (nI (k + 1))), (1, .int (nI (pd_mx (pd_anB (pd_up e) on) (pd_ws w) (k + 1)))), (0, .ref h)]) X dX1_heaviest_38 2 rfl (pn_inc _) (by decide) rfl ?_
            refine g_goto X 8 dX1_heaviest_41 (by decide) ?_
            refine g_loc (L' := [(0, .ref h), (1, .int (nI (pd_mx (pd_anB (pd_up e) on) (pd_ws w) (k + 1)))), (2, .int (nI (k + 1)))]) [2, 1, 0] rfl ?_
            exact ih8 (k + 1) (by omega) (by omega)
  refine g_loc (L' := [(0, .ref h), (1, .int (nI 0)), (2, .int (nI 0))]) [2, 1, 0] rfl ?_
  exact lp8 _ 0 (by omega) (Nat.lt_succ_self _)

set_option maxHeartbeats 4000000 in
set_option maxRecDepth 100000 in
/-- height() -/
theorem mM_height (l : Launch) (D : va_G) (d dz : ClassId) (h : Nat) (ad : Nat → Nat) (e up w : Nat → Nat) (on : Nat) (sg nd : Nat → Nat) (hE : pd_Ed e) (hw9 : ∀ v, v < 10 → w v ≤ 9) : MI l yX1_height cX1_height 3 .int 3 67 D [(d, .int), (dz, .boolean)] [.ref h] (wM d dz h ad e up w on sg nd) (fun u : Nat → Nat => (wM d dz h ad e u w on sg nd)) (fun r u => r = nI (pd_ch (pd_up e) on (pd_ws (fun _ => 1))) ∧ ∀ v, v < 10 → u v = pd_up e v) := by
  refine MI_of (by decide) (Nat.le_of_ble_eq_true rfl) ?_
  intro K hl hD hT X R
  subst hl; subst hD
  have X : Cx K cX1_height RX1 (some .int) 3 ({ frames := 3, cells := 0, slots := 0, locals := 67 }) := X
  have t0 : (kT K)[0]? = some (d, .int) := by rw [hT]; rfl
  have t1 : (kT K)[1]? = some (dz, .boolean) := by rw [hT]; rfl
  show Go K 0 0 (wM d dz h ad e up w on sg nd) [(0, .ref h)] 0 []
  refine g_aload_n X dX1_height_0 0 rfl rfl ?_
  refine g_callVv (st := []) (ci := 1) (q := (RX1, TX1, 6)) (wr := []) X (mM_close _ _ d dz h ad e up w on sg nd hE) (lw_V q215 q217 qs11 q21 q218) 0 (by decide +kernel) (by decide) (by decide) rfl rfl rfl [0, 1, 2, 3, 4, 5] [] [0, 1] rfl rfl rfl (by decide) (by decide) (by decide) (by rw [hT]; rfl) rfl (Nat.le_of_ble_eq_true rfl) dX1_height_1 (fun up1 hh1 => ?_)
  show Go K 0 0 (wM d dz h ad e up1 w on sg nd) [(0, .ref h)] 4 []
  refine g_iconst (v := (nI 0)) X dX1_height_4 (by decide) ?_
  refine g_istore_n (L' := [(1, .int (nI 0)), (0, .ref h)]) X dX1_height_5 rfl (by decide) rfl ?_
  refine g_iconst (v := (nI 0)) X dX1_height_6 (by decide) ?_
  refine g_istore_n (L' := [(2, .int (nI 0)), (1, .int (nI 0)), (0, .ref h)]) X dX1_height_7 rfl (by decide) rfl ?_
  have lp8 : ∀ (n : Nat) (k : Nat), (k ≤ 1024) → 1024 - k < n → Go K 0 0 (wM d dz h ad e up1 w on sg nd) [(0, .ref h), (1, .int (nI (pd_mx (pd_cB (pd_up e) on) pd_bc k))), (2, .int (nI k))] 8 [] := by
    intro n
    induction n with
    | zero => intro k hk hm; exact absurd hm (Nat.not_lt_zero _)
    | succ n ih8 =>
      intro k hk hm
      refine g_iload_n X dX1_height_8 2 rfl rfl ?_
      refine g_sipush (v := (nI 1024)) X dX1_height_9 (by decide) ?_
      refine g_icmp_ge (P := 1024 ≤ k) X 44 dX1_height_12 (by decide) (nI_leI (by omega) (by omega)) (fun c12 => ?_) (fun c12 => ?_)
      · refine g_iload_n X dX1_height_44 1 rfl rfl ?_
        exact R up1 (nI (pd_mx (pd_cB (pd_up e) on) pd_bc k)) _ _ ⟨by rw [show k = 1024 by omega]; rfl, hh1⟩ rfl dX1_height_45
      · refine g_aload_n X dX1_height_15 0 rfl rfl ?_
        refine g_iload_n X dX1_height_16 2 rfl rfl ?_
        refine g_callV (st := []) (ci := 1) (q := (RX1, TX1, 6)) (wr := []) X (mM_chain _ _ d dz h ad e up1 w on sg nd hE hh1 k (by omega)) (lw_V q268 q270 qs18 q21 q271) 1 (by decide +kernel) (by decide) (by decide) rfl rfl rfl [0, 1, 2, 3, 4, 5] [] [0, 1] rfl rfl rfl (by decide) (by decide) (by decide) (by rw [hT]; rfl) rfl (Nat.le_of_ble_eq_true rfl) dX1_height_17 (fun r u hp => ?_)
        obtain rfl := hp
        show Go K 0 0 (wM d dz h ad e up1 w on sg nd) [(0, .ref h), (1, .int (nI (pd_mx (pd_cB (pd_up e) on) pd_bc k))), (2, .int (nI k))] 20 [.int (nI ((pd_cB (pd_up e) on k).toNat))]
        refine g_if_eq (P := ¬ (pd_cB (pd_up e) on k) = true) X 38 dX1_height_20 (by decide) (pn_bz _) (fun c20 => ?_) (fun c20 => ?_)
        · rw [← pd_mx_n1 (p := (pd_cB (pd_up e) on)) (f := pd_bc) (n := k) c20]
          refine g_iinc (v := (nI (k + 1))) (L' := [(2, .int (nI (k + 1))), (0, .ref h), (1, .int (nI (pd_mx (pd_cB (pd_up e) on) pd_bc (k + 1))))]) X dX1_height_38 2 rfl (pn_inc _) (by decide) rfl ?_
          refine g_goto X 8 dX1_height_41 (by decide) ?_
          refine g_loc (L' := [(0, .ref h), (1, .int (nI (pd_mx (pd_cB (pd_up e) on) pd_bc (k + 1)))), (2, .int (nI (k + 1)))]) [1, 2, 0] rfl ?_
          exact ih8 (k + 1) (by omega) (by omega)
        · have c20 := Decidable.not_not.mp c20
          refine g_aload_n X dX1_height_23 0 rfl rfl ?_
          refine g_iload_n X dX1_height_24 2 rfl rfl ?_
          refine g_callV (st := []) (ci := 1) (q := (RX1, TX1, 6)) (wr := []) X (mM_size _ _ d dz h ad e up1 w on sg nd k (by omega)) (lw_V q243 q245 qs16 q21 q246) 1 (by decide +kernel) (by decide) (by decide) rfl rfl rfl [0, 1, 2, 3, 4, 5] [] [0, 1] rfl rfl rfl (by decide) (by decide) (by decide) (by rw [hT]; rfl) rfl (Nat.le_of_ble_eq_true rfl) dX1_height_25 (fun r u hp => ?_)
          obtain rfl := hp
          show Go K 0 0 (wM d dz h ad e up1 w on sg nd) [(0, .ref h), (1, .int (nI (pd_mx (pd_cB (pd_up e) on) pd_bc k))), (2, .int (nI k))] 28 [.int (nI (pd_bc k))]
          refine g_iload_n X dX1_height_28 1 rfl rfl ?_
          refine g_icmp_le (P := pd_bc k ≤ pd_mx (pd_cB (pd_up e) on) pd_bc k) X 38 dX1_height_29 (by decide) (nI_leI (by have := pd_bc_le k; omega) (by have := pd_mx_bd (p := (pd_cB (pd_up e) on)) (f := pd_bc) (pd_bc_le) k; omega)) (fun c29 => ?_) (fun c29 => ?_)
          · rw [← pd_mx_n2 (p := (pd_cB (pd_up e) on)) (f := pd_bc) (n := k) c29]
            refine g_iinc (v := (nI (k + 1))) (L' := [(2, .int (nI (k + 1))), (0, .ref h), (1, .int (nI (pd_mx (pd_cB (pd_up e) on) pd_bc (k + 1))))]) X dX1_height_38 2 rfl (pn_inc _) (by decide) rfl ?_
            refine g_goto X 8 dX1_height_41 (by decide) ?_
            refine g_loc (L' := [(0, .ref h), (1, .int (nI (pd_mx (pd_cB (pd_up e) on) pd_bc (k + 1)))), (2, .int (nI (k + 1)))]) [1, 2, 0] rfl ?_
            exact ih8 (k + 1) (by omega) (by omega)
          · refine g_aload_n X dX1_height_32 0 rfl rfl ?_
            refine g_iload_n X dX1_height_33 2 rfl rfl ?_
            refine g_callV (st := []) (ci := 1) (q := (RX1, TX1, 6)) (wr := []) X (mM_size _ _ d dz h ad e up1 w on sg nd k (by omega)) (lw_V q243 q245 qs16 q21 q246) 1 (by decide +kernel) (by decide) (by decide) rfl rfl rfl [0, 1, 2, 3, 4, 5] [] [0, 1] rfl rfl rfl (by decide) (by decide) (by decide) (by rw [hT]; rfl) rfl (Nat.le_of_ble_eq_true rfl) dX1_height_34 (fun r u hp => ?_)
            obtain rfl := hp
            rw [show pd_bc k = pd_mx (pd_cB (pd_up e) on) pd_bc (k + 1) from (pd_mx_y (p := (pd_cB (pd_up e) on)) (f := pd_bc) (n := k) c20 (Nat.lt_of_not_le c29)).symm]
            show Go K 0 0 (wM d dz h ad e up1 w on sg nd) [(0, .ref h), (1, .int (nI (pd_mx (pd_cB (pd_up e) on) pd_bc k))), (2, .int (nI k))] 37 [.int (nI (pd_mx (pd_cB (pd_up e) on) pd_bc (k + 1)))]
            refine g_istore_n (L' := [(1, .int (nI (pd_mx (pd_cB (pd_up e) on) pd_bc (k + 1)))), (0, .ref h), (2, .int (nI k))]) X dX1_height_37 rfl (by decide) rfl ?_
            refine g_iinc (v := (nI (k + 1))) (L' := [(2, .int (nI (k + 1))), (1, .int (nI (pd_mx (pd_cB (pd_up e) on) pd_bc (k + 1)))), (0, .ref h)]) X dX1_height_38 2 rfl (pn_inc _) (by decide) rfl ?_
            refine g_goto X 8 dX1_height_41 (by decide) ?_
            refine g_loc (L' := [(0, .ref h), (1, .int (nI (pd_mx (pd_cB (pd_up e) on) pd_bc (k + 1)))), (2, .int (nI (k + 1)))]) [2, 1, 0] rfl ?_
            exact ih8 (k + 1) (by omega) (by omega)
  refine g_loc (L' := [(0, .ref h), (1, .int (nI 0)), (2, .int (nI 0))]) [2, 1, 0] rfl ?_
  exact lp8 _ 0 (by omega) (Nat.lt_succ_self _)

set_option maxHeartbeats 4000000 in
set_option maxRecDepth 100000 in
/-- heaviestChain() -/
theorem mM_heaviestChain (l : Launch) (D : va_G) (d dz : ClassId) (h : Nat) (ad : Nat → Nat) (e up w : Nat → Nat) (on : Nat) (sg nd : Nat → Nat) (hE : pd_Ed e) (hw9 : ∀ v, v < 10 → w v ≤ 9) : MI l yX1_heaviestChain cX1_heaviestChain 3 .int 3 67 D [(d, .int), (dz, .boolean)] [.ref h] (wM d dz h ad e up w on sg nd) (fun u : Nat → Nat => (wM d dz h ad e u w on sg nd)) (fun r u => r = nI (pd_ch (pd_up e) on (pd_ws w)) ∧ ∀ v, v < 10 → u v = pd_up e v) := by
  refine MI_of (by decide) (Nat.le_of_ble_eq_true rfl) ?_
  intro K hl hD hT X R
  subst hl; subst hD
  have X : Cx K cX1_heaviestChain RX1 (some .int) 3 ({ frames := 3, cells := 0, slots := 0, locals := 67 }) := X
  have t0 : (kT K)[0]? = some (d, .int) := by rw [hT]; rfl
  have t1 : (kT K)[1]? = some (dz, .boolean) := by rw [hT]; rfl
  show Go K 0 0 (wM d dz h ad e up w on sg nd) [(0, .ref h)] 0 []
  refine g_aload_n X dX1_heaviestChain_0 0 rfl rfl ?_
  refine g_callVv (st := []) (ci := 1) (q := (RX1, TX1, 6)) (wr := []) X (mM_close _ _ d dz h ad e up w on sg nd hE) (lw_V q215 q217 qs11 q21 q218) 0 (by decide +kernel) (by decide) (by decide) rfl rfl rfl [0, 1, 2, 3, 4, 5] [] [0, 1] rfl rfl rfl (by decide) (by decide) (by decide) (by rw [hT]; rfl) rfl (Nat.le_of_ble_eq_true rfl) dX1_heaviestChain_1 (fun up1 hh1 => ?_)
  show Go K 0 0 (wM d dz h ad e up1 w on sg nd) [(0, .ref h)] 4 []
  refine g_iconst (v := (nI 0)) X dX1_heaviestChain_4 (by decide) ?_
  refine g_istore_n (L' := [(1, .int (nI 0)), (0, .ref h)]) X dX1_heaviestChain_5 rfl (by decide) rfl ?_
  refine g_iconst (v := (nI 0)) X dX1_heaviestChain_6 (by decide) ?_
  refine g_istore_n (L' := [(2, .int (nI 0)), (1, .int (nI 0)), (0, .ref h)]) X dX1_heaviestChain_7 rfl (by decide) rfl ?_
  have lp8 : ∀ (n : Nat) (k : Nat), (k ≤ 1024) → 1024 - k < n → Go K 0 0 (wM d dz h ad e up1 w on sg nd) [(0, .ref h), (1, .int (nI (pd_mx (pd_cB (pd_up e) on) (pd_ws w) k))), (2, .int (nI k))] 8 [] := by
    intro n
    induction n with
    | zero => intro k hk hm; exact absurd hm (Nat.not_lt_zero _)
    | succ n ih8 =>
      intro k hk hm
      refine g_iload_n X dX1_heaviestChain_8 2 rfl rfl ?_
      refine g_sipush (v := (nI 1024)) X dX1_heaviestChain_9 (by decide) ?_
      refine g_icmp_ge (P := 1024 ≤ k) X 44 dX1_heaviestChain_12 (by decide) (nI_leI (by omega) (by omega)) (fun c12 => ?_) (fun c12 => ?_)
      · refine g_iload_n X dX1_heaviestChain_44 1 rfl rfl ?_
        exact R up1 (nI (pd_mx (pd_cB (pd_up e) on) (pd_ws w) k)) _ _ ⟨by rw [show k = 1024 by omega]; rfl, hh1⟩ rfl dX1_heaviestChain_45
      · refine g_aload_n X dX1_heaviestChain_15 0 rfl rfl ?_
        refine g_iload_n X dX1_heaviestChain_16 2 rfl rfl ?_
        refine g_callV (st := []) (ci := 1) (q := (RX1, TX1, 6)) (wr := []) X (mM_chain _ _ d dz h ad e up1 w on sg nd hE hh1 k (by omega)) (lw_V q268 q270 qs18 q21 q271) 1 (by decide +kernel) (by decide) (by decide) rfl rfl rfl [0, 1, 2, 3, 4, 5] [] [0, 1] rfl rfl rfl (by decide) (by decide) (by decide) (by rw [hT]; rfl) rfl (Nat.le_of_ble_eq_true rfl) dX1_heaviestChain_17 (fun r u hp => ?_)
        obtain rfl := hp
        show Go K 0 0 (wM d dz h ad e up1 w on sg nd) [(0, .ref h), (1, .int (nI (pd_mx (pd_cB (pd_up e) on) (pd_ws w) k))), (2, .int (nI k))] 20 [.int (nI ((pd_cB (pd_up e) on k).toNat))]
        refine g_if_eq (P := ¬ (pd_cB (pd_up e) on k) = true) X 38 dX1_heaviestChain_20 (by decide) (pn_bz _) (fun c20 => ?_) (fun c20 => ?_)
        · rw [← pd_mx_n1 (p := (pd_cB (pd_up e) on)) (f := (pd_ws w)) (n := k) c20]
          refine g_iinc (v := (nI (k + 1))) (L' := [(2, .int (nI (k + 1))), (0, .ref h), (1, .int (nI (pd_mx (pd_cB (pd_up e) on) (pd_ws w) (k + 1))))]) X dX1_heaviestChain_38 2 rfl (pn_inc _) (by decide) rfl ?_
          refine g_goto X 8 dX1_heaviestChain_41 (by decide) ?_
          refine g_loc (L' := [(0, .ref h), (1, .int (nI (pd_mx (pd_cB (pd_up e) on) (pd_ws w) (k + 1)))), (2, .int (nI (k + 1)))]) [1, 2, 0] rfl ?_
          exact ih8 (k + 1) (by omega) (by omega)
        · have c20 := Decidable.not_not.mp c20
          refine g_aload_n X dX1_heaviestChain_23 0 rfl rfl ?_
          refine g_iload_n X dX1_heaviestChain_24 2 rfl rfl ?_
          refine g_callV (st := []) (ci := 1) (q := (RX1, TX1, 6)) (wr := []) X (mM_sum _ _ d dz h ad e up1 w on sg nd k (by omega)) (lw_V q260 q262 qs17 q21 q263) 1 (by decide +kernel) (by decide) (by decide) rfl rfl rfl [0, 1, 2, 3, 4, 5] [] [0, 1] rfl rfl rfl (by decide) (by decide) (by decide) (by rw [hT]; rfl) rfl (Nat.le_of_ble_eq_true rfl) dX1_heaviestChain_25 (fun r u hp => ?_)
          obtain rfl := hp
          show Go K 0 0 (wM d dz h ad e up1 w on sg nd) [(0, .ref h), (1, .int (nI (pd_mx (pd_cB (pd_up e) on) (pd_ws w) k))), (2, .int (nI k))] 28 [.int (nI (pd_ws w k))]
          refine g_iload_n X dX1_heaviestChain_28 1 rfl rfl ?_
          refine g_icmp_le (P := pd_ws w k ≤ pd_mx (pd_cB (pd_up e) on) (pd_ws w) k) X 38 dX1_heaviestChain_29 (by decide) (nI_leI (by have := pd_ws_bd hw9 k; omega) (by have := pd_mx_bd (p := (pd_cB (pd_up e) on)) (f := (pd_ws w)) (pd_ws_bd hw9) k; omega)) (fun c29 => ?_) (fun c29 => ?_)
          · rw [← pd_mx_n2 (p := (pd_cB (pd_up e) on)) (f := (pd_ws w)) (n := k) c29]
            refine g_iinc (v := (nI (k + 1))) (L' := [(2, .int (nI (k + 1))), (0, .ref h), (1, .int (nI (pd_mx (pd_cB (pd_up e) on) (pd_ws w) (k + 1))))]) X dX1_heaviestChain_38 2 rfl (pn_inc _) (by decide) rfl ?_
            refine g_goto X 8 dX1_heaviestChain_41 (by decide) ?_
            refine g_loc (L' := [(0, .ref h), (1, .int (nI (pd_mx (pd_cB (pd_up e) on) (pd_ws w) (k + 1)))), (2, .int (nI (k + 1)))]) [1, 2, 0] rfl ?_
            exact ih8 (k + 1) (by omega) (by omega)
          · refine g_aload_n X dX1_heaviestChain_32 0 rfl rfl ?_
            refine g_iload_n X dX1_heaviestChain_33 2 rfl rfl ?_
            refine g_callV (st := []) (ci := 1) (q := (RX1, TX1, 6)) (wr := []) X (mM_sum _ _ d dz h ad e up1 w on sg nd k (by omega)) (lw_V q260 q262 qs17 q21 q263) 1 (by decide +kernel) (by decide) (by decide) rfl rfl rfl [0, 1, 2, 3, 4, 5] [] [0, 1] rfl rfl rfl (by decide) (by decide) (by decide) (by rw [hT]; rfl) rfl (Nat.le_of_ble_eq_true rfl) dX1_heaviestChain_34 (fun r u hp => ?_)
            obtain rfl := hp
            rw [show pd_ws w k = pd_mx (pd_cB (pd_up e) on) (pd_ws w) (k + 1) from (pd_mx_y (p := (pd_cB (pd_up e) on)) (f := (pd_ws w)) (n := k) c20 (Nat.lt_of_not_le c29)).symm]
            show Go K 0 0 (wM d dz h ad e up1 w on sg nd) [(0, .ref h), (1, .int (nI (pd_mx (pd_cB (pd_up e) on) (pd_ws w) k))), (2, .int (nI k))] 37 [.int (nI (pd_mx (pd_cB (pd_up e) on) (pd_ws w) (k + 1)))]
            refine g_istore_n (L' := [(1, .int (nI (pd_mx (pd_cB (pd_up e) on) (pd_ws w) (k + 1)))), (0, .ref h), (2, .int (nI k))]) X dX1_heaviestChain_37 rfl (by decide) rfl ?_
            refine g_iinc (v := (nI (k + 1))) (L' := [(2, .int (nI (k + 1))), (1, .int (nI (pd_mx (pd_cB (pd_up e) on) (pd_ws w) (k + 1)))), (0, .ref h)]) X dX1_heaviestChain_38 2 rfl (pn_inc _) (by decide) rfl ?_
            refine g_goto X 8 dX1_heaviestChain_41 (by decide) ?_
            refine g_loc (L' := [(0, .ref h), (1, .int (nI (pd_mx (pd_cB (pd_up e) on) (pd_ws w) (k + 1)))), (2, .int (nI (k + 1)))]) [2, 1, 0] rfl ?_
            exact ih8 (k + 1) (by omega) (by omega)
  refine g_loc (L' := [(0, .ref h), (1, .int (nI 0)), (2, .int (nI 0))]) [2, 1, 0] rfl ?_
  exact lp8 _ 0 (by omega) (Nat.lt_succ_self _)

set_option maxHeartbeats 4000000 in
set_option maxRecDepth 100000 in
/-- antichains() -/
theorem mM_antichains (l : Launch) (D : va_G) (d dz : ClassId) (h : Nat) (ad : Nat → Nat) (e up w : Nat → Nat) (on : Nat) (sg nd : Nat → Nat) (hE : pd_Ed e) (hw9 : ∀ v, v < 10 → w v ≤ 9) : MI l yX1_antichains cX1_antichains 3 .int 2 44 D [(d, .int), (dz, .boolean)] [.ref h] (wM d dz h ad e up w on sg nd) (fun u : Nat → Nat => (wM d dz h ad e u w on sg nd)) (fun r u => r = nI (pd_cn (pd_up e) on) ∧ ∀ v, v < 10 → u v = pd_up e v) := by
  refine MI_of (by decide) (Nat.le_of_ble_eq_true rfl) ?_
  intro K hl hD hT X R
  subst hl; subst hD
  have X : Cx K cX1_antichains RX1 (some .int) 3 ({ frames := 2, cells := 0, slots := 0, locals := 44 }) := X
  have t0 : (kT K)[0]? = some (d, .int) := by rw [hT]; rfl
  have t1 : (kT K)[1]? = some (dz, .boolean) := by rw [hT]; rfl
  show Go K 0 0 (wM d dz h ad e up w on sg nd) [(0, .ref h)] 0 []
  refine g_aload_n X dX1_antichains_0 0 rfl rfl ?_
  refine g_callVv (st := []) (ci := 1) (q := (RX1, TX1, 6)) (wr := []) X (mM_close _ _ d dz h ad e up w on sg nd hE) (lw_V q215 q217 qs11 q21 q218) 0 (by decide +kernel) (by decide) (by decide) rfl rfl rfl [0, 1, 2, 3, 4, 5] [] [0, 1] rfl rfl rfl (by decide) (by decide) (by decide) (by rw [hT]; rfl) rfl (Nat.le_of_ble_eq_true rfl) dX1_antichains_1 (fun up1 hh1 => ?_)
  show Go K 0 0 (wM d dz h ad e up1 w on sg nd) [(0, .ref h)] 4 []
  refine g_iconst (v := (nI 0)) X dX1_antichains_4 (by decide) ?_
  refine g_istore_n (L' := [(1, .int (nI 0)), (0, .ref h)]) X dX1_antichains_5 rfl (by decide) rfl ?_
  refine g_iconst (v := (nI 0)) X dX1_antichains_6 (by decide) ?_
  refine g_istore_n (L' := [(2, .int (nI 0)), (1, .int (nI 0)), (0, .ref h)]) X dX1_antichains_7 rfl (by decide) rfl ?_
  have lp8 : ∀ (n : Nat) (k : Nat), (k ≤ 1024) → 1024 - k < n → Go K 0 0 (wM d dz h ad e up1 w on sg nd) [(0, .ref h), (1, .int (nI (pd_ck (pd_up e) on k))), (2, .int (nI k))] 8 [] := by
    intro n
    induction n with
    | zero => intro k hk hm; exact absurd hm (Nat.not_lt_zero _)
    | succ n ih8 =>
      intro k hk hm
      refine g_iload_n X dX1_antichains_8 2 rfl rfl ?_
      refine g_sipush (v := (nI 1024)) X dX1_antichains_9 (by decide) ?_
      refine g_icmp_ge (P := 1024 ≤ k) X 32 dX1_antichains_12 (by decide) (nI_leI (by omega) (by omega)) (fun c12 => ?_) (fun c12 => ?_)
      · refine g_iload_n X dX1_antichains_32 1 rfl rfl ?_
        exact R up1 (nI (pd_ck (pd_up e) on k)) _ _ ⟨by rw [show k = 1024 by omega]; rfl, hh1⟩ rfl dX1_antichains_33
      · refine g_aload_n X dX1_antichains_15 0 rfl rfl ?_
        refine g_iload_n X dX1_antichains_16 2 rfl rfl ?_
        refine g_callV (st := []) (ci := 1) (q := (RX1, TX1, 6)) (wr := []) X (mM_anti _ _ d dz h ad e up1 w on sg nd hh1 k (by omega)) (lw_V q239 q241 qs15 q21 q242) 1 (by decide +kernel) (by decide) (by decide) rfl rfl rfl [0, 1, 2, 3, 4, 5] [] [0, 1] rfl rfl rfl (by decide) (by decide) (by decide) (by rw [hT]; rfl) rfl (Nat.le_of_ble_eq_true rfl) dX1_antichains_17 (fun r u hp => ?_)
        obtain rfl := hp
        show Go K 0 0 (wM d dz h ad e up1 w on sg nd) [(0, .ref h), (1, .int (nI (pd_ck (pd_up e) on k))), (2, .int (nI k))] 20 [.int (nI ((pd_anB (pd_up e) on k).toNat))]
        refine g_if_eq (P := ¬ (pd_anB (pd_up e) on k) = true) X 26 dX1_antichains_20 (by decide) (pn_bz _) (fun c20 => ?_) (fun c20 => ?_)
        · rw [← pd_ck_n c20]
          refine g_iinc (v := (nI (k + 1))) (L' := [(2, .int (nI (k + 1))), (0, .ref h), (1, .int (nI (pd_ck (pd_up e) on (k + 1))))]) X dX1_antichains_26 2 rfl (pn_inc _) (by decide) rfl ?_
          refine g_goto X 8 dX1_antichains_29 (by decide) ?_
          refine g_loc (L' := [(0, .ref h), (1, .int (nI (pd_ck (pd_up e) on (k + 1)))), (2, .int (nI (k + 1)))]) [1, 2, 0] rfl ?_
          exact ih8 (k + 1) (by omega) (by omega)
        · refine g_iinc (v := (nI (pd_ck (pd_up e) on (k + 1)))) (L' := [(1, .int (nI (pd_ck (pd_up e) on (k + 1)))), (0, .ref h), (2, .int (nI k))]) X dX1_antichains_23 1 rfl ((pn_inc _).trans (congrArg nI (pd_ck_y (Decidable.not_not.mp c20)).symm)) (by decide) rfl ?_
          refine g_iinc (v := (nI (k + 1))) (L' := [(2, .int (nI (k + 1))), (1, .int (nI (pd_ck (pd_up e) on (k + 1)))), (0, .ref h)]) X dX1_antichains_26 2 rfl (pn_inc _) (by decide) rfl ?_
          refine g_goto X 8 dX1_antichains_29 (by decide) ?_
          refine g_loc (L' := [(0, .ref h), (1, .int (nI (pd_ck (pd_up e) on (k + 1)))), (2, .int (nI (k + 1)))]) [2, 1, 0] rfl ?_
          exact ih8 (k + 1) (by omega) (by omega)
  refine g_loc (L' := [(0, .ref h), (1, .int (nI 0)), (2, .int (nI 0))]) [2, 1, 0] rfl ?_
  exact lp8 _ 0 (by omega) (Nat.lt_succ_self _)

set_option maxHeartbeats 4000000 in
set_option maxRecDepth 100000 in
/-- apart() -/
theorem mM_apart (l : Launch) (D : va_G) (d dz : ClassId) (h : Nat) (ad : Nat → Nat) (e up w : Nat → Nat) (on : Nat) (sg nd : Nat → Nat) (hE : pd_Ed e) (hon : on < 1024) : MI l yX1_apart cX1_apart 4 .int 2 44 D [(d, .int), (dz, .boolean)] [.ref h] (wM d dz h ad e up w on sg nd) (fun u : Nat → Nat => (wM d dz h ad e u w on sg nd)) (fun r u => r = nI (pd_ap (pd_up e) on 10) ∧ ∀ v, v < 10 → u v = pd_up e v) := by
  refine MI_of (by decide) (Nat.le_of_ble_eq_true rfl) ?_
  intro K hl hD hT X R
  subst hl; subst hD
  have X : Cx K cX1_apart RX1 (some .int) 4 ({ frames := 2, cells := 0, slots := 0, locals := 44 }) := X
  have t0 : (kT K)[0]? = some (d, .int) := by rw [hT]; rfl
  have t1 : (kT K)[1]? = some (dz, .boolean) := by rw [hT]; rfl
  show Go K 0 0 (wM d dz h ad e up w on sg nd) [(0, .ref h)] 0 []
  refine g_aload_n X dX1_apart_0 0 rfl rfl ?_
  refine g_callVv (st := []) (ci := 1) (q := (RX1, TX1, 6)) (wr := []) X (mM_close _ _ d dz h ad e up w on sg nd hE) (lw_V q215 q217 qs11 q21 q218) 0 (by decide +kernel) (by decide) (by decide) rfl rfl rfl [0, 1, 2, 3, 4, 5] [] [0, 1] rfl rfl rfl (by decide) (by decide) (by decide) (by rw [hT]; rfl) rfl (Nat.le_of_ble_eq_true rfl) dX1_apart_1 (fun up1 hh1 => ?_)
  show Go K 0 0 (wM d dz h ad e up1 w on sg nd) [(0, .ref h)] 4 []
  refine g_iconst (v := (nI 0)) X dX1_apart_4 (by decide) ?_
  refine g_istore_n (L' := [(1, .int (nI 0)), (0, .ref h)]) X dX1_apart_5 rfl (by decide) rfl ?_
  refine g_iconst (v := (nI 0)) X dX1_apart_6 (by decide) ?_
  refine g_istore_n (L' := [(2, .int (nI 0)), (1, .int (nI 0)), (0, .ref h)]) X dX1_apart_7 rfl (by decide) rfl ?_
  have lp8 : ∀ (n : Nat) (a : Nat), (a ≤ 10) → 10 - a < n → Go K 0 0 (wM d dz h ad e up1 w on sg nd) [(0, .ref h), (1, .int (nI (pd_ap (pd_up e) on a))), (2, .int (nI a))] 8 [] := by
    intro n
    induction n with
    | zero => intro a ha hm; exact absurd hm (Nat.not_lt_zero _)
    | succ n ih8 =>
      intro a ha hm
      refine g_iload_n X dX1_apart_8 2 rfl rfl ?_
      refine g_bipush (v := (nI 10)) X dX1_apart_9 (by decide) ?_
      refine g_icmp_ge (P := 10 ≤ a) X 77 dX1_apart_11 (by decide) (nI_leI (by omega) (by omega)) (fun c11 => ?_) (fun c11 => ?_)
      · refine g_iload_n X dX1_apart_77 1 rfl rfl ?_
        exact R up1 (nI (pd_ap (pd_up e) on a)) _ _ ⟨by rw [show a = 10 by omega], hh1⟩ rfl dX1_apart_78
      · have hb : pd_up e a < 1024 := pd_up_lt hE (by omega)
        refine g_iload_n X dX1_apart_14 2 rfl rfl ?_
        refine g_iconst (v := (nI 1)) X dX1_apart_15 (by decide) ?_
        refine g_iadd (v := (nI (a + 1))) X dX1_apart_16 (nI_add _ _) ?_
        refine g_istore_n (L' := [(3, .int (nI (a + 1))), (0, .ref h), (1, .int (nI (pd_ap (pd_up e) on a))), (2, .int (nI a))]) X dX1_apart_17 rfl (by decide) rfl ?_
        have lp18 : ∀ (n : Nat) (b : Nat), (a + 1 ≤ b) → (b ≤ 10) → 10 - b < n → Go K 0 0 (wM d dz h ad e up1 w on sg nd) [(0, .ref h), (1, .int (nI ((pd_ap (pd_up e) on a) + (pd_ar (pd_up e) on a b)))), (2, .int (nI a)), (3, .int (nI b))] 18 [] := by
          intro n
          induction n with
          | zero => intro b hb1 hb2 hm; exact absurd hm (Nat.not_lt_zero _)
          | succ n ih18 =>
            intro b hb1 hb2 hm
            refine g_iload_n X dX1_apart_18 3 rfl rfl ?_
            refine g_bipush (v := (nI 10)) X dX1_apart_19 (by decide) ?_
            refine g_icmp_ge (P := 10 ≤ b) X 71 dX1_apart_21 (by decide) (nI_leI (by omega) (by omega)) (fun c21 => ?_) (fun c21 => ?_)
            · rw [show b = 10 by omega]
              refine g_iinc (v := (nI (a + 1))) (L' := [(2, .int (nI (a + 1))), (0, .ref h), (1, .int (nI ((pd_ap (pd_up e) on a) + (pd_ar (pd_up e) on a 10)))), (3, .int (nI 10))]) X dX1_apart_71 2 rfl (pn_inc _) (by decide) rfl ?_
              refine g_goto X 8 dX1_apart_74 (by decide) ?_
              refine g_loc (L' := [(0, .ref h), (1, .int (nI ((pd_ap (pd_up e) on a) + (pd_ar (pd_up e) on a 10)))), (2, .int (nI (a + 1)))]) [1, 2, 0] rfl ?_
              exact ih8 (a + 1) (by omega) (by omega)
            · refine g_aload_n X dX1_apart_24 0 rfl rfl ?_
              refine g_aload_n X dX1_apart_25 0 rfl rfl ?_
              refine g_get X in_X1 0 rfl rfl 3 (by decide) q178 rfl dX1_apart_26 ?_
              refine g_iload_n X dX1_apart_29 2 rfl rfl ?_
              refine g_callV (st := []) (ci := 1) (q := (RX1, TX1, 6)) (wr := []) X (mM_has _ _ d dz h ad e up1 w on sg nd on a (by omega) (by omega)) (lw_V q219 q221 qs12 q21 q222) 2 (by decide +kernel) (by decide) (by decide) rfl rfl rfl [0, 1, 2, 3, 4, 5] [] [0, 1] rfl rfl rfl (by decide) (by decide) (by decide) (by rw [hT]; rfl) rfl (Nat.le_of_ble_eq_true rfl) dX1_apart_30 (fun r u hp => ?_)
              obtain rfl := hp
              show Go K 0 0 (wM d dz h ad e up1 w on sg nd) [(0, .ref h), (1, .int (nI ((pd_ap (pd_up e) on a) + (pd_ar (pd_up e) on a b)))), (2, .int (nI a)), (3, .int (nI b))] 33 [.int (nI ((on.testBit a).toNat))]
              refine g_if_eq (P := ¬ (on.testBit a) = true) X 65 dX1_apart_33 (by decide) (pn_bz _) (fun c33 => ?_) (fun c33 => ?_)
              · rw [← pd_ar_n (U := pd_up e) (on := on) (a := a) (b := b) (fun z => c33 z.1)]
                refine g_iinc (v := (nI (b + 1))) (L' := [(3, .int (nI (b + 1))), (0, .ref h), (1, .int (nI ((pd_ap (pd_up e) on a) + (pd_ar (pd_up e) on a (b + 1))))), (2, .int (nI a))]) X dX1_apart_65 3 rfl (pn_inc _) (by decide) rfl ?_
                refine g_goto X 18 dX1_apart_68 (by decide) ?_
                refine g_loc (L' := [(0, .ref h), (1, .int (nI ((pd_ap (pd_up e) on a) + (pd_ar (pd_up e) on a (b + 1))))), (2, .int (nI a)), (3, .int (nI (b + 1)))]) [1, 2, 3, 0] rfl ?_
                exact ih18 (b + 1) (by omega) (by omega) (by omega)
              · have c33 := Decidable.not_not.mp c33
                refine g_aload_n X dX1_apart_36 0 rfl rfl ?_
                refine g_aload_n X dX1_apart_37 0 rfl rfl ?_
                refine g_get X in_X1 0 rfl rfl 3 (by decide) q178 rfl dX1_apart_38 ?_
                refine g_iload_n X dX1_apart_41 3 rfl rfl ?_
                refine g_callV (st := []) (ci := 1) (q := (RX1, TX1, 6)) (wr := []) X (mM_has _ _ d dz h ad e up1 w on sg nd on b (by omega) (by omega)) (lw_V q219 q221 qs12 q21 q222) 2 (by decide +kernel) (by decide) (by decide) rfl rfl rfl [0, 1, 2, 3, 4, 5] [] [0, 1] rfl rfl rfl (by decide) (by decide) (by decide) (by rw [hT]; rfl) rfl (Nat.le_of_ble_eq_true rfl) dX1_apart_42 (fun r u hp => ?_)
                obtain rfl := hp
                show Go K 0 0 (wM d dz h ad e up1 w on sg nd) [(0, .ref h), (1, .int (nI ((pd_ap (pd_up e) on a) + (pd_ar (pd_up e) on a b)))), (2, .int (nI a)), (3, .int (nI b))] 45 [.int (nI ((on.testBit b).toNat))]
                refine g_if_eq (P := ¬ (on.testBit b) = true) X 65 dX1_apart_45 (by decide) (pn_bz _) (fun c45 => ?_) (fun c45 => ?_)
                · rw [← pd_ar_n (U := pd_up e) (on := on) (a := a) (b := b) (fun z => c45 z.2.1)]
                  refine g_iinc (v := (nI (b + 1))) (L' := [(3, .int (nI (b + 1))), (0, .ref h), (1, .int (nI ((pd_ap (pd_up e) on a) + (pd_ar (pd_up e) on a (b + 1))))), (2, .int (nI a))]) X dX1_apart_65 3 rfl (pn_inc _) (by decide) rfl ?_
                  refine g_goto X 18 dX1_apart_68 (by decide) ?_
                  refine g_loc (L' := [(0, .ref h), (1, .int (nI ((pd_ap (pd_up e) on a) + (pd_ar (pd_up e) on a (b + 1))))), (2, .int (nI a)), (3, .int (nI (b + 1)))]) [1, 2, 3, 0] rfl ?_
                  exact ih18 (b + 1) (by omega) (by omega) (by omega)
                · have c45 := Decidable.not_not.mp c45
                  refine g_aload_n X dX1_apart_48 0 rfl rfl ?_
                  refine g_aload_n X dX1_apart_49 0 rfl rfl ?_
                  refine g_get X in_X1 0 rfl rfl 1 (by decide) q176 rfl dX1_apart_50 ?_
                  refine g_iload_n X dX1_apart_53 2 rfl rfl ?_
                  refine g_iald (v := (nI (pd_up e a))) X 2 0 rfl t0 (by omega) (by decide) (congrArg nI (hh1 a (by omega))) dX1_apart_54 ?_
                  refine g_iload_n X dX1_apart_55 3 rfl rfl ?_
                  refine g_callV (st := []) (ci := 1) (q := (RX1, TX1, 6)) (wr := []) X (mM_has _ _ d dz h ad e up1 w on sg nd (pd_up e a) b (by omega) (by omega)) (lw_V q219 q221 qs12 q21 q222) 2 (by decide +kernel) (by decide) (by decide) rfl rfl rfl [0, 1, 2, 3, 4, 5] [] [0, 1] rfl rfl rfl (by decide) (by decide) (by decide) (by rw [hT]; rfl) rfl (Nat.le_of_ble_eq_true rfl) dX1_apart_56 (fun r u hp => ?_)
                  obtain rfl := hp
                  show Go K 0 0 (wM d dz h ad e up1 w on sg nd) [(0, .ref h), (1, .int (nI ((pd_ap (pd_up e) on a) + (pd_ar (pd_up e) on a b)))), (2, .int (nI a)), (3, .int (nI b))] 59 [.int (nI (((pd_up e a).testBit b).toNat))]
                  refine g_if_ne (P := ¬ ((pd_up e a).testBit b) = true) X 65 dX1_apart_59 (by decide) (pn_bz _) (fun c59 => ?_) (fun c59 => ?_)
                  · rw [← pd_ar_n (U := pd_up e) (on := on) (a := a) (b := b) (fun z => c59 z.2.2)]
                    refine g_iinc (v := (nI (b + 1))) (L' := [(3, .int (nI (b + 1))), (0, .ref h), (1, .int (nI ((pd_ap (pd_up e) on a) + (pd_ar (pd_up e) on a (b + 1))))), (2, .int (nI a))]) X dX1_apart_65 3 rfl (pn_inc _) (by decide) rfl ?_
                    refine g_goto X 18 dX1_apart_68 (by decide) ?_
                    refine g_loc (L' := [(0, .ref h), (1, .int (nI ((pd_ap (pd_up e) on a) + (pd_ar (pd_up e) on a (b + 1))))), (2, .int (nI a)), (3, .int (nI (b + 1)))]) [1, 2, 3, 0] rfl ?_
                    exact ih18 (b + 1) (by omega) (by omega) (by omega)
                  · refine g_iinc (v := (nI ((pd_ap (pd_up e) on a) + (pd_ar (pd_up e) on a (b + 1))))) (L' := [(1, .int (nI ((pd_ap (pd_up e) on a) + (pd_ar (pd_up e) on a (b + 1))))), (0, .ref h), (2, .int (nI a)), (3, .int (nI b))]) X dX1_apart_62 1 rfl ((pn_inc _).trans (congrArg nI (by rw [pd_ar_y (by omega) c33 c45 c59]; rfl))) (by decide) rfl ?_
                    refine g_iinc (v := (nI (b + 1))) (L' := [(3, .int (nI (b + 1))), (1, .int (nI ((pd_ap (pd_up e) on a) + (pd_ar (pd_up e) on a (b + 1))))), (0, .ref h), (2, .int (nI a))]) X dX1_apart_65 3 rfl (pn_inc _) (by decide) rfl ?_
                    refine g_goto X 18 dX1_apart_68 (by decide) ?_
                    refine g_loc (L' := [(0, .ref h), (1, .int (nI ((pd_ap (pd_up e) on a) + (pd_ar (pd_up e) on a (b + 1))))), (2, .int (nI a)), (3, .int (nI (b + 1)))]) [2, 1, 3, 0] rfl ?_
                    exact ih18 (b + 1) (by omega) (by omega) (by omega)
        refine g_eq (L' := [(3, .int (nI (a + 1))), (0, .ref h), (1, .int (nI ((pd_ap (pd_up e) on a) + (pd_ar (pd_up e) on a (a + 1))))), (2, .int (nI a))]) rfl (by rw [pd_ar_lo (Nat.le_refl _)]; rfl) rfl rfl ?_
        refine g_loc (L' := [(0, .ref h), (1, .int (nI ((pd_ap (pd_up e) on a) + (pd_ar (pd_up e) on a (a + 1))))), (2, .int (nI a)), (3, .int (nI (a + 1)))]) [1, 2, 3, 0] rfl ?_
        exact lp18 _ (a + 1) (by omega) (by omega) (Nat.lt_succ_self _)
  refine g_loc (L' := [(0, .ref h), (1, .int (nI 0)), (2, .int (nI 0))]) [2, 1, 0] rfl ?_
  exact lp8 _ 0 (by omega) (Nat.lt_succ_self _)
end
section
/-! ROWS: what a constructor and the law's own body ask of Go beside part 20 -/
section GO2
variable {K : KK} {cc : ByteArray} {own : String} {ret : Option FieldType} {nL : Nat} {rm : Room} {cs sl pc : Nat} {ws : va_W} {L : List (Nat × Value)} {st : List Value}
theorem g_objInit (X : Cx K cc own ret nL rm) {idx a : Nat} (hlink : Cond.methodLink own idx Lib.objectInit ∈ lw_all) (hinst : Cond.instanceMethod Lib.objectInit ∈ lw_all) (hcode : Cond.code Lib.objectInit ⟨#[0xb1]⟩ 1 none ∈ lw_all) (hd : decode cc pc = .ok (.invokespecial idx, 3)) (hfr : 1 ≤ rm.frames) (hlo : 2 * 0 + (st.map fun v => v.category).sum + 12 ≤ rm.locals) (kk : Go K cs sl ws L (pc + 3) st) : Go K cs sl ws L pc (.ref a :: st) :=
  fun H locs ls hP hD hS h => by
    obtain ⟨hx, hb, hr, hN, hml, hown, hts, hlk, hA, hK, hRm⟩ := X
    refine W.objInit hx hb hown (hts _ hlink) (hts _ hinst) (hts _ hcode) rfl (by rw [hml]; exact h.1.trans hN) rfl hd (by rw [hRm]; exact hfr) (by rw [hRm]; exact hlo) ?_
    exact W.eq (g2 := F0 (km K) (pc + 3) ls st) rfl (kk H locs ls hP hD hS h)
theorem g_new (X : Cx K cc own ret nL rm) {C : String} {T : u_T} {N ci index : Nat} (hin : ∀ w ∈ u_ws C T N, w ∈ lw_all) (ty : Nat → FieldType) (hty : ∀ k, k < N → parseFieldDescriptor (T k).2.2.1 = some (ty k)) (hcl : Cond.classLink own index C ∈ lw_all) (hinst : Cond.instantiable C N ∈ lw_all) (hini : Cond.initialized C ∈ lw_all) (hc : vwCl[ci]? = some (C, T, N)) {fs : List Value} (hfs : ∀ j, j < N → defaultValue (ty j) = vp_V fs j) (hcs : cs + 1 ≤ rm.cells) (hsl : sl + N ≤ rm.slots) (hd : decode cc pc = .ok (.new index, 3)) (kk : ∀ q : Nat, Go K (cs + 1) (sl + N) (ws ++ [(q, .inr (ci, fs))]) L (pc + 3) (.ref q :: st)) : Go K cs sl ws L pc st :=
  fun H locs ls hP hD hS h => by
    obtain ⟨hx, hb, hr, hN, hml, hown, hts, hlk, hA, hK, hRm⟩ := X
    exact va_new hx hb hts hin ty hty hown (hts _ hcl) (hts _ hinst) (hts _ hini) hK hP hD hS hA hc hfs (by rw [hRm]; exact hcs) (by rw [hRm]; exact hsl) hd (fun q H1 hP1 hD1 hS1 => kk q H1 locs ls hP1 hD1 hS1 h)
/-- the law's own script -/
theorem g_sld (X : Cx K cc own ret nL rm) {b Ln i : Nat} {xs : Nat → Int32} (hX : va_X b Ln xs (ks K) (ks K).heap) (hbl : b < (ks K).heap.size) (hbA : ¬ kA K b) (hi : i < Ln) (hn : Ln < 2 ^ 31) (hd : decode cc pc = .ok (.iaload, 1)) (kk : Go K cs sl ws L (pc + 1) (.int (xs i) :: st)) : Go K cs sl ws L pc (.int (nI i) :: .ref b :: st) :=
  fun H locs ls hP hD hS h => va_sld X.1 X.2.1 hX hbl hbA hS (vp_in_nI hi hn) hd (by rw [nI_clamp (by omega)]; exact kk H locs ls hP hD hS h)
theorem g_slen (X : Cx K cc own ret nL rm) {b Ln : Nat} {xs : Nat → Int32} (hX : va_X b Ln xs (ks K) (ks K).heap) (hbl : b < (ks K).heap.size) (hbA : ¬ kA K b) (hd : decode cc pc = .ok (.arraylength, 1)) (kk : Go K cs sl ws L (pc + 1) (.int (nI Ln) :: st)) : Go K cs sl ws L pc (.ref b :: st) :=
  fun H locs ls hP hD hS h => va_slen X.1 X.2.1 hX hbl hbA hS hd (kk H locs ls hP hD hS h)
theorem g_tableIn (X : Cx K cc own ret nL rm) {dflt lo hi : Int} {offs : Array Int} {len : Nat} {x : Int32} {off : Int} (tgt : Nat) (hd : decode cc pc = .ok (.tableswitch dflt lo hi offs, len)) (h1 : ¬ x.toInt < lo) (h2 : ¬ hi < x.toInt) (ho : offs[(x.toInt - lo).toNat]? = some off) (ht : (pc : Int) + off = (tgt : Int)) (kk : Go K cs sl ws L tgt st) : Go K cs sl ws L pc (.int x :: st) :=
  fun H locs ls hP hD hS h => lv_tableIn X.1 X.2.1 hd h1 h2 ho ht (kk H locs ls hP hD hS h)
theorem g_tableOut (X : Cx K cc own ret nL rm) {dflt lo hi : Int} {offs : Array Int} {len : Nat} {x : Int32} (tgt : Nat) (hd : decode cc pc = .ok (.tableswitch dflt lo hi offs, len)) (h1 : x.toInt < lo ∨ hi < x.toInt) (ht : (pc : Int) + dflt = (tgt : Int)) (kk : Go K cs sl ws L tgt st) : Go K cs sl ws L pc (.int x :: st) :=
  fun H locs ls hP hD hS h => lv_tableOut X.1 X.2.1 hd h1 ht (kk H locs ls hP hD hS h)
end GO2
/-- the weights at the start -/
def pd_w1 (n : Nat) : Nat → Nat := fun k => if k < n then 1 else 0
theorem pd_w1_0 : (fun _ => 0) = pd_w1 0 := funext fun k => (if_neg (Nat.not_lt_zero k)).symm
theorem pd_w1_s {w : Nat → Nat} {v : Nat} (h : w = pd_w1 v) : pd_st w v 1 = pd_w1 (v + 1) := by
  subst h
  funext k
  unfold pd_st pd_w1
  by_cases z : k = v
  · rw [if_pos z, if_pos (by omega)]
  · rw [if_neg z]
    by_cases y : k < v
    · rw [if_pos y, if_pos (by omega)]
    · rw [if_neg y, if_neg (by omega)]
theorem pn_and15 (x : Int32) : ∃ k, k < 16 ∧ x &&& nI 15 = nI k := by
  refine ⟨(x.toBitVec &&& 15#32).toNat, ?_, ?_⟩
  · rw [BitVec.toNat_and]
    have h1 : x.toBitVec.toNat &&& (15#32).toNat ≤ (15#32).toNat := Nat.and_le_right
    have h2 : (15#32).toNat = 15 := rfl
    omega
  · apply Int32.toBitVec_inj.mp
    rw [Int32.toBitVec_and]
    show x.toBitVec &&& 15#32 = BitVec.ofNat 32 (x.toBitVec &&& 15#32).toNat
    rw [BitVec.ofNat_toNat, BitVec.setWidth_eq]
theorem pn_sub4 {i L : Nat} (hi : i < 2 ^ 30) (hL : L < 2 ^ 30) : nI L - nI 4 < nI i ↔ L < i + 4 := by
  rw [Int32.lt_iff_toInt_lt, pk_sub_toInt hL (by decide), nI_toInt (by omega)]
  omega
end
section
/-! WALK 44: the two constructors -/

set_option maxHeartbeats 4000000 in
set_option maxRecDepth 100000 in
/-- PathCoverDag() -/
theorem mX_init (l : Launch) (D : va_G) (d : ClassId) (h : Nat) : MV l yX0_init cX0_init 2 1 12 10 1214 D [(d, .int)] [.ref h] [(h, .inr (0, [.int 0, .null, .null, .int 0, .null, .int 0, .null, .null, .null, .null, .null, .null, .null]))] (fun u : (Nat → Nat) × (Nat → Nat) => (wX d h u.1 1023 u.2 (fun _ => 0) 0 (fun _ => 0) 0 (fun _ => 0) (fun _ => 0) (fun _ => 0) (fun _ => 0) (fun _ => some 0) (fun _ => some 0) (fun _ => 0))) (fun u => u.2 = pd_w1 10) := by
  refine MV_of (by decide) (Nat.le_of_ble_eq_true rfl) ?_
  intro K hl hD hT X hnm R
  subst hl; subst hD
  have X : Cx K cX0_init RX0 none 2 ({ frames := 1, cells := 10, slots := 1214, locals := 12 }) := X
  have t0 : (kT K)[0]? = some (d, .int) := by rw [hT]; rfl
  have lpA : ∀ (ad w0 : Nat → Nat), w0 = pd_w1 0 → Go K 10 1214 (wX d h ad 1023 w0 (fun _ => 0) 0 (fun _ => 0) 0 (fun _ => 0) (fun _ => 0) (fun _ => 0) (fun _ => 0) (fun _ => some 0) (fun _ => some 0) (fun _ => 0)) [(0, .ref h)] 92 [] := by
    intro ad w0 hw0
    show Go K 10 1214 (wX d h ad 1023 w0 (fun _ => 0) 0 (fun _ => 0) 0 (fun _ => 0) (fun _ => 0) (fun _ => 0) (fun _ => 0) (fun _ => some 0) (fun _ => some 0) (fun _ => 0)) [(0, .ref h)] 92 []
    refine g_iconst (v := (nI 0)) X dX0_init_92 (by decide) ?_
    refine g_istore_n (L' := [(1, .int (nI 0)), (0, .ref h)]) X dX0_init_93 rfl (by decide) rfl ?_
    have lp94 : ∀ (n : Nat) (w1 : Nat → Nat) (v : Nat), (v ≤ 10) → (w1 = pd_w1 v) → 10 - v < n → Go K 10 1214 (wX d h ad 1023 w1 (fun _ => 0) 0 (fun _ => 0) 0 (fun _ => 0) (fun _ => 0) (fun _ => 0) (fun _ => 0) (fun _ => some 0) (fun _ => some 0) (fun _ => 0)) [(0, .ref h), (1, .int (nI v))] 94 [] := by
      intro n
      induction n with
      | zero => intro w1 v hv hw hm; exact absurd hm (Nat.not_lt_zero _)
      | succ n ih94 =>
        intro w1 v hv hw hm
        refine g_iload_n X dX0_init_94 1 rfl rfl ?_
        refine g_bipush (v := (nI 10)) X dX0_init_95 (by decide) ?_
        refine g_icmp_ge (P := 10 ≤ v) X 113 dX0_init_97 (by decide) (nI_leI (by omega) (by omega)) (fun c97 => ?_) (fun c97 => ?_)
        · exact R (ad, w1) _ _ (hw.trans (congrArg pd_w1 (by omega))) dX0_init_113
        · refine g_aload_n X dX0_init_100 0 rfl rfl ?_
          refine g_get X in_X0 0 rfl rfl 1 (by decide) q31 rfl dX0_init_101 ?_
          refine g_iload_n X dX0_init_104 1 rfl rfl ?_
          refine g_iconst (v := (nI 1)) X dX0_init_105 (by decide) ?_
          refine g_iast (ws' := (wX d h ad 1023 (pd_st w1 v 1) (fun _ => 0) 0 (fun _ => 0) 0 (fun _ => 0) (fun _ => 0) (fun _ => 0) (fun _ => 0) (fun _ => some 0) (fun _ => some 0) (fun _ => 0))) X 1 0 rfl t0 (by omega) (by decide) (nF_st _ _ _) rfl dX0_init_106 ?_
          refine g_iinc (v := (nI (v + 1))) (L' := [(1, .int (nI (v + 1))), (0, .ref h)]) X dX0_init_107 1 rfl (pn_inc _) (by decide) rfl ?_
          refine g_goto X 94 dX0_init_110 (by decide) ?_
          refine g_loc (L' := [(0, .ref h), (1, .int (nI (v + 1)))]) [1, 0] rfl ?_
          exact ih94 (pd_st w1 v 1) (v + 1) (by omega) (pd_w1_s hw) (by omega)
    refine g_loc (L' := [(0, .ref h), (1, .int (nI 0))]) [1, 0] rfl ?_
    exact lp94 _ w0 0 (by omega) hw0 (Nat.lt_succ_self _)
  show Go K 0 0 [(h, .inr (0, [.int 0, .null, .null, .int 0, .null, .int 0, .null, .null, .null, .null, .null, .null, .null]))] [(0, .ref h)] 0 []
  refine g_aload_n X dX0_init_0 0 rfl rfl ?_
  refine g_objInit X q27 q28 q29 dX0_init_1 (by decide) (by decide) ?_
  refine g_aload_n X dX0_init_4 0 rfl rfl ?_
  refine g_bipush (v := nI 10) X dX0_init_5 (by decide) ?_
  refine g_newa (atype := .int) (ty := .int) (d := d) (N' := 10) (a0 := (10, .inl (nF (fun _ => 0)))) X rfl q70 0 t0 (fun h => h) (fun _ => rfl) (by decide) (by decide +kernel) (by decide) (by decide) (by decide) dX0_init_7 (fun q1 => ?_)
  show Go K 1 10 [(h, .inr (0, [.int 0, .null, .null, .int 0, .null, .int 0, .null, .null, .null, .null, .null, .null, .null])), (q1, .inl (d, 10, .inl (nF (fun _ => 0))))] [(0, .ref h)] 9 [.ref q1, .ref h]
  refine g_putF (ty := .array .int) (ws' := [(h, .inr (0, [.int 0, .ref q1, .null, .int 0, .null, .int 0, .null, .null, .null, .null, .null, .null, .null])), (q1, .inl (d, 10, .inl (nF (fun _ => 0))))]) X in_X0 tyX0 tyX0_ok nmX0 0 rfl rfl 1 (by decide) q31 rfl hnm rfl (by decide +kernel) rfl rfl (Nat.le_of_ble_eq_true rfl) rfl dX0_init_9 ?_
  refine g_aload_n X dX0_init_12 0 rfl rfl ?_
  refine g_bipush (v := nI 10) X dX0_init_13 (by decide) ?_
  refine g_newa (atype := .int) (ty := .int) (d := d) (N' := 10) (a0 := (10, .inl (nF (fun _ => 0)))) X rfl q70 0 t0 (fun h => h) (fun _ => rfl) (by decide) (by decide +kernel) (by decide) (by decide) (by decide) dX0_init_15 (fun q2 => ?_)
  show Go K 2 20 [(h, .inr (0, [.int 0, .ref q1, .null, .int 0, .null, .int 0, .null, .null, .null, .null, .null, .null, .null])), (q1, .inl (d, 10, .inl (nF (fun _ => 0)))), (q2, .inl (d, 10, .inl (nF (fun _ => 0))))] [(0, .ref h)] 17 [.ref q2, .ref h]
  refine g_putF (ty := .array .int) (ws' := [(h, .inr (0, [.int 0, .ref q1, .ref q2, .int 0, .null, .int 0, .null, .null, .null, .null, .null, .null, .null])), (q1, .inl (d, 10, .inl (nF (fun _ => 0)))), (q2, .inl (d, 10, .inl (nF (fun _ => 0))))]) X in_X0 tyX0 tyX0_ok nmX0 0 rfl rfl 2 (by decide) q32 rfl hnm rfl (by decide +kernel) rfl rfl (Nat.le_of_ble_eq_true rfl) rfl dX0_init_17 ?_
  refine g_aload_n X dX0_init_20 0 rfl rfl ?_
  refine g_bipush (v := nI 10) X dX0_init_21 (by decide) ?_
  refine g_newa (atype := .int) (ty := .int) (d := d) (N' := 10) (a0 := (10, .inl (nF (fun _ => 0)))) X rfl q70 0 t0 (fun h => h) (fun _ => rfl) (by decide) (by decide +kernel) (by decide) (by decide) (by decide) dX0_init_23 (fun q4 => ?_)
  show Go K 3 30 [(h, .inr (0, [.int 0, .ref q1, .ref q2, .int 0, .null, .int 0, .null, .null, .null, .null, .null, .null, .null])), (q1, .inl (d, 10, .inl (nF (fun _ => 0)))), (q2, .inl (d, 10, .inl (nF (fun _ => 0)))), (q4, .inl (d, 10, .inl (nF (fun _ => 0))))] [(0, .ref h)] 25 [.ref q4, .ref h]
  refine g_putF (ty := .array .int) (ws' := [(h, .inr (0, [.int 0, .ref q1, .ref q2, .int 0, .ref q4, .int 0, .null, .null, .null, .null, .null, .null, .null])), (q1, .inl (d, 10, .inl (nF (fun _ => 0)))), (q2, .inl (d, 10, .inl (nF (fun _ => 0)))), (q4, .inl (d, 10, .inl (nF (fun _ => 0))))]) X in_X0 tyX0 tyX0_ok nmX0 0 rfl rfl 4 (by decide) q34 rfl hnm rfl (by decide +kernel) rfl rfl (Nat.le_of_ble_eq_true rfl) rfl dX0_init_25 ?_
  refine g_aload_n X dX0_init_28 0 rfl rfl ?_
  refine g_sipush (v := nI 1024) X dX0_init_29 (by decide) ?_
  refine g_newa (atype := .int) (ty := .int) (d := d) (N' := 1024) (a0 := (1024, .inl (nF (fun _ => 0)))) X rfl q70 0 t0 (fun h => h) (fun _ => rfl) (by decide) (by decide +kernel) (by decide) (by decide) (by decide) dX0_init_32 (fun q6 => ?_)
  show Go K 4 1054 [(h, .inr (0, [.int 0, .ref q1, .ref q2, .int 0, .ref q4, .int 0, .null, .null, .null, .null, .null, .null, .null])), (q1, .inl (d, 10, .inl (nF (fun _ => 0)))), (q2, .inl (d, 10, .inl (nF (fun _ => 0)))), (q4, .inl (d, 10, .inl (nF (fun _ => 0)))), (q6, .inl (d, 1024, .inl (nF (fun _ => 0))))] [(0, .ref h)] 34 [.ref q6, .ref h]
  refine g_putF (ty := .array .int) (ws' := [(h, .inr (0, [.int 0, .ref q1, .ref q2, .int 0, .ref q4, .int 0, .ref q6, .null, .null, .null, .null, .null, .null])), (q1, .inl (d, 10, .inl (nF (fun _ => 0)))), (q2, .inl (d, 10, .inl (nF (fun _ => 0)))), (q4, .inl (d, 10, .inl (nF (fun _ => 0)))), (q6, .inl (d, 1024, .inl (nF (fun _ => 0))))]) X in_X0 tyX0 tyX0_ok nmX0 0 rfl rfl 6 (by decide) q36 rfl hnm rfl (by decide +kernel) rfl rfl (Nat.le_of_ble_eq_true rfl) rfl dX0_init_34 ?_
  refine g_aload_n X dX0_init_37 0 rfl rfl ?_
  refine g_bipush (v := nI 10) X dX0_init_38 (by decide) ?_
  refine g_newa (atype := .int) (ty := .int) (d := d) (N' := 10) (a0 := (10, .inl (nF (fun _ => 0)))) X rfl q70 0 t0 (fun h => h) (fun _ => rfl) (by decide) (by decide +kernel) (by decide) (by decide) (by decide) dX0_init_40 (fun q7 => ?_)
  show Go K 5 1064 [(h, .inr (0, [.int 0, .ref q1, .ref q2, .int 0, .ref q4, .int 0, .ref q6, .null, .null, .null, .null, .null, .null])), (q1, .inl (d, 10, .inl (nF (fun _ => 0)))), (q2, .inl (d, 10, .inl (nF (fun _ => 0)))), (q4, .inl (d, 10, .inl (nF (fun _ => 0)))), (q6, .inl (d, 1024, .inl (nF (fun _ => 0)))), (q7, .inl (d, 10, .inl (nF (fun _ => 0))))] [(0, .ref h)] 42 [.ref q7, .ref h]
  refine g_putF (ty := .array .int) (ws' := [(h, .inr (0, [.int 0, .ref q1, .ref q2, .int 0, .ref q4, .int 0, .ref q6, .ref q7, .null, .null, .null, .null, .null])), (q1, .inl (d, 10, .inl (nF (fun _ => 0)))), (q2, .inl (d, 10, .inl (nF (fun _ => 0)))), (q4, .inl (d, 10, .inl (nF (fun _ => 0)))), (q6, .inl (d, 1024, .inl (nF (fun _ => 0)))), (q7, .inl (d, 10, .inl (nF (fun _ => 0))))]) X in_X0 tyX0 tyX0_ok nmX0 0 rfl rfl 7 (by decide) q37 rfl hnm rfl (by decide +kernel) rfl rfl (Nat.le_of_ble_eq_true rfl) rfl dX0_init_42 ?_
  refine g_aload_n X dX0_init_45 0 rfl rfl ?_
  refine g_bipush (v := nI 10) X dX0_init_46 (by decide) ?_
  refine g_newa (atype := .int) (ty := .int) (d := d) (N' := 10) (a0 := (10, .inl (nF (fun _ => 0)))) X rfl q70 0 t0 (fun h => h) (fun _ => rfl) (by decide) (by decide +kernel) (by decide) (by decide) (by decide) dX0_init_48 (fun q8 => ?_)
  show Go K 6 1074 [(h, .inr (0, [.int 0, .ref q1, .ref q2, .int 0, .ref q4, .int 0, .ref q6, .ref q7, .null, .null, .null, .null, .null])), (q1, .inl (d, 10, .inl (nF (fun _ => 0)))), (q2, .inl (d, 10, .inl (nF (fun _ => 0)))), (q4, .inl (d, 10, .inl (nF (fun _ => 0)))), (q6, .inl (d, 1024, .inl (nF (fun _ => 0)))), (q7, .inl (d, 10, .inl (nF (fun _ => 0)))), (q8, .inl (d, 10, .inl (nF (fun _ => 0))))] [(0, .ref h)] 50 [.ref q8, .ref h]
  refine g_putF (ty := .array .int) (ws' := [(h, .inr (0, [.int 0, .ref q1, .ref q2, .int 0, .ref q4, .int 0, .ref q6, .ref q7, .ref q8, .null, .null, .null, .null])), (q1, .inl (d, 10, .inl (nF (fun _ => 0)))), (q2, .inl (d, 10, .inl (nF (fun _ => 0)))), (q4, .inl (d, 10, .inl (nF (fun _ => 0)))), (q6, .inl (d, 1024, .inl (nF (fun _ => 0)))), (q7, .inl (d, 10, .inl (nF (fun _ => 0)))), (q8, .inl (d, 10, .inl (nF (fun _ => 0))))]) X in_X0 tyX0 tyX0_ok nmX0 0 rfl rfl 8 (by decide) q38 rfl hnm rfl (by decide +kernel) rfl rfl (Nat.le_of_ble_eq_true rfl) rfl dX0_init_50 ?_
  refine g_aload_n X dX0_init_53 0 rfl rfl ?_
  refine g_bipush (v := nI 100) X dX0_init_54 (by decide) ?_
  refine g_newa (atype := .int) (ty := .int) (d := d) (N' := 100) (a0 := (100, .inl (nF (fun _ => 0)))) X rfl q70 0 t0 (fun h => h) (fun _ => rfl) (by decide) (by decide +kernel) (by decide) (by decide) (by decide) dX0_init_56 (fun q9 => ?_)
  show Go K 7 1174 [(h, .inr (0, [.int 0, .ref q1, .ref q2, .int 0, .ref q4, .int 0, .ref q6, .ref q7, .ref q8, .null, .null, .null, .null])), (q1, .inl (d, 10, .inl (nF (fun _ => 0)))), (q2, .inl (d, 10, .inl (nF (fun _ => 0)))), (q4, .inl (d, 10, .inl (nF (fun _ => 0)))), (q6, .inl (d, 1024, .inl (nF (fun _ => 0)))), (q7, .inl (d, 10, .inl (nF (fun _ => 0)))), (q8, .inl (d, 10, .inl (nF (fun _ => 0)))), (q9, .inl (d, 100, .inl (nF (fun _ => 0))))] [(0, .ref h)] 58 [.ref q9, .ref h]
  refine g_putF (ty := .array .int) (ws' := [(h, .inr (0, [.int 0, .ref q1, .ref q2, .int 0, .ref q4, .int 0, .ref q6, .ref q7, .ref q8, .ref q9, .null, .null, .null])), (q1, .inl (d, 10, .inl (nF (fun _ => 0)))), (q2, .inl (d, 10, .inl (nF (fun _ => 0)))), (q4, .inl (d, 10, .inl (nF (fun _ => 0)))), (q6, .inl (d, 1024, .inl (nF (fun _ => 0)))), (q7, .inl (d, 10, .inl (nF (fun _ => 0)))), (q8, .inl (d, 10, .inl (nF (fun _ => 0)))), (q9, .inl (d, 100, .inl (nF (fun _ => 0))))]) X in_X0 tyX0 tyX0_ok nmX0 0 rfl rfl 9 (by decide) q39 rfl hnm rfl (by decide +kernel) rfl rfl (Nat.le_of_ble_eq_true rfl) rfl dX0_init_58 ?_
  refine g_aload_n X dX0_init_61 0 rfl rfl ?_
  refine g_bipush (v := nI 10) X dX0_init_62 (by decide) ?_
  refine g_newa (atype := .int) (ty := .int) (d := d) (N' := 10) (a0 := (10, .inl (oF (fun _ => some 0)))) X rfl q70 0 t0 (fun h => h) (fun _ => rfl) (by decide) (by decide +kernel) (by decide) (by decide) (by decide) dX0_init_64 (fun q10 => ?_)
  show Go K 8 1184 [(h, .inr (0, [.int 0, .ref q1, .ref q2, .int 0, .ref q4, .int 0, .ref q6, .ref q7, .ref q8, .ref q9, .null, .null, .null])), (q1, .inl (d, 10, .inl (nF (fun _ => 0)))), (q2, .inl (d, 10, .inl (nF (fun _ => 0)))), (q4, .inl (d, 10, .inl (nF (fun _ => 0)))), (q6, .inl (d, 1024, .inl (nF (fun _ => 0)))), (q7, .inl (d, 10, .inl (nF (fun _ => 0)))), (q8, .inl (d, 10, .inl (nF (fun _ => 0)))), (q9, .inl (d, 100, .inl (nF (fun _ => 0)))), (q10, .inl (d, 10, .inl (oF (fun _ => some 0))))] [(0, .ref h)] 66 [.ref q10, .ref h]
  refine g_putF (ty := .array .int) (ws' := [(h, .inr (0, [.int 0, .ref q1, .ref q2, .int 0, .ref q4, .int 0, .ref q6, .ref q7, .ref q8, .ref q9, .ref q10, .null, .null])), (q1, .inl (d, 10, .inl (nF (fun _ => 0)))), (q2, .inl (d, 10, .inl (nF (fun _ => 0)))), (q4, .inl (d, 10, .inl (nF (fun _ => 0)))), (q6, .inl (d, 1024, .inl (nF (fun _ => 0)))), (q7, .inl (d, 10, .inl (nF (fun _ => 0)))), (q8, .inl (d, 10, .inl (nF (fun _ => 0)))), (q9, .inl (d, 100, .inl (nF (fun _ => 0)))), (q10, .inl (d, 10, .inl (oF (fun _ => some 0))))]) X in_X0 tyX0 tyX0_ok nmX0 0 rfl rfl 10 (by decide) q40 rfl hnm rfl (by decide +kernel) rfl rfl (Nat.le_of_ble_eq_true rfl) rfl dX0_init_66 ?_
  refine g_aload_n X dX0_init_69 0 rfl rfl ?_
  refine g_bipush (v := nI 10) X dX0_init_70 (by decide) ?_
  refine g_newa (atype := .int) (ty := .int) (d := d) (N' := 10) (a0 := (10, .inl (oF (fun _ => some 0)))) X rfl q70 0 t0 (fun h => h) (fun _ => rfl) (by decide) (by decide +kernel) (by decide) (by decide) (by decide) dX0_init_72 (fun q11 => ?_)
  show Go K 9 1194 [(h, .inr (0, [.int 0, .ref q1, .ref q2, .int 0, .ref q4, .int 0, .ref q6, .ref q7, .ref q8, .ref q9, .ref q10, .null, .null])), (q1, .inl (d, 10, .inl (nF (fun _ => 0)))), (q2, .inl (d, 10, .inl (nF (fun _ => 0)))), (q4, .inl (d, 10, .inl (nF (fun _ => 0)))), (q6, .inl (d, 1024, .inl (nF (fun _ => 0)))), (q7, .inl (d, 10, .inl (nF (fun _ => 0)))), (q8, .inl (d, 10, .inl (nF (fun _ => 0)))), (q9, .inl (d, 100, .inl (nF (fun _ => 0)))), (q10, .inl (d, 10, .inl (oF (fun _ => some 0)))), (q11, .inl (d, 10, .inl (oF (fun _ => some 0))))] [(0, .ref h)] 74 [.ref q11, .ref h]
  refine g_putF (ty := .array .int) (ws' := [(h, .inr (0, [.int 0, .ref q1, .ref q2, .int 0, .ref q4, .int 0, .ref q6, .ref q7, .ref q8, .ref q9, .ref q10, .ref q11, .null])), (q1, .inl (d, 10, .inl (nF (fun _ => 0)))), (q2, .inl (d, 10, .inl (nF (fun _ => 0)))), (q4, .inl (d, 10, .inl (nF (fun _ => 0)))), (q6, .inl (d, 1024, .inl (nF (fun _ => 0)))), (q7, .inl (d, 10, .inl (nF (fun _ => 0)))), (q8, .inl (d, 10, .inl (nF (fun _ => 0)))), (q9, .inl (d, 100, .inl (nF (fun _ => 0)))), (q10, .inl (d, 10, .inl (oF (fun _ => some 0)))), (q11, .inl (d, 10, .inl (oF (fun _ => some 0))))]) X in_X0 tyX0 tyX0_ok nmX0 0 rfl rfl 11 (by decide) q41 rfl hnm rfl (by decide +kernel) rfl rfl (Nat.le_of_ble_eq_true rfl) rfl dX0_init_74 ?_
  refine g_aload_n X dX0_init_77 0 rfl rfl ?_
  refine g_bipush (v := nI 20) X dX0_init_78 (by decide) ?_
  refine g_newa (atype := .int) (ty := .int) (d := d) (N' := 20) (a0 := (20, .inl (nF (fun _ => 0)))) X rfl q70 0 t0 (fun h => h) (fun _ => rfl) (by decide) (by decide +kernel) (by decide) (by decide) (by decide) dX0_init_80 (fun q12 => ?_)
  show Go K 10 1214 [(h, .inr (0, [.int 0, .ref q1, .ref q2, .int 0, .ref q4, .int 0, .ref q6, .ref q7, .ref q8, .ref q9, .ref q10, .ref q11, .null])), (q1, .inl (d, 10, .inl (nF (fun _ => 0)))), (q2, .inl (d, 10, .inl (nF (fun _ => 0)))), (q4, .inl (d, 10, .inl (nF (fun _ => 0)))), (q6, .inl (d, 1024, .inl (nF (fun _ => 0)))), (q7, .inl (d, 10, .inl (nF (fun _ => 0)))), (q8, .inl (d, 10, .inl (nF (fun _ => 0)))), (q9, .inl (d, 100, .inl (nF (fun _ => 0)))), (q10, .inl (d, 10, .inl (oF (fun _ => some 0)))), (q11, .inl (d, 10, .inl (oF (fun _ => some 0)))), (q12, .inl (d, 20, .inl (nF (fun _ => 0))))] [(0, .ref h)] 82 [.ref q12, .ref h]
  refine g_putF (ty := .array .int) (ws' := [(h, .inr (0, [.int 0, .ref q1, .ref q2, .int 0, .ref q4, .int 0, .ref q6, .ref q7, .ref q8, .ref q9, .ref q10, .ref q11, .ref q12])), (q1, .inl (d, 10, .inl (nF (fun _ => 0)))), (q2, .inl (d, 10, .inl (nF (fun _ => 0)))), (q4, .inl (d, 10, .inl (nF (fun _ => 0)))), (q6, .inl (d, 1024, .inl (nF (fun _ => 0)))), (q7, .inl (d, 10, .inl (nF (fun _ => 0)))), (q8, .inl (d, 10, .inl (nF (fun _ => 0)))), (q9, .inl (d, 100, .inl (nF (fun _ => 0)))), (q10, .inl (d, 10, .inl (oF (fun _ => some 0)))), (q11, .inl (d, 10, .inl (oF (fun _ => some 0)))), (q12, .inl (d, 20, .inl (nF (fun _ => 0))))]) X in_X0 tyX0 tyX0_ok nmX0 0 rfl rfl 12 (by decide) q42 rfl hnm rfl (by decide +kernel) rfl rfl (Nat.le_of_ble_eq_true rfl) rfl dX0_init_82 ?_
  refine g_aload_n X dX0_init_85 0 rfl rfl ?_
  refine g_sipush (v := nI 1023) X dX0_init_86 (by decide) ?_
  refine g_put (ty := .int) (ws' := [(h, .inr (0, [.int (nI 1023), .ref q1, .ref q2, .int 0, .ref q4, .int 0, .ref q6, .ref q7, .ref q8, .ref q9, .ref q10, .ref q11, .ref q12])), (q1, .inl (d, 10, .inl (nF (fun _ => 0)))), (q2, .inl (d, 10, .inl (nF (fun _ => 0)))), (q4, .inl (d, 10, .inl (nF (fun _ => 0)))), (q6, .inl (d, 1024, .inl (nF (fun _ => 0)))), (q7, .inl (d, 10, .inl (nF (fun _ => 0)))), (q8, .inl (d, 10, .inl (nF (fun _ => 0)))), (q9, .inl (d, 100, .inl (nF (fun _ => 0)))), (q10, .inl (d, 10, .inl (oF (fun _ => some 0)))), (q11, .inl (d, 10, .inl (oF (fun _ => some 0)))), (q12, .inl (d, 20, .inl (nF (fun _ => 0))))]) X in_X0 tyX0 tyX0_ok nmX0 0 rfl rfl 0 (by decide) q30 rfl (by decide +kernel) rfl rfl (Nat.le_of_ble_eq_true rfl) rfl dX0_init_89 ?_
  exact lpA (fun k => [0, q1, q2, 0, q4, 0, q6, q7, q8, q9, q10, q11, q12].getD k 0) (fun _ => 0) pd_w1_0

set_option maxHeartbeats 4000000 in
set_option maxRecDepth 100000 in
/-- PathCoverDagModel() -/
theorem mM_init (l : Launch) (D : va_G) (d dz : ClassId) (h : Nat) : MV l yX1_init cX1_init 2 1 12 5 2078 D [(d, .int), (dz, .boolean)] [.ref h] [(h, .inr (1, [.null, .null, .null, .int 0, .null, .null]))] (fun u : (Nat → Nat) × (Nat → Nat) => (wM d dz h u.1 (fun _ => 0) (fun _ => 0) u.2 1023 (fun _ => 0) (fun _ => 0))) (fun u => u.2 = pd_w1 10) := by
  refine MV_of (by decide) (Nat.le_of_ble_eq_true rfl) ?_
  intro K hl hD hT X hnm R
  subst hl; subst hD
  have X : Cx K cX1_init RX1 none 2 ({ frames := 1, cells := 5, slots := 2078, locals := 12 }) := X
  have t0 : (kT K)[0]? = some (d, .int) := by rw [hT]; rfl
  have t1 : (kT K)[1]? = some (dz, .boolean) := by rw [hT]; rfl
  have lpA : ∀ (ad w0 : Nat → Nat), w0 = pd_w1 0 → Go K 5 2078 (wM d dz h ad (fun _ => 0) (fun _ => 0) w0 1023 (fun _ => 0) (fun _ => 0)) [(0, .ref h)] 53 [] := by
    intro ad w0 hw0
    show Go K 5 2078 (wM d dz h ad (fun _ => 0) (fun _ => 0) w0 1023 (fun _ => 0) (fun _ => 0)) [(0, .ref h)] 53 []
    refine g_iconst (v := (nI 0)) X dX1_init_53 (by decide) ?_
    refine g_istore_n (L' := [(1, .int (nI 0)), (0, .ref h)]) X dX1_init_54 rfl (by decide) rfl ?_
    have lp55 : ∀ (n : Nat) (w1 : Nat → Nat) (v : Nat), (v ≤ 10) → (w1 = pd_w1 v) → 10 - v < n → Go K 5 2078 (wM d dz h ad (fun _ => 0) (fun _ => 0) w1 1023 (fun _ => 0) (fun _ => 0)) [(0, .ref h), (1, .int (nI v))] 55 [] := by
      intro n
      induction n with
      | zero => intro w1 v hv hw hm; exact absurd hm (Nat.not_lt_zero _)
      | succ n ih55 =>
        intro w1 v hv hw hm
        refine g_iload_n X dX1_init_55 1 rfl rfl ?_
        refine g_bipush (v := (nI 10)) X dX1_init_56 (by decide) ?_
        refine g_icmp_ge (P := 10 ≤ v) X 74 dX1_init_58 (by decide) (nI_leI (by omega) (by omega)) (fun c58 => ?_) (fun c58 => ?_)
        · exact R (ad, w1) _ _ (hw.trans (congrArg pd_w1 (by omega))) dX1_init_74
        · refine g_aload_n X dX1_init_61 0 rfl rfl ?_
          refine g_get X in_X1 0 rfl rfl 2 (by decide) q177 rfl dX1_init_62 ?_
          refine g_iload_n X dX1_init_65 1 rfl rfl ?_
          refine g_iconst (v := (nI 1)) X dX1_init_66 (by decide) ?_
          refine g_iast (ws' := (wM d dz h ad (fun _ => 0) (fun _ => 0) (pd_st w1 v 1) 1023 (fun _ => 0) (fun _ => 0))) X 3 0 rfl t0 (by omega) (by decide) (nF_st _ _ _) rfl dX1_init_67 ?_
          refine g_iinc (v := (nI (v + 1))) (L' := [(1, .int (nI (v + 1))), (0, .ref h)]) X dX1_init_68 1 rfl (pn_inc _) (by decide) rfl ?_
          refine g_goto X 55 dX1_init_71 (by decide) ?_
          refine g_loc (L' := [(0, .ref h), (1, .int (nI (v + 1)))]) [1, 0] rfl ?_
          exact ih55 (pd_st w1 v 1) (v + 1) (by omega) (pd_w1_s hw) (by omega)
    refine g_loc (L' := [(0, .ref h), (1, .int (nI 0))]) [1, 0] rfl ?_
    exact lp55 _ w0 0 (by omega) hw0 (Nat.lt_succ_self _)
  show Go K 0 0 [(h, .inr (1, [.null, .null, .null, .int 0, .null, .null]))] [(0, .ref h)] 0 []
  refine g_aload_n X dX1_init_0 0 rfl rfl ?_
  refine g_objInit X q174 q28 q29 dX1_init_1 (by decide) (by decide) ?_
  refine g_aload_n X dX1_init_4 0 rfl rfl ?_
  refine g_bipush (v := nI 10) X dX1_init_5 (by decide) ?_
  refine g_newa (atype := .int) (ty := .int) (d := d) (N' := 10) (a0 := (10, .inl (nF (fun _ => 0)))) X rfl q70 0 t0 (fun h => h) (fun _ => rfl) (by decide) (by decide +kernel) (by decide) (by decide) (by decide) dX1_init_7 (fun q0 => ?_)
  show Go K 1 10 [(h, .inr (1, [.null, .null, .null, .int 0, .null, .null])), (q0, .inl (d, 10, .inl (nF (fun _ => 0))))] [(0, .ref h)] 9 [.ref q0, .ref h]
  refine g_putF (ty := .array .int) (ws' := [(h, .inr (1, [.ref q0, .null, .null, .int 0, .null, .null])), (q0, .inl (d, 10, .inl (nF (fun _ => 0))))]) X in_X1 tyX1 tyX1_ok nmX1 0 rfl rfl 0 (by decide) q175 rfl hnm rfl (by decide +kernel) rfl rfl (Nat.le_of_ble_eq_true rfl) rfl dX1_init_9 ?_
  refine g_aload_n X dX1_init_12 0 rfl rfl ?_
  refine g_bipush (v := nI 10) X dX1_init_13 (by decide) ?_
  refine g_newa (atype := .int) (ty := .int) (d := d) (N' := 10) (a0 := (10, .inl (nF (fun _ => 0)))) X rfl q70 0 t0 (fun h => h) (fun _ => rfl) (by decide) (by decide +kernel) (by decide) (by decide) (by decide) dX1_init_15 (fun q1 => ?_)
  show Go K 2 20 [(h, .inr (1, [.ref q0, .null, .null, .int 0, .null, .null])), (q0, .inl (d, 10, .inl (nF (fun _ => 0)))), (q1, .inl (d, 10, .inl (nF (fun _ => 0))))] [(0, .ref h)] 17 [.ref q1, .ref h]
  refine g_putF (ty := .array .int) (ws' := [(h, .inr (1, [.ref q0, .ref q1, .null, .int 0, .null, .null])), (q0, .inl (d, 10, .inl (nF (fun _ => 0)))), (q1, .inl (d, 10, .inl (nF (fun _ => 0))))]) X in_X1 tyX1 tyX1_ok nmX1 0 rfl rfl 1 (by decide) q176 rfl hnm rfl (by decide +kernel) rfl rfl (Nat.le_of_ble_eq_true rfl) rfl dX1_init_17 ?_
  refine g_aload_n X dX1_init_20 0 rfl rfl ?_
  refine g_bipush (v := nI 10) X dX1_init_21 (by decide) ?_
  refine g_newa (atype := .int) (ty := .int) (d := d) (N' := 10) (a0 := (10, .inl (nF (fun _ => 0)))) X rfl q70 0 t0 (fun h => h) (fun _ => rfl) (by decide) (by decide +kernel) (by decide) (by decide) (by decide) dX1_init_23 (fun q2 => ?_)
  show Go K 3 30 [(h, .inr (1, [.ref q0, .ref q1, .null, .int 0, .null, .null])), (q0, .inl (d, 10, .inl (nF (fun _ => 0)))), (q1, .inl (d, 10, .inl (nF (fun _ => 0)))), (q2, .inl (d, 10, .inl (nF (fun _ => 0))))] [(0, .ref h)] 25 [.ref q2, .ref h]
  refine g_putF (ty := .array .int) (ws' := [(h, .inr (1, [.ref q0, .ref q1, .ref q2, .int 0, .null, .null])), (q0, .inl (d, 10, .inl (nF (fun _ => 0)))), (q1, .inl (d, 10, .inl (nF (fun _ => 0)))), (q2, .inl (d, 10, .inl (nF (fun _ => 0))))]) X in_X1 tyX1 tyX1_ok nmX1 0 rfl rfl 2 (by decide) q177 rfl hnm rfl (by decide +kernel) rfl rfl (Nat.le_of_ble_eq_true rfl) rfl dX1_init_25 ?_
  refine g_aload_n X dX1_init_28 0 rfl rfl ?_
  refine g_sipush (v := nI 1024) X dX1_init_29 (by decide) ?_
  refine g_newa (atype := .boolean) (ty := .boolean) (d := dz) (N' := 1024) (a0 := (1024, .inl (nF (fun _ => 0)))) X rfl q194 1 t1 (fun h => h) (fun _ => rfl) (by decide) (by decide +kernel) (by decide) (by decide) (by decide) dX1_init_32 (fun q4 => ?_)
  show Go K 4 1054 [(h, .inr (1, [.ref q0, .ref q1, .ref q2, .int 0, .null, .null])), (q0, .inl (d, 10, .inl (nF (fun _ => 0)))), (q1, .inl (d, 10, .inl (nF (fun _ => 0)))), (q2, .inl (d, 10, .inl (nF (fun _ => 0)))), (q4, .inl (dz, 1024, .inl (nF (fun _ => 0))))] [(0, .ref h)] 34 [.ref q4, .ref h]
  refine g_putF (ty := .array .boolean) (ws' := [(h, .inr (1, [.ref q0, .ref q1, .ref q2, .int 0, .ref q4, .null])), (q0, .inl (d, 10, .inl (nF (fun _ => 0)))), (q1, .inl (d, 10, .inl (nF (fun _ => 0)))), (q2, .inl (d, 10, .inl (nF (fun _ => 0)))), (q4, .inl (dz, 1024, .inl (nF (fun _ => 0))))]) X in_X1 tyX1 tyX1_ok nmX1 0 rfl rfl 4 (by decide) q179 rfl hnm rfl (by decide +kernel) rfl rfl (Nat.le_of_ble_eq_true rfl) rfl dX1_init_34 ?_
  refine g_aload_n X dX1_init_37 0 rfl rfl ?_
  refine g_sipush (v := nI 1024) X dX1_init_38 (by decide) ?_
  refine g_newa (atype := .int) (ty := .int) (d := d) (N' := 1024) (a0 := (1024, .inl (nF (fun _ => 0)))) X rfl q70 0 t0 (fun h => h) (fun _ => rfl) (by decide) (by decide +kernel) (by decide) (by decide) (by decide) dX1_init_41 (fun q5 => ?_)
  show Go K 5 2078 [(h, .inr (1, [.ref q0, .ref q1, .ref q2, .int 0, .ref q4, .null])), (q0, .inl (d, 10, .inl (nF (fun _ => 0)))), (q1, .inl (d, 10, .inl (nF (fun _ => 0)))), (q2, .inl (d, 10, .inl (nF (fun _ => 0)))), (q4, .inl (dz, 1024, .inl (nF (fun _ => 0)))), (q5, .inl (d, 1024, .inl (nF (fun _ => 0))))] [(0, .ref h)] 43 [.ref q5, .ref h]
  refine g_putF (ty := .array .int) (ws' := [(h, .inr (1, [.ref q0, .ref q1, .ref q2, .int 0, .ref q4, .ref q5])), (q0, .inl (d, 10, .inl (nF (fun _ => 0)))), (q1, .inl (d, 10, .inl (nF (fun _ => 0)))), (q2, .inl (d, 10, .inl (nF (fun _ => 0)))), (q4, .inl (dz, 1024, .inl (nF (fun _ => 0)))), (q5, .inl (d, 1024, .inl (nF (fun _ => 0))))]) X in_X1 tyX1 tyX1_ok nmX1 0 rfl rfl 5 (by decide) q180 rfl hnm rfl (by decide +kernel) rfl rfl (Nat.le_of_ble_eq_true rfl) rfl dX1_init_43 ?_
  refine g_aload_n X dX1_init_46 0 rfl rfl ?_
  refine g_sipush (v := nI 1023) X dX1_init_47 (by decide) ?_
  refine g_put (ty := .int) (ws' := [(h, .inr (1, [.ref q0, .ref q1, .ref q2, .int (nI 1023), .ref q4, .ref q5])), (q0, .inl (d, 10, .inl (nF (fun _ => 0)))), (q1, .inl (d, 10, .inl (nF (fun _ => 0)))), (q2, .inl (d, 10, .inl (nF (fun _ => 0)))), (q4, .inl (dz, 1024, .inl (nF (fun _ => 0)))), (q5, .inl (d, 1024, .inl (nF (fun _ => 0))))]) X in_X1 tyX1 tyX1_ok nmX1 0 rfl rfl 3 (by decide) q178 rfl (by decide +kernel) rfl rfl (Nat.le_of_ble_eq_true rfl) rfl dX1_init_50 ?_
  exact lpA (fun k => [q0, q1, q2, 0, q4, q5].getD k 0) (fun _ => 0) pd_w1_0
end
section
/-! THE CLAIM OUT OF ONE WALK OF THE LAW'S BODY. Your part is whole_start (and what it stands on); all else here is the same for every law, but numbers. -/
def R_law : String := "PathCoverDagLaw"
def lw_P (b : Addr) (xs : List Int32) (args : Array Value) (s : State) : Prop := args = #[.ref b] ∧ s.IntsAt b xs ∧ xs.length ≤ 256 ∧ (Jvm.Cond.and given_1 narrow_1).before args s = true
def lw_Q (_ : Array Value) (s : State) (o : Outcome) (t : State) : Prop := o = .returned (some (.int 1)) ∧ Framed s o t [] 600000 7290000
def lw_Z (below : List Frame) (a : Array Value) (s : State) : State → Prop := fun t => ∃ o, t.status = .running ∧ Ended t below o ∧ lw_Q a s o t
/-- the law's own end, with 1 on the stack, nothing written that was there before, its room as the claim has it -/
theorem lw_ret {p : Program} {l : Launch} {e : Env} {s : State} {m : MethodId} {below : List Frame} {meth : Method} {c : Code} {b : Nat} (hx : p.tables.exec = Jvm.exec) (hb : c.code = code) (hr : meth.sig.returnType = ret) (hlocks : meth.locks = false) {pc : Nat} {H : Heap} {ls : Array Slot} (hdg : decode code pc = .ok (.ireturn, 1)) : W p l e room_1 s m #[Value.ref b] below meth c H [] 600000 7290000 (lw_Z below #[Value.ref b] s) (F0 m pc ls [.int 1]) := by
  intro T hT X
  obtain ⟨fs, hret, hrun, hended, hW, hframe⟩ := X.leave (v := some (.int 1)) (hlocks := hlocks) (fun h => by rw [hr] at h; cases h)
  have hmeth' : T.vm.method? m = some meth := X.method'
  refine ⟨T.setFrames fs, ?_, .returned (some (.int 1)), hrun, hended, rfl, ⟨_, rfl⟩, hW, hframe⟩
  jvm_step X.here [X.here.top, hx, hb, hdg, hmeth', hr, ret, narrow_b1]
  (try refine ⟨rfl, ?_⟩); (try refine ⟨rfl, ?_⟩)
  first | (intro acts; rw [hret _ acts rfl rfl rfl]) | rw [hret _ _ rfl rfl rfl]
  exact Steps.refl _
/-- what holds at the law's entry: the machine, the code, the tables' words (any of lw_tbl by 'hts w (by decide +kernel)'), the script of L ints xs at the cell b, what the Statement gives of the start (any of its parts by flat_of_before) -/
def lw_At (p : Program) (s : State) (m : MethodId) (meth : Method) (c : Code) (b L : Nat) (xs : Nat → Int32) : Prop :=
  p.tables.exec = Jvm.exec ∧ c.code = code ∧ meth.sig.returnType = ret ∧ c.maxLocals = 4 ∧ s.vm.findClass R_law = some m.cls ∧ (∀ w ∈ lw_tbl, w.before #[Value.ref b] s = true) ∧ va_X b L xs s s.heap ∧ b < s.heap.size ∧ meth.locks = false ∧ (Jvm.Cond.and given_1 narrow_1).before #[Value.ref b] s = true
end
section
/-! LAW 50: the thirteen cases of the law's switch -/
def LG (K : KK) (d dz : ClassId) (hx : Nat) (ax : Nat → Nat) (hm : Nat) (am : Nat → Nat) (b i pc : Nat) : Prop :=
  ∀ (on : Nat) (w e : Nat → Nat) (cl : Nat) (hi : Nat → Nat) (ct : Nat) (wi ro ri fl : Nat → Nat) (co ci : Nat → Option Nat) (q up sg nd : Nat → Nat), XI on w e cl hi ct wi → Go K 17 3311 (wX d hx ax on w e cl hi ct wi ro ri fl co ci q ++ wM d dz hm am e up w on sg nd) [(0, .ref b), (1, .ref hx), (2, .ref hm), (3, .int (nI i))] pc []
section LAW
variable {K : KK} {d dz : ClassId} {hx hm b Ln i : Nat} {ax am : Nat → Nat} {xs : Nat → Int32}
set_option maxHeartbeats 4000000 in
set_option maxRecDepth 100000 in
theorem law_edge (X : Cx K cL_law "PathCoverDagLaw" ret 4 room_1) (hT : kT K = [(d, .int), (dz, .boolean)]) (hX : va_X b Ln xs (ks K) (ks K).heap) (hbl : b < (ks K).heap.size) (hbA : ¬ kA K b) (hn : Ln ≤ 256) (hi4 : i + 4 ≤ Ln) (kk : LG K d dz hx ax hm am b i 391) : LG K d dz hx ax hm am b i 100 := by
  intro on w e cl hi ct wi ro ri fl co ci q up sg nd hI
  obtain ⟨hon, hw9, hE, hcl, hct⟩ := hI
  by_cases hz : xs (i + 3) = 0
  · show Go K 17 3311 ((wX d hx ax on w e cl hi ct wi ro ri fl co ci q) ++ (wM d dz hm am e up w on sg nd)) [(0, .ref b), (1, .ref hx), (2, .ref hm), (3, .int (nI i))] 100 []
    refine g_aload_n X dL_law_100 1 rfl rfl ?_
    refine g_aload_n X dL_law_101 0 rfl rfl ?_
    refine g_iload_n X dL_law_102 3 rfl rfl ?_
    refine g_iconst (v := (nI 1)) X dL_law_103 (by decide) ?_
    refine g_iadd (v := (nI (i + 1))) X dL_law_104 (nI_add _ _) ?_
    refine g_sld X hX hbl hbA (by omega) (by omega) dL_law_105 ?_
    refine g_aload_n X dL_law_106 0 rfl rfl ?_
    refine g_iload_n X dL_law_107 3 rfl rfl ?_
    refine g_iconst (v := (nI 2)) X dL_law_108 (by decide) ?_
    refine g_iadd (v := (nI (i + 2))) X dL_law_109 (nI_add _ _) ?_
    refine g_sld X hX hbl hbA (by omega) (by omega) dL_law_110 ?_
    refine g_aload_n X dL_law_111 0 rfl rfl ?_
    refine g_iload_n X dL_law_112 3 rfl rfl ?_
    refine g_iconst (v := (nI 3)) X dL_law_113 (by decide) ?_
    refine g_iadd (v := (nI (i + 3))) X dL_law_114 (nI_add _ _) ?_
    refine g_sld X hX hbl hbA (by omega) (by omega) dL_law_115 ?_
    refine g_if_eq (P := (xs (i + 3)) = 0) X 123 dL_law_116 (by decide) Iff.rfl (fun c116 => ?_) (fun c116 => ?_)
    · refine g_iconst (v := (nI false.toNat)) X dL_law_123 (by decide) ?_
      refine g_callV (st := []) (ci := 0) (q := (RX0, TX0, 13)) (wr := (wM d dz hm am e up w on sg nd)) X (mX_edge _ _ d hx ax on w e cl hi ct wi ro ri fl co ci q hE (xs (i + 1)) (xs (i + 2)) false) (lw_V q71 q72 q73 q20 q74) 3 (by decide +kernel) (by decide) (by decide) rfl rfl rfl [0, 1, 2, 3, 4, 5, 6, 7, 8, 9, 10] [11, 12, 13, 14, 15, 16] [0] rfl rfl rfl (by decide) (by decide) (by decide) (by rw [hT]; rfl) rfl (Nat.le_of_ble_eq_true rfl) dL_law_124 (fun r u hp => ?_)
      obtain ⟨e1, cl1, ct1⟩ := u
      obtain ⟨hp1, hp2⟩ := hp
      have hp1 : pd_eg e (xs (i + 1)) (xs (i + 2)) false r e1 := hp1
      have hp2 : (cl1 = 0 ∧ ct1 = 0) ∨ (e1 = e ∧ cl1 = cl ∧ ct1 = ct) := hp2
      show Go K 17 3311 ((wM d dz hm am e up w on sg nd) ++ (wX d hx ax on w e1 cl1 hi ct1 wi ro ri fl co ci q)) [(0, .ref b), (1, .ref hx), (2, .ref hm), (3, .int (nI i))] 127 [.int r]
      refine g_aload_n X dL_law_127 2 rfl rfl ?_
      refine g_aload_n X dL_law_128 0 rfl rfl ?_
      refine g_iload_n X dL_law_129 3 rfl rfl ?_
      refine g_iconst (v := (nI 1)) X dL_law_130 (by decide) ?_
      refine g_iadd (v := (nI (i + 1))) X dL_law_131 (nI_add _ _) ?_
      refine g_sld X hX hbl hbA (by omega) (by omega) dL_law_132 ?_
      refine g_aload_n X dL_law_133 0 rfl rfl ?_
      refine g_iload_n X dL_law_134 3 rfl rfl ?_
      refine g_iconst (v := (nI 2)) X dL_law_135 (by decide) ?_
      refine g_iadd (v := (nI (i + 2))) X dL_law_136 (nI_add _ _) ?_
      refine g_sld X hX hbl hbA (by omega) (by omega) dL_law_137 ?_
      refine g_aload_n X dL_law_138 0 rfl rfl ?_
      refine g_iload_n X dL_law_139 3 rfl rfl ?_
      refine g_iconst (v := (nI 3)) X dL_law_140 (by decide) ?_
      refine g_iadd (v := (nI (i + 3))) X dL_law_141 (nI_add _ _) ?_
      refine g_sld X hX hbl hbA (by omega) (by omega) dL_law_142 ?_
      refine g_if_eq (P := (xs (i + 3)) = 0) X 150 dL_law_143 (by decide) Iff.rfl (fun c143 => ?_) (fun c143 => ?_)
      · refine g_iconst (v := (nI false.toNat)) X dL_law_150 (by decide) ?_
        refine g_callV (st := [.int r]) (ci := 1) (q := (RX1, TX1, 6)) (wr := (wX d hx ax on w e1 cl1 hi ct1 wi ro ri fl co ci q)) X (mM_edge _ _ d dz hm am e up w on sg nd hE (xs (i + 1)) (xs (i + 2)) false) (lw_V q195 q196 q197 q21 q198) 3 (by decide +kernel) (by decide) (by decide) rfl rfl rfl [0, 1, 2, 3, 4, 5] [6, 7, 8, 9, 10, 11, 12, 13, 14, 15, 16] [0, 1] rfl rfl rfl (by decide) (by decide) (by decide) (by rw [hT]; rfl) rfl (Nat.le_of_ble_eq_true rfl) dL_law_151 (fun r2 u hp => ?_)
        have hp : pd_eg e (xs (i + 1)) (xs (i + 2)) false r2 u := hp
        show Go K 17 3311 ((wX d hx ax on w e1 cl1 hi ct1 wi ro ri fl co ci q) ++ (wM d dz hm am u up w on sg nd)) [(0, .ref b), (1, .ref hx), (2, .ref hm), (3, .int (nI i))] 154 [.int r2, .int r]
        obtain ⟨hrr, heq⟩ := pd_eg_fun hp1 hp
        subst heq
        have hE1 := pd_eg_ed hE hp1
        subst hrr
        refine g_icmp_eq (P := True) X 391 dL_law_154 (by decide) ⟨fun _ => trivial, fun _ => rfl⟩ (fun _ => ?_) (fun c => absurd trivial c)
        exact kk on w e1 cl1 hi ct1 wi ro ri fl co ci q up sg nd ⟨hon, hw9, hE1, by rcases hp2 with z | ⟨z1, z2, z3⟩; (· exact Or.inl z.1); (· rw [z1, z2]; exact hcl), by rcases hp2 with z | ⟨z1, z2, z3⟩; (· exact Or.inl z.2); (· rw [z1, z3]; exact hct)⟩
      · exact absurd hz c143
    · exact absurd hz c116
  · show Go K 17 3311 ((wX d hx ax on w e cl hi ct wi ro ri fl co ci q) ++ (wM d dz hm am e up w on sg nd)) [(0, .ref b), (1, .ref hx), (2, .ref hm), (3, .int (nI i))] 100 []
    refine g_aload_n X dL_law_100 1 rfl rfl ?_
    refine g_aload_n X dL_law_101 0 rfl rfl ?_
    refine g_iload_n X dL_law_102 3 rfl rfl ?_
    refine g_iconst (v := (nI 1)) X dL_law_103 (by decide) ?_
    refine g_iadd (v := (nI (i + 1))) X dL_law_104 (nI_add _ _) ?_
    refine g_sld X hX hbl hbA (by omega) (by omega) dL_law_105 ?_
    refine g_aload_n X dL_law_106 0 rfl rfl ?_
    refine g_iload_n X dL_law_107 3 rfl rfl ?_
    refine g_iconst (v := (nI 2)) X dL_law_108 (by decide) ?_
    refine g_iadd (v := (nI (i + 2))) X dL_law_109 (nI_add _ _) ?_
    refine g_sld X hX hbl hbA (by omega) (by omega) dL_law_110 ?_
    refine g_aload_n X dL_law_111 0 rfl rfl ?_
    refine g_iload_n X dL_law_112 3 rfl rfl ?_
    refine g_iconst (v := (nI 3)) X dL_law_113 (by decide) ?_
    refine g_iadd (v := (nI (i + 3))) X dL_law_114 (nI_add _ _) ?_
    refine g_sld X hX hbl hbA (by omega) (by omega) dL_law_115 ?_
    refine g_if_eq (P := (xs (i + 3)) = 0) X 123 dL_law_116 (by decide) Iff.rfl (fun c116 => ?_) (fun c116 => ?_)
    · exact absurd c116 hz
    · refine g_iconst (v := (nI true.toNat)) X dL_law_119 (by decide) ?_
      refine g_goto X 124 dL_law_120 (by decide) ?_
      refine g_callV (st := []) (ci := 0) (q := (RX0, TX0, 13)) (wr := (wM d dz hm am e up w on sg nd)) X (mX_edge _ _ d hx ax on w e cl hi ct wi ro ri fl co ci q hE (xs (i + 1)) (xs (i + 2)) true) (lw_V q71 q72 q73 q20 q74) 3 (by decide +kernel) (by decide) (by decide) rfl rfl rfl [0, 1, 2, 3, 4, 5, 6, 7, 8, 9, 10] [11, 12, 13, 14, 15, 16] [0] rfl rfl rfl (by decide) (by decide) (by decide) (by rw [hT]; rfl) rfl (Nat.le_of_ble_eq_true rfl) dL_law_124 (fun r u hp => ?_)
      obtain ⟨e1, cl1, ct1⟩ := u
      obtain ⟨hp1, hp2⟩ := hp
      have hp1 : pd_eg e (xs (i + 1)) (xs (i + 2)) true r e1 := hp1
      have hp2 : (cl1 = 0 ∧ ct1 = 0) ∨ (e1 = e ∧ cl1 = cl ∧ ct1 = ct) := hp2
      show Go K 17 3311 ((wM d dz hm am e up w on sg nd) ++ (wX d hx ax on w e1 cl1 hi ct1 wi ro ri fl co ci q)) [(0, .ref b), (1, .ref hx), (2, .ref hm), (3, .int (nI i))] 127 [.int r]
      refine g_aload_n X dL_law_127 2 rfl rfl ?_
      refine g_aload_n X dL_law_128 0 rfl rfl ?_
      refine g_iload_n X dL_law_129 3 rfl rfl ?_
      refine g_iconst (v := (nI 1)) X dL_law_130 (by decide) ?_
      refine g_iadd (v := (nI (i + 1))) X dL_law_131 (nI_add _ _) ?_
      refine g_sld X hX hbl hbA (by omega) (by omega) dL_law_132 ?_
      refine g_aload_n X dL_law_133 0 rfl rfl ?_
      refine g_iload_n X dL_law_134 3 rfl rfl ?_
      refine g_iconst (v := (nI 2)) X dL_law_135 (by decide) ?_
      refine g_iadd (v := (nI (i + 2))) X dL_law_136 (nI_add _ _) ?_
      refine g_sld X hX hbl hbA (by omega) (by omega) dL_law_137 ?_
      refine g_aload_n X dL_law_138 0 rfl rfl ?_
      refine g_iload_n X dL_law_139 3 rfl rfl ?_
      refine g_iconst (v := (nI 3)) X dL_law_140 (by decide) ?_
      refine g_iadd (v := (nI (i + 3))) X dL_law_141 (nI_add _ _) ?_
      refine g_sld X hX hbl hbA (by omega) (by omega) dL_law_142 ?_
      refine g_if_eq (P := (xs (i + 3)) = 0) X 150 dL_law_143 (by decide) Iff.rfl (fun c143 => ?_) (fun c143 => ?_)
      · exact absurd c143 hz
      · refine g_iconst (v := (nI true.toNat)) X dL_law_146 (by decide) ?_
        refine g_goto X 151 dL_law_147 (by decide) ?_
        refine g_callV (st := [.int r]) (ci := 1) (q := (RX1, TX1, 6)) (wr := (wX d hx ax on w e1 cl1 hi ct1 wi ro ri fl co ci q)) X (mM_edge _ _ d dz hm am e up w on sg nd hE (xs (i + 1)) (xs (i + 2)) true) (lw_V q195 q196 q197 q21 q198) 3 (by decide +kernel) (by decide) (by decide) rfl rfl rfl [0, 1, 2, 3, 4, 5] [6, 7, 8, 9, 10, 11, 12, 13, 14, 15, 16] [0, 1] rfl rfl rfl (by decide) (by decide) (by decide) (by rw [hT]; rfl) rfl (Nat.le_of_ble_eq_true rfl) dL_law_151 (fun r2 u hp => ?_)
        have hp : pd_eg e (xs (i + 1)) (xs (i + 2)) true r2 u := hp
        show Go K 17 3311 ((wX d hx ax on w e1 cl1 hi ct1 wi ro ri fl co ci q) ++ (wM d dz hm am u up w on sg nd)) [(0, .ref b), (1, .ref hx), (2, .ref hm), (3, .int (nI i))] 154 [.int r2, .int r]
        obtain ⟨hrr, heq⟩ := pd_eg_fun hp1 hp
        subst heq
        have hE1 := pd_eg_ed hE hp1
        subst hrr
        refine g_icmp_eq (P := True) X 391 dL_law_154 (by decide) ⟨fun _ => trivial, fun _ => rfl⟩ (fun _ => ?_) (fun c => absurd trivial c)
        exact kk on w e1 cl1 hi ct1 wi ro ri fl co ci q up sg nd ⟨hon, hw9, hE1, by rcases hp2 with z | ⟨z1, z2, z3⟩; (· exact Or.inl z.1); (· rw [z1, z2]; exact hcl), by rcases hp2 with z | ⟨z1, z2, z3⟩; (· exact Or.inl z.2); (· rw [z1, z3]; exact hct)⟩
set_option maxHeartbeats 4000000 in
set_option maxRecDepth 100000 in
theorem law_turn (X : Cx K cL_law "PathCoverDagLaw" ret 4 room_1) (hT : kT K = [(d, .int), (dz, .boolean)]) (hX : va_X b Ln xs (ks K) (ks K).heap) (hbl : b < (ks K).heap.size) (hbA : ¬ kA K b) (hn : Ln ≤ 256) (hi4 : i + 4 ≤ Ln) (kk : LG K d dz hx ax hm am b i 391) : LG K d dz hx ax hm am b i 159 := by
  intro on w e cl hi ct wi ro ri fl co ci q up sg nd hI
  obtain ⟨hon, hw9, hE, hcl, hct⟩ := hI
  by_cases hz : xs (i + 2) = 0
  · show Go K 17 3311 ((wX d hx ax on w e cl hi ct wi ro ri fl co ci q) ++ (wM d dz hm am e up w on sg nd)) [(0, .ref b), (1, .ref hx), (2, .ref hm), (3, .int (nI i))] 159 []
    refine g_aload_n X dL_law_159 1 rfl rfl ?_
    refine g_aload_n X dL_law_160 0 rfl rfl ?_
    refine g_iload_n X dL_law_161 3 rfl rfl ?_
    refine g_iconst (v := (nI 1)) X dL_law_162 (by decide) ?_
    refine g_iadd (v := (nI (i + 1))) X dL_law_163 (nI_add _ _) ?_
    refine g_sld X hX hbl hbA (by omega) (by omega) dL_law_164 ?_
    refine g_aload_n X dL_law_165 0 rfl rfl ?_
    refine g_iload_n X dL_law_166 3 rfl rfl ?_
    refine g_iconst (v := (nI 2)) X dL_law_167 (by decide) ?_
    refine g_iadd (v := (nI (i + 2))) X dL_law_168 (nI_add _ _) ?_
    refine g_sld X hX hbl hbA (by omega) (by omega) dL_law_169 ?_
    refine g_if_eq (P := (xs (i + 2)) = 0) X 177 dL_law_170 (by decide) Iff.rfl (fun c170 => ?_) (fun c170 => ?_)
    · refine g_iconst (v := (nI false.toNat)) X dL_law_177 (by decide) ?_
      refine g_callV (st := []) (ci := 0) (q := (RX0, TX0, 13)) (wr := (wM d dz hm am e up w on sg nd)) X (mX_turn _ _ d hx ax on w e cl hi ct wi ro ri fl co ci q hon (xs (i + 1)) false) (lw_V q75 q76 q77 q20 q78) 2 (by decide +kernel) (by decide) (by decide) rfl rfl rfl [0, 1, 2, 3, 4, 5, 6, 7, 8, 9, 10] [11, 12, 13, 14, 15, 16] [0] rfl rfl rfl (by decide) (by decide) (by decide) (by rw [hT]; rfl) rfl (Nat.le_of_ble_eq_true rfl) dL_law_178 (fun r u hp => ?_)
      obtain ⟨on1, rfl⟩ : ∃ z, z = u := ⟨u, rfl⟩
      have hp1 : pd_tu on (xs (i + 1)) false r on1 := hp
      show Go K 17 3311 ((wM d dz hm am e up w on sg nd) ++ (wX d hx ax on1 w e cl hi ct wi ro ri fl co ci q)) [(0, .ref b), (1, .ref hx), (2, .ref hm), (3, .int (nI i))] 181 [.int r]
      refine g_aload_n X dL_law_181 2 rfl rfl ?_
      refine g_aload_n X dL_law_182 0 rfl rfl ?_
      refine g_iload_n X dL_law_183 3 rfl rfl ?_
      refine g_iconst (v := (nI 1)) X dL_law_184 (by decide) ?_
      refine g_iadd (v := (nI (i + 1))) X dL_law_185 (nI_add _ _) ?_
      refine g_sld X hX hbl hbA (by omega) (by omega) dL_law_186 ?_
      refine g_aload_n X dL_law_187 0 rfl rfl ?_
      refine g_iload_n X dL_law_188 3 rfl rfl ?_
      refine g_iconst (v := (nI 2)) X dL_law_189 (by decide) ?_
      refine g_iadd (v := (nI (i + 2))) X dL_law_190 (nI_add _ _) ?_
      refine g_sld X hX hbl hbA (by omega) (by omega) dL_law_191 ?_
      refine g_if_eq (P := (xs (i + 2)) = 0) X 199 dL_law_192 (by decide) Iff.rfl (fun c192 => ?_) (fun c192 => ?_)
      · refine g_iconst (v := (nI false.toNat)) X dL_law_199 (by decide) ?_
        refine g_callV (st := [.int r]) (ci := 1) (q := (RX1, TX1, 6)) (wr := (wX d hx ax on1 w e cl hi ct wi ro ri fl co ci q)) X (mM_turn _ _ d dz hm am e up w on sg nd hon (xs (i + 1)) false) (lw_V q199 q200 q201 q21 q202) 2 (by decide +kernel) (by decide) (by decide) rfl rfl rfl [0, 1, 2, 3, 4, 5] [6, 7, 8, 9, 10, 11, 12, 13, 14, 15, 16] [0, 1] rfl rfl rfl (by decide) (by decide) (by decide) (by rw [hT]; rfl) rfl (Nat.le_of_ble_eq_true rfl) dL_law_200 (fun r2 u hp => ?_)
        have hp : pd_tu on (xs (i + 1)) false r2 u := hp
        show Go K 17 3311 ((wX d hx ax on1 w e cl hi ct wi ro ri fl co ci q) ++ (wM d dz hm am e up w u sg nd)) [(0, .ref b), (1, .ref hx), (2, .ref hm), (3, .int (nI i))] 203 [.int r2, .int r]
        obtain ⟨hrr, heq⟩ := pd_tu_fun hp1 hp
        subst heq
        have hon1 := pd_tu_lt hon hp1
        subst hrr
        refine g_icmp_eq (P := True) X 391 dL_law_203 (by decide) ⟨fun _ => trivial, fun _ => rfl⟩ (fun _ => ?_) (fun c => absurd trivial c)
        exact kk on1 w e cl hi ct wi ro ri fl co ci q up sg nd ⟨hon1, hw9, hE, hcl, hct⟩
      · exact absurd hz c192
    · exact absurd hz c170
  · show Go K 17 3311 ((wX d hx ax on w e cl hi ct wi ro ri fl co ci q) ++ (wM d dz hm am e up w on sg nd)) [(0, .ref b), (1, .ref hx), (2, .ref hm), (3, .int (nI i))] 159 []
    refine g_aload_n X dL_law_159 1 rfl rfl ?_
    refine g_aload_n X dL_law_160 0 rfl rfl ?_
    refine g_iload_n X dL_law_161 3 rfl rfl ?_
    refine g_iconst (v := (nI 1)) X dL_law_162 (by decide) ?_
    refine g_iadd (v := (nI (i + 1))) X dL_law_163 (nI_add _ _) ?_
    refine g_sld X hX hbl hbA (by omega) (by omega) dL_law_164 ?_
    refine g_aload_n X dL_law_165 0 rfl rfl ?_
    refine g_iload_n X dL_law_166 3 rfl rfl ?_
    refine g_iconst (v := (nI 2)) X dL_law_167 (by decide) ?_
    refine g_iadd (v := (nI (i + 2))) X dL_law_168 (nI_add _ _) ?_
    refine g_sld X hX hbl hbA (by omega) (by omega) dL_law_169 ?_
    refine g_if_eq (P := (xs (i + 2)) = 0) X 177 dL_law_170 (by decide) Iff.rfl (fun c170 => ?_) (fun c170 => ?_)
    · exact absurd c170 hz
    · refine g_iconst (v := (nI true.toNat)) X dL_law_173 (by decide) ?_
      refine g_goto X 178 dL_law_174 (by decide) ?_
      refine g_callV (st := []) (ci := 0) (q := (RX0, TX0, 13)) (wr := (wM d dz hm am e up w on sg nd)) X (mX_turn _ _ d hx ax on w e cl hi ct wi ro ri fl co ci q hon (xs (i + 1)) true) (lw_V q75 q76 q77 q20 q78) 2 (by decide +kernel) (by decide) (by decide) rfl rfl rfl [0, 1, 2, 3, 4, 5, 6, 7, 8, 9, 10] [11, 12, 13, 14, 15, 16] [0] rfl rfl rfl (by decide) (by decide) (by decide) (by rw [hT]; rfl) rfl (Nat.le_of_ble_eq_true rfl) dL_law_178 (fun r u hp => ?_)
      obtain ⟨on1, rfl⟩ : ∃ z, z = u := ⟨u, rfl⟩
      have hp1 : pd_tu on (xs (i + 1)) true r on1 := hp
      show Go K 17 3311 ((wM d dz hm am e up w on sg nd) ++ (wX d hx ax on1 w e cl hi ct wi ro ri fl co ci q)) [(0, .ref b), (1, .ref hx), (2, .ref hm), (3, .int (nI i))] 181 [.int r]
      refine g_aload_n X dL_law_181 2 rfl rfl ?_
      refine g_aload_n X dL_law_182 0 rfl rfl ?_
      refine g_iload_n X dL_law_183 3 rfl rfl ?_
      refine g_iconst (v := (nI 1)) X dL_law_184 (by decide) ?_
      refine g_iadd (v := (nI (i + 1))) X dL_law_185 (nI_add _ _) ?_
      refine g_sld X hX hbl hbA (by omega) (by omega) dL_law_186 ?_
      refine g_aload_n X dL_law_187 0 rfl rfl ?_
      refine g_iload_n X dL_law_188 3 rfl rfl ?_
      refine g_iconst (v := (nI 2)) X dL_law_189 (by decide) ?_
      refine g_iadd (v := (nI (i + 2))) X dL_law_190 (nI_add _ _) ?_
      refine g_sld X hX hbl hbA (by omega) (by omega) dL_law_191 ?_
      refine g_if_eq (P := (xs (i + 2)) = 0) X 199 dL_law_192 (by decide) Iff.rfl (fun c192 => ?_) (fun c192 => ?_)
      · exact absurd c192 hz
      · refine g_iconst (v := (nI true.toNat)) X dL_law_195 (by decide) ?_
        refine g_goto X 200 dL_law_196 (by decide) ?_
        refine g_callV (st := [.int r]) (ci := 1) (q := (RX1, TX1, 6)) (wr := (wX d hx ax on1 w e cl hi ct wi ro ri fl co ci q)) X (mM_turn _ _ d dz hm am e up w on sg nd hon (xs (i + 1)) true) (lw_V q199 q200 q201 q21 q202) 2 (by decide +kernel) (by decide) (by decide) rfl rfl rfl [0, 1, 2, 3, 4, 5] [6, 7, 8, 9, 10, 11, 12, 13, 14, 15, 16] [0, 1] rfl rfl rfl (by decide) (by decide) (by decide) (by rw [hT]; rfl) rfl (Nat.le_of_ble_eq_true rfl) dL_law_200 (fun r2 u hp => ?_)
        have hp : pd_tu on (xs (i + 1)) true r2 u := hp
        show Go K 17 3311 ((wX d hx ax on1 w e cl hi ct wi ro ri fl co ci q) ++ (wM d dz hm am e up w u sg nd)) [(0, .ref b), (1, .ref hx), (2, .ref hm), (3, .int (nI i))] 203 [.int r2, .int r]
        obtain ⟨hrr, heq⟩ := pd_tu_fun hp1 hp
        subst heq
        have hon1 := pd_tu_lt hon hp1
        subst hrr
        refine g_icmp_eq (P := True) X 391 dL_law_203 (by decide) ⟨fun _ => trivial, fun _ => rfl⟩ (fun _ => ?_) (fun c => absurd trivial c)
        exact kk on1 w e cl hi ct wi ro ri fl co ci q up sg nd ⟨hon1, hw9, hE, hcl, hct⟩
set_option maxHeartbeats 4000000 in
set_option maxRecDepth 100000 in
theorem law_weight (X : Cx K cL_law "PathCoverDagLaw" ret 4 room_1) (hT : kT K = [(d, .int), (dz, .boolean)]) (hX : va_X b Ln xs (ks K) (ks K).heap) (hbl : b < (ks K).heap.size) (hbA : ¬ kA K b) (hn : Ln ≤ 256) (hi4 : i + 4 ≤ Ln) (kk : LG K d dz hx ax hm am b i 391) : LG K d dz hx ax hm am b i 208 := by
  intro on w e cl hi ct wi ro ri fl co ci q up sg nd hI
  obtain ⟨hon, hw9, hE, hcl, hct⟩ := hI
  show Go K 17 3311 ((wX d hx ax on w e cl hi ct wi ro ri fl co ci q) ++ (wM d dz hm am e up w on sg nd)) [(0, .ref b), (1, .ref hx), (2, .ref hm), (3, .int (nI i))] 208 []
  refine g_aload_n X dL_law_208 1 rfl rfl ?_
  refine g_aload_n X dL_law_209 0 rfl rfl ?_
  refine g_iload_n X dL_law_210 3 rfl rfl ?_
  refine g_iconst (v := (nI 1)) X dL_law_211 (by decide) ?_
  refine g_iadd (v := (nI (i + 1))) X dL_law_212 (nI_add _ _) ?_
  refine g_sld X hX hbl hbA (by omega) (by omega) dL_law_213 ?_
  refine g_aload_n X dL_law_214 0 rfl rfl ?_
  refine g_iload_n X dL_law_215 3 rfl rfl ?_
  refine g_iconst (v := (nI 2)) X dL_law_216 (by decide) ?_
  refine g_iadd (v := (nI (i + 2))) X dL_law_217 (nI_add _ _) ?_
  refine g_sld X hX hbl hbA (by omega) (by omega) dL_law_218 ?_
  refine g_callV (st := []) (ci := 0) (q := (RX0, TX0, 13)) (wr := (wM d dz hm am e up w on sg nd)) X (mX_weight _ _ d hx ax on w e cl hi ct wi ro ri fl co ci q (xs (i + 1)) (xs (i + 2))) (lw_V q82 q83 q84 q20 q85) 2 (by decide +kernel) (by decide) (by decide) rfl rfl rfl [0, 1, 2, 3, 4, 5, 6, 7, 8, 9, 10] [11, 12, 13, 14, 15, 16] [0] rfl rfl rfl (by decide) (by decide) (by decide) (by rw [hT]; rfl) rfl (Nat.le_of_ble_eq_true rfl) dL_law_219 (fun r u hp => ?_)
  obtain ⟨w1, rfl⟩ : ∃ z, z = u := ⟨u, rfl⟩
  have hp1 : pd_we w (xs (i + 1)) (xs (i + 2)) r w1 := hp
  show Go K 17 3311 ((wM d dz hm am e up w on sg nd) ++ (wX d hx ax on w1 e cl hi ct wi ro ri fl co ci q)) [(0, .ref b), (1, .ref hx), (2, .ref hm), (3, .int (nI i))] 222 [.int r]
  refine g_aload_n X dL_law_222 2 rfl rfl ?_
  refine g_aload_n X dL_law_223 0 rfl rfl ?_
  refine g_iload_n X dL_law_224 3 rfl rfl ?_
  refine g_iconst (v := (nI 1)) X dL_law_225 (by decide) ?_
  refine g_iadd (v := (nI (i + 1))) X dL_law_226 (nI_add _ _) ?_
  refine g_sld X hX hbl hbA (by omega) (by omega) dL_law_227 ?_
  refine g_aload_n X dL_law_228 0 rfl rfl ?_
  refine g_iload_n X dL_law_229 3 rfl rfl ?_
  refine g_iconst (v := (nI 2)) X dL_law_230 (by decide) ?_
  refine g_iadd (v := (nI (i + 2))) X dL_law_231 (nI_add _ _) ?_
  refine g_sld X hX hbl hbA (by omega) (by omega) dL_law_232 ?_
  refine g_callV (st := [.int r]) (ci := 1) (q := (RX1, TX1, 6)) (wr := (wX d hx ax on w1 e cl hi ct wi ro ri fl co ci q)) X (mM_weight _ _ d dz hm am e up w on sg nd (xs (i + 1)) (xs (i + 2))) (lw_V q207 q208 q209 q21 q210) 2 (by decide +kernel) (by decide) (by decide) rfl rfl rfl [0, 1, 2, 3, 4, 5] [6, 7, 8, 9, 10, 11, 12, 13, 14, 15, 16] [0, 1] rfl rfl rfl (by decide) (by decide) (by decide) (by rw [hT]; rfl) rfl (Nat.le_of_ble_eq_true rfl) dL_law_233 (fun r2 u hp => ?_)
  have hp : pd_we w (xs (i + 1)) (xs (i + 2)) r2 u := hp
  show Go K 17 3311 ((wX d hx ax on w1 e cl hi ct wi ro ri fl co ci q) ++ (wM d dz hm am e up u on sg nd)) [(0, .ref b), (1, .ref hx), (2, .ref hm), (3, .int (nI i))] 236 [.int r2, .int r]
  obtain ⟨hrr, heq⟩ := pd_we_fun hp1 hp
  subst heq
  have hw1 := pd_we_le hw9 hp1
  subst hrr
  refine g_icmp_eq (P := True) X 391 dL_law_236 (by decide) ⟨fun _ => trivial, fun _ => rfl⟩ (fun _ => ?_) (fun c => absurd trivial c)
  exact kk on w1 e cl hi ct wi ro ri fl co ci q up sg nd ⟨hon, hw1, hE, hcl, hct⟩
set_option maxHeartbeats 4000000 in
set_option maxRecDepth 100000 in
theorem law_above (X : Cx K cL_law "PathCoverDagLaw" ret 4 room_1) (hT : kT K = [(d, .int), (dz, .boolean)]) (hX : va_X b Ln xs (ks K) (ks K).heap) (hbl : b < (ks K).heap.size) (hbA : ¬ kA K b) (hn : Ln ≤ 256) (hi4 : i + 4 ≤ Ln) (kk : LG K d dz hx ax hm am b i 391) : LG K d dz hx ax hm am b i 241 := by
  intro on w e cl hi ct wi ro ri fl co ci q up sg nd hI
  obtain ⟨hon, hw9, hE, hcl, hct⟩ := hI
  show Go K 17 3311 ((wX d hx ax on w e cl hi ct wi ro ri fl co ci q) ++ (wM d dz hm am e up w on sg nd)) [(0, .ref b), (1, .ref hx), (2, .ref hm), (3, .int (nI i))] 241 []
  refine g_aload_n X dL_law_241 1 rfl rfl ?_
  refine g_aload_n X dL_law_242 0 rfl rfl ?_
  refine g_iload_n X dL_law_243 3 rfl rfl ?_
  refine g_iconst (v := (nI 1)) X dL_law_244 (by decide) ?_
  refine g_iadd (v := (nI (i + 1))) X dL_law_245 (nI_add _ _) ?_
  refine g_sld X hX hbl hbA (by omega) (by omega) dL_law_246 ?_
  refine g_aload_n X dL_law_247 0 rfl rfl ?_
  refine g_iload_n X dL_law_248 3 rfl rfl ?_
  refine g_iconst (v := (nI 2)) X dL_law_249 (by decide) ?_
  refine g_iadd (v := (nI (i + 2))) X dL_law_250 (nI_add _ _) ?_
  refine g_sld X hX hbl hbA (by omega) (by omega) dL_law_251 ?_
  refine g_callV (st := []) (ci := 0) (q := (RX0, TX0, 13)) (wr := (wM d dz hm am e up w on sg nd)) X (mX_above _ _ d hx ax on w e cl hi ct wi ro ri fl co ci q hE hcl (xs (i + 1)) (xs (i + 2))) (lw_V q86 q87 q88 q20 q89) 2 (by decide +kernel) (by decide) (by decide) rfl rfl rfl [0, 1, 2, 3, 4, 5, 6, 7, 8, 9, 10] [11, 12, 13, 14, 15, 16] [0] rfl rfl rfl (by decide) (by decide) (by decide) (by rw [hT]; rfl) rfl (Nat.le_of_ble_eq_true rfl) dL_law_252 (fun r u hp => ?_)
  obtain ⟨cl1, hi1⟩ := u
  obtain ⟨hp1, hp2⟩ := hp
  have hp2 : cl1 = 0 ∨ (cl1 = 1 ∧ ∀ v, v < 10 → hi1 v = pd_up e v) := hp2
  show Go K 17 3311 ((wM d dz hm am e up w on sg nd) ++ (wX d hx ax on w e cl1 hi1 ct wi ro ri fl co ci q)) [(0, .ref b), (1, .ref hx), (2, .ref hm), (3, .int (nI i))] 255 [.int r]
  refine g_aload_n X dL_law_255 2 rfl rfl ?_
  refine g_aload_n X dL_law_256 0 rfl rfl ?_
  refine g_iload_n X dL_law_257 3 rfl rfl ?_
  refine g_iconst (v := (nI 1)) X dL_law_258 (by decide) ?_
  refine g_iadd (v := (nI (i + 1))) X dL_law_259 (nI_add _ _) ?_
  refine g_sld X hX hbl hbA (by omega) (by omega) dL_law_260 ?_
  refine g_aload_n X dL_law_261 0 rfl rfl ?_
  refine g_iload_n X dL_law_262 3 rfl rfl ?_
  refine g_iconst (v := (nI 2)) X dL_law_263 (by decide) ?_
  refine g_iadd (v := (nI (i + 2))) X dL_law_264 (nI_add _ _) ?_
  refine g_sld X hX hbl hbA (by omega) (by omega) dL_law_265 ?_
  refine g_callV (st := [.int r]) (ci := 1) (q := (RX1, TX1, 6)) (wr := (wX d hx ax on w e cl1 hi1 ct wi ro ri fl co ci q)) X (mM_above _ _ d dz hm am e up w on sg nd hE (xs (i + 1)) (xs (i + 2))) (lw_V q211 q212 q213 q21 q214) 2 (by decide +kernel) (by decide) (by decide) rfl rfl rfl [0, 1, 2, 3, 4, 5] [6, 7, 8, 9, 10, 11, 12, 13, 14, 15, 16] [0, 1] rfl rfl rfl (by decide) (by decide) (by decide) (by rw [hT]; rfl) rfl (Nat.le_of_ble_eq_true rfl) dL_law_266 (fun r2 u hp => ?_)
  show Go K 17 3311 ((wX d hx ax on w e cl1 hi1 ct wi ro ri fl co ci q) ++ (wM d dz hm am e u w on sg nd)) [(0, .ref b), (1, .ref hx), (2, .ref hm), (3, .int (nI i))] 269 [.int r2, .int r]
  have hrr := pd_bv_fun hp1 hp
  subst hrr
  refine g_icmp_eq (P := True) X 391 dL_law_269 (by decide) ⟨fun _ => trivial, fun _ => rfl⟩ (fun _ => ?_) (fun c => absurd trivial c)
  exact kk on w e cl1 hi1 ct wi ro ri fl co ci q u sg nd ⟨hon, hw9, hE, hp2, hct⟩
set_option maxHeartbeats 4000000 in
set_option maxRecDepth 100000 in
theorem law_chains (X : Cx K cL_law "PathCoverDagLaw" ret 4 room_1) (hT : kT K = [(d, .int), (dz, .boolean)]) (hX : va_X b Ln xs (ks K) (ks K).heap) (hbl : b < (ks K).heap.size) (hbA : ¬ kA K b) (hn : Ln ≤ 256) (hi4 : i + 4 ≤ Ln) (kk : LG K d dz hx ax hm am b i 391) : LG K d dz hx ax hm am b i 274 := by
  intro on w e cl hi ct wi ro ri fl co ci q up sg nd hI
  obtain ⟨hon, hw9, hE, hcl, hct⟩ := hI
  show Go K 17 3311 ((wX d hx ax on w e cl hi ct wi ro ri fl co ci q) ++ (wM d dz hm am e up w on sg nd)) [(0, .ref b), (1, .ref hx), (2, .ref hm), (3, .int (nI i))] 274 []
  refine g_aload_n X dL_law_274 1 rfl rfl ?_
  refine g_callV (st := []) (ci := 0) (q := (RX0, TX0, 13)) (wr := (wM d dz hm am e up w on sg nd)) X (mX_chains _ _ d hx ax on w e cl hi ct wi ro ri fl co ci q hE hw9 hcl hon) (lw_V q94 q95 q96 q20 q97) 0 (by decide +kernel) (by decide) (by decide) rfl rfl rfl [0, 1, 2, 3, 4, 5, 6, 7, 8, 9, 10] [11, 12, 13, 14, 15, 16] [0] rfl rfl rfl (by decide) (by decide) (by decide) (by rw [hT]; rfl) rfl (Nat.le_of_ble_eq_true rfl) dL_law_275 (fun r u hp => ?_)
  obtain ⟨n1, hi1, ro1, ri1, fl1, co1, ci1, q1⟩ := u
  obtain ⟨hr1, hM, hh⟩ := hp
  have hr1 : r = nI (pd_bc on - n1) := hr1
  show Go K 17 3311 ((wM d dz hm am e up w on sg nd) ++ (wX d hx ax on w e 1 hi1 ct wi ro1 ri1 fl1 co1 ci1 q1)) [(0, .ref b), (1, .ref hx), (2, .ref hm), (3, .int (nI i))] 278 [.int r]
  refine g_aload_n X dL_law_278 2 rfl rfl ?_
  refine g_callV (st := [.int r]) (ci := 1) (q := (RX1, TX1, 6)) (wr := (wX d hx ax on w e 1 hi1 ct wi ro1 ri1 fl1 co1 ci1 q1)) X (mM_chains _ _ d dz hm am e up w on sg nd hE hon) (lw_V q223 q224 q225 q21 q226) 0 (by decide +kernel) (by decide) (by decide) rfl rfl rfl [0, 1, 2, 3, 4, 5] [6, 7, 8, 9, 10, 11, 12, 13, 14, 15, 16] [0, 1] rfl rfl rfl (by decide) (by decide) (by decide) (by rw [hT]; rfl) rfl (Nat.le_of_ble_eq_true rfl) dL_law_279 (fun r2 u hp => ?_)
  obtain ⟨up2, sg2, nd2⟩ := u
  obtain ⟨hr2, hN⟩ := hp
  have hr2 : r2 = nI (nd2 on) := hr2
  show Go K 17 3311 ((wX d hx ax on w e 1 hi1 ct wi ro1 ri1 fl1 co1 ci1 q1) ++ (wM d dz hm am e up2 w on sg2 nd2)) [(0, .ref b), (1, .ref hx), (2, .ref hm), (3, .int (nI i))] 282 [.int r2, .int r]
  have hq : nd2 on = pd_bc on - n1 := pd_few_eq hN hon (pd_up_or hE).1 hM
  have hrr : r = r2 := by rw [hr1, hr2, hq]
  subst hrr
  refine g_icmp_eq (P := True) X 391 dL_law_282 (by decide) ⟨fun _ => trivial, fun _ => rfl⟩ (fun _ => ?_) (fun c => absurd trivial c)
  exact kk on w e 1 hi1 ct wi ro1 ri1 fl1 co1 ci1 q1 up2 sg2 nd2 ⟨hon, hw9, hE, Or.inr ⟨rfl, hh⟩, hct⟩
set_option maxHeartbeats 4000000 in
set_option maxRecDepth 100000 in
theorem law_width (X : Cx K cL_law "PathCoverDagLaw" ret 4 room_1) (hT : kT K = [(d, .int), (dz, .boolean)]) (hX : va_X b Ln xs (ks K) (ks K).heap) (hbl : b < (ks K).heap.size) (hbA : ¬ kA K b) (hn : Ln ≤ 256) (hi4 : i + 4 ≤ Ln) (kk : LG K d dz hx ax hm am b i 391) : LG K d dz hx ax hm am b i 287 := by
  intro on w e cl hi ct wi ro ri fl co ci q up sg nd hI
  obtain ⟨hon, hw9, hE, hcl, hct⟩ := hI
  show Go K 17 3311 ((wX d hx ax on w e cl hi ct wi ro ri fl co ci q) ++ (wM d dz hm am e up w on sg nd)) [(0, .ref b), (1, .ref hx), (2, .ref hm), (3, .int (nI i))] 287 []
  refine g_aload_n X dL_law_287 1 rfl rfl ?_
  refine g_callV (st := []) (ci := 0) (q := (RX0, TX0, 13)) (wr := (wM d dz hm am e up w on sg nd)) X (mX_width _ _ d hx ax on w e cl hi ct wi ro ri fl co ci q hE hw9 hcl hon) (lw_V q125 q126 q127 q20 q128) 0 (by decide +kernel) (by decide) (by decide) rfl rfl rfl [0, 1, 2, 3, 4, 5, 6, 7, 8, 9, 10] [11, 12, 13, 14, 15, 16] [0] rfl rfl rfl (by decide) (by decide) (by decide) (by rw [hT]; rfl) rfl (Nat.le_of_ble_eq_true rfl) dL_law_288 (fun r u hp => ?_)
  obtain ⟨n1, hi1, ro1, ri1, fl1, co1, ci1, q1⟩ := u
  obtain ⟨hr1, hM, hh⟩ := hp
  have hr1 : r = nI (pd_bc on - n1) := hr1
  show Go K 17 3311 ((wM d dz hm am e up w on sg nd) ++ (wX d hx ax on w e 1 hi1 ct wi ro1 ri1 fl1 co1 ci1 q1)) [(0, .ref b), (1, .ref hx), (2, .ref hm), (3, .int (nI i))] 291 [.int r]
  refine g_aload_n X dL_law_291 2 rfl rfl ?_
  refine g_callV (st := [.int r]) (ci := 1) (q := (RX1, TX1, 6)) (wr := (wX d hx ax on w e 1 hi1 ct wi ro1 ri1 fl1 co1 ci1 q1)) X (mM_width _ _ d dz hm am e up w on sg nd hE hw9) (lw_V q235 q236 q237 q21 q238) 0 (by decide +kernel) (by decide) (by decide) rfl rfl rfl [0, 1, 2, 3, 4, 5] [6, 7, 8, 9, 10, 11, 12, 13, 14, 15, 16] [0, 1] rfl rfl rfl (by decide) (by decide) (by decide) (by rw [hT]; rfl) rfl (Nat.le_of_ble_eq_true rfl) dL_law_292 (fun r2 u hp => ?_)
  obtain ⟨hr2, -⟩ := hp
  show Go K 17 3311 ((wX d hx ax on w e 1 hi1 ct wi ro1 ri1 fl1 co1 ci1 q1) ++ (wM d dz hm am e u w on sg nd)) [(0, .ref b), (1, .ref hx), (2, .ref hm), (3, .int (nI i))] 295 [.int r2, .int r]
  have hrr : r = r2 := by rw [hr1, hr2, pd_wd_eq (pd_up_or hE) hM]
  subst hrr
  refine g_icmp_eq (P := True) X 391 dL_law_295 (by decide) ⟨fun _ => trivial, fun _ => rfl⟩ (fun _ => ?_) (fun c => absurd trivial c)
  exact kk on w e 1 hi1 ct wi ro1 ri1 fl1 co1 ci1 q1 u sg nd ⟨hon, hw9, hE, Or.inr ⟨rfl, hh⟩, hct⟩
set_option maxHeartbeats 4000000 in
set_option maxRecDepth 100000 in
theorem law_antichain (X : Cx K cL_law "PathCoverDagLaw" ret 4 room_1) (hT : kT K = [(d, .int), (dz, .boolean)]) (hX : va_X b Ln xs (ks K) (ks K).heap) (hbl : b < (ks K).heap.size) (hbA : ¬ kA K b) (hn : Ln ≤ 256) (hi4 : i + 4 ≤ Ln) (kk : LG K d dz hx ax hm am b i 391) : LG K d dz hx ax hm am b i 300 := by
  intro on w e cl hi ct wi ro ri fl co ci q up sg nd hI
  obtain ⟨hon, hw9, hE, hcl, hct⟩ := hI
  show Go K 17 3311 ((wX d hx ax on w e cl hi ct wi ro ri fl co ci q) ++ (wM d dz hm am e up w on sg nd)) [(0, .ref b), (1, .ref hx), (2, .ref hm), (3, .int (nI i))] 300 []
  refine g_aload_n X dL_law_300 1 rfl rfl ?_
  refine g_callV (st := []) (ci := 0) (q := (RX0, TX0, 13)) (wr := (wM d dz hm am e up w on sg nd)) X (mX_antichain _ _ d hx ax on w e cl hi ct wi ro ri fl co ci q hE hw9 hcl hon) (lw_V q129 q130 q131 q20 q132) 0 (by decide +kernel) (by decide) (by decide) rfl rfl rfl [0, 1, 2, 3, 4, 5, 6, 7, 8, 9, 10] [11, 12, 13, 14, 15, 16] [0] rfl rfl rfl (by decide) (by decide) (by decide) (by rw [hT]; rfl) rfl (Nat.le_of_ble_eq_true rfl) dL_law_301 (fun r u hp => ?_)
  obtain ⟨n1, hi1, ro1, ri1, fl1, co1, ci1, q1⟩ := u
  obtain ⟨hr1, ha1, ha2, ha3, ha4, hh⟩ := hp
  have hr1 : r = nI n1 := hr1
  show Go K 17 3311 ((wM d dz hm am e up w on sg nd) ++ (wX d hx ax on w e 1 hi1 ct wi ro1 ri1 fl1 co1 ci1 q1)) [(0, .ref b), (1, .ref hx), (2, .ref hm), (3, .int (nI i))] 304 [.int r]
  refine g_aload_n X dL_law_304 2 rfl rfl ?_
  refine g_callV (st := [.int r]) (ci := 1) (q := (RX1, TX1, 6)) (wr := (wX d hx ax on w e 1 hi1 ct wi ro1 ri1 fl1 co1 ci1 q1)) X (mM_antichain _ _ d dz hm am e up w on sg nd hE hw9) (lw_V q247 q248 q249 q21 q250) 0 (by decide +kernel) (by decide) (by decide) rfl rfl rfl [0, 1, 2, 3, 4, 5] [6, 7, 8, 9, 10, 11, 12, 13, 14, 15, 16] [0, 1] rfl rfl rfl (by decide) (by decide) (by decide) (by rw [hT]; rfl) rfl (Nat.le_of_ble_eq_true rfl) dL_law_305 (fun r2 u hp => ?_)
  obtain ⟨n2, up2⟩ := u
  obtain ⟨hr2, hb1, hb2, hb3, hb4⟩ := hp
  have hr2 : r2 = nI n2 := hr2
  show Go K 17 3311 ((wX d hx ax on w e 1 hi1 ct wi ro1 ri1 fl1 co1 ci1 q1) ++ (wM d dz hm am e up2 w on sg nd)) [(0, .ref b), (1, .ref hx), (2, .ref hm), (3, .int (nI i))] 308 [.int r2, .int r]
  have hrr : r = r2 := by
    rw [hr1, hr2]
    rcases Nat.lt_trichotomy n1 n2 with z | z | z
    · exact absurd ha3 (hb4 n1 z ha2)
    · rw [z]
    · exact absurd hb3 (ha4 n2 z hb2)
  subst hrr
  refine g_icmp_eq (P := True) X 391 dL_law_308 (by decide) ⟨fun _ => trivial, fun _ => rfl⟩ (fun _ => ?_) (fun c => absurd trivial c)
  exact kk on w e 1 hi1 ct wi ro1 ri1 fl1 co1 ci1 q1 up2 sg nd ⟨hon, hw9, hE, Or.inr ⟨rfl, hh⟩, hct⟩
set_option maxHeartbeats 4000000 in
set_option maxRecDepth 100000 in
theorem law_paths (X : Cx K cL_law "PathCoverDagLaw" ret 4 room_1) (hT : kT K = [(d, .int), (dz, .boolean)]) (hX : va_X b Ln xs (ks K) (ks K).heap) (hbl : b < (ks K).heap.size) (hbA : ¬ kA K b) (hn : Ln ≤ 256) (hi4 : i + 4 ≤ Ln) (kk : LG K d dz hx ax hm am b i 391) : LG K d dz hx ax hm am b i 313 := by
  intro on w e cl hi ct wi ro ri fl co ci q up sg nd hI
  obtain ⟨hon, hw9, hE, hcl, hct⟩ := hI
  show Go K 17 3311 ((wX d hx ax on w e cl hi ct wi ro ri fl co ci q) ++ (wM d dz hm am e up w on sg nd)) [(0, .ref b), (1, .ref hx), (2, .ref hm), (3, .int (nI i))] 313 []
  refine g_aload_n X dL_law_313 1 rfl rfl ?_
  refine g_callV (st := []) (ci := 0) (q := (RX0, TX0, 13)) (wr := (wM d dz hm am e up w on sg nd)) X (mX_paths _ _ d hx ax on w e cl hi ct wi ro ri fl co ci q hE hw9 hcl hon) (lw_V q137 q138 q139 q20 q140) 0 (by decide +kernel) (by decide) (by decide) rfl rfl rfl [0, 1, 2, 3, 4, 5, 6, 7, 8, 9, 10] [11, 12, 13, 14, 15, 16] [0] rfl rfl rfl (by decide) (by decide) (by decide) (by rw [hT]; rfl) rfl (Nat.le_of_ble_eq_true rfl) dL_law_314 (fun r u hp => ?_)
  obtain ⟨n1, hi1, ro1, ri1, fl1, co1, ci1, q1⟩ := u
  obtain ⟨hr1, hM, hh⟩ := hp
  have hr1 : r = nI (pd_bc on - n1) := hr1
  show Go K 17 3311 ((wM d dz hm am e up w on sg nd) ++ (wX d hx ax on w e 1 hi1 ct wi ro1 ri1 fl1 co1 ci1 q1)) [(0, .ref b), (1, .ref hx), (2, .ref hm), (3, .int (nI i))] 317 [.int r]
  refine g_aload_n X dL_law_317 2 rfl rfl ?_
  refine g_callV (st := [.int r]) (ci := 1) (q := (RX1, TX1, 6)) (wr := (wX d hx ax on w e 1 hi1 ct wi ro1 ri1 fl1 co1 ci1 q1)) X (mM_paths _ _ d dz hm am e up w on sg nd hE hon) (lw_V q252 q253 q254 q21 q255) 0 (by decide +kernel) (by decide) (by decide) rfl rfl rfl [0, 1, 2, 3, 4, 5] [6, 7, 8, 9, 10, 11, 12, 13, 14, 15, 16] [0, 1] rfl rfl rfl (by decide) (by decide) (by decide) (by rw [hT]; rfl) rfl (Nat.le_of_ble_eq_true rfl) dL_law_318 (fun r2 u hp => ?_)
  obtain ⟨up2, sg2, nd2⟩ := u
  obtain ⟨hr2, hN⟩ := hp
  have hr2 : r2 = nI (nd2 on) := hr2
  show Go K 17 3311 ((wX d hx ax on w e 1 hi1 ct wi ro1 ri1 fl1 co1 ci1 q1) ++ (wM d dz hm am e up2 w on sg2 nd2)) [(0, .ref b), (1, .ref hx), (2, .ref hm), (3, .int (nI i))] 321 [.int r2, .int r]
  have hq : nd2 on = pd_bc on - n1 := pd_few_eq hN hon hE hM
  have hrr : r = r2 := by rw [hr1, hr2, hq]
  subst hrr
  refine g_icmp_eq (P := True) X 391 dL_law_321 (by decide) ⟨fun _ => trivial, fun _ => rfl⟩ (fun _ => ?_) (fun c => absurd trivial c)
  exact kk on w e 1 hi1 ct wi ro1 ri1 fl1 co1 ci1 q1 up2 sg2 nd2 ⟨hon, hw9, hE, Or.inr ⟨rfl, hh⟩, hct⟩
set_option maxHeartbeats 4000000 in
set_option maxRecDepth 100000 in
theorem law_heaviest (X : Cx K cL_law "PathCoverDagLaw" ret 4 room_1) (hT : kT K = [(d, .int), (dz, .boolean)]) (hX : va_X b Ln xs (ks K) (ks K).heap) (hbl : b < (ks K).heap.size) (hbA : ¬ kA K b) (hn : Ln ≤ 256) (hi4 : i + 4 ≤ Ln) (kk : LG K d dz hx ax hm am b i 391) : LG K d dz hx ax hm am b i 326 := by
  intro on w e cl hi ct wi ro ri fl co ci q up sg nd hI
  obtain ⟨hon, hw9, hE, hcl, hct⟩ := hI
  show Go K 17 3311 ((wX d hx ax on w e cl hi ct wi ro ri fl co ci q) ++ (wM d dz hm am e up w on sg nd)) [(0, .ref b), (1, .ref hx), (2, .ref hm), (3, .int (nI i))] 326 []
  refine g_aload_n X dL_law_326 1 rfl rfl ?_
  refine g_callV (st := []) (ci := 0) (q := (RX0, TX0, 13)) (wr := (wM d dz hm am e up w on sg nd)) X (mX_heaviest _ _ d hx ax on w e cl hi ct wi ro ri fl co ci q hE hw9 hcl hon) (lw_V q141 q142 q143 q20 q144) 0 (by decide +kernel) (by decide) (by decide) rfl rfl rfl [0, 1, 2, 3, 4, 5, 6, 7, 8, 9, 10] [11, 12, 13, 14, 15, 16] [0] rfl rfl rfl (by decide) (by decide) (by decide) (by rw [hT]; rfl) rfl (Nat.le_of_ble_eq_true rfl) dL_law_327 (fun r u hp => ?_)
  obtain ⟨n1, hi1, ro1, ri1, fl1, co1, ci1, q1⟩ := u
  obtain ⟨hr1, hM, hh⟩ := hp
  have hr1 : r = nI (pd_ws w on - n1) := hr1
  show Go K 17 3311 ((wM d dz hm am e up w on sg nd) ++ (wX d hx ax on w e 1 hi1 ct wi ro1 ri1 fl1 co1 ci1 q1)) [(0, .ref b), (1, .ref hx), (2, .ref hm), (3, .int (nI i))] 330 [.int r]
  refine g_aload_n X dL_law_330 2 rfl rfl ?_
  refine g_callV (st := [.int r]) (ci := 1) (q := (RX1, TX1, 6)) (wr := (wX d hx ax on w e 1 hi1 ct wi ro1 ri1 fl1 co1 ci1 q1)) X (mM_heaviest _ _ d dz hm am e up w on sg nd hE hw9) (lw_V q256 q257 q258 q21 q259) 0 (by decide +kernel) (by decide) (by decide) rfl rfl rfl [0, 1, 2, 3, 4, 5] [6, 7, 8, 9, 10, 11, 12, 13, 14, 15, 16] [0, 1] rfl rfl rfl (by decide) (by decide) (by decide) (by rw [hT]; rfl) rfl (Nat.le_of_ble_eq_true rfl) dL_law_331 (fun r2 u hp => ?_)
  obtain ⟨hr2, -⟩ := hp
  show Go K 17 3311 ((wX d hx ax on w e 1 hi1 ct wi ro1 ri1 fl1 co1 ci1 q1) ++ (wM d dz hm am e u w on sg nd)) [(0, .ref b), (1, .ref hx), (2, .ref hm), (3, .int (nI i))] 334 [.int r2, .int r]
  have hrr : r = r2 := by rw [hr1, hr2, pd_heavy (pd_up_or hE) hM]
  subst hrr
  refine g_icmp_eq (P := True) X 391 dL_law_334 (by decide) ⟨fun _ => trivial, fun _ => rfl⟩ (fun _ => ?_) (fun c => absurd trivial c)
  exact kk on w e 1 hi1 ct wi ro1 ri1 fl1 co1 ci1 q1 u sg nd ⟨hon, hw9, hE, Or.inr ⟨rfl, hh⟩, hct⟩
set_option maxHeartbeats 4000000 in
set_option maxRecDepth 100000 in
theorem law_height (X : Cx K cL_law "PathCoverDagLaw" ret 4 room_1) (hT : kT K = [(d, .int), (dz, .boolean)]) (hX : va_X b Ln xs (ks K) (ks K).heap) (hbl : b < (ks K).heap.size) (hbA : ¬ kA K b) (hn : Ln ≤ 256) (hi4 : i + 4 ≤ Ln) (kk : LG K d dz hx ax hm am b i 391) : LG K d dz hx ax hm am b i 339 := by
  intro on w e cl hi ct wi ro ri fl co ci q up sg nd hI
  obtain ⟨hon, hw9, hE, hcl, hct⟩ := hI
  show Go K 17 3311 ((wX d hx ax on w e cl hi ct wi ro ri fl co ci q) ++ (wM d dz hm am e up w on sg nd)) [(0, .ref b), (1, .ref hx), (2, .ref hm), (3, .int (nI i))] 339 []
  refine g_aload_n X dL_law_339 1 rfl rfl ?_
  refine g_callV (st := []) (ci := 0) (q := (RX0, TX0, 13)) (wr := (wM d dz hm am e up w on sg nd)) X (mX_height _ _ d hx ax on w e cl hi ct wi ro ri fl co ci q hE hw9 hcl hon) (lw_V q145 q146 q147 q20 q148) 0 (by decide +kernel) (by decide) (by decide) rfl rfl rfl [0, 1, 2, 3, 4, 5, 6, 7, 8, 9, 10] [11, 12, 13, 14, 15, 16] [0] rfl rfl rfl (by decide) (by decide) (by decide) (by rw [hT]; rfl) rfl (Nat.le_of_ble_eq_true rfl) dL_law_340 (fun r u hp => ?_)
  obtain ⟨n1, hi1, ro1, ri1, fl1, co1, ci1, q1⟩ := u
  obtain ⟨hr1, hh⟩ := hp
  show Go K 17 3311 ((wM d dz hm am e up w on sg nd) ++ (wX d hx ax on w e 1 hi1 ct wi ro1 ri1 fl1 co1 ci1 q1)) [(0, .ref b), (1, .ref hx), (2, .ref hm), (3, .int (nI i))] 343 [.int r]
  refine g_aload_n X dL_law_343 2 rfl rfl ?_
  refine g_callV (st := [.int r]) (ci := 1) (q := (RX1, TX1, 6)) (wr := (wX d hx ax on w e 1 hi1 ct wi ro1 ri1 fl1 co1 ci1 q1)) X (mM_height _ _ d dz hm am e up w on sg nd hE hw9) (lw_V q264 q265 q266 q21 q267) 0 (by decide +kernel) (by decide) (by decide) rfl rfl rfl [0, 1, 2, 3, 4, 5] [6, 7, 8, 9, 10, 11, 12, 13, 14, 15, 16] [0, 1] rfl rfl rfl (by decide) (by decide) (by decide) (by rw [hT]; rfl) rfl (Nat.le_of_ble_eq_true rfl) dL_law_344 (fun r2 u hp => ?_)
  obtain ⟨hr2, -⟩ := hp
  show Go K 17 3311 ((wX d hx ax on w e 1 hi1 ct wi ro1 ri1 fl1 co1 ci1 q1) ++ (wM d dz hm am e u w on sg nd)) [(0, .ref b), (1, .ref hx), (2, .ref hm), (3, .int (nI i))] 347 [.int r2, .int r]
  have hrr : r = r2 := by rw [hr1, hr2]
  subst hrr
  refine g_icmp_eq (P := True) X 391 dL_law_347 (by decide) ⟨fun _ => trivial, fun _ => rfl⟩ (fun _ => ?_) (fun c => absurd trivial c)
  exact kk on w e 1 hi1 ct wi ro1 ri1 fl1 co1 ci1 q1 u sg nd ⟨hon, hw9, hE, Or.inr ⟨rfl, hh⟩, hct⟩
set_option maxHeartbeats 4000000 in
set_option maxRecDepth 100000 in
theorem law_heaviestChain (X : Cx K cL_law "PathCoverDagLaw" ret 4 room_1) (hT : kT K = [(d, .int), (dz, .boolean)]) (hX : va_X b Ln xs (ks K) (ks K).heap) (hbl : b < (ks K).heap.size) (hbA : ¬ kA K b) (hn : Ln ≤ 256) (hi4 : i + 4 ≤ Ln) (kk : LG K d dz hx ax hm am b i 391) : LG K d dz hx ax hm am b i 352 := by
  intro on w e cl hi ct wi ro ri fl co ci q up sg nd hI
  obtain ⟨hon, hw9, hE, hcl, hct⟩ := hI
  show Go K 17 3311 ((wX d hx ax on w e cl hi ct wi ro ri fl co ci q) ++ (wM d dz hm am e up w on sg nd)) [(0, .ref b), (1, .ref hx), (2, .ref hm), (3, .int (nI i))] 352 []
  refine g_aload_n X dL_law_352 1 rfl rfl ?_
  refine g_callV (st := []) (ci := 0) (q := (RX0, TX0, 13)) (wr := (wM d dz hm am e up w on sg nd)) X (mX_heaviestChain _ _ d hx ax on w e cl hi ct wi ro ri fl co ci q hE hw9 hcl hon) (lw_V q153 q154 q155 q20 q156) 0 (by decide +kernel) (by decide) (by decide) rfl rfl rfl [0, 1, 2, 3, 4, 5, 6, 7, 8, 9, 10] [11, 12, 13, 14, 15, 16] [0] rfl rfl rfl (by decide) (by decide) (by decide) (by rw [hT]; rfl) rfl (Nat.le_of_ble_eq_true rfl) dL_law_353 (fun r u hp => ?_)
  obtain ⟨n1, hi1, ro1, ri1, fl1, co1, ci1, q1⟩ := u
  obtain ⟨hr1, hh⟩ := hp
  show Go K 17 3311 ((wM d dz hm am e up w on sg nd) ++ (wX d hx ax on w e 1 hi1 ct wi ro1 ri1 fl1 co1 ci1 q1)) [(0, .ref b), (1, .ref hx), (2, .ref hm), (3, .int (nI i))] 356 [.int r]
  refine g_aload_n X dL_law_356 2 rfl rfl ?_
  refine g_callV (st := [.int r]) (ci := 1) (q := (RX1, TX1, 6)) (wr := (wX d hx ax on w e 1 hi1 ct wi ro1 ri1 fl1 co1 ci1 q1)) X (mM_heaviestChain _ _ d dz hm am e up w on sg nd hE hw9) (lw_V q272 q273 q274 q21 q275) 0 (by decide +kernel) (by decide) (by decide) rfl rfl rfl [0, 1, 2, 3, 4, 5] [6, 7, 8, 9, 10, 11, 12, 13, 14, 15, 16] [0, 1] rfl rfl rfl (by decide) (by decide) (by decide) (by rw [hT]; rfl) rfl (Nat.le_of_ble_eq_true rfl) dL_law_357 (fun r2 u hp => ?_)
  obtain ⟨hr2, -⟩ := hp
  show Go K 17 3311 ((wX d hx ax on w e 1 hi1 ct wi ro1 ri1 fl1 co1 ci1 q1) ++ (wM d dz hm am e u w on sg nd)) [(0, .ref b), (1, .ref hx), (2, .ref hm), (3, .int (nI i))] 360 [.int r2, .int r]
  have hrr : r = r2 := by rw [hr1, hr2]
  subst hrr
  refine g_icmp_eq (P := True) X 391 dL_law_360 (by decide) ⟨fun _ => trivial, fun _ => rfl⟩ (fun _ => ?_) (fun c => absurd trivial c)
  exact kk on w e 1 hi1 ct wi ro1 ri1 fl1 co1 ci1 q1 u sg nd ⟨hon, hw9, hE, Or.inr ⟨rfl, hh⟩, hct⟩
set_option maxHeartbeats 4000000 in
set_option maxRecDepth 100000 in
theorem law_antichains (X : Cx K cL_law "PathCoverDagLaw" ret 4 room_1) (hT : kT K = [(d, .int), (dz, .boolean)]) (hX : va_X b Ln xs (ks K) (ks K).heap) (hbl : b < (ks K).heap.size) (hbA : ¬ kA K b) (hn : Ln ≤ 256) (hi4 : i + 4 ≤ Ln) (kk : LG K d dz hx ax hm am b i 391) : LG K d dz hx ax hm am b i 365 := by
  intro on w e cl hi ct wi ro ri fl co ci q up sg nd hI
  obtain ⟨hon, hw9, hE, hcl, hct⟩ := hI
  show Go K 17 3311 ((wX d hx ax on w e cl hi ct wi ro ri fl co ci q) ++ (wM d dz hm am e up w on sg nd)) [(0, .ref b), (1, .ref hx), (2, .ref hm), (3, .int (nI i))] 365 []
  refine g_aload_n X dL_law_365 1 rfl rfl ?_
  refine g_callV (st := []) (ci := 0) (q := (RX0, TX0, 13)) (wr := (wM d dz hm am e up w on sg nd)) X (mX_antichains _ _ d hx ax on w e cl hi ct wi ro ri fl co ci q hE hw9 hcl hon hct) (lw_V q157 q158 q159 q20 q160) 0 (by decide +kernel) (by decide) (by decide) rfl rfl rfl [0, 1, 2, 3, 4, 5, 6, 7, 8, 9, 10] [11, 12, 13, 14, 15, 16] [0] rfl rfl rfl (by decide) (by decide) (by decide) (by rw [hT]; rfl) rfl (Nat.le_of_ble_eq_true rfl) dL_law_366 (fun r u hp => ?_)
  obtain ⟨hi1, wi1⟩ := u
  obtain ⟨hr1, hh, hwi⟩ := hp
  show Go K 17 3311 ((wM d dz hm am e up w on sg nd) ++ (wX d hx ax on w e 1 hi1 1 wi1 ro ri fl co ci q)) [(0, .ref b), (1, .ref hx), (2, .ref hm), (3, .int (nI i))] 369 [.int r]
  refine g_aload_n X dL_law_369 2 rfl rfl ?_
  refine g_callV (st := [.int r]) (ci := 1) (q := (RX1, TX1, 6)) (wr := (wX d hx ax on w e 1 hi1 1 wi1 ro ri fl co ci q)) X (mM_antichains _ _ d dz hm am e up w on sg nd hE hw9) (lw_V q276 q277 q278 q21 q279) 0 (by decide +kernel) (by decide) (by decide) rfl rfl rfl [0, 1, 2, 3, 4, 5] [6, 7, 8, 9, 10, 11, 12, 13, 14, 15, 16] [0, 1] rfl rfl rfl (by decide) (by decide) (by decide) (by rw [hT]; rfl) rfl (Nat.le_of_ble_eq_true rfl) dL_law_370 (fun r2 u hp => ?_)
  obtain ⟨hr2, -⟩ := hp
  show Go K 17 3311 ((wX d hx ax on w e 1 hi1 1 wi1 ro ri fl co ci q) ++ (wM d dz hm am e u w on sg nd)) [(0, .ref b), (1, .ref hx), (2, .ref hm), (3, .int (nI i))] 373 [.int r2, .int r]
  have hrr : r = r2 := by rw [hr1, hr2]
  subst hrr
  refine g_icmp_eq (P := True) X 391 dL_law_373 (by decide) ⟨fun _ => trivial, fun _ => rfl⟩ (fun _ => ?_) (fun c => absurd trivial c)
  exact kk on w e 1 hi1 1 wi1 ro ri fl co ci q u sg nd ⟨hon, hw9, hE, Or.inr ⟨rfl, hh⟩, Or.inr ⟨rfl, hwi⟩⟩
set_option maxHeartbeats 4000000 in
set_option maxRecDepth 100000 in
theorem law_apart (X : Cx K cL_law "PathCoverDagLaw" ret 4 room_1) (hT : kT K = [(d, .int), (dz, .boolean)]) (hX : va_X b Ln xs (ks K) (ks K).heap) (hbl : b < (ks K).heap.size) (hbA : ¬ kA K b) (hn : Ln ≤ 256) (hi4 : i + 4 ≤ Ln) (kk : LG K d dz hx ax hm am b i 391) : LG K d dz hx ax hm am b i 378 := by
  intro on w e cl hi ct wi ro ri fl co ci q up sg nd hI
  obtain ⟨hon, hw9, hE, hcl, hct⟩ := hI
  show Go K 17 3311 ((wX d hx ax on w e cl hi ct wi ro ri fl co ci q) ++ (wM d dz hm am e up w on sg nd)) [(0, .ref b), (1, .ref hx), (2, .ref hm), (3, .int (nI i))] 378 []
  refine g_aload_n X dL_law_378 1 rfl rfl ?_
  refine g_callV (st := []) (ci := 0) (q := (RX0, TX0, 13)) (wr := (wM d dz hm am e up w on sg nd)) X (mX_apart _ _ d hx ax on w e cl hi ct wi ro ri fl co ci q hE hw9 hcl hon) (lw_V q165 q166 q167 q20 q168) 0 (by decide +kernel) (by decide) (by decide) rfl rfl rfl [0, 1, 2, 3, 4, 5, 6, 7, 8, 9, 10] [11, 12, 13, 14, 15, 16] [0] rfl rfl rfl (by decide) (by decide) (by decide) (by rw [hT]; rfl) rfl (Nat.le_of_ble_eq_true rfl) dL_law_379 (fun r u hp => ?_)
  obtain ⟨n1, hi1, ro1, ri1, fl1, co1, ci1, q1⟩ := u
  obtain ⟨hr1, hh⟩ := hp
  show Go K 17 3311 ((wM d dz hm am e up w on sg nd) ++ (wX d hx ax on w e 1 hi1 ct wi ro1 ri1 fl1 co1 ci1 q1)) [(0, .ref b), (1, .ref hx), (2, .ref hm), (3, .int (nI i))] 382 [.int r]
  refine g_aload_n X dL_law_382 2 rfl rfl ?_
  refine g_callV (st := [.int r]) (ci := 1) (q := (RX1, TX1, 6)) (wr := (wX d hx ax on w e 1 hi1 ct wi ro1 ri1 fl1 co1 ci1 q1)) X (mM_apart _ _ d dz hm am e up w on sg nd hE hon) (lw_V q280 q281 q282 q21 q283) 0 (by decide +kernel) (by decide) (by decide) rfl rfl rfl [0, 1, 2, 3, 4, 5] [6, 7, 8, 9, 10, 11, 12, 13, 14, 15, 16] [0, 1] rfl rfl rfl (by decide) (by decide) (by decide) (by rw [hT]; rfl) rfl (Nat.le_of_ble_eq_true rfl) dL_law_383 (fun r2 u hp => ?_)
  obtain ⟨hr2, -⟩ := hp
  show Go K 17 3311 ((wX d hx ax on w e 1 hi1 ct wi ro1 ri1 fl1 co1 ci1 q1) ++ (wM d dz hm am e u w on sg nd)) [(0, .ref b), (1, .ref hx), (2, .ref hm), (3, .int (nI i))] 386 [.int r2, .int r]
  have hrr : r = r2 := by rw [hr1, hr2]
  subst hrr
  refine g_icmp_eq (P := True) X 391 dL_law_386 (by decide) ⟨fun _ => trivial, fun _ => rfl⟩ (fun _ => ?_) (fun c => absurd trivial c)
  exact kk on w e 1 hi1 ct wi ro1 ri1 fl1 co1 ci1 q1 u sg nd ⟨hon, hw9, hE, Or.inr ⟨rfl, hh⟩, hct⟩
end LAW
end
section
/-! LAW 51: the loop, the start, the walk of the law -/
section LAW2
variable {K : KK} {d dz : ClassId} {b Ln : Nat} {xs : Nat → Int32}
set_option maxHeartbeats 4000000 in
set_option maxRecDepth 100000 in
theorem law_loop {hx hm : Nat} {ax am : Nat → Nat} (X : Cx K cL_law "PathCoverDagLaw" ret 4 room_1) (hT : kT K = [(d, .int), (dz, .boolean)]) (hX : va_X b Ln xs (ks K) (ks K).heap) (hbl : b < (ks K).heap.size) (hbA : ¬ kA K b) (hn : Ln ≤ 256) (R : ∀ (ws : va_W) (L : List (Nat × Value)) (pc : Nat), decode cL_law pc = .ok (.ireturn, 1) → Go K 17 3311 ws L pc [.int (nI 1)]) : ∀ (n i : Nat), i ≤ Ln → Ln - i < n → LG K d dz hx ax hm am b i 18 := by
  intro n
  induction n with
  | zero => intro i _ h; exact absurd h (Nat.not_lt_zero _)
  | succ n ih =>
    intro i hi0 hm0
    have hback : i + 4 ≤ Ln → LG K d dz hx ax hm am b i 391 := fun h4 on w e cl hi ct wi ro ri fl co ci q up sg nd hI => by
      refine g_iinc (v := nI (i + 4)) (L' := [(3, .int (nI (i + 4))), (0, .ref b), (1, .ref hx), (2, .ref hm)]) X dL_law_391 3 rfl (pn_inc4 _) (by decide) rfl ?_
      refine g_goto X 18 dL_law_394 (by decide) ?_
      refine g_loc (L' := [(0, .ref b), (1, .ref hx), (2, .ref hm), (3, .int (nI (i + 4)))]) [1, 2, 3, 0] rfl ?_
      exact ih (i + 4) h4 (by omega) on w e cl hi ct wi ro ri fl co ci q up sg nd hI
    intro on w e cl hi ct wi ro ri fl co ci q up sg nd hI
    refine g_iload_n X dL_law_18 3 rfl rfl ?_
    refine g_aload_n X dL_law_19 0 rfl rfl ?_
    refine g_slen X hX hbl hbA dL_law_20 ?_
    refine g_iconst (v := nI 4) X dL_law_21 (by decide) ?_
    refine g_isub (v := nI Ln - nI 4) X dL_law_22 rfl ?_
    refine g_icmp_gt (P := Ln < i + 4) X 397 dL_law_23 (by decide) (pn_sub4 (by omega) (by omega)) (fun c => ?_) (fun c => ?_)
    · refine g_iconst (v := nI 1) X dL_law_397 (by decide) ?_
      exact R _ _ _ dL_law_398
    · have h4 : i + 4 ≤ Ln := by omega
      have kk := hback h4
      refine g_aload_n X dL_law_26 0 rfl rfl ?_
      refine g_iload_n X dL_law_27 3 rfl rfl ?_
      refine g_sld X hX hbl hbA (by omega) (by omega) dL_law_28 ?_
      refine g_bipush (v := nI 15) X dL_law_29 (by decide) ?_
      obtain ⟨k, hk, hk2⟩ := pn_and15 (xs i)
      refine g_iand (v := nI k) X dL_law_31 hk2 ?_
      have hk3 : k = 0 ∨ k = 1 ∨ k = 2 ∨ k = 3 ∨ k = 4 ∨ k = 5 ∨ k = 6 ∨ k = 7 ∨ k = 8 ∨ k = 9 ∨ k = 10 ∨ k = 11 ∨ k = 12 ∨ k = 13 ∨ k = 14 ∨ k = 15 := by omega
      rcases hk3 with rfl | rfl | rfl | rfl | rfl | rfl | rfl | rfl | rfl | rfl | rfl | rfl | rfl | rfl | rfl | rfl
      · refine g_tableIn (off := 68) X 100 dL_law_32 (by decide) (by decide) (by decide) (by decide) ?_
        exact law_edge X hT hX hbl hbA hn h4 kk on w e cl hi ct wi ro ri fl co ci q up sg nd hI
      · refine g_tableIn (off := 127) X 159 dL_law_32 (by decide) (by decide) (by decide) (by decide) ?_
        exact law_turn X hT hX hbl hbA hn h4 kk on w e cl hi ct wi ro ri fl co ci q up sg nd hI
      · refine g_tableIn (off := 176) X 208 dL_law_32 (by decide) (by decide) (by decide) (by decide) ?_
        exact law_weight X hT hX hbl hbA hn h4 kk on w e cl hi ct wi ro ri fl co ci q up sg nd hI
      · refine g_tableIn (off := 209) X 241 dL_law_32 (by decide) (by decide) (by decide) (by decide) ?_
        exact law_above X hT hX hbl hbA hn h4 kk on w e cl hi ct wi ro ri fl co ci q up sg nd hI
      · refine g_tableIn (off := 242) X 274 dL_law_32 (by decide) (by decide) (by decide) (by decide) ?_
        exact law_chains X hT hX hbl hbA hn h4 kk on w e cl hi ct wi ro ri fl co ci q up sg nd hI
      · refine g_tableIn (off := 255) X 287 dL_law_32 (by decide) (by decide) (by decide) (by decide) ?_
        exact law_width X hT hX hbl hbA hn h4 kk on w e cl hi ct wi ro ri fl co ci q up sg nd hI
      · refine g_tableIn (off := 268) X 300 dL_law_32 (by decide) (by decide) (by decide) (by decide) ?_
        exact law_antichain X hT hX hbl hbA hn h4 kk on w e cl hi ct wi ro ri fl co ci q up sg nd hI
      · refine g_tableIn (off := 281) X 313 dL_law_32 (by decide) (by decide) (by decide) (by decide) ?_
        exact law_paths X hT hX hbl hbA hn h4 kk on w e cl hi ct wi ro ri fl co ci q up sg nd hI
      · refine g_tableIn (off := 294) X 326 dL_law_32 (by decide) (by decide) (by decide) (by decide) ?_
        exact law_heaviest X hT hX hbl hbA hn h4 kk on w e cl hi ct wi ro ri fl co ci q up sg nd hI
      · refine g_tableIn (off := 307) X 339 dL_law_32 (by decide) (by decide) (by decide) (by decide) ?_
        exact law_height X hT hX hbl hbA hn h4 kk on w e cl hi ct wi ro ri fl co ci q up sg nd hI
      · refine g_tableIn (off := 320) X 352 dL_law_32 (by decide) (by decide) (by decide) (by decide) ?_
        exact law_heaviestChain X hT hX hbl hbA hn h4 kk on w e cl hi ct wi ro ri fl co ci q up sg nd hI
      · refine g_tableIn (off := 333) X 365 dL_law_32 (by decide) (by decide) (by decide) (by decide) ?_
        exact law_antichains X hT hX hbl hbA hn h4 kk on w e cl hi ct wi ro ri fl co ci q up sg nd hI
      · refine g_tableIn (off := 346) X 378 dL_law_32 (by decide) (by decide) (by decide) (by decide) ?_
        exact law_apart X hT hX hbl hbA hn h4 kk on w e cl hi ct wi ro ri fl co ci q up sg nd hI
      · exact g_tableOut X 391 dL_law_32 (Or.inr (by decide)) (by decide) (kk on w e cl hi ct wi ro ri fl co ci q up sg nd hI)
      · exact g_tableOut X 391 dL_law_32 (Or.inr (by decide)) (by decide) (kk on w e cl hi ct wi ro ri fl co ci q up sg nd hI)
      · exact g_tableOut X 391 dL_law_32 (Or.inr (by decide)) (by decide) (kk on w e cl hi ct wi ro ri fl co ci q up sg nd hI)
set_option maxHeartbeats 4000000 in
set_option maxRecDepth 100000 in
theorem law_start (X : Cx K cL_law "PathCoverDagLaw" ret 4 room_1) (hT : kT K = [(d, .int), (dz, .boolean)]) (hX : va_X b Ln xs (ks K) (ks K).heap) (hbl : b < (ks K).heap.size) (hbA : ¬ kA K b) (hn : Ln ≤ 256) (R : ∀ (ws : va_W) (L : List (Nat × Value)) (pc : Nat), decode cL_law pc = .ok (.ireturn, 1) → Go K 17 3311 ws L pc [.int (nI 1)]) : Go K 0 0 [] [(0, .ref b)] 0 [] := by
  refine g_new (C := RX0) (T := TX0) (N := 13) (ci := 0) (fs := [.int 0, .null, .null, .int 0, .null, .int 0, .null, .null, .null, .null, .null, .null, .null]) X in_X0 tyX0 tyX0_ok q22 q23 q20 rfl (fun j hj => by rcases (show j = 0 ∨ j = 1 ∨ j = 2 ∨ j = 3 ∨ j = 4 ∨ j = 5 ∨ j = 6 ∨ j = 7 ∨ j = 8 ∨ j = 9 ∨ j = 10 ∨ j = 11 ∨ j = 12 by omega) with rfl | rfl | rfl | rfl | rfl | rfl | rfl | rfl | rfl | rfl | rfl | rfl | rfl <;> rfl) (by decide) (by decide) dL_law_0 (fun hx => ?_)
  show Go K 1 13 [(hx, .inr (0, [.int 0, .null, .null, .int 0, .null, .int 0, .null, .null, .null, .null, .null, .null, .null]))] [(0, .ref b)] 3 [.ref hx]
  refine g_dup X dL_law_3 rfl ?_
  refine g_callI (st := [.ref hx]) (wr := []) X (mX_init _ _ d hx) (lw_meth q26) q20 q24 q25 rfl 0 (by decide +kernel) (by decide) (by decide) rfl [0] [] [0] rfl rfl rfl (by decide) (by decide) (by decide) (by rw [hT]; rfl) rfl (Nat.le_of_ble_eq_true rfl) dL_law_4 (fun u hp => ?_)
  obtain ⟨ax, w1⟩ := u
  have hp : w1 = pd_w1 10 := hp
  subst hp
  show Go K 11 1227 (wX d hx ax 1023 (pd_w1 10) (fun _ => 0) 0 (fun _ => 0) 0 (fun _ => 0) (fun _ => 0) (fun _ => 0) (fun _ => 0) (fun _ => some 0) (fun _ => some 0) (fun _ => 0)) [(0, .ref b)] 7 [.ref hx]
  refine g_astore_n (L' := [(1, .ref hx), (0, .ref b)]) X dL_law_7 rfl (by decide) rfl ?_
  refine g_new (C := RX1) (T := TX1) (N := 6) (ci := 1) (fs := [.null, .null, .null, .int 0, .null, .null]) X in_X1 tyX1 tyX1_ok q169 q170 q21 rfl (fun j hj => by rcases (show j = 0 ∨ j = 1 ∨ j = 2 ∨ j = 3 ∨ j = 4 ∨ j = 5 by omega) with rfl | rfl | rfl | rfl | rfl | rfl <;> rfl) (by decide) (by decide) dL_law_8 (fun hm => ?_)
  show Go K 12 1233 ((wX d hx ax 1023 (pd_w1 10) (fun _ => 0) 0 (fun _ => 0) 0 (fun _ => 0) (fun _ => 0) (fun _ => 0) (fun _ => 0) (fun _ => some 0) (fun _ => some 0) (fun _ => 0)) ++ [(hm, .inr (1, [.null, .null, .null, .int 0, .null, .null]))]) [(1, .ref hx), (0, .ref b)] 11 [.ref hm]
  refine g_dup X dL_law_11 rfl ?_
  refine g_callI (st := [.ref hm]) (wr := (wX d hx ax 1023 (pd_w1 10) (fun _ => 0) 0 (fun _ => 0) 0 (fun _ => 0) (fun _ => 0) (fun _ => 0) (fun _ => 0) (fun _ => some 0) (fun _ => some 0) (fun _ => 0))) (wsC := [(hm, .inr (1, [.null, .null, .null, .int 0, .null, .null]))]) X (mM_init _ _ d dz hm) (lw_meth q173) q21 q171 q172 rfl 0 (by decide +kernel) (by decide) (by decide) rfl [11] [0, 1, 2, 3, 4, 5, 6, 7, 8, 9, 10] [0, 1] rfl rfl rfl (by decide) (by decide) (by decide) (by rw [hT]; rfl) rfl (Nat.le_of_ble_eq_true rfl) dL_law_12 (fun u hp => ?_)
  obtain ⟨am, w2⟩ := u
  have hp : w2 = pd_w1 10 := hp
  subst hp
  show Go K 17 3311 ((wX d hx ax 1023 (pd_w1 10) (fun _ => 0) 0 (fun _ => 0) 0 (fun _ => 0) (fun _ => 0) (fun _ => 0) (fun _ => 0) (fun _ => some 0) (fun _ => some 0) (fun _ => 0)) ++ (wM d dz hm am (fun _ => 0) (fun _ => 0) (pd_w1 10) 1023 (fun _ => 0) (fun _ => 0))) [(1, .ref hx), (0, .ref b)] 15 [.ref hm]
  refine g_astore_n (L' := [(2, .ref hm), (1, .ref hx), (0, .ref b)]) X dL_law_15 rfl (by decide) rfl ?_
  refine g_iconst (v := nI 0) X dL_law_16 (by decide) ?_
  refine g_istore_n (L' := [(3, .int (nI 0)), (2, .ref hm), (1, .ref hx), (0, .ref b)]) X dL_law_17 rfl (by decide) rfl ?_
  refine g_loc (L' := [(0, .ref b), (1, .ref hx), (2, .ref hm), (3, .int (nI 0))]) [3, 2, 1, 0] rfl ?_
  refine law_loop X hT hX hbl hbA hn R (Ln + 1) 0 (Nat.zero_le _) (by omega) _ _ _ _ _ _ _ _ _ _ _ _ _ _ _ _ ⟨by decide, fun v hv => ?_, fun v hv x hx => ?_, Or.inl rfl, Or.inl rfl⟩
  · show (if v < 10 then 1 else 0) ≤ 9
    split <;> decide
  · rw [Nat.zero_testBit] at hx; cases hx
end LAW2
set_option maxHeartbeats 4000000 in
set_option maxRecDepth 100000 in
/-- from the entry, for every script of at most 256 ints, the law comes to its end with true -/
theorem whole_start {p : Program} {e : Env} {s : State} {m : MethodId} {below : List Frame} {meth : Method} {c : Code} (l : Launch) {b L : Nat} {xs : Nat → Int32} (hL : L ≤ 256) (C0 : lw_At p s m meth c b L xs) : W p l e room_1 s m #[Value.ref b] below meth c s.heap [] 0 0 (lw_Z below #[Value.ref b] s) (entryFrame m ([Value.ref b] : List Value).toArray 4) := by
  obtain ⟨hx, hb, hr, hml, hown, hts0, hX, hbl, hlk, hgv⟩ := C0
  have hts : ∀ w ∈ lw_all, w.before #[Value.ref b] s = true := fun w h => hts0 w (lw_all_tbl h)
  obtain ⟨c0, iS0, hK0⟩ := u_known (C := RX0) (T := TX0) (N := 13) (n := 13) hts0 (fun w h => lw_all_tbl (in_X0 w h)) (hts _ q23)
  obtain ⟨c1, iS1, hK1⟩ := u_known (C := RX1) (T := TX1) (N := 6) (n := 6) hts0 (fun w h => lw_all_tbl (in_X1 w h)) (hts _ q170)
  obtain ⟨d, kd, cd, e1, e2, e3⟩ := Cond.arrayClass_spec (hts _ q70)
  obtain ⟨dz, kz, cz, f1, f2, f3⟩ := Cond.arrayClass_spec (hts _ q194)
  have hK : va_K ((fun k => if k = 0 then c0 else c1), (fun k => if k = 0 then iS0 else iS1)) vwCl [(d, .int), (dz, .boolean)] s := by
    refine ⟨fun k q hq => ?_, fun k q hq => ?_⟩
    · match k, hq with
      | 0, hq => cases hq; exact hK0
      | 1, hq => cases hq; exact hK1
      | k + 2, hq => simp [vwCl] at hq
    · match k, hq with
      | 0, hq => cases hq; exact ⟨fun n z => ⟨fun k h => (by cases h), kd, e2, cd, e3⟩, e1⟩
      | 1, hq => cases hq; exact ⟨fun n z => ⟨fun k h => (by cases h), kz, f2, cz, f3⟩, f1⟩
      | k + 2, hq => simp at hq
  have hl := lv_entry ([.ref b]) (n := 4) (Nat.le_of_ble_eq_true rfl)
  rw [lg_entry_eq]
  generalize (lg_sl ([.ref b]) ++ List.replicate (4 - (lg_sl ([.ref b])).length) Slot.unset).toArray = ls at hl ⊢
  have hl : lv_has ls 4 [(0, .ref b)] := hl
  exact law_start (K := ((p, l, e, room_1), (s, m, #[Value.ref b], below), (meth, c, 4), (lw_Z below #[Value.ref b] s, (fun q => s.heap.size ≤ q), ((fun k => if k = 0 then c0 else c1), (fun k => if k = 0 then iS0 else iS1)), [(d, .int), (dz, .boolean)]))) (d := d) (dz := dz)
    ⟨hx, hb, hr, rfl, hml, hown, hts, hlk, fun q h => h, hK, rfl⟩ rfl hX hbl (Nat.not_le.mpr hbl) hL
    (fun ws L pc hd H locs ls hP hD hS h => W.widen (k := 600000) (n := 7290000) (by decide) (by decide) (va_forget hS.2.2 (lw_ret hx hb hr hlk hd)))
    s.heap [] ls (fun k q hk => by cases hk) ⟨fun i j p q hp => (by cases hp), fun k q hk => (by cases hk)⟩ va_S.rf hl
end
section
set_option maxHeartbeats 4000000 in
theorem lw_walk (l : Launch) (b : Addr) (xs : List Int32) : MetFree l x (headSpec (Jvm.Cond.code x code maxLocals ret :: tables_1) room_1) (lw_P b xs) (fun _ _ _ _ _ => True) lw_Q := by
  refine MetFree.of_bodyS (code := code) (maxLocals := maxLocals) (ret := ret) (by decide) ?_ ?_
  · intro args s m h hn
    obtain ⟨meth, c, h1, h2, h3, h4, h5, h6, -, -⟩ := Cond.code_spec hn (atoms_spec (ws := Jvm.Cond.code x code maxLocals ret :: tables_1) h _ List.mem_cons_self)
    exact ⟨meth, c, h1, h2, h3, h4, h5, h6⟩
  · intro p e s m args below meth c s₁ B hml0 hP _
    obtain ⟨rfl, hx, hbd, hgv⟩ := hP
    obtain ⟨scr, harrAt, hlist, hof, hsmall⟩ := hx
    obtain ⟨hcb, hkn, -, -⟩ := State.arrayAt?_spec harrAt
    have hown : s.vm.findClass R_law = some m.cls := findClass_of_methodNamed B.named
    have hts0 : ∀ c ∈ (Jvm.Cond.code x code maxLocals ret :: tables_1), c.before #[Value.ref b] s = true := atoms_spec (ws := Jvm.Cond.code x code maxLocals ret :: tables_1) B.pre
    have hts : ∀ w ∈ lw_tbl, w.before #[Value.ref b] s = true := k2_hts_sels lw_privs (fun w hw => hts0 w (List.mem_cons_of_mem _ hw)) lw_privs_ok
    have hml : c.maxLocals = 4 := B.maxLocals_eq (hts0 _ List.mem_cons_self)
    have X₀ : Stand p l e room_1 s m #[Value.ref b] below meth c s₁ [] 0 0 := Stand.of_body B
    have hh0 : s₁.heap = s.heap := by rw [B.state]; rfl
    have hsz : scr.slots.size = xs.length := by rw [← Array.length_toList, hlist, List.length_map]
    have hval : ∀ j : Nat, j < xs.length → scr.slots[j]? = some (.int (xs.getD j 0)) := fun j hj => by
      rw [← Array.getElem?_toList, hlist]
      simp [hj]
    have hbl : b < s.heap.size := (Array.getElem?_eq_some_iff.mp hcb).1
    have hX : va_X b xs.length (fun j => xs.getD j 0) s s.heap := ⟨scr, hcb, hof, hkn, hsz, hval⟩
    have K : W p l e room_1 s m #[Value.ref b] below meth c s₁.heap [] 0 0 (lw_Z below #[Value.ref b] s) (entryFrame m ([Value.ref b] : List Value).toArray 4) := by
      rw [hh0]
      exact whole_start l hbd ⟨B.exec, B.bytes, B.returns, hml, hown, hts, hX, hbl, B.notSynchronized, hgv⟩
    obtain ⟨t, a1, o, b1, b2, b3⟩ := K s₁ rfl X₀
    exact ⟨t, o, a1, b1, b2, b3⟩
theorem lw_pre_spec {args : Array Value} {s : State} (h : (Jvm.Cond.and given_1 narrow_1).before args s = true) (hr : rest_1_c.before args s = true) : ∃ (b : Addr) (xs : List Int32), lw_P b xs args s := by
  have hs := flat_of_before _ h
  have hq := flat_of_before _ hr
  have hc : (Cond.count 1).before args s = true := hs _ (by decide +kernel)
  have harr : (Cond.arrayOf (.arg 0) .int).before args s = true := hs _ (by decide +kernel)
  have hle : (Cond.le (.length (.arg 0)) (.int 256)).before args s = true := hs _ (by decide +kernel)
  have hlen : (Cond.isInt (.length (.arg 0))).before args s = true := hq _ (by decide +kernel)
  have hall : (Cond.all (.arg 0) (.isInt (.elem (.arg 0) (.index 0)))).before args s = true := hq _ (by decide +kernel)
  obtain ⟨b, xs, hb, hx⟩ := State.ints_of_pre rfl harr hlen hall
  have hsm : xs.length < 2 ^ 31 := hx.choose_spec.2.2.2
  have hev : (Term.length (.arg 0)).eval args s none [] s = some (.int xs.length.toInt32) := hx.length_eval hb
  have hv := Cond.le_ints hev (show (Term.int 256).eval args s none [] s = some (.int 256) from rfl)
  have hd : xs.length.toInt32 ≤ 256 := by
    simpa [Cond.before, Cond.holds, hv] using hle
  have hN : xs.length ≤ 256 := (Int32.ofNat_le_ofNat hsm (by decide)).mp (show Int32.ofNat xs.length ≤ Int32.ofNat 256 from hd)
  exact ⟨b, xs, Cond.one_arg hc (show args[0]? = some (.ref b) from hb), hx, hN, h⟩
theorem lw_comes (l : Launch) : Comes l x (Jvm.Cond.code x code maxLocals ret :: tables_1) room_1 (fun tb e args s => Calls_1 tb e args s ∧ rest_1 tb e args s ∧ Pre_1 tb e args s)
    (fun _ _ args s o t => lw_Q args s o t) := by
  intro p e ha hc hk s m args below hf hfit hheap happ hpre
  obtain ⟨b, xs, hP⟩ := lw_pre_spec hpre.2.2 hpre.2.1
  obtain ⟨k, o, h1, h2, h3, hQ⟩ := lw_walk l b xs p e ha hc hk s m args below hf ((Spec.applies_iff_loose hf).mp happ).1 hP trivial
  exact ⟨k, o, h1, h2, h3, hQ⟩
theorem lw_frame {s t : State} {o : Outcome} {args : Array Value} (h : Framed s o t [] 600000 7290000) :
    Framed s o t (fieldLocs frame_1_writes args s ++ arrayLocs frame_1_arrays args s ++ staticLocs frame_1_statics s) 600000 7290000 := h
theorem lw_limb (L : Cond) (hL : ∀ (args : Array Value) (s t : State), L.after args s (.returned (some (.int 1))) t = true) :
    ArmFor flags0 classFile x code maxLocals ret World_1 tables_1 room_1 Calls_1 rest_1 Pre_1
      (fun tb e a s o t => postC L tb e a s o t ∧ Framed s o t (fieldLocs frame_1_writes a s ++ arrayLocs frame_1_arrays a s ++ staticLocs frame_1_statics s) 600000 7290000) := by
  intro l _ _ _ p e ha hc hk s m args below hf hfit hheap happ hpre
  obtain ⟨k, o, h1, h2, h3, rfl, hF⟩ := lw_comes l p e ha hc hk s m args below hf hfit hheap happ hpre
  exact ⟨k, _, h1, h2, h3, hL args s _, lw_frame hF⟩
theorem i_vc : Claimed_1_1 ∧ Claimed_1_2 := ⟨lw_limb limb_1_1 (fun args s t => by simp [limb_1_1, Cond.after, Cond.holds, Cond.value]), lw_limb limb_1_2 (fun args s t => Cond.after_iff.mpr (by
  first | (rw [show limb_1_2 = Cond.eq .result (.int 1) from rfl, Cond.eq_ints (x := 1) (y := 1) rfl rfl]; simp; done) | (simp [limb_1_2, Cond.value, Term.eval]; done)))⟩
end
