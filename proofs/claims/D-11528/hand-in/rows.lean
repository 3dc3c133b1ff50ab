section
/-! ints by an Int -/
def ta_i (z : Int) : Int32 := Int32.ofInt z
theorem ta_i_n (n : Nat) : ta_i (n : Int) = nI n := Int32.ofInt_eq_ofNat
theorem ta_i_add (x y : Int) : ta_i x + ta_i y = ta_i (x + y) := (Int32.ofInt_add x y).symm
theorem ta_i_sub (x y : Int) : ta_i x - ta_i y = ta_i (x - y) := (Int32.ofInt_sub x y).symm
theorem ta_i_T {z : Int} (h : -1000 ≤ z ∧ z ≤ 1000) : (ta_i z).toInt = z := Int32.toInt_ofInt_of_le (by omega) (by omega)
theorem ta_i_ltI {x y : Int} (hx : -1000 ≤ x ∧ x ≤ 1000) (hy : -1000 ≤ y ∧ y ≤ 1000) : ta_i x < ta_i y ↔ x < y := by
  rw [Int32.lt_iff_toInt_lt, ta_i_T hx, ta_i_T hy]
theorem ta_i_leI {x y : Int} (hx : -1000 ≤ x ∧ x ≤ 1000) (hy : -1000 ≤ y ∧ y ≤ 1000) : ta_i x ≤ ta_i y ↔ x ≤ y := by
  rw [Int32.le_iff_toInt_le, ta_i_T hx, ta_i_T hy]
theorem ta_ile {x y : Int32} {A B : Prop} (a b : Int) (hx : x = ta_i a) (hy : y = ta_i b) (ha : -1000 ≤ a ∧ a ≤ 1000) (hb : -1000 ≤ b ∧ b ≤ 1000) (f : a ≤ b → A) (g : b < a → B) : (x ≤ y → A) ∧ (¬ x ≤ y → B) := by
  subst hx hy
  rw [ta_i_leI ha hb]
  exact ⟨f, fun z => g (by omega)⟩
theorem ta_ilt {x y : Int32} {A B : Prop} (a b : Int) (hx : x = ta_i a) (hy : y = ta_i b) (ha : -1000 ≤ a ∧ a ≤ 1000) (hb : -1000 ≤ b ∧ b ≤ 1000) (f : a < b → A) (g : b ≤ a → B) : (x < y → A) ∧ (¬ x < y → B) := by
  subst hx hy
  rw [ta_i_ltI ha hb]
  exact ⟨f, fun z => g (by omega)⟩
/-! places -/
theorem ta_at {f : Nat → Int32} {x y : Int32} (n : Nat) (h : f n = y) (hx : x = nI n := by rfl) (hn : n < 2 ^ 31 := by omega) : f x.toNatClampNeg = y := by
  subst hx
  rw [nI_clamp hn, h]
theorem ta_ix (t i : Nat) : (32 : Int32) * nI t + nI i = nI (32 * t + i) := by
  rw [show (32 : Int32) * nI t = nI (32 * t) from pk_mul 32 t, nI_add]
theorem ta_sz {f : Nat → Int32} {t k : Nat} (ht : t < 3) (h : f t = nI k) : (32 : Int32) * nI t + f (nI t).toNatClampNeg = nI (32 * t + k) := by
  rw [nI_clamp (by omega), h, ta_ix]
theorem ta_ixf {f : Nat → Int32} {x : Int32} {t k : Nat} (i : Nat) (h : f i = nI k) (hx : x = nI i := by rfl) (hi : i < 2 ^ 31 := by omega) : (32 : Int32) * nI t + f x.toNatClampNeg = nI (32 * t + k) := by
  subst hx
  rw [nI_clamp hi, h, ta_ix]
theorem ta_fill {z : Nat → Int32} {i : Nat} {x : Int32} {f : Nat → Int32} (hx : x = f i) (hi : i < 2 ^ 31) (h : ∀ j, j < i → z j = f j) : ∀ j, j < i + 1 → upd z (nI i).toNatClampNeg x j = f j := by
  intro j hj
  rw [nI_clamp hi]
  by_cases e : j = i
  · rw [e, pk_us, hx]
  · rw [pk_un e]
    exact h j (by omega)
/-! what k stretches leave in the steps (D), and the steps' sum ahead of p (C) -/
def ta_D (S E : Nat → Nat) : Nat → Nat → Int
  | 0 => fun _ => 0
  | k + 1 => fun j => ta_D S E k j + (if S k = j then 1 else 0) - (if E k = j then 1 else 0)
def ta_C (S E : Nat → Nat) : Nat → Nat → Int
  | 0 => fun _ => 0
  | k + 1 => fun p => ta_C S E k p + (if S k < p then 1 else 0) - (if E k < p then 1 else 0)
theorem ta_D_s (S E : Nat → Nat) (k j : Nat) : ta_D S E (k + 1) j = ta_D S E k j + (if S k = j then 1 else 0) - (if E k = j then 1 else 0) := rfl
theorem ta_C_s (S E : Nat → Nat) (k p : Nat) : ta_C S E (k + 1) p = ta_C S E k p + (if S k < p then 1 else 0) - (if E k < p then 1 else 0) := rfl
theorem ta_st (s p : Nat) : (if s < p + 1 then (1 : Int) else 0) = (if s < p then 1 else 0) + (if s = p then 1 else 0) := by
  by_cases h : s < p
  · rw [if_pos (by omega), if_pos h, if_neg (by omega)]; rfl
  · by_cases h2 : s = p
    · rw [if_pos (by omega), if_neg h, if_pos h2]; rfl
    · rw [if_neg (by omega), if_neg h, if_neg h2]; rfl
theorem ta_CD (S E : Nat → Nat) (k p : Nat) : ta_C S E k (p + 1) = ta_C S E k p + ta_D S E k p := by
  induction k with
  | zero => rfl
  | succ k ih =>
    rw [ta_C_s, ta_C_s, ta_D_s, ih, ta_st, ta_st]
    omega
theorem ta_C0 (S E : Nat → Nat) (k : Nat) : ta_C S E k 0 = 0 := by
  induction k with
  | zero => rfl
  | succ k ih =>
    rw [ta_C_s, ih, if_neg (by omega), if_neg (by omega)]
    rfl
theorem ta_C_b (S E : Nat → Nat) (k p : Nat) : -(k : Int) ≤ ta_C S E k p ∧ ta_C S E k p ≤ k := by
  induction k with
  | zero => exact ⟨by show (-((0 : Nat) : Int)) ≤ 0; omega, by show (0 : Int) ≤ ((0 : Nat) : Int); omega⟩
  | succ k ih =>
    rw [ta_C_s]
    split <;> split <;> omega
theorem ta_C_c {S E S' E' : Nat → Nat} {k : Nat} (h : ∀ i, i < k → S' i = S i ∧ E' i = E i) (p : Nat) : ta_C S' E' k p = ta_C S E k p := by
  induction k with
  | zero => rfl
  | succ k ih =>
    rw [ta_C_s, ta_C_s, ih (fun i hi => h i (by omega)), (h k (by omega)).1, (h k (by omega)).2]
/-- a stretch goes into the steps, with weight w -/
theorem ta_put {z : Nat → Int32} {D : Nat → Int} {s e : Nat} {w : Int} {x : Int32} (hx : x = ta_i w) (hs : s < 65) (he : e < 65) (hz : ∀ j, j < 65 → z j = ta_i (D j)) :
    ∀ j, j < 65 → upd (upd z s (z s + x)) e (upd z s (z s + x) e - x) j = ta_i (D j + (if s = j then w else 0) - (if e = j then w else 0)) := by
  intro j hj
  show (if j = e then (if e = s then z s + x else z e) - x else (if j = s then z s + x else z j)) = _
  by_cases c1 : j = e
  · rw [if_pos c1, if_pos c1.symm]
    by_cases c2 : e = s
    · rw [if_pos c2, if_pos (show s = j by omega), hz s hs, hx, ta_i_add, ta_i_sub, show D s = D j by rw [show s = j by omega]]
    · rw [if_neg c2, if_neg (show ¬ s = j by omega), hz e he, hx, ta_i_sub, show D e = D j by rw [c1], Int.add_zero]
  · rw [if_neg c1, if_neg (show ¬ e = j by omega)]
    by_cases c2 : j = s
    · rw [if_pos c2, if_pos c2.symm, hz s hs, hx, ta_i_add, show D s = D j by rw [c2], Int.sub_zero]
    · rw [if_neg c2, if_neg (show ¬ s = j by omega), hz j hj, Int.add_zero, Int.sub_zero]
/-- how many places ahead of p have C at least d; the most -/
def ta_cnt (C : Nat → Int) (d : Int) : Nat → Nat
  | 0 => 0
  | p + 1 => ta_cnt C d p + (if d ≤ C (p + 1) then 1 else 0)
theorem ta_cnt_s (C : Nat → Int) (d : Int) (p : Nat) : ta_cnt C d (p + 1) = ta_cnt C d p + (if d ≤ C (p + 1) then 1 else 0) := rfl
theorem ta_cnt_b (C : Nat → Int) (d : Int) (p : Nat) : ta_cnt C d p ≤ p := by
  induction p with
  | zero => exact Nat.le_refl 0
  | succ p ih =>
    rw [ta_cnt_s]
    split <;> omega
def ta_mx (C : Nat → Int) : Nat → Int
  | 0 => 0
  | p + 1 => if C (p + 1) ≤ ta_mx C p then ta_mx C p else C (p + 1)
theorem ta_mx_s (C : Nat → Int) (p : Nat) : ta_mx C (p + 1) = if C (p + 1) ≤ ta_mx C p then ta_mx C p else C (p + 1) := rfl
theorem ta_mx_b {C : Nat → Int} {k : Int} (hk : 0 ≤ k) (h : ∀ p, C p ≤ k) (p : Nat) : 0 ≤ ta_mx C p ∧ ta_mx C p ≤ k := by
  induction p with
  | zero => exact ⟨Int.le_refl 0, hk⟩
  | succ p ih =>
    have h2 := h (p + 1)
    rw [ta_mx_s]
    split <;> omega
end
section
/-! the plain law: places that lie in stretches, counted -/
def ta_m (p q j : Nat) : Bool := decide (p ≤ j) && decide (j < q)
theorem ta_m_iff (p q j : Nat) : ta_m p q j = true ↔ p ≤ j ∧ j < q := by
  unfold ta_m
  rw [Bool.and_eq_true, decide_eq_true_iff, decide_eq_true_iff]
def ta_cw (w : Nat → Bool) : Nat → Nat
  | 0 => 0
  | n + 1 => ta_cw w n + (w n).toNat
theorem ta_cw_s (w : Nat → Bool) (n : Nat) : ta_cw w (n + 1) = ta_cw w n + (w n).toNat := rfl
theorem ta_tn {b : Bool} {P : Prop} (h : b = true ↔ P) : (P ∧ b.toNat = 1) ∨ (¬ P ∧ b.toNat = 0) := by
  cases b with
  | true => exact Or.inl ⟨h.mp rfl, rfl⟩
  | false => exact Or.inr ⟨fun p => absurd (h.mpr p) (by decide), rfl⟩
/-- the places of lo .. hi that lie ahead of n -/
def ta_L (lo hi n : Nat) : Nat := min n hi - lo
theorem ta_L0 (lo hi : Nat) : ta_L lo hi 0 = 0 := by
  unfold ta_L
  omega
theorem ta_Li {lo hi n : Nat} {P : Prop} (h : (lo ≤ n ∧ n < hi) ↔ P) : (P ∧ ta_L lo hi (n + 1) = ta_L lo hi n + 1) ∨ (¬ P ∧ ta_L lo hi (n + 1) = ta_L lo hi n) := by
  by_cases c : lo ≤ n ∧ n < hi
  · refine Or.inl ⟨h.mp c, ?_⟩
    unfold ta_L
    omega
  · refine Or.inr ⟨fun p => c (h.mpr p), ?_⟩
    unfold ta_L
    omega
theorem ta_mm2 (p q s e n : Nat) : (max p s ≤ n ∧ n < min q e) ↔ ((p ≤ n ∧ n < q) ∧ (s ≤ n ∧ n < e)) := by
  rw [Nat.max_le, Nat.lt_min]
  constructor
  · intro h; exact ⟨⟨h.1.1, h.2.1⟩, ⟨h.1.2, h.2.2⟩⟩
  · intro h; exact ⟨⟨h.1.1, h.2.1⟩, ⟨h.1.2, h.2.2⟩⟩
theorem ta_mm3 (p q u v s e n : Nat) : (max (max p u) s ≤ n ∧ n < min (min q v) e) ↔ (((p ≤ n ∧ n < q) ∧ (u ≤ n ∧ n < v)) ∧ (s ≤ n ∧ n < e)) := by
  rw [ta_mm2, ta_mm2]
/-- two stretches within a third -/
theorem ta_W0 {w : Nat → Bool} {p q u v s e N : Nat} (hw : ∀ j, j < N → w j = ((ta_m p q j || ta_m u v j) && ta_m s e j)) :
    ∀ n, n ≤ N → ta_cw w n + ta_L (max (max p u) s) (min (min q v) e) n = ta_L (max p s) (min q e) n + ta_L (max u s) (min v e) n := by
  intro n
  induction n with
  | zero => intro _; rw [ta_L0, ta_L0, ta_L0]; rfl
  | succ n ih =>
    intro hn
    have i0 := ih (by omega)
    have iw : w n = true ↔ (((p ≤ n ∧ n < q) ∨ (u ≤ n ∧ n < v)) ∧ (s ≤ n ∧ n < e)) := by
      rw [hw n (by omega), Bool.and_eq_true, Bool.or_eq_true, ta_m_iff, ta_m_iff, ta_m_iff]
    rw [ta_cw_s]
    generalize (w n) = b at iw
    rcases ta_tn iw with ⟨c, e1⟩ | ⟨c, e1⟩ <;> rcases ta_Li (ta_mm2 p q s e n) with ⟨c2, e2⟩ | ⟨c2, e2⟩ <;> rcases ta_Li (ta_mm2 u v s e n) with ⟨c3, e3⟩ | ⟨c3, e3⟩ <;> rcases ta_Li (ta_mm3 p q u v s e n) with ⟨c4, e4⟩ | ⟨c4, e4⟩ <;> rw [e1, e2, e3, e4] <;> omega
/-- what is left of a stretch -/
theorem ta_W3 {w w' : Nat → Bool} {s e N : Nat} {m : Nat → Bool} (hw : ∀ j, j < N → w j = (m j && ta_m s e j)) (hw' : ∀ j, j < N → w' j = (ta_m s e j && !m j)) :
    ∀ n, n ≤ N → ta_cw w' n + ta_cw w n = ta_L s e n := by
  intro n
  induction n with
  | zero => intro _; rw [ta_L0]; rfl
  | succ n ih =>
    intro hn
    have i0 := ih (by omega)
    rw [ta_cw_s, ta_cw_s, hw n (by omega), hw' n (by omega)]
    have hm := ta_m_iff s e n
    rcases ta_Li (Iff.refl (s ≤ n ∧ n < e)) with ⟨c2, e2⟩ | ⟨c2, e2⟩
    · rw [hm.mpr c2, e2]
      cases m n with
      | true => show ta_cw w' n + 0 + (ta_cw w n + 1) = _; omega
      | false => show ta_cw w' n + 1 + (ta_cw w n + 0) = _; omega
    · have hf : ta_m s e n = false := by
        cases c : ta_m s e n with
        | true => exact absurd (hm.mp c) c2
        | false => rfl
      rw [hf, e2]
      cases m n with
      | true => show ta_cw w' n + 0 + (ta_cw w n + 0) = _; omega
      | false => show ta_cw w' n + 0 + (ta_cw w n + 0) = _; omega
/-- the number of times that w begins ahead of n -/
def ta_in (w : Nat → Bool) : Nat → Bool
  | 0 => false
  | p + 1 => w p
def ta_rs (w : Nat → Bool) : Nat → Nat
  | 0 => 0
  | p + 1 => ta_rs w p + (w p && !ta_in w p).toNat
theorem ta_rs_s (w : Nat → Bool) (p : Nat) : ta_rs w (p + 1) = ta_rs w p + (w p && !ta_in w p).toNat := rfl
def ta_lt (x n : Nat) : Nat := if x < n then 1 else 0
theorem ta_lt_s (x n : Nat) : (x = n ∧ ta_lt x (n + 1) = 1 ∧ ta_lt x n = 0) ∨ (x ≠ n ∧ ta_lt x (n + 1) = ta_lt x n) := by
  unfold ta_lt
  by_cases h : x = n
  · exact Or.inl ⟨h, if_pos (by omega), if_neg (by omega)⟩
  · refine Or.inr ⟨h, ?_⟩
    by_cases h2 : x < n
    · rw [if_pos h2, if_pos (by omega)]
    · rw [if_neg h2, if_neg (by omega)]
theorem ta_lt_b (x n : Nat) : ta_lt x n ≤ 1 := by
  unfold ta_lt
  split <;> omega
theorem ta_up {w : Nat → Bool} {p q u v s e N : Nat} (hw : ∀ j, j < N → w j = (ta_m s e j && !(ta_m p q j || ta_m u v j))) (n : Nat) (hn : n < N) (h : (w n && !ta_in w n) = true) : n = s ∨ n = q ∨ n = v := by
  rw [Bool.and_eq_true] at h
  have h1 := h.1
  have h2 := h.2
  rw [hw n hn, Bool.and_eq_true, ta_m_iff] at h1
  have k1 := h1.1
  have k2 := h1.2
  cases n with
  | zero => exact Or.inl (by omega)
  | succ n =>
    have h3 : (!w n) = true := h2
    rw [hw n (by omega)] at h3
    have f1 := ta_m_iff s e n
    have f2 := ta_m_iff p q n
    have f3 := ta_m_iff u v n
    have g2 := ta_m_iff p q (n + 1)
    have g3 := ta_m_iff u v (n + 1)
    cases c1 : ta_m s e n with
    | false =>
      rw [c1] at f1
      have f4 : ¬ (s ≤ n ∧ n < e) := fun z => absurd (f1.mpr z) (by decide)
      exact Or.inl (by omega)
    | true =>
      cases c2 : ta_m p q n with
      | true =>
        cases d2 : ta_m p q (n + 1) with
        | true => rw [d2, Bool.true_or] at k2; exact absurd k2 (by decide)
        | false =>
          have f4 : ¬ (p ≤ n + 1 ∧ n + 1 < q) := fun z => absurd (g2.mpr z) (by rw [d2]; decide)
          have f5 := f2.mp c2
          exact Or.inr (Or.inl (by omega))
      | false =>
        cases c3 : ta_m u v n with
        | true =>
          cases d3 : ta_m u v (n + 1) with
          | true => rw [d3, Bool.or_true] at k2; exact absurd k2 (by decide)
          | false =>
            have f4 : ¬ (u ≤ n + 1 ∧ n + 1 < v) := fun z => absurd (g3.mpr z) (by rw [d3]; decide)
            have f5 := f3.mp c3
            exact Or.inr (Or.inr (by omega))
        | false => rw [c1, c2, c3] at h3; exact absurd h3 (by decide)
theorem ta_rise {w : Nat → Bool} {p q u v s e N : Nat} (hw : ∀ j, j < N → w j = (ta_m s e j && !(ta_m p q j || ta_m u v j))) :
    ∀ n, n ≤ N → ta_rs w n ≤ ta_lt s n + ta_lt q n + ta_lt v n := by
  intro n
  induction n with
  | zero => intro _; exact Nat.zero_le _
  | succ n ih =>
    intro hn
    have i0 := ih (by omega)
    have up := ta_up hw n (by omega)
    rw [ta_rs_s]
    have l1 := ta_lt_s s n
    have l2 := ta_lt_s q n
    have l3 := ta_lt_s v n
    cases c : (w n && !ta_in w n) with
    | true =>
      have up2 := up c
      show ta_rs w n + 1 ≤ _
      omega
    | false =>
      show ta_rs w n + 0 ≤ _
      omega
/-- two stretches: the places under one at least, under both -/
theorem ta_cov {C : Nat → Int} {p q u v : Nat} (hC : ∀ j, C (j + 1) = ((ta_m p q j).toNat : Int) + ((ta_m u v j).toNat : Int)) :
    ∀ n, ta_cnt C 2 n = ta_L (max p u) (min q v) n ∧ ta_cnt C 1 n + ta_cnt C 2 n = ta_L p q n + ta_L u v n := by
  intro n
  induction n with
  | zero => rw [ta_L0, ta_L0, ta_L0]; exact ⟨rfl, rfl⟩
  | succ n ih =>
    obtain ⟨i1, i2⟩ := ih
    have h := hC n
    rw [ta_cnt_s, ta_cnt_s]
    generalize C (n + 1) = c at h
    have f1 := ta_tn (ta_m_iff p q n)
    have f2 := ta_tn (ta_m_iff u v n)
    generalize (ta_m p q n).toNat = x at f1 h
    generalize (ta_m u v n).toNat = y at f2 h
    rcases f1 with ⟨c1, e1⟩ | ⟨c1, e1⟩ <;> rcases f2 with ⟨c2, e2⟩ | ⟨c2, e2⟩ <;> rcases ta_Li (Iff.refl (p ≤ n ∧ n < q)) with ⟨c3, e3⟩ | ⟨c3, e3⟩ <;> rcases ta_Li (Iff.refl (u ≤ n ∧ n < v)) with ⟨c4, e4⟩ | ⟨c4, e4⟩ <;> rcases ta_Li (ta_mm2 p q u v n) with ⟨c5, e5⟩ | ⟨c5, e5⟩ <;> rw [e3, e4, e5] <;> split <;> split <;> omega
theorem ta_deep {C : Nat → Int} {p q u v : Nat} (hC : ∀ j, C (j + 1) = ((ta_m p q j).toNat : Int) + ((ta_m u v j).toNat : Int)) :
    ∀ n, ta_mx C n = (if 0 < ta_cnt C 2 n then 2 else if 0 < ta_cnt C 1 n then 1 else 0 : Int) := by
  intro n
  induction n with
  | zero => rfl
  | succ n ih =>
    have h := hC n
    rw [ta_cnt_s, ta_cnt_s, ta_mx_s, ih]
    generalize C (n + 1) = c at h
    have f1 := ta_tn (ta_m_iff p q n)
    have f2 := ta_tn (ta_m_iff u v n)
    generalize (ta_m p q n).toNat = x at f1 h
    generalize (ta_m u v n).toNat = y at f2 h
    have hc : c = 0 ∨ c = 1 ∨ c = 2 := by omega
    have hle : ∀ k, ta_cnt C 2 k ≤ ta_cnt C 1 k := by
      intro k
      induction k with
      | zero => exact Nat.le_refl 0
      | succ k ik =>
        rw [ta_cnt_s, ta_cnt_s]
        split <;> split <;> omega
    have hl := hle n
    generalize ta_cnt C 2 n = k2 at hl
    generalize ta_cnt C 1 n = k1 at hl
    rcases hc with rfl | rfl | rfl
    · rw [if_neg (show ¬ (2 : Int) ≤ 0 by decide), if_neg (show ¬ (1 : Int) ≤ 0 by decide), Nat.add_zero, Nat.add_zero]
      by_cases g2 : 0 < k2
      · rw [if_pos g2, if_pos (by decide)]
      · rw [if_neg g2]
        by_cases g1 : 0 < k1
        · rw [if_pos g1, if_pos (by decide)]
        · rw [if_neg g1, if_pos (by decide)]
    · rw [if_neg (show ¬ (2 : Int) ≤ 1 by decide), if_pos (show (1 : Int) ≤ 1 by decide), Nat.add_zero, if_pos (show 0 < k1 + 1 by omega)]
      by_cases g2 : 0 < k2
      · rw [if_pos g2, if_pos g2, if_pos (by decide)]
      · rw [if_neg g2, if_neg g2]
        by_cases g1 : 0 < k1
        · rw [if_pos g1, if_pos (by decide)]
        · rw [if_neg g1, if_neg (by decide)]
    · rw [if_pos (show (2 : Int) ≤ 2 by decide), if_pos (show (1 : Int) ≤ 2 by decide), if_pos (show 0 < k2 + 1 by omega)]
      by_cases g2 : 0 < k2
      · rw [if_pos g2, if_pos (by decide)]
      · rw [if_neg g2]
        by_cases g1 : 0 < k1
        · rw [if_pos g1, if_neg (by decide)]
        · rw [if_neg g1, if_neg (by decide)]
/-- the lengths of k stretches, and their steps' sums -/
def ta_sum (S E : Nat → Nat) : Nat → Int
  | 0 => 0
  | k + 1 => ta_sum S E k + ((E k : Int) - (S k : Int))
theorem ta_sum_s (S E : Nat → Nat) (k : Nat) : ta_sum S E (k + 1) = ta_sum S E k + ((E k : Int) - (S k : Int)) := rfl
def ta_SC (S E : Nat → Nat) (k : Nat) : Nat → Int
  | 0 => 0
  | n + 1 => ta_SC S E k n + ta_C S E k (n + 1)
theorem ta_SC_s (S E : Nat → Nat) (k n : Nat) : ta_SC S E k (n + 1) = ta_SC S E k n + ta_C S E k (n + 1) := rfl
theorem ta_SC_0 (S E : Nat → Nat) (n : Nat) : ta_SC S E 0 n = 0 := by
  induction n with
  | zero => rfl
  | succ n ih => rw [ta_SC_s, ih]; rfl
theorem ta_SC_k (S E : Nat → Nat) (k n : Nat) : ta_SC S E (k + 1) n = ta_SC S E k n + ((n - S k : Nat) : Int) - ((n - E k : Nat) : Int) := by
  induction n with
  | zero =>
    show (0 : Int) = 0 + ((0 - S k : Nat) : Int) - ((0 - E k : Nat) : Int)
    rw [Nat.zero_sub, Nat.zero_sub]
    rfl
  | succ n ih =>
    rw [ta_SC_s, ta_SC_s, ih, ta_C_s]
    generalize ta_C S E k (n + 1) = c
    generalize ta_SC S E k n = d
    split <;> split <;> omega
theorem ta_SC_sum {S E : Nat → Nat} {k n : Nat} (h : ∀ i, i < k → S i ≤ n ∧ E i ≤ n) : ta_SC S E k n = ta_sum S E k := by
  induction k with
  | zero => exact ta_SC_0 S E n
  | succ k ih =>
    have h1 := h k (by omega)
    rw [ta_SC_k, ta_sum_s, ih (fun i hi => h i (by omega))]
    omega
theorem ta_SC_w {S E : Nat → Nat} {k N : Nat} {w : Nat → Bool} (h : ∀ j, j < N → ta_C S E k (j + 1) = ((w j).toNat : Int)) : ∀ n, n ≤ N → ta_SC S E k n = (ta_cw w n : Int) := by
  intro n
  induction n with
  | zero => intro _; rfl
  | succ n ih =>
    intro hn
    rw [ta_SC_s, ta_cw_s, ih (by omega), h n (by omega)]
    omega
theorem ta_cnt_w {C : Nat → Int} {N : Nat} {w : Nat → Bool} (h : ∀ j, j < N → C (j + 1) = ((w j).toNat : Int)) : ∀ n, n ≤ N → ta_cnt C 1 n = ta_cw w n := by
  intro n
  induction n with
  | zero => intro _; rfl
  | succ n ih =>
    intro hn
    rw [ta_cnt_s, ta_cw_s, ih (by omega), h n (by omega)]
    cases w n with
    | true => rfl
    | false => rfl
end
section
section
variable {fr fo fh fb : Int32} {a1 a2 a3 a4 a5 a6 a7 a8 a9 a10 a11 a12 a13 a14 : Nat → Int32}
theorem ta_isT {post : Int32 → Prop} {p0 : Int32} {t : Nat} (e0 : p0 = nI t) (ht : t < 3) (h : post 1) : wpX_isTrack post () p0 := by
  subst e0
  exact pk_lt t 0 (fun z => absurd z (by omega)) (fun _ => pk_lt 2 t (fun z => absurd z (by omega)) (fun _ => h))
theorem ta_div {a b : Nat} (ha : a < 65) (hb : b < 65) : nI (65 * a + b) / 65 = nI a := by
  have h : nI (65 * a + b) / nI 65 = nI ((65 * a + b) / 65) := pk_div (by omega) (by omega) (by omega)
  rw [show (65 * a + b) / 65 = a by omega] at h
  exact h
theorem ta_mod {a b : Nat} (ha : a < 65) (hb : b < 65) : nI (65 * a + b) - nI (65 * a + b) / 65 * 65 = nI b := by
  have h : nI (65 * a + b) - nI (65 * a + b) / nI 65 * nI 65 = nI ((65 * a + b) % 65) := pk_rem (by omega) (by omega) (by omega)
  rw [show (65 * a + b) % 65 = b by omega] at h
  exact h
theorem ta_isS {post : Int32 → Prop} {p0 : Int32} {a b : Nat} (e0 : p0 = nI (65 * a + b)) (ha : a < b) (hb : b < 65) (h : post 1) : wpX_isStretch post () p0 := by
  subst e0
  exact pk_lt (65 * a + b) 0 (fun z => absurd z (by omega)) (fun _ => ⟨by decide, by decide, pk_le b a (fun z => absurd z (by omega)) (fun _ => h) (ta_mod (by omega) hb) (ta_div (by omega) hb)⟩)
theorem ta_more {post : Int32 → Prop} {x y : Int32} {a b : Nat} (ex : x = nI a) (ey : y = nI b) (ha : a < 1000) (hb : b < 1000) (h : post (nI (max a b))) : wpL_more post () x y := by
  subst ex ey
  exact pk_le a b (fun z => by rw [Nat.max_eq_right z] at h; exact h) (fun z => by rw [Nat.max_eq_left (by omega)] at h; exact h)
theorem ta_less {post : Int32 → Prop} {x y : Int32} {a b : Nat} (ex : x = nI a) (ey : y = nI b) (ha : a < 1000) (hb : b < 1000) (h : post (nI (min a b))) : wpL_less post () x y := by
  subst ex ey
  exact pk_le b a (fun z => by rw [Nat.min_eq_right z] at h; exact h) (fun z => by rw [Nat.min_eq_left (by omega)] at h; exact h)
def ta_k (a b c d : Nat) : Nat := min b d - max a c
theorem ta_common {post : Int32 → Prop} {x y z w : Int32} {a b c d : Nat} (ex : x = nI a) (ey : y = nI b) (ez : z = nI c) (ew : w = nI d) (ha : a < 1000) (hb : b < 1000) (hc : c < 1000) (hd : d < 1000) (h : post (nI (ta_k a b c d))) : wpL_common post () x y z w := by
  subst ex ey ez ew
  unfold wpL_common
  refine ta_more rfl rfl ha hc (ta_less rfl rfl hb hd ?_)
  unfold ta_k at h
  refine pk_le (min b d) (max a c) (fun g => ?_) (fun g => ?_) rfl rfl (by omega) (by omega)
  · rw [show min b d - max a c = 0 by omega] at h
    exact h
  · rw [pk_sub (by omega)]
    exact h
def ta_g (a b s e : Nat) : Nat := if b ≤ s then s - b else if e ≤ a then a - e else 0
theorem ta_g1 {a b s e : Nat} (h : b ≤ s) : ta_g a b s e = s - b := if_pos h
theorem ta_g2 {a b s e : Nat} (h : ¬ b ≤ s) (h2 : e ≤ a) : ta_g a b s e = a - e := by
  unfold ta_g
  rw [if_neg h, if_pos h2]
theorem ta_g3 {a b s e : Nat} (h : ¬ b ≤ s) (h2 : ¬ e ≤ a) : ta_g a b s e = 0 := by
  unfold ta_g
  rw [if_neg h, if_neg h2]
theorem ta_apart {post : Int32 → Prop} {x y z w : Int32} {a b c d : Nat} (ex : x = nI a) (ey : y = nI b) (ez : z = nI c) (ew : w = nI d) (ha : a < 1000) (hb : b < 1000) (hc : c < 1000) (hd : d < 1000) (h : post (nI (ta_g a b c d))) : wpL_apart post () x y z w := by
  subst ex ey ez ew
  unfold wpL_apart
  refine pk_lt c b (fun g => pk_lt a d (fun g2 => ?_) (fun g2 => ?_)) (fun g => ?_)
  · rw [ta_g3 (by omega) (by omega)] at h
    exact h
  · rw [ta_g2 (by omega) (by omega)] at h
    rw [pk_sub (by omega)]
    exact h
  · rw [ta_g1 (by omega)] at h
    rw [pk_sub (by omega)]
    exact h
/-- the last rows of insert -/
theorem ta_99 {post : St2 → Prop} {x1 x2 x3 x4 : Int32} {t n k : Nat} (e1 : x1 = nI t) (e4 : x4 = nI n) (ht : t < 3) (hn : n < 96) (hk : a3 t = nI k)
    (H : post (fr, fo, fh, -1, upd a1 n x2, upd a2 n x3, upd a3 t (nI (k + 1)), a4, a5, a6, a7, a8, a9, a10, a11, a12, a13, a14)) : wX_insert_99 post x1 x2 x3 x4 fr fo fh fb a1 a2 a3 a4 a5 a6 a7 a8 a9 a10 a11 a12 a13 a14 := by
  subst e1 e4
  refine ⟨pk_in n 96 hn, nm_r (e' := upd a1 n x2) (by rw [nI_clamp (by omega)]) ⟨pk_in n 96 hn, nm_r (e' := upd a2 n x3) (by rw [nI_clamp (by omega)]) ⟨pk_in t 3 ht, pk_in t 3 ht, nm_r (e' := upd a3 t (nI (k + 1))) ?_ H⟩⟩⟩
  rw [nI_clamp (by omega), hk, nI_1]
theorem ta_ins0 {post : St2 → Prop} {p0 p1 p2 : Int32} {t : Nat} (e0 : p0 = nI t) (ht : t < 3) (hz : a3 t = nI 0)
    (H : post (fr, fo, fh, -1, upd a1 (32 * t) p1, upd a2 (32 * t) p2, upd a3 t (nI 1), a4, a5, a6, a7, a8, a9, a10, a11, a12, a13, a14)) : wpX_insert post (fr, fo, fh, fb, a1, a2, a3, a4, a5, a6, a7, a8, a9, a10, a11, a12, a13, a14) p0 p1 p2 := by
  subst e0
  refine ⟨pk_in t 3 ht, nm_r (e' := nI (32 * t)) (ta_sz ht hz) ⟨1, ?_⟩⟩
  exact pk_le (32 * t) (32 * t) (fun _ => ta_99 rfl rfl ht (by omega) hz H) (fun z => absurd z (by omega)) rfl (pk_mul 32 t)
theorem ta_add0 {post : Int32 → St2 → Prop} {p0 p1 : Int32} {t a b : Nat} (e0 : p0 = nI t) (e1 : p1 = nI (65 * a + b)) (ht : t < 3) (ha : a < b) (hb : b < 65) (hz : a3 t = nI 0)
    (H : ∀ r, post r (fr, fo, fh, -1, upd a1 (32 * t) (nI a), upd a2 (32 * t) (nI b), upd a3 t (nI 1), a4, a5, a6, a7, a8, a9, a10, a11, a12, a13, a14)) : wpX_add post (fr, fo, fh, fb, a1, a2, a3, a4, a5, a6, a7, a8, a9, a10, a11, a12, a13, a14) p0 p1 := by
  subst e0 e1
  unfold wpX_add
  refine ta_isT rfl ht (br_f (by decide) (ta_isS rfl ha hb (br_f (by decide) ⟨pk_in t 3 ht, ?_⟩)))
  refine pk_eq 0 32 (fun z => absurd z (by omega)) (fun _ => ⟨by decide, by decide, ?_⟩) (ta_at t hz)
  refine ta_ins0 rfl ht hz ?_
  rw [ta_mod (by omega) hb, ta_div (by omega) hb]
  exact ⟨pk_in t 3 ht, H _⟩
/-- the second stretch of track 0 -/
theorem ta_ins1 {post : St2 → Prop} {p1 p2 : Int32} {a b c d : Nat} (e1 : p1 = nI c) (e2 : p2 = nI d) (ha : a < 65) (hb : b < 65) (hc : c < 65) (hd : d < 65) (hz : a3 0 = nI 1) (h1 : a1 0 = nI a) (h2 : a2 0 = nI b)
    (H1 : (a < c ∨ (a = c ∧ d ≤ b)) → post (fr, fo, fh, -1, upd a1 1 (nI c), upd a2 1 (nI d), upd a3 0 (nI 2), a4, a5, a6, a7, a8, a9, a10, a11, a12, a13, a14))
    (H2 : ¬ (a < c ∨ (a = c ∧ d ≤ b)) → post (fr, fo, fh, -1, upd (upd a1 1 (nI a)) 0 (nI c), upd (upd a2 1 (nI b)) 0 (nI d), upd a3 0 (nI 2), a4, a5, a6, a7, a8, a9, a10, a11, a12, a13, a14)) : wpX_insert post (fr, fo, fh, fb, a1, a2, a3, a4, a5, a6, a7, a8, a9, a10, a11, a12, a13, a14) (nI 0) p1 p2 := by
  subst e1 e2
  refine ⟨pk_in 0 3 (by omega), nm_r (e' := nI 1) (ta_sz (t := 0) (by omega) hz) ⟨2, ?_⟩⟩
  have sh : ¬ (a < c ∨ (a = c ∧ d ≤ b)) → wX_insert_61 post (wX_insert_13 post (nI 0) (nI c) (nI d) fr fo fh fb 1) (nI 0) (nI c) (nI d) (nI 1) fr fo fh fb a1 a2 a3 a4 a5 a6 a7 a8 a9 a10 a11 a12 a13 a14 := by
    intro g
    refine ⟨pk_in 0 96 (by omega), pk_in 1 96 (by omega), nm_r (e' := upd a1 1 (nI a)) ?_ ⟨pk_in 0 96 (by omega), pk_in 1 96 (by omega), nm_r (e' := upd a2 1 (nI b)) ?_ (nm_r (e' := nI 0) (pk_m1 0) ?_)⟩⟩
    · show upd a1 1 (a1 0) = _
      rw [h1]
    · show upd a2 1 (a2 0) = _
      rw [h2]
    · exact pk_le 0 0 (fun _ => ta_99 (t := 0) (n := 0) (k := 1) rfl rfl (by omega) (by omega) hz (H2 g)) (fun z => absurd z (by omega))
  have st : (a < c ∨ (a = c ∧ d ≤ b)) → wX_insert_99 post (nI 0) (nI c) (nI d) (nI 1) fr fo fh fb a1 a2 a3 a4 a5 a6 a7 a8 a9 a10 a11 a12 a13 a14 := fun g => ta_99 (t := 0) (n := 1) (k := 1) rfl rfl (by omega) (by omega) hz (H1 g)
  refine pk_le 1 0 (fun z => absurd z (by omega)) (fun _ => ⟨pk_in 0 96 (by omega), ?_⟩)
  refine pk_lt c a (fun g => sh (by omega)) (fun g => ⟨pk_in 0 96 (by omega), ?_⟩) rfl h1
  refine pk_eq a c (fun g2 => ⟨pk_in 0 96 (by omega), ?_⟩) (fun g2 => st (by omega)) h1 rfl
  exact pk_le d b (fun g3 => st (by omega)) (fun g3 => sh (by omega)) rfl h2
theorem ta_add1 {post : Int32 → St2 → Prop} {p0 p1 : Int32} {a b c d : Nat} (e0 : p0 = nI 0) (e1 : p1 = nI (65 * c + d)) (ha : a < 65) (hb : b < 65) (hc : c < d) (hd : d < 65) (hz : a3 0 = nI 1) (h1 : a1 0 = nI a) (h2 : a2 0 = nI b)
    (H1 : (a < c ∨ (a = c ∧ d ≤ b)) → ∀ r, post r (fr, fo, fh, -1, upd a1 1 (nI c), upd a2 1 (nI d), upd a3 0 (nI 2), a4, a5, a6, a7, a8, a9, a10, a11, a12, a13, a14))
    (H2 : ¬ (a < c ∨ (a = c ∧ d ≤ b)) → ∀ r, post r (fr, fo, fh, -1, upd (upd a1 1 (nI a)) 0 (nI c), upd (upd a2 1 (nI b)) 0 (nI d), upd a3 0 (nI 2), a4, a5, a6, a7, a8, a9, a10, a11, a12, a13, a14)) : wpX_add post (fr, fo, fh, fb, a1, a2, a3, a4, a5, a6, a7, a8, a9, a10, a11, a12, a13, a14) p0 p1 := by
  subst e0 e1
  unfold wpX_add
  refine ta_isT (t := 0) rfl (by omega) (br_f (by decide) (ta_isS rfl hc hd (br_f (by decide) ⟨pk_in 0 3 (by omega), ?_⟩)))
  refine pk_eq 1 32 (fun z => absurd z (by omega)) (fun _ => ⟨by decide, by decide, ?_⟩) hz
  exact ta_ins1 (ta_div (by omega) hd) (ta_mod (by omega) hd) ha hb (by omega) hd hz h1 h2 (fun g => ⟨pk_in 0 3 (by omega), H1 g _⟩) (fun g => ⟨pk_in 0 3 (by omega), H2 g _⟩)
end
end
section
section
variable {fr fo fh fb : Int32} {a1 a2 a3 a4 a5 a6 a7 a8 a9 a10 a11 a12 a13 a14 : Nat → Int32}
/-- k stretches of track t -/
def ta_tr (x1 x2 x3 : Nat → Int32) (t k : Nat) (S E : Nat → Nat) : Prop := x3 t = nI k ∧ ∀ i, i < k → x1 (32 * t + i) = nI (S i) ∧ x2 (32 * t + i) = nI (E i) ∧ S i ≤ 64 ∧ E i ≤ 64
theorem ta_cs26 {post : St2 → Prop} {t k : Nat} {S E : Nat → Nat} (ht : t < 3) (hk : k ≤ 32) (h : ta_tr a1 a2 a3 t k S E) (h0 : ∀ j, j < 65 → a14 j = 0)
    (H : ∀ z, (∀ j, j < 65 → z j = ta_i (ta_D S E k j)) → post (fr, fo, fh, fb, a1, a2, a3, a4, a5, a6, a7, a8, a9, a10, a11, a12, a13, z)) : ∃ n, wX_countSteps_26 post (nI t) fr fo fh fb n (nI (32 * t)) a1 a2 a3 a4 a5 a6 a7 a8 a9 a10 a11 a12 a13 a14 := by
  obtain ⟨h3, hi⟩ := h
  refine pk_loop (fun n i z => wX_countSteps_26 post (nI t) fr fo fh fb n (nI (32 * t + i)) a1 a2 a3 a4 a5 a6 a7 a8 a9 a10 a11 a12 a13 z) (fun i z => ∀ j, j < 65 → z j = ta_i (ta_D S E i j)) k 0 a14 (by omega) h0 ?_ ?_
  · intro n z hz
    exact ⟨pk_in t 3 ht, pk_le (32 * t + k) (32 * t + k) (fun _ => H z hz) (fun g => absurd g (by omega)) (ta_sz ht h3)⟩
  · intro n i z hik hz hw
    obtain ⟨b1, b2, b3, b4⟩ := hi i hik
    have c1 : a1 (nI (32 * t + i)).toNatClampNeg = nI (S i) := ta_at (32 * t + i) b1
    have c2 : a2 (nI (32 * t + i)).toNatClampNeg = nI (E i) := ta_at (32 * t + i) b2
    refine ⟨pk_in t 3 ht, pk_le (32 * t + k) (32 * t + i) (fun g => absurd g (by omega)) (fun _ => ?_) (ta_sz ht h3)⟩
    refine ⟨pk_in (32 * t + i) 96 (by omega), pk_in (S i) 65 (by omega) c1, pk_in (S i) 65 (by omega) c1, fun z1 e1 => ⟨pk_in (32 * t + i) 96 (by omega), pk_in (E i) 65 (by omega) c2, pk_in (E i) 65 (by omega) c2, fun z2 e2 => nm_r (nI_1 _) (hw z2 ?_)⟩⟩
    rw [c1, nI_clamp (by omega)] at e1
    rw [c2, nI_clamp (by omega), e1] at e2
    rw [e2]
    exact ta_put (w := 1) rfl (by omega) (by omega) hz
theorem ta_cs {post : St2 → Prop} {p0 : Int32} {t k : Nat} {S E : Nat → Nat} (e0 : p0 = nI t) (ht : t < 3) (hk : k ≤ 32) (h : ta_tr a1 a2 a3 t k S E)
    (H : ∀ z, (∀ j, j < 65 → z j = ta_i (ta_D S E k j)) → post (fr, fo, fh, fb, a1, a2, a3, a4, a5, a6, a7, a8, a9, a10, a11, a12, a13, z)) : wpX_countSteps post (fr, fo, fh, fb, a1, a2, a3, a4, a5, a6, a7, a8, a9, a10, a11, a12, a13, a14) p0 := by
  subst e0
  refine pk_loop (fun n i z => wX_countSteps_2 post (nI t) fr fo fh fb n (nI i) a1 a2 a3 a4 a5 a6 a7 a8 a9 a10 a11 a12 a13 z) (fun i z => ∀ j, j < i → z j = 0) 65 0 a14 (by omega) (fun j hj => absurd hj (by omega)) ?_ ?_
  · intro n z hz
    exact pk_lt 64 65 (fun _ => nm_r (e' := nI (32 * t)) (pk_mul 32 t) (ta_cs26 ht hk h hz H)) (fun g => absurd g (by omega))
  · intro n i z hik hz hw
    exact pk_lt 64 i (fun g => absurd g (by omega)) (fun _ => ⟨pk_in i 65 (by omega), nm_e (nm_r (nI_1 i) (hw _ (ta_fill (f := fun _ => 0) rfl (by omega) hz)))⟩)
/-- one step of the sum -/
theorem ta_now {z : Nat → Int32} {C : Nat → Int} {p : Nat} (hz : z p = ta_i (C (p + 1) - C p)) (hp : p < 65) : ta_i (C p) + z (nI p).toNatClampNeg = ta_i (C (p + 1)) := by
  rw [nI_clamp (by omega), hz, ta_i_add]
  congr 1
  omega
theorem ta_c35 {post : Int32 → St2 → Prop} {x2 x3 : Int32} {C : Nat → Int} {d : Nat} (e2 : x2 = nI d) (e3 : x3 = ta_i (C 0)) (hd : d ≤ 32) (hC : ∀ p, -1000 ≤ C p ∧ C p ≤ 1000) (h : ∀ j, j < 65 → a14 j = ta_i (C (j + 1) - C j))
    (H : post (nI (ta_cnt C d 64)) (fr, fo, fh, fb, a1, a2, a3, a4, a5, a6, a7, a8, a9, a10, a11, a12, a13, a14)) : ∃ n, wX_covered_35 post x2 fr fo fh fb a1 a2 a3 a4 a5 a6 a7 a8 a9 a10 a11 a12 a13 a14 n x3 0 0 := by
  subst e2 e3
  refine pk_loop (σ := Unit) (fun n p _ => wX_covered_35 post (nI d) fr fo fh fb a1 a2 a3 a4 a5 a6 a7 a8 a9 a10 a11 a12 a13 a14 n (ta_i (C p)) (nI (ta_cnt C d p)) (nI p)) (fun _ _ => True) 64 0 () (by omega) trivial ?_ ?_
  · intro n _ _
    exact pk_le 64 64 (fun _ => H) (fun g => absurd g (by omega))
  · intro n p _ hp _ hw
    have hw := hw () trivial
    have hw2 : wX_covered_35 post (nI d) fr fo fh fb a1 a2 a3 a4 a5 a6 a7 a8 a9 a10 a11 a12 a13 a14 n (ta_i (C (p + 1))) (nI (ta_cnt C d p + (if (d : Int) ≤ C (p + 1) then 1 else 0))) (nI (p + 1)) := hw
    refine pk_le 64 p (fun g => absurd g (by omega)) (fun _ => ⟨pk_in p 65 (by omega), nm_r (ta_now (h p (by omega)) (by omega)) ?_⟩)
    refine ta_ilt (C (p + 1)) d rfl (ta_i_n d).symm (hC _) (by omega) (fun g => ?_) (fun g => ?_)
    · rw [if_neg (by omega)] at hw2
      exact nm_r (nI_add _ 0) (nm_r (nI_1 p) hw2)
    · rw [if_pos g] at hw2
      exact nm_r (nI_1 _) (nm_r (nI_1 p) hw2)
theorem ta_covered {post : Int32 → St2 → Prop} {p0 p1 : Int32} {t k d : Nat} {S E : Nat → Nat} (e0 : p0 = nI t) (e1 : p1 = nI d) (ht : t < 3) (hk : k ≤ 32) (hd : d ≤ 32) (h : ta_tr a1 a2 a3 t k S E)
    (H : ∀ z, post (nI (ta_cnt (ta_C S E k) d 64)) (fr, fo, fh, fb, a1, a2, a3, a4, a5, a6, a7, a8, a9, a10, a11, a12, a13, z)) : wpX_covered post (fr, fo, fh, fb, a1, a2, a3, a4, a5, a6, a7, a8, a9, a10, a11, a12, a13, a14) p0 p1 := by
  subst e0 e1
  unfold wpX_covered
  refine ta_isT rfl ht (br_f (by decide) ?_)
  refine pk_lt d 0 (fun g => absurd g (by omega)) (fun _ => pk_le d 32 (fun _ => ?_) (fun g => absurd g (by omega)))
  refine ta_cs rfl ht hk h (fun z hz => ?_)
  refine ta_c35 (C := ta_C S E k) rfl (by rw [ta_C0]; rfl) hd (fun p => ?_) (fun j hj => ?_) (H z)
  · have := ta_C_b S E k p
    omega
  · rw [hz j hj, ta_CD]
    congr 1
    omega
theorem ta_d21 {post : Int32 → St2 → Prop} {x2 : Int32} {C : Nat → Int} (e2 : x2 = ta_i (C 0)) (hC : ∀ p, -1000 ≤ C p ∧ C p ≤ 1000) (h : ∀ j, j < 65 → a14 j = ta_i (C (j + 1) - C j))
    (H : post (ta_i (ta_mx C 64)) (fr, fo, fh, fb, a1, a2, a3, a4, a5, a6, a7, a8, a9, a10, a11, a12, a13, a14)) : ∃ n, wX_deepest_21 post fr fo fh fb a1 a2 a3 a4 a5 a6 a7 a8 a9 a10 a11 a12 a13 a14 n x2 0 0 := by
  subst e2
  refine pk_loop (σ := Unit) (fun n p _ => wX_deepest_21 post fr fo fh fb a1 a2 a3 a4 a5 a6 a7 a8 a9 a10 a11 a12 a13 a14 n (ta_i (C p)) (ta_i (ta_mx C p)) (nI p)) (fun _ _ => True) 64 0 () (by omega) trivial ?_ ?_
  · intro n _ _
    exact pk_le 64 64 (fun _ => H) (fun g => absurd g (by omega))
  · intro n p _ hp _ hw
    have hw := hw () trivial
    have hw2 : wX_deepest_21 post fr fo fh fb a1 a2 a3 a4 a5 a6 a7 a8 a9 a10 a11 a12 a13 a14 n (ta_i (C (p + 1))) (ta_i (if C (p + 1) ≤ ta_mx C p then ta_mx C p else C (p + 1))) (nI (p + 1)) := hw
    have hb := ta_mx_b (C := C) (k := 1000) (by omega) (fun q => (hC q).2) p
    refine pk_le 64 p (fun g => absurd g (by omega)) (fun _ => ⟨pk_in p 65 (by omega), nm_r (ta_now (h p (by omega)) (by omega)) ?_⟩)
    refine ta_ile (C (p + 1)) (ta_mx C p) rfl rfl (hC _) (by omega) (fun g => ?_) (fun g => ?_)
    · rw [if_pos g] at hw2
      exact nm_r (nI_1 p) hw2
    · rw [if_neg (by omega)] at hw2
      exact nm_r (nI_1 p) hw2
theorem ta_deepest {post : Int32 → St2 → Prop} {p0 : Int32} {t k : Nat} {S E : Nat → Nat} (e0 : p0 = nI t) (ht : t < 3) (hk : k ≤ 32) (h : ta_tr a1 a2 a3 t k S E)
    (H : ∀ z, post (ta_i (ta_mx (ta_C S E k) 64)) (fr, fo, fh, fb, a1, a2, a3, a4, a5, a6, a7, a8, a9, a10, a11, a12, a13, z)) : wpX_deepest post (fr, fo, fh, fb, a1, a2, a3, a4, a5, a6, a7, a8, a9, a10, a11, a12, a13, a14) p0 := by
  subst e0
  unfold wpX_deepest
  refine ta_isT rfl ht (br_f (by decide) ?_)
  refine ta_cs rfl ht hk h (fun z hz => ?_)
  refine ta_d21 (C := ta_C S E k) (by rw [ta_C0]; rfl) (fun p => ?_) (fun j hj => ?_) (H z)
  · have := ta_C_b S E k p
    omega
  · rw [hz j hj, ta_CD]
    congr 1
    omega
end
end
section
/-- k runs in two arrays; the places in them are those of m -/
def ta_P (k : Nat) (x y : Nat → Int32) (m : Nat → Bool) : Prop := ∃ S E : Nat → Nat, (∀ i, i < k → x i = nI (S i) ∧ y i = nI (E i) ∧ S i ≤ 64 ∧ E i ≤ 64) ∧ ∀ j, j < 64 → ta_C S E k (j + 1) = ((m j).toNat : Int)
theorem ta_P_eq {k : Nat} {x y x' y' : Nat → Int32} {m : Nat → Bool} (h : ta_P k x y m) (e : ∀ i, i < k → x' i = x i ∧ y' i = y i) : ta_P k x' y' m := by
  obtain ⟨S, E, h1, h2⟩ := h
  refine ⟨S, E, fun i hi => ?_, h2⟩
  rw [(e i hi).1, (e i hi).2]
  exact h1 i hi
theorem ta_P1 {x y : Nat → Int32} {s e : Nat} (hx : x 0 = nI s) (hy : y 0 = nI e) (h : s ≤ e) (he : e ≤ 64) : ta_P 1 x y (fun j => ta_m s e j) := by
  refine ⟨fun _ => s, fun _ => e, fun i hi => ?_, fun j hj => ?_⟩
  · have e0 : i = 0 := by omega
    subst e0
    exact ⟨hx, hy, by show s ≤ 64; omega, he⟩
  · show (0 : Int) + (if s < j + 1 then 1 else 0) - (if e < j + 1 then 1 else 0) = ((ta_m s e j).toNat : Int)
    rcases ta_tn (ta_m_iff s e j) with ⟨c, e1⟩ | ⟨c, e1⟩ <;> rw [e1] <;> split <;> split <;> omega
theorem ta_P1' {x y : Nat → Int32} {p q u v : Nat} (hx : x 0 = nI p) (hy : y 0 = nI (max q v)) (h1 : p ≤ u) (h2 : u ≤ q) (h3 : p ≤ q) (h4 : u ≤ v) (hq : q ≤ 64) (hv : v ≤ 64) : ta_P 1 x y (fun j => ta_m p q j || ta_m u v j) := by
  refine ⟨fun _ => p, fun _ => max q v, fun i hi => ?_, fun j hj => ?_⟩
  · have e0 : i = 0 := by omega
    subst e0
    exact ⟨hx, hy, by show p ≤ 64; omega, by show max q v ≤ 64; omega⟩
  · show (0 : Int) + (if p < j + 1 then 1 else 0) - (if max q v < j + 1 then 1 else 0) = ((ta_m p q j || ta_m u v j).toNat : Int)
    have iw : (ta_m p q j || ta_m u v j) = true ↔ ((p ≤ j ∧ j < q) ∨ (u ≤ j ∧ j < v)) := by
      rw [Bool.or_eq_true, ta_m_iff, ta_m_iff]
    rcases ta_tn iw with ⟨c, e1⟩ | ⟨c, e1⟩ <;> rw [e1] <;> split <;> split <;> omega
theorem ta_P2 {x y : Nat → Int32} {p q u v : Nat} (hx : x 0 = nI p) (hy : y 0 = nI q) (hx1 : x 1 = nI u) (hy1 : y 1 = nI v) (h1 : p ≤ q) (h2 : q < u) (h4 : u ≤ v) (hv : v ≤ 64) : ta_P 2 x y (fun j => ta_m p q j || ta_m u v j) := by
  refine ⟨fun i => if i = 0 then p else u, fun i => if i = 0 then q else v, fun i hi => ?_, fun j hj => ?_⟩
  · have e0 : i = 0 ∨ i = 1 := by omega
    rcases e0 with e0 | e0
    · subst e0
      exact ⟨hx, hy, by show p ≤ 64; omega, by show q ≤ 64; omega⟩
    · subst e0
      exact ⟨hx1, hy1, by show u ≤ 64; omega, hv⟩
  · show (0 : Int) + (if p < j + 1 then 1 else 0) - (if q < j + 1 then 1 else 0) + (if u < j + 1 then 1 else 0) - (if v < j + 1 then 1 else 0) = ((ta_m p q j || ta_m u v j).toNat : Int)
    have iw : (ta_m p q j || ta_m u v j) = true ↔ ((p ≤ j ∧ j < q) ∨ (u ≤ j ∧ j < v)) := by
      rw [Bool.or_eq_true, ta_m_iff, ta_m_iff]
    rcases ta_tn iw with ⟨c, e1⟩ | ⟨c, e1⟩ <;> rw [e1] <;> split <;> split <;> split <;> split <;> omega
/-! the walk's picture at place p: k runs are done, ta_in w p says whether one more has begun -/
def ta_V (w : Nat → Bool) (p k : Nat) (x y : Nat → Int32) : Prop := ∃ S E : Nat → Nat, (∀ i, i < k → x i = nI (S i) ∧ y i = nI (E i) ∧ S i ≤ 64 ∧ E i ≤ 64) ∧ (ta_in w p = true → x k = nI (S k) ∧ S k ≤ 64) ∧ k + (ta_in w p).toNat = ta_rs w p ∧ 2 * k + (ta_in w p).toNat ≤ p ∧ ∀ j, ta_C S E k (j + 1) + (if S k ≤ j then ((ta_in w p).toNat : Int) else 0) = if j < p then ((w j).toNat : Int) else ((ta_in w p).toNat : Int)
theorem ta_V0 (w : Nat → Bool) (x y : Nat → Int32) : ta_V w 0 0 x y := by
  refine ⟨fun _ => 0, fun _ => 0, fun i hi => absurd hi (by omega), fun h => absurd (show false = true from h) (by decide), rfl, Nat.le_refl 0, fun j => ?_⟩
  rw [if_neg (show ¬ j < 0 by omega), if_pos (Nat.zero_le j)]
  rfl
theorem ta_V1 {w : Nat → Bool} {p k : Nat} {x y : Nat → Int32} (h : ta_V w p k x y) (e : w p = ta_in w p) : ta_V w (p + 1) k x y := by
  obtain ⟨S, E, h1, h2, h3, h4, h5⟩ := h
  have e' : ta_in w (p + 1) = ta_in w p := e
  refine ⟨S, E, h1, by rw [e']; exact h2, ?_, by rw [e']; omega, fun j => ?_⟩
  · rw [e', ta_rs_s, e, h3]
    cases ta_in w p <;> rfl
  · rw [e', h5 j]
    by_cases c : j < p
    · rw [if_pos c, if_pos (by omega)]
    · rw [if_neg c]
      by_cases c2 : j < p + 1
      · have c3 : j = p := by omega
        rw [if_pos c2, c3, e]
      · rw [if_neg c2]
theorem ta_V2 {w : Nat → Bool} {p k : Nat} {x y : Nat → Int32} (h : ta_V w p k x y) (e1 : w p = true) (e2 : ta_in w p = false) (hp : p ≤ 64) : ta_V w (p + 1) k (upd x k (nI p)) y := by
  obtain ⟨S, E, h1, h2, h3, h4, h5⟩ := h
  have e' : ta_in w (p + 1) = true := e1
  rw [e2] at h3 h4 h5
  have sk : (fun i => if i = k then p else S i) k = p := if_pos rfl
  refine ⟨fun i => if i = k then p else S i, E, fun i hi => ?_, fun _ => ⟨?_, ?_⟩, ?_, ?_, fun j => ?_⟩
  · have h6 := h1 i hi
    rw [pk_un (by omega)]
    show x i = nI (if i = k then p else S i) ∧ y i = nI (E i) ∧ (if i = k then p else S i) ≤ 64 ∧ E i ≤ 64
    rw [if_neg (by omega)]
    exact h6
  · rw [pk_us, sk]
  · rw [sk]; exact hp
  · rw [e', ta_rs_s, e1, e2, ← h3]
    rfl
  · rw [e']
    show 2 * k + 1 ≤ p + 1
    have : 2 * k + 0 ≤ p := h4
    omega
  · have h7 := h5 j
    have h8 : ta_C (fun i => if i = k then p else S i) E k (j + 1) = ta_C S E k (j + 1) := ta_C_c (fun i hi => ⟨if_neg (by omega), rfl⟩) (j + 1)
    rw [h8, sk, e']
    have t0 : ((false.toNat : Nat) : Int) = 0 := rfl
    have t1 : ((true.toNat : Nat) : Int) = 1 := rfl
    rw [t0] at h7
    rw [t1]
    have h9 : ta_C S E k (j + 1) = if j < p then ((w j).toNat : Int) else 0 := by
      rw [← h7]
      split <;> omega
    rw [h9]
    by_cases c : j < p
    · rw [if_pos c, if_neg (by omega), if_pos (by omega)]
      omega
    · rw [if_neg c, if_pos (by omega)]
      by_cases c2 : j < p + 1
      · have c3 : j = p := by omega
        rw [if_pos c2, c3, e1]
        rfl
      · rw [if_neg c2]
        rfl
theorem ta_V3 {w : Nat → Bool} {p k : Nat} {x y : Nat → Int32} (h : ta_V w p k x y) (e1 : w p = false) (e2 : ta_in w p = true) (hp : p ≤ 64) : ta_V w (p + 1) (k + 1) x (upd y k (nI p)) := by
  obtain ⟨S, E, h1, h2, h3, h4, h5⟩ := h
  have e' : ta_in w (p + 1) = false := e1
  have h2' := h2 e2
  rw [e2] at h3 h4 h5
  have sk : (fun i => if i = k then p else E i) k = p := if_pos rfl
  refine ⟨S, fun i => if i = k then p else E i, fun i hi => ?_, fun z => absurd z (by rw [e']; decide), ?_, ?_, fun j => ?_⟩
  · show x i = nI (S i) ∧ upd y k (nI p) i = nI (if i = k then p else E i) ∧ S i ≤ 64 ∧ (if i = k then p else E i) ≤ 64
    by_cases c : i = k
    · rw [c, pk_us, if_pos rfl]
      exact ⟨h2'.1, rfl, h2'.2, hp⟩
    · have h6 := h1 i (by omega)
      rw [pk_un c, if_neg c]
      exact h6
  · rw [e', ta_rs_s, e1, ← h3]
    rfl
  · rw [e']
    show 2 * (k + 1) + 0 ≤ p + 1
    have : 2 * k + 1 ≤ p := h4
    omega
  · have h7 := h5 j
    have h8 : ta_C S (fun i => if i = k then p else E i) k (j + 1) = ta_C S E k (j + 1) := ta_C_c (fun i hi => ⟨rfl, if_neg (by omega)⟩) (j + 1)
    have t0 : ((false.toNat : Nat) : Int) = 0 := rfl
    have t1 : ((true.toNat : Nat) : Int) = 1 := rfl
    rw [t1] at h7
    rw [ta_C_s, h8, e', t0]
    have sk' : (if k = k then p else E k) = p := if_pos rfl
    rw [sk']
    have z0 : (if S (k + 1) ≤ j then (0 : Int) else 0) = 0 := by split <;> rfl
    have z1 : (if S k < j + 1 then (1 : Int) else 0) = if S k ≤ j then 1 else 0 := by
      by_cases c : S k ≤ j
      · rw [if_pos c, if_pos (by omega)]
      · rw [if_neg c, if_neg (by omega)]
    rw [z0, z1, h7]
    by_cases c : j < p
    · rw [if_pos c, if_neg (by omega), if_pos (by omega)]
      omega
    · rw [if_neg c, if_pos (by omega)]
      by_cases c2 : j < p + 1
      · have c3 : j = p := by omega
        rw [if_pos c2, c3, e1]
        rfl
      · rw [if_neg c2]
        rfl
theorem ta_Vend {w : Nat → Bool} {k : Nat} {x y : Nat → Int32} (h : ta_V w 65 k x y) (e : w 64 = false) : k ≤ 32 ∧ k = ta_rs w 65 ∧ ta_P k x y w := by
  obtain ⟨S, E, h1, h2, h3, h4, h5⟩ := h
  have e' : ta_in w 65 = false := e
  have t0 : ((false.toNat : Nat) : Int) = 0 := rfl
  rw [e'] at h3 h4 h5
  rw [t0] at h5
  refine ⟨?_, h3, S, E, h1, fun j hj => ?_⟩
  · have : 2 * k + 0 ≤ 65 := h4
    omega
  · have h6 := h5 j
    rw [if_pos (show j < 65 by omega)] at h6
    rw [← h6]
    split <;> omega
end
section
section
variable {fr fo fh fb : Int32} {a1 a2 a3 a4 a5 a6 a7 a8 a9 a10 a11 a12 a13 a14 : Nat → Int32}
def ta_b (b : Bool) : Int32 := match b with | true => 1 | false => 0
def ta_kd (b : Bool) : Int32 := match b with | true => 3 | false => 0
/-- wanted: in c, and (kind 0) in o or (kind 3) not in o -/
def ta_w (k3 : Bool) (c o : Nat → Bool) (j : Nat) : Bool := decide (j < 64) && (c j && (o j != k3))
theorem ta_w64 (k3 : Bool) (c o : Nat → Bool) : ta_w k3 c o 64 = false := rfl
theorem ta_wlt {k3 : Bool} {c o : Nat → Bool} {j : Nat} (h : j < 64) : ta_w k3 c o j = (c j && (o j != k3)) := by
  unfold ta_w
  rw [decide_eq_true h, Bool.true_and]
theorem ta_wa {post : St2 → Prop} {x2 x3 : Int32} {n p : Nat} {cc oo k3 : Bool} (hp : p < 64) (hn : x2 + a14 (nI p).toNatClampNeg = ta_i ((cc.toNat : Int) + 4 * (oo.toNat : Int)))
    (H : wX_walkBoth_183 post (wX_walkBoth_125 post (ta_kd k3) fo fh fb n) (ta_kd k3) (ta_i ((cc.toNat : Int) + 4 * (oo.toNat : Int))) x3 (nI p) (ta_b (cc && (oo != k3))) fr fo fh fb a1 a2 a3 a4 a5 a6 a7 a8 a9 a10 a11 a12 a13 a14) :
    wX_walkBoth_125 post (ta_kd k3) fo fh fb (n + 1) x2 x3 (nI p) fr a1 a2 a3 a4 a5 a6 a7 a8 a9 a10 a11 a12 a13 a14 := by
  refine pk_lt 64 p (fun g => absurd g (by omega)) (fun _ => ⟨pk_in p 65 (by omega), nm_r hn (pk_le 64 p (fun g => absurd g (by omega)) (fun _ => ?_))⟩)
  cases cc <;> cases oo <;> cases k3
  · exact br_f (by decide) (br_t (by decide) (br_t (by decide) (br_t (by decide) (br_t (by decide) H))))
  · exact br_f (by decide) (br_t (by decide) (br_f (by decide) (br_f (by decide) (br_f (by decide) (br_t (by decide) (br_t (by decide) H))))))
  · exact br_f (by decide) (br_f (by decide) (br_t (by decide) (br_t (by decide) (br_t (by decide) H))))
  · exact br_f (by decide) (br_f (by decide) (br_f (by decide) (br_f (by decide) (br_f (by decide) (br_t (by decide) (br_t (by decide) H))))))
  · exact br_t (by decide) (br_t (by decide) (br_t (by decide) (br_f (by decide) (br_t (by decide) (br_t (by decide) H)))))
  · exact br_t (by decide) (br_t (by decide) (br_f (by decide) (br_f (by decide) (br_f (by decide) (br_f (by decide) (br_t (by decide) (br_f (by decide) H)))))))
  · exact br_t (by decide) (br_f (by decide) (br_t (by decide) (br_f (by decide) (br_f (by decide) (br_f (by decide) H)))))
  · exact br_t (by decide) (br_f (by decide) (br_f (by decide) (br_f (by decide) (br_f (by decide) (br_f (by decide) (br_f (by decide) (br_t (by decide) H)))))))
theorem ta_wz {post : St2 → Prop} {x1 x2 x3 y : Int32} {n : Nat} (hn : x2 + a14 (nI 64).toNatClampNeg = y)
    (H : wX_walkBoth_183 post (wX_walkBoth_125 post x1 fo fh fb n) x1 y x3 (nI 64) (ta_b false) fr fo fh fb a1 a2 a3 a4 a5 a6 a7 a8 a9 a10 a11 a12 a13 a14) :
    wX_walkBoth_125 post x1 fo fh fb (n + 1) x2 x3 (nI 64) fr a1 a2 a3 a4 a5 a6 a7 a8 a9 a10 a11 a12 a13 a14 :=
  pk_lt 64 64 (fun g => absurd g (by omega)) (fun _ => ⟨pk_in 64 65 (by omega), nm_r hn (pk_le 64 64 (fun _ => H) (fun g => absurd g (by omega)))⟩)
theorem ta_wb {post : St2 → Prop} {J : Int32 → Int32 → Int32 → Int32 → (Nat → Int32) → (Nat → Int32) → (Nat → Int32) → (Nat → Int32) → (Nat → Int32) → (Nat → Int32) → (Nat → Int32) → (Nat → Int32) → (Nat → Int32) → (Nat → Int32) → (Nat → Int32) → (Nat → Int32) → (Nat → Int32) → (Nat → Int32) → Prop} {x1 x2 : Int32} {p k : Nat} {w ins : Bool}
    (H1 : w = ins → J x2 (ta_b w) (nI (p + 1)) (nI k) a1 a2 a3 a4 a5 a6 a7 a8 a9 a10 a11 a12 a13 a14)
    (H2 : w = true → ins = false → k < 32 ∧ J x2 (ta_b w) (nI (p + 1)) (nI k) a1 a2 a3 a4 a5 a6 a7 a8 a9 (upd a10 k (nI p)) a11 a12 a13 a14)
    (H3 : w = false → ins = true → k < 32 ∧ J x2 (ta_b w) (nI (p + 1)) (nI (k + 1)) a1 a2 a3 a4 a5 a6 a7 a8 a9 a10 (upd a11 k (nI p)) a12 a13 a14) :
    wX_walkBoth_183 post J x1 x2 (ta_b ins) (nI p) (ta_b w) (nI k) fo fh fb a1 a2 a3 a4 a5 a6 a7 a8 a9 a10 a11 a12 a13 a14 := by
  cases w <;> cases ins
  · exact br_t (by decide) (br_t (by decide) (br_t (by decide) (nm_r (nI_1 p) (H1 rfl))))
  · have h := H3 rfl rfl
    refine br_t (by decide) (br_t (by decide) (br_f (by decide) ⟨pk_in k 32 h.1, nm_r (e' := upd a11 k (nI p)) ?_ (nm_r (nI_1 k) (nm_r (nI_1 p) h.2))⟩))
    have h1 := h.1
    rw [nI_clamp (by omega)]
  · have h := H2 rfl rfl
    refine br_f (by decide) (br_t (by decide) ⟨pk_in k 32 h.1, nm_r (e' := upd a10 k (nI p)) ?_ (nm_r (nI_1 p) h.2)⟩)
    have h1 := h.1
    rw [nI_clamp (by omega)]
  · exact br_f (by decide) (br_f (by decide) (br_f (by decide) (nm_r (nI_1 p) (H1 rfl))))
theorem ta_w125 {post : St2 → Prop} {x2 : Int32} {k3 : Bool} {c o : Nat → Bool} {N : Nat → Int} (e2 : x2 = ta_i (N 0)) (hN : ∀ j, j < 64 → N (j + 1) = ((c j).toNat : Int) + 4 * ((o j).toNat : Int)) (h14 : ∀ j, j < 65 → a14 j = ta_i (N (j + 1) - N j))
    (H : ∀ K x y, K ≤ 32 → K = ta_rs (ta_w k3 c o) 65 → ta_P K x y (ta_w k3 c o) → post (nI K, fo, fh, fb, a1, a2, a3, a4, a5, a6, a7, a8, a9, x, y, a12, a13, a14)) : ∃ n, wX_walkBoth_125 post (ta_kd k3) fo fh fb n x2 0 0 0 a1 a2 a3 a4 a5 a6 a7 a8 a9 a10 a11 a12 a13 a14 := by
  subst e2
  refine pk_loop (σ := Nat × (Nat → Int32) × (Nat → Int32)) (fun n p s => wX_walkBoth_125 post (ta_kd k3) fo fh fb n (ta_i (N p)) (ta_b (ta_in (ta_w k3 c o) p)) (nI p) (nI s.1) a1 a2 a3 a4 a5 a6 a7 a8 a9 s.2.1 s.2.2 a12 a13 a14) (fun p s => ta_V (ta_w k3 c o) p s.1 s.2.1 s.2.2) 65 0 (0, a10, a11) (by omega) (ta_V0 _ _ _) ?_ ?_
  · intro n s hv
    obtain ⟨v1, v2, v3⟩ := ta_Vend hv (ta_w64 k3 c o)
    exact pk_lt 64 65 (fun _ => H s.1 s.2.1 s.2.2 v1 v2 v3) (fun g => absurd g (by omega))
  · intro n p s hp hv hw
    have hb : 2 * s.1 + (ta_in (ta_w k3 c o) p).toNat ≤ p := by
      obtain ⟨S, E, h1, h2, h3, h4, h5⟩ := hv
      exact h4
    have hnow := ta_now (h14 p hp) hp
    have key : wX_walkBoth_183 post (wX_walkBoth_125 post (ta_kd k3) fo fh fb n) (ta_kd k3) (ta_i (N (p + 1))) (ta_b (ta_in (ta_w k3 c o) p)) (nI p) (ta_b (ta_w k3 c o p)) (nI s.1) fo fh fb a1 a2 a3 a4 a5 a6 a7 a8 a9 s.2.1 s.2.2 a12 a13 a14 := by
      refine ta_wb (fun e => ?_) (fun e1 e2 => ?_) (fun e1 e2 => ?_)
      · exact hw s (ta_V1 hv e)
      · have h64 : p < 64 := by
          rcases Nat.lt_or_ge p 64 with z | z
          · exact z
          · have : p = 64 := by omega
            rw [this, ta_w64] at e1
            exact absurd e1 (by decide)
        exact ⟨by omega, hw (s.1, upd s.2.1 s.1 (nI p), s.2.2) (ta_V2 hv e1 e2 (by omega))⟩
      · rw [e2] at hb
        have hb2 : 2 * s.1 + 1 ≤ p := hb
        exact ⟨by omega, hw (s.1 + 1, s.2.1, upd s.2.2 s.1 (nI p)) (ta_V3 hv e1 e2 (by omega))⟩
    rcases Nat.lt_or_ge p 64 with z | z
    · rw [ta_wlt z] at key
      rw [hN p z] at hnow key
      exact ta_wa z hnow key
    · have e : p = 64 := by omega
      subst e
      rw [ta_w64] at key
      exact ta_wz hnow key
theorem ta_4 {S E : Nat → Nat} {X : Nat → Int} {i j : Nat} : (X j + 4 * ta_D S E i j) + (if S i = j then 4 else 0) - (if E i = j then 4 else 0) = X j + 4 * ta_D S E (i + 1) j := by
  rw [ta_D_s]
  split <;> split <;> omega
theorem ta_w69 {post : St2 → Prop} {x1 : Int32} {m : Nat} {S E : Nat → Nat} {X : Nat → Int} (hm : m ≤ 32) (hr : ∀ i, i < m → a12 i = nI (S i) ∧ a13 i = nI (E i) ∧ S i ≤ 64 ∧ E i ≤ 64) (h0 : ∀ j, j < 65 → a14 j = ta_i (X j))
    (H : ∀ z, (∀ j, j < 65 → z j = ta_i (X j + 4 * ta_D S E m j)) → ∃ n, wX_walkBoth_125 post x1 (nI m) fh fb n 0 0 0 0 a1 a2 a3 a4 a5 a6 a7 a8 a9 a10 a11 a12 a13 z) : ∃ n, wX_walkBoth_69 post x1 fr (nI m) fh fb n 0 a1 a2 a3 a4 a5 a6 a7 a8 a9 a10 a11 a12 a13 a14 := by
  refine pk_loop (fun n i z => wX_walkBoth_69 post x1 fr (nI m) fh fb n (nI i) a1 a2 a3 a4 a5 a6 a7 a8 a9 a10 a11 a12 a13 z) (fun i z => ∀ j, j < 65 → z j = ta_i (X j + 4 * ta_D S E i j)) m 0 a14 (by omega) (fun j hj => ?_) ?_ ?_
  · rw [h0 j hj]
    congr 1
    show X j = X j + 4 * 0
    omega
  · intro n z hz
    exact pk_le m m (fun _ => H z hz) (fun g => absurd g (by omega))
  · intro n i z hik hz hw
    obtain ⟨b1, b2, b3, b4⟩ := hr i hik
    have c1 : a12 (nI i).toNatClampNeg = nI (S i) := ta_at i b1
    have c2 : a13 (nI i).toNatClampNeg = nI (E i) := ta_at i b2
    refine pk_le m i (fun g => absurd g (by omega)) (fun _ => ?_)
    refine ⟨pk_in i 32 (by omega), pk_in (S i) 65 (by omega) c1, pk_in (S i) 65 (by omega) c1, fun z1 e1 => ⟨pk_in i 32 (by omega), pk_in (E i) 65 (by omega) c2, pk_in (E i) 65 (by omega) c2, fun z2 e2 => nm_r (nI_1 _) (hw z2 (fun j hj => ?_))⟩⟩
    rw [c1, nI_clamp (by omega)] at e1
    rw [c2, nI_clamp (by omega), e1] at e2
    rw [e2]
    exact (ta_put (w := 4) (x := 4) (D := fun j => X j + 4 * ta_D S E i j) rfl (by omega) (by omega) hz j hj).trans (congrArg ta_i ta_4)
theorem ta_w23 {post : St2 → Prop} {x1 : Int32} {k : Nat} {S E : Nat → Nat} (hk : k ≤ 32) (hr : ∀ i, i < k → a10 i = nI (S i) ∧ a11 i = nI (E i) ∧ S i ≤ 64 ∧ E i ≤ 64) (h0 : ∀ j, j < 65 → a14 j = 0)
    (H : ∀ z, (∀ j, j < 65 → z j = ta_i (ta_D S E k j)) → ∃ n, wX_walkBoth_69 post x1 (nI k) fo fh fb n 0 a1 a2 a3 a4 a5 a6 a7 a8 a9 a10 a11 a12 a13 z) : ∃ n, wX_walkBoth_23 post x1 (nI k) fo fh fb n 0 a1 a2 a3 a4 a5 a6 a7 a8 a9 a10 a11 a12 a13 a14 := by
  refine pk_loop (fun n i z => wX_walkBoth_23 post x1 (nI k) fo fh fb n (nI i) a1 a2 a3 a4 a5 a6 a7 a8 a9 a10 a11 a12 a13 z) (fun i z => ∀ j, j < 65 → z j = ta_i (ta_D S E i j)) k 0 a14 (by omega) h0 ?_ ?_
  · intro n z hz
    exact pk_le k k (fun _ => H z hz) (fun g => absurd g (by omega))
  · intro n i z hik hz hw
    obtain ⟨b1, b2, b3, b4⟩ := hr i hik
    have c1 : a10 (nI i).toNatClampNeg = nI (S i) := ta_at i b1
    have c2 : a11 (nI i).toNatClampNeg = nI (E i) := ta_at i b2
    refine pk_le k i (fun g => absurd g (by omega)) (fun _ => ?_)
    refine ⟨pk_in i 32 (by omega), pk_in (S i) 65 (by omega) c1, pk_in (S i) 65 (by omega) c1, fun z1 e1 => ⟨pk_in i 32 (by omega), pk_in (E i) 65 (by omega) c2, pk_in (E i) 65 (by omega) c2, fun z2 e2 => nm_r (nI_1 _) (hw z2 ?_)⟩⟩
    rw [c1, nI_clamp (by omega)] at e1
    rw [c2, nI_clamp (by omega), e1] at e2
    rw [e2]
    exact ta_put (w := 1) rfl (by omega) (by omega) hz
theorem ta_walk {post : St2 → Prop} {p0 : Int32} {k m : Nat} {k3 : Bool} {c o : Nat → Bool} (e0 : p0 = ta_kd k3) (hk : k ≤ 32) (hm : m ≤ 32) (h1 : ta_P k a10 a11 c) (h2 : ta_P m a12 a13 o)
    (H : ∀ K x y z, K ≤ 32 → K = ta_rs (ta_w k3 c o) 65 → ta_P K x y (ta_w k3 c o) → post (nI K, nI m, fh, fb, a1, a2, a3, a4, a5, a6, a7, a8, a9, x, y, a12, a13, z)) : wpX_walkBoth post (nI k, nI m, fh, fb, a1, a2, a3, a4, a5, a6, a7, a8, a9, a10, a11, a12, a13, a14) p0 := by
  subst e0
  obtain ⟨S, E, r1, r2⟩ := h1
  obtain ⟨S2, E2, s1, s2⟩ := h2
  refine pk_loop (fun n i z => wX_walkBoth_2 post (ta_kd k3) (nI k) (nI m) fh fb n (nI i) a1 a2 a3 a4 a5 a6 a7 a8 a9 a10 a11 a12 a13 z) (fun i z => ∀ j, j < i → z j = 0) 65 0 a14 (by omega) (fun j hj => absurd hj (by omega)) ?_ ?_
  · intro n z hz
    refine pk_lt 64 65 (fun _ => ?_) (fun g => absurd g (by omega))
    refine ta_w23 hk r1 hz (fun z1 hz1 => ta_w69 hm s1 hz1 (fun z2 hz2 => ?_))
    refine ta_w125 (c := c) (o := o) (N := fun p => ta_C S E k p + 4 * ta_C S2 E2 m p) ?_ (fun j hj => ?_) (fun j hj => ?_) (fun K x y q1 q2 q3 => H K x y z2 q1 q2 q3)
    · show (0 : Int32) = ta_i (ta_C S E k 0 + 4 * ta_C S2 E2 m 0)
      rw [ta_C0, ta_C0]
      rfl
    · show ta_C S E k (j + 1) + 4 * ta_C S2 E2 m (j + 1) = _
      rw [r2 j hj, s2 j hj]
    · rw [hz2 j hj]
      show _ = ta_i (ta_C S E k (j + 1) + 4 * ta_C S2 E2 m (j + 1) - (ta_C S E k j + 4 * ta_C S2 E2 m j))
      rw [ta_CD, ta_CD]
      congr 1
      omega
  · intro n i z hik hz hw
    exact pk_lt 64 i (fun g => absurd g (by omega)) (fun _ => ⟨pk_in i 65 (by omega), nm_e (nm_r (nI_1 i) (hw _ (ta_fill (f := fun _ => 0) rfl (by omega) hz)))⟩)
end
end
section
section
variable {fr fo fh fb : Int32} {a1 a2 a3 a4 a5 a6 a7 a8 a9 a10 a11 a12 a13 a14 : Nat → Int32}
/-- a turn of takeRuns that begins a run -/
theorem ta_t106 {post : St2 → Prop} {J : Int32 → Int32 → (Nat → Int32) → (Nat → Int32) → (Nat → Int32) → (Nat → Int32) → (Nat → Int32) → (Nat → Int32) → (Nat → Int32) → (Nat → Int32) → (Nat → Int32) → (Nat → Int32) → (Nat → Int32) → (Nat → Int32) → (Nat → Int32) → (Nat → Int32) → Prop} {x1 : Int32} {n k s e : Nat} (hn : n < 96) (hk : k < 32) (h1 : a1 n = nI s) (h2 : a2 n = nI e)
    (H : J (nI (n + 1)) (nI (k + 1)) a1 a2 a3 a4 a5 a6 a7 a8 a9 (upd a10 k (nI s)) (upd a11 k (nI e)) a12 a13 a14) : wX_takeRuns_106 post J x1 (nI n) (nI k) fo fh fb a1 a2 a3 a4 a5 a6 a7 a8 a9 a10 a11 a12 a13 a14 := by
  have c1 : a1 (nI n).toNatClampNeg = nI s := ta_at n h1
  have c2 : a2 (nI n).toNatClampNeg = nI e := ta_at n h2
  refine ⟨pk_in n 96 hn, pk_in k 32 hk, nm_r (e' := upd a10 k (nI s)) ?_ ⟨pk_in n 96 hn, pk_in k 32 hk, nm_r (e' := upd a11 k (nI e)) ?_ (nm_r (nI_1 k) (nm_r (nI_1 n) H))⟩⟩
  · rw [c1, nI_clamp (by omega)]
  · rw [c2, nI_clamp (by omega)]
theorem ta_take1 {post : St2 → Prop} {p0 : Int32} {t s e : Nat} (e0 : p0 = nI t) (ht : t < 3) (hz : a3 t = nI 1) (h1 : a1 (32 * t) = nI s) (h2 : a2 (32 * t) = nI e)
    (H : post (nI 1, fo, fh, fb, a1, a2, a3, a4, a5, a6, a7, a8, a9, upd a10 0 (nI s), upd a11 0 (nI e), a12, a13, a14)) : wpX_takeRuns post (fr, fo, fh, fb, a1, a2, a3, a4, a5, a6, a7, a8, a9, a10, a11, a12, a13, a14) p0 := by
  subst e0
  refine nm_r (e' := nI (32 * t)) (pk_mul 32 t) ⟨2, pk_in t 3 ht, pk_le (32 * t + 1) (32 * t) (fun g => absurd g (by omega)) (fun _ => pk_le 0 0 (fun _ => ?_) (fun g => absurd g (by omega))) (ta_sz ht hz)⟩
  refine ta_t106 (k := 0) (by omega) (by omega) h1 h2 ?_
  exact ⟨pk_in t 3 ht, pk_le (32 * t + 1) (32 * t + 1) (fun _ => H) (fun g => absurd g (by omega)) (ta_sz ht hz)⟩
theorem ta_take2 {post : St2 → Prop} {p q u v : Nat} (hp : p < 65) (hq : q < 65) (hu : u < 65) (hv : v < 65) (hz : a3 0 = nI 2) (h1 : a1 0 = nI p) (h2 : a2 0 = nI q) (h3 : a1 1 = nI u) (h4 : a2 1 = nI v)
    (H1 : q < u → post (nI 2, fo, fh, fb, a1, a2, a3, a4, a5, a6, a7, a8, a9, upd (upd a10 0 (nI p)) 1 (nI u), upd (upd a11 0 (nI q)) 1 (nI v), a12, a13, a14))
    (H2 : u ≤ q → post (nI 1, fo, fh, fb, a1, a2, a3, a4, a5, a6, a7, a8, a9, upd a10 0 (nI p), upd (upd a11 0 (nI q)) 0 (nI (max q v)), a12, a13, a14)) : wpX_takeRuns post (fr, fo, fh, fb, a1, a2, a3, a4, a5, a6, a7, a8, a9, a10, a11, a12, a13, a14) (nI 0) := by
  refine nm_r (e' := nI 0) (pk_mul 32 0) ⟨3, pk_in 0 3 (by omega), pk_le 2 0 (fun g => absurd g (by omega)) (fun _ => pk_le 0 0 (fun _ => ?_) (fun g => absurd g (by omega))) (ta_sz (t := 0) (by omega) hz)⟩
  refine ta_t106 (n := 0) (k := 0) (by omega) (by omega) h1 h2 ?_
  refine ⟨pk_in 0 3 (by omega), pk_le 2 1 (fun g => absurd g (by omega)) (fun _ => pk_le 1 0 (fun g => absurd g (by omega)) (fun _ => ⟨pk_in 1 96 (by omega), pk_in 0 32 (by omega), ?_⟩)) (ta_sz (t := 0) (by omega) hz)⟩
  refine pk_lt q u (fun g => ?_) (fun g => ⟨pk_in 1 96 (by omega), pk_in 0 32 (by omega), ?_⟩) rfl h3
  · refine ta_t106 (n := 1) (k := 1) (by omega) (by omega) h3 h4 ?_
    exact ⟨pk_in 0 3 (by omega), pk_le 2 2 (fun _ => H1 g) (fun g => absurd g (by omega)) (ta_sz (t := 0) (by omega) hz)⟩
  · refine pk_le v q (fun g2 => ?_) (fun g2 => ?_) h4 rfl
    · rw [Nat.max_eq_left g2] at H2
      refine ⟨pk_in 0 32 (by omega), pk_in 0 32 (by omega), nm_r (e' := upd (upd a11 0 (nI q)) 0 (nI q)) rfl (nm_r (e' := nI 2) rfl ?_)⟩
      exact ⟨pk_in 0 3 (by omega), pk_le 2 2 (fun _ => H2 g) (fun g => absurd g (by omega)) (ta_sz (t := 0) (by omega) hz)⟩
    · rw [Nat.max_eq_right (by omega)] at H2
      refine ⟨pk_in 1 96 (by omega), pk_in 0 32 (by omega), nm_r (e' := upd (upd a11 0 (nI q)) 0 (nI v)) ?_ (nm_r (e' := nI 2) rfl ?_)⟩
      · show upd (upd a11 0 (nI q)) 0 (a2 1) = _
        rw [h4]
      · exact ⟨pk_in 0 3 (by omega), pk_le 2 2 (fun _ => H2 g) (fun g => absurd g (by omega)) (ta_sz (t := 0) (by omega) hz)⟩
/-- the order of a track's two stretches, and a third one -/
def ta_O (p q u v s e : Nat) : Prop := p < q ∧ u < v ∧ s < e ∧ q < 64 ∧ v < 64 ∧ e < 64 ∧ (p < u ∨ (p = u ∧ v ≤ q))
/-- the tracks: two stretches in track 0 -/
def ta_G (p q u v : Nat) (x1 x2 x3 : Nat → Int32) : Prop := x3 0 = nI 2 ∧ x1 0 = nI p ∧ x2 0 = nI q ∧ x1 1 = nI u ∧ x2 1 = nI v
/-- one stretch in track 1 -/
def ta_G1 (s e : Nat) (x1 x2 x3 : Nat → Int32) : Prop := x3 1 = nI 1 ∧ x1 32 = nI s ∧ x2 32 = nI e
theorem ta_take0 {post : St2 → Prop} {p0 : Int32} {p q u v s e : Nat} (e0 : p0 = nI 0) (ho : ta_O p q u v s e) (hg : ta_G p q u v a1 a2 a3)
    (H : ∀ k x y, k = (if u ≤ q then 1 else 2) → k ≤ 32 → ta_P k x y (fun j => ta_m p q j || ta_m u v j) → post (nI k, fo, fh, fb, a1, a2, a3, a4, a5, a6, a7, a8, a9, x, y, a12, a13, a14)) : wpX_takeRuns post (fr, fo, fh, fb, a1, a2, a3, a4, a5, a6, a7, a8, a9, a10, a11, a12, a13, a14) p0 := by
  subst e0
  obtain ⟨g0, g1, g2, g3, g4⟩ := hg
  obtain ⟨o1, o2, o3, o4, o5, o6, o7⟩ := ho
  refine ta_take2 (by omega) (by omega) (by omega) (by omega) g0 g1 g2 g3 g4 (fun h => ?_) (fun h => ?_)
  · exact H 2 _ _ (by rw [if_neg (by omega)]) (by omega) (ta_P2 (p := p) (q := q) (u := u) (v := v) rfl rfl rfl rfl (by omega) h (by omega) (by omega))
  · exact H 1 _ _ (by rw [if_pos h]) (by omega) (ta_P1' (p := p) (q := q) (u := u) (v := v) rfl rfl (by omega) h (by omega) (by omega) (by omega) (by omega))
theorem ta_takeS {post : St2 → Prop} {p0 : Int32} {s e : Nat} (e0 : p0 = nI 1) (h : s ≤ e) (he : e ≤ 64) (hg : ta_G1 s e a1 a2 a3)
    (H : ∀ x y, ta_P 1 x y (fun j => ta_m s e j) → post (nI 1, fo, fh, fb, a1, a2, a3, a4, a5, a6, a7, a8, a9, x, y, a12, a13, a14)) : wpX_takeRuns post (fr, fo, fh, fb, a1, a2, a3, a4, a5, a6, a7, a8, a9, a10, a11, a12, a13, a14) p0 := by
  obtain ⟨g0, g1, g2⟩ := hg
  exact ta_take1 (t := 1) e0 (by omega) g0 g1 g2 (H _ _ (ta_P1 rfl rfl h he))
theorem ta_keep {post : St2 → Prop} {k : Nat} (hk : k ≤ 32) (H : ∀ x y, (∀ i, i < k → x i = a10 i ∧ y i = a11 i) → post (nI k, nI k, fh, fb, a1, a2, a3, a4, a5, a6, a7, a8, a9, a10, a11, x, y, a14)) : wpX_keepOthers post (nI k, fo, fh, fb, a1, a2, a3, a4, a5, a6, a7, a8, a9, a10, a11, a12, a13, a14) := by
  refine pk_loop (σ := (Nat → Int32) × (Nat → Int32)) (fun n i s => wX_keepOthers_10 post (nI k) (nI k) fh fb n (nI i) a1 a2 a3 a4 a5 a6 a7 a8 a9 a10 a11 s.1 s.2 a14) (fun i s => (∀ j, j < i → s.1 j = a10 j) ∧ (∀ j, j < i → s.2 j = a11 j)) k 0 (a12, a13) (by omega) ⟨fun j hj => absurd hj (by omega), fun j hj => absurd hj (by omega)⟩ ?_ ?_
  · intro n s hs
    exact pk_le k k (fun _ => H s.1 s.2 (fun i hi => ⟨hs.1 i hi, hs.2 i hi⟩)) (fun g => absurd g (by omega))
  · intro n i s hik hs hw
    refine pk_le k i (fun g => absurd g (by omega)) (fun _ => ⟨pk_in i 32 (by omega), pk_in i 32 (by omega), nm_e ⟨pk_in i 32 (by omega), pk_in i 32 (by omega), nm_e (nm_r (nI_1 i) (hw (upd s.1 (nI i).toNatClampNeg (a10 (nI i).toNatClampNeg), upd s.2 (nI i).toNatClampNeg (a11 (nI i).toNatClampNeg)) ⟨?_, ?_⟩))⟩⟩)
    · exact ta_fill (by rw [nI_clamp (by omega)]) (by omega) hs.1
    · exact ta_fill (by rw [nI_clamp (by omega)]) (by omega) hs.2
/-- one place of a copy to track t -/
theorem ta_cp {z f g : Nat → Int32} {t i : Nat} (hi : 32 * t + i < 2 ^ 31) (h1 : ∀ j, j < i → z (32 * t + j) = g j) (h2 : ∀ j, j < 32 * t ∨ 32 * t + 32 ≤ j → z j = f j) (hi2 : i < 32) :
    (∀ j, j < i + 1 → upd z ((32 : Int32) * nI t + nI i).toNatClampNeg (g (nI i).toNatClampNeg) (32 * t + j) = g j) ∧ (∀ j, j < 32 * t ∨ 32 * t + 32 ≤ j → upd z ((32 : Int32) * nI t + nI i).toNatClampNeg (g (nI i).toNatClampNeg) j = f j) := by
  rw [ta_ix, nI_clamp hi, nI_clamp (by omega)]
  constructor
  · intro j hj
    by_cases c : j = i
    · rw [c, pk_us]
    · rw [pk_un (by omega)]
      exact h1 j (by omega)
  · intro j hj
    rw [pk_un (by omega)]
    exact h2 j hj
theorem ta_store {post : St2 → Prop} {p0 : Int32} {t k : Nat} (e0 : p0 = nI t) (ht : t < 3) (hk : k ≤ 32)
    (H : ∀ x y, (∀ i, i < k → x (32 * t + i) = a10 i ∧ y (32 * t + i) = a11 i) → (∀ j, j < 32 * t ∨ 32 * t + 32 ≤ j → x j = a1 j ∧ y j = a2 j) → post (nI k, fo, fh, -1, x, y, upd a3 t (nI k), a4, a5, a6, a7, a8, a9, a10, a11, a12, a13, a14)) : wpX_storeRuns post (nI k, fo, fh, fb, a1, a2, a3, a4, a5, a6, a7, a8, a9, a10, a11, a12, a13, a14) p0 := by
  subst e0
  refine ⟨pk_in t 3 ht, nm_r (e' := upd a3 t (nI k)) (by rw [nI_clamp (by omega)]) ?_⟩
  refine pk_loop (σ := (Nat → Int32) × (Nat → Int32)) (fun n i s => wX_storeRuns_12 post (nI t) (nI k) fo fh fb n (nI i) s.1 s.2 (upd a3 t (nI k)) a4 a5 a6 a7 a8 a9 a10 a11 a12 a13 a14) (fun i s => ((∀ j, j < i → s.1 (32 * t + j) = a10 j) ∧ (∀ j, j < 32 * t ∨ 32 * t + 32 ≤ j → s.1 j = a1 j)) ∧ ((∀ j, j < i → s.2 (32 * t + j) = a11 j) ∧ (∀ j, j < 32 * t ∨ 32 * t + 32 ≤ j → s.2 j = a2 j))) k 0 (a1, a2) (by omega) ⟨⟨fun j hj => absurd hj (by omega), fun j _ => rfl⟩, ⟨fun j hj => absurd hj (by omega), fun j _ => rfl⟩⟩ ?_ ?_
  · intro n s hs
    exact pk_le k k (fun _ => H s.1 s.2 (fun i hi => ⟨hs.1.1 i hi, hs.2.1 i hi⟩) (fun j hj => ⟨hs.1.2 j hj, hs.2.2 j hj⟩)) (fun g => absurd g (by omega))
  · intro n i s hik hs hw
    refine pk_le k i (fun g => absurd g (by omega)) (fun _ => ⟨pk_in i 32 (by omega), pk_in (32 * t + i) 96 (by omega) (ta_ix t i), nm_e ⟨pk_in i 32 (by omega), pk_in (32 * t + i) 96 (by omega) (ta_ix t i), nm_e (nm_r (nI_1 i) (hw (upd s.1 ((32 : Int32) * nI t + nI i).toNatClampNeg (a10 (nI i).toNatClampNeg), upd s.2 ((32 : Int32) * nI t + nI i).toNatClampNeg (a11 (nI i).toNatClampNeg)) ⟨?_, ?_⟩))⟩⟩)
    · exact ta_cp (by omega) hs.1.1 hs.1.2 (by omega)
    · exact ta_cp (by omega) hs.2.1 hs.2.2 (by omega)
theorem ta_s40 {post : Int32 → St2 → Prop} {k : Nat} {S E : Nat → Nat} (hk : k ≤ 32) (hr : ∀ i, i < k → a10 i = nI (S i) ∧ a11 i = nI (E i) ∧ S i ≤ 64 ∧ E i ≤ 64)
    (H : post (ta_i (ta_sum S E k)) (nI k, fo, fh, fb, a1, a2, a3, a4, a5, a6, a7, a8, a9, a10, a11, a12, a13, a14)) : ∃ n, wX_shared_40 post (nI k) fo fh fb a1 a2 a3 a4 a5 a6 a7 a8 a9 a10 a11 a12 a13 a14 n 0 0 := by
  refine pk_loop (σ := Unit) (fun n i _ => wX_shared_40 post (nI k) fo fh fb a1 a2 a3 a4 a5 a6 a7 a8 a9 a10 a11 a12 a13 a14 n (ta_i (ta_sum S E i)) (nI i)) (fun _ _ => True) k 0 () (by omega) trivial ?_ ?_
  · intro n _ _
    exact pk_le k k (fun _ => H) (fun g => absurd g (by omega))
  · intro n i _ hik _ hw
    obtain ⟨b1, b2, b3, b4⟩ := hr i hik
    have c1 : a10 (nI i).toNatClampNeg = nI (S i) := ta_at i b1
    have c2 : a11 (nI i).toNatClampNeg = nI (E i) := ta_at i b2
    refine pk_le k i (fun g => absurd g (by omega)) (fun _ => ⟨pk_in i 32 (by omega), pk_in i 32 (by omega), nm_r (e' := ta_i (ta_sum S E (i + 1))) ?_ (nm_r (nI_1 i) (hw () trivial))⟩)
    rw [c1, c2, ← ta_i_n, ← ta_i_n, ta_i_sub, ta_i_add, ta_sum_s]
theorem ta_shared {post : Int32 → St2 → Prop} {p0 p1 : Int32} {p q u v s e : Nat} (e0 : p0 = nI 0) (e1 : p1 = nI 1) (ho : ta_O p q u v s e) (hg : ta_G p q u v a1 a2 a3) (hg1 : ta_G1 s e a1 a2 a3)
    (H : ∀ f1 f2 x10 x11 x12 x13 x14, post (nI (ta_cw (ta_w false (fun j => ta_m p q j || ta_m u v j) (fun j => ta_m s e j)) 64)) (f1, f2, fh, fb, a1, a2, a3, a4, a5, a6, a7, a8, a9, x10, x11, x12, x13, x14)) : wpX_shared post (fr, fo, fh, fb, a1, a2, a3, a4, a5, a6, a7, a8, a9, a10, a11, a12, a13, a14) p0 p1 := by
  subst e0 e1
  unfold wpX_shared
  have o3 : s < e := ho.2.2.1
  have o6 : e < 64 := ho.2.2.2.2.2.1
  refine ta_isT (t := 0) rfl (by omega) (br_f (by decide) (ta_isT (t := 1) rfl (by omega) (br_f (by decide) ?_)))
  refine ta_takeS (s := s) (e := e) rfl (by omega) (by omega) hg1 (fun x10 x11 hP => ?_)
  refine ta_keep (k := 1) (by omega) (fun x12 x13 hx => ?_)
  refine ta_take0 rfl ho hg (fun k y10 y11 _ hk hP2 => ?_)
  refine ta_walk (k := k) (m := 1) (k3 := false) rfl hk (by omega) hP2 (ta_P_eq hP hx) (fun K z10 z11 z14 hK _ hP3 => ?_)
  obtain ⟨S, E, r1, r2⟩ := hP3
  refine ta_s40 hK r1 ?_
  rw [← ta_SC_sum (n := 64) (fun i hi => ⟨(r1 i hi).2.2.1, (r1 i hi).2.2.2⟩), ta_SC_w r2 64 (Nat.le_refl 64), ta_i_n]
  exact H _ _ _ _ _ _ _
theorem ta_join {post : Int32 → St2 → Prop} {p0 p1 p2 : Int32} {p q u v s e : Nat} (e0 : p0 = 3) (e1 : p1 = nI 1) (e2 : p2 = nI 0) (ho : ta_O p q u v s e) (hg : ta_G p q u v a1 a2 a3) (hg1 : ta_G1 s e a1 a2 a3)
    (H : ∀ K S E f2 x1 x2 x3 x10 x11 x12 x13 x14, K ≤ 32 → K = ta_rs (ta_w true (fun j => ta_m s e j) (fun j => ta_m p q j || ta_m u v j)) 65 → ta_tr x1 x2 x3 1 K S E → (∀ j, j < 64 → ta_C S E K (j + 1) = ((ta_w true (fun j => ta_m s e j) (fun j => ta_m p q j || ta_m u v j) j).toNat : Int)) → ta_G p q u v x1 x2 x3 →
      post (nI K) (nI K, f2, fh, -1, x1, x2, x3, a4, a5, a6, a7, a8, a9, x10, x11, x12, x13, x14)) : wpX_join post (fr, fo, fh, fb, a1, a2, a3, a4, a5, a6, a7, a8, a9, a10, a11, a12, a13, a14) p0 p1 p2 := by
  subst e0 e1 e2
  unfold wpX_join
  have o3 : s < e := ho.2.2.1
  have o6 : e < 64 := ho.2.2.2.2.2.1
  refine br_f (by decide) (br_t (by decide) (ta_isT (t := 1) rfl (by omega) (br_f (by decide) (ta_isT (t := 0) rfl (by omega) (br_f (by decide) ?_)))))
  refine ta_take0 rfl ho hg (fun k y10 y11 _ hk hP2 => ?_)
  refine ta_keep (k := k) hk (fun x12 x13 hx => ?_)
  refine ta_takeS (s := s) (e := e) rfl (by omega) (by omega) hg1 (fun x10 x11 hP => ?_)
  refine ta_walk (k := 1) (m := k) (k3 := true) rfl (by omega) hk hP (ta_P_eq hP2 hx) (fun K z10 z11 z14 hK hr hP3 => ?_)
  obtain ⟨S, E, r1, r2⟩ := hP3
  refine ta_store (t := 1) (k := K) rfl (by omega) hK (fun x1 x2 s1 s2 => ⟨pk_in 1 3 (by omega), ?_⟩)
  obtain ⟨g0, g1, g2, g3, g4⟩ := hg
  refine H K S E _ x1 x2 (upd a3 1 (nI K)) _ _ _ _ _ hK hr ⟨rfl, fun i hi => ?_⟩ r2 ⟨?_, ?_, ?_, ?_, ?_⟩
  · rw [(s1 i hi).1, (s1 i hi).2]
    exact r1 i hi
  · rw [pk_un (by omega)]; exact g0
  · rw [(s2 0 (by omega)).1]; exact g1
  · rw [(s2 0 (by omega)).2]; exact g2
  · rw [(s2 1 (by omega)).1]; exact g3
  · rw [(s2 1 (by omega)).2]; exact g4
theorem ta_merge {post : Int32 → St2 → Prop} {p0 : Int32} {p q u v s e : Nat} (e0 : p0 = nI 0) (ho : ta_O p q u v s e) (hg : ta_G p q u v a1 a2 a3)
    (H : ∀ x1 x2 x3 x10 x11, x3 0 = nI (if u ≤ q then 1 else 2) → post (nI (if u ≤ q then 1 else 2)) (nI (if u ≤ q then 1 else 2), fo, fh, -1, x1, x2, x3, a4, a5, a6, a7, a8, a9, x10, x11, a12, a13, a14)) : wpX_merge post (fr, fo, fh, fb, a1, a2, a3, a4, a5, a6, a7, a8, a9, a10, a11, a12, a13, a14) p0 := by
  subst e0
  unfold wpX_merge
  refine ta_isT (t := 0) rfl (by omega) (br_f (by decide) ?_)
  refine ta_take0 rfl ho hg (fun k y10 y11 ek hk hP => ?_)
  refine ta_store (t := 0) (k := k) rfl (by omega) hk (fun x1 x2 s1 s2 => ?_)
  subst ek
  exact H _ _ _ _ _ rfl
theorem ta_size {post : Int32 → Prop} {p0 : Int32} {t : Nat} (e0 : p0 = nI t) (ht : t < 3) (H : post (a3 t)) : wpX_size post (fr, fo, fh, fb, a1, a2, a3, a4, a5, a6, a7, a8, a9, a10, a11, a12, a13, a14) p0 := by
  subst e0
  unfold wpX_size
  refine ta_isT rfl ht (br_f (by decide) ⟨pk_in t 3 ht, ?_⟩)
  rw [nI_clamp (by omega)]
  exact H
end
end
section
section
variable {fr fo fh fb : Int32} {a1 a2 a3 a4 a5 a6 a7 a8 a9 a10 a11 a12 a13 a14 : Nat → Int32}
theorem ta_g_b {a b s e : Nat} (ha : a < 64) (hs : s < 64) : ta_g a b s e < 64 := by
  unfold ta_g
  split
  · omega
  · split <;> omega
theorem ta_gap {post : Int32 → Prop} {x0 x1 x2 : Int32} {n S E s e : Nat} (e0 : x0 = nI n) (e1 : x1 = nI s) (e2 : x2 = nI e) (hn : n < 96) (h1 : a1 n = nI S) (h2 : a2 n = nI E) (hS : S < 65) (hE : E < 65) (hs : s < 65) (he : e < 65)
    (H : post (nI (ta_g S E s e))) : wpX_gap post (fr, fo, fh, fb, a1, a2, a3, a4, a5, a6, a7, a8, a9, a10, a11, a12, a13, a14) x0 x1 x2 := by
  subst e0 e1 e2
  have c1 : a1 (nI n).toNatClampNeg = nI S := ta_at n h1
  have c2 : a2 (nI n).toNatClampNeg = nI E := ta_at n h2
  refine ⟨pk_in n 96 hn, pk_lt s E (fun g => ⟨pk_in n 96 hn, pk_lt S e (fun g2 => ?_) (fun g2 => ⟨pk_in n 96 hn, ?_⟩) c1⟩) (fun g => ⟨pk_in n 96 hn, ?_⟩) rfl c2⟩
  · rw [ta_g3 (by omega) (by omega)] at H
    exact H
  · rw [ta_g2 (by omega) (by omega)] at H
    rw [c1, pk_sub g2]
    exact H
  · rw [ta_g1 g] at H
    rw [c2, pk_sub g]
    exact H
theorem ta_n7 {post : Int32 → Prop} {x2 x3 : Int32} {n m i k S E s e : Nat} (e2 : x2 = nI s) (e3 : x3 = nI e) (hz : a3 0 = nI k) (hi : i < k) (hk : k ≤ 32) (h1 : a1 i = nI S) (h2 : a2 i = nI E) (hS : S < 64) (hE : E < 65) (hs : s < 64) (he : e < 65) (hm : m ≤ 64)
    (H : wX_nearest_7 post (nI 0) x2 x3 fr fo fh fb a1 a2 a3 a4 a5 a6 a7 a8 a9 a10 a11 a12 a13 a14 n (nI (min m (ta_g S E s e))) (nI (i + 1))) : wX_nearest_7 post (nI 0) x2 x3 fr fo fh fb a1 a2 a3 a4 a5 a6 a7 a8 a9 a10 a11 a12 a13 a14 (n + 1) (nI m) (nI i) := by
  have hb := ta_g_b (a := S) (b := E) (s := s) (e := e) hS hs
  refine ⟨pk_in 0 3 (by omega), pk_le k i (fun g => absurd g (by omega)) (fun _ => ?_) hz⟩
  refine ta_gap (n := i) (by rw [ta_ix, Nat.mul_zero, Nat.zero_add]) e2 e3 (by omega) h1 h2 (by omega) hE (by omega) he ?_
  refine pk_le m (ta_g S E s e) (fun g => nm_r (nI_1 i) ?_) (fun g => nm_r (nI_1 i) ?_)
  · rw [Nat.min_eq_left g] at H
    exact H
  · rw [Nat.min_eq_right (by omega)] at H
    exact H
theorem ta_nearest {post : Int32 → Prop} {x0 x1 x2 : Int32} {p q u v s e : Nat} (e0 : x0 = nI 0) (e1 : x1 = nI s) (e2 : x2 = nI e) (ho : ta_O p q u v s e) (hg : ta_G p q u v a1 a2 a3)
    (H : post (nI (min (ta_g p q s e) (ta_g u v s e)))) : wpX_nearest post (fr, fo, fh, fb, a1, a2, a3, a4, a5, a6, a7, a8, a9, a10, a11, a12, a13, a14) x0 x1 x2 := by
  subst e0
  obtain ⟨g0, g1, g2, g3, g4⟩ := hg
  obtain ⟨o1, o2, o3, o4, o5, o6, o7⟩ := ho
  have b1 := ta_g_b (a := p) (b := q) (s := s) (e := e) (by omega) (by omega)
  refine ⟨3, ?_⟩
  refine ta_n7 (m := 64) (i := 0) (k := 2) e1 e2 g0 (by omega) (by omega) g1 g2 (by omega) (by omega) (by omega) (by omega) (by omega) ?_
  rw [Nat.min_eq_right (by omega)]
  refine ta_n7 (i := 1) (k := 2) e1 e2 g0 (by omega) (by omega) g3 g4 (by omega) (by omega) (by omega) (by omega) (by omega) ?_
  exact ⟨pk_in 0 3 (by omega), pk_le 2 2 (fun _ => H) (fun g => absurd g (by omega)) g0⟩
theorem ta_nref {post : Int32 → Prop} {x0 x1 : Int32} {s e : Nat} (e0 : x0 = nI 0) (e1 : x1 = nI (65 * s + e)) (hs : s < e) (he : e < 65) (hz : a3 0 = nI 2) (H : post 0) : wpX_nearRefusal post (fr, fo, fh, fb, a1, a2, a3, a4, a5, a6, a7, a8, a9, a10, a11, a12, a13, a14) x0 x1 := by
  subst e0
  unfold wpX_nearRefusal
  refine ta_isT (t := 0) rfl (by omega) (br_f (by decide) (ta_isS e1 hs he (br_f (by decide) ⟨pk_in 0 3 (by omega), ?_⟩)))
  exact pk_eq 2 0 (fun z => absurd z (by omega)) (fun _ => H) hz
theorem ta_closest {post : Int32 → Prop} {x0 x1 : Int32} {p q u v s e : Nat} (e0 : x0 = nI 0) (e1 : x1 = nI (65 * s + e)) (ho : ta_O p q u v s e) (hg : ta_G p q u v a1 a2 a3)
    (H : post (nI (if ta_g p q s e ≤ ta_g u v s e then 0 else 1))) : wpX_closest post (fr, fo, fh, fb, a1, a2, a3, a4, a5, a6, a7, a8, a9, a10, a11, a12, a13, a14) x0 x1 := by
  subst e0 e1
  have hg' := hg
  have ho' := ho
  obtain ⟨g0, g1, g2, g3, g4⟩ := hg
  obtain ⟨o1, o2, o3, o4, o5, o6, o7⟩ := ho
  have b1 := ta_g_b (a := p) (b := q) (s := s) (e := e) (by omega) (by omega)
  have b2 := ta_g_b (a := u) (b := v) (s := s) (e := e) (by omega) (by omega)
  unfold wpX_closest
  refine ta_nref (s := s) (e := e) rfl rfl o3 (by omega) g0 (br_t (by decide) ⟨by decide, nm_r (ta_div (by omega) (by omega)) ⟨by decide, nm_r (ta_mod (by omega) (by omega)) ?_⟩⟩)
  refine ta_nearest rfl rfl rfl ho' hg' ⟨3, ?_⟩
  refine ⟨pk_in 0 3 (by omega), pk_le 2 0 (fun g => absurd g (by omega)) (fun _ => ?_) g0⟩
  refine ta_gap (n := 0) rfl rfl rfl (by omega) g1 g2 (by omega) (by omega) (by omega) (by omega) ?_
  refine pk_eq (ta_g p q s e) (min (ta_g p q s e) (ta_g u v s e)) (fun g => ?_) (fun g => nm_r (e' := nI 1) rfl ?_) rfl rfl (by omega) (by omega)
  · rw [if_pos (by omega)] at H
    exact H
  · refine ⟨pk_in 0 3 (by omega), pk_le 2 1 (fun g => absurd g (by omega)) (fun _ => ?_) g0⟩
    refine ta_gap (n := 1) rfl rfl rfl (by omega) g3 g4 (by omega) (by omega) (by omega) (by omega) ?_
    refine pk_eq (ta_g u v s e) (min (ta_g p q s e) (ta_g u v s e)) (fun g2 => ?_) (fun g2 => absurd g2 (by omega)) rfl rfl (by omega) (by omega)
    rw [if_neg (by omega)] at H
    exact H
theorem ta_distance {post : Int32 → Prop} {x0 x1 : Int32} {p q u v s e : Nat} (e0 : x0 = nI 0) (e1 : x1 = nI (65 * s + e)) (ho : ta_O p q u v s e) (hg : ta_G p q u v a1 a2 a3)
    (H : post (nI (min (ta_g p q s e) (ta_g u v s e)))) : wpX_distance post (fr, fo, fh, fb, a1, a2, a3, a4, a5, a6, a7, a8, a9, a10, a11, a12, a13, a14) x0 x1 := by
  subst e0 e1
  have o3 : s < e := ho.2.2.1
  have o6 : e < 64 := ho.2.2.2.2.2.1
  unfold wpX_distance
  refine ta_nref (s := s) (e := e) rfl rfl o3 (by omega) hg.1 (br_t (by decide) ⟨by decide, by decide, ?_⟩)
  exact ta_nearest rfl (ta_div (by omega) (by omega)) (ta_mod (by omega) (by omega)) ho hg H
theorem ta_stretch {post : Int32 → Prop} {x0 x1 : Int32} {p q u v : Nat} (e0 : x0 = nI 0) (e1 : x1 = nI 0) (hg : ta_G p q u v a1 a2 a3) (H : post (nI (65 * p + q))) : wpX_stretch post (fr, fo, fh, fb, a1, a2, a3, a4, a5, a6, a7, a8, a9, a10, a11, a12, a13, a14) x0 x1 := by
  subst e0 e1
  obtain ⟨g0, g1, g2, g3, g4⟩ := hg
  unfold wpX_stretch
  refine ta_isT (t := 0) rfl (by omega) (br_f (by decide) (br_f (by decide) ⟨pk_in 0 3 (by omega), ?_⟩))
  refine pk_le 2 0 (fun g => absurd g (by omega)) (fun _ => ⟨pk_in 0 96 (by omega), pk_in 0 96 (by omega), ?_⟩) g0
  show post (65 * a1 0 + a2 0)
  rw [g1, g2, show (65 : Int32) * nI p = nI (65 * p) from pk_mul 65 p, nI_add]
  exact H
end
end
section
section
variable {fr fo fh fb : Int32} {a1 a2 a3 a4 a5 a6 a7 a8 a9 a10 a11 a12 a13 a14 : Nat → Int32}
/-- the lists of track 0, of track 1 -/
def ta_L2 (q v : Nat) (x5 x6 x7 : Nat → Int32) : Prop := x5 0 = nI 0 ∧ x5 1 = nI 1 ∧ x6 0 = nI 0 ∧ x7 2 = nI 0 ∧ (v ≤ q → x7 0 = nI 1 ∧ x6 1 = nI 1 ∧ x7 1 = nI 1) ∧ (q < v → x7 0 = nI 2 ∧ x7 1 = nI 0)
def ta_L1 (x5 x6 x7 : Nat → Int32) : Prop := x5 0 = nI 0 ∧ x6 0 = nI 0 ∧ x7 0 = nI 1 ∧ x7 1 = nI 0
theorem ta_l2n {post : St2 → Prop} {q v : Nat} (c : v ≤ q) (hz : a3 0 = nI 2) (h40 : a4 0 = -1) (h41 : a4 1 = nI 0)
    (H : ∀ z5 z6 z7, ta_L2 q v z5 z6 z7 → post (fr, fo, fh, fb, a1, a2, a3, a4, z5, z6, z7, a8, a9, a10, a11, a12, a13, a14)) : ∃ n, wX_build_113 post (nI 0) fr fo fh fb n 0 (-1) a1 a2 a3 a4 a5 a6 a7 a8 a9 a10 a11 a12 a13 a14 := by
  have n1 : ¬ a3 (nI 0).toNatClampNeg ≤ (-1 : Int32) := by
    show ¬ a3 0 ≤ (-1 : Int32)
    rw [hz]
    decide
  have m0_n : a4 (nI 0).toNatClampNeg = (-1 : Int32) := h40
  have m1_n : ¬ a4 (nI 1).toNatClampNeg = (-1 : Int32) := by
    show ¬ a4 1 = (-1 : Int32)
    rw [h41]
    decide
  have m1_0 : a4 (nI 1).toNatClampNeg = nI 0 := h41
  refine ⟨4, ?_⟩
  refine ⟨pk_in 0 3 (by omega), br_f n1 ⟨pk_in 0 33 (by omega), nm_r (e' := (upd a6 0 (nI 0))) rfl (nm_r (e' := nI 0) rfl ⟨3, ?_⟩)⟩⟩
  refine ⟨pk_in 0 3 (by omega), pk_le 2 0 (fun g => absurd g (by omega)) (fun _ => ⟨pk_in 0 32 (by omega), br_t m0_n ⟨pk_in 0 32 (by omega), nm_r (e' := (upd a5 0 (nI 0))) rfl (nm_r (e' := nI 1) rfl (nm_r (e' := nI 1) rfl ?_))⟩⟩) hz⟩
  refine ⟨pk_in 0 3 (by omega), pk_le 2 1 (fun g => absurd g (by omega)) (fun _ => ⟨pk_in 1 32 (by omega), br_f m1_n (nm_r (e' := nI 2) rfl ?_)⟩) hz⟩
  refine ⟨pk_in 0 3 (by omega), pk_le 2 2 (fun _ => ⟨pk_in 0 33 (by omega), pk_in 0 33 (by omega), nm_r (e' := (upd a7 0 (nI 1))) (by rw [show ((-1 : Int32) + 1).toNatClampNeg = 0 from rfl, pk_us]; rfl) (nm_r (e' := nI 0) rfl ?_)⟩) (fun g => absurd g (by omega)) hz⟩
  refine ⟨pk_in 0 3 (by omega), pk_le 2 0 (fun g => absurd g (by omega)) (fun _ => ⟨pk_in 1 33 (by omega), nm_r (e' := (upd (upd a6 0 (nI 0)) 1 (nI 1))) rfl (nm_r (e' := nI 1) rfl ⟨2, ?_⟩)⟩) hz⟩
  refine ⟨pk_in 0 3 (by omega), pk_le 2 1 (fun g => absurd g (by omega)) (fun _ => ⟨pk_in 1 32 (by omega), br_t m1_0 ⟨pk_in 1 32 (by omega), nm_r (e' := (upd (upd a5 0 (nI 0)) 1 (nI 1))) rfl (nm_r (e' := nI 2) rfl (nm_r (e' := nI 2) rfl ?_))⟩⟩) hz⟩
  refine ⟨pk_in 0 3 (by omega), pk_le 2 2 (fun _ => ⟨pk_in 1 33 (by omega), pk_in 1 33 (by omega), nm_r (e' := (upd (upd a7 0 (nI 1)) 1 (nI 1))) (by rw [show (nI 0 + 1).toNatClampNeg = 1 from rfl, pk_us]; rfl) (nm_r (e' := nI 1) rfl ?_)⟩) (fun g => absurd g (by omega)) hz⟩
  refine ⟨pk_in 0 3 (by omega), pk_le 2 1 (fun g => absurd g (by omega)) (fun _ => ⟨pk_in 2 33 (by omega), nm_r (e' := (upd (upd (upd a6 0 (nI 0)) 1 (nI 1)) 2 (nI 2))) rfl (nm_r (e' := nI 2) rfl ⟨1, ?_⟩)⟩) hz⟩
  refine ⟨pk_in 0 3 (by omega), pk_le 2 2 (fun _ => ⟨pk_in 2 33 (by omega), pk_in 2 33 (by omega), nm_r (e' := (upd (upd (upd a7 0 (nI 1)) 1 (nI 1)) 2 (nI 0))) (by rw [show (nI 1 + 1).toNatClampNeg = 2 from rfl, pk_us]; rfl) (nm_r (e' := nI 2) rfl ?_)⟩) (fun g => absurd g (by omega)) hz⟩
  exact ⟨pk_in 0 3 (by omega), pk_le 2 2 (fun _ => H _ _ _ ⟨rfl, rfl, rfl, rfl, fun _ => ⟨rfl, rfl, rfl⟩, fun g => absurd g (by omega)⟩) (fun g => absurd g (by omega)) hz⟩
theorem ta_l2s {post : St2 → Prop} {q v : Nat} (c : q < v) (hz : a3 0 = nI 2) (h40 : a4 0 = -1) (h41 : a4 1 = -1)
    (H : ∀ z5 z6 z7, ta_L2 q v z5 z6 z7 → post (fr, fo, fh, fb, a1, a2, a3, a4, z5, z6, z7, a8, a9, a10, a11, a12, a13, a14)) : ∃ n, wX_build_113 post (nI 0) fr fo fh fb n 0 (-1) a1 a2 a3 a4 a5 a6 a7 a8 a9 a10 a11 a12 a13 a14 := by
  have n1 : ¬ a3 (nI 0).toNatClampNeg ≤ (-1 : Int32) := by
    show ¬ a3 0 ≤ (-1 : Int32)
    rw [hz]
    decide
  have m0_n : a4 (nI 0).toNatClampNeg = (-1 : Int32) := h40
  have m1_n : a4 (nI 1).toNatClampNeg = (-1 : Int32) := h41
  have m1_0 : ¬ a4 (nI 1).toNatClampNeg = nI 0 := by
    show ¬ a4 1 = nI 0
    rw [h41]
    decide
  refine ⟨4, ?_⟩
  refine ⟨pk_in 0 3 (by omega), br_f n1 ⟨pk_in 0 33 (by omega), nm_r (e' := (upd a6 0 (nI 0))) rfl (nm_r (e' := nI 0) rfl ⟨3, ?_⟩)⟩⟩
  refine ⟨pk_in 0 3 (by omega), pk_le 2 0 (fun g => absurd g (by omega)) (fun _ => ⟨pk_in 0 32 (by omega), br_t m0_n ⟨pk_in 0 32 (by omega), nm_r (e' := (upd a5 0 (nI 0))) rfl (nm_r (e' := nI 1) rfl (nm_r (e' := nI 1) rfl ?_))⟩⟩) hz⟩
  refine ⟨pk_in 0 3 (by omega), pk_le 2 1 (fun g => absurd g (by omega)) (fun _ => ⟨pk_in 1 32 (by omega), br_t m1_n ⟨pk_in 1 32 (by omega), nm_r (e' := (upd (upd a5 0 (nI 0)) 1 (nI 1))) rfl (nm_r (e' := nI 2) rfl (nm_r (e' := nI 2) rfl ?_))⟩⟩) hz⟩
  refine ⟨pk_in 0 3 (by omega), pk_le 2 2 (fun _ => ⟨pk_in 0 33 (by omega), pk_in 0 33 (by omega), nm_r (e' := (upd a7 0 (nI 2))) (by rw [show ((-1 : Int32) + 1).toNatClampNeg = 0 from rfl, pk_us]; rfl) (nm_r (e' := nI 0) rfl ?_)⟩) (fun g => absurd g (by omega)) hz⟩
  refine ⟨pk_in 0 3 (by omega), pk_le 2 0 (fun g => absurd g (by omega)) (fun _ => ⟨pk_in 1 33 (by omega), nm_r (e' := (upd (upd a6 0 (nI 0)) 1 (nI 2))) rfl (nm_r (e' := nI 1) rfl ⟨2, ?_⟩)⟩) hz⟩
  refine ⟨pk_in 0 3 (by omega), pk_le 2 1 (fun g => absurd g (by omega)) (fun _ => ⟨pk_in 1 32 (by omega), br_f m1_0 (nm_r (e' := nI 2) rfl ?_)⟩) hz⟩
  refine ⟨pk_in 0 3 (by omega), pk_le 2 2 (fun _ => ⟨pk_in 1 33 (by omega), pk_in 1 33 (by omega), nm_r (e' := (upd (upd a7 0 (nI 2)) 1 (nI 0))) (by rw [show (nI 0 + 1).toNatClampNeg = 1 from rfl, pk_us]; rfl) (nm_r (e' := nI 1) rfl ?_)⟩) (fun g => absurd g (by omega)) hz⟩
  refine ⟨pk_in 0 3 (by omega), pk_le 2 1 (fun g => absurd g (by omega)) (fun _ => ⟨pk_in 2 33 (by omega), nm_r (e' := (upd (upd (upd a6 0 (nI 0)) 1 (nI 2)) 2 (nI 2))) rfl (nm_r (e' := nI 2) rfl ⟨1, ?_⟩)⟩) hz⟩
  refine ⟨pk_in 0 3 (by omega), pk_le 2 2 (fun _ => ⟨pk_in 2 33 (by omega), pk_in 2 33 (by omega), nm_r (e' := (upd (upd (upd a7 0 (nI 2)) 1 (nI 0)) 2 (nI 0))) (by rw [show (nI 1 + 1).toNatClampNeg = 2 from rfl, pk_us]; rfl) (nm_r (e' := nI 2) rfl ?_)⟩) (fun g => absurd g (by omega)) hz⟩
  exact ⟨pk_in 0 3 (by omega), pk_le 2 2 (fun _ => H _ _ _ ⟨rfl, rfl, rfl, rfl, fun g => absurd g (by omega), fun _ => ⟨rfl, rfl⟩⟩) (fun g => absurd g (by omega)) hz⟩
theorem ta_l1 {post : St2 → Prop} (hz : a3 1 = nI 1) (h40 : a4 0 = -1)
    (H : ∀ z5 z6 z7, ta_L1 z5 z6 z7 → post (fr, fo, fh, fb, a1, a2, a3, a4, z5, z6, z7, a8, a9, a10, a11, a12, a13, a14)) : ∃ n, wX_build_113 post (nI 1) fr fo fh fb n 0 (-1) a1 a2 a3 a4 a5 a6 a7 a8 a9 a10 a11 a12 a13 a14 := by
  have n1 : ¬ a3 (nI 1).toNatClampNeg ≤ (-1 : Int32) := by
    show ¬ a3 1 ≤ (-1 : Int32)
    rw [hz]
    decide
  have m0_n : a4 (nI 0).toNatClampNeg = (-1 : Int32) := h40
  refine ⟨3, ?_⟩
  refine ⟨pk_in 1 3 (by omega), br_f n1 ⟨pk_in 0 33 (by omega), nm_r (e' := (upd a6 0 (nI 0))) rfl (nm_r (e' := nI 0) rfl ⟨2, ?_⟩)⟩⟩
  refine ⟨pk_in 1 3 (by omega), pk_le 1 0 (fun g => absurd g (by omega)) (fun _ => ⟨pk_in 0 32 (by omega), br_t m0_n ⟨pk_in 0 32 (by omega), nm_r (e' := (upd a5 0 (nI 0))) rfl (nm_r (e' := nI 1) rfl (nm_r (e' := nI 1) rfl ?_))⟩⟩) hz⟩
  refine ⟨pk_in 1 3 (by omega), pk_le 1 1 (fun _ => ⟨pk_in 0 33 (by omega), pk_in 0 33 (by omega), nm_r (e' := (upd a7 0 (nI 1))) (by rw [show ((-1 : Int32) + 1).toNatClampNeg = 0 from rfl, pk_us]; rfl) (nm_r (e' := nI 0) rfl ?_)⟩) (fun g => absurd g (by omega)) hz⟩
  refine ⟨pk_in 1 3 (by omega), pk_le 1 0 (fun g => absurd g (by omega)) (fun _ => ⟨pk_in 1 33 (by omega), nm_r (e' := (upd (upd a6 0 (nI 0)) 1 (nI 1))) rfl (nm_r (e' := nI 1) rfl ⟨1, ?_⟩)⟩) hz⟩
  refine ⟨pk_in 1 3 (by omega), pk_le 1 1 (fun _ => ⟨pk_in 1 33 (by omega), pk_in 1 33 (by omega), nm_r (e' := (upd (upd a7 0 (nI 1)) 1 (nI 0))) (by rw [show (nI 0 + 1).toNatClampNeg = 1 from rfl, pk_us]; rfl) (nm_r (e' := nI 1) rfl ?_)⟩) (fun g => absurd g (by omega)) hz⟩
  exact ⟨pk_in 1 3 (by omega), pk_le 1 1 (fun _ => H _ _ _ ⟨rfl, rfl, rfl, rfl⟩) (fun g => absurd g (by omega)) hz⟩
theorem ta_build1 {post : St2 → Prop} {p0 : Int32} (e0 : p0 = nI 1) (hz : a3 1 = nI 1) (hb : ¬ fb = nI 1)
    (H : ∀ z4 z5 z6 z7 z9, ta_L1 z5 z6 z7 → post (fr, fo, fh, nI 1, a1, a2, a3, z4, z5, z6, z7, a8, z9, a10, a11, a12, a13, a14)) : wpX_build post (fr, fo, fh, fb, a1, a2, a3, a4, a5, a6, a7, a8, a9, a10, a11, a12, a13, a14) p0 := by
  subst e0
  refine br_f hb ⟨2, ?_⟩
  refine ⟨pk_in 1 3 (by omega), pk_le 1 0 (fun g => absurd g (by omega)) (fun _ => ⟨1, pk_le 0 0 (fun _ => pk_le 0 0 (fun _ => ?_) (fun g => absurd g (by omega))) (fun g => absurd g (by omega))⟩) hz⟩
  refine ⟨pk_in 0 32 (by omega), nm_r (e' := upd a4 0 (-1)) rfl ⟨pk_in 0 40 (by omega), nm_r (e' := upd a9 0 (nI 0)) rfl (nm_r (e' := nI 1) rfl (nm_r (e' := nI 1) rfl ?_))⟩⟩
  refine ⟨pk_in 1 3 (by omega), pk_le 1 1 (fun _ => ?_) (fun g => absurd g (by omega)) hz⟩
  exact ta_l1 hz rfl (fun z5 z6 z7 h => H _ _ _ _ _ h)
theorem ta_build0 {post : St2 → Prop} {p0 : Int32} {q v : Nat} (e0 : p0 = nI 0) (hz : a3 0 = nI 2) (h2 : a2 0 = nI q) (h4 : a2 1 = nI v) (hq : q < 65) (hv : v < 65) (hb : ¬ fb = nI 0)
    (H : ∀ z4 z5 z6 z7 z9, ta_L2 q v z5 z6 z7 → post (fr, fo, fh, nI 0, a1, a2, a3, z4, z5, z6, z7, a8, z9, a10, a11, a12, a13, a14)) : wpX_build post (fr, fo, fh, fb, a1, a2, a3, a4, a5, a6, a7, a8, a9, a10, a11, a12, a13, a14) p0 := by
  subst e0
  refine br_f hb ⟨3, ?_⟩
  refine ⟨pk_in 0 3 (by omega), pk_le 2 0 (fun g => absurd g (by omega)) (fun _ => ⟨1, pk_le 0 0 (fun _ => pk_le 0 0 (fun _ => ?_) (fun g => absurd g (by omega))) (fun g => absurd g (by omega))⟩) hz⟩
  refine ⟨pk_in 0 32 (by omega), nm_r (e' := upd a4 0 (-1)) rfl ⟨pk_in 0 40 (by omega), nm_r (e' := upd a9 0 (nI 0)) rfl (nm_r (e' := nI 1) rfl (nm_r (e' := nI 1) rfl ?_))⟩⟩
  refine ⟨pk_in 0 3 (by omega), pk_le 2 1 (fun g => absurd g (by omega)) (fun _ => ?_) hz⟩
  rcases Nat.lt_or_ge q v with c | c
  · refine ⟨2, pk_le 1 0 (fun g => absurd g (by omega)) (fun _ => ⟨pk_in 0 40 (by omega), pk_in 0 96 (by omega), pk_in 1 96 (by omega), ?_⟩)⟩
    refine pk_le v q (fun g => absurd g (by omega)) (fun _ => nm_r (e' := nI 0) rfl ?_) h4 h2
    refine pk_le 0 0 (fun _ => pk_le 0 0 (fun _ => ?_) (fun g => absurd g (by omega))) (fun g => absurd g (by omega))
    refine ⟨pk_in 1 32 (by omega), nm_r (e' := upd (upd a4 0 (-1)) 1 (-1)) rfl ⟨pk_in 0 40 (by omega), nm_r (e' := upd (upd a9 0 (nI 0)) 0 (nI 1)) rfl (nm_r (e' := nI 1) rfl (nm_r (e' := nI 2) rfl ?_))⟩⟩
    refine ⟨pk_in 0 3 (by omega), pk_le 2 2 (fun _ => ?_) (fun g => absurd g (by omega)) hz⟩
    exact ta_l2s c hz rfl rfl (fun z5 z6 z7 h => H _ _ _ _ _ h)
  · refine ⟨1, pk_le 1 0 (fun g => absurd g (by omega)) (fun _ => ⟨pk_in 0 40 (by omega), pk_in 0 96 (by omega), pk_in 1 96 (by omega), ?_⟩)⟩
    refine pk_le v q (fun _ => ?_) (fun g => absurd g (by omega)) h4 h2
    refine pk_le 1 0 (fun g => absurd g (by omega)) (fun _ => ⟨pk_in 0 40 (by omega), ?_⟩)
    refine ⟨pk_in 1 32 (by omega), nm_r (e' := upd (upd a4 0 (-1)) 1 (nI 0)) rfl ⟨pk_in 1 40 (by omega), nm_r (e' := upd (upd a9 0 (nI 0)) 1 (nI 1)) rfl (nm_r (e' := nI 2) rfl (nm_r (e' := nI 2) rfl ?_))⟩⟩
    refine ⟨pk_in 0 3 (by omega), pk_le 2 2 (fun _ => ?_) (fun g => absurd g (by omega)) hz⟩
    exact ta_l2n c hz rfl rfl (fun z5 z6 z7 h => H _ _ _ _ _ h)
end
end
section
section
variable {fr fo fh fb : Int32} {a1 a2 a3 a4 a5 a6 a7 a8 a9 a10 a11 a12 a13 a14 : Nat → Int32}
theorem ta_ph {post : St2 → Prop} {x1 : Int32} {hc : Nat} (hh : hc < 32) (H : ∀ z, post (fr, fo, nI (hc + 1), fb, a1, a2, a3, a4, a5, a6, a7, z, a9, a10, a11, a12, a13, a14)) : wpX_putHit post (fr, fo, nI hc, fb, a1, a2, a3, a4, a5, a6, a7, a8, a9, a10, a11, a12, a13, a14) x1 := by
  refine ⟨hc + 1, pk_loopD (fun n i z => wX_putHit_5 post x1 fr fo (nI hc) fb n (nI i) a1 a2 a3 a4 a5 a6 a7 z a9 a10 a11 a12 a13 a14) (fun i _ => i ≤ hc) ?_ ?_ hc a8 (Nat.le_refl hc)⟩
  · intro n z _
    exact pk_le 0 0 (fun _ => ⟨pk_in 0 32 (by omega), nm_e (nm_r (nI_1 hc) (H _))⟩) (fun g => absurd g (by omega))
  · intro n i z hi hw
    refine pk_le (i + 1) 0 (fun g => absurd g (by omega)) (fun _ => ⟨pk_in i 32 (by omega) (nI_pred i), br_c (fun _ => ⟨pk_in (i + 1) 32 (by omega), nm_e (nm_r (nI_1 hc) (H _))⟩) (fun _ => ⟨pk_in i 32 (by omega) (nI_pred i), pk_in (i + 1) 32 (by omega), nm_e (nm_r (pk_m1 i) (hw _ (by omega)))⟩)⟩)
theorem ta_fb1 {post : Int32 → Prop} {p0 p1 p2 : Int32} {t g f x E s : Nat} (e0 : p0 = nI t) (e2 : p2 = nI s) (ht : t < 3) (hg : p1 + 1 = nI g) (hg2 : g < 33) (h6 : a6 g = nI f) (h7 : a7 g = nI 1) (hf : f < 32) (h5 : a5 f = nI x) (hx : x < 32) (h2 : a2 (32 * t + x) = nI E) (hE : E < 65) (hs : s < 65)
    (H1 : E ≤ s → post (nI (f + 1))) (H2 : s < E → post (nI f)) : wpX_firstBehind post (fr, fo, fh, fb, a1, a2, a3, a4, a5, a6, a7, a8, a9, a10, a11, a12, a13, a14) p0 p1 p2 := by
  subst e0 e2
  have c6 : a6 (p1 + 1).toNatClampNeg = nI f := ta_at g h6 hg
  have c7 : a7 (p1 + 1).toNatClampNeg = nI 1 := ta_at g h7 hg
  have c5 : a5 (nI f).toNatClampNeg = nI x := ta_at f h5
  have cx : (32 : Int32) * nI t + a5 (nI f).toNatClampNeg = nI (32 * t + x) := by rw [c5, ta_ix]
  have mid : (nI f + nI (f + 1)) >>> ((1 : Int32) &&& 31) = nI f := by
    rw [nI_add, pk_shrN (by omega) _ 1 (by decide), show (f + (f + 1)) / 2 ^ 1 = f by omega]
  refine ⟨pk_in g 33 hg2 hg, nm_r c6 ⟨pk_in g 33 hg2 hg, nm_r (e' := nI (f + 1)) (by rw [c7, nI_add]) ⟨2, ?_⟩⟩⟩
  refine pk_le 7 0 (fun g => absurd g (by omega)) (fun _ => pk_le (f + 1) f (fun g => absurd g (by omega)) (fun _ => nm_r mid ⟨pk_in f 32 hf, pk_in (32 * t + x) 96 (by omega) cx, ?_⟩))
  refine pk_le E s (fun g => nm_r (nI_1 f) (nm_r (e' := nI 1) rfl ?_)) (fun g => nm_r (e' := nI 1) rfl ?_) (ta_at (32 * t + x) h2 cx)
  · exact pk_le 7 1 (fun g => absurd g (by omega)) (fun _ => pk_le (f + 1) (f + 1) (fun _ => H1 g) (fun g => absurd g (by omega)))
  · exact pk_le 7 1 (fun g => absurd g (by omega)) (fun _ => pk_le f f (fun _ => H2 g) (fun g => absurd g (by omega)))
theorem ta_fb2 {post : Int32 → Prop} {p2 : Int32} {q v s : Nat} (e2 : p2 = nI s) (h6 : a6 0 = nI 0) (h7 : a7 0 = nI 2) (h50 : a5 0 = nI 0) (h51 : a5 1 = nI 1) (h2 : a2 0 = nI q) (h4 : a2 1 = nI v) (hq : q < 65) (hv : v < 65) (hs : s < 65)
    (H2 : v ≤ s → post (nI 2)) (H1 : s < v → q ≤ s → post (nI 1)) (H0 : s < v → s < q → post (nI 0)) : wpX_firstBehind post (fr, fo, fh, fb, a1, a2, a3, a4, a5, a6, a7, a8, a9, a10, a11, a12, a13, a14) (nI 0) (-1) p2 := by
  subst e2
  have c7 : a6 ((-1 : Int32) + 1).toNatClampNeg = nI 0 := h6
  have d7 : a7 ((-1 : Int32) + 1).toNatClampNeg = nI 2 := h7
  have x0 : (32 : Int32) * nI 0 + a5 (nI 0).toNatClampNeg = nI 0 := by
    show (32 : Int32) * nI 0 + a5 0 = nI 0
    rw [h50]
    rfl
  have x1 : (32 : Int32) * nI 0 + a5 (nI 1).toNatClampNeg = nI 1 := by
    show (32 : Int32) * nI 0 + a5 1 = nI 1
    rw [h51]
    rfl
  refine ⟨pk_in 0 33 (by omega), nm_r c7 ⟨pk_in 0 33 (by omega), nm_r (e' := nI 2) (by rw [d7]; rfl) ⟨3, ?_⟩⟩⟩
  refine pk_le 7 0 (fun g => absurd g (by omega)) (fun _ => pk_le 2 0 (fun g => absurd g (by omega)) (fun _ => nm_r (e' := nI 1) rfl ⟨pk_in 1 32 (by omega), pk_in 1 96 (by omega) x1, ?_⟩))
  refine pk_le v s (fun g => nm_r (e' := nI 2) rfl (nm_r (e' := nI 1) rfl ?_)) (fun g => nm_r (e' := nI 1) rfl ?_) (ta_at 1 h4 x1)
  · exact pk_le 7 1 (fun g => absurd g (by omega)) (fun _ => pk_le 2 2 (fun _ => H2 g) (fun g => absurd g (by omega)))
  · refine pk_le 7 1 (fun g => absurd g (by omega)) (fun _ => pk_le 1 0 (fun g => absurd g (by omega)) (fun _ => nm_r (e' := nI 0) rfl ⟨pk_in 0 32 (by omega), pk_in 0 96 (by omega) x0, ?_⟩))
    refine pk_le q s (fun g2 => nm_r (e' := nI 1) rfl (nm_r (e' := nI 2) rfl ?_)) (fun g2 => nm_r (e' := nI 2) rfl ?_) (ta_at 0 h2 x0)
    · exact pk_le 7 2 (fun g => absurd g (by omega)) (fun _ => pk_le 1 1 (fun _ => H1 g g2) (fun g => absurd g (by omega)))
    · exact pk_le 7 2 (fun g => absurd g (by omega)) (fun _ => pk_le 0 0 (fun _ => H0 g g2) (fun g => absurd g (by omega)))
/-- nothing waits -/
theorem ta_f23e {post : St2 → Prop} {x1 x2 x3 : Int32} {n i : Nat} (hi : i ≤ 32) (H : post (fr, fo, fh, fb, a1, a2, a3, a4, a5, a6, a7, a8, a9, a10, a11, a12, a13, a14)) : wX_findHits_23 post x1 x2 x3 (n + 1) (nI 0) (nI i) fr fo fh fb a1 a2 a3 a4 a5 a6 a7 a8 a9 a10 a11 a12 a13 a14 :=
  pk_lt 32 i (fun g => absurd g (by omega)) (fun _ => pk_le 0 0 (fun _ => H) (fun g => absurd g (by omega)))
theorem ta_f23 {post : St2 → Prop} {x1 x2 x3 hI : Int32} {n i w g f m : Nat} (hi : i ≤ 32) (hw : w < 40) (h9 : a9 w = hI) (hg : hI + 1 = nI g) (hg2 : g < 33) (h6 : a6 g = nI f) (h7 : a7 g = nI m)
    (H : wpX_firstBehind (fun r => ∃ fu, wX_findHits_78 post (wX_findHits_23 post x1 x2 x3 n) x1 x2 x3 (nI i) (nI (f + m)) fu (nI w) r fr fo fh fb a1 a2 a3 a4 a5 a6 a7 a8 a9 a10 a11 a12 a13 a14) (fr, fo, fh, fb, a1, a2, a3, a4, a5, a6, a7, a8, a9, a10, a11, a12, a13, a14) x1 hI x2) : wX_findHits_23 post x1 x2 x3 (n + 1) (nI (w + 1)) (nI i) fr fo fh fb a1 a2 a3 a4 a5 a6 a7 a8 a9 a10 a11 a12 a13 a14 := by
  have c9 : a9 (nI w).toNatClampNeg = hI := ta_at w h9
  have c6 : a6 (hI + 1).toNatClampNeg = nI f := ta_at g h6 hg
  have c7 : a7 (hI + 1).toNatClampNeg = nI m := ta_at g h7 hg
  exact pk_lt 32 i (fun g => absurd g (by omega)) (fun _ => pk_le (w + 1) 0 (fun g => absurd g (by omega)) (fun _ => nm_r (pk_m1 w) ⟨pk_in w 40 hw, nm_r c9 ⟨pk_in g 33 hg2 hg, pk_in g 33 hg2 hg, nm_r (e' := nI (f + m)) (by rw [c6, c7, nI_add]) H⟩⟩))
theorem ta_f78 {post : St2 → Prop} {J : Int32 → Int32 → Int32 → Int32 → Int32 → Int32 → (Nat → Int32) → (Nat → Int32) → (Nat → Int32) → (Nat → Int32) → (Nat → Int32) → (Nat → Int32) → (Nat → Int32) → (Nat → Int32) → (Nat → Int32) → (Nat → Int32) → (Nat → Int32) → (Nat → Int32) → (Nat → Int32) → (Nat → Int32) → Prop} {x2 : Int32} {t e i en pl x S hc n w c : Nat}
    (ht : t < 3) (hpl : pl < en) (hen : en ≤ 32) (h5 : a5 pl = nI x) (hx : x < 32) (h1 : a1 (32 * t + x) = nI S) (h7 : a7 (x + 1) = nI c) (hw : w < 40) (hh : hc < 32) (hS : S < 65) (he : e < 65) (hc2 : c < 65)
    (Hs : e ≤ S → J (nI w) (nI (i + 1)) fr fo (nI hc) fb a1 a2 a3 a4 a5 a6 a7 a8 a9 a10 a11 a12 a13 a14)
    (H0 : S < e → c = 0 → ∀ z, wX_findHits_78 post J (nI t) x2 (nI e) (nI i) (nI en) n (nI w) (nI (pl + 1)) fr fo (nI (hc + 1)) fb a1 a2 a3 a4 a5 a6 a7 z a9 a10 a11 a12 a13 a14)
    (Hp : S < e → 0 < c → ∀ z, wX_findHits_78 post J (nI t) x2 (nI e) (nI i) (nI en) n (nI (w + 1)) (nI (pl + 1)) fr fo (nI (hc + 1)) fb a1 a2 a3 a4 a5 a6 a7 z (upd a9 w (nI x)) a10 a11 a12 a13 a14) :
    wX_findHits_78 post J (nI t) x2 (nI e) (nI i) (nI en) (n + 1) (nI w) (nI pl) fr fo (nI hc) fb a1 a2 a3 a4 a5 a6 a7 a8 a9 a10 a11 a12 a13 a14 := by
  have c5 : a5 (nI pl).toNatClampNeg = nI x := ta_at pl h5
  have cx : (32 : Int32) * nI t + a5 (nI pl).toNatClampNeg = nI (32 * t + x) := by rw [c5, ta_ix]
  have c7 : a7 (nI x + 1).toNatClampNeg = nI c := ta_at (x + 1) h7 (nI_1 x)
  refine pk_le en pl (fun g => absurd g (by omega)) (fun _ => ⟨pk_in pl 32 (by omega), pk_in (32 * t + x) 96 (by omega) cx, ?_⟩)
  refine pk_le e S (fun g => nm_r (nI_1 i) (Hs g)) (fun g => ⟨pk_in pl 32 (by omega), nm_r c5 ?_⟩) rfl (ta_at (32 * t + x) h1 cx)
  refine ta_ph hh (fun z => ⟨pk_in (x + 1) 33 (by omega) (nI_1 x), ?_⟩)
  refine pk_le c 0 (fun g2 => nm_r (nI_1 pl) (H0 g (by omega) z)) (fun g2 => ⟨pk_in w 40 hw, nm_r (e' := upd a9 w (nI x)) ?_ (nm_r (nI_1 w) (nm_r (nI_1 pl) (Hp g g2 z)))⟩) c7
  rw [nI_clamp (by omega)]
/-- the list ends -/
theorem ta_f78e {post : St2 → Prop} {J : Int32 → Int32 → Int32 → Int32 → Int32 → Int32 → (Nat → Int32) → (Nat → Int32) → (Nat → Int32) → (Nat → Int32) → (Nat → Int32) → (Nat → Int32) → (Nat → Int32) → (Nat → Int32) → (Nat → Int32) → (Nat → Int32) → (Nat → Int32) → (Nat → Int32) → (Nat → Int32) → (Nat → Int32) → Prop} {x1 x2 x3 x4 : Int32} {i en n : Nat} (hen : en ≤ 32)
    (H : J x4 (nI (i + 1)) fr fo fh fb a1 a2 a3 a4 a5 a6 a7 a8 a9 a10 a11 a12 a13 a14) : wX_findHits_78 post J x1 x2 x3 (nI i) (nI en) (n + 1) x4 (nI en) fr fo fh fb a1 a2 a3 a4 a5 a6 a7 a8 a9 a10 a11 a12 a13 a14 :=
  pk_le en en (fun _ => nm_r (nI_1 i) H) (fun g => absurd g (by omega))
def ta_ov (S E s e : Nat) : Nat := if s < E ∧ S < e then 1 else 0
theorem ta_ov1 {S E s e : Nat} (h : s < E) (h2 : S < e) : ta_ov S E s e = 1 := if_pos ⟨h, h2⟩
theorem ta_ov0 {S E s e : Nat} (h : ¬ (s < E ∧ S < e)) : ta_ov S E s e = 0 := if_neg h
theorem ta_ov_c (S E s e : Nat) : ta_ov s e S E = ta_ov S E s e := by
  unfold ta_ov
  by_cases h : s < E ∧ S < e
  · rw [if_pos h, if_pos ⟨h.2, h.1⟩]
  · rw [if_neg h, if_neg (fun z => h ⟨z.2, z.1⟩)]
/-- track 1, one list of one -/
theorem ta_fA {post : St2 → Prop} {S E s e : Nat} (hl : ta_L1 a5 a6 a7) (h1 : a1 32 = nI S) (h2 : a2 32 = nI E) (hS : S < 65) (hE : E < 65) (hs : s < 65) (he : e < 65)
    (H : ∀ z8 z9, post (fr, fo, nI (ta_ov S E s e), fb, a1, a2, a3, a4, a5, a6, a7, z8, z9, a10, a11, a12, a13, a14)) : ∃ n, wX_findHits_23 post (nI 1) (nI s) (nI e) n 1 0 fr fo 0 fb a1 a2 a3 a4 a5 a6 a7 a8 (upd a9 0 (-1)) a10 a11 a12 a13 a14 := by
  obtain ⟨l1, l2, l3, l4⟩ := hl
  refine ⟨2, ta_f23 (w := 0) (i := 0) (g := 0) (f := 0) (m := 1) (hI := -1) (by omega) (by omega) rfl rfl (by omega) l2 l3 ?_⟩
  refine ta_fb1 (t := 1) (g := 0) (f := 0) (x := 0) (E := E) (s := s) rfl rfl (by omega) rfl (by omega) l2 l3 (by omega) l1 (by omega) h2 hE hs (fun c => ⟨1, ?_⟩) (fun c => ⟨2, ?_⟩)
  · refine ta_f78e (i := 0) (en := 1) (by omega) (ta_f23e (i := 1) (by omega) ?_)
    rw [ta_ov0 (by omega)] at H
    exact H _ _
  · refine ta_f78 (t := 1) (i := 0) (en := 1) (pl := 0) (x := 0) (S := S) (hc := 0) (w := 0) (c := 0) (by omega) (by omega) (by omega) l1 (by omega) h1 l4 (by omega) (by omega) hS he (by omega) (fun g => ?_) (fun g _ z => ?_) (fun _ g => absurd g (by omega))
    · rw [ta_ov0 (by omega)] at H
      exact ta_f23e (i := 1) (by omega) (H _ _)
    · rw [ta_ov1 c g] at H
      exact ta_f78e (i := 0) (en := 1) (by omega) (ta_f23e (i := 1) (by omega) (H _ _))
/-- track 0, one list of two -/
theorem ta_fB {post : St2 → Prop} {p q u v s e s' e' : Nat} (ho : ta_O p q u v s' e') (c : q < v) (hl : ta_L2 q v a5 a6 a7) (hg : ta_G p q u v a1 a2 a3) (hs : s < 65) (he : e < 65)
    (H : ∀ z8 z9, post (fr, fo, nI (ta_ov p q s e + ta_ov u v s e), fb, a1, a2, a3, a4, a5, a6, a7, z8, z9, a10, a11, a12, a13, a14)) : ∃ n, wX_findHits_23 post (nI 0) (nI s) (nI e) n 1 0 fr fo 0 fb a1 a2 a3 a4 a5 a6 a7 a8 (upd a9 0 (-1)) a10 a11 a12 a13 a14 := by
  obtain ⟨l1, l2, l3, l4, _, l6⟩ := hl
  obtain ⟨l7, l8⟩ := l6 c
  obtain ⟨g0, g1, g2, g3, g4⟩ := hg
  obtain ⟨o1, o2, o3, o4, o5, o6, o7⟩ := ho
  refine ⟨2, ta_f23 (w := 0) (i := 0) (g := 0) (f := 0) (m := 2) (hI := -1) (by omega) (by omega) rfl rfl (by omega) l3 l7 ?_⟩
  have second : s < v → ∀ (hc n : Nat) z8, hc ≤ 1 → ta_ov p q s e = hc → wX_findHits_78 post (wX_findHits_23 post (nI 0) (nI s) (nI e) 1) (nI 0) (nI s) (nI e) (nI 0) (nI 2) (n + 2) (nI 0) (nI 1) fr fo (nI hc) fb a1 a2 a3 a4 a5 a6 a7 z8 (upd a9 0 (-1)) a10 a11 a12 a13 a14 := by
    intro k1 hc n z8 hh k2
    rw [k2] at H
    refine ta_f78 (t := 0) (i := 0) (en := 2) (pl := 1) (x := 1) (S := u) (hc := hc) (w := 0) (c := 0) (by omega) (by omega) (by omega) l2 (by omega) g3 l4 (by omega) (by omega) (by omega) he (by omega) (fun g => ?_) (fun g _ z => ?_) (fun _ g => absurd g (by omega))
    · rw [ta_ov0 (S := u) (E := v) (by omega)] at H
      exact ta_f23e (i := 1) (by omega) (H _ _)
    · rw [ta_ov1 (S := u) (E := v) k1 g] at H
      exact ta_f78e (i := 0) (en := 2) (by omega) (ta_f23e (i := 1) (by omega) (H _ _))
  refine ta_fb2 (q := q) (v := v) rfl l3 l7 l1 l2 g2 g4 (by omega) (by omega) hs (fun k => ⟨1, ?_⟩) (fun k k2 => ⟨2, ?_⟩) (fun k k2 => ⟨3, ?_⟩)
  · refine ta_f78e (i := 0) (en := 2) (by omega) (ta_f23e (i := 1) (by omega) ?_)
    rw [ta_ov0 (S := p) (E := q) (by omega), ta_ov0 (S := u) (E := v) (by omega)] at H
    exact H _ _
  · exact second k 0 0 _ (by omega) (ta_ov0 (by omega))
  · refine ta_f78 (t := 0) (i := 0) (en := 2) (pl := 0) (x := 0) (S := p) (hc := 0) (w := 0) (c := 0) (by omega) (by omega) (by omega) l1 (by omega) g1 l8 (by omega) (by omega) (by omega) he (by omega) (fun g => ?_) (fun g _ z => ?_) (fun _ g => absurd g (by omega))
    · rw [ta_ov0 (S := p) (E := q) (by omega), ta_ov0 (S := u) (E := v) (by omega)] at H
      exact ta_f23e (i := 1) (by omega) (H _ _)
    · exact second k 1 0 _ (by omega) (ta_ov1 k2 g)
/-- track 0, the second in the first -/
theorem ta_fC {post : St2 → Prop} {p q u v s e s' e' : Nat} (ho : ta_O p q u v s' e') (c : v ≤ q) (hl : ta_L2 q v a5 a6 a7) (hg : ta_G p q u v a1 a2 a3) (hs : s < 65) (he : e < 65)
    (H : ∀ z8 z9, post (fr, fo, nI (ta_ov p q s e + ta_ov u v s e), fb, a1, a2, a3, a4, a5, a6, a7, z8, z9, a10, a11, a12, a13, a14)) : ∃ n, wX_findHits_23 post (nI 0) (nI s) (nI e) n 1 0 fr fo 0 fb a1 a2 a3 a4 a5 a6 a7 a8 (upd a9 0 (-1)) a10 a11 a12 a13 a14 := by
  obtain ⟨l1, l2, l3, l4, l6, _⟩ := hl
  obtain ⟨l7, l8, l9⟩ := l6 c
  obtain ⟨g0, g1, g2, g3, g4⟩ := hg
  obtain ⟨o1, o2, o3, o4, o5, o6, o7⟩ := ho
  refine ⟨3, ta_f23 (w := 0) (i := 0) (g := 0) (f := 0) (m := 1) (hI := -1) (by omega) (by omega) rfl rfl (by omega) l3 l7 ?_⟩
  refine ta_fb1 (t := 0) (g := 0) (f := 0) (x := 0) (E := q) (s := s) rfl rfl (by omega) rfl (by omega) l3 l7 (by omega) l1 (by omega) g2 (by omega) hs (fun k => ⟨1, ?_⟩) (fun k => ⟨2, ?_⟩)
  · refine ta_f78e (i := 0) (en := 1) (by omega) (ta_f23e (i := 1) (by omega) ?_)
    rw [ta_ov0 (S := p) (E := q) (by omega), ta_ov0 (S := u) (E := v) (by omega)] at H
    exact H _ _
  · refine ta_f78 (t := 0) (i := 0) (en := 1) (pl := 0) (x := 0) (S := p) (hc := 0) (w := 0) (c := 1) (by omega) (by omega) (by omega) l1 (by omega) g1 l9 (by omega) (by omega) (by omega) he (by omega) (fun g => ?_) (fun _ g => absurd g (by omega)) (fun g _ z => ?_)
    · rw [ta_ov0 (S := p) (E := q) (by omega), ta_ov0 (S := u) (E := v) (by omega)] at H
      exact ta_f23e (i := 1) (by omega) (H _ _)
    · rw [ta_ov1 (S := p) (E := q) k g] at H
      refine ta_f78e (i := 0) (en := 1) (by omega) ?_
      refine ta_f23 (w := 0) (i := 1) (g := 1) (f := 1) (m := 1) (hI := nI 0) (by omega) (by omega) rfl rfl (by omega) l8 l9 ?_
      refine ta_fb1 (t := 0) (g := 1) (f := 1) (x := 1) (E := v) (s := s) rfl rfl (by omega) rfl (by omega) l8 l9 (by omega) l2 (by omega) g4 (by omega) hs (fun k2 => ⟨1, ?_⟩) (fun k2 => ⟨2, ?_⟩)
      · rw [ta_ov0 (S := u) (E := v) (by omega)] at H
        exact ta_f78e (i := 1) (en := 2) (by omega) (ta_f23e (i := 2) (by omega) (H _ _))
      · refine ta_f78 (t := 0) (i := 1) (en := 2) (pl := 1) (x := 1) (S := u) (hc := 1) (w := 0) (c := 0) (by omega) (by omega) (by omega) l2 (by omega) g3 l4 (by omega) (by omega) (by omega) he (by omega) (fun g5 => ?_) (fun g5 _ z => ?_) (fun _ g => absurd g (by omega))
        · rw [ta_ov0 (S := u) (E := v) (by omega)] at H
          exact ta_f23e (i := 2) (by omega) (H _ _)
        · rw [ta_ov1 (S := u) (E := v) k2 g5] at H
          exact ta_f78e (i := 1) (en := 2) (by omega) (ta_f23e (i := 2) (by omega) (H _ _))
theorem ta_hits1 {post : St2 → Prop} {p0 p1 p2 : Int32} {S E s e : Nat} (e0 : p0 = nI 1) (e1 : p1 = nI s) (e2 : p2 = nI e) (hg : ta_G1 S E a1 a2 a3) (hb : fb = nI 1 → ta_L1 a5 a6 a7) (hS : S < 65) (hE : E < 65) (hs : s < 65) (he : e < 65)
    (H : ∀ z4 z5 z6 z7 z8 z9, ta_L1 z5 z6 z7 → post (fr, fo, nI (ta_ov S E s e), nI 1, a1, a2, a3, z4, z5, z6, z7, z8, z9, a10, a11, a12, a13, a14)) : wpX_findHits post (fr, fo, fh, fb, a1, a2, a3, a4, a5, a6, a7, a8, a9, a10, a11, a12, a13, a14) p0 p1 p2 := by
  subst e0 e1 e2
  obtain ⟨g0, g1, g2⟩ := hg
  unfold wpX_findHits
  by_cases c : fb = nI 1
  · have hl := hb c
    subst c
    exact br_t rfl (nm_e (ta_fA hl g1 g2 hS hE hs he (fun z8 z9 => H _ _ _ _ z8 z9 hl)))
  · exact ta_build1 rfl g0 c (fun z4 z5 z6 z7 z9 hl => nm_e (ta_fA hl g1 g2 hS hE hs he (fun y8 y9 => H _ _ _ _ y8 y9 hl)))
theorem ta_hits0 {post : St2 → Prop} {p0 p1 p2 : Int32} {p q u v s e s' e' : Nat} (e0 : p0 = nI 0) (e1 : p1 = nI s) (e2 : p2 = nI e) (ho : ta_O p q u v s' e') (hg : ta_G p q u v a1 a2 a3) (hb : fb = nI 0 → ta_L2 q v a5 a6 a7) (hs : s < 65) (he : e < 65)
    (H : ∀ z4 z5 z6 z7 z8 z9, ta_L2 q v z5 z6 z7 → post (fr, fo, nI (ta_ov p q s e + ta_ov u v s e), nI 0, a1, a2, a3, z4, z5, z6, z7, z8, z9, a10, a11, a12, a13, a14)) : wpX_findHits post (fr, fo, fh, fb, a1, a2, a3, a4, a5, a6, a7, a8, a9, a10, a11, a12, a13, a14) p0 p1 p2 := by
  subst e0 e1 e2
  unfold wpX_findHits
  by_cases c : fb = nI 0
  · have hl := hb c
    subst c
    rcases Nat.lt_or_ge q v with k | k
    · exact br_t rfl (nm_e (ta_fB ho k hl hg hs he (fun z8 z9 => H _ _ _ _ z8 z9 hl)))
    · exact br_t rfl (nm_e (ta_fC ho k hl hg hs he (fun z8 z9 => H _ _ _ _ z8 z9 hl)))
  · have o4 : q < 64 := ho.2.2.2.1
    have o5 : v < 64 := ho.2.2.2.2.1
    refine ta_build0 (q := q) (v := v) rfl hg.1 hg.2.2.1 hg.2.2.2.2 (by omega) (by omega) c (fun z4 z5 z6 z7 z9 hl => nm_e ?_)
    rcases Nat.lt_or_ge q v with k | k
    · exact ta_fB ho k hl hg hs he (fun y8 y9 => H _ _ _ _ y8 y9 hl)
    · exact ta_fC ho k hl hg hs he (fun y8 y9 => H _ _ _ _ y8 y9 hl)
theorem ta_overlapping {post : Int32 → St2 → Prop} {p0 p1 : Int32} {p q u v s e : Nat} (e0 : p0 = nI 0) (e1 : p1 = nI (65 * s + e)) (ho : ta_O p q u v s e) (hg : ta_G p q u v a1 a2 a3) (hb : fb = nI 0 → ta_L2 q v a5 a6 a7)
    (H : ∀ z4 z5 z6 z7 z8 z9, ta_L2 q v z5 z6 z7 → post (nI (ta_ov p q s e + ta_ov u v s e)) (fr, fo, nI (ta_ov p q s e + ta_ov u v s e), nI 0, a1, a2, a3, z4, z5, z6, z7, z8, z9, a10, a11, a12, a13, a14)) : wpX_overlapping post (fr, fo, fh, fb, a1, a2, a3, a4, a5, a6, a7, a8, a9, a10, a11, a12, a13, a14) p0 p1 := by
  subst e0 e1
  have o3 : s < e := ho.2.2.1
  have o6 : e < 64 := ho.2.2.2.2.2.1
  unfold wpX_overlapping
  refine ta_isT (t := 0) rfl (by omega) (br_f (by decide) (ta_isS rfl o3 (by omega) (br_f (by decide) ⟨by decide, by decide, ?_⟩)))
  exact ta_hits0 rfl (ta_div (by omega) (by omega)) (ta_mod (by omega) (by omega)) ho hg hb (by omega) (by omega) (fun z4 z5 z6 z7 z8 z9 hl => H z4 z5 z6 z7 z8 z9 hl)
/-- all of track 0 against track 1 -/
theorem ta_meet1 {post : Int32 → St2 → Prop} {p0 p1 : Int32} {p q u v s e : Nat} (e0 : p0 = nI 0) (e1 : p1 = nI 1) (ho : ta_O p q u v s e) (hg : ta_G p q u v a1 a2 a3) (hg1 : ta_G1 s e a1 a2 a3) (hb : fb = nI 1 → ta_L1 a5 a6 a7)
    (H : ∀ f z4 z5 z6 z7 z8 z9, ta_L1 z5 z6 z7 → post (nI (ta_ov p q s e + ta_ov u v s e)) (fr, fo, f, nI 1, a1, a2, a3, z4, z5, z6, z7, z8, z9, a10, a11, a12, a13, a14)) : wpX_meetings post (fr, fo, fh, fb, a1, a2, a3, a4, a5, a6, a7, a8, a9, a10, a11, a12, a13, a14) p0 p1 := by
  subst e0 e1
  have hg' := hg
  obtain ⟨g0, g1, g2, g3, g4⟩ := hg
  obtain ⟨o1, o2, o3, o4, o5, o6, o7⟩ := ho
  unfold wpX_meetings
  refine ta_isT (t := 0) rfl (by omega) (br_f (by decide) (ta_isT (t := 1) rfl (by omega) (br_f (by decide) ⟨3, ?_⟩)))
  refine ⟨pk_in 0 3 (by omega), pk_le 2 0 (fun g => absurd g (by omega)) (fun _ => ⟨pk_in 0 96 (by omega), pk_in 0 96 (by omega), ?_⟩) g0⟩
  refine ta_hits1 (S := s) (E := e) (s := p) (e := q) rfl g1 g2 hg1 hb (by omega) (by omega) (by omega) (by omega) (fun z4 z5 z6 z7 z8 z9 hl => ?_)
  refine nm_r (e' := nI (0 + ta_ov s e p q)) (nI_add 0 _) (nm_r (e' := nI 1) rfl ?_)
  refine ⟨pk_in 0 3 (by omega), pk_le 2 1 (fun g => absurd g (by omega)) (fun _ => ⟨pk_in 1 96 (by omega), pk_in 1 96 (by omega), ?_⟩) g0⟩
  refine ta_hits1 (S := s) (E := e) (s := u) (e := v) rfl g3 g4 hg1 (fun _ => hl) (by omega) (by omega) (by omega) (by omega) (fun y4 y5 y6 y7 y8 y9 hl2 => ?_)
  refine nm_r (e' := nI (0 + ta_ov s e p q + ta_ov s e u v)) (nI_add _ _) (nm_r (e' := nI 2) rfl ?_)
  refine ⟨pk_in 0 3 (by omega), pk_le 2 2 (fun _ => ?_) (fun g => absurd g (by omega)) g0⟩
  rw [Nat.zero_add, ta_ov_c p q s e, ta_ov_c u v s e]
  exact H _ _ _ _ _ _ _ hl2
/-- all of track 0 against itself -/
theorem ta_meet0 {post : Int32 → St2 → Prop} {p0 p1 : Int32} {p q u v s e : Nat} (e0 : p0 = nI 0) (e1 : p1 = nI 0) (ho : ta_O p q u v s e) (hg : ta_G p q u v a1 a2 a3) (hb : fb = nI 0 → ta_L2 q v a5 a6 a7)
    (H : ∀ f z4 z5 z6 z7 z8 z9, ta_L2 q v z5 z6 z7 → post (nI (2 + 2 * ta_ov p q u v)) (fr, fo, f, nI 0, a1, a2, a3, z4, z5, z6, z7, z8, z9, a10, a11, a12, a13, a14)) : wpX_meetings post (fr, fo, fh, fb, a1, a2, a3, a4, a5, a6, a7, a8, a9, a10, a11, a12, a13, a14) p0 p1 := by
  subst e0 e1
  have hg' := hg
  have ho' := ho
  obtain ⟨g0, g1, g2, g3, g4⟩ := hg
  obtain ⟨o1, o2, o3, o4, o5, o6, o7⟩ := ho
  unfold wpX_meetings
  refine ta_isT (t := 0) rfl (by omega) (br_f (by decide) (ta_isT (t := 0) rfl (by omega) (br_f (by decide) ⟨3, ?_⟩)))
  refine ⟨pk_in 0 3 (by omega), pk_le 2 0 (fun g => absurd g (by omega)) (fun _ => ⟨pk_in 0 96 (by omega), pk_in 0 96 (by omega), ?_⟩) g0⟩
  refine ta_hits0 (s := p) (e := q) rfl g1 g2 ho' hg' hb (by omega) (by omega) (fun z4 z5 z6 z7 z8 z9 hl => ?_)
  refine nm_r (e' := nI (0 + (ta_ov p q p q + ta_ov u v p q))) (nI_add 0 _) (nm_r (e' := nI 1) rfl ?_)
  refine ⟨pk_in 0 3 (by omega), pk_le 2 1 (fun g => absurd g (by omega)) (fun _ => ⟨pk_in 1 96 (by omega), pk_in 1 96 (by omega), ?_⟩) g0⟩
  refine ta_hits0 (s := u) (e := v) rfl g3 g4 ho' hg' (fun _ => hl) (by omega) (by omega) (fun y4 y5 y6 y7 y8 y9 hl2 => ?_)
  refine nm_r (e' := nI (0 + (ta_ov p q p q + ta_ov u v p q) + (ta_ov p q u v + ta_ov u v u v))) (nI_add _ _) (nm_r (e' := nI 2) rfl ?_)
  refine ⟨pk_in 0 3 (by omega), pk_le 2 2 (fun _ => ?_) (fun g => absurd g (by omega)) g0⟩
  rw [ta_ov1 (S := p) (E := q) o1 o1, ta_ov1 (S := u) (E := v) o2 o2, ta_ov_c p q u v, show 0 + (1 + ta_ov p q u v) + (ta_ov p q u v + 1) = 2 + 2 * ta_ov p q u v by omega]
  exact H _ _ _ _ _ _ _ hl2
end
end
section
/-- the track's order: f says whether the first stretch of the law comes first -/
def ta_Q (a b c d s e p q u v : Nat) (f : Bool) : Prop := ta_O p q u v s e ∧ ((f = true ∧ p = a ∧ q = b ∧ u = c ∧ v = d) ∨ (f = false ∧ p = c ∧ q = d ∧ u = a ∧ v = b))
theorem ta_Q_b {a b c d s e p q u v : Nat} {f : Bool} (h : ta_Q a b c d s e p q u v f) : a < b ∧ c < d ∧ s < e ∧ b < 64 ∧ d < 64 ∧ e < 64 := by
  obtain ⟨⟨o1, o2, o3, o4, o5, o6, o7⟩, h2⟩ := h
  rcases h2 with ⟨_, rfl, rfl, rfl, rfl⟩ | ⟨_, rfl, rfl, rfl, rfl⟩
  · exact ⟨o1, o2, o3, o4, o5, o6⟩
  · exact ⟨o2, o1, o3, o5, o4, o6⟩
theorem ta_ovk {a b s e : Nat} (h : a < b) (h2 : s < e) : (0 < ta_k a b s e → ta_ov a b s e = 1) ∧ (¬ 0 < ta_k a b s e → ta_ov a b s e = 0) := by
  unfold ta_k
  constructor
  · intro g
    exact ta_ov1 (by omega) (by omega)
  · intro g
    exact ta_ov0 (by omega)
theorem ta_q_n {a b c d s e p q u v : Nat} {f : Bool} (h : ta_Q a b c d s e p q u v f) : ta_ov p q s e + ta_ov u v s e = ta_ov a b s e + ta_ov c d s e := by
  obtain ⟨_, h2⟩ := h
  rcases h2 with ⟨_, rfl, rfl, rfl, rfl⟩ | ⟨_, rfl, rfl, rfl, rfl⟩
  · rfl
  · exact Nat.add_comm _ _
theorem ta_q_w {a b c d s e p q u v : Nat} {f : Bool} (h : ta_Q a b c d s e p q u v f) : ta_ov p q u v = ta_ov a b c d := by
  obtain ⟨_, h2⟩ := h
  rcases h2 with ⟨_, rfl, rfl, rfl, rfl⟩ | ⟨_, rfl, rfl, rfl, rfl⟩
  · rfl
  · exact ta_ov_c _ _ _ _
theorem ta_q_min {a b c d s e p q u v : Nat} {f : Bool} (h : ta_Q a b c d s e p q u v f) : min (ta_g p q s e) (ta_g u v s e) = min (ta_g a b s e) (ta_g c d s e) := by
  obtain ⟨_, h2⟩ := h
  rcases h2 with ⟨_, rfl, rfl, rfl, rfl⟩ | ⟨_, rfl, rfl, rfl, rfl⟩
  · rfl
  · exact Nat.min_comm _ _
/-- what is shared -/
theorem ta_q_sh {a b c d s e p q u v : Nat} {f : Bool} (h : ta_Q a b c d s e p q u v f) :
    ta_cw (ta_w false (fun j => ta_m p q j || ta_m u v j) (fun j => ta_m s e j)) 64 + ta_k (max a c) (min b d) s e = ta_k a b s e + ta_k c d s e := by
  have hw := ta_W0 (w := ta_w false (fun j => ta_m p q j || ta_m u v j) (fun j => ta_m s e j)) (p := p) (q := q) (u := u) (v := v) (s := s) (e := e) (N := 64) (fun j hj => by rw [ta_wlt hj, Bool.bne_false]) 64 (Nat.le_refl 64)
  have hb := ta_Q_b h
  obtain ⟨_, h2⟩ := h
  generalize ta_cw (ta_w false (fun j => ta_m p q j || ta_m u v j) (fun j => ta_m s e j)) 64 = x at hw
  unfold ta_L at hw
  unfold ta_k
  rcases h2 with ⟨_, rfl, rfl, rfl, rfl⟩ | ⟨_, rfl, rfl, rfl, rfl⟩
  · omega
  · omega
/-- what is left -/
theorem ta_q_left {a b c d s e p q u v : Nat} {f : Bool} (h : ta_Q a b c d s e p q u v f) :
    ta_cw (ta_w true (fun j => ta_m s e j) (fun j => ta_m p q j || ta_m u v j)) 64 + ta_cw (ta_w false (fun j => ta_m p q j || ta_m u v j) (fun j => ta_m s e j)) 64 = e - s := by
  have hw := ta_W3 (w := ta_w false (fun j => ta_m p q j || ta_m u v j) (fun j => ta_m s e j)) (w' := ta_w true (fun j => ta_m s e j) (fun j => ta_m p q j || ta_m u v j)) (s := s) (e := e) (N := 64) (m := fun j => ta_m p q j || ta_m u v j) (fun j hj => by rw [ta_wlt hj, Bool.bne_false]) (fun j hj => by rw [ta_wlt hj, Bool.bne_true]) 64 (Nat.le_refl 64)
  have hb := ta_Q_b h
  rw [hw]
  unfold ta_L
  omega
theorem ta_q_cut {a b c d s e p q u v : Nat} {f : Bool} (h : ta_Q a b c d s e p q u v f) : ta_rs (ta_w true (fun j => ta_m s e j) (fun j => ta_m p q j || ta_m u v j)) 65 ≤ 3 := by
  have hw := ta_rise (w := ta_w true (fun j => ta_m s e j) (fun j => ta_m p q j || ta_m u v j)) (p := p) (q := q) (u := u) (v := v) (s := s) (e := e) (N := 64) (fun j hj => by rw [ta_wlt hj, Bool.bne_true]) 64 (Nat.le_refl 64)
  rw [ta_rs_s, ta_w64]
  have l1 := ta_lt_b s 64
  have l2 := ta_lt_b q 64
  have l3 := ta_lt_b v 64
  show ta_rs (ta_w true (fun j => ta_m s e j) (fun j => ta_m p q j || ta_m u v j)) 64 + 0 ≤ 3
  omega
/-- the two stretches of track 0 as functions -/
def ta_F (x y i : Nat) : Nat := if i = 0 then x else y
theorem ta_trG {x1 x2 x3 : Nat → Int32} {p q u v s e : Nat} (ho : ta_O p q u v s e) (hg : ta_G p q u v x1 x2 x3) : ta_tr x1 x2 x3 0 2 (ta_F p u) (ta_F q v) := by
  obtain ⟨g0, g1, g2, g3, g4⟩ := hg
  obtain ⟨o1, o2, o3, o4, o5, o6, o7⟩ := ho
  refine ⟨g0, fun i hi => ?_⟩
  have e0 : i = 0 ∨ i = 1 := by omega
  rcases e0 with e0 | e0
  · subst e0
    exact ⟨g1, g2, by show p ≤ 64; omega, by show q ≤ 64; omega⟩
  · subst e0
    exact ⟨g3, g4, by show u ≤ 64; omega, by show v ≤ 64; omega⟩
theorem ta_CF {p q u v : Nat} (h1 : p < q) (h2 : u < v) (j : Nat) : ta_C (ta_F p u) (ta_F q v) 2 (j + 1) = ((ta_m p q j).toNat : Int) + ((ta_m u v j).toNat : Int) := by
  show (0 : Int) + (if p < j + 1 then 1 else 0) - (if q < j + 1 then 1 else 0) + (if u < j + 1 then 1 else 0) - (if v < j + 1 then 1 else 0) = _
  rcases ta_tn (ta_m_iff p q j) with ⟨c1, e1⟩ | ⟨c1, e1⟩ <;> rcases ta_tn (ta_m_iff u v j) with ⟨c2, e2⟩ | ⟨c2, e2⟩ <;> rw [e1, e2] <;> split <;> split <;> split <;> split <;> omega
theorem ta_q_cov {a b c d s e p q u v : Nat} {f : Bool} (h : ta_Q a b c d s e p q u v f) :
    ta_cnt (ta_C (ta_F p u) (ta_F q v) 2) 2 64 = ta_k a b c d ∧ ta_cnt (ta_C (ta_F p u) (ta_F q v) 2) 1 64 + ta_k a b c d = (b - a) + (d - c) := by
  have hw := ta_cov (C := ta_C (ta_F p u) (ta_F q v) 2) (ta_CF h.1.1 h.1.2.1) 64
  have hb := ta_Q_b h
  obtain ⟨_, h2⟩ := h
  generalize ta_cnt (ta_C (ta_F p u) (ta_F q v) 2) 2 64 = x at hw
  generalize ta_cnt (ta_C (ta_F p u) (ta_F q v) 2) 1 64 = y at hw
  unfold ta_L at hw
  unfold ta_k
  rcases h2 with ⟨_, rfl, rfl, rfl, rfl⟩ | ⟨_, rfl, rfl, rfl, rfl⟩
  · omega
  · omega
theorem ta_q_deep {a b c d s e p q u v : Nat} {f : Bool} (h : ta_Q a b c d s e p q u v f) : ta_mx (ta_C (ta_F p u) (ta_F q v) 2) 64 = if 0 < ta_k a b c d then 2 else 1 := by
  have hw := ta_deep (C := ta_C (ta_F p u) (ta_F q v) 2) (ta_CF h.1.1 h.1.2.1) 64
  have h3 := ta_q_cov h
  have hb := ta_Q_b h
  rw [hw, h3.1]
  by_cases c : 0 < ta_k a b c d
  · rw [if_pos c, if_pos c]
  · rw [if_neg c, if_neg c, if_pos (by omega)]
theorem ta_q_touch {a b c d s e p q u v : Nat} {f : Bool} (h : ta_Q a b c d s e p q u v f) : (ta_g a b c d = 0 → u ≤ q) ∧ (ta_g a b c d ≠ 0 → ¬ u ≤ q) := by
  obtain ⟨⟨o1, o2, o3, o4, o5, o6, o7⟩, h2⟩ := h
  rcases h2 with ⟨_, rfl, rfl, rfl, rfl⟩ | ⟨_, rfl, rfl, rfl, rfl⟩ <;> unfold ta_g <;> split
  · omega
  · split <;> omega
  · omega
  · split <;> omega
end
section
section
variable {fr fo fh fb : Int32} {a1 a2 a3 a4 a5 a6 a7 a8 a9 a10 a11 a12 a13 a14 : Nat → Int32}
theorem ta_ar1 {x y z t : Nat} (h : x + t = y + z) : nI x = (nI y + nI z) - nI t := by
  rw [nI_add, pk_sub (by omega), show y + z - t = x by omega]
theorem ta_ar2 {x y z t s e w : Nat} (h : y + w = e - s) (h0 : w + t = x + z) (hse : s ≤ e) : nI y = (nI e - nI s) - ((nI x + nI z) - nI t) := by
  rw [← ta_ar1 h0, pk_sub hse, pk_sub (by omega), show e - s - w = y by omega]
theorem ta_ar3 {x a b c d w : Nat} (h : x + w = (b - a) + (d - c)) (h1 : a ≤ b) (h2 : c ≤ d) : nI x = (((nI b - nI a) + nI d) - nI c) - nI w := by
  rw [pk_sub h1, nI_add, pk_sub (by omega), pk_sub (by omega), show b - a + d - c - w = x by omega]
theorem ta_k_b {a b c d : Nat} (h : b < 64) : ta_k a b c d < 64 := by
  unfold ta_k
  omega
theorem ta_539 {post : Int32 → St0 → Prop} {mc ms kc ks a b c d s e p q u v : Nat} {f : Bool} (hQ : ta_Q a b c d s e p q u v f) (hg : ta_G p q u v a1 a2 a3) (hg1 : ta_G1 s e a1 a2 a3) (H : post 1 ()) :
    wL_lawOf_539 post mc ms (nI a) (nI b) (nI c) (nI d) (nI s) (nI e) (nI (ta_k a b s e)) (nI (ta_k c d s e)) (nI (ta_k (max a c) (min b d) s e)) kc ks fr fo fh fb a1 a2 a3 a4 a5 a6 a7 a8 a9 a10 a11 a12 a13 a14 := by
  have hb := ta_Q_b hQ
  have q1 := ta_q_sh hQ
  have q2 := ta_q_left hQ
  have q3 := ta_q_cut hQ
  have q4 := ta_q_touch hQ
  have q5 := ta_g_b (a := a) (b := b) (s := c) (e := d) (by omega) (by omega)
  unfold wL_lawOf_539
  refine ta_shared rfl rfl hQ.1 hg hg1 (fun f1 f2 x10 x11 x12 x13 x14 => ?_)
  refine br_t (ta_ar1 q1) ?_
  refine ta_join rfl rfl rfl hQ.1 hg hg1 (fun K S E f3 y1 y2 y3 y10 y11 y12 y13 y14 hK hr htr hC hG => ?_)
  refine ta_covered (t := 1) (d := 1) rfl rfl (by omega) hK (by omega) htr (fun z => ?_)
  have e3 : ta_cnt (ta_C S E K) ((1 : Nat) : Int) 64 = ta_cw (ta_w true (fun j => ta_m s e j) (fun j => ta_m p q j || ta_m u v j)) 64 := ta_cnt_w hC 64 (Nat.le_refl 64)
  refine br_t (by rw [e3]; exact ta_ar2 q2 q1 (by omega)) (pk_le K 3 (fun _ => ?_) (fun g => absurd g (by omega)))
  refine ta_merge rfl hQ.1 hG (fun w1 w2 w3 w10 w11 hw => ?_)
  refine ta_size (t := 0) rfl (by omega) ?_
  rw [hw]
  refine ta_apart rfl rfl rfl rfl (by omega) (by omega) (by omega) (by omega) ?_
  refine pk_eq (ta_g a b c d) 0 (fun g => ?_) (fun g => ?_) rfl rfl (by omega)
  · rw [if_pos (q4.1 g)]
    exact br_t rfl (br_t rfl H)
  · rw [if_neg (q4.2 g)]
    exact br_t rfl (br_t rfl H)
theorem ta_494 {post : Int32 → St0 → Prop} {mc ms kc ks a b c d s e p q u v : Nat} {f : Bool} {z0 z1 : Int32} (hz : z1 = z0) (hQ : ta_Q a b c d s e p q u v f) (hg : ta_G p q u v a1 a2 a3) (hg1 : ta_G1 s e a1 a2 a3) (H : post 1 ()) :
    wL_lawOf_494 post mc ms (nI a) (nI b) (nI c) (nI d) (nI s) (nI e) (nI (ta_k a b s e)) (nI (ta_k c d s e)) z0 z1 kc ks fr fo fh fb a1 a2 a3 a4 a5 a6 a7 a8 a9 a10 a11 a12 a13 a14 := by
  have hb := ta_Q_b hQ
  have h := ta_539 (post := post) (mc := mc) (ms := ms) (kc := kc) (ks := ks) (fr := fr) (fo := fo) (fh := fh) (fb := fb) (a4 := a4) (a5 := a5) (a6 := a6) (a7 := a7) (a8 := a8) (a9 := a9) (a10 := a10) (a11 := a11) (a12 := a12) (a13 := a13) (a14 := a14) hQ hg hg1 H
  unfold wL_lawOf_494
  refine br_t hz (ta_more rfl rfl (by omega) (by omega) (ta_less rfl rfl (by omega) (by omega) ?_))
  refine pk_le (min b d) (max a c) (fun g => ?_) (fun g => ta_common rfl rfl rfl rfl (by omega) (by omega) (by omega) (by omega) h) rfl rfl (by omega) (by omega)
  have e0 : ta_k (max a c) (min b d) s e = 0 := by
    unfold ta_k
    omega
  rw [e0] at h
  exact h
theorem ta_425 {post : Int32 → St0 → Prop} {mc ms kc ks a b c d s e p q u v : Nat} {f : Bool} {z0 z1 : Int32} (hz : z1 = z0) (hQ : ta_Q a b c d s e p q u v f) (hg : ta_G p q u v a1 a2 a3) (hg1 : ta_G1 s e a1 a2 a3) (H : post 1 ()) :
    wL_lawOf_425 post mc ms (nI a) (nI b) (nI c) (nI d) (nI s) (nI e) (nI (ta_k a b s e)) (nI (ta_k c d s e)) (nI (ta_k a b c d)) z0 z1 kc ks fr fo fh fb a1 a2 a3 a4 a5 a6 a7 a8 a9 a10 a11 a12 a13 a14 := by
  have hb := ta_Q_b hQ
  obtain ⟨k2, k1⟩ := ta_q_cov hQ
  have k3 := ta_q_deep hQ
  have k4 := ta_k_b (a := a) (b := b) (c := c) (d := d) (by omega)
  unfold wL_lawOf_425
  refine br_t hz ?_
  refine ta_covered (t := 0) (k := 2) (d := 1) rfl rfl (by omega) (by omega) (by omega) (ta_trG hQ.1 hg) (fun y1 => ?_)
  refine ta_covered (t := 0) (k := 2) (d := 2) rfl rfl (by omega) (by omega) (by omega) (ta_trG hQ.1 hg) (fun y2 => ?_)
  refine ta_deepest (t := 0) (k := 2) rfl (by omega) (by omega) (ta_trG hQ.1 hg) (fun y3 => ?_)
  refine br_t (ta_ar3 k1 (by omega) (by omega)) (br_t (congrArg nI k2) ?_)
  rw [k3]
  refine pk_le (ta_k a b c d) 0 (fun g => ?_) (fun g => ?_) rfl rfl (by omega)
  · rw [if_neg (by omega)]
    exact ta_494 rfl hQ hg hg1 H
  · rw [if_pos g]
    exact ta_494 rfl hQ hg hg1 H
theorem ta_380 {post : Int32 → St0 → Prop} {mc ms kc ks a b c d s e p q u v : Nat} {f : Bool} {z0 : Int32} (hz : nI (if ta_g p q s e ≤ ta_g u v s e then 0 else 1) = z0) (hQ : ta_Q a b c d s e p q u v f) (hg : ta_G p q u v a1 a2 a3) (hg1 : ta_G1 s e a1 a2 a3) (H : post 1 ()) :
    wL_lawOf_380 post mc ms (nI a) (nI b) (nI c) (nI d) (nI s) (nI e) (nI (65 * s + e)) (nI (ta_k a b s e)) (nI (ta_k c d s e)) (nI (ta_k a b c d)) (nI (ta_g a b s e)) (nI (ta_g c d s e)) z0 kc ks fr fo fh fb a1 a2 a3 a4 a5 a6 a7 a8 a9 a10 a11 a12 a13 a14 := by
  have hb := ta_Q_b hQ
  have hm := ta_q_min hQ
  have b1 := ta_g_b (a := a) (b := b) (s := s) (e := e) (by omega) (by omega)
  have b2 := ta_g_b (a := c) (b := d) (s := s) (e := e) (by omega) (by omega)
  unfold wL_lawOf_380
  refine ta_closest rfl rfl hQ.1 hg (ta_distance rfl rfl hQ.1 hg (br_t hz ?_))
  rw [hm]
  refine pk_le (ta_g c d s e) (ta_g a b s e) (fun g => ?_) (fun g => ?_) rfl rfl (by omega) (by omega)
  · exact ta_425 (by rw [Nat.min_eq_right g]) hQ hg hg1 H
  · exact ta_425 (by rw [Nat.min_eq_left (by omega)]) hQ hg hg1 H
theorem ta_301 {post : Int32 → St0 → Prop} {mc ms kc ks a b c d s e p q u v : Nat} {f : Bool} {z0 z1 : Int32} (hz : z1 = z0) (hQ : ta_Q a b c d s e p q u v f) (hg : ta_G p q u v a1 a2 a3) (hg1 : ta_G1 s e a1 a2 a3) (H : post 1 ()) :
    wL_lawOf_301 post mc ms (nI a) (nI b) (nI c) (nI d) (nI s) (nI e) (ta_b f) (nI (65 * s + e)) (nI (ta_k a b s e)) (nI (ta_k c d s e)) (nI (ta_k a b c d)) z0 z1 kc ks fr fo fh fb a1 a2 a3 a4 a5 a6 a7 a8 a9 a10 a11 a12 a13 a14 := by
  have hb := ta_Q_b hQ
  have b1 := ta_g_b (a := a) (b := b) (s := s) (e := e) (by omega) (by omega)
  have b2 := ta_g_b (a := c) (b := d) (s := s) (e := e) (by omega) (by omega)
  have hQ' := hQ
  obtain ⟨_, h2⟩ := hQ'
  unfold wL_lawOf_301
  refine br_t hz (ta_apart rfl rfl rfl rfl (by omega) (by omega) (by omega) (by omega) (ta_apart rfl rfl rfl rfl (by omega) (by omega) (by omega) (by omega) ?_))
  refine pk_le (ta_g c d s e) (ta_g a b s e) (fun g => pk_le (ta_g a b s e) (ta_g c d s e) (fun g2 => ?_) (fun g2 => ?_) rfl rfl (by omega) (by omega)) (fun g => ?_) rfl rfl (by omega) (by omega)
  · refine br_f (by decide) (ta_380 ?_ hQ hg hg1 H)
    rcases h2 with ⟨_, rfl, rfl, rfl, rfl⟩ | ⟨_, rfl, rfl, rfl, rfl⟩
    · rw [if_pos g2]; rfl
    · rw [if_pos g]; rfl
  · refine br_t (by decide) ?_
    rcases h2 with ⟨rfl, rfl, rfl, rfl, rfl⟩ | ⟨rfl, rfl, rfl, rfl, rfl⟩
    · exact br_f (by decide) (ta_380 (by rw [if_neg (by omega)]; rfl) hQ hg hg1 H)
    · exact br_t (by decide) (ta_380 (by rw [if_pos g]; rfl) hQ hg hg1 H)
  · refine br_t (by decide) ?_
    rcases h2 with ⟨rfl, rfl, rfl, rfl, rfl⟩ | ⟨rfl, rfl, rfl, rfl, rfl⟩
    · exact br_f (by decide) (ta_380 (by rw [if_pos (by omega)]; rfl) hQ hg hg1 H)
    · exact br_t (by decide) (ta_380 (by rw [if_neg (by omega)]; rfl) hQ hg hg1 H)
theorem ta_261 {post : Int32 → St0 → Prop} {mc ms kc ks a b c d s e p q u v : Nat} {f : Bool} {z0 z1 : Int32} (hz : z1 = z0) (hQ : ta_Q a b c d s e p q u v f) (hg : ta_G p q u v a1 a2 a3) (hg1 : ta_G1 s e a1 a2 a3) (H : post 1 ()) :
    wL_lawOf_261 post mc ms (nI a) (nI b) (nI c) (nI d) (nI s) (nI e) (ta_b f) (nI (65 * s + e)) (nI (ta_k a b s e)) (nI (ta_k c d s e)) (nI (ta_k a b c d)) z0 z1 kc ks fr fo fh fb a1 a2 a3 a4 a5 a6 a7 a8 a9 a10 a11 a12 a13 a14 := by
  have hQ' := hQ
  obtain ⟨_, h2⟩ := hQ'
  have h65 : ∀ x y : Nat, nI (65 * x + y) = (65 : Int32) * nI x + nI y := fun x y => by rw [show (65 : Int32) * nI x = nI (65 * x) from pk_mul 65 x, nI_add]
  unfold wL_lawOf_261
  refine br_t hz (ta_stretch rfl rfl hg ?_)
  rcases h2 with ⟨rfl, rfl, rfl, rfl, rfl⟩ | ⟨rfl, rfl, rfl, rfl, rfl⟩
  · exact br_f (by decide) (ta_301 (h65 _ _) hQ hg hg1 H)
  · exact br_t (by decide) (ta_301 (h65 _ _) hQ hg hg1 H)
theorem ta_204 {post : Int32 → St0 → Prop} {mc ms kc ks a b c d s e p q u v : Nat} {f : Bool} {z0 z1 : Int32} (hz : z1 + z0 = nI (ta_ov a b s e + ta_ov c d s e)) (hQ : ta_Q a b c d s e p q u v f) (hg : ta_G p q u v a1 a2 a3) (hg1 : ta_G1 s e a1 a2 a3) (H : post 1 ()) :
    wL_lawOf_204 post mc ms (nI a) (nI b) (nI c) (nI d) (nI s) (nI e) (ta_b f) (nI (65 * s + e)) (nI (ta_k a b s e)) (nI (ta_k c d s e)) (nI (ta_k a b c d)) z0 z1 kc ks fr fo fh (-1) a1 a2 a3 a4 a5 a6 a7 a8 a9 a10 a11 a12 a13 a14 := by
  have hb := ta_Q_b hQ
  have hn := ta_q_n hQ
  have hw := ta_q_w hQ
  have hk := ta_ovk (a := a) (b := b) (s := c) (e := d) (by omega) (by omega)
  have k4 := ta_k_b (a := a) (b := b) (c := c) (d := d) (by omega)
  unfold wL_lawOf_204
  refine nm_r hz ?_
  refine ta_overlapping rfl rfl hQ.1 hg (fun z => absurd z (by decide)) (fun z4 z5 z6 z7 z8 z9 _ => ?_)
  refine ta_meet1 rfl rfl hQ.1 hg hg1 (fun z => absurd z (by decide)) (fun f1 y4 y5 y6 y7 y8 y9 _ => ?_)
  refine ta_meet0 rfl rfl hQ.1 hg (fun z => absurd z (by decide)) (fun f2 x4 x5 x6 x7 x8 x9 _ => ?_)
  refine br_t (congrArg nI hn) (br_t (congrArg nI hn) ?_)
  rw [hw]
  refine pk_le (ta_k a b c d) 0 (fun g => ?_) (fun g => ?_) rfl rfl (by omega)
  · rw [hk.2 (by omega)]
    exact ta_261 rfl hQ hg hg1 H
  · rw [hk.1 g]
    exact ta_261 rfl hQ hg hg1 H
theorem ta_194 {post : Int32 → St0 → Prop} {mc ms kc ks a b c d s e p q u v : Nat} {f : Bool} {z0 : Int32} (hz : z0 = nI (ta_ov a b s e)) (hQ : ta_Q a b c d s e p q u v f) (hg : ta_G p q u v a1 a2 a3) (hg1 : ta_G1 s e a1 a2 a3) (H : post 1 ()) :
    wL_lawOf_194 post mc ms (nI a) (nI b) (nI c) (nI d) (nI s) (nI e) (ta_b f) (nI (65 * s + e)) (nI (ta_k a b s e)) (nI (ta_k c d s e)) (nI (ta_k a b c d)) z0 kc ks fr fo fh (-1) a1 a2 a3 a4 a5 a6 a7 a8 a9 a10 a11 a12 a13 a14 := by
  subst hz
  have hb := ta_Q_b hQ
  have hk := ta_ovk (a := c) (b := d) (s := s) (e := e) (by omega) (by omega)
  have k4 := ta_k_b (a := c) (b := d) (c := s) (d := e) (by omega)
  unfold wL_lawOf_194
  refine pk_le (ta_k c d s e) 0 (fun g => ?_) (fun g => ?_) rfl rfl (by omega)
  · exact ta_204 (by rw [hk.2 (by omega)]; exact nI_add _ 0) hQ hg hg1 H
  · exact ta_204 (by rw [hk.1 g]; exact nI_add _ 1) hQ hg hg1 H
end
end
section
section
theorem ta_79 {post : Int32 → St0 → Prop} {a b c d s e : Nat} {f : Bool} (h1 : a < b) (h2 : c < d) (h3 : s < e) (h4 : b < 64) (h5 : d < 64) (h6 : e < 64) (hf : (f = true ∧ (a < c ∨ (a = c ∧ d ≤ b))) ∨ (f = false ∧ ¬ (a < c ∨ (a = c ∧ d ≤ b)))) (H : post 1 ()) :
    wL_lawOf_79 post 15 608 (nI a) (nI b) (nI c) (nI d) (nI s) (nI e) (ta_b f) 0 0 := by
  have h65 : ∀ x y : Nat, (65 : Int32) * nI x + nI y = nI (65 * x + y) := fun x y => by rw [show (65 : Int32) * nI x = nI (65 * x) from pk_mul 65 x, nI_add]
  have hk := ta_ovk (a := a) (b := b) (s := s) (e := e) h1 h3
  have k4 := ta_k_b (a := a) (b := b) (c := s) (d := e) (by omega)
  unfold wL_lawOf_79
  refine ⟨by omega, by omega, 14, 590, by omega, by omega, ?_⟩
  refine ⟨by omega, by omega, by omega, by omega, by omega, by omega, by omega, by omega, by omega, by omega, by omega, by omega, by omega, by omega, by omega, by omega, by omega, by omega, by omega, by omega, by omega, by omega, by omega, by omega, by omega, by omega, by omega, by omega, ?_⟩
  refine ta_add0 (t := 0) rfl (h65 a b) (by omega) h1 (by omega) rfl (fun r1 => ?_)
  refine ta_add1 (a := a) (b := b) (c := c) (d := d) rfl (h65 c d) (by omega) (by omega) h2 (by omega) rfl rfl rfl (fun g r2 => ?_) (fun g r2 => ?_)
  · have f1 : f = true := by
      rcases hf with h | h
      · exact h.1
      · exact absurd g h.2
    subst f1
    refine ta_add0 (t := 1) rfl (h65 s e) (by omega) h3 (by omega) rfl (fun r3 => ?_)
    refine nm_r (h65 s e) ?_
    refine ta_common rfl rfl rfl rfl (by omega) (by omega) (by omega) (by omega) (ta_common rfl rfl rfl rfl (by omega) (by omega) (by omega) (by omega) (ta_common rfl rfl rfl rfl (by omega) (by omega) (by omega) (by omega) ?_))
    have hQ : ta_Q a b c d s e a b c d true := ⟨⟨h1, h2, h3, h4, h5, h6, g⟩, Or.inl ⟨rfl, rfl, rfl, rfl, rfl⟩⟩
    refine pk_le (ta_k a b s e) 0 (fun z => ?_) (fun z => ?_) rfl rfl (by omega)
    · exact ta_194 (by rw [hk.2 (by omega)]; rfl) hQ ⟨rfl, rfl, rfl, rfl, rfl⟩ ⟨rfl, rfl, rfl⟩ H
    · exact ta_194 (by rw [hk.1 z]; rfl) hQ ⟨rfl, rfl, rfl, rfl, rfl⟩ ⟨rfl, rfl, rfl⟩ H
  · have f1 : f = false := by
      rcases hf with h | h
      · exact absurd h.2 g
      · exact h.1
    subst f1
    refine ta_add0 (t := 1) rfl (h65 s e) (by omega) h3 (by omega) rfl (fun r3 => ?_)
    refine nm_r (h65 s e) ?_
    refine ta_common rfl rfl rfl rfl (by omega) (by omega) (by omega) (by omega) (ta_common rfl rfl rfl rfl (by omega) (by omega) (by omega) (by omega) (ta_common rfl rfl rfl rfl (by omega) (by omega) (by omega) (by omega) ?_))
    have hQ : ta_Q a b c d s e c d a b false := ⟨⟨h2, h1, h3, h5, h4, h6, by omega⟩, Or.inr ⟨rfl, rfl, rfl, rfl, rfl⟩⟩
    refine pk_le (ta_k a b s e) 0 (fun z => ?_) (fun z => ?_) rfl rfl (by omega)
    · exact ta_194 (by rw [hk.2 (by omega)]; rfl) hQ ⟨rfl, rfl, rfl, rfl, rfl⟩ ⟨rfl, rfl, rfl⟩ H
    · exact ta_194 (by rw [hk.1 z]; rfl) hQ ⟨rfl, rfl, rfl, rfl, rfl⟩ ⟨rfl, rfl, rfl⟩ H
theorem ta_lawOf {post : Int32 → St0 → Prop} {p0 p1 p2 p3 p4 p5 : Int32} (H : post 1 ()) : wpL_lawOf post 15 608 () p0 p1 p2 p3 p4 p5 := by
  obtain ⟨a, ha, ea⟩ := pk_andE p0 (m := 31) 5 (by decide)
  obtain ⟨b, hb, eb⟩ := pk_andE p1 (m := 31) 5 (by decide)
  obtain ⟨c, hc, ec⟩ := pk_andE p2 (m := 31) 5 (by decide)
  obtain ⟨d, hd, ed⟩ := pk_andE p3 (m := 31) 5 (by decide)
  obtain ⟨s, hs, es⟩ := pk_andE p4 (m := 31) 5 (by decide)
  obtain ⟨e, he, ee⟩ := pk_andE p5 (m := 31) 5 (by decide)
  unfold wpL_lawOf
  refine nm_r ea (nm_r (e' := nI (a + 1 + b)) (by rw [nI_1, eb, nI_add]) (nm_r ec (nm_r (e' := nI (c + 1 + d)) (by rw [nI_1, ed, nI_add]) (nm_r es (nm_r (e' := nI (s + 1 + e)) (by rw [nI_1, ee, nI_add]) ?_)))))
  have L : ∀ f : Bool, ((f = true ∧ (a < c ∨ (a = c ∧ c + 1 + d ≤ a + 1 + b))) ∨ (f = false ∧ ¬ (a < c ∨ (a = c ∧ c + 1 + d ≤ a + 1 + b)))) → wL_lawOf_79 post 15 608 (nI a) (nI (a + 1 + b)) (nI c) (nI (c + 1 + d)) (nI s) (nI (s + 1 + e)) (ta_b f) 0 0 := fun f hf => ta_79 (by omega) (by omega) (by omega) (by omega) (by omega) (by omega) hf H
  refine pk_lt a c (fun g => L true (Or.inl ⟨rfl, by omega⟩)) (fun g => pk_eq a c (fun g2 => ?_) (fun g2 => L false (Or.inr ⟨rfl, by omega⟩)))
  exact pk_lt (a + 1 + b) (c + 1 + d) (fun g3 => L false (Or.inr ⟨rfl, by omega⟩)) (fun g3 => L true (Or.inl ⟨rfl, by omega⟩))
theorem ta_cell {post : Int32 → Prop} {L k : Nat} {xs : Nat → Int32} (hL : L ≤ 6) (hk : k < 6) (H : ∀ x, post x) : wpL_cellAt post L xs () (nI k) :=
  pk_le L k (fun _ => H 0) (fun g => ⟨pk_in k L g, H _⟩)
theorem i_vc (xs : Nat → Int32) (L : Nat) (hL : L ≤ 6) : wpL_law (fun r => r = 1) L xs := by
  unfold wpL_law
  refine ta_cell (k := 0) hL (by omega) (fun r1 => ta_cell (k := 1) hL (by omega) (fun r2 => ta_cell (k := 2) hL (by omega) (fun r3 => ta_cell (k := 3) hL (by omega) (fun r4 => ta_cell (k := 4) hL (by omega) (fun r5 => ta_cell (k := 5) hL (by omega) (fun r6 => ?_))))))
  exact ⟨15, 608, by omega, by omega, ta_lawOf rfl⟩
end
end
