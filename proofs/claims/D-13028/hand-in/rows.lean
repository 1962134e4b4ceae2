section
/-! ===== the pure picture ===== -/
def qz_G (p g : Nat) : Nat := (if g % 2 = 0 then 0 else p % 4) + 4 * (if g / 2 % 2 = 0 then 0 else p / 4 % 5) + 20 * (if g / 4 = 0 then 0 else p / 20)
def qz_pass (p F d : Nat) : Bool := (decide (d % 2 = 0) || F.testBit (p % 4)) && (decide (d / 2 % 2 = 0) || F.testBit (4 + p / 4 % 5)) && (decide (d / 4 = 0) || F.testBit (9 + p / 20))
def qz_C (f : Nat → Bool) : Nat → Nat
  | 0 => 0
  | n + 1 => qz_C f n + (if f n = true then 1 else 0)
def qz_S (f : Nat → Bool) (v : Nat → Int32) : Nat → Int32
  | 0 => 0
  | n + 1 => qz_S f v n + (if f n = true then v n else 0)
def qz_L (P : Nat → Nat) (p : Nat) : Nat → Int32
  | 0 => -1
  | n + 1 => if P n = p then nI n else qz_L P p n
def qz_M (n : Nat) (f : Nat → Bool) (v : Nat → Int32) (r : Int32) : Prop := (∀ j, j < n → f j = true → v j ≤ r) ∧ (-4000000 : Int32) ≤ r ∧ (r = -4000000 ∨ ∃ j, j < n ∧ f j = true ∧ v j = r)
def qz_T (n : Nat) (f : Nat → Bool) (o : Nat → Nat) (W : Nat → Int32) (t nm : Int32) : Prop :=
  ((∀ j, j < n → f j = false) ∧ t = -4000000 ∧ nm = -4000000) ∨
  (∃ b, b < n ∧ f b = true ∧ nm = nI (o b) ∧ t = W (o b) ∧ ∀ c, c < n → f c = true → W (o c) < W (o b) ∨ (W (o c) = W (o b) ∧ o b ≤ o c))
theorem qz_C_s (f : Nat → Bool) (n : Nat) : qz_C f (n + 1) = qz_C f n + (if f n = true then 1 else 0) := rfl
theorem qz_S_s (f : Nat → Bool) (v : Nat → Int32) (n : Nat) : qz_S f v (n + 1) = qz_S f v n + (if f n = true then v n else 0) := rfl
theorem qz_L_s (P : Nat → Nat) (p n : Nat) : qz_L P p (n + 1) = if P n = p then nI n else qz_L P p n := rfl
theorem qz_C_le (f : Nat → Bool) (n : Nat) : qz_C f n ≤ n := by
  induction n with
  | zero => exact Nat.le_refl 0
  | succ n ih =>
    rw [qz_C_s]
    split <;> omega
theorem qz_C_congr {f g : Nat → Bool} {n : Nat} (h : ∀ j, j < n → f j = g j) : qz_C f n = qz_C g n := by
  induction n with
  | zero => rfl
  | succ n ih => rw [qz_C_s, qz_C_s, ih (fun j hj => h j (by omega)), h n (by omega)]
theorem qz_S_congr {f g : Nat → Bool} {v w : Nat → Int32} {n : Nat} (h : ∀ j, j < n → f j = g j) (hv : ∀ j, j < n → v j = w j) : qz_S f v n = qz_S g w n := by
  induction n with
  | zero => rfl
  | succ n ih => rw [qz_S_s, qz_S_s, ih (fun j hj => h j (by omega)) (fun j hj => hv j (by omega)), h n (by omega), hv n (by omega)]
theorem qz_C_or {f g h : Nat → Bool} {n : Nat} (e : ∀ j, j < n → f j = (g j || h j)) (d : ∀ j, j < n → (g j && h j) = false) : qz_C f n = qz_C g n + qz_C h n := by
  induction n with
  | zero => rfl
  | succ n ih =>
    rw [qz_C_s, qz_C_s, qz_C_s, ih (fun j hj => e j (by omega)) (fun j hj => d j (by omega)), e n (by omega)]
    have hd := d n (by omega)
    revert hd
    cases g n <;> cases h n <;> simp <;> omega
theorem qz_i_swap (a b c : Int32) : a + b + c = a + c + b := by grind
theorem qz_S_or {f g h : Nat → Bool} {v : Nat → Int32} {n : Nat} (e : ∀ j, j < n → f j = (g j || h j)) (d : ∀ j, j < n → (g j && h j) = false) : qz_S f v n = qz_S g v n + qz_S h v n := by
  induction n with
  | zero => rfl
  | succ n ih =>
    rw [qz_S_s, qz_S_s, qz_S_s, ih (fun j hj => e j (by omega)) (fun j hj => d j (by omega)), e n (by omega)]
    have hd := d n (by omega)
    revert hd
    generalize qz_S g v n = A
    generalize qz_S h v n = B
    generalize v n = x
    cases g n <;> cases h n
    · intro _
      show A + B + 0 = A + 0 + (B + 0)
      grind
    · intro _
      show A + B + x = A + 0 + (B + x)
      grind
    · intro _
      show A + B + x = A + x + (B + 0)
      grind
    · intro z
      exact absurd z (by decide)
theorem qz_C_0 {f : Nat → Bool} {n : Nat} (h : ∀ j, j < n → f j = false) : qz_C f n = 0 := by
  induction n with
  | zero => rfl
  | succ n ih =>
    rw [qz_C_s, ih (fun j hj => h j (by omega)), h n (by omega)]
    rfl
theorem qz_S_0 {f : Nat → Bool} {v : Nat → Int32} {n : Nat} (h : ∀ j, j < n → f j = false) : qz_S f v n = 0 := by
  induction n with
  | zero => rfl
  | succ n ih =>
    rw [qz_S_s, ih (fun j hj => h j (by omega)), h n (by omega)]
    rfl
theorem qz_C_no {f : Nat → Bool} {n : Nat} (h : qz_C f n = 0) : ∀ j, j < n → f j = false := by
  induction n with
  | zero => exact fun j hj => absurd hj (by omega)
  | succ n ih =>
    rw [qz_C_s] at h
    intro j hj
    by_cases e : j = n
    · subst e
      cases hf : f j with
      | false => rfl
      | true =>
        rw [hf, if_pos rfl] at h
        omega
    · exact ih (by omega) j (by omega)
theorem qz_C_pos {f : Nat → Bool} {n : Nat} (h : 0 < qz_C f n) : ∃ j, j < n ∧ f j = true := by
  induction n with
  | zero => exact absurd h (Nat.lt_irrefl 0)
  | succ n ih =>
    rw [qz_C_s] at h
    cases hf : f n with
    | true => exact ⟨n, by omega, hf⟩
    | false =>
      rw [hf] at h
      obtain ⟨j, hj, e⟩ := ih h
      exact ⟨j, by omega, e⟩
theorem qz_C_in {f : Nat → Bool} {n j : Nat} (hj : j < n) (hf : f j = true) : 0 < qz_C f n := by
  rcases Nat.eq_zero_or_pos (qz_C f n) with h | h
  · have := qz_C_no h j hj
    rw [hf] at this
    exact absurd this (by decide)
  · exact h
theorem qz_C_one {k : Nat} : ∀ m, qz_C (fun p => decide (p = k)) m = if k < m then 1 else 0
  | 0 => by rw [if_neg (by omega)]; rfl
  | m + 1 => by
    rw [qz_C_s, qz_C_one m]
    by_cases e : m = k
    · rw [decide_eq_true e, if_pos rfl, if_neg (show ¬ k < m by omega), if_pos (show k < m + 1 by omega)]
    · rw [decide_eq_false e, if_neg (show ¬ false = true by decide)]
      by_cases h : k < m
      · rw [if_pos h, if_pos (show k < m + 1 by omega)]
      · rw [if_neg h, if_neg (show ¬ k < m + 1 by omega)]
theorem qz_add_toInt {x y : Int32} (h1 : -1000000000 ≤ x.toInt + y.toInt) (h2 : x.toInt + y.toInt ≤ 1000000000) : (x + y).toInt = x.toInt + y.toInt := by
  rw [Int32.toInt_add]
  exact Int.bmod_eq_of_le (by omega) (by omega)
theorem qz_sub_toInt {x y : Int32} (h1 : -1000000000 ≤ x.toInt - y.toInt) (h2 : x.toInt - y.toInt ≤ 1000000000) : (x - y).toInt = x.toInt - y.toInt := by
  rw [Int32.toInt_sub]
  exact Int.bmod_eq_of_le (by omega) (by omega)
theorem qz_S_b {f : Nat → Bool} {v : Nat → Int32} : ∀ n, n ≤ 8 → (∀ j, j < n → -50 ≤ (v j).toInt ∧ (v j).toInt ≤ 50) → -(50 * (n : Int)) ≤ (qz_S f v n).toInt ∧ (qz_S f v n).toInt ≤ 50 * (n : Int)
  | 0, _, _ => by
    show -(50 * ((0 : Nat) : Int)) ≤ (0 : Int32).toInt ∧ (0 : Int32).toInt ≤ 50 * ((0 : Nat) : Int)
    decide
  | n + 1, hn, h => by
    have ih := qz_S_b (f := f) (v := v) n (by omega) (fun j hj => h j (by omega))
    have hb := h n (by omega)
    have h0 : (0 : Int32).toInt = 0 := by decide
    rw [qz_S_s]
    cases f n with
    | true =>
      rw [if_pos rfl, qz_add_toInt (by omega) (by omega)]
      omega
    | false =>
      rw [if_neg (by decide), qz_add_toInt (by omega) (by omega)]
      omega
/-! the lists -/
theorem qz_L_cases (P : Nat → Nat) (p : Nat) : ∀ n, (qz_L P p n = -1 ∧ ∀ j, j < n → P j ≠ p) ∨ ∃ j, j < n ∧ qz_L P p n = nI j ∧ P j = p ∧ ∀ i, j < i → i < n → P i ≠ p
  | 0 => Or.inl ⟨rfl, fun j hj => absurd hj (by omega)⟩
  | n + 1 => by
    rw [qz_L_s]
    by_cases e : P n = p
    · rw [if_pos e]
      exact Or.inr ⟨n, by omega, rfl, e, fun i h1 h2 => absurd h1 (by omega)⟩
    · rw [if_neg e]
      rcases qz_L_cases P p n with ⟨h1, h2⟩ | ⟨j, h1, h2, h3, h4⟩
      · refine Or.inl ⟨h1, fun j hj => ?_⟩
        by_cases ej : j = n
        · rw [ej]; exact e
        · exact h2 j (by omega)
      · refine Or.inr ⟨j, by omega, h2, h3, fun i g1 g2 => ?_⟩
        by_cases ei : i = n
        · rw [ei]; exact e
        · exact h4 i g1 (by omega)
theorem qz_L_congr {P Q : Nat → Nat} {p : Nat} : ∀ n, (∀ j, j < n → P j = Q j) → qz_L P p n = qz_L Q p n
  | 0, _ => rfl
  | n + 1, h => by rw [qz_L_s, qz_L_s, h n (by omega), qz_L_congr n (fun j hj => h j (by omega))]
/-! the greatest -/
theorem qz_M_uniq {n : Nat} {f : Nat → Bool} {v : Nat → Int32} {r s : Int32} (h : qz_M n f v r) (k : qz_M n f v s) : r = s := by
  obtain ⟨h1, h2, h3⟩ := h
  obtain ⟨k1, k2, k3⟩ := k
  apply Int32.le_antisymm
  · rcases h3 with e | ⟨j, hj, hf, e⟩
    · rw [e]; exact k2
    · rw [← e]; exact k1 j hj hf
  · rcases k3 with e | ⟨j, hj, hf, e⟩
    · rw [e]; exact h2
    · rw [← e]; exact h1 j hj hf
theorem qz_M_0 {n : Nat} {f : Nat → Bool} {v : Nat → Int32} (h : ∀ j, j < n → f j = false) : qz_M n f v (-4000000) :=
  ⟨fun j hj hf => by rw [h j hj] at hf; exact absurd hf (by decide), Int32.le_refl _, Or.inl rfl⟩
theorem qz_M_congr {n : Nat} {f g : Nat → Bool} {v : Nat → Int32} {r : Int32} (e : ∀ j, j < n → g j = f j) (h : qz_M n f v r) : qz_M n g v r := by
  obtain ⟨h1, h2, h3⟩ := h
  refine ⟨fun j hj hf => h1 j hj (by rw [← e j hj]; exact hf), h2, ?_⟩
  rcases h3 with z | ⟨j, hj, hf, z⟩
  · exact Or.inl z
  · exact Or.inr ⟨j, hj, by rw [e j hj]; exact hf, z⟩
theorem qz_M_or1 {n : Nat} {f g h : Nat → Bool} {v : Nat → Int32} {r s : Int32} (e : ∀ j, j < n → g j = (f j || h j)) (hf : qz_M n f v r) (hh : qz_M n h v s) (l : s ≤ r) : qz_M n g v r := by
  obtain ⟨h1, h2, h3⟩ := hf
  obtain ⟨k1, k2, k3⟩ := hh
  refine ⟨fun j hj z => ?_, h2, ?_⟩
  · rw [e j hj, Bool.or_eq_true] at z
    rcases z with z | z
    · exact h1 j hj z
    · exact Int32.le_trans (k1 j hj z) l
  · rcases h3 with z | ⟨j, hj, hf, z⟩
    · exact Or.inl z
    · exact Or.inr ⟨j, hj, by rw [e j hj, hf]; rfl, z⟩
theorem qz_M_or2 {n : Nat} {f g h : Nat → Bool} {v : Nat → Int32} {r s : Int32} (e : ∀ j, j < n → g j = (f j || h j)) (hf : qz_M n f v r) (hh : qz_M n h v s) (l : ¬ s ≤ r) : qz_M n g v s :=
  qz_M_or1 (f := h) (h := f) (fun j hj => by rw [e j hj, Bool.or_comm]) hh hf (Int32.le_of_lt (Int32.not_le.mp l))
/-- one fact more -/
theorem qz_M_s1 {n : Nat} {f : Nat → Bool} {v : Nat → Int32} {r : Int32} (h : qz_M n f v r) (hn : f n = true) (l : ¬ v n ≤ r) : qz_M (n + 1) f v (v n) := by
  obtain ⟨h1, h2, h3⟩ := h
  have l' : r ≤ v n := Int32.le_of_lt (Int32.not_le.mp l)
  refine ⟨fun j hj z => ?_, Int32.le_trans h2 l', Or.inr ⟨n, by omega, hn, rfl⟩⟩
  by_cases e : j = n
  · rw [e]; exact Int32.le_refl _
  · exact Int32.le_trans (h1 j (by omega) z) l'
theorem qz_M_s0 {n : Nat} {f : Nat → Bool} {v : Nat → Int32} {r : Int32} (h : qz_M n f v r) (hn : f n = true → v n ≤ r) : qz_M (n + 1) f v r := by
  obtain ⟨h1, h2, h3⟩ := h
  refine ⟨fun j hj z => ?_, h2, ?_⟩
  · by_cases e : j = n
    · rw [e] at z ⊢; exact hn z
    · exact h1 j (by omega) z
  · rcases h3 with z | ⟨j, hj, hf, z⟩
    · exact Or.inl z
    · exact Or.inr ⟨j, by omega, hf, z⟩
/-! how many groups -/
theorem qz_groups {f : Nat → Bool} {o : Nat → Nat} {m : Nat} : ∀ n, (∀ j, j < n → o j < m) → qz_C (fun p => decide (0 < qz_C (fun j => f j && decide (o j = p)) n)) m = qz_C (fun a => f a && decide (qz_C (fun b => f b && decide (o b = o a)) a = 0)) n
  | 0, _ => qz_C_0 (fun j _ => decide_eq_false (Nat.lt_irrefl 0))
  | n + 1, h => by
    have ih := qz_groups (f := f) (o := o) (m := m) n (fun j hj => h j (by omega))
    rw [qz_C_s (fun a => f a && decide (qz_C (fun b => f b && decide (o b = o a)) a = 0)), ← ih]
    cases hf : f n with
    | false =>
      rw [Bool.false_and, if_neg (by decide), Nat.add_zero]
      refine qz_C_congr (fun p _ => ?_)
      rw [qz_C_s, hf, Bool.false_and, if_neg (by decide), Nat.add_zero]
    | true =>
      rw [Bool.true_and]
      by_cases z : qz_C (fun b => f b && decide (o b = o n)) n = 0
      · rw [decide_eq_true z, if_pos rfl]
        rw [qz_C_or (g := fun p => decide (0 < qz_C (fun j => f j && decide (o j = p)) n)) (h := fun p => decide (p = o n))]
        · rw [qz_C_one, if_pos (h n (by omega))]
        · intro p _
          show decide (0 < qz_C (fun j => f j && decide (o j = p)) (n + 1)) = (decide (0 < qz_C (fun j => f j && decide (o j = p)) n) || decide (p = o n))
          rw [qz_C_s, hf, Bool.true_and]
          by_cases e : p = o n
          · rw [decide_eq_true e, decide_eq_true e.symm, if_pos rfl, Bool.or_true]
            exact decide_eq_true (by omega)
          · rw [decide_eq_false e, decide_eq_false (show ¬ o n = p from fun t => e t.symm), if_neg (by decide), Bool.or_false, Nat.add_zero]
        · intro p _
          show (decide (0 < qz_C (fun j => f j && decide (o j = p)) n) && decide (p = o n)) = false
          by_cases e : p = o n
          · rw [e, z]
            rfl
          · rw [decide_eq_false e, Bool.and_false]
      · rw [decide_eq_false z, if_neg (by decide), Nat.add_zero]
        refine qz_C_congr (fun p _ => ?_)
        rw [qz_C_s, hf, Bool.true_and]
        by_cases e : o n = p
        · rw [decide_eq_true e, if_pos rfl]
          rw [← e]
          rw [decide_eq_true (show 0 < qz_C (fun j => f j && decide (o j = o n)) n by omega)]
          exact decide_eq_true (by omega)
        · rw [decide_eq_false e, if_neg (by decide), Nat.add_zero]
/-! top and name -/
theorem qz_T_uniq {n : Nat} {f : Nat → Bool} {o : Nat → Nat} {W : Nat → Int32} {t nm t' nm' : Int32} (h : qz_T n f o W t nm) (k : qz_T n f o W t' nm') : t = t' ∧ nm = nm' := by
  rcases h with ⟨h0, h1, h2⟩ | ⟨b, h1, h2, h3, h4, h5⟩
  · rcases k with ⟨_, k1, k2⟩ | ⟨c, k1, k2, _⟩
    · exact ⟨h1.trans k1.symm, h2.trans k2.symm⟩
    · rw [h0 c k1] at k2
      exact absurd k2 (by decide)
  · rcases k with ⟨k0, k1, k2⟩ | ⟨c, k1, k2, k3, k4, k5⟩
    · rw [k0 b h1] at h2
      exact absurd h2 (by decide)
    · have e : W (o c) = W (o b) ∧ o b = o c := by
        rcases h5 c k1 k2 with z | ⟨z, y⟩
        · rcases k5 b h1 h2 with w | ⟨w, _⟩
          · rw [Int32.lt_iff_toInt_lt] at z w
            omega
          · rw [w] at z
            exact absurd z Int32.lt_irrefl
        · rcases k5 b h1 h2 with w | ⟨w, x⟩
          · rw [z] at w
            exact absurd w Int32.lt_irrefl
          · exact ⟨z, by omega⟩
      rw [h3, h4, k3, k4, e.2]
      exact ⟨rfl, rfl⟩
end
section
/-! ===== bits, groups, filters ===== -/
def qz_b : Bool → Int32
  | true => 1
  | false => 0
def qz_cuts (F : Nat) : Nat := (if F % 16 = 15 then 0 else 1) + (if F / 16 % 32 = 31 then 0 else 2) + (if F / 512 = 63 then 0 else 4)
theorem qz_10 : ¬ (1 : Int32) = 0 := by decide
theorem qz_sl : ∀ n, n < 32 → ((nI n &&& 31).toBitVec.smod 32).toNat = n := by decide +kernel
theorem qz_a1 : ∀ g, g < 8 → ((nI g &&& 1) = 0 ↔ g % 2 = 0) := by decide +kernel
theorem qz_a2 : ∀ g, g < 8 → ((nI g &&& 2) = 0 ↔ g / 2 % 2 = 0) := by decide +kernel
theorem qz_a4 : ∀ g, g < 8 → ((nI g &&& 4) = 0 ↔ g / 4 = 0) := by decide +kernel
theorem qz_or8 : ∀ c, c < 8 → ∀ g, g < 8 → nI c ||| nI g = nI (c ||| g) ∧ c ||| g < 8 := by decide +kernel
theorem qz_and8 : ∀ g, g < 8 → ∀ d, d < 8 → ((nI g &&& nI d) = nI d ↔ g &&& d = d) := by decide +kernel
theorem qz_or2 : ∀ z, z < 2 → nI z ||| 2 = nI (z + 2) := by decide +kernel
theorem qz_or4 : ∀ z, z < 4 → nI z ||| 4 = nI (z + 4) := by decide +kernel
theorem qz_mod4 {p : Nat} (hp : p < 1000) : nI p - nI p / 4 * 4 = nI (p % 4) := pk_rem (a := p) (d := 4) (by omega) (by omega) (by omega)
theorem qz_div4 {p : Nat} (hp : p < 1000) : nI p / 4 = nI (p / 4) := pk_div (a := p) (d := 4) (by omega) (by omega) (by omega)
theorem qz_div20 {p : Nat} (hp : p < 1000) : nI p / 20 = nI (p / 20) := pk_div (a := p) (d := 20) (by omega) (by omega) (by omega)
theorem qz_kind {p : Nat} (hp : p < 1000) : nI p / 4 - nI p / 4 / 5 * 5 = nI (p / 4 % 5) := by
  rw [qz_div4 hp]
  exact pk_rem (a := p / 4) (d := 5) (by omega) (by omega) (by omega)
theorem qz_bit {F s : Nat} (hF : F < 32768) (hs : s < 32) : ((nI F >>> (nI s &&& 31)) &&& 1) = 1 ↔ F.testBit s = true := by
  have hd : F / 2 ^ s ≤ F := Nat.div_le_self _ _
  rw [pk_shrN (by omega) _ s (qz_sl s hs), pk_andN (m := 1) (by omega) 1 (by decide), Nat.testBit_eq_decide_div_mod_eq, decide_eq_true_iff]
  generalize F / 2 ^ s = z at *
  show nI (z % 2 ^ 1) = nI 1 ↔ _
  rw [nI_eq (by omega) (by omega)]
theorem qz_G_lt : ∀ p, p < 120 → ∀ g, g < 8 → qz_G p g < 120 := by decide +kernel
theorem qz_G_G : ∀ p, p < 120 → ∀ g, g < 8 → ∀ r, r < 8 → g &&& r = r → qz_G (qz_G p g) r = qz_G p r := by decide +kernel
theorem qz_G_0 (p : Nat) : qz_G p 0 = 0 := rfl
theorem qz_G_c1 : ∀ p, p < 120 → ∀ g, g < 8 → (g % 2 ≠ 0 → qz_G p g % 4 = p % 4) ∧ (g / 2 % 2 ≠ 0 → qz_G p g / 4 % 5 = p / 4 % 5) ∧ (g / 4 ≠ 0 → qz_G p g / 20 = p / 20) := by decide +kernel
theorem qz_dim0 : ∀ c, c < 8 → ∀ r, r < 8 → ∀ g, g < 8 → g &&& (c ||| r) = c ||| r → g &&& r = r := by decide +kernel
theorem qz_sub1 : ∀ g, g < 8 → ∀ d, d < 8 → g &&& d = d → d % 2 ≠ 0 → g % 2 ≠ 0 := by decide +kernel
theorem qz_lor1 : ∀ c, c < 8 → ∀ r, r < 8 → (c ||| r) % 2 = 0 → c % 2 = 0 := by decide +kernel
theorem qz_dim1 {c r g : Nat} (hc : c < 8) (hr : r < 8) (hg : g < 8) (h : g &&& (c ||| r) = c ||| r) : ((c ||| r) % 2 = 0 → c % 2 = 0) ∧ ((c ||| r) % 2 ≠ 0 → g % 2 ≠ 0) :=
  ⟨qz_lor1 c hc r hr, qz_sub1 g hg (c ||| r) (qz_or8 c hc r hr).2 h⟩
theorem qz_sub2 : ∀ g, g < 8 → ∀ d, d < 8 → g &&& d = d → d / 2 % 2 ≠ 0 → g / 2 % 2 ≠ 0 := by decide +kernel
theorem qz_lor2 : ∀ c, c < 8 → ∀ r, r < 8 → (c ||| r) / 2 % 2 = 0 → c / 2 % 2 = 0 := by decide +kernel
theorem qz_dim2 {c r g : Nat} (hc : c < 8) (hr : r < 8) (hg : g < 8) (h : g &&& (c ||| r) = c ||| r) : ((c ||| r) / 2 % 2 = 0 → c / 2 % 2 = 0) ∧ ((c ||| r) / 2 % 2 ≠ 0 → g / 2 % 2 ≠ 0) :=
  ⟨qz_lor2 c hc r hr, qz_sub2 g hg (c ||| r) (qz_or8 c hc r hr).2 h⟩
theorem qz_sub4 : ∀ g, g < 8 → ∀ d, d < 8 → g &&& d = d → d / 4 ≠ 0 → g / 4 ≠ 0 := by decide +kernel
theorem qz_lor4 : ∀ c, c < 8 → ∀ r, r < 8 → (c ||| r) / 4 = 0 → c / 4 = 0 := by decide +kernel
theorem qz_dim4 {c r g : Nat} (hc : c < 8) (hr : r < 8) (hg : g < 8) (h : g &&& (c ||| r) = c ||| r) : ((c ||| r) / 4 = 0 → c / 4 = 0) ∧ ((c ||| r) / 4 ≠ 0 → g / 4 ≠ 0) :=
  ⟨qz_lor4 c hc r hr, qz_sub4 g hg (c ||| r) (qz_or8 c hc r hr).2 h⟩
theorem qz_cuts_lt (F : Nat) : qz_cuts F < 8 := by
  unfold qz_cuts
  split <;> split <;> split <;> omega
theorem qz_cuts1 {F : Nat} (h : qz_cuts F % 2 = 0) : F % 16 = 15 := by
  unfold qz_cuts at h
  split at h <;> split at h <;> split at h <;> omega
theorem qz_cuts2 {F : Nat} (h : qz_cuts F / 2 % 2 = 0) : F / 16 % 32 = 31 := by
  unfold qz_cuts at h
  split at h <;> split at h <;> split at h <;> omega
theorem qz_cuts4 {F : Nat} (h : qz_cuts F / 4 = 0) : F / 512 = 63 := by
  unfold qz_cuts at h
  split at h <;> split at h <;> split at h <;> omega
theorem qz_all1 {F r : Nat} (h : F % 16 = 15) (hr : r < 4) : F.testBit r = true := by
  have e : (F % 2 ^ 4).testBit r = F.testBit r := by
    rw [Nat.testBit_mod_two_pow, decide_eq_true hr, Bool.true_and]
  rw [← e, show F % 2 ^ 4 = 15 from h]
  exact (by decide : ∀ r, r < 4 → Nat.testBit 15 r = true) r hr
theorem qz_all2 {F r : Nat} (h : F / 16 % 32 = 31) (hr : r < 5) : F.testBit (4 + r) = true := by
  have e : (F / 2 ^ 4 % 2 ^ 5).testBit r = F.testBit (4 + r) := by
    rw [Nat.testBit_mod_two_pow, decide_eq_true hr, Bool.true_and, Nat.testBit_div_two_pow, Nat.add_comm]
  rw [← e, show F / 2 ^ 4 % 2 ^ 5 = 31 from h]
  exact (by decide : ∀ r, r < 5 → Nat.testBit 31 r = true) r hr
theorem qz_all4 {F r : Nat} (h : F / 512 = 63) (hr : r < 6) : F.testBit (9 + r) = true := by
  have e : (F / 2 ^ 9).testBit r = F.testBit (9 + r) := by
    rw [Nat.testBit_div_two_pow, Nat.add_comm]
  rw [← e, show F / 2 ^ 9 = 63 from h]
  exact (by decide : ∀ r, r < 6 → Nat.testBit 63 r = true) r hr
theorem qz_pass_G {p F g r : Nat} (hp : p < 120) (hg : g < 8) (hr : r < 8) (h : g &&& (qz_cuts F ||| r) = qz_cuts F ||| r) : qz_pass (qz_G p g) F (qz_cuts F ||| r) = qz_pass p F 7 := by
  obtain ⟨d1, e1⟩ := qz_dim1 (qz_cuts_lt F) hr hg h
  obtain ⟨d2, e2⟩ := qz_dim2 (qz_cuts_lt F) hr hg h
  obtain ⟨d4, e4⟩ := qz_dim4 (qz_cuts_lt F) hr hg h
  obtain ⟨c1, c2, c4⟩ := qz_G_c1 p hp g hg
  generalize qz_cuts F ||| r = nd at *
  have k1 : (decide (nd % 2 = 0) || F.testBit (qz_G p g % 4)) = F.testBit (p % 4) := by
    by_cases z : nd % 2 = 0
    · rw [decide_eq_true z, Bool.true_or, qz_all1 (qz_cuts1 (d1 z)) (by omega)]
    · rw [decide_eq_false z, Bool.false_or, c1 (e1 z)]
  have k2 : (decide (nd / 2 % 2 = 0) || F.testBit (4 + qz_G p g / 4 % 5)) = F.testBit (4 + p / 4 % 5) := by
    by_cases z : nd / 2 % 2 = 0
    · rw [decide_eq_true z, Bool.true_or, qz_all2 (qz_cuts2 (d2 z)) (by omega)]
    · rw [decide_eq_false z, Bool.false_or, c2 (e2 z)]
  have k4 : (decide (nd / 4 = 0) || F.testBit (9 + qz_G p g / 20)) = F.testBit (9 + p / 20) := by
    by_cases z : nd / 4 = 0
    · rw [decide_eq_true z, Bool.true_or, qz_all4 (qz_cuts4 (d4 z)) (by omega)]
    · rw [decide_eq_false z, Bool.false_or, c4 (e4 z)]
  show ((decide (nd % 2 = 0) || F.testBit (qz_G p g % 4)) && (decide (nd / 2 % 2 = 0) || F.testBit (4 + qz_G p g / 4 % 5)) && (decide (nd / 4 = 0) || F.testBit (9 + qz_G p g / 20))) = ((false || F.testBit (p % 4)) && (false || F.testBit (4 + p / 4 % 5)) && (false || F.testBit (9 + p / 20)))
  rw [k1, k2, k4, Bool.false_or, Bool.false_or, Bool.false_or]
theorem qz_pass7 (p F : Nat) : qz_pass p F 7 = (F.testBit (p % 4) && F.testBit (4 + p / 4 % 5) && F.testBit (9 + p / 20)) := by
  show ((false || F.testBit (p % 4)) && (false || F.testBit (4 + p / 4 % 5)) && (false || F.testBit (9 + p / 20))) = _
  rw [Bool.false_or, Bool.false_or, Bool.false_or]
/-! ===== the small methods ===== -/
theorem qz_cells {post : Int32 → Prop} {u : St1} {x : Int32} (h : ∀ r, post r) : wpX_cells post u x := by
  obtain ⟨c0, a1, a2, a3, a4, a5, a6, a7, a8, a9⟩ := u
  have h25 : ∀ z, wX_cells_25 post x z c0 a1 a2 a3 a4 a5 a6 a7 a8 a9 := fun z => br_c (fun _ => h _) (fun _ => h _)
  have h11 : ∀ z, wX_cells_11 post x z c0 a1 a2 a3 a4 a5 a6 a7 a8 a9 := fun z => br_c (fun _ => h25 _) (fun _ => h25 _)
  exact br_c (fun _ => h11 _) (fun _ => h11 _)
theorem qz_ww18 {post : Int32 → Prop} {J4 : Int32 → Int32 → Prop} {x1 x2 x3 x4 c0 : Int32} {a1 a2 a3 a4 a5 a6 a7 a8 a9 : Nat → Int32} (h : ∀ y z, z = x3 + 1 → J4 y z) : ∃ fu, wX_workWith_18 post J4 x1 x2 x3 c0 a1 a2 a3 a4 a5 a6 a7 a8 a9 fu x4 0 :=
  pk_loop (fun n i s => wX_workWith_18 post J4 x1 x2 x3 c0 a1 a2 a3 a4 a5 a6 a7 a8 a9 n s (nI i)) (fun _ _ => True) 8 0 x4 (by omega) trivial
    (fun n s _ => pk_le 8 8 (fun _ => nm_e (fun z ez => h _ z ez)) (fun z => absurd z (by omega)))
    (fun n i s hi _ hw => by
      have hw' : ∀ s', wX_workWith_18 post J4 x1 x2 x3 c0 a1 a2 a3 a4 a5 a6 a7 a8 a9 n s' (nI (i + 1)) := fun s' => hw s' trivial
      have h41 : wX_workWith_41 post J4 (wX_workWith_18 post J4 x1 x2 x3 c0 a1 a2 a3 a4 a5 a6 a7 a8 a9 n) x1 x2 x3 s (nI i) c0 a1 a2 a3 a4 a5 a6 a7 a8 a9 :=
        br_c (fun _ => qz_cells (fun r => br_c (fun _ => nm_r (nI_1 i) (hw' _)) (fun _ => qz_cells (fun r => nm_r (nI_1 i) (hw' _))))) (fun _ => nm_r (nI_1 i) (hw' _))
      exact pk_le 8 i (fun z => absurd z (by omega)) (fun _ => ⟨pk_in i 8 hi, br_c (fun _ => br_c (fun _ => h41) (fun _ => nm_r (nI_1 i) (hw' _))) (fun _ => h41)⟩))
theorem qz_workWith {post : Int32 → Prop} {u : St1} {x : Int32} (h : ∀ r, post r) : wpX_workWith post u x := by
  obtain ⟨c0, a1, a2, a3, a4, a5, a6, a7, a8, a9⟩ := u
  exact pk_loop (fun n i s => wX_workWith_4 post x c0 a1 a2 a3 a4 a5 a6 a7 a8 a9 n s (nI i)) (fun _ _ => True) 8 0 0 (by omega) trivial
    (fun n s _ => pk_le 8 8 (fun _ => h _) (fun z => absurd z (by omega)))
    (fun n i s hi _ hw => pk_le 8 i (fun z => absurd z (by omega)) (fun _ => qz_ww18 (fun y z ez => by
      rw [ez, nI_1 i]
      exact hw y trivial)))
theorem qz_group {post : Int32 → Prop} {u : St1} {p g : Nat} (hp : p < 1000) (hg : g < 8) (h : post (nI (qz_G p g))) : wpX_group post u (nI p) (nI g) := by
  obtain ⟨c0, a1, a2, a3, a4, a5, a6, a7, a8, a9⟩ := u
  have h31 : ∀ x z : Nat, post (nI (x + 4 * z + 20 * (if g / 4 = 0 then 0 else p / 20))) → wX_group_31 post (nI p) (nI g) (nI x) (nI z) c0 a1 a2 a3 a4 a5 a6 a7 a8 a9 := by
    intro x z k
    refine ek_if (qz_a4 g hg) (fun e => ?_) (fun e => ⟨by decide, ?_⟩)
    · rw [if_pos e] at k
      have t : nI x + 4 * nI z + 20 * 0 = nI (x + 4 * z + 20 * 0) := by
        rw [← nI_add, ← nI_add, ← pk_mul, ← pk_mul]
        rfl
      exact ek_v (P := post) t k
    · rw [if_neg e] at k
      have t : nI x + 4 * nI z + 20 * (nI p / 20) = nI (x + 4 * z + 20 * (p / 20)) := by
        rw [qz_div20 hp, ← nI_add, ← nI_add, ← pk_mul, ← pk_mul]
        rfl
      exact ek_v (P := post) t k
  have h15 : ∀ x : Nat, post (nI (x + 4 * (if g / 2 % 2 = 0 then 0 else p / 4 % 5) + 20 * (if g / 4 = 0 then 0 else p / 20))) → wX_group_15 post (nI p) (nI g) (nI x) c0 a1 a2 a3 a4 a5 a6 a7 a8 a9 := by
    intro x k
    refine ek_if (qz_a2 g hg) (fun e => ?_) (fun e => ⟨by decide, by decide, ?_⟩)
    · rw [if_pos e] at k
      exact h31 x 0 k
    · rw [if_neg e] at k
      exact ek_v (P := fun r => wX_group_31 post (nI p) (nI g) (nI x) r c0 a1 a2 a3 a4 a5 a6 a7 a8 a9) (qz_kind hp) (h31 x _ k)
  unfold qz_G at h
  refine ek_if (qz_a1 g hg) (fun e => ?_) (fun e => ⟨by decide, ?_⟩)
  · rw [if_pos e] at h
    exact h15 0 h
  · rw [if_neg e] at h
    exact ek_v (P := fun r => wX_group_15 post (nI p) (nI g) r c0 a1 a2 a3 a4 a5 a6 a7 a8 a9) (qz_mod4 hp) (h15 _ h)
theorem qz_p81 {post : Int32 → Prop} {r k m : Bool} {c0 : Int32} {a1 a2 a3 a4 a5 a6 a7 a8 a9 : Nat → Int32} (h : post (qz_b (r && k && m))) : wX_passes_81 post (qz_b r) (qz_b k) (qz_b m) c0 a1 a2 a3 a4 a5 a6 a7 a8 a9 := by
  cases r
  · exact br_t rfl h
  · cases k
    · exact br_f qz_10 (br_t rfl h)
    · cases m
      · exact br_f qz_10 (br_f qz_10 (br_t rfl h))
      · exact br_f qz_10 (br_f qz_10 (br_f qz_10 h))
theorem qz_p52 {post : Int32 → Prop} {r k : Bool} {c0 : Int32} {a1 a2 a3 a4 a5 a6 a7 a8 a9 : Nat → Int32} {p F d : Nat} (hp : p < 120) (hF : F < 32768) (hd : d < 8) (h : post (qz_b (r && k && (decide (d / 4 = 0) || F.testBit (9 + p / 20))))) : wX_passes_52 post (nI p) (nI F) (nI d) (qz_b r) (qz_b k) c0 a1 a2 a3 a4 a5 a6 a7 a8 a9 := by
  refine ek_if (qz_a4 d hd) (fun e => ?_) (fun e => ?_)
  · rw [decide_eq_true e, Bool.true_or] at h
    exact qz_p81 (m := true) h
  · rw [decide_eq_false e, Bool.false_or] at h
    have hb : ((nI F >>> ((9 + nI p / 20) &&& 31)) &&& 1) = 1 ↔ F.testBit (9 + p / 20) = true := by
      rw [qz_div20 (by omega), show (9 : Int32) = nI 9 from rfl, nI_add]
      exact qz_bit hF (by omega)
    refine ⟨by decide, ek_if hb (fun z => ?_) (fun z => ?_)⟩
    · rw [z] at h
      exact qz_p81 (m := true) h
    · rw [Bool.eq_false_iff.mpr z] at h
      exact qz_p81 (m := false) h
theorem qz_p24 {post : Int32 → Prop} {r : Bool} {c0 : Int32} {a1 a2 a3 a4 a5 a6 a7 a8 a9 : Nat → Int32} {p F d : Nat} (hp : p < 120) (hF : F < 32768) (hd : d < 8) (h : post (qz_b (r && (decide (d / 2 % 2 = 0) || F.testBit (4 + p / 4 % 5)) && (decide (d / 4 = 0) || F.testBit (9 + p / 20))))) : wX_passes_24 post (nI p) (nI F) (nI d) (qz_b r) c0 a1 a2 a3 a4 a5 a6 a7 a8 a9 := by
  refine ek_if (qz_a2 d hd) (fun e => ?_) (fun e => ?_)
  · rw [decide_eq_true e, Bool.true_or] at h
    exact qz_p52 (k := true) hp hF hd h
  · rw [decide_eq_false e, Bool.false_or] at h
    have hb : ((nI F >>> ((4 + (nI p / 4 - nI p / 4 / 5 * 5)) &&& 31)) &&& 1) = 1 ↔ F.testBit (4 + p / 4 % 5) = true := by
      rw [qz_kind (by omega), show (4 : Int32) + nI (p / 4 % 5) = nI (4 + p / 4 % 5) from nI_add 4 _]
      exact qz_bit hF (by omega)
    refine ⟨by decide, by decide, ek_if hb (fun z => ?_) (fun z => ?_)⟩
    · rw [z] at h
      exact qz_p52 (k := true) hp hF hd h
    · rw [Bool.eq_false_iff.mpr z] at h
      exact qz_p52 (k := false) hp hF hd h
theorem qz_passes {post : Int32 → Prop} {u : St1} {p F d : Nat} (hp : p < 120) (hF : F < 32768) (hd : d < 8) (h : post (qz_b (qz_pass p F d))) : wpX_passes post u (nI p) (nI F) (nI d) := by
  obtain ⟨c0, a1, a2, a3, a4, a5, a6, a7, a8, a9⟩ := u
  unfold qz_pass at h
  refine ek_if (qz_a1 d hd) (fun e => ?_) (fun e => ?_)
  · rw [decide_eq_true e, Bool.true_or] at h
    exact qz_p24 (r := true) hp hF hd h
  · rw [decide_eq_false e, Bool.false_or] at h
    have hb : ((nI F >>> ((nI p - nI p / 4 * 4) &&& 31)) &&& 1) = 1 ↔ F.testBit (p % 4) = true := by
      rw [qz_mod4 (by omega)]
      exact qz_bit hF (by omega)
    refine ⟨by decide, ek_if hb (fun z => ?_) (fun z => ?_)⟩
    · rw [z] at h
      exact qz_p24 (r := true) hp hF hd h
    · rw [Bool.eq_false_iff.mpr z] at h
      exact qz_p24 (r := false) hp hF hd h
theorem qz_wcuts {post : Int32 → Prop} {u : St1} {F : Nat} (hF : F < 32768) (h : post (nI (qz_cuts F))) : wpX_cuts post u (nI F) := by
  obtain ⟨c0, a1, a2, a3, a4, a5, a6, a7, a8, a9⟩ := u
  have b1 : (nI F &&& 15) = 15 ↔ F % 16 = 15 := by
    rw [pk_andN (m := 15) (by omega) 4 (by decide)]
    exact nI_eq (b := 15) (by omega) (by omega)
  have b2 : ((nI F >>> ((4 : Int32) &&& 31)) &&& 31) = 31 ↔ F / 16 % 32 = 31 := by
    rw [pk_shrN (by omega) _ 4 (by decide), pk_andN (m := 31) (by omega) 5 (by decide)]
    exact nI_eq (b := 31) (by omega) (by omega)
  have b4 : (nI F >>> ((9 : Int32) &&& 31)) = 63 ↔ F / 512 = 63 := by
    rw [pk_shrN (by omega) _ 9 (by decide)]
    exact nI_eq (b := 63) (by omega) (by omega)
  have h33 : ∀ z, z < 4 → post (nI (z + (if F / 512 = 63 then 0 else 4))) → wX_cuts_33 post (nI F) (nI z) c0 a1 a2 a3 a4 a5 a6 a7 a8 a9 := by
    intro z hz k
    refine ek_if b4 (fun e => ?_) (fun e => ?_)
    · rw [if_pos e] at k
      exact k
    · rw [if_neg e] at k
      exact ek_v (P := post) (qz_or4 z hz) k
  have h14 : ∀ z, z < 2 → post (nI (z + (if F / 16 % 32 = 31 then 0 else 2) + (if F / 512 = 63 then 0 else 4))) → wX_cuts_14 post (nI F) (nI z) c0 a1 a2 a3 a4 a5 a6 a7 a8 a9 := by
    intro z hz k
    refine ek_if b2 (fun e => ?_) (fun e => ?_)
    · rw [if_pos e] at k
      exact h33 z (by omega) k
    · rw [if_neg e] at k
      exact ek_v (P := fun r => wX_cuts_33 post (nI F) r c0 a1 a2 a3 a4 a5 a6 a7 a8 a9) (qz_or2 z hz) (h33 _ (by omega) k)
  unfold qz_cuts at h
  refine ek_if b1 (fun e => ?_) (fun e => ?_)
  · rw [if_pos e] at h
    exact h14 0 (by omega) h
  · rw [if_neg e] at h
    exact h14 1 (by omega) h
theorem qz_smallest {post : Int32 → Prop} {c0 : Int32} {a1 a2 a3 a4 a5 a6 a7 a8 a9 : Nat → Int32} {d : Nat} (hd : d < 8) (h0 : post (-1)) (h1 : ∀ g, g < 8 → ¬ a5 g = 0 → g &&& d = d → post (nI g)) : wpX_smallest post (c0, a1, a2, a3, a4, a5, a6, a7, a8, a9) (nI d) :=
  pk_loop (fun n i s => wX_smallest_4 post (nI d) c0 a1 a2 a3 a4 a5 a6 a7 a8 a9 n s (nI i)) (fun _ s => post s) 8 0 (-1) (by omega) h0
    (fun n s h => pk_le 8 8 (fun _ => h) (fun z => absurd z (by omega)))
    (fun n i s hi h hw => by
      have hs := hw s h
      refine pk_le 8 i (fun z => absurd z (by omega)) (fun _ => ⟨pk_in i 8 hi, br_c (fun _ => nm_r (nI_1 i) hs) (fun z => ?_)⟩)
      refine ek_if (qz_and8 i hi d hd) (fun e => ?_) (fun _ => nm_r (nI_1 i) hs)
      rw [nI_clamp (show i < 2 ^ 31 by omega)] at z
      have hi' := hw (nI i) (h1 i hi z e)
      exact br_c (fun _ => nm_r (nI_1 i) hi') (fun _ => qz_cells (fun r => qz_cells (fun r' => br_c (fun _ => nm_r (nI_1 i) hs) (fun _ => nm_r (nI_1 i) hi')))))
end
section
/-! ===== the invariant, gather ===== -/
def qz_K (n : Nat) (P : Nat → Nat) (v a5 a6 a7 : Nat → Int32) : Prop := ∀ g, g < 8 → ¬ a5 g = 0 → ∀ p, p < 120 → a6 (120 * g + p) = nI (qz_C (fun j => decide (qz_G (P j) g = p)) n) ∧ a7 (120 * g + p) = qz_S (fun j => decide (qz_G (P j) g = p)) v n
def qz_I (n : Nat) (P : Nat → Nat) (a1 a2 a3 a4 a5 a6 a7 : Nat → Int32) : Prop :=
  n ≤ 8 ∧ (∀ j, j < n → P j < 120 ∧ a1 j = nI (P j)) ∧ (∀ j, j < n → -50 ≤ (a2 j).toInt ∧ (a2 j).toInt ≤ 50) ∧ (∀ p, p < 120 → a3 p = qz_L P p n) ∧ (∀ j, j < n → a4 j = qz_L P (P j) j) ∧ qz_K n P a2 a5 a6 a7
def qz_f (P : Nat → Nat) (F r q j : Nat) : Bool := qz_pass (P j) F 7 && decide (qz_G (P j) r = q)
def qz_Q (n : Nat) (P : Nat → Nat) (v : Nat → Int32) (F r : Nat) (b8 b9 : Nat → Int32) : Prop := ∀ q, q < 120 → b8 q = nI (qz_C (qz_f P F r q) n) ∧ b9 q = qz_S (qz_f P F r q) v n
def qz_h (P : Nat → Nat) (F r g i q j : Nat) : Bool := decide (qz_G (P j) g < i) && qz_f P F r q j
def qz_H (n : Nat) (P : Nat → Nat) (v : Nat → Int32) (F r g i : Nat) (b8 b9 : Nat → Int32) : Prop := ∀ q, q < 120 → b8 q = nI (qz_C (qz_h P F r g i q) n) ∧ b9 q = qz_S (qz_h P F r g i q) v n
theorem qz_ff : ¬ false = true := by decide
theorem qz_Q_skip {i : Nat} {P : Nat → Nat} {v b8 b9 : Nat → Int32} {F r : Nat} (h : qz_Q i P v F r b8 b9) (hp : qz_pass (P i) F 7 = false) : qz_Q (i + 1) P v F r b8 b9 := by
  intro q hq
  have e : qz_f P F r q i = false := by unfold qz_f; rw [hp]; rfl
  rw [qz_C_s, qz_S_s, e, if_neg qz_ff, if_neg qz_ff, Nat.add_zero, Int32.add_zero]
  exact h q hq
theorem qz_Q_put {i : Nat} {P : Nat → Nat} {v b8 b9 : Nat → Int32} {F r : Nat} (h : qz_Q i P v F r b8 b9) (hp : qz_pass (P i) F 7 = true) : qz_Q (i + 1) P v F r (upd b8 (qz_G (P i) r) (b8 (qz_G (P i) r) + 1)) (upd b9 (qz_G (P i) r) (b9 (qz_G (P i) r) + v i)) := by
  intro q hq
  by_cases z : q = qz_G (P i) r
  · have e : qz_f P F r q i = true := by unfold qz_f; rw [hp, decide_eq_true z.symm]; rfl
    rw [qz_C_s, qz_S_s, e, if_pos rfl, if_pos rfl, ← z, pk_us, pk_us, (h q hq).1, (h q hq).2, nI_1]
    exact ⟨rfl, rfl⟩
  · have e : qz_f P F r q i = false := by unfold qz_f; rw [decide_eq_false (show ¬ qz_G (P i) r = q from fun t => z t.symm), Bool.and_false]
    rw [qz_C_s, qz_S_s, e, if_neg qz_ff, if_neg qz_ff, Nat.add_zero, Int32.add_zero, pk_un z, pk_un z]
    exact h q hq
theorem qz_h_s {P : Nat → Nat} {F r g i q j : Nat} (hP : P j < 120) (hg : g < 8) (hr : r < 8) (h : g &&& (qz_cuts F ||| r) = qz_cuts F ||| r) : qz_h P F r g (i + 1) q j = (qz_h P F r g i q j || (decide (qz_G (P j) g = i) && (qz_pass i F (qz_cuts F ||| r) && decide (qz_G i r = q)))) := by
  unfold qz_h
  by_cases e : qz_G (P j) g = i
  · rw [decide_eq_true (show qz_G (P j) g < i + 1 by omega), decide_eq_false (show ¬ qz_G (P j) g < i by omega), decide_eq_true e, Bool.true_and, Bool.false_and, Bool.false_or, Bool.true_and]
    unfold qz_f
    rw [← e, qz_pass_G hP hg hr h, qz_G_G (P j) hP g hg r hr (qz_dim0 (qz_cuts F) (qz_cuts_lt F) r hr g hg h)]
  · rw [decide_eq_false e, Bool.false_and, Bool.or_false]
    by_cases l : qz_G (P j) g < i
    · rw [decide_eq_true l, decide_eq_true (show qz_G (P j) g < i + 1 by omega)]
    · rw [decide_eq_false l, decide_eq_false (show ¬ qz_G (P j) g < i + 1 by omega)]
theorem qz_h_d {P : Nat → Nat} {F r g i q j : Nat} (B : Bool) : (qz_h P F r g i q j && (decide (qz_G (P j) g = i) && B)) = false := by
  unfold qz_h
  by_cases e : qz_G (P j) g = i
  · rw [decide_eq_false (show ¬ qz_G (P j) g < i by omega), Bool.false_and, Bool.false_and]
  · rw [decide_eq_false e, Bool.false_and, Bool.and_false]
/-- a cell that gives nothing -/
theorem qz_H_skip {n : Nat} {P : Nat → Nat} {v b8 b9 : Nat → Int32} {F r g i : Nat} (hP : ∀ j, j < n → P j < 120) (hg : g < 8) (hr : r < 8) (hd : g &&& (qz_cuts F ||| r) = qz_cuts F ||| r) (h : qz_H n P v F r g i b8 b9) (z : (∀ j, j < n → decide (qz_G (P j) g = i) = false) ∨ qz_pass i F (qz_cuts F ||| r) = false) : qz_H n P v F r g (i + 1) b8 b9 := by
  intro q hq
  have e : ∀ j, j < n → qz_h P F r g (i + 1) q j = qz_h P F r g i q j := by
    intro j hj
    rw [qz_h_s (hP j hj) hg hr hd]
    rcases z with z | z
    · rw [z j hj, Bool.false_and, Bool.or_false]
    · rw [z, Bool.false_and, Bool.and_false, Bool.or_false]
  rw [qz_C_congr e, qz_S_congr (w := v) e (fun _ _ => rfl)]
  exact h q hq
/-- a cell that is noted -/
theorem qz_H_put {n : Nat} {P : Nat → Nat} {v b8 b9 : Nat → Int32} {F r g i : Nat} (hP : ∀ j, j < n → P j < 120) (hg : g < 8) (hr : r < 8) (hd : g &&& (qz_cuts F ||| r) = qz_cuts F ||| r) (h : qz_H n P v F r g i b8 b9) (z : qz_pass i F (qz_cuts F ||| r) = true) : qz_H n P v F r g (i + 1) (upd b8 (qz_G i r) (b8 (qz_G i r) + nI (qz_C (fun j => decide (qz_G (P j) g = i)) n))) (upd b9 (qz_G i r) (b9 (qz_G i r) + qz_S (fun j => decide (qz_G (P j) g = i)) v n)) := by
  intro q hq
  by_cases y : q = qz_G i r
  · have e : ∀ j, j < n → qz_h P F r g (i + 1) q j = (qz_h P F r g i q j || decide (qz_G (P j) g = i)) := by
      intro j hj
      rw [qz_h_s (hP j hj) hg hr hd, z, decide_eq_true y.symm, Bool.true_and, Bool.and_true]
    have d : ∀ j, j < n → (qz_h P F r g i q j && decide (qz_G (P j) g = i)) = false := by
      intro j hj
      have t := qz_h_d (P := P) (F := F) (r := r) (g := g) (i := i) (q := q) (j := j) true
      rw [Bool.and_true] at t
      exact t
    rw [qz_C_or e d, qz_S_or e d, ← nI_add, ← y, pk_us, pk_us, (h q hq).1, (h q hq).2]
    exact ⟨rfl, rfl⟩
  · have e : ∀ j, j < n → qz_h P F r g (i + 1) q j = qz_h P F r g i q j := by
      intro j hj
      rw [qz_h_s (hP j hj) hg hr hd, decide_eq_false (show ¬ qz_G i r = q from fun t => y t.symm), Bool.and_false, Bool.and_false, Bool.or_false]
    rw [qz_C_congr e, qz_S_congr (w := v) e (fun _ _ => rfl), pk_un y, pk_un y]
    exact h q hq
theorem qz_H_0 {n : Nat} {P : Nat → Nat} {v b8 b9 : Nat → Int32} {F r g : Nat} (h : ∀ q, q < 120 → b8 q = 0 ∧ b9 q = 0) : qz_H n P v F r g 0 b8 b9 := by
  intro q hq
  have e : ∀ j, j < n → qz_h P F r g 0 q j = false := by
    intro j _
    unfold qz_h
    rw [decide_eq_false (Nat.not_lt_zero _), Bool.false_and]
  rw [qz_C_0 e, qz_S_0 e]
  exact h q hq
theorem qz_H_Q {n : Nat} {P : Nat → Nat} {v b8 b9 : Nat → Int32} {F r g : Nat} (hP : ∀ j, j < n → P j < 120) (hg : g < 8) (h : qz_H n P v F r g 120 b8 b9) : qz_Q n P v F r b8 b9 := by
  intro q hq
  have e : ∀ j, j < n → qz_h P F r g 120 q j = qz_f P F r q j := by
    intro j hj
    unfold qz_h
    rw [decide_eq_true (qz_G_lt (P j) (hP j hj) g hg), Bool.true_and]
  have t := h q hq
  rw [qz_C_congr e, qz_S_congr (w := v) e (fun _ _ => rfl)] at t
  exact t
theorem qz_at {g i : Nat} : (120 : Int32) * nI g + nI i = nI (120 * g + i) := by
  rw [show (120 : Int32) = nI 120 from rfl, pk_mul, nI_add]
theorem qz_note {post : St1 → Prop} {c0 : Int32} {a1 a2 a3 a4 a5 a6 a7 a8 a9 : Nat → Int32} {q : Nat} {x y : Int32} (hq : q < 120) (h : post (c0, a1, a2, a3, a4, a5, a6, a7, upd a8 q (a8 q + x), upd a9 q (a9 q + y))) : wpX_note post (c0, a1, a2, a3, a4, a5, a6, a7, a8, a9) (nI q) x y := by
  refine ⟨pk_in q 120 hq, pk_in q 120 hq, ?_⟩
  rw [nI_clamp (show q < 2 ^ 31 by omega)]
  exact nm_e ⟨pk_in q 120 hq, pk_in q 120 hq, nm_e h⟩
theorem qz_g51 {post : St1 → Prop} {n : Nat} {P : Nat → Nat} {a1 a2 a3 a4 a5 a6 a7 a8 a9 : Nat → Int32} {r F : Nat} (hr : r < 8) (hF : F < 32768) (hn : n ≤ 8) (h1 : ∀ j, j < n → P j < 120 ∧ a1 j = nI (P j)) (h8 : ∀ q, q < 120 → a8 q = 0 ∧ a9 q = 0) (H : ∀ b8 b9, qz_Q n P a2 F r b8 b9 → post (nI n, a1, a2, a3, a4, a5, a6, a7, b8, b9)) : ∃ fu, wX_gather_51 post (nI r) (nI F) fu 0 (nI n) a1 a2 a3 a4 a5 a6 a7 a8 a9 := by
  refine pk_loop (fun m i s => wX_gather_51 post (nI r) (nI F) m (nI i) (nI n) a1 a2 a3 a4 a5 a6 a7 s.1 s.2) (fun i s => qz_Q i P a2 F r s.1 s.2) n 0 (a8, a9) (by omega) ?_ ?_ ?_
  · intro q hq
    exact h8 q hq
  · intro m s h
    exact pk_le n n (fun _ => H s.1 s.2 h) (fun z => absurd z (by omega))
  · intro m i s hi h hw
    obtain ⟨hP, ha⟩ := h1 i hi
    refine pk_le n i (fun z => absurd z (by omega)) (fun _ => ⟨pk_in i 40 (by omega), ?_⟩)
    rw [nI_clamp (show i < 2 ^ 31 by omega), ha]
    refine qz_passes (d := 7) hP hF (by omega) ?_
    cases hp : qz_pass (P i) F 7 with
    | false => exact br_t rfl (nm_r (nI_1 i) (hw s (qz_Q_skip h hp)))
    | true =>
      refine br_f qz_10 ⟨pk_in i 40 (by omega), qz_group (by omega) hr ⟨pk_in i 40 (by omega), qz_note (qz_G_lt (P i) hP r hr) (nm_r (nI_1 i) ?_)⟩⟩
      exact hw (_, _) (qz_Q_put h hp)
theorem qz_g115 {post : St1 → Prop} {n : Nat} {P : Nat → Nat} {a1 a2 a3 a4 a5 a6 a7 a8 a9 : Nat → Int32} {r F g : Nat} (hr : r < 8) (hF : F < 32768) (hn : n ≤ 8) (hg : g < 8) (hd : g &&& (qz_cuts F ||| r) = qz_cuts F ||| r) (h1 : ∀ j, j < n → P j < 120)
    (hk : ∀ p, p < 120 → a6 (120 * g + p) = nI (qz_C (fun j => decide (qz_G (P j) g = p)) n) ∧ a7 (120 * g + p) = qz_S (fun j => decide (qz_G (P j) g = p)) a2 n)
    (h8 : ∀ q, q < 120 → a8 q = 0 ∧ a9 q = 0) (H : ∀ b8 b9, qz_Q n P a2 F r b8 b9 → post (nI n, a1, a2, a3, a4, a5, a6, a7, b8, b9)) : ∃ fu, wX_gather_115 post (nI r) (nI F) (nI (qz_cuts F ||| r)) (nI g) fu 0 (nI n) a1 a2 a3 a4 a5 a6 a7 a8 a9 := by
  refine pk_loop (fun m i s => wX_gather_115 post (nI r) (nI F) (nI (qz_cuts F ||| r)) (nI g) m (nI i) (nI n) a1 a2 a3 a4 a5 a6 a7 s.1 s.2) (fun i s => qz_H n P a2 F r g i s.1 s.2) 120 0 (a8, a9) (by omega) ?_ ?_ ?_
  · exact qz_H_0 h8
  · intro m s h
    exact pk_le 120 120 (fun _ => H s.1 s.2 (qz_H_Q h1 hg h)) (fun z => absurd z (by omega))
  · intro m i s hi h hw
    obtain ⟨k6, k7⟩ := hk i hi
    refine pk_le 120 i (fun z => absurd z (by omega)) (fun _ => ?_)
    rw [qz_at, nI_clamp (show 120 * g + i < 2 ^ 31 by omega), k6, k7]
    have hc := qz_C_le (fun j => decide (qz_G (P j) g = i)) n
    refine ⟨pk_in (120 * g + i) 960 (by omega), pk_le (qz_C (fun j => decide (qz_G (P j) g = i)) n) 0 (fun z => nm_r (nI_1 i) (hw s (qz_H_skip h1 hg hr hd h (Or.inl (qz_C_no (by omega)))))) (fun z => ?_)⟩
    refine qz_passes hi hF (qz_or8 _ (qz_cuts_lt F) r hr).2 ?_
    cases hp : qz_pass i F (qz_cuts F ||| r) with
    | false => exact br_t rfl (nm_r (nI_1 i) (hw s (qz_H_skip h1 hg hr hd h (Or.inr hp))))
    | true =>
      refine br_f qz_10 (qz_group (by omega) hr ⟨pk_in (120 * g + i) 960 (by omega), pk_in (120 * g + i) 960 (by omega), qz_note (qz_G_lt i hi r hr) (nm_r (nI_1 i) ?_)⟩)
      exact hw (_, _) (qz_H_put h1 hg hr hd h hp)
theorem qz_gather {post : St1 → Prop} {n : Nat} {P : Nat → Nat} {a1 a2 a3 a4 a5 a6 a7 a8 a9 : Nat → Int32} {r F : Nat} (I : qz_I n P a1 a2 a3 a4 a5 a6 a7) (hr : r < 8) (hF : F < 32768) (H : ∀ b8 b9, qz_Q n P a2 F r b8 b9 → post (nI n, a1, a2, a3, a4, a5, a6, a7, b8, b9)) : wpX_gather post (nI n, a1, a2, a3, a4, a5, a6, a7, a8, a9) (nI r) (nI F) := by
  obtain ⟨hn, h1, h2, h3, h4, hK⟩ := I
  refine pk_loop (fun m i s => wX_gather_2 post (nI r) (nI F) (nI n) m (nI i) a1 a2 a3 a4 a5 a6 a7 s.1 s.2) (fun i s => ∀ q, q < i → s.1 q = 0 ∧ s.2 q = 0) 120 0 (a8, a9) (by omega) (fun q hq => absurd hq (by omega)) ?_ ?_
  · intro m s h
    refine pk_le 120 120 (fun _ => ?_) (fun z => absurd z (by omega))
    refine qz_wcuts hF (nm_r (qz_or8 _ (qz_cuts_lt F) r hr).1 (qz_smallest (qz_or8 _ (qz_cuts_lt F) r hr).2 ?_ ?_))
    · exact br_f (show ¬ (0 : Int32) ≤ -1 by decide) (qz_g51 hr hF hn h1 h H)
    · intro g hg hk hd
      exact br_t (nI_pos' (by omega)) (qz_g115 hr hF hn hg hd (fun j hj => (h1 j hj).1) (hK g hg hk) h H)
  · intro m i s hi h hw
    refine pk_le 120 i (fun z => absurd z (by omega)) (fun _ => ?_)
    rw [nI_clamp (show i < 2 ^ 31 by omega)]
    refine ⟨pk_in i 120 hi, nm_e ⟨pk_in i 120 hi, nm_e (nm_r (nI_1 i) (hw (upd s.1 i 0, upd s.2 i 0) ?_))⟩⟩
    intro q hq
    by_cases e : q = i
    · rw [e]
      exact ⟨pk_us, pk_us⟩
    · exact ⟨(pk_un e).trans (h q (by omega)).1, (pk_un e).trans (h q (by omega)).2⟩
end
section
/-! ===== the questions ===== -/
theorem qz_badF {post : Int32 → Prop} {u : St1} {F : Nat} (hF : F < 32768) (h : post 0) : wpX_badFilter post u (nI F) := by
  obtain ⟨c0, a1, a2, a3, a4, a5, a6, a7, a8, a9⟩ := u
  exact br_f (nI_pos (by omega)) (br_t (nI_le (b := 32767) (by omega) (by omega)) h)
theorem qz_badG {post : Int32 → Prop} {u : St1} {r : Nat} (hr : r < 8) (h : post 0) : wpX_badGrouping post u (nI r) := by
  obtain ⟨c0, a1, a2, a3, a4, a5, a6, a7, a8, a9⟩ := u
  exact br_f (nI_pos (by omega)) (br_t (nI_lt (b := 8) hr (by omega)) h)
theorem qz_f0 (P : Nat → Nat) (F j : Nat) : qz_f P F 0 0 j = qz_pass (P j) F 7 := by
  unfold qz_f
  rw [qz_G_0, decide_eq_true rfl, Bool.and_true]
theorem qz_sum {post : Int32 → St1 → Prop} {n : Nat} {P : Nat → Nat} {a1 a2 a3 a4 a5 a6 a7 a8 a9 : Nat → Int32} {F : Nat} (I : qz_I n P a1 a2 a3 a4 a5 a6 a7) (hF : F < 32768) (H : ∀ b8 b9, post (qz_S (fun j => qz_pass (P j) F 7) a2 n) (nI n, a1, a2, a3, a4, a5, a6, a7, b8, b9)) : wpX_sum post (nI n, a1, a2, a3, a4, a5, a6, a7, a8, a9) (nI F) := by
  unfold wpX_sum
  dsimp only
  refine qz_badF hF ?_
  refine br_t rfl (qz_gather (r := 0) I (by omega) hF (fun b8 b9 hQ => ?_))
  have e : b9 0 = qz_S (fun j => qz_pass (P j) F 7) a2 n := (hQ 0 (by omega)).2.trans (qz_S_congr (fun j _ => qz_f0 P F j) (fun _ _ => rfl))
  show post (b9 0) (nI n, a1, a2, a3, a4, a5, a6, a7, b8, b9)
  rw [e]
  exact H b8 b9
theorem qz_count {post : Int32 → St1 → Prop} {n : Nat} {P : Nat → Nat} {a1 a2 a3 a4 a5 a6 a7 a8 a9 : Nat → Int32} {F : Nat} (I : qz_I n P a1 a2 a3 a4 a5 a6 a7) (hF : F < 32768) (H : ∀ b8 b9, post (nI (qz_C (fun j => qz_pass (P j) F 7) n)) (nI n, a1, a2, a3, a4, a5, a6, a7, b8, b9)) : wpX_count post (nI n, a1, a2, a3, a4, a5, a6, a7, a8, a9) (nI F) := by
  unfold wpX_count
  dsimp only
  refine qz_badF hF ?_
  refine br_t rfl (qz_gather (r := 0) I (by omega) hF (fun b8 b9 hQ => ?_))
  have e : b8 0 = nI (qz_C (fun j => qz_pass (P j) F 7) n) := (hQ 0 (by omega)).1.trans (congrArg nI (qz_C_congr (fun j _ => qz_f0 P F j)))
  show post (b8 0) (nI n, a1, a2, a3, a4, a5, a6, a7, b8, b9)
  rw [e]
  exact H b8 b9
/-! the greatest -/
theorem qz_v_lo {x : Int32} (h : -50 ≤ x.toInt) : (-4000000 : Int32) ≤ x := by
  have e : (-4000000 : Int32).toInt = -4000000 := by decide
  rw [Int32.le_iff_toInt_le, e]
  omega
theorem qz_M_pt {n j : Nat} {v : Nat → Int32} (hj : j < n) (hb : (-4000000 : Int32) ≤ v j) : qz_M n (fun i => decide (i = j)) v (v j) :=
  ⟨fun i _ e => by rw [of_decide_eq_true e]; exact Int32.le_refl _, hb, Or.inr ⟨j, hj, decide_eq_true rfl, rfl⟩⟩
theorem qz_gAt13 {post : Int32 → Prop} {n : Nat} {P : Nat → Nat} {a1 a2 a3 a4 a5 a6 a7 a8 a9 : Nat → Int32} {p : Nat} (hn : n ≤ 8) (h2 : ∀ j, j < n → -50 ≤ (a2 j).toInt ∧ (a2 j).toInt ≤ 50) (h4 : ∀ j, j < n → a4 j = qz_L P (P j) j) (H : ∀ s, qz_M n (fun j => decide (P j = p)) a2 s → post s) :
    ∀ fu m k s, k + m ≤ n → m < fu → qz_M n (fun j => decide (m ≤ j) && decide (P j = p)) a2 s → wX_greatestAt_13 post (nI n) a1 a2 a3 a4 a5 a6 a7 a8 a9 fu s (qz_L P p m) (nI k)
  | 0, m, k, s, _, hf, _ => absurd hf (by omega)
  | fu + 1, m, k, s, hk, hf, hM => by
    refine pk_le 40 k (fun z => absurd z (by omega)) (fun _ => ?_)
    rcases qz_L_cases P p m with ⟨e, hno⟩ | ⟨j, hj, e, hPj, hb⟩
    · rw [e]
      refine br_t (show (-1 : Int32) < 0 by decide) (H s (qz_M_congr (fun i hi => ?_) hM))
      by_cases z : m ≤ i
      · rw [decide_eq_true z, Bool.true_and]
      · rw [decide_eq_false z, Bool.false_and]
        exact decide_eq_false (hno i (by omega))
    · rw [e]
      have step : ∀ z, qz_M n (fun i => decide (j ≤ i) && decide (P i = p)) a2 z → wX_greatestAt_44 post (wX_greatestAt_13 post (nI n) a1 a2 a3 a4 a5 a6 a7 a8 a9 fu) (nI j) (nI k) z (nI n) a1 a2 a3 a4 a5 a6 a7 a8 a9 := by
        intro z hz
        have t : wX_greatestAt_13 post (nI n) a1 a2 a3 a4 a5 a6 a7 a8 a9 fu z (qz_L P p j) (nI (k + 1)) := qz_gAt13 hn h2 h4 H fu j (k + 1) z (by omega) (by omega) hz
        refine ⟨pk_in j 40 (by omega), nm_r ?_ (nm_r (nI_1 k) t)⟩
        rw [nI_clamp (by omega), h4 j (by omega), hPj]
      have hs : ∀ i, i < n → (decide (j ≤ i) && decide (P i = p)) = ((decide (m ≤ i) && decide (P i = p)) || decide (i = j)) := by
        intro i hi
        by_cases ej : i = j
        · rw [decide_eq_true (show j ≤ i by omega), decide_eq_true ej, decide_eq_true (show P i = p by rw [ej]; exact hPj), Bool.or_true]
          rfl
        · rw [decide_eq_false ej, Bool.or_false]
          by_cases z : m ≤ i
          · rw [decide_eq_true z, decide_eq_true (show j ≤ i by omega)]
          · rw [decide_eq_false z, Bool.false_and]
            by_cases y : j ≤ i
            · rw [decide_eq_false (hb i (by omega) (by omega)), Bool.and_false]
            · rw [decide_eq_false y, Bool.false_and]
      have hpt := qz_M_pt (v := a2) (show j < n by omega) (qz_v_lo (h2 j (by omega)).1)
      refine br_f (nI_pos (by omega)) ⟨pk_in j 40 (by omega), ?_⟩
      rw [nI_clamp (show j < 2 ^ 31 by omega)]
      exact br_c (fun l => step s (qz_M_or1 hs hM hpt l)) (fun l => ⟨pk_in j 40 (by omega), step (a2 j) (qz_M_or2 hs hM hpt l)⟩)
theorem qz_greatestAt {post : Int32 → Prop} {n : Nat} {P : Nat → Nat} {a1 a2 a3 a4 a5 a6 a7 a8 a9 : Nat → Int32} {p : Nat} (I : qz_I n P a1 a2 a3 a4 a5 a6 a7) (hp : p < 120) (H : ∀ s, qz_M n (fun j => decide (P j = p)) a2 s → post s) : wpX_greatestAt post (nI n, a1, a2, a3, a4, a5, a6, a7, a8, a9) (nI p) := by
  obtain ⟨hn, h1, h2, h3, h4, hK⟩ := I
  have e : a3 (nI p).toNatClampNeg = qz_L P p n := by rw [nI_clamp (by omega), h3 p hp]
  refine ⟨pk_in p 120 hp, nm_r e ⟨n + 1, ?_⟩⟩
  refine qz_gAt13 hn h2 h4 H (n + 1) n 0 _ (by omega) (by omega) (qz_M_0 (fun j hj => ?_))
  rw [decide_eq_false (show ¬ n ≤ j by omega), Bool.false_and]
theorem qz_greatest {post : Int32 → Prop} {n : Nat} {P : Nat → Nat} {a1 a2 a3 a4 a5 a6 a7 a8 a9 : Nat → Int32} {F : Nat} (I : qz_I n P a1 a2 a3 a4 a5 a6 a7) (hF : F < 32768) (H : ∀ s, qz_M n (fun j => qz_pass (P j) F 7) a2 s → post s) : wpX_greatest post (nI n, a1, a2, a3, a4, a5, a6, a7, a8, a9) (nI F) := by
  have I' := I
  obtain ⟨hn, h1, h2, h3, h4, hK⟩ := I'
  unfold wpX_greatest
  dsimp only
  refine qz_badF hF ?_
  refine br_t rfl ?_
  refine pk_loop (fun m i s => wX_greatest_16 post (nI F) (nI n) a1 a2 a3 a4 a5 a6 a7 a8 a9 m s (nI i)) (fun i s => qz_M n (fun j => decide (P j < i) && qz_pass (P j) F 7) a2 s) 120 0 (-4000000) (by omega) (qz_M_0 (fun j _ => ?_)) ?_ ?_
  · rw [decide_eq_false (Nat.not_lt_zero _), Bool.false_and]
  · intro m s h
    refine pk_le 120 120 (fun _ => H s (qz_M_congr (fun j hj => ?_) h)) (fun z => absurd z (by omega))
    rw [decide_eq_true (h1 j hj).1, Bool.true_and]
  · intro m i s hi h hw
    refine pk_le 120 i (fun z => absurd z (by omega)) (fun _ => ?_)
    rw [nI_clamp (show i < 2 ^ 31 by omega), h3 i hi]
    have same : (∀ j, j < n → P j = i → qz_pass (P j) F 7 = false) → qz_M n (fun j => decide (P j < i + 1) && qz_pass (P j) F 7) a2 s := by
      intro hz
      refine qz_M_congr (fun j hj => ?_) h
      by_cases e : P j = i
      · rw [hz j hj e, Bool.and_false, Bool.and_false]
      · by_cases l : P j < i
        · rw [decide_eq_true l, decide_eq_true (show P j < i + 1 by omega)]
        · rw [decide_eq_false l, decide_eq_false (show ¬ P j < i + 1 by omega)]
    refine ⟨pk_in i 120 hi, ?_⟩
    rcases qz_L_cases P i n with ⟨e, hno⟩ | ⟨k, hk, e, hPk, hb⟩
    · rw [e]
      exact br_t (show (-1 : Int32) < 0 by decide) (nm_r (nI_1 i) (hw s (same (fun j hj z => absurd z (hno j hj)))))
    · rw [e]
      refine br_f (nI_pos (by omega)) (qz_passes (d := 7) hi hF (by omega) ?_)
      cases hp : qz_pass i F 7 with
      | false => exact br_t rfl (nm_r (nI_1 i) (hw s (same (fun j hj z => by rw [z]; exact hp))))
      | true =>
        refine br_f qz_10 (qz_greatestAt I hi (fun g hM => ?_))
        have hs : ∀ j, j < n → (decide (P j < i + 1) && qz_pass (P j) F 7) = ((decide (P j < i) && qz_pass (P j) F 7) || decide (P j = i)) := by
          intro j hj
          by_cases ej : P j = i
          · rw [ej, hp, decide_eq_true (show i < i + 1 by omega), decide_eq_true rfl, Bool.or_true]
            rfl
          · rw [decide_eq_false ej, Bool.or_false]
            by_cases l : P j < i
            · rw [decide_eq_true l, decide_eq_true (show P j < i + 1 by omega)]
            · rw [decide_eq_false l, decide_eq_false (show ¬ P j < i + 1 by omega)]
        exact br_c (fun l => nm_r (nI_1 i) (hw s (qz_M_or1 hs h hM l))) (fun l => nm_r (nI_1 i) (hw g (qz_M_or2 hs h hM l)))
/-! groups -/
theorem qz_wgroups {post : Int32 → St1 → Prop} {n : Nat} {P : Nat → Nat} {a1 a2 a3 a4 a5 a6 a7 a8 a9 : Nat → Int32} {r F : Nat} (I : qz_I n P a1 a2 a3 a4 a5 a6 a7) (hr : r < 8) (hF : F < 32768)
    (H : ∀ b8 b9, post (nI (qz_C (fun a => qz_pass (P a) F 7 && decide (qz_C (fun b => qz_pass (P b) F 7 && decide (qz_G (P b) r = qz_G (P a) r)) a = 0)) n)) (nI n, a1, a2, a3, a4, a5, a6, a7, b8, b9)) : wpX_groups post (nI n, a1, a2, a3, a4, a5, a6, a7, a8, a9) (nI r) (nI F) := by
  have I' := I
  obtain ⟨hn, h1, h2, h3, h4, hK⟩ := I'
  unfold wpX_groups
  dsimp only
  refine qz_badG hr ?_
  refine br_t rfl ?_
  refine qz_badF hF ?_
  refine br_t rfl ?_
  refine qz_gather I hr hF (fun b8 b9 hQ => ?_)
  refine pk_loop (fun m i s => wX_groups_30 post (nI n) a1 a2 a3 a4 a5 a6 a7 b8 b9 m s (nI i)) (fun i s => s = nI (qz_C (fun p => decide (0 < qz_C (qz_f P F r p) n)) i)) 120 0 0 (by omega) rfl ?_ ?_
  · intro m s h
    refine pk_le 120 120 (fun _ => ?_) (fun z => absurd z (by omega))
    have e := qz_groups (f := fun j => qz_pass (P j) F 7) (o := fun j => qz_G (P j) r) (m := 120) n (fun j hj => qz_G_lt (P j) (h1 j hj).1 r hr)
    have e2 : s = nI (qz_C (fun a => qz_pass (P a) F 7 && decide (qz_C (fun b => qz_pass (P b) F 7 && decide (qz_G (P b) r = qz_G (P a) r)) a = 0)) n) := h.trans (congrArg nI e)
    rw [e2]
    exact H b8 b9
  · intro m i s hi h hw
    refine pk_le 120 i (fun z => absurd z (by omega)) (fun _ => ?_)
    have hc := qz_C_le (qz_f P F r i) n
    rw [nI_clamp (show i < 2 ^ 31 by omega), (hQ i hi).1]
    refine ⟨pk_in i 120 hi, pk_le (qz_C (qz_f P F r i) n) 0 (fun z => nm_r (nI_1 i) (hw s ?_)) (fun z => nm_e (nm_r (nI_1 i) (hw (s + 1) ?_)))⟩
    · rw [qz_C_s, decide_eq_false (show ¬ 0 < qz_C (qz_f P F r i) n by omega), if_neg qz_ff, Nat.add_zero]
      exact h
    · rw [qz_C_s, decide_eq_true z, if_pos rfl, h, nI_1]
/-! top -/
def qz_B (c : Nat → Nat) (W : Nat → Int32) (i : Nat) (s : Int32) : Prop := (s = -1 ∧ ∀ q, q < i → c q = 0) ∨ (∃ k, k < i ∧ s = nI k ∧ 0 < c k ∧ ∀ q, q < i → 0 < c q → W q < W k ∨ (W q = W k ∧ k ≤ q))
theorem qz_B_skip {c : Nat → Nat} {W : Nat → Int32} {i : Nat} {s : Int32} (h : qz_B c W i s) (z : c i = 0) : qz_B c W (i + 1) s := by
  rcases h with ⟨e, h0⟩ | ⟨k, hk, e, hc, hm⟩
  · refine Or.inl ⟨e, fun q hq => ?_⟩
    by_cases t : q = i
    · rw [t]; exact z
    · exact h0 q (by omega)
  · refine Or.inr ⟨k, by omega, e, hc, fun q hq hcq => ?_⟩
    by_cases t : q = i
    · rw [t, z] at hcq
      exact absurd hcq (by omega)
    · exact hm q (by omega) hcq
theorem qz_B_first {c : Nat → Nat} {W : Nat → Int32} {i : Nat} (h0 : ∀ q, q < i → c q = 0) (z : 0 < c i) : qz_B c W (i + 1) (nI i) := by
  refine Or.inr ⟨i, by omega, rfl, z, fun q hq hcq => ?_⟩
  by_cases t : q = i
  · rw [t]; exact Or.inr ⟨rfl, Nat.le_refl i⟩
  · rw [h0 q (by omega)] at hcq
    exact absurd hcq (by omega)
theorem qz_B_keep {c : Nat → Nat} {W : Nat → Int32} {i k : Nat} (hk : k < i) (hc : 0 < c k) (hm : ∀ q, q < i → 0 < c q → W q < W k ∨ (W q = W k ∧ k ≤ q)) (l : W i ≤ W k) : qz_B c W (i + 1) (nI k) := by
  refine Or.inr ⟨k, by omega, rfl, hc, fun q hq hcq => ?_⟩
  by_cases t : q = i
  · rw [t]
    by_cases e : W i = W k
    · exact Or.inr ⟨e, by omega⟩
    · refine Or.inl ?_
      have e' : ¬ (W i).toInt = (W k).toInt := fun z => e (Int32.toInt_inj.mp z)
      rw [Int32.le_iff_toInt_le] at l
      rw [Int32.lt_iff_toInt_lt]
      omega
  · exact hm q (by omega) hcq
theorem qz_B_new {c : Nat → Nat} {W : Nat → Int32} {i k : Nat} (hm : ∀ q, q < i → 0 < c q → W q < W k ∨ (W q = W k ∧ k ≤ q)) (z : 0 < c i) (l : ¬ W i ≤ W k) : qz_B c W (i + 1) (nI i) := by
  refine Or.inr ⟨i, by omega, rfl, z, fun q hq hcq => ?_⟩
  by_cases t : q = i
  · rw [t]; exact Or.inr ⟨rfl, Nat.le_refl i⟩
  · refine Or.inl ?_
    rw [Int32.le_iff_toInt_le] at l
    rw [Int32.lt_iff_toInt_lt]
    rcases hm q (by omega) hcq with y | ⟨y, _⟩
    · rw [Int32.lt_iff_toInt_lt] at y
      omega
    · rw [y]
      omega
theorem qz_B_T {n : Nat} {f : Nat → Bool} {o : Nat → Nat} {W : Nat → Int32} {s : Int32} (ho : ∀ j, j < n → o j < 120) (h : qz_B (fun q => qz_C (fun j => f j && decide (o j = q)) n) W 120 s) : (s = -1 ∧ qz_T n f o W (-4000000) (-4000000)) ∨ (∃ k, k < 120 ∧ s = nI k ∧ qz_T n f o W (W k) (nI k)) := by
  have hin : ∀ j, j < n → f j = true → 0 < qz_C (fun i => f i && decide (o i = o j)) n := fun j hj hf => qz_C_in hj (by rw [hf, decide_eq_true rfl]; rfl)
  rcases h with ⟨e, h0⟩ | ⟨k, hk, e, hc, hm⟩
  · refine Or.inl ⟨e, Or.inl ⟨fun j hj => ?_, rfl, rfl⟩⟩
    cases hf : f j with
    | false => rfl
    | true =>
      have t1 := hin j hj hf
      have t2 := h0 (o j) (ho j hj)
      exact absurd t1 (by rw [show qz_C (fun i => f i && decide (o i = o j)) n = 0 from t2]; exact Nat.lt_irrefl 0)
  · refine Or.inr ⟨k, hk, e, Or.inr ?_⟩
    obtain ⟨b, hb, hf⟩ := qz_C_pos hc
    rw [Bool.and_eq_true] at hf
    have hob : o b = k := of_decide_eq_true hf.2
    refine ⟨b, hb, hf.1, by rw [hob], by rw [hob], fun c hcn hfc => ?_⟩
    rw [hob]
    exact hm (o c) (ho c hcn) (hin c hcn hfc)
theorem qz_top {post : Int32 → St1 → Prop} {n : Nat} {P : Nat → Nat} {a1 a2 a3 a4 a5 a6 a7 a8 a9 : Nat → Int32} {r F : Nat} (I : qz_I n P a1 a2 a3 a4 a5 a6 a7) (hr : r < 8) (hF : F < 32768)
    (H0 : qz_T n (fun j => qz_pass (P j) F 7) (fun j => qz_G (P j) r) (fun q => qz_S (qz_f P F r q) a2 n) (-4000000) (-4000000) → ∀ b8 b9, post (-1) (nI n, a1, a2, a3, a4, a5, a6, a7, b8, b9))
    (H1 : ∀ k, k < 120 → qz_T n (fun j => qz_pass (P j) F 7) (fun j => qz_G (P j) r) (fun q => qz_S (qz_f P F r q) a2 n) (qz_S (qz_f P F r k) a2 n) (nI k) → ∀ b8 b9, b9 k = qz_S (qz_f P F r k) a2 n → post (nI k) (nI n, a1, a2, a3, a4, a5, a6, a7, b8, b9)) : wpX_top post (nI n, a1, a2, a3, a4, a5, a6, a7, a8, a9) (nI r) (nI F) := by
  have I' := I
  obtain ⟨hn, h1, h2, h3, h4, hK⟩ := I'
  unfold wpX_top
  dsimp only
  refine qz_gather I hr hF (fun b8 b9 hQ => ?_)
  refine pk_loop (fun m i s => wX_top_11 post (nI n) a1 a2 a3 a4 a5 a6 a7 b8 b9 m s (nI i)) (fun i s => qz_B (fun q => qz_C (qz_f P F r q) n) (fun q => qz_S (qz_f P F r q) a2 n) i s) 120 0 (-1) (by omega) (Or.inl ⟨rfl, fun q hq => absurd hq (by omega)⟩) ?_ ?_
  · intro m s h
    refine pk_le 120 120 (fun _ => ?_) (fun z => absurd z (by omega))
    rcases qz_B_T (f := fun j => qz_pass (P j) F 7) (o := fun j => qz_G (P j) r) (fun j hj => qz_G_lt (P j) (h1 j hj).1 r hr) h with ⟨e, t⟩ | ⟨k, hk, e, t⟩
    · rw [e]
      exact H0 t b8 b9
    · rw [e]
      exact H1 k hk t b8 b9 (hQ k hk).2
  · intro m i s hi h hw
    refine pk_le 120 i (fun z => absurd z (by omega)) (fun _ => ?_)
    have hc := qz_C_le (qz_f P F r i) n
    rw [nI_clamp (show i < 2 ^ 31 by omega), (hQ i hi).1, (hQ i hi).2]
    refine ⟨pk_in i 120 hi, pk_le (qz_C (qz_f P F r i) n) 0 (fun z => nm_r (nI_1 i) (hw s (qz_B_skip h (by show qz_C (qz_f P F r i) n = 0; omega)))) (fun z => ?_)⟩
    rcases h with ⟨e, h0⟩ | ⟨k, hk, e, hck, hm⟩
    · rw [e]
      exact br_t (show (-1 : Int32) < 0 by decide) (nm_r (nI_1 i) (hw (nI i) (qz_B_first h0 z)))
    · rw [e, nI_clamp (show k < 2 ^ 31 by omega), (hQ k (by omega)).2]
      exact br_f (nI_pos (by omega)) ⟨pk_in i 120 hi, pk_in k 120 (by omega), br_c (fun l => nm_r (nI_1 i) (hw (nI k) (qz_B_keep hk hck hm l))) (fun l => nm_r (nI_1 i) (hw (nI i) (qz_B_new hm z l)))⟩
theorem qz_topSum {post : Int32 → St1 → Prop} {n : Nat} {P : Nat → Nat} {a1 a2 a3 a4 a5 a6 a7 a8 a9 : Nat → Int32} {r F : Nat} (I : qz_I n P a1 a2 a3 a4 a5 a6 a7) (hr : r < 8) (hF : F < 32768)
    (H : ∀ t nm, qz_T n (fun j => qz_pass (P j) F 7) (fun j => qz_G (P j) r) (fun q => qz_S (qz_f P F r q) a2 n) t nm → ∀ b8 b9, post t (nI n, a1, a2, a3, a4, a5, a6, a7, b8, b9)) : wpX_topSum post (nI n, a1, a2, a3, a4, a5, a6, a7, a8, a9) (nI r) (nI F) := by
  unfold wpX_topSum
  dsimp only
  refine qz_badG hr ?_
  refine br_t rfl ?_
  refine qz_badF hF ?_
  refine br_t rfl ?_
  refine qz_top I hr hF (fun t b8 b9 => ?_) (fun k hk t b8 b9 e => ?_)
  · exact br_f (show ¬ (0 : Int32) ≤ -1 by decide) (H _ _ t b8 b9)
  · refine br_t (nI_pos' (by omega)) ⟨pk_in k 120 hk, ?_⟩
    show post (b9 (nI k).toNatClampNeg) (nI n, a1, a2, a3, a4, a5, a6, a7, b8, b9)
    rw [nI_clamp (show k < 2 ^ 31 by omega), e]
    exact H _ _ t b8 b9
theorem qz_topGroup {post : Int32 → St1 → Prop} {n : Nat} {P : Nat → Nat} {a1 a2 a3 a4 a5 a6 a7 a8 a9 : Nat → Int32} {r F : Nat} (I : qz_I n P a1 a2 a3 a4 a5 a6 a7) (hr : r < 8) (hF : F < 32768)
    (H : ∀ t nm, qz_T n (fun j => qz_pass (P j) F 7) (fun j => qz_G (P j) r) (fun q => qz_S (qz_f P F r q) a2 n) t nm → ∀ b8 b9, post nm (nI n, a1, a2, a3, a4, a5, a6, a7, b8, b9)) : wpX_topGroup post (nI n, a1, a2, a3, a4, a5, a6, a7, a8, a9) (nI r) (nI F) := by
  unfold wpX_topGroup
  dsimp only
  refine qz_badG hr ?_
  refine br_t rfl ?_
  refine qz_badF hF ?_
  refine br_t rfl ?_
  refine qz_top I hr hF (fun t b8 b9 => ?_) (fun k hk t b8 b9 e => ?_)
  · exact br_f (show ¬ (0 : Int32) ≤ -1 by decide) (H _ _ t b8 b9)
  · exact br_t (nI_pos' (by omega)) (H _ _ t b8 b9)
/-! growth -/
theorem qz_p32 : ∀ p, p < 120 → qz_pass p 32767 7 = true ∧ decide (qz_G p 4 = 60) = decide (p / 20 = 3) ∧ decide (qz_G p 4 = 40) = decide (p / 20 = 2) := by decide +kernel
theorem qz_growth {post : Int32 → St1 → Prop} {n : Nat} {P : Nat → Nat} {a1 a2 a3 a4 a5 a6 a7 a8 a9 : Nat → Int32} (I : qz_I n P a1 a2 a3 a4 a5 a6 a7) (H : ∀ b8 b9, post (qz_S (fun j => decide (P j / 20 = 3)) a2 n - qz_S (fun j => decide (P j / 20 = 2)) a2 n) (nI n, a1, a2, a3, a4, a5, a6, a7, b8, b9)) : wpX_growth post (nI n, a1, a2, a3, a4, a5, a6, a7, a8, a9) 3 := by
  have I' := I
  obtain ⟨hn, h1, h2, h3, h4, hK⟩ := I'
  refine br_f (show ¬ (3 : Int32) < 1 by decide) (br_t (show (3 : Int32) < 6 by decide) (qz_gather (r := 4) (F := 32767) I (by omega) (by omega) (fun b8 b9 hQ => ?_)))
  have e3 : b9 60 = qz_S (fun j => decide (P j / 20 = 3)) a2 n := (hQ 60 (by omega)).2.trans (qz_S_congr (fun j hj => by
    have t := qz_p32 (P j) (h1 j hj).1
    unfold qz_f
    rw [t.1, t.2.1, Bool.true_and]) (fun _ _ => rfl))
  have e2 : b9 40 = qz_S (fun j => decide (P j / 20 = 2)) a2 n := (hQ 40 (by omega)).2.trans (qz_S_congr (fun j hj => by
    have t := qz_p32 (P j) (h1 j hj).1
    unfold qz_f
    rw [t.1, t.2.2, Bool.true_and]) (fun _ _ => rfl))
  refine ⟨vp_in_iff.mpr (by decide), vp_in_iff.mpr (by decide), ?_⟩
  have t := H b8 b9
  rw [← e3, ← e2] at t
  exact t
end
section
/-! ===== enter, add, remove, change ===== -/
def qz_E (p : Nat) (x y : Int32) (a5 a6 a7 b6 b7 : Nat → Int32) : Prop := ∀ g, g < 8 → ¬ a5 g = 0 → ∀ q, q < 120 → b6 (120 * g + q) = a6 (120 * g + q) + (if qz_G p g = q then x else 0) ∧ b7 (120 * g + q) = a7 (120 * g + q) + (if qz_G p g = q then y else 0)
theorem qz_enter {post : St1 → Prop} {c0 : Int32} {a1 a2 a3 a4 a5 a6 a7 a8 a9 : Nat → Int32} {p : Nat} {x y : Int32} (hp : p < 120) (H : ∀ b6 b7, qz_E p x y a5 a6 a7 b6 b7 → post (c0, a1, a2, a3, a4, a5, b6, b7, a8, a9)) : wpX_enter post (c0, a1, a2, a3, a4, a5, a6, a7, a8, a9) (nI p) x y := by
  refine pk_loop (fun m i s => wX_enter_3 post (nI p) x y c0 m (nI i) a1 a2 a3 a4 a5 s.1 s.2 a8 a9)
    (fun i s => (∀ g, g < i → ¬ a5 g = 0 → ∀ q, q < 120 → s.1 (120 * g + q) = a6 (120 * g + q) + (if qz_G p g = q then x else 0) ∧ s.2 (120 * g + q) = a7 (120 * g + q) + (if qz_G p g = q then y else 0)) ∧ (∀ g, i ≤ g → ∀ q, q < 120 → s.1 (120 * g + q) = a6 (120 * g + q) ∧ s.2 (120 * g + q) = a7 (120 * g + q)))
    8 0 (a6, a7) (by omega) ⟨fun g hg => absurd hg (by omega), fun g _ q _ => ⟨rfl, rfl⟩⟩ ?_ ?_
  · intro m s h
    exact pk_le 8 8 (fun _ => H s.1 s.2 h.1) (fun z => absurd z (by omega))
  · intro m i s hi h hw
    obtain ⟨h1, h2⟩ := h
    refine pk_le 8 i (fun z => absurd z (by omega)) (fun _ => ?_)
    rw [nI_clamp (show i < 2 ^ 31 by omega)]
    refine ⟨pk_in i 8 hi, br_c (fun z => nm_r (nI_1 i) (hw s ⟨fun g hg hk => ?_, fun g hg => h2 g (by omega)⟩)) (fun z => ?_)⟩
    · by_cases e : g = i
      · rw [e] at hk
        exact absurd z hk
      · exact h1 g (by omega) hk
    · have hG := qz_G_lt p hp i hi
      have hr : 120 * i + qz_G p i < 960 := by omega
      refine qz_group (by omega) hi (nm_r qz_at ⟨pk_in _ 960 hr, pk_in _ 960 hr, ?_⟩)
      rw [nI_clamp (show 120 * i + qz_G p i < 2 ^ 31 by omega)]
      refine nm_e ⟨pk_in _ 960 hr, pk_in _ 960 hr, nm_e (nm_r (nI_1 i) (hw (upd s.1 (120 * i + qz_G p i) (s.1 (120 * i + qz_G p i) + x), upd s.2 (120 * i + qz_G p i) (s.2 (120 * i + qz_G p i) + y)) ⟨fun g hg hk q hq => ?_, fun g hg q hq => ?_⟩))⟩
      · show upd s.1 (120 * i + qz_G p i) (s.1 (120 * i + qz_G p i) + x) (120 * g + q) = _ ∧ upd s.2 (120 * i + qz_G p i) (s.2 (120 * i + qz_G p i) + y) (120 * g + q) = _
        by_cases e : g = i
        · subst e
          by_cases eq : qz_G p g = q
          · rw [eq, pk_us, pk_us, if_pos rfl, if_pos rfl, (h2 g (Nat.le_refl g) q hq).1, (h2 g (Nat.le_refl g) q hq).2]
            exact ⟨rfl, rfl⟩
          · rw [if_neg eq, if_neg eq, Int32.add_zero, Int32.add_zero, pk_un (show 120 * g + q ≠ 120 * g + qz_G p g by omega), pk_un (show 120 * g + q ≠ 120 * g + qz_G p g by omega)]
            exact h2 g (Nat.le_refl g) q hq
        · rw [pk_un (show 120 * g + q ≠ 120 * i + qz_G p i by omega), pk_un (show 120 * g + q ≠ 120 * i + qz_G p i by omega)]
          exact h1 g (by omega) hk q hq
      · show upd s.1 (120 * i + qz_G p i) (s.1 (120 * i + qz_G p i) + x) (120 * g + q) = _ ∧ upd s.2 (120 * i + qz_G p i) (s.2 (120 * i + qz_G p i) + y) (120 * g + q) = _
        rw [pk_un (show 120 * g + q ≠ 120 * i + qz_G p i by omega), pk_un (show 120 * g + q ≠ 120 * i + qz_G p i by omega)]
        exact h2 g (by omega) q hq
def qz_up (P : Nat → Nat) (n p : Nat) : Nat → Nat := fun j => if j = n then p else P j
theorem qz_up_s {P : Nat → Nat} {n p : Nat} : qz_up P n p n = p := if_pos rfl
theorem qz_up_n {P : Nat → Nat} {n p j : Nat} (h : j ≠ n) : qz_up P n p j = P j := if_neg h
theorem qz_I_add {n : Nat} {P : Nat → Nat} {a1 a2 a3 a4 a5 a6 a7 : Nat → Int32} {b6 b7 : Nat → Int32} {p : Nat} {am : Int32} (I : qz_I n P a1 a2 a3 a4 a5 a6 a7) (hn : n < 8) (hp : p < 120) (hb : -50 ≤ am.toInt ∧ am.toInt ≤ 50) (hE : qz_E p 1 am a5 a6 a7 b6 b7) : qz_I (n + 1) (qz_up P n p) (upd a1 n (nI p)) (upd a2 n am) (upd a3 p (nI n)) (upd a4 n (a3 p)) a5 b6 b7 := by
  obtain ⟨_, h1, h2, h3, h4, hK⟩ := I
  refine ⟨by omega, fun j hj => ?_, fun j hj => ?_, fun q hq => ?_, fun j hj => ?_, fun g hg hk q hq => ?_⟩
  · by_cases e : j = n
    · rw [e, qz_up_s, pk_us]
      exact ⟨hp, rfl⟩
    · rw [qz_up_n e, pk_un e]
      exact h1 j (by omega)
  · by_cases e : j = n
    · rw [e, pk_us]
      exact hb
    · rw [pk_un e]
      exact h2 j (by omega)
  · rw [qz_L_s, qz_up_s, qz_L_congr (Q := P) n (fun j hj => qz_up_n (by omega))]
    by_cases e : p = q
    · rw [if_pos e, e, pk_us]
    · rw [if_neg e, pk_un (fun z => e z.symm)]
      exact h3 q hq
  · by_cases e : j = n
    · rw [e, qz_up_s, pk_us, qz_L_congr (Q := P) n (fun j hj => qz_up_n (by omega))]
      exact h3 p hp
    · rw [qz_up_n e, pk_un e, qz_L_congr (Q := P) j (fun i hi => qz_up_n (by omega))]
      exact h4 j (by omega)
  · obtain ⟨e6, e7⟩ := hE g hg hk q hq
    obtain ⟨k6, k7⟩ := hK g hg hk q hq
    have ef : ∀ j, j < n → decide (qz_G (qz_up P n p j) g = q) = decide (qz_G (P j) g = q) := fun j hj => by rw [qz_up_n (by omega)]
    rw [e6, e7, k6, k7, qz_C_s, qz_S_s, qz_C_congr ef, qz_S_congr (w := a2) ef (fun j hj => pk_un (by omega)), qz_up_s, pk_us]
    by_cases z : qz_G p g = q
    · rw [decide_eq_true z, if_pos z, if_pos rfl, if_pos z, if_pos rfl, nI_1]
      exact ⟨rfl, rfl⟩
    · rw [decide_eq_false z, if_neg z, if_neg qz_ff, if_neg z, if_neg qz_ff, Int32.add_zero, Nat.add_zero]
      exact ⟨rfl, rfl⟩
theorem qz_i_cancel (a b : Int32) : a + b + -b = a := by grind
theorem qz_I_rem {k : Nat} {P : Nat → Nat} {a1 a2 a3 a4 a5 a6 a7 : Nat → Int32} {b6 b7 : Nat → Int32} (I : qz_I (k + 1) P a1 a2 a3 a4 a5 a6 a7) (hE : qz_E (P k) (-1) (-a2 k) a5 a6 a7 b6 b7) : qz_I k P a1 a2 (upd a3 (P k) (a4 k)) a4 a5 b6 b7 := by
  obtain ⟨h0, h1, h2, h3, h4, hK⟩ := I
  refine ⟨by omega, fun j hj => h1 j (by omega), fun j hj => h2 j (by omega), fun q hq => ?_, fun j hj => h4 j (by omega), fun g hg hk q hq => ?_⟩
  · by_cases e : q = P k
    · rw [e, pk_us]
      exact h4 k (by omega)
    · rw [pk_un e, h3 q hq, qz_L_s, if_neg (fun z => e z.symm)]
  · obtain ⟨e6, e7⟩ := hE g hg hk q hq
    obtain ⟨k6, k7⟩ := hK g hg hk q hq
    rw [e6, e7, k6, k7, qz_C_s, qz_S_s]
    by_cases z : qz_G (P k) g = q
    · rw [decide_eq_true z, if_pos rfl, if_pos z, if_pos rfl, if_pos z, pk_m1, qz_i_cancel]
      exact ⟨rfl, rfl⟩
    · rw [decide_eq_false z, if_neg qz_ff, if_neg z, if_neg qz_ff, if_neg z, Int32.add_zero, Int32.add_zero, Int32.add_zero, Nat.add_zero]
      exact ⟨rfl, rfl⟩
theorem qz_S_upd {f : Nat → Bool} {v : Nat → Int32} {i : Nat} {x : Int32} : ∀ n, qz_S f (upd v i x) n = qz_S f v n + (if i < n ∧ f i = true then x - v i else 0)
  | 0 => by
    rw [if_neg (fun z => absurd z.1 (Nat.not_lt_zero _))]
    rfl
  | n + 1 => by
    rw [qz_S_s, qz_S_s, qz_S_upd n]
    by_cases e : n = i
    · subst e
      rw [pk_us, if_neg (show ¬ (n < n ∧ f n = true) from fun z => absurd z.1 (Nat.lt_irrefl n))]
      cases hf : f n with
      | true =>
        rw [if_pos rfl, if_pos (show n < n + 1 ∧ true = true from ⟨by omega, rfl⟩), if_pos rfl]
        grind
      | false =>
        rw [if_neg qz_ff, if_neg (show ¬ (n < n + 1 ∧ false = true) from fun z => qz_ff z.2), if_neg qz_ff]
    · rw [pk_un e]
      by_cases l : i < n ∧ f i = true
      · rw [if_pos l, if_pos (show i < n + 1 ∧ f i = true from ⟨by omega, l.2⟩)]
        exact qz_i_swap _ _ _
      · rw [if_neg l, if_neg (show ¬ (i < n + 1 ∧ f i = true) from fun z => l ⟨by omega, z.2⟩), Int32.add_zero, Int32.add_zero]
theorem qz_I_chg {n i : Nat} {P : Nat → Nat} {a1 a2 a3 a4 a5 a6 a7 : Nat → Int32} {b6 b7 : Nat → Int32} {am : Int32} (I : qz_I n P a1 a2 a3 a4 a5 a6 a7) (hi : i < n) (hb : -50 ≤ am.toInt ∧ am.toInt ≤ 50) (hE : qz_E (P i) 0 (am - a2 i) a5 a6 a7 b6 b7) : qz_I n P a1 (upd a2 i am) a3 a4 a5 b6 b7 := by
  obtain ⟨h0, h1, h2, h3, h4, hK⟩ := I
  refine ⟨h0, h1, fun j hj => ?_, h3, h4, fun g hg hk q hq => ?_⟩
  · by_cases e : j = i
    · rw [e, pk_us]
      exact hb
    · rw [pk_un e]
      exact h2 j hj
  · obtain ⟨e6, e7⟩ := hE g hg hk q hq
    obtain ⟨k6, k7⟩ := hK g hg hk q hq
    rw [e6, e7, k6, k7, qz_S_upd]
    by_cases z : qz_G (P i) g = q
    · rw [if_pos z, if_pos z, if_pos (show i < n ∧ decide (qz_G (P i) g = q) = true from ⟨hi, decide_eq_true z⟩), Int32.add_zero]
      exact ⟨rfl, rfl⟩
    · rw [if_neg z, if_neg z, if_neg (show ¬ (i < n ∧ decide (qz_G (P i) g = q) = true) from fun t => z (of_decide_eq_true t.2)), Int32.add_zero]
      exact ⟨rfl, rfl⟩
theorem qz_am {am : Int32} (h1 : ¬ am < -50) (h2 : am ≤ 50) : -50 ≤ am.toInt ∧ am.toInt ≤ 50 := by
  have e1 : (-50 : Int32).toInt = -50 := by decide
  have e2 : (50 : Int32).toInt = 50 := by decide
  rw [Int32.lt_iff_toInt_lt, e1] at h1
  rw [Int32.le_iff_toInt_le, e2] at h2
  omega
theorem qz_add {post : Int32 → St1 → Prop} {n : Nat} {P : Nat → Nat} {a1 a2 a3 a4 a5 a6 a7 a8 a9 : Nat → Int32} {p : Nat} {am : Int32} (I : qz_I n P a1 a2 a3 a4 a5 a6 a7) (hn : n < 8) (hp : p < 1000)
    (H0 : (120 ≤ p ∨ am < -50 ∨ ¬ am ≤ 50) → post (-1000000) (nI n, a1, a2, a3, a4, a5, a6, a7, a8, a9))
    (H1 : p < 120 → ¬ am < -50 → am ≤ 50 → ∀ b3 b4 b6 b7, qz_I (n + 1) (qz_up P n p) (upd a1 n (nI p)) (upd a2 n am) b3 b4 a5 b6 b7 → post (nI n) (nI (n + 1), upd a1 n (nI p), upd a2 n am, b3, b4, a5, b6, b7, a8, a9)) : wpX_add post (nI n, a1, a2, a3, a4, a5, a6, a7, a8, a9) (nI p) am := by
  refine br_f (nI_pos (by omega)) (pk_le 120 p (fun z => H0 (Or.inl z)) (fun hp' => br_c (fun z => H0 (Or.inr (Or.inl z))) (fun l1 => br_c (fun l2 => ?_) (fun z => H0 (Or.inr (Or.inr z))))))
  refine pk_eq n 40 (fun z => absurd z (by omega)) (fun _ => ?_)
  rw [nI_clamp (show n < 2 ^ 31 by omega), nI_clamp (show p < 2 ^ 31 by omega)]
  refine ⟨pk_in n 40 (by omega), nm_e ⟨pk_in n 40 (by omega), nm_e ⟨pk_in p 120 hp', pk_in n 40 (by omega), nm_e ⟨pk_in p 120 hp', nm_e (nm_r (nI_1 n) (qz_enter hp' (fun b6 b7 hE => ?_)))⟩⟩⟩⟩
  show post (nI (n + 1) - 1) _
  rw [nI_pred]
  exact H1 hp' l1 l2 _ _ b6 b7 (qz_I_add I hn hp' (qz_am l1 l2) hE)
theorem qz_remove {post : Int32 → St1 → Prop} {n : Nat} {P : Nat → Nat} {a1 a2 a3 a4 a5 a6 a7 a8 a9 : Nat → Int32} (I : qz_I n P a1 a2 a3 a4 a5 a6 a7)
    (H0 : n = 0 → post (-4000000) (nI n, a1, a2, a3, a4, a5, a6, a7, a8, a9))
    (H1 : ∀ k, n = k + 1 → ∀ b3 b6 b7, qz_I k P a1 a2 b3 a4 a5 b6 b7 → post (a2 k) (nI k, a1, a2, b3, a4, a5, b6, b7, a8, a9)) : wpX_remove post (nI n, a1, a2, a3, a4, a5, a6, a7, a8, a9) := by
  have hn := I.1
  refine pk_eq n 0 (fun z => H0 z) (fun z => ?_)
  obtain ⟨k, rfl⟩ : ∃ k, n = k + 1 := ⟨n - 1, by omega⟩
  obtain ⟨hP, ha⟩ := I.2.1 k (by omega)
  refine nm_r (nI_pred k) ?_
  rw [nI_clamp (show k < 2 ^ 31 by omega), ha]
  refine ⟨pk_in k 40 (by omega), nm_e ?_⟩
  rw [nI_clamp (show P k < 2 ^ 31 by omega)]
  refine ⟨pk_in k 40 (by omega), pk_in (P k) 120 hP, nm_e ⟨pk_in k 40 (by omega), qz_enter hP (fun b6 b7 hE => ⟨pk_in k 40 (by omega), ?_⟩)⟩⟩
  rw [nI_clamp (show k < 2 ^ 31 by omega)]
  exact H1 k rfl _ b6 b7 (qz_I_rem I hE)
theorem qz_change {post : Int32 → St1 → Prop} {n : Nat} {P : Nat → Nat} {a1 a2 a3 a4 a5 a6 a7 a8 a9 : Nat → Int32} {i : Nat} {am : Int32} (I : qz_I n P a1 a2 a3 a4 a5 a6 a7) (hi : i < 1000)
    (H0 : (n ≤ i ∨ am < -50 ∨ ¬ am ≤ 50) → post (-1000000) (nI n, a1, a2, a3, a4, a5, a6, a7, a8, a9))
    (H1 : i < n → ¬ am < -50 → am ≤ 50 → ∀ b6 b7, qz_I n P a1 (upd a2 i am) a3 a4 a5 b6 b7 → post (a2 i) (nI n, a1, upd a2 i am, a3, a4, a5, b6, b7, a8, a9)) : wpX_change post (nI n, a1, a2, a3, a4, a5, a6, a7, a8, a9) (nI i) am := by
  have hn := I.1
  refine br_f (nI_pos (by omega)) (pk_le n i (fun z => H0 (Or.inl z)) (fun hi' => br_c (fun z => H0 (Or.inr (Or.inl z))) (fun l1 => br_c (fun l2 => ?_) (fun z => H0 (Or.inr (Or.inr z))))))
  obtain ⟨hP, ha⟩ := I.2.1 i hi'
  rw [nI_clamp (show i < 2 ^ 31 by omega), ha]
  refine ⟨pk_in i 40 (by omega), nm_e ⟨pk_in i 40 (by omega), nm_e ⟨pk_in i 40 (by omega), qz_enter hP (fun b6 b7 hE => ?_)⟩⟩⟩
  exact H1 hi' l1 l2 b6 b7 (qz_I_chg I hi' (qz_am l1 l2) hE)
end
section
/-! ===== fill, plan ===== -/
def qz_Fi (n : Nat) (P : Nat → Nat) (v : Nat → Int32) (g : Nat) (a6 a7 b6 b7 : Nat → Int32) : Prop := (∀ q, q < 120 → b6 (120 * g + q) = nI (qz_C (fun j => decide (qz_G (P j) g = q)) n) ∧ b7 (120 * g + q) = qz_S (fun j => decide (qz_G (P j) g = q)) v n) ∧ (∀ m, (m < 120 * g ∨ 120 * g + 120 ≤ m) → b6 m = a6 m ∧ b7 m = a7 m)
theorem qz_fill40 {post : St1 → Prop} {n : Nat} {P : Nat → Nat} {a1 a2 a3 a4 a5 a6 a7 a8 a9 : Nat → Int32} {e6 e7 : Nat → Int32} {g : Nat} (hn : n ≤ 8) (hg : g < 8) (h1 : ∀ j, j < n → P j < 120 ∧ a1 j = nI (P j)) (h0 : qz_Fi 0 P a2 g e6 e7 a6 a7)
    (H : ∀ b6 b7, qz_Fi n P a2 g e6 e7 b6 b7 → post (nI n, a1, a2, a3, a4, a5, b6, b7, a8, a9)) : ∃ fu, wX_fill_40 post (nI g) (nI n) fu 0 a1 a2 a3 a4 a5 a6 a7 a8 a9 := by
  refine pk_loop (fun m i s => wX_fill_40 post (nI g) (nI n) m (nI i) a1 a2 a3 a4 a5 s.1 s.2 a8 a9) (fun i s => qz_Fi i P a2 g e6 e7 s.1 s.2) n 0 (a6, a7) (by omega) h0 ?_ ?_
  · intro m s h
    exact pk_le n n (fun _ => H s.1 s.2 h) (fun z => absurd z (by omega))
  · intro m i s hi h hw
    obtain ⟨hP, ha⟩ := h1 i hi
    obtain ⟨k1, k2⟩ := h
    have hG := qz_G_lt (P i) hP g hg
    have hr : 120 * g + qz_G (P i) g < 960 := by omega
    refine pk_le n i (fun z => absurd z (by omega)) (fun _ => ?_)
    rw [nI_clamp (show i < 2 ^ 31 by omega), ha]
    refine ⟨pk_in i 40 (by omega), qz_group (by omega) hg (nm_r qz_at ?_)⟩
    rw [nI_clamp (show 120 * g + qz_G (P i) g < 2 ^ 31 by omega)]
    refine ⟨pk_in _ 960 hr, pk_in _ 960 hr, nm_e ⟨pk_in _ 960 hr, pk_in i 40 (by omega), pk_in _ 960 hr, nm_e (nm_r (nI_1 i) (hw (upd s.1 (120 * g + qz_G (P i) g) (s.1 (120 * g + qz_G (P i) g) + 1), upd s.2 (120 * g + qz_G (P i) g) (s.2 (120 * g + qz_G (P i) g) + a2 i)) ⟨fun q hq => ?_, fun m hm => ?_⟩))⟩⟩
    · show upd s.1 (120 * g + qz_G (P i) g) (s.1 (120 * g + qz_G (P i) g) + 1) (120 * g + q) = _ ∧ upd s.2 (120 * g + qz_G (P i) g) (s.2 (120 * g + qz_G (P i) g) + a2 i) (120 * g + q) = _
      rw [qz_C_s, qz_S_s]
      by_cases z : qz_G (P i) g = q
      · rw [decide_eq_true z, if_pos rfl, if_pos rfl, z, pk_us, pk_us, (k1 q hq).1, (k1 q hq).2, nI_1]
        exact ⟨rfl, rfl⟩
      · rw [decide_eq_false z, if_neg qz_ff, if_neg qz_ff, Nat.add_zero, Int32.add_zero, pk_un (show 120 * g + q ≠ 120 * g + qz_G (P i) g by omega), pk_un (show 120 * g + q ≠ 120 * g + qz_G (P i) g by omega)]
        exact k1 q hq
    · show upd s.1 (120 * g + qz_G (P i) g) (s.1 (120 * g + qz_G (P i) g) + 1) m = _ ∧ upd s.2 (120 * g + qz_G (P i) g) (s.2 (120 * g + qz_G (P i) g) + a2 i) m = _
      rw [pk_un (show m ≠ 120 * g + qz_G (P i) g by omega), pk_un (show m ≠ 120 * g + qz_G (P i) g by omega)]
      exact k2 m hm
theorem qz_fill {post : St1 → Prop} {n : Nat} {P : Nat → Nat} {a1 a2 a3 a4 a5 a6 a7 a8 a9 : Nat → Int32} {g : Nat} (hn : n ≤ 8) (hg : g < 8) (h1 : ∀ j, j < n → P j < 120 ∧ a1 j = nI (P j))
    (H : ∀ b6 b7, qz_Fi n P a2 g a6 a7 b6 b7 → post (nI n, a1, a2, a3, a4, a5, b6, b7, a8, a9)) : wpX_fill post (nI n, a1, a2, a3, a4, a5, a6, a7, a8, a9) (nI g) := by
  refine pk_loop (fun m i s => wX_fill_2 post (nI g) (nI n) m (nI i) a1 a2 a3 a4 a5 s.1 s.2 a8 a9) (fun i s => (∀ q, q < i → s.1 (120 * g + q) = 0 ∧ s.2 (120 * g + q) = 0) ∧ (∀ m, (m < 120 * g ∨ 120 * g + 120 ≤ m) → s.1 m = a6 m ∧ s.2 m = a7 m)) 120 0 (a6, a7) (by omega) ⟨fun q hq => absurd hq (by omega), fun m _ => ⟨rfl, rfl⟩⟩ ?_ ?_
  · intro m s h
    exact pk_le 120 120 (fun _ => qz_fill40 hn hg h1 h H) (fun z => absurd z (by omega))
  · intro m i s hi h hw
    obtain ⟨k1, k2⟩ := h
    have hr : 120 * g + i < 960 := by omega
    refine pk_le 120 i (fun z => absurd z (by omega)) (fun _ => ?_)
    rw [qz_at, nI_clamp (show 120 * g + i < 2 ^ 31 by omega)]
    refine ⟨pk_in _ 960 hr, nm_e ⟨pk_in _ 960 hr, nm_e (nm_r (nI_1 i) (hw (upd s.1 (120 * g + i) 0, upd s.2 (120 * g + i) 0) ⟨fun q hq => ?_, fun m hm => ?_⟩))⟩⟩
    · show upd s.1 (120 * g + i) 0 (120 * g + q) = 0 ∧ upd s.2 (120 * g + i) 0 (120 * g + q) = 0
      by_cases e : q = i
      · rw [e, pk_us, pk_us]
        exact ⟨rfl, rfl⟩
      · rw [pk_un (show 120 * g + q ≠ 120 * g + i by omega), pk_un (show 120 * g + q ≠ 120 * g + i by omega)]
        exact k1 q (by omega)
    · show upd s.1 (120 * g + i) 0 m = _ ∧ upd s.2 (120 * g + i) 0 m = _
      rw [pk_un (show m ≠ 120 * g + i by omega), pk_un (show m ≠ 120 * g + i by omega)]
      exact k2 m hm
theorem qz_I_fill {n : Nat} {P : Nat → Nat} {a1 a2 a3 a4 a5 a6 a7 : Nat → Int32} {b6 b7 : Nat → Int32} {g : Nat} (I : qz_I n P a1 a2 a3 a4 a5 a6 a7) (h : qz_Fi n P a2 g a6 a7 b6 b7) : qz_I n P a1 a2 a3 a4 (upd a5 g 1) b6 b7 := by
  obtain ⟨h0, h1, h2, h3, h4, hK⟩ := I
  refine ⟨h0, h1, h2, h3, h4, fun g' hg' hk q hq => ?_⟩
  by_cases e : g' = g
  · rw [e]
    exact h.1 q hq
  · rw [pk_un e] at hk
    have t := h.2 (120 * g' + q) (by omega)
    rw [t.1, t.2]
    exact hK g' hg' hk q hq
theorem qz_plan69 {post : Int32 → St1 → Prop} {J42 : Int32 → Int32 → Int32 → Int32 → (Nat → Int32) → (Nat → Int32) → (Nat → Int32) → (Nat → Int32) → (Nat → Int32) → (Nat → Int32) → (Nat → Int32) → (Nat → Int32) → (Nat → Int32) → Prop} {x2 x4 x5 c0 : Int32} {a1 a2 a3 a4 a5 a6 a7 a8 a9 : Nat → Int32} (h0 : wX_plan_138 post J42 x2 x4 (-1) 0 c0 a1 a2 a3 a4 a5 a6 a7 a8 a9) (h1 : ∀ g, g < 8 → wX_plan_138 post J42 x2 x4 (nI g) 1 c0 a1 a2 a3 a4 a5 a6 a7 a8 a9) : ∃ fu, wX_plan_69 post J42 x2 x4 x5 c0 a1 a2 a3 a4 a5 a6 a7 a8 a9 fu (-1) 0 0 := by
  refine pk_loop (fun m i s => wX_plan_69 post J42 x2 x4 x5 c0 a1 a2 a3 a4 a5 a6 a7 a8 a9 m s.1 s.2 (nI i)) (fun i s => s.1 = -1 ∨ ∃ g, g < 8 ∧ s.1 = nI g) 8 0 (-1, 0) (by omega) (Or.inl rfl) ?_ ?_
  · intro m s h
    refine pk_le 8 8 (fun _ => ?_) (fun z => absurd z (by omega))
    rcases h with e | ⟨g, hg, e⟩
    · rw [e]
      exact br_t (show (-1 : Int32) < 0 by decide) h0
    · rw [e]
      exact br_f (nI_pos (by omega)) (h1 g hg)
  · intro m i s hi h hw
    have t : wX_plan_69 post J42 x2 x4 x5 c0 a1 a2 a3 a4 a5 a6 a7 a8 a9 m s.1 s.2 (nI (i + 1)) := hw s h
    have t2 : ∀ y, wX_plan_69 post J42 x2 x4 x5 c0 a1 a2 a3 a4 a5 a6 a7 a8 a9 m (nI i) y (nI (i + 1)) := fun y => hw (nI i, y) (Or.inr ⟨i, hi, rfl⟩)
    exact pk_le 8 i (fun z => absurd z (by omega)) (fun _ => qz_workWith (fun r => nm_e ⟨pk_in i 8 hi, br_c (fun _ => qz_cells (fun r' => br_c (fun _ => nm_r (nI_1 i) t) (fun _ => br_c (fun _ => nm_r (nI_1 i) t) (fun _ => nm_r (nI_1 i) (t2 _))))) (fun _ => nm_r (nI_1 i) t)⟩))
theorem qz_plan42 {post : Int32 → St1 → Prop} {n : Nat} {P : Nat → Nat} {a1 a2 a3 a4 a8 a9 : Nat → Int32} (H : ∀ b5 b6 b7, qz_I n P a1 a2 a3 a4 b5 b6 b7 → post 0 (nI n, a1, a2, a3, a4, b5, b6, b7, a8, a9)) :
    ∀ fu k x2 x3 a5 a6 a7, k ≤ 8 → 8 < fu + k → qz_I n P a1 a2 a3 a4 a5 a6 a7 → wX_plan_42 post fu x2 x3 (nI k) (nI n) a1 a2 a3 a4 a5 a6 a7 a8 a9
  | 0, k, x2, x3, a5, a6, a7, hk, hf, _ => absurd hf (by omega)
  | fu + 1, k, x2, x3, a5, a6, a7, hk, hf, I => by
    refine pk_le 8 k (fun _ => H a5 a6 a7 I) (fun hk' => br_c (fun _ => H a5 a6 a7 I) (fun _ => qz_workWith (fun r => qz_plan69 ?_ (fun g hg => ?_))))
    · exact br_t rfl (nm_r (nI_1 k) (qz_plan42 H fu (k + 1) _ _ a5 a6 a7 (by omega) (by omega) I))
    · refine br_f qz_10 ⟨pk_in g 8 hg, ?_⟩
      rw [nI_clamp (show g < 2 ^ 31 by omega)]
      refine nm_e (qz_cells (fun r' => nm_e (qz_fill (P := P) I.1 hg I.2.1 (fun b6 b7 hF => nm_r (nI_1 k) ?_))))
      exact qz_plan42 H fu (k + 1) _ _ _ b6 b7 (by omega) (by omega) (qz_I_fill I hF)
theorem qz_plan {post : Int32 → St1 → Prop} {n : Nat} {P : Nat → Nat} {a1 a2 a3 a4 a5 a6 a7 a8 a9 : Nat → Int32} {x : Nat} (I : qz_I n P a1 a2 a3 a4 a5 a6 a7) (hx : x < 1000)
    (H0 : 200 < x → post (-1000000) (nI n, a1, a2, a3, a4, a5, a6, a7, a8, a9))
    (H1 : x ≤ 200 → ∀ b5 b6 b7, qz_I n P a1 a2 a3 a4 b5 b6 b7 → post 0 (nI n, a1, a2, a3, a4, b5, b6, b7, a8, a9)) : wpX_plan post (nI n, a1, a2, a3, a4, a5, a6, a7, a8, a9) (nI x) := by
  obtain ⟨h0, h1, h2, h3, h4, hK⟩ := I
  refine br_f (nI_pos (by omega)) (pk_le x 200 (fun hx' => ?_) (fun z => H0 z))
  refine pk_loop (fun m i s => wX_plan_16 post (nI x) (nI n) m (nI i) a1 a2 a3 a4 s a6 a7 a8 a9) (fun i s => ∀ g, g < i → s g = 0) 8 0 a5 (by omega) (fun g hg => absurd hg (by omega)) ?_ ?_
  · intro m s h
    refine pk_le 8 8 (fun _ => ⟨9, ?_⟩) (fun z => absurd z (by omega))
    exact qz_plan42 (H1 hx') 9 0 _ _ s a6 a7 (by omega) (by omega) ⟨h0, h1, h2, h3, h4, fun g hg hk => absurd (h g hg) hk⟩
  · intro m i s hi h hw
    refine pk_le 8 i (fun z => absurd z (by omega)) (fun _ => ?_)
    rw [nI_clamp (show i < 2 ^ 31 by omega)]
    refine ⟨pk_in i 8 hi, nm_e (nm_r (nI_1 i) (hw (upd s i 0) (fun g hg => ?_)))⟩
    by_cases e : g = i
    · rw [e, pk_us]
    · rw [pk_un e]
      exact h g (by omega)
end
section
/-! ===== bytes of a long ===== -/
def qz_by (x : Int64) (j : Int32) : Int32 := ((x >>> ((8 * j).toInt64 &&& 63)) &&& 255).toInt32
def qz_set (x : Int64) (i : Int32) (y : Int64) : Int64 := (x &&& (((255 : Int64) <<< ((8 * i).toInt64 &&& 63)) ^^^ (-1))) ||| (y <<< ((8 * i).toInt64 &&& 63))
theorem qz_sh : ∀ j, j < 8 → (((8 * nI j).toInt64 &&& 63).toBitVec.smod 64).toNat = 8 * j := by decide +kernel
theorem qz_255 : ∀ k, k < 64 → (255 : Int64).toBitVec.getLsbD k = decide (k < 8) := by decide +kernel
theorem qz_m1b : ∀ k, k < 64 → (-1 : Int64).toBitVec.getLsbD k = true := by decide +kernel
theorem qz_by_bit {x : Int64} {j k : Nat} (hj : j < 8) (hk : k < 32) : (qz_by x (nI j)).toBitVec.getLsbD k = (decide (k < 8) && x.toBitVec.getLsbD (8 * j + k)) := by
  unfold qz_by
  rw [Int64.toBitVec_toInt32, BitVec.getLsbD_signExtend, if_pos (show k < 64 by omega), decide_eq_true hk, Bool.true_and, Int64.toBitVec_and, BitVec.getLsbD_and, qz_255 k (by omega), Int64.toBitVec_shiftRight]
  show ((x.toBitVec.sshiftRight (((8 * nI j).toInt64 &&& 63).toBitVec.smod 64).toNat).getLsbD k && decide (k < 8)) = _
  rw [qz_sh j hj, BitVec.getLsbD_sshiftRight, Bool.and_comm]
  by_cases h : k < 8
  · rw [decide_eq_true h, Bool.true_and, Bool.true_and, if_pos (by omega), decide_eq_false (by omega)]
    rfl
  · rw [decide_eq_false h, Bool.false_and, Bool.false_and]
theorem qz_shl_bit {y : Int64} {i k : Nat} (hi : i < 8) (hk : k < 64) : (y <<< ((8 * nI i).toInt64 &&& 63)).toBitVec.getLsbD k = (decide (8 * i ≤ k) && y.toBitVec.getLsbD (k - 8 * i)) := by
  rw [Int64.toBitVec_shiftLeft]
  show (y.toBitVec <<< (((8 * nI i).toInt64 &&& 63).toBitVec.smod 64).toNat).getLsbD k = _
  rw [qz_sh i hi, BitVec.getLsbD_shiftLeft, decide_eq_true hk, Bool.true_and]
  by_cases h : k < 8 * i
  · rw [decide_eq_true h, decide_eq_false (by omega)]
    rfl
  · rw [decide_eq_false h, decide_eq_true (by omega)]
    rfl
theorem qz_set_bit {x y : Int64} {i k : Nat} (hi : i < 8) (hk : k < 64) : (qz_set x (nI i) y).toBitVec.getLsbD k = ((x.toBitVec.getLsbD k && !(decide (8 * i ≤ k) && decide (k - 8 * i < 8))) || (decide (8 * i ≤ k) && y.toBitVec.getLsbD (k - 8 * i))) := by
  unfold qz_set
  rw [Int64.toBitVec_or, BitVec.getLsbD_or, Int64.toBitVec_and, BitVec.getLsbD_and, Int64.toBitVec_xor, BitVec.getLsbD_xor, qz_shl_bit hi hk, qz_shl_bit hi hk, qz_m1b k hk, qz_255 (k - 8 * i) (by omega), Bool.xor_true]
theorem qz_w64 {w k : Nat} : (lN w).toBitVec.getLsbD k = (decide (k < 64) && w.testBit k) := by
  show (BitVec.ofNat 64 w).getLsbD k = _
  rw [BitVec.getLsbD_ofNat]
theorem qz_w32 {w k : Nat} : (nI w).toBitVec.getLsbD k = (decide (k < 32) && w.testBit k) := by
  show (BitVec.ofNat 32 w).getLsbD k = _
  rw [BitVec.getLsbD_ofNat]
theorem qz_w8 {w k : Nat} (hw : w < 256) (hk : 8 ≤ k) : w.testBit k = false := by
  apply Nat.testBit_lt_two_pow
  have : 2 ^ 8 ≤ 2 ^ k := Nat.pow_le_pow_right (by decide) hk
  omega
theorem qz_by_same {x : Int64} {i w : Nat} (hi : i < 8) (hw : w < 256) : qz_by (qz_set x (nI i) (lN w)) (nI i) = nI w := by
  apply Int32.toBitVec_inj.mp
  apply BitVec.eq_of_getLsbD_eq
  intro k hk
  rw [qz_by_bit hi hk, qz_w32, decide_eq_true hk, Bool.true_and]
  by_cases h : k < 8
  · rw [qz_set_bit hi (by omega), qz_w64, decide_eq_true h, decide_eq_true (show 8 * i ≤ 8 * i + k by omega), decide_eq_true (show 8 * i + k - 8 * i < 8 by omega), decide_eq_true (show 8 * i + k - 8 * i < 64 by omega), show 8 * i + k - 8 * i = k by omega]
    simp
  · rw [decide_eq_false h, Bool.false_and, qz_w8 hw (by omega)]
theorem qz_by_other {x : Int64} {i j w : Nat} (hi : i < 8) (hj : j < 8) (hw : w < 256) (n : j ≠ i) : qz_by (qz_set x (nI i) (lN w)) (nI j) = qz_by x (nI j) := by
  apply Int32.toBitVec_inj.mp
  apply BitVec.eq_of_getLsbD_eq
  intro k hk
  rw [qz_by_bit hj hk, qz_by_bit hj hk]
  by_cases h : k < 8
  · rw [qz_set_bit hi (by omega), qz_w64]
    by_cases l : 8 * i ≤ 8 * j + k
    · rw [qz_w8 hw (show 8 ≤ 8 * j + k - 8 * i by omega), decide_eq_false (show ¬ 8 * j + k - 8 * i < 8 by omega)]
      simp
    · rw [decide_eq_false l]
      simp
  · rw [decide_eq_false h, Bool.false_and, Bool.false_and]
def qz_R (x2 x4 : Int64) (n : Nat) (P : Nat → Nat) (v : Nat → Int32) : Prop := ∀ j, j < n → qz_by x2 (nI j) - 128 = v j ∧ qz_by x4 (nI j) = nI (P j)
theorem qz_am128 {am : Int32} (hb : -50 ≤ am.toInt ∧ am.toInt ≤ 50) : ∃ w, w < 256 ∧ am + 128 = nI w := by
  have e : (128 : Int32).toInt = 128 := by decide
  have h : (am + 128).toInt = am.toInt + 128 := by rw [qz_add_toInt (by omega) (by omega), e]
  refine ⟨(am.toInt + 128).toNat, by omega, ?_⟩
  apply Int32.toInt_inj.mp
  rw [h, nI_toInt (by omega)]
  omega
theorem qz_i128 (a : Int32) : a + 128 - 128 = a := by grind
theorem qz_R_put {x2 x4 : Int64} {n i : Nat} {P : Nat → Nat} {v : Nat → Int32} {am : Int32} (R : qz_R x2 x4 n P v) (hn : n ≤ 8) (hi : i < n) (hb : -50 ≤ am.toInt ∧ am.toInt ≤ 50) : qz_R (qz_set x2 (nI i) (am + 128).toInt64) x4 n P (upd v i am) := by
  obtain ⟨w, hw, e⟩ := qz_am128 hb
  intro j hj
  refine ⟨?_, (R j hj).2⟩
  rw [e, nI_l (by omega)]
  by_cases z : j = i
  · rw [z, pk_us, qz_by_same (by omega) hw, ← e, qz_i128]
  · rw [pk_un z, qz_by_other (by omega) (by omega) hw z]
    exact (R j hj).1
theorem qz_R_add {x2 x4 : Int64} {n p : Nat} {P : Nat → Nat} {v : Nat → Int32} {am : Int32} (R : qz_R x2 x4 n P v) (hn : n < 8) (hp : p < 120) (hb : -50 ≤ am.toInt ∧ am.toInt ≤ 50) : qz_R (qz_set x2 (nI n) (am + 128).toInt64) (qz_set x4 (nI n) (nI p).toInt64) (n + 1) (qz_up P n p) (upd v n am) := by
  obtain ⟨w, hw, e⟩ := qz_am128 hb
  intro j hj
  rw [e, nI_l (by omega), nI_l (by omega)]
  by_cases z : j = n
  · rw [z, pk_us, qz_up_s, qz_by_same (by omega) hw, qz_by_same (by omega) (by omega), ← e, qz_i128]
    exact ⟨rfl, rfl⟩
  · rw [pk_un z, qz_up_n z, qz_by_other (by omega) (by omega) hw z, qz_by_other (by omega) (by omega) (by omega) z]
    exact R j (by omega)
end
section
/-! ===== the law's inner loop ===== -/
theorem qz_ptree {A B : Prop} {p F : Nat} (hp : p < 120) (hF : F < 32768) (hA : qz_pass p F 7 = true → A) (hB : qz_pass p F 7 = false → B) :
    ¬ (4 : Int32) = 0 ∧ ((((nI F >>> ((nI p - nI p / 4 * 4) &&& 31)) &&& 1) = 1 → (¬ (4 : Int32) = 0 ∧ (¬ (5 : Int32) = 0 ∧ ((((nI F >>> ((4 + (nI p / 4 - nI p / 4 / 5 * 5)) &&& 31)) &&& 1) = 1 → (¬ (20 : Int32) = 0 ∧ ((((nI F >>> ((9 + nI p / 20) &&& 31)) &&& 1) = 1 → A) ∧ (¬ ((nI F >>> ((9 + nI p / 20) &&& 31)) &&& 1) = 1 → B)))) ∧ (¬ ((nI F >>> ((4 + (nI p / 4 - nI p / 4 / 5 * 5)) &&& 31)) &&& 1) = 1 → B))))) ∧ (¬ ((nI F >>> ((nI p - nI p / 4 * 4) &&& 31)) &&& 1) = 1 → B)) := by
  rw [qz_mod4 (by omega), qz_kind (by omega), qz_div20 (by omega), show (4 : Int32) + nI (p / 4 % 5) = nI (4 + p / 4 % 5) from nI_add 4 _, show (9 : Int32) + nI (p / 20) = nI (9 + p / 20) from nI_add 9 _, qz_bit hF (by omega), qz_bit hF (by omega), qz_bit hF (by omega)]
  rw [qz_pass7] at hA hB
  refine ⟨by decide, fun z1 => ⟨by decide, by decide, fun z2 => ⟨by decide, fun z3 => ?_, fun z3 => ?_⟩, fun z2 => ?_⟩, fun z1 => ?_⟩
  · exact hA (by rw [z1, z2, z3]; rfl)
  · exact hB (by rw [z1, z2, Bool.eq_false_iff.mpr z3]; rfl)
  · exact hB (by rw [z1, Bool.eq_false_iff.mpr z2]; rfl)
  · exact hB (by rw [Bool.eq_false_iff.mpr z1]; rfl)
theorem qz_l784 {post : Int32 → Prop} {L : Nat} {xs : Nat → Int32} {J43 : Int64 → Int64 → Int32 → Int32 → Int32 → (Nat → Int32) → (Nat → Int32) → (Nat → Int32) → (Nat → Int32) → (Nat → Int32) → (Nat → Int32) → (Nat → Int32) → (Nat → Int32) → (Nat → Int32) → Prop} {J460 : Int32 → Int32 → Int32 → Int32 → Int32 → Int32 → Int32 → Int32 → Prop} {J618 : Int32 → Int32 → Int32 → Prop} {x2 x4 : Int64} {x6 x7 x13 x14 x15 x16 x17 x18 x19 x20 x21 x22 x23 x25 x26 x27 z0 : Int32} {kc ks : Nat} {c0 : Int32} {a1 a2 a3 a4 a5 a6 a7 a8 a9 : Nat → Int32} {a i oa oi : Nat} {fi al : Bool} (ha : a < 8) (hi : i < 8) (h1 : oa < 120) (h2 : oi < 120) (h : J618 z0 (qz_b (fi && !(al && decide (oi = oa) && decide (i < a)))) (nI (i + 1))) : wL_law_784 post L xs J43 J460 J618 x2 x4 x6 x7 x13 x14 x15 x16 x17 x18 x19 x20 x21 x22 x23 (nI a) x25 x26 x27 (nI oa) (qz_b fi) (nI i) (qz_b al) (nI oi) z0 kc ks c0 a1 a2 a3 a4 a5 a6 a7 a8 a9 := by
  cases fi
  · exact br_t rfl (nm_r (nI_1 i) h)
  · cases al
    · exact br_f qz_10 (br_t rfl (nm_r (nI_1 i) h))
    · refine br_f qz_10 (br_f qz_10 (pk_eq oi oa (fun e => pk_lt i a (fun l => nm_r (nI_1 i) ?_) (fun l => nm_r (nI_1 i) ?_)) (fun e => nm_r (nI_1 i) ?_)))
      · rw [decide_eq_true e, decide_eq_true l] at h
        exact h
      · rw [decide_eq_true e, decide_eq_false (show ¬ i < a by omega)] at h
        exact h
      · rw [decide_eq_false e] at h
        exact h
theorem qz_l755 {post : Int32 → Prop} {L : Nat} {xs : Nat → Int32} {J43 : Int64 → Int64 → Int32 → Int32 → Int32 → (Nat → Int32) → (Nat → Int32) → (Nat → Int32) → (Nat → Int32) → (Nat → Int32) → (Nat → Int32) → (Nat → Int32) → (Nat → Int32) → (Nat → Int32) → Prop} {J460 : Int32 → Int32 → Int32 → Int32 → Int32 → Int32 → Int32 → Int32 → Prop} {J618 : Int32 → Int32 → Int32 → Prop} {x2 x4 : Int64} {x6 x7 x13 x14 x15 x16 x17 x18 x19 x20 x21 x22 x23 x25 x26 x27 x29 z0 z1 : Int32} {kc ks : Nat} {c0 : Int32} {a1 a2 a3 a4 a5 a6 a7 a8 a9 : Nat → Int32} {a i oa oi : Nat} {fi al : Bool} {v : Int32} (ha : a < 8) (hi : i < 8) (h1 : oa < 120) (h2 : oi < 120) (hv : qz_by x2 (nI i) - 128 = v) (e : z1 + z0 = nI oi) (h : J618 (x29 + (if (al && decide (oi = oa)) = true then v else 0)) (qz_b (fi && !(al && decide (oi = oa) && decide (i < a)))) (nI (i + 1))) : wL_law_755 post L xs J43 J460 J618 x2 x4 x6 x7 x13 x14 x15 x16 x17 x18 x19 x20 x21 x22 x23 (nI a) x25 x26 x27 (nI oa) x29 (qz_b fi) (nI i) (qz_b al) z0 z1 kc ks c0 a1 a2 a3 a4 a5 a6 a7 a8 a9 := by
  refine nm_r e ?_
  cases al
  · rw [Bool.false_and, if_neg qz_ff, Int32.add_zero] at h
    exact br_t rfl (qz_l784 (oi := oi) (al := false) ha hi h1 h2 h)
  · refine br_f qz_10 (pk_eq oi oa (fun t => ?_) (fun t => ?_))
    · rw [decide_eq_true t, Bool.true_and, if_pos rfl] at h
      have h3 : wL_law_784 post L xs J43 J460 J618 x2 x4 x6 x7 x13 x14 x15 x16 x17 x18 x19 x20 x21 x22 x23 (nI a) x25 x26 x27 (nI oa) (qz_b fi) (nI i) (qz_b true) (nI oi) (x29 + v) kc ks c0 a1 a2 a3 a4 a5 a6 a7 a8 a9 := qz_l784 ha hi h1 h2 (by rw [decide_eq_true t]; exact h)
      exact ek_v (P := fun r => wL_law_784 post L xs J43 J460 J618 x2 x4 x6 x7 x13 x14 x15 x16 x17 x18 x19 x20 x21 x22 x23 (nI a) x25 x26 x27 (nI oa) (qz_b fi) (nI i) (qz_b true) (nI oi) (x29 + r) kc ks c0 a1 a2 a3 a4 a5 a6 a7 a8 a9) hv h3
    · rw [decide_eq_false t, Bool.and_false, if_neg qz_ff, Int32.add_zero] at h
      exact qz_l784 (oi := oi) (al := true) ha hi h1 h2 (by rw [decide_eq_false t]; exact h)
theorem qz_l735 {post : Int32 → Prop} {L : Nat} {xs : Nat → Int32} {J43 : Int64 → Int64 → Int32 → Int32 → Int32 → (Nat → Int32) → (Nat → Int32) → (Nat → Int32) → (Nat → Int32) → (Nat → Int32) → (Nat → Int32) → (Nat → Int32) → (Nat → Int32) → (Nat → Int32) → Prop} {J460 : Int32 → Int32 → Int32 → Int32 → Int32 → Int32 → Int32 → Int32 → Prop} {J618 : Int32 → Int32 → Int32 → Prop} {x2 x4 : Int64} {x6 x7 x13 x14 x15 x17 x18 x19 x20 x21 x22 x23 x24 x25 x26 x27 x28 x29 x30 x31 x33 z0 z1 : Int32} {kc ks : Nat} {c0 : Int32} {a1 a2 a3 a4 a5 a6 a7 a8 a9 : Nat → Int32} {p r s : Nat} (hp : p < 120) (hr : r < 8) (e : z1 + z0 = nI s) (h : ∀ y z : Int32, y + z = nI (s + 20 * (if r / 4 = 0 then 0 else p / 20)) → wL_law_755 post L xs J43 J460 J618 x2 x4 x6 x7 x13 x14 x15 (nI r) x17 x18 x19 x20 x21 x22 x23 x24 x25 x26 x27 x28 x29 x30 x31 x33 z y kc ks c0 a1 a2 a3 a4 a5 a6 a7 a8 a9) : wL_law_735 post L xs J43 J460 J618 x2 x4 x6 x7 x13 x14 x15 (nI r) x17 x18 x19 x20 x21 x22 x23 x24 x25 x26 x27 x28 x29 x30 x31 (nI p) x33 z0 z1 kc ks c0 a1 a2 a3 a4 a5 a6 a7 a8 a9 := by
  refine ek_if (qz_a4 r hr) (fun t => ?_) (fun t => ⟨by decide, ?_⟩)
  · refine h _ _ ?_
    rw [if_pos t, e, Int32.add_zero]
    rfl
  · refine h _ _ ?_
    rw [if_neg t, e, qz_div20 (by omega), show nI (p / 20) * 20 = nI (p / 20 * 20) from pk_mul _ 20, nI_add, Nat.mul_comm]
theorem qz_l716 {post : Int32 → Prop} {L : Nat} {xs : Nat → Int32} {J43 : Int64 → Int64 → Int32 → Int32 → Int32 → (Nat → Int32) → (Nat → Int32) → (Nat → Int32) → (Nat → Int32) → (Nat → Int32) → (Nat → Int32) → (Nat → Int32) → (Nat → Int32) → (Nat → Int32) → Prop} {J460 : Int32 → Int32 → Int32 → Int32 → Int32 → Int32 → Int32 → Int32 → Prop} {J618 : Int32 → Int32 → Int32 → Prop} {x2 x4 : Int64} {x6 x7 x13 x14 x15 x17 x18 x19 x20 x21 x22 x23 x24 x25 x26 x27 x28 x29 x30 x31 x33 z0 : Int32} {kc ks : Nat} {c0 : Int32} {a1 a2 a3 a4 a5 a6 a7 a8 a9 : Nat → Int32} {p r s : Nat} (hp : p < 120) (hr : r < 8) (e : z0 = nI s) (h : ∀ y z : Int32, y + z = nI (s + 4 * (if r / 2 % 2 = 0 then 0 else p / 4 % 5)) → wL_law_735 post L xs J43 J460 J618 x2 x4 x6 x7 x13 x14 x15 (nI r) x17 x18 x19 x20 x21 x22 x23 x24 x25 x26 x27 x28 x29 x30 x31 (nI p) x33 z y kc ks c0 a1 a2 a3 a4 a5 a6 a7 a8 a9) : wL_law_716 post L xs J43 J460 J618 x2 x4 x6 x7 x13 x14 x15 (nI r) x17 x18 x19 x20 x21 x22 x23 x24 x25 x26 x27 x28 x29 x30 x31 (nI p) x33 z0 kc ks c0 a1 a2 a3 a4 a5 a6 a7 a8 a9 := by
  refine ek_if (qz_a2 r hr) (fun t => ?_) (fun t => ⟨by decide, by decide, ?_⟩)
  · refine h _ _ ?_
    rw [if_pos t, e, Int32.add_zero]
    rfl
  · refine h _ _ ?_
    rw [if_neg t, e, qz_kind (by omega), show nI (p / 4 % 5) * 4 = nI (p / 4 % 5 * 4) from pk_mul _ 4, nI_add, Nat.mul_comm]
theorem qz_l699 {post : Int32 → Prop} {L : Nat} {xs : Nat → Int32} {J43 : Int64 → Int64 → Int32 → Int32 → Int32 → (Nat → Int32) → (Nat → Int32) → (Nat → Int32) → (Nat → Int32) → (Nat → Int32) → (Nat → Int32) → (Nat → Int32) → (Nat → Int32) → (Nat → Int32) → Prop} {J460 : Int32 → Int32 → Int32 → Int32 → Int32 → Int32 → Int32 → Int32 → Prop} {J618 : Int32 → Int32 → Int32 → Prop} {x2 x4 : Int64} {x6 x7 x13 x14 x15 x17 x18 x19 x20 x21 x22 x23 x24 x25 x26 x27 x28 x29 x30 x31 z0 : Int32} {kc ks : Nat} {c0 : Int32} {a1 a2 a3 a4 a5 a6 a7 a8 a9 : Nat → Int32} {p r : Nat} (hp : p < 120) (hr : r < 8) (h : ∀ y z : Int32, y + z = nI (qz_G p r) → wL_law_755 post L xs J43 J460 J618 x2 x4 x6 x7 x13 x14 x15 (nI r) x17 x18 x19 x20 x21 x22 x23 x24 x25 x26 x27 x28 x29 x30 x31 z0 z y kc ks c0 a1 a2 a3 a4 a5 a6 a7 a8 a9) : wL_law_699 post L xs J43 J460 J618 x2 x4 x6 x7 x13 x14 x15 (nI r) x17 x18 x19 x20 x21 x22 x23 x24 x25 x26 x27 x28 x29 x30 x31 (nI p) z0 kc ks c0 a1 a2 a3 a4 a5 a6 a7 a8 a9 := by
  have t1 : ∀ y : Int32, y = nI (if r % 2 = 0 then 0 else p % 4) → wL_law_716 post L xs J43 J460 J618 x2 x4 x6 x7 x13 x14 x15 (nI r) x17 x18 x19 x20 x21 x22 x23 x24 x25 x26 x27 x28 x29 x30 x31 (nI p) z0 y kc ks c0 a1 a2 a3 a4 a5 a6 a7 a8 a9 := fun y ey => qz_l716 hp hr ey (fun y' z' e' => qz_l735 hp hr e' h)
  refine ek_if (qz_a1 r hr) (fun t => ?_) (fun t => ⟨by decide, ?_⟩)
  · refine t1 _ ?_
    rw [if_pos t]
    rfl
  · refine t1 _ ?_
    rw [if_neg t, qz_mod4 (by omega)]
theorem qz_l618 {post : Int32 → Prop} {L : Nat} {xs : Nat → Int32} {J43 : Int64 → Int64 → Int32 → Int32 → Int32 → (Nat → Int32) → (Nat → Int32) → (Nat → Int32) → (Nat → Int32) → (Nat → Int32) → (Nat → Int32) → (Nat → Int32) → (Nat → Int32) → (Nat → Int32) → Prop} {J460 : Int32 → Int32 → Int32 → Int32 → Int32 → Int32 → Int32 → Int32 → Prop} {x2 x4 : Int64} {x7 x13 x14 x17 x18 x19 x20 x21 x22 x23 x25 x26 : Int32} {kc ks : Nat} {c0 : Int32} {a1 a2 a3 a4 a5 a6 a7 a8 a9 : Nat → Int32} {n F r a : Nat} {P : Nat → Nat} {v : Nat → Int32} (hn : n ≤ 8) (hF : F < 32768) (hr : r < 8) (ha : a < n) (hP : ∀ j, j < n → P j < 120) (R : qz_R x2 x4 n P v)
    (H : wL_law_823 post L xs J43 J460 x2 x4 (nI n) x7 x13 x14 (nI F) (nI r) x17 x18 x19 x20 x21 x22 x23 (nI a) x25 x26 (qz_b (qz_pass (P a) F 7)) (nI (qz_G (P a) r)) (qz_S (qz_f P F r (qz_G (P a) r)) v n) (qz_b (qz_pass (P a) F 7 && decide (qz_C (qz_f P F r (qz_G (P a) r)) a = 0))) kc ks c0 a1 a2 a3 a4 a5 a6 a7 a8 a9) :
    ∃ fu, wL_law_618 post L xs J43 J460 x2 x4 (nI n) x7 x13 x14 (nI F) (nI r) x17 x18 x19 x20 x21 x22 x23 (nI a) x25 x26 (qz_b (qz_pass (P a) F 7)) (nI (qz_G (P a) r)) kc ks c0 a1 a2 a3 a4 a5 a6 a7 a8 a9 fu 0 (qz_b (qz_pass (P a) F 7)) 0 := by
  have hga := qz_G_lt (P a) (hP a ha) r hr
  refine pk_loop (fun fu i s => wL_law_618 post L xs J43 J460 x2 x4 (nI n) x7 x13 x14 (nI F) (nI r) x17 x18 x19 x20 x21 x22 x23 (nI a) x25 x26 (qz_b (qz_pass (P a) F 7)) (nI (qz_G (P a) r)) kc ks c0 a1 a2 a3 a4 a5 a6 a7 a8 a9 fu s.1 s.2 (nI i))
    (fun i s => s.1 = qz_S (qz_f P F r (qz_G (P a) r)) v i ∧ s.2 = qz_b (qz_pass (P a) F 7 && decide (qz_C (qz_f P F r (qz_G (P a) r)) (min i a) = 0))) n 0 (0, qz_b (qz_pass (P a) F 7)) (by omega) ⟨rfl, ?_⟩ ?_ ?_
  · rw [Nat.zero_min]
    show qz_b (qz_pass (P a) F 7) = qz_b (qz_pass (P a) F 7 && true)
    rw [Bool.and_true]
  · intro fu s h
    obtain ⟨s1, s2⟩ := s
    obtain ⟨e1, e2⟩ := h
    dsimp only at e1 e2
    subst e1 e2
    rw [show min n a = a by omega]
    exact pk_le 8 n (fun _ => H) (fun _ => pk_le n n (fun _ => H) (fun z => absurd z (by omega)))
  · intro fu i s hi h hw
    obtain ⟨s1, s2⟩ := s
    obtain ⟨e1, e2⟩ := h
    dsimp only at e1 e2
    have hPi := hP i hi
    have hgi := qz_G_lt (P i) hPi r hr
    have key : ∀ al : Bool, qz_pass (P i) F 7 = al → wL_law_699 post L xs J43 J460 (wL_law_618 post L xs J43 J460 x2 x4 (nI n) x7 x13 x14 (nI F) (nI r) x17 x18 x19 x20 x21 x22 x23 (nI a) x25 x26 (qz_b (qz_pass (P a) F 7)) (nI (qz_G (P a) r)) kc ks c0 a1 a2 a3 a4 a5 a6 a7 a8 a9 fu) x2 x4 (nI n) x7 x13 x14 (nI F) (nI r) x17 x18 x19 x20 x21 x22 x23 (nI a) x25 x26 (qz_b (qz_pass (P a) F 7)) (nI (qz_G (P a) r)) s1 s2 (nI i) (nI (P i)) (qz_b al) kc ks c0 a1 a2 a3 a4 a5 a6 a7 a8 a9 := by
      intro al hal
      refine qz_l699 hPi hr (fun y z e => ?_)
      rw [e2]
      refine qz_l755 (by omega) (by omega) hga hgi (R i hi).1 e ?_
      refine hw (_, _) ⟨?_, ?_⟩
      · show s1 + _ = qz_S _ v (i + 1)
        rw [qz_S_s, e1, ← hal]
        rfl
      · show qz_b _ = qz_b _
        congr 1
        by_cases l : i < a
        · rw [show min i a = i by omega, show min (i + 1) a = i + 1 by omega, qz_C_s, decide_eq_true l, Bool.and_true, ← hal, Bool.and_assoc]
          congr 1
          show (decide (qz_C (qz_f P F r (qz_G (P a) r)) i = 0) && !(qz_f P F r (qz_G (P a) r) i)) = _
          cases qz_f P F r (qz_G (P a) r) i with
          | true =>
            rw [if_pos rfl, decide_eq_false (show ¬ qz_C (qz_f P F r (qz_G (P a) r)) i + 1 = 0 by omega), Bool.not_true, Bool.and_false]
          | false =>
            rw [if_neg qz_ff, Nat.add_zero, Bool.not_false, Bool.and_true]
        · rw [show min i a = a by omega, show min (i + 1) a = a by omega, decide_eq_false l, Bool.and_false, Bool.not_false, Bool.and_true]
    refine pk_le 8 i (fun z => absurd z (by omega)) (fun _ => pk_le n i (fun z => absurd z (by omega)) (fun _ => nm_r (R i hi).2 ?_))
    exact qz_ptree hPi hF (fun hal => key true hal) (fun hal => key false hal)
end
section
/-! ===== the law's outer loop ===== -/
theorem qz_T_0 {f : Nat → Bool} {o : Nat → Nat} {W : Nat → Int32} : qz_T 0 f o W (-4000000) (-4000000) := Or.inl ⟨fun j hj => absurd hj (by omega), rfl, rfl⟩
theorem qz_T_same {a : Nat} {f : Nat → Bool} {o : Nat → Nat} {W : Nat → Int32} {t nm : Int32} (h : qz_T a f o W t nm) (z : f a = false) : qz_T (a + 1) f o W t nm := by
  rcases h with ⟨h0, h1, h2⟩ | ⟨b, h1, h2, h3, h4, h5⟩
  · refine Or.inl ⟨fun j hj => ?_, h1, h2⟩
    by_cases e : j = a
    · rw [e]; exact z
    · exact h0 j (by omega)
  · refine Or.inr ⟨b, by omega, h2, h3, h4, fun c hc hf => ?_⟩
    by_cases e : c = a
    · rw [e, z] at hf
      exact absurd hf (by decide)
    · exact h5 c (by omega) hf
theorem qz_T_keep {a : Nat} {f : Nat → Bool} {o : Nat → Nat} {W : Nat → Int32} {t nm : Int32} (h : qz_T a f o W t nm) (ho : ∀ j, j ≤ a → o j < 120) (hlo : (-4000000 : Int32) < W (o a)) (z1 : ¬ t < W (o a)) (z2 : W (o a) = t → nm ≤ nI (o a)) : qz_T (a + 1) f o W t nm := by
  rcases h with ⟨h0, h1, h2⟩ | ⟨b, h1, h2, h3, h4, h5⟩
  · rw [h1] at z1
    exact absurd hlo z1
  · refine Or.inr ⟨b, by omega, h2, h3, h4, fun c hc hf => ?_⟩
    by_cases e : c = a
    · rw [e]
      by_cases y : W (o a) = W (o b)
      · have l := z2 (y.trans h4.symm)
        rw [h3, nI_leI (by have := ho b (by omega); omega) (by have := ho a (Nat.le_refl a); omega)] at l
        exact Or.inr ⟨y, l⟩
      · refine Or.inl ?_
        have y' : ¬ (W (o a)).toInt = (W (o b)).toInt := fun t => y (Int32.toInt_inj.mp t)
        rw [h4, Int32.lt_iff_toInt_lt] at z1
        rw [Int32.lt_iff_toInt_lt]
        omega
    · exact h5 c (by omega) hf
theorem qz_T_new {a : Nat} {f : Nat → Bool} {o : Nat → Nat} {W : Nat → Int32} {t nm : Int32} (h : qz_T a f o W t nm) (ho : ∀ j, j ≤ a → o j < 120) (hf : f a = true) (z : t < W (o a) ∨ (W (o a) = t ∧ ¬ nm ≤ nI (o a))) : qz_T (a + 1) f o W (W (o a)) (nI (o a)) := by
  refine Or.inr ⟨a, by omega, hf, rfl, rfl, fun c hc hfc => ?_⟩
  by_cases e : c = a
  · rw [e]
    exact Or.inr ⟨rfl, Nat.le_refl _⟩
  · rcases h with ⟨h0, h1, h2⟩ | ⟨b, h1, h2, h3, h4, h5⟩
    · rw [h0 c (by omega)] at hfc
      exact absurd hfc (by decide)
    · have hc5 := h5 c (by omega) hfc
      rw [h4, h3, nI_leI (by have := ho b (by omega); omega) (by have := ho a (Nat.le_refl a); omega)] at z
      rcases z with z | ⟨z, y⟩
      · refine Or.inl ?_
        rw [Int32.lt_iff_toInt_lt] at z ⊢
        rcases hc5 with w | ⟨w, _⟩
        · rw [Int32.lt_iff_toInt_lt] at w
          omega
        · rw [w]
          omega
      · rw [z]
        rcases hc5 with w | ⟨w, x⟩
        · exact Or.inl w
        · exact Or.inr ⟨w, by omega⟩
theorem qz_part {post : Int32 → Prop} {x : Int64} {j y : Int32} (e : qz_by x j - 128 = y) (h : post y) : wpL_part post () x j := by
  subst e
  exact h
theorem qz_l952 {post : Int32 → Prop} {L : Nat} {xs : Nat → Int32} {J43 : Int64 → Int64 → Int32 → Int32 → Int32 → (Nat → Int32) → (Nat → Int32) → (Nat → Int32) → (Nat → Int32) → (Nat → Int32) → (Nat → Int32) → (Nat → Int32) → (Nat → Int32) → (Nat → Int32) → Prop} {J460 : Int32 → Int32 → Int32 → Int32 → Int32 → Int32 → Int32 → Int32 → Prop} {x2 x4 : Int64} {x6 x7 x13 x14 x15 x16 x17 x18 x19 x20 x21 z0 : Int32} {kc ks : Nat} {c0 : Int32} {a1 a2 a3 a4 a5 a6 a7 a8 a9 : Nat → Int32} {a : Nat} {P : Nat → Nat} {v : Nat → Int32} (ha : a < 8) (hP : P a < 120) (h : J460 x17 x18 x19 x20 x21 z0 (qz_S (fun j => decide (P j / 20 = 3)) v (a + 1) - qz_S (fun j => decide (P j / 20 = 2)) v (a + 1)) (nI (a + 1))) : wL_law_952 post L xs J43 J460 x2 x4 x6 x7 x13 x14 x15 x16 x17 x18 x19 x20 x21 (qz_S (fun j => decide (P j / 20 = 3)) v a - qz_S (fun j => decide (P j / 20 = 2)) v a) (nI a) (nI (P a)) (v a) z0 kc ks c0 a1 a2 a3 a4 a5 a6 a7 a8 a9 := by
  rw [qz_S_s, qz_S_s] at h
  generalize qz_S (fun j => decide (P j / 20 = 3)) v a = X at *
  generalize qz_S (fun j => decide (P j / 20 = 2)) v a = Y at *
  unfold wL_law_952
  rw [qz_div20 (show P a < 1000 by omega)]
  refine ⟨by decide, pk_eq (P a / 20) 3 (fun e => ?_) (fun e => ⟨by decide, pk_eq (P a / 20) 2 (fun e2 => ?_) (fun e2 => ?_)⟩)⟩
  · refine nm_r ?_ (nm_r (nI_1 a) h)
    rw [decide_eq_true e, if_pos rfl, decide_eq_false (show ¬ P a / 20 = 2 by omega), if_neg qz_ff]
    grind
  · refine nm_r ?_ (nm_r (nI_1 a) h)
    rw [decide_eq_false e, if_neg qz_ff, decide_eq_true e2, if_pos rfl]
    grind
  · rw [decide_eq_false e, decide_eq_false e2, if_neg qz_ff, Int32.add_zero, Int32.add_zero] at h
    exact nm_r (nI_1 a) h
theorem qz_l891 {post : Int32 → Prop} {L : Nat} {xs : Nat → Int32} {J43 : Int64 → Int64 → Int32 → Int32 → Int32 → (Nat → Int32) → (Nat → Int32) → (Nat → Int32) → (Nat → Int32) → (Nat → Int32) → (Nat → Int32) → (Nat → Int32) → (Nat → Int32) → (Nat → Int32) → Prop} {J460 : Int32 → Int32 → Int32 → Int32 → Int32 → Int32 → Int32 → Int32 → Prop} {x2 x4 : Int64} {x6 x7 x13 x14 x15 x16 x17 x18 x19 x21 x22 x23 x24 x25 x26 z0 : Int32} {kc ks : Nat} {c0 : Int32} {a1 a2 a3 a4 a5 a6 a7 a8 a9 : Nat → Int32} {a : Nat} {f : Nat → Bool} {o : Nat → Nat} {W : Nat → Int32} (ho : ∀ j, j ≤ a → o j < 120) (hlo : (-4000000 : Int32) < W (o a)) (hT : qz_T a f o W x21 x22) (h : ∀ t nm, qz_T (a + 1) f o W t nm → wL_law_952 post L xs J43 J460 x2 x4 x6 x7 x13 x14 x15 x16 x17 x18 x19 z0 t x23 x24 x25 x26 nm kc ks c0 a1 a2 a3 a4 a5 a6 a7 a8 a9) : wL_law_891 post L xs J43 J460 x2 x4 x6 x7 x13 x14 x15 x16 x17 x18 x19 x21 x22 x23 x24 x25 x26 (qz_b (f a)) (nI (o a)) (W (o a)) z0 kc ks c0 a1 a2 a3 a4 a5 a6 a7 a8 a9 := by
  have hk : qz_T (a + 1) f o W x21 x22 → wL_law_923 post L xs J43 J460 x2 x4 x6 x7 x13 x14 x15 x16 x17 x18 x19 z0 x21 x22 x23 x24 x25 x26 (nI (o a)) (W (o a)) kc ks c0 a1 a2 a3 a4 a5 a6 a7 a8 a9 := fun t => br_t rfl (br_t rfl (h _ _ t))
  have hn : qz_T (a + 1) f o W (W (o a)) (nI (o a)) → wL_law_919 post L xs J43 J460 x2 x4 x6 x7 x13 x14 x15 x16 x17 x18 x19 z0 x21 x22 x23 x24 x25 x26 (nI (o a)) (W (o a)) kc ks c0 a1 a2 a3 a4 a5 a6 a7 a8 a9 := fun t => br_f qz_10 (br_f qz_10 (h _ _ t))
  cases hf : f a with
  | false => exact br_t rfl (hk (qz_T_same hT hf))
  | true =>
    exact br_f qz_10 (br_c (fun z => hn (qz_T_new hT ho hf (Or.inl z))) (fun z => br_c (fun e => br_c (fun l => hk (qz_T_keep hT ho hlo z (fun _ => l))) (fun l => hn (qz_T_new hT ho hf (Or.inr ⟨e, l⟩)))) (fun e => hk (qz_T_keep hT ho hlo z (fun t => absurd t e)))))
theorem qz_l823 {post : Int32 → Prop} {L : Nat} {xs : Nat → Int32} {J43 : Int64 → Int64 → Int32 → Int32 → Int32 → (Nat → Int32) → (Nat → Int32) → (Nat → Int32) → (Nat → Int32) → (Nat → Int32) → (Nat → Int32) → (Nat → Int32) → (Nat → Int32) → (Nat → Int32) → Prop} {J460 : Int32 → Int32 → Int32 → Int32 → Int32 → Int32 → Int32 → Int32 → Prop} {x2 x4 : Int64} {x6 x7 x13 x14 x15 x16 x19 x21 x22 : Int32} {kc ks : Nat} {c0 : Int32} {a1 a2 a3 a4 a5 a6 a7 a8 a9 : Nat → Int32} {a : Nat} {f g : Nat → Bool} {o : Nat → Nat} {W v : Nat → Int32} {P : Nat → Nat} (ha : a < 8) (hP : P a < 120) (ho : ∀ j, j ≤ a → o j < 120) (hlo : (-4000000 : Int32) < W (o a)) (hM : qz_M a f v x19) (hT : qz_T a f o W x21 x22)
    (h : ∀ y t nm, qz_M (a + 1) f v y → qz_T (a + 1) f o W t nm → J460 (qz_S f v (a + 1)) (nI (qz_C f (a + 1))) y (nI (qz_C g (a + 1))) t nm (qz_S (fun j => decide (P j / 20 = 3)) v (a + 1) - qz_S (fun j => decide (P j / 20 = 2)) v (a + 1)) (nI (a + 1))) :
    wL_law_823 post L xs J43 J460 x2 x4 x6 x7 x13 x14 x15 x16 (qz_S f v a) (nI (qz_C f a)) x19 (nI (qz_C g a)) x21 x22 (qz_S (fun j => decide (P j / 20 = 3)) v a - qz_S (fun j => decide (P j / 20 = 2)) v a) (nI a) (nI (P a)) (v a) (qz_b (f a)) (nI (o a)) (W (o a)) (qz_b (g a)) kc ks c0 a1 a2 a3 a4 a5 a6 a7 a8 a9 := by
  have s891 : ∀ y, qz_M (a + 1) f v y → wL_law_891 post L xs J43 J460 x2 x4 x6 x7 x13 x14 x15 x16 (qz_S f v (a + 1)) (nI (qz_C f (a + 1))) y x21 x22 (qz_S (fun j => decide (P j / 20 = 3)) v a - qz_S (fun j => decide (P j / 20 = 2)) v a) (nI a) (nI (P a)) (v a) (qz_b (f a)) (nI (o a)) (W (o a)) (nI (qz_C g (a + 1))) kc ks c0 a1 a2 a3 a4 a5 a6 a7 a8 a9 := fun y hy => qz_l891 ho hlo hT (fun t nm ht => qz_l952 ha hP (h y t nm hy ht))
  have s875 : ∀ y, qz_M (a + 1) f v y → wL_law_875 post L xs J43 J460 x2 x4 x6 x7 x13 x14 x15 x16 (qz_S f v (a + 1)) (nI (qz_C f (a + 1))) (nI (qz_C g a)) x21 x22 (qz_S (fun j => decide (P j / 20 = 3)) v a - qz_S (fun j => decide (P j / 20 = 2)) v a) (nI a) (nI (P a)) (v a) (qz_b (f a)) (nI (o a)) (W (o a)) (qz_b (g a)) y kc ks c0 a1 a2 a3 a4 a5 a6 a7 a8 a9 := by
    intro y hy
    have t := s891 y hy
    rw [qz_C_s g] at t
    cases hg : g a with
    | false =>
      rw [hg, if_neg qz_ff, Nat.add_zero] at t
      exact br_t rfl t
    | true =>
      rw [hg, if_pos rfl, ← nI_1] at t
      exact br_f qz_10 t
  have s854 : wL_law_854 post L xs J43 J460 x2 x4 x6 x7 x13 x14 x15 x16 (qz_S f v (a + 1)) x19 (nI (qz_C g a)) x21 x22 (qz_S (fun j => decide (P j / 20 = 3)) v a - qz_S (fun j => decide (P j / 20 = 2)) v a) (nI a) (nI (P a)) (v a) (qz_b (f a)) (nI (o a)) (W (o a)) (qz_b (g a)) (nI (qz_C f (a + 1))) kc ks c0 a1 a2 a3 a4 a5 a6 a7 a8 a9 := by
    cases hf : f a with
    | false =>
      rw [hf] at s875
      exact br_t rfl (s875 x19 (qz_M_s0 hM (fun z => by rw [hf] at z; exact absurd z (by decide))))
    | true =>
      rw [hf] at s875
      exact br_f qz_10 (br_c (fun l => s875 x19 (qz_M_s0 hM (fun _ => l))) (fun l => s875 (v a) (qz_M_s1 hM hf l)))
  have s838 : wL_law_838 post L xs J43 J460 x2 x4 x6 x7 x13 x14 x15 x16 (nI (qz_C f a)) x19 (nI (qz_C g a)) x21 x22 (qz_S (fun j => decide (P j / 20 = 3)) v a - qz_S (fun j => decide (P j / 20 = 2)) v a) (nI a) (nI (P a)) (v a) (qz_b (f a)) (nI (o a)) (W (o a)) (qz_b (g a)) (qz_S f v (a + 1)) kc ks c0 a1 a2 a3 a4 a5 a6 a7 a8 a9 := by
    rw [qz_C_s] at s854
    cases hf : f a with
    | false =>
      rw [hf, if_neg qz_ff, Nat.add_zero] at s854
      exact br_t rfl s854
    | true =>
      rw [hf, if_pos rfl, ← nI_1] at s854
      exact br_f qz_10 s854
  rw [qz_S_s] at s838
  cases hf : f a with
  | false =>
    rw [hf, if_neg qz_ff, Int32.add_zero] at s838
    exact br_t rfl s838
  | true =>
    rw [hf, if_pos rfl] at s838
    exact br_f qz_10 s838
theorem qz_l585 {post : Int32 → Prop} {L : Nat} {xs : Nat → Int32} {J43 : Int64 → Int64 → Int32 → Int32 → Int32 → (Nat → Int32) → (Nat → Int32) → (Nat → Int32) → (Nat → Int32) → (Nat → Int32) → (Nat → Int32) → (Nat → Int32) → (Nat → Int32) → (Nat → Int32) → Prop} {J460 : Int32 → Int32 → Int32 → Int32 → Int32 → Int32 → Int32 → Int32 → Prop} {x2 x4 : Int64} {x6 x7 x13 x14 x15 x17 x18 x19 x20 x21 x22 x23 x24 x26 x27 z0 z1 : Int32} {kc ks : Nat} {c0 : Int32} {a1 a2 a3 a4 a5 a6 a7 a8 a9 : Nat → Int32} {p r s : Nat} (hp : p < 120) (hr : r < 8) (e : z1 + z0 = nI s) (h : ∀ y z : Int32, y + z = nI (s + 20 * (if r / 4 = 0 then 0 else p / 20)) → wL_law_605 post L xs J43 J460 x2 x4 x6 x7 x13 x14 x15 (nI r) x17 x18 x19 x20 x21 x22 x23 x24 (nI p) x26 x27 z y kc ks c0 a1 a2 a3 a4 a5 a6 a7 a8 a9) : wL_law_585 post L xs J43 J460 x2 x4 x6 x7 x13 x14 x15 (nI r) x17 x18 x19 x20 x21 x22 x23 x24 (nI p) x26 x27 z0 z1 kc ks c0 a1 a2 a3 a4 a5 a6 a7 a8 a9 := by
  refine ek_if (qz_a4 r hr) (fun t => ?_) (fun t => ⟨by decide, ?_⟩)
  · refine h _ _ ?_
    rw [if_pos t, e, Int32.add_zero]
    rfl
  · refine h _ _ ?_
    rw [if_neg t, e, qz_div20 (by omega), show nI (p / 20) * 20 = nI (p / 20 * 20) from pk_mul _ 20, nI_add, Nat.mul_comm]
theorem qz_l566 {post : Int32 → Prop} {L : Nat} {xs : Nat → Int32} {J43 : Int64 → Int64 → Int32 → Int32 → Int32 → (Nat → Int32) → (Nat → Int32) → (Nat → Int32) → (Nat → Int32) → (Nat → Int32) → (Nat → Int32) → (Nat → Int32) → (Nat → Int32) → (Nat → Int32) → Prop} {J460 : Int32 → Int32 → Int32 → Int32 → Int32 → Int32 → Int32 → Int32 → Prop} {x2 x4 : Int64} {x6 x7 x13 x14 x15 x17 x18 x19 x20 x21 x22 x23 x24 x26 x27 z0 : Int32} {kc ks : Nat} {c0 : Int32} {a1 a2 a3 a4 a5 a6 a7 a8 a9 : Nat → Int32} {p r s : Nat} (hp : p < 120) (hr : r < 8) (e : z0 = nI s) (h : ∀ y z : Int32, y + z = nI (s + 4 * (if r / 2 % 2 = 0 then 0 else p / 4 % 5)) → wL_law_585 post L xs J43 J460 x2 x4 x6 x7 x13 x14 x15 (nI r) x17 x18 x19 x20 x21 x22 x23 x24 (nI p) x26 x27 z y kc ks c0 a1 a2 a3 a4 a5 a6 a7 a8 a9) : wL_law_566 post L xs J43 J460 x2 x4 x6 x7 x13 x14 x15 (nI r) x17 x18 x19 x20 x21 x22 x23 x24 (nI p) x26 x27 z0 kc ks c0 a1 a2 a3 a4 a5 a6 a7 a8 a9 := by
  refine ek_if (qz_a2 r hr) (fun t => ?_) (fun t => ⟨by decide, by decide, ?_⟩)
  · refine h _ _ ?_
    rw [if_pos t, e, Int32.add_zero]
    rfl
  · refine h _ _ ?_
    rw [if_neg t, e, qz_kind (by omega), show nI (p / 4 % 5) * 4 = nI (p / 4 % 5 * 4) from pk_mul _ 4, nI_add, Nat.mul_comm]
theorem qz_l549 {post : Int32 → Prop} {L : Nat} {xs : Nat → Int32} {J43 : Int64 → Int64 → Int32 → Int32 → Int32 → (Nat → Int32) → (Nat → Int32) → (Nat → Int32) → (Nat → Int32) → (Nat → Int32) → (Nat → Int32) → (Nat → Int32) → (Nat → Int32) → (Nat → Int32) → Prop} {J460 : Int32 → Int32 → Int32 → Int32 → Int32 → Int32 → Int32 → Int32 → Prop} {x2 x4 : Int64} {x6 x7 x13 x14 x15 x17 x18 x19 x20 x21 x22 x23 x24 x26 z0 : Int32} {kc ks : Nat} {c0 : Int32} {a1 a2 a3 a4 a5 a6 a7 a8 a9 : Nat → Int32} {p r : Nat} (hp : p < 120) (hr : r < 8) (h : ∀ y z : Int32, y + z = nI (qz_G p r) → wL_law_605 post L xs J43 J460 x2 x4 x6 x7 x13 x14 x15 (nI r) x17 x18 x19 x20 x21 x22 x23 x24 (nI p) x26 z0 z y kc ks c0 a1 a2 a3 a4 a5 a6 a7 a8 a9) : wL_law_549 post L xs J43 J460 x2 x4 x6 x7 x13 x14 x15 (nI r) x17 x18 x19 x20 x21 x22 x23 x24 (nI p) x26 z0 kc ks c0 a1 a2 a3 a4 a5 a6 a7 a8 a9 := by
  have t1 : ∀ y : Int32, y = nI (if r % 2 = 0 then 0 else p % 4) → wL_law_566 post L xs J43 J460 x2 x4 x6 x7 x13 x14 x15 (nI r) x17 x18 x19 x20 x21 x22 x23 x24 (nI p) x26 z0 y kc ks c0 a1 a2 a3 a4 a5 a6 a7 a8 a9 := fun y ey => qz_l566 hp hr ey (fun y' z' e' => qz_l585 hp hr e' h)
  refine ek_if (qz_a1 r hr) (fun t => ?_) (fun t => ⟨by decide, ?_⟩)
  · refine t1 _ ?_
    rw [if_pos t]
    rfl
  · refine t1 _ ?_
    rw [if_neg t, qz_mod4 (by omega)]
end
section
/-! ===== a round of the law ===== -/
def qz_g (P : Nat → Nat) (F r a : Nat) : Bool := qz_pass (P a) F 7 && decide (qz_C (qz_f P F r (qz_G (P a) r)) a = 0)
theorem qz_l998 {post : Int32 → Prop} {L : Nat} {xs : Nat → Int32} {J43 : Int64 → Int64 → Int32 → Int32 → Int32 → (Nat → Int32) → (Nat → Int32) → (Nat → Int32) → (Nat → Int32) → (Nat → Int32) → (Nat → Int32) → (Nat → Int32) → (Nat → Int32) → (Nat → Int32) → Prop} {x2 x4 : Int64} {x7 x13 x14 x17 x18 x19 x20 x21 x22 x23 : Int32} {kc ks : Nat} {a1 a2 a3 a4 a5 a6 a7 a8 a9 : Nat → Int32} {n F r : Nat} {P : Nat → Nat} (I : qz_I n P a1 a2 a3 a4 a5 a6 a7) (hF : F < 32768) (hr : r < 8) (h13 : x13 = x14) (h17 : x17 = qz_S (fun j => qz_pass (P j) F 7) a2 n) (h18 : x18 = nI (qz_C (fun j => qz_pass (P j) F 7) n)) (hM : qz_M n (fun j => qz_pass (P j) F 7) a2 x19) (h20 : x20 = nI (qz_C (qz_g P F r) n)) (hT : qz_T n (fun j => qz_pass (P j) F 7) (fun j => qz_G (P j) r) (fun q => qz_S (qz_f P F r q) a2 n) x21 x22) (h23 : x23 = qz_S (fun j => decide (P j / 20 = 3)) a2 n - qz_S (fun j => decide (P j / 20 = 2)) a2 n)
    (hJ : ∀ b8 b9, J43 x2 x4 (nI n) (x7 + 2) (nI n) a1 a2 a3 a4 a5 a6 a7 b8 b9) : wL_law_998 post L xs J43 x2 x4 (nI n) x7 x13 x14 (nI F) (nI r) x17 x18 x19 x20 x21 x22 x23 kc ks (nI n) a1 a2 a3 a4 a5 a6 a7 a8 a9 := by
  refine br_t h13 ?_
  refine br_t rfl ?_
  refine qz_sum I hF (fun b8 b9 => br_t h17.symm ?_)
  refine qz_count I hF (fun b8 b9 => br_t h18.symm ?_)
  refine qz_greatest I hF (fun s hs => br_t (qz_M_uniq hs hM) ?_)
  refine qz_wgroups I hr hF (fun b8 b9 => br_t h20.symm ?_)
  refine qz_topSum I hr hF (fun t nm ht b8 b9 => br_t (qz_T_uniq ht hT).1 ?_)
  refine qz_topGroup I hr hF (fun t nm ht b8 b9 => br_t (qz_T_uniq ht hT).2 ?_)
  refine qz_growth I (fun b8 b9 => br_t h23.symm ?_)
  exact nm_e (hJ b8 b9)
theorem qz_lo {n : Nat} {f : Nat → Bool} {v : Nat → Int32} (hn : n ≤ 8) (hb : ∀ j, j < n → -50 ≤ (v j).toInt ∧ (v j).toInt ≤ 50) : (-4000000 : Int32) < qz_S f v n := by
  have e : (-4000000 : Int32).toInt = -4000000 := by decide
  have t := (qz_S_b (f := f) n hn hb).1
  rw [Int32.lt_iff_toInt_lt, e]
  omega
theorem qz_l460 {post : Int32 → Prop} {L : Nat} {xs : Nat → Int32} {J43 : Int64 → Int64 → Int32 → Int32 → Int32 → (Nat → Int32) → (Nat → Int32) → (Nat → Int32) → (Nat → Int32) → (Nat → Int32) → (Nat → Int32) → (Nat → Int32) → (Nat → Int32) → (Nat → Int32) → Prop} {x2 x4 : Int64} {x7 x13 x14 : Int32} {kc ks : Nat} {c0 : Int32} {a1 a2 a3 a4 a5 a6 a7 a8 a9 : Nat → Int32} {n F r : Nat} {P : Nat → Nat} {v : Nat → Int32} (hn : n ≤ 8) (hF : F < 32768) (hr : r < 8) (hP : ∀ j, j < n → P j < 120) (hb : ∀ j, j < n → -50 ≤ (v j).toInt ∧ (v j).toInt ≤ 50) (R : qz_R x2 x4 n P v)
    (H : ∀ y t nm, qz_M n (fun j => qz_pass (P j) F 7) v y → qz_T n (fun j => qz_pass (P j) F 7) (fun j => qz_G (P j) r) (fun q => qz_S (qz_f P F r q) v n) t nm → wL_law_998 post L xs J43 x2 x4 (nI n) x7 x13 x14 (nI F) (nI r) (qz_S (fun j => qz_pass (P j) F 7) v n) (nI (qz_C (fun j => qz_pass (P j) F 7) n)) y (nI (qz_C (qz_g P F r) n)) t nm (qz_S (fun j => decide (P j / 20 = 3)) v n - qz_S (fun j => decide (P j / 20 = 2)) v n) kc ks c0 a1 a2 a3 a4 a5 a6 a7 a8 a9) :
    ∃ fu, wL_law_460 post L xs J43 x2 x4 (nI n) x7 x13 x14 (nI F) (nI r) kc ks c0 a1 a2 a3 a4 a5 a6 a7 a8 a9 fu 0 0 (-4000000) 0 (-4000000) (-4000000) 0 0 := by
  refine pk_loop (σ := Int32 × Int32 × Int32 × Int32 × Int32 × Int32 × Int32) (fun fu i s => wL_law_460 post L xs J43 x2 x4 (nI n) x7 x13 x14 (nI F) (nI r) kc ks c0 a1 a2 a3 a4 a5 a6 a7 a8 a9 fu s.1 s.2.1 s.2.2.1 s.2.2.2.1 s.2.2.2.2.1 s.2.2.2.2.2.1 s.2.2.2.2.2.2 (nI i))
    (fun i s => s.1 = qz_S (fun j => qz_pass (P j) F 7) v i ∧ s.2.1 = nI (qz_C (fun j => qz_pass (P j) F 7) i) ∧ qz_M i (fun j => qz_pass (P j) F 7) v s.2.2.1 ∧ s.2.2.2.1 = nI (qz_C (qz_g P F r) i) ∧ qz_T i (fun j => qz_pass (P j) F 7) (fun j => qz_G (P j) r) (fun q => qz_S (qz_f P F r q) v n) s.2.2.2.2.1 s.2.2.2.2.2.1 ∧ s.2.2.2.2.2.2 = qz_S (fun j => decide (P j / 20 = 3)) v i - qz_S (fun j => decide (P j / 20 = 2)) v i)
    n 0 (0, 0, -4000000, 0, -4000000, -4000000, 0) (by omega) ⟨rfl, rfl, qz_M_0 (fun j hj => absurd hj (by omega)), rfl, qz_T_0, (show (0 : Int32) = 0 - 0 by decide)⟩ ?_ ?_
  · intro fu s h
    obtain ⟨s1, s2, s3, s4, s5, s6, s7⟩ := s
    obtain ⟨e1, e2, hM, e4, hT, e7⟩ := h
    dsimp only at e1 e2 hM e4 hT e7
    subst e1 e2 e4 e7
    exact pk_le 8 n (fun _ => H _ _ _ hM hT) (fun _ => pk_le n n (fun _ => H _ _ _ hM hT) (fun z => absurd z (by omega)))
  · intro fu i s hi h hw
    obtain ⟨s1, s2, s3, s4, s5, s6, s7⟩ := s
    obtain ⟨e1, e2, hM, e4, hT, e7⟩ := h
    dsimp only at e1 e2 hM e4 hT e7
    subst e1 e2 e4 e7
    have hPi := hP i hi
    have ho : ∀ j, j ≤ i → qz_G (P j) r < 120 := fun j hj => qz_G_lt (P j) (hP j (by omega)) r hr
    have key : wL_law_549 post L xs J43 (wL_law_460 post L xs J43 x2 x4 (nI n) x7 x13 x14 (nI F) (nI r) kc ks c0 a1 a2 a3 a4 a5 a6 a7 a8 a9 fu) x2 x4 (nI n) x7 x13 x14 (nI F) (nI r) (qz_S (fun j => qz_pass (P j) F 7) v i) (nI (qz_C (fun j => qz_pass (P j) F 7) i)) s3 (nI (qz_C (qz_g P F r) i)) s5 s6 (qz_S (fun j => decide (P j / 20 = 3)) v i - qz_S (fun j => decide (P j / 20 = 2)) v i) (nI i) (nI (P i)) (v i) (qz_b (qz_pass (P i) F 7)) kc ks c0 a1 a2 a3 a4 a5 a6 a7 a8 a9 := by
      refine qz_l549 hPi hr (fun y z e => ?_)
      refine nm_r e ?_
      refine qz_l618 (v := v) hn hF hr hi hP R ?_
      refine qz_l823 (f := fun j => qz_pass (P j) F 7) (g := qz_g P F r) (o := fun j => qz_G (P j) r) (W := fun q => qz_S (qz_f P F r q) v n) (v := v) (P := P) (by omega) hPi ho (qz_lo hn hb) hM hT (fun y t nm hy ht => ?_)
      exact hw (_, _, _, _, _, _, _) ⟨rfl, rfl, hy, rfl, ht, rfl⟩
    refine pk_le 8 i (fun z => absurd z (by omega)) (fun _ => pk_le n i (fun z => absurd z (by omega)) (fun _ => nm_r (R i hi).2 (qz_part (R i hi).1 ?_)))
    refine qz_ptree hPi hF (fun hal => ?_) (fun hal => ?_)
    · rw [hal] at key
      exact key
    · rw [hal] at key
      exact key
theorem qz_l413 {post : Int32 → Prop} {L : Nat} {xs : Nat → Int32} {J43 : Int64 → Int64 → Int32 → Int32 → Int32 → (Nat → Int32) → (Nat → Int32) → (Nat → Int32) → (Nat → Int32) → (Nat → Int32) → (Nat → Int32) → (Nat → Int32) → (Nat → Int32) → (Nat → Int32) → Prop} {x2 x4 : Int64} {x7 x9 x13 x14 : Int32} {kc ks : Nat} {a1 a2 a3 a4 a5 a6 a7 a8 a9 : Nat → Int32} {n : Nat} {P : Nat → Nat} (I : qz_I n P a1 a2 a3 a4 a5 a6 a7) (R : qz_R x2 x4 n P a2) (h13 : x13 = x14) (hJ : ∀ b8 b9, J43 x2 x4 (nI n) (x7 + 2) (nI n) a1 a2 a3 a4 a5 a6 a7 b8 b9) : wL_law_413 post L xs J43 x2 x4 (nI n) x7 x9 x13 x14 kc ks (nI n) a1 a2 a3 a4 a5 a6 a7 a8 a9 := by
  obtain ⟨F, hF, eF⟩ := pk_andE (x9 >>> ((3 : Int32) &&& 31)) (m := 32767) 15 (by decide)
  obtain ⟨r, hr, er⟩ := pk_andE (x9 >>> ((18 : Int32) &&& 31)) (m := 7) 3 (by decide)
  refine nm_r eF (nm_r er ?_)
  exact qz_l460 I.1 hF hr (fun j hj => (I.2.1 j hj).1) I.2.2.1 R (fun y t nm hM hT => qz_l998 I hF hr h13 rfl rfl hM rfl hT rfl hJ)
end
section
/-! ===== the law ===== -/
theorem qz_n50 {am : Int32} (h : am ≤ 50) : ¬ 50 < am := by
  rw [Int32.le_iff_toInt_le] at h
  rw [Int32.lt_iff_toInt_lt]
  omega
theorem qz_l246 {post : Int32 → Prop} {L : Nat} {xs : Nat → Int32} {J43 : Int64 → Int64 → Int32 → Int32 → Int32 → (Nat → Int32) → (Nat → Int32) → (Nat → Int32) → (Nat → Int32) → (Nat → Int32) → (Nat → Int32) → (Nat → Int32) → (Nat → Int32) → (Nat → Int32) → Prop} {x2 x4 : Int64} {x7 x9 x11 : Int32} {kc ks : Nat} {a1 a2 a3 a4 a5 a6 a7 a8 a9 : Nat → Int32} {n o i : Nat} {P : Nat → Nat} (I : qz_I n P a1 a2 a3 a4 a5 a6 a7) (R : qz_R x2 x4 n P a2) (ho : o < 16) (hi : i < 16)
    (H : ∀ (y2 y4 : Int64) (y6 y13 y14 : Int32) (m : Nat) (Q : Nat → Nat) (b1 b2 b3 b4 b5 b6 b7 b8 b9 : Nat → Int32), y6 = nI m → y13 = y14 → qz_I m Q b1 b2 b3 b4 b5 b6 b7 → qz_R y2 y4 m Q b2 → wL_law_413 post L xs J43 y2 y4 y6 x7 x9 y13 y14 kc ks (nI m) b1 b2 b3 b4 b5 b6 b7 b8 b9) :
    wL_law_246 post L xs J43 x2 x4 (nI n) x7 (nI o) x9 x11 (nI i) kc ks (nI n) a1 a2 a3 a4 a5 a6 a7 a8 a9 := by
  obtain ⟨z, hz, ez⟩ := pk_andE x9 (m := 255) 8 (by decide)
  have hn := I.1
  refine pk_le 9 o (fun _ => pk_le 13 o (fun _ => ?_) (fun _ => ?_)) (fun _ => ?_)
  · rw [ez]
    refine qz_plan I (by omega) (fun l => ?_) (fun l b5 b6 b7 I' => ?_)
    · exact pk_le z 200 (fun t => absurd t (by omega)) (fun _ => H _ _ _ _ _ n P _ _ _ _ _ _ _ _ _ rfl rfl I R)
    · exact pk_le z 200 (fun _ => H _ _ _ _ _ n P _ _ _ _ _ _ _ _ _ rfl rfl I' R) (fun t => absurd t (by omega))
  · refine qz_change I (by omega) (fun l => ?_) (fun l l1 l2 b6 b7 I' => ?_)
    · have h339 : wL_law_339 post L xs J43 x2 x4 (nI n) x7 x9 x11 (nI i) (-1000000) kc ks (nI n) a1 a2 a3 a4 a5 a6 a7 a8 a9 := br_t rfl (br_t rfl (H _ _ _ _ _ n P _ _ _ _ _ _ _ _ _ rfl rfl I R))
      refine pk_le n i (fun _ => h339) (fun t1 => br_c (fun _ => h339) (fun t2 => br_c (fun _ => h339) (fun t3 => ?_)))
      rcases l with l | l | l
      · exact absurd l (by omega)
      · exact absurd l t2
      · exact absurd (Int32.not_lt.mp t3) l
    · refine pk_le n i (fun t => absurd t (by omega)) (fun _ => br_f l1 (br_f (qz_n50 l2) ?_))
      refine br_f qz_10 (qz_part (R i l).1 ?_)
      refine br_f qz_10 ?_
      exact H (qz_set x2 (nI i) (x11 + 128).toInt64) x4 _ _ _ n P _ _ _ _ _ _ _ _ _ rfl rfl I' (qz_R_put R hn l (qz_am l1 l2))
  · refine qz_remove I (fun e => ?_) (fun k e b3 b6 b7 I' => ?_)
    · have e0 : nI n = 0 := by rw [e]; rfl
      exact br_t e0 (br_t e0 (H _ _ _ _ _ n P _ _ _ _ _ _ _ _ _ e0.symm rfl I R))
    · have e0 : ¬ nI n = 0 := nI_ne0 (by omega) (by omega)
      have e1 : nI n - 1 = nI k := by rw [e]; exact nI_pred k
      have ev : qz_by x2 (nI n - 1) - 128 = a2 k := by rw [e1]; exact (R k (by omega)).1
      exact br_f e0 (qz_part ev (br_f e0 (H _ _ _ _ _ k P _ _ _ _ _ _ _ _ _ e1 rfl I' (fun j hj => R j (by omega)))))
theorem qz_loop {L : Nat} {xs : Nat → Int32} {kc ks : Nat} (hL : L ≤ 260) :
    ∀ (fu k : Nat) (x2 x4 : Int64) (n : Nat) (P : Nat → Nat) (a1 a2 a3 a4 a5 a6 a7 a8 a9 : Nat → Int32), k ≤ L → L < fu + k → qz_I n P a1 a2 a3 a4 a5 a6 a7 → qz_R x2 x4 n P a2 → wL_law_43 (fun r => r = 1) L xs kc ks fu x2 x4 (nI n) (nI k) (nI n) a1 a2 a3 a4 a5 a6 a7 a8 a9
  | 0, k, x2, x4, n, P, a1, a2, a3, a4, a5, a6, a7, a8, a9, hk, hf, _, _ => absurd hf (by omega)
  | fu + 1, k, x2, x4, n, P, a1, a2, a3, a4, a5, a6, a7, a8, a9, hk, hf, I, R => by
    refine pk_le L (k + 1) (fun _ => rfl) (fun hk1 => ?_) (hy := nI_1 k)
    obtain ⟨o, ho, eo⟩ := pk_andE (xs (nI k).toNatClampNeg) (m := 15) 4 (by decide)
    refine ⟨pk_in k L (by omega), nm_r eo ⟨pk_in (k + 1) L hk1 (hx := nI_1 k), fun x9 _ => ?_⟩⟩
    obtain ⟨p, hp, ep⟩ := pk_andE x9 (m := 127) 7 (by decide)
    obtain ⟨i, hi, ei⟩ := pk_andE (x9 >>> ((14 : Int32) &&& 31)) (m := 15) 4 (by decide)
    refine nm_r ep (fun am _ => nm_r ei ?_)
    have H : ∀ (y2 y4 : Int64) (y6 y13 y14 : Int32) (m : Nat) (Q : Nat → Nat) (b1 b2 b3 b4 b5 b6 b7 b8 b9 : Nat → Int32), y6 = nI m → y13 = y14 → qz_I m Q b1 b2 b3 b4 b5 b6 b7 → qz_R y2 y4 m Q b2 → wL_law_413 (fun r => r = 1) L xs (wL_law_43 (fun r => r = 1) L xs kc ks fu) y2 y4 y6 (nI k) x9 y13 y14 kc ks (nI m) b1 b2 b3 b4 b5 b6 b7 b8 b9 := by
      intro y2 y4 y6 y13 y14 m Q b1 b2 b3 b4 b5 b6 b7 b8 b9 e6 e13 I' R'
      subst e6
      refine qz_l413 I' R' e13 (fun c8 c9 => ?_)
      rw [show nI k + 2 = nI (k + 2) from nI_add k 2]
      exact qz_loop hL fu (k + 2) y2 y4 m Q b1 b2 b3 b4 b5 b6 b7 c8 c9 (by omega) (by omega) I' R'
    have hn8 := I.1
    have h246 := qz_l246 (x11 := am) (a8 := a8) (a9 := a9) I R ho hi H
    refine pk_le 7 o (fun _ => h246) (fun _ => pk_le 8 n (fun _ => h246) (fun hn => ?_))
    refine qz_add I hn (by omega) (fun l => ?_) (fun l l1 l2 b3 b4 b6 b7 I' => ?_)
    · have h154 : wL_law_154 (fun r => r = 1) L xs (wL_law_43 (fun r => r = 1) L xs kc ks fu) x2 x4 (nI n) (nI k) x9 (nI p) am (-1000000) kc ks (nI n) a1 a2 a3 a4 a5 a6 a7 a8 a9 := br_t rfl (br_t rfl (br_t rfl (br_t rfl (H _ _ _ _ _ n P _ _ _ _ _ _ _ _ _ rfl rfl I R))))
      refine pk_le 120 p (fun _ => h154) (fun t1 => br_c (fun _ => h154) (fun t2 => br_c (fun _ => h154) (fun t3 => ?_)))
      rcases l with l | l | l
      · exact absurd l (by omega)
      · exact absurd l t2
      · exact absurd (Int32.not_lt.mp t3) l
    · refine pk_le 120 p (fun t => absurd t (by omega)) (fun _ => br_f l1 (br_f (qz_n50 l2) ?_))
      refine br_f qz_10 (br_f qz_10 ?_)
      refine br_f qz_10 (br_f qz_10 ?_)
      exact H (qz_set x2 (nI n) (am + 128).toInt64) (qz_set x4 (nI n) (nI p).toInt64) _ _ _ (n + 1) (qz_up P n p) _ _ _ _ _ _ _ _ _ (nI_1 n) rfl I' (qz_R_add R hn l (qz_am l1 l2))
theorem qz_l19 {L : Nat} {xs : Nat → Int32} {kc ks : Nat} (hL : L ≤ 260) {P : Nat → Nat} {a1 a2 a3 a4 a5 a6 a7 a8 a9 : Nat → Int32} (I : qz_I 0 P a1 a2 a3 a4 a5 a6 a7) : ∃ fu, wL_law_19 (fun r => r = 1) L xs 0 0 kc ks 0 a1 a2 a3 a4 a5 a6 a7 a8 a9 fu 0 0 :=
  pk_loop (fun m i s => wL_law_19 (fun r => r = 1) L xs 0 0 kc ks 0 a1 a2 a3 a4 a5 a6 a7 a8 a9 m s (nI i)) (fun _ _ => True) 8 0 0 (by omega) trivial
    (fun m s _ => pk_le 8 8 (fun _ => ⟨L + 1, qz_loop hL (L + 1) 0 s 0 0 P a1 a2 a3 a4 a5 a6 a7 a8 a9 (by omega) (by omega) I (fun j hj => absurd hj (by omega))⟩) (fun z => absurd z (by omega)))
    (fun m i s hi _ hw => pk_le 8 i (fun z => absurd z (by omega)) (fun _ => nm_r (nI_1 i) (hw _ trivial)))
theorem qz_init {post : St1 → Prop} (H : ∀ s : Nat → Int32, (∀ q, q < 120 → s q = -1) → post (0, (fun _ => 0), (fun _ => 0), s, (fun _ => 0), (fun _ => 0), (fun _ => 0), (fun _ => 0), (fun _ => 0), (fun _ => 0))) : wpX_init post 9 2408 0 := by
  refine ⟨by decide, by decide, by decide, by decide, by decide, by decide, by decide, by decide, by decide, by decide, by decide, by decide, by decide, by decide, by decide, by decide, by decide, by decide, ?_⟩
  refine pk_loop (fun m i s => wX_init_80 post 9 2408 9 2408 0 m (nI i) (fun _ => 0) (fun _ => 0) s (fun _ => 0) (fun _ => 0) (fun _ => 0) (fun _ => 0) (fun _ => 0) (fun _ => 0)) (fun i s => ∀ q, q < i → s q = -1) 120 0 (fun _ => 0) (by omega) (fun q hq => absurd hq (by omega)) ?_ ?_
  · intro m s h
    exact pk_le 120 120 (fun _ => H s h) (fun z => absurd z (by omega))
  · intro m i s hi h hw
    refine pk_le 120 i (fun z => absurd z (by omega)) (fun _ => ?_)
    rw [nI_clamp (show i < 2 ^ 31 by omega)]
    refine ⟨pk_in i 120 hi, nm_e (nm_r (nI_1 i) (hw (upd s i (-1)) (fun q hq => ?_)))⟩
    by_cases e : q = i
    · rw [e, pk_us]
    · rw [pk_un e]
      exact h q (by omega)
theorem i_vc (xs : Nat → Int32) (L : Nat) (hL : L ≤ 260) : wpL_law (fun r => r = 1) L xs := by
  refine ⟨9, 2408, by decide, by decide, qz_init (fun s hs => ?_)⟩
  exact qz_l19 (P := fun _ => 0) hL ⟨by omega, fun j hj => absurd hj (by omega), fun j hj => absurd hj (by omega), hs, fun j hj => absurd hj (by omega), fun g hg hk => absurd rfl hk⟩
end
