section
/-! sums of naturals, a counter that ends at -1, the remainder by 97 -/
def zs_upn (f : Nat → Nat) (k x : Nat) : Nat → Nat := fun j => if j = k then x else f j
theorem zs_upn_s {f : Nat → Nat} {k x : Nat} : zs_upn f k x k = x := if_pos rfl
theorem zs_upn_n {f : Nat → Nat} {k x j : Nat} (h : j ≠ k) : zs_upn f k x j = f j := if_neg h
def zs_sum (f : Nat → Nat) : Nat → Nat
  | 0 => 0
  | n + 1 => zs_sum f n + f n
theorem zs_sum_lt {f : Nat → Nat} {k x : Nat} : ∀ n, n ≤ k → zs_sum (zs_upn f k x) n = zs_sum f n := by
  intro n
  induction n with
  | zero => intro _; rfl
  | succ n ih =>
    intro h
    show zs_sum (zs_upn f k x) n + zs_upn f k x n = zs_sum f n + f n
    rw [ih (by omega), zs_upn_n (by omega)]
theorem zs_sum_up {f : Nat → Nat} {k x : Nat} : ∀ n, k < n → zs_sum (zs_upn f k x) n + f k = zs_sum f n + x := by
  intro n
  induction n with
  | zero => intro h; exact absurd h (by omega)
  | succ n ih =>
    intro h
    show zs_sum (zs_upn f k x) n + zs_upn f k x n + f k = zs_sum f n + f n + x
    by_cases e : k = n
    · subst e
      rw [zs_sum_lt k (Nat.le_refl k), zs_upn_s]
      omega
    · rw [zs_upn_n (by omega)]
      have := ih (by omega)
      omega
theorem zs_sum_1 : ∀ n, zs_sum (fun _ => 1) n = n := by
  intro n
  induction n with
  | zero => rfl
  | succ n ih =>
    show zs_sum (fun _ => 1) n + 1 = n + 1
    rw [ih]
/-- a counter that goes down to -1 -/
def zs_dn : Nat → Int32
  | 0 => -1
  | n + 1 => nI n
theorem zs_dn_m1 (n : Nat) : nI n + (-1) = zs_dn n := by
  cases n with
  | zero => rfl
  | succ n => exact pk_m1 n
theorem zs_ne_m1 {n : Nat} (h : n < 2 ^ 31) : ¬ nI n = -1 := by
  intro e
  have h1 := nI_pos h
  rw [e] at h1
  exact h1 (by decide)
theorem zs_rem {n : Nat} (h : n < 97) : nI n - nI n / 97 * 97 = nI n := by
  have e := pk_rem (a := n) (d := 97) (by omega) (by omega) (by omega)
  rw [Nat.mod_eq_of_lt h] at e
  exact e
theorem zs_rem0 : (0 : Int32) - 0 / 97 * 97 = 0 := by decide
theorem zs_red (x : Int32) : ∃ B : Nat, B < 97 ∧ ((0 ≤ x - x / 97 * 97 ∧ x - x / 97 * 97 = nI B) ∨ (¬ 0 ≤ x - x / 97 * 97 ∧ x - x / 97 * 97 + 97 = nI B)) := by
  obtain ⟨c, h1, h2⟩ := fmv_nat (a := x) (m := 97) (by decide)
  have h3 : (97 : Int32).toInt = 97 := by decide
  refine ⟨c, by omega, ?_⟩
  by_cases h : 0 ≤ x - x / 97 * 97
  · exact Or.inl ⟨h, by rw [← show fmv x 97 = x - x / 97 * 97 from if_pos h]; exact h1⟩
  · exact Or.inr ⟨h, by rw [← show fmv x 97 = x - x / 97 * 97 + 97 from if_neg h]; exact h1⟩
end
section
/-! the pure picture: series s has kind k and parts A, B; every other series is the constant 0 -/
def zs_nd (s k A B p t : Nat) : Option Nat :=
  if p / 16 = s then
    (if k = 3 ∨ k = 9 then (if t ≤ p % 16 then some (16 * A + t) else if t ≤ 2 * (p % 16) + 1 then some (16 * B + t - p % 16 - 1) else none)
     else if k = 7 then (if t ≤ p % 16 then some (16 * A + t) else if t ≤ 2 * (p % 16) then some (16 * s + t - p % 16 - 1) else none)
     else if k = 2 ∧ t = 1 then some (16 * B + p % 16)
     else if 0 < t ∨ k ≤ 1 then none
     else if k = 5 then (if p % 16 < 15 then some (16 * A + p % 16 + 1) else none)
     else if k = 6 ∨ k = 8 then (if 0 < p % 16 then some (16 * A + p % 16 - 1) else none)
     else some (16 * A + p % 16))
  else none
def zs_oI : Option Nat → Int32
  | none => -1
  | some q => nI q
def zs_cfg (s k A B : Nat) (a1 a2 a3 : Nat → Int32) : Prop :=
  s < 8 ∧ k < 10 ∧ A < 8 ∧ B < 97 ∧ ((k = 2 ∨ k = 3 ∨ k = 9) → B < 8) ∧ (∀ j, j < 8 → a1 j = if j = s then nI k else 0) ∧ (∀ j, j < 8 → a2 j = if j = s then nI A else 0) ∧ (∀ j, j < 8 → a3 j = if j = s then nI B else 0)
/-- the series needs itself at once -/
def zs_self (s k A B : Nat) : Prop := A = s ∨ ((k = 2 ∨ k = 3 ∨ k = 9) ∧ B = s)
/-- the place has a value -/
def zs_F (s k A B p : Nat) : Prop := p / 16 ≠ s ∨ k ≤ 1 ∨ k = 6 ∨ k = 8 ∨ (k ≠ 7 ∧ ¬ zs_self s k A B ∧ (k = 5 → p % 16 < 15))
/-- what is known of the value -/
def zs_P (s k A B p : Nat) (x : Int32) : Prop :=
  (p / 16 ≠ s → x = 0) ∧ (p / 16 = s → (((k = 0 ∨ k = 6 ∨ k = 8) → p % 16 = 0 → x = nI B) ∧ (k = 8 → A = s → x = nI B) ∧ (k ≠ 0 → k ≠ 6 → k ≠ 8 → p % 16 = 0 → x = 0)))
def zs_R (s p : Nat) : Nat := if p / 16 = s then p % 16 + 1 else 0
theorem zs_nd_out {s k A B p t : Nat} (h : p / 16 ≠ s) : zs_nd s k A B p t = none := if_neg h
/-- there are no needs behind the first that is wanting -/
theorem zs_nd_up {s k A B p t j : Nat} (h : zs_nd s k A B p t = none) (hj : t ≤ j) : zs_nd s k A B p j = none := by
  by_cases hp : p / 16 = s
  · unfold zs_nd at h ⊢
    rw [if_pos hp] at h ⊢
    by_cases h3 : k = 3 ∨ k = 9
    · rw [if_pos h3] at h ⊢
      by_cases h4 : t ≤ p % 16
      · rw [if_pos h4] at h; exact absurd h (Option.some_ne_none _)
      · rw [if_neg h4] at h
        rw [if_neg (show ¬ j ≤ p % 16 by omega)]
        by_cases h5 : t ≤ 2 * (p % 16) + 1
        · rw [if_pos h5] at h; exact absurd h (Option.some_ne_none _)
        · exact if_neg (by omega)
    · rw [if_neg h3] at h ⊢
      by_cases h7 : k = 7
      · rw [if_pos h7] at h ⊢
        by_cases h4 : t ≤ p % 16
        · rw [if_pos h4] at h; exact absurd h (Option.some_ne_none _)
        · rw [if_neg h4] at h
          rw [if_neg (show ¬ j ≤ p % 16 by omega)]
          by_cases h5 : t ≤ 2 * (p % 16)
          · rw [if_pos h5] at h; exact absurd h (Option.some_ne_none _)
          · exact if_neg (by omega)
      · rw [if_neg h7] at h ⊢
        by_cases h2 : k = 2 ∧ t = 1
        · rw [if_pos h2] at h; exact absurd h (Option.some_ne_none _)
        · rw [if_neg h2] at h
          by_cases ht : t = 0
          · subst ht
            by_cases h1 : k ≤ 1
            · rw [if_neg (show ¬ (k = 2 ∧ j = 1) by omega)]
              exact if_pos (Or.inr h1)
            · rw [if_neg (show ¬ (0 < 0 ∨ k ≤ 1) by omega)] at h
              by_cases hj0 : j = 0
              · subst hj0
                rw [if_neg (show ¬ (k = 2 ∧ 0 = 1) by omega), if_neg (show ¬ (0 < 0 ∨ k ≤ 1) by omega)]
                exact h
              · by_cases h5 : k = 5
                · rw [if_neg (show ¬ (k = 2 ∧ j = 1) by omega)]
                  exact if_pos (Or.inl (by omega))
                · rw [if_neg h5] at h
                  by_cases h6 : k = 6 ∨ k = 8
                  · rw [if_neg (show ¬ (k = 2 ∧ j = 1) by omega)]
                    exact if_pos (Or.inl (by omega))
                  · rw [if_neg h6] at h; exact absurd h (Option.some_ne_none _)
          · rw [if_neg (show ¬ (k = 2 ∧ j = 1) by omega)]
            exact if_pos (Or.inl (by omega))
  · exact zs_nd_out hp
/-- a need is a place, and there are at most 32 of them -/
theorem zs_nd_lt {s k A B p t q : Nat} (hs : s < 8) (hA : A < 8) (hB : (k = 2 ∨ k = 3 ∨ k = 9) → B < 8) (h : zs_nd s k A B p t = some q) : q < 128 ∧ t ≤ 31 := by
  have hn : p % 16 < 16 := Nat.mod_lt _ (by decide)
  generalize hm : p % 16 = n at *
  by_cases hp : p / 16 = s
  · unfold zs_nd at h
    rw [if_pos hp, hm] at h
    by_cases h3 : k = 3 ∨ k = 9
    · have hB' : B < 8 := hB (by omega)
      rw [if_pos h3] at h
      by_cases h4 : t ≤ n
      · rw [if_pos h4] at h; injection h with h; omega
      · rw [if_neg h4] at h
        by_cases h5 : t ≤ 2 * n + 1
        · rw [if_pos h5] at h; injection h with h; omega
        · rw [if_neg h5] at h; exact absurd h.symm (Option.some_ne_none _)
    · rw [if_neg h3] at h
      by_cases h7 : k = 7
      · rw [if_pos h7] at h
        by_cases h4 : t ≤ n
        · rw [if_pos h4] at h; injection h with h; omega
        · rw [if_neg h4] at h
          by_cases h5 : t ≤ 2 * n
          · rw [if_pos h5] at h; injection h with h; omega
          · rw [if_neg h5] at h; exact absurd h.symm (Option.some_ne_none _)
      · rw [if_neg h7] at h
        by_cases h2 : k = 2 ∧ t = 1
        · have hB' : B < 8 := hB (by omega)
          rw [if_pos h2] at h; injection h with h; omega
        · rw [if_neg h2] at h
          by_cases h1 : 0 < t ∨ k ≤ 1
          · rw [if_pos h1] at h; exact absurd h.symm (Option.some_ne_none _)
          · rw [if_neg h1] at h
            by_cases h5 : k = 5
            · rw [if_pos h5] at h
              by_cases h6 : n < 15
              · rw [if_pos h6] at h; injection h with h; omega
              · rw [if_neg h6] at h; exact absurd h.symm (Option.some_ne_none _)
            · rw [if_neg h5] at h
              by_cases h6 : k = 6 ∨ k = 8
              · rw [if_pos h6] at h
                by_cases h8 : 0 < n
                · rw [if_pos h8] at h; injection h with h; omega
                · rw [if_neg h8] at h; exact absurd h.symm (Option.some_ne_none _)
              · rw [if_neg h6] at h; injection h with h; omega
  · rw [zs_nd_out hp] at h; exact absurd h.symm (Option.some_ne_none _)
/-- what a valued place needs has a value, and a smaller rank -/
theorem zs_rank {s k A B p t q : Nat} (hF : zs_F s k A B p) (h : zs_nd s k A B p t = some q) : zs_F s k A B q ∧ zs_R s q < zs_R s p := by
  have hn : p % 16 < 16 := Nat.mod_lt _ (by decide)
  by_cases hp : p / 16 = s
  · have hR : zs_R s p = p % 16 + 1 := if_pos hp
    have out : q / 16 ≠ s → zs_F s k A B q ∧ zs_R s q < zs_R s p := fun z => ⟨Or.inl z, by rw [hR, show zs_R s q = 0 from if_neg z]; omega⟩
    unfold zs_nd at h
    rw [if_pos hp] at h
    by_cases h6 : k = 6 ∨ k = 8
    · rw [if_neg (show ¬ (k = 3 ∨ k = 9) by omega), if_neg (show ¬ k = 7 by omega), if_neg (show ¬ (k = 2 ∧ t = 1) by omega)] at h
      by_cases h1 : 0 < t ∨ k ≤ 1
      · rw [if_pos h1] at h; exact absurd h.symm (Option.some_ne_none _)
      · rw [if_neg h1, if_neg (show ¬ k = 5 by omega), if_pos h6] at h
        by_cases h8 : 0 < p % 16
        · rw [if_pos h8] at h
          injection h with h
          refine ⟨Or.inr (Or.inr (h6.elim (fun z => Or.inl z) (fun z => Or.inr (Or.inl z)))), ?_⟩
          rw [hR]
          unfold zs_R
          by_cases hq : q / 16 = s
          · rw [if_pos hq]; omega
          · rw [if_neg hq]; omega
        · rw [if_neg h8] at h; exact absurd h.symm (Option.some_ne_none _)
    · by_cases h1 : k ≤ 1
      · rw [if_neg (show ¬ (k = 3 ∨ k = 9) by omega), if_neg (show ¬ k = 7 by omega), if_neg (show ¬ (k = 2 ∧ t = 1) by omega), if_pos (Or.inr h1)] at h
        exact absurd h.symm (Option.some_ne_none _)
      · have hG : k ≠ 7 ∧ ¬ zs_self s k A B ∧ (k = 5 → p % 16 < 15) := by
          rcases hF with z | z | z | z | z
          · exact absurd hp z
          · exact absurd z h1
          · exact absurd (Or.inl z) h6
          · exact absurd (Or.inr z) h6
          · exact z
        obtain ⟨g7, gs, g5⟩ := hG
        have gA : A ≠ s := fun z => gs (Or.inl z)
        have gB : (k = 2 ∨ k = 3 ∨ k = 9) → B ≠ s := fun y z => gs (Or.inr ⟨y, z⟩)
        apply out
        by_cases h3 : k = 3 ∨ k = 9
        · have gB' := gB (by omega)
          rw [if_pos h3] at h
          by_cases h4 : t ≤ p % 16
          · rw [if_pos h4] at h; injection h with h; omega
          · rw [if_neg h4] at h
            by_cases h5 : t ≤ 2 * (p % 16) + 1
            · rw [if_pos h5] at h; injection h with h; omega
            · rw [if_neg h5] at h; exact absurd h.symm (Option.some_ne_none _)
        · rw [if_neg h3, if_neg g7] at h
          by_cases h2 : k = 2 ∧ t = 1
          · have gB' := gB (by omega)
            rw [if_pos h2] at h; injection h with h; omega
          · rw [if_neg h2] at h
            by_cases h0 : 0 < t ∨ k ≤ 1
            · rw [if_pos h0] at h; exact absurd h.symm (Option.some_ne_none _)
            · rw [if_neg h0] at h
              by_cases h5 : k = 5
              · rw [if_pos h5, if_pos (g5 h5)] at h; injection h with h; omega
              · rw [if_neg h5, if_neg h6] at h; injection h with h; omega
  · rw [zs_nd_out hp] at h; exact absurd h.symm (Option.some_ne_none _)
/-- a found place of s is no bad one -/
theorem zs_F_in {s k A B q : Nat} (h : zs_F s k A B q) (h1 : 1 < k) (h6 : k ≠ 6) (h8 : k ≠ 8) (hq : k = 7 ∨ zs_self s k A B) : q / 16 ≠ s := by
  rcases h with z | z | z | z | z
  · exact z
  · omega
  · exact absurd z h6
  · exact absurd z h8
  · rcases hq with y | y
    · exact absurd y z.1
    · exact absurd y z.2.1
end
section
/-! the method need -/
theorem zs_need_201 {post : Int32 → Prop} {n A : Nat} {a1 a2 a3 a4 a5 a6 a7 a8 a9 : Nat → Int32} (hn : n < 16) (hA : A < 8)
    (h : post (zs_oI (if 0 < n then some (16 * A + n - 1) else none))) : wX_need_201 post (nI n) (nI (16 * A)) a1 a2 a3 a4 a5 a6 a7 a8 a9 := by
  unfold wX_need_201
  refine pk_le n 0 (fun z => ?_) (fun z => ?_)
  · rw [if_neg (by omega)] at h
    exact h
  · rw [if_pos z] at h
    rw [nI_add, show (1 : Int32) = nI 1 from rfl, pk_sub (by omega)]
    exact h
theorem zs_need_150 {post : Int32 → Prop} {t n k A : Nat} {a1 a2 a3 a4 a5 a6 a7 a8 a9 : Nat → Int32} (ht : t ≤ 32) (hk : k < 10) (hn : n < 16) (hA : A < 8)
    (h : post (zs_oI (if 0 < t ∨ k ≤ 1 then none else if k = 5 then (if n < 15 then some (16 * A + n + 1) else none) else if k = 6 ∨ k = 8 then (if 0 < n then some (16 * A + n - 1) else none) else some (16 * A + n)))) :
    wX_need_150 post (nI t) (nI n) (nI (16 * A)) (nI k) a1 a2 a3 a4 a5 a6 a7 a8 a9 := by
  unfold wX_need_150
  refine pk_lt 0 t (fun z => ?_) (fun z => ?_)
  · rw [if_pos (Or.inl z)] at h
    exact h
  · refine pk_lt 1 k (fun y => ?_) (fun y => ?_)
    · rw [if_neg (by omega)] at h
      refine pk_eq k 5 (fun w => ?_) (fun w => ?_)
      · rw [if_pos w] at h
        refine pk_le 15 n (fun v => ?_) (fun v => ?_)
        · rw [if_neg (by omega)] at h
          exact h
        · rw [if_pos v] at h
          rw [nI_add, nI_1]
          exact h
      · rw [if_neg w] at h
        refine pk_eq k 6 (fun v => ?_) (fun v => ?_)
        · rw [if_pos (Or.inl v)] at h
          exact zs_need_201 hn hA h
        · refine pk_eq k 8 (fun x => ?_) (fun x => ?_)
          · rw [if_pos (Or.inr x)] at h
            exact zs_need_201 hn hA h
          · rw [if_neg (show ¬ (k = 6 ∨ k = 8) by omega)] at h
            rw [nI_add]
            exact h
    · rw [if_pos (Or.inr y)] at h
      exact h
theorem zs_need_42 {post : Int32 → Prop} {t x n A B : Nat} {a1 a2 a3 a4 a5 a6 a7 a8 a9 : Nat → Int32} (ht : t ≤ 32) (hx : x < 8) (hn : n < 16) (hA : A < 8) (hB : B < 8) (h3 : a3 x = nI B)
    (h : post (zs_oI (if t ≤ n then some (16 * A + t) else if t ≤ 2 * n + 1 then some (16 * B + t - n - 1) else none))) :
    wX_need_42 post (nI t) (nI x) (nI n) (nI (16 * A)) a1 a2 a3 a4 a5 a6 a7 a8 a9 := by
  unfold wX_need_42
  refine pk_lt n t (fun z => ?_) (fun z => ?_)
  · rw [if_neg (by omega)] at h
    refine pk_lt (2 * n + 1) t (fun y => ?_) (fun y => ⟨pk_in x 8 hx, ?_⟩) (hx := by rw [show (2 : Int32) = nI 2 from rfl, pk_mul, nI_1])
    · rw [if_neg (by omega)] at h
      exact h
    · rw [if_pos y] at h
      rw [nI_clamp (by omega), h3, show (16 : Int32) = nI 16 from rfl, show (1 : Int32) = nI 1 from rfl, pk_mul, nI_add, pk_sub (by omega), pk_sub (by omega)]
      exact h
  · rw [if_pos z] at h
    rw [nI_add]
    exact h
theorem zs_need {post : Int32 → Prop} {s k A B p t : Nat} {a1 a2 a3 a4 a5 a6 a7 a8 a9 : Nat → Int32} (hc : zs_cfg s k A B a1 a2 a3) (hp : p < 128) (ht : t ≤ 32)
    (h : post (zs_oI (zs_nd s k A B p t))) : wpX_need post (a1, a2, a3, a4, a5, a6, a7, a8, a9) (nI p) (nI t) := by
  obtain ⟨hs, hk, hA, hB, hB2, h1, h2, h3⟩ := hc
  have e4 : nI p >>> ((4 : Int32) &&& 31) = nI (p / 16) := pk_shrN (by omega) _ 4 (by decide)
  have e15 : nI p &&& 15 = nI (p % 16) := pk_andN (by omega) 4 (by decide)
  have hq : p / 16 < 8 := by omega
  have hn : p % 16 < 16 := Nat.mod_lt _ (by decide)
  have ec : (nI (p / 16)).toNatClampNeg = p / 16 := nI_clamp (by omega)
  unfold wpX_need
  dsimp only
  refine nm_r e4 (nm_r e15 ⟨pk_in (p / 16) 8 hq, ?_⟩)
  rw [ec]
  by_cases hps : p / 16 = s
  · have g1 : a1 (p / 16) = nI k := by rw [h1 _ hq, if_pos hps]
    have g2 : 16 * a2 (p / 16) = nI (16 * A) := by rw [h2 _ hq, if_pos hps]; exact pk_mul 16 A
    have g3 : a3 (p / 16) = nI B := by rw [h3 _ hq, if_pos hps]
    refine nm_r g2 ⟨pk_in (p / 16) 8 hq, nm_r g1 ?_⟩
    unfold zs_nd at h
    rw [if_pos hps] at h
    refine pk_eq k 3 (fun z => ?_) (fun z => ?_)
    · rw [if_pos (Or.inl z)] at h
      exact zs_need_42 ht hq hn hA (hB2 (by omega)) g3 h
    · refine pk_eq k 9 (fun y => ?_) (fun y => ?_)
      · rw [if_pos (Or.inr y)] at h
        exact zs_need_42 ht hq hn hA (hB2 (by omega)) g3 h
      · rw [if_neg (show ¬ (k = 3 ∨ k = 9) by omega)] at h
        refine pk_eq k 7 (fun x => ?_) (fun x => ?_)
        · rw [if_pos x] at h
          refine pk_lt (p % 16) t (fun w => ?_) (fun w => ?_)
          · rw [if_neg (by omega)] at h
            refine pk_lt (2 * (p % 16)) t (fun v => ?_) (fun v => ?_) (hx := pk_mul 2 (p % 16))
            · rw [if_neg (by omega)] at h
              exact h
            · rw [if_pos v] at h
              rw [show (16 : Int32) = nI 16 from rfl, show (1 : Int32) = nI 1 from rfl, pk_mul, nI_add, pk_sub (by omega), pk_sub (by omega), hps]
              exact h
          · rw [if_pos w] at h
            rw [nI_add]
            exact h
        · rw [if_neg x] at h
          refine pk_eq k 2 (fun w => ?_) (fun w => ?_)
          · refine pk_eq t 1 (fun v => ⟨pk_in (p / 16) 8 hq, ?_⟩) (fun v => ?_)
            · rw [if_pos ⟨w, v⟩] at h
              rw [g3, show (16 : Int32) = nI 16 from rfl, pk_mul, nI_add]
              exact h
            · rw [if_neg (fun u => v u.2)] at h
              exact zs_need_150 ht hk hn hA h
          · rw [if_neg (fun u => w u.1)] at h
            exact zs_need_150 ht hk hn hA h
  · have g1 : a1 (p / 16) = nI 0 := by rw [h1 _ hq, if_neg hps]; rfl
    have g2 : 16 * a2 (p / 16) = nI (16 * 0) := by rw [h2 _ hq, if_neg hps]; rfl
    rw [zs_nd_out hps] at h
    refine nm_r g2 ⟨pk_in (p / 16) 8 hq, nm_r g1 ?_⟩
    refine br_f (by decide) (br_f (by decide) (br_f (by decide) (br_f (by decide) ?_)))
    exact zs_need_150 ht (by omega) hn (by omega) (by rw [if_pos (Or.inr (by omega))]; exact h)
end
section
/-! the methods product, timesInner, composed over zero values; computeLong, compute -/
theorem zs_mz (y : Int32) : (0 + 0 * y) - (0 + 0 * y) / 97 * 97 = 0 := by
  rw [Int32.zero_mul]
  decide
theorem zs_product {post : Int32 → Prop} {l r n : Nat} {a1 a2 a3 a4 a5 a6 a7 a8 a9 : Nat → Int32} (hl : l + n < 128) (hr : r + n < 128) (hz : ∀ i, i ≤ n → a5 (l + i) = 0) (h : post 0) :
    wpX_product post (a1, a2, a3, a4, a5, a6, a7, a8, a9) (nI l) (nI r) 0 (nI n) :=
  pk_loop (σ := Unit) (fun m i _ => wX_product_6 post (nI l) (nI r) (nI n) a1 a2 a3 a4 a5 a6 a7 a8 a9 m 0 (nI i)) (fun _ _ => True) (n + 1) 0 () (by omega) trivial
    (fun m _ _ => pk_lt n (n + 1) (fun _ => h) (fun z => absurd z (by omega)))
    (fun m i _ hi _ hw => pk_lt n i (fun z => absurd z (by omega)) (fun z => ⟨pk_in (l + i) 128 (by omega) (nI_add l i), pk_in (r + n - i) 128 (by omega) (by rw [nI_add, pk_sub (by omega)]), by decide,
      nm_r (by rw [nI_add l i, nI_clamp (show l + i < 2 ^ 31 by omega), hz i z, zs_mz]) (nm_r (nI_1 i) (hw () trivial))⟩))
theorem zs_timesInner {post : Int32 → Prop} {b i : Nat} {a1 a2 a3 a4 a5 a6 a7 a8 a9 : Nat → Int32} (hb : b + i < 128) (hi : i < 16) (hz : ∀ j, j ≤ i → a5 (b + j) = 0) (h : post 0) :
    wpX_timesInner post (a1, a2, a3, a4, a5, a6, a7, a8, a9) (nI b) (nI i) :=
  pk_loop (σ := Unit) (fun m j _ => wX_timesInner_5 post (nI b) (nI i) a1 a2 a3 a4 a5 a6 a7 a8 a9 m 0 (nI j)) (fun _ _ => True) (i + 1) 1 () (by omega) trivial
    (fun m _ _ => pk_lt i (i + 1) (fun _ => h) (fun z => absurd z (by omega)))
    (fun m j _ hj _ hw => pk_lt i j (fun z => absurd z (by omega)) (fun z => ⟨pk_in (b + j) 128 (by omega) (nI_add b j), pk_in (i - j) 16 (by omega) (by rw [pk_sub (by omega)]), by decide,
      nm_r (by rw [nI_add b j, nI_clamp (show b + j < 2 ^ 31 by omega), hz j z, zs_mz]) (nm_r (nI_1 j) (hw () trivial))⟩))
/-- the scratch row is zero up to n -/
def zs_z (n : Nat) (f : Nat → Int32) : Prop := ∀ i, i ≤ n → f i = 0
theorem zs_z_up {n k : Nat} {f : Nat → Int32} {x : Int32} (h : zs_z n f) (hx : x = 0) : zs_z n (upd f k x) := by
  intro i hi
  by_cases e : i = k
  · rw [e, pk_us, hx]
  · rw [pk_un e]
    exact h i hi
theorem zs_composed_34 {post : Int32 → St2 → Prop} {J : Int32 → (Nat → Int32) → (Nat → Int32) → (Nat → Int32) → (Nat → Int32) → (Nat → Int32) → (Nat → Int32) → (Nat → Int32) → (Nat → Int32) → (Nat → Int32) → Prop}
    {a b n j : Nat} {a1 a2 a3 a4 a5 a6 a7 a8 a9 : Nat → Int32} (ha : a + n < 128) (hb : b + n < 128) (hn : n < 16) (hj : j ≤ n) (za : ∀ i, i ≤ n → a5 (a + i) = 0) (zb : ∀ i, i ≤ n → a5 (b + i) = 0) (z8 : zs_z n a8)
    (hJ : ∀ f, zs_z n f → J (zs_dn j) a1 a2 a3 a4 a5 a6 a7 f a9) : ∃ m, wX_composed_34 post J (nI a) (nI b) (nI n) (nI j) m (nI n) a1 a2 a3 a4 a5 a6 a7 a8 a9 := by
  refine ⟨n + 1 + 1, pk_loopD (fun m i f => wX_composed_34 post J (nI a) (nI b) (nI n) (nI j) m (zs_dn i) a1 a2 a3 a4 a5 a6 a7 f a9) (fun i f => i ≤ n + 1 ∧ zs_z n f) ?_ ?_ (n + 1) a8 ⟨by omega, z8⟩⟩
  · intro m f hf
    refine br_t (by decide) ⟨pk_in (a + j) 128 (by omega) (nI_add a j), by decide, ?_⟩
    refine nm_e (nm_r (zs_dn_m1 j) (hJ _ (zs_z_up hf.2 ?_)))
    rw [nI_add a j, nI_clamp (show a + j < 2 ^ 31 by omega), za j hj, hf.2 0 (by omega)]
    decide
  · intro m i f hf hw
    refine br_f (nI_pos (by omega)) (zs_timesInner (by omega) (by omega) (fun q hq => zb q (by omega)) ⟨pk_in i 16 (by omega), ?_⟩)
    exact nm_e (nm_r (zs_dn_m1 i) (hw _ ⟨by omega, zs_z_up hf.2 rfl⟩))
theorem zs_composed_26 {post : Int32 → St2 → Prop} {a b n : Nat} {a1 a2 a3 a4 a5 a6 a7 a8 a9 : Nat → Int32} (ha : a + n < 128) (hb : b + n < 128) (hn : n < 16) (za : ∀ i, i ≤ n → a5 (a + i) = 0) (zb : ∀ i, i ≤ n → a5 (b + i) = 0) (z8 : zs_z n a8)
    (h : ∀ f, post 0 (a1, a2, a3, a4, a5, a6, a7, f, a9)) : ∃ m, wX_composed_26 post (nI a) (nI b) (nI n) m (nI n) a1 a2 a3 a4 a5 a6 a7 a8 a9 := by
  refine ⟨n + 1 + 1, pk_loopD (fun m i f => wX_composed_26 post (nI a) (nI b) (nI n) m (zs_dn i) a1 a2 a3 a4 a5 a6 a7 f a9) (fun i f => i ≤ n + 1 ∧ zs_z n f) ?_ ?_ (n + 1) a8 ⟨by omega, z8⟩⟩
  · intro m f hf
    refine br_t (by decide) ⟨pk_in n 16 hn, ?_⟩
    rw [nI_clamp (by omega), hf.2 n (Nat.le_refl n)]
    exact h f
  · intro m i f hf hw
    exact br_f (nI_pos (by omega)) (zs_composed_34 ha hb hn (by omega) za zb hf.2 (fun g hg => hw g ⟨by omega, hg⟩))
theorem zs_composed {post : Int32 → St2 → Prop} {a b n : Nat} {a1 a2 a3 a4 a5 a6 a7 a8 a9 : Nat → Int32} (ha : a + n < 128) (hb : b + n < 128) (hn : n < 16) (za : ∀ i, i ≤ n → a5 (a + i) = 0) (zb : ∀ i, i ≤ n → a5 (b + i) = 0)
    (h : ∀ f, post 0 (a1, a2, a3, a4, a5, a6, a7, f, a9)) : wpX_composed post (a1, a2, a3, a4, a5, a6, a7, a8, a9) (nI a) (nI b) (nI n) :=
  pk_loop (fun m i f => wX_composed_3 post (nI a) (nI b) (nI n) m (nI i) a1 a2 a3 a4 a5 a6 a7 f a9) (fun i f => ∀ j, j < i → f j = 0) (n + 1) 0 a8 (by omega) (fun j hj => absurd hj (by omega))
    (fun m f hf => pk_lt n (n + 1) (fun _ => zs_composed_26 ha hb hn za zb (fun i hi => hf i (by omega)) h) (fun z => absurd z (by omega)))
    (fun m i f hi hf hw => pk_lt n i (fun z => absurd z (by omega)) (fun z => ⟨pk_in i 16 (by omega), nm_e (nm_r (nI_1 i) (hw _ (fun j hj => by
      rw [nI_clamp (show i < 2 ^ 31 by omega)]
      by_cases e : j = i
      · rw [e, pk_us]
      · rw [pk_un e]
        exact hf j (by omega))))⟩))
/-- the needs of the long kinds -/
theorem zs_nd_a {s k A B p j : Nat} (hp : p / 16 = s) (hk : k = 3 ∨ k = 7 ∨ k = 9) (hj : j ≤ p % 16) : zs_nd s k A B p j = some (16 * A + j) := by
  unfold zs_nd
  rw [if_pos hp]
  by_cases h3 : k = 3 ∨ k = 9
  · rw [if_pos h3, if_pos hj]
  · rw [if_neg h3, if_pos (show k = 7 by omega), if_pos hj]
theorem zs_nd_b {s k A B p j : Nat} (hp : p / 16 = s) (hk : k = 3 ∨ k = 9) (hj : j ≤ p % 16) : zs_nd s k A B p (p % 16 + 1 + j) = some (16 * B + j) := by
  unfold zs_nd
  rw [if_pos hp, if_pos hk, if_neg (by omega), if_pos (by omega)]
  exact congrArg some (by omega)
theorem zs_computeLong {post : Int32 → St2 → Prop} {s k A B p : Nat} {a1 a2 a3 a4 a5 a6 a7 a8 a9 : Nat → Int32} (hc : zs_cfg s k A B a1 a2 a3) (hp : p < 128) (hps : p / 16 = s) (hk : k = 3 ∨ k = 7 ∨ k = 9)
    (hq : ∀ j q, zs_nd s k A B p j = some q → zs_F s k A B q ∧ zs_P s k A B q (a5 q))
    (h1 : zs_F s k A B p → ∀ x f, zs_P s k A B p x → post 1 (a1, a2, a3, a4, upd a5 p x, a6, a7, f, a9))
    (h0 : ¬ zs_F s k A B p → post 0 (a1, a2, a3, a4, a5, a6, a7, a8, a9)) :
    wpX_computeLong post (a1, a2, a3, a4, a5, a6, a7, a8, a9) (nI p) := by
  obtain ⟨hs, hk10, hA, hB, hB2, g1, g2, g3⟩ := hc
  have e4 : nI p >>> ((4 : Int32) &&& 31) = nI (p / 16) := pk_shrN (by omega) _ 4 (by decide)
  have e15 : nI p &&& 15 = nI (p % 16) := pk_andN (by omega) 4 (by decide)
  have hn : p % 16 < 16 := Nat.mod_lt _ (by decide)
  have ec : (nI s).toNatClampNeg = s := nI_clamp (by omega)
  have ep : (nI p).toNatClampNeg = p := nI_clamp (by omega)
  rw [hps] at e4
  have f1 : a1 s = nI k := by rw [g1 s hs, if_pos rfl]
  have f2 : 16 * a2 s = nI (16 * A) := by rw [g2 s hs, if_pos rfl]; exact pk_mul 16 A
  have f3 : 16 * a3 s = nI (16 * B) := by rw [g3 s hs, if_pos rfl]; exact pk_mul 16 B
  -- the series a is another one, so its values are 0
  have qa : ∀ j, j ≤ p % 16 → zs_F s k A B (16 * A + j) ∧ zs_P s k A B (16 * A + j) (a5 (16 * A + j)) := fun j hj => hq j _ (zs_nd_a hps hk hj)
  have hAs : A ≠ s := by
    intro e
    have := zs_F_in (qa 0 (by omega)).1 (by omega) (by omega) (by omega) (Or.inr (Or.inl e))
    omega
  have va : ∀ j, j ≤ p % 16 → a5 (16 * A + j) = 0 := fun j hj => (qa j hj).2.1 (by omega)
  unfold wpX_computeLong
  dsimp only
  refine nm_r e4 (nm_r e15 ⟨pk_in s 8 hs, ?_⟩)
  rw [ec, ep]
  refine nm_r f2 ⟨pk_in s 8 hs, nm_r f3 ⟨pk_in s 8 hs, ?_⟩⟩
  rw [f1]
  refine pk_eq k 3 (fun z => ?_) (fun z => ⟨pk_in s 8 hs, pk_eq k 7 (fun y => ?_) (fun y => ?_)⟩)
  · have qb : ∀ j, j ≤ p % 16 → zs_F s k A B (16 * B + j) ∧ zs_P s k A B (16 * B + j) (a5 (16 * B + j)) := fun j hj => hq _ _ (zs_nd_b hps (Or.inl z) hj)
    have hBs : B ≠ s := by
      intro e
      have := zs_F_in (qb 0 (by omega)).1 (by omega) (by omega) (by omega) (Or.inr (Or.inr ⟨by omega, e⟩))
      omega
    have hB8 := hB2 (by omega)
    refine zs_product (by omega) (by omega) va ⟨pk_in p 128 hp, nm_e ?_⟩
    refine h1 (Or.inr (Or.inr (Or.inr (Or.inr ⟨by omega, fun e => ?_, fun e => absurd e (by omega)⟩)))) 0 a8 ⟨fun _ => rfl, fun _ => ⟨fun e => absurd e (by omega), fun e => absurd e (by omega), fun _ _ _ _ => rfl⟩⟩
    rcases e with e | e
    · exact hAs e
    · exact hBs e.2
  · refine ⟨pk_in (16 * A) 128 (by omega), br_t ?_ (h0 (fun e => ?_))⟩
    · rw [nI_clamp (by omega)]
      exact va 0 (by omega)
    · exact zs_F_in e (by omega) (by omega) (by omega) (Or.inl y) hps
  · have hk9 : k = 9 := by omega
    have qb : ∀ j, j ≤ p % 16 → zs_F s k A B (16 * B + j) ∧ zs_P s k A B (16 * B + j) (a5 (16 * B + j)) := fun j hj => hq _ _ (zs_nd_b hps (Or.inr hk9) hj)
    have hBs : B ≠ s := by
      intro e
      have := zs_F_in (qb 0 (by omega)).1 (by omega) (by omega) (by omega) (Or.inr (Or.inr ⟨by omega, e⟩))
      omega
    have hB8 := hB2 (by omega)
    have vb : ∀ j, j ≤ p % 16 → a5 (16 * B + j) = 0 := fun j hj => (qb j hj).2.1 (by omega)
    refine ⟨pk_in (16 * B) 128 (by omega), br_t ?_ ?_⟩
    · rw [nI_clamp (by omega)]
      exact vb 0 (by omega)
    · refine zs_composed (by omega) (by omega) hn va vb (fun f => ⟨pk_in p 128 hp, nm_e ?_⟩)
      refine h1 (Or.inr (Or.inr (Or.inr (Or.inr ⟨by omega, fun e => ?_, fun e => absurd e (by omega)⟩)))) 0 f ⟨fun _ => rfl, fun _ => ⟨fun e => absurd e (by omega), fun e => absurd e (by omega), fun _ _ _ _ => rfl⟩⟩
      rcases e with e | e
      · exact hAs e
      · exact hBs e.2
theorem zs_compute_247 {post : Int32 → St2 → Prop} {p : Nat} {x y : Int32} {a1 a2 a3 a4 a5 a6 a7 a8 a9 : Nat → Int32} (hp : p < 128) (hx : x - x / 97 * 97 = y) (h : post 1 (a1, a2, a3, a4, upd a5 p y, a6, a7, a8, a9)) :
    wX_compute_247 post (nI p) x a1 a2 a3 a4 a5 a6 a7 a8 a9 := by
  unfold wX_compute_247
  refine ⟨by decide, pk_in p 128 hp, nm_e ?_⟩
  rw [nI_clamp (by omega), hx]
  exact h
end
section
/-! the method compute -/
theorem zs_nd_0 {s k A B p : Nat} (hp : p / 16 = s) (hk : k = 2 ∨ k = 4) : zs_nd s k A B p 0 = some (16 * A + p % 16) := by
  unfold zs_nd
  rw [if_pos hp, if_neg (show ¬ (k = 3 ∨ k = 9) by omega), if_neg (show ¬ k = 7 by omega), if_neg (show ¬ (k = 2 ∧ 0 = 1) by omega), if_neg (show ¬ (0 < 0 ∨ k ≤ 1) by omega), if_neg (show ¬ k = 5 by omega), if_neg (show ¬ (k = 6 ∨ k = 8) by omega)]
theorem zs_nd_1 {s k A B p : Nat} (hp : p / 16 = s) (hk : k = 2) : zs_nd s k A B p 1 = some (16 * B + p % 16) := by
  unfold zs_nd
  rw [if_pos hp, if_neg (show ¬ (k = 3 ∨ k = 9) by omega), if_neg (show ¬ k = 7 by omega), if_pos ⟨hk, rfl⟩]
theorem zs_nd_5 {s k A B p : Nat} (hp : p / 16 = s) (hk : k = 5) (hn : p % 16 < 15) : zs_nd s k A B p 0 = some (16 * A + p % 16 + 1) := by
  unfold zs_nd
  rw [if_pos hp, if_neg (show ¬ (k = 3 ∨ k = 9) by omega), if_neg (show ¬ k = 7 by omega), if_neg (show ¬ (k = 2 ∧ 0 = 1) by omega), if_neg (show ¬ (0 < 0 ∨ k ≤ 1) by omega), if_pos hk, if_pos hn]
theorem zs_nd_6 {s k A B p : Nat} (hp : p / 16 = s) (hk : k = 6 ∨ k = 8) (hn : 0 < p % 16) : zs_nd s k A B p 0 = some (16 * A + p % 16 - 1) := by
  unfold zs_nd
  rw [if_pos hp, if_neg (show ¬ (k = 3 ∨ k = 9) by omega), if_neg (show ¬ k = 7 by omega), if_neg (show ¬ (k = 2 ∧ 0 = 1) by omega), if_neg (show ¬ (0 < 0 ∨ k ≤ 1) by omega), if_neg (show ¬ k = 5 by omega), if_pos hk, if_pos hn]
theorem zs_compute {post : Int32 → St2 → Prop} {s k A B p t : Nat} {a1 a2 a3 a4 a5 a6 a7 a8 a9 : Nat → Int32} (hc : zs_cfg s k A B a1 a2 a3) (hp : p < 128) (ht : zs_nd s k A B p t = none)
    (hqt : ∀ j, j < t → ∀ q, zs_nd s k A B p j = some q → zs_F s k A B q ∧ zs_P s k A B q (a5 q))
    (h1 : zs_F s k A B p → ∀ x f, zs_P s k A B p x → post 1 (a1, a2, a3, a4, upd a5 p x, a6, a7, f, a9))
    (h0 : ¬ zs_F s k A B p → post 0 (a1, a2, a3, a4, a5, a6, a7, a8, a9)) :
    wpX_compute post (a1, a2, a3, a4, a5, a6, a7, a8, a9) (nI p) := by
  have hq : ∀ j q, zs_nd s k A B p j = some q → zs_F s k A B q ∧ zs_P s k A B q (a5 q) := by
    intro j q e
    rcases Nat.lt_or_ge j t with z | z
    · exact hqt j z q e
    · rw [zs_nd_up ht z] at e
      exact absurd e.symm (Option.some_ne_none _)
  have hc' := hc
  obtain ⟨hs, hk, hA, hB, hB2, g1, g2, g3⟩ := hc
  have e4 : nI p >>> ((4 : Int32) &&& 31) = nI (p / 16) := pk_shrN (by omega) _ 4 (by decide)
  have e15 : nI p &&& 15 = nI (p % 16) := pk_andN (by omega) 4 (by decide)
  have hn : p % 16 < 16 := Nat.mod_lt _ (by decide)
  have hp8 : p / 16 < 8 := by omega
  have ec : (nI (p / 16)).toNatClampNeg = p / 16 := nI_clamp (by omega)
  unfold wpX_compute
  dsimp only
  refine nm_r e4 (nm_r e15 ⟨pk_in (p / 16) 8 hp8, ?_⟩)
  rw [ec]
  by_cases hps : p / 16 = s
  · have f1 : a1 (p / 16) = nI k := by rw [g1 _ hp8, if_pos hps]
    have f2 : 16 * a2 (p / 16) = nI (16 * A) := by rw [g2 _ hp8, if_pos hps]; exact pk_mul 16 A
    have f3 : a3 (p / 16) = nI B := by rw [g3 _ hp8, if_pos hps]
    refine nm_r f2 ⟨pk_in (p / 16) 8 hp8, nm_r f3 ⟨pk_in (p / 16) 8 hp8, nm_r f1 ?_⟩⟩
    have F1 : (k ≤ 1 ∨ k = 6 ∨ k = 8) → zs_F s k A B p := by
      intro z
      rcases z with z | z | z
      · exact Or.inr (Or.inl z)
      · exact Or.inr (Or.inr (Or.inl z))
      · exact Or.inr (Or.inr (Or.inr (Or.inl z)))
    -- a kind that wants the series a, and is not one of the good ones: a is another series
    have nA : ∀ j, 1 < k → k ≠ 6 → k ≠ 8 → j < 16 → zs_F s k A B (16 * A + j) → A ≠ s := by
      intro j b1 b2 b3 hj hF e
      have := zs_F_in hF b1 b2 b3 (Or.inr (Or.inl e))
      omega
    refine pk_eq k 0 (fun z => pk_eq (p % 16) 0 (fun y => ?_) (fun y => ?_)) (fun z0 => ?_)
    · exact zs_compute_247 hp (zs_rem hB) (h1 (F1 (by omega)) _ _ ⟨fun e => absurd hps e, fun _ => ⟨fun _ _ => rfl, fun e => absurd e (by omega), fun e => absurd z e⟩⟩)
    · exact zs_compute_247 hp zs_rem0 (h1 (F1 (by omega)) _ _ ⟨fun e => absurd hps e, fun _ => ⟨fun _ e => absurd e y, fun e => absurd e (by omega), fun e => absurd z e⟩⟩)
    refine pk_eq k 1 (fun z => pk_eq (p % 16) 1 (fun y => ?_) (fun y => ?_)) (fun z1 => ?_)
    · exact zs_compute_247 (y := 1) hp (by decide) (h1 (F1 (by omega)) _ _ ⟨fun e => absurd hps e, fun _ => ⟨fun e => absurd e (by omega), fun e => absurd e (by omega), fun _ _ _ e => absurd e (by omega)⟩⟩)
    · exact zs_compute_247 hp zs_rem0 (h1 (F1 (by omega)) _ _ ⟨fun e => absurd hps e, fun _ => ⟨fun e => absurd e (by omega), fun e => absurd e (by omega), fun _ _ _ _ => rfl⟩⟩)
    refine pk_eq k 2 (fun z => ?_) (fun z2 => ?_)
    · have qa := hq 0 _ (zs_nd_0 hps (Or.inl z))
      have qb := hq 1 _ (zs_nd_1 hps z)
      have hAs := nA (p % 16) (by omega) (by omega) (by omega) hn qa.1
      have hBs : B ≠ s := by
        intro e
        have := zs_F_in qb.1 (by omega) (by omega) (by omega) (Or.inr (Or.inr ⟨by omega, e⟩))
        omega
      have hB8 := hB2 (by omega)
      have va : a5 (16 * A + p % 16) = 0 := qa.2.1 (by omega)
      have vb : a5 (16 * B + p % 16) = 0 := qb.2.1 (by omega)
      have eB : 16 * nI B + nI (p % 16) = nI (16 * B + p % 16) := by rw [← nI_add]; exact congrArg (· + nI (p % 16)) (pk_mul 16 B)
      refine ⟨pk_in (16 * A + p % 16) 128 (by omega) (nI_add _ _), pk_in (16 * B + p % 16) 128 (by omega) eB, ?_⟩
      rw [nI_add, eB, nI_clamp (show 16 * A + p % 16 < 2 ^ 31 by omega), nI_clamp (show 16 * B + p % 16 < 2 ^ 31 by omega), va, vb]
      refine nm_r (show (0 : Int32) + 0 = 0 by decide) (zs_compute_247 hp zs_rem0 (h1 ?_ _ _ ⟨fun e => absurd hps e, fun _ => ⟨fun e => absurd e (by omega), fun e => absurd e (by omega), fun _ _ _ _ => rfl⟩⟩))
      refine Or.inr (Or.inr (Or.inr (Or.inr ⟨by omega, fun e => ?_, fun e => absurd e (by omega)⟩)))
      rcases e with e | e
      · exact hAs e
      · exact hBs e.2
    refine pk_eq k 4 (fun z => ?_) (fun z4 => ?_)
    · have qa := hq 0 _ (zs_nd_0 hps (Or.inr z))
      have hAs := nA (p % 16) (by omega) (by omega) (by omega) hn qa.1
      have va : a5 (16 * A + p % 16) = 0 := qa.2.1 (by omega)
      refine ⟨pk_in (16 * A + p % 16) 128 (by omega) (nI_add _ _), ?_⟩
      rw [nI_add, nI_clamp (show 16 * A + p % 16 < 2 ^ 31 by omega), va]
      refine nm_r (Int32.mul_zero) (zs_compute_247 hp zs_rem0 (h1 ?_ _ _ ⟨fun e => absurd hps e, fun _ => ⟨fun e => absurd e (by omega), fun e => absurd e (by omega), fun _ _ _ _ => rfl⟩⟩))
      refine Or.inr (Or.inr (Or.inr (Or.inr ⟨by omega, fun e => ?_, fun e => absurd e (by omega)⟩)))
      rcases e with e | e
      · exact hAs e
      · exact absurd e.1 (by omega)
    refine pk_eq k 5 (fun z => pk_eq (p % 16) 15 (fun y => ?_) (fun y => ?_)) (fun z5 => ?_)
    · refine h0 (fun e => ?_)
      rcases e with e | e | e | e | e
      · exact e hps
      · omega
      · omega
      · omega
      · exact absurd (e.2.2 z) (by omega)
    · have qa := hq 0 _ (zs_nd_5 hps z (by omega))
      have hAs := nA (p % 16 + 1) (by omega) (by omega) (by omega) (by omega) qa.1
      have va : a5 (16 * A + p % 16 + 1) = 0 := qa.2.1 (by omega)
      refine ⟨pk_in (16 * A + p % 16 + 1) 128 (by omega) (by rw [nI_add, nI_1]), ?_⟩
      rw [nI_add, nI_1 (16 * A + p % 16), nI_clamp (show 16 * A + p % 16 + 1 < 2 ^ 31 by omega), va]
      refine nm_r (Int32.mul_zero) (zs_compute_247 hp zs_rem0 (h1 ?_ _ _ ⟨fun e => absurd hps e, fun _ => ⟨fun e => absurd e (by omega), fun e => absurd e (by omega), fun _ _ _ _ => rfl⟩⟩))
      refine Or.inr (Or.inr (Or.inr (Or.inr ⟨by omega, fun e => ?_, fun _ => by omega⟩)))
      rcases e with e | e
      · exact hAs e
      · exact absurd e.1 (by omega)
    refine pk_eq k 6 (fun z => pk_eq (p % 16) 0 (fun y => ?_) (fun y => ?_)) (fun z6 => ?_)
    · exact zs_compute_247 hp (zs_rem hB) (h1 (F1 (by omega)) _ _ ⟨fun e => absurd hps e, fun _ => ⟨fun _ _ => rfl, fun e => absurd e (by omega), fun _ e => absurd z e⟩⟩)
    · refine ⟨pk_in (16 * A + p % 16 - 1) 128 (by omega) (by rw [nI_add, show (1 : Int32) = nI 1 from rfl, pk_sub (by omega)]), pk_in (p % 16) 97 (by omega), ?_⟩
      exact zs_compute_247 hp rfl (h1 (F1 (by omega)) _ _ ⟨fun e => absurd hps e, fun _ => ⟨fun _ e => absurd e y, fun e => absurd e (by omega), fun _ e => absurd z e⟩⟩)
    refine pk_eq k 8 (fun z => pk_eq (p % 16) 0 (fun y => ?_) (fun y => ?_)) (fun z8 => ?_)
    · exact zs_compute_247 hp (zs_rem hB) (h1 (F1 (by omega)) _ _ ⟨fun e => absurd hps e, fun _ => ⟨fun _ _ => rfl, fun _ _ => rfl, fun _ _ e => absurd z e⟩⟩)
    · have qa := hq 0 _ (zs_nd_6 hps (Or.inr z) (by omega))
      have ei : nI (16 * A) + nI (p % 16) - 1 = nI (16 * A + p % 16 - 1) := by rw [nI_add, show (1 : Int32) = nI 1 from rfl, pk_sub (by omega)]
      refine ⟨pk_in (16 * A + p % 16 - 1) 128 (by omega) ei, ?_⟩
      rw [ei, nI_clamp (show 16 * A + p % 16 - 1 < 2 ^ 31 by omega)]
      refine zs_compute_247 hp rfl (h1 (F1 (by omega)) _ _ ⟨fun e => absurd hps e, fun _ => ⟨fun _ e => absurd e y, fun _ e => ?_, fun _ _ e => absurd z e⟩⟩)
      have v := (qa.2.2 (by omega)).2.1 z e
      rw [v]
      exact zs_rem hB
    refine zs_computeLong hc' hp hps (by omega) hq (fun hF x f hx => ⟨by rfl, h1 hF x f hx⟩) (fun hF => ⟨by rfl, h0 hF⟩)
  · have f1 : a1 (p / 16) = 0 := by rw [g1 _ hp8, if_neg hps]
    have f3 : a3 (p / 16) = 0 := by rw [g3 _ hp8, if_neg hps]
    refine nm_e ⟨pk_in (p / 16) 8 hp8, nm_r f3 ⟨pk_in (p / 16) 8 hp8, nm_r f1 (br_t rfl ?_)⟩⟩
    have fin : wX_compute_54 post (nI p) 0 a1 a2 a3 a4 a5 a6 a7 a8 a9 := zs_compute_247 hp zs_rem0 (h1 (Or.inl hps) _ _ ⟨fun _ => rfl, fun e => absurd e hps⟩)
    exact br_c (fun _ => fin) (fun _ => fin)
end
section
/-! the method force: a depth-first search with its stack as a list of places and turns, the top first -/
def zs_ok (s k A B : Nat) (l : List (Nat × Nat)) (st val : Nat → Int32) : Prop :=
  ∀ p, p < 128 → (st p = 0 ∨ (st p = 1 ∧ ∃ e, e ∈ l ∧ e.1 = p) ∨ (st p = 2 ∧ zs_F s k A B p ∧ zs_P s k A B p (val p)) ∨ (st p = 3 ∧ ¬ zs_F s k A B p))
def zs_stk (s k A B : Nat) (val stk trn : Nat → Int32) : List (Nat × Nat) → Prop
  | [] => True
  | e :: r => (stk r.length = nI e.1 ∧ trn r.length = nI e.2 ∧ e.1 < 128 ∧ e.2 ≤ 32 ∧ (∀ j, j < e.2 → ∀ q, zs_nd s k A B e.1 j = some q → zs_F s k A B q ∧ zs_P s k A B q (val q))) ∧ (∀ d r', r = d :: r' → zs_nd s k A B d.1 d.2 = some e.1) ∧ zs_stk s k A B val stk trn r
def zs_T : List (Nat × Nat) → Nat
  | [] => 0
  | e :: r => (34 - e.2) + zs_T r
theorem zs_stk_congr {s k A B : Nat} {val val' stk stk' trn trn' : Nat → Int32} (hv : ∀ q, zs_P s k A B q (val q) → zs_P s k A B q (val' q)) :
    ∀ l : List (Nat × Nat), (∀ j, j < l.length → stk' j = stk j) → (∀ j, j < l.length → trn' j = trn j) → zs_stk s k A B val stk trn l → zs_stk s k A B val' stk' trn' l := by
  intro l
  induction l with
  | nil => intro _ _ _; trivial
  | cons e r ih =>
    intro h1 h2 h
    obtain ⟨⟨c1, c2, c3, c4, c5⟩, c6, c7⟩ := h
    have hl : r.length < (e :: r).length := Nat.lt_succ_self _
    refine ⟨⟨by rw [h1 _ hl]; exact c1, by rw [h2 _ hl]; exact c2, c3, c4, fun j hj q hq => ⟨(c5 j hj q hq).1, hv q (c5 j hj q hq).2⟩⟩, c6, ih (fun j hj => h1 j (Nat.lt_trans hj hl)) (fun j hj => h2 j (Nat.lt_trans hj hl)) c7⟩
/-- if a place on the stack has a value, so has the top, and the top's rank is no greater -/
theorem zs_chain {s k A B : Nat} {val stk trn : Nat → Int32} : ∀ (r : List (Nat × Nat)) (e : Nat × Nat), zs_stk s k A B val stk trn (e :: r) → ∀ d, d ∈ e :: r → zs_F s k A B d.1 → zs_F s k A B e.1 ∧ zs_R s e.1 ≤ zs_R s d.1 := by
  intro r
  induction r with
  | nil =>
    intro e _ d hd hF
    have : d = e := List.mem_singleton.mp hd
    subst this
    exact ⟨hF, Nat.le_refl _⟩
  | cons c r ih =>
    intro e h d hd hF
    rcases List.mem_cons.mp hd with z | z
    · subst z
      exact ⟨hF, Nat.le_refl _⟩
    · obtain ⟨_, c6, c7⟩ := h
      obtain ⟨i1, i2⟩ := ih c c7 d z hF
      obtain ⟨k1, k2⟩ := zs_rank i1 (c6 c r rfl)
      exact ⟨k1, by omega⟩
/-- the top is done: it has a value -/
theorem zs_ok_found {s k A B p : Nat} {t : Nat} {r : List (Nat × Nat)} {st val : Nat → Int32} {x : Int32} (h : zs_ok s k A B ((p, t) :: r) st val) (hF : zs_F s k A B p) (hx : zs_P s k A B p x) : zs_ok s k A B r (upd st p 2) (upd val p x) := by
  intro q hq
  by_cases e : q = p
  · subst e
    rw [pk_us, pk_us]
    exact Or.inr (Or.inr (Or.inl ⟨rfl, hF, hx⟩))
  · rw [pk_un e, pk_un e]
    rcases h q hq with z | ⟨z, d, d1, d2⟩ | z | z
    · exact Or.inl z
    · refine Or.inr (Or.inl ⟨z, d, ?_, d2⟩)
      rcases List.mem_cons.mp d1 with y | y
      · rw [y] at d2
        exact absurd d2.symm e
      · exact y
    · exact Or.inr (Or.inr (Or.inl z))
    · exact Or.inr (Or.inr (Or.inr z))
/-- the top is done: it has none -/
theorem zs_ok_dead {s k A B p : Nat} {t : Nat} {r : List (Nat × Nat)} {st val : Nat → Int32} (h : zs_ok s k A B ((p, t) :: r) st val) (hF : ¬ zs_F s k A B p) : zs_ok s k A B r (upd st p 3) val := by
  intro q hq
  by_cases e : q = p
  · subst e
    rw [pk_us]
    exact Or.inr (Or.inr (Or.inr ⟨rfl, hF⟩))
  · rw [pk_un e]
    rcases h q hq with z | ⟨z, d, d1, d2⟩ | z | z
    · exact Or.inl z
    · refine Or.inr (Or.inl ⟨z, d, ?_, d2⟩)
      rcases List.mem_cons.mp d1 with y | y
      · rw [y] at d2
        exact absurd d2.symm e
      · exact y
    · exact Or.inr (Or.inr (Or.inl z))
    · exact Or.inr (Or.inr (Or.inr z))
theorem zs_ok_turn {s k A B p t t' : Nat} {r : List (Nat × Nat)} {st val : Nat → Int32} (h : zs_ok s k A B ((p, t) :: r) st val) : zs_ok s k A B ((p, t') :: r) st val := by
  intro q hq
  rcases h q hq with z | ⟨z, d, d1, d2⟩ | z | z
  · exact Or.inl z
  · refine Or.inr (Or.inl ⟨z, ?_⟩)
    rcases List.mem_cons.mp d1 with y | y
    · rw [y] at d2
      exact ⟨(p, t'), List.mem_cons_self, d2⟩
    · exact ⟨d, List.mem_cons_of_mem _ y, d2⟩
  · exact Or.inr (Or.inr (Or.inl z))
  · exact Or.inr (Or.inr (Or.inr z))
theorem zs_ok_enter {s k A B q : Nat} {l : List (Nat × Nat)} {st val : Nat → Int32} (h : zs_ok s k A B l st val) : zs_ok s k A B ((q, 0) :: l) (upd st q 1) val := by
  intro p hp
  by_cases e : p = q
  · subst e
    rw [pk_us]
    exact Or.inr (Or.inl ⟨rfl, (p, 0), List.mem_cons_self, rfl⟩)
  · rw [pk_un e]
    rcases h p hp with z | ⟨z, d, d1, d2⟩ | z | z
    · exact Or.inl z
    · exact Or.inr (Or.inl ⟨z, d, List.mem_cons_of_mem _ d1, d2⟩)
    · exact Or.inr (Or.inr (Or.inl z))
    · exact Or.inr (Or.inr (Or.inr z))
theorem zs_ne_up {st : Nat → Int32} {p q : Nat} {x : Int32} (h : ¬ st q = 0) (hx : ¬ x = 0) : ¬ upd st p x q = 0 := by
  by_cases e : q = p
  · rw [e, pk_us]; exact hx
  · rw [pk_un e]; exact h
theorem zs_un_up {st : Nat → Int32} {u : Nat → Nat} {p : Nat} {x : Int32} (h : ∀ q, q < 128 → st q = 0 → 1 ≤ u q) (hx : ¬ x = 0) : ∀ q, q < 128 → upd st p x q = 0 → 1 ≤ u q := by
  intro q hq e
  by_cases z : q = p
  · rw [z, pk_us] at e; exact absurd e hx
  · rw [pk_un z] at e; exact h q hq e
theorem zs_loop {post : Int32 → St2 → Prop} {s k A B pl : Nat} {a1 a2 a3 a9 : Nat → Int32} (hc : zs_cfg s k A B a1 a2 a3) (hpl : pl < 128)
    (H1 : zs_F s k A B pl → ∀ st val stk trn scr, zs_ok s k A B [] st val → zs_P s k A B pl (val pl) → post 1 (a1, a2, a3, st, val, stk, trn, scr, a9))
    (H0 : ¬ zs_F s k A B pl → ∀ st val stk trn scr, zs_ok s k A B [] st val → post 0 (a1, a2, a3, st, val, stk, trn, scr, a9)) :
    ∀ (m : Nat) (l : List (Nat × Nat)) (step : Nat) (st val stk trn scr : Nat → Int32) (u : Nat → Nat), zs_ok s k A B l st val → zs_stk s k A B val stk trn l → ¬ st pl = 0 → (∀ q, q < 128 → st q = 0 → 1 ≤ u q) →
      l.length + zs_sum u 128 ≤ 128 → step + 40 * zs_sum u 128 + zs_T l ≤ 6000 → 40 * zs_sum u 128 + zs_T l < m →
      wX_force_35 post (nI pl) m (zs_dn l.length) (nI step) a1 a2 a3 st val stk trn scr a9 := by
  obtain ⟨hs, hk, hA, hB, hB2, _⟩ := id hc
  intro m
  induction m with
  | zero => intro l step st val stk trn scr u _ _ _ _ _ _ h; exact absurd h (by omega)
  | succ m ih =>
    intro l step st val stk trn scr u ok sk nz un hl hst hm
    cases l with
    | nil =>
      rw [show zs_dn ([] : List (Nat × Nat)).length = -1 from rfl]
      refine pk_le 20000 step (fun z => absurd z (by omega)) (fun _ => br_t (by decide) ⟨pk_in pl 128 hpl, ?_⟩)
      rw [nI_clamp (show pl < 2 ^ 31 by omega)]
      rcases ok pl hpl with z | ⟨_, d, d1, _⟩ | ⟨z, f, v⟩ | ⟨z, f⟩
      · exact absurd z nz
      · exact absurd d1 List.not_mem_nil
      · exact br_t z (H1 f _ _ _ _ _ ok v)
      · exact br_f (by rw [z]; decide) (H0 f _ _ _ _ _ ok)
    | cons e r =>
      obtain ⟨p, t⟩ := e
      have sk' := sk
      obtain ⟨⟨c1, c2, c3, c4, c5⟩, c6, c7⟩ := sk
      dsimp only at c1 c2 c3 c4 c5 c6
      have hl' : r.length + 1 + zs_sum u 128 ≤ 128 := hl
      have hT : zs_T ((p, t) :: r) = (34 - t) + zs_T r := rfl
      rw [hT] at hst hm
      have er : (nI r.length).toNatClampNeg = r.length := nI_clamp (by omega)
      have ep : (nI p).toNatClampNeg = p := nI_clamp (by omega)
      have dead : ¬ zs_F s k A B p → wX_force_35 post (nI pl) m (zs_dn r.length) (nI (step + 1)) a1 a2 a3 (upd st p 3) val stk trn scr a9 := fun hF =>
        ih r (step + 1) _ _ _ _ _ u (zs_ok_dead ok hF) c7 (zs_ne_up nz (by decide)) (zs_un_up un (by decide)) (by omega) (by omega) (by omega)
      rw [show zs_dn ((p, t) :: r).length = nI r.length from rfl]
      refine pk_le 20000 step (fun z => absurd z (by omega)) (fun _ => br_f (nI_pos (by omega)) ⟨pk_in r.length 128 (by omega), ?_⟩)
      rw [er, c1, c2]
      refine nm_e ⟨pk_in r.length 128 (by omega), zs_need hc c3 c4 ?_⟩
      rw [ep]
      cases hN : zs_nd s k A B p t with
      | none =>
        refine br_t rfl (zs_compute hc c3 hN c5 (fun hF x f hx => ?_) (fun hF => ?_))
        · refine br_f (by decide) ⟨pk_in p 128 c3, nm_e (nm_r (zs_dn_m1 r.length) (nm_r (nI_1 step) ?_))⟩
          exact ih r (step + 1) _ _ _ _ _ u (zs_ok_found ok hF hx) (zs_stk_congr (fun q hq => by
            by_cases e : q = p
            · rw [e, pk_us]; exact hx
            · rw [pk_un e]; exact hq) r (fun _ _ => rfl) (fun _ _ => rfl) c7) (zs_ne_up nz (by decide)) (zs_un_up un (by decide)) (by omega) (by omega) (by omega)
        · exact br_t rfl ⟨pk_in p 128 c3, nm_e (nm_r (zs_dn_m1 r.length) (nm_r (nI_1 step) (dead hF)))⟩
      | some q =>
        obtain ⟨hq, ht⟩ := zs_nd_lt hs hA hB2 hN
        have eq : (nI q).toNatClampNeg = q := nI_clamp (by omega)
        rw [show zs_oI (some q) = nI q from rfl]
        refine br_f (zs_ne_m1 (by omega)) ⟨pk_in q 128 hq, ?_⟩
        rw [eq]
        rcases ok q hq with z | ⟨z, d, d1, d2⟩ | ⟨z, f, v⟩ | ⟨z, f⟩
        · -- not asked: it is entered
          refine br_f (by rw [z]; decide) ⟨pk_in q 128 hq, br_t z (nm_r (nI_1 r.length) ?_)⟩
          refine ⟨pk_in (r.length + 1) 128 (by have := un q hq z; have := zs_sum_up (f := u) (k := q) (x := 0) 128 hq; omega), nm_e ⟨pk_in (r.length + 1) 128 (by have := un q hq z; have := zs_sum_up (f := u) (k := q) (x := 0) 128 hq; omega), nm_e ⟨pk_in q 128 hq, nm_e (nm_r (nI_1 step) ?_)⟩⟩⟩
          have hu := un q hq z
          have hS := zs_sum_up (f := u) (k := q) (x := 0) 128 hq
          have e1 : (nI (r.length + 1)).toNatClampNeg = r.length + 1 := nI_clamp (by omega)
          rw [e1, eq]
          refine ih ((q, 0) :: (p, t) :: r) (step + 1) _ _ _ _ _ (zs_upn u q 0) (zs_ok_enter ok) ?_ (zs_ne_up nz (by decide)) ?_ ?_ ?_ ?_
          · refine ⟨⟨pk_us, pk_us, hq, by omega, fun j hj => absurd hj (Nat.not_lt_zero j)⟩, ?_, ?_⟩
            · intro d r' e
              injection e with e _
              rw [← e]
              exact hN
            · exact zs_stk_congr (fun _ h => h) _ (fun j hj => pk_un (show j ≠ r.length + 1 from Nat.ne_of_lt hj)) (fun j hj => pk_un (show j ≠ r.length + 1 from Nat.ne_of_lt hj)) sk'
          · intro p' hp' e
            by_cases w : p' = q
            · rw [w, pk_us] at e
              exact absurd e (by decide)
            · rw [pk_un w] at e
              rw [zs_upn_n w]
              exact un p' hp' e
          · show r.length + 1 + 1 + zs_sum (zs_upn u q 0) 128 ≤ 128
            omega
          · show step + 1 + 40 * zs_sum (zs_upn u q 0) 128 + ((34 - 0) + ((34 - t) + zs_T r)) ≤ 6000
            omega
          · show 40 * zs_sum (zs_upn u q 0) 128 + ((34 - 0) + ((34 - t) + zs_T r)) < m
            omega
        · -- being forced: a cycle
          have hF : ¬ zs_F s k A B p := by
            intro hF
            obtain ⟨f1, f2⟩ := zs_rank hF hN
            have f3 := zs_chain r (p, t) sk' d d1 (by rw [d2]; exact f1)
            rw [d2] at f3
            have := f3.2
            dsimp only at this
            omega
          exact br_f (by rw [z]; decide) ⟨pk_in q 128 hq, br_f (by rw [z]; decide) ⟨pk_in p 128 c3, nm_e (nm_r (zs_dn_m1 r.length) (nm_r (nI_1 step) (dead hF)))⟩⟩
        · -- found: the next need
          refine br_t z ⟨pk_in r.length 128 (by omega), pk_in r.length 128 (by omega), ?_⟩
          refine nm_r (congrArg (upd trn r.length) (nI_1 t)) (nm_r (nI_1 step) ?_)
          refine ih ((p, t + 1) :: r) (step + 1) _ _ _ _ _ u (zs_ok_turn ok) ?_ nz un hl ?_ ?_
          · refine ⟨⟨c1, pk_us, c3, by show t + 1 ≤ 32; omega, ?_⟩, c6, zs_stk_congr (fun _ h => h) r (fun _ _ => rfl) (fun j hj => pk_un (Nat.ne_of_lt hj)) c7⟩
            intro j hj q' hq'
            have hj' : j < t + 1 := hj
            by_cases w : j = t
            · rw [w, hN] at hq'
              injection hq' with hq'
              rw [← hq']
              exact ⟨f, v⟩
            · exact c5 j (by omega) q' hq'
          · show step + 1 + 40 * zs_sum u 128 + ((34 - (t + 1)) + zs_T r) ≤ 6000
            omega
          · show 40 * zs_sum u 128 + ((34 - (t + 1)) + zs_T r) < m
            omega
        · -- dead
          have hF : ¬ zs_F s k A B p := fun hF => f (zs_rank hF hN).1
          exact br_f (by rw [z]; decide) ⟨pk_in q 128 hq, br_f (by rw [z]; decide) ⟨pk_in p 128 c3, nm_e (nm_r (zs_dn_m1 r.length) (nm_r (nI_1 step) (dead hF)))⟩⟩
theorem zs_force {post : Int32 → St2 → Prop} {s k A B pl : Nat} {a1 a2 a3 st val stk trn scr a9 : Nat → Int32} (hc : zs_cfg s k A B a1 a2 a3) (hpl : pl < 128) (ok : zs_ok s k A B [] st val)
    (H1 : zs_F s k A B pl → ∀ st val stk trn scr, zs_ok s k A B [] st val → zs_P s k A B pl (val pl) → post 1 (a1, a2, a3, st, val, stk, trn, scr, a9))
    (H0 : ¬ zs_F s k A B pl → ∀ st val stk trn scr, zs_ok s k A B [] st val → post 0 (a1, a2, a3, st, val, stk, trn, scr, a9)) :
    wpX_force post (a1, a2, a3, st, val, stk, trn, scr, a9) (nI pl) := by
  have ep : (nI pl).toNatClampNeg = pl := nI_clamp (by omega)
  unfold wpX_force
  dsimp only
  refine ⟨pk_in pl 128 hpl, ?_⟩
  rw [ep]
  rcases ok pl hpl with z | ⟨_, d, d1, _⟩ | ⟨z, f, v⟩ | ⟨z, f⟩
  · refine br_t z ⟨pk_in 0 128 (by omega), nm_e ⟨pk_in 0 128 (by omega), nm_e ⟨pk_in pl 128 hpl, nm_e ?_⟩⟩⟩
    rw [ep, sb_cl0]
    have hS := zs_sum_up (f := fun _ => 1) (k := pl) (x := 0) 128 hpl
    rw [zs_sum_1] at hS
    refine ⟨6000, zs_loop hc hpl H1 H0 6000 [(pl, 0)] 0 (upd st pl 1) val (upd stk 0 (nI pl)) (upd trn 0 0) scr (zs_upn (fun _ => 1) pl 0) (zs_ok_enter ok) ?_ ?_ ?_ ?_ ?_ ?_⟩
    · exact ⟨⟨pk_us, pk_us, hpl, by omega, fun j hj => absurd hj (Nat.not_lt_zero j)⟩, fun d r' e => (nomatch e), trivial⟩
    · rw [pk_us]; decide
    · intro q hq e
      by_cases w : q = pl
      · rw [w, pk_us] at e
        exact absurd e (by decide)
      · rw [zs_upn_n w]
        exact Nat.le_refl 1
    · show 1 + zs_sum (zs_upn (fun _ => 1) pl 0) 128 ≤ 128
      omega
    · show 0 + 40 * zs_sum (zs_upn (fun _ => 1) pl 0) 128 + ((34 - 0) + 0) ≤ 6000
      omega
    · show 40 * zs_sum (zs_upn (fun _ => 1) pl 0) 128 + ((34 - 0) + 0) < 6000
      omega
  · exact absurd d1 List.not_mem_nil
  · exact br_f (by rw [z]; decide) ⟨pk_in pl 128 hpl, br_t z (H1 f _ _ _ _ _ ok v)⟩
  · exact br_f (by rw [z]; decide) ⟨pk_in pl 128 hpl, br_f (by rw [z]; decide) (H0 f _ _ _ _ _ ok)⟩
end
section
/-! the methods that force: known, valued, coefficient; kindOf, define, the maker -/
theorem zs_isSeries1 {post : Int32 → Prop} {s : Nat} (hs : s < 8) (h : post 1) : wpX_isSeries post () (nI s) :=
  br_f (nI_pos (by omega)) (pk_lt 7 s (fun z => absurd z (by omega)) (fun _ => h))
theorem zs_isSeries0 {post : Int32 → Prop} {x : Int32} (hx : x < 0 ∨ 7 < x) (h : post 0) : wpX_isSeries post () x := by
  by_cases z : x < 0
  · exact br_t z h
  · exact br_f z (br_t (hx.resolve_left z) h)
theorem zs_place (s n : Nat) : 16 * nI s + nI n = nI (16 * s + n) := by
  rw [← nI_add]
  exact congrArg (· + nI n) (pk_mul 16 s)
theorem zs_known_loop {post : Int32 → St2 → Prop} {s k A B al : Nat} {a1 a2 a3 a9 : Nat → Int32} (hc : zs_cfg s k A B a1 a2 a3) (hal : al ≤ 16) (hF : ∀ n, n < 16 → (zs_F s k A B (16 * s + n) ↔ n < al))
    (H : ∀ st val stk trn scr, zs_ok s k A B [] st val → post (nI al) (a1, a2, a3, st, val, stk, trn, scr, a9)) :
    ∀ (m i : Nat) (st val stk trn scr : Nat → Int32), i ≤ al → al - i < m → zs_ok s k A B [] st val → wX_known_11 post (nI s) m (nI i) a1 a2 a3 st val stk trn scr a9 := by
  have hs : s < 8 := hc.1
  intro m
  induction m with
  | zero => intro i st val stk trn scr _ h _; exact absurd h (by omega)
  | succ m ih =>
    intro i st val stk trn scr hi hm ok
    refine pk_le 16 i (fun z => ?_) (fun z => ?_)
    · have e : al = 16 := by omega
      rw [e] at H
      exact H _ _ _ _ _ ok
    · rw [zs_place]
      refine zs_force hc (by omega) ok (fun f st val stk trn scr ok' _ => ?_) (fun f st val stk trn scr ok' => ?_)
      · exact br_f (by decide) (nm_r (nI_1 i) (ih (i + 1) _ _ _ _ _ (by have := (hF i z).mp f; omega) (by have := (hF i z).mp f; omega) ok'))
      · refine br_t rfl ?_
        have e : i = al := by
          rcases Nat.lt_or_ge i al with y | y
          · exact absurd ((hF i z).mpr y) f
          · omega
        rw [e]
        exact H _ _ _ _ _ ok'
theorem zs_known {post : Int32 → St2 → Prop} {s k A B al : Nat} {a1 a2 a3 st val stk trn scr a9 : Nat → Int32} (hc : zs_cfg s k A B a1 a2 a3) (hal : al ≤ 16) (hF : ∀ n, n < 16 → (zs_F s k A B (16 * s + n) ↔ n < al)) (ok : zs_ok s k A B [] st val)
    (H : ∀ st val stk trn scr, zs_ok s k A B [] st val → post (nI al) (a1, a2, a3, st, val, stk, trn, scr, a9)) : wpX_known post (a1, a2, a3, st, val, stk, trn, scr, a9) (nI s) := by
  unfold wpX_known
  dsimp only
  exact zs_isSeries1 hc.1 (br_f (by decide) ⟨al + 1, zs_known_loop hc hal hF H (al + 1) 0 _ _ _ _ _ (by omega) (by omega) ok⟩)
theorem zs_valued_loop {post : Int32 → St2 → Prop} {s k A B al : Nat} {a1 a2 a3 a9 : Nat → Int32} (hc : zs_cfg s k A B a1 a2 a3) (hal : al ≤ 16) (hF : ∀ n, n < 16 → (zs_F s k A B (16 * s + n) ↔ n < al))
    (H : ∀ st val stk trn scr, zs_ok s k A B [] st val → post (nI al) (a1, a2, a3, st, val, stk, trn, scr, a9)) :
    ∀ (m i c : Nat) (st val stk trn scr : Nat → Int32), i ≤ 16 → 16 - i < m → c = min i al → zs_ok s k A B [] st val → wX_valued_13 post (nI s) m (nI c) (nI i) a1 a2 a3 st val stk trn scr a9 := by
  have hs : s < 8 := hc.1
  intro m
  induction m with
  | zero => intro i c st val stk trn scr _ h _ _; exact absurd h (by omega)
  | succ m ih =>
    intro i c st val stk trn scr hi hm hcn ok
    refine pk_le 16 i (fun z => ?_) (fun z => ?_)
    · have e : c = al := by omega
      rw [e]
      exact H _ _ _ _ _ ok
    · rw [zs_place]
      refine zs_force hc (by omega) ok (fun f st val stk trn scr ok' _ => ?_) (fun f st val stk trn scr ok' => ?_)
      · exact br_f (by decide) (nm_r (nI_1 c) (nm_r (nI_1 i) (ih (i + 1) (c + 1) _ _ _ _ _ (by omega) (by omega) (by have := (hF i z).mp f; omega) ok')))
      · exact br_t rfl (nm_r (nI_1 i) (ih (i + 1) c _ _ _ _ _ (by omega) (by omega) (by have := mt (hF i z).mpr f; omega) ok'))
theorem zs_valued {post : Int32 → St2 → Prop} {s k A B al : Nat} {a1 a2 a3 st val stk trn scr a9 : Nat → Int32} (hc : zs_cfg s k A B a1 a2 a3) (hal : al ≤ 16) (hF : ∀ n, n < 16 → (zs_F s k A B (16 * s + n) ↔ n < al)) (ok : zs_ok s k A B [] st val)
    (H : ∀ st val stk trn scr, zs_ok s k A B [] st val → post (nI al) (a1, a2, a3, st, val, stk, trn, scr, a9)) : wpX_valued post (a1, a2, a3, st, val, stk, trn, scr, a9) (nI s) := by
  unfold wpX_valued
  dsimp only
  exact zs_isSeries1 hc.1 (br_f (by decide) ⟨17, zs_valued_loop hc hal hF H 17 0 0 _ _ _ _ _ (by omega) (by omega) (by omega) ok⟩)
theorem zs_coef {post : Int32 → St2 → Prop} {s k A B n : Nat} {a1 a2 a3 st val stk trn scr a9 : Nat → Int32} (hc : zs_cfg s k A B a1 a2 a3) (hn : n < 16) (ok : zs_ok s k A B [] st val)
    (H1 : zs_F s k A B (16 * s + n) → ∀ x st val stk trn scr, zs_ok s k A B [] st val → zs_P s k A B (16 * s + n) x → post x (a1, a2, a3, st, val, stk, trn, scr, a9))
    (H0 : ¬ zs_F s k A B (16 * s + n) → ∀ st val stk trn scr, zs_ok s k A B [] st val → post (-3) (a1, a2, a3, st, val, stk, trn, scr, a9)) :
    wpX_coefficient post (a1, a2, a3, st, val, stk, trn, scr, a9) (nI s) (nI n) := by
  have hs : s < 8 := hc.1
  unfold wpX_coefficient
  dsimp only
  refine zs_isSeries1 hs (br_f (by decide) (br_f (nI_pos (by omega)) (pk_lt n 16 (fun _ => ?_) (fun z => absurd z (by omega)))))
  rw [zs_place, nI_clamp (show 16 * s + n < 2 ^ 31 by omega)]
  refine zs_force hc (by omega) ok (fun f st val stk trn scr ok' v => ?_) (fun f st val stk trn scr ok' => ?_)
  · exact br_f (by decide) ⟨pk_in (16 * s + n) 128 (by omega), H1 f _ _ _ _ _ _ ok' v⟩
  · exact br_t rfl (H0 f _ _ _ _ _ ok')
/-- a coefficient that isn't there -/
theorem zs_coef_out {post : Int32 → St2 → Prop} {s : Nat} {x : Int32} {a1 a2 a3 a4 a5 a6 a7 a8 a9 : Nat → Int32} (hs : s < 8) (hx : x < 0 ∨ 15 < x) (H : post (-2) (a1, a2, a3, a4, a5, a6, a7, a8, a9)) :
    wpX_coefficient post (a1, a2, a3, a4, a5, a6, a7, a8, a9) (nI s) x := by
  unfold wpX_coefficient
  dsimp only
  refine zs_isSeries1 hs (br_f (by decide) ?_)
  by_cases z : x < 0
  · exact br_t z H
  · refine br_f z (br_f (fun y => ?_) H)
    have h15 := hx.resolve_left z
    rw [Int32.lt_iff_toInt_lt] at h15 y
    have e1 : (15 : Int32).toInt = 15 := by decide
    have e2 : (16 : Int32).toInt = 16 := by decide
    omega
/-- no such series -/
theorem zs_coef_no {post : Int32 → St2 → Prop} {x y : Int32} {a1 a2 a3 a4 a5 a6 a7 a8 a9 : Nat → Int32} (hx : x < 0 ∨ 7 < x) (H : post (-1) (a1, a2, a3, a4, a5, a6, a7, a8, a9)) :
    wpX_coefficient post (a1, a2, a3, a4, a5, a6, a7, a8, a9) x y := by
  unfold wpX_coefficient
  dsimp only
  exact zs_isSeries0 hx (br_t rfl H)
theorem zs_known_no {post : Int32 → St2 → Prop} {x : Int32} {a1 a2 a3 a4 a5 a6 a7 a8 a9 : Nat → Int32} (hx : x < 0 ∨ 7 < x) (H : post (-1) (a1, a2, a3, a4, a5, a6, a7, a8, a9)) :
    wpX_known post (a1, a2, a3, a4, a5, a6, a7, a8, a9) x := by
  unfold wpX_known
  dsimp only
  exact zs_isSeries0 hx (br_t rfl H)
theorem zs_valued_no {post : Int32 → St2 → Prop} {x : Int32} {a1 a2 a3 a4 a5 a6 a7 a8 a9 : Nat → Int32} (hx : x < 0 ∨ 7 < x) (H : post (-1) (a1, a2, a3, a4, a5, a6, a7, a8, a9)) :
    wpX_valued post (a1, a2, a3, a4, a5, a6, a7, a8, a9) x := by
  unfold wpX_valued
  dsimp only
  exact zs_isSeries0 hx (br_t rfl H)
theorem zs_kindOf_no {post : Int32 → Prop} {x : Int32} {a1 a2 a3 a4 a5 a6 a7 a8 a9 : Nat → Int32} (hx : x < 0 ∨ 7 < x) (H : post (-1)) :
    wpX_kindOf post (a1, a2, a3, a4, a5, a6, a7, a8, a9) x := by
  unfold wpX_kindOf
  dsimp only
  exact zs_isSeries0 hx (br_t rfl H)
theorem zs_kindOf {post : Int32 → Prop} {s : Nat} {a1 a2 a3 a4 a5 a6 a7 a8 a9 : Nat → Int32} (hs : s < 8) (H : post (a1 s)) :
    wpX_kindOf post (a1, a2, a3, a4, a5, a6, a7, a8, a9) (nI s) := by
  unfold wpX_kindOf
  dsimp only
  refine zs_isSeries1 hs (br_f (by decide) ⟨pk_in s 8 hs, ?_⟩)
  rw [nI_clamp (by omega)]
  exact H
/-! define -/
theorem zs_define_no {post : Int32 → St2 → Prop} {x y p q : Int32} {a1 a2 a3 a4 a5 a6 a7 a8 a9 : Nat → Int32} (hx : x < 0 ∨ 7 < x) (H : post (-1) (a1, a2, a3, a4, a5, a6, a7, a8, a9)) :
    wpX_define post (a1, a2, a3, a4, a5, a6, a7, a8, a9) x y p q := by
  unfold wpX_define
  dsimp only
  exact zs_isSeries0 hx (br_t rfl H)
theorem zs_define_2 {post : Int32 → St2 → Prop} {s : Nat} {y p q : Int32} {a1 a2 a3 a4 a5 a6 a7 a8 a9 : Nat → Int32} (hs : s < 8) (hy : y < 0 ∨ ¬ y ≤ 9) (H : post (-2) (a1, a2, a3, a4, a5, a6, a7, a8, a9)) :
    wpX_define post (a1, a2, a3, a4, a5, a6, a7, a8, a9) (nI s) y p q := by
  unfold wpX_define
  dsimp only
  refine zs_isSeries1 hs (br_f (by decide) ?_)
  by_cases z : y < 0
  · exact br_t z H
  · exact br_f z (br_f (hy.resolve_left z) H)
theorem zs_define_3 {post : Int32 → St2 → Prop} {s k : Nat} {p q : Int32} {a1 a2 a3 a4 a5 a6 a7 a8 a9 : Nat → Int32} (hs : s < 8) (hk : k < 10) (hk1 : 1 < k) (hp : p < 0 ∨ 7 < p) (H : post (-3) (a1, a2, a3, a4, a5, a6, a7, a8, a9)) :
    wpX_define post (a1, a2, a3, a4, a5, a6, a7, a8, a9) (nI s) (nI k) p q := by
  unfold wpX_define
  dsimp only
  exact zs_isSeries1 hs (br_f (by decide) (br_f (nI_pos (by omega)) (pk_le k 9 (fun _ => pk_le k 1 (fun z => absurd z (by omega)) (fun _ => zs_isSeries0 hp (br_t rfl H))) (fun z => absurd z (by omega)))))
/-- the state is wiped -/
theorem zs_define_131 {post : Int32 → St2 → Prop} {x : Int32} {a1 a2 a3 a4 a5 a6 a7 a8 a9 : Nat → Int32} (H : ∀ f, (∀ j, j < 128 → f j = 0) → post x (a1, a2, a3, f, a5, a6, a7, a8, a9)) :
    ∃ m, wX_define_131 post x m 0 a1 a2 a3 a4 a5 a6 a7 a8 a9 :=
  pk_loop (fun m i f => wX_define_131 post x m (nI i) a1 a2 a3 f a5 a6 a7 a8 a9) (fun i f => ∀ j, j < i → f j = 0) 128 0 a4 (by omega) (fun j hj => absurd hj (by omega))
    (fun m f hf => pk_le 128 128 (fun _ => H f hf) (fun z => absurd z (by omega)))
    (fun m i f hi hf hw => pk_le 128 i (fun z => absurd z (by omega)) (fun z => ⟨pk_in i 128 hi, nm_e (nm_r (nI_1 i) (hw _ (fun j hj => by
      rw [nI_clamp (show i < 2 ^ 31 by omega)]
      by_cases e : j = i
      · rw [e, pk_us]
      · rw [pk_un e]
        exact hf j (by omega))))⟩))
theorem zs_reduced {post : Int32 → Prop} {x : Int32} {B : Nat} (hr : (0 ≤ x - x / 97 * 97 ∧ x - x / 97 * 97 = nI B) ∨ (¬ 0 ≤ x - x / 97 * 97 ∧ x - x / 97 * 97 + 97 = nI B)) (h : post (nI B)) : wpX_reduced post () x := by
  unfold wpX_reduced
  refine ⟨by decide, nm_e ?_⟩
  rcases hr with ⟨z, e⟩ | ⟨z, e⟩
  · refine br_t z ?_
    rw [e]
    exact h
  · refine br_f z ?_
    rw [e]
    exact h
theorem zs_up_cfg {f : Nat → Int32} {s : Nat} {x : Int32} (h : ∀ j, j < 8 → f j = 0) : ∀ j, j < 8 → upd f s x j = if j = s then x else 0 := by
  intro j hj
  by_cases e : j = s
  · rw [e, pk_us, if_pos rfl]
  · rw [pk_un e, if_neg e]
    exact h j hj
theorem zs_define_106 {post : Int32 → St2 → Prop} {s B : Nat} {x4 x5 x6 z0 : Int32} {a1 a2 a3 a4 a5 a6 a7 a8 a9 : Nat → Int32} (hs : s < 8)
    (hb : (x5 = 0 ∧ ((0 ≤ x4 - x4 / 97 * 97 ∧ x4 - x4 / 97 * 97 = nI B) ∨ (¬ 0 ≤ x4 - x4 / 97 * 97 ∧ x4 - x4 / 97 * 97 + 97 = nI B))) ∨ (¬ x5 = 0 ∧ x4 = nI B))
    (H : ∀ f, (∀ j, j < 128 → f j = 0) → post x6 (a1, upd a2 s z0, upd a3 s (nI B), f, a5, a6, a7, a8, a9)) :
    wX_define_106 post (nI s) x4 x5 x6 z0 (nI s) a1 a2 a3 a4 a5 a6 a7 a8 a9 := by
  unfold wX_define_106
  rw [nI_clamp (show s < 2 ^ 31 by omega)]
  refine ⟨pk_in s 8 hs, nm_e ?_⟩
  rcases hb with ⟨z, hr⟩ | ⟨z, e⟩
  · exact br_t z (zs_reduced hr ⟨pk_in s 8 hs, nm_e (zs_define_131 H)⟩)
  · rw [e]
    exact br_f z ⟨pk_in s 8 hs, nm_e (zs_define_131 H)⟩
theorem zs_define_76 {post : Int32 → St2 → Prop} {s k A B : Nat} {x3 x4 x5 : Int32} {a1 a2 a3 a4 a5 a6 a7 a8 a9 : Nat → Int32} (hs : s < 8) (hk : k < 10)
    (ha : (k ≤ 1 ∧ A = 0) ∨ (1 < k ∧ x3 = nI A))
    (hb : (x5 = 0 ∧ ((0 ≤ x4 - x4 / 97 * 97 ∧ x4 - x4 / 97 * 97 = nI B) ∨ (¬ 0 ≤ x4 - x4 / 97 * 97 ∧ x4 - x4 / 97 * 97 + 97 = nI B))) ∨ (¬ x5 = 0 ∧ x4 = nI B))
    (h1 : a1 s = 0)
    (H : ∀ f, (∀ j, j < 128 → f j = 0) → post 0 (upd a1 s (nI k), upd a2 s (nI A), upd a3 s (nI B), f, a5, a6, a7, a8, a9)) :
    wX_define_76 post (nI s) (nI k) x3 x4 x5 a1 a2 a3 a4 a5 a6 a7 a8 a9 := by
  unfold wX_define_76
  rw [nI_clamp (show s < 2 ^ 31 by omega)]
  refine ⟨pk_in s 8 hs, nm_r h1 ⟨pk_in s 8 hs, nm_e ?_⟩⟩
  refine pk_le k 1 (fun z => ?_) (fun z => ?_)
  · rcases ha with ⟨_, e⟩ | ⟨y, _⟩
    · rw [e] at H
      exact zs_define_106 hs hb H
    · exact absurd y (by omega)
  · rcases ha with ⟨y, _⟩ | ⟨_, e⟩
    · exact absurd y (by omega)
    · rw [e]
      exact zs_define_106 hs hb H
theorem zs_define_37 {post : Int32 → St2 → Prop} {s k A B : Nat} {x3 x4 : Int32} {a1 a2 a3 a4 a5 a6 a7 a8 a9 : Nat → Int32} (hs : s < 8) (hk : k < 10)
    (ha : (k ≤ 1 ∧ A = 0) ∨ (1 < k ∧ x3 = nI A))
    (hb0 : ¬ (k = 2 ∨ k = 3 ∨ k = 9) → ((0 ≤ x4 - x4 / 97 * 97 ∧ x4 - x4 / 97 * 97 = nI B) ∨ (¬ 0 ≤ x4 - x4 / 97 * 97 ∧ x4 - x4 / 97 * 97 + 97 = nI B)))
    (hb1 : (k = 2 ∨ k = 3 ∨ k = 9) → B < 8 ∧ x4 = nI B)
    (h1 : a1 s = 0)
    (H : ∀ f, (∀ j, j < 128 → f j = 0) → post 0 (upd a1 s (nI k), upd a2 s (nI A), upd a3 s (nI B), f, a5, a6, a7, a8, a9)) :
    wX_define_37 post (nI s) (nI k) x3 x4 a1 a2 a3 a4 a5 a6 a7 a8 a9 := by
  have two : (k = 2 ∨ k = 3 ∨ k = 9) → wX_define_53 post (nI s) (nI k) x3 x4 a1 a2 a3 a4 a5 a6 a7 a8 a9 := by
    intro z
    obtain ⟨b1, b2⟩ := hb1 z
    have g : wX_define_76 post (nI s) (nI k) x3 x4 1 a1 a2 a3 a4 a5 a6 a7 a8 a9 := zs_define_76 hs hk ha (Or.inr ⟨by decide, b2⟩) h1 H
    unfold wX_define_53 wX_define_58
    refine br_f (by decide) ?_
    rw [b2] at g ⊢
    exact zs_isSeries1 b1 (br_f (by decide) g)
  unfold wX_define_37
  refine pk_eq k 2 (fun z => two (by omega)) (fun z2 => pk_eq k 3 (fun z => two (by omega)) (fun z3 => pk_eq k 9 (fun z => two (by omega)) (fun z9 => ?_)))
  unfold wX_define_58
  exact br_t rfl (zs_define_76 hs hk ha (Or.inl ⟨rfl, hb0 (by omega)⟩) h1 H)
/-- the definition is taken -/
theorem zs_define {post : Int32 → St2 → Prop} {s k A B : Nat} {x3 x4 : Int32} {a1 a2 a3 a4 a5 a6 a7 a8 a9 : Nat → Int32} (hs : s < 8) (hk : k < 10) (hA : A < 8) (hB : B < 97)
    (ha : (k ≤ 1 ∧ A = 0) ∨ (1 < k ∧ x3 = nI A))
    (hb0 : ¬ (k = 2 ∨ k = 3 ∨ k = 9) → ((0 ≤ x4 - x4 / 97 * 97 ∧ x4 - x4 / 97 * 97 = nI B) ∨ (¬ 0 ≤ x4 - x4 / 97 * 97 ∧ x4 - x4 / 97 * 97 + 97 = nI B)))
    (hb1 : (k = 2 ∨ k = 3 ∨ k = 9) → B < 8 ∧ x4 = nI B)
    (h1 : ∀ j, j < 8 → a1 j = 0) (h2 : ∀ j, j < 8 → a2 j = 0) (h3 : ∀ j, j < 8 → a3 j = 0)
    (H : ∀ b1 b2 b3 f, zs_cfg s k A B b1 b2 b3 → zs_ok s k A B [] f a5 → post 0 (b1, b2, b3, f, a5, a6, a7, a8, a9)) :
    wpX_define post (a1, a2, a3, a4, a5, a6, a7, a8, a9) (nI s) (nI k) x3 x4 := by
  have g : wX_define_37 post (nI s) (nI k) x3 x4 a1 a2 a3 a4 a5 a6 a7 a8 a9 := zs_define_37 hs hk ha hb0 hb1 (h1 s hs) (fun f hf => H _ _ _ _ ⟨hs, hk, hA, hB, fun z => (hb1 z).1, zs_up_cfg h1, zs_up_cfg h2, zs_up_cfg h3⟩ (fun p hp => Or.inl (hf p hp)))
  unfold wpX_define
  dsimp only
  refine zs_isSeries1 hs (br_f (by decide) (br_f (nI_pos (by omega)) (pk_le k 9 (fun _ => pk_le k 1 (fun _ => g) (fun z => ?_)) (fun z => absurd z (by omega)))))
  rcases ha with ⟨y, _⟩ | ⟨_, e⟩
  · exact absurd y (by omega)
  · rw [e] at g ⊢
    exact zs_isSeries1 hA (br_f (by decide) g)
/-- the second part is no series -/
theorem zs_define_4 {post : Int32 → St2 → Prop} {s k A : Nat} {x4 : Int32} {a1 a2 a3 a4 a5 a6 a7 a8 a9 : Nat → Int32} (hs : s < 8) (hA : A < 8) (hk : k = 2 ∨ k = 3 ∨ k = 9) (hx : x4 < 0 ∨ 7 < x4)
    (H : post (-4) (a1, a2, a3, a4, a5, a6, a7, a8, a9)) : wpX_define post (a1, a2, a3, a4, a5, a6, a7, a8, a9) (nI s) (nI k) (nI A) x4 := by
  have g : wX_define_53 post (nI s) (nI k) (nI A) x4 a1 a2 a3 a4 a5 a6 a7 a8 a9 := by
    unfold wX_define_53 wX_define_58
    exact br_f (by decide) (zs_isSeries0 hx (br_t rfl H))
  unfold wpX_define
  dsimp only
  refine zs_isSeries1 hs (br_f (by decide) (br_f (nI_pos (by omega)) (pk_le k 9 (fun _ => pk_le k 1 (fun z => absurd z (by omega)) (fun z => zs_isSeries1 hA (br_f (by decide) ?_))) (fun z => absurd z (by omega)))))
  unfold wX_define_37
  exact pk_eq k 2 (fun z => g) (fun z2 => pk_eq k 3 (fun z => g) (fun z3 => pk_eq k 9 (fun z => g) (fun z9 => absurd hk (by omega))))
/-- the maker: all is zero but the table of inverses -/
theorem zs_init {post : St2 → Prop} {mc ms : Nat} (hc : 9 ≤ mc) (hm : 649 ≤ ms) (H : ∀ f, post ((fun _ => 0), (fun _ => 0), (fun _ => 0), (fun _ => 0), (fun _ => 0), (fun _ => 0), (fun _ => 0), (fun _ => 0), f)) : wpX_init post mc ms () := by
  unfold wpX_init
  refine ⟨by omega, by omega, by omega, by omega, by omega, by omega, by omega, by omega, by omega, by omega, by omega, by omega, by omega, by omega, by omega, by omega, by omega, by omega, nm_e ?_⟩
  exact pk_loop (fun m i f => wX_init_89 post mc ms 9 649 m (nI i) (fun _ => 0) (fun _ => 0) (fun _ => 0) (fun _ => 0) (fun _ => 0) (fun _ => 0) (fun _ => 0) (fun _ => 0) f) (fun i _ => 2 ≤ i) 97 2 _ (by omega) (by omega)
    (fun m f hf => pk_le 97 97 (fun _ => H f) (fun z => absurd z (by omega)))
    (fun m i f hi hf hw => pk_le 97 i (fun z => absurd z (by omega)) (fun z => ⟨nI_ne0 (by omega) (by omega), nI_ne0 (by omega) (by omega), pk_in (97 % i) 97 (Nat.lt_trans (Nat.mod_lt _ (by omega)) hi) (pk_rem (a := 97) (d := i) (by omega) (by omega) (by omega)), by decide, pk_in i 97 hi, nm_e (nm_r (nI_1 i) (hw _ (by omega)))⟩))
theorem zs_cell {post : Int32 → Prop} {L : Nat} {xs : Nat → Int32} (i : Nat) (hi : i ≤ 4) (hL : L ≤ 5) (h : ∀ r, post r) : wpL_cellAt post L xs () (nI i) :=
  pk_le L i (fun _ => h 0) (fun z => ⟨pk_in i L z, h _⟩)
end
section
/-! the law, from its end to its beginning, for a named series: x0 = nI s, x6 = 1 -/
theorem zs_505 {post : Int32 → St0 → Prop} {mc ms kc ks : Nat} (h : post 1 ()) : wL_lawOf_505 post mc ms (-2) kc ks := br_t rfl h
theorem zs_461_0 {post : Int32 → St0 → Prop} {mc ms kc ks s k A B : Nat} {x4 x16 : Int32} {a1 a2 a3 st val stk trn scr a9 : Nat → Int32} (h : post 1 ()) (hc : zs_cfg s k A B a1 a2 a3) (ok : zs_ok s k A B [] st val) :
    wL_lawOf_461 post mc ms (nI s) x4 1 x16 0 kc ks a1 a2 a3 st val stk trn scr a9 := by
  have hs : s < 8 := hc.1
  unfold wL_lawOf_461
  rcases pk_ix x4 (n := 16) (by omega) with z | z | ⟨n, hn, e⟩
  · exact zs_coef_out hs (Or.inl z) (br_f (by decide) (br_t rfl (br_t z (zs_505 h))))
  · have z' : 15 < x4 := by
      have z2 : (16 : Int32) ≤ x4 := z
      rw [Int32.le_iff_toInt_le] at z2
      rw [Int32.lt_iff_toInt_lt]
      have e1 : (15 : Int32).toInt = 15 := by decide
      have e2 : (16 : Int32).toInt = 16 := by decide
      omega
    exact zs_coef_out hs (Or.inr z') (br_f (by decide) (br_t rfl (br_c (fun _ => zs_505 h) (fun _ => br_c (fun _ => h) (fun _ => zs_505 h)))))
  · rw [e]
    refine zs_coef hc hn ok (fun _ x st val stk trn scr _ _ => ?_) (fun _ st val stk trn scr _ => ?_)
    · exact br_f (by decide) (br_t rfl (br_f (nI_pos (by omega)) (pk_le n 15 (fun _ => h) (fun y => absurd y (by omega)))))
    · exact br_f (by decide) (br_t rfl (br_f (nI_pos (by omega)) (pk_le n 15 (fun _ => h) (fun y => absurd y (by omega)))))
theorem zs_461_1 {post : Int32 → St0 → Prop} {mc ms kc ks s k A B n : Nat} {x16 : Int32} {a1 a2 a3 st val stk trn scr a9 : Nat → Int32} (h : post 1 ()) (hc : zs_cfg s k A B a1 a2 a3) (ok : zs_ok s k A B [] st val) (hn : n < 16)
    (hF : zs_F s k A B (16 * s + n)) (hP : ∀ v, zs_P s k A B (16 * s + n) v → v = x16) :
    wL_lawOf_461 post mc ms (nI s) (nI n) 1 x16 1 kc ks a1 a2 a3 st val stk trn scr a9 := by
  unfold wL_lawOf_461
  refine zs_coef hc hn ok (fun _ x st val stk trn scr _ hv => ?_) (fun f st val stk trn scr _ => absurd hF f)
  exact br_f (by decide) (br_f (by decide) (br_t (hP x hv) h))
theorem zs_428 {post : Int32 → St0 → Prop} {mc ms kc ks s k A B : Nat} {x1 x4 x13 x16 z0 z1 : Int32} {a1 a2 a3 st val stk trn scr a9 : Nat → Int32} (h : post 1 ()) (hc : zs_cfg s k A B a1 a2 a3) (ok : zs_ok s k A B [] st val) (hz : z1 = z0)
    (hsp : ¬ x13 = 0 → x1 = 8 → ∀ n, n < 16 → zs_F s k A B (16 * s + n) ∧ ∀ v, zs_P s k A B (16 * s + n) v → v = x16) :
    wL_lawOf_428 post mc ms (nI s) x1 x4 1 x13 x16 z0 z1 kc ks a1 a2 a3 st val stk trn scr a9 := by
  have g : wL_lawOf_460 post mc ms (nI s) x4 1 x16 kc ks a1 a2 a3 st val stk trn scr a9 := zs_461_0 h hc ok
  unfold wL_lawOf_428
  refine br_t hz (br_c (fun _ => g) (fun y13 => br_c (fun y8 => br_c (fun _ => g) (fun y0 => br_c (fun _ => g) (fun y15 => ?_))) (fun _ => g)))
  rcases pk_ix x4 (n := 16) (by omega) with z | z | ⟨n, hn, e⟩
  · exact absurd z y0
  · have z2 : (16 : Int32) ≤ x4 := z
    rw [Int32.le_iff_toInt_le] at z2
    rw [Int32.lt_iff_toInt_lt] at y15
    have e1 : (15 : Int32).toInt = 15 := by decide
    have e2 : (16 : Int32).toInt = 16 := by decide
    exact absurd z2 (by omega)
  · rw [e]
    obtain ⟨f, v⟩ := hsp y13 y8 n hn
    exact zs_461_1 h hc ok hn f v
theorem zs_408 {post : Int32 → St0 → Prop} {mc ms kc ks s k A B : Nat} {x1 x4 x13 x16 z0 : Int32} {a1 a2 a3 st val stk trn scr a9 : Nat → Int32} (h : post 1 ()) (hc : zs_cfg s k A B a1 a2 a3) (ok : zs_ok s k A B [] st val)
    (hsp : ¬ x13 = 0 → x1 = 8 → ∀ n, n < 16 → zs_F s k A B (16 * s + n) ∧ ∀ v, zs_P s k A B (16 * s + n) v → v = x16)
    (h1 : zs_F s k A B (16 * s + 0) → ∀ v, zs_P s k A B (16 * s + 0) v → v = z0) (h0 : ¬ zs_F s k A B (16 * s + 0) → z0 = -3) :
    wL_lawOf_408 post mc ms (nI s) x1 x4 1 x13 x16 z0 kc ks a1 a2 a3 st val stk trn scr a9 := by
  unfold wL_lawOf_408
  refine zs_coef (n := 0) hc (by omega) ok (fun f x st val stk trn scr ok' hv => ?_) (fun f st val stk trn scr ok' => ?_)
  · exact br_f (by decide) (zs_428 h hc ok' (h1 f x hv) hsp)
  · exact br_f (by decide) (zs_428 h hc ok' (h0 f).symm hsp)
theorem zs_385 {post : Int32 → St0 → Prop} {mc ms kc ks s k A B al r : Nat} {x1 x4 x13 nb : Int32} {a1 a2 a3 st val stk trn scr a9 : Nat → Int32} (h : post 1 ()) (hc : zs_cfg s k A B a1 a2 a3) (ok : zs_ok s k A B [] st val) (hal : al ≤ 16)
    (hF : ∀ n, n < 16 → (zs_F s k A B (16 * s + n) ↔ n < al))
    (hsp : ¬ x13 = 0 → x1 = 8 → ∀ n, n < 16 → zs_F s k A B (16 * s + n) ∧ ∀ v, zs_P s k A B (16 * s + n) v → v = nI r)
    (hn0 : nb = 0 → ∀ v, zs_P s k A B (16 * s + 0) v → v = 0) (hn1 : ¬ nb = 0 → ∀ v, zs_P s k A B (16 * s + 0) v → v = nI r) :
    wL_lawOf_385 post mc ms (nI s) x1 x4 1 x13 (nI al) nb (nI r) kc ks a1 a2 a3 st val stk trn scr a9 := by
  unfold wL_lawOf_385
  have f0 := hF 0 (by omega)
  refine pk_eq al 0 (fun z => ?_) (fun z => br_c (fun y => ?_) (fun y => ?_))
  · exact zs_408 h hc ok hsp (fun f => absurd (f0.mp f) (by omega)) (fun _ => rfl)
  · exact zs_408 h hc ok hsp (fun _ => hn0 y) (fun f => absurd (f0.mpr (by omega)) f)
  · exact zs_408 h hc ok hsp (fun _ => hn1 y) (fun f => absurd (f0.mpr (by omega)) f)
theorem zs_362 {post : Int32 → St0 → Prop} {mc ms kc ks s k A B al r : Nat} {x1 x3 x4 x13 nb : Int32} {a1 a2 a3 st val stk trn scr a9 : Nat → Int32} (h : post 1 ()) (hc : zs_cfg s k A B a1 a2 a3) (ok : zs_ok s k A B [] st val) (hal : al ≤ 16)
    (hF : ∀ n, n < 16 → (zs_F s k A B (16 * s + n) ↔ n < al))
    (hr : (0 ≤ x3 - x3 / 97 * 97 ∧ x3 - x3 / 97 * 97 = nI r) ∨ (¬ 0 ≤ x3 - x3 / 97 * 97 ∧ x3 - x3 / 97 * 97 + 97 = nI r))
    (hsp : ¬ x13 = 0 → x1 = 8 → ∀ n, n < 16 → zs_F s k A B (16 * s + n) ∧ ∀ v, zs_P s k A B (16 * s + n) v → v = nI r)
    (hn0 : nb = 0 → ∀ v, zs_P s k A B (16 * s + 0) v → v = 0) (hn1 : ¬ nb = 0 → ∀ v, zs_P s k A B (16 * s + 0) v → v = nI r) :
    wL_lawOf_362 post mc ms (nI s) x1 x3 x4 1 x13 (nI al) nb kc ks a1 a2 a3 st val stk trn scr a9 := by
  unfold wL_lawOf_362
  refine ⟨by decide, ?_⟩
  rcases hr with ⟨z, e⟩ | ⟨z, e⟩
  · refine br_t z ⟨by decide, ?_⟩
    rw [e]
    exact zs_385 h hc ok hal hF hsp hn0 hn1
  · refine br_f z ⟨by decide, ?_⟩
    rw [e]
    exact zs_385 h hc ok hal hF hsp hn0 hn1
/-- from the call of known on -/
theorem zs_294 {post : Int32 → St0 → Prop} {mc ms kc ks s k A B al r : Nat} {x1 x3 x4 x12 x13 : Int32} {a1 a2 a3 st val stk trn scr a9 : Nat → Int32} (h : post 1 ()) (hc : zs_cfg s k A B a1 a2 a3) (ok : zs_ok s k A B [] st val) (hal : al ≤ 16)
    (hF : ∀ n, n < 16 → (zs_F s k A B (16 * s + n) ↔ n < al))
    (hr : (0 ≤ x3 - x3 / 97 * 97 ∧ x3 - x3 / 97 * 97 = nI r) ∨ (¬ 0 ≤ x3 - x3 / 97 * 97 ∧ x3 - x3 / 97 * 97 + 97 = nI r))
    (hsp : ¬ x13 = 0 → x1 = 8 → ∀ n, n < 16 → zs_F s k A B (16 * s + n) ∧ ∀ v, zs_P s k A B (16 * s + n) v → v = nI r)
    (hn0 : (x12 = 0 ∨ (¬ x1 = 0 ∧ ¬ x1 = 6 ∧ ¬ x1 = 8)) → ∀ v, zs_P s k A B (16 * s + 0) v → v = 0) (hn1 : ¬ x12 = 0 → (x1 = 0 ∨ x1 = 6 ∨ x1 = 8) → ∀ v, zs_P s k A B (16 * s + 0) v → v = nI r) :
    wL_lawOf_294 post mc ms (nI s) x1 x3 x4 1 x12 x13 (nI al) kc ks a1 a2 a3 st val stk trn scr a9 := by
  unfold wL_lawOf_294
  refine zs_known hc hal hF ok (fun st val stk trn scr ok' => br_f (by decide) ?_)
  unfold wL_lawOf_311
  refine br_t rfl (zs_valued hc hal hF ok' (fun st val stk trn scr ok2 => br_f (by decide) ?_))
  have g0 : (x12 = 0 ∨ (¬ x1 = 0 ∧ ¬ x1 = 6 ∧ ¬ x1 = 8)) → wL_lawOf_361 post mc ms (nI s) x1 x3 x4 1 x13 (nI al) kc ks a1 a2 a3 st val stk trn scr a9 := fun z =>
    zs_362 h hc ok2 hal hF hr hsp (fun _ => hn0 z) (fun y => absurd rfl y)
  have g1 : ¬ x12 = 0 → (x1 = 0 ∨ x1 = 6 ∨ x1 = 8) → wL_lawOf_357 post mc ms (nI s) x1 x3 x4 1 x13 (nI al) kc ks a1 a2 a3 st val stk trn scr a9 := fun y z =>
    zs_362 h hc ok2 hal hF hr hsp (fun e => absurd e (by decide)) (fun _ => hn1 y z)
  unfold wL_lawOf_331
  exact br_t rfl (br_c (fun y => g0 (Or.inl y)) (fun y => br_c (fun z => g1 y (Or.inl z)) (fun z0 => br_c (fun z => g1 y (Or.inr (Or.inl z))) (fun z6 => br_c (fun z => g1 y (Or.inr (Or.inr z))) (fun z8 => g0 (Or.inr ⟨z0, z6, z8⟩))))))
end
section
/-! the law's cases: made, not made, no such series -/
theorem zs_F_at {s k A B n : Nat} (hn : n < 16) : zs_F s k A B (16 * s + n) ↔ (k ≤ 1 ∨ k = 6 ∨ k = 8 ∨ (k ≠ 7 ∧ ¬ zs_self s k A B ∧ (k = 5 → n < 15))) := by
  have e1 : (16 * s + n) / 16 = s := by omega
  have e2 : (16 * s + n) % 16 = n := by omega
  unfold zs_F
  rw [e1, e2]
  exact ⟨fun z => z.resolve_left (fun y => y rfl), Or.inr⟩
theorem zs_m294 {post : Int32 → St0 → Prop} {mc ms kc ks s k A B al r : Nat} {x3 x4 x13 : Int32} {a1 a2 a3 st val stk trn scr a9 : Nat → Int32} (h : post 1 ()) (hc : zs_cfg s k A B a1 a2 a3) (ok : zs_ok s k A B [] st val)
    (hr : (0 ≤ x3 - x3 / 97 * 97 ∧ x3 - x3 / 97 * 97 = nI r) ∨ (¬ 0 ≤ x3 - x3 / 97 * 97 ∧ x3 - x3 / 97 * 97 + 97 = nI r)) (hBr : ¬ (k = 2 ∨ k = 3 ∨ k = 9) → B = r)
    (h13 : x13 = 0 ∨ zs_self s k A B)
    (hal : (al = 0 ∧ 1 < k ∧ k ≠ 6 ∧ k ≠ 8 ∧ (k = 7 ∨ zs_self s k A B)) ∨ (al = 15 ∧ k = 5 ∧ ¬ zs_self s k A B) ∨ (al = 16 ∧ (k ≤ 1 ∨ k = 6 ∨ k = 8 ∨ (k ≠ 7 ∧ k ≠ 5 ∧ ¬ zs_self s k A B)))) :
    wL_lawOf_294 post mc ms (nI s) (nI k) x3 x4 1 1 x13 (nI al) kc ks a1 a2 a3 st val stk trn scr a9 := by
  have hk : k < 10 := hc.2.1
  have d1 : (16 * s + 0) / 16 = s := by omega
  have d2 : (16 * s + 0) % 16 = 0 := by omega
  refine zs_294 (r := r) h hc ok (by omega) ?_ hr ?_ ?_ ?_
  · intro n hn
    rw [zs_F_at hn]
    rcases hal with ⟨e, b1, b2, b3, b4⟩ | ⟨e, b1, b2⟩ | ⟨e, b1⟩
    · refine ⟨fun z => ?_, fun z => absurd z (by omega)⟩
      rcases z with z | z | z | z
      · omega
      · exact absurd z b2
      · exact absurd z b3
      · rcases b4 with y | y
        · exact absurd y z.1
        · exact absurd y z.2.1
    · refine ⟨fun z => ?_, fun z => Or.inr (Or.inr (Or.inr ⟨by omega, b2, fun _ => by omega⟩))⟩
      rcases z with z | z | z | z
      · omega
      · omega
      · omega
      · have := z.2.2 b1
        omega
    · refine ⟨fun _ => by omega, fun z => ?_⟩
      rcases b1 with y | y | y | ⟨y7, y5, ys⟩
      · exact Or.inl y
      · exact Or.inr (Or.inl y)
      · exact Or.inr (Or.inr (Or.inl y))
      · exact Or.inr (Or.inr (Or.inr ⟨y7, ys, fun e => absurd e y5⟩))
  · intro y e8 n hn
    have hk8 : k = 8 := (nI_eq (by omega) (by omega)).mp (show nI k = nI 8 from e8)
    have e1 : (16 * s + n) / 16 = s := by omega
    have hA : A = s := by
      rcases h13 with z | z | z
      · exact absurd z y
      · exact z
      · exact absurd z.1 (by omega)
    refine ⟨(zs_F_at hn).mpr (Or.inr (Or.inr (Or.inl hk8))), fun v hv => ?_⟩
    rw [(hv.2 e1).2.1 hk8 hA, hBr (by omega)]
  · intro z v hv
    rcases z with z | ⟨z0, z6, z8⟩
    · exact absurd z (by decide)
    · exact (hv.2 d1).2.2 (fun e => z0 (by rw [e]; rfl)) (fun e => z6 (by rw [e]; rfl)) (fun e => z8 (by rw [e]; rfl)) d2
  · intro _ z v hv
    have hkn : k = 0 ∨ k = 6 ∨ k = 8 := by
      rcases z with z | z | z
      · exact Or.inl ((nI_eq (by omega) (by omega)).mp (show nI k = nI 0 from z))
      · exact Or.inr (Or.inl ((nI_eq (by omega) (by omega)).mp (show nI k = nI 6 from z)))
      · exact Or.inr (Or.inr ((nI_eq (by omega) (by omega)).mp (show nI k = nI 8 from z)))
    rw [(hv.2 d1).1 hkn d2, hBr (by omega)]
/-- made: from the place where 'self' is known -/
theorem zs_m263 {post : Int32 → St0 → Prop} {mc ms kc ks s k A B r : Nat} {x3 x4 x13 : Int32} {a1 a2 a3 st val stk trn scr a9 : Nat → Int32} (h : post 1 ()) (hc : zs_cfg s k A B a1 a2 a3) (ok : zs_ok s k A B [] st val)
    (hr : (0 ≤ x3 - x3 / 97 * 97 ∧ x3 - x3 / 97 * 97 = nI r) ∨ (¬ 0 ≤ x3 - x3 / 97 * 97 ∧ x3 - x3 / 97 * 97 + 97 = nI r)) (hBr : ¬ (k = 2 ∨ k = 3 ∨ k = 9) → B = r)
    (h13 : x13 = 0 ∨ zs_self s k A B) (hg : k ≤ 1 ∨ k = 6 ∨ k = 8 ∨ ¬ zs_self s k A B) :
    wL_lawOf_263 post mc ms (nI s) (nI k) x3 x4 1 1 x13 16 kc ks a1 a2 a3 st val stk trn scr a9 := by
  have hk : k < 10 := hc.2.1
  unfold wL_lawOf_263
  refine br_f (by decide) (pk_eq k 7 (fun z => ?_) (fun z7 => ?_))
  · exact zs_m294 (al := 0) (r := r) h hc ok hr hBr h13 (Or.inl ⟨rfl, by omega, by omega, by omega, Or.inl z⟩)
  · unfold wL_lawOf_280
    refine br_f (by decide) (pk_eq k 5 (fun z => ?_) (fun z5 => ?_))
    · refine zs_m294 (al := 15) (r := r) h hc ok hr hBr h13 (Or.inr (Or.inl ⟨rfl, z, ?_⟩))
      rcases hg with y | y | y | y
      · exact absurd y (by omega)
      · exact absurd y (by omega)
      · exact absurd y (by omega)
      · exact y
    · refine zs_m294 (al := 16) (r := r) h hc ok hr hBr h13 (Or.inr (Or.inr ⟨rfl, ?_⟩))
      rcases hg with y | y | y | y
      · exact Or.inl y
      · exact Or.inr (Or.inl y)
      · exact Or.inr (Or.inr (Or.inl y))
      · exact Or.inr (Or.inr (Or.inr ⟨z7, z5, y⟩))
theorem zs_made {post : Int32 → St0 → Prop} {mc ms kc ks s k A B r : Nat} {x2 x3 x4 x9 : Int32} {a1 a2 a3 st val stk trn scr a9 : Nat → Int32} (h : post 1 ()) (hc : zs_cfg s k A B a1 a2 a3) (ok : zs_ok s k A B [] st val)
    (hr : (0 ≤ x3 - x3 / 97 * 97 ∧ x3 - x3 / 97 * 97 = nI r) ∨ (¬ 0 ≤ x3 - x3 / 97 * 97 ∧ x3 - x3 / 97 * 97 + 97 = nI r)) (hBr : ¬ (k = 2 ∨ k = 3 ∨ k = 9) → B = r)
    (ha : k ≤ 1 ∨ x2 = nI A) (h9 : (x9 = 0 ∧ ¬ (k = 2 ∨ k = 3 ∨ k = 9)) ∨ (x9 = 1 ∧ (k = 2 ∨ k = 3 ∨ k = 9) ∧ x3 = nI B)) :
    wL_lawOf_178 post mc ms (nI s) (nI k) x2 x3 x4 1 x9 1 kc ks a1 a2 a3 st val stk trn scr a9 := by
  obtain ⟨hs, hk, hA, hB, hB2, c1, _⟩ := id hc
  have e1 : a1 s = nI k := by rw [c1 s hs, if_pos rfl]
  have gN : (k ≤ 1 ∨ ¬ zs_self s k A B) → wL_lawOf_239 post mc ms (nI s) (nI k) x3 x4 1 1 kc ks a1 a2 a3 st val stk trn scr a9 := by
    intro z
    unfold wL_lawOf_239 wL_lawOf_240
    exact br_t rfl (zs_m263 (r := r) h hc ok hr hBr (Or.inl rfl) (z.elim Or.inl (fun y => Or.inr (Or.inr (Or.inr y)))))
  have gS : 1 < k → zs_self s k A B → wL_lawOf_235 post mc ms (nI s) (nI k) x3 x4 1 1 kc ks a1 a2 a3 st val stk trn scr a9 := by
    intro z1 z
    unfold wL_lawOf_235 wL_lawOf_240
    refine br_f (by decide) (pk_eq k 6 (fun y => ?_) (fun y6 => pk_eq k 8 (fun y => ?_) (fun y8 => ?_)))
    · exact zs_m263 (r := r) h hc ok hr hBr (Or.inr z) (Or.inr (Or.inl y))
    · exact zs_m263 (r := r) h hc ok hr hBr (Or.inr z) (Or.inr (Or.inr (Or.inl y)))
    · exact zs_m294 (al := 0) (r := r) h hc ok hr hBr (Or.inr z) (Or.inl ⟨rfl, z1, y6, y8, Or.inr z⟩)
  unfold wL_lawOf_178
  refine zs_kindOf hs (br_f (by decide) (br_f (by decide) ?_))
  unfold wL_lawOf_205
  refine br_t e1 (br_f (by decide) (pk_le k 1 (fun z => gN (Or.inl z)) (fun z1 => ?_)))
  have hx2 : x2 = nI A := ha.resolve_left (by omega)
  refine pk_eq A s (fun z => gS z1 (Or.inl z)) (fun zA => ?_) (hx := hx2)
  rcases h9 with ⟨y9, y⟩ | ⟨y9, y, yB⟩
  · refine br_t y9 (gN (Or.inr (fun e => ?_)))
    rcases e with e | e
    · exact zA e
    · exact y e.1
  · have hB8 := hB2 y
    refine br_f (by rw [y9]; decide) (pk_eq B s (fun z => gS z1 (Or.inr ⟨y, z⟩)) (fun zB => gN (Or.inr (fun e => ?_))) (hx := yB))
    rcases e with e | e
    · exact zA e
    · exact zB e.2
/-- not made: the series is still the constant 0 -/
theorem zs_unmade {post : Int32 → St0 → Prop} {mc ms kc ks s : Nat} {x1 x2 x3 x4 x9 : Int32} {a1 a2 a3 st val stk trn scr a9 : Nat → Int32} (h : post 1 ()) (hs : s < 8) (h1 : ∀ j, j < 8 → a1 j = 0) (h2 : ∀ j, j < 8 → a2 j = 0) (h3 : ∀ j, j < 8 → a3 j = 0) (h4 : ∀ j, j < 128 → st j = 0) :
    wL_lawOf_178 post mc ms (nI s) x1 x2 x3 x4 1 x9 0 kc ks a1 a2 a3 st val stk trn scr a9 := by
  have z0 : ∀ f : Nat → Int32, (∀ j, j < 8 → f j = 0) → ∀ j, j < 8 → f j = if j = s then nI 0 else 0 := by
    intro f hf j hj
    rw [hf j hj, nI_0]
    exact (ite_self _).symm
  have hc : zs_cfg s 0 0 0 a1 a2 a3 := ⟨hs, by omega, by omega, by omega, fun _ => by omega, z0 a1 h1, z0 a2 h2, z0 a3 h3⟩
  have ok : zs_ok s 0 0 0 [] st val := fun p hp => Or.inl (h4 p hp)
  obtain ⟨r, hr97, hr⟩ := zs_red x3
  have d1 : (16 * s + 0) / 16 = s := by omega
  have d2 : (16 * s + 0) % 16 = 0 := by omega
  unfold wL_lawOf_178
  refine zs_kindOf hs (br_f (by decide) (br_t rfl ?_))
  unfold wL_lawOf_205
  refine br_t (h1 s hs) (br_t rfl ?_)
  unfold wL_lawOf_239 wL_lawOf_240
  refine br_t rfl ?_
  unfold wL_lawOf_263
  refine br_t rfl ?_
  unfold wL_lawOf_280
  refine br_t rfl ?_
  refine zs_294 (al := 16) (r := r) h hc ok (by omega) ?_ hr (fun y => absurd rfl y) ?_ (fun y => absurd rfl y)
  · intro n hn
    rw [zs_F_at hn]
    exact ⟨fun _ => hn, fun _ => Or.inl (by omega)⟩
  · intro _ v hv
    exact (hv.2 d1).1 (Or.inl rfl) d2
/-- no such series: every answer is -1 -/
theorem zs_unnamed {post : Int32 → St0 → Prop} {mc ms kc ks : Nat} {x0 x1 x2 x3 x4 x7 x8 x9 z0 : Int32} {a1 a2 a3 a4 a5 a6 a7 a8 a9 : Nat → Int32} (h : post 1 ()) (hx : x0 < 0 ∨ 7 < x0) :
    wL_lawOf_108 post mc ms x0 x1 x2 x3 x4 0 x7 x8 x9 z0 kc ks a1 a2 a3 a4 a5 a6 a7 a8 a9 := by
  have g : ∀ z, wL_lawOf_385 post mc ms x0 x1 x4 0 0 16 0 z kc ks a1 a2 a3 a4 a5 a6 a7 a8 a9 := by
    intro z
    unfold wL_lawOf_385
    refine br_f (by decide) (br_t rfl ?_)
    unfold wL_lawOf_408
    refine zs_coef_no hx (br_t rfl ?_)
    unfold wL_lawOf_428
    refine br_t rfl (br_t rfl ?_)
    unfold wL_lawOf_460 wL_lawOf_461
    exact zs_coef_no hx (br_t rfl h)
  unfold wL_lawOf_108
  refine br_t rfl ?_
  unfold wL_lawOf_150
  refine zs_define_no hx (br_t rfl (br_f (by decide) ?_))
  unfold wL_lawOf_178
  refine zs_kindOf_no hx (br_t rfl ?_)
  unfold wL_lawOf_205
  refine br_t rfl (br_t rfl ?_)
  unfold wL_lawOf_239 wL_lawOf_240
  refine br_t rfl ?_
  unfold wL_lawOf_263
  refine br_t rfl ?_
  unfold wL_lawOf_280
  refine br_t rfl ?_
  unfold wL_lawOf_294
  refine zs_known_no hx (br_t rfl ?_)
  unfold wL_lawOf_311
  refine br_t rfl (zs_valued_no hx (br_t rfl ?_))
  unfold wL_lawOf_331
  refine br_t rfl (br_t rfl ?_)
  unfold wL_lawOf_361 wL_lawOf_362
  exact ⟨by decide, br_c (fun _ => ⟨by decide, g _⟩) (fun _ => ⟨by decide, g _⟩)⟩
end
section
/-! the law's beginning, and what is owed -/
theorem zs_86 {post : Int32 → St0 → Prop} {mc ms kc ks : Nat} {x0 x1 x2 x3 x4 x6 x7 x8 x9 : Int32} {a1 a2 a3 a4 a5 a6 a7 a8 a9 : Nat → Int32}
    (H1 : (x9 = 0 ∨ (¬ x3 < 0 ∧ ¬ 7 < x3)) → wL_lawOf_108 post mc ms x0 x1 x2 x3 x4 x6 x7 x8 x9 1 kc ks a1 a2 a3 a4 a5 a6 a7 a8 a9)
    (H0 : ¬ x9 = 0 → (x3 < 0 ∨ 7 < x3) → wL_lawOf_108 post mc ms x0 x1 x2 x3 x4 x6 x7 x8 x9 0 kc ks a1 a2 a3 a4 a5 a6 a7 a8 a9) :
    wL_lawOf_86 post mc ms x0 x1 x2 x3 x4 x6 x7 x8 x9 kc ks a1 a2 a3 a4 a5 a6 a7 a8 a9 := by
  unfold wL_lawOf_86
  exact br_c (fun z => H1 (Or.inl z)) (fun z => br_c (fun y => H0 z (Or.inl y)) (fun y => br_c (fun w => H0 z (Or.inr w)) (fun w => H1 (Or.inr ⟨y, w⟩))))
theorem zs_63 {post : Int32 → St0 → Prop} {mc ms kc ks : Nat} {x0 x1 x2 x3 x4 x6 x7 x8 : Int32} {a1 a2 a3 a4 a5 a6 a7 a8 a9 : Nat → Int32}
    (H : ∀ x9, ((x9 = 0 ∧ ¬ x1 = 2 ∧ ¬ x1 = 3 ∧ ¬ x1 = 9) ∨ (x9 = 1 ∧ (x1 = 2 ∨ x1 = 3 ∨ x1 = 9))) → wL_lawOf_86 post mc ms x0 x1 x2 x3 x4 x6 x7 x8 x9 kc ks a1 a2 a3 a4 a5 a6 a7 a8 a9) :
    wL_lawOf_63 post mc ms x0 x1 x2 x3 x4 x6 x7 x8 kc ks a1 a2 a3 a4 a5 a6 a7 a8 a9 := by
  unfold wL_lawOf_63
  exact br_c (fun z => H 1 (Or.inr ⟨rfl, Or.inl z⟩)) (fun z2 => br_c (fun z => H 1 (Or.inr ⟨rfl, Or.inr (Or.inl z)⟩)) (fun z3 => br_c (fun z => H 1 (Or.inr ⟨rfl, Or.inr (Or.inr z)⟩)) (fun z9 => H 0 (Or.inl ⟨rfl, z2, z3, z9⟩))))
theorem zs_41 {post : Int32 → St0 → Prop} {mc ms kc ks : Nat} {x0 x1 x2 x3 x4 x6 x7 : Int32} {a1 a2 a3 a4 a5 a6 a7 a8 a9 : Nat → Int32}
    (H : ∀ x8, ((x8 = 0 ∧ ¬ x1 < 2 ∧ (x2 < 0 ∨ 7 < x2)) ∨ (x8 = 1 ∧ (x1 < 2 ∨ (¬ x2 < 0 ∧ ¬ 7 < x2)))) → wL_lawOf_63 post mc ms x0 x1 x2 x3 x4 x6 x7 x8 kc ks a1 a2 a3 a4 a5 a6 a7 a8 a9) :
    wL_lawOf_41 post mc ms x0 x1 x2 x3 x4 x6 x7 kc ks a1 a2 a3 a4 a5 a6 a7 a8 a9 := by
  unfold wL_lawOf_41
  exact br_c (fun z => H 1 (Or.inr ⟨rfl, Or.inl z⟩)) (fun z => br_c (fun y => H 0 (Or.inl ⟨rfl, z, Or.inl y⟩)) (fun y => br_c (fun w => H 0 (Or.inl ⟨rfl, z, Or.inr w⟩)) (fun w => H 1 (Or.inr ⟨rfl, Or.inr ⟨y, w⟩⟩))))
theorem zs_24 {post : Int32 → St0 → Prop} {mc ms kc ks : Nat} {x0 x1 x2 x3 x4 x6 : Int32} {a1 a2 a3 a4 a5 a6 a7 a8 a9 : Nat → Int32}
    (H : ∀ x7, ((x7 = 0 ∧ (x1 < 0 ∨ 9 < x1)) ∨ (x7 = 1 ∧ ¬ x1 < 0 ∧ ¬ 9 < x1)) → wL_lawOf_41 post mc ms x0 x1 x2 x3 x4 x6 x7 kc ks a1 a2 a3 a4 a5 a6 a7 a8 a9) :
    wL_lawOf_24 post mc ms x0 x1 x2 x3 x4 x6 kc ks a1 a2 a3 a4 a5 a6 a7 a8 a9 := by
  unfold wL_lawOf_24
  exact br_c (fun z => H 0 (Or.inl ⟨rfl, Or.inl z⟩)) (fun z => br_c (fun y => H 0 (Or.inl ⟨rfl, Or.inr y⟩)) (fun y => H 1 (Or.inr ⟨rfl, z, y⟩)))
/-- an int in 0 .. n -/
theorem zs_rng {x M : Int32} {n : Nat} (hM : M.toInt = n) (h : ¬ x < 0) (h5 : ¬ M < x) : ∃ j : Nat, j ≤ n ∧ x = nI j :=
  nI_of2 hM h (Int32.not_lt.mp h5)
theorem zs_named {post : Int32 → St0 → Prop} {mc ms kc ks s : Nat} {x1 x2 x3 x4 : Int32} {a1 a2 a3 st val stk trn scr a9 : Nat → Int32} (h : post 1 ()) (hs : s < 8) (h1 : ∀ j, j < 8 → a1 j = 0) (h2 : ∀ j, j < 8 → a2 j = 0) (h3 : ∀ j, j < 8 → a3 j = 0) (h4 : ∀ j, j < 128 → st j = 0) :
    wL_lawOf_24 post mc ms (nI s) x1 x2 x3 x4 1 kc ks a1 a2 a3 st val stk trn scr a9 := by
  refine zs_24 (fun x7 h7 => ?_)
  rcases h7 with ⟨e7, b7⟩ | ⟨e7, b7, b7'⟩
  · -- the kind is unknown
    have g : ∀ x8 x9 z0, wL_lawOf_108 post mc ms (nI s) x1 x2 x3 x4 1 x7 x8 x9 z0 kc ks a1 a2 a3 st val stk trn scr a9 := by
      intro x8 x9 z0
      unfold wL_lawOf_108
      refine br_f (by decide) (br_t e7 ?_)
      unfold wL_lawOf_150
      exact zs_define_2 hs (b7.elim Or.inl (fun z => Or.inr (Int32.not_le.mpr z))) (br_t rfl (br_f (by decide) (zs_unmade h hs h1 h2 h3 h4)))
    exact zs_41 (fun x8 _ => zs_63 (fun x9 _ => zs_86 (fun _ => g _ _ _) (fun _ _ => g _ _ _)))
  · obtain ⟨k, hk, ek⟩ := zs_rng (n := 9) (by decide) b7 b7'
    subst ek
    refine zs_41 (fun x8 h8 => ?_)
    rcases h8 with ⟨e8, b8, b8'⟩ | ⟨e8, b8⟩
    · -- the first part is no series
      have k1 : 1 < k := by
        rcases Nat.lt_or_ge 1 k with z | z
        · exact z
        · exact absurd (show nI k < nI 2 from nI_lt (by omega) (by omega)) b8
      have g : ∀ x9 z0, wL_lawOf_108 post mc ms (nI s) (nI k) x2 x3 x4 1 x7 x8 x9 z0 kc ks a1 a2 a3 st val stk trn scr a9 := by
        intro x9 z0
        unfold wL_lawOf_108
        refine br_f (by decide) (br_f (by rw [e7]; decide) (br_t e8 ?_))
        unfold wL_lawOf_150
        exact zs_define_3 hs (by omega) k1 b8' (br_t rfl (br_f (by decide) (zs_unmade h hs h1 h2 h3 h4)))
      exact zs_63 (fun x9 _ => zs_86 (fun _ => g _ _) (fun _ _ => g _ _))
    · refine zs_63 (fun x9 h9 => zs_86 (fun b9 => ?_) (fun b9 b9' => ?_))
      · -- made
        have hA : ∃ A : Nat, A < 8 ∧ ((k ≤ 1 ∧ A = 0) ∨ (1 < k ∧ x2 = nI A)) := by
          rcases Nat.lt_or_ge 1 k with z | z
          · rcases b8 with y | ⟨y, y'⟩
            · exact absurd y (show ¬ nI k < nI 2 from nI_nlt (by omega) (by omega))
            · obtain ⟨A, hA, eA⟩ := zs_rng (n := 7) (by decide) y y'
              exact ⟨A, by omega, Or.inr ⟨z, eA⟩⟩
          · exact ⟨0, by omega, Or.inl ⟨z, rfl⟩⟩
        obtain ⟨A, hA, ha⟩ := hA
        obtain ⟨r, hr97, hr⟩ := zs_red x3
        have hB : ∃ B : Nat, B < 97 ∧ (¬ (k = 2 ∨ k = 3 ∨ k = 9) → B = r) ∧ ((x9 = 0 ∧ ¬ (k = 2 ∨ k = 3 ∨ k = 9)) ∨ (x9 = 1 ∧ (k = 2 ∨ k = 3 ∨ k = 9) ∧ x3 = nI B ∧ B < 8)) := by
          rcases h9 with ⟨e9, c2, c3, c9⟩ | ⟨e9, c⟩
          · refine ⟨r, hr97, fun _ => rfl, Or.inl ⟨e9, fun z => ?_⟩⟩
            rcases z with z | z | z
            · exact c2 (by rw [z]; rfl)
            · exact c3 (by rw [z]; rfl)
            · exact c9 (by rw [z]; rfl)
          · rcases b9 with y | ⟨y, y'⟩
            · rw [e9] at y
              exact absurd y (by decide)
            · obtain ⟨B, hB, eB⟩ := zs_rng (n := 7) (by decide) y y'
              have hk' : k = 2 ∨ k = 3 ∨ k = 9 := by
                rcases c with z | z | z
                · exact Or.inl ((nI_eq (by omega) (by omega)).mp (show nI k = nI 2 from z))
                · exact Or.inr (Or.inl ((nI_eq (by omega) (by omega)).mp (show nI k = nI 3 from z)))
                · exact Or.inr (Or.inr ((nI_eq (by omega) (by omega)).mp (show nI k = nI 9 from z)))
              exact ⟨B, by omega, fun z => absurd hk' z, Or.inr ⟨e9, hk', eB, by omega⟩⟩
        obtain ⟨B, hB, hBr, hb⟩ := hB
        unfold wL_lawOf_108
        refine br_f (by decide) (br_f (by rw [e7]; decide) (br_f (by rw [e8]; decide) (br_f (by decide) ?_)))
        unfold wL_lawOf_150
        refine zs_define (A := A) (B := B) hs (by omega) hA hB ha (fun z => by rw [hBr z]; exact hr) (fun z => ?_) h1 h2 h3 (fun c1 c2 c3 f hc ok => br_t rfl (br_t rfl ?_))
        · rcases hb with y | y
          · exact absurd z y.2
          · exact ⟨y.2.2.2, y.2.2.1⟩
        · exact zs_made (r := r) h hc ok hr hBr (ha.elim (fun y => Or.inl y.1) (fun y => Or.inr y.2)) (hb.elim Or.inl (fun y => Or.inr ⟨y.1, y.2.1, y.2.2.1⟩))
      · -- the second part is no series
        rcases h9 with ⟨e9, _⟩ | ⟨e9, c⟩
        · exact absurd e9 b9
        · have hk' : k = 2 ∨ k = 3 ∨ k = 9 := by
            rcases c with z | z | z
            · exact Or.inl ((nI_eq (by omega) (by omega)).mp (show nI k = nI 2 from z))
            · exact Or.inr (Or.inl ((nI_eq (by omega) (by omega)).mp (show nI k = nI 3 from z)))
            · exact Or.inr (Or.inr ((nI_eq (by omega) (by omega)).mp (show nI k = nI 9 from z)))
          rcases b8 with y | ⟨y, y'⟩
          · exact absurd y (show ¬ nI k < nI 2 from nI_nlt (by omega) (by omega))
          · obtain ⟨A, hA, eA⟩ := zs_rng (n := 7) (by decide) y y'
            subst eA
            unfold wL_lawOf_108
            refine br_f (by decide) (br_f (by rw [e7]; decide) (br_f (by rw [e8]; decide) (br_t rfl ?_)))
            unfold wL_lawOf_150
            exact zs_define_4 hs (by omega) hk' b9' (br_t rfl (br_f (by decide) (zs_unmade h hs h1 h2 h3 h4)))
theorem zs_lawOf {post : Int32 → St0 → Prop} {x0 x1 x2 x3 x4 : Int32} (h : post 1 ()) : wpL_lawOf post 350 5584 () x0 x1 x2 x3 x4 := by
  unfold wpL_lawOf
  refine ⟨by omega, by omega, 9, 649, by omega, by omega, zs_init (by omega) (by omega) (fun f => ?_)⟩
  have un : (x0 < 0 ∨ 7 < x0) → wL_lawOf_23 post 350 5584 x0 x1 x2 x3 x4 (1 + 9) (9 + 649) (fun _ => 0) (fun _ => 0) (fun _ => 0) (fun _ => 0) (fun _ => 0) (fun _ => 0) (fun _ => 0) (fun _ => 0) f := fun z =>
    zs_24 (fun _ _ => zs_41 (fun _ _ => zs_63 (fun _ _ => zs_86 (fun _ => zs_unnamed h z) (fun _ _ => zs_unnamed h z))))
  refine br_c (fun z => un (Or.inl z)) (fun z => br_c (fun y => un (Or.inr y)) (fun y => ?_))
  obtain ⟨s, hs, e⟩ := zs_rng (n := 7) (by decide) z y
  rw [e]
  exact zs_named h (by omega) (fun _ _ => rfl) (fun _ _ => rfl) (fun _ _ => rfl) (fun _ _ => rfl)
theorem i_vc (xs : Nat → Int32) (L : Nat) (hL : L ≤ 5) : wpL_law (fun r => r = 1) L xs :=
  zs_cell 0 (by omega) hL (fun _ => zs_cell 1 (by omega) hL (fun _ => zs_cell 2 (by omega) hL (fun _ => zs_cell 3 (by omega) hL (fun _ => zs_cell 4 (by omega) hL (fun _ => ⟨350, 5584, by omega, by omega, zs_lawOf rfl⟩)))))
end
