section
/-! rows taken from the kit's rows to paste (a starting text) -/
theorem pk_us {f : Nat → Int32} {k : Nat} {x : Int32} : upd f k x k = x := if_pos rfl
theorem pk_un {f : Nat → Int32} {k j : Nat} {x : Int32} (h : j ≠ k) : upd f k x j = f j := if_neg h
theorem pk_sub {a b : Nat} (h : b ≤ a) : nI a - nI b = nI (a - b) := by
  obtain ⟨c, rfl⟩ : ∃ c, a = c + b := ⟨a - b, by omega⟩
  rw [← nI_add, Int32.add_sub_cancel, Nat.add_sub_cancel]
theorem pk_m1 (n : Nat) : nI (n + 1) + (-1) = nI n := by
  rw [← nI_1, Int32.add_assoc, show (1 : Int32) + (-1) = 0 from rfl, Int32.add_zero]
theorem pk_mul (a b : Nat) : nI a * nI b = nI (a * b) := (Int32.ofNat_mul a b).symm
theorem pk_sub_toInt {a b : Nat} (ha : a < 2 ^ 30) (hb : b < 2 ^ 30) : (nI a - nI b).toInt = (a : Int) - b := by
  rw [Int32.toInt_sub, nI_toInt (by omega), nI_toInt (by omega)]
  exact Int.bmod_eq_of_le (by omega) (by omega)
theorem pk_sneg {a b : Nat} (hb : b < 2 ^ 30) (h : a < b) : nI a - nI b < 0 := by
  rw [Int32.lt_iff_toInt_lt, pk_sub_toInt (by omega) hb, show (0 : Int32).toInt = 0 from by decide]
  omega
theorem pk_ix (x : Int32) {n : Nat} (hn : n < 2 ^ 31) : x < 0 ∨ nI n ≤ x ∨ ∃ j : Nat, j < n ∧ x = nI j := by
  by_cases h : x < 0
  · exact Or.inl h
  · obtain ⟨j, hj, rfl⟩ := nI_of h
    by_cases h2 : j < n
    · exact Or.inr (Or.inr ⟨j, h2, rfl⟩)
    · exact Or.inr (Or.inl (nI_le (by omega) hj))
theorem pk_le {x y : Int32} {A B : Prop} (a b : Nat) (f : a ≤ b → A) (g : b < a → B) (hx : x = nI a := by rfl) (hy : y = nI b := by rfl) (ha : a < 2 ^ 31 := by omega) (hb : b < 2 ^ 31 := by omega) : (x ≤ y → A) ∧ (¬ x ≤ y → B) := by
  subst hx hy
  rw [nI_leI ha hb]
  exact ⟨f, fun z => g (by omega)⟩
theorem pk_lt {x y : Int32} {A B : Prop} (a b : Nat) (f : a < b → A) (g : b ≤ a → B) (hx : x = nI a := by rfl) (hy : y = nI b := by rfl) (ha : a < 2 ^ 31 := by omega) (hb : b < 2 ^ 31 := by omega) : (x < y → A) ∧ (¬ x < y → B) := by
  subst hx hy
  rw [nI_ltI ha hb]
  exact ⟨f, fun z => g (by omega)⟩
theorem pk_eq {x y : Int32} {A B : Prop} (a b : Nat) (f : a = b → A) (g : a ≠ b → B) (hx : x = nI a := by rfl) (hy : y = nI b := by rfl) (ha : a < 2 ^ 31 := by omega) (hb : b < 2 ^ 31 := by omega) : (x = y → A) ∧ (¬ x = y → B) := by
  subst hx hy
  rw [nI_eq ha hb]
  exact ⟨f, g⟩
theorem pk_in {x : Int32} (n N : Nat) (h : n < N) (hx : x = nI n := by rfl) (hN : N < 2 ^ 31 := by omega) : vp_in x N := by
  subst hx
  exact vp_in_nI h hN
theorem pk_cl {x : Int32} (n : Nat) (hx : x = nI n := by rfl) (h : n < 2 ^ 31 := by omega) : x.toNatClampNeg = n := by
  subst hx
  exact nI_clamp h
theorem pk_least (P : Nat → Prop) (h : ∃ k, P k) : ∃ k, P k ∧ ∀ j, j < k → ¬ P j := by
  obtain ⟨k, hk⟩ := h
  induction k using Nat.strongRecOn with
  | ind k ih =>
    by_cases e : ∃ j, j < k ∧ P j
    · obtain ⟨j, hj, pj⟩ := e
      exact ih j hj pj
    · exact ⟨k, hk, fun j hj pj => e ⟨j, hj, pj⟩⟩
theorem sk_am (x : Int32) : x + (-1) = x - 1 := (Int32.sub_eq_add_neg x 1).symm
theorem sk_n1 : nI 0 - 1 = -1 := by decide
theorem sk_cl {n : Nat} (h : n < 80) : (nI n).toNatClampNeg = n := nI_clamp (by omega)
theorem sk_k27 {c : Int32} (h0 : ¬ c < 0) (h1 : c ≤ 27) : ∃ k : Nat, k ≤ 27 ∧ c = nI k := nI_of2 (M := 27) (n := 27) (by decide) h0 h1
end
section
/-! pure functions of a token row: open parts, definitions, validity -/
abbrev sk_O (c : Int32) : Prop := c = 16 ∨ c = 19 ∨ c = 23
abbrev sk_C (c : Int32) : Prop := c = 18 ∨ c = 20 ∨ c = 22 ∨ c = 24
abbrev sk_M (c : Int32) : Prop := c = 17 ∨ c = 21
abbrev sk_A (c : Int32) : Prop := c = 1 ∨ c = 2 ∨ c = 3 ∨ c = 10 ∨ c = 11
abbrev sk_N (a : Int32) : Prop := ¬ a < 0 ∧ a ≤ 11
abbrev sk_pl (c : Int32) : Prop := ¬ c < 0 ∧ c ≤ 14
def sk_H (cd : Nat → Int32) : Nat → Nat
  | 0 => 0
  | p + 1 => if cd p = 26 then 0 else if sk_O (cd p) then sk_H cd p + 1 else if sk_C (cd p) then sk_H cd p - 1 else sk_H cd p
def sk_Q (cd : Nat → Int32) : Nat → Nat → Nat
  | 0, _ => 0
  | p + 1, j => if sk_O (cd p) ∧ j = sk_H cd p then p else sk_Q cd p j
def sk_E (cd : Nat → Int32) : Nat → Nat → Nat
  | 0, _ => 0
  | p + 1, j => if sk_O (cd p) ∧ j = sk_H cd p then p else if sk_M (cd p) ∧ j + 1 = sk_H cd p then p else sk_E cd p j
def sk_I (cd : Nat → Int32) : Nat → Bool
  | 0 => false
  | p + 1 => if cd p = 26 then true else if cd p = 27 then false else sk_I cd p
def sk_f (cd ar : Nat → Int32) (a : Int32) : Nat → Option Nat
  | 0 => none
  | p + 1 => match sk_f cd ar a p with
    | some d => some d
    | none => if (cd p = 26 ∨ cd p = 28) ∧ ar p = a then some p else none
def sk_v (cd : Nat → Int32) : Nat → Nat
  | 0 => 0
  | p + 1 => if cd p = 28 then sk_v cd p + 1 else sk_v cd p
def sk_t (g : Nat → Int32) : Nat → Option Nat
  | 0 => none
  | n + 1 => if g n = 23 then some n else sk_t g n
def sk_S (cd : Nat → Int32) (p : Nat) : Int32 := if sk_H cd p = 0 then -1 else cd (sk_E cd p (sk_H cd p - 1))
theorem sk_On {c : Int32} (h : sk_O c) : ¬ c = 26 ∧ ¬ sk_C c ∧ ¬ sk_M c ∧ ¬ c = 27 ∧ ¬ c = 28 ∧ ¬ c = 15 := by
  rcases h with rfl | rfl | rfl <;> decide
theorem sk_Cn {c : Int32} (h : sk_C c) : ¬ c = 26 ∧ ¬ sk_O c ∧ ¬ sk_M c ∧ ¬ c = 27 ∧ ¬ c = 28 ∧ ¬ c = 15 := by
  rcases h with rfl | rfl | rfl | rfl <;> decide
theorem sk_Mn {c : Int32} (h : sk_M c) : ¬ c = 26 ∧ ¬ sk_O c ∧ ¬ sk_C c ∧ ¬ c = 27 ∧ ¬ c = 28 ∧ ¬ c = 15 := by
  rcases h with rfl | rfl <;> decide
section
variable {cd ar : Nat → Int32} {p : Nat}
theorem sk_H26 (h : cd p = 26) : sk_H cd (p + 1) = 0 := by rw [sk_H, if_pos h]
theorem sk_HO (h : sk_O (cd p)) : sk_H cd (p + 1) = sk_H cd p + 1 := by rw [sk_H, if_neg (sk_On h).1, if_pos h]
theorem sk_HC (h : sk_C (cd p)) : sk_H cd (p + 1) = sk_H cd p - 1 := by rw [sk_H, if_neg (sk_Cn h).1, if_neg (sk_Cn h).2.1, if_pos h]
theorem sk_Hx (h : ¬ cd p = 26) (h1 : ¬ sk_O (cd p)) (h2 : ¬ sk_C (cd p)) : sk_H cd (p + 1) = sk_H cd p := by rw [sk_H, if_neg h, if_neg h1, if_neg h2]
theorem sk_HM (h : sk_M (cd p)) : sk_H cd (p + 1) = sk_H cd p := sk_Hx (sk_Mn h).1 (sk_Mn h).2.1 (sk_Mn h).2.2.1
theorem sk_Hle (h : ¬ sk_O (cd p)) : sk_H cd (p + 1) ≤ sk_H cd p := by
  rw [sk_H, if_neg h]
  split
  · omega
  · split <;> omega
theorem sk_QO {j : Nat} (h : sk_O (cd p)) (hj : j = sk_H cd p) : sk_Q cd (p + 1) j = p := by rw [sk_Q, if_pos ⟨h, hj⟩]
theorem sk_Qx {j : Nat} (h : ¬ (sk_O (cd p) ∧ j = sk_H cd p)) : sk_Q cd (p + 1) j = sk_Q cd p j := by rw [sk_Q, if_neg h]
theorem sk_Qlt {j : Nat} (h : j < sk_H cd p) : sk_Q cd (p + 1) j = sk_Q cd p j := sk_Qx (fun z => by omega)
theorem sk_EO {j : Nat} (h : sk_O (cd p)) (hj : j = sk_H cd p) : sk_E cd (p + 1) j = p := by rw [sk_E, if_pos ⟨h, hj⟩]
theorem sk_EM {j : Nat} (h : sk_M (cd p)) (hj : j + 1 = sk_H cd p) : sk_E cd (p + 1) j = p := by
  rw [sk_E, if_neg (fun z => by omega), if_pos ⟨h, hj⟩]
theorem sk_Ex {j : Nat} (h : ¬ (sk_O (cd p) ∧ j = sk_H cd p)) (h1 : ¬ (sk_M (cd p) ∧ j + 1 = sk_H cd p)) : sk_E cd (p + 1) j = sk_E cd p j := by
  rw [sk_E, if_neg h, if_neg h1]
theorem sk_I26 (h : cd p = 26) : sk_I cd (p + 1) = true := by rw [sk_I, if_pos h]
theorem sk_I27 (h : cd p = 27) : sk_I cd (p + 1) = false := by rw [sk_I, if_neg (by rw [h]; decide), if_pos h]
theorem sk_Ix (h : ¬ cd p = 26) (h1 : ¬ cd p = 27) : sk_I cd (p + 1) = sk_I cd p := by rw [sk_I, if_neg h, if_neg h1]
theorem sk_nest : ∀ q j, j < sk_H cd q → sk_Q cd q j < q ∧ sk_O (cd (sk_Q cd q j)) ∧ sk_H cd (sk_Q cd q j) = j ∧
    ∀ x, sk_Q cd q j < x → x ≤ q → j < sk_H cd x ∧ ∀ k, k ≤ j → sk_Q cd x k = sk_Q cd q k := by
  intro q
  induction q with
  | zero => intro j h; exact absurd h (Nat.not_lt_zero j)
  | succ q ih =>
    intro j h
    by_cases hO : sk_O (cd q)
    · rw [sk_HO hO] at h
      by_cases hj : j = sk_H cd q
      · have hQ : sk_Q cd (q + 1) j = q := sk_QO hO hj
        rw [hQ]
        refine ⟨by omega, hO, hj.symm, ?_⟩
        intro x h1 h2
        have hx : x = q + 1 := by omega
        subst hx
        exact ⟨by rw [sk_HO hO]; omega, fun _ _ => rfl⟩
      · have hQ : ∀ k, k < sk_H cd q → sk_Q cd (q + 1) k = sk_Q cd q k := fun k hk => sk_Qlt hk
        obtain ⟨a, b, c, d⟩ := ih j (by omega)
        rw [hQ j (by omega)]
        refine ⟨by omega, b, c, ?_⟩
        intro x h1 h2
        by_cases hx : x = q + 1
        · subst hx
          exact ⟨by rw [sk_HO hO]; omega, fun _ _ => rfl⟩
        · obtain ⟨e, f⟩ := d x h1 (by omega)
          exact ⟨e, fun k hk => by rw [f k hk, hQ k (by omega)]⟩
    · have hQ : ∀ k, sk_Q cd (q + 1) k = sk_Q cd q k := fun k => sk_Qx (fun z => hO z.1)
      have hH : sk_H cd (q + 1) ≤ sk_H cd q := sk_Hle hO
      obtain ⟨a, b, c, d⟩ := ih j (by omega)
      rw [hQ j]
      refine ⟨by omega, b, c, ?_⟩
      intro x h1 h2
      by_cases hx : x = q + 1
      · subst hx
        exact ⟨h, fun _ _ => rfl⟩
      · obtain ⟨e, f⟩ := d x h1 (by omega)
        exact ⟨e, fun k hk => by rw [f k hk, hQ k]⟩
theorem sk_mark : ∀ q j, j < sk_H cd q → sk_Q cd q j ≤ sk_E cd q j ∧ sk_E cd q j < q ∧ sk_H cd (sk_E cd q j + 1) = j + 1 ∧
    (sk_E cd q j = sk_Q cd q j ∨ sk_M (cd (sk_E cd q j))) ∧ ∀ x, sk_E cd q j < x → x < q → sk_M (cd x) → ¬ sk_H cd x = j + 1 := by
  intro q
  induction q with
  | zero => intro j h; exact absurd h (Nat.not_lt_zero j)
  | succ q ih =>
    intro j h
    by_cases hO : sk_O (cd q)
    · rw [sk_HO hO] at h
      by_cases hj : j = sk_H cd q
      · rw [sk_QO hO hj, sk_EO hO hj]
        refine ⟨by omega, by omega, by rw [sk_HO hO, hj], Or.inl rfl, fun x h1 h2 => by omega⟩
      · have hE : sk_E cd (q + 1) j = sk_E cd q j := sk_Ex (fun z => hj z.2) (fun z => (sk_On hO).2.2.1 z.1)
        rw [hE, sk_Qlt (by omega)]
        obtain ⟨a, b, c, d, e⟩ := ih j (by omega)
        refine ⟨a, by omega, c, d, ?_⟩
        intro x h1 h2 h3
        by_cases hx : x = q
        · subst hx; exact absurd h3 (sk_On hO).2.2.1
        · exact e x h1 (by omega) h3
    · have hH : sk_H cd (q + 1) ≤ sk_H cd q := sk_Hle hO
      have hQ : sk_Q cd (q + 1) j = sk_Q cd q j := sk_Qx (fun z => hO z.1)
      obtain ⟨a, b, c, d, e⟩ := ih j (by omega)
      by_cases hM : sk_M (cd q) ∧ j + 1 = sk_H cd q
      · rw [sk_EM hM.1 hM.2, hQ]
        have := (sk_nest (cd := cd) q j (by omega)).1
        refine ⟨by omega, by omega, by rw [sk_HM hM.1]; omega, Or.inr hM.1, fun x h1 h2 => by omega⟩
      · have hE : sk_E cd (q + 1) j = sk_E cd q j := sk_Ex (fun z => hO z.1) hM
        rw [hE, hQ]
        refine ⟨a, by omega, c, d, ?_⟩
        intro x h1 h2 h3
        by_cases hx : x = q
        · subst hx; intro h4; exact hM ⟨h3, h4.symm⟩
        · exact e x h1 (by omega) h3
/-- a token that closes (or an ELSE, if that is sought) behind i, with nothing of the kind at i's level between -/
def sk_B (cd : Nat → Int32) (w : Int32) (i r : Nat) : Prop :=
  i < r ∧ 0 < sk_H cd (i + 1) ∧ sk_H cd r = sk_H cd (i + 1) ∧ (sk_C (cd r) ∨ (¬ w = 0 ∧ cd r = 17)) ∧
    ∀ x, i < x → x < r → sk_H cd (i + 1) ≤ sk_H cd x ∧ (sk_H cd x = sk_H cd (i + 1) → ¬ (sk_C (cd x) ∨ (¬ w = 0 ∧ cd x = 17)))
theorem sk_Bc {j i : Nat} (hj : j + 1 = sk_H cd p) (hi : i = sk_Q cd p j ∨ i = sk_E cd p j) : sk_H cd (i + 1) = j + 1 ∧ i < p ∧
    ∀ x, i < x → x < p → j + 1 ≤ sk_H cd x ∧ (sk_H cd x = j + 1 → ¬ sk_C (cd x)) := by
  obtain ⟨a, b, c, d⟩ := sk_nest (cd := cd) p j (by omega)
  obtain ⟨a', b', c', d', e'⟩ := sk_mark (cd := cd) p j (by omega)
  have hQi : sk_Q cd p j ≤ i := by rcases hi with h | h <;> omega
  refine ⟨?_, by rcases hi with h | h <;> omega, ?_⟩
  · rcases hi with h | h
    · rw [h, sk_HO b, c]
    · rw [h, c']
  · intro x h1 h2
    have h3 := (d x (by omega) (by omega)).1
    refine ⟨by omega, fun h4 h5 => ?_⟩
    have h6 := (d (x + 1) (by omega) (by omega)).1
    rw [sk_HC h5] at h6
    omega
theorem sk_B0 {j i : Nat} (hj : j + 1 = sk_H cd p) (hc : sk_C (cd p)) (hi : i = sk_Q cd p j ∨ i = sk_E cd p j) : sk_B cd 0 i p := by
  obtain ⟨a, b, c⟩ := sk_Bc hj hi
  refine ⟨b, by omega, by omega, Or.inl hc, ?_⟩
  intro x h1 h2
  obtain ⟨d, e⟩ := c x h1 h2
  rw [a]
  exact ⟨d, fun h3 h4 => by rcases h4 with h4 | h4; exact e h3 h4; exact h4.1 rfl⟩
theorem sk_B1 {j : Nat} (hj : j + 1 = sk_H cd p) (hc : sk_C (cd p) ∨ cd p = 17) (he : sk_E cd p j = sk_Q cd p j) : sk_B cd 1 (sk_Q cd p j) p := by
  obtain ⟨a, b, c⟩ := sk_Bc hj (Or.inl rfl)
  obtain ⟨a', b', c', d', e'⟩ := sk_mark (cd := cd) p j (by omega)
  refine ⟨b, by omega, by omega, ?_, ?_⟩
  · rcases hc with h | h
    · exact Or.inl h
    · exact Or.inr ⟨by decide, h⟩
  · intro x h1 h2
    obtain ⟨d, e⟩ := c x h1 h2
    rw [a]
    refine ⟨d, fun h3 h4 => ?_⟩
    rcases h4 with h4 | h4
    · exact e h3 h4
    · exact e' x (by omega) h2 (Or.inl h4.2) h3
theorem sk_keep {L a : Nat} : ∀ b, a ≤ b → (∀ x, a ≤ x → x < b → L ≤ sk_H cd x) → ∀ k, k < L → sk_Q cd b k = sk_Q cd a k := by
  intro b
  induction b with
  | zero => intro h _ k _; have : a = 0 := by omega
            subst this; rfl
  | succ b ih =>
    intro h h1 k hk
    by_cases hb : a = b + 1
    · rw [hb]
    · rw [← ih (by omega) (fun x x1 x2 => h1 x x1 (by omega)) k hk]
      exact sk_Qlt (Nat.lt_of_lt_of_le hk (h1 b (by omega) (by omega)))
theorem sk_jmp {w : Int32} {i r : Nat} (h : sk_B cd w i r) : ∀ k, k < sk_H cd (i + 1) → sk_Q cd r k = sk_Q cd (i + 1) k := by
  obtain ⟨a, b, c, d, e⟩ := h
  refine sk_keep r (by omega) ?_
  intro x h1 h2
  exact (e x (by omega) h2).1
/-- definitions -/
theorem sk_f_some {a : Int32} {d : Nat} : ∀ p, sk_f cd ar a p = some d → d < p ∧ (cd d = 26 ∨ cd d = 28) ∧ ar d = a ∧ sk_f cd ar a d = none := by
  intro p
  induction p with
  | zero => intro h; exact nomatch h
  | succ p ih =>
    intro h
    rw [sk_f] at h
    cases e : sk_f cd ar a p with
    | some d' =>
      rw [e] at h
      cases h
      obtain ⟨a, b⟩ := ih e
      exact ⟨by omega, b⟩
    | none =>
      rw [e] at h
      dsimp only at h
      by_cases g : (cd p = 26 ∨ cd p = 28) ∧ ar p = a
      · rw [if_pos g] at h
        cases h
        exact ⟨by omega, g.1, g.2, e⟩
      · rw [if_neg g] at h
        exact nomatch h
theorem sk_f_mono {a : Int32} {d q : Nat} (h : sk_f cd ar a p = some d) : p ≤ q → sk_f cd ar a q = some d := by
  induction q with
  | zero => intro h1; have : p = 0 := by omega
            subst this; exact h
  | succ q ih =>
    intro h1
    by_cases e : p = q + 1
    · subst e; exact h
    · rw [sk_f, ih (by omega)]
theorem sk_f_none {a : Int32} : ∀ p, sk_f cd ar a p = none → ∀ q, q < p → ¬ ((cd q = 26 ∨ cd q = 28) ∧ ar q = a) := by
  intro p
  induction p with
  | zero => intro _ q h; exact absurd h (Nat.not_lt_zero q)
  | succ p ih =>
    intro h q hq
    rw [sk_f] at h
    cases e : sk_f cd ar a p with
    | some d' => rw [e] at h; exact nomatch h
    | none =>
      rw [e] at h
      dsimp only at h
      by_cases g : (cd p = 26 ∨ cd p = 28) ∧ ar p = a
      · rw [if_pos g] at h; exact nomatch h
      · by_cases hq' : q = p
        · subst hq'; exact g
        · exact ih e q (by omega)
theorem sk_f_hit {a : Int32} (h : sk_f cd ar a p = none) (g : (cd p = 26 ∨ cd p = 28) ∧ ar p = a) : sk_f cd ar a (p + 1) = some p := by
  rw [sk_f, h]; dsimp only; rw [if_pos g]
theorem sk_f_miss {a : Int32} (g : ¬ ((cd p = 26 ∨ cd p = 28) ∧ ar p = a)) : sk_f cd ar a (p + 1) = sk_f cd ar a p := by
  rw [sk_f]
  cases e : sk_f cd ar a p with
  | some d => rfl
  | none => dsimp only; rw [if_neg g]
theorem sk_v28 (h : cd p = 28) : sk_v cd (p + 1) = sk_v cd p + 1 := by rw [sk_v, if_pos h]
theorem sk_vx (h : ¬ cd p = 28) : sk_v cd (p + 1) = sk_v cd p := by rw [sk_v, if_neg h]
theorem sk_v_mono {a : Nat} : ∀ b, a ≤ b → sk_v cd a ≤ sk_v cd b := by
  intro b
  induction b with
  | zero => intro h; have : a = 0 := by omega
            subst this; exact Nat.le_refl _
  | succ b ih =>
    intro h
    by_cases e : a = b + 1
    · rw [e]; exact Nat.le_refl _
    · have := ih (by omega)
      rw [sk_v]; split <;> omega
theorem sk_v_le : ∀ p, sk_v cd p ≤ p := by
  intro p
  induction p with
  | zero => exact Nat.le_refl _
  | succ p ih => rw [sk_v]; split <;> omega
theorem sk_t_ext {g h : Nat → Int32} : ∀ n, (∀ j, j < n → (g j = 23 ↔ h j = 23)) → sk_t g n = sk_t h n := by
  intro n
  induction n with
  | zero => intro _; rfl
  | succ n ih =>
    intro e
    rw [sk_t, sk_t, ih (fun j hj => e j (by omega))]
    by_cases c : g n = 23
    · rw [if_pos c, if_pos ((e n (by omega)).mp c)]
    · rw [if_neg c, if_neg (fun z => c ((e n (by omega)).mpr z))]
theorem sk_t_some {g : Nat → Int32} {j : Nat} : ∀ n, sk_t g n = some j → j < n ∧ g j = 23 := by
  intro n
  induction n with
  | zero => intro h; exact nomatch h
  | succ n ih =>
    intro h
    rw [sk_t] at h
    by_cases c : g n = 23
    · rw [if_pos c] at h; cases h; exact ⟨by omega, c⟩
    · rw [if_neg c] at h
      obtain ⟨a, b⟩ := ih h
      exact ⟨by omega, b⟩
end
end
section
/-! a good token; what follows from a row of good tokens -/
def sk_K (cd ar : Nat → Int32) (q : Nat) : Prop :=
  (sk_I cd q = false → (cd q = 26 ∨ cd q = 28) ∧ sk_N (ar q) ∧ sk_f cd ar (ar q) q = none) ∧
  (sk_I cd q = true → (¬ cd q < 0 ∧ cd q ≤ 27 ∧ ¬ cd q = 26) ∧ (cd q = 15 → sk_N (ar q)) ∧ (cd q = 17 → sk_S cd q = 16) ∧
    (cd q = 18 → sk_S cd q = 16 ∨ sk_S cd q = 17) ∧ (cd q = 20 ∨ cd q = 21 → sk_S cd q = 19) ∧ (cd q = 22 → sk_S cd q = 21) ∧
    (cd q = 24 → sk_S cd q = 23) ∧ (cd q = 25 → ∃ j, sk_t (fun j => cd (sk_Q cd q j)) (sk_H cd q) = some j) ∧
    (cd q = 27 → sk_H cd q = 0) ∧ (sk_O (cd q) → sk_H cd q < 6))
def sk_V (cd ar : Nat → Int32) (p : Nat) : Prop := ∀ q, q < p → sk_K cd ar q
section
variable {cd ar : Nat → Int32} {p : Nat}
theorem sk_V_le {q : Nat} (h : sk_V cd ar p) (hq : q ≤ p) : sk_V cd ar q := fun x hx => h x (by omega)
theorem sk_V_s (h : sk_V cd ar p) (hk : sk_K cd ar p) : sk_V cd ar (p + 1) := by
  intro x hx
  by_cases e : x = p
  · rw [e]; exact hk
  · exact h x (by omega)
theorem sk_VI (h : sk_V cd ar p) : ∀ q, q ≤ p → sk_I cd q = false → sk_H cd q = 0 := by
  intro q
  induction q with
  | zero => intro _ _; rfl
  | succ q ih =>
    intro h1 h2
    have hK := h q (by omega)
    by_cases h26 : cd q = 26
    · exact sk_H26 h26
    · by_cases h27 : cd q = 27
      · have hx : sk_H cd (q + 1) = sk_H cd q := sk_Hx h26 (by rw [h27]; decide) (by rw [h27]; decide)
        cases e : sk_I cd q with
        | false => exact absurd (hK.1 e).1 (by rw [h27]; decide)
        | true => rw [hx]; exact (hK.2 e).2.2.2.2.2.2.2.2.1 h27
      · rw [sk_Ix h26 h27] at h2
        have h28 : cd q = 28 := by rcases (hK.1 h2).1 with z | z; exact absurd z h26; exact z
        rw [sk_Hx h26 (by rw [h28]; decide) (by rw [h28]; decide)]
        exact ih (by omega) h2
theorem sk_VIt (h : sk_V cd ar p) {q : Nat} (hq : q ≤ p) (h0 : 0 < sk_H cd q) : sk_I cd q = true := by
  cases e : sk_I cd q with
  | false => have := sk_VI h q hq e; omega
  | true => rfl
theorem sk_S0 {q : Nat} {c : Int32} (h : sk_S cd q = c) (hc : ¬ -1 = c) : 0 < sk_H cd q := by
  by_cases e : sk_H cd q = 0
  · rw [sk_S, if_pos e] at h; exact absurd h hc
  · omega
theorem sk_S1 {q : Nat} (h : 0 < sk_H cd q) : sk_S cd q = cd (sk_E cd q (sk_H cd q - 1)) := by
  rw [sk_S, if_neg (by omega)]
theorem sk_VCM (hK : sk_K cd ar p) (h1 : sk_C (cd p) ∨ sk_M (cd p)) : sk_I cd p = true ∧ 0 < sk_H cd p := by
  have hI : sk_I cd p = true := by
    cases e : sk_I cd p with
    | true => rfl
    | false =>
      have h2 := (hK.1 e).1
      rcases h1 with h1 | h1
      · rcases h2 with h2 | h2
        · exact absurd h2 (sk_Cn h1).1
        · exact absurd h2 (sk_Cn h1).2.2.2.2.1
      · rcases h2 with h2 | h2
        · exact absurd h2 (sk_Mn h1).1
        · exact absurd h2 (sk_Mn h1).2.2.2.2.1
  refine ⟨hI, ?_⟩
  obtain ⟨_, _, k17, k18, k20, k22, k24, _⟩ := hK.2 hI
  rcases h1 with (h1 | h1 | h1 | h1) | (h1 | h1)
  · rcases k18 h1 with h2 | h2
    · exact sk_S0 h2 (by decide)
    · exact sk_S0 h2 (by decide)
  · exact sk_S0 (k20 (Or.inl h1)) (by decide)
  · exact sk_S0 (k22 h1) (by decide)
  · exact sk_S0 (k24 h1) (by decide)
  · exact sk_S0 (k17 h1) (by decide)
  · exact sk_S0 (k20 (Or.inr h1)) (by decide)
theorem sk_VB (h : sk_V cd ar p) {q : Nat} (hq : q < p) (h1 : sk_C (cd q) ∨ sk_M (cd q)) : 0 < sk_H cd q := (sk_VCM (h q hq) h1).2
theorem sk_V6 (h : sk_V cd ar p) : ∀ q, q ≤ p → sk_H cd q ≤ 6 := by
  intro q
  induction q with
  | zero => intro _; exact Nat.zero_le 6
  | succ q ih =>
    intro h1
    have := ih (by omega)
    by_cases hO : sk_O (cd q)
    · have hK := h q (by omega)
      rw [sk_HO hO]
      cases e : sk_I cd q with
      | false =>
        rcases (hK.1 e).1 with z | z
        · exact absurd z (sk_On hO).1
        · exact absurd z (sk_On hO).2.2.2.2.1
      | true => have := (hK.2 e).2.2.2.2.2.2.2.2.2 hO; omega
    · have := sk_Hle hO; omega
theorem sk_mk (h : sk_V cd ar p) : ∀ q, q ≤ p → ∀ j, j < sk_H cd q → sk_E cd q j = sk_Q cd q j ∨
    (cd (sk_Q cd q j) = 16 ∧ cd (sk_E cd q j) = 17) ∨ (cd (sk_Q cd q j) = 19 ∧ cd (sk_E cd q j) = 21) := by
  intro q
  induction q with
  | zero => intro _ j hj; exact absurd hj (Nat.not_lt_zero j)
  | succ q ih =>
    intro h1 j hj
    by_cases hO : sk_O (cd q)
    · rw [sk_HO hO] at hj
      by_cases e : j = sk_H cd q
      · rw [sk_QO hO e, sk_EO hO e]; exact Or.inl rfl
      · rw [sk_Qlt (by omega), sk_Ex (fun z => e z.2) (fun z => (sk_On hO).2.2.1 z.1)]
        exact ih (by omega) j (by omega)
    · have hH := sk_Hle hO
      rw [sk_Qx (fun z => hO z.1)]
      by_cases hM : sk_M (cd q) ∧ j + 1 = sk_H cd q
      · rw [sk_EM hM.1 hM.2]
        have hI := (sk_VCM (h q (by omega)) (Or.inr hM.1)).1
        obtain ⟨_, _, k17, _, k20, _⟩ := (h q (by omega)).2 hI
        have hj' : sk_H cd q - 1 = j := by omega
        obtain ⟨a, b, c, d, e⟩ := sk_mark (cd := cd) q j (by omega)
        rcases hM.1 with m | m
        · have hs := k17 m
          rw [sk_S1 (by omega), hj'] at hs
          rcases d with d | d
          · rw [d] at hs; exact Or.inr (Or.inl ⟨hs, m⟩)
          · rw [hs] at d; exact absurd d (by decide)
        · have hs := k20 (Or.inr m)
          rw [sk_S1 (by omega), hj'] at hs
          rcases d with d | d
          · rw [d] at hs; exact Or.inr (Or.inr ⟨hs, m⟩)
          · rw [hs] at d; exact absurd d (by decide)
      · rw [sk_Ex (fun z => hO z.1) hM]
        exact ih (by omega) j (by omega)
theorem sk_tE (h : sk_V cd ar p) : sk_t (fun j => cd (sk_E cd p j)) (sk_H cd p) = sk_t (fun j => cd (sk_Q cd p j)) (sk_H cd p) := by
  apply sk_t_ext
  intro j hj
  rcases sk_mk h p (Nat.le_refl p) j hj with e | e | e
  · show cd _ = 23 ↔ cd _ = 23
    rw [e]
  · show cd _ = 23 ↔ cd _ = 23
    rw [e.1, e.2]; decide
  · show cd _ = 23 ↔ cd _ = 23
    rw [e.1, e.2]; decide
/-- an inside token that does not end the definition is followed by an inside token -/
theorem sk_In (hI : sk_I cd p = true) (h27 : ¬ cd p = 27) : sk_I cd (p + 1) = true := by
  by_cases h : cd p = 26
  · exact sk_I26 h
  · rw [sk_Ix h h27]; exact hI
theorem sk_uniq (h : sk_V cd ar p) {a : Int32} {d e : Nat} (hd : sk_f cd ar a p = some d) (he : e < p) (h1 : cd e = 26 ∨ cd e = 28) (h2 : ar e = a) (hI : sk_I cd e = false) : e = d := by
  obtain ⟨b1, b2, b3, b4⟩ := sk_f_some p hd
  have hn := ((h e he).1 hI).2.2
  rw [h2] at hn
  by_cases l : d < e
  · exact absurd ⟨b2, b3⟩ (sk_f_none e hn d l)
  · by_cases l2 : e < d
    · exact absurd ⟨h1, h2⟩ (sk_f_none d b4 e l2)
    · omega
theorem sk_def_out (h : sk_V cd ar p) {d : Nat} (hd : d < p) (h1 : cd d = 26) : sk_I cd d = false := by
  cases e : sk_I cd d with
  | false => rfl
  | true => exact absurd h1 ((h d hd).2 e).1.2.2
end
end
section
/-! Y's helpers that look through the tokens give the pure values -/
def sk_r (g : Nat → Nat) (cd : Nat → Int32) (s : Int32) : Nat → Int32
  | 0 => -1
  | n + 1 => if s < 0 ∨ cd (g n) = s then nI (g n) else sk_r g cd s n
theorem sk_r_ext {g h : Nat → Nat} {cd : Nat → Int32} {s : Int32} : ∀ n, (∀ j, j < n → g j = h j) → sk_r g cd s n = sk_r h cd s n := by
  intro n
  induction n with
  | zero => intro _; rfl
  | succ n ih => intro e; rw [sk_r, sk_r, ih (fun j hj => e j (by omega)), e n (by omega)]
def sk_o (o : Option Nat) : Int32 := match o with | none => -1 | some d => nI d
theorem sk_r23 {g : Nat → Nat} {cd : Nat → Int32} : ∀ n, sk_r g cd 23 n = match sk_t (fun j => cd (g j)) n with | none => -1 | some j => nI (g j) := by
  intro n
  induction n with
  | zero => rfl
  | succ n ih =>
    rw [sk_r, sk_t, ih]
    by_cases c : cd (g n) = 23
    · rw [if_pos (Or.inr c)]; simp only [if_pos c]
    · rw [if_neg (fun z => by rcases z with z | z; exact absurd z (by decide); exact c z)]; simp only [if_neg c]
theorem yy_opens {post : Int32 → Prop} {c : Int32} (h1 : sk_O c → post 1) (h0 : ¬ sk_O c → post 0) : wpY_opens post c :=
  br_c (fun e => h1 (Or.inl e)) (fun n1 => br_c (fun e => h1 (Or.inr (Or.inl e))) (fun n2 => br_c (fun e => h1 (Or.inr (Or.inr e))) (fun n3 => h0 (fun z => by rcases z with z | z | z <;> contradiction))))
theorem yy_closes {post : Int32 → Prop} {c : Int32} (h1 : sk_C c → post 1) (h0 : ¬ sk_C c → post 0) : wpY_closes post c :=
  br_c (fun e => h1 (Or.inl e)) (fun n1 => br_c (fun e => h1 (Or.inr (Or.inl e))) (fun n2 => br_c (fun e => h1 (Or.inr (Or.inr (Or.inl e)))) (fun n3 => br_c (fun e => h1 (Or.inr (Or.inr (Or.inr e)))) (fun n4 => h0 (fun z => by rcases z with z | z | z | z <;> contradiction)))))
section
variable {tk tr ea dp yo lv yt : Int32} {cd ar ys yu yc yp yn ye : Nat → Int32} {T p : Nat}
theorem yy_sort_l {post : Int32 → Prop} (hV : sk_V cd ar p) (hp : p ≤ 80) : ∀ q c n, q ≤ p → c ≤ sk_H cd q → c + q ≤ 80 → q < n →
    post (if sk_H cd q ≤ c then -1 else cd (sk_E cd q (sk_H cd q - 1 - c))) → wY_sort_6 post tk tr ea dp yo lv yt cd ar ys yu yc yp yn ye n (nI c) (nI q - 1) := by
  intro q
  induction q with
  | zero =>
    intro c n _ _ _ hn h
    obtain ⟨m, rfl⟩ : ∃ m, n = m + 1 := ⟨n - 1, by omega⟩
    rw [sk_n1]
    rw [if_pos (show sk_H cd 0 ≤ c from Nat.zero_le c)] at h
    exact br_t (by decide) h
  | succ q ih =>
    intro c n hq hc hcq hn h
    obtain ⟨m, rfl⟩ : ∃ m, n = m + 1 := ⟨n - 1, by omega⟩
    rw [nI_pred]
    have hin : vp_in (nI q) 80 := vp_in_nI (by omega) (by decide)
    refine br_f (nI_pos (by omega)) (And.intro hin ?_)
    rw [sk_cl (by omega)]
    by_cases h26 : cd q = 26
    · rw [sk_H26 h26, if_pos (Nat.zero_le c)] at h
      exact br_t h26 h
    · refine br_f h26 (And.intro hin (yy_closes (fun hC => ?_) (fun hC => ?_)))
      · have hB := sk_VB hV (q := q) (by omega) (Or.inl hC)
        rw [sk_HC hC] at h hc
        refine br_f (by decide) (nm_r (nI_1 c) (nm_r (sk_am (nI q)) (ih (c + 1) m (by omega) (by omega) (by omega) (by omega) ?_)))
        rw [sk_Ex (fun z => (sk_Cn hC).2.1 z.1) (fun z => (sk_Cn hC).2.2.1 z.1)] at h
        by_cases e : sk_H cd q ≤ c + 1
        · rw [if_pos e]; rw [if_pos (by omega)] at h; exact h
        · rw [if_neg e]; rw [if_neg (by omega)] at h
          rw [show sk_H cd q - 1 - (c + 1) = sk_H cd q - 1 - 1 - c from by omega]; exact h
      · refine br_t (by decide) ?_
        by_cases hO : sk_O (cd q)
        · rw [sk_HO hO] at h hc
          by_cases c0 : c = 0
          · subst c0
            rw [if_neg (by omega), sk_EO hO (by omega)] at h
            exact br_t nI_0 (And.intro hin (yy_opens (fun _ => br_f (by decide) (And.intro hin h)) (fun z => absurd hO z)))
          · refine br_f (nI_ne0 (by omega) (by omega)) (And.intro hin ?_)
            rw [sk_cl (by omega)]
            refine yy_opens (fun _ => ?_) (fun z => absurd hO z)
            obtain ⟨c', rfl⟩ : ∃ c', c = c' + 1 := ⟨c - 1, by omega⟩
            refine br_f (by decide) (nm_r (pk_m1 c') (nm_r (sk_am (nI q)) (ih c' m (by omega) (by omega) (by omega) (by omega) ?_)))
            by_cases e : sk_H cd q ≤ c'
            · rw [if_pos e]; rw [if_pos (by omega)] at h; exact h
            · rw [if_neg e]; rw [if_neg (by omega), sk_Ex (fun z => by omega) (fun z => (sk_On hO).2.2.1 z.1)] at h
              rw [show sk_H cd q - 1 - c' = sk_H cd q + 1 - 1 - (c' + 1) from by omega]; exact h
        · have hH : sk_H cd (q + 1) = sk_H cd q := sk_Hx h26 hO hC
          rw [hH] at h hc
          have hgo : ¬ (sk_M (cd q) ∧ c = 0) → wY_sort_84 post (wY_sort_6 post tk tr ea dp yo lv yt cd ar ys yu yc yp yn ye m) (nI c) (nI q) tk tr ea dp yo lv yt cd ar ys yu yc yp yn ye := by
            intro hM
            refine And.intro hin ?_
            rw [sk_cl (by omega)]
            refine yy_opens (fun z => absurd z hO) (fun _ => ?_)
            refine br_t (by decide) (nm_r (sk_am (nI q)) (ih c m (by omega) hc (by omega) (by omega) ?_))
            by_cases e : sk_H cd q ≤ c
            · rw [if_pos e]; rw [if_pos e] at h; exact h
            · rw [if_neg e]; rw [if_neg e, sk_Ex (fun z => hO z.1) (fun z => hM ⟨z.1, by omega⟩)] at h; exact h
          by_cases c0 : c = 0
          · subst c0
            refine br_t nI_0 (And.intro hin (yy_opens (fun z => absurd z hO) (fun _ => ?_)))
            refine br_t (by decide) (And.intro hin ?_)
            by_cases m17 : sk_M (cd q)
            · have hB := sk_VB hV (q := q) (by omega) (Or.inr m17)
              rw [if_neg (by omega), sk_EM m17 (by omega)] at h
              rcases m17 with e | e
              · exact br_t e (And.intro hin h)
              · exact br_f (by rw [e]; decide) (And.intro hin (br_t e (And.intro hin h)))
            · exact br_f (fun z => m17 (Or.inl z)) (And.intro hin (br_f (fun z => m17 (Or.inr z)) (hgo (fun z => m17 z.1))))
          · exact br_f (nI_ne0 (by omega) (by omega)) (hgo (fun z => c0 z.2))
theorem yy_sort {post : Int32 → Prop} (hV : sk_V cd ar p) (hp : p ≤ 80) (h : post (sk_S cd p)) : wpY_sort post (tk, tr, ea, dp, yo, lv, yt, cd, ar, ys, yu, yc, yp, yn, ye) (nI p) := by
  refine nm_e ⟨p + 1, yy_sort_l hV hp p 0 (p + 1) (by omega) (by omega) (by omega) (by omega) ?_⟩
  rw [sk_S] at h
  by_cases e : sk_H cd p = 0
  · rw [if_pos (by omega)]; rw [if_pos e] at h; exact h
  · rw [if_neg (by omega)]; rw [if_neg e] at h; exact h
theorem yy_around_l {post : Int32 → Prop} {s : Int32} (hV : sk_V cd ar p) (hp : p ≤ 80) : ∀ q c n, q ≤ p → c ≤ sk_H cd q → c + q ≤ 80 → q < n →
    post (sk_r (sk_Q cd q) cd s (sk_H cd q - c)) → wY_around_7 post s tk tr ea dp yo lv yt cd ar ys yu yc yp yn ye n (nI c) (nI q - 1) := by
  intro q
  induction q with
  | zero =>
    intro c n _ _ _ hn h
    obtain ⟨m, rfl⟩ : ∃ m, n = m + 1 := ⟨n - 1, by omega⟩
    rw [sk_n1]
    rw [show sk_H cd 0 - c = 0 from Nat.zero_sub c] at h
    exact br_t (by decide) h
  | succ q ih =>
    intro c n hq hc hcq hn h
    obtain ⟨m, rfl⟩ : ∃ m, n = m + 1 := ⟨n - 1, by omega⟩
    rw [nI_pred]
    have hin : vp_in (nI q) 80 := vp_in_nI (by omega) (by decide)
    refine br_f (nI_pos (by omega)) (And.intro hin ?_)
    rw [sk_cl (by omega)]
    by_cases h26 : cd q = 26
    · rw [sk_H26 h26, Nat.zero_sub] at h
      exact br_t h26 h
    · refine br_f h26 (And.intro hin (yy_closes (fun hC => ?_) (fun hC => ?_)))
      · have hB := sk_VB hV (q := q) (by omega) (Or.inl hC)
        rw [sk_HC hC] at h hc
        refine br_f (by decide) (nm_r (nI_1 c) (nm_r (sk_am (nI q)) (ih (c + 1) m (by omega) (by omega) (by omega) (by omega) ?_)))
        rw [sk_r_ext (h := sk_Q cd q) _ (fun j hj => sk_Qlt (by omega)), show sk_H cd q - 1 - c = sk_H cd q - (c + 1) from by omega] at h
        exact h
      · refine br_t (by decide) (And.intro hin (yy_opens (fun hO => ?_) (fun hO => ?_)))
        · rw [sk_HO hO] at h hc
          refine br_f (by decide) ?_
          by_cases c0 : c = 0
          · subst c0
            rw [Nat.sub_zero, sk_r, sk_QO hO rfl, sk_r_ext (h := sk_Q cd q) _ (fun j hj => sk_Qlt hj)] at h
            refine br_t nI_0 ?_
            by_cases hs : s < 0
            · rw [if_pos (Or.inl hs)] at h
              exact br_t hs h
            · refine br_f hs (And.intro hin ?_)
              by_cases hs2 : cd q = s
              · rw [if_pos (Or.inr hs2)] at h
                exact br_t hs2 h
              · rw [if_neg (fun z => by rcases z with z | z <;> contradiction)] at h
                exact br_f hs2 (br_t (by rw [nI_0]; decide) (nm_r (sk_am (nI q)) (ih 0 m (by omega) (by omega) (by omega) (by omega) h)))
          · refine br_f (nI_ne0 (by omega) (by omega)) ?_
            obtain ⟨c', rfl⟩ : ∃ c', c = c' + 1 := ⟨c - 1, by omega⟩
            refine br_f (nI_nle (by omega) (by omega)) (nm_r (pk_m1 c') (nm_r (sk_am (nI q)) (ih c' m (by omega) (by omega) (by omega) (by omega) ?_)))
            rw [sk_r_ext (h := sk_Q cd q) _ (fun j hj => sk_Qlt (by omega)), show sk_H cd q + 1 - (c' + 1) = sk_H cd q - c' from by omega] at h
            exact h
        · rw [sk_Hx h26 hO hC] at h hc
          refine br_t (by decide) (nm_r (sk_am (nI q)) (ih c m (by omega) hc (by omega) (by omega) ?_))
          rw [sk_r_ext (h := sk_Q cd q) _ (fun j hj => sk_Qlt (by omega))] at h
          exact h
theorem yy_around {post : Int32 → Prop} {s : Int32} (hV : sk_V cd ar p) (hp : p ≤ 80) (h : post (sk_r (sk_Q cd p) cd s (sk_H cd p))) : wpY_around post (tk, tr, ea, dp, yo, lv, yt, cd, ar, ys, yu, yc, yp, yn, ye) (nI p) s :=
  nm_e ⟨p + 1, yy_around_l hV hp p 0 (p + 1) (by omega) (by omega) (by omega) (by omega) h⟩
theorem yy_open_l {post : Int32 → Prop} {H : Nat} (hV : sk_V cd ar p) (hp : p ≤ 80) (h : post (nI H)) : ∀ q n, q ≤ p → q < n →
    wY_openParts_6 post tk tr ea dp yo lv yt cd ar ys yu yc yp yn ye n (nI H - nI (sk_H cd q)) (nI q - 1) := by
  intro q
  induction q with
  | zero =>
    intro n _ hn
    obtain ⟨m, rfl⟩ : ∃ m, n = m + 1 := ⟨n - 1, by omega⟩
    rw [sk_n1, show sk_H cd 0 = 0 from rfl, nI_0, Int32.sub_zero]
    exact br_t (by decide) h
  | succ q ih =>
    intro n hq hn
    obtain ⟨m, rfl⟩ : ∃ m, n = m + 1 := ⟨n - 1, by omega⟩
    rw [nI_pred]
    have hin : vp_in (nI q) 80 := vp_in_nI (by omega) (by decide)
    refine br_f (nI_pos (by omega)) (And.intro hin ?_)
    rw [sk_cl (by omega)]
    by_cases h26 : cd q = 26
    · rw [sk_H26 h26, nI_0, Int32.sub_zero]
      exact br_t h26 h
    · refine br_f h26 (And.intro hin (yy_opens (fun hO => ?_) (fun hO => ?_)))
      · refine br_f (by decide) (nm_r (e' := nI H - nI (sk_H cd q)) ?_ (And.intro hin ?_))
        · rw [sk_HO hO, ← nI_1]; grind
        · rw [sk_cl (by omega)]
          exact yy_closes (fun z => absurd z (sk_On hO).2.1) (fun _ => br_t (by decide) (nm_r (sk_am (nI q)) (ih m (by omega) (by omega))))
      · refine br_t (by decide) (And.intro hin ?_)
        rw [sk_cl (by omega)]
        refine yy_closes (fun hC => ?_) (fun hC => ?_)
        · have hB := sk_VB hV (q := q) (by omega) (Or.inl hC)
          refine br_f (by decide) (nm_r (e' := nI H - nI (sk_H cd q)) ?_ (nm_r (sk_am (nI q)) (ih m (by omega) (by omega))))
          obtain ⟨x, hx⟩ : ∃ x, sk_H cd q = x + 1 := ⟨sk_H cd q - 1, by omega⟩
          rw [sk_HC hC, hx, Nat.add_sub_cancel, ← nI_1]; grind
        · rw [sk_Hx h26 hO hC]
          exact br_t (by decide) (nm_r (sk_am (nI q)) (ih m (by omega) (by omega)))
theorem yy_open {post : Int32 → Prop} (hV : sk_V cd ar p) (hp : p ≤ 80) (h : post (nI (sk_H cd p))) : wpY_openParts post (tk, tr, ea, dp, yo, lv, yt, cd, ar, ys, yu, yc, yp, yn, ye) (nI p) := by
  refine nm_e ⟨p + 1, ?_⟩
  have := yy_open_l (tk := tk) (tr := tr) (ea := ea) (dp := dp) (yo := yo) (lv := lv) (yt := yt) (ys := ys) (yu := yu) (yc := yc) (yp := yp) (yn := yn) (ye := ye) hV hp h p (p + 1) (by omega) (by omega)
  rw [Int32.sub_self] at this
  exact this
end
end
section
/-! behind, definition, variables, names, arithmetic -/
section
variable {tk tr ea dp yo lv yt : Int32} {cd ar ys yu yc yp yn ye : Nat → Int32} {T p : Nat}
theorem yy_behind_l {post : Int32 → Prop} {w : Int32} {i r : Nat} (ht : tk = nI T) (hT : T ≤ 80) (hr : r < T) (hB : sk_B cd w i r) (h : post (nI r)) :
    ∀ d x n, x + d = r → i < x → d < n → wY_behind_7 post w tk tr ea dp yo lv yt cd ar ys yu yc yp yn ye n (nI (sk_H cd x - sk_H cd (i + 1))) (nI x) := by
  obtain ⟨b1, b2, b3, b4, b5⟩ := hB
  intro d
  induction d with
  | zero =>
    intro x n hx hi hn
    obtain ⟨m, rfl⟩ : ∃ m, n = m + 1 := ⟨n - 1, by omega⟩
    have e : x = r := by omega
    subst e
    have hin : vp_in (nI x) 80 := vp_in_nI (by omega) (by decide)
    rw [b3, Nat.sub_self]
    refine br_f (by rw [ht]; exact nI_ge hr (by omega)) (br_t nI_0 (And.intro hin ?_))
    rw [sk_cl (by omega)]
    refine yy_closes (fun _ => br_f (by decide) h) (fun hC => br_t (by decide) ?_)
    rcases b4 with z | z
    · exact absurd z hC
    · refine br_f z.1 (And.intro hin (br_t z.2 h))
  | succ d ih =>
    intro x n hx hi hn
    obtain ⟨m, rfl⟩ : ∃ m, n = m + 1 := ⟨n - 1, by omega⟩
    have hin : vp_in (nI x) 80 := vp_in_nI (by omega) (by decide)
    obtain ⟨c1, c2⟩ := b5 x hi (by omega)
    have h6 := sk_v_le (cd := cd) 0
    have hHb : sk_H cd x - sk_H cd (i + 1) < 2 ^ 31 := by
      have : ∀ q, sk_H cd q ≤ q := by
        intro q
        induction q with
        | zero => exact Nat.le_refl _
        | succ q ihq => rw [sk_H]; split; omega; split; omega; split <;> omega
      have := this x
      omega
    have hnext : sk_H cd (i + 1) ≤ sk_H cd (x + 1) := by
      by_cases e : x + 1 = r
      · rw [e, b3]; exact Nat.le_refl _
      · exact (b5 (x + 1) (by omega) (by omega)).1
    have hgo : ¬ (sk_C (cd x) ∧ sk_H cd x = sk_H cd (i + 1)) → wY_behind_52 post (wY_behind_7 post w tk tr ea dp yo lv yt cd ar ys yu yc yp yn ye m) w (nI (sk_H cd x - sk_H cd (i + 1))) (nI x) tk tr ea dp yo lv yt cd ar ys yu yc yp yn ye := by
      intro hs
      refine And.intro hin ?_
      rw [sk_cl (by omega)]
      refine yy_opens (fun hO => ?_) (fun hO => ?_)
      · refine br_f (by decide) (nm_r (nI_1 _) (And.intro hin ?_))
        rw [sk_cl (by omega)]
        refine yy_closes (fun z => absurd z (sk_On hO).2.1) (fun _ => br_t (by decide) (nm_r (nI_1 x) ?_))
        have := ih (x + 1) m (by omega) (by omega) (by omega)
        rw [sk_HO hO, show sk_H cd x + 1 - sk_H cd (i + 1) = sk_H cd x - sk_H cd (i + 1) + 1 from by omega] at this
        exact this
      · refine br_t (by decide) (And.intro hin ?_)
        rw [sk_cl (by omega)]
        refine yy_closes (fun hC => ?_) (fun hC => ?_)
        · have h1 : ¬ sk_H cd x = sk_H cd (i + 1) := fun z => hs ⟨hC, z⟩
          have := ih (x + 1) m (by omega) (by omega) (by omega)
          rw [sk_HC hC] at this
          refine br_f (by decide) (nm_r (e' := nI (sk_H cd x - 1 - sk_H cd (i + 1))) ?_ (nm_r (nI_1 x) this))
          rw [show sk_H cd x - sk_H cd (i + 1) = (sk_H cd x - 1 - sk_H cd (i + 1)) + 1 from by omega, pk_m1]
        · have h26 : ¬ cd x = 26 := fun z => by rw [sk_H26 z] at hnext; omega
          have := ih (x + 1) m (by omega) (by omega) (by omega)
          rw [sk_Hx h26 hO hC] at this
          exact br_t (by decide) (nm_r (nI_1 x) this)
    refine br_f (by rw [ht]; exact nI_ge (by omega) (by omega)) ?_
    by_cases e : sk_H cd x = sk_H cd (i + 1)
    · have hns := c2 e
      refine br_t (by rw [e, Nat.sub_self]; exact nI_0) (And.intro hin ?_)
      rw [sk_cl (by omega)]
      refine yy_closes (fun z => absurd (Or.inl z) hns) (fun _ => br_t (by decide) ?_)
      by_cases hw : w = 0
      · exact br_t hw (hgo (fun z => hns (Or.inl z.1)))
      · refine br_f hw (And.intro hin (br_f (fun z => hns (Or.inr ⟨hw, z⟩)) (hgo (fun z => hns (Or.inl z.1)))))
    · exact br_f (nI_ne0 (by omega) hHb) (hgo (fun z => e z.2))
theorem yy_behind {post : Int32 → Prop} {w : Int32} {i r : Nat} (ht : tk = nI T) (hT : T ≤ 80) (hr : r < T) (hB : sk_B cd w i r) (h : post (nI r)) : wpY_behind post (tk, tr, ea, dp, yo, lv, yt, cd, ar, ys, yu, yc, yp, yn, ye) (nI i) w := by
  refine nm_r (nI_1 i) ⟨r + 1, ?_⟩
  have := yy_behind_l (tr := tr) (ea := ea) (dp := dp) (yo := yo) (lv := lv) (yt := yt) (ar := ar) (ys := ys) (yu := yu) (yc := yc) (yp := yp) (yn := yn) (ye := ye) ht hT hr hB h (r - (i + 1)) (i + 1) (r + 1) (by have := hB.1; omega) (by omega) (by omega)
  rw [Nat.sub_self, nI_0] at this
  exact this
theorem yy_def_l {post : Int32 → Prop} {a : Int32} {b : Nat} (hb : b ≤ 80) (h : post (sk_o (sk_f cd ar a b))) : ∀ d q n, q + d = b → d < n → sk_f cd ar a q = none →
    wY_definition_2 post a (nI b) tk tr ea dp yo lv yt cd ar ys yu yc yp yn ye n (nI q) := by
  intro d
  induction d with
  | zero =>
    intro q n hq hn hf
    obtain ⟨m, rfl⟩ : ∃ m, n = m + 1 := ⟨n - 1, by omega⟩
    have e : q = b := by omega
    subst e
    rw [hf] at h
    exact br_t (nI_le (by omega) (by omega)) h
  | succ d ih =>
    intro q n hq hn hf
    obtain ⟨m, rfl⟩ : ∃ m, n = m + 1 := ⟨n - 1, by omega⟩
    have hin : vp_in (nI q) 80 := vp_in_nI (by omega) (by decide)
    refine br_f (nI_ge (by omega) (by omega)) (And.intro hin ?_)
    rw [sk_cl (by omega)]
    have hgo : cd q = 26 ∨ cd q = 28 → wY_definition_29 post (wY_definition_2 post a (nI b) tk tr ea dp yo lv yt cd ar ys yu yc yp yn ye m) a (nI b) (nI q) tk tr ea dp yo lv yt cd ar ys yu yc yp yn ye := by
      intro hd
      refine And.intro hin ?_
      rw [sk_cl (by omega)]
      by_cases e : ar q = a
      · rw [sk_f_mono (sk_f_hit hf ⟨hd, e⟩) (by omega)] at h
        exact br_t e h
      · exact br_f e (nm_r (nI_1 q) (ih (q + 1) m (by omega) (by omega) (by rw [sk_f_miss (fun z => e z.2)]; exact hf)))
    by_cases h26 : cd q = 26
    · exact br_t h26 (hgo (Or.inl h26))
    · refine br_f h26 (And.intro hin ?_)
      by_cases h28 : cd q = 28
      · exact br_t h28 (hgo (Or.inr h28))
      · refine br_f h28 (nm_r (nI_1 q) (ih (q + 1) m (by omega) (by omega) ?_))
        rw [sk_f_miss (fun z => by rcases z.1 with z | z <;> contradiction)]; exact hf
theorem yy_def {post : Int32 → Prop} {a : Int32} {b : Nat} (hb : b ≤ 80) (h : post (sk_o (sk_f cd ar a b))) : wpY_definition post (tk, tr, ea, dp, yo, lv, yt, cd, ar, ys, yu, yc, yp, yn, ye) a (nI b) :=
  ⟨b + 1, yy_def_l hb h b 0 (b + 1) (by omega) (by omega) rfl⟩
theorem yy_vars_l {post : Int32 → Prop} {b : Nat} (hb : b ≤ 80) (h : post (nI (sk_v cd b))) : ∀ d q n, q + d = b → d < n →
    wY_variables_4 post (nI b) tk tr ea dp yo lv yt cd ar ys yu yc yp yn ye n (nI (sk_v cd q)) (nI q) := by
  intro d
  induction d with
  | zero =>
    intro q n hq hn
    obtain ⟨m, rfl⟩ : ∃ m, n = m + 1 := ⟨n - 1, by omega⟩
    have e : q = b := by omega
    subst e
    exact br_t (nI_le (by omega) (by omega)) h
  | succ d ih =>
    intro q n hq hn
    obtain ⟨m, rfl⟩ : ∃ m, n = m + 1 := ⟨n - 1, by omega⟩
    have hin : vp_in (nI q) 80 := vp_in_nI (by omega) (by decide)
    refine br_f (nI_ge (by omega) (by omega)) (And.intro hin ?_)
    rw [sk_cl (by omega)]
    have := ih (q + 1) m (by omega) (by omega)
    by_cases h28 : cd q = 28
    · rw [sk_v28 h28] at this
      exact br_t h28 (nm_r (nI_1 _) (nm_r (nI_1 q) this))
    · rw [sk_vx h28] at this
      exact br_f h28 (nm_r (nI_1 q) this)
theorem yy_vars {post : Int32 → Prop} {b : Nat} (hb : b ≤ 80) (h : post (nI (sk_v cd b))) : wpY_variables post (tk, tr, ea, dp, yo, lv, yt, cd, ar, ys, yu, yc, yp, yn, ye) (nI b) :=
  ⟨b + 1, yy_vars_l hb h b 0 (b + 1) (by omega) (by omega)⟩
theorem yy_name {post : Int32 → Prop} {a : Int32} (h1 : sk_N a → post 1) (h0 : ¬ sk_N a → post 0) : wpY_isName post a :=
  br_c (fun e => h0 (fun z => z.1 e)) (fun e => br_c (fun g => h0 (fun z => absurd g (Int32.not_lt.mpr z.2))) (fun g => h1 ⟨e, Int32.not_lt.mp g⟩))
def sk_eI (c a s : Int32) (h : Nat) (t : Int32) : Int32 :=
  if c < 0 then 1 else if 27 < c then 1 else if c = 26 then 1 else if c = 15 ∧ ¬ sk_N a then 2 else if c = 17 ∧ ¬ s = 16 then 4
  else if c = 18 ∧ ¬ s = 16 ∧ ¬ s = 17 then 4 else if (c = 20 ∨ c = 21) ∧ ¬ s = 19 then 4 else if c = 22 ∧ ¬ s = 21 then 4
  else if c = 24 ∧ ¬ s = 23 then 4 else if c = 25 ∧ t < 0 then 4 else if c = 27 ∧ ¬ s < 0 then 4 else if sk_O c ∧ h = 6 then 5 else 0
theorem yy_in155 {post : Int32 → Prop} {c : Int32} (hV : sk_V cd ar p) (hp : p ≤ 80)
    (h : post (if sk_O c ∧ sk_H cd p = 6 then 5 else 0)) : wY_inside_155 post (nI p) c tk tr ea dp yo lv yt cd ar ys yu yc yp yn ye := by
  refine yy_opens (fun hO => br_f (by decide) (yy_open hV hp ?_)) (fun hO => br_t (by decide) ?_)
  · have h6 := sk_V6 hV p (Nat.le_refl p)
    by_cases e : sk_H cd p = 6
    · rw [if_pos ⟨hO, e⟩] at h
      exact br_t (by rw [e]; decide) h
    · rw [if_neg (fun z => e z.2)] at h
      exact br_f (fun z => e ((nI_eq (b := 6) (by omega) (by decide)).mp z)) h
  · rw [if_neg (fun z => hO z.1)] at h
    exact h
theorem yy_in51 {post : Int32 → Prop} {c s : Int32} (hV : sk_V cd ar p) (hp : p ≤ 80)
    (h : post (if c = 17 ∧ ¬ s = 16 then 4
  else if c = 18 ∧ ¬ s = 16 ∧ ¬ s = 17 then 4 else if (c = 20 ∨ c = 21) ∧ ¬ s = 19 then 4 else if c = 22 ∧ ¬ s = 21 then 4
  else if c = 24 ∧ ¬ s = 23 then 4 else if c = 25 ∧ sk_r (sk_Q cd p) cd 23 (sk_H cd p) < 0 then 4 else if c = 27 ∧ ¬ s < 0 then 4 else if sk_O c ∧ sk_H cd p = 6 then 5 else 0)) :
    wY_inside_51 post (nI p) c s tk tr ea dp yo lv yt cd ar ys yu yc yp yn ye := by
  have k143 : post (if c = 27 ∧ ¬ s < 0 then 4 else if sk_O c ∧ sk_H cd p = 6 then 5 else 0) → wY_inside_143 post (nI p) c s tk tr ea dp yo lv yt cd ar ys yu yc yp yn ye := by
    intro h
    refine br_c (fun c27 => br_c (fun e => ?_) (fun e => ?_)) (fun c27 => ?_)
    · rw [if_neg (fun z => z.2 e)] at h; exact yy_in155 hV hp h
    · rw [if_pos ⟨c27, e⟩] at h; exact h
    · rw [if_neg (fun z => c27 z.1)] at h; exact yy_in155 hV hp h
  have k127 : post (if c = 25 ∧ sk_r (sk_Q cd p) cd 23 (sk_H cd p) < 0 then 4 else if c = 27 ∧ ¬ s < 0 then 4 else if sk_O c ∧ sk_H cd p = 6 then 5 else 0) → wY_inside_127 post (nI p) c s tk tr ea dp yo lv yt cd ar ys yu yc yp yn ye := by
    intro h
    refine br_c (fun c27 => yy_around hV hp (br_c (fun e => ?_) (fun e => ?_))) (fun c27 => ?_)
    · rw [if_pos ⟨c27, e⟩] at h; exact h
    · rw [if_neg (fun z => e z.2)] at h; exact k143 h
    · rw [if_neg (fun z => c27 z.1)] at h; exact k143 h
  have k115 : post (if c = 24 ∧ ¬ s = 23 then 4 else if c = 25 ∧ sk_r (sk_Q cd p) cd 23 (sk_H cd p) < 0 then 4 else if c = 27 ∧ ¬ s < 0 then 4 else if sk_O c ∧ sk_H cd p = 6 then 5 else 0) → wY_inside_115 post (nI p) c s tk tr ea dp yo lv yt cd ar ys yu yc yp yn ye := by
    intro h
    refine br_c (fun c27 => br_c (fun e => ?_) (fun e => ?_)) (fun c27 => ?_)
    · rw [if_neg (fun z => z.2 e)] at h; exact k127 h
    · rw [if_pos ⟨c27, e⟩] at h; exact h
    · rw [if_neg (fun z => c27 z.1)] at h; exact k127 h
  have k101 : post (if c = 22 ∧ ¬ s = 21 then 4 else if c = 24 ∧ ¬ s = 23 then 4 else if c = 25 ∧ sk_r (sk_Q cd p) cd 23 (sk_H cd p) < 0 then 4 else if c = 27 ∧ ¬ s < 0 then 4 else if sk_O c ∧ sk_H cd p = 6 then 5 else 0) → wY_inside_101 post (nI p) c s tk tr ea dp yo lv yt cd ar ys yu yc yp yn ye := by
    intro h
    refine br_c (fun c27 => br_c (fun e => ?_) (fun e => ?_)) (fun c27 => ?_)
    · rw [if_neg (fun z => z.2 e)] at h; exact k115 h
    · rw [if_pos ⟨c27, e⟩] at h; exact h
    · rw [if_neg (fun z => c27 z.1)] at h; exact k115 h
  have k83 : post (if (c = 20 ∨ c = 21) ∧ ¬ s = 19 then 4 else if c = 22 ∧ ¬ s = 21 then 4 else if c = 24 ∧ ¬ s = 23 then 4 else if c = 25 ∧ sk_r (sk_Q cd p) cd 23 (sk_H cd p) < 0 then 4 else if c = 27 ∧ ¬ s < 0 then 4 else if sk_O c ∧ sk_H cd p = 6 then 5 else 0) → wY_inside_83 post (nI p) c s tk tr ea dp yo lv yt cd ar ys yu yc yp yn ye := by
    intro h
    have k95 : (c = 20 ∨ c = 21) → wY_inside_95 post (nI p) c s tk tr ea dp yo lv yt cd ar ys yu yc yp yn ye := by
      intro c27
      refine br_c (fun e => ?_) (fun e => ?_)
      · rw [if_neg (fun z => z.2 e)] at h; exact k101 h
      · rw [if_pos ⟨c27, e⟩] at h; exact h
    refine br_c (fun e => k95 (Or.inl e)) (fun e => br_c (fun g => k95 (Or.inr g)) (fun g => ?_))
    rw [if_neg (fun z => by rcases z.1 with z | z <;> contradiction)] at h; exact k101 h
  have k63 : post (if c = 18 ∧ ¬ s = 16 ∧ ¬ s = 17 then 4 else if (c = 20 ∨ c = 21) ∧ ¬ s = 19 then 4 else if c = 22 ∧ ¬ s = 21 then 4 else if c = 24 ∧ ¬ s = 23 then 4 else if c = 25 ∧ sk_r (sk_Q cd p) cd 23 (sk_H cd p) < 0 then 4 else if c = 27 ∧ ¬ s < 0 then 4 else if sk_O c ∧ sk_H cd p = 6 then 5 else 0) → wY_inside_63 post (nI p) c s tk tr ea dp yo lv yt cd ar ys yu yc yp yn ye := by
    intro h
    refine br_c (fun c27 => br_c (fun e => ?_) (fun e => br_c (fun g => ?_) (fun g => ?_))) (fun c27 => ?_)
    · rw [if_neg (fun z => z.2.1 e)] at h; exact k83 h
    · rw [if_neg (fun z => z.2.2 g)] at h; exact k83 h
    · rw [if_pos ⟨c27, e, g⟩] at h; exact h
    · rw [if_neg (fun z => c27 z.1)] at h; exact k83 h
  refine br_c (fun c27 => br_c (fun e => ?_) (fun e => ?_)) (fun c27 => ?_)
  · rw [if_neg (fun z => z.2 e)] at h; exact k63 h
  · rw [if_pos ⟨c27, e⟩] at h; exact h
  · rw [if_neg (fun z => c27 z.1)] at h; exact k63 h
theorem yy_inside {post : Int32 → Prop} (hV : sk_V cd ar p) (hp : p < 80)
    (h : post (sk_eI (cd p) (ar p) (sk_S cd p) (sk_H cd p) (sk_r (sk_Q cd p) cd 23 (sk_H cd p)))) : wpY_inside post (tk, tr, ea, dp, yo, lv, yt, cd, ar, ys, yu, yc, yp, yn, ye) (nI p) := by
  have hin : vp_in (nI p) 80 := vp_in_nI hp (by decide)
  refine And.intro hin (nm_r (congrArg cd (sk_cl hp)) (yy_sort hV (by omega) ?_))
  rw [sk_eI] at h
  refine br_c (fun e => ?_) (fun e => br_c (fun e1 => ?_) (fun e1 => br_c (fun e2 => ?_) (fun e2 => br_c (fun e3 => ?_) (fun e3 => ?_))))
  · rw [if_pos e] at h; exact h
  · rw [if_neg e, if_pos e1] at h; exact h
  · rw [if_neg e, if_neg e1, if_pos e2] at h; exact h
  · rw [if_neg e, if_neg e1, if_neg e2] at h
    refine And.intro hin ?_
    rw [sk_cl hp]
    refine yy_name (fun g => br_f (by decide) ?_) (fun g => br_t (by decide) ?_)
    · rw [if_neg (fun z => z.2 g)] at h; exact yy_in51 hV (by omega) h
    · rw [if_pos ⟨e3, g⟩] at h; exact h
  · rw [if_neg e, if_neg e1, if_neg e2, if_neg (fun z => e3 z.1)] at h
    exact yy_in51 hV (by omega) h
theorem yy_outside {post : Int32 → Prop} (hp : p < 80)
    (h : post (if ¬ (cd p = 26 ∨ cd p = 28) then 1 else if ¬ sk_N (ar p) then 2 else if (sk_f cd ar (ar p) p).isSome then 3 else 0)) : wpY_outside post (tk, tr, ea, dp, yo, lv, yt, cd, ar, ys, yu, yc, yp, yn, ye) (nI p) := by
  have hin : vp_in (nI p) 80 := vp_in_nI hp (by decide)
  have hgo : (cd p = 26 ∨ cd p = 28) → wY_outside_24 post (nI p) tk tr ea dp yo lv yt cd ar ys yu yc yp yn ye := by
    intro hd
    rw [if_neg (fun z => z hd)] at h
    refine And.intro hin ?_
    rw [sk_cl hp]
    refine yy_name (fun g => br_f (by decide) (And.intro hin (yy_def (by omega) ?_))) (fun g => br_t (by decide) ?_)
    · rw [if_neg (fun z => z g)] at h
      cases e : sk_f cd ar (ar p) p with
      | none => rw [e, if_neg (by decide)] at h; exact br_t (show (-1 : Int32) < 0 by decide) h
      | some d =>
        have := (sk_f_some p e).1
        rw [e, if_pos (show (some d).isSome = true from rfl)] at h; exact br_f (show ¬ nI d < 0 from nI_pos (by omega)) h
    · rw [if_pos g] at h; exact h
  refine And.intro hin ?_
  rw [sk_cl hp]
  refine br_c (fun e => hgo (Or.inl e)) (fun e => And.intro hin (br_c (fun g => hgo (Or.inr g)) (fun g => ?_)))
  rw [if_pos (fun z => by rcases z with z | z <;> contradiction)] at h
  exact h
end
end
section
/-! X's helpers of the translation -/
def sk_w (c x y : Int32) : Int32 :=
  if c = 1 then x + y else if c = 2 then x - y else if c = 3 then x * y else if c = 10 then (if x = y then 1 else 0)
  else if c = 11 then (if y ≤ x then 0 else 1) else if y = 0 then 0 else x / y
def sk_F (cd ar : Nat → Int32) (i : Nat) (va o a b : Int32) (w : Nat) : Prop :=
  (w = 3 ∧ o = 30 ∧ cd i = 0 ∧ cd (i + 1) = 0 ∧ sk_A (cd (i + 2)) ∧ a = sk_w (cd (i + 2)) (ar i) (ar (i + 1))) ∨
  (w = 2 ∧ o = 31 ∧ cd i = 0 ∧ sk_A (cd (i + 1)) ∧ a = ar i ∧ b = cd (i + 1)) ∨
  (w = 2 ∧ o = 32 ∧ cd i = 5 ∧ sk_A (cd (i + 1)) ∧ b = cd (i + 1)) ∨
  (w = 2 ∧ o = 33 ∧ cd i = 8 ∧ sk_A (cd (i + 1)) ∧ b = cd (i + 1)) ∨
  (w = 2 ∧ o = 34 ∧ cd i = 7 ∧ sk_A (cd (i + 1)) ∧ b = cd (i + 1)) ∨
  (w = 2 ∧ o = 35 ∧ cd i = 15 ∧ cd (i + 1) = 12 ∧ a = va) ∨
  (w = 2 ∧ o = 36 ∧ cd i = 15 ∧ cd (i + 1) = 13 ∧ a = va) ∨
  (w = 2 ∧ o = 37 ∧ (cd i = 10 ∨ cd i = 11) ∧ cd (i + 1) = 16 ∧ b = cd i)
theorem xx_isA {post : Int32 → Prop} {c : Int32} (h1 : sk_A c → post 1) (h0 : ¬ sk_A c → post 0) : wpX_isArithmetic post c := by
  have k10 : ¬ c = 1 → ¬ c = 2 → ¬ c = 3 → wX_isArithmetic_10 post c := fun n1 n2 n3 =>
    br_c (fun e => h1 (Or.inr (Or.inr (Or.inr (Or.inl e))))) (fun n10 => br_c (fun e => h1 (Or.inr (Or.inr (Or.inr (Or.inr e))))) (fun n11 => h0 (fun z => by rcases z with z | z | z | z | z <;> contradiction)))
  refine br_c (fun e => k10 (fun z => by rw [z] at e; exact absurd e (by decide)) (fun z => by rw [z] at e; exact absurd e (by decide)) (fun z => by rw [z] at e; exact absurd e (by decide))) (fun e => br_c (fun g => h1 ?_) (fun g => k10 (fun z => g (by rw [z]; decide)) (fun z => g (by rw [z]; decide)) (fun z => g (by rw [z]; decide))))
  have e0 : ¬ c < 0 := fun z => e (Int32.lt_trans z (by decide))
  obtain ⟨k, hk, rfl⟩ := nI_of2 (M := 3) (n := 3) (by decide) e0 g
  have : k = 0 ∨ k = 1 ∨ k = 2 ∨ k = 3 := by omega
  rcases this with rfl | rfl | rfl | rfl
  · exact absurd (by decide) e
  · exact Or.inl rfl
  · exact Or.inr (Or.inl rfl)
  · exact Or.inr (Or.inr (Or.inl rfl))
theorem xx_arith {post : Int32 → Prop} {c x y : Int32} (h : post (sk_w c x y)) : wpX_arithmetic post c x y := by
  rw [sk_w] at h
  refine br_c (fun e => ?_) (fun e => br_c (fun e1 => ?_) (fun e1 => br_c (fun e2 => ?_) (fun e2 => br_c (fun e3 => br_c (fun e4 => ?_) (fun e4 => ?_)) (fun e3 => br_c (fun e4 => br_c (fun e5 => ?_) (fun e5 => ?_)) (fun e4 => br_c (fun e5 => ?_) (fun e5 => And.intro e5 ?_))))))
  · rw [if_pos e] at h; exact h
  · rw [if_neg e, if_pos e1] at h; exact h
  · rw [if_neg e, if_neg e1, if_pos e2] at h; exact h
  · rw [if_neg e, if_neg e1, if_neg e2, if_pos e3, if_pos e4] at h; exact h
  · rw [if_neg e, if_neg e1, if_neg e2, if_pos e3, if_neg e4] at h; exact h
  · rw [if_neg e, if_neg e1, if_neg e2, if_neg e3, if_pos e4, if_pos e5] at h; exact h
  · rw [if_neg e, if_neg e1, if_neg e2, if_neg e3, if_pos e4, if_neg e5] at h; exact h
  · rw [if_neg e, if_neg e1, if_neg e2, if_neg e3, if_neg e4, if_pos e5] at h; exact h
  · rw [if_neg e, if_neg e1, if_neg e2, if_neg e3, if_neg e4, if_neg e5] at h; exact h
section
variable {tk tr ep ln vs ii cn da pl nf pt sp oc rn tu so : Int32} {cd ar op oa ob nk nv wt cf cc ps pa pe sk ou ce bk ct lm : Nat → Int32} {T p L f : Nat}
theorem xx_emit {post : Int32 → SX → Prop} {o a b : Int32} (hl : ln = nI L) (h : L < 256)
    (hp : post (nI L) (tk, tr, ep, nI (L + 1), vs, ii, cn, da, pl, nf, pt, sp, oc, rn, tu, so, cd, ar, upd op L o, upd oa L a, upd ob L b, nk, nv, wt, cf, cc, ps, pa, pe, sk, ou, ce, bk, ct, lm)) : wpX_emit post (tk, tr, ep, ln, vs, ii, cn, da, pl, nf, pt, sp, oc, rn, tu, so, cd, ar, op, oa, ob, nk, nv, wt, cf, cc, ps, pa, pe, sk, ou, ce, bk, ct, lm) o a b := by
  subst hl
  have hin : vp_in (nI L) 256 := vp_in_nI h (by decide)
  have hc : (nI L).toNatClampNeg = L := nI_clamp (by omega)
  have hq : post (nI (L + 1) - 1) (tk, tr, ep, nI (L + 1), vs, ii, cn, da, pl, nf, pt, sp, oc, rn, tu, so, cd, ar, upd op L o, upd oa L a, upd ob L b, nk, nv, wt, cf, cc, ps, pa, pe, sk, ou, ce, bk, ct, lm) := by rw [nI_pred]; exact hp
  exact And.intro hin (nm_r (congrArg (fun k => upd op k o) hc) (And.intro hin (nm_r (congrArg (fun k => upd oa k a) hc) (And.intro hin (nm_r (congrArg (fun k => upd ob k b) hc) (nm_r (nI_1 L) hq))))))
theorem xx_codeAt {post : Int32 → Prop} {i : Nat} (ht : tk = nI T) (hT : T ≤ 80) (hi : i ≤ 100) (h : post (if i < T then cd i else -1)) : wpX_codeAt post (tk, tr, ep, ln, vs, ii, cn, da, pl, nf, pt, sp, oc, rn, tu, so, cd, ar, op, oa, ob, nk, nv, wt, cf, cc, ps, pa, pe, sk, ou, ce, bk, ct, lm) (nI i) := by
  subst ht
  by_cases e : i < T
  · rw [if_pos e] at h
    refine br_f (nI_ge e (by omega)) (And.intro (vp_in_nI (by omega) (by decide)) ?_)
    rw [nI_clamp (by omega)]; exact h
  · rw [if_neg e] at h
    exact br_t (nI_le (by omega) (by omega)) h
theorem xx_fuse97 {post : SX → Prop} {r1 va : Int32} (hp : p < T) (hT : T ≤ 80) (hl : ln = nI L) (hL : L < 256)
    (hr : r1 = if p + 1 < T then cd (p + 1) else -1) (h15 : cd p = 15 → ∃ n, n < 12 ∧ ar p = nI n ∧ va = nv n) (hN : post (tk, tr, ep, ln, vs, ii, cn, da, pl, nI p, pt, sp, oc, rn, tu, so, cd, ar, op, oa, ob, nk, nv, wt, cf, cc, ps, pa, pe, sk, ou, ce, bk, ct, lm))
    (hF : ∀ o a b w, sk_F cd ar p va o a b w → post (tk, tr, ep, nI (L + 1), vs, ii, cn, da, pl, nI (p + w), pt, sp, oc, rn, tu, so, cd, ar, upd op L o, upd oa L a, upd ob L b, nk, nv, wt, cf, cc, ps, pa, pe, sk, ou, ce, bk, ct, lm)) :
    wX_fuse_97 post (nI p) (cd p) r1 tk tr ep ln vs ii cn da pl (nI (p + 2)) pt sp oc rn tu so cd ar op oa ob nk nv wt cf cc ps pa pe sk ou ce bk ct lm := by
  have hin : vp_in (nI p) 80 := vp_in_nI (by omega) (by decide)
  have hc : (nI p).toNatClampNeg = p := sk_cl (by omega)
  have hv : ∀ z, r1 = z → ¬ z = -1 → cd (p + 1) = z := by
    intro z e n
    by_cases g : p + 1 < T
    · rw [if_pos g] at hr; rw [← hr, e]
    · rw [if_neg g] at hr; exact absurd (by rw [← e, hr]) n
  have hA : sk_A r1 → cd (p + 1) = r1 := fun z => hv r1 rfl (fun y => by rw [y] at z; exact absurd z (by decide))
  have k279 : (cd p = 10 ∨ cd p = 11) → wX_fuse_279 post (nI p) (cd p) r1 tk tr ep ln vs ii cn da pl (nI (p + 2)) pt sp oc rn tu so cd ar op oa ob nk nv wt cf cc ps pa pe sk ou ce bk ct lm := fun z =>
    br_c (fun e => xx_emit hl hL (hF 37 0 (cd p) 2 (Or.inr (Or.inr (Or.inr (Or.inr (Or.inr (Or.inr (Or.inr ⟨rfl, rfl, z, hv 16 e (by decide), rfl⟩))))))))) (fun _ => hN)
  have k267 : wX_fuse_267 post (nI p) (cd p) r1 tk tr ep ln vs ii cn da pl (nI (p + 2)) pt sp oc rn tu so cd ar op oa ob nk nv wt cf cc ps pa pe sk ou ce bk ct lm := br_c (fun e => k279 (Or.inl e)) (fun _ => br_c (fun e => k279 (Or.inr e)) (fun _ => hN))
  have k233 : wX_fuse_233 post (nI p) (cd p) r1 tk tr ep ln vs ii cn da pl (nI (p + 2)) pt sp oc rn tu so cd ar op oa ob nk nv wt cf cc ps pa pe sk ou ce bk ct lm := by
    refine br_c (fun e15 => br_c (fun e13 => And.intro hin ?_) (fun _ => k267)) (fun _ => k267)
    obtain ⟨n, hn, e1, e2⟩ := h15 e15
    rw [hc, e1, nI_clamp (show n < 2 ^ 31 by omega)]
    exact And.intro (vp_in_nI hn (by decide)) (xx_emit hl hL (hF 36 (nv n) 0 2 (Or.inr (Or.inr (Or.inr (Or.inr (Or.inr (Or.inr (Or.inl ⟨rfl, rfl, e15, hv 13 e13 (by decide), e2.symm⟩)))))))))
  have k199 : wX_fuse_199 post (nI p) (cd p) r1 tk tr ep ln vs ii cn da pl (nI (p + 2)) pt sp oc rn tu so cd ar op oa ob nk nv wt cf cc ps pa pe sk ou ce bk ct lm := by
    refine br_c (fun e15 => br_c (fun e13 => And.intro hin ?_) (fun _ => k233)) (fun _ => k233)
    obtain ⟨n, hn, e1, e2⟩ := h15 e15
    rw [hc, e1, nI_clamp (show n < 2 ^ 31 by omega)]
    exact And.intro (vp_in_nI hn (by decide)) (xx_emit hl hL (hF 35 (nv n) 0 2 (Or.inr (Or.inr (Or.inr (Or.inr (Or.inr (Or.inl ⟨rfl, rfl, e15, hv 12 e13 (by decide), e2.symm⟩))))))))
  have k174 : wX_fuse_174 post (nI p) (cd p) r1 tk tr ep ln vs ii cn da pl (nI (p + 2)) pt sp oc rn tu so cd ar op oa ob nk nv wt cf cc ps pa pe sk ou ce bk ct lm :=
    br_c (fun e => xx_isA (fun a => br_f (by decide) (xx_emit hl hL (hF 34 0 r1 2 (Or.inr (Or.inr (Or.inr (Or.inr (Or.inl ⟨rfl, rfl, e, by rw [hA a]; exact a, (hA a).symm⟩)))))))) (fun _ => br_t rfl k199)) (fun _ => k199)
  have k149 : wX_fuse_149 post (nI p) (cd p) r1 tk tr ep ln vs ii cn da pl (nI (p + 2)) pt sp oc rn tu so cd ar op oa ob nk nv wt cf cc ps pa pe sk ou ce bk ct lm :=
    br_c (fun e => xx_isA (fun a => br_f (by decide) (xx_emit hl hL (hF 33 0 r1 2 (Or.inr (Or.inr (Or.inr (Or.inl ⟨rfl, rfl, e, by rw [hA a]; exact a, (hA a).symm⟩))))))) (fun _ => br_t rfl k174)) (fun _ => k174)
  have k125 : wX_fuse_125 post (nI p) (cd p) r1 tk tr ep ln vs ii cn da pl (nI (p + 2)) pt sp oc rn tu so cd ar op oa ob nk nv wt cf cc ps pa pe sk ou ce bk ct lm :=
    br_c (fun e => xx_isA (fun a => br_f (by decide) (xx_emit hl hL (hF 32 0 r1 2 (Or.inr (Or.inr (Or.inl ⟨rfl, rfl, e, by rw [hA a]; exact a, (hA a).symm⟩)))))) (fun _ => br_t rfl k149)) (fun _ => k149)
  refine br_c (fun e => xx_isA (fun a => br_f (by decide) (And.intro hin ?_)) (fun _ => br_t rfl k125)) (fun _ => k125)
  rw [hc]
  exact xx_emit hl hL (hF 31 (ar p) r1 2 (Or.inr (Or.inl ⟨rfl, rfl, e, by rw [hA a]; exact a, rfl, (hA a).symm⟩)))
theorem xx_fuse {post : SX → Prop} {va : Int32} (ht : tk = nI T) (hp : p < T) (hT : T ≤ 80) (hl : ln = nI L) (hL : L < 256) (hf : nf = nI f) (hf1 : f ≤ 100)
    (h15 : cd p = 15 → ∃ n, n < 12 ∧ ar p = nI n ∧ va = nv n) (h0 : p < f → post (tk, tr, ep, ln, vs, ii, cn, da, pl, nf, pt, sp, oc, rn, tu, so, cd, ar, op, oa, ob, nk, nv, wt, cf, cc, ps, pa, pe, sk, ou, ce, bk, ct, lm)) (hN : f ≤ p → post (tk, tr, ep, ln, vs, ii, cn, da, pl, nI p, pt, sp, oc, rn, tu, so, cd, ar, op, oa, ob, nk, nv, wt, cf, cc, ps, pa, pe, sk, ou, ce, bk, ct, lm))
    (hF : f ≤ p → ∀ o a b w, sk_F cd ar p va o a b w → post (tk, tr, ep, nI (L + 1), vs, ii, cn, da, pl, nI (p + w), pt, sp, oc, rn, tu, so, cd, ar, upd op L o, upd oa L a, upd ob L b, nk, nv, wt, cf, cc, ps, pa, pe, sk, ou, ce, bk, ct, lm)) :
    wpX_fuse post (tk, tr, ep, ln, vs, ii, cn, da, pl, nf, pt, sp, oc, rn, tu, so, cd, ar, op, oa, ob, nk, nv, wt, cf, cc, ps, pa, pe, sk, ou, ce, bk, ct, lm) (nI p) := by
  subst hf
  by_cases e : f ≤ p
  · have hin : vp_in (nI p) 80 := vp_in_nI (by omega) (by decide)
    have hc : (nI p).toNatClampNeg = p := sk_cl (by omega)
    have k97 : ∀ r1, (r1 = if p + 1 < T then cd (p + 1) else -1) → wX_fuse_97 post (nI p) (cd p) r1 tk tr ep ln vs ii cn da pl (nI (p + 2)) pt sp oc rn tu so cd ar op oa ob nk nv wt cf cc ps pa pe sk ou ce bk ct lm :=
      fun r1 hr => xx_fuse97 hp hT hl hL hr h15 (hN e) (hF e)
    refine br_t (nI_le e (by omega)) (And.intro hin (nm_r (congrArg cd hc) ?_))
    rw [show nI p + 1 = nI (p + 1) from nI_1 p, show nI p + 2 = nI (p + 2) from nI_add p 2]
    refine xx_codeAt ht hT (by omega) (xx_codeAt ht hT (by omega) (nm_e ?_))
    refine br_c (fun e0 => br_c (fun e1 => xx_isA (fun a => br_f (by decide) (And.intro hin (And.intro ?_ ?_))) (fun _ => br_t rfl (k97 _ rfl))) (fun _ => k97 _ rfl)) (fun _ => k97 _ rfl)
    · have : p + 1 < T := by
        by_cases g : p + 1 < T
        · exact g
        · rw [if_neg g] at e1; exact absurd e1 (by decide)
      exact vp_in_nI (by omega) (by decide)
    · have g1 : p + 1 < T := by
        by_cases g : p + 1 < T
        · exact g
        · rw [if_neg g] at e1; exact absurd e1 (by decide)
      have g2 : p + 2 < T := by
        by_cases g : p + 2 < T
        · exact g
        · rw [if_neg g] at a; exact absurd a (by decide)
      rw [if_pos g1] at e1
      rw [if_pos g2] at a ⊢
      rw [hc, sk_cl (show p + 1 < 80 by omega)]
      refine xx_arith (xx_emit hl hL (nm_r (nI_add p 3) ?_))
      exact hF e 30 _ 3 3 (Or.inl ⟨rfl, rfl, e0, e1, a, rfl⟩)
  · exact br_f (nI_ge (by omega) (by omega)) (h0 (by omega))
end
end
section
/-! what the image holds: one block of operations a token -/
abbrev im_l : Type := List (Int32 × Option Int32 × Option Int32)
def im_b (op oa ob : Nat → Int32) : Nat → im_l → Prop
  | _, [] => True
  | x, e :: t => (op x = e.1 ∧ (∀ v, e.2.1 = some v → oa x = v) ∧ (∀ v, e.2.2 = some v → ob x = v)) ∧ im_b op oa ob (x + 1) t
def im_c (cd ar : Nat → Int32) : Nat → Nat → im_l
  | _, 0 => []
  | q, m + 1 => (cd q, some (ar q), none) :: im_c cd ar (q + 1) m
theorem im_c_len {cd ar : Nat → Int32} : ∀ m q, (im_c cd ar q m).length = m := by
  intro m
  induction m with
  | zero => intro q; rfl
  | succ m ih => intro q; rw [im_c, List.length_cons, ih]
def im_k (cd ar : Nat → Int32) (A : Nat → Nat) (p : Nat) (W : Prop) (i : Nat) (l : im_l) : Prop :=
  (sk_I cd i = false ∧ l = []) ∨
  (sk_I cd i = true ∧ sk_pl (cd i) ∧ (l = [(cd i, some (ar i), none)] ∨ ∃ o a b w, sk_F cd ar i 0 o a b w ∧ l = [(o, some a, some b), (cd i, some (ar i), none)])) ∨
  (sk_I cd i = true ∧ cd i = 15 ∧ ∃ d, sk_f cd ar (ar i) p = some d ∧ (W → d < i) ∧ cd d = 28 ∧ (l = [(0, some (nI (sk_v cd d)), none)] ∨ ∃ o a b w, sk_F cd ar i (nI (sk_v cd d)) o a b w ∧ l = [(o, some a, some b), (0, some (nI (sk_v cd d)), none)])) ∨
  (sk_I cd i = true ∧ cd i = 15 ∧ ∃ d, sk_f cd ar (ar i) p = some d ∧ (W → d < i) ∧ cd d = 26 ∧ (l = [(15, some (nI (A (d + 1))), none)] ∨ ∃ m, m ≤ 4 ∧ d + 1 + m < p ∧ (∀ q, d < q → q < d + 1 + m → sk_pl (cd q)) ∧ cd (d + 1 + m) = 27 ∧ l = (29, none, none) :: im_c cd ar (d + 1) m)) ∨
  (sk_I cd i = true ∧ cd i = 15 ∧ W ∧ sk_f cd ar (ar i) i = none ∧ l = [(15, none, none)]) ∨
  (sk_I cd i = true ∧ (cd i = 16 ∨ cd i = 17 ∨ cd i = 21) ∧ l = [(cd i, none, none)]) ∨
  (sk_I cd i = true ∧ (cd i = 18 ∨ cd i = 19) ∧ l = []) ∨
  (sk_I cd i = true ∧ (cd i = 20 ∨ cd i = 22) ∧ l = [(cd i, some (nI (A (sk_Q cd i (sk_H cd i - 1) + 1))), none)]) ∨
  (sk_I cd i = true ∧ cd i = 23 ∧ l = [(cd i, none, some (nI (sk_H cd i)))]) ∨
  (sk_I cd i = true ∧ cd i = 24 ∧ l = [(24, some (nI (A (sk_Q cd i (sk_H cd i - 1) + 1))), some (nI (sk_H cd i - 1)))]) ∨
  (sk_I cd i = true ∧ cd i = 25 ∧ ∃ j, sk_t (fun j => cd (sk_Q cd i j)) (sk_H cd i) = some j ∧ l = [(25, none, some (nI j))]) ∨
  (sk_I cd i = true ∧ cd i = 27 ∧ l = [(27, none, none)])
theorem sk_Qle {cd : Nat → Int32} : ∀ p j, sk_Q cd p j ≤ p := by
  intro p
  induction p with
  | zero => intro j; exact Nat.le_refl 0
  | succ p ih => intro j; rw [sk_Q]; split; omega; have := ih j; omega
theorem im_k_up {cd ar : Nat → Int32} {A A' : Nat → Nat} {p p' i : Nat} {W : Prop} {l : im_l} (h : im_k cd ar A p W i l) (hi : i < p) (hA : ∀ x, x ≤ p → A' x = A x) (hp : p ≤ p') : im_k cd ar A' p' W i l := by
  have hQ : A' (sk_Q cd i (sk_H cd i - 1) + 1) = A (sk_Q cd i (sk_H cd i - 1) + 1) := hA _ (by have := sk_Qle (cd := cd) i (sk_H cd i - 1); omega)
  rcases h with h | h | ⟨h1, h2, d, h3, h4⟩ | ⟨h1, h2, d, h3, h3', h4, h5⟩ | h | h | h | h | h | h | h | h
  · exact Or.inl h
  · exact Or.inr (Or.inl h)
  · exact Or.inr (Or.inr (Or.inl ⟨h1, h2, d, sk_f_mono h3 hp, h4⟩))
  · have hd := (sk_f_some p h3).1
    refine Or.inr (Or.inr (Or.inr (Or.inl ⟨h1, h2, d, sk_f_mono h3 hp, h3', h4, ?_⟩)))
    rcases h5 with h5 | ⟨m, m1, m2, m3⟩
    · rw [hA _ (by omega)]; exact Or.inl h5
    · exact Or.inr ⟨m, m1, by omega, m3⟩
  · exact Or.inr (Or.inr (Or.inr (Or.inr (Or.inl h))))
  · exact Or.inr (Or.inr (Or.inr (Or.inr (Or.inr (Or.inl h)))))
  · exact Or.inr (Or.inr (Or.inr (Or.inr (Or.inr (Or.inr (Or.inl h))))))
  · rw [← hQ] at h; exact Or.inr (Or.inr (Or.inr (Or.inr (Or.inr (Or.inr (Or.inr (Or.inl h)))))))
  · exact Or.inr (Or.inr (Or.inr (Or.inr (Or.inr (Or.inr (Or.inr (Or.inr (Or.inl h))))))))
  · rw [← hQ] at h; exact Or.inr (Or.inr (Or.inr (Or.inr (Or.inr (Or.inr (Or.inr (Or.inr (Or.inr (Or.inl h)))))))))
  · exact Or.inr (Or.inr (Or.inr (Or.inr (Or.inr (Or.inr (Or.inr (Or.inr (Or.inr (Or.inr (Or.inl h))))))))))
  · exact Or.inr (Or.inr (Or.inr (Or.inr (Or.inr (Or.inr (Or.inr (Or.inr (Or.inr (Or.inr (Or.inr h))))))))))
abbrev sk_P (c : Int32) : Prop := c = 16 ∨ c = 17 ∨ c = 21 ∨ c = 23
theorem im_k_P {cd ar : Nat → Int32} {A : Nat → Nat} {p i : Nat} {W : Prop} {l : im_l} (h : im_k cd ar A p W i l) (hI : sk_I cd i = true) (hc : sk_P (cd i)) : ∃ b, l = [(cd i, none, b)] := by
  rcases h with h | h | h | h | h | h | h | h | h | h | h | h
  · rw [hI] at h; exact absurd h.1 (by decide)
  · have := h.2.1.2; rcases hc with c | c | c | c <;> rw [c] at this <;> exact absurd this (by decide)
  · have := h.2.1; rcases hc with c | c | c | c <;> rw [c] at this <;> exact absurd this (by decide)
  · have := h.2.1; rcases hc with c | c | c | c <;> rw [c] at this <;> exact absurd this (by decide)
  · have := h.2.1; rcases hc with c | c | c | c <;> rw [c] at this <;> exact absurd this (by decide)
  · exact ⟨none, h.2.2⟩
  · have := h.2.1; rcases hc with c | c | c | c <;> rw [c] at this <;> exact absurd this (by decide)
  · have := h.2.1; rcases hc with c | c | c | c <;> rw [c] at this <;> exact absurd this (by decide)
  · exact ⟨_, h.2.2⟩
  · have := h.2.1; rcases hc with c | c | c | c <;> rw [c] at this <;> exact absurd this (by decide)
  · have := h.2.1; rcases hc with c | c | c | c <;> rw [c] at this <;> exact absurd this (by decide)
  · have := h.2.1; rcases hc with c | c | c | c <;> rw [c] at this <;> exact absurd this (by decide)
theorem im_k_19 {cd ar : Nat → Int32} {A : Nat → Nat} {p i : Nat} {W : Prop} {l : im_l} (h : im_k cd ar A p W i l) (hc : cd i = 19) : l = [] := by
  rcases h with h | h | h | h | h | h | h | h | h | h | h | h
  · exact h.2
  · have := h.2.1.2; rw [hc] at this; exact absurd this (by decide)
  · have := h.2.1; rw [hc] at this; exact absurd this (by decide)
  · have := h.2.1; rw [hc] at this; exact absurd this (by decide)
  · have := h.2.1; rw [hc] at this; exact absurd this (by decide)
  · have := h.2.1; rw [hc] at this; exact absurd this (by decide)
  · exact h.2.2
  · have := h.2.1; rw [hc] at this; exact absurd this (by decide)
  · have := h.2.1; rw [hc] at this; exact absurd this (by decide)
  · have := h.2.1; rw [hc] at this; exact absurd this (by decide)
  · have := h.2.1; rw [hc] at this; exact absurd this (by decide)
  · have := h.2.1; rw [hc] at this; exact absurd this (by decide)
theorem im_b_ag {op oa ob op' oa' ob' : Nat → Int32} : ∀ (l : im_l) x, im_b op oa ob x l → (∀ y, x ≤ y → y < x + l.length → op' y = op y ∧ oa' y = oa y ∧ ob' y = ob y) → im_b op' oa' ob' x l := by
  intro l
  induction l with
  | nil => intro x _ _; trivial
  | cons e t ih =>
    intro x h g
    obtain ⟨⟨h1, h2, h3⟩, h4⟩ := h
    have hl : (e :: t).length = t.length + 1 := rfl
    obtain ⟨g1, g2, g3⟩ := g x (by omega) (by omega)
    exact ⟨⟨by rw [g1]; exact h1, fun v hv => by rw [g2]; exact h2 v hv, fun v hv => by rw [g3]; exact h3 v hv⟩, ih (x + 1) h4 (fun y y1 y2 => g y (by omega) (by omega))⟩
def iv_T (cd ar : Nat → Int32) (A : Nat → Nat) (p : Nat) (W : Prop) (op oa ob : Nat → Int32) : Prop :=
  ∀ i, i < p → ∃ l, im_k cd ar A p W i l ∧ A (i + 1) = A i + l.length ∧ im_b op oa ob (A i) l
def iv_A (A : Nat → Nat) (p : Nat) : Prop := ∀ i j, i ≤ j → j ≤ p → A i ≤ A j
section
variable {cd ar op oa ob op' oa' ob' : Nat → Int32} {A A' : Nat → Nat} {p : Nat} {W : Prop}
theorem iv_A_s (h : iv_A A p) (hA : ∀ x, x ≤ p → A' x = A x) (h1 : A p ≤ A' (p + 1)) : iv_A A' (p + 1) := by
  intro i j hij hj
  by_cases e : j = p + 1
  · by_cases e2 : i = p + 1
    · rw [e, e2]; exact Nat.le_refl _
    · rw [e, hA i (by omega)]
      exact Nat.le_trans (h i p (by omega) (Nat.le_refl p)) h1
  · rw [hA i (by omega), hA j (by omega)]
    exact h i j hij (by omega)
theorem iv_T_s (h : iv_T cd ar A p W op oa ob) (hm : iv_A A p) (hA : ∀ x, x ≤ p → A' x = A x) (hag : ∀ y, y < A p → op' y = op y ∧ oa' y = oa y ∧ ob' y = ob y)
    (hn : ∃ l, im_k cd ar A' (p + 1) W p l ∧ A' (p + 1) = A p + l.length ∧ im_b op' oa' ob' (A p) l) : iv_T cd ar A' (p + 1) W op' oa' ob' := by
  intro i hi
  by_cases e : i = p
  · subst e
    obtain ⟨l, l1, l2, l3⟩ := hn
    exact ⟨l, l1, by rw [hA i (Nat.le_refl i)]; exact l2, by rw [hA i (Nat.le_refl i)]; exact l3⟩
  · obtain ⟨l, l1, l2, l3⟩ := h i (by omega)
    refine ⟨l, im_k_up l1 (by omega) hA (by omega), ?_, ?_⟩
    · rw [hA _ (by omega), hA _ (by omega)]; exact l2
    · rw [hA _ (by omega)]
      refine im_b_ag l _ l3 (fun y y1 y2 => hag y ?_)
      have := hm (i + 1) p (by omega) (Nat.le_refl p)
      omega
theorem iv_T_P (h : iv_T cd ar A p W op oa ob) {i : Nat} (hi : i < p) (hI : sk_I cd i = true) (hc : sk_P (cd i)) : A (i + 1) = A i + 1 := by
  obtain ⟨l, l1, l2, l3⟩ := h i hi
  obtain ⟨b, hb⟩ := im_k_P l1 hI hc
  rw [hb] at l2; exact l2
theorem iv_T_patch (h : iv_T cd ar A p W op oa ob) (hm : iv_A A p) {i0 : Nat} {v : Int32} (h0 : i0 < p) (hI : sk_I cd i0 = true) (hc : sk_P (cd i0)) : iv_T cd ar A p W op (upd oa (A i0) v) ob := by
  intro i hi
  obtain ⟨l, l1, l2, l3⟩ := h i hi
  refine ⟨l, l1, l2, ?_⟩
  by_cases e : i = i0
  · subst e
    obtain ⟨b, hb⟩ := im_k_P l1 hI hc
    subst hb
    exact ⟨⟨l3.1.1, (fun v hv => nomatch hv), l3.1.2.2⟩, trivial⟩
  · refine im_b_ag l _ l3 (fun y y1 y2 => ⟨rfl, pk_un ?_, rfl⟩)
    have hp := iv_T_P h h0 hI hc
    by_cases e2 : i < i0
    · have := hm (i + 1) i0 (by omega) (by omega); omega
    · have := hm (i0 + 1) i (by omega) (by omega); omega
/-- the target of a jump: known, or its part is still open -/
def iv_g (cd : Nat → Int32) (A : Nat → Nat) (oa : Nat → Int32) (p i : Nat) : Prop :=
  (cd i = 16 → (∃ r, r < p ∧ sk_B cd 1 i r ∧ oa (A i) = nI (A (r + 1))) ∨ ∃ j, j < sk_H cd p ∧ sk_Q cd p j = i ∧ sk_E cd p j = i) ∧
  (cd i = 17 ∨ cd i = 21 → (∃ r, r < p ∧ sk_B cd 0 i r ∧ oa (A i) = nI (A (r + 1))) ∨ ∃ j, j < sk_H cd p ∧ sk_E cd p j = i) ∧
  (cd i = 23 → (∃ r, r < p ∧ sk_B cd 0 i r ∧ oa (A i) = nI (A (r + 1))) ∨ ∃ j, j < sk_H cd p ∧ sk_Q cd p j = i)
def iv_G (cd : Nat → Int32) (A : Nat → Nat) (oa : Nat → Int32) (p : Nat) : Prop := ∀ i, i < p → sk_I cd i = true → iv_g cd A oa p i
theorem iv_g_x {q i : Nat} (h : ¬ sk_P (cd i)) : iv_g cd A oa q i :=
  ⟨fun e => absurd (Or.inl e) h, fun e => absurd (by rcases e with e | e; exact Or.inr (Or.inl e); exact Or.inr (Or.inr (Or.inl e))) h, fun e => absurd (Or.inr (Or.inr (Or.inr e))) h⟩
theorem iv_G_keep (h : iv_G cd A oa p) (hA : ∀ x, x ≤ p → A' x = A x) (hag : ∀ i, i < p → sk_I cd i = true → sk_P (cd i) → oa' (A i) = oa (A i))
    (hk : ∀ j, j < sk_H cd p → j < sk_H cd (p + 1) ∧ sk_Q cd (p + 1) j = sk_Q cd p j ∧ sk_E cd (p + 1) j = sk_E cd p j)
    (hn : sk_I cd p = true → iv_g cd A' oa' (p + 1) p) : iv_G cd A' oa' (p + 1) := by
  intro i hi hI
  by_cases e : i = p
  · subst e; exact hn hI
  · by_cases hP : sk_P (cd i)
    · obtain ⟨a, b, c⟩ := h i (by omega) hI
      have g := hag i (by omega) hI hP
      have gA := hA i (by omega)
      refine ⟨fun z => ?_, fun z => ?_, fun z => ?_⟩
      · rcases a z with ⟨r, r1, r2, r3⟩ | ⟨j, j1, j2, j3⟩
        · exact Or.inl ⟨r, by omega, r2, by rw [gA, g, hA _ (by omega)]; exact r3⟩
        · obtain ⟨k1, k2, k3⟩ := hk j j1
          exact Or.inr ⟨j, k1, by rw [k2]; exact j2, by rw [k3]; exact j3⟩
      · rcases b z with ⟨r, r1, r2, r3⟩ | ⟨j, j1, j2⟩
        · exact Or.inl ⟨r, by omega, r2, by rw [gA, g, hA _ (by omega)]; exact r3⟩
        · obtain ⟨k1, k2, k3⟩ := hk j j1
          exact Or.inr ⟨j, k1, by rw [k3]; exact j2⟩
      · rcases c z with ⟨r, r1, r2, r3⟩ | ⟨j, j1, j2⟩
        · exact Or.inl ⟨r, by omega, r2, by rw [gA, g, hA _ (by omega)]; exact r3⟩
        · obtain ⟨k1, k2, k3⟩ := hk j j1
          exact Or.inr ⟨j, k1, by rw [k2]; exact j2⟩
    · exact iv_g_x hP
theorem iv_G_top (hV : sk_V cd ar p) (h : iv_G cd A oa p) (h0 : 0 < sk_H cd p) (hA : ∀ x, x ≤ p → A' x = A x)
    (hag : ∀ i, i < p → sk_I cd i = true → sk_P (cd i) → ¬ i = sk_E cd p (sk_H cd p - 1) → oa' (A i) = oa (A i))
    (hk : ∀ j, j + 1 < sk_H cd p → j < sk_H cd (p + 1) ∧ sk_Q cd (p + 1) j = sk_Q cd p j ∧ sk_E cd (p + 1) j = sk_E cd p j)
    (ht : iv_g cd A' oa' (p + 1) (sk_E cd p (sk_H cd p - 1)))
    (hn : iv_g cd A' oa' (p + 1) p) : iv_G cd A' oa' (p + 1) := by
  intro i hi hI
  by_cases e : i = p
  · subst e; exact hn
  · by_cases e2 : i = sk_E cd p (sk_H cd p - 1)
    · rw [e2]; exact ht
    · by_cases hP : sk_P (cd i)
      · obtain ⟨a, b, c⟩ := h i (by omega) hI
        have g := hag i (by omega) hI hP e2
        have gA := hA i (by omega)
        refine ⟨fun z => ?_, fun z => ?_, fun z => ?_⟩
        · rcases a z with ⟨r, r1, r2, r3⟩ | ⟨j, j1, j2, j3⟩
          · exact Or.inl ⟨r, by omega, r2, by rw [gA, g, hA _ (by omega)]; exact r3⟩
          · have hj : j + 1 < sk_H cd p := by
              by_cases y : j + 1 = sk_H cd p
              · exact absurd (by rw [← j3]; congr 1; omega) e2
              · omega
            obtain ⟨k1, k2, k3⟩ := hk j hj
            exact Or.inr ⟨j, k1, by rw [k2]; exact j2, by rw [k3]; exact j3⟩
        · rcases b z with ⟨r, r1, r2, r3⟩ | ⟨j, j1, j2⟩
          · exact Or.inl ⟨r, by omega, r2, by rw [gA, g, hA _ (by omega)]; exact r3⟩
          · have hj : j + 1 < sk_H cd p := by
              by_cases y : j + 1 = sk_H cd p
              · exact absurd (by rw [← j2]; congr 1; omega) e2
              · omega
            obtain ⟨k1, k2, k3⟩ := hk j hj
            exact Or.inr ⟨j, k1, by rw [k3]; exact j2⟩
        · rcases c z with ⟨r, r1, r2, r3⟩ | ⟨j, j1, j2⟩
          · exact Or.inl ⟨r, by omega, r2, by rw [gA, g, hA _ (by omega)]; exact r3⟩
          · have hj : j + 1 < sk_H cd p := by
              by_cases y : j + 1 = sk_H cd p
              · have hE : sk_E cd p j = sk_Q cd p j := by
                  rcases sk_mk hV p (Nat.le_refl p) j j1 with q | q | q
                  · exact q
                  · rw [j2, z] at q; exact absurd q.1 (by decide)
                  · rw [j2, z] at q; exact absurd q.1 (by decide)
                exact absurd (by rw [← j2, ← hE]; congr 1; omega) e2
              · omega
            obtain ⟨k1, k2, k3⟩ := hk j hj
            exact Or.inr ⟨j, k1, by rw [k2]; exact j2⟩
      · exact iv_g_x hP
end
end
section
/-! the other parts of the invariant, and how each token keeps them -/
abbrev sk_al (c : Int32) : Prop := sk_A c ∨ c = 0 ∨ c = 12 ∨ c = 13 ∨ c = 16
theorem sk_F_al {cd ar : Nat → Int32} {i w : Nat} {va o a b : Int32} (h : sk_F cd ar i va o a b w) : sk_al (cd (i + 1)) ∧ (o = 30 → sk_al (cd (i + 2))) ∧ 30 ≤ o ∧ (w = 2 ∨ (w = 3 ∧ o = 30)) ∧ (w = 3 ↔ o = 30) := by
  rcases h with ⟨h1, h2, h3, h4, h5, h6⟩ | ⟨h1, h2, h3, h4, h5⟩ | ⟨h1, h2, h3, h4, h5⟩ | ⟨h1, h2, h3, h4, h5⟩ | ⟨h1, h2, h3, h4, h5⟩ | ⟨h1, h2, h3, h4, h5⟩ | ⟨h1, h2, h3, h4, h5⟩ | ⟨h1, h2, h3, h4, h5⟩
  · refine ⟨Or.inr (Or.inl h4), fun _ => Or.inl h5, by rw [h2]; decide, Or.inr ⟨h1, h2⟩, ⟨fun _ => h2, fun _ => h1⟩⟩
  · refine ⟨Or.inl h4, (fun e => by rw [h2] at e; exact absurd e (by decide)), by rw [h2]; decide, Or.inl h1, (by rw [h1, h2]; decide)⟩
  · refine ⟨Or.inl h4, (fun e => by rw [h2] at e; exact absurd e (by decide)), by rw [h2]; decide, Or.inl h1, (by rw [h1, h2]; decide)⟩
  · refine ⟨Or.inl h4, (fun e => by rw [h2] at e; exact absurd e (by decide)), by rw [h2]; decide, Or.inl h1, (by rw [h1, h2]; decide)⟩
  · refine ⟨Or.inl h4, (fun e => by rw [h2] at e; exact absurd e (by decide)), by rw [h2]; decide, Or.inl h1, (by rw [h1, h2]; decide)⟩
  · refine ⟨Or.inr (Or.inr (Or.inl h4)), (fun e => by rw [h2] at e; exact absurd e (by decide)), by rw [h2]; decide, Or.inl h1, (by rw [h1, h2]; decide)⟩
  · refine ⟨Or.inr (Or.inr (Or.inr (Or.inl h4))), (fun e => by rw [h2] at e; exact absurd e (by decide)), by rw [h2]; decide, Or.inl h1, (by rw [h1, h2]; decide)⟩
  · refine ⟨Or.inr (Or.inr (Or.inr (Or.inr h4))), (fun e => by rw [h2] at e; exact absurd e (by decide)), by rw [h2]; decide, Or.inl h1, (by rw [h1, h2]; decide)⟩
/-- a block of two operations whose first is fused -/
theorem im_k_F {cd ar op oa ob : Nat → Int32} {A : Nat → Nat} {p i x : Nat} {W : Prop} {l : im_l} (h : im_k cd ar A p W i l) (hb : im_b op oa ob x l) (h2 : l.length = 2) (h3 : 30 ≤ op x) :
    ∃ va a b w, sk_F cd ar i va (op x) a b w := by
  rcases h with h | ⟨g1, g2, h⟩ | ⟨g1, g2, d, g3, g3', g4, h⟩ | ⟨g1, g2, d, g3, g3', g4, h⟩ | h | h | h | h | h | h | h | h
  · rw [h.2] at h2; exact absurd h2 (by decide)
  · rcases h with h | ⟨o, a, b, w, h, hl⟩
    · rw [h] at h2; exact absurd h2 (by simp)
    · subst hl
      refine ⟨0, a, b, w, ?_⟩
      rw [show op x = o from hb.1.1]; exact h
  · rcases h with h | ⟨o, a, b, w, h, hl⟩
    · rw [h] at h2; exact absurd h2 (by simp)
    · subst hl
      refine ⟨nI (sk_v cd d), a, b, w, ?_⟩
      rw [show op x = o from hb.1.1]; exact h
  · rcases h with h | ⟨m, m1, m2, m3, m4, h⟩
    · rw [h] at h2; exact absurd h2 (by simp)
    · subst h
      rw [show op x = 29 from hb.1.1] at h3; exact absurd h3 (by decide)
  · rw [h.2.2.2.2] at h2; exact absurd h2 (by simp)
  · rw [h.2.2] at h2; exact absurd h2 (by simp)
  · rw [h.2.2] at h2; exact absurd h2 (by simp)
  · rw [h.2.2] at h2; exact absurd h2 (by simp)
  · rw [h.2.2] at h2; exact absurd h2 (by simp)
  · rw [h.2.2] at h2; exact absurd h2 (by simp)
  · obtain ⟨_, _, j, _, h⟩ := h
    rw [h] at h2; exact absurd h2 (by simp)
  · rw [h.2.2] at h2; exact absurd h2 (by simp)
def iv_F (A : Nat → Nat) (p f : Nat) (op : Nat → Int32) : Prop :=
  ∀ i, i < p → A (i + 1) = A i + 2 → 30 ≤ op (A i) → ∀ k, (k = 2 ∨ (k = 3 ∧ op (A i) = 30)) → (i + k ≤ p → A (i + k) = A i + 1 + k) ∧ (p < i + k → i + k ≤ f)
def iv_kd (cd : Nat → Int32) : Option Nat → Int32
  | none => 0
  | some d => if cd d = 26 then 1 else 2
def iv_kc (nk : Nat → Int32) : Nat → Nat
  | 0 => 0
  | n + 1 => if nk n = 2 then iv_kc nk n + 1 else iv_kc nk n
def iv_N (cd ar : Nat → Int32) (A : Nat → Nat) (p : Nat) (vs : Int32) (nk nv : Nat → Int32) : Prop :=
  vs = nI (sk_v cd p) ∧ sk_v cd p = iv_kc nk 12 ∧ ∀ n, n < 12 → nk n = iv_kd cd (sk_f cd ar (nI n) p) ∧
    ∀ d, sk_f cd ar (nI n) p = some d → nv n = if cd d = 26 then nI (A (d + 1)) else nI (sk_v cd d)
def iv_ch (A : Nat → Nat) (oa : Nat → Int32) : Int32 → List Nat → Prop
  | w, [] => w = -1
  | w, i :: t => w = nI (A i) ∧ iv_ch A oa (oa (A i)) t
def iv_cl (cd ar : Nat → Int32) (a : Int32) : Nat → List Nat
  | 0 => []
  | p + 1 => if sk_I cd p = true ∧ cd p = 15 ∧ ar p = a ∧ sk_f cd ar a p = none then p :: iv_cl cd ar a p else iv_cl cd ar a p
def iv_W (cd ar : Nat → Int32) (A : Nat → Nat) (p : Nat) (oa wt : Nat → Int32) : Prop := ∀ n, n < 12 → iv_ch A oa (wt n) (iv_cl cd ar (nI n) p)
def iv_Y (cd ar : Nat → Int32) (p : Nat) (cf cc : Nat → Int32) : Prop :=
  ∀ n, n < 12 → cc n = 0 ∨ ∃ d m, cd d = 26 ∧ ar d = nI n ∧ d + 1 + m < p ∧ m ≤ 4 ∧ (∀ q, d < q → q < d + 1 + m → sk_pl (cd q)) ∧ cd (d + 1 + m) = 27 ∧ cf n = nI (d + 1) ∧ cc n = nI (m + 1)
def iv_C (cd ar : Nat → Int32) (p : Nat) (ii cn da pl : Int32) : Prop :=
  (sk_I cd p = false → ii = 0) ∧ (sk_I cd p = true → ii = 1 ∧ ∃ d n, d < p ∧ n < 12 ∧ cd d = 26 ∧ ar d = nI n ∧ cn = nI n ∧ da = nI (d + 1) ∧ (pl = 0 ∨ ∀ q, d < q → q < p → sk_pl (cd q)))
def iv_P (cd : Nat → Int32) (A : Nat → Nat) (p : Nat) (pt : Int32) (ps pa pe : Nat → Int32) : Prop :=
  sk_I cd p = true → pt = nI (sk_H cd p) ∧ ∀ j, j < sk_H cd p → ps j = cd (sk_E cd p j) ∧
    pa j = nI (A (if cd (sk_E cd p j) = 17 then sk_E cd p j else sk_Q cd p j)) ∧ (cd (sk_E cd p j) = 21 → pe j = nI (A (sk_E cd p j)))
/-- the whole invariant before token p -/
def iv (cd ar : Nat → Int32) (T p f : Nat) (A : Nat → Nat) (ln vs ii cn da pl nf pt : Int32) (op oa ob nk nv wt cf cc ps pa pe : Nat → Int32) : Prop :=
  (sk_V cd ar p ∧ p ≤ T ∧ T ≤ 80) ∧ (ln = nI (A p) ∧ iv_A A p ∧ A p + 2 * (80 - p) ≤ 256) ∧ (nf = nI f ∧ f ≤ p + 2) ∧
  iv_T cd ar A p True op oa ob ∧ iv_G cd A oa p ∧ iv_F A p f op ∧ iv_N cd ar A p vs nk nv ∧ iv_W cd ar A p oa wt ∧ iv_Y cd ar p cf cc ∧
  iv_C cd ar p ii cn da pl ∧ iv_P cd A p pt ps pa pe
section
variable {cd ar op oa ob op' oa' ob' : Nat → Int32} {A A' : Nat → Nat} {p f f' : Nat} {W : Prop}
theorem iv_F_s (h : iv_F A p f op) (hT : iv_T cd ar A p W op oa ob) (hA : ∀ x, x ≤ p → A' x = A x) (hm : iv_A A p) (hop : ∀ y, y < A p → op' y = op y) (hf : f ≤ f')
    (hx : sk_al (cd p) → p < f → A' (p + 1) = A p + 1)
    (hn : A' (p + 1) = A p + 2 → 30 ≤ op' (A p) → p + 2 ≤ f' ∧ (op' (A p) = 30 → p + 3 ≤ f')) : iv_F A' (p + 1) f' op' := by
  intro i hi h2 h30 k hk
  by_cases e : i = p
  · subst e
    rw [hA i (Nat.le_refl i)] at h2 h30 hk
    obtain ⟨n1, n2⟩ := hn h2 h30
    refine ⟨fun z => ?_, fun z => ?_⟩
    · rcases hk with k2 | k3 <;> omega
    · rcases hk with k2 | k3
      · omega
      · have := n2 k3.2; omega
  · have hlt : A i < A p := by
      have h1 := hm (i + 1) p (by omega) (Nat.le_refl p)
      rw [hA _ (by omega), hA _ (by omega)] at h2
      omega
    rw [hA i (by omega), hop _ hlt] at h30 hk
    rw [hA i (by omega), hA (i + 1) (by omega)] at h2
    obtain ⟨g1, g2⟩ := h i (by omega) h2 h30 k hk
    refine ⟨fun z => ?_, fun z => ?_⟩
    · rw [hA i (by omega)]
      by_cases e2 : i + k = p + 1
      · rw [e2]
        have hpf : p < f := by have := g2 (by omega); omega
        have hAp : A p = A i + k := by
          rcases hk with k2 | k3
          · rw [show p = i + 1 from by omega, h2]; omega
          · have := (h i (by omega) h2 h30 2 (Or.inl rfl)).1 (by omega)
            rw [show p = i + 2 from by omega, this]; omega
        obtain ⟨l, l1, l2, l3⟩ := hT i (by omega)
        obtain ⟨va, a, b, w, hF⟩ := im_k_F l1 l3 (by omega) h30
        obtain ⟨a1, a2, _⟩ := sk_F_al hF
        have hal : sk_al (cd p) := by
          rcases hk with k2 | k3
          · rw [show p = i + 1 from by omega]; exact a1
          · rw [show p = i + 2 from by omega]; exact a2 k3.2
        rw [hx hal hpf]; omega
      · rw [hA _ (by omega)]; exact g1 (by omega)
    · have := g2 (by omega); omega
theorem iv_ch_ag : ∀ (l : List Nat) w, iv_ch A oa w l → (∀ i, i ∈ l → A' i = A i ∧ oa' (A i) = oa (A i)) → iv_ch A' oa' w l := by
  intro l
  induction l with
  | nil => intro w h _; exact h
  | cons i t ih =>
    intro w h g
    obtain ⟨g1, g2⟩ := g i List.mem_cons_self
    refine ⟨by rw [g1]; exact h.1, ?_⟩
    rw [g1, g2]
    exact ih _ h.2 (fun x hx => g x (List.mem_cons_of_mem i hx))
theorem iv_cl_mem {a : Int32} {i : Nat} : ∀ p, i ∈ iv_cl cd ar a p → i < p ∧ sk_I cd i = true ∧ cd i = 15 ∧ ar i = a ∧ sk_f cd ar a i = none := by
  intro p
  induction p with
  | zero => intro h; exact nomatch h
  | succ p ih =>
    intro h
    rw [iv_cl] at h
    by_cases c : sk_I cd p = true ∧ cd p = 15 ∧ ar p = a ∧ sk_f cd ar a p = none
    · rw [if_pos c] at h
      rcases List.mem_cons.mp h with e | e
      · subst e; exact ⟨by omega, c⟩
      · obtain ⟨x, y⟩ := ih e; exact ⟨by omega, y⟩
    · rw [if_neg c] at h
      obtain ⟨x, y⟩ := ih h; exact ⟨by omega, y⟩
theorem iv_cl_in {a : Int32} {i : Nat} (h : sk_I cd i = true ∧ cd i = 15 ∧ ar i = a ∧ sk_f cd ar a i = none) : ∀ p, i < p → i ∈ iv_cl cd ar a p := by
  intro p
  induction p with
  | zero => intro h; exact absurd h (Nat.not_lt_zero i)
  | succ p ih =>
    intro hi
    rw [iv_cl]
    by_cases e : i = p
    · subst e; rw [if_pos h]; exact List.mem_cons_self
    · have := ih (by omega)
      split
      · exact List.mem_cons_of_mem p this
      · exact this
theorem iv_cl_len {a : Int32} : ∀ p, (iv_cl cd ar a p).length ≤ p := by
  intro p
  induction p with
  | zero => exact Nat.le_refl _
  | succ p ih =>
    rw [iv_cl]
    split
    · rw [List.length_cons]; omega
    · omega
theorem iv_W_s {wt : Nat → Int32} (h : iv_W cd ar A p oa wt) (hc : ¬ cd p = 15 ∨ ∀ n, n < 12 → ar p = nI n → ¬ sk_f cd ar (nI n) p = none) (hA : ∀ x, x ≤ p → A' x = A x)
    (hag : ∀ i, i < p → sk_I cd i = true → cd i = 15 → sk_f cd ar (ar i) i = none → oa' (A i) = oa (A i)) : iv_W cd ar A' (p + 1) oa' wt := by
  intro n hn
  have e : iv_cl cd ar (nI n) (p + 1) = iv_cl cd ar (nI n) p := by
    rw [iv_cl, if_neg]
    intro z
    rcases hc with hc | hc
    · exact hc z.2.1
    · exact hc n hn z.2.2.1 z.2.2.2
  rw [e]
  refine iv_ch_ag _ _ (h n hn) (fun i hi => ?_)
  obtain ⟨m1, m2, m3, m4, m5⟩ := iv_cl_mem p hi
  exact ⟨hA i (by omega), hag i m1 m2 m3 (by rw [m4]; exact m5)⟩
theorem iv_kc_ext {nk nk' : Nat → Int32} : ∀ n, (∀ j, j < n → (nk j = 2 ↔ nk' j = 2)) → iv_kc nk n = iv_kc nk' n := by
  intro n
  induction n with
  | zero => intro _; rfl
  | succ n ih =>
    intro h
    rw [iv_kc, iv_kc, ih (fun j hj => h j (by omega))]
    by_cases c : nk n = 2
    · rw [if_pos c, if_pos ((h n (by omega)).mp c)]
    · rw [if_neg c, if_neg (fun z => c ((h n (by omega)).mpr z))]
theorem iv_kc_le {nk : Nat → Int32} : ∀ n, iv_kc nk n ≤ n := by
  intro n
  induction n with
  | zero => exact Nat.le_refl _
  | succ n ih => rw [iv_kc]; split <;> omega
theorem iv_kc_2 {nk : Nat → Int32} {m : Nat} (hm : ¬ nk m = 2) : ∀ n, m < n → iv_kc (upd nk m 2) n = iv_kc nk n + 1 := by
  intro n
  induction n with
  | zero => intro h; exact absurd h (Nat.not_lt_zero m)
  | succ n ih =>
    intro h
    rw [iv_kc, iv_kc]
    by_cases e : m = n
    · subst e
      rw [pk_us, if_pos rfl, if_neg hm, iv_kc_ext (nk := upd nk m 2) (nk' := nk) m (fun j hj => by rw [pk_un (by omega)])]
    · rw [pk_un (by omega), ih (by omega)]
      split <;> omega
theorem iv_N_s {vs : Int32} {nk nv : Nat → Int32} (h : iv_N cd ar A p vs nk nv) (hc : ¬ (cd p = 26 ∨ cd p = 28)) (hA : ∀ x, x ≤ p → A' x = A x) : iv_N cd ar A' (p + 1) vs nk nv := by
  obtain ⟨h1, h2, h3⟩ := h
  rw [iv_N, sk_vx (fun z => hc (Or.inr z))]
  refine ⟨h1, h2, fun n hn => ?_⟩
  rw [sk_f_miss (fun z => hc z.1)]
  refine ⟨(h3 n hn).1, fun d hd => ?_⟩
  rw [hA _ (by have := (sk_f_some p hd).1; omega)]
  exact (h3 n hn).2 d hd
theorem iv_Y_s {cf cc : Nat → Int32} (h : iv_Y cd ar p cf cc) : iv_Y cd ar (p + 1) cf cc := by
  intro n hn
  rcases h n hn with h | ⟨d, m, h1, h2, h3, h4⟩
  · exact Or.inl h
  · exact Or.inr ⟨d, m, h1, h2, by omega, h4⟩
theorem iv_C_s {ii cn da pl pl' : Int32} (h : iv_C cd ar p ii cn da pl) (hI : sk_I cd p = true) (h26 : ¬ cd p = 26) (h27 : ¬ cd p = 27) (hpl : pl' = 0 ∨ (pl' = pl ∧ sk_pl (cd p))) : iv_C cd ar (p + 1) ii cn da pl' := by
  refine ⟨fun z => ?_, fun _ => ?_⟩
  · rw [sk_Ix h26 h27, hI] at z; exact absurd z (by decide)
  · obtain ⟨c1, d, n, d1, d2, d3, d4, d5, d6, d7⟩ := h.2 hI
    refine ⟨c1, d, n, by omega, d2, d3, d4, d5, d6, ?_⟩
    rcases hpl with e | ⟨e1, e2⟩
    · exact Or.inl e
    · rcases d7 with d7 | d7
      · exact Or.inl (by rw [e1]; exact d7)
      · refine Or.inr (fun q q1 q2 => ?_)
        by_cases e : q = p
        · rw [e]; exact e2
        · exact d7 q q1 (by omega)
theorem iv_P_s {pt : Int32} {ps pa pe : Nat → Int32} (h : iv_P cd A p pt ps pa pe) (hA : ∀ x, x ≤ p → A' x = A x) (hI : sk_I cd p = true) (h26 : ¬ cd p = 26) (hO : ¬ sk_O (cd p)) (hC : ¬ sk_C (cd p)) (hM : ¬ sk_M (cd p)) :
    iv_P cd A' (p + 1) pt ps pa pe := by
  intro _
  obtain ⟨h1, h2⟩ := h hI
  rw [sk_Hx h26 hO hC]
  refine ⟨h1, fun j hj => ?_⟩
  rw [sk_Ex (fun z => hO z.1) (fun z => hM z.1), sk_Qx (fun z => hO z.1)]
  obtain ⟨k1, k2, k3⟩ := h2 j hj
  have e1 := (sk_mark (cd := cd) p j hj).2.1
  have e2 := (sk_nest (cd := cd) p j hj).1
  refine ⟨k1, ?_, fun z => by rw [hA _ (by omega)]; exact k3 z⟩
  rw [hA _ (by split <;> omega)]; exact k2
end
end
section
/-! the invariant from one token to the next -/
def iv_ax (A : Nat → Nat) (p L : Nat) : Nat → Nat := fun i => if i = p + 1 then L else A i
theorem iv_ax_le {A : Nat → Nat} {p L : Nat} : ∀ x, x ≤ p → iv_ax A p L x = A x := fun x hx => if_neg (by omega)
theorem iv_ax_s {A : Nat → Nat} {p L : Nat} : iv_ax A p L (p + 1) = L := if_pos rfl
theorem im_b1 {op oa ob : Nat → Int32} {L : Nat} {o a b : Int32} {a' b' : Option Int32} (ha : ∀ v, a' = some v → a = v) (hb : ∀ v, b' = some v → b = v) :
    im_b (upd op L o) (upd oa L a) (upd ob L b) L [(o, a', b')] :=
  ⟨⟨pk_us, fun v hv => by rw [pk_us]; exact ha v hv, fun v hv => by rw [pk_us]; exact hb v hv⟩, trivial⟩
theorem im_b2 {op oa ob : Nat → Int32} {L : Nat} {o a b o1 a1 b1 : Int32} {a' b' : Option Int32} (ha : ∀ v, a' = some v → a = v) (hb : ∀ v, b' = some v → b = v) :
    im_b (upd (upd op L o1) (L + 1) o) (upd (upd oa L a1) (L + 1) a) (upd (upd ob L b1) (L + 1) b) L [(o1, some a1, some b1), (o, a', b')] := by
  refine ⟨⟨?_, ?_, ?_⟩, im_b1 ha hb⟩
  · rw [pk_un (by omega), pk_us]
  · intro v hv; rw [pk_un (by omega), pk_us]; cases hv; rfl
  · intro v hv; rw [pk_un (by omega), pk_us]; cases hv; rfl
theorem im_s {x y : Int32} (h : x = y) : ∀ v, some y = some v → x = v := fun v hv => by cases hv; exact h
theorem im_n {x : Int32} : ∀ v, (none : Option Int32) = some v → x = v := fun v hv => nomatch hv
section
variable {cd ar op oa ob nk nv wt cf cc ps pa pe op' oa' ob' wt' ps' pa' pe' : Nat → Int32} {A : Nat → Nat} {T p f f' L' : Nat} {ln vs ii cn da pl nf pt pl' nf' pt' : Int32} {l : im_l}
theorem iv_T_15 {W : Prop} {i : Nat} (hT : iv_T cd ar A p W op oa ob) (hi : i < p) (hIi : sk_I cd i = true) (hc : cd i = 15) : A i < A (i + 1) := by
  obtain ⟨l', l1, l2, l3⟩ := hT i hi
  have h3 : l'.length ≠ 0 := by
    intro z
    have : l' = [] := List.eq_nil_of_length_eq_zero z
    subst this
    rcases l1 with k | k | k | k | k | k | k | k | k | k | k | k
    · rw [hIi] at k; exact absurd k.1 (by decide)
    · have := k.2.1.2; rw [hc] at this; exact absurd this (by decide)
    · obtain ⟨_, _, d, _, _, _, k | ⟨_, _, _, _, _, k⟩⟩ := k
      · exact nomatch k
      · exact nomatch k
    · obtain ⟨_, _, d, _, _, _, k | ⟨_, _, _, _, _, k⟩⟩ := k
      · exact nomatch k
      · exact nomatch k
    · exact nomatch k.2.2.2.2
    · exact nomatch k.2.2
    · have := k.2.1; rw [hc] at this; exact absurd this (by decide)
    · exact nomatch k.2.2
    · exact nomatch k.2.2
    · exact nomatch k.2.2
    · obtain ⟨_, _, _, _, k⟩ := k; exact nomatch k
    · exact nomatch k.2.2
  omega
theorem iv_simple (h : iv cd ar T p f A ln vs ii cn da pl nf pt op oa ob nk nv wt cf cc ps pa pe) (hp : p < T) (hI : sk_I cd p = true) (hK : sk_K cd ar p)
    (h26 : ¬ cd p = 26) (h27 : ¬ cd p = 27) (h28 : ¬ cd p = 28) (hO : ¬ sk_O (cd p)) (hC : ¬ sk_C (cd p)) (hM : ¬ sk_M (cd p))
    (hl : im_k cd ar (iv_ax A p L') (p + 1) True p l) (hL : L' = A p + l.length) (hag : ∀ y, y < A p → op' y = op y ∧ oa' y = oa y ∧ ob' y = ob y)
    (hb : im_b op' oa' ob' (A p) l) (hL2 : L' + 2 * (80 - (p + 1)) ≤ 256) (hf : nf' = nI f') (hf1 : f ≤ f') (hf2 : f' ≤ p + 3)
    (hx : sk_al (cd p) → p < f → l.length = 1) (hn : l.length = 2 → 30 ≤ op' (A p) → p + 2 ≤ f' ∧ (op' (A p) = 30 → p + 3 ≤ f'))
    (hpl : pl' = 0 ∨ (pl' = pl ∧ sk_pl (cd p))) (hW : iv_W cd ar (iv_ax A p L') (p + 1) oa' wt') :
    iv cd ar T (p + 1) f' (iv_ax A p L') (nI L') vs ii cn da pl' nf' pt op' oa' ob' nk nv wt' cf cc ps pa pe := by
  obtain ⟨⟨v1, v2, v3⟩, ⟨a1, a2, a3⟩, ⟨b1, b2⟩, hT, hG, hF, hN, hWo, hY, hCo, hP⟩ := h
  have hle := iv_ax_le (A := A) (p := p) (L := L')
  have hs := iv_ax_s (A := A) (p := p) (L := L')
  refine ⟨⟨sk_V_s v1 hK, by omega, v3⟩, ⟨by rw [hs], iv_A_s a2 hle (by omega), by omega⟩, ⟨hf, by omega⟩, ?_, ?_, ?_, ?_, hW, iv_Y_s hY, ?_, ?_⟩
  · exact iv_T_s hT a2 hle hag ⟨l, hl, by omega, hb⟩
  · refine iv_G_keep hG hle (fun i hi hIi hPi => ?_) (fun j hj => ?_) (fun _ => iv_g_x ?_)
    · have := iv_T_P hT hi hIi hPi
      have h2 := a2 (i + 1) p (by omega) (Nat.le_refl p)
      exact (hag _ (by omega)).2.1
    · rw [sk_Hx h26 hO hC]
      exact ⟨hj, sk_Qx (fun z => hO z.1), sk_Ex (fun z => hO z.1) (fun z => hM z.1)⟩
    · intro z
      rcases z with z | z | z | z
      · exact hO (Or.inl z)
      · exact hM (Or.inl z)
      · exact hM (Or.inr z)
      · exact hO (Or.inr (Or.inr z))
  · exact iv_F_s hF hT hle a2 (fun y hy => (hag y hy).1) hf1 (fun z1 z2 => by rw [hs, hL, hx z1 z2]) (fun z1 z2 => hn (by omega) z2)
  · exact iv_N_s hN (fun z => by rcases z with z | z <;> contradiction) hle
  · exact iv_C_s hCo hI h26 h27 hpl
  · exact iv_P_s hP hle hI h26 hO hC hM
theorem iv_open (h : iv cd ar T p f A ln vs ii cn da pl nf pt op oa ob nk nv wt cf cc ps pa pe) (hp : p < T) (hI : sk_I cd p = true) (hK : sk_K cd ar p)
    (hO : sk_O (cd p)) (hl : im_k cd ar (iv_ax A p L') (p + 1) True p l) (hL : L' = A p + l.length) (hag : ∀ y, y < A p → op' y = op y ∧ oa' y = oa y ∧ ob' y = ob y)
    (hb : im_b op' oa' ob' (A p) l) (hl1 : l.length ≤ 1) (h16 : cd p = 16 → l.length = 1) :
    iv cd ar T (p + 1) f (iv_ax A p L') (nI L') vs ii cn da 0 nf (nI (sk_H cd p + 1)) op' oa' ob' nk nv wt cf cc (upd ps (sk_H cd p) (cd p)) (upd pa (sk_H cd p) (nI (A p))) pe := by
  obtain ⟨⟨v1, v2, v3⟩, ⟨a1, a2, a3⟩, ⟨b1, b2⟩, hT, hG, hF, hN, hWo, hY, hCo, hP⟩ := h
  have hle := iv_ax_le (A := A) (p := p) (L := L')
  have hs := iv_ax_s (A := A) (p := p) (L := L')
  obtain ⟨n26, nC, nM, n27, n28, n15⟩ := sk_On hO
  have hE : sk_E cd (p + 1) (sk_H cd p) = p := sk_EO hO rfl
  have hQ : sk_Q cd (p + 1) (sk_H cd p) = p := sk_QO hO rfl
  have hH := sk_HO hO
  refine ⟨⟨sk_V_s v1 hK, by omega, v3⟩, ⟨by rw [hs], iv_A_s a2 hle (by omega), by rw [hs]; omega⟩, ⟨b1, by omega⟩, ?_, ?_, ?_, ?_, ?_, iv_Y_s hY, ?_, ?_⟩
  · exact iv_T_s hT a2 hle hag ⟨l, hl, by omega, hb⟩
  · refine iv_G_keep hG hle (fun i hi hIi hPi => ?_) (fun j hj => ?_) (fun _ => ?_)
    · have := iv_T_P hT hi hIi hPi
      have h2 := a2 (i + 1) p (by omega) (Nat.le_refl p)
      exact (hag _ (by omega)).2.1
    · rw [hH]
      exact ⟨by omega, sk_Qlt hj, sk_Ex (fun z => by omega) (fun z => nM z.1)⟩
    · exact ⟨fun _ => Or.inr ⟨sk_H cd p, by omega, hQ, hE⟩, fun _ => Or.inr ⟨sk_H cd p, by omega, hE⟩, fun _ => Or.inr ⟨sk_H cd p, by omega, hQ⟩⟩
  · refine iv_F_s hF hT hle a2 (fun y hy => (hag y hy).1) (Nat.le_refl f) (fun z1 z2 => ?_) (fun z1 z2 => by omega)
    have : cd p = 16 := by
      rcases hO with e | e | e
      · exact e
      · rw [e] at z1; exact absurd z1 (by decide)
      · rw [e] at z1; exact absurd z1 (by decide)
    rw [hs, hL, h16 this]
  · exact iv_N_s hN (fun z => by rcases z with z | z <;> contradiction) hle
  · refine iv_W_s hWo (Or.inl n15) hle (fun i hi hIi hc hf => ?_)
    have h2 := a2 (i + 1) p (by omega) (Nat.le_refl p)
    have h3 := iv_T_15 hT hi hIi hc
    exact (hag _ (by omega)).2.1
  · exact iv_C_s hCo hI n26 n27 (Or.inl rfl)
  · intro _
    obtain ⟨k1, k2⟩ := hP hI
    refine ⟨by rw [hH], fun j hj => ?_⟩
    by_cases e : j = sk_H cd p
    · subst e
      rw [hE, hQ, pk_us, pk_us, ite_self, hle p (Nat.le_refl p)]
      exact ⟨rfl, rfl, fun z => absurd (Or.inr z) nM⟩
    · rw [hH] at hj
      rw [sk_Ex (fun z => e z.2) (fun z => nM z.1), sk_Qlt (by omega), pk_un e, pk_un e]
      obtain ⟨m1, m2, m3⟩ := k2 j (by omega)
      have e1 := (sk_mark (cd := cd) p j (by omega)).2.1
      have e2 := (sk_nest (cd := cd) p j (by omega)).1
      refine ⟨m1, ?_, fun z => by rw [hle _ (by omega)]; exact m3 z⟩
      rw [hle _ (by split <;> omega)]; exact m2
theorem iv_top (h : iv cd ar T p f A ln vs ii cn da pl nf pt op oa ob nk nv wt cf cc ps pa pe) (hp : p < T) (hI : sk_I cd p = true) (hK : sk_K cd ar p)
    (hCM : sk_C (cd p) ∨ sk_M (cd p)) (hT' : iv_T cd ar (iv_ax A p L') (p + 1) True op' oa' ob') (hL : A p ≤ L') (hL1 : L' ≤ A p + 1) (hop : ∀ y, y < A p → op' y = op y)
    (hoa : ∀ y, y < A p → (sk_P (cd (sk_E cd p (sk_H cd p - 1))) → ¬ y = A (sk_E cd p (sk_H cd p - 1))) → oa' y = oa y)
    (hgi : iv_g cd (iv_ax A p L') oa' (p + 1) (sk_E cd p (sk_H cd p - 1))) (hgp : iv_g cd (iv_ax A p L') oa' (p + 1) p)
    (hP' : iv_P cd (iv_ax A p L') (p + 1) pt' ps' pa' pe') :
    iv cd ar T (p + 1) f (iv_ax A p L') (nI L') vs ii cn da 0 nf pt' op' oa' ob' nk nv wt cf cc ps' pa' pe' := by
  obtain ⟨⟨v1, v2, v3⟩, ⟨a1, a2, a3⟩, ⟨b1, b2⟩, hT, hG, hF, hN, hWo, hY, hCo, hP⟩ := h
  have hle := iv_ax_le (A := A) (p := p) (L := L')
  have hs := iv_ax_s (A := A) (p := p) (L := L')
  have hH0 := (sk_VCM hK hCM).2
  have hnO : ¬ sk_O (cd p) := by
    rcases hCM with z | z
    · exact (sk_Cn z).2.1
    · exact (sk_Mn z).2.1
  have hn26 : ¬ cd p = 26 ∧ ¬ cd p = 27 ∧ ¬ cd p = 28 ∧ ¬ cd p = 15 := by
    rcases hCM with z | z
    · exact ⟨(sk_Cn z).1, (sk_Cn z).2.2.2⟩
    · exact ⟨(sk_Mn z).1, (sk_Mn z).2.2.2⟩
  have hE1 := (sk_mark (cd := cd) p (sk_H cd p - 1) (by omega)).2.1
  have hEI : sk_I cd (sk_E cd p (sk_H cd p - 1)) = true ∨ ¬ sk_P (cd (sk_E cd p (sk_H cd p - 1))) := by
    cases e : sk_I cd (sk_E cd p (sk_H cd p - 1)) with
    | true => exact Or.inl rfl
    | false =>
      refine Or.inr (fun z => ?_)
      rcases ((v1 _ hE1).1 e).1 with y | y <;> rw [y] at z <;> exact absurd z (by decide)
  refine ⟨⟨sk_V_s v1 hK, by omega, v3⟩, ⟨by rw [hs], iv_A_s a2 hle (by omega), by rw [hs]; omega⟩, ⟨b1, by omega⟩, hT', ?_, ?_, ?_, ?_, iv_Y_s hY, ?_, hP'⟩
  · refine iv_G_top v1 hG hH0 hle (fun i hi hIi hPi hne => ?_) (fun j hj => ?_) hgi hgp
    · have h1 := iv_T_P hT hi hIi hPi
      have h2 := a2 (i + 1) p (by omega) (Nat.le_refl p)
      refine hoa _ (by omega) (fun hPE z => ?_)
      rcases hEI with q | q
      · have h3 := iv_T_P hT hE1 q hPE
        by_cases c : i < sk_E cd p (sk_H cd p - 1)
        · have := a2 (i + 1) _ c (by omega); omega
        · have := a2 (sk_E cd p (sk_H cd p - 1) + 1) i (by omega) (by omega); omega
      · exact q hPE
    · refine ⟨?_, sk_Qx (fun z => hnO z.1), sk_Ex (fun z => hnO z.1) (fun z => by omega)⟩
      rcases hCM with z | z
      · rw [sk_HC z]; omega
      · rw [sk_HM z]; omega
  · refine iv_F_s hF hT hle a2 hop (Nat.le_refl f) (fun z1 z2 => ?_) (fun z1 z2 => by omega)
    rcases hCM with (z | z | z | z) | (z | z) <;> rw [z] at z1 <;> exact absurd z1 (by decide)
  · exact iv_N_s hN (fun z => by rcases z with z | z; exact hn26.1 z; exact hn26.2.2.1 z) hle
  · refine iv_W_s hWo (Or.inl hn26.2.2.2) hle (fun i hi hIi hc hf => ?_)
    have h2 := a2 (i + 1) p (by omega) (Nat.le_refl p)
    have h3 := iv_T_15 hT hi hIi hc
    refine hoa _ (by omega) (fun hPE z => ?_)
    rcases hEI with q | q
    · have h3 := iv_T_P hT hE1 q hPE
      by_cases c : i < sk_E cd p (sk_H cd p - 1)
      · have := a2 (i + 1) _ c (by omega); omega
      · by_cases c2 : i = sk_E cd p (sk_H cd p - 1)
        · rw [← c2, hc] at hPE; exact absurd hPE (by decide)
        · have := a2 (sk_E cd p (sk_H cd p - 1) + 1) i (by omega) (by omega); omega
    · exact q hPE
  · exact iv_C_s hCo hI hn26.1 hn26.2.1 (Or.inl rfl)
/-- the parts when a token closes the last one -/
theorem iv_P_C {L : Nat} (hP : iv_P cd A p pt ps pa pe) (hI : sk_I cd p = true) (hC : sk_C (cd p)) : iv_P cd (iv_ax A p L) (p + 1) (nI (sk_H cd p - 1)) ps pa pe := by
  intro _
  have hle := iv_ax_le (A := A) (p := p) (L := L)
  obtain ⟨k1, k2⟩ := hP hI
  refine ⟨by rw [sk_HC hC], fun j hj => ?_⟩
  rw [sk_HC hC] at hj
  rw [sk_Ex (fun z => (sk_Cn hC).2.1 z.1) (fun z => (sk_Cn hC).2.2.1 z.1), sk_Qx (fun z => (sk_Cn hC).2.1 z.1)]
  obtain ⟨m1, m2, m3⟩ := k2 j (by omega)
  have e1 := (sk_mark (cd := cd) p j (by omega)).2.1
  have e2 := (sk_nest (cd := cd) p j (by omega)).1
  refine ⟨m1, ?_, fun z => by rw [hle _ (by omega)]; exact m3 z⟩
  rw [hle _ (by split <;> omega)]; exact m2
theorem iv_P_17 {L : Nat} (hP : iv_P cd A p pt ps pa pe) (hI : sk_I cd p = true) (hc : cd p = 17) (h0 : 0 < sk_H cd p) :
    iv_P cd (iv_ax A p L) (p + 1) pt (upd ps (sk_H cd p - 1) 17) (upd pa (sk_H cd p - 1) (nI (A p))) pe := by
  intro _
  have hle := iv_ax_le (A := A) (p := p) (L := L)
  obtain ⟨k1, k2⟩ := hP hI
  have hM : sk_M (cd p) := Or.inl hc
  refine ⟨by rw [sk_HM hM]; exact k1, fun j hj => ?_⟩
  rw [sk_HM hM] at hj
  by_cases e : j + 1 = sk_H cd p
  · rw [sk_EM hM e, if_pos hc, hle p (Nat.le_refl p), show sk_H cd p - 1 = j from by omega, pk_us, pk_us]
    exact ⟨hc.symm, rfl, fun z => by rw [hc] at z; exact absurd z (by decide)⟩
  · rw [sk_Ex (fun z => (sk_Mn hM).2.1 z.1) (fun z => e z.2), sk_Qx (fun z => (sk_Mn hM).2.1 z.1), pk_un (by omega), pk_un (by omega)]
    obtain ⟨m1, m2, m3⟩ := k2 j (by omega)
    have e1 := (sk_mark (cd := cd) p j (by omega)).2.1
    have e2 := (sk_nest (cd := cd) p j (by omega)).1
    refine ⟨m1, ?_, fun z => by rw [hle _ (by omega)]; exact m3 z⟩
    rw [hle _ (by split <;> omega)]; exact m2
theorem iv_P_21 {L : Nat} (hP : iv_P cd A p pt ps pa pe) (hI : sk_I cd p = true) (hc : cd p = 21) (hS : sk_S cd p = 19) :
    iv_P cd (iv_ax A p L) (p + 1) pt (upd ps (sk_H cd p - 1) 21) pa (upd pe (sk_H cd p - 1) (nI (A p))) := by
  intro _
  have hle := iv_ax_le (A := A) (p := p) (L := L)
  obtain ⟨k1, k2⟩ := hP hI
  have hM : sk_M (cd p) := Or.inr hc
  have h0 := sk_S0 hS (by decide)
  rw [sk_S1 h0] at hS
  refine ⟨by rw [sk_HM hM]; exact k1, fun j hj => ?_⟩
  rw [sk_HM hM] at hj
  obtain ⟨m1, m2, m3⟩ := k2 j (by omega)
  have e1 := (sk_mark (cd := cd) p j (by omega)).2.1
  have e2 := (sk_nest (cd := cd) p j (by omega)).1
  by_cases e : j + 1 = sk_H cd p
  · have ej : sk_H cd p - 1 = j := by omega
    rw [ej] at hS
    rw [sk_EM hM e, sk_Qx (fun z => (sk_Mn hM).2.1 z.1), if_neg (by rw [hc]; decide), hle p (Nat.le_refl p), ej, pk_us, pk_us, hle _ (by omega)]
    rw [if_neg (by rw [hS]; decide)] at m2
    exact ⟨hc.symm, m2, fun _ => rfl⟩
  · rw [sk_Ex (fun z => (sk_Mn hM).2.1 z.1) (fun z => e z.2), sk_Qx (fun z => (sk_Mn hM).2.1 z.1), pk_un (by omega), pk_un (by omega)]
    refine ⟨m1, ?_, fun z => by rw [hle _ (by omega)]; exact m3 z⟩
    rw [hle _ (by split <;> omega)]; exact m2
end
end
section
/-! the error at a token, as both sides find it -/
def sk_e (cd ar : Nat → Int32) (p : Nat) : Int32 :=
  if sk_I cd p = true then sk_eI (cd p) (ar p) (sk_S cd p) (sk_H cd p) (sk_r (sk_Q cd p) cd 23 (sk_H cd p))
  else if ¬ (cd p = 26 ∨ cd p = 28) then 1 else if ¬ sk_N (ar p) then 2 else if (sk_f cd ar (ar p) p).isSome = true then 3 else 0
section
variable {cd ar : Nat → Int32} {p h : Nat} {c a s t : Int32}
theorem sk_S_code (hV : sk_V cd ar p) (h0 : 0 < sk_H cd p) : sk_O (sk_S cd p) ∨ sk_M (sk_S cd p) := by
  rw [sk_S1 h0]
  rcases (sk_mark (cd := cd) p (sk_H cd p - 1) (by omega)).2.2.2.1 with e | e
  · rw [e]; exact Or.inl (sk_nest (cd := cd) p (sk_H cd p - 1) (by omega)).2.1
  · exact Or.inr e
theorem sk_S_neg (hV : sk_V cd ar p) : sk_S cd p < 0 ↔ sk_H cd p = 0 := by
  constructor
  · intro z
    by_cases e : sk_H cd p = 0
    · exact e
    · rcases sk_S_code hV (by omega) with (q | q | q) | (q | q) <;> rw [q] at z <;> exact absurd z (by decide)
  · intro e; rw [sk_S, if_pos e]; decide
theorem sk_K_of (hV : sk_V cd ar p) (he : sk_e cd ar p = 0) : sk_K cd ar p := by
  rw [sk_e] at he
  refine ⟨fun hI => ?_, fun hI => ?_⟩
  · rw [if_neg (by rw [hI]; decide)] at he
    by_cases h1 : cd p = 26 ∨ cd p = 28
    · rw [if_neg (fun z => z h1)] at he
      by_cases h2 : sk_N (ar p)
      · rw [if_neg (fun z => z h2)] at he
        cases e : sk_f cd ar (ar p) p with
        | none => exact ⟨h1, h2, rfl⟩
        | some d => rw [e, if_pos (show (some d).isSome = true from rfl)] at he; exact absurd he (by decide)
      · rw [if_pos h2] at he; exact absurd he (by decide)
    · rw [if_pos h1] at he; exact absurd he (by decide)
  · rw [if_pos hI, sk_eI] at he
    by_cases n0 : cd p < 0
    · rw [if_pos n0] at he; exact absurd he (by decide)
    rw [if_neg n0] at he
    by_cases n27 : 27 < cd p
    · rw [if_pos n27] at he; exact absurd he (by decide)
    rw [if_neg n27] at he
    by_cases n26 : cd p = 26
    · rw [if_pos n26] at he; exact absurd he (by decide)
    rw [if_neg n26] at he
    by_cases n15 : cd p = 15 ∧ ¬ sk_N (ar p)
    · rw [if_pos n15] at he; exact absurd he (by decide)
    rw [if_neg n15] at he
    by_cases n17 : cd p = 17 ∧ ¬ sk_S cd p = 16
    · rw [if_pos n17] at he; exact absurd he (by decide)
    rw [if_neg n17] at he
    by_cases n18 : cd p = 18 ∧ ¬ sk_S cd p = 16 ∧ ¬ sk_S cd p = 17
    · rw [if_pos n18] at he; exact absurd he (by decide)
    rw [if_neg n18] at he
    by_cases n20 : (cd p = 20 ∨ cd p = 21) ∧ ¬ sk_S cd p = 19
    · rw [if_pos n20] at he; exact absurd he (by decide)
    rw [if_neg n20] at he
    by_cases n22 : cd p = 22 ∧ ¬ sk_S cd p = 21
    · rw [if_pos n22] at he; exact absurd he (by decide)
    rw [if_neg n22] at he
    by_cases n24 : cd p = 24 ∧ ¬ sk_S cd p = 23
    · rw [if_pos n24] at he; exact absurd he (by decide)
    rw [if_neg n24] at he
    by_cases n25 : cd p = 25 ∧ sk_r (sk_Q cd p) cd 23 (sk_H cd p) < 0
    · rw [if_pos n25] at he; exact absurd he (by decide)
    rw [if_neg n25] at he
    by_cases nE : cd p = 27 ∧ ¬ sk_S cd p < 0
    · rw [if_pos nE] at he; exact absurd he (by decide)
    rw [if_neg nE] at he
    by_cases nO : sk_O (cd p) ∧ sk_H cd p = 6
    · rw [if_pos nO] at he; exact absurd he (by decide)
    rw [if_neg nO] at he
    refine ⟨⟨n0, Int32.not_lt.mp n27, n26⟩, ?_, ?_, ?_, ?_, ?_, ?_, ?_, ?_, ?_⟩
    · exact fun z => Decidable.byContradiction (fun y => n15 ⟨z, y⟩)
    · exact fun z => Decidable.byContradiction (fun y => n17 ⟨z, y⟩)
    · intro z
      by_cases y : sk_S cd p = 16
      · exact Or.inl y
      · exact Or.inr (Decidable.byContradiction (fun x => n18 ⟨z, y, x⟩))
    · exact fun z => Decidable.byContradiction (fun y => n20 ⟨z, y⟩)
    · exact fun z => Decidable.byContradiction (fun y => n22 ⟨z, y⟩)
    · exact fun z => Decidable.byContradiction (fun y => n24 ⟨z, y⟩)
    · intro z
      cases e : sk_t (fun j => cd (sk_Q cd p j)) (sk_H cd p) with
      | some j => exact ⟨j, rfl⟩
      | none => exact absurd ⟨z, by rw [sk_r23, e]; show (-1 : Int32) < 0; decide⟩ n25
    · exact fun z => (sk_S_neg hV).mp (Decidable.byContradiction (fun y => nE ⟨z, y⟩))
    · intro z
      have h6 := sk_V6 hV p (Nat.le_refl p)
      have : ¬ sk_H cd p = 6 := fun y => nO ⟨z, y⟩
      omega
theorem sk_eI_pl (hc : sk_pl c) : sk_eI c a s h t = 0 := by
  obtain ⟨k, hk, rfl⟩ := nI_of2 (M := 14) (n := 14) (by decide) hc.1 hc.2
  have e : ∀ z : Nat, z < 2 ^ 31 → ¬ z = k → ¬ nI k = nI z := fun z h1 h2 y => h2 ((nI_eq (by omega) h1).mp y).symm
  have e15 : ¬ nI k = 15 := e 15 (by decide) (by omega)
  have e16 : ¬ nI k = 16 := e 16 (by decide) (by omega)
  have e17 : ¬ nI k = 17 := e 17 (by decide) (by omega)
  have e18 : ¬ nI k = 18 := e 18 (by decide) (by omega)
  have e19 : ¬ nI k = 19 := e 19 (by decide) (by omega)
  have e20 : ¬ nI k = 20 := e 20 (by decide) (by omega)
  have e21 : ¬ nI k = 21 := e 21 (by decide) (by omega)
  have e22 : ¬ nI k = 22 := e 22 (by decide) (by omega)
  have e23 : ¬ nI k = 23 := e 23 (by decide) (by omega)
  have e24 : ¬ nI k = 24 := e 24 (by decide) (by omega)
  have e25 : ¬ nI k = 25 := e 25 (by decide) (by omega)
  have e26 : ¬ nI k = 26 := e 26 (by decide) (by omega)
  have e27 : ¬ nI k = 27 := e 27 (by decide) (by omega)
  rw [sk_eI, if_neg hc.1, if_neg (show ¬ (27 : Int32) < nI k from Int32.not_lt.mpr (nI_le (a := k) (b := 27) (by omega) (by decide))), if_neg e26, if_neg (fun z => e15 z.1), if_neg (fun z => e17 z.1), if_neg (fun z => e18 z.1),
    if_neg (fun z => by rcases z.1 with y | y; exact e20 y; exact e21 y), if_neg (fun z => e22 z.1), if_neg (fun z => e24 z.1), if_neg (fun z => e25 z.1), if_neg (fun z => e27 z.1),
    if_neg (fun z => by rcases z.1 with y | y | y; exact e16 y; exact e19 y; exact e23 y)]
theorem sk_eI_15 : sk_eI 15 a s h t = if sk_N a then 0 else 2 := by
  by_cases e : sk_N a
  · rw [if_pos e, sk_eI, if_neg (by decide), if_neg (by decide), if_neg (by decide), if_neg (fun z => z.2 e), if_neg (fun z => absurd z.1 (by decide)), if_neg (fun z => absurd z.1 (by decide)), if_neg (fun z => absurd z.1 (by decide)), if_neg (fun z => absurd z.1 (by decide)), if_neg (fun z => absurd z.1 (by decide)), if_neg (fun z => absurd z.1 (by decide)), if_neg (fun z => absurd z.1 (by decide)), if_neg (fun z => absurd z.1 (by decide))]
  · rw [if_neg e, sk_eI, if_neg (by decide), if_neg (by decide), if_neg (by decide), if_pos ⟨rfl, e⟩]
theorem sk_eI_16 : sk_eI 16 a s h t = if h = 6 then 5 else 0 := by
  by_cases e : h = 6
  · rw [if_pos e, sk_eI, if_neg (by decide), if_neg (by decide), if_neg (by decide), if_neg (fun z => absurd z.1 (by decide)), if_neg (fun z => absurd z.1 (by decide)), if_neg (fun z => absurd z.1 (by decide)), if_neg (fun z => absurd z.1 (by decide)), if_neg (fun z => absurd z.1 (by decide)), if_neg (fun z => absurd z.1 (by decide)), if_neg (fun z => absurd z.1 (by decide)), if_neg (fun z => absurd z.1 (by decide)), if_pos ⟨by decide, e⟩]
  · rw [if_neg e, sk_eI, if_neg (by decide), if_neg (by decide), if_neg (by decide), if_neg (fun z => absurd z.1 (by decide)), if_neg (fun z => absurd z.1 (by decide)), if_neg (fun z => absurd z.1 (by decide)), if_neg (fun z => absurd z.1 (by decide)), if_neg (fun z => absurd z.1 (by decide)), if_neg (fun z => absurd z.1 (by decide)), if_neg (fun z => absurd z.1 (by decide)), if_neg (fun z => absurd z.1 (by decide)), if_neg (fun z => e z.2)]
theorem sk_eI_19 : sk_eI 19 a s h t = if h = 6 then 5 else 0 := by
  by_cases e : h = 6
  · rw [if_pos e, sk_eI, if_neg (by decide), if_neg (by decide), if_neg (by decide), if_neg (fun z => absurd z.1 (by decide)), if_neg (fun z => absurd z.1 (by decide)), if_neg (fun z => absurd z.1 (by decide)), if_neg (fun z => absurd z.1 (by decide)), if_neg (fun z => absurd z.1 (by decide)), if_neg (fun z => absurd z.1 (by decide)), if_neg (fun z => absurd z.1 (by decide)), if_neg (fun z => absurd z.1 (by decide)), if_pos ⟨by decide, e⟩]
  · rw [if_neg e, sk_eI, if_neg (by decide), if_neg (by decide), if_neg (by decide), if_neg (fun z => absurd z.1 (by decide)), if_neg (fun z => absurd z.1 (by decide)), if_neg (fun z => absurd z.1 (by decide)), if_neg (fun z => absurd z.1 (by decide)), if_neg (fun z => absurd z.1 (by decide)), if_neg (fun z => absurd z.1 (by decide)), if_neg (fun z => absurd z.1 (by decide)), if_neg (fun z => absurd z.1 (by decide)), if_neg (fun z => e z.2)]
theorem sk_eI_23 : sk_eI 23 a s h t = if h = 6 then 5 else 0 := by
  by_cases e : h = 6
  · rw [if_pos e, sk_eI, if_neg (by decide), if_neg (by decide), if_neg (by decide), if_neg (fun z => absurd z.1 (by decide)), if_neg (fun z => absurd z.1 (by decide)), if_neg (fun z => absurd z.1 (by decide)), if_neg (fun z => absurd z.1 (by decide)), if_neg (fun z => absurd z.1 (by decide)), if_neg (fun z => absurd z.1 (by decide)), if_neg (fun z => absurd z.1 (by decide)), if_neg (fun z => absurd z.1 (by decide)), if_pos ⟨by decide, e⟩]
  · rw [if_neg e, sk_eI, if_neg (by decide), if_neg (by decide), if_neg (by decide), if_neg (fun z => absurd z.1 (by decide)), if_neg (fun z => absurd z.1 (by decide)), if_neg (fun z => absurd z.1 (by decide)), if_neg (fun z => absurd z.1 (by decide)), if_neg (fun z => absurd z.1 (by decide)), if_neg (fun z => absurd z.1 (by decide)), if_neg (fun z => absurd z.1 (by decide)), if_neg (fun z => absurd z.1 (by decide)), if_neg (fun z => e z.2)]
theorem sk_eI_O (hO : sk_O c) : sk_eI c a s h t = if h = 6 then 5 else 0 := by
  rcases hO with e | e | e <;> subst e
  · exact sk_eI_16
  · exact sk_eI_19
  · exact sk_eI_23
theorem sk_eI_17 : sk_eI 17 a s h t = if s = 16 then 0 else 4 := by
  by_cases e : s = 16
  · rw [if_pos e, sk_eI, if_neg (by decide), if_neg (by decide), if_neg (by decide), if_neg (fun z => absurd z.1 (by decide)), if_neg (fun z => z.2 e), if_neg (fun z => absurd z.1 (by decide)), if_neg (fun z => absurd z.1 (by decide)), if_neg (fun z => absurd z.1 (by decide)), if_neg (fun z => absurd z.1 (by decide)), if_neg (fun z => absurd z.1 (by decide)), if_neg (fun z => absurd z.1 (by decide)), if_neg (fun z => absurd z.1 (by decide))]
  · rw [if_neg e, sk_eI, if_neg (by decide), if_neg (by decide), if_neg (by decide), if_neg (fun z => absurd z.1 (by decide)), if_pos ⟨rfl, e⟩]
theorem sk_eI_20 : sk_eI 20 a s h t = if s = 19 then 0 else 4 := by
  by_cases e : s = 19
  · rw [if_pos e, sk_eI, if_neg (by decide), if_neg (by decide), if_neg (by decide), if_neg (fun z => absurd z.1 (by decide)), if_neg (fun z => absurd z.1 (by decide)), if_neg (fun z => absurd z.1 (by decide)), if_neg (fun z => z.2 e), if_neg (fun z => absurd z.1 (by decide)), if_neg (fun z => absurd z.1 (by decide)), if_neg (fun z => absurd z.1 (by decide)), if_neg (fun z => absurd z.1 (by decide)), if_neg (fun z => absurd z.1 (by decide))]
  · rw [if_neg e, sk_eI, if_neg (by decide), if_neg (by decide), if_neg (by decide), if_neg (fun z => absurd z.1 (by decide)), if_neg (fun z => absurd z.1 (by decide)), if_neg (fun z => absurd z.1 (by decide)), if_pos ⟨Or.inl rfl, e⟩]
theorem sk_eI_21 : sk_eI 21 a s h t = if s = 19 then 0 else 4 := by
  by_cases e : s = 19
  · rw [if_pos e, sk_eI, if_neg (by decide), if_neg (by decide), if_neg (by decide), if_neg (fun z => absurd z.1 (by decide)), if_neg (fun z => absurd z.1 (by decide)), if_neg (fun z => absurd z.1 (by decide)), if_neg (fun z => z.2 e), if_neg (fun z => absurd z.1 (by decide)), if_neg (fun z => absurd z.1 (by decide)), if_neg (fun z => absurd z.1 (by decide)), if_neg (fun z => absurd z.1 (by decide)), if_neg (fun z => absurd z.1 (by decide))]
  · rw [if_neg e, sk_eI, if_neg (by decide), if_neg (by decide), if_neg (by decide), if_neg (fun z => absurd z.1 (by decide)), if_neg (fun z => absurd z.1 (by decide)), if_neg (fun z => absurd z.1 (by decide)), if_pos ⟨Or.inr rfl, e⟩]
theorem sk_eI_22 : sk_eI 22 a s h t = if s = 21 then 0 else 4 := by
  by_cases e : s = 21
  · rw [if_pos e, sk_eI, if_neg (by decide), if_neg (by decide), if_neg (by decide), if_neg (fun z => absurd z.1 (by decide)), if_neg (fun z => absurd z.1 (by decide)), if_neg (fun z => absurd z.1 (by decide)), if_neg (fun z => absurd z.1 (by decide)), if_neg (fun z => z.2 e), if_neg (fun z => absurd z.1 (by decide)), if_neg (fun z => absurd z.1 (by decide)), if_neg (fun z => absurd z.1 (by decide)), if_neg (fun z => absurd z.1 (by decide))]
  · rw [if_neg e, sk_eI, if_neg (by decide), if_neg (by decide), if_neg (by decide), if_neg (fun z => absurd z.1 (by decide)), if_neg (fun z => absurd z.1 (by decide)), if_neg (fun z => absurd z.1 (by decide)), if_neg (fun z => absurd z.1 (by decide)), if_pos ⟨rfl, e⟩]
theorem sk_eI_24 : sk_eI 24 a s h t = if s = 23 then 0 else 4 := by
  by_cases e : s = 23
  · rw [if_pos e, sk_eI, if_neg (by decide), if_neg (by decide), if_neg (by decide), if_neg (fun z => absurd z.1 (by decide)), if_neg (fun z => absurd z.1 (by decide)), if_neg (fun z => absurd z.1 (by decide)), if_neg (fun z => absurd z.1 (by decide)), if_neg (fun z => absurd z.1 (by decide)), if_neg (fun z => z.2 e), if_neg (fun z => absurd z.1 (by decide)), if_neg (fun z => absurd z.1 (by decide)), if_neg (fun z => absurd z.1 (by decide))]
  · rw [if_neg e, sk_eI, if_neg (by decide), if_neg (by decide), if_neg (by decide), if_neg (fun z => absurd z.1 (by decide)), if_neg (fun z => absurd z.1 (by decide)), if_neg (fun z => absurd z.1 (by decide)), if_neg (fun z => absurd z.1 (by decide)), if_neg (fun z => absurd z.1 (by decide)), if_pos ⟨rfl, e⟩]
theorem sk_eI_18 : sk_eI 18 a s h t = if s = 16 ∨ s = 17 then 0 else 4 := by
  by_cases e : s = 16 ∨ s = 17
  · rw [if_pos e, sk_eI, if_neg (by decide), if_neg (by decide), if_neg (by decide), if_neg (fun z => absurd z.1 (by decide)), if_neg (fun z => absurd z.1 (by decide)), if_neg (fun z => by rcases e with e | e; exact z.2.1 e; exact z.2.2 e), if_neg (fun z => absurd z.1 (by decide)), if_neg (fun z => absurd z.1 (by decide)), if_neg (fun z => absurd z.1 (by decide)), if_neg (fun z => absurd z.1 (by decide)), if_neg (fun z => absurd z.1 (by decide)), if_neg (fun z => absurd z.1 (by decide))]
  · rw [if_neg e, sk_eI, if_neg (by decide), if_neg (by decide), if_neg (by decide), if_neg (fun z => absurd z.1 (by decide)), if_neg (fun z => absurd z.1 (by decide)), if_pos ⟨rfl, fun z => e (Or.inl z), fun z => e (Or.inr z)⟩]
theorem sk_eI_25 : sk_eI 25 a s h t = if t < 0 then 4 else 0 := by
  by_cases e : t < 0
  · rw [if_pos e, sk_eI, if_neg (by decide), if_neg (by decide), if_neg (by decide), if_neg (fun z => absurd z.1 (by decide)), if_neg (fun z => absurd z.1 (by decide)), if_neg (fun z => absurd z.1 (by decide)), if_neg (fun z => absurd z.1 (by decide)), if_neg (fun z => absurd z.1 (by decide)), if_neg (fun z => absurd z.1 (by decide)), if_pos ⟨rfl, e⟩]
  · rw [if_neg e, sk_eI, if_neg (by decide), if_neg (by decide), if_neg (by decide), if_neg (fun z => absurd z.1 (by decide)), if_neg (fun z => absurd z.1 (by decide)), if_neg (fun z => absurd z.1 (by decide)), if_neg (fun z => absurd z.1 (by decide)), if_neg (fun z => absurd z.1 (by decide)), if_neg (fun z => absurd z.1 (by decide)), if_neg (fun z => e z.2), if_neg (fun z => absurd z.1 (by decide)), if_neg (fun z => absurd z.1 (by decide))]
theorem sk_eI_27 : sk_eI 27 a s h t = if s < 0 then 0 else 4 := by
  by_cases e : s < 0
  · rw [if_pos e, sk_eI, if_neg (by decide), if_neg (by decide), if_neg (by decide), if_neg (fun z => absurd z.1 (by decide)), if_neg (fun z => absurd z.1 (by decide)), if_neg (fun z => absurd z.1 (by decide)), if_neg (fun z => absurd z.1 (by decide)), if_neg (fun z => absurd z.1 (by decide)), if_neg (fun z => absurd z.1 (by decide)), if_neg (fun z => absurd z.1 (by decide)), if_neg (fun z => z.2 e), if_neg (fun z => absurd z.1 (by decide))]
  · rw [if_neg e, sk_eI, if_neg (by decide), if_neg (by decide), if_neg (by decide), if_neg (fun z => absurd z.1 (by decide)), if_neg (fun z => absurd z.1 (by decide)), if_neg (fun z => absurd z.1 (by decide)), if_neg (fun z => absurd z.1 (by decide)), if_neg (fun z => absurd z.1 (by decide)), if_neg (fun z => absurd z.1 (by decide)), if_neg (fun z => absurd z.1 (by decide)), if_pos ⟨rfl, e⟩]
end
end
section
/-! the invariant over the end of a definition, a definition, a variable -/
section
variable {cd ar op oa ob nk nv wt cf cc ps pa pe op' oa' ob' cf' cc' : Nat → Int32} {A : Nat → Nat} {T p f n : Nat} {ln vs ii cn da pl nf pt : Int32}
theorem iv_end (h : iv cd ar T p f A ln vs ii cn da pl nf pt op oa ob nk nv wt cf cc ps pa pe) (hp : p < T) (hI : sk_I cd p = true) (hK : sk_K cd ar p) (hc : cd p = 27)
    (hag : ∀ y, y < A p → op' y = op y ∧ oa' y = oa y ∧ ob' y = ob y) (hb : im_b op' oa' ob' (A p) [(27, none, none)]) (hY : iv_Y cd ar (p + 1) cf' cc') :
    iv cd ar T (p + 1) f (iv_ax A p (A p + 1)) (nI (A p + 1)) vs 0 cn da pl nf pt op' oa' ob' nk nv wt cf' cc' ps pa pe := by
  obtain ⟨⟨v1, v2, v3⟩, ⟨a1, a2, a3⟩, ⟨b1, b2⟩, hT, hG, hF, hN, hWo, hYo, hCo, hP⟩ := h
  have hle := iv_ax_le (A := A) (p := p) (L := A p + 1)
  have hs := iv_ax_s (A := A) (p := p) (L := A p + 1)
  have hH0 : sk_H cd p = 0 := (hK.2 hI).2.2.2.2.2.2.2.2.1 hc
  have hIn : sk_I cd (p + 1) = false := sk_I27 hc
  refine ⟨⟨sk_V_s v1 hK, by omega, v3⟩, ⟨by rw [hs], iv_A_s a2 hle (by omega), by rw [hs]; omega⟩, ⟨b1, by omega⟩, ?_, ?_, ?_, ?_, ?_, hY, ?_, ?_⟩
  · exact iv_T_s hT a2 hle hag ⟨[(27, none, none)], Or.inr (Or.inr (Or.inr (Or.inr (Or.inr (Or.inr (Or.inr (Or.inr (Or.inr (Or.inr (Or.inr ⟨hI, hc, rfl⟩)))))))))), by rw [hs]; rfl, hb⟩
  · refine iv_G_keep hG hle (fun i hi hIi hPi => ?_) (fun j hj => by omega) (fun _ => iv_g_x (by rw [hc]; decide))
    have := iv_T_P hT hi hIi hPi
    have h2 := a2 (i + 1) p (by omega) (Nat.le_refl p)
    exact (hag _ (by omega)).2.1
  · exact iv_F_s hF hT hle a2 (fun y hy => (hag y hy).1) (Nat.le_refl f) (fun z1 z2 => by rw [hc] at z1; exact absurd z1 (by decide)) (fun z1 z2 => by omega)
  · exact iv_N_s hN (by rw [hc]; decide) hle
  · refine iv_W_s hWo (Or.inl (by rw [hc]; decide)) hle (fun i hi hIi hc hf => ?_)
    have h2 := a2 (i + 1) p (by omega) (Nat.le_refl p)
    have h3 := iv_T_15 hT hi hIi hc
    exact (hag _ (by omega)).2.1
  · exact ⟨fun _ => rfl, fun z => by rw [hIn] at z; exact absurd z (by decide)⟩
  · intro z; rw [hIn] at z; exact absurd z (by decide)
theorem iv_end_Y (h : iv cd ar T p f A ln vs ii cn da pl nf pt op oa ob nk nv wt cf cc ps pa pe) (hI : sk_I cd p = true) (hc : cd p = 27) (hpl : ¬ pl = 0) :
    ∃ d n, d < p ∧ n < 12 ∧ cn = nI n ∧ da = nI (d + 1) ∧ (p - (d + 1) ≤ 4 → iv_Y cd ar (p + 1) (upd cf n (nI (d + 1))) (upd cc n (nI (p - (d + 1) + 1)))) := by
  obtain ⟨_, _, _, _, _, _, _, _, hYo, hCo, _⟩ := h
  obtain ⟨c1, d, n, d1, d2, d3, d4, d5, d6, d7⟩ := hCo.2 hI
  have d8 : ∀ q, d < q → q < p → sk_pl (cd q) := by
    rcases d7 with z | z
    · exact absurd z hpl
    · exact z
  refine ⟨d, n, d1, d2, d5, d6, fun h4 => ?_⟩
  intro x hx
  by_cases e : x = n
  · subst e
    refine Or.inr ⟨d, p - (d + 1), d3, d4, by omega, h4, fun q q1 q2 => d8 q q1 (by omega), ?_, pk_us, pk_us⟩
    rw [show d + 1 + (p - (d + 1)) = p from by omega]; exact hc
  · rw [pk_un e, pk_un e]
    exact iv_Y_s hYo x hx
theorem iv_28 (h : iv cd ar T p f A ln vs ii cn da pl nf pt op oa ob nk nv wt cf cc ps pa pe) (hp : p < T) (hI : sk_I cd p = false) (hK : sk_K cd ar p) (hc : cd p = 28) (hn : n < 12) (hna : ar p = nI n) :
    iv cd ar T (p + 1) f (iv_ax A p (A p)) ln (nI (sk_v cd p + 1)) ii cn da pl nf pt op oa ob (upd nk n 2) (upd nv n vs) wt cf cc ps pa pe ∧ vs = nI (sk_v cd p) := by
  obtain ⟨⟨v1, v2, v3⟩, ⟨a1, a2, a3⟩, ⟨b1, b2⟩, hT, hG, hF, hN, hWo, hYo, hCo, hP⟩ := h
  have hle := iv_ax_le (A := A) (p := p) (L := A p)
  have hs := iv_ax_s (A := A) (p := p) (L := A p)
  have hH0 : sk_H cd p = 0 := sk_VI v1 p (Nat.le_refl p) hI
  have hIn : sk_I cd (p + 1) = false := by rw [sk_Ix (by rw [hc]; decide) (by rw [hc]; decide)]; exact hI
  have hfn : sk_f cd ar (nI n) p = none := by have := (hK.1 hI).2.2; rw [hna] at this; exact this
  obtain ⟨n1, n2, n3⟩ := hN
  refine ⟨⟨⟨sk_V_s v1 hK, by omega, v3⟩, ⟨by rw [hs]; exact a1, iv_A_s a2 hle (by omega), by rw [hs]; omega⟩, ⟨b1, by omega⟩, ?_, ?_, ?_, ?_, ?_, iv_Y_s hYo, ?_, ?_⟩, n1⟩
  · exact iv_T_s hT a2 hle (fun y _ => ⟨rfl, rfl, rfl⟩) ⟨[], Or.inl ⟨hI, rfl⟩, hs, trivial⟩
  · exact iv_G_keep hG hle (fun i hi hIi hPi => rfl) (fun j hj => by omega) (fun z => by rw [hI] at z; exact absurd z (by decide))
  · exact iv_F_s hF hT hle a2 (fun y hy => rfl) (Nat.le_refl f) (fun z1 z2 => by rw [hc] at z1; exact absurd z1 (by decide)) (fun z1 z2 => by omega)
  · have hk0 : nk n = 0 := by have := (n3 n hn).1; rw [hfn] at this; exact this
    refine ⟨by rw [sk_v28 hc], ?_, fun m hm => ?_⟩
    · rw [sk_v28 hc, iv_kc_2 (by rw [hk0]; decide) 12 hn, n2]
    · by_cases e : m = n
      · subst e
        have hh := sk_f_hit hfn ⟨Or.inr hc, hna⟩
        rw [hh, pk_us, pk_us]
        refine ⟨?_, fun d hd => ?_⟩
        · show (2 : Int32) = if cd p = 26 then 1 else 2
          rw [if_neg (by rw [hc]; decide)]
        · cases hd
          rw [if_neg (by rw [hc]; decide)]; exact n1
      · have hmm : sk_f cd ar (nI m) (p + 1) = sk_f cd ar (nI m) p := sk_f_miss (fun z => by
          have := z.2; rw [hna] at this
          exact e ((nI_eq (by omega) (by omega)).mp this).symm)
        rw [hmm, pk_un e, pk_un e]
        refine ⟨(n3 m hm).1, fun d hd => ?_⟩
        rw [hle _ (by have := (sk_f_some p hd).1; omega)]
        exact (n3 m hm).2 d hd
  · exact iv_W_s hWo (Or.inl (by rw [hc]; decide)) hle (fun i hi hIi hc hf => rfl)
  · exact ⟨fun _ => hCo.1 hI, fun z => by rw [hIn] at z; exact absurd z (by decide)⟩
  · intro z; rw [hIn] at z; exact absurd z (by decide)
theorem iv_26 (h : iv cd ar T p f A ln vs ii cn da pl nf pt op oa ob nk nv wt cf cc ps pa pe) (hp : p < T) (hI : sk_I cd p = false) (hK : sk_K cd ar p) (hc : cd p = 26) (hn : n < 12) (hna : ar p = nI n) :
    iv cd ar T (p + 1) f (iv_ax A p (A p)) ln vs 1 (nI n) (nI (p + 1)) 1 nf 0 op oa ob (upd nk n 1) (upd nv n ln) wt cf cc ps pa pe := by
  obtain ⟨⟨v1, v2, v3⟩, ⟨a1, a2, a3⟩, ⟨b1, b2⟩, hT, hG, hF, hN, hWo, hYo, hCo, hP⟩ := h
  have hle := iv_ax_le (A := A) (p := p) (L := A p)
  have hs := iv_ax_s (A := A) (p := p) (L := A p)
  have hH0 : sk_H cd p = 0 := sk_VI v1 p (Nat.le_refl p) hI
  have hIn : sk_I cd (p + 1) = true := sk_I26 hc
  have hfn : sk_f cd ar (nI n) p = none := by have := (hK.1 hI).2.2; rw [hna] at this; exact this
  obtain ⟨n1, n2, n3⟩ := hN
  refine ⟨⟨sk_V_s v1 hK, by omega, v3⟩, ⟨by rw [hs]; exact a1, iv_A_s a2 hle (by omega), by rw [hs]; omega⟩, ⟨b1, by omega⟩, ?_, ?_, ?_, ?_, ?_, iv_Y_s hYo, ?_, ?_⟩
  · exact iv_T_s hT a2 hle (fun y _ => ⟨rfl, rfl, rfl⟩) ⟨[], Or.inl ⟨hI, rfl⟩, hs, trivial⟩
  · exact iv_G_keep hG hle (fun i hi hIi hPi => rfl) (fun j hj => by omega) (fun z => by rw [hI] at z; exact absurd z (by decide))
  · exact iv_F_s hF hT hle a2 (fun y hy => rfl) (Nat.le_refl f) (fun z1 z2 => by rw [hc] at z1; exact absurd z1 (by decide)) (fun z1 z2 => by omega)
  · have hk0 : nk n = 0 := by have := (n3 n hn).1; rw [hfn] at this; exact this
    refine ⟨by rw [sk_vx (by rw [hc]; decide)]; exact n1, ?_, fun m hm => ?_⟩
    · rw [sk_vx (by rw [hc]; decide), n2]
      refine iv_kc_ext 12 (fun j hj => ?_)
      by_cases e : j = n
      · subst e; rw [pk_us, hk0]; decide
      · rw [pk_un e]
    · by_cases e : m = n
      · subst e
        have hh := sk_f_hit hfn ⟨Or.inl hc, hna⟩
        rw [hh, pk_us, pk_us]
        refine ⟨?_, fun d hd => ?_⟩
        · show (1 : Int32) = if cd p = 26 then 1 else 2
          rw [if_pos hc]
        · cases hd
          rw [if_pos hc, hs]; exact a1
      · have hmm : sk_f cd ar (nI m) (p + 1) = sk_f cd ar (nI m) p := sk_f_miss (fun z => by
          have := z.2; rw [hna] at this
          exact e ((nI_eq (by omega) (by omega)).mp this).symm)
        rw [hmm, pk_un e, pk_un e]
        refine ⟨(n3 m hm).1, fun d hd => ?_⟩
        rw [hle _ (by have := (sk_f_some p hd).1; omega)]
        exact (n3 m hm).2 d hd
  · exact iv_W_s hWo (Or.inl (by rw [hc]; decide)) hle (fun i hi hIi hc hf => rfl)
  · exact ⟨fun z => by rw [hIn] at z; exact absurd z (by decide), fun _ => ⟨rfl, p, n, by omega, hn, hc, hna, rfl, rfl, Or.inr (fun q q1 q2 => by omega)⟩⟩
  · intro _
    rw [sk_H26 hc]
    exact ⟨nI_0.symm, fun j hj => absurd hj (Nat.not_lt_zero j)⟩
/-- at the start -/
theorem iv_0 (hT : T ≤ 80) (h : ∀ n, n < 12 → nk n = 0 ∧ wt n = -1 ∧ cc n = 0) : iv cd ar T 0 0 (fun _ => 0) 0 0 0 cn da pl 0 pt op oa ob nk nv wt cf cc ps pa pe := by
  refine ⟨⟨fun q hq => absurd hq (Nat.not_lt_zero q), Nat.zero_le T, hT⟩, ⟨nI_0.symm, fun i j _ _ => Nat.le_refl 0, by show 0 + 2 * (80 - 0) ≤ 256; decide⟩, ⟨nI_0.symm, by omega⟩, ?_, ?_, ?_, ?_, ?_, ?_, ?_, ?_⟩
  · exact fun i hi => absurd hi (Nat.not_lt_zero i)
  · exact fun i hi => absurd hi (Nat.not_lt_zero i)
  · exact fun i hi => absurd hi (Nat.not_lt_zero i)
  · refine ⟨nI_0.symm, ?_, fun n hn => ⟨(h n hn).1, fun d hd => nomatch hd⟩⟩
    have : iv_kc nk 12 = iv_kc (fun _ => 0) 12 := iv_kc_ext 12 (fun j hj => by rw [(h j hj).1])
    rw [this]; rfl
  · exact fun n hn => (h n hn).2.1
  · exact fun n hn => Or.inl (h n hn).2.2
  · exact ⟨fun _ => rfl, fun z => nomatch z⟩
  · exact fun z => nomatch z
end
end
section
/-! X translates a plain token, a word -/
theorem im_b_c {cd ar op oa ob : Nat → Int32} : ∀ m x q, (∀ t, t < m → op (x + t) = cd (q + t) ∧ oa (x + t) = ar (q + t)) → im_b op oa ob x (im_c cd ar q m) := by
  intro m
  induction m with
  | zero => intro x q _; trivial
  | succ m ih =>
    intro x q h
    obtain ⟨h1, h2⟩ := h 0 (by omega)
    refine ⟨⟨h1, im_s h2, im_n⟩, ih (x + 1) (q + 1) (fun t ht => ?_)⟩
    obtain ⟨h3, h4⟩ := h (t + 1) (by omega)
    rw [show x + 1 + t = x + (t + 1) from by omega, show q + 1 + t = q + (t + 1) from by omega]
    exact ⟨h3, h4⟩
theorem sk_pl_n {c : Int32} (h : sk_pl c) : ¬ c = 15 ∧ ¬ c = 26 ∧ ¬ c = 27 ∧ ¬ c = 28 ∧ ¬ sk_O c ∧ ¬ sk_C c ∧ ¬ sk_M c := by
  have e : ∀ z : Int32, ¬ z ≤ 14 → ¬ c = z := fun z hz y => hz (by rw [← y]; exact h.2)
  refine ⟨e _ (by decide), e _ (by decide), e _ (by decide), e _ (by decide), ?_, ?_, ?_⟩
  · intro z; rcases z with z | z | z <;> exact e _ (by decide) z
  · intro z; rcases z with z | z | z | z <;> exact e _ (by decide) z
  · intro z; rcases z with z | z <;> exact e _ (by decide) z
section
variable {tk tr ep ln vs ii cn da pl nf pt sp oc rn tu so : Int32} {cd ar op oa ob nk nv wt cf cc ps pa pe sk ou ce bk ct lm : Nat → Int32} {T p f : Nat} {A : Nat → Nat}
theorem xx_plain {post : Int32 → SX → Prop} (h : iv cd ar T p f A ln vs ii cn da pl nf pt op oa ob nk nv wt cf cc ps pa pe) (ht : tk = nI T) (hp : p < T) (hI : sk_I cd p = true) (hK : sk_K cd ar p) (hc : sk_pl (cd p))
    (hG : ∀ {f : Nat} {A : Nat → Nat} {ln vs ii cn da pl nf pt : Int32} {op oa ob nk nv wt cf cc ps pa pe : Nat → Int32}, iv cd ar T (p + 1) f A ln vs ii cn da pl nf pt op oa ob nk nv wt cf cc ps pa pe → post 0 (tk, tr, ep, ln, vs, ii, cn, da, pl, nf, pt, sp, oc, rn, tu, so, cd, ar, op, oa, ob, nk, nv, wt, cf, cc, ps, pa, pe, sk, ou, ce, bk, ct, lm)) :
    wX_insideToken_61 post (nI p) (cd p) tk tr ep ln vs ii cn da pl nf pt sp oc rn tu so cd ar op oa ob nk nv wt cf cc ps pa pe sk ou ce bk ct lm := by
  have h' := h
  obtain ⟨⟨v1, v2, v3⟩, ⟨a1, a2, a3⟩, ⟨b1, b2⟩, hT, hGo, hF, hN, hWo, hYo, hCo, hP⟩ := h
  obtain ⟨n15, n26, n27, n28, nO, nC, nM⟩ := sk_pl_n hc
  have hin : vp_in (nI p) 80 := vp_in_nI (by omega) (by decide)
  have hcl : (nI p).toNatClampNeg = p := sk_cl (by omega)
  have hWn : ∀ {L' : Nat} {oa' : Nat → Int32}, (∀ y, y < A p → oa' y = oa y) → iv_W cd ar (iv_ax A p L') (p + 1) oa' wt := by
    intro L' oa' hag
    refine iv_W_s hWo (Or.inl n15) iv_ax_le (fun i hi hIi hci hf => ?_)
    have h2 := a2 (i + 1) p (by omega) (Nat.le_refl p)
    have h3 := iv_T_15 hT hi hIi hci
    exact hag _ (by omega)
  have one : ∀ f' nf', nf' = nI f' → f ≤ f' → f' ≤ p + 3 → iv cd ar T (p + 1) f' (iv_ax A p (A p + 1)) (nI (A p + 1)) vs ii cn da pl nf' pt (upd op (A p) (cd p)) (upd oa (A p) (ar p)) (upd ob (A p) 0) nk nv wt cf cc ps pa pe := by
    intro f' nf' e1 e2 e3
    refine iv_simple (l := [(cd p, some (ar p), none)]) h' hp hI hK n26 n27 n28 nO nC nM (Or.inr (Or.inl ⟨hI, hc, Or.inl rfl⟩)) rfl (fun y hy => ⟨pk_un (by omega), pk_un (by omega), pk_un (by omega)⟩)
      (im_b1 (im_s rfl) im_n) (by omega) e1 e2 e3 (fun _ _ => rfl) (fun z => absurd z (by decide : ¬ (1 = 2))) (Or.inr ⟨rfl, hc⟩) (hWn (fun y hy => pk_un (by omega)))
  refine br_f n27 (xx_fuse (va := 0) (L := A p) ht hp v3 a1 (by omega) b1 (by omega) (fun z => absurd z n15) (fun z => ?_) (fun z => ?_) (fun z o a b w hw => ?_))
  · refine And.intro hin ?_
    rw [hcl]
    exact xx_emit a1 (by omega) (hG (one f nf b1 (Nat.le_refl f) (by omega)))
  · refine And.intro hin ?_
    rw [hcl]
    exact xx_emit a1 (by omega) (hG (one p (nI p) rfl z (by omega)))
  · refine And.intro hin ?_
    rw [hcl]
    obtain ⟨g1, g2, g3, g4, g5⟩ := sk_F_al hw
    refine xx_emit rfl (by omega) (hG (f := p + w) (A := iv_ax A p (A p + 2)) ?_)
    refine iv_simple (l := [(o, some a, some b), (cd p, some (ar p), none)]) h' hp hI hK n26 n27 n28 nO nC nM (Or.inr (Or.inl ⟨hI, hc, Or.inr ⟨o, a, b, w, hw, rfl⟩⟩)) rfl
      (fun y hy => ⟨by rw [pk_un (by omega), pk_un (by omega)], by rw [pk_un (by omega), pk_un (by omega)], by rw [pk_un (by omega), pk_un (by omega)]⟩)
      (im_b2 (im_s rfl) im_n) (by omega) rfl (by omega) (by rcases g4 with y | y <;> omega) (fun _ y => by omega) (fun _ _ => ⟨by rcases g4 with y | y <;> omega, fun y => ?_⟩) (Or.inr ⟨rfl, hc⟩) (hWn (fun y hy => by rw [pk_un (by omega), pk_un (by omega)]))
    rw [pk_un (by omega), pk_us] at y
    have := g5.mpr y; omega
theorem xx_inl {post : Int32 → SX → Prop} {n d m L : Nat} (hn : n < 12) (hm : m ≤ 4) (hd : d + 1 + m < 80) (hL : L + 4 < 256) (hcc : cc n = nI (m + 1)) (hcf : cf n = nI (d + 1))
    (hfin : ∀ op' oa' ob', (∀ y, y < L → op' y = op y ∧ oa' y = oa y ∧ ob' y = ob y) → (∀ t, t < m → op' (L + t) = cd (d + 1 + t) ∧ oa' (L + t) = ar (d + 1 + t)) → post 0 (tk, tr, ep, nI (L + m), vs, ii, cn, da, pl, nf, pt, sp, oc, rn, tu, so, cd, ar, op', oa', ob', nk, nv, wt, cf, cc, ps, pa, pe, sk, ou, ce, bk, ct, lm)) :
    ∀ j k n' op1 oa1 ob1, k + j = m → j < n' → (∀ y, y < L → op1 y = op y ∧ oa1 y = oa y ∧ ob1 y = ob y) → (∀ t, t < k → op1 (L + t) = cd (d + 1 + t) ∧ oa1 (L + t) = ar (d + 1 + t)) →
      wX_translateWord_105 post (nI n) n' (nI k) tk tr ep (nI (L + k)) vs ii cn da pl nf pt sp oc rn tu so cd ar op1 oa1 ob1 nk nv wt cf cc ps pa pe sk ou ce bk ct lm := by
  intro j
  induction j with
  | zero =>
    intro k n' op1 oa1 ob1 hk hn' h1 h2
    obtain ⟨m', rfl⟩ : ∃ m', n' = m' + 1 := ⟨n' - 1, by omega⟩
    have e : k = m := by omega
    subst e
    refine And.intro (vp_in_nI hn (by decide)) ?_
    rw [nI_clamp (show n < 2 ^ 31 by omega), hcc, nI_1]
    exact br_t (nI_le (by omega) (by omega)) (hfin op1 oa1 ob1 h1 h2)
  | succ j ih =>
    intro k n' op1 oa1 ob1 hk hn' h1 h2
    obtain ⟨m', rfl⟩ : ∃ m', n' = m' + 1 := ⟨n' - 1, by omega⟩
    refine And.intro (vp_in_nI hn (by decide)) ?_
    have hq : vp_in (nI (d + 1 + k)) 80 := vp_in_nI (by omega) (by decide)
    rw [nI_clamp (show n < 2 ^ 31 by omega), hcc, hcf, nI_1, nI_add (d + 1) k, nI_clamp (show d + 1 + k < 2 ^ 31 by omega)]
    refine br_f (nI_ge (by omega) (by omega)) (And.intro (vp_in_nI hn (by decide)) (And.intro hq (And.intro (vp_in_nI hn (by decide)) (And.intro hq (xx_emit rfl (by omega) (nm_e ?_))))))
    refine ih (k + 1) m' _ _ _ (by omega) (by omega) (fun y hy => ?_) (fun t ht => ?_)
    · rw [pk_un (by omega), pk_un (by omega), pk_un (by omega)]; exact h1 y hy
    · by_cases e : t = k
      · subst e; rw [pk_us, pk_us]; exact ⟨rfl, rfl⟩
      · rw [pk_un (by omega), pk_un (by omega)]; exact h2 t (by omega)
end
end
section
/-! X translates a word; the end of a definition -/
section
variable {tk tr ep ln vs ii cn da pl nf pt sp oc rn tu so : Int32} {cd ar op oa ob nk nv wt cf cc ps pa pe sk ou ce bk ct lm : Nat → Int32} {T p f : Nat} {A : Nat → Nat}
theorem xx_word {post : Int32 → SX → Prop} (h : iv cd ar T p f A ln vs ii cn da pl nf pt op oa ob nk nv wt cf cc ps pa pe) (ht : tk = nI T) (hp : p < T) (hI : sk_I cd p = true) (hc : cd p = 15)
    (hE : ¬ sk_N (ar p) → post 2 (tk, tr, ep, ln, vs, ii, cn, da, 0, nf, pt, sp, oc, rn, tu, so, cd, ar, op, oa, ob, nk, nv, wt, cf, cc, ps, pa, pe, sk, ou, ce, bk, ct, lm))
    (hG : sk_N (ar p) → ∀ {f : Nat} {A : Nat → Nat} {ln vs ii cn da pl nf pt : Int32} {op oa ob nk nv wt cf cc ps pa pe : Nat → Int32}, iv cd ar T (p + 1) f A ln vs ii cn da pl nf pt op oa ob nk nv wt cf cc ps pa pe → post 0 (tk, tr, ep, ln, vs, ii, cn, da, pl, nf, pt, sp, oc, rn, tu, so, cd, ar, op, oa, ob, nk, nv, wt, cf, cc, ps, pa, pe, sk, ou, ce, bk, ct, lm)) :
    wpX_translateWord post (tk, tr, ep, ln, vs, ii, cn, da, pl, nf, pt, sp, oc, rn, tu, so, cd, ar, op, oa, ob, nk, nv, wt, cf, cc, ps, pa, pe, sk, ou, ce, bk, ct, lm) (nI p) := by
  have h' := h
  obtain ⟨⟨v1, v2, v3⟩, ⟨a1, a2, a3⟩, ⟨b1, b2⟩, hT, hGo, hF, hN, hWo, hYo, hCo, hP⟩ := h
  have hin : vp_in (nI p) 80 := vp_in_nI (by omega) (by decide)
  have hcl : (nI p).toNatClampNeg = p := sk_cl (by omega)
  have n26 : ¬ cd p = 26 := by rw [hc]; decide
  have n27 : ¬ cd p = 27 := by rw [hc]; decide
  have n28 : ¬ cd p = 28 := by rw [hc]; decide
  have nO : ¬ sk_O (cd p) := by rw [hc]; decide
  have nC : ¬ sk_C (cd p) := by rw [hc]; decide
  have nM : ¬ sk_M (cd p) := by rw [hc]; decide
  have nal : ¬ sk_al (cd p) := by rw [hc]; decide
  refine And.intro hin (nm_r (congrArg ar hcl) ?_)
  refine br_c (fun e0 => hE (fun z => z.1 e0)) (fun e0 => br_c (fun e1 => ?_) (fun e1 => hE (fun z => e1 z.2)))
  have hNa : sk_N (ar p) := ⟨e0, e1⟩
  have hK : sk_K cd ar p := sk_K_of v1 (by rw [sk_e, if_pos hI, hc, sk_eI_15, if_pos hNa])
  obtain ⟨n, hn', hna⟩ := nI_of2 (M := 11) (n := 11) (by decide) e0 e1
  have hn : n < 12 := by omega
  have hnin : vp_in (nI n) 12 := vp_in_nI hn (by decide)
  obtain ⟨k1, k2, k3⟩ := hN
  obtain ⟨kk, kv⟩ := k3 n hn
  have hmiss : sk_f cd ar (nI n) (p + 1) = sk_f cd ar (nI n) p := sk_f_miss (fun z => by rcases z.1 with z | z <;> contradiction)
  have hWn : (¬ sk_f cd ar (nI n) p = none) → ∀ {L' : Nat} {oa' : Nat → Int32}, (∀ y, y < A p → oa' y = oa y) → iv_W cd ar (iv_ax A p L') (p + 1) oa' wt := by
    intro hne L' oa' hag
    refine iv_W_s hWo (Or.inr (fun m hm e z => ?_)) iv_ax_le (fun i hi hIi hci hf => ?_)
    · rw [← e, hna] at z; exact hne z
    · have h2 := a2 (i + 1) p (by omega) (Nat.le_refl p)
      have h3 := iv_T_15 hT hi hIi hci
      exact hag _ (by omega)
  rw [hna, nI_clamp (show n < 2 ^ 31 by omega)]
  refine And.intro hnin ?_
  -- an unfused call
  have call : ∀ d, sk_f cd ar (nI n) p = some d → cd d = 26 → wX_translateWord_158 post (nI n) tk tr ep ln vs ii cn da 0 nf pt sp oc rn tu so cd ar op oa ob nk nv wt cf cc ps pa pe sk ou ce bk ct lm := by
    intro d hd h26
    refine And.intro hnin ?_
    rw [nI_clamp (show n < 2 ^ 31 by omega)]
    have hk1 : nk n = 1 := by rw [kk, hd]; show (if cd d = 26 then (1 : Int32) else 2) = 1; rw [if_pos h26]
    have hv1 := kv d hd
    rw [if_pos h26] at hv1
    refine br_t hk1 (And.intro hnin (xx_emit a1 (by omega) (hG hNa (f := f) (A := iv_ax A p (A p + 1)) ?_)))
    rw [hv1]
    have hd1 := (sk_f_some p hd).1
    refine iv_simple (l := [(15, some (nI (iv_ax A p (A p + 1) (d + 1))), none)]) h' hp hI hK n26 n27 n28 nO nC nM (Or.inr (Or.inr (Or.inr (Or.inl ⟨hI, hc, d, by rw [hna, hmiss]; exact hd, fun _ => hd1, h26, Or.inl rfl⟩)))) rfl (fun y hy => ⟨pk_un (by omega), pk_un (by omega), pk_un (by omega)⟩)
      (im_b1 (im_s (by rw [iv_ax_le _ (by omega)])) im_n) (by omega) b1 (Nat.le_refl f) (by omega) (fun z => absurd z nal) (fun z => absurd z (by decide : ¬ (1 = 2))) (Or.inl rfl) (hWn (by rw [hd]; exact fun z => nomatch z) (fun y hy => pk_un (by omega)))
  cases hd : sk_f cd ar (nI n) p with
  | none =>
    have hk0 : nk n = 0 := by rw [kk, hd]; rfl
    refine br_f (by rw [hk0]; decide) (And.intro hnin (br_f (by rw [hk0]; decide) (And.intro hnin ?_)))
    rw [nI_clamp (show n < 2 ^ 31 by omega)]
    refine br_f (by rw [hk0]; decide) (And.intro hnin (xx_emit a1 (by omega) (And.intro hnin (nm_e (hG hNa (f := f) (A := iv_ax A p (A p + 1)) ?_)))))
    refine iv_simple (l := [(15, none, none)]) h' hp hI hK n26 n27 n28 nO nC nM (Or.inr (Or.inr (Or.inr (Or.inr (Or.inl ⟨hI, hc, trivial, by rw [hna]; exact hd, rfl⟩))))) rfl (fun y hy => ⟨pk_un (by omega), pk_un (by omega), pk_un (by omega)⟩)
      (im_b1 im_n im_n) (by omega) b1 (Nat.le_refl f) (by omega) (fun z => absurd z nal) (fun z => absurd z (by decide : ¬ (1 = 2))) (Or.inl rfl) ?_
    intro x hx
    have hag : ∀ i, i ∈ iv_cl cd ar (nI x) p → iv_ax A p (A p + 1) i = A i ∧ upd oa (A p) (wt n) (A i) = oa (A i) := by
      intro i hi
      obtain ⟨m1, m2, m3, m4, m5⟩ := iv_cl_mem p hi
      have h2 := a2 (i + 1) p (by omega) (Nat.le_refl p)
      have h3 := iv_T_15 hT m1 m2 m3
      exact ⟨iv_ax_le i (by omega), pk_un (by omega)⟩
    by_cases e : x = n
    · subst e
      rw [iv_cl, if_pos ⟨hI, hc, hna, hd⟩, pk_us]
      refine ⟨by rw [iv_ax_le p (Nat.le_refl p)], ?_⟩
      rw [iv_ax_le p (Nat.le_refl p), pk_us]
      exact iv_ch_ag _ _ (hWo x hx) hag
    · rw [iv_cl, if_neg (fun z => by have y := z.2.2.1; rw [hna] at y; exact e ((nI_eq (by omega) (by omega)).mp y).symm), pk_un e]
      exact iv_ch_ag _ _ (hWo x hx) hag
  | some d =>
    have hd1 := sk_f_some p hd
    by_cases h26 : cd d = 26
    · have hk1 : nk n = 1 := by rw [kk, hd]; show (if cd d = 26 then (1 : Int32) else 2) = 1; rw [if_pos h26]
      refine br_f (by rw [hk1]; decide) (And.intro hnin (br_t hk1 (And.intro hnin ?_)))
      refine br_c (fun _ => call d hd h26) (fun hcc => ?_)
      rw [a1, show (nI (A p) + 8) + (2 * (80 - nI p)) = nI (A p + 8 + 2 * (80 - p)) from by
        rw [show (80 : Int32) - nI p = nI (80 - p) from pk_sub (a := 80) (b := p) (by omega), show (2 : Int32) * nI (80 - p) = nI (2 * (80 - p)) from pk_mul 2 _, show nI (A p) + 8 = nI (A p + 8) from nI_add _ 8, nI_add]]
      by_cases hroom : A p + 8 + 2 * (80 - p) ≤ 256
      · refine br_f (nI_nlt (b := A p + 8 + 2 * (80 - p)) (a := 256) hroom (by decide)) ?_
        rcases hYo n hn with z | ⟨d', m, y1, y2, y3, y4, y5, y6, y7, y8⟩
        · rw [z] at hcc; exact absurd (by decide) hcc
        · have hdd : d' = d := sk_uniq v1 hd (by omega) (Or.inl y1) y2 (sk_def_out v1 (by omega) y1)
          subst hdd
          refine xx_emit rfl (by omega) ⟨m + 1, ?_⟩
          refine xx_inl (L := A p + 1) (n := n) (d := d') (m := m) hn y4 (by omega) (by omega) y8 y7 (fun op' oa' ob' g1 g2 => ?_) m 0 (m + 1) _ _ _ (by omega) (by omega) (fun y _ => ⟨rfl, rfl, rfl⟩) (fun t ht => absurd ht (Nat.not_lt_zero t))
          have hbefore : ∀ y, y < A p → op' y = op y ∧ oa' y = oa y ∧ ob' y = ob y := by
            intro y hy
            obtain ⟨q1, q2, q3⟩ := g1 y (by omega)
            rw [q1, q2, q3]
            exact ⟨pk_un (by omega), pk_un (by omega), pk_un (by omega)⟩
          have hlen : ((29, none, none) :: im_c cd ar (d' + 1) m : im_l).length = m + 1 := by rw [List.length_cons, im_c_len]
          have h29 : op' (A p) = 29 := by rw [(g1 (A p) (by omega)).1]; exact pk_us
          refine hG hNa (f := f) (A := iv_ax A p (A p + 1 + m)) ?_
          refine iv_simple (l := (29, none, none) :: im_c cd ar (d' + 1) m) h' hp hI hK n26 n27 n28 nO nC nM (Or.inr (Or.inr (Or.inr (Or.inl ⟨hI, hc, d', by rw [hna, hmiss]; exact hd, fun _ => hd1.1, h26, Or.inr ⟨m, y4, by omega, y5, y6, rfl⟩⟩)))) (by rw [hlen]; omega) hbefore
            ⟨⟨h29, im_n, im_n⟩, im_b_c m _ _ g2⟩ (by omega) b1 (Nat.le_refl f) (by omega) (fun z => absurd z nal) (fun _ z => by rw [h29] at z; exact absurd z (by decide)) (Or.inl rfl) (hWn (by rw [hd]; exact fun z => nomatch z) (fun y hy => (hbefore y hy).2.1))
      · exact br_t (nI_lt (a := 256) (b := A p + 8 + 2 * (80 - p)) (by omega) (by omega)) (by have := call d hd h26; rw [a1] at this; exact this)
    · have h28 : cd d = 28 := by rcases hd1.2.1 with z | z; exact absurd z h26; exact z
      have hk2 : nk n = 2 := by rw [kk, hd]; show (if cd d = 26 then (1 : Int32) else 2) = 2; rw [if_neg h26]
      have hv1 := kv d hd
      rw [if_neg h26] at hv1
      have hne : ¬ sk_f cd ar (nI n) p = none := by rw [hd]; exact fun z => nomatch z
      have one : ∀ f' nf', nf' = nI f' → f ≤ f' → f' ≤ p + 3 → iv cd ar T (p + 1) f' (iv_ax A p (A p + 1)) (nI (A p + 1)) vs ii cn da 0 nf' pt (upd op (A p) 0) (upd oa (A p) (nv n)) (upd ob (A p) 0) nk nv wt cf cc ps pa pe := by
        intro f' nf' e1 e2 e3
        refine iv_simple (l := [(0, some (nI (sk_v cd d)), none)]) h' hp hI hK n26 n27 n28 nO nC nM (Or.inr (Or.inr (Or.inl ⟨hI, hc, d, by rw [hna, hmiss]; exact hd, fun _ => hd1.1, h28, Or.inl rfl⟩))) rfl (fun y hy => ⟨pk_un (by omega), pk_un (by omega), pk_un (by omega)⟩)
          (im_b1 (im_s hv1) im_n) (by omega) e1 e2 e3 (fun z => absurd z nal) (fun z => absurd z (by decide : ¬ (1 = 2))) (Or.inl rfl) (hWn hne (fun y hy => pk_un (by omega)))
      refine br_t hk2 (xx_fuse (va := nv n) (L := A p) ht hp v3 a1 (by omega) b1 (by omega) (fun _ => ⟨n, hn, hna, rfl⟩) (fun z => ?_) (fun z => ?_) (fun z o a b w hw => ?_))
      · refine And.intro hnin ?_
        exact xx_emit a1 (by omega) (hG hNa (one f nf b1 (Nat.le_refl f) (by omega)))
      · refine And.intro hnin ?_
        exact xx_emit a1 (by omega) (hG hNa (one p (nI p) rfl z (by omega)))
      · refine And.intro hnin ?_
        obtain ⟨g1, g2, g3, g4, g5⟩ := sk_F_al hw
        rw [hv1] at hw
        refine xx_emit rfl (by omega) (hG hNa (f := p + w) (A := iv_ax A p (A p + 2)) ?_)
        refine iv_simple (l := [(o, some a, some b), (0, some (nI (sk_v cd d)), none)]) h' hp hI hK n26 n27 n28 nO nC nM (Or.inr (Or.inr (Or.inl ⟨hI, hc, d, by rw [hna, hmiss]; exact hd, fun _ => hd1.1, h28, Or.inr ⟨o, a, b, w, hw, rfl⟩⟩))) rfl
          (fun y hy => ⟨by rw [pk_un (by omega), pk_un (by omega)], by rw [pk_un (by omega), pk_un (by omega)], by rw [pk_un (by omega), pk_un (by omega)]⟩)
          (im_b2 (im_s hv1) im_n) (by omega) rfl (by omega) (by rcases g4 with y | y <;> omega) (fun z => absurd z nal) (fun _ _ => ⟨by rcases g4 with y | y <;> omega, fun y => ?_⟩) (Or.inl rfl) (hWn hne (fun y hy => by rw [pk_un (by omega), pk_un (by omega)]))
        rw [pk_un (by omega), pk_us] at y
        have := g5.mpr y; omega
theorem xx_end {post : Int32 → SX → Prop} (h : iv cd ar T p f A ln vs ii cn da pl nf pt op oa ob nk nv wt cf cc ps pa pe) (hp : p < T) (hI : sk_I cd p = true) (hc : cd p = 27)
    (hE : ¬ sk_H cd p = 0 → post 4 (tk, tr, ep, ln, vs, ii, cn, da, pl, nf, pt, sp, oc, rn, tu, so, cd, ar, op, oa, ob, nk, nv, wt, cf, cc, ps, pa, pe, sk, ou, ce, bk, ct, lm))
    (hG : sk_H cd p = 0 → ∀ {f : Nat} {A : Nat → Nat} {ln vs ii cn da pl nf pt : Int32} {op oa ob nk nv wt cf cc ps pa pe : Nat → Int32}, iv cd ar T (p + 1) f A ln vs ii cn da pl nf pt op oa ob nk nv wt cf cc ps pa pe → post 0 (tk, tr, ep, ln, vs, ii, cn, da, pl, nf, pt, sp, oc, rn, tu, so, cd, ar, op, oa, ob, nk, nv, wt, cf, cc, ps, pa, pe, sk, ou, ce, bk, ct, lm)) :
    wpX_translateEnd post (tk, tr, ep, ln, vs, ii, cn, da, pl, nf, pt, sp, oc, rn, tu, so, cd, ar, op, oa, ob, nk, nv, wt, cf, cc, ps, pa, pe, sk, ou, ce, bk, ct, lm) (nI p) := by
  have h' := h
  obtain ⟨⟨v1, v2, v3⟩, ⟨a1, a2, a3⟩, ⟨b1, b2⟩, hT, hGo, hF, hN, hWo, hYo, hCo, hP⟩ := h
  have h6 := sk_V6 v1 p (Nat.le_refl p)
  have hpt := (hP hI).1
  by_cases e : sk_H cd p = 0
  · have hK : sk_K cd ar p := sk_K_of v1 (by rw [sk_e, if_pos hI, hc, sk_eI_27, if_pos ((sk_S_neg v1).mpr e)])
    have ag : ∀ y, y < A p → upd op (A p) 27 y = op y ∧ upd oa (A p) 0 y = oa y ∧ upd ob (A p) 0 y = ob y := fun y hy => ⟨pk_un (by omega), pk_un (by omega), pk_un (by omega)⟩
    refine br_t (by rw [hpt, e, nI_0]; decide) (xx_emit a1 (by omega) ?_)
    refine br_c (fun e0 => hG e (iv_end h' hp hI hK hc ag (im_b1 im_n im_n) (iv_Y_s hYo))) (fun e0 => ?_)
    obtain ⟨d, n, d1, d2, d3, d4, d5⟩ := iv_end_Y h' hI hc e0
    have hsub : nI p - da = nI (p - (d + 1)) := by rw [d4]; exact pk_sub (by omega)
    have hnin : vp_in cn 12 := by rw [d3]; exact vp_in_nI d2 (by decide)
    have hncl : cn.toNatClampNeg = n := by rw [d3]; exact nI_clamp (by omega)
    by_cases e4 : p - (d + 1) ≤ 4
    · refine br_f (by rw [hsub]; exact nI_nlt (a := 4) e4 (by decide)) (And.intro hnin (nm_r (e' := upd cf n (nI (d + 1))) (by rw [hncl, d4]) (And.intro hnin (nm_r (e' := upd cc n (nI (p - (d + 1) + 1))) (by rw [hncl, hsub, nI_1]) (hG e (iv_end h' hp hI hK hc ag (im_b1 im_n im_n) (d5 e4)))))))
    · exact br_t (by rw [hsub]; exact nI_lt (a := 4) (by omega) (by omega)) (hG e (iv_end h' hp hI hK hc ag (im_b1 im_n im_n) (iv_Y_s hYo)))
  · exact br_f (by rw [hpt]; exact nI_nle (by omega) (by omega)) (hE e)
end
end
section
/-! X translates the branches and loops -/
section
variable {cd ar op oa ob nk nv wt cf cc ps pa pe op' oa' ob' ps' pa' pe' : Nat → Int32} {A : Nat → Nat} {T p f L' : Nat} {ln vs ii cn da pl nf pt pt' : Int32} {l : im_l}
theorem iv_topP (h : iv cd ar T p f A ln vs ii cn da pl nf pt op oa ob nk nv wt cf cc ps pa pe) (hp : p < T) (hI : sk_I cd p = true) (hK : sk_K cd ar p)
    (hCM : sk_C (cd p) ∨ sk_M (cd p)) (hl : im_k cd ar (iv_ax A p L') (p + 1) True p l) (hL : L' = A p + l.length) (hl1 : l.length ≤ 1)
    (hag : ∀ y, y < A p → op' y = op y ∧ oa' y = oa y ∧ ob' y = ob y) (hb : im_b op' oa' ob' (A p) l) (hPi : sk_P (cd (sk_E cd p (sk_H cd p - 1))))
    (hgi : ∀ oa', oa' (A (sk_E cd p (sk_H cd p - 1))) = nI L' → iv_g cd (iv_ax A p L') oa' (p + 1) (sk_E cd p (sk_H cd p - 1))) (hgp : ∀ oa', iv_g cd (iv_ax A p L') oa' (p + 1) p)
    (hP' : iv_P cd (iv_ax A p L') (p + 1) pt' ps' pa' pe') :
    iv cd ar T (p + 1) f (iv_ax A p L') (nI L') vs ii cn da 0 nf pt' op' (upd oa' (A (sk_E cd p (sk_H cd p - 1))) (nI L')) ob' nk nv wt cf cc ps' pa' pe' := by
  have h' := h
  obtain ⟨⟨v1, v2, v3⟩, ⟨a1, a2, a3⟩, ⟨b1, b2⟩, hT, hG, hF, hN, hWo, hY, hCo, hP⟩ := h
  have hle := iv_ax_le (A := A) (p := p) (L := L')
  have hs := iv_ax_s (A := A) (p := p) (L := L')
  have hH0 := (sk_VCM hK hCM).2
  have hE1 := (sk_mark (cd := cd) p (sk_H cd p - 1) (by omega)).2.1
  have hEI : sk_I cd (sk_E cd p (sk_H cd p - 1)) = true := by
    cases e : sk_I cd (sk_E cd p (sk_H cd p - 1)) with
    | true => rfl
    | false => rcases ((v1 _ hE1).1 e).1 with y | y <;> rw [y] at hPi <;> exact absurd hPi (by decide)
  have hT1 : iv_T cd ar (iv_ax A p L') (p + 1) True op' oa' ob' := iv_T_s hT a2 hle hag ⟨l, hl, by omega, hb⟩
  have hT2 := iv_T_patch (v := nI L') hT1 (iv_A_s a2 hle (by omega)) (i0 := sk_E cd p (sk_H cd p - 1)) (by omega) hEI hPi
  rw [hle _ (by omega)] at hT2
  exact iv_top h' hp hI hK hCM hT2 (by omega) (by omega) (fun y hy => (hag y hy).1) (fun y hy hne => by rw [pk_un (hne hPi)]; exact (hag y hy).2.1) (hgi _ pk_us) (hgp _) hP'
theorem iv_topN (h : iv cd ar T p f A ln vs ii cn da pl nf pt op oa ob nk nv wt cf cc ps pa pe) (hp : p < T) (hI : sk_I cd p = true) (hK : sk_K cd ar p)
    (hCM : sk_C (cd p) ∨ sk_M (cd p)) (hl : im_k cd ar (iv_ax A p L') (p + 1) True p l) (hL : L' = A p + l.length) (hl1 : l.length ≤ 1)
    (hag : ∀ y, y < A p → op' y = op y ∧ oa' y = oa y ∧ ob' y = ob y) (hb : im_b op' oa' ob' (A p) l) (hPi : ¬ sk_P (cd (sk_E cd p (sk_H cd p - 1))))
    (hgp : iv_g cd (iv_ax A p L') oa' (p + 1) p)
    (hP' : iv_P cd (iv_ax A p L') (p + 1) pt' ps' pa' pe') :
    iv cd ar T (p + 1) f (iv_ax A p L') (nI L') vs ii cn da 0 nf pt' op' oa' ob' nk nv wt cf cc ps' pa' pe' := by
  have h' := h
  obtain ⟨⟨v1, v2, v3⟩, ⟨a1, a2, a3⟩, ⟨b1, b2⟩, hT, hG, hF, hN, hWo, hY, hCo, hP⟩ := h
  have hle := iv_ax_le (A := A) (p := p) (L := L')
  have hs := iv_ax_s (A := A) (p := p) (L := L')
  have hT1 : iv_T cd ar (iv_ax A p L') (p + 1) True op' oa' ob' := iv_T_s hT a2 hle hag ⟨l, hl, by omega, hb⟩
  exact iv_top h' hp hI hK hCM hT1 (by omega) (by omega) (fun y hy => (hag y hy).1) (fun y hy _ => (hag y hy).2.1) (iv_g_x hPi) hgp hP'
end
section
variable {tk tr ep ln vs ii cn da pl nf pt sp oc rn tu so : Int32} {cd ar op oa ob nk nv wt cf cc ps pa pe sk ou ce bk ct lm : Nat → Int32} {T p f : Nat} {A : Nat → Nat}
theorem xx_openPart {post : Int32 → SX → Prop} (h : iv cd ar T p f A ln vs ii cn da pl nf pt op oa ob nk nv wt cf cc ps pa pe) (hp : p < T) (hI : sk_I cd p = true) (hO : sk_O (cd p))
    (hE : ¬ sk_e cd ar p = 0 → sk_e cd ar p = 5 → post 5 (tk, tr, ep, ln, vs, ii, cn, da, 0, nf, pt, sp, oc, rn, tu, so, cd, ar, op, oa, ob, nk, nv, wt, cf, cc, ps, pa, pe, sk, ou, ce, bk, ct, lm))
    (hG : sk_e cd ar p = 0 → ∀ {f : Nat} {A : Nat → Nat} {ln vs ii cn da pl nf pt : Int32} {op oa ob nk nv wt cf cc ps pa pe : Nat → Int32}, iv cd ar T (p + 1) f A ln vs ii cn da pl nf pt op oa ob nk nv wt cf cc ps pa pe → post 0 (tk, tr, ep, ln, vs, ii, cn, da, pl, nf, pt, sp, oc, rn, tu, so, cd, ar, op, oa, ob, nk, nv, wt, cf, cc, ps, pa, pe, sk, ou, ce, bk, ct, lm)) :
    wpX_openPart post (tk, tr, ep, ln, vs, ii, cn, da, 0, nf, pt, sp, oc, rn, tu, so, cd, ar, op, oa, ob, nk, nv, wt, cf, cc, ps, pa, pe, sk, ou, ce, bk, ct, lm) (nI p) (cd p) := by
  have h' := h
  obtain ⟨⟨v1, v2, v3⟩, ⟨a1, a2, a3⟩, ⟨b1, b2⟩, hT, hGo, hF, hN, hWo, hYo, hCo, hP⟩ := h
  have h6 := sk_V6 v1 p (Nat.le_refl p)
  have hpt := (hP hI).1
  have hee : sk_e cd ar p = if sk_H cd p = 6 then 5 else 0 := by rw [sk_e, if_pos hI, sk_eI_O hO]
  subst a1 hpt
  by_cases e : sk_H cd p = 6
  · rw [if_pos e] at hee
    exact br_f (by rw [e]; decide) (hE (by rw [hee]; decide) hee)
  · rw [if_neg e] at hee
    have hK := sk_K_of v1 hee
    have hin : vp_in (nI (sk_H cd p)) 6 := vp_in_nI (by omega) (by decide)
    have hcl : (nI (sk_H cd p)).toNatClampNeg = sk_H cd p := nI_clamp (by omega)
    refine br_t (nI_lt (b := 6) (by omega) (by decide)) (And.intro hin (nm_r (e' := upd ps (sk_H cd p) (cd p)) (by rw [hcl]) (And.intro hin (nm_r (e' := upd pa (sk_H cd p) (nI (A p))) (by rw [hcl]) ?_))))
    refine br_c (fun e16 => xx_emit rfl (by omega) (nm_r (nI_1 _) (hG hee (f := f) (A := iv_ax A p (A p + 1)) ?_))) (fun n16 => br_c (fun e23 => xx_emit rfl (by omega) (nm_r (nI_1 _) (hG hee (f := f) (A := iv_ax A p (A p + 1)) ?_))) (fun n23 => nm_r (nI_1 _) (hG hee (f := f) (A := iv_ax A p (A p)) ?_)))
    · refine iv_open (l := [(cd p, none, none)]) h' hp hI hK hO (Or.inr (Or.inr (Or.inr (Or.inr (Or.inr (Or.inl ⟨hI, Or.inl e16, rfl⟩)))))) rfl (fun y hy => ⟨pk_un (by omega), pk_un (by omega), pk_un (by omega)⟩) ?_ (Nat.le_refl 1) (fun _ => rfl)
      rw [e16]; exact im_b1 im_n im_n
    · refine iv_open (l := [(cd p, none, some (nI (sk_H cd p)))]) h' hp hI hK hO (Or.inr (Or.inr (Or.inr (Or.inr (Or.inr (Or.inr (Or.inr (Or.inr (Or.inl ⟨hI, e23, rfl⟩))))))))) rfl (fun y hy => ⟨pk_un (by omega), pk_un (by omega), pk_un (by omega)⟩) ?_ (Nat.le_refl 1) (fun _ => rfl)
      rw [e23]; exact im_b1 im_n (im_s rfl)
    · have e19 : cd p = 19 := by
        rcases hO with z | z | z
        · exact absurd z n16
        · exact z
        · exact absurd z n23
      exact iv_open (l := []) h' hp hI hK hO (Or.inr (Or.inr (Or.inr (Or.inr (Or.inr (Or.inr (Or.inl ⟨hI, Or.inr e19, rfl⟩))))))) rfl (fun y hy => ⟨rfl, rfl, rfl⟩) trivial (Nat.zero_le 1) (fun z => absurd z n16)
theorem xx_inner {post : Int32 → Prop} : ∀ n n', n ≤ 6 → n < n' → post (sk_o (sk_t ps n)) → wX_innermostTimes_7 post tk tr ep ln vs ii cn da pl nf pt sp oc rn tu so cd ar op oa ob nk nv wt cf cc ps pa pe sk ou ce bk ct lm n' (nI n - 1) := by
  intro n
  induction n with
  | zero =>
    intro n' _ hn h
    obtain ⟨m, rfl⟩ : ∃ m, n' = m + 1 := ⟨n' - 1, by omega⟩
    rw [sk_n1]
    exact br_t (by decide) h
  | succ n ih =>
    intro n' h6 hn h
    obtain ⟨m, rfl⟩ : ∃ m, n' = m + 1 := ⟨n' - 1, by omega⟩
    rw [nI_pred]
    refine br_f (nI_pos (by omega)) (And.intro (vp_in_nI (by omega) (by decide)) ?_)
    rw [nI_clamp (show n < 2 ^ 31 by omega)]
    rw [sk_t] at h
    by_cases e : ps n = 23
    · rw [if_pos e] at h; exact br_t e h
    · rw [if_neg e] at h; exact br_f e (nm_r (sk_am _) (ih m (by omega) (by omega) h))
theorem xx_25 {post : Int32 → SX → Prop} (h : iv cd ar T p f A ln vs ii cn da pl nf pt op oa ob nk nv wt cf cc ps pa pe) (hp : p < T) (hI : sk_I cd p = true) (hc : cd p = 25)
    (hE : ¬ sk_e cd ar p = 0 → sk_e cd ar p = 4 → post 4 (tk, tr, ep, ln, vs, ii, cn, da, 0, nf, pt, sp, oc, rn, tu, so, cd, ar, op, oa, ob, nk, nv, wt, cf, cc, ps, pa, pe, sk, ou, ce, bk, ct, lm))
    (hG : sk_e cd ar p = 0 → ∀ {f : Nat} {A : Nat → Nat} {ln vs ii cn da pl nf pt : Int32} {op oa ob nk nv wt cf cc ps pa pe : Nat → Int32}, iv cd ar T (p + 1) f A ln vs ii cn da pl nf pt op oa ob nk nv wt cf cc ps pa pe → post 0 (tk, tr, ep, ln, vs, ii, cn, da, pl, nf, pt, sp, oc, rn, tu, so, cd, ar, op, oa, ob, nk, nv, wt, cf, cc, ps, pa, pe, sk, ou, ce, bk, ct, lm)) :
    wpX_innermostTimes (fun r_117 => (((0 ≤ r_117 → (wpX_emit (fun r_154 u => match u with | (tk, tr, ep, ln, vs, ii, cn, da, pl, nf, pt, sp, oc, rn, tu, so, cd, ar, op, oa, ob, nk, nv, wt, cf, cc, ps, pa, pe, sk, ou, ce, bk, ct, lm) => (post 0 (tk, tr, ep, ln, vs, ii, cn, da, pl, nf, pt, sp, oc, rn, tu, so, cd, ar, op, oa, ob, nk, nv, wt, cf, cc, ps, pa, pe, sk, ou, ce, bk, ct, lm))) (tk, tr, ep, ln, vs, ii, cn, da, 0, nf, pt, sp, oc, rn, tu, so, cd, ar, op, oa, ob, nk, nv, wt, cf, cc, ps, pa, pe, sk, ou, ce, bk, ct, lm) 25 0 r_117)) ∧ (¬ 0 ≤ r_117 → (post 4 (tk, tr, ep, ln, vs, ii, cn, da, 0, nf, pt, sp, oc, rn, tu, so, cd, ar, op, oa, ob, nk, nv, wt, cf, cc, ps, pa, pe, sk, ou, ce, bk, ct, lm)))))) (tk, tr, ep, ln, vs, ii, cn, da, 0, nf, pt, sp, oc, rn, tu, so, cd, ar, op, oa, ob, nk, nv, wt, cf, cc, ps, pa, pe, sk, ou, ce, bk, ct, lm) := by
  have h' := h
  obtain ⟨⟨v1, v2, v3⟩, ⟨a1, a2, a3⟩, ⟨b1, b2⟩, hT, hGo, hF, hN, hWo, hYo, hCo, hP⟩ := h
  have h6 := sk_V6 v1 p (Nat.le_refl p)
  obtain ⟨hpt, hps⟩ := hP hI
  have hee : sk_e cd ar p = if sk_r (sk_Q cd p) cd 23 (sk_H cd p) < 0 then 4 else 0 := by rw [sk_e, if_pos hI, hc, sk_eI_25]
  have ht : sk_t ps (sk_H cd p) = sk_t (fun j => cd (sk_Q cd p j)) (sk_H cd p) := by
    rw [← sk_tE v1]
    exact sk_t_ext _ (fun j hj => by rw [(hps j hj).1])
  have hr := sk_r23 (g := sk_Q cd p) (cd := cd) (sk_H cd p)
  subst a1 hpt
  refine nm_e ⟨sk_H cd p + 1, xx_inner _ _ h6 (by omega) ?_⟩
  rw [ht]
  cases e : sk_t (fun j => cd (sk_Q cd p j)) (sk_H cd p) with
  | none =>
    have hr' : sk_r (sk_Q cd p) cd 23 (sk_H cd p) = -1 := by rw [hr, e]
    rw [hr', if_pos (by decide)] at hee
    exact br_f (show ¬ (0 : Int32) ≤ -1 by decide) (hE (by rw [hee]; decide) hee)
  | some j =>
    have hr' : sk_r (sk_Q cd p) cd 23 (sk_H cd p) = nI (sk_Q cd p j) := by rw [hr, e]
    obtain ⟨j1, j2⟩ := sk_t_some _ e
    have := (sk_nest (cd := cd) p j j1).1
    rw [hr', if_neg (nI_pos (by omega))] at hee
    have hK := sk_K_of v1 hee
    refine br_t (show (0 : Int32) ≤ nI j from nI_pos' (by omega)) (xx_emit rfl (by omega) (hG hee (f := f) (A := iv_ax A p (A p + 1)) ?_))
    refine iv_simple (l := [(25, none, some (nI j))]) h' hp hI hK (by rw [hc]; decide) (by rw [hc]; decide) (by rw [hc]; decide) (by rw [hc]; decide) (by rw [hc]; decide) (by rw [hc]; decide)
      (Or.inr (Or.inr (Or.inr (Or.inr (Or.inr (Or.inr (Or.inr (Or.inr (Or.inr (Or.inr (Or.inl ⟨hI, hc, j, e, rfl⟩))))))))))) rfl (fun y hy => ⟨pk_un (by omega), pk_un (by omega), pk_un (by omega)⟩)
      (im_b1 im_n (im_s rfl)) (by omega) b1 (Nat.le_refl f) (by omega) (fun z => by rw [hc] at z; exact absurd z (by decide)) (fun z => absurd z (by decide : ¬ (1 = 2))) (Or.inl rfl) ?_
    refine iv_W_s hWo (Or.inl (by rw [hc]; decide)) iv_ax_le (fun i hi hIi hci hf => ?_)
    have h2 := a2 (i + 1) p (by omega) (Nat.le_refl p)
    have h3 := iv_T_15 hT hi hIi hci
    exact pk_un (by omega)
end
end
section
/-! X translates ELSE, THEN, UNTIL, WHILE, REPEAT, LOOP -/
section
variable {tk tr ep ln vs ii cn da pl nf pt sp oc rn tu so : Int32} {cd ar op oa ob nk nv wt cf cc ps pa pe sk ou ce bk ct lm : Nat → Int32} {T p f : Nat} {A : Nat → Nat}
theorem xx_branch {post : Int32 → SX → Prop} (h : iv cd ar T p f A ln vs ii cn da pl nf pt op oa ob nk nv wt cf cc ps pa pe) (hp : p < T) (hI : sk_I cd p = true) (hc : cd p = 17 ∨ cd p = 18)
    (hE : ¬ sk_e cd ar p = 0 → sk_e cd ar p = 4 → post 4 (tk, tr, ep, ln, vs, ii, cn, da, 0, nf, pt, sp, oc, rn, tu, so, cd, ar, op, oa, ob, nk, nv, wt, cf, cc, ps, pa, pe, sk, ou, ce, bk, ct, lm))
    (hG : sk_e cd ar p = 0 → ∀ {f : Nat} {A : Nat → Nat} {ln vs ii cn da pl nf pt : Int32} {op oa ob nk nv wt cf cc ps pa pe : Nat → Int32}, iv cd ar T (p + 1) f A ln vs ii cn da pl nf pt op oa ob nk nv wt cf cc ps pa pe → post 0 (tk, tr, ep, ln, vs, ii, cn, da, pl, nf, pt, sp, oc, rn, tu, so, cd, ar, op, oa, ob, nk, nv, wt, cf, cc, ps, pa, pe, sk, ou, ce, bk, ct, lm)) :
    wpX_branchPart post (tk, tr, ep, ln, vs, ii, cn, da, 0, nf, pt, sp, oc, rn, tu, so, cd, ar, op, oa, ob, nk, nv, wt, cf, cc, ps, pa, pe, sk, ou, ce, bk, ct, lm) (cd p) (sk_S cd p) := by
  have h' := h
  obtain ⟨⟨v1, v2, v3⟩, ⟨a1, a2, a3⟩, ⟨b1, b2⟩, hT, hGo, hF, hN, hWo, hYo, hCo, hP⟩ := h
  have h6 := sk_V6 v1 p (Nat.le_refl p)
  obtain ⟨hpt, hps⟩ := hP hI
  have hee : sk_e cd ar p = sk_eI (cd p) (ar p) (sk_S cd p) (sk_H cd p) (sk_r (sk_Q cd p) cd 23 (sk_H cd p)) := by rw [sk_e, if_pos hI]
  subst a1 hpt
  have go : (cd p = 17 ∧ sk_S cd p = 16) ∨ (cd p = 18 ∧ (sk_S cd p = 16 ∨ sk_S cd p = 17)) → wX_branchPart_27 post (cd p) (nI (sk_H cd p) - 1) tk tr ep (nI (A p)) vs ii cn da 0 nf (nI (sk_H cd p)) sp oc rn tu so cd ar op oa ob nk nv wt cf cc ps pa pe sk ou ce bk ct lm := by
    intro hs
    have he0 : sk_e cd ar p = 0 := by
      rcases hs with ⟨c, s⟩ | ⟨c, s⟩
      · rw [hee, c, sk_eI_17, if_pos s]
      · rw [hee, c, sk_eI_18, if_pos s]
    have hK := sk_K_of v1 he0
    have hS : sk_S cd p = 16 ∨ sk_S cd p = 17 := by
      rcases hs with ⟨c, s⟩ | ⟨c, s⟩
      · exact Or.inl s
      · exact s
    have hH0 : 0 < sk_H cd p := by
      rcases hS with s | s
      · exact sk_S0 s (by decide)
      · exact sk_S0 s (by decide)
    obtain ⟨t, htt⟩ : ∃ t, sk_H cd p = t + 1 := ⟨sk_H cd p - 1, by omega⟩
    have ht1 : sk_H cd p - 1 = t := by omega
    have hcE : sk_S cd p = cd (sk_E cd p t) := by rw [sk_S1 hH0, ht1]
    obtain ⟨p1, p2, p3⟩ := hps t (by omega)
    have hx : nI (sk_H cd p) - 1 = nI t := by rw [htt, nI_pred]
    have hin : vp_in (nI t) 6 := vp_in_nI (by omega) (by decide)
    have hcl : (nI t).toNatClampNeg = t := nI_clamp (by omega)
    have hEp := (sk_mark (cd := cd) p t (by omega)).2.1
    have hPi : sk_P (cd (sk_E cd p t)) := by
      rw [← hcE]; rcases hS with s | s
      · exact Or.inl s
      · exact Or.inr (Or.inl s)
    have hEQ : sk_S cd p = 16 → sk_E cd p t = sk_Q cd p t := by
      intro s
      rw [hcE] at s
      rcases sk_mk v1 p (Nat.le_refl p) t (by omega) with q | q | q
      · exact q
      · rw [s] at q; exact absurd q.2 (by decide)
      · rw [s] at q; exact absurd q.2 (by decide)
    have hpa : pa t = nI (A (sk_E cd p t)) := by
      rw [p2]
      rcases hS with s | s
      · rw [if_neg (by rw [← hcE, s]; decide), hEQ s]
      · rw [if_pos (by rw [← hcE, s])]
    have hlt : A (sk_E cd p t) < 256 := by have := a2 (sk_E cd p t) p (by omega) (Nat.le_refl p); omega
    have hpin : vp_in (pa t) 256 := by rw [hpa]; exact vp_in_nI hlt (by decide)
    have hpcl : (pa t).toNatClampNeg = A (sk_E cd p t) := by rw [hpa]; exact nI_clamp (by omega)
    rw [hx]
    have gi : ∀ L' oa', (cd p = 17 ∨ cd p = 18) → oa' (A (sk_E cd p t)) = nI L' → iv_g cd (iv_ax A p L') oa' (p + 1) (sk_E cd p t) := by
      intro L' oa' hcp ho
      refine ⟨fun z => Or.inl ⟨p, by omega, ?_, by rw [iv_ax_le _ (by omega), iv_ax_s]; exact ho⟩, fun z => Or.inl ⟨p, by omega, ?_, by rw [iv_ax_le _ (by omega), iv_ax_s]; exact ho⟩, fun z => ?_⟩
      · have hq := hEQ (by rw [hcE]; exact z)
        rw [hq]
        refine sk_B1 (by omega) ?_ hq
        rcases hcp with c | c
        · exact Or.inr c
        · exact Or.inl (Or.inl c)
      · have h17 : sk_S cd p = 17 := by
          rcases hS with s | s
          · rw [← hcE, s] at z; exact absurd z (by decide)
          · exact s
        rcases hs with ⟨c, s⟩ | ⟨c, s⟩
        · rw [s] at h17; exact absurd h17 (by decide)
        · exact sk_B0 (by omega) (Or.inl c) (Or.inr rfl)
      · rcases hS with s | s <;> rw [← hcE, s] at z <;> exact absurd z (by decide)
    by_cases c17 : cd p = 17
    · refine br_t c17 (xx_emit rfl (by omega) (And.intro hin ?_))
      rw [hcl]
      refine And.intro hpin (nm_r (e' := upd (upd oa (A p) 0) (A (sk_E cd p t)) (nI (A p + 1))) (by rw [hpcl]) (And.intro hin (nm_e (And.intro hin (nm_e (hG he0 (f := f) (A := iv_ax A p (A p + 1)) ?_))))))
      have := iv_topP (L' := A p + 1) (l := [(cd p, none, none)]) (op' := upd op (A p) 17) (oa' := upd oa (A p) 0) (ob' := upd ob (A p) 0) (pt' := nI (sk_H cd p)) (ps' := upd ps t 17) (pa' := upd pa t (nI (A p))) (pe' := pe) h' hp hI hK (Or.inr (Or.inl c17)) (Or.inr (Or.inr (Or.inr (Or.inr (Or.inr (Or.inl ⟨hI, Or.inr (Or.inl c17), rfl⟩)))))) rfl (Nat.le_refl 1)
        (fun y hy => ⟨pk_un (by omega), pk_un (by omega), pk_un (by omega)⟩) (by rw [c17]; exact im_b1 im_n im_n) (by rw [ht1]; exact hPi) (fun oa' ho => by rw [ht1] at ho ⊢; exact gi _ _ (Or.inl c17) ho)
        (fun oa' => ⟨fun z => by rw [c17] at z; exact absurd z (by decide), fun _ => Or.inr ⟨t, by rw [sk_HM (Or.inl c17)]; omega, sk_EM (Or.inl c17) (by omega)⟩, fun z => by rw [c17] at z; exact absurd z (by decide)⟩)
        (by have := iv_P_17 (L := A p + 1) hP hI c17 hH0; rw [ht1] at this; exact this)
      rw [ht1] at this
      exact this
    · have c18 : cd p = 18 := by
        rcases hc with z | z
        · exact absurd z c17
        · exact z
      refine br_f c17 (And.intro hin ?_)
      rw [hcl]
      refine And.intro hpin (nm_r (e' := upd oa (A (sk_E cd p t)) (nI (A p))) (by rw [hpcl]) (nm_r (e' := nI t) hx (hG he0 (f := f) (A := iv_ax A p (A p)) ?_)))
      have := iv_topP (L' := A p) (l := []) (op' := op) (oa' := oa) (ob' := ob) (pt' := nI t) (ps' := ps) (pa' := pa) (pe' := pe) h' hp hI hK (Or.inl (Or.inl c18)) (Or.inr (Or.inr (Or.inr (Or.inr (Or.inr (Or.inr (Or.inl ⟨hI, Or.inl c18, rfl⟩))))))) rfl (Nat.zero_le 1)
        (fun y hy => ⟨rfl, rfl, rfl⟩) trivial (by rw [ht1]; exact hPi) (fun oa' ho => by rw [ht1] at ho ⊢; exact gi _ _ (Or.inr c18) ho)
        (fun oa' => iv_g_x (by rw [c18]; decide))
        (by have := iv_P_C (L := A p) hP hI (Or.inl c18); rw [ht1] at this; exact this)
      rw [ht1] at this
      exact this
  have bad : ¬ ((cd p = 17 ∧ sk_S cd p = 16) ∨ (cd p = 18 ∧ (sk_S cd p = 16 ∨ sk_S cd p = 17))) → post 4 (tk, tr, ep, nI (A p), vs, ii, cn, da, 0, nf, nI (sk_H cd p), sp, oc, rn, tu, so, cd, ar, op, oa, ob, nk, nv, wt, cf, cc, ps, pa, pe, sk, ou, ce, bk, ct, lm) := by
    intro hs
    have he4 : sk_e cd ar p = 4 := by
      rcases hc with c | c
      · rw [hee, c, sk_eI_17, if_neg (fun z => hs (Or.inl ⟨c, z⟩))]
      · rw [hee, c, sk_eI_18, if_neg (fun z => hs (Or.inr ⟨c, z⟩))]
    exact hE (by rw [he4]; decide) he4
  refine nm_e (br_c (fun s16 => go ?_) (fun s16 => br_c (fun s17 => br_c (fun c17 => bad ?_) (fun c17 => go ?_)) (fun s17 => bad ?_)))
  · rcases hc with c | c
    · exact Or.inl ⟨c, s16⟩
    · exact Or.inr ⟨c, Or.inl s16⟩
  · intro z
    rcases z with z | z
    · exact s16 z.2
    · have := z.1; rw [c17] at this; exact absurd this (by decide)
  · rcases hc with c | c
    · exact absurd c c17
    · exact Or.inr ⟨c, Or.inr s17⟩
  · intro z
    rcases z with z | z
    · exact s16 z.2
    · rcases z.2 with y | y
      · exact s16 y
      · exact s17 y
theorem xx_loop {post : Int32 → SX → Prop} (h : iv cd ar T p f A ln vs ii cn da pl nf pt op oa ob nk nv wt cf cc ps pa pe) (hp : p < T) (hI : sk_I cd p = true) (hc : cd p = 20 ∨ cd p = 21 ∨ cd p = 22 ∨ cd p = 24)
    (hE : ¬ sk_e cd ar p = 0 → sk_e cd ar p = 4 → post 4 (tk, tr, ep, ln, vs, ii, cn, da, 0, nf, pt, sp, oc, rn, tu, so, cd, ar, op, oa, ob, nk, nv, wt, cf, cc, ps, pa, pe, sk, ou, ce, bk, ct, lm))
    (hG : sk_e cd ar p = 0 → ∀ {f : Nat} {A : Nat → Nat} {ln vs ii cn da pl nf pt : Int32} {op oa ob nk nv wt cf cc ps pa pe : Nat → Int32}, iv cd ar T (p + 1) f A ln vs ii cn da pl nf pt op oa ob nk nv wt cf cc ps pa pe → post 0 (tk, tr, ep, ln, vs, ii, cn, da, pl, nf, pt, sp, oc, rn, tu, so, cd, ar, op, oa, ob, nk, nv, wt, cf, cc, ps, pa, pe, sk, ou, ce, bk, ct, lm)) :
    wpX_loopPart post (tk, tr, ep, ln, vs, ii, cn, da, 0, nf, pt, sp, oc, rn, tu, so, cd, ar, op, oa, ob, nk, nv, wt, cf, cc, ps, pa, pe, sk, ou, ce, bk, ct, lm) (cd p) (sk_S cd p) := by
  have h' := h
  obtain ⟨⟨v1, v2, v3⟩, ⟨a1, a2, a3⟩, ⟨b1, b2⟩, hT, hGo, hF, hN, hWo, hYo, hCo, hP⟩ := h
  have h6 := sk_V6 v1 p (Nat.le_refl p)
  obtain ⟨hpt, hps⟩ := hP hI
  have hee : sk_e cd ar p = sk_eI (cd p) (ar p) (sk_S cd p) (sk_H cd p) (sk_r (sk_Q cd p) cd 23 (sk_H cd p)) := by rw [sk_e, if_pos hI]
  subst a1 hpt
  have hev : ∀ due, (cd p = 20 ∧ due = 19) ∨ (cd p = 21 ∧ due = 19) ∨ (cd p = 22 ∧ due = 21) ∨ (cd p = 24 ∧ due = 23) → sk_e cd ar p = if sk_S cd p = due then 0 else 4 := by
    intro due hd
    rcases hd with ⟨c, d⟩ | ⟨c, d⟩ | ⟨c, d⟩ | ⟨c, d⟩
    · rw [hee, c, d, sk_eI_20]
    · rw [hee, c, d, sk_eI_21]
    · rw [hee, c, d, sk_eI_22]
    · rw [hee, c, d, sk_eI_24]
  have go : ∀ due, (cd p = 20 ∧ due = 19) ∨ (cd p = 21 ∧ due = 19) ∨ (cd p = 22 ∧ due = 21) ∨ (cd p = 24 ∧ due = 23) → wX_loopPart_37 post (cd p) (sk_S cd p) (nI (sk_H cd p) - 1) due tk tr ep (nI (A p)) vs ii cn da 0 nf (nI (sk_H cd p)) sp oc rn tu so cd ar op oa ob nk nv wt cf cc ps pa pe sk ou ce bk ct lm := by
    intro due hd
    have hev' := hev due hd
    refine br_c (fun hS => ?_) (fun hS => ?_)
    · rw [if_pos hS] at hev'
      have hK := sk_K_of v1 hev'
      have hH0 : 0 < sk_H cd p := sk_S0 hS (by rcases hd with d | d | d | d <;> rw [d.2] <;> decide)
      obtain ⟨t, htt⟩ : ∃ t, sk_H cd p = t + 1 := ⟨sk_H cd p - 1, by omega⟩
      have ht1 : sk_H cd p - 1 = t := by omega
      have hcE : sk_S cd p = cd (sk_E cd p t) := by rw [sk_S1 hH0, ht1]
      obtain ⟨p1, p2, p3⟩ := hps t (by omega)
      have hx : nI (sk_H cd p) - 1 = nI t := by rw [htt, nI_pred]
      have hin : vp_in (nI t) 6 := vp_in_nI (by omega) (by decide)
      have hcl : (nI t).toNatClampNeg = t := nI_clamp (by omega)
      obtain ⟨hQE, hEp, hEh, _⟩ := sk_mark (cd := cd) p t (by omega)
      obtain ⟨hQp, hQO, _⟩ := sk_nest (cd := cd) p t (by omega)
      have hlt : A (sk_E cd p t) < 256 := by have := a2 (sk_E cd p t) p (by omega) (Nat.le_refl p); omega
      have hpa : pa t = nI (A (sk_Q cd p t)) := by
        rw [p2, if_neg]
        rw [← hcE, hS]; rcases hd with d | d | d | d <;> rw [d.2] <;> decide
      have hQ19 : (cd p = 20 ∨ cd p = 21 ∨ cd p = 22) → cd (sk_Q cd p t) = 19 := by
        intro hcp
        rcases sk_mk v1 p (Nat.le_refl p) t (by omega) with q | q | q
        · rw [← q]
          have h19 : cd (sk_E cd p t) = due := by rw [← hcE]; exact hS
          rcases hd with d | d | d | d
          · rw [h19]; exact d.2
          · rw [h19]; exact d.2
          · rw [q, d.2] at h19; rw [h19] at hQO; exact absurd hQO (by decide)
          · rw [d.1] at hcp; exact absurd hcp (by decide)
        · rw [← hcE, hS] at q
          rcases hd with d | d | d | d <;> rw [d.2] at q <;> exact absurd q.2 (by decide)
        · exact q.1
      have hA19 : (cd p = 20 ∨ cd p = 21 ∨ cd p = 22) → A (sk_Q cd p t + 1) = A (sk_Q cd p t) := by
        intro hcp
        obtain ⟨l, l1, l2, l3⟩ := hT _ hQp
        rw [im_k_19 l1 (hQ19 hcp)] at l2
        exact l2
      rw [hx]
      refine br_c (fun c21 => ?_) (fun n21 => br_c (fun c24 => And.intro hin ?_) (fun n24 => And.intro hin ?_))
      · have hS19 : sk_S cd p = 19 := by
          rw [hS]; rcases hd with d | d | d | d
          · exact d.2
          · exact d.2
          · rw [d.1] at c21; exact absurd c21 (by decide)
          · rw [d.1] at c21; exact absurd c21 (by decide)
        refine xx_emit rfl (by omega) (And.intro hin (nm_e (And.intro hin (nm_e (hG hev' (f := f) (A := iv_ax A p (A p + 1)) ?_)))))
        rw [hcl]
        refine iv_topN (L' := A p + 1) (l := [(cd p, none, none)]) h' hp hI hK (Or.inr (Or.inr c21)) (Or.inr (Or.inr (Or.inr (Or.inr (Or.inr (Or.inl ⟨hI, Or.inr (Or.inr c21), rfl⟩)))))) rfl (Nat.le_refl 1)
          (fun y hy => ⟨pk_un (by omega), pk_un (by omega), pk_un (by omega)⟩) (by rw [c21]; exact im_b1 im_n im_n) (by rw [ht1, ← hcE, hS19]; decide)
          ⟨fun z => by rw [c21] at z; exact absurd z (by decide), fun _ => Or.inr ⟨t, by rw [sk_HM (Or.inr c21)]; omega, sk_EM (Or.inr c21) (by omega)⟩, fun z => by rw [c21] at z; exact absurd z (by decide)⟩ ?_
        have := iv_P_21 (L := A p + 1) hP hI c21 hS19
        rw [ht1] at this; exact this
      · have hd24 : due = 23 := by
          rcases hd with d | d | d | d
          · rw [d.1] at c24; exact absurd c24 (by decide)
          · rw [d.1] at c24; exact absurd c24 (by decide)
          · rw [d.1] at c24; exact absurd c24 (by decide)
          · exact d.2
        have h23 : cd (sk_E cd p t) = 23 := by rw [← hcE, hS]; exact hd24
        have hEQ : sk_E cd p t = sk_Q cd p t := by
          rcases sk_mk v1 p (Nat.le_refl p) t (by omega) with q | q | q
          · exact q
          · rw [h23] at q; exact absurd q.2 (by decide)
          · rw [h23] at q; exact absurd q.2 (by decide)
        have hPi : sk_P (cd (sk_E cd p t)) := Or.inr (Or.inr (Or.inr h23))
        have hpin : vp_in (pa t) 256 := by rw [hpa, ← hEQ]; exact vp_in_nI hlt (by decide)
        have hpcl : (pa t).toNatClampNeg = A (sk_E cd p t) := by rw [hpa, ← hEQ]; exact nI_clamp (by omega)
        have hEI : sk_I cd (sk_E cd p t) = true := by
          cases e : sk_I cd (sk_E cd p t) with
          | true => rfl
          | false => rcases ((v1 _ hEp).1 e).1 with y | y <;> rw [y] at h23 <;> exact absurd h23 (by decide)
        have hA1 : A (sk_Q cd p t + 1) = A (sk_Q cd p t) + 1 := by rw [← hEQ]; exact iv_T_P hT hEp hEI hPi
        rw [hcl]
        refine xx_emit rfl (by omega) (And.intro hin (And.intro hpin (nm_r (e' := upd (upd oa (A p) (pa t + 1)) (A (sk_E cd p t)) (nI (A p + 1))) (by rw [hpcl]) (nm_r (e' := nI t) hx (hG hev' (f := f) (A := iv_ax A p (A p + 1)) ?_)))))
        have := iv_topP (L' := A p + 1) (l := [(24, some (nI (iv_ax A p (A p + 1) (sk_Q cd p (sk_H cd p - 1) + 1))), some (nI (sk_H cd p - 1)))]) (op' := upd op (A p) 24) (oa' := upd oa (A p) (pa t + 1)) (ob' := upd ob (A p) (nI t)) (pt' := nI t) (ps' := ps) (pa' := pa) (pe' := pe) h' hp hI hK (Or.inl (Or.inr (Or.inr (Or.inr c24))))
          (Or.inr (Or.inr (Or.inr (Or.inr (Or.inr (Or.inr (Or.inr (Or.inr (Or.inr (Or.inl ⟨hI, c24, rfl⟩)))))))))) rfl (Nat.le_refl 1)
          (fun y hy => ⟨pk_un (by omega), pk_un (by omega), pk_un (by omega)⟩) (im_b1 (im_s (by rw [ht1, iv_ax_le _ (by omega), hA1, hpa, nI_1])) (im_s (by rw [ht1]))) (by rw [ht1]; exact hPi)
          (fun oa' ho => by
            rw [ht1] at ho ⊢
            exact ⟨fun z => by rw [h23] at z; exact absurd z (by decide), fun z => by rw [h23] at z; exact absurd z (by decide), fun _ => Or.inl ⟨p, by omega, sk_B0 (by omega) (Or.inr (Or.inr (Or.inr c24))) (Or.inr rfl), by rw [iv_ax_le _ (by omega), iv_ax_s]; exact ho⟩⟩)
          (fun oa' => iv_g_x (by rw [c24]; decide))
          (by have := iv_P_C (L := A p + 1) hP hI (Or.inr (Or.inr (Or.inr c24))); rw [ht1] at this; exact this)
        rw [ht1] at this
        exact this
      · rw [hcl]
        have hc2 : cd p = 20 ∨ cd p = 22 := by
          rcases hc with z | z | z | z
          · exact Or.inl z
          · exact absurd z n21
          · exact Or.inr z
          · exact absurd z n24
        have hA1 : A (sk_Q cd p t + 1) = A (sk_Q cd p t) := hA19 (by rcases hc2 with z | z; exact Or.inl z; exact Or.inr (Or.inr z))
        have hCp : sk_C (cd p) := by rcases hc2 with z | z; exact Or.inr (Or.inl z); exact Or.inr (Or.inr (Or.inl z))
        have hk : im_k cd ar (iv_ax A p (A p + 1)) (p + 1) True p [(cd p, some (nI (iv_ax A p (A p + 1) (sk_Q cd p (sk_H cd p - 1) + 1))), none)] :=
          Or.inr (Or.inr (Or.inr (Or.inr (Or.inr (Or.inr (Or.inr (Or.inl ⟨hI, hc2, rfl⟩)))))))
        have hbb : im_b (upd op (A p) (cd p)) (upd oa (A p) (pa t)) (upd ob (A p) 0) (A p) [(cd p, some (nI (iv_ax A p (A p + 1) (sk_Q cd p (sk_H cd p - 1) + 1))), none)] :=
          im_b1 (im_s (by rw [ht1, iv_ax_le _ (by omega), hA1, hpa])) im_n
        refine xx_emit rfl (by omega) (br_c (fun c22 => And.intro hin ?_) (fun n22 => nm_r (e' := nI t) hx (hG hev' (f := f) (A := iv_ax A p (A p + 1)) ?_)))
        · have h21 : cd (sk_E cd p t) = 21 := by
            rw [← hcE, hS]; rcases hd with d | d | d | d
            · rw [d.1] at c22; exact absurd c22 (by decide)
            · rw [d.1] at c22; exact absurd c22 (by decide)
            · exact d.2
            · rw [d.1] at c22; exact absurd c22 (by decide)
          have hPi : sk_P (cd (sk_E cd p t)) := Or.inr (Or.inr (Or.inl h21))
          have hpe := p3 h21
          have hpin : vp_in (pe t) 256 := by rw [hpe]; exact vp_in_nI hlt (by decide)
          have hpcl : (pe t).toNatClampNeg = A (sk_E cd p t) := by rw [hpe]; exact nI_clamp (by omega)
          refine And.intro hpin (nm_r (e' := upd (upd oa (A p) (pa t)) (A (sk_E cd p t)) (nI (A p + 1))) (by rw [hpcl]) (nm_r (e' := nI t) hx (hG hev' (f := f) (A := iv_ax A p (A p + 1)) ?_)))
          have := iv_topP (L' := A p + 1) (op' := upd op (A p) (cd p)) (oa' := upd oa (A p) (pa t)) (ob' := upd ob (A p) 0) (pt' := nI t) (ps' := ps) (pa' := pa) (pe' := pe) h' hp hI hK (Or.inl hCp) hk rfl (Nat.le_refl 1)
            (fun y hy => ⟨pk_un (by omega), pk_un (by omega), pk_un (by omega)⟩) hbb (by rw [ht1]; exact hPi)
            (fun oa' ho => by
              rw [ht1] at ho ⊢
              exact ⟨fun z => by rw [h21] at z; exact absurd z (by decide), fun _ => Or.inl ⟨p, by omega, sk_B0 (by omega) hCp (Or.inr rfl), by rw [iv_ax_le _ (by omega), iv_ax_s]; exact ho⟩, fun z => by rw [h21] at z; exact absurd z (by decide)⟩)
            (fun oa' => iv_g_x (by rw [c22]; decide))
            (by have := iv_P_C (L := A p + 1) hP hI hCp; rw [ht1] at this; exact this)
          rw [ht1] at this
          exact this
        · have c20 : cd p = 20 := by rcases hc2 with z | z; exact z; exact absurd z n22
          have h19 : cd (sk_E cd p t) = 19 := by
            rw [← hcE, hS]; rcases hd with d | d | d | d
            · exact d.2
            · exact d.2
            · rw [d.1] at c20; exact absurd c20 (by decide)
            · rw [d.1] at c20; exact absurd c20 (by decide)
          exact iv_topN (L' := A p + 1) h' hp hI hK (Or.inl hCp) hk rfl (Nat.le_refl 1)
            (fun y hy => ⟨pk_un (by omega), pk_un (by omega), pk_un (by omega)⟩) hbb (by rw [ht1, h19]; decide)
            (iv_g_x (by rw [c20]; decide))
            (by have := iv_P_C (L := A p + 1) hP hI hCp; rw [ht1] at this; exact this)
    · rw [if_neg hS] at hev'
      exact hE (by rw [hev']; decide) hev'
  refine nm_e (br_c (fun c => go 19 (Or.inl ⟨c, rfl⟩)) (fun n20 => br_c (fun c => go 19 (Or.inr (Or.inl ⟨c, rfl⟩))) (fun n21 => br_c (fun c => go 21 (Or.inr (Or.inr (Or.inl ⟨c, rfl⟩)))) (fun n22 => go 23 (Or.inr (Or.inr (Or.inr ⟨?_, rfl⟩)))))))
  rcases hc with z | z | z | z
  · exact absurd z n20
  · exact absurd z n21
  · exact absurd z n22
  · exact z
end
end
section
/-! X at one token: the error, or the invariant at the next -/
section
variable {tk tr ep ln vs ii cn da pl nf pt sp oc rn tu so : Int32} {cd ar op oa ob nk nv wt cf cc ps pa pe sk ou ce bk ct lm : Nat → Int32} {T p f : Nat} {A : Nat → Nat}
theorem xx_control {post : Int32 → SX → Prop} (h : iv cd ar T p f A ln vs ii cn da pl nf pt op oa ob nk nv wt cf cc ps pa pe) (hp : p < T) (hI : sk_I cd p = true)
    (hc : ∃ k : Nat, 16 ≤ k ∧ k ≤ 25 ∧ cd p = nI k)
    (hE : ¬ sk_e cd ar p = 0 → post (sk_e cd ar p) (tk, tr, ep, ln, vs, ii, cn, da, 0, nf, pt, sp, oc, rn, tu, so, cd, ar, op, oa, ob, nk, nv, wt, cf, cc, ps, pa, pe, sk, ou, ce, bk, ct, lm))
    (hG : sk_e cd ar p = 0 → ∀ {f : Nat} {A : Nat → Nat} {ln vs ii cn da pl nf pt : Int32} {op oa ob nk nv wt cf cc ps pa pe : Nat → Int32}, iv cd ar T (p + 1) f A ln vs ii cn da pl nf pt op oa ob nk nv wt cf cc ps pa pe → post 0 (tk, tr, ep, ln, vs, ii, cn, da, pl, nf, pt, sp, oc, rn, tu, so, cd, ar, op, oa, ob, nk, nv, wt, cf, cc, ps, pa, pe, sk, ou, ce, bk, ct, lm)) :
    wpX_translateControl post (tk, tr, ep, ln, vs, ii, cn, da, 0, nf, pt, sp, oc, rn, tu, so, cd, ar, op, oa, ob, nk, nv, wt, cf, cc, ps, pa, pe, sk, ou, ce, bk, ct, lm) (nI p) (cd p) := by
  have h' := h
  obtain ⟨⟨v1, v2, v3⟩, ⟨a1, a2, a3⟩, ⟨b1, b2⟩, hT, hGo, hF, hN, hWo, hYo, hCo, hP⟩ := h
  have h6 := sk_V6 v1 p (Nat.le_refl p)
  obtain ⟨hpt, hps⟩ := hP hI
  have hE4 : ¬ sk_e cd ar p = 0 → sk_e cd ar p = 4 → post 4 (tk, tr, ep, ln, vs, ii, cn, da, 0, nf, pt, sp, oc, rn, tu, so, cd, ar, op, oa, ob, nk, nv, wt, cf, cc, ps, pa, pe, sk, ou, ce, bk, ct, lm) := fun z e => by have := hE z; rw [e] at this; exact this
  have hE5 : ¬ sk_e cd ar p = 0 → sk_e cd ar p = 5 → post 5 (tk, tr, ep, ln, vs, ii, cn, da, 0, nf, pt, sp, oc, rn, tu, so, cd, ar, op, oa, ob, nk, nv, wt, cf, cc, ps, pa, pe, sk, ou, ce, bk, ct, lm) := fun z e => by have := hE z; rw [e] at this; exact this
  have k18 : sk_O (cd p) → wX_translateControl_18 post (nI p) (cd p) tk tr ep ln vs ii cn da 0 nf pt sp oc rn tu so cd ar op oa ob nk nv wt cf cc ps pa pe sk ou ce bk ct lm := fun hO => xx_openPart h' hp hI hO hE5 hG
  refine br_c (fun e => k18 (Or.inl e)) (fun n16 => br_c (fun e => k18 (Or.inr (Or.inl e))) (fun n19 => br_c (fun e => k18 (Or.inr (Or.inr e))) (fun n23 => br_c (fun e => xx_25 h' hp hI e hE4 hG) (fun n25 => ?_))))
  have hc' : cd p = 17 ∨ cd p = 18 ∨ cd p = 20 ∨ cd p = 21 ∨ cd p = 22 ∨ cd p = 24 := by
    obtain ⟨k, k1, k2, k3⟩ := hc
    have : k = 16 ∨ k = 17 ∨ k = 18 ∨ k = 19 ∨ k = 20 ∨ k = 21 ∨ k = 22 ∨ k = 23 ∨ k = 24 ∨ k = 25 := by omega
    rcases this with e | e | e | e | e | e | e | e | e | e <;> subst e
    · exact absurd k3 n16
    · exact Or.inl k3
    · exact Or.inr (Or.inl k3)
    · exact absurd k3 n19
    · exact Or.inr (Or.inr (Or.inl k3))
    · exact Or.inr (Or.inr (Or.inr (Or.inl k3)))
    · exact Or.inr (Or.inr (Or.inr (Or.inr (Or.inl k3))))
    · exact absurd k3 n23
    · exact Or.inr (Or.inr (Or.inr (Or.inr (Or.inr k3))))
    · exact absurd k3 n25
  have k75 : wX_translateControl_75 post (cd p) (sk_S cd p) tk tr ep ln vs ii cn da 0 nf pt sp oc rn tu so cd ar op oa ob nk nv wt cf cc ps pa pe sk ou ce bk ct lm := by
    refine br_c (fun e => xx_branch h' hp hI (Or.inl e) hE4 hG) (fun n17 => br_c (fun e => xx_branch h' hp hI (Or.inr e) hE4 hG) (fun n18 => xx_loop h' hp hI ?_ hE4 hG))
    rcases hc' with z | z | z
    · exact absurd z n17
    · exact absurd z n18
    · exact z
  by_cases e : sk_H cd p = 0
  · rw [sk_S, if_pos e] at k75
    exact br_t (by rw [hpt, e, nI_0]) k75
  · obtain ⟨t, htt⟩ : ∃ t, sk_H cd p = t + 1 := ⟨sk_H cd p - 1, by omega⟩
    have hx : pt - 1 = nI t := by rw [hpt, htt, nI_pred]
    refine br_f (by rw [hpt]; exact nI_ne0 (by omega) (by omega)) ?_
    rw [hx, nI_clamp (show t < 2 ^ 31 by omega)]
    refine And.intro (vp_in_nI (by omega) (by decide)) ?_
    rw [(hps t (by omega)).1]
    rw [sk_S1 (by omega), htt, Nat.add_sub_cancel] at k75
    exact k75
theorem xx_inside {post : Int32 → SX → Prop} (h : iv cd ar T p f A ln vs ii cn da pl nf pt op oa ob nk nv wt cf cc ps pa pe) (ht : tk = nI T) (hp : p < T) (hI : sk_I cd p = true)
    (hE : ∀ {pl : Int32}, ¬ sk_e cd ar p = 0 → post (sk_e cd ar p) (tk, tr, ep, ln, vs, ii, cn, da, pl, nf, pt, sp, oc, rn, tu, so, cd, ar, op, oa, ob, nk, nv, wt, cf, cc, ps, pa, pe, sk, ou, ce, bk, ct, lm))
    (hG : sk_e cd ar p = 0 → ∀ {f : Nat} {A : Nat → Nat} {ln vs ii cn da pl nf pt : Int32} {op oa ob nk nv wt cf cc ps pa pe : Nat → Int32}, iv cd ar T (p + 1) f A ln vs ii cn da pl nf pt op oa ob nk nv wt cf cc ps pa pe → post 0 (tk, tr, ep, ln, vs, ii, cn, da, pl, nf, pt, sp, oc, rn, tu, so, cd, ar, op, oa, ob, nk, nv, wt, cf, cc, ps, pa, pe, sk, ou, ce, bk, ct, lm)) :
    wpX_insideToken post (tk, tr, ep, ln, vs, ii, cn, da, pl, nf, pt, sp, oc, rn, tu, so, cd, ar, op, oa, ob, nk, nv, wt, cf, cc, ps, pa, pe, sk, ou, ce, bk, ct, lm) (nI p) := by
  have h' := h
  obtain ⟨⟨v1, v2, v3⟩, ⟨a1, a2, a3⟩, ⟨b1, b2⟩, hT, hGo, hF, hN, hWo, hYo, hCo, hP⟩ := h
  have hin : vp_in (nI p) 80 := vp_in_nI (by omega) (by decide)
  have hcl : (nI p).toNatClampNeg = p := sk_cl (by omega)
  have hee : sk_e cd ar p = sk_eI (cd p) (ar p) (sk_S cd p) (sk_H cd p) (sk_r (sk_Q cd p) cd 23 (sk_H cd p)) := by rw [sk_e, if_pos hI]
  refine And.intro hin (nm_r (congrArg cd hcl) ?_)
  refine br_c (fun e0 => ?_) (fun e0 => br_c (fun e27 => ?_) (fun e27 => br_c (fun e26 => ?_) (fun e26 => br_c (fun e15 => ?_) (fun n15 => br_c (fun l16 => ?_) (fun l16 => br_c (fun c27 => ?_) (fun n27 => ?_))))))
  · have : sk_e cd ar p = 1 := by rw [hee, sk_eI, if_pos e0]
    have g := hE (pl := pl) (by rw [this]; decide); rw [this] at g; exact g
  · have : sk_e cd ar p = 1 := by rw [hee, sk_eI, if_neg e0, if_pos e27]
    have g := hE (pl := pl) (by rw [this]; decide); rw [this] at g; exact g
  · have : sk_e cd ar p = 1 := by rw [hee, sk_eI, if_neg e0, if_neg e27, if_pos e26]
    have g := hE (pl := pl) (by rw [this]; decide); rw [this] at g; exact g
  · rw [e15, sk_eI_15] at hee
    refine xx_word h' ht hp hI e15 (fun z => ?_) (fun z => ?_)
    · rw [if_neg z] at hee
      have g := hE (pl := 0) (by rw [hee]; decide); rw [hee] at g; exact g
    · rw [if_pos z] at hee
      exact hG hee
  · obtain ⟨k, hk, e⟩ := nI_of2 (M := 16) (n := 16) (by decide) e0 (Int32.le_of_lt l16)
    have k16 : ¬ k = 16 := fun z => by rw [e, z] at l16; exact absurd l16 (by decide)
    have k15 : ¬ k = 15 := fun z => n15 (by rw [e, z]; rfl)
    have hpl : sk_pl (cd p) := ⟨e0, by rw [e]; exact nI_le (b := 14) (by omega) (by decide)⟩
    rw [sk_eI_pl hpl] at hee
    exact xx_plain h' ht hp hI (sk_K_of v1 hee) hpl (hG hee)
  · refine br_t c27 (xx_end h' hp hI c27 (fun z => ?_) (fun z => hG ?_))
    · rw [c27, sk_eI_27, if_neg (fun y => z ((sk_S_neg v1).mp y))] at hee
      have g := hE (pl := pl) (by rw [hee]; decide); rw [hee] at g; exact g
    · rw [hee, c27, sk_eI_27, if_pos ((sk_S_neg v1).mpr z)]
  · refine xx_control h' hp hI ?_ (fun z => hE z) hG
    obtain ⟨k, hk, e⟩ := sk_k27 e0 (Int32.not_lt.mp e27)
    refine ⟨k, ?_, ?_, e⟩
    · by_cases y : 16 ≤ k
      · exact y
      · exact absurd (by rw [e]; exact nI_lt (b := 16) (by omega) (by decide)) l16
    · have k26 : ¬ k = 26 := fun z => e26 (by rw [e, z]; rfl)
      have k27 : ¬ k = 27 := fun z => n27 (by rw [e, z]; rfl)
      omega
theorem xx_outside {post : Int32 → SX → Prop} (h : iv cd ar T p f A ln vs ii cn da pl nf pt op oa ob nk nv wt cf cc ps pa pe) (ht : tk = nI T) (hp : p < T) (hI : sk_I cd p = false)
    (hE : ¬ sk_e cd ar p = 0 → post (sk_e cd ar p) (tk, tr, ep, ln, vs, ii, cn, da, pl, nf, pt, sp, oc, rn, tu, so, cd, ar, op, oa, ob, nk, nv, wt, cf, cc, ps, pa, pe, sk, ou, ce, bk, ct, lm))
    (hG : sk_e cd ar p = 0 → ∀ {f : Nat} {A : Nat → Nat} {ln vs ii cn da pl nf pt : Int32} {op oa ob nk nv wt cf cc ps pa pe : Nat → Int32}, iv cd ar T (p + 1) f A ln vs ii cn da pl nf pt op oa ob nk nv wt cf cc ps pa pe → post 0 (tk, tr, ep, ln, vs, ii, cn, da, pl, nf, pt, sp, oc, rn, tu, so, cd, ar, op, oa, ob, nk, nv, wt, cf, cc, ps, pa, pe, sk, ou, ce, bk, ct, lm)) :
    wpX_outsideToken post (tk, tr, ep, ln, vs, ii, cn, da, pl, nf, pt, sp, oc, rn, tu, so, cd, ar, op, oa, ob, nk, nv, wt, cf, cc, ps, pa, pe, sk, ou, ce, bk, ct, lm) (nI p) := by
  have h' := h
  obtain ⟨⟨v1, v2, v3⟩, ⟨a1, a2, a3⟩, ⟨b1, b2⟩, hT, hGo, hF, hN, hWo, hYo, hCo, hP⟩ := h
  have hin : vp_in (nI p) 80 := vp_in_nI (by omega) (by decide)
  have hcl : (nI p).toNatClampNeg = p := sk_cl (by omega)
  have hee : sk_e cd ar p = if ¬ (cd p = 26 ∨ cd p = 28) then 1 else if ¬ sk_N (ar p) then 2 else if (sk_f cd ar (ar p) p).isSome = true then 3 else 0 := by rw [sk_e, if_neg (by rw [hI]; decide)]
  refine And.intro hin (nm_r (congrArg cd hcl) (And.intro hin (nm_r (congrArg ar hcl) ?_)))
  have go : (cd p = 26 ∨ cd p = 28) → wX_outsideToken_28 post (nI p) (cd p) (ar p) tk tr ep ln vs ii cn da pl nf pt sp oc rn tu so cd ar op oa ob nk nv wt cf cc ps pa pe sk ou ce bk ct lm := by
    intro hd
    rw [if_neg (fun z => z hd)] at hee
    have bad : ¬ sk_N (ar p) → post 2 (tk, tr, ep, ln, vs, ii, cn, da, pl, nf, pt, sp, oc, rn, tu, so, cd, ar, op, oa, ob, nk, nv, wt, cf, cc, ps, pa, pe, sk, ou, ce, bk, ct, lm) := by
      intro z
      rw [if_pos z] at hee
      have g := hE (by rw [hee]; decide); rw [hee] at g; exact g
    refine br_c (fun e0 => bad (fun z => z.1 e0)) (fun e0 => br_c (fun e1 => ?_) (fun e1 => bad (fun z => e1 z.2)))
    rw [if_neg (fun z => z ⟨e0, e1⟩)] at hee
    obtain ⟨n, hn', hna⟩ := nI_of2 (M := 11) (n := 11) (by decide) e0 e1
    have hn : n < 12 := by omega
    have hnin : vp_in (nI n) 12 := vp_in_nI hn (by decide)
    have hncl : (nI n).toNatClampNeg = n := nI_clamp (by omega)
    have kk := (hN.2.2 n hn).1
    rw [hna, hncl]
    rw [hna] at hee
    refine And.intro hnin ?_
    cases e : sk_f cd ar (nI n) p with
    | some d =>
      rw [e] at kk
      rw [e, if_pos (show (some d).isSome = true from rfl)] at hee
      have g := hE (by rw [hee]; decide); rw [hee] at g
      refine br_f ?_ g
      rw [kk]
      show ¬ (if cd d = 26 then (1 : Int32) else 2) = 0
      split <;> decide
    | none =>
      rw [e] at kk
      rw [e, if_neg (by decide)] at hee
      have hK := sk_K_of v1 hee
      refine br_t kk (br_c (fun c28 => ?_) (fun n28 => ?_))
      · obtain ⟨g1, g2⟩ := iv_28 h' hp hI hK c28 hn hna
        exact And.intro hnin (nm_e (And.intro hnin (nm_e (nm_r (e' := nI (sk_v cd p + 1)) (by rw [g2, nI_1]) (hG hee g1)))))
      · have c26 : cd p = 26 := by rcases hd with z | z; exact z; exact absurd z n28
        exact And.intro hnin (nm_e (And.intro hnin (nm_e (nm_r (nI_1 p) (hG hee (iv_26 h' hp hI hK c26 hn hna))))))
  refine br_c (fun e => go (Or.inl e)) (fun n26 => br_c (fun e => go (Or.inr e)) (fun n28 => ?_))
  rw [if_pos (fun z => by rcases z with z | z <;> contradiction)] at hee
  have g := hE (by rw [hee]; decide); rw [hee] at g; exact g
end
end
section
/-! X's firstUnknown and resolveCalls; the finished image -/
def sk_U (cd ar : Nat → Int32) (T i : Nat) : Prop := i < T ∧ cd i = 15 ∧ sk_f cd ar (ar i) T = none ∧ ∀ j, j < i → cd j = 15 → ¬ sk_f cd ar (ar j) T = none
def sk_UN (cd ar : Nat → Int32) (T : Nat) : Prop := ∀ i, i < T → cd i = 15 → ¬ sk_f cd ar (ar i) T = none
/-- the finished image -/
def cp (cd ar : Nat → Int32) (T f : Nat) (A : Nat → Nat) (vs : Int32) (op oa ob nk nv : Nat → Int32) : Prop :=
  (sk_V cd ar T ∧ T ≤ 80 ∧ sk_I cd T = false ∧ sk_UN cd ar T) ∧ (iv_A A T ∧ A T ≤ 256) ∧ iv_T cd ar A T False op oa ob ∧ iv_G cd A oa T ∧ iv_F A T f op ∧ iv_N cd ar A T vs nk nv
theorem sk_15 {cd ar : Nat → Int32} {T i : Nat} (hV : sk_V cd ar T) (hi : i < T) (hc : cd i = 15) : sk_I cd i = true ∧ sk_N (ar i) := by
  cases e : sk_I cd i with
  | true => exact ⟨rfl, ((hV i hi).2 e).2.1 hc⟩
  | false => rcases ((hV i hi).1 e).1 with z | z <;> rw [z] at hc <;> exact absurd hc (by decide)
theorem sk_Nn {a : Int32} (h : sk_N a) : ∃ n, n < 12 ∧ a = nI n := by
  obtain ⟨n, hn, e⟩ := nI_of2 (M := 11) (n := 11) (by decide) h.1 h.2
  exact ⟨n, by omega, e⟩
theorem iv_kd0 {cd : Nat → Int32} {o : Option Nat} : iv_kd cd o = 0 ↔ o = none := by
  cases o with
  | none => exact ⟨fun _ => rfl, fun _ => rfl⟩
  | some d =>
    refine ⟨fun z => ?_, fun z => nomatch z⟩
    have : (if cd d = 26 then (1 : Int32) else 2) = 0 := z
    split at this <;> exact absurd this (by decide)
section
variable {tk tr ep ln vs ii cn da pl nf pt sp oc rn tu so : Int32} {cd ar op oa ob nk nv wt cf cc ps pa pe sk ou ce bk ct lm : Nat → Int32} {T p f : Nat} {A : Nat → Nat}
theorem xx_first {post : Int32 → Prop} (ht : tk = nI T) (hT : T ≤ 80) (hV : sk_V cd ar T) (hN : iv_N cd ar A T vs nk nv)
    (hU : ∀ i, sk_U cd ar T i → post (nI i)) (hok : sk_UN cd ar T → post (-1)) : wpX_firstUnknown post (tk, tr, ep, ln, vs, ii, cn, da, pl, nf, pt, sp, oc, rn, tu, so, cd, ar, op, oa, ob, nk, nv, wt, cf, cc, ps, pa, pe, sk, ou, ce, bk, ct, lm) := by
  have lp : ∀ d i n, i + d = T → d < n → (∀ j, j < i → cd j = 15 → ¬ sk_f cd ar (ar j) T = none) → wX_firstUnknown_2 post tk tr ep ln vs ii cn da pl nf pt sp oc rn tu so cd ar op oa ob nk nv wt cf cc ps pa pe sk ou ce bk ct lm n (nI i) := by
    intro d
    induction d with
    | zero =>
      intro i n hi hn hb
      obtain ⟨m, rfl⟩ : ∃ m, n = m + 1 := ⟨n - 1, by omega⟩
      have e : i = T := by omega
      subst e
      exact br_t (by rw [ht]; exact nI_le (Nat.le_refl _) (by omega)) (hok hb)
    | succ d ih =>
      intro i n hi hn hb
      obtain ⟨m, rfl⟩ : ∃ m, n = m + 1 := ⟨n - 1, by omega⟩
      have hin : vp_in (nI i) 80 := vp_in_nI (by omega) (by decide)
      refine br_f (by rw [ht]; exact nI_ge (by omega) (by omega)) (And.intro hin ?_)
      rw [sk_cl (by omega)]
      have nxt : (cd i = 15 → ¬ sk_f cd ar (ar i) T = none) → wX_firstUnknown_2 post tk tr ep ln vs ii cn da pl nf pt sp oc rn tu so cd ar op oa ob nk nv wt cf cc ps pa pe sk ou ce bk ct lm m (nI (i + 1)) := by
        intro h
        refine ih (i + 1) m (by omega) (by omega) (fun j hj => ?_)
        by_cases e : j = i
        · rw [e]; exact h
        · exact hb j (by omega)
      refine br_c (fun c15 => And.intro hin ?_) (fun n15 => nm_r (nI_1 i) (nxt (fun z => absurd z n15)))
      obtain ⟨n, hn, hna⟩ := sk_Nn (sk_15 hV (by omega) c15).2
      rw [hna, nI_clamp (show n < 2 ^ 31 by omega), (hN.2.2 n hn).1]
      refine And.intro (vp_in_nI hn (by decide)) (br_c (fun z => hU i ⟨by omega, c15, by rw [hna]; exact iv_kd0.mp z, hb⟩) (fun z => nm_r (nI_1 i) (nxt (fun _ y => z (iv_kd0.mpr (by rw [← hna]; exact y))))))
  exact ⟨T + 1, lp T 0 (T + 1) (by omega) (by omega) (fun j hj => absurd hj (Nat.not_lt_zero j))⟩
theorem xx_res17 {post : SX → Prop} {n : Nat} {J2 : Int32 → (Nat → Int32) → (Nat → Int32) → (Nat → Int32) → (Nat → Int32) → (Nat → Int32) → (Nat → Int32) → (Nat → Int32) → (Nat → Int32) → (Nat → Int32) → (Nat → Int32) → (Nat → Int32) → (Nat → Int32) → (Nat → Int32) → (Nat → Int32) → (Nat → Int32) → (Nat → Int32) → (Nat → Int32) → (Nat → Int32) → (Nat → Int32) → Prop} (hn : n < 12) :
    ∀ (l : List Nat) s x2 n' op oa, iv_ch A oa x2 l → l.Pairwise (fun i j => A j < A i) → (∀ i, i ∈ l → A i < 256) → l.length + s ≤ 80 → l.length < n' →
      (∀ op' oa', (∀ y, (∀ i, i ∈ l → ¬ y = A i) → op' y = op y ∧ oa' y = oa y) → (∀ i, i ∈ l → op' (A i) = (if nk n = 2 then 0 else 15) ∧ oa' (A i) = nv n) → J2 (nI (n + 1)) cd ar op' oa' ob nk nv wt cf cc ps pa pe sk ou ce bk ct lm) →
      wX_resolveCalls_17 post J2 (nI n) tk tr ep ln vs ii cn da pl nf pt sp oc rn tu so n' x2 (nI s) cd ar op oa ob nk nv wt cf cc ps pa pe sk ou ce bk ct lm := by
  intro l
  induction l with
  | nil =>
    intro s x2 n' op oa hch _ _ _ hn' hJ
    obtain ⟨m, rfl⟩ : ∃ m, n' = m + 1 := ⟨n' - 1, by omega⟩
    have hx : x2 = -1 := hch
    have hj := hJ op oa (fun y _ => ⟨rfl, rfl⟩) (fun i hi => nomatch hi)
    subst hx
    exact br_c (fun _ => nm_r (nI_1 n) hj) (fun _ => br_t (by decide) (nm_r (nI_1 n) hj))
  | cons i t ih =>
    intro s x2 n' op oa hch hpw hlt hlen hn' hJ
    obtain ⟨m, rfl⟩ : ∃ m, n' = m + 1 := ⟨n' - 1, by omega⟩
    obtain ⟨hx, hch2⟩ := hch
    subst hx
    rw [List.length_cons] at hlen hn'
    have hAi := hlt i List.mem_cons_self
    have hin : vp_in (nI (A i)) 256 := vp_in_nI hAi (by decide)
    have hcl : (nI (A i)).toNatClampNeg = A i := nI_clamp (by omega)
    have hnin : vp_in (nI n) 12 := vp_in_nI hn (by decide)
    have hncl : (nI n).toNatClampNeg = n := nI_clamp (by omega)
    obtain ⟨hp1, hp2⟩ := List.pairwise_cons.mp hpw
    have go : ∀ z, (z = if nk n = 2 then 0 else 15) → wX_resolveCalls_56 post J2 (wX_resolveCalls_17 post J2 (nI n) tk tr ep ln vs ii cn da pl nf pt sp oc rn tu so m) (nI n) (nI (A i)) (nI s) (oa (A i)) z (nI (A i)) tk tr ep ln vs ii cn da pl nf pt sp oc rn tu so cd ar op oa ob nk nv wt cf cc ps pa pe sk ou ce bk ct lm := by
      intro z hz
      refine And.intro hin (nm_r (e' := upd op (A i) z) (by rw [hcl]) (And.intro hnin (And.intro hin (nm_r (e' := upd oa (A i) (nv n)) (by rw [hcl, hncl]) (nm_r (nI_1 s) ?_)))))
      refine ih (s + 1) (oa (A i)) m (upd op (A i) z) (upd oa (A i) (nv n)) ?_ hp2 (fun j hj => hlt j (List.mem_cons_of_mem i hj)) (by omega) (by omega) (fun op' oa' g1 g2 => hJ op' oa' (fun y hy => ?_) (fun j hj => ?_))
      · exact iv_ch_ag t _ hch2 (fun j hj => ⟨rfl, pk_un (by have := hp1 j hj; omega)⟩)
      · obtain ⟨q1, q2⟩ := g1 y (fun j hj => hy j (List.mem_cons_of_mem i hj))
        have := hy i List.mem_cons_self
        rw [q1, q2, pk_un this, pk_un this]; exact ⟨rfl, rfl⟩
      · rcases List.mem_cons.mp hj with e | e
        · subst e
          obtain ⟨q1, q2⟩ := g1 (A j) (fun k hk => by have := hp1 k hk; omega)
          rw [q1, q2, pk_us, pk_us]; exact ⟨hz, rfl⟩
        · exact g2 j e
    refine br_f (nI_ge (b := 80) (by omega) (by decide)) (br_f (nI_pos (by omega)) (And.intro hin (nm_r (congrArg oa hcl) (And.intro hnin ?_))))
    rw [hncl]
    exact br_c (fun e => go 0 (by rw [if_pos e])) (fun e => go 15 (by rw [if_neg e]))
end
section
variable {cd ar op oa ob op' oa' nk nv wt : Nat → Int32} {A : Nat → Nat} {T f : Nat} {vs : Int32}
theorem iv_cl_pw {a : Int32} (hT : iv_T cd ar A T True op oa ob) (hm : iv_A A T) : ∀ p, p ≤ T → (iv_cl cd ar a p).Pairwise (fun i j => A j < A i) := by
  intro p
  induction p with
  | zero => intro _; exact List.Pairwise.nil
  | succ p ih =>
    intro hp
    rw [iv_cl]
    split
    · refine List.pairwise_cons.mpr ⟨fun j hj => ?_, ih (by omega)⟩
      obtain ⟨m1, m2, m3, m4, m5⟩ := iv_cl_mem p hj
      have h3 := iv_T_15 hT (by omega) m2 m3
      have := hm (j + 1) p (by omega) (by omega)
      omega
    · exact ih (by omega)
/-- two tokens that emit something do not begin at one address -/
theorem iv_ne (hm : iv_A A T) {i j : Nat} (hi : i < T) (hj : j < T) (ei : A i < A (i + 1)) (ej : A j < A (j + 1)) (h : ¬ i = j) : ¬ A i = A j := by
  by_cases c : i < j
  · have := hm (i + 1) j (by omega) (by omega); omega
  · have := hm (j + 1) i (by omega) (by omega); omega
def rs_R (cd ar : Nat → Int32) (A : Nat → Nat) (T : Nat) (nk nv op oa : Nat → Int32) (n : Nat) (op' oa' : Nat → Int32) : Prop :=
  (∀ y, (∀ m, m < n → ∀ i, i ∈ iv_cl cd ar (nI m) T → ¬ y = A i) → op' y = op y ∧ oa' y = oa y) ∧
  (∀ m, m < n → ∀ i, i ∈ iv_cl cd ar (nI m) T → op' (A i) = (if nk m = 2 then 0 else 15) ∧ oa' (A i) = nv m)
theorem rs_done (hV : sk_V cd ar T) (hT : iv_T cd ar A T True op oa ob) (hm : iv_A A T) (hG : iv_G cd A oa T) (hF : iv_F A T f op) (hN : iv_N cd ar A T vs nk nv) (hU : sk_UN cd ar T)
    (hR : rs_R cd ar A T nk nv op oa 12 op' oa') : iv_T cd ar A T False op' oa' ob ∧ iv_G cd A oa' T ∧ iv_F A T f op' := by
  obtain ⟨r1, r2⟩ := hR
  -- a token whose block is not of the waiting kind is not in a chain
  have notin : ∀ i, i < T → ∀ y, A i ≤ y → y < A (i + 1) → (∀ m, m < 12 → ¬ i ∈ iv_cl cd ar (nI m) T) → op' y = op y ∧ oa' y = oa y := by
    intro i hi y y1 y2 hni
    refine r1 y (fun m hm' j hj z => ?_)
    obtain ⟨m1, m2, m3, m4, m5⟩ := iv_cl_mem T hj
    have h3 := iv_T_15 hT m1 m2 m3
    by_cases c : i = j
    · subst c; exact hni m hm' hj
    · by_cases c2 : i < j
      · have := hm (i + 1) j (by omega) (by omega); omega
      · have := hm (j + 1) i (by omega) (by omega); omega
  refine ⟨fun i hi => ?_, fun i hi hI => ?_, ?_⟩
  · obtain ⟨l, l1, l2, l3⟩ := hT i hi
    by_cases hw : sk_I cd i = true ∧ cd i = 15 ∧ sk_f cd ar (ar i) i = none
    · obtain ⟨w1, w2, w3⟩ := hw
      have hl : l = [(15, none, none)] := by
        rcases l1 with k | k | k | k | k | k | k | k | k | k | k | k
        · rw [w1] at k; exact absurd k.1 (by decide)
        · have := k.2.1.2; rw [w2] at this; exact absurd this (by decide)
        · obtain ⟨_, _, d, k3, k4, _⟩ := k
          obtain ⟨_, b2, b3, _⟩ := sk_f_some T k3
          exact absurd ⟨b2, b3⟩ (sk_f_none i w3 d (k4 trivial))
        · obtain ⟨_, _, d, k3, k4, _⟩ := k
          obtain ⟨_, b2, b3, _⟩ := sk_f_some T k3
          exact absurd ⟨b2, b3⟩ (sk_f_none i w3 d (k4 trivial))
        · exact k.2.2.2.2
        · have := k.2.1; rw [w2] at this; exact absurd this (by decide)
        · have := k.2.1; rw [w2] at this; exact absurd this (by decide)
        · have := k.2.1; rw [w2] at this; exact absurd this (by decide)
        · have := k.2.1; rw [w2] at this; exact absurd this (by decide)
        · have := k.2.1; rw [w2] at this; exact absurd this (by decide)
        · have := k.2.1; rw [w2] at this; exact absurd this (by decide)
        · have := k.2.1; rw [w2] at this; exact absurd this (by decide)
      subst hl
      obtain ⟨n, hn, hna⟩ := sk_Nn (sk_15 hV hi w2).2
      have hin : i ∈ iv_cl cd ar (nI n) T := iv_cl_in ⟨w1, w2, hna, by rw [← hna]; exact w3⟩ T hi
      obtain ⟨q1, q2⟩ := r2 n hn i hin
      obtain ⟨n1, n2, n3⟩ := hN
      obtain ⟨k1, k2⟩ := n3 n hn
      cases e : sk_f cd ar (nI n) T with
      | none => exact absurd (by rw [hna]; exact e) (hU i hi w2)
      | some d =>
        have k3 := k2 d e
        rw [e] at k1
        obtain ⟨_, b2, b3, _⟩ := sk_f_some T e
        by_cases h26 : cd d = 26
        · have k4 : nk n = 1 := by rw [k1]; show (if cd d = 26 then (1 : Int32) else 2) = 1; rw [if_pos h26]
          rw [if_pos h26] at k3
          rw [k4, if_neg (by decide)] at q1
          exact ⟨[(15, some (nI (A (d + 1))), none)], Or.inr (Or.inr (Or.inr (Or.inl ⟨w1, w2, d, by rw [hna]; exact e, (fun z => z.elim), h26, Or.inl rfl⟩))), l2, ⟨⟨q1, im_s (by rw [q2, k3]), im_n⟩, trivial⟩⟩
        · have h28 : cd d = 28 := by rcases b2 with z | z; exact absurd z h26; exact z
          have k4 : nk n = 2 := by rw [k1]; show (if cd d = 26 then (1 : Int32) else 2) = 2; rw [if_neg h26]
          rw [if_neg h26] at k3
          rw [k4, if_pos rfl] at q1
          exact ⟨[(0, some (nI (sk_v cd d)), none)], Or.inr (Or.inr (Or.inl ⟨w1, w2, d, by rw [hna]; exact e, (fun z => z.elim), h28, Or.inl rfl⟩)), l2, ⟨⟨q1, im_s (by rw [q2, k3]), im_n⟩, trivial⟩⟩
    · have hni : ∀ m, m < 12 → ¬ i ∈ iv_cl cd ar (nI m) T := by
        intro m _ z
        obtain ⟨m1, m2, m3, m4, m5⟩ := iv_cl_mem T z
        exact hw ⟨m2, m3, by rw [m4]; exact m5⟩
      refine ⟨l, ?_, l2, im_b_ag l _ l3 (fun y y1 y2 => ?_)⟩
      · rcases l1 with h | h | ⟨h1, h2, d, h3, h3', h4⟩ | ⟨h1, h2, d, h3, h3', h4⟩ | h | h | h | h | h | h | h | h
        · exact Or.inl h
        · exact Or.inr (Or.inl h)
        · exact Or.inr (Or.inr (Or.inl ⟨h1, h2, d, h3, (fun z => z.elim), h4⟩))
        · exact Or.inr (Or.inr (Or.inr (Or.inl ⟨h1, h2, d, h3, (fun z => z.elim), h4⟩)))
        · exact absurd ⟨h.1, h.2.1, h.2.2.2.1⟩ hw
        · exact Or.inr (Or.inr (Or.inr (Or.inr (Or.inr (Or.inl h)))))
        · exact Or.inr (Or.inr (Or.inr (Or.inr (Or.inr (Or.inr (Or.inl h))))))
        · exact Or.inr (Or.inr (Or.inr (Or.inr (Or.inr (Or.inr (Or.inr (Or.inl h)))))))
        · exact Or.inr (Or.inr (Or.inr (Or.inr (Or.inr (Or.inr (Or.inr (Or.inr (Or.inl h))))))))
        · exact Or.inr (Or.inr (Or.inr (Or.inr (Or.inr (Or.inr (Or.inr (Or.inr (Or.inr (Or.inl h)))))))))
        · exact Or.inr (Or.inr (Or.inr (Or.inr (Or.inr (Or.inr (Or.inr (Or.inr (Or.inr (Or.inr (Or.inl h))))))))))
        · exact Or.inr (Or.inr (Or.inr (Or.inr (Or.inr (Or.inr (Or.inr (Or.inr (Or.inr (Or.inr (Or.inr h))))))))))
      · obtain ⟨q1, q2⟩ := notin i hi y y1 (by omega) hni
        exact ⟨q1, q2, rfl⟩
  · by_cases hP : sk_P (cd i)
    · have h1 := iv_T_P hT hi hI hP
      have : oa' (A i) = oa (A i) := (notin i hi (A i) (Nat.le_refl _) (by omega) (fun m _ z => by
        have := (iv_cl_mem T z).2.2.1
        rw [this] at hP; exact absurd hP (by decide))).2
      rw [iv_g, this]; exact hG i hi hI
    · exact iv_g_x hP
  · intro i hi h2 h30 k hk
    have : op' (A i) = op (A i) := by
      refine (notin i hi (A i) (Nat.le_refl _) (by omega) (fun m hm' z => ?_)).1
      obtain ⟨m1, m2, m3, m4, m5⟩ := iv_cl_mem T z
      have q1 := (r2 m hm' i z).1
      rw [q1] at h30
      split at h30 <;> exact absurd h30 (by decide)
    rw [this] at h30 hk
    exact hF i hi h2 h30 k hk
end
end
section
/-! X's translate as a whole -/
/-- translation ends with error e at q -/
def sk_R (cd ar : Nat → Int32) (T : Nat) (e : Int32) (q : Nat) : Prop :=
  ¬ e = 0 ∧ ((q < T ∧ sk_V cd ar q ∧ e = sk_e cd ar q) ∨ (q = T ∧ e = 6 ∧ sk_V cd ar T ∧ sk_I cd T = true) ∨ (e = 7 ∧ sk_V cd ar T ∧ sk_I cd T = false ∧ sk_U cd ar T q))
def zr (g : Nat → Int32) : Nat → Nat → Int32
  | 0 => g
  | n + 1 => upd (zr g n) n 0
section
variable {tk tr ep ln vs ii cn da pl nf pt sp oc rn tu so : Int32} {cd ar op oa ob nk nv wt cf cc ps pa pe sk ou ce bk ct lm : Nat → Int32} {T p f : Nat} {A : Nat → Nat}
theorem xx_resolve {post : SX → Prop} (hT80 : T ≤ 80) (hT : iv_T cd ar A T True op oa ob) (hm : iv_A A T) (hA : A T ≤ 256) (hW : iv_W cd ar A T oa wt)
    (hfin : ∀ op' oa', rs_R cd ar A T nk nv op oa 12 op' oa' → post (tk, tr, ep, ln, vs, ii, cn, da, pl, nf, pt, sp, oc, rn, tu, so, cd, ar, op', oa', ob, nk, nv, wt, cf, cc, ps, pa, pe, sk, ou, ce, bk, ct, lm)) : wpX_resolveCalls post (tk, tr, ep, ln, vs, ii, cn, da, pl, nf, pt, sp, oc, rn, tu, so, cd, ar, op, oa, ob, nk, nv, wt, cf, cc, ps, pa, pe, sk, ou, ce, bk, ct, lm) := by
  have lp : ∀ d n n' op1 oa1, n + d = 12 → d < n' → rs_R cd ar A T nk nv op oa n op1 oa1 → wX_resolveCalls_2 post tk tr ep ln vs ii cn da pl nf pt sp oc rn tu so n' (nI n) cd ar op1 oa1 ob nk nv wt cf cc ps pa pe sk ou ce bk ct lm := by
    intro d
    induction d with
    | zero =>
      intro n n' op1 oa1 hn hn' hR
      obtain ⟨m, rfl⟩ : ∃ m, n' = m + 1 := ⟨n' - 1, by omega⟩
      have e : n = 12 := by omega
      subst e
      exact br_t (nI_le (a := 12) (b := 12) (by omega) (by decide)) (hfin op1 oa1 hR)
    | succ d ih =>
      intro n n' op1 oa1 hn hn' hR
      obtain ⟨m, rfl⟩ : ∃ m, n' = m + 1 := ⟨n' - 1, by omega⟩
      obtain ⟨r1, r2⟩ := hR
      have hnn : n < 12 := by omega
      have hdis : ∀ i, i ∈ iv_cl cd ar (nI n) T → ∀ k, k < n → ∀ j, j ∈ iv_cl cd ar (nI k) T → ¬ A i = A j := by
        intro i hi k hk j hj
        obtain ⟨m1, m2, m3, m4, m5⟩ := iv_cl_mem T hi
        obtain ⟨k1, k2, k3, k4, k5⟩ := iv_cl_mem T hj
        refine iv_ne hm m1 k1 (iv_T_15 hT m1 m2 m3) (iv_T_15 hT k1 k2 k3) (fun z => ?_)
        rw [z, k4] at m4
        have := (nI_eq (by omega) (by omega)).mp m4
        omega
      refine br_f (nI_ge (b := 12) (by omega) (by decide)) (And.intro (vp_in_nI hnn (by decide)) (nm_r (congrArg wt (nI_clamp (show n < 2 ^ 31 by omega))) ⟨81, ?_⟩))
      refine xx_res17 (A := A) hnn (iv_cl cd ar (nI n) T) 0 (wt n) 81 op1 oa1 ?_ (iv_cl_pw hT hm T (Nat.le_refl T)) (fun i hi => ?_) (by have := iv_cl_len (cd := cd) (ar := ar) (a := nI n) T; omega) (by have := iv_cl_len (cd := cd) (ar := ar) (a := nI n) T; omega) (fun op' oa' g1 g2 => ?_)
      · exact iv_ch_ag _ _ (hW n hnn) (fun i hi => ⟨rfl, (r1 (A i) (fun k hk j hj => hdis i hi k hk j hj)).2⟩)
      · obtain ⟨m1, m2, m3, m4, m5⟩ := iv_cl_mem T hi
        have h3 := iv_T_15 hT m1 m2 m3
        have := hm (i + 1) T (by omega) (Nat.le_refl T)
        omega
      · refine ih (n + 1) m op' oa' (by omega) (by omega) ⟨fun y hy => ?_, fun k hk i hi => ?_⟩
        · obtain ⟨q1, q2⟩ := g1 y (fun i hi => hy n (by omega) i hi)
          rw [q1, q2]
          exact r1 y (fun k hk i hi => hy k (by omega) i hi)
        · by_cases e : k = n
          · subst e; exact g2 i hi
          · obtain ⟨q1, q2⟩ := g1 (A i) (fun j hj z => hdis j hj k (by omega) i hi z.symm)
            rw [q1, q2]
            exact r2 k (by omega) i hi
  exact ⟨13, lp 12 0 13 op oa (by omega) (by omega) ⟨fun y _ => ⟨rfl, rfl⟩, fun k hk => absurd hk (Nat.not_lt_zero k)⟩⟩
theorem xx_start {post : SX → Prop} (h : ∀ nk nv wt cc, (∀ n, n < 12 → nk n = 0 ∧ wt n = -1 ∧ cc n = 0) → post (tk, tr, ep, 0, 0, 0, cn, da, pl, 0, pt, sp, oc, rn, tu, so, cd, ar, op, oa, ob, nk, nv, wt, cf, cc, ps, pa, pe, sk, ou, ce, bk, ct, lm)) : wpX_startImage post (tk, tr, ep, ln, vs, ii, cn, da, pl, nf, pt, sp, oc, rn, tu, so, cd, ar, op, oa, ob, nk, nv, wt, cf, cc, ps, pa, pe, sk, ou, ce, bk, ct, lm) := by
  have lp : ∀ d n n' nk nv wt cc, n + d = 12 → d < n' → (∀ m, m < n → nk m = 0 ∧ wt m = -1 ∧ cc m = 0) → wX_startImage_22 post tk tr ep 0 0 0 cn da pl 0 pt sp oc rn tu so n' (nI n) cd ar op oa ob nk nv wt cf cc ps pa pe sk ou ce bk ct lm := by
    intro d
    induction d with
    | zero =>
      intro n n' nk nv wt cc hn hn' hR
      obtain ⟨m, rfl⟩ : ∃ m, n' = m + 1 := ⟨n' - 1, by omega⟩
      have e : n = 12 := by omega
      subst e
      exact br_t (nI_le (a := 12) (b := 12) (by omega) (by decide)) (h nk nv wt cc hR)
    | succ d ih =>
      intro n n' nk nv wt cc hn hn' hR
      obtain ⟨m, rfl⟩ : ∃ m, n' = m + 1 := ⟨n' - 1, by omega⟩
      have hin : vp_in (nI n) 12 := vp_in_nI (by omega) (by decide)
      have hcl : (nI n).toNatClampNeg = n := nI_clamp (by omega)
      refine br_f (nI_ge (b := 12) (by omega) (by decide)) (And.intro hin (nm_r (e' := upd nk n 0) (by rw [hcl]) (And.intro hin (nm_r (e' := upd nv n (-1)) (by rw [hcl]) (And.intro hin (nm_r (e' := upd wt n (-1)) (by rw [hcl]) (And.intro hin (nm_r (e' := upd cc n 0) (by rw [hcl]) (nm_r (nI_1 n) ?_)))))))))
      refine ih (n + 1) m _ _ _ _ (by omega) (by omega) (fun k hk => ?_)
      by_cases e : k = n
      · subst e; rw [pk_us, pk_us, pk_us]; exact ⟨rfl, rfl, rfl⟩
      · rw [pk_un e, pk_un e, pk_un e]; exact hR k (by omega)
  exact ⟨13, lp 12 0 13 nk nv wt cc (by omega) (by omega) (fun m hm => absurd hm (Nat.not_lt_zero m))⟩
theorem xx_fail {post : Int32 → SX → Prop} {e x2 : Int32} (he : ¬ e = 0) (h : post e (tk, 0, x2, ln, vs, ii, cn, da, pl, nf, pt, sp, oc, rn, tu, so, cd, ar, op, oa, ob, nk, nv, wt, cf, cc, ps, pa, pe, sk, ou, ce, bk, ct, lm)) : wX_translate_70 post e x2 tk tr ep ln vs ii cn da pl nf pt sp oc rn tu so cd ar op oa ob nk nv wt cf cc ps pa pe sk ou ce bk ct lm :=
  br_f he (br_f he (And.intro rfl (And.intro rfl (br_f he h))))
theorem xx_cells {post : Int32 → SX → Prop} (g : Nat → Int32) (h : post 0 (tk, tr, ep, ln, vs, ii, cn, da, pl, nf, pt, sp, oc, rn, tu, so, cd, ar, op, oa, ob, nk, nv, wt, cf, cc, ps, pa, pe, sk, ou, zr g 12, bk, ct, lm)) : ∀ d n n', n + d = 12 → d < n' → wX_translate_130 post tk tr ep ln vs ii cn da pl nf pt sp oc rn tu so n' (nI n) cd ar op oa ob nk nv wt cf cc ps pa pe sk ou (zr g n) bk ct lm := by
  intro d
  induction d with
  | zero =>
    intro n n' hn hn'
    obtain ⟨m, rfl⟩ : ∃ m, n' = m + 1 := ⟨n' - 1, by omega⟩
    have e : n = 12 := by omega
    subst e
    exact br_t (nI_le (a := 12) (b := 12) (by omega) (by decide)) h
  | succ d ih =>
    intro n n' hn hn'
    obtain ⟨m, rfl⟩ : ∃ m, n' = m + 1 := ⟨n' - 1, by omega⟩
    exact br_f (nI_ge (b := 12) (by omega) (by decide)) (And.intro (vp_in_nI (by omega) (by decide)) (nm_r (e' := zr g (n + 1)) (by rw [nI_clamp (show n < 2 ^ 31 by omega)]; rfl) (nm_r (nI_1 n) (ih (n + 1) m (by omega) (by omega)))))
theorem xx_trans_end {post : Int32 → SX → Prop} {x2 : Int32} (h : iv cd ar T T f A ln vs ii cn da pl nf pt op oa ob nk nv wt cf cc ps pa pe) (ht : tk = nI T)
    (hE : ∀ e q, sk_R cd ar T e q → post e (tk, 0, nI q, ln, vs, ii, cn, da, pl, nf, pt, sp, oc, rn, tu, so, cd, ar, op, oa, ob, nk, nv, wt, cf, cc, ps, pa, pe, sk, ou, ce, bk, ct, lm))
    (hG : ∀ op oa, cp cd ar T f A vs op oa ob nk nv → post 0 (tk, 1, ep, ln, vs, ii, cn, da, pl, nf, pt, 0, 0, rn, tu, so, cd, ar, op, oa, ob, nk, nv, wt, cf, cc, ps, pa, pe, sk, ou, zr ce 12, bk, ct, lm)) :
    wX_translate_51 post 0 x2 tk tr ep ln vs ii cn da pl nf pt sp oc rn tu so cd ar op oa ob nk nv wt cf cc ps pa pe sk ou ce bk ct lm := by
  have h' := h
  obtain ⟨⟨v1, v2, v3⟩, ⟨a1, a2, a3⟩, ⟨b1, b2⟩, hT, hGo, hF, hN, hWo, hYo, hCo, hP⟩ := h
  refine br_t rfl ?_
  cases e : sk_I cd T with
  | true =>
    have := (hCo.2 e).1
    refine br_f (by rw [this]; decide) (xx_fail (by decide) ?_)
    have g := hE 6 T ⟨by decide, Or.inr (Or.inl ⟨rfl, rfl, v1, e⟩)⟩
    rw [ht]; rw [ht] at g; exact g
  | false =>
    have := hCo.1 e
    refine br_t this (br_t rfl (xx_first ht v3 v1 hN (fun i hU => ?_) (fun hU => ?_)))
    · refine br_t (nI_pos' (by have := hU.1; omega)) ?_
      have g := hE 7 i ⟨by decide, Or.inr (Or.inr ⟨rfl, v1, e, hU⟩)⟩
      exact br_f (by decide) (And.intro rfl (And.intro rfl (br_f (by decide) g)))
    · refine br_f (by decide) (br_t rfl (And.intro rfl (And.intro rfl (br_t rfl (xx_resolve v3 hT a2 (by omega) hWo (fun op' oa' hR => ?_))))))
      refine ⟨13, xx_cells ce (hG op' oa' ?_) 12 0 13 (by omega) (by omega)⟩
      obtain ⟨q1, q2, q3⟩ := rs_done v1 hT a2 hGo hF hN hU hR
      exact ⟨⟨v1, v3, e, hU⟩, ⟨a2, by omega⟩, q1, q2, q3, hN⟩
end
section
variable {tk tr ep : Int32} {sp oc rn tu so : Int32} {cd ar : Nat → Int32} {sk ou ce bk ct lm : Nat → Int32} {T : Nat}
theorem xx_trans_l {post : Int32 → SX → Prop} (ht : tk = nI T) (hT : T ≤ 80)
    (hE : ∀ e q {ln vs ii cn da pl nf pt : Int32} {op oa ob nk nv wt cf cc ps pa pe : Nat → Int32}, sk_R cd ar T e q → post e (tk, 0, nI q, ln, vs, ii, cn, da, pl, nf, pt, sp, oc, rn, tu, so, cd, ar, op, oa, ob, nk, nv, wt, cf, cc, ps, pa, pe, sk, ou, ce, bk, ct, lm))
    (hG : ∀ {f : Nat} {A : Nat → Nat} {ln vs ii cn da pl nf pt : Int32} {op oa ob nk nv wt cf cc ps pa pe : Nat → Int32}, cp cd ar T f A vs op oa ob nk nv → post 0 (tk, 1, ep, ln, vs, ii, cn, da, pl, nf, pt, 0, 0, rn, tu, so, cd, ar, op, oa, ob, nk, nv, wt, cf, cc, ps, pa, pe, sk, ou, zr ce 12, bk, ct, lm)) :
    ∀ d p f A n x2 ln vs ii cn da pl nf pt op oa ob nk nv wt cf cc ps pa pe, p + d = T → d < n → iv cd ar T p f A ln vs ii cn da pl nf pt op oa ob nk nv wt cf cc ps pa pe → wX_translate_10 post n 0 x2 (nI p) tk tr ep ln vs ii cn da pl nf pt sp oc rn tu so cd ar op oa ob nk nv wt cf cc ps pa pe sk ou ce bk ct lm := by
  intro d
  induction d with
  | zero =>
    intro p f A n x2 ln vs ii cn da pl nf pt op oa ob nk nv wt cf cc ps pa pe hp hn h
    obtain ⟨m, rfl⟩ : ∃ m, n = m + 1 := ⟨n - 1, by omega⟩
    have e : p = T := by omega
    subst e
    exact br_t (by rw [ht]; exact nI_le (Nat.le_refl _) (by omega)) (xx_trans_end h ht (fun e q z => hE e q z) (fun op oa z => hG z))
  | succ d ih =>
    intro p f A n x2 ln vs ii cn da pl nf pt op oa ob nk nv wt cf cc ps pa pe hp hn h
    obtain ⟨m, rfl⟩ : ∃ m, n = m + 1 := ⟨n - 1, by omega⟩
    obtain ⟨m', rfl⟩ : ∃ m', m = m' + 1 := ⟨m - 1, by omega⟩
    have v1 := h.1.1
    have hCo := h.2.2.2.2.2.2.2.2.2.1
    refine br_f (by rw [ht]; exact nI_ge (by omega) (by omega)) (br_t rfl ?_)
    have bad : ¬ sk_e cd ar p = 0 → ∀ {ln vs ii cn da pl nf pt : Int32} {op oa ob nk nv wt cf cc ps pa pe : Nat → Int32}, wX_translate_10 post (m' + 1) (sk_e cd ar p) (nI p) (nI (p + 1)) tk tr ep ln vs ii cn da pl nf pt sp oc rn tu so cd ar op oa ob nk nv wt cf cc ps pa pe sk ou ce bk ct lm := by
      intro he ln vs ii cn da pl nf pt op oa ob nk nv wt cf cc ps pa pe
      have hr := hE (ln := ln) (vs := vs) (ii := ii) (cn := cn) (da := da) (pl := pl) (nf := nf) (pt := pt) (op := op) (oa := oa) (ob := ob) (nk := nk) (nv := nv) (wt := wt) (cf := cf) (cc := cc) (ps := ps) (pa := pa) (pe := pe) (sk_e cd ar p) p ⟨he, Or.inl ⟨by omega, v1, rfl⟩⟩
      have k51 : wX_translate_51 post (sk_e cd ar p) (nI p) tk tr ep ln vs ii cn da pl nf pt sp oc rn tu so cd ar op oa ob nk nv wt cf cc ps pa pe sk ou ce bk ct lm := br_f he (xx_fail he hr)
      exact br_c (fun _ => k51) (fun _ => br_f he k51)
    cases e : sk_I cd p with
    | false =>
      refine br_t (hCo.1 e) (xx_outside h ht (by omega) e (fun he => nm_r (nI_1 p) (bad he)) (fun he f A ln vs ii cn da pl nf pt op oa ob nk nv wt cf cc ps pa pe hi => nm_r (nI_1 p) (ih (p + 1) f A (m' + 1) (nI p) ln vs ii cn da pl nf pt op oa ob nk nv wt cf cc ps pa pe (by omega) (by omega) hi)))
    | true =>
      refine br_f (by rw [(hCo.2 e).1]; decide) (xx_inside h ht (by omega) e (fun he => nm_r (nI_1 p) (bad he)) (fun he f A ln vs ii cn da pl nf pt op oa ob nk nv wt cf cc ps pa pe hi => nm_r (nI_1 p) (ih (p + 1) f A (m' + 1) (nI p) ln vs ii cn da pl nf pt op oa ob nk nv wt cf cc ps pa pe (by omega) (by omega) hi)))
theorem xx_trans {post : Int32 → SX → Prop} {ln vs ii cn da pl nf pt : Int32} {op oa ob nk nv wt cf cc ps pa pe : Nat → Int32} (ht : tk = nI T) (hT : T ≤ 80)
    (hE : ∀ e q {ln vs ii cn da pl nf pt : Int32} {op oa ob nk nv wt cf cc ps pa pe : Nat → Int32}, sk_R cd ar T e q → post e (tk, 0, nI q, ln, vs, ii, cn, da, pl, nf, pt, sp, oc, rn, tu, so, cd, ar, op, oa, ob, nk, nv, wt, cf, cc, ps, pa, pe, sk, ou, ce, bk, ct, lm))
    (hG : ∀ {f : Nat} {A : Nat → Nat} {ln vs ii cn da pl nf pt : Int32} {op oa ob nk nv wt cf cc ps pa pe : Nat → Int32}, cp cd ar T f A vs op oa ob nk nv → post 0 (tk, 1, ep, ln, vs, ii, cn, da, pl, nf, pt, 0, 0, rn, tu, so, cd, ar, op, oa, ob, nk, nv, wt, cf, cc, ps, pa, pe, sk, ou, zr ce 12, bk, ct, lm)) :
    wpX_translate post (tk, tr, ep, ln, vs, ii, cn, da, pl, nf, pt, sp, oc, rn, tu, so, cd, ar, op, oa, ob, nk, nv, wt, cf, cc, ps, pa, pe, sk, ou, ce, bk, ct, lm) :=
  xx_start (ln := ln) (vs := vs) (ii := ii) (nf := nf) (fun nk nv wt cc hz => ⟨T + 2, xx_trans_l ht hT hE hG T 0 0 (fun _ => 0) (T + 2) 0 0 0 0 cn da pl 0 pt op oa ob nk nv wt cf cc ps pa pe (by omega) (by omega) (iv_0 hT hz)⟩)
end
end
section
/-! Y's translate as a whole -/
section
variable {cd ar : Nat → Int32} {p : Nat}
theorem sk_e_of (hp : p ≤ 80) (hV : sk_V cd ar p) (hK : sk_K cd ar p) : sk_e cd ar p = 0 := by
  rw [sk_e]
  cases hI : sk_I cd p with
  | false =>
    obtain ⟨k1, k2, k3⟩ := hK.1 hI
    rw [if_neg (by decide), if_neg (fun z => z k1), if_neg (fun z => z k2), k3, if_neg (by decide)]
  | true =>
    obtain ⟨⟨n0, n27, n26⟩, k15, k17, k18, k20, k22, k24, k25, k27, kO⟩ := hK.2 hI
    have h25 : ¬ (cd p = 25 ∧ sk_r (sk_Q cd p) cd 23 (sk_H cd p) < 0) := by
      intro z
      obtain ⟨j, hj⟩ := k25 z.1
      have hr : sk_r (sk_Q cd p) cd 23 (sk_H cd p) = nI (sk_Q cd p j) := by rw [sk_r23, hj]
      have y := z.2
      rw [hr] at y
      have h1 := (sk_nest (cd := cd) p j (sk_t_some _ hj).1).1
      exact nI_pos (by omega) y
    rw [if_pos rfl, sk_eI, if_neg n0, if_neg (Int32.not_lt.mpr n27), if_neg n26, if_neg (fun z => z.2 (k15 z.1)), if_neg (fun z => z.2 (k17 z.1)),
      if_neg (fun z => by rcases k18 z.1 with y | y; exact z.2.1 y; exact z.2.2 y), if_neg (fun z => z.2 (k20 z.1)), if_neg (fun z => z.2 (k22 z.1)), if_neg (fun z => z.2 (k24 z.1)),
      if_neg h25, if_neg (fun z => z.2 ((sk_S_neg hV).mpr (k27 z.1))), if_neg (fun z => by have := kO z.1; omega)]
end
def sk_bI (b : Bool) : Int32 := match b with | true => 1 | false => 0
section
variable {tk tr ea dp yo lv yt : Int32} {cd ar ys yu yc yp yn ye : Nat → Int32} {T p : Nat}
theorem yy_tok {post : Int32 → SY → Prop} {J : Int32 → Int32 → Prop} (ht : tk = nI T) (hT : T ≤ 80) (hp : p < T) (hV : sk_V cd ar p)
    (h0 : sk_e cd ar p = 0 → J (sk_bI (sk_I cd (p + 1))) (nI (p + 1))) (hE : ¬ sk_e cd ar p = 0 → post (sk_e cd ar p) (tk, 0, nI p, dp, yo, lv, yt, cd, ar, ys, yu, yc, yp, yn, ye)) :
    (sk_bI (sk_I cd p) = 0 → wpY_outside (fun r_63 => (wY_translate_29 post J (sk_bI (sk_I cd p)) (nI p) r_63 tk tr ea dp yo lv yt cd ar ys yu yc yp yn ye)) (tk, tr, ea, dp, yo, lv, yt, cd, ar, ys, yu, yc, yp, yn, ye) (nI p)) ∧
    (¬ sk_bI (sk_I cd p) = 0 → wpY_inside (fun r_102 => (wY_translate_29 post J (sk_bI (sk_I cd p)) (nI p) r_102 tk tr ea dp yo lv yt cd ar ys yu yc yp yn ye)) (tk, tr, ea, dp, yo, lv, yt, cd, ar, ys, yu, yc, yp, yn, ye) (nI p)) := by
  have hin : vp_in (nI p) 80 := vp_in_nI (by omega) (by decide)
  have hcl : (nI p).toNatClampNeg = p := sk_cl (by omega)
  have k29 : ∀ r, r = sk_e cd ar p → wY_translate_29 post J (sk_bI (sk_I cd p)) (nI p) r tk tr ea dp yo lv yt cd ar ys yu yc yp yn ye := by
    intro r hr
    subst hr
    refine br_c (fun e => And.intro hin ?_) (fun e => hE e)
    rw [hcl]
    have g := h0 e
    refine br_c (fun c26 => And.intro hin ?_) (fun n26 => And.intro hin ?_)
    · rw [hcl]
      rw [sk_I26 c26] at g
      exact br_f (by rw [c26]; decide) (nm_r (nI_1 p) g)
    · rw [hcl]
      refine br_c (fun c27 => ?_) (fun n27 => ?_)
      · rw [sk_I27 c27] at g
        exact nm_r (nI_1 p) g
      · rw [sk_Ix n26 n27] at g
        exact nm_r (nI_1 p) g
  cases e : sk_I cd p with
  | false =>
    rw [e] at k29
    refine br_t rfl (yy_outside (by omega) (k29 _ ?_))
    rw [sk_e, if_neg (show ¬ sk_I cd p = true by rw [e]; decide)]
  | true =>
    rw [e] at k29
    refine br_f (by decide) (yy_inside hV (by omega) (k29 _ ?_))
    rw [sk_e, if_pos e]
theorem yy_tr_go {post : Int32 → SY → Prop} {q : Nat} (ht : tk = nI T) (hT : T ≤ 80) (hV : sk_V cd ar q) (hq : q ≤ T)
    (hK : ∀ n, T - q < n → wY_translate_4 post tk tr ea dp yo lv yt cd ar ys yu yc yp yn ye n (sk_bI (sk_I cd q)) (nI q)) : ∀ d p n, p + d = q → T - p < n → wY_translate_4 post tk tr ea dp yo lv yt cd ar ys yu yc yp yn ye n (sk_bI (sk_I cd p)) (nI p) := by
  intro d
  induction d with
  | zero =>
    intro p n hp hn
    have e : p = q := by omega
    subst e
    exact hK n hn
  | succ d ih =>
    intro p n hp hn
    obtain ⟨m, rfl⟩ : ∃ m, n = m + 1 := ⟨n - 1, by omega⟩
    have he := sk_e_of (by omega) (sk_V_le hV (by omega)) (hV p (by omega))
    exact br_f (by rw [ht]; exact nI_ge (by omega) (by omega)) (yy_tok ht hT (by omega) (sk_V_le hV (by omega)) (fun _ => ih (p + 1) m (by omega) (by omega)) (fun z => absurd he z))
theorem yy_unk {post : Int32 → SY → Prop} {q : Nat} (ht : tk = nI T) (hT : T ≤ 80) (hq : q ≤ T) (hb : ∀ j, j < q → cd j = 15 → ¬ sk_f cd ar (ar j) T = none)
    (hK : ∀ n, T - q < n → wY_translate_90 post tk tr ea dp yo lv yt cd ar ys yu yc yp yn ye n (nI q)) : ∀ d p n, p + d = q → T - p < n → wY_translate_90 post tk tr ea dp yo lv yt cd ar ys yu yc yp yn ye n (nI p) := by
  intro d
  induction d with
  | zero =>
    intro p n hp hn
    have e : p = q := by omega
    subst e
    exact hK n hn
  | succ d ih =>
    intro p n hp hn
    obtain ⟨m, rfl⟩ : ∃ m, n = m + 1 := ⟨n - 1, by omega⟩
    have hin : vp_in (nI p) 80 := vp_in_nI (by omega) (by decide)
    have hcl : (nI p).toNatClampNeg = p := sk_cl (by omega)
    have g := ih (p + 1) m (by omega) (by omega)
    refine br_f (by rw [ht]; exact nI_ge (by omega) (by omega)) (And.intro hin ?_)
    rw [hcl]
    refine br_c (fun c15 => And.intro hin ?_) (fun n15 => nm_r (nI_1 p) g)
    have hd : ∃ d, sk_f cd ar (ar p) T = some d := by
      cases e : sk_f cd ar (ar p) T with
      | none => exact absurd e (hb p (by omega) c15)
      | some d => exact ⟨d, rfl⟩
    obtain ⟨d', hd⟩ := hd
    have hlt := (sk_f_some T hd).1
    subst ht
    refine yy_def hT ?_
    rw [hd]
    exact br_t (show (0 : Int32) ≤ nI d' from nI_pos' (by omega)) (nm_r (nI_1 p) g)
theorem yy_cells {post : Int32 → SY → Prop} (g : Nat → Int32) (h : post 0 (tk, tr, ea, dp, yo, lv, yt, cd, ar, ys, yu, zr g 12, yp, yn, ye)) : ∀ d n n', n + d = 12 → d < n' → wY_translate_157 post tk tr ea dp yo lv yt n' (nI n) cd ar ys yu (zr g n) yp yn ye := by
  intro d
  induction d with
  | zero =>
    intro n n' hn hn'
    obtain ⟨m, rfl⟩ : ∃ m, n' = m + 1 := ⟨n' - 1, by omega⟩
    have e : n = 12 := by omega
    subst e
    exact br_t (nI_le (a := 12) (b := 12) (by omega) (by decide)) h
  | succ d ih =>
    intro n n' hn hn'
    obtain ⟨m, rfl⟩ : ∃ m, n' = m + 1 := ⟨n' - 1, by omega⟩
    exact br_f (nI_ge (b := 12) (by omega) (by decide)) (And.intro (vp_in_nI (by omega) (by decide)) (nm_r (e' := zr g (n + 1)) (by rw [nI_clamp (show n < 2 ^ 31 by omega)]; rfl) (nm_r (nI_1 n) (ih (n + 1) m (by omega) (by omega)))))
theorem yy_tr_err {post : Int32 → SY → Prop} {e : Int32} {q : Nat} (ht : tk = nI T) (hT : T ≤ 80) (hR : sk_R cd ar T e q) (h : post e (tk, 0, nI q, dp, yo, lv, yt, cd, ar, ys, yu, yc, yp, yn, ye)) : wpY_translate post (tk, tr, ea, dp, yo, lv, yt, cd, ar, ys, yu, yc, yp, yn, ye) := by
  obtain ⟨he, hR⟩ := hR
  rcases hR with ⟨h1, h2, h3⟩ | ⟨h1, h2, h3, h4⟩ | ⟨h1, h2, h3, h4⟩
  · refine ⟨T + 1, yy_tr_go ht hT h2 (by omega) (fun n hn => ?_) q 0 (T + 1) (by omega) (by omega)⟩
    obtain ⟨m, rfl⟩ : ∃ m, n = m + 1 := ⟨n - 1, by omega⟩
    subst h3
    exact br_f (by rw [ht]; exact nI_ge (by omega) (by omega)) (yy_tok ht hT h1 h2 (fun z => absurd z he) (fun _ => h))
  · subst h1 h2
    refine ⟨q + 1, yy_tr_go ht hT h3 (by omega) (fun n hn => ?_) q 0 (q + 1) (by omega) (by omega)⟩
    obtain ⟨m, rfl⟩ : ∃ m, n = m + 1 := ⟨n - 1, by omega⟩
    rw [h4]
    refine br_t (by rw [ht]; exact nI_le (by omega) (by omega)) (br_f (by decide) ?_)
    rw [ht]
    rw [ht] at h
    exact h
  · subst h1
    obtain ⟨u1, u2, u3, u4⟩ := h4
    refine ⟨T + 1, yy_tr_go ht hT h2 (by omega) (fun n hn => ?_) T 0 (T + 1) (by omega) (by omega)⟩
    obtain ⟨m, rfl⟩ : ∃ m, n = m + 1 := ⟨n - 1, by omega⟩
    rw [h3]
    refine br_t (by rw [ht]; exact nI_le (by omega) (by omega)) (br_t rfl ⟨T + 1, ?_⟩)
    refine yy_unk ht hT (by omega) u4 (fun n hn => ?_) q 0 (T + 1) (by omega) (by omega)
    obtain ⟨m', rfl⟩ : ∃ m, n = m + 1 := ⟨n - 1, by omega⟩
    have hin : vp_in (nI q) 80 := vp_in_nI (by omega) (by decide)
    refine br_f (by rw [ht]; exact nI_ge (by omega) (by omega)) (And.intro hin ?_)
    rw [sk_cl (by omega)]
    refine br_t u2 (And.intro hin ?_)
    subst ht
    refine yy_def hT ?_
    rw [u3]
    exact br_f (show ¬ (0 : Int32) ≤ -1 by decide) h
theorem yy_tr_ok {post : Int32 → SY → Prop} (ht : tk = nI T) (hT : T ≤ 80) (hV : sk_V cd ar T) (hI : sk_I cd T = false) (hU : sk_UN cd ar T)
    (h : post 0 (tk, 1, ea, 0, 0, lv, yt, cd, ar, ys, yu, zr yc 12, yp, yn, ye)) : wpY_translate post (tk, tr, ea, dp, yo, lv, yt, cd, ar, ys, yu, yc, yp, yn, ye) := by
  refine ⟨T + 1, yy_tr_go ht hT hV (Nat.le_refl T) (fun n hn => ?_) T 0 (T + 1) (by omega) (by omega)⟩
  obtain ⟨m, rfl⟩ : ∃ m, n = m + 1 := ⟨n - 1, by omega⟩
  rw [hI]
  refine br_t (by rw [ht]; exact nI_le (by omega) (by omega)) (br_t rfl ⟨T + 1, ?_⟩)
  refine yy_unk ht hT (Nat.le_refl T) hU (fun n hn => ?_) T 0 (T + 1) (by omega) (by omega)
  obtain ⟨m', rfl⟩ : ∃ m, n = m + 1 := ⟨n - 1, by omega⟩
  exact br_t (by rw [ht]; exact nI_le (by omega) (by omega)) ⟨13, yy_cells yc h 12 0 13 (by omega) (by omega)⟩
end
end
section
/-! the stack as a list; Y's small operations -/
def st_S (sk : Nat → Int32) : List Int32 → Prop
  | [] => True
  | v :: t => sk t.length = v ∧ st_S sk t
theorem st_k {sk : Nat → Int32} {k : Nat} {x : Int32} : ∀ l : List Int32, st_S sk l → l.length ≤ k → st_S (upd sk k x) l := by
  intro l
  induction l with
  | nil => intro _ _; trivial
  | cons v t ih =>
    intro h hk
    rw [List.length_cons] at hk
    exact ⟨by rw [pk_un (by omega)]; exact h.1, ih h.2 (by omega)⟩
theorem st_p {sk : Nat → Int32} {x : Int32} {l : List Int32} (h : st_S sk l) : st_S (upd sk l.length x) (x :: l) := ⟨pk_us, st_k l h (Nat.le_refl _)⟩
theorem st_p' {sk : Nat → Int32} {x : Int32} {l : List Int32} {k : Nat} (h : st_S sk l) (hk : k = l.length) : st_S (upd sk k x) (x :: l) := by rw [hk]; exact st_p h
theorem st_d {sk : Nat → Int32} : ∀ (m : Nat) (l : List Int32), st_S sk l → st_S sk (l.drop m) := by
  intro m
  induction m with
  | zero => intro l h; exact h
  | succ m ih =>
    intro l h
    cases l with
    | nil => trivial
    | cons v t => exact ih t h.2
/-- the k-th from above -/
def st_g : List Int32 → Nat → Int32
  | [], _ => 0
  | v :: _, 0 => v
  | _ :: t, k + 1 => st_g t k
theorem st_at {sk : Nat → Int32} : ∀ (l : List Int32) k, st_S sk l → k < l.length → sk (l.length - 1 - k) = st_g l k := by
  intro l
  induction l with
  | nil => intro k _ h; exact absurd h (Nat.not_lt_zero k)
  | cons v t ih =>
    intro k h hk
    rw [List.length_cons] at hk ⊢
    cases k with
    | zero => rw [show t.length + 1 - 1 - 0 = t.length from by omega]; exact h.1
    | succ k => rw [show t.length + 1 - 1 - (k + 1) = t.length - 1 - k from by omega]; exact ih k h.2 (by omega)
theorem st_g0 : ∀ (l : List Int32) k, l.length ≤ k → st_g l k = 0 := by
  intro l
  induction l with
  | nil => intro k _; cases k <;> rfl
  | cons v t ih =>
    intro k hk
    rw [List.length_cons] at hk
    cases k with
    | zero => omega
    | succ k => exact ih k (by omega)
theorem wk_div (x y : Int32) : (x.toInt64 / y.toInt64).toInt32 = x / y := by
  apply Int32.toInt_inj.mp
  rw [Int64.toInt_toInt32, Int64.toInt_div, Int32.toInt_div, Int32.toInt_toInt64, Int32.toInt_toInt64]
  exact Int.bmod_bmod_of_dvd (by decide)
theorem wk_ne {y : Int32} (h : ¬ y = 0) : ¬ y.toInt64 = 0 := by
  intro z
  apply h
  apply Int32.toInt_inj.mp
  have := congrArg Int64.toInt z
  rw [Int32.toInt_toInt64] at this
  exact this
theorem yy_worked {post : Int32 → Prop} {c x y : Int32} (h : post (sk_w c x y)) : wpY_worked post c x y := by
  rw [sk_w] at h
  refine br_c (fun e => ?_) (fun e => br_c (fun e1 => ?_) (fun e1 => br_c (fun e2 => ?_) (fun e2 => br_c (fun e3 => br_c (fun e4 => ?_) (fun e4 => ?_)) (fun e3 => br_c (fun e4 => br_c (fun e5 => ?_) (fun e5 => ?_)) (fun e4 => br_c (fun e5 => ?_) (fun e5 => And.intro (wk_ne e5) (nm_e ?_)))))))
  · rw [if_pos e] at h; exact h
  · rw [if_neg e, if_pos e1] at h; exact h
  · rw [if_neg e, if_neg e1, if_pos e2] at h; exact h
  · rw [if_neg e, if_neg e1, if_neg e2, if_pos e3, if_pos e4] at h; exact h
  · rw [if_neg e, if_neg e1, if_neg e2, if_pos e3, if_neg e4] at h; exact h
  · rw [if_neg e, if_neg e1, if_neg e2, if_neg e3, if_pos e4, if_pos e5] at h; exact h
  · rw [if_neg e, if_neg e1, if_neg e2, if_neg e3, if_pos e4, if_neg e5] at h; exact h
  · rw [if_neg e, if_neg e1, if_neg e2, if_neg e3, if_neg e4, if_pos e5] at h; exact h
  · rw [if_neg e, if_neg e1, if_neg e2, if_neg e3, if_neg e4, if_neg e5] at h; rw [wk_div]; exact h
def yt_k (c : Int32) : Nat :=
  if sk_A c ∨ c = 4 ∨ c = 7 ∨ c = 8 ∨ c = 13 then 2 else if c = 9 then 3 else if c = 5 ∨ c = 6 ∨ c = 12 ∨ c = 14 ∨ c = 16 ∨ c = 20 ∨ c = 21 ∨ c = 23 then 1 else 0
theorem yy_takes {post : Int32 → Prop} {k : Nat} (hk : k ≤ 27) (h : post (nI (yt_k (nI k)))) : wpY_takes post (nI k) := by
  have : k = 0 ∨ k = 1 ∨ k = 2 ∨ k = 3 ∨ k = 4 ∨ k = 5 ∨ k = 6 ∨ k = 7 ∨ k = 8 ∨ k = 9 ∨ k = 10 ∨ k = 11 ∨ k = 12 ∨ k = 13 ∨ k = 14 ∨ k = 15 ∨ k = 16 ∨ k = 17 ∨ k = 18 ∨ k = 19 ∨ k = 20 ∨ k = 21 ∨ k = 22 ∨ k = 23 ∨ k = 24 ∨ k = 25 ∨ k = 26 ∨ k = 27 := by omega
  rcases this with e | e | e | e | e | e | e | e | e | e | e | e | e | e | e | e | e | e | e | e | e | e | e | e | e | e | e | e <;> subst e
  · exact br_t (by decide) (br_f (by decide) (br_f (by decide) (br_f (by decide) (br_f (by decide) (br_f (by decide) (br_f (by decide) (br_f (by decide) (br_f (by decide) (br_f (by decide) (br_f (by decide) (br_f (by decide) (br_f (by decide) (br_f (by decide) (br_f (by decide) h))))))))))))))
  · exact br_f (by decide) (br_t (by decide) h)
  · exact br_f (by decide) (br_t (by decide) h)
  · exact br_f (by decide) (br_t (by decide) h)
  · exact br_f (by decide) (br_t (by decide) h)
  all_goals refine br_f (by decide) (br_f (by decide) ?_)
  · exact br_f (by decide) (br_f (by decide) (br_f (by decide) (br_f (by decide) (br_f (by decide) (br_f (by decide) (br_t (by decide) h))))))
  · exact br_f (by decide) (br_f (by decide) (br_f (by decide) (br_f (by decide) (br_f (by decide) (br_f (by decide) (br_f (by decide) (br_t (by decide) h)))))))
  · exact br_t (by decide) h
  · exact br_f (by decide) (br_t (by decide) h)
  · exact br_f (by decide) (br_f (by decide) (br_f (by decide) (br_f (by decide) (br_f (by decide) (br_t (by decide) h)))))
  · exact br_f (by decide) (br_f (by decide) (br_t (by decide) h))
  · exact br_f (by decide) (br_f (by decide) (br_f (by decide) (br_t (by decide) h)))
  · exact br_f (by decide) (br_f (by decide) (br_f (by decide) (br_f (by decide) (br_f (by decide) (br_f (by decide) (br_f (by decide) (br_f (by decide) (br_t (by decide) h))))))))
  · exact br_f (by decide) (br_f (by decide) (br_f (by decide) (br_f (by decide) (br_t (by decide) h))))
  · exact br_f (by decide) (br_f (by decide) (br_f (by decide) (br_f (by decide) (br_f (by decide) (br_f (by decide) (br_f (by decide) (br_f (by decide) (br_f (by decide) (br_t (by decide) h)))))))))
  · exact br_f (by decide) (br_f (by decide) (br_f (by decide) (br_f (by decide) (br_f (by decide) (br_f (by decide) (br_f (by decide) (br_f (by decide) (br_f (by decide) (br_f (by decide) (br_f (by decide) (br_f (by decide) (br_f (by decide) (br_f (by decide) (h))))))))))))))
  · exact br_f (by decide) (br_f (by decide) (br_f (by decide) (br_f (by decide) (br_f (by decide) (br_f (by decide) (br_f (by decide) (br_f (by decide) (br_f (by decide) (br_f (by decide) (br_t (by decide) h))))))))))
  · exact br_f (by decide) (br_f (by decide) (br_f (by decide) (br_f (by decide) (br_f (by decide) (br_f (by decide) (br_f (by decide) (br_f (by decide) (br_f (by decide) (br_f (by decide) (br_f (by decide) (br_f (by decide) (br_f (by decide) (br_f (by decide) (h))))))))))))))
  · exact br_f (by decide) (br_f (by decide) (br_f (by decide) (br_f (by decide) (br_f (by decide) (br_f (by decide) (br_f (by decide) (br_f (by decide) (br_f (by decide) (br_f (by decide) (br_f (by decide) (br_f (by decide) (br_f (by decide) (br_f (by decide) (h))))))))))))))
  · exact br_f (by decide) (br_f (by decide) (br_f (by decide) (br_f (by decide) (br_f (by decide) (br_f (by decide) (br_f (by decide) (br_f (by decide) (br_f (by decide) (br_f (by decide) (br_f (by decide) (br_f (by decide) (br_f (by decide) (br_f (by decide) (h))))))))))))))
  · exact br_f (by decide) (br_f (by decide) (br_f (by decide) (br_f (by decide) (br_f (by decide) (br_f (by decide) (br_f (by decide) (br_f (by decide) (br_f (by decide) (br_f (by decide) (br_f (by decide) (br_t (by decide) h)))))))))))
  · exact br_f (by decide) (br_f (by decide) (br_f (by decide) (br_f (by decide) (br_f (by decide) (br_f (by decide) (br_f (by decide) (br_f (by decide) (br_f (by decide) (br_f (by decide) (br_f (by decide) (br_f (by decide) (br_t (by decide) h))))))))))))
  · exact br_f (by decide) (br_f (by decide) (br_f (by decide) (br_f (by decide) (br_f (by decide) (br_f (by decide) (br_f (by decide) (br_f (by decide) (br_f (by decide) (br_f (by decide) (br_f (by decide) (br_f (by decide) (br_f (by decide) (br_f (by decide) (h))))))))))))))
  · exact br_f (by decide) (br_f (by decide) (br_f (by decide) (br_f (by decide) (br_f (by decide) (br_f (by decide) (br_f (by decide) (br_f (by decide) (br_f (by decide) (br_f (by decide) (br_f (by decide) (br_f (by decide) (br_f (by decide) (br_t (by decide) h)))))))))))))
  · exact br_f (by decide) (br_f (by decide) (br_f (by decide) (br_f (by decide) (br_f (by decide) (br_f (by decide) (br_f (by decide) (br_f (by decide) (br_f (by decide) (br_f (by decide) (br_f (by decide) (br_f (by decide) (br_f (by decide) (br_f (by decide) (h))))))))))))))
  · exact br_f (by decide) (br_f (by decide) (br_f (by decide) (br_f (by decide) (br_f (by decide) (br_f (by decide) (br_f (by decide) (br_f (by decide) (br_f (by decide) (br_f (by decide) (br_f (by decide) (br_f (by decide) (br_f (by decide) (br_f (by decide) (h))))))))))))))
  · exact br_f (by decide) (br_f (by decide) (br_f (by decide) (br_f (by decide) (br_f (by decide) (br_f (by decide) (br_f (by decide) (br_f (by decide) (br_f (by decide) (br_f (by decide) (br_f (by decide) (br_f (by decide) (br_f (by decide) (br_f (by decide) (h))))))))))))))
  · exact br_f (by decide) (br_f (by decide) (br_f (by decide) (br_f (by decide) (br_f (by decide) (br_f (by decide) (br_f (by decide) (br_f (by decide) (br_f (by decide) (br_f (by decide) (br_f (by decide) (br_f (by decide) (br_f (by decide) (br_f (by decide) (h))))))))))))))
section
variable {tk tr ea dp yo lv yt : Int32} {cd ar ys yu yc yp yn ye : Nat → Int32} {T p : Nat} {l : List Int32}
theorem yy_top {post : Int32 → Prop} {k : Nat} (hd : dp = nI l.length) (hl : l.length ≤ 16) (hs : st_S ys l) (hk : k ≤ 16) (h : post (st_g l k)) : wpY_top post (tk, tr, ea, dp, yo, lv, yt, cd, ar, ys, yu, yc, yp, yn, ye) (nI k) := by
  subst hd
  refine br_f (nI_pos (by omega)) ?_
  by_cases e : k < l.length
  · obtain ⟨m, hm⟩ : ∃ m, l.length = m + 1 := ⟨l.length - 1, by omega⟩
    have h1 : nI l.length - 1 - nI k = nI (l.length - 1 - k) := by rw [hm, nI_pred, pk_sub (by omega), Nat.add_sub_cancel]
    refine br_t (nI_lt e (by omega)) ?_
    rw [h1, nI_clamp (show l.length - 1 - k < 2 ^ 31 by omega), st_at l k hs e]
    exact And.intro (vp_in_nI (by omega) (by decide)) h
  · rw [st_g0 l k (by omega)] at h
    exact br_f (nI_nlt (by omega) (by omega)) h
theorem yy_push {post : Int32 → SY → Prop} {s : Nat} {x : Int32} (hd : dp = nI s) (hs : s < 16) (h : post (nI (s + 1)) (tk, tr, ea, nI (s + 1), yo, lv, yt, cd, ar, upd ys s x, yu, yc, yp, yn, ye)) : wpY_push post (tk, tr, ea, dp, yo, lv, yt, cd, ar, ys, yu, yc, yp, yn, ye) x := by
  subst hd
  exact br_f (fun z => by have := (nI_eq (b := 16) (by omega) (by decide)).mp z; omega) (And.intro (vp_in_nI hs (by decide)) (nm_r (congrArg (fun k => upd ys k x) (nI_clamp (show s < 2 ^ 31 by omega))) (nm_r (nI_1 s) h)))
theorem yy_drop_l {post : SY → Prop} {m : Nat} (hm : m ≤ 3) : ∀ j i s n, i + j = m → j ≤ s → s ≤ 16 → j < n → post (tk, tr, ea, nI (s - j), yo, lv, yt, cd, ar, ys, yu, yc, yp, yn, ye) → wY_drop_2 post (nI m) tk tr ea yo lv yt cd ar ys yu yc yp yn ye n (nI i) (nI s) := by
  intro j
  induction j with
  | zero =>
    intro i s n hi hs h16 hn h
    obtain ⟨n', rfl⟩ : ∃ m, n = m + 1 := ⟨n - 1, by omega⟩
    exact br_t (nI_le (by omega) (by omega)) h
  | succ j ih =>
    intro i s n hi hs h16 hn h
    obtain ⟨n', rfl⟩ : ∃ m, n = m + 1 := ⟨n - 1, by omega⟩
    obtain ⟨s', rfl⟩ : ∃ s', s = s' + 1 := ⟨s - 1, by omega⟩
    refine br_f (nI_ge (by omega) (by omega)) (br_f (nI_nle (by omega) (by omega)) (nm_r (nI_pred s') (nm_r (nI_1 i) (ih (i + 1) s' n' (by omega) (by omega) (by omega) (by omega) ?_))))
    rw [show s' - j = s' + 1 - (j + 1) from by omega]; exact h
theorem yy_drop {post : SY → Prop} {m s : Nat} (hd : dp = nI s) (hm : m ≤ 3) (hs : m ≤ s) (h16 : s ≤ 16) (h : post (tk, tr, ea, nI (s - m), yo, lv, yt, cd, ar, ys, yu, yc, yp, yn, ye)) : wpY_drop post (tk, tr, ea, dp, yo, lv, yt, cd, ar, ys, yu, yc, yp, yn, ye) (nI m) := by
  subst hd
  exact ⟨m + 1, yy_drop_l hm m 0 s (m + 1) (by omega) hs h16 (by omega) h⟩
theorem yy_calls {post : Int32 → Prop} (ht : tk = nI T) (hT : T ≤ 80) (hp : p < T) (h0 : ¬ cd p = 15 → post 0) (h1 : cd p = 15 → ∀ d, sk_f cd ar (ar p) T = some d → post (if cd d = 26 then 1 else 0)) (hU : sk_UN cd ar T) : wpY_callsWord post (tk, tr, ea, dp, yo, lv, yt, cd, ar, ys, yu, yc, yp, yn, ye) (nI p) := by
  have hin : vp_in (nI p) 80 := vp_in_nI (by omega) (by decide)
  refine And.intro hin ?_
  rw [sk_cl (by omega)]
  refine br_c (fun c => And.intro hin ?_) (fun c => h0 c)
  subst ht
  refine yy_def hT ?_
  cases e : sk_f cd ar (ar p) T with
  | none => exact absurd e (hU p hp c)
  | some d =>
    have hd := (sk_f_some T e).1
    have g := h1 c d e
    refine br_f (show ¬ nI d < 0 from nI_pos (by omega)) (And.intro (show vp_in (nI d) 80 from vp_in_nI (by omega) (by decide)) ?_)
    show (cd (nI d).toNatClampNeg = 26 → post 1) ∧ (¬ cd (nI d).toNatClampNeg = 26 → post 0)
    rw [sk_cl (by omega)]
    exact br_c (fun z => by rw [if_pos z] at g; exact g) (fun z => by rw [if_neg z] at g; exact g)
end
end
section
/-! what keeps Y from carrying out a token -/
def yH (cd ar : Nat → Int32) (T p L t o : Nat) (l : List Int32) (tk lv yt dp yo : Int32) (ys : Nat → Int32) : Prop :=
  (tk = nI T ∧ T ≤ 80 ∧ p < T ∧ sk_V cd ar T ∧ sk_UN cd ar T) ∧ (lv = nI L ∧ L < 8 ∧ yt = nI t ∧ t ≤ 200) ∧ (dp = nI l.length ∧ l.length ≤ 16 ∧ st_S ys l ∧ yo = nI o ∧ o ≤ 16)
section
variable {tk tr ea dp yo lv yt : Int32} {cd ar ys yu yc yp yn ye : Nat → Int32} {T p L t o : Nat} {l : List Int32} {P : Int32 → Prop}
theorem yy_k (H : yH cd ar T p L t o l tk lv yt dp yo ys) : ∃ k, k ≤ 28 ∧ cd p = nI k := by
  obtain ⟨⟨_, _, hp, hV, _⟩, _⟩ := H
  have hK := hV p hp
  cases e : sk_I cd p with
  | true =>
    obtain ⟨⟨a, b, _⟩, _⟩ := hK.2 e
    obtain ⟨k, hk, h⟩ := sk_k27 a b
    exact ⟨k, by omega, h⟩
  | false =>
    rcases (hK.1 e).1 with z | z
    · exact ⟨26, by omega, z⟩
    · exact ⟨28, by omega, z⟩
theorem yy_ob_in (H : yH cd ar T p L t o l tk lv yt dp yo ys) (hI : sk_I cd p = true)
    (h11 : l.length < yt_k (cd p) → P 11)
    (h : yt_k (cd p) ≤ l.length → ∀ w, (¬ cd p = 15 → w = 0) → (cd p = 15 → ∀ d, sk_f cd ar (ar p) T = some d → w = if cd d = 26 then 1 else 0) →
      ((cd p = 4 → (st_g l 0 = 0 → P 13) ∧ (¬ st_g l 0 = 0 → wY_obstacle_46 P (cd p) (st_g l 0) w tk tr ea dp yo lv yt cd ar ys yu yc yp yn ye)) ∧ (¬ cd p = 4 → wY_obstacle_46 P (cd p) (st_g l 0) w tk tr ea dp yo lv yt cd ar ys yu yc yp yn ye))) : wpY_obstacle P (tk, tr, ea, dp, yo, lv, yt, cd, ar, ys, yu, yc, yp, yn, ye) (nI p) := by
  obtain ⟨⟨a1, a2, a3, a4, a5⟩, ⟨b1, b2, b3, b4⟩, ⟨c1, c2, c3, c4, c5⟩⟩ := H
  obtain ⟨⟨k0, k27, k26⟩, _⟩ := (a4 p a3).2 hI
  obtain ⟨k, hk, hc⟩ := sk_k27 k0 k27
  have hin : vp_in (nI p) 80 := vp_in_nI (by omega) (by decide)
  have hb : yt_k (cd p) ≤ 3 := by rw [yt_k]; split; omega; split; omega; split <;> omega
  refine And.intro hin (nm_r (congrArg cd (sk_cl (by omega))) ?_)
  rw [hc]
  refine yy_takes hk ?_
  rw [← hc]
  by_cases e : yt_k (cd p) ≤ l.length
  · refine br_t (by rw [c1]; exact nI_le e (by omega)) (yy_top (k := 0) c1 c2 c3 (by omega) (yy_calls a1 a2 a3 (fun z => ?_) (fun z d hd => ?_) a5))
    · exact h e 0 (fun _ => rfl) (fun y => absurd y z)
    · exact h e _ (fun y => absurd z y) (fun _ d' hd' => by rw [hd] at hd'; cases hd'; rfl)
  · exact br_f (by rw [c1]; exact nI_ge (by omega) (by omega)) (h11 (by omega))
theorem yy_46 {c x w : Int32} (h : wY_obstacle_95 P c x w tk tr ea dp yo lv yt cd ar ys yu yc yp yn ye) (h12 : ¬ c = 12) (h13 : ¬ c = 13) (h14 : ¬ c = 14) : wY_obstacle_46 P c x w tk tr ea dp yo lv yt cd ar ys yu yc yp yn ye :=
  br_f h12 (br_f h13 (br_f h14 h))
theorem yy_95 {c x : Int32} (H : yH cd ar T p L t o l tk lv yt dp yo ys) (h16 : t = 200 → (c = 20 ∧ x = 0) ∨ c = 22 ∨ c = 24 → P 16)
    (h : (t = 200 → ¬ ((c = 20 ∧ x = 0) ∨ c = 22 ∨ c = 24)) → wY_obstacle_152 P c 0 tk tr ea dp yo lv yt cd ar ys yu yc yp yn ye) : wY_obstacle_95 P c x 0 tk tr ea dp yo lv yt cd ar ys yu yc yp yn ye := by
  obtain ⟨⟨a1, a2, a3, a4, a5⟩, ⟨b1, b2, b3, b4⟩, ⟨c1, c2, c3, c4, c5⟩⟩ := H
  have k135 : (t = 200 → ¬ ((c = 20 ∧ x = 0) ∨ c = 22 ∨ c = 24)) → wY_obstacle_135 P c 0 tk tr ea dp yo lv yt cd ar ys yu yc yp yn ye := fun z => br_t rfl (h z)
  by_cases e : t = 200
  · have k120 : ¬ (c = 20 ∧ x = 0) → wY_obstacle_120 P c 0 tk tr ea dp yo lv yt cd ar ys yu yc yp yn ye := fun z =>
      br_c (fun y => h16 e (Or.inr (Or.inl y))) (fun n22 => br_c (fun y => h16 e (Or.inr (Or.inr y))) (fun n24 => k135 (fun _ q => by rcases q with q | q | q; exact z q; exact n22 q; exact n24 q)))
    refine br_t (by rw [b3, e]; rfl) (br_t rfl (br_c (fun c20 => br_c (fun x0 => h16 e (Or.inl ⟨c20, x0⟩)) (fun x0 => k120 (fun z => x0 z.2))) (fun n20 => k120 (fun z => n20 z.1))))
  · exact br_f (fun z => by rw [b3] at z; exact e ((nI_eq (b := 200) (by omega) (by decide)).mp z)) (k135 (fun z => absurd z e))
theorem yy_152 {c : Int32} (H : yH cd ar T p L t o l tk lv yt dp yo ys) (hm : (c = 0 ∨ c = 5 ∨ c = 8 ∨ c = 25 ∨ c = 15) → l.length = 16 → P 12)
    (h : ((c = 0 ∨ c = 5 ∨ c = 8 ∨ c = 25 ∨ c = 15) → l.length < 16) → P 0) : wY_obstacle_152 P c 0 tk tr ea dp yo lv yt cd ar ys yu yc yp yn ye := by
  obtain ⟨⟨a1, a2, a3, a4, a5⟩, ⟨b1, b2, b3, b4⟩, ⟨c1, c2, c3, c4, c5⟩⟩ := H
  have k184 : (c = 0 ∨ c = 5 ∨ c = 8 ∨ c = 25 ∨ c = 15) → wY_obstacle_184 P tk tr ea dp yo lv yt cd ar ys yu yc yp yn ye := by
    intro z
    refine br_f (by decide) ?_
    by_cases e : l.length = 16
    · exact br_t (by rw [c1, e]; rfl) (hm z e)
    · exact br_f (fun y => by rw [c1] at y; exact e ((nI_eq (b := 16) (by omega) (by decide)).mp y)) (h (fun _ => by omega))
  refine br_c (fun e => k184 (Or.inl e)) (fun n0 => br_c (fun e => k184 (Or.inr (Or.inl e))) (fun n5 => br_c (fun e => k184 (Or.inr (Or.inr (Or.inl e)))) (fun n8 => br_c (fun e => k184 (Or.inr (Or.inr (Or.inr (Or.inl e))))) (fun n25 => br_c (fun e => br_t rfl (k184 (Or.inr (Or.inr (Or.inr (Or.inr e)))))) (fun n15 => ?_)))))
  exact br_t rfl (h (fun z => by rcases z with z | z | z | z | z <;> contradiction))
/-- codes that are not 4, 12, 13, 14 -/
theorem yy_ob (H : yH cd ar T p L t o l tk lv yt dp yo ys) (hI : sk_I cd p = true) (h4 : ¬ (cd p = 4 ∨ cd p = 12 ∨ cd p = 13 ∨ cd p = 14)) (hw : cd p = 15 → ∀ d, sk_f cd ar (ar p) T = some d → ¬ cd d = 26)
    (h11 : l.length < yt_k (cd p) → P 11)
    (h16 : yt_k (cd p) ≤ l.length → t = 200 → (cd p = 20 ∧ st_g l 0 = 0) ∨ cd p = 22 ∨ cd p = 24 → P 16)
    (h12 : (cd p = 0 ∨ cd p = 5 ∨ cd p = 8 ∨ cd p = 25 ∨ cd p = 15) → l.length = 16 → P 12)
    (h0 : yt_k (cd p) ≤ l.length → (t = 200 → ¬ ((cd p = 20 ∧ st_g l 0 = 0) ∨ cd p = 22 ∨ cd p = 24)) → ((cd p = 0 ∨ cd p = 5 ∨ cd p = 8 ∨ cd p = 25 ∨ cd p = 15) → l.length < 16) → P 0) :
    wpY_obstacle P (tk, tr, ea, dp, yo, lv, yt, cd, ar, ys, yu, yc, yp, yn, ye) (nI p) := by
  refine yy_ob_in H hI h11 (fun hle w w0 w1 => ?_)
  have hw0 : w = 0 := by
    by_cases c : cd p = 15
    · obtain ⟨⟨_, _, hp, hV, hU⟩, _⟩ := H
      cases e : sk_f cd ar (ar p) T with
      | none => exact absurd e (hU p hp c)
      | some d => rw [w1 c d e, if_neg (hw c d e)]
    · exact w0 c
  subst hw0
  refine br_f (fun z => h4 (Or.inl z)) (yy_46 (yy_95 H (h16 hle) (fun z => yy_152 H h12 (h0 hle z))) (fun z => h4 (Or.inr (Or.inl z))) (fun z => h4 (Or.inr (Or.inr (Or.inl z)))) (fun z => h4 (Or.inr (Or.inr (Or.inr z)))))
theorem yy_ob4 (H : yH cd ar T p L t o l tk lv yt dp yo ys) (hI : sk_I cd p = true) (hc : cd p = 4)
    (h11 : l.length < 2 → P 11) (h13 : 2 ≤ l.length → st_g l 0 = 0 → P 13) (h0 : 2 ≤ l.length → ¬ st_g l 0 = 0 → P 0) : wpY_obstacle P (tk, tr, ea, dp, yo, lv, yt, cd, ar, ys, yu, yc, yp, yn, ye) (nI p) := by
  have hy : yt_k (cd p) = 2 := by rw [hc]; decide
  refine yy_ob_in H hI (fun z => h11 (by omega)) (fun hle w w0 w1 => ?_)
  rw [hy] at hle
  have hw0 := w0 (by rw [hc]; decide)
  subst hw0
  refine br_t hc (br_c (fun z => h13 hle z) (fun z => yy_46 (yy_95 H (fun _ y => by rw [hc] at y; exact absurd y (by simp)) (fun _ => yy_152 H (fun y => by rw [hc] at y; exact absurd y (by decide)) (fun _ => h0 hle z))) (by rw [hc]; decide) (by rw [hc]; decide) (by rw [hc]; decide)))
theorem yy_ob12 (H : yH cd ar T p L t o l tk lv yt dp yo ys) (hI : sk_I cd p = true) (hc : cd p = 12 ∨ cd p = 13)
    (h11 : l.length < yt_k (cd p) → P 11) (h14 : yt_k (cd p) ≤ l.length → ¬ (¬ st_g l 0 < 0 ∧ st_g l 0 < nI (sk_v cd T)) → P 14)
    (h0 : yt_k (cd p) ≤ l.length → (¬ st_g l 0 < 0 ∧ st_g l 0 < nI (sk_v cd T)) → P 0) : wpY_obstacle P (tk, tr, ea, dp, yo, lv, yt, cd, ar, ys, yu, yc, yp, yn, ye) (nI p) := by
  have ht := H.1.1
  have hT := H.1.2.1
  refine yy_ob_in H hI h11 (fun hle w w0 w1 => ?_)
  have hw0 := w0 (by rcases hc with c | c <;> rw [c] <;> decide)
  subst hw0
  have k77 : (¬ st_g l 0 < 0 ∧ st_g l 0 < nI (sk_v cd T)) → wY_obstacle_77 P (cd p) (st_g l 0) 0 tk tr ea dp yo lv yt cd ar ys yu yc yp yn ye := fun g =>
    br_f (by rcases hc with c | c <;> rw [c] <;> decide) (yy_95 H (fun _ y => by rcases hc with c | c <;> rw [c] at y <;> exact absurd y (by simp)) (fun _ => yy_152 H (fun y => by rcases hc with c | c <;> rw [c] at y <;> exact absurd y (by decide)) (fun _ => h0 hle g)))
  have k58 : wY_obstacle_58 P (cd p) (st_g l 0) 0 tk tr ea dp yo lv yt cd ar ys yu yc yp yn ye := by
    refine br_c (fun z => h14 hle (fun y => y.1 z)) (fun z => ?_)
    subst ht
    exact yy_vars hT (br_c (fun y => k77 ⟨z, y⟩) (fun y => h14 hle (fun q => y q.2)))
  refine br_f (by rcases hc with c | c <;> rw [c] <;> decide) (br_c (fun _ => k58) (fun n12 => br_t ?_ k58))
  rcases hc with c | c
  · exact absurd c n12
  · exact c
theorem yy_ob14 (H : yH cd ar T p L t o l tk lv yt dp yo ys) (hI : sk_I cd p = true) (hc : cd p = 14)
    (h11 : l.length < 1 → P 11) (h15 : 1 ≤ l.length → o = 16 → P 15) (h0 : 1 ≤ l.length → o < 16 → P 0) : wpY_obstacle P (tk, tr, ea, dp, yo, lv, yt, cd, ar, ys, yu, yc, yp, yn, ye) (nI p) := by
  have hy : yt_k (cd p) = 1 := by rw [hc]; decide
  have hyo := H.2.2.2.2.2.1
  have ho := H.2.2.2.2.2.2
  refine yy_ob_in H hI (fun z => h11 (by omega)) (fun hle w w0 w1 => ?_)
  rw [hy] at hle
  have hw0 := w0 (by rw [hc]; decide)
  subst hw0
  refine br_f (by rw [hc]; decide) (br_f (by rw [hc]; decide) (br_f (by rw [hc]; decide) (br_t hc ?_)))
  by_cases e : o = 16
  · exact br_t (by rw [hyo, e]; rfl) (h15 hle e)
  · exact br_f (fun z => by rw [hyo] at z; exact e ((nI_eq (b := 16) (by omega) (by decide)).mp z)) (yy_95 H (fun _ y => by rw [hc] at y; exact absurd y (by simp)) (fun _ => yy_152 H (fun y => by rw [hc] at y; exact absurd y (by decide)) (fun _ => h0 hle (by omega))))
theorem yy_obw (H : yH cd ar T p L t o l tk lv yt dp yo ys) (hI : sk_I cd p = true) (hc : cd p = 15) {d : Nat} (hd : sk_f cd ar (ar p) T = some d) (h26 : cd d = 26)
    (h16 : t = 200 → P 16) (h17 : t < 200 → L = 7 → P 17) (h0 : t < 200 → L < 7 → P 0) : wpY_obstacle P (tk, tr, ea, dp, yo, lv, yt, cd, ar, ys, yu, yc, yp, yn, ye) (nI p) := by
  have hy : yt_k (cd p) = 0 := by rw [hc]; decide
  obtain ⟨⟨a1, a2, a3, a4, a5⟩, ⟨b1, b2, b3, b4⟩, ⟨c1, c2, c3, c4, c5⟩⟩ := id H
  refine yy_ob_in H hI (fun z => by omega) (fun hle w w0 w1 => ?_)
  have hw1 := w1 hc d hd
  rw [if_pos h26] at hw1
  subst hw1
  refine br_f (by rw [hc]; decide) (yy_46 ?_ (by rw [hc]; decide) (by rw [hc]; decide) (by rw [hc]; decide))
  by_cases e : t = 200
  · exact br_t (by rw [b3, e]; rfl) (br_f (by decide) (h16 e))
  · refine br_f (fun z => by rw [b3] at z; exact e ((nI_eq (b := 200) (by omega) (by decide)).mp z)) (br_f (by decide) ?_)
    by_cases e7 : L = 7
    · exact br_t (by rw [b1, e7]; rfl) (h17 (by omega) e7)
    · refine br_f (fun z => by rw [b1] at z; exact e7 ((nI_eq (b := 7) (by omega) (by decide)).mp z)) ?_
      rw [hc]
      exact br_f (by decide) (br_f (by decide) (br_f (by decide) (br_f (by decide) (br_t rfl (br_f (by decide) (br_t rfl (h0 (by omega) (by omega))))))))
end
end
section
/-! Y carries out the plain tokens (printed by mk22.py) -/
section
variable {tk tr ea dp yo lv yt : Int32} {cd ar ys yu yc yp yn ye : Nat → Int32} {T p L t o : Nat} {l : List Int32} {R : SY → Prop}
theorem yy_pl_in (H : yH cd ar T p L t o l tk lv yt dp yo ys) (hI : sk_I cd p = true) (hle : yt_k (cd p) ≤ l.length)
    (h0 : cd p = 0 → l.length < 16 ∧ wY_plain_50 R (cd p) (st_g l 0) (st_g l 1) (st_g l 2) tk tr ea (nI (l.length + 1)) yo lv yt cd ar (upd ys l.length (ar p)) yu yc yp yn ye)
    (h : ¬ cd p = 0 → wY_plain_50 R (cd p) (st_g l 0) (st_g l 1) (st_g l 2) tk tr ea (nI (l.length - yt_k (cd p))) yo lv yt cd ar ys yu yc yp yn ye) : wpY_plain R (tk, tr, ea, dp, yo, lv, yt, cd, ar, ys, yu, yc, yp, yn, ye) (nI p) := by
  obtain ⟨⟨a1, a2, a3, a4, a5⟩, ⟨b1, b2, b3, b4⟩, ⟨c1, c2, c3, c4, c5⟩⟩ := H
  obtain ⟨⟨k0, k27, k26⟩, _⟩ := (a4 p a3).2 hI
  obtain ⟨k, hk, hc⟩ := sk_k27 k0 k27
  have hin : vp_in (nI p) 80 := vp_in_nI (by omega) (by decide)
  have hcl : (nI p).toNatClampNeg = p := sk_cl (by omega)
  have hb : yt_k (cd p) ≤ 3 := by rw [yt_k]; split; omega; split; omega; split <;> omega
  refine And.intro hin (nm_r (congrArg cd hcl) (yy_top (k := 0) c1 c2 c3 (by omega) (yy_top (k := 1) c1 c2 c3 (by omega) (yy_top (k := 2) c1 c2 c3 (by omega) ?_))))
  rw [hc]
  refine yy_takes hk ?_
  rw [← hc]
  refine yy_drop c1 hb hle c2 (br_c (fun e => And.intro hin ?_) h)
  rw [hcl]
  obtain ⟨e1, e2⟩ := h0 e
  have hy : l.length - yt_k (cd p) = l.length := by rw [e]; exact Nat.sub_zero _
  rw [hy]
  exact yy_push rfl e1 e2
theorem yy_pl_0 (H : yH cd ar T p L t o l tk lv yt dp yo ys) (hI : sk_I cd p = true) (hc : cd p = 0) (h15 : l.length < 16) (h : R (tk, tr, ea, nI (l.length + 1), yo, lv, yt, cd, ar, upd ys l.length (ar p), yu, yc, yp, yn, ye)) : wpY_plain R (tk, tr, ea, dp, yo, lv, yt, cd, ar, ys, yu, yc, yp, yn, ye) (nI p) := by
  have h16 := H.2.2.2.1
  have ho16 := H.2.2.2.2.2.2
  have hyo := H.2.2.2.2.2.1
  have hy : yt_k (cd p) = 0 := by rw [hc]; decide
  refine yy_pl_in H hI (by rw [hy]; omega) (fun _ => And.intro h15 ?_) (fun z => absurd hc z)
  rw [hc]
  exact br_t (by decide) (br_f (by decide) (br_f (by decide) (br_f (by decide) (br_f (by decide) (br_f (by decide) (br_f (by decide) (br_f (by decide) (br_f (by decide) (br_f (by decide) (br_f (by decide) (br_f (by decide) (br_f (by decide) (h)))))))))))))
theorem yy_pl_1 (H : yH cd ar T p L t o l tk lv yt dp yo ys) (hI : sk_I cd p = true) (hc : cd p = 1) {z y : Int32} {s : List Int32} (hl : l = z :: y :: s) (h : R (tk, tr, ea, nI (s.length + 1), yo, lv, yt, cd, ar, upd ys s.length (sk_w 1 y z), yu, yc, yp, yn, ye)) : wpY_plain R (tk, tr, ea, dp, yo, lv, yt, cd, ar, ys, yu, yc, yp, yn, ye) (nI p) := by
  have h16 := H.2.2.2.1
  have ho16 := H.2.2.2.2.2.2
  have hyo := H.2.2.2.2.2.1
  subst hl
  simp only [List.length_cons] at h16
  have hy : yt_k (cd p) = 2 := by rw [hc]; decide
  refine yy_pl_in H hI (by rw [hy]; simp only [List.length_cons]; omega) (fun z => by rw [hc] at z; exact absurd z (by decide)) (fun _ => ?_)
  rw [hy, hc]
  exact br_f (by decide) (br_t (by decide) (yy_worked (yy_push (s := s.length) rfl (by omega) (br_f (by decide) (br_f (by decide) (br_f (by decide) (br_f (by decide) (br_f (by decide) (br_f (by decide) (br_f (by decide) (br_f (by decide) (br_f (by decide) (br_f (by decide) (h))))))))))))))
theorem yy_pl_2 (H : yH cd ar T p L t o l tk lv yt dp yo ys) (hI : sk_I cd p = true) (hc : cd p = 2) {z y : Int32} {s : List Int32} (hl : l = z :: y :: s) (h : R (tk, tr, ea, nI (s.length + 1), yo, lv, yt, cd, ar, upd ys s.length (sk_w 2 y z), yu, yc, yp, yn, ye)) : wpY_plain R (tk, tr, ea, dp, yo, lv, yt, cd, ar, ys, yu, yc, yp, yn, ye) (nI p) := by
  have h16 := H.2.2.2.1
  have ho16 := H.2.2.2.2.2.2
  have hyo := H.2.2.2.2.2.1
  subst hl
  simp only [List.length_cons] at h16
  have hy : yt_k (cd p) = 2 := by rw [hc]; decide
  refine yy_pl_in H hI (by rw [hy]; simp only [List.length_cons]; omega) (fun z => by rw [hc] at z; exact absurd z (by decide)) (fun _ => ?_)
  rw [hy, hc]
  exact br_f (by decide) (br_t (by decide) (yy_worked (yy_push (s := s.length) rfl (by omega) (br_f (by decide) (br_f (by decide) (br_f (by decide) (br_f (by decide) (br_f (by decide) (br_f (by decide) (br_f (by decide) (br_f (by decide) (br_f (by decide) (br_f (by decide) (h))))))))))))))
theorem yy_pl_3 (H : yH cd ar T p L t o l tk lv yt dp yo ys) (hI : sk_I cd p = true) (hc : cd p = 3) {z y : Int32} {s : List Int32} (hl : l = z :: y :: s) (h : R (tk, tr, ea, nI (s.length + 1), yo, lv, yt, cd, ar, upd ys s.length (sk_w 3 y z), yu, yc, yp, yn, ye)) : wpY_plain R (tk, tr, ea, dp, yo, lv, yt, cd, ar, ys, yu, yc, yp, yn, ye) (nI p) := by
  have h16 := H.2.2.2.1
  have ho16 := H.2.2.2.2.2.2
  have hyo := H.2.2.2.2.2.1
  subst hl
  simp only [List.length_cons] at h16
  have hy : yt_k (cd p) = 2 := by rw [hc]; decide
  refine yy_pl_in H hI (by rw [hy]; simp only [List.length_cons]; omega) (fun z => by rw [hc] at z; exact absurd z (by decide)) (fun _ => ?_)
  rw [hy, hc]
  exact br_f (by decide) (br_t (by decide) (yy_worked (yy_push (s := s.length) rfl (by omega) (br_f (by decide) (br_f (by decide) (br_f (by decide) (br_f (by decide) (br_f (by decide) (br_f (by decide) (br_f (by decide) (br_f (by decide) (br_f (by decide) (br_f (by decide) (h))))))))))))))
theorem yy_pl_4 (H : yH cd ar T p L t o l tk lv yt dp yo ys) (hI : sk_I cd p = true) (hc : cd p = 4) {z y : Int32} {s : List Int32} (hl : l = z :: y :: s) (h : R (tk, tr, ea, nI (s.length + 1), yo, lv, yt, cd, ar, upd ys s.length (sk_w 4 y z), yu, yc, yp, yn, ye)) : wpY_plain R (tk, tr, ea, dp, yo, lv, yt, cd, ar, ys, yu, yc, yp, yn, ye) (nI p) := by
  have h16 := H.2.2.2.1
  have ho16 := H.2.2.2.2.2.2
  have hyo := H.2.2.2.2.2.1
  subst hl
  simp only [List.length_cons] at h16
  have hy : yt_k (cd p) = 2 := by rw [hc]; decide
  refine yy_pl_in H hI (by rw [hy]; simp only [List.length_cons]; omega) (fun z => by rw [hc] at z; exact absurd z (by decide)) (fun _ => ?_)
  rw [hy, hc]
  exact br_f (by decide) (br_t (by decide) (yy_worked (yy_push (s := s.length) rfl (by omega) (br_f (by decide) (br_f (by decide) (br_f (by decide) (br_f (by decide) (br_f (by decide) (br_f (by decide) (br_f (by decide) (br_f (by decide) (br_f (by decide) (br_f (by decide) (h))))))))))))))
theorem yy_pl_10 (H : yH cd ar T p L t o l tk lv yt dp yo ys) (hI : sk_I cd p = true) (hc : cd p = 10) {z y : Int32} {s : List Int32} (hl : l = z :: y :: s) (h : R (tk, tr, ea, nI (s.length + 1), yo, lv, yt, cd, ar, upd ys s.length (sk_w 10 y z), yu, yc, yp, yn, ye)) : wpY_plain R (tk, tr, ea, dp, yo, lv, yt, cd, ar, ys, yu, yc, yp, yn, ye) (nI p) := by
  have h16 := H.2.2.2.1
  have ho16 := H.2.2.2.2.2.2
  have hyo := H.2.2.2.2.2.1
  subst hl
  simp only [List.length_cons] at h16
  have hy : yt_k (cd p) = 2 := by rw [hc]; decide
  refine yy_pl_in H hI (by rw [hy]; simp only [List.length_cons]; omega) (fun z => by rw [hc] at z; exact absurd z (by decide)) (fun _ => ?_)
  rw [hy, hc]
  exact br_f (by decide) (br_f (by decide) (br_t rfl (yy_worked (yy_push (s := s.length) rfl (by omega) (br_f (by decide) (br_f (by decide) (br_f (by decide) (br_f (by decide) (br_f (by decide) (br_f (by decide) (br_f (by decide) (br_f (by decide) (br_f (by decide) (br_f (by decide) (h)))))))))))))))
theorem yy_pl_11 (H : yH cd ar T p L t o l tk lv yt dp yo ys) (hI : sk_I cd p = true) (hc : cd p = 11) {z y : Int32} {s : List Int32} (hl : l = z :: y :: s) (h : R (tk, tr, ea, nI (s.length + 1), yo, lv, yt, cd, ar, upd ys s.length (sk_w 11 y z), yu, yc, yp, yn, ye)) : wpY_plain R (tk, tr, ea, dp, yo, lv, yt, cd, ar, ys, yu, yc, yp, yn, ye) (nI p) := by
  have h16 := H.2.2.2.1
  have ho16 := H.2.2.2.2.2.2
  have hyo := H.2.2.2.2.2.1
  subst hl
  simp only [List.length_cons] at h16
  have hy : yt_k (cd p) = 2 := by rw [hc]; decide
  refine yy_pl_in H hI (by rw [hy]; simp only [List.length_cons]; omega) (fun z => by rw [hc] at z; exact absurd z (by decide)) (fun _ => ?_)
  rw [hy, hc]
  exact br_f (by decide) (br_f (by decide) (br_f (by decide) (br_t rfl (yy_worked (yy_push (s := s.length) rfl (by omega) (br_f (by decide) (br_f (by decide) (br_f (by decide) (br_f (by decide) (br_f (by decide) (br_f (by decide) (br_f (by decide) (br_f (by decide) (br_f (by decide) (br_f (by decide) (h))))))))))))))))
theorem yy_pl_5 (H : yH cd ar T p L t o l tk lv yt dp yo ys) (hI : sk_I cd p = true) (hc : cd p = 5) {z : Int32} {s : List Int32} (hl : l = z :: s) (h15 : l.length < 16) (h : R (tk, tr, ea, nI (s.length + 2), yo, lv, yt, cd, ar, upd (upd ys s.length z) (s.length + 1) z, yu, yc, yp, yn, ye)) : wpY_plain R (tk, tr, ea, dp, yo, lv, yt, cd, ar, ys, yu, yc, yp, yn, ye) (nI p) := by
  have h16 := H.2.2.2.1
  have ho16 := H.2.2.2.2.2.2
  have hyo := H.2.2.2.2.2.1
  subst hl
  simp only [List.length_cons] at h16
  have hy : yt_k (cd p) = 1 := by rw [hc]; decide
  refine yy_pl_in H hI (by rw [hy]; simp only [List.length_cons]; omega) (fun z => by rw [hc] at z; exact absurd z (by decide)) (fun _ => ?_)
  rw [hy, hc]
  simp only [List.length_cons] at h15
  exact br_f (by decide) (br_f (by decide) (br_f (by decide) (br_f (by decide) (br_t rfl (yy_push (s := s.length) rfl (by omega) (br_t rfl (yy_push (s := s.length + 1) rfl (by omega) (br_f (by decide) (br_f (by decide) (br_f (by decide) (br_f (by decide) (br_f (by decide) (br_f (by decide) (br_f (by decide) (h)))))))))))))))
theorem yy_pl_6 (H : yH cd ar T p L t o l tk lv yt dp yo ys) (hI : sk_I cd p = true) (hc : cd p = 6) {z : Int32} {s : List Int32} (hl : l = z :: s) (h : R (tk, tr, ea, nI s.length, yo, lv, yt, cd, ar, ys, yu, yc, yp, yn, ye)) : wpY_plain R (tk, tr, ea, dp, yo, lv, yt, cd, ar, ys, yu, yc, yp, yn, ye) (nI p) := by
  have h16 := H.2.2.2.1
  have ho16 := H.2.2.2.2.2.2
  have hyo := H.2.2.2.2.2.1
  subst hl
  simp only [List.length_cons] at h16
  have hy : yt_k (cd p) = 1 := by rw [hc]; decide
  refine yy_pl_in H hI (by rw [hy]; simp only [List.length_cons]; omega) (fun z => by rw [hc] at z; exact absurd z (by decide)) (fun _ => ?_)
  rw [hy, hc]
  exact br_f (by decide) (br_f (by decide) (br_f (by decide) (br_f (by decide) (br_f (by decide) (br_f (by decide) (br_f (by decide) (br_f (by decide) (br_f (by decide) (br_f (by decide) (br_f (by decide) (br_f (by decide) (br_f (by decide) (br_f (by decide) (h))))))))))))))
theorem yy_pl_7 (H : yH cd ar T p L t o l tk lv yt dp yo ys) (hI : sk_I cd p = true) (hc : cd p = 7) {z y : Int32} {s : List Int32} (hl : l = z :: y :: s) (h : R (tk, tr, ea, nI (s.length + 2), yo, lv, yt, cd, ar, upd (upd ys s.length z) (s.length + 1) y, yu, yc, yp, yn, ye)) : wpY_plain R (tk, tr, ea, dp, yo, lv, yt, cd, ar, ys, yu, yc, yp, yn, ye) (nI p) := by
  have h16 := H.2.2.2.1
  have ho16 := H.2.2.2.2.2.2
  have hyo := H.2.2.2.2.2.1
  subst hl
  simp only [List.length_cons] at h16
  have hy : yt_k (cd p) = 2 := by rw [hc]; decide
  refine yy_pl_in H hI (by rw [hy]; simp only [List.length_cons]; omega) (fun z => by rw [hc] at z; exact absurd z (by decide)) (fun _ => ?_)
  rw [hy, hc]
  exact br_f (by decide) (br_f (by decide) (br_f (by decide) (br_f (by decide) (br_f (by decide) (br_t rfl (yy_push (s := s.length) rfl (by omega) (br_f (by decide) (br_f (by decide) (br_t rfl (yy_push (s := s.length + 1) rfl (by omega) (br_f (by decide) (br_f (by decide) (br_f (by decide) (br_f (by decide) (h)))))))))))))))
theorem yy_pl_8 (H : yH cd ar T p L t o l tk lv yt dp yo ys) (hI : sk_I cd p = true) (hc : cd p = 8) {z y : Int32} {s : List Int32} (hl : l = z :: y :: s) (h15 : l.length < 16) (h : R (tk, tr, ea, nI (s.length + 3), yo, lv, yt, cd, ar, upd (upd (upd ys s.length y) (s.length + 1) z) (s.length + 2) y, yu, yc, yp, yn, ye)) : wpY_plain R (tk, tr, ea, dp, yo, lv, yt, cd, ar, ys, yu, yc, yp, yn, ye) (nI p) := by
  have h16 := H.2.2.2.1
  have ho16 := H.2.2.2.2.2.2
  have hyo := H.2.2.2.2.2.1
  subst hl
  simp only [List.length_cons] at h16
  have hy : yt_k (cd p) = 2 := by rw [hc]; decide
  refine yy_pl_in H hI (by rw [hy]; simp only [List.length_cons]; omega) (fun z => by rw [hc] at z; exact absurd z (by decide)) (fun _ => ?_)
  rw [hy, hc]
  simp only [List.length_cons] at h15
  exact br_f (by decide) (br_f (by decide) (br_f (by decide) (br_f (by decide) (br_f (by decide) (br_f (by decide) (br_f (by decide) (br_t rfl (yy_push (s := s.length) rfl (by omega) (yy_push (s := s.length + 1) rfl (by omega) (br_f (by decide) (br_t rfl (yy_push (s := s.length + 2) rfl (by omega) (br_f (by decide) (br_f (by decide) (br_f (by decide) (br_f (by decide) (h)))))))))))))))))
theorem yy_pl_9 (H : yH cd ar T p L t o l tk lv yt dp yo ys) (hI : sk_I cd p = true) (hc : cd p = 9) {z y x : Int32} {s : List Int32} (hl : l = z :: y :: x :: s) (h : R (tk, tr, ea, nI (s.length + 3), yo, lv, yt, cd, ar, upd (upd (upd ys s.length y) (s.length + 1) z) (s.length + 2) x, yu, yc, yp, yn, ye)) : wpY_plain R (tk, tr, ea, dp, yo, lv, yt, cd, ar, ys, yu, yc, yp, yn, ye) (nI p) := by
  have h16 := H.2.2.2.1
  have ho16 := H.2.2.2.2.2.2
  have hyo := H.2.2.2.2.2.1
  subst hl
  simp only [List.length_cons] at h16
  have hy : yt_k (cd p) = 3 := by rw [hc]; decide
  refine yy_pl_in H hI (by rw [hy]; simp only [List.length_cons]; omega) (fun z => by rw [hc] at z; exact absurd z (by decide)) (fun _ => ?_)
  rw [hy, hc]
  exact br_f (by decide) (br_f (by decide) (br_f (by decide) (br_f (by decide) (br_f (by decide) (br_f (by decide) (br_f (by decide) (br_f (by decide) (br_f (by decide) (br_f (by decide) (br_t rfl (yy_push (s := s.length) rfl (by omega) (yy_push (s := s.length + 1) rfl (by omega) (yy_push (s := s.length + 2) rfl (by omega) (br_f (by decide) (br_f (by decide) (br_f (by decide) (h)))))))))))))))))
theorem yy_pl_12 (H : yH cd ar T p L t o l tk lv yt dp yo ys) (hI : sk_I cd p = true) (hc : cd p = 12) {b : Nat} {s : List Int32} (hl : l = nI b :: s) (hb : b < 12) (h : R (tk, tr, ea, nI (s.length + 1), yo, lv, yt, cd, ar, upd ys s.length (yc b), yu, yc, yp, yn, ye)) : wpY_plain R (tk, tr, ea, dp, yo, lv, yt, cd, ar, ys, yu, yc, yp, yn, ye) (nI p) := by
  have h16 := H.2.2.2.1
  have ho16 := H.2.2.2.2.2.2
  have hyo := H.2.2.2.2.2.1
  subst hl
  simp only [List.length_cons] at h16
  have hy : yt_k (cd p) = 1 := by rw [hc]; decide
  refine yy_pl_in H hI (by rw [hy]; simp only [List.length_cons]; omega) (fun z => by rw [hc] at z; exact absurd z (by decide)) (fun _ => ?_)
  rw [hy, hc]
  have hcl : (nI b).toNatClampNeg = b := nI_clamp (by omega)
  have h' : R (tk, tr, ea, nI (s.length + 1), yo, lv, yt, cd, ar, upd ys s.length (yc (nI b).toNatClampNeg), yu, yc, yp, yn, ye) := by rw [hcl]; exact h
  exact br_f (by decide) (br_f (by decide) (br_f (by decide) (br_f (by decide) (br_f (by decide) (br_f (by decide) (br_f (by decide) (br_f (by decide) (br_f (by decide) (br_f (by decide) (br_f (by decide) (br_t rfl (br_f (show ¬ nI b < 0 from nI_pos (by omega)) (br_f (show ¬ (12 : Int32) ≤ nI b from nI_ge (b := 12) hb (by decide)) (And.intro (show vp_in (nI b) 12 from vp_in_nI hb (by decide)) (yy_push (s := s.length) rfl (by omega) (br_f (by decide) (br_f (by decide) (h'))))))))))))))))))
theorem yy_pl_13 (H : yH cd ar T p L t o l tk lv yt dp yo ys) (hI : sk_I cd p = true) (hc : cd p = 13) {b : Nat} {y : Int32} {s : List Int32} (hl : l = nI b :: y :: s) (hb : b < 12) (h : R (tk, tr, ea, nI s.length, yo, lv, yt, cd, ar, ys, yu, upd yc b y, yp, yn, ye)) : wpY_plain R (tk, tr, ea, dp, yo, lv, yt, cd, ar, ys, yu, yc, yp, yn, ye) (nI p) := by
  have h16 := H.2.2.2.1
  have ho16 := H.2.2.2.2.2.2
  have hyo := H.2.2.2.2.2.1
  subst hl
  simp only [List.length_cons] at h16
  have hy : yt_k (cd p) = 2 := by rw [hc]; decide
  refine yy_pl_in H hI (by rw [hy]; simp only [List.length_cons]; omega) (fun z => by rw [hc] at z; exact absurd z (by decide)) (fun _ => ?_)
  rw [hy, hc]
  have hcl : (nI b).toNatClampNeg = b := nI_clamp (by omega)
  have h' : R (tk, tr, ea, nI s.length, yo, lv, yt, cd, ar, ys, yu, upd yc (nI b).toNatClampNeg y, yp, yn, ye) := by rw [hcl]; exact h
  exact br_f (by decide) (br_f (by decide) (br_f (by decide) (br_f (by decide) (br_f (by decide) (br_f (by decide) (br_f (by decide) (br_f (by decide) (br_f (by decide) (br_f (by decide) (br_f (by decide) (br_f (by decide) (br_t rfl (br_f (show ¬ nI b < 0 from nI_pos (by omega)) (br_f (show ¬ (12 : Int32) ≤ nI b from nI_ge (b := 12) hb (by decide)) (And.intro (show vp_in (nI b) 12 from vp_in_nI hb (by decide)) (nm_e (br_f (by decide) (h'))))))))))))))))))
theorem yy_pl_14 (H : yH cd ar T p L t o l tk lv yt dp yo ys) (hI : sk_I cd p = true) (hc : cd p = 14) {z : Int32} {s : List Int32} (hl : l = z :: s) (ho : o < 16) (h : R (tk, tr, ea, nI s.length, nI (o + 1), lv, yt, cd, ar, ys, upd yu o z, yc, yp, yn, ye)) : wpY_plain R (tk, tr, ea, dp, yo, lv, yt, cd, ar, ys, yu, yc, yp, yn, ye) (nI p) := by
  have h16 := H.2.2.2.1
  have ho16 := H.2.2.2.2.2.2
  have hyo := H.2.2.2.2.2.1
  subst hl
  simp only [List.length_cons] at h16
  have hy : yt_k (cd p) = 1 := by rw [hc]; decide
  refine yy_pl_in H hI (by rw [hy]; simp only [List.length_cons]; omega) (fun z => by rw [hc] at z; exact absurd z (by decide)) (fun _ => ?_)
  rw [hy, hc]
  subst hyo
  have hcl : (nI o).toNatClampNeg = o := nI_clamp (by omega)
  have h' : R (tk, tr, ea, nI s.length, nI (o + 1), lv, yt, cd, ar, ys, upd yu (nI o).toNatClampNeg z, yc, yp, yn, ye) := by rw [hcl]; exact h
  exact br_f (by decide) (br_f (by decide) (br_f (by decide) (br_f (by decide) (br_f (by decide) (br_f (by decide) (br_f (by decide) (br_f (by decide) (br_f (by decide) (br_f (by decide) (br_f (by decide) (br_f (by decide) (br_f (by decide) (br_t rfl (br_f (show ¬ (16 : Int32) ≤ nI o from nI_ge (b := 16) ho (by decide)) (And.intro (show vp_in (nI o) 16 from vp_in_nI ho (by decide)) (nm_e (nm_r (nI_1 o) h')))))))))))))))))
end
end
section
/-! one step of Y's run -/
def yB (b : Nat) (post : Int32 → SY → Prop) (v : SY) : Prop := match v with
  | (tk, tr, ea, dp, yo, lv, yt, cd, ar, ys, yu, yc, yp, yn, ye) => ∀ n x : Nat, b < n → x + b < 128640 → wY_run_71 post n (nI x) tk tr ea dp yo lv yt cd ar ys yu yc yp yn ye
theorem sk_rm {g : Nat → Nat} {cd : Nat → Int32} {n : Nat} (h : 0 < n) : sk_r g cd (-1) n = nI (g (n - 1)) := by
  obtain ⟨m, rfl⟩ : ∃ m, n = m + 1 := ⟨n - 1, by omega⟩
  rw [sk_r, if_pos (Or.inl (by decide)), Nat.add_sub_cancel]
section
variable {tk tr ea dp yo lv yt : Int32} {cd ar ys yu yc yp yn ye : Nat → Int32} {T p L t o b : Nat} {l : List Int32} {post : Int32 → SY → Prop}
theorem yB_mono {b' : Nat} (h : yB b post (tk, tr, ea, dp, yo, lv, yt, cd, ar, ys, yu, yc, yp, yn, ye)) (hb : b ≤ b') : yB b' post (tk, tr, ea, dp, yo, lv, yt, cd, ar, ys, yu, yc, yp, yn, ye) := fun n x h1 h2 => h n x (by omega) (by omega)
theorem yy_step {v' : SY} (H : yH cd ar T p L t o l tk lv yt dp yo ys) (hpo : yp L = nI p) (ho : ∀ P : Int32 → Prop, P 0 → wpY_obstacle P (tk, tr, ea, dp, yo, lv, yt, cd, ar, ys, yu, yc, yp, yn, ye) (nI p))
    (hco : ∀ Q : SY → Prop, Q v' → wpY_carryOut Q (tk, tr, ea, dp, yo, lv, yt, cd, ar, ys, yu, yc, yp, yn, ye) (nI p)) (h : yB b post v') : yB (b + 1) post (tk, tr, ea, dp, yo, lv, yt, cd, ar, ys, yu, yc, yp, yn, ye) := by
  obtain ⟨⟨a1, a2, a3, a4, a5⟩, ⟨b1, b2, b3, b4⟩, ⟨c1, c2, c3, c4, c5⟩⟩ := H
  intro n x hn hx
  obtain ⟨m, rfl⟩ : ∃ m, n = m + 1 := ⟨n - 1, by omega⟩
  subst b1
  refine br_f (nI_ge (b := 128640) (by omega) (by decide)) (br_f (nI_pos (by omega)) (And.intro (vp_in_nI b2 (by decide)) (nm_r (e' := nI p) (by rw [nI_clamp (by omega)]; exact hpo) (ho _ (br_t rfl (hco _ ?_))))))
  obtain ⟨w1, w2, w3, w4, w5, w6, w7, w8, w9, w10, w11, w12, w13, w14, w15⟩ := v'
  exact nm_r (nI_1 x) (h m (x + 1) (by omega) (by omega))
theorem yy_stop {r : Int32} (H : yH cd ar T p L t o l tk lv yt dp yo ys) (hpo : yp L = nI p) (hr : ¬ r = 0) (ho : ∀ P : Int32 → Prop, P r → wpY_obstacle P (tk, tr, ea, dp, yo, lv, yt, cd, ar, ys, yu, yc, yp, yn, ye) (nI p)) (h : post r (tk, tr, ea, dp, yo, lv, yt, cd, ar, ys, yu, yc, yp, yn, ye)) : yB 0 post (tk, tr, ea, dp, yo, lv, yt, cd, ar, ys, yu, yc, yp, yn, ye) := by
  obtain ⟨⟨a1, a2, a3, a4, a5⟩, ⟨b1, b2, b3, b4⟩, ⟨c1, c2, c3, c4, c5⟩⟩ := H
  intro n x hn hx
  obtain ⟨m, rfl⟩ : ∃ m, n = m + 1 := ⟨n - 1, by omega⟩
  subst b1
  exact br_f (nI_ge (b := 128640) (by omega) (by decide)) (br_f (nI_pos (by omega)) (And.intro (vp_in_nI b2 (by decide)) (nm_r (e' := nI p) (by rw [nI_clamp (by omega)]; exact hpo) (ho _ (br_f hr h)))))
theorem yy_fin (hlv : lv = -1) (h : post 0 (tk, tr, ea, dp, yo, lv, yt, cd, ar, ys, yu, yc, yp, yn, ye)) : yB 0 post (tk, tr, ea, dp, yo, lv, yt, cd, ar, ys, yu, yc, yp, yn, ye) := by
  intro n x hn hx
  obtain ⟨m, rfl⟩ : ∃ m, n = m + 1 := ⟨n - 1, by omega⟩
  subst hlv
  exact br_f (nI_ge (b := 128640) (by omega) (by decide)) (br_t (by decide) h)
variable {Q : SY → Prop}
theorem yy_co_pl {dp' yo' : Int32} {ys' yu' yc' : Nat → Int32} (H : yH cd ar T p L t o l tk lv yt dp yo ys) (hc : sk_pl (cd p))
    (hpl : ∀ R : SY → Prop, R (tk, tr, ea, dp', yo', lv, yt, cd, ar, ys', yu', yc', yp, yn, ye) → wpY_plain R (tk, tr, ea, dp, yo, lv, yt, cd, ar, ys, yu, yc, yp, yn, ye) (nI p)) (h : Q (tk, tr, ea, dp', yo', lv, yt, cd, ar, ys', yu', yc', upd yp L (nI (p + 1)), yn, ye)) : wpY_carryOut Q (tk, tr, ea, dp, yo, lv, yt, cd, ar, ys, yu, yc, yp, yn, ye) (nI p) := by
  obtain ⟨⟨a1, a2, a3, a4, a5⟩, ⟨b1, b2, b3, b4⟩, ⟨c1, c2, c3, c4, c5⟩⟩ := H
  obtain ⟨n15, n26, n27, _⟩ := sk_pl_n hc
  have n25 : ¬ cd p = 25 := fun z => by have := hc.2; rw [z] at this; exact absurd this (by decide)
  have l16 : cd p < 16 := Int32.lt_of_le_of_lt hc.2 (by decide)
  subst b1
  refine And.intro (vp_in_nI (by omega) (by decide)) (nm_r (congrArg cd (sk_cl (by omega))) (br_f n27 (yy_calls a1 a2 a3 (fun _ => ?_) (fun z => absurd z n15) a5)))
  refine br_t rfl (br_f n15 (br_f n25 (br_t l16 (hpl _ ?_))))
  exact And.intro (vp_in_nI b2 (by decide)) (nm_r (e' := upd yp L (nI (p + 1))) (by rw [nI_clamp (by omega), nI_1]) h)
theorem yy_co_27 (H : yH cd ar T p L t o l tk lv yt dp yo ys) (hc : cd p = 27) (h : Q (tk, tr, ea, dp, yo, nI L - 1, yt, cd, ar, ys, yu, yc, yp, yn, ye)) : wpY_carryOut Q (tk, tr, ea, dp, yo, lv, yt, cd, ar, ys, yu, yc, yp, yn, ye) (nI p) := by
  obtain ⟨⟨a1, a2, a3, a4, a5⟩, ⟨b1, b2, b3, b4⟩, ⟨c1, c2, c3, c4, c5⟩⟩ := H
  subst b1
  exact And.intro (vp_in_nI (by omega) (by decide)) (nm_r (congrArg cd (sk_cl (by omega))) (br_t hc (nm_e h)))
theorem yy_co_var (H : yH cd ar T p L t o l tk lv yt dp yo ys) (hc : cd p = 15) {d : Nat} (hd : sk_f cd ar (ar p) T = some d) (h28 : cd d = 28) (h16 : l.length < 16)
    (h : Q (tk, tr, ea, nI (l.length + 1), yo, lv, yt, cd, ar, upd ys l.length (nI (sk_v cd d)), yu, yc, upd yp L (nI (p + 1)), yn, ye)) : wpY_carryOut Q (tk, tr, ea, dp, yo, lv, yt, cd, ar, ys, yu, yc, yp, yn, ye) (nI p) := by
  obtain ⟨⟨a1, a2, a3, a4, a5⟩, ⟨b1, b2, b3, b4⟩, ⟨c1, c2, c3, c4, c5⟩⟩ := H
  have hin : vp_in (nI p) 80 := vp_in_nI (by omega) (by decide)
  have hd1 := (sk_f_some T hd).1
  subst b1
  refine And.intro hin (nm_r (congrArg cd (sk_cl (by omega))) (br_f (by rw [hc]; decide) (yy_calls a1 a2 a3 (fun z => absurd hc z) (fun _ d' hd' => ?_) a5)))
  rw [hd] at hd'
  cases hd'
  rw [if_neg (by rw [h28]; decide)]
  refine br_t rfl (br_t hc (And.intro hin ?_))
  rw [sk_cl (by omega)]
  subst a1
  refine yy_def a2 ?_
  rw [hd]
  refine yy_vars (b := d) (by omega) (yy_push c1 h16 ?_)
  exact And.intro (vp_in_nI b2 (by decide)) (nm_r (e' := upd yp L (nI (p + 1))) (by rw [nI_clamp (by omega), nI_1]) h)
theorem yy_co_word (H : yH cd ar T p L t o l tk lv yt dp yo ys) (hc : cd p = 15) {d : Nat} (hd : sk_f cd ar (ar p) T = some d) (h26 : cd d = 26) (h7 : L < 7)
    (h : Q (tk, tr, ea, dp, yo, nI (L + 1), nI (t + 1), cd, ar, ys, yu, yc, upd (upd yp L (nI (p + 1))) (L + 1) (nI (d + 1)), yn, ye)) : wpY_carryOut Q (tk, tr, ea, dp, yo, lv, yt, cd, ar, ys, yu, yc, yp, yn, ye) (nI p) := by
  obtain ⟨⟨a1, a2, a3, a4, a5⟩, ⟨b1, b2, b3, b4⟩, ⟨c1, c2, c3, c4, c5⟩⟩ := H
  have hin : vp_in (nI p) 80 := vp_in_nI (by omega) (by decide)
  have hd1 := (sk_f_some T hd).1
  subst b1 b3
  refine And.intro hin (nm_r (congrArg cd (sk_cl (by omega))) (br_f (by rw [hc]; decide) (yy_calls a1 a2 a3 (fun z => absurd hc z) (fun _ d' hd' => ?_) a5)))
  rw [hd] at hd'
  cases hd'
  rw [if_pos h26]
  refine br_f (by decide) (nm_r (nI_1 t) (And.intro (vp_in_nI b2 (by decide)) (nm_r (e' := upd yp L (nI (p + 1))) (by rw [nI_clamp (by omega), nI_1]) (nm_r (nI_1 L) (And.intro hin ?_)))))
  rw [sk_cl (n := p) (by omega)]
  subst a1
  refine yy_def a2 ?_
  rw [hd]
  exact And.intro (vp_in_nI (by omega) (by decide)) (nm_r (e' := upd (upd yp L (nI (p + 1))) (L + 1) (nI (d + 1))) (by rw [nI_clamp (by omega)]; show upd _ _ (nI d + 1) = _; rw [nI_1]) h)
theorem yy_co_25 (H : yH cd ar T p L t o l tk lv yt dp yo ys) (hc : cd p = 25) {j : Nat} (hj : sk_t (fun j => cd (sk_Q cd p j)) (sk_H cd p) = some j) (h16 : l.length < 16)
    (h : Q (tk, tr, ea, nI (l.length + 1), yo, lv, yt, cd, ar, upd ys l.length (yn (80 * L + sk_Q cd p j)), yu, yc, upd yp L (nI (p + 1)), yn, ye)) : wpY_carryOut Q (tk, tr, ea, dp, yo, lv, yt, cd, ar, ys, yu, yc, yp, yn, ye) (nI p) := by
  obtain ⟨⟨a1, a2, a3, a4, a5⟩, ⟨b1, b2, b3, b4⟩, ⟨c1, c2, c3, c4, c5⟩⟩ := H
  have hin : vp_in (nI p) 80 := vp_in_nI (by omega) (by decide)
  have hq := (sk_nest (cd := cd) p j (sk_t_some _ hj).1).1
  subst b1
  refine And.intro hin (nm_r (congrArg cd (sk_cl (by omega))) (br_f (by rw [hc]; decide) (yy_calls a1 a2 a3 (fun _ => ?_) (fun z => by rw [hc] at z; exact absurd z (by decide)) a5)))
  refine br_t rfl (br_f (by rw [hc]; decide) (br_t hc (yy_around (sk_V_le a4 (by omega)) (by omega) ?_)))
  have hr : sk_r (sk_Q cd p) cd 23 (sk_H cd p) = nI (sk_Q cd p j) := by rw [sk_r23, hj]
  have hix : 80 * nI L + nI (sk_Q cd p j) = nI (80 * L + sk_Q cd p j) := by rw [show (80 : Int32) * nI L = nI (80 * L) from pk_mul 80 L, nI_add]
  rw [hr]
  refine br_t (nI_pos' (by omega)) ?_
  rw [hix, nI_clamp (show 80 * L + sk_Q cd p j < 2 ^ 31 by omega)]
  refine And.intro (vp_in_nI (by omega) (by decide)) (yy_push c1 h16 ?_)
  exact And.intro (vp_in_nI b2 (by decide)) (nm_r (e' := upd yp L (nI (p + 1))) (by rw [nI_clamp (by omega), nI_1]) h)
theorem yy_co_led {yt' : Int32} {yn' ye' : Nat → Int32} {p' : Nat} (H : yH cd ar T p L t o l tk lv yt dp yo ys) (hI : sk_I cd p = true) (hc : ¬ cd p < 16) (n27 : ¬ cd p = 27) (n25 : ¬ cd p = 25) (hle : yt_k (cd p) ≤ l.length)
    (hled : ∀ R : Int32 → SY → Prop, R (nI p') (tk, tr, ea, dp, yo, lv, yt', cd, ar, ys, yu, yc, yp, yn', ye') → wpY_led R (tk, tr, ea, dp, yo, lv, yt, cd, ar, ys, yu, yc, yp, yn, ye) (nI p))
    (h : Q (tk, tr, ea, nI (l.length - yt_k (cd p)), yo, lv, yt', cd, ar, ys, yu, yc, upd yp L (nI p'), yn', ye')) : wpY_carryOut Q (tk, tr, ea, dp, yo, lv, yt, cd, ar, ys, yu, yc, yp, yn, ye) (nI p) := by
  obtain ⟨⟨a1, a2, a3, a4, a5⟩, ⟨b1, b2, b3, b4⟩, ⟨c1, c2, c3, c4, c5⟩⟩ := H
  obtain ⟨⟨k0, k27, k26⟩, _⟩ := (a4 p a3).2 hI
  obtain ⟨k, hk, hck⟩ := sk_k27 k0 k27
  have hb : yt_k (cd p) ≤ 3 := by rw [yt_k]; split; omega; split; omega; split <;> omega
  have n15 : ¬ cd p = 15 := fun z => hc (by rw [z]; decide)
  subst b1
  refine And.intro (vp_in_nI (by omega) (by decide)) (nm_r (congrArg cd (sk_cl (by omega))) (br_f n27 (yy_calls a1 a2 a3 (fun _ => ?_) (fun z => absurd z n15) a5)))
  refine br_t rfl (br_f n15 (br_f n25 (br_f hc (hled _ ?_))))
  show wpY_takes _ (cd p)
  rw [hck]
  refine yy_takes hk ?_
  rw [← hck]
  refine yy_drop c1 hb hle c2 ?_
  exact And.intro (vp_in_nI b2 (by decide)) (nm_r (e' := upd yp L (nI p')) (by rw [nI_clamp (by omega)]) h)
end
end
section
/-! where Y's branches and loops lead -/
section
variable {tk tr ea dp yo lv yt : Int32} {cd ar ys yu yc yp yn ye : Nat → Int32} {T p L t o : Nat} {l : List Int32} {R : Int32 → SY → Prop}
theorem yy_led_in (H : yH cd ar T p L t o l tk lv yt dp yo ys) (h16 : cd p = 16 → st_g l 0 = 0 → wpY_behind (fun r => R (r + 1) (tk, tr, ea, dp, yo, lv, yt, cd, ar, ys, yu, yc, yp, yn, ye)) (tk, tr, ea, dp, yo, lv, yt, cd, ar, ys, yu, yc, yp, yn, ye) (nI p) 1)
    (h : ¬ (cd p = 16 ∧ st_g l 0 = 0) → wY_led_41 R (nI p) (cd p) (st_g l 0) (nI (80 * L)) tk tr ea dp yo lv yt cd ar ys yu yc yp yn ye) : wpY_led R (tk, tr, ea, dp, yo, lv, yt, cd, ar, ys, yu, yc, yp, yn, ye) (nI p) := by
  obtain ⟨⟨a1, a2, a3, a4, a5⟩, ⟨b1, b2, b3, b4⟩, ⟨c1, c2, c3, c4, c5⟩⟩ := H
  refine And.intro (vp_in_nI (by omega) (by decide)) (nm_r (congrArg cd (sk_cl (by omega))) (yy_top (k := 0) c1 c2 c3 (by omega) (nm_r (e' := nI (80 * L)) (by rw [b1]; exact pk_mul 80 L) ?_)))
  exact br_c (fun c => br_c (fun z => h16 c z) (fun z => h (fun y => z y.2))) (fun c => h (fun y => c y.1))
theorem yy_led_n (H : yH cd ar T p L t o l tk lv yt dp yo ys) (hc : ((cd p = 16 ∨ cd p = 20 ∨ cd p = 21) ∧ ¬ st_g l 0 = 0) ∨ cd p = 18 ∨ cd p = 19) (h : R (nI (p + 1)) (tk, tr, ea, dp, yo, lv, yt, cd, ar, ys, yu, yc, yp, yn, ye)) : wpY_led R (tk, tr, ea, dp, yo, lv, yt, cd, ar, ys, yu, yc, yp, yn, ye) (nI p) := by
  have h' : R (nI p + 1) (tk, tr, ea, dp, yo, lv, yt, cd, ar, ys, yu, yc, yp, yn, ye) := by rw [nI_1]; exact h
  rcases hc with ⟨c | c | c, hx⟩ | c | c
  · refine yy_led_in H (fun _ z => absurd z hx) (fun _ => ?_)
    rw [c]
    exact br_f (by decide) (br_f (by decide) (br_f (by decide) (br_f (by decide) (br_f (by decide) (br_f (by decide) h')))))
  · refine yy_led_in H (fun _ z => absurd z hx) (fun _ => ?_)
    rw [c]
    exact br_f (by decide) (br_f (by decide) (br_t rfl (br_f hx (br_f (by decide) (br_f (by decide) (br_f (by decide) h'))))))
  · refine yy_led_in H (fun _ z => absurd z hx) (fun _ => ?_)
    rw [c]
    exact br_f (by decide) (br_t rfl (br_f hx (br_f (by decide) (br_f (by decide) (br_f (by decide) (br_f (by decide) h'))))))
  · refine yy_led_in H (fun z => by rw [c] at z; exact absurd z (by decide)) (fun _ => ?_)
    rw [c]
    exact br_f (by decide) (br_f (by decide) (br_f (by decide) (br_f (by decide) (br_f (by decide) (br_f (by decide) h')))))
  · refine yy_led_in H (fun z => by rw [c] at z; exact absurd z (by decide)) (fun _ => ?_)
    rw [c]
    exact br_f (by decide) (br_f (by decide) (br_f (by decide) (br_f (by decide) (br_f (by decide) (br_f (by decide) h')))))
theorem yy_led_16 {r : Nat} (H : yH cd ar T p L t o l tk lv yt dp yo ys) (hc : cd p = 16) (hx : st_g l 0 = 0) (hr : r < T) (hB : sk_B cd 1 p r) (h : R (nI (r + 1)) (tk, tr, ea, dp, yo, lv, yt, cd, ar, ys, yu, yc, yp, yn, ye)) : wpY_led R (tk, tr, ea, dp, yo, lv, yt, cd, ar, ys, yu, yc, yp, yn, ye) (nI p) := by
  refine yy_led_in H (fun _ _ => yy_behind H.1.1 H.1.2.1 hr hB ?_) (fun z => absurd ⟨hc, hx⟩ z)
  rw [nI_1]; exact h
theorem yy_led_17 {r : Nat} (H : yH cd ar T p L t o l tk lv yt dp yo ys) (hc : cd p = 17 ∨ (cd p = 21 ∧ st_g l 0 = 0)) (hr : r < T) (hB : sk_B cd 0 p r) (h : R (nI (r + 1)) (tk, tr, ea, dp, yo, lv, yt, cd, ar, ys, yu, yc, yp, yn, ye)) : wpY_led R (tk, tr, ea, dp, yo, lv, yt, cd, ar, ys, yu, yc, yp, yn, ye) (nI p) := by
  have hb : wpY_behind (fun r => R (r + 1) (tk, tr, ea, dp, yo, lv, yt, cd, ar, ys, yu, yc, yp, yn, ye)) (tk, tr, ea, dp, yo, lv, yt, cd, ar, ys, yu, yc, yp, yn, ye) (nI p) 0 := yy_behind H.1.1 H.1.2.1 hr hB (by rw [nI_1]; exact h)
  rcases hc with c | ⟨c, hx⟩
  · refine yy_led_in H (fun z => by rw [c] at z; exact absurd z (by decide)) (fun _ => ?_)
    exact br_t c hb
  · refine yy_led_in H (fun z => by rw [c] at z; exact absurd z (by decide)) (fun _ => ?_)
    exact br_f (by rw [c]; decide) (br_t c (br_t hx hb))
theorem yy_led_20 (H : yH cd ar T p L t o l tk lv yt dp yo ys) (hc : (cd p = 20 ∧ st_g l 0 = 0) ∨ cd p = 22) (h : R (nI (sk_Q cd p (sk_H cd p - 1) + 1)) (tk, tr, ea, dp, yo, lv, nI (t + 1), cd, ar, ys, yu, yc, yp, yn, ye)) : wpY_led R (tk, tr, ea, dp, yo, lv, yt, cd, ar, ys, yu, yc, yp, yn, ye) (nI p) := by
  obtain ⟨⟨a1, a2, a3, a4, a5⟩, ⟨b1, b2, b3, b4⟩, ⟨c1, c2, c3, c4, c5⟩⟩ := id H
  have hH : 0 < sk_H cd p := sk_VB a4 a3 (Or.inl (by rcases hc with c | c; exact Or.inr (Or.inl c.1); exact Or.inr (Or.inr (Or.inl c))))
  have k91 : wY_led_91 R (nI p) tk tr ea dp yo lv yt cd ar ys yu yc yp yn ye := by
    refine nm_r (e' := nI (t + 1)) (by rw [b3, nI_1]) (yy_around (sk_V_le a4 (by omega)) (by omega) ?_)
    rw [sk_rm hH, nI_1]; exact h
  rcases hc with ⟨c, hx⟩ | c
  · refine yy_led_in H (fun z => by rw [c] at z; exact absurd z (by decide)) (fun _ => ?_)
    exact br_f (by rw [c]; decide) (br_f (by rw [c]; decide) (br_t c (br_t hx k91)))
  · refine yy_led_in H (fun z => by rw [c] at z; exact absurd z (by decide)) (fun _ => ?_)
    exact br_f (by rw [c]; decide) (br_f (by rw [c]; decide) (br_f (by rw [c]; decide) (br_t c k91)))
theorem yy_led_23 {r : Nat} (H : yH cd ar T p L t o l tk lv yt dp yo ys) (hc : cd p = 23) (hr : r < T) (hB : sk_B cd 0 p r)
    (h : R (nI (if 0 < st_g l 0 then p + 1 else r + 1)) (tk, tr, ea, dp, yo, lv, yt, cd, ar, ys, yu, yc, yp, upd yn (80 * L + p) 0, upd ye (80 * L + p) (st_g l 0))) : wpY_led R (tk, tr, ea, dp, yo, lv, yt, cd, ar, ys, yu, yc, yp, yn, ye) (nI p) := by
  obtain ⟨⟨a1, a2, a3, a4, a5⟩, ⟨b1, b2, b3, b4⟩, ⟨c1, c2, c3, c4, c5⟩⟩ := id H
  refine yy_led_in H (fun z => by rw [hc] at z; exact absurd z (by decide)) (fun _ => ?_)
  have hix : nI (80 * L) + nI p = nI (80 * L + p) := nI_add _ _
  have hin : vp_in (nI (80 * L) + nI p) 640 := by rw [hix]; exact vp_in_nI (by omega) (by decide)
  have hcl : (nI (80 * L) + nI p).toNatClampNeg = 80 * L + p := by rw [hix]; exact nI_clamp (by omega)
  refine br_f (by rw [hc]; decide) (br_f (by rw [hc]; decide) (br_f (by rw [hc]; decide) (br_f (by rw [hc]; decide) (br_t hc (And.intro hin (nm_r (e' := upd yn (80 * L + p) 0) (by rw [hcl]) (And.intro hin (nm_r (e' := upd ye (80 * L + p) (st_g l 0)) (by rw [hcl]) (br_c (fun hx => ?_) (fun hx => ?_))))))))))
  · rw [if_pos hx, ← nI_1] at h
    exact br_f (by rw [hc]; decide) h
  · rw [if_neg hx, ← nI_1] at h
    exact yy_behind a1 a2 hr hB h
theorem yy_led_24 {q : Nat} (H : yH cd ar T p L t o l tk lv yt dp yo ys) (hc : cd p = 24) (hq : q = sk_Q cd p (sk_H cd p - 1))
    (h : R (nI (if ye (80 * L + q) ≤ yn (80 * L + q) + 1 then p + 1 else q + 1)) (tk, tr, ea, dp, yo, lv, nI (t + 1), cd, ar, ys, yu, yc, yp, upd yn (80 * L + q) (yn (80 * L + q) + 1), ye)) : wpY_led R (tk, tr, ea, dp, yo, lv, yt, cd, ar, ys, yu, yc, yp, yn, ye) (nI p) := by
  obtain ⟨⟨a1, a2, a3, a4, a5⟩, ⟨b1, b2, b3, b4⟩, ⟨c1, c2, c3, c4, c5⟩⟩ := id H
  have hH : 0 < sk_H cd p := sk_VB a4 a3 (Or.inl (Or.inr (Or.inr (Or.inr hc))))
  have hqp := (sk_nest (cd := cd) p (sk_H cd p - 1) (by omega)).1
  rw [← hq] at hqp
  refine yy_led_in H (fun z => by rw [hc] at z; exact absurd z (by decide)) (fun _ => ?_)
  have hix : nI (80 * L) + nI q = nI (80 * L + q) := nI_add _ _
  have hin : vp_in (nI (80 * L) + nI q) 640 := by rw [hix]; exact vp_in_nI (by omega) (by decide)
  have hcl : (nI (80 * L) + nI q).toNatClampNeg = 80 * L + q := by rw [hix]; exact nI_clamp (by omega)
  refine br_f (by rw [hc]; decide) (br_f (by rw [hc]; decide) (br_f (by rw [hc]; decide) (br_f (by rw [hc]; decide) (br_f (by rw [hc]; decide) (br_t hc (yy_around (sk_V_le a4 (by omega)) (by omega) ?_))))))
  rw [sk_rm hH, ← hq]
  refine nm_r (e' := nI (t + 1)) (by rw [b3, nI_1]) (br_t (nI_pos' (by omega)) (And.intro hin (And.intro hin (nm_r (e' := upd yn (80 * L + q) (yn (80 * L + q) + 1)) (by rw [hcl]) (And.intro hin (And.intro hin ?_))))))
  rw [hcl, pk_us]
  refine br_c (fun z => ?_) (fun z => ?_)
  · rw [if_pos z, ← nI_1] at h; exact h
  · rw [if_neg z, ← nI_1] at h; exact h
end
end
section
/-! one step of X's run; X's plain operations (printed by mk25.py) -/
def xB (b : Nat) (post : Int32 → SX → Prop) (pc : Int32) (u : SX) : Prop := match u with
  | (tk, tr, ep, ln, vs, ii, cn, da, pl, nf, pt, sp, oc, rn, tu, so, cd, ar, op, oa, ob, nk, nv, wt, cf, cc, ps, pa, pe, sk, ou, ce, bk, ct, lm) => ∀ n x : Nat, b < n → x + b < 110000 → wX_run_58 post n pc (nI x) tk tr ep ln vs ii cn da pl nf pt sp oc rn tu so cd ar op oa ob nk nv wt cf cc ps pa pe sk ou ce bk ct lm
section
variable {tk tr ep ln vs ii cn da pl nf pt sp oc rn tu so : Int32} {cd ar op oa ob nk nv wt cf cc ps pa pe sk ou ce bk ct lm : Nat → Int32} {b L : Nat} {post : Int32 → SX → Prop} {pc : Int32}
theorem xB_mono {b' : Nat} (h : xB b post pc (tk, tr, ep, ln, vs, ii, cn, da, pl, nf, pt, sp, oc, rn, tu, so, cd, ar, op, oa, ob, nk, nv, wt, cf, cc, ps, pa, pe, sk, ou, ce, bk, ct, lm)) (hb : b ≤ b') : xB b' post pc (tk, tr, ep, ln, vs, ii, cn, da, pl, nf, pt, sp, oc, rn, tu, so, cd, ar, op, oa, ob, nk, nv, wt, cf, cc, ps, pa, pe, sk, ou, ce, bk, ct, lm) := fun n x h1 h2 => h n x (by omega) (by omega)
theorem xx_step {pc' : Int32} {u' : SX} (hrn : rn = nI (L + 1)) (hL : L < 8) (hso : so = 0) (hpf : ∀ Q : Int32 → SX → Prop, Q pc' u' → wpX_perform Q (tk, tr, ep, ln, vs, ii, cn, da, pl, nf, pt, sp, oc, rn, tu, so, cd, ar, op, oa, ob, nk, nv, wt, cf, cc, ps, pa, pe, sk, ou, ce, bk, ct, lm) pc) (h : xB b post pc' u') : xB (b + 1) post pc (tk, tr, ep, ln, vs, ii, cn, da, pl, nf, pt, sp, oc, rn, tu, so, cd, ar, op, oa, ob, nk, nv, wt, cf, cc, ps, pa, pe, sk, ou, ce, bk, ct, lm) := by
  intro n x hn hx
  obtain ⟨m, rfl⟩ : ∃ m, n = m + 1 := ⟨n - 1, by omega⟩
  refine br_f (nI_ge (b := 110000) (by omega) (by decide)) (br_f (by rw [hrn]; exact nI_nle (by omega) (by omega)) (br_t hso (hpf _ ?_)))
  obtain ⟨w1, w2, w3, w4, w5, w6, w7, w8, w9, w10, w11, w12, w13, w14, w15, w16, w17, w18, w19, w20, w21, w22, w23, w24, w25, w26, w27, w28, w29, w30, w31, w32, w33, w34, w35⟩ := u'
  exact nm_r (nI_1 x) (h m (x + 1) (by omega) (by omega))
theorem xx_halted (hrn : rn = nI (L + 1)) (hL : L < 8) (hso : ¬ so = 0) (h : post so (tk, tr, ep, ln, vs, ii, cn, da, pl, nf, pt, sp, oc, rn, tu, so, cd, ar, op, oa, ob, nk, nv, wt, cf, cc, ps, pa, pe, sk, ou, ce, bk, ct, lm)) : xB 0 post pc (tk, tr, ep, ln, vs, ii, cn, da, pl, nf, pt, sp, oc, rn, tu, so, cd, ar, op, oa, ob, nk, nv, wt, cf, cc, ps, pa, pe, sk, ou, ce, bk, ct, lm) := by
  intro n x hn hx
  obtain ⟨m, rfl⟩ : ∃ m, n = m + 1 := ⟨n - 1, by omega⟩
  exact br_f (nI_ge (b := 110000) (by omega) (by decide)) (br_f (by rw [hrn]; exact nI_nle (by omega) (by omega)) (br_f hso h))
theorem xx_ended (hrn : rn = 0) (h : post so (tk, tr, ep, ln, vs, ii, cn, da, pl, nf, pt, sp, oc, rn, tu, so, cd, ar, op, oa, ob, nk, nv, wt, cf, cc, ps, pa, pe, sk, ou, ce, bk, ct, lm)) : xB 0 post pc (tk, tr, ep, ln, vs, ii, cn, da, pl, nf, pt, sp, oc, rn, tu, so, cd, ar, op, oa, ob, nk, nv, wt, cf, cc, ps, pa, pe, sk, ou, ce, bk, ct, lm) := by
  intro n x hn hx
  obtain ⟨m, rfl⟩ : ∃ m, n = m + 1 := ⟨n - 1, by omega⟩
  exact br_f (nI_ge (b := 110000) (by omega) (by decide)) (br_t (by rw [hrn]; decide) h)
end
theorem xq_16 {n a b : Nat} (h : a ≤ n) (h2 : n - a + b ≤ 16) : nI n - nI a + nI b ≤ 16 := by rw [pk_sub h, nI_add]; exact nI_le (b := 16) h2 (by decide)
theorem xq_n16 {n a b : Nat} (h : a ≤ n) (h2 : 16 < n - a + b) (h3 : n + b < 2 ^ 31) : ¬ nI n - nI a + nI b ≤ 16 := by rw [pk_sub h, nI_add]; exact nI_ge (a := 16) h2 (by omega)
def xg_k (c : Int32) : Nat := if c = 6 ∨ c = 13 ∨ c = 14 then 0 else if c = 5 ∨ c = 7 then 2 else if c = 8 ∨ c = 9 then 3 else 1
theorem xx_takes {post : Int32 → Prop} {k : Nat} (hk : k ≤ 14) (h : post (nI (yt_k (nI k)))) : wpX_takes post (nI k) := by
  have : k = 0 ∨ k = 1 ∨ k = 2 ∨ k = 3 ∨ k = 4 ∨ k = 5 ∨ k = 6 ∨ k = 7 ∨ k = 8 ∨ k = 9 ∨ k = 10 ∨ k = 11 ∨ k = 12 ∨ k = 13 ∨ k = 14 := by omega
  rcases this with e | e | e | e | e | e | e | e | e | e | e | e | e | e | e <;> subst e
  · exact br_t (by decide) (h)
  · exact br_f (by decide) (br_f (by decide) (br_f (by decide) (br_f (by decide) (br_f (by decide) (br_f (by decide) (h))))))
  · exact br_f (by decide) (br_f (by decide) (br_f (by decide) (br_f (by decide) (br_f (by decide) (br_f (by decide) (h))))))
  · exact br_f (by decide) (br_f (by decide) (br_f (by decide) (br_f (by decide) (br_f (by decide) (br_f (by decide) (h))))))
  · exact br_f (by decide) (br_f (by decide) (br_f (by decide) (br_f (by decide) (br_f (by decide) (br_f (by decide) (h))))))
  · exact br_f (by decide) (br_f (by decide) (br_t (by decide) (h)))
  · exact br_f (by decide) (br_f (by decide) (br_f (by decide) (br_t (by decide) (h))))
  · exact br_f (by decide) (br_f (by decide) (br_f (by decide) (br_f (by decide) (br_f (by decide) (br_f (by decide) (h))))))
  · exact br_f (by decide) (br_f (by decide) (br_f (by decide) (br_f (by decide) (br_f (by decide) (br_f (by decide) (h))))))
  · exact br_f (by decide) (br_t (by decide) (h))
  · exact br_f (by decide) (br_f (by decide) (br_f (by decide) (br_f (by decide) (br_f (by decide) (br_f (by decide) (h))))))
  · exact br_f (by decide) (br_f (by decide) (br_f (by decide) (br_f (by decide) (br_f (by decide) (br_f (by decide) (h))))))
  · exact br_f (by decide) (br_f (by decide) (br_f (by decide) (br_f (by decide) (br_t (by decide) (h)))))
  · exact br_f (by decide) (br_f (by decide) (br_f (by decide) (br_f (by decide) (br_f (by decide) (br_f (by decide) (h))))))
  · exact br_f (by decide) (br_f (by decide) (br_f (by decide) (br_f (by decide) (br_f (by decide) (br_t (by decide) (h))))))
theorem xx_gives {post : Int32 → Prop} {k : Nat} (hk : k ≤ 14) (h : post (nI (xg_k (nI k)))) : wpX_gives post (nI k) := by
  have : k = 0 ∨ k = 1 ∨ k = 2 ∨ k = 3 ∨ k = 4 ∨ k = 5 ∨ k = 6 ∨ k = 7 ∨ k = 8 ∨ k = 9 ∨ k = 10 ∨ k = 11 ∨ k = 12 ∨ k = 13 ∨ k = 14 := by omega
  rcases this with e | e | e | e | e | e | e | e | e | e | e | e | e | e | e <;> subst e
  · exact br_f (by decide) (br_f (by decide) (br_f (by decide) (br_f (by decide) (br_f (by decide) (br_f (by decide) (br_f (by decide) (h)))))))
  · exact br_f (by decide) (br_f (by decide) (br_f (by decide) (br_f (by decide) (br_f (by decide) (br_f (by decide) (br_f (by decide) (h)))))))
  · exact br_f (by decide) (br_f (by decide) (br_f (by decide) (br_f (by decide) (br_f (by decide) (br_f (by decide) (br_f (by decide) (h)))))))
  · exact br_f (by decide) (br_f (by decide) (br_f (by decide) (br_f (by decide) (br_f (by decide) (br_f (by decide) (br_f (by decide) (h)))))))
  · exact br_f (by decide) (br_f (by decide) (br_f (by decide) (br_f (by decide) (br_f (by decide) (br_f (by decide) (br_f (by decide) (h)))))))
  · exact br_f (by decide) (br_f (by decide) (br_f (by decide) (br_t (by decide) (h))))
  · exact br_t (by decide) (h)
  · exact br_f (by decide) (br_f (by decide) (br_f (by decide) (br_f (by decide) (br_t (by decide) (h)))))
  · exact br_f (by decide) (br_f (by decide) (br_f (by decide) (br_f (by decide) (br_f (by decide) (br_t (by decide) (h))))))
  · exact br_f (by decide) (br_f (by decide) (br_f (by decide) (br_f (by decide) (br_f (by decide) (br_f (by decide) (br_t (by decide) (h)))))))
  · exact br_f (by decide) (br_f (by decide) (br_f (by decide) (br_f (by decide) (br_f (by decide) (br_f (by decide) (br_f (by decide) (h)))))))
  · exact br_f (by decide) (br_f (by decide) (br_f (by decide) (br_f (by decide) (br_f (by decide) (br_f (by decide) (br_f (by decide) (h)))))))
  · exact br_f (by decide) (br_f (by decide) (br_f (by decide) (br_f (by decide) (br_f (by decide) (br_f (by decide) (br_f (by decide) (h)))))))
  · exact br_f (by decide) (br_t (by decide) (h))
  · exact br_f (by decide) (br_f (by decide) (br_t (by decide) (h)))
section
variable {tk tr ep ln vs ii cn da pl nf pt sp oc rn tu so : Int32} {cd ar op oa ob nk nv wt cf cc ps pa pe sk ou ce bk ct lm : Nat → Int32} {n o b : Nat} {post : SX → Prop} {a c : Int32}
theorem xx_wk_0 (hs : sp = nI n) (h16 : n < 16) (h : post (tk, tr, ep, ln, vs, ii, cn, da, pl, nf, pt, nI (n + 1), oc, rn, tu, so, cd, ar, op, oa, ob, nk, nv, wt, cf, cc, ps, pa, pe, upd sk n a, ou, ce, bk, ct, lm)) : wpX_work post (tk, tr, ep, ln, vs, ii, cn, da, pl, nf, pt, sp, oc, rn, tu, so, cd, ar, op, oa, ob, nk, nv, wt, cf, cc, ps, pa, pe, sk, ou, ce, bk, ct, lm) 0 a := by
  subst hs
  exact br_t rfl (And.intro (vp_in_nI h16 (by decide)) (nm_r (congrArg (fun k => upd sk k a) (nI_clamp (show n < 2 ^ 31 by omega))) (nm_r (nI_1 n) h)))
theorem xx_wk_5 (hs : sp = nI (n + 1)) (h16 : n + 1 < 16) (h : post (tk, tr, ep, ln, vs, ii, cn, da, pl, nf, pt, nI (n + 2), oc, rn, tu, so, cd, ar, op, oa, ob, nk, nv, wt, cf, cc, ps, pa, pe, upd sk (n + 1) (sk n), ou, ce, bk, ct, lm)) : wpX_work post (tk, tr, ep, ln, vs, ii, cn, da, pl, nf, pt, sp, oc, rn, tu, so, cd, ar, op, oa, ob, nk, nv, wt, cf, cc, ps, pa, pe, sk, ou, ce, bk, ct, lm) 5 a := by
  subst hs
  have e1 : nI (n + 1) - 1 = nI n := nI_pred n
  refine br_f (by decide) (br_t rfl ?_)
  rw [e1, nI_clamp (show n < 2 ^ 31 by omega), nI_clamp (show n + 1 < 2 ^ 31 by omega)]
  exact And.intro (vp_in_nI (by omega) (by decide)) (And.intro (vp_in_nI h16 (by decide)) (nm_e (nm_r (nI_1 (n + 1)) h)))
theorem xx_wk_6 (hs : sp = nI (n + 1)) (h : post (tk, tr, ep, ln, vs, ii, cn, da, pl, nf, pt, nI n, oc, rn, tu, so, cd, ar, op, oa, ob, nk, nv, wt, cf, cc, ps, pa, pe, sk, ou, ce, bk, ct, lm)) : wpX_work post (tk, tr, ep, ln, vs, ii, cn, da, pl, nf, pt, sp, oc, rn, tu, so, cd, ar, op, oa, ob, nk, nv, wt, cf, cc, ps, pa, pe, sk, ou, ce, bk, ct, lm) 6 a := by
  subst hs
  exact br_f (by decide) (br_f (by decide) (br_t rfl (nm_r (nI_pred n) h)))
theorem xx_wk_7 (hs : sp = nI (n + 2)) (h16 : n + 2 ≤ 16) (h : post (tk, tr, ep, ln, vs, ii, cn, da, pl, nf, pt, sp, oc, rn, tu, so, cd, ar, op, oa, ob, nk, nv, wt, cf, cc, ps, pa, pe, upd (upd sk n (sk (n + 1))) (n + 1) (sk n), ou, ce, bk, ct, lm)) : wpX_work post (tk, tr, ep, ln, vs, ii, cn, da, pl, nf, pt, sp, oc, rn, tu, so, cd, ar, op, oa, ob, nk, nv, wt, cf, cc, ps, pa, pe, sk, ou, ce, bk, ct, lm) 7 a := by
  subst hs
  have e1 : nI (n + 2) - 1 = nI (n + 1) := nI_pred (n + 1)
  have e2 : nI (n + 2) - 2 = nI n := pk_sub (a := n + 2) (b := 2) (by omega)
  refine br_f (by decide) (br_f (by decide) (br_f (by decide) (br_t rfl ?_)))
  rw [e1, e2, nI_clamp (show n < 2 ^ 31 by omega), nI_clamp (show n + 1 < 2 ^ 31 by omega)]
  have i0 : vp_in (nI n) 16 := vp_in_nI (by omega) (by decide)
  have i1 : vp_in (nI (n + 1)) 16 := vp_in_nI (by omega) (by decide)
  exact And.intro i0 (nm_e (And.intro i1 (And.intro i0 (nm_e (And.intro i1 (nm_e h))))))
theorem xx_wk_8 (hs : sp = nI (n + 2)) (h16 : n + 2 < 16) (h : post (tk, tr, ep, ln, vs, ii, cn, da, pl, nf, pt, nI (n + 3), oc, rn, tu, so, cd, ar, op, oa, ob, nk, nv, wt, cf, cc, ps, pa, pe, upd sk (n + 2) (sk n), ou, ce, bk, ct, lm)) : wpX_work post (tk, tr, ep, ln, vs, ii, cn, da, pl, nf, pt, sp, oc, rn, tu, so, cd, ar, op, oa, ob, nk, nv, wt, cf, cc, ps, pa, pe, sk, ou, ce, bk, ct, lm) 8 a := by
  subst hs
  have e2 : nI (n + 2) - 2 = nI n := pk_sub (a := n + 2) (b := 2) (by omega)
  refine br_f (by decide) (br_f (by decide) (br_f (by decide) (br_f (by decide) (br_t rfl ?_))))
  rw [e2, nI_clamp (show n < 2 ^ 31 by omega), nI_clamp (show n + 2 < 2 ^ 31 by omega)]
  exact And.intro (vp_in_nI (by omega) (by decide)) (And.intro (vp_in_nI h16 (by decide)) (nm_e (nm_r (nI_1 (n + 2)) h)))
theorem xx_wk_9 (hs : sp = nI (n + 3)) (h16 : n + 3 ≤ 16) (h : post (tk, tr, ep, ln, vs, ii, cn, da, pl, nf, pt, sp, oc, rn, tu, so, cd, ar, op, oa, ob, nk, nv, wt, cf, cc, ps, pa, pe, upd (upd (upd sk n (sk (n + 1))) (n + 1) (sk (n + 2))) (n + 2) (sk n), ou, ce, bk, ct, lm)) : wpX_work post (tk, tr, ep, ln, vs, ii, cn, da, pl, nf, pt, sp, oc, rn, tu, so, cd, ar, op, oa, ob, nk, nv, wt, cf, cc, ps, pa, pe, sk, ou, ce, bk, ct, lm) 9 a := by
  subst hs
  have e1 : nI (n + 3) - 1 = nI (n + 2) := nI_pred (n + 2)
  have e2 : nI (n + 3) - 2 = nI (n + 1) := pk_sub (a := n + 3) (b := 2) (by omega)
  have e3 : nI (n + 3) - 3 = nI n := pk_sub (a := n + 3) (b := 3) (by omega)
  refine br_f (by decide) (br_f (by decide) (br_f (by decide) (br_f (by decide) (br_f (by decide) (br_t rfl ?_)))))
  rw [e1, e2, e3, nI_clamp (show n < 2 ^ 31 by omega), nI_clamp (show n + 1 < 2 ^ 31 by omega), nI_clamp (show n + 2 < 2 ^ 31 by omega)]
  have i0 : vp_in (nI n) 16 := vp_in_nI (by omega) (by decide)
  have i1 : vp_in (nI (n + 1)) 16 := vp_in_nI (by omega) (by decide)
  have i2 : vp_in (nI (n + 2)) 16 := vp_in_nI (by omega) (by decide)
  refine And.intro i0 (nm_e (And.intro i1 (And.intro i0 (nm_e (And.intro i2 (And.intro i1 (nm_e (And.intro i2 (nm_e ?_)))))))))
  rw [pk_un (show n + 2 ≠ n by omega)]
  exact h
theorem xx_wk_12 (hs : sp = nI (n + 1)) (h16 : n + 1 ≤ 16) (hb : sk n = nI b) (hb2 : b < 12) (h : post (tk, tr, ep, ln, vs, ii, cn, da, pl, nf, pt, sp, oc, rn, tu, so, cd, ar, op, oa, ob, nk, nv, wt, cf, cc, ps, pa, pe, upd sk n (ce b), ou, ce, bk, ct, lm)) : wpX_work post (tk, tr, ep, ln, vs, ii, cn, da, pl, nf, pt, sp, oc, rn, tu, so, cd, ar, op, oa, ob, nk, nv, wt, cf, cc, ps, pa, pe, sk, ou, ce, bk, ct, lm) 12 a := by
  subst hs
  have e1 : nI (n + 1) - 1 = nI n := nI_pred n
  refine br_f (by decide) (br_f (by decide) (br_f (by decide) (br_f (by decide) (br_f (by decide) (br_f (by decide) (br_t rfl ?_))))))
  rw [e1, nI_clamp (show n < 2 ^ 31 by omega), hb, nI_clamp (show b < 2 ^ 31 by omega)]
  have i0 : vp_in (nI n) 16 := vp_in_nI (by omega) (by decide)
  exact And.intro i0 (And.intro (vp_in_nI hb2 (by decide)) (And.intro i0 (nm_e h)))
theorem xx_wk_13 (hs : sp = nI (n + 2)) (h16 : n + 2 ≤ 16) (hb : sk (n + 1) = nI b) (hb2 : b < 12) (h : post (tk, tr, ep, ln, vs, ii, cn, da, pl, nf, pt, nI n, oc, rn, tu, so, cd, ar, op, oa, ob, nk, nv, wt, cf, cc, ps, pa, pe, sk, ou, upd ce b (sk n), bk, ct, lm)) : wpX_work post (tk, tr, ep, ln, vs, ii, cn, da, pl, nf, pt, sp, oc, rn, tu, so, cd, ar, op, oa, ob, nk, nv, wt, cf, cc, ps, pa, pe, sk, ou, ce, bk, ct, lm) 13 a := by
  subst hs
  have e1 : nI (n + 2) - 1 = nI (n + 1) := nI_pred (n + 1)
  have e2 : nI (n + 2) - 2 = nI n := pk_sub (a := n + 2) (b := 2) (by omega)
  refine br_f (by decide) (br_f (by decide) (br_f (by decide) (br_f (by decide) (br_f (by decide) (br_f (by decide) (br_f (by decide) (br_t rfl ?_)))))))
  rw [e1, e2, nI_clamp (show n < 2 ^ 31 by omega), nI_clamp (show n + 1 < 2 ^ 31 by omega), hb, nI_clamp (show b < 2 ^ 31 by omega)]
  exact And.intro (vp_in_nI (by omega) (by decide)) (And.intro (vp_in_nI (by omega) (by decide)) (And.intro (vp_in_nI hb2 (by decide)) (nm_e (nm_e h))))
theorem xx_wk_14 (hs : sp = nI (n + 1)) (h16 : n + 1 ≤ 16) (hoc : oc = nI o) (ho : o < 16) (h : post (tk, tr, ep, ln, vs, ii, cn, da, pl, nf, pt, nI n, nI (o + 1), rn, tu, so, cd, ar, op, oa, ob, nk, nv, wt, cf, cc, ps, pa, pe, sk, upd ou o (sk n), ce, bk, ct, lm)) : wpX_work post (tk, tr, ep, ln, vs, ii, cn, da, pl, nf, pt, sp, oc, rn, tu, so, cd, ar, op, oa, ob, nk, nv, wt, cf, cc, ps, pa, pe, sk, ou, ce, bk, ct, lm) 14 a := by
  subst hs hoc
  have e1 : nI (n + 1) - 1 = nI n := nI_pred n
  refine br_f (by decide) (br_f (by decide) (br_f (by decide) (br_f (by decide) (br_f (by decide) (br_f (by decide) (br_f (by decide) (br_f (by decide) (br_t rfl (nm_r e1 ?_)))))))))
  rw [nI_clamp (show n < 2 ^ 31 by omega), nI_clamp (show o < 2 ^ 31 by omega)]
  exact And.intro (vp_in_nI (by omega) (by decide)) (And.intro (vp_in_nI ho (by decide)) (nm_e (nm_r (nI_1 o) h)))
theorem xx_wk_a (hc : sk_A c ∨ c = 4) (hs : sp = nI (n + 2)) (h16 : n + 2 ≤ 16) (h : post (tk, tr, ep, ln, vs, ii, cn, da, pl, nf, pt, nI (n + 1), oc, rn, tu, so, cd, ar, op, oa, ob, nk, nv, wt, cf, cc, ps, pa, pe, upd sk n (sk_w c (sk n) (sk (n + 1))), ou, ce, bk, ct, lm)) : wpX_work post (tk, tr, ep, ln, vs, ii, cn, da, pl, nf, pt, sp, oc, rn, tu, so, cd, ar, op, oa, ob, nk, nv, wt, cf, cc, ps, pa, pe, sk, ou, ce, bk, ct, lm) c a := by
  subst hs
  have e1 : nI (n + 2) - 1 = nI (n + 1) := nI_pred (n + 1)
  have e2 : nI (n + 2) - 2 = nI n := pk_sub (a := n + 2) (b := 2) (by omega)
  have nn : ¬ c = 0 ∧ ¬ c = 5 ∧ ¬ c = 6 ∧ ¬ c = 7 ∧ ¬ c = 8 ∧ ¬ c = 9 ∧ ¬ c = 12 ∧ ¬ c = 13 ∧ ¬ c = 14 := by
    rcases hc with (z | z | z | z | z) | z <;> subst z <;> decide
  obtain ⟨n0, n5, n6, n7, n8, n9, n12, n13, n14⟩ := nn
  refine br_f n0 (br_f n5 (br_f n6 (br_f n7 (br_f n8 (br_f n9 (br_f n12 (br_f n13 (br_f n14 ?_))))))))
  rw [e1, e2, nI_clamp (show n < 2 ^ 31 by omega), nI_clamp (show n + 1 < 2 ^ 31 by omega)]
  have i0 : vp_in (nI n) 16 := vp_in_nI (by omega) (by decide)
  exact And.intro i0 (And.intro (vp_in_nI (by omega) (by decide)) (xx_arith (And.intro i0 (nm_e (nm_e h)))))
end
end
section
/-! what a plain operation does, said once for both sides -/
def pm (nv : Nat) (c a : Int32) (l : List Int32) (o : Nat) (ou ce : Nat → Int32) (r : Int32) (l' : List Int32) (o' : Nat) (ou' ce' : Nat → Int32) : Prop :=
  (¬ r = 0 ∧ ((r = 11 ∧ l.length < yt_k c) ∨ (r = 13 ∧ c = 4 ∧ 2 ≤ l.length ∧ st_g l 0 = 0) ∨
    (r = 14 ∧ (c = 12 ∨ c = 13) ∧ yt_k c ≤ l.length ∧ ¬ (¬ st_g l 0 < 0 ∧ st_g l 0 < nI nv)) ∨ (r = 15 ∧ c = 14 ∧ 1 ≤ l.length ∧ o = 16) ∨
    (r = 12 ∧ (c = 0 ∨ c = 5 ∨ c = 8) ∧ yt_k c ≤ l.length ∧ l.length = 16))) ∨
  (r = 0 ∧ ((c = 0 ∧ l.length < 16 ∧ l' = a :: l ∧ o' = o ∧ ou' = ou ∧ ce' = ce) ∨
    (∃ z y s, l = z :: y :: s ∧ (sk_A c ∨ (c = 4 ∧ ¬ z = 0)) ∧ l' = sk_w c y z :: s ∧ o' = o ∧ ou' = ou ∧ ce' = ce) ∨
    (c = 5 ∧ ∃ z s, l = z :: s ∧ l.length < 16 ∧ l' = z :: z :: s ∧ o' = o ∧ ou' = ou ∧ ce' = ce) ∨
    (c = 6 ∧ ∃ z s, l = z :: s ∧ l' = s ∧ o' = o ∧ ou' = ou ∧ ce' = ce) ∨
    (c = 7 ∧ ∃ z y s, l = z :: y :: s ∧ l' = y :: z :: s ∧ o' = o ∧ ou' = ou ∧ ce' = ce) ∨
    (c = 8 ∧ ∃ z y s, l = z :: y :: s ∧ l.length < 16 ∧ l' = y :: z :: y :: s ∧ o' = o ∧ ou' = ou ∧ ce' = ce) ∨
    (c = 9 ∧ ∃ z y x s, l = z :: y :: x :: s ∧ l' = x :: z :: y :: s ∧ o' = o ∧ ou' = ou ∧ ce' = ce) ∨
    (c = 12 ∧ ∃ b s, l = nI b :: s ∧ b < nv ∧ l' = ce b :: s ∧ o' = o ∧ ou' = ou ∧ ce' = ce) ∨
    (c = 13 ∧ ∃ b y s, l = nI b :: y :: s ∧ b < nv ∧ l' = s ∧ o' = o ∧ ou' = ou ∧ ce' = upd ce b y) ∨
    (c = 14 ∧ ∃ z s, l = z :: s ∧ o < 16 ∧ l' = s ∧ o' = o + 1 ∧ ou' = upd ou o z ∧ ce' = ce)))
theorem pm_len {nv o o' : Nat} {c a r : Int32} {l l' : List Int32} {ou ce ou' ce' : Nat → Int32} (h : pm nv c a l o ou ce r l' o' ou' ce') (hr : r = 0) (hl : l.length ≤ 16) (ho : o ≤ 16) : l'.length ≤ 16 ∧ o' ≤ 16 := by
  rcases h with ⟨h, _⟩ | ⟨_, h⟩
  · exact absurd hr h
  · rcases h with ⟨_, h1, h2, h3, _⟩ | ⟨z, y, s, h1, _, h2, h3, _⟩ | ⟨_, z, s, h1, h0, h2, h3, _⟩ | ⟨_, z, s, h1, h2, h3, _⟩ | ⟨_, z, y, s, h1, h2, h3, _⟩ | ⟨_, z, y, s, h1, h0, h2, h3, _⟩ | ⟨_, z, y, x, s, h1, h2, h3, _⟩ | ⟨_, b, s, h1, _, h2, h3, _⟩ | ⟨_, b, y, s, h1, _, h2, h3, _⟩ | ⟨_, z, s, h1, h0, h2, h3, _⟩ <;>
      subst h2 h3 <;> (try subst h1) <;> simp only [List.length_cons] at * <;> omega
theorem pm_tot {nv : Nat} {c a : Int32} {l : List Int32} {o : Nat} {ou ce : Nat → Int32} (hc : sk_pl c) (hl : l.length ≤ 16) (ho : o ≤ 16) (hv : nv ≤ 12) : ∃ r l' o' ou' ce', pm nv c a l o ou ce r l' o' ou' ce' := by
  by_cases h11 : l.length < yt_k c
  · exact ⟨11, l, o, ou, ce, Or.inl ⟨by decide, Or.inl ⟨rfl, h11⟩⟩⟩
  · obtain ⟨k, hk, rfl⟩ := nI_of2 (M := 14) (n := 14) (by decide) hc.1 hc.2
    have two : 2 ≤ l.length → ∃ z y s, l = z :: y :: s := by
      intro h
      cases l with
      | nil => exact absurd h (by simp)
      | cons z t =>
        cases t with
        | nil => exact absurd h (by simp)
        | cons y s => exact ⟨z, y, s, rfl⟩
    have one : 1 ≤ l.length → ∃ z s, l = z :: s := by
      intro h
      cases l with
      | nil => exact absurd h (by simp)
      | cons z t => exact ⟨z, t, rfl⟩
    have three : 3 ≤ l.length → ∃ z y x s, l = z :: y :: x :: s := by
      intro h
      obtain ⟨z, y, s, rfl⟩ := two (by omega)
      cases s with
      | nil => exact absurd h (by simp)
      | cons x s => exact ⟨z, y, x, s, rfl⟩
    have arith : 2 ≤ l.length → sk_A (nI k) → ∃ r l' o' ou' ce', pm nv (nI k) a l o ou ce r l' o' ou' ce' := by
      intro h hA
      obtain ⟨z, y, s, e⟩ := two h
      exact ⟨0, _, o, ou, ce, Or.inr ⟨rfl, Or.inr (Or.inl ⟨z, y, s, e, Or.inl hA, rfl, rfl, rfl, rfl⟩)⟩⟩
    have kk : k = 0 ∨ k = 1 ∨ k = 2 ∨ k = 3 ∨ k = 4 ∨ k = 5 ∨ k = 6 ∨ k = 7 ∨ k = 8 ∨ k = 9 ∨ k = 10 ∨ k = 11 ∨ k = 12 ∨ k = 13 ∨ k = 14 := by omega
    rcases kk with e | e | e | e | e | e | e | e | e | e | e | e | e | e | e <;> subst e
    · by_cases h : l.length = 16
      · exact ⟨12, l, o, ou, ce, Or.inl ⟨by decide, Or.inr (Or.inr (Or.inr (Or.inr ⟨rfl, Or.inl rfl, by omega, h⟩)))⟩⟩
      · exact ⟨0, _, o, ou, ce, Or.inr ⟨rfl, Or.inl ⟨rfl, by omega, rfl, rfl, rfl, rfl⟩⟩⟩
    · exact arith (by have : yt_k (nI 1) = 2 := (by decide); omega) (by decide)
    · exact arith (by have : yt_k (nI 2) = 2 := (by decide); omega) (by decide)
    · exact arith (by have : yt_k (nI 3) = 2 := (by decide); omega) (by decide)
    · have h2 : 2 ≤ l.length := by have : yt_k (nI 4) = 2 := (by decide); omega
      obtain ⟨z, y, s, e⟩ := two h2
      by_cases hz : z = 0
      · exact ⟨13, l, o, ou, ce, Or.inl ⟨by decide, Or.inr (Or.inl ⟨rfl, rfl, h2, by rw [e]; exact hz⟩)⟩⟩
      · exact ⟨0, _, o, ou, ce, Or.inr ⟨rfl, Or.inr (Or.inl ⟨z, y, s, e, Or.inr ⟨rfl, hz⟩, rfl, rfl, rfl, rfl⟩)⟩⟩
    · have h1 : 1 ≤ l.length := by have : yt_k (nI 5) = 1 := (by decide); omega
      obtain ⟨z, s, e⟩ := one h1
      by_cases h : l.length = 16
      · exact ⟨12, l, o, ou, ce, Or.inl ⟨by decide, Or.inr (Or.inr (Or.inr (Or.inr ⟨rfl, Or.inr (Or.inl rfl), by omega, h⟩)))⟩⟩
      · exact ⟨0, _, o, ou, ce, Or.inr ⟨rfl, Or.inr (Or.inr (Or.inl ⟨rfl, z, s, e, by omega, rfl, rfl, rfl, rfl⟩))⟩⟩
    · have h1 : 1 ≤ l.length := by have : yt_k (nI 6) = 1 := (by decide); omega
      obtain ⟨z, s, e⟩ := one h1
      exact ⟨0, _, o, ou, ce, Or.inr ⟨rfl, Or.inr (Or.inr (Or.inr (Or.inl ⟨rfl, z, s, e, rfl, rfl, rfl, rfl⟩)))⟩⟩
    · have h2 : 2 ≤ l.length := by have : yt_k (nI 7) = 2 := (by decide); omega
      obtain ⟨z, y, s, e⟩ := two h2
      exact ⟨0, _, o, ou, ce, Or.inr ⟨rfl, Or.inr (Or.inr (Or.inr (Or.inr (Or.inl ⟨rfl, z, y, s, e, rfl, rfl, rfl, rfl⟩))))⟩⟩
    · have h2 : 2 ≤ l.length := by have : yt_k (nI 8) = 2 := (by decide); omega
      obtain ⟨z, y, s, e⟩ := two h2
      by_cases h : l.length = 16
      · exact ⟨12, l, o, ou, ce, Or.inl ⟨by decide, Or.inr (Or.inr (Or.inr (Or.inr ⟨rfl, Or.inr (Or.inr rfl), by omega, h⟩)))⟩⟩
      · exact ⟨0, _, o, ou, ce, Or.inr ⟨rfl, Or.inr (Or.inr (Or.inr (Or.inr (Or.inr (Or.inl ⟨rfl, z, y, s, e, by omega, rfl, rfl, rfl, rfl⟩)))))⟩⟩
    · have h3 : 3 ≤ l.length := by have : yt_k (nI 9) = 3 := (by decide); omega
      obtain ⟨z, y, x, s, e⟩ := three h3
      exact ⟨0, _, o, ou, ce, Or.inr ⟨rfl, Or.inr (Or.inr (Or.inr (Or.inr (Or.inr (Or.inr (Or.inl ⟨rfl, z, y, x, s, e, rfl, rfl, rfl, rfl⟩))))))⟩⟩
    · exact arith (by have : yt_k (nI 10) = 2 := (by decide); omega) (by decide)
    · exact arith (by have : yt_k (nI 11) = 2 := (by decide); omega) (by decide)
    · have h1 : 1 ≤ l.length := by have : yt_k (nI 12) = 1 := (by decide); omega
      obtain ⟨z, s, e⟩ := one h1
      by_cases h : ¬ z < 0 ∧ z < nI nv
      · obtain ⟨b, hb, hz⟩ := nI_of h.1
        have hbn : b < nv := by have := h.2; rw [hz, nI_ltI hb (by omega)] at this; exact this
        exact ⟨0, _, o, ou, ce, Or.inr ⟨rfl, Or.inr (Or.inr (Or.inr (Or.inr (Or.inr (Or.inr (Or.inr (Or.inl ⟨rfl, b, s, by rw [e, hz], hbn, rfl, rfl, rfl, rfl⟩)))))))⟩⟩
      · exact ⟨14, l, o, ou, ce, Or.inl ⟨by decide, Or.inr (Or.inr (Or.inl ⟨rfl, Or.inl rfl, by omega, by rw [e]; exact h⟩))⟩⟩
    · have h2 : 2 ≤ l.length := by have : yt_k (nI 13) = 2 := (by decide); omega
      obtain ⟨z, y, s, e⟩ := two h2
      by_cases h : ¬ z < 0 ∧ z < nI nv
      · obtain ⟨b, hb, hz⟩ := nI_of h.1
        have hbn : b < nv := by have := h.2; rw [hz, nI_ltI hb (by omega)] at this; exact this
        exact ⟨0, _, o, ou, _, Or.inr ⟨rfl, Or.inr (Or.inr (Or.inr (Or.inr (Or.inr (Or.inr (Or.inr (Or.inr (Or.inl ⟨rfl, b, y, s, by rw [e, hz], hbn, rfl, rfl, rfl, rfl⟩))))))))⟩⟩
      · exact ⟨14, l, o, ou, ce, Or.inl ⟨by decide, Or.inr (Or.inr (Or.inl ⟨rfl, Or.inr rfl, by omega, by rw [e]; exact h⟩))⟩⟩
    · have h1 : 1 ≤ l.length := by have : yt_k (nI 14) = 1 := (by decide); omega
      obtain ⟨z, s, e⟩ := one h1
      by_cases h : o = 16
      · exact ⟨15, l, o, ou, ce, Or.inl ⟨by decide, Or.inr (Or.inr (Or.inr (Or.inl ⟨rfl, rfl, h1, h⟩)))⟩⟩
      · exact ⟨0, _, _, _, ce, Or.inr ⟨rfl, Or.inr (Or.inr (Or.inr (Or.inr (Or.inr (Or.inr (Or.inr (Or.inr (Or.inr ⟨rfl, z, s, e, by omega, rfl, rfl, rfl, rfl⟩))))))))⟩⟩
section
variable {tk tr ep ln vs ii cn da pl nf pt sp oc rn tu so : Int32} {cd ar op oa ob nk nv wt cf cc ps pa pe sk ou ce bk ct lm : Nat → Int32} {n o o' nvv : Nat} {Q : Int32 → SX → Prop} {a c r : Int32} {l l' : List Int32} {ou' ce' : Nat → Int32}
theorem xx_ref0 {post : Int32 → Prop} (hc : ¬ (c = 4 ∨ c = 12 ∨ c = 13 ∨ c = 14)) (h : post 0) : wpX_refusal post (tk, tr, ep, ln, vs, ii, cn, da, pl, nf, pt, sp, oc, rn, tu, so, cd, ar, op, oa, ob, nk, nv, wt, cf, cc, ps, pa, pe, sk, ou, ce, bk, ct, lm) c :=
  br_f (fun z => hc (Or.inl z)) (br_f (fun z => hc (Or.inr (Or.inl z))) (br_f (fun z => hc (Or.inr (Or.inr (Or.inl z)))) (br_f (fun z => hc (Or.inr (Or.inr (Or.inr z)))) h)))
/-- up to the work -/
theorem xx_pl_in {x : Nat} (hk : ∃ k : Nat, k ≤ 14 ∧ c = nI k) (hx : x < 256) (hs : sp = nI l.length) (hl : l.length ≤ 16)
    (h11 : l.length < yt_k c → Q (nI x) (tk, tr, ep, ln, vs, ii, cn, da, pl, nf, pt, sp, oc, rn, tu, 11, cd, ar, op, oa, ob, nk, nv, wt, cf, cc, ps, pa, pe, sk, ou, ce, bk, ct, lm)) (hrf : yt_k c ≤ l.length → ∀ post : Int32 → Prop, (¬ r = 0 → post r) → (r = 0 → post 0) → wpX_refusal post (tk, tr, ep, ln, vs, ii, cn, da, pl, nf, pt, sp, oc, rn, tu, so, cd, ar, op, oa, ob, nk, nv, wt, cf, cc, ps, pa, pe, sk, ou, ce, bk, ct, lm) c)
    (hr : ¬ r = 0 → yt_k c ≤ l.length → Q (nI x) (tk, tr, ep, ln, vs, ii, cn, da, pl, nf, pt, sp, oc, rn, tu, r, cd, ar, op, oa, ob, nk, nv, wt, cf, cc, ps, pa, pe, sk, ou, ce, bk, ct, lm)) (h12 : r = 0 → yt_k c ≤ l.length → 16 < l.length - yt_k c + xg_k c → Q (nI x) (tk, tr, ep, ln, vs, ii, cn, da, pl, nf, pt, sp, oc, rn, tu, 12, cd, ar, op, oa, ob, nk, nv, wt, cf, cc, ps, pa, pe, sk, ou, ce, bk, ct, lm))
    (hw : r = 0 → yt_k c ≤ l.length → l.length - yt_k c + xg_k c ≤ 16 → wpX_work (fun u => Q (nI (x + 1)) u) (tk, tr, ep, ln, vs, ii, cn, da, pl, nf, pt, sp, oc, rn, tu, so, cd, ar, op, oa, ob, nk, nv, wt, cf, cc, ps, pa, pe, sk, ou, ce, bk, ct, lm) c (oa x)) : wpX_plain Q (tk, tr, ep, ln, vs, ii, cn, da, pl, nf, pt, sp, oc, rn, tu, so, cd, ar, op, oa, ob, nk, nv, wt, cf, cc, ps, pa, pe, sk, ou, ce, bk, ct, lm) (nI x) c := by
  obtain ⟨k, hk, rfl⟩ := hk
  subst hs
  have hb : yt_k (nI k) ≤ 3 := by rw [yt_k]; split; omega; split; omega; split <;> omega
  have hg : xg_k (nI k) ≤ 3 := by rw [xg_k]; split; omega; split; omega; split <;> omega
  unfold wpX_plain
  refine xx_takes hk ?_
  by_cases e : yt_k (nI k) ≤ l.length
  · refine br_t (nI_le e (by omega)) (hrf e _ (fun z => br_f z (hr z e)) (fun z => br_t rfl (xx_gives hk ?_)))
    by_cases g : l.length - yt_k (nI k) + xg_k (nI k) ≤ 16
    · refine br_t (xq_16 e g) (And.intro (vp_in_nI hx (by decide)) ?_)
      have := hw z e g
      rw [nI_clamp (show x < 2 ^ 31 by omega), nI_1]
      exact this
    · exact br_f (xq_n16 e (by omega) (by omega)) (h12 z e (by omega))
  · exact br_f (nI_ge (by omega) (by omega)) (h11 (by omega))
end
end
section
/-! both sides of a plain operation (printed by mk27.py) -/
section
variable {tk tr ep ln vs ii cn da pl nf pt sp oc rn tu so : Int32} {cd ar op oa ob nk nv wt cf cc ps pa pe sk ou ce bk ct lm : Nat → Int32} {n o o' nvv : Nat} {a c r : Int32} {l l' : List Int32} {ou' ce' : Nat → Int32}
theorem xx_rf4 {post : Int32 → Prop} (hs : sp = nI l.length) (hl : l.length ≤ 16) (hst : st_S sk l) (h1 : 1 ≤ l.length) (h : post (if st_g l 0 = 0 then 13 else 0)) : wpX_refusal post (tk, tr, ep, ln, vs, ii, cn, da, pl, nf, pt, sp, oc, rn, tu, so, cd, ar, op, oa, ob, nk, nv, wt, cf, cc, ps, pa, pe, sk, ou, ce, bk, ct, lm) 4 := by
  obtain ⟨m, hm⟩ : ∃ m, l.length = m + 1 := ⟨l.length - 1, by omega⟩
  have hx : sp - 1 = nI m := by rw [hs, hm, nI_pred]
  have hv : sk m = st_g l 0 := by have := st_at l 0 hst (by omega); rw [show l.length - 1 - 0 = m from by omega] at this; exact this
  refine br_t rfl ?_
  rw [hx, nI_clamp (show m < 2 ^ 31 by omega), hv]
  refine And.intro (vp_in_nI (by omega) (by decide)) (br_c (fun z => ?_) (fun z => ?_))
  · rw [if_pos z] at h; exact h
  · rw [if_neg z] at h; exact h
theorem xx_rf12 {post : Int32 → Prop} (hc : c = 12 ∨ c = 13) (hs : sp = nI l.length) (hl : l.length ≤ 16) (hst : st_S sk l) (hvs : vs = nI nvv) (h1 : 1 ≤ l.length)
    (h0 : (¬ st_g l 0 < 0 ∧ st_g l 0 < nI nvv) → post 0) (h14 : ¬ (¬ st_g l 0 < 0 ∧ st_g l 0 < nI nvv) → post 14) : wpX_refusal post (tk, tr, ep, ln, vs, ii, cn, da, pl, nf, pt, sp, oc, rn, tu, so, cd, ar, op, oa, ob, nk, nv, wt, cf, cc, ps, pa, pe, sk, ou, ce, bk, ct, lm) c := by
  obtain ⟨m, hm⟩ : ∃ m, l.length = m + 1 := ⟨l.length - 1, by omega⟩
  have hx : sp - 1 = nI m := by rw [hs, hm, nI_pred]
  have hv : sk m = st_g l 0 := by have := st_at l 0 hst (by omega); rw [show l.length - 1 - 0 = m from by omega] at this; exact this
  have hin : vp_in (nI m) 16 := vp_in_nI (by omega) (by decide)
  have k38 : wX_refusal_38 post tk tr ep ln vs ii cn da pl nf pt sp oc rn tu so cd ar op oa ob nk nv wt cf cc ps pa pe sk ou ce bk ct lm := by
    unfold wX_refusal_38
    rw [hx, nI_clamp (show m < 2 ^ 31 by omega), hv, hvs]
    exact And.intro hin (br_c (fun z => h14 (fun y => y.1 z)) (fun z => And.intro hin (br_c (fun y => h0 ⟨z, y⟩) (fun y => h14 (fun q => y q.2)))))
  rcases hc with e | e <;> subst e
  · exact br_f (by decide) (br_t rfl k38)
  · exact br_f (by decide) (br_f (by decide) (br_t rfl k38))
theorem xx_rf14 {post : Int32 → Prop} (hoc : oc = nI o) (ho : o ≤ 16) (h : post (if o < 16 then 0 else 15)) : wpX_refusal post (tk, tr, ep, ln, vs, ii, cn, da, pl, nf, pt, sp, oc, rn, tu, so, cd, ar, op, oa, ob, nk, nv, wt, cf, cc, ps, pa, pe, sk, ou, ce, bk, ct, lm) 14 := by
  refine br_f (by decide) (br_f (by decide) (br_f (by decide) (br_t rfl ?_)))
  by_cases e : o < 16
  · rw [if_pos e] at h; exact br_t (by rw [hoc]; exact nI_lt (b := 16) e (by decide)) h
  · rw [if_neg e] at h; exact br_f (by rw [hoc]; exact nI_nlt (b := 16) (by omega) (by omega)) h
theorem xx_pl {x : Nat} (h : pm nvv c a l o ou ce r l' o' ou' ce') (hk : ∃ k : Nat, k ≤ 14 ∧ c = nI k) (hx : x < 256) (hs : sp = nI l.length) (hl : l.length ≤ 16) (hst : st_S sk l) (hoc : oc = nI o) (ho : o ≤ 16) (hvs : vs = nI nvv) (hv : nvv ≤ 12) (hoa : oa x = a) :
    ∃ sk', (r = 0 → st_S sk' l') ∧ ∀ Q : Int32 → SX → Prop, (¬ r = 0 → Q (nI x) (tk, tr, ep, ln, vs, ii, cn, da, pl, nf, pt, sp, oc, rn, tu, r, cd, ar, op, oa, ob, nk, nv, wt, cf, cc, ps, pa, pe, sk, ou, ce, bk, ct, lm)) → (r = 0 → Q (nI (x + 1)) (tk, tr, ep, ln, vs, ii, cn, da, pl, nf, pt, nI l'.length, nI o', rn, tu, so, cd, ar, op, oa, ob, nk, nv, wt, cf, cc, ps, pa, pe, sk', ou', ce', bk, ct, lm)) → wpX_plain Q (tk, tr, ep, ln, vs, ii, cn, da, pl, nf, pt, sp, oc, rn, tu, so, cd, ar, op, oa, ob, nk, nv, wt, cf, cc, ps, pa, pe, sk, ou, ce, bk, ct, lm) (nI x) c := by
  rcases h with ⟨hr, h⟩ | ⟨hr, h⟩
  · refine ⟨sk, fun z => absurd z hr, fun Q hE hG => ?_⟩
    have hE' := hE hr
    rcases h with ⟨e, h⟩ | ⟨e, e2, h, h'⟩ | ⟨e, e2, h, h'⟩ | ⟨e, e2, h, h'⟩ | ⟨e, e2, h, h'⟩ <;> subst e
    · exact xx_pl_in (r := 0) hk hx hs hl (fun _ => hE') (fun z => by omega) (fun z => absurd rfl z) (fun _ z => by omega) (fun _ z => by omega)
    · subst e2
      have hy : yt_k 4 = 2 := by decide
      exact xx_pl_in (r := 13) hk hx hs hl (fun z => by omega) (fun _ post p1 _ => xx_rf4 hs hl hst (by omega) (by rw [if_pos h']; exact p1 (by decide))) (fun _ _ => hE') (fun z => absurd z (by decide)) (fun z => absurd z (by decide))
    · have hy : 1 ≤ yt_k c := by rcases e2 with z | z <;> subst z <;> decide
      exact xx_pl_in (r := 14) hk hx hs hl (fun z => by omega) (fun _ post p1 _ => xx_rf12 e2 hs hl hst hvs (by omega) (fun z => absurd z h') (fun _ => p1 (by decide))) (fun _ _ => hE') (fun z => absurd z (by decide)) (fun z => absurd z (by decide))
    · subst e2
      have hy : yt_k 14 = 1 := by decide
      exact xx_pl_in (r := 15) hk hx hs hl (fun z => by omega) (fun _ post p1 _ => xx_rf14 hoc ho (by rw [if_neg (by omega)]; exact p1 (by decide))) (fun _ _ => hE') (fun z => absurd z (by decide)) (fun z => absurd z (by decide))
    · have hy : yt_k c + 1 = xg_k c := by rcases e2 with z | z | z <;> subst z <;> decide
      exact xx_pl_in (r := 0) hk hx hs hl (fun z => by omega) (fun _ post _ p0 => xx_ref0 (by rcases e2 with z | z | z <;> subst z <;> decide) (p0 rfl)) (fun z => absurd rfl z) (fun _ _ _ => hE') (fun _ _ z => by omega)
  · rcases h with ⟨e, h0, h1, h2, h3, h4⟩ | ⟨z, y, s, e, hA, h1, h2, h3, h4⟩ | ⟨e, z, s, e1, h0, h1, h2, h3, h4⟩ | ⟨e, z, s, e1, h1, h2, h3, h4⟩ | ⟨e, z, y, s, e1, h1, h2, h3, h4⟩ | ⟨e, z, y, s, e1, h0, h1, h2, h3, h4⟩ | ⟨e, z, y, w, s, e1, h1, h2, h3, h4⟩ | ⟨e, b, s, e1, h0, h1, h2, h3, h4⟩ | ⟨e, b, y, s, e1, h0, h1, h2, h3, h4⟩ | ⟨e, z, s, e1, h0, h1, h2, h3, h4⟩
    · subst l' o' ou' ce'
      subst e
      have hy : yt_k 0 = 0 := by decide
      have hg : xg_k 0 = 1 := by decide
      refine ⟨upd sk l.length a, fun _ => st_p hst, fun Q hE hG => ?_⟩
      have hG2 := hG hr
      refine xx_pl_in (r := 0) (l := l) hk hx hs hl (fun z => by omega) (fun _ post _ p0 => xx_ref0 (by decide) (p0 rfl)) (fun z => absurd rfl z) (fun _ _ z => by omega) (fun _ _ _ => ?_)
      rw [hoa]
      subst hoc
      exact xx_wk_0 hs h0 hG2
    · subst l' o' ou' ce'
      subst e
      have hc4 : sk_A c ∨ c = 4 := by rcases hA with q | q; exact Or.inl q; exact Or.inr q.1
      have hy : yt_k c = 2 := by rcases hc4 with (q | q | q | q | q) | q <;> subst q <;> decide
      have hg : xg_k c = 1 := by rcases hc4 with (q | q | q | q | q) | q <;> subst q <;> decide
      simp only [List.length_cons] at hl hs
      refine ⟨upd sk s.length (sk_w c y z), fun _ => st_p hst.2.2, fun Q hE hG => ?_⟩
      have hG2 := hG hr
      refine xx_pl_in (r := 0) (l := z :: y :: s) hk hx hs hl (fun z => by simp only [List.length_cons] at z; omega) (fun _ post _ p0 => by
        rcases hA with q | ⟨q, q2⟩
        · exact xx_ref0 (by rcases q with q | q | q | q | q <;> subst q <;> decide) (p0 rfl)
        · subst q; exact xx_rf4 (l := z :: y :: s) hs hl hst (by simp) (by rw [if_neg (show ¬ st_g (z :: y :: s) 0 = 0 from q2)]; exact p0 rfl)) (fun z => absurd rfl z) (fun _ _ z => by simp only [List.length_cons] at z; omega) (fun _ _ _ => ?_)
      rw [hoa]
      subst hoc
      refine xx_wk_a hc4 (n := s.length) hs hl ?_
      have hz : sk (s.length + 1) = z := hst.1
      have hy2 : sk s.length = y := hst.2.1
      rw [hz, hy2]
      exact hG2
    · subst l' o' ou' ce'
      subst e e1
      have hy : yt_k 5 = 1 := by decide
      have hg : xg_k 5 = 2 := by decide
      simp only [List.length_cons] at hl hs h0
      refine ⟨upd sk (s.length + 1) z, fun _ => st_p (l := z :: s) hst, fun Q hE hG => ?_⟩
      have hG2 := hG hr
      refine xx_pl_in (r := 0) (l := z :: s) hk hx hs hl (fun z => by simp only [List.length_cons] at z; omega) (fun _ post _ p0 => xx_ref0 (by decide) (p0 rfl)) (fun z => absurd rfl z) (fun _ _ z => by simp only [List.length_cons] at z; omega) (fun _ _ _ => ?_)
      rw [hoa]
      subst hoc
      refine xx_wk_5 (n := s.length) hs h0 ?_
      have hz : sk s.length = z := hst.1
      rw [hz]
      exact hG2
    · subst l' o' ou' ce'
      subst e e1
      have hy : yt_k 6 = 1 := by decide
      have hg : xg_k 6 = 0 := by decide
      simp only [List.length_cons] at hl hs
      refine ⟨sk, fun _ => hst.2, fun Q hE hG => ?_⟩
      have hG2 := hG hr
      refine xx_pl_in (r := 0) (l := z :: s) hk hx hs hl (fun z => by simp only [List.length_cons] at z; omega) (fun _ post _ p0 => xx_ref0 (by decide) (p0 rfl)) (fun z => absurd rfl z) (fun _ _ z => by simp only [List.length_cons] at z; omega) (fun _ _ _ => ?_)
      rw [hoa]
      subst hoc
      exact xx_wk_6 (n := s.length) hs hG2
    · subst l' o' ou' ce'
      subst e e1
      have hy : yt_k 7 = 2 := by decide
      have hg : xg_k 7 = 2 := by decide
      simp only [List.length_cons] at hl hs
      refine ⟨upd (upd sk s.length z) (s.length + 1) y, fun _ => st_p (x := y) (st_p (x := z) hst.2.2), fun Q hE hG => ?_⟩
      have hG2 := hG hr
      refine xx_pl_in (r := 0) (l := z :: y :: s) hk hx hs hl (fun z => by simp only [List.length_cons] at z; omega) (fun _ post _ p0 => xx_ref0 (by decide) (p0 rfl)) (fun z => absurd rfl z) (fun _ _ z => by simp only [List.length_cons] at z; omega) (fun _ _ _ => ?_)
      rw [hoa]
      subst hoc
      have hz : sk (s.length + 1) = z := hst.1
      have hy2 : sk s.length = y := hst.2.1
      refine xx_wk_7 (n := s.length) hs hl ?_
      rw [hz, hy2, hs]
      exact hG2
    · subst l' o' ou' ce'
      subst e e1
      have hy : yt_k 8 = 2 := by decide
      have hg : xg_k 8 = 3 := by decide
      simp only [List.length_cons] at hl hs h0
      refine ⟨upd sk (s.length + 2) y, fun _ => st_p (l := z :: y :: s) hst, fun Q hE hG => ?_⟩
      have hG2 := hG hr
      refine xx_pl_in (r := 0) (l := z :: y :: s) hk hx hs hl (fun z => by simp only [List.length_cons] at z; omega) (fun _ post _ p0 => xx_ref0 (by decide) (p0 rfl)) (fun z => absurd rfl z) (fun _ _ z => by simp only [List.length_cons] at z; omega) (fun _ _ _ => ?_)
      rw [hoa]
      subst hoc
      have hy2 : sk s.length = y := hst.2.1
      refine xx_wk_8 (n := s.length) hs h0 ?_
      rw [hy2]
      exact hG2
    · subst l' o' ou' ce'
      subst e e1
      have hy : yt_k 9 = 3 := by decide
      have hg : xg_k 9 = 3 := by decide
      simp only [List.length_cons] at hl hs
      refine ⟨upd (upd (upd sk s.length y) (s.length + 1) z) (s.length + 2) w, fun _ => st_p (x := w) (st_p (x := z) (st_p (x := y) hst.2.2.2)), fun Q hE hG => ?_⟩
      have hG2 := hG hr
      refine xx_pl_in (r := 0) (l := z :: y :: w :: s) hk hx hs hl (fun z => by simp only [List.length_cons] at z; omega) (fun _ post _ p0 => xx_ref0 (by decide) (p0 rfl)) (fun z => absurd rfl z) (fun _ _ z => by simp only [List.length_cons] at z; omega) (fun _ _ _ => ?_)
      rw [hoa]
      subst hoc
      have hz : sk (s.length + 2) = z := hst.1
      have hy2 : sk (s.length + 1) = y := hst.2.1
      have hw : sk s.length = w := hst.2.2.1
      refine xx_wk_9 (n := s.length) hs hl ?_
      rw [hz, hy2, hw, hs]
      exact hG2
    · subst l' o' ou' ce'
      subst e e1
      have hy : yt_k 12 = 1 := by decide
      have hg : xg_k 12 = 1 := by decide
      simp only [List.length_cons] at hl hs
      refine ⟨upd sk s.length (ce b), fun _ => st_p (x := ce b) hst.2, fun Q hE hG => ?_⟩
      have hG2 := hG hr
      refine xx_pl_in (r := 0) (l := nI b :: s) hk hx hs hl (fun z => by simp only [List.length_cons] at z; omega) (fun _ post _ p0 => xx_rf12 (l := nI b :: s) (Or.inl rfl) hs hl hst hvs (by simp) (fun _ => p0 rfl) (fun q => absurd ⟨show ¬ nI b < 0 from nI_pos (by omega), show nI b < nI nvv from nI_lt h0 (by omega)⟩ q)) (fun z => absurd rfl z) (fun _ _ z => by simp only [List.length_cons] at z; omega) (fun _ _ _ => ?_)
      rw [hoa]
      subst hoc
      have hz : sk s.length = nI b := hst.1
      refine xx_wk_12 (n := s.length) hs hl hz (by omega) ?_
      rw [hs]
      exact hG2
    · subst l' o' ou' ce'
      subst e e1
      have hy : yt_k 13 = 2 := by decide
      have hg : xg_k 13 = 0 := by decide
      simp only [List.length_cons] at hl hs
      refine ⟨sk, fun _ => hst.2.2, fun Q hE hG => ?_⟩
      have hG2 := hG hr
      refine xx_pl_in (r := 0) (l := nI b :: y :: s) hk hx hs hl (fun z => by simp only [List.length_cons] at z; omega) (fun _ post _ p0 => xx_rf12 (l := nI b :: y :: s) (Or.inr rfl) hs hl hst hvs (by simp) (fun _ => p0 rfl) (fun q => absurd ⟨show ¬ nI b < 0 from nI_pos (by omega), show nI b < nI nvv from nI_lt h0 (by omega)⟩ q)) (fun z => absurd rfl z) (fun _ _ z => by simp only [List.length_cons] at z; omega) (fun _ _ _ => ?_)
      rw [hoa]
      subst hoc
      have hz : sk (s.length + 1) = nI b := hst.1
      have hy2 : sk s.length = y := hst.2.1
      refine xx_wk_13 (n := s.length) hs hl hz (by omega) ?_
      rw [hy2]
      exact hG2
    · subst l' o' ou' ce'
      subst e e1
      have hy : yt_k 14 = 1 := by decide
      have hg : xg_k 14 = 0 := by decide
      simp only [List.length_cons] at hl hs
      refine ⟨sk, fun _ => hst.2, fun Q hE hG => ?_⟩
      have hG2 := hG hr
      refine xx_pl_in (r := 0) (l := z :: s) hk hx hs hl (fun z => by simp only [List.length_cons] at z; omega) (fun _ post _ p0 => xx_rf14 hoc ho (by rw [if_pos h0]; exact p0 rfl)) (fun z => absurd rfl z) (fun _ _ z => by simp only [List.length_cons] at z; omega) (fun _ _ _ => ?_)
      rw [hoa]
      have hz : sk s.length = z := hst.1
      refine xx_wk_14 (n := s.length) hs hl hoc h0 ?_
      rw [hz]
      exact hG2
end
def yE (cd ar : Nat → Int32) (T p : Nat) (ec ev : Int32) : Prop :=
  (sk_pl (cd p) ∧ ec = cd p ∧ ev = ar p) ∨ (cd p = 15 ∧ ∃ d, sk_f cd ar (ar p) T = some d ∧ cd d = 28 ∧ ec = 0 ∧ ev = nI (sk_v cd d))
section
variable {tk tr ea dp yo lv yt : Int32} {cd ar ys yu yc yp yn ye : Nat → Int32} {T p L t o o' : Nat} {l l' : List Int32} {ec ev r : Int32} {ou' ce' : Nat → Int32}
theorem yy_effE (H : yH cd ar T p L t o l tk lv yt dp yo ys) (hI : sk_I cd p = true) (hE : yE cd ar T p ec ev) (h : pm (sk_v cd T) ec ev l o yu yc r l' o' ou' ce') (hr : ¬ r = 0) : ∀ P : Int32 → Prop, P r → wpY_obstacle P (tk, tr, ea, dp, yo, lv, yt, cd, ar, ys, yu, yc, yp, yn, ye) (nI p) := by
  intro P hP
  have hq : (r = 11 ∧ l.length < yt_k ec) ∨ (r = 13 ∧ ec = 4 ∧ 2 ≤ l.length ∧ st_g l 0 = 0) ∨
    (r = 14 ∧ (ec = 12 ∨ ec = 13) ∧ yt_k ec ≤ l.length ∧ ¬ (¬ st_g l 0 < 0 ∧ st_g l 0 < nI (sk_v cd T))) ∨ (r = 15 ∧ ec = 14 ∧ 1 ≤ l.length ∧ o = 16) ∨
    (r = 12 ∧ (ec = 0 ∨ ec = 5 ∨ ec = 8) ∧ yt_k ec ≤ l.length ∧ l.length = 16) := by
    rcases h with h | h
    · exact h.2
    · exact absurd h.1 hr
  rcases hE with ⟨hc, e1, e2⟩ | ⟨c15, d, hd, h28, e1, e2⟩
  · subst e1 e2
    have n15 := (sk_pl_n hc).1
    have nh : ¬ cd p = 20 ∧ ¬ cd p = 22 ∧ ¬ cd p = 24 ∧ ¬ cd p = 25 := by
      have e : ∀ z : Int32, ¬ z ≤ 14 → ¬ cd p = z := fun z hz y => hz (by rw [← y]; exact hc.2)
      exact ⟨e _ (by decide), e _ (by decide), e _ (by decide), e _ (by decide)⟩
    have h2024 : ¬ ((cd p = 20 ∧ st_g l 0 = 0) ∨ cd p = 22 ∨ cd p = 24) := fun z => by rcases z with z | z | z; exact nh.1 z.1; exact nh.2.1 z; exact nh.2.2.1 z
    rcases hq with ⟨e, h⟩ | ⟨e, e2, h, h'⟩ | ⟨e, e2, h, h'⟩ | ⟨e, e2, h, h'⟩ | ⟨e, e2, h, h'⟩ <;> subst e
    · by_cases g4 : cd p = 4
      · have hy : yt_k (cd p) = 2 := by rw [g4]; decide
        exact yy_ob4 H hI g4 (fun _ => hP) (fun z => by omega) (fun z => by omega)
      · by_cases g12 : cd p = 12 ∨ cd p = 13
        · exact yy_ob12 H hI g12 (fun _ => hP) (fun z => by omega) (fun z => by omega)
        · by_cases g14 : cd p = 14
          · have hy : yt_k (cd p) = 1 := by rw [g14]; decide
            exact yy_ob14 H hI g14 (fun _ => hP) (fun z => by omega) (fun z => by omega)
          · refine yy_ob H hI (fun z => ?_) (fun z => absurd z n15) (fun _ => hP) (fun z => by omega) (fun z z2 => ?_) (fun z => by omega)
            · rcases z with z | z | z | z
              · exact g4 z
              · exact g12 (Or.inl z)
              · exact g12 (Or.inr z)
              · exact g14 z
            · exfalso
              have : yt_k (cd p) ≤ 3 := by rw [yt_k]; split; omega; split; omega; split <;> omega
              omega
    · exact yy_ob4 H hI e2 (fun z => by omega) (fun _ _ => hP) (fun _ z => absurd h' z)
    · exact yy_ob12 H hI e2 (fun z => by omega) (fun _ _ => hP) (fun _ z => absurd z h')
    · exact yy_ob14 H hI e2 (fun z => by omega) (fun _ _ => hP) (fun _ z => by omega)
    · refine yy_ob H hI ?_ (fun z => absurd z n15) (fun z => by omega) (fun _ _ z => absurd z h2024) (fun _ _ => hP) (fun _ _ z => ?_)
      · rcases e2 with z | z | z <;> rw [z] <;> decide
      · have := z (by rcases e2 with q | q | q; exact Or.inl q; exact Or.inr (Or.inl q); exact Or.inr (Or.inr (Or.inl q)))
        omega
  · subst e1 e2
    have y0 : yt_k 0 = 0 := by decide
    have y15 : yt_k (cd p) = 0 := by rw [c15]; decide
    rcases hq with ⟨e, h⟩ | ⟨e, e2, h, h'⟩ | ⟨e, e2, h, h'⟩ | ⟨e, e2, h, h'⟩ | ⟨e, e2, h, h'⟩ <;> subst e
    · omega
    · exact absurd e2 (by decide)
    · exact absurd e2 (by decide)
    · exact absurd e2 (by decide)
    · refine yy_ob H hI (by rw [c15]; decide) (fun _ d' hd' => by rw [hd] at hd'; cases hd'; rw [h28]; decide) (fun z => by omega) (fun _ _ z => by rw [c15] at z; exact absurd z (by simp)) (fun _ _ => hP) (fun _ _ z => ?_)
      have := z (Or.inr (Or.inr (Or.inr (Or.inr c15))))
      omega
theorem yy_eff0 (H : yH cd ar T p L t o l tk lv yt dp yo ys) (hI : sk_I cd p = true) (hE : yE cd ar T p ec ev) (h : pm (sk_v cd T) ec ev l o yu yc r l' o' ou' ce') (hr : r = 0) (hv : sk_v cd T ≤ 12) :
    (∀ P : Int32 → Prop, P 0 → wpY_obstacle P (tk, tr, ea, dp, yo, lv, yt, cd, ar, ys, yu, yc, yp, yn, ye) (nI p)) ∧ ∃ ys', st_S ys' l' ∧ ∀ Q : SY → Prop, Q (tk, tr, ea, nI l'.length, nI o', lv, yt, cd, ar, ys', ou', ce', upd yp L (nI (p + 1)), yn, ye) → wpY_carryOut Q (tk, tr, ea, dp, yo, lv, yt, cd, ar, ys, yu, yc, yp, yn, ye) (nI p) := by
  obtain ⟨⟨a1, a2, a3, a4, a5⟩, ⟨b1, b2, b3, b4⟩, ⟨c1, c2, c3, c4, c5⟩⟩ := id H
  have hq : (ec = 0 ∧ l.length < 16 ∧ l' = ev :: l ∧ o' = o ∧ ou' = yu ∧ ce' = yc) ∨
    (∃ z y s, l = z :: y :: s ∧ (sk_A ec ∨ (ec = 4 ∧ ¬ z = 0)) ∧ l' = sk_w ec y z :: s ∧ o' = o ∧ ou' = yu ∧ ce' = yc) ∨
    (ec = 5 ∧ ∃ z s, l = z :: s ∧ l.length < 16 ∧ l' = z :: z :: s ∧ o' = o ∧ ou' = yu ∧ ce' = yc) ∨
    (ec = 6 ∧ ∃ z s, l = z :: s ∧ l' = s ∧ o' = o ∧ ou' = yu ∧ ce' = yc) ∨
    (ec = 7 ∧ ∃ z y s, l = z :: y :: s ∧ l' = y :: z :: s ∧ o' = o ∧ ou' = yu ∧ ce' = yc) ∨
    (ec = 8 ∧ ∃ z y s, l = z :: y :: s ∧ l.length < 16 ∧ l' = y :: z :: y :: s ∧ o' = o ∧ ou' = yu ∧ ce' = yc) ∨
    (ec = 9 ∧ ∃ z y x s, l = z :: y :: x :: s ∧ l' = x :: z :: y :: s ∧ o' = o ∧ ou' = yu ∧ ce' = yc) ∨
    (ec = 12 ∧ ∃ b s, l = nI b :: s ∧ b < sk_v cd T ∧ l' = yc b :: s ∧ o' = o ∧ ou' = yu ∧ ce' = yc) ∨
    (ec = 13 ∧ ∃ b y s, l = nI b :: y :: s ∧ b < sk_v cd T ∧ l' = s ∧ o' = o ∧ ou' = yu ∧ ce' = upd yc b y) ∨
    (ec = 14 ∧ ∃ z s, l = z :: s ∧ o < 16 ∧ l' = s ∧ o' = o + 1 ∧ ou' = upd yu o z ∧ ce' = yc) := by
    rcases h with h | h
    · exact absurd hr h.1
    · exact h.2
  rcases hE with ⟨hc, e1, e2⟩ | ⟨c15, d, hd, h28, e1, e2⟩
  · subst e1 e2
    have n15 := (sk_pl_n hc).1
    have nh : ¬ cd p = 20 ∧ ¬ cd p = 22 ∧ ¬ cd p = 24 ∧ ¬ cd p = 25 := by
      have e : ∀ z : Int32, ¬ z ≤ 14 → ¬ cd p = z := fun z hz y => hz (by rw [← y]; exact hc.2)
      exact ⟨e _ (by decide), e _ (by decide), e _ (by decide), e _ (by decide)⟩
    have h2024 : ¬ ((cd p = 20 ∧ st_g l 0 = 0) ∨ cd p = 22 ∨ cd p = 24) := fun z => by rcases z with z | z | z; exact nh.1 z.1; exact nh.2.1 z; exact nh.2.2.1 z
    have ob : ¬ (cd p = 4 ∨ cd p = 12 ∨ cd p = 13 ∨ cd p = 14) → yt_k (cd p) ≤ l.length → ((cd p = 0 ∨ cd p = 5 ∨ cd p = 8) → l.length < 16) → ∀ P : Int32 → Prop, P 0 → wpY_obstacle P (tk, tr, ea, dp, yo, lv, yt, cd, ar, ys, yu, yc, yp, yn, ye) (nI p) := by
      intro q1 q2 q3 P hP
      refine yy_ob H hI q1 (fun z => absurd z n15) (fun z => by omega) (fun _ _ z => absurd z h2024) (fun z z2 => ?_) (fun _ _ _ => hP)
      exfalso
      rcases z with z | z | z | z | z
      · have := q3 (Or.inl z); omega
      · have := q3 (Or.inr (Or.inl z)); omega
      · have := q3 (Or.inr (Or.inr z)); omega
      · exact nh.2.2.2 z
      · exact n15 z
    rcases hq with ⟨e, h0, h1, h2, h3, h4⟩ | ⟨z, y, s, e, hA, h1, h2, h3, h4⟩ | ⟨e, z, s, e1, h0, h1, h2, h3, h4⟩ | ⟨e, z, s, e1, h1, h2, h3, h4⟩ | ⟨e, z, y, s, e1, h1, h2, h3, h4⟩ | ⟨e, z, y, s, e1, h0, h1, h2, h3, h4⟩ | ⟨e, z, y, w, s, e1, h1, h2, h3, h4⟩ | ⟨e, b, s, e1, h0, h1, h2, h3, h4⟩ | ⟨e, b, y, s, e1, h0, h1, h2, h3, h4⟩ | ⟨e, z, s, e1, h0, h1, h2, h3, h4⟩ <;> subst l' o' ou' ce'
    · refine ⟨ob (by rw [e]; decide) (by rw [e]; exact Nat.zero_le _) (fun _ => h0), _, st_p c3, fun Q hQ => yy_co_pl H hc (fun R hR => yy_pl_0 H hI e h0 hR) ?_⟩
      subst c4; exact hQ
    · have hst := c3
      subst e
      simp only [List.length_cons] at c2
      have hcc : cd p = 1 ∨ cd p = 2 ∨ cd p = 3 ∨ cd p = 10 ∨ cd p = 11 ∨ (cd p = 4 ∧ ¬ z = 0) := by
        rcases hA with (q | q | q | q | q) | q
        · exact Or.inl q
        · exact Or.inr (Or.inl q)
        · exact Or.inr (Or.inr (Or.inl q))
        · exact Or.inr (Or.inr (Or.inr (Or.inl q)))
        · exact Or.inr (Or.inr (Or.inr (Or.inr (Or.inl q))))
        · exact Or.inr (Or.inr (Or.inr (Or.inr (Or.inr q))))
      refine ⟨?_, _, st_p hst.2.2, ?_⟩
      · rcases hcc with q | q | q | q | q | q
        · exact ob (by rw [q]; decide) (by rw [q]; show 2 ≤ _; simp) (fun w => by rw [q] at w; exact absurd w (by decide))
        · exact ob (by rw [q]; decide) (by rw [q]; show 2 ≤ _; simp) (fun w => by rw [q] at w; exact absurd w (by decide))
        · exact ob (by rw [q]; decide) (by rw [q]; show 2 ≤ _; simp) (fun w => by rw [q] at w; exact absurd w (by decide))
        · exact ob (by rw [q]; decide) (by rw [q]; show 2 ≤ _; simp) (fun w => by rw [q] at w; exact absurd w (by decide))
        · exact ob (by rw [q]; decide) (by rw [q]; show 2 ≤ _; simp) (fun w => by rw [q] at w; exact absurd w (by decide))
        · exact fun P hP => yy_ob4 H hI q.1 (fun w => by simp only [List.length_cons] at w; omega) (fun _ w => absurd w q.2) (fun _ _ => hP)
      · intro Q hQ
        subst c4
        rcases hcc with q | q | q | q | q | q
        · rw [q] at hQ; exact yy_co_pl H hc (fun R hR => yy_pl_1 H hI q rfl hR) hQ
        · rw [q] at hQ; exact yy_co_pl H hc (fun R hR => yy_pl_2 H hI q rfl hR) hQ
        · rw [q] at hQ; exact yy_co_pl H hc (fun R hR => yy_pl_3 H hI q rfl hR) hQ
        · rw [q] at hQ; exact yy_co_pl H hc (fun R hR => yy_pl_10 H hI q rfl hR) hQ
        · rw [q] at hQ; exact yy_co_pl H hc (fun R hR => yy_pl_11 H hI q rfl hR) hQ
        · rw [q.1] at hQ; exact yy_co_pl H hc (fun R hR => yy_pl_4 H hI q.1 rfl hR) hQ
    · have hst := c3
      subst e1
      refine ⟨ob (by rw [e]; decide) (by rw [e]; show 1 ≤ _; simp) (fun w => h0), _, st_p (st_p (x := z) hst.2), fun Q hQ => yy_co_pl H hc (fun R hR => yy_pl_5 H hI e rfl h0 hR) ?_⟩
      subst c4; exact hQ
    · have hst := c3
      subst e1
      refine ⟨ob (by rw [e]; decide) (by rw [e]; show 1 ≤ _; simp) (fun w => by rw [e] at w; exact absurd w (by decide)), _, hst.2, fun Q hQ => yy_co_pl H hc (fun R hR => yy_pl_6 H hI e rfl hR) ?_⟩
      subst c4; exact hQ
    · have hst := c3
      subst e1
      refine ⟨ob (by rw [e]; decide) (by rw [e]; show 2 ≤ _; simp) (fun w => by rw [e] at w; exact absurd w (by decide)), _, st_p (x := y) (st_p (x := z) hst.2.2), fun Q hQ => yy_co_pl H hc (fun R hR => yy_pl_7 H hI e rfl hR) ?_⟩
      subst c4; exact hQ
    · have hst := c3
      subst e1
      refine ⟨ob (by rw [e]; decide) (by rw [e]; show 2 ≤ _; simp) (fun w => h0), _, st_p (x := y) (st_p (x := z) (st_p (x := y) hst.2.2)), fun Q hQ => yy_co_pl H hc (fun R hR => yy_pl_8 H hI e rfl h0 hR) ?_⟩
      subst c4; exact hQ
    · have hst := c3
      subst e1
      refine ⟨ob (by rw [e]; decide) (by rw [e]; show 3 ≤ _; simp) (fun w => by rw [e] at w; exact absurd w (by decide)), _, st_p (x := w) (st_p (x := z) (st_p (x := y) hst.2.2.2)), fun Q hQ => yy_co_pl H hc (fun R hR => yy_pl_9 H hI e rfl hR) ?_⟩
      subst c4; exact hQ
    · have hst := c3
      subst e1
      refine ⟨fun P hP => yy_ob12 H hI (Or.inl e) (fun w => by rw [e] at w; exact absurd (show (nI b :: s).length < 1 from w) (by simp)) (fun _ w => absurd ⟨show ¬ nI b < 0 from nI_pos (by omega), show nI b < nI (sk_v cd T) from nI_lt h0 (by omega)⟩ w) (fun _ _ => hP), _, st_p (x := yc b) hst.2, fun Q hQ => yy_co_pl H hc (fun R hR => yy_pl_12 H hI e rfl (by omega) hR) ?_⟩
      subst c4; exact hQ
    · have hst := c3
      subst e1
      refine ⟨fun P hP => yy_ob12 H hI (Or.inr e) (fun w => by rw [e] at w; exact absurd (show (nI b :: y :: s).length < 2 from w) (by simp)) (fun _ w => absurd ⟨show ¬ nI b < 0 from nI_pos (by omega), show nI b < nI (sk_v cd T) from nI_lt h0 (by omega)⟩ w) (fun _ _ => hP), _, hst.2.2, fun Q hQ => yy_co_pl H hc (fun R hR => yy_pl_13 H hI e rfl (by omega) hR) ?_⟩
      subst c4; exact hQ
    · have hst := c3
      subst e1
      refine ⟨fun P hP => yy_ob14 H hI e (fun w => absurd w (by simp)) (fun _ w => by omega) (fun _ _ => hP), _, hst.2, fun Q hQ => yy_co_pl H hc (fun R hR => yy_pl_14 H hI e rfl h0 hR) ?_⟩
      subst c4; exact hQ
  · subst e1 e2
    have y15 : yt_k (cd p) = 0 := by rw [c15]; decide
    rcases hq with ⟨e, h0, h1, h2, h3, h4⟩ | ⟨z, y, s, e, hA, h1, h2, h3, h4⟩ | ⟨e, _⟩ | ⟨e, _⟩ | ⟨e, _⟩ | ⟨e, _⟩ | ⟨e, _⟩ | ⟨e, _⟩ | ⟨e, _⟩ | ⟨e, _⟩
    · subst l' o' ou' ce'
      refine ⟨fun P hP => ?_, _, st_p c3, fun Q hQ => yy_co_var H c15 hd h28 h0 ?_⟩
      · exact yy_ob H hI (by rw [c15]; decide) (fun _ d' hd' => by rw [hd] at hd'; cases hd'; rw [h28]; decide) (fun z => by omega) (fun _ _ z => by rw [c15] at z; exact absurd z (by simp)) (fun _ z => by omega) (fun _ _ _ => hP)
      · subst c4; exact hQ
    · exact absurd hA (by simp)
    all_goals exact absurd e (by decide)
end
end
section
/-! X performs one operation -/
section
variable {tk tr ep ln vs ii cn da pl nf pt sp oc rn tu so : Int32} {cd ar op oa ob nk nv wt cf cc ps pa pe sk ou ce bk ct lm : Nat → Int32} {x n m t L b j : Nat} {Q : Int32 → SX → Prop}
theorem xx_pfP {nvv o o' : Nat} {a c r : Int32} {l l' : List Int32} {ou' ce' : Nat → Int32} (h : pm nvv c a l o ou ce r l' o' ou' ce') (hc : sk_pl c) (hx : x < 256) (hop : op x = c) (hs : sp = nI l.length) (hl : l.length ≤ 16) (hst : st_S sk l) (hoc : oc = nI o) (ho : o ≤ 16) (hvs : vs = nI nvv) (hv : nvv ≤ 12) (hoa : oa x = a)
    : ∃ sk', (r = 0 → st_S sk' l') ∧ ∀ Q : Int32 → SX → Prop, (¬ r = 0 → Q (nI x) (tk, tr, ep, ln, vs, ii, cn, da, pl, nf, pt, sp, oc, rn, tu, r, cd, ar, op, oa, ob, nk, nv, wt, cf, cc, ps, pa, pe, sk, ou, ce, bk, ct, lm)) → (r = 0 → Q (nI (x + 1)) (tk, tr, ep, ln, vs, ii, cn, da, pl, nf, pt, nI l'.length, nI o', rn, tu, so, cd, ar, op, oa, ob, nk, nv, wt, cf, cc, ps, pa, pe, sk', ou', ce', bk, ct, lm)) → wpX_perform Q (tk, tr, ep, ln, vs, ii, cn, da, pl, nf, pt, sp, oc, rn, tu, so, cd, ar, op, oa, ob, nk, nv, wt, cf, cc, ps, pa, pe, sk, ou, ce, bk, ct, lm) (nI x) := by
  have hk : ∃ k : Nat, k ≤ 14 ∧ c = nI k := nI_of2 (M := 14) (n := 14) (by decide) hc.1 hc.2
  obtain ⟨sk', g1, g2⟩ := xx_pl (tk := tk) (tr := tr) (ep := ep) (ln := ln) (vs := vs) (ii := ii) (cn := cn) (da := da) (pl := pl) (nf := nf) (pt := pt) (sp := sp) (oc := oc) (rn := rn) (tu := tu) (so := so) (cd := cd) (ar := ar) (op := op) (oa := oa) (ob := ob) (nk := nk) (nv := nv) (wt := wt) (cf := cf) (cc := cc) (ps := ps) (pa := pa) (pe := pe) (sk := sk) (bk := bk) (ct := ct) (lm := lm) h hk hx hs hl hst hoc ho hvs hv hoa
  refine ⟨sk', g1, fun Q hE hG => ?_⟩
  refine And.intro (vp_in_nI hx (by decide)) (nm_r (e' := c) (by rw [nI_clamp (show x < 2 ^ 31 by omega)]; exact hop) (br_f (Int32.not_lt.mpr hc.2) ?_))
  exact g2 _ hE hG
theorem xx_pf27 (hx : x < 256) (hop : op x = 27) (hrn : rn = nI (L + 1)) (hL : L < 8) (h0 : L = 0 → Q (nI x) (tk, tr, ep, ln, vs, ii, cn, da, pl, nf, pt, sp, oc, 0, tu, so, cd, ar, op, oa, ob, nk, nv, wt, cf, cc, ps, pa, pe, sk, ou, ce, bk, ct, lm)) (h1 : 0 < L → Q (bk L) (tk, tr, ep, ln, vs, ii, cn, da, pl, nf, pt, sp, oc, nI L, tu, so, cd, ar, op, oa, ob, nk, nv, wt, cf, cc, ps, pa, pe, sk, ou, ce, bk, ct, lm)) : wpX_perform Q (tk, tr, ep, ln, vs, ii, cn, da, pl, nf, pt, sp, oc, rn, tu, so, cd, ar, op, oa, ob, nk, nv, wt, cf, cc, ps, pa, pe, sk, ou, ce, bk, ct, lm) (nI x) := by
  refine And.intro (vp_in_nI hx (by decide)) (nm_r (e' := 27) (by rw [nI_clamp (show x < 2 ^ 31 by omega)]; exact hop) (br_t (by decide) (br_t (by decide) (br_t rfl (nm_r (e' := nI L) (by rw [hrn, nI_pred]) ?_)))))
  by_cases e : L = 0
  · subst e; exact br_t (by decide) (h0 rfl)
  · refine br_f (nI_nle (by omega) (by omega)) (And.intro (vp_in_nI hL (by decide)) ?_)
    rw [nI_clamp (show L < 2 ^ 31 by omega)]
    exact h1 (by omega)
theorem xx_pf17 (hx : x < 256) (hop : op x = 17) (h : Q (oa x) (tk, tr, ep, ln, vs, ii, cn, da, pl, nf, pt, sp, oc, rn, tu, so, cd, ar, op, oa, ob, nk, nv, wt, cf, cc, ps, pa, pe, sk, ou, ce, bk, ct, lm)) : wpX_perform Q (tk, tr, ep, ln, vs, ii, cn, da, pl, nf, pt, sp, oc, rn, tu, so, cd, ar, op, oa, ob, nk, nv, wt, cf, cc, ps, pa, pe, sk, ou, ce, bk, ct, lm) (nI x) := by
  have hc : (nI x).toNatClampNeg = x := nI_clamp (by omega)
  refine And.intro (vp_in_nI hx (by decide)) (nm_r (e' := 17) (by rw [hc]; exact hop) (br_t (by decide) (br_t (by decide) (br_f (by decide) (br_t rfl (And.intro (vp_in_nI hx (by decide)) ?_))))))
  rw [hc]; exact h
theorem xx_pf29 (hx : x < 256) (hop : op x = 29) (hrn : rn = nI (L + 1)) (hL : L < 8) (htu : tu = nI t) (ht : t ≤ 200)
    (h16 : t = 200 → Q (nI x) (tk, tr, ep, ln, vs, ii, cn, da, pl, nf, pt, sp, oc, rn, tu, 16, cd, ar, op, oa, ob, nk, nv, wt, cf, cc, ps, pa, pe, sk, ou, ce, bk, ct, lm)) (h17 : t < 200 → L = 7 → Q (nI x) (tk, tr, ep, ln, vs, ii, cn, da, pl, nf, pt, sp, oc, rn, tu, 17, cd, ar, op, oa, ob, nk, nv, wt, cf, cc, ps, pa, pe, sk, ou, ce, bk, ct, lm)) (h : t < 200 → L < 7 → Q (nI (x + 1)) (tk, tr, ep, ln, vs, ii, cn, da, pl, nf, pt, sp, oc, rn, nI (t + 1), so, cd, ar, op, oa, ob, nk, nv, wt, cf, cc, ps, pa, pe, sk, ou, ce, bk, ct, lm)) : wpX_perform Q (tk, tr, ep, ln, vs, ii, cn, da, pl, nf, pt, sp, oc, rn, tu, so, cd, ar, op, oa, ob, nk, nv, wt, cf, cc, ps, pa, pe, sk, ou, ce, bk, ct, lm) (nI x) := by
  have hc : (nI x).toNatClampNeg = x := nI_clamp (by omega)
  refine And.intro (vp_in_nI hx (by decide)) (nm_r (e' := 29) (by rw [hc]; exact hop) (br_t (by decide) (br_t (by decide) (br_f (by decide) (br_f (by decide) (br_f (by decide) (br_t rfl ?_)))))))
  by_cases e : t = 200
  · exact br_f (by rw [htu, e]; decide) (h16 e)
  · refine br_t (by rw [htu]; exact nI_lt (b := 200) (by omega) (by decide)) ?_
    by_cases e7 : L = 7
    · exact br_f (by rw [hrn, e7]; decide) (h17 (by omega) e7)
    · exact br_t (by rw [hrn]; exact nI_lt (b := 8) (by omega) (by decide)) (nm_r (e' := nI (t + 1)) (by rw [htu, nI_1]) (br_t rfl (by rw [nI_1]; exact h (by omega) (by omega))))
theorem xx_pf15 (hx : x < 256) (hop : op x = 15) (hrn : rn = nI (L + 1)) (hL : L < 8) (htu : tu = nI t) (ht : t ≤ 200)
    (h16 : t = 200 → Q (nI x) (tk, tr, ep, ln, vs, ii, cn, da, pl, nf, pt, sp, oc, rn, tu, 16, cd, ar, op, oa, ob, nk, nv, wt, cf, cc, ps, pa, pe, sk, ou, ce, bk, ct, lm)) (h17 : t < 200 → L = 7 → Q (nI x) (tk, tr, ep, ln, vs, ii, cn, da, pl, nf, pt, sp, oc, rn, tu, 17, cd, ar, op, oa, ob, nk, nv, wt, cf, cc, ps, pa, pe, sk, ou, ce, bk, ct, lm)) (h : t < 200 → L < 7 → Q (oa x) (tk, tr, ep, ln, vs, ii, cn, da, pl, nf, pt, sp, oc, nI (L + 2), nI (t + 1), so, cd, ar, op, oa, ob, nk, nv, wt, cf, cc, ps, pa, pe, sk, ou, ce, upd bk (L + 1) (nI (x + 1)), ct, lm)) : wpX_perform Q (tk, tr, ep, ln, vs, ii, cn, da, pl, nf, pt, sp, oc, rn, tu, so, cd, ar, op, oa, ob, nk, nv, wt, cf, cc, ps, pa, pe, sk, ou, ce, bk, ct, lm) (nI x) := by
  have hc : (nI x).toNatClampNeg = x := nI_clamp (by omega)
  refine And.intro (vp_in_nI hx (by decide)) (nm_r (e' := 15) (by rw [hc]; exact hop) (br_t (by decide) (br_t (by decide) (br_f (by decide) (br_f (by decide) (br_t rfl ?_))))))
  by_cases e : t = 200
  · exact br_f (by rw [htu, e]; decide) (h16 e)
  · refine br_t (by rw [htu]; exact nI_lt (b := 200) (by omega) (by decide)) ?_
    by_cases e7 : L = 7
    · exact br_f (by rw [hrn, e7]; decide) (h17 (by omega) e7)
    · refine br_t (by rw [hrn]; exact nI_lt (b := 8) (by omega) (by decide)) (nm_r (e' := nI (t + 1)) (by rw [htu, nI_1]) (br_f (by decide) ?_))
      refine And.intro (by rw [hrn]; exact vp_in_nI (by omega) (by decide)) (nm_r (e' := upd bk (L + 1) (nI (x + 1))) (by rw [hrn, nI_clamp (show L + 1 < 2 ^ 31 by omega), nI_1]) (nm_r (e' := nI (L + 2)) (by rw [hrn, nI_1]) (And.intro (vp_in_nI hx (by decide)) ?_)))
      rw [hc]; exact h (by omega) (by omega)
/-- control operations: the way to wpX_control -/
theorem xx_ctl {o : Int32} (hx : x < 256) (hop : op x = o) (ho : o = 16 ∨ o = 20 ∨ o = 21 ∨ o = 22 ∨ o = 23 ∨ o = 24 ∨ o = 25) (h : ∀ Q' : Int32 → SX → Prop, (∀ r u, Q r u → Q' r u) → wpX_control Q' (tk, tr, ep, ln, vs, ii, cn, da, pl, nf, pt, sp, oc, rn, tu, so, cd, ar, op, oa, ob, nk, nv, wt, cf, cc, ps, pa, pe, sk, ou, ce, bk, ct, lm) (nI x) o) : wpX_perform Q (tk, tr, ep, ln, vs, ii, cn, da, pl, nf, pt, sp, oc, rn, tu, so, cd, ar, op, oa, ob, nk, nv, wt, cf, cc, ps, pa, pe, sk, ou, ce, bk, ct, lm) (nI x) := by
  have hc : (nI x).toNatClampNeg = x := nI_clamp (by omega)
  have nn : 14 < o ∧ o < 30 ∧ ¬ o = 27 ∧ ¬ o = 17 ∧ ¬ o = 15 ∧ ¬ o = 29 := by rcases ho with e | e | e | e | e | e | e <;> subst e <;> decide
  obtain ⟨n1, n2, n3, n4, n5, n6⟩ := nn
  refine And.intro (vp_in_nI hx (by decide)) (nm_r (e' := o) (by rw [hc]; exact hop) (br_t n1 (br_t n2 (br_f n3 (br_f n4 (br_f n5 (br_f n6 (h _ ?_))))))))
  intro r u hu
  obtain ⟨w1, w2, w3, w4, w5, w6, w7, w8, w9, w10, w11, w12, w13, w14, w15, w16, w17, w18, w19, w20, w21, w22, w23, w24, w25, w26, w27, w28, w29, w30, w31, w32, w33, w34, w35⟩ := u
  exact hu
theorem xx_pf22 (hx : x < 256) (hop : op x = 22) (htu : tu = nI t) (ht : t ≤ 200) (h16 : t = 200 → Q (nI x) (tk, tr, ep, ln, vs, ii, cn, da, pl, nf, pt, sp, oc, rn, tu, 16, cd, ar, op, oa, ob, nk, nv, wt, cf, cc, ps, pa, pe, sk, ou, ce, bk, ct, lm)) (h : t < 200 → Q (oa x) (tk, tr, ep, ln, vs, ii, cn, da, pl, nf, pt, sp, oc, rn, nI (t + 1), so, cd, ar, op, oa, ob, nk, nv, wt, cf, cc, ps, pa, pe, sk, ou, ce, bk, ct, lm)) : wpX_perform Q (tk, tr, ep, ln, vs, ii, cn, da, pl, nf, pt, sp, oc, rn, tu, so, cd, ar, op, oa, ob, nk, nv, wt, cf, cc, ps, pa, pe, sk, ou, ce, bk, ct, lm) (nI x) := by
  have hc : (nI x).toNatClampNeg = x := nI_clamp (by omega)
  refine xx_ctl hx hop (by decide) (fun Q' hQ => And.intro (vp_in_nI hx (by decide)) (nm_e (br_f (by decide) (br_t rfl ?_))))
  by_cases e : t = 200
  · exact br_f (by rw [htu, e]; decide) (hQ _ _ (h16 e))
  · refine br_t (by rw [htu]; exact nI_lt (b := 200) (by omega) (by decide)) (nm_r (e' := nI (t + 1)) (by rw [htu, nI_1]) (br_t rfl (And.intro (vp_in_nI hx (by decide)) ?_)))
    rw [hc]; exact hQ _ _ (h (by omega))
theorem xx_pf24 (hx : x < 256) (hop : op x = 24) (hob : ob x = nI j) (hj : j < 6) (hrn : rn = nI (L + 1)) (hL : L < 8) (htu : tu = nI t) (ht : t ≤ 200) (h16 : t = 200 → Q (nI x) (tk, tr, ep, ln, vs, ii, cn, da, pl, nf, pt, sp, oc, rn, tu, 16, cd, ar, op, oa, ob, nk, nv, wt, cf, cc, ps, pa, pe, sk, ou, ce, bk, ct, lm))
    (h : t < 200 → Q (if lm (6 * L + j) ≤ ct (6 * L + j) + 1 then nI (x + 1) else oa x) (tk, tr, ep, ln, vs, ii, cn, da, pl, nf, pt, sp, oc, rn, nI (t + 1), so, cd, ar, op, oa, ob, nk, nv, wt, cf, cc, ps, pa, pe, sk, ou, ce, bk, upd ct (6 * L + j) (ct (6 * L + j) + 1), lm)) : wpX_perform Q (tk, tr, ep, ln, vs, ii, cn, da, pl, nf, pt, sp, oc, rn, tu, so, cd, ar, op, oa, ob, nk, nv, wt, cf, cc, ps, pa, pe, sk, ou, ce, bk, ct, lm) (nI x) := by
  have hc : (nI x).toNatClampNeg = x := nI_clamp (by omega)
  have hsl : 6 * (rn - 1) + ob (nI x).toNatClampNeg = nI (6 * L + j) := by rw [hc, hrn, hob, nI_pred, show (6 : Int32) * nI L = nI (6 * L) from pk_mul 6 L, nI_add]
  have hin : vp_in (nI (6 * L + j)) 48 := vp_in_nI (by omega) (by decide)
  refine xx_ctl hx hop (by decide) (fun Q' hQ => And.intro (vp_in_nI hx (by decide)) (nm_r hsl (br_t rfl ?_)))
  by_cases e : t = 200
  · exact br_f (by rw [htu, e]; decide) (hQ _ _ (h16 e))
  · have h := h (by omega)
    refine br_t (by rw [htu]; exact nI_lt (b := 200) (by omega) (by decide)) (nm_r (e' := nI (t + 1)) (by rw [htu, nI_1]) (br_f (by decide) ?_))
    rw [nI_clamp (show 6 * L + j < 2 ^ 31 by omega)]
    refine And.intro hin (And.intro hin (nm_e (And.intro hin (And.intro hin ?_))))
    rw [pk_us]
    refine br_c (fun z => ?_) (fun z => And.intro (vp_in_nI hx (by decide)) ?_)
    · rw [if_pos z] at h; rw [nI_1]; exact hQ _ _ h
    · rw [if_neg z] at h; rw [hc]; exact hQ _ _ h
theorem xx_pf25 (hx : x < 256) (hop : op x = 25) (hob : ob x = nI j) (hj : j < 6) (hrn : rn = nI (L + 1)) (hL : L < 8) (hs : sp = nI n) (hn : n ≤ 16) (h12 : n = 16 → Q (nI x) (tk, tr, ep, ln, vs, ii, cn, da, pl, nf, pt, sp, oc, rn, tu, 12, cd, ar, op, oa, ob, nk, nv, wt, cf, cc, ps, pa, pe, sk, ou, ce, bk, ct, lm))
    (h : n < 16 → Q (nI (x + 1)) (tk, tr, ep, ln, vs, ii, cn, da, pl, nf, pt, nI (n + 1), oc, rn, tu, so, cd, ar, op, oa, ob, nk, nv, wt, cf, cc, ps, pa, pe, upd sk n (ct (6 * L + j)), ou, ce, bk, ct, lm)) : wpX_perform Q (tk, tr, ep, ln, vs, ii, cn, da, pl, nf, pt, sp, oc, rn, tu, so, cd, ar, op, oa, ob, nk, nv, wt, cf, cc, ps, pa, pe, sk, ou, ce, bk, ct, lm) (nI x) := by
  have hc : (nI x).toNatClampNeg = x := nI_clamp (by omega)
  have hsl : 6 * (rn - 1) + ob (nI x).toNatClampNeg = nI (6 * L + j) := by rw [hc, hrn, hob, nI_pred, show (6 : Int32) * nI L = nI (6 * L) from pk_mul 6 L, nI_add]
  subst hs
  refine xx_ctl hx hop (by decide) (fun Q' hQ => And.intro (vp_in_nI hx (by decide)) (nm_r hsl (br_f (by decide) (br_f (by decide) (br_t rfl ?_)))))
  by_cases e : n = 16
  · exact br_f (by rw [e]; decide) (hQ _ _ (h12 e))
  · refine br_t (nI_lt (b := 16) (by omega) (by decide)) (And.intro (vp_in_nI (by omega) (by decide)) (And.intro (vp_in_nI (by omega) (by decide)) ?_))
    rw [nI_clamp (show 6 * L + j < 2 ^ 31 by omega), nI_clamp (show n < 2 ^ 31 by omega)]
    refine nm_e (nm_r (nI_1 n) ?_)
    rw [nI_1]; exact hQ _ _ (h (by omega))
/-- 16, 20, 21, 23 take a number -/
theorem xx_pf11 {o : Int32} (hx : x < 256) (hop : op x = o) (ho : o = 16 ∨ o = 20 ∨ o = 21 ∨ o = 23) (hs : sp = nI 0) (h : Q (nI x) (tk, tr, ep, ln, vs, ii, cn, da, pl, nf, pt, sp, oc, rn, tu, 11, cd, ar, op, oa, ob, nk, nv, wt, cf, cc, ps, pa, pe, sk, ou, ce, bk, ct, lm)) : wpX_perform Q (tk, tr, ep, ln, vs, ii, cn, da, pl, nf, pt, sp, oc, rn, tu, so, cd, ar, op, oa, ob, nk, nv, wt, cf, cc, ps, pa, pe, sk, ou, ce, bk, ct, lm) (nI x) := by
  subst hs
  refine xx_ctl hx hop (by rcases ho with e | e | e | e <;> subst e <;> decide) (fun Q' hQ => And.intro (vp_in_nI hx (by decide)) (nm_e ?_))
  have nn : ¬ o = 24 ∧ ¬ o = 22 ∧ ¬ o = 25 := by rcases ho with e | e | e | e <;> subst e <;> decide
  exact br_f nn.1 (br_f nn.2.1 (br_f nn.2.2 (br_f (by decide) (hQ _ _ h))))
theorem xx_pf16 {o : Int32} (hx : x < 256) (hop : op x = o) (ho : o = 16 ∨ o = 21) (hs : sp = nI (m + 1)) (hm : m < 16) (h : Q (if sk m = 0 then oa x else nI (x + 1)) (tk, tr, ep, ln, vs, ii, cn, da, pl, nf, pt, nI m, oc, rn, tu, so, cd, ar, op, oa, ob, nk, nv, wt, cf, cc, ps, pa, pe, sk, ou, ce, bk, ct, lm)) : wpX_perform Q (tk, tr, ep, ln, vs, ii, cn, da, pl, nf, pt, sp, oc, rn, tu, so, cd, ar, op, oa, ob, nk, nv, wt, cf, cc, ps, pa, pe, sk, ou, ce, bk, ct, lm) (nI x) := by
  have hc : (nI x).toNatClampNeg = x := nI_clamp (by omega)
  subst hs
  refine xx_ctl hx hop (by rcases ho with e | e <;> subst e <;> decide) (fun Q' hQ => And.intro (vp_in_nI hx (by decide)) (nm_e ?_))
  have nn : ¬ o = 24 ∧ ¬ o = 22 ∧ ¬ o = 25 ∧ ¬ o = 20 ∧ ¬ o = 23 := by rcases ho with e | e <;> subst e <;> decide
  refine br_f nn.1 (br_f nn.2.1 (br_f nn.2.2.1 (br_t (nI_le (a := 1) (by omega) (by omega)) ?_)))
  rw [nI_pred, nI_clamp (show m < 2 ^ 31 by omega)]
  refine And.intro (vp_in_nI hm (by decide)) (nm_e (br_f nn.2.2.2.1 (nm_r (nI_pred m) (br_f nn.2.2.2.2 (br_c (fun z => And.intro (vp_in_nI hx (by decide)) ?_) (fun z => ?_))))))
  · rw [if_pos z] at h; rw [hc]; exact hQ _ _ h
  · rw [if_neg z] at h; rw [nI_1]; exact hQ _ _ h
theorem xx_pf20 (hx : x < 256) (hop : op x = 20) (hs : sp = nI (m + 1)) (hm : m < 16) (htu : tu = nI t) (ht : t ≤ 200) (h16 : sk m = 0 → t = 200 → Q (nI x) (tk, tr, ep, ln, vs, ii, cn, da, pl, nf, pt, sp, oc, rn, tu, 16, cd, ar, op, oa, ob, nk, nv, wt, cf, cc, ps, pa, pe, sk, ou, ce, bk, ct, lm))
    (h0 : sk m = 0 → t < 200 → Q (oa x) (tk, tr, ep, ln, vs, ii, cn, da, pl, nf, pt, nI m, oc, rn, nI (t + 1), so, cd, ar, op, oa, ob, nk, nv, wt, cf, cc, ps, pa, pe, sk, ou, ce, bk, ct, lm)) (h1 : ¬ sk m = 0 → Q (nI (x + 1)) (tk, tr, ep, ln, vs, ii, cn, da, pl, nf, pt, nI m, oc, rn, tu, so, cd, ar, op, oa, ob, nk, nv, wt, cf, cc, ps, pa, pe, sk, ou, ce, bk, ct, lm)) : wpX_perform Q (tk, tr, ep, ln, vs, ii, cn, da, pl, nf, pt, sp, oc, rn, tu, so, cd, ar, op, oa, ob, nk, nv, wt, cf, cc, ps, pa, pe, sk, ou, ce, bk, ct, lm) (nI x) := by
  have hc : (nI x).toNatClampNeg = x := nI_clamp (by omega)
  subst hs
  refine xx_ctl hx hop (by decide) (fun Q' hQ => And.intro (vp_in_nI hx (by decide)) (nm_e (br_f (by decide) (br_f (by decide) (br_f (by decide) (br_t (nI_le (a := 1) (by omega) (by omega)) ?_))))))
  rw [nI_pred, nI_clamp (show m < 2 ^ 31 by omega)]
  refine And.intro (vp_in_nI hm (by decide)) (nm_e (br_t rfl (br_c (fun z => ?_) (fun z => ?_))))
  · by_cases e : t = 200
    · exact br_f (by rw [htu, e]; decide) (hQ _ _ (h16 z e))
    · refine br_t (by rw [htu]; exact nI_lt (b := 200) (by omega) (by decide)) (nm_r (e' := nI (t + 1)) (by rw [htu, nI_1]) (nm_r (nI_pred m) (br_f (by decide) (br_t z (And.intro (vp_in_nI hx (by decide)) ?_)))))
      rw [hc]; exact hQ _ _ (h0 z (by omega))
  · refine nm_r (nI_pred m) (br_f (by decide) (br_f z ?_))
    rw [nI_1]; exact hQ _ _ (h1 z)
theorem xx_pf23 (hx : x < 256) (hop : op x = 23) (hob : ob x = nI j) (hj : j < 6) (hrn : rn = nI (L + 1)) (hL : L < 8) (hs : sp = nI (m + 1)) (hm : m < 16)
    (h : Q (if 0 < sk m then nI (x + 1) else oa x) (tk, tr, ep, ln, vs, ii, cn, da, pl, nf, pt, nI m, oc, rn, tu, so, cd, ar, op, oa, ob, nk, nv, wt, cf, cc, ps, pa, pe, sk, ou, ce, bk, upd ct (6 * L + j) 0, upd lm (6 * L + j) (sk m))) : wpX_perform Q (tk, tr, ep, ln, vs, ii, cn, da, pl, nf, pt, sp, oc, rn, tu, so, cd, ar, op, oa, ob, nk, nv, wt, cf, cc, ps, pa, pe, sk, ou, ce, bk, ct, lm) (nI x) := by
  have hc : (nI x).toNatClampNeg = x := nI_clamp (by omega)
  have hsl : 6 * (rn - 1) + ob (nI x).toNatClampNeg = nI (6 * L + j) := by rw [hc, hrn, hob, nI_pred, show (6 : Int32) * nI L = nI (6 * L) from pk_mul 6 L, nI_add]
  have hin : vp_in (nI (6 * L + j)) 48 := vp_in_nI (by omega) (by decide)
  subst hs
  refine xx_ctl hx hop (by decide) (fun Q' hQ => And.intro (vp_in_nI hx (by decide)) (nm_r hsl (br_f (by decide) (br_f (by decide) (br_f (by decide) (br_t (nI_le (a := 1) (by omega) (by omega)) ?_))))))
  rw [nI_pred, nI_clamp (show m < 2 ^ 31 by omega)]
  refine And.intro (vp_in_nI hm (by decide)) (nm_e (br_f (by decide) (nm_r (nI_pred m) (br_t rfl (And.intro hin (nm_r (e' := upd ct (6 * L + j) 0) (by rw [nI_clamp (show 6 * L + j < 2 ^ 31 by omega)]) (And.intro hin (nm_r (e' := upd lm (6 * L + j) (sk m)) (by rw [nI_clamp (show 6 * L + j < 2 ^ 31 by omega)]) (br_c (fun z => ?_) (fun z => And.intro (vp_in_nI hx (by decide)) ?_))))))))))
  · rw [if_pos z] at h; rw [nI_1]; exact hQ _ _ h
  · rw [if_neg z] at h; rw [hc]; exact hQ _ _ h
end
end
section
/-! X performs a fused operation -/
section
variable {tk tr ep ln vs ii cn da pl nf pt sp oc rn tu so : Int32} {cd ar op oa ob nk nv wt cf cc ps pa pe sk ou ce bk ct lm : Nat → Int32} {x n m b : Nat} {Q : Int32 → SX → Prop}
theorem xx_fus {o : Int32} (hx : x < 256) (hop : op x = o) (ho : o = 30 ∨ o = 31 ∨ o = 32 ∨ o = 33 ∨ o = 34 ∨ o = 35 ∨ o = 36 ∨ o = 37) (h : ∀ Q' : Int32 → SX → Prop, (∀ r u, Q r u → Q' r u) → wpX_fused Q' (tk, tr, ep, ln, vs, ii, cn, da, pl, nf, pt, sp, oc, rn, tu, so, cd, ar, op, oa, ob, nk, nv, wt, cf, cc, ps, pa, pe, sk, ou, ce, bk, ct, lm) (nI x) o) : wpX_perform Q (tk, tr, ep, ln, vs, ii, cn, da, pl, nf, pt, sp, oc, rn, tu, so, cd, ar, op, oa, ob, nk, nv, wt, cf, cc, ps, pa, pe, sk, ou, ce, bk, ct, lm) (nI x) := by
  have hc : (nI x).toNatClampNeg = x := nI_clamp (by omega)
  have nn : 14 < o ∧ ¬ o < 30 := by rcases ho with e | e | e | e | e | e | e | e <;> subst e <;> decide
  refine And.intro (vp_in_nI hx (by decide)) (nm_r (e' := o) (by rw [hc]; exact hop) (br_t nn.1 (br_f nn.2 (h _ ?_))))
  intro r u hu
  obtain ⟨w1, w2, w3, w4, w5, w6, w7, w8, w9, w10, w11, w12, w13, w14, w15, w16, w17, w18, w19, w20, w21, w22, w23, w24, w25, w26, w27, w28, w29, w30, w31, w32, w33, w34, w35⟩ := u
  exact hu
theorem xx_fu30 (hx : x + 2 < 256) (hop : op x = 30) (hs : sp = nI n) (hn : n ≤ 16) (hm : 14 < n → Q (nI (x + 1)) (tk, tr, ep, ln, vs, ii, cn, da, pl, nf, pt, sp, oc, rn, tu, so, cd, ar, op, oa, ob, nk, nv, wt, cf, cc, ps, pa, pe, sk, ou, ce, bk, ct, lm)) (h : n ≤ 14 → Q (nI (x + 4)) (tk, tr, ep, ln, vs, ii, cn, da, pl, nf, pt, nI (n + 1), oc, rn, tu, so, cd, ar, op, oa, ob, nk, nv, wt, cf, cc, ps, pa, pe, upd sk n (oa x), ou, ce, bk, ct, lm)) : wpX_perform Q (tk, tr, ep, ln, vs, ii, cn, da, pl, nf, pt, sp, oc, rn, tu, so, cd, ar, op, oa, ob, nk, nv, wt, cf, cc, ps, pa, pe, sk, ou, ce, bk, ct, lm) (nI x) := by
  have hc : (nI x).toNatClampNeg = x := nI_clamp (by omega)
  subst hs
  refine xx_fus (by omega) hop (by decide) (fun Q' hQ => br_t rfl ?_)
  by_cases e : n ≤ 14
  · refine br_t (nI_le (b := 14) e (by decide)) (And.intro (vp_in_nI (by omega) (by decide)) (And.intro (vp_in_nI (by omega) (by decide)) ?_))
    rw [hc, nI_clamp (show n < 2 ^ 31 by omega)]
    refine nm_e (nm_r (nI_1 n) ?_)
    rw [show nI x + 4 = nI (x + 4) from nI_add x 4]; exact hQ _ _ (h e)
  · refine br_f (nI_ge (a := 14) (by omega) (by omega)) ?_
    rw [nI_1]; exact hQ _ _ (hm (by omega))
theorem xx_fu31 {o : Int32} (hx : x + 2 < 256) (hop : op x = o) (ho : o = 31 ∨ o = 32) (hs : sp = nI n) (hn : n ≤ 16) (hm : n < 1 ∨ 15 < n → Q (nI (x + 1)) (tk, tr, ep, ln, vs, ii, cn, da, pl, nf, pt, sp, oc, rn, tu, so, cd, ar, op, oa, ob, nk, nv, wt, cf, cc, ps, pa, pe, sk, ou, ce, bk, ct, lm))
    (h : ∀ m, n = m + 1 → n ≤ 15 → Q (nI (x + 3)) (tk, tr, ep, ln, vs, ii, cn, da, pl, nf, pt, sp, oc, rn, tu, so, cd, ar, op, oa, ob, nk, nv, wt, cf, cc, ps, pa, pe, upd sk m (sk_w (ob x) (sk m) (if o = 32 then sk m else oa x)), ou, ce, bk, ct, lm)) : wpX_perform Q (tk, tr, ep, ln, vs, ii, cn, da, pl, nf, pt, sp, oc, rn, tu, so, cd, ar, op, oa, ob, nk, nv, wt, cf, cc, ps, pa, pe, sk, ou, ce, bk, ct, lm) (nI x) := by
  have hc : (nI x).toNatClampNeg = x := nI_clamp (by omega)
  subst hs
  refine xx_fus (by omega) hop (by rcases ho with e | e <;> subst e <;> decide) (fun Q' hQ => ?_)
  have n30 : ¬ o = 30 := by rcases ho with e | e <;> subst e <;> decide
  have k60 : wX_fused_60 Q' (nI x) o tk tr ep ln vs ii cn da pl nf pt (nI n) oc rn tu so cd ar op oa ob nk nv wt cf cc ps pa pe sk ou ce bk ct lm := by
    by_cases e1 : n < 1
    · refine br_t (nI_lt (b := 1) e1 (by decide)) ?_
      rw [nI_1]; exact hQ _ _ (hm (Or.inl e1))
    · refine br_f (nI_nlt (b := 1) (by omega) (by omega)) ?_
      by_cases e2 : n ≤ 15
      · obtain ⟨m, hm'⟩ : ∃ m, n = m + 1 := ⟨n - 1, by omega⟩
        have h := h m hm' e2
        subst hm'
        refine br_t (nI_le (b := 15) e2 (by decide)) ?_
        rw [nI_pred, nI_clamp (show m < 2 ^ 31 by omega), hc]
        refine And.intro (vp_in_nI (by omega) (by decide)) (nm_e ?_)
        have k109 : ∀ y, Q' (nI (x + 3)) (tk, tr, ep, ln, vs, ii, cn, da, pl, nf, pt, nI (m + 1), oc, rn, tu, so, cd, ar, op, oa, ob, nk, nv, wt, cf, cc, ps, pa, pe, upd sk m (sk_w (ob x) (sk m) y), ou, ce, bk, ct, lm) → wX_fused_109 Q' (nI x) (sk m) y tk tr ep ln vs ii cn da pl nf pt (nI (m + 1)) oc rn tu so cd ar op oa ob nk nv wt cf cc ps pa pe sk ou ce bk ct lm := by
          intro y hy
          refine And.intro (vp_in_nI (by omega) (by decide)) (xx_arith ?_)
          rw [nI_pred, nI_clamp (show m < 2 ^ 31 by omega), hc]
          refine And.intro (vp_in_nI (by omega) (by decide)) (nm_e ?_)
          rw [show nI x + 3 = nI (x + 3) from nI_add x 3]; exact hy
        refine br_c (fun c => k109 _ ?_) (fun c => And.intro (vp_in_nI (by omega) (by decide)) (k109 _ ?_))
        · rw [if_pos c] at h; exact hQ _ _ h
        · rw [if_neg c] at h; exact hQ _ _ h
      · refine br_f (nI_ge (a := 15) (by omega) (by omega)) ?_
        rw [nI_1]; exact hQ _ _ (hm (Or.inr (by omega)))
  refine br_f n30 ?_
  rcases ho with e | e
  · exact br_t e k60
  · exact br_f (by rw [e]; decide) (br_t e k60)
theorem xx_fu35 (hx : x + 2 < 256) (hop : op x = 35) (hs : sp = nI n) (hn : n ≤ 16) (hoa : oa x = nI b) (hb : b < 12) (hm : 15 < n → Q (nI (x + 1)) (tk, tr, ep, ln, vs, ii, cn, da, pl, nf, pt, sp, oc, rn, tu, so, cd, ar, op, oa, ob, nk, nv, wt, cf, cc, ps, pa, pe, sk, ou, ce, bk, ct, lm))
    (h : n ≤ 15 → Q (nI (x + 3)) (tk, tr, ep, ln, vs, ii, cn, da, pl, nf, pt, nI (n + 1), oc, rn, tu, so, cd, ar, op, oa, ob, nk, nv, wt, cf, cc, ps, pa, pe, upd sk n (ce b), ou, ce, bk, ct, lm)) : wpX_perform Q (tk, tr, ep, ln, vs, ii, cn, da, pl, nf, pt, sp, oc, rn, tu, so, cd, ar, op, oa, ob, nk, nv, wt, cf, cc, ps, pa, pe, sk, ou, ce, bk, ct, lm) (nI x) := by
  have hc : (nI x).toNatClampNeg = x := nI_clamp (by omega)
  subst hs
  refine xx_fus (by omega) hop (by decide) (fun Q' hQ => br_f (by decide) (br_f (by decide) (br_f (by decide) (br_t rfl (br_t rfl ?_)))))
  by_cases e : n ≤ 15
  · refine br_t (nI_le (b := 15) e (by decide)) (And.intro (vp_in_nI (by omega) (by decide)) ?_)
    rw [hc, hoa, nI_clamp (show b < 2 ^ 31 by omega), nI_clamp (show n < 2 ^ 31 by omega)]
    refine And.intro (vp_in_nI hb (by decide)) (And.intro (vp_in_nI (by omega) (by decide)) (nm_e (nm_r (nI_1 n) ?_)))
    rw [show nI x + 3 = nI (x + 3) from nI_add x 3]; exact hQ _ _ (h e)
  · refine br_f (nI_ge (a := 15) (by omega) (by omega)) ?_
    rw [nI_1]; exact hQ _ _ (hm (by omega))
theorem xx_fu36 (hx : x + 2 < 256) (hop : op x = 36) (hs : sp = nI n) (hn : n ≤ 16) (hoa : oa x = nI b) (hb : b < 12) (hm : n < 1 ∨ 15 < n → Q (nI (x + 1)) (tk, tr, ep, ln, vs, ii, cn, da, pl, nf, pt, sp, oc, rn, tu, so, cd, ar, op, oa, ob, nk, nv, wt, cf, cc, ps, pa, pe, sk, ou, ce, bk, ct, lm))
    (h : ∀ m, n = m + 1 → n ≤ 15 → Q (nI (x + 3)) (tk, tr, ep, ln, vs, ii, cn, da, pl, nf, pt, nI m, oc, rn, tu, so, cd, ar, op, oa, ob, nk, nv, wt, cf, cc, ps, pa, pe, sk, ou, upd ce b (sk m), bk, ct, lm)) : wpX_perform Q (tk, tr, ep, ln, vs, ii, cn, da, pl, nf, pt, sp, oc, rn, tu, so, cd, ar, op, oa, ob, nk, nv, wt, cf, cc, ps, pa, pe, sk, ou, ce, bk, ct, lm) (nI x) := by
  have hc : (nI x).toNatClampNeg = x := nI_clamp (by omega)
  subst hs
  refine xx_fus (by omega) hop (by decide) (fun Q' hQ => br_f (by decide) (br_f (by decide) (br_f (by decide) (br_f (by decide) (br_t rfl (br_f (by decide) ?_))))))
  by_cases e1 : n < 1
  · refine br_t (nI_lt (b := 1) e1 (by decide)) ?_
    rw [nI_1]; exact hQ _ _ (hm (Or.inl e1))
  · refine br_f (nI_nlt (b := 1) (by omega) (by omega)) ?_
    by_cases e2 : n ≤ 15
    · obtain ⟨m, hm'⟩ : ∃ m, n = m + 1 := ⟨n - 1, by omega⟩
      have hh := h m hm' e2
      subst hm'
      refine br_t (nI_le (b := 15) e2 (by decide)) (nm_r (nI_pred m) (And.intro (vp_in_nI (by omega) (by decide)) ?_))
      rw [hc, hoa, nI_clamp (show b < 2 ^ 31 by omega), nI_clamp (show m < 2 ^ 31 by omega)]
      refine And.intro (vp_in_nI (by omega) (by decide)) (And.intro (vp_in_nI hb (by decide)) (nm_e ?_))
      rw [show nI x + 3 = nI (x + 3) from nI_add x 3]; exact hQ _ _ hh
    · refine br_f (nI_ge (a := 15) (by omega) (by omega)) ?_
      rw [nI_1]; exact hQ _ _ (hm (Or.inr (by omega)))
theorem xx_fu33 {o : Int32} (hx : x + 2 < 256) (hop : op x = o) (ho : o = 33 ∨ o = 34 ∨ o = 37) (hs : sp = nI n) (hn : n ≤ 16) (hm : n < 2 ∨ (o = 33 ∧ 15 < n) → Q (nI (x + 1)) (tk, tr, ep, ln, vs, ii, cn, da, pl, nf, pt, sp, oc, rn, tu, so, cd, ar, op, oa, ob, nk, nv, wt, cf, cc, ps, pa, pe, sk, ou, ce, bk, ct, lm))
    (h33 : o = 33 → ∀ m, n = m + 2 → n ≤ 15 → Q (nI (x + 3)) (tk, tr, ep, ln, vs, ii, cn, da, pl, nf, pt, sp, oc, rn, tu, so, cd, ar, op, oa, ob, nk, nv, wt, cf, cc, ps, pa, pe, upd sk (m + 1) (sk_w (ob x) (sk (m + 1)) (sk m)), ou, ce, bk, ct, lm))
    (h34 : o = 34 → ∀ m, n = m + 2 → Q (nI (x + 3)) (tk, tr, ep, ln, vs, ii, cn, da, pl, nf, pt, nI (m + 1), oc, rn, tu, so, cd, ar, op, oa, ob, nk, nv, wt, cf, cc, ps, pa, pe, upd sk m (sk_w (ob x) (sk (m + 1)) (sk m)), ou, ce, bk, ct, lm))
    (h37 : o = 37 → ∀ m, n = m + 2 → Q (if sk_w (ob x) (sk m) (sk (m + 1)) = 0 then oa (x + 2) else nI (x + 3)) (tk, tr, ep, ln, vs, ii, cn, da, pl, nf, pt, nI m, oc, rn, tu, so, cd, ar, op, oa, ob, nk, nv, wt, cf, cc, ps, pa, pe, sk, ou, ce, bk, ct, lm)) : wpX_perform Q (tk, tr, ep, ln, vs, ii, cn, da, pl, nf, pt, sp, oc, rn, tu, so, cd, ar, op, oa, ob, nk, nv, wt, cf, cc, ps, pa, pe, sk, ou, ce, bk, ct, lm) (nI x) := by
  have hc : (nI x).toNatClampNeg = x := nI_clamp (by omega)
  subst hs
  refine xx_fus (by omega) hop (by rcases ho with e | e | e <;> subst e <;> decide) (fun Q' hQ => ?_)
  have nn : ¬ o = 30 ∧ ¬ o = 31 ∧ ¬ o = 32 ∧ ¬ o = 35 ∧ ¬ o = 36 := by rcases ho with e | e | e <;> subst e <;> decide
  obtain ⟨n1, n2, n3, n4, n5⟩ := nn
  refine br_f n1 (br_f n2 (br_f n3 (br_f n4 (br_f n5 ?_))))
  by_cases e1 : n < 2
  · refine br_t (nI_lt (b := 2) e1 (by decide)) ?_
    rw [nI_1]; exact hQ _ _ (hm (Or.inl e1))
  · refine br_f (nI_nlt (b := 2) (by omega) (by omega)) ?_
    have k184 : (o = 33 → n ≤ 15) → wX_fused_184 Q' (nI x) o tk tr ep ln vs ii cn da pl nf pt (nI n) oc rn tu so cd ar op oa ob nk nv wt cf cc ps pa pe sk ou ce bk ct lm := by
      intro hno
      obtain ⟨m, hm'⟩ : ∃ m, n = m + 2 := ⟨n - 2, by omega⟩
      have h33' := fun z => h33 z m hm'
      have h34' := fun z => h34 z m hm'
      have h37' := fun z => h37 z m hm'
      subst hm'
      have e1 : nI (m + 2) - 1 = nI (m + 1) := nI_pred (m + 1)
      have e2 : nI (m + 2) - 2 = nI m := pk_sub (a := m + 2) (b := 2) (by omega)
      have i0 : vp_in (nI m) 16 := vp_in_nI (by omega) (by decide)
      have i1 : vp_in (nI (m + 1)) 16 := vp_in_nI (by omega) (by decide)
      have ix : vp_in (nI x) 256 := vp_in_nI (by omega) (by decide)
      have c0 : (nI m).toNatClampNeg = m := nI_clamp (by omega)
      have c1 : (nI (m + 1)).toNatClampNeg = m + 1 := nI_clamp (by omega)
      unfold wX_fused_184
      rw [e1, e2, c0, c1, hc]
      refine And.intro i0 (nm_e (And.intro i1 (nm_e (br_c (fun c => And.intro ix (xx_arith (And.intro i1 (nm_e ?_)))) (fun n33 => br_c (fun c => nm_e (And.intro ix (xx_arith ?_))) (fun n34 => nm_e (And.intro ix (xx_arith ?_))))))))
      · rw [show nI x + 3 = nI (x + 3) from nI_add x 3]; exact hQ _ _ (h33' c (hno c))
      · rw [nI_pred, c0]
        refine And.intro i0 (nm_e ?_)
        rw [show nI x + 3 = nI (x + 3) from nI_add x 3]; exact hQ _ _ (h34' c)
      · have c37 : o = 37 := by
          rcases ho with z | z | z
          · exact absurd z n33
          · exact absurd z n34
          · exact z
        have h := h37' c37
        rw [show nI x + 2 = nI (x + 2) from nI_add x 2, nI_clamp (show x + 2 < 2 ^ 31 by omega), show nI x + 3 = nI (x + 3) from nI_add x 3]
        refine br_c (fun z => And.intro (vp_in_nI (by omega) (by decide)) ?_) (fun z => ?_)
        · rw [if_pos z] at h; exact hQ _ _ h
        · rw [if_neg z] at h; exact hQ _ _ h
    by_cases c33 : o = 33
    · refine br_t c33 ?_
      by_cases e15 : n ≤ 15
      · exact br_t (nI_le (b := 15) e15 (by decide)) (k184 (fun _ => e15))
      · refine br_f (nI_ge (a := 15) (by omega) (by omega)) ?_
        rw [nI_1]; exact hQ _ _ (hm (Or.inr ⟨c33, by omega⟩))
    · exact br_f c33 (k184 (fun z => absurd z c33))
end
end
section
/-! frames, moves inside a word, the outcome of a run -/
def fr_R (cd : Nat → Int32) (T : Nat) (yp ct lm yn ye : Nat → Int32) : List Nat → Prop
  | [] => True
  | p :: s => (p < T ∧ sk_I cd p = true) ∧ yp s.length = nI p ∧ (∀ j, j < sk_H cd p → cd (sk_Q cd p j) = 23 → ct (6 * s.length + j) = yn (80 * s.length + sk_Q cd p j) ∧ lm (6 * s.length + j) = ye (80 * s.length + sk_Q cd p j)) ∧ fr_R cd T yp ct lm yn ye s
def fr_B (A : Nat → Nat) (bk : Nat → Int32) : List Nat → Prop
  | [] => True
  | p :: s => bk (s.length + 1) = nI (A p) ∧ fr_B A bk s
def fr_M : List Nat → Nat
  | [] => 0
  | p :: s => (80 - p) + fr_M s
def sk_mv (cd : Nat → Int32) (p p' : Nat) : Prop := ∀ j, j < sk_H cd p' → cd (sk_Q cd p' j) = 23 → j < sk_H cd p ∧ sk_Q cd p j = sk_Q cd p' j
section
variable {cd ar : Nat → Int32} {T p L : Nat} {A : Nat → Nat} {yp ct lm yn ye yp' ct' lm' yn' ye' bk bk' : Nat → Int32}
theorem fr_R_keep (hV : sk_V cd ar T) (hT : T ≤ 80) : ∀ (s : List Nat), fr_R cd T yp ct lm yn ye s → (∀ k, k < s.length → yp' k = yp k) → (∀ k, k < 6 * s.length → ct' k = ct k ∧ lm' k = lm k) → (∀ k, k < 80 * s.length → yn' k = yn k ∧ ye' k = ye k) → fr_R cd T yp' ct' lm' yn' ye' s := by
  intro s
  induction s with
  | nil => intro _ _ _ _; trivial
  | cons p s ih =>
    intro h h1 h2 h3
    obtain ⟨a, b, c, d⟩ := h
    simp only [List.length_cons] at h1 h2 h3
    refine ⟨a, by rw [h1 _ (by omega)]; exact b, fun j hj hq => ?_, ih d (fun k hk => h1 k (by omega)) (fun k hk => h2 k (by omega)) (fun k hk => h3 k (by omega))⟩
    have h6 := sk_V6 hV p (by omega)
    have hQ := (sk_nest (cd := cd) p j hj).1
    obtain ⟨c1, c2⟩ := c j hj hq
    rw [(h2 _ (by omega)).1, (h2 _ (by omega)).2, (h3 _ (by omega)).1, (h3 _ (by omega)).2]
    exact ⟨c1, c2⟩
theorem fr_B_keep : ∀ (s : List Nat), fr_B A bk s → (∀ k, k ≤ s.length → bk' k = bk k) → fr_B A bk' s := by
  intro s
  induction s with
  | nil => intro _ _; trivial
  | cons p s ih =>
    intro h h1
    simp only [List.length_cons] at h1
    exact ⟨by rw [h1 _ (by omega)]; exact h.1, ih h.2 (fun k hk => h1 k (by omega))⟩
theorem mv_next (h23 : ¬ cd p = 23) : sk_mv cd p (p + 1) := by
  intro j hj hq
  by_cases hO : sk_O (cd p)
  · rw [sk_HO hO] at hj
    by_cases e : j = sk_H cd p
    · rw [sk_QO hO e] at hq; exact absurd hq h23
    · exact ⟨by omega, (sk_Qlt (by omega)).symm⟩
  · have := sk_Hle hO
    exact ⟨by omega, (sk_Qx (fun z => hO z.1)).symm⟩
theorem mv_B {w : Int32} {r : Nat} (h : sk_B cd w p r) (hp : sk_O (cd p) ∨ sk_M (cd p)) (hr : sk_C (cd r) ∨ (cd r = 17 ∧ ¬ cd p = 23)) : sk_mv cd p (r + 1) := by
  intro j hj hq
  have hk := sk_jmp h
  obtain ⟨a, b, c, d, e⟩ := h
  have hnO : ¬ sk_O (cd r) := by
    rcases hr with z | z
    · exact (sk_Cn z).2.1
    · rw [z.1]; decide
  have hle := sk_Hle hnO
  rw [sk_Qx (fun z => hnO z.1), hk j (by omega)] at hq ⊢
  rcases hp with hO | hM
  · have hHO := sk_HO hO
    by_cases ej : j = sk_H cd p
    · rw [sk_QO hO ej] at hq
      rcases hr with z | z
      · rw [sk_HC z] at hj; omega
      · exact absurd hq z.2
    · exact ⟨by omega, (sk_Qlt (by omega)).symm⟩
  · have hHM := sk_HM hM
    exact ⟨by omega, (sk_Qx (fun z => (sk_Mn hM).2.1 z.1)).symm⟩
theorem mv_back (h0 : 0 < sk_H cd p) : sk_mv cd p (sk_Q cd p (sk_H cd p - 1) + 1) := by
  intro j hj _
  obtain ⟨a, b, c, d⟩ := sk_nest (cd := cd) p (sk_H cd p - 1) (by omega)
  rw [sk_HO b, c] at hj
  exact ⟨by omega, ((d _ (by omega) (by omega)).2 j (by omega)).symm⟩
theorem in_next (hV : sk_V cd ar T) (hI : sk_I cd T = false) (hp : p < T) (h : sk_I cd p = true) (h27 : ¬ cd p = 27) : p + 1 < T ∧ sk_I cd (p + 1) = true := by
  have h1 := sk_In h h27
  refine ⟨?_, h1⟩
  by_cases e : p + 1 = T
  · rw [e, hI] at h1; exact absurd h1 (by decide)
  · omega
theorem in_B {w : Int32} {r : Nat} (hV : sk_V cd ar T) (hI : sk_I cd T = false) (hr : r < T) (h : sk_B cd w p r) : r + 1 < T ∧ sk_I cd (r + 1) = true := by
  obtain ⟨a, b, c, d, e⟩ := h
  have hIr := sk_VIt hV (q := r) (by omega) (by omega)
  refine in_next hV hI hr hIr ?_
  rcases d with z | z
  · exact (sk_Cn z).2.2.2.1
  · rw [z.2]; decide
theorem in_back (hV : sk_V cd ar T) (hp : p < T) (h0 : 0 < sk_H cd p) : sk_Q cd p (sk_H cd p - 1) + 1 < T ∧ sk_I cd (sk_Q cd p (sk_H cd p - 1) + 1) = true ∧ sk_Q cd p (sk_H cd p - 1) < p := by
  obtain ⟨a, b, c, d⟩ := sk_nest (cd := cd) p (sk_H cd p - 1) (by omega)
  exact ⟨by omega, sk_VIt hV (by omega) (by rw [sk_HO b]; omega), a⟩
end
/-- the two machines stand at token p, under the frames s -/
def rr (cd : Nat → Int32) (T : Nat) (A : Nat → Nat) (p : Nat) (s : List Nat) (l : List Int32) (o t : Nat) (sk bk ct lm ys yp yn ye : Nat → Int32) : Prop :=
  fr_R cd T yp ct lm yn ye (p :: s) ∧ fr_B A bk s ∧ s.length < 8 ∧ t ≤ 200 ∧ l.length ≤ 16 ∧ o ≤ 16 ∧ st_S sk l ∧ st_S ys l
def OU (tk tr ep ln vs ii cn da pl nf pt ea : Int32) (cd ar op oa ob nk nv wt cf cc ps pa pe : Nat → Int32) (m : Nat) (pc : Int32) (u : SX) (v : SY) : Prop :=
  ∃ (r : Int32) (l : List Int32) (o : Nat) (rn tu so lv yt : Int32) (sk ou ce bk ct lm ys yp yn ye : Nat → Int32),
    st_S sk l ∧ st_S ys l ∧ l.length ≤ 16 ∧ o ≤ 16 ∧
    (∀ post : Int32 → SX → Prop, post r (tk, tr, ep, ln, vs, ii, cn, da, pl, nf, pt, nI l.length, nI o, rn, tu, so, cd, ar, op, oa, ob, nk, nv, wt, cf, cc, ps, pa, pe, sk, ou, ce, bk, ct, lm) → xB (2 * m + 1) post pc u) ∧
    (∀ post : Int32 → SY → Prop, post r (tk, tr, ea, nI l.length, nI o, lv, yt, cd, ar, ys, ou, ce, yp, yn, ye) → yB m post v)
theorem xB_m {b b' : Nat} {post : Int32 → SX → Prop} {pc : Int32} {u : SX} (h : xB b post pc u) (hb : b ≤ b') : xB b' post pc u := by
  obtain ⟨w1, w2, w3, w4, w5, w6, w7, w8, w9, w10, w11, w12, w13, w14, w15, w16, w17, w18, w19, w20, w21, w22, w23, w24, w25, w26, w27, w28, w29, w30, w31, w32, w33, w34, w35⟩ := u
  exact fun n x h1 h2 => h n x (by omega) (by omega)
theorem yB_m {b b' : Nat} {post : Int32 → SY → Prop} {v : SY} (h : yB b post v) (hb : b ≤ b') : yB b' post v := by
  obtain ⟨w1, w2, w3, w4, w5, w6, w7, w8, w9, w10, w11, w12, w13, w14, w15⟩ := v
  exact fun n x h1 h2 => h n x (by omega) (by omega)
section
variable {tk tr ep ln vs ii cn da pl nf pt ea : Int32} {cd ar op oa ob nk nv wt cf cc ps pa pe : Nat → Int32} {m m' jx ky : Nat} {pc pc' : Int32} {u u' : SX} {v v' : SY}
theorem OU_go (h : OU tk tr ep ln vs ii cn da pl nf pt ea cd ar op oa ob nk nv wt cf cc ps pa pe m' pc' u' v') (hX : ∀ b post, xB b post pc' u' → xB (b + jx) post pc u) (hY : ∀ b post, yB b post v' → yB (b + ky) post v)
    (hj : jx ≤ 2 * ky) (hm : m' + ky ≤ m) : OU tk tr ep ln vs ii cn da pl nf pt ea cd ar op oa ob nk nv wt cf cc ps pa pe m pc u v := by
  obtain ⟨r, l, o, rn, tu, so, lv, yt, sk, ou, ce, bk, ct, lm, ys, yp, yn, ye, h1, h2, h3, h4, h5, h6⟩ := h
  exact ⟨r, l, o, rn, tu, so, lv, yt, sk, ou, ce, bk, ct, lm, ys, yp, yn, ye, h1, h2, h3, h4, fun post hp => xB_m (hX _ post (h5 post hp)) (by omega), fun post hp => yB_m (hY _ post (h6 post hp)) (by omega)⟩
theorem OU_end {r : Int32} {l : List Int32} {o bx : Nat} {rn tu so lv yt : Int32} {sk ou ce bk ct lm ys yp yn ye : Nat → Int32} (h1 : st_S sk l) (h2 : st_S ys l) (h3 : l.length ≤ 16) (h4 : o ≤ 16)
    (hX : ∀ post : Int32 → SX → Prop, post r (tk, tr, ep, ln, vs, ii, cn, da, pl, nf, pt, nI l.length, nI o, rn, tu, so, cd, ar, op, oa, ob, nk, nv, wt, cf, cc, ps, pa, pe, sk, ou, ce, bk, ct, lm) → xB bx post pc u) (hY : ∀ post : Int32 → SY → Prop, post r (tk, tr, ea, nI l.length, nI o, lv, yt, cd, ar, ys, ou, ce, yp, yn, ye) → yB ky post v) (hb : bx ≤ 2 * m + 1) (hk : ky ≤ m) :
    OU tk tr ep ln vs ii cn da pl nf pt ea cd ar op oa ob nk nv wt cf cc ps pa pe m pc u v :=
  ⟨r, l, o, rn, tu, so, lv, yt, sk, ou, ce, bk, ct, lm, ys, yp, yn, ye, h1, h2, h3, h4, fun post hp => xB_m (hX post hp) hb, fun post hp => yB_m (hY post hp) hk⟩
end
section
variable {cd ar : Nat → Int32} {T p p' o o' t t' : Nat} {s : List Nat} {l l' : List Int32} {A : Nat → Nat} {sk sk' ys' bk ct lm ys yp yn ye : Nat → Int32}
theorem rr_mv (hV : sk_V cd ar T) (hT : T ≤ 80) (h : rr cd T A p s l o t sk bk ct lm ys yp yn ye) (hp : p' < T ∧ sk_I cd p' = true) (hm : sk_mv cd p p') (ht : t' ≤ 200) (hl : l'.length ≤ 16) (ho : o' ≤ 16) (h1 : st_S sk' l') (h2 : st_S ys' l') :
    rr cd T A p' s l' o' t' sk' bk ct lm ys' (upd yp s.length (nI p')) yn ye := by
  obtain ⟨⟨a1, a2, a3, a4⟩, b, c, d, e, f, g, g'⟩ := h
  refine ⟨⟨hp, pk_us, fun j hj hq => ?_, ?_⟩, b, c, ht, hl, ho, h1, h2⟩
  · obtain ⟨m1, m2⟩ := hm j hj hq
    rw [← m2]
    exact a3 j m1 (by rw [m2]; exact hq)
  · exact fr_R_keep hV hT s a4 (fun k hk => pk_un (by omega)) (fun k _ => ⟨rfl, rfl⟩) (fun k _ => ⟨rfl, rfl⟩)
theorem rr_yH {tk : Int32} (hV : sk_V cd ar T) (hT : T ≤ 80) (hU : sk_UN cd ar T) (htk : tk = nI T) (h : rr cd T A p s l o t sk bk ct lm ys yp yn ye) : yH cd ar T p s.length t o l tk (nI s.length) (nI t) (nI l.length) (nI o) ys := by
  obtain ⟨⟨a1, a2, a3, a4⟩, b, c, d, e, f, g, g'⟩ := h
  exact ⟨⟨htk, hT, a1.1, hV, hU⟩, ⟨rfl, c, rfl, d⟩, ⟨rfl, e, g', rfl, f⟩⟩
end
end
section
/-! which block a token of each kind has (printed by mk31.py) -/
section
variable {cd ar : Nat → Int32} {A : Nat → Nat} {p i : Nat} {l : im_l}
theorem im_i_pl (h : im_k cd ar A p False i l) (hI : sk_I cd i = true) (hc : sk_pl (cd i)) : l = [(cd i, some (ar i), none)] ∨ ∃ o a b w, sk_F cd ar i 0 o a b w ∧ l = [(o, some a, some b), (cd i, some (ar i), none)] := by
  rcases h with h | h | h | h | h | h | h | h | h | h | h | h
  · rw [hI] at h; exact absurd h.1 (by decide)
  · exact h.2.2
  · rw [h.2.1] at hc; exact absurd hc (by decide)
  · rw [h.2.1] at hc; exact absurd hc (by decide)
  · exact h.2.2.1.elim
  · rcases h.2.1 with e | e | e <;> rw [e] at hc <;> exact absurd hc (by decide)
  · rcases h.2.1 with e | e <;> rw [e] at hc <;> exact absurd hc (by decide)
  · rcases h.2.1 with e | e <;> rw [e] at hc <;> exact absurd hc (by decide)
  · rw [h.2.1] at hc; exact absurd hc (by decide)
  · rw [h.2.1] at hc; exact absurd hc (by decide)
  · rw [h.2.1] at hc; exact absurd hc (by decide)
  · rw [h.2.1] at hc; exact absurd hc (by decide)
theorem im_i_15 (h : im_k cd ar A p False i l) (hI : sk_I cd i = true) (hc : cd i = 15) : (∃ d, sk_f cd ar (ar i) p = some d ∧ cd d = 28 ∧ (l = [(0, some (nI (sk_v cd d)), none)] ∨ ∃ o a b w, sk_F cd ar i (nI (sk_v cd d)) o a b w ∧ l = [(o, some a, some b), (0, some (nI (sk_v cd d)), none)])) ∨ (∃ d, sk_f cd ar (ar i) p = some d ∧ cd d = 26 ∧ (l = [(15, some (nI (A (d + 1))), none)] ∨ ∃ m, m ≤ 4 ∧ d + 1 + m < p ∧ (∀ q, d < q → q < d + 1 + m → sk_pl (cd q)) ∧ cd (d + 1 + m) = 27 ∧ l = (29, none, none) :: im_c cd ar (d + 1) m)) := by
  rcases h with h | h | h | h | h | h | h | h | h | h | h | h
  · rw [hI] at h; exact absurd h.1 (by decide)
  · have g := h.2.1; rw [hc] at g; exact absurd g (by decide)
  · obtain ⟨_, _, d, h1, _, h2⟩ := h; exact Or.inl ⟨d, h1, h2⟩
  · obtain ⟨_, _, d, h1, _, h2⟩ := h; exact Or.inr ⟨d, h1, h2⟩
  · exact h.2.2.1.elim
  · have g := h.2.1; rw [hc] at g; exact absurd g (by decide)
  · have g := h.2.1; rw [hc] at g; exact absurd g (by decide)
  · have g := h.2.1; rw [hc] at g; exact absurd g (by decide)
  · have g := h.2.1; rw [hc] at g; exact absurd g (by decide)
  · have g := h.2.1; rw [hc] at g; exact absurd g (by decide)
  · have g := h.2.1; rw [hc] at g; exact absurd g (by decide)
  · have g := h.2.1; rw [hc] at g; exact absurd g (by decide)
theorem im_i_16 (h : im_k cd ar A p False i l) (hI : sk_I cd i = true) (hc : cd i = 16 ∨ cd i = 17 ∨ cd i = 21) : l = [(cd i, none, none)] := by
  rcases h with h | h | h | h | h | h | h | h | h | h | h | h
  · rw [hI] at h; exact absurd h.1 (by decide)
  · have g := h.2.1; rcases hc with e | e | e <;> rw [e] at g <;> exact absurd g (by decide)
  · have g := h.2.1; rcases hc with e | e | e <;> rw [e] at g <;> exact absurd g (by decide)
  · have g := h.2.1; rcases hc with e | e | e <;> rw [e] at g <;> exact absurd g (by decide)
  · exact h.2.2.1.elim
  · exact h.2.2
  · have g := h.2.1; rcases hc with e | e | e <;> rw [e] at g <;> exact absurd g (by decide)
  · have g := h.2.1; rcases hc with e | e | e <;> rw [e] at g <;> exact absurd g (by decide)
  · have g := h.2.1; rcases hc with e | e | e <;> rw [e] at g <;> exact absurd g (by decide)
  · have g := h.2.1; rcases hc with e | e | e <;> rw [e] at g <;> exact absurd g (by decide)
  · have g := h.2.1; rcases hc with e | e | e <;> rw [e] at g <;> exact absurd g (by decide)
  · have g := h.2.1; rcases hc with e | e | e <;> rw [e] at g <;> exact absurd g (by decide)
theorem im_i_18 (h : im_k cd ar A p False i l) (hI : sk_I cd i = true) (hc : cd i = 18 ∨ cd i = 19) : l = [] := by
  rcases h with h | h | h | h | h | h | h | h | h | h | h | h
  · rw [hI] at h; exact absurd h.1 (by decide)
  · have g := h.2.1; rcases hc with e | e <;> rw [e] at g <;> exact absurd g (by decide)
  · have g := h.2.1; rcases hc with e | e <;> rw [e] at g <;> exact absurd g (by decide)
  · have g := h.2.1; rcases hc with e | e <;> rw [e] at g <;> exact absurd g (by decide)
  · exact h.2.2.1.elim
  · have g := h.2.1; rcases hc with e | e <;> rw [e] at g <;> exact absurd g (by decide)
  · exact h.2.2
  · have g := h.2.1; rcases hc with e | e <;> rw [e] at g <;> exact absurd g (by decide)
  · have g := h.2.1; rcases hc with e | e <;> rw [e] at g <;> exact absurd g (by decide)
  · have g := h.2.1; rcases hc with e | e <;> rw [e] at g <;> exact absurd g (by decide)
  · have g := h.2.1; rcases hc with e | e <;> rw [e] at g <;> exact absurd g (by decide)
  · have g := h.2.1; rcases hc with e | e <;> rw [e] at g <;> exact absurd g (by decide)
theorem im_i_20 (h : im_k cd ar A p False i l) (hI : sk_I cd i = true) (hc : cd i = 20 ∨ cd i = 22) : l = [(cd i, some (nI (A (sk_Q cd i (sk_H cd i - 1) + 1))), none)] := by
  rcases h with h | h | h | h | h | h | h | h | h | h | h | h
  · rw [hI] at h; exact absurd h.1 (by decide)
  · have g := h.2.1; rcases hc with e | e <;> rw [e] at g <;> exact absurd g (by decide)
  · have g := h.2.1; rcases hc with e | e <;> rw [e] at g <;> exact absurd g (by decide)
  · have g := h.2.1; rcases hc with e | e <;> rw [e] at g <;> exact absurd g (by decide)
  · exact h.2.2.1.elim
  · have g := h.2.1; rcases hc with e | e <;> rw [e] at g <;> exact absurd g (by decide)
  · have g := h.2.1; rcases hc with e | e <;> rw [e] at g <;> exact absurd g (by decide)
  · exact h.2.2
  · have g := h.2.1; rcases hc with e | e <;> rw [e] at g <;> exact absurd g (by decide)
  · have g := h.2.1; rcases hc with e | e <;> rw [e] at g <;> exact absurd g (by decide)
  · have g := h.2.1; rcases hc with e | e <;> rw [e] at g <;> exact absurd g (by decide)
  · have g := h.2.1; rcases hc with e | e <;> rw [e] at g <;> exact absurd g (by decide)
theorem im_i_23 (h : im_k cd ar A p False i l) (hI : sk_I cd i = true) (hc : cd i = 23) : l = [(cd i, none, some (nI (sk_H cd i)))] := by
  rcases h with h | h | h | h | h | h | h | h | h | h | h | h
  · rw [hI] at h; exact absurd h.1 (by decide)
  · have g := h.2.1; rw [hc] at g; exact absurd g (by decide)
  · have g := h.2.1; rw [hc] at g; exact absurd g (by decide)
  · have g := h.2.1; rw [hc] at g; exact absurd g (by decide)
  · exact h.2.2.1.elim
  · have g := h.2.1; rw [hc] at g; exact absurd g (by decide)
  · have g := h.2.1; rw [hc] at g; exact absurd g (by decide)
  · have g := h.2.1; rw [hc] at g; exact absurd g (by decide)
  · exact h.2.2
  · have g := h.2.1; rw [hc] at g; exact absurd g (by decide)
  · have g := h.2.1; rw [hc] at g; exact absurd g (by decide)
  · have g := h.2.1; rw [hc] at g; exact absurd g (by decide)
theorem im_i_24 (h : im_k cd ar A p False i l) (hI : sk_I cd i = true) (hc : cd i = 24) : l = [(24, some (nI (A (sk_Q cd i (sk_H cd i - 1) + 1))), some (nI (sk_H cd i - 1)))] := by
  rcases h with h | h | h | h | h | h | h | h | h | h | h | h
  · rw [hI] at h; exact absurd h.1 (by decide)
  · have g := h.2.1; rw [hc] at g; exact absurd g (by decide)
  · have g := h.2.1; rw [hc] at g; exact absurd g (by decide)
  · have g := h.2.1; rw [hc] at g; exact absurd g (by decide)
  · exact h.2.2.1.elim
  · have g := h.2.1; rw [hc] at g; exact absurd g (by decide)
  · have g := h.2.1; rw [hc] at g; exact absurd g (by decide)
  · have g := h.2.1; rw [hc] at g; exact absurd g (by decide)
  · have g := h.2.1; rw [hc] at g; exact absurd g (by decide)
  · exact h.2.2
  · have g := h.2.1; rw [hc] at g; exact absurd g (by decide)
  · have g := h.2.1; rw [hc] at g; exact absurd g (by decide)
theorem im_i_25 (h : im_k cd ar A p False i l) (hI : sk_I cd i = true) (hc : cd i = 25) : ∃ j, sk_t (fun j => cd (sk_Q cd i j)) (sk_H cd i) = some j ∧ l = [(25, none, some (nI j))] := by
  rcases h with h | h | h | h | h | h | h | h | h | h | h | h
  · rw [hI] at h; exact absurd h.1 (by decide)
  · have g := h.2.1; rw [hc] at g; exact absurd g (by decide)
  · have g := h.2.1; rw [hc] at g; exact absurd g (by decide)
  · have g := h.2.1; rw [hc] at g; exact absurd g (by decide)
  · exact h.2.2.1.elim
  · have g := h.2.1; rw [hc] at g; exact absurd g (by decide)
  · have g := h.2.1; rw [hc] at g; exact absurd g (by decide)
  · have g := h.2.1; rw [hc] at g; exact absurd g (by decide)
  · have g := h.2.1; rw [hc] at g; exact absurd g (by decide)
  · have g := h.2.1; rw [hc] at g; exact absurd g (by decide)
  · exact h.2.2
  · have g := h.2.1; rw [hc] at g; exact absurd g (by decide)
theorem im_i_27 (h : im_k cd ar A p False i l) (hI : sk_I cd i = true) (hc : cd i = 27) : l = [(27, none, none)] := by
  rcases h with h | h | h | h | h | h | h | h | h | h | h | h
  · rw [hI] at h; exact absurd h.1 (by decide)
  · have g := h.2.1; rw [hc] at g; exact absurd g (by decide)
  · have g := h.2.1; rw [hc] at g; exact absurd g (by decide)
  · have g := h.2.1; rw [hc] at g; exact absurd g (by decide)
  · exact h.2.2.1.elim
  · have g := h.2.1; rw [hc] at g; exact absurd g (by decide)
  · have g := h.2.1; rw [hc] at g; exact absurd g (by decide)
  · have g := h.2.1; rw [hc] at g; exact absurd g (by decide)
  · have g := h.2.1; rw [hc] at g; exact absurd g (by decide)
  · have g := h.2.1; rw [hc] at g; exact absurd g (by decide)
  · have g := h.2.1; rw [hc] at g; exact absurd g (by decide)
  · exact h.2.2
end
end
section
/-! one token of both machines: branches, loops, the end of a word -/
def rS (tk tr ep ln vs ii cn da pl nf pt ea : Int32) (cd ar op oa ob nk nv wt cf cc ps pa pe : Nat → Int32) (T : Nat) (A : Nat → Nat) (m : Nat) : Prop :=
  ∀ (p : Nat) (s : List Nat) (l : List Int32) (o t : Nat) (sk ou ce bk ct lm ys yp yn ye : Nat → Int32), rr cd T A p s l o t sk bk ct lm ys yp yn ye → fr_M (p :: s) + 80 * (200 - t) ≤ m → OU tk tr ep ln vs ii cn da pl nf pt ea cd ar op oa ob nk nv wt cf cc ps pa pe m (nI (A p)) (tk, tr, ep, ln, vs, ii, cn, da, pl, nf, pt, nI l.length, nI o, nI (s.length + 1), nI t, 0, cd, ar, op, oa, ob, nk, nv, wt, cf, cc, ps, pa, pe, sk, ou, ce, bk, ct, lm) (tk, tr, ea, nI l.length, nI o, nI s.length, nI t, cd, ar, ys, ou, ce, yp, yn, ye)
section
variable {tk tr ep ln vs ii cn da pl nf pt ea : Int32} {cd ar op oa ob nk nv wt cf cc ps pa pe : Nat → Int32} {T f m p o t : Nat} {A : Nat → Nat} {s : List Nat} {l : List Int32} {sk ou ce bk ct lm ys yp yn ye : Nat → Int32}
theorem OU_halt {x : Nat} {r : Int32} (C : cp cd ar T f A vs op oa ob nk nv) (htk : tk = nI T) (R : rr cd T A p s l o t sk bk ct lm ys yp yn ye) (hm : 0 < m) (hr : ¬ r = 0)
    (hX : ∀ Q : Int32 → SX → Prop, Q (nI x) (tk, tr, ep, ln, vs, ii, cn, da, pl, nf, pt, nI l.length, nI o, nI (s.length + 1), nI t, r, cd, ar, op, oa, ob, nk, nv, wt, cf, cc, ps, pa, pe, sk, ou, ce, bk, ct, lm) → wpX_perform Q (tk, tr, ep, ln, vs, ii, cn, da, pl, nf, pt, nI l.length, nI o, nI (s.length + 1), nI t, 0, cd, ar, op, oa, ob, nk, nv, wt, cf, cc, ps, pa, pe, sk, ou, ce, bk, ct, lm) (nI x)) (hY : ∀ P : Int32 → Prop, P r → wpY_obstacle P (tk, tr, ea, nI l.length, nI o, nI s.length, nI t, cd, ar, ys, ou, ce, yp, yn, ye) (nI p)) : OU tk tr ep ln vs ii cn da pl nf pt ea cd ar op oa ob nk nv wt cf cc ps pa pe m (nI x) (tk, tr, ep, ln, vs, ii, cn, da, pl, nf, pt, nI l.length, nI o, nI (s.length + 1), nI t, 0, cd, ar, op, oa, ob, nk, nv, wt, cf, cc, ps, pa, pe, sk, ou, ce, bk, ct, lm) (tk, tr, ea, nI l.length, nI o, nI s.length, nI t, cd, ar, ys, ou, ce, yp, yn, ye) := by
  have H := rr_yH C.1.1 C.1.2.1 C.1.2.2.2 htk R
  obtain ⟨⟨a1, a2, a3, a4⟩, b, c, d, e, f, g, g'⟩ := R
  exact OU_end (bx := 1) (ky := 0) g g' e f (fun post hp => xx_step rfl c rfl hX (xx_halted rfl c hr hp)) (fun post hp => yy_stop H a2 hr hY hp) (by omega) (by omega)
theorem OU_one {x m' : Nat} {pc' : Int32} {u' : SX} {v' : SY} (C : cp cd ar T f A vs op oa ob nk nv) (htk : tk = nI T) (R : rr cd T A p s l o t sk bk ct lm ys yp yn ye)
    (ih : OU tk tr ep ln vs ii cn da pl nf pt ea cd ar op oa ob nk nv wt cf cc ps pa pe m' pc' u' v') (hm : m' < m) (hX : ∀ Q : Int32 → SX → Prop, Q pc' u' → wpX_perform Q (tk, tr, ep, ln, vs, ii, cn, da, pl, nf, pt, nI l.length, nI o, nI (s.length + 1), nI t, 0, cd, ar, op, oa, ob, nk, nv, wt, cf, cc, ps, pa, pe, sk, ou, ce, bk, ct, lm) (nI x)) (hY : ∀ P : Int32 → Prop, P 0 → wpY_obstacle P (tk, tr, ea, nI l.length, nI o, nI s.length, nI t, cd, ar, ys, ou, ce, yp, yn, ye) (nI p))
    (hY2 : ∀ Q : SY → Prop, Q v' → wpY_carryOut Q (tk, tr, ea, nI l.length, nI o, nI s.length, nI t, cd, ar, ys, ou, ce, yp, yn, ye) (nI p)) : OU tk tr ep ln vs ii cn da pl nf pt ea cd ar op oa ob nk nv wt cf cc ps pa pe m (nI x) (tk, tr, ep, ln, vs, ii, cn, da, pl, nf, pt, nI l.length, nI o, nI (s.length + 1), nI t, 0, cd, ar, op, oa, ob, nk, nv, wt, cf, cc, ps, pa, pe, sk, ou, ce, bk, ct, lm) (tk, tr, ea, nI l.length, nI o, nI s.length, nI t, cd, ar, ys, ou, ce, yp, yn, ye) := by
  have H := rr_yH C.1.1 C.1.2.1 C.1.2.2.2 htk R
  obtain ⟨⟨a1, a2, a3, a4⟩, b, c, d, e, f, g, g'⟩ := R
  exact OU_go (jx := 1) (ky := 1) ih (fun b post h => xx_step rfl c rfl hX h) (fun b post h => yy_step H a2 hY hY2 h) (by omega) (by omega)
theorem cp_x (C : cp cd ar T f A vs op oa ob nk nv) (hp : p < T) : A (p + 1) ≤ 256 := by
  obtain ⟨_, ⟨hA, hA2⟩, _⟩ := C
  exact Nat.le_trans (hA (p + 1) T (by omega) (Nat.le_refl T)) hA2
theorem cp_H (C : cp cd ar T f A vs op oa ob nk nv) : sk_H cd T = 0 := sk_VI C.1.1 T (Nat.le_refl T) C.1.2.2.1
theorem cp_16 (C : cp cd ar T f A vs op oa ob nk nv) (hp : p < T) (hI : sk_I cd p = true) (hc : cd p = 16) : ∃ r, r < T ∧ sk_B cd 1 p r ∧ oa (A p) = nI (A (r + 1)) := by
  have h0 := cp_H C
  obtain ⟨_, _, _, hG, _⟩ := C
  rcases (hG p hp hI).1 hc with h | ⟨j, hj, _⟩
  · exact h
  · omega
theorem cp_17 (C : cp cd ar T f A vs op oa ob nk nv) (hp : p < T) (hI : sk_I cd p = true) (hc : cd p = 17 ∨ cd p = 21) : ∃ r, r < T ∧ sk_B cd 0 p r ∧ oa (A p) = nI (A (r + 1)) := by
  have h0 := cp_H C
  obtain ⟨_, _, _, hG, _⟩ := C
  rcases (hG p hp hI).2.1 hc with h | ⟨j, hj, _⟩
  · exact h
  · omega
theorem cp_23 (C : cp cd ar T f A vs op oa ob nk nv) (hp : p < T) (hI : sk_I cd p = true) (hc : cd p = 23) : ∃ r, r < T ∧ sk_B cd 0 p r ∧ oa (A p) = nI (A (r + 1)) := by
  have h0 := cp_H C
  obtain ⟨_, _, _, hG, _⟩ := C
  rcases (hG p hp hI).2.2 hc with h | ⟨j, hj, _⟩
  · exact h
  · omega
theorem sk_B0C {i r : Nat} (h : sk_B cd 0 i r) : sk_C (cd r) := by
  rcases h.2.2.2.1 with z | z
  · exact z
  · exact absurd rfl z.1
theorem rk_18 (C : cp cd ar T f A vs op oa ob nk nv) (htk : tk = nI T) (IH : ∀ m', m' < m → rS tk tr ep ln vs ii cn da pl nf pt ea cd ar op oa ob nk nv wt cf cc ps pa pe T A m') (R : rr cd T A p s l o t sk bk ct lm ys yp yn ye) (hM : fr_M (p :: s) + 80 * (200 - t) ≤ m) (hc : cd p = 18 ∨ cd p = 19) : OU tk tr ep ln vs ii cn da pl nf pt ea cd ar op oa ob nk nv wt cf cc ps pa pe m (nI (A p)) (tk, tr, ep, ln, vs, ii, cn, da, pl, nf, pt, nI l.length, nI o, nI (s.length + 1), nI t, 0, cd, ar, op, oa, ob, nk, nv, wt, cf, cc, ps, pa, pe, sk, ou, ce, bk, ct, lm) (tk, tr, ea, nI l.length, nI o, nI s.length, nI t, cd, ar, ys, ou, ce, yp, yn, ye) := by
  have H := rr_yH C.1.1 C.1.2.1 C.1.2.2.2 htk R
  obtain ⟨⟨hV, hT, hIT, hU⟩, _, hTk, _⟩ := id C
  obtain ⟨⟨⟨hpT, hpI⟩, hpo, _, _⟩, _, r3, r4, r5, r6, r7, r8⟩ := id R
  obtain ⟨bl, k1, k2, k3⟩ := hTk p hpT
  rw [im_i_18 k1 hpI hc] at k2
  have n27 : ¬ cd p = 27 := by rcases hc with e | e <;> rw [e] <;> decide
  have hnx := in_next hV hIT hpT hpI n27
  have hy : yt_k (cd p) = 0 := by rcases hc with e | e <;> rw [e] <;> decide
  simp only [fr_M] at hM
  have ih := IH (m - 1) (by omega) (p + 1) s l o t sk ou ce bk ct lm ys (upd yp s.length (nI (p + 1))) yn ye (rr_mv hV hT R hnx (mv_next (by rcases hc with e | e <;> rw [e] <;> decide)) r4 r5 r6 r7 r8) (by simp only [fr_M]; omega)
  rw [show A (p + 1) = A p from k2] at ih
  refine OU_go (jx := 0) (ky := 1) ih (fun b post h => h) (fun b post h => yy_step H hpo (fun P hP => ?_) (fun Q hQ => ?_) h) (by omega) (by omega)
  · exact yy_ob H hpI (by rcases hc with e | e <;> rw [e] <;> decide) (fun z => by rcases hc with e | e <;> rw [e] at z <;> exact absurd z (by decide)) (fun z => by omega) (fun _ _ z => by rcases hc with e | e <;> rw [e] at z <;> exact absurd z (by simp)) (fun z => by rcases hc with e | e <;> rw [e] at z <;> exact absurd z (by decide)) (fun _ _ _ => hP)
  · exact yy_co_led H hpI (by rcases hc with e | e <;> rw [e] <;> decide) n27 (by rcases hc with e | e <;> rw [e] <;> decide) (by omega) (fun R hR => yy_led_n H (Or.inr hc) hR) (by rw [hy]; exact hQ)
theorem rk_17 (C : cp cd ar T f A vs op oa ob nk nv) (htk : tk = nI T) (IH : ∀ m', m' < m → rS tk tr ep ln vs ii cn da pl nf pt ea cd ar op oa ob nk nv wt cf cc ps pa pe T A m') (R : rr cd T A p s l o t sk bk ct lm ys yp yn ye) (hM : fr_M (p :: s) + 80 * (200 - t) ≤ m) (hc : cd p = 17) : OU tk tr ep ln vs ii cn da pl nf pt ea cd ar op oa ob nk nv wt cf cc ps pa pe m (nI (A p)) (tk, tr, ep, ln, vs, ii, cn, da, pl, nf, pt, nI l.length, nI o, nI (s.length + 1), nI t, 0, cd, ar, op, oa, ob, nk, nv, wt, cf, cc, ps, pa, pe, sk, ou, ce, bk, ct, lm) (tk, tr, ea, nI l.length, nI o, nI s.length, nI t, cd, ar, ys, ou, ce, yp, yn, ye) := by
  have H := rr_yH C.1.1 C.1.2.1 C.1.2.2.2 htk R
  obtain ⟨⟨hV, hT, hIT, hU⟩, _, hTk, _⟩ := id C
  obtain ⟨⟨⟨hpT, hpI⟩, hpo, _, _⟩, _, r3, r4, r5, r6, r7, r8⟩ := id R
  obtain ⟨bl, k1, k2, k3⟩ := hTk p hpT
  have hbl := im_i_16 k1 hpI (Or.inr (Or.inl hc))
  subst hbl
  have hop : op (A p) = 17 := by rw [← hc]; exact k3.1.1
  obtain ⟨r, hr, hB, hoa⟩ := cp_17 C hpT hpI (Or.inl hc)
  have hx : A p < 256 := by have := cp_x C hpT; have k2' : A (p + 1) = A p + 1 := k2; omega
  have hnx := in_B hV hIT hr hB
  have hy : yt_k (cd p) = 0 := by rw [hc]; decide
  have hlt := hB.1
  simp only [fr_M] at hM
  have ih := IH (m - 1) (by omega) (r + 1) s l o t sk ou ce bk ct lm ys (upd yp s.length (nI (r + 1))) yn ye (rr_mv hV hT R hnx (mv_B hB (Or.inr (Or.inl hc)) (Or.inl (sk_B0C hB))) r4 r5 r6 r7 r8) (by simp only [fr_M]; omega)
  refine OU_one C htk R ih (by omega) (fun Q hQ => xx_pf17 hx hop (by rw [hoa]; exact hQ)) (fun P hP => ?_) (fun Q hQ => ?_)
  · exact yy_ob H hpI (by rw [hc]; decide) (fun z => by rw [hc] at z; exact absurd z (by decide)) (fun z => by omega) (fun _ _ z => by rw [hc] at z; exact absurd z (by simp)) (fun z => by rw [hc] at z; exact absurd z (by decide)) (fun _ _ _ => hP)
  · exact yy_co_led H hpI (by rw [hc]; decide) (by rw [hc]; decide) (by rw [hc]; decide) (by omega) (fun R hR => yy_led_17 H (Or.inl hc) hr hB hR) (by rw [hy]; exact hQ)
theorem rk_16 (C : cp cd ar T f A vs op oa ob nk nv) (htk : tk = nI T) (IH : ∀ m', m' < m → rS tk tr ep ln vs ii cn da pl nf pt ea cd ar op oa ob nk nv wt cf cc ps pa pe T A m') (R : rr cd T A p s l o t sk bk ct lm ys yp yn ye) (hM : fr_M (p :: s) + 80 * (200 - t) ≤ m) (hc : cd p = 16 ∨ cd p = 21) : OU tk tr ep ln vs ii cn da pl nf pt ea cd ar op oa ob nk nv wt cf cc ps pa pe m (nI (A p)) (tk, tr, ep, ln, vs, ii, cn, da, pl, nf, pt, nI l.length, nI o, nI (s.length + 1), nI t, 0, cd, ar, op, oa, ob, nk, nv, wt, cf, cc, ps, pa, pe, sk, ou, ce, bk, ct, lm) (tk, tr, ea, nI l.length, nI o, nI s.length, nI t, cd, ar, ys, ou, ce, yp, yn, ye) := by
  have H := rr_yH C.1.1 C.1.2.1 C.1.2.2.2 htk R
  obtain ⟨⟨hV, hT, hIT, hU⟩, _, hTk, _⟩ := id C
  obtain ⟨⟨⟨hpT, hpI⟩, hpo, _, _⟩, _, r3, r4, r5, r6, r7, r8⟩ := id R
  obtain ⟨bl, k1, k2, k3⟩ := hTk p hpT
  have hbl := im_i_16 k1 hpI (by rcases hc with e | e; exact Or.inl e; exact Or.inr (Or.inr e))
  subst hbl
  have hop : op (A p) = cd p := k3.1.1
  have hx : A p < 256 := by have := cp_x C hpT; have k2' : A (p + 1) = A p + 1 := k2; omega
  have hy : yt_k (cd p) = 1 := by rcases hc with e | e <;> rw [e] <;> decide
  have n27 : ¬ cd p = 27 := by rcases hc with e | e <;> rw [e] <;> decide
  have n4 : ¬ (cd p = 4 ∨ cd p = 12 ∨ cd p = 13 ∨ cd p = 14) := by rcases hc with e | e <;> rw [e] <;> decide
  have n15 : ¬ cd p = 15 := by rcases hc with e | e <;> rw [e] <;> decide
  have n20 : ¬ ((cd p = 20 ∧ st_g l 0 = 0) ∨ cd p = 22 ∨ cd p = 24) := by rcases hc with e | e <;> rw [e] <;> simp
  have n0 : ¬ (cd p = 0 ∨ cd p = 5 ∨ cd p = 8 ∨ cd p = 25 ∨ cd p = 15) := by rcases hc with e | e <;> rw [e] <;> decide
  simp only [fr_M] at hM
  cases l with
  | nil =>
    refine OU_halt (r := 11) C htk R (by omega) (by decide) (fun Q hQ => xx_pf11 hx hop (by rcases hc with e | e; exact Or.inl e; exact Or.inr (Or.inr (Or.inl e))) rfl hQ) (fun P hP => ?_)
    exact yy_ob H hpI n4 (fun z => absurd z n15) (fun _ => hP) (fun z => by rw [hy] at z; exact absurd z (by simp)) (fun z => absurd z n0) (fun z => by rw [hy] at z; exact absurd z (by simp))
  | cons z l' =>
    have hle : yt_k (cd p) ≤ (z :: l').length := by rw [hy]; simp
    have hob : ∀ P : Int32 → Prop, P 0 → wpY_obstacle P (tk, tr, ea, nI (z :: l').length, nI o, nI s.length, nI t, cd, ar, ys, ou, ce, yp, yn, ye) (nI p) := fun P hP =>
      yy_ob H hpI n4 (fun z => absurd z n15) (fun w => by omega) (fun _ _ w => absurd w n20) (fun w => absurd w n0) (fun _ _ _ => hP)
    have hsk : sk l'.length = z := r7.1
    have hl' : l'.length < 16 := by simp only [List.length_cons] at r5; omega
    have hcl : ∀ (p' : Nat), (∀ R : Int32 → SY → Prop, R (nI p') (tk, tr, ea, nI (z :: l').length, nI o, nI s.length, nI t, cd, ar, ys, ou, ce, yp, yn, ye) → wpY_led R (tk, tr, ea, nI (z :: l').length, nI o, nI s.length, nI t, cd, ar, ys, ou, ce, yp, yn, ye) (nI p)) → ∀ Q : SY → Prop, Q (tk, tr, ea, nI l'.length, nI o, nI s.length, nI t, cd, ar, ys, ou, ce, upd yp s.length (nI p'), yn, ye) → wpY_carryOut Q (tk, tr, ea, nI (z :: l').length, nI o, nI s.length, nI t, cd, ar, ys, ou, ce, yp, yn, ye) (nI p) := fun p' hl Q hQ =>
      yy_co_led H hpI (by rcases hc with e | e <;> rw [e] <;> decide) n27 (by rcases hc with e | e <;> rw [e] <;> decide) hle hl (by rw [hy]; exact hQ)
    have hXp : ∀ pc' Q, pc' = (if z = 0 then oa (A p) else nI (A p + 1)) → Q pc' (tk, tr, ep, ln, vs, ii, cn, da, pl, nf, pt, nI l'.length, nI o, nI (s.length + 1), nI t, 0, cd, ar, op, oa, ob, nk, nv, wt, cf, cc, ps, pa, pe, sk, ou, ce, bk, ct, lm) → wpX_perform Q (tk, tr, ep, ln, vs, ii, cn, da, pl, nf, pt, nI (z :: l').length, nI o, nI (s.length + 1), nI t, 0, cd, ar, op, oa, ob, nk, nv, wt, cf, cc, ps, pa, pe, sk, ou, ce, bk, ct, lm) (nI (A p)) := by
      intro pc' Q e hQ
      refine xx_pf16 (m := l'.length) hx hop (by rcases hc with e | e; exact Or.inl e; exact Or.inr e) rfl hl' ?_
      rw [hsk, ← e]; exact hQ
    by_cases hz : z = 0
    · rw [if_pos hz] at hXp
      obtain ⟨w, r, hr, hB, hoa, hw⟩ : ∃ w r, r < T ∧ sk_B cd w p r ∧ oa (A p) = nI (A (r + 1)) ∧ ((cd p = 16 ∧ w = 1) ∨ (cd p = 21 ∧ w = 0)) := by
        rcases hc with e | e
        · obtain ⟨r, a, b, c⟩ := cp_16 C hpT hpI e
          exact ⟨1, r, a, b, c, Or.inl ⟨e, rfl⟩⟩
        · obtain ⟨r, a, b, c⟩ := cp_17 C hpT hpI (Or.inr e)
          exact ⟨0, r, a, b, c, Or.inr ⟨e, rfl⟩⟩
      have hnx := in_B hV hIT hr hB
      have hlt := hB.1
      have hmv : sk_mv cd p (r + 1) := by
        refine mv_B hB (by rcases hc with e | e; exact Or.inl (Or.inl e); exact Or.inr (Or.inr e)) ?_
        rcases hB.2.2.2.1 with q | q
        · exact Or.inl q
        · exact Or.inr ⟨q.2, by rcases hc with e | e <;> rw [e] <;> decide⟩
      have ih := IH (m - 1) (by omega) (r + 1) s l' o t sk ou ce bk ct lm ys (upd yp s.length (nI (r + 1))) yn ye (rr_mv hV hT R hnx hmv r4 (by omega) r6 r7.2 r8.2) (by simp only [fr_M]; omega)
      refine OU_one C htk R ih (by omega) (fun Q hQ => hXp _ Q hoa.symm hQ) hob (hcl (r + 1) (fun R' hR => ?_))
      rcases hw with ⟨e, e2⟩ | ⟨e, e2⟩
      · subst e2; exact yy_led_16 H e hz hr hB hR
      · subst e2; exact yy_led_17 H (Or.inr ⟨e, hz⟩) hr hB hR
    · rw [if_neg hz] at hXp
      have hnx := in_next hV hIT hpT hpI n27
      have ih := IH (m - 1) (by omega) (p + 1) s l' o t sk ou ce bk ct lm ys (upd yp s.length (nI (p + 1))) yn ye (rr_mv hV hT R hnx (mv_next (by rcases hc with e | e <;> rw [e] <;> decide)) r4 (by omega) r6 r7.2 r8.2) (by simp only [fr_M]; omega)
      refine OU_one C htk R ih (by omega) (fun Q hQ => hXp _ Q (by rw [show A (p + 1) = A p + 1 from k2]) hQ) hob (hcl (p + 1) (fun R' hR => ?_))
      exact yy_led_n H (Or.inl ⟨by rcases hc with e | e; exact Or.inl e; exact Or.inr (Or.inr e), hz⟩) hR
end
end
section
/-! one token of both machines: UNTIL, REPEAT, TIMES, LOOP, COUNT, the end of a word -/
section
variable {tk tr ep ln vs ii cn da pl nf pt ea : Int32} {cd ar op oa ob nk nv wt cf cc ps pa pe : Nat → Int32} {T f m p o t : Nat} {A : Nat → Nat} {s : List Nat} {l : List Int32} {sk ou ce bk ct lm ys yp yn ye : Nat → Int32}
theorem rk_22 (C : cp cd ar T f A vs op oa ob nk nv) (htk : tk = nI T) (IH : ∀ m', m' < m → rS tk tr ep ln vs ii cn da pl nf pt ea cd ar op oa ob nk nv wt cf cc ps pa pe T A m') (R : rr cd T A p s l o t sk bk ct lm ys yp yn ye) (hM : fr_M (p :: s) + 80 * (200 - t) ≤ m) (hc : cd p = 22) : OU tk tr ep ln vs ii cn da pl nf pt ea cd ar op oa ob nk nv wt cf cc ps pa pe m (nI (A p)) (tk, tr, ep, ln, vs, ii, cn, da, pl, nf, pt, nI l.length, nI o, nI (s.length + 1), nI t, 0, cd, ar, op, oa, ob, nk, nv, wt, cf, cc, ps, pa, pe, sk, ou, ce, bk, ct, lm) (tk, tr, ea, nI l.length, nI o, nI s.length, nI t, cd, ar, ys, ou, ce, yp, yn, ye) := by
  have H := rr_yH C.1.1 C.1.2.1 C.1.2.2.2 htk R
  obtain ⟨⟨hV, hT, hIT, hU⟩, _, hTk, _⟩ := id C
  obtain ⟨⟨⟨hpT, hpI⟩, hpo, _, _⟩, _, r3, r4, r5, r6, r7, r8⟩ := id R
  obtain ⟨bl, k1, k2, k3⟩ := hTk p hpT
  have hbl := im_i_20 k1 hpI (Or.inr hc)
  subst hbl
  have hop : op (A p) = 22 := by rw [← hc]; exact k3.1.1
  have hoa := k3.1.2.1 _ rfl
  have hx : A p < 256 := by have := cp_x C hpT; have k2' : A (p + 1) = A p + 1 := k2; omega
  have hy : yt_k (cd p) = 0 := by rw [hc]; decide
  have hH : 0 < sk_H cd p := sk_VB hV hpT (Or.inl (Or.inr (Or.inr (Or.inl hc))))
  obtain ⟨q1, q2, q3⟩ := in_back hV hpT hH
  simp only [fr_M] at hM
  have n4 : ¬ (cd p = 4 ∨ cd p = 12 ∨ cd p = 13 ∨ cd p = 14) := by rw [hc]; decide
  have n15 : ¬ cd p = 15 := by rw [hc]; decide
  have n0 : ¬ (cd p = 0 ∨ cd p = 5 ∨ cd p = 8 ∨ cd p = 25 ∨ cd p = 15) := by rw [hc]; decide
  by_cases e : t = 200
  · refine OU_halt (r := 16) C htk R (by omega) (by decide) (fun Q hQ => xx_pf22 hx hop rfl r4 (fun _ => hQ) (fun z => by omega)) (fun P hP => ?_)
    exact yy_ob H hpI n4 (fun z => absurd z n15) (fun z => by omega) (fun _ _ _ => hP) (fun z => absurd z n0) (fun _ z => absurd (Or.inr (Or.inl hc)) (z e))
  · have ih := IH (m - 1) (by omega) (sk_Q cd p (sk_H cd p - 1) + 1) s l o (t + 1) sk ou ce bk ct lm ys (upd yp s.length (nI (sk_Q cd p (sk_H cd p - 1) + 1))) yn ye (rr_mv hV hT R ⟨q1, q2⟩ (mv_back hH) (by omega) r5 r6 r7 r8) (by simp only [fr_M]; omega)
    refine OU_one C htk R ih (by omega) (fun Q hQ => xx_pf22 hx hop rfl r4 (fun z => absurd z e) (fun _ => by rw [hoa]; exact hQ)) (fun P hP => ?_) (fun Q hQ => ?_)
    · exact yy_ob H hpI n4 (fun z => absurd z n15) (fun z => by omega) (fun _ z => absurd z e) (fun z => absurd z n0) (fun _ _ _ => hP)
    · exact yy_co_led H hpI (by rw [hc]; decide) (by rw [hc]; decide) (by rw [hc]; decide) (by omega) (fun R hR => yy_led_20 H (Or.inr hc) hR) (by rw [hy]; exact hQ)
theorem rk_20 (C : cp cd ar T f A vs op oa ob nk nv) (htk : tk = nI T) (IH : ∀ m', m' < m → rS tk tr ep ln vs ii cn da pl nf pt ea cd ar op oa ob nk nv wt cf cc ps pa pe T A m') (R : rr cd T A p s l o t sk bk ct lm ys yp yn ye) (hM : fr_M (p :: s) + 80 * (200 - t) ≤ m) (hc : cd p = 20) : OU tk tr ep ln vs ii cn da pl nf pt ea cd ar op oa ob nk nv wt cf cc ps pa pe m (nI (A p)) (tk, tr, ep, ln, vs, ii, cn, da, pl, nf, pt, nI l.length, nI o, nI (s.length + 1), nI t, 0, cd, ar, op, oa, ob, nk, nv, wt, cf, cc, ps, pa, pe, sk, ou, ce, bk, ct, lm) (tk, tr, ea, nI l.length, nI o, nI s.length, nI t, cd, ar, ys, ou, ce, yp, yn, ye) := by
  have H := rr_yH C.1.1 C.1.2.1 C.1.2.2.2 htk R
  obtain ⟨⟨hV, hT, hIT, hU⟩, _, hTk, _⟩ := id C
  obtain ⟨⟨⟨hpT, hpI⟩, hpo, _, _⟩, _, r3, r4, r5, r6, r7, r8⟩ := id R
  obtain ⟨bl, k1, k2, k3⟩ := hTk p hpT
  have hbl := im_i_20 k1 hpI (Or.inl hc)
  subst hbl
  have hop : op (A p) = 20 := by rw [← hc]; exact k3.1.1
  have hoa := k3.1.2.1 _ rfl
  have hx : A p < 256 := by have := cp_x C hpT; have k2' : A (p + 1) = A p + 1 := k2; omega
  have hy : yt_k (cd p) = 1 := by rw [hc]; decide
  have hH : 0 < sk_H cd p := sk_VB hV hpT (Or.inl (Or.inr (Or.inl hc)))
  obtain ⟨q1, q2, q3⟩ := in_back hV hpT hH
  simp only [fr_M] at hM
  have n4 : ¬ (cd p = 4 ∨ cd p = 12 ∨ cd p = 13 ∨ cd p = 14) := by rw [hc]; decide
  have n15 : ¬ cd p = 15 := by rw [hc]; decide
  have n0 : ¬ (cd p = 0 ∨ cd p = 5 ∨ cd p = 8 ∨ cd p = 25 ∨ cd p = 15) := by rw [hc]; decide
  have n24 : ¬ (cd p = 22 ∨ cd p = 24) := by rw [hc]; decide
  cases l with
  | nil =>
    refine OU_halt (r := 11) C htk R (by omega) (by decide) (fun Q hQ => xx_pf11 hx hop (Or.inr (Or.inl rfl)) rfl hQ) (fun P hP => ?_)
    exact yy_ob H hpI n4 (fun z => absurd z n15) (fun _ => hP) (fun z => by rw [hy] at z; exact absurd z (by simp)) (fun z => absurd z n0) (fun z => by rw [hy] at z; exact absurd z (by simp))
  | cons z l' =>
    have hle : yt_k (cd p) ≤ (z :: l').length := by rw [hy]; simp
    have hsk : sk l'.length = z := r7.1
    have hl' : l'.length < 16 := by simp only [List.length_cons] at r5; omega
    by_cases hz : z = 0
    · by_cases e : t = 200
      · refine OU_halt (r := 16) C htk R (by omega) (by decide) (fun Q hQ => xx_pf20 (m := l'.length) hx hop rfl hl' rfl r4 (fun _ _ => hQ) (fun _ z => by omega) (fun w => absurd (by rw [hsk]; exact hz) w)) (fun P hP => ?_)
        exact yy_ob H hpI n4 (fun z => absurd z n15) (fun z => by omega) (fun _ _ _ => hP) (fun z => absurd z n0) (fun _ w => absurd (Or.inl ⟨hc, hz⟩) (w e))
      · have ih := IH (m - 1) (by omega) (sk_Q cd p (sk_H cd p - 1) + 1) s l' o (t + 1) sk ou ce bk ct lm ys (upd yp s.length (nI (sk_Q cd p (sk_H cd p - 1) + 1))) yn ye (rr_mv hV hT R ⟨q1, q2⟩ (mv_back hH) (by omega) (by omega) r6 r7.2 r8.2) (by simp only [fr_M]; omega)
        refine OU_one C htk R ih (by omega) (fun Q hQ => xx_pf20 (m := l'.length) hx hop rfl hl' rfl r4 (fun _ w => absurd w e) (fun _ _ => by rw [hoa]; exact hQ) (fun w => absurd (by rw [hsk]; exact hz) w)) (fun P hP => ?_) (fun Q hQ => ?_)
        · exact yy_ob H hpI n4 (fun z => absurd z n15) (fun z => by omega) (fun _ z => absurd z e) (fun z => absurd z n0) (fun _ _ _ => hP)
        · exact yy_co_led H hpI (by rw [hc]; decide) (by rw [hc]; decide) (by rw [hc]; decide) hle (fun R hR => yy_led_20 H (Or.inl ⟨hc, hz⟩) hR) (by rw [hy]; exact hQ)
    · have n27 : ¬ cd p = 27 := by rw [hc]; decide
      have hnx := in_next hV hIT hpT hpI n27
      have ih := IH (m - 1) (by omega) (p + 1) s l' o t sk ou ce bk ct lm ys (upd yp s.length (nI (p + 1))) yn ye (rr_mv hV hT R hnx (mv_next (by rw [hc]; decide)) r4 (by omega) r6 r7.2 r8.2) (by simp only [fr_M]; omega)
      refine OU_one C htk R ih (by omega) (fun Q hQ => xx_pf20 (m := l'.length) hx hop rfl hl' rfl r4 (fun w => absurd (by rw [← hsk]; exact w) hz) (fun w => absurd (by rw [← hsk]; exact w) hz) (fun _ => by rw [show A p + 1 = A (p + 1) from k2.symm]; exact hQ)) (fun P hP => ?_) (fun Q hQ => ?_)
      · exact yy_ob H hpI n4 (fun z => absurd z n15) (fun z => by omega) (fun _ _ w => by rcases w with w | w; exact absurd w.2 hz; exact absurd w n24) (fun z => absurd z n0) (fun _ _ _ => hP)
      · exact yy_co_led H hpI (by rw [hc]; decide) n27 (by rw [hc]; decide) hle (fun R hR => yy_led_n H (Or.inl ⟨Or.inr (Or.inl hc), hz⟩) hR) (by rw [hy]; exact hQ)
theorem rk_25 (C : cp cd ar T f A vs op oa ob nk nv) (htk : tk = nI T) (IH : ∀ m', m' < m → rS tk tr ep ln vs ii cn da pl nf pt ea cd ar op oa ob nk nv wt cf cc ps pa pe T A m') (R : rr cd T A p s l o t sk bk ct lm ys yp yn ye) (hM : fr_M (p :: s) + 80 * (200 - t) ≤ m) (hc : cd p = 25) : OU tk tr ep ln vs ii cn da pl nf pt ea cd ar op oa ob nk nv wt cf cc ps pa pe m (nI (A p)) (tk, tr, ep, ln, vs, ii, cn, da, pl, nf, pt, nI l.length, nI o, nI (s.length + 1), nI t, 0, cd, ar, op, oa, ob, nk, nv, wt, cf, cc, ps, pa, pe, sk, ou, ce, bk, ct, lm) (tk, tr, ea, nI l.length, nI o, nI s.length, nI t, cd, ar, ys, ou, ce, yp, yn, ye) := by
  have H := rr_yH C.1.1 C.1.2.1 C.1.2.2.2 htk R
  obtain ⟨⟨hV, hT, hIT, hU⟩, _, hTk, _⟩ := id C
  obtain ⟨⟨⟨hpT, hpI⟩, hpo, hct, _⟩, _, r3, r4, r5, r6, r7, r8⟩ := id R
  obtain ⟨bl, k1, k2, k3⟩ := hTk p hpT
  obtain ⟨j, hj, hbl⟩ := im_i_25 k1 hpI hc
  subst hbl
  have hop : op (A p) = 25 := k3.1.1
  have hob := k3.1.2.2 _ rfl
  have hx : A p < 256 := by have := cp_x C hpT; have k2' : A (p + 1) = A p + 1 := k2; omega
  have hy : yt_k (cd p) = 0 := by rw [hc]; decide
  have h6 := sk_V6 hV p (by omega)
  obtain ⟨j1, j2⟩ := sk_t_some _ hj
  obtain ⟨e1, e2⟩ := hct j j1 j2
  simp only [fr_M] at hM
  have n4 : ¬ (cd p = 4 ∨ cd p = 12 ∨ cd p = 13 ∨ cd p = 14) := by rw [hc]; decide
  have n15 : ¬ cd p = 15 := by rw [hc]; decide
  have n27 : ¬ cd p = 27 := by rw [hc]; decide
  have n20 : ¬ ((cd p = 20 ∧ st_g l 0 = 0) ∨ cd p = 22 ∨ cd p = 24) := by rw [hc]; simp
  by_cases e : l.length = 16
  · refine OU_halt (r := 12) C htk R (by omega) (by decide) (fun Q hQ => xx_pf25 hx hop hob (by omega) rfl r3 rfl r5 (fun _ => hQ) (fun z => by omega)) (fun P hP => ?_)
    exact yy_ob H hpI n4 (fun z => absurd z n15) (fun z => by omega) (fun _ _ z => absurd z n20) (fun _ _ => hP) (fun _ _ z => by have := z (Or.inr (Or.inr (Or.inr (Or.inl hc)))); omega)
  · have hnx := in_next hV hIT hpT hpI n27
    have ih := IH (m - 1) (by omega) (p + 1) s (ct (6 * s.length + j) :: l) o t (upd sk l.length (ct (6 * s.length + j))) ou ce bk ct lm (upd ys l.length (ct (6 * s.length + j))) (upd yp s.length (nI (p + 1))) yn ye (rr_mv hV hT R hnx (mv_next (by rw [hc]; decide)) r4 (by simp only [List.length_cons]; omega) r6 (st_p r7) (st_p r8)) (by simp only [fr_M]; omega)
    refine OU_one C htk R ih (by omega) (fun Q hQ => xx_pf25 hx hop hob (by omega) rfl r3 rfl r5 (fun z => absurd z e) (fun _ => by rw [show A p + 1 = A (p + 1) from k2.symm]; exact hQ)) (fun P hP => ?_) (fun Q hQ => ?_)
    · exact yy_ob H hpI n4 (fun z => absurd z n15) (fun z => by omega) (fun _ _ z => absurd z n20) (fun _ z => absurd z e) (fun _ _ _ => hP)
    · exact yy_co_25 H hc hj (by omega) (by rw [← e1]; exact hQ)
theorem rk_27 (C : cp cd ar T f A vs op oa ob nk nv) (htk : tk = nI T) (IH : ∀ m', m' < m → rS tk tr ep ln vs ii cn da pl nf pt ea cd ar op oa ob nk nv wt cf cc ps pa pe T A m') (R : rr cd T A p s l o t sk bk ct lm ys yp yn ye) (hM : fr_M (p :: s) + 80 * (200 - t) ≤ m) (hc : cd p = 27) : OU tk tr ep ln vs ii cn da pl nf pt ea cd ar op oa ob nk nv wt cf cc ps pa pe m (nI (A p)) (tk, tr, ep, ln, vs, ii, cn, da, pl, nf, pt, nI l.length, nI o, nI (s.length + 1), nI t, 0, cd, ar, op, oa, ob, nk, nv, wt, cf, cc, ps, pa, pe, sk, ou, ce, bk, ct, lm) (tk, tr, ea, nI l.length, nI o, nI s.length, nI t, cd, ar, ys, ou, ce, yp, yn, ye) := by
  have H := rr_yH C.1.1 C.1.2.1 C.1.2.2.2 htk R
  obtain ⟨⟨hV, hT, hIT, hU⟩, _, hTk, _⟩ := id C
  obtain ⟨⟨⟨hpT, hpI⟩, hpo, _, rt⟩, rb, r3, r4, r5, r6, r7, r8⟩ := id R
  obtain ⟨bl, k1, k2, k3⟩ := hTk p hpT
  have hbl := im_i_27 k1 hpI hc
  subst hbl
  have hop : op (A p) = 27 := k3.1.1
  have hx : A p < 256 := by have := cp_x C hpT; have k2' : A (p + 1) = A p + 1 := k2; omega
  have hy : yt_k (cd p) = 0 := by rw [hc]; decide
  simp only [fr_M] at hM
  have hob : ∀ P : Int32 → Prop, P 0 → wpY_obstacle P (tk, tr, ea, nI l.length, nI o, nI s.length, nI t, cd, ar, ys, ou, ce, yp, yn, ye) (nI p) := fun P hP =>
    yy_ob H hpI (by rw [hc]; decide) (fun z => by rw [hc] at z; exact absurd z (by decide)) (fun z => by omega) (fun _ _ z => by rw [hc] at z; exact absurd z (by simp)) (fun z => by rw [hc] at z; exact absurd z (by decide)) (fun _ _ _ => hP)
  cases s with
  | nil =>
    refine OU_end (bx := 1) (ky := 1) r7 r8 r5 r6 (fun post hp => xx_step (L := 0) rfl (by omega) rfl (fun Q hQ => xx_pf27 (L := 0) hx hop rfl (by omega) (fun _ => hQ) (fun z => by omega)) (xx_ended rfl hp)) (fun post hp => yy_step H hpo hob (fun Q hQ => yy_co_27 H hc hQ) (yy_fin sk_n1 hp)) (by omega) (by omega)
  | cons q s' =>
    obtain ⟨t1, t2, t3, t4⟩ := rt
    obtain ⟨u1, u2⟩ := rb
    simp only [List.length_cons] at r3
    have ih := IH (m - 1) (by omega) q s' l o t sk ou ce bk ct lm ys yp yn ye ⟨⟨t1, t2, t3, t4⟩, u2, by omega, r4, r5, r6, r7, r8⟩ (by simp only [fr_M] at hM ⊢; omega)
    refine OU_one C htk R ih (by omega) (fun Q hQ => xx_pf27 (L := s'.length + 1) hx hop rfl (by omega) (fun z => by omega) (fun _ => by rw [u1]; exact hQ)) hob (fun Q hQ => yy_co_27 H hc ?_)
    rw [show (q :: s').length = s'.length + 1 from rfl, nI_pred]
    exact hQ
end
end
section
/-! one token of both machines: the counted loop -/
section
variable {cd ar : Nat → Int32} {T p p' o o' t t' : Nat} {s : List Nat} {l l' : List Int32} {A : Nat → Nat} {sk sk' ys' bk ct lm ys yp yn ye ct' lm' yn' ye' : Nat → Int32}
theorem rr_ct (hV : sk_V cd ar T) (hT : T ≤ 80) (h : rr cd T A p s l o t sk bk ct lm ys yp yn ye) (hp : p' < T ∧ sk_I cd p' = true)
    (h6 : ∀ k, k < 6 * s.length → ct' k = ct k ∧ lm' k = lm k) (h80 : ∀ k, k < 80 * s.length → yn' k = yn k ∧ ye' k = ye k)
    (hc : ∀ j, j < sk_H cd p' → cd (sk_Q cd p' j) = 23 → ct' (6 * s.length + j) = yn' (80 * s.length + sk_Q cd p' j) ∧ lm' (6 * s.length + j) = ye' (80 * s.length + sk_Q cd p' j))
    (ht : t' ≤ 200) (hl : l'.length ≤ 16) (ho : o' ≤ 16) (h1 : st_S sk' l') (h2 : st_S ys' l') :
    rr cd T A p' s l' o' t' sk' bk ct' lm' ys' (upd yp s.length (nI p')) yn' ye' := by
  obtain ⟨⟨a1, a2, a3, a4⟩, b, c, d, e, f, g, g'⟩ := h
  exact ⟨⟨hp, pk_us, hc, fr_R_keep hV hT s a4 (fun k hk => pk_un (by omega)) h6 h80⟩, b, c, ht, hl, ho, h1, h2⟩
end
section
variable {tk tr ep ln vs ii cn da pl nf pt ea : Int32} {cd ar op oa ob nk nv wt cf cc ps pa pe : Nat → Int32} {T f m p o t : Nat} {A : Nat → Nat} {s : List Nat} {l : List Int32} {sk ou ce bk ct lm ys yp yn ye : Nat → Int32}
theorem rk_23 (C : cp cd ar T f A vs op oa ob nk nv) (htk : tk = nI T) (IH : ∀ m', m' < m → rS tk tr ep ln vs ii cn da pl nf pt ea cd ar op oa ob nk nv wt cf cc ps pa pe T A m') (R : rr cd T A p s l o t sk bk ct lm ys yp yn ye) (hM : fr_M (p :: s) + 80 * (200 - t) ≤ m) (hc : cd p = 23) : OU tk tr ep ln vs ii cn da pl nf pt ea cd ar op oa ob nk nv wt cf cc ps pa pe m (nI (A p)) (tk, tr, ep, ln, vs, ii, cn, da, pl, nf, pt, nI l.length, nI o, nI (s.length + 1), nI t, 0, cd, ar, op, oa, ob, nk, nv, wt, cf, cc, ps, pa, pe, sk, ou, ce, bk, ct, lm) (tk, tr, ea, nI l.length, nI o, nI s.length, nI t, cd, ar, ys, ou, ce, yp, yn, ye) := by
  have H := rr_yH C.1.1 C.1.2.1 C.1.2.2.2 htk R
  obtain ⟨⟨hV, hT, hIT, hU⟩, _, hTk, _⟩ := id C
  obtain ⟨⟨⟨hpT, hpI⟩, hpo, hct, _⟩, _, r3, r4, r5, r6, r7, r8⟩ := id R
  obtain ⟨bl, k1, k2, k3⟩ := hTk p hpT
  have hbl := im_i_23 k1 hpI hc
  subst hbl
  have hop : op (A p) = 23 := by rw [← hc]; exact k3.1.1
  have hob := k3.1.2.2 _ rfl
  have hx : A p < 256 := by have := cp_x C hpT; have k2' : A (p + 1) = A p + 1 := k2; omega
  have hy : yt_k (cd p) = 1 := by rw [hc]; decide
  have hO : sk_O (cd p) := Or.inr (Or.inr hc)
  have h6 : sk_H cd p < 6 := ((hV p hpT).2 hpI).2.2.2.2.2.2.2.2.2 hO
  obtain ⟨r, hr, hB, hoa⟩ := cp_23 C hpT hpI hc
  simp only [fr_M] at hM
  have n4 : ¬ (cd p = 4 ∨ cd p = 12 ∨ cd p = 13 ∨ cd p = 14) := by rw [hc]; decide
  have n15 : ¬ cd p = 15 := by rw [hc]; decide
  have n27 : ¬ cd p = 27 := by rw [hc]; decide
  have n0 : ¬ (cd p = 0 ∨ cd p = 5 ∨ cd p = 8 ∨ cd p = 25 ∨ cd p = 15) := by rw [hc]; decide
  have n20 : ¬ ((cd p = 20 ∧ st_g l 0 = 0) ∨ cd p = 22 ∨ cd p = 24) := by rw [hc]; simp
  cases l with
  | nil =>
    refine OU_halt (r := 11) C htk R (by omega) (by decide) (fun Q hQ => xx_pf11 hx hop (Or.inr (Or.inr (Or.inr rfl))) rfl hQ) (fun P hP => ?_)
    exact yy_ob H hpI n4 (fun z => absurd z n15) (fun _ => hP) (fun z => by rw [hy] at z; exact absurd z (by simp)) (fun z => absurd z n0) (fun z => by rw [hy] at z; exact absurd z (by simp))
  | cons z l' =>
    have hle : yt_k (cd p) ≤ (z :: l').length := by rw [hy]; simp
    have hsk : sk l'.length = z := r7.1
    have hl' : l'.length < 16 := by simp only [List.length_cons] at r5; omega
    have hob' : ∀ P : Int32 → Prop, P 0 → wpY_obstacle P (tk, tr, ea, nI (z :: l').length, nI o, nI s.length, nI t, cd, ar, ys, ou, ce, yp, yn, ye) (nI p) := fun P hP =>
      yy_ob H hpI n4 (fun z => absurd z n15) (fun w => by omega) (fun _ _ w => absurd w n20) (fun w => absurd w n0) (fun _ _ _ => hP)
    have low : ∀ j q, j < sk_H cd p → q = sk_Q cd p j → cd q = 23 → upd ct (6 * s.length + sk_H cd p) 0 (6 * s.length + j) = upd yn (80 * s.length + p) 0 (80 * s.length + q) ∧ upd lm (6 * s.length + sk_H cd p) z (6 * s.length + j) = upd ye (80 * s.length + p) z (80 * s.length + q) := by
      intro j q hj hq hc'
      have hqp := (sk_nest (cd := cd) p j hj).1
      rw [← hq] at hqp
      rw [pk_un (by omega), pk_un (by omega), pk_un (by omega), pk_un (by omega), hq]
      exact hct j hj (by rw [← hq]; exact hc')
    have go : ∀ p', (p' < T ∧ sk_I cd p' = true) → p < p' → (∀ j, j < sk_H cd p' → cd (sk_Q cd p' j) = 23 → upd ct (6 * s.length + sk_H cd p) 0 (6 * s.length + j) = upd yn (80 * s.length + p) 0 (80 * s.length + sk_Q cd p' j) ∧ upd lm (6 * s.length + sk_H cd p) z (6 * s.length + j) = upd ye (80 * s.length + p) z (80 * s.length + sk_Q cd p' j)) →
        (nI (A p') = if 0 < z then nI (A p + 1) else oa (A p)) → (p' = if 0 < z then p + 1 else r + 1) → OU tk tr ep ln vs ii cn da pl nf pt ea cd ar op oa ob nk nv wt cf cc ps pa pe m (nI (A p)) (tk, tr, ep, ln, vs, ii, cn, da, pl, nf, pt, nI (z :: l').length, nI o, nI (s.length + 1), nI t, 0, cd, ar, op, oa, ob, nk, nv, wt, cf, cc, ps, pa, pe, sk, ou, ce, bk, ct, lm) (tk, tr, ea, nI (z :: l').length, nI o, nI s.length, nI t, cd, ar, ys, ou, ce, yp, yn, ye) := by
      intro p' hp' hlt hcnt e1 e2
      have ih := IH (m - 1) (by omega) p' s l' o t sk ou ce bk (upd ct (6 * s.length + sk_H cd p) 0) (upd lm (6 * s.length + sk_H cd p) z) ys (upd yp s.length (nI p')) (upd yn (80 * s.length + p) 0) (upd ye (80 * s.length + p) z)
        (rr_ct hV hT R hp' (fun k hk => ⟨pk_un (by omega), pk_un (by omega)⟩) (fun k hk => ⟨pk_un (by omega), pk_un (by omega)⟩) hcnt r4 (by omega) r6 r7.2 r8.2) (by simp only [fr_M]; omega)
      refine OU_one C htk R ih (by omega) (fun Q hQ => xx_pf23 (m := l'.length) hx hop hob h6 rfl r3 rfl hl' ?_) hob' (fun Q hQ => ?_)
      · rw [hsk, ← e1]; exact hQ
      · exact yy_co_led H hpI (by rw [hc]; decide) n27 (by rw [hc]; decide) hle (fun R hR => yy_led_23 H hc hr hB (by rw [show st_g (z :: l') 0 = z from rfl, ← e2]; exact hR)) (by rw [hy]; exact hQ)
    by_cases hz : 0 < z
    · have hnx := in_next hV hIT hpT hpI n27
      refine go (p + 1) hnx (by omega) (fun j hj hq => ?_) (by rw [if_pos hz, show A (p + 1) = A p + 1 from k2]) (by rw [if_pos hz])
      rw [sk_HO hO] at hj
      by_cases e : j = sk_H cd p
      · subst e
        rw [sk_QO hO rfl, pk_us, pk_us, pk_us, pk_us]; exact ⟨rfl, rfl⟩
      · exact low j _ (by omega) (sk_Qlt (by omega)) hq
    · have hnx := in_B hV hIT hr hB
      have hmv := mv_B hB (Or.inl hO) (Or.inl (sk_B0C hB))
      have hlt := hB.1
      refine go (r + 1) hnx (by omega) (fun j hj hq => ?_) (by rw [if_neg hz, hoa]) (by rw [if_neg hz])
      obtain ⟨m1, m2⟩ := hmv j hj hq
      exact low j _ m1 m2.symm hq
theorem rk_24 (C : cp cd ar T f A vs op oa ob nk nv) (htk : tk = nI T) (IH : ∀ m', m' < m → rS tk tr ep ln vs ii cn da pl nf pt ea cd ar op oa ob nk nv wt cf cc ps pa pe T A m') (R : rr cd T A p s l o t sk bk ct lm ys yp yn ye) (hM : fr_M (p :: s) + 80 * (200 - t) ≤ m) (hc : cd p = 24) : OU tk tr ep ln vs ii cn da pl nf pt ea cd ar op oa ob nk nv wt cf cc ps pa pe m (nI (A p)) (tk, tr, ep, ln, vs, ii, cn, da, pl, nf, pt, nI l.length, nI o, nI (s.length + 1), nI t, 0, cd, ar, op, oa, ob, nk, nv, wt, cf, cc, ps, pa, pe, sk, ou, ce, bk, ct, lm) (tk, tr, ea, nI l.length, nI o, nI s.length, nI t, cd, ar, ys, ou, ce, yp, yn, ye) := by
  have H := rr_yH C.1.1 C.1.2.1 C.1.2.2.2 htk R
  obtain ⟨⟨hV, hT, hIT, hU⟩, _, hTk, _⟩ := id C
  obtain ⟨⟨⟨hpT, hpI⟩, hpo, hct, _⟩, _, r3, r4, r5, r6, r7, r8⟩ := id R
  obtain ⟨bl, k1, k2, k3⟩ := hTk p hpT
  have hbl := im_i_24 k1 hpI hc
  subst hbl
  have hop : op (A p) = 24 := k3.1.1
  have hoa := k3.1.2.1 _ rfl
  have hob := k3.1.2.2 _ rfl
  have hx : A p < 256 := by have := cp_x C hpT; have k2' : A (p + 1) = A p + 1 := k2; omega
  have hy : yt_k (cd p) = 0 := by rw [hc]; decide
  have hC : sk_C (cd p) := Or.inr (Or.inr (Or.inr hc))
  have hH : 0 < sk_H cd p := sk_VB hV hpT (Or.inl hC)
  have h6 := sk_V6 hV p (by omega)
  obtain ⟨q1, q2, q3⟩ := in_back hV hpT hH
  obtain ⟨g1, g2, g3, g4⟩ := sk_nest (cd := cd) p (sk_H cd p - 1) (by omega)
  have hq23 : cd (sk_Q cd p (sk_H cd p - 1)) = 23 := by
    have hS := ((hV p hpT).2 hpI).2.2.2.2.2.2.1 hc
    rw [sk_S1 hH] at hS
    rcases sk_mk hV p (by omega) (sk_H cd p - 1) (by omega) with w | w | w
    · rw [← w]; exact hS
    · rw [hS] at w; exact absurd w.2 (by decide)
    · rw [hS] at w; exact absurd w.2 (by decide)
  obtain ⟨c1, c2⟩ := hct (sk_H cd p - 1) (by omega) hq23
  simp only [fr_M] at hM
  have n4 : ¬ (cd p = 4 ∨ cd p = 12 ∨ cd p = 13 ∨ cd p = 14) := by rw [hc]; decide
  have n15 : ¬ cd p = 15 := by rw [hc]; decide
  have n27 : ¬ cd p = 27 := by rw [hc]; decide
  have n0 : ¬ (cd p = 0 ∨ cd p = 5 ∨ cd p = 8 ∨ cd p = 25 ∨ cd p = 15) := by rw [hc]; decide
  by_cases e : t = 200
  · refine OU_halt (r := 16) C htk R (by omega) (by decide) (fun Q hQ => xx_pf24 hx hop hob (by omega) rfl r3 rfl r4 (fun _ => hQ) (fun z => by omega)) (fun P hP => ?_)
    exact yy_ob H hpI n4 (fun z => absurd z n15) (fun z => by omega) (fun _ _ _ => hP) (fun z => absurd z n0) (fun _ z => absurd (Or.inr (Or.inr hc)) (z e))
  · generalize hqq : sk_Q cd p (sk_H cd p - 1) = q at *
    generalize hjj : sk_H cd p - 1 = j0 at *
    have hob' : ∀ P : Int32 → Prop, P 0 → wpY_obstacle P (tk, tr, ea, nI l.length, nI o, nI s.length, nI t, cd, ar, ys, ou, ce, yp, yn, ye) (nI p) := fun P hP =>
      yy_ob H hpI n4 (fun z => absurd z n15) (fun z => by omega) (fun _ z => absurd z e) (fun z => absurd z n0) (fun _ _ _ => hP)
    have low : ∀ j x, j < j0 → x = sk_Q cd p j → cd x = 23 → upd ct (6 * s.length + j0) (ct (6 * s.length + j0) + 1) (6 * s.length + j) = upd yn (80 * s.length + q) (yn (80 * s.length + q) + 1) (80 * s.length + x) ∧ lm (6 * s.length + j) = ye (80 * s.length + x) := by
      intro j x hj hx' hc'
      have hne : ¬ x = q := by
        intro z
        have := (sk_nest (cd := cd) p j (by omega)).2.2.1
        rw [← hx', z, g3] at this
        omega
      rw [pk_un (by omega), pk_un (by omega), hx']
      exact hct j (by omega) (by rw [← hx']; exact hc')
    have go : ∀ p', (p' < T ∧ sk_I cd p' = true) → (∀ j, j < sk_H cd p' → cd (sk_Q cd p' j) = 23 → upd ct (6 * s.length + j0) (ct (6 * s.length + j0) + 1) (6 * s.length + j) = upd yn (80 * s.length + q) (yn (80 * s.length + q) + 1) (80 * s.length + sk_Q cd p' j) ∧ lm (6 * s.length + j) = ye (80 * s.length + sk_Q cd p' j)) →
        (nI (A p') = if lm (6 * s.length + j0) ≤ ct (6 * s.length + j0) + 1 then nI (A p + 1) else oa (A p)) → (p' = if ye (80 * s.length + q) ≤ yn (80 * s.length + q) + 1 then p + 1 else q + 1) → OU tk tr ep ln vs ii cn da pl nf pt ea cd ar op oa ob nk nv wt cf cc ps pa pe m (nI (A p)) (tk, tr, ep, ln, vs, ii, cn, da, pl, nf, pt, nI l.length, nI o, nI (s.length + 1), nI t, 0, cd, ar, op, oa, ob, nk, nv, wt, cf, cc, ps, pa, pe, sk, ou, ce, bk, ct, lm) (tk, tr, ea, nI l.length, nI o, nI s.length, nI t, cd, ar, ys, ou, ce, yp, yn, ye) := by
      intro p' hp' hcnt e1 e2
      have ih := IH (m - 1) (by omega) p' s l o (t + 1) sk ou ce bk (upd ct (6 * s.length + j0) (ct (6 * s.length + j0) + 1)) lm ys (upd yp s.length (nI p')) (upd yn (80 * s.length + q) (yn (80 * s.length + q) + 1)) ye
        (rr_ct hV hT R hp' (fun k hk => ⟨pk_un (by omega), rfl⟩) (fun k hk => ⟨pk_un (by omega), rfl⟩) hcnt (by omega) r5 r6 r7 r8) (by simp only [fr_M]; omega)
      refine OU_one C htk R ih (by omega) (fun Q hQ => xx_pf24 hx hop hob (by omega) rfl r3 rfl r4 (fun z => absurd z e) (fun _ => ?_)) hob' (fun Q hQ => ?_)
      · rw [← e1]; exact hQ
      · exact yy_co_led H hpI (by rw [hc]; decide) n27 (by rw [hc]; decide) (by omega) (fun R hR => yy_led_24 (q := q) H hc (by rw [hjj]; exact hqq.symm) (by rw [← e2]; exact hR)) (by rw [hy]; exact hQ)
    by_cases hz : ye (80 * s.length + q) ≤ yn (80 * s.length + q) + 1
    · have hnx := in_next hV hIT hpT hpI n27
      refine go (p + 1) hnx (fun j hj hq => ?_) (by rw [if_pos (by rw [c1, c2]; exact hz), show A (p + 1) = A p + 1 from k2]) (by rw [if_pos hz])
      rw [sk_HC hC] at hj
      exact low j _ (by omega) (sk_Qx (fun z => (sk_Cn hC).2.1 z.1)) hq
    · refine go (q + 1) ⟨q1, q2⟩ (fun j hj hq => ?_) (by rw [if_neg (by rw [c1, c2]; exact hz), hoa]) (by rw [if_neg hz])
      rw [sk_HO g2, g3] at hj
      by_cases ej : j = j0
      · subst ej
        rw [sk_QO g2 g3.symm, pk_us, pk_us, c1, c2]; exact ⟨rfl, rfl⟩
      · have hQ := (g4 (q + 1) (by omega) (by omega)).2 j (by omega)
        exact low j _ (by omega) hQ hq
end
end
section
/-! one plain token, or a fused group, of both machines -/
def OUb (tk tr ep ln vs ii cn da pl nf pt ea : Int32) (cd ar op oa ob nk nv wt cf cc ps pa pe : Nat → Int32) (bx m : Nat) (pc : Int32) (u : SX) (v : SY) : Prop :=
  ∃ (r : Int32) (l : List Int32) (o : Nat) (rn tu so lv yt : Int32) (sk ou ce bk ct lm ys yp yn ye : Nat → Int32),
    st_S sk l ∧ st_S ys l ∧ l.length ≤ 16 ∧ o ≤ 16 ∧
    (∀ post : Int32 → SX → Prop, post r (tk, tr, ep, ln, vs, ii, cn, da, pl, nf, pt, nI l.length, nI o, rn, tu, so, cd, ar, op, oa, ob, nk, nv, wt, cf, cc, ps, pa, pe, sk, ou, ce, bk, ct, lm) → xB bx post pc u) ∧
    (∀ post : Int32 → SY → Prop, post r (tk, tr, ea, nI l.length, nI o, lv, yt, cd, ar, ys, ou, ce, yp, yn, ye) → yB m post v)
section
variable {tk tr ep ln vs ii cn da pl nf pt ea : Int32} {cd ar op oa ob nk nv wt cf cc ps pa pe : Nat → Int32} {m m' bx jx ky : Nat} {pc pc' : Int32} {u u' : SX} {v v' : SY}
theorem OUb_up (h : OUb tk tr ep ln vs ii cn da pl nf pt ea cd ar op oa ob nk nv wt cf cc ps pa pe bx m pc u v) (hb : bx ≤ 2 * m + 1) : OU tk tr ep ln vs ii cn da pl nf pt ea cd ar op oa ob nk nv wt cf cc ps pa pe m pc u v := by
  obtain ⟨r, l, o, rn, tu, so, lv, yt, sk, ou, ce, bk, ct, lm, ys, yp, yn, ye, h1, h2, h3, h4, h5, h6⟩ := h
  exact ⟨r, l, o, rn, tu, so, lv, yt, sk, ou, ce, bk, ct, lm, ys, yp, yn, ye, h1, h2, h3, h4, fun post hp => xB_m (h5 post hp) hb, h6⟩
theorem OUb_x (h : OUb tk tr ep ln vs ii cn da pl nf pt ea cd ar op oa ob nk nv wt cf cc ps pa pe bx m pc' u' v) (hX : ∀ b post, xB b post pc' u' → xB (b + 1) post pc u) : OUb tk tr ep ln vs ii cn da pl nf pt ea cd ar op oa ob nk nv wt cf cc ps pa pe (bx + 1) m pc u v := by
  obtain ⟨r, l, o, rn, tu, so, lv, yt, sk, ou, ce, bk, ct, lm, ys, yp, yn, ye, h1, h2, h3, h4, h5, h6⟩ := h
  exact ⟨r, l, o, rn, tu, so, lv, yt, sk, ou, ce, bk, ct, lm, ys, yp, yn, ye, h1, h2, h3, h4, fun post hp => hX _ post (h5 post hp), h6⟩
theorem OUb_go (h : OU tk tr ep ln vs ii cn da pl nf pt ea cd ar op oa ob nk nv wt cf cc ps pa pe m' pc' u' v') (hX : ∀ b post, xB b post pc' u' → xB (b + jx) post pc u) (hY : ∀ b post, yB b post v' → yB (b + ky) post v)
    (hj : 2 * m' + 1 + jx ≤ bx) (hm : m' + ky ≤ m) : OUb tk tr ep ln vs ii cn da pl nf pt ea cd ar op oa ob nk nv wt cf cc ps pa pe bx m pc u v := by
  obtain ⟨r, l, o, rn, tu, so, lv, yt, sk, ou, ce, bk, ct, lm, ys, yp, yn, ye, h1, h2, h3, h4, h5, h6⟩ := h
  exact ⟨r, l, o, rn, tu, so, lv, yt, sk, ou, ce, bk, ct, lm, ys, yp, yn, ye, h1, h2, h3, h4, fun post hp => xB_m (hX _ post (h5 post hp)) hj, fun post hp => yB_m (hY _ post (h6 post hp)) hm⟩
theorem OUb_end {r : Int32} {l : List Int32} {o b1 : Nat} {rn tu so lv yt : Int32} {sk ou ce bk ct lm ys yp yn ye : Nat → Int32} (h1 : st_S sk l) (h2 : st_S ys l) (h3 : l.length ≤ 16) (h4 : o ≤ 16)
    (hX : ∀ post : Int32 → SX → Prop, post r (tk, tr, ep, ln, vs, ii, cn, da, pl, nf, pt, nI l.length, nI o, rn, tu, so, cd, ar, op, oa, ob, nk, nv, wt, cf, cc, ps, pa, pe, sk, ou, ce, bk, ct, lm) → xB b1 post pc u) (hY : ∀ post : Int32 → SY → Prop, post r (tk, tr, ea, nI l.length, nI o, lv, yt, cd, ar, ys, ou, ce, yp, yn, ye) → yB ky post v) (hb : b1 ≤ bx) (hk : ky ≤ m) :
    OUb tk tr ep ln vs ii cn da pl nf pt ea cd ar op oa ob nk nv wt cf cc ps pa pe bx m pc u v :=
  ⟨r, l, o, rn, tu, so, lv, yt, sk, ou, ce, bk, ct, lm, ys, yp, yn, ye, h1, h2, h3, h4, fun post hp => xB_m (hX post hp) hb, fun post hp => yB_m (hY post hp) hk⟩
end
theorem yE_pl {cd ar : Nat → Int32} {T p : Nat} {ec ev : Int32} (h : yE cd ar T p ec ev) : sk_pl ec ∧ ¬ cd p = 23 ∧ ¬ cd p = 27 := by
  rcases h with ⟨h, e, _⟩ | ⟨c, d, _, _, e, _⟩
  · rw [e]
    have g := sk_pl_n h
    exact ⟨h, fun z => g.2.2.2.2.1 (Or.inr (Or.inr z)), g.2.2.1⟩
  · rw [e, c]; decide
section
variable {tk tr ep ln vs ii cn da pl nf pt ea : Int32} {cd ar op oa ob nk nv wt cf cc ps pa pe : Nat → Int32} {T f m p o t : Nat} {A : Nat → Nat} {s : List Nat} {l : List Int32} {sk ou ce bk ct lm ys yp yn ye : Nat → Int32}
theorem cp_v (C : cp cd ar T f A vs op oa ob nk nv) : vs = nI (sk_v cd T) ∧ sk_v cd T ≤ 12 := by
  obtain ⟨_, _, _, _, _, hN⟩ := C
  exact ⟨hN.1, by rw [hN.2.1]; exact iv_kc_le 12⟩
/-- one plain token of Y alone -/
theorem yk_step {ec ev r : Int32} {l' : List Int32} {o' : Nat} {ou' ce' : Nat → Int32} (C : cp cd ar T f A vs op oa ob nk nv) (htk : tk = nI T) (R : rr cd T A p s l o t sk bk ct lm ys yp yn ye) (hE : yE cd ar T p ec ev)
    (h : pm (sk_v cd T) ec ev l o ou ce r l' o' ou' ce') (hr : r = 0) :
    ∃ ys', rr cd T A (p + 1) s l' o' t ys' bk ct lm ys' (upd yp s.length (nI (p + 1))) yn ye ∧
      ∀ b post, yB b post (tk, tr, ea, nI l'.length, nI o', nI s.length, nI t, cd, ar, ys', ou', ce', upd yp s.length (nI (p + 1)), yn, ye) → yB (b + 1) post (tk, tr, ea, nI l.length, nI o, nI s.length, nI t, cd, ar, ys, ou, ce, yp, yn, ye) := by
  have H := rr_yH C.1.1 C.1.2.1 C.1.2.2.2 htk R
  obtain ⟨hvs, hv⟩ := cp_v C
  obtain ⟨⟨hV, hT, hIT, hU⟩, _⟩ := id C
  obtain ⟨⟨⟨hpT, hpI⟩, hpo, _, _⟩, _, r3, r4, r5, r6, r7, r8⟩ := id R
  obtain ⟨e1, e2, e3⟩ := yE_pl hE
  obtain ⟨len, leno⟩ := pm_len h hr r5 r6
  obtain ⟨hob, ys', hst, hco⟩ := yy_eff0 (tr := tr) (ea := ea) (lv := nI s.length) (yt := nI t) (yp := yp) (yn := yn) (ye := ye) H hpI hE h hr hv
  exact ⟨ys', rr_mv hV hT R (in_next hV hIT hpT hpI e3) (mv_next e2) r4 len leno hst hst, fun b post hb => yy_step H hpo hob hco hb⟩
theorem rr_sk {sk' : Nat → Int32} (R : rr cd T A p s l o t sk bk ct lm ys yp yn ye) (h : st_S sk' l) : rr cd T A p s l o t sk' bk ct lm ys yp yn ye := by
  obtain ⟨a, b, c, d, e, f, g, g'⟩ := R
  exact ⟨a, b, c, d, e, f, h, g'⟩
theorem rk_at {y : Nat} {ec ev : Int32} (C : cp cd ar T f A vs op oa ob nk nv) (htk : tk = nI T) (IH : ∀ m', m' < m → rS tk tr ep ln vs ii cn da pl nf pt ea cd ar op oa ob nk nv wt cf cc ps pa pe T A m') (R : rr cd T A p s l o t sk bk ct lm ys yp yn ye) (hM : fr_M (p :: s) + 80 * (200 - t) ≤ m)
    (hE : yE cd ar T p ec ev) (hop : op y = ec) (hoa : oa y = ev) (hy : y < 256) (hAn : A (p + 1) = y + 1) : OUb tk tr ep ln vs ii cn da pl nf pt ea cd ar op oa ob nk nv wt cf cc ps pa pe (2 * m) m (nI y) (tk, tr, ep, ln, vs, ii, cn, da, pl, nf, pt, nI l.length, nI o, nI (s.length + 1), nI t, 0, cd, ar, op, oa, ob, nk, nv, wt, cf, cc, ps, pa, pe, sk, ou, ce, bk, ct, lm) (tk, tr, ea, nI l.length, nI o, nI s.length, nI t, cd, ar, ys, ou, ce, yp, yn, ye) := by
  have H := rr_yH C.1.1 C.1.2.1 C.1.2.2.2 htk R
  obtain ⟨hvs, hv⟩ := cp_v C
  obtain ⟨⟨hV, hT, hIT, hU⟩, _⟩ := id C
  obtain ⟨⟨⟨hpT, hpI⟩, hpo, _, _⟩, _, r3, r4, r5, r6, r7, r8⟩ := id R
  obtain ⟨e1, e2, e3⟩ := yE_pl hE
  simp only [fr_M] at hM
  obtain ⟨r, l', o', ou', ce', h⟩ := pm_tot (nv := sk_v cd T) (c := ec) (a := ev) (l := l) (o := o) (ou := ou) (ce := ce) e1 r5 r6 hv
  obtain ⟨sk', g1, g2⟩ := xx_pfP (tk := tk) (tr := tr) (ep := ep) (ln := ln) (vs := vs) (ii := ii) (cn := cn) (da := da) (pl := pl) (nf := nf) (pt := pt) (rn := nI (s.length + 1)) (tu := nI t) (so := 0) (cd := cd) (ar := ar) (op := op) (oa := oa) (ob := ob) (nk := nk) (nv := nv) (wt := wt) (cf := cf) (cc := cc) (ps := ps) (pa := pa) (pe := pe) (sk := sk) (bk := bk) (ct := ct) (lm := lm) h e1 hy hop rfl r5 r7 rfl r6 hvs hv hoa
  by_cases hr : r = 0
  · obtain ⟨ys', R', hst⟩ := yk_step (tr := tr) (ea := ea) C htk R hE h hr
    have ih := IH (m - 1) (by omega) (p + 1) s l' o' t sk' ou' ce' bk ct lm ys' (upd yp s.length (nI (p + 1))) yn ye (rr_sk R' (g1 hr)) (by simp only [fr_M]; omega)
    rw [hAn] at ih
    exact OUb_go (jx := 1) (ky := 1) ih (fun b post hb => xx_step rfl r3 rfl (fun Q hQ => g2 Q (fun z => absurd hr z) (fun _ => hQ)) hb) hst (by omega) (by omega)
  · exact OUb_end (b1 := 1) (ky := 0) r7 r8 r5 r6 (fun post hp => xx_step rfl r3 rfl (fun Q hQ => g2 Q (fun _ => hQ) (fun z => absurd z hr)) (xx_halted rfl r3 hr hp)) (fun post hp => yy_stop H hpo hr (yy_effE H hpI hE h hr) hp) (by omega) (by omega)
end
end
section
/-! a fused group of tokens of both machines -/
theorem sk_A_pl {c : Int32} (h : sk_A c) : sk_pl c := by rcases h with e | e | e | e | e <;> subst e <;> decide
section
variable {tk tr ep ln vs ii cn da pl nf pt ea : Int32} {cd ar op oa ob nk nv wt cf cc ps pa pe : Nat → Int32} {T f m p o t : Nat} {A : Nat → Nat} {s : List Nat} {l : List Int32} {sk ou ce bk ct lm ys yp yn ye : Nat → Int32}
/-- two plain tokens of Y and one operation of X -/
theorem rk_two {e1 v1 e2 v2 r1 r2 : Int32} {l1 l2 : List Int32} {o1 o2 : Nat} {ou1 ce1 ou2 ce2 sk' : Nat → Int32} (C : cp cd ar T f A vs op oa ob nk nv) (htk : tk = nI T) (IH : ∀ m', m' < m → rS tk tr ep ln vs ii cn da pl nf pt ea cd ar op oa ob nk nv wt cf cc ps pa pe T A m') (R : rr cd T A p s l o t sk bk ct lm ys yp yn ye) (hM : fr_M (p :: s) + 80 * (200 - t) ≤ m)
    (hE1 : yE cd ar T p e1 v1) (h1 : pm (sk_v cd T) e1 v1 l o ou ce r1 l1 o1 ou1 ce1) (hr1 : r1 = 0) (hE2 : yE cd ar T (p + 1) e2 v2) (h2 : pm (sk_v cd T) e2 v2 l1 o1 ou1 ce1 r2 l2 o2 ou2 ce2) (hr2 : r2 = 0)
    (hA : A (p + 2) = A p + 3) (hst : st_S sk' l2) (hX : ∀ Q : Int32 → SX → Prop, Q (nI (A p + 3)) (tk, tr, ep, ln, vs, ii, cn, da, pl, nf, pt, nI l2.length, nI o2, nI (s.length + 1), nI t, 0, cd, ar, op, oa, ob, nk, nv, wt, cf, cc, ps, pa, pe, sk', ou2, ce2, bk, ct, lm) → wpX_perform Q (tk, tr, ep, ln, vs, ii, cn, da, pl, nf, pt, nI l.length, nI o, nI (s.length + 1), nI t, 0, cd, ar, op, oa, ob, nk, nv, wt, cf, cc, ps, pa, pe, sk, ou, ce, bk, ct, lm) (nI (A p))) : OU tk tr ep ln vs ii cn da pl nf pt ea cd ar op oa ob nk nv wt cf cc ps pa pe m (nI (A p)) (tk, tr, ep, ln, vs, ii, cn, da, pl, nf, pt, nI l.length, nI o, nI (s.length + 1), nI t, 0, cd, ar, op, oa, ob, nk, nv, wt, cf, cc, ps, pa, pe, sk, ou, ce, bk, ct, lm) (tk, tr, ea, nI l.length, nI o, nI s.length, nI t, cd, ar, ys, ou, ce, yp, yn, ye) := by
  obtain ⟨⟨⟨hpT, hpI⟩, hpo, _, _⟩, _, r3, r4, r5, r6, r7, r8⟩ := id R
  obtain ⟨ys1, R1, st1⟩ := yk_step (tr := tr) (ea := ea) C htk R hE1 h1 hr1
  obtain ⟨ys2, R2, st2⟩ := yk_step (tr := tr) (ea := ea) C htk R1 hE2 h2 hr2
  have hp2 := R2.1.1.1
  have hT := C.1.2.1
  simp only [fr_M] at hM
  have ih := IH (m - 2) (by omega) (p + 1 + 1) s l2 o2 t sk' ou2 ce2 bk ct lm ys2 _ yn ye (rr_sk R2 hst) (by simp only [fr_M]; omega)
  rw [show A (p + 1 + 1) = A p + 3 from hA] at ih
  exact OU_go (jx := 1) (ky := 2) ih (fun b post hb => xx_step rfl r3 rfl hX hb) (fun b post hb => st1 _ _ (st2 _ _ hb)) (by omega) (by omega)
theorem rk_fu {va fo fa fb ec ev : Int32} {w : Nat} (C : cp cd ar T f A vs op oa ob nk nv) (htk : tk = nI T) (IH : ∀ m', m' < m → rS tk tr ep ln vs ii cn da pl nf pt ea cd ar op oa ob nk nv wt cf cc ps pa pe T A m') (R : rr cd T A p s l o t sk bk ct lm ys yp yn ye) (hM : fr_M (p :: s) + 80 * (200 - t) ≤ m)
    (hE : yE cd ar T p ec ev) (hva : cd p = 15 → ec = 0 ∧ ev = va ∧ ∃ b, va = nI b ∧ b < sk_v cd T) (hF : sk_F cd ar p va fo fa fb w) (hop : op (A p) = fo) (hoa : oa (A p) = fa) (hob : ob (A p) = fb) (hop2 : op (A p + 1) = ec) (hoa2 : oa (A p + 1) = ev) (hAn : A (p + 1) = A p + 2) : OU tk tr ep ln vs ii cn da pl nf pt ea cd ar op oa ob nk nv wt cf cc ps pa pe m (nI (A p)) (tk, tr, ep, ln, vs, ii, cn, da, pl, nf, pt, nI l.length, nI o, nI (s.length + 1), nI t, 0, cd, ar, op, oa, ob, nk, nv, wt, cf, cc, ps, pa, pe, sk, ou, ce, bk, ct, lm) (tk, tr, ea, nI l.length, nI o, nI s.length, nI t, cd, ar, ys, ou, ce, yp, yn, ye) := by
  obtain ⟨hvs, hv⟩ := cp_v C
  obtain ⟨⟨hV, hT, hIT, hU⟩, ⟨hA, hA2⟩, hTk, hG, hFu, hN⟩ := id C
  obtain ⟨⟨⟨hpT, hpI⟩, hpo, _, _⟩, _, r3, r4, r5, r6, r7, r8⟩ := id R
  obtain ⟨e1, e2, e3⟩ := yE_pl hE
  obtain ⟨f1, f2, f3, f4, f5⟩ := sk_F_al hF
  have hn1 := in_next hV hIT hpT hpI e3
  have hAp2 : A (p + 2) = A p + 3 := (hFu p hpT hAn (by rw [hop]; exact f3) 2 (Or.inl rfl)).1 (by omega)
  have hx : A p + 2 < 256 := by have := hA (p + 2) T (by omega) (Nat.le_refl T); omega
  have miss : (∀ b post, xB b post (nI (A p + 1)) (tk, tr, ep, ln, vs, ii, cn, da, pl, nf, pt, nI l.length, nI o, nI (s.length + 1), nI t, 0, cd, ar, op, oa, ob, nk, nv, wt, cf, cc, ps, pa, pe, sk, ou, ce, bk, ct, lm) → xB (b + 1) post (nI (A p)) (tk, tr, ep, ln, vs, ii, cn, da, pl, nf, pt, nI l.length, nI o, nI (s.length + 1), nI t, 0, cd, ar, op, oa, ob, nk, nv, wt, cf, cc, ps, pa, pe, sk, ou, ce, bk, ct, lm)) → OU tk tr ep ln vs ii cn da pl nf pt ea cd ar op oa ob nk nv wt cf cc ps pa pe m (nI (A p)) (tk, tr, ep, ln, vs, ii, cn, da, pl, nf, pt, nI l.length, nI o, nI (s.length + 1), nI t, 0, cd, ar, op, oa, ob, nk, nv, wt, cf, cc, ps, pa, pe, sk, ou, ce, bk, ct, lm) (tk, tr, ea, nI l.length, nI o, nI s.length, nI t, cd, ar, ys, ou, ce, yp, yn, ye) := fun hX =>
    OUb_up (OUb_x (rk_at (y := A p + 1) C htk IH R hM hE hop2 hoa2 (by omega) hAn) hX) (by omega)
  rcases hF with ⟨h1, h2, h3, h4, h5, h6⟩ | ⟨h1, h2, h3, h4, h5, h6⟩ | ⟨h1, h2, h3, h4, h5⟩ | ⟨h1, h2, h3, h4, h5⟩ | ⟨h1, h2, h3, h4, h5⟩ | ⟨h1, h2, h3, h4, h5⟩ | ⟨h1, h2, h3, h4, h5⟩ | ⟨h1, h2, h3, h4, h5⟩
  · subst h2
    by_cases fit : l.length ≤ 14
    · have hA3 : A (p + 3) = A p + 4 := (hFu p hpT hAn (by rw [hop]; exact f3) 3 (Or.inr ⟨rfl, hop⟩)).1 (by
        have := in_next hV hIT hn1.1 hn1.2 (by rw [h4]; decide)
        omega)
      have hE1 : yE cd ar T p 0 (ar p) := Or.inl ⟨by rw [h3]; decide, h3.symm, rfl⟩
      have hE2 : yE cd ar T (p + 1) 0 (ar (p + 1)) := Or.inl ⟨by rw [h4]; decide, h4.symm, rfl⟩
      have hE3 : yE cd ar T (p + 1 + 1) (cd (p + 2)) (ar (p + 2)) := Or.inl ⟨sk_A_pl h5, rfl, rfl⟩
      obtain ⟨ys1, R1, st1⟩ := yk_step (tr := tr) (ea := ea) (r := 0) (l' := ar p :: l) (o' := o) (ou' := ou) (ce' := ce) C htk R hE1 (Or.inr ⟨rfl, Or.inl ⟨rfl, by omega, rfl, rfl, rfl, rfl⟩⟩) rfl
      obtain ⟨ys2, R2, st2⟩ := yk_step (tr := tr) (ea := ea) (r := 0) (l' := ar (p + 1) :: ar p :: l) (o' := o) (ou' := ou) (ce' := ce) C htk R1 hE2 (Or.inr ⟨rfl, Or.inl ⟨rfl, by simp only [List.length_cons]; omega, rfl, rfl, rfl, rfl⟩⟩) rfl
      obtain ⟨ys3, R3, st3⟩ := yk_step (tr := tr) (ea := ea) (r := 0) (l' := sk_w (cd (p + 2)) (ar p) (ar (p + 1)) :: l) (o' := o) (ou' := ou) (ce' := ce) C htk R2 hE3 (Or.inr ⟨rfl, Or.inr (Or.inl ⟨_, _, _, rfl, Or.inl h5, rfl, rfl, rfl, rfl⟩)⟩) rfl
      have hp3 := R3.1.1.1
      simp only [fr_M] at hM
      have ih := IH (m - 3) (by omega) (p + 1 + 1 + 1) s (sk_w (cd (p + 2)) (ar p) (ar (p + 1)) :: l) o t (upd sk l.length fa) ou ce bk ct lm ys3 _ yn ye (rr_sk R3 (by rw [h6]; exact st_p r7)) (by simp only [fr_M]; omega)
      rw [show A (p + 1 + 1 + 1) = A p + 4 from hA3] at ih
      exact OU_go (jx := 1) (ky := 3) ih (fun b post hb => xx_step rfl r3 rfl (fun Q hQ => xx_fu30 hx hop rfl r5 (fun z => by omega) (fun _ => by rw [hoa]; exact hQ)) hb) (fun b post hb => st1 _ _ (st2 _ _ (st3 _ _ hb))) (by omega) (by omega)
    · exact miss (fun b post hb => xx_step rfl r3 rfl (fun Q hQ => xx_fu30 hx hop rfl r5 (fun _ => hQ) (fun z => by omega)) hb)
  · subst h2
    by_cases fit : 1 ≤ l.length ∧ l.length ≤ 15
    · cases l with
      | nil => exact absurd fit.1 (by simp)
      | cons z l1 =>
        have hsk : sk l1.length = z := r7.1
        refine rk_two (e1 := 0) (v1 := ar p) (e2 := cd (p + 1)) (v2 := ar (p + 1)) (r1 := 0) (r2 := 0) (l1 := ar p :: z :: l1) (l2 := sk_w (cd (p + 1)) z (ar p) :: l1) (o1 := o) (o2 := o) (ou1 := ou) (ce1 := ce) (ou2 := ou) (ce2 := ce) (sk' := upd sk l1.length (sk_w (cd (p + 1)) z (ar p))) C htk IH R hM
          (Or.inl ⟨by rw [h3]; decide, h3.symm, rfl⟩) (Or.inr ⟨rfl, Or.inl ⟨rfl, by omega, rfl, rfl, rfl, rfl⟩⟩) rfl (Or.inl ⟨sk_A_pl h4, rfl, rfl⟩) (Or.inr ⟨rfl, Or.inr (Or.inl ⟨_, _, _, rfl, Or.inl h4, rfl, rfl, rfl, rfl⟩)⟩) rfl hAp2 (st_p r7.2) (fun Q hQ => ?_)
        refine xx_fu31 hx hop (Or.inl rfl) rfl r5 (fun w => by omega) (fun m' hm' _ => ?_)
        have : m' = l1.length := by simp only [List.length_cons] at hm'; omega
        subst this
        rw [hob, h6, hsk, if_neg (by decide), hoa, h5]; exact hQ
    · exact miss (fun b post hb => xx_step rfl r3 rfl (fun Q hQ => xx_fu31 hx hop (Or.inl rfl) rfl r5 (fun _ => hQ) (fun m' hm' z => absurd ⟨by omega, z⟩ fit)) hb)
  · subst h2
    by_cases fit : 1 ≤ l.length ∧ l.length ≤ 15
    · cases l with
      | nil => exact absurd fit.1 (by simp)
      | cons z l1 =>
        have hsk : sk l1.length = z := r7.1
        refine rk_two (e1 := 5) (v1 := ar p) (e2 := cd (p + 1)) (v2 := ar (p + 1)) (r1 := 0) (r2 := 0) (l1 := z :: z :: l1) (l2 := sk_w (cd (p + 1)) z z :: l1) (o1 := o) (o2 := o) (ou1 := ou) (ce1 := ce) (ou2 := ou) (ce2 := ce) (sk' := upd sk l1.length (sk_w (cd (p + 1)) z z)) C htk IH R hM
          (Or.inl ⟨by rw [h3]; decide, h3.symm, rfl⟩) (Or.inr ⟨rfl, Or.inr (Or.inr (Or.inl ⟨rfl, _, _, rfl, by omega, rfl, rfl, rfl, rfl⟩))⟩) rfl (Or.inl ⟨sk_A_pl h4, rfl, rfl⟩) (Or.inr ⟨rfl, Or.inr (Or.inl ⟨_, _, _, rfl, Or.inl h4, rfl, rfl, rfl, rfl⟩)⟩) rfl hAp2 (st_p r7.2) (fun Q hQ => ?_)
        refine xx_fu31 hx hop (Or.inr rfl) rfl r5 (fun w => by omega) (fun m' hm' _ => ?_)
        have : m' = l1.length := by simp only [List.length_cons] at hm'; omega
        subst this
        rw [hob, h5, hsk, if_pos rfl]; exact hQ
    · exact miss (fun b post hb => xx_step rfl r3 rfl (fun Q hQ => xx_fu31 hx hop (Or.inr rfl) rfl r5 (fun _ => hQ) (fun m' hm' z => absurd ⟨by omega, z⟩ fit)) hb)
  · subst h2
    by_cases fit : 2 ≤ l.length ∧ l.length ≤ 15
    · obtain ⟨z, y, l1, rfl⟩ : ∃ z y l1, l = z :: y :: l1 := by
        cases l with
        | nil => exact absurd fit.1 (by simp)
        | cons z t => cases t with
          | nil => exact absurd fit.1 (by simp)
          | cons y l1 => exact ⟨z, y, l1, rfl⟩
      have hsk : sk (l1.length + 1) = z := r7.1
      have hsk2 : sk l1.length = y := r7.2.1
      refine rk_two (e1 := 8) (v1 := ar p) (e2 := cd (p + 1)) (v2 := ar (p + 1)) (r1 := 0) (r2 := 0) (l1 := y :: z :: y :: l1) (l2 := sk_w (cd (p + 1)) z y :: y :: l1) (o1 := o) (o2 := o) (ou1 := ou) (ce1 := ce) (ou2 := ou) (ce2 := ce) (sk' := upd sk (l1.length + 1) (sk_w (cd (p + 1)) z y)) C htk IH R hM
        (Or.inl ⟨by rw [h3]; decide, h3.symm, rfl⟩) (Or.inr ⟨rfl, Or.inr (Or.inr (Or.inr (Or.inr (Or.inr (Or.inl ⟨rfl, _, _, _, rfl, by omega, rfl, rfl, rfl, rfl⟩)))))⟩) rfl (Or.inl ⟨sk_A_pl h4, rfl, rfl⟩) (Or.inr ⟨rfl, Or.inr (Or.inl ⟨_, _, _, rfl, Or.inl h4, rfl, rfl, rfl, rfl⟩)⟩) rfl hAp2 (st_p (l := y :: l1) r7.2) (fun Q hQ => ?_)
      refine xx_fu33 hx hop (Or.inl rfl) rfl r5 (fun w => by omega) (fun _ m' hm' _ => ?_) (fun z => absurd z (by decide)) (fun z => absurd z (by decide))
      have : m' = l1.length := by simp only [List.length_cons] at hm'; omega
      subst this
      rw [hob, h5, hsk, hsk2]; exact hQ
    · exact miss (fun b post hb => xx_step rfl r3 rfl (fun Q hQ => xx_fu33 hx hop (Or.inl rfl) rfl r5 (fun _ => hQ) (fun _ m' hm' z => absurd ⟨by omega, z⟩ fit) (fun z => absurd z (by decide)) (fun z => absurd z (by decide))) hb)
  · subst h2
    by_cases fit : 2 ≤ l.length
    · obtain ⟨z, y, l1, rfl⟩ : ∃ z y l1, l = z :: y :: l1 := by
        cases l with
        | nil => exact absurd fit (by simp)
        | cons z t => cases t with
          | nil => exact absurd fit (by simp)
          | cons y l1 => exact ⟨z, y, l1, rfl⟩
      have hsk : sk (l1.length + 1) = z := r7.1
      have hsk2 : sk l1.length = y := r7.2.1
      refine rk_two (e1 := 7) (v1 := ar p) (e2 := cd (p + 1)) (v2 := ar (p + 1)) (r1 := 0) (r2 := 0) (l1 := y :: z :: l1) (l2 := sk_w (cd (p + 1)) z y :: l1) (o1 := o) (o2 := o) (ou1 := ou) (ce1 := ce) (ou2 := ou) (ce2 := ce) (sk' := upd sk l1.length (sk_w (cd (p + 1)) z y)) C htk IH R hM
        (Or.inl ⟨by rw [h3]; decide, h3.symm, rfl⟩) (Or.inr ⟨rfl, Or.inr (Or.inr (Or.inr (Or.inr (Or.inl ⟨rfl, _, _, _, rfl, rfl, rfl, rfl, rfl⟩))))⟩) rfl (Or.inl ⟨sk_A_pl h4, rfl, rfl⟩) (Or.inr ⟨rfl, Or.inr (Or.inl ⟨_, _, _, rfl, Or.inl h4, rfl, rfl, rfl, rfl⟩)⟩) rfl hAp2 (st_p r7.2.2) (fun Q hQ => ?_)
      refine xx_fu33 hx hop (Or.inr (Or.inl rfl)) rfl r5 (fun w => by rcases w with w | w; omega; exact absurd w.1 (by decide)) (fun z => absurd z (by decide)) (fun _ m' hm' => ?_) (fun z => absurd z (by decide))
      have : m' = l1.length := by simp only [List.length_cons] at hm'; omega
      subst this
      rw [hob, h5, hsk, hsk2]; exact hQ
    · exact miss (fun b post hb => xx_step rfl r3 rfl (fun Q hQ => xx_fu33 hx hop (Or.inr (Or.inl rfl)) rfl r5 (fun _ => hQ) (fun z => absurd z (by decide)) (fun _ m' hm' => absurd (by omega) fit) (fun z => absurd z (by decide))) hb)
  · subst h2
    obtain ⟨q1, q2, b, q3, q4⟩ := hva h3
    by_cases fit : l.length ≤ 15
    · refine rk_two (e1 := ec) (v1 := ev) (e2 := cd (p + 1)) (v2 := ar (p + 1)) (r1 := 0) (r2 := 0) (l1 := nI b :: l) (l2 := ce b :: l) (o1 := o) (o2 := o) (ou1 := ou) (ce1 := ce) (ou2 := ou) (ce2 := ce) (sk' := upd sk l.length (ce b)) C htk IH R hM
        hE (Or.inr ⟨rfl, Or.inl ⟨q1, by omega, by rw [q2, q3], rfl, rfl, rfl⟩⟩) rfl (Or.inl ⟨by rw [h4]; decide, rfl, rfl⟩) (Or.inr ⟨rfl, Or.inr (Or.inr (Or.inr (Or.inr (Or.inr (Or.inr (Or.inr (Or.inl ⟨h4, b, _, rfl, q4, rfl, rfl, rfl, rfl⟩)))))))⟩) rfl hAp2 (st_p r7) (fun Q hQ => ?_)
      exact xx_fu35 hx hop rfl r5 (by rw [hoa, h5]; exact q3) (by omega) (fun z => by omega) (fun _ => hQ)
    · exact miss (fun b' post hb => xx_step rfl r3 rfl (fun Q hQ => xx_fu35 hx hop rfl r5 (by rw [hoa, h5]; exact q3) (by omega) (fun _ => hQ) (fun z => absurd z fit)) hb)
  · subst h2
    obtain ⟨q1, q2, b, q3, q4⟩ := hva h3
    by_cases fit : 1 ≤ l.length ∧ l.length ≤ 15
    · cases l with
      | nil => exact absurd fit.1 (by simp)
      | cons z l1 =>
        have hsk : sk l1.length = z := r7.1
        refine rk_two (e1 := ec) (v1 := ev) (e2 := cd (p + 1)) (v2 := ar (p + 1)) (r1 := 0) (r2 := 0) (l1 := nI b :: z :: l1) (l2 := l1) (o1 := o) (o2 := o) (ou1 := ou) (ce1 := ce) (ou2 := ou) (ce2 := upd ce b z) (sk' := sk) C htk IH R hM
          hE (Or.inr ⟨rfl, Or.inl ⟨q1, by omega, by rw [q2, q3], rfl, rfl, rfl⟩⟩) rfl (Or.inl ⟨by rw [h4]; decide, rfl, rfl⟩) (Or.inr ⟨rfl, Or.inr (Or.inr (Or.inr (Or.inr (Or.inr (Or.inr (Or.inr (Or.inr (Or.inl ⟨h4, b, _, _, rfl, q4, rfl, rfl, rfl, rfl⟩))))))))⟩) rfl hAp2 r7.2 (fun Q hQ => ?_)
        refine xx_fu36 hx hop rfl r5 (by rw [hoa, h5]; exact q3) (by omega) (fun w => by omega) (fun m' hm' _ => ?_)
        have : m' = l1.length := by simp only [List.length_cons] at hm'; omega
        subst this
        rw [hsk]; exact hQ
    · exact miss (fun b' post hb => xx_step rfl r3 rfl (fun Q hQ => xx_fu36 hx hop rfl r5 (by rw [hoa, h5]; exact q3) (by omega) (fun _ => hQ) (fun m' hm' z => absurd ⟨by omega, z⟩ fit)) hb)
  · subst h2
    by_cases fit : 2 ≤ l.length
    · obtain ⟨z, y, l1, rfl⟩ : ∃ z y l1, l = z :: y :: l1 := by
        cases l with
        | nil => exact absurd fit (by simp)
        | cons z t => cases t with
          | nil => exact absurd fit (by simp)
          | cons y l1 => exact ⟨z, y, l1, rfl⟩
      have hsk : sk (l1.length + 1) = z := r7.1
      have hsk2 : sk l1.length = y := r7.2.1
      have hAA : sk_A (cd p) := by rcases h3 with e | e; exact Or.inr (Or.inr (Or.inr (Or.inl e))); exact Or.inr (Or.inr (Or.inr (Or.inr e)))
      obtain ⟨ys1, R1, st1⟩ := yk_step (tr := tr) (ea := ea) (ec := cd p) (ev := ar p) (r := 0) (l' := sk_w (cd p) y z :: l1) (o' := o) (ou' := ou) (ce' := ce) C htk R (Or.inl ⟨sk_A_pl hAA, rfl, rfl⟩) (Or.inr ⟨rfl, Or.inr (Or.inl ⟨_, _, _, rfl, Or.inl hAA, rfl, rfl, rfl, rfl⟩)⟩) rfl
      have H1 := rr_yH C.1.1 C.1.2.1 C.1.2.2.2 htk R1
      have hpo1 : upd yp s.length (nI (p + 1)) s.length = nI (p + 1) := pk_us
      obtain ⟨r, hr, hB, hoar⟩ := cp_16 C hn1.1 hn1.2 h4
      have hy1 : yt_k (cd (p + 1)) = 1 := by rw [h4]; decide
      obtain ⟨_, _, _, _, s5, _, s7, s8⟩ := id R1
      simp only [List.length_cons] at s5
      have hob1 : ∀ P : Int32 → Prop, P 0 → wpY_obstacle P (tk, tr, ea, nI (sk_w (cd p) y z :: l1).length, nI o, nI s.length, nI t, cd, ar, ys1, ou, ce, upd yp s.length (nI (p + 1)), yn, ye) (nI (p + 1)) := fun P hP =>
        yy_ob H1 hn1.2 (by rw [h4]; decide) (fun w => by rw [h4] at w; exact absurd w (by decide)) (fun w => by rw [hy1] at w; exact absurd w (by simp)) (fun _ _ w => by rw [h4] at w; exact absurd w (by simp)) (fun w => by rw [h4] at w; exact absurd w (by decide)) (fun _ _ _ => hP)
      have hco1 : ∀ p', (∀ R' : Int32 → SY → Prop, R' (nI p') (tk, tr, ea, nI (sk_w (cd p) y z :: l1).length, nI o, nI s.length, nI t, cd, ar, ys1, ou, ce, upd yp s.length (nI (p + 1)), yn, ye) → wpY_led R' (tk, tr, ea, nI (sk_w (cd p) y z :: l1).length, nI o, nI s.length, nI t, cd, ar, ys1, ou, ce, upd yp s.length (nI (p + 1)), yn, ye) (nI (p + 1))) → ∀ Q : SY → Prop, Q (tk, tr, ea, nI l1.length, nI o, nI s.length, nI t, cd, ar, ys1, ou, ce, upd (upd yp s.length (nI (p + 1))) s.length (nI p'), yn, ye) → wpY_carryOut Q (tk, tr, ea, nI (sk_w (cd p) y z :: l1).length, nI o, nI s.length, nI t, cd, ar, ys1, ou, ce, upd yp s.length (nI (p + 1)), yn, ye) (nI (p + 1)) := fun p' hl Q hQ =>
        yy_co_led H1 hn1.2 (by rw [h4]; decide) (by rw [h4]; decide) (by rw [h4]; decide) (by rw [hy1]; simp) hl (by rw [hy1]; exact hQ)
      have hXp : ∀ pc' Q, pc' = (if sk_w (cd p) y z = 0 then oa (A p + 2) else nI (A p + 3)) → Q pc' (tk, tr, ep, ln, vs, ii, cn, da, pl, nf, pt, nI l1.length, nI o, nI (s.length + 1), nI t, 0, cd, ar, op, oa, ob, nk, nv, wt, cf, cc, ps, pa, pe, sk, ou, ce, bk, ct, lm) → wpX_perform Q (tk, tr, ep, ln, vs, ii, cn, da, pl, nf, pt, nI (z :: y :: l1).length, nI o, nI (s.length + 1), nI t, 0, cd, ar, op, oa, ob, nk, nv, wt, cf, cc, ps, pa, pe, sk, ou, ce, bk, ct, lm) (nI (A p)) := by
        intro pc' Q e hQ
        refine xx_fu33 hx hop (Or.inr (Or.inr rfl)) rfl r5 (fun w => by rcases w with w | w; exact absurd w (by simp); exact absurd w.1 (by decide)) (fun w => absurd w (by decide)) (fun w => absurd w (by decide)) (fun _ m' hm' => ?_)
        have : m' = l1.length := by simp only [List.length_cons] at hm'; omega
        subst this
        rw [hob, h5, hsk, hsk2, ← e]; exact hQ
      have hlt := hB.1
      simp only [fr_M] at hM
      by_cases hz : sk_w (cd p) y z = 0
      · have hmv : sk_mv cd (p + 1) (r + 1) := by
          refine mv_B hB (Or.inl (Or.inl h4)) ?_
          rcases hB.2.2.2.1 with q | q
          · exact Or.inl q
          · exact Or.inr ⟨q.2, by rw [h4]; decide⟩
        have hnx := in_B hV hIT hr hB
        have ih := IH (m - 2) (by omega) (r + 1) s l1 o t sk ou ce bk ct lm ys1 _ yn ye (rr_mv hV hT R1 hnx hmv r4 (by omega) r6 r7.2.2 s8.2) (by simp only [fr_M]; omega)
        exact OU_go (jx := 1) (ky := 2) ih (fun b post hb => xx_step rfl r3 rfl (fun Q hQ => hXp _ Q (by rw [if_pos hz, ← hAn]; exact hoar.symm) hQ) hb) (fun b post hb => st1 _ _ (yy_step H1 hpo1 hob1 (hco1 (r + 1) (fun R' hR => yy_led_16 H1 h4 hz hr hB hR)) hb)) (by omega) (by omega)
      · have hnx := in_next hV hIT hn1.1 hn1.2 (by rw [h4]; decide)
        have ih := IH (m - 2) (by omega) (p + 1 + 1) s l1 o t sk ou ce bk ct lm ys1 _ yn ye (rr_mv hV hT R1 hnx (mv_next (by rw [h4]; decide)) r4 (by omega) r6 r7.2.2 s8.2) (by simp only [fr_M]; omega)
        rw [show A (p + 1 + 1) = A p + 3 from hAp2] at ih
        exact OU_go (jx := 1) (ky := 2) ih (fun b post hb => xx_step rfl r3 rfl (fun Q hQ => hXp _ Q (by rw [if_neg hz]) hQ) hb) (fun b post hb => st1 _ _ (yy_step H1 hpo1 hob1 (hco1 (p + 1 + 1) (fun R' hR => yy_led_n H1 (Or.inl ⟨Or.inl h4, hz⟩) hR)) hb)) (by omega) (by omega)
    · exact miss (fun b post hb => xx_step rfl r3 rfl (fun Q hQ => xx_fu33 hx hop (Or.inr (Or.inr rfl)) rfl r5 (fun _ => hQ) (fun z => absurd z (by decide)) (fun z => absurd z (by decide)) (fun _ m' hm' => absurd (by omega) fit)) hb)
end
end
section
/-! calls, copied words, and the whole run -/
theorem im_c_get {cd ar op oa ob : Nat → Int32} : ∀ m x q, im_b op oa ob x (im_c cd ar q m) → ∀ k, k < m → op (x + k) = cd (q + k) ∧ oa (x + k) = ar (q + k) := by
  intro m
  induction m with
  | zero => intro x q _ k hk; exact absurd hk (Nat.not_lt_zero k)
  | succ m ih =>
    intro x q h k hk
    obtain ⟨⟨h1, h2, h3⟩, h4⟩ := h
    cases k with
    | zero => exact ⟨h1, h2 _ rfl⟩
    | succ k =>
      have := ih (x + 1) (q + 1) h4 k (by omega)
      rw [show x + 1 + k = x + (k + 1) from by omega, show q + 1 + k = q + (k + 1) from by omega] at this
      exact this
section
variable {tk tr ep ln vs ii cn da pl nf pt ea : Int32} {cd ar op oa ob nk nv wt cf cc ps pa pe : Nat → Int32} {T f m p o t : Nat} {A : Nat → Nat} {s : List Nat} {l : List Int32} {sk ou ce bk ct lm ys yp yn ye : Nat → Int32}
/-- Y's frames behind a call at p of the word defined at d -/
theorem rr_call {d : Nat} (C : cp cd ar T f A vs op oa ob nk nv) (R : rr cd T A p s l o t sk bk ct lm ys yp yn ye) (hc : cd p = 15) (hd : d < T) (h26 : cd d = 26) (h7 : s.length < 7) (ht : t < 200) :
    rr cd T A (d + 1) ((p + 1) :: s) l o (t + 1) sk (upd bk (s.length + 1) (nI (A (p + 1)))) ct lm ys (upd (upd yp s.length (nI (p + 1))) (s.length + 1) (nI (d + 1))) yn ye := by
  obtain ⟨⟨hV, hT, hIT, hU⟩, _⟩ := C
  obtain ⟨⟨⟨hpT, hpI⟩, hpo, hct, ht4⟩, hb, r3, r4, r5, r6, r7, r8⟩ := id R
  have hd1 : d + 1 < T ∧ sk_I cd (d + 1) = true := by
    have h1 := sk_I26 h26
    refine ⟨?_, h1⟩
    by_cases e : d + 1 = T
    · rw [e, hIT] at h1; exact absurd h1 (by decide)
    · omega
  obtain ⟨R1, _⟩ := rr_mv hV hT R (in_next hV hIT hpT hpI (by rw [hc]; decide)) (mv_next (by rw [hc]; decide)) r4 r5 r6 r7 r8
  refine ⟨⟨hd1, pk_us, fun j hj _ => by rw [sk_H26 h26] at hj; exact absurd hj (Nat.not_lt_zero j), ?_⟩, ⟨pk_us, ?_⟩, by simp only [List.length_cons]; omega, by omega, r5, r6, r7, r8⟩
  · exact fr_R_keep hV hT _ R1 (fun k hk => by simp only [List.length_cons] at hk; exact pk_un (by omega)) (fun k _ => ⟨rfl, rfl⟩) (fun k _ => ⟨rfl, rfl⟩)
  · exact fr_B_keep s hb (fun k hk => pk_un (by omega))
theorem rk_call {d : Nat} (C : cp cd ar T f A vs op oa ob nk nv) (htk : tk = nI T) (IH : ∀ m', m' < m → rS tk tr ep ln vs ii cn da pl nf pt ea cd ar op oa ob nk nv wt cf cc ps pa pe T A m') (R : rr cd T A p s l o t sk bk ct lm ys yp yn ye) (hM : fr_M (p :: s) + 80 * (200 - t) ≤ m) (hc : cd p = 15)
    (hd : sk_f cd ar (ar p) T = some d) (h26 : cd d = 26) (hop : op (A p) = 15) (hoa : oa (A p) = nI (A (d + 1))) (hAn : A (p + 1) = A p + 1) : OU tk tr ep ln vs ii cn da pl nf pt ea cd ar op oa ob nk nv wt cf cc ps pa pe m (nI (A p)) (tk, tr, ep, ln, vs, ii, cn, da, pl, nf, pt, nI l.length, nI o, nI (s.length + 1), nI t, 0, cd, ar, op, oa, ob, nk, nv, wt, cf, cc, ps, pa, pe, sk, ou, ce, bk, ct, lm) (tk, tr, ea, nI l.length, nI o, nI s.length, nI t, cd, ar, ys, ou, ce, yp, yn, ye) := by
  have H := rr_yH C.1.1 C.1.2.1 C.1.2.2.2 htk R
  obtain ⟨⟨hV, hT, hIT, hU⟩, _⟩ := id C
  obtain ⟨⟨⟨hpT, hpI⟩, hpo, _, _⟩, _, r3, r4, r5, r6, r7, r8⟩ := id R
  have hdT := (sk_f_some T hd).1
  have hx : A p < 256 := by have := cp_x C hpT; omega
  simp only [fr_M] at hM
  by_cases e : t = 200
  · exact OU_halt (r := 16) C htk R (by omega) (by decide) (fun Q hQ => xx_pf15 hx hop rfl r3 rfl r4 (fun _ => hQ) (fun z => by omega) (fun z => by omega)) (fun P hP => yy_obw H hpI hc hd h26 (fun _ => hP) (fun z => by omega) (fun z => by omega))
  · by_cases e7 : s.length = 7
    · exact OU_halt (r := 17) C htk R (by omega) (by decide) (fun Q hQ => xx_pf15 hx hop rfl r3 rfl r4 (fun z => absurd z e) (fun _ _ => hQ) (fun _ z => by omega)) (fun P hP => yy_obw H hpI hc hd h26 (fun z => absurd z e) (fun _ _ => hP) (fun _ z => by omega))
    · have ih := IH (m - 1) (by omega) (d + 1) ((p + 1) :: s) l o (t + 1) sk ou ce _ ct lm ys _ yn ye (rr_call C R hc hdT h26 (by omega) (by omega)) (by simp only [fr_M]; omega)
      refine OU_one C htk R ih (by omega) (fun Q hQ => xx_pf15 hx hop rfl r3 rfl r4 (fun z => absurd z e) (fun _ z => absurd z e7) (fun _ _ => ?_)) (fun P hP => yy_obw H hpI hc hd h26 (fun z => absurd z e) (fun _ z => absurd z e7) (fun _ _ => hP)) (fun Q hQ => yy_co_word H hc hd h26 (by omega) hQ)
      rw [hoa, ← hAn]; exact hQ
/-- inside a word that was copied into its caller: X stands in the copy, Y in the word -/
theorem rk_copy {d mm a bkf : Nat} {bf : Nat → Int32} (C : cp cd ar T f A vs op oa ob nk nv) (htk : tk = nI T) (IH : ∀ m', m' < m → rS tk tr ep ln vs ii cn da pl nf pt ea cd ar op oa ob nk nv wt cf cc ps pa pe T A m') (hAn : A (p + 1) = a + mm) (ha : A (p + 1) ≤ 256) (hL : s.length < 7)
    (hpl : ∀ q, d < q → q < d + 1 + mm → sk_pl (cd q)) (h27 : cd (d + 1 + mm) = 27) (hcode : ∀ k, k < mm → op (a + k) = cd (d + 1 + k) ∧ oa (a + k) = ar (d + 1 + k)) (hB : fr_B A bk s) :
    ∀ j k n l o sk ou ce ys yp, k + j = mm → n ≤ m → rr cd T A (d + 1 + k) ((p + 1) :: s) l o t sk bf ct lm ys yp yn ye → fr_M ((d + 1 + k) :: (p + 1) :: s) + 80 * (200 - t) ≤ n →
      OU tk tr ep ln vs ii cn da pl nf pt ea cd ar op oa ob nk nv wt cf cc ps pa pe n (nI (a + k)) (tk, tr, ep, ln, vs, ii, cn, da, pl, nf, pt, nI l.length, nI o, nI (s.length + 1), nI t, 0, cd, ar, op, oa, ob, nk, nv, wt, cf, cc, ps, pa, pe, sk, ou, ce, bk, ct, lm) (tk, tr, ea, nI l.length, nI o, nI (s.length + 1), nI t, cd, ar, ys, ou, ce, yp, yn, ye) := by
  obtain ⟨hvs, hv⟩ := cp_v C
  obtain ⟨⟨hV, hT, hIT, hU⟩, _⟩ := id C
  intro j
  induction j with
  | zero =>
    intro k n l o sk ou ce ys yp hk hn R hM
    have e : k = mm := by omega
    subst e
    have H := rr_yH hV hT hU htk R
    obtain ⟨⟨⟨hpT, hpI⟩, hpo, _, rt⟩, _, r3, r4, r5, r6, r7, r8⟩ := id R
    simp only [fr_M] at hM
    have hy : yt_k (cd (d + 1 + k)) = 0 := by rw [h27]; decide
    have ih := IH (n - 1) (by omega) (p + 1) s l o t sk ou ce bk ct lm ys yp yn ye ⟨rt, hB, by omega, r4, r5, r6, r7, r8⟩ (by simp only [fr_M]; omega)
    rw [hAn] at ih
    refine OU_go (jx := 0) (ky := 1) ih (fun b post hb => hb) (fun b post hb => yy_step (L := s.length + 1) H hpo (fun P hP => ?_) (fun Q hQ => yy_co_27 H h27 ?_) hb) (by omega) (by omega)
    · exact yy_ob H hpI (by rw [h27]; decide) (fun z => by rw [h27] at z; exact absurd z (by decide)) (fun z => by omega) (fun _ _ z => by rw [h27] at z; exact absurd z (by simp)) (fun z => by rw [h27] at z; exact absurd z (by decide)) (fun _ _ _ => hP)
    · rw [show ((p + 1) :: s).length = s.length + 1 from rfl, nI_pred]; exact hQ
  | succ j ihj =>
    intro k n l o sk ou ce ys yp hk hn R hM
    have H := rr_yH hV hT hU htk R
    obtain ⟨⟨⟨hpT, hpI⟩, hpo, _, rt⟩, _, r3, r4, r5, r6, r7, r8⟩ := id R
    obtain ⟨c1, c2⟩ := hcode k (by omega)
    have hp1 := hpl (d + 1 + k) (by omega) (by omega)
    have hE : yE cd ar T (d + 1 + k) (cd (d + 1 + k)) (ar (d + 1 + k)) := Or.inl ⟨hp1, rfl, rfl⟩
    simp only [fr_M] at hM
    obtain ⟨r, l', o', ou', ce', h⟩ := pm_tot (nv := sk_v cd T) (c := cd (d + 1 + k)) (a := ar (d + 1 + k)) (l := l) (o := o) (ou := ou) (ce := ce) hp1 r5 r6 hv
    obtain ⟨sk', g1, g2⟩ := xx_pfP (tk := tk) (tr := tr) (ep := ep) (ln := ln) (vs := vs) (ii := ii) (cn := cn) (da := da) (pl := pl) (nf := nf) (pt := pt) (rn := nI (s.length + 1)) (tu := nI t) (so := 0) (cd := cd) (ar := ar) (op := op) (oa := oa) (ob := ob) (nk := nk) (nv := nv) (wt := wt) (cf := cf) (cc := cc) (ps := ps) (pa := pa) (pe := pe) (sk := sk) (bk := bk) (ct := ct) (lm := lm) h hp1 (show a + k < 256 by omega) c1 rfl r5 r7 rfl r6 hvs hv c2
    by_cases hr : r = 0
    · obtain ⟨ys', R', hst⟩ := yk_step (tr := tr) (ea := ea) C htk R hE h hr
      have ih := ihj (k + 1) (n - 1) l' o' sk' ou' ce' ys' _ (by omega) (by omega) (rr_sk R' (g1 hr)) (by simp only [fr_M]; omega)
      exact OU_go (jx := 1) (ky := 1) ih (fun b post hb => xx_step (L := s.length) rfl (by omega) rfl (fun Q hQ => g2 Q (fun z => absurd hr z) (fun _ => hQ)) hb) hst (by omega) (by omega)
    · exact OU_end (bx := 1) (ky := 0) r7 r8 r5 r6 (fun post hp => xx_step (L := s.length) rfl (by omega) rfl (fun Q hQ => g2 Q (fun _ => hQ) (fun z => absurd z hr)) (xx_halted (L := s.length) rfl (by omega) hr hp)) (fun post hp => yy_stop (L := s.length + 1) H hpo hr (yy_effE H hpI hE h hr) hp) (by omega) (by omega)
theorem rk_inl {d mm : Nat} (C : cp cd ar T f A vs op oa ob nk nv) (htk : tk = nI T) (IH : ∀ m', m' < m → rS tk tr ep ln vs ii cn da pl nf pt ea cd ar op oa ob nk nv wt cf cc ps pa pe T A m') (R : rr cd T A p s l o t sk bk ct lm ys yp yn ye) (hM : fr_M (p :: s) + 80 * (200 - t) ≤ m) (hc : cd p = 15)
    (hd : sk_f cd ar (ar p) T = some d) (h26 : cd d = 26) (hop : op (A p) = 29) (hAn : A (p + 1) = A p + 1 + mm) (hpl : ∀ q, d < q → q < d + 1 + mm → sk_pl (cd q)) (h27 : cd (d + 1 + mm) = 27)
    (hcode : ∀ k, k < mm → op (A p + 1 + k) = cd (d + 1 + k) ∧ oa (A p + 1 + k) = ar (d + 1 + k)) : OU tk tr ep ln vs ii cn da pl nf pt ea cd ar op oa ob nk nv wt cf cc ps pa pe m (nI (A p)) (tk, tr, ep, ln, vs, ii, cn, da, pl, nf, pt, nI l.length, nI o, nI (s.length + 1), nI t, 0, cd, ar, op, oa, ob, nk, nv, wt, cf, cc, ps, pa, pe, sk, ou, ce, bk, ct, lm) (tk, tr, ea, nI l.length, nI o, nI s.length, nI t, cd, ar, ys, ou, ce, yp, yn, ye) := by
  have H := rr_yH C.1.1 C.1.2.1 C.1.2.2.2 htk R
  obtain ⟨⟨hV, hT, hIT, hU⟩, _⟩ := id C
  obtain ⟨⟨⟨hpT, hpI⟩, hpo, _, _⟩, hB, r3, r4, r5, r6, r7, r8⟩ := id R
  have hdT := (sk_f_some T hd).1
  have hx : A p < 256 := by have := cp_x C hpT; omega
  simp only [fr_M] at hM
  by_cases e : t = 200
  · exact OU_halt (r := 16) C htk R (by omega) (by decide) (fun Q hQ => xx_pf29 hx hop rfl r3 rfl r4 (fun _ => hQ) (fun z => by omega) (fun z => by omega)) (fun P hP => yy_obw H hpI hc hd h26 (fun _ => hP) (fun z => by omega) (fun z => by omega))
  · by_cases e7 : s.length = 7
    · exact OU_halt (r := 17) C htk R (by omega) (by decide) (fun Q hQ => xx_pf29 hx hop rfl r3 rfl r4 (fun z => absurd z e) (fun _ _ => hQ) (fun _ z => by omega)) (fun P hP => yy_obw H hpI hc hd h26 (fun z => absurd z e) (fun _ _ => hP) (fun _ z => by omega))
    · have ih := rk_copy (t := t + 1) (bk := bk) (mm := mm) (d := d) (a := A p + 1) (bkf := 0) C htk IH hAn (cp_x C hpT) (by omega) hpl h27 hcode hB mm 0 (m - 1) l o sk ou ce ys _ (by omega) (by omega) (rr_call C R hc hdT h26 (by omega) (by omega)) (by simp only [fr_M]; omega)
      exact OU_one C htk R ih (by omega) (fun Q hQ => xx_pf29 hx hop rfl r3 rfl r4 (fun z => absurd z e) (fun _ z => absurd z e7) (fun _ _ => hQ)) (fun P hP => yy_obw H hpI hc hd h26 (fun z => absurd z e) (fun _ z => absurd z e7) (fun _ _ => hP)) (fun Q hQ => yy_co_word H hc hd h26 (by omega) hQ)
theorem rr_main (C : cp cd ar T f A vs op oa ob nk nv) (htk : tk = nI T) : ∀ m, rS tk tr ep ln vs ii cn da pl nf pt ea cd ar op oa ob nk nv wt cf cc ps pa pe T A m := by
  intro m
  induction m using Nat.strongRecOn with
  | ind m IH =>
    intro p s l o t sk ou ce bk ct lm ys yp yn ye R hM
    have C' := C
    obtain ⟨⟨hV, hT, hIT, hU⟩, _, hTk, _⟩ := C'
    obtain ⟨hpT, hpI⟩ := R.1.1
    obtain ⟨⟨k0, k27, k26⟩, _⟩ := (hV p hpT).2 hpI
    obtain ⟨k, hk, hc⟩ := sk_k27 k0 k27
    obtain ⟨bl, b1, b2, b3⟩ := hTk p hpT
    have h256 := cp_x C hpT
    have plain : sk_pl (cd p) → OU tk tr ep ln vs ii cn da pl nf pt ea cd ar op oa ob nk nv wt cf cc ps pa pe m (nI (A p)) (tk, tr, ep, ln, vs, ii, cn, da, pl, nf, pt, nI l.length, nI o, nI (s.length + 1), nI t, 0, cd, ar, op, oa, ob, nk, nv, wt, cf, cc, ps, pa, pe, sk, ou, ce, bk, ct, lm) (tk, tr, ea, nI l.length, nI o, nI s.length, nI t, cd, ar, ys, ou, ce, yp, yn, ye) := by
      intro hpl
      have hE : yE cd ar T p (cd p) (ar p) := Or.inl ⟨hpl, rfl, rfl⟩
      rcases im_i_pl b1 hpI hpl with e | ⟨fo, fa, fb, w, hF, e⟩
      · subst e
        exact OUb_up (rk_at C htk IH R hM hE b3.1.1 (b3.1.2.1 _ rfl) (by have : A (p + 1) = A p + 1 := b2; omega) b2) (by omega)
      · subst e
        exact rk_fu C htk IH R hM hE (fun z => absurd z (sk_pl_n hpl).1) hF b3.1.1 (b3.1.2.1 _ rfl) (b3.1.2.2 _ rfl) b3.2.1.1 (b3.2.1.2.1 _ rfl) b2
    have word : cd p = 15 → OU tk tr ep ln vs ii cn da pl nf pt ea cd ar op oa ob nk nv wt cf cc ps pa pe m (nI (A p)) (tk, tr, ep, ln, vs, ii, cn, da, pl, nf, pt, nI l.length, nI o, nI (s.length + 1), nI t, 0, cd, ar, op, oa, ob, nk, nv, wt, cf, cc, ps, pa, pe, sk, ou, ce, bk, ct, lm) (tk, tr, ea, nI l.length, nI o, nI s.length, nI t, cd, ar, ys, ou, ce, yp, yn, ye) := by
      intro c15
      rcases im_i_15 b1 hpI c15 with ⟨d, hd, h28, e⟩ | ⟨d, hd, h26, e⟩
      · have hE : yE cd ar T p 0 (nI (sk_v cd d)) := Or.inr ⟨c15, d, hd, h28, rfl, rfl⟩
        have hdv : sk_v cd d < sk_v cd T := by
          have h1 := sk_v28 h28
          have h2 := sk_v_mono (cd := cd) (a := d + 1) T (by have := (sk_f_some T hd).1; omega)
          omega
        rcases e with e | ⟨fo, fa, fb, w, hF, e⟩
        · subst e
          exact OUb_up (rk_at C htk IH R hM hE b3.1.1 (b3.1.2.1 _ rfl) (by have : A (p + 1) = A p + 1 := b2; omega) b2) (by omega)
        · subst e
          exact rk_fu C htk IH R hM hE (fun _ => ⟨rfl, rfl, sk_v cd d, rfl, hdv⟩) hF b3.1.1 (b3.1.2.1 _ rfl) (b3.1.2.2 _ rfl) b3.2.1.1 (b3.2.1.2.1 _ rfl) b2
      · rcases e with e | ⟨mm, m1, m2, m3, m4, e⟩
        · subst e
          exact rk_call C htk IH R hM c15 hd h26 b3.1.1 (b3.1.2.1 _ rfl) b2
        · subst e
          rw [List.length_cons, im_c_len] at b2
          exact rk_inl (mm := mm) C htk IH R hM c15 hd h26 b3.1.1 (by omega) m3 m4 (im_c_get mm _ _ b3.2)
    by_cases h14 : k ≤ 14
    · exact plain ⟨k0, by rw [hc]; exact nI_le (b := 14) h14 (by decide)⟩
    · have kk : k = 15 ∨ k = 16 ∨ k = 17 ∨ k = 18 ∨ k = 19 ∨ k = 20 ∨ k = 21 ∨ k = 22 ∨ k = 23 ∨ k = 24 ∨ k = 25 ∨ k = 26 ∨ k = 27 := by omega
      rcases kk with e | e | e | e | e | e | e | e | e | e | e | e | e <;> subst e
      · exact word hc
      · exact rk_16 C htk IH R hM (Or.inl hc)
      · exact rk_17 C htk IH R hM hc
      · exact rk_18 C htk IH R hM (Or.inl hc)
      · exact rk_18 C htk IH R hM (Or.inr hc)
      · exact rk_20 C htk IH R hM hc
      · exact rk_16 C htk IH R hM (Or.inr hc)
      · exact rk_22 C htk IH R hM hc
      · exact rk_23 C htk IH R hM hc
      · exact rk_24 C htk IH R hM hc
      · exact rk_25 C htk IH R hM hc
      · exact absurd hc k26
      · exact rk_27 C htk IH R hM hc
end
end
section
/-! the relation, and what is owed -/
/-- the two objects hold the same tokens, errors, stack, outputs, cells; if translated, X holds the finished image -/
def i_Rel (k : Nat) (u : SX) (v : SY) : Prop := match u with
  | (tk, tr, ep, ln, vs, ii, cn, da, pl, nf, pt, sp, oc, rn, tu, so, cd, ar, op, oa, ob, nk, nv, wt, cf, cc, ps, pa, pe, sk, ou, ce, bk, ct, lm) => match v with
    | (ytk, ytr, ea, dp, yo, lv, yt, ycd, yar, ys, yu, yc, yp, yn, ye) => (ytk = tk ∧ ytr = tr ∧ ea = ep ∧ ycd = cd ∧ yar = ar ∧ yu = ou ∧ yc = ce) ∧
      ∃ (T : Nat) (l : List Int32) (o : Nat), (tk = nI T ∧ T ≤ 80) ∧ (sp = nI l.length ∧ dp = nI l.length ∧ l.length ≤ 16 ∧ st_S sk l ∧ st_S ys l) ∧ (oc = nI o ∧ yo = nI o ∧ o ≤ 16) ∧
        (tr = 0 ∨ (tr = 1 ∧ ∃ (f : Nat) (A : Nat → Nat), cp cd ar T f A vs op oa ob nk nv))
theorem i_up {k : Nat} {u : SX} {v : SY} (h : i_Rel k u v) : i_Rel (k + 3) u v := h
theorem rl_el {k : Nat} {P : SX → SY → Prop} {u : SX} {v : SY} (I : i_Rel k u v)
    (h : ∀ {tk tr ep ln vs ii cn da pl nf pt sp oc rn tu so : Int32} {cd ar op oa ob nk nv wt cf cc ps pa pe sk ou ce bk ct lm : Nat → Int32} {dp yo lv yt : Int32} {ys : Nat → Int32} {yp yn ye : Nat → Int32} (T : Nat) (l : List Int32) (o : Nat), tk = nI T → T ≤ 80 → sp = nI l.length → dp = nI l.length → l.length ≤ 16 → st_S sk l → st_S ys l → oc = nI o → yo = nI o → o ≤ 16 →
      (tr = 0 ∨ (tr = 1 ∧ ∃ (f : Nat) (A : Nat → Nat), cp cd ar T f A vs op oa ob nk nv)) → P (tk, tr, ep, ln, vs, ii, cn, da, pl, nf, pt, sp, oc, rn, tu, so, cd, ar, op, oa, ob, nk, nv, wt, cf, cc, ps, pa, pe, sk, ou, ce, bk, ct, lm) (tk, tr, ep, dp, yo, lv, yt, cd, ar, ys, ou, ce, yp, yn, ye)) : P u v := by
  obtain ⟨tk, tr, ep, ln, vs, ii, cn, da, pl, nf, pt, sp, oc, rn, tu, so, cd, ar, op, oa, ob, nk, nv, wt, cf, cc, ps, pa, pe, sk, ou, ce, bk, ct, lm⟩ := u
  obtain ⟨ytk, ytr, ea, dp, yo, lv, yt, ycd, yar, ys, yu, yc, yp, yn, ye⟩ := v
  obtain ⟨⟨e1, e2, e3, e4, e5, e6, e7⟩, T, l, o, ⟨a1, a2⟩, ⟨b1, b2, b3, b4, b5⟩, ⟨c1, c2, c3⟩, d⟩ := I
  subst e1 e2 e4 e5 e6 e7
  subst e3
  exact h T l o a1 a2 b1 b2 b3 b4 b5 c1 c2 c3 d
theorem rl_in {k : Nat} {tk tr ep ln vs ii cn da pl nf pt sp oc rn tu so : Int32} {cd ar op oa ob nk nv wt cf cc ps pa pe sk ou ce bk ct lm : Nat → Int32} {dp yo lv yt : Int32} {ys : Nat → Int32} {yp yn ye : Nat → Int32} {T : Nat} {l : List Int32} {o : Nat} (a1 : tk = nI T) (a2 : T ≤ 80) (b1 : sp = nI l.length) (b2 : dp = nI l.length) (b3 : l.length ≤ 16) (b4 : st_S sk l) (b5 : st_S ys l) (c1 : oc = nI o) (c2 : yo = nI o) (c3 : o ≤ 16)
    (d : tr = 0 ∨ (tr = 1 ∧ ∃ (f : Nat) (A : Nat → Nat), cp cd ar T f A vs op oa ob nk nv)) : i_Rel k (tk, tr, ep, ln, vs, ii, cn, da, pl, nf, pt, sp, oc, rn, tu, so, cd, ar, op, oa, ob, nk, nv, wt, cf, cc, ps, pa, pe, sk, ou, ce, bk, ct, lm) (tk, tr, ep, dp, yo, lv, yt, cd, ar, ys, ou, ce, yp, yn, ye) :=
  ⟨⟨rfl, rfl, rfl, rfl, rfl, rfl, rfl⟩, T, l, o, ⟨a1, a2⟩, ⟨b1, b2, b3, b4, b5⟩, ⟨c1, c2, c3⟩, d⟩
end
section
/-! what is owed -/
theorem i_vc0 : wpX_init (fun u => wpY_init (fun v => i_Rel 0 u v)) := by
  unfold wpX_init wpY_init
  exact rl_in (T := 0) (l := []) (o := 0) rfl (by omega) rfl rfl (by simp) trivial trivial rfl rfl (by omega) (Or.inl rfl)
theorem i_vc_token {k : Nat} {u : SX} {v : SY} (I : i_Rel k u v) (hk : k + 3 ≤ 1536) (v1 : Int32) (v2 : Int32) : wpX_token (fun r u' => wpY_token (fun r' v' => r' = r ∧ i_Rel (k + 3) u' v') v v1 v2) u v1 v2 := by
  refine rl_el (P := fun u v => wpX_token (fun r u' => wpY_token (fun r' v' => r' = r ∧ i_Rel (k + 3) u' v') v v1 v2) u v1 v2) I ?_
  intro tk tr ep ln vs ii cn da pl nf pt sp oc rn tu so cd ar op oa ob nk nv wt cf cc ps pa pe sk ou ce bk ct lm dp yo lv yt ys yp yn ye T l o a1 a2 b1 b2 b3 b4 b5 c1 c2 c3 d
  subst a1
  have hcl : (nI T).toNatClampNeg = T := nI_clamp (by omega)
  by_cases e : T = 80
  · exact br_f (by rw [e]; decide) (br_t (by rw [e]; rfl) ⟨rfl, rl_in rfl a2 b1 b2 b3 b4 b5 c1 c2 c3 d⟩)
  · have hin : vp_in (nI T) 80 := vp_in_nI (by omega) (by decide)
    refine br_t (nI_lt (b := 80) (by omega) (by decide)) (And.intro hin (nm_r (e' := upd cd T v1) (by rw [hcl]) (And.intro hin (nm_r (e' := upd ar T v2) (by rw [hcl]) (nm_r (nI_1 T) ?_)))))
    refine br_f (fun z => e ((nI_eq (b := 80) (by omega) (by decide)).mp z)) (And.intro hin (nm_r (e' := upd cd T v1) (by rw [hcl]) (And.intro hin (nm_r (e' := upd ar T v2) (by rw [hcl]) (nm_r (nI_1 T) ?_)))))
    exact ⟨rfl, rl_in rfl (by omega) b1 b2 b3 b4 b5 c1 c2 c3 (Or.inl rfl)⟩
theorem i_vc_clear {k : Nat} {u : SX} {v : SY} (I : i_Rel k u v) (hk : k + 3 ≤ 1536) : wpX_clear (fun u' => wpY_clear (fun v' => i_Rel (k + 3) u' v') v) u := by
  refine rl_el (P := fun u v => wpX_clear (fun u' => wpY_clear (fun v' => i_Rel (k + 3) u' v') v) u) I ?_
  intro tk tr ep ln vs ii cn da pl nf pt sp oc rn tu so cd ar op oa ob nk nv wt cf cc ps pa pe sk ou ce bk ct lm dp yo lv yt ys yp yn ye T l o a1 a2 b1 b2 b3 b4 b5 c1 c2 c3 d
  show i_Rel (k + 3) (0, 0, ep, ln, vs, ii, cn, da, pl, nf, pt, sp, oc, rn, tu, so, cd, ar, op, oa, ob, nk, nv, wt, cf, cc, ps, pa, pe, sk, ou, ce, bk, ct, lm) (0, 0, ep, dp, yo, lv, yt, cd, ar, ys, ou, ce, yp, yn, ye)
  exact rl_in (T := 0) rfl (by omega) b1 b2 b3 b4 b5 c1 c2 c3 (Or.inl rfl)
theorem i_vc_translate {k : Nat} {u : SX} {v : SY} (I : i_Rel k u v) (hk : k + 3 ≤ 1536) : wpX_translate (fun r u' => wpY_translate (fun r' v' => r' = r ∧ i_Rel (k + 3) u' v') v) u := by
  refine rl_el (P := fun u v => wpX_translate (fun r u' => wpY_translate (fun r' v' => r' = r ∧ i_Rel (k + 3) u' v') v) u) I ?_
  intro tk tr ep ln vs ii cn da pl nf pt sp oc rn tu so cd ar op oa ob nk nv wt cf cc ps pa pe sk ou ce bk ct lm dp yo lv yt ys yp yn ye T l o a1 a2 b1 b2 b3 b4 b5 c1 c2 c3 d
  refine xx_trans (T := T) a1 a2 ?_ ?_
  · intro e q ln vs ii cn da pl nf pt op oa ob nk nv wt cf cc ps pa pe hR
    exact yy_tr_err a1 a2 hR ⟨rfl, rl_in a1 a2 b1 b2 b3 b4 b5 c1 c2 c3 (Or.inl rfl)⟩
  · intro f A ln vs ii cn da pl nf pt op oa ob nk nv wt cf cc ps pa pe C
    exact yy_tr_ok a1 a2 C.1.1 C.1.2.2.1 C.1.2.2.2 ⟨rfl, rl_in (l := []) (o := 0) a1 a2 rfl rfl (by simp) trivial trivial rfl rfl (by omega) (Or.inr ⟨rfl, f, A, C⟩)⟩
theorem i_vc_errorAt {k : Nat} {u : SX} {v : SY} (I : i_Rel k u v) (hk : k + 3 ≤ 1536) : wpX_errorAt (fun r => wpY_errorAt (fun r' => r' = r ∧ i_Rel (k + 3) u v) v) u := by
  refine rl_el (P := fun u v => wpX_errorAt (fun r => wpY_errorAt (fun r' => r' = r ∧ i_Rel (k + 3) u v) v) u) I ?_
  intro tk tr ep ln vs ii cn da pl nf pt sp oc rn tu so cd ar op oa ob nk nv wt cf cc ps pa pe sk ou ce bk ct lm dp yo lv yt ys yp yn ye T l o a1 a2 b1 b2 b3 b4 b5 c1 c2 c3 d
  exact ⟨rfl, rl_in a1 a2 b1 b2 b3 b4 b5 c1 c2 c3 d⟩
theorem i_vc_push {k : Nat} {u : SX} {v : SY} (I : i_Rel k u v) (hk : k + 3 ≤ 1536) (v1 : Int32) : wpX_push (fun r u' => wpY_push (fun r' v' => r' = r ∧ i_Rel (k + 3) u' v') v v1) u v1 := by
  refine rl_el (P := fun u v => wpX_push (fun r u' => wpY_push (fun r' v' => r' = r ∧ i_Rel (k + 3) u' v') v v1) u v1) I ?_
  intro tk tr ep ln vs ii cn da pl nf pt sp oc rn tu so cd ar op oa ob nk nv wt cf cc ps pa pe sk ou ce bk ct lm dp yo lv yt ys yp yn ye T l o a1 a2 b1 b2 b3 b4 b5 c1 c2 c3 d
  subst b1 b2
  by_cases e : l.length = 16
  · exact br_f (by rw [e]; decide) (br_t (by rw [e]; rfl) ⟨rfl, rl_in a1 a2 rfl rfl b3 b4 b5 c1 c2 c3 d⟩)
  · have hcl : (nI l.length).toNatClampNeg = l.length := nI_clamp (by omega)
    refine br_t (nI_lt (b := 16) (by omega) (by decide)) (And.intro (vp_in_nI (by omega) (by decide)) (nm_r (e' := upd sk l.length v1) (by rw [hcl]) (nm_r (nI_1 _) ?_)))
    exact yy_push rfl (by omega) ⟨rfl, rl_in (l := v1 :: l) a1 a2 rfl rfl (by simp only [List.length_cons]; omega) (st_p b4) (st_p b5) c1 c2 c3 d⟩
theorem i_vc_depth {k : Nat} {u : SX} {v : SY} (I : i_Rel k u v) (hk : k + 3 ≤ 1536) : wpX_depth (fun r => wpY_depth (fun r' => r' = r ∧ i_Rel (k + 3) u v) v) u := by
  refine rl_el (P := fun u v => wpX_depth (fun r => wpY_depth (fun r' => r' = r ∧ i_Rel (k + 3) u v) v) u) I ?_
  intro tk tr ep ln vs ii cn da pl nf pt sp oc rn tu so cd ar op oa ob nk nv wt cf cc ps pa pe sk ou ce bk ct lm dp yo lv yt ys yp yn ye T l o a1 a2 b1 b2 b3 b4 b5 c1 c2 c3 d
  exact ⟨b2.trans b1.symm, rl_in a1 a2 b1 b2 b3 b4 b5 c1 c2 c3 d⟩
theorem i_vc_outputs {k : Nat} {u : SX} {v : SY} (I : i_Rel k u v) (hk : k + 3 ≤ 1536) : wpX_outputs (fun r => wpY_outputs (fun r' => r' = r ∧ i_Rel (k + 3) u v) v) u := by
  refine rl_el (P := fun u v => wpX_outputs (fun r => wpY_outputs (fun r' => r' = r ∧ i_Rel (k + 3) u v) v) u) I ?_
  intro tk tr ep ln vs ii cn da pl nf pt sp oc rn tu so cd ar op oa ob nk nv wt cf cc ps pa pe sk ou ce bk ct lm dp yo lv yt ys yp yn ye T l o a1 a2 b1 b2 b3 b4 b5 c1 c2 c3 d
  exact ⟨c2.trans c1.symm, rl_in a1 a2 b1 b2 b3 b4 b5 c1 c2 c3 d⟩
theorem i_vc_top {k : Nat} {u : SX} {v : SY} (I : i_Rel k u v) (hk : k + 3 ≤ 1536) (v1 : Int32) : wpX_top (fun r => wpY_top (fun r' => r' = r ∧ i_Rel (k + 3) u v) v v1) u v1 := by
  refine rl_el (P := fun u v => wpX_top (fun r => wpY_top (fun r' => r' = r ∧ i_Rel (k + 3) u v) v v1) u v1) I ?_
  intro tk tr ep ln vs ii cn da pl nf pt sp oc rn tu so cd ar op oa ob nk nv wt cf cc ps pa pe sk ou ce bk ct lm dp yo lv yt ys yp yn ye T l o a1 a2 b1 b2 b3 b4 b5 c1 c2 c3 d
  have hI : i_Rel (k + 3) (tk, tr, ep, ln, vs, ii, cn, da, pl, nf, pt, sp, oc, rn, tu, so, cd, ar, op, oa, ob, nk, nv, wt, cf, cc, ps, pa, pe, sk, ou, ce, bk, ct, lm) (tk, tr, ep, dp, yo, lv, yt, cd, ar, ys, ou, ce, yp, yn, ye) := rl_in a1 a2 b1 b2 b3 b4 b5 c1 c2 c3 d
  by_cases e0 : v1 < 0
  · exact br_t e0 (br_t e0 ⟨rfl, hI⟩)
  · refine br_f e0 ?_
    obtain ⟨j, hj, rfl⟩ := nI_of e0
    by_cases e : j < l.length
    · obtain ⟨n, hn⟩ : ∃ n, l.length = n + 1 := ⟨l.length - 1, by omega⟩
      have hx : sp - 1 - nI j = nI (l.length - 1 - j) := by rw [b1, hn, nI_pred, pk_sub (by omega), Nat.add_sub_cancel]
      have hy : dp - 1 - nI j = nI (l.length - 1 - j) := by rw [b2, hn, nI_pred, pk_sub (by omega), Nat.add_sub_cancel]
      have hin : vp_in (nI (l.length - 1 - j)) 16 := vp_in_nI (by omega) (by decide)
      have hcl : (nI (l.length - 1 - j)).toNatClampNeg = l.length - 1 - j := nI_clamp (by omega)
      refine br_t (by rw [b1]; exact nI_lt e (by omega)) ?_
      rw [hx, hcl]
      refine And.intro hin (br_f e0 (br_t (by rw [b2]; exact nI_lt e (by omega)) ?_))
      rw [hy, hcl]
      exact And.intro hin ⟨(st_at l j b5 e).trans (st_at l j b4 e).symm, hI⟩
    · exact br_f (by rw [b1]; exact nI_nlt (by omega) hj) (br_f e0 (br_f (by rw [b2]; exact nI_nlt (by omega) hj) ⟨rfl, hI⟩))
theorem i_vc_output {k : Nat} {u : SX} {v : SY} (I : i_Rel k u v) (hk : k + 3 ≤ 1536) (v1 : Int32) : wpX_output (fun r => wpY_output (fun r' => r' = r ∧ i_Rel (k + 3) u v) v v1) u v1 := by
  refine rl_el (P := fun u v => wpX_output (fun r => wpY_output (fun r' => r' = r ∧ i_Rel (k + 3) u v) v v1) u v1) I ?_
  intro tk tr ep ln vs ii cn da pl nf pt sp oc rn tu so cd ar op oa ob nk nv wt cf cc ps pa pe sk ou ce bk ct lm dp yo lv yt ys yp yn ye T l o a1 a2 b1 b2 b3 b4 b5 c1 c2 c3 d
  have hI : i_Rel (k + 3) (tk, tr, ep, ln, vs, ii, cn, da, pl, nf, pt, sp, oc, rn, tu, so, cd, ar, op, oa, ob, nk, nv, wt, cf, cc, ps, pa, pe, sk, ou, ce, bk, ct, lm) (tk, tr, ep, dp, yo, lv, yt, cd, ar, ys, ou, ce, yp, yn, ye) := rl_in a1 a2 b1 b2 b3 b4 b5 c1 c2 c3 d
  by_cases e0 : v1 < 0
  · exact br_t e0 (br_t e0 ⟨rfl, hI⟩)
  · refine br_f e0 ?_
    obtain ⟨j, hj, rfl⟩ := nI_of e0
    by_cases e : j < o
    · have hin : vp_in (nI j) 16 := vp_in_nI (by omega) (by decide)
      exact br_t (by rw [c1]; exact nI_lt e (by omega)) (And.intro hin (br_f e0 (br_t (by rw [c2]; exact nI_lt e (by omega)) (And.intro hin ⟨rfl, hI⟩))))
    · exact br_f (by rw [c1]; exact nI_nlt (by omega) hj) (br_f e0 (br_f (by rw [c2]; exact nI_nlt (by omega) hj) ⟨rfl, hI⟩))
theorem i_vc_variable {k : Nat} {u : SX} {v : SY} (I : i_Rel k u v) (hk : k + 3 ≤ 1536) (v1 : Int32) : wpX_variable (fun r => wpY_variable (fun r' => r' = r ∧ i_Rel (k + 3) u v) v v1) u v1 := by
  refine rl_el (P := fun u v => wpX_variable (fun r => wpY_variable (fun r' => r' = r ∧ i_Rel (k + 3) u v) v v1) u v1) I ?_
  intro tk tr ep ln vs ii cn da pl nf pt sp oc rn tu so cd ar op oa ob nk nv wt cf cc ps pa pe sk ou ce bk ct lm dp yo lv yt ys yp yn ye T l o a1 a2 b1 b2 b3 b4 b5 c1 c2 c3 d
  have hI : i_Rel (k + 3) (tk, tr, ep, ln, vs, ii, cn, da, pl, nf, pt, sp, oc, rn, tu, so, cd, ar, op, oa, ob, nk, nv, wt, cf, cc, ps, pa, pe, sk, ou, ce, bk, ct, lm) (tk, tr, ep, dp, yo, lv, yt, cd, ar, ys, ou, ce, yp, yn, ye) := rl_in a1 a2 b1 b2 b3 b4 b5 c1 c2 c3 d
  rcases d with d | ⟨d, f, A, C⟩
  · exact br_t d (br_t d ⟨rfl, hI⟩)
  · have hd : ¬ tr = 0 := by rw [d]; decide
    obtain ⟨hvs, hv⟩ := cp_v C
    refine br_f hd ?_
    by_cases e0 : v1 < 0
    · exact br_t e0 (br_f hd (br_t e0 ⟨rfl, hI⟩))
    · refine br_f e0 ?_
      subst a1
      by_cases e : v1 < vs
      · obtain ⟨j, hj, rfl⟩ := nI_of e0
        have e' := e
        rw [hvs, nI_ltI hj (by omega)] at e'
        have hin : vp_in (nI j) 12 := vp_in_nI (by omega) (by decide)
        exact br_t e (And.intro hin (br_f hd (br_f e0 (yy_vars a2 (br_t (by rw [← hvs]; exact e) (And.intro hin ⟨rfl, hI⟩))))))
      · exact br_f e (br_f hd (br_f e0 (yy_vars a2 (br_f (by rw [← hvs]; exact e) ⟨rfl, hI⟩))))
theorem i_vc_run {k : Nat} {u : SX} {v : SY} (I : i_Rel k u v) (hk : k + 3 ≤ 1536) (v1 : Int32) : wpX_run (fun r u' => wpY_run (fun r' v' => r' = r ∧ i_Rel (k + 3) u' v') v v1) u v1 := by
  refine rl_el (P := fun u v => wpX_run (fun r u' => wpY_run (fun r' v' => r' = r ∧ i_Rel (k + 3) u' v') v v1) u v1) I ?_
  intro tk tr ep ln vs ii cn da pl nf pt sp oc rn tu so cd ar op oa ob nk nv wt cf cc ps pa pe sk ou ce bk ct lm dp yo lv yt ys yp yn ye T l o a1 a2 b1 b2 b3 b4 b5 c1 c2 c3 d
  have hI : i_Rel (k + 3) (tk, tr, ep, ln, vs, ii, cn, da, pl, nf, pt, sp, oc, rn, tu, so, cd, ar, op, oa, ob, nk, nv, wt, cf, cc, ps, pa, pe, sk, ou, ce, bk, ct, lm) (tk, tr, ep, dp, yo, lv, yt, cd, ar, ys, ou, ce, yp, yn, ye) := rl_in a1 a2 b1 b2 b3 b4 b5 c1 c2 c3 d
  rcases d with d | ⟨d, f, A, C⟩
  · exact br_t d (br_t d (br_t (by decide) ⟨rfl, hI⟩))
  · have hd : ¬ tr = 0 := by rw [d]; decide
    refine br_f hd ?_
    have bad : ∀ post : Int32 → SY → Prop, ¬ sk_N v1 → post (-1) (tk, tr, ep, dp, yo, lv, yt, cd, ar, ys, ou, ce, yp, yn, ye) → wpY_run post (tk, tr, ep, dp, yo, lv, yt, cd, ar, ys, ou, ce, yp, yn, ye) v1 := fun post h hp =>
      br_f hd (yy_name (fun z => absurd z h) (fun _ => br_t rfl (br_t (by decide) hp)))
    by_cases e0 : v1 < 0
    · exact br_t e0 (bad _ (fun z => z.1 e0) ⟨rfl, hI⟩)
    · refine br_f e0 ?_
      by_cases e11 : 11 < v1
      · exact br_t e11 (bad _ (fun z => absurd e11 (Int32.not_lt.mpr z.2)) ⟨rfl, hI⟩)
      · have hNa : sk_N v1 := ⟨e0, Int32.not_lt.mp e11⟩
        obtain ⟨n, hn, rfl⟩ := sk_Nn hNa
        have hin : vp_in (nI n) 12 := vp_in_nI hn (by decide)
        have hcl : (nI n).toNatClampNeg = n := nI_clamp (by omega)
        have C' := C
        obtain ⟨⟨hV, hT, hIT, hU⟩, _, _, _, _, hN⟩ := C'
        obtain ⟨k1, k2⟩ := hN.2.2 n hn
        refine br_f e11 (And.intro hin ?_)
        rw [hcl]
        cases ef : sk_f cd ar (nI n) T with
        | none =>
          rw [ef] at k1
          refine br_f (by rw [k1]; show ¬ (0 : Int32) = 1; decide) (br_f hd (yy_name (fun _ => br_f (by decide) ?_) (fun z => absurd hNa z)))
          subst a1
          refine yy_def a2 ?_
          rw [ef]
          exact br_t (by decide) ⟨rfl, hI⟩
        | some w =>
          rw [ef] at k1
          obtain ⟨w1, w2, w3, w4⟩ := sk_f_some T ef
          have hwin : vp_in (nI w) 80 := vp_in_nI (by omega) (by decide)
          have hwcl : (nI w).toNatClampNeg = w := nI_clamp (by omega)
          have ydef : ∀ post : Int32 → SY → Prop, wY_run_27 post (nI w) tk tr ep dp yo lv yt cd ar ys ou ce yp yn ye → wpY_run post (tk, tr, ep, dp, yo, lv, yt, cd, ar, ys, ou, ce, yp, yn, ye) (nI n) := by
            intro post hp
            refine br_f hd (yy_name (fun _ => br_f (by decide) ?_) (fun z => absurd hNa z))
            subst a1
            refine yy_def a2 ?_
            rw [ef]
            exact hp
          by_cases h26 : cd w = 26
          · have k4 : nk n = 1 := by rw [k1]; show (if cd w = 26 then (1 : Int32) else 2) = 1; rw [if_pos h26]
            have k3 := k2 w ef
            rw [if_pos h26] at k3
            refine br_t k4 (And.intro hin (nm_r (e' := nI (A (w + 1))) k3 ?_))
            have hw1 : w + 1 < T ∧ sk_I cd (w + 1) = true := by
              have h1 := sk_I26 h26
              refine ⟨?_, h1⟩
              by_cases e : w + 1 = T
              · rw [e, hIT] at h1; exact absurd h1 (by decide)
              · omega
            have R : rr cd T A (w + 1) [] l 0 0 sk bk ct lm ys (upd yp 0 (nI (w + 1))) yn ye :=
              ⟨⟨hw1, pk_us, (fun j hj _ => by rw [sk_H26 h26] at hj; exact absurd hj (Nat.not_lt_zero j)), trivial⟩, trivial, by simp, by omega, b3, by omega, b4, b5⟩
            have hm := rr_main (ep := ep) (ln := ln) (ii := ii) (cn := cn) (da := da) (pl := pl) (nf := nf) (pt := pt) (tr := tr) (ea := ep) (wt := wt) (cf := cf) (cc := cc) (ps := ps) (pa := pa) (pe := pe) C a1 16100 (w + 1) [] l 0 0 sk ou ce bk ct lm ys (upd yp 0 (nI (w + 1))) yn ye R (by simp only [fr_M]; omega)
            obtain ⟨r, l', o', rn', tu', so', lv', yt', sk', ou', ce', bk', ct', lm', ys', yp', yn', ye', g1, g2, g3, g4, g5, g6⟩ := hm
            subst b1 b2
            refine ⟨32300, g5 _ ?_ 32300 0 (by omega) (by omega)⟩
            refine ydef _ (br_f (nI_pos (by omega)) (And.intro hwin ?_))
            rw [hwcl]
            refine br_t h26 (nm_r (e' := upd yp 0 (nI (w + 1))) (by rw [nI_1]) ⟨16200, g6 _ ?_ 16200 0 (by omega) (by omega)⟩)
            exact ⟨rfl, rl_in a1 a2 rfl rfl g3 g1 g2 rfl rfl g4 (Or.inr ⟨d, f, A, C⟩)⟩
          · have k4 : nk n = 2 := by rw [k1]; show (if cd w = 26 then (1 : Int32) else 2) = 2; rw [if_neg h26]
            refine br_f (by rw [k4]; decide) (ydef _ (br_f (nI_pos (by omega)) (And.intro hwin ?_)))
            rw [hwcl]
            exact br_f h26 ⟨rfl, hI⟩
end
