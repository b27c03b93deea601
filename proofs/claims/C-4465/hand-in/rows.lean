section
/-! pure rows to paste: stores, nI and lN arithmetic, masks, shifts, narrowing, branches by naturals (pk_le, pk_lt, pk_eq), loops (lp1 .. lp16: the measure of the state; rp1 ..: recursion), negatives. Take what you need -/
theorem pk_us {f : Nat → Int32} {k : Nat} {x : Int32} : upd f k x k = x := if_pos rfl
theorem pk_un {f : Nat → Int32} {k j : Nat} {x : Int32} (h : j ≠ k) : upd f k x j = f j := if_neg h
theorem pk_uLs {f : Nat → Int64} {k : Nat} {x : Int64} : vp_updL f k x k = x := if_pos rfl
theorem pk_uLn {f : Nat → Int64} {k j : Nat} {x : Int64} (h : j ≠ k) : vp_updL f k x j = f j := if_neg h
theorem pk_sub {a b : Nat} (h : b ≤ a) : nI a - nI b = nI (a - b) := by
  obtain ⟨c, rfl⟩ : ∃ c, a = c + b := ⟨a - b, by omega⟩
  rw [← nI_add, Int32.add_sub_cancel, Nat.add_sub_cancel]
theorem pk_m1 (n : Nat) : nI (n + 1) + (-1) = nI n := by
  rw [← nI_1, Int32.add_assoc, show (1 : Int32) + (-1) = 0 from rfl, Int32.add_zero]
theorem pk_mul (a b : Nat) : nI a * nI b = nI (a * b) := (Int32.ofNat_mul a b).symm
theorem pk_div {a d : Nat} (ha : a < 2 ^ 31) (h0 : 0 < d) (hd : d < 2 ^ 31) : nI a / nI d = nI (a / d) := by
  apply Int32.toInt_inj.mp
  rw [lg_idiv_nonneg (by rw [nI_toInt ha]; omega) (by rw [nI_toInt hd]; omega), nI_toInt ha, nI_toInt hd, nI_toInt (Nat.lt_of_le_of_lt (Nat.div_le_self a d) ha)]
  first | rfl | exact (Int.natCast_ediv _ _).symm
theorem pk_rem {a d : Nat} (ha : a < 2 ^ 31) (h0 : 0 < d) (hd : d < 2 ^ 31) : nI a - nI a / nI d * nI d = nI (a % d) := by
  rw [pk_div ha h0 hd, pk_mul, pk_sub (Nat.div_mul_le_self a d)]
  exact congrArg nI (by have := Nat.div_add_mod' a d; omega)
theorem pk_sub_toInt {a b : Nat} (ha : a < 2 ^ 30) (hb : b < 2 ^ 30) : (nI a - nI b).toInt = (a : Int) - b := by
  rw [Int32.toInt_sub, nI_toInt (by omega), nI_toInt (by omega)]
  exact Int.bmod_eq_of_le (by omega) (by omega)
theorem pk_sneg {a b : Nat} (hb : b < 2 ^ 30) (h : a < b) : nI a - nI b < 0 := by
  rw [Int32.lt_iff_toInt_lt, pk_sub_toInt (by omega) hb, show (0 : Int32).toInt = 0 from by decide]
  omega
theorem pk_ix (x : Int32) {n : Nat} (hn : n < 2 ^ 31) : x < 0 ∨ nI n ≤ x ∨ ∃ j : Nat, j < n ∧ x = nI j := by
  by_cases h : x < 0
  · exact Or.inl h
  · obtain ⟨j, hj, rfl⟩ := nI_of h
    by_cases h2 : j < n
    · exact Or.inr (Or.inr ⟨j, h2, rfl⟩)
    · exact Or.inr (Or.inl (nI_le (by omega) hj))
theorem pk_le {x y : Int32} {A B : Prop} (a b : Nat) (f : a ≤ b → A) (g : b < a → B) (hx : x = nI a := by rfl) (hy : y = nI b := by rfl) (ha : a < 2 ^ 31 := by omega) (hb : b < 2 ^ 31 := by omega) : (x ≤ y → A) ∧ (¬ x ≤ y → B) := by
  subst hx hy
  rw [nI_leI ha hb]
  exact ⟨f, fun z => g (by omega)⟩
theorem pk_lt {x y : Int32} {A B : Prop} (a b : Nat) (f : a < b → A) (g : b ≤ a → B) (hx : x = nI a := by rfl) (hy : y = nI b := by rfl) (ha : a < 2 ^ 31 := by omega) (hb : b < 2 ^ 31 := by omega) : (x < y → A) ∧ (¬ x < y → B) := by
  subst hx hy
  rw [nI_ltI ha hb]
  exact ⟨f, fun z => g (by omega)⟩
theorem pk_eq {x y : Int32} {A B : Prop} (a b : Nat) (f : a = b → A) (g : a ≠ b → B) (hx : x = nI a := by rfl) (hy : y = nI b := by rfl) (ha : a < 2 ^ 31 := by omega) (hb : b < 2 ^ 31 := by omega) : (x = y → A) ∧ (¬ x = y → B) := by
  subst hx hy
  rw [nI_eq ha hb]
  exact ⟨f, g⟩
theorem pk_in {x : Int32} (n N : Nat) (h : n < N) (hx : x = nI n := by rfl) (hN : N < 2 ^ 31 := by omega) : vp_in x N := by
  subst hx
  exact vp_in_nI h hN
theorem pk_cl {x : Int32} (n : Nat) (hx : x = nI n := by rfl) (h : n < 2 ^ 31 := by omega) : x.toNatClampNeg = n := by
  subst hx
  exact nI_clamp h
theorem pk_lT {n : Nat} (h : n < 2 ^ 63) : (lN n).toInt = (n : Int) := lg_ofNat_toInt h
theorem pk_lLT {a b : Nat} (ha : a < 2 ^ 63) (hb : b < 2 ^ 63) : lN a < lN b ↔ a < b := by
  rw [Int64.lt_iff_toInt_lt, pk_lT ha, pk_lT hb]; omega
theorem pk_lLE {a b : Nat} (ha : a < 2 ^ 63) (hb : b < 2 ^ 63) : lN a ≤ lN b ↔ a ≤ b := by
  rw [Int64.le_iff_toInt_le, pk_lT ha, pk_lT hb]; omega
theorem pk_lEQ {a b : Nat} (ha : a < 2 ^ 63) (hb : b < 2 ^ 63) : lN a = lN b ↔ a = b := by
  rw [← Int64.toInt_inj, pk_lT ha, pk_lT hb]; omega
theorem pk_lOf {x : Int64} (h : ¬ x < 0) : ∃ k : Nat, k < 2 ^ 63 ∧ x = lN k := by
  rw [Int64.lt_iff_toInt_lt] at h
  have h0 : (0 : Int64).toInt = 0 := by decide
  have hx := Int64.toInt_lt x
  refine ⟨x.toInt.toNat, by omega, Int64.toInt_inj.mp ?_⟩
  rw [pk_lT (by omega)]
  omega
theorem pk_lDiv {a b : Nat} (ha : a < 2 ^ 63) (h0 : 0 < b) (hb : b < 2 ^ 63) : lN a / lN b = lN (a / b) := by
  apply Int64.toInt_inj.mp
  rw [lg_ldiv_nonneg (by rw [pk_lT ha]; omega) (by rw [pk_lT hb]; omega), pk_lT ha, pk_lT hb, pk_lT (Nat.lt_of_le_of_lt (Nat.div_le_self a b) ha)]
  rfl
theorem pk_lRem {a b : Nat} (ha : a < 2 ^ 63) (h0 : 0 < b) (hb : b < 2 ^ 63) : lN a - lN a / lN b * lN b = lN (a % b) := by
  rw [pk_lDiv ha h0 hb, lN_mul, lN_sub (Nat.div_mul_le_self a b)]
  exact congrArg lN (by have := Nat.div_add_mod' a b; omega)
end
section
/-! the mathematics over the rationals: bounds on one number, taking a variable out, corners -/
theorem fz_best (n : Nat) (Q : Nat → Prop) (R : Nat → Nat → Prop) (ht : ∀ i j, Q i → Q j → R i j ∨ R j i) (hc : ∀ i j k, Q i → Q j → Q k → R i j → R j k → R i k) : (∀ i, i < n → ¬ Q i) ∨ ∃ i0, i0 < n ∧ Q i0 ∧ ∀ i, i < n → Q i → R i0 i := by
  have hr : ∀ i, Q i → R i i := fun i q => (ht i i q q).elim id id
  induction n with
  | zero => exact Or.inl (fun i hi => absurd hi (Nat.not_lt_zero i))
  | succ n ih =>
    by_cases hq : Q n
    · rcases ih with h | ⟨i0, h1, h2, h3⟩
      · refine Or.inr ⟨n, Nat.lt_succ_self n, hq, fun i hi qi => ?_⟩
        by_cases e : i = n
        · subst e; exact hr _ qi
        · exact absurd qi (h i (by omega))
      · rcases ht i0 n h2 hq with h | h
        · refine Or.inr ⟨i0, by omega, h2, fun i hi qi => ?_⟩
          by_cases e : i = n
          · subst e; exact h
          · exact h3 i (by omega) qi
        · refine Or.inr ⟨n, Nat.lt_succ_self n, hq, fun i hi qi => ?_⟩
          by_cases e : i = n
          · subst e; exact hr _ qi
          · exact hc n i0 i hq h2 qi h (h3 i (by omega) qi)
    · rcases ih with h | ⟨i0, h1, h2, h3⟩
      · refine Or.inl fun i hi qi => ?_
        by_cases e : i = n
        · subst e; exact hq qi
        · exact h i (by omega) qi
      · refine Or.inr ⟨i0, by omega, h2, fun i hi qi => ?_⟩
        by_cases e : i = n
        · subst e; exact absurd qi hq
        · exact h3 i (by omega) qi
theorem fz_mle {c s u : Rat} (hc : 0 < c) (h : s ≤ u) : c * s ≤ c * u := Rat.mul_le_mul_of_nonneg_left h (Rat.le_of_lt hc)
theorem fz_mle0 {c s u : Rat} (hc : 0 ≤ c) (h : s ≤ u) : c * s ≤ c * u := Rat.mul_le_mul_of_nonneg_left h hc
theorem fz_mlt {c s u : Rat} (hc : 0 < c) (h : s < u) : c * s < c * u := Rat.mul_lt_mul_of_pos_left h hc
theorem fz_nle {c s u : Rat} (hc : c < 0) (h : u ≤ s) : c * s ≤ c * u := by
  have h0 : 0 < -c := by grind
  have := fz_mle h0 h
  grind
theorem fz_nlt {c s u : Rat} (hc : c < 0) (h : u < s) : c * s < c * u := by
  have h0 : 0 < -c := by grind
  have := fz_mlt h0 h
  grind
theorem fz_cmp {a b u v : Rat} (h1 : 0 < a) (h2 : b < 0) (h : 0 ≤ (-b) * (a * u) + a * (b * v)) : v ≤ u := by
  have k : 0 < a * (-b) := Rat.mul_pos h1 (by grind)
  apply Rat.not_lt.mp
  intro hlt
  have := fz_mlt k hlt
  grind
theorem fz_cmp' {a b u v : Rat} (h1 : 0 < a) (h2 : b < 0) (h : 0 < (-b) * (a * u) + a * (b * v)) : v < u := by
  have k : 0 < a * (-b) := Rat.mul_pos h1 (by grind)
  apply Rat.not_le.mp
  intro hlt
  have := fz_mle k hlt
  grind
theorem fz_h1s {n : Nat} {c e u : Nat → Rat} {o : Nat → Prop} (hu : ∀ i, c i ≠ 0 → e i = c i * u i)
    (hz : ∀ i, i < n → c i = 0 → 0 ≤ e i ∧ (o i → 0 < e i)) (s : Rat)
    (h1 : ∀ i, i < n → 0 < c i → s ≤ u i ∧ (o i → s < u i)) (h2 : ∀ i, i < n → c i < 0 → u i ≤ s ∧ (o i → u i < s)) :
    ∀ i, i < n → c i * s ≤ e i ∧ (o i → c i * s < e i) := by
  intro i hi
  by_cases hp : 0 < c i
  · obtain ⟨a, b⟩ := h1 i hi hp
    rw [hu i (by grind)]
    exact ⟨fz_mle hp a, fun q => fz_mlt hp (b q)⟩
  · by_cases hn : c i < 0
    · obtain ⟨a, b⟩ := h2 i hi hn
      rw [hu i (by grind)]
      exact ⟨fz_nle hn a, fun q => fz_nlt hn (b q)⟩
    · have h0 : c i = 0 := by grind
      rw [h0, Rat.zero_mul]
      exact hz i hi h0
theorem fz_h1 (n : Nat) (c e : Nat → Rat) (o : Nat → Prop)
    (hz : ∀ i, i < n → c i = 0 → 0 ≤ e i ∧ (o i → 0 < e i))
    (hp : ∀ i, i < n → 0 < c i → ∀ j, j < n → c j < 0 → 0 ≤ (-c j) * e i + c i * e j ∧ (o i ∨ o j → 0 < (-c j) * e i + c i * e j)) :
    ∃ s : Rat, ∀ i, i < n → c i * s ≤ e i ∧ (o i → c i * s < e i) := by
  obtain ⟨u, hu⟩ : ∃ u : Nat → Rat, ∀ i, c i ≠ 0 → e i = c i * u i :=
    ⟨fun i => e i / c i, fun i h => by rw [Rat.mul_comm, Rat.div_mul_cancel h]⟩
  have hT : ∀ i j, (u i < u j ∨ (u i = u j ∧ (o j → o i))) ∨ (u j < u i ∨ (u j = u i ∧ (o i → o j))) := by
    intro i j
    by_cases a : u i < u j
    · exact Or.inl (Or.inl a)
    · by_cases b : u j < u i
      · exact Or.inr (Or.inl b)
      · have e1 : u i = u j := by grind
        by_cases q : o i
        · exact Or.inl (Or.inr ⟨e1, fun _ => q⟩)
        · exact Or.inr (Or.inr ⟨e1.symm, fun w => absurd w q⟩)
  have hU := fz_best n (fun i => 0 < c i) (fun i j => u i < u j ∨ (u i = u j ∧ (o j → o i))) (fun i j _ _ => hT i j) (by
    intro i j k _ _ _ a b
    rcases a with a | ⟨a, a2⟩ <;> rcases b with b | ⟨b, b2⟩
    · exact Or.inl (by grind)
    · exact Or.inl (by grind)
    · exact Or.inl (by grind)
    · exact Or.inr ⟨a.trans b, fun q => a2 (b2 q)⟩)
  have hL := fz_best n (fun i => c i < 0) (fun i j => u j < u i ∨ (u i = u j ∧ (o j → o i))) (fun i j _ _ => by
      rcases hT j i with (a | ⟨a, b⟩) | (a | ⟨a, b⟩)
      · exact Or.inl (Or.inl a)
      · exact Or.inr (Or.inr ⟨a, b⟩)
      · exact Or.inr (Or.inl a)
      · exact Or.inl (Or.inr ⟨a, b⟩)) (by
    intro i j k _ _ _ a b
    rcases a with a | ⟨a, a2⟩ <;> rcases b with b | ⟨b, b2⟩
    · exact Or.inl (by grind)
    · exact Or.inl (by grind)
    · exact Or.inl (by grind)
    · exact Or.inr ⟨a.trans b, fun q => a2 (b2 q)⟩)
  rcases hU with hU | ⟨a, ha, ca, hA⟩
  · rcases hL with hL | ⟨b, hb, cb, hB⟩
    · exact ⟨0, fz_h1s hu hz 0 (fun i hi q => absurd q (hU i hi)) (fun i hi q => absurd q (hL i hi))⟩
    · refine ⟨u b + 1, fz_h1s hu hz (u b + 1) (fun i hi q => absurd q (hU i hi)) (fun i hi q => ?_)⟩
      have := hB i hi q
      have h3 : u i < u b + 1 := by rcases this with x | ⟨x, _⟩ <;> grind
      exact ⟨Rat.le_of_lt h3, fun _ => h3⟩
  · rcases hL with hL | ⟨b, hb, cb, hB⟩
    · refine ⟨u a - 1, fz_h1s hu hz (u a - 1) (fun i hi q => ?_) (fun i hi q => absurd q (hL i hi))⟩
      have := hA i hi q
      have h3 : u a - 1 < u i := by rcases this with x | ⟨x, _⟩ <;> grind
      exact ⟨Rat.le_of_lt h3, fun _ => h3⟩
    · obtain ⟨g1, g2⟩ := hp a ha ca b hb cb
      rw [hu a (by grind), hu b (by grind)] at g1 g2
      have k1 : u b ≤ u a := fz_cmp ca cb g1
      have k2 : o a ∨ o b → u b < u a := fun q => fz_cmp' ca cb (g2 q)
      by_cases hlt : u b < u a
      · refine ⟨(u a + u b) / 2, fz_h1s hu hz _ (fun i hi q => ?_) (fun i hi q => ?_)⟩
        · have := hA i hi q
          have h3 : (u a + u b) / 2 < u i := by rcases this with x | ⟨x, _⟩ <;> grind
          exact ⟨Rat.le_of_lt h3, fun _ => h3⟩
        · have := hB i hi q
          have h3 : u i < (u a + u b) / 2 := by rcases this with x | ⟨x, _⟩ <;> grind
          exact ⟨Rat.le_of_lt h3, fun _ => h3⟩
      · have e1 : u a = u b := by grind
        have na : ¬ o a := fun q => hlt (k2 (Or.inl q))
        have nb : ¬ o b := fun q => hlt (k2 (Or.inr q))
        refine ⟨u a, fz_h1s hu hz _ (fun i hi q => ?_) (fun i hi q => ?_)⟩
        · rcases hA i hi q with x | ⟨x, y⟩
          · exact ⟨Rat.le_of_lt x, fun _ => x⟩
          · exact ⟨by grind, fun w => absurd (y w) na⟩
        · rcases hB i hi q with x | ⟨x, y⟩
          · rw [e1]; exact ⟨Rat.le_of_lt x, fun _ => x⟩
          · exact ⟨by grind, fun w => absurd (y w) nb⟩
theorem fz_fm (n : Nat) (v c d : Nat → Rat) (o : Nat → Prop) :
    (∃ s : Rat, ∀ i, i < n → v i + s * c i ≤ d i ∧ (o i → v i + s * c i < d i)) ↔
    ((∀ i, i < n → c i = 0 → v i ≤ d i ∧ (o i → v i < d i)) ∧
     (∀ i, i < n → 0 < c i → ∀ j, j < n → c j < 0 → (-c j) * v i + c i * v j ≤ (-c j) * d i + c i * d j ∧ (o i ∨ o j → (-c j) * v i + c i * v j < (-c j) * d i + c i * d j))) := by
  constructor
  · rintro ⟨s, hs⟩
    refine ⟨fun i hi h0 => ?_, fun i hi pi j hj nj => ?_⟩
    · obtain ⟨a, b⟩ := hs i hi
      rw [h0, Rat.mul_zero, Rat.add_zero] at a b
      exact ⟨a, b⟩
    · obtain ⟨a, b⟩ := hs i hi
      obtain ⟨a', b'⟩ := hs j hj
      have nj' : 0 < -c j := by grind
      have m1 := fz_mle nj' a
      have m2 := fz_mle pi a'
      refine ⟨by grind, fun q => ?_⟩
      rcases q with q | q
      · have m3 := fz_mlt nj' (b q)
        grind
      · have m3 := fz_mlt pi (b' q)
        grind
  · rintro ⟨hz, hp⟩
    obtain ⟨s, hs⟩ := fz_h1 n c (fun i => d i - v i) o (fun i hi h0 => by
      obtain ⟨a, b⟩ := hz i hi h0
      exact ⟨by grind, fun q => by have := b q; grind⟩) (fun i hi pi j hj nj => by
      obtain ⟨a, b⟩ := hp i hi pi j hj nj
      exact ⟨by grind, fun q => by have := b q; grind⟩)
    refine ⟨s, fun i hi => ?_⟩
    obtain ⟨a, b⟩ := hs i hi
    exact ⟨by grind, fun q => by have := b q; grind⟩
theorem fz_ratio (m : Nat) (q s : Nat → Rat) (hs : ∀ e, e < m → 0 ≤ s e) (hb : ∃ e, e < m ∧ 0 < q e) :
    ∃ t : Rat, 0 ≤ t ∧ (∀ e, e < m → q e * t ≤ s e) ∧ ∃ e, e < m ∧ 0 < q e ∧ q e * t = s e := by
  obtain ⟨u, hu⟩ : ∃ u : Nat → Rat, ∀ i, q i ≠ 0 → s i = q i * u i :=
    ⟨fun i => s i / q i, fun i h => by rw [Rat.mul_comm, Rat.div_mul_cancel h]⟩
  rcases fz_best m (fun e => 0 < q e) (fun i j => u i ≤ u j) (fun i j _ _ => Rat.le_total) (fun i j k _ _ _ a b => Rat.le_trans a b) with h | ⟨e0, h1, h2, h3⟩
  · obtain ⟨e, he, p⟩ := hb
    exact absurd p (h e he)
  · have n0 : 0 ≤ u e0 := by
      apply Rat.not_lt.mp
      intro hlt
      have := fz_mlt h2 hlt
      have k := hs e0 h1
      rw [hu e0 (by grind)] at k
      grind
    refine ⟨u e0, n0, fun e he => ?_, e0, h1, h2, (hu e0 (by grind)).symm⟩
    by_cases p : 0 < q e
    · rw [hu e (by grind)]
      exact fz_mle p (h3 e he p)
    · have k := hs e he
      have k2 : 0 ≤ (-q e) * u e0 := Rat.mul_nonneg (by grind) n0
      grind
end
section
/-! corners: from a point of a bounded set of rows to a corner that is no worse -/
def fz_det (p s v q t w r u x : Rat) : Rat := (p * ((t * x) - (w * u))) - (s * ((q * x) - (w * r))) + (v * ((q * u) - (t * r)))
theorem fz_det12 (p s v q t w r u x : Rat) : fz_det q t w p s v r u x = - fz_det p s v q t w r u x := by
  unfold fz_det; grind
theorem fz_det23 (p s v q t w r u x : Rat) : fz_det p s v r u x q t w = - fz_det p s v q t w r u x := by
  unfold fz_det; grind
theorem fz_unb {x f : Rat} (h : ∀ t : Rat, 0 ≤ t → -10 ≤ x + t * f ∧ x + t * f ≤ 10) : f = 0 := by
  have h0 := h 0 Rat.le_refl
  rw [Rat.zero_mul, Rat.add_zero] at h0
  by_cases hp : 0 < f
  · exfalso
    have e : f⁻¹ * f = 1 := Rat.inv_mul_cancel f (by grind)
    have i0 : 0 < f⁻¹ := Rat.inv_pos.mpr hp
    have := h (21 * f⁻¹) (by grind)
    grind
  · by_cases hn : f < 0
    · exfalso
      have e : (-f)⁻¹ * (-f) = 1 := Rat.inv_mul_cancel (-f) (by grind)
      have i0 : 0 < (-f)⁻¹ := Rat.inv_pos.mpr (by grind)
      have := h (21 * (-f)⁻¹) (by grind)
      grind
    · grind
section
variable {m : Nat} {A B C D : Nat → Rat}
def fz_in (m : Nat) (A B C D : Nat → Rat) (x y z : Rat) : Prop := ∀ e, e < m → A e * x + B e * y + C e * z ≤ D e
theorem fz_hit (hbd : ∀ x y z : Rat, fz_in m A B C D x y z → (-10 ≤ x ∧ x ≤ 10) ∧ (-10 ≤ y ∧ y ≤ 10) ∧ (-10 ≤ z ∧ z ≤ 10))
    {x y z : Rat} (hS : fz_in m A B C D x y z) (f g h : Rat) (hne : ¬ (f = 0 ∧ g = 0 ∧ h = 0)) : ∃ e, e < m ∧ 0 < A e * f + B e * g + C e * h := by
  refine Classical.byContradiction fun hn => ?_
  have ha : ∀ e, e < m → A e * f + B e * g + C e * h ≤ 0 := fun e he => Rat.not_lt.mp (fun q => hn ⟨e, he, q⟩)
  have hall : ∀ t : Rat, 0 ≤ t → fz_in m A B C D (x + t * f) (y + t * g) (z + t * h) := by
    intro t ht e he
    have k1 := hS e he
    have k2 := fz_mle0 ht (ha e he)
    grind
  exact hne ⟨fz_unb (fun t ht => (hbd _ _ _ (hall t ht)).1), fz_unb (fun t ht => (hbd _ _ _ (hall t ht)).2.1), fz_unb (fun t ht => (hbd _ _ _ (hall t ht)).2.2)⟩
theorem fz_move (hbd : ∀ x y z : Rat, fz_in m A B C D x y z → (-10 ≤ x ∧ x ≤ 10) ∧ (-10 ≤ y ∧ y ≤ 10) ∧ (-10 ≤ z ∧ z ≤ 10))
    {x y z : Rat} (hS : fz_in m A B C D x y z) (f g h : Rat) (hne : ¬ (f = 0 ∧ g = 0 ∧ h = 0)) :
    ∃ t : Rat, 0 ≤ t ∧ fz_in m A B C D (x + t * f) (y + t * g) (z + t * h) ∧ ∃ e, e < m ∧ 0 < A e * f + B e * g + C e * h ∧ A e * (x + t * f) + B e * (y + t * g) + C e * (z + t * h) = D e := by
  obtain ⟨t, h1, h2, e, h3, h4, h5⟩ := fz_ratio m (fun e => A e * f + B e * g + C e * h) (fun e => D e - (A e * x + B e * y + C e * z)) (fun e he => by have := hS e he; grind) (fz_hit hbd hS f g h hne)
  refine ⟨t, h1, fun e he => ?_, e, h3, h4, by grind⟩
  have := h2 e he
  grind
theorem fz_step (hbd : ∀ x y z : Rat, fz_in m A B C D x y z → (-10 ≤ x ∧ x ≤ 10) ∧ (-10 ≤ y ∧ y ≤ 10) ∧ (-10 ≤ z ∧ z ≤ 10))
    {x y z : Rat} (hS : fz_in m A B C D x y z) (u v w f g h : Rat) (hne : ¬ (f = 0 ∧ g = 0 ∧ h = 0)) :
    ∃ t : Rat, fz_in m A B C D (x + t * f) (y + t * g) (z + t * h) ∧ u * x + v * y + w * z ≤ u * (x + t * f) + v * (y + t * g) + w * (z + t * h) ∧
      ∃ e, e < m ∧ A e * f + B e * g + C e * h ≠ 0 ∧ A e * (x + t * f) + B e * (y + t * g) + C e * (z + t * h) = D e := by
  by_cases hs : 0 ≤ u * f + v * g + w * h
  · obtain ⟨t, h1, h2, e, h3, h4, h5⟩ := fz_move hbd hS f g h hne
    have k := Rat.mul_nonneg h1 hs
    exact ⟨t, h2, by grind, e, h3, by grind, h5⟩
  · obtain ⟨t, h1, h2, e, h3, h4, h5⟩ := fz_move hbd hS (-f) (-g) (-h) (by grind)
    have k := Rat.mul_nonneg h1 (show 0 ≤ -(u * f + v * g + w * h) by grind)
    have e1 : x + t * -f = x + (-t) * f := by grind
    have e2 : y + t * -g = y + (-t) * g := by grind
    have e3 : z + t * -h = z + (-t) * h := by grind
    rw [e1, e2, e3] at h2 h5
    exact ⟨-t, h2, by grind, e, h3, by grind, h5⟩
theorem fz_stepE (hbd : ∀ x y z : Rat, fz_in m A B C D x y z → (-10 ≤ x ∧ x ≤ 10) ∧ (-10 ≤ y ∧ y ≤ 10) ∧ (-10 ≤ z ∧ z ≤ 10))
    {x y z : Rat} (hS : fz_in m A B C D x y z) (u v w f g h : Rat) (hne : ¬ (f = 0 ∧ g = 0 ∧ h = 0)) :
    ∃ X Y Z : Rat, fz_in m A B C D X Y Z ∧ u * x + v * y + w * z ≤ u * X + v * Y + w * Z ∧
      (∀ a b c d : Rat, a * f + b * g + c * h = 0 → a * x + b * y + c * z = d → a * X + b * Y + c * Z = d) ∧
      ∃ e, e < m ∧ A e * f + B e * g + C e * h ≠ 0 ∧ A e * X + B e * Y + C e * Z = D e := by
  obtain ⟨t, h1, h2, h3⟩ := fz_step hbd hS u v w f g h hne
  refine ⟨_, _, _, h1, h2, fun a b c d h0 hd => ?_, h3⟩
  have k : t * (a * f + b * g + c * h) = 0 := by rw [h0, Rat.mul_zero]
  grind
theorem fz_vert3 (hbd : ∀ x y z : Rat, fz_in m A B C D x y z → (-10 ≤ x ∧ x ≤ 10) ∧ (-10 ≤ y ∧ y ≤ 10) ∧ (-10 ≤ z ∧ z ≤ 10))
    (u v w : Rat) {x y z : Rat} (hS : fz_in m A B C D x y z) :
    ∃ X Y Z : Rat, fz_in m A B C D X Y Z ∧ u * x + v * y + w * z ≤ u * X + v * Y + w * Z ∧
      ∃ i j k, i < m ∧ j < m ∧ k < m ∧ fz_det (A i) (B i) (C i) (A j) (B j) (C j) (A k) (B k) (C k) ≠ 0 ∧
        A i * X + B i * Y + C i * Z = D i ∧ A j * X + B j * Y + C j * Z = D j ∧ A k * X + B k * Y + C k * Z = D k := by
  obtain ⟨x1, y1, z1, s1, l1, -, i, hi, ni, ai⟩ := fz_stepE hbd hS u v w 1 0 0 (by grind)
  have ni' : A i ≠ 0 := by grind
  obtain ⟨x2, y2, z2, s2, l2, e2, j, hj, nj, aj⟩ := fz_stepE hbd s1 u v w (-(B i)) (A i) 0 (by grind)
  have ai2 := e2 (A i) (B i) (C i) (D i) (by grind) ai
  obtain ⟨x3, y3, z3, s3, l3, e3, k, hk, nk, ak⟩ := fz_stepE hbd s2 u v w (B i * C j - C i * B j) (C i * A j - A i * C j) (A i * B j - B i * A j) (by grind)
  have ai3 := e3 (A i) (B i) (C i) (D i) (by grind) ai2
  have aj3 := e3 (A j) (B j) (C j) (D j) (by grind) aj
  refine ⟨x3, y3, z3, s3, Rat.le_trans l1 (Rat.le_trans l2 l3), i, j, k, hi, hj, hk, ?_, ai3, aj3, ak⟩
  intro q
  apply nk
  rw [← q]
  unfold fz_det
  grind
theorem fz_ord {T : Nat → Nat → Nat → Prop} (s1 : ∀ i j k, T i j k → T j i k) (s2 : ∀ i j k, T i j k → T i k j) (hd : ∀ i k, ¬ T i i k)
    {i j k : Nat} (h : T i j k) : ∃ i j k, T i j k ∧ i < j ∧ j < k := by
  have h12 : i ≠ j := fun e => hd i k (by subst e; exact h)
  have h13 : i ≠ k := fun e => hd i j (by subst e; exact s2 _ _ _ h)
  have h23 : j ≠ k := fun e => hd j i (by subst e; exact s2 _ _ _ (s1 _ _ _ h))
  rcases Nat.lt_or_gt_of_ne h12 with a | a <;> rcases Nat.lt_or_gt_of_ne h13 with b | b <;> rcases Nat.lt_or_gt_of_ne h23 with c | c
  · exact ⟨i, j, k, h, a, c⟩
  · exact ⟨i, k, j, s2 _ _ _ h, b, c⟩
  · omega
  · exact ⟨k, i, j, s1 _ _ _ (s2 _ _ _ h), b, a⟩
  · exact ⟨j, i, k, s1 _ _ _ h, a, b⟩
  · omega
  · exact ⟨j, k, i, s2 _ _ _ (s1 _ _ _ h), c, b⟩
  · exact ⟨k, j, i, s1 _ _ _ (s2 _ _ _ (s1 _ _ _ h)), c, a⟩
theorem fz_vert (hbd : ∀ x y z : Rat, fz_in m A B C D x y z → (-10 ≤ x ∧ x ≤ 10) ∧ (-10 ≤ y ∧ y ≤ 10) ∧ (-10 ≤ z ∧ z ≤ 10))
    (u v w : Rat) {x y z : Rat} (hS : fz_in m A B C D x y z) :
    ∃ X Y Z : Rat, fz_in m A B C D X Y Z ∧ u * x + v * y + w * z ≤ u * X + v * Y + w * Z ∧
      ∃ i j k, i < j ∧ j < k ∧ k < m ∧ fz_det (A i) (B i) (C i) (A j) (B j) (C j) (A k) (B k) (C k) ≠ 0 ∧
        A i * X + B i * Y + C i * Z = D i ∧ A j * X + B j * Y + C j * Z = D j ∧ A k * X + B k * Y + C k * Z = D k := by
  obtain ⟨X, Y, Z, h1, h2, i, j, k, hi, hj, hk, h3, h4, h5, h6⟩ := fz_vert3 hbd u v w hS
  obtain ⟨i, j, k, ⟨hi, hj, hk, h3, h4, h5, h6⟩, o1, o2⟩ := fz_ord (T := fun i j k => i < m ∧ j < m ∧ k < m ∧ fz_det (A i) (B i) (C i) (A j) (B j) (C j) (A k) (B k) (C k) ≠ 0 ∧
        A i * X + B i * Y + C i * Z = D i ∧ A j * X + B j * Y + C j * Z = D j ∧ A k * X + B k * Y + C k * Z = D k)
    (fun i j k ⟨a, b, c, d, e, f, g⟩ => ⟨b, a, c, by rw [fz_det12]; grind, f, e, g⟩)
    (fun i j k ⟨a, b, c, d, e, f, g⟩ => ⟨a, c, b, by rw [fz_det23]; grind, e, g, f⟩)
    (fun i k ⟨a, b, c, d, e⟩ => d (by unfold fz_det; grind)) (i := i) (j := j) (k := k) ⟨hi, hj, hk, h3, h4, h5, h6⟩
  exact ⟨X, Y, Z, h1, h2, i, j, k, o1, o2, hk, h3, h4, h5, h6⟩
end
theorem fz_cram {a1 b1 c1 d1 a2 b2 c2 d2 a3 b3 c3 d3 X Y Z : Rat} (h1 : a1 * X + b1 * Y + c1 * Z = d1) (h2 : a2 * X + b2 * Y + c2 * Z = d2) (h3 : a3 * X + b3 * Y + c3 * Z = d3) :
    fz_det d1 b1 c1 d2 b2 c2 d3 b3 c3 = fz_det a1 b1 c1 a2 b2 c2 a3 b3 c3 * X ∧
    fz_det a1 d1 c1 a2 d2 c2 a3 d3 c3 = fz_det a1 b1 c1 a2 b2 c2 a3 b3 c3 * Y ∧
    fz_det a1 b1 d1 a2 b2 d2 a3 b3 d3 = fz_det a1 b1 c1 a2 b2 c2 a3 b3 c3 * Z := by
  subst h1 h2 h3
  unfold fz_det
  refine ⟨?_, ?_, ?_⟩ <;> grind
end
section
/-! ints and longs, common divisors -/
theorem fz_l0 : (0 : Int64).toInt = 0 := by decide
theorem fz_l1 : (1 : Int64).toInt = 1 := by decide
theorem fz_abm {x y A B : Int} (hx : -A ≤ x ∧ x ≤ A) (hy : -B ≤ y ∧ y ≤ B) : -(A * B) ≤ x * y ∧ x * y ≤ A * B := by
  have h1 : x.natAbs ≤ A.toNat := by omega
  have h2 : y.natAbs ≤ B.toNat := by omega
  have h3 := Nat.mul_le_mul h1 h2
  rw [← Int.natAbs_mul] at h3
  have h4 : ((A.toNat * B.toNat : Nat) : Int) = A * B := by rw [Int.natCast_mul, Int.toNat_of_nonneg (by omega), Int.toNat_of_nonneg (by omega)]
  have h5 : ((x * y).natAbs : Int) ≤ A * B := by rw [← h4]; exact Int.ofNat_le.mpr h3
  generalize x * y = z at h5 ⊢
  generalize A * B = w at h5 ⊢
  omega
theorem fz_lmul {x y : Int64} {A B : Int} (hx : -A ≤ x.toInt ∧ x.toInt ≤ A) (hy : -B ≤ y.toInt ∧ y.toInt ≤ B) (h : A * B < 4611686018427387904) : (x * y).toInt = x.toInt * y.toInt := by
  have k := fz_abm hx hy
  exact Jvm.Kit.i64_mul (by omega) (by omega)
theorem fz_lneg {x : Int64} {A : Int} (hx : -A ≤ x.toInt ∧ x.toInt ≤ A) (h : A < 4611686018427387904) : (-x).toInt = -x.toInt := Jvm.Kit.i64_neg (by omega)
theorem fz_imul {x y : Int32} {A B : Int} (hx : -A ≤ x.toInt ∧ x.toInt ≤ A) (hy : -B ≤ y.toInt ∧ y.toInt ≤ B) (h : A * B < 1073741824) : (x * y).toInt = x.toInt * y.toInt := by
  have k := fz_abm hx hy
  exact Jvm.Kit.i32_mul (by omega) (by omega)
theorem fz_abs {a : Int64} (h : 0 ≤ a) : a = lN a.toInt.natAbs := by
  have h0 := Jvm.Kit.i64_nonneg.mp h
  have h1 := a.toInt_lt
  apply Int64.toInt_inj.mp
  rw [pk_lT (by omega)]
  omega
theorem fz_absn {a : Int64} (h : ¬ 0 ≤ a) (hb : -1099511627776 ≤ a.toInt) : -a = lN a.toInt.natAbs := by
  have h0 : ¬ 0 ≤ a.toInt := fun q => h (Jvm.Kit.i64_nonneg.mpr q)
  apply Int64.toInt_inj.mp
  rw [pk_lT (by omega), Jvm.Kit.i64_neg (by omega)]
  omega
theorem fz_gcdL {post : Int64 → Prop} : ∀ (m n k p q : Nat), p ≤ q → p * q < 2 ^ m → q < 2 ^ 62 → m + k ≤ 100 → m < n → post (lN (Nat.gcd p q)) → wX_gcd_31 post n (lN p) (lN q) (nI k) := by
  intro m
  induction m with
  | zero =>
    intro n k p q h1 h2 h3 h4 h5 hp
    obtain ⟨n, rfl⟩ : ∃ n', n = n' + 1 := ⟨n - 1, by omega⟩
    have p0 : p = 0 := by
      rcases Nat.eq_zero_or_pos p with e | e
      · exact e
      · have := Nat.mul_pos e (Nat.lt_of_lt_of_le e h1)
        omega
    subst p0
    rw [Nat.gcd_zero_left] at hp
    exact br_c (fun _ => hp) (fun _ => br_t rfl hp)
  | succ m ih =>
    intro n k p q h1 h2 h3 h4 h5 hp
    obtain ⟨n, rfl⟩ : ∃ n', n = n' + 1 := ⟨n - 1, by omega⟩
    rcases Nat.eq_zero_or_pos p with e | e
    · subst e
      rw [Nat.gcd_zero_left] at hp
      exact br_c (fun _ => hp) (fun _ => br_t rfl hp)
    · have hk : ¬ (100 : Int32) ≤ nI k := nI_ge (b := 100) (by omega) (by decide)
      have hz : ¬ lN p = 0 := by
        intro q0
        have := (pk_lEQ (a := p) (b := 0) (by omega) (by omega)).mp q0
        omega
      have hmod : q % p < p := Nat.mod_lt _ e
      have h2q : 2 * (q % p) ≤ q := by
        have d1 := Nat.div_add_mod q p
        have d2 : 1 ≤ q / p := Nat.div_pos h1 e
        have d3 : p * 1 ≤ p * (q / p) := Nat.mul_le_mul_left p d2
        omega
      have hprod : q % p * p < 2 ^ m := by
        have d := Nat.mul_le_mul_right p h2q
        have d2 : 2 * (q % p) * p = 2 * (q % p * p) := Nat.mul_assoc _ _ _
        have d3 : p * q = q * p := Nat.mul_comm _ _
        rw [Nat.pow_succ] at h2
        omega
      refine br_f hk (br_f hz ⟨hz, nm_r (pk_lRem (by omega) e (by omega)) (nm_r (nI_1 k) ?_)⟩)
      exact ih n (k + 1) (q % p) p (by omega) hprod (by omega) (by omega) (by omega) (by rw [← Nat.gcd_rec]; exact hp)
theorem fz_gcdP {post : Int64 → Prop} {p q : Nat} (hp : p ≤ 2 ^ 40) (hq : q ≤ 2 ^ 40) (K : post (lN (Nat.gcd p q))) : ∃ n, wX_gcd_31 post n (lN p) (lN q) 0 := by
  have hpq : p * q < 2 ^ 81 := Nat.lt_of_le_of_lt (Nat.mul_le_mul hp hq) (by decide)
  by_cases h : p ≤ q
  · exact ⟨82, fz_gcdL 81 82 0 p q h hpq (by omega) (by omega) (by omega) K⟩
  · refine ⟨83, ?_⟩
    have hz : ¬ lN p = 0 := by
      intro q0
      have := (pk_lEQ (a := p) (b := 0) (by omega) (by omega)).mp q0
      omega
    have hk : ¬ (100 : Int32) ≤ 0 := by decide
    refine br_f hk (br_f hz ⟨hz, nm_r (pk_lRem (by omega) (by omega) (by omega)) (nm_r (e' := nI 1) rfl ?_)⟩)
    rw [Nat.mod_eq_of_lt (by omega)]
    exact fz_gcdL 81 82 1 q p (by omega) (by rw [Nat.mul_comm]; exact hpq) (by omega) (by omega) (by omega) (by rw [Nat.gcd_comm]; exact K)
theorem fz_gle (p q : Nat) : Nat.gcd p q ≤ p + q := by
  rcases Nat.eq_zero_or_pos p with e | e
  · subst e; rw [Nat.gcd_zero_left]; omega
  · have := Nat.gcd_le_left q e
    omega
theorem fz_gcd {post : Int64 → Prop} {a b : Int64} (ha : -1099511627776 ≤ a.toInt ∧ a.toInt ≤ 1099511627776) (hb : -1099511627776 ≤ b.toInt ∧ b.toInt ≤ 1099511627776)
    (K : ∀ r : Int64, r.toInt = (Int.gcd a.toInt b.toInt : Int) → post r) : wpX_gcd post a b := by
  have kk : post (lN (Nat.gcd a.toInt.natAbs b.toInt.natAbs)) := by
    have g := fz_gle a.toInt.natAbs b.toInt.natAbs
    exact K _ (pk_lT (by omega))
  have h12 : ∀ z : Int64, z = lN a.toInt.natAbs → wX_gcd_12 post b z := by
    intro z hz
    subst hz
    refine br_c (fun h => ?_) (fun h => ?_)
    · rw [fz_abs h]
      exact fz_gcdP (by omega) (by omega) kk
    · refine nm_r (fz_absn h hb.1) ?_
      exact fz_gcdP (by omega) (by omega) kk
  exact br_c (fun h => h12 a (fz_abs h)) (fun h => h12 (-a) (fz_absn h ha.1))
def fz_g3 (a b c : Int) : Int := (Int.gcd (Int.gcd a b : Int) c : Int)
theorem fz_g3_nn (a b c : Int) : 0 ≤ fz_g3 a b c := Int.natCast_nonneg _
theorem fz_g3_pos {a b c : Int} (h : ¬ (a = 0 ∧ b = 0 ∧ c = 0)) : 0 < fz_g3 a b c := by
  have h0 : fz_g3 a b c ≠ 0 := by
    intro q
    have q1 : Int.gcd (Int.gcd a b : Int) c = 0 := Int.ofNat.inj q
    rw [Int.gcd_eq_zero_iff] at q1
    have q2 : Int.gcd a b = 0 := Int.ofNat.inj q1.1
    rw [Int.gcd_eq_zero_iff] at q2
    exact h ⟨q2.1, q2.2, q1.2⟩
  have := fz_g3_nn a b c
  omega
theorem fz_g2_le (a b : Int) : (Int.gcd a b : Int) ≤ (a.natAbs : Int) + b.natAbs := by
  have := fz_gle a.natAbs b.natAbs
  have e : Int.gcd a b = Nat.gcd a.natAbs b.natAbs := rfl
  omega
theorem fz_g3_le (a b c : Int) : fz_g3 a b c ≤ (a.natAbs : Int) + b.natAbs + c.natAbs := by
  have h1 := fz_g2_le a b
  have h2 := fz_g2_le (Int.gcd a b : Int) c
  unfold fz_g3
  omega
theorem fz_g3_d (a b c : Int) : fz_g3 a b c ∣ a ∧ fz_g3 a b c ∣ b ∧ fz_g3 a b c ∣ c := by
  have h1 : fz_g3 a b c ∣ (Int.gcd a b : Int) := Int.gcd_dvd_left _ _
  exact ⟨Int.dvd_trans h1 (Int.gcd_dvd_left _ _), Int.dvd_trans h1 (Int.gcd_dvd_right _ _), Int.gcd_dvd_right _ _⟩
theorem fz_sizeOf {post : Int64 → Prop} {a b c : Int64} (ha : -1073741824 ≤ a.toInt ∧ a.toInt ≤ 1073741824) (hb : -1073741824 ≤ b.toInt ∧ b.toInt ≤ 1073741824)
    (hc : -1073741824 ≤ c.toInt ∧ c.toInt ≤ 1073741824) (K : ∀ r : Int64, r.toInt = fz_g3 a.toInt b.toInt c.toInt → post r) : wpX_sizeOf post a b c := by
  refine fz_gcd (by omega) (by omega) (fun r1 h1 => fz_gcd ?_ (by omega) (fun r2 h2 => K r2 (by rw [h2, h1]; rfl)))
  have := fz_g2_le a.toInt b.toInt
  omega
theorem fz_divE {a g : Int} (hg : 0 < g) (h : g ∣ a) : g * a.tdiv g = a ∧ (∀ A : Int, -A ≤ a ∧ a ≤ A → -A ≤ a.tdiv g ∧ a.tdiv g ≤ A) := by
  obtain ⟨q, rfl⟩ := h
  rw [Int.mul_tdiv_cancel_left q (by omega)]
  refine ⟨rfl, fun A hA => ?_⟩
  have h1 : q.natAbs ≤ (g * q).natAbs := by
    rw [Int.natAbs_mul]
    exact Nat.le_mul_of_pos_left _ (by omega)
  omega
theorem fz_ldiv {a g : Int64} (hg : 0 < g.toInt) : (a / g).toInt = a.toInt.tdiv g.toInt := Jvm.Kit.i64_div (by omega)
end
section
/-! rows as sets of points -/
def fz_S (a b c d : Int) (o : Prop) (p : Nat → Rat) : Prop := (a : Rat) * p 0 + (b : Rat) * p 1 + (c : Rat) * p 2 ≤ (d : Rat) ∧ (o → (a : Rat) * p 0 + (b : Rat) * p 1 + (c : Rat) * p 2 < (d : Rat))
theorem fz_Sg {g a b c d : Int} (hg : 0 < g) {o : Prop} {p : Nat → Rat} : fz_S (g * a) (g * b) (g * c) (g * d) o p ↔ fz_S a b c d o p := by
  have hG : (0 : Rat) < (g : Rat) := Rat.intCast_pos.mpr hg
  unfold fz_S
  simp only [Rat.intCast_mul]
  generalize (g : Rat) = G at hG
  have e : G * (a : Rat) * p 0 + G * (b : Rat) * p 1 + G * (c : Rat) * p 2 = G * ((a : Rat) * p 0 + (b : Rat) * p 1 + (c : Rat) * p 2) := by grind
  rw [e]
  constructor
  · rintro ⟨h1, h2⟩
    exact ⟨Rat.le_of_mul_le_mul_left h1 hG, fun q => (Rat.mul_lt_mul_left hG).mp (h2 q)⟩
  · rintro ⟨h1, h2⟩
    exact ⟨fz_mle hG h1, fun q => fz_mlt hG (h2 q)⟩
theorem fz_cc {x y z w : Int} (h : x * y = z * w) : (x : Rat) * (y : Rat) = (z : Rat) * (w : Rat) := by
  rw [← Rat.intCast_mul, ← Rat.intCast_mul, h]
/-- two rows in one direction: x the kept one, y the new one -/
theorem fz_tg {a b c d a' b' c' d' g h : Int} (hg : 0 < g) (hh : 0 < h) (e1 : a * g = a' * h) (e2 : b * g = b' * h) (e3 : c * g = c' * h) {o o' : Prop} {p : Nat → Rat} :
    (0 < d * g - d' * h ∨ (d * g - d' * h = 0 ∧ o') → fz_S a' b' c' d' o' p → fz_S a b c d o p) ∧
    (d * g - d' * h < 0 ∨ (d * g - d' * h = 0 ∧ ¬ o') → fz_S a b c d o p → fz_S a' b' c' d' o' p) := by
  have hG : (0 : Rat) < (g : Rat) := Rat.intCast_pos.mpr hg
  have hH : (0 : Rat) < (h : Rat) := Rat.intCast_pos.mpr hh
  have f1 := fz_cc e1
  have f2 := fz_cc e2
  have f3 := fz_cc e3
  unfold fz_S
  have ev : (g : Rat) * ((a : Rat) * p 0 + (b : Rat) * p 1 + (c : Rat) * p 2) = (h : Rat) * ((a' : Rat) * p 0 + (b' : Rat) * p 1 + (c' : Rat) * p 2) := by grind
  generalize (a : Rat) * p 0 + (b : Rat) * p 1 + (c : Rat) * p 2 = v at ev ⊢
  generalize (a' : Rat) * p 0 + (b' : Rat) * p 1 + (c' : Rat) * p 2 = v' at ev ⊢
  have kl : d' * h < d * g → (h : Rat) * (d' : Rat) < (g : Rat) * (d : Rat) := fun q => by
    have := Rat.intCast_lt_intCast.mpr q
    rw [Rat.intCast_mul, Rat.intCast_mul] at this
    grind
  have kr : d * g < d' * h → (g : Rat) * (d : Rat) < (h : Rat) * (d' : Rat) := fun q => by
    have := Rat.intCast_lt_intCast.mpr q
    rw [Rat.intCast_mul, Rat.intCast_mul] at this
    grind
  have ke : d * g = d' * h → (g : Rat) * (d : Rat) = (h : Rat) * (d' : Rat) := fun q => by
    have := fz_cc q
    grind
  constructor
  · rintro (q | ⟨q, w⟩) ⟨h1, h2⟩
    · have q1 := kl (by omega)
      have m1 := fz_mle hH h1
      have m2 : (g : Rat) * v < (g : Rat) * (d : Rat) := by grind
      have m3 := (Rat.mul_lt_mul_left hG).mp m2
      exact ⟨Rat.le_of_lt m3, fun _ => m3⟩
    · have q1 := ke (by omega)
      have m1 := fz_mlt hH (h2 w)
      have m2 : (g : Rat) * v < (g : Rat) * (d : Rat) := by grind
      have m3 := (Rat.mul_lt_mul_left hG).mp m2
      exact ⟨Rat.le_of_lt m3, fun _ => m3⟩
  · rintro (q | ⟨q, w⟩) ⟨h1, h2⟩
    · have q1 := kr (by omega)
      have m1 := fz_mle hG h1
      have m2 : (h : Rat) * v' < (h : Rat) * (d' : Rat) := by grind
      have m3 := (Rat.mul_lt_mul_left hH).mp m2
      exact ⟨Rat.le_of_lt m3, fun _ => m3⟩
    · have q1 := ke (by omega)
      have m1 := fz_mle hG h1
      have m2 : (h : Rat) * v' ≤ (h : Rat) * (d' : Rat) := by grind
      exact ⟨Rat.le_of_mul_le_mul_left m2 hH, fun z => absurd z w⟩
def fz_rok (A B C D : Int) (σ : Prop) (a b c d : Int) (s : Int32) : Prop :=
  (-A ≤ a ∧ a ≤ A) ∧ (-B ≤ b ∧ b ≤ B) ∧ (-C ≤ c ∧ c ≤ C) ∧ (-D ≤ d ∧ d ≤ D) ∧ (s = 0 ∨ (s = 1 ∧ σ))
def fz_XR (A B C D : Int) (σ : Prop) (n : Nat) (rn hp : Int32) (ra rb rc rd : Nat → Int64) (rs : Nat → Int32) (G : (Nat → Rat) → Prop) : Prop :=
  rn = nI n ∧ (hp = 0 ∨ hp = 1) ∧
  (∀ k, k < n → fz_rok A B C D σ (ra k).toInt (rb k).toInt (rc k).toInt (rd k).toInt (rs k) ∧ ¬ ((ra k).toInt = 0 ∧ (rb k).toInt = 0 ∧ (rc k).toInt = 0)) ∧
  (∀ p, (hp = 0 ∧ ∀ k, k < n → fz_S (ra k).toInt (rb k).toInt (rc k).toInt (rd k).toInt (¬ rs k = 0) p) ↔ G p)
theorem fz_XRg {A B C D : Int} {σ : Prop} {n : Nat} {rn hp : Int32} {ra rb rc rd : Nat → Int64} {rs : Nat → Int32} {G G' : (Nat → Rat) → Prop}
    (h : fz_XR A B C D σ n rn hp ra rb rc rd rs G) (hG : ∀ p, G p ↔ G' p) : fz_XR A B C D σ n rn hp ra rb rc rd rs G' :=
  ⟨h.1, h.2.1, h.2.2.1, fun p => (h.2.2.2 p).trans (hG p)⟩
theorem fz_XRa {A B C D : Int} {σ : Prop} {n : Nat} {rn hp : Int32} {ra rb rc rd : Nat → Int64} {rs : Nat → Int32} {G : (Nat → Rat) → Prop}
    (h : fz_XR A B C D σ n rn hp ra rb rc rd rs G) {a b c d : Int64} {o : Int32} (hr : fz_rok A B C D σ a.toInt b.toInt c.toInt d.toInt o) (hz : ¬ (a.toInt = 0 ∧ b.toInt = 0 ∧ c.toInt = 0)) :
    fz_XR A B C D σ (n + 1) (nI (n + 1)) hp (vp_updL ra n a) (vp_updL rb n b) (vp_updL rc n c) (vp_updL rd n d) (upd rs n o) (fun p => G p ∧ fz_S a.toInt b.toInt c.toInt d.toInt (¬ o = 0) p) := by
  obtain ⟨h1, h2, h3, h4⟩ := h
  refine ⟨rfl, h2, fun k hk => ?_, fun p => ?_⟩
  · by_cases e : k = n
    · subst e
      rw [pk_uLs, pk_uLs, pk_uLs, pk_uLs, pk_us]
      exact ⟨hr, hz⟩
    · rw [pk_uLn e, pk_uLn e, pk_uLn e, pk_uLn e, pk_un e]
      exact h3 k (by omega)
  · dsimp only
    rw [← h4 p]
    constructor
    · rintro ⟨q1, q2⟩
      refine ⟨⟨q1, fun k hk => ?_⟩, ?_⟩
      · have e : k ≠ n := by omega
        have := q2 k (by omega)
        rw [pk_uLn e, pk_uLn e, pk_uLn e, pk_uLn e, pk_un e] at this
        exact this
      · have := q2 n (by omega)
        rw [pk_uLs, pk_uLs, pk_uLs, pk_uLs, pk_us] at this
        exact this
    · rintro ⟨⟨q1, q2⟩, q3⟩
      refine ⟨q1, fun k hk => ?_⟩
      by_cases e : k = n
      · subst e
        rw [pk_uLs, pk_uLs, pk_uLs, pk_uLs, pk_us]
        exact q3
      · rw [pk_uLn e, pk_uLn e, pk_uLn e, pk_uLn e, pk_un e]
        exact q2 k (by omega)
theorem fz_XRr {A B C D : Int} {σ : Prop} {n : Nat} {rn hp : Int32} {ra rb rc rd : Nat → Int64} {rs : Nat → Int32} {G : (Nat → Rat) → Prop}
    (h : fz_XR A B C D σ n rn hp ra rb rc rd rs G) {a b c d : Int64} {o : Int32} (hr : fz_rok A B C D σ a.toInt b.toInt c.toInt d.toInt o) (hz : ¬ (a.toInt = 0 ∧ b.toInt = 0 ∧ c.toInt = 0))
    {j : Nat} (hj : j < n) (ht : ∀ p, fz_S a.toInt b.toInt c.toInt d.toInt (¬ o = 0) p → fz_S (ra j).toInt (rb j).toInt (rc j).toInt (rd j).toInt (¬ rs j = 0) p) :
    fz_XR A B C D σ n rn hp (vp_updL ra j a) (vp_updL rb j b) (vp_updL rc j c) (vp_updL rd j d) (upd rs j o) (fun p => G p ∧ fz_S a.toInt b.toInt c.toInt d.toInt (¬ o = 0) p) := by
  obtain ⟨h1, h2, h3, h4⟩ := h
  refine ⟨h1, h2, fun k hk => ?_, fun p => ?_⟩
  · by_cases e : k = j
    · subst e
      rw [pk_uLs, pk_uLs, pk_uLs, pk_uLs, pk_us]
      exact ⟨hr, hz⟩
    · rw [pk_uLn e, pk_uLn e, pk_uLn e, pk_uLn e, pk_un e]
      exact h3 k (by omega)
  · dsimp only
    rw [← h4 p]
    constructor
    · rintro ⟨q1, q2⟩
      have q3 := q2 j hj
      rw [pk_uLs, pk_uLs, pk_uLs, pk_uLs, pk_us] at q3
      refine ⟨⟨q1, fun k hk => ?_⟩, q3⟩
      by_cases e : k = j
      · subst e
        exact ht p q3
      · have := q2 k (by omega)
        rw [pk_uLn e, pk_uLn e, pk_uLn e, pk_uLn e, pk_un e] at this
        exact this
    · rintro ⟨⟨q1, q2⟩, q3⟩
      refine ⟨q1, fun k hk => ?_⟩
      by_cases e : k = j
      · subst e
        rw [pk_uLs, pk_uLs, pk_uLs, pk_uLs, pk_us]
        exact q3
      · rw [pk_uLn e, pk_uLn e, pk_uLn e, pk_uLn e, pk_un e]
        exact q2 k (by omega)
end
section
/-! X: isAlong, write, tighten, put -/
theorem fz_nar {o : Int32} (h : o = 0 ∨ o = 1) : vp_nar .boolean o = o := by rcases h with rfl | rfl <;> rfl
section
variable {post : SX → Prop} {xcn xrn xow xhp xhl xhh : Int32} {xlt xlb xht xhb : Int64} {xol xoh : Int32} {xsl xli : Nat → Int32} {ra rb rc rd : Nat → Int64} {rs : Nat → Int32} {oa ob oc od : Nat → Int64} {os : Nat → Int32}
theorem fz_write {k : Nat} {a b c d : Int64} {o : Int32} (hk : k < 800) (ho : o = 0 ∨ o = 1)
    (K : post (xcn, xrn, xow, xhp, xhl, xhh, xlt, xlb, xht, xhb, xol, xoh, xsl, xli, vp_updL ra k a, vp_updL rb k b, vp_updL rc k c, vp_updL rd k d, upd rs k o, oa, ob, oc, od, os)) : wpX_write post (xcn, xrn, xow, xhp, xhl, xhh, xlt, xlb, xht, xhb, xol, xoh, xsl, xli, ra, rb, rc, rd, rs, oa, ob, oc, od, os) (nI k) a b c d o := by
  have hi : vp_in (nI k) 800 := vp_in_nI hk (by omega)
  have e : (nI k).toNatClampNeg = k := nI_clamp (by omega)
  unfold wpX_write
  dsimp only
  rw [e, fz_nar ho]
  exact ⟨hi, nm_e ⟨hi, nm_e ⟨hi, nm_e ⟨hi, nm_e ⟨hi, nm_e K⟩⟩⟩⟩⟩
def fz_sm (a b c : Int64) : Prop := (-4096 ≤ a.toInt ∧ a.toInt ≤ 4096) ∧ (-4096 ≤ b.toInt ∧ b.toInt ≤ 4096) ∧ (-4096 ≤ c.toInt ∧ c.toInt ≤ 4096)
theorem fz_smg {a b c g : Int64} (h : fz_sm a b c) (e : g.toInt = fz_g3 a.toInt b.toInt c.toInt) : -12288 ≤ g.toInt ∧ g.toInt ≤ 12288 := by
  obtain ⟨h1, h2, h3⟩ := h
  have k1 := fz_g3_le a.toInt b.toInt c.toInt
  have k2 := fz_g3_nn a.toInt b.toInt c.toInt
  omega
theorem fz_leq {x y z w : Int64} (hx : -4096 ≤ x.toInt ∧ x.toInt ≤ 4096) (hy : -12288 ≤ y.toInt ∧ y.toInt ≤ 12288) (hz : -4096 ≤ z.toInt ∧ z.toInt ≤ 4096) (hw : -12288 ≤ w.toInt ∧ w.toInt ≤ 12288)
    (h : x * y = z * w) : x.toInt * y.toInt = z.toInt * w.toInt := by
  rw [← fz_lmul hx hy (by decide), ← fz_lmul hz hw (by decide), h]
theorem fz_along {post : Int32 → Prop} {k : Nat} {a b c : Int64} (hk : k < 800) (h1 : fz_sm (ra k) (rb k) (rc k)) (h2 : fz_sm a b c)
    (K1 : (ra k).toInt * fz_g3 a.toInt b.toInt c.toInt = a.toInt * fz_g3 (ra k).toInt (rb k).toInt (rc k).toInt →
      (rb k).toInt * fz_g3 a.toInt b.toInt c.toInt = b.toInt * fz_g3 (ra k).toInt (rb k).toInt (rc k).toInt →
      (rc k).toInt * fz_g3 a.toInt b.toInt c.toInt = c.toInt * fz_g3 (ra k).toInt (rb k).toInt (rc k).toInt → post 1) (K0 : post 0) : wpX_isAlong post (xcn, xrn, xow, xhp, xhl, xhh, xlt, xlb, xht, xhb, xol, xoh, xsl, xli, ra, rb, rc, rd, rs, oa, ob, oc, od, os) (nI k) a b c := by
  have hi : vp_in (nI k) 800 := vp_in_nI hk (by omega)
  have e : (nI k).toNatClampNeg = k := nI_clamp (by omega)
  unfold wpX_isAlong
  dsimp only
  rw [e]
  have h1' := h1
  have h2' := h2
  obtain ⟨u1, u2, u3⟩ := h1'
  obtain ⟨v1, v2, v3⟩ := h2'
  refine ⟨hi, hi, hi, fz_sizeOf (by omega) (by omega) (by omega) fun h eh => fz_sizeOf (by omega) (by omega) (by omega) fun g eg => ?_⟩
  have hg := fz_smg h2 eg
  have hh := fz_smg h1 eh
  refine ⟨hi, br_c (fun e1 => ⟨hi, br_c (fun e2 => ⟨hi, br_c (fun e3 => ?_) (fun _ => K0)⟩) (fun _ => K0)⟩) (fun _ => K0)⟩
  have f1 := fz_leq u1 hg v1 hh e1
  have f2 := fz_leq u2 hg v2 hh e2
  have f3 := fz_leq u3 hg v3 hh e3
  rw [eg, eh] at f1 f2 f3
  exact K1 f1 f2 f3
theorem fz_tighten {k : Nat} {a b c d : Int64} {o : Int32} (hk : k < 800) (h1 : fz_sm (ra k) (rb k) (rc k)) (h2 : fz_sm a b c)
    (hd : -1048576 ≤ (rd k).toInt ∧ (rd k).toInt ≤ 1048576) (hd' : -1048576 ≤ d.toInt ∧ d.toInt ≤ 1048576) (ho : o = 0 ∨ o = 1)
    (K1 : 0 < (rd k).toInt * fz_g3 a.toInt b.toInt c.toInt - d.toInt * fz_g3 (ra k).toInt (rb k).toInt (rc k).toInt ∨ ((rd k).toInt * fz_g3 a.toInt b.toInt c.toInt - d.toInt * fz_g3 (ra k).toInt (rb k).toInt (rc k).toInt = 0 ∧ ¬ o = 0) →
      post (xcn, xrn, xow, xhp, xhl, xhh, xlt, xlb, xht, xhb, xol, xoh, xsl, xli, vp_updL ra k a, vp_updL rb k b, vp_updL rc k c, vp_updL rd k d, upd rs k o, oa, ob, oc, od, os))
    (K0 : (rd k).toInt * fz_g3 a.toInt b.toInt c.toInt - d.toInt * fz_g3 (ra k).toInt (rb k).toInt (rc k).toInt < 0 ∨ ((rd k).toInt * fz_g3 a.toInt b.toInt c.toInt - d.toInt * fz_g3 (ra k).toInt (rb k).toInt (rc k).toInt = 0 ∧ ¬ ¬ o = 0) → post (xcn, xrn, xow, xhp, xhl, xhh, xlt, xlb, xht, xhb, xol, xoh, xsl, xli, ra, rb, rc, rd, rs, oa, ob, oc, od, os)) :
    wpX_tighten post (xcn, xrn, xow, xhp, xhl, xhh, xlt, xlb, xht, xhb, xol, xoh, xsl, xli, ra, rb, rc, rd, rs, oa, ob, oc, od, os) (nI k) a b c d o := by
  have hi : vp_in (nI k) 800 := vp_in_nI hk (by omega)
  have e : (nI k).toNatClampNeg = k := nI_clamp (by omega)
  unfold wpX_tighten
  dsimp only
  rw [e]
  have h1' := h1
  have h2' := h2
  obtain ⟨u1, u2, u3⟩ := h1'
  obtain ⟨v1, v2, v3⟩ := h2'
  refine ⟨hi, hi, hi, fz_sizeOf (by omega) (by omega) (by omega) fun h eh => fz_sizeOf (by omega) (by omega) (by omega) fun g eg => ⟨hi, fun x ex => ?_⟩⟩
  have hg := fz_smg h2 eg
  have hh := fz_smg h1 eh
  have m1 := fz_abm hd hg
  have m2 := fz_abm hd' hh
  have p1 := fz_lmul hd hg (by decide)
  have p2 := fz_lmul hd' hh (by decide)
  have hx : x.toInt = (rd k).toInt * fz_g3 a.toInt b.toInt c.toInt - d.toInt * fz_g3 (ra k).toInt (rb k).toInt (rc k).toInt := by
    rw [ex, Jvm.Kit.i64_sub (by rw [p1, p2]; omega) (by rw [p1, p2]; omega), p1, p2, eg, eh]
  rw [← hx] at K1 K0
  refine br_c (fun q => ?_) (fun q => br_c (fun q2 => br_c (fun q3 => ?_) (fun q3 => ?_)) (fun q2 => ?_))
  · rw [Int64.lt_iff_toInt_lt, fz_l0] at q
    exact fz_write hk ho (K1 (Or.inl q))
  · exact K0 (Or.inr ⟨by rw [q2, fz_l0], fun z => z q3⟩)
  · exact fz_write hk ho (K1 (Or.inr ⟨by rw [q2, fz_l0], q3⟩))
  · rw [Int64.lt_iff_toInt_lt, fz_l0] at q
    rw [← Int64.toInt_inj, fz_l0] at q2
    exact K0 (Or.inl (by omega))
theorem fz_putL {R : Nat} {p q r s : Int64} {o : Int32} (hR : xrn = nI R) (h8 : R < 800) (hrow : ∀ k, k < R → fz_sm (ra k) (rb k) (rc k) ∧ (-1048576 ≤ (rd k).toInt ∧ (rd k).toInt ≤ 1048576))
    (h2 : fz_sm p q r) (hd' : -1048576 ≤ s.toInt ∧ s.toInt ≤ 1048576) (ho : o = 0 ∨ o = 1)
    (Kn : post (xcn, nI (R + 1), xow, xhp, xhl, xhh, xlt, xlb, xht, xhb, xol, xoh, xsl, xli, vp_updL ra R p, vp_updL rb R q, vp_updL rc R r, vp_updL rd R s, upd rs R o, oa, ob, oc, od, os))
    (Kt : ∀ k, k < R → (ra k).toInt * fz_g3 p.toInt q.toInt r.toInt = p.toInt * fz_g3 (ra k).toInt (rb k).toInt (rc k).toInt →
      (rb k).toInt * fz_g3 p.toInt q.toInt r.toInt = q.toInt * fz_g3 (ra k).toInt (rb k).toInt (rc k).toInt →
      (rc k).toInt * fz_g3 p.toInt q.toInt r.toInt = r.toInt * fz_g3 (ra k).toInt (rb k).toInt (rc k).toInt →
      (0 < (rd k).toInt * fz_g3 p.toInt q.toInt r.toInt - s.toInt * fz_g3 (ra k).toInt (rb k).toInt (rc k).toInt ∨ ((rd k).toInt * fz_g3 p.toInt q.toInt r.toInt - s.toInt * fz_g3 (ra k).toInt (rb k).toInt (rc k).toInt = 0 ∧ ¬ o = 0) →
        post (xcn, xrn, xow, xhp, xhl, xhh, xlt, xlb, xht, xhb, xol, xoh, xsl, xli, vp_updL ra k p, vp_updL rb k q, vp_updL rc k r, vp_updL rd k s, upd rs k o, oa, ob, oc, od, os)) ∧
      ((rd k).toInt * fz_g3 p.toInt q.toInt r.toInt - s.toInt * fz_g3 (ra k).toInt (rb k).toInt (rc k).toInt < 0 ∨ ((rd k).toInt * fz_g3 p.toInt q.toInt r.toInt - s.toInt * fz_g3 (ra k).toInt (rb k).toInt (rc k).toInt = 0 ∧ ¬ ¬ o = 0) → post (xcn, xrn, xow, xhp, xhl, xhh, xlt, xlb, xht, xhb, xol, xoh, xsl, xli, ra, rb, rc, rd, rs, oa, ob, oc, od, os))) :
    ∀ m j : Nat, j + m = R → wX_put_124 post o p q r s xcn xrn xow xhp xhl xhh xlt xlb xht xhb xol xoh xsl xli ra rb rc rd rs oa ob oc od os (m + 1) (nI j) := by
  subst hR
  intro m
  induction m with
  | zero =>
    intro j hj
    have e : j = R := by omega
    subst e
    have n8 : ¬ (800 : Int32) ≤ nI j := nI_ge (b := 800) h8 (by decide)
    exact br_t (nI_le (Nat.le_refl _) (by omega)) (br_f n8 (fz_write h8 ho (nm_r (nI_1 j) Kn)))
  | succ m ih =>
    intro j hj
    have hlt : ¬ nI R ≤ nI j := nI_ge (by omega) (by omega)
    obtain ⟨w1, w2⟩ := hrow j (by omega)
    refine br_f hlt (fz_along (by omega) w1 h2 (fun e1 e2 e3 => br_f (by decide) ?_) (br_t rfl (nm_r (nI_1 j) (ih (j + 1) (by omega)))))
    obtain ⟨t1, t2⟩ := Kt j (by omega) e1 e2 e3
    exact fz_tighten (by omega) w1 h2 w2 hd' ho t1 t2
/-- put: the set of points is cut by the new row -/
theorem fz_put {A B C D : Int} {σ : Prop} {n : Nat} {G : (Nat → Rat) → Prop} (hA : A ≤ 4096) (hB : B ≤ 4096) (hC : C ≤ 4096) (hD : D ≤ 1048576)
    (hX : fz_XR A B C D σ n xrn xhp ra rb rc rd rs G) (hn : n < 800) {a b c d : Int64} {o : Int32} (hr : fz_rok A B C D σ a.toInt b.toInt c.toInt d.toInt o)
    (K : ∀ (n' : Nat) (xrn' xhp' : Int32) (ra' rb' rc' rd' : Nat → Int64) (rs' : Nat → Int32), n' ≤ n + 1 → fz_XR A B C D σ n' xrn' xhp' ra' rb' rc' rd' rs' (fun p => G p ∧ fz_S a.toInt b.toInt c.toInt d.toInt (¬ o = 0) p) → post (xcn, xrn', xow, xhp', xhl, xhh, xlt, xlb, xht, xhb, xol, xoh, xsl, xli, ra', rb', rc', rd', rs', oa, ob, oc, od, os)) :
    wpX_put post (xcn, xrn, xow, xhp, xhl, xhh, xlt, xlb, xht, xhb, xol, xoh, xsl, xli, ra, rb, rc, rd, rs, oa, ob, oc, od, os) a b c d o := by
  have hX' := hX
  obtain ⟨x1, x2, x3, x4⟩ := hX'
  have hr' := hr
  obtain ⟨r1, r2, r3, r4, r5⟩ := hr'
  have ho : o = 0 ∨ o = 1 := r5.elim Or.inl (fun z => Or.inr z.1)
  have main : ¬ (a.toInt = 0 ∧ b.toInt = 0 ∧ c.toInt = 0) → wX_put_55 post a b c d o xcn xrn xow xhp xhl xhh xlt xlb xht xhb xol xoh xsl xli ra rb rc rd rs oa ob oc od os := by
    intro hz
    refine fz_gcd (by omega) (by omega) fun g1 e1 => fz_gcd ?_ (by omega) fun g2 e2 => ?_
    · have := fz_g2_le a.toInt b.toInt
      omega
    have e2' : g2.toInt = fz_g3 a.toInt b.toInt c.toInt := by rw [e2, e1]; rfl
    have g2p := fz_g3_pos hz
    have g2l := fz_g3_le a.toInt b.toInt c.toInt
    refine fz_gcd (by omega) (by omega) fun g e3 => ?_
    have gl := fz_g2_le g2.toInt d.toInt
    have gp : 0 < g.toInt := by
      have h0 : Int.gcd g2.toInt d.toInt ≠ 0 := by
        intro q
        rw [Int.gcd_eq_zero_iff] at q
        omega
      omega
    have d2 : g.toInt ∣ g2.toInt := by rw [e3]; exact Int.gcd_dvd_left _ _
    have dd : g.toInt ∣ d.toInt := by rw [e3]; exact Int.gcd_dvd_right _ _
    rw [e2'] at d2
    obtain ⟨y1, y2, y3⟩ := fz_g3_d a.toInt b.toInt c.toInt
    obtain ⟨da, ba⟩ := fz_divE gp (Int.dvd_trans d2 y1)
    obtain ⟨db, bb⟩ := fz_divE gp (Int.dvd_trans d2 y2)
    obtain ⟨dc, bc⟩ := fz_divE gp (Int.dvd_trans d2 y3)
    obtain ⟨de, bd⟩ := fz_divE gp dd
    have nz : ¬ g ≤ 0 := by rw [Int64.le_iff_toInt_le, fz_l0]; omega
    have ne : ¬ g = 0 := by rw [← Int64.toInt_inj, fz_l0]; omega
    refine br_f nz ⟨ne, fun p ep => ⟨ne, fun q eq => ⟨ne, fun r er => ⟨ne, fun s es => ⟨n + 1, ?_⟩⟩⟩⟩⟩
    have tp : p.toInt = a.toInt.tdiv g.toInt := by rw [ep]; exact fz_ldiv gp
    have tq : q.toInt = b.toInt.tdiv g.toInt := by rw [eq]; exact fz_ldiv gp
    have tr : r.toInt = c.toInt.tdiv g.toInt := by rw [er]; exact fz_ldiv gp
    have ts : s.toInt = d.toInt.tdiv g.toInt := by rw [es]; exact fz_ldiv gp
    rw [← tp] at da ba
    rw [← tq] at db bb
    rw [← tr] at dc bc
    rw [← ts] at de bd
    have hr2 : fz_rok A B C D σ p.toInt q.toInt r.toInt s.toInt o := ⟨ba A r1, bb B r2, bc C r3, bd D r4, r5⟩
    have hz2 : ¬ (p.toInt = 0 ∧ q.toInt = 0 ∧ r.toInt = 0) := by
      rintro ⟨z1, z2, z3⟩
      rw [z1, Int.mul_zero] at da
      rw [z2, Int.mul_zero] at db
      rw [z3, Int.mul_zero] at dc
      exact hz ⟨da.symm, db.symm, dc.symm⟩
    have hS : ∀ pt, fz_S a.toInt b.toInt c.toInt d.toInt (¬ o = 0) pt ↔ fz_S p.toInt q.toInt r.toInt s.toInt (¬ o = 0) pt := by
      intro pt
      rw [← da, ← db, ← dc, ← de]
      exact fz_Sg gp
    have hG : ∀ pt, (G pt ∧ fz_S p.toInt q.toInt r.toInt s.toInt (¬ o = 0) pt) ↔ (G pt ∧ fz_S a.toInt b.toInt c.toInt d.toInt (¬ o = 0) pt) := fun pt => by rw [hS pt]
    obtain ⟨w1, w2, w3, w4, w5⟩ := hr2
    have sm : fz_sm p q r := ⟨by omega, by omega, by omega⟩
    have hz3 := fz_g3_pos hz2
    refine fz_putL (R := n) x1 hn (fun k hk => ?_) sm (by omega) ho ?_ (fun k hk f1 f2 f3 => ?_) n 0 (by omega)
    · obtain ⟨⟨z1, z2, z3, z4, z5⟩, z6⟩ := x3 k hk
      exact ⟨⟨by omega, by omega, by omega⟩, by omega⟩
    · exact K (n + 1) _ _ _ _ _ _ _ (Nat.le_refl _) (fz_XRg (fz_XRa hX ⟨w1, w2, w3, w4, w5⟩ hz2) hG)
    · have hk0 := fz_g3_pos (x3 k hk).2
      refine ⟨fun gain => ?_, fun gain => ?_⟩
      · exact K n _ _ _ _ _ _ _ (Nat.le_succ _) (fz_XRg (fz_XRr hX ⟨w1, w2, w3, w4, w5⟩ hz2 hk (fun pt => (fz_tg hz3 hk0 f1 f2 f3).1 gain)) hG)
      · refine K n _ _ _ _ _ _ _ (Nat.le_succ _) (fz_XRg hX fun pt => ?_)
        rw [← hG pt, ← x4 pt]
        exact ⟨fun z => ⟨z, (fz_tg hz3 hk0 f1 f2 f3).2 gain (z.2 k hk)⟩, fun z => z.1⟩
  have zr : ∀ {x : Int64}, x = 0 → x.toInt = 0 := fun h => by rw [h, fz_l0]
  have nzr : ∀ {x : Int64}, ¬ x = 0 → ¬ x.toInt = 0 := fun h q => h (by rw [← Int64.toInt_inj, fz_l0]; exact q)
  refine br_c (fun ha => br_c (fun hb => br_c (fun hc => ?_) (fun hc => main (fun z => nzr hc z.2.2))) (fun hb => main (fun z => nzr hb z.2.1))) (fun ha => main (fun z => nzr ha z.1))
  have hv : ∀ pt : Nat → Rat, fz_S a.toInt b.toInt c.toInt d.toInt (¬ o = 0) pt ↔ (0 ≤ d.toInt ∧ (¬ o = 0 → 0 < d.toInt)) := by
    intro pt
    rw [zr ha, zr hb, zr hc]
    unfold fz_S
    rw [Rat.intCast_zero, Rat.zero_mul, Rat.zero_mul, Rat.zero_mul, Rat.add_zero, Rat.add_zero, Rat.intCast_nonneg, Rat.intCast_pos]
  have fin : ∀ h' : Int32, (h' = 0 ∨ h' = 1) → (h' = 0 ↔ (xhp = 0 ∧ 0 ≤ d.toInt ∧ (¬ o = 0 → 0 < d.toInt))) → post (xcn, xrn, xow, h', xhl, xhh, xlt, xlb, xht, xhb, xol, xoh, xsl, xli, ra, rb, rc, rd, rs, oa, ob, oc, od, os) := by
    intro h' q1 q2
    refine K n _ _ _ _ _ _ _ (Nat.le_succ _) ⟨x1, q1, x3, fun pt => ?_⟩
    dsimp only
    rw [hv pt, ← x4 pt, q2]
    exact ⟨fun z => ⟨⟨z.1.1, z.2⟩, z.1.2⟩, fun z => ⟨⟨z.1.1, z.2⟩, z.1.2⟩⟩
  have one : ¬ (1 : Int32) = 0 := by decide
  refine br_c (fun h0 => br_c (fun q => ?_) (fun q => br_c (fun q2 => ?_) (fun q2 => br_c (fun q3 => ?_) (fun q3 => ?_)))) (fun h0 => ?_)
  · rw [Int64.lt_iff_toInt_lt, fz_l0] at q
    exact fin 1 (Or.inr rfl) ⟨fun z => absurd z one, fun z => by omega⟩
  · rw [Int64.lt_iff_toInt_lt, fz_l0] at q
    exact fin 0 (Or.inl rfl) ⟨fun _ => ⟨h0, by omega, fun z => absurd q2 z⟩, fun _ => rfl⟩
  · have := zr q3
    exact fin 1 (Or.inr rfl) ⟨fun z => absurd z one, fun z => by have := z.2.2 q2; omega⟩
  · rw [Int64.lt_iff_toInt_lt, fz_l0] at q
    have := nzr q3
    exact fin 0 (Or.inl rfl) ⟨fun _ => ⟨h0, by omega, fun z => by omega⟩, fun _ => rfl⟩
  · exact fin 1 (Or.inr rfl) ⟨fun z => absurd z one, fun z => absurd z.1 h0⟩
end
end
section
/-! X: startRows -/
def fz_pa (s : Int32) : Int := ((s / 81) - 4).toInt
def fz_pb (s : Int32) : Int := (((s / 9) - (s / 9) / 9 * 9) - 4).toInt
def fz_pc (s : Int32) : Int := ((s - s / 9 * 9) - 4).toInt
theorem fz_par {t : Nat} (h : t ≤ 728) : (-4 ≤ fz_pa (nI t) ∧ fz_pa (nI t) ≤ 4) ∧ (-4 ≤ fz_pb (nI t) ∧ fz_pb (nI t) ≤ 4) ∧ (-4 ≤ fz_pc (nI t) ∧ fz_pc (nI t) ≤ 4) := by
  have e1 : nI t / nI 81 = nI (t / 81) := pk_div (by omega) (by omega) (by omega)
  have e2 : nI t / nI 9 = nI (t / 9) := pk_div (by omega) (by omega) (by omega)
  have e3 : nI (t / 9) - nI (t / 9) / nI 9 * nI 9 = nI (t / 9 % 9) := pk_rem (by omega) (by omega) (by omega)
  have e4 : nI t - nI t / nI 9 * nI 9 = nI (t % 9) := pk_rem (by omega) (by omega) (by omega)
  have f1 : fz_pa (nI t) = ((t / 81 : Nat) : Int) - 4 := by
    show (nI t / nI 81 - nI 4).toInt = _
    rw [e1]
    exact pk_sub_toInt (by omega) (by omega)
  have f2 : fz_pb (nI t) = ((t / 9 % 9 : Nat) : Int) - 4 := by
    show (nI t / nI 9 - nI t / nI 9 / nI 9 * nI 9 - nI 4).toInt = _
    rw [e2, e3]
    exact pk_sub_toInt (by omega) (by omega)
  have f3 : fz_pc (nI t) = ((t % 9 : Nat) : Int) - 4 := by
    show (nI t - nI t / nI 9 * nI 9 - nI 4).toInt = _
    rw [e4]
    exact pk_sub_toInt (by omega) (by omega)
  rw [f1, f2, f3]
  omega
def fz_ok (n : Nat) (sl li : Nat → Int32) : Prop := n ≤ 7 ∧ ∀ k, k < n → (∃ t : Nat, t ≤ 728 ∧ sl k = nI t) ∧ (-40 ≤ (li k).toInt ∧ (li k).toInt ≤ 40)
def fz_cube (p : Nat → Rat) : Prop := (-10 ≤ p 0 ∧ p 0 ≤ 10) ∧ (-10 ≤ p 1 ∧ p 1 ≤ 10) ∧ (-10 ≤ p 2 ∧ p 2 ≤ 10)
def fz_row (sl li : Nat → Int32) (k : Nat) (p : Nat → Rat) : Prop := fz_S (fz_pa (sl k)) (fz_pb (sl k)) (fz_pc (sl k)) (li k).toInt (¬ (0 : Int32) = 0) p
def fz_S0 (n : Nat) (sl li : Nat → Int32) (w : Int32) (p : Nat → Rat) : Prop := fz_cube p ∧ ∀ k, k < n → nI k ≠ w → fz_row sl li k p
theorem fz_rowok {n : Nat} {sl li : Nat → Int32} (h : fz_ok n sl li) {j : Nat} (hj : j < n) {D : Int} (hD : 40 ≤ D) {σ : Prop} :
    fz_rok 4 4 4 D σ (fz_pa (sl j)) (fz_pb (sl j)) (fz_pc (sl j)) (li j).toInt 0 := by
  obtain ⟨⟨t, ht, e⟩, hl⟩ := h.2 j hj
  rw [e]
  obtain ⟨h1, h2, h3⟩ := fz_par ht
  exact ⟨h1, h2, h3, by omega, Or.inl rfl⟩
theorem fz_Se {a b c d : Int} {p : Nat → Rat} : fz_S a b c d (¬ (0 : Int32) = 0) p ↔ (a : Rat) * p 0 + (b : Rat) * p 1 + (c : Rat) * p 2 ≤ (d : Rat) :=
  ⟨fun h => h.1, fun h => ⟨h, fun q => absurd rfl q⟩⟩
theorem fz_So {a b c d : Int} {o o' : Prop} {p : Nat → Rat} (h : o ↔ o') : fz_S a b c d o p ↔ fz_S a b c d o' p := by
  unfold fz_S
  rw [h]
theorem fz_r0 : ((0 : Int) : Rat) = 0 := rfl
theorem fz_r1 : ((1 : Int) : Rat) = 1 := rfl
theorem fz_rm1 : ((-1 : Int) : Rat) = -1 := rfl
theorem fz_r10 : ((10 : Int) : Rat) = 10 := rfl
section
variable {post : SX → Prop} {xcn xrn xow xhp xhl xhh : Int32} {xlt xlb xht xhb : Int64} {xol xoh : Int32} {xsl xli : Nat → Int32} {ra rb rc rd : Nat → Int64} {rs : Nat → Int32} {oa ob oc od : Nat → Int64} {os : Nat → Int32}
theorem fz_start61 {w : Int32} {N : Nat} (hok : fz_ok N xsl xli) {D : Int} (hD : 40 ≤ D) (hD2 : D ≤ 1048576) {σ : Prop} :
    ∀ (m j n : Nat) (G : (Nat → Rat) → Prop) (xrn xhp : Int32) (ra rb rc rd : Nat → Int64) (rs : Nat → Int32), j + m = N → n + m ≤ 20 → fz_XR 4 4 4 D σ n xrn xhp ra rb rc rd rs G →
    (∀ (n' : Nat) (xrn' xhp' : Int32) (ra' rb' rc' rd' : Nat → Int64) (rs' : Nat → Int32), n' ≤ n + m → fz_XR 4 4 4 D σ n' xrn' xhp' ra' rb' rc' rd' rs' (fun p => G p ∧ ∀ k, j ≤ k → k < N → nI k ≠ w → fz_row xsl xli k p) → post (nI N, xrn', xow, xhp', xhl, xhh, xlt, xlb, xht, xhb, xol, xoh, xsl, xli, ra', rb', rc', rd', rs', oa, ob, oc, od, os)) →
    wX_startRows_61 post w (m + 1) (nI j) (nI N) xrn xow xhp xhl xhh xlt xlb xht xhb xol xoh xsl xli ra rb rc rd rs oa ob oc od os := by
  have hN := hok.1
  intro m
  induction m with
  | zero =>
    intro j n G xrn xhp ra rb rc rd rs hj hn hX K
    exact br_t (nI_le (by omega) (by omega)) (K n _ _ _ _ _ _ _ (by omega) (fz_XRg hX fun p => ⟨fun z => ⟨z, fun k h1 h2 => by omega⟩, fun z => z.1⟩))
  | succ m ih =>
    intro j n G xrn xhp ra rb rc rd rs hj hn hX K
    have hlt : ¬ nI N ≤ nI j := nI_ge (by omega) (by omega)
    have hin : vp_in (nI j) 7 := vp_in_nI (by omega) (by omega)
    have e : (nI j).toNatClampNeg = j := nI_clamp (by omega)
    refine br_f hlt (br_c (fun hw => nm_r (nI_1 j) ?_) (fun hw => ?_))
    · refine ih (j + 1) n G _ _ _ _ _ _ _ (by omega) (by omega) hX (fun n' xrn' xhp' ra' rb' rc' rd' rs' h1 h2 => K n' _ _ _ _ _ _ _ (by omega) (fz_XRg h2 fun p => ?_))
      refine ⟨fun z => ⟨z.1, fun k k1 k2 k3 => ?_⟩, fun z => ⟨z.1, fun k k1 k2 k3 => z.2 k (by omega) k2 k3⟩⟩
      by_cases ek : k = j
      · subst ek; exact absurd hw k3
      · exact z.2 k (by omega) k2 k3
    · refine ⟨hin, br_t rfl ⟨by decide, hin, br_f (by decide) (br_t rfl ⟨by decide, by decide, hin, br_f (by decide) (br_f (by decide) ⟨by decide, hin, ?_⟩)⟩)⟩⟩
      refine fz_put (by decide) (by decide) (by decide) hD2 hX (by omega) (by rw [Jvm.Kit.i64_of_i32, Jvm.Kit.i64_of_i32, Jvm.Kit.i64_of_i32, Jvm.Kit.i64_of_i32, e]; exact fz_rowok hok (by omega) hD) (fun n1 xrn' xhp' ra' rb' rc' rd' rs' h1 h2 => nm_r (nI_1 j) ?_)
      rw [Jvm.Kit.i64_of_i32, Jvm.Kit.i64_of_i32, Jvm.Kit.i64_of_i32, Jvm.Kit.i64_of_i32, e] at h2
      refine ih (j + 1) n1 _ _ _ _ _ _ _ _ (by omega) (by omega) h2 (fun n' xrn'' xhp'' ra'' rb'' rc'' rd'' rs'' h3 h4 => K n' _ _ _ _ _ _ _ (by omega) (fz_XRg h4 fun p => ?_))
      refine ⟨fun z => ⟨z.1.1, fun k k1 k2 k3 => ?_⟩, fun z => ⟨⟨z.1, z.2 j (by omega) (by omega) hw⟩, fun k k1 k2 k3 => z.2 k (by omega) k2 k3⟩⟩
      by_cases ek : k = j
      · subst ek; exact z.1.2
      · exact z.2 k (by omega) k2 k3
theorem fz_start12 {w s s' : Int32} {i : Int} (hs : ¬ 1 < s) (hi : s.toInt64.toInt = i) (hi1 : -1 ≤ i ∧ i ≤ 1) (hs' : s + 2 = s') {D : Int} (hD : 40 ≤ D) (hD2 : D ≤ 1048576) {σ : Prop} {n : Nat} {G : (Nat → Rat) → Prop} (hn : n ≤ 3)
    (hX : fz_XR 4 4 4 D σ n xrn xhp ra rb rc rd rs G) {t : Nat}
    (K : ∀ (n' : Nat) (xrn' xhp' : Int32) (ra' rb' rc' rd' : Nat → Int64) (rs' : Nat → Int32), n' ≤ n + 3 → fz_XR 4 4 4 D σ n' xrn' xhp' ra' rb' rc' rd' rs' (fun p => ((G p ∧ fz_S i 0 0 10 (¬ (0 : Int32) = 0) p) ∧ fz_S 0 i 0 10 (¬ (0 : Int32) = 0) p) ∧ fz_S 0 0 i 10 (¬ (0 : Int32) = 0) p) → wX_startRows_12 post w t s' xcn xrn' xow xhp' xhl xhh xlt xlb xht xhb xol xoh xsl xli ra' rb' rc' rd' rs' oa ob oc od os) :
    wX_startRows_12 post w (t + 1) s xcn xrn xow xhp xhl xhh xlt xlb xht xhb xol xoh xsl xli ra rb rc rd rs oa ob oc od os := by
  have e0 : (0 : Int64).toInt = 0 := by decide
  have e10 : (10 : Int64).toInt = 10 := by decide
  have ok1 : fz_rok 4 4 4 D σ i 0 0 10 0 := ⟨by omega, by omega, by omega, by omega, Or.inl rfl⟩
  have ok2 : fz_rok 4 4 4 D σ 0 i 0 10 0 := ⟨by omega, by omega, by omega, by omega, Or.inl rfl⟩
  have ok3 : fz_rok 4 4 4 D σ 0 0 i 10 0 := ⟨by omega, by omega, by omega, by omega, Or.inl rfl⟩
  refine br_f hs ?_
  refine fz_put (by decide) (by decide) (by decide) hD2 hX (by omega) (by rw [hi, e0, e10]; exact ok1) (fun n1 xrn' xhp' ra' rb' rc' rd' rs' h1 h2 => ?_)
  refine fz_put (by decide) (by decide) (by decide) hD2 h2 (by omega) (by rw [hi, e0, e10]; exact ok2) (fun n2 xrn'' xhp'' ra'' rb'' rc'' rd'' rs'' h3 h4 => ?_)
  refine fz_put (by decide) (by decide) (by decide) hD2 h4 (by omega) (by rw [hi, e0, e10]; exact ok3) (fun n3 xrn''' xhp''' ra''' rb''' rc''' rd''' rs''' h5 h6 => nm_r hs' ?_)
  rw [hi, e0, e10] at h6
  exact K n3 _ _ _ _ _ _ _ (by omega) h6
theorem fz_cubeS {p : Nat → Rat} : ((((((True ∧ fz_S (-1) 0 0 10 (¬ (0 : Int32) = 0) p) ∧ fz_S 0 (-1) 0 10 (¬ (0 : Int32) = 0) p) ∧ fz_S 0 0 (-1) 10 (¬ (0 : Int32) = 0) p) ∧ fz_S 1 0 0 10 (¬ (0 : Int32) = 0) p) ∧ fz_S 0 1 0 10 (¬ (0 : Int32) = 0) p) ∧ fz_S 0 0 1 10 (¬ (0 : Int32) = 0) p) ↔ fz_cube p := by
  rw [fz_Se, fz_Se, fz_Se, fz_Se, fz_Se, fz_Se, fz_r0, fz_r1, fz_rm1, fz_r10]
  unfold fz_cube
  constructor
  · rintro ⟨⟨⟨⟨⟨⟨-, a⟩, b⟩, c⟩, d⟩, e⟩, f⟩
    refine ⟨⟨?_, ?_⟩, ⟨?_, ?_⟩, ?_, ?_⟩ <;> grind
  · rintro ⟨⟨a, b⟩, ⟨c, d⟩, e, f⟩
    refine ⟨⟨⟨⟨⟨⟨trivial, ?_⟩, ?_⟩, ?_⟩, ?_⟩, ?_⟩, ?_⟩ <;> grind
/-- startRows: the rows are the set S0 -/
theorem fz_start {w : Int32} {N : Nat} (hok : fz_ok N xsl xli) {D : Int} (hD : 40 ≤ D) (hD2 : D ≤ 1048576) {σ : Prop}
    (K : ∀ (n' : Nat) (xrn' xhp' : Int32) (ra' rb' rc' rd' : Nat → Int64) (rs' : Nat → Int32), n' ≤ 13 → fz_XR 4 4 4 D σ n' xrn' xhp' ra' rb' rc' rd' rs' (fz_S0 N xsl xli w) → post (nI N, xrn', xow, xhp', xhl, xhh, xlt, xlb, xht, xhb, xol, xoh, xsl, xli, ra', rb', rc', rd', rs', oa, ob, oc, od, os)) : wpX_startRows post (nI N, xrn, xow, xhp, xhl, xhh, xlt, xlb, xht, xhb, xol, xoh, xsl, xli, ra, rb, rc, rd, rs, oa, ob, oc, od, os) w := by
  have hN := hok.1
  refine ⟨3, ?_⟩
  have X0 : fz_XR 4 4 4 D σ 0 0 0 ra rb rc rd rs (fun _ => True) := ⟨rfl, Or.inl rfl, fun k hk => absurd hk (Nat.not_lt_zero k), fun p => ⟨fun _ => trivial, fun _ => ⟨rfl, fun k hk => absurd hk (Nat.not_lt_zero k)⟩⟩⟩
  refine fz_start12 (s := -1) (s' := 1) (i := -1) (by decide) (by decide) (by omega) (by decide) hD hD2 (by omega) X0 (fun n1 xrn' xhp' ra' rb' rc' rd' rs' h1 h2 => ?_)
  refine fz_start12 (s := 1) (s' := 3) (i := 1) (by decide) (by decide) (by omega) (by decide) hD hD2 (by omega) h2 (fun n2 xrn'' xhp'' ra'' rb'' rc'' rd'' rs'' h3 h4 => ?_)
  refine br_t (by decide) ⟨N + 1, ?_⟩
  refine fz_start61 hok hD hD2 N 0 n2 _ _ _ _ _ _ _ _ (by omega) (by omega) h4 (fun n' xrn''' xhp''' ra''' rb''' rc''' rd''' rs''' h5 h6 => K n' _ _ _ _ _ _ _ (by omega) (fz_XRg h6 fun p => ?_))
  unfold fz_S0
  rw [fz_cubeS]
  exact ⟨fun z => ⟨z.1, fun k k1 k2 => z.2 k (by omega) k1 k2⟩, fun z => ⟨z.1, fun k _ k1 k2 => z.2 k k1 k2⟩⟩
end
end
section
/-! X: eliminate -/
def fz_pk (ax : Nat) (a b c : Int) : Int := if ax = 0 then a else if ax = 1 then b else c
def fz_pkL (ax : Nat) (a b c : Int64) : Int64 := if ax = 0 then a else if ax = 1 then b else c
theorem fz_pkT (ax : Nat) (a b c : Int64) : (fz_pkL ax a b c).toInt = fz_pk ax a.toInt b.toInt c.toInt := by
  unfold fz_pkL fz_pk
  by_cases h : ax = 0
  · rw [if_pos h, if_pos h]
  · rw [if_neg h, if_neg h]
    by_cases h1 : ax = 1
    · rw [if_pos h1, if_pos h1]
    · rw [if_neg h1, if_neg h1]
theorem fz_ax3 {P : Nat → Prop} (h0 : P 0) (h1 : P 1) (h2 : P 2) {ax : Nat} (h : ax < 3) : P ax := by
  have : ax = 0 ∨ ax = 1 ∨ ax = 2 := by omega
  rcases this with rfl | rfl | rfl
  · exact h0
  · exact h1
  · exact h2
def fz_nb (ax i : Nat) (M X : Int) : Int := if ax = i then 0 else 2 * (X * M)
def fz_mv (p : Nat → Rat) (ax : Nat) (s : Rat) : Nat → Rat := fun j => if j = ax then p j + s else p j
theorem fz_mvS {a b c : Int} {p : Nat → Rat} {ax : Nat} (h : ax < 3) {s : Rat} :
    (a : Rat) * fz_mv p ax s 0 + (b : Rat) * fz_mv p ax s 1 + (c : Rat) * fz_mv p ax s 2 = ((a : Rat) * p 0 + (b : Rat) * p 1 + (c : Rat) * p 2) + s * (fz_pk ax a b c : Rat) := by
  refine fz_ax3 (P := fun ax => (a : Rat) * fz_mv p ax s 0 + (b : Rat) * fz_mv p ax s 1 + (c : Rat) * fz_mv p ax s 2 = ((a : Rat) * p 0 + (b : Rat) * p 1 + (c : Rat) * p 2) + s * (fz_pk ax a b c : Rat)) ?_ ?_ ?_ h
  · show (a : Rat) * (p 0 + s) + (b : Rat) * p 1 + (c : Rat) * p 2 = ((a : Rat) * p 0 + (b : Rat) * p 1 + (c : Rat) * p 2) + s * (a : Rat)
    grind
  · show (a : Rat) * p 0 + (b : Rat) * (p 1 + s) + (c : Rat) * p 2 = ((a : Rat) * p 0 + (b : Rat) * p 1 + (c : Rat) * p 2) + s * (b : Rat)
    grind
  · show (a : Rat) * p 0 + (b : Rat) * p 1 + (c : Rat) * (p 2 + s) = ((a : Rat) * p 0 + (b : Rat) * p 1 + (c : Rat) * p 2) + s * (c : Rat)
    grind
/-! counts of signs -/
def fz_cN (c : Nat → Int) : Nat → Nat
  | 0 => 0
  | k + 1 => fz_cN c k + if c k < 0 then 1 else 0
def fz_cP (c : Nat → Int) : Nat → Nat
  | 0 => 0
  | k + 1 => fz_cP c k + if 0 < c k then 1 else 0
def fz_cZ (c : Nat → Int) : Nat → Nat
  | 0 => 0
  | k + 1 => fz_cZ c k + if c k = 0 then 1 else 0
theorem fz_cSum (c : Nat → Int) (k : Nat) : fz_cZ c k + fz_cP c k + fz_cN c k = k := by
  induction k with
  | zero => rfl
  | succ k ih =>
    show (fz_cZ c k + if c k = 0 then 1 else 0) + (fz_cP c k + if 0 < c k then 1 else 0) + (fz_cN c k + if c k < 0 then 1 else 0) = k + 1
    by_cases h : c k = 0
    · rw [if_pos h, if_neg (by omega), if_neg (by omega)]; omega
    · by_cases h1 : 0 < c k
      · rw [if_neg h, if_pos h1, if_neg (by omega)]; omega
      · rw [if_neg h, if_neg h1, if_pos (by omega)]; omega
theorem fz_cNs {c : Nat → Int} {k : Nat} (h : c k < 0) : fz_cN c (k + 1) = fz_cN c k + 1 := by
  show fz_cN c k + (if c k < 0 then 1 else 0) = _
  rw [if_pos h]
theorem fz_cPs {c : Nat → Int} {k : Nat} (h : 0 < c k) : fz_cP c (k + 1) = fz_cP c k + 1 := by
  show fz_cP c k + (if 0 < c k then 1 else 0) = _
  rw [if_pos h]
theorem fz_cZs {c : Nat → Int} {k : Nat} (h : c k = 0) : fz_cZ c (k + 1) = fz_cZ c k + 1 := by
  show fz_cZ c k + (if c k = 0 then 1 else 0) = _
  rw [if_pos h]
theorem fz_cNm (c : Nat → Int) {j k : Nat} (h : j ≤ k) : fz_cN c j ≤ fz_cN c k := by
  induction k with
  | zero => rw [Nat.le_zero.mp h]; exact Nat.le_refl _
  | succ k ih =>
    by_cases e : j = k + 1
    · rw [e]; exact Nat.le_refl _
    · exact Nat.le_trans (ih (by omega)) (Nat.le_add_right _ _)
theorem fz_cPm (c : Nat → Int) {j k : Nat} (h : j ≤ k) : fz_cP c j ≤ fz_cP c k := by
  induction k with
  | zero => rw [Nat.le_zero.mp h]; exact Nat.le_refl _
  | succ k ih =>
    by_cases e : j = k + 1
    · rw [e]; exact Nat.le_refl _
    · exact Nat.le_trans (ih (by omega)) (Nat.le_add_right _ _)
theorem fz_cZm (c : Nat → Int) {j k : Nat} (h : j ≤ k) : fz_cZ c j ≤ fz_cZ c k := by
  induction k with
  | zero => rw [Nat.le_zero.mp h]; exact Nat.le_refl _
  | succ k ih =>
    by_cases e : j = k + 1
    · rw [e]; exact Nat.le_refl _
    · exact Nat.le_trans (ih (by omega)) (Nat.le_add_right _ _)
theorem fz_lcomb {x b y t : Int64} (hx : -1048576 ≤ x.toInt ∧ x.toInt ≤ 1048576) (hb : -4096 ≤ b.toInt ∧ b.toInt ≤ 4096) (hy : -1048576 ≤ y.toInt ∧ y.toInt ≤ 1048576) (ht : -4096 ≤ t.toInt ∧ t.toInt ≤ 4096) :
    (x * b + y * t).toInt = x.toInt * b.toInt + y.toInt * t.toInt := by
  have m1 := fz_abm hx hb
  have m2 := fz_abm hy ht
  have p1 := fz_lmul hx hb (by decide)
  have p2 := fz_lmul hy ht (by decide)
  rw [Jvm.Kit.i64_add (by rw [p1, p2]; omega) (by rw [p1, p2]; omega), p1, p2]
section
variable {post : SX → Prop} {xcn xrn xow xhp xhl xhh : Int32} {xlt xlb xht xhb : Int64} {xol xoh : Int32} {xsl xli : Nat → Int32} {ra rb rc rd : Nat → Int64} {rs : Nat → Int32} {oa ob oc od : Nat → Int64} {os : Nat → Int32}
theorem fz_oldAt {post : Int64 → Prop} {k ax : Nat} (hk : k < 800) (hax : ax < 3) (K : post (fz_pkL ax (oa k) (ob k) (oc k))) : wpX_oldAt post (xcn, xrn, xow, xhp, xhl, xhh, xlt, xlb, xht, xhb, xol, xoh, xsl, xli, ra, rb, rc, rd, rs, oa, ob, oc, od, os) (nI k) (nI ax) := by
  have hi : vp_in (nI k) 800 := vp_in_nI hk (by omega)
  have e : (nI k).toNatClampNeg = k := nI_clamp (by omega)
  unfold wpX_oldAt
  dsimp only
  rw [e]
  have : ax = 0 ∨ ax = 1 ∨ ax = 2 := by omega
  rcases this with rfl | rfl | rfl
  · exact br_t rfl ⟨hi, K⟩
  · exact br_f (by decide) (br_t rfl ⟨hi, K⟩)
  · exact br_f (by decide) (br_f (by decide) ⟨hi, K⟩)
theorem fz_elim10 {ax : Int32} {R : Nat} (hR : R ≤ 800) (hs : ∀ k, k < R → rs k = 0 ∨ rs k = 1) :
    ∀ (m j : Nat) (oa ob oc od : Nat → Int64) (os : Nat → Int32), j + m = R → (∀ k, k < j → oa k = ra k ∧ ob k = rb k ∧ oc k = rc k ∧ od k = rd k ∧ os k = rs k) →
    (∀ (oa' ob' oc' od' : Nat → Int64) (os' : Nat → Int32), (∀ k, k < R → oa' k = ra k ∧ ob' k = rb k ∧ oc' k = rc k ∧ od' k = rd k ∧ os' k = rs k) →
      ∃ n91, wX_eliminate_91 post ax n91 0 xcn 0 xow xhp xhl xhh xlt xlb xht xhb xol xoh xsl xli ra rb rc rd rs oa' ob' oc' od' os') →
    wX_eliminate_10 post ax xcn (nI R) xow xhp xhl xhh xlt xlb xht xhb xol xoh (m + 1) (nI j) xsl xli ra rb rc rd rs oa ob oc od os := by
  intro m
  induction m with
  | zero =>
    intro j oa ob oc od os hj h K
    have ej : j = R := by omega
    subst ej
    exact br_t (nI_le (Nat.le_refl _) (by omega)) (K _ _ _ _ _ h)
  | succ m ih =>
    intro j oa ob oc od os hj h K
    have hlt : ¬ nI R ≤ nI j := nI_ge (by omega) (by omega)
    have hi : vp_in (nI j) 800 := vp_in_nI (by omega) (by omega)
    have e : (nI j).toNatClampNeg = j := nI_clamp (by omega)
    refine br_f hlt ⟨hi, hi, nm_e ⟨hi, hi, nm_e ⟨hi, hi, nm_e ⟨hi, hi, nm_e ⟨hi, hi, nm_e (nm_r (nI_1 j) ?_)⟩⟩⟩⟩⟩
    rw [e, fz_nar (hs j (by omega))]
    refine ih (j + 1) _ _ _ _ _ (by omega) (fun k hk => ?_) K
    by_cases ek : k = j
    · subst ek
      exact ⟨pk_uLs, pk_uLs, pk_uLs, pk_uLs, pk_us⟩
    · rw [pk_uLn ek, pk_uLn ek, pk_uLn ek, pk_uLn ek, pk_un ek]
      exact h k (by omega)
theorem fz_addPair {A B C D : Int} {σ : Prop} {n : Nat} {G : (Nat → Rat) → Prop} (hA : A ≤ 4096) (hB : B ≤ 4096) (hC : C ≤ 4096) (hD : D ≤ 1048576)
    (hX : fz_XR A B C D σ n xrn xhp ra rb rc rd rs G) (hn : n < 800) {i j : Nat} {t b : Int64} (hi : i < 800) (hj : j < 800)
    (hsi : os i = 0 ∨ (os i = 1 ∧ σ)) (hsj : os j = 0 ∨ (os j = 1 ∧ σ)) (smi : fz_sm (oa i) (ob i) (oc i)) (smj : fz_sm (oa j) (ob j) (oc j))
    (hdi : -1048576 ≤ (od i).toInt ∧ (od i).toInt ≤ 1048576) (hdj : -1048576 ≤ (od j).toInt ∧ (od j).toInt ≤ 1048576)
    (ht : -4096 ≤ t.toInt ∧ t.toInt ≤ 4096) (hb : -4096 ≤ b.toInt ∧ b.toInt ≤ 4096)
    (b1 : -A ≤ (oa i).toInt * b.toInt + (oa j).toInt * t.toInt ∧ (oa i).toInt * b.toInt + (oa j).toInt * t.toInt ≤ A)
    (b2 : -B ≤ (ob i).toInt * b.toInt + (ob j).toInt * t.toInt ∧ (ob i).toInt * b.toInt + (ob j).toInt * t.toInt ≤ B)
    (b3 : -C ≤ (oc i).toInt * b.toInt + (oc j).toInt * t.toInt ∧ (oc i).toInt * b.toInt + (oc j).toInt * t.toInt ≤ C)
    (b4 : -D ≤ (od i).toInt * b.toInt + (od j).toInt * t.toInt ∧ (od i).toInt * b.toInt + (od j).toInt * t.toInt ≤ D)
    (K : ∀ (n' : Nat) (xrn' xhp' : Int32) (ra' rb' rc' rd' : Nat → Int64) (rs' : Nat → Int32), n' ≤ n + 1 → fz_XR A B C D σ n' xrn' xhp' ra' rb' rc' rd' rs' (fun p => G p ∧ fz_S ((oa i).toInt * b.toInt + (oa j).toInt * t.toInt) ((ob i).toInt * b.toInt + (ob j).toInt * t.toInt) ((oc i).toInt * b.toInt + (oc j).toInt * t.toInt) ((od i).toInt * b.toInt + (od j).toInt * t.toInt) (¬ os i = 0 ∨ ¬ os j = 0) p) → post (xcn, xrn', xow, xhp', xhl, xhh, xlt, xlb, xht, xhb, xol, xoh, xsl, xli, ra', rb', rc', rd', rs', oa, ob, oc, od, os)) :
    wpX_addPair post (xcn, xrn, xow, xhp, xhl, xhh, xlt, xlb, xht, xhb, xol, xoh, xsl, xli, ra, rb, rc, rd, rs, oa, ob, oc, od, os) (nI i) (nI j) t b := by
  have vi : vp_in (nI i) 800 := vp_in_nI hi (by omega)
  have vj : vp_in (nI j) 800 := vp_in_nI hj (by omega)
  have ei : (nI i).toNatClampNeg = i := nI_clamp (by omega)
  have ej : (nI j).toNatClampNeg = j := nI_clamp (by omega)
  obtain ⟨i1, i2, i3⟩ := smi
  obtain ⟨j1, j2, j3⟩ := smj
  have q1 := fz_lcomb (x := oa i) (b := b) (y := oa j) (t := t) (by omega) hb (by omega) ht
  have q2 := fz_lcomb (x := ob i) (b := b) (y := ob j) (t := t) (by omega) hb (by omega) ht
  have q3 := fz_lcomb (x := oc i) (b := b) (y := oc j) (t := t) (by omega) hb (by omega) ht
  have q4 := fz_lcomb (x := od i) (b := b) (y := od j) (t := t) hdi hb hdj ht
  have one : ¬ (1 : Int32) = 0 := by decide
  unfold wpX_addPair
  dsimp only
  rw [ei, ej]
  refine ⟨vi, vj, nm_e ⟨vi, vj, nm_e ⟨vi, vj, nm_e ⟨vi, vj, nm_e ⟨vi, ?_⟩⟩⟩⟩⟩
  have fin : ∀ o : Int32, (o = 0 ∨ (o = 1 ∧ σ)) → (¬ o = 0 ↔ (¬ os i = 0 ∨ ¬ os j = 0)) →
      wX_addPair_112 post o (od i * b + od j * t) (oc i * b + oc j * t) (ob i * b + ob j * t) (oa i * b + oa j * t) xcn xrn xow xhp xhl xhh xlt xlb xht xhb xol xoh xsl xli ra rb rc rd rs oa ob oc od os := by
    intro o ho hoo
    refine fz_put hA hB hC hD hX hn ⟨by rw [q1]; exact b1, by rw [q2]; exact b2, by rw [q3]; exact b3, by rw [q4]; exact b4, ho⟩ (fun n' xrn' xhp' ra' rb' rc' rd' rs' h1 h2 => K n' _ _ _ _ _ _ _ h1 (fz_XRg h2 fun p => ?_))
    rw [q1, q2, q3, q4, fz_So hoo]
  refine br_c (fun z1 => ⟨vj, br_c (fun z2 => ?_) (fun z2 => ?_)⟩) (fun z1 => ?_)
  · exact fin 0 (Or.inl rfl) ⟨fun z => absurd rfl z, fun z => z.elim (fun w => absurd z1 w) (fun w => absurd z2 w)⟩
  · exact fin 1 (Or.inr ⟨rfl, hsj.elim (fun w => absurd w z2) (fun w => w.2)⟩) ⟨fun _ => Or.inr z2, fun _ => one⟩
  · exact fin 1 (Or.inr ⟨rfl, hsi.elim (fun w => absurd w z1) (fun w => w.2)⟩) ⟨fun _ => Or.inl z1, fun _ => one⟩
end
end
section
/-! X: the loops of eliminate -/
theorem fz_cbd {x y u v M X : Int} (hx : -X ≤ x ∧ x ≤ X) (hy : -X ≤ y ∧ y ≤ X) (hu : -M ≤ u ∧ u ≤ M) (hv : -M ≤ v ∧ v ≤ M) :
    -(2 * (X * M)) ≤ x * (-v) + y * u ∧ x * (-v) + y * u ≤ 2 * (X * M) := by
  have m1 := fz_abm (x := x) (y := -v) (A := X) (B := M) hx (by omega)
  have m2 := fz_abm hy hu
  omega
theorem fz_nbd {ax i : Nat} {x y u v M X : Int} (hx : -X ≤ x ∧ x ≤ X) (hy : -X ≤ y ∧ y ≤ X) (hu : -M ≤ u ∧ u ≤ M) (hv : -M ≤ v ∧ v ≤ M) (he : ax = i → u = x ∧ v = y) :
    -(fz_nb ax i M X) ≤ x * (-v) + y * u ∧ x * (-v) + y * u ≤ fz_nb ax i M X := by
  unfold fz_nb
  by_cases h : ax = i
  · rw [if_pos h]
    obtain ⟨e1, e2⟩ := he h
    subst e1 e2
    have : u * -v + v * u = 0 := by rw [Int.mul_neg, Int.mul_comm v u]; omega
    omega
  · rw [if_neg h]
    exact fz_cbd hx hy hu hv
theorem fz_nbz {ax i : Nat} {x M X : Int} (hx : -X ≤ x ∧ x ≤ X) (hM : 1 ≤ M) (he : ax = i → x = 0) : -(fz_nb ax i M X) ≤ x ∧ x ≤ fz_nb ax i M X := by
  unfold fz_nb
  by_cases h : ax = i
  · rw [if_pos h, he h]
    omega
  · rw [if_neg h]
    have : X * 1 ≤ X * M := Int.mul_le_mul_of_nonneg_left hM (by omega)
    omega
theorem fz_pkb {ax : Nat} {a b c A B C : Int} (ha : -A ≤ a ∧ a ≤ A) (hb : -B ≤ b ∧ b ≤ B) (hc : -C ≤ c ∧ c ≤ C) : -(fz_pk ax A B C) ≤ fz_pk ax a b c ∧ fz_pk ax a b c ≤ fz_pk ax A B C := by
  unfold fz_pk
  by_cases h : ax = 0
  · rw [if_pos h, if_pos h]; exact ha
  · rw [if_neg h, if_neg h]
    by_cases h1 : ax = 1
    · rw [if_pos h1, if_pos h1]; exact hb
    · rw [if_neg h1, if_neg h1]; exact hc
theorem fz_pk0 {ax : Nat} {a b c : Int} : ax = 0 → fz_pk ax a b c = a := fun h => by subst h; rfl
theorem fz_pk1 {ax : Nat} {a b c : Int} : ax = 1 → fz_pk ax a b c = b := fun h => by subst h; rfl
theorem fz_pk2 {ax : Nat} {a b c : Int} : ax = 2 → fz_pk ax a b c = c := fun h => by subst h; rfl
def fz_S2 (ax : Nat) (oa ob oc od : Nat → Int64) (os : Nat → Int32) (i j : Nat) (p : Nat → Rat) : Prop :=
  fz_S ((oa i).toInt * (-(fz_pk ax (oa j).toInt (ob j).toInt (oc j).toInt)) + (oa j).toInt * fz_pk ax (oa i).toInt (ob i).toInt (oc i).toInt)
    ((ob i).toInt * (-(fz_pk ax (oa j).toInt (ob j).toInt (oc j).toInt)) + (ob j).toInt * fz_pk ax (oa i).toInt (ob i).toInt (oc i).toInt)
    ((oc i).toInt * (-(fz_pk ax (oa j).toInt (ob j).toInt (oc j).toInt)) + (oc j).toInt * fz_pk ax (oa i).toInt (ob i).toInt (oc i).toInt)
    ((od i).toInt * (-(fz_pk ax (oa j).toInt (ob j).toInt (oc j).toInt)) + (od j).toInt * fz_pk ax (oa i).toInt (ob i).toInt (oc i).toInt) (¬ os i = 0 ∨ ¬ os j = 0) p
def fz_E (ax R : Nat) (oa ob oc od : Nat → Int64) (os : Nat → Int32) (i : Nat) (p : Nat → Rat) : Prop :=
  (fz_pk ax (oa i).toInt (ob i).toInt (oc i).toInt = 0 → fz_S (oa i).toInt (ob i).toInt (oc i).toInt (od i).toInt (¬ os i = 0) p) ∧
  (0 < fz_pk ax (oa i).toInt (ob i).toInt (oc i).toInt → ∀ j, j < R → fz_pk ax (oa j).toInt (ob j).toInt (oc j).toInt < 0 → fz_S2 ax oa ob oc od os i j p)
def fz_co (ax : Nat) (oa ob oc : Nat → Int64) (k : Nat) : Int := fz_pk ax (oa k).toInt (ob k).toInt (oc k).toInt
section
variable {post : SX → Prop} {xcn xrn xow xhp xhl xhh : Int32} {xlt xlb xht xhb : Int64} {xol xoh : Int32} {xsl xli : Nat → Int32} {ra rb rc rd : Nat → Int64} {rs : Nat → Int32} {oa ob oc od : Nat → Int64} {os : Nat → Int32} {A B C D : Int} {σ : Prop} {ax R : Nat}
theorem fz_elim149 {J : Int32 → Int32 → Int32 → Int32 → Int32 → Int32 → Int32 → Int64 → Int64 → Int64 → Int64 → Int32 → Int32 → (Nat → Int32) → (Nat → Int32) → (Nat → Int64) → (Nat → Int64) → (Nat → Int64) → (Nat → Int64) → (Nat → Int32) → (Nat → Int64) → (Nat → Int64) → (Nat → Int64) → (Nat → Int64) → (Nat → Int32) → Prop}
    (hA : A ≤ 4096) (hB : B ≤ 4096) (hC : C ≤ 4096) (hD : D ≤ 1048576) (hax : ax < 3) (hR : R ≤ 800)
    (hA' : fz_nb ax 0 (fz_pk ax A B C) A ≤ 4096) (hB' : fz_nb ax 1 (fz_pk ax A B C) B ≤ 4096) (hC' : fz_nb ax 2 (fz_pk ax A B C) C ≤ 4096) (hD' : 2 * (D * fz_pk ax A B C) ≤ 1048576)
    (hold : ∀ k, k < R → fz_rok A B C D σ (oa k).toInt (ob k).toInt (oc k).toInt (od k).toInt (os k))
    {i : Nat} (hi : i < R) (hp : 0 < fz_co ax oa ob oc i) {base : Nat} (hbase : base + fz_cN (fz_co ax oa ob oc) R ≤ 800) :
    ∀ (m j n : Nat) (G : (Nat → Rat) → Prop) (xrn xhp : Int32) (ra rb rc rd : Nat → Int64) (rs : Nat → Int32), j + m = R → n ≤ base + fz_cN (fz_co ax oa ob oc) j →
    fz_XR (fz_nb ax 0 (fz_pk ax A B C) A) (fz_nb ax 1 (fz_pk ax A B C) B) (fz_nb ax 2 (fz_pk ax A B C) C) (2 * (D * fz_pk ax A B C)) σ n xrn xhp ra rb rc rd rs G →
    (∀ (n' : Nat) (xrn' xhp' : Int32) (ra' rb' rc' rd' : Nat → Int64) (rs' : Nat → Int32), n' ≤ base + fz_cN (fz_co ax oa ob oc) R → fz_XR (fz_nb ax 0 (fz_pk ax A B C) A) (fz_nb ax 1 (fz_pk ax A B C) B) (fz_nb ax 2 (fz_pk ax A B C) C) (2 * (D * fz_pk ax A B C)) σ n' xrn' xhp' ra' rb' rc' rd' rs'
      (fun p => G p ∧ ∀ j', j ≤ j' → j' < R → fz_pk ax (oa j').toInt (ob j').toInt (oc j').toInt < 0 → fz_S2 ax oa ob oc od os i j' p) → J (nI (i + 1)) xcn xrn' (nI R) xhp' xhl xhh xlt xlb xht xhb xol xoh xsl xli ra' rb' rc' rd' rs' oa ob oc od os) →
    wX_eliminate_149 post J (nI ax) (nI i) (fz_pkL ax (oa i) (ob i) (oc i)) (m + 1) (nI j) xcn xrn (nI R) xhp xhl xhh xlt xlb xht xhb xol xoh xsl xli ra rb rc rd rs oa ob oc od os := by
  intro m
  induction m with
  | zero =>
    intro j n G xrn xhp ra rb rc rd rs hj hn hX K
    have ej : j = R := by omega
    subst ej
    exact br_t (nI_le (Nat.le_refl _) (by omega)) (nm_r (nI_1 i) (K n _ _ _ _ _ _ _ hn (fz_XRg hX fun p => ⟨fun z => ⟨z, fun k h1 h2 => by omega⟩, fun z => z.1⟩)))
  | succ m ih =>
    intro j n G xrn xhp ra rb rc rd rs hj hn hX K
    have hlt : ¬ nI R ≤ nI j := nI_ge (by omega) (by omega)
    have htop : ¬ fz_pkL ax (oa i) (ob i) (oc i) ≤ 0 := by
      rw [Int64.le_iff_toInt_le, fz_pkT, fz_l0]
      have : 0 < fz_pk ax (oa i).toInt (ob i).toInt (oc i).toInt := hp
      omega
    obtain ⟨i1, i2, i3, i4, i5⟩ := hold i hi
    obtain ⟨j1, j2, j3, j4, j5⟩ := hold j (by omega)
    have ci := fz_pkb (ax := ax) i1 i2 i3
    have cj := fz_pkb (ax := ax) j1 j2 j3
    have hM : fz_pk ax A B C ≤ 4096 := by
      unfold fz_pk
      split
      · exact hA
      · split
        · exact hB
        · exact hC
    refine br_f hlt (br_f htop (fz_oldAt (by omega) hax (br_c (fun h0 => nm_r (nI_1 j) ?_) (fun h0 => fz_oldAt (by omega) hax (fun x ex => ?_)))))
    · rw [Int64.le_iff_toInt_le, fz_pkT, fz_l0] at h0
      have hn' := fz_cNm (fz_co ax oa ob oc) (show j ≤ j + 1 by omega)
      refine ih (j + 1) n G _ _ _ _ _ _ _ (by omega) (Nat.le_trans hn (Nat.add_le_add_left hn' base)) hX (fun n' xrn' xhp' ra' rb' rc' rd' rs' h1 h2 => K n' _ _ _ _ _ _ _ h1 (fz_XRg h2 fun p => ?_))
      refine ⟨fun z => ⟨z.1, fun k k1 k2 k3 => ?_⟩, fun z => ⟨z.1, fun k k1 k2 k3 => z.2 k (by omega) k2 k3⟩⟩
      by_cases ek : k = j
      · subst ek; omega
      · exact z.2 k (by omega) k2 k3
    · rw [Int64.le_iff_toInt_le, fz_pkT, fz_l0] at h0
      have hneg : fz_co ax oa ob oc j < 0 := by
        show fz_pk ax (oa j).toInt (ob j).toInt (oc j).toInt < 0
        omega
      have cs := fz_cNs hneg
      have cm := fz_cNm (fz_co ax oa ob oc) (show j + 1 ≤ R by omega)
      have hx : x.toInt = -(fz_pk ax (oa j).toInt (ob j).toInt (oc j).toInt) := by
        rw [ex, Jvm.Kit.i64_neg (by rw [fz_pkT]; omega), fz_pkT]
      refine fz_addPair hA' hB' hC' hD' hX (by omega) (by omega) (by omega) i5 j5 ⟨by omega, by omega, by omega⟩ ⟨by omega, by omega, by omega⟩ (by omega) (by omega) (by rw [fz_pkT]; omega) (by rw [hx]; omega)
        (by rw [hx, fz_pkT]; exact fz_nbd i1 j1 ci cj (fun h => ⟨fz_pk0 h, fz_pk0 h⟩)) (by rw [hx, fz_pkT]; exact fz_nbd i2 j2 ci cj (fun h => ⟨fz_pk1 h, fz_pk1 h⟩))
        (by rw [hx, fz_pkT]; exact fz_nbd i3 j3 ci cj (fun h => ⟨fz_pk2 h, fz_pk2 h⟩)) (by rw [hx, fz_pkT]; exact fz_cbd i4 j4 ci cj) (fun n1 xrn' xhp' ra' rb' rc' rd' rs' h1 h2 => nm_r (nI_1 j) ?_)
      rw [hx, fz_pkT] at h2
      refine ih (j + 1) n1 _ _ _ _ _ _ _ _ (by omega) (by omega) h2 (fun n' xrn'' xhp'' ra'' rb'' rc'' rd'' rs'' h3 h4 => K n' _ _ _ _ _ _ _ h3 (fz_XRg h4 fun p => ?_))
      refine ⟨fun z => ⟨z.1.1, fun k k1 k2 k3 => ?_⟩, fun z => ⟨⟨z.1, z.2 j (by omega) (by omega) hneg⟩, fun k k1 k2 k3 => z.2 k (by omega) k2 k3⟩⟩
      by_cases ek : k = j
      · subst ek; exact z.1.2
      · exact z.2 k (by omega) k2 k3
theorem fz_elim91 (hA : A ≤ 4096) (hB : B ≤ 4096) (hC : C ≤ 4096) (hD : D ≤ 1048576) (hax : ax < 3) (hR : R ≤ 800) (hM : 1 ≤ fz_pk ax A B C)
    (hA' : fz_nb ax 0 (fz_pk ax A B C) A ≤ 4096) (hB' : fz_nb ax 1 (fz_pk ax A B C) B ≤ 4096) (hC' : fz_nb ax 2 (fz_pk ax A B C) C ≤ 4096) (hD' : 2 * (D * fz_pk ax A B C) ≤ 1048576)
    (hold : ∀ k, k < R → fz_rok A B C D σ (oa k).toInt (ob k).toInt (oc k).toInt (od k).toInt (os k))
    (hbase : fz_cZ (fz_co ax oa ob oc) R + fz_cP (fz_co ax oa ob oc) R * fz_cN (fz_co ax oa ob oc) R ≤ 800) :
    ∀ (m i n : Nat) (G : (Nat → Rat) → Prop) (xrn xhp : Int32) (ra rb rc rd : Nat → Int64) (rs : Nat → Int32), i + m = R → n ≤ fz_cZ (fz_co ax oa ob oc) i + fz_cP (fz_co ax oa ob oc) i * fz_cN (fz_co ax oa ob oc) R →
    fz_XR (fz_nb ax 0 (fz_pk ax A B C) A) (fz_nb ax 1 (fz_pk ax A B C) B) (fz_nb ax 2 (fz_pk ax A B C) C) (2 * (D * fz_pk ax A B C)) σ n xrn xhp ra rb rc rd rs G →
    (∀ (n' : Nat) (xrn' xhp' : Int32) (ra' rb' rc' rd' : Nat → Int64) (rs' : Nat → Int32), n' ≤ fz_cZ (fz_co ax oa ob oc) R + fz_cP (fz_co ax oa ob oc) R * fz_cN (fz_co ax oa ob oc) R → fz_XR (fz_nb ax 0 (fz_pk ax A B C) A) (fz_nb ax 1 (fz_pk ax A B C) B) (fz_nb ax 2 (fz_pk ax A B C) C) (2 * (D * fz_pk ax A B C)) σ n' xrn' xhp' ra' rb' rc' rd' rs'
      (fun p => G p ∧ ∀ i', i ≤ i' → i' < R → fz_E ax R oa ob oc od os i' p) → post (xcn, xrn', nI R, xhp', xhl, xhh, xlt, xlb, xht, xhb, xol, xoh, xsl, xli, ra', rb', rc', rd', rs', oa, ob, oc, od, os)) →
    wX_eliminate_91 post (nI ax) (m + 1) (nI i) xcn xrn (nI R) xhp xhl xhh xlt xlb xht xhb xol xoh xsl xli ra rb rc rd rs oa ob oc od os := by
  intro m
  induction m with
  | zero =>
    intro i n G xrn xhp ra rb rc rd rs hj hn hX K
    have ej : i = R := by omega
    subst ej
    exact br_t (nI_le (Nat.le_refl _) (by omega)) (K n _ _ _ _ _ _ _ hn (fz_XRg hX fun p => ⟨fun z => ⟨z, fun k h1 h2 => by omega⟩, fun z => z.1⟩))
  | succ m ih =>
    intro i n G xrn xhp ra rb rc rd rs hj hn hX K
    have hlt : ¬ nI R ≤ nI i := nI_ge (by omega) (by omega)
    have vi : vp_in (nI i) 800 := vp_in_nI (by omega) (by omega)
    have ei : (nI i).toNatClampNeg = i := nI_clamp (by omega)
    have hrow := hold i (by omega)
    have zm := fz_cZm (fz_co ax oa ob oc) (show i + 1 ≤ R by omega)
    have pm := Nat.mul_le_mul_right (fz_cN (fz_co ax oa ob oc) R) (fz_cPm (fz_co ax oa ob oc) (show i + 1 ≤ R by omega))
    have zs := fz_cZm (fz_co ax oa ob oc) (show i ≤ i + 1 by omega)
    have ps := Nat.mul_le_mul_right (fz_cN (fz_co ax oa ob oc) R) (fz_cPm (fz_co ax oa ob oc) (show i ≤ i + 1 by omega))
    -- the exit of the inner loop when the row doesn't bound the variable from above
    have skip : ∀ (n1 : Nat) (G1 : (Nat → Rat) → Prop) (xrn' xhp' : Int32) (ra' rb' rc' rd' : Nat → Int64) (rs' : Nat → Int32), ¬ 0 < fz_co ax oa ob oc i → n1 ≤ fz_cZ (fz_co ax oa ob oc) (i + 1) + fz_cP (fz_co ax oa ob oc) (i + 1) * fz_cN (fz_co ax oa ob oc) R →
        fz_XR (fz_nb ax 0 (fz_pk ax A B C) A) (fz_nb ax 1 (fz_pk ax A B C) B) (fz_nb ax 2 (fz_pk ax A B C) C) (2 * (D * fz_pk ax A B C)) σ n1 xrn' xhp' ra' rb' rc' rd' rs' G1 →
        (∀ p, G1 p ↔ (G p ∧ (fz_co ax oa ob oc i = 0 → fz_S (oa i).toInt (ob i).toInt (oc i).toInt (od i).toInt (¬ os i = 0) p))) →
        ∃ n149, wX_eliminate_149 post (wX_eliminate_91 post (nI ax) (m + 1)) (nI ax) (nI i) (fz_pkL ax (oa i) (ob i) (oc i)) n149 0 xcn xrn' (nI R) xhp' xhl xhh xlt xlb xht xhb xol xoh xsl xli ra' rb' rc' rd' rs' oa ob oc od os := by
      intro n1 G1 xrn' xhp' ra' rb' rc' rd' rs' hnp hn1 hX1 hG1
      have hle : fz_pkL ax (oa i) (ob i) (oc i) ≤ 0 := by
        rw [Int64.le_iff_toInt_le, fz_pkT, fz_l0]
        have : ¬ 0 < fz_pk ax (oa i).toInt (ob i).toInt (oc i).toInt := hnp
        omega
      have go : wX_eliminate_91 post (nI ax) (m + 1) (nI (i + 1)) xcn xrn' (nI R) xhp' xhl xhh xlt xlb xht xhb xol xoh xsl xli ra' rb' rc' rd' rs' oa ob oc od os := by
        refine ih (i + 1) n1 G1 _ _ _ _ _ _ _ (by omega) hn1 hX1 (fun n' xrn'' xhp'' ra'' rb'' rc'' rd'' rs'' h1 h2 => K n' _ _ _ _ _ _ _ h1 (fz_XRg h2 fun p => ?_))
        rw [hG1 p]
        refine ⟨fun z => ⟨z.1.1, fun k k1 k2 => ?_⟩, fun z => ⟨⟨z.1, (z.2 i (Nat.le_refl _) (by omega)).1⟩, fun k k1 k2 => z.2 k (by omega) k2⟩⟩
        by_cases ek : k = i
        · subst ek; exact ⟨z.1.2, fun w => absurd w hnp⟩
        · exact z.2 k (by omega) k2
      exact ⟨1, br_c (fun _ => nm_r (nI_1 i) go) (fun _ => br_t hle (nm_r (nI_1 i) go))⟩
    refine br_f hlt (fz_oldAt (by omega) hax (br_c (fun h0 => ?_) (fun h0 => ?_)))
    · rw [← Int64.toInt_inj, fz_pkT, fz_l0] at h0
      have hz : fz_co ax oa ob oc i = 0 := h0
      have cz := fz_cZs hz
      refine ⟨vi, vi, vi, vi, vi, ?_⟩
      obtain ⟨i1, i2, i3, i4, i5⟩ := hrow
      refine fz_put hA' hB' hC' hD' hX (by omega) ?_ (fun n1 xrn' xhp' ra' rb' rc' rd' rs' h1 h2 => ?_)
      · rw [ei]
        refine ⟨fz_nbz i1 hM (fun h => ?_), fz_nbz i2 hM (fun h => ?_), fz_nbz i3 hM (fun h => ?_), ?_, i5⟩
        · rw [fz_pk0 h] at h0; exact h0
        · rw [fz_pk1 h] at h0; exact h0
        · rw [fz_pk2 h] at h0; exact h0
        · have : D * 1 ≤ D * fz_pk ax A B C := Int.mul_le_mul_of_nonneg_left hM (by omega)
          omega
      · rw [ei] at h2
        exact skip n1 _ _ _ _ _ _ _ _ (by omega) (by omega) h2 (fun p => ⟨fun z => ⟨z.1, fun _ => z.2⟩, fun z => ⟨z.1, z.2 hz⟩⟩)
    · rw [← Int64.toInt_inj, fz_pkT, fz_l0] at h0
      have hz : ¬ fz_co ax oa ob oc i = 0 := h0
      by_cases hp : 0 < fz_co ax oa ob oc i
      · have cp := fz_cPs hp
        have e1 : fz_cP (fz_co ax oa ob oc) (i + 1) * fz_cN (fz_co ax oa ob oc) R = fz_cP (fz_co ax oa ob oc) i * fz_cN (fz_co ax oa ob oc) R + fz_cN (fz_co ax oa ob oc) R := by
          rw [cp, Nat.add_mul, Nat.one_mul]
        refine ⟨R + 1, fz_elim149 hA hB hC hD hax hR hA' hB' hC' hD' hold (by omega) hp (base := fz_cZ (fz_co ax oa ob oc) i + fz_cP (fz_co ax oa ob oc) i * fz_cN (fz_co ax oa ob oc) R) (by omega) R 0 n G _ _ _ _ _ _ _ (by omega) (by omega) hX (fun n1 xrn' xhp' ra' rb' rc' rd' rs' h1 h2 => ?_)⟩
        refine ih (i + 1) n1 _ _ _ _ _ _ _ _ (by omega) (by omega) h2 (fun n' xrn'' xhp'' ra'' rb'' rc'' rd'' rs'' h3 h4 => K n' _ _ _ _ _ _ _ h3 (fz_XRg h4 fun p => ?_))
        refine ⟨fun z => ⟨z.1.1, fun k k1 k2 => ?_⟩, fun z => ⟨⟨z.1, fun k _ k2 k3 => (z.2 i (Nat.le_refl _) (by omega)).2 hp k k2 k3⟩, fun k k1 k2 => z.2 k (by omega) k2⟩⟩
        by_cases ek : k = i
        · subst ek; exact ⟨fun w => absurd w hz, fun _ k' k1 k2 => z.1.2 k' (Nat.zero_le _) k1 k2⟩
        · exact z.2 k (by omega) k2
      · exact skip n G _ _ _ _ _ _ _ hp (by omega) hX (fun p => ⟨fun z => ⟨z, fun w => absurd w hz⟩, fun z => z.1⟩)
end
end
section
/-! X: eliminate takes a variable out of the set -/
theorem fz_S2i {ax : Nat} {oa ob oc od : Nat → Int64} {os : Nat → Int32} {i j : Nat} {p : Nat → Rat} : fz_S2 ax oa ob oc od os i j p ↔
    ((-(fz_pk ax (oa j).toInt (ob j).toInt (oc j).toInt : Rat)) * (((oa i).toInt : Rat) * p 0 + ((ob i).toInt : Rat) * p 1 + ((oc i).toInt : Rat) * p 2) + (fz_pk ax (oa i).toInt (ob i).toInt (oc i).toInt : Rat) * (((oa j).toInt : Rat) * p 0 + ((ob j).toInt : Rat) * p 1 + ((oc j).toInt : Rat) * p 2) ≤
      (-(fz_pk ax (oa j).toInt (ob j).toInt (oc j).toInt : Rat)) * ((od i).toInt : Rat) + (fz_pk ax (oa i).toInt (ob i).toInt (oc i).toInt : Rat) * ((od j).toInt : Rat) ∧
     ((¬ os i = 0) ∨ (¬ os j = 0) → (-(fz_pk ax (oa j).toInt (ob j).toInt (oc j).toInt : Rat)) * (((oa i).toInt : Rat) * p 0 + ((ob i).toInt : Rat) * p 1 + ((oc i).toInt : Rat) * p 2) + (fz_pk ax (oa i).toInt (ob i).toInt (oc i).toInt : Rat) * (((oa j).toInt : Rat) * p 0 + ((ob j).toInt : Rat) * p 1 + ((oc j).toInt : Rat) * p 2) <
      (-(fz_pk ax (oa j).toInt (ob j).toInt (oc j).toInt : Rat)) * ((od i).toInt : Rat) + (fz_pk ax (oa i).toInt (ob i).toInt (oc i).toInt : Rat) * ((od j).toInt : Rat))) := by
  unfold fz_S2 fz_S
  generalize fz_pk ax (oa j).toInt (ob j).toInt (oc j).toInt = cj
  generalize fz_pk ax (oa i).toInt (ob i).toInt (oc i).toInt = ci
  simp only [Rat.intCast_add, Rat.intCast_mul, Rat.intCast_neg]
  generalize (cj : Rat) = cj
  generalize (ci : Rat) = ci
  have e1 : (((oa i).toInt : Rat) * -cj + ((oa j).toInt : Rat) * ci) * p 0 + (((ob i).toInt : Rat) * -cj + ((ob j).toInt : Rat) * ci) * p 1 + (((oc i).toInt : Rat) * -cj + ((oc j).toInt : Rat) * ci) * p 2 = (-cj) * (((oa i).toInt : Rat) * p 0 + ((ob i).toInt : Rat) * p 1 + ((oc i).toInt : Rat) * p 2) + ci * (((oa j).toInt : Rat) * p 0 + ((ob j).toInt : Rat) * p 1 + ((oc j).toInt : Rat) * p 2) := by grind
  have e2 : ((od i).toInt : Rat) * -cj + ((od j).toInt : Rat) * ci = (-cj) * ((od i).toInt : Rat) + ci * ((od j).toInt : Rat) := by grind
  rw [e1, e2]
theorem fz_Smv {a b c d : Int} {o : Prop} {p : Nat → Rat} {ax : Nat} (h : ax < 3) {s : Rat} : fz_S a b c d o (fz_mv p ax s) ↔
    (((a : Rat) * p 0 + (b : Rat) * p 1 + (c : Rat) * p 2) + s * (fz_pk ax a b c : Rat) ≤ (d : Rat) ∧ (o → ((a : Rat) * p 0 + (b : Rat) * p 1 + (c : Rat) * p 2) + s * (fz_pk ax a b c : Rat) < (d : Rat))) := by
  unfold fz_S
  rw [fz_mvS h]
theorem fz_elimE {ax R : Nat} (h : ax < 3) {oa ob oc od : Nat → Int64} {os : Nat → Int32} (p : Nat → Rat) :
    (∃ s, ∀ i, i < R → fz_S (oa i).toInt (ob i).toInt (oc i).toInt (od i).toInt (¬ os i = 0) (fz_mv p ax s)) ↔ ∀ i, i < R → fz_E ax R oa ob oc od os i p := by
  have k := fz_fm R (fun i => ((oa i).toInt : Rat) * p 0 + ((ob i).toInt : Rat) * p 1 + ((oc i).toInt : Rat) * p 2) (fun i => (fz_pk ax (oa i).toInt (ob i).toInt (oc i).toInt : Rat)) (fun i => ((od i).toInt : Rat)) (fun i => ¬ os i = 0)
  constructor
  · rintro ⟨s, hs⟩
    obtain ⟨k1, k2⟩ := k.mp ⟨s, fun i hi => (fz_Smv h).mp (hs i hi)⟩
    exact fun i hi => ⟨fun z => k1 i hi (by rw [z]; rfl), fun z j hj w => fz_S2i.mpr (k2 i hi (Rat.intCast_pos.mpr z) j hj (Rat.intCast_neg_iff.mpr w))⟩
  · intro hE
    obtain ⟨s, hs⟩ := k.mpr ⟨fun i hi z => (hE i hi).1 (Rat.intCast_eq_zero_iff.mp z), fun i hi z j hj w => fz_S2i.mp ((hE i hi).2 (Rat.intCast_pos.mp z) j hj (Rat.intCast_neg_iff.mp w))⟩
    exact ⟨s, fun i hi => (fz_Smv h).mpr (hs i hi)⟩
section
variable {post : SX → Prop} {xcn xrn xow xhp xhl xhh : Int32} {xlt xlb xht xhb : Int64} {xol xoh : Int32} {xsl xli : Nat → Int32} {ra rb rc rd : Nat → Int64} {rs : Nat → Int32} {oa ob oc od : Nat → Int64} {os : Nat → Int32} {A B C D : Int} {σ : Prop} {ax R : Nat}
theorem fz_eliminate {G : (Nat → Rat) → Prop} (hA : A ≤ 4096) (hB : B ≤ 4096) (hC : C ≤ 4096) (hD : D ≤ 1048576) (hax : ax < 3) (hR : R ≤ 800) (hM : 1 ≤ fz_pk ax A B C)
    (hA' : fz_nb ax 0 (fz_pk ax A B C) A ≤ 4096) (hB' : fz_nb ax 1 (fz_pk ax A B C) B ≤ 4096) (hC' : fz_nb ax 2 (fz_pk ax A B C) C ≤ 4096) (hD' : 2 * (D * fz_pk ax A B C) ≤ 1048576)
    (hX : fz_XR A B C D σ R xrn xhp ra rb rc rd rs G) (hN : ∀ z p m : Nat, z + p + m = R → z + p * m ≤ 800)
    (K : ∀ (n' : Nat) (xrn' xhp' : Int32) (ra' rb' rc' rd' : Nat → Int64) (rs' : Nat → Int32) (xow' : Int32) (oa' ob' oc' od' : Nat → Int64) (os' : Nat → Int32), (∃ z p m : Nat, z + p + m = R ∧ n' ≤ z + p * m) → fz_XR (fz_nb ax 0 (fz_pk ax A B C) A) (fz_nb ax 1 (fz_pk ax A B C) B) (fz_nb ax 2 (fz_pk ax A B C) C) (2 * (D * fz_pk ax A B C)) σ n' xrn' xhp' ra' rb' rc' rd' rs'
      (fun p => ∃ s, G (fz_mv p ax s)) → post (xcn, xrn', xow', xhp', xhl, xhh, xlt, xlb, xht, xhb, xol, xoh, xsl, xli, ra', rb', rc', rd', rs', oa', ob', oc', od', os')) :
    wpX_eliminate post (xcn, xrn, xow, xhp, xhl, xhh, xlt, xlb, xht, xhb, xol, xoh, xsl, xli, ra, rb, rc, rd, rs, oa, ob, oc, od, os) (nI ax) := by
  obtain ⟨x1, x2, x3, x4⟩ := hX
  subst x1
  refine ⟨R + 1, fz_elim10 hR (fun k hk => ?_) R 0 oa ob oc od os (by omega) (fun k hk => absurd hk (Nat.not_lt_zero k)) (fun oa' ob' oc' od' os' ho => ?_)⟩
  · exact (x3 k hk).1.2.2.2.2.elim Or.inl (fun z => Or.inr z.1)
  · refine ⟨R + 1, ?_⟩
    have hold : ∀ k, k < R → fz_rok A B C D σ (oa' k).toInt (ob' k).toInt (oc' k).toInt (od' k).toInt (os' k) := fun k hk => by
      obtain ⟨h1, h2, h3, h4, h5⟩ := ho k hk
      rw [h1, h2, h3, h4, h5]
      exact (x3 k hk).1
    have hsum := fz_cSum (fz_co ax oa' ob' oc') R
    refine fz_elim91 hA hB hC hD hax hR hM hA' hB' hC' hD' hold (hN _ _ _ hsum) R 0 0 (fun _ => xhp = 0) _ _ _ _ _ _ _ (by omega) (Nat.zero_le _)
      ⟨rfl, x2, fun k hk => absurd hk (Nat.not_lt_zero k), fun p => ⟨fun z => z.1, fun z => ⟨z, fun k hk => absurd hk (Nat.not_lt_zero k)⟩⟩⟩
      (fun n' xrn' xhp' ra' rb' rc' rd' rs' h1 h2 => K n' _ _ _ _ _ _ _ _ _ _ _ _ _ ⟨_, _, _, hsum, h1⟩ (fz_XRg h2 fun p => ?_))
    have hE := fz_elimE (R := R) hax (oa := oa') (ob := ob') (oc := oc') (od := od') (os := os') p
    constructor
    · rintro ⟨z1, z2⟩
      obtain ⟨s, hs⟩ := hE.mpr (fun i hi => z2 i (Nat.zero_le _) hi)
      refine ⟨s, (x4 _).mp ⟨z1, fun k hk => ?_⟩⟩
      have := hs k hk
      obtain ⟨h1, h2, h3, h4, h5⟩ := ho k hk
      rw [h1, h2, h3, h4, h5] at this
      exact this
    · rintro ⟨s, hs⟩
      obtain ⟨z1, z2⟩ := (x4 _).mpr hs
      refine ⟨z1, fun i _ hi => hE.mp ⟨s, fun k hk => ?_⟩ i hi⟩
      obtain ⟨h1, h2, h3, h4, h5⟩ := ho k hk
      rw [h1, h2, h3, h4, h5]
      exact z2 k hk
end
theorem fz_n14 : ∀ z p m : Nat, z + p + m ≤ 14 → z + p * m ≤ 49 := by
  intro z p m h
  have hm : p * m ≤ p * (14 - z - p) := Nat.mul_le_mul_left p (by omega)
  have k : ∀ z : Fin 15, ∀ p : Fin 15, z.val + p.val * (14 - z.val - p.val) ≤ 49 := by decide +kernel
  have := k ⟨z, by omega⟩ ⟨p, by omega⟩
  dsimp only at this
  omega
theorem fz_n49 : ∀ z p m : Nat, z + p + m ≤ 49 → z + p * m ≤ 600 := by
  intro z p m h
  have hm : p * m ≤ p * (49 - z - p) := Nat.mul_le_mul_left p (by omega)
  have k : ∀ z : Fin 50, ∀ p : Fin 50, z.val + p.val * (49 - z.val - p.val) ≤ 600 := by decide +kernel
  have := k ⟨z, by omega⟩ ⟨p, by omega⟩
  dsimp only at this
  omega
end
section
/-! X: capHigh, capLow -/
def fz_T (a d : Int) (o : Prop) (t : Rat) : Prop := fz_S a 0 0 d o (fun _ => t)
theorem fz_Ti {a d : Int} {o : Prop} {t : Rat} : fz_T a d o t ↔ ((a : Rat) * t ≤ (d : Rat) ∧ (o → (a : Rat) * t < (d : Rat))) := by
  unfold fz_T fz_S
  rw [fz_r0, Rat.zero_mul, Rat.add_zero, Rat.add_zero]
theorem fz_Tg {g a d : Int} (hg : 0 < g) {o : Prop} {t : Rat} : fz_T (g * a) (g * d) o t ↔ fz_T a d o t := by
  have := fz_Sg (a := a) (b := 0) (c := 0) (d := d) hg (o := o) (p := fun _ => t)
  rw [Int.mul_zero] at this
  exact this
def fz_hi (σ : Prop) (hh : Int32) (ht hb : Int64) (oh : Int32) (H : Rat → Prop) : Prop :=
  (hh = 0 ∧ ∀ t, H t) ∨ (hh = 1 ∧ (0 < hb.toInt ∧ hb.toInt ≤ 1048576) ∧ (-1048576 ≤ ht.toInt ∧ ht.toInt ≤ 1048576) ∧ Int.gcd ht.toInt hb.toInt = 1 ∧ (oh = 0 ∨ (oh = 1 ∧ σ)) ∧ ∀ t, H t ↔ fz_T hb.toInt ht.toInt (¬ oh = 0) t)
def fz_lo (σ : Prop) (hl : Int32) (lt lb : Int64) (ol : Int32) (H : Rat → Prop) : Prop :=
  (hl = 0 ∧ ∀ t, H t) ∨ (hl = 1 ∧ (0 < lb.toInt ∧ lb.toInt ≤ 1048576) ∧ (-1048576 ≤ lt.toInt ∧ lt.toInt ≤ 1048576) ∧ Int.gcd lt.toInt lb.toInt = 1 ∧ (ol = 0 ∨ (ol = 1 ∧ σ)) ∧ ∀ t, H t ↔ fz_T (-lb.toInt) (-lt.toInt) (¬ ol = 0) t)
theorem fz_bool {o : Int32} (h : o = 0 ∨ o = 1) : narrow .boolean (.int o) = .int o ∧ fits .boolean (.int o) = true := by
  rcases h with rfl | rfl
  · exact ⟨rfl, by decide⟩
  · exact ⟨rfl, by decide⟩
/-- a fraction in lowest terms -/
theorem fz_low {top bot g : Int} (hb : 0 < bot) (hg : g = (Int.gcd top bot : Int)) :
    0 < g ∧ g * top.tdiv g = top ∧ g * bot.tdiv g = bot ∧ 0 < bot.tdiv g ∧ bot.tdiv g ≤ bot ∧ (∀ A, -A ≤ top ∧ top ≤ A → -A ≤ top.tdiv g ∧ top.tdiv g ≤ A) ∧ Int.gcd (top.tdiv g) (bot.tdiv g) = 1 := by
  have g0 : Int.gcd top bot ≠ 0 := by
    intro q
    rw [Int.gcd_eq_zero_iff] at q
    omega
  have gp : 0 < g := by omega
  have d1 : g ∣ top := by rw [hg]; exact Int.gcd_dvd_left _ _
  have d2 : g ∣ bot := by rw [hg]; exact Int.gcd_dvd_right _ _
  obtain ⟨e1, b1⟩ := fz_divE gp d1
  obtain ⟨e2, b2⟩ := fz_divE gp d2
  have p2 : 0 < bot.tdiv g := by
    rcases Int.lt_or_le 0 (bot.tdiv g) with h | h
    · exact h
    · have := Int.mul_nonpos_of_nonneg_of_nonpos (Int.le_of_lt gp) h
      omega
  have l2 := (b2 bot (by omega)).2
  refine ⟨gp, e1, e2, p2, l2, b1, ?_⟩
  have h1 : Int.gcd (g * top.tdiv g) (g * bot.tdiv g) = g.natAbs * Int.gcd (top.tdiv g) (bot.tdiv g) := Int.gcd_mul_left _ _ _
  rw [e1, e2] at h1
  have h2 : g.natAbs = Int.gcd top bot := by omega
  rw [h2] at h1
  have h3 : Int.gcd top bot * 1 = Int.gcd top bot * Int.gcd (top.tdiv g) (bot.tdiv g) := by rw [Nat.mul_one]; exact h1
  exact (Nat.eq_of_mul_eq_mul_left (by omega) h3).symm
section
variable {post : SX → Prop} {xcn xrn xow xhp xhl xhh : Int32} {xlt xlb xht xhb : Int64} {xol xoh : Int32} {xsl xli : Nat → Int32} {ra rb rc rd : Nat → Int64} {rs : Nat → Int32} {oa ob oc od : Nat → Int64} {os : Nat → Int32} {σ : Prop} {H : Rat → Prop}
theorem fz_capH45 {top bot : Int64} {o : Int32} (ht : -1048576 ≤ top.toInt ∧ top.toInt ≤ 1048576) (hb : 0 < bot.toInt ∧ bot.toInt ≤ 1048576) (ho : o = 0 ∨ (o = 1 ∧ σ))
    (hH : ∀ t, fz_T bot.toInt top.toInt (¬ o = 0) t → H t)
    (K : ∀ (xht' xhb' : Int64) (xoh' : Int32), fz_hi σ 1 xht' xhb' xoh' (fun t => H t ∧ fz_T bot.toInt top.toInt (¬ o = 0) t) → post (xcn, xrn, xow, xhp, xhl, 1, xlt, xlb, xht', xhb', xol, xoh', xsl, xli, ra, rb, rc, rd, rs, oa, ob, oc, od, os)) : wX_capHigh_45 post top bot o xcn xrn xow xhp xhl xhh xlt xlb xht xhb xol xoh xsl xli ra rb rc rd rs oa ob oc od os := by
  refine fz_gcd (by omega) (by omega) fun g eg => ?_
  obtain ⟨k1, k2, k3, k4, k5, k6, k7⟩ := fz_low hb.1 eg
  have ne : ¬ g = 0 := by rw [← Int64.toInt_inj, fz_l0]; omega
  have nz : ¬ g ≤ 0 := by rw [Int64.le_iff_toInt_le, fz_l0]; omega
  refine br_f nz ⟨ne, fun p ep => ⟨ne, fun q eq => ?_⟩⟩
  have tp : p.toInt = top.toInt.tdiv g.toInt := by rw [ep]; exact fz_ldiv k1
  have tq : q.toInt = bot.toInt.tdiv g.toInt := by rw [eq]; exact fz_ldiv k1
  obtain ⟨o1, o2⟩ := fz_bool (o := o) (ho.elim Or.inl (fun z => Or.inr z.1))
  refine ⟨o1, o2, K _ _ _ (Or.inr ⟨rfl, ?_, ?_, ?_, ho, fun t => ?_⟩)⟩
  · rw [tq]; omega
  · rw [tp]; exact k6 _ ht
  · rw [tp, tq]; exact k7
  · have : fz_T bot.toInt top.toInt (¬ o = 0) t ↔ fz_T q.toInt p.toInt (¬ o = 0) t := by
      rw [tp, tq]
      have := fz_Tg (g := g.toInt) (a := bot.toInt.tdiv g.toInt) (d := top.toInt.tdiv g.toInt) k1 (o := ¬ o = 0) (t := t)
      rw [k2, k3] at this
      exact this
    rw [← this]
    exact ⟨fun z => z.2, fun z => ⟨hH t z, z⟩⟩
theorem fz_capHigh (h : fz_hi σ xhh xht xhb xoh H) {top bot : Int64} {o : Int32} (ht : -1048576 ≤ top.toInt ∧ top.toInt ≤ 1048576) (hb : 0 < bot.toInt ∧ bot.toInt ≤ 1048576) (ho : o = 0 ∨ (o = 1 ∧ σ))
    (K : ∀ (xht' xhb' : Int64) (xoh' : Int32), fz_hi σ 1 xht' xhb' xoh' (fun t => H t ∧ fz_T bot.toInt top.toInt (¬ o = 0) t) → post (xcn, xrn, xow, xhp, xhl, 1, xlt, xlb, xht', xhb', xol, xoh', xsl, xli, ra, rb, rc, rd, rs, oa, ob, oc, od, os)) : wpX_capHigh post (xcn, xrn, xow, xhp, xhl, xhh, xlt, xlb, xht, xhb, xol, xoh, xsl, xli, ra, rb, rc, rd, rs, oa, ob, oc, od, os) top bot o := by
  rcases h with ⟨h1, h2⟩ | ⟨h1, h2, h3, h4, h5, h6⟩
  · exact br_t h1 (br_t (by decide) (fz_capH45 ht hb ho (fun t _ => h2 t) K))
  · subst h1
    have m1 := fz_abm (x := xht.toInt) (y := bot.toInt) (A := 1048576) (B := 1048576) h3 (by omega)
    have m2 := fz_abm (x := top.toInt) (y := xhb.toInt) (A := 1048576) (B := 1048576) ht (by omega)
    have p1 := fz_lmul (x := xht) (y := bot) (A := 1048576) (B := 1048576) h3 (by omega) (by decide)
    have p2 := fz_lmul (x := top) (y := xhb) (A := 1048576) (B := 1048576) ht (by omega) (by decide)
    have hx : (xht * bot - top * xhb).toInt = xht.toInt * bot.toInt - top.toInt * xhb.toInt := by
      rw [Jvm.Kit.i64_sub (by rw [p1, p2]; omega) (by rw [p1, p2]; omega), p1, p2]
    have tg := fun t => fz_tg (a := xhb.toInt) (b := 0) (c := 0) (d := xht.toInt) (a' := bot.toInt) (b' := 0) (c' := 0) (d' := top.toInt) (g := bot.toInt) (h := xhb.toInt) hb.1 h2.1 (Int.mul_comm _ _) (by omega) (by omega) (o := ¬ xoh = 0) (o' := ¬ o = 0) (p := fun _ => t)
    have keep : (xht.toInt * bot.toInt - top.toInt * xhb.toInt < 0 ∨ (xht.toInt * bot.toInt - top.toInt * xhb.toInt = 0 ∧ ¬ ¬ o = 0)) → post (xcn, xrn, xow, xhp, xhl, 1, xlt, xlb, xht, xhb, xol, xoh, xsl, xli, ra, rb, rc, rd, rs, oa, ob, oc, od, os) := by
      intro gain
      refine K _ _ _ (Or.inr ⟨rfl, h2, h3, h4, h5, fun t => ?_⟩)
      rw [← h6 t]
      exact ⟨fun z => z.1, fun z => ⟨z, (tg t).2 gain ((h6 t).mp z)⟩⟩
    have new : (0 < xht.toInt * bot.toInt - top.toInt * xhb.toInt ∨ (xht.toInt * bot.toInt - top.toInt * xhb.toInt = 0 ∧ ¬ o = 0)) → wX_capHigh_45 post top bot o xcn xrn xow xhp xhl 1 xlt xlb xht xhb xol xoh xsl xli ra rb rc rd rs oa ob oc od os := by
      intro gain
      exact fz_capH45 ht hb ho (fun t z => (h6 t).mpr ((tg t).1 gain z)) K
    refine br_f (by decide) (br_c (fun q => ?_) (fun q => br_c (fun q2 => br_c (fun q3 => ?_) (fun q3 => ?_)) (fun q2 => ?_)))
    · rw [Int64.lt_iff_toInt_lt, fz_l0, hx] at q
      exact new (Or.inl q)
    · rw [← Int64.toInt_inj, fz_l0, hx] at q2
      exact keep (Or.inr ⟨q2, fun z => z q3⟩)
    · rw [← Int64.toInt_inj, fz_l0, hx] at q2
      exact new (Or.inr ⟨q2, q3⟩)
    · rw [Int64.lt_iff_toInt_lt, fz_l0, hx] at q
      rw [← Int64.toInt_inj, fz_l0, hx] at q2
      exact keep (Or.inl (by omega))
theorem fz_capL45 {top bot : Int64} {o : Int32} (ht : -1048576 ≤ top.toInt ∧ top.toInt ≤ 1048576) (hb : 0 < bot.toInt ∧ bot.toInt ≤ 1048576) (ho : o = 0 ∨ (o = 1 ∧ σ))
    (hH : ∀ t, fz_T (-bot.toInt) (-top.toInt) (¬ o = 0) t → H t)
    (K : ∀ (xlt' xlb' : Int64) (xol' : Int32), fz_lo σ 1 xlt' xlb' xol' (fun t => H t ∧ fz_T (-bot.toInt) (-top.toInt) (¬ o = 0) t) → post (xcn, xrn, xow, xhp, 1, xhh, xlt', xlb', xht, xhb, xol', xoh, xsl, xli, ra, rb, rc, rd, rs, oa, ob, oc, od, os)) : wX_capLow_45 post top bot o xcn xrn xow xhp xhl xhh xlt xlb xht xhb xol xoh xsl xli ra rb rc rd rs oa ob oc od os := by
  refine fz_gcd (by omega) (by omega) fun g eg => ?_
  obtain ⟨k1, k2, k3, k4, k5, k6, k7⟩ := fz_low hb.1 eg
  have ne : ¬ g = 0 := by rw [← Int64.toInt_inj, fz_l0]; omega
  have nz : ¬ g ≤ 0 := by rw [Int64.le_iff_toInt_le, fz_l0]; omega
  refine br_f nz ⟨ne, fun p ep => ⟨ne, fun q eq => ?_⟩⟩
  have tp : p.toInt = top.toInt.tdiv g.toInt := by rw [ep]; exact fz_ldiv k1
  have tq : q.toInt = bot.toInt.tdiv g.toInt := by rw [eq]; exact fz_ldiv k1
  obtain ⟨o1, o2⟩ := fz_bool (o := o) (ho.elim Or.inl (fun z => Or.inr z.1))
  refine ⟨o1, o2, K _ _ _ (Or.inr ⟨rfl, ?_, ?_, ?_, ho, fun t => ?_⟩)⟩
  · rw [tq]; omega
  · rw [tp]; exact k6 _ ht
  · rw [tp, tq]; exact k7
  · have : fz_T (-bot.toInt) (-top.toInt) (¬ o = 0) t ↔ fz_T (-q.toInt) (-p.toInt) (¬ o = 0) t := by
      rw [tp, tq]
      have := fz_Tg (g := g.toInt) (a := -bot.toInt.tdiv g.toInt) (d := -top.toInt.tdiv g.toInt) k1 (o := ¬ o = 0) (t := t)
      rw [Int.mul_neg, Int.mul_neg, k2, k3] at this
      exact this
    rw [← this]
    exact ⟨fun z => z.2, fun z => ⟨hH t z, z⟩⟩
theorem fz_capLow (h : fz_lo σ xhl xlt xlb xol H) {top bot : Int64} {o : Int32} (ht : -1048576 ≤ top.toInt ∧ top.toInt ≤ 1048576) (hb : 0 < bot.toInt ∧ bot.toInt ≤ 1048576) (ho : o = 0 ∨ (o = 1 ∧ σ))
    (K : ∀ (xlt' xlb' : Int64) (xol' : Int32), fz_lo σ 1 xlt' xlb' xol' (fun t => H t ∧ fz_T (-bot.toInt) (-top.toInt) (¬ o = 0) t) → post (xcn, xrn, xow, xhp, 1, xhh, xlt', xlb', xht, xhb, xol', xoh, xsl, xli, ra, rb, rc, rd, rs, oa, ob, oc, od, os)) : wpX_capLow post (xcn, xrn, xow, xhp, xhl, xhh, xlt, xlb, xht, xhb, xol, xoh, xsl, xli, ra, rb, rc, rd, rs, oa, ob, oc, od, os) top bot o := by
  rcases h with ⟨h1, h2⟩ | ⟨h1, h2, h3, h4, h5, h6⟩
  · exact br_t h1 (br_t (by decide) (fz_capL45 ht hb ho (fun t _ => h2 t) K))
  · subst h1
    have m1 := fz_abm (x := top.toInt) (y := xlb.toInt) (A := 1048576) (B := 1048576) ht (by omega)
    have m2 := fz_abm (x := xlt.toInt) (y := bot.toInt) (A := 1048576) (B := 1048576) h3 (by omega)
    have p1 := fz_lmul (x := top) (y := xlb) (A := 1048576) (B := 1048576) ht (by omega) (by decide)
    have p2 := fz_lmul (x := xlt) (y := bot) (A := 1048576) (B := 1048576) h3 (by omega) (by decide)
    have hx : (top * xlb - xlt * bot).toInt = top.toInt * xlb.toInt - xlt.toInt * bot.toInt := by
      rw [Jvm.Kit.i64_sub (by rw [p1, p2]; omega) (by rw [p1, p2]; omega), p1, p2]
    have tg := fun t => fz_tg (a := -xlb.toInt) (b := 0) (c := 0) (d := -xlt.toInt) (a' := -bot.toInt) (b' := 0) (c' := 0) (d' := -top.toInt) (g := bot.toInt) (h := xlb.toInt) hb.1 h2.1 (by rw [Int.neg_mul, Int.neg_mul, Int.mul_comm]) (by omega) (by omega) (o := ¬ xol = 0) (o' := ¬ o = 0) (p := fun _ => t)
    have eg : -xlt.toInt * bot.toInt - -top.toInt * xlb.toInt = top.toInt * xlb.toInt - xlt.toInt * bot.toInt := by rw [Int.neg_mul, Int.neg_mul]; omega
    rw [eg] at tg
    have keep : (top.toInt * xlb.toInt - xlt.toInt * bot.toInt < 0 ∨ (top.toInt * xlb.toInt - xlt.toInt * bot.toInt = 0 ∧ ¬ ¬ o = 0)) → post (xcn, xrn, xow, xhp, 1, xhh, xlt, xlb, xht, xhb, xol, xoh, xsl, xli, ra, rb, rc, rd, rs, oa, ob, oc, od, os) := by
      intro gain
      refine K _ _ _ (Or.inr ⟨rfl, h2, h3, h4, h5, fun t => ?_⟩)
      rw [← h6 t]
      exact ⟨fun z => z.1, fun z => ⟨z, (tg t).2 gain ((h6 t).mp z)⟩⟩
    have new : (0 < top.toInt * xlb.toInt - xlt.toInt * bot.toInt ∨ (top.toInt * xlb.toInt - xlt.toInt * bot.toInt = 0 ∧ ¬ o = 0)) → wX_capLow_45 post top bot o xcn xrn xow xhp 1 xhh xlt xlb xht xhb xol xoh xsl xli ra rb rc rd rs oa ob oc od os := by
      intro gain
      exact fz_capL45 ht hb ho (fun t z => (h6 t).mpr ((tg t).1 gain z)) K
    refine br_f (by decide) (br_c (fun q => ?_) (fun q => br_c (fun q2 => br_c (fun q3 => ?_) (fun q3 => ?_)) (fun q2 => ?_)))
    · rw [Int64.lt_iff_toInt_lt, fz_l0, hx] at q
      exact new (Or.inl q)
    · rw [← Int64.toInt_inj, fz_l0, hx] at q2
      exact keep (Or.inr ⟨q2, fun z => z q3⟩)
    · rw [← Int64.toInt_inj, fz_l0, hx] at q2
      exact new (Or.inr ⟨q2, q3⟩)
    · rw [Int64.lt_iff_toInt_lt, fz_l0, hx] at q
      rw [← Int64.toInt_inj, fz_l0, hx] at q2
      exact keep (Or.inl (by omega))
end
end
section
/-! X: spanOfRows -/
theorem fz_exH {σ : Prop} {hh : Int32} {ht hb : Int64} {oh : Int32} {H : Rat → Prop} (h : fz_hi σ hh ht hb oh H) : ∃ t0, ∀ t, t ≤ t0 → H t := by
  rcases h with ⟨-, h2⟩ | ⟨-, h2, -, -, -, h6⟩
  · exact ⟨0, fun t _ => h2 t⟩
  · have hB : (0 : Rat) < (hb.toInt : Rat) := Rat.intCast_pos.mpr h2.1
    have e : (hb.toInt : Rat) * ((ht.toInt : Rat) / (hb.toInt : Rat)) = (ht.toInt : Rat) := by rw [Rat.mul_comm, Rat.div_mul_cancel (by grind)]
    refine ⟨(ht.toInt : Rat) / (hb.toInt : Rat) - 1, fun t hle => (h6 t).mpr (fz_Ti.mpr ?_)⟩
    have k : t < (ht.toInt : Rat) / (hb.toInt : Rat) := by grind
    have m := fz_mlt hB k
    rw [e] at m
    exact ⟨Rat.le_of_lt m, fun _ => m⟩
theorem fz_exL {σ : Prop} {hl : Int32} {lt lb : Int64} {ol : Int32} {H : Rat → Prop} (h : fz_lo σ hl lt lb ol H) : ∃ t0, ∀ t, t0 ≤ t → H t := by
  rcases h with ⟨-, h2⟩ | ⟨-, h2, -, -, -, h6⟩
  · exact ⟨0, fun t _ => h2 t⟩
  · have hB : (0 : Rat) < (lb.toInt : Rat) := Rat.intCast_pos.mpr h2.1
    have e : (lb.toInt : Rat) * ((lt.toInt : Rat) / (lb.toInt : Rat)) = (lt.toInt : Rat) := by rw [Rat.mul_comm, Rat.div_mul_cancel (by grind)]
    refine ⟨(lt.toInt : Rat) / (lb.toInt : Rat) + 1, fun t hle => (h6 t).mpr (fz_Ti.mpr ?_)⟩
    have k : (lt.toInt : Rat) / (lb.toInt : Rat) < t := by grind
    have m := fz_mlt hB k
    rw [e] at m
    rw [Rat.intCast_neg, Rat.intCast_neg]
    have m2 : -(lb.toInt : Rat) * t < -(lt.toInt : Rat) := by grind
    exact ⟨Rat.le_of_lt m2, fun _ => m2⟩
theorem fz_ex2 {hb ht lb lt : Int} (hB : 0 < hb) (lB : 0 < lb) {o1 o2 : Prop} :
    (∃ t, fz_T hb ht o1 t ∧ fz_T (-lb) (-lt) o2 t) ↔ (0 ≤ ht * lb - lt * hb ∧ (o1 ∨ o2 → 0 < ht * lb - lt * hb)) := by
  have hBr : (0 : Rat) < (hb : Rat) := Rat.intCast_pos.mpr hB
  have lBr : (0 : Rat) < (lb : Rat) := Rat.intCast_pos.mpr lB
  have k := fz_fm 2 (fun _ => 0) (fun i => if i = 0 then (hb : Rat) else -(lb : Rat)) (fun i => if i = 0 then (ht : Rat) else -(lt : Rat)) (fun i => if i = 0 then o1 else o2)
  have c1 : (0 ≤ ht * lb - lt * hb) ↔ (-(-(lb : Rat))) * 0 + (hb : Rat) * 0 ≤ (-(-(lb : Rat))) * (ht : Rat) + (hb : Rat) * (-(lt : Rat)) := by
    rw [← Rat.intCast_nonneg, Rat.intCast_sub, Rat.intCast_mul, Rat.intCast_mul]
    constructor <;> intro h <;> grind
  have c2 : (0 < ht * lb - lt * hb) ↔ (-(-(lb : Rat))) * 0 + (hb : Rat) * 0 < (-(-(lb : Rat))) * (ht : Rat) + (hb : Rat) * (-(lt : Rat)) := by
    rw [← Rat.intCast_pos, Rat.intCast_sub, Rat.intCast_mul, Rat.intCast_mul]
    constructor <;> intro h <;> grind
  rw [c1, c2]
  constructor
  · rintro ⟨t, h1, h2⟩
    obtain ⟨a1, a2⟩ := fz_Ti.mp h1
    obtain ⟨b1, b2⟩ := fz_Ti.mp h2
    rw [Rat.intCast_neg, Rat.intCast_neg] at b1 b2
    have := (k.mp ⟨t, fun i hi => by
      have : i = 0 ∨ i = 1 := by omega
      rcases this with rfl | rfl
      · exact ⟨by show 0 + t * (hb : Rat) ≤ (ht : Rat); grind, fun q => by have := a2 q; show 0 + t * (hb : Rat) < (ht : Rat); grind⟩
      · exact ⟨by show 0 + t * (-(lb : Rat)) ≤ -(lt : Rat); grind, fun q => by have := b2 q; show 0 + t * (-(lb : Rat)) < -(lt : Rat); grind⟩⟩).2 0 (by omega) hBr 1 (by omega) (by show -(lb : Rat) < 0; grind)
    exact this
  · rintro ⟨h1, h2⟩
    obtain ⟨t, ht'⟩ := k.mpr ⟨fun i hi z => by
      have : i = 0 ∨ i = 1 := by omega
      rcases this with rfl | rfl
      · have z' : (hb : Rat) = 0 := z
        grind
      · have z' : -(lb : Rat) = 0 := z
        grind, fun i hi z j hj w => by
      have hi' : i = 0 ∨ i = 1 := by omega
      have hj' : j = 0 ∨ j = 1 := by omega
      rcases hi' with rfl | rfl
      · rcases hj' with rfl | rfl
        · have w' : (hb : Rat) < 0 := w
          grind
        · exact ⟨h1, h2⟩
      · have z' : 0 < -(lb : Rat) := z
        grind⟩
    have g0 := ht' 0 (by omega)
    have g1 := ht' 1 (by omega)
    have g0a : 0 + t * (hb : Rat) ≤ (ht : Rat) := g0.1
    have g0b : o1 → 0 + t * (hb : Rat) < (ht : Rat) := g0.2
    have g1a : 0 + t * (-(lb : Rat)) ≤ -(lt : Rat) := g1.1
    have g1b : o2 → 0 + t * (-(lb : Rat)) < -(lt : Rat) := g1.2
    refine ⟨t, fz_Ti.mpr ⟨by grind, fun q => by have := g0b q; grind⟩, fz_Ti.mpr ?_⟩
    rw [Rat.intCast_neg, Rat.intCast_neg]
    exact ⟨by grind, fun q => by have := g1b q; grind⟩
section
variable {post : Int32 → SX → Prop} {xcn xrn xow xhp xhl xhh : Int32} {xlt xlb xht xhb : Int64} {xol xoh : Int32} {xsl xli : Nat → Int32} {ra rb rc rd : Nat → Int64} {rs : Nat → Int32} {oa ob oc od : Nat → Int64} {os : Nat → Int32} {σ : Prop} {Hh Hl : Rat → Prop}
theorem fz_spanX {R n : Nat} (hR : R ≤ 800) (hp : xhp = 0 ∨ xhp = 1) (hi : fz_hi σ xhh xht xhb xoh Hh) (lo : fz_lo σ xhl xlt xlb xol Hl)
    (K : ∀ r : Int32, (r = 0 ∨ r = 1) → (r = 1 ↔ (xhp = 0 ∧ ∃ t, Hh t ∧ Hl t)) → post r (xcn, nI R, xow, xhp, xhl, xhh, xlt, xlb, xht, xhb, xol, xoh, xsl, xli, ra, rb, rc, rd, rs, oa, ob, oc, od, os)) : wX_spanOfRows_30 post (n + 1) (nI R) xcn (nI R) xow xhp xhl xhh xlt xlb xht xhb xol xoh xsl xli ra rb rc rd rs oa ob oc od os := by
  have one : ¬ (1 : Int32) = 0 := by decide
  have z1 : ¬ (0 : Int32) = 1 := by decide
  refine br_t (nI_le (Nat.le_refl _) (by omega)) (br_c (fun h0 => br_c (fun h1 => ?_) (fun h1 => br_c (fun h2 => ?_) (fun h2 => fun x ex => ?_))) (fun h0 => ?_))
  · obtain ⟨t0, ht0⟩ := fz_exH hi
    rcases lo with ⟨_, l2⟩ | ⟨l1, _⟩
    · exact br_t h0 (K 1 (Or.inr rfl) ⟨fun _ => ⟨h0, t0, ht0 t0 Rat.le_refl, l2 t0⟩, fun _ => rfl⟩)
    · exact absurd (h1.symm.trans l1) z1
  · obtain ⟨t0, ht0⟩ := fz_exL lo
    rcases hi with ⟨_, l2⟩ | ⟨l1, _⟩
    · exact br_t h0 (K 1 (Or.inr rfl) ⟨fun _ => ⟨h0, t0, l2 t0, ht0 t0 Rat.le_refl⟩, fun _ => rfl⟩)
    · exact absurd (h2.symm.trans l1) z1
  · rcases hi with ⟨q, _⟩ | ⟨a1, a2, a3, a4, a5, a6⟩
    · exact absurd q h2
    rcases lo with ⟨q, _⟩ | ⟨b1, b2, b3, b4, b5, b6⟩
    · exact absurd q h1
    have m1 := fz_abm (x := xht.toInt) (y := xlb.toInt) (A := 1048576) (B := 1048576) a3 (by omega)
    have m2 := fz_abm (x := xlt.toInt) (y := xhb.toInt) (A := 1048576) (B := 1048576) b3 (by omega)
    have p1 := fz_lmul (x := xht) (y := xlb) (A := 1048576) (B := 1048576) a3 (by omega) (by decide)
    have p2 := fz_lmul (x := xlt) (y := xhb) (A := 1048576) (B := 1048576) b3 (by omega) (by decide)
    have hx : x.toInt = xht.toInt * xlb.toInt - xlt.toInt * xhb.toInt := by
      rw [ex, Jvm.Kit.i64_sub (by rw [p1, p2]; omega) (by rw [p1, p2]; omega), p1, p2]
    have e2 : (∃ t, Hh t ∧ Hl t) ↔ (0 ≤ x.toInt ∧ ((¬ xoh = 0) ∨ (¬ xol = 0) → 0 < x.toInt)) := by
      rw [hx, ← fz_ex2 a2.1 b2.1]
      exact ⟨fun ⟨t, u, v⟩ => ⟨t, (a6 t).mp u, (b6 t).mp v⟩, fun ⟨t, u, v⟩ => ⟨t, (a6 t).mpr u, (b6 t).mpr v⟩⟩
    have yes : (∃ t, Hh t ∧ Hl t) → post 1 (xcn, nI R, xow, xhp, xhl, xhh, xlt, xlb, xht, xhb, xol, xoh, xsl, xli, ra, rb, rc, rd, rs, oa, ob, oc, od, os) := fun w => K 1 (Or.inr rfl) ⟨fun _ => ⟨h0, w⟩, fun _ => rfl⟩
    have no : ¬ (∃ t, Hh t ∧ Hl t) → post 0 (xcn, nI R, xow, xhp, xhl, xhh, xlt, xlb, xht, xhb, xol, xoh, xsl, xli, ra, rb, rc, rd, rs, oa, ob, oc, od, os) := fun w => K 0 (Or.inl rfl) ⟨fun q => absurd q z1, fun q => absurd q.2 w⟩
    rw [e2] at yes no
    refine br_c (fun q => ?_) (fun q => br_c (fun q2 => br_c (fun q3 => br_c (fun q4 => ?_) (fun q4 => ?_)) (fun q3 => ?_)) (fun q2 => ?_))
    · rw [Int64.lt_iff_toInt_lt, fz_l0] at q
      exact yes ⟨by omega, fun _ => q⟩
    · rw [← Int64.toInt_inj, fz_l0] at q2
      exact yes ⟨by omega, fun w => w.elim (fun w => absurd q4 w) (fun w => absurd q3 w)⟩
    · rw [← Int64.toInt_inj, fz_l0] at q2
      exact no (fun w => by have := w.2 (Or.inl q4); omega)
    · rw [← Int64.toInt_inj, fz_l0] at q2
      exact no (fun w => by have := w.2 (Or.inr q3); omega)
    · rw [Int64.lt_iff_toInt_lt, fz_l0] at q
      rw [← Int64.toInt_inj, fz_l0] at q2
      exact no (fun w => by omega)
  · exact br_f h0 (K 0 (Or.inl rfl) ⟨fun q => absurd q z1, fun q => absurd q.1 h0⟩)
theorem fz_span30 {R : Nat} (hR : R ≤ 800) (hp : xhp = 0 ∨ xhp = 1)
    (hrow : ∀ k, k < R → fz_sm (ra k) (rb k) (rc k) ∧ (-1048576 ≤ (rd k).toInt ∧ (rd k).toInt ≤ 1048576) ∧ (rs k = 0 ∨ (rs k = 1 ∧ σ)) ∧ (ra k).toInt + (rb k).toInt + (rc k).toInt ≠ 0) :
    ∀ (m j : Nat) (Hh Hl : Rat → Prop) (xhl xhh : Int32) (xlt xlb xht xhb : Int64) (xol xoh : Int32), j + m = R → fz_hi σ xhh xht xhb xoh Hh → fz_lo σ xhl xlt xlb xol Hl →
    (∀ (Hh' Hl' : Rat → Prop) (xhl' xhh' : Int32) (xlt' xlb' xht' xhb' : Int64) (xol' xoh' : Int32), fz_hi σ xhh' xht' xhb' xoh' Hh' → fz_lo σ xhl' xlt' xlb' xol' Hl' →
      (∀ t, (Hh' t ∧ Hl' t) ↔ ((Hh t ∧ Hl t) ∧ ∀ k, j ≤ k → k < R → fz_T ((ra k).toInt + (rb k).toInt + (rc k).toInt) (rd k).toInt (¬ rs k = 0) t)) →
      ∀ r : Int32, (r = 0 ∨ r = 1) → (r = 1 ↔ (xhp = 0 ∧ ∃ t, Hh' t ∧ Hl' t)) → post r (xcn, nI R, xow, xhp, xhl', xhh', xlt', xlb', xht', xhb', xol', xoh', xsl, xli, ra, rb, rc, rd, rs, oa, ob, oc, od, os)) →
    wX_spanOfRows_30 post (m + 1) (nI j) xcn (nI R) xow xhp xhl xhh xlt xlb xht xhb xol xoh xsl xli ra rb rc rd rs oa ob oc od os := by
  intro m
  induction m with
  | zero =>
    intro j Hh Hl xhl xhh xlt xlb xht xhb xol xoh hj hi lo K
    have ej : j = R := by omega
    subst ej
    exact fz_spanX hR hp hi lo (K Hh Hl _ _ _ _ _ _ _ _ hi lo (fun t => ⟨fun z => ⟨z, fun k h1 h2 => by omega⟩, fun z => z.1⟩))
  | succ m ih =>
    intro j Hh Hl xhl xhh xlt xlb xht xhb xol xoh hj hi lo K
    have hlt : ¬ nI R ≤ nI j := nI_ge (by omega) (by omega)
    have vj : vp_in (nI j) 800 := vp_in_nI (by omega) (by omega)
    have ej : (nI j).toNatClampNeg = j := nI_clamp (by omega)
    obtain ⟨⟨s1, s2, s3⟩, d1, st, nz⟩ := hrow j (by omega)
    refine br_f hlt ⟨vj, vj, vj, fun x ex => ?_⟩
    rw [ej] at ex
    have a1 : (ra j + rb j).toInt = (ra j).toInt + (rb j).toInt := Jvm.Kit.i64_add (by omega) (by omega)
    have hx : x.toInt = (ra j).toInt + (rb j).toInt + (rc j).toInt := by
      rw [ex, Jvm.Kit.i64_add (by rw [a1]; omega) (by rw [a1]; omega), a1]
    have step : ∀ (P : Prop) (t : Rat), (P ↔ (Hh t ∧ Hl t) ∧ fz_T x.toInt (rd j).toInt (¬ rs j = 0) t) →
        ((P ∧ ∀ k, j + 1 ≤ k → k < R → fz_T ((ra k).toInt + (rb k).toInt + (rc k).toInt) (rd k).toInt (¬ rs k = 0) t) ↔
         ((Hh t ∧ Hl t) ∧ ∀ k, j ≤ k → k < R → fz_T ((ra k).toInt + (rb k).toInt + (rc k).toInt) (rd k).toInt (¬ rs k = 0) t)) := by
      intro P t h
      rw [h, hx]
      refine ⟨fun z => ⟨z.1.1, fun k k1 k2 => ?_⟩, fun z => ⟨⟨z.1, z.2 j (Nat.le_refl _) (by omega)⟩, fun k k1 k2 => z.2 k (by omega) k2⟩⟩
      by_cases ek : k = j
      · subst ek; exact z.1.2
      · exact z.2 k (by omega) k2
    refine br_c (fun q => br_c (fun q2 => ?_) (fun q2 => ⟨vj, vj, ?_⟩)) (fun q => ⟨vj, vj, ?_⟩)
    · rw [Int64.le_iff_toInt_le, fz_l0] at q q2
      omega
    · rw [Int64.le_iff_toInt_le, fz_l0] at q q2
      have e1 : (-(rd (nI j).toNatClampNeg)).toInt = -(rd j).toInt := by rw [ej]; exact Jvm.Kit.i64_neg (by omega)
      have e2 : (-x).toInt = -x.toInt := Jvm.Kit.i64_neg (by omega)
      refine fz_capLow lo (by rw [e1]; omega) (by rw [e2]; omega) (by rw [ej]; exact st) (fun lt' lb' ol' hc => nm_r (nI_1 j) ?_)
      rw [e1, e2, Int.neg_neg, Int.neg_neg, ej] at hc
      refine ih (j + 1) Hh _ _ _ _ _ _ _ _ _ (by omega) hi hc (fun Hh' Hl' xhl' xhh' xlt' xlb' xht' xhb' xol' xoh' h1 h2 h3 => K Hh' Hl' _ _ _ _ _ _ _ _ h1 h2 (fun t => (h3 t).trans (step _ t ?_)))
      exact ⟨fun z => ⟨⟨z.1, z.2.1⟩, z.2.2⟩, fun z => ⟨z.1.1, z.1.2, z.2⟩⟩
    · rw [Int64.le_iff_toInt_le, fz_l0] at q
      refine fz_capHigh hi (by rw [ej]; omega) (by omega) (by rw [ej]; exact st) (fun ht' hb' oh' hc => nm_r (nI_1 j) ?_)
      rw [ej] at hc
      refine ih (j + 1) _ Hl _ _ _ _ _ _ _ _ (by omega) hc lo (fun Hh' Hl' xhl' xhh' xlt' xlb' xht' xhb' xol' xoh' h1 h2 h3 => K Hh' Hl' _ _ _ _ _ _ _ _ h1 h2 (fun t => (h3 t).trans (step _ t ?_)))
      exact ⟨fun z => ⟨⟨z.1.1, z.2⟩, z.1.2⟩, fun z => ⟨⟨z.1.1, z.2⟩, z.1.2⟩⟩
/-- extremes of a coordinate over a set, in lowest terms -/
def fz_max (G : (Nat → Rat) → Prop) (ax : Nat) (top bot : Int64) : Prop := (0 < bot.toInt ∧ bot.toInt ≤ 1048576) ∧ (-1048576 ≤ top.toInt ∧ top.toInt ≤ 1048576) ∧ Int.gcd top.toInt bot.toInt = 1 ∧
  (∃ p, G p ∧ (bot.toInt : Rat) * p ax = (top.toInt : Rat)) ∧ ∀ p, G p → (bot.toInt : Rat) * p ax ≤ (top.toInt : Rat)
def fz_min (G : (Nat → Rat) → Prop) (ax : Nat) (top bot : Int64) : Prop := (0 < bot.toInt ∧ bot.toInt ≤ 1048576) ∧ (-1048576 ≤ top.toInt ∧ top.toInt ≤ 1048576) ∧ Int.gcd top.toInt bot.toInt = 1 ∧
  (∃ p, G p ∧ (bot.toInt : Rat) * p ax = (top.toInt : Rat)) ∧ ∀ p, G p → (top.toInt : Rat) ≤ (bot.toInt : Rat) * p ax
theorem fz_mxH {G : (Nat → Rat) → Prop} {ax : Nat} {hh hl oh ol : Int32} {ht hb lt lb : Int64} {Hh Hl : Rat → Prop} (ns : ¬ σ) (hi : fz_hi σ hh ht hb oh Hh) (lo : fz_lo σ hl lt lb ol Hl)
    (hT : ∀ t, (∃ p, G p ∧ p ax = t) ↔ (Hh t ∧ Hl t)) (hc : ∀ p, G p → -10 ≤ p ax ∧ p ax ≤ 10) (he : ∃ p, G p) : fz_max G ax ht hb ∧ fz_min G ax lt lb := by
  obtain ⟨p0, hp0⟩ := he
  have h0 := (hT (p0 ax)).mp ⟨p0, hp0, rfl⟩
  have c0 := hc p0 hp0
  rcases hi with ⟨_, a2⟩ | ⟨a1, a2, a3, a4, a5, a6⟩
  · exfalso
    have k11 : Hl 11 := by
      rcases lo with ⟨_, b2⟩ | ⟨b1, b2, b3, b4, b5, b6⟩
      · exact b2 11
      · have hB : (0 : Rat) < (lb.toInt : Rat) := Rat.intCast_pos.mpr b2.1
        have u := fz_Ti.mp ((b6 _).mp h0.2)
        rw [Rat.intCast_neg, Rat.intCast_neg] at u
        have m := fz_mlt hB (show p0 ax < 11 by grind)
        refine (b6 11).mpr (fz_Ti.mpr ?_)
        rw [Rat.intCast_neg, Rat.intCast_neg]
        have v : -(lb.toInt : Rat) * 11 < -(lt.toInt : Rat) := by grind
        exact ⟨Rat.le_of_lt v, fun _ => v⟩
    obtain ⟨p, g1, g2⟩ := (hT 11).mpr ⟨a2 11, k11⟩
    have := hc p g1
    grind
  rcases lo with ⟨_, b2⟩ | ⟨b1, b2, b3, b4, b5, b6⟩
  · exfalso
    have hB : (0 : Rat) < (hb.toInt : Rat) := Rat.intCast_pos.mpr a2.1
    have u := fz_Ti.mp ((a6 _).mp h0.1)
    have m := fz_mlt hB (show -11 < p0 ax by grind)
    have v : (hb.toInt : Rat) * -11 < (ht.toInt : Rat) := by grind
    obtain ⟨p, g1, g2⟩ := (hT (-11)).mpr ⟨(a6 (-11)).mpr (fz_Ti.mpr ⟨Rat.le_of_lt v, fun _ => v⟩), b2 (-11)⟩
    have := hc p g1
    grind
  have oz : oh = 0 := a5.elim id (fun w => absurd w.2 ns)
  have lz : ol = 0 := b5.elim id (fun w => absurd w.2 ns)
  have hB : (0 : Rat) < (hb.toInt : Rat) := Rat.intCast_pos.mpr a2.1
  have lB : (0 : Rat) < (lb.toInt : Rat) := Rat.intCast_pos.mpr b2.1
  have A : ∀ t, Hh t ↔ (hb.toInt : Rat) * t ≤ (ht.toInt : Rat) := fun t => by
    rw [a6 t, fz_Ti]
    exact ⟨fun z => z.1, fun z => ⟨z, fun w => absurd oz w⟩⟩
  have B : ∀ t, Hl t ↔ (lt.toInt : Rat) ≤ (lb.toInt : Rat) * t := fun t => by
    rw [b6 t, fz_Ti, Rat.intCast_neg, Rat.intCast_neg]
    refine ⟨fun z => by have := z.1; grind, fun z => ⟨by grind, fun w => absurd lz w⟩⟩
  have eh : (hb.toInt : Rat) * ((ht.toInt : Rat) / (hb.toInt : Rat)) = (ht.toInt : Rat) := by rw [Rat.mul_comm, Rat.div_mul_cancel (by grind)]
  have el : (lb.toInt : Rat) * ((lt.toInt : Rat) / (lb.toInt : Rat)) = (lt.toInt : Rat) := by rw [Rat.mul_comm, Rat.div_mul_cancel (by grind)]
  have u1 := (A _).mp h0.1
  have u2 := (B _).mp h0.2
  have w1 : p0 ax ≤ (ht.toInt : Rat) / (hb.toInt : Rat) := Rat.le_of_mul_le_mul_left (by rw [eh]; exact u1) hB
  have w2 : (lt.toInt : Rat) / (lb.toInt : Rat) ≤ p0 ax := Rat.le_of_mul_le_mul_left (by rw [el]; exact u2) lB
  refine ⟨⟨a2, a3, a4, ?_, fun p hp => ?_⟩, b2, b3, b4, ?_, fun p hp => ?_⟩
  · have k2 := fz_mle lB w1
    obtain ⟨p, g1, g2⟩ := (hT ((ht.toInt : Rat) / (hb.toInt : Rat))).mpr ⟨(A _).mpr (by rw [eh]; exact Rat.le_refl), (B _).mpr (Rat.le_trans u2 k2)⟩
    exact ⟨p, g1, by rw [g2, eh]⟩
  · exact (A _).mp ((hT (p ax)).mp ⟨p, hp, rfl⟩).1
  · have k2 := fz_mle hB w2
    obtain ⟨p, g1, g2⟩ := (hT ((lt.toInt : Rat) / (lb.toInt : Rat))).mpr ⟨(A _).mpr (Rat.le_trans k2 u1), (B _).mpr (by rw [el]; exact Rat.le_refl)⟩
    exact ⟨p, g1, by rw [g2, el]⟩
  · exact (B _).mp ((hT (p ax)).mp ⟨p, hp, rfl⟩).2
end
end
section
/-! X: spanOfRows, span, isKept -/
theorem fz_mv0 (p : Nat → Rat) (ax : Nat) : fz_mv p ax 0 = p := by
  funext j
  unfold fz_mv
  by_cases h : j = ax
  · rw [if_pos h, Rat.add_zero]
  · rw [if_neg h]
theorem fz_mvn {p : Nat → Rat} {ax i : Nat} {s : Rat} (h : ax ≠ i) : fz_mv p i s ax = p ax := if_neg h
theorem fz_one {ax : Nat} (hax : ax < 3) {a b c d : Int} {o : Prop} {p : Nat → Rat} (h : ∀ i, i < 3 → i ≠ ax → fz_pk i a b c = 0) : fz_S a b c d o p ↔ fz_T (a + b + c) d o (p ax) := by
  rw [fz_Ti]
  have h' : ax = 0 ∨ ax = 1 ∨ ax = 2 := by omega
  rcases h' with rfl | rfl | rfl
  · have e1 : b = 0 := h 1 (by omega) (by omega)
    have e2 : c = 0 := h 2 (by omega) (by omega)
    subst e1 e2
    unfold fz_S
    rw [Int.add_zero, Int.add_zero, fz_r0, Rat.zero_mul, Rat.zero_mul, Rat.add_zero, Rat.add_zero]
  · have e1 : a = 0 := h 0 (by omega) (by omega)
    have e2 : c = 0 := h 2 (by omega) (by omega)
    subst e1 e2
    unfold fz_S
    rw [Int.add_zero, Int.zero_add, fz_r0, Rat.zero_mul, Rat.zero_mul, Rat.add_zero, Rat.zero_add]
  · have e1 : a = 0 := h 0 (by omega) (by omega)
    have e2 : b = 0 := h 1 (by omega) (by omega)
    subst e1 e2
    unfold fz_S
    rw [Int.zero_add, Int.zero_add, fz_r0, Rat.zero_mul, Rat.zero_mul, Rat.add_zero, Rat.zero_add]
theorem fz_onez {ax : Nat} (hax : ax < 3) {a b c : Int} (h : ∀ i, i < 3 → i ≠ ax → fz_pk i a b c = 0) (h0 : a + b + c = 0) : a = 0 ∧ b = 0 ∧ c = 0 := by
  have h' : ax = 0 ∨ ax = 1 ∨ ax = 2 := by omega
  rcases h' with rfl | rfl | rfl
  · have e1 : b = 0 := h 1 (by omega) (by omega)
    have e2 : c = 0 := h 2 (by omega) (by omega)
    omega
  · have e1 : a = 0 := h 0 (by omega) (by omega)
    have e2 : c = 0 := h 2 (by omega) (by omega)
    omega
  · have e1 : a = 0 := h 0 (by omega) (by omega)
    have e2 : b = 0 := h 1 (by omega) (by omega)
    omega
section
variable {post : Int32 → SX → Prop} {xcn xrn xow xhp xhl xhh : Int32} {xlt xlb xht xhb : Int64} {xol xoh : Int32} {xsl xli : Nat → Int32} {ra rb rc rd : Nat → Int64} {rs : Nat → Int32} {oa ob oc od : Nat → Int64} {os : Nat → Int32} {σ : Prop} {G : (Nat → Rat) → Prop}
theorem fz_spanG {ax ax1 ax2 R : Nat} (hax : ax < 3) (h1 : ax1 < 3) (h2 : ax2 < 3) (n1 : ax ≠ ax1) (n2 : ax ≠ ax2)
    (e1 : (nI ax + 1) - (nI ax + 1) / 3 * 3 = nI ax1) (e2 : (nI ax + 2) - (nI ax + 2) / 3 * 3 = nI ax2) {A1 B1 C1 A2 B2 C2 D : Int}
    (hA1 : fz_nb ax1 0 4 4 = A1) (hB1 : fz_nb ax1 1 4 4 = B1) (hC1 : fz_nb ax1 2 4 4 = C1) (hM1 : fz_pk ax1 4 4 4 = 4) (hM2 : fz_pk ax2 A1 B1 C1 = 32)
    (hA2 : fz_nb ax2 0 32 A1 = A2) (hB2 : fz_nb ax2 1 32 B1 = B2) (hC2 : fz_nb ax2 2 32 C1 = C2) (b1 : A1 ≤ 4096 ∧ B1 ≤ 4096 ∧ C1 ≤ 4096) (b2 : A2 ≤ 4096 ∧ B2 ≤ 4096 ∧ C2 ≤ 4096)
    (hz : ∀ i, i < 3 → i ≠ ax → fz_pk i A2 B2 C2 = 0) (hD : D ≤ 2048) (hR : R ≤ 14) (hX : fz_XR 4 4 4 D σ R xrn xhp ra rb rc rd rs G) (hc : ∀ p, G p → -10 ≤ p ax ∧ p ax ≤ 10)
    (K : ∀ (r : Int32) (xrn' xhp' : Int32) (ra' rb' rc' rd' : Nat → Int64) (rs' : Nat → Int32) (xow' : Int32) (oa' ob' oc' od' : Nat → Int64) (os' : Nat → Int32) (xhl' xhh' : Int32) (xlt' xlb' xht' xhb' : Int64) (xol' xoh' : Int32), (r = 0 ∨ r = 1) → (r = 1 ↔ ∃ p, G p) → (r = 1 → ¬ σ → fz_max G ax xht' xhb' ∧ fz_min G ax xlt' xlb') → post r (xcn, xrn', xow', xhp', xhl', xhh', xlt', xlb', xht', xhb', xol', xoh', xsl, xli, ra', rb', rc', rd', rs', oa', ob', oc', od', os')) :
    wpX_spanOfRows post (xcn, xrn, xow, xhp, xhl, xhh, xlt, xlb, xht, xhb, xol, xoh, xsl, xli, ra, rb, rc, rd, rs, oa, ob, oc, od, os) (nI ax) := by
  have t3 : ¬ (3 : Int32) = 0 := by decide
  obtain ⟨b11, b12, b13⟩ := b1
  obtain ⟨b21, b22, b23⟩ := b2
  unfold wpX_spanOfRows
  dsimp only
  rw [e1, e2]
  refine ⟨t3, ?_⟩
  refine fz_eliminate (A := 4) (B := 4) (C := 4) (D := D) (by decide) (by decide) (by decide) (by omega) h1 (by omega) (by rw [hM1]; decide) (by rw [hM1, hA1]; exact b11) (by rw [hM1, hB1]; exact b12) (by rw [hM1, hC1]; exact b13) (by rw [hM1]; omega) hX
    (fun z p m h => Nat.le_trans (fz_n14 z p m (by omega)) (by decide)) (fun k1 xrn' xhp' ra' rb' rc' rd' rs' xow' oa' ob' oc' od' os' q1 X1 => ⟨t3, ?_⟩)
  have hk1 : k1 ≤ 49 := by
    obtain ⟨z, p, m, u, v⟩ := q1
    have := fz_n14 z p m (by omega)
    omega
  rw [hM1, hA1, hB1, hC1] at X1
  refine fz_eliminate (by omega) (by omega) (by omega) (by omega) h2 (by omega) (by rw [hM2]; decide) (by rw [hM2, hA2]; exact b21) (by rw [hM2, hB2]; exact b22) (by rw [hM2, hC2]; exact b23) (by rw [hM2]; omega) X1
    (fun z p m h => Nat.le_trans (fz_n49 z p m (by omega)) (by decide)) (fun k2 xrn'' xhp'' ra'' rb'' rc'' rd'' rs'' xow'' oa'' ob'' oc'' od'' os'' q2 X2 => ?_)
  have hk2 : k2 ≤ 600 := by
    obtain ⟨z, p, m, u, v⟩ := q2
    have := fz_n49 z p m (by omega)
    omega
  rw [hM2, hA2, hB2, hC2] at X2
  obtain ⟨x1, x2, x3, x4⟩ := X2
  subst x1
  have hzr : ∀ k, k < k2 → ∀ i, i < 3 → i ≠ ax → fz_pk i (ra'' k).toInt (rb'' k).toInt (rc'' k).toInt = 0 := by
    intro k hk i hi hne
    obtain ⟨⟨y1, y2, y3, -, -⟩, -⟩ := x3 k hk
    have := fz_pkb (ax := i) y1 y2 y3
    rw [hz i hi hne] at this
    omega
  show ∃ n, wX_spanOfRows_30 post n 0 xcn (nI k2) xow'' xhp'' 0 0 xlt xlb xht xhb xol xoh xsl xli ra'' rb'' rc'' rd'' rs'' oa'' ob'' oc'' od'' os''
  refine ⟨k2 + 1, fz_span30 (σ := σ) (by omega) x2 (fun k hk => ?_) k2 0 (fun _ => True) (fun _ => True) _ _ _ _ _ _ _ _ (by omega) (Or.inl ⟨rfl, fun _ => trivial⟩) (Or.inl ⟨rfl, fun _ => trivial⟩) (fun Hh Hl xhl' xhh' xlt' xlb' xht' xhb' xol' xoh' g1 g2 g3 r g4 g5 => ?_)⟩
  · obtain ⟨⟨y1, y2, y3, y4, y5⟩, y6⟩ := x3 k hk
    exact ⟨⟨by omega, by omega, by omega⟩, by omega, y5, fun q => y6 (fz_onez hax (hzr k hk) q)⟩
  · have hT : ∀ t, (∃ p, G p ∧ p ax = t) ↔ (xhp'' = 0 ∧ Hh t ∧ Hl t) := by
      intro t
      rw [g3 t]
      constructor
      · rintro ⟨p, u, rfl⟩
        obtain ⟨v1, v2⟩ := (x4 p).mpr ⟨0, 0, by rw [fz_mv0, fz_mv0]; exact u⟩
        exact ⟨v1, ⟨trivial, trivial⟩, fun k _ hk => (fz_one hax (hzr k hk)).mp (v2 k hk)⟩
      · rintro ⟨v1, -, v2⟩
        obtain ⟨s2, s1, u⟩ := (x4 (fun _ => t)).mp ⟨v1, fun k hk => (fz_one hax (hzr k hk)).mpr (v2 k (Nat.zero_le _) hk)⟩
        exact ⟨_, u, by rw [fz_mvn n1, fz_mvn n2]⟩
    have hE : (xhp'' = 0 ∧ ∃ t, Hh t ∧ Hl t) ↔ ∃ p, G p := by
      constructor
      · rintro ⟨v1, t, v2⟩
        obtain ⟨p, u, -⟩ := (hT t).mpr ⟨v1, v2⟩
        exact ⟨p, u⟩
      · rintro ⟨p, u⟩
        have := (hT (p ax)).mp ⟨p, u, rfl⟩
        exact ⟨this.1, _, this.2⟩
    rw [hE] at g5
    refine K r _ _ _ _ _ _ _ _ _ _ _ _ _ _ _ _ _ _ _ _ _ g4 g5 (fun hr ns => ?_)
    have he := g5.mp hr
    have h0 : xhp'' = 0 := (hE.mpr he).1
    exact fz_mxH ns g1 g2 (fun t => (hT t).trans ⟨fun z => z.2, fun z => ⟨h0, z⟩⟩) hc he
theorem fz_spanOfRows {ax R : Nat} (hax : ax < 3) {D : Int} (hD : D ≤ 2048) (hR : R ≤ 14) (hX : fz_XR 4 4 4 D σ R xrn xhp ra rb rc rd rs G) (hc : ∀ p, G p → -10 ≤ p ax ∧ p ax ≤ 10)
    (K : ∀ (r : Int32) (xrn' xhp' : Int32) (ra' rb' rc' rd' : Nat → Int64) (rs' : Nat → Int32) (xow' : Int32) (oa' ob' oc' od' : Nat → Int64) (os' : Nat → Int32) (xhl' xhh' : Int32) (xlt' xlb' xht' xhb' : Int64) (xol' xoh' : Int32), (r = 0 ∨ r = 1) → (r = 1 ↔ ∃ p, G p) → (r = 1 → ¬ σ → fz_max G ax xht' xhb' ∧ fz_min G ax xlt' xlb') → post r (xcn, xrn', xow', xhp', xhl', xhh', xlt', xlb', xht', xhb', xol', xoh', xsl, xli, ra', rb', rc', rd', rs', oa', ob', oc', od', os')) :
    wpX_spanOfRows post (xcn, xrn, xow, xhp, xhl, xhh, xlt, xlb, xht, xhb, xol, xoh, xsl, xli, ra, rb, rc, rd, rs, oa, ob, oc, od, os) (nI ax) := by
  have h' : ax = 0 ∨ ax = 1 ∨ ax = 2 := by omega
  rcases h' with rfl | rfl | rfl
  · exact fz_spanG (ax1 := 1) (ax2 := 2) (by decide) (by decide) (by decide) (by decide) (by decide) (by decide +kernel) (by decide +kernel) rfl rfl rfl rfl rfl rfl rfl rfl (by decide) (by decide) (by decide) hD hR hX hc K
  · exact fz_spanG (ax1 := 2) (ax2 := 0) (by decide) (by decide) (by decide) (by decide) (by decide) (by decide +kernel) (by decide +kernel) rfl rfl rfl rfl rfl rfl rfl rfl (by decide) (by decide) (by decide) hD hR hX hc K
  · exact fz_spanG (ax1 := 0) (ax2 := 1) (by decide) (by decide) (by decide) (by decide) (by decide) (by decide +kernel) (by decide +kernel) rfl rfl rfl rfl rfl rfl rfl rfl (by decide) (by decide) (by decide) hD hR hX hc K
theorem fz_S0c {N : Nat} {sl li : Nat → Int32} {w : Int32} {ax : Nat} (hax : ax < 3) (p : Nat → Rat) (h : fz_S0 N sl li w p) : -10 ≤ p ax ∧ p ax ≤ 10 := by
  have h' : ax = 0 ∨ ax = 1 ∨ ax = 2 := by omega
  obtain ⟨⟨c0, c1, c2⟩, -⟩ := h
  rcases h' with rfl | rfl | rfl
  · exact c0
  · exact c1
  · exact c2
theorem fz_span {N ax : Nat} (hax : ax < 3) (hok : fz_ok N xsl xli)
    (K : ∀ (r : Int32) (xrn' xhp' : Int32) (ra' rb' rc' rd' : Nat → Int64) (rs' : Nat → Int32) (xow' : Int32) (oa' ob' oc' od' : Nat → Int64) (os' : Nat → Int32) (xhl' xhh' : Int32) (xlt' xlb' xht' xhb' : Int64) (xol' xoh' : Int32), (r = 0 ∨ r = 1) → (r = 1 ↔ ∃ p, fz_S0 N xsl xli (-1) p) → (r = 1 → fz_max (fz_S0 N xsl xli (-1)) ax xht' xhb' ∧ fz_min (fz_S0 N xsl xli (-1)) ax xlt' xlb') → post r (nI N, xrn', xow', xhp', xhl', xhh', xlt', xlb', xht', xhb', xol', xoh', xsl, xli, ra', rb', rc', rd', rs', oa', ob', oc', od', os')) :
    wpX_span post (nI N, xrn, xow, xhp, xhl, xhh, xlt, xlb, xht, xhb, xol, xoh, xsl, xli, ra, rb, rc, rd, rs, oa, ob, oc, od, os) (nI ax) := by
  refine fz_start (xrn := xrn) (xhp := xhp) hok (D := 1000) (by decide) (by decide) (σ := False) (fun n1 xrn' xhp' ra' rb' rc' rd' rs' h1 h2 => ?_)
  refine fz_spanOfRows hax (by decide) (by omega) h2 (fun p hp => fz_S0c hax p hp) (fun r xrn'' xhp'' ra'' rb'' rc'' rd'' rs'' xow'' oa'' ob'' oc'' od'' os'' xhl'' xhh'' xlt'' xlb'' xht'' xhb'' xol'' xoh'' g1 g2 g3 => ⟨?_, ?_⟩)
  · exact (fz_bool g1).1
  · exact K r _ _ _ _ _ _ _ _ _ _ _ _ _ _ _ _ _ _ _ _ _ g1 g2 (fun hr => g3 hr id)
def fz_lin (s : Int32) (p : Nat → Rat) : Rat := (fz_pa s : Rat) * p 0 + (fz_pb s : Rat) * p 1 + (fz_pc s : Rat) * p 2
theorem fz_kept {N t : Nat} (hok : fz_ok N xsl xli) (ht : t ≤ 728) {d w : Int32} (hd : -1000 ≤ d.toInt ∧ d.toInt ≤ 1000)
    (K : ∀ (r : Int32) (xrn' xhp' : Int32) (ra' rb' rc' rd' : Nat → Int64) (rs' : Nat → Int32) (xow' : Int32) (oa' ob' oc' od' : Nat → Int64) (os' : Nat → Int32) (xhl' xhh' : Int32) (xlt' xlb' xht' xhb' : Int64) (xol' xoh' : Int32), (r = 0 ∨ r = 1) → (r = 1 ↔ ¬ ∃ p, fz_S0 N xsl xli w p ∧ (d.toInt : Rat) < fz_lin (nI t) p) → post r (nI N, xrn', xow', xhp', xhl', xhh', xlt', xlb', xht', xhb', xol', xoh', xsl, xli, ra', rb', rc', rd', rs', oa', ob', oc', od', os')) :
    wpX_isKept post (nI N, xrn, xow, xhp, xhl, xhh, xlt, xlb, xht, xhb, xol, xoh, xsl, xli, ra, rb, rc, rd, rs, oa, ob, oc, od, os) (nI t) d w := by
  obtain ⟨a1, a2, a3⟩ := fz_par ht
  have one : ¬ (1 : Int32) = 0 := by decide
  have z1 : ¬ (0 : Int32) = 1 := by decide
  have ea : ∀ x : Int32, -4 ≤ x.toInt ∧ x.toInt ≤ 4 → (-x.toInt64).toInt = -x.toInt := fun x hx => by
    rw [Jvm.Kit.i64_neg (by rw [Jvm.Kit.i64_of_i32]; omega), Jvm.Kit.i64_of_i32]
  have ed : (-d).toInt64.toInt = -d.toInt := by rw [Jvm.Kit.i64_of_i32, Jvm.Kit.i32_neg (by omega)]
  refine fz_start (xrn := xrn) (xhp := xhp) hok (D := 1000) (by decide) (by decide) (σ := True) (fun n1 xrn' xhp' ra' rb' rc' rd' rs' h1 h2 => ?_)
  refine br_t rfl ⟨by decide, br_f (by decide) (br_t rfl ⟨by decide, by decide, br_f (by decide) (br_f (by decide) ⟨by decide, ?_⟩)⟩)⟩
  refine fz_put (by decide) (by decide) (by decide) (by decide) h2 (by omega) ?_ (fun n2 xrn'' xhp'' ra'' rb'' rc'' rd'' rs'' h3 h4 => ?_)
  · rw [ea _ a1, ea _ a2, ea _ a3, ed]
    have b1 : -4 ≤ -fz_pa (nI t) ∧ -fz_pa (nI t) ≤ 4 := by omega
    have b2 : -4 ≤ -fz_pb (nI t) ∧ -fz_pb (nI t) ≤ 4 := by omega
    have b3 : -4 ≤ -fz_pc (nI t) ∧ -fz_pc (nI t) ≤ 4 := by omega
    exact ⟨b1, b2, b3, by omega, Or.inr ⟨rfl, trivial⟩⟩
  · rw [ea _ a1, ea _ a2, ea _ a3, ed] at h4
    have h5 : fz_XR 4 4 4 1000 True n2 xrn'' xhp'' ra'' rb'' rc'' rd'' rs'' (fun p => fz_S0 N xsl xli w p ∧ (d.toInt : Rat) < fz_lin (nI t) p) := by
      refine fz_XRg h4 fun p => ?_
      have : fz_S (-fz_pa (nI t)) (-fz_pb (nI t)) (-fz_pc (nI t)) (-d.toInt) (¬ (1 : Int32) = 0) p ↔ (d.toInt : Rat) < fz_lin (nI t) p := by
        unfold fz_S fz_lin
        rw [Rat.intCast_neg, Rat.intCast_neg, Rat.intCast_neg, Rat.intCast_neg]
        refine ⟨fun z => by have := z.2 one; grind, fun z => ⟨by grind, fun _ => by grind⟩⟩
      exact ⟨fun z => ⟨z.1, this.mp z.2⟩, fun z => ⟨z.1, this.mpr z.2⟩⟩
    refine fz_spanOfRows (ax := 0) (by decide) (by decide) (by omega) h5 (fun p hp => fz_S0c (by decide) p hp.1) (fun r xrn''' xhp''' ra''' rb''' rc''' rd''' rs''' xow''' oa''' ob''' oc''' od''' os''' xhl''' xhh''' xlt''' xlb''' xht''' xhb''' xol''' xoh''' g1 g2 g3 => br_c (fun q => ?_) (fun q => ?_))
    · refine K 1 _ _ _ _ _ _ _ _ _ _ _ _ _ _ _ _ _ _ _ _ _ (Or.inr rfl) ⟨fun _ w' => ?_, fun _ => rfl⟩
      have := g2.mpr w'
      rw [q] at this
      exact z1 this
    · refine K 0 _ _ _ _ _ _ _ _ _ _ _ _ _ _ _ _ _ _ _ _ _ (Or.inl rfl) ⟨fun z => absurd z z1, fun w' => ?_⟩
      exact absurd (g2.mp (g1.elim (fun z => absurd z q) id)) w'
end
end
section
/-! X: has, isShadow -/
def fz_pt (x y z k : Int) : Nat → Rat := fun i => (if i = 0 then (x : Rat) else if i = 1 then (y : Rat) else (z : Rat)) / (k : Rat)
theorem fz_ptS {a b c d x y z k : Int} (hk : 0 < k) : (a : Rat) * fz_pt x y z k 0 + (b : Rat) * fz_pt x y z k 1 + (c : Rat) * fz_pt x y z k 2 ≤ (d : Rat) ↔ a * x + b * y + c * z ≤ d * k := by
  have hK : (0 : Rat) < (k : Rat) := Rat.intCast_pos.mpr hk
  have e0 : (k : Rat) * fz_pt x y z k 0 = (x : Rat) := by show (k : Rat) * ((x : Rat) / (k : Rat)) = _; rw [Rat.mul_comm, Rat.div_mul_cancel (by grind)]
  have e1 : (k : Rat) * fz_pt x y z k 1 = (y : Rat) := by show (k : Rat) * ((y : Rat) / (k : Rat)) = _; rw [Rat.mul_comm, Rat.div_mul_cancel (by grind)]
  have e2 : (k : Rat) * fz_pt x y z k 2 = (z : Rat) := by show (k : Rat) * ((z : Rat) / (k : Rat)) = _; rw [Rat.mul_comm, Rat.div_mul_cancel (by grind)]
  rw [← Rat.intCast_le_intCast, Rat.intCast_add, Rat.intCast_add, Rat.intCast_mul, Rat.intCast_mul, Rat.intCast_mul, Rat.intCast_mul]
  have ee : (k : Rat) * ((a : Rat) * fz_pt x y z k 0 + (b : Rat) * fz_pt x y z k 1 + (c : Rat) * fz_pt x y z k 2) = (a : Rat) * (x : Rat) + (b : Rat) * (y : Rat) + (c : Rat) * (z : Rat) := by grind
  rw [← ee, Rat.mul_comm (d : Rat) (k : Rat)]
  exact ⟨fun h => fz_mle hK h, fun h => Rat.le_of_mul_le_mul_left h hK⟩
theorem fz_sum3 {u v w : Int64} (hu : -1048576 ≤ u.toInt ∧ u.toInt ≤ 1048576) (hv : -1048576 ≤ v.toInt ∧ v.toInt ≤ 1048576) (hw : -1048576 ≤ w.toInt ∧ w.toInt ≤ 1048576) : (u + v + w).toInt = u.toInt + v.toInt + w.toInt := by
  have a1 : (u + v).toInt = u.toInt + v.toInt := Jvm.Kit.i64_add (by omega) (by omega)
  rw [Jvm.Kit.i64_add (by rw [a1]; omega) (by rw [a1]; omega), a1]
/-- a product of a row's number and an argument -/
theorem fz_pw {a : Int64} {x : Int32} (ha : -40 ≤ a.toInt ∧ a.toInt ≤ 40) (hx : -400 ≤ x.toInt ∧ x.toInt ≤ 400) : (a * x.toInt64).toInt = a.toInt * x.toInt ∧ (-16000 ≤ (a * x.toInt64).toInt ∧ (a * x.toInt64).toInt ≤ 16000) := by
  have h : (a * x.toInt64).toInt = a.toInt * x.toInt := by
    rw [fz_lmul (A := 40) (B := 400) ha (by rw [Jvm.Kit.i64_of_i32]; exact hx) (by decide), Jvm.Kit.i64_of_i32]
  have m := fz_abm ha hx
  rw [h]
  exact ⟨rfl, m⟩
section
variable {post : Int32 → SX → Prop} {xcn xrn xow xhp xhl xhh : Int32} {xlt xlb xht xhb : Int64} {xol xoh : Int32} {xsl xli : Nat → Int32} {ra rb rc rd : Nat → Int64} {rs : Nat → Int32} {oa ob oc od : Nat → Int64} {os : Nat → Int32} {G : (Nat → Rat) → Prop}
theorem fz_has47 {R : Nat} (hR : R ≤ 800) {x y z k : Int32} (hx : -400 ≤ x.toInt ∧ x.toInt ≤ 400) (hy : -400 ≤ y.toInt ∧ y.toInt ≤ 400) (hz : -400 ≤ z.toInt ∧ z.toInt ≤ 400) (hk : 1 ≤ k.toInt ∧ k.toInt ≤ 20)
    (hX : fz_XR 4 4 4 40 False R xrn xhp ra rb rc rd rs G) (K : ∀ r : Int32, (r = 0 ∨ r = 1) → (r = 1 ↔ G (fz_pt x.toInt y.toInt z.toInt k.toInt)) → post r (xcn, xrn, xow, xhp, xhl, xhh, xlt, xlb, xht, xhb, xol, xoh, xsl, xli, ra, rb, rc, rd, rs, oa, ob, oc, od, os)) :
    ∀ m j : Nat, j + m = R → (∀ i, i < j → fz_S (ra i).toInt (rb i).toInt (rc i).toInt (rd i).toInt (¬ rs i = 0) (fz_pt x.toInt y.toInt z.toInt k.toInt)) → wX_has_47 post x y z k xcn xrn xow xhp xhl xhh xlt xlb xht xhb xol xoh xsl xli ra rb rc rd rs oa ob oc od os (m + 1) (nI j) := by
  obtain ⟨x1, x2, x3, x4⟩ := hX
  subst x1
  have one : ¬ (1 : Int32) = 0 := by decide
  have z1 : ¬ (0 : Int32) = 1 := by decide
  intro m
  induction m with
  | zero =>
    intro j hj hs
    have ej : j = R := by omega
    subst ej
    exact br_t (nI_le (Nat.le_refl _) (by omega)) (br_c (fun h => K 1 (Or.inr rfl) ⟨fun _ => (x4 _).mp ⟨h, hs⟩, fun _ => rfl⟩) (fun h => K 0 (Or.inl rfl) ⟨fun q => absurd q z1, fun q => absurd ((x4 _).mpr q).1 h⟩))
  | succ m ih =>
    intro j hj hs
    have hlt : ¬ nI R ≤ nI j := nI_ge (by omega) (by omega)
    have vj : vp_in (nI j) 800 := vp_in_nI (by omega) (by omega)
    have ej : (nI j).toNatClampNeg = j := nI_clamp (by omega)
    obtain ⟨⟨s1, s2, s3, s4, s5⟩, -⟩ := x3 j (by omega)
    have sz : rs j = 0 := s5.elim id (fun w => absurd w.2 id)
    obtain ⟨p1, q1⟩ := fz_pw (a := ra j) (x := x) (by omega) hx
    obtain ⟨p2, q2⟩ := fz_pw (a := rb j) (x := y) (by omega) hy
    obtain ⟨p3, q3⟩ := fz_pw (a := rc j) (x := z) (by omega) hz
    obtain ⟨p4, q4⟩ := fz_pw (a := rd j) (x := k) (by omega) (by omega)
    have key : (ra j * x.toInt64 + rb j * y.toInt64 + rc j * z.toInt64 ≤ rd j * k.toInt64) ↔ fz_S (ra j).toInt (rb j).toInt (rc j).toInt (rd j).toInt (¬ rs j = 0) (fz_pt x.toInt y.toInt z.toInt k.toInt) := by
      rw [Int64.le_iff_toInt_le, fz_sum3 (by omega) (by omega) (by omega), p1, p2, p3, p4, ← fz_ptS (by omega)]
      exact ⟨fun h => ⟨h, fun q => absurd sz q⟩, fun h => h.1⟩
    refine br_f hlt ⟨vj, vj, vj, vj, ?_⟩
    rw [ej]
    refine br_c (fun h => nm_r (nI_1 j) (ih (j + 1) (by omega) (fun i hi => ?_))) (fun h => K 0 (Or.inl rfl) ⟨fun q => absurd q z1, fun q => absurd (key.mpr (((x4 _).mpr q).2 j (by omega))) h⟩)
    by_cases e : i = j
    · subst e; exact key.mp h
    · exact hs i (by omega)
end
def fz_g1 (ax : Nat) (a b : Int64) : Int64 := if ax = 0 then b else a
def fz_g2 (ax : Nat) (b c : Int64) : Int64 := if ax = 2 then b else c
def fz_f1 (ax : Nat) (a b : Int) : Int := if ax = 0 then b else a
def fz_f2 (ax : Nat) (b c : Int) : Int := if ax = 2 then b else c
theorem fz_g1T (ax : Nat) (a b : Int64) : (fz_g1 ax a b).toInt = fz_f1 ax a.toInt b.toInt := by
  unfold fz_g1 fz_f1
  by_cases h : ax = 0
  · rw [if_pos h, if_pos h]
  · rw [if_neg h, if_neg h]
theorem fz_g2T (ax : Nat) (a b : Int64) : (fz_g2 ax a b).toInt = fz_f2 ax a.toInt b.toInt := by
  unfold fz_g2 fz_f2
  by_cases h : ax = 2
  · rw [if_pos h, if_pos h]
  · rw [if_neg h, if_neg h]
theorem fz_f1b {ax : Nat} {a b A : Int} (ha : -A ≤ a ∧ a ≤ A) (hb : -A ≤ b ∧ b ≤ A) : -A ≤ fz_f1 ax a b ∧ fz_f1 ax a b ≤ A := by
  unfold fz_f1
  by_cases h : ax = 0
  · rw [if_pos h]; exact hb
  · rw [if_neg h]; exact ha
theorem fz_f2b {ax : Nat} {a b A : Int} (ha : -A ≤ a ∧ a ≤ A) (hb : -A ≤ b ∧ b ≤ A) : -A ≤ fz_f2 ax a b ∧ fz_f2 ax a b ≤ A := by
  unfold fz_f2
  by_cases h : ax = 2
  · rw [if_pos h]; exact ha
  · rw [if_neg h]; exact hb
/-- the point with t along the axis, p and q along the others, all over k -/
def fz_sh (ax : Nat) (p q k : Int) (t : Rat) : Nat → Rat := fun i => (if i = ax then t else if i = (if ax = 0 then 1 else 0) then (p : Rat) else (q : Rat)) / (k : Rat)
theorem fz_shS {ax : Nat} (hax : ax < 3) {a b c d p q k : Int} {t : Rat} (hk : 0 < k) :
    (a : Rat) * fz_sh ax p q k t 0 + (b : Rat) * fz_sh ax p q k t 1 + (c : Rat) * fz_sh ax p q k t 2 ≤ (d : Rat) ↔ fz_T (fz_pk ax a b c) (d * k - fz_f1 ax a b * p - fz_f2 ax b c * q) (¬ (0 : Int32) = 0) t := by
  have hK : (0 : Rat) < (k : Rat) := Rat.intCast_pos.mpr hk
  have hd : ∀ u : Rat, (k : Rat) * (u / (k : Rat)) = u := fun u => by rw [Rat.mul_comm, Rat.div_mul_cancel (by grind)]
  have hT : fz_T (fz_pk ax a b c) (d * k - fz_f1 ax a b * p - fz_f2 ax b c * q) (¬ (0 : Int32) = 0) t ↔ (fz_pk ax a b c : Rat) * t ≤ (d : Rat) * (k : Rat) - (fz_f1 ax a b : Rat) * (p : Rat) - (fz_f2 ax b c : Rat) * (q : Rat) := by
    rw [fz_Ti, Rat.intCast_sub, Rat.intCast_sub, Rat.intCast_mul, Rat.intCast_mul, Rat.intCast_mul]
    exact ⟨fun h => h.1, fun h => ⟨h, fun w => absurd rfl w⟩⟩
  rw [hT]
  have main : ∀ v w : Rat, (k : Rat) * v = w → (v ≤ (d : Rat) ↔ w ≤ (k : Rat) * (d : Rat)) := fun v w e => by
    rw [← e]
    exact ⟨fun h => fz_mle hK h, fun h => Rat.le_of_mul_le_mul_left h hK⟩
  have h' : ax = 0 ∨ ax = 1 ∨ ax = 2 := by omega
  rcases h' with rfl | rfl | rfl
  · have s0 : fz_sh 0 p q k t 0 = t / (k : Rat) := rfl
    have s1 : fz_sh 0 p q k t 1 = (p : Rat) / (k : Rat) := rfl
    have s2 : fz_sh 0 p q k t 2 = (q : Rat) / (k : Rat) := rfl
    have g0 : fz_pk 0 a b c = a := rfl
    have g1 : fz_f1 0 a b = b := rfl
    have g2 : fz_f2 0 b c = c := rfl
    rw [s0, s1, s2, g0, g1, g2, main _ ((a : Rat) * t + (b : Rat) * (p : Rat) + (c : Rat) * (q : Rat)) (by have := hd t; have := hd (p : Rat); have := hd (q : Rat); grind)]
    constructor <;> intro h <;> grind
  · have s0 : fz_sh 1 p q k t 0 = (p : Rat) / (k : Rat) := rfl
    have s1 : fz_sh 1 p q k t 1 = t / (k : Rat) := rfl
    have s2 : fz_sh 1 p q k t 2 = (q : Rat) / (k : Rat) := rfl
    have g0 : fz_pk 1 a b c = b := rfl
    have g1 : fz_f1 1 a b = a := rfl
    have g2 : fz_f2 1 b c = c := rfl
    rw [s0, s1, s2, g0, g1, g2, main _ ((a : Rat) * (p : Rat) + (b : Rat) * t + (c : Rat) * (q : Rat)) (by have := hd t; have := hd (p : Rat); have := hd (q : Rat); grind)]
    constructor <;> intro h <;> grind
  · have s0 : fz_sh 2 p q k t 0 = (p : Rat) / (k : Rat) := rfl
    have s1 : fz_sh 2 p q k t 1 = (q : Rat) / (k : Rat) := rfl
    have s2 : fz_sh 2 p q k t 2 = t / (k : Rat) := rfl
    have g0 : fz_pk 2 a b c = c := rfl
    have g1 : fz_f1 2 a b = a := rfl
    have g2 : fz_f2 2 b c = b := rfl
    rw [s0, s1, s2, g0, g1, g2, main _ ((a : Rat) * (p : Rat) + (b : Rat) * (q : Rat) + (c : Rat) * t) (by have := hd t; have := hd (p : Rat); have := hd (q : Rat); grind)]
    constructor <;> intro h <;> grind
theorem fz_shB {ax : Nat} (hax : ax < 3) {p q k : Int} {t : Rat} (hk : 0 < k) (hk2 : k ≤ 20) (h : -10 ≤ fz_sh ax p q k t ax ∧ fz_sh ax p q k t ax ≤ 10) : -200 ≤ t ∧ t ≤ 200 := by
  have hK : (0 : Rat) < (k : Rat) := Rat.intCast_pos.mpr hk
  have hK2 : (k : Rat) ≤ 20 := Rat.intCast_le_intCast.mpr hk2
  have e : fz_sh ax p q k t ax = t / (k : Rat) := by
    show (if ax = ax then t else _) / (k : Rat) = _
    rw [if_pos rfl]
  rw [e] at h
  have hd : (k : Rat) * (t / (k : Rat)) = t := by rw [Rat.mul_comm, Rat.div_mul_cancel (by grind)]
  have m1 := fz_mle hK h.1
  have m2 := fz_mle hK h.2
  rw [hd] at m1 m2
  grind
end
section
/-! X: isShadow's loop -/
section
variable {post : Int32 → SX → Prop} {xcn xrn xow xhp xhl xhh : Int32} {xlt xlb xht xhb : Int64} {xol xoh : Int32} {xsl xli : Nat → Int32} {ra rb rc rd : Nat → Int64} {rs : Nat → Int32} {oa ob oc od : Nat → Int64} {os : Nat → Int32}
theorem fz_shA {J : Int32 → Int32 → Int32 → Int32 → Int32 → Int32 → Int32 → Int32 → Int64 → Int64 → Int64 → Int64 → Int32 → Int32 → (Nat → Int32) → (Nat → Int32) → (Nat → Int64) → (Nat → Int64) → (Nat → Int64) → (Nat → Int64) → (Nat → Int32) → (Nat → Int64) → (Nat → Int64) → (Nat → Int64) → (Nat → Int64) → (Nat → Int32) → Prop}
    {ax j R n : Nat} {p q k f : Int32} (hax : ax < 3) (hj : j < R) (hR : R ≤ 800) (eJ : J = wX_isShadow_32 post (nI ax) p q k n)
    (K : wX_isShadow_128 post J (nI ax) p q k f (nI j) (fz_g1 ax (ra j) (rb j)) (fz_g2 ax (rb j) (rc j)) (fz_pkL ax (ra j) (rb j) (rc j)) xcn (nI R) xow xhp xhl xhh xlt xlb xht xhb xol xoh xsl xli ra rb rc rd rs oa ob oc od os) :
    wX_isShadow_32 post (nI ax) p q k (n + 1) f (nI j) xcn (nI R) xow xhp xhl xhh xlt xlb xht xhb xol xoh xsl xli ra rb rc rd rs oa ob oc od os := by
  subst eJ
  have hlt : ¬ nI R ≤ nI j := nI_ge (by omega) (by omega)
  have vj : vp_in (nI j) 800 := vp_in_nI (by omega) (by omega)
  have ej : (nI j).toNatClampNeg = j := nI_clamp (by omega)
  have h' : ax = 0 ∨ ax = 1 ∨ ax = 2 := by omega
  rcases h' with rfl | rfl | rfl
  · refine br_f hlt (br_t rfl ⟨vj, br_f (by decide) ⟨vj, br_t rfl ⟨vj, br_f (by decide) ?_⟩⟩⟩)
    rw [ej]
    exact K
  · refine br_f hlt (br_f (by decide) ⟨vj, br_f (by decide) ⟨vj, br_f (by decide) ⟨vj, br_t rfl ⟨vj, ?_⟩⟩⟩⟩)
    rw [ej]
    exact K
  · refine br_f hlt (br_f (by decide) ⟨vj, br_t rfl ⟨vj, br_f (by decide) ⟨vj, br_f (by decide) ?_⟩⟩⟩)
    rw [ej]
    exact K
theorem fz_T0 {d : Int} {t : Rat} : fz_T 0 d (¬ (0 : Int32) = 0) t ↔ 0 ≤ d := by
  rw [fz_Ti, fz_r0, Rat.zero_mul, Rat.intCast_nonneg]
  exact ⟨fun h => h.1, fun h => ⟨h, fun w => absurd rfl w⟩⟩
theorem fz_shX {Z Hh Hl : Rat → Prop} {R n : Nat} (hR : R ≤ 800) {x1 x2 x3 x4 f : Int32} {F : Prop} (hf : f = 0 ∨ f = 1) (hF : f = 1 ↔ F) (hi : fz_hi False xhh xht xhb xoh Hh) (lo : fz_lo False xhl xlt xlb xol Hl)
    (hZ : ∀ t, Z t ↔ (F ∧ Hh t ∧ Hl t)) (hB : ∀ t, Z t → -200 ≤ t ∧ t ≤ 200) (K : ∀ r : Int32, (r = 0 ∨ r = 1) → (r = 1 ↔ ∃ t, Z t) → post r (xcn, nI R, xow, xhp, xhl, xhh, xlt, xlb, xht, xhb, xol, xoh, xsl, xli, ra, rb, rc, rd, rs, oa, ob, oc, od, os)) :
    wX_isShadow_32 post x1 x2 x3 x4 (n + 1) f (nI R) xcn (nI R) xow xhp xhl xhh xlt xlb xht xhb xol xoh xsl xli ra rb rc rd rs oa ob oc od os := by
  have z1 : ¬ (0 : Int32) = 1 := by decide
  refine br_t (nI_le (Nat.le_refl _) (by omega)) (br_c (fun h0 => ?_) (fun h0 => ?_))
  · refine K 0 (Or.inl rfl) ⟨fun q => absurd q z1, fun ⟨t, ht⟩ => ?_⟩
    have := hF.mpr ((hZ t).mp ht).1
    exact absurd (h0.symm.trans this) z1
  · have f1 : f = 1 := hf.elim (fun w => absurd w h0) id
    have hF1 : F := hF.mp f1
    rcases hi with ⟨_, a2⟩ | ⟨a1, a2, a3, a4, a5, a6⟩
    · obtain ⟨t0, ht0⟩ := fz_exL lo
      exfalso
      by_cases c : t0 ≤ 201
      · have := hB 201 ((hZ _).mpr ⟨hF1, a2 _, ht0 201 c⟩)
        grind
      · have := hB t0 ((hZ _).mpr ⟨hF1, a2 _, ht0 t0 Rat.le_refl⟩)
        grind
    rcases lo with ⟨_, b2⟩ | ⟨b1, b2, b3, b4, b5, b6⟩
    · obtain ⟨t0, ht0⟩ := fz_exH (σ := False) (H := Hh) (Or.inr ⟨a1, a2, a3, a4, a5, a6⟩)
      exfalso
      by_cases c : -201 ≤ t0
      · have := hB (-201) ((hZ _).mpr ⟨hF1, ht0 _ c, b2 _⟩)
        grind
      · have := hB t0 ((hZ _).mpr ⟨hF1, ht0 t0 Rat.le_refl, b2 _⟩)
        grind
    have p1 := fz_lmul (x := xht) (y := xlb) (A := 1048576) (B := 1048576) a3 (by omega) (by decide)
    have p2 := fz_lmul (x := xlt) (y := xhb) (A := 1048576) (B := 1048576) b3 (by omega) (by decide)
    have oz : xoh = 0 := a5.elim id (fun w => absurd w.2 id)
    have lz : xol = 0 := b5.elim id (fun w => absurd w.2 id)
    have e2 : (∃ t, Z t) ↔ 0 ≤ xht.toInt * xlb.toInt - xlt.toInt * xhb.toInt := by
      have := fz_ex2 (hb := xhb.toInt) (ht := xht.toInt) (lb := xlb.toInt) (lt := xlt.toInt) a2.1 b2.1 (o1 := ¬ xoh = 0) (o2 := ¬ xol = 0)
      refine Iff.trans (Iff.trans ⟨fun ⟨t, w⟩ => ?_, fun ⟨t, w1, w2⟩ => ?_⟩ this) ⟨fun w => w.1, fun w => ⟨w, fun w2 => w2.elim (fun w3 => absurd oz w3) (fun w3 => absurd lz w3)⟩⟩
      · have w' := (hZ t).mp w
        exact ⟨t, (a6 t).mp w'.2.1, (b6 t).mp w'.2.2⟩
      · exact ⟨t, (hZ t).mpr ⟨hF1, (a6 t).mpr w1, (b6 t).mpr w2⟩⟩
    refine br_c (fun q => ?_) (fun q => ?_)
    · rw [Int64.lt_iff_toInt_lt, p1, p2] at q
      exact K 0 (Or.inl rfl) ⟨fun w => absurd w z1, fun w => by have := e2.mp w; omega⟩
    · rw [Int64.lt_iff_toInt_lt, p1, p2] at q
      exact K 1 (Or.inr rfl) ⟨fun _ => e2.mpr (by omega), fun _ => rfl⟩
theorem fz_sh32 {Z : Rat → Prop} {ax R : Nat} (hax : ax < 3) (hR : R ≤ 800) {p q k : Int32} (hp : -400 ≤ p.toInt ∧ p.toInt ≤ 400) (hq : -400 ≤ q.toInt ∧ q.toInt ≤ 400) (hk : 1 ≤ k.toInt ∧ k.toInt ≤ 20)
    (hrow : ∀ i, i < R → (-4 ≤ (ra i).toInt ∧ (ra i).toInt ≤ 4) ∧ (-4 ≤ (rb i).toInt ∧ (rb i).toInt ≤ 4) ∧ (-4 ≤ (rc i).toInt ∧ (rc i).toInt ≤ 4) ∧ (-40 ≤ (rd i).toInt ∧ (rd i).toInt ≤ 40))
    (hB : ∀ t, Z t → -200 ≤ t ∧ t ≤ 200) (K : ∀ (r : Int32) (xhl' xhh' : Int32) (xlt' xlb' xht' xhb' : Int64) (xol' xoh' : Int32), (r = 0 ∨ r = 1) → (r = 1 ↔ ∃ t, Z t) → post r (xcn, nI R, xow, xhp, xhl', xhh', xlt', xlb', xht', xhb', xol', xoh', xsl, xli, ra, rb, rc, rd, rs, oa, ob, oc, od, os)) :
    ∀ (m j : Nat) (F : Prop) (f : Int32) (Hh Hl : Rat → Prop) (xhl xhh : Int32) (xlt xlb xht xhb : Int64) (xol xoh : Int32), j + m = R → (f = 0 ∨ f = 1) → (f = 1 ↔ F) → fz_hi False xhh xht xhb xoh Hh → fz_lo False xhl xlt xlb xol Hl →
    (∀ t, Z t ↔ ((F ∧ Hh t ∧ Hl t) ∧ ∀ i, j ≤ i → i < R → fz_T (fz_pk ax (ra i).toInt (rb i).toInt (rc i).toInt) ((rd i).toInt * k.toInt - fz_f1 ax (ra i).toInt (rb i).toInt * p.toInt - fz_f2 ax (rb i).toInt (rc i).toInt * q.toInt) (¬ (0 : Int32) = 0) t)) →
    wX_isShadow_32 post (nI ax) p q k (m + 1) f (nI j) xcn (nI R) xow xhp xhl xhh xlt xlb xht xhb xol xoh xsl xli ra rb rc rd rs oa ob oc od os := by
  intro m
  induction m with
  | zero =>
    intro j F f Hh Hl xhl xhh xlt xlb xht xhb xol xoh hj hf hF hi lo hZ
    have ej : j = R := by omega
    subst ej
    exact fz_shX hR hf hF hi lo (fun t => (hZ t).trans ⟨fun z => z.1, fun z => ⟨z, fun i h1 h2 => by omega⟩⟩) hB (fun r => K r _ _ _ _ _ _ _ _)
  | succ m ih =>
    intro j F f Hh Hl xhl xhh xlt xlb xht xhb xol xoh hj hf hF hi lo hZ
    have vj : vp_in (nI j) 800 := vp_in_nI (by omega) (by omega)
    have ej : (nI j).toNatClampNeg = j := nI_clamp (by omega)
    obtain ⟨s1, s2, s3, s4⟩ := hrow j (by omega)
    have c1 := fz_f1b (ax := ax) s1 s2
    have c2 := fz_f2b (ax := ax) s2 s3
    have c3 := fz_pkb (ax := ax) s1 s2 s3
    have c4 : fz_pk ax 4 4 4 = 4 := by
      have h' : ax = 0 ∨ ax = 1 ∨ ax = 2 := by omega
      rcases h' with rfl | rfl | rfl <;> rfl
    rw [c4] at c3
    refine fz_shA hax (by omega) hR rfl ⟨vj, fun x ex => ?_⟩
    rw [ej] at ex
    obtain ⟨t1, b1⟩ := fz_pw (a := rd j) (x := k) (by omega) (by omega)
    obtain ⟨t2, b2⟩ := fz_pw (a := fz_g1 ax (ra j) (rb j)) (x := p) (by rw [fz_g1T]; omega) hp
    obtain ⟨t3, b3⟩ := fz_pw (a := fz_g2 ax (rb j) (rc j)) (x := q) (by rw [fz_g2T]; omega) hq
    have u1 : (rd j * k.toInt64 - fz_g1 ax (ra j) (rb j) * p.toInt64).toInt = (rd j * k.toInt64).toInt - (fz_g1 ax (ra j) (rb j) * p.toInt64).toInt := Jvm.Kit.i64_sub (by omega) (by omega)
    have hx0 : x.toInt = (rd j * k.toInt64).toInt - (fz_g1 ax (ra j) (rb j) * p.toInt64).toInt - (fz_g2 ax (rb j) (rc j) * q.toInt64).toInt := by
      rw [ex, Jvm.Kit.i64_sub (by rw [u1]; omega) (by rw [u1]; omega), u1]
    have hxb : -48000 ≤ x.toInt ∧ x.toInt ≤ 48000 := by omega
    have hx : x.toInt = (rd j).toInt * k.toInt - fz_f1 ax (ra j).toInt (rb j).toInt * p.toInt - fz_f2 ax (rb j).toInt (rc j).toInt * q.toInt := by
      rw [hx0, t1, t2, t3, fz_g1T, fz_g2T]
    clear hx0 u1 ex t1 t2 t3 b1 b2 b3
    have step : ∀ (P : Prop) (t : Rat), (P ↔ ((F ∧ Hh t ∧ Hl t) ∧ fz_T (fz_pk ax (ra j).toInt (rb j).toInt (rc j).toInt) x.toInt (¬ (0 : Int32) = 0) t)) →
        (Z t ↔ (P ∧ ∀ i, j + 1 ≤ i → i < R → fz_T (fz_pk ax (ra i).toInt (rb i).toInt (rc i).toInt) ((rd i).toInt * k.toInt - fz_f1 ax (ra i).toInt (rb i).toInt * p.toInt - fz_f2 ax (rb i).toInt (rc i).toInt * q.toInt) (¬ (0 : Int32) = 0) t)) := by
      intro P t h
      rw [h, hx, hZ t]
      refine ⟨fun z => ⟨⟨z.1, z.2 j (Nat.le_refl _) (by omega)⟩, fun k k1 k2 => z.2 k (by omega) k2⟩, fun z => ⟨z.1.1, fun k k1 k2 => ?_⟩⟩
      by_cases ek : k = j
      · subst ek; exact z.1.2
      · exact z.2 k (by omega) k2
    have hown := fz_pkT ax (ra j) (rb j) (rc j)
    refine br_c (fun q1 => br_c (fun q2 => ?_) (fun q2 => ?_)) (fun q1 => ?_)
    · rw [Int64.le_iff_toInt_le, fz_l0, hown] at q1 q2
      have o0 : fz_pk ax (ra j).toInt (rb j).toInt (rc j).toInt = 0 := by omega
      rw [o0] at step
      refine br_c (fun w => nm_r (nI_1 j) ?_) (fun w => br_c (fun w2 => nm_r (nI_1 j) ?_) (fun w2 => nm_r (nI_1 j) ?_))
      · refine ih (j + 1) False 0 Hh Hl _ _ _ _ _ _ _ _ (by omega) (Or.inl rfl) ⟨fun z => absurd z (by decide), fun z => z.elim⟩ hi lo (fun t => step _ t ⟨fun z => z.1.elim, fun z => ?_⟩)
        have := hF.mpr z.1.1
        rw [w] at this
        exact absurd this (by decide)
      · rw [Int64.lt_iff_toInt_lt, fz_l0] at w2
        refine ih (j + 1) False 0 Hh Hl _ _ _ _ _ _ _ _ (by omega) (Or.inl rfl) ⟨fun z => absurd z (by decide), fun z => z.elim⟩ hi lo (fun t => step _ t ⟨fun z => z.1.elim, fun z => ?_⟩)
        have := fz_T0.mp z.2
        omega
      · rw [Int64.lt_iff_toInt_lt, fz_l0] at w2
        have f1 : f = 1 := hf.elim (fun z => absurd z w) id
        refine ih (j + 1) F 1 Hh Hl _ _ _ _ _ _ _ _ (by omega) (Or.inr rfl) ⟨fun _ => hF.mp f1, fun _ => rfl⟩ hi lo (fun t => step _ t ⟨fun z => ⟨z, fz_T0.mpr (by omega)⟩, fun z => z.1⟩)
    · rw [Int64.le_iff_toInt_le, fz_l0, hown] at q1 q2
      have e1 : (-x).toInt = -x.toInt := Jvm.Kit.i64_neg (by omega)
      have e2 : (-(fz_pkL ax (ra j) (rb j) (rc j))).toInt = -(fz_pk ax (ra j).toInt (rb j).toInt (rc j).toInt) := by rw [Jvm.Kit.i64_neg (by rw [hown]; omega), hown]
      refine fz_capLow lo (by rw [e1]; omega) (by rw [e2]; omega) (Or.inl rfl) (fun lt' lb' ol' hc => nm_r (nI_1 j) ?_)
      rw [e1, e2, Int.neg_neg, Int.neg_neg] at hc
      refine ih (j + 1) F f Hh _ _ _ _ _ _ _ _ _ (by omega) hf hF hi hc (fun t => step _ t ⟨fun z => ⟨⟨z.1, z.2.1, z.2.2.1⟩, z.2.2.2⟩, fun z => ⟨z.1.1, z.1.2.1, z.1.2.2, z.2⟩⟩)
    · rw [Int64.le_iff_toInt_le, fz_l0, hown] at q1
      refine fz_capHigh hi (by omega) (by rw [hown]; omega) (Or.inl rfl) (fun ht' hb' oh' hc => nm_r (nI_1 j) ?_)
      rw [hown] at hc
      refine ih (j + 1) F f _ Hl _ _ _ _ _ _ _ _ (by omega) hf hF hc lo (fun t => step _ t ⟨fun z => ⟨⟨z.1, z.2.1.1, z.2.2⟩, z.2.1.2⟩, fun z => ⟨z.1.1, ⟨z.1.2.1, z.2⟩, z.1.2.2⟩⟩)
theorem fz_isShadow {N ax : Nat} (hax : ax < 3) (hok : fz_ok N xsl xli) {p q k : Int32} (hp : -400 ≤ p.toInt ∧ p.toInt ≤ 400) (hq : -400 ≤ q.toInt ∧ q.toInt ≤ 400) (hk : 1 ≤ k.toInt ∧ k.toInt ≤ 20)
    (K : ∀ (r : Int32) (xrn' xhp' : Int32) (ra' rb' rc' rd' : Nat → Int64) (rs' : Nat → Int32) (xhl' xhh' : Int32) (xlt' xlb' xht' xhb' : Int64) (xol' xoh' : Int32), (r = 0 ∨ r = 1) → (r = 1 ↔ ∃ t, fz_S0 N xsl xli (-1) (fz_sh ax p.toInt q.toInt k.toInt t)) → post r (nI N, xrn', xow, xhp', xhl', xhh', xlt', xlb', xht', xhb', xol', xoh', xsl, xli, ra', rb', rc', rd', rs', oa, ob, oc, od, os)) :
    wpX_isShadow post (nI N, xrn, xow, xhp, xhl, xhh, xlt, xlb, xht, xhb, xol, xoh, xsl, xli, ra, rb, rc, rd, rs, oa, ob, oc, od, os) (nI ax) p q k := by
  have one : ¬ (1 : Int32) = 0 := by decide
  have z1 : ¬ (0 : Int32) = 1 := by decide
  refine fz_start (xrn := xrn) (xhp := xhp) hok (D := 40) (by decide) (by decide) (σ := False) (fun n1 xrn' xhp' ra' rb' rc' rd' rs' h1 h2 => ?_)
  obtain ⟨x1, x2, x3, x4⟩ := h2
  subst x1
  have go : ∀ f : Int32, (f = 0 ∨ f = 1) → (f = 1 ↔ xhp' = 0) → ∃ n, wX_isShadow_32 post (nI ax) p q k n f 0 (nI N) (nI n1) xow xhp' 0 0 xlt xlb xht xhb xol xoh xsl xli ra' rb' rc' rd' rs' oa ob oc od os := by
    intro f hf hF
    refine ⟨n1 + 1, fz_sh32 (Z := fun t => fz_S0 N xsl xli (-1) (fz_sh ax p.toInt q.toInt k.toInt t)) hax (by omega) hp hq hk (fun i hi => ?_) (fun t ht => ?_) (fun r xhl' xhh' xlt' xlb' xht' xhb' xol' xoh' g1 g2 => K r _ _ _ _ _ _ _ _ _ _ _ _ _ _ _ g1 g2)
      n1 0 (xhp' = 0) f (fun _ => True) (fun _ => True) _ _ _ _ _ _ _ _ (by omega) hf hF (Or.inl ⟨rfl, fun _ => trivial⟩) (Or.inl ⟨rfl, fun _ => trivial⟩) (fun t => ?_)⟩
    · obtain ⟨⟨y1, y2, y3, y4, -⟩, -⟩ := x3 i hi
      exact ⟨y1, y2, y3, y4⟩
    · exact fz_shB hax (by omega) hk.2 (fz_S0c hax _ ht)
    · rw [← x4]
      have sz : ∀ i, i < n1 → rs' i = 0 := fun i hi => (x3 i hi).1.2.2.2.2.elim id (fun w => absurd w.2 id)
      refine ⟨fun z => ⟨⟨z.1, trivial, trivial⟩, fun i _ hi => (fz_shS hax (by omega)).mp (z.2 i hi).1⟩, fun z => ⟨z.1.1, fun i hi => ⟨(fz_shS hax (by omega)).mpr (z.2 i (Nat.zero_le _) hi), fun w => absurd (sz i hi) w⟩⟩⟩
  refine br_c (fun h0 => ?_) (fun h0 => ?_)
  · exact go 1 (Or.inr rfl) ⟨fun _ => h0, fun _ => rfl⟩
  · exact go 0 (Or.inl rfl) ⟨fun z => absurd z z1, fun z => absurd z h0⟩
end
end
section
/-! X: the loops of support, single, shadowGrid -/
def fz_kp (N : Nat) (sl li : Nat → Int32) (w : Int32) (t : Nat) (d : Int) : Prop := ¬ ∃ p, fz_S0 N sl li w p ∧ (d : Rat) < fz_lin (nI t) p
def fz_flat (N : Nat) (sl li : Nat → Int32) (i : Nat) : Prop := (∃ p, fz_S0 N sl li (-1) p) ∧ ∀ p q, fz_S0 N sl li (-1) p → fz_S0 N sl li (-1) q → p i = q i
theorem fz_flatE {G : (Nat → Rat) → Prop} {i : Nat} {ht hb lt lb : Int64} (h1 : fz_max G i ht hb) (h2 : fz_min G i lt lb) : lt * hb = ht * lb ↔ ∀ p q, G p → G q → p i = q i := by
  obtain ⟨a1, a2, -, ⟨p1, a3, a4⟩, a5⟩ := h1
  obtain ⟨b1, b2, -, ⟨p2, b3, b4⟩, b5⟩ := h2
  have e1 := fz_lmul (x := lt) (y := hb) (A := 1048576) (B := 1048576) b2 (by omega) (by decide)
  have e2 := fz_lmul (x := ht) (y := lb) (A := 1048576) (B := 1048576) a2 (by omega) (by decide)
  have hB : (0 : Rat) < (hb.toInt : Rat) := Rat.intCast_pos.mpr a1.1
  have lB : (0 : Rat) < (lb.toInt : Rat) := Rat.intCast_pos.mpr b1.1
  have ee : lt * hb = ht * lb ↔ (lt.toInt : Rat) * (hb.toInt : Rat) = (ht.toInt : Rat) * (lb.toInt : Rat) := by
    rw [← Int64.toInt_inj, e1, e2, ← Rat.intCast_inj, Rat.intCast_mul, Rat.intCast_mul]
  rw [ee]
  constructor
  · intro h
    have key : ∀ p, G p → (hb.toInt : Rat) * p i = (ht.toInt : Rat) := by
      intro p hp
      have u1 := a5 p hp
      have u2 := b5 p hp
      have m1 := fz_mle hB u2
      have m2 : (lb.toInt : Rat) * (ht.toInt : Rat) ≤ (lb.toInt : Rat) * ((hb.toInt : Rat) * p i) := by grind
      exact Rat.le_antisymm u1 (Rat.le_of_mul_le_mul_left m2 lB)
    intro p q hp hq
    have m : (hb.toInt : Rat) * p i = (hb.toInt : Rat) * q i := (key p hp).trans (key q hq).symm
    exact Rat.le_antisymm (Rat.le_of_mul_le_mul_left (by rw [m]; exact Rat.le_refl) hB) (Rat.le_of_mul_le_mul_left (by rw [m]; exact Rat.le_refl) hB)
  · intro h
    have := h p1 p2 a3 b3
    rw [this] at a4
    rw [← a4, ← b4]
    grind
def fz_im (i : Nat) : Int32 := nI i - nI 10
theorem fz_imT {i : Nat} (h : i < 1000) : (fz_im i).toInt = (i : Int) - 10 := pk_sub_toInt (by omega) (by omega)
theorem fz_imS (i : Nat) : fz_im i + 1 = fz_im (i + 1) := by
  unfold fz_im
  rw [← nI_1 i]
  grind
theorem fz_im0 : (-10 : Int32) = fz_im 0 := by decide +kernel
noncomputable def fz_b (P : Prop) : Int32 := @ite _ P (Classical.propDecidable P) 1 0
theorem fz_bt {P : Prop} (h : P) : fz_b P = 1 := if_pos h
theorem fz_bf {P : Prop} (h : ¬ P) : fz_b P = 0 := if_neg h
def fz_acc (f : Nat → Int32) : Nat → Nat → Int32 → Int32
  | 0, _, s => s
  | m + 1, j, s => fz_acc f m (j + 1) (s + f j)
def fz_grid (g : Nat → Nat → Int32) : Nat → Nat → Int32 → Int32
  | 0, _, s => s
  | m + 1, i, s => fz_grid g m (i + 1) (fz_acc (g i) 21 0 s)
noncomputable def fz_gr (N : Nat) (sl li : Nat → Int32) (ax i j : Nat) : Int32 := fz_b (∃ t, fz_S0 N sl li (-1) (fz_sh ax ((i : Int) - 10) ((j : Int) - 10) 1 t))
section
variable {post : Int32 → SX → Prop} {xcn xrn xow xhp xhl xhh : Int32} {xlt xlb xht xhb : Int64} {xol xoh : Int32} {xsl xli : Nat → Int32} {ra rb rc rd : Nat → Int64} {rs : Nat → Int32} {oa ob oc od : Nat → Int64} {os : Nat → Int32} {N : Nat}
theorem fz_sup34 {t : Nat} (hok : fz_ok N xsl xli) (ht : t ≤ 728)
    (K : ∀ (h : Int32) (xrn' xhp' : Int32) (ra' rb' rc' rd' : Nat → Int64) (rs' : Nat → Int32) (xow' : Int32) (oa' ob' oc' od' : Nat → Int64) (os' : Nat → Int32) (xhl' xhh' : Int32) (xlt' xlb' xht' xhb' : Int64) (xol' xoh' : Int32), (-201 < h.toInt ∧ h.toInt ≤ 200) → fz_kp N xsl xli (-1) t h.toInt → ¬ fz_kp N xsl xli (-1) t (h.toInt - 1) → post h (nI N, xrn', xow', xhp', xhl', xhh', xlt', xlb', xht', xhb', xol', xoh', xsl, xli, ra', rb', rc', rd', rs', oa', ob', oc', od', os')) :
    ∀ (m k : Nat) (lo hi : Int32) (xrn xhp : Int32) (ra rb rc rd : Nat → Int64) (rs : Nat → Int32) (xow : Int32) (oa ob oc od : Nat → Int64) (os : Nat → Int32) (xhl xhh : Int32) (xlt xlb xht xhb : Int64) (xol xoh : Int32), m + k = 9 → -201 ≤ lo.toInt → hi.toInt ≤ 200 → lo.toInt < hi.toInt → hi.toInt - lo.toInt ≤ ((2 ^ m : Nat) : Int) → ¬ fz_kp N xsl xli (-1) t lo.toInt → fz_kp N xsl xli (-1) t hi.toInt →
    wX_support_34 post (nI t) (m + 1) lo hi (nI k) (nI N) xrn xow xhp xhl xhh xlt xlb xht xhb xol xoh xsl xli ra rb rc rd rs oa ob oc od os := by
  have i1 : (1 : Int32).toInt = 1 := by decide
  intro m
  induction m with
  | zero =>
    intro k lo hi xrn xhp ra rb rc rd rs xow oa ob oc od os xhl xhh xlt xlb xht xhb xol xoh hm h1 h2 h3 h4 h5 h6
    have hk : ¬ (10 : Int32) ≤ nI k := nI_ge (b := 10) (by omega) (by decide)
    have e : (hi - lo).toInt = hi.toInt - lo.toInt := Jvm.Kit.i32_sub (by omega) (by omega)
    have w : hi - lo ≤ 1 := by rw [Int32.le_iff_toInt_le, e, i1]; omega
    have w2 : hi.toInt - 1 = lo.toInt := by omega
    exact br_f hk (br_t w (K hi _ _ _ _ _ _ _ _ _ _ _ _ _ _ _ _ _ _ _ _ _ (by omega) h6 (by rw [w2]; exact h5)))
  | succ m ih =>
    intro k lo hi xrn xhp ra rb rc rd rs xow oa ob oc od os xhl xhh xlt xlb xht xhb xol xoh hm h1 h2 h3 h4 h5 h6
    have hk : ¬ (10 : Int32) ≤ nI k := nI_ge (b := 10) (by omega) (by decide)
    have e : (hi - lo).toInt = hi.toInt - lo.toInt := Jvm.Kit.i32_sub (by omega) (by omega)
    have hpow : ((2 ^ (m + 1) : Nat) : Int) = 2 * ((2 ^ m : Nat) : Int) := by rw [Nat.pow_succ]; omega
    have hpos : 0 < ((2 ^ m : Nat) : Int) := by have := Nat.two_pow_pos m; omega
    rw [hpow] at h4
    generalize ((2 ^ m : Nat) : Int) = W at h4 hpos ih
    refine br_f hk (br_c (fun w => ?_) (fun w => fun x ex => ?_))
    · rw [Int32.le_iff_toInt_le, e, i1] at w
      have w2 : hi.toInt - 1 = lo.toInt := by omega
      exact K hi _ _ _ _ _ _ _ _ _ _ _ _ _ _ _ _ _ _ _ _ _ (by omega) h6 (by rw [w2]; exact h5)
    · rw [Int32.le_iff_toInt_le, e, i1] at w
      have ea : (lo + hi).toInt = lo.toInt + hi.toInt := Jvm.Kit.i32_add (by omega) (by omega)
      have hx : x.toInt = (lo.toInt + hi.toInt) / 2 := by
        rw [ex, Jvm.Kit.i32_shr (lo + hi) _ (k := 1) (by decide), ea]
        rfl
      refine fz_kept hok ht (by omega) (fun r xrn' xhp' ra' rb' rc' rd' rs' xow' oa' ob' oc' od' os' xhl' xhh' xlt' xlb' xht' xhb' xol' xoh' g1 g2 => br_c (fun q => nm_r (nI_1 k) ?_) (fun q => nm_r (nI_1 k) ?_))
      · have nk : ¬ fz_kp N xsl xli (-1) t x.toInt := fun z => by
          have := g2.mpr z
          rw [q] at this
          exact absurd this (by decide)
        exact ih (k + 1) x hi _ _ _ _ _ _ _ _ _ _ _ _ _ _ _ _ _ _ _ _ _ (by omega) (by omega) h2 (by omega) (by omega) nk h6
      · have nk : fz_kp N xsl xli (-1) t x.toInt := g2.mp (g1.elim (fun z => absurd z q) id)
        exact ih (k + 1) lo x _ _ _ _ _ _ _ _ _ _ _ _ _ _ _ _ _ _ _ _ _ (by omega) h1 (by omega) (by omega) (by omega) h5 nk
theorem fz_single2 (hok : fz_ok N xsl xli) :
    ∀ (m ax : Nat) (xrn xhp : Int32) (ra rb rc rd : Nat → Int64) (rs : Nat → Int32) (xow : Int32) (oa ob oc od : Nat → Int64) (os : Nat → Int32) (xhl xhh : Int32) (xlt xlb xht xhb : Int64) (xol xoh : Int32), ax + m = 3 → (∀ (r : Int32) (xrn' xhp' : Int32) (ra' rb' rc' rd' : Nat → Int64) (rs' : Nat → Int32) (xow' : Int32) (oa' ob' oc' od' : Nat → Int64) (os' : Nat → Int32) (xhl' xhh' : Int32) (xlt' xlb' xht' xhb' : Int64) (xol' xoh' : Int32), (r = 0 ∨ r = 1) → (r = 1 ↔ ∀ i, ax ≤ i → i < 3 → fz_flat N xsl xli i) → post r (nI N, xrn', xow', xhp', xhl', xhh', xlt', xlb', xht', xhb', xol', xoh', xsl, xli, ra', rb', rc', rd', rs', oa', ob', oc', od', os')) →
    wX_single_2 post (m + 1) (nI ax) (nI N) xrn xow xhp xhl xhh xlt xlb xht xhb xol xoh xsl xli ra rb rc rd rs oa ob oc od os := by
  have z1 : ¬ (0 : Int32) = 1 := by decide
  intro m
  induction m with
  | zero =>
    intro ax xrn xhp ra rb rc rd rs xow oa ob oc od os xhl xhh xlt xlb xht xhb xol xoh hm K
    have e : ax = 3 := by omega
    subst e
    exact br_t (by decide) (K 1 _ _ _ _ _ _ _ _ _ _ _ _ _ _ _ _ _ _ _ _ _ (Or.inr rfl) ⟨fun _ i h1 h2 => by omega, fun _ => rfl⟩)
  | succ m ih =>
    intro ax xrn xhp ra rb rc rd rs xow oa ob oc od os xhl xhh xlt xlb xht xhb xol xoh hm K
    have hlt : ¬ (3 : Int32) ≤ nI ax := nI_ge (b := 3) (by omega) (by decide)
    refine br_f hlt (fz_span (by omega) hok (fun r xrn' xhp' ra' rb' rc' rd' rs' xow' oa' ob' oc' od' os' xhl' xhh' xlt' xlb' xht' xhb' xol' xoh' g1 g2 g3 => br_c (fun q => ?_) (fun q => ?_)))
    · refine K 0 _ _ _ _ _ _ _ _ _ _ _ _ _ _ _ _ _ _ _ _ _ (Or.inl rfl) ⟨fun z => absurd z z1, fun z => ?_⟩
      have := g2.mpr (z ax (Nat.le_refl _) (by omega)).1
      rw [q] at this
      exact absurd this z1
    · have r1 : r = 1 := g1.elim (fun z => absurd z q) id
      obtain ⟨m1, m2⟩ := g3 r1
      have fe := fz_flatE m1 m2
      have ne := g2.mp r1
      refine br_c (fun w => nm_r (nI_1 ax) ?_) (fun w => ?_)
      · have fl : fz_flat N xsl xli ax := ⟨ne, fe.mp w⟩
        refine ih (ax + 1) _ _ _ _ _ _ _ _ _ _ _ _ _ _ _ _ _ _ _ _ _ (by omega) (fun r' xrn'' xhp'' ra'' rb'' rc'' rd'' rs'' xow'' oa'' ob'' oc'' od'' os'' xhl'' xhh'' xlt'' xlb'' xht'' xhb'' xol'' xoh'' k1 k2 => K r' _ _ _ _ _ _ _ _ _ _ _ _ _ _ _ _ _ _ _ _ _ k1 (k2.trans ⟨fun z i i1 i2 => ?_, fun z i i1 i2 => z i (by omega) i2⟩))
        by_cases e : i = ax
        · subst e; exact fl
        · exact z i (by omega) i2
      · exact K 0 _ _ _ _ _ _ _ _ _ _ _ _ _ _ _ _ _ _ _ _ _ (Or.inl rfl) ⟨fun z => absurd z z1, fun z => absurd (fe.mpr (z ax (Nat.le_refl _) (by omega)).2) w⟩
theorem fz_xg24 {J : Int32 → Int32 → Int32 → Int32 → Int32 → Int32 → Int32 → Int32 → Int64 → Int64 → Int64 → Int64 → Int32 → Int32 → (Nat → Int32) → (Nat → Int32) → (Nat → Int64) → (Nat → Int64) → (Nat → Int64) → (Nat → Int64) → (Nat → Int32) → (Nat → Int64) → (Nat → Int64) → (Nat → Int64) → (Nat → Int64) → (Nat → Int32) → Prop}
    {ax i : Nat} (hax : ax < 3) (hi : i ≤ 20) (hok : fz_ok N xsl xli) :
    ∀ (m j : Nat) (s : Int32) (xrn xhp : Int32) (ra rb rc rd : Nat → Int64) (rs : Nat → Int32) (xhl xhh : Int32) (xlt xlb xht xhb : Int64) (xol xoh : Int32), j + m = 21 → (∀ (xrn' xhp' : Int32) (ra' rb' rc' rd' : Nat → Int64) (rs' : Nat → Int32) (xhl' xhh' : Int32) (xlt' xlb' xht' xhb' : Int64) (xol' xoh' : Int32), J (fz_acc (fz_gr N xsl xli ax i) m j s) (fz_im (i + 1)) (nI N) xrn' xow xhp' xhl' xhh' xlt' xlb' xht' xhb' xol' xoh' xsl xli ra' rb' rc' rd' rs' oa ob oc od os) →
    wX_shadowGrid_24 post J (nI ax) (fz_im i) (m + 1) s (fz_im j) (nI N) xrn xow xhp xhl xhh xlt xlb xht xhb xol xoh xsl xli ra rb rc rd rs oa ob oc od os := by
  have i10 : (10 : Int32).toInt = 10 := by decide
  have i1 : (1 : Int32).toInt = 1 := by decide
  intro m
  induction m with
  | zero =>
    intro j s xrn xhp ra rb rc rd rs xhl xhh xlt xlb xht xhb xol xoh hm K
    have h : (10 : Int32) < fz_im j := by rw [Int32.lt_iff_toInt_lt, i10, fz_imT (by omega)]; omega
    exact br_t h (nm_r (fz_imS i) (K _ _ _ _ _ _ _ _ _ _ _ _ _ _ _))
  | succ m ih =>
    intro j s xrn xhp ra rb rc rd rs xhl xhh xlt xlb xht xhb xol xoh hm K
    have h : ¬ (10 : Int32) < fz_im j := by rw [Int32.lt_iff_toInt_lt, i10, fz_imT (by omega)]; omega
    refine br_f h (fz_isShadow hax hok (by rw [fz_imT (by omega)]; omega) (by rw [fz_imT (by omega)]; omega) (by rw [i1]; omega) (fun r xrn' xhp' ra' rb' rc' rd' rs' xhl' xhh' xlt' xlb' xht' xhb' xol' xoh' g1 g2 => ?_))
    rw [fz_imT (by omega), fz_imT (by omega), i1] at g2
    refine br_c (fun q => ?_) (fun q => ?_)
    · have e : fz_gr N xsl xli ax i j = 0 := fz_bf (fun z => by have := g2.mpr z; rw [q] at this; exact absurd this (by decide))
      refine nm_e (nm_r (fz_imS j) (ih (j + 1) _ _ _ _ _ _ _ _ _ _ _ _ _ _ _ _ (by omega) ?_))
      rw [← e]
      exact K
    · have e : fz_gr N xsl xli ax i j = 1 := fz_bt (g2.mp (g1.elim (fun z => absurd z q) id))
      refine nm_e (nm_r (fz_imS j) (ih (j + 1) _ _ _ _ _ _ _ _ _ _ _ _ _ _ _ _ (by omega) ?_))
      rw [← e]
      exact K
theorem fz_xg14 {ax : Nat} (hax : ax < 3) (hok : fz_ok N xsl xli) :
    ∀ (m i : Nat) (s : Int32) (xrn xhp : Int32) (ra rb rc rd : Nat → Int64) (rs : Nat → Int32) (xhl xhh : Int32) (xlt xlb xht xhb : Int64) (xol xoh : Int32), i + m = 21 → (∀ (xrn' xhp' : Int32) (ra' rb' rc' rd' : Nat → Int64) (rs' : Nat → Int32) (xhl' xhh' : Int32) (xlt' xlb' xht' xhb' : Int64) (xol' xoh' : Int32), post (fz_grid (fz_gr N xsl xli ax) m i s) (nI N, xrn', xow, xhp', xhl', xhh', xlt', xlb', xht', xhb', xol', xoh', xsl, xli, ra', rb', rc', rd', rs', oa, ob, oc, od, os)) →
    wX_shadowGrid_14 post (nI ax) (m + 1) s (fz_im i) (nI N) xrn xow xhp xhl xhh xlt xlb xht xhb xol xoh xsl xli ra rb rc rd rs oa ob oc od os := by
  have i10 : (10 : Int32).toInt = 10 := by decide
  intro m
  induction m with
  | zero =>
    intro i s xrn xhp ra rb rc rd rs xhl xhh xlt xlb xht xhb xol xoh hm K
    have h : (10 : Int32) < fz_im i := by rw [Int32.lt_iff_toInt_lt, i10, fz_imT (by omega)]; omega
    exact br_t h (K _ _ _ _ _ _ _ _ _ _ _ _ _ _ _)
  | succ m ih =>
    intro i s xrn xhp ra rb rc rd rs xhl xhh xlt xlb xht xhb xol xoh hm K
    have h : ¬ (10 : Int32) < fz_im i := by rw [Int32.lt_iff_toInt_lt, i10, fz_imT (by omega)]; omega
    refine br_f h ⟨22, ?_⟩
    rw [fz_im0]
    exact fz_xg24 hax (by omega) hok 21 0 s _ _ _ _ _ _ _ _ _ _ _ _ _ _ _ rfl (fun xrn' xhp' ra' rb' rc' rd' rs' xhl' xhh' xlt' xlb' xht' xhb' xol' xoh' => ih (i + 1) _ _ _ _ _ _ _ _ _ _ _ _ _ _ _ _ (by omega) K)
end
end
section
/-! Y: put, take -/
def fz_YR (m : Nat) (ya yb yc yd : Nat → Int32) (G : (Nat → Rat) → Prop) : Prop :=
  (∀ e, e < m → (-4 ≤ (ya e).toInt ∧ (ya e).toInt ≤ 4) ∧ (-4 ≤ (yb e).toInt ∧ (yb e).toInt ≤ 4) ∧ (-4 ≤ (yc e).toInt ∧ (yc e).toInt ≤ 4) ∧ (-40 ≤ (yd e).toInt ∧ (yd e).toInt ≤ 40)) ∧
  (∀ p, (∀ e, e < m → fz_S (ya e).toInt (yb e).toInt (yc e).toInt (yd e).toInt (¬ (0 : Int32) = 0) p) ↔ G p)
theorem fz_YRg {m : Nat} {ya yb yc yd : Nat → Int32} {G G' : (Nat → Rat) → Prop} (h : fz_YR m ya yb yc yd G) (hG : ∀ p, G p ↔ G' p) : fz_YR m ya yb yc yd G' :=
  ⟨h.1, fun p => (h.2 p).trans (hG p)⟩
section
variable {post : SY → Prop} {ycn ymn ypx ypy ypz yun yan : Int32} {ybt ybb : Int64} {ysl yli ya yb yc yd : Nat → Int32} {G : (Nat → Rat) → Prop}
theorem fz_yput {m : Nat} (hm : m < 13) (hY : fz_YR m ya yb yc yd G) {s l : Int32} (ha : -4 ≤ fz_pa s ∧ fz_pa s ≤ 4) (hb : -4 ≤ fz_pb s ∧ fz_pb s ≤ 4) (hc : -4 ≤ fz_pc s ∧ fz_pc s ≤ 4) (hl : -40 ≤ l.toInt ∧ l.toInt ≤ 40)
    (K : ∀ ya' yb' yc' yd' : Nat → Int32, fz_YR (m + 1) ya' yb' yc' yd' (fun p => G p ∧ fz_S (fz_pa s) (fz_pb s) (fz_pc s) l.toInt (¬ (0 : Int32) = 0) p) → post (ycn, nI (m + 1), ypx, ypy, ypz, yun, yan, ybt, ybb, ysl, yli, ya', yb', yc', yd')) :
    wpY_put post (ycn, nI m, ypx, ypy, ypz, yun, yan, ybt, ybb, ysl, yli, ya, yb, yc, yd) s l := by
  have vm : vp_in (nI m) 13 := vp_in_nI hm (by omega)
  have e : (nI m).toNatClampNeg = m := nI_clamp (by omega)
  have t81 : ¬ (81 : Int32) = 0 := by decide
  have t9 : ¬ (9 : Int32) = 0 := by decide
  unfold wpY_put
  dsimp only
  rw [e]
  refine ⟨t81, vm, nm_e ⟨t9, t9, vm, nm_e ⟨t9, vm, nm_e ⟨vm, nm_e (nm_r (nI_1 m) (K _ _ _ _ ?_))⟩⟩⟩⟩
  obtain ⟨h1, h2⟩ := hY
  refine ⟨fun k hk => ?_, fun p => ?_⟩
  · by_cases ek : k = m
    · subst ek
      rw [pk_us, pk_us, pk_us, pk_us]
      exact ⟨ha, hb, hc, hl⟩
    · rw [pk_un ek, pk_un ek, pk_un ek, pk_un ek]
      exact h1 k (by omega)
  · dsimp only
    rw [← h2 p]
    constructor
    · intro q
      refine ⟨fun k hk => ?_, ?_⟩
      · have ek : k ≠ m := by omega
        have := q k (by omega)
        rw [pk_un ek, pk_un ek, pk_un ek, pk_un ek] at this
        exact this
      · have := q m (by omega)
        rw [pk_us, pk_us, pk_us, pk_us] at this
        exact this
    · rintro ⟨q1, q2⟩ k hk
      by_cases ek : k = m
      · subst ek
        rw [pk_us, pk_us, pk_us, pk_us]
        exact q2
      · rw [pk_un ek, pk_un ek, pk_un ek, pk_un ek]
        exact q1 k (by omega)
theorem fz_cubeY {p : Nat → Rat} : ((((((True ∧ fz_S 1 0 0 10 (¬ (0 : Int32) = 0) p) ∧ fz_S (-1) 0 0 10 (¬ (0 : Int32) = 0) p) ∧ fz_S 0 1 0 10 (¬ (0 : Int32) = 0) p) ∧ fz_S 0 (-1) 0 10 (¬ (0 : Int32) = 0) p) ∧ fz_S 0 0 1 10 (¬ (0 : Int32) = 0) p) ∧ fz_S 0 0 (-1) 10 (¬ (0 : Int32) = 0) p) ↔ fz_cube p := by
  rw [← fz_cubeS]
  exact ⟨fun ⟨⟨⟨⟨⟨⟨_, a⟩, b⟩, c⟩, d⟩, e⟩, f⟩ => ⟨⟨⟨⟨⟨⟨trivial, b⟩, d⟩, f⟩, a⟩, c⟩, e⟩, fun ⟨⟨⟨⟨⟨⟨_, b⟩, d⟩, f⟩, a⟩, c⟩, e⟩ => ⟨⟨⟨⟨⟨⟨trivial, a⟩, b⟩, c⟩, d⟩, e⟩, f⟩⟩
theorem fz_take48 {m : Nat} (hm : m ≤ 7) (hY : fz_YR m ya yb yc yd G)
    (K : ∀ ya' yb' yc' yd' : Nat → Int32, fz_YR (m + 6) ya' yb' yc' yd' (fun p => G p ∧ fz_cube p) → post (ycn, nI (m + 6), ypx, ypy, ypz, yun, yan, ybt, ybb, ysl, yli, ya', yb', yc', yd')) : wY_take_48 post ycn (nI m) ypx ypy ypz yun yan ybt ybb ysl yli ya yb yc yd := by
  have t10 : (10 : Int32).toInt = 10 := by decide
  have l10 : -40 ≤ (10 : Int32).toInt ∧ (10 : Int32).toInt ≤ 40 := by decide
  have a1 : fz_pa 445 = 1 ∧ fz_pb 445 = 0 ∧ fz_pc 445 = 0 := by decide +kernel
  have a2 : fz_pa 283 = -1 ∧ fz_pb 283 = 0 ∧ fz_pc 283 = 0 := by decide +kernel
  have a3 : fz_pa 373 = 0 ∧ fz_pb 373 = 1 ∧ fz_pc 373 = 0 := by decide +kernel
  have a4 : fz_pa 355 = 0 ∧ fz_pb 355 = -1 ∧ fz_pc 355 = 0 := by decide +kernel
  have a5 : fz_pa 365 = 0 ∧ fz_pb 365 = 0 ∧ fz_pc 365 = 1 := by decide +kernel
  have a6 : fz_pa 363 = 0 ∧ fz_pb 363 = 0 ∧ fz_pc 363 = -1 := by decide +kernel
  refine fz_yput (by omega) hY (by omega) (by omega) (by omega) l10 (fun ya' yb' yc' yd' h1 => ?_)
  refine fz_yput (by omega) h1 (by omega) (by omega) (by omega) l10 (fun ya'' yb'' yc'' yd'' h2 => ?_)
  refine fz_yput (by omega) h2 (by omega) (by omega) (by omega) l10 (fun ya''' yb''' yc''' yd''' h3 => ?_)
  refine fz_yput (by omega) h3 (by omega) (by omega) (by omega) l10 (fun a b c d h4 => ?_)
  refine fz_yput (by omega) h4 (by omega) (by omega) (by omega) l10 (fun a' b' c' d' h5 => ?_)
  refine fz_yput (by omega) h5 (by omega) (by omega) (by omega) l10 (fun a'' b'' c'' d'' h6 => K _ _ _ _ (fz_YRg h6 fun p => ?_))
  rw [a1.1, a1.2.1, a1.2.2, a2.1, a2.2.1, a2.2.2, a3.1, a3.2.1, a3.2.2, a4.1, a4.2.1, a4.2.2, a5.1, a5.2.1, a5.2.2, a6.1, a6.2.1, a6.2.2, t10, ← fz_cubeY]
  exact ⟨fun ⟨⟨⟨⟨⟨⟨g, a⟩, b⟩, c⟩, d⟩, e⟩, f⟩ => ⟨g, ⟨⟨⟨⟨⟨trivial, a⟩, b⟩, c⟩, d⟩, e⟩, f⟩, fun ⟨g, ⟨⟨⟨⟨⟨_, a⟩, b⟩, c⟩, d⟩, e⟩, f⟩ => ⟨⟨⟨⟨⟨⟨g, a⟩, b⟩, c⟩, d⟩, e⟩, f⟩⟩
theorem fz_take7 {N : Nat} {w : Int32} (hok : fz_ok N ysl yli) :
    ∀ (r j m : Nat) (G : (Nat → Rat) → Prop) (ya yb yc yd : Nat → Int32), j + r = N → m ≤ j → fz_YR m ya yb yc yd G →
    (∀ (m' : Nat) (ya' yb' yc' yd' : Nat → Int32), 6 ≤ m' → m' ≤ 13 → fz_YR m' ya' yb' yc' yd' (fun p => (G p ∧ ∀ k, j ≤ k → k < N → nI k ≠ w → fz_row ysl yli k p) ∧ fz_cube p) → post (nI N, nI m', ypx, ypy, ypz, yun, yan, ybt, ybb, ysl, yli, ya', yb', yc', yd')) →
    wY_take_7 post w (r + 1) (nI j) (nI N) (nI m) ypx ypy ypz yun yan ybt ybb ysl yli ya yb yc yd := by
  have hN := hok.1
  intro r
  induction r with
  | zero =>
    intro j m G ya yb yc yd hj hm hY K
    refine br_t (nI_le (by omega) (by omega)) (fz_take48 (by omega) hY (fun ya' yb' yc' yd' h => K _ _ _ _ _ (by omega) (by omega) (fz_YRg h fun p => ?_)))
    exact ⟨fun z => ⟨⟨z.1, fun k h1 h2 => by omega⟩, z.2⟩, fun z => ⟨z.1.1, z.2⟩⟩
  | succ r ih =>
    intro j m G ya yb yc yd hj hm hY K
    have hlt : ¬ nI N ≤ nI j := nI_ge (by omega) (by omega)
    have h7 : ¬ (7 : Int32) ≤ nI j := nI_ge (b := 7) (by omega) (by decide)
    have vj : vp_in (nI j) 7 := vp_in_nI (by omega) (by omega)
    have e : (nI j).toNatClampNeg = j := nI_clamp (by omega)
    refine br_f hlt (br_f h7 (br_c (fun hw => nm_r (nI_1 j) ?_) (fun hw => ⟨vj, vj, ?_⟩)))
    · refine ih (j + 1) m G _ _ _ _ (by omega) (by omega) hY (fun m' ya' yb' yc' yd' g1 g2 g3 => K m' _ _ _ _ g1 g2 (fz_YRg g3 fun p => ?_))
      refine ⟨fun z => ⟨⟨z.1.1, fun k k1 k2 k3 => ?_⟩, z.2⟩, fun z => ⟨⟨z.1.1, fun k k1 k2 k3 => z.1.2 k (by omega) k2 k3⟩, z.2⟩⟩
      by_cases ek : k = j
      · subst ek; exact absurd hw k3
      · exact z.1.2 k (by omega) k2 k3
    · rw [e]
      obtain ⟨⟨t, ht, es⟩, hl⟩ := hok.2 j (by omega)
      have hr := fz_par ht
      rw [← es] at hr
      refine fz_yput (by omega) hY hr.1 hr.2.1 hr.2.2 hl (fun ya' yb' yc' yd' h => nm_r (nI_1 j) ?_)
      refine ih (j + 1) (m + 1) _ _ _ _ _ (by omega) (by omega) h (fun m' ya'' yb'' yc'' yd'' g1 g2 g3 => K m' _ _ _ _ g1 g2 (fz_YRg g3 fun p => ?_))
      refine ⟨fun z => ⟨⟨z.1.1.1, fun k k1 k2 k3 => ?_⟩, z.2⟩, fun z => ⟨⟨⟨z.1.1, z.1.2 j (by omega) (by omega) hw⟩, fun k k1 k2 k3 => z.1.2 k (by omega) k2 k3⟩, z.2⟩⟩
      by_cases ek : k = j
      · subst ek; exact z.1.1.2
      · exact z.1.2 k (by omega) k2 k3
theorem fz_take {N : Nat} {w : Int32} (hok : fz_ok N ysl yli)
    (K : ∀ (m : Nat) (ya' yb' yc' yd' : Nat → Int32), 6 ≤ m → m ≤ 13 → fz_YR m ya' yb' yc' yd' (fz_S0 N ysl yli w) → post (nI N, nI m, ypx, ypy, ypz, yun, yan, ybt, ybb, ysl, yli, ya', yb', yc', yd')) :
    wpY_take post (nI N, ymn, ypx, ypy, ypz, yun, yan, ybt, ybb, ysl, yli, ya, yb, yc, yd) w := by
  refine ⟨N + 1, fz_take7 hok N 0 0 (fun _ => True) _ _ _ _ (by omega) (by omega) ⟨fun k hk => absurd hk (Nat.not_lt_zero k), fun p => ⟨fun _ => trivial, fun _ k hk => absurd hk (Nat.not_lt_zero k)⟩⟩ (fun m' ya' yb' yc' yd' g1 g2 g3 => K m' _ _ _ _ g1 g2 (fz_YRg g3 fun p => ?_))⟩
  exact ⟨fun z => ⟨z.2, fun k k1 k2 => z.1.2 k (Nat.zero_le _) k1 k2⟩, fun z => ⟨⟨trivial, fun k _ k1 k2 => z.2 k k1 k2⟩, z.1⟩⟩
end
end
section
/-! Y: three, corner -/
def fz_D3 (p s v q t w r u x : Int) : Int := (p * ((t * x) - (w * u))) - (s * ((q * x) - (w * r))) + (v * ((q * u) - (t * r)))
theorem fz_D3r (p s v q t w r u x : Int) : ((fz_D3 p s v q t w r u x : Int) : Rat) = fz_det p s v q t w r u x := by
  unfold fz_D3 fz_det
  simp only [Rat.intCast_add, Rat.intCast_sub, Rat.intCast_mul]
theorem fz_i2 {a b c d : Int32} (ha : -40 ≤ a.toInt ∧ a.toInt ≤ 40) (hb : -40 ≤ b.toInt ∧ b.toInt ≤ 40) (hc : -40 ≤ c.toInt ∧ c.toInt ≤ 40) (hd : -40 ≤ d.toInt ∧ d.toInt ≤ 40) :
    (a * b - c * d).toInt = a.toInt * b.toInt - c.toInt * d.toInt ∧ (-3200 ≤ (a * b - c * d).toInt ∧ (a * b - c * d).toInt ≤ 3200) := by
  have m1 := fz_abm ha hb
  have m2 := fz_abm hc hd
  have p1 := fz_imul ha hb (by decide)
  have p2 := fz_imul hc hd (by decide)
  have e : (a * b - c * d).toInt = a.toInt * b.toInt - c.toInt * d.toInt := by
    rw [Jvm.Kit.i32_sub (by rw [p1, p2]; omega) (by rw [p1, p2]; omega), p1, p2]
  rw [e]
  exact ⟨rfl, by omega⟩
theorem fz_i3 {p s v q t w r u x : Int32} (h1 : -40 ≤ p.toInt ∧ p.toInt ≤ 40) (h2 : -40 ≤ s.toInt ∧ s.toInt ≤ 40) (h3 : -40 ≤ v.toInt ∧ v.toInt ≤ 40) (h4 : -40 ≤ q.toInt ∧ q.toInt ≤ 40) (h5 : -40 ≤ t.toInt ∧ t.toInt ≤ 40) (h6 : -40 ≤ w.toInt ∧ w.toInt ≤ 40)
    (h7 : -40 ≤ r.toInt ∧ r.toInt ≤ 40) (h8 : -40 ≤ u.toInt ∧ u.toInt ≤ 40) (h9 : -40 ≤ x.toInt ∧ x.toInt ≤ 40) :
    (((p * ((t * x) - (w * u))) - (s * ((q * x) - (w * r)))) + (v * ((q * u) - (t * r)))).toInt = fz_D3 p.toInt s.toInt v.toInt q.toInt t.toInt w.toInt r.toInt u.toInt x.toInt ∧
    (-384000 ≤ fz_D3 p.toInt s.toInt v.toInt q.toInt t.toInt w.toInt r.toInt u.toInt x.toInt ∧ fz_D3 p.toInt s.toInt v.toInt q.toInt t.toInt w.toInt r.toInt u.toInt x.toInt ≤ 384000) := by
  obtain ⟨a1, a2⟩ := fz_i2 h5 h9 h6 h8
  obtain ⟨b1, b2⟩ := fz_i2 h4 h9 h6 h7
  obtain ⟨c1, c2⟩ := fz_i2 h4 h8 h5 h7
  have m1 := fz_abm h1 a2
  have m2 := fz_abm h2 b2
  have m3 := fz_abm h3 c2
  have p1 := fz_imul h1 a2 (by decide)
  have p2 := fz_imul h2 b2 (by decide)
  have p3 := fz_imul h3 c2 (by decide)
  have q1 : (p * (t * x - w * u) - s * (q * x - w * r)).toInt = (p * (t * x - w * u)).toInt - (s * (q * x - w * r)).toInt := Jvm.Kit.i32_sub (by omega) (by omega)
  have q2 : (p * (t * x - w * u) - s * (q * x - w * r) + v * (q * u - t * r)).toInt = (p * (t * x - w * u) - s * (q * x - w * r)).toInt + (v * (q * u - t * r)).toInt := Jvm.Kit.i32_add (by rw [q1]; omega) (by rw [q1]; omega)
  have e : (p * (t * x - w * u) - s * (q * x - w * r) + v * (q * u - t * r)).toInt = fz_D3 p.toInt s.toInt v.toInt q.toInt t.toInt w.toInt r.toInt u.toInt x.toInt := by
    rw [q2, q1, p1, p2, p3, a1, b1, c1]
    rfl
  refine ⟨e, ?_⟩
  rw [← e, q2, q1]
  omega
section
variable {post : Int32 → Prop} {ycn ymn ypx ypy ypz yun yan : Int32} {ybt ybb : Int64} {ysl yli ya yb yc yd : Nat → Int32} {G : (Nat → Rat) → Prop} {i j k m : Nat}
def fz_yb (m : Nat) (A : Nat → Int32) : Prop := ∀ e, e < m → -40 ≤ (A e).toInt ∧ (A e).toInt ≤ 40
def fz_DD (A B C : Nat → Int32) (i j k : Nat) : Int := fz_D3 (A i).toInt (B i).toInt (C i).toInt (A j).toInt (B j).toInt (C j).toInt (A k).toInt (B k).toInt (C k).toInt
theorem fz_three3 (hm : m ≤ 13) (hi : i < m) (hj : j < m) (hk : k < m) (ba : fz_yb m ya) (bb : fz_yb m yb) (bc : fz_yb m yc)
    (K : ∀ r : Int32, r.toInt = fz_DD ya yb yc i j k → (-384000 ≤ r.toInt ∧ r.toInt ≤ 384000) → post r) : wpY_three post (ycn, ymn, ypx, ypy, ypz, yun, yan, ybt, ybb, ysl, yli, ya, yb, yc, yd) (nI i) (nI j) (nI k) 3 := by
  have vi : vp_in (nI i) 13 := vp_in_nI (by omega) (by omega)
  have vj : vp_in (nI j) 13 := vp_in_nI (by omega) (by omega)
  have vk : vp_in (nI k) 13 := vp_in_nI (by omega) (by omega)
  have ei : (nI i).toNatClampNeg = i := nI_clamp (by omega)
  have ej : (nI j).toNatClampNeg = j := nI_clamp (by omega)
  have ek : (nI k).toNatClampNeg = k := nI_clamp (by omega)
  refine br_f (by decide) ⟨vi, br_f (by decide) ⟨vj, br_f (by decide) ⟨vk, br_f (by decide) ⟨vi, br_f (by decide) ⟨vj, br_f (by decide) ⟨vk, br_f (by decide) ⟨vi, br_f (by decide) ⟨vj, br_f (by decide) ⟨vk, ?_⟩⟩⟩⟩⟩⟩⟩⟩⟩
  rw [ei, ej, ek]
  obtain ⟨e, b⟩ := fz_i3 (ba i hi) (bb i hi) (bc i hi) (ba j hj) (bb j hj) (bc j hj) (ba k hk) (bb k hk) (bc k hk)
  exact K _ e (by rw [e]; exact b)
theorem fz_three0 (hm : m ≤ 13) (hi : i < m) (hj : j < m) (hk : k < m) (ba : fz_yb m yd) (bb : fz_yb m yb) (bc : fz_yb m yc)
    (K : ∀ r : Int32, r.toInt = fz_DD yd yb yc i j k → (-384000 ≤ r.toInt ∧ r.toInt ≤ 384000) → post r) : wpY_three post (ycn, ymn, ypx, ypy, ypz, yun, yan, ybt, ybb, ysl, yli, ya, yb, yc, yd) (nI i) (nI j) (nI k) 0 := by
  have vi : vp_in (nI i) 13 := vp_in_nI (by omega) (by omega)
  have vj : vp_in (nI j) 13 := vp_in_nI (by omega) (by omega)
  have vk : vp_in (nI k) 13 := vp_in_nI (by omega) (by omega)
  have ei : (nI i).toNatClampNeg = i := nI_clamp (by omega)
  have ej : (nI j).toNatClampNeg = j := nI_clamp (by omega)
  have ek : (nI k).toNatClampNeg = k := nI_clamp (by omega)
  refine br_t rfl ⟨vi, br_t rfl ⟨vj, br_t rfl ⟨vk, br_f (by decide) ⟨vi, br_f (by decide) ⟨vj, br_f (by decide) ⟨vk, br_f (by decide) ⟨vi, br_f (by decide) ⟨vj, br_f (by decide) ⟨vk, ?_⟩⟩⟩⟩⟩⟩⟩⟩⟩
  rw [ei, ej, ek]
  obtain ⟨e, b⟩ := fz_i3 (ba i hi) (bb i hi) (bc i hi) (ba j hj) (bb j hj) (bc j hj) (ba k hk) (bb k hk) (bc k hk)
  exact K _ e (by rw [e]; exact b)
theorem fz_three1 (hm : m ≤ 13) (hi : i < m) (hj : j < m) (hk : k < m) (ba : fz_yb m ya) (bb : fz_yb m yd) (bc : fz_yb m yc)
    (K : ∀ r : Int32, r.toInt = fz_DD ya yd yc i j k → (-384000 ≤ r.toInt ∧ r.toInt ≤ 384000) → post r) : wpY_three post (ycn, ymn, ypx, ypy, ypz, yun, yan, ybt, ybb, ysl, yli, ya, yb, yc, yd) (nI i) (nI j) (nI k) 1 := by
  have vi : vp_in (nI i) 13 := vp_in_nI (by omega) (by omega)
  have vj : vp_in (nI j) 13 := vp_in_nI (by omega) (by omega)
  have vk : vp_in (nI k) 13 := vp_in_nI (by omega) (by omega)
  have ei : (nI i).toNatClampNeg = i := nI_clamp (by omega)
  have ej : (nI j).toNatClampNeg = j := nI_clamp (by omega)
  have ek : (nI k).toNatClampNeg = k := nI_clamp (by omega)
  refine br_f (by decide) ⟨vi, br_f (by decide) ⟨vj, br_f (by decide) ⟨vk, br_t rfl ⟨vi, br_t rfl ⟨vj, br_t rfl ⟨vk, br_f (by decide) ⟨vi, br_f (by decide) ⟨vj, br_f (by decide) ⟨vk, ?_⟩⟩⟩⟩⟩⟩⟩⟩⟩
  rw [ei, ej, ek]
  obtain ⟨e, b⟩ := fz_i3 (ba i hi) (bb i hi) (bc i hi) (ba j hj) (bb j hj) (bc j hj) (ba k hk) (bb k hk) (bc k hk)
  exact K _ e (by rw [e]; exact b)
theorem fz_three2 (hm : m ≤ 13) (hi : i < m) (hj : j < m) (hk : k < m) (ba : fz_yb m ya) (bb : fz_yb m yb) (bc : fz_yb m yd)
    (K : ∀ r : Int32, r.toInt = fz_DD ya yb yd i j k → (-384000 ≤ r.toInt ∧ r.toInt ≤ 384000) → post r) : wpY_three post (ycn, ymn, ypx, ypy, ypz, yun, yan, ybt, ybb, ysl, yli, ya, yb, yc, yd) (nI i) (nI j) (nI k) 2 := by
  have vi : vp_in (nI i) 13 := vp_in_nI (by omega) (by omega)
  have vj : vp_in (nI j) 13 := vp_in_nI (by omega) (by omega)
  have vk : vp_in (nI k) 13 := vp_in_nI (by omega) (by omega)
  have ei : (nI i).toNatClampNeg = i := nI_clamp (by omega)
  have ej : (nI j).toNatClampNeg = j := nI_clamp (by omega)
  have ek : (nI k).toNatClampNeg = k := nI_clamp (by omega)
  refine br_f (by decide) ⟨vi, br_f (by decide) ⟨vj, br_f (by decide) ⟨vk, br_f (by decide) ⟨vi, br_f (by decide) ⟨vj, br_f (by decide) ⟨vk, br_t rfl ⟨vi, br_t rfl ⟨vj, br_t rfl ⟨vk, ?_⟩⟩⟩⟩⟩⟩⟩⟩⟩
  rw [ei, ej, ek]
  obtain ⟨e, b⟩ := fz_i3 (ba i hi) (bb i hi) (bc i hi) (ba j hj) (bb j hj) (bc j hj) (ba k hk) (bb k hk) (bc k hk)
  exact K _ e (by rw [e]; exact b)
end
/-- p lies on border e -/
def fz_ac (ya yb yc yd : Nat → Int32) (e : Nat) (p : Nat → Rat) : Prop := ((ya e).toInt : Rat) * p 0 + ((yb e).toInt : Rat) * p 1 + ((yc e).toInt : Rat) * p 2 = ((yd e).toInt : Rat)
theorem fz_acC {ya yb yc yd : Nat → Int32} {i j k : Nat} {p : Nat → Rat} (h1 : fz_ac ya yb yc yd i p) (h2 : fz_ac ya yb yc yd j p) (h3 : fz_ac ya yb yc yd k p) :
    (fz_DD yd yb yc i j k : Rat) = (fz_DD ya yb yc i j k : Rat) * p 0 ∧ (fz_DD ya yd yc i j k : Rat) = (fz_DD ya yb yc i j k : Rat) * p 1 ∧ (fz_DD ya yb yd i j k : Rat) = (fz_DD ya yb yc i j k : Rat) * p 2 := by
  unfold fz_DD
  rw [fz_D3r, fz_D3r, fz_D3r, fz_D3r]
  exact fz_cram h1 h2 h3
section
variable {post : Int32 → SY → Prop} {ycn ymn ypx ypy ypz yun yan : Int32} {ybt ybb : Int64} {ysl yli ya yb yc yd : Nat → Int32} {G : (Nat → Rat) → Prop} {i j k m : Nat}
theorem fz_corner86 (hm : m ≤ 13) (hY : fz_YR m ya yb yc yd G) (hx : -384000 ≤ ypx.toInt ∧ ypx.toInt ≤ 384000) (hy : -384000 ≤ ypy.toInt ∧ ypy.toInt ≤ 384000) (hz : -384000 ≤ ypz.toInt ∧ ypz.toInt ≤ 384000) (hu : 0 < yun.toInt ∧ yun.toInt ≤ 384000)
    (K0 : ¬ G (fz_pt ypx.toInt ypy.toInt ypz.toInt yun.toInt) → post 0 (ycn, nI m, ypx, ypy, ypz, yun, yan, ybt, ybb, ysl, yli, ya, yb, yc, yd)) (K1 : G (fz_pt ypx.toInt ypy.toInt ypz.toInt yun.toInt) → post 1 (ycn, nI m, ypx, ypy, ypz, yun, yan, ybt, ybb, ysl, yli, ya, yb, yc, yd)) :
    ∀ r e : Nat, e + r = m → (∀ e', e' < e → fz_S (ya e').toInt (yb e').toInt (yc e').toInt (yd e').toInt (¬ (0 : Int32) = 0) (fz_pt ypx.toInt ypy.toInt ypz.toInt yun.toInt)) → wY_corner_86 post ycn (nI m) ypx ypy ypz yun yan ybt ybb ysl yli ya yb yc yd (r + 1) (nI e) := by
  intro r
  induction r with
  | zero =>
    intro e he hs
    have ee : e = m := by omega
    subst ee
    exact br_t (nI_le (Nat.le_refl _) (by omega)) (K1 ((hY.2 _).mp hs))
  | succ r ih =>
    intro e he hs
    have hlt : ¬ nI m ≤ nI e := nI_ge (by omega) (by omega)
    have h13 : ¬ (13 : Int32) ≤ nI e := nI_ge (b := 13) (by omega) (by decide)
    have ve : vp_in (nI e) 13 := vp_in_nI (by omega) (by omega)
    have ee : (nI e).toNatClampNeg = e := nI_clamp (by omega)
    obtain ⟨a1, a2, a3, a4⟩ := hY.1 e (by omega)
    have m1 := fz_abm a1 hx
    have m2 := fz_abm a2 hy
    have m3 := fz_abm a3 hz
    have m4 := fz_abm (y := yun.toInt) (B := 384000) a4 (by omega)
    have p1 := fz_imul a1 hx (by decide)
    have p2 := fz_imul a2 hy (by decide)
    have p3 := fz_imul a3 hz (by decide)
    have p4 := fz_imul (y := yun) (B := 384000) a4 (by omega) (by decide)
    have s1 : (ya e * ypx + yb e * ypy).toInt = (ya e * ypx).toInt + (yb e * ypy).toInt := Jvm.Kit.i32_add (by omega) (by omega)
    have s2 : (ya e * ypx + yb e * ypy + yc e * ypz).toInt = (ya e * ypx + yb e * ypy).toInt + (yc e * ypz).toInt := Jvm.Kit.i32_add (by rw [s1]; omega) (by rw [s1]; omega)
    have key : (ya e * ypx + yb e * ypy + yc e * ypz ≤ yd e * yun) ↔ fz_S (ya e).toInt (yb e).toInt (yc e).toInt (yd e).toInt (¬ (0 : Int32) = 0) (fz_pt ypx.toInt ypy.toInt ypz.toInt yun.toInt) := by
      rw [Int32.le_iff_toInt_le, s2, s1, p1, p2, p3, p4, fz_Se, fz_ptS hu.1]
    refine br_f hlt (br_f h13 ⟨ve, ve, ve, ve, ?_⟩)
    rw [ee]
    refine br_c (fun h => nm_r (nI_1 e) (ih (e + 1) (by omega) (fun e' he' => ?_))) (fun h => K0 (fun g => h (key.mpr ((hY.2 _).mpr g e (by omega)))))
    by_cases q : e' = e
    · subst q; exact key.mp h
    · exact hs e' (by omega)
/-- points that agree in the three coordinates lie in the same rows -/
theorem fz_YRe (hY : fz_YR m ya yb yc yd G) {p q : Nat → Rat} (h0 : p 0 = q 0) (h1 : p 1 = q 1) (h2 : p 2 = q 2) (hp : G p) : G q := by
  refine (hY.2 q).mp (fun e he => ?_)
  have := (hY.2 p).mpr hp e he
  unfold fz_S at this ⊢
  rw [← h0, ← h1, ← h2]
  exact this
theorem fz_corner (hm : m ≤ 13) (hi : i < m) (hj : j < m) (hk : k < m) (hY : fz_YR m ya yb yc yd G)
    (K0 : ∀ (ypx' ypy' ypz' yun' : Int32), (∀ p, fz_DD ya yb yc i j k ≠ 0 → fz_ac ya yb yc yd i p → fz_ac ya yb yc yd j p → fz_ac ya yb yc yd k p → ¬ G p) → post 0 (ycn, nI m, ypx', ypy', ypz', yun', yan, ybt, ybb, ysl, yli, ya, yb, yc, yd))
    (K1 : ∀ (ypx' ypy' ypz' yun' : Int32), (0 < yun'.toInt ∧ yun'.toInt ≤ 384000) → (-384000 ≤ ypx'.toInt ∧ ypx'.toInt ≤ 384000) → (-384000 ≤ ypy'.toInt ∧ ypy'.toInt ≤ 384000) → (-384000 ≤ ypz'.toInt ∧ ypz'.toInt ≤ 384000) →
      G (fz_pt ypx'.toInt ypy'.toInt ypz'.toInt yun'.toInt) →
      (∀ p, fz_ac ya yb yc yd i p → fz_ac ya yb yc yd j p → fz_ac ya yb yc yd k p → (yun'.toInt : Rat) * p 0 = (ypx'.toInt : Rat) ∧ (yun'.toInt : Rat) * p 1 = (ypy'.toInt : Rat) ∧ (yun'.toInt : Rat) * p 2 = (ypz'.toInt : Rat)) → post 1 (ycn, nI m, ypx', ypy', ypz', yun', yan, ybt, ybb, ysl, yli, ya, yb, yc, yd)) :
    wpY_corner post (ycn, nI m, ypx, ypy, ypz, yun, yan, ybt, ybb, ysl, yli, ya, yb, yc, yd) (nI i) (nI j) (nI k) := by
  have ba : fz_yb m ya := fun e he => by have := (hY.1 e he).1; omega
  have bb : fz_yb m yb := fun e he => by have := (hY.1 e he).2.1; omega
  have bc : fz_yb m yc := fun e he => by have := (hY.1 e he).2.2.1; omega
  have bd : fz_yb m yd := fun e he => (hY.1 e he).2.2.2
  have i0 : (0 : Int32).toInt = 0 := by decide
  refine fz_three3 hm hi hj hk ba bb bc (fun det ed bdet => br_c (fun z => ?_) (fun z => ?_))
  · refine K0 _ _ _ _ (fun p q => ?_)
    rw [← ed, z] at q
    exact absurd i0 q
  · have hdet : det.toInt ≠ 0 := fun w => z (Int32.toInt_inj.mp (w.trans i0.symm))
    have go : ∀ s : Int32, (s.toInt = 1 ∨ s.toInt = -1) → 0 < s.toInt * det.toInt → wY_corner_27 post (nI i) (nI j) (nI k) det s ycn (nI m) ypx ypy ypz yun yan ybt ybb ysl yli ya yb yc yd := by
      intro s hs hpos
      have sm : ∀ x : Int32, (-384000 ≤ x.toInt ∧ x.toInt ≤ 384000) → (s * x).toInt = s.toInt * x.toInt ∧ (-384000 ≤ (s * x).toInt ∧ (s * x).toInt ≤ 384000) := by
        intro x hx
        have e : (s * x).toInt = s.toInt * x.toInt := fz_imul (A := 1) (B := 384000) (by omega) hx (by decide)
        refine ⟨e, ?_⟩
        rw [e]
        rcases hs with w | w <;> rw [w] <;> omega
      refine fun un eun => fz_three0 hm hi hj hk bd bb bc (fun r0 e0 b0 => fun px epx => fz_three1 hm hi hj hk ba bd bc (fun r1 e1 b1 => fun py epy => fz_three2 hm hi hj hk ba bb bd (fun r2 e2 b2 => fun pz epz => ⟨m + 1, ?_⟩)))
      obtain ⟨u1, u2⟩ := sm det bdet
      obtain ⟨x1, x2⟩ := sm r0 b0
      obtain ⟨y1, y2⟩ := sm r1 b1
      obtain ⟨z1, z2⟩ := sm r2 b2
      rw [← eun] at u1 u2
      rw [← epx] at x1 x2
      rw [← epy] at y1 y2
      rw [← epz] at z1 z2
      have un0 : 0 < un.toInt := by rw [u1]; exact hpos
      have cr : ∀ p, fz_ac ya yb yc yd i p → fz_ac ya yb yc yd j p → fz_ac ya yb yc yd k p → (un.toInt : Rat) * p 0 = (px.toInt : Rat) ∧ (un.toInt : Rat) * p 1 = (py.toInt : Rat) ∧ (un.toInt : Rat) * p 2 = (pz.toInt : Rat) := by
        intro p h1 h2 h3
        obtain ⟨c0, c1, c2⟩ := fz_acC h1 h2 h3
        rw [u1, x1, y1, z1, ed, e0, e1, e2, Rat.intCast_mul, Rat.intCast_mul, Rat.intCast_mul, Rat.intCast_mul, c0, c1, c2]
        exact ⟨Rat.mul_assoc _ _ _, Rat.mul_assoc _ _ _, Rat.mul_assoc _ _ _⟩
      refine fz_corner86 hm hY x2 y2 z2 (by omega) (fun ng => K0 _ _ _ _ (fun p _ h1 h2 h3 gp => ng ?_)) (fun g => K1 _ _ _ _ (by omega) x2 y2 z2 g cr) m 0 (by omega) (fun e' he' => absurd he' (Nat.not_lt_zero _))
      obtain ⟨c0, c1, c2⟩ := cr p h1 h2 h3
      have hU : (0 : Rat) < (un.toInt : Rat) := Rat.intCast_pos.mpr un0
      have hd : ∀ a b : Rat, (un.toInt : Rat) * a = b → a = b / (un.toInt : Rat) := fun a b h => by
        rw [← h, Rat.mul_comm, Rat.mul_div_cancel (by grind)]
      exact fz_YRe hY (hd _ _ c0) (hd _ _ c1) (hd _ _ c2) gp
    refine br_c (fun h => go 1 (Or.inl (by decide)) ?_) (fun h => go (-1) (Or.inr (by decide)) ?_)
    · rw [Int32.le_iff_toInt_le, i0] at h
      have : (1 : Int32).toInt = 1 := by decide
      rw [this]
      omega
    · rw [Int32.le_iff_toInt_le, i0] at h
      have : (-1 : Int32).toInt = -1 := by decide
      rw [this]
      omega
end
end
section
/-! Y: search -/
def fz_L (u v w : Int) (p : Nat → Rat) : Rat := (u : Rat) * p 0 + (v : Rat) * p 1 + (w : Rat) * p 2
def fz_opt (G : (Nat → Rat) → Prop) (u v w : Int) (bt bb : Int64) : Prop := (0 < bb.toInt ∧ bb.toInt ≤ 384000) ∧ (-4608000 ≤ bt.toInt ∧ bt.toInt ≤ 4608000) ∧
  (∃ p, G p ∧ (bb.toInt : Rat) * fz_L u v w p = (bt.toInt : Rat)) ∧ ∀ p, G p → (bb.toInt : Rat) * fz_L u v w p ≤ (bt.toInt : Rat)
/-- p is the corner of a code -/
def fz_cn (m : Nat) (ya yb yc yd : Nat → Int32) (G : (Nat → Rat) → Prop) (c : Nat) (p : Nat → Rat) : Prop :=
  c % m < c / m % m ∧ c / m % m < c / m / m ∧ fz_DD ya yb yc (c % m) (c / m % m) (c / m / m) ≠ 0 ∧ fz_ac ya yb yc yd (c % m) p ∧ fz_ac ya yb yc yd (c / m % m) p ∧ fz_ac ya yb yc yd (c / m / m) p ∧ G p
def fz_inv (m : Nat) (ya yb yc yd : Nat → Int32) (G : (Nat → Rat) → Prop) (u v w : Int) (c : Nat) (an : Int32) (bt bb : Int64) : Prop :=
  (an = 0 ∧ ∀ c', c' < c → ∀ p, ¬ fz_cn m ya yb yc yd G c' p) ∨
  (an = 1 ∧ (0 < bb.toInt ∧ bb.toInt ≤ 384000) ∧ (-4608000 ≤ bt.toInt ∧ bt.toInt ≤ 4608000) ∧ (∃ p, G p ∧ (bb.toInt : Rat) * fz_L u v w p = (bt.toInt : Rat)) ∧
    ∀ c', c' < c → ∀ p, fz_cn m ya yb yc yd G c' p → (bb.toInt : Rat) * fz_L u v w p ≤ (bt.toInt : Rat))
theorem fz_lt1 {P : Nat → Prop} {c : Nat} (h : ∀ c', c' < c → P c') (hc : P c) : ∀ c', c' < c + 1 → P c' := fun c' h' => by
  by_cases e : c' = c
  · subst e; exact hc
  · exact h c' (by omega)
theorem fz_invS {m : Nat} {ya yb yc yd : Nat → Int32} {G : (Nat → Rat) → Prop} {u v w : Int} {c : Nat} {an : Int32} {bt bb : Int64} (h : fz_inv m ya yb yc yd G u v w c an bt bb) (hn : ∀ p, ¬ fz_cn m ya yb yc yd G c p) :
    fz_inv m ya yb yc yd G u v w (c + 1) an bt bb := by
  rcases h with ⟨h1, h2⟩ | ⟨h1, h2, h3, h4, h5⟩
  · exact Or.inl ⟨h1, fz_lt1 h2 hn⟩
  · exact Or.inr ⟨h1, h2, h3, h4, fz_lt1 h5 (fun p hp => absurd hp (hn p))⟩
theorem fz_code {m i j k : Nat} (hi : i < m) (hj : j < m) (hk : k < m) : ∃ c, c < m * m * m ∧ c % m = i ∧ c / m % m = j ∧ c / m / m = k := by
  have hm : 0 < m := by omega
  refine ⟨i + m * (j + m * k), ?_, ?_, ?_, ?_⟩
  · have h1 : m * k ≤ m * (m - 1) := Nat.mul_le_mul_left m (by omega)
    have h2 : m * (m - 1) + m = m * m := by
      obtain ⟨q, rfl⟩ : ∃ q, m = q + 1 := ⟨m - 1, by omega⟩
      rw [Nat.add_sub_cancel, Nat.mul_succ (q + 1) q]
    have h3 : j + m * k + 1 ≤ m * m := by omega
    have h4 : m * (j + m * k + 1) ≤ m * (m * m) := Nat.mul_le_mul_left m h3
    have h5 : m * (j + m * k + 1) = m * (j + m * k) + m := Nat.mul_succ _ _
    have h6 : m * (m * m) = m * m * m := (Nat.mul_assoc m m m).symm
    omega
  · rw [Nat.add_mul_mod_self_left, Nat.mod_eq_of_lt hi]
  · rw [Nat.add_mul_div_left _ _ hm, Nat.div_eq_of_lt hi, Nat.zero_add, Nat.add_mul_mod_self_left, Nat.mod_eq_of_lt hj]
  · rw [Nat.add_mul_div_left _ _ hm, Nat.div_eq_of_lt hi, Nat.zero_add, Nat.add_mul_div_left _ _ hm, Nat.div_eq_of_lt hj, Nat.zero_add]
/-- at the end of the search the best corner is the best point -/
theorem fz_invE {m : Nat} {ya yb yc yd : Nat → Int32} {G : (Nat → Rat) → Prop} (hY : fz_YR m ya yb yc yd G) (hc : ∀ p, G p → fz_cube p) {u v w : Int} {c : Nat} {an : Int32} {bt bb : Int64} (hc3 : m * m * m ≤ c)
    (h : fz_inv m ya yb yc yd G u v w c an bt bb) : (an = 0 ∧ ¬ ∃ p, G p) ∨ (an = 1 ∧ fz_opt G u v w bt bb) := by
  have key : ∀ q, G q → ∃ c', c' < c ∧ ∃ p, fz_cn m ya yb yc yd G c' p ∧ fz_L u v w q ≤ fz_L u v w p := by
    intro q hq
    have hin : ∀ p : Nat → Rat, fz_in m (fun e => ((ya e).toInt : Rat)) (fun e => ((yb e).toInt : Rat)) (fun e => ((yc e).toInt : Rat)) (fun e => ((yd e).toInt : Rat)) (p 0) (p 1) (p 2) ↔ G p := by
      intro p
      rw [← hY.2 p]
      exact ⟨fun z e he => fz_Se.mpr (z e he), fun z e he => fz_Se.mp (z e he)⟩
    have hin3 : ∀ x y z : Rat, fz_in m (fun e => ((ya e).toInt : Rat)) (fun e => ((yb e).toInt : Rat)) (fun e => ((yc e).toInt : Rat)) (fun e => ((yd e).toInt : Rat)) x y z ↔ G (fun i => if i = 0 then x else if i = 1 then y else z) := fun x y z => hin (fun i => if i = 0 then x else if i = 1 then y else z)
    obtain ⟨X, Y, Z, g1, g2, i, j, k, o1, o2, o3, d, a1, a2, a3⟩ := fz_vert (m := m) (A := fun e => ((ya e).toInt : Rat)) (B := fun e => ((yb e).toInt : Rat)) (C := fun e => ((yc e).toInt : Rat)) (D := fun e => ((yd e).toInt : Rat))
      (fun x y z hxyz => hc _ ((hin3 x y z).mp hxyz)) (u : Rat) (v : Rat) (w : Rat) ((hin q).mpr hq)
    obtain ⟨c', e1, e2, e3, e4⟩ := fz_code (m := m) (i := i) (j := j) (k := k) (by omega) (by omega) o3
    refine ⟨c', by omega, (fun i => if i = 0 then X else if i = 1 then Y else Z), ⟨?_, ?_, ?_, ?_, ?_, ?_, (hin3 X Y Z).mp g1⟩, g2⟩
    · rw [e2, e3]; exact o1
    · rw [e3, e4]; exact o2
    · rw [e2, e3, e4]
      intro q0
      apply d
      show fz_det _ _ _ _ _ _ _ _ _ = 0
      rw [← fz_D3r]
      exact congrArg (fun z : Int => (z : Rat)) q0
    · rw [e2]; exact a1
    · rw [e3]; exact a2
    · rw [e4]; exact a3
  rcases h with ⟨h1, h2⟩ | ⟨h1, h2, h3, h4, h5⟩
  · refine Or.inl ⟨h1, fun ⟨q, hq⟩ => ?_⟩
    obtain ⟨c', k1, p, k2, -⟩ := key q hq
    exact h2 c' k1 p k2
  · refine Or.inr ⟨h1, h2, h3, h4, fun q hq => ?_⟩
    obtain ⟨c', k1, p, k2, k3⟩ := key q hq
    have hB : (0 : Rat) < (bb.toInt : Rat) := Rat.intCast_pos.mpr h2.1
    exact Rat.le_trans (fz_mle hB k3) (h5 c' k1 p k2)
theorem fz_up1 {U B x t L : Rat} (hU : 0 < U) (hval : U * L = x) (q : x * B ≤ t * U) : B * L ≤ t := by
  refine Rat.le_of_mul_le_mul_left (c := U) ?_ hU
  subst hval
  grind
theorem fz_up2 {U B x t L : Rat} (hU : 0 < U) (hB : 0 < B) (old : B * L ≤ t) (q : ¬ x * B ≤ t * U) : U * L ≤ x := by
  have m1 := fz_mle hU old
  have m2 : B * (U * L) ≤ B * x := by grind
  exact Rat.le_of_mul_le_mul_left m2 hB
theorem fz_eqle {a b : Rat} (h : a = b) : a ≤ b := by rw [h]; exact Rat.le_refl
section
variable {post : SY → Prop} {ycn ymn ypx ypy ypz yun yan : Int32} {ybt ybb : Int64} {ysl yli ya yb yc yd : Nat → Int32} {G : (Nat → Rat) → Prop} {m : Nat} {u v w : Int32}
theorem fz_search103 {J : Int32 → Int32 → Int32 → Int32 → Int32 → Int32 → Int32 → Int32 → Int64 → Int64 → (Nat → Int32) → (Nat → Int32) → (Nat → Int32) → (Nat → Int32) → (Nat → Int32) → (Nat → Int32) → Prop}
    (hm : m ≤ 13) (hY : fz_YR m ya yb yc yd G) (hu : -4 ≤ u.toInt ∧ u.toInt ≤ 4) (hv : -4 ≤ v.toInt ∧ v.toInt ≤ 4) (hw : -4 ≤ w.toInt ∧ w.toInt ≤ 4) {c : Nat} (hk : c / m / m < m)
    (I : fz_inv m ya yb yc yd G u.toInt v.toInt w.toInt c yan ybt ybb)
    (K : ∀ (ypx' ypy' ypz' yun' yan' : Int32) (ybt' ybb' : Int64), fz_inv m ya yb yc yd G u.toInt v.toInt w.toInt (c + 1) yan' ybt' ybb' → J (nI (c + 1)) ycn (nI m) ypx' ypy' ypz' yun' yan' ybt' ybb' ysl yli ya yb yc yd) :
    wY_search_103 post J u v w (nI c) (nI (c % m)) (nI (c / m % m)) (nI (c / m / m)) ycn (nI m) ypx ypy ypz yun yan ybt ybb ysl yli ya yb yc yd := by
  have m0 : 0 < m := Nat.lt_of_le_of_lt (Nat.zero_le _) hk
  have li : c % m < m := Nat.mod_lt _ m0
  have lj : c / m % m < m := Nat.mod_lt _ m0
  refine br_c (fun h => nm_r (nI_1 c) ?_) (fun h => br_c (fun h2 => nm_r (nI_1 c) ?_) (fun h2 => ?_))
  · rw [nI_leI (by omega) (by omega)] at h
    exact K _ _ _ _ _ _ _ (fz_invS I (fun p hp => by have := hp.1; omega))
  · rw [nI_leI (by omega) (by omega)] at h2
    exact K _ _ _ _ _ _ _ (fz_invS I (fun p hp => by have := hp.2.1; omega))
  · refine fz_corner hm li lj hk hY (fun ypx' ypy' ypz' yun' h3 => br_t rfl (nm_r (nI_1 c) ?_)) (fun ypx' ypy' ypz' yun' b0 b1 b2 b3 hG hcr => br_f (by decide) (fun x ex => ?_))
    · exact K _ _ _ _ _ _ _ (fz_invS I (fun p hp => h3 p hp.2.2.1 hp.2.2.2.1 hp.2.2.2.2.1 hp.2.2.2.2.2.1 hp.2.2.2.2.2.2))
    · have t : ∀ {a x : Int32}, (-4 ≤ a.toInt ∧ a.toInt ≤ 4) → (-384000 ≤ x.toInt ∧ x.toInt ≤ 384000) → (a.toInt64 * x.toInt64).toInt = a.toInt * x.toInt ∧ (-1536000 ≤ (a.toInt64 * x.toInt64).toInt ∧ (a.toInt64 * x.toInt64).toInt ≤ 1536000) := by
        intro a x ha hx
        have e : (a.toInt64 * x.toInt64).toInt = a.toInt * x.toInt := by
          rw [fz_lmul (A := 4) (B := 384000) (by rw [Jvm.Kit.i64_of_i32]; exact ha) (by rw [Jvm.Kit.i64_of_i32]; exact hx) (by decide), Jvm.Kit.i64_of_i32, Jvm.Kit.i64_of_i32]
        have := fz_abm ha hx
        rw [e]
        exact ⟨rfl, this⟩
      obtain ⟨t1, c1⟩ := t hu b1
      obtain ⟨t2, c2⟩ := t hv b2
      obtain ⟨t3, c3⟩ := t hw b3
      have a1 : (u.toInt64 * ypx'.toInt64 + v.toInt64 * ypy'.toInt64).toInt = (u.toInt64 * ypx'.toInt64).toInt + (v.toInt64 * ypy'.toInt64).toInt := Jvm.Kit.i64_add (by omega) (by omega)
      have a2 : x.toInt = (u.toInt64 * ypx'.toInt64).toInt + (v.toInt64 * ypy'.toInt64).toInt + (w.toInt64 * ypz'.toInt64).toInt := by
        rw [ex, Jvm.Kit.i64_add (by rw [a1]; omega) (by rw [a1]; omega), a1]
      have xb : -4608000 ≤ x.toInt ∧ x.toInt ≤ 4608000 := by omega
      have hx : x.toInt = u.toInt * ypx'.toInt + v.toInt * ypy'.toInt + w.toInt * ypz'.toInt := by rw [a2, t1, t2, t3]
      have hxr : (x.toInt : Rat) = (u.toInt : Rat) * (ypx'.toInt : Rat) + (v.toInt : Rat) * (ypy'.toInt : Rat) + (w.toInt : Rat) * (ypz'.toInt : Rat) := by
        rw [hx, Rat.intCast_add, Rat.intCast_add, Rat.intCast_mul, Rat.intCast_mul, Rat.intCast_mul]
      have hU : (0 : Rat) < (yun'.toInt : Rat) := Rat.intCast_pos.mpr b0.1
      have e64 : yun'.toInt64.toInt = yun'.toInt := Jvm.Kit.i64_of_i32 _
      have val : ∀ p, fz_cn m ya yb yc yd G c p → (yun'.toInt : Rat) * fz_L u.toInt v.toInt w.toInt p = (x.toInt : Rat) := by
        intro p hp
        obtain ⟨k0, k1, k2⟩ := hcr p hp.2.2.2.1 hp.2.2.2.2.1 hp.2.2.2.2.2.1
        rw [hxr, ← k0, ← k1, ← k2]
        unfold fz_L
        grind
      have att : (yun'.toInt : Rat) * fz_L u.toInt v.toInt w.toInt (fz_pt ypx'.toInt ypy'.toInt ypz'.toInt yun'.toInt) = (x.toInt : Rat) := by
        have q0 : (yun'.toInt : Rat) * fz_pt ypx'.toInt ypy'.toInt ypz'.toInt yun'.toInt 0 = (ypx'.toInt : Rat) := by show (yun'.toInt : Rat) * ((ypx'.toInt : Rat) / (yun'.toInt : Rat)) = _; rw [Rat.mul_comm, Rat.div_mul_cancel (by grind)]
        have q1 : (yun'.toInt : Rat) * fz_pt ypx'.toInt ypy'.toInt ypz'.toInt yun'.toInt 1 = (ypy'.toInt : Rat) := by show (yun'.toInt : Rat) * ((ypy'.toInt : Rat) / (yun'.toInt : Rat)) = _; rw [Rat.mul_comm, Rat.div_mul_cancel (by grind)]
        have q2 : (yun'.toInt : Rat) * fz_pt ypx'.toInt ypy'.toInt ypz'.toInt yun'.toInt 2 = (ypz'.toInt : Rat) := by show (yun'.toInt : Rat) * ((ypz'.toInt : Rat) / (yun'.toInt : Rat)) = _; rw [Rat.mul_comm, Rat.div_mul_cancel (by grind)]
        rw [hxr, ← q0, ← q1, ← q2]
        unfold fz_L
        grind
      have new : (∀ c', c' < c → ∀ p, fz_cn m ya yb yc yd G c' p → (yun'.toInt : Rat) * fz_L u.toInt v.toInt w.toInt p ≤ (x.toInt : Rat)) → wY_search_189 post J u v w (nI c) x ycn (nI m) ypx' ypy' ypz' yun' yan ybt ybb ysl yli ya yb yc yd := by
        intro hold
        refine nm_r (nI_1 c) (K _ _ _ _ _ _ _ (Or.inr ⟨rfl, by rw [e64]; exact b0, xb, ⟨_, hG, by rw [e64]; exact att⟩, fz_lt1 (fun c' hc' p hp => by rw [e64]; exact hold c' hc' p hp) (fun p hp => by rw [e64]; exact fz_eqle (val p hp))⟩))
      rcases I with ⟨i1, i2⟩ | ⟨i1, i2, i3, i4, i5⟩
      · exact br_t i1 (new (fun c' hc' p hp => absurd hp (i2 c' hc' p)))
      · subst i1
        have hB : (0 : Rat) < (ybb.toInt : Rat) := Rat.intCast_pos.mpr i2.1
        have p1 := fz_lmul (x := x) (y := ybb) (A := 4608000) (B := 384000) xb (by omega) (by decide)
        have p2 := fz_lmul (x := ybt) (y := yun'.toInt64) (A := 4608000) (B := 384000) i3 (by rw [e64]; omega) (by decide)
        rw [e64] at p2
        have cmp : (x * ybb ≤ ybt * yun'.toInt64) ↔ (x.toInt : Rat) * (ybb.toInt : Rat) ≤ (ybt.toInt : Rat) * (yun'.toInt : Rat) := by
          rw [Int64.le_iff_toInt_le, p1, p2, ← Rat.intCast_le_intCast, Rat.intCast_mul, Rat.intCast_mul]
        refine br_f (by decide) (br_c (fun q => nm_r (nI_1 c) ?_) (fun q => new (fun c' hc' p hp => ?_)))
        · rw [cmp] at q
          refine K _ _ _ _ _ _ _ (Or.inr ⟨rfl, i2, i3, i4, fz_lt1 i5 (fun p hp => ?_)⟩)
          exact fz_up1 hU (val p hp) q
        · rw [cmp] at q
          exact fz_up2 hU hB (i5 c' hc' p hp) q
theorem fz_search13 (hm : m ≤ 13) (hm6 : 6 ≤ m) (hY : fz_YR m ya yb yc yd G) (hu : -4 ≤ u.toInt ∧ u.toInt ≤ 4) (hv : -4 ≤ v.toInt ∧ v.toInt ≤ 4) (hw : -4 ≤ w.toInt ∧ w.toInt ≤ 4)
    (K : ∀ (ypx' ypy' ypz' yun' yan' : Int32) (ybt' ybb' : Int64), fz_inv m ya yb yc yd G u.toInt v.toInt w.toInt (m * m * m) yan' ybt' ybb' → post (ycn, nI m, ypx', ypy', ypz', yun', yan', ybt', ybb', ysl, yli, ya, yb, yc, yd)) :
    ∀ (r c : Nat) (ypx ypy ypz yun yan : Int32) (ybt ybb : Int64), c + r = m * m * m → fz_inv m ya yb yc yd G u.toInt v.toInt w.toInt c yan ybt ybb → wY_search_13 post u v w (r + 1) (nI c) ycn (nI m) ypx ypy ypz yun yan ybt ybb ysl yli ya yb yc yd := by
  have b2 : m * m ≤ 169 := Nat.mul_le_mul hm hm
  have b3 : m * m * m ≤ 2197 := Nat.mul_le_mul b2 hm
  have e3 : nI m * nI m * nI m = nI (m * m * m) := by rw [pk_mul, pk_mul]
  have m1 : (1 : Int32) ≤ nI m := nI_le (a := 1) (by omega) (by omega)
  have m0 : ¬ nI m = 0 := nI_ne0 (by omega) (by omega)
  intro r
  induction r with
  | zero =>
    intro c ypx ypy ypz yun yan ybt ybb hc I
    have ec : c = m * m * m := by omega
    subst ec
    refine br_t ?_ (K _ _ _ _ _ _ _ I)
    rw [e3]
    exact nI_le (Nat.le_refl _) (by omega)
  | succ r ih =>
    intro c ypx ypy ypz yun yan ybt ybb hc I
    have hlt : ¬ nI m * nI m * nI m ≤ nI c := by
      rw [e3]
      exact nI_ge (by omega) (by omega)
    have d1 : nI c / nI m = nI (c / m) := pk_div (by omega) (by omega) (by omega)
    have hcm : c / m ≤ c := Nat.div_le_self _ _
    have d2 : nI (c / m) / nI m = nI (c / m / m) := pk_div (by omega) (by omega) (by omega)
    have r1 : nI c - nI c / nI m * nI m = nI (c % m) := pk_rem (by omega) (by omega) (by omega)
    have r2 : nI (c / m) - nI (c / m) / nI m * nI m = nI (c / m % m) := pk_rem (by omega) (by omega) (by omega)
    have hk : c / m / m < m := by
      rw [Nat.div_div_eq_div_mul]
      exact Nat.div_lt_of_lt_mul (by omega)
    refine br_f hlt (br_t m1 ⟨m0, br_t m1 ⟨m0, m0, br_t m1 ⟨m0, m0, ?_⟩⟩⟩)
    rw [r1, d1, r2, d2]
    exact fz_search103 hm hY hu hv hw hk I (fun ypx' ypy' ypz' yun' yan' ybt' ybb' I' => ih (c + 1) _ _ _ _ _ _ _ (by omega) I')
theorem fz_search {N : Nat} {wo : Int32} (hok : fz_ok N ysl yli) (hu : -4 ≤ u.toInt ∧ u.toInt ≤ 4) (hv : -4 ≤ v.toInt ∧ v.toInt ≤ 4) (hw : -4 ≤ w.toInt ∧ w.toInt ≤ 4)
    (K : ∀ (ymn' : Int32) (ya' yb' yc' yd' : Nat → Int32) (ypx' ypy' ypz' yun' yan' : Int32) (ybt' ybb' : Int64), ((yan' = 0 ∧ ¬ ∃ p, fz_S0 N ysl yli wo p) ∨ (yan' = 1 ∧ fz_opt (fz_S0 N ysl yli wo) u.toInt v.toInt w.toInt ybt' ybb')) → post (nI N, ymn', ypx', ypy', ypz', yun', yan', ybt', ybb', ysl, yli, ya', yb', yc', yd')) :
    wpY_search post (nI N, ymn, ypx, ypy, ypz, yun, yan, ybt, ybb, ysl, yli, ya, yb, yc, yd) wo u v w := by
  refine fz_take (ymn := ymn) hok (fun m ya' yb' yc' yd' g1 g2 g3 => ⟨m * m * m + 1, ?_⟩)
  refine fz_search13 g2 g1 g3 hu hv hw (fun ypx' ypy' ypz' yun' yan' ybt' ybb' I => K _ _ _ _ _ _ _ _ _ _ _ _ (fz_invE g3 (fun p hp => hp.1) (Nat.le_refl _) I)) (m * m * m) 0 _ _ _ _ _ _ _ (by omega) (Or.inl ⟨rfl, fun c' hc' => absurd hc' (Nat.not_lt_zero _)⟩)
end
end
section
/-! Y: along, divisor, extreme -/
def fz_opA (G : (Nat → Rat) → Prop) (ax : Nat) (s : Int) (bt bb : Int64) : Prop := (0 < bb.toInt ∧ bb.toInt ≤ 384000) ∧ (-4608000 ≤ bt.toInt ∧ bt.toInt ≤ 4608000) ∧
  (∃ p, G p ∧ (bb.toInt : Rat) * ((s : Rat) * p ax) = (bt.toInt : Rat)) ∧ ∀ p, G p → (bb.toInt : Rat) * ((s : Rat) * p ax) ≤ (bt.toInt : Rat)
theorem fz_opL {G : (Nat → Rat) → Prop} {ax : Nat} {s u v w : Int} {bt bb : Int64} (h : fz_opt G u v w bt bb) (e : ∀ p : Nat → Rat, fz_L u v w p = (s : Rat) * p ax) : fz_opA G ax s bt bb := by
  obtain ⟨h1, h2, ⟨p, h3, h4⟩, h5⟩ := h
  exact ⟨h1, h2, ⟨p, h3, by rw [← e]; exact h4⟩, fun p hp => by rw [← e]; exact h5 p hp⟩
section
variable {post : SY → Prop} {ycn ymn ypx ypy ypz yun yan : Int32} {ybt ybb : Int64} {ysl yli ya yb yc yd : Nat → Int32} {N ax : Nat}
theorem fz_yalong (hax : ax < 3) {s : Int32} (hs : -4 ≤ s.toInt ∧ s.toInt ≤ 4) (hok : fz_ok N ysl yli)
    (K : ∀ (ymn' : Int32) (ya' yb' yc' yd' : Nat → Int32) (ypx' ypy' ypz' yun' yan' : Int32) (ybt' ybb' : Int64), ((yan' = 0 ∧ ¬ ∃ p, fz_S0 N ysl yli (-1) p) ∨ (yan' = 1 ∧ fz_opA (fz_S0 N ysl yli (-1)) ax s.toInt ybt' ybb')) → post (nI N, ymn', ypx', ypy', ypz', yun', yan', ybt', ybb', ysl, yli, ya', yb', yc', yd')) :
    wpY_along post (nI N, ymn, ypx, ypy, ypz, yun, yan, ybt, ybb, ysl, yli, ya, yb, yc, yd) (nI ax) s := by
  have i0 : (0 : Int32).toInt = 0 := by decide
  have z0 : -4 ≤ (0 : Int32).toInt ∧ (0 : Int32).toInt ≤ 4 := by decide
  have h' : ax = 0 ∨ ax = 1 ∨ ax = 2 := by omega
  rcases h' with rfl | rfl | rfl
  · refine br_t rfl (br_f (by decide) (br_f (by decide) (fz_search hok hs z0 z0 (fun ymn' ya' yb' yc' yd' ypx' ypy' ypz' yun' yan' ybt' ybb' h => K _ _ _ _ _ _ _ _ _ _ _ _ (h.elim Or.inl (fun z => Or.inr ⟨z.1, fz_opL z.2 (fun p => ?_)⟩))))))
    rw [i0]
    unfold fz_L
    rw [fz_r0, Rat.zero_mul, Rat.zero_mul, Rat.add_zero, Rat.add_zero]
  · refine br_f (by decide) (br_t rfl (br_f (by decide) (fz_search hok z0 hs z0 (fun ymn' ya' yb' yc' yd' ypx' ypy' ypz' yun' yan' ybt' ybb' h => K _ _ _ _ _ _ _ _ _ _ _ _ (h.elim Or.inl (fun z => Or.inr ⟨z.1, fz_opL z.2 (fun p => ?_)⟩))))))
    rw [i0]
    unfold fz_L
    rw [fz_r0, Rat.zero_mul, Rat.zero_mul, Rat.add_zero, Rat.zero_add]
  · refine br_f (by decide) (br_f (by decide) (br_t rfl (fz_search hok z0 z0 hs (fun ymn' ya' yb' yc' yd' ypx' ypy' ypz' yun' yan' ybt' ybb' h => K _ _ _ _ _ _ _ _ _ _ _ _ (h.elim Or.inl (fun z => Or.inr ⟨z.1, fz_opL z.2 (fun p => ?_)⟩))))))
    rw [i0]
    unfold fz_L
    rw [fz_r0, Rat.zero_mul, Rat.zero_mul, Rat.add_zero, Rat.zero_add]
theorem fz_divL {post : Int64 → Prop} : ∀ (r n k P Q : Nat), k + r = 100 → r < n → Q ≤ P → P * Q < 2 ^ r → P < 2 ^ 62 → 0 < P → post (lN (Nat.gcd P Q)) → wY_divisor_20 post ycn ymn ypx ypy ypz yun yan ybt ybb ysl yli ya yb yc yd n (lN P) (lN Q) (nI k) := by
  intro r
  induction r with
  | zero =>
    intro n k P Q h1 h2 h3 h4 h5 h6 hp
    obtain ⟨n, rfl⟩ : ∃ n', n = n' + 1 := ⟨n - 1, by omega⟩
    have q0 : Q = 0 := by
      rcases Nat.eq_zero_or_pos Q with e | e
      · exact e
      · have := Nat.mul_pos h6 e
        omega
    subst q0
    have ek : k = 100 := by omega
    subst ek
    rw [Nat.gcd_zero_right] at hp
    have : (1 : Int64) ≤ lN P := by
      have := (pk_lLE (a := 1) (b := P) (by omega) (by omega)).mpr h6
      exact this
    exact br_t (by decide) (br_t this hp)
  | succ r ih =>
    intro n k P Q h1 h2 h3 h4 h5 h6 hp
    obtain ⟨n, rfl⟩ : ∃ n', n = n' + 1 := ⟨n - 1, by omega⟩
    have hk : ¬ (100 : Int32) ≤ nI k := nI_ge (b := 100) (by omega) (by decide)
    rcases Nat.eq_zero_or_pos Q with e | e
    · subst e
      have : lN 0 ≤ (0 : Int64) := by decide
      exact br_f hk (br_t this (nm_r (nI_1 k) (ih n (k + 1) P 0 (by omega) (by omega) (by omega) (by rw [Nat.mul_zero]; exact Nat.two_pow_pos r) h5 h6 hp)))
    · have hq : ¬ lN Q ≤ (0 : Int64) := by
        intro w
        have := (pk_lLE (a := Q) (b := 0) (by omega) (by omega)).mp w
        omega
      have hz : ¬ lN Q = 0 := by
        intro q0
        have := (pk_lEQ (a := Q) (b := 0) (by omega) (by omega)).mp q0
        omega
      have hmod : P % Q < Q := Nat.mod_lt _ e
      have h2q : 2 * (P % Q) ≤ P := by
        have d1 := Nat.div_add_mod P Q
        have d2 : 1 ≤ P / Q := Nat.div_pos h3 e
        have d3 : Q * 1 ≤ Q * (P / Q) := Nat.mul_le_mul_left Q d2
        omega
      have hprod : Q * (P % Q) < 2 ^ r := by
        have d := Nat.mul_le_mul_right Q h2q
        have d2 : 2 * (P % Q) * Q = 2 * (Q * (P % Q)) := by rw [Nat.mul_assoc, Nat.mul_comm (P % Q) Q]
        rw [Nat.pow_succ] at h4
        omega
      refine br_f hk (br_f hq ⟨hz, nm_r (pk_lRem (by omega) e (by omega)) (nm_r (nI_1 k) ?_)⟩)
      exact ih n (k + 1) Q (P % Q) (by omega) (by omega) (by omega) hprod (by omega) e (by rw [Nat.gcd_comm, ← Nat.gcd_rec, Nat.gcd_comm]; exact hp)
theorem fz_divisor {post : Int64 → Prop} {a b : Int64} (ha : -4608000 ≤ a.toInt ∧ a.toInt ≤ 4608000) (hb : 0 < b.toInt ∧ b.toInt ≤ 384000)
    (K : ∀ r : Int64, r.toInt = (Int.gcd a.toInt b.toInt : Int) → post r) : wpY_divisor post (ycn, ymn, ypx, ypy, ypz, yun, yan, ybt, ybb, ysl, yli, ya, yb, yc, yd) a b := by
  have b0 : 0 ≤ b := Jvm.Kit.i64_nonneg.mpr (by omega)
  have eb : b = lN b.toInt.natAbs := fz_abs b0
  have kk : post (lN (Nat.gcd a.toInt.natAbs b.toInt.natAbs)) := by
    have g := fz_gle a.toInt.natAbs b.toInt.natAbs
    exact K _ (pk_lT (by omega))
  have go : ∃ n, wY_divisor_20 post ycn ymn ypx ypy ypz yun yan ybt ybb ysl yli ya yb yc yd n (lN a.toInt.natAbs) b 0 := by
    rw [eb]
    have e2 : (lN b.toInt.natAbs).toInt.natAbs = b.toInt.natAbs := by rw [← eb]
    have hb1 : 0 < b.toInt.natAbs ∧ b.toInt.natAbs ≤ 384000 := by omega
    have ha1 : a.toInt.natAbs ≤ 4608000 := by omega
    generalize b.toInt.natAbs = Q at hb1 kk
    generalize a.toInt.natAbs = P at ha1 kk
    have hPQ : P * Q ≤ 4608000 * 384000 := Nat.mul_le_mul ha1 hb1.2
    have hbig : 4608000 * 384000 < 2 ^ 99 := by decide
    have hbig2 : 4608000 * 384000 < 2 ^ 100 := by decide
    by_cases h : Q ≤ P
    · exact ⟨101, fz_divL 100 101 0 P Q (by omega) (by omega) h (by omega) (by omega) (by omega) kk⟩
    · refine ⟨101, ?_⟩
      have hk : ¬ (100 : Int32) ≤ 0 := by decide
      have hq : ¬ lN Q ≤ (0 : Int64) := by
        intro w
        have := (pk_lLE (a := Q) (b := 0) (by omega) (by omega)).mp w
        omega
      have hz : ¬ lN Q = 0 := by
        intro q0
        have := (pk_lEQ (a := Q) (b := 0) (by omega) (by omega)).mp q0
        omega
      refine br_f hk (br_f hq ⟨hz, nm_r (pk_lRem (by omega) (by omega) (by omega)) (nm_r (e' := nI 1) rfl ?_)⟩)
      rw [Nat.mod_eq_of_lt (by omega)]
      exact fz_divL 99 100 1 Q P (by omega) (by omega) (by omega) (by rw [Nat.mul_comm]; omega) (by omega) (by omega) (by rw [Nat.gcd_comm]; exact kk)
  refine br_c (fun h => ?_) (fun h => nm_r (fz_absn h (by omega)) go)
  rw [← fz_abs h] at go
  exact go
end
/-- the extreme of a coordinate (s = 1 the greatest, s = -1 the least) in lowest terms -/
def fz_xt (G : (Nat → Rat) → Prop) (ax : Nat) (s : Int) (top bot : Int64) : Prop := 0 < bot.toInt ∧ Int.gcd top.toInt bot.toInt = 1 ∧ (∃ p, G p ∧ (bot.toInt : Rat) * p ax = (top.toInt : Rat)) ∧
  ∀ p, G p → (s : Rat) * ((bot.toInt : Rat) * p ax) ≤ (s : Rat) * (top.toInt : Rat)
theorem fz_xtmax {G : (Nat → Rat) → Prop} {ax : Nat} {t b : Int64} (h : fz_max G ax t b) : fz_xt G ax 1 t b := by
  obtain ⟨h1, h2, h3, h4, h5⟩ := h
  exact ⟨h1.1, h3, h4, fun p hp => by rw [fz_r1, Rat.one_mul, Rat.one_mul]; exact h5 p hp⟩
theorem fz_xtmin {G : (Nat → Rat) → Prop} {ax : Nat} {t b : Int64} (h : fz_min G ax t b) : fz_xt G ax (-1) t b := by
  obtain ⟨h1, h2, h3, h4, h5⟩ := h
  exact ⟨h1.1, h3, h4, fun p hp => by have := h5 p hp; rw [fz_rm1]; grind⟩
theorem fz_low1 {t1 b1 t2 b2 : Int} (p1 : 0 < b1) (p2 : 0 < b2) (g1 : Int.gcd t1 b1 = 1) (g2 : Int.gcd t2 b2 = 1) (h : t1 * b2 = t2 * b1) : t1 = t2 ∧ b1 = b2 := by
  have hn : t1.natAbs * b2.natAbs = t2.natAbs * b1.natAbs := by rw [← Int.natAbs_mul, ← Int.natAbs_mul, h]
  have c1 : Nat.Coprime b1.natAbs t1.natAbs := by
    have : Nat.gcd t1.natAbs b1.natAbs = 1 := g1
    rw [Nat.gcd_comm] at this
    exact this
  have c2 : Nat.Coprime b2.natAbs t2.natAbs := by
    have : Nat.gcd t2.natAbs b2.natAbs = 1 := g2
    rw [Nat.gcd_comm] at this
    exact this
  have d1 : b1.natAbs ∣ b2.natAbs := c1.dvd_of_dvd_mul_left ⟨t2.natAbs, by rw [hn, Nat.mul_comm]⟩
  have d2 : b2.natAbs ∣ b1.natAbs := c2.dvd_of_dvd_mul_left ⟨t1.natAbs, by rw [← hn, Nat.mul_comm]⟩
  have e : b1.natAbs = b2.natAbs := Nat.dvd_antisymm d1 d2
  have e2 : b1 = b2 := by omega
  subst e2
  exact ⟨Int.eq_of_mul_eq_mul_right (by omega) h, rfl⟩
theorem fz_xtU {G : (Nat → Rat) → Prop} {ax : Nat} {s : Int} (hs : s = 1 ∨ s = -1) {t1 b1 t2 b2 : Int64} (h1 : fz_xt G ax s t1 b1) (h2 : fz_xt G ax s t2 b2) : t1 = t2 ∧ b1 = b2 := by
  obtain ⟨a1, a2, ⟨p, a3, a4⟩, a5⟩ := h1
  obtain ⟨c1, c2, ⟨q, c3, c4⟩, c5⟩ := h2
  have hB1 : (0 : Rat) < (b1.toInt : Rat) := Rat.intCast_pos.mpr a1
  have hB2 : (0 : Rat) < (b2.toInt : Rat) := Rat.intCast_pos.mpr c1
  have k1 := a5 q c3
  have k2 := c5 p a3
  rw [← a4] at k1
  rw [← c4] at k2
  have e : p ax = q ax := by
    rcases hs with rfl | rfl
    · rw [fz_r1, Rat.one_mul, Rat.one_mul] at k1 k2
      exact Rat.le_antisymm (Rat.le_of_mul_le_mul_left k2 hB2) (Rat.le_of_mul_le_mul_left k1 hB1)
    · rw [fz_rm1] at k1 k2
      exact Rat.le_antisymm (Rat.le_of_mul_le_mul_left (c := (b1.toInt : Rat)) (by grind) hB1) (Rat.le_of_mul_le_mul_left (c := (b2.toInt : Rat)) (by grind) hB2)
  have hr : (t1.toInt : Rat) * (b2.toInt : Rat) = (t2.toInt : Rat) * (b1.toInt : Rat) := by
    rw [← a4, ← c4, e]
    grind
  rw [← Rat.intCast_mul, ← Rat.intCast_mul, Rat.intCast_inj] at hr
  obtain ⟨u1, u2⟩ := fz_low1 a1 c1 a2 c2 hr
  exact ⟨Int64.toInt_inj.mp u1, Int64.toInt_inj.mp u2⟩
theorem fz_sg {S B T x : Rat} (hss : S * S = 1) (h : B * (S * x) ≤ T) : S * (B * x) ≤ S * (S * T) := by
  have e1 : S * (S * T) = T := by rw [← Rat.mul_assoc, hss, Rat.one_mul]
  have e2 : S * (B * x) = B * (S * x) := by grind
  rw [e1, e2]
  exact h
section
variable {post : Int64 → SY → Prop} {ycn ymn ypx ypy ypz yun yan : Int32} {ybt ybb : Int64} {ysl yli ya yb yc yd : Nat → Int32} {N ax : Nat}
theorem fz_extreme (hax : ax < 3) {s up : Int32} (hs : s.toInt = 1 ∨ s.toInt = -1) (hok : fz_ok N ysl yli)
    (K0 : ∀ (ymn' : Int32) (ya' yb' yc' yd' : Nat → Int32) (ypx' ypy' ypz' yun' yan' : Int32) (ybt' ybb' : Int64), (¬ ∃ p, fz_S0 N ysl yli (-1) p) → (up = 0 → post 0 (nI N, ymn', ypx', ypy', ypz', yun', yan', ybt', ybb', ysl, yli, ya', yb', yc', yd')) ∧ (¬ up = 0 → post (-2000000) (nI N, ymn', ypx', ypy', ypz', yun', yan', ybt', ybb', ysl, yli, ya', yb', yc', yd')))
    (K1 : ∀ (ymn' : Int32) (ya' yb' yc' yd' : Nat → Int32) (ypx' ypy' ypz' yun' yan' : Int32) (ybt' ybb' : Int64) (top bot : Int64), (∃ p, fz_S0 N ysl yli (-1) p) → fz_xt (fz_S0 N ysl yli (-1)) ax s.toInt top bot → (up = 0 → post bot (nI N, ymn', ypx', ypy', ypz', yun', yan', ybt', ybb', ysl, yli, ya', yb', yc', yd')) ∧ (¬ up = 0 → post top (nI N, ymn', ypx', ypy', ypz', yun', yan', ybt', ybb', ysl, yli, ya', yb', yc', yd'))) :
    wpY_extreme post (nI N, ymn, ypx, ypy, ypz, yun, yan, ybt, ybb, ysl, yli, ya, yb, yc, yd) (nI ax) s up := by
  have n0 : ¬ nI ax < 0 := nI_pos (by omega)
  have n2 : nI ax ≤ 2 := nI_le (b := 2) (by omega) (by decide)
  refine br_f n0 (br_t n2 (fz_yalong hax (by omega) hok (fun ymn' ya' yb' yc' yd' ypx' ypy' ypz' yun' yan' ybt' ybb' h => ?_)))
  rcases h with ⟨h1, h2⟩ | ⟨h1, h2, h3, ⟨p, h4, h5⟩, h6⟩
  · exact br_t h1 (K0 _ _ _ _ _ _ _ _ _ _ _ _ h2)
  · subst h1
    refine br_f (by decide) (fz_divisor h3 h2 (fun g eg => ?_))
    obtain ⟨k1, k2, k3, k4, k5, k6, k7⟩ := fz_low h2.1 eg
    have l1 : (1 : Int64).toInt = 1 := by decide
    have ge1 : (1 : Int64) ≤ g := by rw [Int64.le_iff_toInt_le, l1]; omega
    have ne : ¬ g = 0 := by rw [← Int64.toInt_inj, fz_l0]; omega
    have eb : (ybb' / g).toInt = ybb'.toInt.tdiv g.toInt := fz_ldiv k1
    have em : (s.toInt64 * ybt').toInt = s.toInt * ybt'.toInt := by
      rw [fz_lmul (A := 1) (B := 4608000) (by rw [Jvm.Kit.i64_of_i32]; omega) h3 (by decide), Jvm.Kit.i64_of_i32]
    have et : ((s.toInt64 * ybt') / g).toInt = s.toInt * ybt'.toInt.tdiv g.toInt := by
      rw [fz_ldiv k1, em]
      rcases hs with w | w
      · rw [w, Int.one_mul, Int.one_mul]
      · rw [w]
        have : -1 * ybt'.toInt = -ybt'.toInt := by omega
        rw [this, Int.neg_tdiv]
        omega
    have xt : fz_xt (fz_S0 N ysl yli (-1)) ax s.toInt ((s.toInt64 * ybt') / g) (ybb' / g) := by
      unfold fz_xt
      rw [et, eb]
      have hG : (0 : Rat) < (g.toInt : Rat) := Rat.intCast_pos.mpr k1
      have c2 : (g.toInt : Rat) * (ybt'.toInt.tdiv g.toInt : Rat) = (ybt'.toInt : Rat) := by rw [← Rat.intCast_mul, k2]
      have c3 : (g.toInt : Rat) * (ybb'.toInt.tdiv g.toInt : Rat) = (ybb'.toInt : Rat) := by rw [← Rat.intCast_mul, k3]
      have hss : (s.toInt : Rat) * (s.toInt : Rat) = 1 := by
        rcases hs with w | w <;> rw [w]
        · exact Rat.one_mul 1
        · rw [fz_rm1]; grind
      rw [Rat.intCast_mul]
      generalize (ybt'.toInt.tdiv g.toInt : Rat) = T at c2
      rw [← c2] at h5 h6
      rw [← c3] at h5 h6
      refine ⟨k4, ?_, ⟨p, h4, ?_⟩, fun q hq => ?_⟩
      · rcases hs with w | w
        · rw [w, Int.one_mul]; exact k7
        · rw [w]
          have : -1 * ybt'.toInt.tdiv g.toInt = -(ybt'.toInt.tdiv g.toInt) := by omega
          rw [this, Int.neg_gcd]
          exact k7
      · have h5' : (g.toInt : Rat) * ((ybb'.toInt.tdiv g.toInt : Rat) * ((s.toInt : Rat) * p ax)) = (g.toInt : Rat) * T := by rw [← Rat.mul_assoc]; exact h5
        have h5'' : (ybb'.toInt.tdiv g.toInt : Rat) * ((s.toInt : Rat) * p ax) = T := Rat.le_antisymm (Rat.le_of_mul_le_mul_left (fz_eqle h5') hG) (Rat.le_of_mul_le_mul_left (fz_eqle h5'.symm) hG)
        rw [← h5'']
        generalize (ybb'.toInt.tdiv g.toInt : Rat) = B
        generalize (s.toInt : Rat) = S at hss
        grind
      · have h6' : (g.toInt : Rat) * ((ybb'.toInt.tdiv g.toInt : Rat) * ((s.toInt : Rat) * q ax)) ≤ (g.toInt : Rat) * T := by rw [← Rat.mul_assoc]; exact h6 q hq
        have h6'' := Rat.le_of_mul_le_mul_left h6' hG
        exact fz_sg hss h6''
    obtain ⟨w1, w2⟩ := K1 _ _ _ _ _ _ _ _ _ _ _ _ _ _ ⟨p, h4⟩ xt
    exact br_t ge1 (br_c (fun q => ⟨ne, w1 q⟩) (fun q => ⟨ne, w2 q⟩))
end
end
section
/-! Y: toward, support, has, shades -/
theorem fz_kpE {N t : Nat} {sl li : Nat → Int32} {w : Int32} {d : Int} {bt bb : Int64} (h : fz_opt (fz_S0 N sl li w) (fz_pa (nI t)) (fz_pb (nI t)) (fz_pc (nI t)) bt bb) : fz_kp N sl li w t d ↔ bt.toInt ≤ d * bb.toInt := by
  obtain ⟨h1, h2, ⟨p, h3, h4⟩, h5⟩ := h
  have hB : (0 : Rat) < (bb.toInt : Rat) := Rat.intCast_pos.mpr h1.1
  rw [← Rat.intCast_le_intCast, Rat.intCast_mul]
  constructor
  · intro k
    have k2 : fz_lin (nI t) p ≤ (d : Rat) := Rat.not_lt.mp (fun z => k ⟨p, h3, z⟩)
    have m := fz_mle hB k2
    have h4' : (bb.toInt : Rat) * fz_lin (nI t) p = (bt.toInt : Rat) := h4
    rw [h4'] at m
    rw [Rat.mul_comm (d : Rat)]
    exact m
  · rintro k ⟨q, q1, q2⟩
    have m := fz_mlt hB q2
    have h5' : (bb.toInt : Rat) * fz_lin (nI t) q ≤ (bt.toInt : Rat) := h5 q q1
    grind
theorem fz_kpM {N t : Nat} {sl li : Nat → Int32} {w : Int32} {d d' : Int} (h : d ≤ d') (k : fz_kp N sl li w t d) : fz_kp N sl li w t d' := by
  rintro ⟨p, h1, h2⟩
  have h3 : (d : Rat) ≤ (d' : Rat) := Rat.intCast_le_intCast.mpr h
  exact k ⟨p, h1, by grind⟩
section
variable {post : SY → Prop} {ycn ymn ypx ypy ypz yun yan : Int32} {ybt ybb : Int64} {ysl yli ya yb yc yd : Nat → Int32} {N t : Nat}
theorem fz_toward {w : Int32} (ht : t ≤ 728) (hok : fz_ok N ysl yli)
    (K : ∀ (ymn' : Int32) (ya' yb' yc' yd' : Nat → Int32) (ypx' ypy' ypz' yun' yan' : Int32) (ybt' ybb' : Int64), ((yan' = 0 ∧ ¬ ∃ p, fz_S0 N ysl yli w p) ∨ (yan' = 1 ∧ fz_opt (fz_S0 N ysl yli w) (fz_pa (nI t)) (fz_pb (nI t)) (fz_pc (nI t)) ybt' ybb')) → post (nI N, ymn', ypx', ypy', ypz', yun', yan', ybt', ybb', ysl, yli, ya', yb', yc', yd')) :
    wpY_toward post (nI N, ymn, ypx, ypy, ypz, yun, yan, ybt, ybb, ysl, yli, ya, yb, yc, yd) w (nI t) := by
  obtain ⟨a1, a2, a3⟩ := fz_par ht
  exact ⟨by decide, by decide, by decide, by decide, fz_search hok a1 a2 a3 (fun ymn' ya' yb' yc' yd' ypx' ypy' ypz' yun' yan' ybt' ybb' h => K _ _ _ _ _ _ _ _ _ _ _ _ h)⟩
end
section
variable {post : Int32 → SY → Prop} {ycn ymn ypx ypy ypz yun yan : Int32} {ybt ybb : Int64} {ysl yli ya yb yc yd : Nat → Int32}
theorem fz_ysup33 {h : Int32} (hh : -201 < h.toInt ∧ h.toInt ≤ 200) (hb : 0 < ybb.toInt ∧ ybb.toInt ≤ 384000) (H1 : ybt.toInt ≤ h.toInt * ybb.toInt) (H2 : ∀ d : Int, d < h.toInt → ¬ ybt.toInt ≤ d * ybb.toInt) (K : post h (ycn, ymn, ypx, ypy, ypz, yun, yan, ybt, ybb, ysl, yli, ya, yb, yc, yd)) :
    ∀ (r : Nat) (x : Int32), -1000 ≤ x.toInt → h.toInt - x.toInt = (r : Int) → wY_support_33 post ycn ymn ypx ypy ypz yun yan ybt ybb ysl yli ya yb yc yd (r + 1) x := by
  have i1000 : (1000 : Int32).toInt = 1000 := by decide
  have i1 : (1 : Int32).toInt = 1 := by decide
  have key : ∀ x : Int32, -1000 ≤ x.toInt → x.toInt ≤ 1000 → (ybt ≤ x.toInt64 * ybb ↔ ybt.toInt ≤ x.toInt * ybb.toInt) := by
    intro x h1 h2
    rw [Int64.le_iff_toInt_le, fz_lmul (A := 1000) (B := 384000) (by rw [Jvm.Kit.i64_of_i32]; omega) (by omega) (by decide), Jvm.Kit.i64_of_i32]
  intro r
  induction r with
  | zero =>
    intro x hx hr
    have e : x = h := Int32.toInt_inj.mp (by omega)
    subst e
    have n1 : ¬ (1000 : Int32) ≤ x := by rw [Int32.le_iff_toInt_le, i1000]; omega
    exact br_f n1 (br_t ((key x hx (by omega)).mpr H1) K)
  | succ r ih =>
    intro x hx hr
    have n1 : ¬ (1000 : Int32) ≤ x := by rw [Int32.le_iff_toInt_le, i1000]; omega
    have n2 : ¬ ybt ≤ x.toInt64 * ybb := by rw [key x hx (by omega)]; exact H2 _ (by omega)
    have e : (x + 1).toInt = x.toInt + 1 := by rw [Jvm.Kit.i32_add (by rw [i1]; omega) (by rw [i1]; omega), i1]
    exact br_f n1 (br_f n2 (nm_e (ih (x + 1) (by omega) (by omega))))
/-- an int product of a row's number and an argument -/
theorem fz_pi {a x : Int32} (ha : -40 ≤ a.toInt ∧ a.toInt ≤ 40) (hx : -400 ≤ x.toInt ∧ x.toInt ≤ 400) : (a * x).toInt = a.toInt * x.toInt ∧ (-16000 ≤ (a * x).toInt ∧ (a * x).toInt ≤ 16000) := by
  have h := fz_imul ha hx (by decide)
  have m := fz_abm ha hx
  rw [h]
  exact ⟨rfl, m⟩
theorem fz_yhas50 {G : (Nat → Rat) → Prop} {m : Nat} (hm : m ≤ 13) (hY : fz_YR m ya yb yc yd G) {x y z k : Int32} (hx : -400 ≤ x.toInt ∧ x.toInt ≤ 400) (hy : -400 ≤ y.toInt ∧ y.toInt ≤ 400) (hz : -400 ≤ z.toInt ∧ z.toInt ≤ 400) (hk : 1 ≤ k.toInt ∧ k.toInt ≤ 20)
    (K : ∀ r : Int32, (r = 0 ∨ r = 1) → (r = 1 ↔ G (fz_pt x.toInt y.toInt z.toInt k.toInt)) → post r (ycn, nI m, ypx, ypy, ypz, yun, yan, ybt, ybb, ysl, yli, ya, yb, yc, yd)) :
    ∀ r e : Nat, e + r = m → (∀ e', e' < e → fz_S (ya e').toInt (yb e').toInt (yc e').toInt (yd e').toInt (¬ (0 : Int32) = 0) (fz_pt x.toInt y.toInt z.toInt k.toInt)) → wY_has_50 post x y z k ycn (nI m) ypx ypy ypz yun yan ybt ybb ysl yli ya yb yc yd (r + 1) (nI e) := by
  have z1 : ¬ (0 : Int32) = 1 := by decide
  intro r
  induction r with
  | zero =>
    intro e he hs
    have ee : e = m := by omega
    subst ee
    exact br_t (nI_le (Nat.le_refl _) (by omega)) (K 1 (Or.inr rfl) ⟨fun _ => (hY.2 _).mp hs, fun _ => rfl⟩)
  | succ r ih =>
    intro e he hs
    have hlt : ¬ nI m ≤ nI e := nI_ge (by omega) (by omega)
    have h13 : ¬ (13 : Int32) ≤ nI e := nI_ge (b := 13) (by omega) (by decide)
    have ve : vp_in (nI e) 13 := vp_in_nI (by omega) (by omega)
    have ee : (nI e).toNatClampNeg = e := nI_clamp (by omega)
    obtain ⟨a1, a2, a3, a4⟩ := hY.1 e (by omega)
    obtain ⟨p1, m1⟩ := fz_pi (a := ya e) (x := x) (by omega) hx
    obtain ⟨p2, m2⟩ := fz_pi (a := yb e) (x := y) (by omega) hy
    obtain ⟨p3, m3⟩ := fz_pi (a := yc e) (x := z) (by omega) hz
    obtain ⟨p4, m4⟩ := fz_pi (a := yd e) (x := k) (by omega) (by omega)
    have s1 : (ya e * x + yb e * y).toInt = (ya e * x).toInt + (yb e * y).toInt := Jvm.Kit.i32_add (by omega) (by omega)
    have s2 : (ya e * x + yb e * y + yc e * z).toInt = (ya e * x + yb e * y).toInt + (yc e * z).toInt := Jvm.Kit.i32_add (by rw [s1]; omega) (by rw [s1]; omega)
    have key : (ya e * x + yb e * y + yc e * z ≤ yd e * k) ↔ fz_S (ya e).toInt (yb e).toInt (yc e).toInt (yd e).toInt (¬ (0 : Int32) = 0) (fz_pt x.toInt y.toInt z.toInt k.toInt) := by
      rw [Int32.le_iff_toInt_le, s2, s1, p1, p2, p3, p4, fz_Se, fz_ptS (by omega)]
    refine br_f hlt (br_f h13 ⟨ve, ve, ve, ve, ?_⟩)
    rw [ee]
    refine br_c (fun h => nm_r (nI_1 e) (ih (e + 1) (by omega) (fun e' he' => ?_))) (fun h => K 0 (Or.inl rfl) ⟨fun q => absurd q z1, fun g => absurd (key.mpr ((hY.2 _).mpr g e (by omega))) h⟩)
    by_cases q : e' = e
    · subst q; exact key.mp h
    · exact hs e' (by omega)
end
section
variable {post : Int32 → Prop} {ycn ymn ypx ypy ypz yun yan : Int32} {ybt ybb : Int64} {ysl yli ya yb yc yd : Nat → Int32}
theorem fz_TF {a d : Int} {t : Rat} : fz_T a d (¬ (0 : Int32) = 0) t ↔ (a : Rat) * t ≤ (d : Rat) := by
  rw [fz_Ti]
  exact ⟨fun h => h.1, fun h => ⟨h, fun w => absurd rfl w⟩⟩
/-- of two upper bounds the tighter one stays -/
theorem fz_tgT {a d a' d' : Int} (ha : 0 < a) (ha' : 0 < a') {t : Rat} :
    (d' * a ≤ d * a' → fz_T a' d' (¬ (0 : Int32) = 0) t → fz_T a d (¬ (0 : Int32) = 0) t) ∧
    (d' * a ≤ d * a' → fz_T (-a') d' (¬ (0 : Int32) = 0) t → fz_T (-a) d (¬ (0 : Int32) = 0) t) := by
  have hA : (0 : Rat) < (a : Rat) := Rat.intCast_pos.mpr ha
  have hA' : (0 : Rat) < (a' : Rat) := Rat.intCast_pos.mpr ha'
  rw [fz_TF, fz_TF, fz_TF, fz_TF, ← Rat.intCast_le_intCast]
  simp only [Rat.intCast_mul, Rat.intCast_neg]
  generalize (a : Rat) = A at *
  generalize (a' : Rat) = A' at *
  generalize (d : Rat) = D at *
  generalize (d' : Rat) = D' at *
  constructor
  · intro h1 h2
    have m := fz_mle hA h2
    refine Rat.le_of_mul_le_mul_left (c := A') ?_ hA'
    grind
  · intro h1 h2
    have m := fz_mle hA h2
    refine Rat.le_of_mul_le_mul_left (c := A') ?_ hA'
    grind
theorem fz_y60 {Z : Rat → Prop} {ax m : Nat} (hax : ax < 3) (hm : m ≤ 13) {x y z k p q : Int32} (hx : -400 ≤ x.toInt ∧ x.toInt ≤ 400) (hy : -400 ≤ y.toInt ∧ y.toInt ≤ 400) (hz : -400 ≤ z.toInt ∧ z.toInt ≤ 400) (hk : 1 ≤ k.toInt ∧ k.toInt ≤ 20)
    (hr : ∀ a b c d : Int, d * k.toInt - a * x.toInt - b * y.toInt - c * z.toInt = d * k.toInt - fz_f1 ax a b * p.toInt - fz_f2 ax b c * q.toInt)
    (hrow : ∀ e, e < m → (-4 ≤ (ya e).toInt ∧ (ya e).toInt ≤ 4) ∧ (-4 ≤ (yb e).toInt ∧ (yb e).toInt ≤ 4) ∧ (-4 ≤ (yc e).toInt ∧ (yc e).toInt ≤ 4) ∧ (-40 ≤ (yd e).toInt ∧ (yd e).toInt ≤ 40))
    (K : ∀ r : Int32, (r = 0 ∨ r = 1) → (r = 1 ↔ ∃ t, Z t) → post r) :
    ∀ (r e : Nat) (lt lb ht hb : Int32), e + r = m → (0 < lb.toInt ∧ lb.toInt ≤ 4) → (0 < hb.toInt ∧ hb.toInt ≤ 4) → (-1000000 ≤ lt.toInt ∧ lt.toInt ≤ 1000000) → (-1000000 ≤ ht.toInt ∧ ht.toInt ≤ 1000000) →
    (∀ t, Z t ↔ ((fz_T hb.toInt ht.toInt (¬ (0 : Int32) = 0) t ∧ fz_T (-lb.toInt) (-lt.toInt) (¬ (0 : Int32) = 0) t) ∧ ∀ i, e ≤ i → i < m → fz_T (fz_pk ax (ya i).toInt (yb i).toInt (yc i).toInt) ((yd i).toInt * k.toInt - fz_f1 ax (ya i).toInt (yb i).toInt * p.toInt - fz_f2 ax (yb i).toInt (yc i).toInt * q.toInt) (¬ (0 : Int32) = 0) t)) →
    wY_shades_60 post (nI ax) k x y z ycn (nI m) ypx ypy ypz yun yan ybt ybb ysl yli ya yb yc yd (r + 1) lt lb ht hb (nI e) := by
  have z1 : ¬ (0 : Int32) = 1 := by decide
  have i0 : (0 : Int32).toInt = 0 := by decide
  intro r
  induction r with
  | zero =>
    intro e lt lb ht hb he hlb hhb hlt hht hZ
    have ee : e = m := by omega
    subst ee
    have p1 := fz_imul (x := ht) (y := lb) (A := 1000000) (B := 4) hht (by omega) (by decide)
    have p2 := fz_imul (x := lt) (y := hb) (A := 1000000) (B := 4) hlt (by omega) (by decide)
    have e2 : (∃ t, Z t) ↔ 0 ≤ ht.toInt * lb.toInt - lt.toInt * hb.toInt := by
      have := fz_ex2 (hb := hb.toInt) (ht := ht.toInt) (lb := lb.toInt) (lt := lt.toInt) hhb.1 hlb.1 (o1 := ¬ (0 : Int32) = 0) (o2 := ¬ (0 : Int32) = 0)
      refine Iff.trans (Iff.trans ⟨fun ⟨t, w⟩ => ?_, fun ⟨t, w⟩ => ?_⟩ this) ⟨fun w => w.1, fun w => ⟨w, fun w2 => w2.elim (fun w3 => absurd rfl w3) (fun w3 => absurd rfl w3)⟩⟩
      · exact ⟨t, ((hZ t).mp w).1⟩
      · exact ⟨t, (hZ t).mpr ⟨w, fun i h1 h2 => by omega⟩⟩
    refine br_t (nI_le (Nat.le_refl _) (by omega)) (br_c (fun w => ?_) (fun w => ?_))
    · rw [Int32.lt_iff_toInt_lt, p1, p2] at w
      exact K 0 (Or.inl rfl) ⟨fun w' => absurd w' z1, fun w' => by have := e2.mp w'; omega⟩
    · rw [Int32.lt_iff_toInt_lt, p1, p2] at w
      exact K 1 (Or.inr rfl) ⟨fun _ => e2.mpr (by omega), fun _ => rfl⟩
  | succ r ih =>
    intro e lt lb ht hb he hlb hhb hlt hht hZ
    have hlt' : ¬ nI m ≤ nI e := nI_ge (by omega) (by omega)
    have h13 : ¬ (13 : Int32) ≤ nI e := nI_ge (b := 13) (by omega) (by decide)
    have ve : vp_in (nI e) 13 := vp_in_nI (by omega) (by omega)
    have ee : (nI e).toNatClampNeg = e := nI_clamp (by omega)
    obtain ⟨a1, a2, a3, a4⟩ := hrow e (by omega)
    refine br_f hlt' (br_f h13 ⟨ve, ve, ve, ve, fun rest er => ?_⟩)
    rw [ee] at er ⊢
    have rb : rest.toInt = (yd e).toInt * k.toInt - fz_f1 ax (ya e).toInt (yb e).toInt * p.toInt - fz_f2 ax (yb e).toInt (yc e).toInt * q.toInt ∧ (-64000 ≤ rest.toInt ∧ rest.toInt ≤ 64000) := by
      obtain ⟨p1, m1⟩ := fz_pi (a := ya e) (x := x) (by omega) hx
      obtain ⟨p2, m2⟩ := fz_pi (a := yb e) (x := y) (by omega) hy
      obtain ⟨p3, m3⟩ := fz_pi (a := yc e) (x := z) (by omega) hz
      obtain ⟨p4, m4⟩ := fz_pi (a := yd e) (x := k) (by omega) (by omega)
      have s1 : (yd e * k - ya e * x).toInt = (yd e * k).toInt - (ya e * x).toInt := Jvm.Kit.i32_sub (by omega) (by omega)
      have s2 : (yd e * k - ya e * x - yb e * y).toInt = (yd e * k - ya e * x).toInt - (yb e * y).toInt := Jvm.Kit.i32_sub (by rw [s1]; omega) (by rw [s1]; omega)
      have s3 : rest.toInt = (yd e * k - ya e * x - yb e * y).toInt - (yc e * z).toInt := by
        rw [er]
        exact Jvm.Kit.i32_sub (by rw [s2, s1]; omega) (by rw [s2, s1]; omega)
      refine ⟨?_, by omega⟩
      rw [s3, s2, s1, p1, p2, p3, p4]
      exact hr _ _ _ _
    obtain ⟨hrest, hrb⟩ := rb
    clear er
    have cb := fz_pkb (ax := ax) a1 a2 a3
    have c4 : fz_pk ax 4 4 4 = 4 := by
      have h' : ax = 0 ∨ ax = 1 ∨ ax = 2 := by omega
      rcases h' with rfl | rfl | rfl <;> rfl
    rw [c4] at cb
    have step : ∀ (P : Prop) (t : Rat), (P ↔ ((fz_T hb.toInt ht.toInt (¬ (0 : Int32) = 0) t ∧ fz_T (-lb.toInt) (-lt.toInt) (¬ (0 : Int32) = 0) t) ∧ fz_T (fz_pk ax (ya e).toInt (yb e).toInt (yc e).toInt) rest.toInt (¬ (0 : Int32) = 0) t)) →
        (Z t ↔ (P ∧ ∀ i, e + 1 ≤ i → i < m → fz_T (fz_pk ax (ya i).toInt (yb i).toInt (yc i).toInt) ((yd i).toInt * k.toInt - fz_f1 ax (ya i).toInt (yb i).toInt * p.toInt - fz_f2 ax (yb i).toInt (yc i).toInt * q.toInt) (¬ (0 : Int32) = 0) t)) := by
      intro P t h
      rw [h, hrest, hZ t]
      refine ⟨fun z => ⟨⟨z.1, z.2 e (Nat.le_refl _) (by omega)⟩, fun k k1 k2 => z.2 k (by omega) k2⟩, fun z => ⟨z.1.1, fun k k1 k2 => ?_⟩⟩
      by_cases ek : k = e
      · subst ek; exact z.1.2
      · exact z.2 k (by omega) k2
    have go : ∀ own : Int32, own.toInt = fz_pk ax (ya e).toInt (yb e).toInt (yc e).toInt →
        wY_shades_157 post (wY_shades_60 post (nI ax) k x y z ycn (nI m) ypx ypy ypz yun yan ybt ybb ysl yli ya yb yc yd (r + 1)) (nI ax) k x y z lt lb ht hb (nI e) rest own ycn (nI m) ypx ypy ypz yun yan ybt ybb ysl yli ya yb yc yd := by
      intro own ho
      rw [← ho] at cb step
      by_cases c0 : own.toInt = 0
      · have o0 : own = 0 := Int32.toInt_inj.mp (c0.trans i0.symm)
        rw [c0] at step
        have le0 : own ≤ 0 := by rw [Int32.le_iff_toInt_le, i0]; omega
        have ge0 : 0 ≤ own := by rw [Int32.le_iff_toInt_le, i0]; omega
        refine br_t o0 (br_c (fun w => ?_) (fun w => ?_))
        · rw [Int32.le_iff_toInt_le, i0] at w
          exact br_t le0 (br_t ge0 (nm_r (nI_1 e) (ih (e + 1) lt lb ht hb (by omega) hlb hhb hlt hht (fun t => step _ t ⟨fun z => ⟨z, fz_T0.mpr w⟩, fun z => z.1⟩))))
        · rw [Int32.le_iff_toInt_le, i0] at w
          refine K 0 (Or.inl rfl) ⟨fun w' => absurd w' z1, fun ⟨t, ht'⟩ => ?_⟩
          have := fz_T0.mp ((step _ t Iff.rfl).mp ht').1.2
          exact absurd this w
      · have on : ¬ own = 0 := fun w => c0 (by rw [w, i0])
        refine br_f on ?_
        by_cases cp : 0 < own.toInt
        · have nle : ¬ own ≤ 0 := by rw [Int32.le_iff_toInt_le, i0]; omega
          have ge0 : 0 ≤ own := by rw [Int32.le_iff_toInt_le, i0]; omega
          have p1 := fz_imul (x := ht) (y := own) (A := 1000000) (B := 4) hht cb (by decide)
          have p2 := fz_imul (x := rest) (y := hb) (A := 64000) (B := 4) hrb (by omega) (by decide)
          refine br_f nle (br_c (fun w => ?_) (fun w => ?_))
          · rw [Int32.le_iff_toInt_le, p1, p2] at w
            refine br_t ge0 (nm_r (nI_1 e) (ih (e + 1) lt lb ht hb (by omega) hlb hhb hlt hht (fun t => step _ t ⟨fun z => ⟨z, ?_⟩, fun z => z.1⟩)))
            exact (fz_tgT (a := own.toInt) (d := rest.toInt) (a' := hb.toInt) (d' := ht.toInt) cp hhb.1).1 w z.1
          · rw [Int32.le_iff_toInt_le, p1, p2] at w
            refine br_t ge0 (nm_r (nI_1 e) (ih (e + 1) lt lb rest own (by omega) hlb (by omega) hlt (by omega) (fun t => step _ t ⟨fun z => ⟨⟨?_, z.2⟩, z.1⟩, fun z => ⟨z.2, z.1.2⟩⟩)))
            exact (fz_tgT (a := hb.toInt) (d := ht.toInt) (a' := own.toInt) (d' := rest.toInt) hhb.1 cp).1 (by omega) z.1
        · have le0 : own ≤ 0 := by rw [Int32.le_iff_toInt_le, i0]; omega
          have nge : ¬ 0 ≤ own := by rw [Int32.le_iff_toInt_le, i0]; omega
          have en : (-own).toInt = -own.toInt := Jvm.Kit.i32_neg (by omega)
          have er2 : (-rest).toInt = -rest.toInt := Jvm.Kit.i32_neg (by omega)
          have p1 := fz_imul (x := -rest) (y := lb) (A := 64000) (B := 4) (by rw [er2]; omega) (by omega) (by decide)
          have p2 := fz_imul (x := lt) (y := -own) (A := 1000000) (B := 4) hlt (by rw [en]; omega) (by decide)
          rw [er2] at p1
          rw [en] at p2
          have f1 : -rest.toInt * lb.toInt = -(rest.toInt * lb.toInt) := Int.neg_mul _ _
          have f2 : -lt.toInt * -own.toInt = -(lt.toInt * -own.toInt) := Int.neg_mul _ _
          have oo : own.toInt = -(-own.toInt) := by omega
          refine br_t le0 (br_f nge (br_c (fun w => nm_r (nI_1 e) ?_) (fun w => ?_)))
          · rw [Int32.le_iff_toInt_le, p1, p2] at w
            refine ih (e + 1) lt lb ht hb (by omega) hlb hhb hlt hht (fun t => step _ t ⟨fun z => ⟨z, ?_⟩, fun z => z.1⟩)
            rw [oo]
            exact (fz_tgT (a := -own.toInt) (d := rest.toInt) (a' := lb.toInt) (d' := -lt.toInt) (by omega) hlb.1).2 (by omega) z.2
          · rw [Int32.le_iff_toInt_le, p1, p2] at w
            refine nm_e (nm_e (nm_r (nI_1 e) (ih (e + 1) (-rest) (-own) ht hb (by omega) (by rw [en]; omega) hhb (by rw [er2]; omega) hht (fun t => step _ t ?_))))
            rw [en, er2, Int.neg_neg, Int.neg_neg]
            refine ⟨fun z => ⟨⟨z.1, ?_⟩, z.2⟩, fun z => ⟨z.1.1, z.2⟩⟩
            have z2 := z.2
            rw [oo] at z2
            exact (fz_tgT (a := lb.toInt) (d := -lt.toInt) (a' := -own.toInt) (d' := rest.toInt) hlb.1 (by omega)).2 (by omega) z2
    have h' : ax = 0 ∨ ax = 1 ∨ ax = 2 := by omega
    rcases h' with rfl | rfl | rfl
    · exact br_t rfl ⟨ve, go _ rfl⟩
    · exact br_f (by decide) (br_t rfl ⟨ve, go _ rfl⟩)
    · exact br_f (by decide) (br_f (by decide) ⟨ve, go _ rfl⟩)
theorem fz_shades {N ax m : Nat} (hax : ax < 3) (hm : m ≤ 13) (hY : fz_YR m ya yb yc yd (fz_S0 N ysl yli (-1))) {p q k : Int32} (hp : -400 ≤ p.toInt ∧ p.toInt ≤ 400) (hq : -400 ≤ q.toInt ∧ q.toInt ≤ 400) (hk : 1 ≤ k.toInt ∧ k.toInt ≤ 20)
    (K : ∀ r : Int32, (r = 0 ∨ r = 1) → (r = 1 ↔ ∃ t, fz_S0 N ysl yli (-1) (fz_sh ax p.toInt q.toInt k.toInt t)) → post r) :
    wpY_shades post (ycn, nI m, ypx, ypy, ypz, yun, yan, ybt, ybb, ysl, yli, ya, yb, yc, yd) (nI ax) p q k := by
  have i0 : (0 : Int32).toInt = 0 := by decide
  have z0 : -400 ≤ (0 : Int32).toInt ∧ (0 : Int32).toInt ≤ 400 := by decide
  have t1 : (-1000000 : Int32).toInt = -1000000 := by decide
  have t2 : (1000000 : Int32).toInt = 1000000 := by decide
  have t3 : (1 : Int32).toInt = 1 := by decide
  have go : ∀ x y z : Int32, (-400 ≤ x.toInt ∧ x.toInt ≤ 400) → (-400 ≤ y.toInt ∧ y.toInt ≤ 400) → (-400 ≤ z.toInt ∧ z.toInt ≤ 400) →
      (∀ a b c d : Int, d * k.toInt - a * x.toInt - b * y.toInt - c * z.toInt = d * k.toInt - fz_f1 ax a b * p.toInt - fz_f2 ax b c * q.toInt) →
      wY_shades_41 post (nI ax) k x y z ycn (nI m) ypx ypy ypz yun yan ybt ybb ysl yli ya yb yc yd := by
    intro x y z hx hy hz hr
    refine ⟨m + 1, fz_y60 (Z := fun t => fz_S0 N ysl yli (-1) (fz_sh ax p.toInt q.toInt k.toInt t)) hax hm hx hy hz hk hr hY.1 K m 0 _ _ _ _ (by omega) (by rw [t3]; omega) (by rw [t3]; omega) (by rw [t1]; omega) (by rw [t2]; omega) (fun t => ?_)⟩
    rw [← hY.2, t1, t2, t3, fz_TF, fz_TF]
    constructor
    · intro h
      have hb := fz_shB hax (by omega) hk.2 (fz_S0c hax _ ((hY.2 _).mp h))
      refine ⟨⟨?_, ?_⟩, fun i _ hi => (fz_shS hax (by omega)).mp (h i hi).1⟩
      · have : ((1000000 : Int) : Rat) = 1000000 := rfl
        rw [fz_r1, this]
        grind
      · have : ((-(-1000000) : Int) : Rat) = 1000000 := rfl
        rw [this, fz_rm1]
        grind
    · exact fun h i hi => fz_Se.mpr ((fz_shS hax (by omega)).mpr (h.2 i (Nat.zero_le _) hi))
  have h' : ax = 0 ∨ ax = 1 ∨ ax = 2 := by omega
  rcases h' with rfl | rfl | rfl
  · refine br_t rfl (br_t rfl (br_f (by decide) (go 0 p q z0 hp hq (fun a b c d => ?_))))
    show _ = d * k.toInt - b * p.toInt - c * q.toInt
    rw [i0, Int.mul_zero, Int.sub_zero]
  · refine br_f (by decide) (br_f (by decide) (br_t rfl (br_f (by decide) (go p 0 q hp z0 hq (fun a b c d => ?_)))))
    show _ = d * k.toInt - a * p.toInt - c * q.toInt
    rw [i0, Int.mul_zero, Int.sub_zero]
  · refine br_f (by decide) (br_f (by decide) (br_f (by decide) (br_t rfl (go p q 0 hp hq z0 (fun a b c d => ?_)))))
    show _ = d * k.toInt - a * p.toInt - b * q.toInt
    rw [i0, Int.mul_zero, Int.sub_zero]
end
end
section
/-! Y: shadowGrid, narrow, single -/
theorem fz_flatR {G : (Nat → Rat) → Prop} {i : Nat} {ht hb lt lb : Rat} (hB : 0 < hb) (lB : 0 < lb) (h1 : ∃ p, G p ∧ hb * p i = ht) (h2 : ∀ p, G p → hb * p i ≤ ht) (h3 : ∃ p, G p ∧ lb * p i = lt) (h4 : ∀ p, G p → lt ≤ lb * p i) :
    ht * lb = lt * hb ↔ ∀ p q, G p → G q → p i = q i := by
  obtain ⟨p1, a3, a4⟩ := h1
  obtain ⟨p2, b3, b4⟩ := h3
  constructor
  · intro h
    have key : ∀ p, G p → hb * p i = ht := by
      intro p hp
      have m1 := fz_mle hB (h4 p hp)
      have m2 : lb * ht ≤ lb * (hb * p i) := by grind
      exact Rat.le_antisymm (h2 p hp) (Rat.le_of_mul_le_mul_left m2 lB)
    intro p q hp hq
    have m : hb * p i = hb * q i := (key p hp).trans (key q hq).symm
    exact Rat.le_antisymm (Rat.le_of_mul_le_mul_left (fz_eqle m) hB) (Rat.le_of_mul_le_mul_left (fz_eqle m.symm) hB)
  · intro h
    have := h p1 p2 a3 b3
    rw [this] at a4
    rw [← a4, ← b4]
    grind
theorem fz_flatY {G : (Nat → Rat) → Prop} {ax : Nat} {t1 b1 t2 b2 : Int64} (h1 : fz_opA G ax 1 t1 b1) (h2 : fz_opA G ax (-1) t2 b2) : t1 * b2 = (-t2) * b1 ↔ ∀ p q, G p → G q → p ax = q ax := by
  obtain ⟨a1, a2, ⟨p, a3, a4⟩, a5⟩ := h1
  obtain ⟨c1, c2, ⟨q, c3, c4⟩, c5⟩ := h2
  rw [fz_r1] at a4 a5
  rw [fz_rm1] at c4 c5
  have en : (-t2).toInt = -t2.toInt := Jvm.Kit.i64_neg (by omega)
  have p1 := fz_lmul (x := t1) (y := b2) (A := 4608000) (B := 384000) a2 (by omega) (by decide)
  have p2 := fz_lmul (x := -t2) (y := b1) (A := 4608000) (B := 384000) (by rw [en]; omega) (by omega) (by decide)
  rw [← Int64.toInt_inj, p1, p2, en, ← Rat.intCast_inj, Rat.intCast_mul, Rat.intCast_mul, Rat.intCast_neg]
  refine fz_flatR (Rat.intCast_pos.mpr a1.1) (Rat.intCast_pos.mpr c1.1) ⟨p, a3, by rw [Rat.one_mul] at a4; exact a4⟩ (fun r hr => by have := a5 r hr; rw [Rat.one_mul] at this; exact this) ⟨q, c3, by grind⟩ (fun r hr => by have := c5 r hr; grind)
section
variable {post : Int32 → SY → Prop} {ycn ymn ypx ypy ypz yun yan : Int32} {ybt ybb : Int64} {ysl yli ya yb yc yd : Nat → Int32} {N ax m : Nat}
theorem fz_yg31 {J : Int32 → Int32 → Prop} {i : Nat} (hax : ax < 3) (hi : i ≤ 20) (hm : m ≤ 13) (hY : fz_YR m ya yb yc yd (fz_S0 N ysl yli (-1))) :
    ∀ (r j : Nat) (s : Int32), j + r = 21 → J (fz_acc (fz_gr N ysl yli ax i) r j s) (fz_im (i + 1)) → wY_shadowGrid_31 post J (nI ax) (fz_im i) ycn (nI m) ypx ypy ypz yun yan ybt ybb ysl yli ya yb yc yd (r + 1) s (fz_im j) := by
  have i11 : (11 : Int32).toInt = 11 := by decide
  have i1 : (1 : Int32).toInt = 1 := by decide
  intro r
  induction r with
  | zero =>
    intro j s hj K
    have h : (11 : Int32) ≤ fz_im j := by rw [Int32.le_iff_toInt_le, i11, fz_imT (by omega)]; omega
    exact br_t h (nm_r (fz_imS i) K)
  | succ r ih =>
    intro j s hj K
    have h : ¬ (11 : Int32) ≤ fz_im j := by rw [Int32.le_iff_toInt_le, i11, fz_imT (by omega)]; omega
    refine br_f h (fz_shades hax hm hY (by rw [fz_imT (by omega)]; omega) (by rw [fz_imT (by omega)]; omega) (by rw [i1]; omega) (fun r' g1 g2 => ?_))
    rw [fz_imT (by omega), fz_imT (by omega), i1] at g2
    refine br_c (fun q => ?_) (fun q => ?_)
    · have e : fz_gr N ysl yli ax i j = 0 := fz_bf (fun z => by have := g2.mpr z; rw [q] at this; exact absurd this (by decide))
      have K' : J (fz_acc (fz_gr N ysl yli ax i) r (j + 1) (s + fz_gr N ysl yli ax i j)) (fz_im (i + 1)) := K
      rw [e, Int32.add_zero] at K'
      exact nm_r (fz_imS j) (ih (j + 1) s (by omega) K')
    · have e : fz_gr N ysl yli ax i j = 1 := fz_bt (g2.mp (g1.elim (fun z => absurd z q) id))
      have K' : J (fz_acc (fz_gr N ysl yli ax i) r (j + 1) (s + fz_gr N ysl yli ax i j)) (fz_im (i + 1)) := K
      rw [e] at K'
      exact nm_e (nm_r (fz_imS j) (ih (j + 1) (s + 1) (by omega) K'))
theorem fz_yg21 (hax : ax < 3) (hm : m ≤ 13) (hY : fz_YR m ya yb yc yd (fz_S0 N ysl yli (-1))) :
    ∀ (r i : Nat) (s : Int32), i + r = 21 → post (fz_grid (fz_gr N ysl yli ax) r i s) (ycn, nI m, ypx, ypy, ypz, yun, yan, ybt, ybb, ysl, yli, ya, yb, yc, yd) → wY_shadowGrid_21 post (nI ax) ycn (nI m) ypx ypy ypz yun yan ybt ybb ysl yli ya yb yc yd (r + 1) s (fz_im i) := by
  have i11 : (11 : Int32).toInt = 11 := by decide
  intro r
  induction r with
  | zero =>
    intro i s hj K
    have h : (11 : Int32) ≤ fz_im i := by rw [Int32.le_iff_toInt_le, i11, fz_imT (by omega)]; omega
    exact br_t h K
  | succ r ih =>
    intro i s hj K
    have h : ¬ (11 : Int32) ≤ fz_im i := by rw [Int32.le_iff_toInt_le, i11, fz_imT (by omega)]; omega
    refine br_f h ⟨22, ?_⟩
    rw [fz_im0]
    exact fz_yg31 hax (by omega) hm hY 21 0 s rfl (ih (i + 1) _ (by omega) K)
theorem fz_narrow (hax : ax < 3) (hok : fz_ok N ysl yli)
    (K : ∀ (r : Int32) (ymn' : Int32) (ya' yb' yc' yd' : Nat → Int32) (ypx' ypy' ypz' yun' yan' : Int32) (ybt' ybb' : Int64), (r = 0 ∨ r = 1) → (r = 1 ↔ fz_flat N ysl yli ax) → post r (nI N, ymn', ypx', ypy', ypz', yun', yan', ybt', ybb', ysl, yli, ya', yb', yc', yd')) : wpY_narrow post (nI N, ymn, ypx, ypy, ypz, yun, yan, ybt, ybb, ysl, yli, ya, yb, yc, yd) (nI ax) := by
  have z1 : ¬ (0 : Int32) = 1 := by decide
  have t1 : (1 : Int32).toInt = 1 := by decide
  have tm : (-1 : Int32).toInt = -1 := by decide
  refine fz_yalong hax (by rw [t1]; omega) hok (fun ymn' ya' yb' yc' yd' ypx' ypy' ypz' yun' yan' ybt' ybb' h => ?_)
  refine fz_yalong hax (by rw [tm]; omega) hok (fun ymn'' ya'' yb'' yc'' yd'' ypx'' ypy'' ypz'' yun'' yan'' ybt'' ybb'' h' => ?_)
  rw [t1] at h
  rw [tm] at h'
  rcases h' with ⟨e1, e2⟩ | ⟨e1, e2⟩
  · exact br_t e1 (K 0 _ _ _ _ _ _ _ _ _ _ _ _ (Or.inl rfl) ⟨fun z => absurd z z1, fun z => absurd z.1 e2⟩)
  · subst e1
    obtain ⟨p0, hp0, -⟩ := e2.2.2.1
    rcases h with ⟨-, f2⟩ | ⟨-, f2⟩
    · exact absurd ⟨p0, hp0⟩ f2
    · have fe := fz_flatY f2 e2
      refine br_f (by decide) (br_c (fun w => ?_) (fun w => ?_))
      · exact K 1 _ _ _ _ _ _ _ _ _ _ _ _ (Or.inr rfl) ⟨fun _ => ⟨⟨p0, hp0⟩, fe.mp w⟩, fun _ => rfl⟩
      · exact K 0 _ _ _ _ _ _ _ _ _ _ _ _ (Or.inl rfl) ⟨fun z => absurd z z1, fun z => absurd (fe.mpr z.2) w⟩
theorem fz_ysingle (hok : fz_ok N ysl yli)
    (K : ∀ (r : Int32) (ymn' : Int32) (ya' yb' yc' yd' : Nat → Int32) (ypx' ypy' ypz' yun' yan' : Int32) (ybt' ybb' : Int64), (r = 0 ∨ r = 1) → (r = 1 ↔ ∀ i, 0 ≤ i → i < 3 → fz_flat N ysl yli i) → post r (nI N, ymn', ypx', ypy', ypz', yun', yan', ybt', ybb', ysl, yli, ya', yb', yc', yd')) : wpY_single post (nI N, ymn, ypx, ypy, ypz, yun, yan, ybt, ybb, ysl, yli, ya, yb, yc, yd) := by
  have z1 : ¬ (0 : Int32) = 1 := by decide
  have nz : ∀ {r : Int32}, r = 0 → ¬ r = 1 := fun h w => z1 (h.symm.trans w)
  unfold wpY_single
  dsimp only
  refine fz_narrow (ax := 0) (by decide) hok (fun r0 ymn' ya' yb' yc' yd' ypx' ypy' ypz' yun' yan' ybt' ybb' a1 a2 => br_c (fun q => ?_) (fun q => ?_))
  · exact K 0 _ _ _ _ _ _ _ _ _ _ _ _ (Or.inl rfl) ⟨fun z => absurd z z1, fun z => absurd (a2.mpr (z 0 (by decide) (by decide))) (nz q)⟩
  refine fz_narrow (ax := 1) (by decide) hok (fun r1 ymn'' ya'' yb'' yc'' yd'' ypx'' ypy'' ypz'' yun'' yan'' ybt'' ybb'' b1 b2 => br_c (fun q' => ?_) (fun q' => ?_))
  · exact K 0 _ _ _ _ _ _ _ _ _ _ _ _ (Or.inl rfl) ⟨fun z => absurd z z1, fun z => absurd (b2.mpr (z 1 (by decide) (by decide))) (nz q')⟩
  refine fz_narrow (ax := 2) (by decide) hok (fun r2 ymn''' ya''' yb''' yc''' yd''' ypx''' ypy''' ypz''' yun''' yan''' ybt''' ybb''' c1 c2 => br_c (fun q'' => ?_) (fun q'' => ?_))
  · exact K 0 _ _ _ _ _ _ _ _ _ _ _ _ (Or.inl rfl) ⟨fun z => absurd z z1, fun z => absurd (c2.mpr (z 2 (by decide) (by decide))) (nz q'')⟩
  · have f0 := a2.mp (a1.elim (fun z => absurd z q) id)
    have f1 := b2.mp (b1.elim (fun z => absurd z q') id)
    have f2 := c2.mp (c1.elim (fun z => absurd z q'') id)
    refine K 1 _ _ _ _ _ _ _ _ _ _ _ _ (Or.inr rfl) ⟨fun _ i _ hi => ?_, fun _ => rfl⟩
    exact fz_ax3 f0 f1 f2 hi
end
/-! bounds of a linear form over the cube -/
theorem fz_rab {a x : Rat} (h1 : -4 ≤ a) (h2 : a ≤ 4) (h3 : -10 ≤ x) (h4 : x ≤ 10) : -40 ≤ a * x ∧ a * x ≤ 40 := by
  have k1 : 0 ≤ (4 - a) * (10 + x) := Rat.mul_nonneg (by grind) (by grind)
  have k2 : 0 ≤ (4 + a) * (10 - x) := Rat.mul_nonneg (by grind) (by grind)
  have k3 : 0 ≤ (4 - a) * (10 - x) := Rat.mul_nonneg (by grind) (by grind)
  have k4 : 0 ≤ (4 + a) * (10 + x) := Rat.mul_nonneg (by grind) (by grind)
  constructor <;> grind
theorem fz_linb {N t : Nat} {sl li : Nat → Int32} {w : Int32} (ht : t ≤ 728) {p : Nat → Rat} (h : fz_S0 N sl li w p) : -120 ≤ fz_lin (nI t) p ∧ fz_lin (nI t) p ≤ 120 := by
  obtain ⟨a1, a2, a3⟩ := fz_par ht
  obtain ⟨⟨c0, c1, c2⟩, -⟩ := h
  have cv : ∀ z : Int, -4 ≤ z ∧ z ≤ 4 → (-4 : Rat) ≤ (z : Rat) ∧ (z : Rat) ≤ 4 := fun z hz => ⟨Rat.intCast_le_intCast.mpr hz.1, Rat.intCast_le_intCast.mpr hz.2⟩
  have b1 := fz_rab (cv _ a1).1 (cv _ a1).2 c0.1 c0.2
  have b2 := fz_rab (cv _ a2).1 (cv _ a2).2 c1.1 c1.2
  have b3 := fz_rab (cv _ a3).1 (cv _ a3).2 c2.1 c2.2
  unfold fz_lin
  constructor <;> grind
end
section
/-! the relation; argument checks; remove's shift -/
/-- the relation at the head of a turn: count, slopes and limits alike, the first ones in range -/
def i_Rel (k : Nat) (u : SX) (v : SY) : Prop := match u with
  | (xcn, xrn, xow, xhp, xhl, xhh, xlt, xlb, xht, xhb, xol, xoh, xsl, xli, ra, rb, rc, rd, rs, oa, ob, oc, od, os) => match v with
    | (ycn, ymn, ypx, ypy, ypz, yun, yan, ybt, ybb, ysl, yli, ya, yb, yc, yd) => ∃ n : Nat, xcn = nI n ∧ ycn = nI n ∧ ysl = xsl ∧ yli = xli ∧ fz_ok n xsl xli
theorem fz_rel {k n : Nat} {xrn xow xhp xhl xhh : Int32} {xlt xlb xht xhb : Int64} {xol xoh : Int32} {xsl xli : Nat → Int32} {ra rb rc rd : Nat → Int64} {rs : Nat → Int32} {oa ob oc od : Nat → Int64} {os : Nat → Int32} {ymn ypx ypy ypz yun yan : Int32} {ybt ybb : Int64} {ya yb yc yd : Nat → Int32} (h : fz_ok n xsl xli) : i_Rel k (nI n, xrn, xow, xhp, xhl, xhh, xlt, xlb, xht, xhb, xol, xoh, xsl, xli, ra, rb, rc, rd, rs, oa, ob, oc, od, os) (nI n, ymn, ypx, ypy, ypz, yun, yan, ybt, ybb, xsl, xli, ya, yb, yc, yd) := ⟨n, rfl, rfl, rfl, rfl, h⟩
theorem fz_el {P : SX → SY → Prop} {k : Nat} {u : SX} {v : SY}
    (h : ∀ (n : Nat) (xrn xow xhp xhl xhh : Int32) (xlt xlb xht xhb : Int64) (xol xoh : Int32) (xsl xli : Nat → Int32) (ra rb rc rd : Nat → Int64) (rs : Nat → Int32) (oa ob oc od : Nat → Int64) (os : Nat → Int32) (ymn ypx ypy ypz yun yan : Int32) (ybt ybb : Int64) (ya yb yc yd : Nat → Int32), fz_ok n xsl xli → P (nI n, xrn, xow, xhp, xhl, xhh, xlt, xlb, xht, xhb, xol, xoh, xsl, xli, ra, rb, rc, rd, rs, oa, ob, oc, od, os) (nI n, ymn, ypx, ypy, ypz, yun, yan, ybt, ybb, xsl, xli, ya, yb, yc, yd))
    (I : i_Rel k u v) : P u v := by
  obtain ⟨xcn, xrn, xow, xhp, xhl, xhh, xlt, xlb, xht, xhb, xol, xoh, xsl, xli, ra, rb, rc, rd, rs, oa, ob, oc, od, os⟩ := u
  obtain ⟨ycn, ymn, ypx, ypy, ypz, yun, yan, ybt, ybb, ysl, yli, ya, yb, yc, yd⟩ := v
  obtain ⟨n, h1, h2, h3, h4, h5⟩ := I
  subst h1 h2 h3 h4
  exact h n _ _ _ _ _ _ _ _ _ _ _ _ _ _ _ _ _ _ _ _ _ _ _ _ _ _ _ _ _ _ _ _ _ _ _ h5
def fz_isS (x : Int32) : Prop := ∃ t : Nat, t ≤ 728 ∧ x = nI t
theorem fz_i728 : (728 : Int32).toInt = 728 := by decide
theorem fz_isS_of {x : Int32} (h1 : ¬ x < 0) (h2 : x ≤ 728) : fz_isS x := nI_of2 (M := 728) (n := 728) (by decide) h1 h2
theorem fz_isS_0 {x : Int32} (h : fz_isS x) : ¬ x < 0 ∧ x ≤ 728 := by
  obtain ⟨t, ht, rfl⟩ := h
  exact ⟨nI_pos (by omega), nI_le (b := 728) (by omega) (by decide)⟩
section
variable {post : Int32 → Prop} {xcn xrn xow xhp xhl xhh : Int32} {xlt xlb xht xhb : Int64} {xol xoh : Int32} {xsl xli : Nat → Int32} {ra rb rc rd : Nat → Int64} {rs : Nat → Int32} {oa ob oc od : Nat → Int64} {os : Nat → Int32} {ycn ymn ypx ypy ypz yun yan : Int32} {ybt ybb : Int64} {ysl yli ya yb yc yd : Nat → Int32} {x : Int32}
theorem fz_xslope (K1 : fz_isS x → post 1) (K0 : ¬ fz_isS x → post 0) : wpX_isSlope post x := by
  refine br_c (fun h => K0 (fun z => (fz_isS_0 z).1 h)) (fun h => br_c (fun h2 => K0 (fun z => ?_)) (fun h2 => K1 (fz_isS_of h (Int32.not_lt.mp h2))))
  exact absurd (fz_isS_0 z).2 (Int32.not_le.mpr h2)
theorem fz_yslope (K1 : fz_isS x → post 0) (K0 : ¬ fz_isS x → post 1) : wpY_badSlope post (ycn, ymn, ypx, ypy, ypz, yun, yan, ybt, ybb, ysl, yli, ya, yb, yc, yd) x := by
  exact br_c (fun h => K0 (fun z => (fz_isS_0 z).1 h)) (fun h => br_c (fun h2 => K1 (fz_isS_of h h2)) (fun h2 => K0 (fun z => h2 (fz_isS_0 z).2)))
def fz_isL (x : Int32) : Prop := -40 ≤ x.toInt ∧ x.toInt ≤ 40
theorem fz_im40 : (-40 : Int32).toInt = -40 := by decide
theorem fz_i40 : (40 : Int32).toInt = 40 := by decide
theorem fz_xlimit (K1 : fz_isL x → post 1) (K0 : ¬ fz_isL x → post 0) : wpX_isLimit post x := by
  refine br_c (fun h => ?_) (fun h => br_c (fun h2 => ?_) (fun h2 => ?_))
  · rw [Int32.lt_iff_toInt_lt, fz_im40] at h
    exact K0 (fun z => by have := z.1; omega)
  · rw [Int32.lt_iff_toInt_lt, fz_i40] at h2
    exact K0 (fun z => by have := z.2; omega)
  · rw [Int32.lt_iff_toInt_lt, fz_im40] at h
    rw [Int32.lt_iff_toInt_lt, fz_i40] at h2
    exact K1 ⟨by omega, by omega⟩
/-- the reference's check of a limit, in place -/
theorem fz_ylimit {A B : Prop} (K1 : fz_isL x → A) (K0 : ¬ fz_isL x → B) : (x < (-40) → B) ∧ (¬ x < (-40) → ((x ≤ 40 → A) ∧ (¬ x ≤ 40 → B))) := by
  refine br_c (fun h => ?_) (fun h => br_c (fun h2 => ?_) (fun h2 => ?_))
  · rw [Int32.lt_iff_toInt_lt, fz_im40] at h
    exact K0 (fun z => by have := z.1; omega)
  · rw [Int32.lt_iff_toInt_lt, fz_im40] at h
    rw [Int32.le_iff_toInt_le, fz_i40] at h2
    exact K1 ⟨by omega, by omega⟩
  · rw [Int32.le_iff_toInt_le, fz_i40] at h2
    exact K0 (fun z => by have := z.2; omega)
def fz_isK (x : Int32) : Prop := -1000 ≤ x.toInt ∧ x.toInt ≤ 1000
theorem fz_k1000 {A B : Prop} (K1 : fz_isK x → A) (K0 : ¬ fz_isK x → B) : (x < (-1000) → B) ∧ (¬ x < (-1000) → ((x ≤ 1000 → A) ∧ (¬ x ≤ 1000 → B))) := by
  have e1 : (-1000 : Int32).toInt = -1000 := by decide
  have e2 : (1000 : Int32).toInt = 1000 := by decide
  refine br_c (fun h => ?_) (fun h => br_c (fun h2 => ?_) (fun h2 => ?_))
  · rw [Int32.lt_iff_toInt_lt, e1] at h
    exact K0 (fun z => by have := z.1; omega)
  · rw [Int32.lt_iff_toInt_lt, e1] at h
    rw [Int32.le_iff_toInt_le, e2] at h2
    exact K1 ⟨by omega, by omega⟩
  · rw [Int32.le_iff_toInt_le, e2] at h2
    exact K0 (fun z => by have := z.2; omega)
def fz_is20 (x : Int32) : Prop := 1 ≤ x.toInt ∧ x.toInt ≤ 20
theorem fz_k20 {A B : Prop} (K1 : fz_is20 x → A) (K0 : ¬ fz_is20 x → B) : (x < 1 → B) ∧ (¬ x < 1 → ((x ≤ 20 → A) ∧ (¬ x ≤ 20 → B))) := by
  have e1 : (1 : Int32).toInt = 1 := by decide
  have e2 : (20 : Int32).toInt = 20 := by decide
  refine br_c (fun h => ?_) (fun h => br_c (fun h2 => ?_) (fun h2 => ?_))
  · rw [Int32.lt_iff_toInt_lt, e1] at h
    exact K0 (fun z => by have := z.1; omega)
  · rw [Int32.lt_iff_toInt_lt, e1] at h
    rw [Int32.le_iff_toInt_le, e2] at h2
    exact K1 ⟨by omega, by omega⟩
  · rw [Int32.le_iff_toInt_le, e2] at h2
    exact K0 (fun z => by have := z.2; omega)
def fz_isN (x : Int32) : Prop := -400 ≤ x.toInt ∧ x.toInt ≤ 400
theorem fz_im400 : (-400 : Int32).toInt = -400 := by decide
theorem fz_i400 : (400 : Int32).toInt = 400 := by decide
theorem fz_xnear (K1 : fz_isN x → post 1) (K0 : ¬ fz_isN x → post 0) : wpX_isNear post x := by
  refine br_c (fun h => ?_) (fun h => br_c (fun h2 => ?_) (fun h2 => ?_))
  · rw [Int32.lt_iff_toInt_lt, fz_im400] at h
    exact K0 (fun z => by have := z.1; omega)
  · rw [Int32.lt_iff_toInt_lt, fz_i400] at h2
    exact K0 (fun z => by have := z.2; omega)
  · rw [Int32.lt_iff_toInt_lt, fz_im400] at h
    rw [Int32.lt_iff_toInt_lt, fz_i400] at h2
    exact K1 ⟨by omega, by omega⟩
theorem fz_yfar (K1 : fz_isN x → post 0) (K0 : ¬ fz_isN x → post 1) : wpY_far post (ycn, ymn, ypx, ypy, ypz, yun, yan, ybt, ybb, ysl, yli, ya, yb, yc, yd) x := by
  refine br_c (fun h => ?_) (fun h => br_c (fun h2 => ?_) (fun h2 => ?_))
  · rw [Int32.lt_iff_toInt_lt, fz_im400] at h
    exact K0 (fun z => by have := z.1; omega)
  · rw [Int32.lt_iff_toInt_lt, fz_im400] at h
    rw [Int32.le_iff_toInt_le, fz_i400] at h2
    exact K1 ⟨by omega, by omega⟩
  · rw [Int32.le_iff_toInt_le, fz_i400] at h2
    exact K0 (fun z => by have := z.2; omega)
def fz_isA (x : Int32) : Prop := ∃ ax : Nat, ax < 3 ∧ x = nI ax
theorem fz_isA_of {x : Int32} (h1 : ¬ x < 0) (h2 : x ≤ 2) : fz_isA x := by
  obtain ⟨j, h3, h4⟩ := nI_of2 (M := 2) (n := 2) (by decide) h1 h2
  exact ⟨j, by omega, h4⟩
theorem fz_isA_0 {x : Int32} (h : fz_isA x) : ¬ x < 0 ∧ x ≤ 2 := by
  obtain ⟨t, ht, rfl⟩ := h
  exact ⟨nI_pos (by omega), nI_le (b := 2) (by omega) (by decide)⟩
theorem fz_xaxis (K1 : fz_isA x → post 1) (K0 : ¬ fz_isA x → post 0) : wpX_isAxis post x := by
  refine br_c (fun h => K0 (fun z => (fz_isA_0 z).1 h)) (fun h => br_c (fun h2 => K0 (fun z => ?_)) (fun h2 => K1 (fz_isA_of h (Int32.not_lt.mp h2))))
  exact absurd (fz_isA_0 z).2 (Int32.not_le.mpr h2)
theorem fz_yaxis {A B : Prop} (K1 : fz_isA x → A) (K0 : ¬ fz_isA x → B) : (x < 0 → B) ∧ (¬ x < 0 → ((x ≤ 2 → A) ∧ (¬ x ≤ 2 → B))) :=
  br_c (fun h => K0 (fun z => (fz_isA_0 z).1 h)) (fun h => br_c (fun h2 => K1 (fz_isA_of h h2)) (fun h2 => K0 (fun z => h2 (fz_isA_0 z).2)))
def fz_isB (n : Nat) (x : Int32) : Prop := ∃ j : Nat, j < n ∧ x = nI j
theorem fz_isB_of {n : Nat} (hn : n ≤ 7) (h1 : ¬ x < 0) (h2 : ¬ nI n ≤ x) : fz_isB n x := by
  rcases pk_ix x (n := n) (by omega) with h | h | h
  · exact absurd h h1
  · exact absurd h h2
  · exact h
theorem fz_isB_0 {n : Nat} (hn : n ≤ 7) (h : fz_isB n x) : ¬ x < 0 ∧ ¬ nI n ≤ x ∧ x ≤ 6 := by
  obtain ⟨t, ht, rfl⟩ := h
  exact ⟨nI_pos (by omega), nI_ge (by omega) (by omega), nI_le (b := 6) (by omega) (by decide)⟩
theorem fz_xbound {n : Nat} (hn : n ≤ 7) (K1 : fz_isB n x → post 1) (K0 : ¬ fz_isB n x → post 0) : wpX_isBound post (nI n, xrn, xow, xhp, xhl, xhh, xlt, xlb, xht, xhb, xol, xoh, xsl, xli, ra, rb, rc, rd, rs, oa, ob, oc, od, os) x :=
  br_c (fun h => K0 (fun z => (fz_isB_0 hn z).1 h)) (fun h => br_c (fun h2 => K0 (fun z => (fz_isB_0 hn z).2.1 h2)) (fun h2 => K1 (fz_isB_of hn h h2)))
theorem fz_ybound {n : Nat} (hn : n ≤ 7) (K1 : fz_isB n x → post 0) (K0 : ¬ fz_isB n x → post 1) : wpY_bad post (nI n, ymn, ypx, ypy, ypz, yun, yan, ybt, ybb, ysl, yli, ya, yb, yc, yd) x :=
  br_c (fun h => K0 (fun z => (fz_isB_0 hn z).1 h)) (fun h => br_c (fun h2 => K0 (fun z => (fz_isB_0 hn z).2.1 h2)) (fun h2 => br_c (fun _ => K1 (fz_isB_of hn h h2)) (fun h3 => K0 (fun z => h3 (fz_isB_0 hn z).2.2))))
end
def fz_shift : Nat → Nat → (Nat → Int32) → (Nat → Int32)
  | 0, _, f => f
  | r + 1, j, f => fz_shift r (j + 1) (upd f j (f (j + 1)))
theorem fz_okup {n j : Nat} {sl li : Nat → Int32} (h : fz_ok n sl li) (hj : j + 1 < n) : fz_ok n (upd sl j (sl (j + 1))) (upd li j (li (j + 1))) := by
  refine ⟨h.1, fun k hk => ?_⟩
  by_cases e : k = j
  · subst e
    rw [pk_us, pk_us]
    exact h.2 _ hj
  · rw [pk_un e, pk_un e]
    exact h.2 k hk
theorem fz_okshift {n : Nat} : ∀ (r j : Nat) (sl li : Nat → Int32), j + r + 1 = n → fz_ok n sl li → fz_ok n (fz_shift r j sl) (fz_shift r j li) := by
  intro r
  induction r with
  | zero => exact fun j sl li _ h => h
  | succ r ih =>
    intro j sl li hj h
    exact ih (j + 1) _ _ (by omega) (fz_okup h (by omega))
section
variable {post : Int32 → SX → Prop} {xcn xrn xow xhp xhl xhh : Int32} {xlt xlb xht xhb : Int64} {xol xoh : Int32} {xsl xli : Nat → Int32} {ra rb rc rd : Nat → Int64} {rs : Nat → Int32} {oa ob oc od : Nat → Int64} {os : Nat → Int32} {n : Nat}
theorem fz_xrem (hn : n ≤ 7) : ∀ (r j : Nat) (xsl xli : Nat → Int32), j + r + 1 = n → post (nI (n - 1)) (nI (n - 1), xrn, xow, xhp, xhl, xhh, xlt, xlb, xht, xhb, xol, xoh, fz_shift r j xsl, fz_shift r j xli, ra, rb, rc, rd, rs, oa, ob, oc, od, os) →
    wX_remove_14 post (nI n) xrn xow xhp xhl xhh xlt xlb xht xhb xol xoh (r + 1) (nI (j + 1)) xsl xli ra rb rc rd rs oa ob oc od os := by
  have e1 : n ≠ 0 → nI n - 1 = nI (n - 1) := fun h => by
    obtain ⟨q, rfl⟩ : ∃ q, n = q + 1 := ⟨n - 1, by omega⟩
    exact nI_pred q
  intro r
  induction r with
  | zero =>
    intro j xsl xli hj K
    exact br_t (nI_le (by omega) (by omega)) (nm_r (e1 (by omega)) K)
  | succ r ih =>
    intro j xsl xli hj K
    have hlt : ¬ nI n ≤ nI (j + 1) := nI_ge (by omega) (by omega)
    have v1 : vp_in (nI (j + 1)) 7 := vp_in_nI (by omega) (by omega)
    have ep : nI (j + 1) - 1 = nI j := nI_pred j
    have v0 : vp_in (nI (j + 1) - 1) 7 := by rw [ep]; exact vp_in_nI (by omega) (by omega)
    have c1 : (nI (j + 1)).toNatClampNeg = j + 1 := nI_clamp (by omega)
    have c0 : (nI (j + 1) - 1).toNatClampNeg = j := by rw [ep]; exact nI_clamp (by omega)
    refine br_f hlt ⟨v1, v0, nm_e ⟨v1, v0, nm_e (nm_r (nI_1 (j + 1)) ?_)⟩⟩
    rw [c1, c0]
    exact ih (j + 1) _ _ (by omega) K
end
section
variable {post : Int32 → SY → Prop} {ycn ymn ypx ypy ypz yun yan : Int32} {ybt ybb : Int64} {ysl yli ya yb yc yd : Nat → Int32} {n : Nat}
theorem fz_yrem (hn : n ≤ 7) : ∀ (r j : Nat) (ysl yli : Nat → Int32), j + r + 1 = n → post (nI (n - 1)) (nI (n - 1), ymn, ypx, ypy, ypz, yun, yan, ybt, ybb, fz_shift r j ysl, fz_shift r j yli, ya, yb, yc, yd) →
    wY_remove_12 post (nI n) ymn ypx ypy ypz yun yan ybt ybb (r + 1) (nI j) ysl yli ya yb yc yd := by
  have e1 : n ≠ 0 → nI n - 1 = nI (n - 1) := fun h => by
    obtain ⟨q, rfl⟩ : ∃ q, n = q + 1 := ⟨n - 1, by omega⟩
    exact nI_pred q
  intro r
  induction r with
  | zero =>
    intro j ysl yli hj K
    have h : nI n - 1 ≤ nI j := by rw [e1 (by omega)]; exact nI_le (by omega) (by omega)
    exact br_t h (nm_r (e1 (by omega)) K)
  | succ r ih =>
    intro j ysl yli hj K
    have hlt : ¬ nI n - 1 ≤ nI j := by rw [e1 (by omega)]; exact nI_ge (by omega) (by omega)
    have h6 : ¬ (6 : Int32) ≤ nI j := nI_ge (b := 6) (by omega) (by decide)
    have v0 : vp_in (nI j) 7 := vp_in_nI (by omega) (by omega)
    have ep : nI j + 1 = nI (j + 1) := nI_1 j
    have v1 : vp_in (nI j + 1) 7 := by rw [ep]; exact vp_in_nI (by omega) (by omega)
    have c0 : (nI j).toNatClampNeg = j := nI_clamp (by omega)
    have c1 : (nI j + 1).toNatClampNeg = j + 1 := by rw [ep]; exact nI_clamp (by omega)
    refine br_f hlt (br_f h6 ⟨v1, v0, nm_e ⟨v1, v0, nm_e (nm_r (nI_1 j) ?_)⟩⟩)
    rw [c1, c0]
    exact ih (j + 1) _ _ (by omega) K
end
end
section
/-! what is owed, first half -/
theorem i_up {k : Nat} {u : SX} {v : SY} (h : i_Rel k u v) : i_Rel (k + 5) u v := h
theorem i_vc0 : wpX_init (fun u => wpY_init (fun v => i_Rel 0 u v)) := ⟨0, rfl, rfl, rfl, rfl, Nat.zero_le _, fun k hk => absurd hk (Nat.not_lt_zero k)⟩
theorem i_vc_add {k : Nat} {u : SX} {v : SY} (I : i_Rel k u v) (hk : k + 5 ≤ 2560) (v1 : Int32) (v2 : Int32) : wpX_add (fun r u' => wpY_add (fun r' v' => r' = r ∧ i_Rel (k + 5) u' v') v v1 v2) u v1 v2 := by
  refine fz_el (P := fun u v => wpX_add (fun r u' => wpY_add (fun r' v' => r' = r ∧ i_Rel (k + 5) u' v') v v1 v2) u v1 v2) ?_ I
  intro n xrn xow xhp xhl xhh xlt xlb xht xhb xol xoh xsl xli ra rb rc rd rs oa ob oc od os ymn ypx ypy ypz yun yan ybt ybb ya yb yc yd hok
  have hn := hok.1
  unfold wpX_add wpY_add
  dsimp only
  refine fz_xslope (fun hs => br_f (by decide) (fz_xlimit (fun hl => br_f (by decide) ?_) (fun hl => br_t rfl ?_))) (fun hs => br_t rfl ?_)
  · refine br_c (fun h7 => ?_) (fun h7 => ?_)
    · have e7 : n = 7 := (nI_eq (a := n) (b := 7) (by omega) (by decide)).mp h7
      have n6 : ¬ nI n ≤ (6 : Int32) := nI_ge (a := 6) (by omega) (by omega)
      exact fz_yslope (fun _ => br_t rfl (fz_ylimit (fun _ => br_f n6 ⟨rfl, fz_rel hok⟩) (fun h => absurd hl h))) (fun h => absurd hs h)
    · have e7 : n ≠ 7 := fun w => h7 (by rw [w]; rfl)
      have n6 : nI n ≤ (6 : Int32) := nI_le (b := 6) (by omega) (by decide)
      have vn : vp_in (nI n) 7 := vp_in_nI (by omega) (by omega)
      have en : (nI n).toNatClampNeg = n := nI_clamp (by omega)
      have ok2 : fz_ok (n + 1) (upd xsl (nI n).toNatClampNeg v1) (upd xli (nI n).toNatClampNeg v2) := by
        rw [en]
        refine ⟨by omega, fun j hj => ?_⟩
        by_cases e : j = n
        · subst e
          rw [pk_us, pk_us]
          exact ⟨hs, hl⟩
        · rw [pk_un e, pk_un e]
          exact hok.2 j (by omega)
      refine ⟨vn, nm_e ⟨vn, nm_e (nm_r (nI_1 n) ?_)⟩⟩
      refine fz_yslope (fun _ => br_t rfl (fz_ylimit (fun _ => br_t n6 ⟨vn, nm_e ⟨vn, nm_e (nm_r (nI_1 n) ⟨(nI_pred n).symm, fz_rel ok2⟩)⟩⟩) (fun h => absurd hl h))) (fun h => absurd hs h)
  · exact fz_yslope (fun _ => br_t rfl (fz_ylimit (fun h => absurd h hl) (fun _ => ⟨rfl, fz_rel hok⟩))) (fun h => absurd hs h)
  · exact fz_yslope (fun h => absurd h hs) (fun _ => br_f (by decide) ⟨rfl, fz_rel hok⟩)
theorem i_vc_remove {k : Nat} {u : SX} {v : SY} (I : i_Rel k u v) (hk : k + 5 ≤ 2560) (v1 : Int32) : wpX_remove (fun r u' => wpY_remove (fun r' v' => r' = r ∧ i_Rel (k + 5) u' v') v v1) u v1 := by
  refine fz_el (P := fun u v => wpX_remove (fun r u' => wpY_remove (fun r' v' => r' = r ∧ i_Rel (k + 5) u' v') v v1) u v1) ?_ I
  intro n xrn xow xhp xhl xhh xlt xlb xht xhb xol xoh xsl xli ra rb rc rd rs oa ob oc od os ymn ypx ypy ypz yun yan ybt ybb ya yb yc yd hok
  have hn := hok.1
  unfold wpX_remove wpY_remove
  dsimp only
  refine fz_xbound hn (fun hb => br_f (by decide) ?_) (fun hb => br_t rfl ?_)
  · have hb' := hb
    obtain ⟨j, hj, rfl⟩ := hb'
    have ok2 : fz_ok (n - 1) (fz_shift (n - 1 - j) j xsl) (fz_shift (n - 1 - j) j xli) := by
      have := fz_okshift (n := n) (n - 1 - j) j xsl xli (by omega) hok
      exact ⟨by omega, fun i hi => this.2 i (by omega)⟩
    refine nm_r (nI_1 j) ⟨n - 1 - j + 1, fz_xrem hn (n - 1 - j) j xsl xli (by omega) ?_⟩
    exact fz_ybound hn (fun _ => br_t rfl ⟨n - 1 - j + 1, fz_yrem hn (n - 1 - j) j xsl xli (by omega) ⟨rfl, fz_rel ok2⟩⟩) (fun h => absurd hb h)
  · exact fz_ybound hn (fun h => absurd h hb) (fun _ => br_f (by decide) ⟨rfl, fz_rel hok⟩)
theorem i_vc_move {k : Nat} {u : SX} {v : SY} (I : i_Rel k u v) (hk : k + 5 ≤ 2560) (v1 : Int32) (v2 : Int32) : wpX_move (fun r u' => wpY_move (fun r' v' => r' = r ∧ i_Rel (k + 5) u' v') v v1 v2) u v1 v2 := by
  refine fz_el (P := fun u v => wpX_move (fun r u' => wpY_move (fun r' v' => r' = r ∧ i_Rel (k + 5) u' v') v v1 v2) u v1 v2) ?_ I
  intro n xrn xow xhp xhl xhh xlt xlb xht xhb xol xoh xsl xli ra rb rc rd rs oa ob oc od os ymn ypx ypy ypz yun yan ybt ybb ya yb yc yd hok
  have hn := hok.1
  unfold wpX_move wpY_move
  dsimp only
  refine fz_xbound hn (fun hb => br_f (by decide) (fz_xlimit (fun hl => br_f (by decide) ?_) (fun hl => br_t rfl ?_))) (fun hb => br_t rfl ?_)
  · have hb' := hb
    obtain ⟨j, hj, rfl⟩ := hb'
    have vj : vp_in (nI j) 7 := vp_in_nI (by omega) (by omega)
    have ej : (nI j).toNatClampNeg = j := nI_clamp (by omega)
    have ok2 : fz_ok n xsl (upd xli (nI j).toNatClampNeg v2) := by
      rw [ej]
      refine ⟨hn, fun i hi => ?_⟩
      by_cases e : i = j
      · subst e
        rw [pk_us]
        exact ⟨(hok.2 i hi).1, hl⟩
      · rw [pk_un e]
        exact hok.2 i hi
    refine ⟨vj, nm_e ⟨vj, nm_e ?_⟩⟩
    exact fz_ybound hn (fun _ => br_t rfl (fz_ylimit (fun _ => ⟨vj, nm_e ⟨vj, nm_e ⟨rfl, fz_rel ok2⟩⟩⟩) (fun h => absurd hl h))) (fun h => absurd hb h)
  · exact fz_ybound hn (fun _ => br_t rfl (fz_ylimit (fun h => absurd h hl) (fun _ => ⟨rfl, fz_rel hok⟩))) (fun h => absurd hb h)
  · exact fz_ybound hn (fun h => absurd h hb) (fun _ => br_f (by decide) ⟨rfl, fz_rel hok⟩)
theorem i_vc_bounds {k : Nat} {u : SX} {v : SY} (I : i_Rel k u v) (hk : k + 5 ≤ 2560) : wpX_bounds (fun r => wpY_bounds (fun r' => r' = r ∧ i_Rel (k + 5) u v) v) u := by
  refine fz_el (P := fun u v => wpX_bounds (fun r => wpY_bounds (fun r' => r' = r ∧ i_Rel (k + 5) u v) v) u) ?_ I
  intro n xrn xow xhp xhl xhh xlt xlb xht xhb xol xoh xsl xli ra rb rc rd rs oa ob oc od os ymn ypx ypy ypz yun yan ybt ybb ya yb yc yd hok
  have hn := hok.1
  exact ⟨rfl, fz_rel hok⟩
theorem i_vc_empty {k : Nat} {u : SX} {v : SY} (I : i_Rel k u v) (hk : k + 5 ≤ 2560) : wpX_empty (fun r u' => wpY_empty (fun r' v' => r' = r ∧ i_Rel (k + 5) u' v') v) u := by
  refine fz_el (P := fun u v => wpX_empty (fun r u' => wpY_empty (fun r' v' => r' = r ∧ i_Rel (k + 5) u' v') v) u) ?_ I
  intro n xrn xow xhp xhl xhh xlt xlb xht xhb xol xoh xsl xli ra rb rc rd rs oa ob oc od os ymn ypx ypy ypz yun yan ybt ybb ya yb yc yd hok
  have hn := hok.1
  have z1 : ¬ (0 : Int32) = 1 := by decide
  have t0 : -4 ≤ (0 : Int32).toInt ∧ (0 : Int32).toInt ≤ 4 := by decide
  unfold wpX_empty wpY_empty
  dsimp only
  refine fz_span (ax := 0) (by decide) hok (fun r xrn' xhp' ra' rb' rc' rd' rs' xow' oa' ob' oc' od' os' xhl' xhh' xlt' xlb' xht' xhb' xol' xoh' g1 g2 g3 => br_c (fun q => ?_) (fun q => ?_))
  · refine fz_search hok t0 t0 t0 (fun ymn' ya' yb' yc' yd' ypx' ypy' ypz' yun' yan' ybt' ybb' h => ?_)
    rcases h with ⟨h1, h2⟩ | ⟨h1, -, -, ⟨p, hp, -⟩, -⟩
    · exact br_t h1 ⟨rfl, fz_rel hok⟩
    · exact absurd (q.symm.trans (g2.mpr ⟨p, hp⟩)) z1
  · have he := g2.mp (g1.elim (fun z => absurd z q) id)
    refine fz_search hok t0 t0 t0 (fun ymn' ya' yb' yc' yd' ypx' ypy' ypz' yun' yan' ybt' ybb' h => ?_)
    rcases h with ⟨h1, h2⟩ | ⟨h1, -⟩
    · exact absurd he h2
    · subst h1
      exact br_f (show ¬ (1 : Int32) = 0 by decide) ⟨rfl, fz_rel hok⟩
theorem i_vc_mostTop {k : Nat} {u : SX} {v : SY} (I : i_Rel k u v) (hk : k + 5 ≤ 2560) (v1 : Int32) : wpX_mostTop (fun r u' => wpY_mostTop (fun r' v' => r' = r ∧ i_Rel (k + 5) u' v') v v1) u v1 := by
  refine fz_el (P := fun u v => wpX_mostTop (fun r u' => wpY_mostTop (fun r' v' => r' = r ∧ i_Rel (k + 5) u' v') v v1) u v1) ?_ I
  intro n xrn xow xhp xhl xhh xlt xlb xht xhb xol xoh xsl xli ra rb rc rd rs oa ob oc od os ymn ypx ypy ypz yun yan ybt ybb ya yb yc yd hok
  have hn := hok.1
  have z1 : ¬ (0 : Int32) = 1 := by decide
  have ts : (1 : Int32).toInt = 1 := by decide
  unfold wpX_mostTop wpY_mostTop
  dsimp only
  refine fz_xaxis (fun ha => br_f (by decide) ?_) (fun ha => br_t rfl ?_)
  · obtain ⟨ax, hax, rfl⟩ := ha
    refine fz_span hax hok (fun r xrn' xhp' ra' rb' rc' rd' rs' xow' oa' ob' oc' od' os' xhl' xhh' xlt' xlb' xht' xhb' xol' xoh' g1 g2 g3 => br_c (fun q => ?_) (fun q => ?_))
    · refine fz_extreme hax (Or.inl ts) hok (fun ymn' ya' yb' yc' yd' ypx' ypy' ypz' yun' yan' ybt' ybb' _ => ⟨fun w => absurd w (by decide), fun _ => ⟨rfl, fz_rel hok⟩⟩) (fun ymn' ya' yb' yc' yd' ypx' ypy' ypz' yun' yan' ybt' ybb' top bot he _ => absurd (q.symm.trans (g2.mpr he)) z1)
    · have r1 : r = 1 := g1.elim (fun z => absurd z q) id
      refine fz_extreme hax (Or.inl ts) hok (fun ymn' ya' yb' yc' yd' ypx' ypy' ypz' yun' yan' ybt' ybb' hne => absurd (g2.mp r1) hne) (fun ymn' ya' yb' yc' yd' ypx' ypy' ypz' yun' yan' ybt' ybb' top bot he xt => ?_)
      rw [ts] at xt
      have e := fz_xtU (Or.inl rfl) (fz_xtmax (g3 r1).1) xt
      exact ⟨fun w => absurd w (by decide), fun _ => ⟨e.1.symm, fz_rel hok⟩⟩
  · exact fz_yaxis (fun h => absurd h ha) (fun _ => br_f (by decide) ⟨rfl, fz_rel hok⟩)
theorem i_vc_mostBottom {k : Nat} {u : SX} {v : SY} (I : i_Rel k u v) (hk : k + 5 ≤ 2560) (v1 : Int32) : wpX_mostBottom (fun r u' => wpY_mostBottom (fun r' v' => r' = r ∧ i_Rel (k + 5) u' v') v v1) u v1 := by
  refine fz_el (P := fun u v => wpX_mostBottom (fun r u' => wpY_mostBottom (fun r' v' => r' = r ∧ i_Rel (k + 5) u' v') v v1) u v1) ?_ I
  intro n xrn xow xhp xhl xhh xlt xlb xht xhb xol xoh xsl xli ra rb rc rd rs oa ob oc od os ymn ypx ypy ypz yun yan ybt ybb ya yb yc yd hok
  have hn := hok.1
  have z1 : ¬ (0 : Int32) = 1 := by decide
  have ts : (1 : Int32).toInt = 1 := by decide
  unfold wpX_mostBottom wpY_mostBottom
  dsimp only
  refine fz_xaxis (fun ha => br_f (by decide) ?_) (fun ha => br_t rfl ?_)
  · obtain ⟨ax, hax, rfl⟩ := ha
    refine fz_span hax hok (fun r xrn' xhp' ra' rb' rc' rd' rs' xow' oa' ob' oc' od' os' xhl' xhh' xlt' xlb' xht' xhb' xol' xoh' g1 g2 g3 => br_c (fun q => ?_) (fun q => ?_))
    · refine fz_extreme hax (Or.inl ts) hok (fun ymn' ya' yb' yc' yd' ypx' ypy' ypz' yun' yan' ybt' ybb' _ => ⟨fun _ => ⟨rfl, fz_rel hok⟩, fun w => absurd rfl w⟩) (fun ymn' ya' yb' yc' yd' ypx' ypy' ypz' yun' yan' ybt' ybb' top bot he _ => absurd (q.symm.trans (g2.mpr he)) z1)
    · have r1 : r = 1 := g1.elim (fun z => absurd z q) id
      refine fz_extreme hax (Or.inl ts) hok (fun ymn' ya' yb' yc' yd' ypx' ypy' ypz' yun' yan' ybt' ybb' hne => absurd (g2.mp r1) hne) (fun ymn' ya' yb' yc' yd' ypx' ypy' ypz' yun' yan' ybt' ybb' top bot he xt => ?_)
      rw [ts] at xt
      have e := fz_xtU (Or.inl rfl) (fz_xtmax (g3 r1).1) xt
      exact ⟨fun _ => ⟨e.2.symm, fz_rel hok⟩, fun w => absurd rfl w⟩
  · exact fz_yaxis (fun h => absurd h ha) (fun _ => br_t rfl ⟨rfl, fz_rel hok⟩)
theorem i_vc_leastTop {k : Nat} {u : SX} {v : SY} (I : i_Rel k u v) (hk : k + 5 ≤ 2560) (v1 : Int32) : wpX_leastTop (fun r u' => wpY_leastTop (fun r' v' => r' = r ∧ i_Rel (k + 5) u' v') v v1) u v1 := by
  refine fz_el (P := fun u v => wpX_leastTop (fun r u' => wpY_leastTop (fun r' v' => r' = r ∧ i_Rel (k + 5) u' v') v v1) u v1) ?_ I
  intro n xrn xow xhp xhl xhh xlt xlb xht xhb xol xoh xsl xli ra rb rc rd rs oa ob oc od os ymn ypx ypy ypz yun yan ybt ybb ya yb yc yd hok
  have hn := hok.1
  have z1 : ¬ (0 : Int32) = 1 := by decide
  have ts : (-1 : Int32).toInt = -1 := by decide
  unfold wpX_leastTop wpY_leastTop
  dsimp only
  refine fz_xaxis (fun ha => br_f (by decide) ?_) (fun ha => br_t rfl ?_)
  · obtain ⟨ax, hax, rfl⟩ := ha
    refine fz_span hax hok (fun r xrn' xhp' ra' rb' rc' rd' rs' xow' oa' ob' oc' od' os' xhl' xhh' xlt' xlb' xht' xhb' xol' xoh' g1 g2 g3 => br_c (fun q => ?_) (fun q => ?_))
    · refine fz_extreme hax (Or.inr ts) hok (fun ymn' ya' yb' yc' yd' ypx' ypy' ypz' yun' yan' ybt' ybb' _ => ⟨fun w => absurd w (by decide), fun _ => ⟨rfl, fz_rel hok⟩⟩) (fun ymn' ya' yb' yc' yd' ypx' ypy' ypz' yun' yan' ybt' ybb' top bot he _ => absurd (q.symm.trans (g2.mpr he)) z1)
    · have r1 : r = 1 := g1.elim (fun z => absurd z q) id
      refine fz_extreme hax (Or.inr ts) hok (fun ymn' ya' yb' yc' yd' ypx' ypy' ypz' yun' yan' ybt' ybb' hne => absurd (g2.mp r1) hne) (fun ymn' ya' yb' yc' yd' ypx' ypy' ypz' yun' yan' ybt' ybb' top bot he xt => ?_)
      rw [ts] at xt
      have e := fz_xtU (Or.inr rfl) (fz_xtmin (g3 r1).2) xt
      exact ⟨fun w => absurd w (by decide), fun _ => ⟨e.1.symm, fz_rel hok⟩⟩
  · exact fz_yaxis (fun h => absurd h ha) (fun _ => br_f (by decide) ⟨rfl, fz_rel hok⟩)
theorem i_vc_leastBottom {k : Nat} {u : SX} {v : SY} (I : i_Rel k u v) (hk : k + 5 ≤ 2560) (v1 : Int32) : wpX_leastBottom (fun r u' => wpY_leastBottom (fun r' v' => r' = r ∧ i_Rel (k + 5) u' v') v v1) u v1 := by
  refine fz_el (P := fun u v => wpX_leastBottom (fun r u' => wpY_leastBottom (fun r' v' => r' = r ∧ i_Rel (k + 5) u' v') v v1) u v1) ?_ I
  intro n xrn xow xhp xhl xhh xlt xlb xht xhb xol xoh xsl xli ra rb rc rd rs oa ob oc od os ymn ypx ypy ypz yun yan ybt ybb ya yb yc yd hok
  have hn := hok.1
  have z1 : ¬ (0 : Int32) = 1 := by decide
  have ts : (-1 : Int32).toInt = -1 := by decide
  unfold wpX_leastBottom wpY_leastBottom
  dsimp only
  refine fz_xaxis (fun ha => br_f (by decide) ?_) (fun ha => br_t rfl ?_)
  · obtain ⟨ax, hax, rfl⟩ := ha
    refine fz_span hax hok (fun r xrn' xhp' ra' rb' rc' rd' rs' xow' oa' ob' oc' od' os' xhl' xhh' xlt' xlb' xht' xhb' xol' xoh' g1 g2 g3 => br_c (fun q => ?_) (fun q => ?_))
    · refine fz_extreme hax (Or.inr ts) hok (fun ymn' ya' yb' yc' yd' ypx' ypy' ypz' yun' yan' ybt' ybb' _ => ⟨fun _ => ⟨rfl, fz_rel hok⟩, fun w => absurd rfl w⟩) (fun ymn' ya' yb' yc' yd' ypx' ypy' ypz' yun' yan' ybt' ybb' top bot he _ => absurd (q.symm.trans (g2.mpr he)) z1)
    · have r1 : r = 1 := g1.elim (fun z => absurd z q) id
      refine fz_extreme hax (Or.inr ts) hok (fun ymn' ya' yb' yc' yd' ypx' ypy' ypz' yun' yan' ybt' ybb' hne => absurd (g2.mp r1) hne) (fun ymn' ya' yb' yc' yd' ypx' ypy' ypz' yun' yan' ybt' ybb' top bot he xt => ?_)
      rw [ts] at xt
      have e := fz_xtU (Or.inr rfl) (fz_xtmin (g3 r1).2) xt
      exact ⟨fun _ => ⟨e.2.symm, fz_rel hok⟩, fun w => absurd rfl w⟩
  · exact fz_yaxis (fun h => absurd h ha) (fun _ => br_t rfl ⟨rfl, fz_rel hok⟩)
end
section
/-! what is owed, second half -/
theorem i_vc_follows {k : Nat} {u : SX} {v : SY} (I : i_Rel k u v) (hk : k + 5 ≤ 2560) (v1 : Int32) (v2 : Int32) : wpX_follows (fun r u' => wpY_follows (fun r' v' => r' = r ∧ i_Rel (k + 5) u' v') v v1 v2) u v1 v2 := by
  refine fz_el (P := fun u v => wpX_follows (fun r u' => wpY_follows (fun r' v' => r' = r ∧ i_Rel (k + 5) u' v') v v1 v2) u v1 v2) ?_ I
  intro n xrn xow xhp xhl xhh xlt xlb xht xhb xol xoh xsl xli ra rb rc rd rs oa ob oc od os ymn ypx ypy ypz yun yan ybt ybb ya yb yc yd hok
  have hn := hok.1
  have z1 : ¬ (0 : Int32) = 1 := by decide
  unfold wpX_follows wpY_follows
  dsimp only
  refine fz_xslope (fun hs => br_f (by decide) (fz_k1000 (fun hl => ?_) (fun hl => ?_))) (fun hs => br_t rfl ?_)
  · have hs' := hs
    obtain ⟨t, ht, rfl⟩ := hs'
    have cm : ∀ {bt bb : Int64}, (0 < bb.toInt ∧ bb.toInt ≤ 384000) → (v2.toInt64 * bb < bt ↔ ¬ bt.toInt ≤ v2.toInt * bb.toInt) := by
      intro bt bb hb
      rw [Int64.lt_iff_toInt_lt, fz_lmul (A := 1000) (B := 384000) (by rw [Jvm.Kit.i64_of_i32]; exact hl) (by omega) (by decide), Jvm.Kit.i64_of_i32]
      omega
    refine fz_kept hok ht hl (fun r xrn' xhp' ra' rb' rc' rd' rs' xow' oa' ob' oc' od' os' xhl' xhh' xlt' xlb' xht' xhb' xol' xoh' g1 g2 => ?_)
    have g2' : r = 1 ↔ fz_kp n xsl xli (-1) t v2.toInt := g2
    refine br_c (fun q => ?_) (fun q => ?_)
    · refine fz_yslope (fun _ => br_t rfl (fz_k1000 (fun _ => fz_toward ht hok (fun ymn' ya' yb' yc' yd' ypx' ypy' ypz' yun' yan' ybt' ybb' h => ?_)) (fun h => absurd hl h))) (fun h => absurd hs h)
      rcases h with ⟨h1, h2⟩ | ⟨h1, h2⟩
      · exact absurd (q.symm.trans (g2'.mpr (fun ⟨p, hp, _⟩ => h2 ⟨p, hp⟩))) z1
      · subst h1
        have nk : ¬ fz_kp n xsl xli (-1) t v2.toInt := fun w => z1 (q.symm.trans (g2'.mpr w))
        rw [fz_kpE h2] at nk
        exact br_f (show ¬ (1 : Int32) = 0 by decide) (br_t ((cm h2.1).mpr nk) ⟨rfl, fz_rel hok⟩)
    · have kp := g2'.mp (g1.elim (fun z => absurd z q) id)
      refine fz_yslope (fun _ => br_t rfl (fz_k1000 (fun _ => fz_toward ht hok (fun ymn' ya' yb' yc' yd' ypx' ypy' ypz' yun' yan' ybt' ybb' h => ?_)) (fun h => absurd hl h))) (fun h => absurd hs h)
      rcases h with ⟨h1, h2⟩ | ⟨h1, h2⟩
      · exact br_t h1 ⟨rfl, fz_rel hok⟩
      · subst h1
        rw [fz_kpE h2] at kp
        exact br_f (show ¬ (1 : Int32) = 0 by decide) (br_f (fun w => (cm h2.1).mp w kp) ⟨rfl, fz_rel hok⟩)
  · exact fz_yslope (fun _ => br_t rfl (fz_k1000 (fun h => absurd h hl) (fun _ => ⟨rfl, fz_rel hok⟩))) (fun h => absurd hs h)
  · exact fz_yslope (fun h => absurd h hs) (fun _ => br_f (by decide) ⟨rfl, fz_rel hok⟩)
theorem i_vc_support {k : Nat} {u : SX} {v : SY} (I : i_Rel k u v) (hk : k + 5 ≤ 2560) (v1 : Int32) : wpX_support (fun r u' => wpY_support (fun r' v' => r' = r ∧ i_Rel (k + 5) u' v') v v1) u v1 := by
  refine fz_el (P := fun u v => wpX_support (fun r u' => wpY_support (fun r' v' => r' = r ∧ i_Rel (k + 5) u' v') v v1) u v1) ?_ I
  intro n xrn xow xhp xhl xhh xlt xlb xht xhb xol xoh xsl xli ra rb rc rd rs oa ob oc od os ymn ypx ypy ypz yun yan ybt ybb ya yb yc yd hok
  have hn := hok.1
  have z1 : ¬ (0 : Int32) = 1 := by decide
  unfold wpX_support wpY_support
  dsimp only
  refine fz_xslope (fun hs => br_f (by decide) ?_) (fun hs => br_t rfl ?_)
  · have hs' := hs
    obtain ⟨t, ht, rfl⟩ := hs'
    refine fz_span (ax := 0) (by decide) hok (fun r xrn' xhp' ra' rb' rc' rd' rs' xow' oa' ob' oc' od' os' xhl' xhh' xlt' xlb' xht' xhb' xol' xoh' g1 g2 g3 => br_c (fun q => ?_) (fun q => ?_))
    · refine fz_yslope (fun _ => br_t rfl (fz_toward ht hok (fun ymn' ya' yb' yc' yd' ypx' ypy' ypz' yun' yan' ybt' ybb' h => ?_))) (fun h => absurd hs h)
      rcases h with ⟨h1, h2⟩ | ⟨h1, -, -, ⟨p, hp, -⟩, -⟩
      · exact br_t h1 ⟨rfl, fz_rel hok⟩
      · exact absurd (q.symm.trans (g2.mpr ⟨p, hp⟩)) z1
    · obtain ⟨p, hp⟩ := g2.mp (g1.elim (fun z => absurd z q) id)
      have lo : (-201 : Int32).toInt = -201 := by decide
      have hi : (200 : Int32).toInt = 200 := by decide
      have k1 : ¬ fz_kp n xsl xli (-1) t (-201 : Int32).toInt := by
        rw [lo]
        intro w
        have b := fz_linb ht hp
        have e : ((-201 : Int) : Rat) = -201 := rfl
        exact w ⟨p, hp, by rw [e]; grind⟩
      have k2 : fz_kp n xsl xli (-1) t (200 : Int32).toInt := by
        rw [hi]
        rintro ⟨p', hp', w⟩
        have b := fz_linb ht hp'
        have e : ((200 : Int) : Rat) = 200 := rfl
        rw [e] at w
        grind
      refine ⟨10, fz_sup34 hok ht (fun h xrn'' xhp'' ra'' rb'' rc'' rd'' rs'' xow'' oa'' ob'' oc'' od'' os'' xhl'' xhh'' xlt'' xlb'' xht'' xhb'' xol'' xoh'' c1 c2 c3 => ?_) 9 0 (-201) 200 _ _ _ _ _ _ _ _ _ _ _ _ _ _ _ _ _ _ _ _ _ (by omega) (by rw [lo]; omega) (by rw [hi]; omega) (by rw [lo, hi]; omega) (by rw [lo, hi]; decide) k1 k2⟩
      refine fz_yslope (fun _ => br_t rfl (fz_toward ht hok (fun ymn' ya' yb' yc' yd' ypx' ypy' ypz' yun' yan' ybt' ybb' hh => ?_))) (fun h => absurd hs h)
      rcases hh with ⟨h1, h2⟩ | ⟨h1, h2⟩
      · exact absurd ⟨p, hp⟩ h2
      · subst h1
        have m1000 : (-1000 : Int32).toInt = -1000 := by decide
        refine br_f (show ¬ (1 : Int32) = 0 by decide) ⟨(h.toInt + 1000).toNat + 1, fz_ysup33 c1 h2.1 ((fz_kpE h2).mp c2) (fun d hd w => c3 (fz_kpM (d := d) (by omega) ((fz_kpE h2).mpr w))) ⟨rfl, fz_rel hok⟩ _ (-1000) (by rw [m1000]; omega) (by rw [m1000]; omega)⟩
  · exact fz_yslope (fun h => absurd h hs) (fun _ => br_f (by decide) ⟨rfl, fz_rel hok⟩)
theorem i_vc_redundant {k : Nat} {u : SX} {v : SY} (I : i_Rel k u v) (hk : k + 5 ≤ 2560) (v1 : Int32) : wpX_redundant (fun r u' => wpY_redundant (fun r' v' => r' = r ∧ i_Rel (k + 5) u' v') v v1) u v1 := by
  refine fz_el (P := fun u v => wpX_redundant (fun r u' => wpY_redundant (fun r' v' => r' = r ∧ i_Rel (k + 5) u' v') v v1) u v1) ?_ I
  intro n xrn xow xhp xhl xhh xlt xlb xht xhb xol xoh xsl xli ra rb rc rd rs oa ob oc od os ymn ypx ypy ypz yun yan ybt ybb ya yb yc yd hok
  have hn := hok.1
  have z1 : ¬ (0 : Int32) = 1 := by decide
  unfold wpX_redundant wpY_redundant
  dsimp only
  refine fz_xbound hn (fun hb => br_f (by decide) ?_) (fun hb => br_t rfl ?_)
  · have hb' := hb
    obtain ⟨j, hj, rfl⟩ := hb'
    have vj : vp_in (nI j) 7 := vp_in_nI (by omega) (by omega)
    have ej : (nI j).toNatClampNeg = j := nI_clamp (by omega)
    obtain ⟨⟨t, ht, es⟩, hl⟩ := hok.2 j hj
    have cm : ∀ {bt bb : Int64}, (0 < bb.toInt ∧ bb.toInt ≤ 384000) → ((xli j).toInt64 * bb < bt ↔ ¬ bt.toInt ≤ (xli j).toInt * bb.toInt) := by
      intro bt bb hb
      rw [Int64.lt_iff_toInt_lt, fz_lmul (A := 40) (B := 384000) (by rw [Jvm.Kit.i64_of_i32]; exact hl) (by omega) (by decide), Jvm.Kit.i64_of_i32]
      omega
    refine ⟨vj, vj, ?_⟩
    rw [ej, es]
    refine fz_kept hok ht (by omega) (fun r xrn' xhp' ra' rb' rc' rd' rs' xow' oa' ob' oc' od' os' xhl' xhh' xlt' xlb' xht' xhb' xol' xoh' g1 g2 => ?_)
    have g2' : r = 1 ↔ fz_kp n xsl xli (nI j) t (xli j).toInt := g2
    refine br_c (fun q => ?_) (fun q => ?_)
    · refine fz_ybound hn (fun _ => br_t rfl ⟨vj, fz_toward ht hok (fun ymn' ya' yb' yc' yd' ypx' ypy' ypz' yun' yan' ybt' ybb' h => ?_)⟩) (fun h => absurd hb h)
      rcases h with ⟨h1, h2⟩ | ⟨h1, h2⟩
      · exact absurd (q.symm.trans (g2'.mpr (fun ⟨p, hp, _⟩ => h2 ⟨p, hp⟩))) z1
      · subst h1
        have nk : ¬ fz_kp n xsl xli (nI j) t (xli j).toInt := fun w => z1 (q.symm.trans (g2'.mpr w))
        rw [fz_kpE h2] at nk
        exact br_f (show ¬ (1 : Int32) = 0 by decide) ⟨vj, br_t ((cm h2.1).mpr nk) ⟨rfl, fz_rel hok⟩⟩
    · have kp := g2'.mp (g1.elim (fun z => absurd z q) id)
      refine fz_ybound hn (fun _ => br_t rfl ⟨vj, fz_toward ht hok (fun ymn' ya' yb' yc' yd' ypx' ypy' ypz' yun' yan' ybt' ybb' h => ?_)⟩) (fun h => absurd hb h)
      rcases h with ⟨h1, h2⟩ | ⟨h1, h2⟩
      · exact br_t h1 ⟨rfl, fz_rel hok⟩
      · subst h1
        rw [fz_kpE h2] at kp
        exact br_f (show ¬ (1 : Int32) = 0 by decide) ⟨vj, br_f (fun w => (cm h2.1).mp w kp) ⟨rfl, fz_rel hok⟩⟩
  · exact fz_ybound hn (fun h => absurd h hb) (fun _ => br_f (by decide) ⟨rfl, fz_rel hok⟩)
theorem i_vc_has {k : Nat} {u : SX} {v : SY} (I : i_Rel k u v) (hk : k + 5 ≤ 2560) (v1 : Int32) (v2 : Int32) (v3 : Int32) (v4 : Int32) : wpX_has (fun r u' => wpY_has (fun r' v' => r' = r ∧ i_Rel (k + 5) u' v') v v1 v2 v3 v4) u v1 v2 v3 v4 := by
  refine fz_el (P := fun u v => wpX_has (fun r u' => wpY_has (fun r' v' => r' = r ∧ i_Rel (k + 5) u' v') v v1 v2 v3 v4) u v1 v2 v3 v4) ?_ I
  intro n xrn xow xhp xhl xhh xlt xlb xht xhb xol xoh xsl xli ra rb rc rd rs oa ob oc od os ymn ypx ypy ypz yun yan ybt ybb ya yb yc yd hok
  have hn := hok.1
  have z1 : ¬ (0 : Int32) = 1 := by decide
  unfold wpX_has wpY_has
  dsimp only
  refine fz_k20 (fun h4 => ?_) (fun h4 => ?_)
  · refine fz_xnear (fun h1 => br_f (by decide) (fz_xnear (fun h2 => br_f (by decide) (fz_xnear (fun h3 => br_f (by decide) ?_) (fun h3 => br_t rfl ?_))) (fun h2 => br_t rfl ?_))) (fun h1 => br_t rfl ?_)
    · refine fz_start (xrn := xrn) (xhp := xhp) hok (D := 40) (by decide) (by decide) (σ := False) (fun m1 xrn' xhp' ra' rb' rc' rd' rs' c1 c2 => ⟨m1 + 1, ?_⟩)
      refine fz_has47 (by omega) h1 h2 h3 h4 c2 (fun r g1 g2 => ?_) m1 0 (by omega) (fun i hi => absurd hi (Nat.not_lt_zero i))
      refine fz_k20 (fun _ => fz_yfar (fun _ => br_t rfl (fz_yfar (fun _ => br_t rfl (fz_yfar (fun _ => br_t rfl ?_) (fun h => absurd h3 h))) (fun h => absurd h2 h))) (fun h => absurd h1 h)) (fun h => absurd h4 h)
      refine fz_take (ymn := ymn) hok (fun m2 ya' yb' yc' yd' d1 d2 d3 => ⟨m2 + 1, ?_⟩)
      refine fz_yhas50 d2 d3 h1 h2 h3 h4 (fun r' g1' g2' => ⟨?_, fz_rel hok⟩) m2 0 (by omega) (fun i hi => absurd hi (Nat.not_lt_zero i))
      rcases g1 with e | e
      · rcases g1' with e' | e'
        · rw [e, e']
        · exact absurd (e.symm.trans (g2.mpr (g2'.mp e'))) z1
      · rcases g1' with e' | e'
        · exact absurd (e'.symm.trans (g2'.mpr (g2.mp e))) z1
        · rw [e, e']
    · exact fz_k20 (fun _ => fz_yfar (fun _ => br_t rfl (fz_yfar (fun _ => br_t rfl (fz_yfar (fun h => absurd h h3) (fun _ => br_f (by decide) ⟨rfl, fz_rel hok⟩))) (fun h => absurd h2 h))) (fun h => absurd h1 h)) (fun h => absurd h4 h)
    · exact fz_k20 (fun _ => fz_yfar (fun _ => br_t rfl (fz_yfar (fun h => absurd h h2) (fun _ => br_f (by decide) ⟨rfl, fz_rel hok⟩))) (fun h => absurd h1 h)) (fun h => absurd h4 h)
    · exact fz_k20 (fun _ => fz_yfar (fun h => absurd h h1) (fun _ => br_f (by decide) ⟨rfl, fz_rel hok⟩)) (fun h => absurd h4 h)
  · exact fz_k20 (fun h => absurd h h4) (fun _ => ⟨rfl, fz_rel hok⟩)
theorem i_vc_shadow {k : Nat} {u : SX} {v : SY} (I : i_Rel k u v) (hk : k + 5 ≤ 2560) (v1 : Int32) (v2 : Int32) (v3 : Int32) (v4 : Int32) : wpX_shadow (fun r u' => wpY_shadow (fun r' v' => r' = r ∧ i_Rel (k + 5) u' v') v v1 v2 v3 v4) u v1 v2 v3 v4 := by
  refine fz_el (P := fun u v => wpX_shadow (fun r u' => wpY_shadow (fun r' v' => r' = r ∧ i_Rel (k + 5) u' v') v v1 v2 v3 v4) u v1 v2 v3 v4) ?_ I
  intro n xrn xow xhp xhl xhh xlt xlb xht xhb xol xoh xsl xli ra rb rc rd rs oa ob oc od os ymn ypx ypy ypz yun yan ybt ybb ya yb yc yd hok
  have hn := hok.1
  have z1 : ¬ (0 : Int32) = 1 := by decide
  unfold wpX_shadow wpY_shadow
  dsimp only
  refine fz_xaxis (fun ha => br_f (by decide) (fz_k20 (fun h4 => ?_) (fun h4 => ?_))) (fun ha => br_t rfl ?_)
  · refine fz_xnear (fun h2 => br_f (by decide) (fz_xnear (fun h3 => br_f (by decide) ?_) (fun h3 => br_t rfl ?_))) (fun h2 => br_t rfl ?_)
    · have ha' := ha
      obtain ⟨ax, hax, rfl⟩ := ha'
      refine fz_isShadow hax hok h2 h3 h4 (fun r xrn' xhp' ra' rb' rc' rd' rs' xhl' xhh' xlt' xlb' xht' xhb' xol' xoh' g1 g2 => ?_)
      refine br_c (fun q => ?_) (fun q => ?_)
      · refine fz_yaxis (fun _ => fz_k20 (fun _ => fz_yfar (fun _ => br_t rfl (fz_yfar (fun _ => br_t rfl ?_) (fun h => absurd h3 h))) (fun h => absurd h2 h)) (fun h => absurd h4 h)) (fun h => absurd ha h)
        refine fz_take (ymn := ymn) hok (fun m2 ya' yb' yc' yd' d1 d2 d3 => ?_)
        refine fz_shades hax d2 d3 h2 h3 h4 (fun r' g1' g2' => br_c (fun q' => ⟨rfl, fz_rel hok⟩) (fun q' => ?_))
        exact absurd (q.symm.trans (g2.mpr (g2'.mp (g1'.elim (fun z => absurd z q') id)))) z1
      · refine fz_yaxis (fun _ => fz_k20 (fun _ => fz_yfar (fun _ => br_t rfl (fz_yfar (fun _ => br_t rfl ?_) (fun h => absurd h3 h))) (fun h => absurd h2 h)) (fun h => absurd h4 h)) (fun h => absurd ha h)
        refine fz_take (ymn := ymn) hok (fun m2 ya' yb' yc' yd' d1 d2 d3 => ?_)
        refine fz_shades hax d2 d3 h2 h3 h4 (fun r' g1' g2' => br_c (fun q' => ?_) (fun q' => ⟨rfl, fz_rel hok⟩))
        exact absurd (q'.symm.trans (g2'.mpr (g2.mp (g1.elim (fun z => absurd z q) id)))) z1
    · exact fz_yaxis (fun _ => fz_k20 (fun _ => fz_yfar (fun _ => br_t rfl (fz_yfar (fun h => absurd h h3) (fun _ => br_f (by decide) ⟨rfl, fz_rel hok⟩))) (fun h => absurd h2 h)) (fun h => absurd h4 h)) (fun h => absurd ha h)
    · exact fz_yaxis (fun _ => fz_k20 (fun _ => fz_yfar (fun h => absurd h h2) (fun _ => br_f (by decide) ⟨rfl, fz_rel hok⟩)) (fun h => absurd h4 h)) (fun h => absurd ha h)
  · exact fz_yaxis (fun _ => fz_k20 (fun h => absurd h h4) (fun _ => ⟨rfl, fz_rel hok⟩)) (fun h => absurd ha h)
  · exact fz_yaxis (fun h => absurd h ha) (fun _ => ⟨rfl, fz_rel hok⟩)
theorem i_vc_shadowGrid {k : Nat} {u : SX} {v : SY} (I : i_Rel k u v) (hk : k + 5 ≤ 2560) (v1 : Int32) : wpX_shadowGrid (fun r u' => wpY_shadowGrid (fun r' v' => r' = r ∧ i_Rel (k + 5) u' v') v v1) u v1 := by
  refine fz_el (P := fun u v => wpX_shadowGrid (fun r u' => wpY_shadowGrid (fun r' v' => r' = r ∧ i_Rel (k + 5) u' v') v v1) u v1) ?_ I
  intro n xrn xow xhp xhl xhh xlt xlb xht xhb xol xoh xsl xli ra rb rc rd rs oa ob oc od os ymn ypx ypy ypz yun yan ybt ybb ya yb yc yd hok
  have hn := hok.1
  unfold wpX_shadowGrid wpY_shadowGrid
  dsimp only
  refine fz_xaxis (fun ha => br_f (by decide) ?_) (fun ha => br_t rfl ?_)
  · have ha' := ha
    obtain ⟨ax, hax, rfl⟩ := ha'
    refine ⟨22, ?_⟩
    rw [fz_im0]
    refine fz_xg14 hax hok 21 0 0 _ _ _ _ _ _ _ _ _ _ _ _ _ _ _ rfl (fun xrn' xhp' ra' rb' rc' rd' rs' xhl' xhh' xlt' xlb' xht' xhb' xol' xoh' => ?_)
    refine fz_yaxis (fun _ => ?_) (fun h => absurd ha h)
    refine fz_take (ymn := ymn) hok (fun m2 ya' yb' yc' yd' d1 d2 d3 => ⟨22, ?_⟩)
    exact fz_yg21 hax d2 d3 21 0 0 rfl ⟨rfl, fz_rel hok⟩
  · exact fz_yaxis (fun h => absurd h ha) (fun _ => ⟨rfl, fz_rel hok⟩)
theorem i_vc_single {k : Nat} {u : SX} {v : SY} (I : i_Rel k u v) (hk : k + 5 ≤ 2560) : wpX_single (fun r u' => wpY_single (fun r' v' => r' = r ∧ i_Rel (k + 5) u' v') v) u := by
  refine fz_el (P := fun u v => wpX_single (fun r u' => wpY_single (fun r' v' => r' = r ∧ i_Rel (k + 5) u' v') v) u) ?_ I
  intro n xrn xow xhp xhl xhh xlt xlb xht xhb xol xoh xsl xli ra rb rc rd rs oa ob oc od os ymn ypx ypy ypz yun yan ybt ybb ya yb yc yd hok
  have hn := hok.1
  have z1 : ¬ (0 : Int32) = 1 := by decide
  unfold wpX_single
  dsimp only
  refine ⟨4, fz_single2 hok 3 0 _ _ _ _ _ _ _ _ _ _ _ _ _ _ _ _ _ _ _ _ _ rfl (fun r xrn' xhp' ra' rb' rc' rd' rs' xow' oa' ob' oc' od' os' xhl' xhh' xlt' xlb' xht' xhb' xol' xoh' g1 g2 => ?_)⟩
  refine fz_ysingle hok (fun r' ymn' ya' yb' yc' yd' ypx' ypy' ypz' yun' yan' ybt' ybb' g1' g2' => ⟨?_, fz_rel hok⟩)
  rcases g1 with e | e
  · rcases g1' with e' | e'
    · rw [e, e']
    · exact absurd (e.symm.trans (g2.mpr (g2'.mp e'))) z1
  · rcases g1' with e' | e'
    · exact absurd (e'.symm.trans (g2'.mpr (g2.mp e))) z1
    · rw [e, e']
end
