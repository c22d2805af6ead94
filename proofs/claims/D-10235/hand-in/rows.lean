section
/-! the pure picture: S sizes, N nexts, A answers -/
def me_af (N : Nat → Nat) (p l : Nat) : Nat := 6 * (p / 6) + N (2 * p + l)
def me_th (S : Nat → Nat) (p : Nat) : Bool := decide (p % 6 < S (p / 6))
def me_in (N A : Nat → Nat) : Nat → Nat → Nat → Bool
  | 0 => fun _ _ => true
  | k + 1 => fun p q => decide (A (2 * p) = A (2 * q)) && (decide (A (2 * p + 1) = A (2 * q + 1)) && (me_in N A k (me_af N p 0) (me_af N q 0) && me_in N A k (me_af N p 1) (me_af N q 1)))
def me_ap (S N A : Nat → Nat) : Nat → Nat → Nat → Nat
  | 0 => fun _ _ => 0
  | L + 1 => fun p q => if me_ap S N A L p q = 0 then (if (me_th S p && (me_th S q && !(me_in N A (L + 1) p q))) = true then L + 1 else 0) else me_ap S N A L p q
def me_Ok (S N A : Nat → Nat) : Prop := (∀ m, m < 2 → 1 ≤ S m ∧ S m ≤ 6) ∧ (∀ j, j < 24 → N j < 6) ∧ (∀ m s l, m < 2 → s < S m → l < 2 → N (12 * m + 2 * s + l) < S m) ∧ (∀ j, j < 24 → A j < 4)
theorem me_af_lt {S N A : Nat → Nat} (K : me_Ok S N A) {p l : Nat} (hp : p < 12) (hl : l < 2) : me_af N p l < 12 := by
  have := K.2.1 (2 * p + l) (by omega)
  unfold me_af
  omega
theorem me_af_div {S N A : Nat → Nat} (K : me_Ok S N A) {p l : Nat} (hp : p < 12) (hl : l < 2) : me_af N p l / 6 = p / 6 := by
  have := K.2.1 (2 * p + l) (by omega)
  unfold me_af
  omega
theorem me_af_mod {S N A : Nat → Nat} (K : me_Ok S N A) {p l : Nat} (hp : p < 12) (hl : l < 2) : me_af N p l % 6 = N (2 * p + l) := by
  have := K.2.1 (2 * p + l) (by omega)
  unfold me_af
  omega
theorem me_af_th {S N A : Nat → Nat} (K : me_Ok S N A) {p l : Nat} (hp : p < 12) (hl : l < 2) (h : me_th S p = true) : me_th S (me_af N p l) = true := by
  have h' : p % 6 < S (p / 6) := of_decide_eq_true h
  have h2 := K.2.2.1 (p / 6) (p % 6) l (by omega) h' hl
  have e : 12 * (p / 6) + 2 * (p % 6) + l = 2 * p + l := by omega
  rw [e] at h2
  unfold me_th
  rw [me_af_div K hp hl, me_af_mod K hp hl]
  exact decide_eq_true h2
/-- a place written as machine and state -/
theorem me_af_ms {S N A : Nat → Nat} (K : me_Ok S N A) {m s l : Nat} (hm : m < 2) (hs : s < S m) (hl : l < 2) : me_af N (6 * m + s) l = 6 * m + N (12 * m + 2 * s + l) ∧ N (12 * m + 2 * s + l) < S m := by
  have hS := K.1 m hm
  have e : 2 * (6 * m + s) + l = 12 * m + 2 * s + l := by omega
  have e2 : (6 * m + s) / 6 = m := by omega
  refine ⟨?_, K.2.2.1 m s l hm hs hl⟩
  unfold me_af
  rw [e, e2]
theorem me_th_ms {S : Nat → Nat} {m s : Nat} (hS : S m ≤ 6) (hs : s < S m) : me_th S (6 * m + s) = true := by
  unfold me_th
  have e2 : (6 * m + s) / 6 = m := by omega
  have e3 : (6 * m + s) % 6 = s := by omega
  rw [e2, e3]
  exact decide_eq_true hs
theorem me_in_s {N A : Nat → Nat} {k p q : Nat} : me_in N A (k + 1) p q = true ↔ A (2 * p) = A (2 * q) ∧ A (2 * p + 1) = A (2 * q + 1) ∧ me_in N A k (me_af N p 0) (me_af N q 0) = true ∧ me_in N A k (me_af N p 1) (me_af N q 1) = true := by
  simp only [me_in, Bool.and_eq_true, decide_eq_true_eq]
theorem me_in_refl (N A : Nat → Nat) : ∀ k p, me_in N A k p p = true
  | 0, _ => rfl
  | k + 1, p => me_in_s.mpr ⟨rfl, rfl, me_in_refl N A k _, me_in_refl N A k _⟩
theorem me_in_symm {N A : Nat → Nat} : ∀ k p q, me_in N A k p q = true → me_in N A k q p = true
  | 0, _, _, _ => rfl
  | k + 1, p, q, h => by
    have h' := me_in_s.mp h
    exact me_in_s.mpr ⟨h'.1.symm, h'.2.1.symm, me_in_symm k _ _ h'.2.2.1, me_in_symm k _ _ h'.2.2.2⟩
theorem me_in_trans {N A : Nat → Nat} : ∀ k p q r, me_in N A k p q = true → me_in N A k q r = true → me_in N A k p r = true
  | 0, _, _, _, _, _ => rfl
  | k + 1, p, q, r, h, g => by
    have h' := me_in_s.mp h
    have g' := me_in_s.mp g
    exact me_in_s.mpr ⟨h'.1.trans g'.1, h'.2.1.trans g'.2.1, me_in_trans k _ _ _ h'.2.2.1 g'.2.2.1, me_in_trans k _ _ _ h'.2.2.2 g'.2.2.2⟩
theorem me_in_pred {N A : Nat → Nat} : ∀ k p q, me_in N A (k + 1) p q = true → me_in N A k p q = true
  | 0, _, _, _ => rfl
  | k + 1, p, q, h => by
    have h' := me_in_s.mp h
    exact me_in_s.mpr ⟨h'.1, h'.2.1, me_in_pred k _ _ h'.2.2.1, me_in_pred k _ _ h'.2.2.2⟩
theorem me_in_le {N A : Nat → Nat} {j p q : Nat} : ∀ k, j ≤ k → me_in N A k p q = true → me_in N A j p q = true
  | 0, h, g => by
    have e : j = 0 := by omega
    rw [e]
    rfl
  | k + 1, h, g => by
    by_cases e : j = k + 1
    · rw [e]
      exact g
    · exact me_in_le k (by omega) (me_in_pred k p q g)
theorem me_in_l {N A : Nat → Nat} {k p q l : Nat} (hl : l < 2) (h : me_in N A (k + 1) p q = true) : A (2 * p + l) = A (2 * q + l) ∧ me_in N A k (me_af N p l) (me_af N q l) = true := by
  have h' := me_in_s.mp h
  have e : l = 0 ∨ l = 1 := by omega
  rcases e with e | e
  · rw [e]
    exact ⟨h'.1, h'.2.2.1⟩
  · rw [e]
    exact ⟨h'.2.1, h'.2.2.2⟩
theorem me_ap_s (S N A : Nat → Nat) (L p q : Nat) : me_ap S N A (L + 1) p q = if me_ap S N A L p q = 0 then (if (me_th S p && (me_th S q && !(me_in N A (L + 1) p q))) = true then L + 1 else 0) else me_ap S N A L p q := rfl
theorem me_ap_n {S N A : Nat → Nat} {p q : Nat} (h : ¬ (me_th S p = true ∧ me_th S q = true)) : ∀ L, me_ap S N A L p q = 0
  | 0 => rfl
  | L + 1 => by
    rw [me_ap_s, if_pos (me_ap_n h L), if_neg]
    intro z
    rw [Bool.and_eq_true, Bool.and_eq_true] at z
    exact h ⟨z.1, z.2.1⟩
theorem me_ap_c {S N A : Nat → Nat} {p q : Nat} (hp : me_th S p = true) (hq : me_th S q = true) : ∀ L, (me_ap S N A L p q = 0 ∧ me_in N A L p q = true) ∨ (∃ d, d < L ∧ me_ap S N A L p q = d + 1 ∧ me_in N A d p q = true ∧ me_in N A (d + 1) p q = false)
  | 0 => Or.inl ⟨rfl, rfl⟩
  | L + 1 => by
    rcases me_ap_c hp hq L with ⟨h1, h2⟩ | ⟨d, h1, h2, h3, h4⟩
    · by_cases h : me_in N A (L + 1) p q = true
      · refine Or.inl ⟨?_, h⟩
        rw [me_ap_s, if_pos h1, h, hp, hq]
        rfl
      · have h' : me_in N A (L + 1) p q = false := by
          cases e : me_in N A (L + 1) p q
          · rfl
          · exact absurd e h
        refine Or.inr ⟨L, by omega, ?_, h2, h'⟩
        rw [me_ap_s, if_pos h1, h', hp, hq]
        rfl
    · refine Or.inr ⟨d, by omega, ?_, h3, h4⟩
      rw [me_ap_s, if_neg (by omega)]
      exact h2
theorem me_ap_le (S N A : Nat → Nat) (p q : Nat) : ∀ L, me_ap S N A L p q ≤ L
  | 0 => Nat.le_refl 0
  | L + 1 => by
    have ih := me_ap_le S N A p q L
    rw [me_ap_s]
    split
    · split <;> omega
    · omega
theorem me_ap_mix {S N A : Nat → Nat} {L p q : Nat} (hL : 1 ≤ L) : me_ap S N A (L + 1) p q = L ↔ me_ap S N A L p q = L := by
  rw [me_ap_s]
  split
  · split <;> omega
  · exact Iff.rfl
/-- ap L = 0 on places that are there means: alike for L letters -/
theorem me_ap_0 {S N A : Nat → Nat} {p q L : Nat} (hp : me_th S p = true) (hq : me_th S q = true) : me_ap S N A L p q = 0 ↔ me_in N A L p q = true := by
  rcases me_ap_c (N := N) (A := A) hp hq L with ⟨h1, h2⟩ | ⟨d, h1, h2, h3, h4⟩
  · exact ⟨fun _ => h2, fun _ => h1⟩
  · refine ⟨fun z => by omega, fun z => ?_⟩
    have := me_in_le (j := d + 1) L (by omega) z
    rw [h4] at this
    exact absurd this (by decide)
/-- what goesTo answers -/
theorem me_go {S N A : Nat → Nat} (K : me_Ok S N A) {p q L : Nat} (hp12 : p < 12) (hq12 : q < 12) (hp : me_th S p = true) (hq : me_th S q = true) (h0 : me_ap S N A (L + 1) p q = 0) :
    (me_ap S N A (L + 1) (me_af N p 0) (me_af N q 0) = L + 1 ∨ me_ap S N A (L + 1) (me_af N p 1) (me_af N q 1) = L + 1) ↔ me_in N A (L + 2) p q = false := by
  have hi : me_in N A (L + 1) p q = true := (me_ap_0 hp hq).mp h0
  have hs := me_in_s.mp hi
  have one : ∀ l, l < 2 → me_in N A L (me_af N p l) (me_af N q l) = true → (me_ap S N A (L + 1) (me_af N p l) (me_af N q l) = L + 1 ↔ me_in N A (L + 1) (me_af N p l) (me_af N q l) = false) := by
    intro l hl hil
    rcases me_ap_c (N := N) (A := A) (me_af_th K hp12 hl hp) (me_af_th K hq12 hl hq) (L + 1) with ⟨h1, h2⟩ | ⟨d, h1, h2, h3, h4⟩
    · rw [h1, h2]
      exact ⟨fun z => absurd z (by omega), fun z => absurd z (by decide)⟩
    · have hd : d = L := by
        rcases Nat.lt_or_ge d L with z | z
        · have := me_in_le (j := d + 1) L (by omega) hil
          rw [h4] at this
          exact absurd this (by decide)
        · omega
      rw [h2, ← hd, h4]
      exact ⟨fun _ => rfl, fun _ => rfl⟩
  rw [one 0 (by omega) hs.2.2.1, one 1 (by omega) hs.2.2.2]
  constructor
  · intro z
    cases e : me_in N A (L + 2) p q
    · rfl
    · have es := me_in_s.mp e
      rcases z with z | z
      · rw [es.2.2.1] at z
        exact absurd z (by decide)
      · rw [es.2.2.2] at z
        exact absurd z (by decide)
  · intro z
    cases e0 : me_in N A (L + 1) (me_af N p 0) (me_af N q 0)
    · exact Or.inl rfl
    · cases e1 : me_in N A (L + 1) (me_af N p 1) (me_af N q 1)
      · exact Or.inr rfl
      · have : me_in N A (L + 2) p q = true := me_in_s.mpr ⟨hs.1, hs.2.1, e0, e1⟩
        rw [z] at this
        exact absurd this (by decide)
/-- one step down the table -/
theorem me_down {S N A : Nat → Nat} (K : me_Ok S N A) {p q d : Nat} (hp12 : p < 12) (hq12 : q < 12) (h : me_ap S N A 11 p q = d + 2) :
    me_ap S N A 11 (me_af N p 0) (me_af N q 0) = d + 1 ∨ me_ap S N A 11 (me_af N p 1) (me_af N q 1) = d + 1 := by
  have ht : me_th S p = true ∧ me_th S q = true := by
    by_cases z : me_th S p = true ∧ me_th S q = true
    · exact z
    · rw [me_ap_n z 11] at h
      omega
  rcases me_ap_c (N := N) (A := A) ht.1 ht.2 11 with ⟨h1, h2⟩ | ⟨e, h1, h2, h3, h4⟩
  · omega
  · have ee : e = d + 1 := by omega
    subst ee
    have hs := me_in_s.mp h3
    have one : ∀ l, l < 2 → me_in N A d (me_af N p l) (me_af N q l) = true → me_in N A (d + 1) (me_af N p l) (me_af N q l) = false → me_ap S N A 11 (me_af N p l) (me_af N q l) = d + 1 := by
      intro l hl g1 g2
      rcases me_ap_c (N := N) (A := A) (me_af_th K hp12 hl ht.1) (me_af_th K hq12 hl ht.2) 11 with ⟨k1, k2⟩ | ⟨f, k1, k2, k3, k4⟩
      · have := me_in_le (j := d + 1) 11 (by omega) k2
        rw [g2] at this
        exact absurd this (by decide)
      · have : f = d := by
          rcases Nat.lt_trichotomy f d with z | z | z
          · have := me_in_le (j := f + 1) d (by omega) g1
            rw [k4] at this
            exact absurd this (by decide)
          · exact z
          · have := me_in_le (j := d + 1) f (by omega) k3
            rw [g2] at this
            exact absurd this (by decide)
        omega
    cases e0 : me_in N A (d + 1) (me_af N p 0) (me_af N q 0)
    · exact Or.inl (one 0 (by omega) hs.2.2.1 e0)
    · cases e1 : me_in N A (d + 1) (me_af N p 1) (me_af N q 1)
      · exact Or.inr (one 1 (by omega) hs.2.2.2 e1)
      · have : me_in N A (d + 2) p q = true := me_in_s.mpr ⟨hs.1, hs.2.1, e0, e1⟩
        rw [h4] at this
        exact absurd this (by decide)
theorem me_last {S N A : Nat → Nat} {p q : Nat} (h : me_ap S N A 11 p q = 1) : A (2 * p) ≠ A (2 * q) ∨ A (2 * p + 1) ≠ A (2 * q + 1) := by
  have ht : me_th S p = true ∧ me_th S q = true := by
    by_cases z : me_th S p = true ∧ me_th S q = true
    · exact z
    · rw [me_ap_n z 11] at h
      omega
  rcases me_ap_c (N := N) (A := A) ht.1 ht.2 11 with ⟨h1, h2⟩ | ⟨e, h1, h2, h3, h4⟩
  · omega
  · have ee : e = 0 := by omega
    subst ee
    by_cases g0 : A (2 * p) = A (2 * q)
    · by_cases g1 : A (2 * p + 1) = A (2 * q + 1)
      · have : me_in N A (0 + 1) p q = true := me_in_s.mpr ⟨g0, g1, rfl, rfl⟩
        rw [h4] at this
        exact absurd this (by decide)
      · exact Or.inr g1
    · exact Or.inl g0
/-- the words: run and response of n letters of a code -/
def me_ru (N : Nat → Nat) (p : Nat) : Nat → Nat → Nat
  | 0 => fun _ => p
  | n + 1 => fun c => me_af N (me_ru N p n (c / 2)) (c % 2)
def me_rs (N A : Nat → Nat) (p : Nat) : Nat → Nat → Nat
  | 0 => fun _ => 0
  | n + 1 => fun c => 4 * me_rs N A p n (c / 2) + A (2 * me_ru N p n (c / 2) + c % 2)
theorem me_ru_lt {S N A : Nat → Nat} (K : me_Ok S N A) {p : Nat} (hp : p < 12) : ∀ n c, me_ru N p n c < 12
  | 0, _ => hp
  | n + 1, c => me_af_lt K (me_ru_lt K hp n (c / 2)) (by omega)
theorem me_ru_ms {S N A : Nat → Nat} (K : me_Ok S N A) {m s : Nat} (hm : m < 2) (hs : s < S m) : ∀ n c, ∃ t, t < S m ∧ me_ru N (6 * m + s) n c = 6 * m + t
  | 0, _ => ⟨s, hs, rfl⟩
  | n + 1, c => by
    obtain ⟨t, ht, e⟩ := me_ru_ms K hm hs n (c / 2)
    have h := me_af_ms K (l := c % 2) hm ht (by omega)
    exact ⟨_, h.2, by show me_af N (me_ru N (6 * m + s) n (c / 2)) (c % 2) = _; rw [e]; exact h.1⟩
theorem me_rs_lt {S N A : Nat → Nat} (K : me_Ok S N A) {p : Nat} (hp : p < 12) : ∀ n c, me_rs N A p n c < 4 ^ n
  | 0, _ => by show 0 < 4 ^ 0; decide
  | n + 1, c => by
    have ih := me_rs_lt K hp n (c / 2)
    have hr := me_ru_lt K hp n (c / 2)
    have ha := K.2.2.2 (2 * me_ru N p n (c / 2) + c % 2) (by omega)
    show 4 * me_rs N A p n (c / 2) + A (2 * me_ru N p n (c / 2) + c % 2) < 4 ^ (n + 1)
    rw [Nat.pow_succ]
    omega
def me_lg (c n : Nat) : Prop := 2 ^ n ≤ c ∧ c < 2 ^ (n + 1)
theorem me_lg_ex : ∀ c, 1 ≤ c → ∃ n, me_lg c n := by
  intro c hc
  exact ⟨Nat.log2 c, Nat.log2_self_le (by omega), Nat.lt_log2_self⟩
theorem me_lg_11 {c n : Nat} (h : me_lg c n) (hc : c ≤ 4095) : n ≤ 11 := by
  rcases Nat.lt_or_ge n 12 with z | z
  · omega
  · have h1 : 2 ^ 12 ≤ 2 ^ n := Nat.pow_le_pow_right (by omega) z
    have h2 := h.1
    omega
theorem me_lg_uniq {c n k : Nat} (h : me_lg c n) (g : me_lg c k) : n = k := by
  rcases Nat.lt_trichotomy n k with z | z | z
  · have h1 : 2 ^ (n + 1) ≤ 2 ^ k := Nat.pow_le_pow_right (by omega) z
    have h2 := h.2
    have h3 := g.1
    omega
  · exact z
  · have h1 : 2 ^ (k + 1) ≤ 2 ^ n := Nat.pow_le_pow_right (by omega) z
    have h2 := g.2
    have h3 := h.1
    omega
theorem me_lg_next {c n l : Nat} (h : me_lg c n) (hl : l < 2) : me_lg (2 * c + l) (n + 1) := by
  have h1 := h.1
  have h2 := h.2
  unfold me_lg
  rw [Nat.pow_succ 2 (n + 1), Nat.pow_succ 2 n]
  rw [Nat.pow_succ 2 n] at h2
  omega
theorem me_lg_0 : me_lg 1 0 := by unfold me_lg; decide
theorem me_ru_next (N : Nat → Nat) (p n c l : Nat) (hl : l < 2) : me_ru N p (n + 1) (2 * c + l) = me_af N (me_ru N p n c) l := by
  show me_af N (me_ru N p n ((2 * c + l) / 2)) ((2 * c + l) % 2) = _
  rw [show (2 * c + l) / 2 = c by omega, show (2 * c + l) % 2 = l by omega]
theorem me_rs_next (N A : Nat → Nat) (p n c l : Nat) (hl : l < 2) : me_rs N A p (n + 1) (2 * c + l) = 4 * me_rs N A p n c + A (2 * me_ru N p n c + l) := by
  show 4 * me_rs N A p n ((2 * c + l) / 2) + A (2 * me_ru N p n ((2 * c + l) / 2) + (2 * c + l) % 2) = _
  rw [show (2 * c + l) / 2 = c by omega, show (2 * c + l) % 2 = l by omega]
/-- with r letters left of code c: one letter on -/
theorem me_cut (c r : Nat) : c / 2 ^ r / 2 = c / 2 ^ (r + 1) := by rw [Nat.div_div_eq_div_mul, Nat.pow_succ]
theorem me_ru_cut (N : Nat → Nat) (p c n r : Nat) : me_ru N p (n + 1) (c / 2 ^ r) = me_af N (me_ru N p n (c / 2 ^ (r + 1))) (c / 2 ^ r % 2) := by
  show me_af N (me_ru N p n (c / 2 ^ r / 2)) (c / 2 ^ r % 2) = _
  rw [me_cut]
theorem me_rs_cut (N A : Nat → Nat) (p c n r : Nat) : me_rs N A p (n + 1) (c / 2 ^ r) = 4 * me_rs N A p n (c / 2 ^ (r + 1)) + A (2 * me_ru N p n (c / 2 ^ (r + 1)) + c / 2 ^ r % 2) := by
  show 4 * me_rs N A p n (c / 2 ^ r / 2) + A (2 * me_ru N p n (c / 2 ^ r / 2) + c / 2 ^ r % 2) = _
  rw [me_cut]
/-- counting and the pigeonhole -/
def me_cnt (P : Nat → Bool) : Nat → Nat
  | 0 => 0
  | n + 1 => me_cnt P n + (if P n = true then 1 else 0)
theorem me_cnt_le (P : Nat → Bool) : ∀ n, me_cnt P n ≤ n
  | 0 => Nat.le_refl 0
  | n + 1 => by
    have ih := me_cnt_le P n
    show me_cnt P n + (if P n = true then 1 else 0) ≤ n + 1
    split <;> omega
theorem me_pig (P : Nat → Bool) : ∀ (n c : Nat) (f : Nat → Nat), (∀ j, j < c → f j < n ∧ P (f j) = true) → (∀ i j, i < c → j < c → f i = f j → i = j) → c ≤ me_cnt P n
  | 0, c, f, h, _ => by
    rcases Nat.eq_zero_or_pos c with z | z
    · omega
    · exact absurd (h 0 z).1 (by omega)
  | n + 1, c, f, h, hi => by
    by_cases e : ∃ j, j < c ∧ f j = n
    · obtain ⟨j0, hj, ej⟩ := e
      have hP : P n = true := by
        have := (h j0 hj).2
        rw [ej] at this
        exact this
      have ih : c - 1 ≤ me_cnt P n := by
        refine me_pig P n (c - 1) (fun j => if j = j0 then f (c - 1) else f j) (fun j hj' => ?_) (fun a b ha hb hab => ?_)
        · show (if j = j0 then f (c - 1) else f j) < n ∧ P (if j = j0 then f (c - 1) else f j) = true
          by_cases z : j = j0
          · rw [if_pos z]
            have h1 := h (c - 1) (by omega)
            refine ⟨?_, h1.2⟩
            by_cases y : f (c - 1) = n
            · have := hi (c - 1) j0 (by omega) hj (by rw [y, ej])
              omega
            · have := h1.1
              omega
          · rw [if_neg z]
            have h1 := h j (by omega)
            refine ⟨?_, h1.2⟩
            by_cases y : f j = n
            · exact absurd (hi j j0 (by omega) hj (by rw [y, ej])) z
            · have := h1.1
              omega
        · have hab' : (if a = j0 then f (c - 1) else f a) = (if b = j0 then f (c - 1) else f b) := hab
          by_cases za : a = j0
          · by_cases zb : b = j0
            · omega
            · rw [if_pos za, if_neg zb] at hab'
              have := hi (c - 1) b (by omega) (by omega) hab'
              omega
          · by_cases zb : b = j0
            · rw [if_neg za, if_pos zb] at hab'
              have := hi a (c - 1) (by omega) (by omega) hab'
              omega
            · rw [if_neg za, if_neg zb] at hab'
              exact hi a b (by omega) (by omega) hab'
      show c ≤ me_cnt P n + (if P n = true then 1 else 0)
      rw [if_pos hP]
      omega
    · have ih : c ≤ me_cnt P n := by
        refine me_pig P n c f (fun j hj => ?_) hi
        have h1 := h j hj
        refine ⟨?_, h1.2⟩
        by_cases y : f j = n
        · exact absurd ⟨j, hj, y⟩ e
        · have := h1.1
          omega
      show c ≤ me_cnt P n + (if P n = true then 1 else 0)
      omega
theorem me_choose {c : Nat} {P : Nat → Nat → Prop} (h : ∀ i, i < c → ∃ r, P i r) : ∃ f : Nat → Nat, ∀ i, i < c → P i (f i) := by
  have h' : ∀ i, ∃ r, i < c → P i r := by
    intro i
    by_cases z : i < c
    · obtain ⟨r, hr⟩ := h i z
      exact ⟨r, fun _ => hr⟩
    · exact ⟨0, fun y => absurd y z⟩
  exact Classical.axiomOfChoice h'
end
section
/-! the numbering of a machine as a function: how many, the leaders, each place's number plus one (0: none) -/
abbrev me_NS : Type := Nat × (Nat → Nat) × (Nat → Nat)
def me_ad (S N A : Nat → Nat) (m p : Nat) (t : me_NS) : me_NS := (t.1 + 1, fun k => if k = t.1 then p else t.2.1 k, fun q => if q / 6 = m ∧ q % 6 < S m ∧ me_ap S N A 11 p q = 0 then t.1 + 1 else t.2.2 q)
def me_vi (S N A : Nat → Nat) (m k l : Nat) (t : me_NS) : me_NS := if t.2.2 (me_af N (t.2.1 k) l) = 0 then me_ad S N A m (me_af N (t.2.1 k) l) t else t
def me_nl (S N A : Nat → Nat) (m : Nat) : Nat → Nat → me_NS → me_NS
  | 0 => fun _ t => t
  | f + 1 => fun k t => if k < t.1 then me_nl S N A m f (k + 1) (me_vi S N A m k 1 (me_vi S N A m k 0 t)) else t
def me_n0 (S N A : Nat → Nat) (m : Nat) : me_NS := me_ad S N A m (6 * m) (0, fun _ => 0, fun _ => 0)
def me_nu (S N A : Nat → Nat) (m : Nat) : me_NS := me_nl S N A m 6 0 (me_n0 S N A m)
/-- alike, on the states of one machine, is an equivalence -/
theorem me_E_in {S N A : Nat → Nat} {m s r : Nat} (hS : S m ≤ 6) (hs : s < S m) (hr : r < S m) : me_ap S N A 11 (6 * m + s) (6 * m + r) = 0 ↔ me_in N A 11 (6 * m + s) (6 * m + r) = true :=
  me_ap_0 (me_th_ms hS hs) (me_th_ms hS hr)
theorem me_E_refl {S N A : Nat → Nat} {m s : Nat} (hS : S m ≤ 6) (hs : s < S m) : me_ap S N A 11 (6 * m + s) (6 * m + s) = 0 := (me_E_in hS hs hs).mpr (me_in_refl N A 11 _)
theorem me_E_symm {S N A : Nat → Nat} {m s r : Nat} (hS : S m ≤ 6) (hs : s < S m) (hr : r < S m) (h : me_ap S N A 11 (6 * m + s) (6 * m + r) = 0) : me_ap S N A 11 (6 * m + r) (6 * m + s) = 0 :=
  (me_E_in hS hr hs).mpr (me_in_symm 11 _ _ ((me_E_in hS hs hr).mp h))
theorem me_E_trans {S N A : Nat → Nat} {m s r k : Nat} (hS : S m ≤ 6) (hs : s < S m) (hr : r < S m) (hk : k < S m) (h : me_ap S N A 11 (6 * m + s) (6 * m + r) = 0) (g : me_ap S N A 11 (6 * m + r) (6 * m + k) = 0) : me_ap S N A 11 (6 * m + s) (6 * m + k) = 0 :=
  (me_E_in hS hs hk).mpr (me_in_trans 11 _ _ _ ((me_E_in hS hs hr).mp h) ((me_E_in hS hr hk).mp g))
/-- the invariant of a numbering -/
def me_NI (S N A : Nat → Nat) (m : Nat) (t : me_NS) : Prop :=
  (∀ i, i < t.1 → ∃ s, s < S m ∧ t.2.1 i = 6 * m + s) ∧
  (∀ s, s < S m → t.2.2 (6 * m + s) ≤ t.1 ∧ ∀ i, i < t.1 → (me_ap S N A 11 (t.2.1 i) (6 * m + s) = 0 ↔ t.2.2 (6 * m + s) = i + 1))
theorem me_NI_ad {S N A : Nat → Nat} {m s : Nat} {t : me_NS} (hS : S m ≤ 6) (h : me_NI S N A m t) (hs : s < S m) (h0 : t.2.2 (6 * m + s) = 0) : me_NI S N A m (me_ad S N A m (6 * m + s) t) := by
  obtain ⟨h1, h2⟩ := h
  constructor
  · intro i hi
    show ∃ r, r < S m ∧ (if i = t.1 then 6 * m + s else t.2.1 i) = 6 * m + r
    by_cases e : i = t.1
    · rw [if_pos e]
      exact ⟨s, hs, rfl⟩
    · rw [if_neg e]
      have hi' : i < t.1 + 1 := hi
      exact h1 i (by omega)
  · intro r hr
    have e1 : (6 * m + r) / 6 = m := by omega
    have e2 : (6 * m + r) % 6 = r := by omega
    show (if (6 * m + r) / 6 = m ∧ (6 * m + r) % 6 < S m ∧ me_ap S N A 11 (6 * m + s) (6 * m + r) = 0 then t.1 + 1 else t.2.2 (6 * m + r)) ≤ t.1 + 1 ∧ ∀ i, i < t.1 + 1 → (me_ap S N A 11 (if i = t.1 then 6 * m + s else t.2.1 i) (6 * m + r) = 0 ↔ (if (6 * m + r) / 6 = m ∧ (6 * m + r) % 6 < S m ∧ me_ap S N A 11 (6 * m + s) (6 * m + r) = 0 then t.1 + 1 else t.2.2 (6 * m + r)) = i + 1)
    obtain ⟨g1, g2⟩ := h2 r hr
    by_cases e : me_ap S N A 11 (6 * m + s) (6 * m + r) = 0
    · rw [if_pos ⟨e1, by omega, e⟩]
      refine ⟨Nat.le_refl _, fun i hi => ?_⟩
      by_cases ei : i = t.1
      · rw [if_pos ei]
        exact ⟨fun _ => by omega, fun _ => e⟩
      · rw [if_neg ei]
        refine ⟨fun z => ?_, fun z => by omega⟩
        obtain ⟨k, hk, ek⟩ := h1 i (by omega)
        rw [ek] at z
        have w := me_E_trans hS hk hr hs z (me_E_symm hS hs hr e)
        rw [← ek] at w
        have := ((h2 s hs).2 i (by omega)).mp w
        omega
    · rw [if_neg (fun z => e z.2.2)]
      refine ⟨by omega, fun i hi => ?_⟩
      by_cases ei : i = t.1
      · rw [if_pos ei]
        exact ⟨fun z => absurd z e, fun z => by omega⟩
      · rw [if_neg ei]
        exact g2 i (by omega)
theorem me_NI_0 {S N A : Nat → Nat} {m : Nat} (hS : S m ≤ 6) (hS1 : 1 ≤ S m) : me_NI S N A m (me_n0 S N A m) := by
  refine me_NI_ad (s := 0) hS ⟨fun i hi => ?_, fun s hs => ⟨Nat.le_refl 0, fun i hi => ?_⟩⟩ hS1 rfl
  · exact absurd hi (Nat.not_lt_zero i)
  · exact absurd hi (Nat.not_lt_zero i)
/-- the leaders' successors that have been looked at have a number -/
def me_ND (N : Nat → Nat) (k : Nat) (t : me_NS) : Prop := ∀ j, j < k → j < t.1 → ∀ l, l < 2 → t.2.2 (me_af N (t.2.1 j) l) ≠ 0
theorem me_vi_st {S N A : Nat → Nat} (K : me_Ok S N A) {m k l : Nat} {t : me_NS} (hm : m < 2) (hl : l < 2) (h : me_NI S N A m t) (hk : k < t.1) :
    me_NI S N A m (me_vi S N A m k l t) ∧ t.1 ≤ (me_vi S N A m k l t).1 ∧ (∀ i, i < t.1 → (me_vi S N A m k l t).2.1 i = t.2.1 i) ∧ (∀ q, t.2.2 q ≠ 0 → (me_vi S N A m k l t).2.2 q ≠ 0) ∧ (me_vi S N A m k l t).2.2 (me_af N (t.2.1 k) l) ≠ 0 := by
  have hS := K.1 m hm
  obtain ⟨s, hs, es⟩ := h.1 k hk
  have ha := me_af_ms K hm hs hl
  rw [← es] at ha
  unfold me_vi
  by_cases z : t.2.2 (me_af N (t.2.1 k) l) = 0
  · rw [if_pos z]
    refine ⟨?_, ?_, ?_, ?_, ?_⟩
    · have z' := z
      rw [ha.1] at z' ⊢
      exact me_NI_ad hS.2 h ha.2 z'
    · show t.1 ≤ t.1 + 1
      omega
    · intro i hi
      show (if i = t.1 then _ else t.2.1 i) = _
      rw [if_neg (by omega)]
    · intro q hq
      show (if q / 6 = m ∧ q % 6 < S m ∧ me_ap S N A 11 (me_af N (t.2.1 k) l) q = 0 then t.1 + 1 else t.2.2 q) ≠ 0
      split
      · exact Nat.succ_ne_zero _
      · exact hq
    · show (if me_af N (t.2.1 k) l / 6 = m ∧ me_af N (t.2.1 k) l % 6 < S m ∧ me_ap S N A 11 (me_af N (t.2.1 k) l) (me_af N (t.2.1 k) l) = 0 then t.1 + 1 else t.2.2 (me_af N (t.2.1 k) l)) ≠ 0
      rw [if_pos]
      · omega
      · rw [ha.1]
        refine ⟨by omega, by omega, me_E_refl hS.2 ha.2⟩
  · rw [if_neg z]
    exact ⟨h, Nat.le_refl _, fun _ _ => rfl, fun _ hq => hq, z⟩
theorem me_vi2 {S N A : Nat → Nat} (K : me_Ok S N A) {m k : Nat} {t : me_NS} (hm : m < 2) (h : me_NI S N A m t) (hd : me_ND N k t) (h0 : t.2.1 0 = 6 * m) (hk : k < t.1) :
    me_NI S N A m (me_vi S N A m k 1 (me_vi S N A m k 0 t)) ∧ me_ND N (k + 1) (me_vi S N A m k 1 (me_vi S N A m k 0 t)) ∧ t.1 ≤ (me_vi S N A m k 1 (me_vi S N A m k 0 t)).1 ∧ (me_vi S N A m k 1 (me_vi S N A m k 0 t)).2.1 0 = 6 * m := by
  obtain ⟨a1, a2, a3, a4, a5⟩ := me_vi_st K (l := 0) hm (by omega) h hk
  obtain ⟨b1, b2, b3, b4, b5⟩ := me_vi_st K (l := 1) hm (by omega) a1 (by omega : k < (me_vi S N A m k 0 t).1)
  refine ⟨b1, ?_, by omega, ?_⟩
  · intro j hj hj2 l hl
    have hjt : j < t.1 := by omega
    have e : (me_vi S N A m k 1 (me_vi S N A m k 0 t)).2.1 j = t.2.1 j := by rw [b3 j (by omega), a3 j hjt]
    rw [e]
    by_cases ej : j = k
    · have el : l = 0 ∨ l = 1 := by omega
      rcases el with el | el
      · rw [el, ej]
        exact b4 _ a5
      · rw [el, ej]
        rw [a3 k hk] at b5
        exact b5
    · exact b4 _ (a4 _ (hd j (by omega) hjt l hl))
  · rw [b3 0 (by omega), a3 0 (by omega)]
    exact h0
/-- how many: no more than the states that are the least of their kind -/
def me_fr (S N A : Nat → Nat) (m s : Nat) : Nat → Bool
  | 0 => true
  | r + 1 => me_fr S N A m s r && decide (me_ap S N A 11 (6 * m + r) (6 * m + s) ≠ 0)
theorem me_fr_of {S N A : Nat → Nat} {m s : Nat} : ∀ r, (∀ j, j < r → me_ap S N A 11 (6 * m + j) (6 * m + s) ≠ 0) → me_fr S N A m s r = true
  | 0, _ => rfl
  | r + 1, h => by
    show (me_fr S N A m s r && decide (me_ap S N A 11 (6 * m + r) (6 * m + s) ≠ 0)) = true
    rw [me_fr_of r (fun j hj => h j (by omega)), decide_eq_true (h r (by omega))]
    rfl
def me_cl (S N A : Nat → Nat) (m : Nat) : Nat := me_cnt (fun s => me_fr S N A m s s) (S m)
theorem me_NI_le {S N A : Nat → Nat} {m : Nat} {t : me_NS} (hS : S m ≤ 6) (h : me_NI S N A m t) : t.1 ≤ me_cl S N A m := by
  have key : ∀ i, i < t.1 → ∃ r, r < S m ∧ me_fr S N A m r r = true ∧ me_ap S N A 11 (t.2.1 i) (6 * m + r) = 0 := by
    intro i hi
    obtain ⟨s, hs, es⟩ := h.1 i hi
    obtain ⟨r, ⟨hr1, hr2⟩, hr3⟩ := pk_least (fun r => r < S m ∧ me_ap S N A 11 (6 * m + s) (6 * m + r) = 0) ⟨s, hs, me_E_refl hS hs⟩
    refine ⟨r, hr1, me_fr_of r (fun j hj z => ?_), by rw [es]; exact hr2⟩
    exact hr3 j hj ⟨by omega, me_E_trans hS hs hr1 (by omega) hr2 (me_E_symm hS (by omega) hr1 z)⟩
  obtain ⟨f, hf⟩ := me_choose key
  refine me_pig (fun s => me_fr S N A m s s) (S m) t.1 f (fun j hj => ⟨(hf j hj).1, (hf j hj).2.1⟩) (fun i j hi hj e => ?_)
  have g1 := ((h.2 (f i) (hf i hi).1).2 i hi).mp (hf i hi).2.2
  have g2 := ((h.2 (f j) (hf j hj).1).2 j hj).mp (hf j hj).2.2
  rw [e] at g1
  omega
theorem me_cl_le (S N A : Nat → Nat) (m : Nat) : me_cl S N A m ≤ S m := me_cnt_le _ _
theorem me_NI_6 {S N A : Nat → Nat} {m : Nat} {t : me_NS} (hS : S m ≤ 6) (h : me_NI S N A m t) : t.1 ≤ 6 := by
  have h1 := me_NI_le hS h
  have h2 := me_cl_le S N A m
  omega
/-- the whole numbering -/
theorem me_nl_st {S N A : Nat → Nat} (K : me_Ok S N A) {m : Nat} (hm : m < 2) : ∀ (f k : Nat) (t : me_NS), k + f = 6 → me_NI S N A m t → me_ND N k t → t.2.1 0 = 6 * m → 1 ≤ t.1 →
    me_NI S N A m (me_nl S N A m f k t) ∧ me_ND N 6 (me_nl S N A m f k t) ∧ (me_nl S N A m f k t).2.1 0 = 6 * m ∧ 1 ≤ (me_nl S N A m f k t).1
  | 0, k, t, hk, h, hd, h0, h1 => by
    have e : k = 6 := by omega
    subst e
    exact ⟨h, hd, h0, h1⟩
  | f + 1, k, t, hk, h, hd, h0, h1 => by
    by_cases z : k < t.1
    · have e : me_nl S N A m (f + 1) k t = me_nl S N A m f (k + 1) (me_vi S N A m k 1 (me_vi S N A m k 0 t)) := if_pos z
      obtain ⟨g1, g2, g3, g4⟩ := me_vi2 K hm h hd h0 z
      rw [e]
      exact me_nl_st K hm f (k + 1) _ (by omega) g1 g2 g4 (by omega)
    · have e : me_nl S N A m (f + 1) k t = t := if_neg z
      rw [e]
      exact ⟨h, fun j _ hj2 l hl => hd j (by omega) hj2 l hl, h0, h1⟩
theorem me_n0_st {S N A : Nat → Nat} (K : me_Ok S N A) {m : Nat} (hm : m < 2) : me_NI S N A m (me_n0 S N A m) ∧ me_ND N 0 (me_n0 S N A m) ∧ (me_n0 S N A m).2.1 0 = 6 * m ∧ 1 ≤ (me_n0 S N A m).1 :=
  ⟨me_NI_0 (K.1 m hm).2 (K.1 m hm).1, fun j hj => absurd hj (Nat.not_lt_zero j), rfl, Nat.le_refl 1⟩
theorem me_nu_st {S N A : Nat → Nat} (K : me_Ok S N A) {m : Nat} (hm : m < 2) : me_NI S N A m (me_nu S N A m) ∧ me_ND N 6 (me_nu S N A m) ∧ (me_nu S N A m).2.1 0 = 6 * m ∧ 1 ≤ (me_nu S N A m).1 := by
  obtain ⟨h1, h2, h3, h4⟩ := me_n0_st K hm
  exact me_nl_st K hm 6 0 _ rfl h1 h2 h3 h4
/-- the next number: from leader k with letter l -/
theorem me_nu_next {S N A : Nat → Nat} (K : me_Ok S N A) {m k l : Nat} (hm : m < 2) (hl : l < 2) (hk : k < (me_nu S N A m).1) :
    ∃ j, j < (me_nu S N A m).1 ∧ (me_nu S N A m).2.2 (me_af N ((me_nu S N A m).2.1 k) l) = j + 1 ∧ me_in N A 11 ((me_nu S N A m).2.1 j) (me_af N ((me_nu S N A m).2.1 k) l) = true := by
  obtain ⟨h1, h2, h3, h4⟩ := me_nu_st K hm
  have hS := K.1 m hm
  have h6 := me_NI_6 hS.2 h1
  obtain ⟨s, hs, es⟩ := h1.1 k hk
  have ha := me_af_ms K hm hs hl
  rw [← es] at ha
  have hne := h2 k (by omega) hk l hl
  obtain ⟨g1, g2⟩ := h1.2 _ ha.2
  rw [← ha.1] at g1 g2
  generalize hq : me_af N ((me_nu S N A m).2.1 k) l = q at *
  have hj : (me_nu S N A m).2.2 q - 1 < (me_nu S N A m).1 := by omega
  have ej : (me_nu S N A m).2.2 q = ((me_nu S N A m).2.2 q - 1) + 1 := by omega
  refine ⟨(me_nu S N A m).2.2 q - 1, hj, ej, ?_⟩
  have w := (g2 _ hj).mpr ej
  obtain ⟨r, hr, er⟩ := h1.1 _ hj
  rw [er] at w ⊢
  rw [ha.1] at w ⊢
  exact (me_E_in hS.2 hr ha.2).mp w
end
section
/-! numbers -/
theorem me_lin (k a b : Nat) : nI k * nI a + nI b = nI (k * a + b) := by rw [pk_mul, nI_add]
theorem me_l2 (a b : Nat) : (2 : Int32) * nI a + nI b = nI (2 * a + b) := me_lin 2 a b
theorem me_l4 (a b : Nat) : (4 : Int32) * nI a + nI b = nI (4 * a + b) := me_lin 4 a b
theorem me_l6 (a b : Nat) : (6 : Int32) * nI a + nI b = nI (6 * a + b) := me_lin 6 a b
theorem me_l8 (a b : Nat) : (8 : Int32) * nI a + nI b = nI (8 * a + b) := me_lin 8 a b
theorem me_l12 (a b : Nat) : (12 : Int32) * nI a + nI b = nI (12 * a + b) := me_lin 12 a b
theorem me_m2 (a : Nat) : (2 : Int32) * nI a = nI (2 * a) := pk_mul 2 a
theorem me_m6 (a : Nat) : (6 : Int32) * nI a = nI (6 * a) := pk_mul 6 a
theorem me_m8 (a : Nat) : (8 : Int32) * nI a = nI (8 * a) := pk_mul 8 a
theorem me_m12 (a : Nat) : (12 : Int32) * nI a = nI (12 * a) := pk_mul 12 a
theorem me_sl : ∀ n, n < 32 → ((nI n &&& 31).toBitVec.smod 32).toNat = n := by decide +kernel
theorem me_bit {c i : Nat} (hc : c < 2 ^ 31) (hi : i < 32) : (nI c >>> (nI i &&& 31)) &&& 1 = nI (c / 2 ^ i % 2) := by
  rw [pk_shrN hc _ i (me_sl i hi)]
  have := Nat.div_le_self c (2 ^ i)
  exact pk_andN (by omega) 1 (by decide)
theorem me_dn (r : Nat) : nI r + (-1) = nI r - 1 := (Int32.sub_eq_add_neg (nI r) 1).symm
theorem me_dn2 (r : Nat) : (nI (r + 1) - 1) + (-1) = nI r - 1 := by rw [nI_pred, me_dn]
theorem me_neg : nI 0 - 1 < 0 := by decide
theorem me_pos {r : Nat} (h : r < 2 ^ 31) : ¬ nI (r + 1) - 1 < 0 := by
  rw [nI_pred]
  exact nI_pos h
theorem me_sh2 {i : Nat} (hi : i ≤ 11) : (2 : Int32) <<< (nI i &&& 31) = nI (2 * 2 ^ i) := by
  have h : 2 ^ i ≤ 2 ^ 11 := Nat.pow_le_pow_right (by omega) hi
  exact pk_shlN (n := 2) (nI i &&& 31) i (me_sl i (by omega)) (by omega)
theorem me_d6 {p : Nat} (hp : p < 2 ^ 31) : nI p / 6 = nI (p / 6) := pk_div (a := p) (d := 6) hp (by omega) (by omega)
theorem me_d12 {p : Nat} (hp : p < 2 ^ 31) : nI p / 12 = nI (p / 12) := pk_div (a := p) (d := 12) hp (by omega) (by omega)
theorem me_r6 {p : Nat} (hp : p < 2 ^ 31) : nI p - nI p / 6 * 6 = nI (p % 6) := pk_rem (a := p) (d := 6) hp (by omega) (by omega)
theorem me_r12 {p : Nat} (hp : p < 2 ^ 31) : nI p - nI p / 12 * 12 = nI (p % 12) := pk_rem (a := p) (d := 12) hp (by omega) (by omega)
theorem me_at {f : Nat → Int32} {F : Nat → Nat} {x : Int32} {n : Nat} (k : Nat) (h : ∀ j, j < n → f j = nI (F j)) (hk : k < n) (hx : x = nI k) (hn : n < 2 ^ 31) : f x.toNatClampNeg = nI (F k) := by
  rw [hx, nI_clamp (by omega)]
  exact h k hk
/-! the state matches the picture -/
def me_R (S N A : Nat → Nat) (a1 a2 a3 : Nat → Int32) : Prop := me_Ok S N A ∧ (∀ j, j < 2 → a1 j = nI (S j)) ∧ (∀ j, j < 24 → a2 j = nI (N j)) ∧ (∀ j, j < 24 → a3 j = nI (A j))
def me_V (v : Nat → Nat → Nat) (a4 : Nat → Int32) : Prop := ∀ j, j < 144 → a4 j = nI (v (j / 12) (j % 12))
theorem me_Vat {v : Nat → Nat → Nat} {a4 : Nat → Int32} (h : me_V v a4) {p q : Nat} (hp : p < 12) (hq : q < 12) {x : Int32} (hx : x = nI (12 * p + q)) : a4 x.toNatClampNeg = nI (v p q) := by
  rw [hx, nI_clamp (by omega), h (12 * p + q) (by omega), show (12 * p + q) / 12 = p by omega, show (12 * p + q) % 12 = q by omega]
section
variable {co cu : Int32} {a1 a2 a3 a4 a5 a6 a7 a8 : Nat → Int32} {S N A : Nat → Nat}
theorem me_isM {post : Int32 → Prop} {u : St2} {x : Int32} (m : Nat) (hm : m < 2) (hx : x = nI m) (H : post 1) : wpX_isMachine post u x := by
  subst hx
  unfold wpX_isMachine
  exact pk_eq m 0 (fun _ => H) (fun z => pk_eq m 1 (fun _ => H) (fun z2 => absurd hm (by omega)))
theorem me_states {post : Int32 → Prop} {x : Int32} (R : me_R S N A a1 a2 a3) (m : Nat) (hm : m < 2) (hx : x = nI m) (H : post (nI (S m))) : wpX_states post (co, cu, a1, a2, a3, a4, a5, a6, a7, a8) x := by
  subst hx
  unfold wpX_states
  refine me_isM m hm rfl ?_
  refine br_f (by decide) ⟨pk_in m 2 hm, ?_⟩
  rw [nI_clamp (by omega), R.2.1 m hm]
  exact H
theorem me_place {post : Int32 → Prop} {x : Int32} (R : me_R S N A a1 a2 a3) (m s : Nat) (hm : m < 2) (hs : s < S m) (hx : x = nI (8 * m + s)) (H : post (nI (6 * m + s))) : wpX_placeOf post (co, cu, a1, a2, a3, a4, a5, a6, a7, a8) x := by
  subst hx
  have hS := R.1.1 m hm
  unfold wpX_placeOf
  have e1 : nI (8 * m + s) >>> ((3 : Int32) &&& 31) = nI m := by
    rw [pk_shrN (by omega) _ 3 (by decide)]
    congr 1
    omega
  have e2 : nI (8 * m + s) &&& 7 = nI s := by
    rw [pk_andN (by omega) 3 (by decide)]
    congr 1
    omega
  refine nm_r e1 (nm_r e2 ?_)
  refine me_isM m hm rfl ?_
  refine br_f (by decide) ⟨pk_in m 2 hm, ?_⟩
  refine pk_le (S m) s (fun z => absurd hs (by omega)) (fun _ => ?_) (me_at m R.2.1 hm rfl (by omega))
  rw [me_l6]
  exact H
theorem me_after {post : Int32 → Prop} {x y : Int32} (R : me_R S N A a1 a2 a3) (p l : Nat) (hp : p < 12) (hl : l < 2) (hx : x = nI p) (hy : y = nI l) (H : post (nI (me_af N p l))) : wpX_after post (co, cu, a1, a2, a3, a4, a5, a6, a7, a8) x y := by
  subst hx
  subst hy
  unfold wpX_after
  refine ⟨by decide, pk_in (2 * p + l) 24 (by omega) (me_l2 p l), ?_⟩
  rw [me_at (2 * p + l) R.2.2.1 (by omega) (me_l2 p l) (by omega), me_d6 (by omega), me_l6]
  exact H
theorem me_there {post : Int32 → Prop} {x : Int32} (R : me_R S N A a1 a2 a3) (p : Nat) (hp : p < 12) (hx : x = nI p) (H1 : me_th S p = true → post 1) (H0 : me_th S p = false → post 0) : wpX_isThere post (co, cu, a1, a2, a3, a4, a5, a6, a7, a8) x := by
  subst hx
  have hS := R.1.1 (p / 6) (by omega)
  unfold wpX_isThere
  refine ⟨by decide, by decide, pk_in (p / 6) 2 (by omega) (me_d6 (by omega)), ?_⟩
  refine pk_le (S (p / 6)) (p % 6) (fun z => H0 ?_) (fun z => H1 ?_) (me_at (p / 6) R.2.1 (by omega) (me_d6 (by omega)) (by omega)) (me_r6 (by omega))
  · exact decide_eq_false (by omega)
  · exact decide_eq_true z
theorem me_goes {post : Int32 → Prop} {x y z : Int32} {v : Nat → Nat → Nat} (R : me_R S N A a1 a2 a3) (V : me_V v a4) (hv : ∀ p q, v p q < 100) (p q L : Nat) (hp : p < 12) (hq : q < 12) (hL : L < 100) (hx : x = nI p) (hy : y = nI q) (hz : z = nI L)
    (H1 : (v (me_af N p 0) (me_af N q 0) = L ∨ v (me_af N p 1) (me_af N q 1) = L) → post 1) (H0 : ¬ (v (me_af N p 0) (me_af N q 0) = L ∨ v (me_af N p 1) (me_af N q 1) = L) → post 0) :
    wpX_goesTo post (co, cu, a1, a2, a3, a4, a5, a6, a7, a8) x y z := by
  subst hx
  subst hy
  subst hz
  unfold wpX_goesTo
  have hp0 := me_af_lt R.1 hp (show 0 < 2 by omega)
  have hp1 := me_af_lt R.1 hp (show 1 < 2 by omega)
  have hq0 := me_af_lt R.1 hq (show 0 < 2 by omega)
  have hq1 := me_af_lt R.1 hq (show 1 < 2 by omega)
  have v0 := hv (me_af N p 0) (me_af N q 0)
  have v1 := hv (me_af N p 1) (me_af N q 1)
  refine ⟨0 + 1 + 1 + 1, ?_⟩
  refine pk_le 2 0 (fun z => absurd z (by omega)) (fun _ => ?_)
  refine me_after R p 0 hp (by omega) rfl rfl ?_
  refine me_after R q 0 hq (by omega) rfl rfl ?_
  refine ⟨pk_in (12 * me_af N p 0 + me_af N q 0) 144 (by omega) (me_l12 _ _), ?_⟩
  refine pk_eq (v (me_af N p 0) (me_af N q 0)) L (fun z => H1 (Or.inl z)) (fun z0 => ?_) (me_Vat V hp0 hq0 (me_l12 _ _))
  refine nm_r (nI_1 0) ?_
  refine pk_le 2 1 (fun z => absurd z (by omega)) (fun _ => ?_)
  refine me_after R p 1 hp (by omega) rfl rfl ?_
  refine me_after R q 1 hq (by omega) rfl rfl ?_
  refine ⟨pk_in (12 * me_af N p 1 + me_af N q 1) 144 (by omega) (me_l12 _ _), ?_⟩
  refine pk_eq (v (me_af N p 1) (me_af N q 1)) L (fun z => H1 (Or.inr z)) (fun z1 => ?_) (me_Vat V hp1 hq1 (me_l12 _ _))
  refine nm_r (nI_1 1) ?_
  exact pk_le 2 2 (fun _ => H0 (fun z => z.elim z0 z1)) (fun z => absurd z (by omega))
theorem me_lg_lt {c n : Nat} (h : me_lg c n) (hn : n ≤ 11) : 1 ≤ c ∧ c ≤ 4095 := by
  have h1 : 1 ≤ 2 ^ n := Nat.one_le_two_pow
  have h2 : 2 ^ (n + 1) ≤ 2 ^ 12 := Nat.pow_le_pow_right (by omega) (by omega)
  have h3 := h.1
  have h4 := h.2
  omega
theorem me_letters {post : Int32 → Prop} {u : St2} {x : Int32} (c n : Nat) (h : me_lg c n) (hn : n ≤ 11) (hx : x = nI c) (H : post (nI n)) : wpX_lettersOf post u x := by
  subst hx
  unfold wpX_lettersOf
  have hc := me_lg_lt h hn
  refine pk_loop (σ := Unit) (fun f i _ => wX_lettersOf_2 post (nI c) f (nI i)) (fun _ _ => True) n 0 () (by omega) trivial ?_ ?_
  · intro f _ _
    refine pk_le 11 n (fun _ => H) (fun z => ?_)
    have h2 := h.2
    rw [Nat.pow_succ] at h2
    have h3 : 2 ^ n ≤ 2 ^ 11 := Nat.pow_le_pow_right (by omega) hn
    exact pk_lt c (2 * 2 ^ n) (fun _ => H) (fun z => absurd z (by omega)) rfl (me_sh2 hn)
  · intro f i _ hi _ hw
    refine pk_le 11 i (fun z => absurd z (by omega)) (fun z => ?_)
    have h1 : 2 ^ (i + 1) ≤ 2 ^ n := Nat.pow_le_pow_right (by omega) hi
    rw [Nat.pow_succ] at h1
    have h2 := h.1
    exact pk_lt c (2 * 2 ^ i) (fun z => absurd z (by omega)) (fun _ => nm_r (nI_1 i) (hw () trivial)) rfl (me_sh2 (by omega))
theorem me_run {post : Int32 → Prop} {x y : Int32} (R : me_R S N A a1 a2 a3) (m s c n : Nat) (hm : m < 2) (hs : s < S m) (h : me_lg c n) (hn : n ≤ 11) (hx : x = nI (8 * m + s)) (hy : y = nI c) (H : post (nI (me_ru N (6 * m + s) n c % 6))) : wpX_run post (co, cu, a1, a2, a3, a4, a5, a6, a7, a8) x y := by
  subst hx
  subst hy
  have hS := R.1.1 m hm
  have hc := me_lg_lt h hn
  unfold wpX_run
  refine me_place R m s hm hs rfl ?_
  refine pk_le 0 (6 * m + s) (fun _ => ?_) (fun z => absurd z (by omega))
  refine pk_lt c 1 (fun z => absurd z (by omega)) (fun _ => ?_)
  refine pk_le c 4095 (fun _ => ?_) (fun z => absurd z (by omega))
  refine me_letters c n h hn rfl ?_
  refine nm_e ?_
  have w : wX_run_39 post (nI c) co cu a1 a2 a3 a4 a5 a6 a7 a8 (n + 1) (nI (me_ru N (6 * m + s) (n - n) (c / 2 ^ n))) (nI n - 1) := by
    refine pk_loopD (σ := Unit) (fun f r _ => wX_run_39 post (nI c) co cu a1 a2 a3 a4 a5 a6 a7 a8 f (nI (me_ru N (6 * m + s) (n - r) (c / 2 ^ r))) (nI r - 1)) (fun r _ => r ≤ n) ?_ ?_ n () (Nat.le_refl n)
    · intro f _ _
      refine br_t me_neg ⟨by decide, ?_⟩
      rw [me_r6 (by have := me_ru_lt R.1 (show 6 * m + s < 12 by omega) (n - 0) (c / 2 ^ 0); omega), Nat.sub_zero, Nat.pow_zero, Nat.div_one]
      exact H
    · intro f r _ hr hw
      have hr' : r + 1 ≤ n := hr
      have hp := me_ru_lt R.1 (show 6 * m + s < 12 by omega) (n - (r + 1)) (c / 2 ^ (r + 1))
      refine br_f (me_pos (by omega)) ?_
      refine me_after R (me_ru N (6 * m + s) (n - (r + 1)) (c / 2 ^ (r + 1))) (c / 2 ^ r % 2) hp (by omega) rfl (by rw [nI_pred, me_bit (by omega) (by omega)]) ?_
      refine nm_r (me_dn2 r) ?_
      have e : me_ru N (6 * m + s) (n - r) (c / 2 ^ r) = me_af N (me_ru N (6 * m + s) (n - (r + 1)) (c / 2 ^ (r + 1))) (c / 2 ^ r % 2) := by
        rw [show n - r = (n - (r + 1)) + 1 by omega]
        exact me_ru_cut _ _ _ _ _
      have w : wX_run_39 post (nI c) co cu a1 a2 a3 a4 a5 a6 a7 a8 f (nI (me_ru N (6 * m + s) (n - r) (c / 2 ^ r))) (nI r - 1) := hw () (by omega)
      rw [e] at w
      exact w
  rw [Nat.sub_self] at w
  exact ⟨n + 1, w⟩
theorem me_resp {post : Int32 → Prop} {x y : Int32} (R : me_R S N A a1 a2 a3) (m s c n : Nat) (hm : m < 2) (hs : s < S m) (h : me_lg c n) (hn : n ≤ 11) (hx : x = nI (8 * m + s)) (hy : y = nI c) (H : post (nI (me_rs N A (6 * m + s) n c))) : wpX_response post (co, cu, a1, a2, a3, a4, a5, a6, a7, a8) x y := by
  subst hx
  subst hy
  have hS := R.1.1 m hm
  have hc := me_lg_lt h hn
  unfold wpX_response
  refine me_place R m s hm hs rfl ?_
  refine pk_le 0 (6 * m + s) (fun _ => ?_) (fun z => absurd z (by omega))
  refine pk_lt c 1 (fun z => absurd z (by omega)) (fun _ => ?_)
  refine pk_le c 4095 (fun _ => ?_) (fun z => absurd z (by omega))
  refine me_letters c n h hn rfl ?_
  refine nm_e ?_
  have w : wX_response_42 post (nI c) co cu a1 a2 a3 a4 a5 a6 a7 a8 (n + 1) (nI (me_ru N (6 * m + s) (n - n) (c / 2 ^ n))) (nI (me_rs N A (6 * m + s) (n - n) (c / 2 ^ n))) (nI n - 1) := by
    refine pk_loopD (σ := Unit) (fun f r _ => wX_response_42 post (nI c) co cu a1 a2 a3 a4 a5 a6 a7 a8 f (nI (me_ru N (6 * m + s) (n - r) (c / 2 ^ r))) (nI (me_rs N A (6 * m + s) (n - r) (c / 2 ^ r))) (nI r - 1)) (fun r _ => r ≤ n) ?_ ?_ n () (Nat.le_refl n)
    · intro f _ _
      refine br_t me_neg ?_
      rw [Nat.sub_zero, Nat.pow_zero, Nat.div_one]
      exact H
    · intro f r _ hr hw
      have hr' : r + 1 ≤ n := hr
      have hp := me_ru_lt R.1 (show 6 * m + s < 12 by omega) (n - (r + 1)) (c / 2 ^ (r + 1))
      refine br_f (me_pos (by omega)) ?_
      refine nm_r (show (nI c >>> ((nI (r + 1) - 1) &&& 31)) &&& 1 = nI (c / 2 ^ r % 2) by rw [nI_pred, me_bit (by omega) (by omega)]) ?_
      have hi : 2 * me_ru N (6 * m + s) (n - (r + 1)) (c / 2 ^ (r + 1)) + c / 2 ^ r % 2 < 24 := by omega
      refine ⟨pk_in _ 24 hi (me_l2 _ _), ?_⟩
      refine nm_r (show (4 : Int32) * nI (me_rs N A (6 * m + s) (n - (r + 1)) (c / 2 ^ (r + 1))) + a3 ((2 : Int32) * nI (me_ru N (6 * m + s) (n - (r + 1)) (c / 2 ^ (r + 1))) + nI (c / 2 ^ r % 2)).toNatClampNeg = nI (me_rs N A (6 * m + s) (n - r) (c / 2 ^ r)) from ?_) ?_
      · rw [me_at _ R.2.2.2 hi (me_l2 _ _) (by omega), me_l4, show n - r = (n - (r + 1)) + 1 by omega, me_rs_cut]
      refine me_after R (me_ru N (6 * m + s) (n - (r + 1)) (c / 2 ^ (r + 1))) (c / 2 ^ r % 2) hp (by omega) rfl rfl ?_
      refine nm_r (me_dn2 r) ?_
      have e : me_ru N (6 * m + s) (n - r) (c / 2 ^ r) = me_af N (me_ru N (6 * m + s) (n - (r + 1)) (c / 2 ^ (r + 1))) (c / 2 ^ r % 2) := by
        rw [show n - r = (n - (r + 1)) + 1 by omega]
        exact me_ru_cut _ _ _ _ _
      have w : wX_response_42 post (nI c) co cu a1 a2 a3 a4 a5 a6 a7 a8 f (nI (me_ru N (6 * m + s) (n - r) (c / 2 ^ r))) (nI (me_rs N A (6 * m + s) (n - r) (c / 2 ^ r))) (nI r - 1) := hw () (by omega)
      rw [e] at w
      exact w
  rw [Nat.sub_self] at w
  exact ⟨n + 1, w⟩
/-- the first difference: at i + 1 letters left -/
def me_FI (S N A : Nat → Nat) (p q D i : Nat) (s : Nat × Nat × Nat) : Prop := ∃ j, me_lg s.2.2 j ∧ j + i + 1 = D ∧ s.1 = me_ru N p j s.2.2 ∧ s.2.1 = me_ru N q j s.2.2 ∧ me_ap S N A 11 s.1 s.2.1 = i + 1
theorem me_first {post : Int32 → Prop} {x y : Int32} (R : me_R S N A a1 a2 a3) (P : me_V (me_ap S N A 11) a4) (p q : Nat) (hp : p < 12) (hq : q < 12) (hx : x = nI p) (hy : y = nI q) (H0 : me_ap S N A 11 p q = 0 → post 0)
    (H1 : me_ap S N A 11 p q ≠ 0 → ∀ c j, me_lg c j → j ≤ 11 → me_rs N A p j c ≠ me_rs N A q j c → post (nI c)) : wpX_firstWord post (co, cu, a1, a2, a3, a4, a5, a6, a7, a8) x y := by
  subst hx
  subst hy
  unfold wpX_firstWord
  have hD := me_ap_le S N A p q 11
  refine ⟨pk_in (12 * p + q) 144 (by omega) (me_l12 _ _), ?_⟩
  refine nm_r (me_Vat P hp hq (me_l12 _ _)) ?_
  refine pk_eq (me_ap S N A 11 p q) 0 (fun z => H0 z) (fun z => ?_)
  replace H1 := H1 z
  obtain ⟨i, ei⟩ : ∃ i, me_ap S N A 11 p q = i + 1 := ⟨me_ap S N A 11 p q - 1, by omega⟩
  refine ⟨i + 1, ?_⟩
  have w : wX_firstWord_28 post co cu a1 a2 a3 a4 a5 a6 a7 a8 (i + 1) (nI p) (nI q) (nI (i + 1)) (nI 1) := by
    refine pk_loopD (σ := Nat × Nat × Nat) (fun f i s => wX_firstWord_28 post co cu a1 a2 a3 a4 a5 a6 a7 a8 f (nI s.1) (nI s.2.1) (nI (i + 1)) (nI s.2.2)) (me_FI S N A p q (i + 1)) ?_ ?_ i (p, q, 1) ⟨0, me_lg_0, by omega, rfl, rfl, ei⟩
    · rintro f ⟨a, b, c⟩ ⟨j, h1, h2, h3, h4, h5⟩
      dsimp only at h1 h2 h3 h4 h5 ⊢
      have ha := me_ru_lt R.1 hp j c
      have hb := me_ru_lt R.1 hq j c
      rw [← h3] at ha
      rw [← h4] at hb
      have A1 := R.1.2.2.2 (2 * a) (by omega)
      have A2 := R.1.2.2.2 (2 * b) (by omega)
      have A3 := R.1.2.2.2 (2 * a + 1) (by omega)
      have A4 := R.1.2.2.2 (2 * b + 1) (by omega)
      refine pk_le 1 1 (fun _ => ?_) (fun z => absurd z (by omega))
      refine ⟨pk_in (2 * a) 24 (by omega) (me_m2 _), pk_in (2 * b) 24 (by omega) (me_m2 _), ?_⟩
      refine pk_eq (A (2 * a)) (A (2 * b)) (fun z => ?_) (fun z => ?_) (me_at _ R.2.2.2 (by omega) (me_m2 _) (by omega)) (me_at _ R.2.2.2 (by omega) (me_m2 _) (by omega))
      · have hne := (me_last h5).resolve_left (fun y => y z)
        have e : (2 : Int32) * nI c + 1 = nI (2 * c + 1) := me_l2 c 1
        rw [e]
        refine H1 _ _ (me_lg_next h1 (by omega)) (by omega) ?_
        rw [me_rs_next _ _ _ _ _ _ (by omega), me_rs_next _ _ _ _ _ _ (by omega), ← h3, ← h4]
        omega
      · have e : (2 : Int32) * nI c + 0 = nI (2 * c + 0) := me_l2 c 0
        rw [e]
        refine H1 _ _ (me_lg_next h1 (by omega)) (by omega) ?_
        rw [me_rs_next _ _ _ _ _ _ (by omega), me_rs_next _ _ _ _ _ _ (by omega), ← h3, ← h4, Nat.add_zero, Nat.add_zero]
        omega
    · rintro f k ⟨a, b, c⟩ ⟨j, h1, h2, h3, h4, h5⟩ hw
      dsimp only at h1 h2 h3 h4 h5 ⊢
      have ha := me_ru_lt R.1 hp j c
      have hb := me_ru_lt R.1 hq j c
      rw [← h3] at ha
      rw [← h4] at hb
      have ha0 := me_af_lt R.1 ha (show 0 < 2 by omega)
      have hb0 := me_af_lt R.1 hb (show 0 < 2 by omega)
      have hv := me_ap_le S N A (me_af N a 0) (me_af N b 0) 11
      have step : ∀ l, l < 2 → me_ap S N A 11 (me_af N a l) (me_af N b l) = k + 1 → ∀ z0 : Int32, z0 = nI l → wX_firstWord_76 post (wX_firstWord_28 post co cu a1 a2 a3 a4 a5 a6 a7 a8 f) (nI a) (nI b) (nI (k + 1 + 1)) (nI c) z0 co cu a1 a2 a3 a4 a5 a6 a7 a8 := by
        intro l hl hk z0 hz
        unfold wX_firstWord_76
        refine me_after R a l ha hl rfl hz ?_
        refine me_after R b l hb hl rfl hz ?_
        refine nm_r (show (2 : Int32) * nI c + z0 = nI (2 * c + l) by rw [hz, me_l2]) ?_
        refine nm_r (pk_m1 (k + 1)) ?_
        exact hw (me_af N a l, me_af N b l, 2 * c + l) ⟨j + 1, me_lg_next h1 hl, by omega, by rw [me_ru_next _ _ _ _ _ hl, h3], by rw [me_ru_next _ _ _ _ _ hl, h4], hk⟩
      refine pk_le (k + 1 + 1) 1 (fun z => absurd z (by omega)) (fun _ => ?_)
      refine me_after R a 0 ha (by omega) rfl rfl ?_
      refine me_after R b 0 hb (by omega) rfl rfl ?_
      refine ⟨pk_in (12 * me_af N a 0 + me_af N b 0) 144 (by omega) (me_l12 _ _), ?_⟩
      refine pk_eq (me_ap S N A 11 (me_af N a 0) (me_af N b 0)) (k + 1) (fun z => step 0 (by omega) z 0 rfl) (fun z => step 1 (by omega) ?_ 1 rfl) (me_Vat P ha0 hb0 (me_l12 _ _)) (nI_pred (k + 1))
      exact (me_down R.1 ha hb h5).resolve_left z
  rw [ei]
  exact w
end
end
section
/-! the table of differences, filled place by place -/
def me_mx (F G : Nat → Nat → Nat) (k p q : Nat) : Nat := if 12 * p + q < k then F p q else G p q
theorem me_mx_0 {F G : Nat → Nat → Nat} {a : Nat → Int32} (h : me_V G a) : me_V (me_mx F G 0) a := by
  intro j hj
  unfold me_mx
  rw [if_neg (by omega)]
  exact h j hj
theorem me_mx_e {F G : Nat → Nat → Nat} {a : Nat → Int32} (h : me_V (me_mx F G 144) a) : me_V F a := by
  intro j hj
  have := h j hj
  unfold me_mx at this
  rw [if_pos (by omega)] at this
  exact this
theorem me_mx_K {F G : Nat → Nat → Nat} {a : Nat → Int32} {k : Nat} (h : me_V (me_mx F G k) a) (e : F (k / 12) (k % 12) = G (k / 12) (k % 12)) : me_V (me_mx F G (k + 1)) a := by
  intro j hj
  have g := h j hj
  unfold me_mx at g ⊢
  by_cases z : j = k
  · rw [if_neg (by omega)] at g
    rw [if_pos (by omega), g, z, e]
  · by_cases y : j < k
    · rw [if_pos (by omega)] at g
      rw [if_pos (by omega), g]
    · rw [if_neg (by omega)] at g
      rw [if_neg (by omega), g]
theorem me_mx_U {F G : Nat → Nat → Nat} {a : Nat → Int32} {k : Nat} {x y : Int32} (h : me_V (me_mx F G k) a) (hk : k < 144) (hy : y = nI k) (hx : x = nI (F (k / 12) (k % 12))) : me_V (me_mx F G (k + 1)) (upd a y.toNatClampNeg x) := by
  intro j hj
  rw [hy, nI_clamp (by omega)]
  by_cases z : j = k
  · rw [z, pk_us, hx]
    unfold me_mx
    rw [if_pos (by omega)]
  · rw [pk_un z]
    have g := h j hj
    unfold me_mx at g ⊢
    by_cases y : j < k
    · rw [if_pos (by omega)] at g
      rw [if_pos (by omega), g]
    · rw [if_neg (by omega)] at g
      rw [if_neg (by omega), g]
theorem me_mx_lt {S N A : Nat → Nat} {L k : Nat} (hL : L < 90) (p q : Nat) : me_mx (me_ap S N A (L + 1)) (me_ap S N A L) k p q < 100 := by
  have h1 := me_ap_le S N A p q (L + 1)
  have h2 := me_ap_le S N A p q L
  unfold me_mx
  split <;> omega
theorem me_mx_L {S N A : Nat → Nat} {L k p q : Nat} (hL : 1 ≤ L) : me_mx (me_ap S N A (L + 1)) (me_ap S N A L) k p q = L ↔ me_ap S N A L p q = L := by
  unfold me_mx
  split
  · exact me_ap_mix hL
  · exact Iff.rfl
theorem me_ap_1 (S N A : Nat → Nat) (p q : Nat) : me_ap S N A 1 p q = if (me_th S p && (me_th S q && !(me_in N A 1 p q))) = true then 1 else 0 := by
  rw [me_ap_s, if_pos (show me_ap S N A 0 p q = 0 from rfl)]
section
variable {co cu : Int32} {a1 a2 a3 a4 a5 a6 a7 a8 : Nat → Int32} {S N A : Nat → Nat}
theorem me_129 {post : St1 → Prop} {J : Int32 → (Nat → Int32) → (Nat → Int32) → (Nat → Int32) → (Nat → Int32) → (Nat → Int32) → (Nat → Int32) → (Nat → Int32) → (Nat → Int32) → Prop} (R : me_R S N A a1 a2 a3) (L : Nat) (hL : L ≤ 9) (V : me_V (me_ap S N A (L + 1)) a4)
    (H : ∀ b4, me_V (me_ap S N A (L + 2)) b4 → J (nI (L + 3)) a1 a2 a3 b4 a5 a6 a7 a8) : ∃ n, wX_refresh_129 post J (nI (L + 2)) co cu n 0 a1 a2 a3 a4 a5 a6 a7 a8 := by
  refine pk_loop (fun n k b => wX_refresh_129 post J (nI (L + 2)) co cu n (nI k) a1 a2 a3 b a5 a6 a7 a8) (fun k b => me_V (me_mx (me_ap S N A (L + 1 + 1)) (me_ap S N A (L + 1)) k) b) 144 0 a4 (by omega) (me_mx_0 V) ?_ ?_
  · intro n b h
    exact pk_le 144 144 (fun _ => nm_r (nI_1 (L + 2)) (H b (me_mx_e h))) (fun z => absurd z (by omega))
  · intro n k b hk h hw
    have bk : b (nI k).toNatClampNeg = nI (me_ap S N A (L + 1) (k / 12) (k % 12)) := by
      rw [nI_clamp (by omega), h k hk]
      unfold me_mx
      rw [if_neg (by omega)]
    have hle := me_ap_le S N A (k / 12) (k % 12) (L + 1)
    refine pk_le 144 k (fun z => absurd z (by omega)) (fun _ => ⟨pk_in k 144 hk, ?_⟩)
    refine pk_eq (me_ap S N A (L + 1) (k / 12) (k % 12)) 0 (fun z => ⟨by decide, ?_⟩) (fun z => nm_r (nI_1 k) (hw b (me_mx_K h (by rw [me_ap_s, if_neg z])))) bk
    refine me_there R (k / 12) (by omega) (me_d12 (by omega)) (fun t1 => ?_) (fun t1 => ?_)
    rotate_left
    · refine br_t rfl (nm_r (nI_1 k) (hw b (me_mx_K h ?_)))
      rw [me_ap_n (fun y => by rw [t1] at y; exact absurd y.1 (by decide)), me_ap_n (fun y => by rw [t1] at y; exact absurd y.1 (by decide))]
    refine br_f (by decide) ⟨by decide, ?_⟩
    refine me_there R (k % 12) (by omega) (me_r12 (by omega)) (fun t2 => ?_) (fun t2 => ?_)
    rotate_left
    · refine br_t rfl (nm_r (nI_1 k) (hw b (me_mx_K h ?_)))
      rw [me_ap_n (fun y => by rw [t2] at y; exact absurd y.2 (by decide)), me_ap_n (fun y => by rw [t2] at y; exact absurd y.2 (by decide))]
    refine br_f (by decide) ⟨by decide, by decide, ?_⟩
    refine me_goes R h (me_mx_lt (by omega)) (k / 12) (k % 12) (L + 1) (by omega) (by omega) (by omega) (me_d12 (by omega)) (me_r12 (by omega)) (nI_pred (L + 1)) (fun g => ?_) (fun g => ?_)
    · rw [me_mx_L (by omega), me_mx_L (by omega), me_go R.1 (by omega) (by omega) t1 t2 z] at g
      refine br_f (by decide) ⟨pk_in k 144 hk, nm_e (nm_r (nI_1 k) (hw _ (me_mx_U h hk rfl ?_)))⟩
      rw [me_ap_s, if_pos z, t1, t2, g]
      rfl
    · rw [me_mx_L (by omega), me_mx_L (by omega), me_go R.1 (by omega) (by omega) t1 t2 z] at g
      refine br_t rfl ⟨pk_in k 144 hk, nm_e (nm_r (nI_1 k) (hw _ (me_mx_U h hk rfl ?_)))⟩
      have g' : me_in N A (L + 1 + 1) (k / 12) (k % 12) = true := by
        cases e : me_in N A (L + 1 + 1) (k / 12) (k % 12)
        · exact absurd e g
        · rfl
      rw [me_ap_s, if_pos z, t1, t2, g']
      rfl
theorem me_121 {post : St1 → Prop} (R : me_R S N A a1 a2 a3) (V : me_V (me_ap S N A 1) a4) (H : ∀ b4, me_V (me_ap S N A 11) b4 → post (co, cu, a1, a2, a3, b4, a5, a6, a7, a8)) : ∃ n, wX_refresh_121 post co cu n 2 a1 a2 a3 a4 a5 a6 a7 a8 := by
  refine pk_loop (fun n i b => wX_refresh_121 post co cu n (nI i) a1 a2 a3 b a5 a6 a7 a8) (fun i b => 2 ≤ i ∧ me_V (me_ap S N A (i - 1)) b) 12 2 a4 (by omega) ⟨by omega, V⟩ ?_ ?_
  · intro n b h
    exact pk_lt 11 12 (fun _ => H b h.2) (fun z => absurd z (by omega))
  · intro n i b hi h hw
    obtain ⟨h1, h2⟩ := h
    obtain ⟨L, rfl⟩ : ∃ L, i = L + 2 := ⟨i - 2, by omega⟩
    refine pk_lt 11 (L + 2) (fun z => absurd z (by omega)) (fun _ => ?_)
    exact me_129 R L (by omega) h2 (fun b4 hb => hw b4 ⟨by omega, hb⟩)
theorem me_79 {post : St1 → Prop} {J : Int32 → (Nat → Int32) → (Nat → Int32) → (Nat → Int32) → (Nat → Int32) → (Nat → Int32) → (Nat → Int32) → (Nat → Int32) → (Nat → Int32) → Prop} {z0 : Int32} (R : me_R S N A a1 a2 a3) (k : Nat) (hk : k < 144)
    (hz : (z0 = 0 ∧ me_in N A 1 (k / 12) (k % 12) = true) ∨ (z0 = 1 ∧ me_in N A 1 (k / 12) (k % 12) = false)) (H : ∀ x, x = nI (me_ap S N A 1 (k / 12) (k % 12)) → J (nI (k + 1)) a1 a2 a3 (upd a4 (nI k).toNatClampNeg x) a5 a6 a7 a8) :
    wX_refresh_79 post J (nI k) (nI (k / 12)) (nI (k % 12)) z0 co cu a1 a2 a3 a4 a5 a6 a7 a8 := by
  unfold wX_refresh_79
  rcases hz with ⟨e, g⟩ | ⟨e, g⟩
  · subst e
    refine br_t rfl ⟨pk_in k 144 hk, nm_e (nm_r (nI_1 k) (H 0 ?_))⟩
    rw [me_ap_1, if_neg (by rw [g]; simp)]
    rfl
  · subst e
    refine br_f (by decide) ?_
    refine me_there R (k / 12) (by omega) rfl (fun t1 => ?_) (fun t1 => ?_)
    rotate_left
    · refine br_t rfl ⟨pk_in k 144 hk, nm_e (nm_r (nI_1 k) (H 0 ?_))⟩
      rw [me_ap_n (fun y => by rw [t1] at y; exact absurd y.1 (by decide))]
      rfl
    refine br_f (by decide) ?_
    refine me_there R (k % 12) (by omega) rfl (fun t2 => ?_) (fun t2 => ?_)
    rotate_left
    · refine br_t rfl ⟨pk_in k 144 hk, nm_e (nm_r (nI_1 k) (H 0 ?_))⟩
      rw [me_ap_n (fun y => by rw [t2] at y; exact absurd y.2 (by decide))]
      rfl
    refine br_f (by decide) ⟨pk_in k 144 hk, nm_e (nm_r (nI_1 k) (H 1 ?_))⟩
    rw [me_ap_1, t1, t2, g]
    rfl
theorem me_15 {post : St1 → Prop} (R : me_R S N A a1 a2 a3) (H : ∀ b4, me_V (me_ap S N A 11) b4 → post (co, cu, a1, a2, a3, b4, a5, a6, a7, a8)) : ∃ n, wX_refresh_15 post co cu n 0 a1 a2 a3 a4 a5 a6 a7 a8 := by
  refine pk_loop (fun n k b => wX_refresh_15 post co cu n (nI k) a1 a2 a3 b a5 a6 a7 a8) (fun k b => ∀ j, j < k → b j = nI (me_ap S N A 1 (j / 12) (j % 12))) 144 0 a4 (by omega) (fun j hj => absurd hj (by omega)) ?_ ?_
  · intro n b h
    exact pk_le 144 144 (fun _ => me_121 R h H) (fun z => absurd z (by omega))
  · intro n k b hk h hw
    have hA1 := R.1.2.2.2 (2 * (k / 12)) (by omega)
    have hA2 := R.1.2.2.2 (2 * (k % 12)) (by omega)
    have hA3 := R.1.2.2.2 (2 * (k / 12) + 1) (by omega)
    have hA4 := R.1.2.2.2 (2 * (k % 12) + 1) (by omega)
    have HJ : ∀ x, x = nI (me_ap S N A 1 (k / 12) (k % 12)) → wX_refresh_15 post co cu n (nI (k + 1)) a1 a2 a3 (upd b (nI k).toNatClampNeg x) a5 a6 a7 a8 := by
      intro x hx
      refine hw _ (fun j hj => ?_)
      rw [nI_clamp (by omega)]
      by_cases z : j = k
      · rw [z, pk_us, hx]
      · rw [pk_un z]
        exact h j (by omega)
    refine pk_le 144 k (fun z => absurd z (by omega)) (fun _ => ⟨by decide, ?_⟩)
    refine nm_r (me_d12 (by omega)) ⟨by decide, ?_⟩
    refine nm_r (me_r12 (by omega)) ⟨pk_in (2 * (k / 12)) 24 (by omega) (me_m2 _), pk_in (2 * (k % 12)) 24 (by omega) (me_m2 _), ?_⟩
    refine pk_eq (A (2 * (k / 12))) (A (2 * (k % 12))) (fun g0 => ⟨pk_in (2 * (k / 12) + 1) 24 (by omega) (me_l2 (k / 12) 1), pk_in (2 * (k % 12) + 1) 24 (by omega) (me_l2 (k % 12) 1), ?_⟩) (fun g0 => ?_) (me_at _ R.2.2.2 (by omega) (me_m2 _) (by omega)) (me_at _ R.2.2.2 (by omega) (me_m2 _) (by omega))
    · refine pk_eq (A (2 * (k / 12) + 1)) (A (2 * (k % 12) + 1)) (fun g1 => ?_) (fun g1 => ?_) (me_at _ R.2.2.2 (by omega) (me_l2 (k / 12) 1) (by omega)) (me_at _ R.2.2.2 (by omega) (me_l2 (k % 12) 1) (by omega))
      · exact me_79 R k hk (Or.inl ⟨rfl, me_in_s.mpr ⟨g0, g1, rfl, rfl⟩⟩) HJ
      · unfold wX_refresh_74
        refine me_79 R k hk (Or.inr ⟨rfl, ?_⟩) HJ
        cases e : me_in N A 1 (k / 12) (k % 12)
        · rfl
        · exact absurd (me_in_s.mp e).2.1 g1
    · unfold wX_refresh_74
      refine me_79 R k hk (Or.inr ⟨rfl, ?_⟩) HJ
      cases e : me_in N A 1 (k / 12) (k % 12)
      · rfl
      · exact absurd (me_in_s.mp e).1 g0
theorem me_refresh {post : St1 → Prop} (R : me_R S N A a1 a2 a3) (C : cu = 0 ∨ me_V (me_ap S N A 11) a4) (H : ∀ cv b4, ¬ cv = 0 → me_V (me_ap S N A 11) b4 → post (co, cv, a1, a2, a3, b4, a5, a6, a7, a8)) : wpX_refresh post (co, cu, a1, a2, a3, a4, a5, a6, a7, a8) := by
  unfold wpX_refresh
  exact br_c (fun _ => me_15 R (fun b4 hb => H 1 b4 (by decide) hb)) (fun z => H cu a4 z (C.resolve_left z))
theorem me_same {post : Int32 → St1 → Prop} (R : me_R S N A a1 a2 a3) (C : cu = 0 ∨ me_V (me_ap S N A 11) a4) (h : me_ap S N A 11 0 6 = 0) (H : ∀ cv b4, ¬ cv = 0 → me_V (me_ap S N A 11) b4 → post 1 (co, cv, a1, a2, a3, b4, a5, a6, a7, a8)) : wpX_same post (co, cu, a1, a2, a3, a4, a5, a6, a7, a8) := by
  unfold wpX_same
  refine me_refresh R C (fun cv b4 hc hb => ?_)
  refine br_t ?_ (H cv b4 hc hb)
  rw [hb 6 (by omega)]
  show nI (me_ap S N A 11 0 6) = 0
  rw [h]
  rfl
theorem me_alike {post : Int32 → St1 → Prop} {x y : Int32} (R : me_R S N A a1 a2 a3) (C : cu = 0 ∨ me_V (me_ap S N A 11) a4) (m s m' s' : Nat) (hm : m < 2) (hs : s < S m) (hm' : m' < 2) (hs' : s' < S m') (hx : x = nI (8 * m + s)) (hy : y = nI (8 * m' + s'))
    (H : ∀ r cv b4, ((me_ap S N A 11 (6 * m + s) (6 * m' + s') = 0 ∧ r = 1) ∨ (me_ap S N A 11 (6 * m + s) (6 * m' + s') ≠ 0 ∧ r = 0)) → ¬ cv = 0 → me_V (me_ap S N A 11) b4 → post r (co, cv, a1, a2, a3, b4, a5, a6, a7, a8)) : wpX_alike post (co, cu, a1, a2, a3, a4, a5, a6, a7, a8) x y := by
  have hS := R.1.1 m hm
  have hS' := R.1.1 m' hm'
  unfold wpX_alike
  refine me_place R m s hm hs hx ?_
  refine me_place R m' s' hm' hs' hy ?_
  refine br_f (nI_pos (by omega)) ?_
  refine br_t (nI_pos' (by omega)) ?_
  refine me_refresh R C (fun cv b4 hc hb => ?_)
  have hv := me_ap_le S N A (6 * m + s) (6 * m' + s') 11
  refine ⟨pk_in (12 * (6 * m + s) + (6 * m' + s')) 144 (by omega) (me_l12 _ _), ?_⟩
  exact pk_eq (me_ap S N A 11 (6 * m + s) (6 * m' + s')) 0 (fun z => H 1 cv b4 (Or.inl ⟨z, rfl⟩) hc hb) (fun z => H 0 cv b4 (Or.inr ⟨z, rfl⟩) hc hb) (me_Vat hb (by omega) (by omega) (me_l12 _ _))
theorem me_diff {post : Int32 → St1 → Prop} {x y : Int32} (R : me_R S N A a1 a2 a3) (C : cu = 0 ∨ me_V (me_ap S N A 11) a4) (m s m' s' : Nat) (hm : m < 2) (hs : s < S m) (hm' : m' < 2) (hs' : s' < S m') (hx : x = nI (8 * m + s)) (hy : y = nI (8 * m' + s'))
    (H0 : me_ap S N A 11 (6 * m + s) (6 * m' + s') = 0 → ∀ cv b4, ¬ cv = 0 → me_V (me_ap S N A 11) b4 → post 0 (co, cv, a1, a2, a3, b4, a5, a6, a7, a8))
    (H1 : me_ap S N A 11 (6 * m + s) (6 * m' + s') ≠ 0 → ∀ cv b4, ¬ cv = 0 → me_V (me_ap S N A 11) b4 → ∀ c j, me_lg c j → j ≤ 11 → me_rs N A (6 * m + s) j c ≠ me_rs N A (6 * m' + s') j c → post (nI c) (co, cv, a1, a2, a3, b4, a5, a6, a7, a8)) : wpX_difference post (co, cu, a1, a2, a3, a4, a5, a6, a7, a8) x y := by
  have hS := R.1.1 m hm
  have hS' := R.1.1 m' hm'
  unfold wpX_difference
  refine me_place R m s hm hs hx ?_
  refine me_place R m' s' hm' hs' hy ?_
  refine br_f (nI_pos (by omega)) ?_
  refine br_t (nI_pos' (by omega)) ?_
  refine me_refresh R C (fun cv b4 hc hb => ?_)
  exact me_first R hb (6 * m + s) (6 * m' + s') (by omega) (by omega) rfl rfl (fun z => H0 z cv b4 hc hb) (fun z c j h1 h2 h3 => H1 z cv b4 hc hb c j h1 h2 h3)
/-- how many states are the least of their kind -/
def me_b (b : Bool) : Int32 := if b = true then 1 else 0
theorem me_33 {post : Int32 → St1 → Prop} {J : Int32 → Int32 → Prop} (R : me_R S N A a1 a2 a3) (P : me_V (me_ap S N A 11) a4) (m s c : Nat) (hm : m < 2) (hs : s < S m) (H : J (nI (c + if me_fr S N A m s s = true then 1 else 0)) (nI (s + 1))) :
    ∃ n, wX_classes_33 post J (nI m) (nI c) (nI s) co cu a1 a2 a3 a4 a5 a6 a7 a8 n 1 0 := by
  have hS := R.1.1 m hm
  refine pk_loop (σ := Unit) (fun n r _ => wX_classes_33 post J (nI m) (nI c) (nI s) co cu a1 a2 a3 a4 a5 a6 a7 a8 n (me_b (me_fr S N A m s r)) (nI r)) (fun _ _ => True) s 0 () (by omega) trivial ?_ ?_
  · intro n _ _
    refine pk_le s s (fun _ => ?_) (fun z => absurd z (by omega))
    cases e : me_fr S N A m s s
    · rw [e] at H
      exact br_t rfl (nm_r (nI_add c 0) (nm_r (nI_1 s) H))
    · rw [e] at H
      exact br_f (by decide) (nm_r (nI_1 c) (nm_r (nI_1 s) H))
  · intro n r _ hr _ hw
    refine pk_le s r (fun z => absurd z (by omega)) (fun _ => ?_)
    have w : wX_classes_33 post J (nI m) (nI c) (nI s) co cu a1 a2 a3 a4 a5 a6 a7 a8 n (me_b (me_fr S N A m s r && decide (me_ap S N A 11 (6 * m + r) (6 * m + s) ≠ 0))) (nI (r + 1)) := hw () trivial
    cases e : me_fr S N A m s r
    · rw [e] at w
      exact br_t rfl (nm_r (nI_1 r) w)
    · rw [e] at w
      have ei : (((12 : Int32) * ((6 * nI m) + nI r)) + (6 * nI m)) + nI s = nI (12 * (6 * m + r) + (6 * m + s)) := by
        rw [me_l6, me_m6, me_l12, nI_add, Nat.add_assoc]
      have hv := me_ap_le S N A (6 * m + r) (6 * m + s) 11
      refine br_f (by decide) ⟨pk_in (12 * (6 * m + r) + (6 * m + s)) 144 (by omega) ei, ?_⟩
      refine pk_eq (me_ap S N A 11 (6 * m + r) (6 * m + s)) 0 (fun z => nm_r (nI_1 r) ?_) (fun z => nm_r (nI_1 r) ?_) (me_Vat P (by omega) (by omega) ei)
      · rw [decide_eq_false (fun y => y z)] at w
        exact w
      · rw [decide_eq_true z] at w
        exact w
theorem me_classes {post : Int32 → St1 → Prop} {x : Int32} (R : me_R S N A a1 a2 a3) (C : cu = 0 ∨ me_V (me_ap S N A 11) a4) (m : Nat) (hm : m < 2) (hx : x = nI m) (H : ∀ cv b4, ¬ cv = 0 → me_V (me_ap S N A 11) b4 → post (nI (me_cl S N A m)) (co, cv, a1, a2, a3, b4, a5, a6, a7, a8)) : wpX_classes post (co, cu, a1, a2, a3, a4, a5, a6, a7, a8) x := by
  subst hx
  have hS := R.1.1 m hm
  unfold wpX_classes
  refine me_isM m hm rfl ?_
  refine br_f (by decide) ?_
  refine me_refresh R C (fun cv b4 hc hb => ?_)
  refine pk_loop (σ := Unit) (fun n s _ => wX_classes_17 post (nI m) co cv a1 a2 a3 b4 a5 a6 a7 a8 n (nI (me_cnt (fun s => me_fr S N A m s s) s)) (nI s)) (fun _ _ => True) (S m) 0 () (by omega) trivial ?_ ?_
  · intro n _ _
    refine ⟨pk_in m 2 hm, ?_⟩
    exact pk_le (S m) (S m) (fun _ => H cv b4 hc hb) (fun z => absurd z (by omega)) (me_at m R.2.1 hm rfl (by omega))
  · intro n s _ hs _ hw
    refine ⟨pk_in m 2 hm, ?_⟩
    exact pk_le (S m) s (fun z => absurd z (by omega)) (fun _ => me_33 R hb m s _ hm hs (hw () trivial)) (me_at m R.2.1 hm rfl (by omega))
end
end
section
/-! the walk of the numbering -/
def me_cv : Nat → Int32
  | 0 => -1
  | k + 1 => nI k
theorem me_cv_ne {k : Nat} (h : k ≠ 0) (hk : k ≤ 100) : me_cv k ≠ -1 := by
  obtain ⟨j, rfl⟩ : ∃ j, k = j + 1 := ⟨k - 1, by omega⟩
  intro e
  have e' : nI j = -1 := e
  have := nI_pos (n := j) (by omega)
  rw [e'] at this
  exact this (by decide)
def me_Q (t : me_NS) (co : Int32) (a5 a6 : Nat → Int32) : Prop := co = nI t.1 ∧ (∀ k, k < t.1 → a6 k = nI (t.2.1 k)) ∧ (∀ p, p < 12 → a5 p = me_cv (t.2.2 p))
section
variable {co cu : Int32} {a1 a2 a3 a4 a5 a6 a7 a8 : Nat → Int32} {S N A : Nat → Nat}
theorem me_admit {post : St1 → Prop} {x y : Int32} (R : me_R S N A a1 a2 a3) (P : me_V (me_ap S N A 11) a4) (t : me_NS) (Q : me_Q t co a5 a6) (hc : t.1 < 12) (m p : Nat) (hm : m < 2) (hp : p < 12) (hx : x = nI m) (hy : y = nI p)
    (H : ∀ b5 b6, me_Q (me_ad S N A m p t) (nI (t.1 + 1)) b5 b6 → post (nI (t.1 + 1), cu, a1, a2, a3, a4, b5, b6, a7, a8)) : wpX_admit post (co, cu, a1, a2, a3, a4, a5, a6, a7, a8) x y := by
  obtain ⟨q1, q2, q3⟩ := Q
  subst q1
  subst hx
  subst hy
  have hS := R.1.1 m hm
  unfold wpX_admit
  refine ⟨pk_in t.1 12 hc, ?_⟩
  refine nm_r (show upd a6 (nI t.1).toNatClampNeg (nI p) = upd a6 t.1 (nI p) by rw [nI_clamp (by omega)]) ?_
  refine pk_loop (fun n s b => wX_admit_12 post (nI m) (nI p) (nI t.1) cu n (nI s) a1 a2 a3 a4 b (upd a6 t.1 (nI p)) a7 a8) (fun s b => ∀ q, q < 12 → b q = me_cv (if q / 6 = m ∧ q % 6 < s ∧ me_ap S N A 11 p q = 0 then t.1 + 1 else t.2.2 q)) (S m) 0 a5 (by omega) ?_ ?_ ?_
  · intro q hq
    rw [if_neg (fun z => absurd z.2.1 (by omega))]
    exact q3 q hq
  · intro n b h
    refine ⟨pk_in m 2 hm, ?_⟩
    refine pk_le (S m) (S m) (fun _ => nm_r (nI_1 t.1) (H b _ ⟨rfl, ?_, h⟩)) (fun z => absurd z (by omega)) (me_at m R.2.1 hm rfl (by omega))
    intro k hk
    have hk' : k < t.1 + 1 := hk
    show upd a6 t.1 (nI p) k = nI (if k = t.1 then p else t.2.1 k)
    by_cases z : k = t.1
    · rw [if_pos z, z, pk_us]
    · rw [if_neg z, pk_un z]
      exact q2 k (by omega)
  · intro n s b hs h hw
    have hv := me_ap_le S N A p (6 * m + s) 11
    refine ⟨pk_in m 2 hm, ?_⟩
    refine pk_le (S m) s (fun z => absurd z (by omega)) (fun _ => nm_r (me_l6 m s) ⟨pk_in (12 * p + (6 * m + s)) 144 (by omega) (me_l12 _ _), ?_⟩) (me_at m R.2.1 hm rfl (by omega))
    refine pk_eq (me_ap S N A 11 p (6 * m + s)) 0 (fun z => ⟨pk_in (6 * m + s) 12 (by omega), nm_e (nm_r (nI_1 s) (hw _ ?_))⟩) (fun z => nm_r (nI_1 s) (hw b ?_)) (me_Vat P hp (by omega) (me_l12 _ _))
    · intro q hq
      rw [nI_clamp (by omega)]
      by_cases e : q = 6 * m + s
      · rw [e, pk_us, if_pos ⟨by omega, by omega, z⟩]
        rfl
      · rw [pk_un e, h q hq]
        congr 1
        by_cases f : q / 6 = m ∧ q % 6 < s ∧ me_ap S N A 11 p q = 0
        · rw [if_pos f, if_pos ⟨f.1, by omega, f.2.2⟩]
        · rw [if_neg f, if_neg (fun g => f ⟨g.1, by omega, g.2.2⟩)]
    · intro q hq
      rw [h q hq]
      congr 1
      by_cases f : q / 6 = m ∧ q % 6 < s ∧ me_ap S N A 11 p q = 0
      · rw [if_pos f, if_pos ⟨f.1, by omega, f.2.2⟩]
      · rw [if_neg f, if_neg]
        intro g
        by_cases e : q = 6 * m + s
        · rw [e] at g
          exact z g.2.2
        · exact f ⟨g.1, by omega, g.2.2⟩
theorem me_57 {post : St1 → Prop} {J : Int32 → Int32 → Int32 → (Nat → Int32) → (Nat → Int32) → (Nat → Int32) → (Nat → Int32) → (Nat → Int32) → (Nat → Int32) → (Nat → Int32) → (Nat → Int32) → Prop} (R : me_R S N A a1 a2 a3) (P : me_V (me_ap S N A 11) a4) (m k l : Nat) (hm : m < 2) (hl : l < 2) (t : me_NS) (hI : me_NI S N A m t) (hk : k < t.1) (Q : me_Q t co a5 a6) (n : Nat)
    (H : ∀ cp b5 b6, me_Q (me_vi S N A m k l t) cp b5 b6 → wX_number_57 post J (nI m) (nI k) n (nI (l + 1)) cp cu a1 a2 a3 a4 b5 b6 a7 a8) : wX_number_57 post J (nI m) (nI k) (n + 1) (nI l) co cu a1 a2 a3 a4 a5 a6 a7 a8 := by
  have hS := R.1.1 m hm
  have h6 := me_NI_6 hS.2 hI
  obtain ⟨s, hs, es⟩ := hI.1 k hk
  have hp : t.2.1 k < 12 := by omega
  have ha := me_af_lt R.1 hp hl
  refine pk_le 2 l (fun z => absurd z (by omega)) (fun _ => ⟨pk_in k 12 (by omega), ?_⟩)
  refine me_after R (t.2.1 k) l hp hl (by rw [nI_clamp (by omega)]; exact Q.2.1 k hk) rfl ?_
  refine ⟨pk_in _ 12 ha, ?_⟩
  have e5 : a5 (nI (me_af N (t.2.1 k) l)).toNatClampNeg = me_cv (t.2.2 (me_af N (t.2.1 k) l)) := by
    rw [nI_clamp (by omega)]
    exact Q.2.2 _ ha
  by_cases z : t.2.2 (me_af N (t.2.1 k) l) = 0
  · refine br_t (by rw [e5, z]; rfl) ?_
    refine me_admit R P t Q (by omega) m _ hm ha rfl rfl (fun b5 b6 hQ => ?_)
    refine nm_r (nI_1 l) (H _ b5 b6 ?_)
    unfold me_vi
    rw [if_pos z]
    exact hQ
  · have hb : t.2.2 (me_af N (t.2.1 k) l) ≤ t.1 := by
      have ms := me_af_ms R.1 hm hs hl
      rw [es, ms.1]
      exact (hI.2 _ ms.2).1
    refine br_f ?_ (nm_r (nI_1 l) (H co a5 a6 ?_))
    · rw [e5]
      exact me_cv_ne z (by omega)
    · unfold me_vi
      rw [if_neg z]
      exact Q
theorem me_41 {post : St1 → Prop} (R : me_R S N A a1 a2 a3) (P : me_V (me_ap S N A 11) a4) {m : Nat} (hm : m < 2) : ∀ (f k : Nat) (t : me_NS) (co : Int32) (a5 a6 : Nat → Int32), k + f = 6 → me_NI S N A m t → me_Q t co a5 a6 →
    (∀ cp b5 b6, me_Q (me_nl S N A m f k t) cp b5 b6 → post (cp, cu, a1, a2, a3, a4, b5, b6, a7, a8)) → wX_number_41 post (nI m) (f + 1) (nI k) co cu a1 a2 a3 a4 a5 a6 a7 a8
  | 0, k, t, co, a5, a6, hk, hI, Q, H => by
    have e : k = 6 := by omega
    subst e
    exact pk_le 6 6 (fun _ => H co a5 a6 Q) (fun z => absurd z (by omega))
  | f + 1, k, t, co, a5, a6, hk, hI, Q, H => by
    have h6 := me_NI_6 (R.1.1 m hm).2 hI
    refine pk_le 6 k (fun z => absurd z (by omega)) (fun _ => ?_)
    refine pk_le t.1 k (fun z => H co a5 a6 ?_) (fun z => ?_) Q.1
    · have e : me_nl S N A m (f + 1) k t = t := if_neg (by omega)
      rw [e]
      exact Q
    · have e : me_nl S N A m (f + 1) k t = me_nl S N A m f (k + 1) (me_vi S N A m k 1 (me_vi S N A m k 0 t)) := if_pos z
      rw [e] at H
      have g0 := me_vi_st R.1 (l := 0) hm (by omega) hI z
      have z1 : k < (me_vi S N A m k 0 t).1 := by omega
      have g1 := me_vi_st R.1 (l := 1) hm (by omega) g0.1 z1
      refine ⟨0 + 1 + 1 + 1, me_57 R P m k 0 hm (by omega) t hI z Q (0 + 1 + 1) (fun cp b5 b6 hQ => ?_)⟩
      refine me_57 R P m k 1 hm (by omega) _ g0.1 z1 hQ (0 + 1) (fun cp' c5 c6 hQ' => ?_)
      exact pk_le 2 2 (fun _ => nm_r (nI_1 k) (me_41 R P hm f (k + 1) _ cp' c5 c6 (by omega) g1.1 hQ' H)) (fun z => absurd z (by omega))
theorem me_number {post : St1 → Prop} {x : Int32} (R : me_R S N A a1 a2 a3) (C : cu = 0 ∨ me_V (me_ap S N A 11) a4) (m : Nat) (hm : m < 2) (hx : x = nI m)
    (H : ∀ cp cv b4 b5 b6, ¬ cv = 0 → me_V (me_ap S N A 11) b4 → me_Q (me_nu S N A m) cp b5 b6 → post (cp, cv, a1, a2, a3, b4, b5, b6, a7, a8)) : wpX_number post (co, cu, a1, a2, a3, a4, a5, a6, a7, a8) x := by
  subst hx
  unfold wpX_number
  refine me_refresh R C (fun cv b4 hc hb => ?_)
  refine pk_loop (fun n p b => wX_number_6 post (nI m) co cv n (nI p) a1 a2 a3 b4 b a6 a7 a8) (fun p b => ∀ q, q < p → b q = -1) 12 0 a5 (by omega) (fun q hq => absurd hq (by omega)) ?_ ?_
  · intro n b h
    refine pk_le 12 12 (fun _ => ?_) (fun z => absurd z (by omega))
    refine me_admit R hb (0, fun _ => 0, fun _ => 0) ⟨rfl, fun k hk => absurd hk (Nat.not_lt_zero k), h⟩ (by decide) m (6 * m) hm (by omega) rfl (me_m6 m) (fun b5 b6 hQ => ?_)
    exact ⟨6 + 1, me_41 R hb hm 6 0 (me_n0 S N A m) _ b5 b6 rfl (me_n0_st R.1 hm).1 hQ (fun cp c5 c6 hq => H cp cv b4 c5 c6 hc hb hq)⟩
  · intro n p b hp h hw
    refine pk_le 12 p (fun z => absurd z (by omega)) (fun _ => ⟨pk_in p 12 hp, nm_e (nm_r (nI_1 p) (hw _ ?_))⟩)
    intro q hq
    rw [nI_clamp (by omega)]
    by_cases e : q = p
    · rw [e, pk_us]
    · rw [pk_un e]
      exact h q (by omega)
theorem me_core {post : Int32 → St1 → Prop} {x : Int32} (R : me_R S N A a1 a2 a3) (C : cu = 0 ∨ me_V (me_ap S N A 11) a4) (m : Nat) (hm : m < 2) (hx : x = nI m)
    (H : ∀ cp cv b4 b5 b6, ¬ cv = 0 → me_V (me_ap S N A 11) b4 → post (nI (me_nu S N A m).1) (cp, cv, a1, a2, a3, b4, b5, b6, a7, a8)) : wpX_core post (co, cu, a1, a2, a3, a4, a5, a6, a7, a8) x := by
  unfold wpX_core
  refine me_isM m hm hx ?_
  refine br_f (by decide) ?_
  refine me_number R C m hm hx (fun cp cv b4 b5 b6 hc hb hQ => ?_)
  have e := hQ.1
  have h := H cp cv b4 b5 b6 hc hb
  rw [← e] at h
  exact h
theorem me_coreA {post : Int32 → St1 → Prop} {x y z : Int32} (R : me_R S N A a1 a2 a3) (C : cu = 0 ∨ me_V (me_ap S N A 11) a4) (m k l : Nat) (hm : m < 2) (hk : k < (me_nu S N A m).1) (hl : l < 2) (hx : x = nI m) (hy : y = nI k) (hz : z = nI l)
    (H : ∀ cp cv b4 b5 b6, ¬ cv = 0 → me_V (me_ap S N A 11) b4 → post (nI (A (2 * (me_nu S N A m).2.1 k + l))) (cp, cv, a1, a2, a3, b4, b5, b6, a7, a8)) : wpX_coreAnswer post (co, cu, a1, a2, a3, a4, a5, a6, a7, a8) x y z := by
  subst hy
  subst hz
  have hS := R.1.1 m hm
  have hI := (me_nu_st R.1 hm).1
  have h6 := me_NI_6 hS.2 hI
  obtain ⟨s, hs, es⟩ := hI.1 k hk
  have hp : (me_nu S N A m).2.1 k < 12 := by omega
  unfold wpX_coreAnswer
  refine me_isM m hm hx ?_
  refine br_f (by decide) ?_
  refine me_number R C m hm hx (fun cp cv b4 b5 b6 hc hb hQ => ?_)
  refine br_f (nI_pos (by omega)) ?_
  refine br_t (by rw [hQ.1]; exact nI_lt hk (by omega)) ?_
  have e6 : (2 : Int32) * b6 (nI k).toNatClampNeg + nI l = nI (2 * (me_nu S N A m).2.1 k + l) := by rw [me_at k hQ.2.1 hk rfl (by omega), me_l2]
  have X : wX_coreAnswer_41 post (nI k) (nI l) cp cv a1 a2 a3 b4 b5 b6 a7 a8 := by
    unfold wX_coreAnswer_41
    refine ⟨pk_in k 12 (by omega), pk_in _ 24 (by omega) e6, ?_⟩
    rw [me_at _ R.2.2.2 (by omega) e6 (by omega)]
    exact H cp cv b4 b5 b6 hc hb
  exact pk_eq l 0 (fun _ => X) (fun _ => pk_eq l 1 (fun _ => X) (fun _ => absurd hl (by omega)))
theorem me_coreN {post : Int32 → St1 → Prop} {x y z : Int32} (R : me_R S N A a1 a2 a3) (C : cu = 0 ∨ me_V (me_ap S N A 11) a4) (m k l : Nat) (hm : m < 2) (hk : k < (me_nu S N A m).1) (hl : l < 2) (hx : x = nI m) (hy : y = nI k) (hz : z = nI l)
    (H : ∀ j, j < (me_nu S N A m).1 → me_in N A 11 ((me_nu S N A m).2.1 j) (me_af N ((me_nu S N A m).2.1 k) l) = true → ∀ cp cv b4 b5 b6, ¬ cv = 0 → me_V (me_ap S N A 11) b4 → post (nI j) (cp, cv, a1, a2, a3, b4, b5, b6, a7, a8)) : wpX_coreNext post (co, cu, a1, a2, a3, a4, a5, a6, a7, a8) x y z := by
  subst hy
  subst hz
  have hS := R.1.1 m hm
  have hI := (me_nu_st R.1 hm).1
  have h6 := me_NI_6 hS.2 hI
  obtain ⟨s, hs, es⟩ := hI.1 k hk
  have hp : (me_nu S N A m).2.1 k < 12 := by omega
  have ha := me_af_lt R.1 hp hl
  obtain ⟨j, j1, j2, j3⟩ := me_nu_next R.1 hm hl hk
  unfold wpX_coreNext
  refine me_isM m hm hx ?_
  refine br_f (by decide) ?_
  refine me_number R C m hm hx (fun cp cv b4 b5 b6 hc hb hQ => ?_)
  refine br_f (nI_pos (by omega)) ?_
  refine br_t (by rw [hQ.1]; exact nI_lt hk (by omega)) ?_
  have X : wX_coreNext_41 post (nI k) (nI l) cp cv a1 a2 a3 b4 b5 b6 a7 a8 := by
    unfold wX_coreNext_41
    refine ⟨pk_in k 12 (by omega), ?_⟩
    refine me_after R _ l hp hl (me_at k hQ.2.1 hk rfl (by omega)) rfl ?_
    refine ⟨pk_in _ 12 ha, ?_⟩
    rw [nI_clamp (by omega), hQ.2.2 _ ha, j2]
    exact H j j1 j3 cp cv b4 b5 b6 hc hb
  exact pk_eq l 0 (fun _ => X) (fun _ => pk_eq l 1 (fun _ => X) (fun _ => absurd hl (by omega)))
end
end
section
/-! sets of states as numbers -/
theorem me_or (a b : Nat) : nI a ||| nI b = nI (a ||| b) := by
  apply Int32.toBitVec_inj.1
  show BitVec.ofNat 32 a ||| BitVec.ofNat 32 b = BitVec.ofNat 32 (a ||| b)
  apply BitVec.eq_of_getLsbD_eq
  intro i hi
  simp [hi]
theorem me_sh1 {k : Nat} (hk : k ≤ 6) : (1 : Int32) <<< (nI k &&& 31) = nI (2 ^ k) := by
  have h : 2 ^ k ≤ 2 ^ 6 := Nat.pow_le_pow_right (by omega) hk
  have e := pk_shlN (n := 1) (nI k &&& 31) k (me_sl k (by omega)) (by omega)
  rw [Nat.one_mul] at e
  exact e
theorem me_oneF : ∀ (x : Fin 64) (t u : Fin 6), (decide (nI x.val &&& (nI x.val - 1) = 0) && (x.val.testBit t.val && x.val.testBit u.val)) = true → t.val = u.val := by decide +kernel
theorem me_one (x : Nat) (hx : x < 64) (t : Nat) (ht : t < 6) (u : Nat) (hu : u < 6) (h : nI x &&& (nI x - 1) = 0) (h1 : x.testBit t = true) (h2 : x.testBit u = true) : t = u :=
  me_oneF ⟨x, hx⟩ ⟨t, ht⟩ ⟨u, hu⟩ (by
    show (decide (nI x &&& (nI x - 1) = 0) && (x.testBit t && x.testBit u)) = true
    rw [decide_eq_true h, h1, h2]
    rfl)
def me_im (S N : Nat → Nat) (m w x : Nat) : Prop := ∃ n, n ≤ 11 ∧ me_lg w n ∧ ∀ s, s < S m → ∃ t, t < S m ∧ me_ru N (6 * m + s) n w = 6 * m + t ∧ x.testBit t = true
def me_rst (S N : Nat → Nat) (m w : Nat) : Prop := ∃ n, n ≤ 11 ∧ me_lg w n ∧ ∀ s r, s < S m → r < S m → me_ru N (6 * m + s) n w = me_ru N (6 * m + r) n w
def me_Y (S N : Nat → Nat) (m c : Nat) (a7 a8 : Nat → Int32) (Q W : Nat → Nat) : Prop := (∀ x, x < 64 → a8 x = nI (W x)) ∧ (∀ i, i < c → a7 i = nI (Q i)) ∧ (∀ x, x < 64 → W x ≤ 4095 ∧ (W x ≠ 0 → me_im S N m (W x) x)) ∧ (∀ i, i < c → Q i < 64 ∧ W (Q i) ≠ 0) ∧ (∀ i j, i < c → j < c → Q i = Q j → i = j)
def me_Z (S N : Nat → Nat) (m c : Nat) (a7 a8 : Nat → Int32) : Prop := ∃ Q W, me_Y S N m c a7 a8 Q W
theorem me_Y_64 {S N : Nat → Nat} {m c : Nat} {a7 a8 : Nat → Int32} {Q W : Nat → Nat} (h : me_Y S N m c a7 a8 Q W) : c ≤ 64 := by
  have h1 := me_pig (fun _ => true) 64 c Q (fun j hj => ⟨(h.2.2.2.1 j hj).1, rfl⟩) h.2.2.2.2
  have h2 := me_cnt_le (fun _ => true) 64
  omega
/-- a new set, found from a known one by a letter -/
theorem me_Y_put {S N A : Nat → Nat} (K : me_Ok S N A) {m c x l v : Nat} {a7 a8 : Nat → Int32} {Q W : Nat → Nat} (hm : m < 2) (h : me_Y S N m c a7 a8 Q W) (hx : x < 64) (hl : l < 2) (hv : v < 64) (hx0 : W x ≠ 0) (hx1 : W x < 2048) (hv0 : W v = 0)
    (hb : ∀ t, t < S m → x.testBit t = true → v.testBit (N (12 * m + 2 * t + l)) = true) : c + 1 ≤ 64 ∧ me_Z S N m (c + 1) (upd a7 c (nI v)) (upd a8 v (nI (2 * W x + l))) ∧ x ≠ v := by
  obtain ⟨h1, h2, h3, h4, h5⟩ := h
  have hxv : x ≠ v := fun e => hx0 (by rw [e]; exact hv0)
  have hne : ∀ j, j < c → Q j ≠ v := fun j hj y => (h4 j hj).2 (by rw [y]; exact hv0)
  have hY : me_Y S N m (c + 1) (upd a7 c (nI v)) (upd a8 v (nI (2 * W x + l))) (fun j => if j = c then v else Q j) (fun y => if y = v then 2 * W x + l else W y) := by
    refine ⟨fun y hy => ?_, fun i hi => ?_, fun y hy => ?_, fun i hi => ?_, fun i j hi hj e => ?_⟩
    · show upd a8 v (nI (2 * W x + l)) y = nI (if y = v then 2 * W x + l else W y)
      by_cases e : y = v
      · rw [if_pos e, e, pk_us]
      · rw [if_neg e, pk_un e]
        exact h1 y hy
    · show upd a7 c (nI v) i = nI (if i = c then v else Q i)
      by_cases e : i = c
      · rw [if_pos e, e, pk_us]
      · rw [if_neg e, pk_un e]
        exact h2 i (by omega)
    · show (if y = v then 2 * W x + l else W y) ≤ 4095 ∧ ((if y = v then 2 * W x + l else W y) ≠ 0 → me_im S N m (if y = v then 2 * W x + l else W y) y)
      by_cases e : y = v
      · rw [if_pos e, e]
        refine ⟨by omega, fun _ => ?_⟩
        obtain ⟨n, n1, n2, n3⟩ := (h3 x hx).2 hx0
        have hn : n ≤ 10 := by
          rcases Nat.lt_or_ge n 11 with z | z
          · omega
          · have g1 : 2 ^ 11 ≤ 2 ^ n := Nat.pow_le_pow_right (by omega) z
            have g2 := n2.1
            omega
        refine ⟨n + 1, by omega, me_lg_next n2 hl, fun s hs => ?_⟩
        obtain ⟨t, t1, t2, t3⟩ := n3 s hs
        have ha := me_af_ms K hm t1 hl
        refine ⟨N (12 * m + 2 * t + l), ha.2, ?_, hb t t1 t3⟩
        rw [me_ru_next _ _ _ _ _ hl, t2]
        exact ha.1
      · rw [if_neg e]
        exact h3 y hy
    · show (if i = c then v else Q i) < 64 ∧ (if (if i = c then v else Q i) = v then 2 * W x + l else W (if i = c then v else Q i)) ≠ 0
      by_cases e : i = c
      · rw [if_pos e, if_pos rfl]
        exact ⟨hv, by omega⟩
      · rw [if_neg e, if_neg (hne i (by omega))]
        exact h4 i (by omega)
    · have e' : (if i = c then v else Q i) = (if j = c then v else Q j) := e
      by_cases ei : i = c
      · by_cases ej : j = c
        · omega
        · rw [if_pos ei, if_neg ej] at e'
          exact absurd e'.symm (hne j (by omega))
      · by_cases ej : j = c
        · rw [if_neg ei, if_pos ej] at e'
          exact absurd e' (hne i (by omega))
        · rw [if_neg ei, if_neg ej] at e'
          exact h5 i j (by omega) (by omega) e'
  exact ⟨me_Y_64 hY, ⟨_, _, hY⟩, hxv⟩
theorem me_Z_0 {S N A : Nat → Nat} (K : me_Ok S N A) {m : Nat} (hm : m < 2) {a7 b : Nat → Int32} (hb : ∀ x, x < 64 → b x = 0) : 2 ^ S m - 1 < 64 ∧ me_Z S N m 1 (upd a7 0 (nI (2 ^ S m - 1))) (upd b (2 ^ S m - 1) 1) := by
  have hS := K.1 m hm
  have h6 : 2 ^ S m ≤ 2 ^ 6 := Nat.pow_le_pow_right (by omega) hS.2
  have h7 : 2 ^ S m - 1 < 64 := by omega
  refine ⟨h7, fun _ => 2 ^ S m - 1, fun x => if x = 2 ^ S m - 1 then 1 else 0, fun x hx => ?_, fun i hi => ?_, fun x hx => ?_, fun i hi => ?_, fun i j hi hj _ => by omega⟩
  · show upd b (2 ^ S m - 1) 1 x = nI (if x = 2 ^ S m - 1 then 1 else 0)
    by_cases e : x = 2 ^ S m - 1
    · rw [if_pos e, e, pk_us]
      rfl
    · rw [if_neg e, pk_un e, hb x hx]
      rfl
  · have e : i = 0 := by omega
    rw [e, pk_us]
  · show (if x = 2 ^ S m - 1 then 1 else 0) ≤ 4095 ∧ ((if x = 2 ^ S m - 1 then 1 else 0) ≠ 0 → me_im S N m (if x = 2 ^ S m - 1 then 1 else 0) x)
    by_cases e : x = 2 ^ S m - 1
    · rw [if_pos e]
      refine ⟨by omega, fun _ => ⟨0, by omega, me_lg_0, fun s hs => ⟨s, hs, rfl, ?_⟩⟩⟩
      rw [e, Nat.testBit_two_pow_sub_one]
      exact decide_eq_true hs
    · rw [if_neg e]
      exact ⟨by omega, fun z => absurd rfl z⟩
  · show 2 ^ S m - 1 < 64 ∧ (if 2 ^ S m - 1 = 2 ^ S m - 1 then 1 else 0) ≠ 0
    rw [if_pos rfl]
    exact ⟨h7, by omega⟩
section
variable {co cu : Int32} {a1 a2 a3 a4 a5 a6 a7 a8 : Nat → Int32} {S N A : Nat → Nat}
theorem me_tog {post : Int32 → Prop} {x y z : Int32} (R : me_R S N A a1 a2 a3) (m w l : Nat) (hm : m < 2) (hw64 : w < 64) (hl : l < 2) (hx : x = nI m) (hy : y = nI w) (hz : z = nI l)
    (H : ∀ v, v < 64 → (∀ t, t < S m → w.testBit t = true → v.testBit (N (12 * m + 2 * t + l)) = true) → post (nI v)) : wpX_together post (co, cu, a1, a2, a3, a4, a5, a6, a7, a8) x y z := by
  subst hx
  subst hy
  subst hz
  have hS := R.1.1 m hm
  unfold wpX_together
  refine pk_loop (σ := Nat) (fun n s v => wX_together_6 post (nI m) (nI w) (nI l) co cu a1 a2 a3 a4 a5 a6 a7 a8 n (nI v) (nI s)) (fun s v => v < 64 ∧ ∀ t, t < s → w.testBit t = true → v.testBit (N (12 * m + 2 * t + l)) = true) (S m) 0 0 (by omega) ⟨by omega, fun t ht => absurd ht (by omega)⟩ ?_ ?_
  · intro n v h
    refine ⟨pk_in m 2 hm, ?_⟩
    exact pk_le (S m) (S m) (fun _ => H v h.1 h.2) (fun z => absurd z (by omega)) (me_at m R.2.1 hm rfl (by omega))
  · intro n s v hs h hw
    obtain ⟨h1, h2⟩ := h
    refine ⟨pk_in m 2 hm, ?_⟩
    refine pk_le (S m) s (fun z => absurd z (by omega)) (fun _ => ?_) (me_at m R.2.1 hm rfl (by omega))
    have hbit := Nat.testBit_eq_decide_div_mod_eq (x := w) (i := s)
    have hi : 12 * m + 2 * s + l < 24 := by omega
    have hN := R.1.2.1 (12 * m + 2 * s + l) hi
    have ei : ((12 : Int32) * nI m + 2 * nI s) + nI l = nI (12 * m + 2 * s + l) := by rw [me_m2, me_l12, nI_add]
    refine pk_eq (w / 2 ^ s % 2) 1 (fun z => ⟨pk_in (12 * m + 2 * s + l) 24 hi ei, ?_⟩) (fun z => nm_r (nI_1 s) (hw v ⟨h1, fun t ht tb => ?_⟩)) (me_bit (by omega) (by omega))
    · refine nm_r (show nI v ||| ((1 : Int32) <<< (a2 (((12 : Int32) * nI m + 2 * nI s) + nI l).toNatClampNeg &&& 31)) = nI (v ||| 2 ^ N (12 * m + 2 * s + l)) by rw [me_at _ R.2.2.1 hi ei (by omega), me_sh1 (by omega), me_or]) ?_
      refine nm_r (nI_1 s) (hw _ ⟨?_, fun t ht tb => ?_⟩)
      · have hp : 2 ^ N (12 * m + 2 * s + l) < 2 ^ 6 := Nat.pow_lt_pow_right (by omega) hN
        exact Nat.or_lt_two_pow (n := 6) h1 hp
      · rw [Nat.testBit_or]
        by_cases e : t = s
        · rw [e, Nat.testBit_two_pow_self, Bool.or_true]
        · rw [h2 t (by omega) tb, Bool.true_or]
    · by_cases e : t = s
      · rw [e, hbit] at tb
        exact absurd (of_decide_eq_true tb) z
      · exact h2 t (by omega) tb
theorem me_103 {post : Int32 → St1 → Prop} {J : Int32 → Int32 → (Nat → Int32) → (Nat → Int32) → (Nat → Int32) → (Nat → Int32) → (Nat → Int32) → (Nat → Int32) → (Nat → Int32) → (Nat → Int32) → Prop} (R : me_R S N A a1 a2 a3) (m i w l : Nat) (hm : m < 2) (hw64 : w < 64) (hl : l < 2) (n c : Nat) (Z : me_Z S N m c a7 a8) (h0 : a8 w ≠ 0)
    (HJ : ∀ d b7 b8, me_Z S N m d b7 b8 → J (nI d) (nI (i + 1)) a1 a2 a3 a4 a5 a6 b7 b8)
    (HN : ∀ d b7 b8, me_Z S N m d b7 b8 → b8 w ≠ 0 → wX_reset_103 post J (nI m) (nI i) (nI w) co cu n (nI d) (nI (l + 1)) a1 a2 a3 a4 a5 a6 b7 b8) :
    wX_reset_103 post J (nI m) (nI i) (nI w) co cu (n + 1) (nI c) (nI l) a1 a2 a3 a4 a5 a6 a7 a8 := by
  have Z' := Z
  obtain ⟨Q, W, hY⟩ := Z'
  have hY1 := hY.1
  have hw0 : W w ≠ 0 := fun e => h0 (by rw [hY1 w hw64, e]; rfl)
  have hW := (hY.2.2.1 w hw64).1
  refine pk_le 2 l (fun z => absurd z (by omega)) (fun _ => ⟨pk_in w 64 hw64, ?_⟩)
  refine pk_le 2048 (W w) (fun _ => nm_r (nI_1 i) (HJ c a7 a8 Z)) (fun hlt => ?_) rfl (me_at w hY1 hw64 rfl (by omega))
  refine me_tog R m w l hm hw64 hl rfl rfl rfl (fun v hv hb => ?_)
  have hV := (hY.2.2.1 v hv).1
  refine ⟨pk_in v 64 hv, ?_⟩
  refine pk_eq (W v) 0 (fun e => ?_) (fun _ => nm_r (nI_1 l) (HN c a7 a8 Z h0)) (me_at v hY1 hv rfl (by omega))
  obtain ⟨p1, p2, p3⟩ := me_Y_put R.1 hm hY hw64 hl hv hw0 hlt e hb
  refine ⟨pk_in w 64 hw64, pk_in v 64 hv, ?_⟩
  refine nm_r (show upd a8 (nI v).toNatClampNeg ((2 : Int32) * a8 (nI w).toNatClampNeg + nI l) = upd a8 v (nI (2 * W w + l)) by rw [nI_clamp (by omega), nI_clamp (by omega), hY1 w hw64, me_l2]) ⟨pk_in c 64 (by omega), ?_⟩
  refine nm_r (show upd a7 (nI c).toNatClampNeg (nI v) = upd a7 c (nI v) by rw [nI_clamp (by omega)]) ?_
  refine nm_r (nI_1 c) (nm_r (nI_1 l) (HN (c + 1) _ _ p2 ?_))
  rw [pk_un p3]
  exact h0
theorem me_60 {post : Int32 → St1 → Prop} (R : me_R S N A a1 a2 a3) (m c : Nat) (hm : m < 2) (Z : me_Z S N m c a7 a8) (H : ∀ w b7 b8, (w = 0 ∨ me_rst S N m w) → post (nI w) (co, cu, a1, a2, a3, a4, a5, a6, b7, b8)) :
    ∃ n, wX_reset_60 post (nI m) co cu n (nI c) 0 a1 a2 a3 a4 a5 a6 a7 a8 := by
  have hS := R.1.1 m hm
  refine pk_loop (σ := Nat × (Nat → Int32) × (Nat → Int32)) (fun n i s => wX_reset_60 post (nI m) co cu n (nI s.1) (nI i) a1 a2 a3 a4 a5 a6 s.2.1 s.2.2) (fun _ s => me_Z S N m s.1 s.2.1 s.2.2) 64 0 (c, a7, a8) (by omega) Z ?_ ?_
  · rintro n ⟨d, b7, b8⟩ h
    exact pk_le 64 64 (fun _ => H 0 b7 b8 (Or.inl rfl)) (fun z => absurd z (by omega))
  · rintro n i ⟨d, b7, b8⟩ hi h hw
    dsimp only at h hw ⊢
    have h' := h
    obtain ⟨Q, W, hY⟩ := h'
    have hd := me_Y_64 hY
    refine pk_le 64 i (fun z => absurd z (by omega)) (fun _ => ?_)
    refine pk_le d i (fun _ => H 0 b7 b8 (Or.inl rfl)) (fun hid => ⟨pk_in i 64 hi, ?_⟩)
    have hq := hY.2.2.2.1 i hid
    have hq3 := (hY.2.2.1 (Q i) hq.1)
    refine nm_r (me_at i hY.2.1 hid rfl (by omega)) ?_
    refine br_c (fun z => ⟨pk_in (Q i) 64 hq.1, ?_⟩) (fun _ => ?_)
    · rw [me_at (Q i) hY.1 hq.1 rfl (by omega)]
      refine H _ b7 b8 (Or.inr ?_)
      obtain ⟨k, k1, k2, k3⟩ := hq3.2 hq.2
      refine ⟨k, k1, k2, fun s r hs hr => ?_⟩
      obtain ⟨t, t1, t2, t3⟩ := k3 s hs
      obtain ⟨u, u1, u2, u3⟩ := k3 r hr
      have e := me_one (Q i) hq.1 t (by omega) u (by omega) z t3 u3
      rw [t2, u2, e]
    · have h8 : b8 (Q i) ≠ 0 := by
        rw [hY.1 (Q i) hq.1]
        exact nI_ne0 (Nat.pos_of_ne_zero hq.2) (by have := hq3.1; omega)
      have HJ : ∀ e c7 c8, me_Z S N m e c7 c8 → wX_reset_60 post (nI m) co cu n (nI e) (nI (i + 1)) a1 a2 a3 a4 a5 a6 c7 c8 := fun e c7 c8 hZ => hw (e, c7, c8) hZ
      refine ⟨0 + 1 + 1 + 1, ?_⟩
      refine me_103 R m i (Q i) 0 hm hq.1 (by omega) (0 + 1 + 1) d h h8 HJ (fun e c7 c8 hZ h0 => ?_)
      refine me_103 R m i (Q i) 1 hm hq.1 (by omega) (0 + 1) e hZ h0 HJ (fun e' d7 d8 hZ' h0' => ?_)
      exact pk_le 2 2 (fun _ => nm_r (nI_1 i) (HJ e' d7 d8 hZ')) (fun z => absurd z (by omega))
theorem me_reset {post : Int32 → St1 → Prop} {x : Int32} (R : me_R S N A a1 a2 a3) (m : Nat) (hm : m < 2) (hx : x = nI m) (H : ∀ w b7 b8, (w = 0 ∨ me_rst S N m w) → post (nI w) (co, cu, a1, a2, a3, a4, a5, a6, b7, b8)) : wpX_reset post (co, cu, a1, a2, a3, a4, a5, a6, a7, a8) x := by
  subst hx
  have hS := R.1.1 m hm
  unfold wpX_reset
  refine me_isM m hm rfl ?_
  refine br_f (by decide) ?_
  refine pk_loop (fun n k b => wX_reset_11 post (nI m) co cu n (nI k) a1 a2 a3 a4 a5 a6 a7 b) (fun k b => ∀ x, x < k → b x = 0) 64 0 a8 (by omega) (fun x hx => absurd hx (by omega)) ?_ ?_
  · intro n b h
    obtain ⟨z1, z2⟩ := me_Z_0 R.1 hm (a7 := a7) h
    have h1 : 1 ≤ 2 ^ S m := Nat.one_le_two_pow
    have e : ((1 : Int32) <<< (a1 (nI m).toNatClampNeg &&& 31)) - 1 = nI (2 ^ S m - 1) := by
      rw [me_at m R.2.1 hm rfl (by omega), me_sh1 hS.2]
      exact pk_sub (a := 2 ^ S m) (b := 1) h1
    refine pk_le 64 64 (fun _ => ⟨pk_in m 2 hm, nm_r e ⟨pk_in _ 64 z1, ?_⟩⟩) (fun z => absurd z (by omega))
    refine nm_r (show upd b (nI (2 ^ S m - 1)).toNatClampNeg 1 = upd b (2 ^ S m - 1) 1 by rw [nI_clamp (by omega)]) (nm_e ?_)
    exact me_60 R m 1 hm z2 H
  · intro n k b hk h hw
    refine pk_le 64 k (fun z => absurd z (by omega)) (fun _ => ⟨pk_in k 64 hk, nm_e (nm_r (nI_1 k) (hw _ ?_))⟩)
    intro q hq
    rw [nI_clamp (by omega)]
    by_cases e : q = k
    · rw [e, pk_us]
    · rw [pk_un e]
      exact h q (by omega)
end
end
section
/-! the methods that change a machine -/
section
variable {co cu : Int32} {a1 a2 a3 a4 a5 a6 a7 a8 : Nat → Int32} {S N A : Nat → Nat}
theorem me_R_put (R : me_R S N A a1 a2 a3) {k v w : Nat} (hk : k < 24) (hv : v < S (k / 12)) (hw : w < 4) : me_R S (fun j => if j = k then v else N j) (fun j => if j = k then w else A j) a1 (upd a2 k (nI v)) (upd a3 k (nI w)) := by
  obtain ⟨⟨k1, k2, k3, k4⟩, r1, r2, r3⟩ := R
  refine ⟨⟨k1, fun j hj => ?_, fun m s l hm hs hl => ?_, fun j hj => ?_⟩, r1, fun j hj => ?_, fun j hj => ?_⟩
  · show (if j = k then v else N j) < 6
    have := k1 (k / 12) (by omega)
    have := k2 j hj
    split <;> omega
  · show (if 12 * m + 2 * s + l = k then v else N (12 * m + 2 * s + l)) < S m
    have hS := k1 m hm
    by_cases e : 12 * m + 2 * s + l = k
    · rw [if_pos e]
      have e2 : k / 12 = m := by omega
      rw [e2] at hv
      exact hv
    · rw [if_neg e]
      exact k3 m s l hm hs hl
  · show (if j = k then w else A j) < 4
    have := k4 j hj
    split <;> omega
  · show upd a2 k (nI v) j = nI (if j = k then v else N j)
    by_cases e : j = k
    · rw [if_pos e, e, pk_us]
    · rw [if_neg e, pk_un e]
      exact r2 j hj
  · show upd a3 k (nI w) j = nI (if j = k then w else A j)
    by_cases e : j = k
    · rw [if_pos e, e, pk_us]
    · rw [if_neg e, pk_un e]
      exact r3 j hj
theorem me_size {post : Int32 → St1 → Prop} {x y : Int32} (R : me_R S N A a1 a2 a3) (m q : Nat) (hm : m < 2) (h1 : 1 ≤ q) (h6 : q ≤ 6) (hx : x = nI m) (hy : y = nI q)
    (H : ∀ r S' N' A' b1 b2 b3, me_R S' N' A' b1 b2 b3 → post r (co, 0, b1, b2, b3, a4, a5, a6, a7, a8)) : wpX_size post (co, cu, a1, a2, a3, a4, a5, a6, a7, a8) x y := by
  subst hx
  subst hy
  obtain ⟨⟨k1, k2, k3, k4⟩, r1, r2, r3⟩ := R
  unfold wpX_size
  refine me_isM m hm rfl ?_
  refine br_f (by decide) ?_
  refine pk_lt q 1 (fun z => absurd z (by omega)) (fun _ => ?_)
  refine pk_le q 6 (fun _ => ⟨pk_in m 2 hm, ?_⟩) (fun z => absurd z (by omega))
  refine nm_e ⟨pk_in m 2 hm, ?_⟩
  refine nm_r (show upd a1 (nI m).toNatClampNeg (nI q) = upd a1 m (nI q) by rw [nI_clamp (by omega)]) (nm_r (me_m12 m) ?_)
  refine pk_loop (σ := (Nat → Int32) × (Nat → Int32)) (fun n k s => wX_size_43 post (nI m) (a1 (nI m).toNatClampNeg) co cu n (nI k) (upd a1 m (nI q)) s.1 s.2 a4 a5 a6 a7 a8) (fun k s => 12 * m ≤ k ∧ (∀ j, j < 24 → s.1 j = nI (if 12 * m ≤ j ∧ j < k then 0 else N j)) ∧ (∀ j, j < 24 → s.2 j = nI (if 12 * m ≤ j ∧ j < k then 0 else A j))) (12 * m + 12) (12 * m) (a2, a3) (by omega) ⟨Nat.le_refl _, fun j hj => ?_, fun j hj => ?_⟩ ?_ ?_
  · rw [if_neg (by omega)]
    exact r2 j hj
  · rw [if_neg (by omega)]
    exact r3 j hj
  · rintro n ⟨b2, b3⟩ ⟨_, g1, g2⟩
    refine pk_le (12 * m + 12) (12 * m + 12) (fun _ => ?_) (fun z => absurd z (by omega)) (me_l12 m 12)
    refine H _ (fun j => if j = m then q else S j) (fun j => if 12 * m ≤ j ∧ j < 12 * m + 12 then 0 else N j) (fun j => if 12 * m ≤ j ∧ j < 12 * m + 12 then 0 else A j) _ b2 b3 ⟨⟨fun j hj => ?_, fun j hj => ?_, fun j s l hj hs hl => ?_, fun j hj => ?_⟩, fun j hj => ?_, g1, g2⟩
    · show 1 ≤ (if j = m then q else S j) ∧ (if j = m then q else S j) ≤ 6
      by_cases e : j = m
      · rw [if_pos e]
        exact ⟨h1, h6⟩
      · rw [if_neg e]
        exact k1 j hj
    · show (if 12 * m ≤ j ∧ j < 12 * m + 12 then 0 else N j) < 6
      have := k2 j hj
      split <;> omega
    · have hs' : s < (if j = m then q else S j) := hs
      show (if 12 * m ≤ 12 * j + 2 * s + l ∧ 12 * j + 2 * s + l < 12 * m + 12 then 0 else N (12 * j + 2 * s + l)) < (if j = m then q else S j)
      by_cases e : j = m
      · rw [if_pos e] at hs' ⊢
        rw [if_pos (by omega)]
        omega
      · rw [if_neg e] at hs' ⊢
        have hS := k1 j hj
        rw [if_neg (by omega)]
        exact k3 j s l hj hs' hl
    · show (if 12 * m ≤ j ∧ j < 12 * m + 12 then 0 else A j) < 4
      have := k4 j hj
      split <;> omega
    · show upd a1 m (nI q) j = nI (if j = m then q else S j)
      by_cases e : j = m
      · rw [if_pos e, e, pk_us]
      · rw [if_neg e, pk_un e]
        exact r1 j hj
  · rintro n k ⟨b2, b3⟩ hk ⟨g0, g1, g2⟩ hw
    dsimp only at g1 g2 ⊢
    have F : ∀ (B : Nat → Nat) (b : Nat → Int32), (∀ j, j < 24 → b j = nI (if 12 * m ≤ j ∧ j < k then 0 else B j)) → ∀ j, j < 24 → upd b (nI k).toNatClampNeg 0 j = nI (if 12 * m ≤ j ∧ j < k + 1 then 0 else B j) := by
      intro B b hb j hj
      rw [nI_clamp (by omega)]
      by_cases e : j = k
      · rw [e, pk_us, if_pos (by omega)]
        rfl
      · rw [pk_un e, hb j hj]
        congr 1
        by_cases f : 12 * m ≤ j ∧ j < k
        · rw [if_pos f, if_pos (by omega)]
        · rw [if_neg f, if_neg (by omega)]
    refine pk_le (12 * m + 12) k (fun z => absurd z (by omega)) (fun _ => ⟨pk_in k 24 (by omega), ?_⟩) (me_l12 m 12)
    refine nm_e ⟨pk_in k 24 (by omega), nm_e (nm_r (nI_1 k) ?_)⟩
    exact hw (_, _) ⟨by omega, F N b2 g1, F A b3 g2⟩
theorem me_set {post : Int32 → St1 → Prop} {x y z : Int32} (R : me_R S N A a1 a2 a3) (m s l t a : Nat) (hm : m < 2) (hs : s < S m) (hl : l < 2) (ht : t < S m) (ha : a < 4) (hx : x = nI m) (hy : y = nI (2 * s + l)) (hz : z = nI (4 * t + a))
    (H : ∀ r S' N' A' b1 b2 b3, me_R S' N' A' b1 b2 b3 → post r (co, 0, b1, b2, b3, a4, a5, a6, a7, a8)) : wpX_set post (co, cu, a1, a2, a3, a4, a5, a6, a7, a8) x y z := by
  subst hx
  subst hy
  subst hz
  have hS := R.1.1 m hm
  have e1 : nI (2 * s + l) >>> ((1 : Int32) &&& 31) = nI s := by
    rw [pk_shrN (by omega) _ 1 (by decide)]
    congr 1
    omega
  have e2 : nI (4 * t + a) >>> ((2 : Int32) &&& 31) = nI t := by
    rw [pk_shrN (by omega) _ 2 (by decide)]
    congr 1
    omega
  have e3 : nI (4 * t + a) &&& 3 = nI a := by
    rw [pk_andN (by omega) 2 (by decide)]
    congr 1
    omega
  unfold wpX_set
  refine me_isM m hm rfl ?_
  refine br_f (by decide) ?_
  refine br_f (nI_pos (by omega)) ⟨pk_in m 2 hm, ?_⟩
  refine pk_lt s (S m) (fun _ => ?_) (fun z => absurd z (by omega)) e1 (me_at m R.2.1 hm rfl (by omega))
  refine br_f (nI_pos (by omega)) ⟨pk_in m 2 hm, ?_⟩
  refine pk_lt t (S m) (fun _ => ?_) (fun z => absurd z (by omega)) e2 (me_at m R.2.1 hm rfl (by omega))
  have hk : 12 * m + (2 * s + l) < 24 := by omega
  refine nm_r (me_l12 m (2 * s + l)) ⟨pk_in _ 24 hk, pk_in _ 24 hk, ?_⟩
  refine nm_e ⟨pk_in _ 24 hk, ?_⟩
  refine nm_r (show upd a2 (nI (12 * m + (2 * s + l))).toNatClampNeg (nI (4 * t + a) >>> ((2 : Int32) &&& 31)) = upd a2 (12 * m + (2 * s + l)) (nI t) by rw [nI_clamp (by omega), e2]) ⟨pk_in _ 24 hk, ?_⟩
  refine nm_r (show upd a3 (nI (12 * m + (2 * s + l))).toNatClampNeg (nI (4 * t + a) &&& 3) = upd a3 (12 * m + (2 * s + l)) (nI a) by rw [nI_clamp (by omega), e3]) ?_
  exact H _ S _ _ _ _ _ (me_R_put R hk (by rw [show (12 * m + (2 * s + l)) / 12 = m by omega]; exact ht) ha)
theorem me_weave {post : Int32 → St1 → Prop} {x y z : Int32} (R : me_R S N A a1 a2 a3) (m g h : Nat) (hm : m < 2) (hg : g ≤ 20) (hh : h ≤ 63) (hx : x = nI m) (hy : y = nI g) (hz : z = nI h)
    (H : ∀ r S' N' A' b1 b2 b3, me_R S' N' A' b1 b2 b3 → post r (co, 0, b1, b2, b3, a4, a5, a6, a7, a8)) : wpX_weave post (co, cu, a1, a2, a3, a4, a5, a6, a7, a8) x y z := by
  subst hx
  subst hy
  subst hz
  have hS := R.1.1 m hm
  unfold wpX_weave
  refine me_isM m hm rfl ?_
  refine br_f (by decide) ?_
  refine br_f (nI_pos (by omega)) ?_
  refine pk_le g 20 (fun _ => ?_) (fun z => absurd z (by omega))
  refine br_f (nI_pos (by omega)) ?_
  refine pk_le h 63 (fun _ => ⟨pk_in m 2 hm, ?_⟩) (fun z => absurd z (by omega))
  refine nm_r (me_at m R.2.1 hm rfl (by omega)) ?_
  refine pk_loop (σ := (Nat → Int32) × (Nat → Int32)) (fun n k s => wX_weave_46 post (nI m) (nI g) (nI h) (nI (S m)) co cu n (nI k) a1 s.1 s.2 a4 a5 a6 a7 a8) (fun k s => ∃ N' A', me_R S N' A' a1 s.1 s.2) (2 * S m) 0 (a2, a3) (by omega) ⟨N, A, R⟩ ?_ ?_
  · rintro n ⟨b2, b3⟩ ⟨N', A', R'⟩
    exact pk_le (2 * S m) (2 * S m) (fun _ => H _ S N' A' a1 b2 b3 R') (fun z => absurd z (by omega)) (me_m2 _)
  · rintro n k ⟨b2, b3⟩ hk ⟨N', A', R'⟩ hw
    dsimp only at R' ⊢
    refine pk_le (2 * S m) k (fun z => absurd z (by omega)) (fun _ => ?_) (me_m2 _)
    have e1 : nI k >>> ((1 : Int32) &&& 31) = nI (k / 2) := pk_shrN (by omega) _ 1 (by decide)
    have e2 : nI k &&& 1 = nI (k % 2) := pk_andN (by omega) 1 (by decide)
    have e3 : nI h >>> ((3 : Int32) &&& 31) = nI (h / 8) := pk_shrN (by omega) _ 3 (by decide)
    refine nm_r e1 (nm_r e2 ?_)
    refine br_f (nI_nle (by omega) (by omega)) ?_
    have hb : k / 2 * (h / 8) ≤ 6 * 7 := Nat.mul_le_mul (by omega) (by omega)
    have e4 : ((nI (k / 2) * (nI h >>> ((3 : Int32) &&& 31))) + nI (k % 2)) + nI g = nI (k / 2 * (h / 8) + k % 2 + g) := by rw [e3, pk_mul, nI_add, nI_add]
    have hi : 12 * m + k < 24 := by omega
    have hi2 : (12 * m + k) / 12 = m := by omega
    obtain ⟨a, ha, e5⟩ := pk_andE (((nI (k / 2) * nI (k / 2)) + (nI (k % 2) * (nI h &&& 7))) + nI g) (m := 3) 2 (by decide)
    unfold wX_weave_100
    refine ⟨nI_ne0 (by omega) (by omega), pk_in (12 * m + k) 24 hi (me_l12 m k), ?_⟩
    refine nm_r (e' := upd b2 (12 * m + k) (nI ((k / 2 * (h / 8) + k % 2 + g) % S m))) (by rw [e4, me_l12, nI_clamp (by omega), pk_rem (by omega) (by omega) (by omega)]) ⟨pk_in (12 * m + k) 24 hi (me_l12 m k), ?_⟩
    refine nm_r (e' := upd b3 (12 * m + k) (nI a)) (by rw [e5, me_l12, nI_clamp (by omega)]) (nm_r (nI_1 k) ?_)
    exact hw (_, _) ⟨_, _, me_R_put R' hi (by rw [hi2]; exact Nat.mod_lt _ (by omega)) ha⟩
/-- the two machines the same: their first states are alike -/
theorem me_bis (K : me_Ok S N A) (hS : S 0 = S 1) (hN : ∀ j, j < 2 * S 0 → N (12 + j) = N j) (hA : ∀ j, j < 2 * S 0 → A (12 + j) = A j) : ∀ k s, s < S 0 → me_in N A k s (6 + s) = true
  | 0, _, _ => rfl
  | k + 1, s, hs => by
    have h0 := K.1 0 (by omega)
    have st : ∀ l, l < 2 → A (2 * s + l) = A (2 * (6 + s) + l) ∧ me_in N A k (me_af N s l) (me_af N (6 + s) l) = true := by
      intro l hl
      have g1 := hN (2 * s + l) (by omega)
      have g2 := hA (2 * s + l) (by omega)
      have g3 := K.2.2.1 0 s l (by omega) hs hl
      rw [show 12 * 0 + 2 * s + l = 2 * s + l by omega] at g3
      have e : 2 * (6 + s) + l = 12 + (2 * s + l) := by omega
      refine ⟨by rw [e, g2], ?_⟩
      have e1 : me_af N s l = N (2 * s + l) := by
        unfold me_af
        rw [show s / 6 = 0 by omega]
        omega
      have e2 : me_af N (6 + s) l = 6 + N (2 * s + l) := by
        unfold me_af
        rw [show (6 + s) / 6 = 1 by omega, e, g1]
      rw [e1, e2]
      exact me_bis K hS hN hA k _ g3
    exact me_in_s.mpr ⟨(st 0 (by omega)).1, (st 1 (by omega)).1, (st 0 (by omega)).2, (st 1 (by omega)).2⟩
theorem me_copy {post : Int32 → St1 → Prop} {x y : Int32} (R : me_R S N A a1 a2 a3) (m : Nat) (hm : m < 2) (hx : x = nI m) (hy : y = 0)
    (H : ∀ r S' N' A' b1 b2 b3, 1 ≤ r → r ≤ 6 → me_R S' N' A' b1 b2 b3 → me_ap S' N' A' 11 0 6 = 0 → post (nI r) (co, 0, b1, b2, b3, a4, a5, a6, a7, a8)) : wpX_copy post (co, cu, a1, a2, a3, a4, a5, a6, a7, a8) x y := by
  subst hx
  subst hy
  obtain ⟨o, ho⟩ : ∃ o, o = 1 - m := ⟨_, rfl⟩
  have hS := R.1.1 o (by omega)
  have e1 : (1 : Int32) - nI m = nI o := by
    rw [ho]
    exact pk_sub (a := 1) (b := m) (by omega)
  have e2 : a1 (nI o).toNatClampNeg = nI (S o) := me_at o R.2.1 (by omega) rfl (by omega)
  unfold wpX_copy
  refine me_isM m hm rfl ?_
  refine br_f (by decide) ?_
  refine br_f (by decide) ?_
  refine br_t (by decide) ?_
  refine nm_r e1 ⟨pk_in o 2 (by omega), ?_⟩
  refine pk_le (S o) 0 (fun z => absurd z (by omega)) (fun _ => ⟨pk_in o 2 (by omega), ?_⟩) e2
  rw [e2]
  obtain ⟨⟨k1, k2, k3, k4⟩, r1, r2, r3⟩ := R
  unfold wX_copy_44
  refine ⟨pk_in m 2 hm, ?_⟩
  refine nm_r (show upd a1 (nI m).toNatClampNeg (nI (S o)) = upd a1 m (nI (S o)) by rw [nI_clamp (by omega)]) ?_
  refine pk_loop (σ := (Nat → Int32) × (Nat → Int32)) (fun n k s => wX_copy_57 post (nI m) 0 (nI o) (nI (S o)) co cu n (nI k) (upd a1 m (nI (S o))) s.1 s.2 a4 a5 a6 a7 a8) (fun k s => (∀ j, j < 24 → s.1 j = nI (if 12 * m ≤ j ∧ j < 12 * m + k then N (12 * o + (j - 12 * m)) else N j)) ∧ (∀ j, j < 24 → s.2 j = nI (if 12 * m ≤ j ∧ j < 12 * m + k then A (12 * o + (j - 12 * m)) else A j))) (2 * S o) 0 (a2, a3) (by omega) ⟨fun j hj => ?_, fun j hj => ?_⟩ ?_ ?_
  · rw [if_neg (by omega)]
    exact r2 j hj
  · rw [if_neg (by omega)]
    exact r3 j hj
  · rintro n ⟨b2, b3⟩ ⟨g1, g2⟩
    refine pk_le (2 * S o) (2 * S o) (fun _ => ?_) (fun z => absurd z (by omega)) (me_m2 _)
    have K' : me_Ok (fun j => if j = m then S o else S j) (fun j => if 12 * m ≤ j ∧ j < 12 * m + 2 * S o then N (12 * o + (j - 12 * m)) else N j) (fun j => if 12 * m ≤ j ∧ j < 12 * m + 2 * S o then A (12 * o + (j - 12 * m)) else A j) := by
      refine ⟨fun j hj => ?_, fun j hj => ?_, fun j s l hj hs hl => ?_, fun j hj => ?_⟩
      · show 1 ≤ (if j = m then S o else S j) ∧ (if j = m then S o else S j) ≤ 6
        by_cases e : j = m
        · rw [if_pos e]
          exact hS
        · rw [if_neg e]
          exact k1 j hj
      · show (if 12 * m ≤ j ∧ j < 12 * m + 2 * S o then N (12 * o + (j - 12 * m)) else N j) < 6
        by_cases e : 12 * m ≤ j ∧ j < 12 * m + 2 * S o
        · rw [if_pos e]
          exact k2 _ (by omega)
        · rw [if_neg e]
          exact k2 j hj
      · have hs' : s < (if j = m then S o else S j) := hs
        show (if 12 * m ≤ 12 * j + 2 * s + l ∧ 12 * j + 2 * s + l < 12 * m + 2 * S o then N (12 * o + (12 * j + 2 * s + l - 12 * m)) else N (12 * j + 2 * s + l)) < (if j = m then S o else S j)
        by_cases e : j = m
        · rw [if_pos e] at hs' ⊢
          rw [if_pos (by omega), show 12 * o + (12 * j + 2 * s + l - 12 * m) = 12 * o + 2 * s + l by omega]
          exact k3 o s l (by omega) hs' hl
        · rw [if_neg e] at hs' ⊢
          have hSj := k1 j hj
          rw [if_neg (by omega)]
          exact k3 j s l hj hs' hl
      · show (if 12 * m ≤ j ∧ j < 12 * m + 2 * S o then A (12 * o + (j - 12 * m)) else A j) < 4
        by_cases e : 12 * m ≤ j ∧ j < 12 * m + 2 * S o
        · rw [if_pos e]
          exact k4 _ (by omega)
        · rw [if_neg e]
          exact k4 j hj
    have sh : ∀ (B : Nat → Nat) (j : Nat), j < 2 * S o → (if 12 * m ≤ 12 + j ∧ 12 + j < 12 * m + 2 * S o then B (12 * o + (12 + j - 12 * m)) else B (12 + j)) = (if 12 * m ≤ j ∧ j < 12 * m + 2 * S o then B (12 * o + (j - 12 * m)) else B j) := by
      intro B j hj
      have em : m = 0 ∨ m = 1 := by omega
      rcases em with em | em
      · rw [if_neg (by omega), if_pos (by omega), show 12 * o + (j - 12 * m) = 12 + j by omega]
      · rw [if_pos (by omega), if_neg (by omega), show 12 * o + (12 + j - 12 * m) = j by omega]
    have hSS : (if (0 : Nat) = m then S o else S 0) = S o ∧ (if (1 : Nat) = m then S o else S 1) = S o := by
      have em : m = 0 ∨ m = 1 := by omega
      rcases em with em | em
      · rw [if_pos em.symm, if_neg (by omega), show o = 1 by omega]
        exact ⟨rfl, rfl⟩
      · rw [if_neg (by omega), if_pos em.symm, show o = 0 by omega]
        exact ⟨rfl, rfl⟩
    have hb := me_bis K' (hSS.1.trans hSS.2.symm) (fun j hj => sh N j (by have hj' : j < 2 * (if (0 : Nat) = m then S o else S 0) := hj; rw [hSS.1] at hj'; exact hj')) (fun j hj => sh A j (by have hj' : j < 2 * (if (0 : Nat) = m then S o else S 0) := hj; rw [hSS.1] at hj'; exact hj')) 11 0 (by show 0 < (if (0 : Nat) = m then S o else S 0); rw [hSS.1]; omega)
    refine H (S o) _ _ _ _ b2 b3 hS.1 hS.2 ⟨K', fun j hj => ?_, g1, g2⟩ ((me_ap_0 ?_ ?_).mpr hb)
    · show upd a1 m (nI (S o)) j = nI (if j = m then S o else S j)
      by_cases e : j = m
      · rw [if_pos e, e, pk_us]
      · rw [if_neg e, pk_un e]
        exact r1 j hj
    · show decide (0 % 6 < (if (0 : Nat) = m then S o else S 0)) = true
      rw [hSS.1]
      exact decide_eq_true (by omega)
    · show decide (0 < (if (1 : Nat) = m then S o else S 1)) = true
      rw [hSS.2]
      exact decide_eq_true (by omega)
  · rintro n k ⟨b2, b3⟩ hk ⟨g1, g2⟩ hw
    dsimp only at g1 g2 ⊢
    have hio : 12 * o + k < 24 := by omega
    have him : 12 * m + k < 24 := by omega
    have c1 : nI k >>> ((1 : Int32) &&& 31) = nI (k / 2) := pk_shrN (by omega) _ 1 (by decide)
    have c2 : nI k &&& 1 = nI (k % 2) := pk_andN (by omega) 1 (by decide)
    have hN := k3 o (k / 2) (k % 2) (by omega) (by omega) (by omega)
    rw [show 12 * o + 2 * (k / 2) + k % 2 = 12 * o + k by omega] at hN
    have v2 : b2 ((12 : Int32) * nI o + nI k).toNatClampNeg = nI (N (12 * o + k)) := by
      rw [me_l12, nI_clamp (by omega), g1 _ hio, if_neg (by omega)]
    have v3 : b3 ((12 : Int32) * nI o + nI k).toNatClampNeg = nI (A (12 * o + k)) := by
      rw [me_l12, nI_clamp (by omega), g2 _ hio, if_neg (by omega)]
    have F : ∀ (B : Nat → Nat) (b : Nat → Int32), (∀ j, j < 24 → b j = nI (if 12 * m ≤ j ∧ j < 12 * m + k then B (12 * o + (j - 12 * m)) else B j)) → ∀ j, j < 24 → upd b (12 * m + k) (nI (B (12 * o + k))) j = nI (if 12 * m ≤ j ∧ j < 12 * m + (k + 1) then B (12 * o + (j - 12 * m)) else B j) := by
      intro B b hb j hj
      by_cases e : j = 12 * m + k
      · rw [e, pk_us, if_pos (by omega), show 12 * m + k - 12 * m = k by omega]
      · rw [pk_un e, hb j hj]
        congr 1
        by_cases f : 12 * m ≤ j ∧ j < 12 * m + k
        · rw [if_pos f, if_pos (by omega)]
        · rw [if_neg f, if_neg (by omega)]
    refine pk_le (2 * S o) k (fun z => absurd z (by omega)) (fun _ => ⟨nI_ne0 (by omega) (by omega), ?_⟩) (me_m2 _)
    refine nm_r (e' := nI (k / 2)) ?_ ?_
    · rw [c1]
      have e0 : nI (k / 2) + 0 = nI (k / 2) := nI_add (k / 2) 0
      rw [e0, pk_rem (by omega) (by omega) (by omega), Nat.mod_eq_of_lt (by omega)]
    refine nm_r (e' := nI (12 * m + k)) ?_ ?_
    · rw [c2, me_m2, me_l12, nI_add]
      congr 1
      omega
    refine ⟨pk_in _ 24 hio (me_l12 o k), nI_ne0 (by omega) (by omega), pk_in _ 24 him, ?_⟩
    refine nm_r (e' := upd b2 (12 * m + k) (nI (N (12 * o + k)))) ?_ ?_
    · rw [v2, nI_clamp (by omega)]
      have e0 : nI (N (12 * o + k)) + 0 = nI (N (12 * o + k)) := nI_add _ 0
      rw [e0, pk_rem (by omega) (by omega) (by omega), Nat.mod_eq_of_lt hN]
    refine ⟨pk_in _ 24 hio (me_l12 o k), pk_in _ 24 him, ?_⟩
    refine nm_r (e' := upd b3 (12 * m + k) (nI (A (12 * o + k)))) (by rw [v3, nI_clamp (by omega)]) (nm_r (nI_1 k) ?_)
    exact hw (_, _) ⟨F N b2 g1, F A b3 g2⟩
end
end
section
/-! the law's check of one pair and one word -/
section
variable {co cu : Int32} {a1 a2 a3 a4 a5 a6 a7 a8 : Nat → Int32} {S N A : Nat → Nat}
theorem me_312 {post : Int32 → St1 → Prop} {x : Int32} (w : Nat) (hw : w < 2 ^ 31) (hx : x = nI w) (H : post 1 (co, cu, a1, a2, a3, a4, a5, a6, a7, a8)) : wL_holds_312 post x co cu a1 a2 a3 a4 a5 a6 a7 a8 := by
  subst hx
  unfold wL_holds_312
  exact br_f (nI_pos hw) H
theorem me_139 {post : Int32 → St1 → Prop} (R : me_R S N A a1 a2 a3) (m w n : Nat) (hm : m < 2) (hlg : me_lg w n) (hn : n ≤ 11) (H : ∀ cp cv b4 b5 b6 b7 b8, ¬ cv = 0 → me_V (me_ap S N A 11) b4 → post 1 (cp, cv, a1, a2, a3, b4, b5, b6, b7, b8)) :
    ∀ (r : Nat), r ≤ 12 → ∀ (k all bg : Nat) (co cu : Int32) (a4 a5 a6 : Nat → Int32), ¬ cu = 0 → me_V (me_ap S N A 11) a4 →
      ((n < r ∧ k = 0 ∧ all = 0 ∧ bg = 0) ∨ (r ≤ n ∧ bg = 1 ∧ k < (me_nu S N A m).1 ∧ all = me_rs N A (6 * m) (n - r) (w / 2 ^ r) ∧ me_in N A (12 - (n - r)) ((me_nu S N A m).2.1 k) (me_ru N (6 * m) (n - r) (w / 2 ^ r)) = true)) →
      wL_holds_139 post (nI w) (nI m) (nI (me_nu S N A m).1) (r + 1) (nI k) (nI all) (nI bg) (nI r - 1) co cu a1 a2 a3 a4 a5 a6 a7 a8 := by
  have hS := R.1.1 m hm
  have hw := me_lg_lt hlg hn
  have hst := me_nu_st R.1 hm
  have h6 := me_NI_6 hS.2 hst.1
  intro r
  induction r with
  | zero =>
    intro _ k all bg co cu a4 a5 a6 hc hb hi
    rcases hi with hi | ⟨_, _, _, hall, _⟩
    · exact absurd hi.1 (by omega)
    rw [Nat.sub_zero, Nat.pow_zero, Nat.div_one] at hall
    refine br_t me_neg ?_
    refine me_resp R m 0 w n hm (by omega) hlg hn (me_m8 m) rfl ?_
    refine br_t (by rw [hall]; rfl) ?_
    refine me_reset R m hm rfl (fun v b7 b8 hv => ?_)
    refine me_states R m hm rfl ?_
    rcases hv with hv | ⟨d, k1, k2, k3⟩
    · subst hv
      refine br_t (by decide) ⟨0 + 1, ?_⟩
      refine pk_le (S m) 0 (fun z => absurd z (by omega)) (fun _ => ?_)
      exact br_t (by decide) (me_312 0 (by omega) rfl (H co cu a4 a5 a6 b7 b8 hc hb))
    · have hc' := me_lg_lt k2 k1
      refine br_f (nI_nle (by omega) (by omega)) ?_
      refine me_run R m 0 v d hm (by omega) k2 k1 (me_m8 m) rfl ?_
      refine pk_loop (σ := Unit) (fun n s _ => wL_holds_273 post (nI m) (nI v) (nI (S m)) (nI (me_ru N (6 * m + 0) d v % 6)) co cu a1 a2 a3 a4 a5 a6 b7 b8 n (nI s)) (fun _ _ => True) (S m) 0 () (by omega) trivial ?_ ?_
      · intro n _ _
        exact pk_le (S m) (S m) (fun _ => me_312 v (by omega) rfl (H co cu a4 a5 a6 b7 b8 hc hb)) (fun z => absurd z (by omega))
      · intro n s _ hs _ hw
        refine pk_le (S m) s (fun z => absurd z (by omega)) (fun _ => ?_)
        refine br_f (nI_nle (by omega) (by omega)) ?_
        refine me_run R m s v d hm hs k2 k1 (me_l8 m s) rfl ?_
        refine br_t ?_ (nm_r (nI_1 s) (hw () trivial))
        rw [k3 s 0 hs (by omega)]
  | succ r ih =>
    intro hr k all bg co cu a4 a5 a6 hc hb hi
    refine br_f (me_pos (by omega)) ?_
    refine nm_r (show (nI w >>> ((nI (r + 1) - 1) &&& 31)) &&& 1 = nI (w / 2 ^ r % 2) by rw [nI_pred, me_bit (by omega) (by omega)]) ?_
    rcases hi with ⟨hi, ek, ea, eb⟩ | ⟨hi, eb, hk, hall, hin⟩
    · subst ek
      subst ea
      subst eb
      refine br_t rfl ?_
      unfold wL_holds_200
      by_cases e : r = n
      · have hb1 : w / 2 ^ r % 2 = 1 := by
          have h1 := hlg.1
          have h2 := hlg.2
          rw [← e] at h1 h2
          rw [Nat.pow_succ] at h2
          have h3 : w / 2 ^ r = 1 := by
            apply Nat.div_eq_of_lt_le
            · omega
            · omega
          rw [h3]
        rw [hb1]
        refine br_t rfl (nm_r (me_dn2 r) ?_)
        refine ih (by omega) 0 0 1 co cu a4 a5 a6 hc hb (Or.inr ⟨by omega, rfl, by omega, ?_, ?_⟩)
        · rw [show n - r = 0 by omega]
          rfl
        · rw [show n - r = 0 by omega, hst.2.2.1]
          exact me_in_refl N A _ _
      · have hb0 : w / 2 ^ r % 2 = 0 := by
          have h2 := hlg.2
          have h3 : 2 ^ (n + 1) ≤ 2 ^ r := Nat.pow_le_pow_right (by omega) (by omega)
          rw [Nat.div_eq_of_lt (by omega)]
        rw [hb0]
        refine br_f (by decide) (nm_r (me_dn2 r) ?_)
        exact ih (by omega) 0 0 0 co cu a4 a5 a6 hc hb (Or.inl ⟨by omega, rfl, rfl, rfl⟩)
    · subst eb
      have hl : w / 2 ^ r % 2 < 2 := by omega
      have ed : 12 - (n - (r + 1)) = (12 - (n - r)) + 1 := by omega
      have er : n - r = (n - (r + 1)) + 1 := by omega
      rw [ed] at hin
      have hil := me_in_l hl hin
      refine br_f (by decide) ?_
      refine me_coreA R (Or.inr hb) m k (w / 2 ^ r % 2) hm hk hl rfl rfl rfl (fun cp cv b4 b5 b6 hc2 hb2 => ?_)
      refine nm_r (e' := nI (me_rs N A (6 * m) (n - r) (w / 2 ^ r))) ?_ ?_
      · rw [me_l4, er, me_rs_cut, hall, hil.1]
      refine me_coreN R (Or.inr hb2) m k (w / 2 ^ r % 2) hm hk hl rfl rfl rfl (fun j hj hjin cp3 cv3 c4 c5 c6 hc3 hb3 => ?_)
      refine br_f (nI_pos (by omega)) ?_
      refine pk_lt j (me_nu S N A m).1 (fun _ => ?_) (fun z => absurd z (by omega))
      have nx := ih (by omega) j (me_rs N A (6 * m) (n - r) (w / 2 ^ r)) 1 cp3 cv3 c4 c5 c6 hc3 hb3 (Or.inr ⟨by omega, rfl, hj, rfl, by
        rw [er, me_ru_cut, ← er]
        exact me_in_trans _ _ _ _ (me_in_le 11 (by omega) hjin) hil.2⟩)
      unfold wL_holds_200
      exact br_c (fun _ => nm_r (me_dn2 r) nx) (fun _ => nm_r (me_dn2 r) nx)
theorem me_h79 {post : Int32 → St1 → Prop} {x y : Int32} (R : me_R S N A a1 a2 a3) (C : cu = 0 ∨ me_V (me_ap S N A 11) a4) (m s w : Nat) (hm : m < 2) (hs : s < S m) (hw1 : 1 ≤ w) (hw2 : w ≤ 4095) (hx : x = nI (8 * m + s)) (hy : y = nI w)
    (H : ∀ cp cv b4 b5 b6 b7 b8, ¬ cv = 0 → me_V (me_ap S N A 11) b4 → post 1 (cp, cv, a1, a2, a3, b4, b5, b6, b7, b8)) : wL_holds_79 post x y co cu a1 a2 a3 a4 a5 a6 a7 a8 := by
  subst hx
  subst hy
  have hS := R.1.1 m hm
  obtain ⟨n, hlg⟩ := me_lg_ex w hw1
  have hn := me_lg_11 hlg hw2
  have hst := me_nu_st R.1 hm
  have h6 := me_NI_6 hS.2 hst.1
  have hle := me_NI_le hS.2 hst.1
  have hle2 := me_cl_le S N A m
  have e1 : nI (8 * m + s) >>> ((3 : Int32) &&& 31) = nI m := by
    rw [pk_shrN (by omega) _ 3 (by decide)]
    congr 1
    omega
  unfold wL_holds_79
  refine nm_r e1 ?_
  refine me_core R C m hm rfl (fun cp cv b4 b5 b6 hc hb => ?_)
  refine me_classes R (Or.inr hb) m hm rfl (fun cv2 c4 hc2 hb2 => ?_)
  refine pk_lt (me_nu S N A m).1 1 (fun z => absurd z (by omega)) (fun _ => ?_)
  refine pk_lt (me_cl S N A m) (me_nu S N A m).1 (fun z => absurd z (by omega)) (fun _ => ?_)
  refine me_states R m hm rfl ?_
  refine pk_le (me_cl S N A m) (S m) (fun _ => ?_) (fun z => absurd z (by omega))
  have hw := me_139 (a7 := a7) (a8 := a8) R m w n hm hlg hn H 12 (by omega) 0 0 0 cp cv2 c4 b5 b6 hc2 hb2 (Or.inl ⟨by omega, rfl, rfl, rfl⟩)
  rw [show nI 12 - 1 = 11 by decide] at hw
  exact ⟨12 + 1, hw⟩
theorem me_holds {post : Int32 → St1 → Prop} {x y z : Int32} (R : me_R S N A a1 a2 a3) (C : cu = 0 ∨ me_V (me_ap S N A 11) a4) (m s m' s' w : Nat) (hm : m < 2) (hs : s < S m) (hm' : m' < 2) (hs' : s' < S m') (hw1 : 1 ≤ w) (hw2 : w ≤ 4095) (hx : x = nI (8 * m + s)) (hy : y = nI (8 * m' + s')) (hz : z = nI w)
    (H : ∀ cp cv b4 b5 b6 b7 b8, ¬ cv = 0 → me_V (me_ap S N A 11) b4 → post 1 (cp, cv, a1, a2, a3, b4, b5, b6, b7, b8)) : wpL_holds post (co, cu, a1, a2, a3, a4, a5, a6, a7, a8) x y z := by
  subst hx
  subst hy
  subst hz
  have hS := R.1.1 m hm
  have hS' := R.1.1 m' hm'
  unfold wpL_holds
  refine me_diff R C m s m' s' hm hs hm' hs' rfl rfl (fun e cv b4 hc hb => ?_) (fun e cv b4 hc hb c j h1 h2 h3 => ?_)
  · refine me_alike R (Or.inr hb) m s m' s' hm hs hm' hs' rfl rfl (fun r cv2 c4 hr hc2 hb2 => ?_)
    rcases hr with ⟨_, hr⟩ | ⟨ne, _⟩
    · subst hr
      refine br_f (by decide) (br_f (by decide) (br_t rfl ?_))
      unfold wL_holds_39
      refine br_t rfl ?_
      unfold wL_holds_50
      refine br_t rfl (br_t (by decide) ?_)
      exact me_h79 R (Or.inr hb2) m s w hm hs hw1 hw2 rfl rfl H
    · exact absurd e ne
  · refine me_alike R (Or.inr hb) m s m' s' hm hs hm' hs' rfl rfl (fun r cv2 c4 hr hc2 hb2 => ?_)
    rcases hr with ⟨eq, _⟩ | ⟨_, hr⟩
    · exact absurd eq e
    · subst hr
      have hcl := me_lg_lt h1 h2
      refine br_f (nI_pos (by omega)) ?_
      refine pk_lt 4095 c (fun z => absurd z (by omega)) (fun _ => ?_)
      refine br_f (nI_ne0 (by omega) (by omega)) ?_
      unfold wL_holds_39
      refine br_f (by decide) ?_
      unfold wL_holds_50
      refine br_t rfl (br_f (nI_nle (by omega) (by omega)) ?_)
      refine me_resp R m s c j hm hs h1 h2 rfl rfl ?_
      refine me_resp R m' s' c j hm' hs' h1 h2 rfl rfl ?_
      have b1 := me_rs_lt R.1 (show 6 * m + s < 12 by omega) j c
      have b2 := me_rs_lt R.1 (show 6 * m' + s' < 12 by omega) j c
      have b3 : 4 ^ j ≤ 4 ^ 11 := Nat.pow_le_pow_right (by omega) h2
      refine br_f (fun z => h3 ((nI_eq (by omega) (by omega)).mp z)) ?_
      exact me_h79 R (Or.inr hb2) m s w hm hs hw1 hw2 rfl rfl H
end
end
section
/-! the law -/
section
variable {co cu : Int32} {a1 a2 a3 a4 a5 a6 a7 a8 : Nat → Int32} {S N A : Nat → Nat} {L : Nat} {xs : Nat → Int32}
theorem me_cell {post : Int32 → Prop} {u : St2} {x : Int32} (hL : L ≤ 260) (k : Nat) (hk : k < 1000) (hx : x = nI k) (H : ∀ v, post v) : wpL_cell post L xs u x := by
  subst hx
  unfold wpL_cell
  exact pk_le L k (fun _ => H _) (fun z => ⟨pk_in k L z, H _⟩)
theorem me_208 {post : Int32 → Prop} {J : Int32 → Int32 → Int32 → (Nat → Int32) → (Nat → Int32) → (Nat → Int32) → (Nat → Int32) → (Nat → Int32) → (Nat → Int32) → (Nat → Int32) → (Nat → Int32) → Prop} {x3 x4 x6 : Int32} {kc ks : Nat} (R : me_R S N A a1 a2 a3) (C : cu = 0 ∨ me_V (me_ap S N A 11) a4) (k m : Nat) (hm : m < 2) (hx : x6 = nI m)
    (HJ : ∀ cp cv b4 b5 b6 b7 b8, (cv = 0 ∨ me_V (me_ap S N A 11) b4) → J (nI (k + 2)) cp cv a1 a2 a3 b4 b5 b6 b7 b8) : wL_law_208 post L xs J (nI k) x3 x4 x6 kc ks co cu a1 a2 a3 a4 a5 a6 a7 a8 := by
  obtain ⟨j5, h5, e5⟩ := pk_andE (x3 >>> ((5 : Int32) &&& 31)) (m := 7) 3 (by decide)
  obtain ⟨j8, h8, e8⟩ := pk_andE (x3 >>> ((8 : Int32) &&& 31)) (m := 1) 1 (by decide)
  obtain ⟨j9, h9, e9⟩ := pk_andE (x3 >>> ((9 : Int32) &&& 31)) (m := 7) 3 (by decide)
  obtain ⟨jw, hw, ew⟩ := pk_andE (x4 >>> ((11 : Int32) &&& 31)) (m := 4095) 12 (by decide)
  have hS := R.1.1 m hm
  have hS8 := R.1.1 j8 (by omega)
  have m5 : j5 % S m < S m := Nat.mod_lt _ (by omega)
  have m9 : j9 % S j8 < S j8 := Nat.mod_lt _ (by omega)
  unfold wL_law_208
  refine me_states R m hm hx ⟨nI_ne0 (by omega) (by omega), ?_⟩
  refine nm_r (e' := nI (8 * m + j5 % S m)) (by rw [e5, hx, pk_rem (by omega) (by omega) (by omega), me_l8]) ?_
  refine me_states R j8 (by omega) e8 ⟨nI_ne0 (by omega) (by omega), ?_⟩
  refine nm_r (e' := nI (8 * j8 + j9 % S j8)) (by rw [e8, e9, pk_rem (by omega) (by omega) (by omega), me_l8]) ?_
  refine br_c (fun _ => ⟨by decide, ?_⟩) (fun _ => nm_r (nI_add k 2) (HJ co cu a4 a5 a6 a7 a8 C))
  refine me_holds R C m (j5 % S m) j8 (j9 % S j8) (1 + jw % 4095) hm m5 (by omega) m9 (by omega) (by omega) rfl rfl ?_ (fun cp cv b4 b5 b6 b7 b8 hc hb => ?_)
  · rw [ew]
    have e : nI jw - nI jw / 4095 * 4095 = nI (jw % 4095) := pk_rem (a := jw) (d := 4095) (by omega) (by omega) (by omega)
    rw [e]
    exact nI_add 1 (jw % 4095)
  · exact br_f (by decide) (nm_r (nI_add k 2) (HJ cp cv b4 b5 b6 b7 b8 (Or.inr hb)))
theorem me_law (hL : L ≤ 260) {kc ks : Nat} : ∀ (f k : Nat), k ≤ 300 → L ≤ k + 2 * f → ∀ (co cu : Int32) (a1 a2 a3 a4 a5 a6 a7 a8 : Nat → Int32) (S N A : Nat → Nat), me_R S N A a1 a2 a3 → (cu = 0 ∨ me_V (me_ap S N A 11) a4) →
    wL_law_10 (fun r => r = 1) L xs kc ks (f + 1) (nI k) co cu a1 a2 a3 a4 a5 a6 a7 a8 := by
  intro f
  induction f with
  | zero =>
    intro k hk hf co cu a1 a2 a3 a4 a5 a6 a7 a8 S N A R C
    exact pk_le L k (fun _ => rfl) (fun z => absurd z (by omega))
  | succ f ih =>
    intro k hk hf co cu a1 a2 a3 a4 a5 a6 a7 a8 S N A R C
    refine pk_le L k (fun _ => rfl) (fun hkL => ?_)
    refine me_cell hL k (by omega) rfl (fun c => ?_)
    refine me_cell hL (k + 1) (by omega) (nI_1 k) (fun d => ?_)
    obtain ⟨o, ho, eo⟩ := pk_andE c (m := 15) 4 (by decide)
    obtain ⟨m, hm, em⟩ := pk_andE (c >>> ((4 : Int32) &&& 31)) (m := 1) 1 (by decide)
    obtain ⟨d0, hd0, e0⟩ := pk_andE d (m := 7) 3 (by decide)
    obtain ⟨d3, hd3, e3⟩ := pk_andE (d >>> ((3 : Int32) &&& 31)) (m := 7) 3 (by decide)
    obtain ⟨d5, hd5, e5⟩ := pk_andE (d >>> ((5 : Int32) &&& 31)) (m := 63) 6 (by decide)
    obtain ⟨d6, hd6, e6⟩ := pk_andE (d >>> ((6 : Int32) &&& 31)) (m := 1) 1 (by decide)
    obtain ⟨d8, hd8, e8⟩ := pk_andE (d >>> ((8 : Int32) &&& 31)) (m := 3) 2 (by decide)
    obtain ⟨d31, hd31, e31⟩ := pk_andE d (m := 31) 5 (by decide)
    have hm2 : m < 2 := by omega
    have hS := R.1.1 m hm2
    have ms : d0 % S m < S m := Nat.mod_lt _ (by omega)
    have mt : d3 % S m < S m := Nat.mod_lt _ (by omega)
    have IH : ∀ (S' N' A' : Nat → Nat) (b1 b2 b3 : Nat → Int32), me_R S' N' A' b1 b2 b3 → ∀ cp cv b4 b5 b6 b7 b8, (cv = 0 ∨ me_V (me_ap S' N' A' 11) b4) → wL_law_10 (fun r => r = 1) L xs kc ks (f + 1) (nI (k + 2)) cp cv b1 b2 b3 b4 b5 b6 b7 b8 :=
      fun S' N' A' b1 b2 b3 R' cp cv b4 b5 b6 b7 b8 C' => ih (k + 2) (by omega) (by omega) cp cv b1 b2 b3 b4 b5 b6 b7 b8 S' N' A' R' C'
    have G : ∀ (S' N' A' : Nat → Nat) (cp : Int32) (b1 b2 b3 b4 b5 b6 b7 b8 : Nat → Int32) (cv : Int32), me_R S' N' A' b1 b2 b3 → (cv = 0 ∨ me_V (me_ap S' N' A' 11) b4) → wL_law_208 (fun r => r = 1) L xs (wL_law_10 (fun r => r = 1) L xs kc ks (f + 1)) (nI k) c d (nI m) kc ks cp cv b1 b2 b3 b4 b5 b6 b7 b8 :=
      fun S' N' A' cp b1 b2 b3 b4 b5 b6 b7 b8 cv R' C' => me_208 R' C' k m hm2 rfl (IH S' N' A' b1 b2 b3 R')
    refine nm_r eo (nm_r em ?_)
    refine me_states R m hm2 rfl ⟨nI_ne0 (by omega) (by omega), ?_⟩
    refine nm_r (e' := nI (d0 % S m)) (by rw [e0, pk_rem (by omega) (by omega) (by omega)]) ⟨nI_ne0 (by omega) (by omega), ?_⟩
    refine nm_r (e' := nI (d3 % S m)) (by rw [e3, pk_rem (by omega) (by omega) (by omega)]) ?_
    refine pk_le 2 o (fun _ => ?_) (fun _ => ⟨by decide, ?_⟩)
    · refine pk_le 12 o (fun _ => ?_) (fun _ => ?_)
      · refine pk_le 14 o (fun _ => ?_) (fun _ => ⟨by decide, ?_⟩)
        · refine me_copy R m hm2 rfl rfl (fun r S' N' A' b1 b2 b3 r1 r6 R' hs => ?_)
          refine pk_lt r 1 (fun z => absurd z (by omega)) (fun _ => ?_)
          refine me_same R' (Or.inl rfl) hs (fun cv b4 hc hb => ?_)
          exact br_t rfl (G S' N' A' _ b1 b2 b3 b4 _ _ _ _ cv R' (Or.inr hb))
        · refine me_weave R m (d31 % 21) d5 hm2 (by omega) (by omega) rfl ?_ e5 (fun r S' N' A' b1 b2 b3 R' => ?_)
          · rw [e31]
            exact pk_rem (a := d31) (d := 21) (by omega) (by omega) (by omega)
          · exact G S' N' A' _ b1 b2 b3 _ _ _ _ _ _ R' (Or.inl rfl)
      · have X : ∀ (z0 : Int32) (a : Nat), a < 4 → z0 = nI a → wL_law_147 (fun r => r = 1) L xs (wL_law_10 (fun r => r = 1) L xs kc ks (f + 1)) (nI k) c d (nI m) z0 (4 * nI (d3 % S m)) ((2 * nI (d0 % S m)) + ((d >>> ((6 : Int32) &&& 31)) &&& 1)) (nI m) kc ks co cu a1 a2 a3 a4 a5 a6 a7 a8 := by
          intro z0 a ha hz
          unfold wL_law_147
          refine me_set R m (d0 % S m) d6 (d3 % S m) a hm2 ms (by omega) mt ha rfl (by rw [e6, me_l2]) (by rw [hz, me_l4]) (fun r S' N' A' b1 b2 b3 R' => ?_)
          exact G S' N' A' _ b1 b2 b3 _ _ _ _ _ _ R' (Or.inl rfl)
        exact br_c (fun _ => X _ d8 (by omega) e8) (fun _ => X _ 0 (by omega) rfl)
    · refine me_size R m (1 + d0 % 6) hm2 (by omega) (by omega) rfl ?_ (fun r S' N' A' b1 b2 b3 R' => ?_)
      · rw [e0, me_r6 (by omega)]
        exact nI_add 1 (d0 % 6)
      · exact G S' N' A' _ b1 b2 b3 _ _ _ _ _ _ R' (Or.inl rfl)
end
theorem i_vc (xs : Nat → Int32) (L : Nat) (hL : L ≤ 260) : wpL_law (fun r => r = 1) L xs := by
  unfold wpL_law
  refine ⟨8, 346, by omega, by omega, ?_⟩
  unfold wpX_init
  refine ⟨by omega, by omega, by omega, by omega, by omega, by omega, by omega, by omega, by omega, by omega, by omega, by omega, by omega, by omega, by omega, by omega, ?_⟩
  refine nm_e (nm_e ?_)
  refine ⟨130 + 1, ?_⟩
  refine me_law hL 130 0 (by omega) (by omega) 0 0 _ _ _ _ _ _ _ _ (fun _ => 1) (fun _ => 0) (fun _ => 0) ⟨⟨fun m hm => ⟨Nat.le_refl 1, by show 1 ≤ 6; omega⟩, fun j hj => by show 0 < 6; omega, fun m s l hm hs hl => by show 0 < 1; omega, fun j hj => by show 0 < 4; omega⟩, fun j hj => ?_, fun j hj => rfl, fun j hj => rfl⟩ (Or.inl rfl)
  show upd (upd (fun _ => 0) 0 1) 1 1 j = nI 1
  have ej : j = 0 ∨ j = 1 := by omega
  rcases ej with ej | ej
  · rw [ej]
    rfl
  · rw [ej]
    rfl
end
