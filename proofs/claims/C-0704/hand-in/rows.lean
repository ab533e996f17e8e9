section
/-! rows of the kit to paste (PURE-ROWS) -/
theorem pk_us {f : Nat → Int32} {k : Nat} {x : Int32} : upd f k x k = x := if_pos rfl
theorem pk_un {f : Nat → Int32} {k j : Nat} {x : Int32} (h : j ≠ k) : upd f k x j = f j := if_neg h
theorem pk_sub {a b : Nat} (h : b ≤ a) : nI a - nI b = nI (a - b) := by
  obtain ⟨c, rfl⟩ : ∃ c, a = c + b := ⟨a - b, by omega⟩
  rw [← nI_add, Int32.add_sub_cancel, Nat.add_sub_cancel]
theorem pk_m1 (n : Nat) : nI (n + 1) + (-1) = nI n := by
  rw [← nI_1, Int32.add_assoc, show (1 : Int32) + (-1) = 0 from rfl, Int32.add_zero]
theorem pk_mul (a b : Nat) : nI a * nI b = nI (a * b) := (Int32.ofNat_mul a b).symm
theorem pk_div {a d : Nat} (ha : a < 2 ^ 31) (h0 : 0 < d) (hd : d < 2 ^ 31) : nI a / nI d = nI (a / d) := by
  apply Int32.toInt_inj.mp
  rw [lg_idiv_nonneg (by rw [nI_toInt ha]; omega) (by rw [nI_toInt hd]; omega), nI_toInt ha, nI_toInt hd, nI_toInt (Nat.lt_of_le_of_lt (Nat.div_le_self a d) ha)]
  first | rfl | exact (Int.natCast_ediv _ _).symm
theorem pk_rem {a d : Nat} (ha : a < 2 ^ 31) (h0 : 0 < d) (hd : d < 2 ^ 31) : nI a - nI a / nI d * nI d = nI (a % d) := by
  rw [pk_div ha h0 hd, pk_mul, pk_sub (Nat.div_mul_le_self a d)]
  exact congrArg nI (by have := Nat.div_add_mod' a d; omega)
theorem pk_le {x y : Int32} {A B : Prop} (a b : Nat) (f : a ≤ b → A) (g : b < a → B) (hx : x = nI a := by rfl) (hy : y = nI b := by rfl) (ha : a < 2 ^ 31 := by omega) (hb : b < 2 ^ 31 := by omega) : (x ≤ y → A) ∧ (¬ x ≤ y → B) := by
  subst hx hy
  rw [nI_leI ha hb]
  exact ⟨f, fun z => g (by omega)⟩
theorem pk_lt {x y : Int32} {A B : Prop} (a b : Nat) (f : a < b → A) (g : b ≤ a → B) (hx : x = nI a := by rfl) (hy : y = nI b := by rfl) (ha : a < 2 ^ 31 := by omega) (hb : b < 2 ^ 31 := by omega) : (x < y → A) ∧ (¬ x < y → B) := by
  subst hx hy
  rw [nI_ltI ha hb]
  exact ⟨f, fun z => g (by omega)⟩
theorem pk_eq {x y : Int32} {A B : Prop} (a b : Nat) (f : a = b → A) (g : a ≠ b → B) (hx : x = nI a := by rfl) (hy : y = nI b := by rfl) (ha : a < 2 ^ 31 := by omega) (hb : b < 2 ^ 31 := by omega) : (x = y → A) ∧ (¬ x = y → B) := by
  subst hx hy
  rw [nI_eq ha hb]
  exact ⟨f, g⟩
theorem pk_in {x : Int32} (n N : Nat) (h : n < N) (hx : x = nI n := by rfl) (hN : N < 2 ^ 31 := by omega) : vp_in x N := by
  subst hx
  exact vp_in_nI h hN
theorem pk_cl {x : Int32} (n : Nat) (hx : x = nI n := by rfl) (h : n < 2 ^ 31 := by omega) : x.toNatClampNeg = n := by
  subst hx
  exact nI_clamp h
theorem pk_shr (a s : Int32) (k : Nat) (hs : (s.toBitVec.smod 32).toNat = k) : (a >>> s).toInt = a.toInt >>> k := by
  show (a.toBitVec.sshiftRight (s.toBitVec.smod 32).toNat).toInt = _
  rw [hs, BitVec.toInt_sshiftRight]
  rfl
theorem pk_shrN {n : Nat} (h : n < 2 ^ 31) (s : Int32) (k : Nat) (hs : (s.toBitVec.smod 32).toNat = k) : nI n >>> s = nI (n / 2 ^ k) := by
  apply Int32.toInt_inj.mp
  have h2 : n / 2 ^ k ≤ n := Nat.div_le_self _ _
  rw [pk_shr _ _ k hs, nI_toInt h, nI_toInt (by omega), Int.shiftRight_eq_div_pow]
  rfl
theorem pk_vb (z : Int32) : vp_nar .byte z.toInt8.toInt32 = z.toInt8.toInt32 := by rw [vp_nar_byte]; simp
theorem pk_ix (x : Int32) {n : Nat} (hn : n < 2 ^ 31) : x < 0 ∨ nI n ≤ x ∨ ∃ j : Nat, j < n ∧ x = nI j := by
  by_cases h : x < 0
  · exact Or.inl h
  · obtain ⟨j, hj, rfl⟩ := nI_of h
    by_cases h2 : j < n
    · exact Or.inr (Or.inr ⟨j, h2, rfl⟩)
    · exact Or.inr (Or.inl (nI_le (by omega) hj))
theorem ek_if {c d A B : Prop} (e : c ↔ d) (f : d → A) (g : ¬ d → B) : (c → A) ∧ (¬ c → B) :=
  ⟨fun z => f (e.mp z), fun z => g (fun y => z (e.mpr y))⟩
/-! own number rows: td_p c = c - 1 -/
def td_p (c : Nat) : Int32 := nI c + (-1)
theorem td_p0 : td_p 0 = -1 := by decide
theorem td_ps (c : Nat) : td_p (c + 1) = nI c := pk_m1 c
theorem td_pT {c : Nat} (h : c < 2 ^ 31) : (td_p c).toInt = (c : Int) - 1 := by
  cases c with
  | zero => rw [td_p0]; decide
  | succ c => rw [td_ps, nI_toInt (by omega)]; omega
theorem td_p_neg {c : Nat} (h : c < 2 ^ 31) : td_p c < 0 ↔ c = 0 := by
  rw [Int32.lt_iff_toInt_lt, td_pT h, show (0 : Int32).toInt = 0 from by decide]; omega
theorem td_p_lt {c a : Nat} (h : c < 2 ^ 31) (ha : a < 2 ^ 31) : td_p c < nI a ↔ c ≤ a := by
  rw [Int32.lt_iff_toInt_lt, td_pT h, nI_toInt ha]; omega
theorem td_lt_p {c a : Nat} (h : c < 2 ^ 31) (ha : a < 2 ^ 31) : nI a < td_p c ↔ a + 1 < c := by
  rw [Int32.lt_iff_toInt_lt, td_pT h, nI_toInt ha]; omega
theorem td_nb {c : Nat} (h : c < 128) : vp_nar .byte (nI c) = nI c := by
  rw [vp_nar_byte]
  exact lg_i2b_small (by rw [nI_toInt (by omega)]; omega) (by rw [nI_toInt (by omega)]; omega)
theorem td_nb2 {c : Nat} (h : c < 128) : vp_nar .byte (nI c).toInt8.toInt32 = nI c := by
  rw [pk_vb, ← vp_nar_byte]; exact td_nb h
theorem td_pb {c : Nat} (h : c < 128) : vp_nar .byte (td_p c) = td_p c := by
  rw [vp_nar_byte]
  exact lg_i2b_small (by rw [td_pT (by omega)]; omega) (by rw [td_pT (by omega)]; omega)
theorem td_16 (c : Nat) : (16 : Int32) + nI c = nI (16 + c) := nI_add 16 c
theorem td_sub1 (c : Nat) : nI c - 1 = td_p c := by
  apply Int32.toInt_inj.mp
  rw [td_p, Int32.sub_eq_add_neg]
theorem td_row (i c : Nat) : nI i * 17 + nI c = nI (i * 17 + c) := by
  rw [show (17 : Int32) = nI 17 from rfl, pk_mul, nI_add]
theorem td_row1 (i c : Nat) : (nI i + 1) * 17 + nI c = nI ((i + 1) * 17 + c) := by
  rw [nI_1, td_row]
theorem td_rowY (i c : Nat) : 17 * nI i + nI c = nI (17 * i + c) := by
  rw [show (17 : Int32) = nI 17 from rfl, pk_mul, nI_add]
end
section
/-! the pure picture: H i j, T i j the greatest numbers of pairs; la, fi: the last and the first place -/
def td_rw (prev : Nat → Nat) (mt : Nat → Bool) : Nat → Nat
  | 0 => 0
  | j + 1 => max (max (prev (j + 1)) (td_rw prev mt j)) (if mt j = true then prev j + 1 else 0)
def td_H (s : Nat → Nat) : Nat → Nat → Nat
  | 0 => fun _ => 0
  | i + 1 => td_rw (td_H s i) (fun j => s i == s (16 + j))
def td_T (s : Nat → Nat) (n m : Nat) (i j : Nat) : Nat :=
  if i < n ∧ j < m then max (max (td_T s n m (i + 1) j) (td_T s n m i (j + 1))) (if (s i == s (16 + j)) = true then td_T s n m (i + 1) (j + 1) + 1 else 0) else 0
termination_by (n - i) + (m - j)
theorem td_H0 (s : Nat → Nat) (j : Nat) : td_H s 0 j = 0 := rfl
theorem td_Hi0 (s : Nat → Nat) (i : Nat) : td_H s i 0 = 0 := by cases i <;> rfl
theorem td_HS (s : Nat → Nat) (i j : Nat) : td_H s (i + 1) (j + 1) = max (max (td_H s i (j + 1)) (td_H s (i + 1) j)) (if (s i == s (16 + j)) = true then td_H s i j + 1 else 0) := rfl
theorem td_Hj1 (s : Nat → Nat) (i j : Nat) : td_H s i j ≤ td_H s i (j + 1) := by
  cases i with
  | zero => exact Nat.le_refl _
  | succ i => rw [td_HS]; omega
theorem td_Hj (s : Nat → Nat) (i : Nat) {j j' : Nat} (h : j ≤ j') : td_H s i j ≤ td_H s i j' := by
  induction j' with
  | zero => rw [Nat.le_zero.mp h]; exact Nat.le_refl _
  | succ j' ih =>
    rcases Nat.lt_or_ge j (j' + 1) with z | z
    · exact Nat.le_trans (ih (by omega)) (td_Hj1 s i j')
    · rw [show j = j' + 1 from by omega]; exact Nat.le_refl _
theorem td_Hb (s : Nat → Nat) : ∀ i j, td_H s i j ≤ j ∧ td_H s i j ≤ i := by
  intro i
  induction i with
  | zero => intro j; rw [td_H0]; omega
  | succ i ih =>
    intro j
    induction j with
    | zero => rw [td_Hi0]; omega
    | succ j ihj =>
      rw [td_HS]
      have h1 := ih (j + 1)
      have h2 := ih j
      split <;> omega
/-- what a row of thresholds says while the matches from J on are worked in -/
def td_Q (G : Nat → Nat) (mt : Nat → Prop) (J c j : Nat) : Prop := c ≤ G j ∨ ∃ k, J ≤ k ∧ k < j ∧ mt k ∧ c ≤ G k + 1
theorem td_Qend {G : Nat → Nat} {mt : Nat → Prop} {J c j : Nat} (h : j ≤ J) : td_Q G mt J c j ↔ c ≤ G j :=
  ⟨fun z => z.elim id (fun ⟨k, a, b, _⟩ => absurd b (by omega)), Or.inl⟩
theorem td_Qskip {G : Nat → Nat} {mt : Nat → Prop} {J J' c j : Nat} (h : J' ≤ J) (hn : ∀ k, J' ≤ k → k < J → ¬ mt k) : td_Q G mt J' c j ↔ td_Q G mt J c j := by
  constructor
  · rintro (z | ⟨k, a, b, d, e⟩)
    · exact Or.inl z
    · rcases Nat.lt_or_ge k J with w | w
      · exact absurd d (hn k a w)
      · exact Or.inr ⟨k, w, b, d, e⟩
  · rintro (z | ⟨k, a, b, d, e⟩)
    · exact Or.inl z
    · exact Or.inr ⟨k, by omega, b, d, e⟩
theorem td_Qstep {G : Nat → Nat} {mt : Nat → Prop} {J c j : Nat} (hG : ∀ a b, a ≤ b → G a ≤ G b) (hm : mt J) : td_Q G mt J c j ↔ (if c = G J + 1 then J + 1 ≤ j else td_Q G mt (J + 1) c j) := by
  by_cases hc : c = G J + 1
  · rw [if_pos hc]
    constructor
    · rintro (z | ⟨k, a, b, d, e⟩)
      · rcases Nat.lt_or_ge J j with w | w
        · exact w
        · have := hG j J w
          omega
      · omega
    · intro z
      exact Or.inr ⟨J, Nat.le_refl _, z, hm, by omega⟩
  · rw [if_neg hc]
    constructor
    · rintro (z | ⟨k, a, b, d, e⟩)
      · exact Or.inl z
      · rcases Nat.lt_or_ge J k with w | w
        · exact Or.inr ⟨k, w, b, d, e⟩
        · have hk : k = J := by omega
          subst hk
          have := hG k j (by omega)
          exact Or.inl (by omega)
    · rintro (z | ⟨k, a, b, d, e⟩)
      · exact Or.inl z
      · exact Or.inr ⟨k, by omega, b, d, e⟩
theorem td_Hchar (s : Nat → Nat) (i : Nat) {c : Nat} (hc : 1 ≤ c) : ∀ j, c ≤ td_H s (i + 1) j ↔ td_Q (td_H s i) (fun k => s i = s (16 + k)) 0 c j := by
  intro j
  induction j with
  | zero =>
    rw [td_Qend (Nat.le_refl _), td_Hi0, td_Hi0]
  | succ j ih =>
    rw [td_HS]
    have hj := td_Hj1 s i j
    constructor
    · intro h
      by_cases h1 : c ≤ td_H s i (j + 1)
      · exact Or.inl h1
      · by_cases h2 : c ≤ td_H s (i + 1) j
        · rcases ih.mp h2 with z | ⟨k, a, b, d, e⟩
          · exact Or.inl (by omega)
          · exact Or.inr ⟨k, a, by omega, d, e⟩
        · by_cases hs : (s i == s (16 + j)) = true
          · rw [if_pos hs] at h
            exact Or.inr ⟨j, by omega, by omega, by simpa using hs, by omega⟩
          · rw [if_neg hs] at h
            omega
    · rintro (z | ⟨k, a, b, d, e⟩)
      · omega
      · rcases Nat.lt_or_ge k j with w | w
        · have := ih.mpr (Or.inr ⟨k, a, w, d, e⟩)
          omega
        · have hk : k = j := by omega
          subst hk
          rw [if_pos (by simpa using d)]
          omega
theorem td_Tout {s : Nat → Nat} {n m i j : Nat} (h : ¬ (i < n ∧ j < m)) : td_T s n m i j = 0 := by
  rw [td_T, if_neg h]
theorem td_Tin {s : Nat → Nat} {n m i j : Nat} (h : i < n) (h' : j < m) : td_T s n m i j = max (max (td_T s n m (i + 1) j) (td_T s n m i (j + 1))) (if (s i == s (16 + j)) = true then td_T s n m (i + 1) (j + 1) + 1 else 0) := by
  rw [td_T, if_pos ⟨h, h'⟩]
theorem td_Tj1 (s : Nat → Nat) (n m i j : Nat) : td_T s n m i (j + 1) ≤ td_T s n m i j := by
  by_cases h : i < n ∧ j < m
  · rw [td_Tin h.1 h.2]; omega
  · rw [td_Tout (j := j + 1) (by omega)]; omega
theorem td_Ti1 (s : Nat → Nat) (n m i j : Nat) : td_T s n m (i + 1) j ≤ td_T s n m i j := by
  by_cases h : i < n ∧ j < m
  · rw [td_Tin h.1 h.2]; omega
  · rw [td_Tout (i := i + 1) (by omega)]; omega
theorem td_Tj (s : Nat → Nat) (n m i : Nat) {j j' : Nat} (h : j ≤ j') : td_T s n m i j' ≤ td_T s n m i j := by
  induction j' with
  | zero => rw [Nat.le_zero.mp h]; exact Nat.le_refl _
  | succ j' ih =>
    rcases Nat.lt_or_ge j (j' + 1) with z | z
    · exact Nat.le_trans (td_Tj1 s n m i j') (ih (by omega))
    · rw [show j = j' + 1 from by omega]; exact Nat.le_refl _
theorem td_Ti (s : Nat → Nat) (n m j : Nat) {i i' : Nat} (h : i ≤ i') : td_T s n m i' j ≤ td_T s n m i j := by
  induction i' with
  | zero => rw [Nat.le_zero.mp h]; exact Nat.le_refl _
  | succ i' ih =>
    rcases Nat.lt_or_ge i (i' + 1) with z | z
    · exact Nat.le_trans (td_Ti1 s n m i' j) (ih (by omega))
    · rw [show i = i' + 1 from by omega]; exact Nat.le_refl _
theorem td_Tb (s : Nat → Nat) (n m : Nat) : ∀ d i j, (n - i) + (m - j) ≤ d → td_T s n m i j ≤ n - i ∧ td_T s n m i j ≤ m - j := by
  intro d
  induction d with
  | zero => intro i j h; rw [td_Tout (by omega)]; omega
  | succ d ih =>
    intro i j h
    by_cases hh : i < n ∧ j < m
    · rw [td_Tin hh.1 hh.2]
      have h1 := ih (i + 1) j (by omega)
      have h2 := ih i (j + 1) (by omega)
      have h3 := ih (i + 1) (j + 1) (by omega)
      split <;> omega
    · rw [td_Tout hh]; omega
theorem td_Tbn (s : Nat → Nat) (n m i j : Nat) : td_T s n m i j ≤ n - i := (td_Tb s n m _ i j (Nat.le_refl _)).1
theorem td_Tbm (s : Nat → Nat) (n m i j : Nat) : td_T s n m i j ≤ m - j := (td_Tb s n m _ i j (Nat.le_refl _)).2
/-- the pair (a, b) can be the first one from (i, j) on -/
theorem td_Tup {s : Nat → Nat} {n m i j a b : Nat} (hi : i ≤ a) (hj : j ≤ b) (ha : a < n) (hb : b < m) (e : s a = s (16 + b)) : td_T s n m (a + 1) (b + 1) + 1 ≤ td_T s n m i j := by
  have h1 := td_Tin (s := s) ha hb
  rw [if_pos (by simpa using e)] at h1
  have h2 := td_Ti s n m j hi
  have h3 := td_Tj s n m a hj
  omega
theorem td_Tex (s : Nat → Nat) (n m : Nat) : ∀ d i j, (n - i) + (m - j) ≤ d → 1 ≤ td_T s n m i j → ∃ a b, i ≤ a ∧ a < n ∧ j ≤ b ∧ b < m ∧ s a = s (16 + b) ∧ td_T s n m (a + 1) (b + 1) + 1 = td_T s n m i j := by
  intro d
  induction d with
  | zero => intro i j h h1; rw [td_Tout (by omega)] at h1; omega
  | succ d ih =>
    intro i j h h1
    by_cases hh : i < n ∧ j < m
    · have e := td_Tin (s := s) hh.1 hh.2
      by_cases c1 : td_T s n m (i + 1) j = td_T s n m i j
      · obtain ⟨a, b, q1, q2, q3, q4, q5, q6⟩ := ih (i + 1) j (by omega) (by omega)
        exact ⟨a, b, by omega, q2, q3, q4, q5, by omega⟩
      · by_cases c2 : td_T s n m i (j + 1) = td_T s n m i j
        · obtain ⟨a, b, q1, q2, q3, q4, q5, q6⟩ := ih i (j + 1) (by omega) (by omega)
          exact ⟨a, b, q1, q2, by omega, q4, q5, by omega⟩
        · by_cases hs : (s i == s (16 + j)) = true
          · rw [if_pos hs] at e
            exact ⟨i, j, Nat.le_refl _, hh.1, Nat.le_refl _, hh.2, by simpa using hs, by omega⟩
          · rw [if_neg hs] at e
            omega
    · rw [td_Tout hh] at h1; omega
/-- what a row of starts says while the matches below J are worked in -/
def td_R (G : Nat → Nat) (mt : Nat → Prop) (J c j : Nat) : Prop := c ≤ G j ∨ ∃ k, j ≤ k ∧ k < J ∧ mt k ∧ c ≤ G (k + 1) + 1
theorem td_Rend {G : Nat → Nat} {mt : Nat → Prop} {J c j : Nat} (h : J ≤ j) : td_R G mt J c j ↔ c ≤ G j :=
  ⟨fun z => z.elim id (fun ⟨k, a, b, _⟩ => absurd b (by omega)), Or.inl⟩
theorem td_Rskip {G : Nat → Nat} {mt : Nat → Prop} {J J' c j : Nat} (h : J ≤ J') (hn : ∀ k, J ≤ k → k < J' → ¬ mt k) : td_R G mt J' c j ↔ td_R G mt J c j := by
  constructor
  · rintro (z | ⟨k, a, b, d, e⟩)
    · exact Or.inl z
    · rcases Nat.lt_or_ge k J with w | w
      · exact Or.inr ⟨k, a, w, d, e⟩
      · exact absurd d (hn k w b)
  · rintro (z | ⟨k, a, b, d, e⟩)
    · exact Or.inl z
    · exact Or.inr ⟨k, a, by omega, d, e⟩
theorem td_Rstep {G : Nat → Nat} {mt : Nat → Prop} {J c j : Nat} (hG : ∀ a b, a ≤ b → G b ≤ G a) (hm : mt J) : td_R G mt (J + 1) c j ↔ (if c = G (J + 1) + 1 then j ≤ J else td_R G mt J c j) := by
  by_cases hc : c = G (J + 1) + 1
  · rw [if_pos hc]
    constructor
    · rintro (z | ⟨k, a, b, d, e⟩)
      · rcases Nat.lt_or_ge J j with w | w
        · have := hG (J + 1) j w
          omega
        · exact w
      · omega
    · intro z
      exact Or.inr ⟨J, z, by omega, hm, by omega⟩
  · rw [if_neg hc]
    constructor
    · rintro (z | ⟨k, a, b, d, e⟩)
      · exact Or.inl z
      · rcases Nat.lt_or_ge k J with w | w
        · exact Or.inr ⟨k, a, w, d, e⟩
        · have hk : k = J := by omega
          subst hk
          have := hG j (k + 1) (by omega)
          exact Or.inl (by omega)
    · rintro (z | ⟨k, a, b, d, e⟩)
      · exact Or.inl z
      · exact Or.inr ⟨k, a, by omega, d, e⟩
theorem td_Tchar (s : Nat → Nat) {n m i : Nat} (hi : i < n) {c : Nat} (hc : 1 ≤ c) : ∀ d j, j + d = m → (c ≤ td_T s n m i j ↔ td_R (td_T s n m (i + 1)) (fun k => s i = s (16 + k)) m c j) := by
  intro d
  induction d with
  | zero =>
    intro j hj
    rw [td_Rend (by omega), td_Tout (by omega), td_Tout (by omega)]
  | succ d ih =>
    intro j hj
    have ih := ih (j + 1) (by omega)
    have hj1 := td_Tj1 s n m (i + 1) j
    rw [td_Tin hi (show j < m by omega)]
    constructor
    · intro h
      by_cases h1 : c ≤ td_T s n m (i + 1) j
      · exact Or.inl h1
      · by_cases h2 : c ≤ td_T s n m i (j + 1)
        · rcases ih.mp h2 with z | ⟨k, a, b, d, e⟩
          · exact Or.inl (by omega)
          · exact Or.inr ⟨k, by omega, b, d, e⟩
        · by_cases hs : (s i == s (16 + j)) = true
          · rw [if_pos hs] at h
            exact Or.inr ⟨j, by omega, by omega, by simpa using hs, by omega⟩
          · rw [if_neg hs] at h
            omega
    · rintro (z | ⟨k, a, b, d, e⟩)
      · omega
      · rcases Nat.lt_or_ge j k with w | w
        · have := ih.mpr (Or.inr ⟨k, w, b, d, e⟩)
          omega
        · have hk : k = j := by omega
          subst hk
          rw [if_pos (by simpa using d)]
          omega
end
section
/-! the last place below J with a symbol (one more; 0: none), the first place that satisfies P (the same) -/
def td_la (f : Nat → Nat) (x : Nat) : Nat → Nat
  | 0 => 0
  | J + 1 => if f J = x then J + 1 else td_la f x J
theorem td_la_le (f : Nat → Nat) (x : Nat) : ∀ J, td_la f x J ≤ J := by
  intro J
  induction J with
  | zero => exact Nat.le_refl _
  | succ J ih =>
    show (if f J = x then J + 1 else td_la f x J) ≤ J + 1
    split <;> omega
theorem td_la_at {f : Nat → Nat} {x c : Nat} : ∀ {J : Nat}, td_la f x J = c + 1 → f c = x := by
  intro J
  induction J with
  | zero => intro h; exact absurd h (by show ¬ (0 = c + 1); omega)
  | succ J ih =>
    intro h
    change (if f J = x then J + 1 else td_la f x J) = c + 1 at h
    by_cases z : f J = x
    · rw [if_pos z] at h
      rw [show c = J from by omega]; exact z
    · rw [if_neg z] at h
      exact ih h
theorem td_la_no {f : Nat → Nat} {x : Nat} : ∀ {J k : Nat}, td_la f x J ≤ k → k < J → f k ≠ x := by
  intro J
  induction J with
  | zero => intro k _ h; omega
  | succ J ih =>
    intro k h hk
    change (if f J = x then J + 1 else td_la f x J) ≤ k at h
    by_cases z : f J = x
    · rw [if_pos z] at h; omega
    · rw [if_neg z] at h
      rcases Nat.lt_or_ge k J with w | w
      · exact ih h w
      · rw [show k = J from by omega]; exact z
def td_fi (P : Nat → Bool) : Nat → Nat → Nat
  | 0, _ => 0
  | d + 1, J => if P J = true then J + 1 else td_fi P d (J + 1)
theorem td_fi_0 (P : Nat → Bool) (J : Nat) : td_fi P 0 J = 0 := rfl
theorem td_fi_t {P : Nat → Bool} {d J : Nat} (h : P J = true) : td_fi P (d + 1) J = J + 1 := if_pos h
theorem td_fi_f {P : Nat → Bool} {d J : Nat} (h : ¬ P J = true) : td_fi P (d + 1) J = td_fi P d (J + 1) := if_neg h
theorem td_fi_s {P : Nat → Bool} : ∀ {d J c : Nat}, td_fi P d J = c + 1 → J ≤ c ∧ c < J + d ∧ P c = true ∧ ∀ k, J ≤ k → k < c → ¬ P k = true := by
  intro d
  induction d with
  | zero => intro J c h; exact absurd h (by rw [td_fi_0]; omega)
  | succ d ih =>
    intro J c h
    by_cases z : P J = true
    · rw [td_fi_t z] at h
      have hc : c = J := by omega
      subst hc
      exact ⟨Nat.le_refl _, by omega, z, fun k a b => absurd a (by omega)⟩
    · rw [td_fi_f z] at h
      obtain ⟨a, b, e, g⟩ := ih h
      refine ⟨by omega, by omega, e, fun k p q => ?_⟩
      rcases Nat.lt_or_ge J k with w | w
      · exact g k w q
      · rw [show k = J from by omega]; exact z
theorem td_fi_n {P : Nat → Bool} : ∀ {d J : Nat}, td_fi P d J = 0 → ∀ k, J ≤ k → k < J + d → ¬ P k = true := by
  intro d
  induction d with
  | zero => intro J _ k a b; omega
  | succ d ih =>
    intro J h k a b
    by_cases z : P J = true
    · rw [td_fi_t z] at h; omega
    · rw [td_fi_f z] at h
      rcases Nat.lt_or_ge J k with w | w
      · exact ih h k w (by omega)
      · rw [show k = J from by omega]; exact z
theorem td_fi_b (P : Nat → Bool) (d J : Nat) : td_fi P d J ≤ J + d := by
  rcases h : td_fi P d J with _ | c
  · omega
  · have := (td_fi_s h).2.1
    omega
theorem td_fi_skip {P : Nat → Bool} : ∀ {a d J : Nat}, (∀ k, J ≤ k → k < J + a → ¬ P k = true) → td_fi P (d + a) J = td_fi P d (J + a) := by
  intro a
  induction a with
  | zero => intro d J _; rfl
  | succ a ih =>
    intro d J h
    rw [show d + (a + 1) = (d + a) + 1 from by omega, td_fi_f (h J (Nat.le_refl _) (by omega)), ih (fun k p q => h k (by omega) (by omega)), show J + 1 + a = J + (a + 1) from by omega]
theorem td_fi_c {P P' : Nat → Bool} : ∀ {d J : Nat}, (∀ k, J ≤ k → k < J + d → P k = P' k) → td_fi P d J = td_fi P' d J := by
  intro d
  induction d with
  | zero => intro J _; rfl
  | succ d ih =>
    intro J h
    by_cases z : P J = true
    · rw [td_fi_t z, td_fi_t (by rw [← h J (Nat.le_refl _) (by omega)]; exact z)]
    · rw [td_fi_f z, td_fi_f (by rw [← h J (Nat.le_refl _) (by omega)]; exact z)]
      exact ih (fun k a b => h k (by omega) (by omega))
/-- the row a, from j on: the first place of the new text with which p pairs are left (one more; 0: none) -/
def td_rc (s : Nat → Nat) (n m j p a : Nat) : Nat := td_fi (fun b => (s a == s (16 + b)) && (td_T s n m (a + 1) (b + 1) + 1 == p)) (m - j) j
/-- the first row with such a place -/
def td_ra (s : Nat → Nat) (n m i j p : Nat) : Nat := td_fi (fun a => td_rc s n m j p a != 0) (n - i) i
/-- behind the first k pairs of the best list -/
def td_bl (s : Nat → Nat) (n m : Nat) : Nat → Nat × Nat
  | 0 => (0, 0)
  | k + 1 => (td_ra s n m (td_bl s n m k).1 (td_bl s n m k).2 (td_T s n m 0 0 - k), td_rc s n m (td_bl s n m k).2 (td_T s n m 0 0 - k) (td_ra s n m (td_bl s n m k).1 (td_bl s n m k).2 (td_T s n m 0 0 - k) - 1))
theorem td_bl0 (s : Nat → Nat) (n m : Nat) : td_bl s n m 0 = (0, 0) := rfl
theorem td_blS1 (s : Nat → Nat) (n m k : Nat) : (td_bl s n m (k + 1)).1 = td_ra s n m (td_bl s n m k).1 (td_bl s n m k).2 (td_T s n m 0 0 - k) := rfl
theorem td_blS2 (s : Nat → Nat) (n m k : Nat) : (td_bl s n m (k + 1)).2 = td_rc s n m (td_bl s n m k).2 (td_T s n m 0 0 - k) ((td_bl s n m (k + 1)).1 - 1) := rfl
theorem td_rc_s {s : Nat → Nat} {n m j p a c : Nat} (h : td_rc s n m j p a = c + 1) : j ≤ c ∧ c < m ∧ s a = s (16 + c) ∧ td_T s n m (a + 1) (c + 1) + 1 = p := by
  obtain ⟨q1, q2, q3, q4⟩ := td_fi_s h
  simp only [Bool.and_eq_true, beq_iff_eq] at q3
  exact ⟨q1, by omega, q3.1, q3.2⟩
theorem td_ra_s {s : Nat → Nat} {n m i j p a : Nat} (h : td_ra s n m i j p = a + 1) : i ≤ a ∧ a < n ∧ td_rc s n m j p a ≠ 0 := by
  obtain ⟨q1, q2, q3, q4⟩ := td_fi_s h
  exact ⟨q1, by omega, by simpa using q3⟩
theorem td_ra_ex {s : Nat → Nat} {n m i j p : Nat} (h1 : 1 ≤ p) (h : td_T s n m i j = p) : td_ra s n m i j p ≠ 0 := by
  intro z
  obtain ⟨a, b, q1, q2, q3, q4, q5, q6⟩ := td_Tex s n m _ i j (Nat.le_refl _) (by omega)
  have h2 := td_fi_n z a q1 (by omega)
  have h3 : td_rc s n m j p a = 0 := by simpa using h2
  have h4 := td_fi_n h3 b q3 (by omega)
  apply h4
  simp only [Bool.and_eq_true, beq_iff_eq]
  exact ⟨q5, by omega⟩
/-- the best list's step -/
theorem td_blk {s : Nat → Nat} {n m : Nat} {k : Nat} (hk : k < td_T s n m 0 0) (hT : td_T s n m (td_bl s n m k).1 (td_bl s n m k).2 = td_T s n m 0 0 - k) :
    ∃ a b, td_bl s n m (k + 1) = (a + 1, b + 1) ∧ (td_bl s n m k).1 ≤ a ∧ a < n ∧ (td_bl s n m k).2 ≤ b ∧ b < m ∧ s a = s (16 + b) ∧ td_T s n m (a + 1) (b + 1) + 1 = td_T s n m 0 0 - k := by
  have h1 := td_ra_ex (by omega) hT
  obtain ⟨a, ha⟩ : ∃ a, td_ra s n m (td_bl s n m k).1 (td_bl s n m k).2 (td_T s n m 0 0 - k) = a + 1 := ⟨_, (Nat.succ_pred h1).symm⟩
  obtain ⟨p1, p2, p3⟩ := td_ra_s ha
  obtain ⟨b, hb⟩ : ∃ b, td_rc s n m (td_bl s n m k).2 (td_T s n m 0 0 - k) a = b + 1 := ⟨_, (Nat.succ_pred p3).symm⟩
  obtain ⟨r1, r2, r3, r4⟩ := td_rc_s hb
  have e1 : (td_bl s n m (k + 1)).1 = a + 1 := ha
  have e2 : (td_bl s n m (k + 1)).2 = b + 1 := by rw [td_blS2, e1]; exact hb
  exact ⟨a, b, Prod.ext e1 e2, p1, p2, r1, r2, r3, r4⟩
theorem td_blT (s : Nat → Nat) (n m : Nat) : ∀ k, k ≤ td_T s n m 0 0 → td_T s n m (td_bl s n m k).1 (td_bl s n m k).2 = td_T s n m 0 0 - k ∧ (td_bl s n m k).1 ≤ n ∧ (td_bl s n m k).2 ≤ m := by
  intro k
  induction k with
  | zero => intro _; exact ⟨rfl, Nat.zero_le _, Nat.zero_le _⟩
  | succ k ih =>
    intro hk
    obtain ⟨a, b, e, q1, q2, q3, q4, q5, q6⟩ := td_blk (by omega) (ih (by omega)).1
    rw [e]
    exact ⟨by show td_T s n m (a + 1) (b + 1) = _; omega, q2, q4⟩
theorem td_blx (s : Nat → Nat) (n m : Nat) {k : Nat} (hk : k < td_T s n m 0 0) : ∃ a b, td_bl s n m (k + 1) = (a + 1, b + 1) ∧ (td_bl s n m k).1 ≤ a ∧ a < n ∧ (td_bl s n m k).2 ≤ b ∧ b < m := by
  obtain ⟨a, b, e, q1, q2, q3, q4, q5, q6⟩ := td_blk hk (td_blT s n m k (by omega)).1
  exact ⟨a, b, e, q1, q2, q3, q4⟩
/-! the script: a value is its kind and four times its symbol -/
def td_sg (g : Nat → Nat) : Nat → Nat → List Nat
  | 0, _ => []
  | d + 1, i => g i :: td_sg g d (i + 1)
theorem td_sg_l (g : Nat → Nat) : ∀ d i, (td_sg g d i).length = d := by
  intro d
  induction d with
  | zero => intro i; rfl
  | succ d ih => intro i; show (td_sg g d (i + 1)).length + 1 = d + 1; rw [ih]
def td_gT (s : Nat → Nat) (i : Nat) : Nat := 1 + 4 * s i
def td_gP (s : Nat → Nat) (j : Nat) : Nat := 2 + 4 * s (16 + j)
/-- what is written between two pairs -/
def td_ed (s : Nat → Nat) (i a j b : Nat) : List Nat := td_sg (td_gT s) (a - i) i ++ td_sg (td_gP s) (b - j) j
theorem td_ed_l (s : Nat → Nat) (i a j b : Nat) : (td_ed s i a j b).length = (a - i) + (b - j) := by
  rw [td_ed, List.length_append, td_sg_l, td_sg_l]
def td_sc (s : Nat → Nat) (n m : Nat) : Nat → List Nat
  | 0 => []
  | k + 1 => (td_sc s n m k ++ td_ed s (td_bl s n m k).1 ((td_bl s n m (k + 1)).1 - 1) (td_bl s n m k).2 ((td_bl s n m (k + 1)).2 - 1)) ++ [0 + 4 * s ((td_bl s n m (k + 1)).1 - 1)]
def td_fin (s : Nat → Nat) (n m : Nat) : List Nat := td_sc s n m (td_T s n m 0 0) ++ td_ed s (td_bl s n m (td_T s n m 0 0)).1 n (td_bl s n m (td_T s n m 0 0)).2 m
theorem td_sc_l (s : Nat → Nat) (n m : Nat) : ∀ k, k ≤ td_T s n m 0 0 → (td_sc s n m k).length ≤ (td_bl s n m k).1 + (td_bl s n m k).2 := by
  intro k
  induction k with
  | zero => intro _; exact Nat.zero_le _
  | succ k ih =>
    intro hk
    have h := ih (by omega)
    obtain ⟨a, b, e, q1, q2, q3, q4⟩ := td_blx s n m (show k < td_T s n m 0 0 by omega)
    show ((td_sc s n m k ++ td_ed s (td_bl s n m k).1 ((td_bl s n m (k + 1)).1 - 1) (td_bl s n m k).2 ((td_bl s n m (k + 1)).2 - 1)) ++ [0 + 4 * s ((td_bl s n m (k + 1)).1 - 1)]).length ≤ _
    rw [List.length_append, List.length_append, td_ed_l, e]
    show _ + (a + 1 - 1 - (td_bl s n m k).1 + (b + 1 - 1 - (td_bl s n m k).2)) + 1 ≤ a + 1 + (b + 1)
    omega
theorem td_fin_l (s : Nat → Nat) (n m : Nat) : (td_fin s n m).length ≤ n + m := by
  have h := td_sc_l s n m _ (Nat.le_refl _)
  have h2 := td_blT s n m _ (Nat.le_refl _)
  rw [td_fin, List.length_append, td_ed_l]
  omega
theorem td_gd1 {l : List Nat} {x q : Nat} (h : q < l.length) : (l ++ [x]).getD q 0 = l.getD q 0 := by
  simp [List.getD, List.getElem?_append_left h]
theorem td_gd2 {l : List Nat} {x : Nat} : (l ++ [x]).getD l.length 0 = x := by
  simp [List.getD]
end
section
/-! the texts, and the links of X -/
def td_B (s : Nat → Nat) (n m : Nat) (Sy Sz : Nat → Int32) : Prop := (∀ k, Sy k = nI (s k)) ∧ (∀ k, s k < 8) ∧ Sz 0 = nI n ∧ Sz 1 = nI m ∧ n ≤ 16 ∧ m ≤ 16
def td_LK (s : Nat → Nat) (m : Nat) (Ne Ol Ea La : Nat → Int32) : Prop :=
  (∀ x, x < 8 → Ne x = td_p (td_la (fun j => s (16 + j)) x m)) ∧ (∀ j, j < m → Ol j = td_p (td_la (fun j => s (16 + j)) (s (16 + j)) j)) ∧
  (∀ x, x < 8 → Ea x = td_p (td_fi (fun j => s (16 + j) == x) m 0)) ∧ (∀ j, j < m → La j = td_p (td_fi (fun k => s (16 + k) == s (16 + j)) (m - (j + 1)) (j + 1)))
section LK
variable {s : Nat → Nat} {n m : Nat} {post : SX → Prop} {Fk Fp Fc : Int32} {Sy Sz Ne Ol Ea La En St Bo Bn Sk Sw : Nat → Int32}
theorem td_x85 (hB : td_B s n m Sy Sz) : ∀ (c : Nat) (Ea La : Nat → Int32), c ≤ m →
    (∀ x, x < 8 → Ea x = td_p (td_fi (fun j => s (16 + j) == x) (m - c) c)) →
    (∀ j, c ≤ j → j < m → La j = td_p (td_fi (fun k => s (16 + k) == s (16 + j)) (m - (j + 1)) (j + 1))) →
    (∀ Ea' La' : Nat → Int32, (∀ x, x < 8 → Ea' x = td_p (td_fi (fun j => s (16 + j) == x) m 0)) → (∀ j, j < m → La' j = td_p (td_fi (fun k => s (16 + k) == s (16 + j)) (m - (j + 1)) (j + 1))) → post (Fk, Fp, Fc, Sy, Sz, Ne, Ol, Ea', La', En, St, Bo, Bn, Sk, Sw)) →
    wX_linkPlaces_85 post Fk Fp Fc (c + 1) (td_p c) Sy Sz Ne Ol Ea La En St Bo Bn Sk Sw := by
  obtain ⟨hS, hs, h0, h1, hn, hm⟩ := hB
  intro c
  induction c with
  | zero =>
    intro Ea La _ hE hL hp
    exact br_t ((td_p_neg (by decide)).mpr rfl) (hp Ea La hE (fun j hj => hL j (Nat.zero_le _) hj))
  | succ c ih =>
    intro Ea La hc hE hL hp
    have hx := hs (16 + c)
    have hb := td_fi_b (fun j => s (16 + j) == s (16 + c)) (m - (c + 1)) (c + 1)
    rw [td_ps]
    refine br_f (nI_pos (by omega)) ⟨pk_in (16 + c) 32 (by omega) (td_16 c), ?_⟩
    refine nm_r (e' := nI (s (16 + c))) (by rw [td_16, nI_clamp (by omega), hS]) ⟨pk_in _ 8 hx, pk_in c 16 (by omega), ?_⟩
    refine nm_r (e' := upd La c (td_p (td_fi (fun j => s (16 + j) == s (16 + c)) (m - (c + 1)) (c + 1)))) (by rw [nI_clamp (by omega), nI_clamp (by omega), hE _ hx, td_pb (by omega)]) ⟨pk_in _ 8 hx, ?_⟩
    refine nm_r (e' := upd Ea (s (16 + c)) (td_p (c + 1))) (by rw [nI_clamp (by omega), td_nb2 (by omega), td_ps]) (nm_e ?_)
    refine ih _ _ (by omega) ?_ ?_ hp
    · intro x hx8
      by_cases z : x = s (16 + c)
      · subst z
        rw [pk_us, show m - c = (m - (c + 1)) + 1 from by omega, td_fi_t (by simp)]
      · rw [pk_un z, hE x hx8, show m - c = (m - (c + 1)) + 1 from by omega, td_fi_f (by simpa using fun e => z e.symm)]
    · intro j hj hjm
      by_cases z : j = c
      · subst z
        rw [pk_us]
      · rw [pk_un z]
        exact hL j (by omega) hjm
theorem td_x30 (hB : td_B s n m Sy Sz) (hEa : ∀ x, x < 8 → Ea x = -1)
    (hp : ∀ Ne Ol Ea La : Nat → Int32, td_LK s m Ne Ol Ea La → post (Fk, Fp, Fc, Sy, Sz, Ne, Ol, Ea, La, En, St, Bo, Bn, Sk, Sw)) : ∀ (d J : Nat) (Ne Ol : Nat → Int32), J + d = m →
    (∀ x, x < 8 → Ne x = td_p (td_la (fun j => s (16 + j)) x J)) →
    (∀ j, j < J → Ol j = td_p (td_la (fun j => s (16 + j)) (s (16 + j)) j)) →
    wX_linkPlaces_30 post Fk Fp Fc (d + 1) (nI J) Sy Sz Ne Ol Ea La En St Bo Bn Sk Sw := by
  have hB' := hB
  obtain ⟨hS, hs, h0, h1, hn, hm⟩ := hB
  intro d
  induction d with
  | zero =>
    intro J Ne Ol hJ hN hO
    have hJm : J = m := by omega
    subst hJm
    refine br_t (by rw [h1]; exact nI_le (Nat.le_refl _) (by omega)) (nm_r (e' := td_p J) (by rw [h1, td_sub1]) (Exists.intro (J + 1) ?_))
    refine td_x85 hB' J Ea La (Nat.le_refl _) ?_ (fun j a b => absurd a (by omega)) (fun Ea' La' hE hL => hp _ _ _ _ ⟨hN, hO, hE, hL⟩)
    intro x hx
    rw [hEa x hx, Nat.sub_self, td_fi_0, td_p0]
  | succ d ih =>
    intro J Ne Ol hJ hN hO
    have hx := hs (16 + J)
    have hb := td_la_le (fun j => s (16 + j)) (s (16 + J)) J
    refine br_f (by rw [h1]; exact nI_ge (by omega) (by omega)) ⟨pk_in (16 + J) 32 (by omega) (td_16 J), ?_⟩
    refine nm_r (e' := nI (s (16 + J))) (by rw [td_16, nI_clamp (by omega), hS]) ⟨pk_in _ 8 hx, pk_in J 16 (by omega), ?_⟩
    refine nm_r (e' := upd Ol J (td_p (td_la (fun j => s (16 + j)) (s (16 + J)) J))) (by rw [nI_clamp (by omega), nI_clamp (by omega), hN _ hx, td_pb (by omega)]) ⟨pk_in _ 8 hx, ?_⟩
    refine nm_r (e' := upd Ne (s (16 + J)) (td_p (J + 1))) (by rw [nI_clamp (by omega), td_nb2 (by omega), td_ps]) (nm_r (e' := nI (J + 1)) (nI_1 J) ?_)
    refine ih (J + 1) _ _ (by omega) ?_ ?_
    · intro x hx8
      show _ = td_p (if s (16 + J) = x then J + 1 else td_la (fun j => s (16 + j)) x J)
      by_cases z : x = s (16 + J)
      · subst z
        rw [pk_us, if_pos rfl]
      · rw [pk_un z, hN x hx8, if_neg (fun e => z e.symm)]
    · intro j hj
      by_cases z : j = J
      · subst z
        rw [pk_us]
      · rw [pk_un z]
        exact hO j (by omega)
theorem td_x2 (hB : td_B s n m Sy Sz)
    (hp : ∀ Ne Ol Ea La : Nat → Int32, td_LK s m Ne Ol Ea La → post (Fk, Fp, Fc, Sy, Sz, Ne, Ol, Ea, La, En, St, Bo, Bn, Sk, Sw)) : ∀ (d x : Nat) (Ne Ea : Nat → Int32), x + d = 8 →
    (∀ y, y < x → Ne y = -1 ∧ Ea y = -1) →
    wX_linkPlaces_2 post Fk Fp Fc (d + 1) (nI x) Sy Sz Ne Ol Ea La En St Bo Bn Sk Sw := by
  intro d
  induction d with
  | zero =>
    intro x Ne Ea hx hI
    have hx8 : x = 8 := by omega
    subst hx8
    refine br_t (by decide) (Exists.intro (m + 1) ?_)
    refine td_x30 hB (fun y hy => (hI y hy).2) hp m 0 Ne Ol (by omega) ?_ (fun j hj => absurd hj (by omega))
    intro y hy
    rw [(hI y hy).1]
    exact td_p0.symm
  | succ d ih =>
    intro x Ne Ea hx hI
    refine br_f (nI_ge (b := 8) (by omega) (by decide)) ⟨pk_in x 8 (by omega), ?_⟩
    refine nm_r (e' := upd Ne x (-1)) (by rw [nI_clamp (by omega)]; rfl) ⟨pk_in x 8 (by omega), ?_⟩
    refine nm_r (e' := upd Ea x (-1)) (by rw [nI_clamp (by omega)]; rfl) (nm_r (e' := nI (x + 1)) (nI_1 x) ?_)
    refine ih (x + 1) _ _ (by omega) ?_
    intro y hy
    by_cases z : y = x
    · subst z
      rw [pk_us, pk_us]
      exact ⟨rfl, rfl⟩
    · rw [pk_un z, pk_un z]
      exact hI y (by omega)
theorem td_link (hB : td_B s n m Sy Sz) (hp : ∀ Ne Ol Ea La : Nat → Int32, td_LK s m Ne Ol Ea La → post (Fk, Fp, Fc, Sy, Sz, Ne, Ol, Ea, La, En, St, Bo, Bn, Sk, Sw)) : wpX_linkPlaces post (Fk, Fp, Fc, Sy, Sz, Ne, Ol, Ea, La, En, St, Bo, Bn, Sk, Sw) :=
  Exists.intro 9 (td_x2 hB hp 8 0 Ne Ea rfl (fun y hy => absurd hy (by omega)))
end LK
end
section
/-! the thresholds of X from the front: a row of ends holds Q -/
def td_ER (m : Nat) (En : Nat → Int32) (b : Nat) (Q : Nat → Nat → Prop) : Prop := ∀ c, c ≤ 16 → ∃ v, v ≤ 100 ∧ En (b + c) = nI v ∧ ∀ j, j ≤ m → 1 ≤ c → (v ≤ j ↔ Q c j)
def td_EA (s : Nat → Nat) (m i : Nat) (En : Nat → Int32) : Prop := ∀ i', i' ≤ i → td_ER m En (i' * 17) (fun c j => c ≤ td_H s i' j)
theorem td_ER_c {m : Nat} {En : Nat → Int32} {b : Nat} {Q Q' : Nat → Nat → Prop} (h : td_ER m En b Q) (e : ∀ c j, 1 ≤ c → j ≤ m → (Q c j ↔ Q' c j)) : td_ER m En b Q' := by
  intro c hc
  obtain ⟨v, hv, hE, hq⟩ := h c hc
  exact ⟨v, hv, hE, fun j hj h1 => (hq j hj h1).trans (e c j h1 hj)⟩
theorem td_ER_o {m : Nat} {En : Nat → Int32} {b k : Nat} {x : Int32} {Q : Nat → Nat → Prop} (h : td_ER m En b Q) (hk : k < b ∨ b + 16 < k) : td_ER m (upd En k x) b Q := by
  intro c hc
  obtain ⟨v, hv, hE, hq⟩ := h c hc
  exact ⟨v, hv, by rw [pk_un (by omega)]; exact hE, hq⟩
theorem td_EA_o {s : Nat → Nat} {m i : Nat} {En : Nat → Int32} {k : Nat} {x : Int32} (h : td_EA s m i En) (hk : (i + 1) * 17 ≤ k) : td_EA s m i (upd En k x) := by
  intro i' hi'
  exact td_ER_o (h i' hi') (Or.inr (by omega))
theorem td_ER_u {m : Nat} {En : Nat → Int32} {b J : Nat} {G : Nat → Nat} {mt : Nat → Prop} (h : td_ER m En b (td_Q G mt (J + 1))) (hG : ∀ a b, a ≤ b → G a ≤ G b) (hm : mt J) (hJ : J < 16) : td_ER m (upd En (b + (G J + 1)) (nI (J + 1))) b (td_Q G mt J) := by
  intro c hc
  obtain ⟨v, hv, hE, hq⟩ := h c hc
  by_cases z : c = G J + 1
  · subst z
    refine ⟨J + 1, by omega, pk_us, fun j hj h1 => ?_⟩
    rw [td_Qstep hG hm, if_pos rfl]
  · refine ⟨v, hv, by rw [pk_un (by omega)]; exact hE, fun j hj h1 => ?_⟩
    rw [td_Qstep hG hm, if_neg z]
    exact hq j hj h1
section FE
variable {s : Nat → Nat} {n m : Nat} {Fk Fp Fc : Int32} {Sy Sz Ne Ol Ea La En St Bo Bn Sk Sw : Nat → Int32}
theorem td_x9b {post : Int32 → Prop} {b g : Nat} {x2 : Int32} (hb : b + 16 < 289) (hc : ∀ c, 1 ≤ c → c ≤ 16 → (En (b + c) < x2 ↔ c ≤ g)) (hp : post (nI (g + 1))) :
    ∀ d r lo hi : Nat, r + d = 4 → hi - lo < 2 ^ d → 1 ≤ lo → lo ≤ g + 1 → g + 1 ≤ hi → hi ≤ 16 →
    wX_firstNotBelow_9 post (nI b) x2 Fk Fp Fc Sy Sz Ne Ol Ea La En St Bo Bn Sk Sw (d + 1) (nI lo) (nI hi) (nI r) := by
  intro d
  induction d with
  | zero =>
    intro r lo hi hr hd h1 h2 h3 h4
    have : lo = g + 1 := by omega
    subst this
    exact br_f (nI_ge (b := 5) (by omega) (by decide)) (br_t (nI_le (by omega) (by omega)) hp)
  | succ d ih =>
    intro r lo hi hr hd h1 h2 h3 h4
    have hpow : 2 ^ (d + 1) = 2 ^ d * 2 := Nat.pow_succ ..
    refine br_f (nI_ge (b := 5) (by omega) (by decide)) (pk_le hi lo (fun z => ?_) (fun z => ?_))
    · have : lo = g + 1 := by omega
      subst this
      exact hp
    · refine nm_r (e' := nI ((lo + hi) / 2)) (by rw [nI_add, pk_shrN (by omega) _ 1 (by decide)]) ⟨pk_in (b + (lo + hi) / 2) 289 (by omega) (nI_add _ _), ?_⟩
      rw [nI_add, nI_clamp (by omega)]
      refine ek_if (hc ((lo + hi) / 2) (by omega) (by omega)) (fun w => ?_) (fun w => ?_)
      · exact nm_r (e' := nI ((lo + hi) / 2 + 1)) (nI_1 _) (nm_r (e' := nI (r + 1)) (nI_1 r) (ih (r + 1) ((lo + hi) / 2 + 1) hi (by omega) (by omega) (by omega) (by omega) (by omega) (by omega)))
      · exact nm_r (e' := nI (r + 1)) (nI_1 r) (ih (r + 1) lo ((lo + hi) / 2) (by omega) (by omega) (by omega) (by omega) (by omega) (by omega))
theorem td_fnb {post : Int32 → Prop} {b J : Nat} {x1 x2 : Int32} {G : Nat → Nat} {mt : Nat → Prop} (h : td_ER m En b (td_Q G mt (J + 1))) (hb : b + 16 < 289) (hJ : J < m) (hm : m ≤ 16) (hG : G J < 16)
    (e1 : x1 = nI b) (e2 : x2 = nI (J + 1)) (hp : post (nI (G J + 1))) : wpX_firstNotBelow post (Fk, Fp, Fc, Sy, Sz, Ne, Ol, Ea, La, En, St, Bo, Bn, Sk, Sw) x1 x2 := by
  subst e1 e2
  refine Exists.intro 5 (td_x9b (g := G J) hb ?_ hp 4 0 1 16 rfl (by decide) (by omega) (by omega) (by omega) (by omega))
  intro c h1 hc
  obtain ⟨v, hv, hE, hq⟩ := h c hc
  rw [hE, nI_ltI (by omega) (by omega)]
  have := (hq J (by omega) h1).trans (td_Qend (Nat.le_succ J))
  omega
theorem td_x95 {post : SX → Prop} {J33 : Int32 → (Nat → Int32) → (Nat → Int32) → (Nat → Int32) → (Nat → Int32) → (Nat → Int32) → (Nat → Int32) → (Nat → Int32) → (Nat → Int32) → (Nat → Int32) → (Nat → Int32) → (Nat → Int32) → (Nat → Int32) → Prop} {i : Nat} (hB : td_B s n m Sy Sz)
    (hO : ∀ j, j < m → Ol j = td_p (td_la (fun j => s (16 + j)) (s (16 + j)) j)) (hi : i < n)
    (hJ : ∀ En : Nat → Int32, td_EA s m (i + 1) En → J33 (nI (i + 1)) Sy Sz Ne Ol Ea La En St Bo Bn Sk Sw) :
    ∀ (f c r J : Nat) (En : Nat → Int32), c = td_la (fun j => s (16 + j)) (s i) J → J ≤ m → r + c ≤ 16 → c < f → td_EA s m i En →
    td_ER m En ((i + 1) * 17) (td_Q (td_H s i) (fun k => s i = s (16 + k)) c) →
    wX_findEnds_95 post J33 (nI i) Fk Fp Fc f (td_p c) (nI r) Sy Sz Ne Ol Ea La En St Bo Bn Sk Sw := by
  obtain ⟨hS, hs, h0, h1, hn, hm⟩ := hB
  intro f
  induction f with
  | zero => intro c r J En _ _ _ hf; exact absurd hf (by omega)
  | succ f ih =>
    intro c r J En hc hJm hr hf hA hR
    rcases c with _ | c
    · have K : J33 (nI (i + 1)) Sy Sz Ne Ol Ea La En St Bo Bn Sk Sw := by
        apply hJ
        intro i' hi'
        rcases Nat.lt_or_ge i i' with w | w
        · rw [show i' = i + 1 from by omega]
          exact td_ER_c hR (fun c j hc1 _ => (td_Hchar s i hc1 j).symm)
        · exact hA i' w
      exact br_c (fun _ => nm_r (nI_1 i) K) (fun _ => br_t ((td_p_neg (by decide)).mpr rfl) (nm_r (nI_1 i) K))
    · have hle := td_la_le (fun j => s (16 + j)) (s i) J
      have hat : s (16 + c) = s i := td_la_at (f := fun j => s (16 + j)) hc.symm
      have hH := td_Hb s i c
      have hnx := td_la_le (fun j => s (16 + j)) (s i) c
      rw [td_ps]
      refine br_f (nI_ge (b := 16) (by omega) (by decide)) (br_f (nI_pos (by omega)) ?_)
      refine td_fnb (J := c) hR (by omega) (by omega) hm (by omega) (by rw [nI_1, show (17 : Int32) = nI 17 from rfl, pk_mul]) (nI_1 c) ?_
      refine ⟨pk_in ((i + 1) * 17 + (td_H s i c + 1)) 289 (by omega) (td_row1 _ _), ?_⟩
      refine nm_r (e' := upd En ((i + 1) * 17 + (td_H s i c + 1)) (nI (c + 1))) (by rw [td_row1, nI_clamp (by omega), nI_1, td_nb2 (by omega)]) ⟨pk_in c 16 (by omega), ?_⟩
      refine nm_r (e' := td_p (td_la (fun j => s (16 + j)) (s i) c)) (by rw [nI_clamp (by omega), hO c (by omega), hat]) (nm_r (e' := nI (r + 1)) (nI_1 r) ?_)
      refine ih _ (r + 1) c _ rfl (by omega) (by omega) (by omega) (td_EA_o hA (by omega)) ?_
      refine td_ER_c (td_ER_u hR (fun a b hab => td_Hj s i hab) hat.symm (by omega)) (fun c' j _ _ => ?_)
      exact (td_Qskip hnx (fun k a b e => td_la_no (f := fun j => s (16 + j)) a b e.symm)).symm
theorem td_x45 {post : SX → Prop} {J33 : Int32 → (Nat → Int32) → (Nat → Int32) → (Nat → Int32) → (Nat → Int32) → (Nat → Int32) → (Nat → Int32) → (Nat → Int32) → (Nat → Int32) → (Nat → Int32) → (Nat → Int32) → (Nat → Int32) → (Nat → Int32) → Prop} {i : Nat} (hB : td_B s n m Sy Sz) (hL : td_LK s m Ne Ol Ea La) (hi : i < n)
    (hJ : ∀ En : Nat → Int32, td_EA s m (i + 1) En → J33 (nI (i + 1)) Sy Sz Ne Ol Ea La En St Bo Bn Sk Sw) :
    ∀ (d c : Nat) (En : Nat → Int32), c + d = 17 → td_EA s m i En → (∀ q, q < c → En ((i + 1) * 17 + q) = En (i * 17 + q)) →
    wX_findEnds_45 post J33 (nI i) Fk Fp Fc (d + 1) (nI c) Sy Sz Ne Ol Ea La En St Bo Bn Sk Sw := by
  have hB' := hB
  obtain ⟨hS, hs, h0, h1, hn, hm⟩ := hB
  intro d
  induction d with
  | zero =>
    intro c En hc hA hE
    have hc17 : c = 17 := by omega
    subst hc17
    have hx := hs i
    have hla := td_la_le (fun j => s (16 + j)) (s i) m
    refine br_t (by decide) ⟨pk_in i 32 (by omega), pk_in (s i) 8 hx (by rw [nI_clamp (by omega), hS]), ?_⟩
    refine nm_r (e' := td_p (td_la (fun j => s (16 + j)) (s i) m)) (by rw [nI_clamp (n := i) (by omega), hS, nI_clamp (by omega), hL.1 _ hx]) (Exists.intro 17 ?_)
    refine td_x95 hB' hL.2.1 hi hJ 17 _ 0 m En rfl (Nat.le_refl _) (by omega) (by omega) hA ?_
    intro q hq
    obtain ⟨v, hv, hEv, hqv⟩ := hA i (Nat.le_refl _) q hq
    refine ⟨v, hv, by rw [hE q (by omega)]; exact hEv, fun j hj h1 => (hqv j hj h1).trans ?_⟩
    exact (td_Qend hj).symm.trans (td_Qskip hla (fun k a b e => td_la_no (f := fun j => s (16 + j)) a b e.symm)).symm
  | succ d ih =>
    intro c En hc hA hE
    obtain ⟨v, hv, hEv, hqv⟩ := hA i (Nat.le_refl _) c (by omega)
    refine br_f (nI_ge (b := 17) (by omega) (by decide)) ⟨pk_in (i * 17 + c) 289 (by omega) (td_row _ _), pk_in ((i + 1) * 17 + c) 289 (by omega) (td_row1 _ _), ?_⟩
    refine nm_r (e' := upd En ((i + 1) * 17 + c) (nI v)) (by rw [td_row1, td_row, nI_clamp (by omega), nI_clamp (by omega), hEv, td_nb (by omega)]) (nm_r (e' := nI (c + 1)) (nI_1 c) ?_)
    refine ih (c + 1) _ (by omega) (td_EA_o hA (by omega)) ?_
    intro q hq
    rw [pk_un (j := i * 17 + q) (by omega)]
    by_cases z : q = c
    · subst z
      rw [pk_us, hEv]
    · rw [pk_un (by omega)]
      exact hE q (by omega)
theorem td_x33 {post : SX → Prop} (hB : td_B s n m Sy Sz) (hL : td_LK s m Ne Ol Ea La)
    (hp : ∀ En : Nat → Int32, td_EA s m n En → post (Fk, Fp, Fc, Sy, Sz, Ne, Ol, Ea, La, En, St, Bo, Bn, Sk, Sw)) :
    ∀ (d i : Nat) (En : Nat → Int32), i + d = n → td_EA s m i En → wX_findEnds_33 post Fk Fp Fc (d + 1) (nI i) Sy Sz Ne Ol Ea La En St Bo Bn Sk Sw := by
  have hB' := hB
  obtain ⟨hS, hs, h0, h1, hn, hm⟩ := hB
  intro d
  induction d with
  | zero =>
    intro i En hi hA
    have hin : i = n := by omega
    subst hin
    exact br_t (by rw [h0]; exact nI_le (Nat.le_refl _) (by omega)) (hp En hA)
  | succ d ih =>
    intro i En hi hA
    refine br_f (by rw [h0]; exact nI_ge (by omega) (by omega)) (Exists.intro 18 ?_)
    exact td_x45 hB' hL (by omega) (fun En' hA' => ih (i + 1) En' (by omega) hA') 17 0 En rfl hA (fun q hq => absurd hq (by omega))
theorem td_e2 {post : SX → Prop} (hB : td_B s n m Sy Sz) (hL : td_LK s m Ne Ol Ea La)
    (hp : ∀ En : Nat → Int32, td_EA s m n En → post (Fk, Fp, Fc, Sy, Sz, Ne, Ol, Ea, La, En, St, Bo, Bn, Sk, Sw)) :
    ∀ (d c : Nat) (En : Nat → Int32), c + d = 17 → (∀ q, q < c → En q = nI (if q = 0 then 0 else 100)) → wX_findEnds_2 post Fk Fp Fc (d + 1) (nI c) Sy Sz Ne Ol Ea La En St Bo Bn Sk Sw := by
  have hB' := hB
  obtain ⟨hS, hs, h0, h1, hn, hm⟩ := hB
  intro d
  induction d with
  | zero =>
    intro c En hc hE
    have hc17 : c = 17 := by omega
    subst hc17
    refine br_t (by decide) (Exists.intro (n + 1) (td_x33 hB' hL hp n 0 En (by omega) ?_))
    intro i' hi'
    have : i' = 0 := by omega
    subst this
    intro q hq
    refine ⟨if q = 0 then 0 else 100, by split <;> omega, by rw [Nat.zero_mul, Nat.zero_add]; exact hE q (by omega), fun j hj h1 => ?_⟩
    show _ ↔ q ≤ td_H s 0 j
    rw [if_neg (by omega), td_H0]
    omega
  | succ d ih =>
    intro c En hc hE
    have step : ∀ w : Nat, w = (if c = 0 then 0 else 100) → wX_findEnds_2 post Fk Fp Fc (d + 1) (nI (c + 1)) Sy Sz Ne Ol Ea La (upd En c (nI w)) St Bo Bn Sk Sw := by
      intro w hw
      refine ih (c + 1) _ (by omega) ?_
      intro q hq
      by_cases z : q = c
      · subst z
        rw [pk_us, hw]
      · rw [pk_un z]
        exact hE q (by omega)
    refine br_f (nI_ge (b := 17) (by omega) (by decide)) (pk_eq c 0 (fun z => ?_) (fun z => ?_))
    · exact ⟨pk_in c 289 (by omega), nm_r (e' := upd En c (nI 0)) (by rw [nI_clamp (by omega)]; rfl) (nm_r (e' := nI (c + 1)) (nI_1 c) (step 0 (by rw [if_pos z])))⟩
    · exact ⟨pk_in c 289 (by omega), nm_r (e' := upd En c (nI 100)) (by rw [nI_clamp (by omega)]; rfl) (nm_r (e' := nI (c + 1)) (nI_1 c) (step 100 (by rw [if_neg z])))⟩
theorem td_ends {post : SX → Prop} (hB : td_B s n m Sy Sz) (hL : td_LK s m Ne Ol Ea La)
    (hp : ∀ En : Nat → Int32, td_EA s m n En → post (Fk, Fp, Fc, Sy, Sz, Ne, Ol, Ea, La, En, St, Bo, Bn, Sk, Sw)) : wpX_findEnds post (Fk, Fp, Fc, Sy, Sz, Ne, Ol, Ea, La, En, St, Bo, Bn, Sk, Sw) :=
  Exists.intro 18 (td_e2 hB hL hp 17 0 En rfl (fun q hq => absurd hq (by omega)))
end FE
end
section
/-! the thresholds of X from the end: a row of starts holds R (a cell is one more than its start) -/
def td_SR (m : Nat) (St : Nat → Int32) (b : Nat) (R : Nat → Nat → Prop) : Prop := ∀ c, c ≤ 16 → ∃ v, v ≤ 17 ∧ St (b + c) = td_p v ∧ ∀ j, j ≤ m → 1 ≤ c → (j < v ↔ R c j)
def td_SA (s : Nat → Nat) (n m i : Nat) (St : Nat → Int32) : Prop := ∀ i', i ≤ i' → i' ≤ n → td_SR m St (i' * 17) (fun c j => c ≤ td_T s n m i' j)
theorem td_SR_c {m : Nat} {St : Nat → Int32} {b : Nat} {R R' : Nat → Nat → Prop} (h : td_SR m St b R) (e : ∀ c j, 1 ≤ c → j ≤ m → (R c j ↔ R' c j)) : td_SR m St b R' := by
  intro c hc
  obtain ⟨v, hv, hE, hq⟩ := h c hc
  exact ⟨v, hv, hE, fun j hj h1 => (hq j hj h1).trans (e c j h1 hj)⟩
theorem td_SR_o {m : Nat} {St : Nat → Int32} {b k : Nat} {x : Int32} {R : Nat → Nat → Prop} (h : td_SR m St b R) (hk : k < b ∨ b + 16 < k) : td_SR m (upd St k x) b R := by
  intro c hc
  obtain ⟨v, hv, hE, hq⟩ := h c hc
  exact ⟨v, hv, by rw [pk_un (by omega)]; exact hE, hq⟩
theorem td_SA_o {s : Nat → Nat} {n m i : Nat} {St : Nat → Int32} {k : Nat} {x : Int32} (h : td_SA s n m (i + 1) St) (hk : k < (i + 1) * 17) : td_SA s n m (i + 1) (upd St k x) := by
  intro i' hi' hn'
  exact td_SR_o (h i' hi' hn') (Or.inl (by omega))
theorem td_SR_u {m : Nat} {St : Nat → Int32} {b J : Nat} {G : Nat → Nat} {mt : Nat → Prop} (h : td_SR m St b (td_R G mt J)) (hG : ∀ a b, a ≤ b → G b ≤ G a) (hm : mt J) (hJ : J < 16) : td_SR m (upd St (b + (G (J + 1) + 1)) (nI J)) b (td_R G mt (J + 1)) := by
  intro c hc
  obtain ⟨v, hv, hE, hq⟩ := h c hc
  by_cases z : c = G (J + 1) + 1
  · subst z
    refine ⟨J + 1, by omega, by rw [pk_us, td_ps], fun j hj h1 => ?_⟩
    rw [td_Rstep hG hm, if_pos rfl]
    omega
  · refine ⟨v, hv, by rw [pk_un (by omega)]; exact hE, fun j hj h1 => ?_⟩
    rw [td_Rstep hG hm, if_neg z]
    exact hq j hj h1
section FS
variable {s : Nat → Nat} {n m : Nat} {Fk Fp Fc : Int32} {Sy Sz Ne Ol Ea La En St Bo Bn Sk Sw : Nat → Int32}
theorem td_x9a {post : Int32 → Prop} {b g : Nat} {x2 : Int32} (hb : b + 16 < 289) (hc : ∀ c, 1 ≤ c → c ≤ 16 → (x2 < St (b + c) ↔ c ≤ g)) (hp : post (nI (g + 1))) :
    ∀ d r lo hi : Nat, r + d = 4 → hi - lo < 2 ^ d → 1 ≤ lo → lo ≤ g + 1 → g + 1 ≤ hi → hi ≤ 16 →
    wX_firstNotAbove_9 post (nI b) x2 Fk Fp Fc Sy Sz Ne Ol Ea La En St Bo Bn Sk Sw (d + 1) (nI lo) (nI hi) (nI r) := by
  intro d
  induction d with
  | zero =>
    intro r lo hi hr hd h1 h2 h3 h4
    have : lo = g + 1 := by omega
    subst this
    exact br_f (nI_ge (b := 5) (by omega) (by decide)) (br_t (nI_le (by omega) (by omega)) hp)
  | succ d ih =>
    intro r lo hi hr hd h1 h2 h3 h4
    have hpow : 2 ^ (d + 1) = 2 ^ d * 2 := Nat.pow_succ ..
    refine br_f (nI_ge (b := 5) (by omega) (by decide)) (pk_le hi lo (fun z => ?_) (fun z => ?_))
    · have : lo = g + 1 := by omega
      subst this
      exact hp
    · refine nm_r (e' := nI ((lo + hi) / 2)) (by rw [nI_add, pk_shrN (by omega) _ 1 (by decide)]) ⟨pk_in (b + (lo + hi) / 2) 289 (by omega) (nI_add _ _), ?_⟩
      rw [nI_add, nI_clamp (by omega)]
      refine ek_if (hc ((lo + hi) / 2) (by omega) (by omega)) (fun w => ?_) (fun w => ?_)
      · exact nm_r (e' := nI ((lo + hi) / 2 + 1)) (nI_1 _) (nm_r (e' := nI (r + 1)) (nI_1 r) (ih (r + 1) ((lo + hi) / 2 + 1) hi (by omega) (by omega) (by omega) (by omega) (by omega) (by omega)))
      · exact nm_r (e' := nI (r + 1)) (nI_1 r) (ih (r + 1) lo ((lo + hi) / 2) (by omega) (by omega) (by omega) (by omega) (by omega) (by omega))
theorem td_fna {post : Int32 → Prop} {b J : Nat} {x1 x2 : Int32} {G : Nat → Nat} {mt : Nat → Prop} (h : td_SR m St b (td_R G mt J)) (hb : b + 16 < 289) (hJ : J < m) (hm : m ≤ 16) (hG : G (J + 1) < 16)
    (e1 : x1 = nI b) (e2 : x2 = nI J) (hp : post (nI (G (J + 1) + 1))) : wpX_firstNotAbove post (Fk, Fp, Fc, Sy, Sz, Ne, Ol, Ea, La, En, St, Bo, Bn, Sk, Sw) x1 x2 := by
  subst e1 e2
  refine Exists.intro 5 (td_x9a (g := G (J + 1)) hb ?_ hp 4 0 1 16 rfl (by decide) (by omega) (by omega) (by omega) (by omega))
  intro c h1 hc
  obtain ⟨v, hv, hE, hq⟩ := h c hc
  rw [hE, td_lt_p (by omega) (by omega)]
  exact (hq (J + 1) (by omega) h1).trans (td_Rend (Nat.le_succ J))
theorem td_x107 {post : SX → Prop} {J50 : Int32 → (Nat → Int32) → (Nat → Int32) → (Nat → Int32) → (Nat → Int32) → (Nat → Int32) → (Nat → Int32) → (Nat → Int32) → (Nat → Int32) → (Nat → Int32) → (Nat → Int32) → (Nat → Int32) → (Nat → Int32) → Prop} {i : Nat} (hB : td_B s n m Sy Sz)
    (hO : ∀ j, j < m → La j = td_p (td_fi (fun k => s (16 + k) == s (16 + j)) (m - (j + 1)) (j + 1))) (hi : i < n)
    (hJ : ∀ St : Nat → Int32, td_SA s n m i St → J50 (td_p i) Sy Sz Ne Ol Ea La En St Bo Bn Sk Sw) :
    ∀ (f c r J : Nat) (St : Nat → Int32), c = td_fi (fun k => s (16 + k) == s i) (m - J) J → J ≤ m → r ≤ J → m - J < f → td_SA s n m (i + 1) St →
    td_SR m St (i * 17) (td_R (td_T s n m (i + 1)) (fun k => s i = s (16 + k)) J) →
    wX_findStarts_107 post J50 (nI i) Fk Fp Fc f (td_p c) (nI r) Sy Sz Ne Ol Ea La En St Bo Bn Sk Sw := by
  obtain ⟨hS, hs, h0, h1, hn, hm⟩ := hB
  intro f
  induction f with
  | zero => intro c r J St _ _ _ hf; exact absurd hf (by omega)
  | succ f ih =>
    intro c r J St hc hJm hr hf hA hR
    rcases c with _ | c
    · have K : J50 (td_p i) Sy Sz Ne Ol Ea La En St Bo Bn Sk Sw := by
        apply hJ
        intro i' hi' hin'
        rcases Nat.lt_or_ge i i' with w | w
        · exact hA i' w hin'
        · rw [show i' = i from by omega]
          refine td_SR_c hR (fun c j hc1 hj => ?_)
          refine Iff.trans ?_ (td_Tchar s hi hc1 (m - j) j (by omega)).symm
          exact (td_Rskip hJm (fun k a b e => td_fi_n hc.symm k a (by omega) (by simpa using e.symm))).symm
      exact br_c (fun _ => nm_e K) (fun _ => br_t ((td_p_neg (by decide)).mpr rfl) (nm_e K))
    · obtain ⟨q1, q2, q3, q4⟩ := td_fi_s hc.symm
      have hat : s (16 + c) = s i := by simpa using q3
      have hT := td_Tbm s n m (i + 1) (c + 1)
      rw [td_ps]
      refine br_f (nI_ge (b := 16) (by omega) (by decide)) (br_f (nI_pos (by omega)) ?_)
      have hR' : td_SR m St (i * 17) (td_R (td_T s n m (i + 1)) (fun k => s i = s (16 + k)) c) :=
        td_SR_c hR (fun c' j _ _ => (td_Rskip q1 (fun k a b e => q4 k a b (by simpa using e.symm))).symm)
      refine td_fna (J := c) hR' (by omega) (by omega) hm (by omega) (by rw [show (17 : Int32) = nI 17 from rfl, pk_mul]) rfl ?_
      refine ⟨pk_in (i * 17 + (td_T s n m (i + 1) (c + 1) + 1)) 289 (by omega) (td_row _ _), ?_⟩
      refine nm_r (e' := upd St (i * 17 + (td_T s n m (i + 1) (c + 1) + 1)) (nI c)) (by rw [td_row, nI_clamp (by omega), td_nb2 (by omega)]) ⟨pk_in c 16 (by omega), ?_⟩
      refine nm_r (e' := td_p (td_fi (fun k => s (16 + k) == s i) (m - (c + 1)) (c + 1))) (by rw [nI_clamp (by omega), hO c (by omega), hat]) (nm_r (e' := nI (r + 1)) (nI_1 r) ?_)
      refine ih _ (r + 1) (c + 1) _ rfl (by omega) (by omega) (by omega) (td_SA_o hA (by omega)) ?_
      exact td_SR_u hR' (fun a b hab => td_Tj s n m (i + 1) hab) hat.symm (by omega)
theorem td_x56 {post : SX → Prop} {J50 : Int32 → (Nat → Int32) → (Nat → Int32) → (Nat → Int32) → (Nat → Int32) → (Nat → Int32) → (Nat → Int32) → (Nat → Int32) → (Nat → Int32) → (Nat → Int32) → (Nat → Int32) → (Nat → Int32) → (Nat → Int32) → Prop} {i : Nat} (hB : td_B s n m Sy Sz) (hL : td_LK s m Ne Ol Ea La) (hi : i < n)
    (hJ : ∀ St : Nat → Int32, td_SA s n m i St → J50 (td_p i) Sy Sz Ne Ol Ea La En St Bo Bn Sk Sw) :
    ∀ (d c : Nat) (St : Nat → Int32), c + d = 17 → td_SA s n m (i + 1) St → (∀ q, q < c → St (i * 17 + q) = St ((i + 1) * 17 + q)) →
    wX_findStarts_56 post J50 (nI i) Fk Fp Fc (d + 1) (nI c) Sy Sz Ne Ol Ea La En St Bo Bn Sk Sw := by
  have hB' := hB
  obtain ⟨hS, hs, h0, h1, hn, hm⟩ := hB
  intro d
  induction d with
  | zero =>
    intro c St hc hA hE
    have hc17 : c = 17 := by omega
    subst hc17
    have hx := hs i
    refine br_t (by decide) ⟨pk_in i 32 (by omega), pk_in (s i) 8 hx (by rw [nI_clamp (by omega), hS]), ?_⟩
    refine nm_r (e' := td_p (td_fi (fun k => s (16 + k) == s i) m 0)) (by rw [nI_clamp (n := i) (by omega), hS, nI_clamp (by omega), hL.2.2.1 _ hx]) (Exists.intro 17 ?_)
    refine td_x107 hB' hL.2.2.2 hi hJ 17 _ 0 0 St rfl (by omega) (Nat.le_refl _) (by omega) hA ?_
    intro q hq
    obtain ⟨v, hv, hEv, hqv⟩ := hA (i + 1) (Nat.le_refl _) (by omega) q hq
    exact ⟨v, hv, by rw [hE q (by omega)]; exact hEv, fun j hj h1 => (hqv j hj h1).trans (td_Rend (Nat.zero_le _)).symm⟩
  | succ d ih =>
    intro c St hc hA hE
    obtain ⟨v, hv, hEv, hqv⟩ := hA (i + 1) (Nat.le_refl _) (by omega) c (by omega)
    refine br_f (nI_ge (b := 17) (by omega) (by decide)) ⟨pk_in ((i + 1) * 17 + c) 289 (by omega) (td_row1 _ _), pk_in (i * 17 + c) 289 (by omega) (td_row _ _), ?_⟩
    refine nm_r (e' := upd St (i * 17 + c) (td_p v)) (by rw [td_row1, td_row, nI_clamp (by omega), nI_clamp (by omega), hEv, td_pb (by omega)]) (nm_r (e' := nI (c + 1)) (nI_1 c) ?_)
    refine ih (c + 1) _ (by omega) (td_SA_o hA (by omega)) ?_
    intro q hq
    rw [pk_un (j := (i + 1) * 17 + q) (by omega)]
    by_cases z : q = c
    · subst z
      rw [pk_us, hEv]
    · rw [pk_un (by omega)]
      exact hE q (by omega)
theorem td_x50 {post : SX → Prop} (hB : td_B s n m Sy Sz) (hL : td_LK s m Ne Ol Ea La)
    (hp : ∀ St : Nat → Int32, td_SA s n m 0 St → post (Fk, Fp, Fc, Sy, Sz, Ne, Ol, Ea, La, En, St, Bo, Bn, Sk, Sw)) :
    ∀ (i : Nat) (St : Nat → Int32), i ≤ n → td_SA s n m i St → wX_findStarts_50 post Fk Fp Fc (i + 1) (td_p i) Sy Sz Ne Ol Ea La En St Bo Bn Sk Sw := by
  have hB' := hB
  obtain ⟨hS, hs, h0, h1, hn, hm⟩ := hB
  intro i
  induction i with
  | zero =>
    intro St hi hA
    exact br_t ((td_p_neg (by decide)).mpr rfl) (hp St hA)
  | succ i ih =>
    intro St hi hA
    rw [td_ps]
    refine br_f (nI_pos (by omega)) (Exists.intro 18 ?_)
    exact td_x56 hB' hL (by omega) (fun St' hA' => ih St' (by omega) hA') 17 0 St rfl hA (fun q hq => absurd hq (by omega))
theorem td_s9 {post : SX → Prop} (hB : td_B s n m Sy Sz) (hL : td_LK s m Ne Ol Ea La)
    (hp : ∀ St : Nat → Int32, td_SA s n m 0 St → post (Fk, Fp, Fc, Sy, Sz, Ne, Ol, Ea, La, En, St, Bo, Bn, Sk, Sw)) :
    ∀ (d c : Nat) (St : Nat → Int32), c + d = 17 → (∀ q, q < c → St (n * 17 + q) = td_p (if q = 0 then m + 1 else 0)) → wX_findStarts_9 post (nI n) Fk Fp Fc (d + 1) (nI c) Sy Sz Ne Ol Ea La En St Bo Bn Sk Sw := by
  have hB' := hB
  obtain ⟨hS, hs, h0, h1, hn, hm⟩ := hB
  intro d
  induction d with
  | zero =>
    intro c St hc hE
    have hc17 : c = 17 := by omega
    subst hc17
    refine br_t (by decide) (nm_r (e' := td_p n) (td_sub1 n) (Exists.intro (n + 1) (td_x50 hB' hL hp n St (Nat.le_refl _) ?_)))
    intro i' hi' hin'
    have : i' = n := by omega
    subst this
    intro q hq
    refine ⟨if q = 0 then m + 1 else 0, by split <;> omega, hE q (by omega), fun j hj h1 => ?_⟩
    show _ ↔ q ≤ td_T s i' m i' j
    rw [if_neg (by omega), td_Tout (by omega)]
    omega
  | succ d ih =>
    intro c St hc hE
    have step : ∀ w : Nat, w = (if c = 0 then m + 1 else 0) → wX_findStarts_9 post (nI n) Fk Fp Fc (d + 1) (nI (c + 1)) Sy Sz Ne Ol Ea La En (upd St (n * 17 + c) (td_p w)) Bo Bn Sk Sw := by
      intro w hw
      refine ih (c + 1) _ (by omega) ?_
      intro q hq
      by_cases z : q = c
      · subst z
        rw [pk_us, hw]
      · rw [pk_un (by omega)]
        exact hE q (by omega)
    refine br_f (nI_ge (b := 17) (by omega) (by decide)) (pk_eq c 0 (fun z => ?_) (fun z => ?_))
    · exact ⟨pk_in (n * 17 + c) 289 (by omega) (td_row _ _), nm_r (e' := upd St (n * 17 + c) (td_p (m + 1))) (by rw [td_row, nI_clamp (by omega), h1, td_nb (by omega), td_ps]) (nm_r (e' := nI (c + 1)) (nI_1 c) (step (m + 1) (by rw [if_pos z])))⟩
    · exact ⟨pk_in (n * 17 + c) 289 (by omega) (td_row _ _), nm_r (e' := upd St (n * 17 + c) (td_p 0)) (by rw [td_row, nI_clamp (by omega), td_p0]; rfl) (nm_r (e' := nI (c + 1)) (nI_1 c) (step 0 (by rw [if_neg z])))⟩
theorem td_starts {post : SX → Prop} (hB : td_B s n m Sy Sz) (hL : td_LK s m Ne Ol Ea La)
    (hp : ∀ St : Nat → Int32, td_SA s n m 0 St → post (Fk, Fp, Fc, Sy, Sz, Ne, Ol, Ea, La, En, St, Bo, Bn, Sk, Sw)) : wpX_findStarts post (Fk, Fp, Fc, Sy, Sz, Ne, Ol, Ea, La, En, St, Bo, Bn, Sk, Sw) :=
  nm_r (e' := nI n) hB.2.2.1 (Exists.intro 18 (td_s9 hB hL hp 17 0 St rfl (fun q hq => absurd hq (by omega))))
end FS
end
section
/-! X's counts, its least match and its best list -/
def td_pq (s : Nat → Nat) (n m i j p k : Nat) : Bool := decide (j ≤ k) && ((s i == s (16 + k)) && (td_T s n m (i + 1) (k + 1) + 1 == p))
def td_BN (s : Nat → Nat) (n m k : Nat) (Bo Bn : Nat → Int32) : Prop := ∀ q, q < k → Bo q = nI ((td_bl s n m (q + 1)).1 - 1) ∧ Bn q = nI ((td_bl s n m (q + 1)).2 - 1)
theorem td_pq_t {s : Nat → Nat} {n m i j p k : Nat} : td_pq s n m i j p k = true ↔ j ≤ k ∧ s i = s (16 + k) ∧ td_T s n m (i + 1) (k + 1) + 1 = p := by
  simp [td_pq]
theorem td_rc_pq {s : Nat → Nat} {n m i j p : Nat} (hj : j ≤ m) : td_fi (td_pq s n m i j p) m 0 = td_rc s n m j p i := by
  have h := td_fi_skip (P := td_pq s n m i j p) (a := j) (d := m - j) (J := 0) (fun k _ hk e => absurd (td_pq_t.mp e).1 (by omega))
  rw [Nat.sub_add_cancel hj, Nat.zero_add] at h
  rw [h, td_rc]
  refine td_fi_c (fun k hk _ => ?_)
  rw [td_pq, decide_eq_true hk, Bool.true_and]
section FO
variable {s : Nat → Nat} {n m : Nat} {Fk Fp Fc : Int32} {Sy Sz Ne Ol Ea La En St Bo Bn Sk Sw : Nat → Int32}
theorem td_fo5 {post : Int32 → Prop} {i j : Nat} (hR : td_SR m St (i * 17) (fun c j => c ≤ td_T s n m i j)) (hi : i ≤ 16) (hj : j ≤ m) (hm : m ≤ 16) (hp : post (nI (td_T s n m i j))) :
    ∀ d c : Nat, c + d = 17 → 1 ≤ c → wX_fromOn_5 post (nI i) (nI j) Fk Fp Fc Sy Sz Ne Ol Ea La En St Bo Bn Sk Sw (d + 1) (nI (min (c - 1) (td_T s n m i j))) (nI c) := by
  have hT := td_Tbm s n m i j
  intro d
  induction d with
  | zero =>
    intro c hc h1
    rw [show min (c - 1) (td_T s n m i j) = td_T s n m i j from by omega]
    exact br_t (nI_le (a := 17) (by omega) (by omega)) hp
  | succ d ih =>
    intro c hc h1
    obtain ⟨v, hv, hE, hq⟩ := hR c (by omega)
    have hq' : j < v ↔ c ≤ td_T s n m i j := hq j hj h1
    have ih' := ih (c + 1) (by omega) (by omega)
    refine br_f (nI_ge (b := 17) (by omega) (by decide)) ⟨pk_in (i * 17 + c) 289 (by omega) (td_row _ _), ?_⟩
    rw [td_row, nI_clamp (by omega), hE]
    refine ek_if (td_p_lt (by omega) (by omega)) (fun w => ?_) (fun w => ?_)
    · rw [show min (c + 1 - 1) (td_T s n m i j) = min (c - 1) (td_T s n m i j) from by omega] at ih'
      exact nm_r (e' := nI (c + 1)) (nI_1 c) ih'
    · rw [show min (c + 1 - 1) (td_T s n m i j) = c from by omega] at ih'
      exact nm_r (e' := nI (c + 1)) (nI_1 c) ih'
theorem td_from {post : Int32 → Prop} {i j : Nat} {x1 x2 : Int32} (hA : td_SA s n m 0 St) (hi : i ≤ n) (hn : n ≤ 16) (hj : j ≤ m) (hm : m ≤ 16) (e1 : x1 = nI i) (e2 : x2 = nI j)
    (hp : post (nI (td_T s n m i j))) : wpX_fromOn post (Fk, Fp, Fc, Sy, Sz, Ne, Ol, Ea, La, En, St, Bo, Bn, Sk, Sw) x1 x2 := by
  subst e1 e2
  have h := td_fo5 (post := post) (Fk := Fk) (Fp := Fp) (Fc := Fc) (Sy := Sy) (Sz := Sz) (Ne := Ne) (Ol := Ol) (Ea := Ea) (La := La) (En := En) (Bo := Bo) (Bn := Bn) (Sk := Sk) (Sw := Sw) (hA i (Nat.zero_le _) hi) (by omega) hj hm hp 16 1 rfl (Nat.le_refl _)
  rw [show min (1 - 1) (td_T s n m i j) = 0 from by omega] at h
  exact Exists.intro 17 h
theorem td_ut5 {post : Int32 → Prop} {i j : Nat} (hR : td_ER m En (i * 17) (fun c j => c ≤ td_H s i j)) (hi : i ≤ 16) (hj : j ≤ m) (hm : m ≤ 16) (hp : post (nI (td_H s i j))) :
    ∀ d c : Nat, c + d = 17 → 1 ≤ c → wX_upTo_5 post (nI i) (nI j) Fk Fp Fc Sy Sz Ne Ol Ea La En St Bo Bn Sk Sw (d + 1) (nI (min (c - 1) (td_H s i j))) (nI c) := by
  have hT := td_Hb s i j
  intro d
  induction d with
  | zero =>
    intro c hc h1
    rw [show min (c - 1) (td_H s i j) = td_H s i j from by omega]
    exact br_t (nI_le (a := 17) (by omega) (by omega)) hp
  | succ d ih =>
    intro c hc h1
    obtain ⟨v, hv, hE, hq⟩ := hR c (by omega)
    have hq' : v ≤ j ↔ c ≤ td_H s i j := hq j hj h1
    have ih' := ih (c + 1) (by omega) (by omega)
    refine br_f (nI_ge (b := 17) (by omega) (by decide)) ⟨pk_in (i * 17 + c) 289 (by omega) (td_row _ _), ?_⟩
    rw [td_row, nI_clamp (by omega), hE]
    refine ek_if (nI_ltI (by omega) (by omega)) (fun w => ?_) (fun w => ?_)
    · rw [show min (c + 1 - 1) (td_H s i j) = min (c - 1) (td_H s i j) from by omega] at ih'
      exact nm_r (e' := nI (c + 1)) (nI_1 c) ih'
    · rw [show min (c + 1 - 1) (td_H s i j) = c from by omega] at ih'
      exact nm_r (e' := nI (c + 1)) (nI_1 c) ih'
theorem td_upto {post : Int32 → Prop} {i j : Nat} {x1 x2 : Int32} (hA : td_EA s m n En) (hi : i ≤ n) (hn : n ≤ 16) (hj : j ≤ m) (hm : m ≤ 16) (e1 : x1 = nI i) (e2 : x2 = nI j)
    (hp : post (nI (td_H s i j))) : wpX_upTo post (Fk, Fp, Fc, Sy, Sz, Ne, Ol, Ea, La, En, St, Bo, Bn, Sk, Sw) x1 x2 := by
  subst e1 e2
  have h := td_ut5 (post := post) (Fk := Fk) (Fp := Fp) (Fc := Fc) (Sy := Sy) (Sz := Sz) (Ne := Ne) (Ol := Ol) (Ea := Ea) (La := La) (St := St) (Bo := Bo) (Bn := Bn) (Sk := Sk) (Sw := Sw) (hA i hi) (by omega) hj hm hp 16 1 rfl (Nat.le_refl _)
  rw [show min (1 - 1) (td_H s i j) = 0 from by omega] at h
  exact Exists.intro 17 h
theorem td_x16 {post : Int32 → Prop} {i j p A : Nat} (hB : td_B s n m Sy Sz)
    (hO : ∀ j, j < m → La j = td_p (td_fi (fun k => s (16 + k) == s (16 + j)) (m - (j + 1)) (j + 1))) (hA : td_SA s n m 0 St) (hi : i < n) (hj : j ≤ m) (hp1 : 1 ≤ p) (hp16 : p ≤ 16)
    (hmx : ∀ b, j ≤ b → b < m → s i = s (16 + b) → td_T s n m (i + 1) (b + 1) + 1 ≤ p) (hp : post (td_p A)) :
    ∀ f c r J : Nat, c = td_fi (fun k => s (16 + k) == s i) (m - J) J → J ≤ m → r ≤ J → m - J < f → A = td_fi (td_pq s n m i j p) (m - J) J →
    wX_leastMatch_16 post (nI i) (nI j) (nI (p - 1)) Fk Fp Fc Sy Sz Ne Ol Ea La En St Bo Bn Sk Sw f (td_p c) (nI r) := by
  obtain ⟨hS, hs, h0, h1, hn, hm⟩ := hB
  intro f
  induction f with
  | zero => intro c r J _ _ _ hf; exact absurd hf (by omega)
  | succ f ih =>
    intro c r J hc hJm hr hf hAe
    rcases c with _ | c
    · have hA0 : A = 0 := by
        rcases hz : td_fi (td_pq s n m i j p) (m - J) J with _ | a
        · omega
        · obtain ⟨q1, q2, q3, q4⟩ := td_fi_s hz
          exact absurd (td_pq_t.mp q3).2.1 (fun e => td_fi_n hc.symm a q1 q2 (by simpa using e.symm))
      subst hA0
      rw [td_p0] at hp
      exact br_c (fun _ => hp) (fun _ => br_t ((td_p_neg (by decide)).mpr rfl) hp)
    · obtain ⟨q1, q2, q3, q4⟩ := td_fi_s hc.symm
      have hat : s (16 + c) = s i := by simpa using q3
      have hA1 : A = td_fi (td_pq s n m i j p) (m - (c + 1) + 1) c := by
        have h := td_fi_skip (P := td_pq s n m i j p) (a := c - J) (d := m - (c + 1) + 1) (J := J) (fun k a b e => q4 k a (by omega) (by have := (td_pq_t.mp e).2.1; simpa using this.symm))
        rw [show m - (c + 1) + 1 + (c - J) = m - J from by omega, show J + (c - J) = c from by omega] at h
        rw [hAe, h]
      have hT := td_Tbm s n m (i + 1) (c + 1)
      have hnx : ∀ r', r' = r + 1 → ¬ td_pq s n m i j p c = true → wX_leastMatch_16 post (nI i) (nI j) (nI (p - 1)) Fk Fp Fc Sy Sz Ne Ol Ea La En St Bo Bn Sk Sw f (td_p (td_fi (fun k => s (16 + k) == s i) (m - (c + 1)) (c + 1))) (nI r') := by
        intro r' hr' hz
        rw [td_fi_f hz] at hA1
        exact ih _ r' (c + 1) rfl (by omega) (by omega) (by omega) hA1
      have hLa : La (nI c).toNatClampNeg = td_p (td_fi (fun k => s (16 + k) == s i) (m - (c + 1)) (c + 1)) := by
        rw [nI_clamp (by omega), hO c (by omega), hat]
      rw [td_ps]
      refine br_f (nI_ge (b := 16) (by omega) (by decide)) (br_f (nI_pos (by omega)) (pk_lt c j (fun w => ?_) (fun w => ?_)))
      · exact ⟨pk_in c 16 (by omega), nm_r hLa (nm_r (e' := nI (r + 1)) (nI_1 r) (hnx _ rfl (fun e => absurd (td_pq_t.mp e).1 (by omega))))⟩
      · refine td_from (i := i + 1) (j := c + 1) hA (by omega) hn (by omega) hm (nI_1 i) (nI_1 c) ?_
        refine pk_lt (td_T s n m (i + 1) (c + 1)) (p - 1) (fun w2 => ?_) (fun w2 => ?_)
        · exact ⟨pk_in c 16 (by omega), nm_r hLa (nm_r (e' := nI (r + 1)) (nI_1 r) (hnx _ rfl (fun e => absurd (td_pq_t.mp e).2.2 (by omega))))⟩
        · have hx := hmx c w (by omega) hat.symm
          rw [td_fi_t (td_pq_t.mpr ⟨w, hat.symm, by omega⟩)] at hA1
          rw [hA1, td_ps] at hp
          exact hp
theorem td_least {post : Int32 → Prop} {i j p : Nat} {x1 x2 x3 : Int32} (hB : td_B s n m Sy Sz) (hL : td_LK s m Ne Ol Ea La) (hA : td_SA s n m 0 St) (hi : i < n) (hj : j ≤ m) (hp1 : 1 ≤ p) (hp16 : p ≤ 16)
    (hmx : ∀ b, j ≤ b → b < m → s i = s (16 + b) → td_T s n m (i + 1) (b + 1) + 1 ≤ p) (e1 : x1 = nI i) (e2 : x2 = nI j) (e3 : x3 = nI (p - 1))
    (hp : post (td_p (td_rc s n m j p i))) : wpX_leastMatch post (Fk, Fp, Fc, Sy, Sz, Ne, Ol, Ea, La, En, St, Bo, Bn, Sk, Sw) x1 x2 x3 := by
  subst e1 e2 e3
  have hB' := hB
  obtain ⟨hS, hs, h0, h1, hn, hm⟩ := hB
  have hx := hs i
  refine And.intro (pk_in i 32 (by omega)) (And.intro (pk_in (s i) 8 hx (by rw [nI_clamp (by omega), hS])) ?_)
  refine nm_r (e' := td_p (td_fi (fun k => s (16 + k) == s i) m 0)) (by rw [nI_clamp (n := i) (by omega), hS, nI_clamp (by omega), hL.2.2.1 _ hx]) (Exists.intro (m + 1) ?_)
  exact td_x16 hB' hL.2.2.2 hA hi hj hp1 hp16 hmx hp (m + 1) _ 0 0 rfl (Nat.zero_le _) (Nat.le_refl _) (by omega) (td_rc_pq hj).symm
theorem td_fb {post : SX → Prop} (hB : td_B s n m Sy Sz) (hL : td_LK s m Ne Ol Ea La) (hA : td_SA s n m 0 St)
    (hp : ∀ Bo Bn : Nat → Int32, td_BN s n m (td_T s n m 0 0) Bo Bn → post (Fk, nI (td_T s n m 0 0), Fc, Sy, Sz, Ne, Ol, Ea, La, En, St, Bo, Bn, Sk, Sw)) :
    ∀ (f i k j : Nat) (Bo Bn : Nat → Int32), i ≤ n → n - i < f → k ≤ td_T s n m 0 0 → j = (td_bl s n m k).2 → (td_bl s n m k).1 ≤ i →
    td_fi (fun a => td_rc s n m j (td_T s n m 0 0 - k) a != 0) (n - i) i = td_ra s n m (td_bl s n m k).1 (td_bl s n m k).2 (td_T s n m 0 0 - k) → td_BN s n m k Bo Bn →
    wX_findBest_16 post Fk (nI (td_T s n m 0 0)) Fc f (nI j) (nI k) (nI i) Sy Sz Ne Ol Ea La En St Bo Bn Sk Sw := by
  have hB' := hB
  obtain ⟨hS, hs, h0, h1, hn, hm⟩ := hB
  intro f
  induction f with
  | zero => intro i k j Bo Bn _ hf; exact absurd hf (by omega)
  | succ f ih =>
    intro i k j Bo Bn hin hf hk hj hi hra hN
    have hP := td_Tbn s n m 0 0
    have hbT := td_blT s n m k hk
    rcases Nat.lt_or_ge i n with w | w
    · refine br_f (by rw [h0]; exact nI_ge (by omega) (by omega)) (pk_le (td_T s n m 0 0) k (fun z => ?_) (fun z => ?_))
      · have hkP : k = td_T s n m 0 0 := by omega
        subst hkP
        exact hp Bo Bn hN
      · refine td_least (i := i) (j := j) (p := td_T s n m 0 0 - k) hB' hL hA w (by omega) (by omega) (by omega) ?_ rfl rfl (by rw [pk_sub (by omega)]; exact pk_sub (b := 1) (by omega)) ?_
        · intro b hb hbm e
          have := td_Tup (i := (td_bl s n m k).1) (j := (td_bl s n m k).2) hi (by omega) w hbm e
          omega
        · rw [show n - i = (n - (i + 1)) + 1 from by omega] at hra
          rcases hrc : td_rc s n m j (td_T s n m 0 0 - k) i with _ | b
          · rw [td_fi_f (by simp [hrc])] at hra
            exact br_t ((td_p_neg (by decide)).mpr rfl) (nm_r (e' := nI (i + 1)) (nI_1 i) (ih (i + 1) k j Bo Bn (by omega) (by omega) hk hj (by omega) hra hN))
          · rw [td_fi_t (by simp [hrc])] at hra
            obtain ⟨r1, r2, r3, r4⟩ := td_rc_s hrc
            have g1 : (td_bl s n m (k + 1)).1 = i + 1 := hra.symm
            have g2 : (td_bl s n m (k + 1)).2 = b + 1 := by rw [td_blS2, g1, ← hj]; exact hrc
            rw [td_ps]
            refine br_f (nI_pos (by omega)) ⟨pk_in k 16 (by omega), ?_⟩
            refine nm_r (e' := upd Bo k (nI i)) (by rw [nI_clamp (by omega), td_nb2 (by omega)]) ⟨pk_in k 16 (by omega), ?_⟩
            refine nm_r (e' := upd Bn k (nI b)) (by rw [nI_clamp (by omega), td_nb2 (by omega)]) (nm_r (e' := nI (k + 1)) (nI_1 k) (nm_r (e' := nI (b + 1)) (nI_1 b) (nm_r (e' := nI (i + 1)) (nI_1 i) ?_)))
            refine ih (i + 1) (k + 1) (b + 1) _ _ (by omega) (by omega) (by omega) g2.symm (by omega) ?_ ?_
            · rw [g1, g2]
              rfl
            · intro q hq
              by_cases z' : q = k
              · subst z'
                rw [pk_us, pk_us, g1, g2]
                exact ⟨rfl, rfl⟩
              · rw [pk_un z', pk_un z']
                exact hN q (by omega)
    · have hiN : i = n := by omega
      subst hiN
      have hkP : k = td_T s i m 0 0 := by
        rcases Nat.lt_or_ge k (td_T s i m 0 0) with z | z
        · rw [Nat.sub_self, td_fi_0] at hra
          exact absurd hra.symm (td_ra_ex (by omega) hbT.1)
        · omega
      subst hkP
      exact br_t (by rw [h0]; exact nI_le (Nat.le_refl _) (by omega)) (hp Bo Bn hN)
theorem td_best {post : SX → Prop} (hB : td_B s n m Sy Sz) (hL : td_LK s m Ne Ol Ea La) (hA : td_SA s n m 0 St)
    (hp : ∀ Bo Bn : Nat → Int32, td_BN s n m (td_T s n m 0 0) Bo Bn → post (Fk, nI (td_T s n m 0 0), Fc, Sy, Sz, Ne, Ol, Ea, La, En, St, Bo, Bn, Sk, Sw)) : wpX_findBest post (Fk, Fp, Fc, Sy, Sz, Ne, Ol, Ea, La, En, St, Bo, Bn, Sk, Sw) := by
  have hB' := hB
  obtain ⟨hS, hs, h0, h1, hn, hm⟩ := hB
  refine td_from (i := 0) (j := 0) hA (Nat.zero_le _) hn (Nat.zero_le _) hm rfl rfl (Exists.intro (n + 1) ?_)
  exact td_fb hB' hL hA hp (n + 1) 0 0 0 Bo Bn (Nat.zero_le _) (by omega) (Nat.zero_le _) rfl (Nat.le_refl _) rfl (fun q hq => absurd hq (by omega))
end FO
end
section
/-! X's script, and learn -/
def td_XW (l : List Nat) (Fc : Int32) (Sk Sw : Nat → Int32) : Prop := Fc = nI l.length ∧ ∀ q, q < l.length → Sk q = nI (l.getD q 0 % 4) ∧ Sw q = nI (l.getD q 0 / 4)
def td_LN (s : Nat → Nat) (n m : Nat) (Fp Fc : Int32) (En St Bo Bn Sk Sw : Nat → Int32) : Prop :=
  Fp = nI (td_T s n m 0 0) ∧ td_EA s m n En ∧ td_SA s n m 0 St ∧ td_BN s n m (td_T s n m 0 0) Bo Bn ∧ td_XW (td_fin s n m) Fc Sk Sw
section WS
variable {s : Nat → Nat} {n m : Nat} {post : SX → Prop} {Fk Fp Fc : Int32} {Sy Sz Ne Ol Ea La En St Bo Bn Sk Sw : Nat → Int32}
theorem td_wr {l : List Nat} {a b : Nat} {x1 x2 : Int32} (hW : td_XW l Fc Sk Sw) (hl : l.length < 32) (ha : a < 4) (hb : b < 8) (e1 : x1 = nI a) (e2 : x2 = nI b)
    (hp : ∀ (Fc : Int32) (Sk Sw : Nat → Int32), td_XW (l ++ [a + 4 * b]) Fc Sk Sw → post (Fk, Fp, Fc, Sy, Sz, Ne, Ol, Ea, La, En, St, Bo, Bn, Sk, Sw)) : wpX_write post (Fk, Fp, Fc, Sy, Sz, Ne, Ol, Ea, La, En, St, Bo, Bn, Sk, Sw) x1 x2 := by
  obtain ⟨hc, hq⟩ := hW
  subst hc e1 e2
  refine And.intro (pk_in l.length 32 hl) (nm_r (e' := upd Sk l.length (nI a)) (by rw [nI_clamp (by omega), td_nb2 (by omega)]) (And.intro (pk_in l.length 32 hl) (nm_r (e' := upd Sw l.length (nI b)) (by rw [nI_clamp (by omega), td_nb2 (by omega)]) (nm_r (e' := nI (l.length + 1)) (nI_1 _) ?_))))
  refine hp _ _ _ ⟨by rw [List.length_append]; rfl, ?_⟩
  intro q hql
  rw [List.length_append] at hql
  by_cases z : q = l.length
  · subst z
    rw [pk_us, pk_us, td_gd2, show (a + 4 * b) % 4 = a from by omega, show (a + 4 * b) / 4 = b from by omega]
    exact ⟨rfl, rfl⟩
  · have hq' : q < l.length := by
      have : [a + 4 * b].length = 1 := rfl
      omega
    rw [pk_un z, pk_un z, td_gd1 hq']
    exact hq q hq'
theorem td_ed30 {b : Nat} (hB : td_B s n m Sy Sz) (hbm : b ≤ m) : ∀ (d j : Nat) (l : List Nat) (Fc : Int32) (Sk Sw : Nat → Int32), j + d = b → l.length + d ≤ 32 → td_XW l Fc Sk Sw →
    (∀ (Fc : Int32) (Sk Sw : Nat → Int32), td_XW (l ++ td_sg (td_gP s) d j) Fc Sk Sw → post (Fk, Fp, Fc, Sy, Sz, Ne, Ol, Ea, La, En, St, Bo, Bn, Sk, Sw)) →
    wX_edit_30 post (nI b) (d + 1) (nI j) Fk Fp Fc Sy Sz Ne Ol Ea La En St Bo Bn Sk Sw := by
  obtain ⟨hS, hs, h0, h1, hn, hm⟩ := hB
  intro d
  induction d with
  | zero =>
    intro j l Fc Sk Sw hj hl hW hp
    exact br_t (nI_le (by omega) (by omega)) (hp _ _ _ (by rw [td_sg, List.append_nil]; exact hW))
  | succ d ih =>
    intro j l Fc Sk Sw hj hl hW hp
    refine br_f (nI_ge (by omega) (by omega)) ⟨pk_in (16 + j) 32 (by omega) (td_16 j), ?_⟩
    refine td_wr (a := 2) (b := s (16 + j)) hW (by omega) (by omega) (hs _) rfl (by rw [td_16, nI_clamp (by omega), hS]) ?_
    intro Fc Sk Sw hW'
    refine nm_r (e' := nI (j + 1)) (nI_1 j) (ih (j + 1) _ _ _ _ (by omega) (by rw [List.length_append]; show l.length + 1 + d ≤ 32; omega) hW' ?_)
    intro Fc Sk Sw hW2
    rw [List.append_assoc] at hW2
    exact hp _ _ _ hW2
theorem td_ed3 {a b j : Nat} (hB : td_B s n m Sy Sz) (han : a ≤ n) (hbm : b ≤ m) (hjb : j ≤ b) : ∀ (d i : Nat) (l : List Nat) (Fc : Int32) (Sk Sw : Nat → Int32), i + d = a → l.length + d + (b - j) ≤ 32 → td_XW l Fc Sk Sw →
    (∀ (Fc : Int32) (Sk Sw : Nat → Int32), td_XW (l ++ (td_sg (td_gT s) d i ++ td_sg (td_gP s) (b - j) j)) Fc Sk Sw → post (Fk, Fp, Fc, Sy, Sz, Ne, Ol, Ea, La, En, St, Bo, Bn, Sk, Sw)) →
    wX_edit_3 post (nI a) (nI j) (nI b) (d + 1) (nI i) Fk Fp Fc Sy Sz Ne Ol Ea La En St Bo Bn Sk Sw := by
  have hB' := hB
  obtain ⟨hS, hs, h0, h1, hn, hm⟩ := hB
  intro d
  induction d with
  | zero =>
    intro i l Fc Sk Sw hi hl hW hp
    exact br_t (nI_le (by omega) (by omega)) (Exists.intro (b - j + 1) (td_ed30 hB' hbm (b - j) j l Fc Sk Sw (by omega) (by omega) hW hp))
  | succ d ih =>
    intro i l Fc Sk Sw hi hl hW hp
    refine br_f (nI_ge (by omega) (by omega)) ⟨pk_in i 32 (by omega), ?_⟩
    refine td_wr (a := 1) (b := s i) hW (by omega) (by omega) (hs _) rfl (by rw [nI_clamp (by omega), hS]) ?_
    intro Fc Sk Sw hW'
    refine nm_r (e' := nI (i + 1)) (nI_1 i) (ih (i + 1) _ _ _ _ (by omega) (by rw [List.length_append]; show l.length + 1 + d + (b - j) ≤ 32; omega) hW' ?_)
    intro Fc Sk Sw hW2
    rw [List.append_assoc] at hW2
    exact hp _ _ _ hW2
theorem td_edit {i a j b : Nat} {l : List Nat} {x0 x1 x2 x3 : Int32} (hB : td_B s n m Sy Sz) (hia : i ≤ a) (han : a ≤ n) (hjb : j ≤ b) (hbm : b ≤ m) (hl : l.length ≤ i + j) (hW : td_XW l Fc Sk Sw)
    (e0 : x0 = nI i) (e1 : x1 = nI a) (e2 : x2 = nI j) (e3 : x3 = nI b)
    (hp : ∀ (Fc : Int32) (Sk Sw : Nat → Int32), td_XW (l ++ td_ed s i a j b) Fc Sk Sw → post (Fk, Fp, Fc, Sy, Sz, Ne, Ol, Ea, La, En, St, Bo, Bn, Sk, Sw)) : wpX_edit post (Fk, Fp, Fc, Sy, Sz, Ne, Ol, Ea, La, En, St, Bo, Bn, Sk, Sw) x0 x1 x2 x3 := by
  subst e0 e1 e2 e3
  have hn := hB.2.2.2.2.1
  have hm := hB.2.2.2.2.2
  exact Exists.intro (a - i + 1) (td_ed3 hB han hbm hjb (a - i) i l Fc Sk Sw (by omega) (by omega) hW hp)
theorem td_x11 (hB : td_B s n m Sy Sz) (hN : td_BN s n m (td_T s n m 0 0) Bo Bn)
    (hp : ∀ (Fc : Int32) (Sk Sw : Nat → Int32), td_XW (td_fin s n m) Fc Sk Sw → post (Fk, nI (td_T s n m 0 0), Fc, Sy, Sz, Ne, Ol, Ea, La, En, St, Bo, Bn, Sk, Sw)) :
    ∀ (d k : Nat) (Fc : Int32) (Sk Sw : Nat → Int32), k + d = td_T s n m 0 0 → td_XW (td_sc s n m k) Fc Sk Sw →
    wX_writeScript_11 post (d + 1) (nI (td_bl s n m k).1) (nI (td_bl s n m k).2) (nI k) Fk (nI (td_T s n m 0 0)) Fc Sy Sz Ne Ol Ea La En St Bo Bn Sk Sw := by
  have hB' := hB
  obtain ⟨hS, hs, h0, h1, hn, hm⟩ := hB
  have hP := td_Tbn s n m 0 0
  intro d
  induction d with
  | zero =>
    intro k Fc Sk Sw hk hW
    have hkP : k = td_T s n m 0 0 := by omega
    have hb := td_blT s n m k (by omega)
    refine br_t (nI_le (by omega) (by omega)) ?_
    refine td_edit hB' hb.2.1 (Nat.le_refl _) hb.2.2 (Nat.le_refl _) (td_sc_l s n m k (by omega)) hW rfl h0 rfl h1 ?_
    intro Fc Sk Sw hW'
    rw [hkP] at hW'
    exact hp _ _ _ hW'
  | succ d ih =>
    intro k Fc Sk Sw hk hW
    have hb := td_blT s n m k (by omega)
    obtain ⟨a, b, e, q1, q2, q3, q4⟩ := td_blx s n m (show k < td_T s n m 0 0 by omega)
    obtain ⟨hO, hQ⟩ := hN k (by omega)
    rw [e] at hO hQ
    have hO' : Bo (nI k).toNatClampNeg = nI a := by rw [nI_clamp (by omega)]; exact hO
    have hQ' : Bn (nI k).toNatClampNeg = nI b := by rw [nI_clamp (by omega)]; exact hQ
    have hl := td_sc_l s n m k (by omega)
    refine br_f (nI_ge (by omega) (by omega)) ⟨pk_in k 16 (by omega), pk_in k 16 (by omega), ?_⟩
    refine td_edit (a := a) (b := b) hB' q1 (by omega) q3 (by omega) hl hW rfl hO' rfl hQ' ?_
    intro Fc Sk Sw hW'
    refine ⟨pk_in k 16 (by omega), pk_in a 32 (by omega) hO', ?_⟩
    refine td_wr (a := 0) (b := s a) hW' (by rw [List.length_append, td_ed_l]; omega) (by omega) (hs _) rfl (by rw [hO', nI_clamp (by omega), hS]) ?_
    intro Fc Sk Sw hW2
    refine ⟨pk_in k 16 (by omega), nm_r (e' := nI (a + 1)) (by rw [hO', nI_1]) ⟨pk_in k 16 (by omega), nm_r (e' := nI (b + 1)) (by rw [hQ', nI_1]) (nm_r (e' := nI (k + 1)) (nI_1 k) ?_)⟩⟩
    have h := ih (k + 1) Fc Sk Sw (by omega) (by rw [td_sc, e]; exact hW2)
    rw [e] at h
    exact h
theorem td_script (hB : td_B s n m Sy Sz) (hN : td_BN s n m (td_T s n m 0 0) Bo Bn) (hF : Fp = nI (td_T s n m 0 0))
    (hp : ∀ (Fc : Int32) (Sk Sw : Nat → Int32), td_XW (td_fin s n m) Fc Sk Sw → post (Fk, Fp, Fc, Sy, Sz, Ne, Ol, Ea, La, En, St, Bo, Bn, Sk, Sw)) : wpX_writeScript post (Fk, Fp, Fc, Sy, Sz, Ne, Ol, Ea, La, En, St, Bo, Bn, Sk, Sw) := by
  subst hF
  exact Exists.intro (td_T s n m 0 0 + 1) (td_x11 hB hN hp (td_T s n m 0 0) 0 0 Sk Sw (Nat.zero_add _) ⟨rfl, fun q hq => absurd hq (by show ¬ q < 0; omega)⟩)
theorem td_learn (hB : td_B s n m Sy Sz) (hK : Fk = 0 ∨ td_LN s n m Fp Fc En St Bo Bn Sk Sw)
    (hp : ∀ (Fk Fp Fc : Int32) (Ne Ol Ea La En St Bo Bn Sk Sw : Nat → Int32), td_LN s n m Fp Fc En St Bo Bn Sk Sw → post (Fk, Fp, Fc, Sy, Sz, Ne, Ol, Ea, La, En, St, Bo, Bn, Sk, Sw)) : wpX_learn post (Fk, Fp, Fc, Sy, Sz, Ne, Ol, Ea, La, En, St, Bo, Bn, Sk, Sw) := by
  refine br_c (fun _ => ?_) (fun z => ?_)
  · refine td_link hB ?_
    intro Ne Ol Ea La hL
    refine td_ends hB hL ?_
    intro En hE
    refine td_starts hB hL ?_
    intro St hA
    refine td_best hB hL hA ?_
    intro Bo Bn hN
    refine td_script hB hN rfl ?_
    intro Fc Sk Sw hW
    exact hp _ _ _ _ _ _ _ _ _ _ _ _ _ ⟨rfl, hE, hA, hN, hW⟩
  · rcases hK with h | h
    · exact absurd h z
    · exact hp _ _ _ _ _ _ _ _ _ _ _ _ _ h
end WS
end
section
/-! the reference's two tables -/
def td_HD (s : Nat → Nat) (n m : Nat) (Hd : Nat → Int32) : Prop := ∀ i j, i ≤ n → j ≤ m → Hd (17 * i + j) = nI (td_H s i j)
def td_TD (s : Nat → Nat) (n m : Nat) (Tl : Nat → Int32) : Prop := ∀ i j, i ≤ n → j ≤ m → Tl (17 * i + j) = nI (td_T s n m i j)
/-- the rows below i, and of row i the cells below j -/
def td_Hp (s : Nat → Nat) (m i j : Nat) (Hd : Nat → Int32) : Prop := ∀ i' j', j' ≤ m → (i' < i ∨ (i' = i ∧ j' < j)) → Hd (17 * i' + j') = nI (td_H s i' j')
/-- the rows from i on, and of the row ahead the cells from j on -/
def td_Tp (s : Nat → Nat) (n m i j : Nat) (Tl : Nat → Int32) : Prop := ∀ i' j', i' ≤ n → j' ≤ m → (i ≤ i' ∨ (i' + 1 = i ∧ j ≤ j')) → Tl (17 * i' + j') = nI (td_T s n m i' j')
theorem td_n1 (i j : Nat) : (17 * nI (i + 1) - 17) + nI j = nI (17 * i + j) := by
  rw [show (17 : Int32) = nI 17 from rfl, pk_mul, pk_sub (by omega), nI_add]
  exact congrArg nI (by omega)
theorem td_n2 (i j : Nat) : (17 * nI i + nI (j + 1)) - 1 = nI (17 * i + j) := by
  rw [td_rowY]
  exact (pk_sub (b := 1) (by omega)).trans (congrArg nI (by omega))
theorem td_n3 (i j : Nat) : (17 * nI (i + 1) + nI (j + 1)) - 18 = nI (17 * i + j) := by
  rw [td_rowY]
  exact (pk_sub (b := 18) (by omega)).trans (congrArg nI (by omega))
theorem td_n4 (i j : Nat) : (17 * nI i + 17) + nI j = nI (17 * (i + 1) + j) := by
  rw [show (17 : Int32) = nI 17 from rfl, pk_mul, nI_add, nI_add]
  exact congrArg nI (by omega)
theorem td_n5 (i j : Nat) : (17 * nI i + nI j) + 1 = nI (17 * i + (j + 1)) := by
  rw [td_rowY, nI_1]
  exact congrArg nI (by omega)
theorem td_n6 (i j : Nat) : (17 * nI i + nI j) + 18 = nI (17 * (i + 1) + (j + 1)) := by
  rw [td_rowY]
  exact (nI_add _ 18).trans (congrArg nI (by omega))
theorem td_s1 (i : Nat) : nI (i + 1) - 1 = nI i := nI_pred i
section YW
variable {s : Nat → Nat} {n m : Nat} {My : Int32} {Zs Tx Hd Tl Os Nw Sp : Nat → Int32}
theorem td_same {post : Int32 → Prop} {i j : Nat} {x1 x2 : Int32} (hB : td_B s n m Tx Zs) (hi : i < 16) (hj : j < 16) (e1 : x1 = nI i) (e2 : x2 = nI j) (ht : s i = s (16 + j) → post 1) (hf : s i ≠ s (16 + j) → post 0) : wpY_same post (My, Zs, Tx, Hd, Tl, Os, Nw, Sp) x1 x2 := by
  subst e1 e2
  have a := hB.2.1 i
  have b := hB.2.1 (16 + j)
  refine And.intro (pk_in i 32 (by omega)) (And.intro (pk_in (16 + j) 32 (by omega) (td_16 j)) ?_)
  rw [nI_clamp (by omega), td_16, nI_clamp (by omega), hB.1, hB.1]
  exact pk_eq (s i) (s (16 + j)) ht hf
theorem td_max {post : Int32 → Prop} {a b : Nat} {x1 x2 : Int32} (ha : a < 100) (hb : b < 100) (e1 : x1 = nI a) (e2 : x2 = nI b) (hp : post (nI (max a b))) : wpY_max post (My, Zs, Tx, Hd, Tl, Os, Nw, Sp) x1 x2 := by
  subst e1 e2
  refine pk_le a b (fun z => ?_) (fun z => ?_)
  · rw [show max a b = b from by omega] at hp; exact hp
  · rw [show max a b = a from by omega] at hp; exact hp
theorem td_maxa {post : Int32 → Prop} {x1 x2 : Int32} (hp : ∀ x, post x) : wpY_max post (My, Zs, Tx, Hd, Tl, Os, Nw, Sp) x1 x2 := br_c (fun _ => hp _) (fun _ => hp _)
section HEAD
variable {post : SY → Prop} {J2 J14 : Int32 → (Nat → Int32) → (Nat → Int32) → (Nat → Int32) → (Nat → Int32) → (Nat → Int32) → (Nat → Int32) → (Nat → Int32) → Prop}
theorem td_w129z {i j : Nat} {x3 : Int32} (hi : i ≤ 16) (hj : j ≤ 16) (h : i = 0 ∨ j = 0) (K : J14 (nI (j + 1)) Zs Tx (upd Hd (17 * i + j) 0) Tl Os Nw Sp) : wY_work_129 post J2 J14 (nI i) (nI j) x3 (17 * nI i + nI j) My Zs Tx Hd Tl Os Nw Sp := by
  have A : vp_in (17 * nI i + nI j) 289 := pk_in (17 * i + j) 289 (by omega) (td_rowY _ _)
  have E : upd Hd (17 * nI i + nI j).toNatClampNeg 0 = upd Hd (17 * i + j) 0 := by rw [td_rowY, nI_clamp (by omega)]
  refine pk_le i 0 (fun z => ⟨A, nm_r E (nm_r (nI_1 j) K)⟩) (fun z => pk_le j 0 (fun z => ⟨A, nm_r E (nm_r (nI_1 j) K)⟩) (fun z => absurd h (by omega)))
theorem td_w129s {i j : Nat} {x3 : Int32} (hi : i < 16) (hj : j < 16) (K : J14 (nI (j + 1 + 1)) Zs Tx (upd Hd (17 * (i + 1) + (j + 1)) x3) Tl Os Nw Sp) : wY_work_129 post J2 J14 (nI (i + 1)) (nI (j + 1)) x3 (17 * nI (i + 1) + nI (j + 1)) My Zs Tx Hd Tl Os Nw Sp := by
  have A : vp_in (17 * nI (i + 1) + nI (j + 1)) 289 := pk_in (17 * (i + 1) + (j + 1)) 289 (by omega) (td_rowY _ _)
  have E : upd Hd (17 * nI (i + 1) + nI (j + 1)).toNatClampNeg x3 = upd Hd (17 * (i + 1) + (j + 1)) x3 := by rw [td_rowY, nI_clamp (by omega)]
  refine pk_le (i + 1) 0 (fun z => absurd z (by omega)) (fun z => pk_le (j + 1) 0 (fun z => absurd z (by omega)) (fun z => ⟨A, nm_r E (nm_r (nI_1 (j + 1)) K)⟩))
theorem td_w73z {i j : Nat} {x3 : Int32} (hi : i ≤ 16) (hj : j ≤ 16) (h : i = 0 ∨ j = 0) (K : J14 (nI (j + 1)) Zs Tx (upd Hd (17 * i + j) 0) Tl Os Nw Sp) : wY_work_73 post J2 J14 (nI i) (nI j) x3 My Zs Tx Hd Tl Os Nw Sp := by
  refine pk_le i 0 (fun z => td_w129z hi hj h K) (fun z => pk_le j 0 (fun z => td_w129z hi hj h K) (fun z => absurd h (by omega)))
theorem td_w73s {i j : Nat} (hB : td_B s n m Tx Zs) (hi : i < n) (hj : j < m) (hP : td_Hp s m (i + 1) (j + 1) Hd) (K : J14 (nI (j + 1 + 1)) Zs Tx (upd Hd (17 * (i + 1) + (j + 1)) (nI (td_H s (i + 1) (j + 1)))) Tl Os Nw Sp) :
    wY_work_73 post J2 J14 (nI (i + 1)) (nI (j + 1)) (nI (max (td_H s i (j + 1)) (td_H s (i + 1) j))) My Zs Tx Hd Tl Os Nw Sp := by
  have hn := hB.2.2.2.2.1
  have hm := hB.2.2.2.2.2
  have b1 := td_Hb s i (j + 1)
  have b2 := td_Hb s (i + 1) j
  have b3 := td_Hb s i j
  refine pk_le (i + 1) 0 (fun z => absurd z (by omega)) (fun z => pk_le (j + 1) 0 (fun z => absurd z (by omega)) (fun z => ?_))
  refine td_same hB (i := i) (j := j) (by omega) (by omega) (td_s1 i) (td_s1 j) (fun e => ?_) (fun e => ?_)
  · refine br_f (by decide) ⟨pk_in (17 * i + j) 289 (by omega) (td_n3 i j), ?_⟩
    refine td_max (a := max (td_H s i (j + 1)) (td_H s (i + 1) j)) (b := td_H s i j + 1) (by omega) (by omega) rfl (by rw [td_n3, nI_clamp (by omega), hP i j (by omega) (Or.inl (by omega)), nI_1]) ?_
    have hE : max (max (td_H s i (j + 1)) (td_H s (i + 1) j)) (td_H s i j + 1) = td_H s (i + 1) (j + 1) := by
      rw [td_HS, if_pos (by simpa using e)]
    rw [hE]
    exact ⟨pk_in (17 * (i + 1) + (j + 1)) 289 (by omega) (td_rowY _ _), nm_r (e' := upd Hd (17 * (i + 1) + (j + 1)) (nI (td_H s (i + 1) (j + 1)))) (by rw [td_rowY, nI_clamp (by omega)]) (nm_r (nI_1 (j + 1)) K)⟩
  · have hE : max (td_H s i (j + 1)) (td_H s (i + 1) j) = td_H s (i + 1) (j + 1) := by
      rw [td_HS, if_neg (by simpa using e)]; omega
    rw [hE]
    exact br_t rfl (td_w129s (by omega) (by omega) K)
theorem td_w14 {i : Nat} (hB : td_B s n m Tx Zs) (hi : i ≤ n) (hJ : ∀ Hd : Nat → Int32, td_Hp s m (i + 1) 0 Hd → J2 (nI (i + 1)) Zs Tx Hd Tl Os Nw Sp) :
    ∀ (d j : Nat) (Hd : Nat → Int32), j + d = m + 1 → td_Hp s m i j Hd → wY_work_14 post J2 (nI i) My (d + 1) (nI j) Zs Tx Hd Tl Os Nw Sp := by
  have hB' := hB
  obtain ⟨hS, hs, h0, h1, hn, hm⟩ := hB
  intro d
  induction d with
  | zero =>
    intro j Hd hj hP
    refine br_t (by rw [h1]; exact nI_lt (by omega) (by omega)) (nm_r (e' := nI (i + 1)) (nI_1 i) (hJ Hd ?_))
    intro i' j' hj' hh
    exact hP i' j' hj' (by omega)
  | succ d ih =>
    intro j Hd hj hP
    have nx : ∀ v, v = nI (td_H s i j) → wY_work_14 post J2 (nI i) My (d + 1) (nI (j + 1)) Zs Tx (upd Hd (17 * i + j) v) Tl Os Nw Sp := by
      intro v hv
      refine ih (j + 1) _ (by omega) ?_
      intro i' j' hj' hh
      by_cases z : i' = i ∧ j' = j
      · obtain ⟨rfl, rfl⟩ := z
        rw [pk_us, hv]
      · rw [pk_un (by omega)]
        exact hP i' j' hj' (by omega)
    refine br_f (by rw [h1]; exact nI_nlt (by omega) (by omega)) ?_
    rcases i with _ | i
    · refine br_t (by decide) ?_
      have K := nx 0 (by rw [td_H0]; rfl)
      refine pk_le j 0 (fun z => td_w73z (by omega) (by omega) (Or.inl rfl) K) (fun z => ?_)
      obtain ⟨b, rfl⟩ : ∃ b, j = b + 1 := ⟨j - 1, by omega⟩
      exact ⟨pk_in (17 * 0 + b) 289 (by omega) (td_n2 0 b), td_maxa (fun x => td_w73z (by omega) (by omega) (Or.inl rfl) K)⟩
    · refine br_f (nI_nle (by omega) (by omega)) ⟨pk_in (17 * i + j) 289 (by omega) (td_n1 i j), ?_⟩
      rcases j with _ | b
      · have K := nx 0 (by rw [td_Hi0]; rfl)
        exact br_t (by decide) (td_w73z (by omega) (by omega) (Or.inr rfl) K)
      · have b1 := td_Hb s i (b + 1)
        have b2 := td_Hb s (i + 1) b
        refine br_f (nI_nle (by omega) (by omega)) ⟨pk_in (17 * (i + 1) + b) 289 (by omega) (td_n2 (i + 1) b), ?_⟩
        refine td_max (a := td_H s i (b + 1)) (b := td_H s (i + 1) b) (by omega) (by omega) (by rw [td_n1, nI_clamp (by omega)]; exact hP i (b + 1) (by omega) (Or.inl (by omega))) (by rw [td_n2, nI_clamp (by omega)]; exact hP (i + 1) b (by omega) (Or.inr ⟨rfl, by omega⟩)) ?_
        exact td_w73s hB' (by omega) (by omega) hP (nx _ rfl)
end HEAD
section TAIL
variable {post : SY → Prop} {J162 J173 : Int32 → (Nat → Int32) → (Nat → Int32) → (Nat → Int32) → (Nat → Int32) → (Nat → Int32) → (Nat → Int32) → (Nat → Int32) → Prop}
theorem td_w242z {i j : Nat} {x3 : Int32} (hi : i ≤ 16) (hj : j ≤ 16) (K : J173 (td_p j) Zs Tx Hd (upd Tl (17 * i + j) x3) Os Nw Sp) : wY_work_242 post J162 J173 (nI i) (nI j) 0 x3 My Zs Tx Hd Tl Os Nw Sp := by
  refine br_t rfl ⟨pk_in (17 * i + j) 289 (by omega) (td_rowY _ _), nm_r (e' := upd Tl (17 * i + j) x3) (by rw [td_rowY, nI_clamp (by omega)]) (nm_e K)⟩
theorem td_w202s {i j : Nat} (hB : td_B s n m Tx Zs) (hi : i < n) (hj : j < m) (hP : td_Tp s n m (i + 1) (j + 1) Tl) (K : J173 (td_p j) Zs Tx Hd (upd Tl (17 * i + j) (nI (td_T s n m i j))) Os Nw Sp) :
    wY_work_202 post J162 J173 (nI i) (nI j) 1 My Zs Tx Hd Tl Os Nw Sp := by
  have hn := hB.2.2.2.2.1
  have hm := hB.2.2.2.2.2
  have b1 := td_Tbn s n m (i + 1) j
  have b2 := td_Tbn s n m i (j + 1)
  have b3 := td_Tbn s n m (i + 1) (j + 1)
  have hT := td_Tin (s := s) hi hj
  refine br_f (by decide) ⟨pk_in (17 * (i + 1) + j) 289 (by omega) (td_n4 i j), pk_in (17 * i + (j + 1)) 289 (by omega) (td_n5 i j), ?_⟩
  refine td_max (a := td_T s n m (i + 1) j) (b := td_T s n m i (j + 1)) (by omega) (by omega) (by rw [td_n4, nI_clamp (by omega)]; exact hP (i + 1) j (by omega) (by omega) (Or.inl (Nat.le_refl _))) (by rw [td_n5, nI_clamp (by omega)]; exact hP i (j + 1) (by omega) (by omega) (Or.inr ⟨rfl, Nat.le_refl _⟩)) ?_
  refine br_f (by decide) ?_
  refine td_same hB (i := i) (j := j) (by omega) (by omega) rfl rfl (fun e => ?_) (fun e => ?_)
  · refine br_f (by decide) ⟨pk_in (17 * (i + 1) + (j + 1)) 289 (by omega) (td_n6 i j), ?_⟩
    refine td_max (a := max (td_T s n m (i + 1) j) (td_T s n m i (j + 1))) (b := td_T s n m (i + 1) (j + 1) + 1) (by omega) (by omega) rfl (by rw [td_n6, nI_clamp (by omega), hP (i + 1) (j + 1) (by omega) (by omega) (Or.inl (Nat.le_refl _)), nI_1]) ?_
    rw [if_pos (by simpa using e)] at hT
    rw [← hT]
    exact ⟨pk_in (17 * i + j) 289 (by omega) (td_rowY _ _), nm_r (e' := upd Tl (17 * i + j) (nI (td_T s n m i j))) (by rw [td_rowY, nI_clamp (by omega)]) (nm_e K)⟩
  · rw [if_neg (by simpa using e), Nat.max_eq_left (Nat.zero_le _)] at hT
    rw [← hT]
    exact br_t rfl ⟨pk_in (17 * i + j) 289 (by omega) (td_rowY _ _), nm_r (e' := upd Tl (17 * i + j) (nI (td_T s n m i j))) (by rw [td_rowY, nI_clamp (by omega)]) (nm_e K)⟩
theorem td_w173 {i : Nat} (hB : td_B s n m Tx Zs) (hi : i ≤ n) (hJ : ∀ Tl : Nat → Int32, td_Tp s n m i (m + 1) Tl → J162 (td_p i) Zs Tx Hd Tl Os Nw Sp) :
    ∀ (j : Nat) (Tl : Nat → Int32), j ≤ m + 1 → td_Tp s n m (i + 1) j Tl → wY_work_173 post J162 (nI i) My (j + 1) (td_p j) Zs Tx Hd Tl Os Nw Sp := by
  have hB' := hB
  obtain ⟨hS, hs, h0, h1, hn, hm⟩ := hB
  intro j
  induction j with
  | zero =>
    intro Tl hj hP
    refine br_t ((td_p_neg (by decide)).mpr rfl) (nm_e (hJ Tl ?_))
    intro i' j' hi' hj' hh
    exact hP i' j' hi' hj' (by omega)
  | succ j ih =>
    intro Tl hj hP
    have nx : ∀ v, v = nI (td_T s n m i j) → wY_work_173 post J162 (nI i) My (j + 1) (td_p j) Zs Tx Hd (upd Tl (17 * i + j) v) Os Nw Sp := by
      intro v hv
      refine ih _ (by omega) ?_
      intro i' j' hi' hj' hh
      by_cases z : i' = i ∧ j' = j
      · obtain ⟨rfl, rfl⟩ := z
        rw [pk_us, hv]
      · rw [pk_un (by omega)]
        exact hP i' j' hi' hj' (by omega)
    rw [td_ps]
    refine br_f (nI_pos (by omega)) ?_
    rw [h0, h1]
    refine pk_le n i (fun z => ?_) (fun z => pk_le m j (fun z2 => ?_) (fun z2 => ?_))
    · exact br_t rfl (td_w242z (by omega) (by omega) (nx 0 (by rw [td_Tout (by omega)]; rfl)))
    · exact br_t rfl (td_w242z (by omega) (by omega) (nx 0 (by rw [td_Tout (by omega)]; rfl)))
    · exact td_w202s hB' z z2 hP (nx _ rfl)
theorem td_w162 (hB : td_B s n m Tx Zs) (hp : ∀ Tl : Nat → Int32, td_TD s n m Tl → post (My, Zs, Tx, Hd, Tl, Os, Nw, Sp)) :
    ∀ (i : Nat) (Tl : Nat → Int32), i ≤ n + 1 → td_Tp s n m i (m + 1) Tl → wY_work_162 post My (i + 1) (td_p i) Zs Tx Hd Tl Os Nw Sp := by
  have hB' := hB
  obtain ⟨hS, hs, h0, h1, hn, hm⟩ := hB
  intro i
  induction i with
  | zero =>
    intro Tl hi hP
    exact br_t ((td_p_neg (by decide)).mpr rfl) (hp Tl (fun i' j' a b => hP i' j' a b (Or.inl (Nat.zero_le _))))
  | succ i ih =>
    intro Tl hi hP
    rw [td_ps]
    refine br_f (nI_pos (by omega)) (nm_r (e' := td_p (m + 1)) (by rw [h1, td_ps]) (Exists.intro (m + 1 + 1) ?_))
    exact td_w173 hB' (by omega) (fun Tl' hP' => ih Tl' (by omega) hP') (m + 1) Tl (Nat.le_refl _) hP
end TAIL
theorem td_w2 {post : SY → Prop} (hB : td_B s n m Tx Zs) (hp : ∀ Hd Tl : Nat → Int32, td_HD s n m Hd → td_TD s n m Tl → post (My, Zs, Tx, Hd, Tl, Os, Nw, Sp)) :
    ∀ (d i : Nat) (Hd : Nat → Int32), i + d = n + 1 → td_Hp s m i 0 Hd → wY_work_2 post My (d + 1) (nI i) Zs Tx Hd Tl Os Nw Sp := by
  have hB' := hB
  obtain ⟨hS, hs, h0, h1, hn, hm⟩ := hB
  intro d
  induction d with
  | zero =>
    intro i Hd hi hP
    refine br_t (by rw [h0]; exact nI_lt (by omega) (by omega)) (nm_r (e' := td_p (n + 1)) (by rw [h0, td_ps]) (Exists.intro (n + 1 + 1) ?_))
    exact td_w162 hB' (fun Tl hT => hp Hd Tl (fun i' j' a b => hP i' j' b (Or.inl (by omega))) hT) (n + 1) Tl (Nat.le_refl _) (fun i' j' a b hh => absurd hh (by omega))
  | succ d ih =>
    intro i Hd hi hP
    refine br_f (by rw [h0]; exact nI_nlt (by omega) (by omega)) (Exists.intro (m + 1 + 1) ?_)
    exact td_w14 hB' (by omega) (fun Hd' hP' => ih (i + 1) Hd' (by omega) hP') (m + 1) 0 Hd (by omega) hP
theorem td_ywork {post : SY → Prop} (hB : td_B s n m Tx Zs) (hp : ∀ Hd Tl : Nat → Int32, td_HD s n m Hd → td_TD s n m Tl → post (My, Zs, Tx, Hd, Tl, Os, Nw, Sp)) : wpY_work post (My, Zs, Tx, Hd, Tl, Os, Nw, Sp) :=
  Exists.intro (n + 1 + 1) (td_w2 hB hp (n + 1) 0 Hd (by omega) (fun i' j' _ hh => absurd hh (by omega)))
end YW
end
section
/-! the reference's best list and its script -/
def td_YW (l : List Nat) (My : Int32) (Sp : Nat → Int32) : Prop := My = nI l.length ∧ ∀ q, q < l.length → Sp q = nI (l.getD q 0) ∧ l.getD q 0 < 64
section YL
variable {s : Nat → Nat} {n m : Nat} {My : Int32} {Zs Tx Hd Tl Os Nw Sp : Nat → Int32}
theorem td_l17 {post : Int32 → Prop} {J3 : Int32 → Prop} {a p : Nat} {x2 : Int32} (hB : td_B s n m Tx Zs) (hT : td_TD s n m Tl) (ha : a < n) (hp : p ≤ 16) :
    ∀ d b : Nat, b + d = m → (∀ c, td_fi (fun b => (s a == s (16 + b)) && (td_T s n m (a + 1) (b + 1) + 1 == p)) d b = c + 1 → post (nI (16 * a + c))) →
    (td_fi (fun b => (s a == s (16 + b)) && (td_T s n m (a + 1) (b + 1) + 1 == p)) d b = 0 → J3 (nI (a + 1))) →
    wY_least_17 post J3 x2 (nI p) (nI a) My Zs Tx Hd Tl Os Nw Sp (d + 1) (nI b) := by
  have hB' := hB
  obtain ⟨hS, hs, h0, h1, hn, hm⟩ := hB
  intro d
  induction d with
  | zero =>
    intro b hb hc hz
    exact br_t (by rw [h1]; exact nI_le (by omega) (by omega)) (nm_r (e' := nI (a + 1)) (nI_1 a) (hz rfl))
  | succ d ih =>
    intro b hb hc hz
    have b3 := td_Tbn s n m (a + 1) (b + 1)
    have nx : ¬ ((s a == s (16 + b)) && (td_T s n m (a + 1) (b + 1) + 1 == p)) = true → wY_least_17 post J3 x2 (nI p) (nI a) My Zs Tx Hd Tl Os Nw Sp (d + 1) (nI (b + 1)) := by
      intro w
      refine ih (b + 1) (by omega) (fun c e => hc c ?_) (fun e => hz ?_)
      · rw [td_fi_f w]; exact e
      · rw [td_fi_f w]; exact e
    refine br_f (by rw [h1]; exact nI_ge (by omega) (by omega)) ?_
    refine td_same hB' (i := a) (j := b) (by omega) (by omega) rfl rfl (fun e => ?_) (fun e => ?_)
    · refine br_f (by decide) ⟨pk_in (17 * (a + 1) + (b + 1)) 289 (by omega) (td_n6 a b), ?_⟩
      rw [td_n6, nI_clamp (by omega), hT (a + 1) (b + 1) (by omega) (by omega), nI_1]
      refine pk_eq (td_T s n m (a + 1) (b + 1) + 1) p (fun w => ?_) (fun w => ?_)
      · rw [show (16 : Int32) = nI 16 from rfl, pk_mul, nI_add]
        exact hc b (td_fi_t (by simp [e, w]))
      · exact nm_r (e' := nI (b + 1)) (nI_1 b) (nx (by simp [w]))
    · exact br_t rfl (nm_r (e' := nI (b + 1)) (nI_1 b) (nx (by simp [e])))
theorem td_l3 {post : Int32 → Prop} {j p a' b' : Nat} (hB : td_B s n m Tx Zs) (hT : td_TD s n m Tl) (hj : j ≤ m) (hp : p ≤ 16) (hr : td_rc s n m j p a' = b' + 1) (hq : post (nI (16 * a' + b'))) :
    ∀ d a : Nat, a + d = n → td_fi (fun a => td_rc s n m j p a != 0) d a = a' + 1 → wY_least_3 post (nI j) (nI p) My Zs Tx Hd Tl Os Nw Sp (d + 1) (nI a) := by
  have hB' := hB
  obtain ⟨hS, hs, h0, h1, hn, hm⟩ := hB
  intro d
  induction d with
  | zero =>
    intro a ha hf
    rw [td_fi_0] at hf
    exact absurd hf (by omega)
  | succ d ih =>
    intro a ha hf
    refine br_f (by rw [h0]; exact nI_ge (by omega) (by omega)) (Exists.intro (m - j + 1) ?_)
    refine td_l17 hB' hT (by omega) hp (m - j) j (by omega) (fun c e => ?_) (fun e => ?_)
    · have e' : td_rc s n m j p a = c + 1 := e
      rw [td_fi_t (by simp [e'])] at hf
      have : a' = a := by omega
      subst this
      have : c = b' := by omega
      subst this
      exact hq
    · have e' : td_rc s n m j p a = 0 := e
      rw [td_fi_f (by simp [e'])] at hf
      exact ih (a + 1) (by omega) hf
theorem td_y18 {post : SY → Prop} (hB : td_B s n m Tx Zs) (hT : td_TD s n m Tl) (hp : ∀ Os Nw : Nat → Int32, td_BN s n m (td_T s n m 0 0) Os Nw → post (My, Zs, Tx, Hd, Tl, Os, Nw, Sp)) :
    ∀ (d k : Nat) (Os Nw : Nat → Int32), k + d = td_T s n m 0 0 → td_BN s n m k Os Nw →
    wY_list_18 post (nI (td_T s n m 0 0)) My (d + 1) (nI (td_bl s n m k).1) (nI (td_bl s n m k).2) (nI k) Zs Tx Hd Tl Os Nw Sp := by
  have hB' := hB
  obtain ⟨hS, hs, h0, h1, hn, hm⟩ := hB
  have hP := td_Tbn s n m 0 0
  intro d
  induction d with
  | zero =>
    intro k Os Nw hk hN
    have hkP : k = td_T s n m 0 0 := by omega
    subst hkP
    exact br_t (nI_le (Nat.le_refl _) (by omega)) (hp Os Nw hN)
  | succ d ih =>
    intro k Os Nw hk hN
    have hbT := td_blT s n m k (by omega)
    obtain ⟨a, b, e, q1, q2, q3, q4⟩ := td_blx s n m (show k < td_T s n m 0 0 by omega)
    have g1 : (td_bl s n m (k + 1)).1 = a + 1 := by rw [e]
    have g2 : (td_bl s n m (k + 1)).2 = b + 1 := by rw [e]
    have r1 : td_ra s n m (td_bl s n m k).1 (td_bl s n m k).2 (td_T s n m 0 0 - k) = a + 1 := g1
    have r2 : td_rc s n m (td_bl s n m k).2 (td_T s n m 0 0 - k) a = b + 1 := by rw [td_blS2, g1] at g2; exact g2
    refine br_f (nI_ge (by omega) (by omega)) (br_f (nI_ge (b := 16) (by omega) (by decide)) ?_)
    rw [pk_sub (by omega)]
    refine Exists.intro (n - (td_bl s n m k).1 + 1) (td_l3 (p := td_T s n m 0 0 - k) hB' hT hbT.2.2 (by omega) r2 ?_ (n - (td_bl s n m k).1) _ (by omega) r1)
    have d1 : nI (16 * a + b) / 16 = nI a := (pk_div (d := 16) (by omega) (by decide) (by decide)).trans (congrArg nI (by omega))
    have d2 : nI (16 * a + b) - nI (16 * a + b) / 16 * 16 = nI b := (pk_rem (d := 16) (by omega) (by decide) (by decide)).trans (congrArg nI (by omega))
    refine ⟨by decide, pk_in k 16 (by omega), nm_r (e' := upd Os k (nI a)) (by rw [nI_clamp (by omega), d1]) ⟨by decide, pk_in k 16 (by omega), nm_r (e' := upd Nw k (nI b)) (by rw [nI_clamp (by omega), d2]) ⟨pk_in k 16 (by omega), ?_⟩⟩⟩
    refine nm_r (e' := nI (a + 1)) (by rw [nI_clamp (by omega), pk_us, nI_1]) ⟨pk_in k 16 (by omega), nm_r (e' := nI (b + 1)) (by rw [nI_clamp (by omega), pk_us, nI_1]) (nm_r (e' := nI (k + 1)) (nI_1 k) ?_)⟩
    rw [← g1, ← g2]
    refine ih (k + 1) _ _ (by omega) ?_
    intro q hq
    by_cases z' : q = k
    · subst z'
      rw [pk_us, pk_us, g1, g2]
      exact ⟨rfl, rfl⟩
    · rw [pk_un z', pk_un z']
      exact hN q (by omega)
theorem td_ylist {post : SY → Prop} (hB : td_B s n m Tx Zs) (hp : ∀ Hd Tl Os Nw : Nat → Int32, td_TD s n m Tl → td_BN s n m (td_T s n m 0 0) Os Nw → post (My, Zs, Tx, Hd, Tl, Os, Nw, Sp)) : wpY_list post (My, Zs, Tx, Hd, Tl, Os, Nw, Sp) := by
  refine td_ywork hB ?_
  intro Hd Tl _ hT
  refine nm_r (e' := nI (td_T s n m 0 0)) (hT 0 0 (Nat.zero_le _) (Nat.zero_le _)) (Exists.intro (td_T s n m 0 0 + 1) ?_)
  exact td_y18 hB hT (fun Os Nw hN => hp Hd Tl Os Nw hT hN) (td_T s n m 0 0) 0 Os Nw (Nat.zero_add _) (fun q hq => absurd hq (by omega))
theorem td_put {post : SY → Prop} {l : List Nat} {a b : Nat} {x1 x2 : Int32} (hW : td_YW l My Sp) (hl : l.length < 32) (ha : a < 4) (hb : b < 8) (e1 : x1 = nI a) (e2 : x2 = nI b)
    (hp : ∀ (My : Int32) (Sp : Nat → Int32), td_YW (l ++ [a + 4 * b]) My Sp → post (My, Zs, Tx, Hd, Tl, Os, Nw, Sp)) : wpY_put post (My, Zs, Tx, Hd, Tl, Os, Nw, Sp) x1 x2 := by
  obtain ⟨hc, hq⟩ := hW
  subst hc e1 e2
  refine br_f (nI_ge (b := 32) (by omega) (by decide)) ⟨pk_in l.length 32 hl, nm_r (e' := upd Sp l.length (nI (a + 4 * b))) (by rw [nI_clamp (by omega), show (4 : Int32) = nI 4 from rfl, pk_mul, nI_add]) (nm_r (e' := nI (l.length + 1)) (nI_1 _) ?_)⟩
  refine hp _ _ ⟨by rw [List.length_append]; rfl, ?_⟩
  intro q hql
  rw [List.length_append] at hql
  by_cases z : q = l.length
  · subst z
    rw [pk_us, td_gd2]
    exact ⟨rfl, by omega⟩
  · have hq' : q < l.length := by
      have : [a + 4 * b].length = 1 := rfl
      omega
    rw [pk_un z, td_gd1 hq']
    exact hq q hq'
section WR
variable {post : SY → Prop} {J15 : Int32 → Int32 → Int32 → Int32 → (Nat → Int32) → (Nat → Int32) → (Nat → Int32) → (Nat → Int32) → (Nat → Int32) → (Nat → Int32) → (Nat → Int32) → Prop} {x4 : Int32} {a b k : Nat} {L : List Nat}
theorem td_w115 (hB : td_B s n m Tx Zs) (han : a ≤ n) (hbm : b ≤ m) (hL : L.length ≤ 32)
    (hX : (x4 = 0 ∧ L.length < 32 ∧ ∀ (My : Int32) (Sp : Nat → Int32), td_YW (L ++ [0 + 4 * s a]) My Sp → J15 (nI (a + 1)) (nI (b + 1)) (nI (k + 1)) My Zs Tx Hd Tl Os Nw Sp) ∨ (x4 = 1 ∧ ∀ (My : Int32) (Sp : Nat → Int32), td_YW L My Sp → J15 (nI a) (nI b) (nI (k + 1)) My Zs Tx Hd Tl Os Nw Sp)) :
    ∀ (d j : Nat) (l : List Nat) (My : Int32) (Sp : Nat → Int32), j + d = b → td_YW l My Sp → l ++ td_sg (td_gP s) d j = L →
    wY_write_115 post J15 (nI a) (nI k) x4 (nI a) (nI b) (d + 1) (nI j) My Zs Tx Hd Tl Os Nw Sp := by
  obtain ⟨hS, hs, h0, h1, hn, hm⟩ := hB
  intro d
  induction d with
  | zero =>
    intro j l My Sp hj hW hl
    have hjb : j = b := by omega
    subst hjb
    rw [td_sg, List.append_nil] at hl
    subst hl
    refine br_t (nI_le (Nat.le_refl _) (by omega)) ?_
    rcases hX with ⟨h4, hl32, hX⟩ | ⟨h4, hX⟩
    · subst h4
      refine br_t rfl ⟨pk_in a 32 (by omega), ?_⟩
      refine td_put (a := 0) (b := s a) hW hl32 (by omega) (hs _) rfl (by rw [nI_clamp (by omega), hS]) ?_
      intro My Sp hW'
      exact nm_r (e' := nI (a + 1)) (nI_1 a) (nm_r (e' := nI (j + 1)) (nI_1 j) (nm_r (e' := nI (k + 1)) (nI_1 k) (hX _ _ hW')))
    · subst h4
      exact br_f (by decide) (nm_r (e' := nI (k + 1)) (nI_1 k) (hX _ _ hW))
  | succ d ih =>
    intro j l My Sp hj hW hl
    have hlen : l.length < 32 := by
      have := congrArg List.length hl
      rw [List.length_append, td_sg_l] at this
      omega
    refine br_f (nI_ge (by omega) (by omega)) ⟨pk_in (16 + j) 32 (by omega) (td_16 j), ?_⟩
    refine td_put (a := 2) (b := s (16 + j)) hW hlen (by omega) (hs _) rfl (by rw [td_16, nI_clamp (by omega), hS]) ?_
    intro My Sp hW'
    refine nm_r (e' := nI (j + 1)) (nI_1 j) (ih (j + 1) _ _ _ (by omega) hW' ?_)
    rw [List.append_assoc]
    exact hl
theorem td_w92 {j : Nat} (hB : td_B s n m Tx Zs) (han : a ≤ n) (hbm : b ≤ m) (hjb : j ≤ b) (hL : L.length ≤ 32)
    (hX : (x4 = 0 ∧ L.length < 32 ∧ ∀ (My : Int32) (Sp : Nat → Int32), td_YW (L ++ [0 + 4 * s a]) My Sp → J15 (nI (a + 1)) (nI (b + 1)) (nI (k + 1)) My Zs Tx Hd Tl Os Nw Sp) ∨ (x4 = 1 ∧ ∀ (My : Int32) (Sp : Nat → Int32), td_YW L My Sp → J15 (nI a) (nI b) (nI (k + 1)) My Zs Tx Hd Tl Os Nw Sp)) :
    ∀ (d i : Nat) (l : List Nat) (My : Int32) (Sp : Nat → Int32), i + d = a → td_YW l My Sp → l ++ (td_sg (td_gT s) d i ++ td_sg (td_gP s) (b - j) j) = L →
    wY_write_92 post J15 (nI j) (nI k) x4 (nI a) (nI b) (d + 1) (nI i) My Zs Tx Hd Tl Os Nw Sp := by
  have hB' := hB
  obtain ⟨hS, hs, h0, h1, hn, hm⟩ := hB
  intro d
  induction d with
  | zero =>
    intro i l My Sp hi hW hl
    have hia : i = a := by omega
    subst hia
    exact br_t (nI_le (Nat.le_refl _) (by omega)) (Exists.intro (b - j + 1) (td_w115 hB' han hbm hL hX (b - j) j l My Sp (by omega) hW hl))
  | succ d ih =>
    intro i l My Sp hi hW hl
    have hlen : l.length < 32 := by
      have := congrArg List.length hl
      rw [List.length_append, List.length_append, td_sg_l] at this
      omega
    refine br_f (nI_ge (by omega) (by omega)) ⟨pk_in i 32 (by omega), ?_⟩
    refine td_put (a := 1) (b := s i) hW hlen (by omega) (hs _) rfl (by rw [nI_clamp (by omega), hS]) ?_
    intro My Sp hW'
    refine nm_r (e' := nI (i + 1)) (nI_1 i) (ih (i + 1) _ _ _ (by omega) hW' ?_)
    rw [List.append_assoc]
    exact hl
end WR
theorem td_y15e {post : SY → Prop} {x1 x2 : Int32} {f : Nat} (hn : n ≤ 16) (hT : td_TD s n m Tl) (hp : post (My, Zs, Tx, Hd, Tl, Os, Nw, Sp)) : wY_write_15 post (f + 1) x1 x2 (nI (td_T s n m 0 0 + 1)) My Zs Tx Hd Tl Os Nw Sp := by
  have h := hT 0 0 (Nat.zero_le _) (Nat.zero_le _)
  have hP := td_Tbn s n m 0 0
  exact br_t (by rw [show Tl 0 = nI (td_T s n m 0 0) from h]; exact nI_lt (by omega) (by omega)) hp
theorem td_y15 {post : SY → Prop} (hB : td_B s n m Tx Zs) (hT : td_TD s n m Tl) (hN : td_BN s n m (td_T s n m 0 0) Os Nw)
    (hp : ∀ (My : Int32) (Sp : Nat → Int32), td_YW (td_fin s n m) My Sp → post (My, Zs, Tx, Hd, Tl, Os, Nw, Sp)) :
    ∀ (d k : Nat) (My : Int32) (Sp : Nat → Int32), k + d = td_T s n m 0 0 → td_YW (td_sc s n m k) My Sp →
    wY_write_15 post (d + 1 + 1) (nI (td_bl s n m k).1) (nI (td_bl s n m k).2) (nI k) My Zs Tx Hd Tl Os Nw Sp := by
  have hB' := hB
  obtain ⟨hS, hs, h0, h1, hn, hm⟩ := hB
  have hT0 : Tl 0 = nI (td_T s n m 0 0) := hT 0 0 (Nat.zero_le _) (Nat.zero_le _)
  have hP := td_Tbn s n m 0 0
  intro d
  induction d with
  | zero =>
    intro k My Sp hk hW
    have hkP : k = td_T s n m 0 0 := by omega
    have hb := td_blT s n m k (by omega)
    have hl := td_fin_l s n m
    refine br_f (by rw [hT0]; exact nI_nlt (by omega) (by omega)) (br_f (nI_nlt (b := k) (a := 16) (by omega) (by decide)) (br_t (by rw [hT0, hkP]) ?_))
    refine br_f (by decide) (br_f (by decide) ?_)
    refine nm_r (e' := nI m) h1 (Exists.intro (n - (td_bl s n m k).1 + 1) ?_)
    rw [h0]
    refine td_w92 (L := td_fin s n m) hB' (Nat.le_refl _) (Nat.le_refl _) hb.2.2 (by omega) (Or.inr ⟨rfl, ?_⟩) (n - (td_bl s n m k).1) _ (td_sc s n m k) My Sp (by omega) hW (by rw [hkP]; rfl)
    intro My Sp hW'
    rw [hkP]
    exact td_y15e hn hT (hp _ _ hW')
  | succ d ih =>
    intro k My Sp hk hW
    have hb := td_blT s n m k (by omega)
    obtain ⟨a, b, e, q1, q2, q3, q4⟩ := td_blx s n m (show k < td_T s n m 0 0 by omega)
    obtain ⟨hO, hQ⟩ := hN k (by omega)
    rw [e] at hO hQ
    have hO' : Os (nI k).toNatClampNeg = nI a := by rw [nI_clamp (by omega)]; exact hO
    have hQ' : Nw (nI k).toNatClampNeg = nI b := by rw [nI_clamp (by omega)]; exact hQ
    have hl := td_sc_l s n m k (by omega)
    have hL : (td_sc s n m k ++ td_ed s (td_bl s n m k).1 a (td_bl s n m k).2 b).length < 32 := by
      rw [List.length_append, td_ed_l]
      omega
    refine br_f (by rw [hT0]; exact nI_nlt (by omega) (by omega)) (br_f (nI_nlt (b := k) (a := 16) (by omega) (by decide)) (br_f (by rw [hT0, nI_eq (by omega) (by omega)]; omega) ?_))
    refine br_t rfl ⟨pk_in k 16 (by omega), br_t rfl ⟨pk_in k 16 (by omega), nm_r (e' := nI b) hQ' (Exists.intro (a - (td_bl s n m k).1 + 1) ?_)⟩⟩
    rw [hO']
    refine td_w92 (L := td_sc s n m k ++ td_ed s (td_bl s n m k).1 a (td_bl s n m k).2 b) hB' (by omega) (by omega) q3 (by omega) (Or.inl ⟨rfl, hL, ?_⟩) (a - (td_bl s n m k).1) _ (td_sc s n m k) My Sp (by omega) hW rfl
    intro My Sp hW'
    have h := ih (k + 1) My Sp (by omega) (by rw [td_sc, e]; exact hW')
    rw [e] at h
    exact h
theorem td_ywrite {post : SY → Prop} (hB : td_B s n m Tx Zs)
    (hp : ∀ (My : Int32) (Hd Tl Os Nw Sp : Nat → Int32), td_YW (td_fin s n m) My Sp → post (My, Zs, Tx, Hd, Tl, Os, Nw, Sp)) : wpY_write post (My, Zs, Tx, Hd, Tl, Os, Nw, Sp) := by
  refine td_ylist hB ?_
  intro Hd Tl Os Nw hT hN
  exact Exists.intro (td_T s n m 0 0 + 1 + 1) (td_y15 hB hT hN (fun My Sp hW => hp My Hd Tl Os Nw Sp hW) (td_T s n m 0 0) 0 0 Sp (Nat.zero_add _) ⟨rfl, fun q hq => absurd hq (by show ¬ q < 0; omega)⟩)
end YL
end
section
/-! the small methods, and the texts' changes -/
theorem td_Bsz {s : Nat → Nat} {n m w : Nat} {Sy Sz : Nat → Int32} (hB : td_B s n m Sy Sz) (hw : w < 2) : ∃ c, c ≤ 16 ∧ Sz w = nI c ∧ ∀ c', c' ≤ 16 → ∃ n' m', td_B s n' m' Sy (upd Sz w (nI c')) := by
  obtain ⟨hS, hs, h0, h1, hn, hm⟩ := hB
  rcases w with _ | w
  · exact ⟨n, hn, h0, fun c' hc' => ⟨c', m, hS, hs, pk_us, by rw [pk_un (by decide)]; exact h1, hc', hm⟩⟩
  · have : w = 0 := by omega
    subst this
    exact ⟨m, hm, h1, fun c' hc' => ⟨n, c', hS, hs, by rw [pk_un (by decide)]; exact h0, pk_us, hn, hc'⟩⟩
theorem td_Bsy {s : Nat → Nat} {n m k x : Nat} {Sy Sz : Nat → Int32} (hB : td_B s n m Sy Sz) (hx : x < 8) : ∃ s', td_B s' n m (upd Sy k (nI x)) Sz := by
  obtain ⟨hS, hs, h0, h1, hn, hm⟩ := hB
  refine ⟨fun j => if j = k then x else s j, fun j => ?_, fun j => ?_, h0, h1, hn, hm⟩
  · show upd Sy k (nI x) j = nI (if j = k then x else s j)
    by_cases z : j = k
    · rw [if_pos z, z, pk_us]
    · rw [if_neg z, pk_un z, hS]
  · show (if j = k then x else s j) < 8
    split
    · exact hx
    · exact hs j
theorem td_text (p : Int32) : (∃ w, w < 2 ∧ p = nI w) ∨ (p ≠ 0 ∧ p ≠ 1) := by
  by_cases h0 : p = 0
  · exact Or.inl ⟨0, by decide, h0⟩
  · by_cases h1 : p = 1
    · exact Or.inl ⟨1, by decide, h1⟩
    · exact Or.inr ⟨h0, h1⟩
theorem td_symb (p : Int32) : (∃ c, c < 8 ∧ p = nI c) ∨ p < 0 ∨ (¬ p < 0 ∧ 8 ≤ p ∧ ¬ p ≤ 7) := by
  by_cases h : p < 0
  · exact Or.inr (Or.inl h)
  · obtain ⟨j, hj, rfl⟩ := nI_of h
    by_cases h8 : j < 8
    · exact Or.inl ⟨j, h8, rfl⟩
    · exact Or.inr (Or.inr ⟨h, nI_le (a := 8) (by omega) hj, nI_ge (a := 7) (by omega) hj⟩)
section TX
variable {post : Int32 → Prop} {w c : Nat} {p : Int32} {My : Int32} {Zs Tx Hd Tl Os Nw Sp : Nat → Int32}
theorem td_txT (hw : w < 2) (hp : post 1) : wpX_isText post (nI w) := by
  rcases w with _ | w
  · exact br_t rfl hp
  · have : w = 0 := by omega
    subst this
    exact br_f (by decide) (br_t rfl hp)
theorem td_txF (h : p ≠ 0 ∧ p ≠ 1) (hp : post 0) : wpX_isText post p := br_f h.1 (br_f h.2 hp)
theorem td_ytT (hw : w < 2) (hp : post 1) : wpY_text post (My, Zs, Tx, Hd, Tl, Os, Nw, Sp) (nI w) := by
  rcases w with _ | w
  · exact br_t rfl hp
  · have : w = 0 := by omega
    subst this
    exact br_f (by decide) (br_t rfl hp)
theorem td_ytF (h : p ≠ 0 ∧ p ≠ 1) (hp : post 0) : wpY_text post (My, Zs, Tx, Hd, Tl, Os, Nw, Sp) p := br_f h.1 (br_f h.2 hp)
theorem td_syT (hc : c < 8) (hp : post 1) : wpX_isSymbol post (nI c) := br_f (nI_pos (by omega)) (br_f (nI_ge (b := 8) hc (by decide)) hp)
theorem td_syN (h : p < 0) (hp : post 0) : wpX_isSymbol post p := br_t h hp
theorem td_syP (h : ¬ p < 0) (h8 : 8 ≤ p) (hp : post 0) : wpX_isSymbol post p := br_f h (br_t h8 hp)
end TX
/-! swap -/
def td_sw (f : Nat → Int32) : Nat → Nat → Int32
  | 0 => f
  | k + 1 => upd (upd (td_sw f k) k (td_sw f k (16 + k))) (16 + k) (td_sw f k k)
theorem td_swB {f : Nat → Int32} (h : ∀ i, ∃ c, c < 8 ∧ f i = nI c) : ∀ k i, ∃ c, c < 8 ∧ td_sw f k i = nI c := by
  intro k
  induction k with
  | zero => exact h
  | succ k ih =>
    intro i
    show ∃ c, c < 8 ∧ upd (upd (td_sw f k) k (td_sw f k (16 + k))) (16 + k) (td_sw f k k) i = nI c
    by_cases z : i = 16 + k
    · rw [z, pk_us]; exact ih k
    · rw [pk_un z]
      by_cases z2 : i = k
      · rw [z2, pk_us]; exact ih (16 + k)
      · rw [pk_un z2]; exact ih i
theorem td_nar8 {x : Int32} (h : ∃ c, c < 8 ∧ x = nI c) : vp_nar .byte x = x := by
  obtain ⟨c, hc, rfl⟩ := h
  exact td_nb (by omega)
section SW
variable {s : Nat → Nat} {n m : Nat} {Fk Fp Fc : Int32} {Sy Sz Ne Ol Ea La En St Bo Bn Sk Sw : Nat → Int32} {My : Int32} {Zs Tx Hd Tl Os Nw Sp : Nat → Int32}
theorem td_xsw {post : SX → Prop} (hB : td_B s n m Sy Sz) (hp : post (0, Fp, Fc, td_sw Sy 16, upd (upd Sz 0 (nI m)) 1 (nI n), Ne, Ol, Ea, La, En, St, Bo, Bn, Sk, Sw)) :
    ∀ d i : Nat, i + d = 16 → wX_swap_2 post Fk Fp Fc (d + 1) (nI i) (td_sw Sy i) Sz Ne Ol Ea La En St Bo Bn Sk Sw := by
  obtain ⟨hS, hs, h0, h1, hn, hm⟩ := hB
  have hb := td_swB (f := Sy) (fun i => ⟨s i, hs i, hS i⟩)
  intro d
  induction d with
  | zero =>
    intro i hi
    have : i = 16 := by omega
    subst this
    exact br_t (by decide) (nm_r (e' := nI n) h0 (nm_r (e' := upd Sz 0 (nI m)) (by rw [h1, td_nb (by omega)]) (nm_r (e' := upd (upd Sz 0 (nI m)) 1 (nI n)) (by rw [td_nb (by omega)]) hp)))
  | succ d ih =>
    intro i hi
    refine br_f (nI_ge (b := 16) (by omega) (by decide)) ⟨pk_in i 32 (by omega), nm_r (e' := td_sw Sy i i) (by rw [nI_clamp (by omega)]) ⟨pk_in (16 + i) 32 (by omega) (td_16 i), pk_in i 32 (by omega), ?_⟩⟩
    refine nm_r (e' := upd (td_sw Sy i) i (td_sw Sy i (16 + i))) (by rw [nI_clamp (n := i) (by omega), td_16, nI_clamp (by omega), td_nar8 (hb i _)]) ⟨pk_in (16 + i) 32 (by omega) (td_16 i), ?_⟩
    exact nm_r (e' := td_sw Sy (i + 1)) (by rw [td_16, nI_clamp (by omega), td_nar8 (hb i _)]; rfl) (nm_r (e' := nI (i + 1)) (nI_1 i) (ih (i + 1) (by omega)))
theorem td_ysw {post : SY → Prop} (h0 : Zs 0 = nI n) (h1 : Zs 1 = nI m) (hp : post (My, upd (upd Zs 0 (nI m)) 1 (nI n), td_sw Tx 16, Hd, Tl, Os, Nw, Sp)) :
    ∀ d i : Nat, i + d = 16 → wY_swap_2 post My (d + 1) (nI i) Zs (td_sw Tx i) Hd Tl Os Nw Sp := by
  intro d
  induction d with
  | zero =>
    intro i hi
    have : i = 16 := by omega
    subst this
    exact br_t (by decide) (nm_r (e' := nI n) h0 (nm_r (e' := upd Zs 0 (nI m)) (by rw [h1]) (nm_r (e' := upd (upd Zs 0 (nI m)) 1 (nI n)) rfl hp)))
  | succ d ih =>
    intro i hi
    refine br_f (nI_ge (b := 16) (by omega) (by decide)) ⟨pk_in i 32 (by omega), nm_r (e' := td_sw Tx i i) (by rw [nI_clamp (by omega)]) ⟨pk_in (16 + i) 32 (by omega) (td_16 i), pk_in i 32 (by omega), ?_⟩⟩
    refine nm_r (e' := upd (td_sw Tx i) i (td_sw Tx i (16 + i))) (by rw [nI_clamp (n := i) (by omega), td_16, nI_clamp (by omega)]) ⟨pk_in (16 + i) 32 (by omega) (td_16 i), ?_⟩
    exact nm_r (e' := td_sw Tx (i + 1)) (by rw [td_16, nI_clamp (by omega)]; rfl) (nm_r (e' := nI (i + 1)) (nI_1 i) (ih (i + 1) (by omega)))
end SW
theorem td_Bsw {s : Nat → Nat} {n m : Nat} {Sy Sz : Nat → Int32} (hB : td_B s n m Sy Sz) : ∃ s', td_B s' m n (td_sw Sy 16) (upd (upd Sz 0 (nI m)) 1 (nI n)) := by
  obtain ⟨hS, hs, h0, h1, hn, hm⟩ := hB
  have hb := td_swB (f := Sy) (fun i => ⟨s i, hs i, hS i⟩) 16
  refine ⟨fun i => (td_sw Sy 16 i).toNatClampNeg, fun i => ?_, fun i => ?_, by rw [pk_un (by decide), pk_us], pk_us, hm, hn⟩
  · obtain ⟨c, hc, e⟩ := hb i
    show _ = nI (td_sw Sy 16 i).toNatClampNeg
    rw [e, nI_clamp (by omega)]
  · obtain ⟨c, hc, e⟩ := hb i
    show (td_sw Sy 16 i).toNatClampNeg < 8
    rw [e, nI_clamp (by omega)]
    exact hc
/-! places within the texts -/
theorem td_chF {x y a b : Int32} {A B : Prop} (hn : ¬ (¬ x < 0 ∧ ¬ a ≤ x ∧ ¬ y < 0 ∧ ¬ b ≤ y)) (hA : A) : (x < 0 → A) ∧ (¬ x < 0 → ((a ≤ x → A) ∧ (¬ a ≤ x → ((y < 0 → A) ∧ (¬ y < 0 → ((b ≤ y → A) ∧ (¬ b ≤ y → B))))))) :=
  br_c (fun _ => hA) (fun h1 => br_c (fun _ => hA) (fun h2 => br_c (fun _ => hA) (fun h3 => br_c (fun _ => hA) (fun h4 => absurd ⟨h1, h2, h3, h4⟩ hn))))
theorem td_chT {x y a b : Int32} {A B : Prop} (h : ¬ x < 0 ∧ ¬ a ≤ x ∧ ¬ y < 0 ∧ ¬ b ≤ y) (hB : B) : (x < 0 → A) ∧ (¬ x < 0 → ((a ≤ x → A) ∧ (¬ a ≤ x → ((y < 0 → A) ∧ (¬ y < 0 → ((b ≤ y → A) ∧ (¬ b ≤ y → B))))))) :=
  br_f h.1 (br_f h.2.1 (br_f h.2.2.1 (br_f h.2.2.2 hB)))
theorem td_clF {x y a b : Int32} {A B : Prop} (hn : ¬ (¬ x < 0 ∧ ¬ a < x ∧ ¬ y < 0 ∧ ¬ b < y)) (hA : A) : (x < 0 → A) ∧ (¬ x < 0 → ((a < x → A) ∧ (¬ a < x → ((y < 0 → A) ∧ (¬ y < 0 → ((b < y → A) ∧ (¬ b < y → B))))))) :=
  br_c (fun _ => hA) (fun h1 => br_c (fun _ => hA) (fun h2 => br_c (fun _ => hA) (fun h3 => br_c (fun _ => hA) (fun h4 => absurd ⟨h1, h2, h3, h4⟩ hn))))
theorem td_clT {x y a b : Int32} {A B : Prop} (h : ¬ x < 0 ∧ ¬ a < x ∧ ¬ y < 0 ∧ ¬ b < y) (hB : B) : (x < 0 → A) ∧ (¬ x < 0 → ((a < x → A) ∧ (¬ a < x → ((y < 0 → A) ∧ (¬ y < 0 → ((b < y → A) ∧ (¬ b < y → B))))))) :=
  br_f h.1 (br_f h.2.1 (br_f h.2.2.1 (br_f h.2.2.2 hB)))
theorem td_le_of {x a : Int32} {n : Nat} (hn : n ≤ 16) (ha : a = nI n) (h0 : ¬ x < 0) (h : ¬ a < x) : ∃ i, i ≤ n ∧ x = nI i := by
  subst ha
  obtain ⟨j, hj, rfl⟩ := nI_of h0
  rw [nI_ltI (by omega) hj] at h
  exact ⟨j, by omega, rfl⟩
theorem td_lt_of {x a : Int32} {n : Nat} (hn : n ≤ 40) (ha : a = nI n) (h0 : ¬ x < 0) (h : ¬ a ≤ x) : ∃ i, i < n ∧ x = nI i := by
  subst ha
  obtain ⟨j, hj, rfl⟩ := nI_of h0
  rw [nI_leI (by omega) hj] at h
  exact ⟨j, by omega, rfl⟩
end
section
/-! the relation, and what is owed -/
/-- both hold the same texts (every cell a symbol, sizes up to 16); what X has learned, if it has, is true of them -/
def i_Rel (k : Nat) (u : SX) (v : SY) : Prop := match u, v with
  | (Fk, Fp, Fc, Sy, Sz, Ne, Ol, Ea, La, En, St, Bo, Bn, Sk, Sw), (My, Zs, Tx, Hd, Tl, Os, Nw, Sp) => ∃ (s : Nat → Nat) (n m : Nat), td_B s n m Sy Sz ∧ Zs = Sz ∧ Tx = Sy ∧ (Fk = 0 ∨ td_LN s n m Fp Fc En St Bo Bn Sk Sw)
theorem i_up {k : Nat} {u : SX} {v : SY} (h : i_Rel k u v) : i_Rel (k + 4) u v := h
theorem td_el {P : SX → SY → Prop} {k : Nat} {u : SX} {v : SY} (I : i_Rel k u v)
    (h : ∀ (s : Nat → Nat) (n m : Nat) (Fk Fp Fc : Int32) (Sy Sz Ne Ol Ea La En St Bo Bn Sk Sw : Nat → Int32) (My : Int32) (Hd Tl Os Nw Sp : Nat → Int32), td_B s n m Sy Sz → (Fk = 0 ∨ td_LN s n m Fp Fc En St Bo Bn Sk Sw) → P (Fk, Fp, Fc, Sy, Sz, Ne, Ol, Ea, La, En, St, Bo, Bn, Sk, Sw) (My, Sz, Sy, Hd, Tl, Os, Nw, Sp)) : P u v := by
  obtain ⟨Fk, Fp, Fc, Sy, Sz, Ne, Ol, Ea, La, En, St, Bo, Bn, Sk, Sw⟩ := u
  obtain ⟨My, Zs, Tx, Hd, Tl, Os, Nw, Sp⟩ := v
  obtain ⟨s, n, m, hB, hz, ht, hK⟩ := I
  subst hz ht
  exact h s n m _ _ _ _ _ _ _ _ _ _ _ _ _ _ _ _ _ _ _ _ _ hB hK
section OW
variable {s : Nat → Nat} {n m k : Nat} {Fk Fp Fc : Int32} {Sy Sz Ne Ol Ea La En St Bo Bn Sk Sw : Nat → Int32} {My : Int32} {Zs Tx Hd Tl Os Nw Sp : Nat → Int32}
theorem td_mk (hB : td_B s n m Sy Sz) (hK : Fk = 0 ∨ td_LN s n m Fp Fc En St Bo Bn Sk Sw) : i_Rel k (Fk, Fp, Fc, Sy, Sz, Ne, Ol, Ea, La, En, St, Bo, Bn, Sk, Sw) (My, Sz, Sy, Hd, Tl, Os, Nw, Sp) := ⟨s, n, m, hB, rfl, rfl, hK⟩
end OW
theorem i_vc0 : wpX_init (fun u => wpY_init (fun v => i_Rel 0 u v)) := by
  unfold wpX_init wpY_init
  exact td_mk (s := fun _ => 0) (n := 0) (m := 0) ⟨fun _ => rfl, fun _ => Nat.zero_lt_succ _, rfl, rfl, by decide, by decide⟩ (Or.inl rfl)
theorem i_vc_append {k : Nat} {u : SX} {v : SY} (I : i_Rel k u v) (hk : k + 4 ≤ 2048) (v1 : Int32) (v2 : Int32) : wpX_append (fun r u' => wpY_append (fun r' v' => r' = r ∧ i_Rel (k + 4) u' v') v v1 v2) u v1 v2 := by
  refine td_el (P := fun u v => wpX_append (fun r u' => wpY_append (fun r' v' => r' = r ∧ i_Rel (k + 4) u' v') v v1 v2) u v1 v2) I ?_
  intro s n m Fk Fp Fc Sy Sz Ne Ol Ea La En St Bo Bn Sk Sw My Hd Tl Os Nw Sp hB hK
  unfold wpX_append wpY_append
  dsimp only
  have R : i_Rel (k + 4) (Fk, Fp, Fc, Sy, Sz, Ne, Ol, Ea, La, En, St, Bo, Bn, Sk, Sw) (My, Sz, Sy, Hd, Tl, Os, Nw, Sp) := td_mk hB hK
  rcases td_text v1 with ⟨w, hw, rfl⟩ | hf
  · rcases td_symb v2 with ⟨c, hc, rfl⟩ | h | ⟨h, h8, h7⟩
    · obtain ⟨z, hz, hzE, hzU⟩ := td_Bsz hB hw
      have cw : (nI w).toNatClampNeg = w := nI_clamp (by omega)
      have i1 : nI w * 16 + nI z = nI (16 * w + z) := by rw [show (16 : Int32) = nI 16 from rfl, pk_mul, nI_add, Nat.mul_comm]
      have i2 : 16 * nI w + nI z = nI (16 * w + z) := by rw [show (16 : Int32) = nI 16 from rfl, pk_mul, nI_add]
      refine td_txT hw ?_
      refine br_f (by decide) ?_
      refine td_syT hc ?_
      refine br_f (by decide) ?_
      refine And.intro (pk_in w 2 hw) ?_
      rw [cw, hzE]
      refine pk_lt z 16 (fun hlt => ?_) (fun hge => ?_)
      · obtain ⟨n', m', hB'⟩ := hzU (z + 1) (by omega)
        obtain ⟨s', hB2⟩ := td_Bsy (k := 16 * w + z) hB' hc
        refine ⟨pk_in w 2 hw, pk_in (16 * w + z) 32 (by omega) i1, nm_r (e' := upd Sy (16 * w + z) (nI c)) (by rw [i1, nI_clamp (by omega), td_nb2 (by omega)]) ⟨pk_in w 2 hw, pk_in w 2 hw, nm_r (e' := upd Sz w (nI (z + 1))) (by rw [nI_1, td_nb2 (by omega)]) ⟨pk_in w 2 hw, ?_⟩⟩⟩
        refine td_ytT hw ?_
        refine br_f (by decide) ?_
        refine br_f (nI_pos (by omega)) ?_
        refine br_t (nI_le (b := 7) (by omega) (by decide)) ?_
        refine And.intro (pk_in w 2 hw) ?_
        refine br_t (nI_lt (b := 16) hlt (by decide)) ⟨pk_in w 2 hw, pk_in (16 * w + z) 32 (by omega) i2, nm_r (e' := upd Sy (16 * w + z) (nI c)) (by rw [i2, nI_clamp (by omega)]) ⟨pk_in w 2 hw, pk_in w 2 hw, nm_r (e' := upd Sz w (nI (z + 1))) (by rw [nI_1]) ⟨pk_in w 2 hw, rfl, ?_⟩⟩⟩
        exact td_mk hB2 (Or.inl rfl)
      · refine td_ytT hw ?_
        refine br_f (by decide) ?_
        refine br_f (nI_pos (by omega)) ?_
        refine br_t (nI_le (b := 7) (by omega) (by decide)) ?_
        refine And.intro (pk_in w 2 hw) ?_
        exact br_f (nI_nlt (b := 16) hge (by omega)) ⟨rfl, R⟩
    · refine td_txT hw ?_
      refine br_f (by decide) ?_
      refine td_syN h ?_
      refine br_t rfl ?_
      refine td_ytT hw ?_
      refine br_f (by decide) ?_
      exact br_t h ⟨rfl, R⟩
    · refine td_txT hw ?_
      refine br_f (by decide) ?_
      refine td_syP h h8 ?_
      refine br_t rfl ?_
      refine td_ytT hw ?_
      refine br_f (by decide) ?_
      exact br_f h (br_f h7 ⟨rfl, R⟩)
  · refine td_txF hf ?_
    refine br_t rfl ?_
    refine td_ytF hf ?_
    exact br_t rfl ⟨rfl, R⟩
theorem i_vc_drop {k : Nat} {u : SX} {v : SY} (I : i_Rel k u v) (hk : k + 4 ≤ 2048) (v1 : Int32) : wpX_drop (fun r u' => wpY_drop (fun r' v' => r' = r ∧ i_Rel (k + 4) u' v') v v1) u v1 := by
  refine td_el (P := fun u v => wpX_drop (fun r u' => wpY_drop (fun r' v' => r' = r ∧ i_Rel (k + 4) u' v') v v1) u v1) I ?_
  intro s n m Fk Fp Fc Sy Sz Ne Ol Ea La En St Bo Bn Sk Sw My Hd Tl Os Nw Sp hB hK
  unfold wpX_drop wpY_drop
  dsimp only
  have R : i_Rel (k + 4) (Fk, Fp, Fc, Sy, Sz, Ne, Ol, Ea, La, En, St, Bo, Bn, Sk, Sw) (My, Sz, Sy, Hd, Tl, Os, Nw, Sp) := td_mk hB hK
  rcases td_text v1 with ⟨w, hw, rfl⟩ | hf
  · obtain ⟨z, hz, hzE, hzU⟩ := td_Bsz hB hw
    have cw : (nI w).toNatClampNeg = w := nI_clamp (by omega)
    refine td_txT hw ?_
    refine br_f (by decide) ?_
    refine And.intro (pk_in w 2 hw) ?_
    rw [cw, hzE]
    refine pk_eq z 0 (fun h0 => ?_) (fun h0 => ?_)
    · refine td_ytT hw ?_
      refine br_f (by decide) ?_
      refine And.intro (pk_in w 2 hw) ?_
      exact br_t (by rw [h0]; rfl) ⟨rfl, R⟩
    · obtain ⟨z', rfl⟩ : ∃ z', z = z' + 1 := ⟨z - 1, by omega⟩
      obtain ⟨n', m', hB'⟩ := hzU z' (by omega)
      have i1 : nI w * 16 + nI z' = nI (16 * w + z') := by rw [show (16 : Int32) = nI 16 from rfl, pk_mul, nI_add, Nat.mul_comm]
      have i2 : 16 * nI w + nI z' = nI (16 * w + z') := by rw [show (16 : Int32) = nI 16 from rfl, pk_mul, nI_add]
      refine ⟨pk_in w 2 hw, pk_in w 2 hw, nm_r (e' := upd Sz w (nI z')) (by rw [td_s1, td_nb2 (by omega)]) ⟨pk_in w 2 hw, ?_⟩⟩
      rw [pk_us, i1, nI_clamp (by omega)]
      refine ⟨pk_in (16 * w + z') 32 (by omega), ?_⟩
      refine td_ytT hw ?_
      refine br_f (by decide) ?_
      refine And.intro (pk_in w 2 hw) ?_
      refine br_f (nI_ne0 (by omega) (by omega)) ⟨pk_in w 2 hw, pk_in w 2 hw, nm_r (e' := upd Sz w (nI z')) (by rw [td_s1]) ⟨pk_in w 2 hw, ?_⟩⟩
      rw [pk_us, i2, nI_clamp (by omega)]
      exact ⟨pk_in (16 * w + z') 32 (by omega), rfl, td_mk hB' (Or.inl rfl)⟩
  · refine td_txF hf ?_
    refine br_t rfl ?_
    refine td_ytF hf ?_
    exact br_t rfl ⟨rfl, R⟩
theorem i_vc_change {k : Nat} {u : SX} {v : SY} (I : i_Rel k u v) (hk : k + 4 ≤ 2048) (v1 : Int32) (v2 : Int32) (v3 : Int32) : wpX_change (fun r u' => wpY_change (fun r' v' => r' = r ∧ i_Rel (k + 4) u' v') v v1 v2 v3) u v1 v2 v3 := by
  refine td_el (P := fun u v => wpX_change (fun r u' => wpY_change (fun r' v' => r' = r ∧ i_Rel (k + 4) u' v') v v1 v2 v3) u v1 v2 v3) I ?_
  intro s n m Fk Fp Fc Sy Sz Ne Ol Ea La En St Bo Bn Sk Sw My Hd Tl Os Nw Sp hB hK
  unfold wpX_change wpY_change
  dsimp only
  have R : i_Rel (k + 4) (Fk, Fp, Fc, Sy, Sz, Ne, Ol, Ea, La, En, St, Bo, Bn, Sk, Sw) (My, Sz, Sy, Hd, Tl, Os, Nw, Sp) := td_mk hB hK
  rcases td_text v1 with ⟨w, hw, rfl⟩ | hf
  · obtain ⟨z, hz, hzE, hzU⟩ := td_Bsz hB hw
    have cw : (nI w).toNatClampNeg = w := nI_clamp (by omega)
    by_cases hneg : v2 < 0
    · refine td_txT hw ?_
      refine br_f (by decide) ?_
      refine br_t hneg ?_
      refine td_ytT hw ?_
      refine br_f (by decide) ?_
      exact br_t hneg ⟨rfl, R⟩
    · obtain ⟨q, hq, rfl⟩ := nI_of hneg
      refine td_txT hw ?_
      refine br_f (by decide) ?_
      refine br_f hneg ?_
      refine And.intro (pk_in w 2 hw) ?_
      rw [cw, hzE]
      refine pk_le z q (fun hle => ?_) (fun hgt => ?_)
      · refine td_ytT hw ?_
        refine br_f (by decide) ?_
        refine br_f hneg ?_
        refine And.intro (pk_in w 2 hw) ?_
        exact br_t (nI_le hle hq) ⟨rfl, R⟩
      · have i1 : nI w * 16 + nI q = nI (16 * w + q) := by rw [show (16 : Int32) = nI 16 from rfl, pk_mul, nI_add, Nat.mul_comm]
        have i2 : 16 * nI w + nI q = nI (16 * w + q) := by rw [show (16 : Int32) = nI 16 from rfl, pk_mul, nI_add]
        have hY : ∀ {A B : Prop}, B → ((nI z ≤ nI q → A) ∧ (¬ nI z ≤ nI q → B)) := fun b => br_f (nI_ge hgt (by omega)) b
        rcases td_symb v3 with ⟨c, hc, rfl⟩ | h | ⟨h, h8, h7⟩
        · obtain ⟨s', hB2⟩ := td_Bsy (k := 16 * w + q) hB hc
          refine td_syT hc ?_
          refine br_f (by decide) ?_
          refine And.intro (pk_in (16 * w + q) 32 (by omega) i1) ?_
          refine nm_r (e' := upd Sy (16 * w + q) (nI c)) (by rw [i1, nI_clamp (by omega), td_nb2 (by omega)]) ?_
          refine td_ytT hw ?_
          refine br_f (by decide) ?_
          refine br_f hneg ?_
          refine And.intro (pk_in w 2 hw) ?_
          refine hY ?_
          refine br_f (nI_pos (by omega)) ?_
          refine br_t (nI_le (b := 7) (by omega) (by decide)) ?_
          refine And.intro (pk_in (16 * w + q) 32 (by omega) i2) ?_
          refine nm_r (e' := upd Sy (16 * w + q) (nI c)) (by rw [i2, nI_clamp (by omega)]) ?_
          refine And.intro rfl ?_
          exact td_mk hB2 (Or.inl rfl)
        · refine td_syN h ?_
          refine br_t rfl ?_
          refine td_ytT hw ?_
          refine br_f (by decide) ?_
          refine br_f hneg ?_
          refine And.intro (pk_in w 2 hw) ?_
          refine hY ?_
          exact br_t h ⟨rfl, R⟩
        · refine td_syP h h8 ?_
          refine br_t rfl ?_
          refine td_ytT hw ?_
          refine br_f (by decide) ?_
          refine br_f hneg ?_
          refine And.intro (pk_in w 2 hw) ?_
          refine hY ?_
          exact br_f h (br_f h7 ⟨rfl, R⟩)
  · refine td_txF hf ?_
    refine br_t rfl ?_
    refine td_ytF hf ?_
    exact br_t rfl ⟨rfl, R⟩
theorem i_vc_swap {k : Nat} {u : SX} {v : SY} (I : i_Rel k u v) (hk : k + 4 ≤ 2048) : wpX_swap (fun u' => wpY_swap (fun v' => i_Rel (k + 4) u' v') v) u := by
  refine td_el (P := fun u v => wpX_swap (fun u' => wpY_swap (fun v' => i_Rel (k + 4) u' v') v) u) I ?_
  intro s n m Fk Fp Fc Sy Sz Ne Ol Ea La En St Bo Bn Sk Sw My Hd Tl Os Nw Sp hB hK
  obtain ⟨s', hB'⟩ := td_Bsw hB
  refine Exists.intro 17 (td_xsw hB ?_ 16 0 rfl)
  refine Exists.intro 17 (td_ysw hB.2.2.1 hB.2.2.2.1 ?_ 16 0 rfl)
  exact td_mk hB' (Or.inl rfl)
theorem i_vc_length {k : Nat} {u : SX} {v : SY} (I : i_Rel k u v) (hk : k + 4 ≤ 2048) (v1 : Int32) : wpX_length (fun r => wpY_length (fun r' => r' = r ∧ i_Rel (k + 4) u v) v v1) u v1 := by
  refine td_el (P := fun u v => wpX_length (fun r => wpY_length (fun r' => r' = r ∧ i_Rel (k + 4) u v) v v1) u v1) I ?_
  intro s n m Fk Fp Fc Sy Sz Ne Ol Ea La En St Bo Bn Sk Sw My Hd Tl Os Nw Sp hB hK
  unfold wpX_length wpY_length
  dsimp only
  have R : i_Rel (k + 4) (Fk, Fp, Fc, Sy, Sz, Ne, Ol, Ea, La, En, St, Bo, Bn, Sk, Sw) (My, Sz, Sy, Hd, Tl, Os, Nw, Sp) := td_mk hB hK
  rcases td_text v1 with ⟨w, hw, rfl⟩ | hf
  · refine td_txT hw ?_
    refine br_f (by decide) ?_
    refine And.intro (pk_in w 2 hw) ?_
    refine td_ytT hw ?_
    refine br_f (by decide) ?_
    exact ⟨pk_in w 2 hw, rfl, R⟩
  · refine td_txF hf ?_
    refine br_t rfl ?_
    refine td_ytF hf ?_
    exact br_t rfl ⟨rfl, R⟩
end
section
/-! the methods that learn -/
section IT
variable {post : Int32 → Prop} {p0 p1 : Int32} {Fk Fp Fc : Int32} {Sy Sz Ne Ol Ea La En St Bo Bn Sk Sw : Nat → Int32} {My : Int32} {Zs Tx Hd Tl Os Nw Sp : Nat → Int32}
theorem td_inT (h : ¬ p0 < 0 ∧ ¬ Sz 0 < p0 ∧ ¬ p1 < 0 ∧ ¬ Sz 1 < p1) (hp : post 1) : wpX_inTexts post (Fk, Fp, Fc, Sy, Sz, Ne, Ol, Ea, La, En, St, Bo, Bn, Sk, Sw) p0 p1 := td_clT h hp
theorem td_inF (h : ¬ (¬ p0 < 0 ∧ ¬ Sz 0 < p0 ∧ ¬ p1 < 0 ∧ ¬ Sz 1 < p1)) (hp : post 0) : wpX_inTexts post (Fk, Fp, Fc, Sy, Sz, Ne, Ol, Ea, La, En, St, Bo, Bn, Sk, Sw) p0 p1 := td_clF h hp
theorem td_plT (h : ¬ p0 < 0 ∧ ¬ Zs 0 < p0 ∧ ¬ p1 < 0 ∧ ¬ Zs 1 < p1) (hp : post 1) : wpY_places post (My, Zs, Tx, Hd, Tl, Os, Nw, Sp) p0 p1 := td_clT h hp
theorem td_plF (h : ¬ (¬ p0 < 0 ∧ ¬ Zs 0 < p0 ∧ ¬ p1 < 0 ∧ ¬ Zs 1 < p1)) (hp : post 0) : wpY_places post (My, Zs, Tx, Hd, Tl, Os, Nw, Sp) p0 p1 := td_clF h hp
end IT
theorem i_vc_common {k : Nat} {u : SX} {v : SY} (I : i_Rel k u v) (hk : k + 4 ≤ 2048) : wpX_common (fun r u' => wpY_common (fun r' v' => r' = r ∧ i_Rel (k + 4) u' v') v) u := by
  refine td_el (P := fun u v => wpX_common (fun r u' => wpY_common (fun r' v' => r' = r ∧ i_Rel (k + 4) u' v') v) u) I ?_
  intro s n m Fk Fp Fc Sy Sz Ne Ol Ea La En St Bo Bn Sk Sw My Hd Tl Os Nw Sp hB hK
  have hB' := hB
  obtain ⟨hS, hs, h0, h1, hn, hm⟩ := hB
  unfold wpX_common
  dsimp only
  refine td_learn hB' hK ?_
  intro Fk Fp Fc Ne Ol Ea La En St Bo Bn Sk Sw hN
  try dsimp only
  have R : ∀ (My : Int32) (Hd Tl Os Nw Sp : Nat → Int32), i_Rel (k + 4) (Fk, Fp, Fc, Sy, Sz, Ne, Ol, Ea, La, En, St, Bo, Bn, Sk, Sw) (My, Sz, Sy, Hd, Tl, Os, Nw, Sp) := fun _ _ _ _ _ _ => td_mk hB' (Or.inr hN)
  obtain ⟨hF, hE, hA, hBN, hW⟩ := hN
  unfold wpY_common
  dsimp only
  refine td_ywork hB' ?_
  intro Hd Tl hH hT
  try dsimp only
  have hT0 : Tl 0 = nI (td_T s n m 0 0) := hT 0 0 (Nat.zero_le _) (Nat.zero_le _)
  exact ⟨hT0.trans hF.symm, R _ _ _ _ _ _⟩
theorem i_vc_distance {k : Nat} {u : SX} {v : SY} (I : i_Rel k u v) (hk : k + 4 ≤ 2048) : wpX_distance (fun r u' => wpY_distance (fun r' v' => r' = r ∧ i_Rel (k + 4) u' v') v) u := by
  refine td_el (P := fun u v => wpX_distance (fun r u' => wpY_distance (fun r' v' => r' = r ∧ i_Rel (k + 4) u' v') v) u) I ?_
  intro s n m Fk Fp Fc Sy Sz Ne Ol Ea La En St Bo Bn Sk Sw My Hd Tl Os Nw Sp hB hK
  have hB' := hB
  obtain ⟨hS, hs, h0, h1, hn, hm⟩ := hB
  unfold wpX_distance
  dsimp only
  refine td_learn hB' hK ?_
  intro Fk Fp Fc Ne Ol Ea La En St Bo Bn Sk Sw hN
  try dsimp only
  have R : ∀ (My : Int32) (Hd Tl Os Nw Sp : Nat → Int32), i_Rel (k + 4) (Fk, Fp, Fc, Sy, Sz, Ne, Ol, Ea, La, En, St, Bo, Bn, Sk, Sw) (My, Sz, Sy, Hd, Tl, Os, Nw, Sp) := fun _ _ _ _ _ _ => td_mk hB' (Or.inr hN)
  obtain ⟨hF, hE, hA, hBN, hW⟩ := hN
  unfold wpY_distance
  dsimp only
  refine td_ywork hB' ?_
  intro Hd Tl hH hT
  try dsimp only
  have hT0 : Tl 0 = nI (td_T s n m 0 0) := hT 0 0 (Nat.zero_le _) (Nat.zero_le _)
  exact ⟨by rw [hT0, hF], R _ _ _ _ _ _⟩
theorem i_vc_commonUpTo {k : Nat} {u : SX} {v : SY} (I : i_Rel k u v) (hk : k + 4 ≤ 2048) (v1 : Int32) (v2 : Int32) : wpX_commonUpTo (fun r u' => wpY_commonUpTo (fun r' v' => r' = r ∧ i_Rel (k + 4) u' v') v v1 v2) u v1 v2 := by
  refine td_el (P := fun u v => wpX_commonUpTo (fun r u' => wpY_commonUpTo (fun r' v' => r' = r ∧ i_Rel (k + 4) u' v') v v1 v2) u v1 v2) I ?_
  intro s n m Fk Fp Fc Sy Sz Ne Ol Ea La En St Bo Bn Sk Sw My Hd Tl Os Nw Sp hB hK
  have hB' := hB
  obtain ⟨hS, hs, h0, h1, hn, hm⟩ := hB
  by_cases hin : ¬ v1 < 0 ∧ ¬ Sz 0 < v1 ∧ ¬ v2 < 0 ∧ ¬ Sz 1 < v2
  · obtain ⟨i, hi, ei⟩ := td_le_of hn h0 hin.1 hin.2.1
    obtain ⟨j, hj, ej⟩ := td_le_of hm h1 hin.2.2.1 hin.2.2.2
    unfold wpX_commonUpTo
    dsimp only
    refine td_inT hin ?_
    refine br_f (by decide) ?_
    refine td_learn hB' hK ?_
    intro Fk Fp Fc Ne Ol Ea La En St Bo Bn Sk Sw hN
    try dsimp only
    have R : ∀ (My : Int32) (Hd Tl Os Nw Sp : Nat → Int32), i_Rel (k + 4) (Fk, Fp, Fc, Sy, Sz, Ne, Ol, Ea, La, En, St, Bo, Bn, Sk, Sw) (My, Sz, Sy, Hd, Tl, Os, Nw, Sp) := fun _ _ _ _ _ _ => td_mk hB' (Or.inr hN)
    obtain ⟨hF, hE, hA, hBN, hW⟩ := hN
    refine td_upto hE hi hn hj hm ei ej ?_
    unfold wpY_commonUpTo
    dsimp only
    refine td_ywork hB' ?_
    intro Hd Tl hH hT
    try dsimp only
    have hT0 : Tl 0 = nI (td_T s n m 0 0) := hT 0 0 (Nat.zero_le _) (Nat.zero_le _)
    refine td_plT hin ?_
    have e : 17 * v1 + v2 = nI (17 * i + j) := by rw [ei, ej, td_rowY]
    refine br_f (by decide) ⟨pk_in (17 * i + j) 289 (by omega) e, ?_, R _ _ _ _ _ _⟩
    rw [e, nI_clamp (by omega)]
    exact hH i j hi hj
  · unfold wpX_commonUpTo
    dsimp only
    refine td_inF hin ?_
    refine br_t rfl ?_
    unfold wpY_commonUpTo
    dsimp only
    refine td_ywork hB' ?_
    intro Hd Tl hH hT
    try dsimp only
    have hT0 : Tl 0 = nI (td_T s n m 0 0) := hT 0 0 (Nat.zero_le _) (Nat.zero_le _)
    refine td_plF hin ?_
    exact br_t rfl ⟨rfl, td_mk hB' hK⟩
theorem i_vc_commonFrom {k : Nat} {u : SX} {v : SY} (I : i_Rel k u v) (hk : k + 4 ≤ 2048) (v1 : Int32) (v2 : Int32) : wpX_commonFrom (fun r u' => wpY_commonFrom (fun r' v' => r' = r ∧ i_Rel (k + 4) u' v') v v1 v2) u v1 v2 := by
  refine td_el (P := fun u v => wpX_commonFrom (fun r u' => wpY_commonFrom (fun r' v' => r' = r ∧ i_Rel (k + 4) u' v') v v1 v2) u v1 v2) I ?_
  intro s n m Fk Fp Fc Sy Sz Ne Ol Ea La En St Bo Bn Sk Sw My Hd Tl Os Nw Sp hB hK
  have hB' := hB
  obtain ⟨hS, hs, h0, h1, hn, hm⟩ := hB
  by_cases hin : ¬ v1 < 0 ∧ ¬ Sz 0 < v1 ∧ ¬ v2 < 0 ∧ ¬ Sz 1 < v2
  · obtain ⟨i, hi, ei⟩ := td_le_of hn h0 hin.1 hin.2.1
    obtain ⟨j, hj, ej⟩ := td_le_of hm h1 hin.2.2.1 hin.2.2.2
    unfold wpX_commonFrom
    dsimp only
    refine td_inT hin ?_
    refine br_f (by decide) ?_
    refine td_learn hB' hK ?_
    intro Fk Fp Fc Ne Ol Ea La En St Bo Bn Sk Sw hN
    try dsimp only
    have R : ∀ (My : Int32) (Hd Tl Os Nw Sp : Nat → Int32), i_Rel (k + 4) (Fk, Fp, Fc, Sy, Sz, Ne, Ol, Ea, La, En, St, Bo, Bn, Sk, Sw) (My, Sz, Sy, Hd, Tl, Os, Nw, Sp) := fun _ _ _ _ _ _ => td_mk hB' (Or.inr hN)
    obtain ⟨hF, hE, hA, hBN, hW⟩ := hN
    refine td_from hA hi hn hj hm ei ej ?_
    unfold wpY_commonFrom
    dsimp only
    refine td_ywork hB' ?_
    intro Hd Tl hH hT
    try dsimp only
    have hT0 : Tl 0 = nI (td_T s n m 0 0) := hT 0 0 (Nat.zero_le _) (Nat.zero_le _)
    refine td_plT hin ?_
    have e : 17 * v1 + v2 = nI (17 * i + j) := by rw [ei, ej, td_rowY]
    refine br_f (by decide) ⟨pk_in (17 * i + j) 289 (by omega) e, ?_, R _ _ _ _ _ _⟩
    rw [e, nI_clamp (by omega)]
    exact hT i j hi hj
  · unfold wpX_commonFrom
    dsimp only
    refine td_inF hin ?_
    refine br_t rfl ?_
    unfold wpY_commonFrom
    dsimp only
    refine td_ywork hB' ?_
    intro Hd Tl hH hT
    try dsimp only
    have hT0 : Tl 0 = nI (td_T s n m 0 0) := hT 0 0 (Nat.zero_le _) (Nat.zero_le _)
    refine td_plF hin ?_
    exact br_t rfl ⟨rfl, td_mk hB' hK⟩
theorem i_vc_oldAt {k : Nat} {u : SX} {v : SY} (I : i_Rel k u v) (hk : k + 4 ≤ 2048) (v1 : Int32) : wpX_oldAt (fun r u' => wpY_oldAt (fun r' v' => r' = r ∧ i_Rel (k + 4) u' v') v v1) u v1 := by
  refine td_el (P := fun u v => wpX_oldAt (fun r u' => wpY_oldAt (fun r' v' => r' = r ∧ i_Rel (k + 4) u' v') v v1) u v1) I ?_
  intro s n m Fk Fp Fc Sy Sz Ne Ol Ea La En St Bo Bn Sk Sw My Hd Tl Os Nw Sp hB hK
  have hB' := hB
  obtain ⟨hS, hs, h0, h1, hn, hm⟩ := hB
  unfold wpX_oldAt
  dsimp only
  refine td_learn hB' hK ?_
  intro Fk Fp Fc Ne Ol Ea La En St Bo Bn Sk Sw hN
  try dsimp only
  have R : ∀ (My : Int32) (Hd Tl Os Nw Sp : Nat → Int32), i_Rel (k + 4) (Fk, Fp, Fc, Sy, Sz, Ne, Ol, Ea, La, En, St, Bo, Bn, Sk, Sw) (My, Sz, Sy, Hd, Tl, Os, Nw, Sp) := fun _ _ _ _ _ _ => td_mk hB' (Or.inr hN)
  obtain ⟨hF, hE, hA, hBN, hW⟩ := hN
  have hP := td_Tbn s n m 0 0
  have Y : ∀ r : Int32, (v1 < 0 → r = -1) → (¬ v1 < 0 → ¬ v1 < nI (td_T s n m 0 0) → r = -1) → (∀ q, q < td_T s n m 0 0 → v1 = nI q → r = nI ((td_bl s n m (q + 1)).1 - 1)) →
      wpY_oldAt (fun r' v' => r' = r ∧ i_Rel (k + 4) (Fk, Fp, Fc, Sy, Sz, Ne, Ol, Ea, La, En, St, Bo, Bn, Sk, Sw) v') (My, Sz, Sy, Hd, Tl, Os, Nw, Sp) v1 := by
    intro r r1 r2 r3
    unfold wpY_oldAt
    dsimp only
    refine td_ylist hB' ?_
    intro Hd Tl Os Nw hT hBY
    try dsimp only
    have hT0 : Tl 0 = nI (td_T s n m 0 0) := hT 0 0 (Nat.zero_le _) (Nat.zero_le _)
    refine br_c (fun z => ⟨(r1 z).symm, R _ _ _ _ _ _⟩) (fun z => ?_)
    rw [hT0]
    refine br_c (fun z2 => ?_) (fun z2 => ⟨(r2 z z2).symm, R _ _ _ _ _ _⟩)
    obtain ⟨q, hq, rfl⟩ := nI_of z
    rw [nI_ltI hq (by omega)] at z2
    refine ⟨pk_in q 16 (by omega), ?_, R _ _ _ _ _ _⟩
    rw [nI_clamp hq, r3 q z2 rfl]
    exact (hBY q z2).1
  refine br_c (fun z => Y _ (fun _ => rfl) (fun _ _ => rfl) (fun q hq e => ?_)) (fun z => ?_)
  · subst e
    exact absurd z (nI_pos (by omega))
  · rw [hF]
    refine br_c (fun z2 => ?_) (fun z2 => hF ▸ Y _ (fun _ => rfl) (fun _ _ => rfl) (fun q hq e => ?_))
    · obtain ⟨q, hq, rfl⟩ := nI_of z
      have z3 := z2
      rw [nI_ltI hq (by omega)] at z3
      refine ⟨pk_in q 16 (by omega), hF ▸ Y _ (fun w => absurd w z) (fun _ w => absurd z2 w) (fun q' hq' e => ?_)⟩
      have hqq : q = q' := (nI_eq hq (by omega)).mp e
      subst hqq
      rw [nI_clamp hq]
      exact (hBN q z3).1
    · subst e
      exact absurd (nI_lt hq (by omega)) z2
theorem i_vc_newAt {k : Nat} {u : SX} {v : SY} (I : i_Rel k u v) (hk : k + 4 ≤ 2048) (v1 : Int32) : wpX_newAt (fun r u' => wpY_newAt (fun r' v' => r' = r ∧ i_Rel (k + 4) u' v') v v1) u v1 := by
  refine td_el (P := fun u v => wpX_newAt (fun r u' => wpY_newAt (fun r' v' => r' = r ∧ i_Rel (k + 4) u' v') v v1) u v1) I ?_
  intro s n m Fk Fp Fc Sy Sz Ne Ol Ea La En St Bo Bn Sk Sw My Hd Tl Os Nw Sp hB hK
  have hB' := hB
  obtain ⟨hS, hs, h0, h1, hn, hm⟩ := hB
  unfold wpX_newAt
  dsimp only
  refine td_learn hB' hK ?_
  intro Fk Fp Fc Ne Ol Ea La En St Bo Bn Sk Sw hN
  try dsimp only
  have R : ∀ (My : Int32) (Hd Tl Os Nw Sp : Nat → Int32), i_Rel (k + 4) (Fk, Fp, Fc, Sy, Sz, Ne, Ol, Ea, La, En, St, Bo, Bn, Sk, Sw) (My, Sz, Sy, Hd, Tl, Os, Nw, Sp) := fun _ _ _ _ _ _ => td_mk hB' (Or.inr hN)
  obtain ⟨hF, hE, hA, hBN, hW⟩ := hN
  have hP := td_Tbn s n m 0 0
  have Y : ∀ r : Int32, (v1 < 0 → r = -1) → (¬ v1 < 0 → ¬ v1 < nI (td_T s n m 0 0) → r = -1) → (∀ q, q < td_T s n m 0 0 → v1 = nI q → r = nI ((td_bl s n m (q + 1)).2 - 1)) →
      wpY_newAt (fun r' v' => r' = r ∧ i_Rel (k + 4) (Fk, Fp, Fc, Sy, Sz, Ne, Ol, Ea, La, En, St, Bo, Bn, Sk, Sw) v') (My, Sz, Sy, Hd, Tl, Os, Nw, Sp) v1 := by
    intro r r1 r2 r3
    unfold wpY_newAt
    dsimp only
    refine td_ylist hB' ?_
    intro Hd Tl Os Nw hT hBY
    try dsimp only
    have hT0 : Tl 0 = nI (td_T s n m 0 0) := hT 0 0 (Nat.zero_le _) (Nat.zero_le _)
    refine br_c (fun z => ⟨(r1 z).symm, R _ _ _ _ _ _⟩) (fun z => ?_)
    rw [hT0]
    refine br_c (fun z2 => ?_) (fun z2 => ⟨(r2 z z2).symm, R _ _ _ _ _ _⟩)
    obtain ⟨q, hq, rfl⟩ := nI_of z
    rw [nI_ltI hq (by omega)] at z2
    refine ⟨pk_in q 16 (by omega), ?_, R _ _ _ _ _ _⟩
    rw [nI_clamp hq, r3 q z2 rfl]
    exact (hBY q z2).2
  refine br_c (fun z => Y _ (fun _ => rfl) (fun _ _ => rfl) (fun q hq e => ?_)) (fun z => ?_)
  · subst e
    exact absurd z (nI_pos (by omega))
  · rw [hF]
    refine br_c (fun z2 => ?_) (fun z2 => hF ▸ Y _ (fun _ => rfl) (fun _ _ => rfl) (fun q hq e => ?_))
    · obtain ⟨q, hq, rfl⟩ := nI_of z
      have z3 := z2
      rw [nI_ltI hq (by omega)] at z3
      refine ⟨pk_in q 16 (by omega), hF ▸ Y _ (fun w => absurd w z) (fun _ w => absurd z2 w) (fun q' hq' e => ?_)⟩
      have hqq : q = q' := (nI_eq hq (by omega)).mp e
      subst hqq
      rw [nI_clamp hq]
      exact (hBN q z3).2
    · subst e
      exact absurd (nI_lt hq (by omega)) z2
theorem i_vc_steps {k : Nat} {u : SX} {v : SY} (I : i_Rel k u v) (hk : k + 4 ≤ 2048) : wpX_steps (fun r u' => wpY_steps (fun r' v' => r' = r ∧ i_Rel (k + 4) u' v') v) u := by
  refine td_el (P := fun u v => wpX_steps (fun r u' => wpY_steps (fun r' v' => r' = r ∧ i_Rel (k + 4) u' v') v) u) I ?_
  intro s n m Fk Fp Fc Sy Sz Ne Ol Ea La En St Bo Bn Sk Sw My Hd Tl Os Nw Sp hB hK
  have hB' := hB
  obtain ⟨hS, hs, h0, h1, hn, hm⟩ := hB
  unfold wpX_steps
  dsimp only
  refine td_learn hB' hK ?_
  intro Fk Fp Fc Ne Ol Ea La En St Bo Bn Sk Sw hN
  try dsimp only
  have R : ∀ (My : Int32) (Hd Tl Os Nw Sp : Nat → Int32), i_Rel (k + 4) (Fk, Fp, Fc, Sy, Sz, Ne, Ol, Ea, La, En, St, Bo, Bn, Sk, Sw) (My, Sz, Sy, Hd, Tl, Os, Nw, Sp) := fun _ _ _ _ _ _ => td_mk hB' (Or.inr hN)
  obtain ⟨hF, hE, hA, hBN, hW⟩ := hN
  unfold wpY_steps
  dsimp only
  refine td_ywrite hB' ?_
  intro My Hd Tl Os Nw Sp hWY
  exact ⟨hWY.1.trans hW.1.symm, R _ _ _ _ _ _⟩
theorem i_vc_step {k : Nat} {u : SX} {v : SY} (I : i_Rel k u v) (hk : k + 4 ≤ 2048) (v1 : Int32) : wpX_step (fun r u' => wpY_step (fun r' v' => r' = r ∧ i_Rel (k + 4) u' v') v v1) u v1 := by
  refine td_el (P := fun u v => wpX_step (fun r u' => wpY_step (fun r' v' => r' = r ∧ i_Rel (k + 4) u' v') v v1) u v1) I ?_
  intro s n m Fk Fp Fc Sy Sz Ne Ol Ea La En St Bo Bn Sk Sw My Hd Tl Os Nw Sp hB hK
  have hB' := hB
  obtain ⟨hS, hs, h0, h1, hn, hm⟩ := hB
  unfold wpX_step
  dsimp only
  refine td_learn hB' hK ?_
  intro Fk Fp Fc Ne Ol Ea La En St Bo Bn Sk Sw hN
  try dsimp only
  have R : ∀ (My : Int32) (Hd Tl Os Nw Sp : Nat → Int32), i_Rel (k + 4) (Fk, Fp, Fc, Sy, Sz, Ne, Ol, Ea, La, En, St, Bo, Bn, Sk, Sw) (My, Sz, Sy, Hd, Tl, Os, Nw, Sp) := fun _ _ _ _ _ _ => td_mk hB' (Or.inr hN)
  obtain ⟨hF, hE, hA, hBN, hW⟩ := hN
  have hP := td_fin_l s n m
  have hC : Fc = nI (td_fin s n m).length := hW.1
  have Y : ∀ r : Int32, (v1 < 0 → r = -1) → (¬ v1 < 0 → ¬ v1 < nI (td_fin s n m).length → r = -1) → (∀ q, q < (td_fin s n m).length → v1 = nI q → r = nI ((td_fin s n m).getD q 0 % 4)) →
      wpY_step (fun r' v' => r' = r ∧ i_Rel (k + 4) (Fk, Fp, Fc, Sy, Sz, Ne, Ol, Ea, La, En, St, Bo, Bn, Sk, Sw) v') (My, Sz, Sy, Hd, Tl, Os, Nw, Sp) v1 := by
    intro r r1 r2 r3
    unfold wpY_step
    dsimp only
    refine td_ywrite hB' ?_
    intro My Hd Tl Os Nw Sp hWY
    try dsimp only
    have hM : My = nI (td_fin s n m).length := hWY.1
    refine br_c (fun z => ⟨(r1 z).symm, R _ _ _ _ _ _⟩) (fun z => ?_)
    rw [hM]
    refine br_c (fun z2 => ?_) (fun z2 => ⟨(r2 z z2).symm, hM ▸ R _ _ _ _ _ _⟩)
    obtain ⟨q, hq, rfl⟩ := nI_of z
    rw [nI_ltI hq (by omega)] at z2
    obtain ⟨g1, g2⟩ := hWY.2 q z2
    refine ⟨pk_in q 32 (by omega), by decide, ?_, hM ▸ R _ _ _ _ _ _⟩
    rw [nI_clamp hq, r3 q z2 rfl, g1]
    exact pk_rem (d := 4) (by omega) (by decide) (by decide)
  refine br_c (fun z => Y _ (fun _ => rfl) (fun _ _ => rfl) (fun q hq e => ?_)) (fun z => ?_)
  · subst e
    exact absurd z (nI_pos (by omega))
  · rw [hC]
    refine br_c (fun z2 => ?_) (fun z2 => hC ▸ Y _ (fun _ => rfl) (fun _ _ => rfl) (fun q hq e => ?_))
    · obtain ⟨q, hq, rfl⟩ := nI_of z
      have z3 := z2
      rw [nI_ltI hq (by omega)] at z3
      refine ⟨pk_in q 32 (by omega), hC ▸ Y _ (fun w => absurd w z) (fun _ w => absurd z2 w) (fun q' hq' e => ?_)⟩
      have hqq : q = q' := (nI_eq hq (by omega)).mp e
      subst hqq
      rw [nI_clamp hq]
      exact (hW.2 q z3).1
    · subst e
      exact absurd (nI_lt hq (by omega)) z2
theorem i_vc_stepSymbol {k : Nat} {u : SX} {v : SY} (I : i_Rel k u v) (hk : k + 4 ≤ 2048) (v1 : Int32) : wpX_stepSymbol (fun r u' => wpY_stepSymbol (fun r' v' => r' = r ∧ i_Rel (k + 4) u' v') v v1) u v1 := by
  refine td_el (P := fun u v => wpX_stepSymbol (fun r u' => wpY_stepSymbol (fun r' v' => r' = r ∧ i_Rel (k + 4) u' v') v v1) u v1) I ?_
  intro s n m Fk Fp Fc Sy Sz Ne Ol Ea La En St Bo Bn Sk Sw My Hd Tl Os Nw Sp hB hK
  have hB' := hB
  obtain ⟨hS, hs, h0, h1, hn, hm⟩ := hB
  unfold wpX_stepSymbol
  dsimp only
  refine td_learn hB' hK ?_
  intro Fk Fp Fc Ne Ol Ea La En St Bo Bn Sk Sw hN
  try dsimp only
  have R : ∀ (My : Int32) (Hd Tl Os Nw Sp : Nat → Int32), i_Rel (k + 4) (Fk, Fp, Fc, Sy, Sz, Ne, Ol, Ea, La, En, St, Bo, Bn, Sk, Sw) (My, Sz, Sy, Hd, Tl, Os, Nw, Sp) := fun _ _ _ _ _ _ => td_mk hB' (Or.inr hN)
  obtain ⟨hF, hE, hA, hBN, hW⟩ := hN
  have hP := td_fin_l s n m
  have hC : Fc = nI (td_fin s n m).length := hW.1
  have Y : ∀ r : Int32, (v1 < 0 → r = -1) → (¬ v1 < 0 → ¬ v1 < nI (td_fin s n m).length → r = -1) → (∀ q, q < (td_fin s n m).length → v1 = nI q → r = nI ((td_fin s n m).getD q 0 / 4)) →
      wpY_stepSymbol (fun r' v' => r' = r ∧ i_Rel (k + 4) (Fk, Fp, Fc, Sy, Sz, Ne, Ol, Ea, La, En, St, Bo, Bn, Sk, Sw) v') (My, Sz, Sy, Hd, Tl, Os, Nw, Sp) v1 := by
    intro r r1 r2 r3
    unfold wpY_stepSymbol
    dsimp only
    refine td_ywrite hB' ?_
    intro My Hd Tl Os Nw Sp hWY
    try dsimp only
    have hM : My = nI (td_fin s n m).length := hWY.1
    refine br_c (fun z => ⟨(r1 z).symm, R _ _ _ _ _ _⟩) (fun z => ?_)
    rw [hM]
    refine br_c (fun z2 => ?_) (fun z2 => ⟨(r2 z z2).symm, hM ▸ R _ _ _ _ _ _⟩)
    obtain ⟨q, hq, rfl⟩ := nI_of z
    rw [nI_ltI hq (by omega)] at z2
    obtain ⟨g1, g2⟩ := hWY.2 q z2
    refine ⟨pk_in q 32 (by omega), by decide, ?_, hM ▸ R _ _ _ _ _ _⟩
    rw [nI_clamp hq, r3 q z2 rfl, g1]
    exact pk_div (d := 4) (by omega) (by decide) (by decide)
  refine br_c (fun z => Y _ (fun _ => rfl) (fun _ _ => rfl) (fun q hq e => ?_)) (fun z => ?_)
  · subst e
    exact absurd z (nI_pos (by omega))
  · rw [hC]
    refine br_c (fun z2 => ?_) (fun z2 => hC ▸ Y _ (fun _ => rfl) (fun _ _ => rfl) (fun q hq e => ?_))
    · obtain ⟨q, hq, rfl⟩ := nI_of z
      have z3 := z2
      rw [nI_ltI hq (by omega)] at z3
      refine ⟨pk_in q 32 (by omega), hC ▸ Y _ (fun w => absurd w z) (fun _ w => absurd z2 w) (fun q' hq' e => ?_)⟩
      have hqq : q = q' := (nI_eq hq (by omega)).mp e
      subst hqq
      rw [nI_clamp hq]
      exact (hW.2 q z3).2
    · subst e
      exact absurd (nI_lt hq (by omega)) z2
theorem i_vc_possible {k : Nat} {u : SX} {v : SY} (I : i_Rel k u v) (hk : k + 4 ≤ 2048) (v1 : Int32) (v2 : Int32) : wpX_possible (fun r u' => wpY_possible (fun r' v' => r' = r ∧ i_Rel (k + 4) u' v') v v1 v2) u v1 v2 := by
  refine td_el (P := fun u v => wpX_possible (fun r u' => wpY_possible (fun r' v' => r' = r ∧ i_Rel (k + 4) u' v') v v1 v2) u v1 v2) I ?_
  intro s n m Fk Fp Fc Sy Sz Ne Ol Ea La En St Bo Bn Sk Sw My Hd Tl Os Nw Sp hB hK
  have hB' := hB
  obtain ⟨hS, hs, h0, h1, hn, hm⟩ := hB
  by_cases hin : ¬ v1 < 0 ∧ ¬ Sz 0 ≤ v1 ∧ ¬ v2 < 0 ∧ ¬ Sz 1 ≤ v2
  · obtain ⟨i, hi, ei⟩ := td_lt_of (by omega) h0 hin.1 hin.2.1
    obtain ⟨j, hj, ej⟩ := td_lt_of (by omega) h1 hin.2.2.1 hin.2.2.2
    have a := hs i
    have b := hs (16 + j)
    have e16 : 16 + v2 = nI (16 + j) := by rw [ej, td_16]
    have ec : Sy v1.toNatClampNeg = nI (s i) := by rw [ei, nI_clamp (by omega), hS]
    have ed : Sy (16 + v2).toNatClampNeg = nI (s (16 + j)) := by rw [e16, nI_clamp (by omega), hS]
    have e : 17 * v1 + v2 = nI (17 * i + j) := by rw [ei, ej, td_rowY]
    have e2 : 17 * v1 + v2 + 18 = nI (17 * (i + 1) + (j + 1)) := by rw [ei, ej, td_n6]
    have bH := td_Hb s i j
    have bT := td_Tbn s n m (i + 1) (j + 1)
    have bT0 := td_Tbn s n m 0 0
    unfold wpX_possible
    dsimp only
    refine td_chT hin ⟨pk_in i 32 (by omega) ei, pk_in (16 + j) 32 (by omega) e16, ?_⟩
    rw [ec, ed]
    refine pk_eq (s i) (s (16 + j)) (fun hq => ?_) (fun hq => ?_)
    · refine td_learn hB' hK ?_
      intro Fk Fp Fc Ne Ol Ea La En St Bo Bn Sk Sw hN
      try dsimp only
      have R : ∀ (My : Int32) (Hd Tl Os Nw Sp : Nat → Int32), i_Rel (k + 4) (Fk, Fp, Fc, Sy, Sz, Ne, Ol, Ea, La, En, St, Bo, Bn, Sk, Sw) (My, Sz, Sy, Hd, Tl, Os, Nw, Sp) := fun _ _ _ _ _ _ => td_mk hB' (Or.inr hN)
      obtain ⟨hF, hE, hA, hBN, hW⟩ := hN
      refine td_upto hE (by omega) hn (by omega) hm ei ej ?_
      refine td_from (i := i + 1) (j := j + 1) hA (by omega) hn (by omega) hm (by rw [ei, nI_1]) (by rw [ej, nI_1]) ?_
      have Y : ∀ r : Int32, (td_H s i j + 1 + td_T s n m (i + 1) (j + 1) = td_T s n m 0 0 → r = 1) → (td_H s i j + 1 + td_T s n m (i + 1) (j + 1) ≠ td_T s n m 0 0 → r = 0) →
          wpY_possible (fun r' v' => r' = r ∧ i_Rel (k + 4) (Fk, Fp, Fc, Sy, Sz, Ne, Ol, Ea, La, En, St, Bo, Bn, Sk, Sw) v') (My, Sz, Sy, Hd, Tl, Os, Nw, Sp) v1 v2 := by
        intro r r1 r2
        unfold wpY_possible
        dsimp only
        refine td_ywork hB' ?_
        intro Hd Tl hH hT
        try dsimp only
        have hT0 : Tl 0 = nI (td_T s n m 0 0) := hT 0 0 (Nat.zero_le _) (Nat.zero_le _)
        refine td_chT hin ?_
        refine td_same hB' (i := i) (j := j) (by omega) (by omega) ei ej (fun _ => ?_) (fun w => absurd hq w)
        refine br_f (by decide) ⟨pk_in (17 * i + j) 289 (by omega) e, pk_in (17 * (i + 1) + (j + 1)) 289 (by omega) e2, ?_⟩
        rw [e2, e, nI_clamp (by omega), nI_clamp (by omega), hH i j (by omega) (by omega), hT (i + 1) (j + 1) (by omega) (by omega), hT0, nI_1, nI_add]
        exact pk_eq _ _ (fun w => ⟨(r1 w).symm, R _ _ _ _ _ _⟩) (fun w => ⟨(r2 w).symm, R _ _ _ _ _ _⟩)
      rw [nI_1, nI_add]
      exact pk_eq (td_H s i j + 1 + td_T s n m (i + 1) (j + 1)) (td_T s n m 0 0) (fun w => Y 1 (fun _ => rfl) (fun w' => absurd w w')) (fun w => Y 0 (fun w' => absurd w' w) (fun _ => rfl)) rfl hF
    · unfold wpY_possible
      dsimp only
      refine td_ywork hB' ?_
      intro Hd Tl hH hT
      try dsimp only
      have hT0 : Tl 0 = nI (td_T s n m 0 0) := hT 0 0 (Nat.zero_le _) (Nat.zero_le _)
      refine td_chT hin ?_
      refine td_same hB' (i := i) (j := j) (by omega) (by omega) ei ej (fun w => absurd w hq) (fun _ => ?_)
      exact br_t rfl ⟨rfl, td_mk hB' hK⟩
  · unfold wpX_possible
    dsimp only
    refine td_chF hin ?_
    unfold wpY_possible
    dsimp only
    refine td_ywork hB' ?_
    intro Hd Tl hH hT
    try dsimp only
    have hT0 : Tl 0 = nI (td_T s n m 0 0) := hT 0 0 (Nat.zero_le _) (Nat.zero_le _)
    exact td_chF hin ⟨rfl, td_mk hB' hK⟩
theorem i_vc_contained {k : Nat} {u : SX} {v : SY} (I : i_Rel k u v) (hk : k + 4 ≤ 2048) (v1 : Int32) : wpX_contained (fun r u' => wpY_contained (fun r' v' => r' = r ∧ i_Rel (k + 4) u' v') v v1) u v1 := by
  refine td_el (P := fun u v => wpX_contained (fun r u' => wpY_contained (fun r' v' => r' = r ∧ i_Rel (k + 4) u' v') v v1) u v1) I ?_
  intro s n m Fk Fp Fc Sy Sz Ne Ol Ea La En St Bo Bn Sk Sw My Hd Tl Os Nw Sp hB hK
  have hB' := hB
  obtain ⟨hS, hs, h0, h1, hn, hm⟩ := hB
  rcases td_text v1 with ⟨w, hw, rfl⟩ | hf
  · obtain ⟨z, hz, hzE, hzU⟩ := td_Bsz hB' hw
    have cw : (nI w).toNatClampNeg = w := nI_clamp (by omega)
    have bT0 := td_Tbn s n m 0 0
    unfold wpX_contained
    dsimp only
    refine td_txT hw ?_
    refine br_f (by decide) ?_
    unfold wpX_common
    dsimp only
    refine td_learn hB' hK ?_
    intro Fk Fp Fc Ne Ol Ea La En St Bo Bn Sk Sw hN
    try dsimp only
    have R : ∀ (My : Int32) (Hd Tl Os Nw Sp : Nat → Int32), i_Rel (k + 4) (Fk, Fp, Fc, Sy, Sz, Ne, Ol, Ea, La, En, St, Bo, Bn, Sk, Sw) (My, Sz, Sy, Hd, Tl, Os, Nw, Sp) := fun _ _ _ _ _ _ => td_mk hB' (Or.inr hN)
    obtain ⟨hF, hE, hA, hBN, hW⟩ := hN
    have Y : ∀ r : Int32, (td_T s n m 0 0 = z → r = 1) → (td_T s n m 0 0 ≠ z → r = 0) →
        wpY_contained (fun r' v' => r' = r ∧ i_Rel (k + 4) (Fk, Fp, Fc, Sy, Sz, Ne, Ol, Ea, La, En, St, Bo, Bn, Sk, Sw) v') (My, Sz, Sy, Hd, Tl, Os, Nw, Sp) (nI w) := by
      intro r r1 r2
      unfold wpY_contained
      dsimp only
      refine td_ywork hB' ?_
      intro Hd Tl hH hT
      try dsimp only
      have hT0 : Tl 0 = nI (td_T s n m 0 0) := hT 0 0 (Nat.zero_le _) (Nat.zero_le _)
      refine td_ytT hw ?_
      refine br_f (by decide) ⟨pk_in w 2 hw, ?_⟩
      rw [cw, hzE, hT0]
      exact pk_eq _ _ (fun w => ⟨(r1 w).symm, R _ _ _ _ _ _⟩) (fun w => ⟨(r2 w).symm, R _ _ _ _ _ _⟩)
    refine ⟨pk_in w 2 hw, ?_⟩
    rw [cw, hzE]
    exact pk_eq (td_T s n m 0 0) z (fun w => Y 1 (fun _ => rfl) (fun w' => absurd w w')) (fun w => Y 0 (fun w' => absurd w' w) (fun _ => rfl)) hF rfl
  · unfold wpX_contained
    dsimp only
    refine td_txF hf ?_
    refine br_t rfl ?_
    unfold wpY_contained
    dsimp only
    refine td_ywork hB' ?_
    intro Hd Tl hH hT
    try dsimp only
    have hT0 : Tl 0 = nI (td_T s n m 0 0) := hT 0 0 (Nat.zero_le _) (Nat.zero_le _)
    refine td_ytF hf ?_
    exact br_t rfl ⟨rfl, td_mk hB' hK⟩
end
