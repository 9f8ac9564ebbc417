section
theorem pk_us {f : Nat → Int32} {k : Nat} {x : Int32} : upd f k x k = x := if_pos rfl
theorem pk_un {f : Nat → Int32} {k j : Nat} {x : Int32} (h : j ≠ k) : upd f k x j = f j := if_neg h
theorem pk_sub {a b : Nat} (h : b ≤ a) : nI a - nI b = nI (a - b) := by
  obtain ⟨c, rfl⟩ : ∃ c, a = c + b := ⟨a - b, by omega⟩
  rw [← nI_add, Int32.add_sub_cancel, Nat.add_sub_cancel]
theorem pk_m1 (n : Nat) : nI (n + 1) + (-1) = nI n := by
  rw [← nI_1, Int32.add_assoc, show (1 : Int32) + (-1) = 0 from rfl, Int32.add_zero]
theorem pk_sub_toInt {a b : Nat} (ha : a < 2 ^ 30) (hb : b < 2 ^ 30) : (nI a - nI b).toInt = (a : Int) - b := by
  rw [Int32.toInt_sub, nI_toInt (by omega), nI_toInt (by omega)]
  exact Int.bmod_eq_of_le (by omega) (by omega)
theorem pk_sneg {a b : Nat} (hb : b < 2 ^ 30) (h : a < b) : nI a - nI b < 0 := by
  rw [Int32.lt_iff_toInt_lt, pk_sub_toInt (by omega) hb, show (0 : Int32).toInt = 0 from by decide]
  omega
theorem pk_ix (x : Int32) {n : Nat} (hn : n < 2 ^ 31) : x < 0 ∨ nI n ≤ x ∨ ∃ j : Nat, j < n ∧ x = nI j := by
  by_cases h : x < 0
  · exact Or.inl h
  · obtain ⟨j, hj, rfl⟩ := nI_of h
    by_cases h2 : j < n
    · exact Or.inr (Or.inr ⟨j, h2, rfl⟩)
    · exact Or.inr (Or.inl (nI_le (by omega) hj))
theorem pk_le {x y : Int32} {A B : Prop} (a b : Nat) (f : a ≤ b → A) (g : b < a → B) (hx : x = nI a := by rfl) (hy : y = nI b := by rfl) (ha : a < 2 ^ 31 := by omega) (hb : b < 2 ^ 31 := by omega) : (x ≤ y → A) ∧ (¬ x ≤ y → B) := by
  subst hx hy
  rw [nI_leI ha hb]
  exact ⟨f, fun z => g (by omega)⟩
theorem pk_lt {x y : Int32} {A B : Prop} (a b : Nat) (f : a < b → A) (g : b ≤ a → B) (hx : x = nI a := by rfl) (hy : y = nI b := by rfl) (ha : a < 2 ^ 31 := by omega) (hb : b < 2 ^ 31 := by omega) : (x < y → A) ∧ (¬ x < y → B) := by
  subst hx hy
  rw [nI_ltI ha hb]
  exact ⟨f, fun z => g (by omega)⟩
theorem pk_eq {x y : Int32} {A B : Prop} (a b : Nat) (f : a = b → A) (g : a ≠ b → B) (hx : x = nI a := by rfl) (hy : y = nI b := by rfl) (ha : a < 2 ^ 31 := by omega) (hb : b < 2 ^ 31 := by omega) : (x = y → A) ∧ (¬ x = y → B) := by
  subst hx hy
  rw [nI_eq ha hb]
  exact ⟨f, g⟩
theorem pk_in {x : Int32} (n N : Nat) (h : n < N) (hx : x = nI n := by rfl) (hN : N < 2 ^ 31 := by omega) : vp_in x N := by
  subst hx
  exact vp_in_nI h hN
theorem pk_cl {x : Int32} (n : Nat) (hx : x = nI n := by rfl) (h : n < 2 ^ 31 := by omega) : x.toNatClampNeg = n := by
  subst hx
  exact nI_clamp h
theorem pk_tn {n : Nat} (h : n < 2 ^ 32) : (nI n).toBitVec.toNat = n := Nat.mod_eq_of_lt h
theorem pk_and (x : Int32) {m : Int32} (k : Nat) (hm : m.toBitVec.toNat = 2 ^ k - 1) : x &&& m = nI (x.toBitVec.toNat % 2 ^ k) := by
  apply Int32.toBitVec_inj.mp
  apply BitVec.eq_of_toNat_eq
  rw [Int32.toBitVec_and, BitVec.toNat_and, hm, Nat.and_two_pow_sub_one_eq_mod]
  show _ = (BitVec.ofNat 32 _).toNat
  rw [BitVec.toNat_ofNat]
  exact (Nat.mod_eq_of_lt (Nat.lt_of_le_of_lt (Nat.mod_le _ _) x.toBitVec.isLt)).symm
theorem pk_andN {n : Nat} (h : n < 2 ^ 32) {m : Int32} (k : Nat) (hm : m.toBitVec.toNat = 2 ^ k - 1) : nI n &&& m = nI (n % 2 ^ k) := by
  rw [pk_and _ k hm, pk_tn h]
theorem pk_shr (a s : Int32) (k : Nat) (hs : (s.toBitVec.smod 32).toNat = k) : (a >>> s).toInt = a.toInt >>> k := by
  show (a.toBitVec.sshiftRight (s.toBitVec.smod 32).toNat).toInt = _
  rw [hs, BitVec.toInt_sshiftRight]
  rfl
theorem pk_shrN {n : Nat} (h : n < 2 ^ 31) (s : Int32) (k : Nat) (hs : (s.toBitVec.smod 32).toNat = k) : nI n >>> s = nI (n / 2 ^ k) := by
  apply Int32.toInt_inj.mp
  have h2 : n / 2 ^ k ≤ n := Nat.div_le_self _ _
  rw [pk_shr _ _ k hs, nI_toInt h, nI_toInt (by omega), Int.shiftRight_eq_div_pow]
  rfl
theorem pk_vb (z : Int32) : vp_nar .byte z.toInt8.toInt32 = z.toInt8.toInt32 := by rw [vp_nar_byte]; simp
theorem pk_least (P : Nat → Prop) (h : ∃ k, P k) : ∃ k, P k ∧ ∀ j, j < k → ¬ P j := by
  obtain ⟨k, hk⟩ := h
  induction k using Nat.strongRecOn with
  | ind k ih =>
    by_cases e : ∃ j, j < k ∧ P j
    · obtain ⟨j, hj, pj⟩ := e
      exact ih j hj pj
    · exact ⟨k, hk, fun j hj pj => e ⟨j, hj, pj⟩⟩
end
section
/-! pure: the list of areas (c, f, t, q) against the page function g -/
section
variable {N c : Nat} {f t q g : Nat → Nat}
def am_Rep (N c : Nat) (f t q g : Nat → Nat) : Prop :=
  (∀ i, i < c → f i < t i ∧ t i ≤ N ∧ q i ≤ 127) ∧
  (∀ i, i + 1 < c → t i ≤ f (i + 1) ∧ (t i = f (i + 1) → q i ≠ q (i + 1))) ∧
  (∀ i, i < c → ∀ p, f i ≤ p → p < t i → g p = q i + 1) ∧
  (∀ p, p < N → g p ≠ 0 → ∃ i, i < c ∧ f i ≤ p ∧ p < t i)
/-- the end of the area before i -/
def am_L (t : Nat → Nat) : Nat → Nat
  | 0 => 0
  | i + 1 => t i
theorem am_L0 (t : Nat → Nat) : am_L t 0 = 0 := rfl
theorem am_Ls (t : Nat → Nat) (i : Nat) : am_L t (i + 1) = t i := rfl
theorem am_mono (R : am_Rep N c f t q g) : ∀ j, j < c → ∀ i, i < j → t i ≤ f j := by
  intro j
  induction j with
  | zero => intro _ i h; omega
  | succ j ih =>
    intro hj i hi
    have h2 := (R.2.1 j hj).1
    by_cases e : i = j
    · subst e; exact h2
    · have h3 := ih (by omega) i (by omega)
      have h4 := (R.1 j (by omega)).1
      omega
theorem am_Lle (R : am_Rep N c f t q g) {i : Nat} (hi : i < c) : am_L t i ≤ f i := by
  cases i with
  | zero => exact Nat.zero_le _
  | succ i => exact (R.2.1 i hi).1
theorem am_LN (R : am_Rep N c f t q g) {i : Nat} (hi : i ≤ c) : am_L t i ≤ N := by
  cases i with
  | zero => exact Nat.zero_le _
  | succ i => exact (R.1 i hi).2.1
theorem am_tL (R : am_Rep N c f t q g) {i j : Nat} (hj : j < i) (hi : i ≤ c) : t j ≤ am_L t i := by
  cases i with
  | zero => omega
  | succ i =>
    show t j ≤ t i
    by_cases e : j = i
    · subst e; exact Nat.le_refl _
    · have h1 := am_mono R i (by omega) j (by omega)
      have h2 := (R.1 i (by omega)).1
      omega
theorem am_gap (R : am_Rep N c f t q g) {i p : Nat} (hi : i ≤ c) (hp : p < N) (hL : am_L t i ≤ p) (hf : i < c → p < f i) : g p = 0 := by
  rcases Nat.eq_zero_or_pos (g p) with h | h
  · exact h
  · exfalso
    obtain ⟨j, hj, h1, h2⟩ := R.2.2.2 p hp (by omega)
    by_cases e : j < i
    · have := am_tL R e hi
      omega
    · have hic : i < c := by omega
      have h3 := hf hic
      by_cases e2 : j = i
      · subst e2; omega
      · have h4 := am_mono R j hj i (by omega)
        have h5 := (R.1 i hic).1
        omega
theorem am_uniq (R : am_Rep N c f t q g) {i j p : Nat} (hi : i < c) (hj : j < c) (h1 : f i ≤ p) (h2 : p < t i) (h3 : f j ≤ p) (h4 : p < t j) : i = j := by
  rcases Nat.lt_trichotomy i j with h | h | h
  · have := am_mono R j hj i h
    omega
  · exact h
  · have := am_mono R i hi j h
    omega
theorem am_gle (R : am_Rep N c f t q g) {p : Nat} (hp : p < N) : g p ≤ 128 := by
  rcases Nat.eq_zero_or_pos (g p) with h | h
  · omega
  · obtain ⟨i, hi, h1, h2⟩ := R.2.2.2 p hp (by omega)
    have h3 := R.2.2.1 i hi p h1 h2
    have h4 := (R.1 i hi).2.2
    omega
theorem am_begin1 (R : am_Rep N c f t q g) {i : Nat} (hi : i < c) : 0 < g (f i) ∧ (f i ≠ 0 → g (f i - 1) ≠ g (f i)) := by
  have h1 := R.1 i hi
  have h2 := R.2.2.1 i hi (f i) (Nat.le_refl _) h1.1
  refine ⟨by omega, fun hz he => ?_⟩
  obtain ⟨j, hj, h3, h4⟩ := R.2.2.2 (f i - 1) (by omega) (by omega)
  have h5 := R.2.2.1 j hj _ h3 h4
  rcases Nat.lt_trichotomy i j with h | h | h
  · have := am_mono R j hj i h
    omega
  · subst h; omega
  · by_cases e : j + 1 = i
    · subst e
      have h6 := R.2.1 j hi
      have h7 := h6.2 (by omega)
      omega
    · have h6 := (R.2.1 j (by omega)).1
      have h7 := am_mono R i hi (j + 1) (by omega)
      have h8 := (R.1 (j + 1) (by omega)).1
      omega
theorem am_begin0 (R : am_Rep N c f t q g) {p : Nat} (hp : p < N) (h : ∀ i, i < c → p ≠ f i) : g p = 0 ∨ (p ≠ 0 ∧ g (p - 1) = g p) := by
  rcases Nat.eq_zero_or_pos (g p) with h0 | h0
  · exact Or.inl h0
  · obtain ⟨i, hi, h1, h2⟩ := R.2.2.2 p hp (by omega)
    have h3 := h i hi
    have h4 := R.2.2.1 i hi p h1 h2
    have h5 := R.2.2.1 i hi (p - 1) (by omega) (by omega)
    exact Or.inr ⟨by omega, by omega⟩
/-- behind an area there is another kind -/
theorem am_behind (R : am_Rep N c f t q g) {i : Nat} (hi : i < c) (hN : t i < N) : g (t i) ≠ q i + 1 := by
  intro he
  have h1 := R.1 i hi
  obtain ⟨j, hj, h3, h4⟩ := R.2.2.2 (t i) hN (by omega)
  have h5 := R.2.2.1 i hi (t i - 1) (by omega) (by omega)
  by_cases e : f j = t i
  · have h6 := (am_begin1 R hj).2 (by omega)
    rw [e] at h6
    omega
  · have h7 := am_uniq R (p := t i - 1) hi hj (by omega) (by omega) (by omega) (by omega)
    subst h7
    omega
theorem am_ext (R : am_Rep N c f t q g) {e : Nat} (he : N ≤ e) (hz : ∀ x, N ≤ x → x < e → g x = 0) : am_Rep e c f t q g := by
  refine ⟨fun i hi => ?_, R.2.1, R.2.2.1, fun p hp h0 => ?_⟩
  · have := R.1 i hi
    omega
  · by_cases h : p < N
    · exact R.2.2.2 p h h0
    · exact absurd (hz p (by omega) hp) h0
def am_u (f : Nat → Nat) (k x : Nat) : Nat → Nat := fun j => if j = k then x else f j
theorem am_us {f : Nat → Nat} {k x : Nat} : am_u f k x k = x := if_pos rfl
theorem am_un {f : Nat → Nat} {k x j : Nat} (h : j ≠ k) : am_u f k x j = f j := if_neg h
theorem am_push (R : am_Rep N c f t q g) {a b k e : Nat} (h1 : N ≤ a) (h2 : a < b) (h3 : b ≤ e) (hk : k ≤ 127)
    (hg : ∀ x, N ≤ x → x < e → g x = if a ≤ x ∧ x < b then k + 1 else 0)
    (hj : ∀ j, c = j + 1 → t j = a → q j ≠ k) : am_Rep e (c + 1) (am_u f c a) (am_u t c b) (am_u q c k) g := by
  refine ⟨fun i hi => ?_, fun i hi => ?_, fun i hi p hp1 hp2 => ?_, fun p hp hz => ?_⟩
  · by_cases h : i = c
    · subst h
      simp only [am_us]
      omega
    · simp only [am_un h]
      have := R.1 i (by omega)
      omega
  · have hn : i ≠ c := by omega
    by_cases h : i + 1 = c
    · have h5 := R.1 i (by omega)
      have h6 := hj i h.symm
      rw [h]
      simp only [am_us, am_un hn]
      exact ⟨by omega, h6⟩
    · simp only [am_un hn, am_un h]
      exact R.2.1 i (by omega)
  · by_cases h : i = c
    · subst h
      simp only [am_us] at hp1 hp2 ⊢
      have h5 := hg p (by omega) (by omega)
      rw [if_pos ⟨hp1, hp2⟩] at h5
      exact h5
    · simp only [am_un h] at hp1 hp2 ⊢
      exact R.2.2.1 i (by omega) p hp1 hp2
  · by_cases h : p < N
    · obtain ⟨i, hi, h5, h6⟩ := R.2.2.2 p h hz
      have hn : i ≠ c := by omega
      exact ⟨i, by omega, by rw [am_un hn]; exact h5, by rw [am_un hn]; exact h6⟩
    · have h5 := hg p (by omega) hp
      by_cases h6 : a ≤ p ∧ p < b
      · exact ⟨c, by omega, by rw [am_us]; exact h6.1, by rw [am_us]; exact h6.2⟩
      · rw [if_neg h6] at h5
        exact absurd h5 hz
theorem am_join {j : Nat} (R : am_Rep N (j + 1) f t q g) {a b k e : Nat} (h1 : N ≤ a) (h2 : a < b) (h3 : b ≤ e)
    (hg : ∀ x, N ≤ x → x < e → g x = if a ≤ x ∧ x < b then k + 1 else 0)
    (ht : t j = a) (hq : q j = k) : am_Rep e (j + 1) f (am_u t j b) q g := by
  have h0 := R.1 j (by omega)
  refine ⟨fun i hi => ?_, fun i hi => ?_, fun i hi p hp1 hp2 => ?_, fun p hp hz => ?_⟩
  · by_cases h : i = j
    · subst h
      simp only [am_us]
      omega
    · simp only [am_un h]
      have := R.1 i (by omega)
      omega
  · have hn : i ≠ j := by omega
    simp only [am_un hn]
    exact R.2.1 i hi
  · by_cases h : i = j
    · subst h
      simp only [am_us] at hp2
      by_cases h5 : p < t i
      · exact R.2.2.1 i hi p hp1 h5
      · have h6 := hg p (by omega) (by omega)
        rw [if_pos ⟨by omega, hp2⟩] at h6
        omega
    · simp only [am_un h] at hp2
      exact R.2.2.1 i hi p hp1 hp2
  · by_cases h : p < N
    · obtain ⟨i, hi, h5, h6⟩ := R.2.2.2 p h hz
      by_cases hn : i = j
      · subst hn
        exact ⟨i, hi, h5, by rw [am_us]; omega⟩
      · exact ⟨i, hi, h5, by rw [am_un hn]; exact h6⟩
    · have h5 := hg p (by omega) hp
      by_cases h6 : a ≤ p ∧ p < b
      · exact ⟨j, by omega, by omega, by rw [am_us]; exact h6.2⟩
      · rw [if_neg h6] at h5
        exact absurd h5 hz
/-- n areas begin before p -/
def am_K (c : Nat) (f : Nat → Nat) (p n : Nat) : Prop := n ≤ c ∧ (∀ i, i < n → f i < p) ∧ (∀ i, n ≤ i → i < c → p ≤ f i)
theorem am_K0 : am_K c f 0 0 := ⟨Nat.zero_le _, fun i h => by omega, fun _ _ _ => Nat.zero_le _⟩
theorem am_K1 (R : am_Rep N c f t q g) {p n i : Nat} (K : am_K c f p n) (hi : i < c) (e : p = f i) : i = n ∧ am_K c f (p + 1) (n + 1) := by
  have h1 : ¬ i < n := fun h => by have := K.2.1 i h; omega
  have h2 : ¬ n < i := fun h => by
    have h3 := K.2.2 n (Nat.le_refl _) (by omega)
    have h4 := am_mono R i hi n h
    have h5 := (R.1 n (by omega)).1
    omega
  have h3 : i = n := by omega
  subst h3
  refine ⟨rfl, by omega, fun j hj => ?_, fun j h4 h5 => ?_⟩
  · by_cases h : j = i
    · subst h; omega
    · have := K.2.1 j (by omega)
      omega
  · have h6 := am_mono R j h5 i (by omega)
    have h7 := (R.1 i hi).1
    omega
theorem am_K2 {p n : Nat} (K : am_K c f p n) (h : ∀ i, i < c → p ≠ f i) : am_K c f (p + 1) n :=
  ⟨K.1, fun i hi => by have := K.2.1 i hi; omega, fun i h1 h2 => by have h3 := K.2.2 i h1 h2; have h4 := h i h2; omega⟩
theorem am_K64 (R : am_Rep N c f t q g) {n : Nat} (K : am_K c f N n) : n = c := by
  rcases Nat.lt_or_ge n c with h | h
  · have h1 := K.2.2 n (Nat.le_refl _) h
    have h2 := R.1 n h
    omega
  · have := K.1
    omega
theorem am_Kat (R : am_Rep N c f t q g) {p n i : Nat} (K : am_K c f (p + 1) n) (hi : i < c) (h1 : f i ≤ p) (h2 : p < t i) : n = i + 1 := by
  have h3 : ¬ n ≤ i := fun h => by have := K.2.2 i h hi; omega
  have h4 : ¬ i + 1 < n := fun h => by
    have h5 := K.1
    have h6 := K.2.1 (i + 1) h
    have h7 := (R.2.1 i (by omega)).1
    omega
  omega
end
end
section
/-! pure: counts, runs -/
section
variable {N c : Nat} {f t q g : Nat → Nat} {pr : Nat → Bool} {a : Nat}
/-- how many x of [a, p) have pr -/
def am_C (pr : Nat → Bool) (a : Nat) : Nat → Nat
  | 0 => 0
  | p + 1 => am_C pr a p + (if a ≤ p ∧ pr p = true then 1 else 0)
theorem am_Cs (p : Nat) : am_C pr a (p + 1) = am_C pr a p + (if a ≤ p ∧ pr p = true then 1 else 0) := rfl
theorem am_Ct {p : Nat} (h : a ≤ p) (hp : pr p = true) : am_C pr a (p + 1) = am_C pr a p + 1 := by
  rw [am_Cs, if_pos ⟨h, hp⟩]
theorem am_Cf {p : Nat} (hp : pr p = false) : am_C pr a (p + 1) = am_C pr a p := by
  rw [am_Cs, if_neg (fun h => by rw [hp] at h; exact nomatch h.2)]; rfl
theorem am_Clow : ∀ p, p ≤ a → am_C pr a p = 0 := by
  intro p
  induction p with
  | zero => intro _; rfl
  | succ p ih =>
    intro h
    rw [am_Cs, ih (by omega), if_neg (fun h2 => by have := h2.1; omega)]
theorem am_Cle : ∀ d, am_C pr a (a + d) ≤ d := by
  intro d
  induction d with
  | zero => exact Nat.le_of_eq (am_Clow a (Nat.le_refl _))
  | succ d ih =>
    show am_C pr a (a + d + 1) ≤ d + 1
    rw [am_Cs]
    split <;> omega
theorem am_Cskip_d (p : Nat) : ∀ d, (∀ x, p ≤ x → x < p + d → a ≤ x → pr x = false) → am_C pr a (p + d) = am_C pr a p := by
  intro d
  induction d with
  | zero => intro _; rfl
  | succ d ih =>
    intro h
    show am_C pr a (p + d + 1) = _
    rw [am_Cs, ih (fun x h1 h2 h3 => h x h1 (by omega) h3), if_neg]
    · rfl
    · intro h2
      rw [h (p + d) (by omega) (by omega) h2.1] at h2
      exact nomatch h2.2
theorem am_Cskip {p e : Nat} (hpe : p ≤ e) (h : ∀ x, p ≤ x → x < e → a ≤ x → pr x = false) : am_C pr a e = am_C pr a p := by
  obtain ⟨d, rfl⟩ : ∃ d, e = p + d := ⟨e - p, by omega⟩
  exact am_Cskip_d p d h
theorem am_Call_d (p : Nat) (ha : a ≤ p) : ∀ d, (∀ x, p ≤ x → x < p + d → pr x = true) → am_C pr a (p + d) = am_C pr a p + d := by
  intro d
  induction d with
  | zero => intro _; rfl
  | succ d ih =>
    intro h
    show am_C pr a (p + d + 1) = _
    rw [am_Cs, ih (fun x h1 h2 => h x h1 (by omega)), if_pos ⟨by omega, h (p + d) (by omega) (by omega)⟩]
    omega
theorem am_Call {p e : Nat} (ha : a ≤ p) (hpe : p ≤ e) (h : ∀ x, p ≤ x → x < e → pr x = true) : am_C pr a e = am_C pr a p + (e - p) := by
  obtain ⟨d, rfl⟩ : ∃ d, e = p + d := ⟨e - p, by omega⟩
  rw [am_Call_d p ha d h]
  omega
theorem am_Cstep (R : am_Rep N c f t q g) (hp : ∀ x, g x = 0 → pr x = false) {i : Nat} (hi : i < c) (bb : Bool)
    (h : ∀ x, f i ≤ x → x < t i → pr x = bb) (b : Nat) :
    am_C pr a (min (t i) b) = am_C pr a (min (am_L t i) b) + (if bb = true then min (t i) b - max (f i) a else 0) := by
  have hL := am_Lle R hi
  have h1 := R.1 i hi
  have e1 : am_C pr a (min (f i) b) = am_C pr a (min (am_L t i) b) :=
    am_Cskip (by omega) (fun x h2 h3 _ => hp x (am_gap R (i := i) (by omega) (by omega) (by omega) (fun _ => by omega)))
  cases bb with
  | false =>
    rw [if_neg (by decide), ← e1]
    exact am_Cskip (by omega) (fun x h2 h3 _ => h x (by omega) (by omega))
  | true =>
    rw [if_pos rfl]
    by_cases ha : min (t i) b ≤ a
    · rw [am_Clow _ ha, am_Clow _ (by omega)]
      omega
    · have e2 : am_C pr a (max (min (f i) b) a) = am_C pr a (min (f i) b) :=
        am_Cskip (by omega) (fun x h2 h3 h4 => by omega)
      have e3 : am_C pr a (min (t i) b) = am_C pr a (max (min (f i) b) a) + (min (t i) b - max (min (f i) b) a) :=
        am_Call (by omega) (by omega) (fun x h2 h3 => h x (by omega) (by omega))
      rw [e3, e2, e1]
      omega
theorem am_Cend (R : am_Rep N c f t q g) (hp : ∀ x, g x = 0 → pr x = false) {b : Nat} (hb : b ≤ N) :
    am_C pr a (min (am_L t c) b) = am_C pr a b :=
  (am_Cskip (by omega) (fun x h2 h3 _ => hp x (am_gap R (i := c) (Nat.le_refl _) (by omega) (by omega) (fun h => by omega)))).symm
/-- the free run that ends before p, the longest one -/
def am_run (g : Nat → Nat) : Nat → Nat
  | 0 => 0
  | p + 1 => if g p = 0 then am_run g p + 1 else 0
def am_most (g : Nat → Nat) : Nat → Nat
  | 0 => 0
  | p + 1 => if am_run g (p + 1) ≤ am_most g p then am_most g p else am_run g (p + 1)
theorem am_run1 {p : Nat} (h : g p = 0) : am_run g (p + 1) = am_run g p + 1 := if_pos h
theorem am_run0 {p : Nat} (h : g p ≠ 0) : am_run g (p + 1) = 0 := if_neg h
theorem am_mosts (p : Nat) : am_most g (p + 1) = if am_run g (p + 1) ≤ am_most g p then am_most g p else am_run g (p + 1) := rfl
theorem am_mle : ∀ p, am_run g p ≤ p ∧ am_most g p ≤ p := by
  intro p
  induction p with
  | zero => exact ⟨Nat.le_refl _, Nat.le_refl _⟩
  | succ p ih =>
    have h : am_run g (p + 1) ≤ p + 1 := by
      by_cases h : g p = 0
      · rw [am_run1 h]; omega
      · rw [am_run0 h]; omega
    refine ⟨h, ?_⟩
    rw [am_mosts]
    split <;> omega
theorem am_mzero (p : Nat) (h0 : am_run g p = 0) : ∀ d, (∀ x, p ≤ x → x < p + d → g x = 0) → am_run g (p + d) = d ∧ am_most g (p + d) = max (am_most g p) d := by
  intro d
  induction d with
  | zero => intro _; exact ⟨h0, by show am_most g p = _; omega⟩
  | succ d ih =>
    intro h
    obtain ⟨h1, h2⟩ := ih (fun x h3 h4 => h x h3 (by omega))
    have h3 : am_run g (p + d + 1) = d + 1 := by rw [am_run1 (h (p + d) (by omega) (by omega)), h1]
    refine ⟨h3, ?_⟩
    show am_most g (p + d + 1) = _
    rw [am_mosts, h3, h2]
    split <;> omega
theorem am_mpos (p : Nat) : ∀ d, (∀ x, p ≤ x → x < p + d + 1 → g x ≠ 0) → am_run g (p + d + 1) = 0 ∧ am_most g (p + d + 1) = am_most g p := by
  intro d
  induction d with
  | zero =>
    intro h
    have h1 : am_run g (p + 0 + 1) = 0 := am_run0 (h p (by omega) (by omega))
    refine ⟨h1, ?_⟩
    rw [am_mosts, h1, if_pos (Nat.zero_le _)]
  | succ d ih =>
    intro h
    obtain ⟨h1, h2⟩ := ih (fun x h3 h4 => h x h3 (by omega))
    have h3 : am_run g (p + d + 1 + 1) = 0 := am_run0 (h (p + d + 1) (by omega) (by omega))
    refine ⟨h3, ?_⟩
    show am_most g (p + d + 1 + 1) = _
    rw [am_mosts, h3, if_pos (Nat.zero_le _), h2]
/-- one area of X: from the end of the last one to the end of this one -/
theorem am_mstep (R : am_Rep N c f t q g) {i : Nat} (hi : i < c) (h0 : am_run g (am_L t i) = 0) :
    am_run g (t i) = 0 ∧ am_most g (t i) = max (am_most g (am_L t i)) (f i - am_L t i) := by
  have hL := am_Lle R hi
  have h1 := R.1 i hi
  have h2 := am_mzero (am_L t i) h0 (f i - am_L t i) (fun x h3 h4 => am_gap R (i := i) (by omega) (by omega) h3 (fun _ => by omega))
  rw [show am_L t i + (f i - am_L t i) = f i by omega] at h2
  have h3 := am_mpos (g := g) (f i) (t i - f i - 1) (fun x h4 h5 => by
    have := R.2.2.1 i hi x h4 (by omega)
    omega)
  rw [show f i + (t i - f i - 1) + 1 = t i by omega] at h3
  exact ⟨h3.1, h3.2.trans h2.2⟩
theorem am_mend (R : am_Rep N c f t q g) (h0 : am_run g (am_L t c) = 0) : am_most g N = max (am_most g (am_L t c)) (N - am_L t c) := by
  have hL := am_LN R (Nat.le_refl c)
  have h2 := am_mzero (am_L t c) h0 (N - am_L t c) (fun x h3 h4 => am_gap R (i := c) (Nat.le_refl _) (by omega) h3 (fun h => by omega))
  rw [show am_L t c + (N - am_L t c) = N by omega] at h2
  exact h2.2
end
end
section
/-! numbers and X's readers -/
theorem am_byte : ∀ n, n < 128 → (nI n).toInt8.toInt32 = nI n := by decide +kernel
theorem am_bits : ∀ k, k < 128 → ∀ r, r < 8 → ((nI k &&& (-8)) ||| nI r) = nI (k / 8 * 8 + r) := by decide +kernel
theorem am_and7 {k : Nat} (h : k < 2 ^ 31) : nI k &&& 7 = nI (k % 8) := pk_andN (by omega) 3 (by decide)
theorem am_pm1 {p : Nat} (h : 0 < p) : nI p - 1 = nI (p - 1) := by
  obtain ⟨k, rfl⟩ : ∃ k, p = k + 1 := ⟨p - 1, by omega⟩
  exact nI_pred k
theorem am_lt0 {x : Int32} : x < 0 ↔ x.toInt < 0 := by
  rw [Int32.lt_iff_toInt_lt, show (0 : Int32).toInt = 0 from by decide]
theorem am_ge1 {y : Int32} (h : ¬ y < 1) : ∃ l, 1 ≤ l ∧ l < 2 ^ 31 ∧ y = nI l := by
  have h0 : ¬ y < 0 := by
    rw [Int32.lt_iff_toInt_lt, show (1 : Int32).toInt = 1 from by decide] at h
    rw [am_lt0]
    omega
  obtain ⟨l, hl, rfl⟩ := nI_of h0
  refine ⟨l, ?_, hl, rfl⟩
  rcases Nat.eq_zero_or_pos l with e | e
  · subst e
    exact absurd (by decide : nI 0 < 1) h
  · exact e
theorem am_rng (x : Int32) (N : Nat) (hN : N < 2 ^ 31) : (∃ n, n ≤ N ∧ x = nI n) ∨ x < 0 ∨ (¬ x < 0 ∧ ¬ x ≤ nI N ∧ nI N < x) := by
  by_cases h : x < 0
  · exact Or.inr (Or.inl h)
  · obtain ⟨j, hj, rfl⟩ := nI_of h
    by_cases h2 : j ≤ N
    · exact Or.inl ⟨j, h2, rfl⟩
    · exact Or.inr (Or.inr ⟨h, nI_ge (by omega) hj, nI_lt (by omega) hj⟩)
theorem am_iLe {n : Nat} (h : n < 2 ^ 31) (x : Int32) : nI n ≤ x ↔ (n : Int) ≤ x.toInt := by
  rw [Int32.le_iff_toInt_le, nI_toInt h]
theorem am_iLt {n : Nat} (h : n < 2 ^ 31) (x : Int32) : nI n < x ↔ (n : Int) < x.toInt := by
  rw [Int32.lt_iff_toInt_lt, nI_toInt h]
theorem am_leI {n : Nat} (h : n < 2 ^ 31) (x : Int32) : x ≤ nI n ↔ x.toInt ≤ (n : Int) := by
  rw [Int32.le_iff_toInt_le, nI_toInt h]
theorem am_ltI {n : Nat} (h : n < 2 ^ 31) (x : Int32) : x < nI n ↔ x.toInt < (n : Int) := by
  rw [Int32.lt_iff_toInt_lt, nI_toInt h]
theorem am_greatest {post : Int32 → Prop} (a b : Nat) (ha : a < 2 ^ 31) (hb : b < 2 ^ 31) (h : post (nI (max a b))) : wpX_greatest post (nI a) (nI b) := by
  refine pk_le a b (fun h1 => ?_) (fun h1 => ?_) rfl rfl ha hb
  · rw [show max a b = b by omega] at h; exact h
  · rw [show max a b = a by omega] at h; exact h
theorem am_least {post : Int32 → Prop} (a b : Nat) (ha : a < 2 ^ 31) (hb : b < 2 ^ 31) (h : post (nI (min a b))) : wpX_least post (nI a) (nI b) := by
  refine pk_le b a (fun h1 => ?_) (fun h1 => ?_) rfl rfl hb ha
  · rw [show min a b = b by omega] at h; exact h
  · rw [show min a b = a by omega] at h; exact h
theorem am_prop1 {post : Int32 → Prop} {a l : Nat} (h1 : 1 ≤ l) (h2 : a + l ≤ 64) (h : post 1) : wpX_isProper post (nI a) (nI l) := by
  refine br_f (nI_pos (by omega)) (br_f (nI_ge (b := 64) (by omega) (by decide)) (br_f (nI_nlt (b := 1) h1 (by omega)) (br_f ?_ h)))
  have e : (64 : Int32) - nI a = nI (64 - a) := pk_sub (a := 64) (by omega)
  rw [e]
  exact nI_nlt (by omega) (by omega)
theorem am_prop1Y {post : Int32 → Prop} {u : SY} {a l : Nat} (h1 : 1 ≤ l) (h2 : a + l ≤ 64) (h : post 1) : wpY_proper post u (nI a) (nI l) := by
  obtain ⟨pg, od⟩ := u
  refine br_f (nI_pos (by omega)) (br_f (nI_nlt (a := 63) (by omega) (by decide)) (br_f (nI_nlt (b := 1) h1 (by omega)) (br_f ?_ h)))
  have e : (64 : Int32) - nI a = nI (64 - a) := pk_sub (a := 64) (by omega)
  rw [e]
  exact nI_nlt (by omega) (by omega)
theorem am_prop_cases (x y : Int32) : (∃ a l, x = nI a ∧ y = nI l ∧ 1 ≤ l ∧ a + l ≤ 64) ∨
    ((∀ post : Int32 → Prop, post 0 → wpX_isProper post x y) ∧ (∀ (post : Int32 → Prop) (u : SY), post 0 → wpY_proper post u x y)) := by
  by_cases h0 : x < 0
  · exact Or.inr ⟨fun post h => br_t h0 h, fun post u h => br_t h0 h⟩
  · obtain ⟨a, ha, rfl⟩ := nI_of h0
    by_cases h1 : a < 64
    · have n1 : ¬ (64 : Int32) ≤ nI a := nI_ge (b := 64) h1 (by decide)
      have n2 : ¬ (63 : Int32) < nI a := nI_nlt (a := 63) (by omega) (by decide)
      by_cases h2 : y < 1
      · exact Or.inr ⟨fun post h => br_f h0 (br_f n1 (br_t h2 h)), fun post u h => br_f h0 (br_f n2 (br_t h2 h))⟩
      · obtain ⟨l, hl1, hl2, rfl⟩ := am_ge1 h2
        by_cases h3 : a + l ≤ 64
        · exact Or.inl ⟨a, l, rfl, rfl, hl1, h3⟩
        · have e : (64 : Int32) - nI a = nI (64 - a) := pk_sub (a := 64) (by omega)
          have n3 : (64 : Int32) - nI a < nI l := by
            rw [e]
            exact nI_lt (by omega) hl2
          exact Or.inr ⟨fun post h => br_f h0 (br_f n1 (br_f h2 (br_t n3 h))), fun post u h => br_f h0 (br_f n2 (br_f h2 (br_t n3 h)))⟩
    · have n1 : (64 : Int32) ≤ nI a := nI_le (a := 64) (by omega) ha
      have n2 : (63 : Int32) < nI a := nI_lt (a := 63) (by omega) ha
      exact Or.inr ⟨fun post h => br_f h0 (br_t n1 h), fun post u h => br_f h0 (br_t n2 h)⟩
theorem am_kind1 {post : Int32 → Prop} {n : Nat} (hn : n ≤ 127) (h : post 1) : wpX_isKind post (nI n) :=
  br_f (nI_pos (by omega)) (br_f (nI_nlt (a := 127) hn (by decide)) h)
theorem am_page1 {post : Int32 → Prop} {n : Nat} (hn : n < 64) (h : post 1) : wpX_isPage post (nI n) :=
  br_f (nI_pos (by omega)) (br_f (nI_ge (b := 64) hn (by decide)) h)
theorem am_page1Y {post : Int32 → Prop} {u : SY} {n : Nat} (hn : n < 64) (h : post 1) : wpY_page post u (nI n) :=
  br_f (nI_pos (by omega)) (br_f (nI_nlt (a := 63) (by omega) (by decide)) h)
theorem am_page_cases (x : Int32) : (∃ n, n < 64 ∧ x = nI n) ∨
    ((∀ post : Int32 → Prop, post 0 → wpX_isPage post x) ∧ (∀ (post : Int32 → Prop) (u : SY), post 0 → wpY_page post u x)) := by
  by_cases h0 : x < 0
  · exact Or.inr ⟨fun post h => br_t h0 h, fun post u h => br_t h0 h⟩
  · obtain ⟨a, ha, rfl⟩ := nI_of h0
    by_cases h1 : a < 64
    · exact Or.inl ⟨a, h1, rfl⟩
    · have n1 : (64 : Int32) ≤ nI a := nI_le (a := 64) (by omega) ha
      have n2 : (63 : Int32) < nI a := nI_lt (a := 63) (by omega) ha
      exact Or.inr ⟨fun post h => br_f h0 (br_t n1 h), fun post u h => br_f h0 (br_t n2 h)⟩
section
variable {c : Nat} {f t q g : Nat → Nat} {aF aT aK nF nT nK : Nat → Int32} {mm : Int32}
/-- X's arrays hold the list -/
def am_X (c : Nat) (f t q : Nat → Nat) (aF aT aK : Nat → Int32) : Prop := ∀ i, i < c → aF i = nI (f i) ∧ aT i = nI (t i) ∧ aK i = nI (q i)
theorem am_xF (X : am_X c f t q aF aT aK) (hc : c ≤ 20) {i : Nat} (hi : i < c) : aF (nI i).toNatClampNeg = nI (f i) := by
  rw [nI_clamp (by omega)]; exact (X i hi).1
theorem am_xT (X : am_X c f t q aF aT aK) (hc : c ≤ 20) {i : Nat} (hi : i < c) : aT (nI i).toNatClampNeg = nI (t i) := by
  rw [nI_clamp (by omega)]; exact (X i hi).2.1
theorem am_xK (X : am_X c f t q aF aT aK) (hc : c ≤ 20) {i : Nat} (hi : i < c) : aK (nI i).toNatClampNeg = nI (q i) := by
  rw [nI_clamp (by omega)]; exact (X i hi).2.2
def am_pu (g : Nat → Nat) (x : Nat) : Bool := decide (0 < g x)
theorem am_pu0 (x : Nat) (h : g x = 0) : am_pu g x = false := by
  unfold am_pu; rw [h]; rfl
theorem am_pu1 {x : Nat} (h : 0 < g x) : am_pu g x = true := decide_eq_true h
theorem am_mapIn_lp {post : Int32 → Prop} (R : am_Rep 64 c f t q g) (hc : c ≤ 20) (X : am_X c f t q aF aT aK) {a b : Nat} (ha : a ≤ 64) (hb : b ≤ 64)
    (h : post (nI (am_C (am_pu g) a b))) : ∀ d i, i + d = c →
    wX_mappedIn_5 post (nI a) (nI b) (nI c) mm aF aT aK nF nT nK (d + 1) (nI (am_C (am_pu g) a (min (am_L t i) b))) (nI i) := by
  intro d
  induction d with
  | zero =>
    intro i hi
    obtain rfl : i = c := by omega
    refine br_t (nI_le (Nat.le_refl _) (by omega)) ?_
    rw [am_Cend R am_pu0 hb]
    exact h
  | succ d ih =>
    intro i hi
    have hic : i < c := by omega
    have hin : vp_in (nI i) 20 := vp_in_nI (by omega) (by decide)
    have h1 := R.1 i hic
    have es := am_Cstep (a := a) R am_pu0 hic true (fun x h2 h3 => am_pu1 (by have := R.2.2.1 i hic x h2 h3; omega)) b
    rw [if_pos rfl] at es
    refine br_f (nI_ge hic (by omega)) ⟨hin, ?_⟩
    rw [am_xF X hc hic, am_xT X hc hic]
    refine am_greatest (f i) a (by omega) (by omega) ⟨hin, ?_⟩
    refine am_least (t i) b (by omega) (by omega) ?_
    refine pk_le (min (t i) b) (max (f i) a) (fun h2 => ?_) (fun h2 => ?_)
    · refine nm_r (e' := nI (am_C (am_pu g) a (min (am_L t (i + 1)) b))) ?_ (nm_r (nI_1 i) (ih (i + 1) (by omega)))
      rw [am_Ls, es, show min (t i) b - max (f i) a = 0 by omega, Int32.add_zero]
      rfl
    · refine nm_r (e' := nI (am_C (am_pu g) a (min (am_L t (i + 1)) b))) ?_ (nm_r (nI_1 i) (ih (i + 1) (by omega)))
      rw [am_Ls, es, pk_sub (by omega), nI_add]
theorem am_mapIn {post : Int32 → Prop} (R : am_Rep 64 c f t q g) (hc : c ≤ 20) (X : am_X c f t q aF aT aK) {a b : Nat} (ha : a ≤ 64) (hb : b ≤ 64)
    (h : post (nI (am_C (am_pu g) a b))) : wpX_mappedIn post (nI c, mm, aF, aT, aK, nF, nT, nK) (nI a) (nI b) := by
  have h1 := am_mapIn_lp (mm := mm) (nF := nF) (nT := nT) (nK := nK) R hc X ha hb h c 0 (by omega)
  rw [am_L0, show min 0 b = 0 by omega] at h1
  exact ⟨c + 1, h1⟩
/-- p is the least page from s on with room for l pages -/
def am_Fr (g : Nat → Nat) (l p : Nat) : Prop := p + l ≤ 64 ∧ ∀ x, p ≤ x → x < p + l → g x = 0
def am_IsR (g : Nat → Nat) (s l p : Nat) : Prop := s ≤ p ∧ am_Fr g l p ∧ ∀ x, s ≤ x → x < p → ¬ am_Fr g l x
def am_NoR (g : Nat → Nat) (s l : Nat) : Prop := ∀ x, s ≤ x → ¬ am_Fr g l x
theorem am_IsR_u {s l p p' : Nat} (h : am_IsR g s l p) (h' : am_IsR g s l p') : p' = p := by
  rcases Nat.lt_trichotomy p p' with e | e | e
  · exact absurd h.2.1 (h'.2.2 p h.1 e)
  · exact e.symm
  · exact absurd h'.2.1 (h.2.2 p' h'.1 e)
theorem am_room_lp {post : Int32 → Prop} (R : am_Rep 64 c f t q g) (hc : c ≤ 20) (X : am_X c f t q aF aT aK) {s l : Nat} (hs : s < 64) (hl1 : 1 ≤ l) (hl : l ≤ 64)
    (h1 : ∀ p, am_IsR g s l p → post (nI p)) (h0 : am_NoR g s l → post (-1)) : ∀ d i, i + d = c →
    (∀ x, s ≤ x → x < max s (am_L t i) → ¬ am_Fr g l x) →
    wX_room_5 post (nI l) (nI c) mm aF aT aK nF nT nK (d + 1) (nI (max s (am_L t i))) (nI i) := by
  intro d
  induction d with
  | zero =>
    intro i hi H
    obtain rfl : i = c := by omega
    have hL := am_LN R (Nat.le_refl i)
    refine br_t (nI_le (Nat.le_refl _) (by omega)) ?_
    rw [show (64 : Int32) - nI (max s (am_L t i)) = nI (64 - max s (am_L t i)) from pk_sub (a := 64) (by omega)]
    refine pk_lt (64 - max s (am_L t i)) l (fun h2 => h0 ?_) (fun h2 => h1 _ ⟨by omega, ⟨by omega, fun x h3 h4 => ?_⟩, H⟩)
    · intro x h3 h4
      by_cases h5 : x < max s (am_L t i)
      · exact H x h3 h5 h4
      · have := h4.1
        omega
    · exact am_gap R (i := i) (Nat.le_refl _) (by omega) (by omega) (fun h => by omega)
  | succ d ih =>
    intro i hi H
    have hic : i < c := by omega
    have hin : vp_in (nI i) 20 := vp_in_nI (by omega) (by decide)
    have h2 := R.1 i hic
    have hL := am_Lle R hic
    refine br_f (nI_ge hic (by omega)) ⟨hin, ?_⟩
    rw [am_xF X hc hic, am_xT X hc hic]
    refine pk_le (t i) (max s (am_L t i)) (fun h3 => ?_) (fun h3 => ⟨hin, ?_⟩)
    · have e : max s (am_L t i) = max s (am_L t (i + 1)) := by rw [am_Ls]; omega
      rw [e] at H ⊢
      exact nm_r (nI_1 i) (ih (i + 1) (by omega) H)
    · have hd : (nI (f i) - nI (max s (am_L t i))).toInt = (f i : Int) - ((max s (am_L t i) : Nat) : Int) := pk_sub_toInt (by omega) (by omega)
      by_cases h4 : f i < max s (am_L t i) + l
      · refine br_t ?_ ⟨hin, ?_⟩
        · rw [Int32.lt_iff_toInt_lt, hd, nI_toInt (by omega)]
          omega
        · have e : t i = max s (am_L t (i + 1)) := by rw [am_Ls]; omega
          refine nm_r (congrArg nI e) (nm_r (nI_1 i) (ih (i + 1) (by omega) ?_))
          intro x h5 h6 h7
          rw [← e] at h6
          by_cases h8 : x < max s (am_L t i)
          · exact H x h5 h8 h7
          · have h9 := R.2.2.1 i hic (max x (f i)) (by omega) (by omega)
            have h10 := h7.2 (max x (f i)) (by omega) (by omega)
            omega
      · refine br_f ?_ (h1 _ ⟨by omega, ⟨by omega, fun x h5 h6 => ?_⟩, H⟩)
        · rw [Int32.lt_iff_toInt_lt, hd, nI_toInt (by omega)]
          omega
        · exact am_gap R (i := i) (by omega) (by omega) (by omega) (fun _ => by omega)
theorem am_room {post : Int32 → Prop} (R : am_Rep 64 c f t q g) (hc : c ≤ 20) (X : am_X c f t q aF aT aK) {s l : Nat} (hs : s < 64) (hl1 : 1 ≤ l) (hl : l ≤ 64)
    (h1 : ∀ p, am_IsR g s l p → post (nI p)) (h0 : am_NoR g s l → post (-1)) :
    wpX_room post (nI c, mm, aF, aT, aK, nF, nT, nK) (nI s) (nI l) := by
  have h2 := am_room_lp (mm := mm) (nF := nF) (nT := nT) (nK := nK) R hc X hs hl1 hl h1 h0 c 0 (by omega)
  rw [am_L0, show max s 0 = s by omega] at h2
  exact ⟨c + 1, h2 (fun x h3 h4 => by omega)⟩
/-- halving -/
theorem am_find_no (R : am_Rep 64 c f t q g) {p lo hi : Nat} (hp : p < 64) (hlt : hi ≤ lo) (A : ∀ i, i < lo → i < c → t i ≤ p) (B : ∀ i, hi ≤ i → i < c → p < f i) : g p = 0 := by
  rcases Nat.eq_zero_or_pos (g p) with h | h
  · exact h
  · exfalso
    obtain ⟨i, hi2, h3, h4⟩ := R.2.2.2 p hp (by omega)
    by_cases h5 : i < lo
    · have := A i h5 hi2
      omega
    · have := B i (by omega) hi2
      omega
theorem am_find_lp {post : Int32 → Prop} (R : am_Rep 64 c f t q g) (hc : c ≤ 20) (X : am_X c f t q aF aT aK) {p : Nat} (hp : p < 64)
    (h1 : ∀ i, i < c → f i ≤ p → p < t i → post (nI i)) (h0 : g p = 0 → post (-1)) : ∀ k r lo hi, r + k = 6 → lo ≤ c → hi ≤ c → hi + 1 ≤ lo + 2 ^ k →
    (∀ i, i < lo → i < c → t i ≤ p) → (∀ i, hi ≤ i → i < c → p < f i) →
    wX_find_12 post (nI p) (nI c) mm aF aT aK nF nT nK (k + 1) (nI lo) (nI hi - 1) (nI r) := by
  intro k
  induction k with
  | zero =>
    intro r lo hi hr hl hh hw A B
    obtain rfl : r = 6 := by omega
    exact br_t (nI_le (a := 6) (Nat.le_refl _) (by decide)) (h0 (am_find_no R hp (by omega) A B))
  | succ k ih =>
    intro r lo hi hr hl hh hw A B
    refine br_f (nI_ge (b := 6) (by omega) (by decide)) ?_
    by_cases hlt : hi ≤ lo
    · refine br_t ?_ (h0 (am_find_no R hp hlt A B))
      have hd : (nI hi - nI 1).toInt = (hi : Int) - ((1 : Nat) : Int) := pk_sub_toInt (by omega) (by omega)
      show nI hi - nI 1 < nI lo
      rw [Int32.lt_iff_toInt_lt, hd, nI_toInt (by omega)]
      omega
    · have e3 : nI hi - 1 = nI (hi - 1) := am_pm1 (by omega)
      refine br_f (by rw [e3]; exact nI_nlt (by omega) (by omega)) ?_
      obtain ⟨mid, hm⟩ : ∃ mid, mid = (lo + (hi - 1)) / 2 := ⟨_, rfl⟩
      have em : (nI lo + (nI hi - 1)) >>> ((1 : Int32) &&& 31) = nI mid := by
        rw [e3, nI_add, pk_shrN (n := lo + (hi - 1)) (by omega) ((1 : Int32) &&& 31) 1 (by decide), Nat.pow_one, hm]
      have hmc : mid < c := by omega
      have hin : vp_in (nI mid) 20 := vp_in_nI (by omega) (by decide)
      have h2 := R.1 mid hmc
      rw [Nat.pow_succ] at hw
      refine nm_r em ⟨hin, ?_⟩
      rw [am_xF X hc hmc, am_xT X hc hmc]
      refine pk_lt p (t mid) (fun h3 => ⟨hin, pk_le (f mid) p (fun h4 => h1 mid hmc h4 h3) (fun h4 => ?_)⟩) (fun h3 => ?_)
      · refine nm_e (nm_r (nI_1 r) (ih (r + 1) lo mid (by omega) hl (by omega) (by omega) A ?_))
        intro i h5 h6
        by_cases e : i = mid
        · subst e; omega
        · have := am_mono R i h6 mid (by omega)
          omega
      · refine nm_r (nI_1 mid) (nm_r (nI_1 r) (ih (r + 1) (mid + 1) hi (by omega) (by omega) hh (by omega) ?_ B))
        intro i h5 h6
        by_cases e : i = mid
        · subst e; omega
        · have := am_mono R mid hmc i (by omega)
          omega
theorem am_find {post : Int32 → Prop} (R : am_Rep 64 c f t q g) (hc : c ≤ 20) (X : am_X c f t q aF aT aK) {p : Nat} (hp : p < 64)
    (h1 : ∀ i, i < c → f i ≤ p → p < t i → post (nI i)) (h0 : g p = 0 → post (-1)) :
    wpX_find post (nI c, mm, aF, aT, aK, nF, nT, nK) (nI p) :=
  nm_e ⟨7, am_find_lp R hc X hp h1 h0 6 0 0 c rfl (Nat.zero_le _) (Nat.le_refl _) (by omega) (fun i h => by omega) (fun i h2 h3 => by omega)⟩
theorem am_lf_lp {post : Int32 → Prop} (R : am_Rep 64 c f t q g) (hc : c ≤ 20) (X : am_X c f t q aF aT aK)
    (h : post (nI (am_most g 64))) : ∀ d i, i + d = c → am_run g (am_L t i) = 0 →
    wX_longestFree_6 post (nI c) mm aF aT aK nF nT nK (d + 1) (nI (am_L t i)) (nI (am_most g (am_L t i))) (nI i) := by
  intro d
  induction d with
  | zero =>
    intro i hi hr
    obtain rfl : i = c := by omega
    have hL := am_LN R (Nat.le_refl i)
    have hm := (am_mle (g := g) (am_L t i)).2
    refine br_t (nI_le (Nat.le_refl _) (by omega)) ?_
    rw [show (64 : Int32) - nI (am_L t i) = nI (64 - am_L t i) from pk_sub (a := 64) hL]
    refine am_greatest _ _ (by omega) (by omega) ?_
    rw [← am_mend R hr]
    exact h
  | succ d ih =>
    intro i hi hr
    have hic : i < c := by omega
    have hin : vp_in (nI i) 20 := vp_in_nI (by omega) (by decide)
    have h2 := R.1 i hic
    have hL := am_Lle R hic
    have hm := (am_mle (g := g) (am_L t i)).2
    have hs := am_mstep R hic hr
    have h3 := ih (i + 1) (by omega) hs.1
    rw [am_Ls, hs.2] at h3
    refine br_f (nI_ge hic (by omega)) ⟨hin, ?_⟩
    rw [am_xF X hc hic, am_xT X hc hic, pk_sub hL]
    exact am_greatest _ _ (by omega) (by omega) ⟨hin, nm_e (nm_r (nI_1 i) h3)⟩
theorem am_lf {post : Int32 → Prop} (R : am_Rep 64 c f t q g) (hc : c ≤ 20) (X : am_X c f t q aF aT aK)
    (h : post (nI (am_most g 64))) : wpX_longestFree post (nI c, mm, aF, aT, aK, nF, nT, nK) :=
  ⟨c + 1, am_lf_lp R hc X h c 0 (by omega) rfl⟩
theorem am_isA1 {post : Int32 → Prop} {i : Nat} (hc : c ≤ 20) (hi : i < c) (h : post 1) : wpX_isArea post (nI c, mm, aF, aT, aK, nF, nT, nK) (nI i) :=
  br_f (nI_pos (by omega)) (br_f (nI_ge hi (by omega)) h)
theorem am_isA0 {post : Int32 → Prop} {i : Nat} (hi : c ≤ i) (hi2 : i < 2 ^ 31) (h : post 0) : wpX_isArea post (nI c, mm, aF, aT, aK, nF, nT, nK) (nI i) :=
  br_f (nI_pos hi2) (br_t (nI_le hi hi2) h)
theorem am_isAn {post : Int32 → Prop} {x : Int32} (hx : x < 0) (h : post 0) : wpX_isArea post (nI c, mm, aF, aT, aK, nF, nT, nK) x :=
  br_t hx h
/-- a page that allows r -/
def am_ok (g : Nat → Nat) (r : Int32) (x : Nat) : Prop := 0 < g x ∧ (r &&& (nI (g x - 1) ^^^ (-1))) = 0
theorem am_allow_lp {post : Int32 → Prop} (R : am_Rep 64 c f t q g) (hc : c ≤ 20) (X : am_X c f t q aF aT aK) {a l : Nat} {r : Int32} (hal : a + l ≤ 64)
    (h1 : (∀ x, a ≤ x → x < a + l → am_ok g r x) → post 1) (h0 : ∀ x, a ≤ x → x < a + l → ¬ am_ok g r x → post 0) : ∀ d i p, i + d = c → am_L t i ≤ p → (i < c → p < t i) → a ≤ p → p ≤ 64 →
    (∀ x, a ≤ x → x < p → am_ok g r x) →
    wX_allows_30 post (nI a) (nI l) r (nI c) mm aF aT aK nF nT nK (d + 1) (nI p) (nI i) := by
  intro d
  induction d with
  | zero =>
    intro i p hi hL hT hap hp H
    obtain rfl : i = c := by omega
    refine pk_le (a + l) p (fun h2 => h1 (fun x h3 h4 => H x h3 (by omega))) (fun h2 => ?_) (nI_add a l)
    refine am_isA0 (Nat.le_refl _) (by omega) (br_t rfl ?_)
    refine h0 p hap h2 (fun h3 => ?_)
    have h4 := am_gap R (i := i) (Nat.le_refl _) (by omega) hL (fun h => by omega)
    have h5 := h3.1
    omega
  | succ d ih =>
    intro i p hi hL hT hap hp H
    have hic : i < c := by omega
    have hin : vp_in (nI i) 20 := vp_in_nI (by omega) (by decide)
    have h2 := R.1 i hic
    have hpt := hT hic
    refine pk_le (a + l) p (fun h2 => h1 (fun x h3 h4 => H x h3 (by omega))) (fun h3 => ?_) (nI_add a l)
    refine am_isA1 hc hic (br_f (by decide) ⟨hin, ?_⟩)
    rw [am_xF X hc hic, am_xT X hc hic, am_xK X hc hic]
    refine pk_lt p (f i) (fun h4 => h0 p hap h3 (fun h5 => ?_)) (fun h4 => ⟨hin, ?_⟩)
    · have h6 := am_gap R (i := i) (by omega) (by omega) hL (fun _ => h4)
      have h7 := h5.1
      omega
    · by_cases h5 : (r &&& (nI (q i) ^^^ (-1))) = 0
      · refine br_t h5 ⟨hin, nm_e (nm_r (nI_1 i) (ih (i + 1) (t i) (by omega) (Nat.le_refl _) (fun h6 => ?_) (by omega) h2.2.1 ?_))⟩
        · have h7 := (R.2.1 i h6).1
          have h8 := (R.1 (i + 1) h6).1
          omega
        · intro x h6 h7
          by_cases h8 : x < p
          · exact H x h6 h8
          · have h9 := R.2.2.1 i hic x (by omega) h7
            refine ⟨by omega, ?_⟩
            rw [h9]
            exact h5
      · refine br_f h5 (h0 p hap h3 (fun h6 => h5 ?_))
        have h7 := h6.2
        rw [R.2.2.1 i hic p h4 hpt] at h7
        exact h7
theorem am_allow {post : Int32 → Prop} (R : am_Rep 64 c f t q g) (hc : c ≤ 20) (X : am_X c f t q aF aT aK) {a l r : Nat} (hl : 1 ≤ l) (hal : a + l ≤ 64) (hr : r ≤ 7)
    (h1 : (∀ x, a ≤ x → x < a + l → am_ok g (nI r) x) → post 1) (h0 : ∀ x, a ≤ x → x < a + l → ¬ am_ok g (nI r) x → post 0) :
    wpX_allows post (nI c, mm, aF, aT, aK, nF, nT, nK) (nI a) (nI l) (nI r) := by
  unfold wpX_allows
  refine am_prop1 hl hal ?_
  refine br_f (by decide) (br_f (nI_pos (by omega)) (br_t (nI_le (b := 7) hr (by decide)) ?_))
  refine am_find R hc X (by omega) (fun i hi h2 h3 => ?_) (fun h2 => ?_)
  · exact ⟨c - i + 1, am_allow_lp R hc X hal h1 h0 (c - i) i a (by omega) (Nat.le_trans (am_Lle R hi) h2) (fun _ => h3) (Nat.le_refl _) (by omega) (fun x h4 h5 => by omega)⟩
  · refine ⟨1, pk_le (a + l) a (fun h3 => by omega) (fun h3 => ?_) (nI_add a l)⟩
    refine am_isAn (by decide) (br_t rfl (h0 a (Nat.le_refl _) (by omega) (fun h4 => ?_)))
    have := h4.1
    omega
/-- a page from P on with the tag -/
def am_Q (g : Nat → Nat) (tag : Int32) (P : Int) (x : Nat) : Prop := 0 < g x ∧ P ≤ (x : Int) ∧ nI (g x - 1) >>> ((3 : Int32) &&& 31) = tag
theorem am_next_lp {post : Int32 → Prop} (R : am_Rep 64 c f t q g) (hc : c ≤ 20) (X : am_X c f t q aF aT aK) {tag y : Int32}
    (h1 : ∀ p, p < 64 → am_Q g tag y.toInt p → (∀ x, x < p → ¬ am_Q g tag y.toInt x) → post (nI p)) (h0 : (∀ x, x < 64 → ¬ am_Q g tag y.toInt x) → post (-3)) : ∀ d i, i + d = c →
    (∀ x, x < am_L t i → ¬ am_Q g tag y.toInt x) →
    wX_nextWith_2 post tag y (nI c) mm aF aT aK nF nT nK (d + 1) (nI i) := by
  intro d
  induction d with
  | zero =>
    intro i hi H
    obtain rfl : i = c := by omega
    refine br_t (nI_le (Nat.le_refl _) (by omega)) (h0 (fun x h2 h3 => ?_))
    by_cases h4 : x < am_L t i
    · exact H x h4 h3
    · have h5 := am_gap R (i := i) (Nat.le_refl _) h2 (by omega) (fun h => by omega)
      have h6 := h3.1
      omega
  | succ d ih =>
    intro i hi H
    have hic : i < c := by omega
    have hin : vp_in (nI i) 20 := vp_in_nI (by omega) (by decide)
    have h2 := R.1 i hic
    have hL := am_Lle R hic
    have hgap : ∀ x, x < f i → ¬ am_Q g tag y.toInt x := by
      intro x h3 h4
      by_cases h5 : x < am_L t i
      · exact H x h5 h4
      · have h6 := am_gap R (i := i) (by omega) (by omega) (by omega) (fun _ => h3)
        have h7 := h4.1
        omega
    refine br_f (nI_ge hic (by omega)) ⟨hin, ?_⟩
    rw [am_xF X hc hic, am_xT X hc hic, am_xK X hc hic]
    by_cases ht : nI (q i) >>> ((3 : Int32) &&& 31) = tag
    · refine br_t ht ⟨hin, ?_⟩
      by_cases h3 : nI (t i) ≤ y
      · refine br_t h3 (nm_r (nI_1 i) (ih (i + 1) (by omega) (fun x h4 h5 => ?_)))
        rw [am_Ls] at h4
        rw [am_iLe (by omega)] at h3
        have := h5.2.1
        omega
      · refine br_f h3 ⟨hin, ?_⟩
        rw [am_iLe (by omega)] at h3
        by_cases h4 : nI (f i) ≤ y
        · refine br_t h4 ?_
          rw [am_iLe (by omega)] at h4
          obtain ⟨P, hP, rfl⟩ := nI_of (x := y) (by rw [am_lt0]; omega)
          rw [nI_toInt hP] at h3 h4
          have h5 := R.2.2.1 i hic P (by omega) (by omega)
          refine h1 P (by omega) ⟨by omega, by rw [nI_toInt hP]; omega, by rw [h5]; exact ht⟩ (fun x h6 h7 => ?_)
          have h8 := h7.2.1
          rw [nI_toInt hP] at h8
          omega
        · refine br_f h4 ?_
          rw [am_iLe (by omega)] at h4
          have h5 := R.2.2.1 i hic (f i) (Nat.le_refl _) h2.1
          exact h1 (f i) (by omega) ⟨by omega, by omega, by rw [h5]; exact ht⟩ hgap
    · refine br_f ht (nm_r (nI_1 i) (ih (i + 1) (by omega) (fun x h4 h5 => ?_)))
      rw [am_Ls] at h4
      by_cases h6 : x < f i
      · exact hgap x h6 h5
      · have h7 := h5.2.2
        rw [R.2.2.1 i hic x (by omega) h4] at h7
        exact ht h7
theorem am_next {post : Int32 → Prop} (R : am_Rep 64 c f t q g) (hc : c ≤ 20) (X : am_X c f t q aF aT aK) {tag y : Int32}
    (h1 : ∀ p, p < 64 → am_Q g tag y.toInt p → (∀ x, x < p → ¬ am_Q g tag y.toInt x) → post (nI p)) (h0 : (∀ x, x < 64 → ¬ am_Q g tag y.toInt x) → post (-3)) :
    wpX_nextWith post (nI c, mm, aF, aT, aK, nF, nT, nK) tag y :=
  ⟨c + 1, am_next_lp R hc X h1 h0 c 0 (by omega) (fun x h => by exact absurd h (Nat.not_lt_zero _))⟩
end
end
section
/-! Y's readers -/
section
variable {c : Nat} {f t q g : Nat → Nat} {pg od : Nat → Int32}
/-- Y's pages hold g -/
def am_Y (g : Nat → Nat) (pg : Nat → Int32) : Prop := ∀ p, p < 64 → pg p = nI (g p)
theorem am_yR (Y : am_Y g pg) {p : Nat} (hp : p < 64) : pg (nI p).toNatClampNeg = nI (g p) := by
  rw [nI_clamp (by omega)]; exact Y p hp
theorem am_begins {post : Int32 → Prop} (R : am_Rep 64 c f t q g) (Y : am_Y g pg) {p : Nat} (hp : p < 64)
    (h1 : ∀ i, i < c → p = f i → post 1) (h0 : (∀ i, i < c → p ≠ f i) → post 0) : wpY_begins post (pg, od) (nI p) := by
  have hin : vp_in (nI p) 64 := vp_in_nI hp (by decide)
  have hg := am_gle R hp
  refine ⟨hin, ?_⟩
  rw [am_yR Y hp]
  by_cases H : ∃ i, i < c ∧ p = f i
  · obtain ⟨i, hi, e⟩ := H
    have hb := am_begin1 R hi
    rw [← e] at hb
    refine br_f (nI_nle hb.1 (by omega)) ?_
    by_cases hz : p = 0
    · subst hz
      exact br_t rfl (h1 i hi e)
    · refine br_f (nI_ne0 (by omega) (by omega)) ?_
      have hg2 := am_gle R (p := p - 1) (by omega)
      rw [am_pm1 (by omega), am_yR Y (p := p - 1) (by omega)]
      refine ⟨vp_in_nI (by omega) (by decide), hin, br_f ?_ (h1 i hi e)⟩
      rw [nI_eq (by omega) (by omega)]
      exact hb.2 hz
  · have hn : ∀ i, i < c → p ≠ f i := fun i hi e => H ⟨i, hi, e⟩
    rcases am_begin0 R hp hn with hz | hz
    · rw [hz]
      exact br_t (by decide) (h0 hn)
    · refine pk_le (g p) 0 (fun _ => h0 hn) (fun hgp => ?_)
      refine br_f (nI_ne0 (by omega) (by omega)) ?_
      have hg2 := am_gle R (p := p - 1) (by omega)
      rw [am_pm1 (by omega), am_yR Y (p := p - 1) (by omega)]
      exact ⟨vp_in_nI (by omega) (by decide), hin, br_t (by rw [hz.2]) (h0 hn)⟩
theorem am_areas_lp {post : Int32 → Prop} (R : am_Rep 64 c f t q g) (Y : am_Y g pg) (h : post (nI c)) : ∀ d p n, p + d = 64 → am_K c f p n →
    wY_areas_4 post pg od (d + 1) (nI n) (nI p) := by
  intro d
  induction d with
  | zero =>
    intro p n hp K
    obtain rfl : p = 64 := by omega
    rw [am_K64 R K]
    exact br_t (nI_le (a := 64) (Nat.le_refl _) (by decide)) h
  | succ d ih =>
    intro p n hp K
    refine br_f (nI_ge (b := 64) (by omega) (by decide)) ?_
    refine am_begins R Y (by omega) (fun i hi e => ?_) (fun hn => ?_)
    · exact br_f (by decide) (nm_r (nI_1 n) (nm_r (nI_1 p) (ih (p + 1) (n + 1) (by omega) (am_K1 R K hi e).2)))
    · exact br_t rfl (nm_r (nI_1 p) (ih (p + 1) n (by omega) (am_K2 K hn)))
theorem am_areas {post : Int32 → Prop} (R : am_Rep 64 c f t q g) (Y : am_Y g pg) (h : post (nI c)) : wpY_areas post (pg, od) :=
  ⟨65, am_areas_lp R Y h 64 0 0 rfl am_K0⟩
theorem am_aFirst_lp {post : Int32 → Prop} (R : am_Rep 64 c f t q g) (Y : am_Y g pg) {x : Int32}
    (h1 : ∀ i, i < c → x = nI i → post (nI (f i))) (h0 : (∀ i, i < c → x ≠ nI i) → post (-3)) : ∀ d p n, p + d = 64 → am_K c f p n → (∀ i, i < n → x ≠ nI i) →
    wY_areaFirst_4 post x pg od (d + 1) (nI n) (nI p) := by
  intro d
  induction d with
  | zero =>
    intro p n hp K H
    obtain rfl : p = 64 := by omega
    have e := am_K64 R K
    subst e
    exact br_t (nI_le (a := 64) (Nat.le_refl _) (by decide)) (h0 H)
  | succ d ih =>
    intro p n hp K H
    refine br_f (nI_ge (b := 64) (by omega) (by decide)) ?_
    refine am_begins R Y (by omega) (fun i hi e => ?_) (fun hn => ?_)
    · have hk := am_K1 R K hi e
      have e2 := hk.1
      subst e2
      refine br_f (by decide) ?_
      by_cases hx : nI i = x
      · rw [e]
        exact br_t hx (h1 i hi hx.symm)
      · refine br_f hx (nm_r (nI_1 i) (nm_r (nI_1 p) (ih (p + 1) (i + 1) (by omega) hk.2 ?_)))
        intro j hj
        by_cases e3 : j = i
        · subst e3; exact fun h => hx h.symm
        · exact H j (by omega)
    · exact br_t rfl (nm_r (nI_1 p) (ih (p + 1) n (by omega) (am_K2 K hn) H))
theorem am_aFirst {post : Int32 → Prop} (R : am_Rep 64 c f t q g) (Y : am_Y g pg) {x : Int32}
    (h1 : ∀ i, i < c → x = nI i → post (nI (f i))) (h0 : (∀ i, i < c → x ≠ nI i) → post (-3)) : wpY_areaFirst post (pg, od) x :=
  ⟨65, am_aFirst_lp R Y h1 h0 64 0 0 rfl am_K0 (fun i h => absurd h (Nat.not_lt_zero _))⟩
theorem am_aLen_lp {post : Int32 → Prop} (R : am_Rep 64 c f t q g) (Y : am_Y g pg) {i : Nat} (hi : i < c)
    (h1 : post (nI (t i - f i))) : ∀ d p, p + d = t i → f i ≤ p →
    wY_areaLength_17 post (nI (f i)) pg od (d + 1) (nI p) := by
  have h2 := R.1 i hi
  have hend : wY_areaLength_44 post (nI (f i)) (nI (t i)) pg od := by
    refine br_t (nI_pos' (by omega)) ?_
    rw [pk_sub (by omega)]
    exact h1
  intro d
  induction d with
  | zero =>
    intro p hp hfp
    obtain rfl : p = t i := by omega
    by_cases h3 : t i = 64
    · refine br_t ?_ hend
      rw [h3]
      decide
    · have hin : vp_in (nI (t i)) 64 := vp_in_nI (by omega) (by decide)
      have hin2 : vp_in (nI (f i)) 64 := vp_in_nI (by omega) (by decide)
      refine br_f (nI_ge (b := 64) (by omega) (by decide)) ⟨hin, hin2, br_f ?_ hend⟩
      rw [am_yR Y (by omega), am_yR Y (by omega), nI_eq (by have := am_gle R (p := t i) (by omega); omega) (by have := am_gle R (p := f i) (by omega); omega),
        R.2.2.1 i hi (f i) (Nat.le_refl _) h2.1]
      exact am_behind R hi (by omega)
  | succ d ih =>
    intro p hp hfp
    have hin : vp_in (nI p) 64 := vp_in_nI (by omega) (by decide)
    have hin2 : vp_in (nI (f i)) 64 := vp_in_nI (by omega) (by decide)
    refine br_f (nI_ge (b := 64) (by omega) (by decide)) ⟨hin, hin2, br_t ?_ (nm_r (nI_1 p) (ih (p + 1) (by omega) (by omega)))⟩
    rw [am_yR Y (by omega), am_yR Y (by omega), R.2.2.1 i hi (f i) (Nat.le_refl _) h2.1, R.2.2.1 i hi p hfp (by omega)]
theorem am_aLen {post : Int32 → Prop} (R : am_Rep 64 c f t q g) (Y : am_Y g pg) {x : Int32}
    (h1 : ∀ i, i < c → x = nI i → post (nI (t i - f i))) (h0 : (∀ i, i < c → x ≠ nI i) → post (-3)) : wpY_areaLength post (pg, od) x := by
  unfold wpY_areaLength
  refine am_aFirst R Y (fun i hi e => ?_) (fun hn => ?_)
  · have h2 := R.1 i hi
    exact br_t (nI_pos' (by omega)) ⟨t i - f i + 1, am_aLen_lp R Y hi (h1 i hi e) (t i - f i) (f i) (by omega) (Nat.le_refl _)⟩
  · exact br_f (by decide) ⟨1, br_t (by decide) (br_f (by decide) (h0 hn))⟩
theorem am_pp (n : Nat) : nI n - 1 + 1 = nI (n + 1) - 1 := by
  rw [nI_pred, Int32.sub_add_cancel]
theorem am_aOf_lp {post : Int32 → Prop} (R : am_Rep 64 c f t q g) (Y : am_Y g pg) {x i : Nat} (hx : x < 64) (hi : i < c) (hf : f i ≤ x) (ht : x < t i)
    (h : post (nI i)) : ∀ d p n, p + d = x + 1 → am_K c f p n →
    wY_areaOf_24 post (nI x) pg od (d + 1) (nI n - 1) (nI p) := by
  intro d
  induction d with
  | zero =>
    intro p n hp K
    obtain rfl : p = x + 1 := by omega
    rw [am_Kat R K hi hf ht, nI_pred]
    exact br_t (nI_lt (by omega) (by omega)) h
  | succ d ih =>
    intro p n hp K
    refine br_f (nI_nlt (by omega) (by omega)) ?_
    refine am_begins R Y (by omega) (fun i hi e => ?_) (fun hn => ?_)
    · exact br_f (by decide) (nm_r (am_pp n) (nm_r (nI_1 p) (ih (p + 1) (n + 1) (by omega) (am_K1 R K hi e).2)))
    · exact br_t rfl (nm_r (nI_1 p) (ih (p + 1) n (by omega) (am_K2 K hn)))
theorem am_aOf {post : Int32 → Prop} (R : am_Rep 64 c f t q g) (Y : am_Y g pg) {x : Nat} (hx : x < 64)
    (h1 : ∀ i, i < c → f i ≤ x → x < t i → post (nI i)) (h0 : g x = 0 → post (-3)) : wpY_areaOf post (pg, od) (nI x) := by
  unfold wpY_areaOf
  refine am_page1Y hx ?_
  refine br_f (by decide) ⟨vp_in_nI hx (by decide), ?_⟩
  have hg := am_gle R hx
  rw [am_yR Y hx]
  refine pk_eq (g x) 0 h0 (fun hz => ?_)
  obtain ⟨i, hi, h2, h3⟩ := R.2.2.2 x hx hz
  exact ⟨x + 1 + 1, am_aOf_lp R Y hx hi h2 h3 (h1 i hi h2 h3) (x + 1) 0 0 (by omega) am_K0⟩
theorem am_used_lp {post : Int32 → Prop} (R : am_Rep 64 c f t q g) (Y : am_Y g pg) {a l : Nat} (hal : a + l ≤ 64)
    (h : post (nI (am_C (am_pu g) a (a + l)))) : ∀ d p, p + d = a + l → a ≤ p →
    wY_used_5 post (nI a) (nI l) pg od (d + 1) (nI (am_C (am_pu g) a p)) (nI p) := by
  intro d
  induction d with
  | zero =>
    intro p hp hap
    obtain rfl : p = a + l := by omega
    exact br_t (by rw [nI_add]; exact nI_le (Nat.le_refl _) (by omega)) h
  | succ d ih =>
    intro p hp hap
    have hg := am_gle R (p := p) (by omega)
    refine br_f (by rw [nI_add]; exact nI_ge (by omega) (by omega)) ⟨vp_in_nI (by omega) (by decide), ?_⟩
    rw [am_yR Y (by omega)]
    have h2 := ih (p + 1) (by omega) (by omega)
    refine pk_le (g p) 0 (fun h3 => ?_) (fun h3 => ?_)
    · rw [am_Cf (am_pu0 p (by omega))] at h2
      exact nm_r (nI_1 p) h2
    · rw [am_Ct hap (am_pu1 h3)] at h2
      exact nm_r (nI_1 _) (nm_r (nI_1 p) h2)
theorem am_used {post : Int32 → Prop} (R : am_Rep 64 c f t q g) (Y : am_Y g pg) {a l : Nat} (hal : a + l ≤ 64)
    (h : post (nI (am_C (am_pu g) a (a + l)))) : wpY_used post (pg, od) (nI a) (nI l) := by
  have h2 := am_used_lp (od := od) R Y hal h l a rfl (Nat.le_refl _)
  rw [am_Clow a (Nat.le_refl _)] at h2
  exact ⟨l + 1, h2⟩
theorem am_Cmono {pr : Nat → Bool} {a p : Nat} : ∀ d, am_C pr a p ≤ am_C pr a (p + d) := by
  intro d
  induction d with
  | zero => exact Nat.le_refl _
  | succ d ih => exact Nat.le_trans ih (Nat.le_add_right _ _)
theorem am_Cpos {pr : Nat → Bool} {a b x : Nat} (h1 : a ≤ x) (h2 : x < b) (h3 : pr x = true) : 0 < am_C pr a b := by
  obtain ⟨d, rfl⟩ : ∃ d, b = x + 1 + d := ⟨b - x - 1, by omega⟩
  have h4 := am_Cmono (pr := pr) (a := a) (p := x + 1) d
  rw [am_Ct h1 h3] at h4
  omega
theorem am_C0 {a b : Nat} (hab : a ≤ b) : am_C (am_pu g) a b = 0 ↔ ∀ x, a ≤ x → x < b → g x = 0 := by
  constructor
  · intro h x h1 h2
    rcases Nat.eq_zero_or_pos (g x) with h3 | h3
    · exact h3
    · have := am_Cpos h1 h2 (am_pu1 h3)
      omega
  · intro h
    rw [am_Cskip hab (fun x h1 h2 _ => am_pu0 x (h x h1 h2)), am_Clow a (Nat.le_refl _)]
theorem am_prop0Y {post : Int32 → Prop} {u : SY} {p l : Nat} (hp : p < 64) (h1 : 1 ≤ l) (hl : l < 2 ^ 31) (h2 : 64 < p + l) (h : post 0) : wpY_proper post u (nI p) (nI l) := by
  obtain ⟨pg, od⟩ := u
  refine br_f (nI_pos (by omega)) (br_f (nI_nlt (a := 63) (by omega) (by decide)) (br_f (nI_nlt (b := 1) h1 hl) (br_t ?_ h)))
  rw [show (64 : Int32) - nI p = nI (64 - p) from pk_sub (a := 64) (by omega)]
  exact nI_lt (by omega) hl
theorem am_roomY_lp {post : Int32 → Prop} (R : am_Rep 64 c f t q g) (Y : am_Y g pg) {s l : Nat} (hl1 : 1 ≤ l) (hl : l < 2 ^ 31)
    (h1 : ∀ p, am_IsR g s l p → post (nI p)) (h0 : am_NoR g s l → post (-1)) : ∀ d p, p + d = 64 → s ≤ p →
    (∀ x, s ≤ x → x < p → ¬ am_Fr g l x) → wY_room_2 post (nI l) pg od (d + 1) (nI p) := by
  intro d
  induction d with
  | zero =>
    intro p hp hs H
    obtain rfl : p = 64 := by omega
    refine br_t (nI_le (a := 64) (Nat.le_refl _) (by decide)) (h0 (fun x h2 h3 => ?_))
    have h4 := h3.1
    exact H x h2 (by omega) h3
  | succ d ih =>
    intro p hp hs H
    refine br_f (nI_ge (b := 64) (by omega) (by decide)) ?_
    have hnext : ¬ am_Fr g l p → wY_room_2 post (nI l) pg od (d + 1) (nI (p + 1)) := fun hn =>
      ih (p + 1) (by omega) (by omega) (fun x h2 h3 h4 => by
        by_cases e : x = p
        · subst e; exact hn h4
        · exact H x h2 (by omega) h4)
    by_cases hpl : p + l ≤ 64
    · refine am_prop1Y hl1 hpl (br_f (by decide) ?_)
      refine am_used R Y hpl ?_
      have hC := am_Cle (pr := am_pu g) (a := p) l
      refine pk_eq (am_C (am_pu g) p (p + l)) 0 (fun h2 => ?_) (fun h2 => ?_)
      · exact h1 p ⟨hs, ⟨hpl, (am_C0 (by omega)).mp h2⟩, H⟩
      · exact nm_r (nI_1 p) (hnext (fun h3 => h2 ((am_C0 (by omega)).mpr h3.2)))
    · exact am_prop0Y (by omega) hl1 hl (by omega) (br_t rfl (nm_r (nI_1 p) (hnext (fun h3 => hpl h3.1))))
theorem am_roomY {post : Int32 → Prop} (R : am_Rep 64 c f t q g) (Y : am_Y g pg) {s l : Nat} (hs : s < 64) (hl1 : 1 ≤ l) (hl : l < 2 ^ 31)
    (h1 : ∀ p, am_IsR g s l p → post (nI p)) (h0 : am_NoR g s l → post (-1)) : wpY_room post (pg, od) (nI s) (nI l) :=
  ⟨64 - s + 1, am_roomY_lp R Y hl1 hl h1 h0 (64 - s) s (by omega) (Nat.le_refl _) (fun x h2 h3 => by omega)⟩
theorem am_lf28 {post : Int32 → Prop} {J : Int32 → Int32 → Int32 → Prop} {p : Nat} (hp : p < 64)
    (h : J (nI (am_most g (p + 1))) (nI (am_run g (p + 1))) (nI (p + 1))) :
    wY_longestFree_28 post J (nI (am_most g p)) (nI p) (nI (am_run g (p + 1))) pg od := by
  have h1 := (am_mle (g := g) p).2
  have h2 := (am_mle (g := g) (p + 1)).1
  refine pk_le (am_run g (p + 1)) (am_most g p) (fun h3 => ?_) (fun h3 => ?_)
  · rw [am_mosts, if_pos h3] at h
    exact nm_r (nI_1 p) h
  · rw [am_mosts, if_neg (by omega)] at h
    exact nm_r (nI_1 p) h
theorem am_lfY_lp {post : Int32 → Prop} (R : am_Rep 64 c f t q g) (Y : am_Y g pg) (h : post (nI (am_most g 64))) : ∀ d p, p + d = 64 →
    wY_longestFree_6 post pg od (d + 1) (nI (am_most g p)) (nI (am_run g p)) (nI p) := by
  intro d
  induction d with
  | zero =>
    intro p hp
    obtain rfl : p = 64 := by omega
    exact br_t (nI_le (a := 64) (Nat.le_refl _) (by decide)) h
  | succ d ih =>
    intro p hp
    have hg := am_gle R (p := p) (by omega)
    refine br_f (nI_ge (b := 64) (by omega) (by decide)) ⟨vp_in_nI (by omega) (by decide), ?_⟩
    rw [am_yR Y (by omega)]
    have h2 := ih (p + 1) (by omega)
    have h3 := am_lf28 (post := post) (pg := pg) (od := od) (J := wY_longestFree_6 post pg od (d + 1)) (by omega) h2
    refine pk_eq (g p) 0 (fun hz => ?_) (fun hz => ?_)
    · rw [am_run1 hz, ← nI_1] at h3
      exact h3
    · rw [am_run0 hz] at h3
      exact h3
theorem am_lfY {post : Int32 → Prop} (R : am_Rep 64 c f t q g) (Y : am_Y g pg) (h : post (nI (am_most g 64))) : wpY_longestFree post (pg, od) :=
  ⟨65, am_lfY_lp R Y h 64 0 rfl⟩
theorem am_allowY_lp {post : Int32 → Prop} (R : am_Rep 64 c f t q g) (Y : am_Y g pg) {a l : Nat} {r : Int32} (hal : a + l ≤ 64)
    (h1 : (∀ x, a ≤ x → x < a + l → am_ok g r x) → post 1) (h0 : ∀ x, a ≤ x → x < a + l → ¬ am_ok g r x → post 0) : ∀ d p, p + d = a + l → a ≤ p →
    (∀ x, a ≤ x → x < p → am_ok g r x) → wY_allows_29 post (nI a) (nI l) r pg od (d + 2) 1 (nI p) := by
  intro d
  induction d with
  | zero =>
    intro p hp hap H
    obtain rfl : p = a + l := by omega
    exact br_f (by decide) (br_t (by rw [nI_add]; exact nI_le (Nat.le_refl _) (by omega)) ⟨rfl, h1 H⟩)
  | succ d ih =>
    intro p hp hap H
    have hg := am_gle R (p := p) (by omega)
    have hin : vp_in (nI p) 64 := vp_in_nI (by omega) (by decide)
    have hz : ∀ y, ¬ am_ok g r p → wY_allows_29 post (nI a) (nI l) r pg od (d + 2) 0 y := fun y hn => br_t rfl ⟨rfl, h0 p hap (by omega) hn⟩
    refine br_f (by decide) (br_f (by rw [nI_add]; exact nI_ge (by omega) (by omega)) ⟨hin, ?_⟩)
    rw [am_yR Y (by omega)]
    refine pk_le (g p) 0 (fun h3 => ?_) (fun h3 => ⟨hin, ?_⟩)
    · exact nm_e (hz _ (fun h4 => by have := h4.1; omega))
    · rw [am_pm1 h3]
      by_cases h4 : (r &&& (nI (g p - 1) ^^^ (-1))) = 0
      · refine br_t h4 (nm_r (nI_1 p) (ih (p + 1) (by omega) (by omega) (fun x h5 h6 => ?_)))
        by_cases e : x = p
        · subst e; exact ⟨h3, h4⟩
        · exact H x h5 (by omega)
      · exact br_f h4 (nm_e (hz _ (fun h5 => h4 h5.2)))
theorem am_allowY {post : Int32 → Prop} (R : am_Rep 64 c f t q g) (Y : am_Y g pg) {a l r : Nat} (hl : 1 ≤ l) (hal : a + l ≤ 64) (hr : r ≤ 7)
    (h1 : (∀ x, a ≤ x → x < a + l → am_ok g (nI r) x) → post 1) (h0 : ∀ x, a ≤ x → x < a + l → ¬ am_ok g (nI r) x → post 0) :
    wpY_allows post (pg, od) (nI a) (nI l) (nI r) := by
  unfold wpY_allows
  refine am_prop1Y hl hal ?_
  exact br_f (by decide) (br_f (nI_pos (by omega)) (br_f (nI_nlt (a := 7) hr (by decide))
    ⟨l + 2, am_allowY_lp R Y hal h1 h0 l a rfl (Nat.le_refl _) (fun x h2 h3 => by omega)⟩))
theorem am_nextY_lp {post : Int32 → Prop} (R : am_Rep 64 c f t q g) (Y : am_Y g pg) {tag y : Int32}
    (h1 : ∀ p, p < 64 → am_Q g tag y.toInt p → (∀ x, x < p → ¬ am_Q g tag y.toInt x) → post (nI p)) (h0 : (∀ x, x < 64 → ¬ am_Q g tag y.toInt x) → post (-3)) : ∀ d p, p + d = 64 →
    (∀ x, x < p → ¬ am_Q g tag y.toInt x) → wY_nextWith_2 post tag y pg od (d + 1) (nI p) := by
  intro d
  induction d with
  | zero =>
    intro p hp H
    obtain rfl : p = 64 := by omega
    exact br_t (nI_le (a := 64) (Nat.le_refl _) (by decide)) (h0 H)
  | succ d ih =>
    intro p hp H
    have hg := am_gle R (p := p) (by omega)
    have hin : vp_in (nI p) 64 := vp_in_nI (by omega) (by decide)
    have hnext : ¬ am_Q g tag y.toInt p → wY_nextWith_2 post tag y pg od (d + 1) (nI (p + 1)) := fun hn =>
      ih (p + 1) (by omega) (fun x h3 h4 => by
        by_cases e : x = p
        · subst e; exact hn h4
        · exact H x (by omega) h4)
    refine br_f (nI_ge (b := 64) (by omega) (by decide)) ?_
    by_cases h2 : nI p < y
    · refine br_t h2 (nm_r (nI_1 p) (hnext (fun h3 => ?_)))
      rw [am_iLt (by omega)] at h2
      have := h3.2.1
      omega
    · refine br_f h2 ⟨hin, ?_⟩
      rw [am_iLt (by omega)] at h2
      rw [am_yR Y (by omega)]
      refine pk_le (g p) 0 (fun h3 => ?_) (fun h3 => ⟨hin, ?_⟩)
      · exact nm_r (nI_1 p) (hnext (fun h4 => by have := h4.1; omega))
      · rw [am_pm1 h3]
        by_cases h4 : nI (g p - 1) >>> ((3 : Int32) &&& 31) = tag
        · exact br_t h4 (h1 p (by omega) ⟨h3, by omega, h4⟩ H)
        · exact br_f h4 (nm_r (nI_1 p) (hnext (fun h5 => h4 h5.2.2)))
theorem am_nextY {post : Int32 → Prop} (R : am_Rep 64 c f t q g) (Y : am_Y g pg) {tag y : Int32}
    (h1 : ∀ p, p < 64 → am_Q g tag y.toInt p → (∀ x, x < p → ¬ am_Q g tag y.toInt x) → post (nI p)) (h0 : (∀ x, x < 64 → ¬ am_Q g tag y.toInt x) → post (-3)) :
    wpY_nextWith post (pg, od) tag y :=
  ⟨65, am_nextY_lp R Y h1 h0 64 0 rfl (fun x h => absurd h (Nat.not_lt_zero _))⟩
end
end
section
/-! X's new list: emit, commit, rewrite -/
section
variable {c pos m a b k e : Nat} {f t q g : Nat → Nat} {aF aT aK nF nT nK : Nat → Int32} {F mm : Int32}
/-- the new list, m pieces, is that of g below pos -/
def am_N (pos m : Nat) (g : Nat → Nat) (nF nT nK : Nat → Int32) : Prop := ∃ f t q : Nat → Nat, am_X m f t q nF nT nK ∧ am_Rep pos m f t q g
theorem am_N0 : am_N 0 0 g nF nT nK :=
  ⟨fun _ => 0, fun _ => 0, fun _ => 0, fun i h => absurd h (Nat.not_lt_zero _), fun i h => absurd h (Nat.not_lt_zero _), fun i h => absurd h (Nat.not_lt_zero _),
    fun i h => absurd h (Nat.not_lt_zero _), fun i h => absurd h (Nat.not_lt_zero _)⟩
theorem am_Next (H : am_N pos m g nF nT nK) (he : pos ≤ e) (hz : ∀ x, pos ≤ x → x < e → g x = 0) : am_N e m g nF nT nK := by
  obtain ⟨f, t, q, X, R⟩ := H
  exact ⟨f, t, q, X, am_ext R he hz⟩
theorem am_st {A : Nat → Int32} {i n : Nat} (hi : i < 2 ^ 31) (hn : n < 128) : upd A (nI i).toNatClampNeg (vp_nar .byte (nI n).toInt8.toInt32) = upd A i (nI n) := by
  rw [nI_clamp hi, vp_nar_byte, am_byte n hn, am_byte n hn]
theorem am_st2 {A B : Nat → Int32} {i n : Nat} (hi : i < 2 ^ 31) (hn : n < 128) (hB : B i = nI n) : upd A (nI i).toNatClampNeg (vp_nar .byte (B (nI i).toNatClampNeg)) = upd A i (nI n) := by
  rw [nI_clamp hi, hB, vp_nar_byte, am_byte n hn]
theorem am_e48p {post : SX → Prop} (hm : m < 48) (ha : a < 128) (hb : b < 128) (hk : k < 128)
    (h : post (F, nI (m + 1), aF, aT, aK, upd nF m (nI a), upd nT m (nI b), upd nK m (nI k))) :
    wX_emit_48 post (nI a) (nI b) (nI k) 0 F (nI m) aF aT aK nF nT nK := by
  have hin : vp_in (nI m) 48 := vp_in_nI hm (by decide)
  have hm2 : m < 2 ^ 31 := by omega
  exact br_t rfl ⟨hin, nm_r (am_st hm2 ha) ⟨hin, nm_r (am_st hm2 hb) ⟨hin, nm_r (am_st hm2 hk) (nm_r (nI_1 m) h)⟩⟩⟩
theorem am_e48j {post : SX → Prop} {j : Nat} (hm : j < 48) (hb : b < 128)
    (h : post (F, nI (j + 1), aF, aT, aK, nF, upd nT j (nI b), nK)) :
    wX_emit_48 post (nI a) (nI b) (nI k) 1 F (nI (j + 1)) aF aT aK nF nT nK := by
  refine br_f (by decide) ?_
  rw [nI_pred]
  exact ⟨vp_in_nI hm (by decide), nm_r (am_st (by omega) hb) h⟩
theorem am_Npush (X : am_X m f t q nF nT nK) : am_X (m + 1) (am_u f m a) (am_u t m b) (am_u q m k) (upd nF m (nI a)) (upd nT m (nI b)) (upd nK m (nI k)) := by
  intro i hi
  by_cases h : i = m
  · subst h
    simp only [am_us, pk_us]
    exact ⟨by trivial, by trivial, by trivial⟩
  · simp only [am_un h, pk_un h]
    exact X i (by omega)
theorem am_Njoin {j : Nat} (X : am_X (j + 1) f t q nF nT nK) : am_X (j + 1) f (am_u t j b) q nF (upd nT j (nI b)) nK := by
  intro i hi
  have h0 := X i hi
  by_cases h : i = j
  · subst h
    simp only [am_us, pk_us]
    exact ⟨h0.1, by trivial, h0.2.2⟩
  · simp only [am_un h, pk_un h]
    exact h0
theorem am_emit {post : SX → Prop} (H : am_N pos m g nF nT nK) (hm : m < 48) (ha : a < 128) (hb : b < 128) (hk : k ≤ 127) (hpe : pos ≤ e) (hab : a < b → pos ≤ a ∧ b ≤ e)
    (hp : pos ≤ 64) (hg : ∀ x, pos ≤ x → x < e → g x = if a ≤ x ∧ x < b then k + 1 else 0)
    (K : ∀ m' nF' nT' nK', m' ≤ m + (if a < b then 1 else 0) → am_N e m' g nF' nT' nK' → post (F, nI m', aF, aT, aK, nF', nT', nK')) :
    wpX_emit post (F, nI m, aF, aT, aK, nF, nT, nK) (nI a) (nI b) (nI k) := by
  by_cases h : a < b
  · have hp1 := (hab h).1
    have hp2 := (hab h).2
    rw [if_pos h] at K
    refine br_t (nI_lt h (by omega)) ?_
    obtain ⟨f, t, q, X, R⟩ := H
    have push : (∀ j, m = j + 1 → t j = a → q j ≠ k) → wX_emit_47 post (nI a) (nI b) (nI k) F (nI m) aF aT aK nF nT nK := fun hj =>
      am_e48p hm ha hb (by omega) (K (m + 1) _ _ _ (Nat.le_refl _) ⟨_, _, _, am_Npush X, am_push R hp1 h hp2 hk hg hj⟩)
    cases m with
    | zero => exact br_t (by decide) (push (fun j h2 => by omega))
    | succ j =>
      refine br_f (nI_nle (by omega) (by omega)) ?_
      have h2 := R.1 j (by omega)
      have hx := X j (by omega)
      have hin : vp_in (nI j) 48 := vp_in_nI (by omega) (by decide)
      rw [nI_pred, nI_clamp (by omega : j < 2 ^ 31), hx.2.1, hx.2.2]
      refine ⟨hin, pk_eq (t j) a (fun h3 => ⟨hin, pk_eq (q j) k (fun h4 => ?_) (fun h4 => ?_)⟩) (fun h3 => ?_)⟩
      · exact am_e48j (by omega) hb (K (j + 1) _ _ _ (by omega) ⟨_, _, _, am_Njoin X, am_join R hp1 h hp2 hg h3 h4⟩)
      · exact push (fun i hi h5 h6 => h4 (by
          obtain rfl : j = i := by omega
          exact h6))
      · exact push (fun i hi h5 h6 => h3 (by
          obtain rfl : j = i := by omega
          exact h5))
  · rw [if_neg h] at K
    refine br_f (nI_nlt (by omega) (by omega)) (K m nF nT nK (Nat.le_refl _) (am_Next H hpe (fun x h1 h2 => ?_)))
    rw [hg x h1 h2, if_neg (fun h3 => by omega)]
theorem am_commit_lp {post : Int32 → SX → Prop} (X : am_X m f t q nF nT nK) (R : am_Rep 64 m f t q g) (hm : m ≤ 20)
    (K : ∀ aF' aT' aK', am_X m f t q aF' aT' aK' → post 1 (nI m, nI m, aF', aT', aK', nF, nT, nK)) : ∀ d i aF aT aK, i + d = m → am_X i f t q aF aT aK →
    wX_commit_21 post (nI m) (nI m) (d + 1) (nI i) aF aT aK nF nT nK := by
  intro d
  induction d with
  | zero =>
    intro i aF aT aK hi XX
    obtain rfl : i = m := by omega
    exact br_t (nI_le (Nat.le_refl _) (by omega)) (K aF aT aK XX)
  | succ d ih =>
    intro i aF aT aK hi XX
    have him : i < m := by omega
    have h2 := R.1 i him
    have hx := X i him
    have hi2 : i < 2 ^ 31 := by omega
    have hin : vp_in (nI i) 48 := vp_in_nI (by omega) (by decide)
    have hin2 : vp_in (nI i) 20 := vp_in_nI (by omega) (by decide)
    refine br_f (nI_ge him (by omega)) ⟨hin, hin2, nm_r (am_st2 hi2 (n := f i) (by omega) hx.1) ⟨hin, hin2, nm_r (am_st2 hi2 (n := t i) (by omega) hx.2.1)
      ⟨hin, hin2, nm_r (am_st2 hi2 (n := q i) (by omega) hx.2.2) (nm_r (nI_1 i) (ih (i + 1) _ _ _ (by omega) ?_))⟩⟩⟩
    intro j hj
    by_cases h : j = i
    · subst h
      simp only [pk_us]
      exact ⟨by trivial, by trivial, by trivial⟩
    · simp only [pk_un h]
      exact XX j (by omega)
theorem am_commit {post : Int32 → SX → Prop} (H : am_N 64 m g nF nT nK) (hm : m < 48)
    (h1 : ∀ f t q aF' aT' aK', m ≤ 20 → am_X m f t q aF' aT' aK' → am_Rep 64 m f t q g → post 1 (nI m, nI m, aF', aT', aK', nF, nT, nK))
    (h0 : ∀ f t q, 20 < m → am_Rep 64 m f t q g → post 0 (F, nI m, aF, aT, aK, nF, nT, nK)) :
    wpX_commit post (F, nI m, aF, aT, aK, nF, nT, nK) := by
  obtain ⟨f, t, q, X, R⟩ := H
  refine pk_le m 20 (fun h => ?_) (fun h => h0 f t q h R)
  exact ⟨m + 1, am_commit_lp X R h (fun aF' aT' aK' X' => h1 f t q aF' aT' aK' h X' R) m 0 aF aT aK (by omega) (fun i hi => absurd hi (Nat.not_lt_zero _))⟩
/-- a span of g has w -/
def am_fl (g : Nat → Nat) (a b w : Nat) : Nat → Nat := fun x => if a ≤ x ∧ x < b then w else g x
theorem am_fl1 {w x : Nat} (h1 : a ≤ x) (h2 : x < b) : am_fl g a b w x = w := if_pos ⟨h1, h2⟩
theorem am_fl0 {w x : Nat} (h : x < a ∨ b ≤ x) : am_fl g a b w x = g x := if_neg (fun h2 => by omega)
/-- g from the end of area i-1 to the end of area i -/
theorem am_area (R : am_Rep 64 c f t q g) {i x : Nat} (hi : i < c) (h1 : am_L t i ≤ x) (h2 : x < t i) : g x = if f i ≤ x then q i + 1 else 0 := by
  by_cases h : f i ≤ x
  · rw [if_pos h]
    exact R.2.2.1 i hi x h h2
  · rw [if_neg h]
    have := R.1 i hi
    exact am_gap R (i := i) (by omega) (by omega) h1 (fun _ => by omega)
theorem am_88 {post : Int32 → SX → Prop} {J : Int32 → Int32 → Int32 → Int32 → (Nat → Int32) → (Nat → Int32) → (Nat → Int32) → (Nat → Int32) → (Nat → Int32) → (Nat → Int32) → Prop}
    {x1 x3 x4 : Int32} {i : Nat} {g' : Nat → Nat} (R : am_Rep 64 c f t q g) (hc : c ≤ 20) (X : am_X c f t q aF aT aK) (hi : i < c) (hb : b ≤ 64)
    (H : am_N pos m g' nF nT nK) (hm : m < 48) (hpe : pos ≤ e) (hp : pos ≤ 64) (hab : max (f i) b < t i → pos ≤ max (f i) b ∧ t i ≤ e)
    (hg : ∀ x, pos ≤ x → x < e → g' x = if max (f i) b ≤ x ∧ x < t i then q i + 1 else 0)
    (K : ∀ m' nF' nT' nK', m' ≤ m + 1 → am_N e m' g' nF' nT' nK' → J x4 (nI (i + 1)) F (nI m') aF aT aK nF' nT' nK') :
    wX_rewrite_88 post J x1 (nI b) x3 x4 (nI i) F (nI m) aF aT aK nF nT nK := by
  have hin : vp_in (nI i) 20 := vp_in_nI (by omega) (by decide)
  have h1 := R.1 i hi
  refine ⟨hin, ?_⟩
  rw [am_xF X hc hi, am_xT X hc hi, am_xK X hc hi]
  refine am_greatest (f i) b (by omega) (by omega) ⟨hin, hin, ?_⟩
  refine am_emit H hm (by omega) (by omega) h1.2.2 hpe hab hp hg (fun m' nF' nT' nK' h2 h3 => ?_)
  refine nm_r (nI_1 i) (K m' nF' nT' nK' ?_ h3)
  split at h2 <;> omega
end
end
section
/-! X's rewrite -/
section
variable {c a b k w : Nat} {f t q g : Nat → Nat} {aF aT aK : Nat → Int32} {mm : Int32} {post : Int32 → SX → Prop}
/-- X has taken the new list over -/
def am_U1 (g' : Nat → Nat) (r : Int32) (post : Int32 → SX → Prop) : Prop := ∀ (m : Nat) (f' t' q' : Nat → Nat) (mm' : Int32) (aF' aT' aK' nF' nT' nK' : Nat → Int32), m ≤ 20 →
  am_X m f' t' q' aF' aT' aK' → am_Rep 64 m f' t' q' g' → post r (nI m, mm', aF', aT', aK', nF', nT', nK')
/-- the new list was too long -/
def am_U0 (c : Nat) (aF aT aK : Nat → Int32) (g' : Nat → Nat) (r : Int32) (post : Int32 → SX → Prop) : Prop := ∀ (m : Nat) (f' t' q' : Nat → Nat) (mm' : Int32) (nF' nT' nK' : Nat → Int32), 20 < m → m < 48 →
  am_Rep 64 m f' t' q' g' → post r (nI c, mm', aF, aT, aK, nF', nT', nK')
theorem am_139 {m : Nat} {g' : Nat → Nat} {nF nT nK : Nat → Int32} (H : am_N 64 m g' nF nT nK) (hm : m < 48) (h1 : am_U1 g' 1 post) (h0 : am_U0 c aF aT aK g' 0 post) :
    wX_rewrite_139 post (nI c) (nI m) aF aT aK nF nT nK :=
  am_commit H hm (fun f t q aF' aT' aK' h X R => ⟨rfl, h1 m f t q _ aF' aT' aK' _ _ _ h X R⟩) (fun f t q h R => ⟨rfl, h0 m f t q _ _ _ _ h hm R⟩)
theorem am_rw1 {x3 : Int32} (R : am_Rep 64 c f t q g) (hc : c ≤ 20) (X : am_X c f t q aF aT aK) (hab : a < b) (hb : b ≤ 64)
    (h1 : am_U1 (am_fl g a b w) 1 post) (h0 : am_U0 c aF aT aK (am_fl g a b w) 0 post) (B : Nat) (hB : B ≤ 64) : ∀ d i m nF nT nK, i + d = c →
    ((B = b ∧ a ≤ am_L t i) ∨ (B = 0 ∧ w = 0)) → am_N (max (am_L t i) B) m (am_fl g a b w) nF nT nK → m ≤ 2 * i + 1 →
    wX_rewrite_20 post (nI a) (nI b) x3 (d + 1) 1 (nI i) (nI c) (nI m) aF aT aK nF nT nK := by
  intro d
  induction d with
  | zero =>
    intro i m nF nT nK hi hd H hm
    obtain rfl : i = c := by omega
    have hL := am_LN R (Nat.le_refl i)
    refine br_t (nI_le (Nat.le_refl _) (by omega)) (br_f (by decide) (am_139 (am_Next H (by omega) (fun x h2 h3 => ?_)) (by omega) h1 h0))
    have hz := am_gap R (i := i) (p := x) (Nat.le_refl _) h3 (by omega) (fun h => by omega)
    by_cases hx : a ≤ x ∧ x < b
    · rw [am_fl1 hx.1 hx.2]
      omega
    · rw [am_fl0 (by omega)]
      exact hz
  | succ d ih =>
    intro i m nF nT nK hi hd H hm
    have hic : i < c := by omega
    have hin : vp_in (nI i) 20 := vp_in_nI (by omega) (by decide)
    have h2 := R.1 i hic
    have hL := am_Lle R hic
    refine br_f (nI_ge hic (by omega)) ⟨hin, ?_⟩
    rw [am_xF X hc hic, am_xT X hc hic, am_xK X hc hic]
    refine am_least (t i) a (by omega) (by omega) ⟨hin, hin, ?_⟩
    refine am_emit (e := max (max (am_L t i) B) (min (t i) a)) H (by omega) (by omega) (by omega) h2.2.2 (by omega) (by omega) (by omega) (fun x h3 h4 => ?_) (fun m1 nF1 nT1 nK1 hm1 H1 => ?_)
    · have h5 : x < min (t i) a := by omega
      rw [am_fl0 (Or.inl (by omega)), am_area R hic (by omega) (by omega)]
      by_cases h6 : f i ≤ x
      · rw [if_pos h6, if_pos ⟨h6, h5⟩]
      · rw [if_neg h6, if_neg (fun h7 => h6 h7.1)]
    · have hm1' : m1 ≤ m + 1 := by
        split at hm1 <;> omega
      refine br_f (by decide) ?_
      refine am_88 (e := max (t i) B) R hc X hic hb H1 (by omega) (by omega) (by omega) (by omega) (fun x h3 h4 => ?_) (fun m2 nF2 nT2 nK2 hm2 H2 => ?_)
      · by_cases hxb : b ≤ x
        · rw [am_fl0 (Or.inr hxb), am_area R hic (by omega) (by omega)]
          by_cases h6 : f i ≤ x
          · rw [if_pos h6, if_pos (by omega)]
          · rw [if_neg h6, if_neg (by omega)]
        · rw [am_fl1 (by omega) (by omega), if_neg (by omega)]
          omega
      · exact ih (i + 1) m2 nF2 nT2 nK2 (by omega) (by rw [am_Ls]; omega) H2 (by omega)
theorem am_rw0 (R : am_Rep 64 c f t q g) (hc : c ≤ 20) (X : am_X c f t q aF aT aK) (hab : a < b) (hb : b ≤ 64) (hk : k ≤ 127)
    (h1 : am_U1 (am_fl g a b (k + 1)) 1 post) (h0 : am_U0 c aF aT aK (am_fl g a b (k + 1)) 0 post) : ∀ d i m nF nT nK, i + d = c →
    am_L t i ≤ a → am_N (am_L t i) m (am_fl g a b (k + 1)) nF nT nK → m ≤ 2 * i →
    wX_rewrite_20 post (nI a) (nI b) (nI k) (d + 1) 0 (nI i) (nI c) (nI m) aF aT aK nF nT nK := by
  intro d
  induction d with
  | zero =>
    intro i m nF nT nK hi hd H hm
    obtain rfl : i = c := by omega
    have hL := am_LN R (Nat.le_refl i)
    refine br_t (nI_le (Nat.le_refl _) (by omega)) (br_t rfl ?_)
    refine am_emit (e := 64) H (by omega) (by omega) (by omega) hk (by omega) (by omega) (by omega) (fun x h3 h4 => ?_) (fun m1 nF1 nT1 nK1 hm1 H1 => ?_)
    · by_cases hx : a ≤ x ∧ x < b
      · rw [am_fl1 hx.1 hx.2, if_pos hx]
      · rw [am_fl0 (by omega), if_neg hx]
        exact am_gap R (i := i) (p := x) (Nat.le_refl _) h4 (by omega) (fun h => by omega)
    · have hm1' : m1 ≤ m + 1 := by
        split at hm1 <;> omega
      exact am_139 H1 (by omega) h1 h0
  | succ d ih =>
    intro i m nF nT nK hi hd H hm
    have hic : i < c := by omega
    have hin : vp_in (nI i) 20 := vp_in_nI (by omega) (by decide)
    have h2 := R.1 i hic
    have hL := am_Lle R hic
    refine br_f (nI_ge hic (by omega)) ⟨hin, ?_⟩
    rw [am_xF X hc hic, am_xT X hc hic, am_xK X hc hic]
    refine am_least (t i) a (by omega) (by omega) ⟨hin, hin, ?_⟩
    refine am_emit (e := min (t i) a) H (by omega) (by omega) (by omega) h2.2.2 (by omega) (by omega) (by omega) (fun x h3 h4 => ?_) (fun m1 nF1 nT1 nK1 hm1 H1 => ?_)
    · rw [am_fl0 (Or.inl (by omega)), am_area R hic (by omega) (by omega)]
      by_cases h6 : f i ≤ x
      · rw [if_pos h6, if_pos ⟨h6, h4⟩]
      · rw [if_neg h6, if_neg (fun h7 => h6 h7.1)]
    · have hm1' : m1 ≤ m + 1 := by
        split at hm1 <;> omega
      refine br_t rfl ⟨hin, ?_⟩
      rw [am_xT X hc hic]
      refine pk_le (t i) a (fun h3 => ?_) (fun h3 => ?_)
      · rw [show min (t i) a = t i by omega] at H1
        refine am_88 (e := t i) R hc X hic hb H1 (by omega) (by omega) (by omega) (by omega) (fun x h4 h5 => by omega) (fun m2 nF2 nT2 nK2 hm2 H2 => ?_)
        exact ih (i + 1) m2 nF2 nT2 nK2 (by omega) h3 H2 (by omega)
      · rw [show min (t i) a = a by omega] at H1
        refine am_emit (e := b) H1 (by omega) (by omega) (by omega) hk (by omega) (by omega) (by omega) (fun x h4 h5 => ?_) (fun m2 nF2 nT2 nK2 hm2 H2 => ?_)
        · rw [am_fl1 h4 h5, if_pos ⟨h4, h5⟩]
        · have hm2' : m2 ≤ m1 + 1 := by
            split at hm2 <;> omega
          refine am_88 (e := max (t i) b) R hc X hic hb H2 (by omega) (by omega) (by omega) (by omega) (fun x h4 h5 => ?_) (fun m3 nF3 nT3 nK3 hm3 H3 => ?_)
          · rw [am_fl0 (Or.inr h4), am_area R hic (by omega) (by omega)]
            by_cases h6 : f i ≤ x
            · rw [if_pos h6, if_pos (by omega)]
            · rw [if_neg h6, if_neg (by omega)]
          · exact am_rw1 R hc X hab hb h1 h0 b hb d (i + 1) m3 nF3 nT3 nK3 (by omega) (Or.inl ⟨rfl, by rw [am_Ls]; omega⟩) H3 (by omega)
theorem am_rewrite {nF nT nK : Nat → Int32} (R : am_Rep 64 c f t q g) (hc : c ≤ 20) (X : am_X c f t q aF aT aK) (hab : a < b) (hb : b ≤ 64) (hk : k ≤ 127)
    (h1 : am_U1 (am_fl g a b (k + 1)) 1 post) (h0 : am_U0 c aF aT aK (am_fl g a b (k + 1)) 0 post) :
    wpX_rewrite post (nI c, mm, aF, aT, aK, nF, nT, nK) (nI a) (nI b) (nI k) := by
  refine br_f (fun h => ?_) ⟨c + 1, am_rw0 R hc X hab hb hk h1 h0 c 0 0 nF nT nK (by omega) (Nat.zero_le _) am_N0 (Nat.zero_le _)⟩
  have h2 := congrArg Int32.toInt h
  rw [nI_toInt (by omega), show (-1 : Int32).toInt = -1 from by decide] at h2
  omega
theorem am_rewriteF {nF nT nK : Nat → Int32} (R : am_Rep 64 c f t q g) (hc : c ≤ 20) (X : am_X c f t q aF aT aK) (hab : a < b) (hb : b ≤ 64)
    (h1 : am_U1 (am_fl g a b 0) 1 post) (h0 : am_U0 c aF aT aK (am_fl g a b 0) 0 post) :
    wpX_rewrite post (nI c, mm, aF, aT, aK, nF, nT, nK) (nI a) (nI b) (-1) :=
  br_t rfl ⟨c + 1, am_rw1 R hc X hab hb h1 h0 0 (Nat.zero_le _) c 0 0 nF nT nK (by omega) (Or.inr ⟨rfl, rfl⟩) am_N0 (Nat.zero_le _)⟩
end
end
section
/-! X's protect -/
theorem am_ite (x y : Nat) : ((if x < y then 1 else 0 : Nat) = 1 ∧ x < y) ∨ ((if x < y then 1 else 0 : Nat) = 0 ∧ y ≤ x) := by
  by_cases h : x < y
  · exact Or.inl ⟨if_pos h, h⟩
  · exact Or.inr ⟨if_neg h, Nat.le_of_not_lt h⟩
theorem am_cnt {L f t a b i m m1 m2 m3 : Nat} (h0 : L ≤ f) (h1 : f < t) (hab : a < b) (hm : m ≤ i + (if a < L then 1 else 0) + (if b < L then 1 else 0))
    (hm1 : m1 ≤ m + (if f < min t a then 1 else 0)) (hm2 : m2 ≤ m1 + (if max f a < min t b then 1 else 0)) (hm3 : m3 ≤ m2 + (if max f b < t then 1 else 0)) :
    m3 ≤ i + 1 + (if a < t then 1 else 0) + (if b < t then 1 else 0) := by
  have k1 := am_ite a L
  have k2 := am_ite b L
  have k3 := am_ite f (min t a)
  have k4 := am_ite (max f a) (min t b)
  have k5 := am_ite (max f b) t
  have k6 := am_ite a t
  have k7 := am_ite b t
  omega
section
variable {c a b r : Nat} {f t q g : Nat → Nat} {aF aT aK : Nat → Int32} {mm : Int32} {post : Int32 → SX → Prop}
/-- a span of g has the rights r -/
def am_pt (g : Nat → Nat) (a b r : Nat) : Nat → Nat := fun x => if a ≤ x ∧ x < b ∧ 0 < g x then (g x - 1) / 8 * 8 + r + 1 else g x
theorem am_pt1 {x : Nat} (h1 : a ≤ x) (h2 : x < b) (h3 : 0 < g x) : am_pt g a b r x = (g x - 1) / 8 * 8 + r + 1 := if_pos ⟨h1, h2, h3⟩
theorem am_pt0 {x : Nat} (h : x < a ∨ b ≤ x ∨ g x = 0) : am_pt g a b r x = g x := if_neg (fun h2 => by omega)
def am_pc (g : Nat → Nat) (r : Nat) (x : Nat) : Bool := decide (0 < g x ∧ (g x - 1) % 8 ≠ r)
theorem am_pc0 (x : Nat) (h : g x = 0) : am_pc g r x = false := decide_eq_false (fun h2 => by omega)
theorem am_168 {J : Int32 → Int32 → Int32 → Int32 → (Nat → Int32) → (Nat → Int32) → (Nat → Int32) → (Nat → Int32) → (Nat → Int32) → (Nat → Int32) → Prop}
    {x1 x3 x5 F : Int32} {i m pos e : Nat} {g' : Nat → Nat} {nF nT nK : Nat → Int32} (R : am_Rep 64 c f t q g) (hc : c ≤ 20) (X : am_X c f t q aF aT aK) (hi : i < c) (hb : b ≤ 64)
    (H : am_N pos m g' nF nT nK) (hm : m < 48) (hpe : pos ≤ e) (hp : pos ≤ 64) (hab : max (f i) b < t i → pos ≤ max (f i) b ∧ t i ≤ e)
    (hg : ∀ x, pos ≤ x → x < e → g' x = if max (f i) b ≤ x ∧ x < t i then q i + 1 else 0)
    (K : ∀ m' nF' nT' nK', m' ≤ m + (if max (f i) b < t i then 1 else 0) → am_N e m' g' nF' nT' nK' → J x5 (nI (i + 1)) F (nI m') aF aT aK nF' nT' nK') :
    wX_protect_168 post J x1 x3 (nI b) x5 (nI i) (nI (q i)) F (nI m) aF aT aK nF nT nK := by
  have hin : vp_in (nI i) 20 := vp_in_nI (by omega) (by decide)
  have h1 := R.1 i hi
  refine ⟨hin, ?_⟩
  rw [am_xF X hc hi, am_xT X hc hi]
  refine am_greatest (f i) b (by omega) (by omega) ⟨hin, ?_⟩
  exact am_emit H hm (by omega) (by omega) h1.2.2 hpe hab hp hg (fun m' nF' nT' nK' h2 h3 => nm_r (nI_1 i) (K m' nF' nT' nK' h2 h3))
theorem am_px (R : am_Rep 64 c f t q g) (hc : c ≤ 20) (X : am_X c f t q aF aT aK) (hab : a < b) (hb : b ≤ 64) (hr : r ≤ 7)
    (h1 : am_U1 (am_pt g a b r) (nI (am_C (am_pc g r) a b)) post) (h0 : am_U0 c aF aT aK (am_pt g a b r) (-2) post) : ∀ d i m nF nT nK, i + d = c →
    am_N (am_L t i) m (am_pt g a b r) nF nT nK → m ≤ i + (if a < am_L t i then 1 else 0) + (if b < am_L t i then 1 else 0) →
    wX_protect_50 post (nI a) (nI r) (nI b) (d + 1) (nI (am_C (am_pc g r) a (min (am_L t i) b))) (nI i) (nI c) (nI m) aF aT aK nF nT nK := by
  intro d
  induction d with
  | zero =>
    intro i m nF nT nK hi H hm
    obtain rfl : i = c := by omega
    have hL := am_LN R (Nat.le_refl i)
    rw [am_Cend R am_pc0 hb]
    have k1 := am_ite a (am_L t i)
    have k2 := am_ite b (am_L t i)
    have hm' : m < 48 := by omega
    refine br_t (nI_le (Nat.le_refl _) (by omega)) (am_commit (am_Next H hL (fun x h2 h3 => ?_)) hm' (fun f t q aF' aT' aK' h X R => ?_) (fun f t q h R => ?_))
    · have hz := am_gap R (i := i) (p := x) (Nat.le_refl _) h3 (by omega) (fun h => by omega)
      rw [am_pt0 (Or.inr (Or.inr hz))]
      exact hz
    · exact br_f (by decide) (h1 m f t q _ aF' aT' aK' _ _ _ h X R)
    · exact br_t rfl (h0 m f t q _ _ _ _ h hm' R)
  | succ d ih =>
    intro i m nF nT nK hi H hm
    have hic : i < c := by omega
    have hin : vp_in (nI i) 20 := vp_in_nI (by omega) (by decide)
    have h2 := R.1 i hic
    have hL := am_Lle R hic
    have hm' : m ≤ i + 2 := by
      have k1 := am_ite a (am_L t i)
      have k2 := am_ite b (am_L t i)
      omega
    have fin : ∀ m2 nF2 nT2 nK2, (∀ m3, m3 ≤ m2 + (if max (f i) b < t i then 1 else 0) → m3 ≤ i + 1 + (if a < t i then 1 else 0) + (if b < t i then 1 else 0)) → m2 < 48 →
        am_N (max (max (am_L t i) (min (t i) a)) (min (t i) b)) m2 (am_pt g a b r) nF2 nT2 nK2 →
        wX_protect_168 post (wX_protect_50 post (nI a) (nI r) (nI b) (d + 1)) (nI a) (nI r) (nI b) (nI (am_C (am_pc g r) a (min (t i) b))) (nI i) (nI (q i)) (nI c) (nI m2) aF aT aK nF2 nT2 nK2 := by
      intro m2 nF2 nT2 nK2 hc2 hm2 H2
      refine am_168 (e := t i) R hc X hic hb H2 hm2 (by omega) (by omega) (by omega) (fun x h3 h4 => ?_) (fun m3 nF3 nT3 nK3 hm3 H3 => ?_)
      · rw [am_pt0 (by omega), am_area R hic (by omega) (by omega)]
        by_cases h6 : f i ≤ x
        · rw [if_pos h6, if_pos (by omega)]
        · rw [if_neg h6, if_neg (by omega)]
      · exact ih (i + 1) m3 nF3 nT3 nK3 (by omega) H3 (hc2 m3 hm3)
    refine br_f (nI_ge hic (by omega)) ⟨hin, ?_⟩
    rw [am_xF X hc hic, am_xT X hc hic, am_xK X hc hic]
    refine am_greatest (f i) a (by omega) (by omega) ⟨hin, ?_⟩
    refine am_least (t i) b (by omega) (by omega) ⟨hin, nm_e ⟨hin, ?_⟩⟩
    refine am_least (t i) a (by omega) (by omega) ⟨hin, ?_⟩
    refine am_emit (e := max (am_L t i) (min (t i) a)) H (by omega) (by omega) (by omega) h2.2.2 (by omega) (by omega) (by omega) (fun x h3 h4 => ?_) (fun m1 nF1 nT1 nK1 hm1 H1 => ?_)
    · rw [am_pt0 (by omega), am_area R hic (by omega) (by omega)]
      by_cases h6 : f i ≤ x
      · rw [if_pos h6, if_pos (by omega)]
      · rw [if_neg h6, if_neg (by omega)]
    · have hm1' : m1 ≤ m + 1 := by
        split at hm1 <;> omega
      refine pk_le (min (t i) b) (max (f i) a) (fun h3 => ?_) (fun h3 => ?_)
      · -- nothing of the span lies in this area
        have es : am_C (am_pc g r) a (min (am_L t i) b) = am_C (am_pc g r) a (min (t i) b) := by
          by_cases hbb : (q i) % 8 = r
          · have := am_Cstep (a := a) R (am_pc0 (r := r)) hic false (fun x h4 h5 => decide_eq_false (fun h6 => by rw [R.2.2.1 i hic x h4 h5] at h6; omega)) b
            rw [if_neg (by decide)] at this
            exact this.symm
          · have := am_Cstep (a := a) R (am_pc0 (r := r)) hic true (fun x h4 h5 => decide_eq_true (by rw [R.2.2.1 i hic x h4 h5]; omega)) b
            rw [if_pos rfl] at this
            omega
        rw [es]
        refine fin m1 nF1 nT1 nK1 (fun m3 hm3 => ?_) (by omega) (am_Next H1 (by omega) (fun x h4 h5 => ?_))
        · exact am_cnt hL h2.1 hab hm hm1 (Nat.le_add_right m1 _) hm3
        · have h6 : x < f i := by omega
          have hz := am_gap R (i := i) (p := x) (by omega) (by omega) (by omega) (fun _ => h6)
          rw [am_pt0 (Or.inr (Or.inr hz))]
          exact hz
      · have hemit : ∀ z0, nI (am_C (am_pc g r) a (min (am_L t i) b)) + z0 = nI (am_C (am_pc g r) a (min (t i) b)) →
            wX_protect_150 post (wX_protect_50 post (nI a) (nI r) (nI b) (d + 1)) (nI a) (nI r) (nI b) (nI i) (nI (max (f i) a)) (nI (min (t i) b)) (nI (q i)) z0 (nI (am_C (am_pc g r) a (min (am_L t i) b))) (nI c) (nI m1) aF aT aK nF1 nT1 nK1 := by
          intro z0 ez
          refine nm_r ez ?_
          rw [am_bits (q i) (by omega) r (by omega)]
          refine am_emit (e := max (max (am_L t i) (min (t i) a)) (min (t i) b)) H1 (by omega) (by omega) (by omega) (by omega) (by omega) (by omega) (by omega) (fun x h4 h5 => ?_) (fun m2 nF2 nT2 nK2 hm2 H2 => ?_)
          · have h6 := am_area R hic (x := x) (by omega) (by omega)
            by_cases h7 : f i ≤ x
            · rw [if_pos h7] at h6
              rw [am_pt1 (by omega) (by omega) (by omega), h6, if_pos (by omega)]
              rfl
            · rw [if_neg h7] at h6
              rw [am_pt0 (Or.inr (Or.inr h6)), h6, if_neg (by omega)]
          · have hm2' : m2 ≤ m1 + 1 := by
              split at hm2 <;> omega
            exact fin m2 nF2 nT2 nK2 (fun m3 hm3 => am_cnt hL h2.1 hab hm hm1 hm2 hm3) (by omega) H2
        rw [am_and7 (k := q i) (by omega)]
        refine pk_eq (q i % 8) r (fun h4 => ?_) (fun h4 => ?_)
        · refine hemit _ ?_
          have := am_Cstep (a := a) R (am_pc0 (r := r)) hic false (fun x h4 h5 => decide_eq_false (fun h6 => by rw [R.2.2.1 i hic x h4 h5] at h6; omega)) b
          rw [if_neg (by decide)] at this
          rw [this, Int32.add_zero]
          rfl
        · refine hemit _ ?_
          have := am_Cstep (a := a) R (am_pc0 (r := r)) hic true (fun x h4 h5 => decide_eq_true (by rw [R.2.2.1 i hic x h4 h5]; omega)) b
          rw [if_pos rfl] at this
          rw [this, pk_sub (by omega), nI_add]
theorem am_protect {l : Nat} {nF nT nK : Nat → Int32} (R : am_Rep 64 c f t q g) (hc : c ≤ 20) (X : am_X c f t q aF aT aK) (hl : 1 ≤ l) (hal : a + l ≤ 64) (hr : r ≤ 7)
    (hN : am_C (am_pu g) a (a + l) < l → post (-3) (nI c, mm, aF, aT, aK, nF, nT, nK))
    (h1 : l ≤ am_C (am_pu g) a (a + l) → am_U1 (am_pt g a (a + l) r) (nI (am_C (am_pc g r) a (a + l))) post)
    (h0 : l ≤ am_C (am_pu g) a (a + l) → am_U0 c aF aT aK (am_pt g a (a + l) r) (-2) post) :
    wpX_protect post (nI c, mm, aF, aT, aK, nF, nT, nK) (nI a) (nI l) (nI r) := by
  have hC := am_Cle (pr := am_pu g) (a := a) l
  unfold wpX_protect
  refine am_prop1 hl hal ?_
  refine br_f (by decide) (br_f (nI_pos (by omega)) (br_t (nI_le (b := 7) hr (by decide)) (nm_r (nI_add a l) ?_)))
  refine am_mapIn R hc X (by omega) hal ?_
  refine pk_le l (am_C (am_pu g) a (a + l)) (fun h2 => ?_) hN
  have h3 := am_px R hc X (by omega) hal hr (h1 h2) (h0 h2) c 0 0 nF nT nK (by omega) am_N0 (Nat.zero_le _)
  rw [am_L0, show min 0 (a + l) = 0 by omega] at h3
  exact ⟨c + 1, h3⟩
end
end
section
/-! Y's writers -/
section
variable {c m a l w r : Nat} {f t q g g' : Nat → Nat} {pg od : Nat → Int32}
theorem am_keep_lp {post : SY → Prop} (K : ∀ od', (∀ x, x < 64 → od' x = pg x) → post (pg, od')) : ∀ d p od, p + d = 64 → (∀ x, x < p → od x = pg x) →
    wY_keep_2 post (d + 1) (nI p) pg od := by
  intro d
  induction d with
  | zero =>
    intro p od hp H
    obtain rfl : p = 64 := by omega
    exact br_t (nI_le (a := 64) (Nat.le_refl _) (by decide)) (K od H)
  | succ d ih =>
    intro p od hp H
    have hin : vp_in (nI p) 64 := vp_in_nI (by omega) (by decide)
    refine br_f (nI_ge (b := 64) (by omega) (by decide)) ⟨hin, hin, nm_e (nm_r (nI_1 p) (ih (p + 1) _ (by omega) ?_))⟩
    rw [nI_clamp (by omega)]
    intro x hx
    by_cases e : x = p
    · subst e; exact pk_us
    · rw [pk_un e]; exact H x (by omega)
theorem am_keep {post : SY → Prop} (Y : am_Y g pg) (K : ∀ od', am_Y g od' → post (pg, od')) : wpY_keep post (pg, od) :=
  ⟨65, am_keep_lp (fun od' h => K od' (fun p hp => (h p hp).trans (Y p hp))) 64 0 od rfl (fun x h => absurd h (Nat.not_lt_zero _))⟩
theorem am_fill_lp {post : SY → Prop} (hal : a + l ≤ 64) (K : ∀ pg', am_Y (am_fl g a (a + l) w) pg' → post (pg', od)) : ∀ d p pg, p + d = a + l → a ≤ p → am_Y (am_fl g a p w) pg →
    wY_fill_3 post (nI a) (nI l) (nI w) (d + 1) (nI p) pg od := by
  intro d
  induction d with
  | zero =>
    intro p pg hp hap Y
    obtain rfl : p = a + l := by omega
    exact br_t (by rw [nI_add]; exact nI_le (Nat.le_refl _) (by omega)) (K pg Y)
  | succ d ih =>
    intro p pg hp hap Y
    refine br_f (by rw [nI_add]; exact nI_ge (by omega) (by omega)) ⟨vp_in_nI (by omega) (by decide), nm_e (nm_r (nI_1 p) (ih (p + 1) _ (by omega) (by omega) ?_))⟩
    rw [nI_clamp (by omega)]
    intro x hx
    by_cases e : x = p
    · subst e
      rw [pk_us, am_fl1 hap (by omega)]
    · rw [pk_un e, Y x hx]
      by_cases h : a ≤ x ∧ x < p
      · rw [am_fl1 h.1 h.2, am_fl1 h.1 (by omega)]
      · rw [am_fl0 (by omega), am_fl0 (by omega)]
theorem am_fill {post : SY → Prop} (Y : am_Y g pg) (hal : a + l ≤ 64) (K : ∀ pg', am_Y (am_fl g a (a + l) w) pg' → post (pg', od)) :
    wpY_fill post (pg, od) (nI a) (nI l) (nI w) :=
  ⟨l + 1, am_fill_lp hal K l a pg rfl (Nat.le_refl _) (fun x hx => by rw [am_fl0 (by omega)]; exact Y x hx)⟩
theorem am_many_lp {post : Int32 → SY → Prop} (O : am_Y g od) (K : ∀ pg', am_Y g pg' → post 1 (pg', od)) : ∀ d p pg, p + d = 64 → (∀ x, x < p → pg x = nI (g x)) →
    wY_tooMany_17 post 1 (d + 1) (nI p) pg od := by
  intro d
  induction d with
  | zero =>
    intro p pg hp H
    obtain rfl : p = 64 := by omega
    exact br_t (nI_le (a := 64) (Nat.le_refl _) (by decide)) ⟨rfl, K pg H⟩
  | succ d ih =>
    intro p pg hp H
    have hin : vp_in (nI p) 64 := vp_in_nI (by omega) (by decide)
    refine br_f (nI_ge (b := 64) (by omega) (by decide)) (br_f (by decide) ⟨hin, hin, nm_e (nm_r (nI_1 p) (ih (p + 1) _ (by omega) ?_))⟩)
    rw [nI_clamp (by omega)]
    intro x hx
    by_cases e : x = p
    · subst e
      rw [pk_us]
      exact O x (by omega)
    · rw [pk_un e]
      exact H x (by omega)
theorem am_many {post : Int32 → SY → Prop} (R : am_Rep 64 m f t q g') (hm : m < 2 ^ 31) (Y : am_Y g' pg) (O : am_Y g od)
    (h0 : m ≤ 20 → post 0 (pg, od)) (h1 : 20 < m → ∀ pg', am_Y g pg' → post 1 (pg', od)) : wpY_tooMany post (pg, od) := by
  refine am_areas R Y ?_
  refine pk_le m 20 (fun h => ?_) (fun h => ?_)
  · exact ⟨1, br_f (by decide) (br_t rfl ⟨rfl, h0 h⟩)⟩
  · exact ⟨65, am_many_lp O (h1 h) 64 0 pg rfl (fun x h => absurd h (Nat.not_lt_zero _))⟩
theorem am_Cfull {pr : Nat → Bool} : ∀ d, d ≤ am_C pr a (a + d) → ∀ x, a ≤ x → x < a + d → pr x = true := by
  intro d
  induction d with
  | zero => intro _ x h1 h2; omega
  | succ d ih =>
    intro h x h1 h2
    have h3 : d + 1 ≤ am_C pr a (a + d + 1) := h
    have h4 := am_Cle (pr := pr) (a := a) d
    cases e : pr (a + d) with
    | false =>
      rw [am_Cf e] at h3
      omega
    | true =>
      rw [am_Ct (by omega) e] at h3
      by_cases e2 : x = a + d
      · subst e2; exact e
      · exact ih (by omega) x h1 (by omega)
theorem am_81 {post : Int32 → SY → Prop} {J : Int32 → Int32 → (Nat → Int32) → (Nat → Int32) → Prop} {x1 x2 z0 : Int32} {p : Nat} (hp : p < 64) (hap : a ≤ p) (hg0 : 0 < g p) (hg : g p ≤ 128) (hr : r ≤ 7)
    (Y : am_Y (am_pt g a p r) pg) (h : ∀ pg', am_Y (am_pt g a (p + 1) r) pg' → J z0 (nI (p + 1)) pg' od) :
    wY_protect_81 post J x1 x2 (nI r) (nI p) (nI (g p - 1)) z0 pg od := by
  refine ⟨vp_in_nI hp (by decide), nm_e (nm_r (nI_1 p) (h _ ?_))⟩
  rw [nI_clamp (by omega), am_bits (g p - 1) (by omega) r (by omega), nI_1]
  intro x hx
  by_cases e : x = p
  · subst e
    rw [pk_us, am_pt1 hap (by omega) hg0]
  · rw [pk_un e, Y x hx]
    by_cases h : a ≤ x ∧ x < p ∧ 0 < g x
    · rw [am_pt1 h.1 h.2.1 h.2.2, am_pt1 h.1 (by omega) h.2.2]
    · rw [am_pt0 (by omega), am_pt0 (by omega)]
theorem am_py {post : Int32 → SY → Prop} (hG : ∀ x, x < 64 → g x ≤ 128) (hal : a + l ≤ 64) (hr : r ≤ 7) (hall : ∀ x, a ≤ x → x < a + l → 0 < g x)
    (R : am_Rep 64 m f t q (am_pt g a (a + l) r)) (hm : m < 2 ^ 31) (O : am_Y g od)
    (h0 : m ≤ 20 → ∀ pg', am_Y (am_pt g a (a + l) r) pg' → post (nI (am_C (am_pc g r) a (a + l))) (pg', od)) (h1 : 20 < m → ∀ pg', am_Y g pg' → post (-2) (pg', od)) :
    ∀ d p pg, p + d = a + l → a ≤ p → am_Y (am_pt g a p r) pg →
    wY_protect_44 post (nI a) (nI l) (nI r) (d + 1) (nI (am_C (am_pc g r) a p)) (nI p) pg od := by
  intro d
  induction d with
  | zero =>
    intro p pg hp hap Y
    obtain rfl : p = a + l := by omega
    refine br_t (by rw [nI_add]; exact nI_le (Nat.le_refl _) (by omega)) ?_
    exact am_many R hm Y O (fun h => br_t rfl (h0 h pg Y)) (fun h pg' Y' => br_f (by decide) (h1 h pg' Y'))
  | succ d ih =>
    intro p pg hp hap Y
    have hp64 : p < 64 := by omega
    have hg0 := hall p hap (by omega)
    have hg := hG p hp64
    refine br_f (by rw [nI_add]; exact nI_ge (by omega) (by omega)) ⟨vp_in_nI hp64 (by decide), ?_⟩
    rw [am_yR Y hp64, am_pt0 (by omega), am_pm1 hg0]
    refine nm_e ?_
    rw [am_and7 (k := g p - 1) (by omega)]
    refine pk_eq ((g p - 1) % 8) r (fun h2 => ?_) (fun h2 => ?_)
    · refine am_81 hp64 hap hg0 hg hr Y (fun pg' Y' => ?_)
      have h3 := ih (p + 1) pg' (by omega) (by omega) Y'
      rw [am_Cf (show am_pc g r p = false from decide_eq_false (fun h4 => h4.2 h2))] at h3
      exact h3
    · refine am_81 hp64 hap hg0 hg hr Y (fun pg' Y' => ?_)
      have h3 := ih (p + 1) pg' (by omega) (by omega) Y'
      rw [am_Ct hap (show am_pc g r p = true from decide_eq_true ⟨hg0, h2⟩), ← nI_1] at h3
      exact h3
end
end
section
/-! what is owed: the relation, the readers -/
def i_Rel (_ : Nat) (u : SX) (v : SY) : Prop := ∃ (c : Nat) (f t q g : Nat → Nat) (mm : Int32) (aF aT aK nF nT nK pg od : Nat → Int32),
  u = (nI c, mm, aF, aT, aK, nF, nT, nK) ∧ v = (pg, od) ∧ c ≤ 20 ∧ am_X c f t q aF aT aK ∧ am_Rep 64 c f t q g ∧ am_Y g pg
theorem am_mk {k c : Nat} {f t q g : Nat → Nat} {mm : Int32} {aF aT aK nF nT nK pg od : Nat → Int32} (hc : c ≤ 20) (X : am_X c f t q aF aT aK) (R : am_Rep 64 c f t q g) (Y : am_Y g pg) :
    i_Rel k (nI c, mm, aF, aT, aK, nF, nT, nK) (pg, od) :=
  ⟨c, f, t, q, g, mm, aF, aT, aK, nF, nT, nK, pg, od, rfl, rfl, hc, X, R, Y⟩
theorem i_up {k : Nat} {u : SX} {v : SY} (h : i_Rel k u v) : i_Rel (k + 4) u v := h
theorem i_vc0 : wpX_init (fun u => wpY_init (fun v => i_Rel 0 u v)) :=
  am_mk (k := 0) (c := 0) (f := fun _ => 0) (t := fun _ => 0) (q := fun _ => 0) (g := fun _ => 0) (Nat.zero_le _) (fun i h => absurd h (Nat.not_lt_zero _))
    ⟨fun i h => absurd h (Nat.not_lt_zero _), fun i h => absurd h (Nat.not_lt_zero _), fun i h => absurd h (Nat.not_lt_zero _), fun p _ h => absurd rfl h⟩ (fun p _ => rfl)
theorem am_idx {c : Nat} (hc : c ≤ 20) (x : Int32) : (∃ j, j < c ∧ x = nI j) ∨ ((∀ i, i < c → x ≠ nI i) ∧
    ∀ (post : Int32 → Prop) (mm : Int32) (aF aT aK nF nT nK : Nat → Int32), post 0 → wpX_isArea post (nI c, mm, aF, aT, aK, nF, nT, nK) x) := by
  by_cases h0 : x < 0
  · refine Or.inr ⟨fun i hi e => ?_, fun post mm aF aT aK nF nT nK h => br_t h0 h⟩
    subst e
    exact nI_pos (by omega) h0
  · obtain ⟨j, hj, rfl⟩ := nI_of h0
    by_cases h1 : j < c
    · exact Or.inl ⟨j, h1, rfl⟩
    · refine Or.inr ⟨fun i hi e => ?_, fun post mm aF aT aK nF nT nK h => am_isA0 (by omega) hj h⟩
      rw [nI_eq hj (by omega)] at e
      omega
theorem i_vc_rights {k : Nat} {u : SX} {v : SY} (I : i_Rel k u v) (hk : k + 4 ≤ 2048) (v1 : Int32) : wpX_rights (fun r => wpY_rights (fun r' => r' = r ∧ i_Rel (k + 4) u v) v v1) u v1 := by
  have I' := i_up I
  obtain ⟨c, f, t, q, g, mm, aF, aT, aK, nF, nT, nK, pg, od, rfl, rfl, hc, X, R, Y⟩ := I
  unfold wpX_rights wpY_rights
  rcases am_page_cases v1 with ⟨p, hp, rfl⟩ | ⟨pX, pY⟩
  · have hg := am_gle R hp
    have hin : vp_in (nI p) 64 := vp_in_nI hp (by decide)
    refine am_page1 hp ?_
    refine br_f (by decide) ?_
    refine am_find R hc X hp (fun i hi h1 h2 => ?_) (fun h0 => ?_)
    · refine br_t (nI_pos' (by omega)) ⟨vp_in_nI (by omega) (by decide), ?_⟩
      refine am_page1Y hp ?_
      refine br_f (by decide) ⟨hin, ?_⟩
      have h3 := R.2.2.1 i hi p h1 h2
      rw [am_yR Y hp, am_xK X hc hi, am_pm1 (by omega)]
      refine br_f (nI_ne0 (by omega) (by omega)) ⟨hin, ?_, I'⟩
      rw [h3]
      rfl
    · refine br_f (by decide) ?_
      refine am_page1Y hp ?_
      refine br_f (by decide) ⟨hin, ?_⟩
      rw [am_yR Y hp, h0]
      exact br_t rfl ⟨rfl, I'⟩
  · exact pX _ (br_t rfl (pY _ _ (br_t rfl ⟨rfl, I'⟩)))
theorem i_vc_tag {k : Nat} {u : SX} {v : SY} (I : i_Rel k u v) (hk : k + 4 ≤ 2048) (v1 : Int32) : wpX_tag (fun r => wpY_tag (fun r' => r' = r ∧ i_Rel (k + 4) u v) v v1) u v1 := by
  have I' := i_up I
  obtain ⟨c, f, t, q, g, mm, aF, aT, aK, nF, nT, nK, pg, od, rfl, rfl, hc, X, R, Y⟩ := I
  unfold wpX_tag wpY_tag
  rcases am_page_cases v1 with ⟨p, hp, rfl⟩ | ⟨pX, pY⟩
  · have hg := am_gle R hp
    have hin : vp_in (nI p) 64 := vp_in_nI hp (by decide)
    refine am_page1 hp ?_
    refine br_f (by decide) ?_
    refine am_find R hc X hp (fun i hi h1 h2 => ?_) (fun h0 => ?_)
    · refine br_t (nI_pos' (by omega)) ⟨vp_in_nI (by omega) (by decide), ?_⟩
      refine am_page1Y hp ?_
      refine br_f (by decide) ⟨hin, ?_⟩
      have h3 := R.2.2.1 i hi p h1 h2
      rw [am_yR Y hp, am_xK X hc hi, am_pm1 (by omega)]
      refine br_f (nI_ne0 (by omega) (by omega)) ⟨hin, ?_, I'⟩
      rw [h3]
      rfl
    · refine br_f (by decide) ?_
      refine am_page1Y hp ?_
      refine br_f (by decide) ⟨hin, ?_⟩
      rw [am_yR Y hp, h0]
      exact br_t rfl ⟨rfl, I'⟩
  · exact pX _ (br_t rfl (pY _ _ (br_t rfl ⟨rfl, I'⟩)))
theorem i_vc_areas {k : Nat} {u : SX} {v : SY} (I : i_Rel k u v) (hk : k + 4 ≤ 2048) : wpX_areas (fun r => wpY_areas (fun r' => r' = r ∧ i_Rel (k + 4) u v) v) u := by
  have I' := i_up I
  obtain ⟨c, f, t, q, g, mm, aF, aT, aK, nF, nT, nK, pg, od, rfl, rfl, hc, X, R, Y⟩ := I
  exact am_areas R Y ⟨rfl, I'⟩
theorem i_vc_areaFirst {k : Nat} {u : SX} {v : SY} (I : i_Rel k u v) (hk : k + 4 ≤ 2048) (v1 : Int32) : wpX_areaFirst (fun r => wpY_areaFirst (fun r' => r' = r ∧ i_Rel (k + 4) u v) v v1) u v1 := by
  have I' := i_up I
  obtain ⟨c, f, t, q, g, mm, aF, aT, aK, nF, nT, nK, pg, od, rfl, rfl, hc, X, R, Y⟩ := I
  unfold wpX_areaFirst
  rcases am_idx hc v1 with ⟨j, hj, rfl⟩ | ⟨hn, hX⟩
  · refine am_isA1 hc hj ?_
    refine br_f (by decide) ⟨vp_in_nI (by omega) (by decide), ?_⟩
    rw [am_xF X hc hj]
    refine am_aFirst R Y (fun i hi e => ?_) (fun h => absurd rfl (h j hj))
    rw [nI_eq (by omega) (by omega)] at e
    subst e
    exact ⟨rfl, I'⟩
  · exact hX _ _ _ _ _ _ _ _ (br_t rfl (am_aFirst R Y (fun i hi e => absurd e (hn i hi)) (fun _ => ⟨rfl, I'⟩)))
theorem i_vc_areaLength {k : Nat} {u : SX} {v : SY} (I : i_Rel k u v) (hk : k + 4 ≤ 2048) (v1 : Int32) : wpX_areaLength (fun r => wpY_areaLength (fun r' => r' = r ∧ i_Rel (k + 4) u v) v v1) u v1 := by
  have I' := i_up I
  obtain ⟨c, f, t, q, g, mm, aF, aT, aK, nF, nT, nK, pg, od, rfl, rfl, hc, X, R, Y⟩ := I
  unfold wpX_areaLength
  rcases am_idx hc v1 with ⟨j, hj, rfl⟩ | ⟨hn, hX⟩
  · have h2 := R.1 j hj
    refine am_isA1 hc hj ?_
    refine br_f (by decide) ⟨vp_in_nI (by omega) (by decide), vp_in_nI (by omega) (by decide), ?_⟩
    rw [am_xF X hc hj, am_xT X hc hj, pk_sub (by omega)]
    refine am_aLen R Y (fun i hi e => ?_) (fun h => absurd rfl (h j hj))
    rw [nI_eq (by omega) (by omega)] at e
    subst e
    exact ⟨rfl, I'⟩
  · exact hX _ _ _ _ _ _ _ _ (br_t rfl (am_aLen R Y (fun i hi e => absurd e (hn i hi)) (fun _ => ⟨rfl, I'⟩)))
theorem i_vc_areaOf {k : Nat} {u : SX} {v : SY} (I : i_Rel k u v) (hk : k + 4 ≤ 2048) (v1 : Int32) : wpX_areaOf (fun r => wpY_areaOf (fun r' => r' = r ∧ i_Rel (k + 4) u v) v v1) u v1 := by
  have I' := i_up I
  obtain ⟨c, f, t, q, g, mm, aF, aT, aK, nF, nT, nK, pg, od, rfl, rfl, hc, X, R, Y⟩ := I
  unfold wpX_areaOf
  rcases am_page_cases v1 with ⟨p, hp, rfl⟩ | ⟨pX, pY⟩
  · refine am_page1 hp ?_
    refine br_f (by decide) ?_
    refine am_find R hc X hp (fun i hi h1 h2 => ?_) (fun h0 => ?_)
    · refine br_t (nI_pos' (by omega)) ?_
      refine am_aOf R Y hp (fun j hj h3 h4 => ?_) (fun h0 => ?_)
      · rw [am_uniq R hi hj h1 h2 h3 h4]
        exact ⟨rfl, I'⟩
      · have := R.2.2.1 i hi p h1 h2
        omega
    · refine br_f (by decide) ?_
      refine am_aOf R Y hp (fun j hj h3 h4 => ?_) (fun _ => ⟨rfl, I'⟩)
      have := R.2.2.1 j hj p h3 h4
      omega
  · refine pX _ ?_
    refine br_t rfl (br_f (by decide) ?_)
    unfold wpY_areaOf
    refine pY _ _ ?_
    exact br_t rfl ⟨rfl, I'⟩
theorem i_vc_mapped {k : Nat} {u : SX} {v : SY} (I : i_Rel k u v) (hk : k + 4 ≤ 2048) : wpX_mapped (fun r => wpY_mapped (fun r' => r' = r ∧ i_Rel (k + 4) u v) v) u := by
  have I' := i_up I
  obtain ⟨c, f, t, q, g, mm, aF, aT, aK, nF, nT, nK, pg, od, rfl, rfl, hc, X, R, Y⟩ := I
  exact am_mapIn (a := 0) (b := 64) R hc X (by decide) (by decide) (am_used (a := 0) (l := 64) R Y (by decide) ⟨rfl, I'⟩)
theorem i_vc_longestFree {k : Nat} {u : SX} {v : SY} (I : i_Rel k u v) (hk : k + 4 ≤ 2048) : wpX_longestFree (fun r => wpY_longestFree (fun r' => r' = r ∧ i_Rel (k + 4) u v) v) u := by
  have I' := i_up I
  obtain ⟨c, f, t, q, g, mm, aF, aT, aK, nF, nT, nK, pg, od, rfl, rfl, hc, X, R, Y⟩ := I
  exact am_lf R hc X (am_lfY R Y ⟨rfl, I'⟩)
theorem i_vc_allows {k : Nat} {u : SX} {v : SY} (I : i_Rel k u v) (hk : k + 4 ≤ 2048) (v1 : Int32) (v2 : Int32) (v3 : Int32) : wpX_allows (fun r => wpY_allows (fun r' => r' = r ∧ i_Rel (k + 4) u v) v v1 v2 v3) u v1 v2 v3 := by
  have I' := i_up I
  obtain ⟨c, f, t, q, g, mm, aF, aT, aK, nF, nT, nK, pg, od, rfl, rfl, hc, X, R, Y⟩ := I
  have hz : ∃ n, wY_allows_29 (fun r' => r' = 0 ∧ i_Rel (k + 4) (nI c, mm, aF, aT, aK, nF, nT, nK) (pg, od)) v1 v2 v3 pg od n 0 v1 := ⟨1, br_t rfl ⟨rfl, rfl, I'⟩⟩
  rcases am_prop_cases v1 v2 with ⟨a, l, rfl, rfl, hl, hal⟩ | ⟨pX, pY⟩
  · rcases am_rng v3 7 (by decide) with ⟨r, hr, rfl⟩ | h | ⟨h1, h2, h3⟩
    · refine am_allow R hc X hl hal hr (fun H => ?_) (fun x h1 h2 h3 => ?_)
      · exact am_allowY R Y hl hal hr (fun _ => ⟨rfl, I'⟩) (fun x h4 h5 h6 => absurd (H x h4 h5) h6)
      · exact am_allowY R Y hl hal hr (fun H => absurd (H x h1 h2) h3) (fun _ _ _ _ => ⟨rfl, I'⟩)
    · unfold wpX_allows wpY_allows
      refine am_prop1 hl hal ?_
      refine br_f (by decide) (br_t h ?_)
      refine am_prop1Y hl hal ?_
      exact br_f (by decide) (br_t h hz)
    · unfold wpX_allows wpY_allows
      refine am_prop1 hl hal ?_
      refine br_f (by decide) (br_f h1 (br_f h2 ?_))
      refine am_prop1Y hl hal ?_
      exact br_f (by decide) (br_f h1 (br_t h3 hz))
  · unfold wpX_allows wpY_allows
    refine pX _ ?_
    refine br_t rfl ?_
    refine pY _ _ ?_
    exact br_t rfl hz
theorem i_vc_nextWith {k : Nat} {u : SX} {v : SY} (I : i_Rel k u v) (hk : k + 4 ≤ 2048) (v1 : Int32) (v2 : Int32) : wpX_nextWith (fun r => wpY_nextWith (fun r' => r' = r ∧ i_Rel (k + 4) u v) v v1 v2) u v1 v2 := by
  have I' := i_up I
  obtain ⟨c, f, t, q, g, mm, aF, aT, aK, nF, nT, nK, pg, od, rfl, rfl, hc, X, R, Y⟩ := I
  refine am_next R hc X (fun p hp h1 h2 => ?_) (fun h0 => ?_)
  · refine am_nextY R Y (fun p' hp' h3 h4 => ?_) (fun h0 => absurd h1 (h0 p hp))
    have e : p' = p := by
      rcases Nat.lt_trichotomy p p' with e | e | e
      · exact absurd h1 (h4 p e)
      · exact e.symm
      · exact absurd h3 (h2 p' e)
    rw [e]
    exact ⟨rfl, I'⟩
  · exact am_nextY R Y (fun p' hp' h3 h4 => absurd h3 (h0 p' hp')) (fun _ => ⟨rfl, I'⟩)
end
section
/-! what is owed: the writers -/
section
variable {c m a l : Nat} {f t q g f' t' q' : Nat → Nat} {pg od : Nat → Int32}
theorem am_mapY {n : Nat} {post : Int32 → SY → Prop} (R : am_Rep 64 c f t q g) (Y : am_Y g pg) (hl : 1 ≤ l) (hal : a + l ≤ 64) (hn : n ≤ 127)
    (R' : am_Rep 64 m f' t' q' (am_fl g a (a + l) (n + 1))) (hm : m < 48)
    (h0 : m ≤ 20 → ∀ pg' od', am_Y (am_fl g a (a + l) (n + 1)) pg' → post (nI (am_C (am_pu g) a (a + l))) (pg', od'))
    (h1 : 20 < m → ∀ pg' od', am_Y g pg' → post (-2) (pg', od')) : wpY_map post (pg, od) (nI a) (nI l) (nI n) := by
  unfold wpY_map
  refine am_prop1Y hl hal ?_
  refine br_f (by decide) (br_f (nI_pos (by omega)) (br_t (nI_le (b := 127) hn (by decide)) ?_))
  refine am_used R Y hal ?_
  refine am_keep Y (fun od' O => ?_)
  rw [nI_1 n]
  refine am_fill Y hal (fun pg' Y' => ?_)
  exact am_many R' (by omega) Y' O (fun h => br_t rfl (h0 h pg' od' Y')) (fun h pg'' Y'' => br_f (by decide) (h1 h pg'' od' Y''))
theorem am_freeY {post : Int32 → SY → Prop} (R : am_Rep 64 c f t q g) (Y : am_Y g pg) (hl : 1 ≤ l) (hal : a + l ≤ 64)
    (R' : am_Rep 64 m f' t' q' (am_fl g a (a + l) 0)) (hm : m < 48)
    (h0 : m ≤ 20 → ∀ pg' od', am_Y (am_fl g a (a + l) 0) pg' → post (nI (am_C (am_pu g) a (a + l))) (pg', od'))
    (h1 : 20 < m → ∀ pg' od', am_Y g pg' → post (-2) (pg', od')) : wpY_free post (pg, od) (nI a) (nI l) := by
  unfold wpY_free
  refine am_prop1Y hl hal ?_
  refine br_f (by decide) ?_
  refine am_used R Y hal ?_
  refine am_keep Y (fun od' O => ?_)
  refine am_fill (w := 0) Y hal (fun pg' Y' => ?_)
  exact am_many R' (by omega) Y' O (fun h => br_t rfl (h0 h pg' od' Y')) (fun h pg'' Y'' => br_f (by decide) (h1 h pg'' od' Y''))
theorem am_51 {n p : Nat} {post : Int32 → SY → Prop} (Y : am_Y g pg) (hal : p + l ≤ 64)
    (R' : am_Rep 64 m f' t' q' (am_fl g p (p + l) (n + 1))) (hm : m < 48)
    (h0 : m ≤ 20 → ∀ pg' od', am_Y (am_fl g p (p + l) (n + 1)) pg' → post (nI p) (pg', od'))
    (h1 : 20 < m → ∀ pg' od', am_Y g pg' → post (-2) (pg', od')) : wY_place_51 post (nI l) (nI n) (nI p) pg od := by
  refine br_t (nI_pos' (by omega)) ?_
  refine am_keep Y (fun od' O => ?_)
  rw [nI_1 n]
  refine am_fill Y hal (fun pg' Y' => ?_)
  exact am_many R' (by omega) Y' O (fun h => br_t rfl (h0 h pg' od' Y')) (fun h pg'' Y'' => br_f (by decide) (h1 h pg'' od' Y''))
theorem am_protY {r : Nat} {post : Int32 → SY → Prop} (R : am_Rep 64 c f t q g) (Y : am_Y g pg) (hl : 1 ≤ l) (hal : a + l ≤ 64) (hr : r ≤ 7) (hC : l ≤ am_C (am_pu g) a (a + l))
    (R' : am_Rep 64 m f' t' q' (am_pt g a (a + l) r)) (hm : m < 48)
    (h0 : m ≤ 20 → ∀ pg' od', am_Y (am_pt g a (a + l) r) pg' → post (nI (am_C (am_pc g r) a (a + l))) (pg', od'))
    (h1 : 20 < m → ∀ pg' od', am_Y g pg' → post (-2) (pg', od')) : wpY_protect post (pg, od) (nI a) (nI l) (nI r) := by
  have hC2 := am_Cle (pr := am_pu g) (a := a) l
  unfold wpY_protect
  refine am_prop1Y hl hal ?_
  refine br_f (by decide) (br_f (nI_pos (by omega)) (br_t (nI_le (b := 7) hr (by decide)) ?_))
  refine am_used R Y hal ?_
  refine br_t (nI_le hC (by omega)) ?_
  refine am_keep Y (fun od' O => ?_)
  have hall : ∀ x, a ≤ x → x < a + l → 0 < g x := fun x h2 h3 => of_decide_eq_true (am_Cfull l hC x h2 h3)
  have h2 := am_py (fun x hx => am_gle R hx) hal hr hall R' (by omega) O (fun h pg' Y' => h0 h pg' od' Y') (fun h pg' Y' => h1 h pg' od' Y') l a pg rfl (Nat.le_refl _)
    (fun x hx => by rw [am_pt0 (by omega)]; exact Y x hx)
  rw [am_Clow a (Nat.le_refl _)] at h2
  exact ⟨l + 1, h2⟩
theorem am_protY0 {r : Nat} {post : Int32 → SY → Prop} (R : am_Rep 64 c f t q g) (Y : am_Y g pg) (hl : 1 ≤ l) (hal : a + l ≤ 64) (hr : r ≤ 7) (hC : am_C (am_pu g) a (a + l) < l)
    (h : post (-3) (pg, od)) : wpY_protect post (pg, od) (nI a) (nI l) (nI r) := by
  unfold wpY_protect
  refine am_prop1Y hl hal ?_
  refine br_f (by decide) (br_f (nI_pos (by omega)) (br_t (nI_le (b := 7) hr (by decide)) ?_))
  refine am_used R Y hal ?_
  exact br_f (nI_ge hC (by omega)) h
end
theorem i_vc_map {k : Nat} {u : SX} {v : SY} (I : i_Rel k u v) (hk : k + 4 ≤ 2048) (v1 : Int32) (v2 : Int32) (v3 : Int32) : wpX_map (fun r u' => wpY_map (fun r' v' => r' = r ∧ i_Rel (k + 4) u' v') v v1 v2 v3) u v1 v2 v3 := by
  have I' := i_up I
  obtain ⟨c, f, t, q, g, mm, aF, aT, aK, nF, nT, nK, pg, od, rfl, rfl, hc, X, R, Y⟩ := I
  rcases am_prop_cases v1 v2 with ⟨a, l, rfl, rfl, hl, hal⟩ | ⟨pX, pY⟩
  · rcases am_rng v3 127 (by decide) with ⟨n, hn, rfl⟩ | h | ⟨h1, h2, h3⟩
    · unfold wpX_map
      refine am_prop1 hl hal ?_
      refine br_f (by decide) ?_
      refine am_kind1 hn ?_
      refine br_f (by decide) ?_
      rw [nI_add]
      refine am_mapIn R hc X (by omega) hal ?_
      refine am_rewrite R hc X (by omega) hal hn (fun m f' t' q' mm' aF' aT' aK' nF' nT' nK' hm X' R' => ?_) (fun m f' t' q' mm' nF' nT' nK' hm hm2 R' => ?_)
      · exact br_f (by decide) (am_mapY R Y hl hal hn R' (by omega) (fun _ pg' od' Y' => ⟨rfl, am_mk hm X' R' Y'⟩) (fun h => by omega))
      · exact br_t rfl (am_mapY R Y hl hal hn R' hm2 (fun h => by omega) (fun _ pg' od' Y' => ⟨rfl, am_mk hc X R Y'⟩))
    · unfold wpX_map wpY_map
      refine am_prop1 hl hal ?_
      refine br_f (by decide) (br_t h ?_)
      refine br_t rfl ?_
      refine am_prop1Y hl hal ?_
      exact br_f (by decide) (br_t h ⟨rfl, I'⟩)
    · unfold wpX_map wpY_map
      refine am_prop1 hl hal ?_
      refine br_f (by decide) (br_f h1 (br_t h3 ?_))
      refine br_t rfl ?_
      refine am_prop1Y hl hal ?_
      exact br_f (by decide) (br_f h1 (br_f h2 ⟨rfl, I'⟩))
  · unfold wpX_map wpY_map
    refine pX _ ?_
    refine br_t rfl ?_
    refine pY _ _ ?_
    exact br_t rfl ⟨rfl, I'⟩
theorem i_vc_free {k : Nat} {u : SX} {v : SY} (I : i_Rel k u v) (hk : k + 4 ≤ 2048) (v1 : Int32) (v2 : Int32) : wpX_free (fun r u' => wpY_free (fun r' v' => r' = r ∧ i_Rel (k + 4) u' v') v v1 v2) u v1 v2 := by
  have I' := i_up I
  obtain ⟨c, f, t, q, g, mm, aF, aT, aK, nF, nT, nK, pg, od, rfl, rfl, hc, X, R, Y⟩ := I
  rcases am_prop_cases v1 v2 with ⟨a, l, rfl, rfl, hl, hal⟩ | ⟨pX, pY⟩
  · unfold wpX_free
    refine am_prop1 hl hal ?_
    refine br_f (by decide) ?_
    rw [nI_add]
    refine am_mapIn R hc X (by omega) hal ?_
    refine am_rewriteF R hc X (by omega) hal (fun m f' t' q' mm' aF' aT' aK' nF' nT' nK' hm X' R' => ?_) (fun m f' t' q' mm' nF' nT' nK' hm hm2 R' => ?_)
    · exact br_f (by decide) (am_freeY R Y hl hal R' (by omega) (fun _ pg' od' Y' => ⟨rfl, am_mk hm X' R' Y'⟩) (fun h => by omega))
    · exact br_t rfl (am_freeY R Y hl hal R' hm2 (fun h => by omega) (fun _ pg' od' Y' => ⟨rfl, am_mk hc X R Y'⟩))
  · unfold wpX_free wpY_free
    refine pX _ ?_
    refine br_t rfl ?_
    refine pY _ _ ?_
    exact br_t rfl ⟨rfl, I'⟩
theorem i_vc_protect {k : Nat} {u : SX} {v : SY} (I : i_Rel k u v) (hk : k + 4 ≤ 2048) (v1 : Int32) (v2 : Int32) (v3 : Int32) : wpX_protect (fun r u' => wpY_protect (fun r' v' => r' = r ∧ i_Rel (k + 4) u' v') v v1 v2 v3) u v1 v2 v3 := by
  have I' := i_up I
  obtain ⟨c, f, t, q, g, mm, aF, aT, aK, nF, nT, nK, pg, od, rfl, rfl, hc, X, R, Y⟩ := I
  rcases am_prop_cases v1 v2 with ⟨a, l, rfl, rfl, hl, hal⟩ | ⟨pX, pY⟩
  · rcases am_rng v3 7 (by decide) with ⟨r, hr, rfl⟩ | h | ⟨h1, h2, h3⟩
    · refine am_protect R hc X hl hal hr (fun hC => ?_) (fun hC m f' t' q' mm' aF' aT' aK' nF' nT' nK' hm X' R' => ?_) (fun hC m f' t' q' mm' nF' nT' nK' hm hm2 R' => ?_)
      · exact am_protY0 R Y hl hal hr hC ⟨rfl, I'⟩
      · exact am_protY R Y hl hal hr hC R' (by omega) (fun _ pg' od' Y' => ⟨rfl, am_mk hm X' R' Y'⟩) (fun h => by omega)
      · exact am_protY R Y hl hal hr hC R' hm2 (fun h => by omega) (fun _ pg' od' Y' => ⟨rfl, am_mk hc X R Y'⟩)
    · unfold wpX_protect wpY_protect
      refine am_prop1 hl hal ?_
      refine br_f (by decide) (br_t h ?_)
      refine am_prop1Y hl hal ?_
      exact br_f (by decide) (br_t h ⟨rfl, I'⟩)
    · unfold wpX_protect wpY_protect
      refine am_prop1 hl hal ?_
      refine br_f (by decide) (br_f h1 (br_f h2 ?_))
      refine am_prop1Y hl hal ?_
      exact br_f (by decide) (br_f h1 (br_f h2 ⟨rfl, I'⟩))
  · unfold wpX_protect wpY_protect
    refine pX _ ?_
    refine br_t rfl ?_
    refine pY _ _ ?_
    exact br_t rfl ⟨rfl, I'⟩
/-- once the page p is found: X's rewrite, and Y's fill -/
theorem am_plc {k c l n p : Nat} {f t q g : Nat → Nat} {mm : Int32} {aF aT aK nF nT nK pg od : Nat → Int32} {y1 y2 y3 : Int32} (hc : c ≤ 20) (X : am_X c f t q aF aT aK) (R : am_Rep 64 c f t q g) (Y : am_Y g pg)
    (hl : 1 ≤ l) (hpl : p + l ≤ 64) (hn : n ≤ 127) (yr : ∀ post : Int32 → SY → Prop, wY_place_51 post (nI l) (nI n) (nI p) pg od → wpY_place post (pg, od) y1 y2 y3) :
    wX_place_61 (fun r u' => wpY_place (fun r' v' => r' = r ∧ i_Rel (k + 4) u' v') (pg, od) y1 y2 y3) (nI l) (nI n) (nI p) (nI c) mm aF aT aK nF nT nK := by
  refine br_t (nI_pos' (by omega)) ?_
  rw [nI_add]
  refine am_rewrite R hc X (by omega) hpl hn (fun m f' t' q' mm' aF' aT' aK' nF' nT' nK' hm X' R' => ?_) (fun m f' t' q' mm' nF' nT' nK' hm hm2 R' => ?_)
  · exact br_f (by decide) (yr _ (am_51 Y hpl R' (by omega) (fun _ pg' od' Y' => ⟨rfl, am_mk hm X' R' Y'⟩) (fun h => by omega)))
  · exact br_t rfl (yr _ (am_51 Y hpl R' hm2 (fun h => by omega) (fun _ pg' od' Y' => ⟨rfl, am_mk hc X R Y'⟩)))
theorem i_vc_place {k : Nat} {u : SX} {v : SY} (I : i_Rel k u v) (hk : k + 4 ≤ 2048) (v1 : Int32) (v2 : Int32) (v3 : Int32) : wpX_place (fun r u' => wpY_place (fun r' v' => r' = r ∧ i_Rel (k + 4) u' v') v v1 v2 v3) u v1 v2 v3 := by
  have I' := i_up I
  obtain ⟨c, f, t, q, g, mm, aF, aT, aK, nF, nT, nK, pg, od, rfl, rfl, hc, X, R, Y⟩ := I
  by_cases h1 : v2 < 1
  · exact br_t h1 (br_t h1 ⟨rfl, I'⟩)
  by_cases h2 : v1 < 0
  · exact br_f h1 (br_t h2 (br_f h1 (br_t h2 ⟨rfl, I'⟩)))
  obtain ⟨l, hl1, hl2, rfl⟩ := am_ge1 h1
  obtain ⟨s, hs, rfl⟩ := nI_of h2
  by_cases h3 : s < 64
  · have n1 : ¬ (64 : Int32) ≤ nI s := nI_ge (b := 64) h3 (by decide)
    have n2 : ¬ (63 : Int32) < nI s := nI_nlt (a := 63) (by omega) (by decide)
    rcases am_rng v3 127 (by decide) with ⟨n, hn, rfl⟩ | h | ⟨h4, h5, h6⟩
    · have yin : ∀ post : Int32 → SY → Prop, wpY_room (fun r_6 => (((0 ≤ r_6 → (wY_place_51 post (nI l) (nI n) r_6 pg od)) ∧ (¬ 0 ≤ r_6 → (wpY_room (fun r_21 => (wY_place_51 post (nI l) (nI n) r_21 pg od)) (pg, od) 0 (nI l)))))) (pg, od) (nI s) (nI l) →
          wpY_place post (pg, od) (nI s) (nI l) (nI n) := fun post h => br_f h1 (br_f h2 (br_f n2 (br_f (nI_pos (by omega)) (br_t (nI_le (b := 127) hn (by decide)) h))))
      refine br_f h1 (br_f h2 (br_f n1 (am_kind1 hn (br_f (by decide) ?_))))
      have y1 : ∀ p, am_IsR g s l p → ∀ post : Int32 → SY → Prop, wY_place_51 post (nI l) (nI n) (nI p) pg od → wpY_place post (pg, od) (nI s) (nI l) (nI n) := fun p hp post h =>
        yin post (am_roomY R Y h3 hl1 hl2 (fun p' hp' => by
          rw [am_IsR_u hp hp']
          have := hp.2.1.1
          exact br_t (nI_pos' (by omega)) h) (fun h0 => absurd hp.2.1 (h0 p hp.1)))
      have y2 : am_NoR g s l → ∀ post : Int32 → SY → Prop, wpY_room (fun r_21 => (wY_place_51 post (nI l) (nI n) r_21 pg od)) (pg, od) (nI 0) (nI l) → wpY_place post (pg, od) (nI s) (nI l) (nI n) := fun h0 post h =>
        yin post (am_roomY R Y h3 hl1 hl2 (fun p' hp' => absurd hp'.2.1 (h0 p' hp'.1)) (fun _ => br_f (by decide) h))
      refine pk_le l 64 (fun h64 => ?_) (fun h64 => ?_)
      · refine am_room R hc X h3 hl1 h64 (fun p hp => ?_) (fun h0 => ?_)
        · have hpl := hp.2.1.1
          exact br_t (nI_pos' (by omega)) (am_plc hc X R Y hl1 hpl hn (y1 p hp))
        · refine br_f (by decide) (br_f (nI_nlt (a := 64) h64 (by decide)) ?_)
          refine am_room (s := 0) R hc X (by decide) hl1 h64 (fun p hp => ?_) (fun h00 => ?_)
          · have hpl := hp.2.1.1
            refine am_plc hc X R Y hl1 hpl hn (fun post h => y2 h0 post (am_roomY R Y (by decide) hl1 hl2 (fun p' hp' => ?_) (fun h00 => absurd hp.2.1 (h00 p hp.1))))
            rw [am_IsR_u hp hp']
            exact h
          · exact br_f (by decide) (y2 h0 _ (am_roomY R Y (by decide) hl1 hl2 (fun p' hp' => absurd hp'.2.1 (h00 p' hp'.1)) (fun _ => br_f (by decide) ⟨rfl, I'⟩)))
      · have hno : ∀ s, am_NoR g s l := fun s x _ hx => by
          have := hx.1
          omega
        exact br_f (by decide) (br_t (nI_lt (a := 64) h64 hl2) (br_f (by decide) (y2 (hno s) _ (am_roomY R Y (by decide) hl1 hl2 (fun p' hp' => absurd hp'.2.1 (hno 0 p' hp'.1)) (fun _ => br_f (by decide) ⟨rfl, I'⟩)))))
    · exact br_f h1 (br_f h2 (br_f n1 (br_t h (br_t rfl (br_f h1 (br_f h2 (br_f n2 (br_t h ⟨rfl, I'⟩))))))))
    · exact br_f h1 (br_f h2 (br_f n1 (br_f h4 (br_t h6 (br_t rfl (br_f h1 (br_f h2 (br_f n2 (br_f h4 (br_f h5 ⟨rfl, I'⟩))))))))))
  · have n1 : (64 : Int32) ≤ nI s := nI_le (a := 64) (by omega) hs
    have n2 : (63 : Int32) < nI s := nI_lt (a := 63) (by omega) hs
    exact br_f h1 (br_f h2 (br_t n1 (br_f h1 (br_f h2 (br_t n2 ⟨rfl, I'⟩)))))
end
