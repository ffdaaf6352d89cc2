section
/-! rows of the kit to paste (starting texts): PURE-ROWS, BITS -/
theorem pk_us {f : Nat → Int32} {k : Nat} {x : Int32} : upd f k x k = x := if_pos rfl
theorem pk_un {f : Nat → Int32} {k j : Nat} {x : Int32} (h : j ≠ k) : upd f k x j = f j := if_neg h
theorem pk_sub {a b : Nat} (h : b ≤ a) : nI a - nI b = nI (a - b) := by
  obtain ⟨c, rfl⟩ : ∃ c, a = c + b := ⟨a - b, by omega⟩
  rw [← nI_add, Int32.add_sub_cancel, Nat.add_sub_cancel]
theorem pk_m1 (n : Nat) : nI (n + 1) + (-1) = nI n := by
  rw [← nI_1, Int32.add_assoc, show (1 : Int32) + (-1) = 0 from rfl, Int32.add_zero]
theorem pk_mul (a b : Nat) : nI a * nI b = nI (a * b) := (Int32.ofNat_mul a b).symm
theorem pk_div {a d : Nat} (ha : a < 2 ^ 31) (h0 : 0 < d) (hd : d < 2 ^ 31) : nI a / nI d = nI (a / d) := by
  apply Int32.toInt_inj.mp
  rw [lg_idiv_nonneg (by rw [nI_toInt ha]; omega) (by rw [nI_toInt hd]; omega), nI_toInt ha, nI_toInt hd, nI_toInt (Nat.lt_of_le_of_lt (Nat.div_le_self a d) ha)]
  first | rfl | exact (Int.natCast_ediv _ _).symm
theorem pk_rem {a d : Nat} (ha : a < 2 ^ 31) (h0 : 0 < d) (hd : d < 2 ^ 31) : nI a - nI a / nI d * nI d = nI (a % d) := by
  rw [pk_div ha h0 hd, pk_mul, pk_sub (Nat.div_mul_le_self a d)]
  exact congrArg nI (by have := Nat.div_add_mod' a d; omega)
theorem pk_sub_toInt {a b : Nat} (ha : a < 2 ^ 30) (hb : b < 2 ^ 30) : (nI a - nI b).toInt = (a : Int) - b := by
  rw [Int32.toInt_sub, nI_toInt (by omega), nI_toInt (by omega)]
  exact Int.bmod_eq_of_le (by omega) (by omega)
theorem pk_sneg {a b : Nat} (hb : b < 2 ^ 30) (h : a < b) : nI a - nI b < 0 := by
  rw [Int32.lt_iff_toInt_lt, pk_sub_toInt (by omega) hb, show (0 : Int32).toInt = 0 from by decide]
  omega
theorem pk_ix (x : Int32) {n : Nat} (hn : n < 2 ^ 31) : x < 0 ∨ nI n ≤ x ∨ ∃ j : Nat, j < n ∧ x = nI j := by
  by_cases h : x < 0
  · exact Or.inl h
  · obtain ⟨j, hj, rfl⟩ := nI_of h
    by_cases h2 : j < n
    · exact Or.inr (Or.inr ⟨j, h2, rfl⟩)
    · exact Or.inr (Or.inl (nI_le (by omega) hj))
theorem pk_le {x y : Int32} {A B : Prop} (a b : Nat) (f : a ≤ b → A) (g : b < a → B) (hx : x = nI a := by rfl) (hy : y = nI b := by rfl) (ha : a < 2 ^ 31 := by omega) (hb : b < 2 ^ 31 := by omega) : (x ≤ y → A) ∧ (¬ x ≤ y → B) := by
  subst hx hy
  rw [nI_leI ha hb]
  exact ⟨f, fun z => g (by omega)⟩
theorem pk_lt {x y : Int32} {A B : Prop} (a b : Nat) (f : a < b → A) (g : b ≤ a → B) (hx : x = nI a := by rfl) (hy : y = nI b := by rfl) (ha : a < 2 ^ 31 := by omega) (hb : b < 2 ^ 31 := by omega) : (x < y → A) ∧ (¬ x < y → B) := by
  subst hx hy
  rw [nI_ltI ha hb]
  exact ⟨f, fun z => g (by omega)⟩
theorem pk_eq {x y : Int32} {A B : Prop} (a b : Nat) (f : a = b → A) (g : a ≠ b → B) (hx : x = nI a := by rfl) (hy : y = nI b := by rfl) (ha : a < 2 ^ 31 := by omega) (hb : b < 2 ^ 31 := by omega) : (x = y → A) ∧ (¬ x = y → B) := by
  subst hx hy
  rw [nI_eq ha hb]
  exact ⟨f, g⟩
theorem pk_in {x : Int32} (n N : Nat) (h : n < N) (hx : x = nI n := by rfl) (hN : N < 2 ^ 31 := by omega) : vp_in x N := by
  subst hx
  exact vp_in_nI h hN
theorem pk_cl {x : Int32} (n : Nat) (hx : x = nI n := by rfl) (h : n < 2 ^ 31 := by omega) : x.toNatClampNeg = n := by
  subst hx
  exact nI_clamp h
theorem pk_tn {n : Nat} (h : n < 2 ^ 32) : (nI n).toBitVec.toNat = n := Nat.mod_eq_of_lt h
theorem pk_and (x : Int32) {m : Int32} (k : Nat) (hm : m.toBitVec.toNat = 2 ^ k - 1) : x &&& m = nI (x.toBitVec.toNat % 2 ^ k) := by
  apply Int32.toBitVec_inj.mp
  apply BitVec.eq_of_toNat_eq
  rw [Int32.toBitVec_and, BitVec.toNat_and, hm, Nat.and_two_pow_sub_one_eq_mod]
  show _ = (BitVec.ofNat 32 _).toNat
  rw [BitVec.toNat_ofNat]
  exact (Nat.mod_eq_of_lt (Nat.lt_of_le_of_lt (Nat.mod_le _ _) x.toBitVec.isLt)).symm
theorem pk_andN {n : Nat} (h : n < 2 ^ 32) {m : Int32} (k : Nat) (hm : m.toBitVec.toNat = 2 ^ k - 1) : nI n &&& m = nI (n % 2 ^ k) := by
  rw [pk_and _ k hm, pk_tn h]
theorem pk_shr (a s : Int32) (k : Nat) (hs : (s.toBitVec.smod 32).toNat = k) : (a >>> s).toInt = a.toInt >>> k := by
  show (a.toBitVec.sshiftRight (s.toBitVec.smod 32).toNat).toInt = _
  rw [hs, BitVec.toInt_sshiftRight]
  rfl
theorem pk_shrN {n : Nat} (h : n < 2 ^ 31) (s : Int32) (k : Nat) (hs : (s.toBitVec.smod 32).toNat = k) : nI n >>> s = nI (n / 2 ^ k) := by
  apply Int32.toInt_inj.mp
  have h2 : n / 2 ^ k ≤ n := Nat.div_le_self _ _
  rw [pk_shr _ _ k hs, nI_toInt h, nI_toInt (by omega), Int.shiftRight_eq_div_pow]
  rfl
theorem nx_and (a b : Nat) : nI a &&& nI b = nI (a &&& b) := by
  apply Int32.toBitVec_inj.1
  show BitVec.ofNat 32 a &&& BitVec.ofNat 32 b = BitVec.ofNat 32 (a &&& b)
  apply BitVec.eq_of_getLsbD_eq
  intro i hi
  simp [hi]
theorem nx_xor (a b : Nat) : nI a ^^^ nI b = nI (a ^^^ b) := by
  apply Int32.toBitVec_inj.1
  show BitVec.ofNat 32 a ^^^ BitVec.ofNat 32 b = BitVec.ofNat 32 (a ^^^ b)
  apply BitVec.eq_of_getLsbD_eq
  intro i hi
  simp [hi]
end
section
/-! A: the pure picture of both sides -/
def hg_bI (b : Bool) : Int32 := if b = true then 1 else 0
theorem hg_bI_t : hg_bI true = 1 := rfl
theorem hg_bI_f : hg_bI false = 0 := rfl
theorem hg_bI_nar (b : Bool) : vp_nar .boolean (hg_bI b) = hg_bI b := by cases b <;> decide
theorem hg_bI_n (b : Bool) : narrow .boolean (.int (hg_bI b)) = .int (hg_bI b) := by cases b <;> rfl
theorem hg_bI_0 {b : Bool} : hg_bI b = 0 ↔ b = false := by cases b <;> decide
theorem hg_bI_eq {b : Bool} {x : Int32} (h1 : b = true → x = 1) (h0 : b = false → x = 0) : x = hg_bI b := by
  cases b
  · exact h0 rfl
  · exact h1 rfl
def hg_num (x y z : Nat) : Nat := x + 32 * y + 1024 * z
def hg_key (x y z : Nat) : Nat := (z * 31 + y) * 46 + x
theorem hg_num_inj {x y z p q r : Nat} (hx : x < 32) (hy : y < 32) (hp : p < 32) (hq : q < 32) (h : hg_num x y z = hg_num p q r) : x = p ∧ y = q ∧ z = r := by
  unfold hg_num at h
  omega
theorem hg_key_inj {x y z p q r : Nat} (hx : x ≤ 45) (hy : y ≤ 30) (hp : p ≤ 45) (hq : q ≤ 30) (h : hg_key x y z = hg_key p q r) : x = p ∧ y = q ∧ z = r := by
  unfold hg_key at h
  omega
theorem hg_key_lt {x y z : Nat} (hx : x ≤ 45) (hy : y ≤ 30) (hz : z ≤ 15) : hg_key x y z < 22816 := by
  unfold hg_key
  omega
def hg_rtF : Nat → Nat → Nat → Nat
  | 0, _, r => r
  | k + 1, n, r => if n < (r + 1) * (r + 1) then r else hg_rtF k n (r + 1)
def hg_gold (lo d : Nat) : Bool := !(lo == (d + hg_rtF 40 (5 * d * d) 0) / 2)
def hg_ratio (lo hi : Nat) : Bool := decide (0 < lo) && (lo == hi || decide (hi * lo + lo * lo < hi * hi))
def hg_lo (a b : Nat) : Nat := if b ≤ a then b else a
def hg_hi (a b : Nat) : Nat := if b ≤ a then a else b
def hg_apart (a b : Nat) : Nat := if b ≤ a then a - b else b - a
def hg_small (x y z : Nat) : Bool := decide (x < 2) && decide (y < 2) && decide (z < 2)
def hg_won0 (x y z : Nat) : Bool := !(x ^^^ y ^^^ z == 0)
def hg_won1 (x y z : Nat) : Bool := hg_small x y z == (x ^^^ y ^^^ z == 0)
def hg_won7 (x y z : Nat) : Bool := !((x ^^^ y ^^^ z) % 4 == 0)
def hg_won (g x y z : Nat) : Bool :=
  if g = 0 then hg_won0 x y z
  else if g = 1 then hg_won1 x y z
  else if g = 2 then decide (x ≠ y ∨ y ≠ z)
  else if g = 3 then decide (x ≠ z)
  else if g = 4 then hg_gold (hg_lo x y) (hg_apart x y)
  else if g = 5 then hg_ratio (hg_lo x y) (hg_hi x y)
  else hg_won7 x y z
def hg_val (g x y z : Nat) : Nat := if g = 0 then x ^^^ y ^^^ z else if g = 7 then (x ^^^ y ^^^ z) % 4 else 0
/-! the moves: from one heap at most M, from two heaps, down the stairs, Wythoff, Euclid -/
def hg_O1 (M x y z p q r : Nat) : Prop := (q = y ∧ r = z ∧ p < x ∧ x ≤ p + M) ∨ (p = x ∧ r = z ∧ q < y ∧ y ≤ q + M) ∨ (p = x ∧ q = y ∧ r < z ∧ z ≤ r + M)
def hg_O2 (x y z p q r : Nat) : Prop := (p < x ∧ q < y ∧ r = z) ∨ (p < x ∧ q = y ∧ r < z) ∨ (p = x ∧ q < y ∧ r < z)
def hg_O3 (x y z p q r : Nat) : Prop := (p = x ∧ q + r = y + z ∧ r < z) ∨ (r = z ∧ p + q = x + y ∧ q < y) ∨ (q = y ∧ r = z ∧ p < x)
def hg_O4 (x y z p q r : Nat) : Prop := r = z ∧ ((q = y ∧ p < x) ∨ (p = x ∧ q < y) ∨ (p < x ∧ q < y ∧ x + q = y + p))
def hg_O5 (x y z p q r : Nat) : Prop := r = z ∧ 0 < x ∧ 0 < y ∧ ((q = y ∧ ∃ t, 1 ≤ t ∧ p + t * y = x) ∨ (p = x ∧ ∃ t, 1 ≤ t ∧ q + t * x = y))
def hg_Opt (g x y z p q r : Nat) : Prop :=
  if g = 3 then hg_O3 x y z p q r
  else if g = 4 then hg_O4 x y z p q r
  else if g = 5 then hg_O5 x y z p q r
  else if g = 2 then hg_O1 15 x y z p q r ∨ hg_O2 x y z p q r
  else if g = 7 then hg_O1 3 x y z p q r
  else hg_O1 15 x y z p q r
def hg_Bd (g x y z : Nat) : Prop := x ≤ 45 ∧ y ≤ 30 ∧ z ≤ 15 ∧ (g ≠ 3 → x ≤ 15 ∧ y ≤ 15)
/-! the single heap of game 6 -/
def hg_lpI : Nat → Nat → Nat → Nat → Nat
  | 0, _, a, _ => a
  | k + 1, l, a, b => if l < b then a else hg_lpI k l b (a + b)
def hg_lpO : Nat → Nat → Nat → Nat
  | 0, _, p => p
  | k + 1, l, p => if l = 0 then p else hg_lpO k (l - hg_lpI 60 l 1 2) (hg_lpI 60 l 1 2)
def hg_W (n l : Nat) : Bool := decide (0 < n) && decide (hg_lpO 60 n 0 ≤ l)
def hg_N (a b : Nat) : Nat := if a + 16 * b ≤ 60 then a + 16 * b else 60
/-! B: what the sorted arrays hold -/
def hg_P (g : Nat) (al : Bool) (a b c n : Nat) : Prop :=
  if g = 6 then 1 ≤ n ∧ n ≤ hg_N a b ∧ n ≤ c ∧ (al = true ∨ hg_W (hg_N a b - n) (2 * n) = false)
  else ∃ p q r, hg_Opt g a b c p q r ∧ (al = true ∨ hg_won g p q r = false) ∧ n = hg_num p q r
def hg_Srt (c : Nat) (s : Nat → Nat) (P : Nat → Prop) : Prop := (∀ i j, i < j → j < c → s i < s j) ∧ (∀ n, P n ↔ ∃ i, i < c ∧ s i = n)
theorem hg_Srt_u {c c' : Nat} {s s' : Nat → Nat} {P : Nat → Prop} (h : hg_Srt c s P) (h' : hg_Srt c' s' P) : ∀ i, i < c → i < c' ∧ s i = s' i := by
  intro i
  induction i using Nat.strongRecOn with
  | ind i ih =>
    intro hi
    obtain ⟨j, hj, ej⟩ := (h'.2 (s i)).mp ((h.2 (s i)).mpr ⟨i, hi, rfl⟩)
    have hij : i ≤ j := by
      apply Nat.le_of_not_lt
      intro hlt
      have h1 := (ih j hlt (by omega)).2
      have h2 := h.1 j i hlt hi
      omega
    have hic : i < c' := by omega
    obtain ⟨k, hk, ek⟩ := (h.2 (s' i)).mp ((h'.2 (s' i)).mpr ⟨i, hic, rfl⟩)
    have hik : i ≤ k := by
      apply Nat.le_of_not_lt
      intro hlt
      have h1 := (ih k hlt hk).2
      have h2 := h'.1 k i hlt hic
      omega
    have a1 : s i ≤ s k := by
      rcases Nat.lt_or_eq_of_le hik with h1 | h1
      · exact Nat.le_of_lt (h.1 _ _ h1 hk)
      · rw [h1]; exact Nat.le_refl _
    have a2 : s' i ≤ s' j := by
      rcases Nat.lt_or_eq_of_le hij with h1 | h1
      · exact Nat.le_of_lt (h'.1 _ _ h1 hj)
      · rw [h1]; exact Nat.le_refl _
    exact ⟨hic, by omega⟩
theorem hg_Srt_c {c c' : Nat} {s s' : Nat → Nat} {P : Nat → Prop} (h : hg_Srt c s P) (h' : hg_Srt c' s' P) : c = c' := by
  have h1 : ¬ c' < c := fun z => Nat.lt_irrefl _ (hg_Srt_u h h' c' z).1
  have h2 : ¬ c < c' := fun z => Nat.lt_irrefl _ (hg_Srt_u h' h c z).1
  omega
theorem hg_Srt_iff {c : Nat} {s : Nat → Nat} {P Q : Nat → Prop} (h : hg_Srt c s P) (e : ∀ n, Q n ↔ P n) : hg_Srt c s Q := ⟨h.1, fun n => (e n).trans (h.2 n)⟩
def hg_ins (t v : Nat) (s : Nat → Nat) : Nat → Nat := fun i => if i < t then s i else if i = t then v else s (i - 1)
theorem hg_ins_lo {t v i : Nat} {s : Nat → Nat} (h : i < t) : hg_ins t v s i = s i := if_pos h
theorem hg_ins_eq {t v : Nat} {s : Nat → Nat} : hg_ins t v s t = v := by
  unfold hg_ins
  rw [if_neg (Nat.lt_irrefl t), if_pos rfl]
theorem hg_ins_hi {t v i : Nat} {s : Nat → Nat} (h : t < i) : hg_ins t v s i = s (i - 1) := by
  unfold hg_ins
  rw [if_neg (by omega), if_neg (by omega)]
theorem hg_ins_ok {c t v : Nat} {s : Nat → Nat} {P Q : Nat → Prop} (h : hg_Srt c s P) (ht : t ≤ c) (hl : ∀ i, i < t → s i < v) (hh : ∀ i, t ≤ i → i < c → v < s i) (hQ : ∀ n, Q n ↔ P n ∨ n = v) : hg_Srt (c + 1) (hg_ins t v s) Q := by
  refine ⟨?_, ?_⟩
  · intro i j hij hj
    rcases Nat.lt_trichotomy j t with h1 | h1 | h1
    · rw [hg_ins_lo h1, hg_ins_lo (by omega)]
      exact h.1 i j hij (by omega)
    · subst h1
      rw [hg_ins_eq, hg_ins_lo hij]
      exact hl i hij
    · rw [hg_ins_hi h1]
      rcases Nat.lt_trichotomy i t with h2 | h2 | h2
      · rw [hg_ins_lo h2]
        exact h.1 i (j - 1) (by omega) (by omega)
      · subst h2
        rw [hg_ins_eq]
        exact hh (j - 1) (by omega) (by omega)
      · rw [hg_ins_hi h2]
        exact h.1 (i - 1) (j - 1) (by omega) (by omega)
  · intro n
    rw [hQ n, h.2 n]
    constructor
    · rintro (⟨i, hi, e⟩ | e)
      · by_cases h1 : i < t
        · exact ⟨i, by omega, by rw [hg_ins_lo h1]; exact e⟩
        · exact ⟨i + 1, by omega, by rw [hg_ins_hi (by omega)]; exact e⟩
      · exact ⟨t, by omega, by rw [hg_ins_eq, e]⟩
    · rintro ⟨i, hi, e⟩
      rcases Nat.lt_trichotomy i t with h1 | h1 | h1
      · rw [hg_ins_lo h1] at e
        exact Or.inl ⟨i, by omega, e⟩
      · subst h1
        rw [hg_ins_eq] at e
        exact Or.inr e.symm
      · rw [hg_ins_hi h1] at e
        exact Or.inl ⟨i - 1, by omega, e⟩
theorem hg_Srt_0 {s : Nat → Nat} : hg_Srt 0 s (fun _ => False) := ⟨fun i j h1 h2 => by omega, fun n => ⟨fun z => z.elim, fun ⟨i, hi, _⟩ => by omega⟩⟩
theorem hg_pos {c v : Nat} {s : Nat → Nat} (h : ∀ i j, i < j → j < c → s i < s j) (hv : ∀ i, i < c → s i ≠ v) : ∀ k, k ≤ c → ∃ t, t ≤ k ∧ (∀ i, i < t → s i < v) ∧ (∀ i, t ≤ i → i < k → v < s i) := by
  intro k
  induction k with
  | zero => exact fun _ => ⟨0, Nat.le_refl _, fun i hi => by omega, fun i _ hi => by omega⟩
  | succ k ih =>
    intro hk
    have hne := hv k (by omega)
    by_cases h1 : s k < v
    · refine ⟨k + 1, Nat.le_refl _, fun i hi => ?_, fun i _ hi => by omega⟩
      by_cases h2 : i = k
      · rw [h2]; exact h1
      · exact Nat.lt_trans (h i k (by omega) (by omega)) h1
    · obtain ⟨t, h3, h4, h5⟩ := ih (by omega)
      refine ⟨t, by omega, h4, fun i hi hi2 => ?_⟩
      by_cases h2 : i = k
      · rw [h2]; omega
      · exact h5 i hi (by omega)
theorem hg_sort (w : Nat → Nat) : ∀ c, (∀ i j, i < j → j < c → w i ≠ w j) → ∃ s, hg_Srt c s (fun n => ∃ i, i < c ∧ w i = n) := by
  intro c
  induction c with
  | zero => exact fun _ => ⟨fun _ => 0, fun i j h1 h2 => by omega, fun n => ⟨fun ⟨i, hi, _⟩ => by omega, fun ⟨i, hi, _⟩ => by omega⟩⟩
  | succ c ih =>
    intro hw
    obtain ⟨s, hs⟩ := ih (fun i j h1 h2 => hw i j h1 (by omega))
    have hv : ∀ i, i < c → s i ≠ w c := by
      intro i hi e
      obtain ⟨j, hj, ej⟩ := (hs.2 (w c)).mpr ⟨i, hi, e⟩
      exact hw j c hj (by omega) ej
    obtain ⟨t, h3, h4, h5⟩ := hg_pos hs.1 hv c (Nat.le_refl _)
    refine ⟨hg_ins t (w c) s, hg_ins_ok hs h3 h4 h5 (fun n => ?_)⟩
    constructor
    · rintro ⟨i, hi, e⟩
      by_cases h1 : i = c
      · rw [h1] at e; exact Or.inr e.symm
      · exact Or.inl ⟨i, by omega, e⟩
    · rintro (⟨i, hi, e⟩ | e)
      · exact ⟨i, by omega, e⟩
      · exact ⟨c, by omega, e.symm⟩
/-! C: an array m with f entries that lists P in order -/
def hg_X (P : Nat → Prop) (B : Nat) (f : Int32) (m : Nat → Int32) : Prop := ∃ (c : Nat) (s : Nat → Nat), hg_Srt c s P ∧ c ≤ B ∧ f = nI c ∧ (∀ i, i < c → m i = nI (s i)) ∧ (∀ n, P n → n < 1048576)
theorem hg_X_iff {P Q : Nat → Prop} {B : Nat} {f : Int32} {m : Nat → Int32} (h : hg_X P B f m) (e : ∀ n, Q n ↔ P n) : hg_X Q B f m := by
  obtain ⟨c, s, h1, h2, h3, h4, h5⟩ := h
  exact ⟨c, s, hg_Srt_iff h1 e, h2, h3, h4, fun n hn => h5 n ((e n).mp hn)⟩
theorem hg_X_le {P : Nat → Prop} {B B' : Nat} {f : Int32} {m : Nat → Int32} (h : hg_X P B f m) (e : B ≤ B') : hg_X P B' f m := by
  obtain ⟨c, s, h1, h2, h3, h4, h5⟩ := h
  exact ⟨c, s, h1, by omega, h3, h4, h5⟩
theorem hg_X_0 {m : Nat → Int32} : hg_X (fun _ => False) 0 0 m := ⟨0, fun _ => 0, hg_Srt_0, Nat.le_refl _, rfl, fun i hi => by omega, fun n hn => hn.elim⟩
theorem hg_X_u {P : Nat → Prop} {B B' : Nat} {f f' : Int32} {m m' : Nat → Int32} (h : hg_X P B f m) (h' : hg_X P B' f' m') : f' = f := by
  obtain ⟨c, s, h1, h2, h3, h4, h5⟩ := h
  obtain ⟨c', s', k1, k2, k3, k4, k5⟩ := h'
  rw [h3, k3, hg_Srt_c h1 k1]
theorem hg_X_v {P : Nat → Prop} {B B' : Nat} {f f' : Int32} {m m' : Nat → Int32} (h : hg_X P B f m) (h' : hg_X P B' f' m') (hB : B ≤ 800) {i : Nat} (hi : i < 2 ^ 31) (hf : nI i < f) : m' i = m i ∧ ∃ n, P n ∧ m i = nI n ∧ n < 1048576 ∧ i < 800 := by
  obtain ⟨c, s, h1, h2, h3, h4, h5⟩ := h
  obtain ⟨c', s', k1, k2, k3, k4, k5⟩ := h'
  rw [h3, nI_ltI hi (by omega)] at hf
  have hu := hg_Srt_u h1 k1 i hf
  have hP := (h1.2 (s i)).mpr ⟨i, hf, rfl⟩
  exact ⟨by rw [h4 i hf, k4 i hu.1, hu.2], s i, hP, h4 i hf, h5 _ hP, by omega⟩
theorem hg_X_pos {P : Nat → Prop} {B : Nat} {f : Int32} {m : Nat → Int32} (h : hg_X P B f m) (hB : B ≤ 800) : 0 < f ↔ ∃ n, P n := by
  obtain ⟨c, s, h1, h2, h3, h4, h5⟩ := h
  rw [h3, ← nI_0, nI_ltI (by omega) (by omega)]
  constructor
  · intro hc
    exact ⟨s 0, (h1.2 _).mpr ⟨0, hc, rfl⟩⟩
  · rintro ⟨n, hn⟩
    obtain ⟨i, hi, _⟩ := (h1.2 n).mp hn
    omega
theorem hg_X_z {P : Nat → Prop} {B : Nat} {f : Int32} {m : Nat → Int32} (h : hg_X P B f m) (hB : B ≤ 800) : f = 0 ↔ ¬ ∃ n, P n := by
  obtain ⟨c, s, h1, h2, h3, h4, h5⟩ := h
  rw [h3, ← nI_0, nI_eq (by omega) (by omega)]
  constructor
  · rintro hc ⟨n, hn⟩
    obtain ⟨i, hi, _⟩ := (h1.2 n).mp hn
    omega
  · intro hn
    apply Nat.eq_zero_of_not_pos
    intro hc
    exact hn ⟨s 0, (h1.2 _).mpr ⟨0, hc, rfl⟩⟩
end
section
/-! the laws of the games, by tables -/
theorem hg_won_0 {x y z : Nat} : hg_won 0 x y z = hg_won0 x y z := rfl
theorem hg_won_1 {x y z : Nat} : hg_won 1 x y z = hg_won1 x y z := rfl
theorem hg_won_2 {x y z : Nat} : hg_won 2 x y z = decide (x ≠ y ∨ y ≠ z) := rfl
theorem hg_won_3 {x y z : Nat} : hg_won 3 x y z = decide (x ≠ z) := rfl
theorem hg_won_4 {x y z : Nat} : hg_won 4 x y z = hg_gold (hg_lo x y) (hg_apart x y) := rfl
theorem hg_won_5 {x y z : Nat} : hg_won 5 x y z = hg_ratio (hg_lo x y) (hg_hi x y) := rfl
theorem hg_won_7 {x y z : Nat} : hg_won 7 x y z = hg_won7 x y z := rfl
theorem hg_Opt_0 {x y z p q r : Nat} : hg_Opt 0 x y z p q r = hg_O1 15 x y z p q r := rfl
theorem hg_Opt_1 {x y z p q r : Nat} : hg_Opt 1 x y z p q r = hg_O1 15 x y z p q r := rfl
theorem hg_Opt_2 {x y z p q r : Nat} : hg_Opt 2 x y z p q r = (hg_O1 15 x y z p q r ∨ hg_O2 x y z p q r) := rfl
theorem hg_Opt_3 {x y z p q r : Nat} : hg_Opt 3 x y z p q r = hg_O3 x y z p q r := rfl
theorem hg_Opt_4 {x y z p q r : Nat} : hg_Opt 4 x y z p q r = hg_O4 x y z p q r := rfl
theorem hg_Opt_5 {x y z p q r : Nat} : hg_Opt 5 x y z p q r = hg_O5 x y z p q r := rfl
theorem hg_Opt_7 {x y z p q r : Nat} : hg_Opt 7 x y z p q r = hg_O1 3 x y z p q r := rfl
def hg_any1 (w : Nat → Nat → Nat → Bool) (x y z : Nat) : Bool := (List.range x).any (fun p => !w p y z) || (List.range y).any (fun q => !w x q z) || (List.range z).any (fun r => !w x y r)
def hg_any7 (w : Nat → Nat → Nat → Bool) (x y z : Nat) : Bool := [1, 2, 3].any (fun k => decide (k ≤ x) && w (x - k) y z) || [1, 2, 3].any (fun k => decide (k ≤ y) && w x (y - k) z) || [1, 2, 3].any (fun k => decide (k ≤ z) && w x y (z - k))
def hg_any4 (w : Nat → Nat → Bool) (x y : Nat) : Bool := (List.range x).any (fun p => !w p y) || (List.range y).any (fun q => !w x q) || (List.range x).any (fun k => decide (k < y) && !w (x - (k + 1)) (y - (k + 1)))
def hg_any5 (w : Nat → Nat → Bool) (x y : Nat) : Bool := decide (0 < x) && decide (0 < y) && ((List.range 15).any (fun t => decide ((t + 1) * y ≤ x) && !w (x - (t + 1) * y) y) || (List.range 15).any (fun t => decide ((t + 1) * x ≤ y) && !w x (y - (t + 1) * x)))
def hg_w4 (x y : Nat) : Bool := hg_gold (hg_lo x y) (hg_apart x y)
def hg_w5 (x y : Nat) : Bool := hg_ratio (hg_lo x y) (hg_hi x y)
set_option maxRecDepth 100000 in
theorem hg_t0 : ∀ x, x < 16 → ∀ y, y < 16 → ∀ z, z < 16 → hg_won0 x y z = hg_any1 hg_won0 x y z := by decide +kernel
set_option maxRecDepth 100000 in
theorem hg_t1 : ∀ x, x < 16 → ∀ y, y < 16 → ∀ z, z < 16 → hg_won1 x y z = (hg_any1 hg_won1 x y z || (x == 0 && y == 0 && z == 0)) := by decide +kernel
set_option maxRecDepth 100000 in
theorem hg_t7 : ∀ x, x < 16 → ∀ y, y < 16 → ∀ z, z < 16 → hg_won7 x y z = hg_any7 (fun p q r => !hg_won7 p q r) x y z := by decide +kernel
set_option maxRecDepth 100000 in
theorem hg_t4 : ∀ x, x < 16 → ∀ y, y < 16 → hg_w4 x y = hg_any4 hg_w4 x y := by decide +kernel
set_option maxRecDepth 100000 in
theorem hg_t5 : ∀ x, x < 16 → ∀ y, y < 16 → hg_w5 x y = hg_any5 hg_w5 x y := by decide +kernel
theorem hg_nt {b : Bool} (h : (!b) = true) : b = false := by cases b <;> first | rfl | cases h
theorem hg_any1_iff {w : Nat → Nat → Nat → Bool} {x y z : Nat} (hx : x ≤ 15) (hy : y ≤ 15) (hz : z ≤ 15) : hg_any1 w x y z = true ↔ ∃ p q r, hg_O1 15 x y z p q r ∧ w p q r = false := by
  unfold hg_any1
  rw [Bool.or_eq_true, Bool.or_eq_true, List.any_eq_true, List.any_eq_true, List.any_eq_true]
  constructor
  · rintro ((⟨p, hp, e⟩ | ⟨q, hq, e⟩) | ⟨r, hr, e⟩)
    · rw [List.mem_range] at hp
      exact ⟨p, y, z, Or.inl ⟨rfl, rfl, hp, by omega⟩, hg_nt e⟩
    · rw [List.mem_range] at hq
      exact ⟨x, q, z, Or.inr (Or.inl ⟨rfl, rfl, hq, by omega⟩), hg_nt e⟩
    · rw [List.mem_range] at hr
      exact ⟨x, y, r, Or.inr (Or.inr ⟨rfl, rfl, hr, by omega⟩), hg_nt e⟩
  · rintro ⟨p, q, r, (⟨e1, e2, h, _⟩ | ⟨e1, e2, h, _⟩ | ⟨e1, e2, h, _⟩), e⟩
    · rw [e1, e2] at e
      exact Or.inl (Or.inl ⟨p, List.mem_range.mpr h, by rw [e]; rfl⟩)
    · rw [e1, e2] at e
      exact Or.inl (Or.inr ⟨q, List.mem_range.mpr h, by rw [e]; rfl⟩)
    · rw [e1, e2] at e
      exact Or.inr ⟨r, List.mem_range.mpr h, by rw [e]; rfl⟩
theorem hg_123 {k : Nat} : k ∈ [1, 2, 3] ↔ 1 ≤ k ∧ k ≤ 3 := by
  simp only [List.mem_cons, List.not_mem_nil, or_false]
  omega
theorem hg_any7_iff {w : Nat → Nat → Nat → Bool} {x y z : Nat} : hg_any7 w x y z = true ↔ ∃ p q r, hg_O1 3 x y z p q r ∧ w p q r = true := by
  unfold hg_any7
  simp only [Bool.or_eq_true, List.any_eq_true, Bool.and_eq_true, decide_eq_true_eq, hg_123]
  constructor
  · rintro ((⟨k, hk, h, e⟩ | ⟨k, hk, h, e⟩) | ⟨k, hk, h, e⟩)
    · exact ⟨x - k, y, z, Or.inl ⟨rfl, rfl, by omega, by omega⟩, e⟩
    · exact ⟨x, y - k, z, Or.inr (Or.inl ⟨rfl, rfl, by omega, by omega⟩), e⟩
    · exact ⟨x, y, z - k, Or.inr (Or.inr ⟨rfl, rfl, by omega, by omega⟩), e⟩
  · rintro ⟨p, q, r, (⟨e1, e2, h, h3⟩ | ⟨e1, e2, h, h3⟩ | ⟨e1, e2, h, h3⟩), e⟩
    · refine Or.inl (Or.inl ⟨x - p, by omega, by omega, ?_⟩)
      rw [show x - (x - p) = p by omega, ← e1, ← e2]; exact e
    · refine Or.inl (Or.inr ⟨y - q, by omega, by omega, ?_⟩)
      rw [show y - (y - q) = q by omega, ← e1, ← e2]; exact e
    · refine Or.inr ⟨z - r, by omega, by omega, ?_⟩
      rw [show z - (z - r) = r by omega, ← e1, ← e2]; exact e
theorem hg_any4_iff {w : Nat → Nat → Bool} {x y z : Nat} : hg_any4 w x y = true ↔ ∃ p q r, hg_O4 x y z p q r ∧ w p q = false := by
  unfold hg_any4
  simp only [Bool.or_eq_true, List.any_eq_true, Bool.and_eq_true, decide_eq_true_eq, List.mem_range]
  constructor
  · rintro ((⟨k, hk, e⟩ | ⟨k, hk, e⟩) | ⟨k, hk, h, e⟩)
    · exact ⟨k, y, z, ⟨rfl, Or.inl ⟨rfl, hk⟩⟩, hg_nt e⟩
    · exact ⟨x, k, z, ⟨rfl, Or.inr (Or.inl ⟨rfl, hk⟩)⟩, hg_nt e⟩
    · exact ⟨x - (k + 1), y - (k + 1), z, ⟨rfl, Or.inr (Or.inr ⟨by omega, by omega, by omega⟩)⟩, hg_nt e⟩
  · rintro ⟨p, q, r, ⟨e0, (⟨e1, h⟩ | ⟨e1, h⟩ | ⟨h1, h2, h3⟩)⟩, e⟩
    · exact Or.inl (Or.inl ⟨p, h, by rw [← e1, e]; rfl⟩)
    · exact Or.inl (Or.inr ⟨q, h, by rw [← e1, e]; rfl⟩)
    · refine Or.inr ⟨x - p - 1, by omega, by omega, ?_⟩
      rw [show x - (x - p - 1 + 1) = p by omega, show y - (x - p - 1 + 1) = q by omega, e]; rfl
theorem hg_tb {t y x p : Nat} (h0 : 0 < y) (hx : x ≤ 15) (h : p + t * y = x) : t ≤ 15 := by
  have h1 : t * 1 ≤ t * y := Nat.mul_le_mul_left t h0
  omega
theorem hg_any5_iff {w : Nat → Nat → Bool} {x y z : Nat} (hx : x ≤ 15) (hy : y ≤ 15) : hg_any5 w x y = true ↔ ∃ p q r, hg_O5 x y z p q r ∧ w p q = false := by
  unfold hg_any5
  simp only [Bool.or_eq_true, List.any_eq_true, Bool.and_eq_true, decide_eq_true_eq, List.mem_range]
  constructor
  · rintro ⟨⟨hx0, hy0⟩, (⟨t, ht, h, e⟩ | ⟨t, ht, h, e⟩)⟩
    · exact ⟨x - (t + 1) * y, y, z, ⟨rfl, hx0, hy0, Or.inl ⟨rfl, t + 1, by omega, by omega⟩⟩, hg_nt e⟩
    · exact ⟨x, y - (t + 1) * x, z, ⟨rfl, hx0, hy0, Or.inr ⟨rfl, t + 1, by omega, by omega⟩⟩, hg_nt e⟩
  · rintro ⟨p, q, r, ⟨e0, hx0, hy0, (⟨e1, t, ht, h⟩ | ⟨e1, t, ht, h⟩)⟩, e⟩
    · refine ⟨⟨hx0, hy0⟩, Or.inl ⟨t - 1, ?_, ?_, ?_⟩⟩
      · have := hg_tb hy0 hx h
        omega
      · rw [show t - 1 + 1 = t by omega]; omega
      · rw [show t - 1 + 1 = t by omega, show x - t * y = p by omega, ← e1, e]; rfl
    · refine ⟨⟨hx0, hy0⟩, Or.inr ⟨t - 1, ?_, ?_, ?_⟩⟩
      · have := hg_tb hx0 hy h
        omega
      · rw [show t - 1 + 1 = t by omega]; omega
      · rw [show t - 1 + 1 = t by omega, show y - t * x = q by omega, ← e1, e]; rfl
/-- a position is won if and only if some move leads to one that is not won, or, in game 1, no move is left -/
theorem hg_lawA {g x y z : Nat} (hg : g ≤ 7) (h6 : g ≠ 6) (hb : hg_Bd g x y z) : hg_won g x y z = true ↔ (∃ p q r, hg_Opt g x y z p q r ∧ hg_won g p q r = false) ∨ (g = 1 ∧ ¬ ∃ p q r, hg_Opt g x y z p q r) := by
  obtain ⟨b1, b2, b3, b4⟩ := hb
  have hc : g = 0 ∨ g = 1 ∨ g = 2 ∨ g = 3 ∨ g = 4 ∨ g = 5 ∨ g = 7 := by omega
  rcases hc with rfl | rfl | rfl | rfl | rfl | rfl | rfl
  · have b5 := b4 (by omega)
    simp only [hg_won_0, hg_Opt_0]
    rw [hg_t0 x (by omega) y (by omega) z (by omega), hg_any1_iff (by omega) (by omega) (by omega)]
    exact ⟨Or.inl, fun h => h.elim id (fun k => absurd k.1 (by decide))⟩
  · have b5 := b4 (by omega)
    simp only [hg_won_1, hg_Opt_1]
    rw [hg_t1 x (by omega) y (by omega) z (by omega), Bool.or_eq_true, hg_any1_iff (by omega) (by omega) (by omega)]
    have e : (x == 0 && y == 0 && z == 0) = true ↔ ¬ ∃ p q r, hg_O1 15 x y z p q r := by
      simp only [Bool.and_eq_true, beq_iff_eq]
      constructor
      · rintro ⟨⟨h1, h2⟩, h3⟩ ⟨p, q, r, h⟩
        unfold hg_O1 at h
        omega
      · intro h
        have k1 : ¬ 0 < x := fun k => h ⟨x - 1, y, z, Or.inl ⟨rfl, rfl, by omega, by omega⟩⟩
        have k2 : ¬ 0 < y := fun k => h ⟨x, y - 1, z, Or.inr (Or.inl ⟨rfl, rfl, by omega, by omega⟩)⟩
        have k3 : ¬ 0 < z := fun k => h ⟨x, y, z - 1, Or.inr (Or.inr ⟨rfl, rfl, by omega, by omega⟩)⟩
        omega
    rw [e]
    exact ⟨fun h => h.elim Or.inl (fun k => Or.inr ⟨by trivial, k⟩), fun h => h.elim Or.inl (fun k => Or.inr k.2)⟩
  · have b5 := b4 (by omega)
    simp only [hg_won_2, hg_Opt_2, decide_eq_true_eq, decide_eq_false_iff_not]
    constructor
    · intro h
      refine Or.inl ?_
      by_cases h1 : x ≤ y ∧ x ≤ z
      · exact ⟨x, x, x, by unfold hg_O1 hg_O2; omega, by omega⟩
      · by_cases h2 : y ≤ z
        · exact ⟨y, y, y, by unfold hg_O1 hg_O2; omega, by omega⟩
        · exact ⟨z, z, z, by unfold hg_O1 hg_O2; omega, by omega⟩
    · rintro (⟨p, q, r, h, k⟩ | ⟨h, _⟩)
      · unfold hg_O1 hg_O2 at h
        omega
      · exact absurd h (by decide)
  · simp only [hg_won_3, hg_Opt_3, decide_eq_true_eq, decide_eq_false_iff_not]
    constructor
    · intro h
      refine Or.inl ?_
      by_cases h1 : z < x
      · exact ⟨z, y, z, by unfold hg_O3; omega, by omega⟩
      · exact ⟨x, y + (z - x), x, by unfold hg_O3; omega, by omega⟩
    · rintro (⟨p, q, r, h, k⟩ | ⟨h, _⟩)
      · unfold hg_O3 at h
        omega
      · exact absurd h (by decide)
  · have b5 := b4 (by omega)
    simp only [hg_won_4, hg_Opt_4]
    show hg_w4 x y = true ↔ (∃ p q r, hg_O4 x y z p q r ∧ hg_w4 p q = false) ∨ _
    rw [hg_t4 x (by omega) y (by omega), hg_any4_iff (z := z)]
    exact ⟨Or.inl, fun h => h.elim id (fun k => absurd k.1 (by decide))⟩
  · have b5 := b4 (by omega)
    simp only [hg_won_5, hg_Opt_5]
    show hg_w5 x y = true ↔ (∃ p q r, hg_O5 x y z p q r ∧ hg_w5 p q = false) ∨ _
    rw [hg_t5 x (by omega) y (by omega), hg_any5_iff (z := z) (by omega) (by omega)]
    exact ⟨Or.inl, fun h => h.elim id (fun k => absurd k.1 (by decide))⟩
  · have b5 := b4 (by omega)
    simp only [hg_won_7, hg_Opt_7]
    rw [hg_t7 x (by omega) y (by omega) z (by omega), hg_any7_iff]
    simp only [Bool.not_eq_true']
    exact ⟨Or.inl, fun h => h.elim id (fun k => absurd k.1 (by decide))⟩
/-! values: the least that no move reaches -/
def hg_x0 (x y z : Nat) : Nat := x ^^^ y ^^^ z
def hg_x7 (x y z : Nat) : Nat := (x ^^^ y ^^^ z) % 4
def hg_v0 (x y z : Nat) : Bool := (List.range (hg_x0 x y z)).all (fun v => (decide (hg_x0 v y z < x) && hg_x0 (hg_x0 v y z) y z == v) || (decide (hg_x0 x v z < y) && hg_x0 x (hg_x0 x v z) z == v) || (decide (hg_x0 x y v < z) && hg_x0 x y (hg_x0 x y v) == v))
def hg_v7 (x y z : Nat) : Bool := (List.range (hg_x7 x y z)).all (fun v => hg_any7 (fun p q r => hg_x7 p q r == v) x y z)
set_option maxRecDepth 100000 in
theorem hg_tv0 : ∀ x, x < 16 → ∀ y, y < 16 → ∀ z, z < 16 → hg_v0 x y z = true := by decide +kernel
set_option maxRecDepth 100000 in
theorem hg_tv7 : ∀ x, x < 16 → ∀ y, y < 16 → ∀ z, z < 16 → hg_v7 x y z = true := by decide +kernel
set_option maxRecDepth 100000 in
theorem hg_tn7 : ∀ x, x < 16 → ∀ y, y < 16 → ∀ z, z < 16 → hg_any7 (fun p q r => hg_x7 p q r == hg_x7 x y z) x y z = false := by decide +kernel
theorem hg_xr {a b c : Nat} (h : a ^^^ c = b ^^^ c) : a = b := by
  have e := congrArg (fun t => t ^^^ c) h
  simpa only [Nat.xor_assoc, Nat.xor_self, Nat.xor_zero] using e
theorem hg_xl {a b c : Nat} (h : c ^^^ a = c ^^^ b) : a = b := by
  rw [Nat.xor_comm c a, Nat.xor_comm c b] at h
  exact hg_xr h
theorem hg_val_0 {x y z : Nat} : hg_val 0 x y z = hg_x0 x y z := rfl
theorem hg_val_7 {x y z : Nat} : hg_val 7 x y z = hg_x7 x y z := rfl
theorem hg_val_n {g x y z : Nat} (h0 : g ≠ 0) (h7 : g ≠ 7) : hg_val g x y z = 0 := by
  unfold hg_val
  rw [if_neg h0, if_neg h7]
theorem hg_x0_lt {x y z : Nat} (hx : x ≤ 15) (hy : y ≤ 15) (hz : z ≤ 15) : hg_x0 x y z < 16 :=
  Nat.xor_lt_two_pow (n := 4) (Nat.xor_lt_two_pow (n := 4) (by omega) (by omega)) (by omega)
theorem hg_val_lt {g x y z : Nat} (hb : hg_Bd g x y z) : hg_val g x y z < 16 := by
  unfold hg_val
  split
  · rename_i h
    have := hb.2.2.2 (by omega)
    exact hg_x0_lt this.1 this.2 hb.2.2.1
  · split <;> omega
/-- some v below 64 is reached by no move, all below it are; in games 0 and 7 it is the position's value -/
theorem hg_lawB {g x y z : Nat} (hb : hg_Bd g x y z) : ∃ v, v < 60 ∧ (∀ p q r, hg_Opt g x y z p q r → hg_val g p q r ≠ v) ∧ (∀ u, u < v → ∃ p q r, hg_Opt g x y z p q r ∧ hg_val g p q r = u) ∧ (g = 0 ∨ g = 7 → v = hg_val g x y z) := by
  obtain ⟨b1, b2, b3, b4⟩ := hb
  by_cases h0 : g = 0
  · subst h0
    have b5 := b4 (by omega)
    have hlt := hg_x0_lt b5.1 b5.2 b3
    refine ⟨hg_x0 x y z, by omega, ?_, ?_, fun _ => rfl⟩
    · intro p q r h e
      rw [hg_Opt_0] at h
      rw [hg_val_0] at e
      unfold hg_x0 at e
      rcases h with ⟨rfl, rfl, h, _⟩ | ⟨rfl, rfl, h, _⟩ | ⟨rfl, rfl, h, _⟩
      · have := hg_xr (hg_xr e)
        omega
      · have := hg_xl (hg_xr e)
        omega
      · have := hg_xl e
        omega
    · intro u hu
      have t := hg_tv0 x (by omega) y (by omega) z (by omega)
      unfold hg_v0 at t
      rw [List.all_eq_true] at t
      have t1 := t u (List.mem_range.mpr hu)
      simp only [Bool.and_eq_true, Bool.or_eq_true, decide_eq_true_eq, beq_iff_eq] at t1
      rcases t1 with (⟨h, e⟩ | ⟨h, e⟩) | ⟨h, e⟩
      · exact ⟨_, y, z, Or.inl ⟨rfl, rfl, h, by omega⟩, e⟩
      · exact ⟨x, _, z, Or.inr (Or.inl ⟨rfl, rfl, h, by omega⟩), e⟩
      · exact ⟨x, y, _, Or.inr (Or.inr ⟨rfl, rfl, h, by omega⟩), e⟩
  · by_cases h7 : g = 7
    · subst h7
      have b5 := b4 (by omega)
      refine ⟨hg_x7 x y z, by unfold hg_x7; omega, ?_, ?_, fun _ => rfl⟩
      · intro p q r h e
        rw [hg_Opt_7] at h
        rw [hg_val_7] at e
        have t := hg_tn7 x (by omega) y (by omega) z (by omega)
        have t1 := (hg_any7_iff (w := fun p q r => hg_x7 p q r == hg_x7 x y z)).mpr ⟨p, q, r, h, beq_iff_eq.mpr e⟩
        rw [t] at t1
        exact absurd t1 (by decide)
      · intro u hu
        have t := hg_tv7 x (by omega) y (by omega) z (by omega)
        unfold hg_v7 at t
        rw [List.all_eq_true] at t
        obtain ⟨p, q, r, h, e⟩ := hg_any7_iff.mp (t u (List.mem_range.mpr hu))
        exact ⟨p, q, r, h, beq_iff_eq.mp e⟩
    · by_cases ho : ∃ p q r, hg_Opt g x y z p q r
      · obtain ⟨p, q, r, h⟩ := ho
        refine ⟨1, by omega, fun p q r _ => by rw [hg_val_n h0 h7]; omega, fun u hu => ⟨p, q, r, h, by rw [hg_val_n h0 h7]; omega⟩, fun h => by omega⟩
      · exact ⟨0, by omega, fun p q r h => absurd ⟨p, q, r, h⟩ ho, fun u hu => by omega, fun h => by omega⟩
/-! game 6 -/
def hg_c60 (n : Nat) : Nat := if n ≤ 60 then n else 60
def hg_w6 (n l : Nat) : Bool := (List.range n).any (fun k => decide (k < l) && !hg_W (n - (k + 1)) (hg_c60 (2 * (k + 1))))
set_option maxRecDepth 100000 in
theorem hg_t6 : ∀ n, n < 61 → ∀ l, l < 61 → hg_W n l = hg_w6 n l := by decide +kernel
theorem hg_w6_iff {n l : Nat} : hg_w6 n l = true ↔ ∃ k, 1 ≤ k ∧ k ≤ n ∧ k ≤ l ∧ hg_W (n - k) (hg_c60 (2 * k)) = false := by
  unfold hg_w6
  simp only [List.any_eq_true, Bool.and_eq_true, decide_eq_true_eq, List.mem_range]
  constructor
  · rintro ⟨k, hk, h, e⟩
    exact ⟨k + 1, by omega, by omega, by omega, hg_nt e⟩
  · rintro ⟨k, h1, h2, h3, e⟩
    refine ⟨k - 1, by omega, by omega, ?_⟩
    rw [show k - 1 + 1 = k by omega, e]; rfl
theorem hg_lawW {n l : Nat} (hn : n ≤ 60) (hl : l ≤ 60) : hg_W n l = true ↔ ∃ k, 1 ≤ k ∧ k ≤ n ∧ k ≤ l ∧ hg_W (n - k) (hg_c60 (2 * k)) = false := by
  rw [hg_t6 n (by omega) l (by omega), hg_w6_iff]
set_option maxRecDepth 100000 in
theorem hg_lp_le : ∀ n, n < 61 → hg_lpO 60 n 0 ≤ 60 := by decide +kernel
theorem hg_W_c {n l : Nat} (hn : n ≤ 60) : hg_W n (hg_c60 l) = hg_W n l := by
  have h := hg_lp_le n (by omega)
  unfold hg_W hg_c60
  split
  · rfl
  · rw [decide_eq_true (p := hg_lpO 60 n 0 ≤ 60) h, decide_eq_true (p := hg_lpO 60 n 0 ≤ l) (by omega)]
end
section
/-! the component: who wins -/
section HG4
variable {f : Int32} {h m : Nat → Int32}
theorem hg_rtF_s {k n r : Nat} : hg_rtF (k + 1) n r = if n < (r + 1) * (r + 1) then r else hg_rtF k n (r + 1) := rfl
theorem hg_rtF_le {n : Nat} : ∀ k r, hg_rtF k n r ≤ r + k := by
  intro k
  induction k with
  | zero => exact fun r => Nat.le_refl _
  | succ k ih =>
    intro r
    rw [hg_rtF_s]
    split
    · omega
    · have := ih (r + 1)
      omega
theorem hg_root {post : Int32 → Prop} {n : Nat} (hn : n ≤ 1125) : ∀ k r : Nat, r + k ≤ 40 → n < (r + k + 1) * (r + k + 1) → post (nI (hg_rtF k n r)) → wX_rootOf_2 post (nI n) f h m (k + 1) (nI r) := by
  intro k
  induction k with
  | zero =>
    intro r hr h1 hp
    have hq : (r + 1) * (r + 1) ≤ 41 * 41 := Nat.mul_le_mul (by omega) (by omega)
    exact pk_lt n ((r + 1) * (r + 1)) (fun _ => hp) (fun z => absurd h1 (Nat.not_lt.mpr z)) rfl (by rw [nI_1, pk_mul]) (by omega) (by omega)
  | succ k ih =>
    intro r hr h1 hp
    have hq : (r + 1) * (r + 1) ≤ 41 * 41 := Nat.mul_le_mul (by omega) (by omega)
    rw [hg_rtF_s] at hp
    refine pk_lt n ((r + 1) * (r + 1)) (fun z => ?_) (fun z => ?_) rfl (by rw [nI_1, pk_mul]) (by omega) (by omega)
    · rw [if_pos z] at hp
      exact hp
    · rw [if_neg (Nat.not_lt.mpr z)] at hp
      refine nm_r (nI_1 r) (ih (r + 1) (by omega) ?_ hp)
      rw [show r + 1 + k + 1 = r + (k + 1) + 1 by omega]
      exact h1
theorem hg_golden25 {post : Int32 → Prop} {lo d : Nat} (hlo : lo ≤ 15) (hd : d ≤ 15) (hp : post (hg_bI (hg_gold lo d))) : wX_wonGolden_25 post (nI lo) (nI d) f h m := by
  have e : (5 * nI d) * nI d = nI (5 * d * d) := by
    rw [show (5 : Int32) = nI 5 from rfl, pk_mul, pk_mul]
  have hb : 5 * d * d ≤ 1125 := Nat.mul_le_mul (show 5 * d ≤ 75 by omega) hd
  have hr := hg_rtF_le (n := 5 * d * d) 40 0
  unfold wX_wonGolden_25
  rw [e]
  refine ⟨41, hg_root hb 40 0 (by omega) (by omega) ⟨by decide, ?_⟩⟩
  refine pk_eq lo ((d + hg_rtF 40 (5 * d * d) 0) / 2) (fun z => ?_) (fun z => ?_) rfl (by rw [nI_add, show (2 : Int32) = nI 2 from rfl, pk_div (by omega) (by omega) (by omega)]) (by omega) (by omega)
  · have k : hg_gold lo d = false := by
      unfold hg_gold
      rw [beq_iff_eq.mpr z]
      rfl
    rw [k] at hp
    exact hp
  · have k : hg_gold lo d = true := by
      unfold hg_gold
      rw [beq_eq_false_iff_ne.mpr z]
      rfl
    rw [k] at hp
    exact hp
theorem hg_goldX {post : Int32 → Prop} {a b : Nat} (ha : a ≤ 15) (hb : b ≤ 15) (hp : post (hg_bI (hg_gold (hg_lo a b) (hg_apart a b)))) : wpX_wonGolden post (f, h, m) (nI a) (nI b) := by
  by_cases z : b ≤ a
  · have e1 : hg_lo a b = b := if_pos z
    have e2 : hg_apart a b = a - b := if_pos z
    rw [e1, e2] at hp
    have hz : nI b ≤ nI a := nI_le z (by omega)
    refine br_t hz (br_t hz ?_)
    rw [pk_sub z]
    exact hg_golden25 hb (by omega) hp
  · have e1 : hg_lo a b = a := if_neg z
    have e2 : hg_apart a b = b - a := if_neg z
    rw [e1, e2] at hp
    have hz : ¬ nI b ≤ nI a := nI_ge (by omega) (by omega)
    refine br_f hz (br_f hz ?_)
    rw [pk_sub (by omega)]
    exact hg_golden25 ha (by omega) hp
theorem hg_ratio21 {post : Int32 → Prop} {lo hi : Nat} (hlo : lo ≤ 15) (hhi : hi ≤ 15) (hp : post (hg_bI (hg_ratio lo hi))) : wX_wonRatio_21 post (nI lo) (nI hi) f h m := by
  have m1 : hi * hi ≤ 225 := Nat.mul_le_mul hhi hhi
  have m2 : hi * lo ≤ 225 := Nat.mul_le_mul hhi hlo
  have m3 : lo * lo ≤ 225 := Nat.mul_le_mul hlo hlo
  refine pk_le lo 0 (fun z => ?_) (fun z => ?_)
  · have k : hg_ratio lo hi = false := by
      unfold hg_ratio
      rw [decide_eq_false (by omega)]
      rfl
    rw [k] at hp
    exact hp
  · refine pk_eq lo hi (fun z2 => ?_) (fun z2 => ?_)
    · have k : hg_ratio lo hi = true := by
        unfold hg_ratio
        rw [decide_eq_true z, beq_iff_eq.mpr z2]
        rfl
      rw [k] at hp
      exact hp
    · refine pk_le (hi * hi) (hi * lo + lo * lo) (fun z3 => ?_) (fun z3 => ?_) (by rw [pk_mul]) (by rw [pk_mul, pk_mul, nI_add]) (by omega) (by omega)
      · have k : hg_ratio lo hi = false := by
          unfold hg_ratio
          rw [decide_eq_true z, beq_eq_false_iff_ne.mpr z2, decide_eq_false (by omega)]
          rfl
        rw [k] at hp
        exact hp
      · have k : hg_ratio lo hi = true := by
          unfold hg_ratio
          rw [decide_eq_true z, beq_eq_false_iff_ne.mpr z2, decide_eq_true z3]
          rfl
        rw [k] at hp
        exact hp
theorem hg_ratioX {post : Int32 → Prop} {a b : Nat} (ha : a ≤ 15) (hb : b ≤ 15) (hp : post (hg_bI (hg_ratio (hg_lo a b) (hg_hi a b)))) : wpX_wonRatio post (f, h, m) (nI a) (nI b) := by
  by_cases z : b ≤ a
  · have e1 : hg_lo a b = b := if_pos z
    have e2 : hg_hi a b = a := if_pos z
    rw [e1, e2] at hp
    have hz : nI b ≤ nI a := nI_le z (by omega)
    exact br_t hz (br_t hz (hg_ratio21 hb ha hp))
  · have e1 : hg_lo a b = a := if_neg z
    have e2 : hg_hi a b = b := if_neg z
    rw [e1, e2] at hp
    have hz : ¬ nI b ≤ nI a := nI_ge (by omega) (by omega)
    exact br_f hz (br_f hz (hg_ratio21 ha hb hp))
theorem hg_xlt {x y z : Nat} (hx : x < 64) (hy : y < 64) (hz : z < 64) : x ^^^ y ^^^ z < 64 :=
  Nat.xor_lt_two_pow (n := 6) (Nat.xor_lt_two_pow (n := 6) hx hy) hz
theorem hg_xe {x y z : Nat} : nI x ^^^ nI y ^^^ nI z = nI (x ^^^ y ^^^ z) := by rw [nx_xor, nx_xor]
theorem hg_last20 {post : Int32 → Prop} {x y z : Nat} (b : Bool) (hx : x < 64) (hy : y < 64) (hz : z < 64) (hp : post (hg_bI (b == (x ^^^ y ^^^ z == 0)))) : wX_wonLast_20 post (nI x) (nI y) (nI z) (hg_bI b) f h m := by
  have hl := hg_xlt hx hy hz
  refine pk_eq (x ^^^ y ^^^ z) 0 (fun e => ?_) (fun e => ?_) hg_xe rfl (by omega) (by omega)
  · rw [beq_iff_eq.mpr e] at hp
    cases b
    · exact br_f (by decide) hp
    · exact br_t rfl hp
  · rw [beq_eq_false_iff_ne.mpr e] at hp
    cases b
    · exact br_t rfl hp
    · exact br_f (by decide) hp
theorem hg_lastX {post : Int32 → Prop} {x y z : Nat} (hx : x < 64) (hy : y < 64) (hz : z < 64) (hp : post (hg_bI (hg_won1 x y z))) : wpX_wonLast post (f, h, m) (nI x) (nI y) (nI z) := by
  have ks : (¬ (x < 2 ∧ y < 2 ∧ z < 2)) → hg_small x y z = false := by
    intro k
    unfold hg_small
    by_cases h1 : x < 2
    · by_cases h2 : y < 2
      · rw [decide_eq_false (p := z < 2) (fun h3 => k ⟨h1, h2, h3⟩), Bool.and_false]
      · rw [decide_eq_false (p := y < 2) h2, Bool.and_false, Bool.false_and]
    · rw [decide_eq_false (p := x < 2) h1, Bool.false_and, Bool.false_and]
  unfold hg_won1 at hp
  refine pk_le 2 x (fun z1 => ?_) (fun z1 => ?_)
  · rw [ks (by omega)] at hp
    exact hg_last20 false hx hy hz hp
  · refine pk_le 2 y (fun z2 => ?_) (fun z2 => ?_)
    · rw [ks (by omega)] at hp
      exact hg_last20 false hx hy hz hp
    · refine pk_le 2 z (fun z3 => ?_) (fun z3 => ?_)
      · rw [ks (by omega)] at hp
        exact hg_last20 false hx hy hz hp
      · have k : hg_small x y z = true := by
          unfold hg_small
          rw [decide_eq_true z1, decide_eq_true z2, decide_eq_true z3]
          rfl
        rw [k] at hp
        exact hg_last20 true hx hy hz hp
theorem hg_isWon {post : Int32 → Prop} {g x y z : Nat} (hg : g ≤ 7) (h6 : g ≠ 6) (hb : hg_Bd g x y z) (hp : post (hg_bI (hg_won g x y z))) : wpX_isWon post (f, h, m) (nI g) (nI x) (nI y) (nI z) := by
  obtain ⟨b1, b2, b3, b4⟩ := hb
  have hl := hg_xlt (x := x) (y := y) (z := z) (by omega) (by omega) (by omega)
  have hc : g = 0 ∨ g = 1 ∨ g = 2 ∨ g = 3 ∨ g = 4 ∨ g = 5 ∨ g = 7 := by omega
  rcases hc with rfl | rfl | rfl | rfl | rfl | rfl | rfl
  · refine br_t rfl ?_
    rw [hg_won_0] at hp
    unfold hg_won0 at hp
    refine pk_eq (x ^^^ y ^^^ z) 0 (fun e => ?_) (fun e => ?_) hg_xe rfl (by omega) (by omega)
    · rw [beq_iff_eq.mpr e] at hp
      exact hp
    · rw [beq_eq_false_iff_ne.mpr e] at hp
      exact hp
  · exact br_f (by decide) (br_t rfl (hg_lastX (by omega) (by omega) (by omega) ⟨hg_bI_n _, hp⟩))
  · refine br_f (by decide) (br_f (by decide) (br_t rfl ?_))
    rw [hg_won_2] at hp
    refine pk_eq x y (fun e => ?_) (fun e => ?_)
    · refine pk_eq y z (fun e2 => ?_) (fun e2 => ?_)
      · rw [decide_eq_false (by omega)] at hp
        exact hp
      · rw [decide_eq_true (Or.inr e2)] at hp
        exact hp
    · rw [decide_eq_true (Or.inl e)] at hp
      exact hp
  · refine br_f (by decide) (br_f (by decide) (br_f (by decide) (br_t rfl ?_)))
    rw [hg_won_3] at hp
    refine pk_eq x z (fun e => ?_) (fun e => ?_)
    · rw [decide_eq_false (by omega)] at hp
      exact hp
    · rw [decide_eq_true e] at hp
      exact hp
  · have b5 := b4 (by omega)
    exact br_f (by decide) (br_f (by decide) (br_f (by decide) (br_f (by decide) (br_t rfl (hg_goldX b5.1 b5.2 ⟨hg_bI_n _, hp⟩)))))
  · have b5 := b4 (by omega)
    exact br_f (by decide) (br_f (by decide) (br_f (by decide) (br_f (by decide) (br_f (by decide) (br_t rfl (hg_ratioX b5.1 b5.2 ⟨hg_bI_n _, hp⟩))))))
  · refine br_f (by decide) (br_f (by decide) (br_f (by decide) (br_f (by decide) (br_f (by decide) (br_f (by decide) ?_)))))
    rw [hg_won_7] at hp
    unfold hg_won7 at hp
    refine pk_eq ((x ^^^ y ^^^ z) % 4) 0 (fun e => ?_) (fun e => ?_) (by rw [hg_xe]; exact pk_andN (by omega) 2 (by decide)) rfl (by omega) (by omega)
    · rw [beq_iff_eq.mpr e] at hp
      exact hp
    · rw [beq_eq_false_iff_ne.mpr e] at hp
      exact hp
/-! the single heap -/
theorem hg_lpI_s {k l a b : Nat} : hg_lpI (k + 1) l a b = if l < b then a else hg_lpI k l b (a + b) := rfl
theorem hg_lpO_s {k l p : Nat} : hg_lpO (k + 1) l p = if l = 0 then p else hg_lpO k (l - hg_lpI 60 l 1 2) (hg_lpI 60 l 1 2) := rfl
theorem hg_lpI_b {l : Nat} : ∀ k a b, 1 ≤ a → a ≤ l → 1 ≤ b → 1 ≤ hg_lpI k l a b ∧ hg_lpI k l a b ≤ l := by
  intro k
  induction k with
  | zero => exact fun a b h1 h2 h3 => ⟨h1, h2⟩
  | succ k ih =>
    intro a b h1 h2 h3
    rw [hg_lpI_s]
    split
    · exact ⟨h1, h2⟩
    · exact ih b (a + b) h3 (by omega) (by omega)
theorem hg_lp14 {post : Int32 → Prop} {J4 : Int32 → Int32 → Prop} {l : Nat} (hl : l ≤ 60) : ∀ k a b : Nat, 1 ≤ a → a ≤ l → 1 ≤ b → b ≤ 200 → l < b + k → J4 (nI (l - hg_lpI k l a b)) (nI (hg_lpI k l a b)) → wX_leastPart_14 post J4 (nI l) f h m (k + 1) (nI a) (nI b) := by
  intro k
  induction k with
  | zero =>
    intro a b h1 h2 h3 h4 h5 hp
    exact br_t (nI_lt (by omega) (by omega)) (nm_r (pk_sub h2) hp)
  | succ k ih =>
    intro a b h1 h2 h3 h4 h5 hp
    rw [hg_lpI_s] at hp
    refine pk_lt l b (fun z => ?_) (fun z => ?_)
    · rw [if_pos z] at hp
      exact nm_r (pk_sub h2) hp
    · rw [if_neg (Nat.not_lt.mpr z)] at hp
      exact nm_r (nI_add a b) (ih b (a + b) h3 z (by omega) (by omega) (by omega) hp)
theorem hg_lp4 {post : Int32 → Prop} : ∀ k l p : Nat, l ≤ k → l ≤ 60 → post (nI (hg_lpO k l p)) → wX_leastPart_4 post f h m (k + 1) (nI l) (nI p) := by
  intro k
  induction k with
  | zero =>
    intro l p h1 h2 hp
    exact pk_le l 0 (fun _ => hp) (fun z => by omega)
  | succ k ih =>
    intro l p h1 h2 hp
    rw [hg_lpO_s] at hp
    refine pk_le l 0 (fun z => ?_) (fun z => ?_)
    · rw [if_pos (by omega)] at hp
      exact hp
    · rw [if_neg (by omega)] at hp
      have hb := hg_lpI_b (l := l) 60 1 2 (by omega) (by omega) (by omega)
      exact ⟨61, hg_lp14 h2 60 1 2 (by omega) (by omega) (by omega) (by omega) (by omega) (ih _ _ (by omega) (by omega) hp)⟩
theorem hg_wonWith {post : Int32 → Prop} {n l : Nat} (hn : n ≤ 60) (hl : l ≤ 1000) (hp : post (hg_bI (hg_W n l))) : wpX_wonWith post (f, h, m) (nI n) (nI l) := by
  have hq := hg_lp_le n (by omega)
  refine ⟨61, hg_lp4 60 n 0 hn hn ?_⟩
  unfold hg_W at hp
  refine pk_le n 0 (fun z => ?_) (fun z => ?_)
  · rw [decide_eq_false (by omega), Bool.false_and] at hp
    exact hp
  · rw [decide_eq_true z, Bool.true_and] at hp
    refine pk_lt l (hg_lpO 60 n 0) (fun z2 => ?_) (fun z2 => ?_)
    · rw [decide_eq_false (Nat.not_le.mpr z2)] at hp
      exact hp
    · rw [decide_eq_true z2] at hp
      exact hp
def hg_H (h : Nat → Int32) (a b c : Nat) : Prop := a ≤ 15 ∧ b ≤ 15 ∧ c ≤ 15 ∧ h 0 = nI a ∧ h 1 = nI b ∧ h 2 = nI c
theorem hg_N_le {a b : Nat} : hg_N a b ≤ 60 := by
  unfold hg_N
  split <;> omega
theorem hg_single {post : Int32 → Prop} {a b c : Nat} (H : hg_H h a b c) (hp : post (nI (hg_N a b))) : wpX_single post (f, h, m) := by
  obtain ⟨ha, hb, hc, e0, e1, e2⟩ := H
  refine nm_r (e' := nI (a + 16 * b)) (by rw [e0, e1, show (16 : Int32) = nI 16 from rfl, pk_mul, nI_add]) ?_
  refine pk_le (a + 16 * b) 60 (fun z => ?_) (fun z => ?_)
  · rw [show hg_N a b = a + 16 * b from if_pos z] at hp
    exact hp
  · rw [show hg_N a b = 60 from if_neg (by omega)] at hp
    exact hp
def hg_ans (g a b c : Nat) : Bool := if g = 6 then hg_W (hg_N a b) c else hg_won g a b c
theorem hg_badX {post : Int32 → Prop} {g : Nat} (hg : g ≤ 7) (hp : post 0) : wpX_badGame post (f, h, m) (nI g) := br_f (nI_pos (by omega)) (br_t (nI_le (b := 7) hg (by omega)) hp)
theorem hg_bd {g a b c : Nat} (ha : a ≤ 15) (hb : b ≤ 15) (hc : c ≤ 15) : hg_Bd g a b c := ⟨by omega, by omega, hc, fun _ => ⟨ha, hb⟩⟩
theorem hg_won56 {post : Int32 → Prop} {b : Bool} (hp : post (hg_bI b)) : wX_won_56 post (hg_bI b) f h m := by
  cases b
  · exact br_t rfl hp
  · exact br_f (by decide) hp
theorem hg_wonX {post : Int32 → Prop} {g a b c : Nat} (H : hg_H h a b c) (hg : g ≤ 7) (hp : post (hg_bI (hg_ans g a b c))) : wpX_won post (f, h, m) (nI g) := by
  unfold wpX_won
  dsimp only
  refine hg_badX hg ?_
  refine br_t rfl ?_
  unfold hg_ans at hp
  refine pk_eq g 6 (fun z => ?_) (fun z => ?_)
  · rw [if_pos z] at hp
    refine hg_single H ?_
    obtain ⟨ha, hb, hc, e0, e1, e2⟩ := H
    rw [e2]
    exact hg_wonWith hg_N_le (by omega) (hg_won56 hp)
  · rw [if_neg z] at hp
    obtain ⟨ha, hb, hc, e0, e1, e2⟩ := H
    rw [e0, e1, e2]
    exact hg_isWon hg z (hg_bd ha hb hc) (hg_won56 hp)
end HG4
end
section
/-! the component: a move is put among the others -/
section HG5
variable {f : Int32} {h m : Nat → Int32}
theorem hg_keep5 {post : SX → Prop} {P : Nat → Prop} {c v : Nat} {s : Nat → Nat} (hs : hg_Srt c s P) (hc : c < 800) (hv : v < 1048576) (hm : ∀ i, i < c → m i = nI (s i)) (hb : ∀ i, i < c → s i < 1048576) (K : ∀ t, t ≤ c → (∀ i, i < t → s i ≤ v) → (∀ i, t ≤ i → i < c → v < s i) → wX_keep_27 post (nI v) (nI t) (nI c) h m) : ∀ t, t ≤ c → (∀ i, t ≤ i → i < c → v < s i) → wX_keep_5 post (nI v) (nI c) h m (t + 1) (nI t) := by
  intro t
  induction t with
  | zero =>
    intro ht hh
    exact pk_le 0 0 (fun _ => K 0 ht (fun i hi => by omega) hh) (fun z => by omega)
  | succ t ih =>
    intro ht hh
    have e : m (nI (t + 1) - 1).toNatClampNeg = nI (s t) := by
      rw [nI_pred, nI_clamp (by omega)]
      exact hm t (by omega)
    have hst := hb t (by omega)
    refine br_f (nI_nle (by omega) (by omega)) ⟨by rw [nI_pred]; exact vp_in_nI (by omega) (by omega), ?_⟩
    rw [e]
    refine pk_le (s t) v (fun z => ?_) (fun z => ?_)
    · refine K (t + 1) ht (fun i hi => ?_) hh
      by_cases h1 : i = t
      · rw [h1]; exact z
      · exact Nat.le_trans (Nat.le_of_lt (hs.1 i t (by omega) (by omega))) z
    · refine nm_r (pk_m1 t) (ih (by omega) (fun i hi hi2 => ?_))
      by_cases h1 : i = t
      · rw [h1]; exact z
      · exact hh i (by omega) hi2
theorem hg_keep59 {post : SX → Prop} {c t v : Nat} (hc : c < 800) (htc : t ≤ c) (K : ∀ m', (∀ j, j < t → m' j = m j) → m' t = nI v → (∀ j, t < j → j ≤ c → m' j = m (j - 1)) → post (nI (c + 1), h, m')) : ∀ (d : Nat) (m' : Nat → Int32), t + d ≤ c → (∀ j, j < t + d → m' j = m j) → (∀ j, t + d < j → j ≤ c → m' j = m (j - 1)) → wX_keep_59 post (nI v) (nI t) (nI c) (d + 1) (nI (t + d)) h m' := by
  intro d
  induction d with
  | zero =>
    intro m' hd h1 h2
    refine br_t (nI_le (Nat.le_refl _) (by omega)) ⟨vp_in_nI (by omega) (by omega), ?_⟩
    refine nm_r (e' := upd m' t (nI v)) (by rw [nI_clamp (by omega)]) (nm_r (nI_1 c) (K _ ?_ pk_us ?_))
    · intro j hj
      rw [pk_un (by omega)]
      exact h1 j (by omega)
    · intro j hj hj2
      rw [pk_un (by omega)]
      exact h2 j (by omega) hj2
  | succ d ih =>
    intro m' hd h1 h2
    have e : nI (t + (d + 1)) - 1 = nI (t + d) := nI_pred (t + d)
    refine br_f (nI_ge (by omega) (by omega)) ⟨by rw [e]; exact vp_in_nI (by omega) (by omega), vp_in_nI (by omega) (by omega), ?_⟩
    refine nm_r (e' := upd m' (t + (d + 1)) (m (t + d))) ?_ (nm_r (pk_m1 (t + d)) (ih _ (by omega) ?_ ?_))
    · rw [e, nI_clamp (by omega), nI_clamp (by omega), h1 (t + d) (by omega)]
    · intro j hj
      rw [pk_un (by omega)]
      exact h1 j (by omega)
    · intro j hj hj2
      by_cases h3 : j = t + (d + 1)
      · rw [h3, pk_us]
        rfl
      · rw [pk_un h3]
        exact h2 j (by omega) hj2
theorem hg_keep {post : SX → Prop} {P Q : Nat → Prop} {B v : Nat} (H : hg_X P B f m) (hB : B < 800) (hv : v < 1048576) (hQ : ∀ n, Q n ↔ P n ∨ n = v) (K : ∀ f' m', hg_X Q (B + 1) f' m' → post (f', h, m')) : wpX_keep post (f, h, m) (nI v) := by
  obtain ⟨c, s, hs, hcB, rfl, hm, hP⟩ := H
  have hb : ∀ i, i < c → s i < 1048576 := fun i hi => hP _ ((hs.2 _).mpr ⟨i, hi, rfl⟩)
  have hQb : ∀ n, Q n → n < 1048576 := by
    intro n hn
    rcases (hQ n).mp hn with h1 | h1
    · exact hP n h1
    · omega
  have F : ∀ t, t ≤ c → (∀ i, i < t → s i < v) → (∀ i, t ≤ i → i < c → v < s i) → wX_keep_43 post (nI v) (nI t) (nI c) h m := by
    intro t ht hl hh
    refine br_f (fun z => ?_) ⟨c - t + 1, ?_⟩
    · have z1 := (nI_eq (b := 800) (by omega) (by omega)).mp z
      omega
    · have k := hg_keep59 (h := h) (m := m) (post := post) (v := v) (by omega : c < 800) ht (fun m' k1 k2 k3 => K _ m' ⟨c + 1, hg_ins t v s, hg_ins_ok hs ht hl hh hQ, by omega, rfl, ?_, hQb⟩) (c - t) m (by omega) (fun j _ => rfl) (fun j hj hj2 => by omega)
      · rw [show t + (c - t) = c by omega] at k
        exact k
      · intro i hi
        rcases Nat.lt_trichotomy i t with h1 | h1 | h1
        · rw [k1 i h1, hg_ins_lo h1]
          exact hm i (by omega)
        · rw [h1, k2, hg_ins_eq]
        · rw [k3 i h1 (by omega), hg_ins_hi h1]
          exact hm (i - 1) (by omega)
  refine ⟨c + 1, hg_keep5 hs (by omega) hv hm hb (fun t ht hl hh => ?_) c (Nat.le_refl _) (fun i hi hi2 => by omega)⟩
  cases t with
  | zero => exact pk_le 0 0 (fun _ => F 0 ht (fun i hi => by omega) hh) (fun z => by omega)
  | succ t =>
    have e : m (nI (t + 1) - 1).toNatClampNeg = nI (s t) := by
      rw [nI_pred, nI_clamp (by omega)]
      exact hm t (by omega)
    have hst := hb t (by omega)
    refine br_f (nI_nle (by omega) (by omega)) ⟨by rw [nI_pred]; exact vp_in_nI (by omega) (by omega), ?_⟩
    rw [e]
    refine pk_eq (s t) v (fun z => ?_) (fun z => ?_)
    · refine K _ m ⟨c, s, hg_Srt_iff hs (fun n => (hQ n).trans ⟨fun k => k.elim id (fun k1 => ?_), Or.inl⟩), by omega, rfl, hm, hQb⟩
      rw [k1, ← z]
      exact (hs.2 _).mpr ⟨t, by omega, rfl⟩
    · refine F (t + 1) ht (fun i hi => ?_) hh
      have h0 := hl t (by omega)
      by_cases h1 : i = t
      · rw [h1]; omega
      · have := hs.1 i t (by omega) (by omega)
        omega
/-- the moves considered so far are S; those that are kept stand in the array -/
def hg_XS (g : Nat) (al : Bool) (S : Nat → Nat → Nat → Prop) (B : Nat) (f : Int32) (m : Nat → Int32) : Prop := hg_X (fun n => ∃ p q r, S p q r ∧ (al = true ∨ hg_won g p q r = false) ∧ n = hg_num p q r) B f m
theorem hg_XS_iff {g : Nat} {al : Bool} {S S' : Nat → Nat → Nat → Prop} {B : Nat} (H : hg_XS g al S B f m) (e : ∀ p q r, S' p q r ↔ S p q r) : hg_XS g al S' B f m :=
  hg_X_iff H (fun n => ⟨fun ⟨p, q, r, h1, h2⟩ => ⟨p, q, r, (e p q r).mp h1, h2⟩, fun ⟨p, q, r, h1, h2⟩ => ⟨p, q, r, (e p q r).mpr h1, h2⟩⟩)
theorem hg_XS_le {g : Nat} {al : Bool} {S : Nat → Nat → Nat → Prop} {B B' : Nat} (H : hg_XS g al S B f m) (e : B ≤ B') : hg_XS g al S B' f m := hg_X_le H e
theorem hg_XS_0 {g : Nat} {al : Bool} : hg_XS g al (fun _ _ _ => False) 0 0 m :=
  hg_X_iff hg_X_0 (fun n => ⟨fun ⟨_, _, _, h1, _⟩ => h1, fun z => z.elim⟩)
theorem hg_cons {post : SX → Prop} {g x y z B : Nat} {al : Bool} {S : Nat → Nat → Nat → Prop} (H : hg_XS g al S B f m) (hB : B < 800) (hg : g ≤ 7) (h6 : g ≠ 6) (hb : hg_Bd g x y z) {X Y Z : Int32} (eX : X = nI x) (eY : Y = nI y) (eZ : Z = nI z) {S' : Nat → Nat → Nat → Prop} (hS : ∀ p q r, S' p q r ↔ S p q r ∨ (p = x ∧ q = y ∧ r = z)) (K : ∀ f' m', hg_XS g al S' (B + 1) f' m' → post (f', h, m')) : wpX_consider post (f, h, m) (nI g) X Y Z (hg_bI al) := by
  subst eX eY eZ
  have en : (nI x + 32 * nI y) + 1024 * nI z = nI (hg_num x y z) := by
    rw [show (32 : Int32) = nI 32 from rfl, show (1024 : Int32) = nI 1024 from rfl, pk_mul, pk_mul, nI_add, nI_add]
    rfl
  have hn : hg_num x y z < 1048576 := by
    obtain ⟨b1, b2, b3, b4⟩ := hb
    unfold hg_num
    omega
  have k17 : (al = true ∨ hg_won g x y z = false) → wX_consider_17 post (nI x) (nI y) (nI z) f h m := by
    intro hw
    unfold wX_consider_17
    rw [en]
    refine hg_keep H hB hn (fun n => ?_) (fun f' m' k => K f' m' k)
    constructor
    · rintro ⟨p, q, r, h1, h2, h3⟩
      rcases (hS p q r).mp h1 with h4 | ⟨rfl, rfl, rfl⟩
      · exact Or.inl ⟨p, q, r, h4, h2, h3⟩
      · exact Or.inr h3
    · rintro (⟨p, q, r, h1, h2, h3⟩ | h3)
      · exact ⟨p, q, r, (hS p q r).mpr (Or.inl h1), h2, h3⟩
      · exact ⟨x, y, z, (hS x y z).mpr (Or.inr ⟨rfl, rfl, rfl⟩), hw, h3⟩
  cases al with
  | true => exact br_f (by decide) (k17 (Or.inl rfl))
  | false =>
    refine br_t rfl (hg_isWon hg h6 hb ?_)
    cases hw : hg_won g x y z with
    | false => exact br_t rfl (k17 (Or.inr hw))
    | true =>
      refine br_f (by decide) (K f m (hg_X_le (hg_X_iff H (fun n => ?_)) (by omega)))
      constructor
      · rintro ⟨p, q, r, h1, h2, h3⟩
        rcases (hS p q r).mp h1 with h4 | ⟨rfl, rfl, rfl⟩
        · exact ⟨p, q, r, h4, h2, h3⟩
        · rcases h2 with h2 | h2
          · cases h2
          · rw [hw] at h2
            cases h2
      · rintro ⟨p, q, r, h1, h2, h3⟩
        exact ⟨p, q, r, (hS p q r).mpr (Or.inl h1), h2, h3⟩
end HG5
end
section
/-! the component: moves from one heap -/
section HG6
variable {f : Int32} {h m : Nat → Int32}
def hg_S1 (g M a b c k p q r : Nat) : Prop := (q = b ∧ r = c ∧ p < a ∧ a ≤ p + M ∧ 3 * (a - p - 1) < k) ∨ (p = a ∧ r = c ∧ q < b ∧ b ≤ q + M ∧ 3 * (b - q - 1) + 1 < k) ∨ (g ≠ 4 ∧ p = a ∧ q = b ∧ r < c ∧ c ≤ r + M ∧ 3 * (c - r - 1) + 2 < k)
theorem hg_f40_0 {post : SX → Prop} {J3 : Int32 → Int32 → (Nat → Int32) → (Nat → Int32) → Prop} {g M k t a b c B : Nat} {al : Bool} {S : Nat → Nat → Nat → Prop} (H : hg_H h a b c) (hX : hg_XS g al S B f m) (hB : B < 800) (hg : g ≤ 7) (h6 : g ≠ 6) (hM : M ≤ 15) (ht : t ≤ 16) (hk : k ≤ 48) (hN : a < t + 1 ∨ M < t + 1 → J3 (nI (k + 1)) f h m) (hY : ∀ f' m', t + 1 ≤ a → t + 1 ≤ M → hg_XS g al (fun p q r => S p q r ∨ (p = a - (t + 1) ∧ q = b ∧ r = c)) (B + 1) f' m' → J3 (nI (k + 1)) f' h m') : wX_fromOne_40 post J3 (nI g) (nI M) (hg_bI al) (nI k) (nI 0) (nI (t + 1)) 1 f h m := by
  obtain ⟨ha, hb, hc, e0, e1, e2⟩ := H
  have ei : h (nI 0).toNatClampNeg = nI a := by rw [nI_clamp (by omega)]; exact e0
  refine br_f (by decide) ⟨vp_in_nI (by omega) (by omega), ?_⟩
  rw [ei]
  refine pk_lt a (t + 1) (fun z => nm_r (nI_1 k) (hN (Or.inl z))) (fun z => ?_)
  refine pk_lt M (t + 1) (fun z2 => nm_r (nI_1 k) (hN (Or.inr z2))) (fun z2 => ?_)
  refine br_t rfl (br_f (by decide) (br_f (by decide) ?_))
  exact hg_cons (x := a - (t + 1)) (y := b) (z := c) hX hB hg h6 (hg_bd (by omega) hb hc) (by rw [e0, pk_sub z]) (by rw [e1, Int32.sub_zero]) (by rw [e2, Int32.sub_zero]) (fun p q r => Iff.rfl) (fun f' m' k' => nm_r (nI_1 k) (hY f' m' z z2 k'))
theorem hg_f40_1 {post : SX → Prop} {J3 : Int32 → Int32 → (Nat → Int32) → (Nat → Int32) → Prop} {g M k t a b c B : Nat} {al : Bool} {S : Nat → Nat → Nat → Prop} (H : hg_H h a b c) (hX : hg_XS g al S B f m) (hB : B < 800) (hg : g ≤ 7) (h6 : g ≠ 6) (hM : M ≤ 15) (ht : t ≤ 16) (hk : k ≤ 48) (hN : b < t + 1 ∨ M < t + 1 → J3 (nI (k + 1)) f h m) (hY : ∀ f' m', t + 1 ≤ b → t + 1 ≤ M → hg_XS g al (fun p q r => S p q r ∨ (p = a ∧ q = b - (t + 1) ∧ r = c)) (B + 1) f' m' → J3 (nI (k + 1)) f' h m') : wX_fromOne_40 post J3 (nI g) (nI M) (hg_bI al) (nI k) (nI 1) (nI (t + 1)) 1 f h m := by
  obtain ⟨ha, hb, hc, e0, e1, e2⟩ := H
  have ei : h (nI 1).toNatClampNeg = nI b := by rw [nI_clamp (by omega)]; exact e1
  refine br_f (by decide) ⟨vp_in_nI (by omega) (by omega), ?_⟩
  rw [ei]
  refine pk_lt b (t + 1) (fun z => nm_r (nI_1 k) (hN (Or.inl z))) (fun z => ?_)
  refine pk_lt M (t + 1) (fun z2 => nm_r (nI_1 k) (hN (Or.inr z2))) (fun z2 => ?_)
  refine br_f (by decide) (br_t rfl (br_f (by decide) ?_))
  exact hg_cons (x := a) (y := b - (t + 1)) (z := c) hX hB hg h6 (hg_bd ha (by omega) hc) (by rw [e0, Int32.sub_zero]) (by rw [e1, pk_sub z]) (by rw [e2, Int32.sub_zero]) (fun p q r => Iff.rfl) (fun f' m' k' => nm_r (nI_1 k) (hY f' m' z z2 k'))
theorem hg_f40_2 {post : SX → Prop} {J3 : Int32 → Int32 → (Nat → Int32) → (Nat → Int32) → Prop} {g M k t a b c B : Nat} {al : Bool} {S : Nat → Nat → Nat → Prop} (H : hg_H h a b c) (hX : hg_XS g al S B f m) (hB : B < 800) (hg : g ≤ 7) (h6 : g ≠ 6) (hM : M ≤ 15) (ht : t ≤ 16) (hk : k ≤ 48) (hN : c < t + 1 ∨ M < t + 1 → J3 (nI (k + 1)) f h m) (hY : ∀ f' m', t + 1 ≤ c → t + 1 ≤ M → hg_XS g al (fun p q r => S p q r ∨ (p = a ∧ q = b ∧ r = c - (t + 1))) (B + 1) f' m' → J3 (nI (k + 1)) f' h m') : wX_fromOne_40 post J3 (nI g) (nI M) (hg_bI al) (nI k) (nI 2) (nI (t + 1)) 1 f h m := by
  obtain ⟨ha, hb, hc, e0, e1, e2⟩ := H
  have ei : h (nI 2).toNatClampNeg = nI c := by rw [nI_clamp (by omega)]; exact e2
  refine br_f (by decide) ⟨vp_in_nI (by omega) (by omega), ?_⟩
  rw [ei]
  refine pk_lt c (t + 1) (fun z => nm_r (nI_1 k) (hN (Or.inl z))) (fun z => ?_)
  refine pk_lt M (t + 1) (fun z2 => nm_r (nI_1 k) (hN (Or.inr z2))) (fun z2 => ?_)
  refine br_f (by decide) (br_f (by decide) (br_t rfl ?_))
  exact hg_cons (x := a) (y := b) (z := c - (t + 1)) hX hB hg h6 (hg_bd ha hb (by omega)) (by rw [e0, Int32.sub_zero]) (by rw [e1, Int32.sub_zero]) (by rw [e2, pk_sub z]) (fun p q r => Iff.rfl) (fun f' m' k' => nm_r (nI_1 k) (hY f' m' z z2 k'))
theorem hg_fromOne3 {post : SX → Prop} {g M a b c : Nat} {al : Bool} (H : hg_H h a b c) (hg : g ≤ 7) (h6 : g ≠ 6) (hM : M ≤ 15) (K : ∀ f' m', hg_XS g al (hg_S1 g M a b c 48) 48 f' m' → post (f', h, m')) : ∀ (d k : Nat) (f : Int32) (m : Nat → Int32), k + d = 48 → hg_XS g al (hg_S1 g M a b c k) k f m → wX_fromOne_3 post (nI g) (nI M) (hg_bI al) (d + 1) (nI k) f h m := by
  intro d
  induction d with
  | zero =>
    intro k f m hk hX
    obtain rfl : k = 48 := by omega
    exact br_t (by decide) (K f m hX)
  | succ d ih =>
    intro k f m hk hX
    refine br_f (nI_ge (b := 48) (by omega) (by omega)) ⟨by decide, ?_⟩
    refine nm_r (e' := nI (k % 3)) (pk_rem (d := 3) (by omega) (by omega) (by omega)) ⟨by decide, ?_⟩
    refine nm_r (e' := nI (k / 3 + 1)) (by rw [show (3 : Int32) = nI 3 from rfl, pk_div (by omega) (by omega) (by omega), nI_1]) ?_
    rcases (by omega : k % 3 = 0 ∨ k % 3 = 1 ∨ k % 3 = 2) with e | e | e
    · rw [e]
      refine br_t (by decide) ?_
      refine hg_f40_0 (t := k / 3) H hX (by omega) hg h6 hM (by omega) (by omega) (fun hn => ih (k + 1) f m (by omega) (hg_XS_iff (hg_XS_le hX (by omega)) (fun p q r => ?_))) (fun f' m' k1 k2 k3 => ih (k + 1) f' m' (by omega) (hg_XS_iff k3 (fun p q r => ?_)))
      · unfold hg_S1; omega
      · unfold hg_S1; omega
    · rw [e]
      refine br_t (by decide) ?_
      refine hg_f40_1 (t := k / 3) H hX (by omega) hg h6 hM (by omega) (by omega) (fun hn => ih (k + 1) f m (by omega) (hg_XS_iff (hg_XS_le hX (by omega)) (fun p q r => ?_))) (fun f' m' k1 k2 k3 => ih (k + 1) f' m' (by omega) (hg_XS_iff k3 (fun p q r => ?_)))
      · unfold hg_S1; omega
      · unfold hg_S1; omega
    · rw [e]
      refine br_f (by decide) (pk_eq g 4 (fun z => ?_) (fun z => ?_))
      · refine br_t rfl (nm_r (nI_1 k) (ih (k + 1) f m (by omega) (hg_XS_iff (hg_XS_le hX (by omega)) (fun p q r => ?_))))
        unfold hg_S1; omega
      · refine hg_f40_2 (t := k / 3) H hX (by omega) hg h6 hM (by omega) (by omega) (fun hn => ih (k + 1) f m (by omega) (hg_XS_iff (hg_XS_le hX (by omega)) (fun p q r => ?_))) (fun f' m' k1 k2 k3 => ih (k + 1) f' m' (by omega) (hg_XS_iff k3 (fun p q r => ?_)))
        · unfold hg_S1; omega
        · unfold hg_S1; omega
theorem hg_fromOne {post : SX → Prop} {g M a b c : Nat} {al : Bool} (H : hg_H h a b c) (hg : g ≤ 7) (h6 : g ≠ 6) (hM : M ≤ 15) (K : ∀ f' m', hg_XS g al (hg_S1 g M a b c 48) 48 f' m' → post (f', h, m')) : wpX_fromOne post (0, h, m) (nI g) (nI M) (hg_bI al) := by
  refine ⟨49, hg_fromOne3 H hg h6 hM K 48 0 0 m rfl (hg_XS_iff hg_XS_0 (fun p q r => ⟨fun w => ?_, fun w => w.elim⟩))⟩
  unfold hg_S1 at w
  omega
end HG6
end
section
/-! the component: moves from two heaps -/
section HG7
variable {f : Int32} {h m : Nat → Int32}
theorem hg_dm {u w k p q : Nat} (hk : k < u * w) (hu : 0 < u) : (p < u ∧ q < w ∧ q * u + p < k + 1) ↔ (p < u ∧ q < w ∧ q * u + p < k) ∨ (p = k % u ∧ q = k / u) := by
  constructor
  · rintro ⟨h1, h2, h3⟩
    by_cases h4 : q * u + p < k
    · exact Or.inl ⟨h1, h2, h4⟩
    · have e : k = p + q * u := by omega
      refine Or.inr ⟨?_, ?_⟩
      · rw [e, Nat.add_mul_mod_self_right, Nat.mod_eq_of_lt h1]
      · rw [e, Nat.add_mul_div_right _ _ hu, Nat.div_eq_of_lt h1, Nat.zero_add]
  · rintro (⟨h1, h2, h3⟩ | ⟨h1, h2⟩)
    · exact ⟨h1, h2, by omega⟩
    · have h3 := Nat.div_add_mod' k u
      rw [← h1, ← h2] at h3
      refine ⟨by rw [h1]; exact Nat.mod_lt _ hu, by rw [h2]; exact Nat.div_lt_of_lt_mul hk, by omega⟩
theorem hg_un {S0 T T' E : Prop} (h : T' ↔ T ∨ E) : (S0 ∨ T') ↔ (S0 ∨ T) ∨ E := by
  rw [h]
  exact or_assoc.symm
def hg_T0 (a b c k p q r : Nat) : Prop := p = a ∧ (q < b ∧ r < c ∧ r * b + q < k)
theorem hg_T0_s {a b c k p q r : Nat} (hk : k < b * c) (hu : 0 < b) : hg_T0 a b c (k + 1) p q r ↔ hg_T0 a b c k p q r ∨ (p = a ∧ q = (k % b) ∧ r = (k / b)) := by
  have dm := hg_dm (p := q) (q := r) hk hu
  unfold hg_T0
  constructor
  · rintro ⟨h1, h2⟩
    rcases dm.mp h2 with h3 | ⟨h3, h4⟩
    · exact Or.inl ⟨h1, h3⟩
    · exact Or.inr ⟨h1, h3, h4⟩
  · rintro (⟨h1, h2⟩ | ⟨h1, h3, h4⟩)
    · exact ⟨h1, dm.mpr (Or.inl h2)⟩
    · exact ⟨h1, dm.mpr (Or.inr ⟨h3, h4⟩)⟩
theorem hg_two25_0 {post : SX → Prop} {a b c B : Nat} {al : Bool} {S : Nat → Nat → Nat → Prop} (H : hg_H h a b c) (hB : B ≤ 500) (K : ∀ f' m', hg_XS 2 al (fun p q r => S p q r ∨ hg_T0 a b c (b * c) p q r) (B + b * c) f' m' → post (f', h, m')) : ∀ (d k : Nat) (f : Int32) (m : Nat → Int32), k + d = b * c → hg_XS 2 al (fun p q r => S p q r ∨ hg_T0 a b c k p q r) (B + k) f m → wX_fromTwo_25 post (hg_bI al) (nI 1) (nI 2) (d + 1) (nI k) f h m := by
  obtain ⟨ha, hb, hc, e0, e1, e2⟩ := H
  have hUW : b * c ≤ 15 * 15 := Nat.mul_le_mul hb hc
  have ei : h (nI 1).toNatClampNeg = nI b := by rw [nI_clamp (by omega)]; exact e1
  have ej : h (nI 2).toNatClampNeg = nI c := by rw [nI_clamp (by omega)]; exact e2
  intro d
  induction d with
  | zero =>
    intro k f m hk hX
    obtain rfl : k = b * c := by omega
    refine ⟨vp_in_nI (by omega) (by omega), vp_in_nI (by omega) (by omega), ?_⟩
    rw [ei, ej, pk_mul]
    exact br_t (nI_le (Nat.le_refl _) (by omega)) (K f m hX)
  | succ d ih =>
    intro k f m hk hX
    have hu : 0 < b := Nat.pos_of_ne_zero (fun z => by rw [z, Nat.zero_mul] at hk; omega)
    have hkl : k < b * c := by omega
    have hm1 : k % b < b := Nat.mod_lt _ hu
    have hd1 : k / b < c := Nat.div_lt_of_lt_mul hkl
    refine ⟨vp_in_nI (by omega) (by omega), vp_in_nI (by omega) (by omega), ?_⟩
    rw [ei, ej, pk_mul]
    refine br_f (nI_ge (by omega) (by omega)) ⟨vp_in_nI (by omega) (by omega), nI_ne0 hu (by omega), ?_⟩
    refine nm_r (e' := nI (k % b)) (pk_rem (by omega) hu (by omega)) ⟨vp_in_nI (by omega) (by omega), nI_ne0 hu (by omega), ?_⟩
    refine nm_r (e' := nI (k / b)) (pk_div (by omega) hu (by omega)) ?_
    refine br_f (by decide) (br_t rfl (br_t rfl ?_))
    exact hg_cons (g := 2) (x := a) (y := (k % b)) (z := (k / b)) hX (by omega) (by omega) (by omega) (hg_bd ha (by omega) (by omega)) e0 rfl rfl (fun p q r => hg_un (hg_T0_s hkl hu)) (fun f' m' k' => nm_r (nI_1 k) (ih (k + 1) f' m' (by omega) k'))
theorem hg_two_0 {post : SX → Prop} {a b c B : Nat} {al : Bool} {S : Nat → Nat → Nat → Prop} (H : hg_H h a b c) (hB : B ≤ 500) (hX : hg_XS 2 al S B f m) (K : ∀ f' m', hg_XS 2 al (fun p q r => S p q r ∨ hg_T0 a b c (b * c) p q r) (B + 225) f' m' → post (f', h, m')) : wpX_fromTwo post (f, h, m) 0 (hg_bI al) := by
  have hUW : b * c ≤ 15 * 15 := Nat.mul_le_mul H.2.1 H.2.2.1
  refine br_t rfl (br_f (by decide) ⟨b * c + 1, hg_two25_0 H hB (fun f' m' k => K f' m' (hg_XS_le k (by omega))) (b * c) 0 f m (Nat.zero_add _) (hg_XS_iff hX (fun p q r => ?_))⟩)
  unfold hg_T0
  constructor
  · rintro (h1 | ⟨_, _, _, h1⟩)
    · exact h1
    · omega
  · exact Or.inl
def hg_T1 (a b c k p q r : Nat) : Prop := q = b ∧ (p < a ∧ r < c ∧ r * a + p < k)
theorem hg_T1_s {a b c k p q r : Nat} (hk : k < a * c) (hu : 0 < a) : hg_T1 a b c (k + 1) p q r ↔ hg_T1 a b c k p q r ∨ (p = (k % a) ∧ q = b ∧ r = (k / a)) := by
  have dm := hg_dm (p := p) (q := r) hk hu
  unfold hg_T1
  constructor
  · rintro ⟨h1, h2⟩
    rcases dm.mp h2 with h3 | ⟨h3, h4⟩
    · exact Or.inl ⟨h1, h3⟩
    · exact Or.inr ⟨h3, h1, h4⟩
  · rintro (⟨h1, h2⟩ | ⟨h3, h1, h4⟩)
    · exact ⟨h1, dm.mpr (Or.inl h2)⟩
    · exact ⟨h1, dm.mpr (Or.inr ⟨h3, h4⟩)⟩
theorem hg_two25_1 {post : SX → Prop} {a b c B : Nat} {al : Bool} {S : Nat → Nat → Nat → Prop} (H : hg_H h a b c) (hB : B ≤ 500) (K : ∀ f' m', hg_XS 2 al (fun p q r => S p q r ∨ hg_T1 a b c (a * c) p q r) (B + a * c) f' m' → post (f', h, m')) : ∀ (d k : Nat) (f : Int32) (m : Nat → Int32), k + d = a * c → hg_XS 2 al (fun p q r => S p q r ∨ hg_T1 a b c k p q r) (B + k) f m → wX_fromTwo_25 post (hg_bI al) (nI 0) (nI 2) (d + 1) (nI k) f h m := by
  obtain ⟨ha, hb, hc, e0, e1, e2⟩ := H
  have hUW : a * c ≤ 15 * 15 := Nat.mul_le_mul ha hc
  have ei : h (nI 0).toNatClampNeg = nI a := by rw [nI_clamp (by omega)]; exact e0
  have ej : h (nI 2).toNatClampNeg = nI c := by rw [nI_clamp (by omega)]; exact e2
  intro d
  induction d with
  | zero =>
    intro k f m hk hX
    obtain rfl : k = a * c := by omega
    refine ⟨vp_in_nI (by omega) (by omega), vp_in_nI (by omega) (by omega), ?_⟩
    rw [ei, ej, pk_mul]
    exact br_t (nI_le (Nat.le_refl _) (by omega)) (K f m hX)
  | succ d ih =>
    intro k f m hk hX
    have hu : 0 < a := Nat.pos_of_ne_zero (fun z => by rw [z, Nat.zero_mul] at hk; omega)
    have hkl : k < a * c := by omega
    have hm1 : k % a < a := Nat.mod_lt _ hu
    have hd1 : k / a < c := Nat.div_lt_of_lt_mul hkl
    refine ⟨vp_in_nI (by omega) (by omega), vp_in_nI (by omega) (by omega), ?_⟩
    rw [ei, ej, pk_mul]
    refine br_f (nI_ge (by omega) (by omega)) ⟨vp_in_nI (by omega) (by omega), nI_ne0 hu (by omega), ?_⟩
    refine nm_r (e' := nI (k % a)) (pk_rem (by omega) hu (by omega)) ⟨vp_in_nI (by omega) (by omega), nI_ne0 hu (by omega), ?_⟩
    refine nm_r (e' := nI (k / a)) (pk_div (by omega) hu (by omega)) ?_
    refine br_t rfl (br_f (by decide) (br_f (by decide) (br_t rfl ?_)))
    exact hg_cons (g := 2) (x := (k % a)) (y := b) (z := (k / a)) hX (by omega) (by omega) (by omega) (hg_bd (by omega) hb (by omega)) rfl e1 rfl (fun p q r => hg_un (hg_T1_s hkl hu)) (fun f' m' k' => nm_r (nI_1 k) (ih (k + 1) f' m' (by omega) k'))
theorem hg_two_1 {post : SX → Prop} {a b c B : Nat} {al : Bool} {S : Nat → Nat → Nat → Prop} (H : hg_H h a b c) (hB : B ≤ 500) (hX : hg_XS 2 al S B f m) (K : ∀ f' m', hg_XS 2 al (fun p q r => S p q r ∨ hg_T1 a b c (a * c) p q r) (B + 225) f' m' → post (f', h, m')) : wpX_fromTwo post (f, h, m) 1 (hg_bI al) := by
  have hUW : a * c ≤ 15 * 15 := Nat.mul_le_mul H.1 H.2.2.1
  refine br_f (by decide) (br_f (by decide) ⟨a * c + 1, hg_two25_1 H hB (fun f' m' k => K f' m' (hg_XS_le k (by omega))) (a * c) 0 f m (Nat.zero_add _) (hg_XS_iff hX (fun p q r => ?_))⟩)
  unfold hg_T1
  constructor
  · rintro (h1 | ⟨_, _, _, h1⟩)
    · exact h1
    · omega
  · exact Or.inl
def hg_T2 (a b c k p q r : Nat) : Prop := r = c ∧ (p < a ∧ q < b ∧ q * a + p < k)
theorem hg_T2_s {a b c k p q r : Nat} (hk : k < a * b) (hu : 0 < a) : hg_T2 a b c (k + 1) p q r ↔ hg_T2 a b c k p q r ∨ (p = (k % a) ∧ q = (k / a) ∧ r = c) := by
  have dm := hg_dm (p := p) (q := q) hk hu
  unfold hg_T2
  constructor
  · rintro ⟨h1, h2⟩
    rcases dm.mp h2 with h3 | ⟨h3, h4⟩
    · exact Or.inl ⟨h1, h3⟩
    · exact Or.inr ⟨h3, h4, h1⟩
  · rintro (⟨h1, h2⟩ | ⟨h3, h4, h1⟩)
    · exact ⟨h1, dm.mpr (Or.inl h2)⟩
    · exact ⟨h1, dm.mpr (Or.inr ⟨h3, h4⟩)⟩
theorem hg_two25_2 {post : SX → Prop} {a b c B : Nat} {al : Bool} {S : Nat → Nat → Nat → Prop} (H : hg_H h a b c) (hB : B ≤ 500) (K : ∀ f' m', hg_XS 2 al (fun p q r => S p q r ∨ hg_T2 a b c (a * b) p q r) (B + a * b) f' m' → post (f', h, m')) : ∀ (d k : Nat) (f : Int32) (m : Nat → Int32), k + d = a * b → hg_XS 2 al (fun p q r => S p q r ∨ hg_T2 a b c k p q r) (B + k) f m → wX_fromTwo_25 post (hg_bI al) (nI 0) (nI 1) (d + 1) (nI k) f h m := by
  obtain ⟨ha, hb, hc, e0, e1, e2⟩ := H
  have hUW : a * b ≤ 15 * 15 := Nat.mul_le_mul ha hb
  have ei : h (nI 0).toNatClampNeg = nI a := by rw [nI_clamp (by omega)]; exact e0
  have ej : h (nI 1).toNatClampNeg = nI b := by rw [nI_clamp (by omega)]; exact e1
  intro d
  induction d with
  | zero =>
    intro k f m hk hX
    obtain rfl : k = a * b := by omega
    refine ⟨vp_in_nI (by omega) (by omega), vp_in_nI (by omega) (by omega), ?_⟩
    rw [ei, ej, pk_mul]
    exact br_t (nI_le (Nat.le_refl _) (by omega)) (K f m hX)
  | succ d ih =>
    intro k f m hk hX
    have hu : 0 < a := Nat.pos_of_ne_zero (fun z => by rw [z, Nat.zero_mul] at hk; omega)
    have hkl : k < a * b := by omega
    have hm1 : k % a < a := Nat.mod_lt _ hu
    have hd1 : k / a < b := Nat.div_lt_of_lt_mul hkl
    refine ⟨vp_in_nI (by omega) (by omega), vp_in_nI (by omega) (by omega), ?_⟩
    rw [ei, ej, pk_mul]
    refine br_f (nI_ge (by omega) (by omega)) ⟨vp_in_nI (by omega) (by omega), nI_ne0 hu (by omega), ?_⟩
    refine nm_r (e' := nI (k % a)) (pk_rem (by omega) hu (by omega)) ⟨vp_in_nI (by omega) (by omega), nI_ne0 hu (by omega), ?_⟩
    refine nm_r (e' := nI (k / a)) (pk_div (by omega) hu (by omega)) ?_
    refine br_t rfl (br_f (by decide) (br_t rfl (br_f (by decide) ?_)))
    exact hg_cons (g := 2) (x := (k % a)) (y := (k / a)) (z := c) hX (by omega) (by omega) (by omega) (hg_bd (by omega) (by omega) hc) rfl rfl e2 (fun p q r => hg_un (hg_T2_s hkl hu)) (fun f' m' k' => nm_r (nI_1 k) (ih (k + 1) f' m' (by omega) k'))
theorem hg_two_2 {post : SX → Prop} {a b c B : Nat} {al : Bool} {S : Nat → Nat → Nat → Prop} (H : hg_H h a b c) (hB : B ≤ 500) (hX : hg_XS 2 al S B f m) (K : ∀ f' m', hg_XS 2 al (fun p q r => S p q r ∨ hg_T2 a b c (a * b) p q r) (B + 225) f' m' → post (f', h, m')) : wpX_fromTwo post (f, h, m) 2 (hg_bI al) := by
  have hUW : a * b ≤ 15 * 15 := Nat.mul_le_mul H.1 H.2.1
  refine br_f (by decide) (br_t rfl ⟨a * b + 1, hg_two25_2 H hB (fun f' m' k => K f' m' (hg_XS_le k (by omega))) (a * b) 0 f m (Nat.zero_add _) (hg_XS_iff hX (fun p q r => ?_))⟩)
  unfold hg_T2
  constructor
  · rintro (h1 | ⟨_, _, _, h1⟩)
    · exact h1
    · omega
  · exact Or.inl
end HG7
end
section
/-! the component: the other moves, and all of them -/
section HG8
variable {f : Int32} {h m : Nat → Int32}
def hg_S3 (a b c i j k p q r : Nat) : Prop := (q = b ∧ r = c ∧ p < a ∧ a < p + i) ∨ (r = c ∧ p + q = a + b ∧ q < b ∧ b < q + j) ∨ (p = a ∧ q + r = b + c ∧ r < c ∧ c < r + k)
theorem hg_bd3 {x y z : Nat} (hx : x ≤ 45) (hy : y ≤ 30) (hz : z ≤ 15) : hg_Bd 3 x y z := ⟨hx, hy, hz, fun k => absurd rfl k⟩
theorem hg_ds82 {post : SX → Prop} {J2 : Int32 → Int32 → (Nat → Int32) → (Nat → Int32) → Prop} {a b c k B : Nat} {al : Bool} (H : hg_H h a b c) (hk : 1 ≤ k) (hk2 : k ≤ 15) (hB : B < 800) (hX : hg_XS 3 al (hg_S3 a b c (k + 1) (k + 1) k) B f m) (K : ∀ f' m', hg_XS 3 al (hg_S3 a b c (k + 1) (k + 1) (k + 1)) (B + 1) f' m' → J2 (nI (k + 1)) f' h m') : wX_downStairs_82 post J2 (hg_bI al) (nI k) f h m := by
  obtain ⟨ha, hb, hc, e0, e1, e2⟩ := H
  unfold wX_downStairs_82
  rw [e0, e1, e2]
  refine pk_lt c k (fun z => nm_r (nI_1 k) (K f m (hg_XS_iff (hg_XS_le hX (by omega)) (fun p q r => ?_)))) (fun z => ?_)
  · unfold hg_S3; omega
  · refine hg_cons (g := 3) (x := a) (y := b + k) (z := c - k) hX hB (by omega) (by omega) (hg_bd3 (by omega) (by omega) (by omega)) rfl (nI_add b k) (pk_sub z) (fun p q r => ?_) (fun f' m' k' => nm_r (nI_1 k) (K f' m' k'))
    unfold hg_S3; omega
theorem hg_ds44 {post : SX → Prop} {J2 : Int32 → Int32 → (Nat → Int32) → (Nat → Int32) → Prop} {a b c k B : Nat} {al : Bool} (H : hg_H h a b c) (hk : 1 ≤ k) (hk2 : k ≤ 15) (hB : B + 1 < 800) (hX : hg_XS 3 al (hg_S3 a b c (k + 1) k k) B f m) (K : ∀ f' m', hg_XS 3 al (hg_S3 a b c (k + 1) (k + 1) (k + 1)) (B + 2) f' m' → J2 (nI (k + 1)) f' h m') : wX_downStairs_44 post J2 (hg_bI al) (nI k) f h m := by
  have H' := H
  obtain ⟨ha, hb, hc, e0, e1, e2⟩ := H
  unfold wX_downStairs_44
  rw [e0, e1, e2]
  refine pk_lt b k (fun z => hg_ds82 H' hk hk2 (by omega) (hg_XS_iff (hg_XS_le hX (by omega : B ≤ B + 1)) (fun p q r => ?_)) K) (fun z => ?_)
  · unfold hg_S3; omega
  · refine hg_cons (g := 3) (x := a + k) (y := b - k) (z := c) hX (by omega) (by omega) (by omega) (hg_bd3 (by omega) (by omega) (by omega)) (nI_add a k) (pk_sub z) rfl (fun p q r => ?_) (fun f' m' k' => hg_ds82 H' hk hk2 (by omega) k' K)
    unfold hg_S3; omega
theorem hg_ds2 {post : SX → Prop} {a b c : Nat} {al : Bool} (H : hg_H h a b c) (K : ∀ f' m', hg_XS 3 al (hg_O3 a b c) 48 f' m' → post (f', h, m')) : ∀ (d k : Nat) (f : Int32) (m : Nat → Int32), k + d = 16 → 1 ≤ k → hg_XS 3 al (hg_S3 a b c k k k) (3 * k) f m → wX_downStairs_2 post (hg_bI al) (d + 1) (nI k) f h m := by
  have H' := H
  obtain ⟨ha, hb, hc, e0, e1, e2⟩ := H
  intro d
  induction d with
  | zero =>
    intro k f m hk hk1 hX
    obtain rfl : k = 16 := by omega
    refine br_t (by decide) (K f m (hg_XS_iff hX (fun p q r => ?_)))
    unfold hg_S3 hg_O3; omega
  | succ d ih =>
    intro k f m hk hk1 hX
    refine br_f (nI_nlt (a := 15) (by omega) (by omega)) ?_
    rw [e0, e1, e2]
    have K' : ∀ f' m', hg_XS 3 al (hg_S3 a b c (k + 1) (k + 1) (k + 1)) (3 * k + 1 + 2) f' m' → wX_downStairs_2 post (hg_bI al) (d + 1) (nI (k + 1)) f' h m' := fun f' m' k' => ih (k + 1) f' m' (by omega) (by omega) (hg_XS_le k' (by omega))
    refine pk_lt a k (fun z => hg_ds44 H' hk1 (by omega) (by omega) (hg_XS_iff (hg_XS_le hX (by omega : 3 * k ≤ 3 * k + 1)) (fun p q r => ?_)) K') (fun z => ?_)
    · unfold hg_S3; omega
    · refine hg_cons (g := 3) (x := a - k) (y := b) (z := c) hX (by omega) (by omega) (by omega) (hg_bd3 (by omega) (by omega) (by omega)) (pk_sub z) rfl rfl (fun p q r => ?_) (fun f' m' k' => hg_ds44 H' hk1 (by omega) (by omega) k' K')
      unfold hg_S3; omega
theorem hg_ds {post : SX → Prop} {a b c : Nat} {al : Bool} (H : hg_H h a b c) (K : ∀ f' m', hg_XS 3 al (hg_O3 a b c) 48 f' m' → post (f', h, m')) : wpX_downStairs post (0, h, m) (hg_bI al) := by
  refine ⟨16, hg_ds2 H K 15 1 0 m rfl (by omega) (hg_XS_iff (hg_XS_le hg_XS_0 (by omega)) (fun p q r => ⟨fun w => ?_, fun w => w.elim⟩))⟩
  unfold hg_S3 at w; omega
def hg_S4 (a b c k p q r : Nat) : Prop := r = c ∧ p < a ∧ q < b ∧ a + q = b + p ∧ a < p + k
theorem hg_em2 {post : SX → Prop} {a b c B : Nat} {al : Bool} {S S' : Nat → Nat → Nat → Prop} (H : hg_H h a b c) (hB : B ≤ 500) (hS : ∀ p q r, S' p q r ↔ S p q r ∨ hg_S4 a b c 16 p q r) (K : ∀ f' m', hg_XS 4 al S' 800 f' m' → post (f', h, m')) : ∀ (d k : Nat) (f : Int32) (m : Nat → Int32), k + d = 16 → 1 ≤ k → hg_XS 4 al (fun p q r => S p q r ∨ hg_S4 a b c k p q r) (B + k) f m → wX_equallyMany_2 post (hg_bI al) (d + 1) (nI k) f h m := by
  obtain ⟨ha, hb, hc, e0, e1, e2⟩ := H
  intro d
  induction d with
  | zero =>
    intro k f m hk hk1 hX
    obtain rfl : k = 16 := by omega
    refine br_t ?_ (K f m (hg_XS_iff (hg_XS_le hX (by omega)) hS))
    rw [e0]
    exact nI_lt (by omega) (by omega)
  | succ d ih =>
    intro k f m hk hk1 hX
    have Z : (a < k ∨ b < k) → post (f, h, m) := by
      intro z
      refine K f m (hg_XS_iff (hg_XS_le hX (by omega)) (fun p q r => (hS p q r).trans (or_congr Iff.rfl ?_)))
      unfold hg_S4; omega
    unfold wX_equallyMany_2
    rw [e0, e1, e2]
    refine pk_lt a k (fun z => Z (Or.inl z)) (fun z => pk_lt b k (fun z2 => Z (Or.inr z2)) (fun z2 => ?_))
    refine hg_cons (g := 4) (x := a - k) (y := b - k) (z := c) hX (by omega) (by omega) (by omega) (hg_bd (by omega) (by omega) hc) (pk_sub z) (pk_sub z2) rfl (fun p q r => hg_un ?_) (fun f' m' k' => nm_r (nI_1 k) (ih (k + 1) f' m' (by omega) (by omega) k'))
    unfold hg_S4; omega
theorem hg_em {post : SX → Prop} {a b c B : Nat} {al : Bool} {S S' : Nat → Nat → Nat → Prop} (H : hg_H h a b c) (hB : B ≤ 500) (hX : hg_XS 4 al S B f m) (hS : ∀ p q r, S' p q r ↔ S p q r ∨ hg_S4 a b c 16 p q r) (K : ∀ f' m', hg_XS 4 al S' 800 f' m' → post (f', h, m')) : wpX_equallyMany post (f, h, m) (hg_bI al) := by
  refine ⟨16, hg_em2 H hB hS K 15 1 f m rfl (by omega) (hg_XS_iff (hg_XS_le hX (by omega)) (fun p q r => ?_))⟩
  unfold hg_S4
  constructor
  · rintro (h1 | ⟨h1, h2, h3, h4, h5⟩)
    · exact h1
    · omega
  · exact Or.inl
def hg_S5 (a b c i j p q r : Nat) : Prop := r = c ∧ 0 < a ∧ 0 < b ∧ ((q = b ∧ ∃ t, 1 ≤ t ∧ t < i ∧ p + t * b = a) ∨ (p = a ∧ ∃ t, 1 ≤ t ∧ t < j ∧ q + t * a = b))
theorem hg_exs {k p a b : Nat} (hk : 1 ≤ k) : (∃ t, 1 ≤ t ∧ t < k + 1 ∧ p + t * b = a) ↔ (∃ t, 1 ≤ t ∧ t < k ∧ p + t * b = a) ∨ p + k * b = a := by
  constructor
  · rintro ⟨t, h1, h2, h3⟩
    by_cases h4 : t = k
    · subst h4; exact Or.inr h3
    · exact Or.inl ⟨t, h1, by omega, h3⟩
  · rintro (⟨t, h1, h2, h3⟩ | h3)
    · exact ⟨t, h1, by omega, h3⟩
    · exact ⟨k, hk, by omega, h3⟩
theorem hg_S5_i {a b c k j p q r : Nat} (ha : 0 < a) (hb : 0 < b) (hk : 1 ≤ k) (z : k * b ≤ a) : hg_S5 a b c (k + 1) j p q r ↔ hg_S5 a b c k j p q r ∨ (p = a - k * b ∧ q = b ∧ r = c) := by
  unfold hg_S5
  rw [hg_exs hk]
  constructor
  · rintro ⟨h1, h2, h3, (⟨h4, h5 | h5⟩ | h4)⟩
    · exact Or.inl ⟨h1, h2, h3, Or.inl ⟨h4, h5⟩⟩
    · exact Or.inr ⟨by omega, h4, h1⟩
    · exact Or.inl ⟨h1, h2, h3, Or.inr h4⟩
  · rintro (⟨h1, h2, h3, (⟨h4, h5⟩ | h4)⟩ | ⟨h1, h2, h3⟩)
    · exact ⟨h1, h2, h3, Or.inl ⟨h4, Or.inl h5⟩⟩
    · exact ⟨h1, h2, h3, Or.inr h4⟩
    · exact ⟨h3, ha, hb, Or.inl ⟨h2, Or.inr (by omega)⟩⟩
theorem hg_S5_i0 {a b c k j p q r : Nat} (hk : 1 ≤ k) (z : a < k * b) : hg_S5 a b c (k + 1) j p q r ↔ hg_S5 a b c k j p q r := by
  unfold hg_S5
  rw [hg_exs hk]
  constructor
  · rintro ⟨h1, h2, h3, (⟨h4, h5 | h5⟩ | h4)⟩
    · exact ⟨h1, h2, h3, Or.inl ⟨h4, h5⟩⟩
    · omega
    · exact ⟨h1, h2, h3, Or.inr h4⟩
  · rintro ⟨h1, h2, h3, (⟨h4, h5⟩ | h4)⟩
    · exact ⟨h1, h2, h3, Or.inl ⟨h4, Or.inl h5⟩⟩
    · exact ⟨h1, h2, h3, Or.inr h4⟩
theorem hg_S5_j {a b c k i p q r : Nat} (ha : 0 < a) (hb : 0 < b) (hk : 1 ≤ k) (z : k * a ≤ b) : hg_S5 a b c i (k + 1) p q r ↔ hg_S5 a b c i k p q r ∨ (p = a ∧ q = b - k * a ∧ r = c) := by
  unfold hg_S5
  rw [hg_exs hk]
  constructor
  · rintro ⟨h1, h2, h3, (h4 | ⟨h4, h5 | h5⟩)⟩
    · exact Or.inl ⟨h1, h2, h3, Or.inl h4⟩
    · exact Or.inl ⟨h1, h2, h3, Or.inr ⟨h4, h5⟩⟩
    · exact Or.inr ⟨h4, by omega, h1⟩
  · rintro (⟨h1, h2, h3, (h4 | ⟨h4, h5⟩)⟩ | ⟨h1, h2, h3⟩)
    · exact ⟨h1, h2, h3, Or.inl h4⟩
    · exact ⟨h1, h2, h3, Or.inr ⟨h4, Or.inl h5⟩⟩
    · exact ⟨h3, ha, hb, Or.inr ⟨h1, Or.inr (by omega)⟩⟩
theorem hg_S5_j0 {a b c k i p q r : Nat} (hk : 1 ≤ k) (z : b < k * a) : hg_S5 a b c i (k + 1) p q r ↔ hg_S5 a b c i k p q r := by
  unfold hg_S5
  rw [hg_exs hk]
  constructor
  · rintro ⟨h1, h2, h3, (h4 | ⟨h4, h5 | h5⟩)⟩
    · exact ⟨h1, h2, h3, Or.inl h4⟩
    · exact ⟨h1, h2, h3, Or.inr ⟨h4, h5⟩⟩
    · omega
  · rintro ⟨h1, h2, h3, (h4 | ⟨h4, h5⟩)⟩
    · exact ⟨h1, h2, h3, Or.inl h4⟩
    · exact ⟨h1, h2, h3, Or.inr ⟨h4, Or.inl h5⟩⟩
theorem hg_S5_16 {a b c p q r : Nat} (ha : a ≤ 15) (hb : b ≤ 15) : hg_O5 a b c p q r ↔ hg_S5 a b c 16 16 p q r := by
  unfold hg_O5 hg_S5
  constructor
  · rintro ⟨h1, h2, h3, (⟨h4, t, h5, h6⟩ | ⟨h4, t, h5, h6⟩)⟩
    · have := hg_tb h3 ha h6
      exact ⟨h1, h2, h3, Or.inl ⟨h4, t, h5, by omega, h6⟩⟩
    · have := hg_tb h2 hb h6
      exact ⟨h1, h2, h3, Or.inr ⟨h4, t, h5, by omega, h6⟩⟩
  · rintro ⟨h1, h2, h3, (⟨h4, t, h5, _, h6⟩ | ⟨h4, t, h5, _, h6⟩)⟩
    · exact ⟨h1, h2, h3, Or.inl ⟨h4, t, h5, h6⟩⟩
    · exact ⟨h1, h2, h3, Or.inr ⟨h4, t, h5, h6⟩⟩
theorem hg_mu17 {post : SX → Prop} {a b c : Nat} {al : Bool} (H : hg_H h a b c) (K : ∀ f' m', hg_XS 5 al (hg_O5 a b c) 800 f' m' → post (f', h, m')) : ∀ (d k : Nat) (f : Int32) (m : Nat → Int32), k + d = 16 → 1 ≤ k → hg_XS 5 al (hg_S5 a b c k k) (2 * k) f m → wX_multiples_17 post (hg_bI al) (nI a) (nI b) (d + 1) (nI k) f h m := by
  obtain ⟨ha, hb, hc, e0, e1, e2⟩ := H
  intro d
  induction d with
  | zero =>
    intro k f m hk hk1 hX
    obtain rfl : k = 16 := by omega
    exact br_t (by decide) (K f m (hg_XS_iff (hg_XS_le hX (by omega)) (fun p q r => hg_S5_16 ha hb)))
  | succ d ih =>
    intro k f m hk hk1 hX
    have Z : (a = 0 ∨ b = 0) → post (f, h, m) := by
      intro z
      refine K f m (hg_XS_iff (hg_XS_le hX (by omega)) (fun p q r => ?_))
      unfold hg_O5 hg_S5
      constructor
      · rintro ⟨h1, h2, h3, h4⟩
        clear h4
        omega
      · rintro ⟨h1, h2, h3, h4⟩
        clear h4
        omega
    have hkb : k * b ≤ 15 * 15 := Nat.mul_le_mul (by omega) hb
    have hka : k * a ≤ 15 * 15 := Nat.mul_le_mul (by omega) ha
    refine br_f (nI_nlt (a := 15) (by omega) (by omega)) (pk_le a 0 (fun z => Z (Or.inl (by omega))) (fun z0 => pk_le b 0 (fun z => Z (Or.inr (by omega))) (fun z1 => ?_)))
    have Y : ∀ f m, hg_XS 5 al (hg_S5 a b c (k + 1) k) (2 * k + 1) f m → wX_multiples_59 post (wX_multiples_17 post (hg_bI al) (nI a) (nI b) (d + 1)) (hg_bI al) (nI a) (nI b) (nI k) f h m := by
      intro f m hX
      unfold wX_multiples_59
      rw [pk_mul, e2]
      refine pk_lt b (k * a) (fun z => nm_r (nI_1 k) (ih (k + 1) f m (by omega) (by omega) (hg_XS_iff (hg_XS_le hX (by omega)) (fun p q r => hg_S5_j0 hk1 z)))) (fun z => ?_)
      exact hg_cons (g := 5) (x := a) (y := b - k * a) (z := c) hX (by omega) (by omega) (by omega) (hg_bd ha (by omega) hc) rfl (pk_sub z) rfl (fun p q r => hg_S5_j z0 z1 hk1 z) (fun f' m' k' => nm_r (nI_1 k) (ih (k + 1) f' m' (by omega) (by omega) (hg_XS_le k' (by omega))))
    rw [pk_mul, e2]
    refine pk_lt a (k * b) (fun z => Y f m (hg_XS_iff (hg_XS_le hX (by omega)) (fun p q r => hg_S5_i0 hk1 z))) (fun z => ?_)
    exact hg_cons (g := 5) (x := a - k * b) (y := b) (z := c) hX (by omega) (by omega) (by omega) (hg_bd (by omega) hb hc) (pk_sub z) rfl rfl (fun p q r => hg_S5_i z0 z1 hk1 z) (fun f' m' k' => Y f' m' k')
theorem hg_mu {post : SX → Prop} {a b c : Nat} {al : Bool} (H : hg_H h a b c) (K : ∀ f' m', hg_XS 5 al (hg_O5 a b c) 800 f' m' → post (f', h, m')) : wpX_multiples post (0, h, m) (hg_bI al) := by
  have H' := H
  obtain ⟨ha, hb, hc, e0, e1, e2⟩ := H
  refine nm_r e0 (nm_r e1 ⟨16, hg_mu17 H' K 15 1 0 m rfl (by omega) (hg_XS_iff (hg_XS_le hg_XS_0 (by omega)) (fun p q r => ?_))⟩)
  unfold hg_S5
  constructor
  · rintro ⟨h1, h2, h3, (⟨h4, t, h5, h6, h7⟩ | ⟨h4, t, h5, h6, h7⟩)⟩
    · omega
    · omega
  · exact fun z => z.elim
def hg_P6 (al : Bool) (N c k n : Nat) : Prop := 1 ≤ n ∧ n ≤ N ∧ n ≤ c ∧ (al = true ∨ hg_W (N - n) (2 * n) = false) ∧ n < k
theorem hg_fs7 {post : SX → Prop} {a b c N : Nat} {al : Bool} (H : hg_H h a b c) (hN : N ≤ 60) (K : ∀ f' m', hg_X (fun n => 1 ≤ n ∧ n ≤ N ∧ n ≤ c ∧ (al = true ∨ hg_W (N - n) (2 * n) = false)) 800 f' m' → post (f', h, m')) : ∀ (d k : Nat) (f : Int32) (m : Nat → Int32), k + d = 16 → 1 ≤ k → hg_X (hg_P6 al N c k) k f m → wX_fromSingle_7 post (hg_bI al) (nI N) (d + 1) (nI k) f h m := by
  obtain ⟨ha, hb, hc, e0, e1, e2⟩ := H
  have Z : ∀ k f m, k ≤ 16 → (N < k ∨ c < k) → hg_X (hg_P6 al N c k) k f m → post (f, h, m) := by
    intro k f m hk hz hX
    refine K f m (hg_X_iff (hg_X_le hX (by omega)) (fun n => ?_))
    unfold hg_P6
    constructor
    · rintro ⟨h1, h2, h3, h4⟩
      exact ⟨h1, h2, h3, h4, by omega⟩
    · rintro ⟨h1, h2, h3, h4, h5⟩
      exact ⟨h1, h2, h3, h4⟩
  intro d
  induction d with
  | zero =>
    intro k f m hk hk1 hX
    refine pk_lt N k (fun z => Z k f m (by omega) (Or.inl z) hX) (fun z => br_t ?_ (Z k f m (by omega) (Or.inr (by omega)) hX))
    rw [e2]
    exact nI_lt (by omega) (by omega)
  | succ d ih =>
    intro k f m hk hk1 hX
    unfold wX_fromSingle_7
    rw [e2]
    refine pk_lt N k (fun z => Z k f m (by omega) (Or.inl z) hX) (fun z => pk_lt c k (fun z2 => Z k f m (by omega) (Or.inr z2) hX) (fun z2 => ?_))
    have eN : nI N - nI k = nI (N - k) := pk_sub z
    have eK : 2 * nI k = nI (2 * k) := pk_mul 2 k
    have k43 : (al = true ∨ hg_W (N - k) (2 * k) = false) → wX_fromSingle_43 post (wX_fromSingle_7 post (hg_bI al) (nI N) (d + 1)) (hg_bI al) (nI N) (nI k) f h m := by
      intro hw
      refine hg_keep (Q := hg_P6 al N c (k + 1)) hX (by omega) (by omega) (fun n => ?_) (fun f' m' k' => nm_r (nI_1 k) (ih (k + 1) f' m' (by omega) (by omega) k'))
      unfold hg_P6
      constructor
      · rintro ⟨h1, h2, h3, h4, h5⟩
        by_cases h6 : n = k
        · exact Or.inr h6
        · exact Or.inl ⟨h1, h2, h3, h4, by omega⟩
      · rintro (⟨h1, h2, h3, h4, h5⟩ | h1)
        · exact ⟨h1, h2, h3, h4, by omega⟩
        · subst h1
          exact ⟨hk1, z, z2, hw, by omega⟩
    rw [eN, eK]
    refine hg_wonWith (by omega) (by omega) ?_
    cases al with
    | true => exact br_f (by decide) (k43 (Or.inl rfl))
    | false =>
      refine br_t rfl ?_
      cases hw : hg_W (N - k) (2 * k) with
      | false => exact br_t rfl (k43 (Or.inr hw))
      | true =>
        refine br_f (by decide) (nm_r (nI_1 k) (ih (k + 1) f m (by omega) (by omega) (hg_X_iff (hg_X_le hX (by omega)) (fun n => ?_))))
        unfold hg_P6
        constructor
        · rintro ⟨h1, h2, h3, h4, h5⟩
          refine ⟨h1, h2, h3, h4, ?_⟩
          by_cases h6 : n = k
          · subst h6
            rw [hw] at h4
            rcases h4 with h4 | h4 <;> cases h4
          · omega
        · rintro ⟨h1, h2, h3, h4, h5⟩
          exact ⟨h1, h2, h3, h4, by omega⟩
theorem hg_fs {post : SX → Prop} {a b c : Nat} {al : Bool} (H : hg_H h a b c) (K : ∀ f' m', hg_X (hg_P 6 al a b c) 800 f' m' → post (f', h, m')) : wpX_fromSingle post (0, h, m) (hg_bI al) := by
  unfold wpX_fromSingle
  dsimp only
  refine hg_single H ?_
  refine ⟨16, hg_fs7 H hg_N_le K 15 1 0 m rfl (by omega) (hg_X_iff (hg_X_le hg_X_0 (by omega)) (fun n => ⟨fun w => ?_, fun w => w.elim⟩))⟩
  unfold hg_P6 at w
  omega
theorem hg_P_n {g a b c n : Nat} {al : Bool} (h6 : g ≠ 6) : hg_P g al a b c n ↔ ∃ p q r, hg_Opt g a b c p q r ∧ (al = true ∨ hg_won g p q r = false) ∧ n = hg_num p q r := by
  unfold hg_P
  rw [if_neg h6]
theorem hg_XP {g a b c B : Nat} {al : Bool} (h6 : g ≠ 6) (hB : B ≤ 800) {S : Nat → Nat → Nat → Prop} (hX : hg_XS g al S B f m) (hS : ∀ p q r, hg_Opt g a b c p q r ↔ S p q r) : hg_X (hg_P g al a b c) 800 f m :=
  hg_X_iff (hg_X_le (hg_XS_iff hX hS) hB) (fun n => hg_P_n h6)
theorem hg_mb {q r b c : Nat} (hq : q < b) (hr : r < c) : r * b + q < b * c := by
  have h1 : (r + 1) * b ≤ c * b := Nat.mul_le_mul_right b hr
  rw [Nat.add_mul, Nat.one_mul, Nat.mul_comm c b] at h1
  omega
theorem hg_find2 {a b c p q r : Nat} (ha : a ≤ 15) (hb : b ≤ 15) (hc : c ≤ 15) : hg_Opt 2 a b c p q r ↔ ((hg_S1 2 15 a b c 48 p q r ∨ hg_T0 a b c (b * c) p q r) ∨ hg_T1 a b c (a * c) p q r) ∨ hg_T2 a b c (a * b) p q r := by
  rw [hg_Opt_2]
  have e : hg_S1 2 15 a b c 48 p q r ↔ hg_O1 15 a b c p q r := by
    unfold hg_S1 hg_O1
    omega
  rw [e]
  unfold hg_T0 hg_T1 hg_T2 hg_O2
  constructor
  · rintro (h1 | ⟨h1, h2, h3⟩ | ⟨h1, h2, h3⟩ | ⟨h1, h2, h3⟩)
    · exact Or.inl (Or.inl (Or.inl h1))
    · exact Or.inr ⟨h3, h1, h2, hg_mb h1 h2⟩
    · exact Or.inl (Or.inr ⟨h2, h1, h3, hg_mb h1 h3⟩)
    · exact Or.inl (Or.inl (Or.inr ⟨h1, h2, h3, hg_mb h2 h3⟩))
  · rintro (((h1 | ⟨h1, h2, h3, _⟩) | ⟨h1, h2, h3, _⟩) | ⟨h1, h2, h3, _⟩)
    · exact Or.inl h1
    · exact Or.inr (Or.inr (Or.inr ⟨h1, h2, h3⟩))
    · exact Or.inr (Or.inr (Or.inl ⟨h2, h1, h3⟩))
    · exact Or.inr (Or.inl ⟨h2, h3, h1⟩)
/-- all moves of a game, or the winning ones, stand in order in the array -/
theorem hg_findX {post : SX → Prop} {g a b c : Nat} {al : Bool} (H : hg_H h a b c) (hg : g ≤ 7) (K : ∀ f' m', hg_X (hg_P g al a b c) 800 f' m' → post (f', h, m')) : wpX_findMoves post (f, h, m) (nI g) (hg_bI al) := by
  have H' := H
  obtain ⟨ha, hb, hc, e0, e1, e2⟩ := H
  have hcs : g = 0 ∨ g = 1 ∨ g = 2 ∨ g = 3 ∨ g = 4 ∨ g = 5 ∨ g = 6 ∨ g = 7 := by omega
  rcases hcs with rfl | rfl | rfl | rfl | rfl | rfl | rfl | rfl
  · refine br_f (by decide) (br_f (by decide) (br_f (by decide) (br_f (by decide) ?_)))
    refine hg_fromOne (g := 0) (M := 15) H' (by omega) (by omega) (by omega) (fun f' m' k => br_f (by decide) (br_f (by decide) (K f' m' (hg_XP (by omega) (by omega) k (fun p q r => ?_)))))
    rw [hg_Opt_0]
    unfold hg_S1 hg_O1
    omega
  · refine br_f (by decide) (br_f (by decide) (br_f (by decide) (br_f (by decide) ?_)))
    refine hg_fromOne (g := 1) (M := 15) H' (by omega) (by omega) (by omega) (fun f' m' k => br_f (by decide) (br_f (by decide) (K f' m' (hg_XP (by omega) (by omega) k (fun p q r => ?_)))))
    rw [hg_Opt_1]
    unfold hg_S1 hg_O1
    omega
  · refine br_f (by decide) (br_f (by decide) (br_f (by decide) (br_f (by decide) ?_)))
    refine hg_fromOne (g := 2) (M := 15) H' (by omega) (by omega) (by omega) (fun f' m' k => br_t rfl ?_)
    refine hg_two_0 H' (by omega) k (fun f' m' k => hg_two_1 H' (by omega) k (fun f' m' k => hg_two_2 H' (by omega) k (fun f' m' k => br_f (by decide) (K f' m' (hg_XP (by omega) (by omega) k (fun p q r => ?_))))))
    exact hg_find2 ha hb hc
  · refine br_t rfl (hg_ds H' (fun f' m' k => br_f (by decide) (br_f (by decide) (K f' m' (hg_XP (by omega) (by omega) k (fun p q r => ?_))))))
    rw [hg_Opt_3]
  · refine br_f (by decide) (br_f (by decide) (br_f (by decide) (br_f (by decide) ?_)))
    refine hg_fromOne (g := 4) (M := 15) H' (by omega) (by omega) (by omega) (fun f' m' k => br_f (by decide) (br_t rfl ?_))
    refine hg_em (S' := hg_O4 a b c) H' (by omega) k (fun p q r => ?_) (fun f' m' k => K f' m' (hg_XP (by omega) (by omega) k (fun p q r => ?_)))
    · unfold hg_S1 hg_S4 hg_O4
      omega
    · rw [hg_Opt_4]
  · refine br_f (by decide) (br_t rfl (hg_mu H' (fun f' m' k => br_f (by decide) (br_f (by decide) (K f' m' (hg_XP (by omega) (by omega) k (fun p q r => ?_)))))))
    rw [hg_Opt_5]
  · exact br_f (by decide) (br_f (by decide) (br_t rfl (hg_fs H' (fun f' m' k => br_f (by decide) (br_f (by decide) (K f' m' k))))))
  · refine br_f (by decide) (br_f (by decide) (br_f (by decide) (br_t rfl ?_)))
    refine hg_fromOne (g := 7) (M := 3) H' (by omega) (by omega) (by omega) (fun f' m' k => br_f (by decide) (br_f (by decide) (K f' m' (hg_XP (by omega) (by omega) k (fun p q r => ?_)))))
    rw [hg_Opt_7]
    unfold hg_S1 hg_O1
    omega
end HG8
end
section
/-! the reference: the list of what a move leaves -/
def hg_L (S : Nat → Nat → Nat → Prop) (B : Nat) (cnt : Int32) (xs ys zs : Nat → Int32) : Prop := ∃ (c : Nat) (p q r : Nat → Nat), cnt = nI c ∧ c ≤ B ∧ (∀ i, i < c → xs i = nI (p i) ∧ ys i = nI (q i) ∧ zs i = nI (r i) ∧ S (p i) (q i) (r i)) ∧ (∀ x y z, S x y z → ∃ i, i < c ∧ p i = x ∧ q i = y ∧ r i = z) ∧ (∀ i j, i < j → j < c → ¬ (p i = p j ∧ q i = q j ∧ r i = r j))
theorem hg_L_iff {S S' : Nat → Nat → Nat → Prop} {B B' : Nat} {cnt : Int32} {xs ys zs : Nat → Int32} (H : hg_L S B cnt xs ys zs) (hB : B ≤ B') (e : ∀ p q r, S' p q r ↔ S p q r) : hg_L S' B' cnt xs ys zs := by
  obtain ⟨c, p, q, r, h0, hc, h1, h2, h3⟩ := H
  refine ⟨c, p, q, r, h0, by omega, fun i hi => ?_, fun x y z hs => h2 x y z ((e x y z).mp hs), h3⟩
  obtain ⟨k1, k2, k3, k4⟩ := h1 i hi
  exact ⟨k1, k2, k3, (e _ _ _).mpr k4⟩
theorem hg_L_0 {xs ys zs : Nat → Int32} : hg_L (fun _ _ _ => False) 0 0 xs ys zs := ⟨0, fun _ => 0, fun _ => 0, fun _ => 0, rfl, Nat.le_refl _, fun i hi => by omega, fun _ _ _ z => z.elim, fun i j hi hj => by omega⟩
def hg_up (f : Nat → Nat) (k v : Nat) : Nat → Nat := fun i => if i = k then v else f i
theorem hg_ups {f : Nat → Nat} {k v : Nat} : hg_up f k v k = v := if_pos rfl
theorem hg_upn {f : Nat → Nat} {k v i : Nat} (h : i ≠ k) : hg_up f k v i = f i := if_neg h
section HG9
variable {cnt fnd : Int32} {hp xs ys zs wn vl tk lm nu : Nat → Int32}
theorem hg_leave {post : SY → Prop} {S S' : Nat → Nat → Nat → Prop} {B x y z : Nat} (HL : hg_L S B cnt xs ys zs) (hB : B < 800) (hn : ¬ S x y z) {X Y Z : Int32} (eX : X = nI x) (eY : Y = nI y) (eZ : Z = nI z) (hS : ∀ p q r, S' p q r ↔ S p q r ∨ (p = x ∧ q = y ∧ r = z)) (K : ∀ (cnt' : Int32) (xs' ys' zs' : Nat → Int32), hg_L S' (B + 1) cnt' xs' ys' zs' → post (cnt', fnd, hp, xs', ys', zs', wn, vl, tk, lm, nu)) : wpY_leave post (cnt, fnd, hp, xs, ys, zs, wn, vl, tk, lm, nu) X Y Z := by
  subst eX eY eZ
  obtain ⟨c, p, q, r, rfl, hc, h1, h2, h3⟩ := HL
  refine ⟨vp_in_nI (by omega) (by omega), nm_r (e' := upd xs c (nI x)) (by rw [nI_clamp (by omega)]) ⟨vp_in_nI (by omega) (by omega), nm_r (e' := upd ys c (nI y)) (by rw [nI_clamp (by omega)]) ⟨vp_in_nI (by omega) (by omega), nm_r (e' := upd zs c (nI z)) (by rw [nI_clamp (by omega)]) (nm_r (nI_1 c) (K _ _ _ _ ⟨c + 1, hg_up p c x, hg_up q c y, hg_up r c z, rfl, by omega, ?_, ?_, ?_⟩))⟩⟩⟩
  · intro i hi
    by_cases hic : i = c
    · subst hic
      rw [hg_ups, hg_ups, hg_ups, pk_us, pk_us, pk_us]
      exact ⟨rfl, rfl, rfl, (hS _ _ _).mpr (Or.inr ⟨rfl, rfl, rfl⟩)⟩
    · rw [hg_upn hic, hg_upn hic, hg_upn hic, pk_un hic, pk_un hic, pk_un hic]
      obtain ⟨k1, k2, k3, k4⟩ := h1 i (by omega)
      exact ⟨k1, k2, k3, (hS _ _ _).mpr (Or.inl k4)⟩
  · intro a b d hs
    rcases (hS a b d).mp hs with hs | ⟨rfl, rfl, rfl⟩
    · obtain ⟨i, hi, k1, k2, k3⟩ := h2 a b d hs
      have hic : i ≠ c := by omega
      exact ⟨i, by omega, by rw [hg_upn hic]; exact k1, by rw [hg_upn hic]; exact k2, by rw [hg_upn hic]; exact k3⟩
    · exact ⟨c, by omega, hg_ups, hg_ups, hg_ups⟩
  · intro i j hij hj
    have hic : i ≠ c := by omega
    rw [hg_upn hic, hg_upn hic, hg_upn hic]
    by_cases hjc : j = c
    · subst hjc
      rw [hg_ups, hg_ups, hg_ups]
      rintro ⟨k1, k2, k3⟩
      have k4 := (h1 i hij).2.2.2
      rw [k1, k2, k3] at k4
      exact hn k4
    · rw [hg_upn hjc, hg_upn hjc, hg_upn hjc]
      exact h3 i j hij (by omega)
end HG9
section HG10
variable {fnd : Int32} {hp wn vl tk lm nu : Nat → Int32}
/-! pushes -/
theorem hg_pu59 {post : SY → Prop} {x y z : Nat} (hx : x ≤ 45) (hy : y ≤ 30) (hz : z ≤ 15) (K : ∀ (cnt' : Int32) (xs' ys' zs' : Nat → Int32), hg_L (hg_O3 x y z) 800 cnt' xs' ys' zs' → post (cnt', fnd, hp, xs', ys', zs', wn, vl, tk, lm, nu)) : ∀ (d i : Nat) (cnt : Int32) (xs ys zs : Nat → Int32), i + d = x + 1 → 1 ≤ i → hg_L (hg_S3 x y z i (y + 1) (z + 1)) (47 + i) cnt xs ys zs → wY_listPushes_59 post (nI x) (nI y) (nI z) (d + 1) (nI i) cnt fnd hp xs ys zs wn vl tk lm nu := by
  intro d
  induction d with
  | zero =>
    intro i cnt xs ys zs hi h1 HL
    refine br_t (nI_lt (by omega) (by omega)) (K _ _ _ _ (hg_L_iff HL (by omega) (fun p q r => ?_)))
    unfold hg_O3 hg_S3; omega
  | succ d ih =>
    intro i cnt xs ys zs hi h1 HL
    refine br_f (nI_nlt (by omega) (by omega)) (hg_leave (x := x - i) (y := y) (z := z) HL (by omega) (fun k => ?_) (pk_sub (by omega)) rfl rfl (fun p q r => ?_) (fun cnt' xs' ys' zs' k' => nm_r (nI_1 i) (ih (i + 1) cnt' xs' ys' zs' (by omega) (by omega) k')))
    · unfold hg_S3 at k; omega
    · unfold hg_S3; omega
theorem hg_pu31 {post : SY → Prop} {x y z : Nat} (hx : x ≤ 45) (hy : y ≤ 30) (hz : z ≤ 15) (K : ∀ (cnt' : Int32) (xs' ys' zs' : Nat → Int32), hg_L (hg_O3 x y z) 800 cnt' xs' ys' zs' → post (cnt', fnd, hp, xs', ys', zs', wn, vl, tk, lm, nu)) : ∀ (d j : Nat) (cnt : Int32) (xs ys zs : Nat → Int32), j + d = y + 1 → 1 ≤ j → hg_L (hg_S3 x y z 1 j (z + 1)) (16 + j) cnt xs ys zs → wY_listPushes_31 post (nI x) (nI y) (nI z) (d + 1) (nI j) cnt fnd hp xs ys zs wn vl tk lm nu := by
  intro d
  induction d with
  | zero =>
    intro j cnt xs ys zs hj h1 HL
    obtain rfl : j = y + 1 := by omega
    exact br_t (nI_lt (by omega) (by omega)) ⟨x + 1, hg_pu59 hx hy hz K x 1 cnt xs ys zs (by omega) (by omega) (hg_L_iff HL (by omega) (fun p q r => Iff.rfl))⟩
  | succ d ih =>
    intro j cnt xs ys zs hj h1 HL
    refine br_f (nI_nlt (by omega) (by omega)) (hg_leave (x := x + j) (y := y - j) (z := z) HL (by omega) (fun k => ?_) (nI_add x j) (pk_sub (by omega)) rfl (fun p q r => ?_) (fun cnt' xs' ys' zs' k' => nm_r (nI_1 j) (ih (j + 1) cnt' xs' ys' zs' (by omega) (by omega) k')))
    · unfold hg_S3 at k; omega
    · unfold hg_S3; omega
theorem hg_pu3 {post : SY → Prop} {x y z : Nat} (hx : x ≤ 45) (hy : y ≤ 30) (hz : z ≤ 15) (K : ∀ (cnt' : Int32) (xs' ys' zs' : Nat → Int32), hg_L (hg_O3 x y z) 800 cnt' xs' ys' zs' → post (cnt', fnd, hp, xs', ys', zs', wn, vl, tk, lm, nu)) : ∀ (d l : Nat) (cnt : Int32) (xs ys zs : Nat → Int32), l + d = z + 1 → 1 ≤ l → hg_L (hg_S3 x y z 1 1 l) l cnt xs ys zs → wY_listPushes_3 post (nI x) (nI y) (nI z) (d + 1) (nI l) cnt fnd hp xs ys zs wn vl tk lm nu := by
  intro d
  induction d with
  | zero =>
    intro l cnt xs ys zs hl h1 HL
    obtain rfl : l = z + 1 := by omega
    exact br_t (nI_lt (by omega) (by omega)) ⟨y + 1, hg_pu31 hx hy hz K y 1 cnt xs ys zs (by omega) (by omega) (hg_L_iff HL (by omega) (fun p q r => Iff.rfl))⟩
  | succ d ih =>
    intro l cnt xs ys zs hl h1 HL
    refine br_f (nI_nlt (by omega) (by omega)) (hg_leave (x := x) (y := y + l) (z := z - l) HL (by omega) (fun k => ?_) rfl (nI_add y l) (pk_sub (by omega)) (fun p q r => ?_) (fun cnt' xs' ys' zs' k' => nm_r (nI_1 l) (ih (l + 1) cnt' xs' ys' zs' (by omega) (by omega) k')))
    · unfold hg_S3 at k; omega
    · unfold hg_S3; omega
/-! Wythoff -/
def hg_Y4 (x y z i j k p q r : Nat) : Prop := r = z ∧ ((q = y ∧ p < x ∧ x < p + i) ∨ (p = x ∧ q < y ∧ y < q + j) ∨ (p < x ∧ q < y ∧ x + q = y + p ∧ x < p + k))
theorem hg_le53 {post : SY → Prop} {x y z : Nat} (hx : x ≤ 15) (hy : y ≤ 15) (hz : z ≤ 15) (K : ∀ (cnt' : Int32) (xs' ys' zs' : Nat → Int32), hg_L (hg_O4 x y z) 800 cnt' xs' ys' zs' → post (cnt', fnd, hp, xs', ys', zs', wn, vl, tk, lm, nu)) : ∀ (d k : Nat) (cnt : Int32) (xs ys zs : Nat → Int32), k + d = 16 → 1 ≤ k → hg_L (hg_Y4 x y z (x + 1) (y + 1) k) (40 + k) cnt xs ys zs → wY_listEqual_53 post (nI x) (nI y) (nI z) (d + 1) (nI k) cnt fnd hp xs ys zs wn vl tk lm nu := by
  intro d
  induction d with
  | zero =>
    intro k cnt xs ys zs hk h1 HL
    refine br_t (nI_lt (by omega) (by omega)) (K _ _ _ _ (hg_L_iff HL (by omega) (fun p q r => ?_)))
    unfold hg_O4 hg_Y4; omega
  | succ d ih =>
    intro k cnt xs ys zs hk h1 HL
    have Z : (x < k ∨ y < k) → post (cnt, fnd, hp, xs, ys, zs, wn, vl, tk, lm, nu) := by
      intro z
      refine K _ _ _ _ (hg_L_iff HL (by omega) (fun p q r => ?_))
      unfold hg_O4 hg_Y4; omega
    refine pk_lt x k (fun z1 => Z (Or.inl z1)) (fun z1 => pk_lt y k (fun z2 => Z (Or.inr z2)) (fun z2 => ?_))
    refine hg_leave (x := x - k) (y := y - k) (z := z) HL (by omega) (fun k => ?_) (pk_sub z1) (pk_sub z2) rfl (fun p q r => ?_) (fun cnt' xs' ys' zs' k' => nm_r (nI_1 k) (ih (k + 1) cnt' xs' ys' zs' (by omega) (by omega) k'))
    · unfold hg_Y4 at k; omega
    · unfold hg_Y4; omega
theorem hg_le28 {post : SY → Prop} {x y z : Nat} (hx : x ≤ 15) (hy : y ≤ 15) (hz : z ≤ 15) (K : ∀ (cnt' : Int32) (xs' ys' zs' : Nat → Int32), hg_L (hg_O4 x y z) 800 cnt' xs' ys' zs' → post (cnt', fnd, hp, xs', ys', zs', wn, vl, tk, lm, nu)) : ∀ (d j : Nat) (cnt : Int32) (xs ys zs : Nat → Int32), j + d = y + 1 → 1 ≤ j → hg_L (hg_Y4 x y z (x + 1) j 1) (20 + j) cnt xs ys zs → wY_listEqual_28 post (nI x) (nI y) (nI z) (d + 1) (nI j) cnt fnd hp xs ys zs wn vl tk lm nu := by
  intro d
  induction d with
  | zero =>
    intro j cnt xs ys zs hj h1 HL
    obtain rfl : j = y + 1 := by omega
    exact br_t (nI_lt (by omega) (by omega)) ⟨16, hg_le53 hx hy hz K 15 1 cnt xs ys zs (by omega) (by omega) (hg_L_iff HL (by omega) (fun p q r => Iff.rfl))⟩
  | succ d ih =>
    intro j cnt xs ys zs hj h1 HL
    refine br_f (nI_nlt (by omega) (by omega)) (hg_leave (x := x) (y := y - j) (z := z) HL (by omega) (fun k => ?_) rfl (pk_sub (by omega)) rfl (fun p q r => ?_) (fun cnt' xs' ys' zs' k' => nm_r (nI_1 j) (ih (j + 1) cnt' xs' ys' zs' (by omega) (by omega) k')))
    · unfold hg_Y4 at k; omega
    · unfold hg_Y4; omega
theorem hg_le3 {post : SY → Prop} {x y z : Nat} (hx : x ≤ 15) (hy : y ≤ 15) (hz : z ≤ 15) (K : ∀ (cnt' : Int32) (xs' ys' zs' : Nat → Int32), hg_L (hg_O4 x y z) 800 cnt' xs' ys' zs' → post (cnt', fnd, hp, xs', ys', zs', wn, vl, tk, lm, nu)) : ∀ (d i : Nat) (cnt : Int32) (xs ys zs : Nat → Int32), i + d = x + 1 → 1 ≤ i → hg_L (hg_Y4 x y z i 1 1) i cnt xs ys zs → wY_listEqual_3 post (nI x) (nI y) (nI z) (d + 1) (nI i) cnt fnd hp xs ys zs wn vl tk lm nu := by
  intro d
  induction d with
  | zero =>
    intro i cnt xs ys zs hi h1 HL
    obtain rfl : i = x + 1 := by omega
    exact br_t (nI_lt (by omega) (by omega)) ⟨y + 1, hg_le28 hx hy hz K y 1 cnt xs ys zs (by omega) (by omega) (hg_L_iff HL (by omega) (fun p q r => Iff.rfl))⟩
  | succ d ih =>
    intro i cnt xs ys zs hi h1 HL
    refine br_f (nI_nlt (by omega) (by omega)) (hg_leave (x := x - i) (y := y) (z := z) HL (by omega) (fun k => ?_) (pk_sub (by omega)) rfl rfl (fun p q r => ?_) (fun cnt' xs' ys' zs' k' => nm_r (nI_1 i) (ih (i + 1) cnt' xs' ys' zs' (by omega) (by omega) k')))
    · unfold hg_Y4 at k; omega
    · unfold hg_Y4; omega
/-! Euclid -/
theorem hg_S5_x {x y z t l e p q r : Nat} (hlx : l ≤ x) (hly : l ≤ y) (hxe : x ≤ e) (hye : y ≤ e) (ht : e < t * l) : hg_O5 x y z p q r ↔ hg_S5 x y z t t p q r := by
  have hs : ∀ s u w v : Nat, l ≤ u → w ≤ e → v + s * u = w → s < t := by
    intro s u w v hu hw hv
    have h1 : s * l ≤ s * u := Nat.mul_le_mul_left s hu
    exact Nat.lt_of_mul_lt_mul_right (a := l) (by omega)
  unfold hg_O5 hg_S5
  constructor
  · rintro ⟨h1, h2, h3, (⟨h4, s, h5, h6⟩ | ⟨h4, s, h5, h6⟩)⟩
    · exact ⟨h1, h2, h3, Or.inl ⟨h4, s, h5, hs s y x p hly hxe h6, h6⟩⟩
    · exact ⟨h1, h2, h3, Or.inr ⟨h4, s, h5, hs s x y q hlx hye h6, h6⟩⟩
  · rintro ⟨h1, h2, h3, (⟨h4, s, h5, _, h6⟩ | ⟨h4, s, h5, _, h6⟩)⟩
    · exact ⟨h1, h2, h3, Or.inl ⟨h4, s, h5, h6⟩⟩
    · exact ⟨h1, h2, h3, Or.inr ⟨h4, s, h5, h6⟩⟩
theorem hg_S5_ni {x y z t j : Nat} (ht : 1 ≤ t) (hy : 0 < y) (h : t * y ≤ x) : ¬ hg_S5 x y z t j (x - t * y) y z := by
  have h0 : 0 < t * y := Nat.mul_pos ht hy
  rintro ⟨_, _, _, (⟨_, s, h5, h6, h7⟩ | ⟨h4, _⟩)⟩
  · have := Nat.mul_lt_mul_of_pos_right h6 hy
    omega
  · omega
theorem hg_S5_nj {x y z t i : Nat} (ht : 1 ≤ t) (hx : 0 < x) (h : t * x ≤ y) : ¬ hg_S5 x y z i t x (y - t * x) z := by
  have h0 : 0 < t * x := Nat.mul_pos ht hx
  rintro ⟨_, _, _, (⟨h4, _⟩ | ⟨_, s, h5, h6, h7⟩)⟩
  · omega
  · have := Nat.mul_lt_mul_of_pos_right h6 hx
    omega
theorem hg_lm37 {post : SY → Prop} {x y z l e : Nat} (hx : x ≤ 15) (hy : y ≤ 15) (hx0 : 0 < x) (hy0 : 0 < y) (hl : l = if y ≤ x then y else x) (he : e = if y ≤ x then x else y) (K : ∀ (cnt' : Int32) (xs' ys' zs' : Nat → Int32), hg_L (hg_O5 x y z) 800 cnt' xs' ys' zs' → post (cnt', fnd, hp, xs', ys', zs', wn, vl, tk, lm, nu)) : ∀ (d t : Nat) (cnt : Int32) (xs ys zs : Nat → Int32), t + d = 16 → 1 ≤ t → hg_L (hg_S5 x y z t t) (2 * t) cnt xs ys zs → wY_listMultiples_37 post (nI x) (nI y) (nI z) (nI l) (nI e) (d + 1) (nI (t * l)) cnt fnd hp xs ys zs wn vl tk lm nu := by
  have hll : l ≤ x ∧ l ≤ y ∧ x ≤ e ∧ y ≤ e ∧ 1 ≤ l ∧ e ≤ 15 ∧ (y ≤ x → l = y ∧ e = x) ∧ (x ≤ y → l = x ∧ e = y) := by
    rw [hl, he]
    by_cases z1 : y ≤ x
    · rw [if_pos z1, if_pos z1]; omega
    · rw [if_neg z1, if_neg z1]; omega
  obtain ⟨l1, l2, l3, l4, l5, l6, l7, l8⟩ := hll
  have hX : ∀ (t : Nat) (cnt : Int32) (xs ys zs : Nat → Int32), t ≤ 16 → e < t * l → hg_L (hg_S5 x y z t t) (2 * t) cnt xs ys zs → post (cnt, fnd, hp, xs, ys, zs, wn, vl, tk, lm, nu) := fun t cnt xs ys zs h1 h2 HL => K _ _ _ _ (hg_L_iff HL (by omega) (fun p q r => hg_S5_x l1 l2 l3 l4 h2))
  intro d
  induction d with
  | zero =>
    intro t cnt xs ys zs ht h1 HL
    obtain rfl : t = 16 := by omega
    exact br_t (nI_lt (by omega) (by omega)) (hX 16 _ _ _ _ (by omega) (by omega) HL)
  | succ d ih =>
    intro t cnt xs ys zs ht h1 HL
    have hb : t * l ≤ 15 * 15 := Nat.mul_le_mul (by omega) (by omega)
    have en : nI (t * l) + nI l = nI ((t + 1) * l) := by rw [nI_add, Nat.add_mul, Nat.one_mul]
    refine pk_lt e (t * l) (fun z1 => hX t _ _ _ _ (by omega) z1 HL) (fun z1 => ?_)
    have Y : ∀ (cnt : Int32) (xs ys zs : Nat → Int32), hg_L (hg_S5 x y z (t + 1) t) (2 * t + 1) cnt xs ys zs → wY_listMultiples_59 post (wY_listMultiples_37 post (nI x) (nI y) (nI z) (nI l) (nI e) (d + 1)) (nI x) (nI y) (nI z) (nI l) (nI e) (nI (t * l)) cnt fnd hp xs ys zs wn vl tk lm nu := by
      intro cnt xs ys zs HL
      refine pk_lt y x (fun z2 => nm_r en (ih (t + 1) cnt xs ys zs (by omega) (by omega) (hg_L_iff HL (by omega) (fun p q r => hg_S5_j0 h1 ?_)))) (fun z2 => ?_)
      · have : 1 * x ≤ t * x := Nat.mul_le_mul_right x h1
        omega
      · obtain ⟨q1, q2⟩ := l8 z2
        subst q1 q2
        exact hg_leave (x := l) (y := e - t * l) (z := z) HL (by omega) (hg_S5_nj h1 hx0 z1) rfl (pk_sub z1) rfl (fun p q r => hg_S5_j hx0 hy0 h1 z1) (fun cnt' xs' ys' zs' k' => nm_r en (ih (t + 1) cnt' xs' ys' zs' (by omega) (by omega) (hg_L_iff k' (by omega) (fun p q r => Iff.rfl))))
    refine pk_lt x y (fun z2 => Y cnt xs ys zs (hg_L_iff HL (by omega) (fun p q r => hg_S5_i0 h1 ?_))) (fun z2 => ?_)
    · have : 1 * y ≤ t * y := Nat.mul_le_mul_right y h1
      omega
    · obtain ⟨q1, q2⟩ := l7 z2
      subst q1 q2
      exact hg_leave (x := e - t * l) (y := l) (z := z) HL (by omega) (hg_S5_ni h1 hy0 z1) (pk_sub z1) rfl rfl (fun p q r => hg_S5_i hx0 hy0 h1 z1) (fun cnt' xs' ys' zs' k' => Y cnt' xs' ys' zs' k')
theorem hg_lmY {post : SY → Prop} {x y z : Nat} {xs ys zs : Nat → Int32} (hx : x ≤ 15) (hy : y ≤ 15) (K : ∀ (cnt' : Int32) (xs' ys' zs' : Nat → Int32), hg_L (hg_O5 x y z) 800 cnt' xs' ys' zs' → post (cnt', fnd, hp, xs', ys', zs', wn, vl, tk, lm, nu)) : wpY_listMultiples post (0, fnd, hp, xs, ys, zs, wn, vl, tk, lm, nu) (nI x) (nI y) (nI z) := by
  have Z : (x = 0 ∨ y = 0) → post (0, fnd, hp, xs, ys, zs, wn, vl, tk, lm, nu) := by
    intro z1
    refine K _ _ _ _ (hg_L_iff hg_L_0 (by omega) (fun p q r => ⟨fun k => ?_, fun k => k.elim⟩))
    obtain ⟨_, h2, h3, h4⟩ := k
    clear h4
    omega
  have I0 : hg_L (hg_S5 x y z 1 1) (2 * 1) 0 xs ys zs := by
    refine hg_L_iff hg_L_0 (by omega) (fun p q r => ⟨fun k => ?_, fun k => k.elim⟩)
    obtain ⟨_, _, _, (⟨_, s, h5, h6, _⟩ | ⟨_, s, h5, h6, _⟩)⟩ := k
    · omega
    · omega
  refine pk_eq x 0 (fun z1 => Z (Or.inl z1)) (fun z1 => pk_eq y 0 (fun z2 => Z (Or.inr z2)) (fun z2 => ?_))
  have kk := hg_lm37 (fnd := fnd) (hp := hp) (wn := wn) (vl := vl) (tk := tk) (lm := lm) (nu := nu) (post := post) (z := z) hx hy (by omega : 0 < x) (by omega : 0 < y) rfl rfl K 15 1 0 xs ys zs rfl (Nat.le_refl _) I0
  rw [Nat.one_mul] at kk
  by_cases z3 : y ≤ x
  · rw [if_pos z3, if_pos z3] at kk
    exact br_t (nI_le z3 (by omega)) (br_t (nI_le z3 (by omega)) ⟨16, kk⟩)
  · rw [if_neg z3, if_neg z3] at kk
    exact br_f (nI_ge (by omega) (by omega)) (br_f (nI_ge (by omega) (by omega)) ⟨16, kk⟩)
end HG10
end
section
/-! the reference: singles, and pairs in game 2 -/
def hg_Q (x y z i j l p q r : Nat) : Prop := (q = y ∧ r = z ∧ p < x ∧ x < p + i) ∨ (p = x ∧ r = z ∧ q < y ∧ y < q + j) ∨ (p = x ∧ q = y ∧ r < z ∧ z < r + l)
def hg_D1 (x y z k n p q r : Nat) : Prop := p < x ∧ q < y ∧ r = z ∧ (x < p + k ∨ (x = p + k ∧ y < q + n))
def hg_D2 (x y z k n p q r : Nat) : Prop := p < x ∧ q = y ∧ r < z ∧ (x < p + k ∨ (x = p + k ∧ z < r + n))
def hg_D3 (x y z k n p q r : Nat) : Prop := p = x ∧ q < y ∧ r < z ∧ (y < q + k ∨ (y = q + k ∧ z < r + n))
def hg_Z (g x y z i j l k n1 n2 n3 p q r : Nat) : Prop := hg_Q x y z i j l p q r ∨ (g = 2 ∧ (hg_D1 x y z k n1 p q r ∨ hg_D2 x y z k n2 p q r ∨ hg_D3 x y z k n3 p q r))
theorem hg_Zq {g x y z i j l i' j' l' k n1 n2 n3 p q r : Nat} {e : Prop} (h : hg_Q x y z i' j' l' p q r ↔ hg_Q x y z i j l p q r ∨ e) : hg_Z g x y z i' j' l' k n1 n2 n3 p q r ↔ hg_Z g x y z i j l k n1 n2 n3 p q r ∨ e := by
  unfold hg_Z
  rw [h]
  constructor
  · rintro ((h1 | h1) | h1)
    · exact Or.inl (Or.inl h1)
    · exact Or.inr h1
    · exact Or.inl (Or.inr h1)
  · rintro ((h1 | h1) | h1)
    · exact Or.inl (Or.inl h1)
    · exact Or.inr h1
    · exact Or.inl (Or.inr h1)
theorem hg_Zq0 {g x y z i j l i' j' l' k n1 n2 n3 p q r : Nat} (h : hg_Q x y z i' j' l' p q r ↔ hg_Q x y z i j l p q r) : hg_Z g x y z i' j' l' k n1 n2 n3 p q r ↔ hg_Z g x y z i j l k n1 n2 n3 p q r := by
  unfold hg_Z
  rw [h]
theorem hg_Z1 {x y z i j l k n1 n1' n2 n3 p q r : Nat} {e : Prop} (h : hg_D1 x y z k n1' p q r ↔ hg_D1 x y z k n1 p q r ∨ e) : hg_Z 2 x y z i j l k n1' n2 n3 p q r ↔ hg_Z 2 x y z i j l k n1 n2 n3 p q r ∨ e := by
  unfold hg_Z
  rw [h]
  constructor
  · rintro (h1 | ⟨h1, ((h2 | h2) | h2)⟩)
    · exact Or.inl (Or.inl h1)
    · exact Or.inl (Or.inr ⟨h1, Or.inl h2⟩)
    · exact Or.inr h2
    · exact Or.inl (Or.inr ⟨h1, Or.inr h2⟩)
  · rintro ((h1 | ⟨h1, (h2 | h2)⟩) | h1)
    · exact Or.inl h1
    · exact Or.inr ⟨h1, Or.inl (Or.inl h2)⟩
    · exact Or.inr ⟨h1, Or.inr h2⟩
    · exact Or.inr ⟨rfl, Or.inl (Or.inr h1)⟩
theorem hg_Z2 {x y z i j l k n1 n2 n2' n3 p q r : Nat} {e : Prop} (h : hg_D2 x y z k n2' p q r ↔ hg_D2 x y z k n2 p q r ∨ e) : hg_Z 2 x y z i j l k n1 n2' n3 p q r ↔ hg_Z 2 x y z i j l k n1 n2 n3 p q r ∨ e := by
  unfold hg_Z
  rw [h]
  constructor
  · rintro (h1 | ⟨h1, (h2 | (h2 | h2) | h2)⟩)
    · exact Or.inl (Or.inl h1)
    · exact Or.inl (Or.inr ⟨h1, Or.inl h2⟩)
    · exact Or.inl (Or.inr ⟨h1, Or.inr (Or.inl h2)⟩)
    · exact Or.inr h2
    · exact Or.inl (Or.inr ⟨h1, Or.inr (Or.inr h2)⟩)
  · rintro ((h1 | ⟨h1, (h2 | h2 | h2)⟩) | h1)
    · exact Or.inl h1
    · exact Or.inr ⟨h1, Or.inl h2⟩
    · exact Or.inr ⟨h1, Or.inr (Or.inl (Or.inl h2))⟩
    · exact Or.inr ⟨h1, Or.inr (Or.inr h2)⟩
    · exact Or.inr ⟨rfl, Or.inr (Or.inl (Or.inr h1))⟩
theorem hg_Z3 {x y z i j l k n1 n2 n3 n3' p q r : Nat} {e : Prop} (h : hg_D3 x y z k n3' p q r ↔ hg_D3 x y z k n3 p q r ∨ e) : hg_Z 2 x y z i j l k n1 n2 n3' p q r ↔ hg_Z 2 x y z i j l k n1 n2 n3 p q r ∨ e := by
  unfold hg_Z
  rw [h]
  constructor
  · rintro (h1 | ⟨h1, (h2 | h2 | (h2 | h2))⟩)
    · exact Or.inl (Or.inl h1)
    · exact Or.inl (Or.inr ⟨h1, Or.inl h2⟩)
    · exact Or.inl (Or.inr ⟨h1, Or.inr (Or.inl h2)⟩)
    · exact Or.inl (Or.inr ⟨h1, Or.inr (Or.inr h2)⟩)
    · exact Or.inr h2
  · rintro ((h1 | ⟨h1, (h2 | h2 | h2)⟩) | h1)
    · exact Or.inl h1
    · exact Or.inr ⟨h1, Or.inl h2⟩
    · exact Or.inr ⟨h1, Or.inr (Or.inl h2)⟩
    · exact Or.inr ⟨h1, Or.inr (Or.inr (Or.inl h2))⟩
    · exact Or.inr ⟨rfl, Or.inr (Or.inr (Or.inr h1))⟩
theorem hg_Zd {g x y z i j l k k' n1 n2 n3 n1' n2' n3' p q r : Nat} (h1 : g = 2 → (hg_D1 x y z k' n1' p q r ↔ hg_D1 x y z k n1 p q r)) (h2 : g = 2 → (hg_D2 x y z k' n2' p q r ↔ hg_D2 x y z k n2 p q r)) (h3 : g = 2 → (hg_D3 x y z k' n3' p q r ↔ hg_D3 x y z k n3 p q r)) : hg_Z g x y z i j l k' n1' n2' n3' p q r ↔ hg_Z g x y z i j l k n1 n2 n3 p q r := by
  unfold hg_Z
  refine or_congr Iff.rfl ⟨fun ⟨e, h⟩ => ⟨e, ?_⟩, fun ⟨e, h⟩ => ⟨e, ?_⟩⟩
  · rw [h1 e, h2 e, h3 e] at h
    exact h
  · rw [h1 e, h2 e, h3 e]
    exact h
section HG11
variable {fnd : Int32} {hp wn vl tk lm nu : Nat → Int32}
theorem hg_ls144 {post : SY → Prop} {J17 J79 : Int32 → Int32 → Int32 → (Nat → Int32) → (Nat → Int32) → (Nat → Int32) → (Nat → Int32) → (Nat → Int32) → (Nat → Int32) → (Nat → Int32) → (Nat → Int32) → (Nat → Int32) → Prop} {x y z M k n B : Nat} {cnt : Int32} {xs ys zs : Nat → Int32} (hx : x ≤ 15) (hy : y ≤ 15) (hz : z ≤ 15) (hk : 1 ≤ k) (hk2 : k ≤ 15) (hn : 1 ≤ n) (hn2 : n ≤ 15) (hB : B < 800) (HL : hg_L (hg_Z 2 x y z (k + 1) (k + 1) (k + 1) k (n + 1) (n + 1) n) B cnt xs ys zs) (K : ∀ (cnt' : Int32) (xs' ys' zs' : Nat → Int32), hg_L (hg_Z 2 x y z (k + 1) (k + 1) (k + 1) k (n + 1) (n + 1) (n + 1)) (B + 1) cnt' xs' ys' zs' → J79 (nI (n + 1)) cnt' fnd hp xs' ys' zs' wn vl tk lm nu) : wY_listSingles_144 post J17 J79 (nI 2) (nI x) (nI y) (nI z) (nI M) (nI k) (nI n) cnt fnd hp xs ys zs wn vl tk lm nu := by
  have Z : (y < k ∨ z < n) → J79 (nI (n + 1)) cnt fnd hp xs ys zs wn vl tk lm nu := by
    intro z1
    refine K _ _ _ _ (hg_L_iff HL (by omega) (fun p q r => hg_Zd (fun _ => Iff.rfl) (fun _ => Iff.rfl) (fun _ => ?_)))
    unfold hg_D3; omega
  refine pk_lt y k (fun z1 => nm_r (nI_1 n) (Z (Or.inl z1))) (fun z1 => pk_lt z n (fun z2 => nm_r (nI_1 n) (Z (Or.inr z2))) (fun z2 => ?_))
  refine hg_leave (x := x) (y := y - k) (z := z - n) HL hB (fun w => ?_) rfl (pk_sub z1) (pk_sub z2) (fun p q r => hg_Z3 ?_) (fun cnt' xs' ys' zs' k' => nm_r (nI_1 n) (K cnt' xs' ys' zs' k'))
  · unfold hg_Z hg_Q hg_D1 hg_D2 hg_D3 at w; omega
  · unfold hg_D3; omega
theorem hg_ls117 {post : SY → Prop} {J17 J79 : Int32 → Int32 → Int32 → (Nat → Int32) → (Nat → Int32) → (Nat → Int32) → (Nat → Int32) → (Nat → Int32) → (Nat → Int32) → (Nat → Int32) → (Nat → Int32) → (Nat → Int32) → Prop} {x y z M k n B : Nat} {cnt : Int32} {xs ys zs : Nat → Int32} (hx : x ≤ 15) (hy : y ≤ 15) (hz : z ≤ 15) (hk : 1 ≤ k) (hk2 : k ≤ 15) (hn : 1 ≤ n) (hn2 : n ≤ 15) (hB : B + 1 < 800) (HL : hg_L (hg_Z 2 x y z (k + 1) (k + 1) (k + 1) k (n + 1) n n) B cnt xs ys zs) (K : ∀ (cnt' : Int32) (xs' ys' zs' : Nat → Int32), hg_L (hg_Z 2 x y z (k + 1) (k + 1) (k + 1) k (n + 1) (n + 1) (n + 1)) (B + 2) cnt' xs' ys' zs' → J79 (nI (n + 1)) cnt' fnd hp xs' ys' zs' wn vl tk lm nu) : wY_listSingles_117 post J17 J79 (nI 2) (nI x) (nI y) (nI z) (nI M) (nI k) (nI n) cnt fnd hp xs ys zs wn vl tk lm nu := by
  have Z : (x < k ∨ z < n) → wY_listSingles_144 post J17 J79 (nI 2) (nI x) (nI y) (nI z) (nI M) (nI k) (nI n) cnt fnd hp xs ys zs wn vl tk lm nu := by
    intro z1
    refine hg_ls144 hx hy hz hk hk2 hn hn2 hB (hg_L_iff HL (by omega) (fun p q r => hg_Zd (fun _ => Iff.rfl) (fun _ => ?_) (fun _ => Iff.rfl))) K
    unfold hg_D2; omega
  refine pk_lt x k (fun z1 => Z (Or.inl z1)) (fun z1 => pk_lt z n (fun z2 => Z (Or.inr z2)) (fun z2 => ?_))
  refine hg_leave (x := x - k) (y := y) (z := z - n) HL (by omega) (fun w => ?_) (pk_sub z1) rfl (pk_sub z2) (fun p q r => hg_Z2 ?_) (fun cnt' xs' ys' zs' k' => hg_ls144 hx hy hz hk hk2 hn hn2 hB k' K)
  · unfold hg_Z hg_Q hg_D1 hg_D2 hg_D3 at w; omega
  · unfold hg_D2; omega
theorem hg_ls79 {post : SY → Prop} {J17 : Int32 → Int32 → Int32 → (Nat → Int32) → (Nat → Int32) → (Nat → Int32) → (Nat → Int32) → (Nat → Int32) → (Nat → Int32) → (Nat → Int32) → (Nat → Int32) → (Nat → Int32) → Prop} {g x y z M k : Nat} (hg : g ≤ 7) (hx : x ≤ 15) (hy : y ≤ 15) (hz : z ≤ 15) (hk : 1 ≤ k) (hk2 : k ≤ 15) (K : ∀ (cnt' : Int32) (xs' ys' zs' : Nat → Int32), hg_L (hg_Z g x y z (k + 1) (k + 1) (k + 1) (k + 1) 1 1 1) (48 * (k + 1)) cnt' xs' ys' zs' → J17 (nI (k + 1)) cnt' fnd hp xs' ys' zs' wn vl tk lm nu) : ∀ (d n : Nat) (cnt : Int32) (xs ys zs : Nat → Int32), n + d = 16 → 1 ≤ n → hg_L (hg_Z g x y z (k + 1) (k + 1) (k + 1) k n n n) (48 * k + 3 * n) cnt xs ys zs → wY_listSingles_79 post J17 (nI g) (nI x) (nI y) (nI z) (nI M) (nI k) (d + 1) (nI n) cnt fnd hp xs ys zs wn vl tk lm nu := by
  intro d
  induction d with
  | zero =>
    intro n cnt xs ys zs hn h1 HL
    obtain rfl : n = 16 := by omega
    refine br_t (by decide) (nm_r (nI_1 k) (K _ _ _ _ (hg_L_iff HL (by omega) (fun p q r => hg_Zd (fun _ => ?_) (fun _ => ?_) (fun _ => ?_)))))
    · unfold hg_D1; omega
    · unfold hg_D2; omega
    · unfold hg_D3; omega
  | succ d ih =>
    intro n cnt xs ys zs hn h1 HL
    refine br_f (nI_nlt (a := 15) (by omega) (by omega)) (pk_eq g 2 (fun e => ?_) (fun e => ?_))
    · subst e
      have K' : ∀ (cnt' : Int32) (xs' ys' zs' : Nat → Int32), hg_L (hg_Z 2 x y z (k + 1) (k + 1) (k + 1) k (n + 1) (n + 1) (n + 1)) (48 * k + 3 * n + 1 + 2) cnt' xs' ys' zs' → wY_listSingles_79 post J17 (nI 2) (nI x) (nI y) (nI z) (nI M) (nI k) (d + 1) (nI (n + 1)) cnt' fnd hp xs' ys' zs' wn vl tk lm nu := fun cnt' xs' ys' zs' k' => ih (n + 1) cnt' xs' ys' zs' (by omega) (by omega) (hg_L_iff k' (by omega) (fun p q r => Iff.rfl))
      have Z : (x < k ∨ y < n) → wY_listSingles_117 post J17 (wY_listSingles_79 post J17 (nI 2) (nI x) (nI y) (nI z) (nI M) (nI k) (d + 1)) (nI 2) (nI x) (nI y) (nI z) (nI M) (nI k) (nI n) cnt fnd hp xs ys zs wn vl tk lm nu := by
        intro z1
        refine hg_ls117 hx hy hz hk hk2 h1 (by omega) (by omega) (hg_L_iff HL (by omega : _ ≤ 48 * k + 3 * n + 1) (fun p q r => hg_Zd (fun _ => ?_) (fun _ => Iff.rfl) (fun _ => Iff.rfl))) K'
        unfold hg_D1; omega
      refine pk_lt x k (fun z1 => Z (Or.inl z1)) (fun z1 => pk_lt y n (fun z2 => Z (Or.inr z2)) (fun z2 => ?_))
      refine hg_leave (x := x - k) (y := y - n) (z := z) HL (by omega) (fun w => ?_) (pk_sub z1) (pk_sub z2) rfl (fun p q r => hg_Z1 ?_) (fun cnt' xs' ys' zs' k' => hg_ls117 hx hy hz hk hk2 h1 (by omega) (by omega) k' K')
      · unfold hg_Z hg_Q hg_D1 hg_D2 hg_D3 at w; omega
      · unfold hg_D1; omega
    · exact nm_r (nI_1 k) (K _ _ _ _ (hg_L_iff HL (by omega) (fun p q r => hg_Zd (fun z => absurd z e) (fun z => absurd z e) (fun z => absurd z e))))
theorem hg_ls58 {post : SY → Prop} {J17 : Int32 → Int32 → Int32 → (Nat → Int32) → (Nat → Int32) → (Nat → Int32) → (Nat → Int32) → (Nat → Int32) → (Nat → Int32) → (Nat → Int32) → (Nat → Int32) → (Nat → Int32) → Prop} {g x y z M k : Nat} {cnt : Int32} {xs ys zs : Nat → Int32} (hg : g ≤ 7) (hx : x ≤ 15) (hy : y ≤ 15) (hz : z ≤ 15) (hk : 1 ≤ k) (hk2 : k ≤ 15) (HL : hg_L (hg_Z g x y z (k + 1) (k + 1) k k 1 1 1) (48 * k + 2) cnt xs ys zs) (K : ∀ (cnt' : Int32) (xs' ys' zs' : Nat → Int32), hg_L (hg_Z g x y z (k + 1) (k + 1) (k + 1) (k + 1) 1 1 1) (48 * (k + 1)) cnt' xs' ys' zs' → J17 (nI (k + 1)) cnt' fnd hp xs' ys' zs' wn vl tk lm nu) : wY_listSingles_58 post J17 (nI g) (nI x) (nI y) (nI z) (nI M) (nI k) cnt fnd hp xs ys zs wn vl tk lm nu := by
  refine pk_lt z k (fun z1 => ⟨16, hg_ls79 hg hx hy hz hk hk2 K 15 1 cnt xs ys zs rfl (Nat.le_refl _) (hg_L_iff HL (by omega) (fun p q r => hg_Zq0 ?_))⟩) (fun z1 => ?_)
  · unfold hg_Q; omega
  · refine hg_leave (x := x) (y := y) (z := z - k) HL (by omega) (fun w => ?_) rfl rfl (pk_sub z1) (fun p q r => hg_Zq ?_) (fun cnt' xs' ys' zs' k' => ⟨16, hg_ls79 hg hx hy hz hk hk2 K 15 1 cnt' xs' ys' zs' rfl (Nat.le_refl _) k'⟩)
    · unfold hg_Z hg_Q hg_D1 hg_D2 hg_D3 at w; omega
    · unfold hg_Q; omega
theorem hg_ls41 {post : SY → Prop} {J17 : Int32 → Int32 → Int32 → (Nat → Int32) → (Nat → Int32) → (Nat → Int32) → (Nat → Int32) → (Nat → Int32) → (Nat → Int32) → (Nat → Int32) → (Nat → Int32) → (Nat → Int32) → Prop} {g x y z M k : Nat} {cnt : Int32} {xs ys zs : Nat → Int32} (hg : g ≤ 7) (hx : x ≤ 15) (hy : y ≤ 15) (hz : z ≤ 15) (hk : 1 ≤ k) (hk2 : k ≤ 15) (HL : hg_L (hg_Z g x y z (k + 1) k k k 1 1 1) (48 * k + 1) cnt xs ys zs) (K : ∀ (cnt' : Int32) (xs' ys' zs' : Nat → Int32), hg_L (hg_Z g x y z (k + 1) (k + 1) (k + 1) (k + 1) 1 1 1) (48 * (k + 1)) cnt' xs' ys' zs' → J17 (nI (k + 1)) cnt' fnd hp xs' ys' zs' wn vl tk lm nu) : wY_listSingles_41 post J17 (nI g) (nI x) (nI y) (nI z) (nI M) (nI k) cnt fnd hp xs ys zs wn vl tk lm nu := by
  refine pk_lt y k (fun z1 => hg_ls58 hg hx hy hz hk hk2 (hg_L_iff HL (by omega) (fun p q r => hg_Zq0 ?_)) K) (fun z1 => ?_)
  · unfold hg_Q; omega
  · refine hg_leave (x := x) (y := y - k) (z := z) HL (by omega) (fun w => ?_) rfl (pk_sub z1) rfl (fun p q r => hg_Zq ?_) (fun cnt' xs' ys' zs' k' => hg_ls58 hg hx hy hz hk hk2 k' K)
    · unfold hg_Z hg_Q hg_D1 hg_D2 hg_D3 at w; omega
    · unfold hg_Q; omega
theorem hg_ls17 {post : SY → Prop} {g x y z M : Nat} (hg : g ≤ 7) (hx : x ≤ 15) (hy : y ≤ 15) (hz : z ≤ 15) (hM : M ≤ 15) (K : ∀ (cnt' : Int32) (xs' ys' zs' : Nat → Int32), hg_L (hg_Z g x y z (M + 1) (M + 1) (M + 1) (M + 1) 1 1 1) 800 cnt' xs' ys' zs' → post (cnt', fnd, hp, xs', ys', zs', wn, vl, tk, lm, nu)) : ∀ (d k : Nat) (cnt : Int32) (xs ys zs : Nat → Int32), k + d = M + 1 → 1 ≤ k → hg_L (hg_Z g x y z k k k k 1 1 1) (48 * k) cnt xs ys zs → wY_listSingles_17 post (nI g) (nI x) (nI y) (nI z) (nI M) (d + 1) (nI k) cnt fnd hp xs ys zs wn vl tk lm nu := by
  intro d
  induction d with
  | zero =>
    intro k cnt xs ys zs hk h1 HL
    obtain rfl : k = M + 1 := by omega
    exact br_t (nI_lt (by omega) (by omega)) (K _ _ _ _ (hg_L_iff HL (by omega) (fun p q r => Iff.rfl)))
  | succ d ih =>
    intro k cnt xs ys zs hk h1 HL
    have K' : ∀ (cnt' : Int32) (xs' ys' zs' : Nat → Int32), hg_L (hg_Z g x y z (k + 1) (k + 1) (k + 1) (k + 1) 1 1 1) (48 * (k + 1)) cnt' xs' ys' zs' → wY_listSingles_17 post (nI g) (nI x) (nI y) (nI z) (nI M) (d + 1) (nI (k + 1)) cnt' fnd hp xs' ys' zs' wn vl tk lm nu := fun cnt' xs' ys' zs' k' => ih (k + 1) cnt' xs' ys' zs' (by omega) (by omega) k'
    refine br_f (nI_nlt (by omega) (by omega)) (pk_lt x k (fun z1 => hg_ls41 hg hx hy hz h1 (by omega) (hg_L_iff HL (by omega) (fun p q r => hg_Zq0 ?_)) K') (fun z1 => ?_))
    · unfold hg_Q; omega
    · refine hg_leave (x := x - k) (y := y) (z := z) HL (by omega) (fun w => ?_) (pk_sub z1) rfl rfl (fun p q r => hg_Zq ?_) (fun cnt' xs' ys' zs' k' => hg_ls41 hg hx hy hz h1 (by omega) k' K')
      · unfold hg_Z hg_Q hg_D1 hg_D2 hg_D3 at w; omega
      · unfold hg_Q; omega
theorem hg_lsY {post : SY → Prop} {g x y z : Nat} {xs ys zs : Nat → Int32} (hg : g ≤ 7) (hx : x ≤ 15) (hy : y ≤ 15) (hz : z ≤ 15) (h3 : g ≠ 3) (h4 : g ≠ 4) (h5 : g ≠ 5) (K : ∀ (cnt' : Int32) (xs' ys' zs' : Nat → Int32), hg_L (hg_Opt g x y z) 800 cnt' xs' ys' zs' → post (cnt', fnd, hp, xs', ys', zs', wn, vl, tk, lm, nu)) : wpY_listSingles post (0, fnd, hp, xs, ys, zs, wn, vl, tk, lm, nu) (nI g) (nI x) (nI y) (nI z) := by
  have I0 : hg_L (hg_Z g x y z 1 1 1 1 1 1 1) (48 * 1) 0 xs ys zs := by
    refine hg_L_iff hg_L_0 (by omega) (fun p q r => ⟨fun k => ?_, fun k => k.elim⟩)
    unfold hg_Z hg_Q hg_D1 hg_D2 hg_D3 at k
    omega
  refine pk_eq g 7 (fun e => ?_) (fun e => ?_)
  · subst e
    refine ⟨4, hg_ls17 (M := 3) hg hx hy hz (by omega) (fun cnt' xs' ys' zs' k' => K cnt' xs' ys' zs' (hg_L_iff k' (by omega) (fun p q r => ?_))) 3 1 0 xs ys zs rfl (Nat.le_refl _) I0⟩
    rw [hg_Opt_7]
    unfold hg_Z hg_Q hg_O1
    omega
  · refine ⟨16, hg_ls17 (M := 15) hg hx hy hz (by omega) (fun cnt' xs' ys' zs' k' => K cnt' xs' ys' zs' (hg_L_iff k' (by omega) (fun p q r => ?_))) 15 1 0 xs ys zs rfl (Nat.le_refl _) I0⟩
    unfold hg_Opt hg_Z
    rw [if_neg h3, if_neg h4, if_neg h5, if_neg e]
    have eQ : hg_Q x y z (15 + 1) (15 + 1) (15 + 1) p q r ↔ hg_O1 15 x y z p q r := by
      unfold hg_Q hg_O1
      omega
    rw [eQ]
    by_cases e2 : g = 2
    · rw [if_pos e2]
      refine or_congr Iff.rfl ⟨fun k => ⟨e2, ?_⟩, fun k => ?_⟩
      · unfold hg_D1 hg_D2 hg_D3
        unfold hg_O2 at k
        omega
      · have k := k.2
        unfold hg_D1 hg_D2 hg_D3 at k
        unfold hg_O2
        omega
    · rw [if_neg e2]
      exact ⟨Or.inl, fun k => k.elim id (fun k => absurd k.1 e2)⟩
/-- the list holds every option once -/
theorem hg_listY {post : SY → Prop} {g x y z : Nat} {cnt : Int32} {xs ys zs : Nat → Int32} (hg : g ≤ 7) (h6 : g ≠ 6) (hb : hg_Bd g x y z) (K : ∀ (cnt' : Int32) (xs' ys' zs' : Nat → Int32), hg_L (hg_Opt g x y z) 800 cnt' xs' ys' zs' → post (cnt', fnd, hp, xs', ys', zs', wn, vl, tk, lm, nu)) : wpY_list post (cnt, fnd, hp, xs, ys, zs, wn, vl, tk, lm, nu) (nI g) (nI x) (nI y) (nI z) := by
  obtain ⟨b1, b2, b3, b4⟩ := hb
  refine pk_eq g 3 (fun e => ?_) (fun h3 => ?_)
  · subst e
    refine ⟨z + 1, hg_pu3 b1 b2 b3 (fun cnt' xs' ys' zs' k' => K cnt' xs' ys' zs' k') z 1 0 xs ys zs (by omega) (Nat.le_refl _) (hg_L_iff hg_L_0 (by omega) (fun p q r => ⟨fun k => ?_, fun k => k.elim⟩))⟩
    unfold hg_S3 at k
    omega
  · have b5 := b4 h3
    refine pk_eq g 4 (fun e => ?_) (fun h4 => ?_)
    · subst e
      refine ⟨x + 1, hg_le3 b5.1 b5.2 b3 (fun cnt' xs' ys' zs' k' => K cnt' xs' ys' zs' k') x 1 0 xs ys zs (by omega) (Nat.le_refl _) (hg_L_iff hg_L_0 (by omega) (fun p q r => ⟨fun k => ?_, fun k => k.elim⟩))⟩
      unfold hg_Y4 at k
      omega
    · refine pk_eq g 5 (fun e => ?_) (fun h5 => ?_)
      · subst e
        exact hg_lmY b5.1 b5.2 (fun cnt' xs' ys' zs' k' => K cnt' xs' ys' zs' k')
      · exact hg_lsY hg b5.1 b5.2 b3 h3 h4 h5 (fun cnt' xs' ys' zs' k' => K cnt' xs' ys' zs' k')
end HG11
end
section
/-! the reference: one position is worked out -/
theorem hg_keyI {x y z : Nat} : (((nI z * 31) + nI y) * 46) + nI x = nI (hg_key x y z) := by
  rw [show (31 : Int32) = nI 31 from rfl, show (46 : Int32) = nI 46 from rfl, pk_mul, nI_add, pk_mul, nI_add]
  rfl
def hg_Tab (g : Nat) (J : Nat → Nat → Nat → Prop) (wn vl : Nat → Int32) : Prop := ∀ x y z, J x y z → wn (hg_key x y z) = hg_bI (hg_won g x y z) ∧ vl (hg_key x y z) = nI (hg_val g x y z)
theorem hg_Z16 {x y z p q r : Nat} (hx : x ≤ 15) (hy : y ≤ 15) (hz : z ≤ 15) (h : hg_Opt 2 x y z p q r) : hg_Z 2 x y z 16 16 16 16 1 1 1 p q r := by
  rw [hg_Opt_2] at h
  unfold hg_Z
  rcases h with h | h
  · refine Or.inl ?_
    unfold hg_O1 at h
    unfold hg_Q
    omega
  · refine Or.inr ⟨rfl, ?_⟩
    unfold hg_O2 at h
    unfold hg_D1 hg_D2 hg_D3
    omega
def hg_NL (x y z i j l k n1 n2 n3 : Nat) : Prop := ∀ p q r, hg_Z 2 x y z i j l k n1 n2 n3 p q r → hg_won 2 p q r = true
theorem hg_NLi {x y z i j l k n1 n2 n3 : Nat} (hi : 1 ≤ i) (h : hg_NL x y z i j l k n1 n2 n3) (hw : i ≤ x → hg_won 2 (x - i) y z = true) : hg_NL x y z (i + 1) j l k n1 n2 n3 := by
  intro p q r hz
  by_cases c : i ≤ x
  · rcases (hg_Zq (i := i) (j := j) (l := l) (e := p = x - i ∧ q = y ∧ r = z) (by unfold hg_Q; omega)).mp hz with h1 | ⟨rfl, rfl, rfl⟩
    · exact h p q r h1
    · exact hw c
  · exact h p q r ((hg_Zq0 (i := i) (j := j) (l := l) (by unfold hg_Q; omega)).mp hz)
theorem hg_NLj {x y z i j l k n1 n2 n3 : Nat} (hi : 1 ≤ j) (h : hg_NL x y z i j l k n1 n2 n3) (hw : j ≤ y → hg_won 2 x (y - j) z = true) : hg_NL x y z i (j + 1) l k n1 n2 n3 := by
  intro p q r hz
  by_cases c : j ≤ y
  · rcases (hg_Zq (i := i) (j := j) (l := l) (e := p = x ∧ q = y - j ∧ r = z) (by unfold hg_Q; omega)).mp hz with h1 | ⟨rfl, rfl, rfl⟩
    · exact h p q r h1
    · exact hw c
  · exact h p q r ((hg_Zq0 (i := i) (j := j) (l := l) (by unfold hg_Q; omega)).mp hz)
theorem hg_NLl {x y z i j l k n1 n2 n3 : Nat} (hi : 1 ≤ l) (h : hg_NL x y z i j l k n1 n2 n3) (hw : l ≤ z → hg_won 2 x y (z - l) = true) : hg_NL x y z i j (l + 1) k n1 n2 n3 := by
  intro p q r hz
  by_cases c : l ≤ z
  · rcases (hg_Zq (i := i) (j := j) (l := l) (e := p = x ∧ q = y ∧ r = z - l) (by unfold hg_Q; omega)).mp hz with h1 | ⟨rfl, rfl, rfl⟩
    · exact h p q r h1
    · exact hw c
  · exact h p q r ((hg_Zq0 (i := i) (j := j) (l := l) (by unfold hg_Q; omega)).mp hz)
theorem hg_NL1 {x y z i j l k n n2 n3 : Nat} (hk : 1 ≤ k) (hn : 1 ≤ n) (h : hg_NL x y z i j l k n n2 n3) (hw : k ≤ x → n ≤ y → hg_won 2 (x - k) (y - n) z = true) : hg_NL x y z i j l k (n + 1) n2 n3 := by
  intro p q r hz
  by_cases c : k ≤ x ∧ n ≤ y
  · rcases (hg_Z1 (n1 := n) (e := p = x - k ∧ q = y - n ∧ r = z) (by unfold hg_D1; omega)).mp hz with h1 | ⟨rfl, rfl, rfl⟩
    · exact h p q r h1
    · exact hw c.1 c.2
  · exact h p q r ((hg_Zd (k := k) (n1 := n) (n2 := n2) (n3 := n3) (fun _ => by unfold hg_D1; omega) (fun _ => Iff.rfl) (fun _ => Iff.rfl)).mp hz)
theorem hg_NL2 {x y z i j l k n1 n n3 : Nat} (hk : 1 ≤ k) (hn : 1 ≤ n) (h : hg_NL x y z i j l k n1 n n3) (hw : k ≤ x → n ≤ z → hg_won 2 (x - k) y (z - n) = true) : hg_NL x y z i j l k n1 (n + 1) n3 := by
  intro p q r hz
  by_cases c : k ≤ x ∧ n ≤ z
  · rcases (hg_Z2 (n2 := n) (e := p = x - k ∧ q = y ∧ r = z - n) (by unfold hg_D2; omega)).mp hz with h1 | ⟨rfl, rfl, rfl⟩
    · exact h p q r h1
    · exact hw c.1 c.2
  · exact h p q r ((hg_Zd (k := k) (n1 := n1) (n2 := n) (n3 := n3) (fun _ => Iff.rfl) (fun _ => by unfold hg_D2; omega) (fun _ => Iff.rfl)).mp hz)
theorem hg_NL3 {x y z i j l k n1 n2 n : Nat} (hk : 1 ≤ k) (hn : 1 ≤ n) (h : hg_NL x y z i j l k n1 n2 n) (hw : k ≤ y → n ≤ z → hg_won 2 x (y - k) (z - n) = true) : hg_NL x y z i j l k n1 n2 (n + 1) := by
  intro p q r hz
  by_cases c : k ≤ y ∧ n ≤ z
  · rcases (hg_Z3 (n3 := n) (e := p = x ∧ q = y - k ∧ r = z - n) (by unfold hg_D3; omega)).mp hz with h1 | ⟨rfl, rfl, rfl⟩
    · exact h p q r h1
    · exact hw c.1 c.2
  · exact h p q r ((hg_Zd (k := k) (n1 := n1) (n2 := n2) (n3 := n) (fun _ => Iff.rfl) (fun _ => Iff.rfl) (fun _ => by unfold hg_D3; omega)).mp hz)
section HG12
variable {cnt fnd : Int32} {hp xs ys zs wn vl tk lm nu : Nat → Int32}
theorem hg_keyY {post : Int32 → Prop} {x y z : Nat} {X Y Z : Int32} (eX : X = nI x) (eY : Y = nI y) (eZ : Z = nI z) (hpo : post (nI (hg_key x y z))) : wpY_key post (cnt, fnd, hp, xs, ys, zs, wn, vl, tk, lm, nu) X Y Z := by
  subst eX eY eZ
  rw [← hg_keyI] at hpo
  exact hpo
theorem hg_il {post : Int32 → Prop} {C : Prop} {x y z k l n : Nat} {X Y Z : Int32} (hx : x ≤ 15) (hy : y ≤ 15) (hz : z ≤ 15) (hk : k ≤ 15) (hl : l ≤ 15) (hn : n ≤ 15) (eX : X = nI x - nI k) (eY : Y = nI y - nI l) (eZ : Z = nI z - nI n) (hT : k ≤ x → l ≤ y → n ≤ z → wn (hg_key (x - k) (y - l) (z - n)) = hg_bI (hg_won 2 (x - k) (y - l) (z - n))) (h1 : k ≤ x → l ≤ y → n ≤ z → hg_won 2 (x - k) (y - l) (z - n) = false → post 1) (hc : (k ≤ x → l ≤ y → n ≤ z → hg_won 2 (x - k) (y - l) (z - n) = true) → C) : wpY_isLost (fun r => (r = 0 → C) ∧ (¬ r = 0 → post 1)) (cnt, fnd, hp, xs, ys, zs, wn, vl, tk, lm, nu) X Y Z := by
  have C0 : (x < k ∨ y < l ∨ z < n) → (((0 : Int32) = 0 → C) ∧ (¬ (0 : Int32) = 0 → post 1)) := fun w => br_t rfl (hc (fun w1 w2 w3 => by omega))
  subst eX eY eZ
  by_cases w1 : x < k
  · exact br_t (pk_sneg (by omega) w1) (C0 (by omega))
  · rw [pk_sub (by omega : k ≤ x)]
    refine br_f (nI_pos (by omega)) ?_
    by_cases w2 : y < l
    · exact br_t (pk_sneg (by omega) w2) (C0 (by omega))
    · rw [pk_sub (by omega : l ≤ y)]
      refine br_f (nI_pos (by omega)) ?_
      by_cases w3 : z < n
      · exact br_t (pk_sneg (by omega) w3) (C0 (by omega))
      · rw [pk_sub (by omega : n ≤ z)]
        have hkl := hg_key_lt (x := x - k) (y := y - l) (z := z - n) (by omega) (by omega) (by omega)
        refine br_f (nI_pos (by omega)) (hg_keyY rfl rfl rfl ?_)
        refine ⟨vp_in_nI hkl (by omega), ?_⟩
        rw [nI_clamp (by omega), hT (by omega) (by omega) (by omega)]
        cases hw : hg_won 2 (x - k) (y - l) (z - n) with
        | false => exact br_t rfl (br_f (by decide) (h1 (by omega) (by omega) (by omega) hw))
        | true => exact br_f (by decide) (br_t rfl (hc (fun _ _ _ => hw)))
theorem hg_fl54 {post : Int32 → Prop} {J3 : Int32 → Prop} {x y z k : Nat} (hx : x ≤ 15) (hy : y ≤ 15) (hz : z ≤ 15) (hk : 1 ≤ k) (hk2 : k ≤ 15) (hT : ∀ p q r, hg_Opt 2 x y z p q r → wn (hg_key p q r) = hg_bI (hg_won 2 p q r)) (h1 : (∃ p q r, hg_Opt 2 x y z p q r ∧ hg_won 2 p q r = false) → post 1) (K : hg_NL x y z (k + 1) (k + 1) (k + 1) (k + 1) 1 1 1 → J3 (nI (k + 1))) : ∀ d n : Nat, n + d = 16 → 1 ≤ n → hg_NL x y z (k + 1) (k + 1) (k + 1) k n n n → wY_findsLost_54 post J3 (nI x) (nI y) (nI z) (nI k) cnt fnd hp xs ys zs wn vl tk lm nu (d + 1) (nI n) := by
  intro d
  induction d with
  | zero =>
    intro n hn hn1 hN
    obtain rfl : n = 16 := by omega
    refine br_t (by decide) (nm_r (nI_1 k) (K (fun p q r hz => hN p q r ((hg_Zd (fun _ => ?_) (fun _ => ?_) (fun _ => ?_)).mp hz))))
    · unfold hg_D1; omega
    · unfold hg_D2; omega
    · unfold hg_D3; omega
  | succ d ih =>
    intro n hn hn1 hN
    have o1 : k ≤ x → n ≤ y → hg_Opt 2 x y z (x - k) (y - n) z := by
      intro w1 w2
      rw [hg_Opt_2]
      exact Or.inr (Or.inl ⟨by omega, by omega, rfl⟩)
    have o2 : k ≤ x → n ≤ z → hg_Opt 2 x y z (x - k) y (z - n) := by
      intro w1 w2
      rw [hg_Opt_2]
      exact Or.inr (Or.inr (Or.inl ⟨by omega, rfl, by omega⟩))
    have o3 : k ≤ y → n ≤ z → hg_Opt 2 x y z x (y - k) (z - n) := by
      intro w1 w2
      rw [hg_Opt_2]
      exact Or.inr (Or.inr (Or.inr ⟨rfl, by omega, by omega⟩))
    refine br_f (nI_nlt (a := 15) (by omega) (by omega)) ?_
    refine hg_il (x := x) (k := k) (y := y) (l := n) (z := z) (n := 0) hx hy hz (by omega) (by omega) (by omega) rfl rfl (Int32.sub_zero _).symm (fun w1 w2 _ => hT _ _ _ (o1 w1 w2)) (fun w1 w2 _ e => h1 ⟨_, _, _, o1 w1 w2, e⟩) (fun a1 => ?_)
    refine hg_il (x := x) (k := k) (y := y) (l := 0) (z := z) (n := n) hx hy hz (by omega) (by omega) (by omega) rfl (Int32.sub_zero _).symm rfl (fun w1 _ w2 => hT _ _ _ (o2 w1 w2)) (fun w1 _ w2 e => h1 ⟨_, _, _, o2 w1 w2, e⟩) (fun a2 => ?_)
    refine hg_il (x := x) (k := 0) (y := y) (l := k) (z := z) (n := n) hx hy hz (by omega) (by omega) (by omega) (Int32.sub_zero _).symm rfl rfl (fun _ w1 w2 => hT _ _ _ (o3 w1 w2)) (fun _ w1 w2 e => h1 ⟨_, _, _, o3 w1 w2, e⟩) (fun a3 => ?_)
    exact nm_r (nI_1 n) (ih (n + 1) (by omega) (by omega) (hg_NL3 hk hn1 (hg_NL2 hk hn1 (hg_NL1 hk hn1 hN (fun w1 w2 => a1 w1 w2 (Nat.zero_le _))) (fun w1 w2 => a2 w1 (Nat.zero_le _) w2)) (fun w1 w2 => a3 (Nat.zero_le _) w1 w2)))
theorem hg_fl3 {post : Int32 → Prop} {x y z : Nat} (hx : x ≤ 15) (hy : y ≤ 15) (hz : z ≤ 15) (hT : ∀ p q r, hg_Opt 2 x y z p q r → wn (hg_key p q r) = hg_bI (hg_won 2 p q r)) (h1 : (∃ p q r, hg_Opt 2 x y z p q r ∧ hg_won 2 p q r = false) → post 1) (h0 : (∀ p q r, hg_Opt 2 x y z p q r → hg_won 2 p q r = true) → post 0) : ∀ d k : Nat, k + d = 16 → 1 ≤ k → hg_NL x y z k k k k 1 1 1 → wY_findsLost_3 post (nI x) (nI y) (nI z) cnt fnd hp xs ys zs wn vl tk lm nu (d + 1) (nI k) := by
  intro d
  induction d with
  | zero =>
    intro k hk hk1 hN
    obtain rfl : k = 16 := by omega
    exact br_t (by decide) (h0 (fun p q r ho => hN p q r (hg_Z16 hx hy hz ho)))
  | succ d ih =>
    intro k hk hk1 hN
    have o1 : k ≤ x → hg_Opt 2 x y z (x - k) y z := by
      intro w1
      rw [hg_Opt_2]
      exact Or.inl (Or.inl ⟨rfl, rfl, by omega, by omega⟩)
    have o2 : k ≤ y → hg_Opt 2 x y z x (y - k) z := by
      intro w1
      rw [hg_Opt_2]
      exact Or.inl (Or.inr (Or.inl ⟨rfl, rfl, by omega, by omega⟩))
    have o3 : k ≤ z → hg_Opt 2 x y z x y (z - k) := by
      intro w1
      rw [hg_Opt_2]
      exact Or.inl (Or.inr (Or.inr ⟨rfl, rfl, by omega, by omega⟩))
    refine br_f (nI_nlt (a := 15) (by omega) (by omega)) ?_
    refine hg_il (x := x) (k := k) (y := y) (l := 0) (z := z) (n := 0) hx hy hz (by omega) (by omega) (by omega) rfl (Int32.sub_zero _).symm (Int32.sub_zero _).symm (fun w1 _ _ => hT _ _ _ (o1 w1)) (fun w1 _ _ e => h1 ⟨_, _, _, o1 w1, e⟩) (fun a1 => ?_)
    refine hg_il (x := x) (k := 0) (y := y) (l := k) (z := z) (n := 0) hx hy hz (by omega) (by omega) (by omega) (Int32.sub_zero _).symm rfl (Int32.sub_zero _).symm (fun _ w1 _ => hT _ _ _ (o2 w1)) (fun _ w1 _ e => h1 ⟨_, _, _, o2 w1, e⟩) (fun a2 => ?_)
    refine hg_il (x := x) (k := 0) (y := y) (l := 0) (z := z) (n := k) hx hy hz (by omega) (by omega) (by omega) (Int32.sub_zero _).symm (Int32.sub_zero _).symm rfl (fun _ _ w1 => hT _ _ _ (o3 w1)) (fun _ _ w1 e => h1 ⟨_, _, _, o3 w1, e⟩) (fun a3 => ?_)
    exact ⟨16, hg_fl54 hx hy hz hk1 (by omega) hT h1 (fun hN' => ih (k + 1) (by omega) (by omega) hN') 15 1 rfl (Nat.le_refl _) (hg_NLl hk1 (hg_NLj hk1 (hg_NLi hk1 hN (fun w1 => a1 w1 (Nat.zero_le _) (Nat.zero_le _))) (fun w1 => a2 (Nat.zero_le _) w1 (Nat.zero_le _))) (fun w1 => a3 (Nat.zero_le _) (Nat.zero_le _) w1))⟩
theorem hg_flY {post : Int32 → Prop} {x y z : Nat} (hx : x ≤ 15) (hy : y ≤ 15) (hz : z ≤ 15) (hT : ∀ p q r, hg_Opt 2 x y z p q r → wn (hg_key p q r) = hg_bI (hg_won 2 p q r)) (hpo : post (hg_bI (hg_won 2 x y z))) : wpY_findsLost post (cnt, fnd, hp, xs, ys, zs, wn, vl, tk, lm, nu) (nI x) (nI y) (nI z) := by
  have law := hg_lawA (g := 2) (x := x) (y := y) (z := z) (by omega) (by omega) (hg_bd hx hy hz)
  refine ⟨16, hg_fl3 hx hy hz hT (fun w => ?_) (fun w => ?_) 15 1 rfl (Nat.le_refl _) (fun p q r w => ?_)⟩
  · rw [law.mpr (Or.inl w)] at hpo
    exact hpo
  · have e : hg_won 2 x y z = false := by
      cases hw : hg_won 2 x y z with
      | false => rfl
      | true =>
        rcases law.mp hw with ⟨p, q, r, h1, h2⟩ | ⟨h1, _⟩
        · rw [w p q r h1] at h2
          cases h2
        · cases h1
    rw [e] at hpo
    exact hpo
  · unfold hg_Z hg_Q hg_D1 hg_D2 hg_D3 at w
    omega
end HG12
end
section
/-! the reference: judge -/
section HG13
variable {fnd : Int32} {hp xs ys zs wn vl lm nu : Nat → Int32}
theorem hg_vn0 : vp_nar .boolean 0 = 0 := hg_bI_nar false
theorem hg_vn1 : vp_nar .boolean 1 = 1 := hg_bI_nar true
theorem hg_j165 {post : SY → Prop} {cnt : Int32} {tk : Nat → Int32} {g x y z v0 : Nat} {w : Bool} (hg : g ≤ 7) (hv0 : v0 < 60) (hkl : hg_key x y z < 22816) (h0 : tk v0 = 0) (hb : ∀ v, v < v0 → tk v ≠ 0) (hv : g = 0 ∨ g = 7 → v0 = hg_val g x y z) (hpo : post (cnt, fnd, hp, xs, ys, zs, upd wn (hg_key x y z) (hg_bI w), upd vl (hg_key x y z) (nI (hg_val g x y z)), tk, lm, nu)) : ∀ d v : Nat, v + d = v0 → wY_judge_165 post (nI g) (nI (hg_key x y z)) (hg_bI w) cnt fnd hp xs ys zs wn vl tk lm nu (d + 1) (nI v) := by
  intro d
  induction d with
  | zero =>
    intro v hvd
    obtain rfl : v = v0 := by omega
    refine ⟨vp_in_nI (by omega) (by omega), br_t (by rw [nI_clamp (by omega)]; exact h0) ⟨vp_in_nI hkl (by omega), nm_r (e' := upd wn (hg_key x y z) (hg_bI w)) (by rw [nI_clamp (by omega), hg_bI_nar]) ?_⟩⟩
    refine pk_eq g 0 (fun e => ⟨vp_in_nI hkl (by omega), nm_r (e' := upd vl (hg_key x y z) (nI (hg_val g x y z))) (by rw [nI_clamp (by omega), hv (Or.inl e)]) hpo⟩) (fun e => ?_)
    exact pk_eq g 7 (fun e7 => ⟨vp_in_nI hkl (by omega), nm_r (e' := upd vl (hg_key x y z) (nI (hg_val g x y z))) (by rw [nI_clamp (by omega), hv (Or.inr e7)]) hpo⟩) (fun e7 => ⟨vp_in_nI hkl (by omega), nm_r (e' := upd vl (hg_key x y z) (nI (hg_val g x y z))) (by rw [nI_clamp (by omega), hg_val_n e e7, nI_0]) hpo⟩)
  | succ d ih =>
    intro v hvd
    exact ⟨vp_in_nI (by omega) (by omega), br_f (by rw [nI_clamp (by omega)]; exact hb v (by omega)) (nm_r (nI_1 v) (ih (v + 1) (by omega)))⟩
theorem hg_j94 {post : SY → Prop} {KK : Int32} {g c : Nat} {w0 : Bool} {p q r : Nat → Nat} (hc : c ≤ 800) (hl : ∀ i, i < c → xs i = nI (p i) ∧ ys i = nI (q i) ∧ zs i = nI (r i)) (ht : ∀ i, i < c → wn (hg_key (p i) (q i) (r i)) = hg_bI (hg_won g (p i) (q i) (r i)) ∧ vl (hg_key (p i) (q i) (r i)) = nI (hg_val g (p i) (q i) (r i)) ∧ hg_val g (p i) (q i) (r i) < 16 ∧ hg_key (p i) (q i) (r i) < 22816) (K : ∀ (w : Bool) (tk : Nat → Int32), (w = true ↔ w0 = true ∨ ∃ j, j < c ∧ hg_won g (p j) (q j) (r j) = false) → (∀ v, v < 64 → (tk v ≠ 0 ↔ ∃ j, j < c ∧ hg_val g (p j) (q j) (r j) = v)) → ∃ n, wY_judge_165 post (nI g) KK (hg_bI w) (nI c) fnd hp xs ys zs wn vl tk lm nu n 0) : ∀ (d i : Nat) (w : Bool) (tk : Nat → Int32), i + d = c → (w = true ↔ w0 = true ∨ ∃ j, j < i ∧ hg_won g (p j) (q j) (r j) = false) → (∀ v, v < 64 → (tk v ≠ 0 ↔ ∃ j, j < i ∧ hg_val g (p j) (q j) (r j) = v)) → wY_judge_94 post (nI g) KK (nI c) fnd (d + 1) (hg_bI w) (nI i) hp xs ys zs wn vl tk lm nu := by
  intro d
  induction d with
  | zero =>
    intro i w tk hi hw hv
    obtain rfl : i = c := by omega
    exact br_t (nI_le (Nat.le_refl _) (by omega)) (K w tk hw hv)
  | succ d ih =>
    intro i w tk hi hw hv
    have hic : i < c := by omega
    obtain ⟨l1, l2, l3⟩ := hl i hic
    obtain ⟨t1, t2, t3, t4⟩ := ht i hic
    have ei : (nI i).toNatClampNeg = i := nI_clamp (by omega)
    refine br_f (nI_ge (by omega) (by omega)) ⟨vp_in_nI (by omega) (by omega), vp_in_nI (by omega) (by omega), vp_in_nI (by omega) (by omega), hg_keyY (x := p i) (y := q i) (z := r i) (by rw [ei]; exact l1) (by rw [ei]; exact l2) (by rw [ei]; exact l3) ?_⟩
    refine ⟨vp_in_nI t4 (by omega), ?_⟩
    have ek : (nI (hg_key (p i) (q i) (r i))).toNatClampNeg = hg_key (p i) (q i) (r i) := nI_clamp (by omega)
    have Y : ∀ w' : Bool, (w' = true ↔ w0 = true ∨ ∃ j, j < i + 1 ∧ hg_won g (p j) (q j) (r j) = false) → wY_judge_143 post (wY_judge_94 post (nI g) KK (nI c) fnd (d + 1)) (nI g) KK (hg_bI w') (nI i) (nI (hg_key (p i) (q i) (r i))) (nI c) fnd hp xs ys zs wn vl tk lm nu := by
      intro w' hw'
      refine ⟨vp_in_nI t4 (by omega), by rw [ek, t2]; exact vp_in_nI (by omega) (by omega), nm_r (e' := upd tk (hg_val g (p i) (q i) (r i)) 1) (by rw [ek, t2, nI_clamp (by omega), hg_vn1]) (nm_r (nI_1 i) (ih (i + 1) w' _ (by omega) hw' (fun v hv64 => ?_)))⟩
      by_cases ev : v = hg_val g (p i) (q i) (r i)
      · rw [ev, pk_us]
        exact ⟨fun _ => ⟨i, by omega, rfl⟩, fun _ => by decide⟩
      · rw [pk_un ev, hv v hv64]
        constructor
        · rintro ⟨j, hj, e⟩
          exact ⟨j, by omega, e⟩
        · rintro ⟨j, hj, e⟩
          refine ⟨j, ?_, e⟩
          by_cases hji : j = i
          · rw [hji] at e
            exact absurd e.symm ev
          · omega
    rw [ek, t1]
    cases hwo : hg_won g (p i) (q i) (r i) with
    | false => exact br_t rfl (Y true ⟨fun _ => Or.inr ⟨i, by omega, hwo⟩, fun _ => rfl⟩)
    | true =>
      refine br_f (by decide) (Y w (hw.trans (or_congr Iff.rfl ?_)))
      constructor
      · rintro ⟨j, hj, e⟩
        exact ⟨j, by omega, e⟩
      · rintro ⟨j, hj, e⟩
        refine ⟨j, ?_, e⟩
        by_cases hji : j = i
        · rw [hji, hwo] at e
          cases e
        · omega
theorem hg_j70 {post : SY → Prop} {KK x6 G cnt : Int32} (K : ∀ tk : Nat → Int32, (∀ v, v < 64 → tk v = 0) → ∃ n, wY_judge_94 post G KK cnt fnd n x6 0 hp xs ys zs wn vl tk lm nu) : ∀ (d v : Nat) (tk : Nat → Int32), v + d = 64 → (∀ j, j < v → tk j = 0) → wY_judge_70 post G KK x6 cnt fnd (d + 1) (nI v) hp xs ys zs wn vl tk lm nu := by
  intro d
  induction d with
  | zero =>
    intro v tk hv ht
    obtain rfl : v = 64 := by omega
    exact br_t (by decide) (K tk ht)
  | succ d ih =>
    intro v tk hv ht
    refine br_f (nI_ge (b := 64) (by omega) (by omega)) ⟨vp_in_nI (by omega) (by omega), nm_r (e' := upd tk v 0) (by rw [nI_clamp (by omega), hg_vn0]) (nm_r (nI_1 v) (ih (v + 1) _ (by omega) (fun j hj => ?_)))⟩
    by_cases e : j = v
    · rw [e, pk_us]
    · rw [pk_un e]
      exact ht j (by omega)
end HG13
section HG14
variable {cnt fnd : Int32} {hp xs ys zs wn vl tk lm nu : Nat → Int32}
/-- a position is worked out rightly, if all that can follow are -/
theorem hg_judge {post : SY → Prop} {g x y z : Nat} {J : Nat → Nat → Nat → Prop} (hg : g ≤ 7) (h6 : g ≠ 6) (hb : hg_Bd g x y z) (hT : hg_Tab g J wn vl) (hJ : ∀ p q r, hg_Opt g x y z p q r → J p q r ∧ hg_Bd g p q r) (K : ∀ (cnt' : Int32) (xs' ys' zs' tk' : Nat → Int32), post (cnt', fnd, hp, xs', ys', zs', upd wn (hg_key x y z) (hg_bI (hg_won g x y z)), upd vl (hg_key x y z) (nI (hg_val g x y z)), tk', lm, nu)) : wpY_judge post (cnt, fnd, hp, xs, ys, zs, wn, vl, tk, lm, nu) (nI g) (nI x) (nI y) (nI z) := by
  have hkl := hg_key_lt hb.1 hb.2.1 hb.2.2.1
  unfold wpY_judge
  dsimp only
  refine hg_keyY rfl rfl rfl ?_
  refine pk_eq g 2 (fun e => ?_) (fun e => ?_)
  · subst e
    have b5 := hb.2.2.2 (by omega)
    refine ⟨vp_in_nI hkl (by omega), nm_r (e' := upd vl (hg_key x y z) (nI (hg_val 2 x y z))) (by rw [nI_clamp (by omega), hg_val_n (by omega) (by omega), nI_0]) ?_⟩
    refine hg_flY b5.1 b5.2 hb.2.2.1 (fun p q r ho => (hT p q r (hJ p q r ho).1).1) ?_
    exact ⟨vp_in_nI hkl (by omega), nm_r (e' := upd wn (hg_key x y z) (hg_bI (hg_won 2 x y z))) (by rw [nI_clamp (by omega), hg_bI_nar]) (K _ _ _ _ _)⟩
  · refine hg_listY hg h6 hb (fun cnt' xs' ys' zs' HL => ?_)
    obtain ⟨c, p, q, r, rfl, hc, h1, h2, h3⟩ := HL
    have law := hg_lawA hg h6 hb
    obtain ⟨v0, v1, v2, v3, v4⟩ := hg_lawB (g := g) hb
    have Q : ∀ w0 : Bool, (w0 = true ↔ c = 0 ∧ g = 1) → ∃ n, wY_judge_70 post (nI g) (nI (hg_key x y z)) (hg_bI w0) (nI c) fnd n 0 hp xs' ys' zs' wn vl tk lm nu := by
      intro w0 hw0
      refine ⟨65, hg_j70 (fun tk' ht => ⟨c + 1, hg_j94 (w0 := w0) (p := p) (q := q) (r := r) hc (fun i hi => ⟨(h1 i hi).1, (h1 i hi).2.1, (h1 i hi).2.2.1⟩) (fun i hi => ?_) (fun w tk'' hw hv => ?_) c 0 w0 tk' (by omega) ?_ ?_⟩) 64 0 tk rfl (fun j hj => by omega)⟩
      · have ho := (h1 i hi).2.2.2
        have hjb := hJ _ _ _ ho
        have ht := hT _ _ _ hjb.1
        exact ⟨ht.1, ht.2, hg_val_lt hjb.2, hg_key_lt hjb.2.1 hjb.2.2.1 hjb.2.2.2.1⟩
      · have ew : w = hg_won g x y z := by
          apply Bool.eq_iff_iff.mpr
          rw [hw, law, hw0]
          constructor
          · rintro (⟨k1, k2⟩ | ⟨j, hj, e⟩)
            · refine Or.inr ⟨k2, ?_⟩
              rintro ⟨a, b, d, ho⟩
              obtain ⟨i, hi, _⟩ := h2 a b d ho
              omega
            · exact Or.inl ⟨_, _, _, (h1 j hj).2.2.2, e⟩
          · rintro (⟨a, b, d, ho, e⟩ | ⟨k2, k1⟩)
            · obtain ⟨i, hi, rfl, rfl, rfl⟩ := h2 a b d ho
              exact Or.inr ⟨i, hi, e⟩
            · refine Or.inl ⟨?_, k2⟩
              apply Nat.eq_zero_of_not_pos
              intro hc0
              exact k1 ⟨_, _, _, (h1 0 hc0).2.2.2⟩
        subst ew
        refine ⟨v0 + 1, hg_j165 hg v1 hkl ?_ ?_ v4 (K _ _ _ _ _) v0 0 (by omega)⟩
        · apply Classical.byContradiction
          intro hne
          obtain ⟨j, hj, e⟩ := (hv v0 (by omega)).mp hne
          exact v2 _ _ _ (h1 j hj).2.2.2 e
        · intro v hvl
          obtain ⟨a, b, d, ho, e⟩ := v3 v hvl
          obtain ⟨i, hi, rfl, rfl, rfl⟩ := h2 a b d ho
          exact (hv v (by omega)).mpr ⟨i, hi, e⟩
      · exact ⟨Or.inl, fun k => k.elim id (fun ⟨j, hj, _⟩ => by omega)⟩
      · intro v hv
        exact ⟨fun k => absurd (ht v hv) k, fun ⟨j, hj, _⟩ => by omega⟩
    exact pk_eq c 0 (fun z0 => pk_eq g 1 (fun z1 => Q true ⟨fun _ => ⟨z0, z1⟩, fun _ => rfl⟩) (fun z1 => Q false ⟨fun k => (nomatch k), fun k => absurd k.2 z1⟩)) (fun z0 => Q false ⟨fun k => (nomatch k), fun k => absurd k.1 z0⟩)
theorem hg_judgeJ {post : SY → Prop} {g x y z : Nat} {J J' : Nat → Nat → Nat → Prop} (hg : g ≤ 7) (h6 : g ≠ 6) (hb : hg_Bd g x y z) (hT : hg_Tab g J wn vl) (hJ : ∀ p q r, hg_Opt g x y z p q r → J p q r ∧ hg_Bd g p q r) (hJ' : ∀ p q r, J' p q r → p ≤ 45 ∧ q ≤ 30 ∧ (J p q r ∨ (p = x ∧ q = y ∧ r = z))) {X Y Z : Int32} (eX : X = nI x) (eY : Y = nI y) (eZ : Z = nI z) (K : ∀ (cnt' : Int32) (xs' ys' zs' wn' vl' tk' : Nat → Int32), hg_Tab g J' wn' vl' → post (cnt', fnd, hp, xs', ys', zs', wn', vl', tk', lm, nu)) : wpY_judge post (cnt, fnd, hp, xs, ys, zs, wn, vl, tk, lm, nu) (nI g) X Y Z := by
  subst eX eY eZ
  refine hg_judge hg h6 hb hT hJ (fun cnt' xs' ys' zs' tk' => K _ _ _ _ _ _ _ (fun p q r hj => ?_))
  obtain ⟨k1, k2, k3⟩ := hJ' p q r hj
  by_cases e : hg_key p q r = hg_key x y z
  · obtain ⟨rfl, rfl, rfl⟩ := hg_key_inj k1 k2 hb.1 hb.2.1 e
    rw [pk_us, pk_us]
    exact ⟨rfl, rfl⟩
  · rw [pk_un e, pk_un e]
    rcases k3 with k3 | ⟨rfl, rfl, rfl⟩
    · exact hT p q r k3
    · exact absurd rfl e
end HG14
end
section
/-! the reference: fill -/
theorem hg_Tab_le {g : Nat} {J J' : Nat → Nat → Nat → Prop} {wn vl : Nat → Int32} (h : hg_Tab g J wn vl) (e : ∀ p q r, J' p q r → J p q r) : hg_Tab g J' wn vl := fun p q r k => h p q r (e p q r k)
def hg_J (a b z0 z y x p q r : Nat) : Prop := p ≤ a ∧ q ≤ b ∧ z0 ≤ r ∧ (r < z ∨ (r = z ∧ (q < y ∨ (q = y ∧ p < x))))
theorem hg_J_opt {g a b c z0 x y z p q r : Nat} (h3 : g ≠ 3) (ha : a ≤ 15) (hb : b ≤ 15) (hc : c ≤ 15) (hx : x ≤ a) (hy : y ≤ b) (hz : z ≤ c) (h0 : z0 ≤ z) (hf : z0 = 0 ∨ g = 4 ∨ g = 5) (ho : hg_Opt g x y z p q r) : hg_J a b z0 z y x p q r ∧ hg_Bd g p q r := by
  have k : (p ≤ x ∧ q ≤ y ∧ r ≤ z ∧ (p < x ∨ q < y ∨ r < z)) ∧ (g = 4 ∨ g = 5 → r = z) := by
    unfold hg_Opt at ho
    rw [if_neg h3] at ho
    by_cases h4 : g = 4
    · rw [if_pos h4] at ho
      unfold hg_O4 at ho
      omega
    · rw [if_neg h4] at ho
      by_cases h5 : g = 5
      · rw [if_pos h5] at ho
        obtain ⟨k1, k2, k3, (⟨k4, t, k5, k6⟩ | ⟨k4, t, k5, k6⟩)⟩ := ho
        · have := Nat.mul_le_mul_right y k5
          omega
        · have := Nat.mul_le_mul_right x k5
          omega
      · rw [if_neg h5] at ho
        refine ⟨?_, fun k => by omega⟩
        by_cases h2 : g = 2
        · rw [if_pos h2] at ho
          unfold hg_O1 hg_O2 at ho
          omega
        · rw [if_neg h2] at ho
          by_cases h7 : g = 7
          · rw [if_pos h7] at ho
            unfold hg_O1 at ho
            omega
          · rw [if_neg h7] at ho
            unfold hg_O1 at ho
            omega
  obtain ⟨⟨k1, k2, k3, k4⟩, k5⟩ := k
  refine ⟨?_, hg_bd (by omega) (by omega) (by omega)⟩
  unfold hg_J
  omega
section HG15
variable {fnd : Int32} {hp lm nu : Nat → Int32}
theorem hg_f170 {post : SY → Prop} {J143 J156 : Int32 → Int32 → Int32 → (Nat → Int32) → (Nat → Int32) → (Nat → Int32) → (Nat → Int32) → (Nat → Int32) → (Nat → Int32) → (Nat → Int32) → (Nat → Int32) → (Nat → Int32) → Prop} {g a b c z0 z y : Nat} (H : hg_H hp a b c) (hg : g ≤ 7) (h6 : g ≠ 6) (h3 : g ≠ 3) (hz : z ≤ c) (hy : y ≤ b) (h0 : z0 ≤ z) (hf : z0 = 0 ∨ g = 4 ∨ g = 5) (K : ∀ (cnt : Int32) (xs ys zs wn vl tk : Nat → Int32), hg_Tab g (hg_J a b z0 z (y + 1) 0) wn vl → J156 (nI (y + 1)) cnt fnd hp xs ys zs wn vl tk lm nu) : ∀ (d x : Nat) (cnt : Int32) (xs ys zs wn vl tk : Nat → Int32), x + d = a + 1 → hg_Tab g (hg_J a b z0 z y x) wn vl → wY_fill_170 post J143 J156 (nI g) (nI z) (nI y) (d + 1) (nI x) cnt fnd hp xs ys zs wn vl tk lm nu := by
  obtain ⟨ha, hb, hc, e0, e1, e2⟩ := H
  intro d
  induction d with
  | zero =>
    intro x cnt xs ys zs wn vl tk hx hT
    refine br_t (by rw [e0]; exact nI_lt (by omega) (by omega)) (nm_r (nI_1 y) (K _ _ _ _ _ _ _ (hg_Tab_le hT (fun p q r k => ?_))))
    unfold hg_J at k ⊢
    omega
  | succ d ih =>
    intro x cnt xs ys zs wn vl tk hx hT
    refine br_f (by rw [e0]; exact nI_nlt (by omega) (by omega)) ?_
    refine hg_judgeJ (J' := hg_J a b z0 z y (x + 1)) hg h6 (hg_bd (by omega) (by omega) (by omega)) hT (fun p q r ho => hg_J_opt h3 ha hb hc (by omega) hy hz h0 hf ho) (fun p q r k => ?_) rfl rfl rfl (fun cnt' xs' ys' zs' wn' vl' tk' k => nm_r (nI_1 x) (ih (x + 1) _ _ _ _ _ _ _ (by omega) k))
    unfold hg_J at k ⊢
    omega
theorem hg_f156 {post : SY → Prop} {J143 : Int32 → Int32 → Int32 → (Nat → Int32) → (Nat → Int32) → (Nat → Int32) → (Nat → Int32) → (Nat → Int32) → (Nat → Int32) → (Nat → Int32) → (Nat → Int32) → (Nat → Int32) → Prop} {g a b c z0 z : Nat} (H : hg_H hp a b c) (hg : g ≤ 7) (h6 : g ≠ 6) (h3 : g ≠ 3) (hz : z ≤ c) (h0 : z0 ≤ z) (hf : z0 = 0 ∨ g = 4 ∨ g = 5) (K : ∀ (cnt : Int32) (xs ys zs wn vl tk : Nat → Int32), hg_Tab g (hg_J a b z0 (z + 1) 0 0) wn vl → J143 (nI (z + 1)) cnt fnd hp xs ys zs wn vl tk lm nu) : ∀ (d y : Nat) (cnt : Int32) (xs ys zs wn vl tk : Nat → Int32), y + d = b + 1 → hg_Tab g (hg_J a b z0 z y 0) wn vl → wY_fill_156 post J143 (nI g) (nI z) (d + 1) (nI y) cnt fnd hp xs ys zs wn vl tk lm nu := by
  have H' := H
  obtain ⟨ha, hb, hc, e0, e1, e2⟩ := H
  intro d
  induction d with
  | zero =>
    intro y cnt xs ys zs wn vl tk hy hT
    refine br_t (by rw [e1]; exact nI_lt (by omega) (by omega)) (nm_r (nI_1 z) (K _ _ _ _ _ _ _ (hg_Tab_le hT (fun p q r k => ?_))))
    unfold hg_J at k ⊢
    omega
  | succ d ih =>
    intro y cnt xs ys zs wn vl tk hy hT
    exact br_f (by rw [e1]; exact nI_nlt (by omega) (by omega)) ⟨a + 2, hg_f170 H' hg h6 h3 hz (by omega) h0 hf (fun cnt' xs' ys' zs' wn' vl' tk' k => ih (y + 1) _ _ _ _ _ _ _ (by omega) k) (a + 1) 0 _ _ _ _ _ _ _ (by omega) hT⟩
theorem hg_f143 {post : SY → Prop} {g a b c z0 : Nat} (H : hg_H hp a b c) (hg : g ≤ 7) (h6 : g ≠ 6) (h3 : g ≠ 3) (hf : z0 = 0 ∨ g = 4 ∨ g = 5) (K : ∀ (cnt : Int32) (xs ys zs wn vl tk : Nat → Int32), hg_Tab g (hg_J a b z0 (c + 1) 0 0) wn vl → post (cnt, fnd, hp, xs, ys, zs, wn, vl, tk, lm, nu)) : ∀ (d z : Nat) (cnt : Int32) (xs ys zs wn vl tk : Nat → Int32), z + d = c + 1 → z0 ≤ z → hg_Tab g (hg_J a b z0 z 0 0) wn vl → wY_fill_143 post (nI g) (d + 1) (nI z) cnt fnd hp xs ys zs wn vl tk lm nu := by
  have H' := H
  obtain ⟨ha, hb, hc, e0, e1, e2⟩ := H
  intro d
  induction d with
  | zero =>
    intro z cnt xs ys zs wn vl tk hz h0 hT
    obtain rfl : z = c + 1 := by omega
    exact br_t (by rw [e2]; exact nI_lt (by omega) (by omega)) (K _ _ _ _ _ _ _ hT)
  | succ d ih =>
    intro z cnt xs ys zs wn vl tk hz h0 hT
    exact br_f (by rw [e2]; exact nI_nlt (by omega) (by omega)) ⟨b + 2, hg_f156 H' hg h6 h3 (by omega) h0 hf (fun cnt' xs' ys' zs' wn' vl' tk' k => ih (z + 1) _ _ _ _ _ _ _ (by omega) (by omega) k) (b + 1) 0 _ _ _ _ _ _ _ (by omega) hT⟩
/-! the stairs -/
def hg_J3 (A T c' b' a' p q r : Nat) : Prop := p + q + r ≤ A ∧ q + r ≤ T ∧ (r < c' ∨ (r = c' ∧ (q + r < b' ∨ (q + r = b' ∧ p + q + r < a'))))
theorem hg_J3_opt {A T x y z p q r : Nat} (hA : A ≤ 45) (hT : T ≤ 30) (hz : z ≤ 15) (h1 : x + y + z ≤ A) (h2 : y + z ≤ T) (ho : hg_Opt 3 x y z p q r) : hg_J3 A T z (y + z) (x + y + z) p q r ∧ hg_Bd 3 p q r := by
  rw [hg_Opt_3] at ho
  unfold hg_O3 at ho
  refine ⟨?_, hg_bd3 (by omega) (by omega) (by omega)⟩
  unfold hg_J3
  omega
theorem hg_f68 {post : SY → Prop} {J43 J58 : Int32 → Int32 → Int32 → (Nat → Int32) → (Nat → Int32) → (Nat → Int32) → (Nat → Int32) → (Nat → Int32) → (Nat → Int32) → (Nat → Int32) → (Nat → Int32) → (Nat → Int32) → Prop} {A T c' b' : Nat} (hA : A ≤ 45) (hTT : T ≤ 30) (hTA : T ≤ A) (hc : c' ≤ 15) (hcb : c' ≤ b') (hb : b' ≤ T) (K : ∀ (cnt : Int32) (xs ys zs wn vl tk : Nat → Int32), hg_Tab 3 (hg_J3 A T c' (b' + 1) 0) wn vl → J58 (nI (b' + 1)) cnt fnd hp xs ys zs wn vl tk lm nu) : ∀ (d a' : Nat) (cnt : Int32) (xs ys zs wn vl tk : Nat → Int32), a' + d = A + 1 → b' ≤ a' → hg_Tab 3 (hg_J3 A T c' b' a') wn vl → wY_fill_68 post J43 J58 (nI 3) (nI A) (nI T) (nI c') (nI b') (d + 1) (nI a') cnt fnd hp xs ys zs wn vl tk lm nu := by
  intro d
  induction d with
  | zero =>
    intro a' cnt xs ys zs wn vl tk ha hba hT
    refine br_t (nI_lt (by omega) (by omega)) (nm_r (nI_1 b') (K _ _ _ _ _ _ _ (hg_Tab_le hT (fun p q r k => ?_))))
    unfold hg_J3 at k ⊢
    omega
  | succ d ih =>
    intro a' cnt xs ys zs wn vl tk ha hba hT
    have e1 : b' - c' + c' = b' := by omega
    have e2 : a' - b' + (b' - c') + c' = a' := by omega
    refine br_f (nI_nlt (by omega) (by omega)) ?_
    refine hg_judgeJ (x := a' - b') (y := b' - c') (z := c') (J' := hg_J3 A T c' b' (a' + 1)) (by omega) (by omega) (hg_bd3 (by omega) (by omega) (by omega)) hT (fun p q r ho => ?_) (fun p q r k => ?_) (pk_sub (by omega)) (pk_sub (by omega)) rfl (fun cnt' xs' ys' zs' wn' vl' tk' k => nm_r (nI_1 a') (ih (a' + 1) _ _ _ _ _ _ _ (by omega) (by omega) k))
    · have k := hg_J3_opt hA hTT hc (by omega) (by omega) ho
      rw [e1, e2] at k
      exact k
    · unfold hg_J3 at k ⊢
      omega
theorem hg_f58 {post : SY → Prop} {J43 : Int32 → Int32 → Int32 → (Nat → Int32) → (Nat → Int32) → (Nat → Int32) → (Nat → Int32) → (Nat → Int32) → (Nat → Int32) → (Nat → Int32) → (Nat → Int32) → (Nat → Int32) → Prop} {A T c' : Nat} (hA : A ≤ 45) (hTT : T ≤ 30) (hTA : T ≤ A) (hc : c' ≤ 15) (hcT : c' ≤ T) (K : ∀ (cnt : Int32) (xs ys zs wn vl tk : Nat → Int32), hg_Tab 3 (hg_J3 A T (c' + 1) 0 0) wn vl → J43 (nI (c' + 1)) cnt fnd hp xs ys zs wn vl tk lm nu) : ∀ (d b' : Nat) (cnt : Int32) (xs ys zs wn vl tk : Nat → Int32), b' + d = T + 1 → c' ≤ b' → hg_Tab 3 (hg_J3 A T c' b' 0) wn vl → wY_fill_58 post J43 (nI 3) (nI A) (nI T) (nI c') (d + 1) (nI b') cnt fnd hp xs ys zs wn vl tk lm nu := by
  intro d
  induction d with
  | zero =>
    intro b' cnt xs ys zs wn vl tk hb hcb hT
    refine br_t (nI_lt (by omega) (by omega)) (nm_r (nI_1 c') (K _ _ _ _ _ _ _ (hg_Tab_le hT (fun p q r k => ?_))))
    unfold hg_J3 at k ⊢
    omega
  | succ d ih =>
    intro b' cnt xs ys zs wn vl tk hb hcb hT
    refine br_f (nI_nlt (by omega) (by omega)) ⟨A + 1 - b' + 1, hg_f68 hA hTT hTA hc hcb (by omega) (fun cnt' xs' ys' zs' wn' vl' tk' k => ih (b' + 1) _ _ _ _ _ _ _ (by omega) (by omega) k) (A + 1 - b') b' _ _ _ _ _ _ _ (by omega) (Nat.le_refl _) (hg_Tab_le hT (fun p q r k => ?_))⟩
    unfold hg_J3 at k ⊢
    omega
theorem hg_f43 {post : SY → Prop} {a b c : Nat} (H : hg_H hp a b c) (K : ∀ (cnt : Int32) (xs ys zs wn vl tk : Nat → Int32), hg_Tab 3 (hg_J3 (a + b + c) (b + c) (c + 1) 0 0) wn vl → post (cnt, fnd, hp, xs, ys, zs, wn, vl, tk, lm, nu)) : ∀ (d c' : Nat) (cnt : Int32) (xs ys zs wn vl tk : Nat → Int32), c' + d = c + 1 → hg_Tab 3 (hg_J3 (a + b + c) (b + c) c' 0 0) wn vl → wY_fill_43 post (nI 3) (nI (a + b + c)) (nI (b + c)) (d + 1) (nI c') cnt fnd hp xs ys zs wn vl tk lm nu := by
  obtain ⟨ha, hb, hc, e0, e1, e2⟩ := H
  intro d
  induction d with
  | zero =>
    intro c' cnt xs ys zs wn vl tk hc' hT
    obtain rfl : c' = c + 1 := by omega
    exact br_t (by rw [e2]; exact nI_lt (by omega) (by omega)) (K _ _ _ _ _ _ _ hT)
  | succ d ih =>
    intro c' cnt xs ys zs wn vl tk hc' hT
    refine br_f (by rw [e2]; exact nI_nlt (by omega) (by omega)) ⟨b + c + 1 - c' + 1, hg_f58 (by omega) (by omega) (by omega) (by omega) (by omega) (fun cnt' xs' ys' zs' wn' vl' tk' k => ih (c' + 1) _ _ _ _ _ _ _ (by omega) k) (b + c + 1 - c') c' _ _ _ _ _ _ _ (by omega) (Nat.le_refl _) (hg_Tab_le hT (fun p q r k => ?_))⟩
    unfold hg_J3 at k ⊢
    omega
/-- after fill the position and all that can follow are known -/
theorem hg_fillY {post : SY → Prop} {g a b c : Nat} {cnt : Int32} {xs ys zs wn vl tk : Nat → Int32} (H : hg_H hp a b c) (hg : g ≤ 7) (h6 : g ≠ 6) (K : ∀ (cnt : Int32) (xs ys zs wn vl tk : Nat → Int32), hg_Tab g (fun p q r => hg_Opt g a b c p q r ∨ (p = a ∧ q = b ∧ r = c)) wn vl → post (cnt, fnd, hp, xs, ys, zs, wn, vl, tk, lm, nu)) : wpY_fill post (cnt, fnd, hp, xs, ys, zs, wn, vl, tk, lm, nu) (nI g) := by
  have H' := H
  obtain ⟨ha, hb, hc, e0, e1, e2⟩ := H
  refine pk_eq g 3 (fun e => ?_) (fun h3 => ?_)
  · subst e
    refine nm_r (e' := nI (a + b + c)) (by rw [e0, e1, e2, nI_add, nI_add]) (nm_r (e' := nI (b + c)) (by rw [e1, e2, nI_add]) ⟨c + 2, hg_f43 H' (fun cnt xs ys zs wn vl tk k => K _ _ _ _ _ _ _ (hg_Tab_le k (fun p q r w => ?_))) (c + 1) 0 _ _ _ _ _ _ _ (by omega) (fun p q r w => ?_)⟩)
    · rcases w with w | w
      · rw [hg_Opt_3] at w
        unfold hg_O3 at w
        unfold hg_J3
        omega
      · unfold hg_J3
        omega
    · unfold hg_J3 at w
      omega
  · have F : ∀ z0 : Nat, z0 ≤ c → (z0 = 0 ∨ g = 4 ∨ g = 5) → ∃ n, wY_fill_143 post (nI g) n (nI z0) cnt fnd hp xs ys zs wn vl tk lm nu := by
      intro z0 hz0 hf
      refine ⟨c + 1 - z0 + 1, hg_f143 (z0 := z0) H' hg h6 h3 hf (fun cnt xs ys zs wn vl tk k => K _ _ _ _ _ _ _ (hg_Tab_le k (fun p q r w => ?_))) (c + 1 - z0) z0 _ _ _ _ _ _ _ (by omega) (Nat.le_refl _) (fun p q r w => ?_)⟩
      · rcases w with w | w
        · have k := (hg_J_opt (a := a) (b := b) (c := c) (z0 := z0) h3 ha hb hc (Nat.le_refl _) (Nat.le_refl _) (Nat.le_refl _) hz0 hf w).1
          unfold hg_J at k ⊢
          omega
        · unfold hg_J
          omega
      · unfold hg_J at w
        omega
    refine pk_eq g 4 (fun e => ?_) (fun h4 => ?_)
    · exact br_f (by decide) (nm_r e2 (F c (Nat.le_refl _) (Or.inr (Or.inl e))))
    · refine pk_eq g 5 (fun e => ?_) (fun h5 => ?_)
      · exact br_f (by decide) (nm_r e2 (F c (Nat.le_refl _) (Or.inr (Or.inr e))))
      · exact br_t rfl (F 0 (Nat.zero_le _) (Or.inl rfl))
end HG15
end
section
/-! the reference: game 6, and the winning moves in order -/
def hg_LT (n l : Nat) (lm : Nat → Int32) : Prop := ∀ n' l', l' ≤ 60 → (n' < n ∨ (n' = n ∧ l' < l)) → lm (61 * n' + l') = hg_bI (hg_W n' l')
theorem hg_c60_le {n : Nat} : hg_c60 n ≤ 60 := by
  unfold hg_c60
  split <;> omega
section HG16
variable {cnt fnd : Int32} {hp xs ys zs wn vl tk lm nu : Nat → Int32}
theorem hg_atMost {post : Int32 → Prop} {n : Nat} {X : Int32} (hn : n ≤ 1000) (eX : X = nI n) (hpo : post (nI (hg_c60 n))) : wpY_atMost post (cnt, fnd, hp, xs, ys, zs, wn, vl, tk, lm, nu) X := by
  subst eX
  unfold hg_c60 at hpo
  refine pk_le n 60 (fun z => ?_) (fun z => ?_)
  · rw [if_pos z] at hpo
    exact hpo
  · rw [if_neg (by omega)] at hpo
    exact hpo
theorem hg_fl21 {post : SY → Prop} {J2 J10 : Int32 → (Nat → Int32) → (Nat → Int32) → (Nat → Int32) → (Nat → Int32) → (Nat → Int32) → (Nat → Int32) → (Nat → Int32) → (Nat → Int32) → (Nat → Int32) → Prop} {n l : Nat} (hn : n ≤ 60) (hl : l ≤ 60) (hT : hg_LT n l lm) (K : J10 (nI (l + 1)) hp xs ys zs wn vl tk (upd lm (61 * n + l) (hg_bI (hg_W n l))) nu) : ∀ (d k : Nat) (w : Bool), k + d = 61 → 1 ≤ k → (w = true ↔ ∃ j, 1 ≤ j ∧ j < k ∧ j ≤ n ∧ j ≤ l ∧ hg_W (n - j) (hg_c60 (2 * j)) = false) → wY_fillLimited_21 post J2 J10 (nI n) (nI l) cnt fnd hp xs ys zs wn vl tk lm nu (d + 1) (hg_bI w) (nI k) := by
  have Y : ∀ (k : Nat) (w : Bool), (n < k ∨ l < k) → (w = true ↔ ∃ j, 1 ≤ j ∧ j < k ∧ j ≤ n ∧ j ≤ l ∧ hg_W (n - j) (hg_c60 (2 * j)) = false) → wY_fillLimited_73 post J2 J10 (nI n) (nI l) (hg_bI w) cnt fnd hp xs ys zs wn vl tk lm nu := by
    intro k w hk hw
    have ew : w = hg_W n l := by
      apply Bool.eq_iff_iff.mpr
      rw [hw, hg_lawW hn hl]
      constructor
      · rintro ⟨j, h1, h2, h3, h4, h5⟩
        exact ⟨j, h1, h3, h4, h5⟩
      · rintro ⟨j, h1, h3, h4, h5⟩
        exact ⟨j, h1, by omega, h3, h4, h5⟩
    subst ew
    have ei : 61 * nI n + nI l = nI (61 * n + l) := by
      rw [show (61 : Int32) = nI 61 from rfl, pk_mul, nI_add]
    unfold wY_fillLimited_73
    rw [ei]
    exact ⟨vp_in_nI (by omega) (by omega), nm_r (e' := upd lm (61 * n + l) (hg_bI (hg_W n l))) (by rw [nI_clamp (by omega), hg_bI_nar]) (nm_r (nI_1 l) K)⟩
  intro d
  induction d with
  | zero =>
    intro k w hk hk1 hw
    exact br_t (nI_lt (by omega) (by omega)) (Y k w (Or.inl (by omega)) hw)
  | succ d ih =>
    intro k w hk hk1 hw
    refine pk_lt n k (fun z => Y k w (Or.inl z) hw) (fun z => pk_lt l k (fun z2 => Y k w (Or.inr z2) hw) (fun z2 => ?_))
    cases w with
    | true =>
      refine br_f (by decide) (nm_r (nI_1 k) (ih (k + 1) true (by omega) (by omega) ⟨fun _ => ?_, fun _ => rfl⟩))
      obtain ⟨j, h1, h2, h3⟩ := hw.mp rfl
      exact ⟨j, h1, by omega, h3⟩
    | false =>
      refine br_t rfl ?_
      refine hg_atMost (n := 2 * k) (by omega) (pk_mul 2 k) ?_
      have hc := hg_c60_le (n := 2 * k)
      have ei : 61 * (nI n - nI k) + nI (hg_c60 (2 * k)) = nI (61 * (n - k) + hg_c60 (2 * k)) := by
        rw [pk_sub z, show (61 : Int32) = nI 61 from rfl, pk_mul, nI_add]
      rw [ei]
      refine ⟨vp_in_nI (by omega) (by omega), ?_⟩
      rw [nI_clamp (by omega), hT (n - k) (hg_c60 (2 * k)) hc (Or.inl (by omega))]
      cases hW : hg_W (n - k) (hg_c60 (2 * k)) with
      | false => exact br_t rfl (nm_r (nI_1 k) (ih (k + 1) true (by omega) (by omega) ⟨fun _ => ⟨k, hk1, by omega, z, z2, hW⟩, fun _ => rfl⟩))
      | true =>
        refine br_f (by decide) (nm_r (nI_1 k) (ih (k + 1) false (by omega) (by omega) ⟨fun w => (nomatch w), ?_⟩))
        rintro ⟨j, h1, h2, h3, h4, h5⟩
        by_cases e : j = k
        · subst e
          rw [hW] at h5
          cases h5
        · exact hw.mpr ⟨j, h1, by omega, h3, h4, h5⟩
end HG16
section HG17
variable {cnt fnd : Int32} {hp xs ys zs wn vl tk nu : Nat → Int32}
theorem hg_fl10 {post : SY → Prop} {J2 : Int32 → (Nat → Int32) → (Nat → Int32) → (Nat → Int32) → (Nat → Int32) → (Nat → Int32) → (Nat → Int32) → (Nat → Int32) → (Nat → Int32) → (Nat → Int32) → Prop} {n : Nat} (hn : n ≤ 60) (K : ∀ lm, hg_LT (n + 1) 0 lm → J2 (nI (n + 1)) hp xs ys zs wn vl tk lm nu) : ∀ (d l : Nat) (lm : Nat → Int32), l + d = 61 → hg_LT n l lm → wY_fillLimited_10 post J2 (nI n) cnt fnd (d + 1) (nI l) hp xs ys zs wn vl tk lm nu := by
  intro d
  induction d with
  | zero =>
    intro l lm hl hT
    refine br_t (nI_lt (a := 60) (by omega) (by omega)) (nm_r (nI_1 n) (K lm (fun n' l' h1 h2 => hT n' l' h1 (by omega))))
  | succ d ih =>
    intro l lm hl hT
    refine br_f (nI_nlt (a := 60) (by omega) (by omega)) ⟨61, hg_fl21 hn (by omega) hT (ih (l + 1) _ (by omega) (fun n' l' h1 h2 => ?_)) 60 1 false (by omega) (by omega) ⟨fun w => (nomatch w), fun ⟨j, h1, h2, _⟩ => by omega⟩⟩
    by_cases e : 61 * n' + l' = 61 * n + l
    · obtain ⟨rfl, rfl⟩ : n' = n ∧ l' = l := by omega
      rw [pk_us]
    · rw [pk_un e]
      exact hT n' l' h1 (by omega)
theorem hg_fl2 {post : SY → Prop} (K : ∀ lm, hg_LT 61 0 lm → post (cnt, fnd, hp, xs, ys, zs, wn, vl, tk, lm, nu)) : ∀ (d n : Nat) (lm : Nat → Int32), n + d = 61 → hg_LT n 0 lm → wY_fillLimited_2 post cnt fnd (d + 1) (nI n) hp xs ys zs wn vl tk lm nu := by
  intro d
  induction d with
  | zero =>
    intro n lm hn hT
    obtain rfl : n = 61 := by omega
    exact br_t (by decide) (K lm hT)
  | succ d ih =>
    intro n lm hn hT
    exact br_f (nI_nlt (a := 60) (by omega) (by omega)) ⟨62, hg_fl10 (by omega) (fun lm k => ih (n + 1) lm (by omega) k) 61 0 lm rfl hT⟩
theorem hg_flimY {post : SY → Prop} {lm : Nat → Int32} (K : ∀ lm, hg_LT 61 0 lm → post (cnt, fnd, hp, xs, ys, zs, wn, vl, tk, lm, nu)) : wpY_fillLimited post (cnt, fnd, hp, xs, ys, zs, wn, vl, tk, lm, nu) :=
  ⟨62, hg_fl2 K 61 0 lm rfl (fun n' l' h1 h2 => by omega)⟩
end HG17
section HG18
variable {cnt : Int32} {hp xs ys zs wn vl tk lm nu : Nat → Int32}
theorem hg_no5 {post : SY → Prop} {P : Nat → Prop} {c v : Nat} {s : Nat → Nat} (hs : hg_Srt c s P) (hc : c < 800) (hv : v < 1048576) (hb : ∀ i, i < c → s i < 1048576) (hne : ∀ i, i < c → s i ≠ v) (K : ∀ (t : Nat) (nu' : Nat → Int32), t ≤ c → (∀ i, i < t → s i < v) → (∀ i, t ≤ i → i < c → v < s i) → (∀ j, j < t → nu' j = nI (s j)) → (∀ j, t < j → j ≤ c → nu' j = nI (s (j - 1))) → wY_note_41 post (nI v) (nI t) cnt (nI c) hp xs ys zs wn vl tk lm nu') : ∀ (t : Nat) (nu' : Nat → Int32), t ≤ c → (∀ i, t ≤ i → i < c → v < s i) → (∀ j, j < t → nu' j = nI (s j)) → (∀ j, t < j → j ≤ c → nu' j = nI (s (j - 1))) → wY_note_5 post (nI v) cnt (nI c) (t + 1) (nI t) hp xs ys zs wn vl tk lm nu' := by
  intro t
  induction t with
  | zero =>
    intro nu' ht hh h1 h2
    exact pk_le 0 0 (fun _ => K 0 nu' ht (fun i hi => by omega) hh h1 h2) (fun z => by omega)
  | succ t ih =>
    intro nu' ht hh h1 h2
    have e : nu' (nI (t + 1) - 1).toNatClampNeg = nI (s t) := by
      rw [nI_pred, nI_clamp (by omega)]
      exact h1 t (by omega)
    have hst := hb t (by omega)
    have hnt := hne t (by omega)
    have hin : vp_in (nI (t + 1) - 1) 800 := by rw [nI_pred]; exact vp_in_nI (by omega) (by omega)
    refine br_f (nI_nle (by omega) (by omega)) ⟨hin, ?_⟩
    rw [e]
    refine pk_le (s t) v (fun z => ?_) (fun z => ?_)
    · refine K (t + 1) nu' ht (fun i hi => ?_) hh h1 h2
      by_cases h3 : i = t
      · rw [h3]; omega
      · have := hs.1 i t (by omega) (by omega)
        omega
    · refine ⟨hin, vp_in_nI (by omega) (by omega), nm_r (e' := upd nu' (t + 1) (nI (s t))) (by rw [nI_clamp (by omega)]) (nm_r (pk_m1 t) (ih _ (by omega) (fun i hi hi2 => ?_) (fun j hj => ?_) (fun j hj hj2 => ?_)))⟩
      · by_cases h3 : i = t
        · rw [h3]; exact z
        · exact hh i (by omega) hi2
      · rw [pk_un (by omega)]
        exact h1 j (by omega)
      · by_cases h3 : j = t + 1
        · rw [h3, pk_us]
          rfl
        · rw [pk_un h3]
          exact h2 j (by omega) hj2
theorem hg_noteY {post : SY → Prop} {fnd : Int32} {P Q : Nat → Prop} {B v : Nat} (H : hg_X P B fnd nu) (hB : B < 800) (hv : v < 1048576) (hnv : ¬ P v) (hQ : ∀ n, Q n ↔ P n ∨ n = v) {V : Int32} (eV : V = nI v) (K : ∀ fnd nu, hg_X Q (B + 1) fnd nu → post (cnt, fnd, hp, xs, ys, zs, wn, vl, tk, lm, nu)) : wpY_note post (cnt, fnd, hp, xs, ys, zs, wn, vl, tk, lm, nu) V := by
  subst eV
  obtain ⟨c, s, hs, hcB, rfl, hm, hP⟩ := H
  have hb : ∀ i, i < c → s i < 1048576 := fun i hi => hP _ ((hs.2 _).mpr ⟨i, hi, rfl⟩)
  have hne : ∀ i, i < c → s i ≠ v := fun i hi e => hnv ((hs.2 _).mpr ⟨i, hi, e⟩)
  have hQb : ∀ n, Q n → n < 1048576 := by
    intro n hn
    rcases (hQ n).mp hn with h1 | h1
    · exact hP n h1
    · omega
  refine ⟨c + 1, hg_no5 hs (by omega) hv hb hne (fun t nu' ht hl hh h1 h2 => ?_) c nu (Nat.le_refl _) (fun i hi hi2 => by omega) hm (fun j hj hj2 => by omega)⟩
  refine ⟨vp_in_nI (by omega) (by omega), nm_r (e' := upd nu' t (nI v)) (by rw [nI_clamp (by omega)]) (nm_r (nI_1 c) (K _ _ ⟨c + 1, hg_ins t v s, hg_ins_ok hs ht hl hh hQ, by omega, rfl, fun i hi => ?_, hQb⟩))⟩
  rcases Nat.lt_trichotomy i t with h3 | h3 | h3
  · rw [pk_un (by omega), hg_ins_lo h3]
    exact h1 i h3
  · rw [h3, pk_us, hg_ins_eq]
  · rw [pk_un (by omega), hg_ins_hi h3]
    exact h2 i h3 (by omega)
end HG18
end
section
/-! the reference: search -/
section HG19
variable {hp xs ys zs wn vl tk lm : Nat → Int32}
theorem hg_s125 {post : Int32 → SY → Prop} {g c : Nat} {p q r : Nat → Nat} (hc : c ≤ 800) (hl : ∀ i, i < c → xs i = nI (p i) ∧ ys i = nI (q i) ∧ zs i = nI (r i)) (ht : ∀ i, i < c → wn (hg_key (p i) (q i) (r i)) = hg_bI (hg_won g (p i) (q i) (r i)) ∧ p i ≤ 30 ∧ q i ≤ 30 ∧ r i ≤ 15) (hd : ∀ i j, i < j → j < c → ¬ (p i = p j ∧ q i = q j ∧ r i = r j)) (K : ∀ fnd nu, hg_X (fun n => ∃ j, j < c ∧ hg_won g (p j) (q j) (r j) = false ∧ n = hg_num (p j) (q j) (r j)) c fnd nu → post (nI c) (nI c, fnd, hp, xs, ys, zs, wn, vl, tk, lm, nu)) : ∀ (d i : Nat) (fnd : Int32) (nu : Nat → Int32), i + d = c → hg_X (fun n => ∃ j, j < i ∧ hg_won g (p j) (q j) (r j) = false ∧ n = hg_num (p j) (q j) (r j)) i fnd nu → wY_search_125 post (d + 1) (nI i) (nI c) fnd hp xs ys zs wn vl tk lm nu := by
  intro d
  induction d with
  | zero =>
    intro i fnd nu hi hX
    obtain rfl : i = c := by omega
    exact br_t (nI_le (Nat.le_refl _) (by omega)) (K fnd nu hX)
  | succ d ih =>
    intro i fnd nu hi hX
    have hic : i < c := by omega
    obtain ⟨l1, l2, l3⟩ := hl i hic
    obtain ⟨t1, t2, t3, t4⟩ := ht i hic
    have ei : (nI i).toNatClampNeg = i := nI_clamp (by omega)
    have hkl := hg_key_lt (x := p i) (y := q i) (z := r i) (by omega) (by omega) t4
    have hin : vp_in (nI i) 800 := vp_in_nI (by omega) (by omega)
    refine br_f (nI_ge (by omega) (by omega)) ⟨hin, hin, hin, hg_keyY (x := p i) (y := q i) (z := r i) (by rw [ei]; exact l1) (by rw [ei]; exact l2) (by rw [ei]; exact l3) ?_⟩
    refine ⟨vp_in_nI hkl (by omega), ?_⟩
    rw [nI_clamp (by omega : hg_key (p i) (q i) (r i) < 2 ^ 31), t1]
    cases hw : hg_won g (p i) (q i) (r i) with
    | false =>
      refine br_t rfl ⟨hin, hin, hin, ?_⟩
      have hn : hg_num (p i) (q i) (r i) < 1048576 := by
        unfold hg_num
        omega
      refine hg_noteY (Q := fun n => ∃ j, j < i + 1 ∧ hg_won g (p j) (q j) (r j) = false ∧ n = hg_num (p j) (q j) (r j)) (v := hg_num (p i) (q i) (r i)) hX (by omega) hn ?_ (fun n => ?_) ?_ (fun fnd nu k => nm_r (nI_1 i) (ih (i + 1) fnd nu (by omega) k))
      · rintro ⟨j, hj, _, e⟩
        have u := ht j (by omega)
        exact hd j i hj hic (hg_num_inj (by omega) (by omega) (by omega) (by omega) e.symm)
      · constructor
        · rintro ⟨j, hj, k1, k2⟩
          by_cases e : j = i
          · subst e; exact Or.inr k2
          · exact Or.inl ⟨j, by omega, k1, k2⟩
        · rintro (⟨j, hj, k1, k2⟩ | k2)
          · exact ⟨j, by omega, k1, k2⟩
          · exact ⟨i, by omega, hw, k2⟩
      · rw [ei, l1, l2, l3, show (32 : Int32) = nI 32 from rfl, show (1024 : Int32) = nI 1024 from rfl, pk_mul, pk_mul, nI_add, nI_add]
        rfl
    | true =>
      refine br_f (by decide) (nm_r (nI_1 i) (ih (i + 1) fnd nu (by omega) (hg_X_iff (hg_X_le hX (by omega)) (fun n => ?_))))
      constructor
      · rintro ⟨j, hj, k1, k2⟩
        refine ⟨j, ?_, k1, k2⟩
        by_cases e : j = i
        · rw [e, hw] at k1; cases k1
        · omega
      · rintro ⟨j, hj, k1, k2⟩
        exact ⟨j, by omega, k1, k2⟩
def hg_min (a b : Nat) : Nat := if a ≤ b then a else b
theorem hg_s22 {post : Int32 → SY → Prop} {cnt : Int32} {a b c N : Nat} (H : hg_H hp a b c) (hN : N ≤ 60) (hT : hg_LT 61 0 lm) (K : ∀ fnd nu, hg_X (fun n => 1 ≤ n ∧ n ≤ N ∧ n ≤ c ∧ (false = true ∨ hg_W (N - n) (2 * n) = false)) 800 fnd nu → post (nI (hg_min c N)) (cnt, fnd, hp, xs, ys, zs, wn, vl, tk, lm, nu)) : ∀ (d k : Nat) (fnd : Int32) (nu : Nat → Int32), k + d = 16 → 1 ≤ k → hg_X (hg_P6 false N c k) k fnd nu → wY_search_22 post (nI N) (d + 1) (nI k) cnt fnd hp xs ys zs wn vl tk lm nu := by
  obtain ⟨ha, hb, hc, e0, e1, e2⟩ := H
  have Z : ∀ (k : Nat) (fnd : Int32) (nu : Nat → Int32), k ≤ 16 → (N < k ∨ c < k) → hg_X (hg_P6 false N c k) k fnd nu → wY_search_74 post (nI N) cnt fnd hp xs ys zs wn vl tk lm nu := by
    intro k fnd nu hk hz hX
    have kk := K fnd nu (hg_X_iff (hg_X_le hX (by omega)) (fun n => by
      unfold hg_P6
      constructor
      · rintro ⟨h1, h2, h3, h4⟩
        exact ⟨h1, h2, h3, h4, by omega⟩
      · rintro ⟨h1, h2, h3, h4, h5⟩
        exact ⟨h1, h2, h3, h4⟩))
    unfold wY_search_74
    rw [e2]
    unfold hg_min at kk
    refine pk_le c N (fun z => ?_) (fun z => ?_)
    · rw [if_pos z] at kk
      exact kk
    · rw [if_neg (by omega)] at kk
      exact kk
  intro d
  induction d with
  | zero =>
    intro k fnd nu hk hk1 hX
    refine pk_lt N k (fun z => Z k fnd nu (by omega) (Or.inl z) hX) (fun z => br_t ?_ (Z k fnd nu (by omega) (Or.inr (by omega)) hX))
    rw [e2]
    exact nI_lt (by omega) (by omega)
  | succ d ih =>
    intro k fnd nu hk hk1 hX
    refine pk_lt N k (fun z => Z k fnd nu (by omega) (Or.inl z) hX) (fun z => ?_)
    rw [e2]
    refine pk_lt c k (fun z2 => Z k fnd nu (by omega) (Or.inr z2) hX) (fun z2 => ?_)
    refine hg_atMost (n := 2 * k) (by omega) (pk_mul 2 k) ?_
    have hc6 := hg_c60_le (n := 2 * k)
    have ei : 61 * (nI N - nI k) + nI (hg_c60 (2 * k)) = nI (61 * (N - k) + hg_c60 (2 * k)) := by
      rw [pk_sub z, show (61 : Int32) = nI 61 from rfl, pk_mul, nI_add]
    rw [ei]
    refine ⟨vp_in_nI (by omega) (by omega), ?_⟩
    rw [nI_clamp (by omega : 61 * (N - k) + hg_c60 (2 * k) < 2 ^ 31), hT (N - k) (hg_c60 (2 * k)) hc6 (Or.inl (by omega)), hg_W_c (by omega)]
    cases hW : hg_W (N - k) (2 * k) with
    | false =>
      refine br_t rfl ?_
      refine hg_noteY (Q := hg_P6 false N c (k + 1)) (v := k) hX (by omega) (by omega) ?_ (fun n => ?_) rfl (fun fnd nu k' => nm_r (nI_1 k) (ih (k + 1) fnd nu (by omega) (by omega) k'))
      · rintro ⟨_, _, _, _, h5⟩
        omega
      · unfold hg_P6
        constructor
        · rintro ⟨h1, h2, h3, h4, h5⟩
          by_cases h6 : n = k
          · exact Or.inr h6
          · exact Or.inl ⟨h1, h2, h3, h4, by omega⟩
        · rintro (⟨h1, h2, h3, h4, h5⟩ | h1)
          · exact ⟨h1, h2, h3, h4, by omega⟩
          · subst h1
            exact ⟨hk1, z, z2, Or.inr hW, by omega⟩
    | true =>
      refine br_f (by decide) (nm_r (nI_1 k) (ih (k + 1) fnd nu (by omega) (by omega) (hg_X_iff (hg_X_le hX (by omega)) (fun n => ?_))))
      unfold hg_P6
      constructor
      · rintro ⟨h1, h2, h3, h4, h5⟩
        refine ⟨h1, h2, h3, h4, ?_⟩
        by_cases h6 : n = k
        · subst h6
          rw [hW] at h4
          rcases h4 with h4 | h4 <;> cases h4
        · omega
      · rintro ⟨h1, h2, h3, h4, h5⟩
        exact ⟨h1, h2, h3, h4, by omega⟩
end HG19
/-- an option of a position with heaps up to 15 has a number that tells it -/
theorem hg_Opt_le {g a b c p q r : Nat} (ha : a ≤ 15) (hb : b ≤ 15) (hc : c ≤ 15) (ho : hg_Opt g a b c p q r) : p ≤ 30 ∧ q ≤ 30 ∧ r ≤ 15 ∧ (g ≠ 3 → p ≤ 15 ∧ q ≤ 15) := by
  by_cases h3 : g = 3
  · subst h3
    rw [hg_Opt_3] at ho
    unfold hg_O3 at ho
    omega
  · have k := (hg_J_opt (z0 := if g = 4 ∨ g = 5 then c else 0) h3 ha hb hc (Nat.le_refl _) (Nat.le_refl _) (Nat.le_refl _) (by split <;> omega) (by split <;> omega) ho).2
    obtain ⟨k1, k2, k3, k4⟩ := k
    have := k4 h3
    omega
theorem hg_L_X {g a b c : Nat} {cnt : Int32} {xs ys zs : Nat → Int32} (h6 : g ≠ 6) (ha : a ≤ 15) (hb : b ≤ 15) (hc : c ≤ 15) (HL : hg_L (hg_Opt g a b c) 800 cnt xs ys zs) : ∃ m, hg_X (hg_P g true a b c) 800 cnt m := by
  obtain ⟨n, p, q, r, e, hn, h1, h2, h3⟩ := HL
  have hle : ∀ i, i < n → p i ≤ 30 ∧ q i ≤ 30 ∧ r i ≤ 15 := fun i hi => by
    have k := hg_Opt_le ha hb hc (h1 i hi).2.2.2
    omega
  obtain ⟨s, hs⟩ := hg_sort (fun i => hg_num (p i) (q i) (r i)) n (fun i j hij hj k => h3 i j hij hj (hg_num_inj (by have := hle i (by omega); omega) (by have := hle i (by omega); omega) (by have := hle j hj; omega) (by have := hle j hj; omega) k))
  refine ⟨fun i => nI (s i), n, s, hg_Srt_iff hs (fun v => (hg_P_n h6).trans ?_), hn, e, fun i _ => rfl, fun v hv => ?_⟩
  · constructor
    · rintro ⟨x, y, z, k1, _, k3⟩
      obtain ⟨i, hi, rfl, rfl, rfl⟩ := h2 x y z k1
      exact ⟨i, hi, k3.symm⟩
    · rintro ⟨i, hi, k⟩
      exact ⟨p i, q i, r i, (h1 i hi).2.2.2, Or.inl rfl, k.symm⟩
  · obtain ⟨x, y, z, k1, _, k3⟩ := (hg_P_n h6).mp hv
    have k := hg_Opt_le ha hb hc k1
    unfold hg_num at k3
    omega
section HG20
variable {hp : Nat → Int32}
theorem hg_counters {post : Int32 → Prop} {a b c : Nat} {cnt fnd : Int32} {xs ys zs wn vl tk lm nu : Nat → Int32} (H : hg_H hp a b c) (hpo : post (nI (hg_N a b))) : wpY_counters post (cnt, fnd, hp, xs, ys, zs, wn, vl, tk, lm, nu) := by
  obtain ⟨ha, hb, hc, e0, e1, e2⟩ := H
  refine nm_r (e' := nI (a + 16 * b)) (by rw [e0, e1, show (16 : Int32) = nI 16 from rfl, pk_mul, nI_add]) ?_
  refine pk_le (a + 16 * b) 60 (fun z => ?_) (fun z => ?_)
  · rw [show hg_N a b = a + 16 * b from if_pos z] at hpo
    exact hpo
  · rw [show hg_N a b = 60 from if_neg (by omega)] at hpo
    exact hpo
theorem hg_searchY {post : Int32 → SY → Prop} {g a b c : Nat} {cnt fnd : Int32} {xs ys zs wn vl tk lm nu : Nat → Int32} (H : hg_H hp a b c) (hg : g ≤ 7) (K : ∀ (ret cnt fnd : Int32) (xs ys zs wn vl tk lm nu : Nat → Int32), hg_X (hg_P g false a b c) 800 fnd nu → (∃ m, hg_X (hg_P g true a b c) 800 ret m) → post ret (cnt, fnd, hp, xs, ys, zs, wn, vl, tk, lm, nu)) : wpY_search post (cnt, fnd, hp, xs, ys, zs, wn, vl, tk, lm, nu) (nI g) := by
  have H' := H
  obtain ⟨ha, hb, hc, e0, e1, e2⟩ := H
  unfold wpY_search
  dsimp only
  refine pk_eq g 6 (fun e => ?_) (fun h6 => ?_)
  · subst e
    refine hg_flimY (fun lm hT => ?_)
    have hN := hg_N_le (a := a) (b := b)
    have F : ∃ n, wY_search_22 post (nI (hg_N a b)) n 1 cnt 0 hp xs ys zs wn vl tk lm nu := by
      refine ⟨16, hg_s22 H' hN hT (fun fnd nu k => K _ _ _ _ _ _ _ _ _ _ _ k ?_) 15 1 0 nu rfl (Nat.le_refl _) (hg_X_iff (hg_X_le hg_X_0 (by omega)) (fun n => ⟨fun w => ?_, fun w => w.elim⟩))⟩
      · have hm : hg_min c (hg_N a b) ≤ c ∧ hg_min c (hg_N a b) ≤ hg_N a b ∧ (hg_min c (hg_N a b) = c ∨ hg_min c (hg_N a b) = hg_N a b) := by
          unfold hg_min
          split <;> omega
        refine ⟨fun i => nI (i + 1), hg_min c (hg_N a b), fun i => i + 1, ⟨fun i j h1 h2 => Nat.succ_lt_succ h1, fun n => ?_⟩, by omega, rfl, fun i _ => rfl, fun n hn => ?_⟩
        · constructor
          · rintro ⟨k1, k2, k3, _⟩
            exact ⟨n - 1, by omega, by show n - 1 + 1 = n; omega⟩
          · rintro ⟨i, hi, k⟩
            have k : i + 1 = n := k
            exact ⟨by omega, by omega, by omega, Or.inl rfl⟩
        · obtain ⟨k1, k2, k3, _⟩ := hn
          omega
      · obtain ⟨k1, k2, k3, k4, k5⟩ := w
        omega
    exact hg_counters H' F
  · refine hg_fillY H' hg h6 (fun cnt xs ys zs wn vl tk hT => ?_)
    dsimp only
    rw [e0, e1, e2]
    refine hg_listY hg h6 (hg_bd ha hb hc) (fun cnt xs ys zs HL => ?_)
    obtain ⟨m, hm⟩ := hg_L_X h6 ha hb hc HL
    obtain ⟨n, p, q, r, rfl, hn, h1, h2, h3⟩ := HL
    refine ⟨n + 1, hg_s125 (g := g) (p := p) (q := q) (r := r) hn (fun i hi => ⟨(h1 i hi).1, (h1 i hi).2.1, (h1 i hi).2.2.1⟩) (fun i hi => ?_) h3 (fun fnd nu k => K _ _ _ _ _ _ _ _ _ _ _ (hg_X_iff (hg_X_le k hn) (fun v => (hg_P_n h6).trans ?_)) ⟨m, hm⟩) n 0 0 nu (by omega) (hg_X_iff hg_X_0 (fun v => ⟨fun ⟨j, hj, _⟩ => by omega, fun w => w.elim⟩))⟩
    · have ho := (h1 i hi).2.2.2
      have k := hg_Opt_le ha hb hc ho
      exact ⟨(hT _ _ _ (Or.inl ho)).1, k.1, k.2.1, k.2.2.1⟩
    · constructor
      · rintro ⟨x, y, z, k1, k2, k3⟩
        obtain ⟨i, hi, rfl, rfl, rfl⟩ := h2 x y z k1
        exact ⟨i, hi, k2.elim (fun k => (nomatch k)) id, k3⟩
      · rintro ⟨i, hi, k2, k3⟩
        exact ⟨p i, q i, r i, (h1 i hi).2.2.2, Or.inr k2, k3⟩
theorem hg_noY {post : Int32 → Prop} {g : Nat} {cnt fnd : Int32} {xs ys zs wn vl tk lm nu : Nat → Int32} (hg : g ≤ 7) (hpo : post 0) : wpY_noGame post (cnt, fnd, hp, xs, ys, zs, wn, vl, tk, lm, nu) (nI g) := br_f (nI_pos (by omega)) (br_t (nI_le (b := 7) hg (by omega)) hpo)
theorem hg_ansP {g a b c : Nat} (hg : g ≤ 7) (ha : a ≤ 15) (hb : b ≤ 15) (hc : c ≤ 15) : hg_ans g a b c = true ↔ (∃ n, hg_P g false a b c n) ∨ (g = 1 ∧ ¬ ∃ n, hg_P g true a b c n) := by
  unfold hg_ans
  by_cases h6 : g = 6
  · subst h6
    rw [if_pos rfl, hg_lawW hg_N_le (by omega)]
    constructor
    · rintro ⟨k, k1, k2, k3, k4⟩
      rw [hg_W_c (by have := hg_N_le (a := a) (b := b); omega)] at k4
      exact Or.inl ⟨k, k1, k2, k3, Or.inr k4⟩
    · rintro (⟨k, k1, k2, k3, k4⟩ | ⟨k, _⟩)
      · refine ⟨k, k1, k2, k3, ?_⟩
        rw [hg_W_c (by have := hg_N_le (a := a) (b := b); omega)]
        exact k4.elim (fun k => (nomatch k)) id
      · cases k
  · rw [if_neg h6, hg_lawA hg h6 (hg_bd ha hb hc)]
    refine or_congr ?_ (and_congr Iff.rfl (not_congr ?_))
    · constructor
      · rintro ⟨p, q, r, k1, k2⟩
        exact ⟨_, (hg_P_n h6).mpr ⟨p, q, r, k1, Or.inr k2, rfl⟩⟩
      · rintro ⟨n, hn⟩
        obtain ⟨p, q, r, k1, k2, _⟩ := (hg_P_n h6).mp hn
        exact ⟨p, q, r, k1, k2.elim (fun k => (nomatch k)) id⟩
    · constructor
      · rintro ⟨p, q, r, k1⟩
        exact ⟨_, (hg_P_n h6).mpr ⟨p, q, r, k1, Or.inl rfl, rfl⟩⟩
      · rintro ⟨n, hn⟩
        obtain ⟨p, q, r, k1, _, _⟩ := (hg_P_n h6).mp hn
        exact ⟨p, q, r, k1⟩
theorem hg_wonY {post : Int32 → SY → Prop} {g a b c : Nat} {cnt fnd : Int32} {xs ys zs wn vl tk lm nu : Nat → Int32} (H : hg_H hp a b c) (hg : g ≤ 7) (K : ∀ (cnt fnd : Int32) (xs ys zs wn vl tk lm nu : Nat → Int32), post (hg_bI (hg_ans g a b c)) (cnt, fnd, hp, xs, ys, zs, wn, vl, tk, lm, nu)) : wpY_won post (cnt, fnd, hp, xs, ys, zs, wn, vl, tk, lm, nu) (nI g) := by
  have law := hg_ansP hg H.1 H.2.1 H.2.2.1
  unfold wpY_won
  dsimp only
  refine hg_noY hg ?_
  refine br_t rfl ?_
  refine hg_searchY H hg (fun ret cnt fnd xs ys zs wn vl tk lm nu h1 h2 => ?_)
  obtain ⟨m, h2⟩ := h2
  have kk := K cnt fnd xs ys zs wn vl tk lm nu
  have F : hg_ans g a b c = false → post 0 (cnt, fnd, hp, xs, ys, zs, wn, vl, tk, lm, nu) := fun e => by rw [e] at kk; exact kk
  have T : hg_ans g a b c = true → post 1 (cnt, fnd, hp, xs, ys, zs, wn, vl, tk, lm, nu) := fun e => by rw [e] at kk; exact kk
  have N : ¬ ((∃ n, hg_P g false a b c n) ∨ (g = 1 ∧ ¬ ∃ n, hg_P g true a b c n)) → hg_ans g a b c = false := by
    intro k
    cases e : hg_ans g a b c with
    | false => rfl
    | true => exact absurd (law.mp e) k
  by_cases c1 : ∃ n, hg_P g false a b c n
  · exact br_t ((hg_X_pos h1 (Nat.le_refl _)).mpr c1) (T (law.mpr (Or.inl c1)))
  · refine br_f (fun k => c1 ((hg_X_pos h1 (Nat.le_refl _)).mp k)) (pk_eq g 1 (fun e => ?_) (fun e => ?_))
    · by_cases c2 : ∃ n, hg_P g true a b c n
      · exact br_f (fun k => (hg_X_z h2 (Nat.le_refl _)).mp k c2) (F (N (fun k => k.elim c1 (fun k => k.2 c2))))
      · exact br_t ((hg_X_z h2 (Nat.le_refl _)).mpr c2) (T (law.mpr (Or.inr ⟨e, c2⟩)))
    · exact F (N (fun k => k.elim c1 (fun k => e k.1)))
end HG20
end
section
/-- the relation at the head of a turn: the two sides hold the same heaps, each of them 0 .. 15; all else is written before it is read -/
def i_Rel (k : Nat) (u : SX) (v : SY) : Prop := u.2.1 = v.2.2.1 ∧ ∃ a b c : Nat, hg_H u.2.1 a b c
theorem hg_rel {k a b c : Nat} {f : Int32} {m : Nat → Int32} {cnt fnd : Int32} {hp xs ys zs wn vl tk lm nu : Nat → Int32} (H : hg_H hp a b c) : i_Rel k (f, hp, m) (cnt, fnd, hp, xs, ys, zs, wn, vl, tk, lm, nu) := ⟨rfl, a, b, c, H⟩
theorem hg_el {k : Nat} {P : SX → SY → Prop} (h : ∀ (f : Int32) (m : Nat → Int32) (cnt fnd : Int32) (hp xs ys zs wn vl tk lm nu : Nat → Int32) (a b c : Nat), hg_H hp a b c → P (f, hp, m) (cnt, fnd, hp, xs, ys, zs, wn, vl, tk, lm, nu)) {u : SX} {v : SY} (I : i_Rel k u v) : P u v := by
  obtain ⟨f, h0, m⟩ := u
  obtain ⟨cnt, fnd, hp, xs, ys, zs, wn, vl, tk, lm, nu⟩ := v
  obtain ⟨e, a, b, c, H⟩ := I
  have e : h0 = hp := e
  subst e
  exact h f m cnt fnd h0 xs ys zs wn vl tk lm nu a b c H
theorem hg_H_upd {hp : Nat → Int32} {a b c j n : Nat} (H : hg_H hp a b c) (hj : j ≤ 2) (hn : n ≤ 15) : ∃ a' b' c' : Nat, hg_H (upd hp j (nI n)) a' b' c' := by
  obtain ⟨ha, hb, hc, e0, e1, e2⟩ := H
  rcases (by omega : j = 0 ∨ j = 1 ∨ j = 2) with rfl | rfl | rfl
  · exact ⟨n, b, c, hn, hb, hc, pk_us, by rw [pk_un (by omega)]; exact e1, by rw [pk_un (by omega)]; exact e2⟩
  · exact ⟨a, n, c, ha, hn, hc, by rw [pk_un (by omega)]; exact e0, pk_us, by rw [pk_un (by omega)]; exact e2⟩
  · exact ⟨a, b, n, ha, hb, hn, by rw [pk_un (by omega)]; exact e0, by rw [pk_un (by omega)]; exact e1, pk_us⟩
theorem hg_game (v : Int32) : (∃ g, g ≤ 7 ∧ v = nI g) ∨ ((∀ (post : Int32 → Prop) (f : Int32) (h m : Nat → Int32), post 1 → wpX_badGame post (f, h, m) v) ∧ (∀ (post : Int32 → Prop) (cnt fnd : Int32) (hp xs ys zs wn vl tk lm nu : Nat → Int32), post 1 → wpY_noGame post (cnt, fnd, hp, xs, ys, zs, wn, vl, tk, lm, nu) v)) := by
  by_cases h0 : v < 0
  · exact Or.inr ⟨fun post f h m hp => br_t h0 hp, fun post cnt fnd hp xs ys zs wn vl tk lm nu hpo => br_t h0 hpo⟩
  · obtain ⟨j, hj, rfl⟩ := nI_of h0
    by_cases h7 : j ≤ 7
    · exact Or.inl ⟨j, h7, rfl⟩
    · have h8 : ¬ nI j ≤ nI 7 := nI_ge (by omega) hj
      exact Or.inr ⟨fun post f h m hp => br_f h0 (br_f h8 hp), fun post cnt fnd hp xs ys zs wn vl tk lm nu hpo => br_f h0 (br_f h8 hpo)⟩
theorem i_up {k : Nat} {u : SX} {v : SY} (h : i_Rel k u v) : i_Rel (k + 3) u v := h
theorem i_vc0 : wpX_init (fun u => wpY_init (fun v => i_Rel 0 u v)) := ⟨rfl, 0, 0, 0, by omega, by omega, by omega, rfl, rfl, rfl⟩
theorem i_vc_heap {k : Nat} {u : SX} {v : SY} (I : i_Rel k u v) (hk : k + 3 ≤ 1536) (v1 : Int32) (v2 : Int32) : wpX_heap (fun r u' => wpY_heap (fun r' v' => r' = r ∧ i_Rel (k + 3) u' v') v v1 v2) u v1 v2 := by
  refine hg_el (P := fun u v => wpX_heap (fun r u' => wpY_heap (fun r' v' => r' = r ∧ i_Rel (k + 3) u' v') v v1 v2) u v1 v2) ?_ I
  intro f m cnt fnd hp xs ys zs wn vl tk lm nu a b c H
  unfold wpX_heap
  dsimp only
  by_cases h0 : v1 < 0
  · refine br_t h0 ?_
    refine br_f (by decide) ?_
    exact br_t h0 ⟨rfl, hg_rel H⟩
  · obtain ⟨j, hj, rfl⟩ := nI_of h0
    refine br_f h0 ?_
    refine pk_le j 2 (fun z => ?_) (fun z => ?_)
    · refine br_t rfl ?_
      have z2 : ¬ (2 : Int32) < nI j := nI_nlt (a := 2) z (by omega)
      have hin : vp_in (nI j) 3 := vp_in_nI (by omega) (by omega)
      by_cases n0 : v2 < 0
      · exact br_t n0 (br_f h0 (br_f z2 (br_t n0 ⟨rfl, hg_rel H⟩)))
      · obtain ⟨n, hn, rfl⟩ := nI_of n0
        refine br_f n0 (pk_le n 15 (fun w => ?_) (fun w => ?_))
        · have hw : nI n ≤ (15 : Int32) := nI_le (b := 15) w (by omega)
          refine ⟨hin, nm_e ⟨hin, nm_r (e' := upd hp j (nI n)) (by rw [nI_clamp hj]) ?_⟩⟩
          refine br_f h0 (br_f z2 (br_f n0 (br_t hw ⟨hin, nm_e ⟨hin, nm_r (e' := upd hp j (nI n)) (by rw [nI_clamp hj]) ⟨rfl, rfl, hg_H_upd H z w⟩⟩⟩)))
        · have hw : ¬ nI n ≤ (15 : Int32) := nI_ge (a := 15) w hn
          exact br_f h0 (br_f z2 (br_f n0 (br_f hw ⟨rfl, hg_rel H⟩)))
    · refine br_f (by decide) ?_
      exact br_f h0 (br_t (nI_lt (a := 2) z hj) ⟨rfl, hg_rel H⟩)
theorem i_vc_has {k : Nat} {u : SX} {v : SY} (I : i_Rel k u v) (hk : k + 3 ≤ 1536) (v1 : Int32) : wpX_has (fun r => wpY_has (fun r' => r' = r ∧ i_Rel (k + 3) u v) v v1) u v1 := by
  refine hg_el (P := fun u v => wpX_has (fun r => wpY_has (fun r' => r' = r ∧ i_Rel (k + 3) u v) v v1) u v1) ?_ I
  intro f m cnt fnd hp xs ys zs wn vl tk lm nu a b c H
  unfold wpX_has
  dsimp only
  by_cases h0 : v1 < 0
  · refine br_t h0 ?_
    refine br_f (by decide) ?_
    exact br_t h0 ⟨rfl, hg_rel H⟩
  · obtain ⟨j, hj, rfl⟩ := nI_of h0
    refine br_f h0 ?_
    refine pk_le j 2 (fun z => ?_) (fun z => ?_)
    · have hin : vp_in (nI j) 3 := vp_in_nI (by omega) (by omega)
      refine br_t rfl ⟨hin, ?_⟩
      exact br_f h0 (br_t (nI_le (b := 2) z (by omega)) ⟨hin, rfl, hg_rel H⟩)
    · refine br_f (by decide) ?_
      exact br_f h0 (br_f (nI_ge (a := 2) z hj) ⟨rfl, hg_rel H⟩)
theorem i_vc_won {k : Nat} {u : SX} {v : SY} (I : i_Rel k u v) (hk : k + 3 ≤ 1536) (v1 : Int32) : wpX_won (fun r => wpY_won (fun r' v' => r' = r ∧ i_Rel (k + 3) u v') v v1) u v1 := by
  refine hg_el (P := fun u v => wpX_won (fun r => wpY_won (fun r' v' => r' = r ∧ i_Rel (k + 3) u v') v v1) u v1) ?_ I
  intro f m cnt fnd hp xs ys zs wn vl tk lm nu a b c H
  rcases hg_game v1 with ⟨g, hg, rfl⟩ | ⟨BX, BY⟩
  · refine hg_wonX H hg ?_
    exact hg_wonY H hg (fun _ _ _ _ _ _ _ _ _ _ => ⟨rfl, hg_rel H⟩)
  · unfold wpX_won
    dsimp only
    refine BX _ _ _ _ ?_
    refine br_f (by decide) ?_
    unfold wpY_won
    dsimp only
    refine BY _ _ _ _ _ _ _ _ _ _ _ _ ?_
    exact br_f (by decide) ⟨rfl, hg_rel H⟩
theorem i_vc_moves {k : Nat} {u : SX} {v : SY} (I : i_Rel k u v) (hk : k + 3 ≤ 1536) (v1 : Int32) : wpX_moves (fun r u' => wpY_moves (fun r' v' => r' = r ∧ i_Rel (k + 3) u' v') v v1) u v1 := by
  refine hg_el (P := fun u v => wpX_moves (fun r u' => wpY_moves (fun r' v' => r' = r ∧ i_Rel (k + 3) u' v') v v1) u v1) ?_ I
  intro f m cnt fnd hp xs ys zs wn vl tk lm nu a b c H
  unfold wpX_moves
  dsimp only
  rcases hg_game v1 with ⟨g, hg, rfl⟩ | ⟨BX, BY⟩
  · refine hg_badX hg ?_
    refine br_t rfl ?_
    refine hg_findX (al := true) H hg (fun f' m' kx => ?_)
    unfold wpY_moves
    dsimp only
    refine hg_noY hg ?_
    refine br_t rfl ?_
    refine hg_searchY H hg (fun ret cnt fnd xs ys zs wn vl tk lm nu k1 k2 => ?_)
    obtain ⟨mm, k2⟩ := k2
    exact ⟨hg_X_u kx k2, hg_rel H⟩
  · refine BX _ _ _ _ ?_
    refine br_f (by decide) ?_
    unfold wpY_moves
    dsimp only
    refine BY _ _ _ _ _ _ _ _ _ _ _ _ ?_
    exact br_f (by decide) ⟨rfl, hg_rel H⟩
theorem i_vc_winning {k : Nat} {u : SX} {v : SY} (I : i_Rel k u v) (hk : k + 3 ≤ 1536) (v1 : Int32) : wpX_winning (fun r u' => wpY_winning (fun r' v' => r' = r ∧ i_Rel (k + 3) u' v') v v1) u v1 := by
  refine hg_el (P := fun u v => wpX_winning (fun r u' => wpY_winning (fun r' v' => r' = r ∧ i_Rel (k + 3) u' v') v v1) u v1) ?_ I
  intro f m cnt fnd hp xs ys zs wn vl tk lm nu a b c H
  unfold wpX_winning
  dsimp only
  rcases hg_game v1 with ⟨g, hg, rfl⟩ | ⟨BX, BY⟩
  · refine hg_badX hg ?_
    refine br_t rfl ?_
    refine hg_findX (al := false) H hg (fun f' m' kx => ?_)
    unfold wpY_winning
    dsimp only
    refine hg_noY hg ?_
    refine br_t rfl ?_
    refine hg_searchY H hg (fun ret cnt fnd xs ys zs wn vl tk lm nu k1 k2 => ?_)
    exact ⟨hg_X_u kx k1, hg_rel H⟩
  · refine BX _ _ _ _ ?_
    refine br_f (by decide) ?_
    unfold wpY_winning
    dsimp only
    refine BY _ _ _ _ _ _ _ _ _ _ _ _ ?_
    exact br_f (by decide) ⟨rfl, hg_rel H⟩
theorem i_vc_winningMove {k : Nat} {u : SX} {v : SY} (I : i_Rel k u v) (hk : k + 3 ≤ 1536) (v1 : Int32) (v2 : Int32) : wpX_winningMove (fun r u' => wpY_winningMove (fun r' v' => r' = r ∧ i_Rel (k + 3) u' v') v v1 v2) u v1 v2 := by
  refine hg_el (P := fun u v => wpX_winningMove (fun r u' => wpY_winningMove (fun r' v' => r' = r ∧ i_Rel (k + 3) u' v') v v1 v2) u v1 v2) ?_ I
  intro f m cnt fnd hp xs ys zs wn vl tk lm nu a b c H
  unfold wpX_winningMove
  dsimp only
  rcases hg_game v1 with ⟨g, hg, rfl⟩ | ⟨BX, BY⟩
  · refine hg_badX hg ?_
    refine br_t rfl ?_
    refine hg_findX (al := false) H hg (fun f' m' kx => ?_)
    have Y : ∀ r : Int32, (∀ (cnt fnd : Int32) (xs ys zs wn vl tk lm nu : Nat → Int32), hg_X (hg_P g false a b c) 800 fnd nu → ((v2 < 0 → (-4 = r ∧ i_Rel (k + 3) (f', hp, m') (cnt, fnd, hp, xs, ys, zs, wn, vl, tk, lm, nu))) ∧ (¬ v2 < 0 → ((v2 < fnd → (vp_in v2 800 ∧ (nu v2.toNatClampNeg = r ∧ i_Rel (k + 3) (f', hp, m') (cnt, fnd, hp, xs, ys, zs, wn, vl, tk, lm, nu)))) ∧ (¬ v2 < fnd → (-4 = r ∧ i_Rel (k + 3) (f', hp, m') (cnt, fnd, hp, xs, ys, zs, wn, vl, tk, lm, nu))))))) → wpY_winningMove (fun r' v' => r' = r ∧ i_Rel (k + 3) (f', hp, m') v') (cnt, fnd, hp, xs, ys, zs, wn, vl, tk, lm, nu) (nI g) v2 := by
      intro r hr
      unfold wpY_winningMove
      dsimp only
      refine hg_noY hg ?_
      refine br_t rfl ?_
      exact hg_searchY H hg (fun ret cnt fnd xs ys zs wn vl tk lm nu k1 k2 => hr _ _ _ _ _ _ _ _ _ _ k1)
    by_cases n0 : v2 < 0
    · exact br_t n0 (Y _ (fun cnt fnd xs ys zs wn vl tk lm nu k1 => br_t n0 ⟨rfl, hg_rel H⟩))
    · obtain ⟨i, hi, rfl⟩ := nI_of n0
      refine br_f n0 ?_
      by_cases n1 : nI i < f'
      · have hx := (hg_X_v kx kx (Nat.le_refl _) hi n1).2
        obtain ⟨n, _, _, _, h8⟩ := hx
        refine br_t n1 ⟨vp_in_nI h8 (by omega), Y _ (fun cnt fnd xs ys zs wn vl tk lm nu k1 => ?_)⟩
        have hv := hg_X_v kx k1 (Nat.le_refl _) hi n1
        have hf := hg_X_u kx k1
        subst hf
        exact br_f n0 (br_t n1 ⟨vp_in_nI h8 (by omega), by rw [nI_clamp hi]; exact hv.1, hg_rel H⟩)
      · refine br_f n1 (Y _ (fun cnt fnd xs ys zs wn vl tk lm nu k1 => ?_))
        have hf := hg_X_u kx k1
        subst hf
        exact br_f n0 (br_f n1 ⟨rfl, hg_rel H⟩)
  · refine BX _ _ _ _ ?_
    refine br_f (by decide) ?_
    unfold wpY_winningMove
    dsimp only
    refine BY _ _ _ _ _ _ _ _ _ _ _ _ ?_
    exact br_f (by decide) ⟨rfl, hg_rel H⟩
theorem hg_val12 {k g a b c : Nat} {f : Int32} {m : Nat → Int32} {cnt fnd : Int32} {hp xs ys zs wn vl tk lm nu : Nat → Int32} (H : hg_H hp a b c) (hg : g = 0 ∨ g = 7) : wY_value_12 (fun r' v' => r' = nI (hg_val g a b c) ∧ i_Rel (k + 3) (f, hp, m) v') (nI g) cnt fnd hp xs ys zs wn vl tk lm nu := by
  have H' := H
  obtain ⟨ha, hb, hc, e0, e1, e2⟩ := H
  unfold wY_value_12
  refine hg_fillY H' (by omega) (by omega) (fun cnt xs ys zs wn vl tk hT => ?_)
  have hkl := hg_key_lt (x := a) (y := b) (z := c) (by omega) (by omega) hc
  refine hg_keyY e0 e1 e2 ?_
  refine ⟨vp_in_nI hkl (by omega), ?_, hg_rel H'⟩
  rw [nI_clamp (by omega)]
  exact (hT a b c (Or.inr ⟨rfl, rfl, rfl⟩)).2
theorem i_vc_value {k : Nat} {u : SX} {v : SY} (I : i_Rel k u v) (hk : k + 3 ≤ 1536) (v1 : Int32) : wpX_value (fun r => wpY_value (fun r' v' => r' = r ∧ i_Rel (k + 3) u v') v v1) u v1 := by
  refine hg_el (P := fun u v => wpX_value (fun r => wpY_value (fun r' v' => r' = r ∧ i_Rel (k + 3) u v') v v1) u v1) ?_ I
  intro f m cnt fnd hp xs ys zs wn vl tk lm nu a b c H
  have H' := H
  obtain ⟨ha, hb, hc, e0, e1, e2⟩ := H
  have hx := hg_x0_lt ha hb hc
  have ex : hp 0 ^^^ hp 1 ^^^ hp 2 = nI (hg_x0 a b c) := by
    rw [e0, e1, e2, hg_xe]
    rfl
  by_cases z0 : v1 = 0
  · subst z0
    refine br_t rfl ?_
    refine nm_r ex (br_t rfl ?_)
    exact br_t rfl (hg_val12 (g := 0) H' (Or.inl rfl))
  · by_cases z7 : v1 = 7
    · subst z7
      refine br_f (by decide) (br_t rfl ?_)
      refine nm_r ex (br_f (by decide) ?_)
      have e3 : nI (hg_x0 a b c) &&& 3 = nI (hg_val 7 a b c) := pk_andN (by omega) 2 (by decide)
      rw [e3]
      exact br_f (by decide) (br_t rfl (hg_val12 (g := 7) H' (Or.inr rfl)))
    · exact br_f z0 (br_f z7 (br_f z0 (br_f z7 ⟨rfl, hg_rel H'⟩)))
end
section
/-! play: the chosen move's number is read back as three heaps -/
theorem hg_put {hp : Nat → Int32} {p q r : Nat} (h1 : p ≤ 15) (h2 : q ≤ 15) (h3 : r ≤ 15) : hg_H (upd (upd (upd hp 0 (nI p)) 1 (nI q)) 2 (nI r)) p q r :=
  ⟨h1, h2, h3, by rw [pk_un (by omega), pk_un (by omega), pk_us], by rw [pk_un (by omega), pk_us], pk_us⟩
theorem i_vc_play {k : Nat} {u : SX} {v : SY} (I : i_Rel k u v) (hk : k + 3 ≤ 1536) (v1 : Int32) (v2 : Int32) : wpX_play (fun r u' => wpY_play (fun r' v' => r' = r ∧ i_Rel (k + 3) u' v') v v1 v2) u v1 v2 := by
  refine hg_el (P := fun u v => wpX_play (fun r u' => wpY_play (fun r' v' => r' = r ∧ i_Rel (k + 3) u' v') v v1 v2) u v1 v2) ?_ I
  intro f m cnt fnd hp xs ys zs wn vl tk lm nu a b c H
  unfold wpX_play
  dsimp only
  rcases hg_game v1 with ⟨g, hg, rfl⟩ | ⟨BX, BY⟩
  · refine hg_badX hg ?_
    refine br_t rfl ?_
    have Y0 : ∀ (u' : SX) (r : Int32), (nI g = 3 → (-1 = r ∧ i_Rel (k + 3) u' (cnt, fnd, hp, xs, ys, zs, wn, vl, tk, lm, nu))) → (¬ nI g = 3 → nI g = 6 → (-1 = r ∧ i_Rel (k + 3) u' (cnt, fnd, hp, xs, ys, zs, wn, vl, tk, lm, nu))) → (¬ nI g = 3 → ¬ nI g = 6 → ∀ (cnt fnd : Int32) (xs ys zs wn vl tk lm nu : Nat → Int32), hg_X (hg_P g false a b c) 800 fnd nu → ((v2 < 0 → (-4 = r ∧ i_Rel (k + 3) u' (cnt, fnd, hp, xs, ys, zs, wn, vl, tk, lm, nu))) ∧ (¬ v2 < 0 → ((v2 < fnd → (vp_in v2 800 ∧ wpY_won (fun r' v' => r' = r ∧ i_Rel (k + 3) u' v') (cnt, fnd, upd (upd (upd hp 0 (nu v2.toNatClampNeg - nu v2.toNatClampNeg / 32 * 32)) 1 (nu v2.toNatClampNeg / 32 - nu v2.toNatClampNeg / 32 / 32 * 32)) 2 (nu v2.toNatClampNeg / 1024), xs, ys, zs, wn, vl, tk, lm, nu) (nI g))) ∧ (¬ v2 < fnd → (-4 = r ∧ i_Rel (k + 3) u' (cnt, fnd, hp, xs, ys, zs, wn, vl, tk, lm, nu))))))) → wpY_play (fun r' v' => r' = r ∧ i_Rel (k + 3) u' v') (cnt, fnd, hp, xs, ys, zs, wn, vl, tk, lm, nu) (nI g) v2 := by
      intro u' r r3 r6 rs
      unfold wpY_play
      dsimp only
      refine hg_noY hg ?_
      refine br_t rfl ?_
      refine ⟨fun e => r3 e, fun e => ⟨fun e6 => r6 e e6, fun e6 => ?_⟩⟩
      refine hg_searchY H hg (fun ret cnt fnd xs ys zs wn vl tk lm nu k1 k2 => ?_)
      have w := rs e e6 cnt fnd xs ys zs wn vl tk lm nu k1
      refine ⟨fun n0 => w.1 n0, fun n0 => ⟨fun n1 => ?_, fun n1 => (w.2 n0).2 n1⟩⟩
      obtain ⟨w1, w2⟩ := (w.2 n0).1 n1
      exact ⟨w1, by decide, nm_e ⟨w1, by decide, by decide, nm_e ⟨w1, by decide, nm_e w2⟩⟩⟩
    refine pk_eq g 3 (fun z3 => ?_) (fun z3 => pk_eq g 6 (fun z6 => ?_) (fun z6 => ?_))
    · subst z3
      exact Y0 _ _ (fun _ => ⟨rfl, hg_rel H⟩) (fun e => absurd rfl e) (fun e => absurd rfl e)
    · subst z6
      exact Y0 _ _ (fun e => absurd e (by decide)) (fun _ _ => ⟨rfl, hg_rel H⟩) (fun _ e => absurd rfl e)
    · have g3 : ¬ nI g = 3 := fun e => z3 ((nI_eq (b := 3) (by omega) (by omega)).mp e)
      have g6 : ¬ nI g = 6 := fun e => z6 ((nI_eq (b := 6) (by omega) (by omega)).mp e)
      refine hg_findX (al := false) H hg (fun f' m' kx => ?_)
      by_cases n0 : v2 < 0
      · exact br_t n0 (Y0 _ _ (fun e => absurd e g3) (fun _ e => absurd e g6) (fun _ _ cnt fnd xs ys zs wn vl tk lm nu k1 => br_t n0 ⟨rfl, hg_rel H⟩))
      · obtain ⟨i, hi, rfl⟩ := nI_of n0
        refine br_f n0 ?_
        by_cases n1 : nI i < f'
        · obtain ⟨_, n, hP, hmn, hnb, h8⟩ := hg_X_v kx kx (Nat.le_refl _) hi n1
          obtain ⟨p, q, r, ho, _, hnum⟩ := (hg_P_n z6).mp hP
          obtain ⟨o1, o2, o3, o4⟩ := hg_Opt_le H.1 H.2.1 H.2.2.1 ho
          obtain ⟨o5, o6⟩ := o4 z3
          have ep : n % 32 = p := by
            unfold hg_num at hnum
            omega
          have eq1 : n / 32 % 32 = q := by
            unfold hg_num at hnum
            omega
          have er : n / 1024 = r := by
            unfold hg_num at hnum
            omega
          have H3 := hg_put (hp := hp) o5 o6 o3
          have a1 : nI n &&& 31 = nI p := by
            rw [← ep]
            exact pk_andN (by omega) 5 (by decide)
          have a2 : (nI n >>> ((5 : Int32) &&& 31)) &&& 31 = nI q := by
            rw [pk_shrN (by omega) _ 5 (by decide), ← eq1]
            exact pk_andN (by omega) 5 (by decide)
          have a3 : nI n >>> ((10 : Int32) &&& 31) = nI r := by
            rw [← er]
            exact pk_shrN (by omega) _ 10 (by decide)
          have b1 : nI n - nI n / 32 * 32 = nI p := by
            rw [← ep]
            exact pk_rem (d := 32) (by omega) (by omega) (by omega)
          have b0 : nI n / 32 = nI (n / 32) := pk_div (d := 32) (by omega) (by omega) (by omega)
          have b2 : nI n / 32 - nI n / 32 / 32 * 32 = nI q := by
            rw [← eq1, b0]
            exact pk_rem (d := 32) (by omega) (by omega) (by omega)
          have b3 : nI n / 1024 = nI r := by
            rw [← er]
            exact pk_div (d := 1024) (by omega) (by omega) (by omega)
          refine br_t n1 ⟨vp_in_nI h8 (by omega), nm_r (e' := nI n) (by rw [nI_clamp hi]; exact hmn) (nm_r (e' := upd hp 0 (nI p)) (by rw [a1]) (nm_r (e' := upd (upd hp 0 (nI p)) 1 (nI q)) (by rw [a2]) (nm_r (e' := upd (upd (upd hp 0 (nI p)) 1 (nI q)) 2 (nI r)) (by rw [a3]) ?_)))⟩
          refine hg_wonX H3 hg ?_
          refine Y0 _ _ (fun e => absurd e g3) (fun _ e => absurd e g6) (fun _ _ cnt fnd xs ys zs wn vl tk lm nu k1 => ?_)
          have hv := (hg_X_v kx k1 (Nat.le_refl _) hi n1).1
          have hf := hg_X_u kx k1
          subst hf
          refine br_f n0 (br_t n1 ⟨vp_in_nI h8 (by omega), ?_⟩)
          rw [nI_clamp hi, hv, hmn, b1, b2, b3]
          exact hg_wonY H3 hg (fun _ _ _ _ _ _ _ _ _ _ => ⟨rfl, hg_rel H3⟩)
        · refine br_f n1 (Y0 _ _ (fun e => absurd e g3) (fun _ e => absurd e g6) (fun _ _ cnt fnd xs ys zs wn vl tk lm nu k1 => ?_))
          have hf := hg_X_u kx k1
          subst hf
          exact br_f n0 (br_f n1 ⟨rfl, hg_rel H⟩)
  · refine BX _ _ _ _ ?_
    refine br_f (by decide) ?_
    unfold wpY_play
    dsimp only
    refine BY _ _ _ _ _ _ _ _ _ _ _ _ ?_
    exact br_f (by decide) ⟨rfl, hg_rel H⟩
end
