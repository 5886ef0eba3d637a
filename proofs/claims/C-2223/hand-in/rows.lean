section
theorem pk_us {f : Nat → Int32} {k : Nat} {x : Int32} : upd f k x k = x := if_pos rfl
theorem pk_un {f : Nat → Int32} {k j : Nat} {x : Int32} (h : j ≠ k) : upd f k x j = f j := if_neg h
theorem pk_uLs {f : Nat → Int64} {k : Nat} {x : Int64} : vp_updL f k x k = x := if_pos rfl
theorem pk_uLn {f : Nat → Int64} {k j : Nat} {x : Int64} (h : j ≠ k) : vp_updL f k x j = f j := if_neg h
theorem pk_sub {a b : Nat} (h : b ≤ a) : nI a - nI b = nI (a - b) := by
  obtain ⟨c, rfl⟩ : ∃ c, a = c + b := ⟨a - b, by omega⟩
  rw [← nI_add, Int32.add_sub_cancel, Nat.add_sub_cancel]
theorem pk_m1 (n : Nat) : nI (n + 1) + (-1) = nI n := by
  rw [← nI_1, Int32.add_assoc, show (1 : Int32) + (-1) = 0 from rfl, Int32.add_zero]
theorem pk_mul (a b : Nat) : nI a * nI b = nI (a * b) := (Int32.ofNat_mul a b).symm
theorem pk_div {a d : Nat} (ha : a < 2 ^ 31) (h0 : 0 < d) (hd : d < 2 ^ 31) : nI a / nI d = nI (a / d) := by
  apply Int32.toInt_inj.mp
  rw [lg_idiv_nonneg (by rw [nI_toInt ha]; omega) (by rw [nI_toInt hd]; omega), nI_toInt ha, nI_toInt hd, nI_toInt (Nat.lt_of_le_of_lt (Nat.div_le_self a d) ha)]
  first | rfl | exact (Int.natCast_ediv _ _).symm
theorem pk_rem {a d : Nat} (ha : a < 2 ^ 31) (h0 : 0 < d) (hd : d < 2 ^ 31) : nI a - nI a / nI d * nI d = nI (a % d) := by
  rw [pk_div ha h0 hd, pk_mul, pk_sub (Nat.div_mul_le_self a d)]
  exact congrArg nI (by have := Nat.div_add_mod' a d; omega)
theorem pk_sub_toInt {a b : Nat} (ha : a < 2 ^ 30) (hb : b < 2 ^ 30) : (nI a - nI b).toInt = (a : Int) - b := by
  rw [Int32.toInt_sub, nI_toInt (by omega), nI_toInt (by omega)]
  exact Int.bmod_eq_of_le (by omega) (by omega)
theorem pk_sneg {a b : Nat} (hb : b < 2 ^ 30) (h : a < b) : nI a - nI b < 0 := by
  rw [Int32.lt_iff_toInt_lt, pk_sub_toInt (by omega) hb, show (0 : Int32).toInt = 0 from by decide]
  omega
theorem pk_ix (x : Int32) {n : Nat} (hn : n < 2 ^ 31) : x < 0 ∨ nI n ≤ x ∨ ∃ j : Nat, j < n ∧ x = nI j := by
  by_cases h : x < 0
  · exact Or.inl h
  · obtain ⟨j, hj, rfl⟩ := nI_of h
    by_cases h2 : j < n
    · exact Or.inr (Or.inr ⟨j, h2, rfl⟩)
    · exact Or.inr (Or.inl (nI_le (by omega) hj))
theorem pk_le {x y : Int32} {A B : Prop} (a b : Nat) (f : a ≤ b → A) (g : b < a → B) (hx : x = nI a := by rfl) (hy : y = nI b := by rfl) (ha : a < 2 ^ 31 := by omega) (hb : b < 2 ^ 31 := by omega) : (x ≤ y → A) ∧ (¬ x ≤ y → B) := by
  subst hx hy
  rw [nI_leI ha hb]
  exact ⟨f, fun z => g (by omega)⟩
theorem pk_lt {x y : Int32} {A B : Prop} (a b : Nat) (f : a < b → A) (g : b ≤ a → B) (hx : x = nI a := by rfl) (hy : y = nI b := by rfl) (ha : a < 2 ^ 31 := by omega) (hb : b < 2 ^ 31 := by omega) : (x < y → A) ∧ (¬ x < y → B) := by
  subst hx hy
  rw [nI_ltI ha hb]
  exact ⟨f, fun z => g (by omega)⟩
theorem pk_eq {x y : Int32} {A B : Prop} (a b : Nat) (f : a = b → A) (g : a ≠ b → B) (hx : x = nI a := by rfl) (hy : y = nI b := by rfl) (ha : a < 2 ^ 31 := by omega) (hb : b < 2 ^ 31 := by omega) : (x = y → A) ∧ (¬ x = y → B) := by
  subst hx hy
  rw [nI_eq ha hb]
  exact ⟨f, g⟩
theorem pk_in {x : Int32} (n N : Nat) (h : n < N) (hx : x = nI n := by rfl) (hN : N < 2 ^ 31 := by omega) : vp_in x N := by
  subst hx
  exact vp_in_nI h hN
theorem pk_cl {x : Int32} (n : Nat) (hx : x = nI n := by rfl) (h : n < 2 ^ 31 := by omega) : x.toNatClampNeg = n := by
  subst hx
  exact nI_clamp h
theorem pk_tn {n : Nat} (h : n < 2 ^ 32) : (nI n).toBitVec.toNat = n := Nat.mod_eq_of_lt h
theorem pk_and (x : Int32) {m : Int32} (k : Nat) (hm : m.toBitVec.toNat = 2 ^ k - 1) : x &&& m = nI (x.toBitVec.toNat % 2 ^ k) := by
  apply Int32.toBitVec_inj.mp
  apply BitVec.eq_of_toNat_eq
  rw [Int32.toBitVec_and, BitVec.toNat_and, hm, Nat.and_two_pow_sub_one_eq_mod]
  show _ = (BitVec.ofNat 32 _).toNat
  rw [BitVec.toNat_ofNat]
  exact (Nat.mod_eq_of_lt (Nat.lt_of_le_of_lt (Nat.mod_le _ _) x.toBitVec.isLt)).symm
theorem pk_andN {n : Nat} (h : n < 2 ^ 32) {m : Int32} (k : Nat) (hm : m.toBitVec.toNat = 2 ^ k - 1) : nI n &&& m = nI (n % 2 ^ k) := by
  rw [pk_and _ k hm, pk_tn h]
theorem pk_andE (x : Int32) {m : Int32} (k : Nat) (hm : m.toBitVec.toNat = 2 ^ k - 1) : ∃ j : Nat, j < 2 ^ k ∧ x &&& m = nI j := ⟨_, Nat.mod_lt _ (Nat.two_pow_pos k), pk_and x k hm⟩
theorem pk_andIn (x : Int32) {m : Int32} (k : Nat) (hm : m.toBitVec.toNat = 2 ^ k - 1) (hk : k ≤ 30) : vp_in (x &&& m) (2 ^ k) := by
  obtain ⟨j, hj, e⟩ := pk_andE x k hm
  rw [e]
  exact vp_in_nI hj (Nat.lt_of_le_of_lt (Nat.pow_le_pow_right (by decide) hk) (by decide))
theorem pk_shl (a s : Int32) (k : Nat) (hs : (s.toBitVec.smod 32).toNat = k) : (a <<< s).toBitVec.toNat = a.toBitVec.toNat * 2 ^ k % 2 ^ 32 := by
  show (a.toBitVec <<< (s.toBitVec.smod 32).toNat).toNat = _
  rw [hs, BitVec.toNat_shiftLeft, Nat.shiftLeft_eq]
theorem pk_shlN {n : Nat} (s : Int32) (k : Nat) (hs : (s.toBitVec.smod 32).toNat = k) (h : n * 2 ^ k < 2 ^ 32) : nI n <<< s = nI (n * 2 ^ k) := by
  apply Int32.toBitVec_inj.mp
  apply BitVec.eq_of_toNat_eq
  have hn : n < 2 ^ 32 := Nat.lt_of_le_of_lt (Nat.le_mul_of_pos_right n (Nat.two_pow_pos k)) h
  rw [pk_shl _ _ k hs, pk_tn hn, pk_tn h, Nat.mod_eq_of_lt h]
theorem pk_shr (a s : Int32) (k : Nat) (hs : (s.toBitVec.smod 32).toNat = k) : (a >>> s).toInt = a.toInt >>> k := by
  show (a.toBitVec.sshiftRight (s.toBitVec.smod 32).toNat).toInt = _
  rw [hs, BitVec.toInt_sshiftRight]
  rfl
theorem pk_shrN {n : Nat} (h : n < 2 ^ 31) (s : Int32) (k : Nat) (hs : (s.toBitVec.smod 32).toNat = k) : nI n >>> s = nI (n / 2 ^ k) := by
  apply Int32.toInt_inj.mp
  have h2 : n / 2 ^ k ≤ n := Nat.div_le_self _ _
  rw [pk_shr _ _ k hs, nI_toInt h, nI_toInt (by omega), Int.shiftRight_eq_div_pow]
  rfl
theorem pk_least (P : Nat → Prop) (h : ∃ k, P k) : ∃ k, P k ∧ ∀ j, j < k → ¬ P j := by
  obtain ⟨k, hk⟩ := h
  induction k using Nat.strongRecOn with
  | ind k ih =>
    by_cases e : ∃ j, j < k ∧ P j
    · obtain ⟨j, hj, pj⟩ := e
      exact ih j hj pj
    · exact ⟨k, hk, fun j hj pj => e ⟨j, hj, pj⟩⟩
/-! ===== Int32 by its bits: bt x i ===== -/
def bt (x : Int32) (i : Nat) : Bool := x.toBitVec.getLsbD i
theorem b_ext {x y : Int32} (h : ∀ i, i < 32 → bt x i = bt y i) : x = y := Int32.toBitVec_inj.mp (BitVec.eq_of_getLsbD_eq (fun i hi => h i hi))
theorem b_or (x y : Int32) (i : Nat) : bt (x ||| y) i = (bt x i || bt y i) := by unfold bt; rw [Int32.toBitVec_or, BitVec.getLsbD_or]
theorem b_and (x y : Int32) (i : Nat) : bt (x &&& y) i = (bt x i && bt y i) := by unfold bt; rw [Int32.toBitVec_and, BitVec.getLsbD_and]
theorem b_xor (x y : Int32) (i : Nat) : bt (x ^^^ y) i = (bt x i ^^ bt y i) := by unfold bt; rw [Int32.toBitVec_xor, BitVec.getLsbD_xor]
theorem b_big {x : Int32} {i : Nat} (h : 32 ≤ i) : bt x i = false := BitVec.getLsbD_of_ge _ _ h
theorem b_255 (i : Nat) : bt 255 i = decide (i < 8) := by
  rcases Nat.lt_or_ge i 32 with h | h
  · exact (by decide +kernel : ∀ i, i < 32 → bt 255 i = decide (i < 8)) i h
  · rw [b_big h, decide_eq_false (by omega)]
theorem b_65535 (i : Nat) : bt 65535 i = decide (i < 16) := by
  rcases Nat.lt_or_ge i 32 with h | h
  · exact (by decide +kernel : ∀ i, i < 32 → bt 65535 i = decide (i < 16)) i h
  · rw [b_big h, decide_eq_false (by omega)]
theorem b_m1 : ∀ i, i < 32 → bt (-1) i = true := by decide +kernel
theorem b_0 (i : Nat) : bt 0 i = false := BitVec.getLsbD_zero
theorem s_l : ∀ n, n < 32 → ((nI n &&& 31).toBitVec.smod 32).toNat = n := by decide +kernel
theorem s_u : ∀ n, n < 32 → (((nI n).toUInt32 &&& Int32.toUInt32 31).toBitVec % 32).toNat = n := by decide +kernel
theorem b_shl (n : Nat) (hn : n < 32) (x : Int32) {i : Nat} (hi : i < 32) : bt (x <<< (nI n &&& 31)) i = (decide (n ≤ i) && bt x (i - n)) := by
  unfold bt
  rw [Int32.toBitVec_shiftLeft]
  show (x.toBitVec <<< ((nI n &&& 31).toBitVec.smod 32).toNat).getLsbD i = _
  rw [s_l n hn, BitVec.getLsbD_shiftLeft]
  rcases Nat.lt_or_ge i n with h | h
  · simp [h, Nat.not_le.mpr h]
  · simp [hi, h, Nat.not_lt.mpr h]
theorem b_ushr (n : Nat) (hn : n < 32) (x : Int32) (i : Nat) : bt ((x.toUInt32 >>> ((nI n).toUInt32 &&& Int32.toUInt32 31)).toInt32) i = bt x (n + i) := by
  show (x.toUInt32 >>> ((nI n).toUInt32 &&& Int32.toUInt32 31)).toBitVec.getLsbD i = x.toUInt32.toBitVec.getLsbD (n + i)
  rw [UInt32.toBitVec_shiftRight]
  show (x.toUInt32.toBitVec >>> (((nI n).toUInt32 &&& Int32.toUInt32 31).toBitVec % 32).toNat).getLsbD i = _
  rw [s_u n hn, BitVec.getLsbD_ushiftRight]
theorem b_sshr (n : Nat) (hn : n < 32) (x : Int32) {i : Nat} (hi : i < 32) : bt (x >>> (nI n &&& 31)) i = if n + i < 32 then bt x (n + i) else bt x 31 := by
  unfold bt
  rw [Int32.toBitVec_shiftRight]
  show (x.toBitVec.sshiftRight ((nI n &&& 31).toBitVec.smod 32).toNat).getLsbD i = _
  rw [s_l n hn, BitVec.getLsbD_sshiftRight, BitVec.msb_eq_getLsbD_last]
  simp [hi]
end
section
/-! the machine: a = next states (ints), o = outputs; E k: not told apart by words of length at most k -/
def mt_st (a : Nat → Int32) (s i : Nat) : Nat := (a (s * 3 + i)).toNatClampNeg
def mt_Ok (a : Nat → Int32) : Prop := ∀ j, ∃ m, m < 16 ∧ a j = nI m
theorem mt_ok_at {a : Nat → Int32} (h : mt_Ok a) (j : Nat) : (a j).toNatClampNeg < 16 ∧ a j = nI (a j).toNatClampNeg := by
  obtain ⟨m, hm, e⟩ := h j
  rw [e, nI_clamp (by omega)]
  exact ⟨hm, rfl⟩
theorem mt_ok_st {a : Nat → Int32} (h : mt_Ok a) (s i : Nat) : mt_st a s i < 16 ∧ a (s * 3 + i) = nI (mt_st a s i) := mt_ok_at h _
def mt_E (a o : Nat → Int32) : Nat → Nat → Nat → Prop
  | 0 => fun _ _ => True
  | k + 1 => fun x y => ∀ i, i < 3 → o (x * 3 + i) = o (y * 3 + i) ∧ mt_E a o k (mt_st a x i) (mt_st a y i)
section
variable {a o : Nat → Int32}
theorem mt_E_refl : ∀ k x, mt_E a o k x x := by
  intro k
  induction k with
  | zero => intro x; exact True.intro
  | succ k ih => intro x i hi; exact ⟨rfl, ih _⟩
theorem mt_E_symm : ∀ k x y, mt_E a o k x y → mt_E a o k y x := by
  intro k
  induction k with
  | zero => intro x y _; exact True.intro
  | succ k ih => intro x y h i hi; exact ⟨(h i hi).1.symm, ih _ _ (h i hi).2⟩
theorem mt_E_trans : ∀ k x y z, mt_E a o k x y → mt_E a o k y z → mt_E a o k x z := by
  intro k
  induction k with
  | zero => intro x y z _ _; exact True.intro
  | succ k ih => intro x y z h g i hi; exact ⟨(h i hi).1.trans (g i hi).1, ih _ _ _ (h i hi).2 (g i hi).2⟩
theorem mt_E_down : ∀ k x y, mt_E a o (k + 1) x y → mt_E a o k x y := by
  intro k
  induction k with
  | zero => intro x y _; exact True.intro
  | succ k ih => intro x y h i hi; exact ⟨(h i hi).1, ih _ _ (h i hi).2⟩
theorem mt_E_le {x y : Nat} : ∀ d k, mt_E a o (k + d) x y → mt_E a o k x y := by
  intro d
  induction d with
  | zero => intro k h; exact h
  | succ d ih => intro k h; exact ih k (mt_E_down _ _ _ h)
theorem mt_E_le' {x y j k : Nat} (h : j ≤ k) (e : mt_E a o k x y) : mt_E a o j x y := by
  obtain ⟨d, rfl⟩ := Nat.exists_eq_add_of_le h
  exact mt_E_le d j e
theorem mt_E_up (ok : mt_Ok a) {r : Nat} (hs : ∀ x y, x < 16 → y < 16 → mt_E a o r x y → mt_E a o (r + 1) x y) :
    ∀ d x y, x < 16 → y < 16 → mt_E a o r x y → mt_E a o (r + d) x y := by
  intro d
  induction d with
  | zero => intro x y _ _ h; exact h
  | succ d ih =>
    intro x y hx hy h i hi
    have e := hs x y hx hy h i hi
    exact ⟨e.1, ih _ _ (mt_ok_st ok x i).1 (mt_ok_st ok y i).1 e.2⟩
end
/-! the least state alike in r rounds -/
noncomputable def mt_G (a o : Nat → Int32) (r s : Nat) : Nat := (pk_least (fun t => mt_E a o r t s) ⟨s, mt_E_refl r s⟩).choose
section
variable {a o : Nat → Int32}
theorem mt_G_E (r s : Nat) : mt_E a o r (mt_G a o r s) s := (pk_least (fun t => mt_E a o r t s) ⟨s, mt_E_refl r s⟩).choose_spec.1
theorem mt_G_min {r s j : Nat} (h : j < mt_G a o r s) : ¬ mt_E a o r j s := (pk_least (fun t => mt_E a o r t s) ⟨s, mt_E_refl r s⟩).choose_spec.2 j h
theorem mt_G_le (r s : Nat) : mt_G a o r s ≤ s := by
  rcases Nat.lt_or_ge s (mt_G a o r s) with h | h
  · exact absurd (mt_E_refl r s) (mt_G_min h)
  · exact h
theorem mt_G_uniq {r s t : Nat} (ht : mt_E a o r t s) (hm : ∀ j, j < t → ¬ mt_E a o r j s) : mt_G a o r s = t := by
  rcases Nat.lt_trichotomy (mt_G a o r s) t with h | h | h
  · exact absurd (mt_G_E r s) (hm _ h)
  · exact h
  · exact absurd ht (mt_G_min h)
theorem mt_G_eq {r x y : Nat} : mt_G a o r x = mt_G a o r y ↔ mt_E a o r x y := by
  constructor
  · intro h
    have e1 : mt_E a o r (mt_G a o r x) x := mt_G_E r x
    have e2 : mt_E a o r (mt_G a o r y) y := mt_G_E r y
    rw [h] at e1
    exact mt_E_trans _ _ _ _ (mt_E_symm _ _ _ e1) e2
  · intro h
    refine mt_G_uniq (mt_E_trans _ _ _ _ (mt_G_E r y) (mt_E_symm _ _ _ h)) (fun j hj e => ?_)
    exact mt_G_min hj (mt_E_trans _ _ _ _ e h)
theorem mt_G_idem (r s : Nat) : mt_G a o r (mt_G a o r s) = mt_G a o r s := mt_G_eq.mpr (mt_G_E r s)
theorem mt_G_mono (r s : Nat) : mt_G a o r s ≤ mt_G a o (r + 1) s := by
  rcases Nat.lt_or_ge (mt_G a o (r + 1) s) (mt_G a o r s) with h | h
  · exact absurd (mt_E_down _ _ _ (mt_G_E (r + 1) s)) (mt_G_min h)
  · exact h
theorem mt_G_0 (s : Nat) : mt_G a o 0 s = 0 := mt_G_uniq True.intro (fun j hj => absurd hj (Nat.not_lt_zero j))
end
/-! counts -/
def mt_cn (p : Nat → Bool) : Nat → Nat
  | 0 => 0
  | n + 1 => mt_cn p n + (if p n = true then 1 else 0)
theorem mt_cn_le (p : Nat → Bool) : ∀ n, mt_cn p n ≤ n := by
  intro n
  induction n with
  | zero => exact Nat.le_refl 0
  | succ n ih =>
    show mt_cn p n + (if p n = true then 1 else 0) ≤ n + 1
    split <;> omega
theorem mt_cn_mono {p q : Nat → Bool} : ∀ n, (∀ s, s < n → p s = true → q s = true) → mt_cn p n ≤ mt_cn q n := by
  intro n
  induction n with
  | zero => intro _; exact Nat.le_refl 0
  | succ n ih =>
    intro h
    have e := ih (fun s hs => h s (by omega))
    have f := h n (by omega)
    show mt_cn p n + (if p n = true then 1 else 0) ≤ mt_cn q n + (if q n = true then 1 else 0)
    by_cases hp : p n = true
    · rw [if_pos hp, if_pos (f hp)]; omega
    · rw [if_neg hp]; split <;> omega
theorem mt_cn_lt {p q : Nat → Bool} {s : Nat} (hp : p s = false) (hq : q s = true) : ∀ n, s < n → (∀ s, s < n → p s = true → q s = true) → mt_cn p n < mt_cn q n := by
  intro n
  induction n with
  | zero => intro h; omega
  | succ n ih =>
    intro hs h
    show mt_cn p n + (if p n = true then 1 else 0) < mt_cn q n + (if q n = true then 1 else 0)
    by_cases e : s = n
    · subst e
      have m := mt_cn_mono s (fun t ht => h t (by omega))
      rw [if_pos hq, if_neg (by rw [hp]; decide)]
      omega
    · have m := ih (by omega) (fun t ht => h t (by omega))
      have f := h n (by omega)
      by_cases hp : p n = true
      · rw [if_pos hp, if_pos (f hp)]; omega
      · rw [if_neg hp]; split <;> omega
theorem mt_cn_congr {p q : Nat → Bool} (n : Nat) (h : ∀ s, s < n → p s = q s) : mt_cn p n = mt_cn q n :=
  Nat.le_antisymm (mt_cn_mono n (fun s hs e => by rw [← h s hs]; exact e)) (mt_cn_mono n (fun s hs e => by rw [h s hs]; exact e))
theorem mt_cn_none {p : Nat → Bool} : ∀ n, (∀ s, s < n → p s = false) → mt_cn p n = 0 := by
  intro n
  induction n with
  | zero => intro _; rfl
  | succ n ih =>
    intro h
    show mt_cn p n + (if p n = true then 1 else 0) = 0
    rw [ih (fun s hs => h s (by omega)), if_neg (by rw [h n (by omega)]; decide)]
theorem mt_cn_full {p : Nat → Bool} {s : Nat} (hp : p s = false) (n : Nat) (hs : s < n) : mt_cn p n < n := by
  have h := mt_cn_lt (p := p) (q := fun _ => true) hp rfl n hs (fun _ _ _ => rfl)
  have g := mt_cn_le (fun _ => true) n
  omega
theorem mt_cn_put {p q : Nat → Bool} {s : Nat} (hp : p s = false) (hq : q s = true) : ∀ n, s < n → (∀ t, t < n → t ≠ s → q t = p t) → mt_cn q n = mt_cn p n + 1 := by
  intro n
  induction n with
  | zero => intro h; omega
  | succ n ih =>
    intro hs h
    show mt_cn q n + (if q n = true then 1 else 0) = mt_cn p n + (if p n = true then 1 else 0) + 1
    by_cases e : s = n
    · subst e
      rw [if_pos hq, if_neg (by rw [hp]; decide), mt_cn_congr s (fun t ht => h t (by omega) (by omega))]
    · rw [ih (by omega) (fun t ht => h t (by omega)), h n (by omega) (fun z => e z.symm)]
      omega
/-! rounds that split -/
def mt_Sp (a o : Nat → Int32) (r : Nat) : Prop := ∃ s, s < 16 ∧ mt_G a o (r + 1) s ≠ mt_G a o r s
section
variable {a o : Nat → Int32}
theorem mt_sp_cn {r : Nat} (h : mt_Sp a o r) : mt_cn (fun s => mt_G a o r s == s) 16 < mt_cn (fun s => mt_G a o (r + 1) s == s) 16 := by
  obtain ⟨s, hs, hd⟩ := h
  have h1 : mt_G a o (r + 1) (mt_G a o (r + 1) s) = mt_G a o (r + 1) s := mt_G_idem _ _
  have h2 : mt_G a o r (mt_G a o (r + 1) s) ≠ mt_G a o (r + 1) s := by
    intro e
    have e2 : mt_G a o r (mt_G a o (r + 1) s) = mt_G a o r s := mt_G_eq.mpr (mt_E_down _ _ _ (mt_G_E (r + 1) s))
    exact hd (e.symm.trans e2)
  refine mt_cn_lt (s := mt_G a o (r + 1) s) ?_ ?_ 16 (Nat.lt_of_le_of_lt (mt_G_le _ _) hs) ?_
  · show (mt_G a o r (mt_G a o (r + 1) s) == mt_G a o (r + 1) s) = false
    exact beq_false_of_ne h2
  · show (mt_G a o (r + 1) (mt_G a o (r + 1) s) == mt_G a o (r + 1) s) = true
    exact beq_iff_eq.mpr h1
  · intro t ht e
    have e1 : mt_G a o r t = t := beq_iff_eq.mp e
    have e2 : mt_G a o r t ≤ mt_G a o (r + 1) t := mt_G_mono r t
    have e3 : mt_G a o (r + 1) t ≤ t := mt_G_le _ _
    exact beq_iff_eq.mpr (by omega)
theorem mt_sp_R : ∀ R, (∀ r, r < R → mt_Sp a o r) → R + 1 ≤ mt_cn (fun s => mt_G a o R s == s) 16 := by
  intro R
  induction R with
  | zero =>
    intro _
    have h := mt_cn_lt (p := fun _ => false) (q := fun s => mt_G a o 0 s == s) (s := 0) rfl (by show (mt_G a o 0 0 == 0) = true; rw [mt_G_0]; rfl) 16 (by decide) (fun s _ e => absurd e (by decide))
    omega
  | succ R ih =>
    intro h
    have e := ih (fun r hr => h r (by omega))
    have f := mt_sp_cn (h R (by omega))
    omega
theorem mt_sp_15 {R : Nat} (h : ∀ r, r < R → mt_Sp a o r) : R ≤ 15 := by
  have e := mt_sp_R R h
  have f := mt_cn_le (fun s => mt_G a o R s == s) 16
  omega
theorem mt_nsp {R : Nat} (h : ¬ mt_Sp a o R) (s : Nat) (hs : s < 16) : mt_G a o (R + 1) s = mt_G a o R s :=
  Classical.byContradiction (fun e => h ⟨s, hs, e⟩)
/-- no split: what is alike at round R is alike for ever -/
def mt_St (a o : Nat → Int32) (R : Nat) : Prop := ∀ x y, x < 16 → y < 16 → mt_E a o R x y → ∀ k, mt_E a o k x y
theorem mt_nsp_St (ok : mt_Ok a) {R : Nat} (h : ¬ mt_Sp a o R) : mt_St a o R := by
  intro x y hx hy e k
  have hs : ∀ x y, x < 16 → y < 16 → mt_E a o R x y → mt_E a o (R + 1) x y := by
    intro x y hx hy e
    have e1 := mt_G_eq.mpr e
    rw [← mt_nsp h x hx, ← mt_nsp h y hy] at e1
    exact mt_G_eq.mp e1
  exact mt_E_le' (Nat.le_add_left k R) (mt_E_up ok hs k x y hx hy e)
theorem mt_sp_pair {r : Nat} (h : mt_Sp a o r) : ∃ t s, t < s ∧ s < 16 ∧ mt_E a o r t s ∧ ¬ mt_E a o (r + 1) t s := by
  obtain ⟨s, hs, hd⟩ := h
  have e1 : mt_E a o r (mt_G a o r s) s := mt_G_E r s
  have e2 : ¬ mt_E a o (r + 1) (mt_G a o r s) s := by
    intro e
    refine hd (mt_G_uniq e (fun j hj e3 => mt_G_min hj (mt_E_down _ _ _ e3)))
  have e3 : mt_G a o r s ≤ s := mt_G_le r s
  have e4 : mt_G a o r s ≠ s := fun e => e2 (by rw [e]; exact mt_E_refl _ _)
  exact ⟨mt_G a o r s, s, by omega, hs, e1, e2⟩
end
end
section
/-! words: T x y w: the word w tells x and y apart; mt_c: code in base 3 (with lead 1: shortlex is the order of codes) -/
def mt_T (a o : Nat → Int32) : List Nat → Nat → Nat → Prop
  | [] => fun _ _ => False
  | i :: w => fun x y => i < 3 ∧ ((w = [] ∧ o (x * 3 + i) ≠ o (y * 3 + i)) ∨ mt_T a o w (mt_st a x i) (mt_st a y i))
def mt_c : List Nat → Nat → Nat
  | [] => fun c => c
  | i :: w => fun c => mt_c w (3 * c + i)
def mt_r (a : Nat → Int32) : List Nat → Nat → Nat
  | [] => fun x => x
  | i :: w => fun x => mt_r a w (mt_st a x i)
theorem mt_snoc {P : List Nat → Prop} (h0 : P []) (h1 : ∀ v i, P v → P (v ++ [i])) : ∀ w, P w := by
  have H : ∀ w v, P v → P (v ++ w) := by
    intro w
    induction w with
    | nil => intro v h; rw [List.append_nil]; exact h
    | cons i w ih =>
      intro v h
      have e := ih (v ++ [i]) (h1 v i h)
      rw [List.append_assoc] at e
      exact e
  intro w
  exact H w [] h0
theorem mt_c_app (i : Nat) : ∀ w c, mt_c (w ++ [i]) c = 3 * mt_c w c + i := by
  intro w
  induction w with
  | nil => intro c; rfl
  | cons j w ih => intro c; exact ih (3 * c + j)
theorem mt_r_app (a : Nat → Int32) (i : Nat) : ∀ w x, mt_r a (w ++ [i]) x = mt_st a (mt_r a w x) i := by
  intro w
  induction w with
  | nil => intro x; rfl
  | cons j w ih => intro x; exact ih (mt_st a x j)
theorem mt_r_lt {a : Nat → Int32} (ok : mt_Ok a) : ∀ w x, x < 16 → mt_r a w x < 16 := by
  intro w
  induction w with
  | nil => intro x hx; exact hx
  | cons j w ih => intro x hx; exact ih _ (mt_ok_st ok x j).1
def mt_D (w : List Nat) : Prop := ∀ i, i ∈ w → i < 3
theorem mt_D_app {w : List Nat} {i : Nat} : mt_D (w ++ [i]) ↔ mt_D w ∧ i < 3 := by
  constructor
  · intro h
    exact ⟨fun j hj => h j (List.mem_append.mpr (Or.inl hj)), h i (List.mem_append.mpr (Or.inr (List.mem_singleton.mpr rfl)))⟩
  · intro h j hj
    rcases List.mem_append.mp hj with e | e
    · exact h.1 j e
    · rw [List.mem_singleton.mp e]; exact h.2
theorem mt_D_cons {w : List Nat} {i : Nat} : mt_D (i :: w) ↔ i < 3 ∧ mt_D w := by
  constructor
  · intro h
    exact ⟨h i (List.mem_cons.mpr (Or.inl rfl)), fun j hj => h j (List.mem_cons.mpr (Or.inr hj))⟩
  · intro h j hj
    rcases List.mem_cons.mp hj with e | e
    · rw [e]; exact h.1
    · exact h.2 j e
theorem mt_c_lin : ∀ w c, mt_c w c = c * 3 ^ w.length + mt_c w 0 := by
  intro w
  induction w with
  | nil => intro c; show c = c * 3 ^ 0 + 0; omega
  | cons i w ih =>
    intro c
    show mt_c w (3 * c + i) = c * 3 ^ (w.length + 1) + mt_c w (3 * 0 + i)
    rw [ih (3 * c + i), ih (3 * 0 + i), Nat.pow_succ]
    generalize 3 ^ w.length = p
    have e1 : (3 * c + i) * p = 3 * (c * p) + i * p := by rw [Nat.add_mul, Nat.mul_assoc]
    have e2 : c * (p * 3) = 3 * (c * p) := by rw [Nat.mul_comm p 3, Nat.mul_left_comm]
    have e3 : (3 * 0 + i) * p = i * p := by rw [Nat.mul_zero, Nat.zero_add]
    rw [e1, e2, e3]
    omega
theorem mt_c_lt : ∀ w, mt_D w → mt_c w 0 < 3 ^ w.length := by
  intro w
  induction w with
  | nil => intro _; show 0 < 3 ^ 0; decide
  | cons i w ih =>
    intro h
    obtain ⟨hi, hw⟩ := mt_D_cons.mp h
    have e := ih hw
    show mt_c w (3 * 0 + i) < 3 ^ (w.length + 1)
    rw [mt_c_lin w, Nat.pow_succ]
    generalize 3 ^ w.length = p at *
    rcases (by omega : i = 0 ∨ i = 1 ∨ i = 2) with rfl | rfl | rfl <;> omega
theorem mt_p3 {m n : Nat} (h : m < n) : 3 * 3 ^ m ≤ 3 ^ n := by
  have e : 3 ^ (m + 1) ≤ 3 ^ n := Nat.pow_le_pow_right (by decide) h
  rw [Nat.pow_succ] at e
  omega
/-- a shorter word has the smaller code -/
theorem mt_c_len {v w : List Nat} (hv : mt_D v) (h : v.length < w.length) : mt_c v 1 < mt_c w 1 := by
  have e := mt_p3 h
  have f := mt_c_lt v hv
  have g : 0 < 3 ^ v.length := Nat.pow_pos (by decide)
  rw [mt_c_lin v 1, mt_c_lin w 1]
  generalize 3 ^ v.length = p at *
  generalize 3 ^ w.length = q at *
  omega
theorem mt_c_cons {v w : List Nat} {i : Nat} (hi : i < 3) (hv : mt_D v) (hw : mt_D w) (h : mt_c v 1 < mt_c w 1) : mt_c (i :: v) 1 < mt_c (i :: w) 1 := by
  show mt_c v (3 * 1 + i) < mt_c w (3 * 1 + i)
  rcases Nat.lt_trichotomy v.length w.length with l | l | l
  · have e := mt_p3 l
    have f := mt_c_lt v hv
    rw [mt_c_lin v, mt_c_lin w (3 * 1 + i)]
    generalize 3 ^ v.length = p at *
    generalize 3 ^ w.length = q at *
    rcases (by omega : i = 0 ∨ i = 1 ∨ i = 2) with rfl | rfl | rfl <;> omega
  · rw [mt_c_lin v, mt_c_lin w, l] at h ⊢
    omega
  · have e := mt_c_len hw l
    omega
theorem mt_c_head {v w : List Nat} {i j : Nat} (hv : mt_D v) (hj : j < 3) (h : i < j) (l : v.length ≤ w.length) : mt_c (i :: v) 1 < mt_c (j :: w) 1 := by
  show mt_c v (3 * 1 + i) < mt_c w (3 * 1 + j)
  have e : 3 ^ v.length ≤ 3 ^ w.length := Nat.pow_le_pow_right (by decide) l
  have f := mt_c_lt v hv
  rw [mt_c_lin v, mt_c_lin w (3 * 1 + j)]
  generalize 3 ^ v.length = p at *
  generalize 3 ^ w.length = q at *
  rcases (by omega : j = 1 ∧ i = 0 ∨ j = 2 ∧ i = 0 ∨ j = 2 ∧ i = 1) with ⟨rfl, rfl⟩ | ⟨rfl, rfl⟩ | ⟨rfl, rfl⟩ <;> omega
theorem mt_c_pos : ∀ w c, 1 ≤ c → 1 ≤ mt_c w c := by
  intro w
  induction w with
  | nil => intro c h; exact h
  | cons i w ih => intro c h; exact ih (3 * c + i) (by omega)
theorem mt_nil_or (w : List Nat) : w = [] ∨ ∃ v i, w = v ++ [i] :=
  mt_snoc (P := fun w => w = [] ∨ ∃ v i, w = v ++ [i]) (Or.inl rfl) (fun v i _ => Or.inr ⟨v, i, rfl⟩) w
/-- codes name words -/
theorem mt_c_inj : ∀ w v, mt_D w → mt_D v → mt_c w 1 = mt_c v 1 → w = v := by
  refine mt_snoc (P := fun w => ∀ v, mt_D w → mt_D v → mt_c w 1 = mt_c v 1 → w = v) ?_ ?_
  · intro v _ hv h
    rcases mt_nil_or v with rfl | ⟨v', i, rfl⟩
    · rfl
    · rw [mt_c_app] at h
      have p := mt_c_pos v' 1 (Nat.le_refl 1)
      have q : mt_c [] 1 = 1 := rfl
      omega
  · intro w i ih v hw hv h
    rcases mt_nil_or v with rfl | ⟨v', j, rfl⟩
    · rw [mt_c_app] at h
      have p := mt_c_pos w 1 (Nat.le_refl 1)
      have q : mt_c [] 1 = 1 := rfl
      omega
    · rw [mt_c_app, mt_c_app] at h
      obtain ⟨hw, hi⟩ := mt_D_app.mp hw
      obtain ⟨hv, hj⟩ := mt_D_app.mp hv
      rw [ih v' hw hv (by omega), show i = j by omega]
section
variable {a o : Nat → Int32}
theorem mt_T_D : ∀ w x y, mt_T a o w x y → mt_D w := by
  intro w
  induction w with
  | nil => intro x y h; exact h.elim
  | cons i w ih =>
    intro x y h
    refine mt_D_cons.mpr ⟨h.1, ?_⟩
    rcases h.2 with e | e
    · rw [e.1]; intro j hj; exact absurd hj (List.not_mem_nil)
    · exact ih _ _ e
theorem mt_T_app (i : Nat) : ∀ v x y, mt_T a o (v ++ [i]) x y ↔ mt_D v ∧ i < 3 ∧ o (mt_r a v x * 3 + i) ≠ o (mt_r a v y * 3 + i) := by
  intro v
  induction v with
  | nil =>
    intro x y
    constructor
    · intro h
      rcases h.2 with e | e
      · exact ⟨fun j hj => absurd hj (List.not_mem_nil), h.1, e.2⟩
      · exact e.elim
    · intro h
      exact ⟨h.2.1, Or.inl ⟨rfl, h.2.2⟩⟩
  | cons j v ih =>
    intro x y
    constructor
    · intro h
      rcases h.2 with e | e
      · exact absurd e.1 (by simp)
      · have f := (ih _ _).mp e
        exact ⟨mt_D_cons.mpr ⟨h.1, f.1⟩, f.2⟩
    · intro h
      obtain ⟨h1, h2⟩ := mt_D_cons.mp h.1
      exact ⟨h1, Or.inr ((ih _ _).mpr ⟨h2, h.2⟩)⟩
theorem mt_nE_T : ∀ k x y, ¬ mt_E a o k x y → ∃ w, w.length ≤ k ∧ mt_T a o w x y := by
  intro k
  induction k with
  | zero => intro x y h; exact absurd True.intro h
  | succ k ih =>
    intro x y h
    apply Classical.byContradiction
    intro hn
    apply h
    intro i hi
    constructor
    · apply Classical.byContradiction
      intro ho
      exact hn ⟨[i], by show 1 ≤ k + 1; omega, hi, Or.inl ⟨rfl, ho⟩⟩
    · apply Classical.byContradiction
      intro he
      obtain ⟨w, hl, ht⟩ := ih _ _ he
      exact hn ⟨i :: w, Nat.succ_le_succ hl, hi, Or.inr ht⟩
theorem mt_T_nE : ∀ w k x y, w.length ≤ k → mt_T a o w x y → ¬ mt_E a o k x y := by
  intro w
  induction w with
  | nil => intro k x y _ h; exact h.elim
  | cons i w ih =>
    intro k x y hl h
    match k, hl with
    | 0, hl => exact absurd hl (Nat.not_succ_le_zero _)
    | k + 1, hl =>
      intro e
      have f := e i h.1
      rcases h.2 with g | g
      · exact g.2 f.1
      · exact ih k _ _ (Nat.le_of_succ_le_succ hl) g f.2
end
/-! the least telling word, the answer word, the parting round -/
def mt_M (a o : Nat → Int32) (x y : Nat) (w : List Nat) : Prop := mt_T a o w x y ∧ ∀ v, mt_T a o v x y → mt_c w 1 ≤ mt_c v 1
def mt_A (a o : Nat → Int32) (x y : Nat) (w : List Nat) : Prop := (w = [] ∧ ∀ v, ¬ mt_T a o v x y) ∨ mt_M a o x y w
def mt_P (a o : Nat → Int32) (x y r : Nat) : Prop := (r = 0 ∧ ∀ k, mt_E a o k x y) ∨ (1 ≤ r ∧ ¬ mt_E a o r x y ∧ ∀ k, k < r → mt_E a o k x y)
section
variable {a o : Nat → Int32} {x y : Nat}
theorem mt_A_ex (a o : Nat → Int32) (x y : Nat) : ∃ w, mt_A a o x y w := by
  by_cases h : ∃ w, mt_T a o w x y
  · obtain ⟨w, hw⟩ := h
    obtain ⟨c, ⟨v, hv, e⟩, hc⟩ := pk_least (fun c => ∃ v, mt_T a o v x y ∧ mt_c v 1 = c) ⟨_, w, hw, rfl⟩
    refine ⟨v, Or.inr ⟨hv, fun z hz => ?_⟩⟩
    rcases Nat.lt_or_ge (mt_c z 1) (mt_c v 1) with l | l
    · exact absurd ⟨z, hz, rfl⟩ (hc (mt_c z 1) (by omega))
    · exact l
  · exact ⟨[], Or.inl ⟨rfl, fun v hv => h ⟨v, hv⟩⟩⟩
theorem mt_A_uniq {w v : List Nat} (hw : mt_A a o x y w) (hv : mt_A a o x y v) : w = v := by
  rcases hw with hw | hw <;> rcases hv with hv | hv
  · rw [hw.1, hv.1]
  · exact absurd hv.1 (hw.2 v)
  · exact absurd hw.1 (hv.2 w)
  · have e1 := hw.2 v hv.1
    have e2 := hv.2 w hw.1
    exact mt_c_inj w v (mt_T_D _ _ _ hw.1) (mt_T_D _ _ _ hv.1) (by omega)
theorem mt_M_ne {w : List Nat} (h : mt_M a o x y w) : 1 ≤ w.length := by
  match w, h with
  | [], h => exact h.1.elim
  | i :: w, h => exact Nat.succ_le_succ (Nat.zero_le _)
theorem mt_A_P {w : List Nat} (h : mt_A a o x y w) : mt_P a o x y w.length := by
  rcases h with h | h
  · refine Or.inl ⟨by rw [h.1]; rfl, fun k => ?_⟩
    apply Classical.byContradiction
    intro e
    obtain ⟨v, _, hv⟩ := mt_nE_T k x y e
    exact h.2 v hv
  · refine Or.inr ⟨mt_M_ne h, mt_T_nE w _ x y (Nat.le_refl _) h.1, fun k hk => ?_⟩
    apply Classical.byContradiction
    intro e
    obtain ⟨v, hl, hv⟩ := mt_nE_T k x y e
    have f := mt_c_len (w := w) (mt_T_D _ _ _ hv) (by omega)
    have g := h.2 v hv
    omega
theorem mt_P_uniq {r q : Nat} (h : mt_P a o x y r) (g : mt_P a o x y q) : r = q := by
  rcases h with h | h <;> rcases g with g | g
  · rw [h.1, g.1]
  · exact absurd (h.2 q) g.2.1
  · exact absurd (g.2 r) h.2.1
  · rcases Nat.lt_trichotomy r q with e | e | e
    · exact absurd (g.2.2 r e) h.2.1
    · exact e
    · exact absurd (h.2.2 q e) g.2.1
theorem mt_P0 {r : Nat} (h : mt_P a o x y r) : r = 0 ↔ ∀ k, mt_E a o k x y := by
  constructor
  · intro e
    rcases h with h | h
    · exact h.2
    · omega
  · intro e
    rcases h with h | h
    · exact h.1
    · exact absurd (e r) h.2.1
theorem mt_P_St {R r : Nat} (hs : mt_St a o R) (hx : x < 16) (hy : y < 16) (h : mt_P a o x y r) : r ≤ R := by
  rcases h with h | h
  · omega
  · rcases Nat.lt_or_ge R r with l | l
    · exact absurd (hs x y hx hy (h.2.2 R l) r) h.2.1
    · exact l
/-- the first letter of the least word, if it is the last -/
theorem mt_fi1 {i : Nat} (h : mt_M a o x y [i]) : i < 3 ∧ o (x * 3 + i) ≠ o (y * 3 + i) ∧ ∀ j, j < i → o (x * 3 + j) = o (y * 3 + j) := by
  have e : i < 3 ∧ o (x * 3 + i) ≠ o (y * 3 + i) := by
    refine ⟨h.1.1, ?_⟩
    rcases h.1.2 with f | f
    · exact f.2
    · exact f.elim
  refine ⟨e.1, e.2, fun j hj => ?_⟩
  apply Classical.byContradiction
  intro hn
  have f := h.2 [j] ⟨by omega, Or.inl ⟨rfl, hn⟩⟩
  have g : mt_c [j] 1 = 3 * 1 + j := rfl
  have g2 : mt_c [i] 1 = 3 * 1 + i := rfl
  omega
/-- the first letter of the least word, if it isn't the last -/
theorem mt_fi2 {i : Nat} {w : List Nat} (hw : w ≠ []) (h : mt_M a o x y (i :: w)) : i < 3 ∧ mt_M a o (mt_st a x i) (mt_st a y i) w ∧ ∀ j, j < i → ∀ r, mt_P a o (mt_st a x j) (mt_st a y j) r → r ≠ w.length := by
  have hi : i < 3 := h.1.1
  have ht : mt_T a o w (mt_st a x i) (mt_st a y i) := by
    rcases h.1.2 with f | f
    · exact absurd f.1 hw
    · exact f
  have hl : 1 ≤ w.length := by
    match w, hw with
    | [], hw => exact absurd rfl hw
    | _ :: _, _ => exact Nat.succ_le_succ (Nat.zero_le _)
  refine ⟨hi, ⟨ht, fun v hv => ?_⟩, fun j hj r hr e => ?_⟩
  · have f := h.2 (i :: v) ⟨hi, Or.inr hv⟩
    rcases Nat.lt_or_ge (mt_c v 1) (mt_c w 1) with l | l
    · have g := mt_c_cons hi (mt_T_D _ _ _ hv) (mt_T_D _ _ _ ht) l
      omega
    · exact l
  · rcases hr with hr | hr
    · omega
    · obtain ⟨v, vl, hv⟩ := mt_nE_T r _ _ hr.2.1
      have f := h.2 (j :: v) ⟨by omega, Or.inr hv⟩
      have g := mt_c_head (w := w) (i := j) (j := i) (mt_T_D _ _ _ hv) hi hj (by omega)
      omega
end
end
section
/-! X: rows of groups, together, split, prepare, parting -/
theorem mw_16 (a b : Nat) : nI a * 16 + nI b = nI (a * 16 + b) := by
  show nI a * nI 16 + nI b = _
  rw [pk_mul, nI_add]
theorem mw_3 (a b : Nat) : nI a * 3 + nI b = nI (a * 3 + b) := by
  show nI a * nI 3 + nI b = _
  rw [pk_mul, nI_add]
def mt_Row (a o g : Nat → Int32) (r : Nat) : Prop := ∀ s, s < 16 → g (r * 16 + s) = nI (mt_G a o r s)
theorem mt_G16 {a o : Nat → Int32} (r : Nat) {s : Nat} (hs : s < 16) : mt_G a o r s < 16 := Nat.lt_of_le_of_lt (mt_G_le r s) hs
theorem mt_row_eq {a o g : Nat → Int32} {r x y : Nat} (h : mt_Row a o g r) (hx : x < 16) (hy : y < 16) : g (r * 16 + x) = g (r * 16 + y) ↔ mt_E a o r x y := by
  have h1 := mt_G16 (a := a) (o := o) r hx
  have h2 := mt_G16 (a := a) (o := o) r hy
  rw [h x hx, h y hy, nI_eq (by omega) (by omega)]
  exact mt_G_eq
section
variable {a o g l : Nat → Int32} {rd rn wl : Int32}
theorem mx_bad {post : Int32 → Prop} {x : Nat} (hx : x < 16) (hp : post 0) : wpX_bad post (nI x) := by
  unfold wpX_bad
  exact br_f (nI_pos (by omega)) (pk_lt x 16 (fun _ => hp) (fun h => by omega))
theorem mx_bad1 {post : Int32 → Prop} {p : Int32} (h : p < 0 ∨ nI 16 ≤ p) (hp : post 1) : wpX_bad post p := by
  unfold wpX_bad
  refine br_c (fun _ => hp) (fun hn => br_f ?_ hp)
  rcases h with h | h
  · exact absurd h hn
  · exact Int32.not_lt.mpr h
theorem mx_groupOf {post : Int32 → Prop} {r s : Nat} (hr : r ≤ 16) (hs : s < 16) (hp : post (g (r * 16 + s))) : wpX_groupOf post (rd, rn, wl, a, o, g, l) (nI r) (nI s) := by
  unfold wpX_groupOf
  dsimp only
  rw [mw_16, nI_clamp (by omega)]
  exact ⟨vp_in_nI (by omega) (by omega), hp⟩
theorem mx_tog30 {post : Int32 → Prop} {r x y : Nat} (ok : mt_Ok a) (hr : r ≤ 16) (hx : x < 16) (hy : y < 16) (hR : mt_Row a o g r)
    (h1 : mt_E a o (r + 1) x y → post 1) (h0 : ¬ mt_E a o (r + 1) x y → post 0) :
    ∀ d i, i + d = 3 → (∀ j, j < i → o (x * 3 + j) = o (y * 3 + j) ∧ mt_E a o r (mt_st a x j) (mt_st a y j)) → wX_together_30 post (nI r) (nI x) (nI y) rd rn wl a o g l (d + 1) (nI i) := by
  intro d
  induction d with
  | zero =>
    intro i hi H
    exact pk_le 3 i (fun _ => h1 (fun j hj => H j (by omega))) (fun h => by omega)
  | succ d ih =>
    intro i hi H
    refine pk_le 3 i (fun h => by omega) (fun _ => nm_r (mw_3 x i) (nm_r (mw_3 y i) ?_))
    obtain ⟨hx', ex⟩ := mt_ok_st ok x i
    obtain ⟨hy', ey⟩ := mt_ok_st ok y i
    refine ⟨vp_in_nI (by omega) (by omega), vp_in_nI (by omega) (by omega), ?_⟩
    rw [nI_clamp (n := x * 3 + i) (by omega), nI_clamp (n := y * 3 + i) (by omega)]
    refine br_c (fun ho => ?_) (fun ho => h0 (fun h => ho (h i (by omega)).1))
    rw [ex, ey, mw_16, mw_16, nI_clamp (n := r * 16 + mt_st a x i) (by omega), nI_clamp (n := r * 16 + mt_st a y i) (by omega)]
    refine ⟨vp_in_nI (by omega) (by omega), vp_in_nI (by omega) (by omega), vp_in_nI (by omega) (by omega), vp_in_nI (by omega) (by omega), ?_⟩
    refine br_c (fun hg => nm_r (nI_1 i) (ih (i + 1) (by omega) (fun j hj => ?_))) (fun hg => h0 (fun h => hg ((mt_row_eq hR hx' hy').mpr (h i (by omega)).2)))
    rcases Nat.lt_or_ge j i with e | e
    · exact H j e
    · have e2 : j = i := by omega
      rw [e2]
      exact ⟨ho, (mt_row_eq hR hx' hy').mp hg⟩
theorem mx_together {post : Int32 → Prop} {r x y : Nat} (ok : mt_Ok a) (hr : r ≤ 16) (hx : x < 16) (hy : y < 16) (hR : mt_Row a o g r)
    (h1 : mt_E a o (r + 1) x y → post 1) (h0 : ¬ mt_E a o (r + 1) x y → post 0) : wpX_together post (rd, rn, wl, a, o, g, l) (nI r) (nI x) (nI y) := by
  unfold wpX_together
  dsimp only
  rw [mw_16, mw_16, nI_clamp (n := r * 16 + x) (by omega), nI_clamp (n := r * 16 + y) (by omega)]
  refine ⟨vp_in_nI (by omega) (by omega), vp_in_nI (by omega) (by omega), ?_⟩
  refine br_c (fun _ => ⟨4, mx_tog30 ok hr hx hy hR h1 h0 3 0 rfl (fun j hj => absurd hj (Nat.not_lt_zero j))⟩) (fun hg => h0 (fun h => hg ((mt_row_eq hR hx hy).mpr (mt_E_down _ _ _ h))))
theorem mx_sp13 {post : Int32 → SX → Prop} {J : Int32 → Int32 → (Nat → Int32) → (Nat → Int32) → (Nat → Int32) → (Nat → Int32) → Prop} {x2 : Int32} {r s : Nat} (ok : mt_Ok a) (hr : r ≤ 16) (hs : s < 16) (hR : mt_Row a o g r)
    (hp : wX_split_36 post J (nI r) x2 (nI s) (nI (mt_G a o (r + 1) s)) rd rn wl a o g l) :
    ∀ d t, t + d = s → (∀ j, j < t → ¬ mt_E a o (r + 1) j s) → wX_split_13 post J (nI r) x2 (nI s) rd rn wl a o g l (d + 1) (nI t) := by
  intro d
  induction d with
  | zero =>
    intro t ht H
    have e : mt_G a o (r + 1) s = t := mt_G_uniq (by rw [show t = s by omega]; exact mt_E_refl _ _) H
    rw [e] at hp
    exact pk_le s t (fun _ => hp) (fun h => by omega)
  | succ d ih =>
    intro t ht H
    refine pk_le s t (fun h => by omega) (fun _ => ?_)
    refine mx_together ok hr (by omega) hs hR (fun e => ?_) (fun e => ?_)
    · have e2 : mt_G a o (r + 1) s = t := mt_G_uniq e H
      rw [e2] at hp
      exact br_f (by decide) hp
    · refine br_t rfl (nm_r (nI_1 t) (ih (t + 1) (by omega) (fun j hj => ?_)))
      rcases Nat.lt_or_ge j t with q | q
      · exact H j q
      · rw [show j = t by omega]; exact e
/-- the state of a split at state s: rows up to r, the new row below s, the answer so far -/
def mt_SI (a o g : Nat → Int32) (r s : Nat) (x2 : Int32) : Prop := (∀ q, q ≤ r → mt_Row a o g q) ∧ (∀ t, t < s → g ((r + 1) * 16 + t) = nI (mt_G a o (r + 1) t)) ∧ ((x2 = 1 ∧ ∃ t, t < s ∧ mt_G a o (r + 1) t ≠ mt_G a o r t) ∨ (x2 = 0 ∧ ∀ t, t < s → mt_G a o (r + 1) t = mt_G a o r t))
theorem mt_SI_up {r s : Nat} {x2 : Int32} (hs : s < 16) (h : mt_SI a o g r s x2) :
    (nI (mt_G a o (r + 1) s) = upd g ((r + 1) * 16 + s) (nI (mt_G a o (r + 1) s)) (r * 16 + s) → mt_SI a o (upd g ((r + 1) * 16 + s) (nI (mt_G a o (r + 1) s))) r (s + 1) x2) ∧
    (¬ nI (mt_G a o (r + 1) s) = upd g ((r + 1) * 16 + s) (nI (mt_G a o (r + 1) s)) (r * 16 + s) → mt_SI a o (upd g ((r + 1) * 16 + s) (nI (mt_G a o (r + 1) s))) r (s + 1) 1) := by
  obtain ⟨h1, h2, h3⟩ := h
  have g1 : ∀ q, q ≤ r → mt_Row a o (upd g ((r + 1) * 16 + s) (nI (mt_G a o (r + 1) s))) q := by
    intro q hq t ht
    rw [pk_un (by omega)]
    exact h1 q hq t ht
  have g2 : ∀ t, t < s + 1 → upd g ((r + 1) * 16 + s) (nI (mt_G a o (r + 1) s)) ((r + 1) * 16 + t) = nI (mt_G a o (r + 1) t) := by
    intro t ht
    by_cases e : t = s
    · rw [e, pk_us]
    · rw [pk_un (by omega)]
      exact h2 t (by omega)
  have b1 := mt_G16 (a := a) (o := o) (r + 1) hs
  have b2 := mt_G16 (a := a) (o := o) r hs
  rw [pk_un (k := (r + 1) * 16 + s) (j := r * 16 + s) (by omega), h1 r (Nat.le_refl r) s hs, nI_eq (by omega) (by omega)]
  constructor
  · intro e
    refine ⟨g1, g2, ?_⟩
    rcases h3 with ⟨p, t, ht, hd⟩ | ⟨p, q⟩
    · exact Or.inl ⟨p, t, by omega, hd⟩
    · refine Or.inr ⟨p, fun t ht => ?_⟩
      by_cases e2 : t = s
      · rw [e2]; exact e
      · exact q t (by omega)
  · intro e
    exact ⟨g1, g2, Or.inl ⟨rfl, s, by omega, e⟩⟩
theorem mx_sp4 {post : Int32 → SX → Prop} {r : Nat} (ok : mt_Ok a) (hr : r ≤ 16)
    (hp1 : ∀ g', (∀ q, q ≤ r + 1 → mt_Row a o g' q) → mt_Sp a o r → post 1 (rd, rn, wl, a, o, g', l))
    (hp0 : ∀ g', (∀ q, q ≤ r + 1 → mt_Row a o g' q) → ¬ mt_Sp a o r → post 0 (rd, rn, wl, a, o, g', l)) :
    ∀ d s x2 g, s + d = 16 → mt_SI a o g r s x2 → wX_split_4 post (nI r) rd rn wl (d + 1) x2 (nI s) a o g l := by
  intro d
  induction d with
  | zero =>
    intro s x2 g hs h
    refine pk_le 16 s (fun _ => ?_) (fun h => by omega)
    obtain ⟨h1, h2, h3⟩ := h
    have hR : ∀ q, q ≤ r + 1 → mt_Row a o g q := by
      intro q hq
      by_cases e : q = r + 1
      · rw [e]; intro t ht; exact h2 t (by omega)
      · exact h1 q (by omega)
    rcases h3 with ⟨rfl, t, ht, hd⟩ | ⟨rfl, q⟩
    · exact ⟨rfl, hp1 g hR ⟨t, by omega, hd⟩⟩
    · exact ⟨rfl, hp0 g hR (fun z => by obtain ⟨t, ht, hd⟩ := z; exact hd (q t (by omega)))⟩
  | succ d ih =>
    intro s x2 g hs h
    refine pk_le 16 s (fun h => by omega) (fun _ => ⟨s + 1, ?_⟩)
    refine mx_sp13 ok hr (by omega) (h.1 r (Nat.le_refl r)) ?_ s 0 (by omega) (fun j hj => absurd hj (Nat.not_lt_zero j))
    have u := mt_SI_up (s := s) (by omega) h
    unfold wX_split_36
    rw [nI_1 r, mw_16, mw_16, nI_clamp (n := (r + 1) * 16 + s) (by omega), nI_clamp (n := r * 16 + s) (by omega)]
    refine ⟨vp_in_nI (by omega) (by omega), nm_e ⟨vp_in_nI (by omega) (by omega), ?_⟩⟩
    refine br_c (fun e => nm_r (nI_1 s) (ih (s + 1) _ _ (by omega) (u.1 e))) (fun e => nm_r (nI_1 s) (ih (s + 1) _ _ (by omega) (u.2 e)))
theorem mx_split {post : Int32 → SX → Prop} {r : Nat} (ok : mt_Ok a) (hr : r ≤ 16) (hR : ∀ q, q ≤ r → mt_Row a o g q)
    (hp1 : ∀ g', (∀ q, q ≤ r + 1 → mt_Row a o g' q) → mt_Sp a o r → post 1 (rd, rn, wl, a, o, g', l))
    (hp0 : ∀ g', (∀ q, q ≤ r + 1 → mt_Row a o g' q) → ¬ mt_Sp a o r → post 0 (rd, rn, wl, a, o, g', l)) : wpX_split post (rd, rn, wl, a, o, g, l) (nI r) := by
  unfold wpX_split
  dsimp only
  exact ⟨17, mx_sp4 ok hr hp1 hp0 16 0 0 g rfl ⟨hR, fun t ht => absurd ht (Nat.not_lt_zero t), Or.inr ⟨rfl, fun t ht => absurd ht (Nat.not_lt_zero t)⟩⟩⟩
/-- prepared: rounds = R, the rows up to R -/
def mt_Pr (a o g : Nat → Int32) (R : Nat) : Prop := R ≤ 15 ∧ (∀ q, q ≤ R → mt_Row a o g q) ∧ (∀ q, q < R → mt_Sp a o q) ∧ ¬ mt_Sp a o R
theorem mx_pr45 {post : SX → Prop} (ok : mt_Ok a) (hp : ∀ R g', mt_Pr a o g' R → post (rd, nI R, wl, a, o, g', l)) :
    ∀ d R x1 g, R + d = 16 → (∀ q, q ≤ R + 1 → mt_Row a o g q) → (∀ q, q < R → mt_Sp a o q) → ((x1 = 1 ∧ mt_Sp a o R) ∨ (x1 = 0 ∧ ¬ mt_Sp a o R)) → wX_prepare_45 post (d + 1) x1 rd (nI R) wl a o g l := by
  intro d
  induction d with
  | zero =>
    intro R x1 g hd hR hS hx
    have e := mt_sp_15 hS
    omega
  | succ d ih =>
    intro R x1 g hd hR hS hx
    rcases hx with ⟨rfl, hx⟩ | ⟨rfl, hx⟩
    · have hS' : ∀ q, q < R + 1 → mt_Sp a o q := by
        intro q hq
        by_cases e : q = R
        · rw [e]; exact hx
        · exact hS q (by omega)
      have e := mt_sp_15 hS'
      refine br_f (by decide) (pk_le 16 R (fun h => by omega) (fun _ => nm_r (nI_1 R) ?_))
      refine mx_split ok (by omega) hR (fun g' hg hs => ?_) (fun g' hg hs => ?_)
      · exact ih (R + 1) 1 g' (by omega) hg hS' (Or.inl ⟨rfl, hs⟩)
      · exact ih (R + 1) 0 g' (by omega) hg hS' (Or.inr ⟨rfl, hs⟩)
    · exact br_t rfl (hp R g ⟨mt_sp_15 hS, fun q hq => hR q (by omega), hS, hx⟩)
theorem mx_pr20 {post : SX → Prop} (ok : mt_Ok a) (hp : ∀ R g', mt_Pr a o g' R → post (rd, nI R, wl, a, o, g', l)) :
    ∀ d s g, s + d = 16 → (∀ t, t < s → g t = 0) → wX_prepare_20 post rd 0 wl (d + 1) (nI s) a o g l := by
  intro d
  induction d with
  | zero =>
    intro s g hs H
    refine pk_le 16 s (fun _ => ?_) (fun h => by omega)
    refine mx_split (r := 0) ok (by omega) (fun q hq t ht => ?_) (fun g' hg h => ?_) (fun g' hg h => ?_)
    · rw [show q = 0 by omega, mt_G_0, nI_0, show 0 * 16 + t = t by omega]
      exact H t (by omega)
    · exact ⟨17, mx_pr45 ok hp 16 0 1 g' rfl hg (fun q hq => absurd hq (Nat.not_lt_zero q)) (Or.inl ⟨rfl, h⟩)⟩
    · exact ⟨17, mx_pr45 ok hp 16 0 0 g' rfl hg (fun q hq => absurd hq (Nat.not_lt_zero q)) (Or.inr ⟨rfl, h⟩)⟩
  | succ d ih =>
    intro s g hs H
    refine pk_le 16 s (fun h => by omega) (fun _ => ⟨vp_in_nI (by omega) (by omega), ?_⟩)
    rw [nI_clamp (n := s) (by omega)]
    refine nm_e (nm_r (nI_1 s) (ih (s + 1) _ (by omega) (fun t ht => ?_)))
    by_cases e : t = s
    · rw [e, pk_us]
    · rw [pk_un e]; exact H t (by omega)
theorem mx_prepare {post : SX → Prop} (ok : mt_Ok a) (hr : ¬ rd = 0 → ∃ R, rn = nI R ∧ mt_Pr a o g R) (hp : ∀ rd' R g', ¬ rd' = 0 → mt_Pr a o g' R → post (rd', nI R, wl, a, o, g', l)) : wpX_prepare post (rd, rn, wl, a, o, g, l) := by
  unfold wpX_prepare
  dsimp only
  refine br_c (fun _ => ?_) (fun h => ?_)
  · exact ⟨17, mx_pr20 ok (fun R g' h => hp 1 R g' (by decide) h) 16 0 g rfl (fun t ht => absurd ht (Nat.not_lt_zero t))⟩
  · obtain ⟨R, rfl, hR⟩ := hr h
    exact hp rd R g h hR
theorem mx_part2 {post : Int32 → Prop} {R x y : Nat} (ok : mt_Ok a) (hP : mt_Pr a o g R) (hx : x < 16) (hy : y < 16) (hp : ∀ r, r ≤ R → mt_P a o x y r → post (nI r)) :
    ∀ d r, r + d = R + 1 → 1 ≤ r → (∀ k, k < r → mt_E a o k x y) → wX_parting_2 post (nI x) (nI y) rd (nI R) wl a o g l (d + 1) (nI r) := by
  obtain ⟨h15, hR, hS, hN⟩ := hP
  intro d
  induction d with
  | zero =>
    intro r hr h1 H
    refine pk_lt R r (fun _ => hp 0 (Nat.zero_le R) (Or.inl ⟨rfl, ?_⟩)) (fun h => by omega)
    exact mt_nsp_St ok hN x y hx hy (H R (by omega))
  | succ d ih =>
    intro r hr h1 H
    refine pk_lt R r (fun h => by omega) (fun _ => ?_)
    refine mx_groupOf (by omega) hx (mx_groupOf (by omega) hy ?_)
    refine br_c (fun e => nm_r (nI_1 r) (ih (r + 1) (by omega) (by omega) (fun k hk => ?_))) (fun e => ?_)
    · by_cases z : k = r
      · rw [z]; exact (mt_row_eq (hR r (by omega)) hx hy).mp e
      · exact H k (by omega)
    · exact hp r (by omega) (Or.inr ⟨h1, fun z => e ((mt_row_eq (hR r (by omega)) hx hy).mpr z), H⟩)
theorem mx_parting {post : Int32 → Prop} {R x y : Nat} (ok : mt_Ok a) (hP : mt_Pr a o g R) (hx : x < 16) (hy : y < 16) (hp : ∀ r, r ≤ R → mt_P a o x y r → post (nI r)) : wpX_parting post (rd, nI R, wl, a, o, g, l) (nI x) (nI y) := by
  unfold wpX_parting
  dsimp only
  exact ⟨R + 1, mx_part2 ok hP hx hy hp R 1 (by omega) (Nat.le_refl 1) (fun k hk => by rw [show k = 0 by omega]; exact True.intro)⟩
end
end
section
/-! X: firstInput, findWord -/
section
variable {a o g l : Nat → Int32} {rd rn wl : Int32}
theorem mx_fi3a {post : Int32 → Prop} {x y i0 : Nat} (hx : x < 16) (hy : y < 16) (hM : mt_M a o x y [i0]) (hp : post (nI i0)) :
    ∀ d i, i + d = 3 → i ≤ i0 → wX_firstInput_3 post (nI x) (nI y) 1 rd rn wl a o g l (d + 1) (nI i) := by
  obtain ⟨h3, hd, hm⟩ := mt_fi1 hM
  intro d
  induction d with
  | zero => intro i hi h; omega
  | succ d ih =>
    intro i hi h
    refine pk_le 3 i (fun h => by omega) (fun _ => nm_r (mw_3 x i) (nm_r (mw_3 y i) (br_t rfl ?_)))
    refine ⟨vp_in_nI (by omega) (by omega), vp_in_nI (by omega) (by omega), ?_⟩
    rw [nI_clamp (n := x * 3 + i) (by omega), nI_clamp (n := y * 3 + i) (by omega)]
    by_cases e : i = i0
    · rw [e]
      exact br_f hd hp
    · refine br_t (hm i (by omega)) ?_
      unfold wX_firstInput_50
      exact br_t (by decide) (nm_r (nI_1 i) (ih (i + 1) (by omega) (by omega)))
theorem mx_fi3b {post : Int32 → Prop} {R x y i0 : Nat} {w : List Nat} (ok : mt_Ok a) (hP : mt_Pr a o g R) (hx : x < 16) (hy : y < 16) (hw : w ≠ []) (hl : w.length ≤ 15) (hM : mt_M a o x y (i0 :: w)) (hp : post (nI i0)) :
    ∀ d i, i + d = 3 → i ≤ i0 → wX_firstInput_3 post (nI x) (nI y) (nI (w.length + 1)) rd (nI R) wl a o g l (d + 1) (nI i) := by
  obtain ⟨h3, hd, hm⟩ := mt_fi2 hw hM
  have h1 : 1 ≤ w.length := mt_M_ne hd
  have hR : R ≤ 15 := hP.1
  have n1 : ¬ nI (w.length + 1) = 1 := by
    intro e
    have e2 : w.length + 1 = 1 := (nI_eq (a := w.length + 1) (b := 1) (by omega) (by omega)).mp e
    omega
  have n2 : ¬ nI (w.length + 1) ≤ 1 := nI_ge (b := w.length + 1) (a := 1) (by omega) (by omega)
  intro d
  induction d with
  | zero => intro i hi h; omega
  | succ d ih =>
    intro i hi h
    refine pk_le 3 i (fun h => by omega) (fun _ => nm_r (mw_3 x i) (nm_r (mw_3 y i) (br_f n1 ?_)))
    unfold wX_firstInput_50
    refine br_f n2 ?_
    rw [nI_clamp (n := x * 3 + i) (by omega), nI_clamp (n := y * 3 + i) (by omega), nI_pred]
    refine ⟨vp_in_nI (by omega) (by omega), vp_in_nI (by omega) (by omega), ?_⟩
    obtain ⟨hx', ex⟩ := mt_ok_st ok x i
    obtain ⟨hy', ey⟩ := mt_ok_st ok y i
    rw [ex, ey]
    refine mx_parting ok hP hx' hy' (fun r hr hr2 => ?_)
    refine pk_eq r w.length (fun e => ?_) (fun e => ?_)
    · by_cases z : i = i0
      · rw [z]; exact hp
      · exact absurd e (hm i (by omega) r hr2)
    · by_cases z : i = i0
      · rw [z] at hr2
        exact absurd (mt_P_uniq hr2 (mt_A_P (Or.inr hd))) e
      · exact nm_r (nI_1 i) (ih (i + 1) (by omega) (by omega))
theorem mx_firstInput {post : Int32 → Prop} {R x y i0 : Nat} {w : List Nat} (ok : mt_Ok a) (hP : mt_Pr a o g R) (hx : x < 16) (hy : y < 16) (hl : w.length ≤ 15) (hM : mt_M a o x y (i0 :: w)) (hp : post (nI i0)) :
    wpX_firstInput post (rd, nI R, wl, a, o, g, l) (nI x) (nI y) (nI (w.length + 1)) := by
  unfold wpX_firstInput
  dsimp only
  by_cases hw : w = []
  · subst hw
    exact ⟨4, mx_fi3a hx hy hM hp 3 0 rfl (Nat.zero_le _)⟩
  · exact ⟨4, mx_fi3b ok hP hx hy hw hl hM hp 3 0 rfl (Nat.zero_le _)⟩
theorem mt_getD_app (i : Nat) (v : List Nat) : ∀ u : List Nat, (u ++ i :: v).getD u.length 0 = i := by
  intro u
  induction u with
  | nil => rfl
  | cons j u ih => exact ih
theorem mx_fw18 {post : SX → Prop} {R : Nat} {W : List Nat} (ok : mt_Ok a) (hP : mt_Pr a o g R) (hl : W.length ≤ 15)
    (hp : ∀ l', (∀ j, j < W.length → l' j = nI (W.getD j 0)) → post (rd, nI R, nI W.length, a, o, g, l')) :
    ∀ w u x y l, W = u ++ w → x < 16 → y < 16 → (w = [] ∨ mt_M a o x y w) → (∀ j, j < u.length → l j = nI (W.getD j 0)) → wX_findWord_18 post rd (nI R) (nI W.length) (w.length + 1) (nI x) (nI y) (nI u.length) a o g l := by
  intro w
  induction w with
  | nil =>
    intro u x y l e hx hy hM H
    have e2 : W.length = u.length := by rw [e, List.append_nil]
    exact pk_le W.length u.length (fun _ => hp l (fun j hj => H j (by omega))) (fun h => by omega)
  | cons i w ih =>
    intro u x y l e hx hy hM H
    have e2 : W.length = u.length + (w.length + 1) := by rw [e, List.length_append]; rfl
    have hM2 : mt_M a o x y (i :: w) := by
      rcases hM with h | h
      · exact absurd h (by simp)
      · exact h
    have hi : i < 3 := hM2.1.1
    refine pk_le W.length u.length (fun h => by omega) (fun _ => ?_)
    rw [pk_sub (by omega), show W.length - u.length = w.length + 1 by omega]
    refine mx_firstInput ok hP hx hy (by omega) hM2 ?_
    refine ⟨vp_in_nI (by omega) (by omega), nm_e ?_⟩
    rw [mw_3, mw_3, nI_clamp (n := x * 3 + i) (by omega), nI_clamp (n := y * 3 + i) (by omega), nI_clamp (n := u.length) (by omega)]
    obtain ⟨hx', ex⟩ := mt_ok_st ok x i
    obtain ⟨hy', ey⟩ := mt_ok_st ok y i
    refine ⟨vp_in_nI (by omega) (by omega), nm_r ex ⟨vp_in_nI (by omega) (by omega), nm_r ey (nm_r (nI_1 u.length) ?_)⟩⟩
    have K := ih (u ++ [i]) (mt_st a x i) (mt_st a y i) (upd l u.length (nI i)) (by rw [e, List.append_assoc]; rfl) hx' hy' ?_ ?_
    · rw [List.length_append] at K
      exact K
    · by_cases hw : w = []
      · exact Or.inl hw
      · exact Or.inr (mt_fi2 hw hM2).2.1
    · intro j hj
      rw [List.length_append] at hj
      have hj2 : j < u.length + 1 := hj
      by_cases z : j = u.length
      · rw [z, pk_us, e, mt_getD_app]
      · rw [pk_un z]; exact H j (by omega)
theorem mx_findWord {post : SX → Prop} {R x y : Nat} {w : List Nat} (ok : mt_Ok a) (hP : mt_Pr a o g R) (hx : x < 16) (hy : y < 16) (hA : mt_A a o x y w)
    (hp : ∀ l', (∀ j, j < w.length → l' j = nI (w.getD j 0)) → w.length ≤ 15 → post (rd, nI R, nI w.length, a, o, g, l')) : wpX_findWord post (rd, nI R, wl, a, o, g, l) (nI x) (nI y) := by
  unfold wpX_findWord
  dsimp only
  refine mx_parting ok hP hx hy (fun r hr hr2 => ?_)
  have e : r = w.length := mt_P_uniq hr2 (mt_A_P hA)
  have h15 := hP.1
  rw [e]
  refine ⟨w.length + 1, mx_fw18 (W := w) ok hP (by omega) (fun l' h => hp l' h (by omega)) w [] x y l rfl hx hy ?_ (fun j hj => absurd hj (Nat.not_lt_zero j))⟩
  rcases hA with h | h
  · exact Or.inl h.1
  · exact Or.inr h
end
end
section
/-! sets of states as the bits of an int -/
theorem mt_b1 : ∀ k, k < 32 → bt 1 k = decide (k = 0) := by decide +kernel
theorem mt_bit1 {m i : Nat} (hm : m < 32) (hi : i < 32) : bt ((1 : Int32) <<< (nI m &&& 31)) i = decide (i = m) := by
  rw [b_shl m hm 1 hi, mt_b1 (i - m) (by omega)]
  by_cases h : i = m
  · subst h
    simp
  · rw [decide_eq_false h]
    by_cases h2 : m ≤ i
    · rw [decide_eq_false (p := i - m = 0) (by omega), Bool.and_false]
    · rw [decide_eq_false h2, Bool.false_and]
theorem mt_tst (x : Int32) {s : Nat} (hs : s < 32) : ((x >>> (nI s &&& 31)) &&& 1) = if bt x s = true then 1 else 0 := by
  apply b_ext
  intro i hi
  rw [b_and, b_sshr s hs x hi, mt_b1 i hi]
  by_cases h : i = 0
  · subst h
    rw [Nat.add_zero, if_pos hs]
    by_cases e : bt x s = true
    · rw [if_pos e, e]; rfl
    · rw [if_neg e, Bool.eq_false_iff.mpr e]; rfl
  · rw [decide_eq_false h, Bool.and_false]
    by_cases e : bt x s = true
    · rw [if_pos e, mt_b1 i hi, decide_eq_false h]
    · rw [if_neg e, b_0]
theorem mt_t1 {x : Int32} {s : Nat} (hs : s < 32) : ((x >>> (nI s &&& 31)) &&& 1) = 1 ↔ bt x s = true := by
  rw [mt_tst x hs]
  by_cases e : bt x s = true
  · rw [if_pos e]; exact ⟨fun _ => e, fun _ => rfl⟩
  · rw [if_neg e]; exact ⟨fun h => absurd h (by decide), fun h => absurd h e⟩
theorem mt_t0 {x : Int32} {s : Nat} (hs : s < 32) : ((x >>> (nI s &&& 31)) &&& 1) = 0 ↔ ¬ bt x s = true := by
  rw [mt_tst x hs]
  by_cases e : bt x s = true
  · rw [if_pos e]; exact ⟨fun h => absurd h (by decide), fun h => absurd e h⟩
  · rw [if_neg e]; exact ⟨fun _ => e, fun _ => rfl⟩
def mt_Cl (a : Nat → Int32) (x : Int32) : Prop := ∀ j, j < 48 → bt x (j / 3) = true → bt x (a j).toNatClampNeg = true
def mt_Rc (a : Nat → Int32) (s t : Nat) : Prop := ∀ S : Nat → Prop, S s → (∀ j, j < 48 → S (j / 3) → S (a j).toNatClampNeg) → S t
def mt_Gd (a : Nat → Int32) (s : Nat) (x : Int32) : Prop := bt x s = true ∧ ∀ i, i < 32 → bt x i = true → i < 16 ∧ mt_Rc a s i
def mt_Fx (a : Nat → Int32) (s : Nat) (x : Int32) : Prop := mt_Gd a s x ∧ mt_Cl a x
theorem mt_Fx_uniq {a : Nat → Int32} {s : Nat} {x y : Int32} (hx : mt_Fx a s x) (hy : mt_Fx a s y) : x = y := by
  apply b_ext
  intro i hi
  have h1 : bt x i = true → bt y i = true := fun h => (hx.1.2 i hi h).2 (fun t => bt y t = true) hy.1.1 hy.2
  have h2 : bt y i = true → bt x i = true := fun h => (hy.1.2 i hi h).2 (fun t => bt x t = true) hx.1.1 hx.2
  exact Bool.eq_iff_iff.mpr ⟨h1, h2⟩
/-- within a pass over the 48 arrows: b the set before it, c the set now -/
def mt_PI (a : Nat → Int32) (s : Nat) (b c : Int32) (j : Nat) : Prop := (∀ i, i < 32 → bt b i = true → bt c i = true) ∧ mt_Gd a s c ∧ (∀ k, k < j → bt b (k / 3) = true → bt c (a k).toNatClampNeg = true) ∧ (mt_Cl a b → c = b)
def mt_RI (a : Nat → Int32) (s : Nat) (x : Int32) (n : Nat) : Prop := mt_Gd a s x ∧ (mt_Cl a x ∨ n + 1 ≤ mt_cn (bt x) 16)
section
variable {a : Nat → Int32} {s : Nat} {b c : Int32}
theorem mt_PI_0 (h : mt_Gd a s b) : mt_PI a s b b 0 := ⟨fun _ _ h => h, h, fun k hk => absurd hk (Nat.not_lt_zero k), fun _ => rfl⟩
theorem mt_PI_no {j : Nat} (h : mt_PI a s b c j) (hb : ¬ bt b (j / 3) = true) : mt_PI a s b c (j + 1) := by
  refine ⟨h.1, h.2.1, fun k hk e => ?_, h.2.2.2⟩
  by_cases z : k = j
  · rw [z] at e; exact absurd e hb
  · exact h.2.2.1 k (by omega) e
theorem mt_PI_yes {j : Nat} (ok : mt_Ok a) (hj : j < 48) (h : mt_PI a s b c j) (hc : bt c (j / 3) = true) : mt_PI a s b (c ||| ((1 : Int32) <<< (a j &&& 31))) (j + 1) := by
  obtain ⟨hm, em⟩ := mt_ok_at ok j
  have hb : ∀ i, i < 32 → bt (c ||| ((1 : Int32) <<< (a j &&& 31))) i = (bt c i || decide (i = (a j).toNatClampNeg)) := by
    intro i hi
    rw [b_or, em, nI_clamp (by omega), mt_bit1 (by omega) hi]
  have hs : s < 32 := by
    rcases Nat.lt_or_ge s 32 with z | z
    · exact z
    · have e := h.2.1.1
      rw [b_big z] at e
      exact absurd e (by decide)
  refine ⟨fun i hi e => ?_, ⟨?_, fun i hi e => ?_⟩, fun k hk e => ?_, fun e => ?_⟩
  · rw [hb i hi, h.1 i hi e, Bool.true_or]
  · rw [hb s hs, h.2.1.1, Bool.true_or]
  · rw [hb i hi] at e
    rcases (Bool.or_eq_true _ _).mp e with z | z
    · exact h.2.1.2 i hi z
    · have z2 : i = (a j).toNatClampNeg := of_decide_eq_true z
      rw [z2]
      refine ⟨hm, fun S h0 h1 => h1 j hj ?_⟩
      exact (h.2.1.2 (j / 3) (by omega) hc).2 S h0 h1
  · have hk2 := (mt_ok_at ok k).1
    rw [hb _ (by omega)]
    by_cases z : k = j
    · rw [z, decide_eq_true rfl, Bool.or_true]
    · rw [h.2.2.1 k (by omega) e, Bool.true_or]
  · have e2 := h.2.2.2 e
    apply b_ext
    intro i hi
    rw [hb i hi, e2]
    rw [e2] at hc
    have e3 := e j hj hc
    by_cases z : i = (a j).toNatClampNeg
    · rw [z, e3, Bool.true_or]
    · rw [decide_eq_false z, Bool.or_false]
theorem mt_RI_up {n : Nat} (ok : mt_Ok a) (h : mt_RI a s b n) (hp : mt_PI a s b c 48) : mt_RI a s c (n + 1) ∧ (c = b → mt_Cl a c) := by
  have q : c = b → mt_Cl a c := by
    intro e j hj hb
    rw [e] at hb
    exact hp.2.2.1 j hj hb
  refine ⟨⟨hp.2.1, ?_⟩, q⟩
  by_cases hc : mt_Cl a b
  · exact Or.inl (q (hp.2.2.2 hc))
  · right
    have hn : n + 1 ≤ mt_cn (bt b) 16 := by
      rcases h.2 with z | z
      · exact absurd z hc
      · exact z
    have hx : ∃ j, j < 48 ∧ bt b (j / 3) = true ∧ ¬ bt b (a j).toNatClampNeg = true := by
      apply Classical.byContradiction
      intro z
      apply hc
      intro j hj hb
      apply Classical.byContradiction
      intro z2
      exact z ⟨j, hj, hb, z2⟩
    obtain ⟨j, hj, h1, h2⟩ := hx
    have hm := (mt_ok_at ok j).1
    have g := mt_cn_lt (p := bt b) (q := bt c) (s := (a j).toNatClampNeg) (Bool.eq_false_iff.mpr h2) (hp.2.2.1 j hj h1) 16 hm (fun t ht e => hp.1 t (by omega) e)
    omega
theorem mt_RI_0 (hs : s < 16) : mt_RI a s ((1 : Int32) <<< (nI s &&& 31)) 0 := by
  have h1 : bt ((1 : Int32) <<< (nI s &&& 31)) s = true := by rw [mt_bit1 (by omega) (by omega)]; exact decide_eq_true rfl
  refine ⟨⟨h1, fun i hi e => ?_⟩, Or.inr ?_⟩
  · rw [mt_bit1 (by omega) hi] at e
    have e2 : i = s := of_decide_eq_true e
    rw [e2]
    exact ⟨hs, fun S h _ => h⟩
  · have g := mt_cn_lt (p := fun _ => false) (q := bt ((1 : Int32) <<< (nI s &&& 31))) (s := s) rfl h1 16 hs (fun t _ e => absurd e (by decide))
    omega
theorem mt_RI_16 {n : Nat} (hn : 16 ≤ n) (h : mt_RI a s b n) : mt_Fx a s b := by
  refine ⟨h.1, ?_⟩
  rcases h.2 with z | z
  · exact z
  · have e := mt_cn_le (bt b) 16
    omega
end
/-- the kinds met by a set, and their number -/
noncomputable def mt_fo (a o : Nat → Int32) (R : Nat) (z : Int32) : Nat → Int32
  | 0 => 0
  | s + 1 => if bt z s = true then mt_fo a o R z s ||| ((1 : Int32) <<< (nI (mt_G a o R s) &&& 31)) else mt_fo a o R z s
def mt_sm (z : Int32) : Nat → Int32
  | 0 => 0
  | s + 1 => mt_sm z s + ((z >>> (nI s &&& 31)) &&& 1)
theorem mt_fo_t {a o : Nat → Int32} {R s : Nat} {z : Int32} (h : bt z s = true) : mt_fo a o R z (s + 1) = mt_fo a o R z s ||| ((1 : Int32) <<< (nI (mt_G a o R s) &&& 31)) := if_pos h
theorem mt_fo_f {a o : Nat → Int32} {R s : Nat} {z : Int32} (h : ¬ bt z s = true) : mt_fo a o R z (s + 1) = mt_fo a o R z s := if_neg h
end
section
/-! X: reach, kinds, reachableKinds -/
theorem mw_d3 {j : Nat} (hj : j < 48) : nI j / 3 = nI (j / 3) := pk_div (a := j) (d := 3) (by omega) (by omega) (by omega)
section
variable {a o g l : Nat → Int32} {rd rn wl : Int32}
theorem mx_re26 {post : Int32 → Prop} {J : Int32 → Int32 → Int32 → Prop} {s k : Nat} {b : Int32} (ok : mt_Ok a) (hp : ∀ c, mt_PI a s b c 48 → J c b (nI (k + 1))) :
    ∀ d j c, j + d = 48 → mt_PI a s b c j → wX_reach_26 post J b (nI k) rd rn wl a o g l (d + 1) c (nI j) := by
  intro d
  induction d with
  | zero =>
    intro j c hj h
    rw [show j = 48 by omega] at h ⊢
    exact pk_le 48 48 (fun _ => nm_r (nI_1 k) (hp c h)) (fun h => by omega)
  | succ d ih =>
    intro j c hj h
    refine pk_le 48 j (fun h => by omega) (fun _ => ⟨by decide, ?_⟩)
    rw [mw_d3 (by omega), mt_t1 (by omega), nI_clamp (n := j) (by omega)]
    refine br_c (fun e => ⟨vp_in_nI (by omega) (by omega), nm_e (nm_r (nI_1 j) (ih (j + 1) _ (by omega) ?_))⟩) (fun e => nm_r (nI_1 j) (ih (j + 1) _ (by omega) (mt_PI_no h e)))
    exact mt_PI_yes ok (by omega) h (h.1 _ (by omega) e)
theorem mx_re9 {post : Int32 → Prop} {s : Nat} (ok : mt_Ok a) (hp : ∀ z, mt_Fx a s z → post z) :
    ∀ d n x2 x3, n + d = 16 → mt_RI a s x2 n → (x2 = x3 → mt_Cl a x2) → wX_reach_9 post rd rn wl a o g l (d + 1) x2 x3 (nI n) := by
  intro d
  induction d with
  | zero =>
    intro n x2 x3 hn h _
    exact pk_le 16 n (fun _ => hp x2 (mt_RI_16 (by omega) h)) (fun h => by omega)
  | succ d ih =>
    intro n x2 x3 hn h hc
    refine pk_le 16 n (fun h => by omega) (fun _ => ?_)
    refine br_c (fun e => hp x2 ⟨h.1, hc e⟩) (fun e => ⟨49, ?_⟩)
    refine mx_re26 (s := s) ok (fun c hP => ?_) 48 0 x2 rfl (mt_PI_0 h.1)
    have u := mt_RI_up ok h hP
    exact ih (n + 1) c x2 (by omega) u.1 u.2
theorem mx_reach {post : Int32 → Prop} {s : Nat} (ok : mt_Ok a) (hs : s < 16) (hp : ∀ z, mt_Fx a s z → post z) : wpX_reach post (rd, rn, wl, a, o, g, l) (nI s) := by
  unfold wpX_reach
  dsimp only
  refine nm_e ⟨17, mx_re9 ok hp 16 0 _ 0 rfl (mt_RI_0 hs) (fun e => ?_)⟩
  have h := (mt_RI_0 (a := a) hs).1.1
  rw [e, b_0] at h
  exact absurd h (by decide)
theorem mx_rk68 {post : Int32 → SX → Prop} {z : Int32} (hp : post (mt_sm z 16) (rd, rn, wl, a, o, g, l)) :
    ∀ d s, s + d = 16 → wX_reachableKinds_68 post z rd rn wl a o g l (d + 1) (mt_sm z s) (nI s) := by
  intro d
  induction d with
  | zero =>
    intro s hs
    rw [show s = 16 by omega]
    exact pk_le 16 16 (fun _ => hp) (fun h => by omega)
  | succ d ih =>
    intro s hs
    refine pk_le 16 s (fun h => by omega) (fun _ => ?_)
    exact nm_e (nm_r (nI_1 s) (ih (s + 1) (by omega)))
theorem mx_rk24 {post : Int32 → SX → Prop} {R : Nat} {z : Int32} (hP : mt_Pr a o g R) (hp : post (mt_sm (mt_fo a o R z 16) 16) (rd, nI R, wl, a, o, g, l)) :
    ∀ d s, s + d = 16 → wX_reachableKinds_24 post z rd (nI R) wl a o g l (d + 1) (mt_fo a o R z s) (nI s) := by
  have hR := hP.1
  intro d
  induction d with
  | zero =>
    intro s hs
    rw [show s = 16 by omega]
    exact pk_le 16 16 (fun _ => ⟨17, mx_rk68 hp 16 0 rfl⟩) (fun h => by omega)
  | succ d ih =>
    intro s hs
    refine pk_le 16 s (fun h => by omega) (fun _ => ?_)
    rw [mt_t1 (by omega)]
    refine br_c (fun e => mx_groupOf (by omega) (by omega) ?_) (fun e => nm_r (nI_1 s) ?_)
    · rw [hP.2.1 R (Nat.le_refl R) s (by omega)]
      refine nm_e (nm_r (nI_1 s) ?_)
      rw [← mt_fo_t e]
      exact ih (s + 1) (by omega)
    · rw [← mt_fo_f (a := a) (o := o) (R := R) e]
      exact ih (s + 1) (by omega)
theorem mx_kn8 {post : Int32 → SX → Prop} {R : Nat} (hP : mt_Pr a o g R) (hp : post (nI (mt_cn (fun s => mt_G a o R s == s) 16)) (rd, nI R, wl, a, o, g, l)) :
    ∀ d s, s + d = 16 → wX_kinds_8 post rd (nI R) wl a o g l (d + 1) (nI (mt_cn (fun s => mt_G a o R s == s) s)) (nI s) := by
  have hR := hP.1
  intro d
  induction d with
  | zero =>
    intro s hs
    rw [show s = 16 by omega]
    exact pk_le 16 16 (fun _ => hp) (fun h => by omega)
  | succ d ih =>
    intro s hs
    have K := ih (s + 1) (by omega)
    have hG := mt_G16 (a := a) (o := o) R (s := s) (by omega)
    refine pk_le 16 s (fun h => by omega) (fun _ => mx_groupOf (by omega) (by omega) ?_)
    rw [hP.2.1 R (Nat.le_refl R) s (by omega)]
    refine pk_eq (mt_G a o R s) s (fun e => ?_) (fun e => ?_)
    · have e2 : mt_cn (fun s => mt_G a o R s == s) (s + 1) = mt_cn (fun s => mt_G a o R s == s) s + 1 := by
        show _ + (if (mt_G a o R s == s) = true then 1 else 0) = _
        rw [if_pos (beq_iff_eq.mpr e)]
      rw [e2] at K
      exact nm_r (nI_1 _) (nm_r (nI_1 s) K)
    · have e2 : mt_cn (fun s => mt_G a o R s == s) (s + 1) = mt_cn (fun s => mt_G a o R s == s) s := by
        show _ + (if (mt_G a o R s == s) = true then 1 else 0) = _
        rw [if_neg (fun z => e (beq_iff_eq.mp z)), Nat.add_zero]
      rw [e2] at K
      exact nm_r (nI_1 s) K
end
end
section
/-! Y's search, the pure part: W j is the word by which the search came to the pair j -/
def mt_pc (a : Nat → Int32) (x y : Nat) (w : List Nat) : Nat := mt_r a w x * 16 + mt_r a w y
def mt_Q (a : Nat → Int32) (x y pc : Nat) (W : Nat → List Nat) (P F B K : Nat → Int32) : Prop :=
  (0 < pc ∧ W 0 = [] ∧ F 0 = -1) ∧
  (∀ j, j < pc → mt_D (W j) ∧ P j = nI (mt_pc a x y (W j))) ∧
  (∀ j, 0 < j → j < pc → ∃ f b, f < j ∧ b < 3 ∧ F j = nI f ∧ B j = nI b ∧ W j = W f ++ [b]) ∧
  (∀ c, c < 256 → (¬ K c = 0 ↔ ∃ j, j < pc ∧ mt_pc a x y (W j) = c)) ∧
  mt_cn (fun c => !(K c == 0)) 256 = pc ∧
  (∀ i j, i < j → j < pc → mt_c (W i) 1 < mt_c (W j) 1)
def mt_V (a o : Nat → Int32) (x y pc : Nat) (W : Nat → List Nat) (k i : Nat) : Prop :=
  ∀ j b, j < pc → b < 3 → (j < k ∨ (j = k ∧ b < i)) → o (mt_r a (W j) x * 3 + b) = o (mt_r a (W j) y * 3 + b) ∧
    ∃ m, m < pc ∧ mt_r a (W m) x = mt_st a (mt_r a (W j) x) b ∧ mt_r a (W m) y = mt_st a (mt_r a (W j) y) b ∧ mt_c (W m) 1 ≤ 3 * mt_c (W j) 1 + b
def mt_O (pc : Nat) (W : Nat → List Nat) (k i : Nat) : Prop := ∀ j, j < pc → mt_c (W j) 1 < 3 * mt_c (W k) 1 + i
def mt_W (W : Nat → List Nat) (pc : Nat) (w : List Nat) : Nat → List Nat := fun j => if j = pc then w else W j
theorem mt_W_s (W : Nat → List Nat) (pc : Nat) (w : List Nat) : mt_W W pc w pc = w := if_pos rfl
theorem mt_W_n {W : Nat → List Nat} {pc j : Nat} {w : List Nat} (h : j ≠ pc) : mt_W W pc w j = W j := if_neg h
theorem mt_kb {z : Int32} (h : z = 0) : (!(z == 0)) = false := by rw [h]; rfl
theorem mt_kt {z : Int32} (h : ¬ z = 0) : (!(z == 0)) = true := by rw [beq_false_of_ne h]; rfl
section
variable {a o P F B K : Nat → Int32} {x y pc k i : Nat} {W : Nat → List Nat}
theorem mt_Q_256 (h : mt_Q a x y pc W P F B K) : pc ≤ 256 := by
  have e := mt_cn_le (fun c => !(K c == 0)) 256
  have f := h.2.2.2.2.1
  omega
theorem mt_Q_len (h : mt_Q a x y pc W P F B K) : ∀ j, j < pc → (W j).length ≤ j := by
  intro j
  induction j using Nat.strongRecOn with
  | ind j ih =>
    intro hj
    by_cases z : j = 0
    · rw [z, h.1.2.1]; exact Nat.le_refl 0
    · obtain ⟨f, b, hf, hb, _, _, e⟩ := h.2.2.1 j (by omega) hj
      have g := ih f hf (by omega)
      rw [e, List.length_append]
      show (W f).length + 1 ≤ j
      omega
theorem mt_V_old (ok : mt_Ok a) (hx : x < 16) (hy : y < 16) (hQ : mt_Q a x y pc W P F B K) (hV : mt_V a o x y pc W k i) (hO : mt_O pc W k i) (hk : k < pc)
    (ho : o (mt_r a (W k) x * 3 + i) = o (mt_r a (W k) y * 3 + i))
    (hK : ¬ K (mt_st a (mt_r a (W k) x) i * 16 + mt_st a (mt_r a (W k) y) i) = 0) : mt_V a o x y pc W k (i + 1) ∧ mt_O pc W k (i + 1) := by
  have h1 := (mt_ok_st ok (mt_r a (W k) x) i).1
  have h2 := (mt_ok_st ok (mt_r a (W k) y) i).1
  refine ⟨fun j b hj hb hjb => ?_, fun j hj => Nat.lt_succ_of_lt (hO j hj)⟩
  by_cases z : j = k ∧ b = i
  · obtain ⟨rfl, rfl⟩ := z
    refine ⟨ho, ?_⟩
    obtain ⟨m, hm, e⟩ := (hQ.2.2.2.1 _ (by omega)).mp hK
    have h3 := mt_r_lt ok (W m) y hy
    unfold mt_pc at e
    exact ⟨m, hm, by omega, by omega, Nat.le_of_lt (hO m hm)⟩
  · exact hV j b hj hb (by omega)
theorem mt_Q_new (ok : mt_Ok a) (hx : x < 16) (hy : y < 16) (hQ : mt_Q a x y pc W P F B K) (hV : mt_V a o x y pc W k i) (hO : mt_O pc W k i) (hk : k < pc) (hi : i < 3)
    (ho : o (mt_r a (W k) x * 3 + i) = o (mt_r a (W k) y * 3 + i)) {c : Nat} (hc : mt_st a (mt_r a (W k) x) i * 16 + mt_st a (mt_r a (W k) y) i = c)
    (hK : K c = 0) : pc < 256 ∧ mt_Q a x y (pc + 1) (mt_W W pc (W k ++ [i])) (upd P pc (nI c)) (upd F pc (nI k)) (upd B pc (nI i)) (upd K c 1) ∧
      mt_V a o x y (pc + 1) (mt_W W pc (W k ++ [i])) k (i + 1) ∧ mt_O (pc + 1) (mt_W W pc (W k ++ [i])) k (i + 1) := by
  have h1 := (mt_ok_st ok (mt_r a (W k) x) i).1
  have h2 := (mt_ok_st ok (mt_r a (W k) y) i).1
  have hc256 : c < 256 := by omega
  have ec : mt_pc a x y (W k ++ [i]) = c := by
    unfold mt_pc
    rw [mt_r_app, mt_r_app]
    exact hc
  have h256 : pc < 256 := by
    have e := mt_cn_full (p := fun c => !(K c == 0)) (mt_kb hK) 256 hc256
    have f := hQ.2.2.2.2.1
    omega
  obtain ⟨⟨q1, q2, q3⟩, q4, q5, q6, q7, q8⟩ := hQ
  have hWk : mt_W W pc (W k ++ [i]) k = W k := mt_W_n (by omega)
  refine ⟨h256, ⟨⟨by omega, ?_, ?_⟩, ?_, ?_, ?_, ?_, ?_⟩, ?_, ?_⟩
  · rw [mt_W_n (by omega)]; exact q2
  · rw [pk_un (by omega)]; exact q3
  · intro j hj
    by_cases z : j = pc
    · rw [z, mt_W_s, pk_us, ec]
      exact ⟨mt_D_app.mpr ⟨(q4 k hk).1, hi⟩, rfl⟩
    · rw [mt_W_n z, pk_un z]
      exact q4 j (by omega)
  · intro j h0 hj
    by_cases z : j = pc
    · rw [z, mt_W_s, pk_us, pk_us]
      exact ⟨k, i, hk, hi, rfl, rfl, by rw [hWk]⟩
    · obtain ⟨f, b, e1, e2, e3, e4, e5⟩ := q5 j h0 (by omega)
      refine ⟨f, b, e1, e2, ?_, ?_, ?_⟩
      · rw [pk_un z]; exact e3
      · rw [pk_un z]; exact e4
      · rw [mt_W_n z, mt_W_n (by omega)]; exact e5
  · intro d hd
    by_cases z : d = c
    · rw [z, pk_us]
      refine ⟨fun _ => ⟨pc, by omega, by rw [mt_W_s]; exact ec⟩, fun _ => by decide⟩
    · rw [pk_un z, q6 d hd]
      constructor
      · intro ⟨j, hj, e⟩
        exact ⟨j, by omega, by rw [mt_W_n (by omega)]; exact e⟩
      · intro ⟨j, hj, e⟩
        by_cases z2 : j = pc
        · rw [z2, mt_W_s, ec] at e
          exact absurd e.symm z
        · rw [mt_W_n z2] at e
          exact ⟨j, by omega, e⟩
  · rw [mt_cn_put (p := fun c => !(K c == 0)) (q := fun d => !(upd K c 1 d == 0)) (s := c) (mt_kb hK) (mt_kt (by rw [pk_us]; decide)) 256 hc256 (fun t _ ht => by show (!(upd K c 1 t == 0)) = _; rw [pk_un ht])]
    rw [q7]
  · intro m j hm hj
    rw [mt_W_n (W := W) (j := m) (by omega)]
    by_cases z : j = pc
    · rw [z, mt_W_s, mt_c_app]
      exact hO m (by omega)
    · rw [mt_W_n z]
      exact q8 m j hm (by omega)
  · intro j b hj hb hjb
    have hjp : j ≠ pc := by omega
    rw [mt_W_n hjp]
    by_cases z : j = k ∧ b = i
    · obtain ⟨rfl, rfl⟩ := z
      refine ⟨ho, pc, by omega, ?_, ?_, ?_⟩
      · rw [mt_W_s, mt_r_app]
      · rw [mt_W_s, mt_r_app]
      · rw [mt_W_s, mt_c_app]; exact Nat.le_refl _
    · obtain ⟨e1, m, e2, e3, e4, e5⟩ := hV j b (by omega) hb (by omega)
      refine ⟨e1, m, by omega, ?_⟩
      rw [mt_W_n (by omega)]
      exact ⟨e3, e4, e5⟩
  · intro j hj
    rw [hWk]
    by_cases z : j = pc
    · rw [z, mt_W_s, mt_c_app]; omega
    · rw [mt_W_n z]
      exact Nat.lt_succ_of_lt (hO j (by omega))
theorem mt_Q_1 (hx : x < 16) (hy : y < 16) (hK : ∀ c, c < 256 → K c = 0) (b : Int32) : mt_Q a x y 1 (fun _ => []) (upd P 0 (nI (x * 16 + y))) (upd F 0 (-1)) (upd B 0 b) (upd K (x * 16 + y) 1) := by
  have hc : x * 16 + y < 256 := by omega
  refine ⟨⟨by omega, rfl, pk_us⟩, fun j hj => ?_, fun j h0 hj => by omega, fun c hc => ?_, ?_, fun i j hi hj => by omega⟩
  · rw [show j = 0 by omega, pk_us]
    exact ⟨fun i hi => absurd hi (List.not_mem_nil), rfl⟩
  · by_cases z : c = x * 16 + y
    · rw [z, pk_us]
      exact ⟨fun _ => ⟨0, by omega, rfl⟩, fun _ => by decide⟩
    · rw [pk_un z, hK c hc]
      constructor
      · intro h; exact absurd rfl h
      · intro ⟨j, hj, e⟩
        exact absurd e.symm z
  · rw [mt_cn_put (p := fun c => !(K c == 0)) (q := fun d => !(upd K (x * 16 + y) 1 d == 0)) (s := x * 16 + y) (mt_kb (hK _ hc)) (mt_kt (by rw [pk_us]; decide)) 256 hc (fun t _ ht => by show (!(upd K (x * 16 + y) 1 t == 0)) = _; rw [pk_un ht])]
    rw [mt_cn_none 256 (fun s hs => mt_kb (hK s hs))]
theorem mt_Q_reach (hQ : mt_Q a x y pc W P F B K) (hV : mt_V a o x y pc W k i) (hk : k < pc) :
    ∀ v, mt_D v → (∃ m, m < pc ∧ mt_r a (W m) x = mt_r a v x ∧ mt_r a (W m) y = mt_r a v y ∧ mt_c (W m) 1 ≤ mt_c v 1) ∨ mt_c (W k) 1 < mt_c v 1 := by
  refine mt_snoc ?_ ?_
  · intro _
    refine Or.inl ⟨0, hQ.1.1, ?_⟩
    rw [hQ.1.2.1]
    exact ⟨rfl, rfl, Nat.le_refl _⟩
  · intro v b ih hD
    obtain ⟨hv, hb⟩ := mt_D_app.mp hD
    have pos := mt_c_pos (W k) 1 (Nat.le_refl 1)
    rw [mt_c_app, mt_r_app, mt_r_app]
    rcases ih hv with ⟨m, hm, e1, e2, e3⟩ | h
    · by_cases z : m < k ∨ (m = k ∧ b < i)
      · obtain ⟨_, m', f1, f2, f3, f4⟩ := hV m b hm hb z
        refine Or.inl ⟨m', f1, ?_, ?_, by omega⟩
        · rw [f2, e1]
        · rw [f3, e2]
      · right
        by_cases z2 : m = k
        · rw [z2] at e3; omega
        · have g := hQ.2.2.2.2.2 k m (by omega) hm
          omega
    · right; omega
theorem mt_found (hQ : mt_Q a x y pc W P F B K) (hV : mt_V a o x y pc W k i) (hk : k < pc) (hi : i < 3)
    (ho : ¬ o (mt_r a (W k) x * 3 + i) = o (mt_r a (W k) y * 3 + i)) : mt_M a o x y (W k ++ [i]) := by
  refine ⟨(mt_T_app i (W k) x y).mpr ⟨(hQ.2.1 k hk).1, hi, ho⟩, fun v hv => ?_⟩
  rcases mt_nil_or v with rfl | ⟨u, b, rfl⟩
  · exact hv.elim
  · obtain ⟨hu, hb, hd⟩ := (mt_T_app b u x y).mp hv
    rw [mt_c_app, mt_c_app]
    rcases mt_Q_reach hQ hV hk u hu with ⟨m, hm, e1, e2, e3⟩ | h
    · by_cases z : m < k ∨ (m = k ∧ b < i)
      · have f := (hV m b hm hb z).1
        rw [e1, e2] at f
        exact absurd f hd
      · by_cases z2 : m = k
        · rw [z2] at e3; omega
        · have g := hQ.2.2.2.2.2 k m (by omega) hm
          omega
    · omega
theorem mt_none (hQ : mt_Q a x y pc W P F B K) (hV : mt_V a o x y pc W pc 0) : ∀ w, ¬ mt_T a o w x y := by
  have H : ∀ v, mt_D v → ∃ m, m < pc ∧ mt_r a (W m) x = mt_r a v x ∧ mt_r a (W m) y = mt_r a v y := by
    refine mt_snoc ?_ ?_
    · intro _
      refine ⟨0, hQ.1.1, ?_⟩
      rw [hQ.1.2.1]
      exact ⟨rfl, rfl⟩
    · intro v b ih hD
      obtain ⟨hv, hb⟩ := mt_D_app.mp hD
      rw [mt_r_app, mt_r_app]
      obtain ⟨m, hm, e1, e2⟩ := ih hv
      obtain ⟨_, m', f1, f2, f3, _⟩ := hV m b hm hb (Or.inl hm)
      refine ⟨m', f1, ?_, ?_⟩
      · rw [f2, e1]
      · rw [f3, e2]
  intro w hw
  rcases mt_nil_or w with rfl | ⟨u, b, rfl⟩
  · exact hw.elim
  · obtain ⟨hu, hb, hd⟩ := (mt_T_app b u x y).mp hw
    obtain ⟨m, hm, e1, e2⟩ := H u hu
    have f := (hV m b hm hb (Or.inl hm)).1
    rw [e1, e2] at f
    exact hd f
end
end
section
/-! Y: come, spell, search -/
theorem mw_nb0 : vp_nar .boolean 0 = 0 := rfl
theorem mw_nb1 : vp_nar .boolean 1 = 1 := rfl
/-- what a search leaves: the answer word w, its last letter first in Z -/
def mt_S (a o : Nat → Int32) (x y : Nat) (w : List Nat) (Z : Nat → Int32) : Prop := mt_A a o x y w ∧ w.length ≤ 256 ∧ ∀ i, i < w.length → Z (w.length - 1 - i) = nI (w.getD i 0)
section
variable {a o P F B K Z : Nat → Int32} {x y pc k i : Nat} {W : Nat → List Nat} {post : Int32 → SY → Prop}
theorem my_come_new {post : SY → Prop} {p q : Nat} {f b : Int32} (hp : p < 16) (hq : q < 16) (hc : pc < 256) (hK : K (p * 16 + q) = 0)
    (h : post (nI (pc + 1), a, o, upd P pc (nI (p * 16 + q)), upd F pc f, upd B pc b, upd K (p * 16 + q) 1, Z)) : wpY_come post (nI pc, a, o, P, F, B, K, Z) (nI p) (nI q) f b := by
  unfold wpY_come
  dsimp only
  rw [mw_16, nI_clamp (n := p * 16 + q) (by omega), nI_clamp (n := pc) (by omega), mw_nb1]
  have h1 : vp_in (nI (p * 16 + q)) 256 := vp_in_nI (by omega) (by omega)
  have h2 : vp_in (nI pc) 256 := vp_in_nI (by omega) (by omega)
  exact ⟨h1, br_t hK ⟨h1, nm_e ⟨h2, nm_e ⟨h2, nm_e ⟨h2, nm_e (nm_r (nI_1 pc) h)⟩⟩⟩⟩⟩
theorem my_come_old {post : SY → Prop} {p q : Nat} {f b c : Int32} (hp : p < 16) (hq : q < 16) (hK : ¬ K (p * 16 + q) = 0)
    (h : post (c, a, o, P, F, B, K, Z)) : wpY_come post (c, a, o, P, F, B, K, Z) (nI p) (nI q) f b := by
  unfold wpY_come
  dsimp only
  rw [mw_16, nI_clamp (n := p * 16 + q) (by omega)]
  exact ⟨vp_in_nI (by omega) (by omega), br_f hK h⟩
theorem my_sp12 {w : List Nat} (hQ : mt_Q a x y pc W P F B K) (hw : w.length ≤ 256)
    (hp : ∀ Z', (∀ i, i < w.length → Z' (w.length - 1 - i) = nI (w.getD i 0)) → post (nI w.length) (nI pc, a, o, P, F, B, K, Z')) :
    ∀ n k v Z, k < n → k < pc → w = W k ++ v → 1 ≤ v.length → (∀ i, i < v.length → Z (v.length - 1 - i) = nI (v.getD i 0)) → wY_spell_12 post (nI pc) n (nI v.length) (nI k) a o P F B K Z := by
  have h256 := mt_Q_256 hQ
  intro n
  induction n with
  | zero => intro k v Z h; omega
  | succ n ih =>
    intro k v Z hn hk e h1 H
    refine ⟨vp_in_nI (by omega) (by omega), ?_⟩
    rw [nI_clamp (n := k) (by omega)]
    by_cases z : k = 0
    · have e2 : w = v := by rw [e, z, hQ.1.2.1]; rfl
      rw [z, hQ.1.2.2]
      refine br_t (by decide) ?_
      rw [← e2]
      rw [← e2] at H
      exact hp Z H
    · obtain ⟨f, b, hf, hb, e1, e3, e4⟩ := hQ.2.2.1 k (by omega) hk
      have el : w.length = (W f).length + 1 + v.length := by rw [e, e4, List.length_append, List.length_append]; rfl
      rw [e1, e3]
      refine br_f (nI_pos (by omega)) (pk_le 256 v.length (fun h => by omega) (fun _ => ?_))
      rw [nI_clamp (n := v.length) (by omega)]
      refine ⟨vp_in_nI (by omega) (by omega), vp_in_nI (by omega) (by omega), nm_e (nm_r (nI_1 v.length) ⟨vp_in_nI (by omega) (by omega), nm_e ?_⟩)⟩
      refine ih f (b :: v) _ (by omega) (by omega) (by rw [e, e4, List.append_assoc]; rfl) (Nat.succ_le_succ (Nat.zero_le _)) (fun i hi => ?_)
      have hi2 : i < v.length + 1 := hi
      show upd Z v.length (nI b) (v.length + 1 - 1 - i) = nI ((b :: v).getD i 0)
      match i with
      | 0 => exact pk_us
      | j + 1 =>
        rw [pk_un (by omega), show v.length + 1 - 1 - (j + 1) = v.length - 1 - j by omega]
        exact H j (by omega)
theorem my_spell (hQ : mt_Q a x y pc W P F B K) (hV : mt_V a o x y pc W k i) (hk : k < pc) (hi : i < 3)
    (ho : ¬ o (mt_r a (W k) x * 3 + i) = o (mt_r a (W k) y * 3 + i))
    (hp : ∀ w c P F B K Z, mt_S a o x y w Z → post (nI w.length) (c, a, o, P, F, B, K, Z)) : wpY_spell post (nI pc, a, o, P, F, B, K, Z) (nI k) (nI i) := by
  unfold wpY_spell
  dsimp only
  have hM := mt_found hQ hV hk hi ho
  have hl : (W k ++ [i]).length ≤ 256 := by
    have h1 := mt_Q_len hQ k hk
    have h2 := mt_Q_256 hQ
    rw [List.length_append]
    show (W k).length + 1 ≤ 256
    omega
  refine nm_e ⟨k + 1, ?_⟩
  refine my_sp12 hQ hl (fun Z' hZ => hp _ _ _ _ _ _ _ ⟨Or.inr hM, hl, hZ⟩) (k + 1) k [i] _ (by omega) hk rfl (Nat.le_refl 1) (fun j hj => ?_)
  have hj2 : j < 1 := hj
  rw [show j = 0 by omega]
  exact pk_us
theorem my_74 {J : Int32 → Int32 → (Nat → Int32) → (Nat → Int32) → (Nat → Int32) → (Nat → Int32) → (Nat → Int32) → (Nat → Int32) → (Nat → Int32) → Prop} {p q : Nat} (ok : mt_Ok a) (hx : x < 16) (hy : y < 16)
    (hp : ∀ w c P F B K Z, mt_S a o x y w Z → post (nI w.length) (c, a, o, P, F, B, K, Z))
    (hJ : ∀ pc W P F B K, mt_Q a x y pc W P F B K → mt_V a o x y pc W k 3 → mt_O pc W k 3 → k < pc → J (nI (k + 1)) (nI pc) a o P F B K Z) :
    ∀ d i pc W P F B K, i + d = 3 → mt_Q a x y pc W P F B K → mt_V a o x y pc W k i → mt_O pc W k i → k < pc → mt_r a (W k) x = p → mt_r a (W k) y = q →
      wY_search_74 post J (nI k) (nI (p * 3)) (nI (q * 3)) (d + 1) (nI i) (nI pc) a o P F B K Z := by
  intro d
  induction d with
  | zero =>
    intro i pc W P F B K hi hQ hV hO hk ep eq
    have e : i = 3 := by omega
    subst e
    exact pk_le 3 3 (fun _ => nm_r (nI_1 k) (hJ pc W P F B K hQ hV hO hk)) (fun h => by omega)
  | succ d ih =>
    intro i pc W P F B K hi hQ hV hO hk ep eq
    have p16 : p < 16 := by rw [← ep]; exact mt_r_lt ok _ _ hx
    have q16 : q < 16 := by rw [← eq]; exact mt_r_lt ok _ _ hy
    refine pk_le 3 i (fun h => by omega) (fun _ => ?_)
    rw [nI_add, nI_add, nI_clamp (n := p * 3 + i) (by omega), nI_clamp (n := q * 3 + i) (by omega)]
    have v1 : vp_in (nI (p * 3 + i)) 48 := vp_in_nI (by omega) (by omega)
    have v2 : vp_in (nI (q * 3 + i)) 48 := vp_in_nI (by omega) (by omega)
    refine ⟨v1, v2, br_c (fun ho => ⟨v1, v2, ?_⟩) (fun ho => ?_)⟩
    · rw [← ep, ← eq] at ho
      have s1 := mt_ok_st ok p i
      have s2 := mt_ok_st ok q i
      rw [s1.2, s2.2]
      by_cases hK : K (mt_st a p i * 16 + mt_st a q i) = 0
      · have N := mt_Q_new ok hx hy hQ hV hO hk (by omega) ho (c := mt_st a p i * 16 + mt_st a q i) (by rw [ep, eq]) hK
        refine my_come_new s1.1 s2.1 N.1 hK (nm_r (nI_1 i) ?_)
        have hWk : mt_W W pc (W k ++ [i]) k = W k := mt_W_n (by omega)
        exact ih (i + 1) (pc + 1) _ _ _ _ _ (by omega) N.2.1 N.2.2.1 N.2.2.2 (by omega) (by rw [hWk]; exact ep) (by rw [hWk]; exact eq)
      · have N := mt_V_old ok hx hy hQ hV hO hk ho (by rw [ep, eq]; exact hK)
        refine my_come_old s1.1 s2.1 hK (nm_r (nI_1 i) ?_)
        exact ih (i + 1) pc W P F B K (by omega) hQ N.1 N.2 hk ep eq
    · rw [← ep, ← eq] at ho
      exact my_spell hQ hV hk (by omega) ho hp
theorem my_37 (ok : mt_Ok a) (hx : x < 16) (hy : y < 16)
    (hp : ∀ w c P F B K Z, mt_S a o x y w Z → post (nI w.length) (c, a, o, P, F, B, K, Z)) :
    ∀ d k pc W P F B K, k + d = 256 → mt_Q a x y pc W P F B K → mt_V a o x y pc W k 0 → k ≤ pc → (k < pc → mt_O pc W k 0) →
      wY_search_37 post (d + 1) (nI k) (nI pc) a o P F B K Z := by
  intro d
  induction d with
  | zero =>
    intro k pc W P F B K hd hQ hV hk hO
    have h256 := mt_Q_256 hQ
    have e : k = pc := by omega
    refine pk_le pc k (fun _ => ?_) (fun h => by omega)
    refine hp [] _ _ _ _ _ _ ⟨Or.inl ⟨rfl, mt_none hQ (by rw [← e] at hV ⊢; exact hV)⟩, Nat.zero_le _, fun i hi => absurd hi (Nat.not_lt_zero i)⟩
  | succ d ih =>
    intro k pc W P F B K hd hQ hV hk hO
    have h256 := mt_Q_256 hQ
    refine pk_le pc k (fun h => ?_) (fun h => ?_)
    · have e : k = pc := by omega
      rw [e] at hV
      refine hp [] _ _ _ _ _ _ ⟨Or.inl ⟨rfl, mt_none hQ hV⟩, Nat.zero_le _, fun i hi => absurd hi (Nat.not_lt_zero i)⟩
    · have p16 := mt_r_lt ok (W k) x hx
      have q16 := mt_r_lt ok (W k) y hy
      have eP := (hQ.2.1 k h).2
      unfold mt_pc at eP
      have ed : nI (mt_r a (W k) x * 16 + mt_r a (W k) y) / 16 = nI (mt_r a (W k) x) := by
        have e := pk_div (a := mt_r a (W k) x * 16 + mt_r a (W k) y) (d := 16) (by omega) (by omega) (by omega)
        rw [show (mt_r a (W k) x * 16 + mt_r a (W k) y) / 16 = mt_r a (W k) x by omega] at e
        exact e
      have er : nI (mt_r a (W k) x * 16 + mt_r a (W k) y) - nI (mt_r a (W k) x) * 16 = nI (mt_r a (W k) y) := by
        show _ - nI (mt_r a (W k) x) * nI 16 = _
        rw [pk_mul, pk_sub (by omega)]
        exact congrArg nI (by omega)
      have m3 : ∀ z, nI z * 3 = nI (z * 3) := fun z => pk_mul z 3
      have vk : vp_in (nI k) 256 := vp_in_nI (by omega) (by omega)
      rw [nI_clamp (n := k) (by omega), eP, ed, er]
      refine ⟨vk, by decide, nm_r (m3 _) ⟨vk, by decide, nm_r (m3 _) ⟨4, ?_⟩⟩⟩
      refine my_74 ok hx hy hp (fun pc' W' P' F' B' K' hQ' hV' hO' hk' => ?_) 3 0 pc W P F B K rfl hQ hV (hO h) h rfl rfl
      refine ih (k + 1) pc' W' P' F' B' K' (by omega) hQ' (fun j b hj hb hjb => hV' j b hj hb (by omega)) (by omega) (fun hk2 j hj => ?_)
      have g1 := hO' j hj
      have g2 := hQ'.2.2.2.2.2 k (k + 1) (by omega) hk2
      omega
theorem my_2 {c : Int32} (ok : mt_Ok a) (hx : x < 16) (hy : y < 16)
    (hp : ∀ w c P F B K Z, mt_S a o x y w Z → post (nI w.length) (c, a, o, P, F, B, K, Z)) :
    ∀ d i K, i + d = 256 → (∀ j, j < i → K j = 0) → wY_search_2 post (nI x) (nI y) c (d + 1) (nI i) a o P F B K Z := by
  intro d
  induction d with
  | zero =>
    intro i K hi H
    refine pk_le 256 i (fun _ => ?_) (fun h => by omega)
    refine my_come_new (pc := 0) hx hy (by omega) (H _ (by omega)) ?_
    refine ⟨257, my_37 ok hx hy hp 256 0 1 (fun _ => []) _ _ _ _ rfl (mt_Q_1 hx hy (fun c hc => H c (by omega)) 0) (fun j b hj hb hjb => by omega) (by omega) (fun _ j hj => ?_)⟩
    show 1 < 3 * 1 + 0
    decide
  | succ d ih =>
    intro i K hi H
    refine pk_le 256 i (fun h => by omega) (fun _ => ⟨vp_in_nI (by omega) (by omega), ?_⟩)
    rw [nI_clamp (n := i) (by omega), mw_nb0]
    refine nm_e (nm_r (nI_1 i) (ih (i + 1) _ (by omega) (fun t ht => ?_)))
    by_cases e : t = i
    · rw [e, pk_us]
    · rw [pk_un e]; exact H t (by omega)
theorem my_search {c : Int32} (ok : mt_Ok a) (hx : x < 16) (hy : y < 16)
    (hp : ∀ w c P F B K Z, mt_S a o x y w Z → post (nI w.length) (c, a, o, P, F, B, K, Z)) : wpY_search post (c, a, o, P, F, B, K, Z) (nI x) (nI y) := by
  unfold wpY_search
  dsimp only
  exact ⟨257, my_2 ok hx hy hp 256 0 K rfl (fun j hj => absurd hj (Nat.not_lt_zero j))⟩
end
end
section
/-! Y: alike, kind, kinds, reachableKinds, depth -/
section
variable {a o P F B K Z : Nat → Int32} {c : Int32} {R x y s : Nat} {post : Int32 → SY → Prop}
theorem my_is {post : Int32 → Prop} (hx : x < 16) (hp : post 1) : wpY_isState post (c, a, o, P, F, B, K, Z) (nI x) := by
  unfold wpY_isState
  exact br_f (nI_pos (by omega)) (pk_le 16 x (fun h => by omega) (fun _ => hp))
theorem my_is0 {post : Int32 → Prop} {p : Int32} (h : p < 0 ∨ nI 16 ≤ p) (hp : post 0) : wpY_isState post (c, a, o, P, F, B, K, Z) p := by
  unfold wpY_isState
  refine br_c (fun _ => hp) (fun hn => br_t ?_ hp)
  rcases h with h | h
  · exact absurd h hn
  · exact h
theorem my_alike (ok : mt_Ok a) (hx : x < 16) (hy : y < 16) (hp1 : (∀ k, mt_E a o k x y) → ∀ c P F B K Z, post 1 (c, a, o, P, F, B, K, Z))
    (hp0 : ¬ (∀ k, mt_E a o k x y) → ∀ c P F B K Z, post 0 (c, a, o, P, F, B, K, Z)) : wpY_alike post (c, a, o, P, F, B, K, Z) (nI x) (nI y) := by
  unfold wpY_alike
  dsimp only
  refine my_is hx (br_f (by decide) (my_is hy (br_f (by decide) ?_)))
  refine my_search ok hx hy (fun w c P F B K Z hS => ?_)
  have h0 := mt_P0 (mt_A_P hS.1)
  have hl := hS.2.1
  refine pk_eq w.length 0 (fun e => hp1 (h0.mp e) _ _ _ _ _ _) (fun e => hp0 (fun z => e (h0.mpr z)) _ _ _ _ _ _)
theorem my_kind12 (ok : mt_Ok a) (hR : mt_St a o R) (hs : s < 16) (hp : ∀ c P F B K Z, post (nI (mt_G a o R s)) (c, a, o, P, F, B, K, Z)) :
    ∀ d t c P F B K Z, t + d = s → (∀ j, j < t → ¬ mt_E a o R j s) → wY_kind_12 post (nI s) (d + 1) (nI t) c a o P F B K Z := by
  intro d
  induction d with
  | zero =>
    intro t c P F B K Z ht H
    have e : mt_G a o R s = t := mt_G_uniq (by rw [show t = s by omega]; exact mt_E_refl _ _) H
    rw [e] at hp
    exact pk_le s t (fun _ => hp _ _ _ _ _ _) (fun h => by omega)
  | succ d ih =>
    intro t c P F B K Z ht H
    refine pk_le s t (fun h => by omega) (fun _ => ?_)
    refine my_alike ok (by omega) hs (fun e c P F B K Z => ?_) (fun e c P F B K Z => ?_)
    · have e2 : mt_G a o R s = t := mt_G_uniq (e R) H
      rw [e2] at hp
      exact br_f (by decide) (hp _ _ _ _ _ _)
    · refine br_t rfl (nm_r (nI_1 t) (ih (t + 1) c P F B K Z (by omega) (fun j hj z => ?_)))
      by_cases q : j = t
      · rw [q] at z
        exact e (hR t s (by omega) hs z)
      · exact H j (by omega) z
theorem my_kind (ok : mt_Ok a) (hR : mt_St a o R) (hs : s < 16) (hp : ∀ c P F B K Z, post (nI (mt_G a o R s)) (c, a, o, P, F, B, K, Z)) : wpY_kind post (c, a, o, P, F, B, K, Z) (nI s) := by
  unfold wpY_kind
  dsimp only
  exact my_is hs (br_f (by decide) ⟨s + 1, my_kind12 ok hR hs hp s 0 c P F B K Z (by omega) (fun j hj => absurd hj (Nat.not_lt_zero j))⟩)
theorem my_kn4 (ok : mt_Ok a) (hR : mt_St a o R) (hp : ∀ c P F B K Z, post (nI (mt_cn (fun s => mt_G a o R s == s) 16)) (c, a, o, P, F, B, K, Z)) :
    ∀ d s c P F B K Z, s + d = 16 → wY_kinds_4 post (d + 1) (nI (mt_cn (fun s => mt_G a o R s == s) s)) (nI s) c a o P F B K Z := by
  intro d
  induction d with
  | zero =>
    intro s c P F B K Z hs
    rw [show s = 16 by omega]
    exact pk_le 16 16 (fun _ => hp _ _ _ _ _ _) (fun h => by omega)
  | succ d ih =>
    intro s c P F B K Z hs
    have hG := mt_G16 (a := a) (o := o) R (s := s) (by omega)
    refine pk_le 16 s (fun h => by omega) (fun _ => my_kind ok hR (by omega) (fun c P F B K Z => ?_))
    have L := ih (s + 1) c P F B K Z (by omega)
    refine pk_eq (mt_G a o R s) s (fun e => ?_) (fun e => ?_)
    · have e2 : mt_cn (fun s => mt_G a o R s == s) (s + 1) = mt_cn (fun s => mt_G a o R s == s) s + 1 := by
        show _ + (if (mt_G a o R s == s) = true then 1 else 0) = _
        rw [if_pos (beq_iff_eq.mpr e)]
      rw [e2] at L
      exact nm_r (nI_1 _) (nm_r (nI_1 s) L)
    · have e2 : mt_cn (fun s => mt_G a o R s == s) (s + 1) = mt_cn (fun s => mt_G a o R s == s) s := by
        show _ + (if (mt_G a o R s == s) = true then 1 else 0) = _
        rw [if_neg (fun z => e (beq_iff_eq.mp z)), Nat.add_zero]
      rw [e2] at L
      exact nm_r (nI_1 s) L
theorem my_rk111 {z : Int32} (hp : post (mt_sm z 16) (c, a, o, P, F, B, K, Z)) :
    ∀ d s, s + d = 16 → wY_reachableKinds_111 post z c a o P F B K Z (d + 1) (mt_sm z s) (nI s) := by
  intro d
  induction d with
  | zero =>
    intro s hs
    rw [show s = 16 by omega]
    exact pk_le 16 16 (fun _ => hp) (fun h => by omega)
  | succ d ih =>
    intro s hs
    refine pk_le 16 s (fun h => by omega) (fun _ => ?_)
    exact nm_e (nm_r (nI_1 s) (ih (s + 1) (by omega)))
theorem my_rk72 {z : Int32} (ok : mt_Ok a) (hR : mt_St a o R) (hp : ∀ c P F B K Z, post (mt_sm (mt_fo a o R z 16) 16) (c, a, o, P, F, B, K, Z)) :
    ∀ d s c P F B K Z, s + d = 16 → wY_reachableKinds_72 post z (d + 1) (mt_fo a o R z s) (nI s) c a o P F B K Z := by
  intro d
  induction d with
  | zero =>
    intro s c P F B K Z hs
    rw [show s = 16 by omega]
    exact pk_le 16 16 (fun _ => ⟨17, my_rk111 (hp _ _ _ _ _ _) 16 0 rfl⟩) (fun h => by omega)
  | succ d ih =>
    intro s c P F B K Z hs
    refine pk_le 16 s (fun h => by omega) (fun _ => ?_)
    rw [mt_t0 (by omega)]
    refine br_c (fun e => nm_r (nI_1 s) ?_) (fun e => my_kind ok hR (by omega) (fun c P F B K Z => nm_e (nm_r (nI_1 s) ?_)))
    · rw [← mt_fo_f (a := a) (o := o) (R := R) e]
      exact ih (s + 1) c P F B K Z (by omega)
    · rw [← mt_fo_t (Classical.byContradiction e)]
      exact ih (s + 1) c P F B K Z (by omega)
theorem my_rk25 {J : Int32 → Int32 → Prop} {k : Nat} {b : Int32} (ok : mt_Ok a) (hp : ∀ w, mt_PI a s b w 48 → J w (nI (k + 1))) :
    ∀ d j w, j + d = 48 → mt_PI a s b w j → wY_reachableKinds_25 post J (nI k) c a o P F B K Z (d + 1) w (nI j) := by
  intro d
  induction d with
  | zero =>
    intro j w hj h
    rw [show j = 48 by omega] at h ⊢
    exact pk_le 48 48 (fun _ => nm_r (nI_1 k) (hp w h)) (fun h => by omega)
  | succ d ih =>
    intro j w hj h
    refine pk_le 48 j (fun h => by omega) (fun _ => ⟨by decide, ?_⟩)
    rw [mw_d3 (by omega), mt_t0 (by omega), nI_clamp (n := j) (by omega)]
    refine br_c (fun e => nm_r (nI_1 j) (ih (j + 1) _ (by omega) (mt_PI_no h (fun z => e (h.1 _ (by omega) z))))) (fun e => ⟨vp_in_nI (by omega) (by omega), nm_e (nm_r (nI_1 j) (ih (j + 1) _ (by omega) ?_))⟩)
    exact mt_PI_yes ok (by omega) h (Classical.byContradiction e)
theorem my_rk16 (ok : mt_Ok a) (hR : mt_St a o R) (hp : ∀ z, mt_Fx a s z → ∀ c P F B K Z, post (mt_sm (mt_fo a o R z 16) 16) (c, a, o, P, F, B, K, Z)) :
    ∀ d n w, n + d = 16 → mt_RI a s w n → wY_reachableKinds_16 post c a o P F B K Z (d + 1) w (nI n) := by
  intro d
  induction d with
  | zero =>
    intro n w hn h
    exact pk_le 16 n (fun _ => ⟨17, my_rk72 ok hR (hp w (mt_RI_16 (by omega) h)) 16 0 c P F B K Z rfl⟩) (fun h => by omega)
  | succ d ih =>
    intro n w hn h
    refine pk_le 16 n (fun h => by omega) (fun _ => ⟨49, ?_⟩)
    refine my_rk25 (s := s) (b := w) ok (fun v hP => ?_) 48 0 w rfl (mt_PI_0 h.1)
    exact ih (n + 1) v (by omega) (mt_RI_up ok h hP).1
theorem my_rk (ok : mt_Ok a) (hR : mt_St a o R) (hs : s < 16) (hp : ∀ z, mt_Fx a s z → ∀ c P F B K Z, post (mt_sm (mt_fo a o R z 16) 16) (c, a, o, P, F, B, K, Z)) : wpY_reachableKinds post (c, a, o, P, F, B, K, Z) (nI s) := by
  unfold wpY_reachableKinds
  dsimp only
  exact my_is hs (br_f (by decide) (nm_e ⟨17, my_rk16 ok hR hp 16 0 _ rfl (mt_RI_0 hs)⟩))
/-- depth: the greatest parting round of the pairs so far -/
def mt_DI (a o : Nat → Int32) (R i m : Nat) : Prop := m ≤ R ∧ ∀ j, j < i → j / 16 < j % 16 → ∀ r, mt_P a o (j / 16) (j % 16) r → r ≤ m
theorem my_dp38 {J : Int32 → Int32 → Int32 → (Nat → Int32) → (Nat → Int32) → (Nat → Int32) → (Nat → Int32) → (Nat → Int32) → (Nat → Int32) → (Nat → Int32) → Prop} {m i z M : Nat} (hm : m < 2 ^ 31) (hz : z < 2 ^ 31) (hM : M = if z ≤ m then m else z) (h : J (nI M) (nI (i + 1)) c a o P F B K Z) :
    wY_depth_38 post J (nI m) (nI i) (nI z) c a o P F B K Z := by
  unfold wY_depth_38
  refine pk_le z m (fun e => nm_r (nI_1 i) ?_) (fun e => nm_r (nI_1 i) ?_)
  · rw [hM, if_pos e] at h; exact h
  · rw [hM, if_neg (by omega)] at h; exact h
theorem my_dp4 (ok : mt_Ok a) (hR : mt_St a o R) (h15 : R ≤ 15) (hp : ∀ m, mt_DI a o R 256 m → ∀ c P F B K Z, post (nI m) (c, a, o, P, F, B, K, Z)) :
    ∀ d i m c P F B K Z, i + d = 256 → mt_DI a o R i m → wY_depth_4 post (d + 1) (nI m) (nI i) c a o P F B K Z := by
  intro d
  induction d with
  | zero =>
    intro i m c P F B K Z hi h
    rw [show i = 256 by omega] at h ⊢
    exact pk_le 256 256 (fun _ => hp m h _ _ _ _ _ _) (fun h => by omega)
  | succ d ih =>
    intro i m c P F B K Z hi h
    have hm := h.1
    refine pk_le 256 i (fun h => by omega) (fun _ => ⟨by decide, by decide, ?_⟩)
    have ed : nI i / 16 = nI (i / 16) := pk_div (a := i) (d := 16) (by omega) (by omega) (by omega)
    have er : nI i - nI i / 16 * 16 = nI (i % 16) := pk_rem (a := i) (d := 16) (by omega) (by omega) (by omega)
    rw [er, ed]
    refine pk_le (i % 16) (i / 16) (fun e => ?_) (fun e => ⟨by decide, by decide, ?_⟩)
    · refine my_dp38 (z := 0) (M := m) (by omega) (by omega) (by rw [if_pos (Nat.zero_le m)]) ?_
      refine ih (i + 1) m c P F B K Z (by omega) ⟨hm, fun j hj hl r hr => ?_⟩
      by_cases q : j = i
      · rw [q] at hl; omega
      · exact h.2 j (by omega) hl r hr
    · refine my_search ok (by omega) (by omega) (fun w c P F B K Z hS => ?_)
      have hw := mt_P_St hR (by omega) (by omega) (mt_A_P hS.1)
      refine my_dp38 (M := if w.length ≤ m then m else w.length) (by omega) (by omega) rfl ?_
      refine ih (i + 1) _ c P F B K Z (by omega) ⟨by split <;> omega, fun j hj hl r hr => ?_⟩
      by_cases q : j = i
      · rw [q] at hr
        have e2 := mt_P_uniq hr (mt_A_P hS.1)
        split <;> omega
      · have e2 := h.2 j (by omega) hl r hr
        split <;> omega
theorem mt_DI_R (h : mt_DI a o R 256 x) (hS : ∀ q, q < R → mt_Sp a o q) : x = R := by
  have h1 := h.1
  by_cases z : R = 0
  · omega
  · obtain ⟨q, rfl⟩ : ∃ q, R = q + 1 := ⟨R - 1, by omega⟩
    obtain ⟨t, s, hts, hs, e1, e2⟩ := mt_sp_pair (hS q (by omega))
    have g := h.2 (t * 16 + s) (by omega)
    rw [show (t * 16 + s) / 16 = t by omega, show (t * 16 + s) % 16 = s by omega] at g
    have g2 := g hts (q + 1) (Or.inr ⟨by omega, e2, fun k hk => mt_E_le' (by omega) e1⟩)
    omega
theorem my_depth (ok : mt_Ok a) (hR : mt_St a o R) (h15 : R ≤ 15) (hS : ∀ q, q < R → mt_Sp a o q) (hp : ∀ c P F B K Z, post (nI R) (c, a, o, P, F, B, K, Z)) : wpY_depth post (c, a, o, P, F, B, K, Z) := by
  unfold wpY_depth
  dsimp only
  refine ⟨257, my_dp4 ok hR h15 (fun m hm => ?_) 256 0 0 c P F B K Z rfl ⟨Nat.zero_le R, fun j hj => absurd hj (Nat.not_lt_zero j)⟩⟩
  rw [mt_DI_R hm hS]
  exact hp
end
end
section
/-- the relation: the same machine on both sides, next states below 16; if ready, the rounds and rows are those of the machine -/
def i_Rel (_ : Nat) (u : SX) (v : SY) : Prop :=
  ∃ (rd rn wl : Int32) (a o g l : Nat → Int32) (c : Int32) (P F B K Z : Nat → Int32), u = (rd, rn, wl, a, o, g, l) ∧ v = (c, a, o, P, F, B, K, Z) ∧ mt_Ok a ∧ (¬ rd = 0 → ∃ R, rn = nI R ∧ mt_Pr a o g R)
theorem i_up {k : Nat} {u : SX} {v : SY} (h : i_Rel k u v) : i_Rel (k + 4) u v := h
theorem mw_ix (p : Int32) : (p < 0 ∨ nI 16 ≤ p) ∨ ∃ j, j < 16 ∧ p = nI j := by
  rcases pk_ix p (n := 16) (by omega) with h | h | h
  · exact Or.inl (Or.inl h)
  · exact Or.inl (Or.inr h)
  · exact Or.inr h
theorem mw_ix3 (p : Int32) : (p < 0 ∨ nI 3 ≤ p) ∨ ∃ j, j < 3 ∧ p = nI j := by
  rcases pk_ix p (n := 3) (by omega) with h | h | h
  · exact Or.inl (Or.inl h)
  · exact Or.inl (Or.inr h)
  · exact Or.inr h
section
variable {a o g l P F B K Z : Nat → Int32} {rd rn wl c : Int32}
theorem i_mk {k : Nat} (ok : mt_Ok a) (hr : ¬ rd = 0 → ∃ R, rn = nI R ∧ mt_Pr a o g R) : i_Rel k (rd, rn, wl, a, o, g, l) (c, a, o, P, F, B, K, Z) :=
  ⟨rd, rn, wl, a, o, g, l, c, P, F, B, K, Z, rfl, rfl, ok, hr⟩
/-! the constructors -/
def mt_ini : Nat → Nat → Int32
  | 0 => fun _ => 0
  | i + 1 => upd (mt_ini i) i (nI (i / 3))
theorem mt_ini_ok : ∀ i, i ≤ 48 → mt_Ok (mt_ini i) := by
  intro i
  induction i with
  | zero => intro _ j; exact ⟨0, by omega, rfl⟩
  | succ i ih =>
    intro hi j
    by_cases e : j = i
    · refine ⟨i / 3, by omega, ?_⟩
      show upd (mt_ini i) i (nI (i / 3)) j = _
      rw [e, pk_us]
    · obtain ⟨m, hm, h⟩ := ih (by omega) j
      refine ⟨m, hm, ?_⟩
      show upd (mt_ini i) i (nI (i / 3)) j = _
      rw [pk_un e]
      exact h
theorem mx_init39 {post : SX → Prop} (hp : post (rd, rn, wl, mt_ini 48, o, g, l)) :
    ∀ d i, i + d = 48 → wX_init_39 post rd rn wl (d + 1) (nI i) (mt_ini i) o g l := by
  intro d
  induction d with
  | zero =>
    intro i hi
    rw [show i = 48 by omega]
    exact pk_le 48 48 (fun _ => hp) (fun h => by omega)
  | succ d ih =>
    intro i hi
    refine pk_le 48 i (fun h => by omega) (fun _ => ⟨by decide, vp_in_nI (by omega) (by omega), ?_⟩)
    rw [mw_d3 (by omega), nI_clamp (n := i) (by omega)]
    exact nm_e (nm_r (nI_1 i) (ih (i + 1) (by omega)))
theorem my_init67 {post : SY → Prop} (hp : post (c, mt_ini 48, o, P, F, B, K, Z)) :
    ∀ d i, i + d = 48 → wY_init_67 post c (d + 1) (nI i) (mt_ini i) o P F B K Z := by
  intro d
  induction d with
  | zero =>
    intro i hi
    rw [show i = 48 by omega]
    exact pk_le 48 48 (fun _ => hp) (fun h => by omega)
  | succ d ih =>
    intro i hi
    refine pk_le 48 i (fun h => by omega) (fun _ => ⟨by decide, vp_in_nI (by omega) (by omega), ?_⟩)
    rw [mw_d3 (by omega), nI_clamp (n := i) (by omega)]
    exact nm_e (nm_r (nI_1 i) (ih (i + 1) (by omega)))
end
theorem i_vc0 : wpX_init (fun u => wpY_init (fun v => i_Rel 0 u v)) := by
  unfold wpX_init
  refine ⟨49, mx_init39 ?_ 48 0 rfl⟩
  unfold wpY_init
  refine ⟨49, my_init67 ?_ 48 0 rfl⟩
  exact i_mk (mt_ini_ok 48 (by omega)) (fun h => absurd rfl h)
/-! transition, exchange -/
section
variable {a o g l P F B K Z : Nat → Int32} {rd rn wl c : Int32}
theorem my_in {post : Int32 → Prop} {x : Nat} (hx : x < 3) (hp : post 1) : wpY_isInput post (c, a, o, P, F, B, K, Z) (nI x) := by
  unfold wpY_isInput
  exact br_f (nI_pos (by omega)) (pk_le 3 x (fun h => by omega) (fun _ => hp))
theorem my_in0 {post : Int32 → Prop} {p : Int32} (h : p < 0 ∨ nI 3 ≤ p) (hp : post 0) : wpY_isInput post (c, a, o, P, F, B, K, Z) p := by
  unfold wpY_isInput
  refine br_c (fun _ => hp) (fun hn => br_t ?_ hp)
  rcases h with h | h
  · exact absurd h hn
  · exact h
theorem mw_in0 {p : Int32} {A C : Prop} (h : p < 0 ∨ nI 3 ≤ p) (hp : A) : (p < 0 → A) ∧ (¬ p < 0 → (p < 3 → C) ∧ (¬ p < 3 → A)) := by
  refine br_c (fun _ => hp) (fun hn => br_f ?_ hp)
  rcases h with h | h
  · exact absurd h hn
  · exact Int32.not_lt.mpr h
theorem mw_in {i : Nat} {A C : Prop} (h : i < 3) (hp : C) : (nI i < 0 → A) ∧ (¬ nI i < 0 → (nI i < 3 → C) ∧ (¬ nI i < 3 → A)) :=
  br_f (nI_pos (by omega)) (pk_lt i 3 (fun _ => hp) (fun h => by omega))
theorem mt_ok_upd {j : Nat} (ok : mt_Ok a) (z : Int32) : mt_Ok (upd a j (z &&& 15)) := by
  intro i
  by_cases e : i = j
  · rw [e, pk_us]
    exact pk_andE z 4 (by decide)
  · rw [pk_un e]; exact ok i
end
theorem i_vc_transition {k : Nat} {u : SX} {v : SY} (I : i_Rel k u v) (hk : k + 4 ≤ 2048) (v1 : Int32) (v2 : Int32) (v3 : Int32) : wpX_transition (fun r u' => wpY_transition (fun r' v' => r' = r ∧ i_Rel (k + 4) u' v') v v1 v2 v3) u v1 v2 v3 := by
  obtain ⟨rd, rn, wl, a, o, g, l, c, P, F, B, K, Z, rfl, rfl, ok, hr⟩ := I
  unfold wpX_transition
  dsimp only
  rcases mw_ix v1 with h | ⟨s, hs, rfl⟩
  · refine mx_bad1 h (br_f (by decide) ?_)
    unfold wpY_transition
    dsimp only
    exact my_is0 h (br_t rfl ⟨rfl, i_mk ok hr⟩)
  · refine mx_bad hs (br_t rfl ?_)
    rcases mw_ix3 v2 with h | ⟨i, hi, rfl⟩
    · refine mw_in0 h ?_
      unfold wpY_transition
      dsimp only
      exact my_is hs (br_f (by decide) (my_in0 h (br_t rfl ⟨rfl, i_mk ok hr⟩)))
    · refine mw_in hi (nm_r (mw_3 s i) ?_)
      have v48 : vp_in (nI (s * 3 + i)) 48 := vp_in_nI (by omega) (by omega)
      refine ⟨v48, v48, nm_e ⟨v48, nm_e ⟨v48, nm_e ?_⟩⟩⟩
      unfold wpY_transition
      dsimp only
      refine my_is hs (br_f (by decide) (my_in hi (br_f (by decide) (nm_r (mw_3 s i) ?_))))
      refine ⟨v48, v48, nm_e ⟨v48, nm_e ⟨v48, nm_e ⟨rfl, ?_⟩⟩⟩⟩
      exact i_mk (mt_ok_upd ok v3) (fun h => absurd rfl h)
theorem i_vc_exchange {k : Nat} {u : SX} {v : SY} (I : i_Rel k u v) (hk : k + 4 ≤ 2048) (v1 : Int32) (v2 : Int32) (v3 : Int32) : wpX_exchange (fun r u' => wpY_exchange (fun r' v' => r' = r ∧ i_Rel (k + 4) u' v') v v1 v2 v3) u v1 v2 v3 := by
  obtain ⟨rd, rn, wl, a, o, g, l, c, P, F, B, K, Z, rfl, rfl, ok, hr⟩ := I
  unfold wpX_exchange
  dsimp only
  rcases mw_ix v1 with h | ⟨s, hs, rfl⟩
  · refine mx_bad1 h (br_f (by decide) ?_)
    unfold wpY_exchange
    dsimp only
    exact my_is0 h (br_t rfl ⟨rfl, i_mk ok hr⟩)
  · refine mx_bad hs (br_t rfl ?_)
    rcases mw_ix v2 with h | ⟨t, ht, rfl⟩
    · refine mx_bad1 h (br_f (by decide) ?_)
      unfold wpY_exchange
      dsimp only
      exact my_is hs (br_f (by decide) (my_is0 h (br_t rfl ⟨rfl, i_mk ok hr⟩)))
    · refine mx_bad ht (br_t rfl ?_)
      rcases mw_ix3 v3 with h | ⟨i, hi, rfl⟩
      · refine mw_in0 h ?_
        unfold wpY_exchange
        dsimp only
        exact my_is hs (br_f (by decide) (my_is ht (br_f (by decide) (my_in0 h (br_t rfl ⟨rfl, i_mk ok hr⟩)))))
      · refine mw_in hi ?_
        unfold wpY_exchange
        dsimp only
        rw [mw_3, mw_3]
        have v1 : vp_in (nI (s * 3 + i)) 48 := vp_in_nI (by omega) (by omega)
        have v2 : vp_in (nI (t * 3 + i)) 48 := vp_in_nI (by omega) (by omega)
        refine ⟨v1, nm_e ⟨v2, v1, nm_e ⟨v2, nm_e ?_⟩⟩⟩
        refine my_is hs (br_f (by decide) (my_is ht (br_f (by decide) (my_in hi (br_f (by decide) ?_)))))
        refine ⟨v1, nm_e ⟨v2, v1, nm_e ⟨v2, nm_e ⟨rfl, ?_⟩⟩⟩⟩
        exact i_mk ok (fun h => absurd rfl h)
end
section
/-! the questions -/
theorem i_vc_alike {k : Nat} {u : SX} {v : SY} (I : i_Rel k u v) (hk : k + 4 ≤ 2048) (v1 : Int32) (v2 : Int32) : wpX_alike (fun r u' => wpY_alike (fun r' v' => r' = r ∧ i_Rel (k + 4) u' v') v v1 v2) u v1 v2 := by
  obtain ⟨rd, rn, wl, a, o, g, l, c, P, F, B, K, Z, rfl, rfl, ok, hr⟩ := I
  unfold wpX_alike
  dsimp only
  rcases mw_ix v1 with h | ⟨x, hx, rfl⟩
  · refine mx_bad1 h (br_f (by decide) ?_)
    unfold wpY_alike
    dsimp only
    exact my_is0 h (br_t rfl ⟨rfl, i_mk ok hr⟩)
  · refine mx_bad hx (br_t rfl ?_)
    rcases mw_ix v2 with h | ⟨y, hy, rfl⟩
    · refine mx_bad1 h (br_f (by decide) ?_)
      unfold wpY_alike
      dsimp only
      exact my_is hx (br_f (by decide) (my_is0 h (br_t rfl ⟨rfl, i_mk ok hr⟩)))
    · refine mx_bad hy (br_t rfl (mx_prepare ok hr (fun rd' R g' h1 hP => ?_)))
      refine mx_parting ok hP hx hy (fun r hrR hp => ?_)
      have h15 := hP.1
      have h0 := mt_P0 hp
      refine pk_eq r 0 (fun e => ?_) (fun e => ?_)
      · exact my_alike ok hx hy (fun _ c P F B K Z => ⟨rfl, i_mk ok (fun _ => ⟨R, rfl, hP⟩)⟩) (fun z => absurd (h0.mp e) z)
      · exact my_alike ok hx hy (fun z => absurd (h0.mpr z) e) (fun _ c P F B K Z => ⟨rfl, i_mk ok (fun _ => ⟨R, rfl, hP⟩)⟩)
theorem i_vc_distance {k : Nat} {u : SX} {v : SY} (I : i_Rel k u v) (hk : k + 4 ≤ 2048) (v1 : Int32) (v2 : Int32) : wpX_distance (fun r u' => wpY_distance (fun r' v' => r' = r ∧ i_Rel (k + 4) u' v') v v1 v2) u v1 v2 := by
  obtain ⟨rd, rn, wl, a, o, g, l, c, P, F, B, K, Z, rfl, rfl, ok, hr⟩ := I
  unfold wpX_distance
  dsimp only
  rcases mw_ix v1 with h | ⟨x, hx, rfl⟩
  · refine mx_bad1 h (br_f (by decide) ?_)
    unfold wpY_distance
    dsimp only
    exact my_is0 h (br_t rfl ⟨rfl, i_mk ok hr⟩)
  · refine mx_bad hx (br_t rfl ?_)
    rcases mw_ix v2 with h | ⟨y, hy, rfl⟩
    · refine mx_bad1 h (br_f (by decide) ?_)
      unfold wpY_distance
      dsimp only
      exact my_is hx (br_f (by decide) (my_is0 h (br_t rfl ⟨rfl, i_mk ok hr⟩)))
    · refine mx_bad hy (br_t rfl (mx_prepare ok hr (fun rd' R g' h1 hP => ?_)))
      refine mx_parting ok hP hx hy (fun r hrR hp => ?_)
      have h15 := hP.1
      refine pk_eq r 0 (fun e => ?_) (fun e => ?_)
      · unfold wpY_distance
        dsimp only
        refine my_is hx (br_f (by decide) (my_is hy (br_f (by decide) ?_)))
        refine my_search ok hx hy (fun w c P F B K Z hS => ?_)
        have e2 : w.length = 0 := (mt_P_uniq (mt_A_P hS.1) hp).trans e
        rw [e2]
        exact br_t rfl ⟨rfl, i_mk ok (fun _ => ⟨R, rfl, hP⟩)⟩
      · unfold wpY_distance
        dsimp only
        refine my_is hx (br_f (by decide) (my_is hy (br_f (by decide) ?_)))
        refine my_search ok hx hy (fun w c P F B K Z hS => ?_)
        have e2 : w.length = r := mt_P_uniq (mt_A_P hS.1) hp
        rw [e2]
        exact br_f (nI_ne0 (by omega) (by omega)) ⟨rfl, i_mk ok (fun _ => ⟨R, rfl, hP⟩)⟩
theorem i_vc_teller {k : Nat} {u : SX} {v : SY} (I : i_Rel k u v) (hk : k + 4 ≤ 2048) (v1 : Int32) (v2 : Int32) (v3 : Int32) : wpX_teller (fun r u' => wpY_teller (fun r' v' => r' = r ∧ i_Rel (k + 4) u' v') v v1 v2 v3) u v1 v2 v3 := by
  obtain ⟨rd, rn, wl, a, o, g, l, c, P, F, B, K, Z, rfl, rfl, ok, hr⟩ := I
  unfold wpX_teller
  dsimp only
  rcases mw_ix v1 with h | ⟨x, hx, rfl⟩
  · refine mx_bad1 h (br_f (by decide) ?_)
    unfold wpY_teller
    dsimp only
    exact my_is0 h (br_t rfl ⟨rfl, i_mk ok hr⟩)
  · refine mx_bad hx (br_t rfl ?_)
    rcases mw_ix v2 with h | ⟨y, hy, rfl⟩
    · refine mx_bad1 h (br_f (by decide) ?_)
      unfold wpY_teller
      dsimp only
      exact my_is hx (br_f (by decide) (my_is0 h (br_t rfl ⟨rfl, i_mk ok hr⟩)))
    · obtain ⟨w, hA⟩ := mt_A_ex a o x y
      refine mx_bad hy (br_t rfl (mx_prepare ok hr (fun rd' R g' h1 hP => ?_)))
      refine mx_findWord ok hP hx hy hA (fun l' hl h15 => ?_)
      rcases pk_ix v3 (n := w.length) (by omega) with h | h | ⟨j, hj, rfl⟩
      · refine br_t h ?_
        unfold wpY_teller
        dsimp only
        refine my_is hx (br_f (by decide) (my_is hy (br_f (by decide) ?_)))
        refine my_search ok hx hy (fun w' c P F B K Z hS => ?_)
        exact br_t h ⟨rfl, i_mk ok (fun _ => ⟨R, rfl, hP⟩)⟩
      · have hn : ¬ v3 < 0 := Int32.not_lt.mpr (Int32.le_trans (nI_pos' (by omega)) h)
        refine br_f hn (br_f (Int32.not_lt.mpr h) ?_)
        unfold wpY_teller
        dsimp only
        refine my_is hx (br_f (by decide) (my_is hy (br_f (by decide) ?_)))
        refine my_search ok hx hy (fun w' c P F B K Z hS => ?_)
        have e := mt_A_uniq hS.1 hA
        subst e
        exact br_f hn (br_t h ⟨rfl, i_mk ok (fun _ => ⟨R, rfl, hP⟩)⟩)
      · refine br_f (nI_pos (by omega)) (br_t (nI_lt hj (by omega)) ⟨vp_in_nI (by omega) (by omega), ?_⟩)
        dsimp only
        rw [nI_clamp (n := j) (by omega), hl j hj]
        unfold wpY_teller
        dsimp only
        refine my_is hx (br_f (by decide) (my_is hy (br_f (by decide) ?_)))
        refine my_search ok hx hy (fun w' c P F B K Z hS => ?_)
        have e := mt_A_uniq hS.1 hA
        subst e
        refine br_f (nI_pos (by omega)) (br_f (nI_ge hj (by omega)) ?_)
        have ei : nI w'.length - 1 - nI j = nI (w'.length - 1 - j) := by
          show nI w'.length - nI 1 - nI j = _
          rw [pk_sub (by omega), pk_sub (by omega)]
        rw [ei, nI_clamp (n := w'.length - 1 - j) (by omega)]
        exact ⟨vp_in_nI (by omega) (by omega), hS.2.2 j hj, i_mk ok (fun _ => ⟨R, rfl, hP⟩)⟩
theorem i_vc_kind {k : Nat} {u : SX} {v : SY} (I : i_Rel k u v) (hk : k + 4 ≤ 2048) (v1 : Int32) : wpX_kind (fun r u' => wpY_kind (fun r' v' => r' = r ∧ i_Rel (k + 4) u' v') v v1) u v1 := by
  obtain ⟨rd, rn, wl, a, o, g, l, c, P, F, B, K, Z, rfl, rfl, ok, hr⟩ := I
  unfold wpX_kind
  dsimp only
  rcases mw_ix v1 with h | ⟨x, hx, rfl⟩
  · refine mx_bad1 h (br_f (by decide) ?_)
    unfold wpY_kind
    dsimp only
    exact my_is0 h (br_t rfl ⟨rfl, i_mk ok hr⟩)
  · refine mx_bad hx (br_t rfl (mx_prepare ok hr (fun rd' R g' h1 hP => ?_)))
    have h15 := hP.1
    refine mx_groupOf (by omega) hx ?_
    dsimp only
    rw [hP.2.1 R (Nat.le_refl R) x hx]
    exact my_kind ok (mt_nsp_St ok hP.2.2.2) hx (fun c P F B K Z => ⟨rfl, i_mk ok (fun _ => ⟨R, rfl, hP⟩)⟩)
theorem i_vc_kinds {k : Nat} {u : SX} {v : SY} (I : i_Rel k u v) (hk : k + 4 ≤ 2048) : wpX_kinds (fun r u' => wpY_kinds (fun r' v' => r' = r ∧ i_Rel (k + 4) u' v') v) u := by
  obtain ⟨rd, rn, wl, a, o, g, l, c, P, F, B, K, Z, rfl, rfl, ok, hr⟩ := I
  unfold wpX_kinds
  dsimp only
  refine mx_prepare ok hr (fun rd' R g' h1 hP => ⟨17, mx_kn8 hP ?_ 16 0 rfl⟩)
  unfold wpY_kinds
  dsimp only
  exact ⟨17, my_kn4 ok (mt_nsp_St ok hP.2.2.2) (fun c P F B K Z => ⟨rfl, i_mk ok (fun _ => ⟨R, rfl, hP⟩)⟩) 16 0 c P F B K Z rfl⟩
theorem i_vc_reachableKinds {k : Nat} {u : SX} {v : SY} (I : i_Rel k u v) (hk : k + 4 ≤ 2048) (v1 : Int32) : wpX_reachableKinds (fun r u' => wpY_reachableKinds (fun r' v' => r' = r ∧ i_Rel (k + 4) u' v') v v1) u v1 := by
  obtain ⟨rd, rn, wl, a, o, g, l, c, P, F, B, K, Z, rfl, rfl, ok, hr⟩ := I
  unfold wpX_reachableKinds
  dsimp only
  rcases mw_ix v1 with h | ⟨x, hx, rfl⟩
  · refine mx_bad1 h (br_f (by decide) ?_)
    unfold wpY_reachableKinds
    dsimp only
    exact my_is0 h (br_t rfl ⟨rfl, i_mk ok hr⟩)
  · refine mx_bad hx (br_t rfl (mx_prepare ok hr (fun rd' R g' h1 hP => ?_)))
    refine mx_reach ok hx (fun z hz => ⟨17, mx_rk24 hP ?_ 16 0 rfl⟩)
    refine my_rk ok (mt_nsp_St ok hP.2.2.2) hx (fun z' hz' c P F B K Z => ?_)
    rw [mt_Fx_uniq hz' hz]
    exact ⟨rfl, i_mk ok (fun _ => ⟨R, rfl, hP⟩)⟩
theorem i_vc_depth {k : Nat} {u : SX} {v : SY} (I : i_Rel k u v) (hk : k + 4 ≤ 2048) : wpX_depth (fun r u' => wpY_depth (fun r' v' => r' = r ∧ i_Rel (k + 4) u' v') v) u := by
  obtain ⟨rd, rn, wl, a, o, g, l, c, P, F, B, K, Z, rfl, rfl, ok, hr⟩ := I
  unfold wpX_depth
  dsimp only
  refine mx_prepare ok hr (fun rd' R g' h1 hP => ?_)
  exact my_depth ok (mt_nsp_St ok hP.2.2.2) hP.1 hP.2.2.1 (fun c P F B K Z => ⟨rfl, i_mk ok (fun _ => ⟨R, rfl, hP⟩)⟩)
/-! run -/
theorem mw_run {a : Nat → Int32} {J : Int32 → Int32 → Prop} {s i k : Nat} (ok : mt_Ok a) (hs : s < 16) (hi : i < 3) (h : J (nI (mt_st a s i)) (nI (k + 1))) :
    vp_in (nI s * 3 + nI i) 48 ∧ ∀ x, x = a (nI s * 3 + nI i).toNatClampNeg → ∀ y, y = nI k + 1 → J x y := by
  rw [mw_3, nI_clamp (n := s * 3 + i) (by omega)]
  exact ⟨vp_in_nI (by omega) (by omega), nm_r (mt_ok_st ok s i).2 (nm_r (nI_1 k) h)⟩
theorem mw_run28 {a o g l P F B K Z : Nat → Int32} {rd rn wl c : Int32} {w : Int32} {n : Nat} (ok : mt_Ok a) (hn : n ≤ 10) :
    ∀ d k s, k + d = n → s < 16 → ∃ r, (∀ post : Int32 → Prop, post r → wX_run_28 post w (nI n) rd rn wl a o g l (d + 1) (nI s) (nI k)) ∧ (∀ post : Int32 → Prop, post r → wY_run_29 post w (nI n) c a o P F B K Z (d + 1) (nI s) (nI k)) := by
  intro d
  induction d with
  | zero =>
    intro k s hk hs
    exact ⟨nI s, fun post hp => pk_le n k (fun _ => hp) (fun h => by omega), fun post hp => pk_le n k (fun _ => hp) (fun h => by omega)⟩
  | succ d ih =>
    intro k s hk hs
    obtain ⟨j, hj, ej⟩ := pk_andE (w >>> ((2 * nI k) &&& 31)) (m := 3) 2 (by decide)
    by_cases z : j = 3
    · subst z
      obtain ⟨r, hX, hY⟩ := ih (k + 1) (mt_st a s 0) (by omega) (mt_ok_st ok s 0).1
      refine ⟨r, fun post hp => pk_le n k (fun h => by omega) (fun _ => nm_r ej (br_t rfl ?_)), fun post hp => pk_le n k (fun h => by omega) (fun _ => nm_r ej (br_t rfl ?_))⟩
      · exact mw_run (i := 0) ok hs (by omega) (hX post hp)
      · exact mw_run (i := 0) ok hs (by omega) (hY post hp)
    · have n3 : ¬ nI j = 3 := fun e => z ((nI_eq (a := j) (b := 3) (by omega) (by omega)).mp e)
      obtain ⟨r, hX, hY⟩ := ih (k + 1) (mt_st a s j) (by omega) (mt_ok_st ok s j).1
      refine ⟨r, fun post hp => pk_le n k (fun h => by omega) (fun _ => nm_r ej (br_f n3 ?_)), fun post hp => pk_le n k (fun h => by omega) (fun _ => nm_r ej (br_f n3 ?_))⟩
      · exact mw_run ok hs (by omega) (hX post hp)
      · exact mw_run ok hs (by omega) (hY post hp)
theorem i_vc_run {k : Nat} {u : SX} {v : SY} (I : i_Rel k u v) (hk : k + 4 ≤ 2048) (v1 : Int32) (v2 : Int32) (v3 : Int32) : wpX_run (fun r => wpY_run (fun r' => r' = r ∧ i_Rel (k + 4) u v) v v1 v2 v3) u v1 v2 v3 := by
  have J : i_Rel (k + 4) u v := i_up I
  revert J
  obtain ⟨rd, rn, wl, a, o, g, l, c, P, F, B, K, Z, rfl, rfl, ok, hr⟩ := I
  intro J
  unfold wpX_run
  dsimp only
  rcases mw_ix v1 with h | ⟨s, hs, rfl⟩
  · refine mx_bad1 h (br_f (by decide) ?_)
    unfold wpY_run
    dsimp only
    exact my_is0 h (br_t rfl ⟨rfl, J⟩)
  · refine mx_bad hs (br_t rfl ?_)
    by_cases h0 : v3 < 0
    · refine br_t h0 ?_
      unfold wpY_run
      dsimp only
      exact my_is hs (br_f (by decide) (br_t h0 ⟨rfl, J⟩))
    · refine br_f h0 ?_
      by_cases h1 : v3 ≤ 10
      · obtain ⟨n, hn, rfl⟩ := nI_of2 (M := 10) (n := 10) (by decide) h0 h1
        obtain ⟨r, hX, hY⟩ := mw_run28 (a := a) (o := o) (g := g) (l := l) (P := P) (F := F) (B := B) (K := K) (Z := Z) (rd := rd) (rn := rn) (wl := wl) (c := c) (w := v2) ok hn n 0 s (by omega) hs
        refine br_t h1 ⟨n + 1, hX _ ?_⟩
        unfold wpY_run
        dsimp only
        exact my_is hs (br_f (by decide) (br_f h0 (br_t h1 ⟨n + 1, hY _ ⟨rfl, J⟩⟩)))
      · refine br_f h1 ?_
        unfold wpY_run
        dsimp only
        exact my_is hs (br_f (by decide) (br_f h0 (br_f h1 ⟨rfl, J⟩)))
end
