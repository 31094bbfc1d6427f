section
/-! rows pasted from the kit's kit/rows (starting text) -/
theorem pk_us {f : Nat → Int32} {k : Nat} {x : Int32} : upd f k x k = x := if_pos rfl
theorem pk_un {f : Nat → Int32} {k j : Nat} {x : Int32} (h : j ≠ k) : upd f k x j = f j := if_neg h
theorem pk_sub {a b : Nat} (h : b ≤ a) : nI a - nI b = nI (a - b) := by
  obtain ⟨c, rfl⟩ : ∃ c, a = c + b := ⟨a - b, by omega⟩
  rw [← nI_add, Int32.add_sub_cancel, Nat.add_sub_cancel]
theorem pk_m1 (n : Nat) : nI (n + 1) + (-1) = nI n := by
  rw [← nI_1, Int32.add_assoc, show (1 : Int32) + (-1) = 0 from rfl, Int32.add_zero]
theorem pk_mul (a b : Nat) : nI a * nI b = nI (a * b) := (Int32.ofNat_mul a b).symm
theorem pk_div {a d : Nat} (ha : a < 2 ^ 31) (h0 : 0 < d) (hd : d < 2 ^ 31) : nI a / nI d = nI (a / d) := by
  apply Int32.toInt_inj.mp
  rw [lg_idiv_nonneg (by rw [nI_toInt ha]; omega) (by rw [nI_toInt hd]; omega), nI_toInt ha, nI_toInt hd, nI_toInt (Nat.lt_of_le_of_lt (Nat.div_le_self a d) ha)]
  first | rfl | exact (Int.natCast_ediv _ _).symm
theorem pk_rem {a d : Nat} (ha : a < 2 ^ 31) (h0 : 0 < d) (hd : d < 2 ^ 31) : nI a - nI a / nI d * nI d = nI (a % d) := by
  rw [pk_div ha h0 hd, pk_mul, pk_sub (Nat.div_mul_le_self a d)]
  exact congrArg nI (by have := Nat.div_add_mod' a d; omega)
theorem pk_sub_toInt {a b : Nat} (ha : a < 2 ^ 30) (hb : b < 2 ^ 30) : (nI a - nI b).toInt = (a : Int) - b := by
  rw [Int32.toInt_sub, nI_toInt (by omega), nI_toInt (by omega)]
  exact Int.bmod_eq_of_le (by omega) (by omega)
theorem pk_sneg {a b : Nat} (hb : b < 2 ^ 30) (h : a < b) : nI a - nI b < 0 := by
  rw [Int32.lt_iff_toInt_lt, pk_sub_toInt (by omega) hb, show (0 : Int32).toInt = 0 from by decide]
  omega
theorem pk_ix (x : Int32) {n : Nat} (hn : n < 2 ^ 31) : x < 0 ∨ nI n ≤ x ∨ ∃ j : Nat, j < n ∧ x = nI j := by
  by_cases h : x < 0
  · exact Or.inl h
  · obtain ⟨j, hj, rfl⟩ := nI_of h
    by_cases h2 : j < n
    · exact Or.inr (Or.inr ⟨j, h2, rfl⟩)
    · exact Or.inr (Or.inl (nI_le (by omega) hj))
theorem pk_le {x y : Int32} {A B : Prop} (a b : Nat) (f : a ≤ b → A) (g : b < a → B) (hx : x = nI a := by rfl) (hy : y = nI b := by rfl) (ha : a < 2 ^ 31 := by omega) (hb : b < 2 ^ 31 := by omega) : (x ≤ y → A) ∧ (¬ x ≤ y → B) := by
  subst hx hy
  rw [nI_leI ha hb]
  exact ⟨f, fun z => g (by omega)⟩
theorem pk_lt {x y : Int32} {A B : Prop} (a b : Nat) (f : a < b → A) (g : b ≤ a → B) (hx : x = nI a := by rfl) (hy : y = nI b := by rfl) (ha : a < 2 ^ 31 := by omega) (hb : b < 2 ^ 31 := by omega) : (x < y → A) ∧ (¬ x < y → B) := by
  subst hx hy
  rw [nI_ltI ha hb]
  exact ⟨f, fun z => g (by omega)⟩
theorem pk_eq {x y : Int32} {A B : Prop} (a b : Nat) (f : a = b → A) (g : a ≠ b → B) (hx : x = nI a := by rfl) (hy : y = nI b := by rfl) (ha : a < 2 ^ 31 := by omega) (hb : b < 2 ^ 31 := by omega) : (x = y → A) ∧ (¬ x = y → B) := by
  subst hx hy
  rw [nI_eq ha hb]
  exact ⟨f, g⟩
theorem pk_in {x : Int32} (n N : Nat) (h : n < N) (hx : x = nI n := by rfl) (hN : N < 2 ^ 31 := by omega) : vp_in x N := by
  subst hx
  exact vp_in_nI h hN
theorem pk_cl {x : Int32} (n : Nat) (hx : x = nI n := by rfl) (h : n < 2 ^ 31 := by omega) : x.toNatClampNeg = n := by
  subst hx
  exact nI_clamp h
theorem pk_tn {n : Nat} (h : n < 2 ^ 32) : (nI n).toBitVec.toNat = n := Nat.mod_eq_of_lt h
theorem pk_shl (a s : Int32) (k : Nat) (hs : (s.toBitVec.smod 32).toNat = k) : (a <<< s).toBitVec.toNat = a.toBitVec.toNat * 2 ^ k % 2 ^ 32 := by
  show (a.toBitVec <<< (s.toBitVec.smod 32).toNat).toNat = _
  rw [hs, BitVec.toNat_shiftLeft, Nat.shiftLeft_eq]
theorem pk_shlN {n : Nat} (s : Int32) (k : Nat) (hs : (s.toBitVec.smod 32).toNat = k) (h : n * 2 ^ k < 2 ^ 32) : nI n <<< s = nI (n * 2 ^ k) := by
  apply Int32.toBitVec_inj.mp
  apply BitVec.eq_of_toNat_eq
  have hn : n < 2 ^ 32 := Nat.lt_of_le_of_lt (Nat.le_mul_of_pos_right n (Nat.two_pow_pos k)) h
  rw [pk_shl _ _ k hs, pk_tn hn, pk_tn h, Nat.mod_eq_of_lt h]
theorem pk_shr (a s : Int32) (k : Nat) (hs : (s.toBitVec.smod 32).toNat = k) : (a >>> s).toInt = a.toInt >>> k := by
  show (a.toBitVec.sshiftRight (s.toBitVec.smod 32).toNat).toInt = _
  rw [hs, BitVec.toInt_sshiftRight]
  rfl
theorem pk_shrN {n : Nat} (h : n < 2 ^ 31) (s : Int32) (k : Nat) (hs : (s.toBitVec.smod 32).toNat = k) : nI n >>> s = nI (n / 2 ^ k) := by
  apply Int32.toInt_inj.mp
  have h2 : n / 2 ^ k ≤ n := Nat.div_le_self _ _
  rw [pk_shr _ _ k hs, nI_toInt h, nI_toInt (by omega), Int.shiftRight_eq_div_pow]
  rfl
theorem sb_m1 {p : Nat} (h : 0 < p) : nI p + (-1) = nI (p - 1) := by
  obtain ⟨q, rfl⟩ : ∃ q, p = q + 1 := ⟨p - 1, by omega⟩
  exact pk_m1 q
theorem nx_and (a b : Nat) : nI a &&& nI b = nI (a &&& b) := by
  apply Int32.toBitVec_inj.1
  show BitVec.ofNat 32 a &&& BitVec.ofNat 32 b = BitVec.ofNat 32 (a &&& b)
  apply BitVec.eq_of_getLsbD_eq
  intro i hi
  simp [hi]
theorem nx_xor (a b : Nat) : nI a ^^^ nI b = nI (a ^^^ b) := by
  apply Int32.toBitVec_inj.1
  show BitVec.ofNat 32 a ^^^ BitVec.ofNat 32 b = BitVec.ofNat 32 (a ^^^ b)
  apply BitVec.eq_of_getLsbD_eq
  intro i hi
  simp [hi]
end
section
/-! signatures: sums, moments, one bit put in or taken out (pure) -/
section SG
def sa_asc (a b : Nat) : Nat := if a ≤ b then 1 else 0
def sa_sg (T : Nat → Nat) : Nat → Nat
  | 0 => 0
  | i + 1 => sa_asc (T i) (T (i + 1))
def sa_sum (a : Nat → Nat) : Nat → Nat
  | 0 => 0
  | n + 1 => sa_sum a n + a n
def sa_mom (a : Nat → Nat) : Nat → Nat
  | 0 => 0
  | n + 1 => sa_mom a n + n * a n
def sa_ins (a : Nat → Nat) (p b : Nat) : Nat → Nat := fun i => if i < p then a i else if i = p then b else a (i - 1)
def sa_del (a : Nat → Nat) (p : Nat) : Nat → Nat := fun i => if i < p then a i else a (i + 1)
def sa_Code (w : Nat → Nat) : Prop := sa_sum w 14 % 4 = 0 ∧ sa_mom (sa_sg w) 14 % 14 = 0
theorem sa_asc_le (a b : Nat) : sa_asc a b ≤ 1 := by unfold sa_asc; split <;> omega
theorem sa_asc_1 {a b : Nat} (h : sa_asc a b = 1) : a ≤ b := by
  unfold sa_asc at h
  split at h
  · assumption
  · omega
theorem sa_asc_0 {a b : Nat} (h : sa_asc a b = 0) : b < a := by
  unfold sa_asc at h
  split at h
  · omega
  · omega
theorem sa_asc_mid (x c y : Nat) : sa_asc x y = sa_asc c y ∨ sa_asc x y = sa_asc x c := by
  unfold sa_asc
  by_cases h1 : x ≤ y <;> by_cases h2 : c ≤ y <;> by_cases h3 : x ≤ c <;> simp only [h1, h2, h3, if_true, if_false, true_or, or_true] <;> omega
theorem sa_sg_le (T : Nat → Nat) (i : Nat) : sa_sg T i ≤ 1 := by
  cases i with
  | zero => exact Nat.zero_le 1
  | succ i => exact sa_asc_le _ _
theorem sa_sg_s {T : Nat → Nat} {i : Nat} (h : 1 ≤ i) : sa_sg T i = sa_asc (T (i - 1)) (T i) := by
  obtain ⟨j, rfl⟩ : ∃ j, i = j + 1 := ⟨i - 1, by omega⟩
  rfl
theorem sa_ins_lt {a : Nat → Nat} {p b i : Nat} (h : i < p) : sa_ins a p b i = a i := if_pos h
theorem sa_ins_eq {a : Nat → Nat} {p b : Nat} : sa_ins a p b p = b := by
  unfold sa_ins
  rw [if_neg (Nat.lt_irrefl p), if_pos rfl]
theorem sa_ins_gt {a : Nat → Nat} {p b i : Nat} (h : p < i) : sa_ins a p b i = a (i - 1) := by
  unfold sa_ins
  rw [if_neg (by omega), if_neg (by omega)]
theorem sa_del_lt {a : Nat → Nat} {p i : Nat} (h : i < p) : sa_del a p i = a i := if_pos h
theorem sa_del_ge {a : Nat → Nat} {p i : Nat} (h : p ≤ i) : sa_del a p i = a (i + 1) := if_neg (by omega)
theorem sa_sum_ext {a b : Nat → Nat} : ∀ n, (∀ i, i < n → a i = b i) → sa_sum a n = sa_sum b n
  | 0, _ => rfl
  | n + 1, h => by
    show sa_sum a n + a n = sa_sum b n + b n
    rw [sa_sum_ext n (fun i hi => h i (by omega)), h n (by omega)]
theorem sa_mom_ext {a b : Nat → Nat} : ∀ n, (∀ i, i < n → a i = b i) → sa_mom a n = sa_mom b n
  | 0, _ => rfl
  | n + 1, h => by
    show sa_mom a n + n * a n = sa_mom b n + n * b n
    rw [sa_mom_ext n (fun i hi => h i (by omega)), h n (by omega)]
theorem sa_sum_mono {a : Nat → Nat} (p : Nat) : ∀ d, sa_sum a p ≤ sa_sum a (p + d)
  | 0 => Nat.le_refl _
  | d + 1 => Nat.le_trans (sa_sum_mono p d) (Nat.le_add_right _ _)
theorem sa_sum_bd {a : Nat → Nat} (h : ∀ i, a i ≤ 1) (p : Nat) : ∀ d, sa_sum a (p + d) ≤ sa_sum a p + d
  | 0 => Nat.le_refl _
  | d + 1 => by
    have ih := sa_sum_bd h p d
    have e : sa_sum a (p + (d + 1)) = sa_sum a (p + d) + a (p + d) := rfl
    have := h (p + d)
    omega
theorem sa_sum_z {a : Nat → Nat} (p : Nat) : ∀ d, sa_sum a (p + d) = sa_sum a p → ∀ i, p ≤ i → i < p + d → a i = 0
  | 0, _, i, h1, h2 => by omega
  | d + 1, h, i, h1, h2 => by
    have e : sa_sum a (p + (d + 1)) = sa_sum a (p + d) + a (p + d) := rfl
    have m := sa_sum_mono (a := a) p d
    by_cases hi : i = p + d
    · subst hi; omega
    · exact sa_sum_z p d (by omega) i h1 (by omega)
theorem sa_sum_o {a : Nat → Nat} (ha : ∀ i, a i ≤ 1) (p : Nat) : ∀ d, sa_sum a (p + d) = sa_sum a p + d → ∀ i, p ≤ i → i < p + d → a i = 1
  | 0, _, i, h1, h2 => by omega
  | d + 1, h, i, h1, h2 => by
    have e : sa_sum a (p + (d + 1)) = sa_sum a (p + d) + a (p + d) := rfl
    have m := sa_sum_bd ha p d
    have := ha (p + d)
    by_cases hi : i = p + d
    · subst hi; omega
    · exact sa_sum_o ha p d (by omega) i h1 (by omega)
theorem sa_sum_c {a : Nat → Nat} {b : Nat} (p : Nat) : ∀ d, (∀ i, p ≤ i → i < p + d → a i = b) → sa_sum a (p + d) = sa_sum a p + d * b
  | 0, _ => by rw [Nat.zero_mul]; rfl
  | d + 1, h => by
    have ih := sa_sum_c p d (fun i h1 h2 => h i h1 (by omega))
    have e : sa_sum a (p + (d + 1)) = sa_sum a (p + d) + a (p + d) := rfl
    have e2 := h (p + d) (by omega) (by omega)
    rw [e, ih, e2, Nat.succ_mul]
    omega
theorem sa_mom_ins {a : Nat → Nat} {p b : Nat} : ∀ d, sa_mom (sa_ins a p b) (p + d + 1) + sa_sum a p = sa_mom a (p + d) + sa_sum a (p + d) + p * b
  | 0 => by
    have e1 : sa_mom (sa_ins a p b) (p + 0 + 1) = sa_mom (sa_ins a p b) p + p * sa_ins a p b p := rfl
    have e2 : sa_mom (sa_ins a p b) p = sa_mom a p := sa_mom_ext p (fun i hi => sa_ins_lt hi)
    rw [e1, e2, sa_ins_eq, Nat.add_zero]
    omega
  | d + 1 => by
    have ih := sa_mom_ins (a := a) (p := p) (b := b) d
    have e1 : sa_mom (sa_ins a p b) (p + (d + 1) + 1) = sa_mom (sa_ins a p b) (p + d + 1) + (p + d + 1) * sa_ins a p b (p + d + 1) := rfl
    have e2 : sa_ins a p b (p + d + 1) = a (p + d) := sa_ins_gt (by omega)
    have e3 : sa_mom a (p + (d + 1)) = sa_mom a (p + d) + (p + d) * a (p + d) := rfl
    have e4 : sa_sum a (p + (d + 1)) = sa_sum a (p + d) + a (p + d) := rfl
    have e5 : (p + d + 1) * a (p + d) = (p + d) * a (p + d) + a (p + d) := Nat.succ_mul _ _
    rw [e1, e2, e3, e4, e5]
    omega
theorem sa_sum_ins {a : Nat → Nat} {p b : Nat} : ∀ d, sa_sum (sa_ins a p b) (p + d + 1) = sa_sum a (p + d) + b
  | 0 => by
    have e1 : sa_sum (sa_ins a p b) (p + 0 + 1) = sa_sum (sa_ins a p b) p + sa_ins a p b p := rfl
    have e2 : sa_sum (sa_ins a p b) p = sa_sum a p := sa_sum_ext p (fun i hi => sa_ins_lt hi)
    rw [e1, e2, sa_ins_eq, Nat.add_zero]
  | d + 1 => by
    have ih := sa_sum_ins (a := a) (p := p) (b := b) d
    have e1 : sa_sum (sa_ins a p b) (p + (d + 1) + 1) = sa_sum (sa_ins a p b) (p + d + 1) + sa_ins a p b (p + d + 1) := rfl
    have e2 : sa_ins a p b (p + d + 1) = a (p + d) := sa_ins_gt (by omega)
    have e4 : sa_sum a (p + (d + 1)) = sa_sum a (p + d) + a (p + d) := rfl
    rw [e1, e2, e4]
    omega
theorem sa_mom_del {a : Nat → Nat} {p : Nat} : ∀ d, sa_mom (sa_del a p) (p + d) + sa_sum a (p + d + 1) + p * a p = sa_mom a (p + d + 1) + sa_sum a (p + 1)
  | 0 => by
    have e1 : sa_mom a (p + 0 + 1) = sa_mom a p + p * a p := rfl
    have e2 : sa_mom (sa_del a p) p = sa_mom a p := sa_mom_ext p (fun i hi => sa_del_lt hi)
    rw [e1, Nat.add_zero, e2]
    omega
  | d + 1 => by
    have ih := sa_mom_del (a := a) (p := p) d
    have e1 : sa_mom (sa_del a p) (p + (d + 1)) = sa_mom (sa_del a p) (p + d) + (p + d) * sa_del a p (p + d) := rfl
    have e2 : sa_del a p (p + d) = a (p + d + 1) := sa_del_ge (by omega)
    have e3 : sa_mom a (p + (d + 1) + 1) = sa_mom a (p + d + 1) + (p + d + 1) * a (p + d + 1) := rfl
    have e4 : sa_sum a (p + (d + 1) + 1) = sa_sum a (p + d + 1) + a (p + d + 1) := rfl
    have e5 : (p + d + 1) * a (p + d + 1) = (p + d) * a (p + d + 1) + a (p + d + 1) := Nat.succ_mul _ _
    rw [e1, e2, e3, e4, e5]
    omega
theorem sa_sum_del {a : Nat → Nat} {p : Nat} : ∀ d, sa_sum (sa_del a p) (p + d) + a p = sa_sum a (p + d + 1)
  | 0 => by
    have e1 : sa_sum a (p + 0 + 1) = sa_sum a p + a p := rfl
    have e2 : sa_sum (sa_del a p) p = sa_sum a p := sa_sum_ext p (fun i hi => sa_del_lt hi)
    rw [e1, Nat.add_zero, e2]
  | d + 1 => by
    have ih := sa_sum_del (a := a) (p := p) d
    have e1 : sa_sum (sa_del a p) (p + (d + 1)) = sa_sum (sa_del a p) (p + d) + sa_del a p (p + d) := rfl
    have e2 : sa_del a p (p + d) = a (p + d + 1) := sa_del_ge (by omega)
    have e4 : sa_sum a (p + (d + 1) + 1) = sa_sum a (p + d + 1) + a (p + d + 1) := rfl
    rw [e1, e2, e4]
    omega
/-! the signature of a word with a symbol put in -/
theorem sa_sgi_lt {T : Nat → Nat} {g c i : Nat} (h : i < g) : sa_sg (sa_ins T g c) i = sa_sg T i := by
  cases i with
  | zero => rfl
  | succ i =>
    show sa_asc (sa_ins T g c i) (sa_ins T g c (i + 1)) = sa_asc (T i) (T (i + 1))
    rw [sa_ins_lt (by omega), sa_ins_lt h]
theorem sa_sgi_eq {T : Nat → Nat} {g c : Nat} (h : 1 ≤ g) : sa_sg (sa_ins T g c) g = sa_asc (T (g - 1)) c := by
  rw [sa_sg_s h, sa_ins_lt (by omega), sa_ins_eq]
theorem sa_sgi_s {T : Nat → Nat} {g c : Nat} : sa_sg (sa_ins T g c) (g + 1) = sa_asc c (T g) := by
  show sa_asc (sa_ins T g c g) (sa_ins T g c (g + 1)) = _
  rw [sa_ins_eq, sa_ins_gt (by omega)]
  rfl
theorem sa_sgi_gt {T : Nat → Nat} {g c i : Nat} (h : g + 2 ≤ i) : sa_sg (sa_ins T g c) i = sa_sg T (i - 1) := by
  rw [sa_sg_s (by omega), sa_sg_s (by omega), sa_ins_gt (by omega), sa_ins_gt (by omega)]
theorem sa_sgd_lt {T : Nat → Nat} {g i : Nat} (h : i < g) : sa_sg (sa_del T g) i = sa_sg T i := by
  cases i with
  | zero => rfl
  | succ i =>
    show sa_asc (sa_del T g i) (sa_del T g (i + 1)) = sa_asc (T i) (T (i + 1))
    rw [sa_del_lt (by omega), sa_del_lt h]
theorem sa_sgd_eq {T : Nat → Nat} {g : Nat} (h : 1 ≤ g) : sa_sg (sa_del T g) g = sa_asc (T (g - 1)) (T (g + 1)) := by
  rw [sa_sg_s h, sa_del_lt (by omega), sa_del_ge (Nat.le_refl g)]
theorem sa_sgd_gt {T : Nat → Nat} {g i : Nat} (h : g + 1 ≤ i) : sa_sg (sa_del T g) i = sa_sg T (i + 1) := by
  rw [sa_sg_s (by omega), sa_sg_s (by omega), sa_del_ge (by omega), sa_del_ge (by omega)]
  exact congrArg (fun z => sa_asc (T z) (T (i + 1))) (by omega)
end SG
end
section
/-! one symbol lost: which places give a word of the code (pure) -/
section GP
theorem sa_gapB (T : Nat → Nat) (g c : Nat) (hg : g ≤ 13) : ∃ p b, 1 ≤ p ∧ p ≤ 13 ∧ b ≤ 1 ∧ ∀ i, i < 14 → sa_sg (sa_ins T g c) i = sa_ins (sa_sg T) p b i := by
  by_cases g0 : g = 0
  · subst g0
    refine ⟨1, sa_asc c (T 0), by omega, by omega, sa_asc_le _ _, fun i hi => ?_⟩
    by_cases i0 : i = 0
    · subst i0; rfl
    · by_cases i1 : i = 1
      · subst i1
        rw [sa_ins_eq]
        exact sa_sgi_s (g := 0)
      · rw [sa_sgi_gt (by omega), sa_ins_gt (by omega)]
  · by_cases g1 : g = 13
    · subst g1
      refine ⟨13, sa_asc (T 12) c, by omega, by omega, sa_asc_le _ _, fun i hi => ?_⟩
      by_cases i1 : i = 13
      · subst i1
        rw [sa_ins_eq]
        exact sa_sgi_eq (g := 13) (by omega)
      · rw [sa_sgi_lt (by omega), sa_ins_lt (by omega)]
    · by_cases e : sa_sg T g = sa_asc c (T g)
      · refine ⟨g, sa_asc (T (g - 1)) c, by omega, by omega, sa_asc_le _ _, fun i hi => ?_⟩
        by_cases i1 : i < g
        · rw [sa_sgi_lt i1, sa_ins_lt i1]
        · by_cases i2 : i = g
          · subst i2
            rw [sa_ins_eq, sa_sgi_eq (by omega)]
          · by_cases i3 : i = g + 1
            · subst i3
              rw [sa_sgi_s, sa_ins_gt (by omega)]
              exact e.symm
            · rw [sa_sgi_gt (by omega), sa_ins_gt (by omega)]
      · have e2 : sa_sg T g = sa_asc (T (g - 1)) c := by
          have := sa_asc_mid (T (g - 1)) c (T g)
          rw [← sa_sg_s (by omega)] at this
          exact this.resolve_left e
        refine ⟨g + 1, sa_asc c (T g), by omega, by omega, sa_asc_le _ _, fun i hi => ?_⟩
        by_cases i1 : i < g
        · rw [sa_sgi_lt i1, sa_ins_lt (by omega)]
        · by_cases i2 : i = g
          · subst i2
            rw [sa_ins_lt (by omega), sa_sgi_eq (by omega), e2]
          · by_cases i3 : i = g + 1
            · subst i3
              rw [sa_sgi_s, sa_ins_eq]
            · rw [sa_sgi_gt (by omega), sa_ins_gt (by omega)]
theorem sa_ins_run {a : Nat → Nat} {p q b : Nat} (hpq : p ≤ q) (h : ∀ i, p ≤ i → i < q → a i = b) (i : Nat) : sa_ins a p b i = sa_ins a q b i := by
  by_cases i1 : i < p
  · rw [sa_ins_lt i1, sa_ins_lt (by omega)]
  · by_cases i2 : q < i
    · rw [sa_ins_gt i2, sa_ins_gt (by omega)]
    · have e1 : sa_ins a p b i = b := by
        by_cases i3 : i = p
        · subst i3; exact sa_ins_eq
        · rw [sa_ins_gt (by omega)]; exact h _ (by omega) (by omega)
      have e2 : sa_ins a q b i = b := by
        by_cases i3 : i = q
        · subst i3; exact sa_ins_eq
        · rw [sa_ins_lt (by omega)]; exact h _ (by omega) (by omega)
      rw [e1, e2]
theorem sa_insU1 {a : Nat → Nat} (ha : ∀ i, a i ≤ 1) {p b q c : Nat} (hp : 1 ≤ p) (hpq : p ≤ q) (hb : b ≤ 1) (hc : c ≤ 1) (e : p * b + sa_sum a q = q * c + sa_sum a p) (i : Nat) : sa_ins a p b i = sa_ins a q c i := by
  obtain ⟨d, rfl⟩ : ∃ d, q = p + d := ⟨q - p, by omega⟩
  have m1 := sa_sum_mono (a := a) p d
  have m2 := sa_sum_bd ha p d
  rcases Nat.le_one_iff_eq_zero_or_eq_one.mp hb with rfl | rfl <;> rcases Nat.le_one_iff_eq_zero_or_eq_one.mp hc with rfl | rfl
  · exact sa_ins_run hpq (sa_sum_z p d (by omega)) i
  · omega
  · omega
  · exact sa_ins_run hpq (sa_sum_o ha p d (by omega)) i
theorem sa_insU {a : Nat → Nat} (ha : ∀ i, a i ≤ 1) {M p b q c : Nat} (hp : 1 ≤ p) (hp2 : p ≤ 13) (hq : 1 ≤ q) (hq2 : q ≤ 13) (hb : b ≤ 1) (hc : c ≤ 1)
    (h1 : (M + (sa_sum a 13 - sa_sum a p) + p * b) % 14 = 0) (h2 : (M + (sa_sum a 13 - sa_sum a q) + q * c) % 14 = 0) (i : Nat) : sa_ins a p b i = sa_ins a q c i := by
  have b1 := sa_sum_bd ha p (13 - p)
  have b2 := sa_sum_bd ha q (13 - q)
  have m1 := sa_sum_mono (a := a) p (13 - p)
  have m2 := sa_sum_mono (a := a) q (13 - q)
  rw [show p + (13 - p) = 13 by omega] at b1 m1
  rw [show q + (13 - q) = 13 by omega] at b2 m2
  have e1 : p * b ≤ p := by
    rcases Nat.le_one_iff_eq_zero_or_eq_one.mp hb with rfl | rfl <;> omega
  have e2 : q * c ≤ q := by
    rcases Nat.le_one_iff_eq_zero_or_eq_one.mp hc with rfl | rfl <;> omega
  have e : p * b + sa_sum a q = q * c + sa_sum a p := by
    generalize p * b = P at *
    generalize q * c = Q at *
    generalize sa_sum a 13 = W at *
    generalize sa_sum a p = U at *
    generalize sa_sum a q = V at *
    omega
  by_cases hpq : p ≤ q
  · exact sa_insU1 ha hp hpq hb hc e i
  · exact (sa_insU1 ha hq (by omega) hc hb e.symm i).symm
/-- the symbol c before g gives the two bits beside it -/
def sa_gf (S T : Nat → Nat) (c g : Nat) : Prop := (g = 0 ∨ S g = sa_asc (T (g - 1)) c) ∧ (13 ≤ g ∨ S (g + 1) = sa_asc c (T g))
/-- the restored signature S of the 13 symbols T, and the run of the bit put in -/
def sa_Res (T S : Nat → Nat) (pl bi rf rt : Nat) : Prop :=
  (1 ≤ pl ∧ pl ≤ 13 ∧ bi ≤ 1 ∧ (∀ i, 1 ≤ i → i ≤ 13 → S i = sa_ins (sa_sg T) pl bi i) ∧ (sa_mom (sa_sg T) 13 + (sa_sum (sa_sg T) 13 - sa_sum (sa_sg T) pl) + pl * bi) % 14 = 0) ∧
  (1 ≤ rf ∧ rf ≤ pl ∧ pl ≤ rt ∧ rt ≤ 13 ∧ (∀ i, rf ≤ i → i ≤ rt → S i = bi) ∧ (rf = 1 ∨ S (rf - 1) ≠ bi) ∧ (rt = 13 ∨ S (rt + 1) ≠ bi))
theorem sa_res_lo {T S : Nat → Nat} {pl bi rf rt : Nat} (R : sa_Res T S pl bi rf rt) {i : Nat} (h1 : 1 ≤ i) (h2 : i < rt) : S i = sa_sg T i := by
  obtain ⟨⟨p1, p2, _, hS, _⟩, r1, r2, r3, r4, hr, _⟩ := R
  by_cases hi : i < pl
  · rw [hS i h1 (by omega), sa_ins_lt hi]
  · rw [hr i (by omega) (by omega), ← hr (i + 1) (by omega) (by omega), hS (i + 1) (by omega) (by omega), sa_ins_gt (by omega)]
    rfl
theorem sa_res_hi {T S : Nat → Nat} {pl bi rf rt : Nat} (R : sa_Res T S pl bi rf rt) {i : Nat} (h1 : rf < i) (h2 : i ≤ 13) : S i = sa_sg T (i - 1) := by
  obtain ⟨⟨p1, p2, _, hS, _⟩, r1, r2, r3, r4, hr, _⟩ := R
  by_cases hi : pl < i
  · rw [hS i (by omega) (by omega), sa_ins_gt hi]
  · rw [hr i (by omega) (by omega), ← hr (i - 1) (by omega) (by omega), hS (i - 1) (by omega) (by omega), sa_ins_lt (by omega)]
theorem sa_gap_sig {T S : Nat → Nat} {pl bi rf rt g c : Nat} (R : sa_Res T S pl bi rf rt) (hg : g ≤ 13) :
    sa_mom (sa_sg (sa_ins T g c)) 14 % 14 = 0 ↔ ∀ i, 1 ≤ i → i ≤ 13 → sa_sg (sa_ins T g c) i = S i := by
  obtain ⟨⟨p1, p2, p3, hS, hM⟩, _⟩ := R
  have m0 := sa_sum_mono (a := sa_sg T) pl (13 - pl)
  rw [show pl + (13 - pl) = 13 by omega] at m0
  constructor
  · intro h
    obtain ⟨p, b, q1, q2, q3, hB⟩ := sa_gapB T g c hg
    have e := sa_mom_ins (a := sa_sg T) (p := p) (b := b) (13 - p)
    rw [show p + (13 - p) = 13 by omega] at e
    change sa_mom _ 14 + _ = _ at e
    have m1 := sa_sum_mono (a := sa_sg T) p (13 - p)
    rw [show p + (13 - p) = 13 by omega] at m1
    rw [sa_mom_ext 14 hB] at h
    have h2 : (sa_mom (sa_sg T) 13 + (sa_sum (sa_sg T) 13 - sa_sum (sa_sg T) p) + p * b) % 14 = 0 := by omega
    intro i i1 i2
    rw [hS i i1 i2, hB i (by omega)]
    exact sa_insU (sa_sg_le T) q1 q2 p1 p2 q3 p3 h2 hM i
  · intro h
    have e := sa_mom_ins (a := sa_sg T) (p := pl) (b := bi) (13 - pl)
    rw [show pl + (13 - pl) = 13 by omega] at e
    change sa_mom _ 14 + _ = _ at e
    have e2 : sa_mom (sa_sg (sa_ins T g c)) 14 = sa_mom (sa_ins (sa_sg T) pl bi) 14 := by
      apply sa_mom_ext
      intro i hi
      by_cases i0 : i = 0
      · subst i0
        rw [sa_ins_lt (by omega)]
        rfl
      · rw [h i (by omega) (by omega), hS i (by omega) (by omega)]
    rw [e2]
    omega
theorem sa_gap_iff {T S : Nat → Nat} {pl bi rf rt g c : Nat} (R : sa_Res T S pl bi rf rt) (hg : g ≤ 13) :
    sa_mom (sa_sg (sa_ins T g c)) 14 % 14 = 0 ↔ (rf ≤ g + 1 ∧ g ≤ rt ∧ sa_gf S T c g) := by
  rw [sa_gap_sig R hg]
  have lo := fun i => sa_res_lo R (i := i)
  have hi := fun i => sa_res_hi R (i := i)
  obtain ⟨_, r1, r2, r3, r4, hr, hl, hh⟩ := R
  constructor
  · intro h
    refine ⟨?_, ?_, ?_, ?_⟩
    · apply Nat.le_of_not_lt
      intro hlt
      have e1 := h rf (by omega) (by omega)
      rw [sa_sgi_gt (by omega)] at e1
      have e2 := lo (rf - 1) (by omega) (by omega)
      rcases hl with hl | hl
      · omega
      · exact hl (by rw [e2, e1]; exact hr rf (by omega) (by omega))
    · apply Nat.le_of_not_lt
      intro hlt
      have e1 := h rt (by omega) (by omega)
      rw [sa_sgi_lt hlt] at e1
      have e2 := hi (rt + 1) (by omega) (by omega)
      rcases hh with hh | hh
      · omega
      · exact hh (by rw [e2]; exact e1.trans (hr rt (by omega) (by omega)))
    · by_cases g0 : g = 0
      · exact Or.inl g0
      · right
        rw [← h g (by omega) hg, sa_sgi_eq (by omega)]
    · by_cases g0 : 13 ≤ g
      · exact Or.inl g0
      · right
        rw [← h (g + 1) (by omega) (by omega), sa_sgi_s]
  · intro ⟨h1, h2, h3, h4⟩ i i1 i2
    by_cases c1 : i < g
    · rw [sa_sgi_lt c1, lo i i1 (by omega)]
    · by_cases c2 : i = g
      · subst c2
        rw [sa_sgi_eq i1]
        rcases h3 with h3 | h3
        · omega
        · exact h3.symm
      · by_cases c3 : i = g + 1
        · subst c3
          rw [sa_sgi_s]
          rcases h4 with h4 | h4
          · omega
          · exact h4.symm
        · rw [sa_sgi_gt (by omega), hi i (by omega) i2]
theorem sa_up {T : Nat → Nat} (g : Nat) : ∀ d, (∀ i, g < i → i ≤ g + d → sa_sg T i = 1) → T g ≤ T (g + d)
  | 0, _ => Nat.le_refl _
  | d + 1, h => by
    have ih := sa_up g d (fun i h1 h2 => h i h1 (by omega))
    have e : sa_asc (T (g + d)) (T (g + d + 1)) = 1 := h (g + d + 1) (by omega) (by omega)
    exact Nat.le_trans ih (sa_asc_1 e)
theorem sa_dn {T : Nat → Nat} (g : Nat) : ∀ d, (∀ i, g < i → i ≤ g + d → sa_sg T i = 0) → T (g + d) + d ≤ T g
  | 0, _ => Nat.le_refl _
  | d + 1, h => by
    have ih := sa_dn g d (fun i h1 h2 => h i h1 (by omega))
    have e : sa_asc (T (g + d)) (T (g + d + 1)) = 0 := h (g + d + 1) (by omega) (by omega)
    have e2 := sa_asc_0 e
    have e3 : T (g + (d + 1)) = T (g + d + 1) := rfl
    omega
theorem sa_gap_run {T S : Nat → Nat} {pl bi rf rt g g' c : Nat} (R : sa_Res T S pl bi rf rt) (hlt : g < g') (hg : g' ≤ 13)
    (h : rf ≤ g + 1 ∧ g ≤ rt ∧ sa_gf S T c g) (h' : rf ≤ g' + 1 ∧ g' ≤ rt ∧ sa_gf S T c g') : T g = c := by
  have lo := fun i => sa_res_lo R (i := i)
  obtain ⟨⟨_, _, hb, _⟩, r1, r2, r3, r4, hr, hl, hh⟩ := R
  obtain ⟨a1, a2, _, a4⟩ := h
  obtain ⟨b1, b2, b3, _⟩ := h'
  have e1 : sa_asc c (T g) = bi := by
    rcases a4 with a4 | a4
    · omega
    · rw [← a4]; exact hr _ (by omega) (by omega)
  have e2 : sa_asc (T (g' - 1)) c = bi := by
    rcases b3 with b3 | b3
    · omega
    · rw [← b3]; exact hr _ (by omega) (by omega)
  have e3 : ∀ i, g < i → i ≤ g + (g' - 1 - g) → sa_sg T i = bi := fun i i1 i2 => by
    rw [← lo i (by omega) (by omega)]
    exact hr i (by omega) (by omega)
  rcases Nat.le_one_iff_eq_zero_or_eq_one.mp hb with rfl | rfl
  · have := sa_dn g _ e3
    rw [show g + (g' - 1 - g) = g' - 1 by omega] at this
    have := sa_asc_0 e1
    have := sa_asc_0 e2
    omega
  · have := sa_up g _ e3
    rw [show g + (g' - 1 - g) = g' - 1 by omega] at this
    have := sa_asc_1 e1
    have := sa_asc_1 e2
    omega
end GP
end
section
/-! one symbol too many (pure) -/
section EX
def sa_pg (T : Nat → Nat) (g : Nat) : Nat := if g = 0 then 1 else if 14 ≤ g then 14 else if sa_asc (T (g - 1)) (T (g + 1)) = sa_sg T (g + 1) then g else g + 1
theorem sa_pg_in {T : Nat → Nat} {g : Nat} : 1 ≤ sa_pg T g ∧ sa_pg T g ≤ 14 := by
  unfold sa_pg
  by_cases h1 : g = 0
  · rw [if_pos h1]; omega
  · rw [if_neg h1]
    by_cases h2 : 14 ≤ g
    · rw [if_pos h2]; omega
    · rw [if_neg h2]
      split <;> omega
theorem sa_exB {T : Nat → Nat} {g : Nat} (hg : g ≤ 14) (i : Nat) (hi : i < 14) : sa_sg (sa_del T g) i = sa_del (sa_sg T) (sa_pg T g) i := by
  unfold sa_pg
  by_cases g0 : g = 0
  · subst g0
    rw [if_pos rfl]
    by_cases i0 : i = 0
    · subst i0; rfl
    · rw [sa_sgd_gt (by omega), sa_del_ge (by omega)]
  · rw [if_neg g0]
    by_cases g1 : 14 ≤ g
    · rw [if_pos g1, sa_sgd_lt (by omega), sa_del_lt (by omega)]
    · rw [if_neg g1]
      by_cases e : sa_asc (T (g - 1)) (T (g + 1)) = sa_sg T (g + 1)
      · rw [if_pos e]
        by_cases c1 : i < g
        · rw [sa_sgd_lt c1, sa_del_lt c1]
        · by_cases c2 : i = g
          · subst c2
            rw [sa_sgd_eq (by omega), sa_del_ge (Nat.le_refl _), e]
          · rw [sa_sgd_gt (by omega), sa_del_ge (by omega)]
      · rw [if_neg e]
        have e2 : sa_asc (T (g - 1)) (T (g + 1)) = sa_sg T g := by
          have := sa_asc_mid (T (g - 1)) (T g) (T (g + 1))
          rw [sa_sg_s (by omega)]
          exact this.resolve_left e
        by_cases c1 : i < g
        · rw [sa_sgd_lt c1, sa_del_lt (by omega)]
        · by_cases c2 : i = g
          · subst c2
            rw [sa_sgd_eq (by omega), sa_del_lt (by omega), e2]
          · rw [sa_sgd_gt (by omega), sa_del_ge (by omega)]
/-- how far taking out the bit at p lowers the moment -/
def sa_drop (a : Nat → Nat) (p : Nat) : Nat := (sa_sum a 15 - sa_sum a (p + 1)) + p * a p
theorem sa_drop_mom {a : Nat → Nat} {p : Nat} (hp : p ≤ 14) : sa_mom (sa_del a p) 14 + sa_drop a p = sa_mom a 15 := by
  have e := sa_mom_del (a := a) (p := p) (14 - p)
  rw [show p + (14 - p) = 14 by omega] at e
  change sa_mom _ 14 + sa_sum a 15 + _ = sa_mom a 15 + _ at e
  have m := sa_sum_mono (a := a) (p + 1) (14 - p)
  rw [show p + 1 + (14 - p) = 15 by omega] at m
  unfold sa_drop
  omega
theorem sa_drop_run {a : Nat → Nat} {p q b : Nat} (hb : b ≤ 1) (hpq : p ≤ q) (hq : q ≤ 14) (h : ∀ i, p ≤ i → i ≤ q → a i = b) : sa_drop a p = sa_drop a q := by
  have e := sa_sum_c (a := a) (b := b) (p + 1) (q - p) (fun i h1 h2 => h i (by omega) (by omega))
  rw [show p + 1 + (q - p) = q + 1 by omega] at e
  have m := sa_sum_mono (a := a) (q + 1) (14 - q)
  rw [show q + 1 + (14 - q) = 15 by omega] at m
  unfold sa_drop
  rw [h p (by omega) (by omega), h q (by omega) (by omega)]
  rcases Nat.le_one_iff_eq_zero_or_eq_one.mp hb with rfl | rfl <;> omega
theorem sa_drop_inj {a : Nat → Nat} (ha : ∀ i, a i ≤ 1) {p q : Nat} (hp : 1 ≤ p) (hpq : p < q) (hq : q ≤ 14) (h : sa_drop a p % 14 = sa_drop a q % 14) :
    ∀ i, p ≤ i → i ≤ q → a i = a p ∧ a i = a q := by
  have e1 : sa_sum a (p + 1) = sa_sum a p + a p := rfl
  have e2 : sa_sum a (q + 1) = sa_sum a q + a q := rfl
  have m1 := sa_sum_mono (a := a) (p + 1) (q - (p + 1))
  have b1 := sa_sum_bd ha (p + 1) (q - (p + 1))
  have z1 := sa_sum_z (a := a) (p + 1) (q - (p + 1))
  have o1 := sa_sum_o ha (p + 1) (q - (p + 1))
  rw [show p + 1 + (q - (p + 1)) = q by omega] at m1 b1 z1 o1
  have m2 := sa_sum_mono (a := a) (q + 1) (14 - q)
  have b2 := sa_sum_bd ha (q + 1) (14 - q)
  rw [show q + 1 + (14 - q) = 15 by omega] at m2 b2
  unfold sa_drop at h
  rcases Nat.le_one_iff_eq_zero_or_eq_one.mp (ha p) with hap | hap <;> rcases Nat.le_one_iff_eq_zero_or_eq_one.mp (ha q) with haq | haq
  · rw [hap, haq] at h
    rw [e2, haq] at h m2 b2
    have z : sa_sum a q = sa_sum a (p + 1) := by
      clear z1 o1 e1 e2
      omega
    intro i i1 i2
    have : a i = 0 := by
      by_cases c1 : i = p
      · rw [c1, hap]
      · by_cases c2 : i = q
        · rw [c2, haq]
        · exact z1 z i (by omega) (by omega)
    rw [this, hap, haq]
    exact ⟨rfl, rfl⟩
  · exfalso
    rw [hap, haq] at h
    rw [e2, haq] at h m2 b2
    clear z1 o1 e1 e2
    omega
  · exfalso
    rw [hap, haq] at h
    rw [e2, haq] at h m2 b2
    clear z1 o1 e1 e2
    omega
  · rw [hap, haq] at h
    rw [e2, haq] at h m2 b2
    have z : sa_sum a q = sa_sum a (p + 1) + (q - (p + 1)) := by
      clear z1 o1 e1 e2
      omega
    intro i i1 i2
    have : a i = 1 := by
      by_cases c1 : i = p
      · rw [c1, hap]
      · by_cases c2 : i = q
        · rw [c2, haq]
        · exact o1 z i (by omega) (by omega)
    rw [this, hap, haq]
    exact ⟨rfl, rfl⟩
/-- taking out the symbol at g removes the bit b -/
def sa_ef (T : Nat → Nat) (b g : Nat) : Prop := g = 0 ∨ 14 ≤ g ∨ sa_sg T g + sa_sg T (g + 1) = sa_asc (T (g - 1)) (T (g + 1)) + b
/-- a place of the signature of the 15 symbols T whose removal mends the moment, and its run -/
def sa_Exs (T : Nat → Nat) (pl rf rt : Nat) : Prop :=
  (1 ≤ pl ∧ pl ≤ 14 ∧ sa_drop (sa_sg T) pl % 14 = sa_mom (sa_sg T) 15 % 14) ∧
  (1 ≤ rf ∧ rf ≤ pl ∧ pl ≤ rt ∧ rt ≤ 14 ∧ (∀ i, rf ≤ i → i ≤ rt → sa_sg T i = sa_sg T pl) ∧ (rf = 1 ∨ sa_sg T (rf - 1) ≠ sa_sg T pl) ∧ (rt = 14 ∨ sa_sg T (rt + 1) ≠ sa_sg T pl))
theorem sa_ex_pg {T : Nat → Nat} {pl rf rt g : Nat} (R : sa_Exs T pl rf rt) (hg : g ≤ 14) :
    (rf ≤ sa_pg T g ∧ sa_pg T g ≤ rt) ↔ (rf ≤ g + 1 ∧ g ≤ rt ∧ sa_ef T (sa_sg T pl) g) := by
  obtain ⟨⟨p1, p2, _⟩, r1, r2, r3, r4, hr, hl, hh⟩ := R
  unfold sa_pg sa_ef
  by_cases g0 : g = 0
  · subst g0
    rw [if_pos rfl]
    constructor
    · intro h; exact ⟨by omega, by omega, Or.inl rfl⟩
    · intro h; omega
  · rw [if_neg g0]
    by_cases g1 : 14 ≤ g
    · rw [if_pos g1]
      constructor
      · intro h; exact ⟨by omega, by omega, Or.inr (Or.inl g1)⟩
      · intro h; omega
    · rw [if_neg g1]
      by_cases e : sa_asc (T (g - 1)) (T (g + 1)) = sa_sg T (g + 1)
      · rw [if_pos e]
        constructor
        · intro ⟨h1, h2⟩
          exact ⟨by omega, h2, Or.inr (Or.inr (by rw [e, hr g h1 h2]; omega))⟩
        · intro ⟨h1, h2, h3⟩
          have h4 : sa_sg T g = sa_sg T pl := by
            rw [e] at h3
            omega
          refine ⟨?_, h2⟩
          apply Nat.le_of_not_lt
          intro hlt
          rcases hl with hl | hl
          · omega
          · exact hl (by rw [show rf - 1 = g by omega]; exact h4)
      · rw [if_neg e]
        have e2 : sa_asc (T (g - 1)) (T (g + 1)) = sa_sg T g := by
          have := sa_asc_mid (T (g - 1)) (T g) (T (g + 1))
          rw [sa_sg_s (by omega)]
          exact this.resolve_left e
        constructor
        · intro ⟨h1, h2⟩
          exact ⟨h1, by omega, Or.inr (Or.inr (by rw [e2, hr (g + 1) h1 h2]))⟩
        · intro ⟨h1, h2, h3⟩
          have h4 : sa_sg T (g + 1) = sa_sg T pl := by
            rw [e2] at h3
            omega
          refine ⟨h1, ?_⟩
          apply Nat.le_of_not_lt
          intro hlt
          rcases hh with hh | hh
          · omega
          · exact hh (by rw [show rt + 1 = g + 1 by omega]; exact h4)
theorem sa_ex_mom {T : Nat → Nat} {g : Nat} (hg : g ≤ 14) : sa_mom (sa_sg (sa_del T g)) 14 % 14 = 0 ↔ sa_drop (sa_sg T) (sa_pg T g) % 14 = sa_mom (sa_sg T) 15 % 14 := by
  rw [sa_mom_ext 14 (sa_exB hg)]
  have := sa_drop_mom (a := sa_sg T) (p := sa_pg T g) sa_pg_in.2
  omega
theorem sa_ex_iff {T : Nat → Nat} {pl rf rt g : Nat} (R : sa_Exs T pl rf rt) (hg : g ≤ 14) (hT : ∀ i, T i < 4) :
    sa_Code (sa_del T g) ↔ (T g = sa_sum T 15 % 4 ∧ rf ≤ g + 1 ∧ g ≤ rt ∧ sa_ef T (sa_sg T pl) g) := by
  rw [← sa_ex_pg R hg]
  have hs : sa_sum (sa_del T g) 14 % 4 = 0 ↔ T g = sa_sum T 15 % 4 := by
    have e := sa_sum_del (a := T) (p := g) (14 - g)
    rw [show g + (14 - g) = 14 by omega] at e
    have e' : sa_sum (sa_del T g) 14 + T g = sa_sum T 15 := e
    have := hT g
    omega
  have hm : sa_mom (sa_sg (sa_del T g)) 14 % 14 = 0 ↔ (rf ≤ sa_pg T g ∧ sa_pg T g ≤ rt) := by
    rw [sa_ex_mom hg]
    obtain ⟨⟨p1, p2, hd⟩, r1, r2, r3, r4, hr, hl, hh⟩ := R
    have q := sa_pg_in (T := T) (g := g)
    generalize sa_pg T g = p at *
    rw [← hd]
    constructor
    · intro h
      constructor
      · apply Nat.le_of_not_lt
        intro hlt
        have H := sa_drop_inj (sa_sg_le T) q.1 (show p < pl by omega) p2 h
        rcases hl with hl | hl
        · omega
        · exact hl (H (rf - 1) (by omega) (by omega)).2
      · apply Nat.le_of_not_lt
        intro hlt
        have H := sa_drop_inj (sa_sg_le T) p1 (show pl < p by omega) q.2 h.symm
        rcases hh with hh | hh
        · omega
        · exact hh (H (rt + 1) (by omega) (by omega)).1
    · intro ⟨h1, h2⟩
      by_cases c1 : p ≤ pl
      · rw [sa_drop_run (sa_sg_le T pl) c1 p2 (fun i i1 i2 => hr i (by omega) (by omega))]
      · rw [sa_drop_run (sa_sg_le T pl) (show pl ≤ p by omega) q.2 (fun i i1 i2 => hr i (by omega) (by omega))]
  unfold sa_Code
  rw [hs, hm]
theorem sa_ex_none {T : Nat → Nat} {g : Nat} (hg : g ≤ 14) (h : ∀ p, 1 ≤ p → p ≤ 14 → sa_drop (sa_sg T) p % 14 ≠ sa_mom (sa_sg T) 15 % 14) : ¬ sa_Code (sa_del T g) := by
  intro hc
  exact h _ sa_pg_in.1 sa_pg_in.2 ((sa_ex_mom hg).mp hc.2)
theorem sa_ex_run {T : Nat → Nat} {pl rf rt g g' c : Nat} (R : sa_Exs T pl rf rt) (hlt : g < g') (hg : g' ≤ 14)
    (h : T g = c ∧ rf ≤ g + 1 ∧ g ≤ rt ∧ sa_ef T (sa_sg T pl) g) (h' : T g' = c ∧ rf ≤ g' + 1 ∧ g' ≤ rt ∧ sa_ef T (sa_sg T pl) g') : T (g + 1) = T g := by
  obtain ⟨_, r1, r2, r3, r4, hr, hl, hh⟩ := R
  obtain ⟨a0, a1, a2, _⟩ := h
  obtain ⟨b0, b1, b2, _⟩ := h'
  have e3 : ∀ i, g < i → i ≤ g + (g' - g) → sa_sg T i = sa_sg T pl := fun i i1 i2 => hr i (by omega) (by omega)
  rcases Nat.le_one_iff_eq_zero_or_eq_one.mp (sa_sg_le T pl) with hb | hb
  · rw [hb] at e3
    have := sa_dn g _ e3
    rw [show g + (g' - g) = g' by omega] at this
    omega
  · rw [hb] at e3
    have h1 := sa_up g 1 (fun i i1 i2 => e3 i i1 (by omega))
    have h2 := sa_up (T := T) (g + 1) (g' - (g + 1)) (fun i i1 i2 => e3 i (by omega) (by omega))
    rw [show g + 1 + (g' - (g + 1)) = g' by omega] at h2
    omega
/-! what both sides mean by a fault's place -/
/-- the symbol that 13 symbols lack -/
def sa_cm (T : Nat → Nat) : Nat := (4 - sa_sum T 13 % 4) % 4
theorem sa_gap_code {T : Nat → Nat} {g c : Nat} (hg : g ≤ 13) (hc : c < 4) : sa_Code (sa_ins T g c) ↔ (c = sa_cm T ∧ sa_mom (sa_sg (sa_ins T g c)) 14 % 14 = 0) := by
  have e := sa_sum_ins (a := T) (p := g) (b := c) (13 - g)
  rw [show g + (13 - g) = 13 by omega] at e
  have e' : sa_sum (sa_ins T g c) 14 = sa_sum T 13 + c := e
  unfold sa_Code sa_cm
  rw [e']
  constructor
  · intro ⟨h1, h2⟩; exact ⟨by omega, h2⟩
  · intro ⟨h1, h2⟩; exact ⟨by omega, h2⟩
def sa_A (T : Nat → Nat) (L g : Nat) : Prop := if L = 13 then sa_Code (sa_ins T g (sa_cm T)) else sa_Code (sa_del T g)
def sa_N (L : Nat) : Nat := if L = 13 then 14 else if L = 15 then 15 else 0
/-- the least fault, or -1 -/
def sa_lf (A : Nat → Prop) (N : Nat) (r : Int32) : Prop := (r = -1 ∧ ∀ g, g < N → ¬ A g) ∨ ∃ g, g < N ∧ r = nI g ∧ A g ∧ ∀ g', g' < g → ¬ A g'
/-- the greatest fault, or -1 -/
def sa_gfa (A : Nat → Prop) (N : Nat) (r : Int32) : Prop := (r = -1 ∧ ∀ g, g < N → ¬ A g) ∨ ∃ g, g < N ∧ r = nI g ∧ A g ∧ ∀ g', g < g' → g' < N → ¬ A g'
theorem sa_lf_u {A : Nat → Prop} {N : Nat} {r r' : Int32} (h : sa_lf A N r) (h' : sa_lf A N r') : r' = r := by
  rcases h with ⟨h1, h2⟩ | ⟨g, g1, g2, g3, g4⟩ <;> rcases h' with ⟨k1, k2⟩ | ⟨k, k1, k2, k3, k4⟩
  · rw [h1, k1]
  · exact absurd k3 (h2 k k1)
  · exact absurd g3 (k2 g g1)
  · have : g = k := by
      apply Nat.le_antisymm
      · exact Nat.le_of_not_lt (fun z => g4 k z k3)
      · exact Nat.le_of_not_lt (fun z => k4 g z g3)
    rw [g2, k2, this]
theorem sa_gfa_u {A : Nat → Prop} {N : Nat} {r r' : Int32} (h : sa_gfa A N r) (h' : sa_gfa A N r') : r' = r := by
  rcases h with ⟨h1, h2⟩ | ⟨g, g1, g2, g3, g4⟩ <;> rcases h' with ⟨k1, k2⟩ | ⟨k, k1, k2, k3, k4⟩
  · rw [h1, k1]
  · exact absurd k3 (h2 k k1)
  · exact absurd g3 (k2 g g1)
  · have : g = k := by
      apply Nat.le_antisymm
      · exact Nat.le_of_not_lt (fun z => k4 g z g1 g3)
      · exact Nat.le_of_not_lt (fun z => g4 k z k1 k3)
    rw [g2, k2, this]
/-- the faults' places lie side by side, over equal symbols -/
def sa_cont (T : Nat → Nat) (L : Nat) : Prop :=
  (L = 13 → ∀ g g', g < g' → g' < 14 → sa_A T 13 g → sa_A T 13 g' → T g = sa_cm T) ∧
  (L = 15 → ∀ g g', g < g' → g' < 15 → sa_A T 15 g → sa_A T 15 g' → T (g + 1) = T g)
theorem sa_ins_sh {T : Nat → Nat} {g c : Nat} (h : T g = c) : sa_ins T g c = sa_ins T (g + 1) c := by
  funext i
  exact sa_ins_run (by omega) (fun i h1 h2 => by rw [show i = g by omega, h]) i
theorem sa_del_sh {T : Nat → Nat} {g : Nat} (h : T (g + 1) = T g) : sa_del T g = sa_del T (g + 1) := by
  funext i
  by_cases c1 : i < g
  · rw [sa_del_lt c1, sa_del_lt (by omega)]
  · by_cases c2 : i = g
    · subst c2
      rw [sa_del_ge (Nat.le_refl _), sa_del_lt (by omega), h]
    · rw [sa_del_ge (by omega), sa_del_ge (by omega)]
theorem sa_A13 {T : Nat → Nat} {g : Nat} : sa_A T 13 g = sa_Code (sa_ins T g (sa_cm T)) := if_pos rfl
theorem sa_A15 {T : Nat → Nat} {g : Nat} : sa_A T 15 g = sa_Code (sa_del T g) := if_neg (by decide)
theorem sa_cm_lt (T : Nat → Nat) : sa_cm T < 4 := Nat.mod_lt _ (by decide)
theorem sa_gap_A {T S : Nat → Nat} {pl bi rf rt g : Nat} (R : sa_Res T S pl bi rf rt) (hg : g ≤ 13) : sa_A T 13 g ↔ (rf ≤ g + 1 ∧ g ≤ rt ∧ sa_gf S T (sa_cm T) g) := by
  rw [sa_A13, sa_gap_code hg (sa_cm_lt T), sa_gap_iff R hg]
  exact ⟨fun h => h.2, fun h => ⟨rfl, h⟩⟩
theorem sa_gap_cont {T S : Nat → Nat} {pl bi rf rt : Nat} (R : sa_Res T S pl bi rf rt) : sa_cont T 13 := by
  refine ⟨fun _ g g' h1 h2 a a' => ?_, fun h => absurd h (by decide)⟩
  exact sa_gap_run R h1 (by omega) ((sa_gap_A R (by omega)).mp a) ((sa_gap_A R (by omega)).mp a')
theorem sa_ex_cont {T : Nat → Nat} {pl rf rt : Nat} (R : sa_Exs T pl rf rt) (hT : ∀ i, T i < 4) : sa_cont T 15 := by
  refine ⟨fun h => absurd h (by decide), fun _ g g' h1 h2 a a' => ?_⟩
  rw [sa_A15] at a a'
  exact sa_ex_run R h1 (by omega) ((sa_ex_iff R (by omega) hT).mp a) ((sa_ex_iff R (by omega) hT).mp a')
end EX
end
section
/-! strand words: the least ending, by states and by trying (pure) -/
section SW
def sw_fo (pos st sy : Nat) : Nat := sy * 56 + ((st / 14 % 4 + sy) % 4) * 14 + (if st / 56 ≤ sy then (st % 14 + pos) % 14 else st % 14)
def sw_lc (f : Nat → Bool) : Nat := if f 0 = true then 0 else if f 1 = true then 1 else if f 2 = true then 2 else 3
def sw_fin : Nat → Nat → Bool
  | 0, st => decide (st % 56 = 0)
  | d + 1, st => sw_fin d (sw_fo (13 - d) st (sw_lc (fun sy => sw_fin d (sw_fo (13 - d) st sy))))
def sw_sy (d st : Nat) : Nat := sw_lc (fun sy => sw_fin d (sw_fo (13 - d) st sy))
def sw_rn : Nat → Nat → Nat → Nat
  | 0, st, _ => st
  | d + 1, st, n => sw_rn d (sw_fo (13 - d) st (n / 4 ^ d)) (n % 4 ^ d)
def sw_ch : Nat → Nat → Nat
  | 0, _ => 0
  | d + 1, st => sw_sy d st * 4 ^ d + sw_ch d (sw_fo (13 - d) st (sw_sy d st))
def sw_cd : Nat → Nat → Nat → Nat
  | 0, _, _ => 0
  | d + 1, st, i => if i = 13 - d then sw_sy d st else sw_cd d (sw_fo (13 - d) st (sw_sy d st)) i
def sw_acc (d st n : Nat) : Prop := sw_rn d st n % 56 = 0
theorem sw_fo_lt {pos st sy : Nat} (h : sy < 4) : sw_fo pos st sy < 224 := by
  unfold sw_fo
  have h1 : (st / 14 % 4 + sy) % 4 < 4 := Nat.mod_lt _ (by decide)
  have h2 : (if st / 56 ≤ sy then (st % 14 + pos) % 14 else st % 14) < 14 := by
    split <;> exact Nat.mod_lt _ (by decide)
  omega
theorem sw_lc_spec (f : Nat → Bool) : sw_lc f < 4 ∧ (∀ z, z < sw_lc f → f z = false) ∧ (f (sw_lc f) = false → sw_lc f = 3) := by
  unfold sw_lc
  cases h0 : f 0
  · cases h1 : f 1
    · cases h2 : f 2
      · simp only [Bool.false_eq_true, if_false]
        refine ⟨by omega, fun z hz => ?_, fun _ => by trivial⟩
        rcases (by omega : z = 0 ∨ z = 1 ∨ z = 2) with rfl | rfl | rfl <;> assumption
      · simp only [Bool.false_eq_true, if_false, if_true]
        refine ⟨by omega, fun z hz => ?_, fun h => absurd (h.symm.trans h2) (by decide)⟩
        rcases (by omega : z = 0 ∨ z = 1) with rfl | rfl <;> assumption
    · simp only [Bool.false_eq_true, if_false, if_true]
      refine ⟨by omega, fun z hz => ?_, fun h => absurd (h.symm.trans h1) (by decide)⟩
      rcases (by omega : z = 0) with rfl
      assumption
  · simp only [if_true]
    exact ⟨by omega, fun z hz => by omega, fun h => absurd (h.symm.trans h0) (by decide)⟩
theorem sw_sy_lt (d st : Nat) : sw_sy d st < 4 := (sw_lc_spec _).1
theorem sw_ch_lt : ∀ d st, sw_ch d st < 4 ^ d
  | 0, _ => Nat.zero_lt_one
  | d + 1, st => by
    have ih := sw_ch_lt d (sw_fo (13 - d) st (sw_sy d st))
    have h1 := sw_sy_lt d st
    have h2 : sw_sy d st * 4 ^ d ≤ 3 * 4 ^ d := Nat.mul_le_mul_right _ (by omega)
    show sw_sy d st * 4 ^ d + sw_ch d (sw_fo (13 - d) st (sw_sy d st)) < 4 ^ d * 4
    omega
theorem sw_spec : ∀ d st, (sw_fin d st = true → sw_acc d st (sw_ch d st) ∧ ∀ n, n < sw_ch d st → ¬ sw_acc d st n) ∧ (sw_fin d st = false → sw_ch d st + 1 = 4 ^ d ∧ ∀ n, n < 4 ^ d → ¬ sw_acc d st n)
  | 0, st => by
    have e : ∀ n, sw_acc 0 st n = (st % 56 = 0) := fun _ => rfl
    have e2 : sw_fin 0 st = decide (st % 56 = 0) := rfl
    rw [e2]
    refine ⟨fun h => ⟨?_, fun n hn => absurd hn (Nat.not_lt_zero n)⟩, fun h => ⟨rfl, fun n _ => ?_⟩⟩
    · rw [e]; exact of_decide_eq_true h
    · rw [e]; exact of_decide_eq_false h
  | d + 1, st => by
    obtain ⟨y1, y2, y3⟩ := sw_lc_spec (fun sy => sw_fin d (sw_fo (13 - d) st sy))
    have hp : 0 < 4 ^ d := Nat.pow_pos (by decide)
    have hc := sw_ch_lt d (sw_fo (13 - d) st (sw_sy d st))
    have ih := sw_spec d (sw_fo (13 - d) st (sw_sy d st))
    have e0 : sw_ch (d + 1) st = sw_sy d st * 4 ^ d + sw_ch d (sw_fo (13 - d) st (sw_sy d st)) := rfl
    have ef : sw_fin (d + 1) st = sw_fin d (sw_fo (13 - d) st (sw_sy d st)) := rfl
    have ea : ∀ n, sw_acc (d + 1) st n = sw_acc d (sw_fo (13 - d) st (n / 4 ^ d)) (n % 4 ^ d) := fun n => rfl
    change sw_sy d st < 4 at y1
    change ∀ z, z < sw_sy d st → _ at y2
    change sw_fin d (sw_fo (13 - d) st (sw_sy d st)) = false → sw_sy d st = 3 at y3
    rw [ef, e0]
    refine ⟨fun h => ⟨?_, fun n hn => ?_⟩, fun h => ⟨?_, fun n hn => ?_⟩⟩
    · rw [ea, Nat.mul_comm, Nat.mul_add_div hp, Nat.div_eq_of_lt hc, Nat.mul_add_mod, Nat.mod_eq_of_lt hc]
      exact (ih.1 h).1
    · rw [ea]
      have hm := Nat.mod_lt n hp
      have hd := Nat.div_add_mod n (4 ^ d)
      by_cases c1 : n / 4 ^ d < sw_sy d st
      · exact ((sw_spec d _).2 (y2 _ c1)).2 _ hm
      · have c2 : n / 4 ^ d = sw_sy d st := by
          apply Nat.le_antisymm _ (by omega)
          apply Nat.le_of_lt_succ
          apply Nat.div_lt_of_lt_mul
          rw [Nat.mul_comm, Nat.succ_mul]
          omega
        rw [c2]
        apply (ih.1 h).2
        rw [c2, Nat.mul_comm] at hd
        omega
    · have := (ih.2 h).1
      rw [y3 h] at this ⊢
      show _ = 4 ^ d * 4
      omega
    · rw [ea]
      have hm := Nat.mod_lt n hp
      have hq : n / 4 ^ d < 4 := Nat.div_lt_of_lt_mul hn
      by_cases c1 : n / 4 ^ d < 3
      · exact ((sw_spec d _).2 (y2 _ (by rw [y3 h]; exact c1))).2 _ hm
      · have c2 : n / 4 ^ d = sw_sy d st := by rw [y3 h]; omega
        rw [c2]
        exact (ih.2 h).2 _ hm
/-! states along a word -/
def sw_st (w : Nat → Nat) : Nat → Nat
  | 0 => w 0 * 56 + w 0 * 14
  | i + 1 => sw_fo (i + 1) (sw_st w i) (w (i + 1))
theorem sw_st_lt {w : Nat → Nat} (hw : ∀ i, w i < 4) : ∀ i, sw_st w i < 224
  | 0 => by
    have := hw 0
    show w 0 * 56 + w 0 * 14 < 224
    omega
  | i + 1 => sw_fo_lt (hw (i + 1))
theorem sw_st_eq {w : Nat → Nat} (hw : ∀ i, w i < 4) : ∀ i, sw_st w i = w i * 56 + (sa_sum w (i + 1) % 4) * 14 + sa_mom (sa_sg w) (i + 1) % 14
  | 0 => by
    have e1 : sa_sum w (0 + 1) = 0 + w 0 := rfl
    have e2 : sa_mom (sa_sg w) (0 + 1) = 0 + 0 * sa_sg w 0 := rfl
    have e3 : sw_st w 0 = w 0 * 56 + w 0 * 14 := rfl
    have := hw 0
    rw [e1, e2, e3]
    omega
  | i + 1 => by
    have ih := sw_st_eq hw i
    have e1 : sa_sum w (i + 1 + 1) = sa_sum w (i + 1) + w (i + 1) := rfl
    have e2 : sa_mom (sa_sg w) (i + 1 + 1) = sa_mom (sa_sg w) (i + 1) + (i + 1) * sa_asc (w i) (w (i + 1)) := rfl
    have e3 : sw_st w (i + 1) = sw_fo (i + 1) (sw_st w i) (w (i + 1)) := rfl
    have h1 := hw i
    have h2 := hw (i + 1)
    rw [e1, e2, e3, ih]
    generalize sa_sum w (i + 1) = s
    generalize sa_mom (sa_sg w) (i + 1) = m
    have d1 : (w i * 56 + s % 4 * 14 + m % 14) / 14 % 4 = s % 4 := by omega
    have d2 : (w i * 56 + s % 4 * 14 + m % 14) / 56 = w i := by omega
    have d3 : (w i * 56 + s % 4 * 14 + m % 14) % 14 = m % 14 := by omega
    unfold sw_fo sa_asc
    rw [d1, d2, d3]
    by_cases c : w i ≤ w (i + 1)
    · rw [if_pos c, if_pos c]; omega
    · rw [if_neg c, if_neg c]; omega
theorem sw_code {w : Nat → Nat} (hw : ∀ i, w i < 4) : sa_Code w ↔ sw_st w 13 % 56 = 0 := by
  rw [sw_st_eq hw 13]
  show (sa_sum w 14 % 4 = 0 ∧ sa_mom (sa_sg w) 14 % 14 = 0) ↔ (w 13 * 56 + sa_sum w 14 % 4 * 14 + sa_mom (sa_sg w) 14 % 14) % 56 = 0
  omega
/-! the word of a number -/
def sw_w (s v n : Nat) : Nat → Nat := fun i => ((s * 4096 + v) * 4096 + n) / 4 ^ (13 - i) % 4
theorem sw_w_lt (s v n i : Nat) : sw_w s v n i < 4 := Nat.mod_lt _ (by decide)
theorem sw_w_lo {s v n i : Nat} (hn : n < 4096) (hi : i ≤ 7) : sw_w s v n i = (s * 4096 + v) / 4 ^ (7 - i) % 4 := by
  unfold sw_w
  rw [show 13 - i = 6 + (7 - i) by omega, Nat.pow_add, ← Nat.div_div_eq_div_mul, show ((s * 4096 + v) * 4096 + n) / 4 ^ 6 = s * 4096 + v by
    rw [show (4 : Nat) ^ 6 = 4096 from rfl]; omega]
theorem sw_dig {q m d j : Nat} (h : j < d) : (q * 4 ^ d + m) / 4 ^ j % 4 = m / 4 ^ j % 4 := by
  obtain ⟨e, rfl⟩ : ∃ e, d = j + (e + 1) := ⟨d - j - 1, by omega⟩
  have h1 : q * 4 ^ (j + (e + 1)) = 4 ^ j * (q * 4 ^ e * 4) := by
    rw [Nat.pow_add, Nat.pow_succ, Nat.mul_left_comm, Nat.mul_assoc]
  rw [h1, Nat.mul_add_div (Nat.pow_pos (by decide))]
  omega
theorem sw_w_hi {s v n i : Nat} (hi : 8 ≤ i) : sw_w s v n i = n / 4 ^ (13 - i) % 4 := by
  show ((s * 4096 + v) * 4 ^ 6 + n) / 4 ^ (13 - i) % 4 = _
  exact sw_dig (by omega)
theorem sw_st_ext {w w' : Nat → Nat} : ∀ i, (∀ j, j ≤ i → w j = w' j) → sw_st w i = sw_st w' i
  | 0, h => by
    show w 0 * 56 + w 0 * 14 = w' 0 * 56 + w' 0 * 14
    rw [h 0 (Nat.le_refl _)]
  | i + 1, h => by
    show sw_fo (i + 1) (sw_st w i) (w (i + 1)) = sw_fo (i + 1) (sw_st w' i) (w' (i + 1))
    rw [sw_st_ext i (fun j hj => h j (by omega)), h (i + 1) (Nat.le_refl _)]
theorem sw_run {s v n : Nat} (hn : n < 4096) : sw_st (sw_w s v n) 13 = sw_rn 6 (sw_st (sw_w s v 0) 7) n := by
  have h7 : sw_st (sw_w s v n) 7 = sw_st (sw_w s v 0) 7 := sw_st_ext 7 (fun j hj => by rw [sw_w_lo hn hj, sw_w_lo (by decide) hj])
  have h8 : sw_w s v n 8 = n / 4 ^ 5 := by rw [sw_w_hi (by decide)]; simp only [Nat.reduceSub, Nat.reducePow]; omega
  have h9 : sw_w s v n 9 = n % 4 ^ 5 / 4 ^ 4 := by rw [sw_w_hi (by decide)]; simp only [Nat.reduceSub, Nat.reducePow]; omega
  have h10 : sw_w s v n 10 = n % 4 ^ 5 % 4 ^ 4 / 4 ^ 3 := by rw [sw_w_hi (by decide)]; simp only [Nat.reduceSub, Nat.reducePow]; omega
  have h11 : sw_w s v n 11 = n % 4 ^ 5 % 4 ^ 4 % 4 ^ 3 / 4 ^ 2 := by rw [sw_w_hi (by decide)]; simp only [Nat.reduceSub, Nat.reducePow]; omega
  have h12 : sw_w s v n 12 = n % 4 ^ 5 % 4 ^ 4 % 4 ^ 3 % 4 ^ 2 / 4 ^ 1 := by rw [sw_w_hi (by decide)]; simp only [Nat.reduceSub, Nat.reducePow]; omega
  have h13 : sw_w s v n 13 = n % 4 ^ 5 % 4 ^ 4 % 4 ^ 3 % 4 ^ 2 % 4 ^ 1 / 4 ^ 0 := by rw [sw_w_hi (by decide)]; simp only [Nat.reduceSub, Nat.reducePow]; omega
  show sw_fo 13 (sw_fo 12 (sw_fo 11 (sw_fo 10 (sw_fo 9 (sw_fo 8 (sw_st (sw_w s v n) 7) (sw_w s v n 8)) (sw_w s v n 9)) (sw_w s v n 10)) (sw_w s v n 11)) (sw_w s v n 12)) (sw_w s v n 13) = _
  rw [h7, h8, h9, h10, h11, h12, h13]
  rfl
theorem sw_code_acc {s v n : Nat} (hn : n < 4096) : sa_Code (sw_w s v n) ↔ sw_acc 6 (sw_st (sw_w s v 0) 7) n := by
  rw [sw_code (sw_w_lt s v n), sw_run hn]
  exact Iff.rfl
/-- n is the ending that trying finds, or the last one -/
def sw_LN (s v n : Nat) : Prop := n < 4096 ∧ ((sa_Code (sw_w s v n) ∧ ∀ n', n' < n → ¬ sa_Code (sw_w s v n')) ∨ (n = 4095 ∧ ∀ n', n' < 4096 → ¬ sa_Code (sw_w s v n')))
theorem sw_LN_u {s v n n' : Nat} (h : sw_LN s v n) (h' : sw_LN s v n') : n' = n := by
  obtain ⟨a, h⟩ := h
  obtain ⟨b, h'⟩ := h'
  rcases h with ⟨h1, h2⟩ | ⟨h1, h2⟩ <;> rcases h' with ⟨k1, k2⟩ | ⟨k1, k2⟩
  · apply Nat.le_antisymm
    · exact Nat.le_of_not_lt (fun z => k2 n z h1)
    · exact Nat.le_of_not_lt (fun z => h2 n' z k1)
  · exact absurd h1 (k2 n a)
  · exact absurd k1 (h2 n' b)
  · rw [h1, k1]
def sw_n (s v : Nat) : Nat := sw_ch 6 (sw_st (sw_w s v 0) 7)
theorem sw_LN_n (s v : Nat) : sw_LN s v (sw_n s v) := by
  have hl : sw_n s v < 4096 := sw_ch_lt 6 _
  refine ⟨hl, ?_⟩
  have H := sw_spec 6 (sw_st (sw_w s v 0) 7)
  cases hf : sw_fin 6 (sw_st (sw_w s v 0) 7)
  · right
    have h := H.2 hf
    refine ⟨?_, fun n' hn => ?_⟩
    · have h1 : sw_n s v + 1 = 4096 := h.1
      omega
    · rw [sw_code_acc hn]
      exact h.2 n' hn
  · left
    have h := H.1 hf
    refine ⟨?_, fun n' hn => ?_⟩
    · rw [sw_code_acc hl]
      exact h.1
    · rw [sw_code_acc (by omega)]
      exact h.2 n' hn
theorem sw_cd_eq : ∀ d st i, d ≤ 13 → 14 - d ≤ i → i ≤ 13 → sw_cd d st i = sw_ch d st / 4 ^ (13 - i) % 4
  | 0, st, i, _, h1, h2 => by omega
  | d + 1, st, i, h0, h1, h2 => by
    have e0 : sw_ch (d + 1) st = sw_sy d st * 4 ^ d + sw_ch d (sw_fo (13 - d) st (sw_sy d st)) := rfl
    have e1 : sw_cd (d + 1) st i = if i = 13 - d then sw_sy d st else sw_cd d (sw_fo (13 - d) st (sw_sy d st)) i := rfl
    have hc := sw_ch_lt d (sw_fo (13 - d) st (sw_sy d st))
    have hp : 0 < 4 ^ d := Nat.pow_pos (by decide)
    rw [e0, e1]
    by_cases c : i = 13 - d
    · rw [if_pos c, show 13 - i = d by omega, Nat.mul_comm, Nat.mul_add_div hp, Nat.div_eq_of_lt hc, Nat.add_zero, Nat.mod_eq_of_lt (sw_sy_lt d st)]
    · rw [if_neg c, sw_dig (by omega)]
      exact sw_cd_eq d _ i (by omega) (by omega) h2
end SW
end
section
/-! the field of 16 elements; parity; the inverse of a Cauchy matrix (pure) -/
section GF
def gf_pw (i : Nat) : Nat := (820352033067891080114867803156349985 >>> (4 * i)) % 16
def gf_lg (a : Nat) : Nat := (14688061253356765440 >>> (4 * a)) % 16
def gf_m (a b : Nat) : Nat := if a % 16 = 0 then 0 else if b % 16 = 0 then 0 else gf_pw (gf_lg (a % 16) + gf_lg (b % 16))
def gf_q (a b : Nat) : Nat := if a % 16 = 0 then 0 else gf_pw (gf_lg (a % 16) + 15 - gf_lg (b % 16))
def gf_i (b : Nat) : Nat := gf_q 1 b
theorem gf_pw_lt (i : Nat) : gf_pw i < 16 := Nat.mod_lt _ (by decide)
theorem gf_m_lt (a b : Nat) : gf_m a b < 16 := by
  unfold gf_m
  split
  · decide
  · split
    · decide
    · exact gf_pw_lt _
theorem gf_q_lt (a b : Nat) : gf_q a b < 16 := by
  unfold gf_q
  split
  · decide
  · exact gf_pw_lt _
theorem gf_x16 {a b : Nat} (ha : a < 16) (hb : b < 16) : a ^^^ b < 16 := Nat.xor_lt_two_pow (n := 4) ha hb
theorem gf_x12 {a b : Nat} (ha : a < 4096) (hb : b < 4096) : a ^^^ b < 4096 := Nat.xor_lt_two_pow (n := 12) ha hb
theorem gf_xm (a b : Nat) : (a ^^^ b) % 16 = a % 16 ^^^ b % 16 := Nat.xor_mod_two_pow (n := 4)
theorem gf_m_mod (a b : Nat) : gf_m a b = gf_m (a % 16) (b % 16) := by
  unfold gf_m
  rw [Nat.mod_mod, Nat.mod_mod]
theorem gf_m_modr (a b : Nat) : gf_m a b = gf_m a (b % 16) := by
  unfold gf_m
  rw [Nat.mod_mod]
theorem gf_d1 : ∀ a, a < 16 → ∀ b, b < 16 → ∀ c, c < 16 → gf_m a (b ^^^ c) = gf_m a b ^^^ gf_m a c := by decide +kernel
theorem gf_d2 : ∀ a, a < 16 → ∀ b, b < 16 → ∀ c, c < 16 → gf_m (gf_m a b) c = gf_m a (gf_m b c) := by decide +kernel
theorem gf_d3 : ∀ a, a < 16 → ∀ b, b < 16 → gf_m a b = gf_m b a := by decide +kernel
theorem gf_d4 : ∀ a, a < 16 → gf_m 1 a = a := by decide +kernel
theorem gf_lt16 (a : Nat) : a % 16 < 16 := Nat.mod_lt _ (by decide)
theorem gf_m_x (a b c : Nat) : gf_m a (b ^^^ c) = gf_m a b ^^^ gf_m a c := by
  rw [gf_m_mod a (b ^^^ c), gf_m_mod a b, gf_m_mod a c, gf_xm]
  exact gf_d1 _ (gf_lt16 a) _ (gf_lt16 b) _ (gf_lt16 c)
theorem gf_m_c (a b : Nat) : gf_m a b = gf_m b a := by
  rw [gf_m_mod a b, gf_m_mod b a]
  exact gf_d3 _ (gf_lt16 a) _ (gf_lt16 b)
theorem gf_x_m (a b c : Nat) : gf_m (a ^^^ b) c = gf_m a c ^^^ gf_m b c := by
  rw [gf_m_c, gf_m_x, gf_m_c c a, gf_m_c c b]
theorem gf_m_a (a b c : Nat) : gf_m (gf_m a b) c = gf_m a (gf_m b c) := by
  have h := gf_d2 _ (gf_lt16 a) _ (gf_lt16 b) _ (gf_lt16 c)
  rw [← gf_m_mod a b, ← gf_m_mod b c] at h
  rw [gf_m_modr (gf_m a b) c, h, gf_m_mod (a % 16), Nat.mod_mod, ← gf_m_mod]
theorem gf_m_1 (a : Nat) : gf_m 1 a = a % 16 := by
  rw [gf_m_modr]
  exact gf_d4 _ (gf_lt16 a)
theorem gf_m_0 (a : Nat) : gf_m a 0 = 0 := by
  unfold gf_m
  split
  · rfl
  · rfl
theorem gf_0_m (a : Nat) : gf_m 0 a = 0 := rfl
/-! nibbles -/
def gf_nib (c v : Nat) : Nat := if c = 0 then v / 256 else if c = 1 then v / 16 % 16 else v % 16
def gf_sc (f v : Nat) : Nat := gf_m f (v / 256) * 256 + gf_m f (v / 16 % 16) * 16 + gf_m f (v % 16)
theorem gf_sc_lt (f v : Nat) : gf_sc f v < 4096 := by
  unfold gf_sc
  have h1 := gf_m_lt f (v / 256)
  have h2 := gf_m_lt f (v / 16 % 16)
  have h3 := gf_m_lt f (v % 16)
  omega
theorem gf_nib_lt {c v : Nat} (h : v < 4096) : gf_nib c v < 16 := by
  unfold gf_nib
  split
  · omega
  · split <;> omega
theorem gf_nib_sc (c f v : Nat) : gf_nib c (gf_sc f v) = gf_m f (gf_nib c v) := by
  unfold gf_nib gf_sc
  have h1 := gf_m_lt f (v / 256)
  have h2 := gf_m_lt f (v / 16 % 16)
  have h3 := gf_m_lt f (v % 16)
  by_cases c0 : c = 0
  · rw [if_pos c0, if_pos c0]; omega
  · rw [if_neg c0, if_neg c0]
    by_cases c1 : c = 1
    · rw [if_pos c1, if_pos c1]; omega
    · rw [if_neg c1, if_neg c1]; omega
theorem gf_nib_x (c x y : Nat) : gf_nib c (x ^^^ y) = gf_nib c x ^^^ gf_nib c y := by
  unfold gf_nib
  have e1 : (x ^^^ y) / 256 = x / 256 ^^^ y / 256 := Nat.xor_div_two_pow (n := 8)
  have e2 : (x ^^^ y) / 16 = x / 16 ^^^ y / 16 := Nat.xor_div_two_pow (n := 4)
  rw [e1, e2, gf_xm, gf_xm]
  split
  · rfl
  · split <;> rfl
theorem gf_nib_0 (c : Nat) : gf_nib c 0 = 0 := by
  unfold gf_nib
  split
  · rfl
  · split <;> rfl
theorem gf_nib_e {x y : Nat} (h : ∀ c, c < 3 → gf_nib c x = gf_nib c y) : x = y := by
  have h0 : x / 256 = y / 256 := h 0 (by decide)
  have h1 : x / 16 % 16 = y / 16 % 16 := h 1 (by decide)
  have h2 : x % 16 = y % 16 := h 2 (by decide)
  omega
/-! sums -/
def gf_XR (f : Nat → Nat) : Nat → Nat
  | 0 => 0
  | n + 1 => gf_XR f n ^^^ f n
theorem gf_XR_e {f g : Nat → Nat} : ∀ n, (∀ i, i < n → f i = g i) → gf_XR f n = gf_XR g n
  | 0, _ => rfl
  | n + 1, h => by
    show gf_XR f n ^^^ f n = gf_XR g n ^^^ g n
    rw [gf_XR_e n (fun i hi => h i (by omega)), h n (by omega)]
theorem gf_XR_x {f g : Nat → Nat} : ∀ n, gf_XR (fun i => f i ^^^ g i) n = gf_XR f n ^^^ gf_XR g n
  | 0 => (Nat.xor_self 0).symm
  | n + 1 => by
    show gf_XR (fun i => f i ^^^ g i) n ^^^ (f n ^^^ g n) = (gf_XR f n ^^^ f n) ^^^ (gf_XR g n ^^^ g n)
    rw [gf_XR_x n]
    ac_rfl
theorem gf_XR_m {f : Nat → Nat} (a : Nat) : ∀ n, gf_m a (gf_XR f n) = gf_XR (fun i => gf_m a (f i)) n
  | 0 => gf_m_0 a
  | n + 1 => by
    show gf_m a (gf_XR f n ^^^ f n) = gf_XR (fun i => gf_m a (f i)) n ^^^ gf_m a (f n)
    rw [gf_m_x, gf_XR_m a n]
theorem gf_XR_mr {f : Nat → Nat} (a : Nat) : ∀ n, gf_m (gf_XR f n) a = gf_XR (fun i => gf_m (f i) a) n
  | 0 => gf_0_m a
  | n + 1 => by
    show gf_m (gf_XR f n ^^^ f n) a = gf_XR (fun i => gf_m (f i) a) n ^^^ gf_m (f n) a
    rw [gf_x_m, gf_XR_mr a n]
theorem gf_XR_0 : ∀ n, gf_XR (fun _ => 0) n = 0
  | 0 => rfl
  | n + 1 => by
    show gf_XR (fun _ => 0) n ^^^ 0 = 0
    rw [gf_XR_0 n]
    rfl
theorem gf_XR_s {f : Nat → Nat → Nat} (m : Nat) : ∀ n, gf_XR (fun i => gf_XR (fun j => f i j) m) n = gf_XR (fun j => gf_XR (fun i => f i j) n) m
  | 0 => (gf_XR_0 m).symm
  | n + 1 => by
    show gf_XR (fun i => gf_XR (fun j => f i j) m) n ^^^ gf_XR (fun j => f n j) m = gf_XR (fun j => gf_XR (fun i => f i j) n ^^^ f n j) m
    rw [gf_XR_s m n, gf_XR_x]
theorem gf_XR_d {z : Nat → Nat} {k : Nat} : ∀ n, gf_XR (fun i => gf_m (if k = i then 1 else 0) (z i)) n = if k < n then z k % 16 else 0
  | 0 => rfl
  | n + 1 => by
    show gf_XR (fun i => gf_m (if k = i then 1 else 0) (z i)) n ^^^ gf_m (if k = n then 1 else 0) (z n) = _
    rw [gf_XR_d n]
    by_cases c : k = n
    · rw [if_neg (by omega), if_pos c, if_pos (by omega), gf_m_1, c, Nat.zero_xor]
    · rw [if_neg c, gf_0_m, Nat.xor_zero]
      by_cases c2 : k < n
      · rw [if_pos c2, if_pos (by omega)]
      · rw [if_neg c2, if_neg (by omega)]
theorem gf_XR_12 {f : Nat → Nat} : ∀ n, (∀ i, i < n → f i < 4096) → gf_XR f n < 4096
  | 0, _ => by
    show 0 < 4096
    decide
  | n + 1, h => gf_x12 (gf_XR_12 n (fun i hi => h i (by omega))) (h n (by omega))
theorem gf_XR_nib {f : Nat → Nat} (c : Nat) : ∀ n, gf_nib c (gf_XR f n) = gf_XR (fun i => gf_nib c (f i)) n
  | 0 => gf_nib_0 c
  | n + 1 => by
    show gf_nib c (gf_XR f n ^^^ f n) = gf_XR (fun i => gf_nib c (f i)) n ^^^ gf_nib c (f n)
    rw [gf_nib_x, gf_XR_nib c n]
/-- parity of a column, parity of all three -/
def gf_px (q : Nat) (f : Nat → Nat) (n : Nat) : Nat := gf_XR (fun i => gf_m (gf_i (q ^^^ i)) (f i)) n
def gf_pv (q : Nat) (f : Nat → Nat) (n : Nat) : Nat := gf_XR (fun i => gf_sc (gf_i (q ^^^ i)) (f i)) n
theorem gf_pv_lt (q : Nat) (f : Nat → Nat) (n : Nat) : gf_pv q f n < 4096 := gf_XR_12 n (fun _ _ => gf_sc_lt _ _)
theorem gf_nib_pv (c q : Nat) (f : Nat → Nat) (n : Nat) : gf_nib c (gf_pv q f n) = gf_px q (fun i => gf_nib c (f i)) n := by
  unfold gf_pv gf_px
  rw [gf_XR_nib]
  exact gf_XR_e n (fun i _ => gf_nib_sc _ _ _)
theorem gf_px_e {q : Nat} {f g : Nat → Nat} (n : Nat) (h : ∀ i, i < n → f i = g i) : gf_px q f n = gf_px q g n :=
  gf_XR_e n (fun i hi => by show gf_m _ (f i) = gf_m _ (g i); rw [h i hi])
/-! the inverse of the Cauchy matrix, as the component reckons it -/
def gf_ie1 (l p : Nat → Nat) (i j k e : Nat) : Nat := if k = j then e else gf_q (gf_m e (l i ^^^ p k)) (p j ^^^ p k)
def gf_ie2 (l p : Nat → Nat) (i j k e : Nat) : Nat := if k = i then e else gf_q (gf_m e (p j ^^^ l k)) (l i ^^^ l k)
def gf_ie (l p : Nat → Nat) (i j : Nat) : Nat → Nat
  | 0 => p j ^^^ l i
  | k + 1 => gf_ie2 l p i j k (gf_ie1 l p i j k (gf_ie l p i j k))
def gf_id (n : Nat) (l p : Nat → Nat) : Prop :=
  (∀ i, i < n → ∀ k, k < n → gf_XR (fun j => gf_m (gf_ie l p i j n) (gf_i (p j ^^^ l k))) n = if i = k then 1 else 0) ∧
  (∀ j, j < n → ∀ k, k < n → gf_XR (fun i => gf_m (gf_i (p j ^^^ l i)) (gf_ie l p i k n)) n = if j = k then 1 else 0)
theorem gf_inv1 {n : Nat} {l p : Nat → Nat} (h : gf_id n l p) (z : Nat → Nat) {i : Nat} (hi : i < n) :
    gf_XR (fun j => gf_m (gf_ie l p i j n) (gf_XR (fun k => gf_m (gf_i (p j ^^^ l k)) (z k)) n)) n = z i % 16 := by
  have e1 : gf_XR (fun j => gf_m (gf_ie l p i j n) (gf_XR (fun k => gf_m (gf_i (p j ^^^ l k)) (z k)) n)) n = gf_XR (fun j => gf_XR (fun k => gf_m (gf_m (gf_ie l p i j n) (gf_i (p j ^^^ l k))) (z k)) n) n :=
    gf_XR_e n (fun j _ => by
      show gf_m _ (gf_XR _ n) = _
      rw [gf_XR_m]
      exact gf_XR_e n (fun k _ => (gf_m_a _ _ _).symm))
  rw [e1, gf_XR_s]
  have e2 : gf_XR (fun k => gf_XR (fun j => gf_m (gf_m (gf_ie l p i j n) (gf_i (p j ^^^ l k))) (z k)) n) n = gf_XR (fun k => gf_m (if i = k then 1 else 0) (z k)) n :=
    gf_XR_e n (fun k hk => by
      show gf_XR _ n = gf_m _ (z k)
      rw [← h.1 i hi k hk, gf_XR_mr])
  rw [e2, gf_XR_d, if_pos hi]
theorem gf_inv2 {n : Nat} {l p : Nat → Nat} (h : gf_id n l p) (s : Nat → Nat) {j : Nat} (hj : j < n) :
    gf_XR (fun i => gf_m (gf_i (p j ^^^ l i)) (gf_XR (fun k => gf_m (gf_ie l p i k n) (s k)) n)) n = s j % 16 := by
  have e1 : gf_XR (fun i => gf_m (gf_i (p j ^^^ l i)) (gf_XR (fun k => gf_m (gf_ie l p i k n) (s k)) n)) n = gf_XR (fun i => gf_XR (fun k => gf_m (gf_m (gf_i (p j ^^^ l i)) (gf_ie l p i k n)) (s k)) n) n :=
    gf_XR_e n (fun j _ => by
      show gf_m _ (gf_XR _ n) = _
      rw [gf_XR_m]
      exact gf_XR_e n (fun k _ => (gf_m_a _ _ _).symm))
  rw [e1, gf_XR_s]
  have e2 : gf_XR (fun k => gf_XR (fun i => gf_m (gf_m (gf_i (p j ^^^ l i)) (gf_ie l p i k n)) (s k)) n) n = gf_XR (fun k => gf_m (if j = k then 1 else 0) (s k)) n :=
    gf_XR_e n (fun k hk => by
      show gf_XR _ n = gf_m _ (s k)
      rw [← h.2 j hj k hk, gf_XR_mr])
  rw [e2, gf_XR_d, if_pos hj]
/-! the identities by trying all lists -/
def gf_gd (l : List Nat) (i : Nat) : Nat := l.getD i 0
def gf_idB (n : Nat) (l p : List Nat) : Bool :=
  (List.range n).all (fun i => (List.range n).all (fun k =>
    (gf_XR (fun j => gf_m (gf_ie (gf_gd l) (gf_gd p) i j n) (gf_i (gf_gd p j ^^^ gf_gd l k))) n == if i = k then 1 else 0) &&
    (gf_XR (fun j => gf_m (gf_i (gf_gd p i ^^^ gf_gd l j)) (gf_ie (gf_gd l) (gf_gd p) j k n)) n == if i = k then 1 else 0)))
theorem gf_idB_p {n : Nat} {l p : List Nat} (h : gf_idB n l p = true) : gf_id n (gf_gd l) (gf_gd p) := by
  unfold gf_idB at h
  rw [List.all_eq_true] at h
  have H : ∀ i, i < n → ∀ k, k < n → _ := fun i hi k hk => List.all_eq_true.mp (h i (List.mem_range.mpr hi)) k (List.mem_range.mpr hk)
  refine ⟨fun i hi k hk => ?_, fun i hi k hk => ?_⟩
  · have := H i hi k hk
    rw [Bool.and_eq_true, beq_iff_eq, beq_iff_eq] at this
    exact this.1
  · have := H i hi k hk
    rw [Bool.and_eq_true, beq_iff_eq, beq_iff_eq] at this
    exact this.2
def gf_subs : List (List Nat) := [[], [12], [13], [14], [12, 13], [12, 14], [13, 14], [12, 13, 14]]
def gf_t1 (p : List Nat) : Bool := (List.range 12).all (fun a => gf_idB 1 [a] p)
def gf_t2 (p : List Nat) : Bool := (List.range 12).all (fun b => (List.range b).all (fun a => gf_idB 2 [a, b] p))
def gf_t3 (p : List Nat) : Bool := (List.range 12).all (fun c => (List.range c).all (fun b => (List.range b).all (fun a => gf_idB 3 [a, b, c] p)))
theorem gf_c1 : gf_t1 [12] = true ∧ gf_t1 [13] = true ∧ gf_t1 [14] = true ∧ gf_t1 [12, 13] = true ∧ gf_t1 [12, 14] = true ∧ gf_t1 [13, 14] = true ∧ gf_t1 [12, 13, 14] = true := by decide +kernel
theorem gf_c2 : gf_t2 [12, 13] = true ∧ gf_t2 [12, 14] = true ∧ gf_t2 [13, 14] = true ∧ gf_t2 [12, 13, 14] = true := by decide +kernel
theorem gf_c3 : gf_t3 [12, 13, 14] = true := by decide +kernel
end GF
end
section
/-! lost cells and held parities; solving (pure) -/
section SV
def gf_ls (P : Nat → Nat) : Nat → List Nat
  | 0 => []
  | n + 1 => if P n < 4096 then gf_ls P n else gf_ls P n ++ [n]
def gf_ps (P : Nat → Nat) : Nat → List Nat
  | 0 => []
  | n + 1 => if P (12 + n) < 4096 then gf_ps P n ++ [12 + n] else gf_ps P n
def gf_v0 (P : Nat → Nat) (i : Nat) : Nat := if P i < 4096 then P i else 0
theorem gf_gd_l {l : List Nat} {y r : Nat} (h : r < l.length) : gf_gd (l ++ [y]) r = gf_gd l r := by
  show ((l ++ [y])[r]?).getD 0 = (l[r]?).getD 0
  rw [List.getElem?_append_left h]
theorem gf_gd_e {l : List Nat} {y r : Nat} (h : r = l.length) : gf_gd (l ++ [y]) r = y := by
  subst h
  show ((l ++ [y])[l.length]?).getD 0 = y
  rw [List.getElem?_concat_length]
  rfl
theorem gf_len_app (l : List Nat) (y : Nat) : (l ++ [y]).length = l.length + 1 := by
  rw [List.length_append]; rfl
theorem gf_ls_h {P : Nat → Nat} {n : Nat} (h : P n < 4096) : gf_ls P (n + 1) = gf_ls P n := if_pos h
theorem gf_ls_n {P : Nat → Nat} {n : Nat} (h : ¬ P n < 4096) : gf_ls P (n + 1) = gf_ls P n ++ [n] := if_neg h
theorem gf_ps_h {P : Nat → Nat} {n : Nat} (h : P (12 + n) < 4096) : gf_ps P (n + 1) = gf_ps P n ++ [12 + n] := if_pos h
theorem gf_ps_n {P : Nat → Nat} {n : Nat} (h : ¬ P (12 + n) < 4096) : gf_ps P (n + 1) = gf_ps P n := if_neg h
theorem gf_ls_len (P : Nat → Nat) : ∀ n, (gf_ls P n).length ≤ n
  | 0 => Nat.le_refl _
  | n + 1 => by
    have ih := gf_ls_len P n
    by_cases h : P n < 4096
    · rw [gf_ls_h h]; omega
    · rw [gf_ls_n h, gf_len_app]; omega
theorem gf_ls_mono (P : Nat → Nat) (a : Nat) : ∀ d, (gf_ls P a).length ≤ (gf_ls P (a + d)).length
  | 0 => Nat.le_refl _
  | d + 1 => by
    have ih := gf_ls_mono P a d
    have e : a + (d + 1) = a + d + 1 := rfl
    rw [e]
    by_cases h : P (a + d) < 4096
    · rw [gf_ls_h h]; omega
    · rw [gf_ls_n h, gf_len_app]; omega
theorem gf_ls_at {P : Nat → Nat} {y : Nat} (hy : ¬ P y < 4096) : ∀ n, y < n → (gf_ls P y).length < (gf_ls P n).length ∧ gf_gd (gf_ls P n) (gf_ls P y).length = y
  | 0, h => absurd h (Nat.not_lt_zero y)
  | n + 1, h => by
    by_cases c : y = n
    · subst c
      rw [gf_ls_n hy, gf_len_app]
      exact ⟨by omega, gf_gd_e rfl⟩
    · have ih := gf_ls_at hy n (by omega)
      by_cases hn : P n < 4096
      · rw [gf_ls_h hn]; exact ih
      · rw [gf_ls_n hn, gf_len_app, gf_gd_l ih.1]
        exact ⟨by omega, ih.2⟩
theorem gf_ls_ix {P : Nat → Nat} {r : Nat} : ∀ n, r < (gf_ls P n).length → gf_gd (gf_ls P n) r < n ∧ ¬ P (gf_gd (gf_ls P n) r) < 4096 ∧ (gf_ls P (gf_gd (gf_ls P n) r)).length = r
  | 0, h => absurd h (Nat.not_lt_zero r)
  | n + 1, h => by
    by_cases hn : P n < 4096
    · rw [gf_ls_h hn] at h ⊢
      have ih := gf_ls_ix n h
      exact ⟨by omega, ih.2⟩
    · rw [gf_ls_n hn, gf_len_app] at h
      rw [gf_ls_n hn]
      by_cases c : r < (gf_ls P n).length
      · have ih := gf_ls_ix n c
        rw [gf_gd_l c]
        exact ⟨by omega, ih.2⟩
      · rw [gf_gd_e (by omega)]
        exact ⟨by omega, hn, by omega⟩
theorem gf_ls_lt {P : Nat → Nat} {n r r' : Nat} (h : r < r') (h' : r' < (gf_ls P n).length) : gf_gd (gf_ls P n) r < gf_gd (gf_ls P n) r' := by
  have a := gf_ls_ix (P := P) n (show r < (gf_ls P n).length by omega)
  have b := gf_ls_ix n h'
  apply Nat.lt_of_not_le
  intro hle
  have m := gf_ls_mono P (gf_gd (gf_ls P n) r') (gf_gd (gf_ls P n) r - gf_gd (gf_ls P n) r')
  rw [show gf_gd (gf_ls P n) r' + (gf_gd (gf_ls P n) r - gf_gd (gf_ls P n) r') = gf_gd (gf_ls P n) r by omega, a.2.2, b.2.2] at m
  omega
theorem gf_ps_len (P : Nat → Nat) : ∀ n, (gf_ps P n).length ≤ n
  | 0 => Nat.le_refl _
  | n + 1 => by
    have ih := gf_ps_len P n
    by_cases h : P (12 + n) < 4096
    · rw [gf_ps_h h, gf_len_app]; omega
    · rw [gf_ps_n h]; omega
theorem gf_ps_ix {P : Nat → Nat} {r : Nat} : ∀ n, r < (gf_ps P n).length → 12 ≤ gf_gd (gf_ps P n) r ∧ gf_gd (gf_ps P n) r < 12 + n ∧ P (gf_gd (gf_ps P n) r) < 4096
  | 0, h => absurd h (Nat.not_lt_zero r)
  | n + 1, h => by
    by_cases hn : P (12 + n) < 4096
    · rw [gf_ps_h hn, gf_len_app] at h
      rw [gf_ps_h hn]
      by_cases c : r < (gf_ps P n).length
      · have ih := gf_ps_ix n c
        rw [gf_gd_l c]
        exact ⟨ih.1, by omega, ih.2.2⟩
      · rw [gf_gd_e (by omega)]
        exact ⟨by omega, by omega, hn⟩
    · rw [gf_ps_n hn] at h ⊢
      have ih := gf_ps_ix n h
      exact ⟨ih.1, by omega, ih.2.2⟩
theorem gf_ps_at {P : Nat → Nat} {q : Nat} (h1 : 12 ≤ q) (hq : P q < 4096) : ∀ n, q < 12 + n → ∃ r, r < (gf_ps P n).length ∧ gf_gd (gf_ps P n) r = q
  | 0, h => by omega
  | n + 1, h => by
    by_cases c : q = 12 + n
    · subst c
      rw [gf_ps_h hq, gf_len_app]
      exact ⟨(gf_ps P n).length, by omega, gf_gd_e rfl⟩
    · obtain ⟨r, r1, r2⟩ := gf_ps_at h1 hq n (by omega)
      by_cases hn : P (12 + n) < 4096
      · rw [gf_ps_h hn, gf_len_app]
        exact ⟨r, by omega, by rw [gf_gd_l r1]; exact r2⟩
      · rw [gf_ps_n hn]
        exact ⟨r, r1, r2⟩
theorem gf_ps_mem (P : Nat → Nat) {p : Nat} (hp : p ≤ 3) : gf_ps P p = [] ∨ gf_ps P p = [12] ∨ gf_ps P p = [13] ∨ gf_ps P p = [14] ∨ gf_ps P p = [12, 13] ∨ gf_ps P p = [12, 14] ∨ gf_ps P p = [13, 14] ∨ gf_ps P p = [12, 13, 14] := by
  rcases (by omega : p = 0 ∨ p = 1 ∨ p = 2 ∨ p = 3) with rfl | rfl | rfl | rfl
  · left; rfl
  · simp only [gf_ps]
    by_cases h0 : P (12 + 0) < 4096 <;> simp [h0]
  · simp only [gf_ps]
    by_cases h0 : P (12 + 0) < 4096 <;> by_cases h1 : P (12 + 1) < 4096 <;> simp [h0, h1]
  · simp only [gf_ps]
    by_cases h0 : P (12 + 0) < 4096 <;> by_cases h1 : P (12 + 1) < 4096 <;> by_cases h2 : P (12 + 2) < 4096 <;> simp [h0, h1, h2]
theorem gf_t1_u {p : List Nat} (h : gf_t1 p = true) {a : Nat} (ha : a < 12) : gf_id 1 (gf_gd [a]) (gf_gd p) :=
  gf_idB_p (List.all_eq_true.mp h a (List.mem_range.mpr ha))
theorem gf_t2_u {p : List Nat} (h : gf_t2 p = true) {a b : Nat} (ha : a < b) (hb : b < 12) : gf_id 2 (gf_gd [a, b]) (gf_gd p) :=
  gf_idB_p (List.all_eq_true.mp (List.all_eq_true.mp h b (List.mem_range.mpr hb)) a (List.mem_range.mpr ha))
theorem gf_t3_u {p : List Nat} (h : gf_t3 p = true) {a b c : Nat} (ha : a < b) (hb : b < c) (hc : c < 12) : gf_id 3 (gf_gd [a, b, c]) (gf_gd p) :=
  gf_idB_p (List.all_eq_true.mp (List.all_eq_true.mp (List.all_eq_true.mp h c (List.mem_range.mpr hc)) b (List.mem_range.mpr hb)) a (List.mem_range.mpr ha))
theorem gf_ok {P : Nat → Nat} {K p : Nat} (hK : K ≤ 12) (hp : p ≤ 3) (h : (gf_ls P K).length ≤ (gf_ps P p).length) : gf_id (gf_ls P K).length (gf_gd (gf_ls P K)) (gf_gd (gf_ps P p)) := by
  have hl := gf_ps_len P p
  have ix : ∀ r, r < (gf_ls P K).length → gf_gd (gf_ls P K) r < 12 := fun r hr => Nat.lt_of_lt_of_le (gf_ls_ix K hr).1 hK
  have lt : ∀ r r', r < r' → r' < (gf_ls P K).length → gf_gd (gf_ls P K) r < gf_gd (gf_ls P K) r' := fun r r' h h' => gf_ls_lt h h'
  have hm := gf_ps_mem P hp
  generalize gf_ps P p = ps at *
  generalize gf_ls P K = l at *
  obtain ⟨c1, c2, c3, c4, c5, c6, c7⟩ := gf_c1
  obtain ⟨d1, d2, d3, d4⟩ := gf_c2
  have e1 := gf_c3
  match l, ix, lt, h with
  | [], _, _, _ => exact ⟨fun i hi => absurd hi (Nat.not_lt_zero i), fun i hi => absurd hi (Nat.not_lt_zero i)⟩
  | [a], ix, _, h =>
    have ha : a < 12 := ix 0 (by simp)
    rcases hm with rfl | rfl | rfl | rfl | rfl | rfl | rfl | rfl
    · exact absurd h (by simp)
    all_goals exact gf_t1_u (by assumption) ha
  | [a, b], ix, lt, h =>
    have ha : b < 12 := ix 1 (by simp)
    have hb : a < b := lt 0 1 (by decide) (by simp)
    rcases hm with rfl | rfl | rfl | rfl | rfl | rfl | rfl | rfl
    · exact absurd h (by simp)
    · exact absurd h (by simp)
    · exact absurd h (by simp)
    · exact absurd h (by simp)
    all_goals exact gf_t2_u (by assumption) hb ha
  | [a, b, c], ix, lt, h =>
    have ha : c < 12 := ix 2 (by simp)
    have hb : b < c := lt 1 2 (by decide) (by simp)
    have hc : a < b := lt 0 1 (by decide) (by simp)
    rcases hm with rfl | rfl | rfl | rfl | rfl | rfl | rfl | rfl
    · exact absurd h (by simp)
    · exact absurd h (by simp)
    · exact absurd h (by simp)
    · exact absurd h (by simp)
    · exact absurd h (by simp)
    · exact absurd h (by simp)
    · exact absurd h (by simp)
    · exact gf_t3_u e1 hc hb ha
  | a :: b :: c :: d :: l', _, _, h =>
    exfalso
    have : (a :: b :: c :: d :: l').length = l'.length + 4 := rfl
    omega
theorem gf_px_ls {P f : Nat → Nat} {q : Nat} : ∀ n, gf_px q f n = gf_px q (fun i => if P i < 4096 then f i else 0) n ^^^ gf_XR (fun r => gf_m (gf_i (q ^^^ gf_gd (gf_ls P n) r)) (f (gf_gd (gf_ls P n) r))) (gf_ls P n).length
  | 0 => (Nat.xor_self 0).symm
  | n + 1 => by
    have ih := gf_px_ls (P := P) (f := f) (q := q) n
    have e1 : gf_px q f (n + 1) = gf_px q f n ^^^ gf_m (gf_i (q ^^^ n)) (f n) := rfl
    have e2 : gf_px q (fun i => if P i < 4096 then f i else 0) (n + 1) = gf_px q (fun i => if P i < 4096 then f i else 0) n ^^^ gf_m (gf_i (q ^^^ n)) (if P n < 4096 then f n else 0) := rfl
    rw [e1, e2, ih]
    by_cases hn : P n < 4096
    · rw [gf_ls_h hn, if_pos hn]
      ac_rfl
    · rw [gf_ls_n hn, if_neg hn, gf_m_0, gf_len_app, Nat.xor_zero]
      have e3 : ∀ F : Nat → Nat, ∀ m, gf_XR F (m + 1) = gf_XR F m ^^^ F m := fun _ _ => rfl
      rw [e3, gf_gd_e rfl]
      rw [gf_XR_e (f := fun r => gf_m (gf_i (q ^^^ gf_gd (gf_ls P n ++ [n]) r)) (f (gf_gd (gf_ls P n ++ [n]) r))) (g := fun r => gf_m (gf_i (q ^^^ gf_gd (gf_ls P n) r)) (f (gf_gd (gf_ls P n) r))) (gf_ls P n).length (fun r hr => by
        show gf_m (gf_i (q ^^^ gf_gd (gf_ls P n ++ [n]) r)) (f (gf_gd (gf_ls P n ++ [n]) r)) = _
        rw [gf_gd_l hr])]
      ac_rfl
def gf_syn (P : Nat → Nat) (K : Nat) (ps : List Nat) (j : Nat) : Nat := P (gf_gd ps j) ^^^ gf_pv (gf_gd ps j) (gf_v0 P) K
def gf_val (P : Nat → Nat) (K : Nat) (ps : List Nat) (i : Nat) : Nat := gf_XR (fun j => gf_sc (gf_ie (gf_gd (gf_ls P K)) (gf_gd ps) i j (gf_ls P K).length) (gf_syn P K ps j)) (gf_ls P K).length
def gf_vF (P : Nat → Nat) (K : Nat) (ps : List Nat) (i : Nat) : Nat := if P i < 4096 then P i else gf_val P K ps (gf_ls P i).length
theorem gf_val_lt (P : Nat → Nat) (K : Nat) (ps : List Nat) (i : Nat) : gf_val P K ps i < 4096 := gf_XR_12 _ (fun _ _ => gf_sc_lt _ _)
theorem gf_vF_lt (P : Nat → Nat) (K : Nat) (ps : List Nat) (i : Nat) : gf_vF P K ps i < 4096 := by
  unfold gf_vF
  split
  · assumption
  · exact gf_val_lt _ _ _ _
theorem gf_v0_lt (P : Nat → Nat) (i : Nat) : gf_v0 P i < 4096 := by
  unfold gf_v0
  split
  · assumption
  · decide
theorem gf_vF_l {P : Nat → Nat} {K : Nat} {ps : List Nat} {r : Nat} (h : r < (gf_ls P K).length) : gf_vF P K ps (gf_gd (gf_ls P K) r) = gf_val P K ps r := by
  have := gf_ls_ix K h
  unfold gf_vF
  rw [if_neg this.2.1, this.2.2]
theorem gf_nib_val (c : Nat) (P : Nat → Nat) (K : Nat) (ps : List Nat) (i : Nat) : gf_nib c (gf_val P K ps i) = gf_XR (fun j => gf_m (gf_ie (gf_gd (gf_ls P K)) (gf_gd ps) i j (gf_ls P K).length) (gf_nib c (gf_syn P K ps j))) (gf_ls P K).length := by
  unfold gf_val
  rw [gf_XR_nib]
  exact gf_XR_e _ (fun j _ => gf_nib_sc _ _ _)
theorem gf_solve1 {P : Nat → Nat} {K : Nat} {ps : List Nat} {c j : Nat} (H : gf_id (gf_ls P K).length (gf_gd (gf_ls P K)) (gf_gd ps)) (hj : j < (gf_ls P K).length) (hP : P (gf_gd ps j) < 4096) :
    gf_px (gf_gd ps j) (fun i => gf_nib c (gf_vF P K ps i)) K = gf_nib c (P (gf_gd ps j)) := by
  rw [gf_px_ls (P := P)]
  have e1 : gf_px (gf_gd ps j) (fun i => if P i < 4096 then gf_nib c (gf_vF P K ps i) else 0) K = gf_nib c (gf_pv (gf_gd ps j) (gf_v0 P) K) := by
    rw [gf_nib_pv]
    apply gf_px_e
    intro i _
    show (if P i < 4096 then gf_nib c (gf_vF P K ps i) else 0) = gf_nib c (gf_v0 P i)
    unfold gf_vF gf_v0
    by_cases h : P i < 4096
    · simp only [if_pos h]
    · rw [if_neg h, if_neg h, gf_nib_0]
  rw [e1]
  rw [gf_XR_e (g := fun r => gf_m (gf_i (gf_gd ps j ^^^ gf_gd (gf_ls P K) r)) (gf_XR (fun k => gf_m (gf_ie (gf_gd (gf_ls P K)) (gf_gd ps) r k (gf_ls P K).length) (gf_nib c (gf_syn P K ps k))) (gf_ls P K).length)) (gf_ls P K).length (fun r hr => by
    show gf_m _ (gf_nib c (gf_vF P K ps (gf_gd (gf_ls P K) r))) = _
    rw [gf_vF_l hr, gf_nib_val])]
  rw [gf_inv2 H _ hj]
  have hs : gf_syn P K ps j < 4096 := gf_x12 hP (gf_pv_lt _ _ _)
  rw [Nat.mod_eq_of_lt (gf_nib_lt hs)]
  unfold gf_syn
  rw [gf_nib_x, Nat.xor_comm (gf_nib c (P _)), ← Nat.xor_assoc, Nat.xor_self, Nat.zero_xor]
theorem gf_solve2 {P : Nat → Nat} {K : Nat} {ps : List Nat} {c : Nat} (H : gf_id (gf_ls P K).length (gf_gd (gf_ls P K)) (gf_gd ps)) {f : Nat → Nat}
    (hf : ∀ i, i < K → P i < 4096 → f i = gf_nib c (P i)) (hl : ∀ i, i < K → f i < 16)
    (h : ∀ j, j < (gf_ls P K).length → gf_px (gf_gd ps j) f K = gf_nib c (P (gf_gd ps j))) (i : Nat) (hi : i < K) : f i = gf_nib c (gf_vF P K ps i) := by
  by_cases hP : P i < 4096
  · rw [hf i hi hP]
    unfold gf_vF
    rw [if_pos hP]
  · have hx := gf_ls_at hP K hi
    have e := gf_inv1 H (fun k => f (gf_gd (gf_ls P K) k)) hx.1
    rw [hx.2, Nat.mod_eq_of_lt (hl i hi)] at e
    rw [← e]
    unfold gf_vF
    rw [if_neg hP, gf_nib_val]
    apply gf_XR_e
    intro j hj
    show gf_m _ (gf_XR _ _) = gf_m _ _
    congr 1
    have e2 := h j hj
    rw [gf_px_ls (P := P)] at e2
    have e1 : gf_px (gf_gd ps j) (fun i => if P i < 4096 then f i else 0) K = gf_nib c (gf_pv (gf_gd ps j) (gf_v0 P) K) := by
      rw [gf_nib_pv]
      apply gf_px_e
      intro i hi
      show (if P i < 4096 then f i else 0) = gf_nib c (gf_v0 P i)
      unfold gf_v0
      by_cases h : P i < 4096
      · rw [if_pos h, if_pos h, hf i hi h]
      · rw [if_neg h, if_neg h, gf_nib_0]
    rw [e1] at e2
    unfold gf_syn
    rw [gf_nib_x, ← e2, Nat.xor_comm, ← Nat.xor_assoc, Nat.xor_self, Nat.zero_xor]
/-! the choice number t, and what agreement means -/
def gf_ft (P : Nat → Nat) (c t i : Nat) : Nat := if P i < 4096 then gf_nib c (P i) else t / 16 ^ (gf_ls P i).length % 16
def gf_ag (P : Nat → Nat) (K p c : Nat) (f : Nat → Nat) : Prop := ∀ q, 12 ≤ q → q < 12 + p → P q < 4096 → gf_px q f K = gf_nib c (P q)
theorem gf_ft_lt {P : Nat → Nat} {c t i : Nat} : gf_ft P c t i < 16 := by
  unfold gf_ft
  split
  · exact gf_nib_lt (by assumption)
  · exact Nat.mod_lt _ (by decide)
theorem gf_ag_e {P f g : Nat → Nat} {K p c : Nat} (h : ∀ i, i < K → f i = g i) (a : gf_ag P K p c f) : gf_ag P K p c g :=
  fun q h1 h2 h3 => by rw [← gf_px_e K h]; exact a q h1 h2 h3
theorem gf_digs (z : Nat → Nat) (hz : ∀ r, z r < 16) {n : Nat} (hn : n ≤ 3) : ∃ t, t < 16 ^ n ∧ ∀ r, r < n → t / 16 ^ r % 16 = z r := by
  have h0 := hz 0
  have h1 := hz 1
  have h2 := hz 2
  rcases (by omega : n = 0 ∨ n = 1 ∨ n = 2 ∨ n = 3) with rfl | rfl | rfl | rfl
  · exact ⟨0, by decide, fun r hr => absurd hr (Nat.not_lt_zero r)⟩
  · refine ⟨z 0, by simp only [Nat.reducePow]; omega, fun r hr => ?_⟩
    rcases (by omega : r = 0) with rfl
    simp only [Nat.reducePow]; omega
  · refine ⟨z 0 + 16 * z 1, by simp only [Nat.reducePow]; omega, fun r hr => ?_⟩
    rcases (by omega : r = 0 ∨ r = 1) with rfl | rfl <;> (simp only [Nat.reducePow]; omega)
  · refine ⟨z 0 + 16 * z 1 + 256 * z 2, by simp only [Nat.reducePow]; omega, fun r hr => ?_⟩
    rcases (by omega : r = 0 ∨ r = 1 ∨ r = 2) with rfl | rfl | rfl <;> (simp only [Nat.reducePow]; omega)
theorem gf_col_t {P : Nat → Nat} {K : Nat} (ps : List Nat) (c : Nat) (hn : (gf_ls P K).length ≤ 3) : ∃ t, t < 16 ^ (gf_ls P K).length ∧ ∀ i, i < K → gf_ft P c t i = gf_nib c (gf_vF P K ps i) := by
  obtain ⟨t, t1, t2⟩ := gf_digs (fun r => gf_nib c (gf_val P K ps r)) (fun r => gf_nib_lt (gf_val_lt _ _ _ _)) hn
  refine ⟨t, t1, fun i hi => ?_⟩
  unfold gf_ft gf_vF
  by_cases h : P i < 4096
  · rw [if_pos h, if_pos h]
  · rw [if_neg h, if_neg h]
    exact t2 _ (gf_ls_at h K hi).1
theorem gf_col_u {P : Nat → Nat} {K p c t : Nat} (hK : K ≤ 12) (hp : p ≤ 3) (h : (gf_ls P K).length ≤ (gf_ps P p).length) (a : gf_ag P K p c (gf_ft P c t)) (i : Nat) (hi : i < K) : gf_ft P c t i = gf_nib c (gf_vF P K (gf_ps P p) i) := by
  refine gf_solve2 (f := gf_ft P c t) (gf_ok hK hp h) (fun i _ h => ?_) (fun i _ => gf_ft_lt) (fun j hj => ?_) i hi
  · unfold gf_ft
    rw [if_pos h]
  · have := gf_ps_ix (P := P) p (show j < _ by omega)
    exact a _ this.1 this.2.1 this.2.2
/-- all held parities agree with the solved vector -/
def gf_AP (P : Nat → Nat) (K p : Nat) : Prop := ∀ j, j < (gf_ps P p).length → gf_pv (gf_gd (gf_ps P p) j) (gf_vF P K (gf_ps P p)) K = P (gf_gd (gf_ps P p) j)
theorem gf_AP_iff {P : Nat → Nat} {K p : Nat} : gf_AP P K p ↔ ∀ c, c < 3 → gf_ag P K p c (fun i => gf_nib c (gf_vF P K (gf_ps P p) i)) := by
  constructor
  · intro h c _ q h1 h2 h3
    obtain ⟨r, r1, r2⟩ := gf_ps_at h1 h3 p h2
    have := h r r1
    rw [r2] at this
    rw [← gf_nib_pv, this]
  · intro h j hj
    have ix := gf_ps_ix p hj
    apply gf_nib_e
    intro c hc
    rw [gf_nib_pv]
    exact h c hc _ ix.1 ix.2.1 ix.2.2
end SV
end
section
/-! numbers with literals; the component's tables and its field -/
section NU
theorem zd_d4 {a : Nat} (h : a < 2 ^ 31) : nI a / 4 = nI (a / 4) := pk_div h (by decide) (by decide)
theorem zd_d14 {a : Nat} (h : a < 2 ^ 31) : nI a / 14 = nI (a / 14) := pk_div h (by decide) (by decide)
theorem zd_d16 {a : Nat} (h : a < 2 ^ 31) : nI a / 16 = nI (a / 16) := pk_div h (by decide) (by decide)
theorem zd_d56 {a : Nat} (h : a < 2 ^ 31) : nI a / 56 = nI (a / 56) := pk_div h (by decide) (by decide)
theorem zd_d256 {a : Nat} (h : a < 2 ^ 31) : nI a / 256 = nI (a / 256) := pk_div h (by decide) (by decide)
theorem zd_r4 {a : Nat} (h : a < 2 ^ 31) : nI a - nI a / 4 * 4 = nI (a % 4) := pk_rem h (by decide) (by decide)
theorem zd_r14 {a : Nat} (h : a < 2 ^ 31) : nI a - nI a / 14 * 14 = nI (a % 14) := pk_rem h (by decide) (by decide)
theorem zd_r16 {a : Nat} (h : a < 2 ^ 31) : nI a - nI a / 16 * 16 = nI (a % 16) := pk_rem h (by decide) (by decide)
theorem zd_m2 (a : Nat) : nI a * 2 = nI (a * 2) := pk_mul a 2
theorem zd_m4 (a : Nat) : nI a * 4 = nI (a * 4) := pk_mul a 4
theorem zd_m14 (a : Nat) : nI a * 14 = nI (a * 14) := pk_mul a 14
theorem zd_m16 (a : Nat) : nI a * 16 = nI (a * 16) := pk_mul a 16
theorem zd_m56 (a : Nat) : nI a * 56 = nI (a * 56) := pk_mul a 56
theorem zd_m224 (a : Nat) : nI a * 224 = nI (a * 224) := pk_mul a 224
theorem zd_m256 (a : Nat) : nI a * 256 = nI (a * 256) := pk_mul a 256
theorem zd_m4096 (a : Nat) : nI a * 4096 = nI (a * 4096) := pk_mul a 4096
theorem zd_4m (a : Nat) : 4 * nI a = nI (4 * a) := pk_mul 4 a
theorem zd_16m (a : Nat) : 16 * nI a = nI (16 * a) := pk_mul 16 a
theorem zd_s1 {a : Nat} (h : 1 ≤ a) : nI a - 1 = nI (a - 1) := pk_sub (b := 1) h
theorem zd_s4 {a : Nat} (h : 4 ≤ a) : nI a - 4 = nI (a - 4) := pk_sub (b := 4) h
theorem zd_s7 {a : Nat} (h : 7 ≤ a) : nI a - 7 = nI (a - 7) := pk_sub (b := 7) h
theorem zd_s8 {a : Nat} (h : 8 ≤ a) : nI a - 8 = nI (a - 8) := pk_sub (b := 8) h
theorem zd_a12 (a : Nat) : 12 + nI a = nI (12 + a) := nI_add 12 a
theorem zd_a15 (a : Nat) : nI a + 15 = nI (a + 15) := nI_add a 15
theorem zd_1344 (a : Nat) : 1344 + nI a = nI (1344 + a) := nI_add 1344 a
theorem zd_4s {a : Nat} (h : a ≤ 4) : 4 - nI a = nI (4 - a) := pk_sub (a := 4) h
theorem zd_14s {a : Nat} (h : a ≤ 14) : 14 - nI a = nI (14 - a) := pk_sub (a := 14) h
theorem zd_1s {a : Nat} (h : a ≤ 1) : 1 - nI a = nI (1 - a) := pk_sub (a := 1) h
theorem zd_n1 {a : Nat} (h : a < 2 ^ 31) : ¬ nI a = -1 := by
  intro e
  have := nI_pos (n := a) h
  rw [e] at this
  exact this (by decide)
/-- the payload m, or nothing -/
def zx_P (m : Nat) : Int32 := if m < 4096 then nI m else -1
theorem zx_lt {m : Nat} (h : m < 4096) : zx_P m = nI m := if_pos h
theorem zx_ge {m : Nat} (h : ¬ m < 4096) : zx_P m = -1 := if_neg h
theorem zx_le0 {m : Nat} {A B : Prop} (f : m < 4096 → A) (g : ¬ m < 4096 → B) : (0 ≤ zx_P m → A) ∧ (¬ 0 ≤ zx_P m → B) := by
  by_cases h : m < 4096
  · rw [zx_lt h]; exact br_t (nI_pos' (by omega)) (f h)
  · rw [zx_ge h]; exact br_f (by decide) (g h)
theorem zx_lt0 {m : Nat} {A B : Prop} (f : m < 4096 → A) (g : ¬ m < 4096 → B) : (zx_P m < 0 → B) ∧ (¬ zx_P m < 0 → A) := by
  by_cases h : m < 4096
  · rw [zx_lt h]; exact br_f (nI_pos (by omega)) (f h)
  · rw [zx_ge h]; exact br_t (by decide) (g h)
/-- t with the first i places taken from f -/
def zc_cp (f t : Nat → Int32) (i : Nat) : Nat → Int32 := fun j => if j < i then f j else t j
theorem zc_0 (f t : Nat → Int32) : zc_cp f t 0 = t := by
  funext j
  exact if_neg (Nat.not_lt_zero j)
theorem zc_s {f t : Nat → Int32} {i : Nat} : upd (zc_cp f t i) i (f i) = zc_cp f t (i + 1) := by
  funext j
  unfold upd zc_cp
  by_cases h : j = i
  · rw [if_pos h, if_pos (by omega), h]
  · rw [if_neg h]
    by_cases h2 : j < i
    · rw [if_pos h2, if_pos (by omega)]
    · rw [if_neg h2, if_neg (by omega)]
theorem zc_lt {f t : Nat → Int32} {i j : Nat} (h : j < i) : zc_cp f t i j = f j := if_pos h
theorem zc_ge {f t : Nat → Int32} {i j : Nat} (h : i ≤ j) : zc_cp f t i j = t j := if_neg (by omega)
theorem zc_e {f g t : Nat → Int32} {i : Nat} (h : ∀ j, j < i → f j = g j) : zc_cp f t i = zc_cp g t i := by
  funext j
  unfold zc_cp
  by_cases h2 : j < i
  · rw [if_pos h2, if_pos h2, h j h2]
  · rw [if_neg h2, if_neg h2]
def xw_b (b : Bool) : Int32 := if b = true then 1 else 0
theorem xw_bt {A B : Prop} {b : Bool} (f : b = true → A) (g : b = false → B) : (xw_b b = 0 → B) ∧ (¬ xw_b b = 0 → A) := by
  cases b
  · exact br_t (by decide) (g rfl)
  · exact br_f (by decide) (f rfl)
theorem xw_nar (b : Bool) : vp_nar .boolean (xw_b b) = xw_b b := by
  cases b <;> rfl
end NU
section XT
variable {dK dP dS dL gS gO gM gF gT gC gH : Int32} {aC aT aP aW aL aF aU aR aS aV aO aQ aY : Nat → Int32}
/-! the field -/
def xw_TW (aW : Nat → Int32) : Prop := ∀ j, j < 30 → aW j = nI (gf_pw j)
def xw_TL (aL : Nat → Int32) : Prop := ∀ a, 1 ≤ a → a < 16 → aL a = nI (gf_lg a)
theorem xw_lg14 : ∀ a, a < 16 → gf_lg a ≤ 14 := by decide +kernel
theorem xw_fs : ∀ i, i < 15 → (gf_pw i * 2 ≤ 15 → gf_pw (i + 1) = gf_pw i * 2) ∧ (15 < gf_pw i * 2 → gf_pw (i + 1) = (gf_pw i * 2) ^^^ 19) ∧ gf_pw (i + 15) = gf_pw i ∧ 1 ≤ gf_pw i := by decide +kernel
theorem xw_fj : ∀ i, i < 15 → ∀ j, j < i → gf_pw j ≠ gf_pw i := by decide +kernel
theorem xw_fl : ∀ a, a < 16 → 1 ≤ a → gf_lg a < 15 ∧ gf_pw (gf_lg a) = a := by decide +kernel
theorem xw_field4 {post : SX → Prop} (h : ∀ aW aL, xw_TW aW → xw_TL aL → post (dK, dP, dS, dL, gS, gO, gM, gF, gT, gC, gH, aC, aT, aP, aW, aL, aF, aU, aR, aS, aV, aO, aQ, aY)) : ∀ (n i : Nat) (aW aL : Nat → Int32), i ≤ 15 → 15 < n + i →
    (∀ j, j < i → aW j = nI (gf_pw j) ∧ aW (j + 15) = nI (gf_pw j) ∧ aL (gf_pw j) = nI j) →
    wX_fillField_4 post dK dP dS dL gS gO gM gF gT gC gH n (nI (gf_pw i)) (nI i) aC aT aP aW aL aF aU aR aS aV aO aQ aY := by
  intro n
  induction n with
  | zero => intro i aW aL h1 h2; omega
  | succ n ih =>
    intro i aW aL h1 h2 h3
    refine pk_le 15 i (fun c => ?_) (fun c => ?_)
    · have hi : i = 15 := by omega
      subst hi
      refine h aW aL (fun j hj => ?_) (fun a a1 a2 => ?_)
      · by_cases c2 : j < 15
        · exact (h3 j c2).1
        · have e := (h3 (j - 15) (by omega)).2.1
          have e2 := (xw_fs (j - 15) (by omega)).2.2.1
          rw [show j - 15 + 15 = j by omega] at e e2
          rw [e, e2]
      · have f := xw_fl a a2 a1
        have e := (h3 _ f.1).2.2
        rw [f.2] at e
        exact e
    · obtain ⟨s1, s2, s3, s4⟩ := xw_fs i c
      have lt := gf_pw_lt i
      refine ⟨vp_in_nI (by omega) (by decide), ?_⟩
      rw [nI_clamp (by omega), zd_a15]
      refine nm_e ⟨vp_in_nI (by omega) (by decide), ?_⟩
      rw [nI_clamp (n := i + 15) (by omega)]
      refine nm_e ⟨vp_in_nI (by omega) (by decide), ?_⟩
      rw [nI_clamp (n := gf_pw i) (by omega)]
      refine nm_e (nm_r (zd_m2 _) ?_)
      have H : ∀ j, j < i + 1 → upd (upd aW i (nI (gf_pw i))) (i + 15) (nI (gf_pw i)) j = nI (gf_pw j) ∧ upd (upd aW i (nI (gf_pw i))) (i + 15) (nI (gf_pw i)) (j + 15) = nI (gf_pw j) ∧ upd aL (gf_pw i) (nI i) (gf_pw j) = nI j := by
        intro j hj
        by_cases c2 : j = i
        · subst c2
          refine ⟨?_, pk_us, pk_us⟩
          rw [pk_un (by omega)]
          exact pk_us
        · have o := h3 j (by omega)
          refine ⟨?_, ?_, ?_⟩
          · rw [pk_un (by omega), pk_un (by omega)]; exact o.1
          · rw [pk_un (by omega), pk_un (by omega)]; exact o.2.1
          · rw [pk_un (xw_fj i c j (by omega))]; exact o.2.2
      refine pk_le (gf_pw i * 2) 15 (fun c3 => ?_) (fun c3 => ?_)
      · refine nm_r (nI_1 i) ?_
        rw [← s1 c3]
        exact ih (i + 1) _ _ (by omega) (by omega) H
      · refine nm_r (nx_xor (gf_pw i * 2) 19) (nm_r (nI_1 i) ?_)
        rw [← s2 c3]
        exact ih (i + 1) _ _ (by omega) (by omega) H
theorem xw_fillField {post : SX → Prop} (h : ∀ aW aL, xw_TW aW → xw_TL aL → post (dK, dP, dS, dL, gS, gO, gM, gF, gT, gC, gH, aC, aT, aP, aW, aL, aF, aU, aR, aS, aV, aO, aQ, aY)) : wpX_fillField post (dK, dP, dS, dL, gS, gO, gM, gF, gT, gC, gH, aC, aT, aP, aW, aL, aF, aU, aR, aS, aV, aO, aQ, aY) :=
  ⟨16, xw_field4 h 16 0 aW aL (by omega) (by omega) (fun j hj => absurd hj (Nat.not_lt_zero j))⟩
theorem xw_multiply {post : Int32 → Prop} {a b : Nat} (hW : xw_TW aW) (hL : xw_TL aL) (ha : a < 16) (hb : b < 16) (h : post (nI (gf_m a b))) : wpX_multiply post (dK, dP, dS, dL, gS, gO, gM, gF, gT, gC, gH, aC, aT, aP, aW, aL, aF, aU, aR, aS, aV, aO, aQ, aY) (nI a) (nI b) := by
  have l1 := xw_lg14 a ha
  have l2 := xw_lg14 b hb
  unfold gf_m at h
  rw [Nat.mod_eq_of_lt ha, Nat.mod_eq_of_lt hb] at h
  refine pk_eq a 0 (fun c => ?_) (fun c => ?_)
  · rw [if_pos c] at h; exact h
  · rw [if_neg c] at h
    refine pk_eq b 0 (fun c2 => ?_) (fun c2 => ?_)
    · rw [if_pos c2] at h; exact h
    · rw [if_neg c2] at h
      refine ⟨vp_in_nI ha (by decide), vp_in_nI hb (by decide), ?_⟩
      rw [nI_clamp (by omega), nI_clamp (by omega), hL a (by omega) ha, hL b (by omega) hb, nI_add, nI_clamp (by omega), hW _ (by omega)]
      exact ⟨vp_in_nI (by omega) (by decide), h⟩
theorem xw_quotient {post : Int32 → Prop} {a b : Nat} (hW : xw_TW aW) (hL : xw_TL aL) (ha : a < 16) (hb : b < 16) (hb1 : 1 ≤ b) (h : post (nI (gf_q a b))) : wpX_quotient post (dK, dP, dS, dL, gS, gO, gM, gF, gT, gC, gH, aC, aT, aP, aW, aL, aF, aU, aR, aS, aV, aO, aQ, aY) (nI a) (nI b) := by
  have l1 := xw_lg14 a ha
  have l2 := xw_lg14 b hb
  unfold gf_q at h
  rw [Nat.mod_eq_of_lt ha, Nat.mod_eq_of_lt hb] at h
  refine pk_eq a 0 (fun c => ?_) (fun c => ?_)
  · rw [if_pos c] at h; exact h
  · rw [if_neg c] at h
    refine ⟨vp_in_nI ha (by decide), vp_in_nI hb (by decide), ?_⟩
    rw [nI_clamp (by omega), nI_clamp (by omega), hL a (by omega) ha, hL b (by omega) hb, zd_a15, pk_sub (by omega), nI_clamp (by omega), hW _ (by omega)]
    exact ⟨vp_in_nI (by omega) (by decide), h⟩
theorem xw_scale {post : Int32 → Prop} {f v : Nat} (hW : xw_TW aW) (hL : xw_TL aL) (hf : f < 16) (hv : v < 4096) (h : post (nI (gf_sc f v))) : wpX_scale post (dK, dP, dS, dL, gS, gO, gM, gF, gT, gC, gH, aC, aT, aP, aW, aL, aF, aU, aR, aS, aV, aO, aQ, aY) (nI f) (nI v) := by
  unfold wpX_scale
  refine ⟨by decide, ?_⟩
  rw [zd_d256 (by omega), zd_r16 (a := v) (by omega), zd_d16 (a := v) (by omega), zd_r16 (a := v / 16) (by omega)]
  refine xw_multiply hW hL hf (by omega) ⟨by decide, by decide, ?_⟩
  refine xw_multiply hW hL hf (by omega) ⟨by decide, ?_⟩
  refine xw_multiply hW hL hf (by omega) ?_
  rw [zd_m256, zd_m16, nI_add, nI_add]
  exact h
theorem xw_par4 {post : Int32 → Prop} {q K : Nat} {V : Nat → Nat} (hW : xw_TW aW) (hL : xw_TL aL) (hq : q < 16) (hq2 : 12 ≤ q) (hK : K ≤ 12) (hV : ∀ i, i < K → aV i = nI (V i) ∧ V i < 4096) (h : post (nI (gf_pv q V K))) :
    ∀ (n i : Nat), i ≤ K → K < n + i → wX_parity_4 post (nI q) (nI K) dP dS dL gS gO gM gF gT gC gH aC aT aP aW aL aF aU aR aS aV aO aQ aY n (nI (gf_pv q V i)) (nI i) := by
  intro n
  induction n with
  | zero => intro i h1 h2; omega
  | succ n ih =>
    intro i h1 h2
    refine pk_le K i (fun c => ?_) (fun c => ?_)
    · rw [show K = i by omega] at h
      exact h
    · have hx : q ^^^ i < 16 := gf_x16 hq (by omega)
      have hx1 : 1 ≤ q ^^^ i := by
        apply Nat.pos_of_ne_zero
        intro e
        have e2 : q = i := by
          have := congrArg (fun z => z ^^^ i) e
          simp only [Nat.xor_assoc, Nat.xor_self, Nat.xor_zero, Nat.zero_xor] at this
          exact this
        omega
      rw [nx_xor]
      refine xw_quotient (a := 1) hW hL (by decide) hx hx1 ⟨vp_in_nI (by omega) (by decide), ?_⟩
      rw [nI_clamp (by omega), (hV i c).1]
      refine xw_scale hW hL (gf_q_lt _ _) (hV i c).2 (nm_r (nx_xor _ _) (nm_r (nI_1 i) ?_))
      exact ih (i + 1) (by omega) (by omega)
theorem xw_parity {post : Int32 → Prop} {q K : Nat} {V : Nat → Nat} (hW : xw_TW aW) (hL : xw_TL aL) (hq : q < 16) (hq2 : 12 ≤ q) (hK : K ≤ 12) (hV : ∀ i, i < K → aV i = nI (V i) ∧ V i < 4096) (h : post (nI (gf_pv q V K))) : wpX_parity post (nI K, dP, dS, dL, gS, gO, gM, gF, gT, gC, gH, aC, aT, aP, aW, aL, aF, aU, aR, aS, aV, aO, aQ, aY) (nI q) :=
  ⟨K + 1, xw_par4 hW hL hq hq2 hK hV h (K + 1) 0 (by omega) (by omega)⟩
end XT
end
section
/-! the component's strand words -/
section XW
variable {dK dP dS dL gS gO gM gF gT gC gH : Int32} {aC aT aP aW aL aF aU aR aS aV aO aQ aY : Nat → Int32}
theorem xw_follow {post : Int32 → Prop} {pos st sy : Nat} (hp : pos < 1000) (hst : st < 224) (hsy : sy < 4) (h : post (nI (sw_fo pos st sy))) : wpX_follow post (dK, dP, dS, dL, gS, gO, gM, gF, gT, gC, gH, aC, aT, aP, aW, aL, aF, aU, aR, aS, aV, aO, aQ, aY) (nI pos) (nI st) (nI sy) := by
  unfold wpX_follow wX_follow_35
  rw [zd_r14 (a := st) (by omega), zd_d14 (a := st) (by omega), zd_r4 (a := st / 14) (by omega), nI_add, zd_r4 (by omega), zd_d56 (by omega)]
  refine ⟨by decide, by decide, by decide, nm_e ⟨by decide, nm_e ⟨by decide, ?_⟩⟩⟩
  unfold sw_fo at h
  refine pk_lt sy (st / 56) (fun c => ?_) (fun c => ?_)
  · rw [if_neg (by omega)] at h
    rw [zd_m56, zd_m14, nI_add, nI_add]
    exact h
  · rw [if_pos c] at h
    refine ⟨by decide, ?_⟩
    rw [nI_add, zd_r14 (by omega)]
    refine nm_e ?_
    rw [zd_m56, zd_m14, nI_add, nI_add]
    exact h
/-- level d of the table (position 14 - d) is right -/
def xw_lv (aF : Nat → Int32) (d : Nat) : Prop := ∀ st, st < 224 → aF ((6 - d) * 224 + st) = xw_b (sw_fin d st)
theorem xw_lcS {post : Int32 → Prop} {d st i n : Nat} (hd : d ≤ 5) (hst : st < 224) (hF : xw_lv aF d) (hi : i < 3)
    (h1 : sw_fin d (sw_fo (13 - d) st i) = true → post (nI i)) (h2 : sw_fin d (sw_fo (13 - d) st i) = false → wX_leastCheck_2 post (nI (13 - d)) (nI st) dK dP dS dL gS gO gM gF gT gC gH aC aT aP aW aL aF aU aR aS aV aO aQ aY n (nI (i + 1))) :
    wX_leastCheck_2 post (nI (13 - d)) (nI st) dK dP dS dL gS gO gM gF gT gC gH aC aT aP aW aL aF aU aR aS aV aO aQ aY (n + 1) (nI i) := by
  have hf : sw_fo (13 - d) st i < 224 := sw_fo_lt (by omega)
  refine br_f (nI_ge (b := 3) hi (by decide)) ?_
  refine xw_follow (by omega) hst (by omega) ?_
  rw [zd_s7 (by omega), zd_m224, nI_add, nI_clamp (by omega)]
  refine ⟨vp_in_nI (by omega) (by decide), ?_⟩
  rw [show 13 - d - 7 = 6 - d by omega, hF _ hf]
  exact xw_bt h1 (fun e => nm_r (nI_1 i) (h2 e))
theorem xw_leastCheck {post : Int32 → Prop} {d st : Nat} (hd : d ≤ 5) (hst : st < 224) (hF : xw_lv aF d) (h : post (nI (sw_sy d st))) : wpX_leastCheck post (dK, dP, dS, dL, gS, gO, gM, gF, gT, gC, gH, aC, aT, aP, aW, aL, aF, aU, aR, aS, aV, aO, aQ, aY) (nI (13 - d)) (nI st) := by
  have h' : post (nI (sw_lc (fun sy => sw_fin d (sw_fo (13 - d) st sy)))) := h
  unfold sw_lc at h'
  dsimp only at h'
  refine ⟨4, xw_lcS (i := 0) hd hst hF (by decide) (fun e => ?_) (fun e => ?_)⟩
  · rw [if_pos e] at h'; exact h'
  · rw [if_neg (by rw [e]; decide)] at h'
    refine xw_lcS (i := 1) hd hst hF (by decide) (fun e => ?_) (fun e => ?_)
    · rw [if_pos e] at h'; exact h'
    · rw [if_neg (by rw [e]; decide)] at h'
      refine xw_lcS (i := 2) hd hst hF (by decide) (fun e => ?_) (fun e => ?_)
      · rw [if_pos e] at h'; exact h'
      · rw [if_neg (by rw [e]; decide)] at h'
        exact br_t (by decide) h'
/-! the table -/
theorem xw_ff38 {post : SX → Prop} {J : Int32 → (Nat → Int32) → (Nat → Int32) → (Nat → Int32) → (Nat → Int32) → (Nat → Int32) → (Nat → Int32) → (Nat → Int32) → (Nat → Int32) → (Nat → Int32) → (Nat → Int32) → (Nat → Int32) → (Nat → Int32) → (Nat → Int32) → Prop} {d : Nat} (hd : d ≤ 5)
    (h : ∀ aF, (∀ d', d' ≤ d + 1 → xw_lv aF d') → J (nI (12 - d)) aC aT aP aW aL aF aU aR aS aV aO aQ aY) : ∀ (n st : Nat) (aF : Nat → Int32), st ≤ 224 → 224 < n + st → (∀ d', d' ≤ d → xw_lv aF d') → (∀ s, s < st → aF ((5 - d) * 224 + s) = xw_b (sw_fin (d + 1) s)) →
    wX_fillFinishes_38 post J (nI (13 - d)) dK dP dS dL gS gO gM gF gT gC gH n (nI st) aC aT aP aW aL aF aU aR aS aV aO aQ aY := by
  intro n
  induction n with
  | zero => intro st aF h1 h2; omega
  | succ n ih =>
    intro st aF h1 h2 h3 h4
    refine pk_le 224 st (fun c => ?_) (fun c => ?_)
    · refine nm_r (sb_m1 (by omega)) ?_
      rw [show 13 - d - 1 = 12 - d by omega]
      refine h aF (fun d' hd' => ?_)
      by_cases c2 : d' ≤ d
      · exact h3 d' c2
      · have e : d' = d + 1 := by omega
        subst e
        intro s hs
        rw [show 6 - (d + 1) = 5 - d by omega]
        exact h4 s (by omega)
    · refine xw_leastCheck hd c (h3 d (Nat.le_refl _)) ?_
      have hf : sw_fo (13 - d) st (sw_sy d st) < 224 := sw_fo_lt (sw_sy_lt d st)
      refine xw_follow (by omega) c (sw_sy_lt d st) ?_
      rw [zd_s7 (by omega), zd_s8 (by omega), zd_m224, zd_m224, nI_add, nI_add, nI_clamp (by omega), nI_clamp (by omega)]
      refine ⟨vp_in_nI (by omega) (by decide), vp_in_nI (by omega) (by decide), ?_⟩
      rw [show 13 - d - 7 = 6 - d by omega, show 13 - d - 8 = 5 - d by omega, h3 d (Nat.le_refl _) _ hf, xw_nar]
      refine nm_e (nm_r (nI_1 st) ?_)
      refine ih (st + 1) _ (by omega) (by omega) (fun d' hd' s hs => ?_) (fun s hs => ?_)
      · rw [pk_un (by
          have : 6 - d' = 5 - d + 1 + (d - d') := by omega
          rw [this, Nat.add_mul, Nat.add_mul]
          omega)]
        exact h3 d' hd' s hs
      · by_cases c2 : s = st
        · subst c2
          exact pk_us
        · rw [pk_un (by omega)]
          exact h4 s (by omega)
theorem xw_ff30 {post : SX → Prop} (h : ∀ aF, (∀ d, d ≤ 6 → xw_lv aF d) → post (dK, dP, dS, dL, gS, gO, gM, gF, gT, gC, gH, aC, aT, aP, aW, aL, aF, aU, aR, aS, aV, aO, aQ, aY)) : ∀ (n d : Nat) (aF : Nat → Int32), d ≤ 6 → 6 < n + d → (∀ d', d' ≤ d → xw_lv aF d') →
    wX_fillFinishes_30 post dK dP dS dL gS gO gM gF gT gC gH n (nI (13 - d)) aC aT aP aW aL aF aU aR aS aV aO aQ aY := by
  intro n
  induction n with
  | zero => intro d aF h1 h2; omega
  | succ n ih =>
    intro d aF h1 h2 h3
    refine pk_lt (13 - d) 8 (fun c => ?_) (fun c => ?_)
    · exact h aF (fun d' hd' => h3 d' (by omega))
    · refine ⟨225, xw_ff38 (by omega) (fun aF hF => ?_) 225 0 aF (by omega) (by omega) h3 (fun s hs => absurd hs (Nat.not_lt_zero s))⟩
      have := ih (d + 1) aF (by omega) (by omega) hF
      rw [show 13 - (d + 1) = 12 - d by omega] at this
      exact this
def xw_f4 : Nat → Int32 := upd (upd (upd (upd (fun _ => 0) 1344 1) 1400 1) 1456 1) 1512 1
theorem xw_f4_lv : ∀ st, st < 224 → xw_f4 (6 * 224 + st) = xw_b (sw_fin 0 st) := by decide +kernel
theorem xw_ff2 {post : SX → Prop} {i n : Nat} {aF : Nat → Int32} (hi : i < 4) (h : wX_fillFinishes_2 post dK dP dS dL gS gO gM gF gT gC gH n (nI (i + 1)) aC aT aP aW aL (upd aF (1344 + i * 56) 1) aU aR aS aV aO aQ aY) : wX_fillFinishes_2 post dK dP dS dL gS gO gM gF gT gC gH (n + 1) (nI i) aC aT aP aW aL aF aU aR aS aV aO aQ aY := by
  refine br_f (nI_ge (b := 4) hi (by decide)) ?_
  rw [zd_m56, zd_1344, nI_clamp (by omega)]
  exact ⟨vp_in_nI (by omega) (by decide), nm_e (nm_r (nI_1 i) h)⟩
theorem xw_fillFinishes {post : SX → Prop} (h : ∀ aF, (∀ d, d ≤ 6 → xw_lv aF d) → post (dK, dP, dS, dL, gS, gO, gM, gF, gT, gC, gH, aC, aT, aP, aW, aL, aF, aU, aR, aS, aV, aO, aQ, aY)) : wpX_fillFinishes post (dK, dP, dS, dL, gS, gO, gM, gF, gT, gC, gH, aC, aT, aP, aW, aL, fun _ => 0, aU, aR, aS, aV, aO, aQ, aY) := by
  refine ⟨5, xw_ff2 (i := 0) (by decide) (xw_ff2 (i := 1) (by decide) (xw_ff2 (i := 2) (by decide) (xw_ff2 (i := 3) (by decide) ?_)))⟩
  refine br_t (by decide) ⟨7, ?_⟩
  refine xw_ff30 h 7 0 xw_f4 (by omega) (by omega) (fun d' hd' => ?_)
  rw [show d' = 0 by omega]
  exact xw_f4_lv
theorem xw_forget2 {post : SX → Prop} (h : post (dK, dP, dS, dL, gS, gO, gM, gF, gT, gC, gH, aC, aT, zc_cp (fun _ => -1) aP 16, aW, aL, aF, aU, aR, aS, aV, aO, aQ, aY)) : ∀ (n i : Nat), i ≤ 16 → 16 < n + i → wX_forget_2 post dK dP dS dL gS gO gM gF gT gC gH n (nI i) aC aT (zc_cp (fun _ => -1) aP i) aW aL aF aU aR aS aV aO aQ aY := by
  intro n
  induction n with
  | zero => intro i h1 h2; omega
  | succ n ih =>
    intro i h1 h2
    refine pk_le 16 i (fun c => ?_) (fun c => ?_)
    · rw [show i = 16 by omega]; exact h
    · refine ⟨vp_in_nI c (by decide), ?_⟩
      rw [nI_clamp (by omega)]
      exact nm_r (zc_s (f := fun _ => -1)) (nm_r (nI_1 i) (ih (i + 1) (by omega) (by omega)))
theorem xw_forget {post : SX → Prop} (h : post (dK, dP, dS, dL, gS, gO, gM, gF, gT, gC, gH, aC, aT, zc_cp (fun _ => -1) aP 16, aW, aL, aF, aU, aR, aS, aV, aO, aQ, aY)) : wpX_forget post (dK, dP, dS, dL, gS, gO, gM, gF, gT, gC, gH, aC, aT, aP, aW, aL, aF, aU, aR, aS, aV, aO, aQ, aY) := by
  refine ⟨17, ?_⟩
  have := xw_forget2 h 17 0 (by omega) (by omega)
  rw [zc_0] at this
  exact this
theorem xw_clamp {post : Int32 → Prop} {x a b : Int32} {y : Nat} (h : (¬ a ≤ x → nI y = a) ∧ (a ≤ x → ¬ x ≤ b → nI y = b) ∧ (a ≤ x → x ≤ b → nI y = x)) (hp : post (nI y)) : wpX_clamp post (dK, dP, dS, dL, gS, gO, gM, gF, gT, gC, gH, aC, aT, aP, aW, aL, aF, aU, aR, aS, aV, aO, aQ, aY) x a b := by
  refine br_c (fun c => br_c (fun c2 => ?_) (fun c2 => ?_)) (fun c => ?_)
  · rw [← h.2.2 c c2]; exact hp
  · rw [← h.2.1 c c2]; exact hp
  · rw [← h.1 c]; exact hp
/-! building a word -/
theorem xw_bs74b {post : SX → Prop} (hF : ∀ d, d ≤ 6 → xw_lv aF d) : ∀ (d st : Nat) (aR : Nat → Int32), d ≤ 6 → st < 224 →
    (∀ r, (∀ j, j < 14 - d → r j = aR j) → (∀ j, 14 - d ≤ j → j < 14 → r j = nI (sw_cd d st j)) → post (dK, dP, dS, dL, gS, gO, gM, gF, gT, gC, gH, aC, aT, aP, aW, aL, aF, aU, r, aS, aV, aO, aQ, aY)) → wX_buildStrand_74 post dK dP dS dL gS gO gM gF gT gC gH (d + 1) (nI st) (nI (14 - d)) aC aT aP aW aL aF aU aR aS aV aO aQ aY := by
  intro d
  induction d with
  | zero =>
    intro st aR h1 h2 h
    exact br_t (by decide) (h aR (fun _ _ => rfl) (fun j a b => by omega))
  | succ d ih =>
    intro st aR h1 h2 h
    have e14 : 14 - (d + 1) = 13 - d := by omega
    have hy := sw_sy_lt d st
    rw [e14] at h ⊢
    refine br_f (nI_ge (b := 14) (by omega) (by decide)) (br_f (nI_nlt (b := 8) (by omega) (by omega)) ?_)
    refine xw_leastCheck (by omega) h2 (hF d (by omega)) ⟨vp_in_nI (by omega) (by decide), ?_⟩
    rw [nI_clamp (by omega)]
    refine nm_e ?_
    unfold wX_buildStrand_103
    refine ⟨vp_in_nI (by omega) (by decide), ?_⟩
    rw [nI_clamp (by omega), pk_us]
    refine xw_follow (by omega) h2 hy (nm_r (nI_1 _) ?_)
    rw [show 13 - d + 1 = 14 - d by omega]
    refine ih _ _ (by omega) (sw_fo_lt hy) (fun r r1 r2 => h r (fun j hj => ?_) (fun j j1 j2 => ?_))
    · rw [r1 j (by omega), pk_un (by omega)]
    · have e : sw_cd (d + 1) st j = if j = 13 - d then sw_sy d st else sw_cd d (sw_fo (13 - d) st (sw_sy d st)) j := rfl
      rw [e]
      by_cases c : j = 13 - d
      · rw [if_pos c, r1 j (by omega), c, pk_us]
      · rw [if_neg c]
        exact r2 j (by omega) j2
theorem xw_bs74a {post : SX → Prop} {w : Nat → Nat} (hw : ∀ i, w i < 4) (hR : ∀ j, j < 8 → aR j = nI (w j)) (n : Nat) (h : wX_buildStrand_74 post dK dP dS dL gS gO gM gF gT gC gH n (nI (sw_st w 7)) (nI 8) aC aT aP aW aL aF aU aR aS aV aO aQ aY) :
    ∀ d, d ≤ 7 → wX_buildStrand_74 post dK dP dS dL gS gO gM gF gT gC gH (n + d) (nI (sw_st w (7 - d))) (nI (8 - d)) aC aT aP aW aL aF aU aR aS aV aO aQ aY := by
  intro d
  induction d with
  | zero => intro _; exact h
  | succ d ih =>
    intro hd
    refine br_f (nI_ge (b := 14) (by omega) (by decide)) (br_t (nI_lt (b := 8) (by omega) (by decide)) ?_)
    unfold wX_buildStrand_103
    refine ⟨vp_in_nI (by omega) (by decide), ?_⟩
    rw [nI_clamp (by omega), hR _ (by omega)]
    refine xw_follow (by omega) (sw_st_lt hw _) (hw _) (nm_r (nI_1 _) ?_)
    have e : sw_fo (8 - (d + 1)) (sw_st w (7 - (d + 1))) (w (8 - (d + 1))) = sw_st w (7 - d) := by
      rw [show 8 - (d + 1) = (7 - (d + 1)) + 1 by omega, show 7 - d = (7 - (d + 1)) + 1 by omega]
      rfl
    rw [e, show 8 - (d + 1) + 1 = 8 - d by omega]
    exact ih (by omega)
theorem xw_bs24 {post : SX → Prop} {s v : Nat} (hs : s < 16) (hv : v < 4096) (hF : ∀ d, d ≤ 6 → xw_lv aF d)
    (h : ∀ aR, (∀ j, j < 14 → aR j = nI (sw_w s v (sw_n s v) j)) → post (dK, dP, dS, dL, gS, gO, gM, gF, gT, gC, gH, aC, aT, aP, aW, aL, aF, aU, aR, aS, aV, aO, aQ, aY)) : ∀ (d : Nat) (aR : Nat → Int32), d ≤ 6 → aR 0 = nI (s / 4) → aR 1 = nI (s % 4) → (∀ j, 2 + d ≤ j → j < 8 → aR j = nI (v / 4 ^ (7 - j) % 4)) →
    wX_buildStrand_24 post dK dP dS dL gS gO gM gF gT gC gH (d + 1) (nI (v / 4 ^ (6 - d))) (nI (1 + d)) aC aT aP aW aL aF aU aR aS aV aO aQ aY := by
  intro d
  induction d with
  | zero =>
    intro aR _ h0 h1 h2
    have hw : ∀ j, j < 8 → aR j = nI (sw_w s v 0 j) := by
      intro j hj
      rw [sw_w_lo (by decide) (by omega)]
      rcases (by omega : j = 0 ∨ j = 1 ∨ 2 ≤ j) with rfl | rfl | c
      · rw [h0]
        exact congrArg nI (by simp only [Nat.reduceSub, Nat.reducePow]; omega)
      · rw [h1]
        exact congrArg nI (by simp only [Nat.reduceSub, Nat.reducePow]; omega)
      · rw [h2 j (by omega) hj]
        apply congrArg nI
        rcases (by omega : j = 2 ∨ j = 3 ∨ j = 4 ∨ j = 5 ∨ j = 6 ∨ j = 7) with rfl | rfl | rfl | rfl | rfl | rfl <;> (simp only [Nat.reduceSub, Nat.reducePow]; omega)
    refine br_t (by decide) ?_
    rw [hw 0 (by decide), zd_m56, zd_m14, nI_add]
    refine nm_e ⟨7 + 7, ?_⟩
    refine xw_bs74a (sw_w_lt s v 0) hw 7 ?_ 7 (by decide)
    refine xw_bs74b hF 6 _ aR (by decide) (sw_st_lt (sw_w_lt s v 0) 7) (fun r r1 r2 => h r (fun j hj => ?_))
    by_cases c : j < 8
    · rw [r1 j (by omega), hw j c, sw_w_lo (by decide) (by omega), sw_w_lo (sw_LN_n s v).1 (by omega)]
    · rw [r2 j (by omega) hj, sw_w_hi (by omega), sw_cd_eq 6 _ j (by decide) (by omega) (by omega)]
      rfl
  | succ d ih =>
    intro aR hd h0 h1 h2
    have hl : v / 4 ^ (6 - (d + 1)) ≤ v := Nat.div_le_self _ _
    refine br_f (nI_nlt (b := 2) (by omega) (by omega)) ⟨by decide, vp_in_nI (by omega) (by decide), ?_⟩
    rw [nI_clamp (by omega), zd_r4 (by omega)]
    refine nm_e ⟨by decide, ?_⟩
    rw [zd_d4 (by omega)]
    have e1 : v / 4 ^ (6 - (d + 1)) / 4 = v / 4 ^ (6 - d) := by
      rw [Nat.div_div_eq_div_mul, ← Nat.pow_succ]
      congr 2
      omega
    refine nm_r (congrArg nI e1) (nm_r (sb_m1 (by omega)) ?_)
    rw [show 1 + (d + 1) - 1 = 1 + d by omega]
    refine ih _ (by omega) ?_ ?_ (fun j j1 j2 => ?_)
    · rw [pk_un (by omega)]; exact h0
    · rw [pk_un (by omega)]; exact h1
    · by_cases c : j = 1 + (d + 1)
      · subst c
        rw [pk_us, show 7 - (1 + (d + 1)) = 6 - (d + 1) by omega]
      · rw [pk_un c]
        exact h2 j (by omega) j2
theorem xw_buildStrand {post : SX → Prop} {s v : Nat} (hs : s < 16) (hv : v < 4096) (hF : ∀ d, d ≤ 6 → xw_lv aF d)
    (h : ∀ aR, (∀ j, j < 14 → aR j = nI (sw_w s v (sw_n s v) j)) → post (dK, dP, dS, dL, gS, gO, gM, gF, gT, gC, gH, aC, aT, aP, aW, aL, aF, aU, aR, aS, aV, aO, aQ, aY)) : wpX_buildStrand post (dK, dP, dS, dL, gS, gO, gM, gF, gT, gC, gH, aC, aT, aP, aW, aL, aF, aU, aR, aS, aV, aO, aQ, aY) (nI s) (nI v) := by
  unfold wpX_buildStrand
  refine ⟨by decide, ?_⟩
  rw [zd_r4 (a := s) (by omega), zd_d4 (a := s) (by omega)]
  refine nm_e ⟨by decide, nm_e ⟨7, ?_⟩⟩
  have := xw_bs24 hs hv hF h 6 (upd (upd aR 0 (nI (s / 4))) 1 (nI (s % 4))) (by decide) (by rw [pk_un (by decide), pk_us]) pk_us (fun j a b => by omega)
  rw [show 6 - 6 = 0 by decide, Nat.pow_zero, Nat.div_one] at this
  exact this
end XW
end
section
/-! the component's signatures -/
section XS
variable {dK dP dS dL gS gO gM gF gT gC gH : Int32} {aC aT aP aW aL aF aU aR aS aV aO aQ aY : Nat → Int32}
theorem xs_ascent {post : Int32 → Prop} {a b : Nat} (ha : a < 4) (hb : b < 4) (h : post (nI (sa_asc a b))) : wpX_ascent post (dK, dP, dS, dL, gS, gO, gM, gF, gT, gC, gH, aC, aT, aP, aW, aL, aF, aU, aR, aS, aV, aO, aQ, aY) (nI a) (nI b) := by
  unfold sa_asc at h
  refine pk_lt b a (fun c => ?_) (fun c => ?_)
  · rw [if_neg (by omega)] at h; exact h
  · rw [if_pos c] at h; exact h
theorem xs_rs17 {post : SX → Prop} {T : Nat → Nat} {L : Nat} (hT : ∀ j, aT j = nI (T j)) (hT4 : ∀ j, T j < 4) (hL : L ≤ 16)
    (h : ∀ aS, (∀ j, 1 ≤ j → j < L → aS j = nI (sa_sg T j)) → post (dK, dP, dS, nI L, nI (sa_sum T L), nI (sa_sum (sa_sg T) L), nI (sa_mom (sa_sg T) L), gF, gT, gC, gH, aC, aT, aP, aW, aL, aF, aU, aR, aS, aV, aO, aQ, aY)) :
    ∀ (n i : Nat) (aS : Nat → Int32), i ≤ L → L < n + i → (∀ j, 1 ≤ j → j < i → aS j = nI (sa_sg T j)) →
    wX_readSignature_17 post dK dP dS (nI L) gF gT gC gH n (nI i) (nI (sa_sum T i)) (nI (sa_sum (sa_sg T) i)) (nI (sa_mom (sa_sg T) i)) aC aT aP aW aL aF aU aR aS aV aO aQ aY := by
  intro n
  induction n with
  | zero => intro i aS h1 h2; omega
  | succ n ih =>
    intro i aS h1 h2 h3
    refine pk_le L i (fun c => ?_) (fun c => ?_)
    · rw [show i = L by omega] at h3 ⊢
      exact h aS h3
    · refine ⟨vp_in_nI (by omega) (by decide), ?_⟩
      rw [nI_clamp (by omega), hT i, nI_add]
      refine nm_e ?_
      refine pk_le i 0 (fun c2 => ?_) (fun c2 => ?_)
      · have e : i = 0 := by omega
        subst e
        exact nm_r (nI_1 0) (ih 1 aS (by omega) (by omega) (fun j a b => by omega))
      · rw [zd_s1 (by omega), nI_clamp (by omega), hT (i - 1)]
        refine ⟨vp_in_nI (by omega) (by decide), vp_in_nI (by omega) (by decide), ?_⟩
        refine xs_ascent (hT4 _) (hT4 _) ⟨vp_in_nI (by omega) (by decide), ?_⟩
        rw [← sa_sg_s (by omega)]
        refine nm_e ⟨vp_in_nI (by omega) (by decide), ?_⟩
        rw [pk_us, nI_add]
        refine nm_e ⟨vp_in_nI (by omega) (by decide), ?_⟩
        rw [pk_mul, nI_add]
        refine nm_e (nm_r (nI_1 i) (ih (i + 1) _ (by omega) (by omega) (fun j a b => ?_)))
        by_cases c3 : j = i
        · subst c3; exact pk_us
        · rw [pk_un c3]; exact h3 j a (by omega)
theorem xs_readSignature {post : SX → Prop} {T : Nat → Nat} {L : Nat} (hT : ∀ j, aT j = nI (T j)) (hT4 : ∀ j, T j < 4) (hL : L ≤ 16)
    (h : ∀ aS, (∀ j, 1 ≤ j → j < L → aS j = nI (sa_sg T j)) → post (dK, dP, dS, nI L, nI (sa_sum T L), nI (sa_sum (sa_sg T) L), nI (sa_mom (sa_sg T) L), gF, gT, gC, gH, aC, aT, aP, aW, aL, aF, aU, aR, aS, aV, aO, aQ, aY)) : wpX_readSignature post (dK, dP, dS, nI L, gS, gO, gM, gF, gT, gC, gH, aC, aT, aP, aW, aL, aF, aU, aR, aS, aV, aO, aQ, aY) :=
  ⟨L + 1, xs_rs17 hT hT4 hL h (L + 1) 0 aS (by omega) (by omega) (fun j a b => by omega)⟩
theorem xs_sum_le {T : Nat → Nat} (h : ∀ j, T j < 4) : ∀ n, sa_sum T n ≤ 3 * n
  | 0 => Nat.le_refl _
  | n + 1 => by
    have ih := xs_sum_le h n
    have e : sa_sum T (n + 1) = sa_sum T n + T n := rfl
    have := h n
    omega
theorem xs_mom_le {a : Nat → Nat} (h : ∀ j, a j ≤ 1) : ∀ n, sa_mom a n ≤ n * n
  | 0 => Nat.le_refl _
  | n + 1 => by
    have ih := xs_mom_le h n
    have e : sa_mom a (n + 1) = sa_mom a n + n * a n := rfl
    have e2 : n * a n ≤ n * 1 := Nat.mul_le_mul_left n (h n)
    have e3 : (n + 1) * (n + 1) = n * n + n + n + 1 := by
      rw [Nat.add_mul, Nat.mul_add]; omega
    omega
theorem xs_mom_b (T : Nat → Nat) {n : Nat} (hn : n ≤ 16) : sa_mom (sa_sg T) n < 1000 := by
  have h := xs_mom_le (sa_sg_le T) n
  have h2 : n * n ≤ 16 * 16 := Nat.mul_le_mul hn hn
  omega
theorem xs_sum_b {T : Nat → Nat} (h : ∀ j, T j < 4) {n : Nat} (hn : n ≤ 16) : sa_sum T n < 1000 := by
  have h := xs_sum_le h n
  omega
theorem xs_missingSymbol {post : Int32 → Prop} {T : Nat → Nat} (hT4 : ∀ j, T j < 4) (h : post (nI (sa_cm T))) : wpX_missingSymbol post (dK, dP, dS, dL, nI (sa_sum T 13), gO, gM, gF, gT, gC, gH, aC, aT, aP, aW, aL, aF, aU, aR, aS, aV, aO, aQ, aY) := by
  have b := xs_sum_b hT4 (n := 13) (by decide)
  unfold wpX_missingSymbol
  dsimp only
  rw [zd_r4 (by omega), zd_4s (by omega), zd_r4 (by omega)]
  exact ⟨by decide, by decide, h⟩
theorem xs_pbo {post : Int32 → Prop} {T : Nat → Nat} {nd : Nat} (hS : ∀ j, 1 ≤ j → j < 13 → aS j = nI (sa_sg T j)) (hn : nd ≤ sa_sum (sa_sg T) 13) (hn2 : nd ≤ 13)
    (h : ∀ p, 1 ≤ p → p ≤ 13 → sa_sum (sa_sg T) 13 - sa_sum (sa_sg T) p = nd → post (nI p)) :
    ∀ (n p z : Nat), z = sa_sum (sa_sg T) 13 - sa_sum (sa_sg T) p → 1 ≤ p → p ≤ 13 → p ≤ n → sa_sum (sa_sg T) 13 - sa_sum (sa_sg T) p ≤ nd → wX_placeBeforeOnes_5 post (nI nd) dK dP dS dL gS gO gM gF gT gC gH aC aT aP aW aL aF aU aR aS aV aO aQ aY n (nI p) (nI z) := by
  intro n
  induction n with
  | zero => intro p z hz h1 h2 h3; omega
  | succ n ih =>
    intro p z hz h1 h2 h3 h4
    subst hz
    have e1 : sa_sum (sa_sg T) 1 = 0 := rfl
    refine pk_le p 1 (fun c => ?_) (fun c => ?_)
    · refine h p h1 h2 ?_
      have e : p = 1 := by omega
      subst e
      omega
    · refine pk_le nd (sa_sum (sa_sg T) 13 - sa_sum (sa_sg T) p) (fun c2 => ?_) (fun c2 => ?_)
      · exact h p h1 h2 (by omega)
      · refine nm_r (sb_m1 (by omega)) ⟨vp_in_nI (by omega) (by decide), ?_⟩
        rw [nI_clamp (by omega), hS _ (by omega) (by omega), nI_add]
        have e2 : sa_sum (sa_sg T) p = sa_sum (sa_sg T) (p - 1) + sa_sg T (p - 1) := by
          have : p = p - 1 + 1 := by omega
          rw [this]
          rfl
        have m := sa_sum_mono (a := sa_sg T) p (13 - p)
        rw [show p + (13 - p) = 13 by omega] at m
        have l := sa_sg_le T (p - 1)
        refine nm_r (e' := nI (sa_sum (sa_sg T) 13 - sa_sum (sa_sg T) (p - 1))) (congrArg nI (by omega)) ?_
        exact ih (p - 1) _ rfl (by omega) (by omega) (by omega) (by omega)
theorem xs_placeBeforeOnes {post : Int32 → Prop} {T : Nat → Nat} {nd : Nat} (hS : ∀ j, 1 ≤ j → j < 13 → aS j = nI (sa_sg T j)) (hn : nd ≤ sa_sum (sa_sg T) 13) (hn2 : nd ≤ 13)
    (h : ∀ p, 1 ≤ p → p ≤ 13 → sa_sum (sa_sg T) 13 - sa_sum (sa_sg T) p = nd → post (nI p)) : wpX_placeBeforeOnes post (dK, dP, dS, dL, gS, gO, gM, gF, gT, gC, gH, aC, aT, aP, aW, aL, aF, aU, aR, aS, aV, aO, aQ, aY) (nI nd) :=
  ⟨13, xs_pbo (T := T) hS hn hn2 h 13 13 0 (by rw [Nat.sub_self]) (by decide) (by decide) (by decide) (by omega)⟩
theorem xs_pbz {post : Int32 → Prop} {T : Nat → Nat} {nd : Nat} (hS : ∀ j, 1 ≤ j → j < 13 → aS j = nI (sa_sg T j)) (hn : nd + sa_sum (sa_sg T) 13 ≤ 12)
    (h : ∀ p, 1 ≤ p → p ≤ 13 → p - 1 - sa_sum (sa_sg T) p = nd → sa_sum (sa_sg T) p ≤ p - 1 → post (nI p)) :
    ∀ (n p : Nat), 1 ≤ p → p ≤ 13 → 14 ≤ n + p → p - 1 - sa_sum (sa_sg T) p ≤ nd → wX_placeBehindZeros_4 post (nI nd) dK dP dS dL gS gO gM gF gT gC gH aC aT aP aW aL aF aU aR aS aV aO aQ aY n (nI p) (nI (p - 1 - sa_sum (sa_sg T) p)) := by
  intro n
  induction n with
  | zero => intro p h1 h2 h3; omega
  | succ n ih =>
    intro p h1 h2 h3 h4
    have e1 : sa_sum (sa_sg T) 1 = 0 := rfl
    have b := sa_sum_bd (sa_sg_le T) 1 (p - 1)
    rw [show 1 + (p - 1) = p by omega, e1] at b
    refine pk_le 13 p (fun c => ?_) (fun c => ?_)
    · have e : p = 13 := by omega
      subst e
      exact h 13 h1 h2 (by omega) (by omega)
    · refine pk_le nd (p - 1 - sa_sum (sa_sg T) p) (fun c2 => ?_) (fun c2 => ?_)
      · exact h p h1 h2 (by omega) (by omega)
      · refine ⟨vp_in_nI (by omega) (by decide), ?_⟩
        have l := sa_sg_le T p
        rw [nI_clamp (by omega), hS _ (by omega) (by omega), zd_1s l, nI_add]
        have e2 : sa_sum (sa_sg T) (p + 1) = sa_sum (sa_sg T) p + sa_sg T p := rfl
        refine nm_r (e' := nI (p + 1 - 1 - sa_sum (sa_sg T) (p + 1))) (congrArg nI (by omega)) (nm_r (nI_1 p) ?_)
        exact ih (p + 1) (by omega) (by omega) (by omega) (by omega)
theorem xs_placeBehindZeros {post : Int32 → Prop} {T : Nat → Nat} {nd : Nat} (hS : ∀ j, 1 ≤ j → j < 13 → aS j = nI (sa_sg T j)) (hn : nd + sa_sum (sa_sg T) 13 ≤ 12)
    (h : ∀ p, 1 ≤ p → p ≤ 13 → p - 1 - sa_sum (sa_sg T) p = nd → sa_sum (sa_sg T) p ≤ p - 1 → post (nI p)) : wpX_placeBehindZeros post (dK, dP, dS, dL, gS, gO, gM, gF, gT, gC, gH, aC, aT, aP, aW, aL, aF, aU, aR, aS, aV, aO, aQ, aY) (nI nd) :=
  ⟨13, xs_pbz (T := T) hS hn h 13 1 (by decide) (by decide) (by decide) (by show 0 - _ ≤ nd; omega)⟩
/-! the run around a place -/
def xs_Run (s : Nat → Nat) (pl e rf rt : Nat) : Prop := 1 ≤ rf ∧ rf ≤ pl ∧ pl ≤ rt ∧ rt ≤ e ∧ (∀ i, rf ≤ i → i ≤ rt → s i = s pl) ∧ (rf = 1 ∨ s (rf - 1) ≠ s pl) ∧ (rt = e ∨ s (rt + 1) ≠ s pl)
theorem xs_sr51 {post : SX → Prop} {s : Nat → Nat} {pl e rf : Nat} (he : e ≤ 14) (hs : ∀ j, s j ≤ 1) (hS : ∀ j, 1 ≤ j → j ≤ e → aS j = nI (s j)) (h1 : 1 ≤ rf) (h2 : rf ≤ pl) (h3 : pl ≤ e)
    (h4 : ∀ i, rf ≤ i → i ≤ pl → s i = s pl) (h5 : rf = 1 ∨ s (rf - 1) ≠ s pl) (h : ∀ rt, xs_Run s pl e rf rt → post (dK, dP, dS, dL, gS, gO, gM, nI rf, nI rt, gC, gH, aC, aT, aP, aW, aL, aF, aU, aR, aS, aV, aO, aQ, aY)) :
    ∀ (n rt : Nat), pl ≤ rt → rt ≤ e → e < n + rt → (∀ i, pl ≤ i → i ≤ rt → s i = s pl) → wX_spanRun_51 post (nI pl) (nI e) dK dP dS dL gS gO gM (nI rf) gC gH aC aT aP aW aL aF aU aR aS aV aO aQ aY n (nI rt) := by
  intro n
  induction n with
  | zero => intro rt a b; omega
  | succ n ih =>
    intro rt a b c d
    have H : ∀ i, rf ≤ i → i ≤ rt → s i = s pl := fun i i1 i2 => by
      by_cases z : i ≤ pl
      · exact h4 i i1 z
      · exact d i (by omega) i2
    refine pk_le e rt (fun z => ?_) (fun z => ?_)
    · exact h rt ⟨h1, h2, a, b, H, h5, Or.inl (by omega)⟩
    · rw [nI_1]
      refine ⟨vp_in_nI (by omega) (by decide), vp_in_nI (by omega) (by decide), ?_⟩
      rw [nI_clamp (by omega), nI_clamp (by omega), hS _ (by omega) (by omega), hS _ (by omega) (by omega)]
      have l1 := hs (rt + 1)
      have l2 := hs pl
      refine pk_eq (s (rt + 1)) (s pl) (fun z2 => ?_) (fun z2 => ?_)
      · refine nm_e (ih (rt + 1) (by omega) (by omega) (by omega) (fun i i1 i2 => ?_))
        by_cases z3 : i = rt + 1
        · rw [z3, z2]
        · exact d i i1 (by omega)
      · exact h rt ⟨h1, h2, a, b, H, h5, Or.inr z2⟩
theorem xs_sr5 {post : SX → Prop} {s : Nat → Nat} {pl e : Nat} (he : e ≤ 14) (hs : ∀ j, s j ≤ 1) (hS : ∀ j, 1 ≤ j → j ≤ e → aS j = nI (s j)) (h3 : pl ≤ e)
    (h : ∀ rf rt, xs_Run s pl e rf rt → post (dK, dP, dS, dL, gS, gO, gM, nI rf, nI rt, gC, gH, aC, aT, aP, aW, aL, aF, aU, aR, aS, aV, aO, aQ, aY)) :
    ∀ (n rf : Nat), 1 ≤ rf → rf ≤ pl → rf ≤ n → (∀ i, rf ≤ i → i ≤ pl → s i = s pl) → wX_spanRun_5 post (nI pl) (nI e) dK dP dS dL gS gO gM gT gC gH aC aT aP aW aL aF aU aR aS aV aO aQ aY n (nI rf) := by
  intro n
  induction n with
  | zero => intro rf a b; omega
  | succ n ih =>
    intro rf a b c d
    have F : (rf = 1 ∨ s (rf - 1) ≠ s pl) → ∃ n51 : Nat, wX_spanRun_51 post (nI pl) (nI e) dK dP dS dL gS gO gM (nI rf) gC gH aC aT aP aW aL aF aU aR aS aV aO aQ aY n51 (nI pl) := fun z =>
      ⟨e + 1, xs_sr51 he hs hS a b h3 d z (fun rt R => h rf rt R) (e + 1) pl (Nat.le_refl _) h3 (by omega) (fun i i1 i2 => by rw [show i = pl by omega])⟩
    refine pk_le rf 1 (fun z => ?_) (fun z => ?_)
    · exact F (Or.inl (by omega))
    · rw [zd_s1 (by omega)]
      refine ⟨vp_in_nI (by omega) (by decide), vp_in_nI (by omega) (by decide), ?_⟩
      rw [nI_clamp (by omega), nI_clamp (by omega), hS _ (by omega) (by omega), hS _ (by omega) (by omega)]
      have l1 := hs (rf - 1)
      have l2 := hs pl
      refine pk_eq (s (rf - 1)) (s pl) (fun z2 => ?_) (fun z2 => ?_)
      · refine nm_e (ih (rf - 1) (by omega) (by omega) (by omega) (fun i i1 i2 => ?_))
        by_cases z3 : i = rf - 1
        · rw [z3, z2]
        · exact d i (by omega) i2
      · exact F (Or.inr z2)
theorem xs_spanRun {post : SX → Prop} {s : Nat → Nat} {pl e : Nat} (he : e ≤ 14) (hs : ∀ j, s j ≤ 1) (hS : ∀ j, 1 ≤ j → j ≤ e → aS j = nI (s j)) (h1 : 1 ≤ pl) (h3 : pl ≤ e)
    (h : ∀ rf rt, xs_Run s pl e rf rt → post (dK, dP, dS, dL, gS, gO, gM, nI rf, nI rt, gC, gH, aC, aT, aP, aW, aL, aF, aU, aR, aS, aV, aO, aQ, aY)) : wpX_spanRun post (dK, dP, dS, dL, gS, gO, gM, gF, gT, gC, gH, aC, aT, aP, aW, aL, aF, aU, aR, aS, aV, aO, aQ, aY) (nI pl) (nI e) :=
  ⟨pl, xs_sr5 he hs hS h3 h pl pl h1 (Nat.le_refl _) (Nat.le_refl _) (fun i i1 i2 => by rw [show i = pl by omega])⟩
end XS
end
section
/-! the component's least fault -/
section XF
variable {dK dP dS dL gS gO gM gF gT gC gH : Int32} {aC aT aP aW aL aF aU aR aS aV aO aQ aY : Nat → Int32}
theorem xf_rs58 {post : SX → Prop} {T : Nat → Nat} {pl bi : Nat} (hp1 : 1 ≤ pl) (hp2 : pl ≤ 13) (hb : bi ≤ 1)
    (hM : (sa_mom (sa_sg T) 13 + (sa_sum (sa_sg T) 13 - sa_sum (sa_sg T) pl) + pl * bi) % 14 = 0)
    (h : ∀ S pl bi rf rt aS, sa_Res T S pl bi rf rt → (∀ j, S j ≤ 1) → (∀ j, 1 ≤ j → j ≤ 13 → aS j = nI (S j)) → post (dK, dP, dS, dL, gS, gO, gM, nI rf, nI rt, gC, gH, aC, aT, aP, aW, aL, aF, aU, aR, aS, aV, aO, aQ, aY)) :
    ∀ (n i : Nat) (aS : Nat → Int32), pl ≤ i → i ≤ 13 → i < n + pl → (∀ j, 1 ≤ j → j ≤ i → j < 13 → aS j = nI (sa_sg T j)) → (∀ j, i < j → j ≤ 13 → aS j = nI (sa_sg T (j - 1))) →
    wX_restoreSignature_58 post (nI bi) (nI pl) dK dP dS dL gS gO gM gF gT gC gH n (nI i) aC aT aP aW aL aF aU aR aS aV aO aQ aY := by
  intro n
  induction n with
  | zero => intro i aS h1 h2; omega
  | succ n ih =>
    intro i aS h1 h2 h3 h4 h5
    refine pk_le i pl (fun c => ?_) (fun c => ?_)
    · have e : i = pl := by omega
      subst e
      refine ⟨vp_in_nI (by omega) (by decide), ?_⟩
      rw [nI_clamp (by omega)]
      refine nm_e ?_
      have hs : ∀ j, sa_ins (sa_sg T) i bi j ≤ 1 := fun j => by
        unfold sa_ins
        split
        · exact sa_sg_le T _
        · split
          · exact hb
          · exact sa_sg_le T _
      have hS : ∀ j, 1 ≤ j → j ≤ 13 → upd aS i (nI bi) j = nI (sa_ins (sa_sg T) i bi j) := fun j j1 j2 => by
        by_cases c1 : j = i
        · subst c1; rw [pk_us, sa_ins_eq]
        · rw [pk_un c1]
          by_cases c2 : j < i
          · rw [sa_ins_lt c2]; exact h4 j j1 (by omega) (by omega)
          · rw [sa_ins_gt (by omega)]; exact h5 j (by omega) j2
      refine xs_spanRun (e := 13) (s := sa_ins (sa_sg T) i bi) (by decide) hs hS hp1 hp2 (fun rf rt R => ?_)
      refine h (sa_ins (sa_sg T) i bi) i bi rf rt _ ?_ hs hS
      obtain ⟨r1, r2, r3, r4, r5, r6, r7⟩ := R
      rw [sa_ins_eq] at r5 r6 r7
      exact ⟨⟨hp1, hp2, hb, fun j _ _ => rfl, hM⟩, r1, r2, r3, r4, r5, r6, r7⟩
    · rw [zd_s1 (by omega)]
      refine ⟨vp_in_nI (by omega) (by decide), vp_in_nI (by omega) (by decide), ?_⟩
      rw [nI_clamp (by omega), nI_clamp (by omega), h4 (i - 1) (by omega) (by omega) (by omega)]
      refine nm_e (nm_r (sb_m1 (by omega)) (ih (i - 1) _ (by omega) (by omega) (by omega) (fun j j1 j2 j3 => ?_) (fun j j1 j2 => ?_)))
      · rw [pk_un (by omega)]; exact h4 j j1 (by omega) j3
      · by_cases c1 : j = i
        · subst c1; exact pk_us
        · rw [pk_un c1]; exact h5 j (by omega) j2
theorem xf_restore {post : SX → Prop} {T : Nat → Nat} (hS : ∀ j, 1 ≤ j → j < 13 → aS j = nI (sa_sg T j))
    (h : ∀ S pl bi rf rt aS, sa_Res T S pl bi rf rt → (∀ j, S j ≤ 1) → (∀ j, 1 ≤ j → j ≤ 13 → aS j = nI (S j)) → post (dK, dP, dS, dL, gS, nI (sa_sum (sa_sg T) 13), nI (sa_mom (sa_sg T) 13), nI rf, nI rt, gC, gH, aC, aT, aP, aW, aL, aF, aU, aR, aS, aV, aO, aQ, aY)) :
    wpX_restoreSignature post (dK, dP, dS, dL, gS, nI (sa_sum (sa_sg T) 13), nI (sa_mom (sa_sg T) 13), gF, gT, gC, gH, aC, aT, aP, aW, aL, aF, aU, aR, aS, aV, aO, aQ, aY) := by
  have bm := xs_mom_b T (n := 13) (by decide)
  have e1 : sa_sum (sa_sg T) 1 = 0 := rfl
  have bo := sa_sum_bd (sa_sg_le T) 1 12
  rw [e1] at bo
  change sa_sum (sa_sg T) 13 ≤ 0 + 12 at bo
  unfold wpX_restoreSignature
  dsimp only
  rw [zd_r14 (a := sa_mom (sa_sg T) 13) (by omega), zd_14s (by omega), zd_r14 (by omega)]
  refine ⟨by decide, by decide, nm_e ?_⟩
  have hnd : (14 - sa_mom (sa_sg T) 13 % 14) % 14 ≤ 13 := by omega
  have hM : (sa_mom (sa_sg T) 13 + (14 - sa_mom (sa_sg T) 13 % 14) % 14) % 14 = 0 := by omega
  generalize (14 - sa_mom (sa_sg T) 13 % 14) % 14 = nd at *
  refine pk_lt (sa_sum (sa_sg T) 13) nd (fun c => ?_) (fun c => ?_)
  · unfold wX_restoreSignature_27
    refine br_f (by decide) ?_
    rw [pk_sub (by omega), zd_s1 (by omega)]
    refine xs_placeBehindZeros hS (by omega) (fun p p1 p2 p3 p4 => ?_)
    have m := sa_sum_mono (a := sa_sg T) p (13 - p)
    rw [show p + (13 - p) = 13 by omega] at m
    refine ⟨14, xf_rs58 (bi := 1) p1 p2 (by decide) ?_ h 14 13 aS p2 (by decide) (by omega) (fun j a b c => hS j a c) (fun j a b => by omega)⟩
    rw [show sa_mom (sa_sg T) 13 + (sa_sum (sa_sg T) 13 - sa_sum (sa_sg T) p) + p * 1 = sa_mom (sa_sg T) 13 + nd by omega]
    exact hM
  · unfold wX_restoreSignature_27
    refine br_t rfl ?_
    refine xs_placeBeforeOnes hS (by omega) hnd (fun p p1 p2 p3 => ?_)
    refine ⟨14, xf_rs58 (bi := 0) p1 p2 (by decide) ?_ h 14 13 aS p2 (by decide) (by omega) (fun j a b c => hS j a c) (fun j a b => by omega)⟩
    rw [p3, Nat.mul_zero, Nat.add_zero]
    exact hM
theorem xf_gapFits {post : Int32 → Prop} {T S : Nat → Nat} {c g : Nat} (hT : ∀ j, aT j = nI (T j)) (hT4 : ∀ j, T j < 4) (hs : ∀ j, S j ≤ 1) (hS : ∀ j, 1 ≤ j → j ≤ 13 → aS j = nI (S j)) (hc : c < 4) (hg : g ≤ 13)
    (h1 : sa_gf S T c g → post 1) (h0 : ¬ sa_gf S T c g → post 0) : wpX_gapFits post (dK, dP, dS, dL, gS, gO, gM, gF, gT, gC, gH, aC, aT, aP, aW, aL, aF, aU, aR, aS, aV, aO, aQ, aY) (nI g) (nI c) := by
  have H : (g = 0 ∨ S g = sa_asc (T (g - 1)) c) → wX_gapFits_28 post (nI g) (nI c) dK dP dS dL gS gO gM gF gT gC gH aC aT aP aW aL aF aU aR aS aV aO aQ aY := by
    intro ha
    unfold wX_gapFits_28
    refine pk_le 13 g (fun z => ?_) (fun z => ?_)
    · exact h1 ⟨ha, Or.inl z⟩
    · rw [nI_1]
      refine ⟨vp_in_nI (by omega) (by decide), vp_in_nI (by omega) (by decide), ?_⟩
      rw [nI_clamp (by omega), nI_clamp (by omega), hT g, hS _ (by omega) (by omega)]
      have l1 := hs (g + 1)
      have l2 := sa_asc_le c (T g)
      refine xs_ascent hc (hT4 g) (pk_eq (S (g + 1)) (sa_asc c (T g)) (fun z2 => ?_) (fun z2 => ?_))
      · exact h1 ⟨ha, Or.inr z2⟩
      · refine h0 (fun q => ?_)
        rcases q.2 with q | q
        · omega
        · exact z2 q
  refine pk_le g 0 (fun z => ?_) (fun z => ?_)
  · exact H (Or.inl (by omega))
  · rw [zd_s1 (by omega)]
    refine ⟨vp_in_nI (by omega) (by decide), vp_in_nI (by omega) (by decide), ?_⟩
    rw [nI_clamp (by omega), nI_clamp (by omega), hT (g - 1), hS _ (by omega) (by omega)]
    have l1 := hs g
    have l2 := sa_asc_le (T (g - 1)) c
    refine xs_ascent (hT4 _) hc (pk_eq (S g) (sa_asc (T (g - 1)) c) (fun z2 => ?_) (fun z2 => ?_))
    · exact H (Or.inr z2)
    · refine h0 (fun q => ?_)
      rcases q.1 with q | q
      · omega
      · exact z2 q
theorem xf_lg20 {post : Int32 → SX → Prop} {T S : Nat → Nat} {pl bi rf rt : Nat} (hT : ∀ j, aT j = nI (T j)) (hT4 : ∀ j, T j < 4) (hs : ∀ j, S j ≤ 1) (hS : ∀ j, 1 ≤ j → j ≤ 13 → aS j = nI (S j)) (R : sa_Res T S pl bi rf rt)
    (h : ∀ r, sa_lf (sa_A T 13) 14 r → post r (dK, dP, dS, dL, gS, gO, gM, gF, nI rt, gC, gH, aC, aT, aP, aW, aL, aF, aU, aR, aS, aV, aO, aQ, aY)) :
    ∀ (n g : Nat), rf ≤ g + 1 → g ≤ rt + 1 → rt + 1 < n + g → (∀ g', g' < g → ¬ sa_A T 13 g') → wX_leastGap_20 post (nI (sa_cm T)) dK dP dS dL gS gO gM gF (nI rt) gC gH aC aT aP aW aL aF aU aR aS aV aO aQ aY n (nI g) := by
  have r4 : rt ≤ 13 := R.2.2.2.2.1
  intro n
  induction n with
  | zero => intro g h1 h2 h3; omega
  | succ n ih =>
    intro g h1 h2 h3 h4
    refine pk_lt rt g (fun c => ?_) (fun c => ?_)
    · refine h (-1) (Or.inl ⟨rfl, fun g' hg' a => ?_⟩)
      have := (sa_gap_A R (by omega)).mp a
      exact h4 g' (by omega) a
    · have e := sa_gap_A R (show g ≤ 13 by omega)
      refine xf_gapFits hT hT4 hs hS (sa_cm_lt T) (by omega) (fun z => ?_) (fun z => ?_)
      · exact br_f (by decide) (h _ (Or.inr ⟨g, by omega, rfl, e.mpr ⟨h1, c, z⟩, h4⟩))
      · refine br_t rfl (nm_r (nI_1 g) (ih (g + 1) (by omega) (by omega) (by omega) (fun g' hg' a => ?_)))
        by_cases c2 : g' = g
        · subst c2; exact z (e.mp a).2.2
        · exact h4 g' (by omega) a
theorem xf_leastGap {post : Int32 → SX → Prop} {T : Nat → Nat} (hT : ∀ j, aT j = nI (T j)) (hT4 : ∀ j, T j < 4)
    (h : ∀ r gO gM gF gT aS, sa_lf (sa_A T 13) 14 r → sa_cont T 13 → post r (dK, dP, dS, nI 13, nI (sa_sum T 13), gO, gM, gF, gT, gC, gH, aC, aT, aP, aW, aL, aF, aU, aR, aS, aV, aO, aQ, aY)) : wpX_leastGap post (dK, dP, dS, nI 13, gS, gO, gM, gF, gT, gC, gH, aC, aT, aP, aW, aL, aF, aU, aR, aS, aV, aO, aQ, aY) := by
  unfold wpX_leastGap
  dsimp only
  refine xs_readSignature hT hT4 (by decide) (fun aS hS => ?_)
  dsimp only
  refine xf_restore hS (fun S pl bi rf rt aS R hs hS => ?_)
  dsimp only
  refine xs_missingSymbol hT4 ?_
  have r1 : 1 ≤ rf := R.2.1
  have r2 : rf ≤ pl := R.2.2.1
  have r3 : pl ≤ rt := R.2.2.2.1
  refine nm_r (zd_s1 r1) ⟨rt + 2, xf_lg20 hT hT4 hs hS R (fun r hr => h _ _ _ _ _ _ hr (sa_gap_cont R)) (rt + 2) (rf - 1) (by omega) (by omega) (by omega) (fun g' hg' a => ?_)⟩
  have r4 : rt ≤ 13 := R.2.2.2.2.1
  have := (sa_gap_A R (by omega)).mp a
  omega
/-! one too many -/
theorem xf_eb5 {post : Int32 → Prop} {T : Nat → Nat} {ex : Nat} (hS : ∀ j, 1 ≤ j → j < 15 → aS j = nI (sa_sg T j)) (he : ex < 14)
    (h1 : ∀ p, 1 ≤ p → p ≤ 14 → sa_drop (sa_sg T) p % 14 = ex → post (nI p)) (h0 : (∀ p, 1 ≤ p → p ≤ 14 → sa_drop (sa_sg T) p % 14 ≠ ex) → post 0) :
    ∀ (p z : Nat), z = sa_sum (sa_sg T) 15 - sa_sum (sa_sg T) (p + 1) → p ≤ 14 → (∀ p', p < p' → p' ≤ 14 → sa_drop (sa_sg T) p' % 14 ≠ ex) → wX_extraBit_5 post (nI ex) dK dP dS dL gS gO gM gF gT gC gH aC aT aP aW aL aF aU aR aS aV aO aQ aY (p + 1) (nI z) (nI p) := by
  intro p
  induction p with
  | zero =>
    intro z hz hp hd
    exact br_t (by decide) (h0 (fun p' a b => hd p' (by omega) b))
  | succ p ih =>
    intro z hz hp hd
    subst hz
    refine br_f (nI_nlt (b := 1) (by omega) (by omega)) ⟨vp_in_nI (by omega) (by decide), ?_⟩
    rw [nI_clamp (by omega), hS _ (by omega) (by omega), pk_mul, nI_add]
    have ed : sa_sum (sa_sg T) 15 - sa_sum (sa_sg T) (p + 1 + 1) + (p + 1) * sa_sg T (p + 1) = sa_drop (sa_sg T) (p + 1) := rfl
    have bd := sa_drop_mom (a := sa_sg T) (p := p + 1) hp
    have bm := xs_mom_b T (n := 15) (by decide)
    rw [ed]
    refine nm_e ⟨by decide, ?_⟩
    rw [zd_r14 (by omega)]
    refine pk_eq (sa_drop (sa_sg T) (p + 1) % 14) ex (fun c => ?_) (fun c => ?_)
    · exact h1 _ (by omega) hp c
    · refine ⟨vp_in_nI (by omega) (by decide), ?_⟩
      rw [nI_add]
      have e2 : sa_sum (sa_sg T) (p + 1 + 1) = sa_sum (sa_sg T) (p + 1) + sa_sg T (p + 1) := rfl
      have m := sa_sum_mono (a := sa_sg T) (p + 2) (15 - (p + 2))
      rw [show p + 2 + (15 - (p + 2)) = 15 by omega] at m
      change sa_sum (sa_sg T) (p + 1 + 1) ≤ _ at m
      refine nm_e (nm_r (pk_m1 p) (ih _ (by omega) (by omega) (fun p' a b => ?_)))
      by_cases c2 : p' = p + 1
      · rw [c2]; exact c
      · exact hd p' (by omega) b
theorem xf_extraBit {post : Int32 → Prop} {T : Nat → Nat} {ex : Nat} (hS : ∀ j, 1 ≤ j → j < 15 → aS j = nI (sa_sg T j)) (he : ex < 14)
    (h1 : ∀ p, 1 ≤ p → p ≤ 14 → sa_drop (sa_sg T) p % 14 = ex → post (nI p)) (h0 : (∀ p, 1 ≤ p → p ≤ 14 → sa_drop (sa_sg T) p % 14 ≠ ex) → post 0) : wpX_extraBit post (dK, dP, dS, dL, gS, gO, gM, gF, gT, gC, gH, aC, aT, aP, aW, aL, aF, aU, aR, aS, aV, aO, aQ, aY) (nI ex) :=
  ⟨15, xf_eb5 hS he h1 h0 14 0 (by rw [Nat.sub_self]) (by decide) (fun p' a b => by omega)⟩
theorem xf_ef : ∀ x, x < 2 → ∀ y, y < 2 → ∀ b, b < 2 → ∀ m, m < 2 → (((nI x + nI y) - nI b = nI m) ↔ x + y = m + b) := by decide +kernel
theorem xf_extraFits {post : Int32 → Prop} {T : Nat → Nat} {b g : Nat} (hT : ∀ j, aT j = nI (T j)) (hT4 : ∀ j, T j < 4) (hS : ∀ j, 1 ≤ j → j < 15 → aS j = nI (sa_sg T j)) (hb : b ≤ 1) (hg : g ≤ 14)
    (h1 : sa_ef T b g → post 1) (h0 : ¬ sa_ef T b g → post 0) : wpX_extraFits post (dK, dP, dS, dL, gS, gO, gM, gF, gT, gC, gH, aC, aT, aP, aW, aL, aF, aU, aR, aS, aV, aO, aQ, aY) (nI g) (nI b) := by
  refine pk_le g 0 (fun z => ?_) (fun z => ?_)
  · exact h1 (Or.inl (by omega))
  · refine pk_lt g 14 (fun z2 => ?_) (fun z2 => ?_)
    · rw [zd_s1 (by omega), nI_1]
      refine ⟨vp_in_nI (by omega) (by decide), vp_in_nI (by omega) (by decide), ?_⟩
      rw [nI_clamp (by omega), nI_clamp (by omega), nI_clamp (by omega), hT (g - 1), hT (g + 1), hS g (by omega) (by omega), hS (g + 1) (by omega) (by omega)]
      refine xs_ascent (hT4 _) (hT4 _) ⟨vp_in_nI (by omega) (by decide), vp_in_nI (by omega) (by decide), ?_⟩
      have l1 := sa_sg_le T g
      have l2 := sa_sg_le T (g + 1)
      have l3 := sa_asc_le (T (g - 1)) (T (g + 1))
      have e := xf_ef _ (show sa_sg T g < 2 by omega) _ (show sa_sg T (g + 1) < 2 by omega) _ (show b < 2 by omega) _ (show sa_asc (T (g - 1)) (T (g + 1)) < 2 by omega)
      by_cases c : sa_sg T g + sa_sg T (g + 1) = sa_asc (T (g - 1)) (T (g + 1)) + b
      · exact br_t (e.mpr c) (h1 (Or.inr (Or.inr c)))
      · refine br_f (fun q => c (e.mp q)) (h0 (fun q => ?_))
        rcases q with q | q | q
        · omega
        · omega
        · exact c q
    · exact h1 (Or.inr (Or.inl z2))
theorem xf_le43 {post : Int32 → SX → Prop} {T : Nat → Nat} {pl rf rt : Nat} (hT : ∀ j, aT j = nI (T j)) (hT4 : ∀ j, T j < 4) (hS : ∀ j, 1 ≤ j → j < 15 → aS j = nI (sa_sg T j)) (R : sa_Exs T pl rf rt)
    (h : ∀ r, sa_lf (sa_A T 15) 15 r → post r (dK, dP, dS, dL, gS, gO, gM, gF, nI rt, gC, gH, aC, aT, aP, aW, aL, aF, aU, aR, aS, aV, aO, aQ, aY)) :
    ∀ (n g : Nat), rf ≤ g + 1 → g ≤ rt + 1 → rt + 1 < n + g → (∀ g', g' < g → ¬ sa_A T 15 g') → wX_leastExtra_43 post (nI pl) (nI (sa_sum T 15 % 4)) dK dP dS dL gS gO gM gF (nI rt) gC gH aC aT aP aW aL aF aU aR aS aV aO aQ aY n (nI g) := by
  have r4 : rt ≤ 14 := R.2.2.2.2.1
  have p1 : 1 ≤ pl := R.1.1
  have p2 : pl ≤ 14 := R.1.2.1
  intro n
  induction n with
  | zero => intro g h1 h2 h3; omega
  | succ n ih =>
    intro g h1 h2 h3 h4
    refine pk_lt rt g (fun c => ?_) (fun c => ?_)
    · refine h (-1) (Or.inl ⟨rfl, fun g' hg' a => ?_⟩)
      have a2 := a
      rw [sa_A15] at a2
      have := (sa_ex_iff R (by omega) hT4).mp a2
      exact h4 g' (by omega) a
    · have e := sa_ex_iff R (show g ≤ 14 by omega) hT4
      rw [← sa_A15] at e
      refine ⟨vp_in_nI (by omega) (by decide), ?_⟩
      rw [nI_clamp (by omega), hT g]
      have t4 := hT4 g
      have N : ¬ sa_A T 15 g → wX_leastExtra_43 post (nI pl) (nI (sa_sum T 15 % 4)) dK dP dS dL gS gO gM gF (nI rt) gC gH aC aT aP aW aL aF aU aR aS aV aO aQ aY n (nI (g + 1)) := fun na => by
        refine ih (g + 1) (by omega) (by omega) (by omega) (fun g' hg' a => ?_)
        by_cases c2 : g' = g
        · subst c2; exact na a
        · exact h4 g' (by omega) a
      refine pk_eq (T g) (sa_sum T 15 % 4) (fun z => ?_) (fun z => ?_)
      · refine ⟨vp_in_nI (by omega) (by decide), ?_⟩
        rw [nI_clamp (by omega), hS pl (by omega) (by omega)]
        refine xf_extraFits hT hT4 hS (sa_sg_le T pl) (by omega) (fun z2 => ?_) (fun z2 => ?_)
        · exact br_f (by decide) (h _ (Or.inr ⟨g, by omega, rfl, e.mpr ⟨z, h1, c, z2⟩, h4⟩))
        · exact br_t rfl (nm_r (nI_1 g) (N (fun a => z2 (e.mp a).2.2.2)))
      · exact nm_r (nI_1 g) (N (fun a => z (e.mp a).1))
theorem xf_leastExtra {post : Int32 → SX → Prop} {T : Nat → Nat} (hT : ∀ j, aT j = nI (T j)) (hT4 : ∀ j, T j < 4)
    (h : ∀ r gS gO gM gF gT aS, sa_lf (sa_A T 15) 15 r → sa_cont T 15 → post r (dK, dP, dS, nI 15, gS, gO, gM, gF, gT, gC, gH, aC, aT, aP, aW, aL, aF, aU, aR, aS, aV, aO, aQ, aY)) : wpX_leastExtra post (dK, dP, dS, nI 15, gS, gO, gM, gF, gT, gC, gH, aC, aT, aP, aW, aL, aF, aU, aR, aS, aV, aO, aQ, aY) := by
  unfold wpX_leastExtra
  dsimp only
  refine xs_readSignature hT hT4 (by decide) (fun aS hS => ?_)
  dsimp only
  have bm := xs_mom_b T (n := 15) (by decide)
  have bs := xs_sum_b hT4 (n := 15) (by decide)
  refine ⟨by decide, ?_⟩
  rw [zd_r14 (by omega)]
  refine xf_extraBit hS (by omega) (fun p p1 p2 hp => ?_) (fun hp => ?_)
  · refine br_f (nI_ne0 (by omega) (by omega)) ?_
    refine xs_spanRun (e := 14) (s := sa_sg T) (by decide) (sa_sg_le T) (fun j a b => hS j a (by omega)) p1 p2 (fun rf rt R => ?_)
    dsimp only
    have RR : sa_Exs T p rf rt := ⟨⟨p1, p2, hp⟩, R⟩
    refine ⟨by decide, ?_⟩
    rw [zd_r4 (by omega)]
    refine nm_e (nm_r (zd_s1 R.1) ⟨rt + 2, ?_⟩)
    have r1 : 1 ≤ rf := R.1
    have r2 : rf ≤ p := R.2.1
    have r3 : p ≤ rt := R.2.2.1
    have r4 : rt ≤ 14 := R.2.2.2.1
    refine xf_le43 hT hT4 hS RR (fun r hr => h _ _ _ _ _ _ _ hr (sa_ex_cont RR hT4)) (rt + 2) (rf - 1) (by omega) (by omega) (by omega) (fun g' hg' a => ?_)
    rw [sa_A15] at a
    have := (sa_ex_iff RR (by omega) hT4).mp a
    omega
  · have hn : ∀ g, g < 15 → ¬ sa_A T 15 g := fun g hg => by
      rw [sa_A15]
      exact sa_ex_none (by omega) hp
    refine br_t rfl (h _ _ _ _ _ _ _ (Or.inl ⟨rfl, hn⟩) ⟨fun q => absurd q (by decide), fun _ g g' a b c d => absurd d (hn g' b)⟩)
theorem xf_leastFault {post : Int32 → SX → Prop} {T : Nat → Nat} {L : Nat} (hL : L ≤ 16) (hT : ∀ j, aT j = nI (T j)) (hT4 : ∀ j, T j < 4)
    (h : ∀ r gS gO gM gF gT aS, sa_lf (sa_A T L) (sa_N L) r → sa_cont T L → (L = 13 → gS = nI (sa_sum T 13)) → post r (dK, dP, dS, nI L, gS, gO, gM, gF, gT, gC, gH, aC, aT, aP, aW, aL, aF, aU, aR, aS, aV, aO, aQ, aY)) : wpX_leastFault post (dK, dP, dS, nI L, gS, gO, gM, gF, gT, gC, gH, aC, aT, aP, aW, aL, aF, aU, aR, aS, aV, aO, aQ, aY) := by
  unfold wpX_leastFault
  dsimp only
  refine pk_eq L 13 (fun c => ?_) (fun c => ?_)
  · subst c
    exact xf_leastGap hT hT4 (fun r gO gM gF gT aS a b => h _ _ _ _ _ _ _ a b (fun _ => rfl))
  · refine pk_eq L 15 (fun c2 => ?_) (fun c2 => ?_)
    · subst c2
      exact xf_leastExtra hT hT4 (fun r gS gO gM gF gT aS a b => h _ _ _ _ _ _ _ a b (fun q => absurd q (by decide)))
    · refine h _ _ _ _ _ _ _ (Or.inl ⟨rfl, fun g hg => ?_⟩) ⟨fun q => absurd q c, fun q => absurd q c2⟩ (fun q => absurd q c)
      unfold sa_N at hg
      rw [if_neg c, if_neg c2] at hg
      omega
end XF
end
section
/-! the component's repairing, faults, strands in use, delivery, taking -/
section RPP
/-- the repaired word W and its kind k -/
def sa_RP (T : Nat → Nat) (L k : Nat) (W : Nat → Nat) : Prop :=
  (L = 14 ∧ sa_Code T ∧ k = 11 ∧ W = T) ∨
  (L = 13 ∧ ∃ g, g < 14 ∧ sa_A T 13 g ∧ (∀ g', g' < g → ¬ sa_A T 13 g') ∧ k = 12 ∧ W = sa_ins T g (sa_cm T)) ∨
  (L = 15 ∧ ∃ g, g < 15 ∧ sa_A T 15 g ∧ (∀ g', g' < g → ¬ sa_A T 15 g') ∧ k = 13 ∧ W = sa_del T g)
theorem sa_least_u {A : Nat → Prop} {g k : Nat} (g3 : A g) (g4 : ∀ g', g' < g → ¬ A g') (k3 : A k) (k4 : ∀ g', g' < k → ¬ A g') : g = k := by
  apply Nat.le_antisymm
  · exact Nat.le_of_not_lt (fun z => g4 k z k3)
  · exact Nat.le_of_not_lt (fun z => k4 g z g3)
theorem sa_RP_u {T W W' : Nat → Nat} {L k k' : Nat} (h : sa_RP T L k W) (h' : sa_RP T L k' W') : k' = k ∧ W' = W := by
  rcases h with ⟨l, c, rfl, rfl⟩ | ⟨l, g, g1, g2, g3, rfl, rfl⟩ | ⟨l, g, g1, g2, g3, rfl, rfl⟩ <;> rcases h' with ⟨l', c', rfl, rfl⟩ | ⟨l', g', g1', g2', g3', rfl, rfl⟩ | ⟨l', g', g1', g2', g3', rfl, rfl⟩
  · exact ⟨rfl, rfl⟩
  · omega
  · omega
  · omega
  · rw [sa_least_u g2 g3 g2' g3']; exact ⟨rfl, rfl⟩
  · omega
  · omega
  · omega
  · rw [sa_least_u g2 g3 g2' g3']; exact ⟨rfl, rfl⟩
theorem sa_ins_4 {T : Nat → Nat} {g c : Nat} (h : ∀ j, T j < 4) (hc : c < 4) (j : Nat) : sa_ins T g c j < 4 := by
  unfold sa_ins
  split
  · exact h _
  · split
    · exact hc
    · exact h _
theorem sa_del_4 {T : Nat → Nat} {g : Nat} (h : ∀ j, T j < 4) (j : Nat) : sa_del T g j < 4 := by
  unfold sa_del
  split <;> exact h _
theorem sa_RP_4 {T W : Nat → Nat} {L k : Nat} (hT : ∀ j, T j < 4) (h : sa_RP T L k W) : (∀ j, W j < 4) ∧ (k = 11 ∨ k = 12 ∨ k = 13) := by
  rcases h with ⟨l, c, rfl, rfl⟩ | ⟨l, g, g1, g2, g3, rfl, rfl⟩ | ⟨l, g, g1, g2, g3, rfl, rfl⟩
  · exact ⟨hT, Or.inl rfl⟩
  · exact ⟨sa_ins_4 hT (sa_cm_lt T), Or.inr (Or.inl rfl)⟩
  · exact ⟨sa_del_4 hT, Or.inr (Or.inr rfl)⟩
/-- a strand in use -/
def sa_iu (K p s : Nat) : Prop := s < K ∨ (12 ≤ s ∧ s < 12 + p)
def sa_py (W : Nat → Nat) : Nat → Nat
  | 0 => 0
  | n + 1 => sa_py W n * 4 + W (n + 2)
theorem sa_py_lt {W : Nat → Nat} (h : ∀ j, W j < 4) : ∀ n, sa_py W n < 4 ^ n
  | 0 => by
    show 0 < 1
    decide
  | n + 1 => by
    have ih := sa_py_lt h n
    have := h (n + 2)
    show sa_py W n * 4 + W (n + 2) < 4 ^ n * 4
    omega
def sa_pr (s v : Nat) (W : Nat → Nat) : Prop := ∀ j, j < 14 → 8 ≤ j → W j = sw_w s v (sw_n s v) j
noncomputable def sa_if {α : Type} (P : Prop) (a b : α) : α := @ite α P (Classical.propDecidable P) a b
theorem sa_if_t {α : Type} {P : Prop} {a b : α} (h : P) : sa_if P a b = a := by unfold sa_if; rw [if_pos h]
theorem sa_if_f {α : Type} {P : Prop} {a b : α} (h : ¬ P) : sa_if P a b = b := by unfold sa_if; rw [if_neg h]
/-- what delivery of the word W does -/
noncomputable def sa_D3 (P : Nat → Nat) (s v : Nat) : Int32 × (Nat → Nat) :=
  if P s < 4096 then (if P s = v then (22, P) else (23, P)) else (21, fun j => if j = s then v else P j)
noncomputable def sa_D2 (K p : Nat) (P : Nat → Nat) (s v : Nat) (W : Nat → Nat) : Int32 × (Nat → Nat) :=
  sa_if (sa_iu K p s) (sa_if (sa_pr s v W) (sa_D3 P s v) (20, P)) (20, P)
/-- the tray with its first 14 symbols taken from w -/
def sa_tw (w T : Nat → Nat) : Nat → Nat := fun j => if j < 14 then w j else T j
theorem sa_tw_4 {w T : Nat → Nat} (hw : ∀ j, w j < 4) (hT : ∀ j, T j < 4) (j : Nat) : sa_tw w T j < 4 := by
  unfold sa_tw
  split
  · exact hw j
  · exact hT j
theorem sa_tw_c {w T : Nat → Nat} {f t : Nat → Int32} (hf : ∀ j, j < 14 → f j = nI (w j)) (ht : ∀ j, t j = nI (T j)) : zc_cp f t 14 = fun j => nI (sa_tw w T j) := by
  funext j
  unfold zc_cp sa_tw
  by_cases h : j < 14
  · rw [if_pos h, if_pos h, hf j h]
  · rw [if_neg h, if_neg h, ht j]
theorem sa_upP {P : Nat → Nat} {s v : Nat} (hv : v < 4096) : upd (fun j => zx_P (P j)) s (nI v) = fun j => zx_P (if j = s then v else P j) := by
  funext j
  unfold upd
  by_cases h : j = s
  · rw [if_pos h, if_pos h, zx_lt hv]
  · rw [if_neg h, if_neg h]
end RPP
section XR
variable {dK dP dS dL gS gO gM gF gT gC gH : Int32} {aC aT aP aW aL aF aU aR aS aV aO aQ aY : Nat → Int32}
theorem xr_ci28 {post : Int32 → SX → Prop} (h : post 11 (dK, dP, dS, dL, gS, gO, gM, gF, gT, gC, gH, aC, aT, aP, aW, aL, aF, zc_cp aT aU 14, aR, aS, aV, aO, aQ, aY)) : ∀ (n i : Nat), i ≤ 14 → 14 < n + i → wX_copyIntact_28 post dK dP dS dL gS gO gM gF gT gC gH n (nI i) aC aT aP aW aL aF (zc_cp aT aU i) aR aS aV aO aQ aY := by
  intro n
  induction n with
  | zero => intro i h1 h2; omega
  | succ n ih =>
    intro i h1 h2
    refine pk_le 14 i (fun c => ?_) (fun c => ?_)
    · rw [show i = 14 by omega]; exact h
    · refine ⟨vp_in_nI (by omega) (by decide), vp_in_nI (by omega) (by decide), ?_⟩
      rw [nI_clamp (by omega)]
      exact nm_r zc_s (nm_r (nI_1 i) (ih (i + 1) (by omega) (by omega)))
theorem xr_copyIntact {post : Int32 → SX → Prop} {T : Nat → Nat} (hT : ∀ j, aT j = nI (T j)) (hT4 : ∀ j, T j < 4)
    (h1 : sa_Code T → ∀ gS gO gM aU aS, (∀ j, j < 14 → aU j = nI (T j)) → post 11 (dK, dP, dS, nI 14, gS, gO, gM, gF, gT, gC, gH, aC, aT, aP, aW, aL, aF, aU, aR, aS, aV, aO, aQ, aY)) (h0 : ¬ sa_Code T → ∀ gS gO gM aS, post 10 (dK, dP, dS, nI 14, gS, gO, gM, gF, gT, gC, gH, aC, aT, aP, aW, aL, aF, aU, aR, aS, aV, aO, aQ, aY)) : wpX_copyIntact post (dK, dP, dS, nI 14, gS, gO, gM, gF, gT, gC, gH, aC, aT, aP, aW, aL, aF, aU, aR, aS, aV, aO, aQ, aY) := by
  have bm := xs_mom_b T (n := 14) (by decide)
  have bs := xs_sum_b hT4 (n := 14) (by decide)
  unfold wpX_copyIntact
  dsimp only
  refine xs_readSignature hT hT4 (by decide) (fun aS hS => ?_)
  dsimp only
  refine ⟨by decide, ?_⟩
  rw [zd_r4 (by omega), zd_r14 (by omega)]
  refine pk_eq (sa_sum T 14 % 4) 0 (fun c => ⟨by decide, ?_⟩) (fun c => ?_)
  · refine pk_eq (sa_mom (sa_sg T) 14 % 14) 0 (fun c2 => ⟨15, ?_⟩) (fun c2 => ?_)
    · have := xr_ci28 (post := post) (dK := dK) (dP := dP) (dS := dS) (dL := nI 14) (gS := nI (sa_sum T 14)) (gO := nI (sa_sum (sa_sg T) 14)) (gM := nI (sa_mom (sa_sg T) 14)) (gF := gF) (gT := gT) (gC := gC) (gH := gH) (aC := aC) (aT := aT) (aP := aP) (aW := aW) (aL := aL) (aF := aF) (aU := aU) (aR := aR) (aS := aS) (aV := aV) (aO := aO) (aQ := aQ) (aY := aY) (h1 ⟨c, c2⟩ _ _ _ _ _ (fun j hj => by rw [zc_lt hj, hT])) 15 0 (by decide) (by decide)
      rw [zc_0] at this
      exact this
    · exact h0 (fun q => c2 q.2) _ _ _ _
  · exact h0 (fun q => c q.1) _ _ _ _
theorem xr_cf2 {post : SX → Prop} {T : Nat → Nat} {g : Nat} (hT : ∀ j, aT j = nI (T j)) (hT4 : ∀ j, T j < 4) (hg : g ≤ 13)
    (h : ∀ aU, (∀ j, j < 14 → aU j = nI (sa_ins T g (sa_cm T) j)) → post (dK, dP, dS, dL, nI (sa_sum T 13), gO, gM, gF, gT, gC, gH, aC, aT, aP, aW, aL, aF, aU, aR, aS, aV, aO, aQ, aY)) : ∀ (n i : Nat) (aU : Nat → Int32), i ≤ 13 → 13 < n + i →
    (∀ j, j < g → j < i → aU j = nI (T j)) → (∀ j, g < j → j ≤ i → aU j = nI (T (j - 1))) → wX_copyFilled_2 post (nI g) dK dP dS dL (nI (sa_sum T 13)) gO gM gF gT gC gH n (nI i) aC aT aP aW aL aF aU aR aS aV aO aQ aY := by
  intro n
  induction n with
  | zero => intro i aU h1 h2; omega
  | succ n ih =>
    intro i aU h1 h2 h3 h4
    refine pk_le 13 i (fun c => ?_) (fun c => ?_)
    · refine xs_missingSymbol hT4 ⟨vp_in_nI (by omega) (by decide), ?_⟩
      rw [nI_clamp (by omega)]
      refine nm_e (h _ (fun j hj => ?_))
      by_cases c1 : j = g
      · subst c1; rw [pk_us, sa_ins_eq]
      · rw [pk_un c1]
        by_cases c2 : j < g
        · rw [sa_ins_lt c2]; exact h3 j c2 (by omega)
        · rw [sa_ins_gt (by omega)]; exact h4 j (by omega) (by omega)
    · refine pk_le g i (fun c2 => ?_) (fun c2 => ?_)
      · rw [nI_1]
        refine ⟨vp_in_nI (by omega) (by decide), vp_in_nI (by omega) (by decide), ?_⟩
        rw [nI_clamp (by omega), nI_clamp (by omega), hT i]
        refine nm_e (nm_e (ih (i + 1) _ (by omega) (by omega) (fun j j1 j2 => ?_) (fun j j1 j2 => ?_)))
        · rw [pk_un (by omega)]; exact h3 j j1 (by omega)
        · by_cases c3 : j = i + 1
          · subst c3; exact pk_us
          · rw [pk_un c3]; exact h4 j j1 (by omega)
      · refine ⟨vp_in_nI (by omega) (by decide), vp_in_nI (by omega) (by decide), ?_⟩
        rw [nI_clamp (by omega), hT i]
        refine nm_e (nm_r (nI_1 i) (ih (i + 1) _ (by omega) (by omega) (fun j j1 j2 => ?_) (fun j j1 j2 => by omega)))
        by_cases c3 : j = i
        · subst c3; exact pk_us
        · rw [pk_un c3]; exact h3 j j1 (by omega)
theorem xr_copyFilled {post : SX → Prop} {T : Nat → Nat} {g : Nat} (hT : ∀ j, aT j = nI (T j)) (hT4 : ∀ j, T j < 4) (hg : g ≤ 13)
    (h : ∀ aU, (∀ j, j < 14 → aU j = nI (sa_ins T g (sa_cm T) j)) → post (dK, dP, dS, dL, nI (sa_sum T 13), gO, gM, gF, gT, gC, gH, aC, aT, aP, aW, aL, aF, aU, aR, aS, aV, aO, aQ, aY)) : wpX_copyFilled post (dK, dP, dS, dL, nI (sa_sum T 13), gO, gM, gF, gT, gC, gH, aC, aT, aP, aW, aL, aF, aU, aR, aS, aV, aO, aQ, aY) (nI g) :=
  ⟨14, xr_cf2 hT hT4 hg h 14 0 aU (by decide) (by decide) (fun j a b => by omega) (fun j a b => by omega)⟩
theorem xr_cw2 {post : SX → Prop} {T : Nat → Nat} {g : Nat} (hT : ∀ j, aT j = nI (T j)) (hg : g ≤ 14)
    (h : ∀ aU, (∀ j, j < 14 → aU j = nI (sa_del T g j)) → post (dK, dP, dS, dL, gS, gO, gM, gF, gT, gC, gH, aC, aT, aP, aW, aL, aF, aU, aR, aS, aV, aO, aQ, aY)) : ∀ (n i : Nat) (aU : Nat → Int32), i ≤ 14 → 14 < n + i →
    (∀ j, j < i → aU j = nI (sa_del T g j)) → wX_copyWithout_2 post (nI g) dK dP dS dL gS gO gM gF gT gC gH n (nI i) aC aT aP aW aL aF aU aR aS aV aO aQ aY := by
  intro n
  induction n with
  | zero => intro i aU h1 h2; omega
  | succ n ih =>
    intro i aU h1 h2 h3
    refine pk_le 14 i (fun c => ?_) (fun c => ?_)
    · exact h aU (fun j hj => h3 j (by omega))
    · refine pk_le g i (fun c2 => ?_) (fun c2 => ?_)
      · rw [nI_1]
        refine ⟨vp_in_nI (by omega) (by decide), vp_in_nI (by omega) (by decide), ?_⟩
        rw [nI_clamp (by omega), nI_clamp (by omega), hT (i + 1)]
        refine nm_e (nm_e (ih (i + 1) _ (by omega) (by omega) (fun j j1 => ?_)))
        by_cases c3 : j = i
        · subst c3; rw [pk_us, sa_del_ge c2]
        · rw [pk_un c3]; exact h3 j (by omega)
      · refine ⟨vp_in_nI (by omega) (by decide), vp_in_nI (by omega) (by decide), ?_⟩
        rw [nI_clamp (by omega), hT i]
        refine nm_e (nm_r (nI_1 i) (ih (i + 1) _ (by omega) (by omega) (fun j j1 => ?_)))
        by_cases c3 : j = i
        · subst c3; rw [pk_us, sa_del_lt (by omega)]
        · rw [pk_un c3]; exact h3 j (by omega)
theorem xr_copyWithout {post : SX → Prop} {T : Nat → Nat} {g : Nat} (hT : ∀ j, aT j = nI (T j)) (hg : g ≤ 14)
    (h : ∀ aU, (∀ j, j < 14 → aU j = nI (sa_del T g j)) → post (dK, dP, dS, dL, gS, gO, gM, gF, gT, gC, gH, aC, aT, aP, aW, aL, aF, aU, aR, aS, aV, aO, aQ, aY)) : wpX_copyWithout post (dK, dP, dS, dL, gS, gO, gM, gF, gT, gC, gH, aC, aT, aP, aW, aL, aF, aU, aR, aS, aV, aO, aQ, aY) (nI g) :=
  ⟨15, xr_cw2 hT hg h 15 0 aU (by decide) (by decide) (fun j a => by omega)⟩
theorem sa_N13 : sa_N 13 = 14 := rfl
theorem sa_N15 : sa_N 15 = 15 := rfl
theorem xr_make {post : Int32 → SX → Prop} {T : Nat → Nat} {L : Nat} (hL : L ≤ 16) (hT : ∀ j, aT j = nI (T j)) (hT4 : ∀ j, T j < 4)
    (h : ∀ k W gS gO gM gF gT aU aS, sa_RP T L k W → (∀ j, j < 14 → aU j = nI (W j)) → post (nI k) (dK, dP, dS, nI L, gS, gO, gM, gF, gT, gC, gH, aC, aT, aP, aW, aL, aF, aU, aR, aS, aV, aO, aQ, aY))
    (h0 : (∀ k W, ¬ sa_RP T L k W) → ∀ gS gO gM gF gT aU aS, post 10 (dK, dP, dS, nI L, gS, gO, gM, gF, gT, gC, gH, aC, aT, aP, aW, aL, aF, aU, aR, aS, aV, aO, aQ, aY)) : wpX_makeRepaired post (dK, dP, dS, nI L, gS, gO, gM, gF, gT, gC, gH, aC, aT, aP, aW, aL, aF, aU, aR, aS, aV, aO, aQ, aY) := by
  unfold wpX_makeRepaired
  dsimp only
  refine pk_eq L 14 (fun c => ?_) (fun c => ?_)
  · subst c
    refine xr_copyIntact hT hT4 (fun hc gS gO gM aU aS hU => ?_) (fun hc gS gO gM aS => ?_)
    · exact h 11 T _ _ _ _ _ _ _ (Or.inl ⟨rfl, hc, rfl, rfl⟩) hU
    · refine h0 (fun k W R => ?_) _ _ _ _ _ _ _
      rcases R with ⟨l, c, _⟩ | ⟨l, _⟩ | ⟨l, _⟩
      · exact hc c
      · omega
      · omega
  · refine xf_leastFault hL hT hT4 (fun r gS gO gM gF gT aS lf _ hS => ?_)
    dsimp only
    rcases lf with ⟨rfl, hn⟩ | ⟨g, g1, rfl, g3, g4⟩
    · refine br_f (by decide) (h0 (fun k W R => ?_) _ _ _ _ _ _ _)
      rcases R with ⟨l, _⟩ | ⟨rfl, g, g1, g2, _⟩ | ⟨rfl, g, g1, g2, _⟩
      · exact c l
      · exact hn g g1 g2
      · exact hn g g1 g2
    · have g15 : g < 15 := by
        unfold sa_N at g1
        split at g1
        · omega
        · split at g1 <;> omega
      refine br_t (nI_pos' (by omega)) ?_
      refine pk_eq L 13 (fun c2 => ?_) (fun c2 => ?_)
      · subst c2
        have e := hS rfl
        subst e
        refine xr_copyFilled hT hT4 (Nat.le_of_lt_succ g1) (fun aU hU => ?_)
        exact h 12 _ _ _ _ _ _ _ _ (Or.inr (Or.inl ⟨rfl, g, g1, g3, g4, rfl, rfl⟩)) hU
      · have l15 : L = 15 := by
          unfold sa_N at g1
          rw [if_neg c2] at g1
          split at g1
          · assumption
          · omega
        subst l15
        refine xr_copyWithout hT (by omega) (fun aU hU => ?_)
        exact h 13 _ _ _ _ _ _ _ _ (Or.inr (Or.inr ⟨rfl, g, g1, g3, g4, rfl, rfl⟩)) hU
theorem xr_re16 {post : Int32 → SX → Prop} {k : Int32} (h : post k (dK, dP, dS, nI 14, gS, gO, gM, gF, gT, gC, gH, aC, zc_cp aU aT 14, aP, aW, aL, aF, aU, aR, aS, aV, aO, aQ, aY)) : ∀ (n i : Nat), i ≤ 14 → 14 < n + i → wX_repair_16 post k dK dP dS dL gS gO gM gF gT gC gH n (nI i) aC (zc_cp aU aT i) aP aW aL aF aU aR aS aV aO aQ aY := by
  intro n
  induction n with
  | zero => intro i h1 h2; omega
  | succ n ih =>
    intro i h1 h2
    refine pk_le 14 i (fun c => ?_) (fun c => ?_)
    · rw [show i = 14 by omega]; exact h
    · refine ⟨vp_in_nI (by omega) (by decide), vp_in_nI (by omega) (by decide), ?_⟩
      rw [nI_clamp (by omega)]
      exact nm_r zc_s (nm_r (nI_1 i) (ih (i + 1) (by omega) (by omega)))
theorem xr_repair {post : Int32 → SX → Prop} {T : Nat → Nat} {L : Nat} (hL : L ≤ 16) (hT : ∀ j, aT j = nI (T j)) (hT4 : ∀ j, T j < 4)
    (h : ∀ k W gS gO gM gF gT aU aS, sa_RP T L k W → post (nI k) (dK, dP, dS, nI 14, gS, gO, gM, gF, gT, gC, gH, aC, fun j => nI (sa_tw W T j), aP, aW, aL, aF, aU, aR, aS, aV, aO, aQ, aY))
    (h0 : (∀ k W, ¬ sa_RP T L k W) → ∀ gS gO gM gF gT aU aS, post 10 (dK, dP, dS, nI L, gS, gO, gM, gF, gT, gC, gH, aC, aT, aP, aW, aL, aF, aU, aR, aS, aV, aO, aQ, aY)) : wpX_repair post (dK, dP, dS, nI L, gS, gO, gM, gF, gT, gC, gH, aC, aT, aP, aW, aL, aF, aU, aR, aS, aV, aO, aQ, aY) := by
  unfold wpX_repair
  dsimp only
  refine xr_make hL hT hT4 (fun k W gS gO gM gF gT aU aS R hU => ?_) (fun hn gS gO gM gF gT aU aS => ?_)
  · dsimp only
    have hk := (sa_RP_4 hT4 R).2
    refine br_f (fun q => ?_) ⟨15, ?_⟩
    · have := (nI_eq (a := k) (b := 10) (by omega) (by decide)).mp q
      omega
    · have := xr_re16 (post := post) (dK := dK) (dP := dP) (dS := dS) (dL := nI L) (gS := gS) (gO := gO) (gM := gM) (gF := gF) (gT := gT) (gC := gC) (gH := gH) (aC := aC) (aT := aT) (aP := aP) (aW := aW) (aL := aL) (aF := aF) (aU := aU) (aR := aR) (aS := aS) (aV := aV) (aO := aO) (aQ := aQ) (aY := aY) (h k W gS gO gM gF gT aU aS R |> fun z => by rw [← sa_tw_c hU hT] at z; exact z) 15 0 (by decide) (by decide)
      rw [zc_0] at this
      exact this
  · exact br_t rfl (h0 hn _ _ _ _ _ _ _)
/-! the greatest fault -/
theorem xr_gg7 {post : Int32 → Prop} {T : Nat → Nat} (hT : ∀ j, aT j = nI (T j)) (hT4 : ∀ j, T j < 4) (hC : sa_cont T 13)
    (h : ∀ g, g < 14 → sa_A T 13 g → (∀ g', g < g' → g' < 14 → ¬ sa_A T 13 g') → post (nI g)) :
    ∀ (n g : Nat), g < 14 → 14 ≤ n + g → sa_A T 13 g → wX_greatestGap_7 post (nI (sa_cm T)) dK dP dS dL gS gO gM gF gT gC gH aC aT aP aW aL aF aU aR aS aV aO aQ aY n (nI g) := by
  intro n
  induction n with
  | zero => intro g h1 h2; omega
  | succ n ih =>
    intro g h1 h2 ha
    refine pk_le 13 g (fun c => ?_) (fun c => ?_)
    · exact h g h1 ha (fun g' a b => by omega)
    · refine ⟨vp_in_nI (by omega) (by decide), ?_⟩
      rw [nI_clamp (by omega), hT g]
      have l1 := hT4 g
      have l2 := sa_cm_lt T
      refine pk_eq (T g) (sa_cm T) (fun c2 => ?_) (fun c2 => ?_)
      · refine nm_r (nI_1 g) (ih (g + 1) (by omega) (by omega) ?_)
        rw [sa_A13] at ha ⊢
        rw [← sa_ins_sh c2]
        exact ha
      · exact h g h1 ha (fun g' a b d => c2 (hC.1 rfl g g' a b ha d))
theorem xr_ge2 {post : Int32 → Prop} {T : Nat → Nat} (hT : ∀ j, aT j = nI (T j)) (hT4 : ∀ j, T j < 4) (hC : sa_cont T 15)
    (h : ∀ g, g < 15 → sa_A T 15 g → (∀ g', g < g' → g' < 15 → ¬ sa_A T 15 g') → post (nI g)) :
    ∀ (n g : Nat), g < 15 → 15 ≤ n + g → sa_A T 15 g → wX_greatestExtra_2 post dK dP dS dL gS gO gM gF gT gC gH aC aT aP aW aL aF aU aR aS aV aO aQ aY n (nI g) := by
  intro n
  induction n with
  | zero => intro g h1 h2; omega
  | succ n ih =>
    intro g h1 h2 ha
    refine pk_le 14 g (fun c => ?_) (fun c => ?_)
    · exact h g h1 ha (fun g' a b => by omega)
    · rw [nI_1]
      refine ⟨vp_in_nI (by omega) (by decide), vp_in_nI (by omega) (by decide), ?_⟩
      rw [nI_clamp (by omega), nI_clamp (by omega), hT g, hT (g + 1)]
      have l1 := hT4 g
      have l2 := hT4 (g + 1)
      refine pk_eq (T (g + 1)) (T g) (fun c2 => ?_) (fun c2 => ?_)
      · refine nm_e (ih (g + 1) (by omega) (by omega) ?_)
        rw [sa_A15] at ha ⊢
        rw [← sa_del_sh c2]
        exact ha
      · exact h g h1 ha (fun g' a b d => c2 (hC.2 rfl g g' a b ha d))
theorem xr_fault {post : Int32 → SX → Prop} {T : Nat → Nat} {L : Nat} {la : Int32} (hL : L ≤ 16) (hT : ∀ j, aT j = nI (T j)) (hT4 : ∀ j, T j < 4)
    (h : ∀ r gS gO gM gF gT aS, (la = 0 → sa_lf (sa_A T L) (sa_N L) r) → (¬ la = 0 → sa_gfa (sa_A T L) (sa_N L) r) → post r (dK, dP, dS, nI L, gS, gO, gM, gF, gT, gC, gH, aC, aT, aP, aW, aL, aF, aU, aR, aS, aV, aO, aQ, aY)) : wpX_fault post (dK, dP, dS, nI L, gS, gO, gM, gF, gT, gC, gH, aC, aT, aP, aW, aL, aF, aU, aR, aS, aV, aO, aQ, aY) la := by
  unfold wpX_fault
  dsimp only
  refine xf_leastFault hL hT hT4 (fun r gS gO gM gF gT aS lf hC hS => ?_)
  dsimp only
  refine br_c (fun c => ?_) (fun c => ?_)
  · exact h _ _ _ _ _ _ _ (fun _ => lf) (fun q => absurd c q)
  · rcases lf with ⟨rfl, hn⟩ | ⟨g, g1, rfl, g3, g4⟩
    · exact br_f (by decide) (h _ _ _ _ _ _ _ (fun q => absurd q c) (fun _ => Or.inl ⟨rfl, hn⟩))
    · have g15 : g < 15 := by
        unfold sa_N at g1
        split at g1
        · omega
        · split at g1 <;> omega
      refine br_t (nI_pos' (by omega)) ?_
      refine pk_eq L 13 (fun c2 => ?_) (fun c2 => ?_)
      · subst c2
        have e := hS rfl
        subst e
        unfold wpX_greatestGap
        dsimp only
        refine xs_missingSymbol hT4 ⟨14, ?_⟩
        exact xr_gg7 hT hT4 hC (fun k k1 k2 k3 => h _ _ _ _ _ _ _ (fun q => absurd q c) (fun _ => Or.inr ⟨k, k1, rfl, k2, k3⟩)) 14 g g1 (by omega) g3
      · have l15 : L = 15 := by
          unfold sa_N at g1
          rw [if_neg c2] at g1
          split at g1
          · assumption
          · omega
        subst l15
        refine ⟨15, ?_⟩
        exact xr_ge2 hT hT4 hC (fun k k1 k2 k3 => h _ _ _ _ _ _ _ (fun q => absurd q c) (fun _ => Or.inr ⟨k, k1, rfl, k2, k3⟩)) 15 g g1 (by omega) g3
end XR
end
section
/-! the component: strands in use, taking, delivery -/
section XD
variable {dK dP dS dL gS gO gM gF gT gC gH : Int32} {aC aT aP aW aL aF aU aR aS aV aO aQ aY : Nat → Int32}
theorem xd_inUse {post : Int32 → Prop} {K p : Nat} {x : Int32} (hK : K ≤ 12) (hp : p ≤ 3)
    (h1 : ∀ s, s < 16 → x = nI s → sa_iu K p s → post 1) (h0 : (∀ s, s < 16 → x = nI s → ¬ sa_iu K p s) → post 0) : wpX_inUse post (nI K, nI p, dS, dL, gS, gO, gM, gF, gT, gC, gH, aC, aT, aP, aW, aL, aF, aU, aR, aS, aV, aO, aQ, aY) x := by
  unfold wpX_inUse
  dsimp only
  rw [zd_a12]
  by_cases c : x < 0
  · have c2 : ¬ (12 : Int32) ≤ x := by
      rw [Int32.le_iff_toInt_le]
      rw [Int32.lt_iff_toInt_lt] at c
      have e0 : (0 : Int32).toInt = 0 := by decide
      have e12 : (12 : Int32).toInt = 12 := by decide
      omega
    refine br_f c2 (br_t c (h0 (fun s s1 s2 => ?_)))
    rw [s2] at c
    exact absurd c (nI_pos (by omega))
  · obtain ⟨j, hj, rfl⟩ := nI_of c
    have U : ∀ s, s < 16 → nI j = nI s → s = j := fun s s1 s2 => ((nI_eq hj (by omega)).mp s2).symm
    refine pk_le 12 j (fun z => ?_) (fun z => br_f c ?_)
    · refine pk_le (12 + p) j (fun z2 => ?_) (fun z2 => ?_)
      · refine h0 (fun s s1 s2 q => ?_)
        have := U s s1 s2
        unfold sa_iu at q
        omega
      · exact h1 j (by omega) rfl (Or.inr ⟨z, z2⟩)
    · refine pk_le K j (fun z2 => ?_) (fun z2 => ?_)
      · refine h0 (fun s s1 s2 q => ?_)
        have := U s s1 s2
        unfold sa_iu at q
        omega
      · exact h1 j (by omega) rfl (Or.inl z2)
theorem xd_fp15 {post : Int32 → SX → Prop} {q K : Nat} {C : Nat → Nat} (hW : xw_TW aW) (hL : xw_TL aL) (hC : ∀ j, aC j = nI (C j)) (hC2 : ∀ j, C j < 4096) (hq : q < 16) (hq2 : 12 ≤ q) (hK : K ≤ 12)
    (h : ∀ aV, post (nI (gf_pv q C K)) (nI K, dP, dS, dL, gS, gO, gM, gF, gT, gC, gH, aC, aT, aP, aW, aL, aF, aU, aR, aS, aV, aO, aQ, aY)) : ∀ (n i : Nat), i ≤ 12 → 12 < n + i → wX_filePayload_15 post (nI q) (nI K) dP dS dL gS gO gM gF gT gC gH n (nI i) aC aT aP aW aL aF aU aR aS (zc_cp aC aV i) aO aQ aY := by
  intro n
  induction n with
  | zero => intro i h1 h2; omega
  | succ n ih =>
    intro i h1 h2
    refine pk_le 12 i (fun c => ?_) (fun c => ?_)
    · refine xw_parity hW hL hq hq2 hK (fun j hj => ⟨?_, hC2 j⟩) (h _)
      rw [zc_lt (by omega), hC j]
    · refine ⟨vp_in_nI (by omega) (by decide), vp_in_nI (by omega) (by decide), ?_⟩
      rw [nI_clamp (by omega)]
      exact nm_r zc_s (nm_r (nI_1 i) (ih (i + 1) (by omega) (by omega)))
def sa_fp (C : Nat → Nat) (K s : Nat) : Nat := if s < 12 then C s else gf_pv s C K
theorem sa_fp_lt {C : Nat → Nat} {K s : Nat} (h : ∀ j, C j < 4096) : sa_fp C K s < 4096 := by
  unfold sa_fp
  split
  · exact h s
  · exact gf_pv_lt _ _ _
theorem xd_filePayload {post : Int32 → SX → Prop} {s K p : Nat} {C : Nat → Nat} (hW : xw_TW aW) (hL : xw_TL aL) (hC : ∀ j, aC j = nI (C j)) (hC2 : ∀ j, C j < 4096) (hK : K ≤ 12) (hp : p ≤ 3) (hs : sa_iu K p s)
    (h : ∀ aV, post (nI (sa_fp C K s)) (nI K, dP, dS, dL, gS, gO, gM, gF, gT, gC, gH, aC, aT, aP, aW, aL, aF, aU, aR, aS, aV, aO, aQ, aY)) : wpX_filePayload post (nI K, dP, dS, dL, gS, gO, gM, gF, gT, gC, gH, aC, aT, aP, aW, aL, aF, aU, aR, aS, aV, aO, aQ, aY) (nI s) := by
  have s16 : s < 16 := by unfold sa_iu at hs; omega
  unfold sa_fp at h
  unfold wpX_filePayload
  dsimp only
  refine pk_le 12 s (fun c => ⟨13, ?_⟩) (fun c => ⟨vp_in_nI c (by decide), ?_⟩)
  · rw [if_neg (by omega)] at h
    have := xd_fp15 (post := post) (dP := dP) (dS := dS) (dL := dL) (gS := gS) (gO := gO) (gM := gM) (gF := gF) (gT := gT) (gC := gC) (gH := gH) (aC := aC) (aT := aT) (aP := aP) (aW := aW) (aL := aL) (aF := aF) (aU := aU) (aR := aR) (aS := aS) (aV := aV) (aO := aO) (aQ := aQ) (aY := aY) hW hL hC hC2 s16 c hK h 13 0 (by decide) (by decide)
    rw [zc_0] at this
    exact this
  · rw [if_pos c] at h
    rw [nI_clamp (by omega), hC s]
    exact h _
theorem xd_ta31 {post : Int32 → SX → Prop} (h : post 1 (dK, dP, dS, nI 14, gS, gO, gM, gF, gT, gC, gH, aC, zc_cp aR aT 14, aP, aW, aL, aF, aU, aR, aS, aV, aO, aQ, aY)) : ∀ (n i : Nat), i ≤ 14 → 14 < n + i → wX_take_31 post dK dP dS dL gS gO gM gF gT gC gH n (nI i) aC (zc_cp aR aT i) aP aW aL aF aU aR aS aV aO aQ aY := by
  intro n
  induction n with
  | zero => intro i h1 h2; omega
  | succ n ih =>
    intro i h1 h2
    refine pk_le 14 i (fun c => ?_) (fun c => ?_)
    · rw [show i = 14 by omega]; exact h
    · refine ⟨vp_in_nI (by omega) (by decide), vp_in_nI (by omega) (by decide), ?_⟩
      rw [nI_clamp (by omega)]
      exact nm_r zc_s (nm_r (nI_1 i) (ih (i + 1) (by omega) (by omega)))
theorem xd_take {post : Int32 → SX → Prop} {K p : Nat} {C T : Nat → Nat} {x : Int32} (hW : xw_TW aW) (hL : xw_TL aL) (hF : ∀ d, d ≤ 6 → xw_lv aF d) (hC : ∀ j, aC j = nI (C j)) (hC2 : ∀ j, C j < 4096)
    (hT : ∀ j, aT j = nI (T j)) (hK : K ≤ 12) (hp : p ≤ 3)
    (h1 : ¬ dS = 0 → ∀ s, s < 16 → x = nI s → sa_iu K p s → ∀ aR aV, post 1 (nI K, nI p, dS, nI 14, gS, gO, gM, gF, gT, gC, gH, aC, fun j => nI (sa_tw (sw_w s (sa_fp C K s) (sw_n s (sa_fp C K s))) T j), aP, aW, aL, aF, aU, aR, aS, aV, aO, aQ, aY))
    (h0 : (dS = 0 ∨ ∀ s, s < 16 → x = nI s → ¬ sa_iu K p s) → post 0 (nI K, nI p, dS, dL, gS, gO, gM, gF, gT, gC, gH, aC, aT, aP, aW, aL, aF, aU, aR, aS, aV, aO, aQ, aY)) : wpX_take post (nI K, nI p, dS, dL, gS, gO, gM, gF, gT, gC, gH, aC, aT, aP, aW, aL, aF, aU, aR, aS, aV, aO, aQ, aY) x := by
  unfold wpX_take
  dsimp only
  refine br_c (fun c => h0 (Or.inl c)) (fun c => ?_)
  refine xd_inUse hK hp (fun s s1 s2 s3 => ?_) (fun hn => br_t rfl (h0 (Or.inr hn)))
  refine br_f (by decide) ?_
  rw [s2]
  refine xd_filePayload hW hL hC hC2 hK hp s3 (fun aV => ?_)
  dsimp only
  refine xw_buildStrand s1 (sa_fp_lt hC2) hF (fun aR hR => ⟨15, ?_⟩)
  have := xd_ta31 (post := post) (dK := nI K) (dP := nI p) (dS := dS) (dL := dL) (gS := gS) (gO := gO) (gM := gM) (gF := gF) (gT := gT) (gC := gC) (gH := gH) (aC := aC) (aT := aT) (aP := aP) (aW := aW) (aL := aL) (aF := aF) (aU := aU) (aR := aR) (aS := aS) (aV := aV) (aO := aO) (aQ := aQ) (aY := aY) (h1 c s s1 s2 s3 aR aV |> fun z => by rw [← sa_tw_c hR hT] at z; exact z) 15 0 (by decide) (by decide)
  rw [zc_0] at this
  exact this
theorem xd_held {post : Int32 → Prop} {K p : Nat} {P : Nat → Nat} {x : Int32} (hK : K ≤ 12) (hp : p ≤ 3)
    (h1 : ∀ s, s < 16 → x = nI s → sa_iu K p s → post (zx_P (P s))) (h0 : (∀ s, s < 16 → x = nI s → ¬ sa_iu K p s) → post (-2)) : wpX_held post (nI K, nI p, dS, dL, gS, gO, gM, gF, gT, gC, gH, aC, aT, fun j => zx_P (P j), aW, aL, aF, aU, aR, aS, aV, aO, aQ, aY) x := by
  unfold wpX_held
  dsimp only
  refine xd_inUse hK hp (fun s s1 s2 s3 => br_f (by decide) ?_) (fun hn => br_t rfl (h0 hn))
  rw [s2, nI_clamp (by omega)]
  exact ⟨vp_in_nI s1 (by decide), h1 s s1 s2 s3⟩
/-! delivery -/
theorem xd_ip9 {post : Int32 → SX → Prop} {W w : Nat → Nat} (hU : ∀ j, j < 14 → aU j = nI (W j)) (hR : ∀ j, j < 14 → aR j = nI (w j)) (hW : ∀ j, W j < 4) (hw : ∀ j, w j < 4)
    (h1 : (∀ j, j < 14 → 8 ≤ j → W j = w j) → post 1 (dK, dP, dS, dL, gS, gO, gM, gF, gT, gC, gH, aC, aT, aP, aW, aL, aF, aU, aR, aS, aV, aO, aQ, aY)) (h0 : ¬ (∀ j, j < 14 → 8 ≤ j → W j = w j) → post 0 (dK, dP, dS, dL, gS, gO, gM, gF, gT, gC, gH, aC, aT, aP, aW, aL, aF, aU, aR, aS, aV, aO, aQ, aY)) :
    ∀ (n i : Nat), 8 ≤ i → i ≤ 14 → 14 < n + i → (∀ j, j < i → 8 ≤ j → W j = w j) → wX_isProper_9 post dK dP dS dL gS gO gM gF gT gC gH aC aT aP aW aL aF aU aR aS aV aO aQ aY n (nI i) := by
  intro n
  induction n with
  | zero => intro i a h1 h2; omega
  | succ n ih =>
    intro i a h1' h2 h3
    refine pk_le 14 i (fun c => ?_) (fun c => ?_)
    · exact h1 (fun j j1 j2 => h3 j (by omega) j2)
    · refine ⟨vp_in_nI (by omega) (by decide), vp_in_nI (by omega) (by decide), ?_⟩
      rw [nI_clamp (by omega), hU i c, hR i c]
      have l1 := hW i
      have l2 := hw i
      refine pk_eq (W i) (w i) (fun c2 => ?_) (fun c2 => ?_)
      · refine nm_r (nI_1 i) (ih (i + 1) (by omega) (by omega) (by omega) (fun j j1 j2 => ?_))
        by_cases c3 : j = i
        · rw [c3, c2]
        · exact h3 j (by omega) j2
      · exact h0 (fun q => c2 (q i c a))
theorem xd_isProper {post : Int32 → SX → Prop} {s v : Nat} {W : Nat → Nat} (hF : ∀ d, d ≤ 6 → xw_lv aF d) (hs : s < 16) (hv : v < 4096) (hU : ∀ j, j < 14 → aU j = nI (W j)) (hW : ∀ j, W j < 4)
    (h1 : sa_pr s v W → ∀ aR, post 1 (dK, dP, dS, dL, gS, gO, gM, gF, gT, gC, gH, aC, aT, aP, aW, aL, aF, aU, aR, aS, aV, aO, aQ, aY)) (h0 : ¬ sa_pr s v W → ∀ aR, post 0 (dK, dP, dS, dL, gS, gO, gM, gF, gT, gC, gH, aC, aT, aP, aW, aL, aF, aU, aR, aS, aV, aO, aQ, aY)) : wpX_isProper post (dK, dP, dS, dL, gS, gO, gM, gF, gT, gC, gH, aC, aT, aP, aW, aL, aF, aU, aR, aS, aV, aO, aQ, aY) (nI s) (nI v) := by
  unfold wpX_isProper
  dsimp only
  refine xw_buildStrand hs hv hF (fun aR hR => ⟨7, ?_⟩)
  exact xd_ip9 hU hR hW (sw_w_lt s v _) (fun q => h1 q _) (fun q => h0 q _) 7 8 (by decide) (by decide) (by decide) (fun j a b => by omega)
theorem xd_place {post : Int32 → SX → Prop} {s v : Nat} {P : Nat → Nat} (hs : s < 16) (hv : v < 4096) (h : post (sa_D3 P s v).1 (dK, dP, dS, dL, gS, gO, gM, gF, gT, gC, gH, aC, aT, fun j => zx_P ((sa_D3 P s v).2 j), aW, aL, aF, aU, aR, aS, aV, aO, aQ, aY)) : wpX_place post (dK, dP, dS, dL, gS, gO, gM, gF, gT, gC, gH, aC, aT, fun j => zx_P (P j), aW, aL, aF, aU, aR, aS, aV, aO, aQ, aY) (nI s) (nI v) := by
  unfold wpX_place
  dsimp only
  rw [nI_clamp (by omega)]
  refine ⟨vp_in_nI hs (by decide), zx_le0 (fun c => ⟨vp_in_nI hs (by decide), ?_⟩) (fun c => ⟨vp_in_nI hs (by decide), ?_⟩)⟩
  · unfold sa_D3 at h
    rw [if_pos c] at h
    rw [zx_lt c]
    refine pk_eq (P s) v (fun c2 => ?_) (fun c2 => ?_)
    · rw [if_pos c2] at h; exact h
    · rw [if_neg c2] at h; exact h
  · unfold sa_D3 at h
    rw [if_neg c] at h
    exact nm_r (sa_upP hv) h
theorem xd_de32 {post : Int32 → SX → Prop} {s K p : Nat} {W P : Nat → Nat} (hs : s < 16) (hF : ∀ d, d ≤ 6 → xw_lv aF d) (hU : ∀ j, j < 14 → aU j = nI (W j)) (hW : ∀ j, W j < 4) (hK : K ≤ 12) (hp : p ≤ 3)
    (h : ∀ aR, post (sa_D2 K p P s (sa_py W 6) W).1 (nI K, nI p, dS, dL, gS, gO, gM, gF, gT, gC, gH, aC, aT, fun j => zx_P ((sa_D2 K p P s (sa_py W 6) W).2 j), aW, aL, aF, aU, aR, aS, aV, aO, aQ, aY)) :
    ∀ (n i : Nat), i ≤ 6 → 6 < n + i → wX_deliver_32 post (nI s) (nI K) (nI p) dS dL gS gO gM gF gT gC gH aC aT (fun j => zx_P (P j)) aW aL aF aU aR aS aV aO aQ aY n (nI (sa_py W i)) (nI (i + 2)) := by
  intro n
  induction n with
  | zero => intro i h1 h2; omega
  | succ n ih =>
    intro i h1 h2
    refine pk_le 8 (i + 2) (fun c => ?_) (fun c => ?_)
    · have e : i = 6 := by omega
      subst e
      have hv : sa_py W 6 < 4096 := sa_py_lt hW 6
      unfold sa_D2 at h
      refine xd_inUse hK hp (fun s' s1 s2 s3 => br_f (by decide) ?_) (fun hn => br_t rfl ?_)
      · have e : s' = s := ((nI_eq (by omega) (by omega)).mp s2).symm
        rw [e] at s3
        rw [sa_if_t s3] at h
        refine xd_isProper hF hs hv hU hW (fun q aR => br_f (by decide) ?_) (fun q aR => br_t rfl ?_)
        · rw [sa_if_t q] at h
          exact xd_place hs hv (h aR)
        · rw [sa_if_f q] at h
          exact h aR
      · rw [sa_if_f (hn s hs rfl)] at h
        exact h aR
    · refine ⟨vp_in_nI (by omega) (by decide), ?_⟩
      rw [nI_clamp (by omega), hU (i + 2) (by omega), zd_m4, nI_add]
      exact nm_e (nm_r (nI_1 (i + 2)) (ih (i + 1) (by omega) (by omega)))
theorem xd_deliver {post : Int32 → SX → Prop} {T P : Nat → Nat} {L K p : Nat} (hL : L ≤ 16) (hF : ∀ d, d ≤ 6 → xw_lv aF d) (hT : ∀ j, aT j = nI (T j)) (hT4 : ∀ j, T j < 4) (hK : K ≤ 12) (hp : p ≤ 3)
    (h : ∀ k W gS gO gM gF gT aU aR aS, sa_RP T L k W → post (sa_D2 K p P (4 * W 0 + W 1) (sa_py W 6) W).1 (nI K, nI p, dS, nI L, gS, gO, gM, gF, gT, gC, gH, aC, aT, fun j => zx_P ((sa_D2 K p P (4 * W 0 + W 1) (sa_py W 6) W).2 j), aW, aL, aF, aU, aR, aS, aV, aO, aQ, aY))
    (h0 : (∀ k W, ¬ sa_RP T L k W) → ∀ gS gO gM gF gT aU aS, post 10 (nI K, nI p, dS, nI L, gS, gO, gM, gF, gT, gC, gH, aC, aT, fun j => zx_P (P j), aW, aL, aF, aU, aR, aS, aV, aO, aQ, aY)) : wpX_deliver post (nI K, nI p, dS, nI L, gS, gO, gM, gF, gT, gC, gH, aC, aT, fun j => zx_P (P j), aW, aL, aF, aU, aR, aS, aV, aO, aQ, aY) := by
  unfold wpX_deliver
  dsimp only
  refine xr_make hL hT hT4 (fun k W gS gO gM gF gT aU aS R hU => ?_) (fun hn gS gO gM gF gT aU aS => ?_)
  · dsimp only
    have hk := (sa_RP_4 hT4 R).2
    have hW := (sa_RP_4 hT4 R).1
    have w0 := hW 0
    have w1 := hW 1
    refine br_f (fun q => ?_) ?_
    · have := (nI_eq (a := k) (b := 10) (by omega) (by decide)).mp q
      omega
    · rw [hU 0 (by decide), hU 1 (by decide), zd_4m, nI_add]
      refine nm_e ⟨7, ?_⟩
      exact xd_de32 (by omega) hF hU hW hK hp (fun aR => h k W gS gO gM gF gT aU aR aS R) 7 0 (by decide) (by decide)
  · exact br_t rfl (h0 hn _ _ _ _ _ _ _)
end XD
end
section
/-! the component: status and reading -/
section XQ
variable {dK dP dS dL gS gO gM gF gT gC gH : Int32} {aC aT aP aW aL aF aU aR aS aV aO aQ aY : Nat → Int32}
theorem xq_ne {a b : Nat} (h : a ≠ b) : 1 ≤ a ^^^ b := by
  apply Nat.pos_of_ne_zero
  intro e
  apply h
  have := congrArg (fun z => z ^^^ b) e
  simp only [Nat.xor_assoc, Nat.xor_self, Nat.xor_zero, Nat.zero_xor] at this
  exact this
theorem xq_gd7 {post : SX → Prop} {P : Nat → Nat} {K : Nat} (hK : K ≤ 12)
    (h : ∀ aV aO, (∀ j, j < K → aV j = nI (gf_v0 P j)) → (∀ r, r < (gf_ls P K).length → aO r = nI (gf_gd (gf_ls P K) r)) → post (nI K, dP, dS, dL, gS, gO, gM, gF, gT, nI (gf_ls P K).length, gH, aC, aT, fun j => zx_P (P j), aW, aL, aF, aU, aR, aS, aV, aO, aQ, aY)) :
    ∀ (n i : Nat) (aV aO : Nat → Int32), i ≤ K → K < n + i → (∀ j, j < i → aV j = nI (gf_v0 P j)) → (∀ r, r < (gf_ls P i).length → aO r = nI (gf_gd (gf_ls P i) r)) →
    wX_gatherData_7 post (nI K) dP dS dL gS gO gM gF gT gH n (nI i) (nI (gf_ls P i).length) aC aT (fun j => zx_P (P j)) aW aL aF aU aR aS aV aO aQ aY := by
  intro n
  induction n with
  | zero => intro i aV aO h1 h2; omega
  | succ n ih =>
    intro i aV aO h1 h2 h3 h4
    refine pk_le K i (fun c => ?_) (fun c => ?_)
    · rw [show i = K by omega] at h3 h4 ⊢
      exact h aV aO h3 h4
    · have hl := gf_ls_len P i
      rw [nI_clamp (by omega), nI_clamp (by omega)]
      refine ⟨vp_in_nI (by omega) (by decide), vp_in_nI (by omega) (by decide), nm_e ⟨vp_in_nI (by omega) (by decide), ?_⟩⟩
      refine zx_le0 (fun c2 => ?_) (fun c2 => ?_)
      · refine nm_r (nI_1 i) ?_
        have := ih (i + 1) (upd aV i (zx_P (P i))) aO (by omega) (by omega) (fun j hj => ?_) (by rw [gf_ls_h c2]; exact h4)
        · rw [gf_ls_h c2] at this
          exact this
        · by_cases c3 : j = i
          · subst c3
            rw [pk_us, zx_lt c2]
            unfold gf_v0
            rw [if_pos c2]
          · rw [pk_un c3]
            exact h3 j (by omega)
      · refine ⟨vp_in_nI (by omega) (by decide), nm_e ⟨vp_in_nI (by omega) (by decide), nm_e (nm_r (nI_1 _) (nm_r (nI_1 i) ?_))⟩⟩
        have := ih (i + 1) (upd (upd aV i (zx_P (P i))) i 0) (upd aO (gf_ls P i).length (nI i)) (by omega) (by omega) (fun j hj => ?_) (fun r hr => ?_)
        · rw [gf_ls_n c2, gf_len_app] at this
          exact this
        · by_cases c3 : j = i
          · subst c3
            rw [pk_us]
            unfold gf_v0
            rw [if_neg c2]
            rfl
          · rw [pk_un c3, pk_un c3]
            exact h3 j (by omega)
        · rw [gf_ls_n c2] at hr ⊢
          rw [gf_len_app] at hr
          by_cases c3 : r = (gf_ls P i).length
          · subst c3
            rw [pk_us, gf_gd_e rfl]
          · rw [pk_un c3, gf_gd_l (by omega)]
            exact h4 r (by omega)
theorem xq_gatherData {post : SX → Prop} {P : Nat → Nat} {K : Nat} (hK : K ≤ 12)
    (h : ∀ aV aO, (∀ j, j < K → aV j = nI (gf_v0 P j)) → (∀ r, r < (gf_ls P K).length → aO r = nI (gf_gd (gf_ls P K) r)) → post (nI K, dP, dS, dL, gS, gO, gM, gF, gT, nI (gf_ls P K).length, gH, aC, aT, fun j => zx_P (P j), aW, aL, aF, aU, aR, aS, aV, aO, aQ, aY)) :
    wpX_gatherData post (nI K, dP, dS, dL, gS, gO, gM, gF, gT, gC, gH, aC, aT, fun j => zx_P (P j), aW, aL, aF, aU, aR, aS, aV, aO, aQ, aY) :=
  ⟨K + 1, xq_gd7 hK h (K + 1) 0 aV aO (by omega) (by omega) (fun j hj => by omega) (fun r hr => absurd hr (Nat.not_lt_zero r))⟩
theorem xq_gp7 {post : SX → Prop} {P : Nat → Nat} {p : Nat} (hp : p ≤ 3)
    (h : ∀ aQ, (∀ r, r < (gf_ps P p).length → aQ r = nI (gf_gd (gf_ps P p) r)) → post (dK, nI p, dS, dL, gS, gO, gM, gF, gT, gC, nI (gf_ps P p).length, aC, aT, fun j => zx_P (P j), aW, aL, aF, aU, aR, aS, aV, aO, aQ, aY)) :
    ∀ (n i : Nat) (aQ : Nat → Int32), i ≤ p → p < n + i → (∀ r, r < (gf_ps P i).length → aQ r = nI (gf_gd (gf_ps P i) r)) →
    wX_gatherParities_7 post dK (nI p) dS dL gS gO gM gF gT gC n (nI i) (nI (gf_ps P i).length) aC aT (fun j => zx_P (P j)) aW aL aF aU aR aS aV aO aQ aY := by
  intro n
  induction n with
  | zero => intro i aQ h1 h2; omega
  | succ n ih =>
    intro i aQ h1 h2 h4
    refine pk_le p i (fun c => ?_) (fun c => ?_)
    · rw [show i = p by omega] at h4 ⊢
      exact h aQ h4
    · have hl := gf_ps_len P i
      rw [zd_a12, nI_clamp (by omega), nI_clamp (by omega)]
      refine ⟨vp_in_nI (by omega) (by decide), ?_⟩
      refine zx_lt0 (fun c2 => ?_) (fun c2 => ?_)
      · refine ⟨vp_in_nI (by omega) (by decide), nm_e (nm_r (nI_1 _) (nm_r (nI_1 i) ?_))⟩
        have := ih (i + 1) (upd aQ (gf_ps P i).length (nI (12 + i))) (by omega) (by omega) (fun r hr => ?_)
        · rw [gf_ps_h c2, gf_len_app] at this
          exact this
        · rw [gf_ps_h c2] at hr ⊢
          rw [gf_len_app] at hr
          by_cases c3 : r = (gf_ps P i).length
          · subst c3
            rw [pk_us, gf_gd_e rfl]
          · rw [pk_un c3, gf_gd_l (by omega)]
            exact h4 r (by omega)
      · refine nm_r (nI_1 i) ?_
        have := ih (i + 1) aQ (by omega) (by omega) (by rw [gf_ps_n c2]; exact h4)
        rw [gf_ps_n c2] at this
        exact this
theorem xq_gatherParities {post : SX → Prop} {P : Nat → Nat} {p : Nat} (hp : p ≤ 3)
    (h : ∀ aQ, (∀ r, r < (gf_ps P p).length → aQ r = nI (gf_gd (gf_ps P p) r)) → post (dK, nI p, dS, dL, gS, gO, gM, gF, gT, gC, nI (gf_ps P p).length, aC, aT, fun j => zx_P (P j), aW, aL, aF, aU, aR, aS, aV, aO, aQ, aY)) :
    wpX_gatherParities post (dK, nI p, dS, dL, gS, gO, gM, gF, gT, gC, gH, aC, aT, fun j => zx_P (P j), aW, aL, aF, aU, aR, aS, aV, aO, aQ, aY) :=
  ⟨p + 1, xq_gp7 hp h (p + 1) 0 aQ (by omega) (by omega) (fun r hr => absurd hr (Nat.not_lt_zero r))⟩
/-! entries of the inverse -/
def xq_V (n : Nat) (l p : Nat → Nat) : Prop := n ≤ 3 ∧ (∀ r, r < n → l r < 12) ∧ (∀ r, r < n → 12 ≤ p r ∧ p r < 15) ∧ (∀ r r', r < n → r' < n → r ≠ r' → l r ≠ l r') ∧ (∀ r r', r < n → r' < n → r ≠ r' → p r ≠ p r')
theorem xq_ie_lt {l p : Nat → Nat} {i j n : Nat} (hV : xq_V n l p) (hi : i < n) (hj : j < n) : ∀ k, gf_ie l p i j k < 16
  | 0 => gf_x16 (by have := (hV.2.2.1 j hj).2; omega) (by have := hV.2.1 i hi; omega)
  | k + 1 => by
    have ih := xq_ie_lt hV hi hj k
    show gf_ie2 l p i j k (gf_ie1 l p i j k (gf_ie l p i j k)) < 16
    have h1 : gf_ie1 l p i j k (gf_ie l p i j k) < 16 := by
      unfold gf_ie1
      split
      · exact ih
      · exact gf_q_lt _ _
    unfold gf_ie2
    split
    · exact h1
    · exact gf_q_lt _ _
theorem xq_ie74 {post : Int32 → Prop} {J : Int32 → Int32 → Prop} {l p : Nat → Nat} {i j k e n : Nat} (hW : xw_TW aW) (hL : xw_TL aL) (hV : xq_V n l p) (hO : ∀ r, r < n → aO r = nI (l r)) (hi : i < n) (hj : j < n) (hk : k < n) (he : e < 16)
    (h : J (nI (gf_ie2 l p i j k e)) (nI (k + 1))) : wX_inverseEntry_74 post J (nI i) (nI j) (nI (l i)) (nI (p j)) (nI e) (nI k) dK dP dS dL gS gO gM gF gT gC gH aC aT aP aW aL aF aU aR aS aV aO aQ aY := by
  obtain ⟨v0, v1, v2, v3, v4⟩ := hV
  have a1 := v1 i hi
  have a2 := v1 k hk
  have a3 := v2 j hj
  unfold wX_inverseEntry_74
  unfold gf_ie2 at h
  refine pk_eq k i (fun c => nm_r (nI_1 k) ?_) (fun c => ?_)
  · rw [if_pos c] at h; exact h
  · rw [if_neg c] at h
    refine ⟨vp_in_nI (by omega) (by decide), ?_⟩
    rw [nI_clamp (by omega), hO k hk, nx_xor, nx_xor]
    refine xw_multiply hW hL he (gf_x16 (by omega) (by omega)) ⟨vp_in_nI (by omega) (by decide), ?_⟩
    refine xw_quotient hW hL (gf_m_lt _ _) (gf_x16 (by omega) (by omega)) (xq_ne (v3 i k hi hk (by omega))) (nm_r (nI_1 k) ?_)
    exact h
theorem xq_ie24 {post : Int32 → Prop} {l p : Nat → Nat} {i j n : Nat} (hW : xw_TW aW) (hL : xw_TL aL) (hV : xq_V n l p) (hO : ∀ r, r < n → aO r = nI (l r)) (hQ : ∀ r, r < n → aQ r = nI (p r)) (hi : i < n) (hj : j < n)
    (h : post (nI (gf_ie l p i j n))) : ∀ (m k : Nat), k ≤ n → n < m + k → wX_inverseEntry_24 post (nI i) (nI j) (nI (l i)) (nI (p j)) dK dP dS dL gS gO gM gF gT (nI n) gH aC aT aP aW aL aF aU aR aS aV aO aQ aY m (nI (gf_ie l p i j k)) (nI k) := by
  have v0 := hV.1
  have a1 := hV.2.1 i hi
  have a3 := hV.2.2.1 j hj
  intro m
  induction m with
  | zero => intro k h1 h2; omega
  | succ m ih =>
    intro k h1 h2
    refine pk_le n k (fun c => ?_) (fun c => ?_)
    · rw [show k = n by omega]; exact h
    · have hlt := xq_ie_lt hV hi hj k
      have a2 := hV.2.2.1 k c
      have ih' := ih (k + 1) (by omega) (by omega)
      have e : gf_ie l p i j (k + 1) = gf_ie2 l p i j k (gf_ie1 l p i j k (gf_ie l p i j k)) := rfl
      rw [e] at ih'
      unfold gf_ie1 at ih'
      refine pk_eq k j (fun c2 => ?_) (fun c2 => ?_)
      · rw [if_pos c2] at ih'
        exact xq_ie74 hW hL hV hO hi hj c hlt ih'
      · rw [if_neg c2] at ih'
        refine ⟨vp_in_nI (by omega) (by decide), ?_⟩
        rw [nI_clamp (by omega), hQ k c, nx_xor, nx_xor]
        refine xw_multiply hW hL hlt (gf_x16 (by omega) (by omega)) ⟨vp_in_nI (by omega) (by decide), ?_⟩
        refine xw_quotient hW hL (gf_m_lt _ _) (gf_x16 (by omega) (by omega)) (xq_ne (hV.2.2.2.2 j k hj c (by omega))) ?_
        exact xq_ie74 hW hL hV hO hi hj c (gf_q_lt _ _) ih'
theorem xq_inverseEntry {post : Int32 → Prop} {l p : Nat → Nat} {i j n : Nat} (hW : xw_TW aW) (hL : xw_TL aL) (hV : xq_V n l p) (hO : ∀ r, r < n → aO r = nI (l r)) (hQ : ∀ r, r < n → aQ r = nI (p r)) (hi : i < n) (hj : j < n)
    (h : post (nI (gf_ie l p i j n))) : wpX_inverseEntry post (dK, dP, dS, dL, gS, gO, gM, gF, gT, nI n, gH, aC, aT, aP, aW, aL, aF, aU, aR, aS, aV, aO, aQ, aY) (nI i) (nI j) := by
  have v0 := hV.1
  unfold wpX_inverseEntry
  dsimp only
  refine ⟨vp_in_nI (by omega) (by decide), ?_⟩
  rw [nI_clamp (by omega), nI_clamp (by omega), hO i hi, hQ j hj]
  refine nm_e ⟨vp_in_nI (by omega) (by decide), nm_e (nm_r (nx_xor _ _) ⟨n + 1, ?_⟩)⟩
  exact xq_ie24 hW hL hV hO hQ hi hj h (n + 1) 0 (by omega) (by omega)
theorem xq_V_ok {P : Nat → Nat} {K p : Nat} (hK : K ≤ 12) (hp : p ≤ 3) (h : (gf_ls P K).length ≤ (gf_ps P p).length) : xq_V (gf_ls P K).length (gf_gd (gf_ls P K)) (gf_gd (gf_ps P p)) := by
  have hl := gf_ps_len P p
  refine ⟨by omega, fun r hr => Nat.lt_of_lt_of_le (gf_ls_ix K hr).1 hK, fun r hr => ?_, fun r r' hr hr' hne => ?_, fun r r' hr hr' hne => ?_⟩
  · have := gf_ps_ix (P := P) p (show r < (gf_ps P p).length by omega)
    omega
  · intro e
    rcases Nat.lt_or_gt_of_ne hne with z | z
    · have := gf_ls_lt (P := P) (n := K) z hr'; omega
    · have := gf_ls_lt (P := P) (n := K) z hr; omega
  · have hm := gf_ps_mem P hp
    have r3 : r < 3 := by omega
    have r3' : r' < 3 := by omega
    have q1 : r < (gf_ps P p).length := by omega
    have q2 : r' < (gf_ps P p).length := by omega
    generalize gf_ps P p = ps at *
    rcases (by omega : r = 0 ∨ r = 1 ∨ r = 2) with rfl | rfl | rfl <;> rcases (by omega : r' = 0 ∨ r' = 1 ∨ r' = 2) with rfl | rfl | rfl <;> first | exact absurd rfl hne | (rcases hm with rfl | rfl | rfl | rfl | rfl | rfl | rfl | rfl <;> first | decide | (exfalso; revert q1 q2; decide))
/-! finding the lost cells -/
/-- the vector when the first i lost cells have been found -/
def xq_vi (P : Nat → Nat) (K : Nat) (ps : List Nat) (i j : Nat) : Nat := if P j < 4096 then P j else if (gf_ls P j).length < i then gf_val P K ps (gf_ls P j).length else 0
theorem xq_fl55 {post : SX → Prop} {J : Int32 → (Nat → Int32) → (Nat → Int32) → (Nat → Int32) → (Nat → Int32) → (Nat → Int32) → (Nat → Int32) → (Nat → Int32) → (Nat → Int32) → (Nat → Int32) → (Nat → Int32) → (Nat → Int32) → (Nat → Int32) → (Nat → Int32) → Prop} {P : Nat → Nat} {K p i : Nat} (hW : xw_TW aW) (hL : xw_TL aL) (hK : K ≤ 12) (hp : p ≤ 3) (hlen : (gf_ls P K).length ≤ (gf_ps P p).length)
    (hO : ∀ r, r < (gf_ls P K).length → aO r = nI (gf_gd (gf_ls P K) r)) (hQ : ∀ r, r < (gf_ps P p).length → aQ r = nI (gf_gd (gf_ps P p) r)) (hY : ∀ r, r < (gf_ls P K).length → aY r = nI (gf_syn P K (gf_ps P p) r))
    (hi : i < (gf_ls P K).length) (hV : ∀ j, j < K → aV j = nI (xq_vi P K (gf_ps P p) i j))
    (h : ∀ aV, (∀ j, j < K → aV j = nI (xq_vi P K (gf_ps P p) (i + 1) j)) → J (nI (i + 1)) aC aT aP aW aL aF aU aR aS aV aO aQ aY) :
    ∀ (m k : Nat), k ≤ (gf_ls P K).length → (gf_ls P K).length < m + k →
    wX_findLost_55 post J (nI i) dK dP dS dL gS gO gM gF gT (nI (gf_ls P K).length) gH aC aT aP aW aL aF aU aR aS aV aO aQ aY m (nI (gf_XR (fun j => gf_sc (gf_ie (gf_gd (gf_ls P K)) (gf_gd (gf_ps P p)) i j (gf_ls P K).length) (gf_syn P K (gf_ps P p) j)) k)) (nI k) := by
  have V := xq_V_ok hK hp hlen
  have v0 := V.1
  have ix := gf_ls_ix K hi
  intro m
  induction m with
  | zero => intro k h1 h2; omega
  | succ m ih =>
    intro k h1 h2
    refine pk_le (gf_ls P K).length k (fun c => ?_) (fun c => ?_)
    · rw [show k = (gf_ls P K).length by omega]
      refine ⟨vp_in_nI (by omega) (by decide), ?_⟩
      rw [nI_clamp (by omega), hO i hi]
      refine ⟨vp_in_nI (by omega) (by decide), ?_⟩
      rw [nI_clamp (by omega)]
      refine nm_e (nm_r (nI_1 i) (h _ (fun j hj => ?_)))
      by_cases c3 : j = gf_gd (gf_ls P K) i
      · subst c3
        rw [pk_us]
        unfold xq_vi
        rw [if_neg ix.2.1, ix.2.2, if_pos (by omega)]
        rfl
      · rw [pk_un c3, hV j hj]
        unfold xq_vi
        by_cases c4 : P j < 4096
        · rw [if_pos c4, if_pos c4]
        · have at' := gf_ls_at c4 K hj
          rw [if_neg c4, if_neg c4]
          have ne : (gf_ls P j).length ≠ i := fun q => c3 (by rw [← q]; exact at'.2.symm)
          by_cases c5 : (gf_ls P j).length < i
          · rw [if_pos c5, if_pos (by omega)]
          · rw [if_neg c5, if_neg (by omega)]
    · refine xq_inverseEntry hW hL V hO (fun r hr => hQ r (by omega)) hi c ⟨vp_in_nI (by omega) (by decide), ?_⟩
      rw [nI_clamp (by omega), hY k c]
      have px := gf_ps_ix (P := P) p (show k < (gf_ps P p).length by omega)
      have hs : gf_syn P K (gf_ps P p) k < 4096 := gf_x12 px.2.2 (gf_pv_lt _ _ _)
      refine xw_scale hW hL (xq_ie_lt V hi c _) hs (nm_r (nx_xor _ _) (nm_r (nI_1 k) ?_))
      exact ih (k + 1) (by omega) (by omega)
theorem xq_fl43 {post : SX → Prop} {P : Nat → Nat} {K p : Nat} (hW : xw_TW aW) (hL : xw_TL aL) (hK : K ≤ 12) (hp : p ≤ 3) (hlen : (gf_ls P K).length ≤ (gf_ps P p).length)
    (hO : ∀ r, r < (gf_ls P K).length → aO r = nI (gf_gd (gf_ls P K) r)) (hQ : ∀ r, r < (gf_ps P p).length → aQ r = nI (gf_gd (gf_ps P p) r)) (hY : ∀ r, r < (gf_ls P K).length → aY r = nI (gf_syn P K (gf_ps P p) r))
    (h : ∀ aV, (∀ j, j < K → aV j = nI (gf_vF P K (gf_ps P p) j)) → post (dK, dP, dS, dL, gS, gO, gM, gF, gT, nI (gf_ls P K).length, gH, aC, aT, aP, aW, aL, aF, aU, aR, aS, aV, aO, aQ, aY)) :
    ∀ (m i : Nat) (aV : Nat → Int32), i ≤ (gf_ls P K).length → (gf_ls P K).length < m + i → (∀ j, j < K → aV j = nI (xq_vi P K (gf_ps P p) i j)) →
    wX_findLost_43 post dK dP dS dL gS gO gM gF gT (nI (gf_ls P K).length) gH m (nI i) aC aT aP aW aL aF aU aR aS aV aO aQ aY := by
  have hl := gf_ls_len P K
  intro m
  induction m with
  | zero => intro i aV h1 h2; omega
  | succ m ih =>
    intro i aV h1 h2 h3
    refine pk_le (gf_ls P K).length i (fun c => ?_) (fun c => ?_)
    · refine h aV (fun j hj => ?_)
      rw [h3 j hj]
      unfold xq_vi gf_vF
      by_cases c4 : P j < 4096
      · rw [if_pos c4, if_pos c4]
      · have at' := gf_ls_at c4 K hj
        rw [if_neg c4, if_neg c4, if_pos (by omega)]
    · refine ⟨(gf_ls P K).length + 1, ?_⟩
      exact xq_fl55 hW hL hK hp hlen hO hQ hY c h3 (fun aV hV => ih (i + 1) aV (by omega) (by omega) hV) ((gf_ls P K).length + 1) 0 (by omega) (by omega)
theorem xq_fl2 {post : SX → Prop} {P : Nat → Nat} {K p : Nat} (hW : xw_TW aW) (hL : xw_TL aL) (hK : K ≤ 12) (hp : p ≤ 3) (hlen : (gf_ls P K).length ≤ (gf_ps P p).length)
    (hO : ∀ r, r < (gf_ls P K).length → aO r = nI (gf_gd (gf_ls P K) r)) (hQ : ∀ r, r < (gf_ps P p).length → aQ r = nI (gf_gd (gf_ps P p) r)) (hV : ∀ j, j < K → aV j = nI (gf_v0 P j))
    (h : ∀ aV aY, (∀ j, j < K → aV j = nI (gf_vF P K (gf_ps P p) j)) → post (nI K, dP, dS, dL, gS, gO, gM, gF, gT, nI (gf_ls P K).length, gH, aC, aT, fun j => zx_P (P j), aW, aL, aF, aU, aR, aS, aV, aO, aQ, aY)) :
    ∀ (m i : Nat) (aY : Nat → Int32), i ≤ (gf_ls P K).length → (gf_ls P K).length < m + i → (∀ r, r < i → aY r = nI (gf_syn P K (gf_ps P p) r)) →
    wX_findLost_2 post (nI K) dP dS dL gS gO gM gF gT (nI (gf_ls P K).length) gH m (nI i) aC aT (fun j => zx_P (P j)) aW aL aF aU aR aS aV aO aQ aY := by
  have V := xq_V_ok hK hp hlen
  have v0 := V.1
  intro m
  induction m with
  | zero => intro i aY h1 h2; omega
  | succ m ih =>
    intro i aY h1 h2 h3
    refine pk_le (gf_ls P K).length i (fun c => ?_) (fun c => ?_)
    · refine ⟨(gf_ls P K).length + 1, xq_fl43 hW hL hK hp hlen hO hQ (fun r hr => h3 r (by omega)) (fun aV hV => h aV aY hV) ((gf_ls P K).length + 1) 0 aV (by omega) (by omega) (fun j hj => ?_)⟩
      rw [hV j hj]
      unfold xq_vi gf_v0
      by_cases c4 : P j < 4096
      · rw [if_pos c4, if_pos c4]
      · rw [if_neg c4, if_neg c4, if_neg (by omega)]
    · have px := gf_ps_ix (P := P) p (show i < (gf_ps P p).length by omega)
      refine ⟨vp_in_nI (by omega) (by decide), ?_⟩
      rw [nI_clamp (by omega), hQ i (by omega)]
      refine nm_e ⟨vp_in_nI (by omega) (by decide), ?_⟩
      rw [nI_clamp (by omega)]
      refine xw_parity hW hL (by omega) px.1 hK (fun j hj => ⟨hV j hj, gf_v0_lt P j⟩) ⟨vp_in_nI (by omega) (by decide), ?_⟩
      dsimp only
      rw [zx_lt px.2.2, nx_xor]
      refine nm_e (nm_r (nI_1 i) (ih (i + 1) _ (by omega) (by omega) (fun r hr => ?_)))
      by_cases c3 : r = i
      · subst c3
        rw [pk_us]
        rfl
      · rw [pk_un c3]
        exact h3 r (by omega)
theorem xq_pa2 {post : Int32 → Prop} {P : Nat → Nat} {K p : Nat} (hW : xw_TW aW) (hL : xw_TL aL) (hK : K ≤ 12) (hp : p ≤ 3)
    (hQ : ∀ r, r < (gf_ps P p).length → aQ r = nI (gf_gd (gf_ps P p) r)) (hV : ∀ j, j < K → aV j = nI (gf_vF P K (gf_ps P p) j)) (h1 : gf_AP P K p → post 1) (h0 : ¬ gf_AP P K p → post 0) :
    ∀ (m i : Nat), i ≤ (gf_ps P p).length → (gf_ps P p).length < m + i → (∀ j, j < i → gf_pv (gf_gd (gf_ps P p) j) (gf_vF P K (gf_ps P p)) K = P (gf_gd (gf_ps P p) j)) →
    wX_paritiesAgree_2 post (nI K) dP dS dL gS gO gM gF gT gC (nI (gf_ps P p).length) aC aT (fun j => zx_P (P j)) aW aL aF aU aR aS aV aO aQ aY m (nI i) := by
  have hl := gf_ps_len P p
  intro m
  induction m with
  | zero => intro i h1 h2; omega
  | succ m ih =>
    intro i a1 a2 a3
    refine pk_le (gf_ps P p).length i (fun c => ?_) (fun c => ?_)
    · exact h1 (fun j hj => a3 j (by omega))
    · have px := gf_ps_ix (P := P) p c
      refine ⟨vp_in_nI (by omega) (by decide), ?_⟩
      rw [nI_clamp (by omega), hQ i c]
      refine nm_e (xw_parity hW hL (by omega) px.1 hK (fun j hj => ⟨hV j hj, gf_vF_lt _ _ _ _⟩) ⟨vp_in_nI (by omega) (by decide), ?_⟩)
      rw [nI_clamp (by omega)]
      dsimp only
      rw [zx_lt px.2.2]
      have b1 := gf_pv_lt (gf_gd (gf_ps P p) i) (gf_vF P K (gf_ps P p)) K
      have b2 := px.2.2
      refine pk_eq (gf_pv (gf_gd (gf_ps P p) i) (gf_vF P K (gf_ps P p)) K) (P (gf_gd (gf_ps P p) i)) (fun c2 => ?_) (fun c2 => ?_)
      · refine nm_r (nI_1 i) (ih (i + 1) (by omega) (by omega) (fun j hj => ?_))
        by_cases c3 : j = i
        · rw [c3]; exact c2
        · exact a3 j (by omega)
      · exact h0 (fun q => c2 (q i c))
theorem xq_status {post : Int32 → SX → Prop} {P : Nat → Nat} {K p : Nat} (hW : xw_TW aW) (hL : xw_TL aL) (hK : K ≤ 12) (hp : p ≤ 3)
    (h30 : ¬ (gf_ls P K).length ≤ (gf_ps P p).length → ∀ gC gH aV aO aQ aY, post 30 (nI K, nI p, dS, dL, gS, gO, gM, gF, gT, gC, gH, aC, aT, fun j => zx_P (P j), aW, aL, aF, aU, aR, aS, aV, aO, aQ, aY))
    (h31 : (gf_ls P K).length ≤ (gf_ps P p).length → gf_AP P K p → ∀ gC gH aV aO aQ aY, (∀ j, j < K → aV j = nI (gf_vF P K (gf_ps P p) j)) → post 31 (nI K, nI p, dS, dL, gS, gO, gM, gF, gT, gC, gH, aC, aT, fun j => zx_P (P j), aW, aL, aF, aU, aR, aS, aV, aO, aQ, aY))
    (h32 : (gf_ls P K).length ≤ (gf_ps P p).length → ¬ gf_AP P K p → ∀ gC gH aV aO aQ aY, post 32 (nI K, nI p, dS, dL, gS, gO, gM, gF, gT, gC, gH, aC, aT, fun j => zx_P (P j), aW, aL, aF, aU, aR, aS, aV, aO, aQ, aY)) : wpX_status post (nI K, nI p, dS, dL, gS, gO, gM, gF, gT, gC, gH, aC, aT, fun j => zx_P (P j), aW, aL, aF, aU, aR, aS, aV, aO, aQ, aY) := by
  have l1 := gf_ls_len P K
  have l2 := gf_ps_len P p
  unfold wpX_status
  dsimp only
  refine xq_gatherData hK (fun aV aO hV hO => ?_)
  dsimp only
  refine xq_gatherParities hp (fun aQ hQ => ?_)
  dsimp only
  refine pk_le (gf_ls P K).length (gf_ps P p).length (fun c => ?_) (fun c => ?_)
  · refine ⟨(gf_ls P K).length + 1, xq_fl2 hW hL hK hp c hO hQ hV (fun aV aY hV => ?_) ((gf_ls P K).length + 1) 0 aY (by omega) (by omega) (fun r hr => absurd hr (Nat.not_lt_zero r))⟩
    dsimp only
    refine ⟨(gf_ps P p).length + 1, xq_pa2 hW hL hK hp hQ hV (fun q => br_f (by decide) ?_) (fun q => br_t rfl ?_) ((gf_ps P p).length + 1) 0 (by omega) (by omega) (fun j hj => absurd hj (Nat.not_lt_zero j))⟩
    · exact h31 c q _ _ _ _ _ _ hV
    · exact h32 c q _ _ _ _ _ _
  · exact h30 (by omega) _ _ _ _ _ _
end XQ
end
section
/-! the reference: field, tables, words, taking -/
section YM
def gf_y1 (a b x : Int32) (i : Nat) : Int32 := if ((b >>> (nI i &&& 31)) - (b >>> (nI i &&& 31)) / 2 * 2) = 1 then x ^^^ (a <<< (nI i &&& 31)) else x
def gf_y2 (x : Int32) (i : Nat) : Int32 := if ((x >>> (nI i &&& 31)) - (x >>> (nI i &&& 31)) / 2 * 2) = 1 then x ^^^ ((19 : Int32) <<< ((nI i - 4) &&& 31)) else x
def gf_ym (a b : Int32) : Int32 := gf_y2 (gf_y2 (gf_y2 (gf_y1 a b (gf_y1 a b (gf_y1 a b (gf_y1 a b 0 0) 1) 2) 3) 6) 5) 4
theorem gf_ym_e : ∀ a, a < 16 → ∀ b, b < 16 → gf_ym (nI a) (nI b) = nI (gf_m a b) := by decide +kernel
theorem yw_u1 : ∀ a, a < 16 → ∀ b, b < 16 → ∀ c, c < 16 → gf_m a b = 1 → gf_m a c = 1 → b = c := by decide +kernel
theorem yw_u2 : ∀ a, a < 16 → 1 ≤ a → gf_m a (gf_i a) = 1 := by decide +kernel
end YM
section YW
variable {eK eP eS eL : Int32} {bC bT bP bI bN bU bR : Nat → Int32}
theorem yw_mul5 {post : Int32 → Prop} {a b x : Int32} {i n : Nat} (hi : i < 4) (h : wY_mul_5 post a b eK eP eS eL bC bT bP bI bN bU bR n (gf_y1 a b x i) (nI (i + 1))) : wY_mul_5 post a b eK eP eS eL bC bT bP bI bN bU bR (n + 1) x (nI i) := by
  refine br_f (nI_ge (b := 4) hi (by decide)) ⟨by decide, ?_⟩
  unfold gf_y1 at h
  refine br_c (fun c => ?_) (fun c => ?_)
  · rw [if_pos c] at h
    exact nm_e (nm_r (nI_1 i) h)
  · rw [if_neg c] at h
    exact nm_r (nI_1 i) h
theorem yw_mul38 {post : Int32 → Prop} {x : Int32} {i n : Nat} (hi : 4 ≤ i) (hi2 : i < 10) (h : wY_mul_38 post eK eP eS eL bC bT bP bI bN bU bR n (gf_y2 x i) (nI (i - 1))) : wY_mul_38 post eK eP eS eL bC bT bP bI bN bU bR (n + 1) x (nI i) := by
  refine br_f (nI_nlt (b := 4) hi (by omega)) ⟨by decide, ?_⟩
  unfold gf_y2 at h
  refine br_c (fun c => ?_) (fun c => ?_)
  · rw [if_pos c] at h
    exact nm_e (nm_r (sb_m1 (by omega)) h)
  · rw [if_neg c] at h
    exact nm_r (sb_m1 (by omega)) h
theorem yw_mul {post : Int32 → Prop} {a b : Nat} (ha : a < 16) (hb : b < 16) (h : post (nI (gf_m a b))) : wpY_mul post (eK, eP, eS, eL, bC, bT, bP, bI, bN, bU, bR) (nI a) (nI b) := by
  rw [← gf_ym_e a ha b hb] at h
  refine ⟨5, yw_mul5 (i := 0) (by decide) (yw_mul5 (i := 1) (by decide) (yw_mul5 (i := 2) (by decide) (yw_mul5 (i := 3) (by decide) ?_)))⟩
  refine br_t (by decide) ⟨4, yw_mul38 (i := 6) (by decide) (by decide) (yw_mul38 (i := 5) (by decide) (by decide) (yw_mul38 (i := 4) (by decide) (by decide) ?_))⟩
  exact br_t (by decide) h
theorem yw_forget2 {post : SY → Prop} (h : post (eK, eP, eS, eL, bC, bT, zc_cp (fun _ => -1) bP 16, bI, bN, bU, bR)) : ∀ (n i : Nat), i ≤ 16 → 16 < n + i → wY_forget_2 post eK eP eS eL n (nI i) bC bT (zc_cp (fun _ => -1) bP i) bI bN bU bR := by
  intro n
  induction n with
  | zero => intro i h1 h2; omega
  | succ n ih =>
    intro i h1 h2
    refine pk_le 16 i (fun c => ?_) (fun c => ?_)
    · rw [show i = 16 by omega]; exact h
    · refine ⟨vp_in_nI c (by decide), ?_⟩
      rw [nI_clamp (by omega)]
      exact nm_r (zc_s (f := fun _ => -1)) (nm_r (nI_1 i) (ih (i + 1) (by omega) (by omega)))
theorem yw_forget {post : SY → Prop} (h : post (eK, eP, eS, eL, bC, bT, zc_cp (fun _ => -1) bP 16, bI, bN, bU, bR)) : wpY_forget post (eK, eP, eS, eL, bC, bT, bP, bI, bN, bU, bR) := by
  refine ⟨17, ?_⟩
  have := yw_forget2 h 17 0 (by omega) (by omega)
  rw [zc_0] at this
  exact this
def yw_TI (bI : Nat → Int32) : Prop := ∀ a, 1 ≤ a → a < 16 → bI a = nI (gf_i a)
theorem yw_in109 {post : SY → Prop} (h : ∀ bI, yw_TI bI → post (eK, eP, eS, eL, bC, bT, zc_cp (fun _ => -1) bP 16, bI, bN, bU, bR)) : ∀ (n i : Nat) (bI : Nat → Int32), i ≤ 256 → 256 < n + i →
    (∀ a b, 16 * a + b < i → a < 16 → b < 16 → gf_m a b = 1 → bI a = nI b) → wY_init_109 post eK eP eS eL n (nI i) bC bT bP bI bN bU bR := by
  intro n
  induction n with
  | zero => intro i bI h1 h2; omega
  | succ n ih =>
    intro i bI h1 h2 h3
    refine pk_le 256 i (fun c => ?_) (fun c => ?_)
    · refine yw_forget (h bI (fun a a1 a2 => ?_))
      have q : gf_i a < 16 := gf_q_lt 1 a
      exact h3 a (gf_i a) (by omega) a2 q (yw_u2 a a2 a1)
    · rw [zd_r16 (a := i) (by omega), zd_d16 (a := i) (by omega)]
      refine ⟨by decide, by decide, yw_mul (by omega) (by omega) ?_⟩
      have b := gf_m_lt (i / 16) (i % 16)
      refine pk_eq (gf_m (i / 16) (i % 16)) 1 (fun c2 => ⟨by decide, by decide, vp_in_nI (by omega) (by decide), ?_⟩) (fun c2 => ?_)
      · rw [nI_clamp (by omega)]
        refine nm_e (nm_r (nI_1 i) (ih (i + 1) _ (by omega) (by omega) (fun a b' hab ha hb hm => ?_)))
        by_cases c3 : a = i / 16
        · rw [c3, pk_us]
          rw [c3] at hm
          exact congrArg nI (yw_u1 (i / 16) (by omega) (i % 16) (by omega) b' hb c2 hm)
        · rw [pk_un c3]
          exact h3 a b' (by omega) ha hb hm
      · refine nm_r (nI_1 i) (ih (i + 1) _ (by omega) (by omega) (fun a b' hab ha hb hm => ?_))
        by_cases c3 : 16 * a + b' = i
        · exfalso
          apply c2
          rw [show i / 16 = a by omega, show i % 16 = b' by omega]
          exact hm
        · exact h3 a b' (by omega) ha hb hm
theorem yw_init {post : SY → Prop} {K p : Nat} {x y : Int32} (hK : (¬ 2 ≤ x → nI K = 2) ∧ (2 ≤ x → ¬ x ≤ 12 → nI K = 12) ∧ (2 ≤ x → x ≤ 12 → nI K = x))
    (hp : (¬ 0 ≤ y → nI p = 0) ∧ (0 ≤ y → ¬ y ≤ 3 → nI p = 3) ∧ (0 ≤ y → y ≤ 3 → nI p = y))
    (h : ∀ bI, yw_TI bI → post (nI K, nI p, 0, 0, (fun _ => 0), (fun _ => 0), zc_cp (fun _ => -1) (fun _ => 0) 16, bI, (fun _ => 0), (fun _ => 0), (fun _ => 0))) : wpY_init post x y := by
  have A : ∀ z0, z0 = nI K → wY_init_82 post y z0 0 0 0 0 (fun _ => 0) (fun _ => 0) (fun _ => 0) (fun _ => 0) (fun _ => 0) (fun _ => 0) (fun _ => 0) := by
    intro z0 hz
    subst hz
    have B : ∀ z1, z1 = nI p → ∃ n109 : Nat, wY_init_109 post (nI K) z1 0 0 n109 0 (fun _ => 0) (fun _ => 0) (fun _ => 0) (fun _ => 0) (fun _ => 0) (fun _ => 0) (fun _ => 0) := by
      intro z1 hz
      subst hz
      exact ⟨257, yw_in109 h 257 0 (fun _ => 0) (by decide) (by decide) (fun a b hab => absurd hab (Nat.not_lt_zero _))⟩
    unfold wY_init_82
    refine br_c (fun c => br_c (fun c2 => ?_) (fun c2 => ?_)) (fun c => ?_)
    · exact B y (hp.2.2 c c2).symm
    · exact B 3 (hp.2.1 c c2).symm
    · exact B 0 (hp.1 c).symm
  refine br_c (fun c => br_c (fun c2 => ?_) (fun c2 => ?_)) (fun c => ?_)
  · exact A x (hK.2.2 c c2).symm
  · exact A 12 (hK.2.1 c c2).symm
  · exact A 2 (hK.1 c).symm
theorem yw_inUse {post : Int32 → Prop} {K p : Nat} {x : Int32} (hK : K ≤ 12) (hp : p ≤ 3)
    (h1 : ∀ s, s < 16 → x = nI s → sa_iu K p s → post 1) (h0 : (∀ s, s < 16 → x = nI s → ¬ sa_iu K p s) → post 0) : wpY_inUse post (nI K, nI p, eS, eL, bC, bT, bP, bI, bN, bU, bR) x := by
  unfold wpY_inUse wY_inUse_12
  dsimp only
  rw [zd_a12]
  by_cases c : x < 0
  · have c2 : x < (12 : Int32) := by
      rw [Int32.lt_iff_toInt_lt] at c ⊢
      have e0 : (0 : Int32).toInt = 0 := by decide
      have e12 : (12 : Int32).toInt = 12 := by decide
      omega
    refine br_t c (br_t c2 (h0 (fun s s1 s2 => ?_)))
    rw [s2] at c
    exact absurd c (nI_pos (by omega))
  · obtain ⟨j, hj, rfl⟩ := nI_of c
    have U : ∀ s, s < 16 → nI j = nI s → s = j := fun s s1 s2 => ((nI_eq hj (by omega)).mp s2).symm
    refine br_f c (pk_lt j K (fun z => ?_) (fun z => ?_))
    · exact h1 j (by omega) rfl (Or.inl z)
    · refine pk_lt j 12 (fun z2 => ?_) (fun z2 => ?_)
      · refine h0 (fun s s1 s2 q => ?_)
        have := U s s1 s2
        unfold sa_iu at q
        omega
      · refine pk_le (12 + p) j (fun z3 => ?_) (fun z3 => ?_)
        · refine h0 (fun s s1 s2 q => ?_)
          have := U s s1 s2
          unfold sa_iu at q
          omega
        · exact h1 j (by omega) rfl (Or.inr ⟨z2, z3⟩)
theorem yw_nibble {post : Int32 → Prop} {c v : Nat} (hc : c < 3) (hv : v < 4096) (h : post (nI (gf_nib c v))) : wpY_nibble post (eK, eP, eS, eL, bC, bT, bP, bI, bN, bU, bR) (nI v) (nI c) := by
  unfold gf_nib at h
  unfold wpY_nibble
  dsimp only
  rw [zd_r16 (a := v) (by omega), zd_d16 (a := v) (by omega), zd_r16 (a := v / 16) (by omega), zd_d256 (by omega)]
  refine pk_eq c 0 (fun z => ?_) (fun z => ?_)
  · rw [if_pos z] at h
    exact ⟨by decide, h⟩
  · rw [if_neg z] at h
    refine pk_eq c 1 (fun z2 => ?_) (fun z2 => ?_)
    · rw [if_pos z2] at h
      exact ⟨by decide, by decide, h⟩
    · rw [if_neg z2] at h
      exact ⟨by decide, h⟩
theorem yw_pn4 {post : Int32 → Prop} {q K : Nat} {f : Nat → Nat} (hI : yw_TI bI) (hq : q < 16) (hq2 : 12 ≤ q) (hK : K ≤ 12) (hN : ∀ i, i < K → bN i = nI (f i) ∧ f i < 16) (h : post (nI (gf_px q f K))) :
    ∀ (n i : Nat), i ≤ K → K < n + i → wY_parityNibble_4 post (nI q) (nI K) eP eS eL bC bT bP bI bN bU bR n (nI (gf_px q f i)) (nI i) := by
  intro n
  induction n with
  | zero => intro i h1 h2; omega
  | succ n ih =>
    intro i h1 h2
    refine pk_le K i (fun c => ?_) (fun c => ?_)
    · rw [show K = i by omega] at h
      exact h
    · have hx : q ^^^ i < 16 := gf_x16 hq (by omega)
      have hx1 : 1 ≤ q ^^^ i := xq_ne (by omega)
      rw [nx_xor]
      refine ⟨vp_in_nI hx (by decide), vp_in_nI (by omega) (by decide), ?_⟩
      rw [nI_clamp (by omega), nI_clamp (by omega), hI _ hx1 hx, (hN i c).1]
      exact yw_mul (gf_q_lt _ _) (hN i c).2 (nm_r (nx_xor _ _) (nm_r (nI_1 i) (ih (i + 1) (by omega) (by omega))))
theorem yw_parityNibble {post : Int32 → Prop} {q K : Nat} {f : Nat → Nat} (hI : yw_TI bI) (hq : q < 16) (hq2 : 12 ≤ q) (hK : K ≤ 12) (hN : ∀ i, i < K → bN i = nI (f i) ∧ f i < 16) (h : post (nI (gf_px q f K))) : wpY_parityNibble post (nI K, eP, eS, eL, bC, bT, bP, bI, bN, bU, bR) (nI q) :=
  ⟨K + 1, yw_pn4 hI hq hq2 hK hN h (K + 1) 0 (by omega) (by omega)⟩
theorem yw_ic11 {post : Int32 → Prop} {w : Nat → Nat} (hU : ∀ j, j < 14 → bU j = nI (w j)) (hw : ∀ j, w j < 4) (h1 : sa_Code w → post 1) (h0 : ¬ sa_Code w → post 0) :
    ∀ (n i z y : Nat), z = sa_sum w i → y = sa_mom (sa_sg w) i → 1 ≤ i → i ≤ 14 → 14 < n + i → wY_isCodeword_11 post eK eP eS eL bC bT bP bI bN bU bR n (nI z) (nI y) (nI i) := by
  have bm := xs_mom_b w (n := 14) (by decide)
  have bs := xs_sum_b hw (n := 14) (by decide)
  intro n
  induction n with
  | zero => intro i z y _ _ h1 h2; omega
  | succ n ih =>
    intro i z y hz hy i1 i2 i3
    subst hz hy
    refine pk_le 14 i (fun c => ⟨by decide, ?_⟩) (fun c => ?_)
    · have e : i = 14 := by omega
      subst e
      rw [zd_r4 (by omega), zd_r14 (by omega)]
      refine pk_eq (sa_sum w 14 % 4) 0 (fun c2 => ⟨by decide, ?_⟩) (fun c2 => ?_)
      · refine pk_eq (sa_mom (sa_sg w) 14 % 14) 0 (fun c3 => ?_) (fun c3 => ?_)
        · exact h1 ⟨c2, c3⟩
        · exact h0 (fun q => c3 q.2)
      · exact h0 (fun q => c2 q.1)
    · refine ⟨vp_in_nI (by omega) (by decide), ?_⟩
      rw [zd_s1 (by omega), nI_clamp (by omega), nI_clamp (by omega), hU i (by omega), hU (i - 1) (by omega), nI_add]
      refine nm_e ⟨vp_in_nI (by omega) (by decide), vp_in_nI (by omega) (by decide), ?_⟩
      have l1 := hw i
      have l2 := hw (i - 1)
      have e1 : sa_sum w (i + 1) = sa_sum w i + w i := rfl
      have e2 : sa_mom (sa_sg w) (i + 1) = sa_mom (sa_sg w) i + i * sa_sg w i := rfl
      have e3 := sa_sg_s (T := w) i1
      unfold sa_asc at e3
      refine pk_lt (w i) (w (i - 1)) (fun c2 => ?_) (fun c2 => ?_)
      · rw [if_neg (by omega)] at e3
        exact nm_r (nI_1 i) (ih (i + 1) _ _ e1.symm (by rw [e2, e3, Nat.mul_zero]; rfl) (by omega) (by omega) (by omega))
      · rw [if_pos c2] at e3
        rw [nI_add]
        exact nm_e (nm_r (nI_1 i) (ih (i + 1) _ _ e1.symm (by rw [e2, e3, Nat.mul_one]) (by omega) (by omega) (by omega)))
theorem yw_isCodeword {post : Int32 → Prop} {w : Nat → Nat} (hU : ∀ j, j < 14 → bU j = nI (w j)) (hw : ∀ j, w j < 4) (h1 : sa_Code w → post 1) (h0 : ¬ sa_Code w → post 0) : wpY_isCodeword post (eK, eP, eS, eL, bC, bT, bP, bI, bN, bU, bR) := by
  unfold wpY_isCodeword
  dsimp only
  rw [hU 0 (by decide)]
  refine nm_e ⟨14, ?_⟩
  exact yw_ic11 hU hw h1 h0 14 1 (w 0) 0 (Nat.zero_add _).symm rfl (by decide) (by decide) (by decide)
/-! laying a strand's word -/
theorem yw_ls28e {post : SY → Prop} {J : Int32 → (Nat → Int32) → (Nat → Int32) → (Nat → Int32) → (Nat → Int32) → (Nat → Int32) → (Nat → Int32) → (Nat → Int32) → Prop} {x1 x2 rest : Int32} {n m : Nat} {w : Nat → Nat} (hw : ∀ j, w j < 4) (hU : ∀ j, j < 14 → bU j = nI (w j))
    (hc : sa_Code w → post (eK, eP, eS, eL, bC, bT, bP, bI, bN, bU, bR)) (hn : ¬ sa_Code w → J (nI (n + 1)) bC bT bP bI bN bU bR) : wY_layStrandWord_28 post J x1 x2 (nI n) eK eP eS eL (m + 1) rest (-1) bC bT bP bI bN bU bR :=
  br_t (by decide) (yw_isCodeword hU hw (fun q => br_f (by decide) (hc q)) (fun q => br_t rfl (nm_r (nI_1 n) (hn q))))
theorem yw_ls28 {post : SY → Prop} {J : Int32 → (Nat → Int32) → (Nat → Int32) → (Nat → Int32) → (Nat → Int32) → (Nat → Int32) → (Nat → Int32) → (Nat → Int32) → Prop} {x1 x2 : Int32} {n N : Nat} {w : Nat → Nat} (hN : N < 2 ^ 31) (hw : ∀ j, w j < 4) (hwN : ∀ j, j < 14 → w j = N / 4 ^ (13 - j) % 4)
    (hc : sa_Code w → ∀ bU, (∀ j, j < 14 → bU j = nI (w j)) → post (eK, eP, eS, eL, bC, bT, bP, bI, bN, bU, bR)) (hn : ¬ sa_Code w → ∀ bU, (∀ j, j < 14 → bU j = nI (w j)) → J (nI (n + 1)) bC bT bP bI bN bU bR) :
    ∀ (i : Nat) (bU : Nat → Int32), i < 14 → (∀ j, i < j → j < 14 → bU j = nI (w j)) → wY_layStrandWord_28 post J x1 x2 (nI n) eK eP eS eL (i + 2) (nI (N / 4 ^ (13 - i))) (nI i) bC bT bP bI bN bU bR := by
  intro i
  induction i with
  | zero =>
    intro bU _ hU
    have hl : N / 4 ^ (13 - 0) ≤ N := Nat.div_le_self _ _
    refine br_f (by decide) ⟨by decide, vp_in_nI (by decide) (by decide), ?_⟩
    rw [nI_clamp (by decide), zd_r4 (by omega)]
    have H : ∀ j, j < 14 → upd bU 0 (nI (N / 4 ^ (13 - 0) % 4)) j = nI (w j) := fun j hj => by
      by_cases c : j = 0
      · subst c; rw [pk_us, hwN 0 hj]
      · rw [pk_un c]; exact hU j (by omega) hj
    refine nm_e ⟨by decide, nm_e (nm_r (e' := -1) (by decide) ?_)⟩
    exact yw_ls28e hw H (fun q => hc q _ H) (fun q => hn q _ H)
  | succ i ih =>
    intro bU hi hU
    have hl : N / 4 ^ (13 - (i + 1)) ≤ N := Nat.div_le_self _ _
    refine br_f (nI_pos (by omega)) ⟨by decide, vp_in_nI hi (by decide), ?_⟩
    rw [nI_clamp (by omega), zd_r4 (by omega)]
    refine nm_e ⟨by decide, ?_⟩
    rw [zd_d4 (by omega)]
    have e1 : N / 4 ^ (13 - (i + 1)) / 4 = N / 4 ^ (13 - i) := by
      rw [Nat.div_div_eq_div_mul, ← Nat.pow_succ]
      congr 2
      omega
    refine nm_r (congrArg nI e1) (nm_r (pk_m1 i) (ih _ (by omega) (fun j j1 j2 => ?_)))
    by_cases c : j = i + 1
    · subst c; rw [pk_us, hwN _ j2]
    · rw [pk_un c]; exact hU j (by omega) j2
theorem yw_ls2 {post : SY → Prop} {s v : Nat} (hs : s < 16) (hv : v < 4096) (h : ∀ bU, (∀ j, j < 14 → bU j = nI (sw_w s v (sw_n s v) j)) → post (eK, eP, eS, eL, bC, bT, bP, bI, bN, bU, bR)) :
    ∀ (d m : Nat) (bU : Nat → Int32), m + d = 4096 → (∀ n', n' < m → ¬ sa_Code (sw_w s v n')) → (m = 0 ∨ ∀ j, j < 14 → bU j = nI (sw_w s v (m - 1) j)) → wY_layStrandWord_2 post (nI s) (nI v) eK eP eS eL (d + 1) (nI m) bC bT bP bI bN bU bR := by
  intro d
  induction d with
  | zero =>
    intro m bU hm hn hU
    have e : m = 4096 := by omega
    subst e
    refine br_t (by decide) (h bU (fun j hj => ?_))
    have e2 : sw_n s v = 4095 := sw_LN_u (n := 4095) (n' := sw_n s v) ⟨by decide, Or.inr ⟨rfl, hn⟩⟩ (sw_LN_n s v)
    rcases hU with hU | hU
    · exact absurd hU (by decide)
    · rw [e2]; exact hU j hj
  | succ d ih =>
    intro m bU hm hn hU
    refine br_f (nI_ge (b := 4096) (by omega) (by decide)) ?_
    rw [zd_m4096, nI_add, zd_m4096, nI_add]
    refine nm_e ⟨15, ?_⟩
    have := yw_ls28 (post := post) (J := wY_layStrandWord_2 post (nI s) (nI v) eK eP eS eL (d + 1)) (x1 := nI s) (x2 := nI v) (n := m) (N := (s * 4096 + v) * 4096 + m) (w := sw_w s v m) (eK := eK) (eP := eP) (eS := eS) (eL := eL) (bC := bC) (bT := bT) (bP := bP) (bI := bI) (bN := bN) (bR := bR) (by omega) (sw_w_lt s v m) (fun j _ => rfl)
      (fun q bU hU => h bU (fun j hj => by
        have e2 : sw_n s v = m := sw_LN_u (n := m) (n' := sw_n s v) ⟨by omega, Or.inl ⟨q, hn⟩⟩ (sw_LN_n s v)
        rw [e2]; exact hU j hj))
      (fun q bU hU => ih (m + 1) bU (by omega) (fun n' hn' => by
        by_cases c : n' = m
        · rw [c]; exact q
        · exact hn n' (by omega)) (Or.inr hU)) 13 bU (by decide) (fun j j1 j2 => by omega)
    rw [show 13 - 13 = 0 by decide, Nat.pow_zero, Nat.div_one] at this
    exact this
theorem yw_layStrandWord {post : SY → Prop} {s v : Nat} (hs : s < 16) (hv : v < 4096) (h : ∀ bU, (∀ j, j < 14 → bU j = nI (sw_w s v (sw_n s v) j)) → post (eK, eP, eS, eL, bC, bT, bP, bI, bN, bU, bR)) : wpY_layStrandWord post (eK, eP, eS, eL, bC, bT, bP, bI, bN, bU, bR) (nI s) (nI v) :=
  ⟨4097, yw_ls2 hs hv h 4096 0 bU (by decide) (fun n' hn' => absurd hn' (Nat.not_lt_zero n')) (Or.inl rfl)⟩
theorem yw_wt2 {post : SY → Prop} (h : post (eK, eP, eS, nI 14, bC, zc_cp bU bT 14, bP, bI, bN, bU, bR)) : ∀ (n i : Nat), i ≤ 14 → 14 < n + i → wY_wordToTray_2 post eK eP eS eL n (nI i) bC (zc_cp bU bT i) bP bI bN bU bR := by
  intro n
  induction n with
  | zero => intro i h1 h2; omega
  | succ n ih =>
    intro i h1 h2
    refine pk_le 14 i (fun c => ?_) (fun c => ?_)
    · rw [show i = 14 by omega]; exact h
    · refine ⟨vp_in_nI (by omega) (by decide), vp_in_nI (by omega) (by decide), ?_⟩
      rw [nI_clamp (by omega)]
      exact nm_r zc_s (nm_r (nI_1 i) (ih (i + 1) (by omega) (by omega)))
theorem yw_wordToTray {post : SY → Prop} {w T : Nat → Nat} (hU : ∀ j, j < 14 → bU j = nI (w j)) (hT : ∀ j, bT j = nI (T j)) (h : post (eK, eP, eS, nI 14, bC, fun j => nI (sa_tw w T j), bP, bI, bN, bU, bR)) : wpY_wordToTray post (eK, eP, eS, eL, bC, bT, bP, bI, bN, bU, bR) := by
  rw [← sa_tw_c hU hT] at h
  refine ⟨15, ?_⟩
  have := yw_wt2 (eL := eL) h 15 0 (by decide) (by decide)
  rw [zc_0] at this
  exact this
/-! taking -/
theorem yw_ta29 {post : Int32 → SY → Prop} {J : Int32 → Int32 → (Nat → Int32) → (Nat → Int32) → (Nat → Int32) → (Nat → Int32) → (Nat → Int32) → (Nat → Int32) → (Nat → Int32) → Prop} {s v c K p : Nat} {C : Nat → Nat} (hI : yw_TI bI) (hC : ∀ j, bC j = nI (C j)) (hC2 : ∀ j, C j < 4096) (hK : K ≤ 12) (hp : p ≤ 3) (hs : sa_iu K p s) (hc : c < 3)
    (h : ∀ bN, J (nI (16 * v + gf_nib c (sa_fp C K s))) (nI (c + 1)) bC bT bP bI bN bU bR) : ∀ (n i : Nat) (bN : Nat → Int32), i ≤ K → K < n + i → (∀ j, j < i → bN j = nI (gf_nib c (C j))) →
    wY_take_29 post J (nI s) (nI v) (nI c) (nI K) eP eS eL n (nI i) bC bT bP bI bN bU bR := by
  have s16 : s < 16 := by unfold sa_iu at hs; omega
  intro n
  induction n with
  | zero => intro i bN h1 h2; omega
  | succ n ih =>
    intro i bN h1 h2 h3
    refine pk_le K i (fun z => ?_) (fun z => ?_)
    · refine pk_le K s (fun z2 => ?_) (fun z2 => ?_)
      · have s12 : 12 ≤ s := by unfold sa_iu at hs; omega
        refine yw_parityNibble (f := fun j => gf_nib c (C j)) hI s16 s12 hK (fun j hj => ⟨h3 j (by omega), gf_nib_lt (hC2 j)⟩) ?_
        rw [zd_16m, nI_add]
        refine nm_e (nm_r (nI_1 c) ?_)
        have := h bN
        unfold sa_fp at this
        rw [if_neg (by omega), gf_nib_pv] at this
        exact this
      · refine ⟨vp_in_nI (by omega) (by decide), ?_⟩
        rw [nI_clamp (by omega), h3 s (by omega), zd_16m, nI_add]
        refine nm_e (nm_r (nI_1 c) ?_)
        have := h bN
        unfold sa_fp at this
        rw [if_pos (by omega)] at this
        exact this
    · refine ⟨vp_in_nI (by omega) (by decide), ?_⟩
      rw [nI_clamp (by omega), hC i]
      refine yw_nibble hc (hC2 i) ⟨vp_in_nI (by omega) (by decide), nm_e (nm_r (nI_1 i) (ih (i + 1) _ (by omega) (by omega) (fun j hj => ?_)))⟩
      by_cases c3 : j = i
      · subst c3; exact pk_us
      · rw [pk_un c3]; exact h3 j (by omega)
theorem yw_ta21 {post : Int32 → SY → Prop} {s v n c K p : Nat} {C : Nat → Nat} (hI : yw_TI bI) (hC : ∀ j, bC j = nI (C j)) (hC2 : ∀ j, C j < 4096) (hK : K ≤ 12) (hp : p ≤ 3) (hs : sa_iu K p s) (hc : c < 3)
    (h : ∀ bN, wY_take_21 post (nI s) (nI K) eP eS eL n (nI (16 * v + gf_nib c (sa_fp C K s))) (nI (c + 1)) bC bT bP bI bN bU bR) : wY_take_21 post (nI s) (nI K) eP eS eL (n + 1) (nI v) (nI c) bC bT bP bI bN bU bR := by
  refine br_f (nI_ge (b := 3) hc (by decide)) ⟨K + 1, ?_⟩
  exact yw_ta29 hI hC hC2 hK hp hs hc h (K + 1) 0 bN (by omega) (by omega) (fun j hj => absurd hj (Nat.not_lt_zero j))
theorem yw_take {post : Int32 → SY → Prop} {K p : Nat} {C T : Nat → Nat} {x : Int32} (hI : yw_TI bI) (hC : ∀ j, bC j = nI (C j)) (hC2 : ∀ j, C j < 4096)
    (hT : ∀ j, bT j = nI (T j)) (hK : K ≤ 12) (hp : p ≤ 3)
    (h1 : ¬ eS = 0 → ∀ s, s < 16 → x = nI s → sa_iu K p s → ∀ bN bU, post 1 (nI K, nI p, eS, nI 14, bC, fun j => nI (sa_tw (sw_w s (sa_fp C K s) (sw_n s (sa_fp C K s))) T j), bP, bI, bN, bU, bR))
    (h0 : (eS = 0 ∨ ∀ s, s < 16 → x = nI s → ¬ sa_iu K p s) → post 0 (nI K, nI p, eS, eL, bC, bT, bP, bI, bN, bU, bR)) : wpY_take post (nI K, nI p, eS, eL, bC, bT, bP, bI, bN, bU, bR) x := by
  unfold wpY_take
  dsimp only
  refine br_c (fun c => h0 (Or.inl c)) (fun c => ?_)
  refine yw_inUse hK hp (fun s s1 s2 s3 => ?_) (fun hn => br_t rfl (h0 (Or.inr hn)))
  refine br_f (by decide) ?_
  rw [s2]
  have b : sa_fp C K s < 4096 := sa_fp_lt hC2
  refine ⟨4, yw_ta21 (v := 0) (c := 0) hI hC hC2 hK hp s3 (by decide) (fun bN => yw_ta21 (c := 1) hI hC hC2 hK hp s3 (by decide) (fun bN => yw_ta21 (c := 2) hI hC hC2 hK hp s3 (by decide) (fun bN => ?_)))⟩
  have e : 16 * (16 * (16 * 0 + gf_nib 0 (sa_fp C K s)) + gf_nib 1 (sa_fp C K s)) + gf_nib 2 (sa_fp C K s) = sa_fp C K s := by
    have e0 : gf_nib 0 (sa_fp C K s) = sa_fp C K s / 256 := rfl
    have e1 : gf_nib 1 (sa_fp C K s) = sa_fp C K s / 16 % 16 := rfl
    have e2 : gf_nib 2 (sa_fp C K s) = sa_fp C K s % 16 := rfl
    rw [e0, e1, e2]
    omega
  rw [e]
  refine br_t (by decide) ?_
  refine yw_layStrandWord s1 b (fun bU hU => ?_)
  dsimp only
  refine yw_wordToTray hU hT ?_
  exact h1 c s s1 s2 s3 bN bU
theorem yw_held {post : Int32 → Prop} {K p : Nat} {P : Nat → Nat} {x : Int32} (hK : K ≤ 12) (hp : p ≤ 3)
    (h1 : ∀ s, s < 16 → x = nI s → sa_iu K p s → post (zx_P (P s))) (h0 : (∀ s, s < 16 → x = nI s → ¬ sa_iu K p s) → post (-2)) : wpY_held post (nI K, nI p, eS, eL, bC, bT, fun j => zx_P (P j), bI, bN, bU, bR) x := by
  unfold wpY_held
  dsimp only
  refine yw_inUse hK hp (fun s s1 s2 s3 => br_f (by decide) ?_) (fun hn => br_t rfl (h0 hn))
  rw [s2, nI_clamp (by omega)]
  exact ⟨vp_in_nI s1 (by decide), h1 s s1 s2 s3⟩
end YW
end
section
/-! the reference: faults, repairing, delivery -/
section YA
def ya_W (T : Nat → Nat) (L g sy : Nat) : Nat → Nat := if L = 15 then sa_del T g else sa_ins T g sy
theorem ya_W4 {T : Nat → Nat} {L g sy : Nat} (hT : ∀ j, T j < 4) (hs : sy < 4) (j : Nat) : ya_W T L g sy j < 4 := by
  unfold ya_W
  split
  · exact sa_del_4 hT j
  · exact sa_ins_4 hT hs j
theorem ya_s {T : Nat → Nat} {L g sy : Nat} (hL : L = 13 ∨ L = 15) (hg : g < sa_N L) (hs : sy < 4) (h : sa_Code (ya_W T L g sy)) : sa_A T L g ∧ ya_W T L g sy = ya_W T L g (sa_cm T) := by
  rcases hL with rfl | rfl
  · have e : ∀ z, ya_W T 13 g z = sa_ins T g z := fun z => if_neg (by decide)
    rw [e] at h
    have q := (sa_gap_code (Nat.le_of_lt_succ hg) hs).mp h
    rw [e, e, ← q.1, sa_A13, ← q.1]
    exact ⟨h, rfl⟩
  · have e : ∀ z, ya_W T 15 g z = sa_del T g := fun z => if_pos rfl
    rw [e] at h
    rw [e, e, sa_A15]
    exact ⟨h, rfl⟩
theorem ya_n {T : Nat → Nat} {L g : Nat} (hL : L = 13 ∨ L = 15) (h : ∀ sy, sy < 4 → ¬ sa_Code (ya_W T L g sy)) : ¬ sa_A T L g := by
  have q := h _ (sa_cm_lt T)
  rcases hL with rfl | rfl
  · rw [sa_A13]
    have e : ya_W T 13 g (sa_cm T) = sa_ins T g (sa_cm T) := if_neg (by decide)
    rw [e] at q
    exact q
  · rw [sa_A15]
    have e : ya_W T 15 g (sa_cm T) = sa_del T g := if_pos rfl
    rw [e] at q
    exact q
variable {eK eP eS eL : Int32} {bC bT bP bI bN bU bR : Nat → Int32}
theorem ya_ar9 {post : Int32 → SY → Prop} {J : Int32 → (Nat → Int32) → (Nat → Int32) → (Nat → Int32) → (Nat → Int32) → (Nat → Int32) → (Nat → Int32) → (Nat → Int32) → Prop} {T : Nat → Nat} {L g sy : Nat} (hL : L = 13 ∨ L = 15) (hg : g < 15) (hs : sy < 4) (hT : ∀ j, bT j = nI (T j)) (hT4 : ∀ j, T j < 4)
    (hc : sa_Code (ya_W T L g sy) → ∀ bU, (∀ j, j < 14 → bU j = nI (ya_W T L g sy j)) → post 1 (eK, eP, eS, nI L, bC, bT, bP, bI, bN, bU, bR)) (hn : ¬ sa_Code (ya_W T L g sy) → ∀ bU, J (nI (sy + 1)) bC bT bP bI bN bU bR) :
    ∀ (n i : Nat) (bU : Nat → Int32), i ≤ 14 → 14 < n + i → (∀ j, j < i → bU j = nI (ya_W T L g sy j)) → wY_arises_9 post J (nI g) (nI sy) eK eP eS (nI L) n (nI i) bC bT bP bI bN bU bR := by
  intro n
  induction n with
  | zero => intro i bU h1 h2; omega
  | succ n ih =>
    intro i bU h1 h2 h3
    refine pk_le 14 i (fun c => ?_) (fun c => ?_)
    · have H : ∀ j, j < 14 → bU j = nI (ya_W T L g sy j) := fun j hj => h3 j (by omega)
      exact yw_isCodeword H (ya_W4 hT4 hs) (fun q => br_f (by decide) (hc q bU H)) (fun q => br_t rfl (nm_r (nI_1 sy) (hn q bU)))
    · have N : ∀ x, x = nI (ya_W T L g sy i) → ∀ j, j < i + 1 → upd bU i x j = nI (ya_W T L g sy j) := fun x hx j hj => by
        by_cases c2 : j = i
        · subst c2; rw [pk_us, hx]
        · rw [pk_un c2]; exact h3 j (by omega)
      rw [nI_clamp (by omega)]
      refine pk_le g i (fun c2 => ?_) (fun c2 => ?_)
      · refine pk_eq L 15 (fun c3 => ?_) (fun c3 => ?_)
        · rw [nI_1]
          refine ⟨vp_in_nI (by omega) (by decide), vp_in_nI (by omega) (by decide), ?_⟩
          rw [nI_clamp (by omega), hT (i + 1)]
          refine nm_e (nm_e (ih (i + 1) _ (by omega) (by omega) (N _ ?_)))
          unfold ya_W
          rw [if_pos c3, sa_del_ge c2]
        · refine pk_eq i g (fun c4 => ?_) (fun c4 => ?_)
          · refine ⟨vp_in_nI (by omega) (by decide), nm_e (nm_r (nI_1 i) (ih (i + 1) _ (by omega) (by omega) (N _ ?_)))⟩
            unfold ya_W
            rw [if_neg c3, c4, sa_ins_eq]
          · rw [zd_s1 (by omega)]
            refine ⟨vp_in_nI (by omega) (by decide), vp_in_nI (by omega) (by decide), ?_⟩
            rw [nI_clamp (by omega), hT (i - 1)]
            refine nm_e (nm_r (nI_1 i) (ih (i + 1) _ (by omega) (by omega) (N _ ?_)))
            unfold ya_W
            rw [if_neg c3, sa_ins_gt (by omega)]
      · refine ⟨vp_in_nI (by omega) (by decide), vp_in_nI (by omega) (by decide), ?_⟩
        rw [hT i]
        refine nm_e (nm_r (nI_1 i) (ih (i + 1) _ (by omega) (by omega) (N _ ?_)))
        unfold ya_W
        split
        · rw [sa_del_lt c2]
        · rw [sa_ins_lt c2]
theorem ya_ar2 {post : Int32 → SY → Prop} {T : Nat → Nat} {L g : Nat} (hL : L = 13 ∨ L = 15) (hg : g < sa_N L) (hT : ∀ j, bT j = nI (T j)) (hT4 : ∀ j, T j < 4)
    (h1 : sa_A T L g → ∀ bU, (∀ j, j < 14 → bU j = nI (ya_W T L g (sa_cm T) j)) → post 1 (eK, eP, eS, nI L, bC, bT, bP, bI, bN, bU, bR)) (h0 : ¬ sa_A T L g → ∀ bU, post 0 (eK, eP, eS, nI L, bC, bT, bP, bI, bN, bU, bR)) :
    ∀ (d sy : Nat) (bU : Nat → Int32), sy + d = 4 → (∀ z, z < sy → ¬ sa_Code (ya_W T L g z)) → wY_arises_2 post (nI g) eK eP eS (nI L) (d + 1) (nI sy) bC bT bP bI bN bU bR := by
  have g15 : g < 15 := by rcases hL with rfl | rfl <;> (unfold sa_N at hg; simp only [if_true, if_false, reduceIte, Nat.reduceEqDiff] at hg; omega)
  intro d
  induction d with
  | zero =>
    intro sy bU hd hn
    have e : sy = 4 := by omega
    subst e
    exact br_t (by decide) (h0 (ya_n hL hn) bU)
  | succ d ih =>
    intro sy bU hd hn
    refine br_f (nI_ge (b := 4) (by omega) (by decide)) ⟨15, ?_⟩
    refine ya_ar9 hL g15 (by omega) hT hT4 (fun q bU hU => ?_) (fun q bU => ih (sy + 1) bU (by omega) (fun z hz => ?_)) 15 0 bU (by decide) (by decide) (fun j hj => absurd hj (Nat.not_lt_zero j))
    · have e := ya_s hL hg (by omega) q
      rw [e.2] at hU
      exact h1 e.1 bU hU
    · by_cases c : z = sy
      · rw [c]; exact q
      · exact hn z (by omega)
theorem ya_arises {post : Int32 → SY → Prop} {T : Nat → Nat} {L g : Nat} (hL : L = 13 ∨ L = 15) (hg : g < sa_N L) (hT : ∀ j, bT j = nI (T j)) (hT4 : ∀ j, T j < 4)
    (h1 : sa_A T L g → ∀ bU, (∀ j, j < 14 → bU j = nI (ya_W T L g (sa_cm T) j)) → post 1 (eK, eP, eS, nI L, bC, bT, bP, bI, bN, bU, bR)) (h0 : ¬ sa_A T L g → ∀ bU, post 0 (eK, eP, eS, nI L, bC, bT, bP, bI, bN, bU, bR)) : wpY_arises post (eK, eP, eS, nI L, bC, bT, bP, bI, bN, bU, bR) (nI g) :=
  ⟨5, ya_ar2 hL hg hT hT4 h1 h0 4 0 bU (by decide) (fun z hz => absurd hz (Nat.not_lt_zero z))⟩
/-! the search for faults -/
theorem ya_lfn {A : Nat → Prop} {g : Nat} {r : Int32} (h : sa_lf A g r) (n : ¬ A g) : sa_lf A (g + 1) r := by
  rcases h with ⟨rfl, h⟩ | ⟨k, k1, k2, k3, k4⟩
  · refine Or.inl ⟨rfl, fun z hz => ?_⟩
    by_cases c : z = g
    · rw [c]; exact n
    · exact h z (by omega)
  · exact Or.inr ⟨k, by omega, k2, k3, k4⟩
theorem ya_gfn {A : Nat → Prop} {g : Nat} {r : Int32} (h : sa_gfa A g r) (n : ¬ A g) : sa_gfa A (g + 1) r := by
  rcases h with ⟨rfl, h⟩ | ⟨k, k1, k2, k3, k4⟩
  · refine Or.inl ⟨rfl, fun z hz => ?_⟩
    by_cases c : z = g
    · rw [c]; exact n
    · exact h z (by omega)
  · refine Or.inr ⟨k, by omega, k2, k3, fun z z1 z2 => ?_⟩
    by_cases c : z = g
    · rw [c]; exact n
    · exact k4 z z1 (by omega)
theorem ya_fa35 {post : Int32 → SY → Prop} {T : Nat → Nat} {L : Nat} {la : Int32} (hL : L = 13 ∨ L = 15) (hT : ∀ j, bT j = nI (T j)) (hT4 : ∀ j, T j < 4)
    (h0 : la = 0 → ∀ r bU, sa_lf (sa_A T L) (sa_N L) r → post r (eK, eP, eS, nI L, bC, bT, bP, bI, bN, bU, bR)) (h1 : ¬ la = 0 → ∀ r bU, sa_gfa (sa_A T L) (sa_N L) r → post r (eK, eP, eS, nI L, bC, bT, bP, bI, bN, bU, bR)) :
    ∀ (d g : Nat) (r : Int32) (bU : Nat → Int32), g + d = sa_N L → (la = 0 → sa_lf (sa_A T L) g r) → (¬ la = 0 → sa_gfa (sa_A T L) g r) → wY_fault_35 post la (nI (sa_N L)) (d + 1) r (nI g) eK eP eS (nI L) bC bT bP bI bN bU bR := by
  have n16 : sa_N L < 16 := by rcases hL with rfl | rfl <;> decide
  intro d
  induction d with
  | zero =>
    intro g r bU hd a b
    rw [show g = sa_N L by omega] at a b ⊢
    refine br_t (Int32.le_refl _) ?_
    by_cases c : la = 0
    · exact h0 c r bU (a c)
    · exact h1 c r bU (b c)
  | succ d ih =>
    intro g r bU hd a b
    refine br_f (nI_ge (by omega) (by omega)) ?_
    refine ya_arises hL (by omega) hT hT4 (fun hA bU hU => ?_) (fun hA bU => ?_)
    · dsimp only
      refine br_f (by decide) (br_c (fun c => ?_) (fun c => ?_))
      · rcases a c with ⟨rfl, h⟩ | ⟨k, k1, rfl, k3, k4⟩
        · refine br_f (by decide) (nm_r (nI_1 g) (ih (g + 1) (nI g) bU (by omega) (fun _ => Or.inr ⟨g, by omega, rfl, hA, fun z hz => h z hz⟩) (fun q => absurd c q)))
        · refine br_t (nI_pos' (by omega)) (nm_r (nI_1 g) (ih (g + 1) (nI k) bU (by omega) (fun _ => Or.inr ⟨k, by omega, rfl, k3, k4⟩) (fun q => absurd c q)))
      · exact nm_r (nI_1 g) (ih (g + 1) (nI g) bU (by omega) (fun q => absurd q c) (fun _ => Or.inr ⟨g, by omega, rfl, hA, fun z z1 z2 => by omega⟩))
    · dsimp only
      exact br_t rfl (nm_r (nI_1 g) (ih (g + 1) r bU (by omega) (fun q => ya_lfn (a q) hA) (fun q => ya_gfn (b q) hA)))
theorem ya_fault {post : Int32 → SY → Prop} {T : Nat → Nat} {L : Nat} {la : Int32} (hL : L ≤ 16) (hT : ∀ j, bT j = nI (T j)) (hT4 : ∀ j, T j < 4)
    (h0 : la = 0 → ∀ r bU, sa_lf (sa_A T L) (sa_N L) r → post r (eK, eP, eS, nI L, bC, bT, bP, bI, bN, bU, bR)) (h1 : ¬ la = 0 → ∀ r bU, sa_gfa (sa_A T L) (sa_N L) r → post r (eK, eP, eS, nI L, bC, bT, bP, bI, bN, bU, bR)) : wpY_fault post (eK, eP, eS, nI L, bC, bT, bP, bI, bN, bU, bR) la := by
  unfold wpY_fault
  dsimp only
  refine pk_eq L 13 (fun c => ?_) (fun c => ?_)
  · subst c
    exact ⟨15, ya_fa35 (L := 13) (Or.inl rfl) hT hT4 h0 h1 14 0 (-1) bU rfl (fun _ => Or.inl ⟨rfl, fun z hz => absurd hz (Nat.not_lt_zero z)⟩) (fun _ => Or.inl ⟨rfl, fun z hz => absurd hz (Nat.not_lt_zero z)⟩)⟩
  · refine pk_eq L 15 (fun c2 => ?_) (fun c2 => ?_)
    · subst c2
      exact ⟨16, ya_fa35 (L := 15) (Or.inr rfl) hT hT4 h0 h1 15 0 (-1) bU rfl (fun _ => Or.inl ⟨rfl, fun z hz => absurd hz (Nat.not_lt_zero z)⟩) (fun _ => Or.inl ⟨rfl, fun z hz => absurd hz (Nat.not_lt_zero z)⟩)⟩
    · refine ⟨1, br_t (by decide) ?_⟩
      have e : sa_N L = 0 := by unfold sa_N; rw [if_neg c, if_neg c2]
      by_cases z : la = 0
      · exact h0 z _ _ (Or.inl ⟨rfl, fun g hg => by omega⟩)
      · exact h1 z _ _ (Or.inl ⟨rfl, fun g hg => by omega⟩)
theorem ya_fr2 {post : Int32 → SY → Prop} {T : Nat → Nat} {L : Nat} (hL : L ≤ 16) (hT : ∀ j, bT j = nI (T j)) (hT4 : ∀ j, T j < 4)
    (h1 : ∀ k W bU, sa_RP T L k W → (∀ j, j < 14 → bU j = nI (W j)) → post 1 (eK, eP, eS, nI L, bC, bT, bP, bI, bN, bU, bR)) (h0 : (∀ k W, ¬ sa_RP T L k W) → ∀ bU, post 0 (eK, eP, eS, nI L, bC, bT, bP, bI, bN, bU, bR)) :
    ∀ (n i : Nat) (bU : Nat → Int32), i ≤ 14 → 14 < n + i → (∀ j, j < i → bU j = nI (T j)) → wY_findRepaired_2 post eK eP eS (nI L) n (nI i) bC bT bP bI bN bU bR := by
  intro n
  induction n with
  | zero => intro i bU a b; omega
  | succ n ih =>
    intro i bU a b hU
    refine pk_le 14 i (fun c => ?_) (fun c => ?_)
    · refine pk_eq L 14 (fun c2 => ?_) (fun c2 => ?_)
      · subst c2
        have H : ∀ j, j < 14 → bU j = nI (T j) := fun j hj => hU j (by omega)
        refine yw_isCodeword H hT4 (fun q => ⟨rfl, h1 11 T bU (Or.inl ⟨rfl, q, rfl, rfl⟩) H⟩) (fun q => ⟨rfl, h0 (fun k W R => ?_) bU⟩)
        rcases R with ⟨_, c, _⟩ | ⟨l, _⟩ | ⟨l, _⟩
        · exact q c
        · omega
        · omega
      · refine ya_fault hL hT hT4 (fun _ r bU lf => ?_) (fun q => absurd rfl q)
        dsimp only
        rcases lf with ⟨rfl, hn⟩ | ⟨g, g1, rfl, g3, g4⟩
        · refine br_t (by decide) (h0 (fun k W R => ?_) bU)
          rcases R with ⟨l, _⟩ | ⟨rfl, g, g1, g2, _⟩ | ⟨rfl, g, g1, g2, _⟩
          · exact c2 l
          · exact hn g g1 g2
          · exact hn g g1 g2
        · have hL2 : L = 13 ∨ L = 15 := by
            unfold sa_N at g1
            split at g1
            · exact Or.inl (by assumption)
            · split at g1
              · exact Or.inr (by assumption)
              · omega
          have g15 : g < 16 := by
            rcases hL2 with rfl | rfl
            · change g < 14 at g1; omega
            · change g < 15 at g1; omega
          refine br_f (nI_pos (by omega)) ?_
          refine ya_arises hL2 g1 hT hT4 (fun hA bU hU => ?_) (fun hA => absurd g3 hA)
          dsimp only
          refine br_f (by decide) ?_
          rcases hL2 with rfl | rfl
          · refine h1 12 (sa_ins T g (sa_cm T)) bU (Or.inr (Or.inl ⟨rfl, g, g1, g3, g4, rfl, rfl⟩)) ?_
            exact hU
          · refine h1 13 (sa_del T g) bU (Or.inr (Or.inr ⟨rfl, g, g1, g3, g4, rfl, rfl⟩)) ?_
            exact hU
    · refine ⟨vp_in_nI (by omega) (by decide), vp_in_nI (by omega) (by decide), ?_⟩
      rw [nI_clamp (by omega), hT i]
      refine nm_e (nm_r (nI_1 i) (ih (i + 1) _ (by omega) (by omega) (fun j hj => ?_)))
      by_cases c2 : j = i
      · subst c2; exact pk_us
      · rw [pk_un c2]; exact hU j (by omega)
theorem ya_findRepaired {post : Int32 → SY → Prop} {T : Nat → Nat} {L : Nat} (hL : L ≤ 16) (hT : ∀ j, bT j = nI (T j)) (hT4 : ∀ j, T j < 4)
    (h1 : ∀ k W bU, sa_RP T L k W → (∀ j, j < 14 → bU j = nI (W j)) → post 1 (eK, eP, eS, nI L, bC, bT, bP, bI, bN, bU, bR)) (h0 : (∀ k W, ¬ sa_RP T L k W) → ∀ bU, post 0 (eK, eP, eS, nI L, bC, bT, bP, bI, bN, bU, bR)) : wpY_findRepaired post (eK, eP, eS, nI L, bC, bT, bP, bI, bN, bU, bR) :=
  ⟨15, ya_fr2 hL hT hT4 h1 h0 15 0 bU (by decide) (by decide) (fun j hj => absurd hj (Nat.not_lt_zero j))⟩
theorem ya_repair {post : Int32 → SY → Prop} {T : Nat → Nat} {L : Nat} (hL : L ≤ 16) (hT : ∀ j, bT j = nI (T j)) (hT4 : ∀ j, T j < 4)
    (h : ∀ k W bU, sa_RP T L k W → post (nI k) (eK, eP, eS, nI 14, bC, fun j => nI (sa_tw W T j), bP, bI, bN, bU, bR))
    (h0 : (∀ k W, ¬ sa_RP T L k W) → ∀ bU, post 10 (eK, eP, eS, nI L, bC, bT, bP, bI, bN, bU, bR)) : wpY_repair post (eK, eP, eS, nI L, bC, bT, bP, bI, bN, bU, bR) := by
  unfold wpY_repair
  dsimp only
  refine ya_findRepaired hL hT hT4 (fun k W bU R hU => ?_) (fun hn bU => ?_)
  · dsimp only
    refine br_f (by decide) (yw_wordToTray hU hT ?_)
    dsimp only
    have H := h k W bU R
    rcases R with ⟨l, _, rfl, _⟩ | ⟨l, g, g1, g2, g3, rfl, _⟩ | ⟨l, g, g1, g2, g3, rfl, _⟩
    · subst l
      exact br_t rfl H
    · subst l
      exact br_f (by decide) (br_t rfl H)
    · subst l
      exact br_f (by decide) (br_f (by decide) H)
  · dsimp only
    exact br_t rfl (h0 hn bU)
/-! delivery -/
theorem ya_de99 {post : Int32 → SY → Prop} {s v : Nat} {W P : Nat → Nat} (hs : s < 16) (hv : v < 4096) (hW : ∀ j, W j < 4) (hR : ∀ j, j < 14 → bR j = nI (W j)) (hU : ∀ j, j < 14 → bU j = nI (sw_w s v (sw_n s v) j))
    (h1 : sa_pr s v W → post (sa_D3 P s v).1 (eK, eP, eS, eL, bC, bT, fun j => zx_P ((sa_D3 P s v).2 j), bI, bN, bU, bR)) (h0 : ¬ sa_pr s v W → post 20 (eK, eP, eS, eL, bC, bT, fun j => zx_P (P j), bI, bN, bU, bR)) :
    ∀ (n i : Nat), 8 ≤ i → i ≤ 14 → 14 < n + i → (∀ j, j < i → 8 ≤ j → W j = sw_w s v (sw_n s v) j) → wY_deliver_99 post (nI s) (nI v) eK eP eS eL bC bT (fun j => zx_P (P j)) bI bN bU bR n (nI i) := by
  intro n
  induction n with
  | zero => intro i a b c; omega
  | succ n ih =>
    intro i a b c d
    refine pk_le 14 i (fun z => ?_) (fun z => ?_)
    · have h := h1 (fun j j1 j2 => d j (by omega) j2)
      rw [nI_clamp (by omega)]
      refine ⟨vp_in_nI hs (by decide), zx_lt0 (fun c => ⟨vp_in_nI hs (by decide), ?_⟩) (fun c => ⟨vp_in_nI hs (by decide), ?_⟩)⟩
      · unfold sa_D3 at h
        rw [if_pos c] at h
        dsimp only
        rw [zx_lt c]
        refine pk_eq (P s) v (fun c2 => ?_) (fun c2 => ?_)
        · rw [if_pos c2] at h; exact h
        · rw [if_neg c2] at h; exact h
      · unfold sa_D3 at h
        rw [if_neg c] at h
        exact nm_r (sa_upP hv) h
    · refine ⟨vp_in_nI (by omega) (by decide), vp_in_nI (by omega) (by decide), ?_⟩
      rw [nI_clamp (by omega), hU i z, hR i z]
      have l1 := hW i
      have l2 := sw_w_lt s v (sw_n s v) i
      refine pk_eq (sw_w s v (sw_n s v) i) (W i) (fun c2 => ?_) (fun c2 => ?_)
      · refine nm_r (nI_1 i) (ih (i + 1) (by omega) (by omega) (by omega) (fun j j1 j2 => ?_))
        by_cases c3 : j = i
        · rw [c3, c2]
        · exact d j (by omega) j2
      · exact h0 (fun q => c2 (q i z a).symm)
theorem ya_de56 {post : Int32 → SY → Prop} {s K p : Nat} {W P : Nat → Nat} (hs : s < 16) (hR : ∀ j, j < 14 → bR j = nI (W j)) (hW : ∀ j, W j < 4) (hK : K ≤ 12) (hp : p ≤ 3)
    (h : ∀ bU, post (sa_D2 K p P s (sa_py W 6) W).1 (nI K, nI p, eS, eL, bC, bT, fun j => zx_P ((sa_D2 K p P s (sa_py W 6) W).2 j), bI, bN, bU, bR)) :
    ∀ (n i : Nat), i ≤ 6 → 6 < n + i → wY_deliver_56 post (nI s) (nI K) (nI p) eS eL bC bT (fun j => zx_P (P j)) bI bN bU bR n (nI (sa_py W i)) (nI (i + 2)) := by
  intro n
  induction n with
  | zero => intro i h1 h2; omega
  | succ n ih =>
    intro i h1 h2
    refine pk_le 8 (i + 2) (fun c => ?_) (fun c => ?_)
    · have e : i = 6 := by omega
      subst e
      have hv : sa_py W 6 < 4096 := sa_py_lt hW 6
      unfold sa_D2 at h
      refine yw_inUse hK hp (fun s' s1 s2 s3 => br_f (by decide) ?_) (fun hn => br_t rfl ?_)
      · have e : s' = s := ((nI_eq (by omega) (by omega)).mp s2).symm
        rw [e] at s3
        rw [sa_if_t s3] at h
        refine yw_layStrandWord hs hv (fun bU hU => ⟨7, ?_⟩)
        refine ya_de99 hs hv hW hR hU (fun q => ?_) (fun q => ?_) 7 8 (by decide) (by decide) (by decide) (fun j a b => by omega)
        · rw [sa_if_t q] at h
          exact h bU
        · rw [sa_if_f q] at h
          exact h bU
      · rw [sa_if_f (hn s hs rfl)] at h
        exact h bU
    · refine ⟨vp_in_nI (by omega) (by decide), ?_⟩
      rw [nI_clamp (by omega), hR (i + 2) (by omega), zd_4m, nI_add, Nat.mul_comm 4]
      exact nm_e (nm_r (nI_1 (i + 2)) (ih (i + 1) (by omega) (by omega)))
theorem ya_de12 {post : Int32 → SY → Prop} {K p : Nat} {W P : Nat → Nat} (hU : ∀ j, j < 14 → bU j = nI (W j)) (hW : ∀ j, W j < 4) (hK : K ≤ 12) (hp : p ≤ 3)
    (h : ∀ bU bR, post (sa_D2 K p P (4 * W 0 + W 1) (sa_py W 6) W).1 (nI K, nI p, eS, eL, bC, bT, fun j => zx_P ((sa_D2 K p P (4 * W 0 + W 1) (sa_py W 6) W).2 j), bI, bN, bU, bR)) :
    ∀ (n i : Nat) (bR : Nat → Int32), i ≤ 14 → 14 < n + i → (∀ j, j < i → bR j = nI (W j)) → wY_deliver_12 post (nI K) (nI p) eS eL n (nI i) bC bT (fun j => zx_P (P j)) bI bN bU bR := by
  intro n
  induction n with
  | zero => intro i bR h1 h2; omega
  | succ n ih =>
    intro i bR h1 h2 hR
    refine pk_le 14 i (fun c => ?_) (fun c => ?_)
    · have w0 := hW 0
      have w1 := hW 1
      rw [hR 0 (by omega), hR 1 (by omega), zd_4m, nI_add]
      refine nm_e ⟨7, ?_⟩
      exact ya_de56 (by omega) (fun j hj => hR j (by omega)) hW hK hp (fun bU => h bU bR) 7 0 (by decide) (by decide)
    · refine ⟨vp_in_nI (by omega) (by decide), vp_in_nI (by omega) (by decide), ?_⟩
      rw [nI_clamp (by omega), hU i c]
      refine nm_e (nm_r (nI_1 i) (ih (i + 1) _ (by omega) (by omega) (fun j hj => ?_)))
      by_cases c2 : j = i
      · subst c2; exact pk_us
      · rw [pk_un c2]; exact hR j (by omega)
theorem ya_deliver {post : Int32 → SY → Prop} {T P : Nat → Nat} {L K p : Nat} (hL : L ≤ 16) (hT : ∀ j, bT j = nI (T j)) (hT4 : ∀ j, T j < 4) (hK : K ≤ 12) (hp : p ≤ 3)
    (h : ∀ k W bU bR, sa_RP T L k W → post (sa_D2 K p P (4 * W 0 + W 1) (sa_py W 6) W).1 (nI K, nI p, eS, nI L, bC, bT, fun j => zx_P ((sa_D2 K p P (4 * W 0 + W 1) (sa_py W 6) W).2 j), bI, bN, bU, bR))
    (h0 : (∀ k W, ¬ sa_RP T L k W) → ∀ bU, post 10 (nI K, nI p, eS, nI L, bC, bT, fun j => zx_P (P j), bI, bN, bU, bR)) : wpY_deliver post (nI K, nI p, eS, nI L, bC, bT, fun j => zx_P (P j), bI, bN, bU, bR) := by
  unfold wpY_deliver
  dsimp only
  refine ya_findRepaired hL hT hT4 (fun k W bU R hU => ?_) (fun hn bU => ?_)
  · dsimp only
    refine br_f (by decide) ⟨15, ?_⟩
    exact ya_de12 hU (sa_RP_4 hT4 R).1 hK hp (fun bU bR => h k W bU bR R) 15 0 bR (by decide) (by decide) (fun j hj => absurd hj (Nat.not_lt_zero j))
  · dsimp only
    exact br_t rfl (h0 hn bU)
end YA
end
section
/-! the reference: status and reading -/
section YQ
variable {eK eP eS eL : Int32} {bC bT bP bI bN bU bR : Nat → Int32}
theorem yq_93 {post : Int32 → SY → Prop} {J : Int32 → (Nat → Int32) → (Nat → Int32) → (Nat → Int32) → (Nat → Int32) → (Nat → Int32) → (Nat → Int32) → (Nat → Int32) → Prop} {P f : Nat → Nat} {K p c t : Nat} (hI : yw_TI bI) (hK : K ≤ 12) (hp : p ≤ 3) (hc : c < 3) (ht : t < 4096) (hN : ∀ j, j < K → bN j = nI (f j) ∧ f j < 16)
    (h1 : gf_ag P K p c f → post 1 (nI K, nI p, eS, eL, bC, bT, fun j => zx_P (P j), bI, bN, bU, bR)) (h0 : ¬ gf_ag P K p c f → J (nI (t + 1)) bC bT (fun j => zx_P (P j)) bI bN bU bR) :
    ∀ (d q : Nat) (x : Int32), q + d = 12 + p → 12 ≤ q → (x = 1 ∧ ∀ q', 12 ≤ q' → q' < q → P q' < 4096 → gf_px q' f K = gf_nib c (P q')) ∨ (x = 0 ∧ ¬ gf_ag P K p c f) →
    wY_solveColumn_93 post J (nI c) (nI t) (nI K) (nI p) eS eL bC bT (fun j => zx_P (P j)) bI bN bU bR (d + 1) x (nI q) := by
  intro d
  induction d with
  | zero =>
    intro q x hd hq hx
    rw [show q = 12 + p by omega] at hx ⊢
    refine br_t (by rw [zd_a12]; exact Int32.le_refl _) ?_
    rcases hx with ⟨rfl, hx⟩ | ⟨rfl, hx⟩
    · exact br_f (by decide) (h1 hx)
    · exact br_t rfl (nm_r (nI_1 t) (h0 hx))
  | succ d ih =>
    intro q x hd hq hx
    refine br_f (by rw [zd_a12]; exact nI_ge (by omega) (by omega)) ?_
    rcases hx with ⟨rfl, hx⟩ | ⟨rfl, hx⟩
    · refine br_f (by decide) ⟨vp_in_nI (by omega) (by decide), ?_⟩
      rw [nI_clamp (by omega)]
      refine zx_lt0 (fun z => ?_) (fun z => ?_)
      · refine yw_parityNibble hI (by omega) hq hK hN ⟨vp_in_nI (by omega) (by decide), ?_⟩
        dsimp only
        rw [zx_lt z]
        refine yw_nibble hc z ?_
        have b2 := gf_nib_lt (c := c) z
        by_cases e : gf_px q f K = gf_nib c (P q)
        · refine br_t (congrArg nI e) (nm_r (nI_1 q) (ih (q + 1) 1 (by omega) (by omega) (Or.inl ⟨rfl, fun q' a b z => ?_⟩)))
          by_cases e2 : q' = q
          · rw [e2]; exact e
          · exact hx q' a (by omega) z
        · have b1 : gf_px q f K < 16 := by
            unfold gf_px
            have X : ∀ (F : Nat → Nat) n, (∀ i, F i < 16) → gf_XR F n < 16 := fun F n hF => by
              induction n with
              | zero => exact (by decide : 0 < 16)
              | succ n ih => exact gf_x16 ih (hF n)
            exact X _ _ (fun i => gf_m_lt _ _)
          refine br_f (fun w => e ((nI_eq (by omega) (by omega)).mp w)) (nm_r (nI_1 q) (ih (q + 1) 0 (by omega) (by omega) (Or.inr ⟨rfl, fun w => e (w q hq (by omega) z)⟩)))
      · refine nm_r (nI_1 q) (ih (q + 1) 1 (by omega) (by omega) (Or.inl ⟨rfl, fun q' a b w => ?_⟩))
        by_cases e2 : q' = q
        · rw [e2] at w; exact absurd w z
        · exact hx q' a (by omega) w
    · exact br_t rfl (nm_r (nI_1 q) (ih (q + 1) 0 (by omega) (by omega) (Or.inr ⟨rfl, hx⟩)))
theorem yq_17 {post : Int32 → SY → Prop} {J : Int32 → (Nat → Int32) → (Nat → Int32) → (Nat → Int32) → (Nat → Int32) → (Nat → Int32) → (Nat → Int32) → (Nat → Int32) → Prop} {P : Nat → Nat} {K p c t : Nat} (hI : yw_TI bI) (hK : K ≤ 12) (hp : p ≤ 3) (hc : c < 3) (ht : t < 4096)
    (h1 : t < 16 ^ (gf_ls P K).length → gf_ag P K p c (gf_ft P c t) → ∀ bN, (∀ j, j < K → bN j = nI (gf_ft P c t j)) → post 1 (nI K, nI p, eS, eL, bC, bT, fun j => zx_P (P j), bI, bN, bU, bR))
    (h0 : t < 16 ^ (gf_ls P K).length → ¬ gf_ag P K p c (gf_ft P c t) → ∀ bN, J (nI (t + 1)) bC bT (fun j => zx_P (P j)) bI bN bU bR)
    (h2 : ¬ t < 16 ^ (gf_ls P K).length → ∀ bN, post 0 (nI K, nI p, eS, eL, bC, bT, fun j => zx_P (P j), bI, bN, bU, bR)) :
    ∀ (n i z : Nat) (bN : Nat → Int32), z = t / 16 ^ (gf_ls P i).length → i ≤ K → K < n + i → (∀ j, j < i → bN j = nI (gf_ft P c t j)) →
    wY_solveColumn_17 post J (nI c) (nI t) 1 (nI K) (nI p) eS eL n (nI z) (nI i) bC bT (fun j => zx_P (P j)) bI bN bU bR := by
  intro n
  induction n with
  | zero => intro i z bN hz a b; omega
  | succ n ih =>
    intro i z bN hz a b hN
    have zt : z ≤ t := by rw [hz]; exact Nat.div_le_self _ _
    refine pk_le K i (fun c1 => ?_) (fun c1 => ?_)
    · rw [show i = K by omega] at hz hN
      refine pk_le z 0 (fun c2 => ?_) (fun c2 => ?_)
      · have hlt : t < 16 ^ (gf_ls P K).length := by
          apply Nat.lt_of_not_le
          intro q
          have := Nat.div_pos q (Nat.pow_pos (n := (gf_ls P K).length) (show 0 < 16 by decide))
          omega
        exact ⟨p + 1, yq_93 (f := gf_ft P c t) hI hK hp hc ht (fun j hj => ⟨hN j hj, gf_ft_lt⟩) (fun q => h1 hlt q _ hN) (fun q => h0 hlt q _) p 12 1 rfl (by decide) (Or.inl ⟨rfl, fun q' x y => by omega⟩)⟩
      · refine h2 (fun q => ?_) _
        rw [Nat.div_eq_of_lt q] at hz
        omega
    · rw [nI_clamp (by omega)]
      refine ⟨vp_in_nI (by omega) (by decide), zx_le0 (fun c2 => ?_) (fun c2 => ?_)⟩
      · refine ⟨vp_in_nI (by omega) (by decide), ?_⟩
        dsimp only
        rw [zx_lt c2]
        refine yw_nibble hc c2 ?_
        unfold wY_solveColumn_61
        rw [nI_clamp (by omega)]
        refine ⟨vp_in_nI (by omega) (by decide), nm_e ⟨vp_in_nI (by omega) (by decide), ?_⟩⟩
        refine br_t (by show 0 ≤ zx_P (P i); rw [zx_lt c2]; exact nI_pos' (by omega)) (nm_r (nI_1 i) (ih (i + 1) z _ (by rw [gf_ls_h c2]; exact hz) (by omega) (by omega) (fun j hj => ?_)))
        by_cases c3 : j = i
        · subst c3
          rw [pk_us]
          unfold gf_ft
          rw [if_pos c2]
        · rw [pk_un c3]; exact hN j (by omega)
      · refine ⟨by decide, ?_⟩
        rw [zd_r16 (by omega)]
        unfold wY_solveColumn_61
        rw [nI_clamp (by omega)]
        refine ⟨vp_in_nI (by omega) (by decide), nm_e ⟨vp_in_nI (by omega) (by decide), ?_⟩⟩
        refine br_f (by show ¬ 0 ≤ zx_P (P i); rw [zx_ge c2]; decide) ⟨by decide, ?_⟩
        rw [zd_d16 (by omega)]
        refine nm_e (nm_r (nI_1 i) (ih (i + 1) _ _ ?_ (by omega) (by omega) (fun j hj => ?_)))
        · rw [gf_ls_n c2, gf_len_app, hz, Nat.pow_succ, Nat.div_div_eq_div_mul]
        · by_cases c3 : j = i
          · subst c3
            rw [pk_us]
            unfold gf_ft
            rw [if_neg c2, hz]
          · rw [pk_un c3]; exact hN j (by omega)
theorem yq_2 {post : Int32 → SY → Prop} {P : Nat → Nat} {K p c : Nat} (hI : yw_TI bI) (hK : K ≤ 12) (hp : p ≤ 3) (hc : c < 3) (hn : (gf_ls P K).length ≤ 3)
    (h1 : ∀ t bN, gf_ag P K p c (gf_ft P c t) → (∀ j, j < K → bN j = nI (gf_ft P c t j)) → post 1 (nI K, nI p, eS, eL, bC, bT, fun j => zx_P (P j), bI, bN, bU, bR))
    (h0 : (∀ t, t < 16 ^ (gf_ls P K).length → ¬ gf_ag P K p c (gf_ft P c t)) → ∀ bN, post 0 (nI K, nI p, eS, eL, bC, bT, fun j => zx_P (P j), bI, bN, bU, bR)) :
    ∀ (d t : Nat) (bN : Nat → Int32), t + d = 4096 → (∀ t', t' < t → ¬ gf_ag P K p c (gf_ft P c t')) →
    wY_solveColumn_2 post (nI c) (nI K) (nI p) eS eL (d + 1) (nI t) bC bT (fun j => zx_P (P j)) bI bN bU bR := by
  have hpow : 16 ^ (gf_ls P K).length ≤ 4096 := Nat.pow_le_pow_right (by decide) hn
  intro d
  induction d with
  | zero =>
    intro t bN hd ha
    rw [show t = 4096 by omega] at ha ⊢
    exact br_t (by decide) (h0 (fun t' ht => ha t' (by omega)) bN)
  | succ d ih =>
    intro t bN hd ha
    refine br_f (nI_ge (b := 4096) (by omega) (by decide)) ⟨K + 1, ?_⟩
    refine yq_17 hI hK hp hc (by omega) (fun _ q bN hN => h1 t bN q hN) (fun _ q bN => ih (t + 1) bN (by omega) (fun t' ht' => ?_)) (fun q bN => h0 (fun t' ht' => ha t' (by omega)) bN) (K + 1) 0 t bN ?_ (by omega) (by omega) (fun j hj => absurd hj (Nat.not_lt_zero j))
    · by_cases e : t' = t
      · rw [e]; exact q
      · exact ha t' (by omega)
    · show t = t / 16 ^ 0
      rw [Nat.pow_zero, Nat.div_one]
theorem yq_solve {post : Int32 → SY → Prop} {P : Nat → Nat} {K p c : Nat} (hI : yw_TI bI) (hK : K ≤ 12) (hp : p ≤ 3) (hc : c < 3) (hlen : (gf_ls P K).length ≤ (gf_ps P p).length)
    (h1 : gf_ag P K p c (fun i => gf_nib c (gf_vF P K (gf_ps P p) i)) → ∀ bN, (∀ j, j < K → bN j = nI (gf_nib c (gf_vF P K (gf_ps P p) j))) → post 1 (nI K, nI p, eS, eL, bC, bT, fun j => zx_P (P j), bI, bN, bU, bR))
    (h0 : ¬ gf_ag P K p c (fun i => gf_nib c (gf_vF P K (gf_ps P p) i)) → ∀ bN, post 0 (nI K, nI p, eS, eL, bC, bT, fun j => zx_P (P j), bI, bN, bU, bR)) :
    wpY_solveColumn post (nI K, nI p, eS, eL, bC, bT, fun j => zx_P (P j), bI, bN, bU, bR) (nI c) := by
  have l2 := gf_ps_len P p
  refine ⟨4097, yq_2 hI hK hp hc (by omega) (fun t bN a hN => ?_) (fun hn bN => ?_) 4096 0 bN (by decide) (fun t' ht' => absurd ht' (Nat.not_lt_zero t'))⟩
  · have u := gf_col_u hK hp hlen a
    refine h1 (gf_ag_e u a) bN (fun j hj => ?_)
    rw [hN j hj, u j hj]
  · refine h0 (fun a => ?_) bN
    obtain ⟨t, t1, t2⟩ := gf_col_t (P := P) (K := K) (gf_ps P p) c (by omega)
    exact hn t t1 (gf_ag_e (fun i hi => (t2 i hi).symm) a)
/-! counting -/
theorem yq_m1 (a b : Nat) : (nI a - nI b) + (-1) = nI a - nI (b + 1) := by
  rw [← nI_1 b]
  grind
theorem yq_p1 (a b : Nat) : (nI a - nI b) + 1 = nI (a + 1) - nI b := by
  rw [← nI_1 a]
  grind
theorem yq_71 {post : Int32 → SY → Prop} {P : Nat → Nat} {K p : Nat} (hI : yw_TI bI) (hK : K ≤ 12) (hp : p ≤ 3) (hlen : (gf_ls P K).length ≤ (gf_ps P p).length)
    (h31 : gf_AP P K p → ∀ bN, post 31 (nI K, nI p, eS, eL, bC, bT, fun j => zx_P (P j), bI, bN, bU, bR)) (h32 : ¬ gf_AP P K p → ∀ bN, post 32 (nI K, nI p, eS, eL, bC, bT, fun j => zx_P (P j), bI, bN, bU, bR)) :
    ∀ (d c : Nat) (bN : Nat → Int32), c + d = 3 → (∀ c', c' < c → gf_ag P K p c' (fun i => gf_nib c' (gf_vF P K (gf_ps P p) i))) → wY_status_71 post (d + 1) (nI c) (nI K) (nI p) eS eL bC bT (fun j => zx_P (P j)) bI bN bU bR := by
  intro d
  induction d with
  | zero =>
    intro c bN hd ha
    rw [show c = 3 by omega] at ha ⊢
    exact br_t (by decide) (h31 (gf_AP_iff.mpr ha) bN)
  | succ d ih =>
    intro c bN hd ha
    refine br_f (nI_ge (b := 3) (by omega) (by decide)) ?_
    refine yq_solve hI hK hp (by omega) hlen (fun a bN hN => ?_) (fun a bN => ?_)
    · dsimp only
      refine br_f (by decide) (nm_r (nI_1 c) (ih (c + 1) bN (by omega) (fun c' hc' => ?_)))
      by_cases e : c' = c
      · rw [e]; exact a
      · exact ha c' (by omega)
    · dsimp only
      exact br_t rfl (h32 (fun q => a (gf_AP_iff.mp q c (by omega))) bN)
theorem yq_33 {post : Int32 → SY → Prop} {P : Nat → Nat} {K p : Nat} (hK : K ≤ 12) (hp : p ≤ 3)
    (h30 : ¬ (gf_ls P K).length ≤ (gf_ps P p).length → post 30 (nI K, nI p, eS, eL, bC, bT, fun j => zx_P (P j), bI, bN, bU, bR)) (h : (gf_ls P K).length ≤ (gf_ps P p).length → wY_status_71 post 4 0 (nI K) (nI p) eS eL bC bT (fun j => zx_P (P j)) bI bN bU bR) :
    ∀ (d i : Nat), i + d = p → wY_status_33 post (nI K) (nI p) eS eL bC bT (fun j => zx_P (P j)) bI bN bU bR (d + 1) (nI (gf_ps P i).length - nI (gf_ls P K).length) (nI (12 + i)) := by
  have l1 := gf_ls_len P K
  intro d
  induction d with
  | zero =>
    intro i hd
    rw [show i = p by omega]
    have l2 := gf_ps_len P p
    refine br_t (by rw [zd_a12]; exact Int32.le_refl _) ?_
    by_cases c : (gf_ls P K).length ≤ (gf_ps P p).length
    · refine br_t ?_ ⟨4, h c⟩
      rw [pk_sub c]
      exact nI_pos' (by omega)
    · refine br_f (fun q => ?_) (h30 c)
      have := pk_sneg (a := (gf_ps P p).length) (b := (gf_ls P K).length) (by omega) (by omega)
      exact absurd this (Int32.not_lt.mpr q)
  | succ d ih =>
    intro i hd
    refine br_f (by rw [zd_a12]; exact nI_ge (by omega) (by omega)) ⟨vp_in_nI (by omega) (by decide), ?_⟩
    rw [nI_clamp (by omega)]
    have ih' := ih (i + 1) (by omega)
    refine zx_lt0 (fun c => ?_) (fun c => ?_)
    · rw [gf_ps_h c, gf_len_app] at ih'
      exact nm_r (yq_p1 _ _) (nm_r (nI_1 _) ih')
    · rw [gf_ps_n c] at ih'
      exact nm_r (nI_1 _) ih'
theorem yq_4 {post : Int32 → SY → Prop} {P : Nat → Nat} {K p : Nat} (hK : K ≤ 12) (hp : p ≤ 3) (h : wY_status_33 post (nI K) (nI p) eS eL bC bT (fun j => zx_P (P j)) bI bN bU bR (p + 1) (nI 0 - nI (gf_ls P K).length) 12) :
    ∀ (d i : Nat), i + d = K → wY_status_4 post (nI K) (nI p) eS eL bC bT (fun j => zx_P (P j)) bI bN bU bR (d + 1) (nI 0 - nI (gf_ls P i).length) (nI i) := by
  intro d
  induction d with
  | zero =>
    intro i hd
    rw [show i = K by omega]
    exact br_t (Int32.le_refl _) ⟨p + 1, h⟩
  | succ d ih =>
    intro i hd
    refine br_f (nI_ge (by omega) (by omega)) ⟨vp_in_nI (by omega) (by decide), ?_⟩
    rw [nI_clamp (by omega)]
    have ih' := ih (i + 1) (by omega)
    refine zx_le0 (fun c => ?_) (fun c => ?_)
    · rw [gf_ls_h c] at ih'
      exact nm_r (nI_1 _) ih'
    · rw [gf_ls_n c, gf_len_app] at ih'
      exact nm_r (yq_m1 _ _) (nm_r (nI_1 _) ih')
theorem yq_status {post : Int32 → SY → Prop} {P : Nat → Nat} {K p : Nat} (hI : yw_TI bI) (hK : K ≤ 12) (hp : p ≤ 3)
    (h30 : ¬ (gf_ls P K).length ≤ (gf_ps P p).length → post 30 (nI K, nI p, eS, eL, bC, bT, fun j => zx_P (P j), bI, bN, bU, bR))
    (h31 : (gf_ls P K).length ≤ (gf_ps P p).length → gf_AP P K p → ∀ bN, post 31 (nI K, nI p, eS, eL, bC, bT, fun j => zx_P (P j), bI, bN, bU, bR))
    (h32 : (gf_ls P K).length ≤ (gf_ps P p).length → ¬ gf_AP P K p → ∀ bN, post 32 (nI K, nI p, eS, eL, bC, bT, fun j => zx_P (P j), bI, bN, bU, bR)) : wpY_status post (nI K, nI p, eS, eL, bC, bT, fun j => zx_P (P j), bI, bN, bU, bR) := by
  refine ⟨K + 1, ?_⟩
  have h33 := yq_33 (post := post) (P := P) (K := K) (p := p) (eS := eS) (eL := eL) (bC := bC) (bT := bT) (bI := bI) (bN := bN) (bU := bU) (bR := bR) hK hp h30 (fun c => yq_71 hI hK hp c (h31 c) (h32 c) 3 0 bN (by decide) (fun c' hc' => absurd hc' (Nat.not_lt_zero c'))) p 0 (by omega)
  have h4 := yq_4 hK hp h33 K 0 (by omega)
  have e : nI 0 - nI (gf_ls P 0).length = (0 : Int32) := by
    show nI 0 - nI 0 = 0
    decide
  rw [e] at h4
  exact h4
theorem yq_27 {post : Int32 → SY → Prop} {P : Nat → Nat} {K p x : Nat} (hI : yw_TI bI) (hK : K ≤ 12) (hp : p ≤ 3) (hx : x < K) (hlen : (gf_ls P K).length ≤ (gf_ps P p).length) (hA : gf_AP P K p) {n v c : Nat} (hc : c < 3)
    (h : ∀ bN, wY_read_27 post (nI x) n (nI (16 * v + gf_nib c (gf_vF P K (gf_ps P p) x))) (nI (c + 1)) (nI K) (nI p) eS eL bC bT (fun j => zx_P (P j)) bI bN bU bR) : wY_read_27 post (nI x) (n + 1) (nI v) (nI c) (nI K) (nI p) eS eL bC bT (fun j => zx_P (P j)) bI bN bU bR := by
  refine br_f (nI_ge (b := 3) hc (by decide)) ?_
  refine yq_solve hI hK hp hc hlen (fun a bN hN => ?_) (fun a => absurd (gf_AP_iff.mp hA c hc) a)
  dsimp only
  refine br_f (by decide) ⟨vp_in_nI (by omega) (by decide), ?_⟩
  rw [nI_clamp (by omega), hN x hx, zd_16m, nI_add]
  exact nm_e (nm_r (nI_1 c) (h bN))
theorem yq_read {post : Int32 → SY → Prop} {P : Nat → Nat} {K p : Nat} {x : Int32} (hI : yw_TI bI) (hK : K ≤ 12) (hp : p ≤ 3)
    (hm : (x < 0 ∨ nI K ≤ x) → post (-1) (nI K, nI p, eS, eL, bC, bT, fun j => zx_P (P j), bI, bN, bU, bR))
    (h0 : ∀ y, y < K → x = nI y → ¬ ((gf_ls P K).length ≤ (gf_ps P p).length ∧ gf_AP P K p) → ∀ bN, post (-1) (nI K, nI p, eS, eL, bC, bT, fun j => zx_P (P j), bI, bN, bU, bR))
    (h1 : ∀ y, y < K → x = nI y → (gf_ls P K).length ≤ (gf_ps P p).length → gf_AP P K p → ∀ bN, post (nI (gf_vF P K (gf_ps P p) y)) (nI K, nI p, eS, eL, bC, bT, fun j => zx_P (P j), bI, bN, bU, bR)) :
    wpY_read post (nI K, nI p, eS, eL, bC, bT, fun j => zx_P (P j), bI, bN, bU, bR) x := by
  unfold wpY_read
  dsimp only
  refine br_c (fun c => hm (Or.inl c)) (fun c => br_c (fun c2 => hm (Or.inr c2)) (fun c2 => ?_))
  obtain ⟨y, hy, rfl⟩ := nI_of c
  rw [nI_leI (by omega) hy] at c2
  have hy2 : y < K := by omega
  refine yq_status hI hK hp (fun q => ?_) (fun q a bN => ?_) (fun q a bN => ?_)
  · dsimp only
    exact br_f (by decide) (h0 y hy2 rfl (fun z => q z.1) bN)
  · dsimp only
    have b := gf_vF_lt P K (gf_ps P p) y
    refine br_t rfl ⟨4, yq_27 (v := 0) (c := 0) hI hK hp hy2 q a (by decide) (fun bN => yq_27 (c := 1) hI hK hp hy2 q a (by decide) (fun bN => yq_27 (c := 2) hI hK hp hy2 q a (by decide) (fun bN => ?_)))⟩
    have e : 16 * (16 * (16 * 0 + gf_nib 0 (gf_vF P K (gf_ps P p) y)) + gf_nib 1 (gf_vF P K (gf_ps P p) y)) + gf_nib 2 (gf_vF P K (gf_ps P p) y) = gf_vF P K (gf_ps P p) y := by
      have e0 : ∀ z, gf_nib 0 z = z / 256 := fun _ => rfl
      have e1 : ∀ z, gf_nib 1 z = z / 16 % 16 := fun _ => rfl
      have e2 : ∀ z, gf_nib 2 z = z % 16 := fun _ => rfl
      rw [e0, e1, e2]
      omega
    rw [e]
    exact br_t (by decide) (h1 y hy2 rfl q a bN)
  · dsimp only
    exact br_f (by decide) (h0 y hy2 rfl (fun z => a z.2) bN)
end YQ
end
section
/-! the relation -/
section RL
def zr_F (K p L : Nat) (C T : Nat → Nat) (aW aL aF bI : Nat → Int32) : Prop :=
  2 ≤ K ∧ K ≤ 12 ∧ p ≤ 3 ∧ L ≤ 16 ∧ (∀ j, C j < 4096) ∧ (∀ j, T j < 4) ∧ xw_TW aW ∧ xw_TL aL ∧ (∀ d, d ≤ 6 → xw_lv aF d) ∧ yw_TI bI
def i_Rel (k : Nat) (u : SX) (v : SY) : Prop :=
  ∃ (K p L : Nat) (C T P : Nat → Nat) (dS gS gO gM gF gT gC gH : Int32) (aW aL aF aU aR aS aV aO aQ aY bI bN bU bR : Nat → Int32), zr_F K p L C T aW aL aF bI ∧
    u = (nI K, nI p, dS, nI L, gS, gO, gM, gF, gT, gC, gH, (fun j => nI (C j)), (fun j => nI (T j)), (fun j => zx_P (P j)), aW, aL, aF, aU, aR, aS, aV, aO, aQ, aY) ∧
    v = (nI K, nI p, dS, nI L, (fun j => nI (C j)), (fun j => nI (T j)), (fun j => zx_P (P j)), bI, bN, bU, bR)
theorem zr_el {Q : SX → SY → Prop} {k : Nat} {u : SX} {v : SY} (I : i_Rel k u v)
    (h : ∀ (K p L : Nat) (C T P : Nat → Nat) (dS gS gO gM gF gT gC gH : Int32) (aW aL aF aU aR aS aV aO aQ aY bI bN bU bR : Nat → Int32), zr_F K p L C T aW aL aF bI →
      Q (nI K, nI p, dS, nI L, gS, gO, gM, gF, gT, gC, gH, (fun j => nI (C j)), (fun j => nI (T j)), (fun j => zx_P (P j)), aW, aL, aF, aU, aR, aS, aV, aO, aQ, aY) (nI K, nI p, dS, nI L, (fun j => nI (C j)), (fun j => nI (T j)), (fun j => zx_P (P j)), bI, bN, bU, bR)) : Q u v :=
  Exists.elim I (fun K h1 => Exists.elim h1 (fun p h2 => Exists.elim h2 (fun L h3 => Exists.elim h3 (fun C h4 => Exists.elim h4 (fun T h5 => Exists.elim h5 (fun P h6 => Exists.elim h6 (fun dS h7 => Exists.elim h7 (fun gS h8 => Exists.elim h8 (fun gO h9 => Exists.elim h9 (fun gM h10 => Exists.elim h10 (fun gF h11 => Exists.elim h11 (fun gT h12 => Exists.elim h12 (fun gC h13 => Exists.elim h13 (fun gH h14 => Exists.elim h14 (fun aW h15 => Exists.elim h15 (fun aL h16 => Exists.elim h16 (fun aF h17 => Exists.elim h17 (fun aU h18 => Exists.elim h18 (fun aR h19 => Exists.elim h19 (fun aS h20 => Exists.elim h20 (fun aV h21 => Exists.elim h21 (fun aO h22 => Exists.elim h22 (fun aQ h23 => Exists.elim h23 (fun aY h24 => Exists.elim h24 (fun bI h25 => Exists.elim h25 (fun bN h26 => Exists.elim h26 (fun bU h27 => Exists.elim h27 (fun bR h28 =>  by rw [h28.2.1, h28.2.2]; exact h K p L C T P dS gS gO gM gF gT gC gH aW aL aF aU aR aS aV aO aQ aY bI bN bU bR h28.1))))))))))))))))))))))))))))
theorem zr_in {k K p L : Nat} {C T P : Nat → Nat} {dS gS gO gM gF gT gC gH : Int32} {aW aL aF aU aR aS aV aO aQ aY bI bN bU bR : Nat → Int32} (h : zr_F K p L C T aW aL aF bI) :
    i_Rel k (nI K, nI p, dS, nI L, gS, gO, gM, gF, gT, gC, gH, (fun j => nI (C j)), (fun j => nI (T j)), (fun j => zx_P (P j)), aW, aL, aF, aU, aR, aS, aV, aO, aQ, aY) (nI K, nI p, dS, nI L, (fun j => nI (C j)), (fun j => nI (T j)), (fun j => zx_P (P j)), bI, bN, bU, bR) :=
  ⟨K, p, L, C, T, P, dS, gS, gO, gM, gF, gT, gC, gH, aW, aL, aF, aU, aR, aS, aV, aO, aQ, aY, bI, bN, bU, bR, h, rfl, rfl⟩
theorem i_up {k : Nat} {u : SX} {v : SY} (h : i_Rel k u v) : i_Rel (k + 3) u v := h
theorem zr_C {K p L : Nat} {C C' T : Nat → Nat} {aW aL aF bI : Nat → Int32} (h : zr_F K p L C T aW aL aF bI) (hC : ∀ j, C' j < 4096) : zr_F K p L C' T aW aL aF bI :=
  ⟨h.1, h.2.1, h.2.2.1, h.2.2.2.1, hC, h.2.2.2.2.2⟩
theorem zr_T {K p L L' : Nat} {C T T' : Nat → Nat} {aW aL aF bI : Nat → Int32} (h : zr_F K p L C T aW aL aF bI) (hL : L' ≤ 16) (hT : ∀ j, T' j < 4) : zr_F K p L' C T' aW aL aF bI :=
  ⟨h.1, h.2.1, h.2.2.1, hL, h.2.2.2.2.1, hT, h.2.2.2.2.2.2⟩
end RL
section IR
variable {dK dP dS dL gS gO gM gF gT gC gH : Int32} {aC aT aP aW aL aF aU aR aS aV aO aQ aY : Nat → Int32}
/-! putting in and taking out a symbol -/
def zi_sh (T : Nat → Nat) (i L : Nat) : Nat → Nat := fun j => if i < j ∧ j ≤ L then T (j - 1) else T j
def zi_pt (T : Nat → Nat) (i L s : Nat) : Nat → Nat := fun j => if j = i then s else zi_sh T i L j
def zi_rm (T : Nat → Nat) (i k : Nat) : Nat → Nat := fun j => if i ≤ j ∧ j < k then T (j + 1) else T j
theorem zi_sh0 (T : Nat → Nat) (L : Nat) : zi_sh T L L = T := by
  funext j
  exact if_neg (by omega)
theorem zi_rm0 (T : Nat → Nat) (i : Nat) : zi_rm T i i = T := by
  funext j
  exact if_neg (by omega)
theorem zi_shs {T : Nat → Nat} {i L : Nat} (h : i + 1 ≤ L) : upd (fun j => nI (zi_sh T (i + 1) L j)) (i + 1) (nI (zi_sh T (i + 1) L i)) = fun j => nI (zi_sh T i L j) := by
  funext j
  unfold upd zi_sh
  by_cases c : j = i + 1
  · subst c
    rw [if_pos rfl, if_neg (by omega), if_pos (by omega)]
    rfl
  · rw [if_neg c]
    dsimp only
    by_cases c2 : i + 1 < j ∧ j ≤ L
    · rw [if_pos c2, if_pos (by omega)]
    · rw [if_neg c2, if_neg (by omega)]
theorem zi_pts {T : Nat → Nat} {i L s : Nat} : upd (fun j => nI (zi_sh T i L j)) i (nI s) = fun j => nI (zi_pt T i L s j) := by
  funext j
  unfold upd zi_pt
  by_cases c : j = i
  · rw [if_pos c, if_pos c]
  · rw [if_neg c, if_neg c]
theorem zi_rms {T : Nat → Nat} {i k : Nat} (h : i ≤ k) : upd (fun j => nI (zi_rm T i k j)) k (nI (zi_rm T i k (k + 1))) = fun j => nI (zi_rm T i (k + 1) j) := by
  funext j
  unfold upd zi_rm
  by_cases c : j = k
  · subst c
    rw [if_pos rfl, if_neg (by omega), if_pos (by omega)]
  · rw [if_neg c]
    dsimp only
    by_cases c2 : i ≤ j ∧ j < k
    · rw [if_pos c2, if_pos (by omega)]
    · rw [if_neg c2, if_neg (by omega)]
theorem zi_pt4 {T : Nat → Nat} {i L s : Nat} (hT : ∀ j, T j < 4) (hs : s < 4) (j : Nat) : zi_pt T i L s j < 4 := by
  unfold zi_pt zi_sh
  split
  · exact hs
  · split <;> exact hT _
theorem zi_rm4 {T : Nat → Nat} {i k : Nat} (hT : ∀ j, T j < 4) (j : Nat) : zi_rm T i k j < 4 := by
  unfold zi_rm
  split <;> exact hT _
theorem zi_x37 {post : Int32 → SX → Prop} {T : Nat → Nat} {i L s : Nat} (hi : i ≤ L) (hL : L < 16) (h : post 1 (dK, dP, dS, nI (L + 1), gS, gO, gM, gF, gT, gC, gH, aC, fun j => nI (zi_pt T i L s j), aP, aW, aL, aF, aU, aR, aS, aV, aO, aQ, aY)) :
    ∀ d, i + d ≤ L → wX_insert_37 post (nI i) (nI s) dK dP dS (nI L) gS gO gM gF gT gC gH (d + 1) (nI (i + d)) aC (fun j => nI (zi_sh T (i + d) L j)) aP aW aL aF aU aR aS aV aO aQ aY := by
  intro d
  induction d with
  | zero =>
    intro hd
    refine br_t (Int32.le_refl _) ⟨vp_in_nI (by omega) (by decide), ?_⟩
    rw [nI_clamp (by omega)]
    exact nm_r zi_pts (nm_r (nI_1 L) h)
  | succ d ih =>
    intro hd
    refine br_f (nI_ge (by omega) (by omega)) ?_
    rw [zd_s1 (by omega)]
    refine ⟨vp_in_nI (by omega) (by decide), vp_in_nI (by omega) (by decide), ?_⟩
    rw [nI_clamp (by omega), nI_clamp (by omega)]
    exact nm_r (zi_shs (i := i + d) hd) (nm_r (pk_m1 (i + d)) (ih (by omega)))
theorem zi_x16 {post : Int32 → SX → Prop} {T : Nat → Nat} {i L : Nat} (hi : i < L) (hL : L ≤ 16) (h : post 1 (dK, dP, dS, nI (L - 1), gS, gO, gM, gF, gT, gC, gH, aC, fun j => nI (zi_rm T i (L - 1) j), aP, aW, aL, aF, aU, aR, aS, aV, aO, aQ, aY)) :
    ∀ d k, k + d + 1 = L → i ≤ k → wX_remove_16 post dK dP dS (nI L) gS gO gM gF gT gC gH (d + 1) (nI k) aC (fun j => nI (zi_rm T i k j)) aP aW aL aF aU aR aS aV aO aQ aY := by
  intro d
  induction d with
  | zero =>
    intro k hd hk
    rw [show L - 1 = k by omega] at h
    refine br_t (by rw [nI_1]; exact nI_le (by omega) (by omega)) (nm_r (zd_s1 (by omega)) ?_)
    rw [show L - 1 = k by omega]
    exact h
  | succ d ih =>
    intro k hd hk
    refine br_f (by rw [nI_1]; exact nI_ge (by omega) (by omega)) ?_
    rw [nI_1]
    refine ⟨vp_in_nI (by omega) (by decide), vp_in_nI (by omega) (by decide), ?_⟩
    rw [nI_clamp (by omega), nI_clamp (by omega)]
    exact nm_r (zi_rms hk) (nm_e (ih (k + 1) (by omega) (by omega)))
end IR
section IY
variable {eK eP eS eL : Int32} {bC bT bP bI bN bU bR : Nat → Int32}
theorem zi_y37 {post : Int32 → SY → Prop} {T : Nat → Nat} {i L s : Nat} (hi : i ≤ L) (hL : L < 16) (h : post 1 (eK, eP, eS, nI (L + 1), bC, fun j => nI (zi_pt T i L s j), bP, bI, bN, bU, bR)) :
    ∀ d, i + d ≤ L → wY_insert_37 post (nI i) (nI s) eK eP eS (nI L) (d + 1) (nI (i + d)) bC (fun j => nI (zi_sh T (i + d) L j)) bP bI bN bU bR := by
  intro d
  induction d with
  | zero =>
    intro hd
    refine br_t (Int32.le_refl _) ⟨vp_in_nI (by omega) (by decide), ?_⟩
    rw [nI_clamp (by omega)]
    exact nm_r zi_pts (nm_r (nI_1 L) h)
  | succ d ih =>
    intro hd
    refine br_f (nI_ge (by omega) (by omega)) ?_
    rw [zd_s1 (by omega)]
    refine ⟨vp_in_nI (by omega) (by decide), vp_in_nI (by omega) (by decide), ?_⟩
    rw [nI_clamp (by omega), nI_clamp (by omega)]
    exact nm_r (zi_shs (i := i + d) hd) (nm_r (pk_m1 (i + d)) (ih (by omega)))
theorem zi_y16 {post : Int32 → SY → Prop} {T : Nat → Nat} {i L : Nat} (hi : i < L) (hL : L ≤ 16) (h : post 1 (eK, eP, eS, nI (L - 1), bC, fun j => nI (zi_rm T i (L - 1) j), bP, bI, bN, bU, bR)) :
    ∀ d k, k + d + 1 = L → i ≤ k → wY_remove_16 post eK eP eS (nI L) (d + 1) (nI k) bC (fun j => nI (zi_rm T i k j)) bP bI bN bU bR := by
  intro d
  induction d with
  | zero =>
    intro k hd hk
    rw [show L - 1 = k by omega] at h
    refine br_t (by rw [zd_s1 (by omega)]; exact nI_le (by omega) (by omega)) (nm_r (zd_s1 (by omega)) ?_)
    rw [show L - 1 = k by omega]
    exact h
  | succ d ih =>
    intro k hd hk
    refine br_f (by rw [zd_s1 (by omega)]; exact nI_ge (by omega) (by omega)) ?_
    rw [nI_1]
    refine ⟨vp_in_nI (by omega) (by decide), vp_in_nI (by omega) (by decide), ?_⟩
    rw [nI_clamp (by omega), nI_clamp (by omega)]
    exact nm_r (zi_rms hk) (nm_e (ih (k + 1) (by omega) (by omega)))
end IY
end
section
/-! what is owed -/
section OW
theorem zo_clamp (x : Int32) (a b : Nat) (ha : a ≤ b) (hb : b < 2 ^ 31) : ∃ y : Nat, a ≤ y ∧ y ≤ b ∧ ((¬ nI a ≤ x → nI y = nI a) ∧ (nI a ≤ x → ¬ x ≤ nI b → nI y = nI b) ∧ (nI a ≤ x → x ≤ nI b → nI y = x)) := by
  by_cases c : nI a ≤ x
  · by_cases c2 : x ≤ nI b
    · have c3 : ¬ x < 0 := fun q => by
        have h1 := Int32.lt_of_le_of_lt c q
        exact nI_pos (by omega) h1
      obtain ⟨j, hj, rfl⟩ := nI_of c3
      rw [nI_leI (by omega) hj] at c
      rw [nI_leI hj hb] at c2
      exact ⟨j, c, c2, fun q => absurd (nI_le c hj) q, fun _ q => absurd (nI_le c2 hb) q, fun _ _ => rfl⟩
    · exact ⟨b, ha, Nat.le_refl _, fun q => absurd c q, fun _ _ => rfl, fun _ q => absurd q c2⟩
  · exact ⟨a, Nat.le_refl _, ha, fun _ => rfl, fun q => absurd q c, fun q => absurd q c⟩
theorem zo_p16 : zc_cp (fun _ => -1) (fun _ => 0) 16 = fun j => zx_P (if j < 16 then 4096 else 0) := by
  funext j
  unfold zc_cp
  by_cases h : j < 16
  · rw [if_pos h, if_pos h]; rfl
  · rw [if_neg h, if_neg h]; rfl
theorem zo_pP (P : Nat → Nat) : zc_cp (fun _ => -1) (fun j => zx_P (P j)) 16 = fun j => zx_P (if j < 16 then 4096 else P j) := by
  funext j
  unfold zc_cp
  by_cases h : j < 16
  · rw [if_pos h, if_pos h]; rfl
  · rw [if_neg h, if_neg h]
theorem i_vc0 (k0 : Int32) (k1 : Int32) : wpX_init (fun u => wpY_init (fun v => i_Rel 2 u v) k0 k1) k0 k1 := by
  obtain ⟨K, K1, K2, hK⟩ := zo_clamp k0 2 12 (by decide) (by decide)
  obtain ⟨p, _, p2, hp⟩ := zo_clamp k1 0 3 (by decide) (by decide)
  unfold wpX_init
  refine xw_clamp hK (xw_clamp hp (xw_fillField (fun aW aL hW hL => ?_)))
  dsimp only
  refine xw_fillFinishes (fun aF hF => ?_)
  dsimp only
  refine xw_forget ?_
  dsimp only
  refine yw_init hK hp (fun bI hI => ?_)
  rw [zo_p16]
  exact zr_in (L := 0) (C := fun _ => 0) (T := fun _ => 0) ⟨K1, K2, p2, by decide, fun _ => (by decide : 0 < 4096), fun _ => (by decide : 0 < 4), hW, hL, hF, hI⟩
theorem i_vc_write {k : Nat} {u : SX} {v : SY} (I : i_Rel k u v) (hk : k + 3 ≤ 1538) (v1 : Int32) (v2 : Int32) : wpX_write (fun r u' => wpY_write (fun r' v' => r' = r ∧ i_Rel (k + 3) u' v') v v1 v2) u v1 v2 := by
  refine zr_el (Q := fun u v => wpX_write (fun r u' => wpY_write (fun r' v' => r' = r ∧ i_Rel (k + 3) u' v') v v1 v2) u v1 v2) I ?_
  intro K p L C T P dS gS gO gM gF gT gC gH aW aL aF aU aR aS aV aO aQ aY bI bN bU bR F
  by_cases c0 : dS = 0
  · by_cases c1 : v1 < 0
    · exact br_t c0 (br_t c1 (br_t c0 (br_t c1 ⟨rfl, zr_in F⟩)))
    · by_cases c2 : nI K ≤ v1
      · exact br_t c0 (br_f c1 (br_t c2 (br_t c0 (br_f c1 (br_t c2 ⟨rfl, zr_in F⟩)))))
      · by_cases c3 : v2 < 0
        · exact br_t c0 (br_f c1 (br_f c2 (br_t c3 (br_t c0 (br_f c1 (br_f c2 (br_t c3 ⟨rfl, zr_in F⟩)))))))
        · by_cases c4 : v2 ≤ 4095
          · obtain ⟨s, hs, rfl⟩ := nI_of c1
            obtain ⟨w, hw, rfl⟩ := nI_of2 (n := 4095) (by decide) c3 c4
            have hK := F.2.1
            have c2' := c2
            rw [nI_leI (by omega) hs] at c2'
            have hi : vp_in (nI s) 12 := vp_in_nI (by omega) (by decide)
            have e : upd (fun j => nI (C j)) (nI s).toNatClampNeg (nI w) = fun j => nI (if j = s then w else C j) := by
              rw [nI_clamp hs]
              funext j
              unfold upd
              by_cases h : j = s
              · rw [if_pos h, if_pos h]
              · rw [if_neg h, if_neg h]
            have F' := zr_C F (C' := fun j => if j = s then w else C j) (fun j => by
              split
              · omega
              · exact F.2.2.2.2.1 j)
            refine br_t c0 (br_f c1 (br_f c2 (br_f c3 (br_t c4 ⟨hi, nm_r e ?_⟩))))
            exact br_t c0 (br_f c1 (br_f c2 (br_f c3 (br_t c4 ⟨hi, nm_r e ⟨rfl, zr_in F'⟩⟩))))
          · exact br_t c0 (br_f c1 (br_f c2 (br_f c3 (br_f c4 (br_t c0 (br_f c1 (br_f c2 (br_f c3 (br_f c4 ⟨rfl, zr_in F⟩)))))))))
  · exact br_f c0 (br_f c0 ⟨rfl, zr_in F⟩)
theorem i_vc_cell {k : Nat} {u : SX} {v : SY} (I : i_Rel k u v) (hk : k + 3 ≤ 1538) (v1 : Int32) : wpX_cell (fun r => wpY_cell (fun r' => r' = r ∧ i_Rel (k + 3) u v) v v1) u v1 := by
  refine zr_el (Q := fun u v => wpX_cell (fun r => wpY_cell (fun r' => r' = r ∧ i_Rel (k + 3) u v) v v1) u v1) I ?_
  intro K p L C T P dS gS gO gM gF gT gC gH aW aL aF aU aR aS aV aO aQ aY bI bN bU bR F
  by_cases c1 : v1 < 0
  · exact br_t c1 (br_t c1 ⟨rfl, zr_in F⟩)
  · by_cases c2 : v1 < nI K
    · obtain ⟨s, hs, rfl⟩ := nI_of c1
      have hK := F.2.1
      have c2' := c2
      rw [nI_ltI hs (by omega)] at c2'
      have hi : vp_in (nI s) 12 := vp_in_nI (by omega) (by decide)
      exact br_f c1 (br_t c2 ⟨hi, br_f c1 (br_t c2 ⟨hi, rfl, zr_in F⟩)⟩)
    · exact br_f c1 (br_f c2 (br_f c1 (br_f c2 ⟨rfl, zr_in F⟩)))
theorem i_vc_seal {k : Nat} {u : SX} {v : SY} (I : i_Rel k u v) (hk : k + 3 ≤ 1538) : wpX_seal (fun r u' => wpY_seal (fun r' v' => r' = r ∧ i_Rel (k + 3) u' v') v) u := by
  refine zr_el (Q := fun u v => wpX_seal (fun r u' => wpY_seal (fun r' v' => r' = r ∧ i_Rel (k + 3) u' v') v) u) I ?_
  intro K p L C T P dS gS gO gM gF gT gC gH aW aL aF aU aR aS aV aO aQ aY bI bN bU bR F
  by_cases c0 : dS = 0
  · exact br_t c0 (br_t c0 ⟨rfl, zr_in F⟩)
  · exact br_f c0 (br_f c0 ⟨rfl, zr_in F⟩)
theorem zo_s {x : Int32} {s s' : Nat} (hs : s < 16) (h1 : x = nI s) (hs' : s' < 16) (h2 : x = nI s') : s' = s :=
  ((nI_eq (by omega) (by omega)).mp (h1.symm.trans h2)).symm
theorem i_vc_take {k : Nat} {u : SX} {v : SY} (I : i_Rel k u v) (hk : k + 3 ≤ 1538) (v1 : Int32) : wpX_take (fun r u' => wpY_take (fun r' v' => r' = r ∧ i_Rel (k + 3) u' v') v v1) u v1 := by
  refine zr_el (Q := fun u v => wpX_take (fun r u' => wpY_take (fun r' v' => r' = r ∧ i_Rel (k + 3) u' v') v v1) u v1) I ?_
  intro K p L C T P dS gS gO gM gF gT gC gH aW aL aF aU aR aS aV aO aQ aY bI bN bU bR F
  have ⟨_, hK, hp, hL, hC, hT, hW, hLg, hF, hI⟩ := F
  refine xd_take hW hLg hF (fun _ => rfl) hC (fun _ => rfl) hK hp (fun c s s1 s2 s3 aR aV => ?_) (fun c => ?_)
  · refine yw_take hI (fun _ => rfl) hC (fun _ => rfl) hK hp (fun _ s' s1' s2' s3' bN bU => ?_) (fun c' => ?_)
    · cases zo_s s1 s2 s1' s2'
      exact ⟨rfl, zr_in (zr_T F (by decide) (sa_tw_4 (sw_w_lt _ _ _) hT))⟩
    · rcases c' with c' | c'
      · exact absurd c' c
      · exact absurd s3 (c' s s1 s2)
  · refine yw_take hI (fun _ => rfl) hC (fun _ => rfl) hK hp (fun c' s' s1' s2' s3' bN bU => ?_) (fun c' => ⟨rfl, zr_in F⟩)
    rcases c with c | c
    · exact absurd c c'
    · exact absurd s3' (c s' s1' s2')
theorem i_vc_blank {k : Nat} {u : SX} {v : SY} (I : i_Rel k u v) (hk : k + 3 ≤ 1538) : wpX_blank (fun u' => wpY_blank (fun v' => i_Rel (k + 3) u' v') v) u := by
  refine zr_el (Q := fun u v => wpX_blank (fun u' => wpY_blank (fun v' => i_Rel (k + 3) u' v') v) u) I ?_
  intro K p L C T P dS gS gO gM gF gT gC gH aW aL aF aU aR aS aV aO aQ aY bI bN bU bR F
  exact zr_in (k := k + 3) (L := 0) (zr_T F (by decide) F.2.2.2.2.2.1)
theorem i_vc_insert {k : Nat} {u : SX} {v : SY} (I : i_Rel k u v) (hk : k + 3 ≤ 1538) (v1 : Int32) (v2 : Int32) : wpX_insert (fun r u' => wpY_insert (fun r' v' => r' = r ∧ i_Rel (k + 3) u' v') v v1 v2) u v1 v2 := by
  refine zr_el (Q := fun u v => wpX_insert (fun r u' => wpY_insert (fun r' v' => r' = r ∧ i_Rel (k + 3) u' v') v v1 v2) u v1 v2) I ?_
  intro K p L C T P dS gS gO gM gF gT gC gH aW aL aF aU aR aS aV aO aQ aY bI bN bU bR F
  have ⟨_, hK, hp, hL, hC, hT, hW, hLg, hF, hI⟩ := F
  by_cases c0 : (16 : Int32) ≤ nI L
  · exact br_t c0 (br_t c0 ⟨rfl, zr_in F⟩)
  · by_cases c1 : v1 < 0
    · exact br_f c0 (br_t c1 (br_f c0 (br_t c1 ⟨rfl, zr_in F⟩)))
    · by_cases c2 : nI L < v1
      · exact br_f c0 (br_f c1 (br_t c2 (br_f c0 (br_f c1 (br_t c2 ⟨rfl, zr_in F⟩)))))
      · by_cases c3 : v2 < 0
        · exact br_f c0 (br_f c1 (br_f c2 (br_t c3 (br_f c0 (br_f c1 (br_f c2 (br_t c3 ⟨rfl, zr_in F⟩)))))))
        · by_cases c4 : v2 ≤ 3
          · obtain ⟨s, hs, rfl⟩ := nI_of c1
            obtain ⟨w, hw, rfl⟩ := nI_of2 (n := 3) (by decide) c3 c4
            have c0' : ¬ 16 ≤ L := fun q => c0 (nI_le (a := 16) q (by omega))
            have c2' := c2
            rw [nI_ltI (by omega) hs] at c2'
            have F' := zr_T F (L' := L + 1) (by omega) (zi_pt4 (i := s) (L := L) (s := w) hT (by omega))
            refine br_f c0 (br_f c1 (br_f c2 (br_f c3 (br_t c4 ⟨L - s + 1, ?_⟩))))
            have X := zi_x37 (post := fun r u' => wpY_insert (fun r' v' => r' = r ∧ i_Rel (k + 3) u' v') (nI K, nI p, dS, nI L, (fun j => nI (C j)), (fun j => nI (T j)), (fun j => zx_P (P j)), bI, bN, bU, bR) (nI s) (nI w)) (T := T) (i := s) (L := L) (s := w) (dK := nI K) (dP := nI p) (dS := dS) (gS := gS) (gO := gO) (gM := gM) (gF := gF) (gT := gT) (gC := gC) (gH := gH) (aC := (fun j => nI (C j))) (aP := (fun j => zx_P (P j))) (aW := aW) (aL := aL) (aF := aF) (aU := aU) (aR := aR) (aS := aS) (aV := aV) (aO := aO) (aQ := aQ) (aY := aY) (by omega) (by omega) ?_ (L - s) (by omega)
            · rw [show s + (L - s) = L by omega, zi_sh0] at X
              exact X
            · refine br_f c0 (br_f c1 (br_f c2 (br_f c3 (br_t c4 ⟨L - s + 1, ?_⟩))))
              have Y := zi_y37 (post := fun r' v' => r' = (1 : Int32) ∧ i_Rel (k + 3) (nI K, nI p, dS, nI (L + 1), gS, gO, gM, gF, gT, gC, gH, (fun j => nI (C j)), (fun j => nI (zi_pt T s L w j)), (fun j => zx_P (P j)), aW, aL, aF, aU, aR, aS, aV, aO, aQ, aY) v') (T := T) (i := s) (L := L) (s := w) (eK := nI K) (eP := nI p) (eS := dS) (bC := (fun j => nI (C j))) (bP := (fun j => zx_P (P j))) (bI := bI) (bN := bN) (bU := bU) (bR := bR) (by omega) (by omega) ⟨rfl, zr_in F'⟩ (L - s) (by omega)
              rw [show s + (L - s) = L by omega, zi_sh0] at Y
              exact Y
          · exact br_f c0 (br_f c1 (br_f c2 (br_f c3 (br_f c4 (br_f c0 (br_f c1 (br_f c2 (br_f c3 (br_f c4 ⟨rfl, zr_in F⟩)))))))))
theorem i_vc_remove {k : Nat} {u : SX} {v : SY} (I : i_Rel k u v) (hk : k + 3 ≤ 1538) (v1 : Int32) : wpX_remove (fun r u' => wpY_remove (fun r' v' => r' = r ∧ i_Rel (k + 3) u' v') v v1) u v1 := by
  refine zr_el (Q := fun u v => wpX_remove (fun r u' => wpY_remove (fun r' v' => r' = r ∧ i_Rel (k + 3) u' v') v v1) u v1) I ?_
  intro K p L C T P dS gS gO gM gF gT gC gH aW aL aF aU aR aS aV aO aQ aY bI bN bU bR F
  have ⟨_, hK, hp, hL, hC, hT, hW, hLg, hF, hI⟩ := F
  by_cases c1 : v1 < 0
  · exact br_t c1 (br_t c1 ⟨rfl, zr_in F⟩)
  · by_cases c2 : v1 < nI L
    · obtain ⟨s, hs, rfl⟩ := nI_of c1
      have c2' := c2
      rw [nI_ltI hs (by omega)] at c2'
      have F' := zr_T F (L' := L - 1) (by omega) (zi_rm4 (i := s) (k := L - 1) hT)
      refine br_f c1 (br_t c2 ⟨L - 1 - s + 1, ?_⟩)
      have X := zi_x16 (post := fun r u' => wpY_remove (fun r' v' => r' = r ∧ i_Rel (k + 3) u' v') (nI K, nI p, dS, nI L, (fun j => nI (C j)), (fun j => nI (T j)), (fun j => zx_P (P j)), bI, bN, bU, bR) (nI s)) (T := T) (i := s) (L := L) (dK := nI K) (dP := nI p) (dS := dS) (gS := gS) (gO := gO) (gM := gM) (gF := gF) (gT := gT) (gC := gC) (gH := gH) (aC := (fun j => nI (C j))) (aP := (fun j => zx_P (P j))) (aW := aW) (aL := aL) (aF := aF) (aU := aU) (aR := aR) (aS := aS) (aV := aV) (aO := aO) (aQ := aQ) (aY := aY) c2' hL ?_ (L - 1 - s) s (by omega) (Nat.le_refl _)
      · rw [zi_rm0] at X
        exact X
      · refine br_f c1 (br_t c2 ⟨L - 1 - s + 1, ?_⟩)
        have Y := zi_y16 (post := fun r' v' => r' = (1 : Int32) ∧ i_Rel (k + 3) (nI K, nI p, dS, nI (L - 1), gS, gO, gM, gF, gT, gC, gH, (fun j => nI (C j)), (fun j => nI (zi_rm T s (L - 1) j)), (fun j => zx_P (P j)), aW, aL, aF, aU, aR, aS, aV, aO, aQ, aY) v') (T := T) (i := s) (L := L) (eK := nI K) (eP := nI p) (eS := dS) (bC := (fun j => nI (C j))) (bP := (fun j => zx_P (P j))) (bI := bI) (bN := bN) (bU := bU) (bR := bR) c2' hL ⟨rfl, zr_in F'⟩ (L - 1 - s) s (by omega) (Nat.le_refl _)
        rw [zi_rm0] at Y
        exact Y
    · exact br_f c1 (br_f c2 (br_f c1 (br_f c2 ⟨rfl, zr_in F⟩)))
theorem i_vc_trayLength {k : Nat} {u : SX} {v : SY} (I : i_Rel k u v) (hk : k + 3 ≤ 1538) : wpX_trayLength (fun r => wpY_trayLength (fun r' => r' = r ∧ i_Rel (k + 3) u v) v) u := by
  refine zr_el (Q := fun u v => wpX_trayLength (fun r => wpY_trayLength (fun r' => r' = r ∧ i_Rel (k + 3) u v) v) u) I ?_
  intro K p L C T P dS gS gO gM gF gT gC gH aW aL aF aU aR aS aV aO aQ aY bI bN bU bR F
  exact ⟨rfl, zr_in F⟩
theorem i_vc_traySymbol {k : Nat} {u : SX} {v : SY} (I : i_Rel k u v) (hk : k + 3 ≤ 1538) (v1 : Int32) : wpX_traySymbol (fun r => wpY_traySymbol (fun r' => r' = r ∧ i_Rel (k + 3) u v) v v1) u v1 := by
  refine zr_el (Q := fun u v => wpX_traySymbol (fun r => wpY_traySymbol (fun r' => r' = r ∧ i_Rel (k + 3) u v) v v1) u v1) I ?_
  intro K p L C T P dS gS gO gM gF gT gC gH aW aL aF aU aR aS aV aO aQ aY bI bN bU bR F
  by_cases c1 : v1 < 0
  · exact br_t c1 (br_t c1 ⟨rfl, zr_in F⟩)
  · by_cases c2 : v1 < nI L
    · obtain ⟨s, hs, rfl⟩ := nI_of c1
      have hL := F.2.2.2.1
      have c2' := c2
      rw [nI_ltI hs (by omega)] at c2'
      have hi : vp_in (nI s) 16 := vp_in_nI (by omega) (by decide)
      exact br_f c1 (br_t c2 ⟨hi, br_f c1 (br_t c2 ⟨hi, rfl, zr_in F⟩)⟩)
    · exact br_f c1 (br_f c2 (br_f c1 (br_f c2 ⟨rfl, zr_in F⟩)))
theorem i_vc_repair {k : Nat} {u : SX} {v : SY} (I : i_Rel k u v) (hk : k + 3 ≤ 1538) : wpX_repair (fun r u' => wpY_repair (fun r' v' => r' = r ∧ i_Rel (k + 3) u' v') v) u := by
  refine zr_el (Q := fun u v => wpX_repair (fun r u' => wpY_repair (fun r' v' => r' = r ∧ i_Rel (k + 3) u' v') v) u) I ?_
  intro K p L C T P dS gS gO gM gF gT gC gH aW aL aF aU aR aS aV aO aQ aY bI bN bU bR F
  have ⟨_, hK, hp, hL, hC, hT, hW, hLg, hF, hI⟩ := F
  refine xr_repair hL (fun _ => rfl) hT (fun kk W gS gO gM gF gT aU aS R => ?_) (fun hn gS gO gM gF gT aU aS => ?_)
  · refine ya_repair hL (fun _ => rfl) hT (fun k' W' bU R' => ?_) (fun hn => absurd R (hn kk W))
    obtain ⟨rfl, rfl⟩ := sa_RP_u R R'
    exact ⟨rfl, zr_in (zr_T F (by decide) (sa_tw_4 (sa_RP_4 hT R).1 hT))⟩
  · refine ya_repair hL (fun _ => rfl) hT (fun k' W' bU R' => absurd R' (hn k' W')) (fun _ bU => ?_)
    exact ⟨rfl, zr_in F⟩
theorem i_vc_fault {k : Nat} {u : SX} {v : SY} (I : i_Rel k u v) (hk : k + 3 ≤ 1538) (v1 : Int32) : wpX_fault (fun r u' => wpY_fault (fun r' v' => r' = r ∧ i_Rel (k + 3) u' v') v (lw_bz v1)) u (lw_bz v1) := by
  refine zr_el (Q := fun u v => wpX_fault (fun r u' => wpY_fault (fun r' v' => r' = r ∧ i_Rel (k + 3) u' v') v (lw_bz v1)) u (lw_bz v1)) I ?_
  intro K p L C T P dS gS gO gM gF gT gC gH aW aL aF aU aR aS aV aO aQ aY bI bN bU bR F
  have ⟨_, hK, hp, hL, hC, hT, hW, hLg, hF, hI⟩ := F
  refine xr_fault hL (fun _ => rfl) hT (fun r gS gO gM gF gT aS h0 h1 => ?_)
  refine ya_fault hL (fun _ => rfl) hT (fun c r' bU lf => ?_) (fun c r' bU gf => ?_)
  · exact ⟨sa_lf_u (h0 c) lf, zr_in F⟩
  · exact ⟨sa_gfa_u (h1 c) gf, zr_in F⟩
theorem i_vc_deliver {k : Nat} {u : SX} {v : SY} (I : i_Rel k u v) (hk : k + 3 ≤ 1538) : wpX_deliver (fun r u' => wpY_deliver (fun r' v' => r' = r ∧ i_Rel (k + 3) u' v') v) u := by
  refine zr_el (Q := fun u v => wpX_deliver (fun r u' => wpY_deliver (fun r' v' => r' = r ∧ i_Rel (k + 3) u' v') v) u) I ?_
  intro K p L C T P dS gS gO gM gF gT gC gH aW aL aF aU aR aS aV aO aQ aY bI bN bU bR F
  have ⟨_, hK, hp, hL, hC, hT, hW, hLg, hF, hI⟩ := F
  refine xd_deliver hL hF (fun _ => rfl) hT hK hp (fun kk W gS gO gM gF gT aU aR aS R => ?_) (fun hn gS gO gM gF gT aU aS => ?_)
  · refine ya_deliver hL (fun _ => rfl) hT hK hp (fun k' W' bU bR R' => ?_) (fun hn => absurd R (hn kk W))
    obtain ⟨rfl, rfl⟩ := sa_RP_u R R'
    exact ⟨rfl, zr_in F⟩
  · refine ya_deliver hL (fun _ => rfl) hT hK hp (fun k' W' bU bR R' => absurd R' (hn k' W')) (fun _ bU => ?_)
    exact ⟨rfl, zr_in F⟩
theorem i_vc_held {k : Nat} {u : SX} {v : SY} (I : i_Rel k u v) (hk : k + 3 ≤ 1538) (v1 : Int32) : wpX_held (fun r => wpY_held (fun r' => r' = r ∧ i_Rel (k + 3) u v) v v1) u v1 := by
  refine zr_el (Q := fun u v => wpX_held (fun r => wpY_held (fun r' => r' = r ∧ i_Rel (k + 3) u v) v v1) u v1) I ?_
  intro K p L C T P dS gS gO gM gF gT gC gH aW aL aF aU aR aS aV aO aQ aY bI bN bU bR F
  have ⟨_, hK, hp, hL, hC, hT, hW, hLg, hF, hI⟩ := F
  refine xd_held hK hp (fun s s1 s2 s3 => ?_) (fun hn => ?_)
  · refine yw_held hK hp (fun s' s1' s2' s3' => ?_) (fun hn => absurd s3 (hn s s1 s2))
    cases zo_s s1 s2 s1' s2'
    exact ⟨rfl, zr_in F⟩
  · exact yw_held hK hp (fun s' s1' s2' s3' => absurd s3' (hn s' s1' s2')) (fun _ => ⟨rfl, zr_in F⟩)
theorem i_vc_forget {k : Nat} {u : SX} {v : SY} (I : i_Rel k u v) (hk : k + 3 ≤ 1538) : wpX_forget (fun u' => wpY_forget (fun v' => i_Rel (k + 3) u' v') v) u := by
  refine zr_el (Q := fun u v => wpX_forget (fun u' => wpY_forget (fun v' => i_Rel (k + 3) u' v') v) u) I ?_
  intro K p L C T P dS gS gO gM gF gT gC gH aW aL aF aU aR aS aV aO aQ aY bI bN bU bR F
  refine xw_forget (yw_forget ?_)
  rw [zo_pP]
  exact zr_in F
theorem i_vc_status {k : Nat} {u : SX} {v : SY} (I : i_Rel k u v) (hk : k + 3 ≤ 1538) : wpX_status (fun r u' => wpY_status (fun r' v' => r' = r ∧ i_Rel (k + 3) u' v') v) u := by
  refine zr_el (Q := fun u v => wpX_status (fun r u' => wpY_status (fun r' v' => r' = r ∧ i_Rel (k + 3) u' v') v) u) I ?_
  intro K p L C T P dS gS gO gM gF gT gC gH aW aL aF aU aR aS aV aO aQ aY bI bN bU bR F
  have ⟨_, hK, hp, hL, hC, hT, hW, hLg, hF, hI⟩ := F
  refine xq_status hW hLg hK hp (fun c gC gH aV aO aQ aY => ?_) (fun c a gC gH aV aO aQ aY _ => ?_) (fun c a gC gH aV aO aQ aY => ?_)
  · exact yq_status hI hK hp (fun _ => ⟨rfl, zr_in F⟩) (fun c' => absurd c' c) (fun c' => absurd c' c)
  · exact yq_status hI hK hp (fun c' => absurd c c') (fun _ _ bN => ⟨rfl, zr_in F⟩) (fun _ a' => absurd a a')
  · exact yq_status hI hK hp (fun c' => absurd c c') (fun _ a' => absurd a' a) (fun _ _ bN => ⟨rfl, zr_in F⟩)
theorem i_vc_read {k : Nat} {u : SX} {v : SY} (I : i_Rel k u v) (hk : k + 3 ≤ 1538) (v1 : Int32) : wpX_read (fun r u' => wpY_read (fun r' v' => r' = r ∧ i_Rel (k + 3) u' v') v v1) u v1 := by
  refine zr_el (Q := fun u v => wpX_read (fun r u' => wpY_read (fun r' v' => r' = r ∧ i_Rel (k + 3) u' v') v v1) u v1) I ?_
  intro K p L C T P dS gS gO gM gF gT gC gH aW aL aF aU aR aS aV aO aQ aY bI bN bU bR F
  have ⟨_, hK, hp, hL, hC, hT, hW, hLg, hF, hI⟩ := F
  by_cases c1 : v1 < 0
  · exact br_t c1 (br_t c1 ⟨rfl, zr_in F⟩)
  · by_cases c2 : v1 < nI K
    · obtain ⟨s, hs, rfl⟩ := nI_of c1
      have c2' := c2
      rw [nI_ltI hs (by omega)] at c2'
      have nm : ¬ (nI s < 0 ∨ nI K ≤ nI s) := fun q => by
        rcases q with q | q
        · exact c1 q
        · rw [nI_leI (by omega) hs] at q; omega
      have ss : ∀ y, y < K → nI s = nI y → y = s := fun y hy e => ((nI_eq hs (by omega)).mp e).symm
      refine br_f c1 (br_t c2 ?_)
      refine xq_status hW hLg hK hp (fun c gC gH aV aO aQ aY => ?_) (fun c a gC gH aV aO aQ aY hV => ?_) (fun c a gC gH aV aO aQ aY => ?_)
      · dsimp only
        refine br_f (by decide) (yq_read hI hK hp (fun q => absurd q nm) (fun y hy e _ bN => ⟨rfl, zr_in F⟩) (fun y hy e c' => absurd c' c))
      · dsimp only
        refine br_t rfl ⟨vp_in_nI (by omega) (by decide), ?_⟩
        rw [nI_clamp hs, hV s c2']
        refine yq_read hI hK hp (fun q => absurd q nm) (fun y hy e q => absurd ⟨c, a⟩ q) (fun y hy e _ _ bN => ?_)
        cases ss y hy e
        exact ⟨rfl, zr_in F⟩
      · dsimp only
        refine br_f (by decide) (yq_read hI hK hp (fun q => absurd q nm) (fun y hy e _ bN => ⟨rfl, zr_in F⟩) (fun y hy e _ a' => absurd a' a))
    · have c3 : nI K ≤ v1 := Int32.not_lt.mp c2
      exact br_f c1 (br_f c2 (br_f c1 (br_t c3 ⟨rfl, zr_in F⟩)))
end OW
end
