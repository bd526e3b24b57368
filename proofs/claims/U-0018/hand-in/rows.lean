section
theorem pk_us {f : Nat → Int32} {k : Nat} {x : Int32} : upd f k x k = x := if_pos rfl
theorem pk_un {f : Nat → Int32} {k j : Nat} {x : Int32} (h : j ≠ k) : upd f k x j = f j := if_neg h
theorem pk_sub {a b : Nat} (h : b ≤ a) : nI a - nI b = nI (a - b) := by
  obtain ⟨c, rfl⟩ : ∃ c, a = c + b := ⟨a - b, by omega⟩
  rw [← nI_add, Int32.add_sub_cancel, Nat.add_sub_cancel]
theorem pk_m1 (n : Nat) : nI (n + 1) + (-1) = nI n := by
  rw [← nI_1, Int32.add_assoc, show (1 : Int32) + (-1) = 0 from rfl, Int32.add_zero]
theorem pk_mul (a b : Nat) : nI a * nI b = nI (a * b) := (Int32.ofNat_mul a b).symm
theorem pk_div {a d : Nat} (ha : a < 2 ^ 31) (h0 : 0 < d) (hd : d < 2 ^ 31) : nI a / nI d = nI (a / d) := by
  apply Int32.toInt_inj.mp
  rw [lg_idiv_nonneg (by rw [nI_toInt ha]; omega) (by rw [nI_toInt hd]; omega), nI_toInt ha, nI_toInt hd, nI_toInt (Nat.lt_of_le_of_lt (Nat.div_le_self a d) ha)]
  first | rfl | exact (Int.natCast_ediv _ _).symm
theorem pk_rem {a d : Nat} (ha : a < 2 ^ 31) (h0 : 0 < d) (hd : d < 2 ^ 31) : nI a - nI a / nI d * nI d = nI (a % d) := by
  rw [pk_div ha h0 hd, pk_mul, pk_sub (Nat.div_mul_le_self a d)]
  exact congrArg nI (by have := Nat.div_add_mod' a d; omega)
theorem pk_sub_toInt {a b : Nat} (ha : a < 2 ^ 30) (hb : b < 2 ^ 30) : (nI a - nI b).toInt = (a : Int) - b := by
  rw [Int32.toInt_sub, nI_toInt (by omega), nI_toInt (by omega)]
  exact Int.bmod_eq_of_le (by omega) (by omega)
theorem pk_sneg {a b : Nat} (hb : b < 2 ^ 30) (h : a < b) : nI a - nI b < 0 := by
  rw [Int32.lt_iff_toInt_lt, pk_sub_toInt (by omega) hb, show (0 : Int32).toInt = 0 from by decide]
  omega
theorem pk_ix (x : Int32) {n : Nat} (hn : n < 2 ^ 31) : x < 0 ∨ nI n ≤ x ∨ ∃ j : Nat, j < n ∧ x = nI j := by
  by_cases h : x < 0
  · exact Or.inl h
  · obtain ⟨j, hj, rfl⟩ := nI_of h
    by_cases h2 : j < n
    · exact Or.inr (Or.inr ⟨j, h2, rfl⟩)
    · exact Or.inr (Or.inl (nI_le (by omega) hj))
theorem pk_le {x y : Int32} {A B : Prop} (a b : Nat) (f : a ≤ b → A) (g : b < a → B) (hx : x = nI a := by rfl) (hy : y = nI b := by rfl) (ha : a < 2 ^ 31 := by omega) (hb : b < 2 ^ 31 := by omega) : (x ≤ y → A) ∧ (¬ x ≤ y → B) := by
  subst hx hy
  rw [nI_leI ha hb]
  exact ⟨f, fun z => g (by omega)⟩
theorem pk_lt {x y : Int32} {A B : Prop} (a b : Nat) (f : a < b → A) (g : b ≤ a → B) (hx : x = nI a := by rfl) (hy : y = nI b := by rfl) (ha : a < 2 ^ 31 := by omega) (hb : b < 2 ^ 31 := by omega) : (x < y → A) ∧ (¬ x < y → B) := by
  subst hx hy
  rw [nI_ltI ha hb]
  exact ⟨f, fun z => g (by omega)⟩
theorem pk_eq {x y : Int32} {A B : Prop} (a b : Nat) (f : a = b → A) (g : a ≠ b → B) (hx : x = nI a := by rfl) (hy : y = nI b := by rfl) (ha : a < 2 ^ 31 := by omega) (hb : b < 2 ^ 31 := by omega) : (x = y → A) ∧ (¬ x = y → B) := by
  subst hx hy
  rw [nI_eq ha hb]
  exact ⟨f, g⟩
theorem pk_in {x : Int32} (n N : Nat) (h : n < N) (hx : x = nI n := by rfl) (hN : N < 2 ^ 31 := by omega) : vp_in x N := by
  subst hx
  exact vp_in_nI h hN
theorem pk_cl {x : Int32} (n : Nat) (hx : x = nI n := by rfl) (h : n < 2 ^ 31 := by omega) : x.toNatClampNeg = n := by
  subst hx
  exact nI_clamp h
theorem pk_tn {n : Nat} (h : n < 2 ^ 32) : (nI n).toBitVec.toNat = n := Nat.mod_eq_of_lt h
theorem pk_and (x : Int32) {m : Int32} (k : Nat) (hm : m.toBitVec.toNat = 2 ^ k - 1) : x &&& m = nI (x.toBitVec.toNat % 2 ^ k) := by
  apply Int32.toBitVec_inj.mp
  apply BitVec.eq_of_toNat_eq
  rw [Int32.toBitVec_and, BitVec.toNat_and, hm, Nat.and_two_pow_sub_one_eq_mod]
  show _ = (BitVec.ofNat 32 _).toNat
  rw [BitVec.toNat_ofNat]
  exact (Nat.mod_eq_of_lt (Nat.lt_of_le_of_lt (Nat.mod_le _ _) x.toBitVec.isLt)).symm
theorem pk_andN {n : Nat} (h : n < 2 ^ 32) {m : Int32} (k : Nat) (hm : m.toBitVec.toNat = 2 ^ k - 1) : nI n &&& m = nI (n % 2 ^ k) := by
  rw [pk_and _ k hm, pk_tn h]
theorem pk_andE (x : Int32) {m : Int32} (k : Nat) (hm : m.toBitVec.toNat = 2 ^ k - 1) : ∃ j : Nat, j < 2 ^ k ∧ x &&& m = nI j := ⟨_, Nat.mod_lt _ (Nat.two_pow_pos k), pk_and x k hm⟩
theorem pk_andIn (x : Int32) {m : Int32} (k : Nat) (hm : m.toBitVec.toNat = 2 ^ k - 1) (hk : k ≤ 30) : vp_in (x &&& m) (2 ^ k) := by
  obtain ⟨j, hj, e⟩ := pk_andE x k hm
  rw [e]
  exact vp_in_nI hj (Nat.lt_of_le_of_lt (Nat.pow_le_pow_right (by decide) hk) (by decide))
theorem pk_shl (a s : Int32) (k : Nat) (hs : (s.toBitVec.smod 32).toNat = k) : (a <<< s).toBitVec.toNat = a.toBitVec.toNat * 2 ^ k % 2 ^ 32 := by
  show (a.toBitVec <<< (s.toBitVec.smod 32).toNat).toNat = _
  rw [hs, BitVec.toNat_shiftLeft, Nat.shiftLeft_eq]
theorem pk_shlN {n : Nat} (s : Int32) (k : Nat) (hs : (s.toBitVec.smod 32).toNat = k) (h : n * 2 ^ k < 2 ^ 32) : nI n <<< s = nI (n * 2 ^ k) := by
  apply Int32.toBitVec_inj.mp
  apply BitVec.eq_of_toNat_eq
  have hn : n < 2 ^ 32 := Nat.lt_of_le_of_lt (Nat.le_mul_of_pos_right n (Nat.two_pow_pos k)) h
  rw [pk_shl _ _ k hs, pk_tn hn, pk_tn h, Nat.mod_eq_of_lt h]
theorem pk_shr (a s : Int32) (k : Nat) (hs : (s.toBitVec.smod 32).toNat = k) : (a >>> s).toInt = a.toInt >>> k := by
  show (a.toBitVec.sshiftRight (s.toBitVec.smod 32).toNat).toInt = _
  rw [hs, BitVec.toInt_sshiftRight]
  rfl
theorem pk_shrN {n : Nat} (h : n < 2 ^ 31) (s : Int32) (k : Nat) (hs : (s.toBitVec.smod 32).toNat = k) : nI n >>> s = nI (n / 2 ^ k) := by
  apply Int32.toInt_inj.mp
  have h2 : n / 2 ^ k ≤ n := Nat.div_le_self _ _
  rw [pk_shr _ _ k hs, nI_toInt h, nI_toInt (by omega), Int.shiftRight_eq_div_pow]
  rfl
theorem s_l : ∀ n, n < 32 → ((nI n &&& 31).toBitVec.smod 32).toNat = n := by decide +kernel
theorem nx_and (a b : Nat) : nI a &&& nI b = nI (a &&& b) := by
  apply Int32.toBitVec_inj.1
  show BitVec.ofNat 32 a &&& BitVec.ofNat 32 b = BitVec.ofNat 32 (a &&& b)
  apply BitVec.eq_of_getLsbD_eq
  intro i hi
  simp [hi]
theorem nx_xor (a b : Nat) : nI a ^^^ nI b = nI (a ^^^ b) := by
  apply Int32.toBitVec_inj.1
  show BitVec.ofNat 32 a ^^^ BitVec.ofNat 32 b = BitVec.ofNat 32 (a ^^^ b)
  apply BitVec.eq_of_getLsbD_eq
  intro i hi
  simp [hi]
end
section
/-! trees in the arena: the pure part -/
section
theorem zz_lt {n : Nat} (h : n < 2048) : n < 2 ^ 31 := by omega
theorem zz_neg0 {m : Nat} (h : m < 2 ^ 31) : -nI m = 0 ↔ m = 0 := by
  constructor
  · intro e
    have e2 : nI m = nI 0 := by
      have : -(-nI m) = -(0 : Int32) := by rw [e]
      rw [Int32.neg_neg] at this
      rw [this]; rfl
    exact (nI_eq h (by decide)).1 e2
  · intro e; subst e; rfl
theorem zz_addneg {a m : Nat} (h : m ≤ a) : nI a + -nI m = nI (a - m) := by
  rw [← Int32.sub_eq_add_neg, pk_sub h]
theorem zz_2p (d : Nat) : 0 < 2 ^ d := Nat.two_pow_pos d
theorem zz_2s (d : Nat) : 2 ^ (d + 1) = 2 ^ d + 2 ^ d := by rw [Nat.pow_succ]; omega
theorem zz_d4 {d : Nat} (h : d ≤ 4) : 2 ^ d ≤ 16 := Nat.pow_le_pow_right (by decide) h

/-- least and greatest of f on [0, 2^d) -/
def tr_mn : Nat → (Nat → Nat) → Nat
  | 0, f => f 0
  | d + 1, f => min (tr_mn d f) (tr_mn d (fun i => f (2 ^ d + i)))
def tr_mx : Nat → (Nat → Nat) → Nat
  | 0, f => f 0
  | d + 1, f => max (tr_mx d f) (tr_mx d (fun i => f (2 ^ d + i)))

theorem tr_mn_le : ∀ (d : Nat) (f : Nat → Nat) (i : Nat), i < 2 ^ d → tr_mn d f ≤ f i := by
  intro d
  induction d with
  | zero => intro f i h; have : i = 0 := by simpa using h
            subst this; exact Nat.le_refl _
  | succ d ih =>
    intro f i h
    rw [zz_2s] at h
    show min _ _ ≤ _
    by_cases c : i < 2 ^ d
    · have := ih f i c; omega
    · have := ih (fun i => f (2 ^ d + i)) (i - 2 ^ d) (by omega)
      have e : 2 ^ d + (i - 2 ^ d) = i := by omega
      simp only [e] at this
      omega
theorem tr_mx_ge : ∀ (d : Nat) (f : Nat → Nat) (i : Nat), i < 2 ^ d → f i ≤ tr_mx d f := by
  intro d
  induction d with
  | zero => intro f i h; have : i = 0 := by simpa using h
            subst this; exact Nat.le_refl _
  | succ d ih =>
    intro f i h
    rw [zz_2s] at h
    show _ ≤ max _ _
    by_cases c : i < 2 ^ d
    · have := ih f i c; omega
    · have := ih (fun i => f (2 ^ d + i)) (i - 2 ^ d) (by omega)
      have e : 2 ^ d + (i - 2 ^ d) = i := by omega
      simp only [e] at this
      omega
theorem tr_mn_ex : ∀ (d : Nat) (f : Nat → Nat), ∃ i, i < 2 ^ d ∧ f i = tr_mn d f := by
  intro d
  induction d with
  | zero => intro f; exact ⟨0, by decide, rfl⟩
  | succ d ih =>
    intro f
    obtain ⟨i, hi, ei⟩ := ih f
    obtain ⟨j, hj, ej⟩ := ih (fun i => f (2 ^ d + i))
    have h2 := zz_2s d
    show ∃ i, i < 2 ^ (d + 1) ∧ f i = min (tr_mn d f) (tr_mn d (fun i => f (2 ^ d + i)))
    by_cases c : tr_mn d f ≤ tr_mn d (fun i => f (2 ^ d + i))
    · exact ⟨i, by omega, by rw [ei]; omega⟩
    · refine ⟨2 ^ d + j, by omega, ?_⟩
      have ej' : f (2 ^ d + j) = tr_mn d (fun i => f (2 ^ d + i)) := ej
      rw [ej']; omega
theorem tr_mx_ex : ∀ (d : Nat) (f : Nat → Nat), ∃ i, i < 2 ^ d ∧ f i = tr_mx d f := by
  intro d
  induction d with
  | zero => intro f; exact ⟨0, by decide, rfl⟩
  | succ d ih =>
    intro f
    obtain ⟨i, hi, ei⟩ := ih f
    obtain ⟨j, hj, ej⟩ := ih (fun i => f (2 ^ d + i))
    have h2 := zz_2s d
    show ∃ i, i < 2 ^ (d + 1) ∧ f i = max (tr_mx d f) (tr_mx d (fun i => f (2 ^ d + i)))
    by_cases c : tr_mx d (fun i => f (2 ^ d + i)) ≤ tr_mx d f
    · exact ⟨i, by omega, by rw [ei]; omega⟩
    · refine ⟨2 ^ d + j, by omega, ?_⟩
      have ej' : f (2 ^ d + j) = tr_mx d (fun i => f (2 ^ d + i)) := ej
      rw [ej']; omega
theorem tr_mn_eq {d : Nat} {f : Nat → Nat} {m : Nat} (h : ∀ i, i < 2 ^ d → m ≤ f i) (e : ∃ i, i < 2 ^ d ∧ f i = m) : tr_mn d f = m := by
  obtain ⟨i, hi, ei⟩ := e
  obtain ⟨j, hj, ej⟩ := tr_mn_ex d f
  have h1 := tr_mn_le d f i hi
  have h2 := h j hj
  omega
theorem tr_mx_eq {d : Nat} {f : Nat → Nat} {m : Nat} (h : ∀ i, i < 2 ^ d → f i ≤ m) (e : ∃ i, i < 2 ^ d ∧ f i = m) : tr_mx d f = m := by
  obtain ⟨i, hi, ei⟩ := e
  obtain ⟨j, hj, ej⟩ := tr_mx_ex d f
  have h1 := tr_mx_ge d f i hi
  have h2 := h j hj
  omega
theorem tr_mx_le {d : Nat} {f : Nat → Nat} {m : Nat} (h : ∀ i, i < 2 ^ d → f i ≤ m) : tr_mx d f ≤ m := by
  obtain ⟨j, hj, ej⟩ := tr_mx_ex d f
  have h2 := h j hj
  omega
theorem tr_mn_ge {d : Nat} {f : Nat → Nat} {m : Nat} (h : ∀ i, i < 2 ^ d → m ≤ f i) : m ≤ tr_mn d f := by
  obtain ⟨j, hj, ej⟩ := tr_mn_ex d f
  have h2 := h j hj
  omega
theorem tr_mn_congr {d : Nat} {f f1 : Nat → Nat} (h : ∀ i, i < 2 ^ d → f i = f1 i) : tr_mn d f = tr_mn d f1 := by
  obtain ⟨j, hj, ej⟩ := tr_mn_ex d f1
  exact tr_mn_eq (fun i hi => by rw [h i hi]; exact tr_mn_le d f1 i hi) ⟨j, hj, by rw [h j hj, ej]⟩
theorem tr_mx_congr {d : Nat} {f f1 : Nat → Nat} (h : ∀ i, i < 2 ^ d → f i = f1 i) : tr_mx d f = tr_mx d f1 := by
  obtain ⟨j, hj, ej⟩ := tr_mx_ex d f1
  exact tr_mx_eq (fun i hi => by rw [h i hi]; exact tr_mx_ge d f1 i hi) ⟨j, hj, by rw [h j hj, ej]⟩
theorem tr_mnx (d : Nat) (f : Nat → Nat) : tr_mn d f ≤ tr_mx d f := by
  have h1 := tr_mn_le d f 0 (zz_2p d)
  have h2 := tr_mx_ge d f 0 (zz_2p d)
  omega
theorem tr_const {d : Nat} {f : Nat → Nat} (h : tr_mn d f = tr_mx d f) : ∀ i, i < 2 ^ d → f i = tr_mn d f := by
  intro i hi
  have h1 := tr_mn_le d f i hi
  have h2 := tr_mx_ge d f i hi
  omega
theorem tr_mn_c {d : Nat} {f : Nat → Nat} {c : Nat} (h : ∀ i, i < 2 ^ d → f i = c) : tr_mn d f = c :=
  tr_mn_eq (fun i hi => by rw [h i hi]; exact Nat.le_refl _) ⟨0, zz_2p d, h 0 (zz_2p d)⟩
theorem tr_mx_c {d : Nat} {f : Nat → Nat} {c : Nat} (h : ∀ i, i < 2 ^ d → f i = c) : tr_mx d f = c :=
  tr_mx_eq (fun i hi => by rw [h i hi]; exact Nat.le_refl _) ⟨0, zz_2p d, h 0 (zz_2p d)⟩
theorem tr_mn_sub (d : Nat) (f : Nat → Nat) (b : Nat) : tr_mn d (fun i => f i - b) = tr_mn d f - b := by
  obtain ⟨j, hj, ej⟩ := tr_mn_ex d f
  refine tr_mn_eq (fun i hi => ?_) ⟨j, hj, by rw [ej]⟩
  have := tr_mn_le d f i hi
  omega
theorem tr_mx_sub (d : Nat) (f : Nat → Nat) (b : Nat) : tr_mx d (fun i => f i - b) = tr_mx d f - b := by
  obtain ⟨j, hj, ej⟩ := tr_mx_ex d f
  refine tr_mx_eq (fun i hi => ?_) ⟨j, hj, by rw [ej]⟩
  have := tr_mx_ge d f i hi
  omega
theorem tr_mn_add (d : Nat) (f : Nat → Nat) (b : Nat) : tr_mn d (fun i => b + f i) = b + tr_mn d f := by
  obtain ⟨j, hj, ej⟩ := tr_mn_ex d f
  refine tr_mn_eq (fun i hi => ?_) ⟨j, hj, by rw [ej]⟩
  have := tr_mn_le d f i hi
  omega
theorem tr_mx_add (d : Nat) (f : Nat → Nat) (b : Nat) : tr_mx d (fun i => b + f i) = b + tr_mx d f := by
  obtain ⟨j, hj, ej⟩ := tr_mx_ex d f
  refine tr_mx_eq (fun i hi => ?_) ⟨j, hj, by rw [ej]⟩
  have := tr_mx_ge d f i hi
  omega
theorem tr_mn_s (d : Nat) (f : Nat → Nat) : tr_mn (d + 1) f = min (tr_mn d f) (tr_mn d (fun i => f (2 ^ d + i))) := rfl
theorem tr_mx_s (d : Nat) (f : Nat → Nat) : tr_mx (d + 1) f = max (tr_mx d f) (tr_mx d (fun i => f (2 ^ d + i))) := rfl
/-- all of [0, 2^(d+1)) from the two halves -/
theorem tr_halves {d : Nat} {P : Nat → Prop} (h1 : ∀ i, i < 2 ^ d → P i) (h2 : ∀ i, i < 2 ^ d → P (2 ^ d + i)) : ∀ i, i < 2 ^ (d + 1) → P i := by
  intro i hi
  rw [zz_2s] at hi
  by_cases c : i < 2 ^ d
  · exact h1 i c
  · have := h2 (i - 2 ^ d) (by omega)
    rwa [show 2 ^ d + (i - 2 ^ d) = i by omega] at this
/-- two halves glued -/
def tr_gl (d : Nat) (a b : Nat → Nat) : Nat → Nat := fun i => if i < 2 ^ d then a i else b (i - 2 ^ d)
theorem tr_gl_lo {d : Nat} {a b : Nat → Nat} {i : Nat} (h : i < 2 ^ d) : tr_gl d a b i = a i := if_pos h
theorem tr_gl_hi {d : Nat} {a b : Nat → Nat} {i : Nat} : tr_gl d a b (2 ^ d + i) = b i := by
  unfold tr_gl
  rw [if_neg (by omega), Nat.add_sub_cancel_left]

def tr_nd (B T : Nat → Int32) (F : List Nat) (x b t : Nat) : Prop := x < 2048 ∧ x ∉ F ∧ B x = nI b ∧ T x = nI t
def tr_lf (L : Nat → Int32) (x c : Nat) : Prop := L x = -1 ∧ (x = 0 ↔ c = 0) ∧ (x = 1 ↔ c = 1)
/-- node x stands, at depth d or less, for the heights f on [0, 2^d), in normal form, clear of F -/
def tr_T (L R B T : Nat → Int32) (F : List Nat) : Nat → Nat → (Nat → Nat) → Prop
  | 0, x, f => tr_nd B T F x (f 0) (f 0) ∧ tr_lf L x (f 0)
  | d + 1, x, f => tr_nd B T F x (tr_mn (d + 1) f) (tr_mx (d + 1) f) ∧
      ((tr_mn (d + 1) f = tr_mx (d + 1) f ∧ tr_lf L x (tr_mn (d + 1) f)) ∨
       (tr_mn (d + 1) f < tr_mx (d + 1) f ∧ 2 ≤ x ∧ ∃ l r : Nat, L x = nI l ∧ R x = nI r ∧
          tr_T L R B T F d l (fun i => f i - tr_mn (d + 1) f) ∧ tr_T L R B T F d r (fun i => f (2 ^ d + i) - tr_mn (d + 1) f)))

variable {L R B T L1 R1 B1 T1 : Nat → Int32} {F F1 : List Nat}

theorem tr_nd_of {d x : Nat} {f : Nat → Nat} (t : tr_T L R B T F d x f) : x < 2048 ∧ x ∉ F ∧ B x = nI (tr_mn d f) ∧ T x = nI (tr_mx d f) := by
  cases d with
  | zero => exact t.1
  | succ d => exact t.1
theorem tr_lt {d x : Nat} {f : Nat → Nat} (t : tr_T L R B T F d x f) : x < 2048 := (tr_nd_of t).1
theorem tr_B {d x : Nat} {f : Nat → Nat} (t : tr_T L R B T F d x f) : B x = nI (tr_mn d f) := (tr_nd_of t).2.2.1
theorem tr_Tp {d x : Nat} {f : Nat → Nat} (t : tr_T L R B T F d x f) : T x = nI (tr_mx d f) := (tr_nd_of t).2.2.2
/-- what is below an inner node of depth d + 1 -/
def tr_in (L R B T : Nat → Int32) (F : List Nat) (d x : Nat) (f : Nat → Nat) (l r : Nat) : Prop :=
  tr_mn (d + 1) f < tr_mx (d + 1) f ∧ 2 ≤ x ∧ L x = nI l ∧ R x = nI r ∧
          tr_T L R B T F d l (fun i => f i - tr_mn (d + 1) f) ∧ tr_T L R B T F d r (fun i => f (2 ^ d + i) - tr_mn (d + 1) f)
theorem tr_cs {d x : Nat} {f : Nat → Nat} (t : tr_T L R B T F d x f) :
    (tr_mn d f = tr_mx d f ∧ tr_lf L x (tr_mn d f)) ∨ (∃ e l r : Nat, d = e + 1 ∧ tr_in L R B T F e x f l r) := by
  cases d with
  | zero => exact Or.inl ⟨rfl, t.2⟩
  | succ d =>
    rcases t.2 with h | ⟨h1, h2, l, r, h3⟩
    · exact Or.inl h
    · exact Or.inr ⟨d, l, r, rfl, h1, h2, h3⟩
theorem tr_mkleaf {d x c : Nat} {f : Nat → Nat} (hx : x < 2048) (hF : x ∉ F) (hB : B x = nI c) (hT : T x = nI c) (hl : tr_lf L x c) (hf : ∀ i, i < 2 ^ d → f i = c) : tr_T L R B T F d x f := by
  have e1 := tr_mn_c hf
  have e2 := tr_mx_c hf
  cases d with
  | zero => exact ⟨⟨hx, hF, by rw [hB, hf 0 (by decide)], by rw [hT, hf 0 (by decide)]⟩, by rw [hf 0 (by decide)]; exact hl⟩
  | succ d => exact ⟨⟨hx, hF, by rw [hB, e1], by rw [hT, e2]⟩, Or.inl ⟨by rw [e1, e2], by rw [e1]; exact hl⟩⟩
theorem tr_congr : ∀ {d x : Nat} {f f1 : Nat → Nat}, (∀ i, i < 2 ^ d → f i = f1 i) → tr_T L R B T F d x f → tr_T L R B T F d x f1 := by
  intro d
  induction d with
  | zero =>
    intro x f f1 h t
    have e := h 0 (by decide)
    show tr_nd B T F x (f1 0) (f1 0) ∧ tr_lf L x (f1 0)
    rw [← e]; exact t
  | succ d ih =>
    intro x f f1 h t
    have e1 := tr_mn_congr h
    have e2 := tr_mx_congr h
    have hz := zz_2s d
    refine ⟨by rw [← e1, ← e2]; exact t.1, ?_⟩
    rcases t.2 with ⟨a, b⟩ | ⟨h1, h2, l, r, h3, h4, h5, h6⟩
    · exact Or.inl (by rw [← e1, ← e2]; exact ⟨a, b⟩)
    · refine Or.inr ⟨by rw [← e1, ← e2]; exact h1, h2, l, r, h3, h4, ih (fun i hi => ?_) h5, ih (fun i hi => ?_) h6⟩
      · show f i - _ = f1 i - _
        rw [e1, h i (by omega)]
      · show f (2 ^ d + i) - _ = f1 (2 ^ d + i) - _
        rw [e1, h (2 ^ d + i) (by omega)]
/-- the second arena keeps what the first had used -/
def hp_E (L R B T : Nat → Int32) (F : List Nat) (L1 R1 B1 T1 : Nat → Int32) (F1 : List Nat) : Prop :=
  (∀ x, x ∈ F1 → x ∈ F) ∧ ∀ x, x ∉ F → L1 x = L x ∧ R1 x = R x ∧ B1 x = B x ∧ T1 x = T x
theorem hp_Er : hp_E L R B T F L R B T F := ⟨fun _ h => h, fun _ _ => ⟨rfl, rfl, rfl, rfl⟩⟩
theorem hp_Et {L2 R2 B2 T2 : Nat → Int32} {F2 : List Nat} (a : hp_E L R B T F L1 R1 B1 T1 F1) (b : hp_E L1 R1 B1 T1 F1 L2 R2 B2 T2 F2) : hp_E L R B T F L2 R2 B2 T2 F2 := by
  refine ⟨fun x h => a.1 x (b.1 x h), fun x h => ?_⟩
  have h1 := a.2 x h
  have h2 := b.2 x (fun z => h (a.1 x z))
  exact ⟨h2.1.trans h1.1, h2.2.1.trans h1.2.1, h2.2.2.1.trans h1.2.2.1, h2.2.2.2.trans h1.2.2.2⟩
theorem tr_ext (E : hp_E L R B T F L1 R1 B1 T1 F1) : ∀ {d x : Nat} {f : Nat → Nat}, tr_T L R B T F d x f → tr_T L1 R1 B1 T1 F1 d x f := by
  have key : ∀ {x b t : Nat}, tr_nd B T F x b t → tr_nd B1 T1 F1 x b t ∧ L1 x = L x ∧ R1 x = R x := by
    intro x b t h
    have e := E.2 x h.2.1
    exact ⟨⟨h.1, fun z => h.2.1 (E.1 x z), e.2.2.1.trans h.2.2.1, e.2.2.2.trans h.2.2.2⟩, e.1, e.2.1⟩
  intro d
  induction d with
  | zero =>
    intro x f t
    have k := key t.1
    exact ⟨k.1, k.2.1.trans t.2.1, t.2.2⟩
  | succ d ih =>
    intro x f t
    have k := key t.1
    refine ⟨k.1, ?_⟩
    rcases t.2 with ⟨a, b⟩ | ⟨h1, h2, l, r, h3, h4, h5, h6⟩
    · exact Or.inl ⟨a, k.2.1.trans b.1, b.2⟩
    · exact Or.inr ⟨h1, h2, l, r, k.2.1.trans h3, k.2.2.trans h4, ih h5, ih h6⟩
/-- the free list: from p along L -/
def hp_fl (L : Nat → Int32) : Int32 → List Nat → Prop
  | p, [] => p = 0
  | p, x :: xs => p = nI x ∧ 2 ≤ x ∧ x < 2048 ∧ x ∉ xs ∧ hp_fl L (L x) xs
theorem hp_fl_mem : ∀ {F : List Nat} {p : Int32}, hp_fl L p F → ∀ x, x ∈ F → 2 ≤ x ∧ x < 2048 := by
  intro F
  induction F with
  | nil => intro p _ x h; exact absurd h (List.not_mem_nil)
  | cons y ys ih =>
    intro p h x hx
    rcases List.mem_cons.1 hx with e | e
    · subst e; exact ⟨h.2.1, h.2.2.1⟩
    · exact ih h.2.2.2.2 x e
theorem hp_fl_ext : ∀ {F : List Nat} {p : Int32}, (∀ x, x ∈ F → L1 x = L x) → hp_fl L p F → hp_fl L1 p F := by
  intro F
  induction F with
  | nil => intro p _ h; exact h
  | cons y ys ih =>
    intro p e h
    refine ⟨h.1, h.2.1, h.2.2.1, h.2.2.2.1, ?_⟩
    rw [e y (List.mem_cons_self)]
    exact ih (fun x hx => e x (List.mem_cons_of_mem _ hx)) h.2.2.2.2
/-- the arena: a free list, and the two permanent leaves -/
def hp_I (fr fc : Int32) (L R B T : Nat → Int32) (F : List Nat) : Prop :=
  hp_fl L fr F ∧ fc = nI F.length ∧ F.length ≤ 2046 ∧ (L 0 = -1 ∧ B 0 = nI 0 ∧ T 0 = nI 0) ∧ (L 1 = -1 ∧ B 1 = nI 1 ∧ T 1 = nI 1)
theorem hp_n0 {fr fc : Int32} (hi : hp_I fr fc L R B T F) : 0 ∉ F := fun h => by have := (hp_fl_mem hi.1 0 h).1; omega
theorem hp_n1 {fr fc : Int32} (hi : hp_I fr fc L R B T F) : 1 ∉ F := fun h => by have := (hp_fl_mem hi.1 1 h).1; omega
theorem tr_zero {fr fc : Int32} (hi : hp_I fr fc L R B T F) {d : Nat} {f : Nat → Nat} (hf : ∀ i, i < 2 ^ d → f i = 0) : tr_T L R B T F d 0 f :=
  tr_mkleaf (c := 0) (by decide) (hp_n0 hi) hi.2.2.2.1.2.1 hi.2.2.2.1.2.2 ⟨hi.2.2.2.1.1, by omega, by omega⟩ hf
theorem tr_one {fr fc : Int32} (hi : hp_I fr fc L R B T F) {d : Nat} {f : Nat → Nat} (hf : ∀ i, i < 2 ^ d → f i = 1) : tr_T L R B T F d 1 f :=
  tr_mkleaf (c := 1) (by decide) (hp_n1 hi) hi.2.2.2.2.2.1 hi.2.2.2.2.2.2 ⟨hi.2.2.2.2.1, by omega, by omega⟩ hf
/-- node 0 is everywhere 0, and the other way round -/
theorem tr_is0 {d x : Nat} {f : Nat → Nat} (t : tr_T L R B T F d x f) : x = 0 ↔ tr_mx d f = 0 := by
  rcases tr_cs t with ⟨a, b⟩ | ⟨e, l, r, rfl, h1, h2, _⟩
  · have := b.2.1; omega
  · omega
theorem tr_is1 {d x : Nat} {f : Nat → Nat} (t : tr_T L R B T F d x f) : x = 1 ↔ (tr_mn d f = 1 ∧ tr_mx d f = 1) := by
  rcases tr_cs t with ⟨a, b⟩ | ⟨e, l, r, rfl, h1, h2, _⟩
  · have := b.2.2; omega
  · omega
/-- a new inner node over two trees whose least is 0 -/
theorem tr_mkin {d x l r v : Nat} {f fl fr : Nat → Nat} (hx : x < 2048) (hF : x ∉ F) (h2 : 2 ≤ x) (tl : tr_T L R B T F d l fl) (tr : tr_T L R B T F d r fr)
    (hmin : tr_mn d fl = 0 ∨ tr_mn d fr = 0) (hne : ¬ (tr_mx d fl = 0 ∧ tr_mx d fr = 0))
    (hf : ∀ i, i < 2 ^ d → f i = v + fl i) (hg : ∀ i, i < 2 ^ d → f (2 ^ d + i) = v + fr i)
    (eL : L x = nI l) (eR : R x = nI r) (eB : B x = nI v) (eT : T x = nI (v + max (tr_mx d fl) (tr_mx d fr))) : tr_T L R B T F (d + 1) x f := by
  have a1 : tr_mn d f = v + tr_mn d fl := by rw [tr_mn_congr hf, tr_mn_add]
  have a2 : tr_mn d (fun i => f (2 ^ d + i)) = v + tr_mn d fr := by rw [tr_mn_congr hg, tr_mn_add]
  have b1 : tr_mx d f = v + tr_mx d fl := by rw [tr_mx_congr hf, tr_mx_add]
  have b2 : tr_mx d (fun i => f (2 ^ d + i)) = v + tr_mx d fr := by rw [tr_mx_congr hg, tr_mx_add]
  have m1 : tr_mn (d + 1) f = v := by rw [tr_mn_s, a1, a2]; omega
  have m2 : tr_mx (d + 1) f = v + max (tr_mx d fl) (tr_mx d fr) := by rw [tr_mx_s, b1, b2]; omega
  refine ⟨⟨hx, hF, by rw [m1, eB], by rw [m2, eT]⟩, Or.inr ⟨by rw [m1, m2]; omega, h2, l, r, eL, eR, ?_, ?_⟩⟩
  · exact tr_congr (fun i hi => by show fl i = f i - _; rw [m1, hf i hi]; omega) tl
  · exact tr_congr (fun i hi => by show fr i = f (2 ^ d + i) - _; rw [m1, hg i hi]; omega) tr
end
end
section
/-! the arena's own methods -/
section
variable {zS zM zF zG sc dp ce lm fr fc ct sp rp pl lo up : Int32} {L R B T mk lv ir er wc wh oA oB fA fB sg rN rC pa : Nat → Int32} {F : List Nat}
theorem mx_wp {post : Int32 → Prop} {a b : Nat} (ha : a < 2 ^ 31) (hb : b < 2 ^ 31) (K : post (nI (max a b))) : wpX_max post (zS, zM, zF, zG, sc, dp, ce, lm, fr, fc, ct, sp, rp, pl, lo, up, L, R, B, T, mk, lv, ir, er, wc, wh, oA, oB, fA, fB, sg, rN, rC, pa) (nI a) (nI b) := by
  unfold wpX_max
  (try dsimp only)
  refine pk_le a b (fun h => ?_) (fun h => ?_) rfl rfl ha hb
  · rw [show b = max a b by omega]; exact K
  · rw [show a = max a b by omega]; exact K
theorem il_t {post : Int32 → Prop} {x : Nat} (hx : x < 2048) (h : L x = -1) (K : post 1) : wpX_isLeaf post (zS, zM, zF, zG, sc, dp, ce, lm, fr, fc, ct, sp, rp, pl, lo, up, L, R, B, T, mk, lv, ir, er, wc, wh, oA, oB, fA, fB, sg, rN, rC, pa) (nI x) := by
  unfold wpX_isLeaf
  (try dsimp only)
  rw [nI_clamp (zz_lt hx), h]
  exact ⟨vp_in_nI hx (by decide), br_f (by decide) K⟩
theorem il_f {post : Int32 → Prop} {x l : Nat} (hx : x < 2048) (h : L x = nI l) (hl : l < 2048) (K : post 0) : wpX_isLeaf post (zS, zM, zF, zG, sc, dp, ce, lm, fr, fc, ct, sp, rp, pl, lo, up, L, R, B, T, mk, lv, ir, er, wc, wh, oA, oB, fA, fB, sg, rN, rC, pa) (nI x) := by
  unfold wpX_isLeaf
  (try dsimp only)
  rw [nI_clamp (zz_lt hx), h]
  exact ⟨vp_in_nI hx (by decide), br_t (nI_pos' (zz_lt hl)) K⟩
theorem al_lf {post : Int32 → SX → Prop} {x v : Nat} (hi : hp_I fr fc L R B T (x :: F))
    (K : ∀ (fr1 fc1 : Int32) (L1 R1 B1 T1 : Nat → Int32), hp_I fr1 fc1 L1 R1 B1 T1 F → hp_E L R B T (x :: F) L1 R1 B1 T1 F → x < 2048 → x ∉ F → 2 ≤ x → L1 x = -1 → B1 x = nI v → T1 x = nI v → post (nI x) (zS, zM, zF, zG, sc, dp, ce, lm, fr1, fc1, ct, sp, rp, pl, lo, up, L1, R1, B1, T1, mk, lv, ir, er, wc, wh, oA, oB, fA, fB, sg, rN, rC, pa)) :
    wpX_alloc post (zS, zM, zF, zG, sc, dp, ce, lm, fr, fc, ct, sp, rp, pl, lo, up, L, R, B, T, mk, lv, ir, er, wc, wh, oA, oB, fA, fB, sg, rN, rC, pa) (nI v) (-1) (-1) := by
  obtain ⟨⟨e0, hx2, hx, hnx, hfl⟩, ec, hlen, h0, h1⟩ := hi
  subst e0
  have hin : vp_in (nI x) 2048 := vp_in_nI hx (by decide)
  unfold wpX_alloc
  (try dsimp only)
  rw [nI_clamp (zz_lt hx)]
  refine br_f (nI_ne0 (by omega) (zz_lt hx)) ⟨hin, nm_e (nm_e ⟨hin, nm_e ⟨hin, nm_e ⟨hin, nm_e ⟨hin, nm_e (br_t (by decide) ?_)⟩⟩⟩⟩)⟩
  have n0 : (0 : Nat) ≠ x := by omega
  have n1 : (1 : Nat) ≠ x := by omega
  refine K _ _ _ _ _ _ ⟨?_, ?_, ?_, ?_, ?_⟩ ⟨?_, ?_⟩ hx hnx hx2 pk_us pk_us pk_us
  · exact hp_fl_ext (fun y hy => pk_un (fun e => hnx (e ▸ hy))) hfl
  · rw [ec, List.length_cons, nI_pred]
  · rw [List.length_cons] at hlen; omega
  · rw [pk_un n0, pk_un n0, pk_un n0]; exact h0
  · rw [pk_un n1, pk_un n1, pk_un n1]; exact h1
  · exact fun y hy => List.mem_cons_of_mem _ hy
  · intro y hy
    have e : y ≠ x := fun e => hy (by rw [e]; exact List.mem_cons_self)
    exact ⟨pk_un e, pk_un e, pk_un e, pk_un e⟩
theorem al_in {post : Int32 → SX → Prop} {x v l r tl tr : Nat} (hi : hp_I fr fc L R B T (x :: F)) (hl : l < 2048) (hr : r < 2048) (nl : l ∉ x :: F) (nr : r ∉ x :: F)
    (etl : T l = nI tl) (etr : T r = nI tr) (htl : tl < 2 ^ 31) (htr : tr < 2 ^ 31)
    (K : ∀ (fr1 fc1 : Int32) (L1 R1 B1 T1 : Nat → Int32), hp_I fr1 fc1 L1 R1 B1 T1 F → hp_E L R B T (x :: F) L1 R1 B1 T1 F → x < 2048 → x ∉ F → 2 ≤ x → L1 x = nI l → R1 x = nI r → B1 x = nI v → T1 x = nI (v + max tl tr) → post (nI x) (zS, zM, zF, zG, sc, dp, ce, lm, fr1, fc1, ct, sp, rp, pl, lo, up, L1, R1, B1, T1, mk, lv, ir, er, wc, wh, oA, oB, fA, fB, sg, rN, rC, pa)) :
    wpX_alloc post (zS, zM, zF, zG, sc, dp, ce, lm, fr, fc, ct, sp, rp, pl, lo, up, L, R, B, T, mk, lv, ir, er, wc, wh, oA, oB, fA, fB, sg, rN, rC, pa) (nI v) (nI l) (nI r) := by
  obtain ⟨⟨e0, hx2, hx, hnx, hfl⟩, ec, hlen, h0, h1⟩ := hi
  subst e0
  have hin : vp_in (nI x) 2048 := vp_in_nI hx (by decide)
  have lx : l ≠ x := fun e => nl (by rw [e]; exact List.mem_cons_self)
  have rx : r ≠ x := fun e => nr (by rw [e]; exact List.mem_cons_self)
  unfold wpX_alloc
  (try dsimp only)
  rw [nI_clamp (zz_lt hx)]
  refine br_f (nI_ne0 (by omega) (zz_lt hx)) ⟨hin, nm_e (nm_e ⟨hin, nm_e ⟨hin, nm_e ⟨hin, nm_e ⟨hin, nm_e (br_f (nI_pos (zz_lt hl)) (br_f (nI_pos (zz_lt hr)) ⟨vp_in_nI hl (by decide), vp_in_nI hr (by decide), ?_⟩))⟩⟩⟩⟩)⟩
  rw [nI_clamp (zz_lt hl), nI_clamp (zz_lt hr), pk_un lx, pk_un rx, etl, etr]
  refine mx_wp htl htr ⟨hin, nm_e ?_⟩
  have n0 : (0 : Nat) ≠ x := by omega
  have n1 : (1 : Nat) ≠ x := by omega
  refine K _ _ _ _ _ _ ⟨?_, ?_, ?_, ?_, ?_⟩ ⟨?_, ?_⟩ hx hnx hx2 pk_us pk_us pk_us (by rw [pk_us, nI_add])
  · exact hp_fl_ext (fun y hy => pk_un (fun e => hnx (e ▸ hy))) hfl
  · rw [ec, List.length_cons, nI_pred]
  · rw [List.length_cons] at hlen; omega
  · rw [pk_un n0, pk_un n0, pk_un n0, pk_un n0]; exact h0
  · rw [pk_un n1, pk_un n1, pk_un n1, pk_un n1]; exact h1
  · exact fun y hy => List.mem_cons_of_mem _ hy
  · intro y hy
    have e : y ≠ x := fun e => hy (by rw [e]; exact List.mem_cons_self)
    exact ⟨pk_un e, pk_un e, pk_un e, (pk_un e).trans (pk_un e)⟩
/-- what an own method that makes a tree hands on: a new arena, at most k nodes poorer -/
def hp_N (k : Nat) (fr fc : Int32) (L R B T : Nat → Int32) (F : List Nat) (fr1 fc1 : Int32) (L1 R1 B1 T1 : Nat → Int32) (F1 : List Nat) : Prop := hp_I fr1 fc1 L1 R1 B1 T1 F1 ∧ hp_E L R B T F L1 R1 B1 T1 F1 ∧ F.length ≤ F1.length + k
theorem hp_Nr (k : Nat) (hi : hp_I fr fc L R B T F) : hp_N k fr fc L R B T F fr fc L R B T F := ⟨hi, hp_Er, by omega⟩
theorem hp_Nt {k1 k2 k3 : Nat} {F1 F2 : List Nat} {fr1 fc1 : Int32} {L1 R1 B1 T1 : Nat → Int32} {fr2 fc2 : Int32} {L2 R2 B2 T2 : Nat → Int32} (a : hp_N k1 fr fc L R B T F fr1 fc1 L1 R1 B1 T1 F1) (b : hp_N k2 fr1 fc1 L1 R1 B1 T1 F1 fr2 fc2 L2 R2 B2 T2 F2) (h : k1 + k2 ≤ k3) : hp_N k3 fr fc L R B T F fr2 fc2 L2 R2 B2 T2 F2 :=
  ⟨b.1, hp_Et a.2.1 b.2.1, by have := a.2.2; have := b.2.2; omega⟩
theorem hp_Nx {k1 k2 : Nat} {F1 : List Nat} {fr1 fc1 : Int32} {L1 R1 B1 T1 : Nat → Int32} (a : hp_N k1 fr fc L R B T F fr1 fc1 L1 R1 B1 T1 F1) (h : k1 ≤ k2) : hp_N k2 fr fc L R B T F fr1 fc1 L1 R1 B1 T1 F1 := ⟨a.1, a.2.1, by have := a.2.2; omega⟩
theorem lf_wp {post : Int32 → SX → Prop} {v : Nat} (hi : hp_I fr fc L R B T F) (hF : 1 ≤ F.length) (hv : v < 2 ^ 31)
    (K : ∀ (fr1 fc1 : Int32) (L1 R1 B1 T1 : Nat → Int32) (F1 : List Nat) (x : Nat), hp_N 1 fr fc L R B T F fr1 fc1 L1 R1 B1 T1 F1 → (∀ (d : Nat) (f : Nat → Nat), (∀ i, i < 2 ^ d → f i = v) → tr_T L1 R1 B1 T1 F1 d x f) → post (nI x) (zS, zM, zF, zG, sc, dp, ce, lm, fr1, fc1, ct, sp, rp, pl, lo, up, L1, R1, B1, T1, mk, lv, ir, er, wc, wh, oA, oB, fA, fB, sg, rN, rC, pa)) :
    wpX_leaf post (zS, zM, zF, zG, sc, dp, ce, lm, fr, fc, ct, sp, rp, pl, lo, up, L, R, B, T, mk, lv, ir, er, wc, wh, oA, oB, fA, fB, sg, rN, rC, pa) (nI v) := by
  unfold wpX_leaf
  (try dsimp only)
  refine br_c (fun h => ?_) (fun h => br_c (fun h1 => ?_) (fun h1 => ?_))
  · have e : v = 0 := (nI_eq hv (by decide)).1 (h.trans nI_0.symm)
    subst e
    exact K _ _ _ _ _ _ F 0 (hp_Nr 1 hi) (fun d f hf => tr_zero hi hf)
  · have e : v = 1 := (nI_eq (b := 1) hv (by decide)).1 h1
    subst e
    exact K _ _ _ _ _ _ F 1 (hp_Nr 1 hi) (fun d f hf => tr_one hi hf)
  · have c0 : v ≠ 0 := fun e => h (by rw [e]; rfl)
    have c1 : v ≠ 1 := fun e => h1 (by rw [e]; rfl)
    cases F with
    | nil => exact absurd hF (by decide)
    | cons y F1 =>
      refine al_lf (v := v) hi (fun fr1 fc1 L1 R1 B1 T1 i1 e1 hx hn h2 eL eB eT => K _ _ _ _ _ _ F1 y ⟨i1, e1, by rw [List.length_cons]; exact Nat.le_refl _⟩ (fun d f hf => tr_mkleaf hx hn eB eT ⟨eL, by omega, by omega⟩ hf))
/-- a new inner node -/
theorem nd_wp {post : Int32 → SX → Prop} {d l r v : Nat} {fl fq : Nat → Nat} (hi : hp_I fr fc L R B T F) (hF : 1 ≤ F.length) (tl : tr_T L R B T F d l fl) (tr : tr_T L R B T F d r fq)
    (hmin : tr_mn d fl = 0 ∨ tr_mn d fq = 0) (hne : ¬ (tr_mx d fl = 0 ∧ tr_mx d fq = 0)) (b1 : tr_mx d fl < 2 ^ 31) (b2 : tr_mx d fq < 2 ^ 31)
    (K : ∀ (fr1 fc1 : Int32) (L1 R1 B1 T1 : Nat → Int32) (F1 : List Nat) (x : Nat), hp_N 1 fr fc L R B T F fr1 fc1 L1 R1 B1 T1 F1 → (∀ f : Nat → Nat, (∀ i, i < 2 ^ d → f i = v + fl i) → (∀ i, i < 2 ^ d → f (2 ^ d + i) = v + fq i) → tr_T L1 R1 B1 T1 F1 (d + 1) x f) → post (nI x) (zS, zM, zF, zG, sc, dp, ce, lm, fr1, fc1, ct, sp, rp, pl, lo, up, L1, R1, B1, T1, mk, lv, ir, er, wc, wh, oA, oB, fA, fB, sg, rN, rC, pa)) :
    wpX_alloc post (zS, zM, zF, zG, sc, dp, ce, lm, fr, fc, ct, sp, rp, pl, lo, up, L, R, B, T, mk, lv, ir, er, wc, wh, oA, oB, fA, fB, sg, rN, rC, pa) (nI v) (nI l) (nI r) := by
  cases F with
  | nil => exact absurd hF (by decide)
  | cons y F1 =>
    have nl := tr_nd_of tl
    have nr := tr_nd_of tr
    refine al_in (v := v) (x := y) hi nl.1 nr.1 nl.2.1 nr.2.1 nl.2.2.2 nr.2.2.2 b1 b2 (fun fr1 fc1 L1 R1 B1 T1 i1 e1 hx hn h2 eL eR eB eT => K _ _ _ _ _ _ F1 y ⟨i1, e1, by rw [List.length_cons]; exact Nat.le_refl _⟩ (fun f hf hg => ?_))
    exact tr_mkin hx hn h2 (tr_ext e1 tl) (tr_ext e1 tr) hmin hne hf hg eL eR eB eT
/-- lift: the same tree, its least moved from m to m1 -/
theorem li_wp {post : Int32 → SX → Prop} {d x : Nat} {w : Int32} {f f1 : Nat → Nat} (hi : hp_I fr fc L R B T F) (hF : 1 ≤ F.length) (t : tr_T L R B T F d x f)
    (hb : tr_mx d f < 2 ^ 31) (hb1 : tr_mn d f1 < 2 ^ 31) (h0 : w = 0 → ∀ i, i < 2 ^ d → f i = f1 i) (hw : nI (tr_mn d f) + w = nI (tr_mn d f1)) (hs : ∀ i, i < 2 ^ d → f1 i + tr_mn d f = f i + tr_mn d f1)
    (K : ∀ (fr1 fc1 : Int32) (L1 R1 B1 T1 : Nat → Int32) (F1 : List Nat) (x1 : Nat), hp_N 1 fr fc L R B T F fr1 fc1 L1 R1 B1 T1 F1 → tr_T L1 R1 B1 T1 F1 d x1 f1 → post (nI x1) (zS, zM, zF, zG, sc, dp, ce, lm, fr1, fc1, ct, sp, rp, pl, lo, up, L1, R1, B1, T1, mk, lv, ir, er, wc, wh, oA, oB, fA, fB, sg, rN, rC, pa)) :
    wpX_lift post (zS, zM, zF, zG, sc, dp, ce, lm, fr, fc, ct, sp, rp, pl, lo, up, L, R, B, T, mk, lv, ir, er, wc, wh, oA, oB, fA, fB, sg, rN, rC, pa) (nI x) w := by
  unfold wpX_lift
  (try dsimp only)
  refine br_c (fun h => K _ _ _ _ _ _ F x (hp_Nr 1 hi) (tr_congr (h0 h) t)) (fun h => ?_)
  have n := tr_nd_of t
  have hin : vp_in (nI x) 2048 := vp_in_nI n.1 (by decide)
  rw [nI_clamp (zz_lt n.1), n.2.2.1, hw]
  rcases tr_cs t with ⟨a, b⟩ | ⟨e, l, r, rfl, h1, h2, h3, h4, h5, h6⟩
  · refine il_t n.1 b.1 (br_f (by decide) ⟨hin, lf_wp hi hF hb1 (fun fr1 fc1 L1 R1 B1 T1 F1 x1 i1 k1 => K _ _ _ _ _ _ F1 x1 i1 (k1 d f1 (fun i hi => ?_)))⟩)
    have e1 := hs i hi
    have e2 := tr_const a i hi
    omega
  · rw [h3, h4]
    refine il_f n.1 h3 (tr_lt h5) (br_t rfl ⟨hin, hin, hin, ?_⟩)
    have s1 := tr_mn_s e f
    have s2 := tr_mx_s e f
    have hz := zz_2s e
    refine nd_wp hi hF h5 h6 ?_ ?_ ?_ ?_ (fun fr1 fc1 L1 R1 B1 T1 F1 x1 i1 k1 => K _ _ _ _ _ _ F1 x1 i1 (k1 f1 (fun i hi => ?_) (fun i hi => ?_)))
    · rw [tr_mn_sub, tr_mn_sub e (fun i => f (2 ^ e + i))]; omega
    · rw [tr_mx_sub, tr_mx_sub e (fun i => f (2 ^ e + i))]; omega
    · rw [tr_mx_sub]; omega
    · rw [tr_mx_sub e (fun i => f (2 ^ e + i))]; omega
    · have e1 := hs i (by omega)
      have e2 := tr_mn_le (e + 1) f i (by omega)
      omega
    · have e1 := hs (2 ^ e + i) (by omega)
      have e2 := tr_mn_le (e + 1) f (2 ^ e + i) (by omega)
      omega
/-- lift by an offset o: f + o -/
theorem li_up {post : Int32 → SX → Prop} {d x o : Nat} {f : Nat → Nat} (hi : hp_I fr fc L R B T F) (hF : 1 ≤ F.length) (t : tr_T L R B T F d x f) (hb : o + tr_mx d f < 2 ^ 31)
    (K : ∀ (fr1 fc1 : Int32) (L1 R1 B1 T1 : Nat → Int32) (F1 : List Nat) (x1 : Nat), hp_N 1 fr fc L R B T F fr1 fc1 L1 R1 B1 T1 F1 → tr_T L1 R1 B1 T1 F1 d x1 (fun i => o + f i) → post (nI x1) (zS, zM, zF, zG, sc, dp, ce, lm, fr1, fc1, ct, sp, rp, pl, lo, up, L1, R1, B1, T1, mk, lv, ir, er, wc, wh, oA, oB, fA, fB, sg, rN, rC, pa)) :
    wpX_lift post (zS, zM, zF, zG, sc, dp, ce, lm, fr, fc, ct, sp, rp, pl, lo, up, L, R, B, T, mk, lv, ir, er, wc, wh, oA, oB, fA, fB, sg, rN, rC, pa) (nI x) (nI o) := by
  have m := tr_mnx d f
  refine li_wp hi hF t (by omega) (by rw [tr_mn_add]; omega) (fun h i hi => ?_) (by rw [tr_mn_add, nI_add, Nat.add_comm]) (fun i hi => by rw [tr_mn_add]; omega) K
  have e : o = 0 := (nI_eq (by omega) (by decide)).1 (h.trans nI_0.symm)
  subst e
  exact (Nat.zero_add _).symm
/-- lift down by m, not more than the least -/
theorem li_dn {post : Int32 → SX → Prop} {d x m : Nat} {f : Nat → Nat} (hi : hp_I fr fc L R B T F) (hF : 1 ≤ F.length) (t : tr_T L R B T F d x f) (hb : tr_mx d f < 2 ^ 31) (hm : m ≤ tr_mn d f)
    (K : ∀ (fr1 fc1 : Int32) (L1 R1 B1 T1 : Nat → Int32) (F1 : List Nat) (x1 : Nat), hp_N 1 fr fc L R B T F fr1 fc1 L1 R1 B1 T1 F1 → tr_T L1 R1 B1 T1 F1 d x1 (fun i => f i - m) → post (nI x1) (zS, zM, zF, zG, sc, dp, ce, lm, fr1, fc1, ct, sp, rp, pl, lo, up, L1, R1, B1, T1, mk, lv, ir, er, wc, wh, oA, oB, fA, fB, sg, rN, rC, pa)) :
    wpX_lift post (zS, zM, zF, zG, sc, dp, ce, lm, fr, fc, ct, sp, rp, pl, lo, up, L, R, B, T, mk, lv, ir, er, wc, wh, oA, oB, fA, fB, sg, rN, rC, pa) (nI x) (-nI m) := by
  have mm := tr_mnx d f
  refine li_wp hi hF t hb (by rw [tr_mn_sub]; omega) (fun h i hi => ?_) (by rw [tr_mn_sub, zz_addneg hm]) (fun i hi => by have := tr_mn_le d f i hi; rw [tr_mn_sub]; omega) K
  have e : m = 0 := (zz_neg0 (by omega)).1 h
  subst e
  exact (Nat.sub_zero _).symm
/-- an identity node in normal form -/
theorem id_wp {post : Int32 → SX → Prop} {d l r : Nat} {fl fq f : Nat → Nat} (hi : hp_I fr fc L R B T F) (hF : 1 ≤ F.length) (tl : tr_T L R B T F d l fl) (tr : tr_T L R B T F d r fq)
    (ol : ∀ i, i < 2 ^ d → fl i ≤ 1) (oq : ∀ i, i < 2 ^ d → fq i ≤ 1) (hf : ∀ i, i < 2 ^ d → f i = fl i) (hg : ∀ i, i < 2 ^ d → f (2 ^ d + i) = fq i)
    (K : ∀ (fr1 fc1 : Int32) (L1 R1 B1 T1 : Nat → Int32) (F1 : List Nat) (x : Nat), hp_N 1 fr fc L R B T F fr1 fc1 L1 R1 B1 T1 F1 → tr_T L1 R1 B1 T1 F1 (d + 1) x f → post (nI x) (zS, zM, zF, zG, sc, dp, ce, lm, fr1, fc1, ct, sp, rp, pl, lo, up, L1, R1, B1, T1, mk, lv, ir, er, wc, wh, oA, oB, fA, fB, sg, rN, rC, pa)) :
    wpX_idNode post (zS, zM, zF, zG, sc, dp, ce, lm, fr, fc, ct, sp, rp, pl, lo, up, L, R, B, T, mk, lv, ir, er, wc, wh, oA, oB, fA, fB, sg, rN, rC, pa) (nI l) (nI r) := by
  have ml := tr_mx_le ol
  have mq := tr_mx_le oq
  have z0 := tr_is0 tl
  have z1 := tr_is1 tl
  have y0 := tr_is0 tr
  have y1 := tr_is1 tr
  have ll := tr_lt tl
  have lr := tr_lt tr
  have s1 := tr_mnx d fl
  have s2 := tr_mnx d fq
  have alloc : ¬ (l = r ∧ l ≤ 1) → wX_idNode_12 post (nI l) (nI r) zS zM zF zG sc dp ce lm fr fc ct sp rp pl lo up L R B T mk lv ir er wc wh oA oB fA fB sg rN rC pa := by
    intro hn
    unfold wX_idNode_12
    refine nd_wp (v := 0) hi hF tl tr ?_ ?_ (by omega) (by omega) (fun fr1 fc1 L1 R1 B1 T1 F1 x1 i1 k1 => K _ _ _ _ _ _ F1 x1 i1 (k1 f (fun i hi => by rw [hf i hi]; omega) (fun i hi => by rw [hg i hi]; omega)))
    · omega
    · omega
  unfold wpX_idNode
  (try dsimp only)
  refine pk_eq l r (fun e => ?_) (fun e => alloc (fun z => e z.1)) rfl rfl (zz_lt ll) (zz_lt lr)
  refine pk_lt 1 l (fun h => alloc (fun z => by omega)) (fun h => ?_) rfl rfl (by decide) (zz_lt ll)
  subst e
  have h01 : l = 0 ∨ l = 1 := by omega
  rcases h01 with c | c
  · subst c
    refine K _ _ _ _ _ _ F 0 (hp_Nr 1 hi) (tr_zero hi (tr_halves (fun i hi => ?_) (fun i hi => ?_)))
    · have := tr_mx_ge d fl i hi; rw [hf i hi]; omega
    · have := tr_mx_ge d fq i hi; rw [hg i hi]; omega
  · subst c
    refine K _ _ _ _ _ _ F 1 (hp_Nr 1 hi) (tr_one hi (tr_halves (fun i hi => ?_) (fun i hi => ?_)))
    · have := tr_mx_ge d fl i hi; have := tr_mn_le d fl i hi; rw [hf i hi]; omega
    · have := tr_mx_ge d fq i hi; have := tr_mn_le d fq i hi; rw [hg i hi]; omega
/-- an event node in normal form -/
theorem ev_wp {post : Int32 → SX → Prop} {d l r : Nat} {fl fq f : Nat → Nat} (hi : hp_I fr fc L R B T F) (hF : 3 ≤ F.length) (tl : tr_T L R B T F d l fl) (tr : tr_T L R B T F d r fq)
    (bl : tr_mx d fl < 2 ^ 30) (bq : tr_mx d fq < 2 ^ 30) (hf : ∀ i, i < 2 ^ d → f i = fl i) (hg : ∀ i, i < 2 ^ d → f (2 ^ d + i) = fq i)
    (K : ∀ (fr1 fc1 : Int32) (L1 R1 B1 T1 : Nat → Int32) (F1 : List Nat) (x : Nat), hp_N 3 fr fc L R B T F fr1 fc1 L1 R1 B1 T1 F1 → tr_T L1 R1 B1 T1 F1 (d + 1) x f → post (nI x) (zS, zM, zF, zG, sc, dp, ce, lm, fr1, fc1, ct, sp, rp, pl, lo, up, L1, R1, B1, T1, mk, lv, ir, er, wc, wh, oA, oB, fA, fB, sg, rN, rC, pa)) :
    wpX_evNode post (zS, zM, zF, zG, sc, dp, ce, lm, fr, fc, ct, sp, rp, pl, lo, up, L, R, B, T, mk, lv, ir, er, wc, wh, oA, oB, fA, fB, sg, rN, rC, pa) (nI l) (nI r) := by
  have nl := tr_nd_of tl
  have nr := tr_nd_of tr
  have s1 := tr_mnx d fl
  have s2 := tr_mnx d fq
  have il : vp_in (nI l) 2048 := vp_in_nI nl.1 (by decide)
  have ir' : vp_in (nI r) 2048 := vp_in_nI nr.1 (by decide)
  have core : ∀ m : Nat, m = min (tr_mn d fl) (tr_mn d fq) → ¬ (tr_mx d fl = m ∧ tr_mx d fq = m) → wX_evNode_63 post (nI l) (nI r) (nI m) zS zM zF zG sc dp ce lm fr fc ct sp rp pl lo up L R B T mk lv ir er wc wh oA oB fA fB sg rN rC pa := by
    intro m em hn
    unfold wX_evNode_63
    refine li_dn hi (by omega) tl (by omega) (by omega) (fun fr1 fc1 L1 R1 B1 T1 F1 x1 i1 k1 => ?_)
    (try dsimp only)
    have := i1.2.2
    refine li_dn i1.1 (by omega) (tr_ext i1.2.1 tr) (by omega) (by omega) (fun fr2 fc2 L2 R2 B2 T2 F2 x2 i2 k2 => ?_)
    (try dsimp only)
    have := i2.2.2
    refine nd_wp i2.1 (by omega) (tr_ext i2.2.1 k1) k2 ?_ ?_ ?_ ?_ (fun fr3 fc3 L3 R3 B3 T3 F3 x3 i3 k3 => ?_)
    · rw [tr_mn_sub, tr_mn_sub]; omega
    · rw [tr_mx_sub, tr_mx_sub]; omega
    · rw [tr_mx_sub]; omega
    · rw [tr_mx_sub]; omega
    · exact K _ _ _ _ _ _ F3 x3 (hp_Nt (hp_Nt i1 i2 (Nat.le_refl 2)) i3 (Nat.le_refl 3)) (k3 f (fun i hi => by rw [hf i hi]; have := tr_mn_le d fl i hi; omega) (fun i hi => by rw [hg i hi]; have := tr_mn_le d fq i hi; omega))
  have mid : ¬ (tr_mx d fl = min (tr_mn d fl) (tr_mn d fq) ∧ tr_mx d fq = min (tr_mn d fl) (tr_mn d fq)) → wX_evNode_33 post (nI l) (nI r) zS zM zF zG sc dp ce lm fr fc ct sp rp pl lo up L R B T mk lv ir er wc wh oA oB fA fB sg rN rC pa := by
    intro hn
    unfold wX_evNode_33
    rw [nI_clamp (zz_lt nl.1), nI_clamp (zz_lt nr.1), nl.2.2.1, nr.2.2.1]
    refine ⟨il, ir', pk_le (tr_mn d fq) (tr_mn d fl) (fun h => ⟨ir', core _ (by omega) (by omega)⟩) (fun h => ⟨il, core _ (by omega) (by omega)⟩) rfl rfl (by omega) (by omega)⟩
  unfold wpX_evNode
  (try dsimp only)
  rcases tr_cs tl with ⟨a, b⟩ | ⟨e, l1, r1, rfl, h1, h2, h3, h4, h5, h6⟩
  · refine il_t nl.1 b.1 (br_f (by decide) ?_)
    rcases tr_cs tr with ⟨a', b'⟩ | ⟨e, l1, r1, rfl, h1, h2, h3, h4, h5, h6⟩
    · refine il_t nr.1 b'.1 (br_f (by decide) ⟨il, ir', ?_⟩)
      rw [nI_clamp (zz_lt nl.1), nI_clamp (zz_lt nr.1), nl.2.2.1, nr.2.2.1]
      refine pk_eq (tr_mn d fl) (tr_mn d fq) (fun h => ?_) (fun h => mid (by omega)) rfl rfl (by omega) (by omega)
      refine K _ _ _ _ _ _ F l (hp_Nr 3 hi) (tr_mkleaf nl.1 nl.2.1 nl.2.2.1 (by rw [nl.2.2.2, a]) b (tr_halves (fun i hi => ?_) (fun i hi => ?_)))
      · rw [hf i hi]; exact tr_const a i hi
      · rw [hg i hi, tr_const a' i hi, h]
    · exact il_f nr.1 h3 (tr_lt h5) (br_t rfl (mid (by omega)))
  · exact il_f nl.1 h3 (tr_lt h5) (br_t rfl (mid (by omega)))
end
end
section
/-! the evaluator's steps -/
section
variable {zS zM zF zG sc dp ce lm fr fc ct sp rp pl lo up : Int32} {L R B T mk lv ir er wc wh oA oB fA fB sg rN rC pa : Nat → Int32} {F : List Nat}
/-- y is x's child on that side (a leaf stands for its own halves); m is what x adds to an offset -/
def ch_is (L R : Nat → Int32) (side x y : Nat) : Prop := x < 2048 ∧ ((L x = -1 ∧ y = x) ∨ (∃ l r : Nat, l < 2048 ∧ L x = nI l ∧ R x = nI r ∧ ((side = 0 ∧ y = l) ∨ (side = 1 ∧ y = r))))
def co_is (L B : Nat → Int32) (x m : Nat) : Prop := x < 2048 ∧ ((L x = -1 ∧ m = 0) ∨ (∃ l : Nat, l < 2048 ∧ L x = nI l ∧ B x = nI m))
theorem ch_wp {post : Int32 → Prop} {side x y : Nat} (hs : side ≤ 1) (c : ch_is L R side x y) (K : post (nI y)) : wpX_child post (zS, zM, zF, zG, sc, dp, ce, lm, fr, fc, ct, sp, rp, pl, lo, up, L, R, B, T, mk, lv, ir, er, wc, wh, oA, oB, fA, fB, sg, rN, rC, pa) (nI x) (nI side) := by
  unfold wpX_child
  (try dsimp only)
  obtain ⟨hx, ⟨e, rfl⟩ | ⟨l, r, hl, e1, e2, h⟩⟩ := c
  · exact il_t hx e (br_f (by decide) K)
  · refine il_f hx e1 hl (br_t rfl ?_)
    have hin : vp_in (nI x) 2048 := vp_in_nI hx (by decide)
    rw [nI_clamp (zz_lt hx), e1, e2]
    rcases h with ⟨rfl, rfl⟩ | ⟨rfl, rfl⟩
    · exact br_t rfl ⟨hin, K⟩
    · exact br_f (by decide) ⟨hin, K⟩
theorem co_wp {post : Int32 → Prop} {x m o : Nat} (c : co_is L B x m) (K : post (nI (o + m))) : wpX_childOffset post (zS, zM, zF, zG, sc, dp, ce, lm, fr, fc, ct, sp, rp, pl, lo, up, L, R, B, T, mk, lv, ir, er, wc, wh, oA, oB, fA, fB, sg, rN, rC, pa) (nI x) (nI o) := by
  unfold wpX_childOffset
  (try dsimp only)
  obtain ⟨hx, ⟨e, rfl⟩ | ⟨l, hl, e1, e2⟩⟩ := c
  · exact il_t hx e (br_f (by decide) K)
  · refine il_f hx e1 hl (br_t rfl ?_)
    rw [nI_clamp (zz_lt hx), e2, nI_add]
    exact ⟨vp_in_nI hx (by decide), K⟩
/-- the two halves of a tree of depth d + 1 -/
def tr_K (L R B T : Nat → Int32) (F : List Nat) (d x : Nat) (f : Nat → Nat) (l r m : Nat) : Prop :=
  co_is L B x m ∧ (∀ i, i < 2 ^ (d + 1) → m ≤ f i) ∧ ch_is L R 0 x l ∧ ch_is L R 1 x r ∧ tr_T L R B T F d l (fun i => f i - m) ∧ tr_T L R B T F d r (fun i => f (2 ^ d + i) - m) ∧ (m = 0 ∨ m < tr_mx (d + 1) f)
theorem tr_two {d x : Nat} {f : Nat → Nat} (t : tr_T L R B T F (d + 1) x f) : ∃ l r m, tr_K L R B T F d x f l r m := by
  have n := tr_nd_of t
  have hz := zz_2s d
  rcases tr_cs t with ⟨a, b⟩ | ⟨e, l, r, he, h1, h2, h3, h4, h5, h6⟩
  · refine ⟨x, x, 0, ⟨n.1, Or.inl ⟨b.1, rfl⟩⟩, fun i _ => Nat.zero_le _, ⟨n.1, Or.inl ⟨b.1, rfl⟩⟩, ⟨n.1, Or.inl ⟨b.1, rfl⟩⟩, ?_, ?_, Or.inl rfl⟩
    · exact tr_mkleaf n.1 n.2.1 n.2.2.1 (by rw [n.2.2.2, a]) b (fun i hi => by show f i - 0 = _; rw [tr_const a i (by omega), Nat.sub_zero])
    · exact tr_mkleaf n.1 n.2.1 n.2.2.1 (by rw [n.2.2.2, a]) b (fun i hi => by show f (2 ^ d + i) - 0 = _; rw [tr_const a (2 ^ d + i) (by omega), Nat.sub_zero])
  · have he : e = d := by omega
    subst he
    refine ⟨l, r, tr_mn (e + 1) f, ⟨n.1, Or.inr ⟨l, tr_lt h5, h3, n.2.2.1⟩⟩, fun i hi => tr_mn_le _ _ _ hi, ⟨n.1, Or.inr ⟨l, r, tr_lt h5, h3, h4, Or.inl ⟨rfl, rfl⟩⟩⟩, ⟨n.1, Or.inr ⟨l, r, tr_lt h5, h3, h4, Or.inr ⟨rfl, rfl⟩⟩⟩, h5, h6, Or.inr h1⟩
/-- a frame of the evaluator -/
def fr_at (k a b oa ob side : Nat) (oA oB fA fB sg : Nat → Int32) : Prop := oA k = nI a ∧ oB k = nI b ∧ fA k = nI oa ∧ fB k = nI ob ∧ sg k = nI side
def fr_same (k : Nat) (oA oB fA fB sg oA1 oB1 fA1 fB1 sg1 : Nat → Int32) : Prop := ∀ i, i < k → oA1 i = oA i ∧ oB1 i = oB i ∧ fA1 i = fA i ∧ fB1 i = fB i ∧ sg1 i = sg i
theorem fr_st {k : Nat} {oA1 oB1 fA1 fB1 sg1 oA2 oB2 fA2 fB2 sg2 : Nat → Int32} (a : fr_same k oA oB fA fB sg oA1 oB1 fA1 fB1 sg1) (b : fr_same k oA1 oB1 fA1 fB1 sg1 oA2 oB2 fA2 fB2 sg2) : fr_same k oA oB fA fB sg oA2 oB2 fA2 fB2 sg2 := by
  intro i hi
  have h1 := a i hi
  have h2 := b i hi
  exact ⟨h2.1.trans h1.1, h2.2.1.trans h1.2.1, h2.2.2.1.trans h1.2.2.1, h2.2.2.2.1.trans h1.2.2.2.1, h2.2.2.2.2.trans h1.2.2.2.2⟩
theorem pc_wp {post : SX → Prop} {k a b oa ob side ya yb ma mb : Nat} (hk : k + 1 < 32) (esp : sp = nI (k + 1)) (fa : fr_at k a b oa ob side oA oB fA fB sg) (hs : side ≤ 1)
    (c1 : ch_is L R side a ya) (c2 : ch_is L R side b yb) (c3 : co_is L B a ma) (c4 : co_is L B b mb)
    (K : ∀ oA1 oB1 fA1 fB1 sg1 : Nat → Int32, fr_at k a b oa ob (side + 1) oA1 oB1 fA1 fB1 sg1 → fr_at (k + 1) ya yb (oa + ma) (ob + mb) 0 oA1 oB1 fA1 fB1 sg1 → fr_same k oA oB fA fB sg oA1 oB1 fA1 fB1 sg1 →
      post (zS, zM, zF, zG, sc, dp, ce, lm, fr, fc, ct, nI (k + 2), rp, pl, lo, up, L, R, B, T, mk, lv, ir, er, wc, wh, oA1, oB1, fA1, fB1, sg1, rN, rC, pa)) : wpX_pushChild post (zS, zM, zF, zG, sc, dp, ce, lm, fr, fc, ct, sp, rp, pl, lo, up, L, R, B, T, mk, lv, ir, er, wc, wh, oA, oB, fA, fB, sg, rN, rC, pa) (nI k) := by
  obtain ⟨e1, e2, e3, e4, e5⟩ := fa
  subst esp
  have hin : vp_in (nI k) 32 := vp_in_nI (by omega) (by decide)
  have hin1 : vp_in (nI (k + 1)) 32 := vp_in_nI (by omega) (by decide)
  have ne : k ≠ k + 1 := by omega
  unfold wpX_pushChild
  (try dsimp only)
  rw [nI_clamp (show k < 2 ^ 31 by omega), nI_clamp (show k + 1 < 2 ^ 31 by omega), e5, e1, e2, e3, e4]
  refine ⟨hin, nm_e ⟨hin, nm_e ⟨hin, ch_wp hs c1 ⟨hin1, nm_e ⟨hin, ch_wp hs c2 ⟨hin1, nm_e ⟨hin, hin, ?_⟩⟩⟩⟩⟩⟩⟩
  rw [pk_un (f := oA) ne, e1]
  refine co_wp c3 ⟨hin1, nm_e ⟨hin, hin, ?_⟩⟩
  rw [pk_un (f := oB) ne, e2]
  refine co_wp c4 ⟨hin1, nm_e ⟨hin1, nm_e ?_⟩⟩
  rw [nI_1 (k + 1), nI_1 side]
  refine nm_e (K _ _ _ _ _ ⟨?_, ?_, ?_, ?_, ?_⟩ ⟨pk_us, pk_us, pk_us, pk_us, pk_us⟩ ?_)
  · rw [pk_un ne, e1]
  · rw [pk_un ne, e2]
  · rw [pk_un ne, e3]
  · rw [pk_un ne, e4]
  · rw [pk_un ne, pk_us]
  · intro i hi
    have n1 : i ≠ k + 1 := by omega
    have n2 : i ≠ k := by omega
    exact ⟨pk_un n1, pk_un n1, pk_un n1, pk_un n1, (pk_un n1).trans (pk_un n2)⟩
/-- where the evaluator stops -/
def ev_S (op d : Nat) (fa fb : Nat → Nat) : Prop :=
  (op = 3 ∧ tr_mn d fa = tr_mx d fa) ∨ (op = 1 ∧ tr_mn d fa = tr_mx d fa ∧ tr_mn d fb = tr_mx d fb) ∨ (op ≠ 3 ∧ op ≠ 1 ∧ (tr_mn d fa = tr_mx d fa ∨ tr_mn d fb = tr_mx d fb))
theorem il_c {post : Int32 → Prop} {d x : Nat} {f : Nat → Nat} (t : tr_T L R B T F d x f) (K1 : tr_mn d f = tr_mx d f → post 1) (K0 : tr_mn d f ≠ tr_mx d f → post 0) : wpX_isLeaf post (zS, zM, zF, zG, sc, dp, ce, lm, fr, fc, ct, sp, rp, pl, lo, up, L, R, B, T, mk, lv, ir, er, wc, wh, oA, oB, fA, fB, sg, rN, rC, pa) (nI x) := by
  rcases tr_cs t with ⟨a, b⟩ | ⟨e, l, r, rfl, h1, h2, h3, h4, h5, h6⟩
  · exact il_t (tr_lt t) b.1 (K1 a)
  · exact il_f (tr_lt t) h3 (tr_lt h5) (K0 (by omega))
theorem se_wp {post : Int32 → Prop} {op d a b : Nat} {fa fb : Nat → Nat} (ho : op < 4) (ta : tr_T L R B T F d a fa) (tb : tr_T L R B T F d b fb) (K1 : ev_S op d fa fb → post 1) (K0 : ¬ ev_S op d fa fb → post 0) :
    wpX_settled post (zS, zM, zF, zG, sc, dp, ce, lm, fr, fc, ct, sp, rp, pl, lo, up, L, R, B, T, mk, lv, ir, er, wc, wh, oA, oB, fA, fB, sg, rN, rC, pa) (nI op) (nI a) (nI b) := by
  unfold wpX_settled
  (try dsimp only)
  refine pk_eq op 3 (fun h => ?_) (fun h => pk_eq op 1 (fun h1 => ?_) (fun h1 => ?_) rfl rfl (by omega) (by decide)) rfl rfl (by omega) (by decide)
  · refine il_c ta (fun c => ⟨rfl, K1 (Or.inl ⟨h, c⟩)⟩) (fun c => ⟨rfl, K0 ?_⟩)
    rintro (z | z | z)
    · exact c z.2
    · omega
    · omega
  · refine il_c ta (fun c => br_f (by decide) (il_c tb (fun c' => br_f (by decide) (K1 (Or.inr (Or.inl ⟨h1, c, c'⟩)))) (fun c' => br_t rfl (K0 ?_)))) (fun c => br_t rfl (K0 ?_))
    · rintro (z | z | z)
      · omega
      · exact c' z.2.2
      · omega
    · rintro (z | z | z)
      · omega
      · exact c z.2.1
      · omega
  · refine il_c ta (fun c => br_f (by decide) (K1 (Or.inr (Or.inr ⟨h, h1, Or.inl c⟩)))) (fun c => br_t rfl (il_c tb (fun c' => br_f (by decide) (K1 (Or.inr (Or.inr ⟨h, h1, Or.inr c'⟩)))) (fun c' => br_t rfl (K0 ?_))))
    rintro (z | z | z)
    · omega
    · omega
    · exact z.2.2.elim c c'
theorem fi_wp {post : SX → Prop} {k r : Nat} {x c : Int32} (esp : sp = nI (k + 1)) (erp : rp = nI r) (hr : r < 32) (K : post (zS, zM, zF, zG, sc, dp, ce, lm, fr, fc, ct, nI k, nI (r + 1), pl, lo, up, L, R, B, T, mk, lv, ir, er, wc, wh, oA, oB, fA, fB, sg, upd rN r x, upd rC r c, pa)) : wpX_finish post (zS, zM, zF, zG, sc, dp, ce, lm, fr, fc, ct, sp, rp, pl, lo, up, L, R, B, T, mk, lv, ir, er, wc, wh, oA, oB, fA, fB, sg, rN, rC, pa) x c := by
  subst esp erp
  unfold wpX_finish
  (try dsimp only)
  have hin : vp_in (nI r) 32 := vp_in_nI hr (by decide)
  rw [nI_clamp (show r < 2 ^ 31 by omega), nI_pred, nI_1]
  exact nm_e ⟨hin, nm_e ⟨hin, nm_e (nm_e K)⟩⟩
/-- what the operations ask of their operands, and what they answer -/
def ev_P (op d oa ob : Nat) (fa fb : Nat → Nat) : Prop :=
  (∀ i, i < 2 ^ d → oa + fa i < 2 ^ 20 ∧ ob + fb i < 2 ^ 20) ∧ (op ≠ 1 → oa = 0 ∧ ∀ i, i < 2 ^ d → fa i ≤ 1) ∧ (op = 0 → ob = 0 ∧ ∀ i, i < 2 ^ d → fb i ≤ 1)
def ev_R (op d : Nat) (FA FB f : Nat → Nat) : Prop :=
  (op ≤ 1 → ∀ i, i < 2 ^ d → f i = max (FA i) (FB i)) ∧ (2 ≤ op → ∀ i, i < 2 ^ d → FB i ≤ f i ∧ (FA i = 0 → f i = FB i)) ∧
  (op = 2 → tr_mx d f ≤ tr_mx d FB) ∧ (op = 3 → tr_mx d f ≤ tr_mx d FB + 1 ∧ (tr_mx d FA ≠ 0 → ∃ i, i < 2 ^ d ∧ FB i < f i))
def ev_C (op d : Nat) (FA : Nat → Nat) (c : Nat) : Prop := c ≤ 1000000 ∧ (op = 3 → (tr_mx d FA = 0 → c = 1000000) ∧ (tr_mx d FA ≠ 0 → c ≤ 1001 * d))
theorem ev_Rc {op d : Nat} {FA FB GA GB f : Nat → Nat} (h1 : ∀ i, i < 2 ^ d → FA i = GA i) (h2 : ∀ i, i < 2 ^ d → FB i = GB i) (h : ev_R op d FA FB f) : ev_R op d GA GB f := by
  obtain ⟨a, b, c, e⟩ := h
  rw [tr_mx_congr h2] at c e
  rw [tr_mx_congr h1] at e
  refine ⟨fun ho i hi => by rw [← h1 i hi, ← h2 i hi]; exact a ho i hi, fun ho i hi => by rw [← h1 i hi, ← h2 i hi]; exact b ho i hi, c, fun ho => ⟨(e ho).1, fun hn => ?_⟩⟩
  obtain ⟨i, hi, z⟩ := (e ho).2 hn
  exact ⟨i, hi, by rw [← h2 i hi]; exact z⟩
theorem ev_Cc {op d c : Nat} {FA GA : Nat → Nat} (h1 : ∀ i, i < 2 ^ d → FA i = GA i) (h : ev_C op d FA c) : ev_C op d GA c := by
  unfold ev_C at h ⊢
  rw [← tr_mx_congr h1]; exact h
theorem ev_Pl {op d oa ob ma mb : Nat} {fa fb : Nat → Nat} (p : ev_P op (d + 1) oa ob fa fb) (h1 : ∀ i, i < 2 ^ (d + 1) → ma ≤ fa i) (h2 : ∀ i, i < 2 ^ (d + 1) → mb ≤ fb i)
    (z1 : ma = 0 ∨ ma < tr_mx (d + 1) fa) (z2 : mb = 0 ∨ mb < tr_mx (d + 1) fb) :
    ev_P op d (oa + ma) (ob + mb) (fun i => fa i - ma) (fun i => fb i - mb) ∧ ev_P op d (oa + ma) (ob + mb) (fun i => fa (2 ^ d + i) - ma) (fun i => fb (2 ^ d + i) - mb) := by
  have hz := zz_2s d
  have hp := zz_2p d
  obtain ⟨a, b, c⟩ := p
  have key : op ≠ 1 → ma = 0 := by
    intro ho
    have := tr_mx_le (b ho).2
    omega
  have key2 : op = 0 → mb = 0 := by
    intro ho
    have := tr_mx_le (c ho).2
    omega
  refine ⟨⟨fun i hi => ?_, fun ho => ?_, fun ho => ?_⟩, ⟨fun i hi => ?_, fun ho => ?_, fun ho => ?_⟩⟩
  · have := a i (by omega); have := h1 i (by omega); have := h2 i (by omega); (try dsimp only); omega
  · have := (b ho).1; have := key ho
    refine ⟨by omega, fun i hi => ?_⟩
    have := (b ho).2 i (by omega); (try dsimp only); omega
  · have := (c ho).1; have := key2 ho
    refine ⟨by omega, fun i hi => ?_⟩
    have := (c ho).2 i (by omega); (try dsimp only); omega
  · have := a (2 ^ d + i) (by omega); have := h1 (2 ^ d + i) (by omega); have := h2 (2 ^ d + i) (by omega); (try dsimp only); omega
  · have := (b ho).1; have := key ho
    refine ⟨by omega, fun i hi => ?_⟩
    have := (b ho).2 (2 ^ d + i) (by omega); (try dsimp only); omega
  · have := (c ho).1; have := key2 ho
    refine ⟨by omega, fun i hi => ?_⟩
    have := (c ho).2 (2 ^ d + i) (by omega); (try dsimp only); omega
end
end
section
/-! base results and combinations -/
section
variable {zS zM zF zG sc dp ce lm fr fc ct sp rp pl lo up : Int32} {L R B T mk lv ir er wc wh oA oB fA fB sg rN rC pa : Nat → Int32} {F : List Nat}
theorem ev_R01 {op d : Nat} {FA FB f : Nat → Nat} (ho : op ≤ 1) (h : ∀ i, i < 2 ^ d → f i = max (FA i) (FB i)) : ev_R op d FA FB f :=
  ⟨fun _ => h, fun z => by omega, fun z => by omega, fun z => by omega⟩
theorem ev_R2 {op d : Nat} {FA FB f : Nat → Nat} (ho : op = 2) (h : ∀ i, i < 2 ^ d → FB i ≤ f i ∧ (FA i = 0 → f i = FB i)) (m : tr_mx d f ≤ tr_mx d FB) : ev_R op d FA FB f :=
  ⟨fun z => by omega, fun _ => h, fun _ => m, fun z => by omega⟩
theorem ev_R3 {op d : Nat} {FA FB f : Nat → Nat} (ho : op = 3) (h : ∀ i, i < 2 ^ d → FB i ≤ f i ∧ (FA i = 0 → f i = FB i)) (m : tr_mx d f ≤ tr_mx d FB + 1) (e : tr_mx d FA ≠ 0 → ∃ i, i < 2 ^ d ∧ FB i < f i) : ev_R op d FA FB f :=
  ⟨fun z => by omega, fun _ => h, fun z => by omega, fun _ => ⟨m, e⟩⟩
theorem bs_wp {post : Int32 → SX → Prop} {op d k a b oa ob side : Nat} {fa fb : Nat → Nat} (ho : op < 4) (hk : k < 32) (hi : hp_I fr fc L R B T F) (hF : 1 ≤ F.length) (f0 : fr_at k a b oa ob side oA oB fA fB sg)
    (ta : tr_T L R B T F d a fa) (tb : tr_T L R B T F d b fb) (hs : ev_S op d fa fb) (p : ev_P op d oa ob fa fb)
    (K : ∀ (fr1 fc1 : Int32) (L1 R1 B1 T1 : Nat → Int32) (F1 : List Nat) (x : Nat) (f : Nat → Nat), hp_N 1 fr fc L R B T F fr1 fc1 L1 R1 B1 T1 F1 → tr_T L1 R1 B1 T1 F1 d x f → ev_R op d (fun i => oa + fa i) (fun i => ob + fb i) f → post (nI x) (zS, zM, zF, zG, sc, dp, ce, lm, fr1, fc1, ct, sp, rp, pl, lo, up, L1, R1, B1, T1, mk, lv, ir, er, wc, wh, oA, oB, fA, fB, sg, rN, rC, pa)) :
    wpX_baseResult post (zS, zM, zF, zG, sc, dp, ce, lm, fr, fc, ct, sp, rp, pl, lo, up, L, R, B, T, mk, lv, ir, er, wc, wh, oA, oB, fA, fB, sg, rN, rC, pa) (nI op) (nI k) := by
  obtain ⟨e1, e2, e3, e4, e5⟩ := f0
  obtain ⟨p1, p2, p3⟩ := p
  have hin : vp_in (nI k) 32 := vp_in_nI hk (by decide)
  have na := tr_nd_of ta
  have nb := tr_nd_of tb
  have z0 := tr_is0 ta
  have z1 := tr_is1 ta
  have y0 := tr_is0 tb
  have y1 := tr_is1 tb
  have sa := tr_mnx d fa
  have sb := tr_mnx d fb
  have hp := zz_2p d
  have bb : ob + tr_mx d fb < 2 ^ 20 := by
    obtain ⟨i, hi, ei⟩ := tr_mx_ex d fb
    have := (p1 i hi).2; omega
  have ba : oa + tr_mx d fa < 2 ^ 20 := by
    obtain ⟨i, hi, ei⟩ := tr_mx_ex d fa
    have := (p1 i hi).1; omega
  unfold wpX_baseResult
  (try dsimp only)
  rw [nI_clamp (show k < 2 ^ 31 by omega), e1, e2, e3, e4]
  refine ⟨hin, nm_e ⟨hin, nm_e (pk_eq op 0 (fun h0 => ?_) (fun h0 => pk_eq op 1 (fun h1 => ?_) (fun h1 => pk_eq a 1 (fun ha => ?_) (fun ha => ?_) rfl rfl (zz_lt na.1) (by decide)) rfl rfl (by omega) (by decide)) rfl rfl (by omega) (by decide))⟩⟩
  · have q2 := (p2 (by omega)).2
    have q3 := (p3 h0).2
    have oa0 := (p2 (by omega)).1
    have ob0 := (p3 h0).1
    have ma := tr_mx_le q2
    have mb := tr_mx_le q3
    refine pk_eq a 0 (fun h => ?_) (fun h => pk_eq b 0 (fun h' => ?_) (fun h' => ?_) rfl rfl (zz_lt nb.1) (by decide)) rfl rfl (zz_lt na.1) (by decide)
    · refine K _ _ _ _ _ _ F b fb (hp_Nr 1 hi) tb (ev_R01 (by omega) (fun i hi => ?_))
      have := tr_mx_ge d fa i hi
      (try dsimp only); omega
    · refine K _ _ _ _ _ _ F a fa (hp_Nr 1 hi) ta (ev_R01 (by omega) (fun i hi => ?_))
      have := tr_mx_ge d fb i hi
      (try dsimp only); omega
    · refine K _ _ _ _ _ _ F 1 (fun _ => 1) (hp_Nr 1 hi) (tr_one hi (fun _ _ => rfl)) (ev_R01 (by omega) (fun i hi => ?_))
      have c1 := q2 i hi
      have c2 := q3 i hi
      have c3 := tr_mn_le d fa i hi
      have c4 := tr_mn_le d fb i hi
      (try dsimp only)
      rcases hs with hs | hs | hs
      · omega
      · omega
      · rcases hs.2.2 with hs | hs
        · omega
        · omega
  · have hs' : tr_mn d fa = tr_mx d fa ∧ tr_mn d fb = tr_mx d fb := by
      rcases hs with hs | hs | hs
      · omega
      · exact hs.2
      · omega
    rw [nI_clamp (zz_lt na.1), nI_clamp (zz_lt nb.1), na.2.2.1, nb.2.2.1, nI_add, nI_add]
    refine ⟨hin, vp_in_nI na.1 (by decide), hin, vp_in_nI nb.1 (by decide), mx_wp (by omega) (by omega) (lf_wp hi hF (by omega) (fun fr1 fc1 L1 R1 B1 T1 F1 x1 i1 k1 => ?_))⟩
    refine K _ _ _ _ _ _ F1 x1 (fun i => max (oa + fa i) (ob + fb i)) i1 (k1 d _ (fun i hi => ?_)) (ev_R01 (by omega) (fun i hi => rfl))
    (try dsimp only)
    rw [tr_const hs'.1 i hi, tr_const hs'.2 i hi]
  · have q2 := (p2 h1).2
    have oa0 := (p2 h1).1
    rw [nI_clamp (zz_lt nb.1), nb.2.2.2, nI_add]
    have hf1 : tr_mn d fa = 1 := (z1.1 ha).1
    refine ⟨hin, vp_in_nI nb.1 (by decide), nm_e (pk_eq op 3 (fun h3 => ?_) (fun h3 => ?_) rfl rfl (by omega) (by decide))⟩
    · unfold wX_baseResult_131
      rw [nI_1]
      refine lf_wp hi hF (by omega) (fun fr1 fc1 L1 R1 B1 T1 F1 x1 i1 k1 => ?_)
      refine K _ _ _ _ _ _ F1 x1 (fun _ => ob + tr_mx d fb + 1) i1 (k1 d _ (fun i hi => rfl)) (ev_R3 h3 (fun i hi => ?_) ?_ (fun _ => ⟨0, hp, ?_⟩))
      · have c1 := tr_mn_le d fa i hi
        have c2 := tr_mx_ge d fb i hi
        (try dsimp only); omega
      · rw [tr_mx_c (c := ob + tr_mx d fb + 1) (fun _ _ => rfl), tr_mx_add]; exact Nat.le_refl _
      · have c2 := tr_mx_ge d fb 0 hp
        (try dsimp only); omega
    · unfold wX_baseResult_131
      refine lf_wp hi hF (by omega) (fun fr1 fc1 L1 R1 B1 T1 F1 x1 i1 k1 => ?_)
      refine K _ _ _ _ _ _ F1 x1 (fun _ => ob + tr_mx d fb) i1 (k1 d _ (fun i hi => rfl)) (ev_R2 (by omega) (fun i hi => ?_) ?_)
      · have c1 := tr_mn_le d fa i hi
        have c2 := tr_mx_ge d fb i hi
        (try dsimp only); omega
      · rw [tr_mx_c (c := ob + tr_mx d fb) (fun _ _ => rfl), tr_mx_add]; exact Nat.le_refl _
  · refine ⟨hin, li_up hi hF tb (by omega) (fun fr1 fc1 L1 R1 B1 T1 F1 x1 i1 k1 => ?_)⟩
    refine K _ _ _ _ _ _ F1 x1 (fun i => ob + fb i) i1 k1 ?_
    by_cases h3 : op = 3
    · refine ev_R3 h3 (fun i hi => ⟨Nat.le_refl _, fun _ => rfl⟩) (Nat.le_succ _) (fun hn => ?_)
      exfalso
      have q2 := (p2 h1).2
      have oa0 := (p2 h1).1
      have ma := tr_mx_le q2
      have hs' : tr_mn d fa = tr_mx d fa := by
        rcases hs with hs | hs | hs
        · exact hs.2
        · omega
        · omega
      rw [tr_mx_add] at hn
      omega
    · exact ev_R2 (by omega) (fun i hi => ⟨Nat.le_refl _, fun _ => rfl⟩) (Nat.le_refl _)
theorem fb_wp {post : SX → Prop} {op d k r a b oa ob side : Nat} {fa fb : Nat → Nat} (ho : op < 4) (hk : k < 32) (hr : r < 32) (hi : hp_I fr fc L R B T F) (hF : 1 ≤ F.length) (esp : sp = nI (k + 1)) (erp : rp = nI r) (f0 : fr_at k a b oa ob side oA oB fA fB sg)
    (ta : tr_T L R B T F d a fa) (tb : tr_T L R B T F d b fb) (hs : ev_S op d fa fb) (p : ev_P op d oa ob fa fb)
    (K : ∀ (fr1 fc1 : Int32) (L1 R1 B1 T1 : Nat → Int32) (F1 : List Nat) (x c : Nat) (f : Nat → Nat), hp_N 1 fr fc L R B T F fr1 fc1 L1 R1 B1 T1 F1 → tr_T L1 R1 B1 T1 F1 d x f → ev_R op d (fun i => oa + fa i) (fun i => ob + fb i) f → ev_C op d (fun i => oa + fa i) c → post (zS, zM, zF, zG, sc, dp, ce, lm, fr1, fc1, ct, nI k, nI (r + 1), pl, lo, up, L1, R1, B1, T1, mk, lv, ir, er, wc, wh, oA, oB, fA, fB, sg, upd rN r (nI x), upd rC r (nI c), pa)) :
    wpX_finishBase post (zS, zM, zF, zG, sc, dp, ce, lm, fr, fc, ct, sp, rp, pl, lo, up, L, R, B, T, mk, lv, ir, er, wc, wh, oA, oB, fA, fB, sg, rN, rC, pa) (nI op) (nI k) := by
  have hin : vp_in (nI k) 32 := vp_in_nI hk (by decide)
  have z0 := tr_is0 ta
  unfold wpX_finishBase
  (try dsimp only)
  rw [nI_clamp (show k < 2 ^ 31 by omega), f0.1]
  refine ⟨hin, pk_eq a 0 (fun h => ?_) (fun h => ?_) rfl rfl (zz_lt (tr_lt ta)) (by decide)⟩
  · unfold wX_finishBase_15
    refine bs_wp ho hk hi hF f0 ta tb hs p (fun fr1 fc1 L1 R1 B1 T1 F1 x1 f1 i1 k1 r1 => ?_)
    refine fi_wp (k := k) (r := r) esp erp hr (K _ _ _ _ _ _ F1 x1 1000000 f1 i1 k1 r1 ⟨by omega, fun h3 => ⟨fun _ => rfl, fun hn => ?_⟩⟩)
    exfalso
    rw [tr_mx_add] at hn
    have := (p.2.1 (by omega)).1
    omega
  · unfold wX_finishBase_15
    refine bs_wp ho hk hi hF f0 ta tb hs p (fun fr1 fc1 L1 R1 B1 T1 F1 x1 f1 i1 k1 r1 => ?_)
    refine fi_wp (k := k) (r := r) esp erp hr (K _ _ _ _ _ _ F1 x1 0 f1 i1 k1 r1 ⟨by omega, fun h3 => ⟨fun hn => ?_, fun hn => Nat.zero_le _⟩⟩)
    exfalso
    rw [tr_mx_add] at hn
    omega
/-- fillNode -/
theorem fn_wp {post : Int32 → SX → Prop} {d a la ra xl xr : Nat} {fl fq : Nat → Nat} (hi : hp_I fr fc L R B T F) (hF : 4 ≤ F.length) (ha : a < 2048) (hl : la < 2048) (hr : ra < 2048) (eL : L a = nI la) (eR : R a = nI ra)
    (tl : tr_T L R B T F d xl fl) (tq : tr_T L R B T F d xr fq) (bl : tr_mx d fl < 2 ^ 30) (bq : tr_mx d fq < 2 ^ 30)
    (K : ∀ (fr1 fc1 : Int32) (L1 R1 B1 T1 : Nat → Int32) (F1 : List Nat) (x : Nat) (f : Nat → Nat), hp_N 4 fr fc L R B T F fr1 fc1 L1 R1 B1 T1 F1 → tr_T L1 R1 B1 T1 F1 (d + 1) x f →
      ((la = 1 ∧ (∀ i, i < 2 ^ d → f i = max (tr_mx d fl) (tr_mn d fq)) ∧ (∀ i, i < 2 ^ d → f (2 ^ d + i) = fq i)) ∨ (ra = 1 ∧ (∀ i, i < 2 ^ d → f i = fl i) ∧ (∀ i, i < 2 ^ d → f (2 ^ d + i) = max (tr_mx d fq) (tr_mn d fl))) ∨
        ((∀ i, i < 2 ^ d → f i = fl i) ∧ (∀ i, i < 2 ^ d → f (2 ^ d + i) = fq i))) → post (nI x) (zS, zM, zF, zG, sc, dp, ce, lm, fr1, fc1, ct, sp, rp, pl, lo, up, L1, R1, B1, T1, mk, lv, ir, er, wc, wh, oA, oB, fA, fB, sg, rN, rC, pa)) :
    wpX_fillNode post (zS, zM, zF, zG, sc, dp, ce, lm, fr, fc, ct, sp, rp, pl, lo, up, L, R, B, T, mk, lv, ir, er, wc, wh, oA, oB, fA, fB, sg, rN, rC, pa) (nI a) (nI xl) (nI xr) := by
  have hin : vp_in (nI a) 2048 := vp_in_nI ha (by decide)
  have nl := tr_nd_of tl
  have nq := tr_nd_of tq
  have hl' : vp_in (nI xl) 2048 := vp_in_nI nl.1 (by decide)
  have hq' : vp_in (nI xr) 2048 := vp_in_nI nq.1 (by decide)
  have s1 := tr_mnx d fl
  have s2 := tr_mnx d fq
  unfold wpX_fillNode
  (try dsimp only)
  rw [nI_clamp (zz_lt ha), nI_clamp (zz_lt nl.1), nI_clamp (zz_lt nq.1), eL, eR, nl.2.2.1, nl.2.2.2, nq.2.2.1, nq.2.2.2]
  refine ⟨hin, pk_eq la 1 (fun h => ⟨hl', hq', ?_⟩) (fun h => ⟨hin, pk_eq ra 1 (fun h' => ⟨hq', hl', ?_⟩) (fun h' => ?_) rfl rfl (zz_lt hr) (by decide)⟩) rfl rfl (zz_lt hl) (by decide)⟩
  · refine mx_wp (by omega) (by omega) (lf_wp hi (by omega) (by omega) (fun fr1 fc1 L1 R1 B1 T1 F1 x1 i1 k1 => ?_))
    (try dsimp only)
    unfold wX_fillNode_81
    have := i1.2.2
    refine ev_wp (f := tr_gl d (fun _ => max (tr_mx d fl) (tr_mn d fq)) fq) i1.1 (by omega) (k1 d (fun _ => max (tr_mx d fl) (tr_mn d fq)) (fun i hi => rfl)) (tr_ext i1.2.1 tq) ?_ bq (fun i hi => tr_gl_lo hi) (fun i hi => tr_gl_hi) (fun fr2 fc2 L2 R2 B2 T2 F2 x2 i2 k2 => ?_)
    · rw [tr_mx_c (c := max (tr_mx d fl) (tr_mn d fq)) (fun _ _ => rfl)]; omega
    · exact K _ _ _ _ _ _ F2 x2 _ (hp_Nt i1 i2 (by omega)) k2 (Or.inl ⟨h, fun i hi => tr_gl_lo hi, fun i hi => tr_gl_hi⟩)
  · refine mx_wp (by omega) (by omega) (lf_wp hi (by omega) (by omega) (fun fr1 fc1 L1 R1 B1 T1 F1 x1 i1 k1 => ?_))
    (try dsimp only)
    unfold wX_fillNode_81
    have := i1.2.2
    refine ev_wp (f := tr_gl d fl (fun _ => max (tr_mx d fq) (tr_mn d fl))) i1.1 (by omega) (tr_ext i1.2.1 tl) (k1 d (fun _ => max (tr_mx d fq) (tr_mn d fl)) (fun i hi => rfl)) bl ?_ (fun i hi => tr_gl_lo hi) (fun i hi => tr_gl_hi) (fun fr2 fc2 L2 R2 B2 T2 F2 x2 i2 k2 => ?_)
    · rw [tr_mx_c (c := max (tr_mx d fq) (tr_mn d fl)) (fun _ _ => rfl)]; omega
    · exact K _ _ _ _ _ _ F2 x2 _ (hp_Nt i1 i2 (by omega)) k2 (Or.inr (Or.inl ⟨h', fun i hi => tr_gl_lo hi, fun i hi => tr_gl_hi⟩))
  · unfold wX_fillNode_81
    refine ev_wp (f := tr_gl d fl fq) hi (by omega) tl tq bl bq (fun i hi => tr_gl_lo hi) (fun i hi => tr_gl_hi) (fun fr2 fc2 L2 R2 B2 T2 F2 x2 i2 k2 => ?_)
    exact K _ _ _ _ _ _ F2 x2 _ (hp_Nx i2 (by omega)) k2 (Or.inr (Or.inr ⟨fun i hi => tr_gl_lo hi, fun i hi => tr_gl_hi⟩))
/-- growNode -/
theorem gn_wp {post : Int32 → SX → Prop} {d k r a b oa ob side xl xr cl cr lb rb mb : Nat} {fb fl fq : Nat → Nat} (hi : hp_I fr fc L R B T F) (hF : 4 ≤ F.length) (hk : k < 32) (hr : r + 1 < 32) (erp : rp = nI r) (f0 : fr_at k a b oa ob side oA oB fA fB sg)
    (tb : tr_K L R B T F d b fb lb rb mb) (bb : ∀ i, i < 2 ^ (d + 1) → ob + fb i < 2 ^ 20) (e1 : rC r = nI cl) (e2 : rC (r + 1) = nI cr) (h1 : cl ≤ 1000000) (h2 : cr ≤ 1000000)
    (tl : tr_T L R B T F d xl fl) (tq : tr_T L R B T F d xr fq) (bl : tr_mx d fl < 2 ^ 30) (bq : tr_mx d fq < 2 ^ 30)
    (K : ∀ (fr1 fc1 : Int32) (L1 R1 B1 T1 : Nat → Int32) (F1 : List Nat) (x : Nat) (f : Nat → Nat), hp_N 4 fr fc L R B T F fr1 fc1 L1 R1 B1 T1 F1 → tr_T L1 R1 B1 T1 F1 (d + 1) x f →
      ((cl < cr ∧ (∀ i, i < 2 ^ d → f i = fl i) ∧ (∀ i, i < 2 ^ d → f (2 ^ d + i) = ob + fb (2 ^ d + i))) ∨ (cr ≤ cl ∧ (∀ i, i < 2 ^ d → f i = ob + fb i) ∧ (∀ i, i < 2 ^ d → f (2 ^ d + i) = fq i))) → post (nI x) (zS, zM, zF, zG, sc, dp, ce, lm, fr1, fc1, ct, sp, rp, pl, lo, up, L1, R1, B1, T1, mk, lv, ir, er, wc, wh, oA, oB, fA, fB, sg, rN, rC, pa)) :
    wpX_growNode post (zS, zM, zF, zG, sc, dp, ce, lm, fr, fc, ct, sp, rp, pl, lo, up, L, R, B, T, mk, lv, ir, er, wc, wh, oA, oB, fA, fB, sg, rN, rC, pa) (nI k) (nI xl) (nI xr) := by
  have hin : vp_in (nI k) 32 := vp_in_nI hk (by decide)
  have hr1 : vp_in (nI r) 32 := vp_in_nI (by omega) (by decide)
  have hr2 : vp_in (nI (r + 1)) 32 := vp_in_nI (by omega) (by decide)
  obtain ⟨t1, t2, t3, t4, t5, t6, t7⟩ := tb
  have hz := zz_2s d
  subst erp
  unfold wpX_growNode
  (try dsimp only)
  rw [nI_clamp (show k < 2 ^ 31 by omega), nI_1 r, nI_clamp (show r < 2 ^ 31 by omega), nI_clamp (show r + 1 < 2 ^ 31 by omega), f0.2.1, f0.2.2.2.1, e1, e2]
  refine ⟨hin, nm_e ⟨hin, co_wp t1 ⟨hr1, hr2, pk_le cr cl (fun h => ?_) (fun h => ?_) rfl rfl (by omega) (by omega)⟩⟩⟩
  · unfold wX_growNode_50
    refine br_t rfl ?_
    unfold wX_growNode_65
    refine ch_wp (side := 0) (by decide) t3 ?_
    have bm : ob + mb + tr_mx d (fun i => fb i - mb) < 2 ^ 20 := by
      obtain ⟨j, hj, ej⟩ := tr_mx_ex d (fun i => fb i - mb)
      rw [← ej]
      have a1 := bb j (by omega)
      have a2 := t2 j (by omega)
      (try dsimp only); omega
    refine li_up hi (by omega) t5 (by omega) (fun fr1 fc1 L1 R1 B1 T1 F1 x1 i1 k1 => ?_)
    (try dsimp only)
    have := i1.2.2
    refine br_t rfl (ev_wp (f := tr_gl d (fun i => ob + fb i) fq) i1.1 (by omega) k1 (tr_ext i1.2.1 tq) ?_ bq (fun i hi => ?_) (fun i hi => tr_gl_hi) (fun fr2 fc2 L2 R2 B2 T2 F2 x2 i2 k2 => ?_))
    · rw [tr_mx_add]; omega
    · rw [tr_gl_lo hi]
      have := t2 i (by omega)
      (try dsimp only); omega
    · exact K _ _ _ _ _ _ F2 x2 _ (hp_Nt i1 i2 (by omega)) k2 (Or.inr ⟨h, fun i hi => tr_gl_lo hi, fun i hi => tr_gl_hi⟩)
  · unfold wX_growNode_50
    refine br_f (by decide) ?_
    unfold wX_growNode_65
    refine ch_wp (side := 1) (by decide) t4 ?_
    have bm : ob + mb + tr_mx d (fun i => fb (2 ^ d + i) - mb) < 2 ^ 20 := by
      obtain ⟨j, hj, ej⟩ := tr_mx_ex d (fun i => fb (2 ^ d + i) - mb)
      rw [← ej]
      have a1 := bb (2 ^ d + j) (by omega)
      have a2 := t2 (2 ^ d + j) (by omega)
      (try dsimp only); omega
    refine li_up hi (by omega) t6 (by omega) (fun fr1 fc1 L1 R1 B1 T1 F1 x1 i1 k1 => ?_)
    (try dsimp only)
    have := i1.2.2
    refine br_f (by decide) (ev_wp (f := tr_gl d fl (fun i => ob + fb (2 ^ d + i))) i1.1 (by omega) (tr_ext i1.2.1 tl) k1 bl ?_ (fun i hi => tr_gl_lo hi) (fun i hi => ?_) (fun fr2 fc2 L2 R2 B2 T2 F2 x2 i2 k2 => ?_))
    · rw [tr_mx_add]; omega
    · rw [tr_gl_hi]
      have := t2 (2 ^ d + i) (by omega)
      (try dsimp only); omega
    · exact K _ _ _ _ _ _ F2 x2 _ (hp_Nt i1 i2 (by omega)) k2 (Or.inl ⟨h, fun i hi => tr_gl_lo hi, fun i hi => tr_gl_hi⟩)
theorem gc_wp {post : Int32 → Prop} {d k r a b oa ob side cl cr : Nat} {fb : Nat → Nat} (hk : k < 32) (hr : r + 1 < 32) (erp : rp = nI r) (f0 : fr_at k a b oa ob side oA oB fA fB sg)
    (tb : tr_T L R B T F d b fb) (e1 : rC r = nI cl) (e2 : rC (r + 1) = nI cr) (h1 : cl ≤ 1000000) (h2 : cr ≤ 1000000)
    (K : ∀ c : Nat, c ≤ min cl cr + 1001 → post (nI c)) : wpX_growCost post (zS, zM, zF, zG, sc, dp, ce, lm, fr, fc, ct, sp, rp, pl, lo, up, L, R, B, T, mk, lv, ir, er, wc, wh, oA, oB, fA, fB, sg, rN, rC, pa) (nI k) := by
  have hin : vp_in (nI k) 32 := vp_in_nI hk (by decide)
  have hr1 : vp_in (nI r) 32 := vp_in_nI (by omega) (by decide)
  have hr2 : vp_in (nI (r + 1)) 32 := vp_in_nI (by omega) (by decide)
  have core : ∀ c : Nat, c ≤ min cl cr → wX_growCost_32 post (nI k) (nI c) zS zM zF zG sc dp ce lm fr fc ct sp rp pl lo up L R B T mk lv ir er wc wh oA oB fA fB sg rN rC pa := by
    intro c hc
    unfold wX_growCost_32
    rw [nI_clamp (show k < 2 ^ 31 by omega), f0.2.1, nI_1]
    refine nm_e ⟨hin, il_c tb (fun _ => br_f (by decide) ?_) (fun _ => br_t rfl (K _ (by omega)))⟩
    have : nI (c + 1) + 1000 = nI (c + 1 + 1000) := nI_add (c + 1) 1000
    rw [this]
    exact K _ (by omega)
  subst erp
  unfold wpX_growCost
  (try dsimp only)
  rw [nI_1 r, nI_clamp (show r < 2 ^ 31 by omega), nI_clamp (show r + 1 < 2 ^ 31 by omega), e1, e2]
  exact ⟨hr1, nm_e ⟨hr2, nm_e (pk_le cr cl (fun h => core cr (by omega)) (fun h => core cl (by omega)) rfl rfl (by omega) (by omega))⟩⟩
end
end
section
/-! combine, and the evaluator's loop by induction on the depth -/
section
variable {zS zM zF zG sc dp ce lm fr fc ct sp rp pl lo up : Int32} {L R B T mk lv ir er wc wh oA oB fA fB sg rN rC pa : Nat → Int32} {F : List Nat}
theorem ev_bd {op d : Nat} {FA FB f : Nat → Nat} (ho : op < 4) (hb : ∀ i, i < 2 ^ d → FA i < 2 ^ 20 ∧ FB i < 2 ^ 20) (r : ev_R op d FA FB f) : tr_mx d f ≤ 2 ^ 20 := by
  have mB : tr_mx d FB < 2 ^ 20 := by
    obtain ⟨i, hi, ei⟩ := tr_mx_ex d FB
    have := (hb i hi).2; omega
  obtain ⟨r1, r2, r3, r4⟩ := r
  by_cases h1 : op ≤ 1
  · exact tr_mx_le (fun i hi => by have := r1 h1 i hi; have := hb i hi; omega)
  · by_cases h2 : op = 2
    · have := r3 h2; omega
    · have := (r4 (by omega)).1; omega
/-- two halves' answers glued, op at most 1 -/
theorem ev_g01 {op d : Nat} {FA FB fl fq f : Nat → Nat} (ho : op ≤ 1) (r1 : ev_R op d FA FB fl) (r2 : ev_R op d (fun i => FA (2 ^ d + i)) (fun i => FB (2 ^ d + i)) fq)
    (hf : ∀ i, i < 2 ^ d → f i = fl i) (hg : ∀ i, i < 2 ^ d → f (2 ^ d + i) = fq i) : ev_R op (d + 1) FA FB f :=
  ev_R01 ho (tr_halves (fun i hi => by rw [hf i hi]; exact r1.1 ho i hi) (fun i hi => by rw [hg i hi]; exact r2.1 ho i hi))
theorem cm_wp {post : SX → Prop} {op d k r a b oa ob side xl xr cl cr : Nat} {fa fb fl fq : Nat → Nat} (ho : op < 4) (hd : d ≤ 100) (hk : k < 32) (hr : r + 1 < 32) (hi : hp_I fr fc L R B T F) (hF : 4 ≤ F.length)
    (esp : sp = nI (k + 1)) (erp : rp = nI (r + 2)) (f0 : fr_at k a b oa ob side oA oB fA fB sg)
    (ta : tr_T L R B T F (d + 1) a fa) (tb : tr_T L R B T F (d + 1) b fb) (hs : ¬ ev_S op (d + 1) fa fb) (p : ev_P op (d + 1) oa ob fa fb)
    (n1 : rN r = nI xl) (n2 : rN (r + 1) = nI xr) (c1 : rC r = nI cl) (c2 : rC (r + 1) = nI cr) (tl : tr_T L R B T F d xl fl) (tq : tr_T L R B T F d xr fq)
    (r1 : ev_R op d (fun i => oa + fa i) (fun i => ob + fb i) fl) (r2 : ev_R op d (fun i => oa + fa (2 ^ d + i)) (fun i => ob + fb (2 ^ d + i)) fq)
    (k1 : ev_C op d (fun i => oa + fa i) cl) (k2 : ev_C op d (fun i => oa + fa (2 ^ d + i)) cr)
    (K : ∀ (fr1 fc1 : Int32) (L1 R1 B1 T1 : Nat → Int32) (F1 : List Nat) (x c : Nat) (f : Nat → Nat), hp_N 4 fr fc L R B T F fr1 fc1 L1 R1 B1 T1 F1 → tr_T L1 R1 B1 T1 F1 (d + 1) x f → ev_R op (d + 1) (fun i => oa + fa i) (fun i => ob + fb i) f → ev_C op (d + 1) (fun i => oa + fa i) c → post (zS, zM, zF, zG, sc, dp, ce, lm, fr1, fc1, ct, nI k, nI (r + 1), pl, lo, up, L1, R1, B1, T1, mk, lv, ir, er, wc, wh, oA, oB, fA, fB, sg, upd rN r (nI x), upd rC r (nI c), pa)) :
    wpX_combine post (zS, zM, zF, zG, sc, dp, ce, lm, fr, fc, ct, sp, rp, pl, lo, up, L, R, B, T, mk, lv, ir, er, wc, wh, oA, oB, fA, fB, sg, rN, rC, pa) (nI op) (nI k) := by
  have hin : vp_in (nI k) 32 := vp_in_nI hk (by decide)
  have hr1 : vp_in (nI r) 32 := vp_in_nI (by omega) (by decide)
  have hr2 : vp_in (nI (r + 1)) 32 := vp_in_nI (by omega) (by decide)
  have hz := zz_2s d
  have hp := zz_2p d
  obtain ⟨p1, p2, p3⟩ := p
  have bl : tr_mx d fl < 2 ^ 30 := by
    have := ev_bd ho (fun i hi => p1 i (by omega)) r1; omega
  have bq : tr_mx d fq < 2 ^ 30 := by
    have := ev_bd ho (fun i hi => p1 (2 ^ d + i) (by omega)) r2; omega
  subst erp
  unfold wpX_combine
  (try dsimp only)
  have e2 : nI (r + 2) - 2 = nI r := pk_sub (a := r + 2) (b := 2) (by omega)
  rw [e2]
  refine nm_e ?_
  rw [nI_1 r, nI_clamp (show r < 2 ^ 31 by omega), nI_clamp (show r + 1 < 2 ^ 31 by omega), nI_clamp (show k < 2 ^ 31 by omega), n1, n2, f0.1]
  refine ⟨hr1, nm_e ⟨hr2, nm_e (pk_eq op 0 (fun h0 => ?_) (fun h0 => pk_eq op 1 (fun h1 => ?_) (fun h1 => pk_eq op 2 (fun h2 => ⟨hin, ?_⟩) (fun h2 => ?_) rfl rfl (by omega) (by decide)) rfl rfl (by omega) (by decide)) rfl rfl (by omega) (by decide))⟩⟩
  · have q2 := (p2 (by omega)).2
    have q3 := (p3 h0).2
    have oa0 := (p2 (by omega)).1
    have ob0 := (p3 h0).1
    refine id_wp (f := tr_gl d fl fq) hi (by omega) tl tq (fun i hi => ?_) (fun i hi => ?_) (fun i hi => tr_gl_lo hi) (fun i hi => tr_gl_hi) (fun fr1 fc1 L1 R1 B1 T1 F1 x1 i1 t1 => ?_)
    · rw [r1.1 (by omega) i hi]
      have := q2 i (by omega); have := q3 i (by omega)
      (try dsimp only); omega
    · rw [r2.1 (by omega) i hi]
      have := q2 (2 ^ d + i) (by omega); have := q3 (2 ^ d + i) (by omega)
      (try dsimp only); omega
    · (try dsimp only)
      unfold wX_combine_109
      exact fi_wp (k := k) (r := r) esp rfl (by omega) (K _ _ _ _ _ _ F1 x1 0 _ (hp_Nx i1 (by omega)) t1 (ev_g01 (by omega) r1 r2 (fun i hi => tr_gl_lo hi) (fun i hi => tr_gl_hi)) ⟨by omega, fun z => by omega⟩)
  · refine ev_wp (f := tr_gl d fl fq) hi (by omega) tl tq bl bq (fun i hi => tr_gl_lo hi) (fun i hi => tr_gl_hi) (fun fr1 fc1 L1 R1 B1 T1 F1 x1 i1 t1 => ?_)
    (try dsimp only)
    unfold wX_combine_109
    exact fi_wp (k := k) (r := r) esp rfl (by omega) (K _ _ _ _ _ _ F1 x1 0 _ (hp_Nx i1 (by omega)) t1 (ev_g01 (by omega) r1 r2 (fun i hi => tr_gl_lo hi) (fun i hi => tr_gl_hi)) ⟨by omega, fun z => by omega⟩)
  · have q2 := (p2 (by omega)).2
    have oa0 := (p2 (by omega)).1
    have na : tr_mn (d + 1) fa ≠ tr_mx (d + 1) fa := fun z => hs (Or.inr (Or.inr ⟨by omega, by omega, Or.inl z⟩))
    rcases tr_cs ta with ⟨z, _⟩ | ⟨e, la, ra, he, g1, g2, g3, g4, g5, g6⟩
    · exact absurd z na
    have he : e = d := by omega
    subst he
    have m0 : tr_mn (e + 1) fa = 0 := by have := tr_mx_le q2; omega
    rw [m0] at g5 g6
    have w1 := tr_is1 g5
    have w2 := tr_is1 g6
    have u1 := r1.2.1 (by omega)
    have u2 := r2.2.1 (by omega)
    have v1 := r1.2.2.1 h2
    have v2 := r2.2.2.1 h2
    have s1 := tr_mnx e fl
    have s2 := tr_mnx e fq
    have mB : tr_mx (e + 1) (fun i => ob + fb i) = max (tr_mx e (fun i => ob + fb i)) (tr_mx e (fun i => ob + fb (2 ^ e + i))) := rfl
    refine fn_wp hi (by omega) (tr_lt ta) (tr_lt g5) (tr_lt g6) g3 g4 tl tq bl bq (fun fr1 fc1 L1 R1 B1 T1 F1 x1 f1 i1 t1 hc => ?_)
    (try dsimp only)
    unfold wX_combine_109
    refine fi_wp (k := k) (r := r) esp rfl (by omega) (K _ _ _ _ _ _ F1 x1 0 f1 i1 t1 (ev_R2 h2 ?_ ?_) ⟨by omega, fun z => by omega⟩)
    · rcases hc with ⟨ea, z1, z2⟩ | ⟨ea, z1, z2⟩ | ⟨z1, z2⟩
      · refine tr_halves (fun i hi => ?_) (fun i hi => ?_)
        · have h3 := u1 i hi
          have h4 := tr_mx_ge e fl i hi
          have h5 := tr_mn_le e (fun i => fa i - 0) i hi
          have h6 := (w1.1 ea).1
          rw [z1 i hi]
          (try dsimp only at h3 h5 ⊢)
          omega
        · rw [z2 i hi]; exact u2 i hi
      · refine tr_halves (fun i hi => ?_) (fun i hi => ?_)
        · rw [z1 i hi]; exact u1 i hi
        · have h3 := u2 i hi
          have h4 := tr_mx_ge e fq i hi
          have h5 := tr_mn_le e (fun i => fa (2 ^ e + i) - 0) i hi
          have h6 := (w2.1 ea).1
          rw [z2 i hi]
          (try dsimp only at h3 h5 ⊢)
          omega
      · refine tr_halves (fun i hi => ?_) (fun i hi => ?_)
        · rw [z1 i hi]; exact u1 i hi
        · rw [z2 i hi]; exact u2 i hi
    · rw [mB, tr_mx_s]
      rcases hc with ⟨ea, z1, z2⟩ | ⟨ea, z1, z2⟩ | ⟨z1, z2⟩
      · rw [tr_mx_c z1, tr_mx_congr z2]; omega
      · rw [tr_mx_congr z1, tr_mx_c z2]; omega
      · rw [tr_mx_congr z1, tr_mx_congr z2]; omega
  · have h3 : op = 3 := by omega
    have q2 := (p2 (by omega)).2
    have oa0 := (p2 (by omega)).1
    have na : tr_mn (d + 1) fa ≠ tr_mx (d + 1) fa := fun z => hs (Or.inl ⟨h3, z⟩)
    have nz : tr_mx (d + 1) fa ≠ 0 := by have := tr_mnx (d + 1) fa; omega
    have nz2 : tr_mx d fa ≠ 0 ∨ tr_mx d (fun i => fa (2 ^ d + i)) ≠ 0 := by have := tr_mx_s d fa; omega
    have w1 : tr_mx d (fun i => oa + fa i) = tr_mx d fa := by rw [tr_mx_add]; omega
    have w2 : tr_mx d (fun i => oa + fa (2 ^ d + i)) = tr_mx d (fun i => fa (2 ^ d + i)) := by rw [tr_mx_add d (fun i => fa (2 ^ d + i))]; omega
    have w3 : tr_mx (d + 1) (fun i => oa + fa i) = tr_mx (d + 1) fa := by rw [tr_mx_add]; omega
    have c1' := k1.2 h3
    have c2' := k2.2 h3
    rw [w1] at c1'
    rw [w2] at c2'
    have l1 := k1.1
    have l2 := k2.1
    have hcost : min cl cr ≤ 1001 * d := by
      rcases nz2 with z | z
      · have := c1'.2 z; omega
      · have := c2'.2 z; omega
    have u1 := r1.2.1 (by omega)
    have u2 := r2.2.1 (by omega)
    have v1 := (r1.2.2.2 h3).1
    have v2 := (r2.2.2.2 h3).1
    have x1' := (r1.2.2.2 h3).2
    have x2' := (r2.2.2.2 h3).2
    rw [w1] at x1'
    rw [w2] at x2'
    have mB : tr_mx (d + 1) (fun i => ob + fb i) = max (tr_mx d (fun i => ob + fb i)) (tr_mx d (fun i => ob + fb (2 ^ d + i))) := rfl
    obtain ⟨lb, rb, mb, tk⟩ := tr_two tb
    refine gn_wp (r := r) (cl := cl) (cr := cr) hi (by omega) hk hr rfl f0 tk (fun i hi => (p1 i hi).2) c1 c2 l1 l2 tl tq bl bq (fun fr1 fc1 L1 R1 B1 T1 F1 x1 f1 i1 t1 hc => ?_)
    (try dsimp only)
    refine gc_wp (r := r) (cl := cl) (cr := cr) hk hr rfl f0 (tr_ext i1.2.1 tb) c1 c2 l1 l2 (fun c hcc => ?_)
    unfold wX_combine_109
    refine fi_wp (k := k) (r := r) esp rfl (by omega) (K _ _ _ _ _ _ F1 x1 c f1 i1 t1 (ev_R3 h3 ?_ ?_ (fun _ => ?_)) ⟨by omega, fun _ => ⟨fun z => absurd (w3.symm.trans z) nz, fun _ => by omega⟩⟩)
    · rcases hc with ⟨ea, z1, z2⟩ | ⟨ea, z1, z2⟩
      · refine tr_halves (fun i hi => ?_) (fun i hi => ?_)
        · rw [z1 i hi]; exact u1 i hi
        · rw [z2 i hi]; exact ⟨Nat.le_refl _, fun _ => rfl⟩
      · refine tr_halves (fun i hi => ?_) (fun i hi => ?_)
        · rw [z1 i hi]; exact ⟨Nat.le_refl _, fun _ => rfl⟩
        · rw [z2 i hi]; exact u2 i hi
    · rw [mB, tr_mx_s]
      rcases hc with ⟨ea, z1, z2⟩ | ⟨ea, z1, z2⟩
      · rw [tr_mx_congr z1, tr_mx_congr z2]; omega
      · rw [tr_mx_congr z1, tr_mx_congr z2]; omega
    · rcases hc with ⟨ea, z1, z2⟩ | ⟨ea, z1, z2⟩
      · have : tr_mx d fa ≠ 0 := fun z => by have := c1'.1 z; omega
        obtain ⟨i, hi, q⟩ := x1' this
        exact ⟨i, by omega, by rw [z1 i hi]; exact q⟩
      · have : tr_mx d (fun i => fa (2 ^ d + i)) ≠ 0 := by
          intro z
          have e1 := c2'.1 z
          have e2 : tr_mx d fa ≠ 0 := by rcases nz2 with w | w; exact w; exact absurd z w
          have := c1'.2 e2
          omega
        obtain ⟨i, hi, q⟩ := x2' this
        exact ⟨2 ^ d + i, by omega, by rw [z2 i hi]; exact q⟩
end
end
section
/-! the evaluator's loop -/
section
variable {zS zM zF zG sc dp ce lm fr fc ct sp rp pl lo up : Int32} {L R B T mk lv ir er wc wh oA oB fA fB sg rN rC pa : Nat → Int32} {F : List Nat}
def rs_same (r : Nat) (rN rC rN1 rC1 : Nat → Int32) : Prop := ∀ i, i < r → rN1 i = rN i ∧ rC1 i = rC i
theorem el_b {post : Int32 → SX → Prop} {op d k r n s a b oa ob side : Nat} {fa fb : Nat → Nat} (ho : op < 4) (hk : k < 32) (hr : r < 32) (hs : s < 256) (esp : sp = nI (k + 1)) (erp : rp = nI r) (f0 : fr_at k a b oa ob side oA oB fA fB sg)
    (hi : hp_I fr fc L R B T F) (hF : 1 ≤ F.length) (ta : tr_T L R B T F d a fa) (tb : tr_T L R B T F d b fb) (hS : ev_S op d fa fb) (p : ev_P op d oa ob fa fb)
    (K : ∀ (fr1 fc1 : Int32) (L1 R1 B1 T1 : Nat → Int32) (F1 : List Nat) (x c : Nat) (f : Nat → Nat), hp_N 1 fr fc L R B T F fr1 fc1 L1 R1 B1 T1 F1 → tr_T L1 R1 B1 T1 F1 d x f → ev_R op d (fun i => oa + fa i) (fun i => ob + fb i) f → ev_C op d (fun i => oa + fa i) c → wX_evaluate_14 post (nI op) n (nI (s + 1)) zS zM zF zG sc dp ce lm fr1 fc1 ct (nI k) (nI (r + 1)) pl lo up L1 R1 B1 T1 mk lv ir er wc wh oA oB fA fB sg (upd rN r (nI x)) (upd rC r (nI c)) pa) :
    wX_evaluate_14 post (nI op) (n + 1) (nI s) zS zM zF zG sc dp ce lm fr fc ct sp rp pl lo up L R B T mk lv ir er wc wh oA oB fA fB sg rN rC pa := by
  have hin : vp_in (nI k) 32 := vp_in_nI hk (by decide)
  subst esp
  refine br_f (nI_ge (b := 256) hs (by decide)) (br_f (nI_nle (by omega) (by omega)) (nm_r (nI_pred k) ⟨hin, hin, ?_⟩))
  rw [nI_clamp (show k < 2 ^ 31 by omega), f0.1, f0.2.1]
  refine se_wp ho ta tb (fun _ => br_f (by decide) ?_) (fun z => absurd hS z)
  refine fb_wp ho hk hr hi hF rfl erp f0 ta tb hS p (fun fr1 fc1 L1 R1 B1 T1 F1 x c f i1 t1 r1 c1 => ?_)
  exact nm_r (nI_1 s) (K _ _ _ _ _ _ F1 x c f i1 t1 r1 c1)
theorem el_c {post : Int32 → SX → Prop} {op d k r n s a b oa ob xl xr cl cr : Nat} {fa fb fl fq : Nat → Nat} (ho : op < 4) (hd : d ≤ 100) (hk : k < 32) (hr : r + 1 < 32) (hs : s < 256) (esp : sp = nI (k + 1)) (erp : rp = nI (r + 2)) (f0 : fr_at k a b oa ob 2 oA oB fA fB sg)
    (hi : hp_I fr fc L R B T F) (hF : 4 ≤ F.length) (ta : tr_T L R B T F (d + 1) a fa) (tb : tr_T L R B T F (d + 1) b fb) (hS : ¬ ev_S op (d + 1) fa fb) (p : ev_P op (d + 1) oa ob fa fb)
    (n1 : rN r = nI xl) (n2 : rN (r + 1) = nI xr) (c1 : rC r = nI cl) (c2 : rC (r + 1) = nI cr) (tl : tr_T L R B T F d xl fl) (tq : tr_T L R B T F d xr fq)
    (r1 : ev_R op d (fun i => oa + fa i) (fun i => ob + fb i) fl) (r2 : ev_R op d (fun i => oa + fa (2 ^ d + i)) (fun i => ob + fb (2 ^ d + i)) fq)
    (k1 : ev_C op d (fun i => oa + fa i) cl) (k2 : ev_C op d (fun i => oa + fa (2 ^ d + i)) cr)
    (K : ∀ (fr1 fc1 : Int32) (L1 R1 B1 T1 : Nat → Int32) (F1 : List Nat) (x c : Nat) (f : Nat → Nat), hp_N 4 fr fc L R B T F fr1 fc1 L1 R1 B1 T1 F1 → tr_T L1 R1 B1 T1 F1 (d + 1) x f → ev_R op (d + 1) (fun i => oa + fa i) (fun i => ob + fb i) f → ev_C op (d + 1) (fun i => oa + fa i) c → wX_evaluate_14 post (nI op) n (nI (s + 1)) zS zM zF zG sc dp ce lm fr1 fc1 ct (nI k) (nI (r + 1)) pl lo up L1 R1 B1 T1 mk lv ir er wc wh oA oB fA fB sg (upd rN r (nI x)) (upd rC r (nI c)) pa) :
    wX_evaluate_14 post (nI op) (n + 1) (nI s) zS zM zF zG sc dp ce lm fr fc ct sp rp pl lo up L R B T mk lv ir er wc wh oA oB fA fB sg rN rC pa := by
  have hin : vp_in (nI k) 32 := vp_in_nI hk (by decide)
  subst esp
  refine br_f (nI_ge (b := 256) hs (by decide)) (br_f (nI_nle (by omega) (by omega)) (nm_r (nI_pred k) ⟨hin, hin, ?_⟩))
  rw [nI_clamp (show k < 2 ^ 31 by omega), f0.1, f0.2.1, f0.2.2.2.2]
  refine se_wp ho ta tb (fun z => absurd z hS) (fun _ => br_t rfl ⟨hin, br_t (by decide) ?_⟩)
  refine cm_wp ho hd hk hr hi hF rfl erp f0 ta tb hS p n1 n2 c1 c2 tl tq r1 r2 k1 k2 (fun fr1 fc1 L1 R1 B1 T1 F1 x c f i1 t1 r1 c1 => ?_)
  exact nm_r (nI_1 s) (K _ _ _ _ _ _ F1 x c f i1 t1 r1 c1)
theorem el_p {post : Int32 → SX → Prop} {op d k n s a b oa ob side ya yb ma mb : Nat} {fa fb : Nat → Nat} (ho : op < 4) (hk : k + 1 < 32) (hs : s < 256) (esp : sp = nI (k + 1)) (hside : side ≤ 1) (f0 : fr_at k a b oa ob side oA oB fA fB sg)
    (ta : tr_T L R B T F d a fa) (tb : tr_T L R B T F d b fb) (hS : ¬ ev_S op d fa fb)
    (c1 : ch_is L R side a ya) (c2 : ch_is L R side b yb) (c3 : co_is L B a ma) (c4 : co_is L B b mb)
    (K : ∀ oA1 oB1 fA1 fB1 sg1 : Nat → Int32, fr_at k a b oa ob (side + 1) oA1 oB1 fA1 fB1 sg1 → fr_at (k + 1) ya yb (oa + ma) (ob + mb) 0 oA1 oB1 fA1 fB1 sg1 → fr_same k oA oB fA fB sg oA1 oB1 fA1 fB1 sg1 →
      wX_evaluate_14 post (nI op) n (nI (s + 1)) zS zM zF zG sc dp ce lm fr fc ct (nI (k + 2)) rp pl lo up L R B T mk lv ir er wc wh oA1 oB1 fA1 fB1 sg1 rN rC pa) :
    wX_evaluate_14 post (nI op) (n + 1) (nI s) zS zM zF zG sc dp ce lm fr fc ct sp rp pl lo up L R B T mk lv ir er wc wh oA oB fA fB sg rN rC pa := by
  have hin : vp_in (nI k) 32 := vp_in_nI (by omega) (by decide)
  subst esp
  refine br_f (nI_ge (b := 256) hs (by decide)) (br_f (nI_nle (by omega) (by omega)) (nm_r (nI_pred k) ⟨hin, hin, ?_⟩))
  rw [nI_clamp (show k < 2 ^ 31 by omega), f0.1, f0.2.1, f0.2.2.2.2]
  refine se_wp ho ta tb (fun z => absurd z hS) (fun _ => br_t rfl ⟨hin, br_f (nI_ge (b := 2) (by omega) (by decide)) ?_⟩)
  refine pc_wp hk rfl f0 hside c1 c2 c3 c4 (fun oA1 oB1 fA1 fB1 sg1 g1 g2 g3 => ?_)
  exact nm_r (nI_1 s) (K _ _ _ _ _ g1 g2 g3)
theorem el_ind {post : Int32 → SX → Prop} {op : Nat} (ho : op < 4) : ∀ d : Nat, d ≤ 20 → ∀ (k r a b oa ob n s : Nat) (fa fb : Nat → Nat) (F : List Nat) (fr fc : Int32) (L R B T : Nat → Int32) (sp rp : Int32) (oA oB fA fB sg rN rC : Nat → Int32),
    k + d < 32 → r + d + 1 < 32 → hp_I fr fc L R B T F → 5 * 2 ^ d ≤ F.length + 4 → n + s = 257 → s + 4 * 2 ^ d ≤ 259 → sp = nI (k + 1) → rp = nI r → fr_at k a b oa ob 0 oA oB fA fB sg →
    tr_T L R B T F d a fa → tr_T L R B T F d b fb → ev_P op d oa ob fa fb →
    (∀ (n1 s1 x c : Nat) (F1 : List Nat) (f : Nat → Nat) (fr1 fc1 : Int32) (L1 R1 B1 T1 : Nat → Int32) (sp1 rp1 : Int32) (oA1 oB1 fA1 fB1 sg1 rN1 rC1 : Nat → Int32), n1 + s1 = 257 → s1 + 3 ≤ s + 4 * 2 ^ d → hp_N (5 * 2 ^ d - 4) fr fc L R B T F fr1 fc1 L1 R1 B1 T1 F1 → sp1 = nI k → rp1 = nI (r + 1) →
      fr_same k oA oB fA fB sg oA1 oB1 fA1 fB1 sg1 → rs_same r rN rC rN1 rC1 → rN1 r = nI x → rC1 r = nI c → tr_T L1 R1 B1 T1 F1 d x f → ev_R op d (fun i => oa + fa i) (fun i => ob + fb i) f → ev_C op d (fun i => oa + fa i) c →
      wX_evaluate_14 post (nI op) n1 (nI s1) zS zM zF zG sc dp ce lm fr1 fc1 ct sp1 rp1 pl lo up L1 R1 B1 T1 mk lv ir er wc wh oA1 oB1 fA1 fB1 sg1 rN1 rC1 pa) →
    wX_evaluate_14 post (nI op) n (nI s) zS zM zF zG sc dp ce lm fr fc ct sp rp pl lo up L R B T mk lv ir er wc wh oA oB fA fB sg rN rC pa := by
  have base : ∀ (d k r a b oa ob n s : Nat) (fa fb : Nat → Nat) (F : List Nat) (fr fc : Int32) (L R B T : Nat → Int32) (sp rp : Int32) (oA oB fA fB sg rN rC : Nat → Int32),
    k + d < 32 → r + d + 1 < 32 → hp_I fr fc L R B T F → 5 * 2 ^ d ≤ F.length + 4 → n + s = 257 → s + 4 * 2 ^ d ≤ 259 → sp = nI (k + 1) → rp = nI r → fr_at k a b oa ob 0 oA oB fA fB sg →
    tr_T L R B T F d a fa → tr_T L R B T F d b fb → ev_P op d oa ob fa fb → ev_S op d fa fb →
    (∀ (n1 s1 x c : Nat) (F1 : List Nat) (f : Nat → Nat) (fr1 fc1 : Int32) (L1 R1 B1 T1 : Nat → Int32) (sp1 rp1 : Int32) (oA1 oB1 fA1 fB1 sg1 rN1 rC1 : Nat → Int32), n1 + s1 = 257 → s1 + 3 ≤ s + 4 * 2 ^ d → hp_N (5 * 2 ^ d - 4) fr fc L R B T F fr1 fc1 L1 R1 B1 T1 F1 → sp1 = nI k → rp1 = nI (r + 1) →
      fr_same k oA oB fA fB sg oA1 oB1 fA1 fB1 sg1 → rs_same r rN rC rN1 rC1 → rN1 r = nI x → rC1 r = nI c → tr_T L1 R1 B1 T1 F1 d x f → ev_R op d (fun i => oa + fa i) (fun i => ob + fb i) f → ev_C op d (fun i => oa + fa i) c →
      wX_evaluate_14 post (nI op) n1 (nI s1) zS zM zF zG sc dp ce lm fr1 fc1 ct sp1 rp1 pl lo up L1 R1 B1 T1 mk lv ir er wc wh oA1 oB1 fA1 fB1 sg1 rN1 rC1 pa) →
    wX_evaluate_14 post (nI op) n (nI s) zS zM zF zG sc dp ce lm fr fc ct sp rp pl lo up L R B T mk lv ir er wc wh oA oB fA fB sg rN rC pa := by
    intro d k r a b oa ob n s fa fb F fr fc L R B T sp rp oA oB fA fB sg rN rC hk hr hi hF hn hs esp erp f0 ta tb p hS K
    have hp := zz_2p d
    obtain ⟨m, rfl⟩ : ∃ m, n = m + 1 := ⟨n - 1, by omega⟩
    refine el_b ho (by omega) (by omega) (by omega) esp erp f0 hi (by omega) ta tb hS p (fun fr1 fc1 L1 R1 B1 T1 F1 x c f i1 t1 r1 c1 => ?_)
    exact K m (s + 1) x c F1 f _ _ _ _ _ _ _ _ _ _ _ _ _ _ _ (by omega) (by omega) (hp_Nx i1 (by omega)) rfl rfl (fun i hi => ⟨rfl, rfl, rfl, rfl, rfl⟩) (fun i hi => ⟨pk_un (by omega), pk_un (by omega)⟩) pk_us pk_us t1 r1 c1
  intro d
  induction d with
  | zero =>
    intro _ k r a b oa ob n s fa fb F fr fc L R B T sp rp oA oB fA fB sg rN rC hk hr hi hF hn hs esp erp f0 ta tb p K
    refine base 0 k r a b oa ob n s fa fb F fr fc L R B T sp rp oA oB fA fB sg rN rC hk hr hi hF hn hs esp erp f0 ta tb p ?_ K
    unfold ev_S
    have e1 : tr_mn 0 fa = tr_mx 0 fa := rfl
    have e2 : tr_mn 0 fb = tr_mx 0 fb := rfl
    by_cases h3 : op = 3
    · exact Or.inl ⟨h3, e1⟩
    · by_cases h1 : op = 1
      · exact Or.inr (Or.inl ⟨h1, e1, e2⟩)
      · exact Or.inr (Or.inr ⟨h3, h1, Or.inl e1⟩)
  | succ d ih =>
    intro hd k r a b oa ob n s fa fb F fr fc L R B T sp rp oA oB fA fB sg rN rC hk hr hi hF hn hs esp erp f0 ta tb p K
    by_cases hS : ev_S op (d + 1) fa fb
    · exact base (d + 1) k r a b oa ob n s fa fb F fr fc L R B T sp rp oA oB fA fB sg rN rC hk hr hi hF hn hs esp erp f0 ta tb p hS K
    · have hz : 2 ^ (d + 1) = 2 ^ d + 2 ^ d := zz_2s d
      have hp := zz_2p d
      obtain ⟨la, ra, ma, tA⟩ := tr_two ta
      obtain ⟨lb, rb, mb, tB⟩ := tr_two tb
      obtain ⟨a1, a2, a3, a4, a5, a6, a7⟩ := tA
      obtain ⟨b1, b2, b3, b4, b5, b6, b7⟩ := tB
      have pp := ev_Pl p a2 b2 a7 b7
      obtain ⟨m, rfl⟩ : ∃ m, n = m + 1 := ⟨n - 1, by omega⟩
      -- the left halves
      refine el_p ho (by omega) (by omega) esp (by decide) f0 ta tb hS a3 b3 a1 b1 (fun oA1 oB1 fA1 fB1 sg1 g1 g2 g3 => ?_)
      refine ih (by omega) (k + 1) r la lb (oa + ma) (ob + mb) m (s + 1) _ _ F _ _ _ _ _ _ _ _ _ _ _ _ _ _ _ (by omega) (by omega) hi (by omega) (by omega) (by omega) rfl erp g2 a5 b5 pp.1 ?_
      intro n2 s2 xl cl F2 fl fr2 fc2 L2 R2 B2 T2 sp2 rp2 oA2 oB2 fA2 fB2 sg2 rN2 rC2 hn2 hs2 i2 esp2 erp2 m2 u2 v2 w2 t2 R2' C2'
      -- the right halves
      have q2 := i2.2.2
      have ta2 := tr_ext i2.2.1 ta
      have tb2 := tr_ext i2.2.1 tb
      have ga : fr_at k a b oa ob 1 oA2 oB2 fA2 fB2 sg2 := by
        have z := m2 k (by omega)
        exact ⟨z.1.trans g1.1, z.2.1.trans g1.2.1, z.2.2.1.trans g1.2.2.1, z.2.2.2.1.trans g1.2.2.2.1, z.2.2.2.2.trans g1.2.2.2.2⟩
      have hE := i2.2.1
      have na := tr_nd_of ta
      have nb := tr_nd_of tb
      have ea := hE.2 a na.2.1
      have eb := hE.2 b nb.2.1
      have a1' : co_is L2 B2 a ma := by unfold co_is; rw [ea.1, ea.2.2.1]; exact a1
      have b1' : co_is L2 B2 b mb := by unfold co_is; rw [eb.1, eb.2.2.1]; exact b1
      have a4' : ch_is L2 R2 1 a ra := by unfold ch_is; rw [ea.1, ea.2.1]; exact a4
      have b4' : ch_is L2 R2 1 b rb := by unfold ch_is; rw [eb.1, eb.2.1]; exact b4
      obtain ⟨m', rfl⟩ : ∃ m', n2 = m' + 1 := ⟨n2 - 1, by omega⟩
      refine el_p ho (by omega) (by omega) esp2 (by decide) ga ta2 tb2 hS a4' b4' a1' b1' (fun oA3 oB3 fA3 fB3 sg3 g4 g5 g6 => ?_)
      refine ih (by omega) (k + 1) (r + 1) ra rb (oa + ma) (ob + mb) m' (s2 + 1) _ _ F2 _ _ _ _ _ _ _ _ _ _ _ _ _ _ _ (by omega) (by omega) i2.1 (by omega) (by omega) (by omega) rfl erp2 g5 (tr_ext hE a6) (tr_ext hE b6) pp.2 ?_
      intro n4 s4 xr cr F4 fq fr4 fc4 L4 R4 B4 T4 sp4 rp4 oA4 oB4 fA4 fB4 sg4 rN4 rC4 hn4 hs4 i4 esp4 erp4 m4 u4 v4 w4 t4 R4' C4'
      have q4 := i4.2.2
      have gc : fr_at k a b oa ob 2 oA4 oB4 fA4 fB4 sg4 := by
        have z := m4 k (by omega)
        exact ⟨z.1.trans g4.1, z.2.1.trans g4.2.1, z.2.2.1.trans g4.2.2.1, z.2.2.2.1.trans g4.2.2.2.1, z.2.2.2.2.trans g4.2.2.2.2⟩
      have z4 := u4 r (by omega)
      obtain ⟨m'', rfl⟩ : ∃ m'', n4 = m'' + 1 := ⟨n4 - 1, by omega⟩
      have eFA1 : ∀ i, i < 2 ^ d → oa + ma + (fa i - ma) = oa + fa i := fun i hi => by have := a2 i (by omega); omega
      have eFB1 : ∀ i, i < 2 ^ d → ob + mb + (fb i - mb) = ob + fb i := fun i hi => by have := b2 i (by omega); omega
      have eFA2 : ∀ i, i < 2 ^ d → oa + ma + (fa (2 ^ d + i) - ma) = oa + fa (2 ^ d + i) := fun i hi => by have := a2 (2 ^ d + i) (by omega); omega
      have eFB2 : ∀ i, i < 2 ^ d → ob + mb + (fb (2 ^ d + i) - mb) = ob + fb (2 ^ d + i) := fun i hi => by have := b2 (2 ^ d + i) (by omega); omega
      refine el_c ho (by omega) (by omega) (by omega) (by omega) esp4 erp4 gc i4.1 (by omega) (tr_ext i4.2.1 ta2) (tr_ext i4.2.1 tb2) hS p (z4.1.trans v2) v4 (z4.2.trans w2) w4 (tr_ext i4.2.1 t2) t4
        (ev_Rc eFA1 eFB1 R2') (ev_Rc eFA2 eFB2 R4') (ev_Cc eFA1 C2') (ev_Cc eFA2 C4') (fun fr5 fc5 L5 R5 B5 T5 F5 x c f i5 t5 R5' C5' => ?_)
      have w24 := hp_Nt i2 i4 (Nat.le_refl _)
      refine K m'' (s4 + 1) x c F5 f _ _ _ _ _ _ _ _ _ _ _ _ _ _ _ (by omega) (by omega) (hp_Nt w24 i5 (by omega)) rfl rfl ?_ (fun i hi => ?_) pk_us pk_us t5 R5' C5'
      · intro i hi
        have y1 := g3 i hi
        have y2 := m2 i (by omega)
        have y3 := g6 i hi
        have y4 := m4 i (by omega)
        exact ⟨y4.1.trans (y3.1.trans (y2.1.trans y1.1)), y4.2.1.trans (y3.2.1.trans (y2.2.1.trans y1.2.1)), y4.2.2.1.trans (y3.2.2.1.trans (y2.2.2.1.trans y1.2.2.1)), y4.2.2.2.1.trans (y3.2.2.2.1.trans (y2.2.2.2.1.trans y1.2.2.2.1)), y4.2.2.2.2.trans (y3.2.2.2.2.trans (y2.2.2.2.2.trans y1.2.2.2.2))⟩
      · have y2 := u2 i hi
        have y4 := u4 i (by omega)
        exact ⟨(pk_un (by omega)).trans (y4.1.trans y2.1), (pk_un (by omega)).trans (y4.2.trans y2.2)⟩
theorem sr_wp {post : SX → Prop} {a b : Int32} (K : ∀ oA1 oB1 fA1 fB1 sg1 : Nat → Int32, oA1 0 = a → oB1 0 = b → fA1 0 = nI 0 → fB1 0 = nI 0 → sg1 0 = nI 0 → post (zS, zM, zF, zG, sc, dp, ce, lm, fr, fc, ct, nI 1, rp, pl, lo, up, L, R, B, T, mk, lv, ir, er, wc, wh, oA1, oB1, fA1, fB1, sg1, rN, rC, pa)) : wpX_start post (zS, zM, zF, zG, sc, dp, ce, lm, fr, fc, ct, sp, rp, pl, lo, up, L, R, B, T, mk, lv, ir, er, wc, wh, oA, oB, fA, fB, sg, rN, rC, pa) a b := by
  unfold wpX_start
  (try dsimp only)
  exact nm_e (nm_e (nm_e (nm_e (nm_e (K _ _ _ _ _ pk_us pk_us pk_us pk_us pk_us)))))
theorem ev_run {post : Int32 → SX → Prop} {op d a b : Nat} {fa fb : Nat → Nat} (ho : op < 4) (hd : d ≤ 4) (hi : hp_I fr fc L R B T F) (hF : 76 ≤ F.length) (ta : tr_T L R B T F d a fa) (tb : tr_T L R B T F d b fb) (p : ev_P op d 0 0 fa fb)
    (K : ∀ (F1 : List Nat) (x : Nat) (f : Nat → Nat) (fr1 fc1 : Int32) (L1 R1 B1 T1 : Nat → Int32) (sp1 rp1 : Int32) (oA1 oB1 fA1 fB1 sg1 rN1 rC1 : Nat → Int32), hp_N 76 fr fc L R B T F fr1 fc1 L1 R1 B1 T1 F1 → tr_T L1 R1 B1 T1 F1 d x f → ev_R op d fa fb f → post (nI x) (zS, zM, zF, zG, sc, dp, ce, lm, fr1, fc1, ct, sp1, rp1, pl, lo, up, L1, R1, B1, T1, mk, lv, ir, er, wc, wh, oA1, oB1, fA1, fB1, sg1, rN1, rC1, pa)) : wpX_evaluate post (zS, zM, zF, zG, sc, dp, ce, lm, fr, fc, ct, sp, rp, pl, lo, up, L, R, B, T, mk, lv, ir, er, wc, wh, oA, oB, fA, fB, sg, rN, rC, pa) (nI op) (nI a) (nI b) := by
  unfold wpX_evaluate
  (try dsimp only)
  refine sr_wp (fun oA1 oB1 fA1 fB1 sg1 h1 h2 h3 h4 h5 => ⟨257, ?_⟩)
  have h16 := zz_d4 hd
  refine el_ind ho d (by omega) 0 0 a b 0 0 257 0 fa fb F _ _ _ _ _ _ _ _ _ _ _ _ _ _ _ (by omega) (by omega) hi (by omega) (by omega) (by omega) rfl rfl ⟨h1, h2, h3, h4, h5⟩ ta tb p ?_
  intro n1 s1 x c F1 f fr2 fc2 L2 R2 B2 T2 sp2 rp2 oA2 oB2 fA2 fB2 sg2 rN2 rC2 hn2 hs2 i2 esp2 erp2 m2 u2 v2 w2 t2 R2' C2'
  obtain ⟨m, rfl⟩ : ∃ m, n1 = m + 1 := ⟨n1 - 1, by omega⟩
  subst esp2
  refine br_f (nI_ge (b := 256) (by omega) (by decide)) (br_t (by decide) ?_)
  rw [v2]
  refine K F1 x f _ _ _ _ _ _ _ _ _ _ _ _ _ _ _ (hp_Nx i2 (by omega)) t2 (ev_Rc (fun i hi => ?_) (fun i hi => ?_) R2')
  · (try dsimp only); omega
  · (try dsimp only); omega
end
end
section
/-! reading trees -/
section
variable {zS zM zF zG sc dp ce lm fr fc ct sp rp pl lo up : Int32} {L R B T mk lv ir er wc wh oA oB fA fB sg rN rC pa : Nat → Int32} {F : List Nat}
theorem bt_and (c e : Nat) : (c &&& 2 ^ e = 0 ∧ c % 2 ^ (e + 1) = c % 2 ^ e) ∨ (c &&& 2 ^ e = 2 ^ e ∧ c % 2 ^ (e + 1) = 2 ^ e + c % 2 ^ e) := by
  have h1 : c % 2 ^ (e + 1) = c % 2 ^ e + 2 ^ e * (c / 2 ^ e % 2) := Nat.mod_pow_succ
  have h2 : c.testBit e = decide (c / 2 ^ e % 2 = 1) := Nat.testBit_eq_decide_div_mod_eq
  have h3 : c / 2 ^ e % 2 = 0 ∨ c / 2 ^ e % 2 = 1 := by omega
  have key : ∀ b : Bool, c.testBit e = b → c &&& 2 ^ e = if b then 2 ^ e else 0 := by
    intro b hb
    apply Nat.eq_of_testBit_eq
    intro i
    rw [Nat.testBit_and, Nat.testBit_two_pow]
    by_cases hi : e = i
    · subst hi
      rw [hb]
      cases b
      · simp
      · simp [Nat.testBit_two_pow_self]
    · cases b
      · simp [hi]
      · simp [hi, Nat.testBit_two_pow_of_ne hi]
  rcases h3 with h3 | h3
  · left
    rw [h3] at h1 h2
    have := key false (by rw [h2]; decide)
    exact ⟨by rw [this]; rfl, by rw [h1]; omega⟩
  · right
    rw [h3] at h1 h2
    have := key true (by rw [h2]; decide)
    exact ⟨by rw [this]; rfl, by rw [h1]; omega⟩
theorem sh_1 {n : Nat} (h : n < 2 ^ 31) : nI n >>> ((1 : Int32) &&& 31) = nI (n / 2) := pk_shrN h _ 1 (by decide)
theorem ha_ind {post : Int32 → Prop} {c : Nat} : ∀ (e : Nat), e ≤ 20 → ∀ (x acc : Nat) (f : Nat → Nat), tr_T L R B T F e x f → acc + tr_mx e f < 2 ^ 30 → post (nI (acc + f (c % 2 ^ e))) → ∀ n, e < n →
    wX_heightAt_18 post (nI c) zS zM zF zG sc dp ce lm fr fc ct sp rp pl lo up L R B T mk lv ir er wc wh oA oB fA fB sg rN rC pa n (nI x) (nI (acc + tr_mn e f)) (nI (2 ^ e / 2)) := by
  intro e
  induction e with
  | zero =>
    intro _ x acc f t hb K n hn
    obtain ⟨m, rfl⟩ : ∃ m, n = m + 1 := ⟨n - 1, by omega⟩
    refine br_t (by decide) ?_
    have : c % 2 ^ 0 = 0 := by simp [Nat.mod_one]
    rw [this] at K
    exact K
  | succ e ih =>
    intro he x acc f t hb K n hn
    obtain ⟨m, rfl⟩ : ∃ m, n = m + 1 := ⟨n - 1, by omega⟩
    have hz := zz_2s e
    have hp := zz_2p e
    have hm : c % 2 ^ (e + 1) < 2 ^ (e + 1) := Nat.mod_lt _ (zz_2p _)
    have h20 : 2 ^ e ≤ 2 ^ 20 := Nat.pow_le_pow_right (by decide) (by omega)
    have hd : 2 ^ (e + 1) / 2 = 2 ^ e := by omega
    have nx := tr_nd_of t
    have hin : vp_in (nI x) 2048 := vp_in_nI nx.1 (by decide)
    rw [hd]
    refine br_f (nI_nle hp (by omega)) ⟨hin, ?_⟩
    rw [nI_clamp (zz_lt nx.1)]
    rcases tr_cs t with ⟨a, b⟩ | ⟨e', l, r, he', h1, h2, h3, h4, h5, h6⟩
    · rw [b.1]
      refine br_t (by decide) ?_
      rw [tr_const a _ hm] at K
      exact K
    · have he' : e' = e := by omega
      subst he'
      have mn5 := tr_B h5
      have mn6 := tr_B h6
      have hcm : c % 2 ^ e' < 2 ^ e' := Nat.mod_lt _ hp
      have x5 := tr_mx_sub e' f (tr_mn (e' + 1) f)
      have x6 := tr_mx_sub e' (fun i => f (2 ^ e' + i)) (tr_mn (e' + 1) f)
      have sx := tr_mx_s e' f
      rw [h3, h4]
      refine br_f (nI_pos (zz_lt (tr_lt h5))) ?_
      rw [nx_and]
      rcases bt_and c e' with ⟨b1, b2⟩ | ⟨b1, b2⟩
      · rw [b1]
        refine br_t rfl ⟨hin, ?_⟩
        unfold wX_heightAt_54
        rw [nI_clamp (zz_lt (tr_lt h5)), mn5, nI_add, sh_1 (by omega)]
        refine ⟨vp_in_nI (tr_lt h5) (by decide), nm_e (nm_e (ih (by omega) l (acc + tr_mn (e' + 1) f) _ h5 (by omega) ?_ m (by omega)))⟩
        rw [b2] at K
        have := tr_mn_le (e' + 1) f (c % 2 ^ e') (by omega)
        rw [show acc + tr_mn (e' + 1) f + (f (c % 2 ^ e') - tr_mn (e' + 1) f) = acc + f (c % 2 ^ e') by omega]
        exact K
      · rw [b1]
        refine br_f (nI_ne0 hp (by omega)) ⟨hin, ?_⟩
        unfold wX_heightAt_54
        rw [nI_clamp (zz_lt (tr_lt h6)), mn6, nI_add, sh_1 (by omega)]
        refine ⟨vp_in_nI (tr_lt h6) (by decide), nm_e (nm_e (ih (by omega) r (acc + tr_mn (e' + 1) f) _ h6 (by omega) ?_ m (by omega)))⟩
        rw [b2] at K
        have := tr_mn_le (e' + 1) f (2 ^ e' + c % 2 ^ e') (by omega)
        rw [show acc + tr_mn (e' + 1) f + (f (2 ^ e' + c % 2 ^ e') - tr_mn (e' + 1) f) = acc + f (2 ^ e' + c % 2 ^ e') by omega]
        exact K
theorem ha_wp {post : Int32 → Prop} {d x c : Nat} {f : Nat → Nat} (hd : d ≤ 4) (ece : ce = nI (2 ^ d)) (t : tr_T L R B T F d x f) (hb : tr_mx d f < 2 ^ 30) (hc : c < 2 ^ d) (K : post (nI (f c))) : wpX_heightAt post (zS, zM, zF, zG, sc, dp, ce, lm, fr, fc, ct, sp, rp, pl, lo, up, L, R, B, T, mk, lv, ir, er, wc, wh, oA, oB, fA, fB, sg, rN, rC, pa) (nI x) (nI c) := by
  have h16 := zz_d4 hd
  have nx := tr_nd_of t
  subst ece
  unfold wpX_heightAt
  (try dsimp only)
  rw [nI_clamp (zz_lt nx.1), nx.2.2.1, sh_1 (by omega)]
  refine ⟨vp_in_nI nx.1 (by decide), nm_e (nm_e ⟨d + 1, ?_⟩)⟩
  have := ha_ind (post := post) (c := c) d (by omega) x 0 f t (by omega) (by rw [Nat.mod_eq_of_lt hc, Nat.zero_add]; exact K) (d + 1) (by omega) (zS := zS) (zM := zM) (zF := zF) (zG := zG) (sc := sc) (dp := dp) (ce := nI (2 ^ d)) (lm := lm) (fr := fr) (fc := fc) (ct := ct) (sp := sp) (rp := rp) (pl := pl) (lo := lo) (up := up) (mk := mk) (lv := lv) (ir := ir) (er := er) (wc := wc) (wh := wh) (oA := oA) (oB := oB) (fA := fA) (fB := fB) (sg := sg) (rN := rN) (rC := rC) (pa := pa)
  rw [Nat.zero_add] at this
  exact this
theorem rc_wp {post : Int32 → Prop} {d x y : Nat} {f h : Nat → Nat} (hd : d ≤ 4) (ece : ce = nI (2 ^ d)) (t : tr_T L R B T F d x f) (t' : tr_T L R B T F d y h) (hb : tr_mx d f < 2 ^ 30) (hb' : tr_mx d h < 2 ^ 30)
    (K1 : (∀ i, i < 2 ^ d → h i ≤ f i) → post (-1)) (K2 : ∀ c, c < 2 ^ d → f c < h c → post (nI c)) : wpX_raisedCell post (zS, zM, zF, zG, sc, dp, ce, lm, fr, fc, ct, sp, rp, pl, lo, up, L, R, B, T, mk, lv, ir, er, wc, wh, oA, oB, fA, fB, sg, rN, rC, pa) (nI x) (nI y) := by
  have h16 := zz_d4 hd
  have hp := zz_2p d
  subst ece
  unfold wpX_raisedCell
  (try dsimp only)
  refine ⟨2 ^ d + 1, ?_⟩
  have go : ∀ m c : Nat, c ≤ 2 ^ d → m + c = 2 ^ d + 1 → (∀ i, i < c → i < 2 ^ d → h i ≤ f i) → wX_raisedCell_2 post (nI x) (nI y) zS zM zF zG sc dp (nI (2 ^ d)) lm fr fc ct sp rp pl lo up L R B T mk lv ir er wc wh oA oB fA fB sg rN rC pa m (nI c) := by
    intro m
    induction m with
    | zero =>
      intro c hc0 hc hh
      omega
    | succ m ih =>
      intro c hc0 hc hh
      by_cases hl : c < 2 ^ d
      · refine br_f (nI_ge hl (by omega)) (ha_wp hd rfl t hb hl (ha_wp hd rfl t' hb' hl ?_))
        have b1 := tr_mx_ge d f c hl
        have b2 := tr_mx_ge d h c hl
        refine pk_le (h c) (f c) (fun q => nm_r (nI_1 c) (ih (c + 1) (by omega) (by omega) (fun i hi hi2 => ?_))) (fun q => K2 c hl q) rfl rfl (by omega) (by omega)
        by_cases e : i = c
        · subst e; exact q
        · exact hh i (by omega) hi2
      · exact br_t (nI_le (by omega) (by omega)) (K1 (fun i hi => hh i (by omega) hi))
  exact go (2 ^ d + 1) 0 (by omega) (by omega) (fun i hi => by omega)
theorem cn_wp {post : Int32 → Prop} {d x j w g : Nat} {f : Nat → Nat} (hd : d ≤ 4) (ece : ce = nI (2 ^ d)) (t : tr_T L R B T F d x f) (hb : tr_mx d f < 2 ^ 30) (hj : j < 128) (e1 : wc j = nI w) (e2 : wh j = nI g) (hw : w < 2 ^ d) (hg : g < 2 ^ 30)
    (K1 : g ≤ f w → post 1) (K0 : f w < g → post 0) : wpX_contains post (zS, zM, zF, zG, sc, dp, ce, lm, fr, fc, ct, sp, rp, pl, lo, up, L, R, B, T, mk, lv, ir, er, wc, wh, oA, oB, fA, fB, sg, rN, rC, pa) (nI x) (nI j) := by
  have hin : vp_in (nI j) 128 := vp_in_nI hj (by decide)
  unfold wpX_contains
  (try dsimp only)
  rw [nI_clamp (show j < 2 ^ 31 by omega), e1, e2]
  have b1 := tr_mx_ge d f w hw
  exact ⟨hin, ha_wp hd ece t hb hw ⟨hin, pk_lt (f w) g K0 K1 rfl rfl (by omega) (by omega)⟩⟩
end
end
section
/-! atMost -/
section
variable {zS zM zF zG sc dp ce lm fr fc ct sp rp pl lo up : Int32} {L R B T mk lv ir er wc wh oA oB fA fB sg rN rC pa : Nat → Int32} {F : List Nat}
/-- a frame that is neither below nor above: push -/
theorem am_p {post : Int32 → SX → Prop} {d k n s a b oa ob side ya yb ma mb : Nat} {fa fb : Nat → Nat} (hk : k + 1 < 32) (hs : s < 256) (esp : sp = nI (k + 1)) (hside : side ≤ 1) (f0 : fr_at k a b oa ob side oA oB fA fB sg)
    (ta : tr_T L R B T F d a fa) (tb : tr_T L R B T F d b fb) (ba : oa + tr_mx d fa < 2 ^ 30) (bb : ob + tr_mx d fb < 2 ^ 30) (h1 : ob + tr_mn d fb < oa + tr_mx d fa) (h2 : oa + tr_mn d fa ≤ ob + tr_mn d fb)
    (c1 : ch_is L R side a ya) (c2 : ch_is L R side b yb) (c3 : co_is L B a ma) (c4 : co_is L B b mb)
    (K : ∀ oA1 oB1 fA1 fB1 sg1 : Nat → Int32, fr_at k a b oa ob (side + 1) oA1 oB1 fA1 fB1 sg1 → fr_at (k + 1) ya yb (oa + ma) (ob + mb) 0 oA1 oB1 fA1 fB1 sg1 → fr_same k oA oB fA fB sg oA1 oB1 fA1 fB1 sg1 →
      wX_atMost_8 post n (nI (s + 1)) zS zM zF zG sc dp ce lm fr fc ct (nI (k + 2)) rp pl lo up L R B T mk lv ir er wc wh oA1 oB1 fA1 fB1 sg1 rN rC pa) :
    wX_atMost_8 post (n + 1) (nI s) zS zM zF zG sc dp ce lm fr fc ct sp rp pl lo up L R B T mk lv ir er wc wh oA oB fA fB sg rN rC pa := by
  have hin : vp_in (nI k) 32 := vp_in_nI (by omega) (by decide)
  have na := tr_nd_of ta
  have nb := tr_nd_of tb
  have ia : vp_in (nI a) 2048 := vp_in_nI na.1 (by decide)
  have ib : vp_in (nI b) 2048 := vp_in_nI nb.1 (by decide)
  have sb := tr_mnx d fb
  have sa := tr_mnx d fa
  subst esp
  refine br_f (nI_ge (b := 256) hs (by decide)) (br_f (nI_nle (by omega) (by omega)) (nm_r (nI_pred k) ?_))
  rw [nI_clamp (show k < 2 ^ 31 by omega), f0.1, f0.2.1, f0.2.2.1, f0.2.2.2.1, f0.2.2.2.2, nI_clamp (zz_lt nb.1)]
  refine ⟨hin, nm_e ⟨hin, hin, ib, nm_e ?_⟩⟩
  rw [nI_clamp (zz_lt na.1), na.2.2.1, na.2.2.2, nb.2.2.1, nI_add, nI_add, nI_add]
  refine ⟨hin, ia, br_t (nI_lt h1 (by omega)) ⟨hin, ia, br_t (nI_le h2 (by omega)) ⟨hin, br_f (nI_ge (b := 2) (by omega) (by decide)) ?_⟩⟩⟩
  refine pc_wp hk rfl f0 hside c1 c2 c3 c4 (fun oA1 oB1 fA1 fB1 sg1 g1 g2 g3 => ?_)
  exact nm_r (nI_1 s) (K _ _ _ _ _ g1 g2 g3)
/-- the other turns -/
theorem am_q {post : Int32 → SX → Prop} {d k n s a b oa ob side : Nat} {fa fb : Nat → Nat} (hk : k < 32) (hs : s < 256) (esp : sp = nI (k + 1)) (hside : side ≤ 2) (f0 : fr_at k a b oa ob side oA oB fA fB sg)
    (ta : tr_T L R B T F d a fa) (tb : tr_T L R B T F d b fb) (ba : oa + tr_mx d fa < 2 ^ 30) (bb : ob + tr_mx d fb < 2 ^ 30) (h : oa + tr_mx d fa ≤ ob + tr_mn d fb ∨ ob + tr_mn d fb < oa + tr_mn d fa ∨ side = 2)
    (K1 : oa + tr_mx d fa ≤ ob + tr_mn d fb ∨ side = 2 → wX_atMost_8 post n (nI (s + 1)) zS zM zF zG sc dp ce lm fr fc ct (nI k) rp pl lo up L R B T mk lv ir er wc wh oA oB fA fB sg rN rC pa) (K0 : ob + tr_mn d fb < oa + tr_mn d fa → post 0 (zS, zM, zF, zG, sc, dp, ce, lm, fr, fc, ct, sp, rp, pl, lo, up, L, R, B, T, mk, lv, ir, er, wc, wh, oA, oB, fA, fB, sg, rN, rC, pa)) :
    wX_atMost_8 post (n + 1) (nI s) zS zM zF zG sc dp ce lm fr fc ct sp rp pl lo up L R B T mk lv ir er wc wh oA oB fA fB sg rN rC pa := by
  have hin : vp_in (nI k) 32 := vp_in_nI (by omega) (by decide)
  have na := tr_nd_of ta
  have nb := tr_nd_of tb
  have ia : vp_in (nI a) 2048 := vp_in_nI na.1 (by decide)
  have ib : vp_in (nI b) 2048 := vp_in_nI nb.1 (by decide)
  have sb := tr_mnx d fb
  have sa := tr_mnx d fa
  subst esp
  refine br_f (nI_ge (b := 256) hs (by decide)) (br_f (nI_nle (by omega) (by omega)) (nm_r (nI_pred k) ?_))
  rw [nI_clamp (show k < 2 ^ 31 by omega), f0.1, f0.2.1, f0.2.2.1, f0.2.2.2.1, f0.2.2.2.2, nI_clamp (zz_lt nb.1)]
  refine ⟨hin, nm_e ⟨hin, hin, ib, nm_e ?_⟩⟩
  rw [nI_clamp (zz_lt na.1), na.2.2.1, na.2.2.2, nb.2.2.1, nI_add, nI_add, nI_add]
  refine ⟨hin, ia, pk_lt _ _ (fun z1 => ⟨hin, ia, pk_le _ _ (fun z2 => ⟨hin, br_t ?_ ?_⟩) (fun z2 => K0 z2) rfl rfl (by omega) (by omega)⟩) (fun z1 => ?_) rfl rfl (by omega) (by omega)⟩
  · have : side = 2 := by omega
    subst this; decide
  · exact nm_r (nI_pred k) (nm_r (nI_1 s) (K1 (Or.inr (by omega))))
  · exact nm_r (nI_pred k) (nm_r (nI_1 s) (K1 (Or.inl z1)))
theorem am_ind {post : Int32 → SX → Prop} : ∀ d : Nat, d ≤ 20 → ∀ (k a b oa ob n s : Nat) (fa fb : Nat → Nat) (sp : Int32) (oA oB fA fB sg : Nat → Int32),
    k + d < 32 → n + s = 257 → s + 4 * 2 ^ d ≤ 259 → sp = nI (k + 1) → fr_at k a b oa ob 0 oA oB fA fB sg →
    tr_T L R B T F d a fa → tr_T L R B T F d b fb → (∀ i, i < 2 ^ d → oa + fa i < 2 ^ 20 ∧ ob + fb i < 2 ^ 20) →
    ((∀ i, i < 2 ^ d → oa + fa i ≤ ob + fb i) → ∀ (n1 s1 : Nat) (sp1 : Int32) (oA1 oB1 fA1 fB1 sg1 : Nat → Int32), n1 + s1 = 257 → s1 + 3 ≤ s + 4 * 2 ^ d → sp1 = nI k → fr_same k oA oB fA fB sg oA1 oB1 fA1 fB1 sg1 →
      wX_atMost_8 post n1 (nI s1) zS zM zF zG sc dp ce lm fr fc ct sp1 rp pl lo up L R B T mk lv ir er wc wh oA1 oB1 fA1 fB1 sg1 rN rC pa) →
    ((∃ i, i < 2 ^ d ∧ ob + fb i < oa + fa i) → ∀ (sp1 : Int32) (oA1 oB1 fA1 fB1 sg1 : Nat → Int32), post 0 (zS, zM, zF, zG, sc, dp, ce, lm, fr, fc, ct, sp1, rp, pl, lo, up, L, R, B, T, mk, lv, ir, er, wc, wh, oA1, oB1, fA1, fB1, sg1, rN, rC, pa)) →
    wX_atMost_8 post n (nI s) zS zM zF zG sc dp ce lm fr fc ct sp rp pl lo up L R B T mk lv ir er wc wh oA oB fA fB sg rN rC pa := by
  intro d
  induction d with
  | zero =>
    intro _ k a b oa ob n s fa fb sp oA oB fA fB sg hk hn hs esp f0 ta tb hb K1 K0
    obtain ⟨m, rfl⟩ : ∃ m, n = m + 1 := ⟨n - 1, by omega⟩
    have b0 := hb 0 (by decide)
    have e1 : tr_mx 0 fa = fa 0 := rfl
    have e2 : tr_mx 0 fb = fb 0 := rfl
    have e3 : tr_mn 0 fa = fa 0 := rfl
    have e4 : tr_mn 0 fb = fb 0 := rfl
    refine am_q (by omega) (by omega) esp (by decide) f0 ta tb (by omega) (by omega) (by omega) (fun h => K1 (fun i hi => ?_) m (s + 1) _ _ _ _ _ _ (by omega) (by omega) rfl (fun _ _ => ⟨rfl, rfl, rfl, rfl, rfl⟩)) (fun h => K0 ⟨0, by decide, by omega⟩ _ _ _ _ _ _)
    have : i = 0 := by simpa using hi
    subst this; omega
  | succ d ih =>
    intro hd k a b oa ob n s fa fb sp oA oB fA fB sg hk hn hs esp f0 ta tb hb K1 K0
    have hz : 2 ^ (d + 1) = 2 ^ d + 2 ^ d := zz_2s d
    have hp := zz_2p d
    obtain ⟨m, rfl⟩ : ∃ m, n = m + 1 := ⟨n - 1, by omega⟩
    have ba : oa + tr_mx (d + 1) fa < 2 ^ 30 := by
      obtain ⟨i, hi, ei⟩ := tr_mx_ex (d + 1) fa
      have := (hb i hi).1; omega
    have bb : ob + tr_mx (d + 1) fb < 2 ^ 30 := by
      obtain ⟨i, hi, ei⟩ := tr_mx_ex (d + 1) fb
      have := (hb i hi).2; omega
    by_cases c : oa + tr_mx (d + 1) fa ≤ ob + tr_mn (d + 1) fb ∨ ob + tr_mn (d + 1) fb < oa + tr_mn (d + 1) fa
    · refine am_q (by omega) (by omega) esp (by decide) f0 ta tb ba bb (by omega) (fun h => K1 (fun i hi => ?_) m (s + 1) _ _ _ _ _ _ (by omega) (by omega) rfl (fun _ _ => ⟨rfl, rfl, rfl, rfl, rfl⟩)) (fun h => K0 ?_ _ _ _ _ _ _)
      · have q1 := tr_mx_ge (d + 1) fa i hi
        have q2 := tr_mn_le (d + 1) fb i hi
        omega
      · obtain ⟨i, hi, ei⟩ := tr_mn_ex (d + 1) fb
        have q1 := tr_mn_le (d + 1) fa i hi
        exact ⟨i, hi, by omega⟩
    · obtain ⟨la, ra, ma, tA⟩ := tr_two ta
      obtain ⟨lb, rb, mb, tB⟩ := tr_two tb
      obtain ⟨a1, a2, a3, a4, a5, a6, a7⟩ := tA
      obtain ⟨b1, b2, b3, b4, b5, b6, b7⟩ := tB
      have x1 : ob + tr_mn (d + 1) fb < oa + tr_mx (d + 1) fa := by omega
      have x2 : oa + tr_mn (d + 1) fa ≤ ob + tr_mn (d + 1) fb := by omega
      refine am_p (by omega) (by omega) esp (by decide) f0 ta tb ba bb x1 x2 a3 b3 a1 b1 (fun oA1 oB1 fA1 fB1 sg1 g1 g2 g3 => ?_)
      refine ih (by omega) (k + 1) la lb (oa + ma) (ob + mb) m (s + 1) _ _ _ _ _ _ _ _ (by omega) (by omega) (by omega) rfl g2 a5 b5 (fun i hi => ?_) (fun hle n2 s2 sp2 oA2 oB2 fA2 fB2 sg2 hn2 hs2 esp2 m2 => ?_) (fun hex => ?_)
      · have := hb i (by omega); have := a2 i (by omega); have := b2 i (by omega)
        (try dsimp only); omega
      · have ga : fr_at k a b oa ob 1 oA2 oB2 fA2 fB2 sg2 := by
          have z := m2 k (by omega)
          exact ⟨z.1.trans g1.1, z.2.1.trans g1.2.1, z.2.2.1.trans g1.2.2.1, z.2.2.2.1.trans g1.2.2.2.1, z.2.2.2.2.trans g1.2.2.2.2⟩
        obtain ⟨m', rfl⟩ : ∃ m', n2 = m' + 1 := ⟨n2 - 1, by omega⟩
        refine am_p (by omega) (by omega) esp2 (by decide) ga ta tb ba bb x1 x2 a4 b4 a1 b1 (fun oA3 oB3 fA3 fB3 sg3 g4 g5 g6 => ?_)
        refine ih (by omega) (k + 1) ra rb (oa + ma) (ob + mb) m' (s2 + 1) _ _ _ _ _ _ _ _ (by omega) (by omega) (by omega) rfl g5 a6 b6 (fun i hi => ?_) (fun hle2 n4 s4 sp4 oA4 oB4 fA4 fB4 sg4 hn4 hs4 esp4 m4 => ?_) (fun hex => ?_)
        · have := hb (2 ^ d + i) (by omega); have := a2 (2 ^ d + i) (by omega); have := b2 (2 ^ d + i) (by omega)
          (try dsimp only); omega
        · have gc : fr_at k a b oa ob 2 oA4 oB4 fA4 fB4 sg4 := by
            have z := m4 k (by omega)
            exact ⟨z.1.trans g4.1, z.2.1.trans g4.2.1, z.2.2.1.trans g4.2.2.1, z.2.2.2.1.trans g4.2.2.2.1, z.2.2.2.2.trans g4.2.2.2.2⟩
          obtain ⟨m'', rfl⟩ : ∃ m'', n4 = m'' + 1 := ⟨n4 - 1, by omega⟩
          refine am_q (by omega) (by omega) esp4 (by decide) gc ta tb ba bb (Or.inr (Or.inr rfl)) (fun _ => K1 (tr_halves (fun i hi => ?_) (fun i hi => ?_)) m'' (s4 + 1) _ _ _ _ _ _ (by omega) (by omega) rfl ?_) (fun h => by omega)
          · have := hle i hi; have := a2 i (by omega); have := b2 i (by omega)
            (try dsimp only at *); omega
          · have := hle2 i hi; have := a2 (2 ^ d + i) (by omega); have := b2 (2 ^ d + i) (by omega)
            (try dsimp only at *); omega
          · intro i hi
            have y1 := g3 i hi
            have y2 := m2 i (by omega)
            have y3 := g6 i hi
            have y4 := m4 i (by omega)
            exact ⟨y4.1.trans (y3.1.trans (y2.1.trans y1.1)), y4.2.1.trans (y3.2.1.trans (y2.2.1.trans y1.2.1)), y4.2.2.1.trans (y3.2.2.1.trans (y2.2.2.1.trans y1.2.2.1)), y4.2.2.2.1.trans (y3.2.2.2.1.trans (y2.2.2.2.1.trans y1.2.2.2.1)), y4.2.2.2.2.trans (y3.2.2.2.2.trans (y2.2.2.2.2.trans y1.2.2.2.2))⟩
        · obtain ⟨i, hi, q⟩ := hex
          refine K0 ⟨2 ^ d + i, by omega, ?_⟩
          have := a2 (2 ^ d + i) (by omega); have := b2 (2 ^ d + i) (by omega)
          (try dsimp only at q); omega
      · obtain ⟨i, hi, q⟩ := hex
        refine K0 ⟨i, by omega, ?_⟩
        have := a2 i (by omega); have := b2 i (by omega)
        (try dsimp only at q); omega
theorem am_wp {post : Int32 → SX → Prop} {d a b : Nat} {fa fb : Nat → Nat} (hd : d ≤ 4) (ta : tr_T L R B T F d a fa) (tb : tr_T L R B T F d b fb) (hb : ∀ i, i < 2 ^ d → fa i < 2 ^ 20 ∧ fb i < 2 ^ 20)
    (K1 : (∀ i, i < 2 ^ d → fa i ≤ fb i) → ∀ (sp1 : Int32) (oA1 oB1 fA1 fB1 sg1 : Nat → Int32), post 1 (zS, zM, zF, zG, sc, dp, ce, lm, fr, fc, ct, sp1, rp, pl, lo, up, L, R, B, T, mk, lv, ir, er, wc, wh, oA1, oB1, fA1, fB1, sg1, rN, rC, pa))
    (K0 : (∃ i, i < 2 ^ d ∧ fb i < fa i) → ∀ (sp1 : Int32) (oA1 oB1 fA1 fB1 sg1 : Nat → Int32), post 0 (zS, zM, zF, zG, sc, dp, ce, lm, fr, fc, ct, sp1, rp, pl, lo, up, L, R, B, T, mk, lv, ir, er, wc, wh, oA1, oB1, fA1, fB1, sg1, rN, rC, pa)) : wpX_atMost post (zS, zM, zF, zG, sc, dp, ce, lm, fr, fc, ct, sp, rp, pl, lo, up, L, R, B, T, mk, lv, ir, er, wc, wh, oA, oB, fA, fB, sg, rN, rC, pa) (nI a) (nI b) := by
  have h16 := zz_d4 hd
  unfold wpX_atMost
  (try dsimp only)
  refine sr_wp (fun oA1 oB1 fA1 fB1 sg1 h1 h2 h3 h4 h5 => ⟨257, ?_⟩)
  refine am_ind d (by omega) 0 a b 0 0 257 0 fa fb _ _ _ _ _ _ (by omega) (by omega) (by omega) rfl ⟨h1, h2, h3, h4, h5⟩ ta tb (fun i hi => by have := hb i hi; omega) (fun hle n2 s2 sp2 oA2 oB2 fA2 fB2 sg2 hn2 hs2 esp2 m2 => ?_) (fun hex => ?_)
  · obtain ⟨m, rfl⟩ : ∃ m, n2 = m + 1 := ⟨n2 - 1, by omega⟩
    subst esp2
    exact br_f (nI_ge (b := 256) (by omega) (by decide)) (br_t (by decide) (K1 (fun i hi => by have := hle i hi; omega) _ _ _ _ _ _))
  · obtain ⟨i, hi, q⟩ := hex
    exact K0 ⟨i, hi, by omega⟩
end
end
section
/-! mark and sweep -/
section
variable {zS zM zF zG sc dp ce lm fr fc ct sp rp pl lo up : Int32} {L R B T mk lv ir er wc wh oA oB fA fB sg rN rC pa : Nat → Int32} {F : List Nat}
theorem nb_1 : vp_nar .boolean 1 = 1 := rfl
theorem nb_0 : vp_nar .boolean 0 = 0 := rfl
theorem nb_t : (1 : Int32) ≠ 0 := by decide
/-- how many below N are marked -/
def mk_ct (mk : Nat → Int32) : Nat → Nat
  | 0 => 0
  | n + 1 => mk_ct mk n + (if mk n = 0 then 0 else 1)
theorem mk_ct_lo (mk : Nat → Int32) (x : Nat) (v : Int32) : ∀ n, n ≤ x → mk_ct (upd mk x v) n = mk_ct mk n := by
  intro n
  induction n with
  | zero => intro _; rfl
  | succ n ih =>
    intro h
    unfold mk_ct
    rw [pk_un (show n ≠ x by omega), ih (by omega)]
theorem mk_ct_upd (mk : Nat → Int32) (x : Nat) (v : Int32) : ∀ n, mk_ct (upd mk x v) n ≤ mk_ct mk n + 1 := by
  intro n
  induction n with
  | zero => exact Nat.zero_le _
  | succ n ih =>
    unfold mk_ct
    by_cases e : n = x
    · subst e
      rw [mk_ct_lo mk n v n (Nat.le_refl _)]
      have : (if upd mk n v n = 0 then 0 else 1) ≤ 1 := by split <;> omega
      omega
    · rw [pk_un e]
      omega
theorem mk_ct_0 {mk : Nat → Int32} (h : ∀ i, 2 ≤ i → i < 2048 → mk i = 0) : ∀ n, n ≤ 2048 → mk_ct mk n ≤ 2 := by
  have h2 : mk_ct mk 2 ≤ 2 := by
    unfold mk_ct mk_ct mk_ct
    have a : (if mk 0 = 0 then 0 else 1) ≤ 1 := by split <;> omega
    have b : (if mk 1 = 0 then 0 else 1) ≤ 1 := by split <;> omega
    omega
  intro n
  induction n with
  | zero => intro _; exact Nat.zero_le _
  | succ n ih =>
    intro hn
    have := ih (by omega)
    by_cases c : n < 2
    · have hc : n = 0 ∨ n = 1 := by omega
      rcases hc with rfl | rfl
      · unfold mk_ct mk_ct
        have a : (if mk 0 = 0 then 0 else 1) ≤ 1 := by split <;> omega
        omega
      · exact h2
    · unfold mk_ct
      rw [if_pos (h n (by omega) (by omega))]
      omega
/-- marks closed under children, but for those in S -/
def mk_cl (L R mk : Nat → Int32) (S : List Nat) : Prop := ∀ x l r : Nat, x < 2048 → l < 2048 → r < 2048 → mk x ≠ 0 → L x = nI l → R x = nI r → (mk l ≠ 0 ∨ l ∈ S) ∧ (mk r ≠ 0 ∨ r ∈ S)
/-- mark's stack: the top first -/
def mk_st (L R B T : Nat → Int32) (F : List Nat) (oA : Nat → Int32) : List (Nat × Nat) → Prop
  | [] => True
  | p :: r => oA r.length = nI p.1 ∧ r.length + p.2 ≤ 4 ∧ (∃ f : Nat → Nat, tr_T L R B T F p.2 p.1 f) ∧ mk_st L R B T F oA r
theorem mk_st_ext {oA1 : Nat → Int32} : ∀ {st : List (Nat × Nat)}, (∀ i, i < st.length → oA1 i = oA i) → mk_st L R B T F oA st → mk_st L R B T F oA1 st := by
  intro st
  induction st with
  | nil => intro _ _; trivial
  | cons p r ih =>
    intro h m
    exact ⟨(h r.length (by simp)).trans m.1, m.2.1, m.2.2.1, ih (fun i hi => h i (by simp; omega)) m.2.2.2⟩
def mk_ms : List (Nat × Nat) → Nat
  | [] => 0
  | p :: r => 2 ^ (p.2 + 1) - 1 + mk_ms r
theorem zz_nm1 {l : Nat} (hl : l < 2048) (h : (-1 : Int32) = nI l) : False := by
  have h1 : ¬ nI l < 0 := nI_pos (zz_lt hl)
  rw [← h] at h1
  exact h1 (by decide)
theorem mk_lp {post : SX → Prop} : ∀ (n v : Nat) (st : List (Nat × Nat)) (mk oA : Nat → Int32), n + v = 65 → v + mk_ms st ≤ 64 → mk_st L R B T F oA st → mk_cl L R mk (st.map Prod.fst) →
    (∀ mk1 oA1 : Nat → Int32, mk_cl L R mk1 [] → (∀ i, mk i ≠ 0 → mk1 i ≠ 0) → (∀ p, p ∈ st → mk1 p.1 ≠ 0) → mk_ct mk1 2048 ≤ mk_ct mk 2048 + mk_ms st → post (zS, zM, zF, zG, sc, dp, ce, lm, fr, fc, ct, sp, rp, pl, lo, up, L, R, B, T, mk1, lv, ir, er, wc, wh, oA1, oB, fA, fB, sg, rN, rC, pa)) →
    wX_mark_11 post zS zM zF zG sc dp ce lm fr fc ct sp rp pl lo up n (nI st.length) (nI v) L R B T mk lv ir er wc wh oA oB fA fB sg rN rC pa := by
  intro n
  induction n with
  | zero => intro v st mk oA hn hv _ _ _; omega
  | succ n ih =>
    intro v st mk oA hn hv hst hcl K
    cases st with
    | nil =>
      have fin := K mk oA hcl (fun i h => h) (fun p hp => absurd hp (List.not_mem_nil)) (by omega)
      exact br_c (fun _ => fin) (fun _ => br_t (by decide) fin)
    | cons p r =>
      obtain ⟨x, d⟩ := p
      obtain ⟨h1, h2, ⟨f, t⟩, h3⟩ := hst
      (try dsimp only at h1 h2 t)
      have hp : 2 ≤ 2 ^ (d + 1) := by have := zz_2s d; have := zz_2p d; omega
      have hms : mk_ms ((x, d) :: r) = 2 ^ (d + 1) - 1 + mk_ms r := rfl
      have nx := tr_nd_of t
      have hin : vp_in (nI x) 2048 := vp_in_nI nx.1 (by decide)
      have hir : vp_in (nI r.length) 32 := vp_in_nI (by omega) (by decide)
      have us : ∀ i, mk i ≠ 0 → upd mk x 1 i ≠ 0 := by
        intro i h
        by_cases e : i = x
        · subst e; rw [pk_us]; exact nb_t
        · rw [pk_un e]; exact h
      have hcu := mk_ct_upd mk x 1 2048
      -- the case without children
      have plain : (mk x ≠ 0 ∨ L x = -1) → wX_mark_57 post (wX_mark_11 post zS zM zF zG sc dp ce lm fr fc ct sp rp pl lo up n) (nI r.length) (nI v) (nI x) 0 zS zM zF zG sc dp ce lm fr fc ct sp rp pl lo up L R B T mk lv ir er wc wh oA oB fA fB sg rN rC pa := by
        intro hx
        unfold wX_mark_57
        rw [nI_clamp (zz_lt nx.1), nb_1]
        refine ⟨hin, nm_e (br_t rfl (nm_r (nI_1 v) (ih (v + 1) r (upd mk x 1) oA (by omega) (by omega) h3 ?_ ?_)))⟩
        · intro y l q hy hl hq my eL eR
          have old : mk y ≠ 0 → (upd mk x 1 l ≠ 0 ∨ l ∈ r.map Prod.fst) ∧ (upd mk x 1 q ≠ 0 ∨ q ∈ r.map Prod.fst) := by
            intro my
            have z := hcl y l q hy hl hq my eL eR
            have aux : ∀ w, (mk w ≠ 0 ∨ w ∈ (((x, d) :: r).map Prod.fst)) → (upd mk x 1 w ≠ 0 ∨ w ∈ r.map Prod.fst) := by
              intro w hw
              rcases hw with hw | hw
              · exact Or.inl (us w hw)
              · rcases List.mem_cons.1 hw with e | e
                · refine Or.inl ?_
                  rw [show w = x from e, pk_us]; exact nb_t
                · exact Or.inr e
            exact ⟨aux l z.1, aux q z.2⟩
          by_cases e : y = x
          · subst e
            rcases hx with hx | hx
            · exact old hx
            · exact (zz_nm1 hl (hx ▸ eL)).elim
          · rw [pk_un e] at my; exact old my
        · intro mk1 oA1 a1 a2 a3 a4
          refine K mk1 oA1 a1 (fun i h => a2 i (us i h)) (fun p hp => ?_) (by omega)
          rcases List.mem_cons.1 hp with e | e
          · subst e
            exact a2 x (by rw [pk_us]; exact nb_t)
          · exact a3 p e
      refine br_f (nI_ge (b := 64) (by omega) (by decide)) (br_f (nI_nle (by simp) (by simp; omega)) (nm_r (e' := nI r.length) (pk_m1 r.length) ⟨hir, ?_⟩))
      rw [nI_clamp (show r.length < 2 ^ 31 by omega), h1]
      refine nm_e ⟨hin, ?_⟩
      rw [nI_clamp (zz_lt nx.1)]
      refine br_c (fun m0 => ⟨hin, ?_⟩) (fun m0 => plain (Or.inl m0))
      rcases tr_cs t with ⟨a, b⟩ | ⟨e, l, q, he, g1, g2, g3, g4, g5, g6⟩
      · rw [b.1]
        exact br_t (by decide) (plain (Or.inr b.1))
      · subst he
        have hz := zz_2s (e + 1)
        have hz' := zz_2s e
        have hp' := zz_2p e
        have hL := tr_lt g5
        have hR := tr_lt g6
        rw [g3]
        refine br_f (nI_pos (zz_lt hL)) ?_
        unfold wX_mark_57
        have hir1 : vp_in (nI (r.length + 1)) 32 := vp_in_nI (by omega) (by decide)
        have e2 : nI r.length + 2 = nI (r.length + 2) := nI_add r.length 2
        rw [nI_clamp (zz_lt nx.1), nb_1, nI_1 r.length, nI_clamp (show r.length < 2 ^ 31 by omega), nI_clamp (show r.length + 1 < 2 ^ 31 by omega), g3, g4, e2]
        refine ⟨hin, nm_e (br_f (by decide) ⟨hin, hir, nm_e ⟨hin, hir1, nm_e (nm_e (nm_r (nI_1 v) ?_))⟩⟩)⟩
        have ne : r.length ≠ r.length + 1 := by omega
        refine ih (v + 1) ((q, e) :: (l, e) :: r) (upd mk x 1) _ (by omega) ?_ ⟨pk_us, ?_, ⟨_, g6⟩, ⟨?_, ?_, ⟨_, g5⟩, ?_⟩⟩ ?_ ?_
        · show v + 1 + (2 ^ (e + 1) - 1 + (2 ^ (e + 1) - 1 + mk_ms r)) ≤ 64
          omega
        · show r.length + 1 + e ≤ 4
          omega
        · show upd (upd oA r.length (nI l)) (r.length + 1) (nI q) r.length = nI l
          rw [pk_un ne, pk_us]
        · show r.length + e ≤ 4
          omega
        · exact mk_st_ext (fun i hi => by rw [pk_un (by omega), pk_un (by omega)]) h3
        · intro y l' q' hy hl hq my eL eR
          have aux : ∀ w, (mk w ≠ 0 ∨ w ∈ (((x, e + 1) :: r).map Prod.fst)) → (upd mk x 1 w ≠ 0 ∨ w ∈ ((q, e) :: (l, e) :: r).map Prod.fst) := by
            intro w hw
            rcases hw with hw | hw
            · exact Or.inl (us w hw)
            · rcases List.mem_cons.1 hw with z | z
              · refine Or.inl ?_
                rw [show w = x from z, pk_us]; exact nb_t
              · exact Or.inr (List.mem_cons_of_mem _ (List.mem_cons_of_mem _ z))
          by_cases c : y = x
          · subst c
            have e1 : l' = l := (nI_eq (zz_lt hl) (zz_lt hL)).1 (eL.symm.trans g3)
            have e3 : q' = q := (nI_eq (zz_lt hq) (zz_lt hR)).1 (eR.symm.trans g4)
            subst e1 e3
            exact ⟨Or.inr (List.mem_cons_of_mem _ (List.mem_cons_self)), Or.inr (List.mem_cons_self)⟩
          · rw [pk_un c] at my
            have z := hcl y l' q' hy hl hq my eL eR
            exact ⟨aux l' z.1, aux q' z.2⟩
        · intro mk1 oA1 a1 a2 a3 a4
          have a4' : mk_ct mk1 2048 ≤ mk_ct (upd mk x 1) 2048 + (2 ^ (e + 1) - 1 + (2 ^ (e + 1) - 1 + mk_ms r)) := a4
          refine K mk1 oA1 a1 (fun i h => a2 i (us i h)) (fun p hp => ?_) (by omega)
          rcases List.mem_cons.1 hp with z | z
          · subst z
            exact a2 x (by rw [pk_us]; exact nb_t)
          · exact a3 p (List.mem_cons_of_mem _ (List.mem_cons_of_mem _ z))
theorem mk_wp {post : SX → Prop} {d x : Nat} {f : Nat → Nat} (hd : d ≤ 4) (t : tr_T L R B T F d x f) (hcl : mk_cl L R mk [])
    (K : ∀ mk1 oA1 : Nat → Int32, mk_cl L R mk1 [] → (∀ i, mk i ≠ 0 → mk1 i ≠ 0) → mk1 x ≠ 0 → mk_ct mk1 2048 ≤ mk_ct mk 2048 + 31 → post (zS, zM, zF, zG, sc, dp, ce, lm, fr, fc, ct, sp, rp, pl, lo, up, L, R, B, T, mk1, lv, ir, er, wc, wh, oA1, oB, fA, fB, sg, rN, rC, pa)) : wpX_mark post (zS, zM, zF, zG, sc, dp, ce, lm, fr, fc, ct, sp, rp, pl, lo, up, L, R, B, T, mk, lv, ir, er, wc, wh, oA, oB, fA, fB, sg, rN, rC, pa) (nI x) := by
  have h16 := zz_d4 hd
  have hz := zz_2s d
  unfold wpX_mark
  (try dsimp only)
  refine nm_e ⟨65, mk_lp 65 0 [(x, d)] mk _ (by omega) ?_ ⟨pk_us, ?_, ⟨f, t⟩, trivial⟩ ?_ ?_⟩
  · show 0 + (2 ^ (d + 1) - 1 + 0) ≤ 64
    omega
  · show 0 + d ≤ 4
    omega
  · intro y l q hy hl hq my eL eR
    have z := hcl y l q hy hl hq my eL eR
    exact ⟨z.1.imp id (fun h => absurd h (List.not_mem_nil)), z.2.imp id (fun h => absurd h (List.not_mem_nil))⟩
  · intro mk1 oA1 a1 a2 a3 a4
    have a4' : mk_ct mk1 2048 ≤ mk_ct mk 2048 + (2 ^ (d + 1) - 1 + 0) := a4
    exact K mk1 oA1 a1 a2 (a3 (x, d) (List.mem_cons_self)) (by omega)
/-- the sweep -/
theorem sw_lp {post : SX → Prop} (hm0 : mk 0 ≠ 0) (hm1 : mk 1 ≠ 0) (L0 : Nat → Int32) : ∀ (c n : Nat) (fr fc : Int32) (L : Nat → Int32) (F : List Nat), c + 1 < 2048 → c + 1 < n → hp_fl L fr F → fc = nI F.length →
    F.length + mk_ct mk 2048 + (c + 1) = 2047 + mk_ct mk (c + 2) → (∀ y, y ∈ F → c + 1 < y ∧ mk y = 0) → (∀ y, y ∉ F → L y = L0 y) →
    (∀ (fr1 fc1 : Int32) (L1 : Nat → Int32) (F1 : List Nat), hp_fl L1 fr1 F1 → fc1 = nI F1.length → F1.length + mk_ct mk 2048 + 1 = 2047 + mk_ct mk 2 → (∀ y, y ∈ F1 → mk y = 0) → (∀ y, y ∉ F1 → L1 y = L0 y) → post (zS, zM, zF, zG, sc, dp, ce, lm, fr1, fc1, ct, sp, rp, pl, lo, up, L1, R, B, T, mk, lv, ir, er, wc, wh, oA, oB, fA, fB, sg, rN, rC, pa)) →
    wX_collect_90 post zS zM zF zG sc dp ce lm ct sp rp pl lo up n (nI (c + 1)) fr fc L R B T mk lv ir er wc wh oA oB fA fB sg rN rC pa := by
  intro c
  induction c with
  | zero =>
    intro n fr fc L F hc hn hfl efc hct hF hL K
    obtain ⟨m, rfl⟩ : ∃ m, n = m + 1 := ⟨n - 1, by omega⟩
    exact br_t (by decide) (K fr fc L F hfl efc hct (fun y hy => (hF y hy).2) hL)
  | succ c ih =>
    intro n fr fc L F hc hn hfl efc hct hF hL K
    obtain ⟨m, rfl⟩ : ∃ m, n = m + 1 := ⟨n - 1, by omega⟩
    have hin : vp_in (nI (c + 1 + 1)) 2048 := vp_in_nI (by omega) (by decide)
    have hcs : mk_ct mk (c + 1 + 2) = mk_ct mk (c + 2) + (if mk (c + 2) = 0 then 0 else 1) := rfl
    have nF : c + 1 + 1 ∉ F := fun h => by have := (hF _ h).1; omega
    refine br_f (nI_nlt (b := 2) (by omega) (by omega)) ⟨hin, ?_⟩
    rw [nI_clamp (show c + 1 + 1 < 2 ^ 31 by omega)]
    refine br_c (fun h => ⟨hin, nm_e (nm_r (e' := nI (F.length + 1)) (by rw [efc, nI_1]) (nm_r (e' := nI (c + 1)) (pk_m1 (c + 1)) ?_))⟩) (fun h => nm_r (e' := nI (c + 1)) (pk_m1 (c + 1)) ?_)
    · rw [if_pos h] at hcs
      refine ih m _ _ _ ((c + 2) :: F) (by omega) (by omega) ⟨rfl, by omega, by omega, nF, ?_⟩ rfl ?_ ?_ ?_ K
      · rw [pk_us]
        exact hp_fl_ext (fun y hy => pk_un (fun e => nF (e ▸ hy))) hfl
      · rw [List.length_cons]; omega
      · intro y hy
        rcases List.mem_cons.1 hy with e | e
        · subst e; exact ⟨by omega, h⟩
        · have := hF y e; exact ⟨by omega, this.2⟩
      · intro y hy
        rw [pk_un (fun e => hy (by rw [e]; exact List.mem_cons_self))]
        exact hL y (fun z => hy (List.mem_cons_of_mem _ z))
    · rw [if_neg h] at hcs
      refine ih m _ _ _ F (by omega) (by omega) hfl efc (by omega) (fun y hy => ⟨by have := (hF y hy).1; omega, (hF y hy).2⟩) hL K
/-- a tree whose nodes are all marked lives on -/
theorem tr_gc {L1 : Nat → Int32} {F1 : List Nat} (hcl : mk_cl L R mk []) (h1 : ∀ y, y ∈ F1 → mk y = 0) (h2 : ∀ y, y ∉ F1 → L1 y = L y) : ∀ {d x : Nat} {f : Nat → Nat}, mk x ≠ 0 → tr_T L R B T F d x f → tr_T L1 R B T F1 d x f := by
  intro d
  induction d with
  | zero =>
    intro x f m t
    have nF : x ∉ F1 := fun h => m (h1 x h)
    exact ⟨⟨t.1.1, nF, t.1.2.2⟩, (h2 x nF).trans t.2.1, t.2.2⟩
  | succ d ih =>
    intro x f m t
    have nF : x ∉ F1 := fun h => m (h1 x h)
    refine ⟨⟨t.1.1, nF, t.1.2.2⟩, ?_⟩
    rcases t.2 with ⟨a, b⟩ | ⟨g1, g2, l, r, g3, g4, g5, g6⟩
    · exact Or.inl ⟨a, (h2 x nF).trans b.1, b.2⟩
    · have z := hcl x l r t.1.1 (tr_lt g5) (tr_lt g6) m g3 g4
      refine Or.inr ⟨g1, g2, l, r, (h2 x nF).trans g3, g4, ih (z.1.resolve_right (List.not_mem_nil)) g5, ih (z.2.resolve_right (List.not_mem_nil)) g6⟩
/-- the live roots are trees of depth d -/
def rt_ok (L R B T : Nat → Int32) (F : List Nat) (n d : Nat) (lv ir er : Nat → Int32) : Prop :=
  ∀ s, s < n → lv s ≠ 0 → (∃ (x : Nat) (f : Nat → Nat), ir s = nI x ∧ tr_T L R B T F d x f) ∧ (∃ (x : Nat) (f : Nat → Nat), er s = nI x ∧ tr_T L R B T F d x f)
def rt_kp (L R B T : Nat → Int32) (F : List Nat) (L1 R1 B1 T1 : Nat → Int32) (F1 : List Nat) (n d : Nat) (lv ir er : Nat → Int32) : Prop :=
  ∀ (s x : Nat) (f : Nat → Nat), s < n → lv s ≠ 0 → (ir s = nI x ∨ er s = nI x) → tr_T L R B T F d x f → tr_T L1 R1 B1 T1 F1 d x f
theorem ml_lp {post : SX → Prop} {N d : Nat} (hN : N ≤ 6) (hd : d ≤ 4) (esc : sc = nI N) (hr : rt_ok L R B T F N d lv ir er) : ∀ (n s : Nat) (mk oA : Nat → Int32), n + s = N + 1 → s ≤ N → mk_cl L R mk [] →
    (∀ t x, t < s → lv t ≠ 0 → (ir t = nI x ∨ er t = nI x) → x < 2048 → mk x ≠ 0) → mk_ct mk 2048 ≤ 2 + 62 * s → mk 0 ≠ 0 → mk 1 ≠ 0 →
    (∀ mk1 oA1 : Nat → Int32, mk_cl L R mk1 [] → (∀ t x, t < N → lv t ≠ 0 → (ir t = nI x ∨ er t = nI x) → x < 2048 → mk1 x ≠ 0) → mk_ct mk1 2048 ≤ 374 → mk1 0 ≠ 0 → mk1 1 ≠ 0 →
      ∃ n90 : Nat, wX_collect_90 post zS zM zF zG sc dp ce lm ct sp rp pl lo up n90 2047 0 0 L R B T mk1 lv ir er wc wh oA1 oB fA fB sg rN rC pa) →
    wX_collect_33 post n (nI s) zS zM zF zG sc dp ce lm fr fc ct sp rp pl lo up L R B T mk lv ir er wc wh oA oB fA fB sg rN rC pa := by
  intro n
  induction n with
  | zero => intro s mk oA hn hs; omega
  | succ n ih =>
    intro s mk oA hn hs hcl hm hct h0 h1 K
    subst esc
    by_cases c : s < N
    · have hin : vp_in (nI s) 6 := vp_in_nI (by omega) (by decide)
      refine br_f (nI_ge c (by omega)) ⟨hin, ?_⟩
      rw [nI_clamp (show s < 2 ^ 31 by omega)]
      refine br_c (fun z => nm_r (nI_1 s) (ih (s + 1) mk oA (by omega) (by omega) hcl (fun t x ht hl hx hx2 => ?_) (by omega) h0 h1 K)) (fun z => ⟨hin, ?_⟩)
      · by_cases e : t = s
        · subst e; exact absurd z hl
        · exact hm t x (by omega) hl hx hx2
      · obtain ⟨⟨x, fx, ex, tx⟩, ⟨y, fy, ey, ty⟩⟩ := hr s c z
        rw [ex]
        refine mk_wp hd tx hcl (fun mk1 oA1 a1 a2 a3 a4 => ⟨hin, ?_⟩)
        (try dsimp only)
        rw [ey]
        refine mk_wp hd ty a1 (fun mk2 oA2 b1 b2 b3 b4 => nm_r (nI_1 s) (ih (s + 1) mk2 oA2 (by omega) (by omega) b1 (fun t w ht hl hw hw2 => ?_) (by omega) (b2 _ (a2 _ h0)) (b2 _ (a2 _ h1)) K))
        by_cases e : t = s
        · subst e
          rcases hw with hw | hw
          · have : w = x := (nI_eq (zz_lt hw2) (zz_lt (tr_lt tx))).1 (hw.symm.trans ex)
            subst this; exact b2 _ a3
          · have : w = y := (nI_eq (zz_lt hw2) (zz_lt (tr_lt ty))).1 (hw.symm.trans ey)
            subst this; exact b3
        · exact b2 _ (a2 _ (hm t w (by omega) hl hw hw2))
    · have e : s = N := by omega
      subst e
      exact br_t (nI_le (Nat.le_refl _) (by omega)) (K mk oA hcl hm (by omega) h0 h1)
theorem cl_lp {post : SX → Prop} : ∀ (n c : Nat) (mk : Nat → Int32), n + c = 2049 → c ≤ 2048 → (∀ i, i < c → mk i = if i < 2 then 1 else 0) →
    (∀ mk1 : Nat → Int32, (∀ i, i < 2048 → mk1 i = if i < 2 then 1 else 0) → ∃ n33 : Nat, wX_collect_33 post n33 0 zS zM zF zG sc dp ce lm fr fc ct sp rp pl lo up L R B T mk1 lv ir er wc wh oA oB fA fB sg rN rC pa) → wX_collect_2 post zS zM zF zG sc dp ce lm fr fc ct sp rp pl lo up n (nI c) L R B T mk lv ir er wc wh oA oB fA fB sg rN rC pa := by
  intro n
  induction n with
  | zero => intro c mk hn hc; omega
  | succ n ih =>
    intro c mk hn hc hm K
    by_cases h : c < 2048
    · have hin : vp_in (nI c) 2048 := vp_in_nI h (by decide)
      refine br_f (nI_ge (b := 2048) h (by decide)) ?_
      rw [nI_clamp (show c < 2 ^ 31 by omega)]
      refine pk_le 2 c (fun g => ⟨hin, nm_e (nm_r (nI_1 c) (ih (c + 1) _ (by omega) (by omega) (fun i hi => ?_) K))⟩) (fun g => ⟨hin, nm_e (nm_r (nI_1 c) (ih (c + 1) _ (by omega) (by omega) (fun i hi => ?_) K))⟩) rfl rfl (by decide) (by omega)
      · by_cases e : i = c
        · subst e; rw [pk_us, if_neg (by omega)]; rfl
        · rw [pk_un e]; exact hm i (by omega)
      · by_cases e : i = c
        · subst e; rw [pk_us, if_pos (by omega)]; rfl
        · rw [pk_un e]; exact hm i (by omega)
    · have e : c = 2048 := by omega
      subst e
      exact br_t (by decide) (K mk hm)
theorem gc_run {post : SX → Prop} {N d : Nat} (hN : N ≤ 6) (hd : d ≤ 4) (esc : sc = nI N) (hl0 : L 0 = -1 ∧ B 0 = nI 0 ∧ T 0 = nI 0) (hl1 : L 1 = -1 ∧ B 1 = nI 1 ∧ T 1 = nI 1) (hr : rt_ok L R B T F N d lv ir er)
    (K : ∀ (fr1 fc1 : Int32) (L1 mk1 oA1 : Nat → Int32) (F1 : List Nat), hp_I fr1 fc1 L1 R B T F1 → 1024 ≤ F1.length → rt_kp L R B T F L1 R B T F1 N d lv ir er → post (zS, zM, zF, zG, sc, dp, ce, lm, fr1, fc1, ct, sp, rp, pl, lo, up, L1, R, B, T, mk1, lv, ir, er, wc, wh, oA1, oB, fA, fB, sg, rN, rC, pa)) : wpX_collect post (zS, zM, zF, zG, sc, dp, ce, lm, fr, fc, ct, sp, rp, pl, lo, up, L, R, B, T, mk, lv, ir, er, wc, wh, oA, oB, fA, fB, sg, rN, rC, pa) := by
  unfold wpX_collect
  (try dsimp only)
  refine ⟨2049, cl_lp 2049 0 mk (by omega) (by omega) (fun i hi => by omega) (fun mk1 hm1 => ⟨N + 1, ?_⟩)⟩
  have z0 : mk1 0 ≠ 0 := by rw [hm1 0 (by decide)]; decide
  have z1 : mk1 1 ≠ 0 := by rw [hm1 1 (by decide)]; decide
  refine ml_lp hN hd esc hr (N + 1) 0 mk1 oA (by omega) (by omega) ?_ (fun t x ht => by omega) (mk_ct_0 (fun i h2 hi => by rw [hm1 i hi, if_neg (by omega)]) 2048 (Nat.le_refl _)) z0 z1 (fun mk2 oA2 a1 a2 a3 a4 a5 => ⟨2049, ?_⟩)
  · intro x l r hx hl hr' m eL eR
    rw [hm1 x hx] at m
    by_cases c : x < 2
    · have hc : x = 0 ∨ x = 1 := by omega
      rcases hc with rfl | rfl
      · exact (zz_nm1 hl (hl0.1 ▸ eL)).elim
      · exact (zz_nm1 hl (hl1.1 ▸ eL)).elim
    · rw [if_neg c] at m; exact absurd rfl m
  · refine sw_lp a4 a5 L 2046 2049 0 0 L [] (by decide) (by decide) rfl rfl ?_ (fun y hy => absurd hy (List.not_mem_nil)) (fun y _ => rfl) (fun fr1 fc1 L1 F1 b1 b2 b3 b4 b5 => ?_)
    · show 0 + mk_ct mk2 2048 + 2047 = 2047 + mk_ct mk2 2048
      omega
    · have c2 : mk_ct mk2 2 ≤ 2 := by
        unfold mk_ct mk_ct mk_ct
        have a : (if mk2 0 = 0 then 0 else 1) ≤ 1 := by split <;> omega
        have b : (if mk2 1 = 0 then 0 else 1) ≤ 1 := by split <;> omega
        omega
      have n0 : 0 ∉ F1 := fun h => a4 (b4 0 h)
      have n1 : 1 ∉ F1 := fun h => a5 (b4 1 h)
      have c3 : mk_ct mk2 2 = 2 := by
        unfold mk_ct mk_ct mk_ct
        rw [if_neg a4, if_neg a5]
      refine K fr1 fc1 L1 mk2 oA2 F1 ⟨b1, b2, ?_, ?_, ?_⟩ (by omega) ?_
      · have : mk_ct mk2 2 ≤ mk_ct mk2 2048 := by
          have mono : ∀ k, mk_ct mk2 2 ≤ mk_ct mk2 (2 + k) := by
            intro k
            induction k with
            | zero => exact Nat.le_refl _
            | succ k ih => exact Nat.le_trans ih (Nat.le_add_right _ _)
          exact mono 2046
        omega
      · rw [b5 0 n0]; exact hl0
      · rw [b5 1 n1]; exact hl1
      · intro s x f hs hl hx t
        exact tr_gc a1 b4 b5 (a2 s x hs hl hx (tr_lt t)) t
theorem er_run {post : SX → Prop} {N d : Nat} (hN : N ≤ 6) (hd : d ≤ 4) (esc : sc = nI N) (hi : hp_I fr fc L R B T F) (hr : rt_ok L R B T F N d lv ir er)
    (K : ∀ (F1 : List Nat) (fr1 fc1 : Int32) (L1 R1 B1 T1 : Nat → Int32) (mk1 oA1 : Nat → Int32), hp_I fr1 fc1 L1 R1 B1 T1 F1 → 1024 ≤ F1.length → rt_kp L R B T F L1 R1 B1 T1 F1 N d lv ir er → post (zS, zM, zF, zG, sc, dp, ce, lm, fr1, fc1, ct, sp, rp, pl, lo, up, L1, R1, B1, T1, mk1, lv, ir, er, wc, wh, oA1, oB, fA, fB, sg, rN, rC, pa)) : wpX_ensureRoom post (zS, zM, zF, zG, sc, dp, ce, lm, fr, fc, ct, sp, rp, pl, lo, up, L, R, B, T, mk, lv, ir, er, wc, wh, oA, oB, fA, fB, sg, rN, rC, pa) := by
  unfold wpX_ensureRoom
  (try dsimp only)
  obtain ⟨i1, i2, i3, i4, i5⟩ := hi
  refine pk_le 1024 F.length (fun h => K F _ _ _ _ _ _ _ _ ⟨i1, i2, i3, i4, i5⟩ h (fun s x f _ _ _ t => t)) (fun h => ?_) rfl i2 (by decide) (by omega)
  exact gc_run hN hd esc i4 i5 hr (fun fr1 fc1 L1 mk1 oA1 F1 a b c => K F1 _ _ _ _ _ _ _ _ a b c)
end
end
section
/-! splitting identities -/
section
variable {zS zM zF zG sc dp ce lm fr fc ct sp rp pl lo up : Int32} {L R B T mk lv ir er wc wh oA oB fA fB sg rN rC pa : Nat → Int32} {F : List Nat}
/-- gl, gu: the lower and the upper part of f, cut in the middle of the smallest block with all of f -/
def sq_S (d : Nat) (f gl gu : Nat → Nat) : Prop := ∃ e st : Nat, e + 1 ≤ d ∧ 2 ^ (e + 1) ∣ st ∧ st + 2 ^ (e + 1) ≤ 2 ^ d ∧
  (∀ i, i < 2 ^ d → f i ≠ 0 → st ≤ i ∧ i < st + 2 ^ (e + 1)) ∧ (∃ i, st ≤ i ∧ i < st + 2 ^ e ∧ f i ≠ 0) ∧ (∃ i, st + 2 ^ e ≤ i ∧ i < st + 2 ^ (e + 1) ∧ f i ≠ 0) ∧
  (∀ i, i < 2 ^ d → gl i = if i < st + 2 ^ e then f i else 0) ∧ (∀ i, i < 2 ^ d → gu i = if i < st + 2 ^ e then 0 else f i)
theorem sq_base {e : Nat} {f gl gu : Nat → Nat} (h1 : ∃ j, j < 2 ^ e ∧ f j ≠ 0) (h2 : ∃ j, j < 2 ^ e ∧ f (2 ^ e + j) ≠ 0)
    (a1 : ∀ j, j < 2 ^ e → gl j = f j) (a2 : ∀ j, j < 2 ^ e → gl (2 ^ e + j) = 0) (b1 : ∀ j, j < 2 ^ e → gu j = 0) (b2 : ∀ j, j < 2 ^ e → gu (2 ^ e + j) = f (2 ^ e + j)) : sq_S (e + 1) f gl gu := by
  have hz := zz_2s e
  refine ⟨e, 0, Nat.le_refl _, Nat.dvd_zero _, by omega, fun i hi _ => ⟨Nat.zero_le _, by omega⟩, ?_, ?_, tr_halves (fun i hi => ?_) (fun i hi => ?_), tr_halves (fun i hi => ?_) (fun i hi => ?_)⟩
  · obtain ⟨j, hj, q⟩ := h1
    exact ⟨j, Nat.zero_le _, by omega, q⟩
  · obtain ⟨j, hj, q⟩ := h2
    exact ⟨2 ^ e + j, by omega, by omega, q⟩
  · rw [if_pos (by omega)]; exact a1 i hi
  · rw [if_neg (by omega)]; exact a2 i hi
  · rw [if_pos (by omega)]; exact b1 i hi
  · rw [if_neg (by omega)]; exact b2 i hi
theorem sq_lo {d : Nat} {f gl gu g1 g2 : Nat → Nat} (h : sq_S d f gl gu) (hf : ∀ j, j < 2 ^ d → f (2 ^ d + j) = 0) (a1 : ∀ j, j < 2 ^ d → g1 j = gl j) (a2 : ∀ j, j < 2 ^ d → g1 (2 ^ d + j) = 0)
    (b1 : ∀ j, j < 2 ^ d → g2 j = gu j) (b2 : ∀ j, j < 2 ^ d → g2 (2 ^ d + j) = 0) : sq_S (d + 1) f g1 g2 := by
  have hz := zz_2s d
  obtain ⟨e, st, h1, h2, h3, h4, h5, h6, h7, h8⟩ := h
  have hy := zz_2s e
  refine ⟨e, st, by omega, h2, by omega, tr_halves (fun i hi => h4 i hi) (fun i hi q => absurd (hf i hi) q), h5, h6, tr_halves (fun i hi => ?_) (fun i hi => ?_), tr_halves (fun i hi => ?_) (fun i hi => ?_)⟩
  · rw [a1 i hi]; exact h7 i hi
  · rw [a2 i hi, hf i hi]; split <;> rfl
  · rw [b1 i hi]; exact h8 i hi
  · rw [b2 i hi, hf i hi]; split <;> rfl
theorem sq_hi {d : Nat} {f gl gu g1 g2 : Nat → Nat} (h : sq_S d (fun j => f (2 ^ d + j)) gl gu) (hf : ∀ j, j < 2 ^ d → f j = 0) (a1 : ∀ j, j < 2 ^ d → g1 j = 0) (a2 : ∀ j, j < 2 ^ d → g1 (2 ^ d + j) = gl j)
    (b1 : ∀ j, j < 2 ^ d → g2 j = 0) (b2 : ∀ j, j < 2 ^ d → g2 (2 ^ d + j) = gu j) : sq_S (d + 1) f g1 g2 := by
  have hz := zz_2s d
  obtain ⟨e, st, h1, h2, h3, h4, h5, h6, h7, h8⟩ := h
  have hy := zz_2s e
  refine ⟨e, 2 ^ d + st, by omega, Nat.dvd_add (Nat.pow_dvd_pow 2 h1) h2, by omega, tr_halves (fun i hi q => absurd (hf i hi) q) (fun i hi q => ?_), ?_, ?_, tr_halves (fun i hi => ?_) (fun i hi => ?_), tr_halves (fun i hi => ?_) (fun i hi => ?_)⟩
  · have := h4 i hi q; omega
  · obtain ⟨j, c1, c2, q⟩ := h5
    exact ⟨2 ^ d + j, by omega, by omega, q⟩
  · obtain ⟨j, c1, c2, q⟩ := h6
    exact ⟨2 ^ d + j, by omega, by omega, q⟩
  · rw [a1 i hi, hf i hi]; split <;> rfl
  · rw [a2 i hi, h7 i hi]
    by_cases c : i < st + 2 ^ e
    · rw [if_pos c, if_pos (by omega)]
    · rw [if_neg c, if_neg (by omega)]
  · rw [b1 i hi, hf i hi]; split <;> rfl
  · rw [b2 i hi, h8 i hi]
    by_cases c : i < st + 2 ^ e
    · rw [if_pos c, if_pos (by omega)]
    · rw [if_neg c, if_neg (by omega)]
/-- the way down: from level i, depth e, with the owned cells f, to the bottom y at level p, depth ey, with fy -/
def sp_R (L R B T : Nat → Int32) (F : List Nat) (pa : Nat → Int32) (p y ey : Nat) (fy : Nat → Nat) : Nat → Nat → (Nat → Nat) → Prop
  | 0, i, f => i = p ∧ ey = 0 ∧ f = fy ∧ tr_T L R B T F 0 y f
  | e + 1, i, f => (i = p ∧ ey = e + 1 ∧ f = fy ∧ tr_T L R B T F (e + 1) y f ∧ (∃ j, j < 2 ^ e ∧ f j ≠ 0) ∧ (∃ j, j < 2 ^ e ∧ f (2 ^ e + j) ≠ 0)) ∨
      (∃ x : Nat, pa i = nI x ∧ x < 2048 ∧ x ∉ F ∧
        ((L x = nI 0 ∧ (∀ j, j < 2 ^ e → f j = 0) ∧ sp_R L R B T F pa p y ey fy e (i + 1) (fun j => f (2 ^ e + j))) ∨
         (∃ l : Nat, 1 ≤ l ∧ l < 2048 ∧ L x = nI l ∧ (∀ j, j < 2 ^ e → f (2 ^ e + j) = 0) ∧ sp_R L R B T F pa p y ey fy e (i + 1) f)))
theorem sp_lp {post : Int32 → SX → Prop} {d : Nat} (hd : d ≤ 4) (edp : dp = nI d) : ∀ (e i x n : Nat) (f : Nat → Nat) (pl : Int32) (pa : Nat → Int32), i + e = d → tr_T L R B T F e x f → (∀ j, j < 2 ^ e → f j ≤ 1) → tr_mx e f ≠ 0 → pl = nI i → e < n →
    (∀ (p y ey : Nat) (fy : Nat → Nat) (pa1 : Nat → Int32), p + ey = d → i ≤ p → (∀ j, j < i → pa1 j = pa j) → sp_R L R B T F pa1 p y ey fy e i f → y < 2048 → post (nI y) (zS, zM, zF, zG, sc, dp, ce, lm, fr, fc, ct, sp, rp, nI p, lo, up, L, R, B, T, mk, lv, ir, er, wc, wh, oA, oB, fA, fB, sg, rN, rC, pa1)) →
    wX_splitPoint_9 post zS zM zF zG sc dp ce lm fr fc ct sp rp lo up n (nI x) (nI i) pl L R B T mk lv ir er wc wh oA oB fA fB sg rN rC pa := by
  intro e
  induction e with
  | zero =>
    intro i x n f pl pa hi t ho hm epl hn K
    obtain ⟨m, rfl⟩ : ∃ m, n = m + 1 := ⟨n - 1, by omega⟩
    subst edp epl
    refine br_t (nI_le (by omega) (by omega)) (K i x 0 f pa hi (Nat.le_refl _) (fun j hj => rfl) ⟨rfl, rfl, rfl, t⟩ (tr_lt t))
  | succ e ih =>
    intro i x n f pl pa hi t ho hm epl hn K
    obtain ⟨m, rfl⟩ : ∃ m, n = m + 1 := ⟨n - 1, by omega⟩
    subst edp epl
    have hz := zz_2s e
    have hp := zz_2p e
    have nx := tr_nd_of t
    have hin : vp_in (nI x) 2048 := vp_in_nI nx.1 (by decide)
    have hip : vp_in (nI i) 8 := vp_in_nI (by omega) (by decide)
    have stop : (∃ j, j < 2 ^ e ∧ f j ≠ 0) → (∃ j, j < 2 ^ e ∧ f (2 ^ e + j) ≠ 0) → post (nI x) (zS, zM, zF, zG, sc, nI d, ce, lm, fr, fc, ct, sp, rp, nI i, lo, up, L, R, B, T, mk, lv, ir, er, wc, wh, oA, oB, fA, fB, sg, rN, rC, pa) := fun h1 h2 => K i x (e + 1) f pa hi (Nat.le_refl _) (fun j hj => rfl) (Or.inl ⟨rfl, rfl, rfl, t, h1, h2⟩) nx.1
    refine br_f (nI_ge (by omega) (by omega)) ⟨hin, ?_⟩
    rw [nI_clamp (zz_lt nx.1)]
    rcases tr_cs t with ⟨a, b⟩ | ⟨e', l, r, he, g1, g2, g3, g4, g5, g6⟩
    · rw [b.1]
      refine br_t (by decide) (stop ⟨0, hp, ?_⟩ ⟨0, hp, ?_⟩)
      · rw [tr_const a 0 (by omega)]; omega
      · rw [tr_const a (2 ^ e + 0) (by omega)]; omega
    · have he : e' = e := by omega
      subst he
      have m1 := tr_mx_le ho
      have m0 : tr_mn (e' + 1) f = 0 := by omega
      rw [m0] at g5 g6
      have zl := tr_is0 g5
      have zr := tr_is0 g6
      have hL := tr_lt g5
      have hR := tr_lt g6
      have sm := tr_mx_s e' f
      have x5 : tr_mx e' (fun i => f i - 0) = tr_mx e' f := rfl
      have x6 : tr_mx e' (fun i => f (2 ^ e' + i) - 0) = tr_mx e' (fun i => f (2 ^ e' + i)) := rfl
      rw [g3, g4]
      refine br_f (nI_pos (zz_lt hL)) ⟨hin, pk_eq l 0 (fun h => ?_) (fun h => ⟨hin, pk_eq r 0 (fun h' => ?_) (fun h' => ?_) rfl rfl (zz_lt hR) (by decide)⟩) rfl rfl (zz_lt hL) (by decide)⟩
      · have lz : ∀ j, j < 2 ^ e' → f j = 0 := fun j hj => by have := tr_mx_ge e' f j hj; omega
        unfold wX_splitPoint_46
        rw [nI_clamp (show i < 2 ^ 31 by omega), nI_clamp (zz_lt nx.1), g3, g4, h]
        refine ⟨hip, nm_e (nm_r (nI_1 i) ⟨hin, br_t rfl ⟨hin, nm_e (nm_r (nI_1 i) ?_)⟩⟩)⟩
        refine ih (i + 1) r m (fun j => f (2 ^ e' + j)) _ _ (by omega) g6 (fun j hj => ho _ (by omega)) (by omega) rfl (by omega) (fun p y ey fy pa1 k1 k2 k3 k4 k5 => K p y ey fy pa1 k1 (by omega) (fun j hj => (k3 j (by omega)).trans (pk_un (by omega))) (Or.inr ⟨x, (k3 i (by omega)).trans pk_us, nx.1, nx.2.1, Or.inl ⟨by rw [g3, h], lz, k4⟩⟩) k5)
      · have rz : ∀ j, j < 2 ^ e' → f (2 ^ e' + j) = 0 := fun j hj => by have := tr_mx_ge e' (fun i => f (2 ^ e' + i)) j hj; (try dsimp only at this); omega
        unfold wX_splitPoint_46
        rw [nI_clamp (show i < 2 ^ 31 by omega), nI_clamp (zz_lt nx.1), g3]
        refine ⟨hip, nm_e (nm_r (nI_1 i) ⟨hin, br_f (nI_ne0 (by omega) (zz_lt hL)) ⟨hin, nm_e (nm_r (nI_1 i) ?_)⟩⟩)⟩
        refine ih (i + 1) l m f _ _ (by omega) g5 (fun j hj => ho _ (by omega)) (by omega) rfl (by omega) (fun p y ey fy pa1 k1 k2 k3 k4 k5 => K p y ey fy pa1 k1 (by omega) (fun j hj => (k3 j (by omega)).trans (pk_un (by omega))) (Or.inr ⟨x, (k3 i (by omega)).trans pk_us, nx.1, nx.2.1, Or.inr ⟨l, by omega, hL, g3, rz, k4⟩⟩) k5)
      · refine stop ?_ ?_
        · obtain ⟨j, hj, ej⟩ := tr_mx_ex e' f
          exact ⟨j, hj, by omega⟩
        · obtain ⟨j, hj, ej⟩ := tr_mx_ex e' (fun i => f (2 ^ e' + i))
          exact ⟨j, hj, by (try dsimp only at ej); omega⟩
theorem sp_wp {post : Int32 → SX → Prop} {d x : Nat} {f : Nat → Nat} (hd : d ≤ 4) (edp : dp = nI d) (t : tr_T L R B T F d x f) (ho : ∀ j, j < 2 ^ d → f j ≤ 1) (hm : tr_mx d f ≠ 0)
    (K : ∀ (p y ey : Nat) (fy : Nat → Nat) (pa1 : Nat → Int32), p + ey = d → sp_R L R B T F pa1 p y ey fy d 0 f → y < 2048 → post (nI y) (zS, zM, zF, zG, sc, dp, ce, lm, fr, fc, ct, sp, rp, nI p, lo, up, L, R, B, T, mk, lv, ir, er, wc, wh, oA, oB, fA, fB, sg, rN, rC, pa1)) : wpX_splitPoint post (zS, zM, zF, zG, sc, dp, ce, lm, fr, fc, ct, sp, rp, pl, lo, up, L, R, B, T, mk, lv, ir, er, wc, wh, oA, oB, fA, fB, sg, rN, rC, pa) (nI x) := by
  unfold wpX_splitPoint
  (try dsimp only)
  exact ⟨d + 1, sp_lp hd edp d 0 x (d + 1) f (nI 0) pa (by omega) t ho hm rfl (by omega) (fun p y ey fy pa1 k1 _ _ k4 k5 => K p y ey fy pa1 k1 k4 k5)⟩
theorem sp_bot {pa : Nat → Int32} {p y ey : Nat} {fy : Nat → Nat} : ∀ {e i : Nat} {f : Nat → Nat}, sp_R L R B T F pa p y ey fy e i f → (∀ j, j < 2 ^ e → f j ≤ 1) →
    i ≤ p ∧ tr_T L R B T F ey y fy ∧ (∀ j, j < 2 ^ ey → fy j ≤ 1) ∧ (∀ e', ey = e' + 1 → (∃ j, j < 2 ^ e' ∧ fy j ≠ 0) ∧ (∃ j, j < 2 ^ e' ∧ fy (2 ^ e' + j) ≠ 0)) ∧ p + ey = i + e := by
  intro e
  induction e with
  | zero =>
    intro i f h ho
    obtain ⟨rfl, rfl, rfl, t⟩ := h
    exact ⟨Nat.le_refl _, t, ho, fun e' h => by omega, rfl⟩
  | succ e ih =>
    intro i f h ho
    have hz := zz_2s e
    rcases h with ⟨rfl, rfl, rfl, t, h1, h2⟩ | ⟨x, hx, _, _, ⟨_, _, h⟩ | ⟨l, _, _, _, _, h⟩⟩
    · refine ⟨Nat.le_refl _, t, ho, fun e' h => ?_, rfl⟩
      have : e' = e := by omega
      subst this; exact ⟨h1, h2⟩
    · have := ih h (fun j hj => ho _ (by omega))
      exact ⟨by omega, this.2.1, this.2.2.1, this.2.2.2.1, by omega⟩
    · have := ih h (fun j hj => ho _ (by omega))
      exact ⟨by omega, this.2.1, this.2.2.1, this.2.2.2.1, by omega⟩
/-- one cell alone: the bottom is at depth 0; more than one: it isn't -/
theorem sp_one {pa : Nat → Int32} {p y : Nat} {fy : Nat → Nat} : ∀ {e i : Nat} {f : Nat → Nat}, sp_R L R B T F pa p y 0 fy e i f → ∃ j, j < 2 ^ e ∧ ∀ i', i' < 2 ^ e → i' ≠ j → f i' = 0 := by
  intro e
  induction e with
  | zero =>
    intro i f h
    exact ⟨0, by decide, fun i' hi hn => absurd (by simpa using hi) hn⟩
  | succ e ih =>
    intro i f h
    have hz := zz_2s e
    rcases h with ⟨_, h0, _⟩ | ⟨x, hx, _, _, ⟨_, hl, h⟩ | ⟨l, _, _, _, hl, h⟩⟩
    · omega
    · obtain ⟨j, hj, q⟩ := ih h
      refine ⟨2 ^ e + j, by omega, tr_halves (fun i' hi' _ => hl i' hi') (fun i' hi' hn => q i' hi' (by omega))⟩
    · obtain ⟨j, hj, q⟩ := ih h
      refine ⟨j, by omega, tr_halves (fun i' hi' hn => q i' hi' hn) (fun i' hi' _ => hl i' hi')⟩
theorem sp_more {pa : Nat → Int32} {p y ey : Nat} {fy : Nat → Nat} : ∀ {e i : Nat} {f : Nat → Nat}, sp_R L R B T F pa p y (ey + 1) fy e i f → ∃ j j', j < j' ∧ j' < 2 ^ e ∧ f j ≠ 0 ∧ f j' ≠ 0 := by
  intro e
  induction e with
  | zero =>
    intro i f h
    exact absurd h.2.1 (by omega)
  | succ e ih =>
    intro i f h
    have hz := zz_2s e
    rcases h with ⟨_, h0, _, _, ⟨j, hj, q⟩, ⟨j', hj', q'⟩⟩ | ⟨x, hx, _, _, ⟨_, hl, h⟩ | ⟨l, _, _, _, hl, h⟩⟩
    · exact ⟨j, 2 ^ e + j', by omega, by omega, q, q'⟩
    · obtain ⟨j, j', h1, h2, q, q'⟩ := ih h
      exact ⟨2 ^ e + j, 2 ^ e + j', by omega, by omega, q, q'⟩
    · obtain ⟨j, j', h1, h2, q, q'⟩ := ih h
      exact ⟨j, j', by omega, by omega, q, q'⟩
theorem wr_wp {post : Int32 → SX → Prop} {e x z : Nat} {g g1 : Nat → Nat} (hi : hp_I fr fc L R B T F) (hF : 1 ≤ F.length) (t : tr_T L R B T F e x g) (ho : ∀ j, j < 2 ^ e → g j ≤ 1)
    (hg : (z = 0 ∧ (∀ j, j < 2 ^ e → g1 j = g j) ∧ (∀ j, j < 2 ^ e → g1 (2 ^ e + j) = 0)) ∨ (z = 1 ∧ (∀ j, j < 2 ^ e → g1 j = 0) ∧ (∀ j, j < 2 ^ e → g1 (2 ^ e + j) = g j)))
    (K : ∀ (F1 : List Nat) (x1 : Nat) (fr1 fc1 : Int32) (L1 R1 B1 T1 : Nat → Int32), hp_N 1 fr fc L R B T F fr1 fc1 L1 R1 B1 T1 F1 → tr_T L1 R1 B1 T1 F1 (e + 1) x1 g1 → post (nI x1) (zS, zM, zF, zG, sc, dp, ce, lm, fr1, fc1, ct, sp, rp, pl, lo, up, L1, R1, B1, T1, mk, lv, ir, er, wc, wh, oA, oB, fA, fB, sg, rN, rC, pa)) : wpX_wrap post (zS, zM, zF, zG, sc, dp, ce, lm, fr, fc, ct, sp, rp, pl, lo, up, L, R, B, T, mk, lv, ir, er, wc, wh, oA, oB, fA, fB, sg, rN, rC, pa) (nI x) (nI z) := by
  unfold wpX_wrap
  (try dsimp only)
  have t0 : tr_T L R B T F e 0 (fun _ => 0) := tr_zero hi (fun _ _ => rfl)
  rcases hg with ⟨rfl, h1, h2⟩ | ⟨rfl, h1, h2⟩
  · exact br_t rfl (id_wp hi hF t t0 ho (fun _ _ => Nat.zero_le _) h1 h2 (fun fr1 fc1 L1 R1 B1 T1 F1 x1 i1 t1 => K F1 x1 _ _ _ _ _ _ i1 t1))
  · exact br_f (by decide) (id_wp hi hF t0 t (fun _ _ => Nat.zero_le _) ho h1 h2 (fun fr1 fc1 L1 R1 B1 T1 F1 x1 i1 t1 => K F1 x1 _ _ _ _ _ _ i1 t1))
theorem zz_m1 (i : Nat) : nI i + (-1) = nI i - 1 := by rw [Int32.sub_eq_add_neg]
/-- the way back up -/
theorem sb_lp {post : SX → Prop} {p y ey : Nat} {fy : Nat → Nat} : ∀ (e i : Nat) (f : Nat → Nat), i + e ≤ 4 → sp_R L R B T F pa p y ey fy e i f → (∀ j, j < 2 ^ e → f j ≤ 1) →
    ∀ (F1 : List Nat) (x0 x1 : Nat) (gl gu : Nat → Nat) (fr1 fc1 : Int32) (L1 R1 B1 T1 : Nat → Int32), hp_E L R B T F L1 R1 B1 T1 F1 → hp_I fr1 fc1 L1 R1 B1 T1 F1 → 2 * e ≤ F1.length → tr_T L1 R1 B1 T1 F1 ey x0 gl → tr_T L1 R1 B1 T1 F1 ey x1 gu → (∀ j, j < 2 ^ ey → gl j ≤ 1 ∧ gu j ≤ 1) → sq_S ey fy gl gu →
    (∀ (F2 : List Nat) (x2 x3 : Nat) (g2 g3 : Nat → Nat) (fr2 fc2 : Int32) (L2 R2 B2 T2 : Nat → Int32), hp_N (2 * e) fr1 fc1 L1 R1 B1 T1 F1 fr2 fc2 L2 R2 B2 T2 F2 → tr_T L2 R2 B2 T2 F2 e x2 g2 → tr_T L2 R2 B2 T2 F2 e x3 g3 → (∀ j, j < 2 ^ e → g2 j ≤ 1 ∧ g3 j ≤ 1) → sq_S e f g2 g3 →
      wX_split_50 post (i + 1) (nI i - 1) zS zM zF zG sc dp ce lm fr2 fc2 ct sp rp pl (nI x2) (nI x3) L2 R2 B2 T2 mk lv ir er wc wh oA oB fA fB sg rN rC pa) →
    wX_split_50 post (p + 1) (nI p - 1) zS zM zF zG sc dp ce lm fr1 fc1 ct sp rp pl (nI x0) (nI x1) L1 R1 B1 T1 mk lv ir er wc wh oA oB fA fB sg rN rC pa := by
  intro e
  induction e with
  | zero =>
    intro i f hi h ho F1 x0 x1 gl gu fr1 fc1 L1 R1 B1 T1 hE hi1 hF1 t0 t1 hlu sq K
    obtain ⟨rfl, rfl, rfl, t⟩ := h
    exact K F1 x0 x1 gl gu _ _ _ _ _ _ (hp_Nr _ hi1) t0 t1 hlu sq
  | succ e ih =>
    intro i f hi h ho F1 x0 x1 gl gu fr1 fc1 L1 R1 B1 T1 hE hi1 hF1 t0 t1 hlu sq K
    have hz := zz_2s e
    rcases h with ⟨rfl, rfl, rfl, t, _, _⟩ | ⟨x, hx, hxl, hxF, h⟩
    · exact K F1 x0 x1 gl gu _ _ _ _ _ _ (hp_Nr _ hi1) t0 t1 hlu sq
    · have main : ∀ (z : Nat) (f' : Nat → Nat), sp_R L R B T F pa p y ey fy e (i + 1) f' → (∀ j, j < 2 ^ e → f' j ≤ 1) →
          ((z = 1 ∧ L x = nI 0 ∧ (∀ j, j < 2 ^ e → f j = 0) ∧ f' = (fun j => f (2 ^ e + j))) ∨ (z = 0 ∧ (∃ l : Nat, 1 ≤ l ∧ l < 2048 ∧ L x = nI l) ∧ (∀ j, j < 2 ^ e → f (2 ^ e + j) = 0) ∧ f' = f)) →
          wX_split_50 post (p + 1) (nI p - 1) zS zM zF zG sc dp ce lm fr1 fc1 ct sp rp pl (nI x0) (nI x1) L1 R1 B1 T1 mk lv ir er wc wh oA oB fA fB sg rN rC pa := by
        intro z f' h' ho' hz'
        refine ih (i + 1) f' (by omega) h' ho' F1 x0 x1 gl gu _ _ _ _ _ _ hE hi1 (by omega) t0 t1 hlu sq (fun F2 x2 x3 g2 g3 fr2 fc2 L2 R2 B2 T2 i2 u2 u3 b23 sq2 => ?_)
        have q2 := i2.2.2
        have eL : L2 x = L x := ((hp_Et hE i2.2.1).2 x hxF).1
        have go : wX_split_75 post (wX_split_50 post (i + 1)) (nI i) (nI z) zS zM zF zG sc dp ce lm fr2 fc2 ct sp rp pl (nI x2) (nI x3) L2 R2 B2 T2 mk lv ir er wc wh oA oB fA fB sg rN rC pa := by
          unfold wX_split_75
          have pick : ∃ k2 k3 : Nat → Nat, ((z = 0 ∧ (∀ j, j < 2 ^ e → k2 j = g2 j) ∧ (∀ j, j < 2 ^ e → k2 (2 ^ e + j) = 0)) ∨ (z = 1 ∧ (∀ j, j < 2 ^ e → k2 j = 0) ∧ (∀ j, j < 2 ^ e → k2 (2 ^ e + j) = g2 j))) ∧
              ((z = 0 ∧ (∀ j, j < 2 ^ e → k3 j = g3 j) ∧ (∀ j, j < 2 ^ e → k3 (2 ^ e + j) = 0)) ∨ (z = 1 ∧ (∀ j, j < 2 ^ e → k3 j = 0) ∧ (∀ j, j < 2 ^ e → k3 (2 ^ e + j) = g3 j))) ∧ sq_S (e + 1) f k2 k3 ∧ (∀ j, j < 2 ^ (e + 1) → k2 j ≤ 1 ∧ k3 j ≤ 1) := by
            rcases hz' with ⟨rfl, _, c1, rfl⟩ | ⟨rfl, _, c1, rfl⟩
            · refine ⟨tr_gl e (fun _ => 0) g2, tr_gl e (fun _ => 0) g3, Or.inr ⟨rfl, fun j hj => tr_gl_lo hj, fun j hj => tr_gl_hi⟩, Or.inr ⟨rfl, fun j hj => tr_gl_lo hj, fun j hj => tr_gl_hi⟩, sq_hi sq2 c1 (fun j hj => tr_gl_lo hj) (fun j hj => tr_gl_hi) (fun j hj => tr_gl_lo hj) (fun j hj => tr_gl_hi), ?_⟩
              exact tr_halves (fun j hj => by rw [tr_gl_lo hj, tr_gl_lo hj]; exact ⟨Nat.zero_le _, Nat.zero_le _⟩) (fun j hj => by rw [tr_gl_hi, tr_gl_hi]; exact b23 j hj)
            · refine ⟨tr_gl e g2 (fun _ => 0), tr_gl e g3 (fun _ => 0), Or.inl ⟨rfl, fun j hj => tr_gl_lo hj, fun j hj => tr_gl_hi⟩, Or.inl ⟨rfl, fun j hj => tr_gl_lo hj, fun j hj => tr_gl_hi⟩, sq_lo sq2 c1 (fun j hj => tr_gl_lo hj) (fun j hj => tr_gl_hi) (fun j hj => tr_gl_lo hj) (fun j hj => tr_gl_hi), ?_⟩
              exact tr_halves (fun j hj => by rw [tr_gl_lo hj, tr_gl_lo hj]; exact b23 j hj) (fun j hj => by rw [tr_gl_hi, tr_gl_hi]; exact ⟨Nat.zero_le _, Nat.zero_le _⟩)
          obtain ⟨k2, k3, p2, p3, psq, pb⟩ := pick
          refine wr_wp i2.1 (by omega) u2 (fun j hj => (b23 j hj).1) p2 (fun F3 x4 fr3 fc3 L3 R3 B3 T3 i3 u4 => ?_)
          (try dsimp only)
          have q3 := i3.2.2
          refine wr_wp i3.1 (by omega) (tr_ext i3.2.1 u3) (fun j hj => (b23 j hj).2) p3 (fun F4 x5 fr4 fc4 L4 R4 B4 T4 i4 u5 => ?_)
          (try dsimp only)
          refine nm_r (zz_m1 i) (K F4 x4 x5 k2 k3 _ _ _ _ _ _ (hp_Nt (hp_Nt i2 i3 (Nat.le_refl _)) i4 (by omega)) (tr_ext i4.2.1 u4) u5 pb psq)
        have hi8 : vp_in (nI i) 8 := vp_in_nI (by omega) (by decide)
        have hin : vp_in (nI x) 2048 := vp_in_nI hxl (by decide)
        rw [nI_pred i]
        refine br_f (nI_pos (by omega)) ⟨hi8, ?_⟩
        rw [nI_clamp (show i < 2 ^ 31 by omega), hx, nI_clamp (zz_lt hxl), eL]
        refine ⟨hin, ?_⟩
        rcases hz' with ⟨rfl, c0, _⟩ | ⟨rfl, ⟨l, c1, c2, c3⟩, _⟩
        · rw [c0]; exact br_t rfl go
        · rw [c3]; exact br_f (nI_ne0 (by omega) (zz_lt c2)) go
      rcases h with ⟨c0, c1, h'⟩ | ⟨l, c1, c2, c3, c4, h'⟩
      · exact main 1 _ h' (fun j hj => ho _ (by omega)) (Or.inl ⟨rfl, c0, c1, rfl⟩)
      · exact main 0 f h' (fun j hj => ho _ (by omega)) (Or.inr ⟨rfl, ⟨l, c1, c2, c3⟩, c4, rfl⟩)
theorem sl_wp {post : SX → Prop} {d x : Nat} {f : Nat → Nat} (hd : d ≤ 4) (edp : dp = nI d) (hi : hp_I fr fc L R B T F) (hF : 10 ≤ F.length) (t : tr_T L R B T F d x f) (ho : ∀ j, j < 2 ^ d → f j ≤ 1) (h2 : ∃ j j', j < j' ∧ j' < 2 ^ d ∧ f j ≠ 0 ∧ f j' ≠ 0)
    (K : ∀ (F1 : List Nat) (x0 x1 : Nat) (gl gu : Nat → Nat) (pl1 : Int32) (pa1 : Nat → Int32) (fr1 fc1 : Int32) (L1 R1 B1 T1 : Nat → Int32), hp_N 10 fr fc L R B T F fr1 fc1 L1 R1 B1 T1 F1 → tr_T L1 R1 B1 T1 F1 d x0 gl → tr_T L1 R1 B1 T1 F1 d x1 gu → sq_S d f gl gu → post (zS, zM, zF, zG, sc, dp, ce, lm, fr1, fc1, ct, sp, rp, pl1, nI x0, nI x1, L1, R1, B1, T1, mk, lv, ir, er, wc, wh, oA, oB, fA, fB, sg, rN, rC, pa1)) : wpX_split post (zS, zM, zF, zG, sc, dp, ce, lm, fr, fc, ct, sp, rp, pl, lo, up, L, R, B, T, mk, lv, ir, er, wc, wh, oA, oB, fA, fB, sg, rN, rC, pa) (nI x) := by
  have hm : tr_mx d f ≠ 0 := by
    obtain ⟨j, j', c1, c2, c3, c4⟩ := h2
    have := tr_mx_ge d f j' c2
    omega
  unfold wpX_split
  (try dsimp only)
  refine sp_wp hd edp t ho hm (fun p y ey fy pa1 hp hR hy => ?_)
  (try dsimp only)
  have hb := sp_bot hR ho
  cases ey with
  | zero =>
    exfalso
    obtain ⟨j0, _, q⟩ := sp_one hR
    obtain ⟨j, j', c1, c2, c3, c4⟩ := h2
    by_cases e1 : j = j0
    · exact c4 (q j' c2 (by omega))
    · exact c3 (q j (by omega) e1)
  | succ ey =>
    have hz := zz_2s ey
    obtain ⟨s1, s2, s3, s4, s5⟩ := hb
    have s6 := s4 ey rfl
    obtain ⟨l, r, m, tk⟩ := tr_two s2
    obtain ⟨k1, k2, k3, k4, k5, k6, k7⟩ := tk
    have m0 : m = 0 := by
      have := tr_mx_le s3
      omega
    subst m0
    refine ch_wp (side := 0) (by decide) k3 (ch_wp (side := 1) (by decide) k4 ?_)
    have t0 : tr_T L R B T F ey 0 (fun _ => 0) := tr_zero hi (fun _ _ => rfl)
    refine id_wp (f := tr_gl ey fy (fun _ => 0)) hi (by omega) k5 t0 (fun i hi => s3 i (by omega)) (fun _ _ => Nat.zero_le _) (fun i hi => tr_gl_lo hi) (fun i hi => tr_gl_hi) (fun fr1 fc1 L1 R1 B1 T1 F1 x1 i1 t1 => ?_)
    (try dsimp only)
    have q1 := i1.2.2
    refine id_wp (f := tr_gl ey (fun _ => 0) (fun i => fy (2 ^ ey + i))) i1.1 (by omega) (tr_ext i1.2.1 t0) (tr_ext i1.2.1 k6) (fun _ _ => Nat.zero_le _) (fun i hi => s3 _ (by omega)) (fun i hi => tr_gl_lo hi) (fun i hi => tr_gl_hi) (fun fr2 fc2 L2 R2 B2 T2 F2 x2 i2 t2 => ?_)
    (try dsimp only)
    have q2 := i2.2.2
    have i12 := hp_Nt i1 i2 (Nat.le_refl 2)
    refine nm_e ⟨p + 1, sb_lp d 0 f (by omega) hR ho F2 x1 x2 (tr_gl ey fy (fun _ => 0)) (tr_gl ey (fun _ => 0) (fun i => fy (2 ^ ey + i))) _ _ _ _ _ _ i12.2.1 i2.1 (by omega) (tr_ext i2.2.1 t1) t2 ?_ ?_ (fun F3 x3 x4 g2 g3 fr3 fc3 L3 R3 B3 T3 i3 u2 u3 b23 sq2 => ?_)⟩
    · refine tr_halves (fun j hj => ?_) (fun j hj => ?_)
      · rw [tr_gl_lo hj, tr_gl_lo hj]; exact ⟨s3 j (by omega), Nat.zero_le _⟩
      · rw [tr_gl_hi, tr_gl_hi]; exact ⟨Nat.zero_le _, s3 _ (by omega)⟩
    · exact sq_base s6.1 s6.2 (fun j hj => tr_gl_lo hj) (fun j hj => tr_gl_hi) (fun j hj => tr_gl_lo hj) (fun j hj => tr_gl_hi)
    · refine br_t (by decide) (K F3 x3 x4 g2 g3 _ _ _ _ _ _ _ _ (hp_Nt i12 i3 (by omega)) u2 u3 sq2)
end
end
section
/-! the text of an identity: the component's walk -/
section
variable {zS zM zF zG sc dp ce lm fr fc ct sp rp pl lo up : Int32} {L R B T mk lv ir er wc wh oA oB fA fB sg rN rC pa : Nat → Int32} {F : List Nat}
/-- the text of f on [0, 2^e) -/
def tx_T : Nat → (Nat → Nat) → List Nat
  | 0, f => [48 + f 0]
  | e + 1, f => if tr_mn (e + 1) f = tr_mx (e + 1) f then [48 + f 0] else 40 :: (tx_T e f ++ (44 :: (tx_T e (fun i => f (2 ^ e + i)) ++ [41])))
theorem tx_len : ∀ (e : Nat) (f : Nat → Nat), (tx_T e f).length + 3 ≤ 4 * 2 ^ e := by
  intro e
  induction e with
  | zero => intro f; exact Nat.le_refl _
  | succ e ih =>
    intro f
    have h1 := ih f
    have h2 := ih (fun i => f (2 ^ e + i))
    have hz := zz_2s e
    have hp := zz_2p e
    unfold tx_T
    split
    · simp only [List.length_cons, List.length_nil]; omega
    · simp only [List.length_cons, List.length_append, List.length_nil]; omega
theorem tx_congr : ∀ {e : Nat} {f g : Nat → Nat}, (∀ i, i < 2 ^ e → f i = g i) → tx_T e f = tx_T e g := by
  intro e
  induction e with
  | zero => intro f g h; show [48 + f 0] = [48 + g 0]; rw [h 0 (by decide)]
  | succ e ih =>
    intro f g h
    have hz := zz_2s e
    unfold tx_T
    rw [tr_mn_congr h, tr_mx_congr h, h 0 (zz_2p _), ih (f := f) (g := g) (fun i hi => h i (by omega)), ih (f := fun i => f (2 ^ e + i)) (g := fun i => g (2 ^ e + i)) (fun i hi => h _ (by omega))]
theorem tx_at (a : List Nat) (c : Nat) (b : List Nat) : (a ++ c :: b)[a.length]? = some c := by simp
/-- a character of the text comes: it is the one asked for, or we go on -/
theorem tc_127 {post : Int32 → SX → Prop} {J : Int32 → Int32 → (Nat → Int32) → (Nat → Int32) → (Nat → Int32) → (Nat → Int32) → (Nat → Int32) → (Nat → Int32) → (Nat → Int32) → (Nat → Int32) → (Nat → Int32) → (Nat → Int32) → (Nat → Int32) → (Nat → Int32) → (Nat → Int32) → (Nat → Int32) → (Nat → Int32) → (Nat → Int32) → (Nat → Int32) → (Nat → Int32) → Prop}
    {pos at' c : Nat} {x3 x6 : Int32} {Z pre suf : List Nat} (hpos : pos < 2 ^ 31) (hat : at' < 64) (hle : at' ≤ pos) (e6 : x6 = nI c) (hZ : Z = pre ++ c :: suf) (hl : at' = pre.length)
    (H : ∀ ch, Z[pos]? = some ch → post (nI ch) (zS, zM, zF, zG, sc, dp, ce, lm, fr, fc, ct, sp, rp, pl, lo, up, L, R, B, T, mk, lv, ir, er, wc, wh, oA, oB, fA, fB, sg, rN, rC, pa)) (K : at' + 1 ≤ pos → J x3 (nI (at' + 1)) L R B T mk lv ir er wc wh oA oB fA fB sg rN rC pa) : wX_textChar_127 post J (nI pos) x3 (nI at') x6 zS zM zF zG sc dp ce lm fr fc ct sp rp pl lo up L R B T mk lv ir er wc wh oA oB fA fB sg rN rC pa := by
  unfold wX_textChar_127
  refine pk_eq at' pos (fun h => ?_) (fun h => nm_r (nI_1 at') (K (by omega))) rfl rfl (by omega) hpos
  rw [e6]
  refine H c ?_
  rw [hZ, ← h, hl]
  exact tx_at _ _ _
/-- a character that was on the stack -/
theorem tc_c {post : Int32 → SX → Prop} {pos at' c k n : Nat} {x : Int32} {Z pre suf : List Nat} (hpos : pos < 2 ^ 31) (hat : at' < 64) (hle : at' ≤ pos) (hk : k < 32) (ex : oA k = x) (hx : ¬ 0 ≤ x) (hc : -x = nI c) (hZ : Z = pre ++ c :: suf) (hl : at' = pre.length)
    (H : ∀ ch, Z[pos]? = some ch → post (nI ch) (zS, zM, zF, zG, sc, dp, ce, lm, fr, fc, ct, sp, rp, pl, lo, up, L, R, B, T, mk, lv, ir, er, wc, wh, oA, oB, fA, fB, sg, rN, rC, pa)) (K : at' + 1 ≤ pos → wX_textChar_12 post (nI pos) zS zM zF zG sc dp ce lm fr fc ct sp rp pl lo up n (nI k) (nI (at' + 1)) L R B T mk lv ir er wc wh oA oB fA fB sg rN rC pa) :
    wX_textChar_12 post (nI pos) zS zM zF zG sc dp ce lm fr fc ct sp rp pl lo up (n + 1) (nI (k + 1)) (nI at') L R B T mk lv ir er wc wh oA oB fA fB sg rN rC pa := by
  have hin : vp_in (nI k) 32 := vp_in_nI hk (by decide)
  refine br_f (nI_ge (b := 64) hat (by decide)) (br_f (nI_nle (by omega) (by omega)) (nm_r (e' := nI k) (pk_m1 k) ⟨hin, ?_⟩))
  rw [nI_clamp (show k < 2 ^ 31 by omega), ex]
  exact nm_e (br_f hx (nm_e (tc_127 hpos hat hle hc hZ hl H K)))
theorem tc_ind {post : Int32 → SX → Prop} {pos : Nat} {Z : List Nat} (hpos : pos < 2 ^ 31) (H : ∀ (oA1 : Nat → Int32) ch, Z[pos]? = some ch → post (nI ch) (zS, zM, zF, zG, sc, dp, ce, lm, fr, fc, ct, sp, rp, pl, lo, up, L, R, B, T, mk, lv, ir, er, wc, wh, oA1, oB, fA, fB, sg, rN, rC, pa)) : ∀ (e x k at' n : Nat) (f : Nat → Nat) (oA : Nat → Int32) (pre suf : List Nat),
    tr_T L R B T F e x f → (∀ i, i < 2 ^ e → f i ≤ 1) → k + 3 * e < 32 → at' + (tx_T e f).length ≤ 64 → n + at' = 65 → at' ≤ pos → oA k = nI x → Z = pre ++ (tx_T e f ++ suf) → at' = pre.length →
    (∀ (n1 : Nat) (oA1 : Nat → Int32), n1 + (at' + (tx_T e f).length) = 65 → at' + (tx_T e f).length ≤ pos → (∀ i, i < k → oA1 i = oA i) → wX_textChar_12 post (nI pos) zS zM zF zG sc dp ce lm fr fc ct sp rp pl lo up n1 (nI k) (nI (at' + (tx_T e f).length)) L R B T mk lv ir er wc wh oA1 oB fA fB sg rN rC pa) →
    wX_textChar_12 post (nI pos) zS zM zF zG sc dp ce lm fr fc ct sp rp pl lo up n (nI (k + 1)) (nI at') L R B T mk lv ir er wc wh oA oB fA fB sg rN rC pa := by
  -- a leaf
  have leaf : ∀ (e x k at' n : Nat) (f : Nat → Nat) (oA : Nat → Int32) (pre suf : List Nat), tr_T L R B T F e x f → tr_mn e f = tr_mx e f → tx_T e f = [48 + f 0] → k < 32 → at' + 1 ≤ 64 → n + at' = 65 → at' ≤ pos → f 0 ≤ 1 → oA k = nI x →
      Z = pre ++ (tx_T e f ++ suf) → at' = pre.length →
      (∀ (n1 : Nat) (oA1 : Nat → Int32), n1 + (at' + (tx_T e f).length) = 65 → at' + (tx_T e f).length ≤ pos → (∀ i, i < k → oA1 i = oA i) → wX_textChar_12 post (nI pos) zS zM zF zG sc dp ce lm fr fc ct sp rp pl lo up n1 (nI k) (nI (at' + (tx_T e f).length)) L R B T mk lv ir er wc wh oA1 oB fA fB sg rN rC pa) →
      wX_textChar_12 post (nI pos) zS zM zF zG sc dp ce lm fr fc ct sp rp pl lo up n (nI (k + 1)) (nI at') L R B T mk lv ir er wc wh oA oB fA fB sg rN rC pa := by
    intro e x k at' n f oA pre suf t hc ht hk hat hn hle hf ek hZ hl K
    obtain ⟨m, rfl⟩ : ∃ m, n = m + 1 := ⟨n - 1, by omega⟩
    have hin : vp_in (nI k) 32 := vp_in_nI hk (by decide)
    have nx := tr_nd_of t
    have hix : vp_in (nI x) 2048 := vp_in_nI nx.1 (by decide)
    have lx : L x = -1 := by
      rcases tr_cs t with ⟨_, b⟩ | ⟨_, _, _, rfl, h, _⟩
      · exact b.1
      · omega
    rw [ht] at hZ K
    refine br_f (nI_ge (b := 64) (by omega) (by decide)) (br_f (nI_nle (by omega) (by omega)) (nm_r (e' := nI k) (pk_m1 k) ⟨hin, ?_⟩))
    rw [nI_clamp (show k < 2 ^ 31 by omega), ek]
    refine nm_e (br_t (nI_pos' (zz_lt nx.1)) ⟨hix, ?_⟩)
    rw [nI_clamp (zz_lt nx.1), lx, nx.2.2.1]
    have e0 := tr_const hc 0 (zz_2p e)
    refine br_f (by decide) ⟨hix, nm_e (tc_127 (c := 48 + f 0) (pre := pre) (suf := suf) hpos (by omega) hle ?_ hZ hl (H oA) (fun h => K m oA (by simp only [List.length_cons, List.length_nil]; omega) h (fun i hi => rfl)))⟩
    rw [← e0]
    exact nI_add 48 (f 0)
  intro e
  induction e with
  | zero =>
    intro x k at' n f oA pre suf t hf hk hat hn hle ek hZ hl K
    exact leaf 0 x k at' n f oA pre suf t rfl rfl (by omega) (by have : (tx_T 0 f).length = 1 := rfl; omega) hn hle (hf 0 (by decide)) ek hZ hl K
  | succ e ih =>
    intro x k at' n f oA pre suf t hf hk hat hn hle ek hZ hl K
    have hz := zz_2s e
    have hp := zz_2p e
    by_cases hc : tr_mn (e + 1) f = tr_mx (e + 1) f
    · have ht : tx_T (e + 1) f = [48 + f 0] := by unfold tx_T; rw [if_pos hc]
      refine leaf (e + 1) x k at' n f oA pre suf t hc ht (by omega) ?_ hn hle (hf 0 (by omega)) ek hZ hl K
      rw [ht] at hat
      simpa using hat
    · have ht : tx_T (e + 1) f = 40 :: (tx_T e f ++ (44 :: (tx_T e (fun i => f (2 ^ e + i)) ++ [41]))) := by
        rw [tx_T, if_neg hc]
      have hlen : (tx_T (e + 1) f).length = (tx_T e f).length + (tx_T e (fun i => f (2 ^ e + i))).length + 3 := by
        rw [ht]; simp only [List.length_cons, List.length_append, List.length_nil]; omega
      rw [hlen] at hat K
      rcases tr_cs t with ⟨z, _⟩ | ⟨e', l, r, he, g1, g2, g3, g4, g5, g6⟩
      · exact absurd z hc
      have he : e' = e := by omega
      subst he
      have m0 : tr_mn (e' + 1) f = 0 := by have := tr_mx_le hf; omega
      rw [m0] at g5 g6
      have nx := tr_nd_of t
      have hix : vp_in (nI x) 2048 := vp_in_nI nx.1 (by decide)
      have i0 : vp_in (nI k) 32 := vp_in_nI (by omega) (by decide)
      have i1 : vp_in (nI (k + 1)) 32 := vp_in_nI (by omega) (by decide)
      have i2 : vp_in (nI (k + 2)) 32 := vp_in_nI (by omega) (by decide)
      have i3 : vp_in (nI (k + 3)) 32 := vp_in_nI (by omega) (by decide)
      have a2 : nI k + 2 = nI (k + 2) := nI_add k 2
      have a3 : nI k + 3 = nI (k + 3) := nI_add k 3
      have a4 : nI k + 4 = nI (k + 3 + 1) := nI_add k 4
      obtain ⟨m, rfl⟩ : ∃ m, n = m + 1 := ⟨n - 1, by omega⟩
      refine br_f (nI_ge (b := 64) (by omega) (by decide)) (br_f (nI_nle (by omega) (by omega)) (nm_r (e' := nI k) (pk_m1 k) ⟨i0, ?_⟩))
      rw [nI_clamp (show k < 2 ^ 31 by omega), ek]
      refine nm_e (br_t (nI_pos' (zz_lt nx.1)) ⟨hix, ?_⟩)
      rw [nI_1 k, a2, a3, a4, nI_clamp (show k + 1 < 2 ^ 31 by omega), nI_clamp (show k + 2 < 2 ^ 31 by omega), nI_clamp (show k + 3 < 2 ^ 31 by omega), nI_clamp (zz_lt nx.1), g3, g4]
      refine br_t (nI_pos' (zz_lt (tr_lt g5))) ⟨i0, nm_e ⟨hix, i1, nm_e ⟨i2, nm_e ⟨hix, i3, nm_e (nm_e ?_)⟩⟩⟩⟩
      have hZ1 : Z = pre ++ 40 :: (tx_T e' f ++ (44 :: (tx_T e' (fun i => f (2 ^ e' + i)) ++ (41 :: suf)))) := by
        rw [hZ, ht]; simp
      refine tc_127 hpos (by omega) hle (c := 40) rfl hZ1 hl (H _) (fun hle1 => ?_)
      refine ih l (k + 3) (at' + 1) m (fun i => f i - 0) _ (pre ++ [40]) (44 :: (tx_T e' (fun i => f (2 ^ e' + i)) ++ (41 :: suf))) g5 (fun i hi => hf i (by omega)) (by omega) ?_ (by omega) hle1 pk_us ?_ (by simp [hl]) ?_
      · show at' + 1 + (tx_T e' f).length ≤ 64
        omega
      · show Z = _ ++ (tx_T e' f ++ _)
        rw [hZ1]; simp
      intro n2 oA2 hn2 hle2 s2
      change n2 + (at' + 1 + (tx_T e' f).length) = 65 at hn2
      change at' + 1 + (tx_T e' f).length ≤ pos at hle2
      show wX_textChar_12 post (nI pos) zS zM zF zG sc dp ce lm fr fc ct sp rp pl lo up n2 (nI (k + 3)) (nI (at' + 1 + (tx_T e' f).length)) L R B T mk lv ir er wc wh oA2 oB fA fB sg rN rC pa
      obtain ⟨m2, rfl⟩ : ∃ m2, n2 = m2 + 1 := ⟨n2 - 1, by omega⟩
      have b2 : oA2 (k + 2) = -44 := by rw [s2 (k + 2) (by omega), pk_un (by omega), pk_us]
      have b1 : oA2 (k + 1) = nI r := by rw [s2 (k + 1) (by omega), pk_un (by omega), pk_un (by omega), pk_us]
      have b0 : oA2 k = -41 := by rw [s2 k (by omega), pk_un (by omega), pk_un (by omega), pk_un (by omega), pk_us]
      refine tc_c (c := 44) (pre := pre ++ (40 :: tx_T e' f)) (suf := tx_T e' (fun i => f (2 ^ e' + i)) ++ (41 :: suf)) hpos (by omega) hle2 (by omega) b2 (by decide) rfl ?_ ?_ (H oA2) (fun hle3 => ?_)
      · rw [hZ1]; simp
      · simp [hl]; omega
      refine ih r (k + 1) (at' + 1 + (tx_T e' f).length + 1) m2 (fun i => f (2 ^ e' + i) - 0) oA2 (pre ++ (40 :: tx_T e' f) ++ [44]) (41 :: suf) g6 (fun i hi => hf _ (by omega)) (by omega) ?_ (by omega) hle3 b1 ?_ ?_ ?_
      · show at' + 1 + (tx_T e' f).length + 1 + (tx_T e' (fun i => f (2 ^ e' + i))).length ≤ 64
        omega
      · show Z = _ ++ (tx_T e' (fun i => f (2 ^ e' + i)) ++ _)
        rw [hZ1]; simp
      · simp [hl]; omega
      intro n3 oA3 hn3 hle4 s3
      change n3 + (at' + 1 + (tx_T e' f).length + 1 + (tx_T e' (fun i => f (2 ^ e' + i))).length) = 65 at hn3
      change at' + 1 + (tx_T e' f).length + 1 + (tx_T e' (fun i => f (2 ^ e' + i))).length ≤ pos at hle4
      show wX_textChar_12 post (nI pos) zS zM zF zG sc dp ce lm fr fc ct sp rp pl lo up n3 (nI (k + 1)) (nI (at' + 1 + (tx_T e' f).length + 1 + (tx_T e' (fun i => f (2 ^ e' + i))).length)) L R B T mk lv ir er wc wh oA3 oB fA fB sg rN rC pa
      obtain ⟨m3, rfl⟩ : ∃ m3, n3 = m3 + 1 := ⟨n3 - 1, by omega⟩
      refine tc_c (c := 41) (pre := pre ++ (40 :: tx_T e' f) ++ (44 :: tx_T e' (fun i => f (2 ^ e' + i)))) (suf := suf) hpos (by omega) hle4 (by omega) ((s3 k (by omega)).trans b0) (by decide) rfl ?_ ?_ (H oA3) (fun hle5 => ?_)
      · rw [hZ1]; simp
      · simp [hl]; omega
      have hfin := K m3 oA3 (by omega) (by omega) (fun i hi => by rw [s3 i (by omega), s2 i (by omega), pk_un (by omega), pk_un (by omega), pk_un (by omega), pk_un (by omega)])
      rw [show at' + 1 + (tx_T e' f).length + 1 + (tx_T e' (fun i => f (2 ^ e' + i))).length + 1 = at' + ((tx_T e' f).length + (tx_T e' (fun i => f (2 ^ e' + i))).length + 3) by omega]
      exact hfin
/-- what idChar answers -/
def tx_ans (Z : List Nat) (pos : Nat) : Int32 := match Z[pos]? with
  | some ch => nI ch
  | none => -9
theorem tc_wp {post : Int32 → SX → Prop} {d x pos : Nat} {f : Nat → Nat} (hd : d ≤ 4) (hpos : pos < 2 ^ 31) (t : tr_T L R B T F d x f) (hf : ∀ i, i < 2 ^ d → f i ≤ 1) (K : ∀ oA1 : Nat → Int32, post (tx_ans (tx_T d f) pos) (zS, zM, zF, zG, sc, dp, ce, lm, fr, fc, ct, sp, rp, pl, lo, up, L, R, B, T, mk, lv, ir, er, wc, wh, oA1, oB, fA, fB, sg, rN, rC, pa)) : wpX_textChar post (zS, zM, zF, zG, sc, dp, ce, lm, fr, fc, ct, sp, rp, pl, lo, up, L, R, B, T, mk, lv, ir, er, wc, wh, oA, oB, fA, fB, sg, rN, rC, pa) (nI x) (nI pos) := by
  have h16 := zz_d4 hd
  have hl := tx_len d f
  unfold wpX_textChar
  (try dsimp only)
  refine nm_e ⟨65, tc_ind (Z := tx_T d f) hpos (fun oA1 ch h => ?_) d x 0 0 65 f _ [] [] t hf (by omega) (by omega) (by omega) (by omega) pk_us (by simp) rfl (fun n1 oA1 hn hle _ => ?_)⟩
  · have := K oA1
    unfold tx_ans at this
    rw [h] at this
    exact this
  · have := K oA1
    unfold tx_ans at this
    rw [List.getElem?_eq_none (by omega)] at this
    obtain ⟨m, rfl⟩ : ∃ m, n1 = m + 1 := ⟨n1 - 1, by omega⟩
    exact br_f (nI_ge (b := 64) (by omega) (by decide)) (br_t (by decide) this)
end
end
section
/-! the reference's small methods -/
section
variable {ys yc ye yn : Int32} {yl yo yk : Nat → Int32}
theorem ix_16 (s i : Nat) : nI s * 16 + nI i = nI (s * 16 + i) := by
  rw [show (16 : Int32) = nI 16 from rfl, pk_mul, nI_add]
theorem ix_128 (s i : Nat) : nI s * 128 + nI i = nI (s * 128 + i) := by
  rw [show (128 : Int32) = nI 128 from rfl, pk_mul, nI_add]
theorem nb_v {v : Nat} (h : v ≤ 1) : vp_nar .boolean (nI v) = nI v := by
  have : v = 0 ∨ v = 1 := by omega
  rcases this with rfl | rfl
  · rfl
  · rfl
def yo_is (yo : Nat → Int32) (O : Nat → Nat → Nat) : Prop := ∀ s i, s < 6 → i < 16 → yo (s * 16 + i) = nI (O s i) ∧ O s i ≤ 1
def yk_is (yk : Nat → Int32) (O : Nat → Nat → Nat) : Prop := ∀ s i, s < 6 → i < 128 → yk (s * 128 + i) = nI (O s i) ∧ O s i ≤ 1
/-- one cell of a table set -/
def fs_2 (O : Nat → Nat → Nat) (s i v : Nat) : Nat → Nat → Nat := fun s' i' => if s' = s ∧ i' = i then v else O s' i'
theorem fs_eq {O : Nat → Nat → Nat} {s i v : Nat} : fs_2 O s i v s i = v := if_pos ⟨rfl, rfl⟩
theorem fs_ne {O : Nat → Nat → Nat} {s i v s' i' : Nat} (h : ¬ (s' = s ∧ i' = i)) : fs_2 O s i v s' i' = O s' i' := if_neg h
theorem yo_up {O : Nat → Nat → Nat} {s i v : Nat} (h : yo_is yo O) (hi : i < 16) (hv : v ≤ 1) : yo_is (upd yo (s * 16 + i) (nI v)) (fs_2 O s i v) := by
  intro s' i' hs' hi'
  by_cases c : s' = s ∧ i' = i
  · obtain ⟨rfl, rfl⟩ := c
    rw [pk_us, fs_eq]; exact ⟨rfl, hv⟩
  · rw [fs_ne c, pk_un (by omega)]; exact h s' i' hs' hi'
theorem yk_up {O : Nat → Nat → Nat} {s i v : Nat} (h : yk_is yk O) (hi : i < 128) (hv : v ≤ 1) : yk_is (upd yk (s * 128 + i) (nI v)) (fs_2 O s i v) := by
  intro s' i' hs' hi'
  by_cases c : s' = s ∧ i' = i
  · obtain ⟨rfl, rfl⟩ := c
    rw [pk_us, fs_eq]; exact ⟨rfl, hv⟩
  · rw [fs_ne c, pk_un (by omega)]; exact h s' i' hs' hi'
/-- sums over blocks -/
def ow_sm (f : Nat → Nat) (st : Nat) : Nat → Nat
  | 0 => 0
  | n + 1 => ow_sm f st n + f (st + n)
theorem ow_le {f : Nat → Nat} {st : Nat} : ∀ {n : Nat}, (∀ i, i < n → f (st + i) ≤ 1) → ow_sm f st n ≤ n := by
  intro n
  induction n with
  | zero => intro _; exact Nat.le_refl _
  | succ n ih =>
    intro h
    have h1 := ih (fun i hi => h i (by omega))
    have h2 := h n (by omega)
    show ow_sm f st n + f (st + n) ≤ n + 1
    omega
theorem ow_zero {f : Nat → Nat} {st : Nat} : ∀ {n : Nat}, ow_sm f st n = 0 ↔ ∀ i, i < n → f (st + i) = 0 := by
  intro n
  induction n with
  | zero => exact ⟨fun _ i hi => by omega, fun _ => rfl⟩
  | succ n ih =>
    constructor
    · intro h i hi
      have h' : ow_sm f st n + f (st + n) = 0 := h
      by_cases c : i = n
      · subst c; omega
      · exact ih.1 (by omega) i (by omega)
    · intro h
      show ow_sm f st n + f (st + n) = 0
      rw [ih.2 (fun i hi => h i (by omega)), h n (by omega)]
theorem ow_full {f : Nat → Nat} {st : Nat} : ∀ {n : Nat}, (∀ i, i < n → f (st + i) ≤ 1) → (ow_sm f st n = n ↔ ∀ i, i < n → f (st + i) = 1) := by
  intro n
  induction n with
  | zero => intro _; exact ⟨fun _ i hi => by omega, fun _ => rfl⟩
  | succ n ih =>
    intro hb
    have ih := ih (fun i hi => hb i (by omega))
    have hle := ow_le (f := f) (st := st) (n := n) (fun i hi => hb i (by omega))
    have hn := hb n (by omega)
    constructor
    · intro h i hi
      have h' : ow_sm f st n + f (st + n) = n + 1 := h
      by_cases c : i = n
      · subst c; omega
      · exact ih.1 (by omega) i (by omega)
    · intro h
      show ow_sm f st n + f (st + n) = n + 1
      rw [ih.2 (fun i hi => h i (by omega)), h n (by omega)]
theorem ow_split {f : Nat → Nat} {st : Nat} (a : Nat) : ∀ b : Nat, ow_sm f st (a + b) = ow_sm f st a + ow_sm f (st + a) b := by
  intro b
  induction b with
  | zero => rfl
  | succ b ih =>
    show ow_sm f st (a + b) + f (st + (a + b)) = ow_sm f st a + (ow_sm f (st + a) b + f (st + a + b))
    rw [ih, Nat.add_assoc st a b]; omega
theorem ow_ge {f : Nat → Nat} {st : Nat} : ∀ {n i : Nat}, i < n → f (st + i) ≤ ow_sm f st n := by
  intro n
  induction n with
  | zero => intro i hi; omega
  | succ n ih =>
    intro i hi
    show _ ≤ ow_sm f st n + f (st + n)
    by_cases c : i = n
    · subst c; omega
    · have := ih (i := i) (by omega); omega
theorem ow_congr {f g : Nat → Nat} {st : Nat} : ∀ {n : Nat}, (∀ i, i < n → f (st + i) = g (st + i)) → ow_sm f st n = ow_sm g st n := by
  intro n
  induction n with
  | zero => intro _; rfl
  | succ n ih =>
    intro h
    show ow_sm f st n + f (st + n) = ow_sm g st n + g (st + n)
    rw [ih (fun i hi => h i (by omega)), h n (by omega)]
theorem ow_mx {d : Nat} {f : Nat → Nat} : ow_sm f 0 (2 ^ d) = 0 ↔ tr_mx d f = 0 := by
  rw [ow_zero]
  constructor
  · intro h
    have : tr_mx d f ≤ 0 := tr_mx_le (fun i hi => by have := h i hi; rw [Nat.zero_add] at this; omega)
    omega
  · intro h i hi
    have := tr_mx_ge d f i hi
    rw [Nat.zero_add]; omega
/-- a block that misses a cell has less than the whole -/
theorem ow_less {f : Nat → Nat} {N a n j : Nat} (h : a + n ≤ N) (hj : j < N) (hf : f j ≠ 0) (ho : j < a ∨ a + n ≤ j) : ow_sm f a n ≠ ow_sm f 0 N := by
  have e1 := ow_split (f := f) (st := 0) a n
  have e2 := ow_split (f := f) (st := 0) (a + n) (N - (a + n))
  rw [Nat.zero_add] at e1 e2
  rw [show a + n + (N - (a + n)) = N by omega] at e2
  rcases ho with ho | ho
  · have := ow_ge (f := f) (st := 0) (n := a) (i := j) ho
    rw [Nat.zero_add] at this; omega
  · have := ow_ge (f := f) (st := a + n) (n := N - (a + n)) (i := j - (a + n)) (by omega)
    rw [show a + n + (j - (a + n)) = j by omega] at this; omega
theorem ow_all {f : Nat → Nat} {N a n : Nat} (h : a + n ≤ N) (hf : ∀ j, j < N → f j ≠ 0 → a ≤ j ∧ j < a + n) : ow_sm f a n = ow_sm f 0 N := by
  have e1 := ow_split (f := f) (st := 0) a n
  have e2 := ow_split (f := f) (st := 0) (a + n) (N - (a + n))
  rw [Nat.zero_add] at e1 e2
  rw [show a + n + (N - (a + n)) = N by omega] at e2
  have z1 : ow_sm f 0 a = 0 := ow_zero.2 (fun i hi => by
    rw [Nat.zero_add]
    by_cases c : f i = 0
    · exact c
    · have := hf i (by omega) c; omega)
  have z2 : ow_sm f (a + n) (N - (a + n)) = 0 := ow_zero.2 (fun i hi => by
    by_cases c : f (a + n + i) = 0
    · exact c
    · have := hf (a + n + i) (by omega) c; omega)
  omega
theorem ow_lp {post : Int32 → Prop} {s st sz : Nat} {f : Nat → Nat} (hs : s < 6) (hst : st + sz ≤ 16) (h : ∀ i, i < 16 → yo (s * 16 + i) = nI (f i) ∧ f i ≤ 1) (K : post (nI (ow_sm f st sz))) : ∀ (n m : Nat), n + m = sz + 1 → m ≤ sz →
    wY_owned_6 post (nI s) (nI st) (nI sz) ys yc ye yn yl yo yk n (nI (ow_sm f st m)) (nI (st + m)) := by
  intro n
  induction n with
  | zero => intro m h1 h2; omega
  | succ n ih =>
    intro m h1 h2
    by_cases c : m < sz
    · have hin : vp_in (nI (s * 16 + (st + m))) 96 := vp_in_nI (by omega) (by decide)
      have g := h (st + m) (by omega)
      have e0 : nI st + nI sz = nI (st + sz) := nI_add st sz
      have hs1 : ow_sm f st (m + 1) = ow_sm f st m + f (st + m) := rfl
      refine br_f (by rw [e0]; exact nI_ge (by omega) (by omega)) ?_
      rw [ix_16, nI_clamp (show s * 16 + (st + m) < 2 ^ 31 by omega), g.1]
      refine ⟨hin, pk_eq (f (st + m)) 0 (fun z => nm_r (e' := nI (st + (m + 1))) (nI_1 (st + m)) ?_) (fun z => nm_r (e' := nI (ow_sm f st m + 1)) (nI_1 _) (nm_r (e' := nI (st + (m + 1))) (nI_1 (st + m)) ?_)) rfl rfl (by omega) (by decide)⟩
      · have := ih (m + 1) (by omega) (by omega)
        rw [hs1, z, Nat.add_zero] at this
        exact this
      · have := ih (m + 1) (by omega) (by omega)
        rw [hs1, show f (st + m) = 1 by omega] at this
        exact this
    · have e : m = sz := by omega
      subst e
      exact br_t (by rw [nI_add]; exact nI_le (Nat.le_refl _) (by omega)) K
theorem ow_wp {post : Int32 → Prop} {s st sz : Nat} {f : Nat → Nat} (hs : s < 6) (hst : st + sz ≤ 16) (h : ∀ i, i < 16 → yo (s * 16 + i) = nI (f i) ∧ f i ≤ 1) (K : post (nI (ow_sm f st sz))) : wpY_owned post (ys, yc, ye, yn, yl, yo, yk) (nI s) (nI st) (nI sz) := by
  unfold wpY_owned
  (try dsimp only)
  exact ⟨sz + 1, ow_lp hs hst h K (sz + 1) 0 (by omega) (by omega)⟩
theorem mi_wp {post : Int32 → Prop} {s st sz : Nat} {f : Nat → Nat} (hs : s < 6) (hst : st + sz ≤ 16) (h : ∀ i, i < 16 → yo (s * 16 + i) = nI (f i) ∧ f i ≤ 1)
    (K1 : 0 < ow_sm f st sz ∧ ow_sm f st sz < sz → post 1) (K0 : ow_sm f st sz = 0 ∨ ow_sm f st sz = sz → post 0) : wpY_mixed post (ys, yc, ye, yn, yl, yo, yk) (nI s) (nI st) (nI sz) := by
  unfold wpY_mixed
  (try dsimp only)
  have hl : ow_sm f st sz ≤ sz := ow_le (fun i hi => (h (st + i) (by omega)).2)
  refine ow_wp hs hst h (pk_le (ow_sm f st sz) 0 (fun z => K0 (by omega)) (fun z => pk_le sz (ow_sm f st sz) (fun z' => K0 (by omega)) (fun z' => K1 ⟨z, z'⟩) rfl rfl (by omega) (by omega)) rfl rfl (by omega) (by decide))
theorem sh_par : ∀ e, e < 4 → ∀ st, st < 16 → nI st &&& (((2 : Int32) * nI (2 ^ e) - 1) ^^^ (-1)) = nI (st - st % 2 ^ (e + 1)) := by decide +kernel
theorem sh_dbl : ∀ e, e < 5 → (2 : Int32) * nI (2 ^ e) = nI (2 ^ (e + 1)) := by decide +kernel
theorem sn_wp {post : Int32 → Prop} {s st e d : Nat} {f : Nat → Nat} (hs : s < 6) (hd : d ≤ 4) (ec : yc = nI (2 ^ d)) (he : e < d) (hst : st + 2 ^ e ≤ 2 ^ d) (hal : st % 2 ^ (e + 1) + 2 ^ e ≤ 2 ^ (e + 1)) (h : ∀ i, i < 16 → yo (s * 16 + i) = nI (f i) ∧ f i ≤ 1) (hp : st - st % 2 ^ (e + 1) + 2 ^ (e + 1) ≤ 2 ^ d)
    (K1 : 0 < ow_sm f (st - st % 2 ^ (e + 1)) (2 ^ (e + 1)) ∧ ow_sm f (st - st % 2 ^ (e + 1)) (2 ^ (e + 1)) < 2 ^ (e + 1) → post 1)
    (K0 : ow_sm f (st - st % 2 ^ (e + 1)) (2 ^ (e + 1)) = 0 ∨ ow_sm f (st - st % 2 ^ (e + 1)) (2 ^ (e + 1)) = 2 ^ (e + 1) → post 0) : wpY_shown post (ys, yc, ye, yn, yl, yo, yk) (nI s) (nI st) (nI (2 ^ e)) := by
  have h16 := zz_d4 hd
  have h1 : 2 ^ e < 2 ^ d := Nat.pow_lt_pow_right (by decide) he
  have hq := zz_2p e
  subst ec
  unfold wpY_shown
  (try dsimp only)
  rw [sh_par e (by omega) st (by omega), sh_dbl e (by omega)]
  refine br_f (fun z => ?_) (nm_e (mi_wp hs (by omega) h (fun z => ⟨rfl, K1 z⟩) (fun z => ⟨rfl, K0 z⟩)))
  have := (nI_eq (by omega) (by omega)).1 z
  omega
theorem sn_top {post : Int32 → Prop} {s st d : Nat} (ec : yc = nI (2 ^ d)) (K : post 1) : wpY_shown post (ys, yc, ye, yn, yl, yo, yk) (nI s) (nI st) (nI (2 ^ d)) := by
  subst ec
  unfold wpY_shown
  (try dsimp only)
  exact br_t rfl K
end
end
section
/-! the reference's loops that store -/
section
variable {ys yc ye yn : Int32} {yl yo yk : Nat → Int32}
theorem ch_lp {post : SY → Prop} {a b : Nat} (ha : a < 6) (hb : b < 6) (hab : a ≠ b) : ∀ (n m : Nat) (yk : Nat → Int32) (O : Nat → Nat → Nat), n + m = 129 → m ≤ 128 → yk_is yk O →
    (∀ (yk1 : Nat → Int32) (O1 : Nat → Nat → Nat), yk_is yk1 O1 → (∀ s j, s < 6 → j < 128 → O1 s j = if s = b ∧ m ≤ j then O a j else O s j) → post (ys, yc, ye, yn, yl, yo, yk1)) →
    wY_copyHistory_2 post (nI a) (nI b) ys yc ye yn n (nI m) yl yo yk := by
  intro n
  induction n with
  | zero => intro m yk O h1 h2; omega
  | succ n ih =>
    intro m yk O h1 h2 hO K
    by_cases c : m < 128
    · have i1 : vp_in (nI (a * 128 + m)) 768 := vp_in_nI (by omega) (by decide)
      have i2 : vp_in (nI (b * 128 + m)) 768 := vp_in_nI (by omega) (by decide)
      have g := hO a m ha c
      refine br_f (nI_ge (b := 128) c (by decide)) ?_
      rw [ix_128, ix_128, nI_clamp (show a * 128 + m < 2 ^ 31 by omega), nI_clamp (show b * 128 + m < 2 ^ 31 by omega), g.1, nb_v g.2]
      refine ⟨i1, i2, nm_e (nm_r (nI_1 m) (ih (m + 1) _ _ (by omega) (by omega) (yk_up (s := b) (i := m) hO c g.2) (fun yk1 O1 k1 k2 => K yk1 O1 k1 (fun s j hs hj => ?_))))⟩
      rw [k2 s j hs hj]
      by_cases c1 : s = b ∧ m + 1 ≤ j
      · rw [if_pos c1, if_pos ⟨c1.1, by omega⟩, fs_ne (by omega)]
      · rw [if_neg c1]
        by_cases c2 : s = b ∧ j = m
        · obtain ⟨e1, e2⟩ := c2
          subst e1 e2
          rw [fs_eq, if_pos ⟨rfl, Nat.le_refl _⟩]
        · rw [fs_ne c2, if_neg (by omega)]
    · refine br_t (nI_le (a := 128) (by omega) (by omega)) (K yk O hO (fun s j hs hj => ?_))
      rw [if_neg (by omega)]
theorem ch_wp_y {post : SY → Prop} {a b : Nat} {O : Nat → Nat → Nat} (ha : a < 6) (hb : b < 6) (hab : a ≠ b) (hO : yk_is yk O)
    (K : ∀ (yk1 : Nat → Int32) (O1 : Nat → Nat → Nat), yk_is yk1 O1 → (∀ s j, s < 6 → j < 128 → O1 s j = if s = b then O a j else O s j) → post (ys, yc, ye, yn, yl, yo, yk1)) : wpY_copyHistory post (ys, yc, ye, yn, yl, yo, yk) (nI a) (nI b) := by
  unfold wpY_copyHistory
  (try dsimp only)
  refine ⟨129, ch_lp ha hb hab 129 0 yk O (by omega) (by omega) hO (fun yk1 O1 k1 k2 => K yk1 O1 k1 (fun s j hs hj => ?_))⟩
  rw [k2 s j hs hj]
  by_cases c : s = b
  · rw [if_pos ⟨c, by omega⟩, if_pos c]
  · rw [if_neg (fun z => c z.1), if_neg c]
theorem un_lp2 {post : SY → Prop} {a b : Nat} (ha : a < 6) (hb : b < 6) (hab : a ≠ b) : ∀ (n m : Nat) (yk : Nat → Int32) (O : Nat → Nat → Nat), n + m = 129 → m ≤ 128 → yk_is yk O →
    (∀ (yk1 : Nat → Int32) (O1 : Nat → Nat → Nat), yk_is yk1 O1 → (∀ s j, s < 6 → j < 128 → O1 s j = if s = a ∧ m ≤ j then max (O a j) (O b j) else O s j) → post (ys, yc, ye, yn, yl, yo, yk1)) →
    wY_unite_42 post (nI a) (nI b) ys yc ye yn n (nI m) yl yo yk := by
  intro n
  induction n with
  | zero => intro m yk O h1 h2; omega
  | succ n ih =>
    intro m yk O h1 h2 hO K
    by_cases c : m < 128
    · have i1 : vp_in (nI (a * 128 + m)) 768 := vp_in_nI (by omega) (by decide)
      have i2 : vp_in (nI (b * 128 + m)) 768 := vp_in_nI (by omega) (by decide)
      have g := hO b m hb c
      have g' := hO a m ha c
      refine br_f (nI_ge (b := 128) c (by decide)) ?_
      rw [ix_128, ix_128, nI_clamp (show a * 128 + m < 2 ^ 31 by omega), nI_clamp (show b * 128 + m < 2 ^ 31 by omega), g.1, nb_1]
      refine ⟨i2, pk_eq (O b m) 0 (fun z => nm_r (nI_1 m) (ih (m + 1) _ O (by omega) (by omega) hO (fun yk1 O1 k1 k2 => K yk1 O1 k1 (fun s j hs hj => ?_))))
        (fun z => ⟨i1, nm_e (nm_r (nI_1 m) (ih (m + 1) _ _ (by omega) (by omega) (yk_up (s := a) (i := m) (v := 1) hO c (Nat.le_refl _)) (fun yk1 O1 k1 k2 => K yk1 O1 k1 (fun s j hs hj => ?_))))⟩) rfl rfl (by omega) (by decide)⟩
      · rw [k2 s j hs hj]
        by_cases c1 : s = a ∧ m + 1 ≤ j
        · rw [if_pos c1, if_pos ⟨c1.1, by omega⟩]
        · rw [if_neg c1]
          by_cases c2 : s = a ∧ j = m
          · obtain ⟨e1, e2⟩ := c2
            subst e1 e2
            rw [if_pos ⟨rfl, Nat.le_refl _⟩, z]; omega
          · rw [if_neg (by omega)]
      · rw [k2 s j hs hj]
        by_cases c1 : s = a ∧ m + 1 ≤ j
        · rw [if_pos c1, if_pos ⟨c1.1, by omega⟩, fs_ne (by omega), fs_ne (by omega)]
        · rw [if_neg c1]
          by_cases c2 : s = a ∧ j = m
          · obtain ⟨e1, e2⟩ := c2
            subst e1 e2
            rw [fs_eq, if_pos ⟨rfl, Nat.le_refl _⟩]; omega
          · rw [fs_ne c2, if_neg (by omega)]
    · refine br_t (nI_le (a := 128) (by omega) (by omega)) (K yk O hO (fun s j hs hj => ?_))
      rw [if_neg (by omega)]
theorem un_lp1 {post : SY → Prop} {a b : Nat} (ha : a < 6) (hb : b < 6) (hab : a ≠ b) : ∀ (n m : Nat) (yo : Nat → Int32) (O : Nat → Nat → Nat), n + m = 17 → m ≤ 16 → yo_is yo O →
    (∀ (yo1 : Nat → Int32) (O1 : Nat → Nat → Nat), yo_is yo1 O1 → (∀ s j, s < 6 → j < 16 → O1 s j = if s = a ∧ m ≤ j then max (O a j) (O b j) else O s j) → ∃ n42 : Nat, wY_unite_42 post (nI a) (nI b) ys yc ye yn n42 0 yl yo1 yk) →
    wY_unite_2 post (nI a) (nI b) ys yc ye yn n (nI m) yl yo yk := by
  intro n
  induction n with
  | zero => intro m yo O h1 h2; omega
  | succ n ih =>
    intro m yo O h1 h2 hO K
    by_cases c : m < 16
    · have i1 : vp_in (nI (a * 16 + m)) 96 := vp_in_nI (by omega) (by decide)
      have i2 : vp_in (nI (b * 16 + m)) 96 := vp_in_nI (by omega) (by decide)
      have g := hO b m hb c
      have g' := hO a m ha c
      refine br_f (nI_ge (b := 16) c (by decide)) ?_
      rw [ix_16, ix_16, nI_clamp (show a * 16 + m < 2 ^ 31 by omega), nI_clamp (show b * 16 + m < 2 ^ 31 by omega), g.1, nb_1]
      refine ⟨i2, pk_eq (O b m) 0 (fun z => nm_r (nI_1 m) (ih (m + 1) _ O (by omega) (by omega) hO (fun yk1 O1 k1 k2 => K yk1 O1 k1 (fun s j hs hj => ?_))))
        (fun z => ⟨i1, nm_e (nm_r (nI_1 m) (ih (m + 1) _ _ (by omega) (by omega) (yo_up (s := a) (i := m) (v := 1) hO c (Nat.le_refl _)) (fun yk1 O1 k1 k2 => K yk1 O1 k1 (fun s j hs hj => ?_))))⟩) rfl rfl (by omega) (by decide)⟩
      · rw [k2 s j hs hj]
        by_cases c1 : s = a ∧ m + 1 ≤ j
        · rw [if_pos c1, if_pos ⟨c1.1, by omega⟩]
        · rw [if_neg c1]
          by_cases c2 : s = a ∧ j = m
          · obtain ⟨e1, e2⟩ := c2
            subst e1 e2
            rw [if_pos ⟨rfl, Nat.le_refl _⟩, z]; omega
          · rw [if_neg (by omega)]
      · rw [k2 s j hs hj]
        by_cases c1 : s = a ∧ m + 1 ≤ j
        · rw [if_pos c1, if_pos ⟨c1.1, by omega⟩, fs_ne (by omega), fs_ne (by omega)]
        · rw [if_neg c1]
          by_cases c2 : s = a ∧ j = m
          · obtain ⟨e1, e2⟩ := c2
            subst e1 e2
            rw [fs_eq, if_pos ⟨rfl, Nat.le_refl _⟩]; omega
          · rw [fs_ne c2, if_neg (by omega)]
    · refine br_t (nI_le (a := 16) (by omega) (by omega)) (K yo O hO (fun s j hs hj => ?_))
      rw [if_neg (by omega)]
theorem un_wp {post : SY → Prop} {a b : Nat} {O Q : Nat → Nat → Nat} (ha : a < 6) (hb : b < 6) (hab : a ≠ b) (hO : yo_is yo O) (hQ : yk_is yk Q)
    (K : ∀ (yo1 yk1 : Nat → Int32) (O1 Q1 : Nat → Nat → Nat), yo_is yo1 O1 → yk_is yk1 Q1 → (∀ s j, s < 6 → j < 16 → O1 s j = if s = a then max (O a j) (O b j) else O s j) → (∀ s j, s < 6 → j < 128 → Q1 s j = if s = a then max (Q a j) (Q b j) else Q s j) → post (ys, yc, ye, yn, yl, yo1, yk1)) :
    wpY_unite post (ys, yc, ye, yn, yl, yo, yk) (nI a) (nI b) := by
  unfold wpY_unite
  (try dsimp only)
  refine ⟨17, un_lp1 ha hb hab 17 0 yo O (by omega) (by omega) hO (fun yo1 O1 k1 k2 => ⟨129, un_lp2 ha hb hab 129 0 yk Q (by omega) (by omega) hQ (fun yk1 Q1 k3 k4 => K yo1 yk1 O1 Q1 k1 k3 (fun s j hs hj => ?_) (fun s j hs hj => ?_))⟩)⟩
  · rw [k2 s j hs hj]
    by_cases c : s = a
    · rw [if_pos ⟨c, by omega⟩, if_pos c]
    · rw [if_neg (fun z => c z.1), if_neg c]
  · rw [k4 s j hs hj]
    by_cases c : s = a
    · rw [if_pos ⟨c, by omega⟩, if_pos c]
    · rw [if_neg (fun z => c z.1), if_neg c]
/-- split: the cells from m to the block's end go from a to b -/
theorem ys_92 {post : SY → Prop} {a b st sz : Nat} (ha : a < 6) (hb : b < 6) (hab : a ≠ b) (hs : st + sz ≤ 16) : ∀ (n m : Nat) (yo : Nat → Int32) (O : Nat → Nat → Nat), n + m = st + sz + 1 → m ≤ st + sz → yo_is yo O →
    (∀ (yo1 : Nat → Int32) (O1 : Nat → Nat → Nat), yo_is yo1 O1 → (∀ s j, s < 6 → j < 16 → O1 s j = if s = a ∧ m ≤ j ∧ j < st + sz then 0 else if s = b ∧ m ≤ j ∧ j < st + sz then O a j else O s j) → post (ys, yc, ye, yn, yl, yo1, yk)) →
    wY_split_92 post (nI a) (nI b) (nI sz) (nI st) ys yc ye yn n (nI m) yl yo yk := by
  intro n
  induction n with
  | zero => intro m yo O h1 h2; omega
  | succ n ih =>
    intro m yo O h1 h2 hO K
    by_cases c : m < st + sz
    · have i1 : vp_in (nI (a * 16 + m)) 96 := vp_in_nI (by omega) (by decide)
      have i2 : vp_in (nI (b * 16 + m)) 96 := vp_in_nI (by omega) (by decide)
      have g := hO a m ha (by omega)
      refine br_f (by rw [nI_add]; exact nI_ge c (by omega)) ?_
      rw [ix_16, ix_16, nI_clamp (show a * 16 + m < 2 ^ 31 by omega), nI_clamp (show b * 16 + m < 2 ^ 31 by omega), g.1, nb_v g.2]
      refine ⟨i1, i2, nm_e ⟨i1, nm_e (nm_r (nI_1 m) (ih (m + 1) _ _ (by omega) (by omega) (yo_up (s := a) (i := m) (v := 0) (yo_up (s := b) (i := m) hO (by omega) g.2) (by omega) (by omega)) (fun yk1 O1 k1 k2 => K yk1 O1 k1 (fun s j hs hj => ?_))))⟩⟩
      rw [k2 s j hs hj]
      by_cases c1 : s = a ∧ m + 1 ≤ j ∧ j < st + sz
      · rw [if_pos c1, if_pos ⟨c1.1, by omega⟩]
      · rw [if_neg c1]
        by_cases c2 : s = b ∧ m + 1 ≤ j ∧ j < st + sz
        · rw [if_pos c2, if_neg (by omega), if_pos ⟨c2.1, by omega⟩, fs_ne (by omega), fs_ne (by omega)]
        · rw [if_neg c2]
          by_cases c3 : s = a ∧ j = m
          · obtain ⟨e1, e2⟩ := c3
            subst e1 e2
            rw [fs_eq, if_pos ⟨rfl, Nat.le_refl _, c⟩]
          · rw [fs_ne c3]
            by_cases c4 : s = b ∧ j = m
            · obtain ⟨e1, e2⟩ := c4
              subst e1 e2
              rw [fs_eq, if_neg (by omega), if_pos ⟨rfl, Nat.le_refl _, c⟩]
            · rw [fs_ne c4, if_neg (by omega), if_neg (by omega)]
    · refine br_t (by rw [nI_add]; exact nI_le (by omega) (by omega)) (K yo O hO (fun s j hs hj => ?_))
      rw [if_neg (by omega), if_neg (by omega)]
theorem ys_54 {post : SY → Prop} {J : Int32 → Prop} {a b d k tot : Nat} {O : Nat → Nat → Nat} (ha : a < 6) (hd : d ≤ 4) (hk : k ≤ d) (ec : yc = nI (2 ^ d)) (hO : yo_is yo O) (htot : tot ≤ 16) : ∀ (n q : Nat), n + q = 2 ^ (d - k) + 1 → q ≤ 2 ^ (d - k) →
    ((∀ q', q ≤ q' → q' < 2 ^ (d - k) → ow_sm (O a) (q' * 2 ^ k) (2 ^ k) ≠ tot) → J (nI (2 ^ k * 2))) →
    (∀ q', q ≤ q' → q' < 2 ^ (d - k) → ow_sm (O a) (q' * 2 ^ k) (2 ^ k) = tot → ∃ n92 : Nat, wY_split_92 post (nI a) (nI b) (nI (2 ^ k)) (nI (q' * 2 ^ k)) ys yc ye yn n92 (nI (q' * 2 ^ k + 2 ^ k / 2)) yl yo yk) →
    wY_split_54 post J (nI a) (nI b) (nI tot) (nI (2 ^ k)) ys yc ye yn yl yo yk n (nI (q * 2 ^ k)) := by
  have h16 := zz_d4 hd
  have hN : 2 ^ (d - k) * 2 ^ k = 2 ^ d := by rw [← Nat.pow_add]; congr 1; omega
  have hpk := zz_2p k
  have hkd : 2 ^ k ≤ 2 ^ d := Nat.pow_le_pow_right (by decide) hk
  intro n
  induction n with
  | zero => intro q h1 h2; omega
  | succ n ih =>
    intro q h1 h2 K1 K2
    subst ec
    have e2 : (2 : Int32) = nI 2 := rfl
    by_cases c : q < 2 ^ (d - k)
    · have hb : (q + 1) * 2 ^ k ≤ 2 ^ (d - k) * 2 ^ k := Nat.mul_le_mul_right _ c
      rw [Nat.succ_mul, hN] at hb
      refine br_f (by rw [nI_add]; exact nI_nlt (by omega) (by omega)) (ow_wp ha (by omega) (fun i hi => hO a i ha hi) ?_)
      have hsm : ow_sm (O a) (q * 2 ^ k) (2 ^ k) ≤ 2 ^ k := ow_le (fun i hi => (hO a _ ha (by omega)).2)
      refine pk_eq (ow_sm (O a) (q * 2 ^ k) (2 ^ k)) tot (fun h => ⟨by decide, ?_⟩) (fun h => ?_) rfl rfl (by omega) (by omega)
      · have hdv : nI (2 ^ k) / 2 = nI (2 ^ k / 2) := pk_div (d := 2) (by omega) (by decide) (by decide)
        rw [hdv, nI_add]
        exact nm_e (K2 q (Nat.le_refl _) c h)
      · have hadd : nI (q * 2 ^ k) + nI (2 ^ k) = nI ((q + 1) * 2 ^ k) := by rw [nI_add, Nat.succ_mul]
        refine nm_r hadd (ih (q + 1) (by omega) (by omega) (fun hne => K1 (fun q' hq' hq2 => ?_)) (fun q' hq' hq2 => K2 q' (by omega) hq2))
        by_cases e : q' = q
        · subst e; exact h
        · exact hne q' (by omega) hq2
    · have e : q = 2 ^ (d - k) := by omega
      subst e
      refine br_t (by rw [nI_add, hN]; exact nI_lt (by omega) (by omega)) ?_
      have hm : nI (2 ^ k) * 2 = nI (2 ^ k * 2) := pk_mul (2 ^ k) 2
      exact nm_r hm (K1 (fun q' h1 h2 => by omega))
theorem ys_a {d e st k q : Nat} {f : Nat → Nat} (h2 : 2 ^ (e + 1) ∣ st) (hk : k ≤ e) (hq : q * 2 ^ k + 2 ^ k ≤ 2 ^ d) (h3 : st + 2 ^ (e + 1) ≤ 2 ^ d)
    (h5 : ∃ i, st ≤ i ∧ i < st + 2 ^ e ∧ f i ≠ 0) (h6 : ∃ i, st + 2 ^ e ≤ i ∧ i < st + 2 ^ (e + 1) ∧ f i ≠ 0) : ow_sm f (q * 2 ^ k) (2 ^ k) ≠ ow_sm f 0 (2 ^ d) := by
  obtain ⟨j1, a1, a2, a3⟩ := h5
  obtain ⟨j2, b1, b2, b3⟩ := h6
  have hz := zz_2s e
  have hd1 : 2 ^ k ∣ st + 2 ^ e := Nat.dvd_add (Nat.dvd_trans (Nat.pow_dvd_pow 2 (by omega)) h2) (Nat.pow_dvd_pow 2 hk)
  obtain ⟨r, hr⟩ := hd1
  rw [Nat.mul_comm] at hr
  by_cases c : q < r
  · have : (q + 1) * 2 ^ k ≤ r * 2 ^ k := Nat.mul_le_mul_right _ c
    rw [Nat.succ_mul] at this
    exact ow_less hq (by omega) b3 (Or.inr (by omega))
  · have : r * 2 ^ k ≤ q * 2 ^ k := Nat.mul_le_mul_right _ (by omega)
    exact ow_less hq (by omega) a3 (Or.inl (by omega))
theorem ys_42 {post : SY → Prop} {a b d : Nat} {O : Nat → Nat → Nat} {gl gu : Nat → Nat} (ha : a < 6) (hb : b < 6) (hab : a ≠ b) (hd : d ≤ 4) (ec : yc = nI (2 ^ d)) (hO : yo_is yo O) (hz : ∀ i, i < 2 ^ d → O b i = 0) (sq : sq_S d (O a) gl gu)
    (K : ∀ (yo1 : Nat → Int32) (O1 : Nat → Nat → Nat), yo_is yo1 O1 → (∀ i, i < 2 ^ d → O1 a i = gl i) → (∀ i, i < 2 ^ d → O1 b i = gu i) → (∀ s i, s ≠ a → s ≠ b → s < 6 → i < 16 → O1 s i = O s i) → post (ys, yc, ye, yn, yl, yo1, yk)) :
    ∃ n42 : Nat, wY_split_42 post (nI a) (nI b) (nI (ow_sm (O a) 0 (2 ^ d))) ys yc ye yn yl yo yk n42 2 := by
  have h16 := zz_d4 hd
  obtain ⟨e, st, h1, h2, h3, h4, h5, h6, h7, h8⟩ := sq
  have hze := zz_2s e
  have hpe := zz_2p e
  have htot : ow_sm (O a) 0 (2 ^ d) ≤ 2 ^ d := ow_le (fun i hi => by rw [Nat.zero_add]; exact (hO a i ha (by omega)).2)
  have e4 : ∀ k, 2 ^ k * 2 = 2 ^ (k + 1) := fun k => (Nat.pow_succ 2 k).symm
  have go : ∀ m k n : Nat, m + k = e + 1 → m < n → wY_split_42 post (nI a) (nI b) (nI (ow_sm (O a) 0 (2 ^ d))) ys yc ye yn yl yo yk n (nI (2 ^ k)) := by
    intro m
    induction m with
    | zero =>
      intro k n hk hn
      have hk' : k = e + 1 := by omega
      subst hk'
      obtain ⟨n', rfl⟩ : ∃ n', n = n' + 1 := ⟨n - 1, by omega⟩
      have hkd : 2 ^ (e + 1) ≤ 2 ^ d := Nat.pow_le_pow_right (by decide) h1
      have hN : 2 ^ (d - (e + 1)) * 2 ^ (e + 1) = 2 ^ d := by rw [← Nat.pow_add]; congr 1; omega
      obtain ⟨r, hr⟩ := h2
      rw [Nat.mul_comm] at hr
      have hrN : r < 2 ^ (d - (e + 1)) := by
        apply Nat.lt_of_not_le
        intro z
        have := Nat.mul_le_mul_right (2 ^ (e + 1)) z
        omega
      subst ec
      refine br_f (nI_nlt hkd (by omega)) ⟨2 ^ (d - (e + 1)) + 1, ?_⟩
      have := ys_54 (post := post) (J := wY_split_42 post (nI a) (nI b) (nI (ow_sm (O a) 0 (2 ^ d))) ys (nI (2 ^ d)) ye yn yl yo yk n') (b := b) ha hd h1 rfl hO (tot := ow_sm (O a) 0 (2 ^ d)) (by omega) (2 ^ (d - (e + 1)) + 1) 0 (by omega) (by omega) (ys := ys) (ye := ye) (yn := yn) (yl := yl) (yk := yk) (fun hne => ?_) (fun q' _ hq2 heq => ?_)
      · rw [Nat.zero_mul] at this; exact this
      · exact absurd (by rw [← hr]; exact ow_all h3 h4) (hne r (Nat.zero_le _) hrN)
      · have hqr : q' = r := by
          have hq3 := Nat.mul_le_mul_right (2 ^ (e + 1)) hq2
          rw [Nat.succ_mul, hN] at hq3
          obtain ⟨j1, a1, a2, a3⟩ := h5
          apply Decidable.byContradiction
          intro z
          have zz : q' < r ∨ r < q' := by omega
          rcases zz with zz | zz
          · have := Nat.mul_le_mul_right (2 ^ (e + 1)) zz
            rw [Nat.succ_mul] at this
            exact ow_less hq3 (by omega) a3 (Or.inr (by omega)) heq
          · have := Nat.mul_le_mul_right (2 ^ (e + 1)) zz
            rw [Nat.succ_mul] at this
            exact ow_less hq3 (by omega) a3 (Or.inl (by omega)) heq
        subst hqr
        rw [← hr, show 2 ^ (e + 1) / 2 = 2 ^ e by omega]
        refine ⟨2 ^ e + 1, ys_92 ha hb hab (by omega) (2 ^ e + 1) (st + 2 ^ e) yo O (by omega) (by omega) hO (fun yo1 O1 k1 k2 => K yo1 O1 k1 (fun i hi => ?_) (fun i hi => ?_) (fun s i n1 n2 hs hi => ?_))⟩
        · rw [k2 a i ha (by omega), h7 i hi]
          by_cases c : i < st + 2 ^ e
          · rw [if_pos c, if_neg (by omega), if_neg (by omega)]
          · rw [if_neg c]
            by_cases c2 : i < st + 2 ^ (e + 1)
            · rw [if_pos ⟨rfl, by omega, c2⟩]
            · rw [if_neg (by omega), if_neg (by omega)]
              apply Decidable.byContradiction
              intro z
              have := h4 i hi z; omega
        · rw [k2 b i hb (by omega), h8 i hi, if_neg (fun z => hab z.1.symm)]
          by_cases c : i < st + 2 ^ e
          · rw [if_pos c, if_neg (by omega), hz i hi]
          · rw [if_neg c]
            by_cases c2 : i < st + 2 ^ (e + 1)
            · rw [if_pos ⟨rfl, by omega, c2⟩]
            · rw [if_neg (by omega), hz i hi]
              apply Decidable.byContradiction
              intro z
              have := h4 i hi (fun w => z w.symm); omega
        · rw [k2 s i hs hi, if_neg (fun z => n1 z.1), if_neg (fun z => n2 z.1)]
    | succ m ih =>
      intro k n hk hn
      obtain ⟨n', rfl⟩ : ∃ n', n = n' + 1 := ⟨n - 1, by omega⟩
      have hkd : 2 ^ k ≤ 2 ^ d := Nat.pow_le_pow_right (by decide) (by omega)
      have hpp := zz_2p (d - k)
      have hN : 2 ^ (d - k) * 2 ^ k = 2 ^ d := by rw [← Nat.pow_add]; congr 1; omega
      subst ec
      refine br_f (nI_nlt hkd (by omega)) ⟨2 ^ (d - k) + 1, ?_⟩
      have := ys_54 (post := post) (J := wY_split_42 post (nI a) (nI b) (nI (ow_sm (O a) 0 (2 ^ d))) ys (nI (2 ^ d)) ye yn yl yo yk n') (b := b) ha hd (show k ≤ d by omega) rfl hO (tot := ow_sm (O a) 0 (2 ^ d)) (by omega) (2 ^ (d - k) + 1) 0 (by omega) (by omega) (ys := ys) (ye := ye) (yn := yn) (yl := yl) (yk := yk) (fun hne => ?_) (fun q' _ hq2 heq => ?_)
      · rw [Nat.zero_mul] at this; exact this
      · rw [e4 k]
        exact ih (k + 1) n' (by omega) (by omega)
      · have hq3 := Nat.mul_le_mul_right (2 ^ k) hq2
        rw [Nat.succ_mul, hN] at hq3
        exact absurd heq (ys_a h2 (by omega) hq3 h3 h5 h6)
  exact ⟨e + 1, go e 1 (e + 1) (by omega) (by omega)⟩
theorem ys_2 {post : SY → Prop} {a b d : Nat} (ha : a < 6) (hb : b < 6) (hab : a ≠ b) (hd : d ≤ 4) (ec : yc = nI (2 ^ d)) {gl gu : Nat → Nat} : ∀ (n m : Nat) (yo : Nat → Int32) (O : Nat → Nat → Nat), n + m = 2 ^ d + 1 → m ≤ 2 ^ d → yo_is yo O →
    (∀ i, i < m → O b i = 0) → sq_S d (O a) gl gu →
    (∀ (yo1 : Nat → Int32) (O1 : Nat → Nat → Nat), yo_is yo1 O1 → (∀ i, i < 2 ^ d → O1 a i = gl i) → (∀ i, i < 2 ^ d → O1 b i = gu i) → (∀ s i, s ≠ a → s ≠ b → s < 6 → i < 16 → O1 s i = O s i) → post (ys, yc, ye, yn, yl, yo1, yk)) →
    wY_split_2 post (nI a) (nI b) ys yc ye yn n (nI m) yl yo yk := by
  have h16 := zz_d4 hd
  intro n
  induction n with
  | zero => intro m yo O h1 h2; omega
  | succ n ih =>
    intro m yo O h1 h2 hO hz sq K
    by_cases c : m < 2 ^ d
    · have i2 : vp_in (nI (b * 16 + m)) 96 := vp_in_nI (by omega) (by decide)
      refine br_f (by rw [ec]; exact nI_ge c (by omega)) ?_
      rw [ix_16, nI_clamp (show b * 16 + m < 2 ^ 31 by omega), nb_0]
      refine ⟨i2, nm_e (nm_r (nI_1 m) (ih (m + 1) _ _ (by omega) (by omega) (yo_up (s := b) (i := m) (v := 0) hO (by omega) (by omega)) (fun i hi => ?_) ?_ (fun yo1 O1 k1 k2 k3 k4 => K yo1 O1 k1 k2 k3 (fun s i n1 n2 hs hi => ?_))))⟩
      · by_cases e : i = m
        · subst e; exact fs_eq
        · rw [fs_ne (fun z => e z.2)]; exact hz i (by omega)
      · have : fs_2 O b m 0 a = O a := by funext i; exact fs_ne (fun z => hab z.1)
        rw [this]; exact sq
      · rw [k4 s i n1 n2 hs hi, fs_ne (fun z => n2 z.1)]
    · have e : m = 2 ^ d := by omega
      subst e
      refine br_t (by rw [ec]; exact nI_le (Nat.le_refl _) (by omega)) ?_
      have := ys_42 (post := post) (ys := ys) (ye := ye) (yn := yn) (yl := yl) (yk := yk) ha hb hab hd ec hO hz sq K
      rw [ec] at this ⊢
      exact ow_wp (st := 0) (sz := 2 ^ d) ha (by omega) (fun i hi => hO a i ha hi) this
theorem ys_wp {post : SY → Prop} {a b d : Nat} {O : Nat → Nat → Nat} {gl gu : Nat → Nat} (ha : a < 6) (hb : b < 6) (hab : a ≠ b) (hd : d ≤ 4) (ec : yc = nI (2 ^ d)) (hO : yo_is yo O) (sq : sq_S d (O a) gl gu)
    (K : ∀ (yo1 : Nat → Int32) (O1 : Nat → Nat → Nat), yo_is yo1 O1 → (∀ i, i < 2 ^ d → O1 a i = gl i) → (∀ i, i < 2 ^ d → O1 b i = gu i) → (∀ s i, s ≠ a → s ≠ b → s < 6 → i < 16 → O1 s i = O s i) → post (ys, yc, ye, yn, yl, yo1, yk)) :
    wpY_split post (ys, yc, ye, yn, yl, yo, yk) (nI a) (nI b) := by
  have h16 := zz_d4 hd
  have hpp := zz_2p d
  unfold wpY_split
  (try dsimp only)
  exact ⟨2 ^ d + 1, ys_2 ha hb hab hd ec (2 ^ d + 1) 0 yo O (by omega) (by omega) hO (fun i hi => by omega) sq K⟩
/-- seed's and peek's rows -/
theorem yd_78 {post : Int32 → SY → Prop} {a : Nat} (ha : a < 6) : ∀ (n m : Nat) (yk : Nat → Int32) (O : Nat → Nat → Nat), n + m = 129 → m ≤ 128 → yk_is yk O →
    (∀ (yk1 : Nat → Int32) (O1 : Nat → Nat → Nat), yk_is yk1 O1 → (∀ s j, s < 6 → j < 128 → O1 s j = if s = a ∧ m ≤ j then 0 else O s j) → post 0 (ys, yc, ye, 0, upd yl a 1, yo, yk1)) →
    wY_seed_78 post (nI a) ys yc ye yn n (nI m) yl yo yk := by
  intro n
  induction n with
  | zero => intro m yk O h1 h2; omega
  | succ n ih =>
    intro m yk O h1 h2 hO K
    by_cases c : m < 128
    · have i2 : vp_in (nI (a * 128 + m)) 768 := vp_in_nI (by omega) (by decide)
      refine br_f (nI_ge (b := 128) c (by decide)) ?_
      rw [ix_128, nI_clamp (show a * 128 + m < 2 ^ 31 by omega), nb_0]
      refine ⟨i2, nm_e (nm_r (nI_1 m) (ih (m + 1) _ _ (by omega) (by omega) (yk_up (s := a) (i := m) (v := 0) hO c (by omega)) (fun yk1 O1 k1 k2 => K yk1 O1 k1 (fun s j hs hj => ?_))))⟩
      rw [k2 s j hs hj]
      by_cases c1 : s = a ∧ m + 1 ≤ j
      · rw [if_pos c1, if_pos ⟨c1.1, by omega⟩]
      · rw [if_neg c1]
        by_cases c2 : s = a ∧ j = m
        · obtain ⟨e1, e2⟩ := c2
          subst e1 e2
          rw [fs_eq, if_pos ⟨rfl, Nat.le_refl _⟩]
        · rw [fs_ne c2, if_neg (by omega)]
    · refine br_t (nI_le (a := 128) (by omega) (by omega)) ?_
      rw [nI_clamp (show a < 2 ^ 31 by omega), nb_1]
      refine ⟨vp_in_nI ha (by decide), nm_e (K yk O hO (fun s j hs hj => ?_))⟩
      rw [if_neg (by omega)]
theorem yd_40 {post : Int32 → SY → Prop} {a d : Nat} (ha : a < 6) (hd : d ≤ 4) (ec : yc = nI (2 ^ d)) : ∀ (n m : Nat) (yo : Nat → Int32) (O : Nat → Nat → Nat), n + m = 17 → m ≤ 16 → yo_is yo O →
    (∀ (yo1 : Nat → Int32) (O1 : Nat → Nat → Nat), yo_is yo1 O1 → (∀ s j, s < 6 → j < 16 → O1 s j = if s = a ∧ m ≤ j then (if j < 2 ^ d then 1 else 0) else O s j) → ∃ n78 : Nat, wY_seed_78 post (nI a) ys yc ye yn n78 0 yl yo1 yk) →
    wY_seed_40 post (nI a) ys yc ye yn n (nI m) yl yo yk := by
  have h16 := zz_d4 hd
  intro n
  induction n with
  | zero => intro m yo O h1 h2; omega
  | succ n ih =>
    intro m yo O h1 h2 hO K
    by_cases c : m < 16
    · have i2 : vp_in (nI (a * 16 + m)) 96 := vp_in_nI (by omega) (by decide)
      refine br_f (nI_ge (b := 16) c (by decide)) ?_
      rw [ix_16, nI_clamp (show a * 16 + m < 2 ^ 31 by omega), nb_0, nb_1]
      refine pk_le (2 ^ d) m (fun z => ⟨i2, nm_e (nm_r (nI_1 m) (ih (m + 1) _ _ (by omega) (by omega) (yo_up (s := a) (i := m) (v := 0) hO c (by omega)) (fun yk1 O1 k1 k2 => K yk1 O1 k1 (fun s j hs hj => ?_))))⟩) (fun z => ⟨i2, nm_e (nm_r (nI_1 m) (ih (m + 1) _ _ (by omega) (by omega) (yo_up (s := a) (i := m) (v := 1) hO c (by omega)) (fun yk1 O1 k1 k2 => K yk1 O1 k1 (fun s j hs hj => ?_))))⟩) ec rfl (by omega) (by omega)
      · rw [k2 s j hs hj]
        by_cases c1 : s = a ∧ m + 1 ≤ j
        · rw [if_pos c1, if_pos (show s = a ∧ m ≤ j from ⟨c1.1, by omega⟩)]
        · rw [if_neg c1]
          by_cases c2 : s = a ∧ j = m
          · obtain ⟨e1, e2⟩ := c2
            subst e1 e2
            rw [fs_eq, if_pos ⟨rfl, Nat.le_refl _⟩, if_neg (by omega)]
          · rw [fs_ne c2, if_neg (by omega)]
      · rw [k2 s j hs hj]
        by_cases c1 : s = a ∧ m + 1 ≤ j
        · rw [if_pos c1, if_pos (show s = a ∧ m ≤ j from ⟨c1.1, by omega⟩)]
        · rw [if_neg c1]
          by_cases c2 : s = a ∧ j = m
          · obtain ⟨e1, e2⟩ := c2
            subst e1 e2
            rw [fs_eq, if_pos ⟨rfl, Nat.le_refl _⟩, if_pos z]
          · rw [fs_ne c2, if_neg (by omega)]
    · refine br_t (nI_le (a := 16) (by omega) (by omega)) (K yo O hO (fun s j hs hj => ?_))
      rw [if_neg (by omega)]
theorem yp_52 {post : Int32 → SY → Prop} {a b : Nat} {Q : Nat → Nat → Nat} (ha : a < 6) (hb : b < 6) (hab : a ≠ b) (hQ : yk_is yk Q) : ∀ (n m : Nat) (yo : Nat → Int32) (O : Nat → Nat → Nat), n + m = 17 → m ≤ 16 → yo_is yo O →
    (∀ (yo1 yk1 : Nat → Int32) (O1 Q1 : Nat → Nat → Nat), yo_is yo1 O1 → yk_is yk1 Q1 → (∀ s j, s < 6 → j < 16 → O1 s j = if s = b ∧ m ≤ j then 0 else O s j) → (∀ s j, s < 6 → j < 128 → Q1 s j = if s = b then Q a j else Q s j) → post 0 (ys, yc, ye, yn, upd yl b 1, yo1, yk1)) →
    wY_peek_52 post (nI a) (nI b) ys yc ye yn n (nI m) yl yo yk := by
  intro n
  induction n with
  | zero => intro m yo O h1 h2; omega
  | succ n ih =>
    intro m yo O h1 h2 hO K
    by_cases c : m < 16
    · have i2 : vp_in (nI (b * 16 + m)) 96 := vp_in_nI (by omega) (by decide)
      refine br_f (nI_ge (b := 16) c (by decide)) ?_
      rw [ix_16, nI_clamp (show b * 16 + m < 2 ^ 31 by omega), nb_0]
      refine ⟨i2, nm_e (nm_r (nI_1 m) (ih (m + 1) _ _ (by omega) (by omega) (yo_up (s := b) (i := m) (v := 0) hO c (by omega)) (fun yo1 yk1 O1 Q1 k1 k2 k3 k4 => K yo1 yk1 O1 Q1 k1 k2 (fun s j hs hj => ?_) k4)))⟩
      rw [k3 s j hs hj]
      by_cases c1 : s = b ∧ m + 1 ≤ j
      · rw [if_pos c1, if_pos ⟨c1.1, by omega⟩]
      · rw [if_neg c1]
        by_cases c2 : s = b ∧ j = m
        · obtain ⟨e1, e2⟩ := c2
          subst e1 e2
          rw [fs_eq, if_pos ⟨rfl, Nat.le_refl _⟩]
        · rw [fs_ne c2, if_neg (by omega)]
    · refine br_t (nI_le (a := 16) (by omega) (by omega)) (ch_wp_y ha hb hab hQ (fun yk1 Q1 k1 k2 => ⟨vp_in_nI hb (by decide), ?_⟩))
      rw [nI_clamp (show b < 2 ^ 31 by omega), nb_1]
      refine nm_e (K yo yk1 O Q1 hO k1 (fun s j hs hj => ?_) k2)
      rw [if_neg (by omega)]
end
end
section
/-! the text of an identity: the reference's walk -/
section
variable {ys yc ye yn : Int32} {yl yo yk : Nat → Int32}
def yi_mi (f : Nat → Nat) (k st : Nat) : Bool := decide (0 < ow_sm f st (2 ^ k) ∧ ow_sm f st (2 ^ k) < 2 ^ k)
def yi_sh (d : Nat) (f : Nat → Nat) (k st : Nat) : Bool := decide (k = d) || yi_mi f (k + 1) (st - st % 2 ^ (k + 1))
def yi_sep (d k st : Nat) : List Nat := if k < d ∧ st % 2 ^ (k + 1) = 0 then [44] else []
def yi_op (d : Nat) (f : Nat → Nat) (k st : Nat) : List Nat := if yi_sh d f k st = true then [if yi_mi f k st = true then 40 else 48 + f st] else []
def yi_cl (d : Nat) (f : Nat → Nat) (k st : Nat) : List Nat := if yi_sh d f k st = true then (if yi_mi f k st = true then [41] else []) ++ yi_sep d k st else []
def yi_tt (d : Nat) (f : Nat → Nat) : Nat → Nat → List Nat
  | 0, st => yi_op d f 0 st ++ yi_cl d f 0 st
  | k + 1, st => yi_op d f (k + 1) st ++ (yi_tt d f k st ++ (yi_tt d f k (st + 2 ^ k) ++ yi_cl d f (k + 1) st))
theorem yi_mt {f : Nat → Nat} {k st : Nat} (hb : ∀ i, i < 2 ^ k → f (st + i) ≤ 1) : yi_mi f k st = true ↔ tr_mn k (fun i => f (st + i)) ≠ tr_mx k (fun i => f (st + i)) := by
  have hle := ow_le (f := f) (st := st) (n := 2 ^ k) hb
  have hz := ow_zero (f := f) (st := st) (n := 2 ^ k)
  have hf := ow_full (f := f) (st := st) (n := 2 ^ k) hb
  have hm := tr_mnx k (fun i => f (st + i))
  have hx : tr_mx k (fun i => f (st + i)) ≤ 1 := tr_mx_le hb
  have hp := zz_2p k
  unfold yi_mi
  rw [decide_eq_true_eq]
  constructor
  · intro h e
    have hc := tr_const e
    by_cases c : tr_mn k (fun i => f (st + i)) = 0
    · have := hz.2 (fun i hi => by have := hc i hi; rw [c] at this; exact this)
      omega
    · have := hf.2 (fun i hi => by have := hc i hi; (try dsimp only at this); omega)
      omega
  · intro h
    constructor
    · apply Nat.pos_of_ne_zero
      intro z
      have h0 := hz.1 z
      exact h (by rw [tr_mn_c (c := 0) h0, tr_mx_c (c := 0) h0])
    · apply Nat.lt_of_le_of_ne hle
      intro z
      have h0 := hf.1 z
      exact h (by rw [tr_mn_c (c := 1) h0, tr_mx_c (c := 1) h0])
theorem yi_al {k st : Nat} (h : st % 2 ^ (k + 1) = 0) : st % 2 ^ k = 0 ∧ (st + 2 ^ k) % 2 ^ k = 0 ∧ (st + 2 ^ k) % 2 ^ (k + 1) = 2 ^ k := by
  have hz := zz_2s k
  have hp := zz_2p k
  have h1 : st % 2 ^ k = 0 := Nat.mod_eq_zero_of_dvd (Nat.dvd_trans (Nat.pow_dvd_pow 2 (by omega)) (Nat.dvd_of_mod_eq_zero h))
  refine ⟨h1, by rw [Nat.add_mod_right]; exact h1, ?_⟩
  rw [Nat.add_mod, h, Nat.zero_add, Nat.mod_mod, Nat.mod_eq_of_lt (by omega)]
theorem yi_par : ∀ d, d < 5 → ∀ e, e < d → ∀ st, st < 2 ^ d → st % 2 ^ e = 0 → st - st % 2 ^ (e + 1) + 2 ^ (e + 1) ≤ 2 ^ d ∧ st % 2 ^ (e + 1) + 2 ^ e ≤ 2 ^ (e + 1) := by decide +kernel
/-- the reference's characters are the text -/
theorem yi_txt {d : Nat} {f : Nat → Nat} (hd : d ≤ 4) (hf : ∀ i, i < 2 ^ d → f i ≤ 1) : ∀ (k st : Nat), k ≤ d → st % 2 ^ k = 0 → st + 2 ^ k ≤ 2 ^ d →
    yi_tt d f k st = if yi_sh d f k st = true then tx_T k (fun i => f (st + i)) ++ yi_sep d k st else [] := by
  intro k
  induction k with
  | zero =>
    intro st hk hal hst
    unfold yi_tt yi_op yi_cl
    have hm : ¬ yi_mi f 0 st = true := by
      rw [yi_mt (fun i hi => hf _ (by omega))]
      intro z; exact z rfl
    by_cases c : yi_sh d f 0 st = true
    · rw [if_pos c, if_pos c, if_pos c, if_neg hm, if_neg hm]
      rfl
    · rw [if_neg c, if_neg c, if_neg c]; rfl
  | succ k ih =>
    intro st hk hal hst
    have hz := zz_2s k
    obtain ⟨a1, a2, a3⟩ := yi_al hal
    have hb : ∀ i, i < 2 ^ (k + 1) → f (st + i) ≤ 1 := fun i hi => hf _ (by omega)
    have i1 := ih st (by omega) a1 (by omega)
    have i2 := ih (st + 2 ^ k) (by omega) a2 (by omega)
    have s1 : yi_sh d f k st = yi_mi f (k + 1) st := by
      unfold yi_sh
      rw [decide_eq_false (show ¬ k = d by omega), Bool.false_or, hal, Nat.sub_zero]
    have s2 : yi_sh d f k (st + 2 ^ k) = yi_mi f (k + 1) st := by
      unfold yi_sh
      rw [decide_eq_false (show ¬ k = d by omega), Bool.false_or, a3, Nat.add_sub_cancel]
    have p1 : yi_sep d k st = [44] := if_pos ⟨by omega, hal⟩
    have p2 : yi_sep d k (st + 2 ^ k) = [] := if_neg (fun z => by have := z.2; have := zz_2p k; omega)
    rw [s1, p1] at i1
    rw [s2, p2] at i2
    unfold yi_tt
    rw [i1, i2]
    unfold yi_op yi_cl
    have hmt := yi_mt hb
    have e2 : (fun i => f (st + 2 ^ k + i)) = (fun i => f (st + (2 ^ k + i))) := by funext i; rw [Nat.add_assoc]
    by_cases c : yi_mi f (k + 1) st = true
    · have hne := hmt.1 c
      rw [if_pos c, if_pos c, if_pos c, if_pos c]
      by_cases cs : yi_sh d f (k + 1) st = true
      · rw [if_pos cs, if_pos cs, if_pos cs]
        rw [show tx_T (k + 1) (fun i => f (st + i)) = 40 :: (tx_T k (fun i => f (st + i)) ++ (44 :: (tx_T k (fun i => f (st + (2 ^ k + i))) ++ [41]))) from by rw [tx_T, if_neg hne]]
        rw [e2]
        simp
      · exfalso
        apply cs
        unfold yi_sh
        by_cases cd : k + 1 = d
        · rw [decide_eq_true cd, Bool.true_or]
        · exfalso
          have hpar : yi_sh d f (k + 1) st = yi_mi f (k + 1 + 1) (st - st % 2 ^ (k + 1 + 1)) := by
            unfold yi_sh
            rw [decide_eq_false cd, Bool.false_or]
          rw [hpar] at cs
          have hp1 := zz_2p (k + 1)
          have hle := Nat.mod_le st (2 ^ (k + 1 + 1))
          have hz2 := zz_2s (k + 1)
          have yp := yi_par d (by omega) (k + 1) (by omega) st (by omega) hal
          have hb2 : ∀ i, i < 2 ^ (k + 1 + 1) → f (st - st % 2 ^ (k + 1 + 1) + i) ≤ 1 := fun i hi => hf _ (by omega)
          have hle2 := ow_le (f := f) (st := st - st % 2 ^ (k + 1 + 1)) (n := 2 ^ (k + 1 + 1)) hb2
          unfold yi_mi at c cs
          rw [decide_eq_true_eq] at c cs
          by_cases c0 : ow_sm f (st - st % 2 ^ (k + 1 + 1)) (2 ^ (k + 1 + 1)) = 0
          · have := ow_zero.1 c0
            have z : ow_sm f st (2 ^ (k + 1)) = 0 := ow_zero.2 (fun i hi => by
              have := this (st % 2 ^ (k + 1 + 1) + i) (by omega)
              rwa [show st - st % 2 ^ (k + 1 + 1) + (st % 2 ^ (k + 1 + 1) + i) = st + i by omega] at this)
            omega
          · have c1 : ow_sm f (st - st % 2 ^ (k + 1 + 1)) (2 ^ (k + 1 + 1)) = 2 ^ (k + 1 + 1) := by omega
            have := (ow_full hb2).1 c1
            have z : ow_sm f st (2 ^ (k + 1)) = 2 ^ (k + 1) := (ow_full hb).2 (fun i hi => by
              have := this (st % 2 ^ (k + 1 + 1) + i) (by omega)
              rwa [show st - st % 2 ^ (k + 1 + 1) + (st % 2 ^ (k + 1 + 1) + i) = st + i by omega] at this)
            omega
    · have hco : tr_mn (k + 1) (fun i => f (st + i)) = tr_mx (k + 1) (fun i => f (st + i)) := Decidable.byContradiction (fun z => c (hmt.2 z))
      rw [if_neg c, if_neg c, if_neg c, if_neg c]
      by_cases cs : yi_sh d f (k + 1) st = true
      · rw [if_pos cs, if_pos cs, if_pos cs]
        rw [show tx_T (k + 1) (fun i => f (st + i)) = [48 + f (st + 0)] from by rw [tx_T, if_pos hco]]
        simp
      · rw [if_neg cs, if_neg cs, if_neg cs]; rfl

theorem yi_msk {p k : Nat} (hp : p < 2 ^ 31) (hk : k ≤ 5) : nI p &&& (nI (2 ^ k) - 1) = nI (p % 2 ^ k) := by
  have h32 : 2 ^ k ≤ 2 ^ 5 := Nat.pow_le_pow_right (by decide) hk
  have e : nI (2 ^ k) - 1 = nI (2 ^ k - 1) := pk_sub (b := 1) (zz_2p k)
  rw [e]
  exact pk_andN (by omega) k (pk_tn (by omega))
theorem yi_hlf {k : Nat} (hk : k ≤ 5) : nI (2 ^ k) / 2 = nI (2 ^ k / 2) := by
  have h32 : 2 ^ k ≤ 2 ^ 5 := Nat.pow_le_pow_right (by decide) hk
  exact pk_div (d := 2) (by omega) (by decide) (by decide)
theorem yi_dbl (k : Nat) : nI (2 ^ k) * 2 = nI (2 ^ (k + 1)) := by
  rw [Nat.pow_succ]; exact pk_mul (2 ^ k) 2
theorem yi_shw {post : Int32 → Prop} {s st k d : Nat} {f : Nat → Nat} (hs : s < 6) (hd : d ≤ 4) (ec : yc = nI (2 ^ d)) (hk : k ≤ d) (hal : st % 2 ^ k = 0) (hst : st + 2 ^ k ≤ 2 ^ d) (h : ∀ i, i < 16 → yo (s * 16 + i) = nI (f i) ∧ f i ≤ 1)
    (K1 : yi_sh d f k st = true → post 1) (K0 : ¬ yi_sh d f k st = true → post 0) : wpY_shown post (ys, yc, ye, yn, yl, yo, yk) (nI s) (nI st) (nI (2 ^ k)) := by
  by_cases c : k = d
  · subst c
    exact sn_top ec (K1 (by unfold yi_sh; rw [decide_eq_true rfl, Bool.true_or]))
  · have hp := zz_2p k
    have yp := yi_par d (by omega) k (by omega) st (by omega) hal
    have e : yi_sh d f k st = yi_mi f (k + 1) (st - st % 2 ^ (k + 1)) := by
      unfold yi_sh; rw [decide_eq_false c, Bool.false_or]
    rw [e] at K1 K0
    unfold yi_mi at K1 K0
    rw [decide_eq_true_eq] at K1 K0
    exact sn_wp hs hd ec (by omega) hst yp.2 h yp.1 K1 (fun z => K0 (by omega))
theorem yi_miw {post : Int32 → Prop} {s st k : Nat} {f : Nat → Nat} (hs : s < 6) (hst : st + 2 ^ k ≤ 16) (h : ∀ i, i < 16 → yo (s * 16 + i) = nI (f i) ∧ f i ≤ 1)
    (K1 : yi_mi f k st = true → post 1) (K0 : ¬ yi_mi f k st = true → post 0) : wpY_mixed post (ys, yc, ye, yn, yl, yo, yk) (nI s) (nI st) (nI (2 ^ k)) := by
  unfold yi_mi at K1 K0
  rw [decide_eq_true_eq] at K1 K0
  exact mi_wp hs hst h K1 (fun z => K0 (by omega))
/-- a block's opening -/
theorem yi_49 {post : Int32 → Prop} {J : Int32 → Int32 → Prop} {s st k d pos at' n : Nat} {f : Nat → Nat} {Z pre suf : List Nat} (hs : s < 6) (hd : d ≤ 4) (ec : yc = nI (2 ^ d)) (hk : k ≤ d) (hal : st % 2 ^ k = 0) (hst : st + 2 ^ k ≤ 2 ^ d) (h : ∀ i, i < 16 → yo (s * 16 + i) = nI (f i) ∧ f i ≤ 1)
    (hpos : pos < 2 ^ 31) (hle : at' ≤ pos) (hZ : Z = pre ++ (yi_op d f k st ++ suf)) (hl : at' = pre.length) (H : ∀ ch, Z[pos]? = some ch → post (nI ch))
    (K : at' + (yi_op d f k st).length ≤ pos → wY_idChar_49 post J (nI s) (nI pos) (nI st) ys yc ye yn yl yo yk n (nI (at' + (yi_op d f k st).length)) (nI (2 ^ k / 2))) :
    wY_idChar_49 post J (nI s) (nI pos) (nI st) ys yc ye yn yl yo yk (n + 1) (nI at') (nI (2 ^ k)) := by
  have h16 := zz_d4 hd
  have hp := zz_2p k
  refine br_f (nI_nlt (b := 1) hp (by omega)) ?_
  rw [yi_msk (by omega) (by omega), hal]
  refine br_t rfl (yi_shw hs hd ec hk hal hst h (fun hsh => br_f (by decide) ?_) (fun hsh => br_t rfl ⟨by decide, ?_⟩))
  · have e1 : yi_op d f k st = [if yi_mi f k st = true then 40 else 48 + f st] := if_pos hsh
    rw [e1] at hZ K
    refine pk_eq at' pos (fun e => ?_) (fun e => nm_r (nI_1 at') ⟨by decide, nm_r (yi_hlf (by omega)) (K (by simp only [List.length_cons, List.length_nil]; omega))⟩) rfl rfl (by omega) hpos
    have hz : Z[pos]? = some (if yi_mi f k st = true then 40 else 48 + f st) := by
      rw [hZ, ← e, hl]; exact tx_at _ _ _
    have HH := H _ hz
    have g := h st (by omega)
    refine yi_miw hs (by omega) h (fun c => br_f (by decide) ?_) (fun c => br_t rfl ?_)
    · rw [if_pos c] at HH; exact HH
    · rw [if_neg c] at HH
      rw [ix_16, nI_clamp (show s * 16 + st < 2 ^ 31 by omega), g.1]
      refine ⟨vp_in_nI (by omega) (by decide), pk_eq (f st) 0 (fun z => ?_) (fun z => ?_) rfl rfl (by omega) (by decide)⟩
      · rw [z] at HH; exact HH
      · rw [show f st = 1 by omega] at HH; exact HH
  · have e1 : yi_op d f k st = [] := if_neg hsh
    rw [e1] at K
    exact nm_r (yi_hlf (by omega)) (K hle)
theorem yi_49s {post : Int32 → Prop} {J : Int32 → Int32 → Prop} {s st k pos at' n : Nat} (hk : k ≤ 4) (hst : st < 2 ^ 31) (hal : st % 2 ^ k ≠ 0)
    (K : wY_idChar_49 post J (nI s) (nI pos) (nI st) ys yc ye yn yl yo yk n (nI at') (nI (2 ^ k / 2))) : wY_idChar_49 post J (nI s) (nI pos) (nI st) ys yc ye yn yl yo yk (n + 1) (nI at') (nI (2 ^ k)) := by
  have hp := zz_2p k
  have h16 := zz_d4 hk
  have hm : st % 2 ^ k < 2 ^ k := Nat.mod_lt _ hp
  refine br_f (nI_nlt (b := 1) hp (by omega)) ?_
  rw [yi_msk hst (by omega)]
  exact br_f (nI_ne0 (by omega) (by omega)) ⟨by decide, nm_r (yi_hlf (by omega)) K⟩
theorem yi_200 {post : Int32 → Prop} {J Jb : Int32 → Int32 → Prop} {s st k d pos at' : Nat} {x4 : Int32} {Z pre suf : List Nat} (hd : d ≤ 4) (ec : yc = nI (2 ^ d)) (hk : k ≤ d) (hal : st % 2 ^ k = 0)
    (hpos : pos < 2 ^ 31) (hle : at' ≤ pos) (hZ : Z = pre ++ (yi_sep d k st ++ suf)) (hl : at' = pre.length) (H : ∀ ch, Z[pos]? = some ch → post (nI ch))
    (K : at' + (yi_sep d k st).length ≤ pos → Jb (nI (at' + (yi_sep d k st).length)) (nI (2 ^ (k + 1)))) : wY_idChar_200 post J Jb (nI s) (nI pos) (nI at') x4 (nI (2 ^ k)) (nI st) ys yc ye yn yl yo yk := by
  have h16 := zz_d4 hd
  have hp := zz_2p k
  have hkd : 2 ^ k ≤ 2 ^ d := Nat.pow_le_pow_right (by decide) hk
  subst ec
  unfold wY_idChar_200
  by_cases c : k = d
  · subst c
    have e1 : yi_sep k k st = [] := if_neg (fun z => by omega)
    rw [e1] at K
    exact br_t (nI_le (Nat.le_refl _) (by omega)) (nm_r (yi_dbl k) (K hle))
  · have hlt : 2 ^ k < 2 ^ d := Nat.pow_lt_pow_right (by decide) (by omega)
    refine br_f (nI_ge hlt (by omega)) ?_
    rw [nx_and]
    rcases bt_and st k with ⟨b1, b2⟩ | ⟨b1, b2⟩
    · rw [b1]
      have e1 : yi_sep d k st = [44] := if_pos ⟨by omega, by omega⟩
      rw [e1] at hZ K
      refine br_t rfl (pk_eq at' pos (fun e => H 44 ?_) (fun e => nm_r (nI_1 at') (nm_r (yi_dbl k) (K (by simp only [List.length_cons, List.length_nil]; omega)))) rfl rfl (by omega) hpos)
      rw [hZ, ← e, hl]; exact tx_at _ _ _
    · rw [b1]
      have e1 : yi_sep d k st = [] := if_neg (fun z => by omega)
      rw [e1] at K
      exact br_f (nI_ne0 hp (by omega)) (nm_r (yi_dbl k) (K hle))
/-- a block's end -/
theorem yi_135 {post : Int32 → Prop} {J : Int32 → Int32 → Prop} {s st p k d pos at' n : Nat} {f : Nat → Nat} {Z pre suf : List Nat} (hs : s < 6) (hd : d ≤ 4) (ec : yc = nI (2 ^ d)) (hk : k ≤ d) (hal : st % 2 ^ k = 0) (hst : st + 2 ^ k ≤ 2 ^ d) (ep : p + 1 = st + 2 ^ k) (h : ∀ i, i < 16 → yo (s * 16 + i) = nI (f i) ∧ f i ≤ 1)
    (hpos : pos < 2 ^ 31) (hle : at' ≤ pos) (hZ : Z = pre ++ (yi_cl d f k st ++ suf)) (hl : at' = pre.length) (H : ∀ ch, Z[pos]? = some ch → post (nI ch))
    (K : at' + (yi_cl d f k st).length ≤ pos → wY_idChar_135 post J (nI s) (nI pos) (nI p) ys yc ye yn yl yo yk n (nI (at' + (yi_cl d f k st).length)) (nI (2 ^ (k + 1)))) :
    wY_idChar_135 post J (nI s) (nI pos) (nI p) ys yc ye yn yl yo yk (n + 1) (nI at') (nI (2 ^ k)) := by
  have h16 := zz_d4 hd
  have hp := zz_2p k
  have hkd : 2 ^ k ≤ 2 ^ d := Nat.pow_le_pow_right (by decide) hk
  have hx6 : nI p + 1 - nI (2 ^ k) = nI st := by
    rw [nI_1, ep, pk_sub (by omega)]; congr 1; omega
  refine br_f (by rw [ec]; exact nI_nlt hkd (by omega)) (nm_r hx6 ?_)
  rw [nI_1 p, yi_msk (by omega) (by omega), ep, Nat.add_mod_right, hal]
  refine br_t rfl (yi_shw hs hd ec hk hal hst h (fun hsh => br_f (by decide) ?_) (fun hsh => br_t rfl ?_))
  · have e1 : yi_cl d f k st = (if yi_mi f k st = true then [41] else []) ++ yi_sep d k st := if_pos hsh
    rw [e1] at hZ K
    refine yi_miw hs (by omega) h (fun c => br_f (by decide) ?_) (fun c => br_t rfl ?_)
    · rw [if_pos c] at hZ K
      refine pk_eq at' pos (fun e => H 41 ?_) (fun e => nm_r (nI_1 at') ?_) rfl rfl (by omega) hpos
      · rw [hZ, ← e, hl]; exact tx_at _ _ _
      · refine yi_200 (pre := pre ++ [41]) (suf := suf) hd ec hk hal hpos (by omega) (by rw [hZ]; simp) (by simp [hl]) H (fun hle2 => ?_)
        have := K (by simp only [List.length_append, List.length_cons, List.length_nil]; omega)
        have eL : at' + ([41] ++ yi_sep d k st).length = at' + 1 + (yi_sep d k st).length := by
          simp only [List.length_append, List.length_cons, List.length_nil]; omega
        rw [eL] at this
        exact this
    · rw [if_neg c] at hZ K
      exact yi_200 (pre := pre) (suf := suf) hd ec hk hal hpos hle hZ hl H K
  · have e1 : yi_cl d f k st = [] := if_neg hsh
    rw [e1] at K
    exact nm_r (yi_dbl k) (K hle)
/-- on to the next cell -/
theorem yi_up {post : Int32 → Prop} {J : Int32 → Int32 → Prop} {s p d pos at' : Nat} (hd : d ≤ 4) (ec : yc = nI (2 ^ d)) (hp : p + 1 < 2 ^ 31) (K : J (nI at') (nI (p + 1))) : ∀ m k n : Nat, m + k = d + 1 → m < n → (∀ k', k ≤ k' → k' ≤ d → (p + 1) % 2 ^ k' ≠ 0) →
    wY_idChar_135 post J (nI s) (nI pos) (nI p) ys yc ye yn yl yo yk n (nI at') (nI (2 ^ k)) := by
  intro m
  induction m with
  | zero =>
    intro k n hk hn hh
    have e : k = d + 1 := by omega
    subst e
    obtain ⟨n', rfl⟩ : ∃ n', n = n' + 1 := ⟨n - 1, by omega⟩
    have h16 := zz_d4 hd
    have hz := zz_2s d
    have hp := zz_2p d
    refine br_t (by rw [ec]; exact nI_lt (by omega) (by omega)) (nm_r (nI_1 p) K)
  | succ m ih =>
    intro k n hk hn hh
    obtain ⟨n', rfl⟩ : ∃ n', n = n' + 1 := ⟨n - 1, by omega⟩
    have h16 := zz_d4 hd
    have hkd : 2 ^ k ≤ 2 ^ d := Nat.pow_le_pow_right (by decide) (by omega)
    have hp2 := zz_2p k
    have hm : (p + 1) % 2 ^ k < 2 ^ k := Nat.mod_lt _ hp2
    have h1 := hh k (Nat.le_refl _) (by omega)
    refine br_f (by rw [ec]; exact nI_nlt hkd (by omega)) (nm_e ?_)
    rw [nI_1 p, yi_msk hp (by omega)]
    exact br_f (nI_ne0 (by omega) (by omega)) (nm_r (yi_dbl k) (ih (k + 1) n' (by omega) (by omega) (fun k' h2 h3 => hh k' (by omega) h3)))
theorem yi_dn {post : Int32 → Prop} {J : Int32 → Int32 → Prop} {s q k pos at' : Nat} (hq : q < 2 ^ 31) (K : ∀ n, k + 1 < n → wY_idChar_49 post J (nI s) (nI pos) (nI q) ys yc ye yn yl yo yk n (nI at') (nI (2 ^ k))) : ∀ m n : Nat, m + k ≤ 4 → m + k + 1 < n → (∀ k', k < k' → k' ≤ m + k → q % 2 ^ k' ≠ 0) →
    wY_idChar_49 post J (nI s) (nI pos) (nI q) ys yc ye yn yl yo yk n (nI at') (nI (2 ^ (m + k))) := by
  intro m
  induction m with
  | zero =>
    intro n hm hn _
    have := K n (by omega)
    rwa [Nat.zero_add]
  | succ m ih =>
    intro n hm hn hh
    obtain ⟨n', rfl⟩ : ∃ n', n = n' + 1 := ⟨n - 1, by omega⟩
    refine yi_49s hm hq (hh _ (by omega) (Nat.le_refl _)) ?_
    have hz := zz_2s (m + k)
    rw [show m + 1 + k = m + k + 1 by omega, show 2 ^ (m + k + 1) / 2 = 2 ^ (m + k) by omega]
    exact ih n' (by omega) (by omega) (fun k' h1 h2 => hh k' h1 (by omega))
theorem yi_odd {q k : Nat} (h : q % 2 ^ (k + 1) = 2 ^ k) : ∀ k', k < k' → q % 2 ^ k' ≠ 0 := by
  intro k' hk z
  have hd : 2 ^ (k + 1) ∣ q := Nat.dvd_trans (Nat.pow_dvd_pow 2 hk) (Nat.dvd_of_mod_eq_zero z)
  have := Nat.mod_eq_zero_of_dvd hd
  have := zz_2p k
  omega
theorem yi_ind {post : Int32 → Prop} {s d pos : Nat} {f : Nat → Nat} {Z : List Nat} (hs : s < 6) (hd : d ≤ 4) (ec : yc = nI (2 ^ d)) (h : ∀ i, i < 16 → yo (s * 16 + i) = nI (f i) ∧ f i ≤ 1) (hpos : pos < 2 ^ 31) (H : ∀ ch, Z[pos]? = some ch → post (nI ch)) :
    ∀ (k st at' m n : Nat) (pre suf : List Nat), k ≤ d → st % 2 ^ k = 0 → st + 2 ^ k ≤ 2 ^ d → m + st = 2 ^ d → k + 1 < n → at' ≤ pos → Z = pre ++ (yi_tt d f k st ++ suf) → at' = pre.length →
    (at' + (yi_tt d f k st).length ≤ pos → ∀ m' n' p : Nat, p + 1 = st + 2 ^ k → m' + p = 2 ^ d → d + 1 < n' + (k + 1) → wY_idChar_135 post (wY_idChar_34 post (nI s) (nI pos) ys yc ye yn yl yo yk m') (nI s) (nI pos) (nI p) ys yc ye yn yl yo yk n' (nI (at' + (yi_tt d f k st).length)) (nI (2 ^ (k + 1)))) →
    wY_idChar_49 post (wY_idChar_34 post (nI s) (nI pos) ys yc ye yn yl yo yk m) (nI s) (nI pos) (nI st) ys yc ye yn yl yo yk n (nI at') (nI (2 ^ k)) := by
  have h16 := zz_d4 hd
  subst ec
  intro k
  induction k with
  | zero =>
    intro st at' m n pre suf hk hal hst hm hn hle hZ hl K
    obtain ⟨n1, rfl⟩ : ∃ n1, n = n1 + 1 + 1 := ⟨n - 2, by omega⟩
    have ht : yi_tt d f 0 st = yi_op d f 0 st ++ yi_cl d f 0 st := rfl
    have hlen : (yi_tt d f 0 st).length = (yi_op d f 0 st).length + (yi_cl d f 0 st).length := by rw [ht, List.length_append]
    rw [ht, List.append_assoc] at hZ
    rw [hlen] at K
    refine yi_49 hs hd rfl hk hal hst h hpos hle hZ hl H (fun hle1 => br_t (by decide) ⟨d + 2, ?_⟩)
    refine yi_135 (pre := pre ++ yi_op d f 0 st) (suf := suf) hs hd rfl hk hal hst (p := st) rfl h hpos hle1 (by rw [hZ, List.append_assoc]) (by rw [hl, List.length_append]) H (fun hle2 => ?_)
    have := K (by omega) m (d + 1) st rfl (by omega) (by omega)
    rw [← Nat.add_assoc] at this
    exact this
  | succ k ih =>
    intro st at' m n pre suf hk hal hst hm hn hle hZ hl K
    obtain ⟨n1, rfl⟩ : ∃ n1, n = n1 + 1 := ⟨n - 1, by omega⟩
    have hz := zz_2s k
    have hp := zz_2p k
    obtain ⟨a1, a2, a3⟩ := yi_al hal
    have ht : yi_tt d f (k + 1) st = yi_op d f (k + 1) st ++ (yi_tt d f k st ++ (yi_tt d f k (st + 2 ^ k) ++ yi_cl d f (k + 1) st)) := rfl
    have hlen : (yi_tt d f (k + 1) st).length = (yi_op d f (k + 1) st).length + (yi_tt d f k st).length + (yi_tt d f k (st + 2 ^ k)).length + (yi_cl d f (k + 1) st).length := by
      rw [ht]; simp only [List.length_append]; omega
    rw [hlen] at K
    have hZ' : Z = pre ++ (yi_op d f (k + 1) st ++ (yi_tt d f k st ++ (yi_tt d f k (st + 2 ^ k) ++ (yi_cl d f (k + 1) st ++ suf)))) := by
      rw [hZ, ht]; simp only [List.append_assoc]
    refine yi_49 hs hd rfl hk hal hst h hpos hle hZ' hl H (fun hle1 => ?_)
    rw [show 2 ^ (k + 1) / 2 = 2 ^ k by omega]
    refine ih st _ m n1 (pre ++ yi_op d f (k + 1) st) (yi_tt d f k (st + 2 ^ k) ++ (yi_cl d f (k + 1) st ++ suf)) (by omega) a1 (by omega) hm (by omega) hle1 (by rw [hZ']; simp only [List.append_assoc]) (by rw [hl, List.length_append]) (fun hle2 m' n' p ep hm' hn' => ?_)
    have hodd := yi_odd a3
    refine yi_up hd rfl (by omega) ?_ (d - k) (k + 1) n' (by omega) (by omega) (fun k' h1 h2 => ?_)
    · have hm0 : m' ≠ 0 := by omega
      obtain ⟨m2, rfl⟩ : ∃ m2, m' = m2 + 1 := ⟨m' - 1, by omega⟩
      rw [ep]
      refine br_f (nI_ge (by omega) (by omega)) ⟨d + 2, ?_⟩
      have hdn := yi_dn (post := post) (J := wY_idChar_34 post (nI s) (nI pos) ys (nI (2 ^ d)) ye yn yl yo yk m2) (s := s) (q := st + 2 ^ k) (k := k) (pos := pos) (at' := at' + (yi_op d f (k + 1) st).length + (yi_tt d f k st).length) (ys := ys) (yc := nI (2 ^ d)) (ye := ye) (yn := yn) (yl := yl) (yo := yo) (yk := yk) (by omega) (fun n3 hn3 => ?_) (d - k) (d + 2) (by omega) (by omega) (fun k' h1 h2 => hodd k' h1)
      · rw [show d - k + k = d by omega] at hdn
        exact hdn
      · refine ih (st + 2 ^ k) _ m2 n3 (pre ++ (yi_op d f (k + 1) st ++ yi_tt d f k st)) (yi_cl d f (k + 1) st ++ suf) (by omega) a2 (by omega) (by omega) hn3 hle2 (by rw [hZ']; simp only [List.append_assoc]) (by rw [hl]; simp only [List.length_append]; omega) (fun hle3 m4 n4 p4 ep4 hm4 hn4 => ?_)
        obtain ⟨n5, rfl⟩ : ∃ n5, n4 = n5 + 1 := ⟨n4 - 1, by omega⟩
        refine yi_135 (pre := pre ++ (yi_op d f (k + 1) st ++ (yi_tt d f k st ++ yi_tt d f k (st + 2 ^ k)))) (suf := suf) (st := st) hs hd rfl hk hal hst (by omega) h hpos hle3 (by rw [hZ']; simp only [List.append_assoc]) (by rw [hl]; simp only [List.length_append]; omega) H (fun hle4 => ?_)
        have := K (by omega) m4 n5 p4 (by omega) hm4 (by omega)
        have eA : at' + ((yi_op d f (k + 1) st).length + (yi_tt d f k st).length + (yi_tt d f k (st + 2 ^ k)).length + (yi_cl d f (k + 1) st).length) = at' + (yi_op d f (k + 1) st).length + (yi_tt d f k st).length + (yi_tt d f k (st + 2 ^ k)).length + (yi_cl d f (k + 1) st).length := by omega
        rw [eA] at this
        exact this
    · rw [ep]; exact hodd k' (by omega)
theorem yi_wp {post : Int32 → Prop} {s d pos : Nat} {f : Nat → Nat} (hs : s < 6) (hd : d ≤ 4) (ec : yc = nI (2 ^ d)) (h : ∀ i, i < 16 → yo (s * 16 + i) = nI (f i) ∧ f i ≤ 1) (hpos : pos < 2 ^ 31) (K : post (tx_ans (tx_T d f) pos)) :
    ∃ n34 : Nat, wY_idChar_34 post (nI s) (nI pos) ys yc ye yn yl yo yk n34 0 0 := by
  have h16 := zz_d4 hd
  have hp := zz_2p d
  have ht : yi_tt d f d 0 = tx_T d f := by
    have hsh : yi_sh d f d 0 = true := by unfold yi_sh; rw [decide_eq_true rfl, Bool.true_or]
    have hse : yi_sep d d 0 = [] := if_neg (fun z => by omega)
    rw [yi_txt hd (fun i hi => (h i (by omega)).2) d 0 (Nat.le_refl _) (Nat.zero_mod _) (by omega), if_pos hsh, hse, List.append_nil]
    exact tx_congr (fun i hi => by rw [Nat.zero_add])
  subst ec
  refine ⟨2 ^ d + 1, br_f (nI_ge (a := 0) hp (by omega)) ⟨d + 2, ?_⟩⟩
  refine yi_ind (f := f) (Z := tx_T d f) hs hd rfl h hpos (fun ch hch => ?_) d 0 0 (2 ^ d) (d + 2) [] [] (Nat.le_refl _) (Nat.zero_mod _) (by omega) (by omega) (by omega) (by omega) (by rw [ht]; simp) rfl (fun hle m' n' p ep hm' hn' => ?_)
  · unfold tx_ans at K
    rw [hch] at K; exact K
  · rw [ht] at hle ⊢
    unfold tx_ans at K
    rw [List.getElem?_eq_none (by omega)] at K
    obtain ⟨n5, rfl⟩ : ∃ n5, n' = n5 + 1 := ⟨n' - 1, by omega⟩
    obtain ⟨m5, rfl⟩ : ∃ m5, m' = m5 + 1 := ⟨m' - 1, by omega⟩
    have hz := zz_2s d
    refine br_t (nI_lt (by omega) (by omega)) (nm_r (e' := nI (2 ^ d)) (by rw [nI_1, ep, Nat.zero_add]) (br_t (nI_le (Nat.le_refl _) (by omega)) K))
end
end
section
/-! the clock's own invariant: owned cells, heights, known events -/
section
/-- n slots, depth d, cnt events; la: the live slots; O owned cells, H heights, K known events; E j: the heights that event j left, w j its cell, g j its height there -/
def rr_A (n d lim cnt : Nat) (la : Nat → Prop) (O H K E : Nat → Nat → Nat) (w g : Nat → Nat) : Prop :=
  (2 ≤ n ∧ n ≤ 6 ∧ 1 ≤ d ∧ d ≤ 4 ∧ 8 ≤ lim ∧ lim ≤ 128 ∧ cnt ≤ lim) ∧
  (∀ s t i, la s → la t → s ≠ t → i < 2 ^ d → O s i ≠ 0 → O t i = 0) ∧
  (∀ s t i, la s → la t → i < 2 ^ d → O s i ≠ 0 → H t i ≤ H s i) ∧
  (∀ s j, la s → j < cnt → O s (w j) ≠ 0 → g j ≤ H s (w j)) ∧
  (∀ s j, la s → j < cnt → (K s j ≠ 0 ↔ g j ≤ H s (w j))) ∧
  (∀ s j, la s → cnt ≤ j → j < 128 → K s j = 0) ∧
  (∀ j, j < cnt → w j < 2 ^ d ∧ 1 ≤ g j ∧ g j ≤ 128) ∧
  (∀ s i j, la s → i < 2 ^ d → j < cnt → K s j ≠ 0 → E j i ≤ H s i) ∧
  (∀ s i, la s → i < 2 ^ d → H s i = 0 ∨ ∃ j, j < cnt ∧ K s j ≠ 0 ∧ H s i ≤ E j i) ∧
  (∀ s i, la s → i < 2 ^ d → H s i ≤ cnt)
/-- every new live slot is the union of two old ones; the cells stay disjoint -/
theorem rr_gen {n d lim cnt : Nat} {la la1 : Nat → Prop} {O H K E O1 H1 K1 : Nat → Nat → Nat} {w g : Nat → Nat} (A : rr_A n d lim cnt la O H K E w g)
    (hn : ∀ s, la1 s → ∃ a b, la a ∧ la b ∧ (∀ i, i < 2 ^ d → H1 s i = max (H a i) (H b i)) ∧ (∀ j, j < 128 → K1 s j = max (K a j) (K b j)) ∧ (∀ i, i < 2 ^ d → O1 s i ≠ 0 → O a i ≠ 0 ∨ O b i ≠ 0))
    (hd : ∀ s t i, la1 s → la1 t → s ≠ t → i < 2 ^ d → O1 s i ≠ 0 → O1 t i = 0) : rr_A n d lim cnt la1 O1 H1 K1 E w g := by
  obtain ⟨a0, a1, a2, a3, a4, a5, a6, a7, a8, a9⟩ := A
  refine ⟨a0, hd, ?_, ?_, ?_, ?_, a6, ?_, ?_, ?_⟩
  · intro s t i hs ht hi ho
    obtain ⟨a, b, la', lb', h1, h2, h3⟩ := hn s hs
    obtain ⟨a', b', la'', lb'', h1', h2', h3'⟩ := hn t ht
    rw [h1 i hi, h1' i hi]
    rcases h3 i hi ho with z | z
    · have x1 := a2 a a' i la' la'' hi z
      have x2 := a2 a b' i la' lb'' hi z
      omega
    · have x1 := a2 b a' i lb' la'' hi z
      have x2 := a2 b b' i lb' lb'' hi z
      omega
  · intro s j hs hj ho
    obtain ⟨a, b, la', lb', h1, h2, h3⟩ := hn s hs
    have hw := (a6 j hj).1
    rw [h1 _ hw]
    rcases h3 _ hw ho with z | z
    · have := a3 a j la' hj z; omega
    · have := a3 b j lb' hj z; omega
  · intro s j hs hj
    obtain ⟨a, b, la', lb', h1, h2, h3⟩ := hn s hs
    have hw := (a6 j hj).1
    have x1 := a4 a j la' hj
    have x2 := a4 b j lb' hj
    rw [h1 _ hw, h2 j (by omega)]
    omega
  · intro s j hs hj hj2
    obtain ⟨a, b, la', lb', h1, h2, h3⟩ := hn s hs
    rw [h2 j hj2, a5 a j la' hj hj2, a5 b j lb' hj hj2]
    rfl
  · intro s i j hs hi hj hk
    obtain ⟨a, b, la', lb', h1, h2, h3⟩ := hn s hs
    rw [h2 j (by omega)] at hk
    rw [h1 i hi]
    by_cases c : K a j ≠ 0
    · have := a7 a i j la' hi hj c; omega
    · have := a7 b i j lb' hi hj (by omega); omega
  · intro s i hs hi
    obtain ⟨a, b, la', lb', h1, h2, h3⟩ := hn s hs
    rw [h1 i hi]
    by_cases c : H b i ≤ H a i
    · rcases a8 a i la' hi with z | ⟨j, hj, z1, z2⟩
      · left; omega
      · right
        exact ⟨j, hj, by rw [h2 j (by omega)]; omega, by omega⟩
    · rcases a8 b i lb' hi with z | ⟨j, hj, z1, z2⟩
      · left; omega
      · right
        exact ⟨j, hj, by rw [h2 j (by omega)]; omega, by omega⟩
  · intro s i hs hi
    obtain ⟨a, b, la', lb', h1, h2, h3⟩ := hn s hs
    have x1 := a9 a i la' hi
    have x2 := a9 b i lb' hi
    rw [h1 i hi]; omega
/-- an event at slot s: its heights become h, higher at v, and higher at own cells alone -/
theorem rr_ev {n d lim cnt s v : Nat} {la : Nat → Prop} {O H K E H1 K1 E1 : Nat → Nat → Nat} {w g w1 g1 h : Nat → Nat} (A : rr_A n d lim cnt la O H K E w g) (hs : la s) (hc : cnt < lim) (hv : v < 2 ^ d) (hr : H s v < h v)
    (h1 : ∀ i, i < 2 ^ d → H s i ≤ h i) (h2 : ∀ i, i < 2 ^ d → O s i = 0 → h i = H s i) (h3 : ∀ i, i < 2 ^ d → h i ≤ cnt + 1)
    (e1 : ∀ t i, i < 2 ^ d → H1 t i = if t = s then h i else H t i) (e2 : ∀ t j, la t → j < 128 → K1 t j = if t = s ∧ j = cnt then 1 else K t j) (e3 : ∀ j i, E1 j i = if j = cnt then h i else E j i)
    (e4 : ∀ j, w1 j = if j = cnt then v else w j) (e5 : ∀ j, g1 j = if j = cnt then h v else g j) : rr_A n d lim (cnt + 1) la O H1 K1 E1 w1 g1 := by
  obtain ⟨a0, a1, a2, a3, a4, a5, a6, a7, a8, a9⟩ := A
  have hov : O s v ≠ 0 := fun z => by have := h2 v hv z; omega
  have ew : w1 cnt = v := by rw [e4, if_pos rfl]
  have eg : g1 cnt = h v := by rw [e5, if_pos rfl]
  have ew' : ∀ j, j < cnt → w1 j = w j := fun j hj => by rw [e4, if_neg (by omega)]
  have eg' : ∀ j, j < cnt → g1 j = g j := fun j hj => by rw [e5, if_neg (by omega)]
  have hHs : ∀ i, i < 2 ^ d → H1 s i = h i := fun i hi => by rw [e1 s i hi, if_pos rfl]
  have hHt : ∀ t i, t ≠ s → i < 2 ^ d → H1 t i = H t i := fun t i ht hi => by rw [e1 t i hi, if_neg ht]
  have hKo : ∀ t j, la t → j < cnt → K1 t j = K t j := fun t j ht hj => by rw [e2 t j ht (by omega), if_neg (by omega)]
  have hKn : K1 s cnt = 1 := by rw [e2 s cnt hs (by omega), if_pos ⟨rfl, rfl⟩]
  have hKt : ∀ t, la t → t ≠ s → K1 t cnt = 0 := fun t ht hn => by
    rw [e2 t cnt ht (by omega), if_neg (fun z => hn z.1)]; exact a5 t cnt ht (Nat.le_refl _) (by omega)
  have hmono : ∀ t i, la t → i < 2 ^ d → H t i ≤ H1 t i := by
    intro t i ht hi
    by_cases c : t = s
    · subst c; rw [hHs i hi]; exact h1 i hi
    · rw [hHt t i c hi]; exact Nat.le_refl _
  refine ⟨by omega, a1, ?_, ?_, ?_, ?_, ?_, ?_, ?_, ?_⟩
  · intro t u i ht hu hi ho
    by_cases c : u = s
    · subst c
      by_cases c2 : t = u
      · subst c2; exact Nat.le_refl _
      · rw [hHs i hi, h2 i hi (a1 t u i ht hu c2 hi ho), hHt t i c2 hi]
        exact a2 t u i ht hu hi ho
    · rw [hHt u i c hi]
      exact Nat.le_trans (a2 t u i ht hu hi ho) (hmono t i ht hi)
  · intro t j ht hj ho
    by_cases c : j = cnt
    · subst c
      rw [ew] at ho ⊢
      rw [eg]
      by_cases c2 : t = s
      · subst c2; rw [hHs v hv]; exact Nat.le_refl _
      · exact absurd (a1 s t v hs ht (fun z => c2 z.symm) hv hov) ho
    · have hj' : j < cnt := by omega
      rw [ew' j hj'] at ho ⊢
      rw [eg' j hj']
      exact Nat.le_trans (a3 t j ht hj' ho) (hmono t _ ht (a6 j hj').1)
  · intro t j ht hj
    by_cases c : j = cnt
    · subst c
      rw [ew, eg]
      by_cases c2 : t = s
      · subst c2; rw [hHs v hv, hKn]; exact ⟨fun _ => Nat.le_refl _, fun _ => by omega⟩
      · have := a2 s t v hs ht hv hov
        rw [hKt t ht c2, hHt t v c2 hv]; omega
    · have hj' : j < cnt := by omega
      have hw := (a6 j hj').1
      rw [ew' j hj', eg' j hj', hKo t j ht hj', a4 t j ht hj']
      by_cases c2 : t = s
      · subst c2
        rw [hHs _ hw]
        constructor
        · intro z; have := h1 _ hw; omega
        · intro z
          by_cases c3 : O t (w j) = 0
          · rw [h2 _ hw c3] at z; exact z
          · exact a3 t j ht hj' c3
      · rw [hHt t _ c2 hw]
  · intro t j ht hj hj2
    rw [e2 t j ht hj2, if_neg (by omega)]
    exact a5 t j ht (by omega) hj2
  · intro j hj
    by_cases c : j = cnt
    · subst c
      rw [ew, eg]
      have := h3 v hv
      exact ⟨hv, by omega, by omega⟩
    · rw [ew' j (by omega), eg' j (by omega)]
      exact a6 j (by omega)
  · intro t i j ht hi hj hk
    rw [e3]
    by_cases c : j = cnt
    · subst c
      rw [if_pos rfl]
      by_cases c2 : t = s
      · subst c2; rw [hHs i hi]; exact Nat.le_refl _
      · exact absurd (hKt t ht c2) hk
    · rw [if_neg c]
      rw [hKo t j ht (by omega)] at hk
      exact Nat.le_trans (a7 t i j ht hi (by omega) hk) (hmono t i ht hi)
  · intro t i ht hi
    by_cases c2 : t = s
    · subst c2
      refine Or.inr ⟨cnt, by omega, by rw [hKn]; omega, ?_⟩
      rw [hHs i hi, e3, if_pos rfl]; exact Nat.le_refl _
    · rw [hHt t i c2 hi]
      rcases a8 t i ht hi with z | ⟨j, hj, z1, z2⟩
      · exact Or.inl z
      · refine Or.inr ⟨j, by omega, by rw [hKo t j ht hj]; exact z1, ?_⟩
        rw [e3, if_neg (by omega)]; exact z2
  · intro t i ht hi
    by_cases c2 : t = s
    · subst c2; rw [hHs i hi]; exact h3 i hi
    · rw [hHt t i c2 hi]
      have := a9 t i ht hi; omega
theorem rr_seed {n d lim slot : Nat} {la : Nat → Prop} {O H K E : Nat → Nat → Nat} {w g : Nat → Nat} (h0 : 2 ≤ n ∧ n ≤ 6 ∧ 1 ≤ d ∧ d ≤ 4 ∧ 8 ≤ lim ∧ lim ≤ 128) (hl : ∀ s, la s → s = slot) (hH : ∀ i, i < 2 ^ d → H slot i = 0) (hK : ∀ j, j < 128 → K slot j = 0) :
    rr_A n d lim 0 la O H K E w g := by
  refine ⟨by omega, ?_, ?_, fun s j _ hj => by omega, fun s j _ hj => by omega, ?_, fun j hj => by omega, fun s i j _ _ hj => by omega, ?_, ?_⟩
  · intro s t i hs ht hn
    exact absurd ((hl s hs).trans (hl t ht).symm) hn
  · intro s t i hs ht hi _
    rw [hl t ht, hH i hi]; exact Nat.zero_le _
  · intro s j hs _ hj
    rw [hl s hs]; exact hK j hj
  · intro s i hs hi
    rw [hl s hs]; exact Or.inl (hH i hi)
  · intro s i hs hi
    rw [hl s hs, hH i hi]; exact Nat.le_refl _
/-- order of heights is order of knowledge -/
theorem rr_le {n d lim cnt a : Nat} {la : Nat → Prop} {O H K E : Nat → Nat → Nat} {w g : Nat → Nat} (A : rr_A n d lim cnt la O H K E w g) (ha : la a) (M : Nat → Nat) (S : Nat → Prop)
    (hM : ∀ i, i < 2 ^ d → (M i = 0 ∨ ∃ b, S b ∧ M i = H b i) ∧ ∀ b, S b → H b i ≤ M i) (hS : ∀ b, S b → la b) : (∀ i, i < 2 ^ d → H a i ≤ M i) ↔ ∀ j, j < 128 → K a j ≠ 0 → ∃ b, S b ∧ K b j ≠ 0 := by
  obtain ⟨a0, a1, a2, a3, a4, a5, a6, a7, a8, a9⟩ := A
  constructor
  · intro h j hj hk
    have hc : j < cnt := by
      apply Nat.lt_of_not_le
      intro z
      exact hk (a5 a j ha z hj)
    have hw := a6 j hc
    have x1 := (a4 a j ha hc).1 hk
    have x2 := h _ hw.1
    rcases (hM _ hw.1).1 with z | ⟨b, hb, z⟩
    · omega
    · exact ⟨b, hb, (a4 b j (hS b hb) hc).2 (by omega)⟩
  · intro h i hi
    rcases a8 a i ha hi with z | ⟨j, hj, z1, z2⟩
    · omega
    · obtain ⟨b, hb, hk⟩ := h j (by omega) z1
      have x1 := a7 b i j (hS b hb) hi hj hk
      have x2 := (hM i hi).2 b hb
      omega
end
end
section
/-! refusals, and the relation -/
section
variable {zS zM zF zG sc dp ce lm fr fc ct sp rp pl lo up : Int32} {L R B T mk lv ir er wc wh oA oB fA fB sg rN rC pa : Nat → Int32} {ys yc ye yn : Int32} {yl yo yk : Nat → Int32}
def zz_bad (n : Nat) (v : Int32) : Prop := v < 0 ∨ nI n ≤ v
theorem zz_slot (v : Int32) {n : Nat} (hn : n < 2 ^ 31) : zz_bad n v ∨ ∃ j : Nat, j < n ∧ v = nI j := by
  rcases pk_ix v hn with h | h | h
  · exact Or.inl (Or.inl h)
  · exact Or.inl (Or.inr h)
  · exact Or.inr h
theorem ou_bad {post : Int32 → Prop} {n : Nat} {v : Int32} (esc : sc = nI n) (hb : zz_bad n v) (K : post 1) : wpX_outside post (zS, zM, zF, zG, sc, dp, ce, lm, fr, fc, ct, sp, rp, pl, lo, up, L, R, B, T, mk, lv, ir, er, wc, wh, oA, oB, fA, fB, sg, rN, rC, pa) v := by
  unfold wpX_outside
  (try dsimp only)
  by_cases c : v < 0
  · exact br_t c K
  · rcases hb with h | h
    · exact absurd h c
    · exact br_f c (br_f (by rw [esc]; exact Int32.not_lt.mpr h) K)
theorem ou_ok {post : Int32 → Prop} {n j : Nat} (esc : sc = nI n) (hn : n ≤ 6) (hj : j < n) (K : post 0) : wpX_outside post (zS, zM, zF, zG, sc, dp, ce, lm, fr, fc, ct, sp, rp, pl, lo, up, L, R, B, T, mk, lv, ir, er, wc, wh, oA, oB, fA, fB, sg, rN, rC, pa) (nI j) := by
  unfold wpX_outside
  (try dsimp only)
  exact br_f (nI_pos (by omega)) (br_t (by rw [esc]; exact nI_lt hj (by omega)) K)
theorem bd_bad {post : Int32 → Prop} {n : Nat} {v : Int32} (esc : ys = nI n) (hb : zz_bad n v) (K : post 1) : wpY_bad post (ys, yc, ye, yn, yl, yo, yk) v := by
  unfold wpY_bad
  (try dsimp only)
  by_cases c : v < 0
  · exact br_t c K
  · rcases hb with h | h
    · exact absurd h c
    · exact br_f c (br_f (by rw [esc]; exact Int32.not_lt.mpr h) K)
theorem bd_ok {post : Int32 → Prop} {n j : Nat} (esc : ys = nI n) (hn : n ≤ 6) (hj : j < n) (K : post 0) : wpY_bad post (ys, yc, ye, yn, yl, yo, yk) (nI j) := by
  unfold wpY_bad
  (try dsimp only)
  exact br_f (nI_pos (by omega)) (br_t (by rw [esc]; exact nI_lt hj (by omega)) K)
theorem zz_i6 {j n : Nat} (hn : n ≤ 6) (hj : j < n) : vp_in (nI j) 6 := vp_in_nI (by omega) (by decide)
theorem rf_bad {post : Int32 → Prop} {n : Nat} {v : Int32} (esc : sc = nI n) (hb : zz_bad n v) (K : post (-1)) : wpX_refuse post (zS, zM, zF, zG, sc, dp, ce, lm, fr, fc, ct, sp, rp, pl, lo, up, L, R, B, T, mk, lv, ir, er, wc, wh, oA, oB, fA, fB, sg, rN, rC, pa) v := by
  unfold wpX_refuse
  (try dsimp only)
  exact ou_bad esc hb (br_f (by decide) K)
theorem rf_ok {post : Int32 → Prop} {n j : Nat} (esc : sc = nI n) (hn : n ≤ 6) (hj : j < n) (K0 : lv j = 0 → post (-3)) (K1 : lv j ≠ 0 → post 0) : wpX_refuse post (zS, zM, zF, zG, sc, dp, ce, lm, fr, fc, ct, sp, rp, pl, lo, up, L, R, B, T, mk, lv, ir, er, wc, wh, oA, oB, fA, fB, sg, rN, rC, pa) (nI j) := by
  unfold wpX_refuse
  (try dsimp only)
  rw [nI_clamp (show j < 2 ^ 31 by omega)]
  exact ou_ok esc hn hj (br_t rfl ⟨zz_i6 hn hj, br_c K0 K1⟩)
theorem rp_1 {post : Int32 → Prop} {n : Nat} {v v' : Int32} (esc : sc = nI n) (hb : zz_bad n v) (K : post (-1)) : wpX_refusePair post (zS, zM, zF, zG, sc, dp, ce, lm, fr, fc, ct, sp, rp, pl, lo, up, L, R, B, T, mk, lv, ir, er, wc, wh, oA, oB, fA, fB, sg, rN, rC, pa) v v' := by
  unfold wpX_refusePair
  (try dsimp only)
  exact ou_bad esc hb (br_f (by decide) K)
theorem rp_2 {post : Int32 → Prop} {n j : Nat} {v' : Int32} (esc : sc = nI n) (hn : n ≤ 6) (hj : j < n) (hb : zz_bad n v') (K : post (-1)) : wpX_refusePair post (zS, zM, zF, zG, sc, dp, ce, lm, fr, fc, ct, sp, rp, pl, lo, up, L, R, B, T, mk, lv, ir, er, wc, wh, oA, oB, fA, fB, sg, rN, rC, pa) (nI j) v' := by
  unfold wpX_refusePair
  (try dsimp only)
  exact ou_ok esc hn hj (br_t rfl (ou_bad esc hb (br_f (by decide) K)))
theorem rp_3 {post : Int32 → Prop} {n j i : Nat} (esc : sc = nI n) (hn : n ≤ 6) (hj : j < n) (hi : i < n) (K0 : lv j = 0 ∨ lv i = 0 → post (-3)) (K1 : lv j ≠ 0 → lv i ≠ 0 → post 0) : wpX_refusePair post (zS, zM, zF, zG, sc, dp, ce, lm, fr, fc, ct, sp, rp, pl, lo, up, L, R, B, T, mk, lv, ir, er, wc, wh, oA, oB, fA, fB, sg, rN, rC, pa) (nI j) (nI i) := by
  unfold wpX_refusePair
  (try dsimp only)
  rw [nI_clamp (show j < 2 ^ 31 by omega), nI_clamp (show i < 2 ^ 31 by omega)]
  exact ou_ok esc hn hj (br_t rfl (ou_ok esc hn hi (br_t rfl ⟨zz_i6 hn hj, br_c (fun z => K0 (Or.inl z)) (fun z => ⟨zz_i6 hn hi, br_c (fun z' => K0 (Or.inr z')) (fun z' => K1 z z')⟩)⟩)))
theorem rm_1 {post : Int32 → Prop} {n : Nat} {v v' : Int32} (esc : sc = nI n) (hb : zz_bad n v) (K : post (-1)) : wpX_refuseMerge post (zS, zM, zF, zG, sc, dp, ce, lm, fr, fc, ct, sp, rp, pl, lo, up, L, R, B, T, mk, lv, ir, er, wc, wh, oA, oB, fA, fB, sg, rN, rC, pa) v v' := by
  unfold wpX_refuseMerge
  (try dsimp only)
  exact ou_bad esc hb (br_f (by decide) K)
theorem rm_2 {post : Int32 → Prop} {n j : Nat} {v' : Int32} (esc : sc = nI n) (hn : n ≤ 6) (hj : j < n) (hb : zz_bad n v') (K : post (-1)) : wpX_refuseMerge post (zS, zM, zF, zG, sc, dp, ce, lm, fr, fc, ct, sp, rp, pl, lo, up, L, R, B, T, mk, lv, ir, er, wc, wh, oA, oB, fA, fB, sg, rN, rC, pa) (nI j) v' := by
  unfold wpX_refuseMerge
  (try dsimp only)
  exact ou_ok esc hn hj (br_t rfl (ou_bad esc hb (br_f (by decide) K)))
theorem rm_3 {post : Int32 → Prop} {n j i : Nat} (esc : sc = nI n) (hn : n ≤ 6) (hj : j < n) (hi : i < n) (Ks : j = i → post (-2)) (K0 : j ≠ i → lv j = 0 ∨ lv i = 0 → post (-3)) (K1 : j ≠ i → lv j ≠ 0 → lv i ≠ 0 → post 0) : wpX_refuseMerge post (zS, zM, zF, zG, sc, dp, ce, lm, fr, fc, ct, sp, rp, pl, lo, up, L, R, B, T, mk, lv, ir, er, wc, wh, oA, oB, fA, fB, sg, rN, rC, pa) (nI j) (nI i) := by
  unfold wpX_refuseMerge
  (try dsimp only)
  rw [nI_clamp (show j < 2 ^ 31 by omega), nI_clamp (show i < 2 ^ 31 by omega)]
  exact ou_ok esc hn hj (br_t rfl (ou_ok esc hn hi (br_t rfl (pk_eq j i Ks (fun hn' => ⟨zz_i6 hn hj, br_c (fun z => K0 hn' (Or.inl z)) (fun z => ⟨zz_i6 hn hi, br_c (fun z' => K0 hn' (Or.inr z')) (fun z' => K1 hn' z z')⟩)⟩) rfl rfl (by omega) (by omega)))))
theorem rc_1 {post : Int32 → Prop} {n : Nat} {v v' : Int32} (esc : sc = nI n) (hb : zz_bad n v) (K : post (-1)) : wpX_refuseCopy post (zS, zM, zF, zG, sc, dp, ce, lm, fr, fc, ct, sp, rp, pl, lo, up, L, R, B, T, mk, lv, ir, er, wc, wh, oA, oB, fA, fB, sg, rN, rC, pa) v v' := by
  unfold wpX_refuseCopy
  (try dsimp only)
  exact ou_bad esc hb (br_f (by decide) K)
theorem rc_2 {post : Int32 → Prop} {n j : Nat} {v' : Int32} (esc : sc = nI n) (hn : n ≤ 6) (hj : j < n) (hb : zz_bad n v') (K : post (-1)) : wpX_refuseCopy post (zS, zM, zF, zG, sc, dp, ce, lm, fr, fc, ct, sp, rp, pl, lo, up, L, R, B, T, mk, lv, ir, er, wc, wh, oA, oB, fA, fB, sg, rN, rC, pa) (nI j) v' := by
  unfold wpX_refuseCopy
  (try dsimp only)
  exact ou_ok esc hn hj (br_t rfl (ou_bad esc hb (br_f (by decide) K)))
theorem rc_3 {post : Int32 → Prop} {n j i : Nat} (esc : sc = nI n) (hn : n ≤ 6) (hj : j < n) (hi : i < n) (Ks : j = i → post (-2)) (K0 : j ≠ i → lv j = 0 → post (-3)) (K2 : j ≠ i → lv j ≠ 0 → lv i ≠ 0 → post (-4)) (K1 : j ≠ i → lv j ≠ 0 → lv i = 0 → post 0) : wpX_refuseCopy post (zS, zM, zF, zG, sc, dp, ce, lm, fr, fc, ct, sp, rp, pl, lo, up, L, R, B, T, mk, lv, ir, er, wc, wh, oA, oB, fA, fB, sg, rN, rC, pa) (nI j) (nI i) := by
  unfold wpX_refuseCopy
  (try dsimp only)
  rw [nI_clamp (show j < 2 ^ 31 by omega), nI_clamp (show i < 2 ^ 31 by omega)]
  exact ou_ok esc hn hj (br_t rfl (ou_ok esc hn hi (br_t rfl (pk_eq j i Ks (fun hn' => ⟨zz_i6 hn hj, br_c (fun z => K0 hn' z) (fun z => ⟨zz_i6 hn hi, br_c (fun z' => K1 hn' z z') (fun z' => K2 hn' z z')⟩)⟩) rfl rfl (by omega) (by omega)))))
theorem ss_wp {post : SX → Prop} {n j : Nat} {x y : Int32} (hn : n ≤ 6) (hj : j < n) (K : post (zS, zM, zF, zG, sc, dp, ce, lm, fr, fc, ct, sp, rp, pl, lo, up, L, R, B, T, mk, upd lv j 1, upd ir j x, upd er j y, wc, wh, oA, oB, fA, fB, sg, rN, rC, pa)) : wpX_setStamp post (zS, zM, zF, zG, sc, dp, ce, lm, fr, fc, ct, sp, rp, pl, lo, up, L, R, B, T, mk, lv, ir, er, wc, wh, oA, oB, fA, fB, sg, rN, rC, pa) (nI j) x y := by
  unfold wpX_setStamp
  (try dsimp only)
  have hin := zz_i6 hn hj
  rw [nI_clamp (show j < 2 ^ 31 by omega), nb_1]
  exact ⟨hin, nm_e ⟨hin, nm_e ⟨hin, nm_e K⟩⟩⟩
theorem cs_wp {post : SX → Prop} {n j : Nat} (hn : n ≤ 6) (hj : j < n) (K : post (zS, zM, zF, zG, sc, dp, ce, lm, fr, fc, ct, sp, rp, pl, lo, up, L, R, B, T, mk, upd lv j 0, upd ir j 0, upd er j 0, wc, wh, oA, oB, fA, fB, sg, rN, rC, pa)) : wpX_clearStamp post (zS, zM, zF, zG, sc, dp, ce, lm, fr, fc, ct, sp, rp, pl, lo, up, L, R, B, T, mk, lv, ir, er, wc, wh, oA, oB, fA, fB, sg, rN, rC, pa) (nI j) := by
  unfold wpX_clearStamp
  (try dsimp only)
  have hin := zz_i6 hn hj
  rw [nI_clamp (show j < 2 ^ 31 by omega), nb_0]
  exact ⟨hin, nm_e ⟨hin, nm_e ⟨hin, nm_e K⟩⟩⟩
/-- the live stamps' trees -/
def rr_T (L R B T : Nat → Int32) (F : List Nat) (n d : Nat) (lv ir er : Nat → Int32) (O H : Nat → Nat → Nat) : Prop :=
  ∀ s, s < n → lv s ≠ 0 → (∃ x : Nat, ir s = nI x ∧ tr_T L R B T F d x (O s)) ∧ (∃ x : Nat, er s = nI x ∧ tr_T L R B T F d x (H s))
def rr_la (n : Nat) (lv : Nat → Int32) : Nat → Prop := fun s => s < n ∧ lv s ≠ 0
/-- the two states by their parts -/
def rr_R (sc dp ce lm fr fc ct : Int32) (L R B T lv ir er wc wh : Nat → Int32) (ys yc ye yn : Int32) (yl yo yk : Nat → Int32) : Prop :=
  ∃ (n d lim cnt : Nat) (F : List Nat) (O H K E : Nat → Nat → Nat) (w g : Nat → Nat),
    (sc = nI n ∧ dp = nI d ∧ ce = nI (2 ^ d) ∧ lm = nI lim ∧ ct = nI cnt) ∧ (ys = nI n ∧ yc = nI (2 ^ d) ∧ ye = nI lim ∧ yn = nI cnt) ∧
    hp_I fr fc L R B T F ∧ rr_T L R B T F n d lv ir er O H ∧ (∀ j, j < cnt → wc j = nI (w j) ∧ wh j = nI (g j)) ∧ (∀ s, s < n → (lv s = 0 ↔ yl s = 0)) ∧ yo_is yo O ∧ yk_is yk K ∧ rr_A n d lim cnt (rr_la n lv) O H K E w g
theorem rr_ok {n d : Nat} {F : List Nat} {O H : Nat → Nat → Nat} (h : rr_T L R B T F n d lv ir er O H) : rt_ok L R B T F n d lv ir er := by
  intro s hs hl
  obtain ⟨⟨x, ex, tx⟩, ⟨y, ey, ty⟩⟩ := h s hs hl
  exact ⟨⟨x, _, ex, tx⟩, ⟨y, _, ey, ty⟩⟩
theorem rr_kp {n d : Nat} {F F1 : List Nat} {L1 R1 B1 T1 : Nat → Int32} {O H : Nat → Nat → Nat} (h : rr_T L R B T F n d lv ir er O H) (kp : rt_kp L R B T F L1 R1 B1 T1 F1 n d lv ir er) : rr_T L1 R1 B1 T1 F1 n d lv ir er O H := by
  intro s hs hl
  obtain ⟨⟨x, ex, tx⟩, ⟨y, ey, ty⟩⟩ := h s hs hl
  exact ⟨⟨x, ex, kp s x _ hs hl (Or.inl ex) tx⟩, ⟨y, ey, kp s y _ hs hl (Or.inr ey) ty⟩⟩
theorem rr_xt {n d : Nat} {F F1 : List Nat} {L1 R1 B1 T1 : Nat → Int32} {O H : Nat → Nat → Nat} (h : rr_T L R B T F n d lv ir er O H) (E : hp_E L R B T F L1 R1 B1 T1 F1) : rr_T L1 R1 B1 T1 F1 n d lv ir er O H := by
  intro s hs hl
  obtain ⟨⟨x, ex, tx⟩, ⟨y, ey, ty⟩⟩ := h s hs hl
  exact ⟨⟨x, ex, tr_ext E tx⟩, ⟨y, ey, tr_ext E ty⟩⟩
end
/-- the relation: see rr_R -/
def i_Rel (k : Nat) (u : SX) (v : SY) : Prop := match u with
  | (zS, zM, zF, zG, sc, dp, ce, lm, fr, fc, ct, sp, rp, pl, lo, up, L, R, B, T, mz, lv, ir, er, wc, wh, oA, oB, fA, fB, sg, rN, rC, pa) => match v with
    | (ys, yc, ye, yn, yl, yo, yk) => rr_R sc dp ce lm fr fc ct L R B T lv ir er wc wh ys yc ye yn yl yo yk
theorem i_up {k : Nat} {u : SX} {v : SY} (h : i_Rel k u v) : i_Rel (k + 3) u v := h
theorem i_mk {k : Nat} {zS zM zF zG sc dp ce lm fr fc ct sp rp pl lo up : Int32} {L R B T mk lv ir er wc wh oA oB fA fB sg rN rC pa : Nat → Int32} {ys yc ye yn : Int32} {yl yo yk : Nat → Int32} (h : rr_R sc dp ce lm fr fc ct L R B T lv ir er wc wh ys yc ye yn yl yo yk) : i_Rel k (zS, zM, zF, zG, sc, dp, ce, lm, fr, fc, ct, sp, rp, pl, lo, up, L, R, B, T, mk, lv, ir, er, wc, wh, oA, oB, fA, fB, sg, rN, rC, pa) (ys, yc, ye, yn, yl, yo, yk) := h
end
section
/-! the calls that only read -/
section
variable {zS zM zF zG sc dp ce lm fr fc ct sp rp pl lo up : Int32} {L R B T mk lv ir er wc wh oA oB fA fB sg rN rC pa : Nat → Int32} {ys yc ye yn : Int32} {yl yo yk : Nat → Int32}
theorem i_vc_eventCount {k : Nat} {u : SX} {v : SY} (I : i_Rel k u v) (hk : k + 3 ≤ 1539) : wpX_eventCount (fun r => wpY_eventCount (fun r' => r' = r ∧ i_Rel (k + 3) u v) v) u := by
  obtain ⟨zS, zM, zF, zG, sc, dp, ce, lm, fr, fc, ct, sp, rp, pl, lo, up, L, R, B, T, mk, lv, ir, er, wc, wh, oA, oB, fA, fB, sg, rN, rC, pa⟩ := u
  obtain ⟨ys, yc, ye, yn, yl, yo, yk⟩ := v
  obtain ⟨n, d, lim, cnt, F, O, H, K, E, w, g, ⟨e1, e2, e3, e4, e5⟩, ⟨f1, f2, f3, f4⟩, hi, hT, hw, hl, hO, hK, A⟩ := (show rr_R sc dp ce lm fr fc ct L R B T lv ir er wc wh ys yc ye yn yl yo yk from I)
  have hR : rr_R sc dp ce lm fr fc ct L R B T lv ir er wc wh ys yc ye yn yl yo yk := I
  subst e1 e2 e3 e4 e5 f1 f2 f3 f4
  have ⟨n2, n6, d1, d4, l8, l128, cl⟩ := A.1
  have h16 := zz_d4 d4
  have hp2 := zz_2p d
  unfold wpX_eventCount wpY_eventCount
  exact ⟨rfl, I⟩
theorem i_vc_state {k : Nat} {u : SX} {v : SY} (I : i_Rel k u v) (hk : k + 3 ≤ 1539) (v1 : Int32) : wpX_state (fun r => wpY_state (fun r' => r' = r ∧ i_Rel (k + 3) u v) v v1) u v1 := by
  obtain ⟨zS, zM, zF, zG, sc, dp, ce, lm, fr, fc, ct, sp, rp, pl, lo, up, L, R, B, T, mk, lv, ir, er, wc, wh, oA, oB, fA, fB, sg, rN, rC, pa⟩ := u
  obtain ⟨ys, yc, ye, yn, yl, yo, yk⟩ := v
  obtain ⟨n, d, lim, cnt, F, O, H, K, E, w, g, ⟨e1, e2, e3, e4, e5⟩, ⟨f1, f2, f3, f4⟩, hi, hT, hw, hl, hO, hK, A⟩ := (show rr_R sc dp ce lm fr fc ct L R B T lv ir er wc wh ys yc ye yn yl yo yk from I)
  have hR : rr_R sc dp ce lm fr fc ct L R B T lv ir er wc wh ys yc ye yn yl yo yk := I
  subst e1 e2 e3 e4 e5 f1 f2 f3 f4
  have ⟨n2, n6, d1, d4, l8, l128, cl⟩ := A.1
  have h16 := zz_d4 d4
  have hp2 := zz_2p d
  unfold wpX_state wpY_state
  (try dsimp only)
  rcases zz_slot v1 (n := n) (by omega) with hb | ⟨s, hs, rfl⟩
  · exact ou_bad rfl hb (br_f (by decide) (bd_bad rfl hb (br_f (by decide) ⟨rfl, I⟩)))
  · rw [nI_clamp (show s < 2 ^ 31 by omega)]
    have hin := zz_i6 n6 hs
    have hls := hl s hs
    by_cases c : lv s = 0
    · exact ou_ok rfl n6 hs (br_t rfl ⟨hin, br_t c (bd_ok rfl n6 hs (br_t rfl ⟨hin, br_t (hls.1 c) ⟨rfl, I⟩⟩))⟩)
    · have cy : ¬ yl s = 0 := fun z => c (hls.2 z)
      obtain ⟨⟨x, ex, tx⟩, _⟩ := hT s hs c
      have z0 := tr_is0 tx
      have zs := ow_mx (d := d) (f := O s)
      have hlt := tr_lt tx
      rw [ex]
      refine ou_ok rfl n6 hs (br_t rfl ⟨hin, br_f c ⟨hin, pk_eq x 0 (fun h => ?_) (fun h => ?_) rfl rfl (zz_lt hlt) (by decide)⟩⟩)
      · refine bd_ok rfl n6 hs (br_t rfl ⟨hin, br_f cy (ow_wp (st := 0) (sz := 2 ^ d) (f := O s) (by omega) (by omega) (fun i hi => hO s i (by omega) hi) ?_)⟩)
        rw [zs.2 (z0.1 h)]
        exact br_t rfl ⟨rfl, I⟩
      · refine bd_ok rfl n6 hs (br_t rfl ⟨hin, br_f cy (ow_wp (st := 0) (sz := 2 ^ d) (f := O s) (by omega) (by omega) (fun i hi => hO s i (by omega) hi) ?_)⟩)
        have hle : ow_sm (O s) 0 (2 ^ d) ≤ 2 ^ d := ow_le (fun i hi => by rw [Nat.zero_add]; exact (hO s i (by omega) (by omega)).2)
        refine br_f (nI_ne0 (Nat.pos_of_ne_zero (fun z => h (z0.2 (zs.1 z)))) (by omega)) ⟨rfl, I⟩
theorem i_vc_owns {k : Nat} {u : SX} {v : SY} (I : i_Rel k u v) (hk : k + 3 ≤ 1539) (v1 : Int32) (v2 : Int32) : wpX_owns (fun r => wpY_owns (fun r' => r' = r ∧ i_Rel (k + 3) u v) v v1 v2) u v1 v2 := by
  obtain ⟨zS, zM, zF, zG, sc, dp, ce, lm, fr, fc, ct, sp, rp, pl, lo, up, L, R, B, T, mk, lv, ir, er, wc, wh, oA, oB, fA, fB, sg, rN, rC, pa⟩ := u
  obtain ⟨ys, yc, ye, yn, yl, yo, yk⟩ := v
  obtain ⟨n, d, lim, cnt, F, O, H, K, E, w, g, ⟨e1, e2, e3, e4, e5⟩, ⟨f1, f2, f3, f4⟩, hi, hT, hw, hl, hO, hK, A⟩ := (show rr_R sc dp ce lm fr fc ct L R B T lv ir er wc wh ys yc ye yn yl yo yk from I)
  have hR : rr_R sc dp ce lm fr fc ct L R B T lv ir er wc wh ys yc ye yn yl yo yk := I
  subst e1 e2 e3 e4 e5 f1 f2 f3 f4
  have ⟨n2, n6, d1, d4, l8, l128, cl⟩ := A.1
  have h16 := zz_d4 d4
  have hp2 := zz_2p d
  unfold wpX_owns wpY_owns
  (try dsimp only)
  rcases zz_slot v1 (n := n) (by omega) with hb | ⟨s, hs, rfl⟩
  · exact rf_bad rfl hb (br_f (by decide) (bd_bad rfl hb (br_f (by decide) ⟨rfl, I⟩)))
  · rw [nI_clamp (show s < 2 ^ 31 by omega)]
    have hin := zz_i6 n6 hs
    have hls := hl s hs
    refine rf_ok rfl n6 hs (fun c => br_f (by decide) (bd_ok rfl n6 hs (br_t rfl ⟨hin, br_t (hls.1 c) ⟨rfl, I⟩⟩))) (fun c => br_t rfl ?_)
    have cy : ¬ yl s = 0 := fun z => c (hls.2 z)
    obtain ⟨⟨x, ex, tx⟩, _⟩ := hT s hs c
    by_cases c0 : v2 < 0
    · exact br_t c0 (bd_ok rfl n6 hs (br_t rfl ⟨hin, br_f cy (br_t c0 ⟨rfl, I⟩)⟩))
    · refine br_f c0 ?_
      by_cases c1 : v2 < nI (2 ^ d)
      · obtain ⟨i, hi, rfl⟩ := nI_of c0
        have hi2 : i < 2 ^ d := (nI_ltI hi (by omega)).1 c1
        have go := hO s i (by omega) (by omega)
        have mx1 : tr_mx d (O s) ≤ 1 := tr_mx_le (fun i hi => (hO s i (by omega) (by omega)).2)
        rw [ex, ix_16, nI_clamp (show s * 16 + i < 2 ^ 31 by omega), go.1]
        refine br_t c1 ⟨hin, ha_wp d4 rfl tx (by omega) hi2 (pk_eq (O s i) 1 (fun h => ?_) (fun h => ?_) rfl rfl (by omega) (by decide))⟩
        · exact bd_ok rfl n6 hs (br_t rfl ⟨hin, br_f cy (br_f c0 (br_t c1 ⟨vp_in_nI (by omega) (by decide), br_f (nI_ne0 (by omega) (by omega)) ⟨rfl, I⟩⟩))⟩)
        · refine bd_ok rfl n6 hs (br_t rfl ⟨hin, br_f cy (br_f c0 (br_t c1 ⟨vp_in_nI (by omega) (by decide), br_t ?_ ⟨rfl, I⟩⟩))⟩)
          rw [show O s i = 0 by omega]; rfl
      · exact br_f c1 (bd_ok rfl n6 hs (br_t rfl ⟨hin, br_f cy (br_f c0 (br_f c1 ⟨rfl, I⟩))⟩))
theorem xi_ok {post : Int32 → SX → Prop} {n d s x pos : Nat} {F : List Nat} {f : Nat → Nat} (esc : sc = nI n) (n6 : n ≤ 6) (d4 : d ≤ 4) (hs : s < n) (hls : lv s ≠ 0) (ex : ir s = nI x) (tx : tr_T L R B T F d x f) (hf : ∀ i, i < 2 ^ d → f i ≤ 1) (hpos : pos < 2 ^ 31)
    (K : ∀ oA1 : Nat → Int32, post (tx_ans (tx_T d f) pos) (zS, zM, zF, zG, sc, dp, ce, lm, fr, fc, ct, sp, rp, pl, lo, up, L, R, B, T, mk, lv, ir, er, wc, wh, oA1, oB, fA, fB, sg, rN, rC, pa)) : wpX_idChar post (zS, zM, zF, zG, sc, dp, ce, lm, fr, fc, ct, sp, rp, pl, lo, up, L, R, B, T, mk, lv, ir, er, wc, wh, oA, oB, fA, fB, sg, rN, rC, pa) (nI s) (nI pos) := by
  unfold wpX_idChar
  (try dsimp only)
  rw [nI_clamp (show s < 2 ^ 31 by omega), ex]
  refine rf_ok esc n6 hs (fun c => absurd c hls) (fun _ => br_t rfl (br_t (nI_pos' hpos) ⟨zz_i6 n6 hs, ?_⟩))
  exact tc_wp d4 hpos tx hf K
theorem yi_ok {post : Int32 → Prop} {n d s pos : Nat} {f : Nat → Nat} (esc : ys = nI n) (n6 : n ≤ 6) (d4 : d ≤ 4) (ec : yc = nI (2 ^ d)) (hs : s < n) (hls : yl s ≠ 0) (h : ∀ i, i < 16 → yo (s * 16 + i) = nI (f i) ∧ f i ≤ 1) (hpos : pos < 2 ^ 31)
    (K : post (tx_ans (tx_T d f) pos)) : wpY_idChar post (ys, yc, ye, yn, yl, yo, yk) (nI s) (nI pos) := by
  unfold wpY_idChar
  (try dsimp only)
  rw [nI_clamp (show s < 2 ^ 31 by omega)]
  refine bd_ok esc n6 hs (br_t rfl ⟨zz_i6 n6 hs, br_f hls (br_t (nI_pos' hpos) ?_)⟩)
  exact yi_wp (by omega) d4 ec h hpos K
theorem xi_no {post : Int32 → SX → Prop} {n s : Nat} {v : Int32} (esc : sc = nI n) (n6 : n ≤ 6) (hs : s < n) (K0 : lv s = 0 → post (-3) (zS, zM, zF, zG, sc, dp, ce, lm, fr, fc, ct, sp, rp, pl, lo, up, L, R, B, T, mk, lv, ir, er, wc, wh, oA, oB, fA, fB, sg, rN, rC, pa)) (K1 : lv s ≠ 0 → post (-9) (zS, zM, zF, zG, sc, dp, ce, lm, fr, fc, ct, sp, rp, pl, lo, up, L, R, B, T, mk, lv, ir, er, wc, wh, oA, oB, fA, fB, sg, rN, rC, pa)) (hv : ¬ 0 ≤ v ∨ lv s = 0) : wpX_idChar post (zS, zM, zF, zG, sc, dp, ce, lm, fr, fc, ct, sp, rp, pl, lo, up, L, R, B, T, mk, lv, ir, er, wc, wh, oA, oB, fA, fB, sg, rN, rC, pa) (nI s) v := by
  unfold wpX_idChar
  (try dsimp only)
  refine rf_ok esc n6 hs (fun c => br_f (by decide) (K0 c)) (fun c => br_t rfl (br_f (hv.resolve_right c) (K1 c)))
theorem yi_no {post : Int32 → Prop} {n s : Nat} {v : Int32} (esc : ys = nI n) (n6 : n ≤ 6) (hs : s < n) (K0 : yl s = 0 → post (-3)) (K1 : yl s ≠ 0 → post (-9)) (hv : ¬ 0 ≤ v ∨ yl s = 0) : wpY_idChar post (ys, yc, ye, yn, yl, yo, yk) (nI s) v := by
  unfold wpY_idChar
  (try dsimp only)
  rw [nI_clamp (show s < 2 ^ 31 by omega)]
  exact bd_ok esc n6 hs (br_t rfl ⟨zz_i6 n6 hs, br_c K0 (fun c => br_f (hv.resolve_right c) (K1 c))⟩)
theorem xi_bad {post : Int32 → SX → Prop} {n : Nat} {v v' : Int32} (esc : sc = nI n) (hb : zz_bad n v) (K : post (-1) (zS, zM, zF, zG, sc, dp, ce, lm, fr, fc, ct, sp, rp, pl, lo, up, L, R, B, T, mk, lv, ir, er, wc, wh, oA, oB, fA, fB, sg, rN, rC, pa)) : wpX_idChar post (zS, zM, zF, zG, sc, dp, ce, lm, fr, fc, ct, sp, rp, pl, lo, up, L, R, B, T, mk, lv, ir, er, wc, wh, oA, oB, fA, fB, sg, rN, rC, pa) v v' := by
  unfold wpX_idChar
  (try dsimp only)
  exact rf_bad esc hb (br_f (by decide) K)
theorem yi_bad {post : Int32 → Prop} {n : Nat} {v v' : Int32} (esc : ys = nI n) (hb : zz_bad n v) (K : post (-1)) : wpY_idChar post (ys, yc, ye, yn, yl, yo, yk) v v' := by
  unfold wpY_idChar
  (try dsimp only)
  exact bd_bad esc hb (br_f (by decide) K)
theorem i_vc_knows {k : Nat} {u : SX} {v : SY} (I : i_Rel k u v) (hk : k + 3 ≤ 1539) (v1 : Int32) (v2 : Int32) : wpX_knows (fun r => wpY_knows (fun r' => r' = r ∧ i_Rel (k + 3) u v) v v1 v2) u v1 v2 := by
  obtain ⟨zS, zM, zF, zG, sc, dp, ce, lm, fr, fc, ct, sp, rp, pl, lo, up, L, R, B, T, mk, lv, ir, er, wc, wh, oA, oB, fA, fB, sg, rN, rC, pa⟩ := u
  obtain ⟨ys, yc, ye, yn, yl, yo, yk⟩ := v
  obtain ⟨n, d, lim, cnt, F, O, H, K, E, w, g, ⟨e1, e2, e3, e4, e5⟩, ⟨f1, f2, f3, f4⟩, hi, hT, hw, hl, hO, hK, A⟩ := (show rr_R sc dp ce lm fr fc ct L R B T lv ir er wc wh ys yc ye yn yl yo yk from I)
  have hR : rr_R sc dp ce lm fr fc ct L R B T lv ir er wc wh ys yc ye yn yl yo yk := I
  subst e1 e2 e3 e4 e5 f1 f2 f3 f4
  have ⟨n2, n6, d1, d4, l8, l128, cl⟩ := A.1
  have h16 := zz_d4 d4
  have hp2 := zz_2p d
  unfold wpX_knows wpY_knows
  (try dsimp only)
  rcases zz_slot v1 (n := n) (by omega) with hb | ⟨s, hs, rfl⟩
  · exact rf_bad rfl hb (br_f (by decide) (bd_bad rfl hb (br_f (by decide) ⟨rfl, I⟩)))
  · rw [nI_clamp (show s < 2 ^ 31 by omega)]
    have hin := zz_i6 n6 hs
    have hls := hl s hs
    refine rf_ok rfl n6 hs (fun c => br_f (by decide) (bd_ok rfl n6 hs (br_t rfl ⟨hin, br_t (hls.1 c) ⟨rfl, I⟩⟩))) (fun c => br_t rfl ?_)
    have cy : ¬ yl s = 0 := fun z => c (hls.2 z)
    obtain ⟨_, ⟨x, ex, tx⟩⟩ := hT s hs c
    by_cases c0 : v2 < 0
    · exact br_t c0 (bd_ok rfl n6 hs (br_t rfl ⟨hin, br_f cy (br_t c0 ⟨rfl, I⟩)⟩))
    · refine br_f c0 ?_
      by_cases c1 : v2 < nI cnt
      · obtain ⟨j, hj, rfl⟩ := nI_of c0
        have hj2 : j < cnt := (nI_ltI hj (by omega)).1 c1
        have go := hK s j (by omega) (by omega)
        obtain ⟨a0, a1, a2, a3, a4, a5, a6, a7, a8, a9⟩ := A
        have h4 := a4 s j ⟨hs, c⟩ hj2
        have h6 := a6 j hj2
        have mx1 : tr_mx d (H s) ≤ cnt := tr_mx_le (fun i hi => a9 s i ⟨hs, c⟩ hi)
        rw [ex, ix_128, nI_clamp (show s * 128 + j < 2 ^ 31 by omega), go.1]
        refine br_t c1 ⟨hin, cn_wp d4 rfl tx (by omega) (by omega) (hw j hj2).1 (hw j hj2).2 h6.1 (by omega) (fun h => br_f (by decide) ?_) (fun h => br_t rfl ?_)⟩
        · exact bd_ok rfl n6 hs (br_t rfl ⟨hin, br_f cy (br_f c0 (br_t c1 ⟨vp_in_nI (by omega) (by decide), br_f (nI_ne0 (Nat.pos_of_ne_zero (h4.2 h)) (by omega)) ⟨rfl, I⟩⟩))⟩)
        · refine bd_ok rfl n6 hs (br_t rfl ⟨hin, br_f cy (br_f c0 (br_t c1 ⟨vp_in_nI (by omega) (by decide), br_t ?_ ⟨rfl, I⟩⟩))⟩)
          rw [show K s j = 0 by omega]; rfl
      · exact br_f c1 (bd_ok rfl n6 hs (br_t rfl ⟨hin, br_f cy (br_f c0 (br_f c1 ⟨rfl, I⟩))⟩))
/-- how many below m are in p and not in q -/
def ms_ct (p q : Nat → Nat) : Nat → Nat
  | 0 => 0
  | m + 1 => ms_ct p q m + (if p m ≠ 0 ∧ q m = 0 then 1 else 0)
theorem ms_le (p q : Nat → Nat) : ∀ m, ms_ct p q m ≤ m := by
  intro m
  induction m with
  | zero => exact Nat.le_refl _
  | succ m ih =>
    show ms_ct p q m + _ ≤ m + 1
    split <;> omega
theorem ms_more {p q : Nat → Nat} {c : Nat} (h : ∀ j, c ≤ j → j < 128 → p j = 0) : ∀ m, c + m ≤ 128 → ms_ct p q (c + m) = ms_ct p q c := by
  intro m
  induction m with
  | zero => intro _; rfl
  | succ m ih =>
    intro hm
    have e : ms_ct p q (c + (m + 1)) = ms_ct p q (c + m) + (if p (c + m) ≠ 0 ∧ q (c + m) = 0 then 1 else 0) := rfl
    rw [e, if_neg (fun z => z.1 (h (c + m) (by omega) (by omega))), ih (by omega), Nat.add_zero]
theorem ms_0 {p q : Nat → Nat} : ∀ m, ms_ct p q m = 0 ↔ ∀ j, j < m → p j ≠ 0 → q j ≠ 0 := by
  intro m
  induction m with
  | zero => exact ⟨fun _ j hj => by omega, fun _ => rfl⟩
  | succ m ih =>
    have e : ms_ct p q (m + 1) = ms_ct p q m + (if p m ≠ 0 ∧ q m = 0 then 1 else 0) := rfl
    rw [e]
    by_cases c : p m ≠ 0 ∧ q m = 0
    · rw [if_pos c]
      exact ⟨fun z => by omega, fun z => absurd c.2 (z m (by omega) c.1)⟩
    · rw [if_neg c, Nat.add_zero, ih]
      constructor
      · intro z j hj hp
        by_cases e : j = m
        · subst e; exact fun hq => c ⟨hp, hq⟩
        · exact z j (by omega) hp
      · exact fun z j hj => z j (by omega)
theorem ym_lp {post : Int32 → Prop} {a b : Nat} {Q : Nat → Nat → Nat} (ha : a < 6) (hb : b < 6) (hQ : yk_is yk Q) (K : post (nI (ms_ct (Q a) (Q b) 128))) : ∀ n m : Nat, n + m = 129 → m ≤ 128 →
    wY_missing_44 post (nI a) (nI b) ys yc ye yn yl yo yk n (nI (ms_ct (Q a) (Q b) m)) (nI m) := by
  intro n
  induction n with
  | zero => intro m h1 h2; omega
  | succ n ih =>
    intro m h1 h2
    by_cases c : m < 128
    · have i1 : vp_in (nI (a * 128 + m)) 768 := vp_in_nI (by omega) (by decide)
      have i2 : vp_in (nI (b * 128 + m)) 768 := vp_in_nI (by omega) (by decide)
      have g1 := hQ a m ha c
      have g2 := hQ b m hb c
      have e : ms_ct (Q a) (Q b) (m + 1) = ms_ct (Q a) (Q b) m + (if Q a m ≠ 0 ∧ Q b m = 0 then 1 else 0) := rfl
      have next := ih (m + 1) (by omega) (by omega)
      rw [e] at next
      refine br_f (nI_ge (b := 128) c (by decide)) ?_
      rw [ix_128, ix_128, nI_clamp (show a * 128 + m < 2 ^ 31 by omega), nI_clamp (show b * 128 + m < 2 ^ 31 by omega), g1.1, g2.1]
      refine ⟨i1, pk_eq (Q a m) 0 (fun z => nm_r (nI_1 m) ?_) (fun z => ⟨i2, pk_eq (Q b m) 0 (fun z' => nm_r (nI_1 _) (nm_r (nI_1 m) ?_)) (fun z' => nm_r (nI_1 m) ?_) rfl rfl (by omega) (by decide)⟩) rfl rfl (by omega) (by decide)⟩
      · rw [if_neg (fun q => q.1 z)] at next; exact next
      · rw [if_pos ⟨z, z'⟩] at next; exact next
      · rw [if_neg (fun q => z' q.2)] at next; exact next
    · have e : m = 128 := by omega
      subst e
      exact br_t (by decide) K
theorem ym_1 {post : Int32 → Prop} {n : Nat} {v v' : Int32} (esc : ys = nI n) (hb : zz_bad n v) (K : post (-1)) : wpY_missing post (ys, yc, ye, yn, yl, yo, yk) v v' := by
  unfold wpY_missing
  (try dsimp only)
  exact bd_bad esc hb (br_f (by decide) K)
theorem ym_2 {post : Int32 → Prop} {n j : Nat} {v' : Int32} (esc : ys = nI n) (hn : n ≤ 6) (hj : j < n) (hb : zz_bad n v') (K : post (-1)) : wpY_missing post (ys, yc, ye, yn, yl, yo, yk) (nI j) v' := by
  unfold wpY_missing
  (try dsimp only)
  exact bd_ok esc hn hj (br_t rfl (bd_bad esc hb (br_f (by decide) K)))
theorem ym_3 {post : Int32 → Prop} {n j i : Nat} {Q : Nat → Nat → Nat} (esc : ys = nI n) (hn : n ≤ 6) (hj : j < n) (hi : i < n) (hQ : yk_is yk Q) (K0 : yl j = 0 ∨ yl i = 0 → post (-3)) (K1 : yl j ≠ 0 → yl i ≠ 0 → post (nI (ms_ct (Q j) (Q i) 128))) : wpY_missing post (ys, yc, ye, yn, yl, yo, yk) (nI j) (nI i) := by
  unfold wpY_missing
  (try dsimp only)
  rw [nI_clamp (show j < 2 ^ 31 by omega), nI_clamp (show i < 2 ^ 31 by omega)]
  exact bd_ok esc hn hj (br_t rfl (bd_ok esc hn hi (br_t rfl ⟨zz_i6 hn hj, br_c (fun z => K0 (Or.inl z)) (fun z => ⟨zz_i6 hn hi, br_c (fun z' => K0 (Or.inr z')) (fun z' => ⟨129, ym_lp (by omega) (by omega) hQ (K1 z z') 129 0 (by omega) (by omega)⟩)⟩)⟩)))
theorem xm_lp {post : Int32 → Prop} {d cnt a b x y : Nat} {F : List Nat} {fa fb w g p q : Nat → Nat} (d4 : d ≤ 4) (ece : ce = nI (2 ^ d)) (ect : ct = nI cnt) (hc : cnt ≤ 128) (ha : a < 6) (hb : b < 6) (ea : er a = nI x) (eb : er b = nI y) (ta : tr_T L R B T F d x fa) (tb : tr_T L R B T F d y fb)
    (ba : tr_mx d fa < 2 ^ 30) (bb : tr_mx d fb < 2 ^ 30) (hw : ∀ j, j < cnt → wc j = nI (w j) ∧ wh j = nI (g j)) (hg : ∀ j, j < cnt → w j < 2 ^ d ∧ 1 ≤ g j ∧ g j ≤ 128) (hp : ∀ j, j < cnt → (p j ≠ 0 ↔ g j ≤ fa (w j))) (hq : ∀ j, j < cnt → (q j ≠ 0 ↔ g j ≤ fb (w j)))
    (K : post (nI (ms_ct p q cnt))) : ∀ n m : Nat, n + m = cnt + 1 → m ≤ cnt → wX_missing_19 post (nI a) (nI b) zS zM zF zG sc dp ce lm fr fc ct sp rp pl lo up L R B T mk lv ir er wc wh oA oB fA fB sg rN rC pa n (nI (ms_ct p q m)) (nI m) := by
  intro n
  induction n with
  | zero => intro m h1 h2; omega
  | succ n ih =>
    intro m h1 h2
    by_cases c : m < cnt
    · have e : ms_ct p q (m + 1) = ms_ct p q m + (if p m ≠ 0 ∧ q m = 0 then 1 else 0) := rfl
      have next := ih (m + 1) (by omega) (by omega)
      rw [e] at next
      have h6 := hg m c
      have hpm := hp m c
      have hqm := hq m c
      refine br_f (by rw [ect]; exact nI_ge c (by omega)) ⟨vp_in_nI ha (by decide), ?_⟩
      rw [nI_clamp (show a < 2 ^ 31 by omega), nI_clamp (show b < 2 ^ 31 by omega), ea, eb]
      refine cn_wp d4 ece ta ba (by omega) (hw m c).1 (hw m c).2 h6.1 (by omega) (fun z => br_f (by decide) ⟨vp_in_nI hb (by decide), ?_⟩) (fun z => br_t rfl (nm_r (nI_1 m) ?_))
      · refine cn_wp d4 ece tb bb (by omega) (hw m c).1 (hw m c).2 h6.1 (by omega) (fun z' => br_f (by decide) (nm_r (nI_1 m) ?_)) (fun z' => br_t rfl (nm_r (nI_1 _) (nm_r (nI_1 m) ?_)))
        · rw [if_neg (fun r => hqm.2 z' r.2)] at next; exact next
        · rw [if_pos ⟨hpm.2 z, by omega⟩] at next; exact next
      · rw [if_neg (fun r => by have := hpm.1 r.1; omega)] at next; exact next
    · have e : m = cnt := by omega
      subst e
      exact br_t (by rw [ect]; exact nI_le (Nat.le_refl _) (by omega)) K
theorem i_vc_missing {k : Nat} {u : SX} {v : SY} (I : i_Rel k u v) (hk : k + 3 ≤ 1539) (v1 : Int32) (v2 : Int32) : wpX_missing (fun r => wpY_missing (fun r' => r' = r ∧ i_Rel (k + 3) u v) v v1 v2) u v1 v2 := by
  obtain ⟨zS, zM, zF, zG, sc, dp, ce, lm, fr, fc, ct, sp, rp, pl, lo, up, L, R, B, T, mk, lv, ir, er, wc, wh, oA, oB, fA, fB, sg, rN, rC, pa⟩ := u
  obtain ⟨ys, yc, ye, yn, yl, yo, yk⟩ := v
  obtain ⟨n, d, lim, cnt, F, O, H, K, E, w, g, ⟨e1, e2, e3, e4, e5⟩, ⟨f1, f2, f3, f4⟩, hi, hT, hw, hl, hO, hK, A⟩ := (show rr_R sc dp ce lm fr fc ct L R B T lv ir er wc wh ys yc ye yn yl yo yk from I)
  have hR : rr_R sc dp ce lm fr fc ct L R B T lv ir er wc wh ys yc ye yn yl yo yk := I
  subst e1 e2 e3 e4 e5 f1 f2 f3 f4
  have ⟨n2, n6, d1, d4, l8, l128, cl⟩ := A.1
  have h16 := zz_d4 d4
  have hp2 := zz_2p d
  unfold wpX_missing
  (try dsimp only)
  rcases zz_slot v1 (n := n) (by omega) with hb | ⟨s, hs, rfl⟩
  · exact rp_1 rfl hb (br_f (by decide) (ym_1 rfl hb ⟨rfl, I⟩))
  · rcases zz_slot v2 (n := n) (by omega) with hb | ⟨t, ht, rfl⟩
    · exact rp_2 rfl n6 hs hb (br_f (by decide) (ym_2 rfl n6 hs hb ⟨rfl, I⟩))
    · have hls := hl s hs
      have hlt := hl t ht
      refine rp_3 rfl n6 hs ht (fun z => br_f (by decide) (ym_3 rfl n6 hs ht hK (fun _ => ⟨rfl, I⟩) (fun z1 z2 => ?_))) (fun z1 z2 => br_t rfl ?_)
      · exact (z.elim (fun q => z1 (hls.1 q)) (fun q => z2 (hlt.1 q))).elim
      · obtain ⟨_, ⟨x, ex, tx⟩⟩ := hT s hs z1
        obtain ⟨_, ⟨y, ey, ty⟩⟩ := hT t ht z2
        obtain ⟨a0, a1, a2, a3, a4, a5, a6, a7, a8, a9⟩ := A
        have m1 : tr_mx d (H s) ≤ cnt := tr_mx_le (fun i hi => a9 s i ⟨hs, z1⟩ hi)
        have m2 : tr_mx d (H t) ≤ cnt := tr_mx_le (fun i hi => a9 t i ⟨ht, z2⟩ hi)
        refine ⟨cnt + 1, xm_lp d4 rfl rfl (by omega) (by omega) (by omega) ex ey tx ty (by omega) (by omega) hw a6 (p := K s) (q := K t) (fun j hj => a4 s j ⟨hs, z1⟩ hj) (fun j hj => a4 t j ⟨ht, z2⟩ hj) ?_ (cnt + 1) 0 (by omega) (by omega)⟩
        refine ym_3 rfl n6 hs ht hK (fun z => ?_) (fun _ _ => ⟨?_, I⟩)
        · exact (z.elim (fun q => z1 (hls.2 q)) (fun q => z2 (hlt.2 q))).elim
        · have := ms_more (p := K s) (q := K t) (c := cnt) (fun j h1 h2 => a5 s j ⟨hs, z1⟩ h1 h2) (128 - cnt) (by omega)
          rw [show cnt + (128 - cnt) = 128 by omega] at this
          rw [this]
end
end
section
/-! idChar -/
section
variable {zS zM zF zG sc dp ce lm fr fc ct sp rp pl lo up : Int32} {L R B T mk lv ir er wc wh oA oB fA fB sg rN rC pa : Nat → Int32} {ys yc ye yn : Int32} {yl yo yk : Nat → Int32}
theorem i_vc_idChar {k : Nat} {u : SX} {v : SY} (I : i_Rel k u v) (hk : k + 3 ≤ 1539) (v1 : Int32) (v2 : Int32) : wpX_idChar (fun r u' => wpY_idChar (fun r' => r' = r ∧ i_Rel (k + 3) u' v) v v1 v2) u v1 v2 := by
  obtain ⟨zS, zM, zF, zG, sc, dp, ce, lm, fr, fc, ct, sp, rp, pl, lo, up, L, R, B, T, mk, lv, ir, er, wc, wh, oA, oB, fA, fB, sg, rN, rC, pa⟩ := u
  obtain ⟨ys, yc, ye, yn, yl, yo, yk⟩ := v
  obtain ⟨n, d, lim, cnt, F, O, H, K, E, w, g, ⟨e1, e2, e3, e4, e5⟩, ⟨f1, f2, f3, f4⟩, hi, hT, hw, hl, hO, hK, A⟩ := (show rr_R sc dp ce lm fr fc ct L R B T lv ir er wc wh ys yc ye yn yl yo yk from I)
  have hR : rr_R sc dp ce lm fr fc ct L R B T lv ir er wc wh ys yc ye yn yl yo yk := I
  subst e1 e2 e3 e4 e5 f1 f2 f3 f4
  have ⟨n2, n6, d1, d4, l8, l128, cl⟩ := A.1
  have h16 := zz_d4 d4
  have hp2 := zz_2p d
  rcases zz_slot v1 (n := n) (by omega) with hb | ⟨s, hs, rfl⟩
  · exact xi_bad rfl hb (yi_bad rfl hb ⟨rfl, I⟩)
  · have hls := hl s hs
    by_cases c : lv s = 0
    · refine xi_no rfl n6 hs (fun _ => ?_) (fun z => absurd c z) (Or.inr c)
      exact yi_no rfl n6 hs (fun _ => ⟨rfl, I⟩) (fun z => absurd (hls.1 c) z) (Or.inr (hls.1 c))
    · have cy : ¬ yl s = 0 := fun z => c (hls.2 z)
      by_cases c0 : 0 ≤ v2
      · obtain ⟨pos, hpos, rfl⟩ := nI_of (Int32.not_lt.mpr c0)
        obtain ⟨⟨x, ex, tx⟩, _⟩ := hT s hs c
        refine xi_ok (f := O s) rfl n6 d4 hs c ex tx (fun i hi => (hO s i (by omega) (by omega)).2) hpos (fun oA1 => ?_)
        exact yi_ok (f := O s) rfl n6 d4 rfl hs cy (fun i hi => hO s i (by omega) hi) hpos ⟨rfl, i_mk hR⟩
      · refine xi_no rfl n6 hs (fun z => absurd z c) (fun z => ?_) (Or.inl c0)
        exact yi_no rfl n6 hs (fun z => absurd z cy) (fun _ => ⟨rfl, I⟩) (Or.inl c0)
end
end
section
/-! compare -/
section
variable {zS zM zF zG sc dp ce lm fr fc ct sp rp pl lo up : Int32} {L R B T mk lv ir er wc wh oA oB fA fB sg rN rC pa : Nat → Int32} {ys yc ye yn : Int32} {yl yo yk : Nat → Int32}
theorem i_vc_compare {k : Nat} {u : SX} {v : SY} (I : i_Rel k u v) (hk : k + 3 ≤ 1539) (v1 : Int32) (v2 : Int32) : wpX_compare (fun r u' => wpY_compare (fun r' => r' = r ∧ i_Rel (k + 3) u' v) v v1 v2) u v1 v2 := by
  obtain ⟨zS, zM, zF, zG, sc, dp, ce, lm, fr, fc, ct, sp, rp, pl, lo, up, L, R, B, T, mk, lv, ir, er, wc, wh, oA, oB, fA, fB, sg, rN, rC, pa⟩ := u
  obtain ⟨ys, yc, ye, yn, yl, yo, yk⟩ := v
  obtain ⟨n, d, lim, cnt, F, O, H, K, E, w, g, ⟨e1, e2, e3, e4, e5⟩, ⟨f1, f2, f3, f4⟩, hi, hT, hw, hl, hO, hK, A⟩ := (show rr_R sc dp ce lm fr fc ct L R B T lv ir er wc wh ys yc ye yn yl yo yk from I)
  have hR : rr_R sc dp ce lm fr fc ct L R B T lv ir er wc wh ys yc ye yn yl yo yk := I
  subst e1 e2 e3 e4 e5 f1 f2 f3 f4
  have ⟨n2, n6, d1, d4, l8, l128, cl⟩ := A.1
  have h16 := zz_d4 d4
  have hp2 := zz_2p d
  unfold wpX_compare wpY_compare
  (try dsimp only)
  rcases zz_slot v1 (n := n) (by omega) with hb | ⟨s, hs, rfl⟩
  · exact rp_1 rfl hb (br_f (by decide) (ym_1 rfl hb (br_f (by decide) ⟨rfl, I⟩)))
  · rcases zz_slot v2 (n := n) (by omega) with hb | ⟨t, ht, rfl⟩
    · exact rp_2 rfl n6 hs hb (br_f (by decide) (ym_2 rfl n6 hs hb (br_f (by decide) ⟨rfl, I⟩)))
    · have hls := hl s hs
      have hlt := hl t ht
      have is := zz_i6 n6 hs
      have it := zz_i6 n6 ht
      refine rp_3 rfl n6 hs ht (fun z => br_f (by decide) (ym_3 rfl n6 hs ht hK (fun _ => br_f (by decide) ⟨rfl, I⟩) (fun z1 z2 => ?_))) (fun z1 z2 => br_t rfl ?_)
      · exact (z.elim (fun q => z1 (hls.1 q)) (fun q => z2 (hlt.1 q))).elim
      · obtain ⟨_, ⟨x, ex, tx⟩⟩ := hT s hs z1
        obtain ⟨_, ⟨y, ey, ty⟩⟩ := hT t ht z2
        have hA := A
        obtain ⟨a0, a1, a2, a3, a4, a5, a6, a7, a8, a9⟩ := A
        rw [nI_clamp (show s < 2 ^ 31 by omega), nI_clamp (show t < 2 ^ 31 by omega), ex, ey]
        have bst : ∀ i, i < 2 ^ d → H s i < 2 ^ 20 ∧ H t i < 2 ^ 20 := fun i hi => by
          have := a9 s i ⟨hs, z1⟩ hi; have := a9 t i ⟨ht, z2⟩ hi; omega
        have r1 : (∀ i, i < 2 ^ d → H s i ≤ H t i) ↔ ms_ct (K s) (K t) 128 = 0 := by
          rw [ms_0, rr_le hA ⟨hs, z1⟩ (H t) (fun b => b = t) (fun i hi => ⟨Or.inr ⟨t, rfl, rfl⟩, fun b hb => by subst hb; exact Nat.le_refl _⟩) (fun b hb => by subst hb; exact ⟨ht, z2⟩)]
          exact ⟨fun h j hj hp => by obtain ⟨b, rfl, q⟩ := h j hj hp; exact q, fun h j hj hp => ⟨t, rfl, h j hj hp⟩⟩
        have r2 : (∀ i, i < 2 ^ d → H t i ≤ H s i) ↔ ms_ct (K t) (K s) 128 = 0 := by
          rw [ms_0, rr_le hA ⟨ht, z2⟩ (H s) (fun b => b = s) (fun i hi => ⟨Or.inr ⟨s, rfl, rfl⟩, fun b hb => by subst hb; exact Nat.le_refl _⟩) (fun b hb => by subst hb; exact ⟨hs, z1⟩)]
          exact ⟨fun h j hj hp => by obtain ⟨b, rfl, q⟩ := h j hj hp; exact q, fun h j hj hp => ⟨s, rfl, h j hj hp⟩⟩
        have l1 := ms_le (K s) (K t) 128
        have l2 := ms_le (K t) (K s) 128
        -- the reference's side, by the two counts
        have fin : ∀ (c1 c2 : Prop) (res : Int32) (u' : SX), (c1 ↔ ms_ct (K s) (K t) 128 = 0) → (c2 ↔ ms_ct (K t) (K s) 128 = 0) → i_Rel (k + 3) u' (nI n, nI (2 ^ d), nI lim, nI cnt, yl, yo, yk) →
            ((c1 ∧ c2 ∧ res = 0) ∨ (c1 ∧ ¬ c2 ∧ res = 1) ∨ (¬ c1 ∧ c2 ∧ res = 2) ∨ (¬ c1 ∧ ¬ c2 ∧ res = 3)) →
            wpY_missing (fun r_1 => (0 ≤ r_1 → wpY_missing (fun r_10 => (r_1 = 0 → (r_10 = 0 → (0 : Int32) = res ∧ i_Rel (k + 3) u' (nI n, nI (2 ^ d), nI lim, nI cnt, yl, yo, yk)) ∧ (¬ r_10 = 0 → wY_compare_32 (fun r' => r' = res ∧ i_Rel (k + 3) u' (nI n, nI (2 ^ d), nI lim, nI cnt, yl, yo, yk)) r_1 r_10 (nI n) (nI (2 ^ d)) (nI lim) (nI cnt) yl yo yk)) ∧ (¬ r_1 = 0 → wY_compare_32 (fun r' => r' = res ∧ i_Rel (k + 3) u' (nI n, nI (2 ^ d), nI lim, nI cnt, yl, yo, yk)) r_1 r_10 (nI n) (nI (2 ^ d)) (nI lim) (nI cnt) yl yo yk)) (nI n, nI (2 ^ d), nI lim, nI cnt, yl, yo, yk) (nI t) (nI s)) ∧ (¬ 0 ≤ r_1 → r_1 = res ∧ i_Rel (k + 3) u' (nI n, nI (2 ^ d), nI lim, nI cnt, yl, yo, yk))) (nI n, nI (2 ^ d), nI lim, nI cnt, yl, yo, yk) (nI s) (nI t) := by
          intro c1 c2 res u' q1 q2 I' hres
          refine ym_3 rfl n6 hs ht hK (fun z => (z.elim (fun q => z1 (hls.2 q)) (fun q => z2 (hlt.2 q))).elim) (fun _ _ => br_t (nI_pos' (by omega)) (ym_3 rfl n6 ht hs hK (fun z => (z.elim (fun q => z2 (hlt.2 q)) (fun q => z1 (hls.2 q))).elim) (fun _ _ => ?_)))
          unfold wY_compare_32
          rcases hres with ⟨p1, p2, e⟩ | ⟨p1, p2, e⟩ | ⟨p1, p2, e⟩ | ⟨p1, p2, e⟩
          · rw [q1.1 p1, q2.1 p2]
            exact br_t rfl (br_t rfl ⟨e.symm, I'⟩)
          · rw [q1.1 p1]
            exact br_t rfl (br_f (nI_ne0 (Nat.pos_of_ne_zero (fun z => p2 (q2.2 z))) (by omega)) (br_t rfl ⟨e.symm, I'⟩))
          · rw [q2.1 p2]
            have hne := nI_ne0 (Nat.pos_of_ne_zero (fun z => p1 (q1.2 z))) (show ms_ct (K s) (K t) 128 < 2 ^ 31 by omega)
            exact br_f hne (br_f hne (br_t rfl ⟨e.symm, I'⟩))
          · have hne := nI_ne0 (Nat.pos_of_ne_zero (fun z => p1 (q1.2 z))) (show ms_ct (K s) (K t) 128 < 2 ^ 31 by omega)
            have hne2 := nI_ne0 (Nat.pos_of_ne_zero (fun z => p2 (q2.2 z))) (show ms_ct (K t) (K s) 128 < 2 ^ 31 by omega)
            exact br_f hne (br_f hne (br_f hne2 ⟨e.symm, I'⟩))
        have neg : ∀ {f h : Nat → Nat}, (∃ i, i < 2 ^ d ∧ h i < f i) → ¬ ∀ i, i < 2 ^ d → f i ≤ h i := by
          intro f h ⟨i, hi, q⟩ z
          have := z i hi; omega
        refine ⟨is, it, am_wp d4 tx ty bst (fun p1 sp1 oA1 oB1 fA1 fB1 sg1 => ⟨it, is, ?_⟩) (fun p1 sp1 oA1 oB1 fA1 fB1 sg1 => ⟨it, is, ?_⟩)⟩
        · (try dsimp only)
          rw [ex, ey]
          refine am_wp d4 ty tx (fun i hi => ⟨(bst i hi).2, (bst i hi).1⟩) (fun p2 sp2 oA2 oB2 fA2 fB2 sg2 => ?_) (fun p2 sp2 oA2 oB2 fA2 fB2 sg2 => ?_)
          · (try dsimp only)
            exact br_f (by decide) (br_f (by decide) (fin _ _ 0 _ r1 r2 (i_mk hR) (Or.inl ⟨p1, p2, rfl⟩)))
          · (try dsimp only)
            refine br_f (by decide) (br_t rfl ?_)
            unfold wX_compare_61
            exact br_f (by decide) (fin _ _ 1 _ r1 r2 (i_mk hR) (Or.inr (Or.inl ⟨p1, neg p2, rfl⟩)))
        · (try dsimp only)
          rw [ex, ey]
          refine am_wp d4 ty tx (fun i hi => ⟨(bst i hi).2, (bst i hi).1⟩) (fun p2 sp2 oA2 oB2 fA2 fB2 sg2 => ?_) (fun p2 sp2 oA2 oB2 fA2 fB2 sg2 => ?_)
          · (try dsimp only)
            refine br_t rfl ?_
            unfold wX_compare_61
            exact br_t rfl (br_f (by decide) (fin _ _ 2 _ r1 r2 (i_mk hR) (Or.inr (Or.inr (Or.inl ⟨neg p1, p2, rfl⟩)))))
          · (try dsimp only)
            refine br_t rfl ?_
            unfold wX_compare_61
            exact br_t rfl (br_t rfl (fin _ _ 3 _ r1 r2 (i_mk hR) (Or.inr (Or.inr (Or.inr ⟨neg p1, neg p2, rfl⟩)))))
end
end
section
/-! discard, peek, seed, the constructors -/
section
variable {zS zM zF zG sc dp ce lm fr fc ct sp rp pl lo up : Int32} {L R B T mk lv ir er wc wh oA oB fA fB sg rN rC pa : Nat → Int32} {ys yc ye yn : Int32} {yl yo yk : Nat → Int32}
/-- one row of a table set -/
def hs_1 (H : Nat → Nat → Nat) (b : Nat) (h : Nat → Nat) : Nat → Nat → Nat := fun s => if s = b then h else H s
theorem hs_eq {H : Nat → Nat → Nat} {b : Nat} {h : Nat → Nat} : hs_1 H b h b = h := if_pos rfl
theorem hs_ne {H : Nat → Nat → Nat} {b s : Nat} {h : Nat → Nat} (e : s ≠ b) : hs_1 H b h s = H s := if_neg e
theorem zz_up {n b : Nat} {v : Int32} (h : ∀ s, s < n → (lv s = 0 ↔ yl s = 0)) : ∀ s, s < n → (upd lv b v s = 0 ↔ upd yl b v s = 0) := by
  intro s hs
  by_cases c : s = b
  · subst c; rw [pk_us, pk_us]
  · rw [pk_un c, pk_un c]; exact h s hs
theorem la_0 {n b s : Nat} (h : rr_la n (upd lv b 0) s) : s ≠ b ∧ rr_la n lv s := by
  obtain ⟨h1, h2⟩ := h
  by_cases c : s = b
  · subst c; rw [pk_us] at h2; exact absurd rfl h2
  · rw [pk_un c] at h2; exact ⟨c, h1, h2⟩
theorem la_1 {n b s : Nat} (h : rr_la n (upd lv b 1) s) : s = b ∨ (s ≠ b ∧ rr_la n lv s) := by
  obtain ⟨h1, h2⟩ := h
  by_cases c : s = b
  · exact Or.inl c
  · rw [pk_un c] at h2; exact Or.inr ⟨c, h1, h2⟩
theorem i_vc_discard {k : Nat} {u : SX} {v : SY} (I : i_Rel k u v) (hk : k + 3 ≤ 1539) (v1 : Int32) : wpX_discard (fun r u' => wpY_discard (fun r' v' => r' = r ∧ i_Rel (k + 3) u' v') v v1) u v1 := by
  obtain ⟨zS, zM, zF, zG, sc, dp, ce, lm, fr, fc, ct, sp, rp, pl, lo, up, L, R, B, T, mk, lv, ir, er, wc, wh, oA, oB, fA, fB, sg, rN, rC, pa⟩ := u
  obtain ⟨ys, yc, ye, yn, yl, yo, yk⟩ := v
  obtain ⟨n, d, lim, cnt, F, O, H, K, E, w, g, ⟨e1, e2, e3, e4, e5⟩, ⟨f1, f2, f3, f4⟩, hi, hT, hw, hl, hO, hK, A⟩ := (show rr_R sc dp ce lm fr fc ct L R B T lv ir er wc wh ys yc ye yn yl yo yk from I)
  have hR : rr_R sc dp ce lm fr fc ct L R B T lv ir er wc wh ys yc ye yn yl yo yk := I
  subst e1 e2 e3 e4 e5 f1 f2 f3 f4
  have ⟨n2, n6, d1, d4, l8, l128, cl⟩ := A.1
  have h16 := zz_d4 d4
  have hp2 := zz_2p d
  unfold wpX_discard wpY_discard
  (try dsimp only)
  rcases zz_slot v1 (n := n) (by omega) with hb | ⟨s, hs, rfl⟩
  · exact rf_bad rfl hb (br_f (by decide) (bd_bad rfl hb (br_f (by decide) ⟨rfl, I⟩)))
  · rw [nI_clamp (show s < 2 ^ 31 by omega)]
    have hin := zz_i6 n6 hs
    have hls := hl s hs
    refine rf_ok rfl n6 hs (fun c => br_f (by decide) (bd_ok rfl n6 hs (br_t rfl ⟨hin, br_t (hls.1 c) ⟨rfl, I⟩⟩))) (fun c => br_t rfl ?_)
    have cy : ¬ yl s = 0 := fun z => c (hls.2 z)
    refine cs_wp n6 hs ?_
    (try dsimp only)
    rw [nb_0]
    refine bd_ok rfl n6 hs (br_t rfl ⟨hin, br_f cy ⟨hin, nm_e ⟨rfl, i_mk ?_⟩⟩⟩)
    refine ⟨n, d, lim, cnt, F, O, H, K, E, w, g, ⟨rfl, rfl, rfl, rfl, rfl⟩, ⟨rfl, rfl, rfl, rfl⟩, hi, ?_, hw, zz_up hl, hO, hK, rr_gen A (fun t ht => ?_) (fun a b i ha hb hab hi ho => ?_)⟩
    · intro t ht htl
      obtain ⟨z1, z2⟩ := la_0 ⟨ht, htl⟩
      rw [pk_un z1, pk_un z1]
      exact hT t ht z2.2
    · obtain ⟨z1, z2⟩ := la_0 ht
      exact ⟨t, t, z2, z2, fun i _ => by omega, fun j _ => by omega, fun i _ ho => Or.inl ho⟩
    · exact A.2.1 a b i (la_0 ha).2 (la_0 hb).2 hab hi ho
theorem i_vc_peek {k : Nat} {u : SX} {v : SY} (I : i_Rel k u v) (hk : k + 3 ≤ 1539) (v1 : Int32) (v2 : Int32) : wpX_peek (fun r u' => wpY_peek (fun r' v' => r' = r ∧ i_Rel (k + 3) u' v') v v1 v2) u v1 v2 := by
  obtain ⟨zS, zM, zF, zG, sc, dp, ce, lm, fr, fc, ct, sp, rp, pl, lo, up, L, R, B, T, mk, lv, ir, er, wc, wh, oA, oB, fA, fB, sg, rN, rC, pa⟩ := u
  obtain ⟨ys, yc, ye, yn, yl, yo, yk⟩ := v
  obtain ⟨n, d, lim, cnt, F, O, H, K, E, w, g, ⟨e1, e2, e3, e4, e5⟩, ⟨f1, f2, f3, f4⟩, hi, hT, hw, hl, hO, hK, A⟩ := (show rr_R sc dp ce lm fr fc ct L R B T lv ir er wc wh ys yc ye yn yl yo yk from I)
  have hR : rr_R sc dp ce lm fr fc ct L R B T lv ir er wc wh ys yc ye yn yl yo yk := I
  subst e1 e2 e3 e4 e5 f1 f2 f3 f4
  have ⟨n2, n6, d1, d4, l8, l128, cl⟩ := A.1
  have h16 := zz_d4 d4
  have hp2 := zz_2p d
  unfold wpX_peek wpY_peek
  (try dsimp only)
  rcases zz_slot v1 (n := n) (by omega) with hb | ⟨a, ha, rfl⟩
  · exact rc_1 rfl hb (br_f (by decide) (bd_bad rfl hb (br_f (by decide) ⟨rfl, I⟩)))
  · rcases zz_slot v2 (n := n) (by omega) with hb | ⟨b, hb, rfl⟩
    · exact rc_2 rfl n6 ha hb (br_f (by decide) (bd_ok rfl n6 ha (br_t rfl (bd_bad rfl hb (br_f (by decide) ⟨rfl, I⟩)))))
    · rw [nI_clamp (show a < 2 ^ 31 by omega), nI_clamp (show b < 2 ^ 31 by omega)]
      have ia := zz_i6 n6 ha
      have ib := zz_i6 n6 hb
      have hla := hl a ha
      have hlb := hl b hb
      have na : ¬ a = b → ¬ nI a = nI b := fun h z => h ((nI_eq (by omega) (by omega)).1 z)
      refine rc_3 rfl n6 ha hb (fun h => br_f (by decide) (bd_ok rfl n6 ha (br_t rfl (bd_ok rfl n6 hb (br_t rfl (br_t (by rw [h]) ⟨rfl, I⟩))))))
        (fun h z => br_f (by decide) (bd_ok rfl n6 ha (br_t rfl (bd_ok rfl n6 hb (br_t rfl (br_f (na h) ⟨ia, br_t (hla.1 z) ⟨rfl, I⟩⟩))))))
        (fun h z z' => br_f (by decide) (bd_ok rfl n6 ha (br_t rfl (bd_ok rfl n6 hb (br_t rfl (br_f (na h) ⟨ia, br_f (fun q => z (hla.2 q)) ⟨ib, br_f (fun q => z' (hlb.2 q)) ⟨rfl, I⟩⟩⟩))))))
        (fun h z z' => br_t rfl ⟨ia, ?_⟩)
      refine ss_wp n6 hb ?_
      (try dsimp only)
      refine bd_ok rfl n6 ha (br_t rfl (bd_ok rfl n6 hb (br_t rfl (br_f (na h) ⟨ia, br_f (fun q => z (hla.2 q)) ⟨ib, br_t (hlb.1 z') ⟨17, yp_52 (by omega) (by omega) h hK 17 0 yo O (by omega) (by omega) hO (fun yo1 yk1 O1 Q1 k1 k2 k3 k4 => ⟨rfl, i_mk ?_⟩)⟩⟩⟩))))
      have o1 : ∀ s i, s < 6 → i < 16 → s ≠ b → O1 s i = O s i := fun s i hs hi hn => by rw [k3 s i hs hi, if_neg (fun q => hn q.1)]
      have o2 : ∀ i, i < 16 → O1 b i = 0 := fun i hi => by rw [k3 b i (by omega) hi, if_pos ⟨rfl, Nat.zero_le _⟩]
      refine ⟨n, d, lim, cnt, F, O1, (hs_1 H b (H a)), Q1, E, w, g, ⟨rfl, rfl, rfl, rfl, rfl⟩, ⟨rfl, rfl, rfl, rfl⟩, hi, ?_, hw, zz_up hl, k1, k2, rr_gen A (fun t ht => ?_) (fun s t i hs ht hst hi ho => ?_)⟩
      · intro t ht htl
        rcases la_1 ⟨ht, htl⟩ with rfl | ⟨z1, z2⟩
        · obtain ⟨_, ⟨y, ey, ty⟩⟩ := hT a ha z
          rw [pk_us, pk_us, hs_eq]
          exact ⟨⟨0, rfl, tr_zero hi (fun i hi => o2 i (by omega))⟩, ⟨y, ey, ty⟩⟩
        · obtain ⟨⟨x, ex, tx⟩, ⟨y, ey, ty⟩⟩ := hT t ht z2.2
          rw [pk_un z1, pk_un z1, hs_ne z1]
          exact ⟨⟨x, ex, tr_congr (fun i hi => (o1 t i (by omega) (by omega) z1).symm) tx⟩, ⟨y, ey, ty⟩⟩
      · rcases la_1 ht with rfl | ⟨z1, z2⟩
        · refine ⟨a, a, ⟨ha, z⟩, ⟨ha, z⟩, fun i _ => by rw [hs_eq]; omega, fun j hj => by rw [k4 t j (by omega) hj, if_pos rfl]; omega, fun i hi ho => absurd (o2 i (by omega)) ho⟩
        · have ht6 : t < 6 := by have := z2.1; omega
          refine ⟨t, t, z2, z2, fun i _ => by rw [hs_ne z1]; omega, fun j hj => by rw [k4 t j ht6 hj, if_neg z1]; omega, fun i hi ho => Or.inl (by rw [o1 t i ht6 (by omega) z1] at ho; exact ho)⟩
      · rcases la_1 hs with rfl | ⟨z1, z2⟩
        · exact absurd (o2 i (by omega)) ho
        · rcases la_1 ht with rfl | ⟨y1, y2⟩
          · exact o2 i (by omega)
          · have hs6 : s < 6 := by have := z2.1; omega
            have ht6 : t < 6 := by have := y2.1; omega
            rw [o1 s i hs6 (by omega) z1] at ho
            rw [o1 t i ht6 (by omega) y1]
            exact A.2.1 s t i z2 y2 hst hi ho
theorem xs_lp {post : Int32 → SX → Prop} {n slot : Nat} (esc : sc = nI n) (n6 : n ≤ 6) (hs : slot < n) (Kl : (∃ s, s < n ∧ lv s ≠ 0) → post (-8) (zS, zM, zF, zG, sc, dp, ce, lm, fr, fc, ct, sp, rp, pl, lo, up, L, R, B, T, mk, lv, ir, er, wc, wh, oA, oB, fA, fB, sg, rN, rC, pa)) (Kn : (∀ s, s < n → lv s = 0) → post 0 (zS, zM, zF, zG, sc, dp, ce, lm, fr, fc, 0, sp, rp, pl, lo, up, L, R, B, T, mk, upd lv slot 1, upd ir slot 1, upd er slot 0, wc, wh, oA, oB, fA, fB, sg, rN, rC, pa)) : ∀ m c : Nat, m + c = n + 1 → c ≤ n → (∀ s, s < c → lv s = 0) →
    wX_seed_12 post (nI slot) zS zM zF zG sc dp ce lm fr fc ct sp rp pl lo up L R B T mk lv ir er wc wh oA oB fA fB sg rN rC pa m (nI c) := by
  intro m
  induction m with
  | zero => intro c h1 h2; omega
  | succ m ih =>
    intro c h1 h2 hh
    by_cases h : c < n
    · refine br_f (by rw [esc]; exact nI_ge h (by omega)) ⟨vp_in_nI (by omega) (by decide), ?_⟩
      rw [nI_clamp (show c < 2 ^ 31 by omega)]
      refine br_c (fun z => nm_r (nI_1 c) (ih (c + 1) (by omega) (by omega) (fun s hs => ?_))) (fun z => Kl ⟨c, h, z⟩)
      by_cases e : s = c
      · subst e; exact z
      · exact hh s (by omega)
    · have e : c = n := by omega
      subst e
      refine br_t (by rw [esc]; exact nI_le (Nat.le_refl _) (by omega)) (ss_wp n6 hs (Kn hh))
theorem ys_lp {post : Int32 → SY → Prop} {n slot d : Nat} {O K : Nat → Nat → Nat} (esc : ys = nI n) (n6 : n ≤ 6) (d4 : d ≤ 4) (ec : yc = nI (2 ^ d)) (hs : slot < n) (hO : yo_is yo O) (hK : yk_is yk K) (Kl : (∃ s, s < n ∧ yl s ≠ 0) → post (-8) (ys, yc, ye, yn, yl, yo, yk))
    (Kn : (∀ s, s < n → yl s = 0) → ∀ (yo1 yk1 : Nat → Int32) (O1 K1 : Nat → Nat → Nat), yo_is yo1 O1 → yk_is yk1 K1 → (∀ i, i < 2 ^ d → O1 slot i = 1) → (∀ j, j < 128 → K1 slot j = 0) → post 0 (ys, yc, ye, 0, upd yl slot 1, yo1, yk1)) : ∀ m c : Nat, m + c = n + 1 → c ≤ n → (∀ s, s < c → yl s = 0) →
    wY_seed_12 post (nI slot) ys yc ye yn yl yo yk m (nI c) := by
  have h16 := zz_d4 d4
  intro m
  induction m with
  | zero => intro c h1 h2; omega
  | succ m ih =>
    intro c h1 h2 hh
    by_cases h : c < n
    · refine br_f (by rw [esc]; exact nI_ge h (by omega)) ⟨vp_in_nI (by omega) (by decide), ?_⟩
      rw [nI_clamp (show c < 2 ^ 31 by omega)]
      refine br_c (fun z => nm_r (nI_1 c) (ih (c + 1) (by omega) (by omega) (fun s hs => ?_))) (fun z => Kl ⟨c, h, z⟩)
      by_cases e : s = c
      · subst e; exact z
      · exact hh s (by omega)
    · have e : c = n := by omega
      subst e
      refine br_t (by rw [esc]; exact nI_le (Nat.le_refl _) (by omega)) ⟨17, yd_40 (by omega) d4 ec 17 0 yo O (by omega) (by omega) hO (fun yo1 O1 k1 k2 => ⟨129, yd_78 (by omega) 129 0 yk K (by omega) (by omega) hK (fun yk1 K1 k3 k4 => Kn hh yo1 yk1 O1 K1 k1 k3 (fun i hi => ?_) (fun j hj => ?_))⟩)⟩
      · rw [k2 slot i (by omega) (by omega), if_pos ⟨rfl, Nat.zero_le _⟩, if_pos hi]
      · rw [k4 slot j (by omega) hj, if_pos ⟨rfl, Nat.zero_le _⟩]
/-- the seeded state -/
theorem rr_new {n d lim slot : Nat} {F : List Nat} {O K E : Nat → Nat → Nat} {w g : Nat → Nat} (h0 : 2 ≤ n ∧ n ≤ 6 ∧ 1 ≤ d ∧ d ≤ 4 ∧ 8 ≤ lim ∧ lim ≤ 128) (hs : slot < n) (hi : hp_I fr fc L R B T F) (hl : ∀ s, s < n → lv s = 0) (hy : ∀ s, s < n → yl s = 0) (hO : yo_is yo O) (hK : yk_is yk K)
    (h1 : ∀ i, i < 2 ^ d → O slot i = 1) (h2 : ∀ j, j < 128 → K slot j = 0) :
    rr_R (nI n) (nI d) (nI (2 ^ d)) (nI lim) fr fc 0 L R B T (upd lv slot 1) (upd ir slot 1) (upd er slot 0) wc wh (nI n) (nI (2 ^ d)) (nI lim) 0 (upd yl slot 1) yo yk := by
  have one : ∀ s, rr_la n (upd lv slot 1) s → s = slot := by
    intro s h
    rcases la_1 h with z | ⟨_, z⟩
    · exact z
    · exact absurd (hl s z.1) z.2
  refine ⟨n, d, lim, 0, F, O, (fun _ _ => 0), K, E, w, g, ⟨rfl, rfl, rfl, rfl, rfl⟩, ⟨rfl, rfl, rfl, rfl⟩, hi, ?_, fun j hj => by omega, zz_up (fun s hs => ⟨fun _ => hy s hs, fun _ => hl s hs⟩), hO, hK, rr_seed h0 one (fun i _ => rfl) h2⟩
  intro s hs' hl'
  have e := one s ⟨hs', hl'⟩
  subst e
  rw [pk_us, pk_us]
  exact ⟨⟨1, rfl, tr_one hi h1⟩, ⟨0, rfl, tr_zero hi (fun _ _ => rfl)⟩⟩
theorem i_vc_seed {k : Nat} {u : SX} {v : SY} (I : i_Rel k u v) (hk : k + 3 ≤ 1539) (v1 : Int32) : wpX_seed (fun r u' => wpY_seed (fun r' v' => r' = r ∧ i_Rel (k + 3) u' v') v v1) u v1 := by
  obtain ⟨zS, zM, zF, zG, sc, dp, ce, lm, fr, fc, ct, sp, rp, pl, lo, up, L, R, B, T, mk, lv, ir, er, wc, wh, oA, oB, fA, fB, sg, rN, rC, pa⟩ := u
  obtain ⟨ys, yc, ye, yn, yl, yo, yk⟩ := v
  obtain ⟨n, d, lim, cnt, F, O, H, K, E, w, g, ⟨e1, e2, e3, e4, e5⟩, ⟨f1, f2, f3, f4⟩, hi, hT, hw, hl, hO, hK, A⟩ := (show rr_R sc dp ce lm fr fc ct L R B T lv ir er wc wh ys yc ye yn yl yo yk from I)
  have hR : rr_R sc dp ce lm fr fc ct L R B T lv ir er wc wh ys yc ye yn yl yo yk := I
  subst e1 e2 e3 e4 e5 f1 f2 f3 f4
  have ⟨n2, n6, d1, d4, l8, l128, cl⟩ := A.1
  have h16 := zz_d4 d4
  have hp2 := zz_2p d
  unfold wpX_seed wpY_seed
  (try dsimp only)
  rcases zz_slot v1 (n := n) (by omega) with hb | ⟨a, ha, rfl⟩
  · exact ou_bad rfl hb (br_f (by decide) (bd_bad rfl hb (br_f (by decide) ⟨rfl, I⟩)))
  · refine ou_ok rfl n6 ha (br_t rfl ⟨n + 1, xs_lp rfl n6 ha (fun hx => ?_) (fun hn => ?_) (n + 1) 0 (by omega) (by omega) (fun s hs => by omega)⟩)
    · refine bd_ok rfl n6 ha (br_t rfl ⟨n + 1, ys_lp rfl n6 d4 rfl ha hO hK (fun _ => ⟨rfl, I⟩) (fun hy => ?_) (n + 1) 0 (by omega) (by omega) (fun s hs => by omega)⟩)
      obtain ⟨s, hs, q⟩ := hx
      exact absurd ((hl s hs).2 (hy s hs)) q
    · refine bd_ok rfl n6 ha (br_t rfl ⟨n + 1, ys_lp rfl n6 d4 rfl ha hO hK (fun hx => ?_) (fun hy yo1 yk1 O1 K1 k1 k2 k3 k4 => ⟨rfl, i_mk ?_⟩) (n + 1) 0 (by omega) (by omega) (fun s hs => by omega)⟩)
      · obtain ⟨s, hs, q⟩ := hx
        exact absurd ((hl s hs).1 (hn s hs)) q
      · exact rr_new (E := E) (w := w) (g := g) ⟨n2, n6, d1, d4, l8, l128⟩ ha hi hn hy k1 k2 k3 k4
theorem zz_cl (x : Int32) (a b : Nat) (hab : a ≤ b) (hb : b < 2 ^ 31) : ∃ v : Nat, a ≤ v ∧ v ≤ b ∧ (∀ (post : Int32 → Prop) (u : SX), post (nI v) → wpX_clamp post u x (nI a) (nI b)) ∧ (∀ (post : Int32 → Prop) (u : SY), post (nI v) → wpY_clamp post u x (nI a) (nI b)) := by
  have key : ∃ v : Nat, a ≤ v ∧ v ≤ b ∧ ∀ post : Int32 → Prop, post (nI v) → ((nI a ≤ x → ((x ≤ nI b → post x) ∧ (¬ x ≤ nI b → post (nI b)))) ∧ (¬ nI a ≤ x → post (nI a))) := by
    by_cases h1 : nI a ≤ x
    · by_cases h2 : x ≤ nI b
      · have h0 : ¬ x < 0 := Int32.not_lt.mpr (Int32.le_trans (nI_pos' (by omega)) h1)
        obtain ⟨j, hj, rfl⟩ := nI_of h0
        exact ⟨j, (nI_leI (by omega) hj).1 h1, (nI_leI hj hb).1 h2, fun post p => br_t h1 (br_t h2 p)⟩
      · exact ⟨b, hab, Nat.le_refl _, fun post p => br_t h1 (br_f h2 p)⟩
    · exact ⟨a, Nat.le_refl _, hab, fun post p => br_f h1 p⟩
  obtain ⟨v, h1, h2, h3⟩ := key
  refine ⟨v, h1, h2, fun post u p => ?_, fun post u p => ?_⟩
  · obtain ⟨zS, zM, zF, zG, sc, dp, ce, lm, fr, fc, ct, sp, rp, pl, lo, up, L, R, B, T, mk, lv, ir, er, wc, wh, oA, oB, fA, fB, sg, rN, rC, pa⟩ := u
    exact h3 post p
  · obtain ⟨ys, yc, ye, yn, yl, yo, yk⟩ := u
    exact h3 post p
theorem zz_sh : ∀ d, d < 5 → (1 : Int32) <<< (nI d &&& 31) = nI (2 ^ d) := by decide +kernel
theorem i_vc0 (k0 : Int32) (k1 : Int32) (k2 : Int32) : wpX_init (fun u => wpY_init (fun v => i_Rel 3 u v) k0 k1 k2) k0 k1 k2 := by
  obtain ⟨n, n2, n6, cx1, cy1⟩ := zz_cl k0 2 6 (by decide) (by decide)
  obtain ⟨d, d1, d4, cx2, cy2⟩ := zz_cl k1 1 4 (by decide) (by decide)
  obtain ⟨lim, l8, l128, cx3, cy3⟩ := zz_cl k2 8 128 (by decide) (by decide)
  unfold wpX_init
  refine cx1 _ _ (cx2 _ _ ?_)
  rw [zz_sh d (by omega)]
  refine nm_e (cx3 _ _ (nm_e (nm_e (nm_e (nm_e (nm_e (nm_e ?_)))))))
  refine gc_run (F := []) (N := n) (d := d) n6 d4 rfl ⟨rfl, rfl, rfl⟩ ⟨rfl, rfl, rfl⟩ (fun s _ h => absurd rfl h) (fun fr1 fc1 L1 mk1 oA1 F1 hi1 _ _ => ?_)
  (try dsimp only)
  refine ss_wp (j := 0) n6 (by omega) ?_
  (try dsimp only)
  unfold wpY_init
  refine cy1 _ _ (cy2 _ _ ?_)
  rw [zz_sh d (by omega)]
  refine nm_e (cy3 _ _ ?_)
  unfold wpY_seed
  (try dsimp only)
  have hO : yo_is (fun _ => 0) (fun _ _ => 0) := fun s i _ _ => ⟨rfl, Nat.zero_le _⟩
  have hK : yk_is (fun _ => 0) (fun _ _ => 0) := fun s i _ _ => ⟨rfl, Nat.zero_le _⟩
  refine bd_ok (j := 0) rfl n6 (by omega) (br_t rfl ⟨n + 1, ys_lp rfl n6 d4 rfl (slot := 0) (by omega) hO hK (fun hx => ?_) (fun _ yo1 yk1 O1 K1 k1 k2 k3 k4 => i_mk ?_) (n + 1) 0 (by omega) (by omega) (fun s hs => by omega)⟩)
  · obtain ⟨s, _, q⟩ := hx
    exact absurd rfl q
  · exact rr_new (lv := fun _ => 0) (yl := fun _ => 0) (E := fun _ _ => 0) (w := fun _ => 0) (g := fun _ => 0) ⟨n2, n6, d1, d4, l8, l128⟩ (by omega) hi1 (fun _ _ => rfl) (fun _ _ => rfl) k1 k2 k3 k4
end
end
section
/-! fork -/
section
variable {zS zM zF zG sc dp ce lm fr fc ct sp rp pl lo up : Int32} {L R B T mk lv ir er wc wh oA oB fA fB sg rN rC pa : Nat → Int32} {ys yc ye yn : Int32} {yl yo yk : Nat → Int32}
theorem sq_sub {d : Nat} {f gl gu : Nat → Nat} (h : sq_S d f gl gu) : ∀ i, i < 2 ^ d → (gl i ≠ 0 → f i ≠ 0) ∧ (gu i ≠ 0 → f i ≠ 0) ∧ (gl i ≠ 0 → gu i = 0) ∧ (gu i ≠ 0 → gl i = 0) := by
  obtain ⟨e, st, h1, h2, h3, h4, h5, h6, h7, h8⟩ := h
  intro i hi
  rw [h7 i hi, h8 i hi]
  by_cases c : i < st + 2 ^ e
  · rw [if_pos c, if_pos c]
    exact ⟨id, fun z => absurd rfl z, fun _ => rfl, fun z => absurd rfl z⟩
  · rw [if_neg c, if_neg c]
    exact ⟨fun z => absurd rfl z, id, fun z => absurd rfl z, fun _ => rfl⟩
theorem ow_one {N j : Nat} {f : Nat → Nat} (hj : j < N) (h1 : f j = 1) (h0 : ∀ i, i < N → i ≠ j → f i = 0) : ow_sm f 0 N = 1 := by
  rw [← ow_all (a := j) (n := 1) (by omega) (fun i hi hn => ?_)]
  · show 0 + f (j + 0) = 1
    rw [Nat.add_zero, h1]
  · by_cases c : i = j
    · omega
    · exact absurd (h0 i hi c) hn
theorem ow_two {N j j' : Nat} {f : Nat → Nat} (hj : j < j') (hj' : j' < N) (h1 : f j ≠ 0) (h2 : f j' ≠ 0) : 2 ≤ ow_sm f 0 N := by
  have e := ow_split (f := f) (st := 0) j' (N - j')
  rw [show j' + (N - j') = N by omega] at e
  have a := ow_ge (f := f) (st := 0) (n := j') (i := j) hj
  have b := ow_ge (f := f) (st := 0 + j') (n := N - j') (i := 0) (by omega)
  rw [Nat.zero_add] at a
  rw [Nat.zero_add, Nat.add_zero] at b
  rw [Nat.zero_add] at e
  omega
theorem xf_60 {post : Int32 → SX → Prop} {n d a b : Nat} {F : List Nat} {O H : Nat → Nat → Nat} (esc : sc = nI n) (edp : dp = nI d) (n6 : n ≤ 6) (d4 : d ≤ 4) (ha : a < n) (hb : b < n) (hla : lv a ≠ 0) (hi : hp_I fr fc L R B T F) (hT : rr_T L R B T F n d lv ir er O H) (ho : ∀ i, i < 2 ^ d → O a i ≤ 1) (h2 : ∃ j j', j < j' ∧ j' < 2 ^ d ∧ O a j ≠ 0 ∧ O a j' ≠ 0)
    (K : ∀ (F1 : List Nat) (x0 x1 : Nat) (gl gu : Nat → Nat) (lo1 up1 pl1 : Int32) (pa1 mk1 oA1 : Nat → Int32) (fr1 fc1 : Int32) (L1 R1 B1 T1 : Nat → Int32), hp_I fr1 fc1 L1 R1 B1 T1 F1 → rr_T L1 R1 B1 T1 F1 n d lv ir er O H → tr_T L1 R1 B1 T1 F1 d x0 gl → tr_T L1 R1 B1 T1 F1 d x1 gu → sq_S d (O a) gl gu →
      post 0 (zS, zM, zF, zG, sc, dp, ce, lm, fr1, fc1, ct, sp, rp, pl1, lo1, up1, L1, R1, B1, T1, mk1, upd lv b 1, upd (upd ir a (nI x0)) b (nI x1), upd er b (er a), wc, wh, oA1, oB, fA, fB, sg, rN, rC, pa1)) : wX_fork_60 post (nI a) (nI b) zS zM zF zG sc dp ce lm fr fc ct sp rp pl lo up L R B T mk lv ir er wc wh oA oB fA fB sg rN rC pa := by
  have ia := zz_i6 n6 ha
  unfold wX_fork_60
  refine er_run n6 d4 esc hi (rr_ok hT) (fun F1 fr1 fc1 L1 R1 B1 T1 mk1 oA1 hi1 hF1 kp => ?_)
  (try dsimp only)
  have hT1 := rr_kp hT kp
  obtain ⟨⟨x, ex, tx⟩, _⟩ := hT1 a ha hla
  rw [nI_clamp (show a < 2 ^ 31 by omega), ex]
  refine ⟨ia, sl_wp d4 edp hi1 (by omega) tx ho h2 (fun F2 x0 x1 gl gu pl2 pa2 fr2 fc2 L2 R2 B2 T2 i2 t0 t1 sq => ⟨ia, ?_⟩)⟩
  (try dsimp only)
  refine nm_e ⟨ia, ss_wp n6 hb ?_⟩
  (try dsimp only)
  exact K F2 x0 x1 gl gu _ _ _ _ _ _ _ _ _ _ _ _ i2.1 (rr_xt hT1 i2.2.1) t0 t1 sq
theorem xf_ok {post : Int32 → SX → Prop} {n d a b : Nat} {F : List Nat} {O H : Nat → Nat → Nat} (esc : sc = nI n) (edp : dp = nI d) (n6 : n ≤ 6) (d4 : d ≤ 4) (ha : a < n) (hb : b < n) (hab : a ≠ b) (hla : lv a ≠ 0) (hlb : lv b = 0) (hi : hp_I fr fc L R B T F) (hT : rr_T L R B T F n d lv ir er O H) (ho : ∀ i, i < 2 ^ d → O a i ≤ 1)
    (K5 : ow_sm (O a) 0 (2 ^ d) = 0 → post (-5) (zS, zM, zF, zG, sc, dp, ce, lm, fr, fc, ct, sp, rp, pl, lo, up, L, R, B, T, mk, lv, ir, er, wc, wh, oA, oB, fA, fB, sg, rN, rC, pa)) (K6 : ow_sm (O a) 0 (2 ^ d) = 1 → ∀ (pl1 : Int32) (pa1 : Nat → Int32), post (-6) (zS, zM, zF, zG, sc, dp, ce, lm, fr, fc, ct, sp, rp, pl1, lo, up, L, R, B, T, mk, lv, ir, er, wc, wh, oA, oB, fA, fB, sg, rN, rC, pa1))
    (K : 2 ≤ ow_sm (O a) 0 (2 ^ d) → ∀ (F1 : List Nat) (x0 x1 : Nat) (gl gu : Nat → Nat) (lo1 up1 pl1 : Int32) (pa1 mk1 oA1 : Nat → Int32) (fr1 fc1 : Int32) (L1 R1 B1 T1 : Nat → Int32), hp_I fr1 fc1 L1 R1 B1 T1 F1 → rr_T L1 R1 B1 T1 F1 n d lv ir er O H → tr_T L1 R1 B1 T1 F1 d x0 gl → tr_T L1 R1 B1 T1 F1 d x1 gu → sq_S d (O a) gl gu →
      post 0 (zS, zM, zF, zG, sc, dp, ce, lm, fr1, fc1, ct, sp, rp, pl1, lo1, up1, L1, R1, B1, T1, mk1, upd lv b 1, upd (upd ir a (nI x0)) b (nI x1), upd er b (er a), wc, wh, oA1, oB, fA, fB, sg, rN, rC, pa1)) : wpX_fork post (zS, zM, zF, zG, sc, dp, ce, lm, fr, fc, ct, sp, rp, pl, lo, up, L, R, B, T, mk, lv, ir, er, wc, wh, oA, oB, fA, fB, sg, rN, rC, pa) (nI a) (nI b) := by
  have ia := zz_i6 n6 ha
  have h16 := zz_d4 d4
  unfold wpX_fork
  (try dsimp only)
  obtain ⟨⟨x, ex, tx⟩, _⟩ := hT a ha hla
  have z0 := tr_is0 tx
  have zs := ow_mx (d := d) (f := O a)
  rw [nI_clamp (show a < 2 ^ 31 by omega), ex]
  refine rc_3 esc n6 ha hb (fun z => absurd z hab) (fun _ z => absurd z hla) (fun _ _ z => absurd hlb z) (fun _ _ _ => br_t rfl ⟨ia, pk_eq x 0 (fun h => K5 (zs.2 (z0.1 h))) (fun h => ⟨ia, ?_⟩) rfl rfl (zz_lt (tr_lt tx)) (by decide)⟩)
  have hm : tr_mx d (O a) ≠ 0 := fun z => h (z0.2 z)
  refine sp_wp d4 edp tx ho hm (fun p y ey fy pa1 hp hR hy => ?_)
  (try dsimp only)
  obtain ⟨s1, s2, s3, s4, s5⟩ := sp_bot hR ho
  cases ey with
  | zero =>
    obtain ⟨j, hj, q⟩ := sp_one hR
    have hfj : O a j = 1 := by
      obtain ⟨i, hi, ei⟩ := tr_mx_ex d (O a)
      by_cases c : i = j
      · subst c
        have := ho i hi; omega
      · have := q i hi c; omega
    refine il_c s2 (fun _ => br_f (by decide) (br_f (by rw [edp]; exact nI_nlt (by omega) (by omega)) (K6 (ow_one hj hfj q) _ _))) (fun z => absurd rfl z)
  | succ ey =>
    have h2 := sp_more hR
    have hge : 2 ≤ ow_sm (O a) 0 (2 ^ d) := by
      obtain ⟨j, j', c1, c2, c3, c4⟩ := h2
      exact ow_two c1 c2 c3 c4
    have go : wX_fork_60 post (nI a) (nI b) zS zM zF zG sc dp ce lm fr fc ct sp rp (nI p) lo up L R B T mk lv ir er wc wh oA oB fA fB sg rN rC pa1 := xf_60 esc edp n6 d4 ha hb hla hi hT ho h2 (fun F1 x0 x1 gl gu lo1 up1 pl1 pa2 mk1 oA1 fr1 fc1 L1 R1 B1 T1 => K hge F1 x0 x1 gl gu lo1 up1 pl1 pa2 mk1 oA1 fr1 fc1 L1 R1 B1 T1)
    exact il_c s2 (fun _ => br_f (by decide) (br_t (by rw [edp]; exact nI_lt (by omega) (by omega)) go)) (fun _ => br_t rfl go)
theorem yf_ok {post : Int32 → SY → Prop} {n d a b : Nat} {O Q : Nat → Nat → Nat} (esc : ys = nI n) (ec : yc = nI (2 ^ d)) (n6 : n ≤ 6) (d4 : d ≤ 4) (ha : a < n) (hb : b < n) (hab : a ≠ b) (hla : yl a ≠ 0) (hlb : yl b = 0) (hO : yo_is yo O) (hQ : yk_is yk Q)
    (K5 : ow_sm (O a) 0 (2 ^ d) = 0 → post (-5) (ys, yc, ye, yn, yl, yo, yk)) (K6 : ow_sm (O a) 0 (2 ^ d) = 1 → post (-6) (ys, yc, ye, yn, yl, yo, yk))
    (K : 2 ≤ ow_sm (O a) 0 (2 ^ d) → ∃ gl gu, sq_S d (O a) gl gu ∧ ∀ (yo1 yk1 : Nat → Int32) (O1 Q1 : Nat → Nat → Nat), yo_is yo1 O1 → yk_is yk1 Q1 → (∀ i, i < 2 ^ d → O1 a i = gl i) → (∀ i, i < 2 ^ d → O1 b i = gu i) → (∀ s i, s ≠ a → s ≠ b → s < 6 → i < 16 → O1 s i = O s i) → (∀ s j, s < 6 → j < 128 → Q1 s j = if s = b then Q a j else Q s j) →
      post 0 (ys, yc, ye, yn, upd yl b 1, yo1, yk1)) : wpY_fork post (ys, yc, ye, yn, yl, yo, yk) (nI a) (nI b) := by
  have ia := zz_i6 n6 ha
  have ib := zz_i6 n6 hb
  have h16 := zz_d4 d4
  have hp := zz_2p d
  have na : ¬ nI a = nI b := fun z => hab ((nI_eq (by omega) (by omega)).1 z)
  have hle : ow_sm (O a) 0 (2 ^ d) ≤ 2 ^ d := ow_le (fun i hi => by rw [Nat.zero_add]; exact (hO a i (by omega) (by omega)).2)
  subst ec
  unfold wpY_fork
  (try dsimp only)
  rw [nI_clamp (show a < 2 ^ 31 by omega), nI_clamp (show b < 2 ^ 31 by omega), nb_1]
  refine bd_ok esc n6 ha (br_t rfl (bd_ok esc n6 hb (br_t rfl (br_f na ⟨ia, br_f hla ⟨ib, br_t hlb (ow_wp (st := 0) (sz := 2 ^ d) (f := O a) (by omega) (by omega) (fun i hi => hO a i (by omega) hi) ?_)⟩⟩))))
  refine pk_eq (ow_sm (O a) 0 (2 ^ d)) 0 K5 (fun h0 => pk_eq (ow_sm (O a) 0 (2 ^ d)) 1 K6 (fun h1 => ?_) rfl rfl (by omega) (by decide)) rfl rfl (by omega) (by decide)
  obtain ⟨gl, gu, sq, K⟩ := K (by omega)
  refine ys_wp (by omega) (by omega) hab d4 rfl hO sq (fun yo1 O1 k1 k2 k3 k4 => ?_)
  (try dsimp only)
  refine ch_wp_y (by omega) (by omega) hab hQ (fun yk1 Q1 q1 q2 => ⟨ib, nm_e ?_⟩)
  exact K yo1 yk1 O1 Q1 k1 q1 k2 k3 k4 q2
theorem i_vc_fork {k : Nat} {u : SX} {v : SY} (I : i_Rel k u v) (hk : k + 3 ≤ 1539) (v1 : Int32) (v2 : Int32) : wpX_fork (fun r u' => wpY_fork (fun r' v' => r' = r ∧ i_Rel (k + 3) u' v') v v1 v2) u v1 v2 := by
  obtain ⟨zS, zM, zF, zG, sc, dp, ce, lm, fr, fc, ct, sp, rp, pl, lo, up, L, R, B, T, mk, lv, ir, er, wc, wh, oA, oB, fA, fB, sg, rN, rC, pa⟩ := u
  obtain ⟨ys, yc, ye, yn, yl, yo, yk⟩ := v
  obtain ⟨n, d, lim, cnt, F, O, H, K, E, w, g, ⟨e1, e2, e3, e4, e5⟩, ⟨f1, f2, f3, f4⟩, hi, hT, hw, hl, hO, hK, A⟩ := (show rr_R sc dp ce lm fr fc ct L R B T lv ir er wc wh ys yc ye yn yl yo yk from I)
  have hR : rr_R sc dp ce lm fr fc ct L R B T lv ir er wc wh ys yc ye yn yl yo yk := I
  subst e1 e2 e3 e4 e5 f1 f2 f3 f4
  have ⟨n2, n6, d1, d4, l8, l128, cl⟩ := A.1
  have h16 := zz_d4 d4
  have hp2 := zz_2p d
  rcases zz_slot v1 (n := n) (by omega) with hb | ⟨a, ha, rfl⟩
  · unfold wpX_fork wpY_fork
    (try dsimp only)
    exact rc_1 rfl hb (br_f (by decide) (bd_bad rfl hb (br_f (by decide) ⟨rfl, I⟩)))
  · rcases zz_slot v2 (n := n) (by omega) with hb | ⟨b, hb, rfl⟩
    · unfold wpX_fork wpY_fork
      (try dsimp only)
      exact rc_2 rfl n6 ha hb (br_f (by decide) (bd_ok rfl n6 ha (br_t rfl (bd_bad rfl hb (br_f (by decide) ⟨rfl, I⟩)))))
    · have ia := zz_i6 n6 ha
      have ib := zz_i6 n6 hb
      have hla := hl a ha
      have hlb := hl b hb
      have na : ¬ a = b → ¬ nI a = nI b := fun h z => h ((nI_eq (by omega) (by omega)).1 z)
      by_cases ok : a ≠ b ∧ lv a ≠ 0 ∧ lv b = 0
      · obtain ⟨hab, za, zb⟩ := ok
        have ya : yl a ≠ 0 := fun q => za (hla.2 q)
        have yb : yl b = 0 := hlb.1 zb
        have hbd : ∀ i, i < 2 ^ d → O a i ≤ 1 := fun i hi => (hO a i (by omega) (by omega)).2
        refine xf_ok rfl rfl n6 d4 ha hb hab za zb hi hT hbd (fun h0 => ?_) (fun h1 pl1 pa1 => ?_) (fun hg F1 x0 x1 gl gu lo1 up1 pl1 pa1 mk1 oA1 fr1 fc1 L1 R1 B1 T1 hi1 hT1 t0 t1 sq => ?_)
        · exact yf_ok rfl rfl n6 d4 ha hb hab ya yb hO hK (fun _ => ⟨rfl, i_mk hR⟩) (fun z => by omega) (fun z => by omega)
        · exact yf_ok rfl rfl n6 d4 ha hb hab ya yb hO hK (fun z => by omega) (fun _ => ⟨rfl, i_mk hR⟩) (fun z => by omega)
        · refine yf_ok rfl rfl n6 d4 ha hb hab ya yb hO hK (fun z => by omega) (fun z => by omega) (fun _ => ⟨gl, gu, sq, fun yo1 yk1 O1 Q1 k1 k2 k3 k4 k5 k6 => ⟨rfl, i_mk ?_⟩⟩)
          have ss := sq_sub sq
          refine ⟨n, d, lim, cnt, F1, O1, hs_1 H b (H a), Q1, E, w, g, ⟨rfl, rfl, rfl, rfl, rfl⟩, ⟨rfl, rfl, rfl, rfl⟩, hi1, ?_, hw, zz_up hl, k1, k2, rr_gen A (fun t ht => ?_) (fun s t i hs ht hst hi ho => ?_)⟩
          · intro t ht htl
            rcases la_1 ⟨ht, htl⟩ with rfl | ⟨z1, z2⟩
            · obtain ⟨_, ⟨y, ey, ty⟩⟩ := hT1 a ha za
              rw [pk_us, pk_us, hs_eq]
              exact ⟨⟨x1, rfl, tr_congr (fun i hi => (k4 i hi).symm) t1⟩, ⟨y, ey, ty⟩⟩
            · obtain ⟨⟨x, ex, tx⟩, ⟨y, ey, ty⟩⟩ := hT1 t ht z2.2
              rw [pk_un z1, pk_un z1, hs_ne z1]
              by_cases c : t = a
              · subst c
                rw [pk_us]
                exact ⟨⟨x0, rfl, tr_congr (fun i hi => (k3 i hi).symm) t0⟩, ⟨y, ey, ty⟩⟩
              · rw [pk_un c]
                exact ⟨⟨x, ex, tr_congr (fun i hi => (k5 t i c z1 (by omega) (by omega)).symm) tx⟩, ⟨y, ey, ty⟩⟩
          · rcases la_1 ht with rfl | ⟨z1, z2⟩
            · refine ⟨a, a, ⟨ha, za⟩, ⟨ha, za⟩, fun i _ => by rw [hs_eq]; omega, fun j hj => by rw [k6 t j (by omega) hj, if_pos rfl]; omega, fun i hi ho => Or.inl ?_⟩
              rw [k4 i hi] at ho
              exact (ss i hi).2.1 ho
            · have ht6 : t < 6 := by have := z2.1; omega
              refine ⟨t, t, z2, z2, fun i _ => by rw [hs_ne z1]; omega, fun j hj => by rw [k6 t j ht6 hj, if_neg z1]; omega, fun i hi ho => Or.inl ?_⟩
              by_cases c : t = a
              · subst c
                rw [k3 i hi] at ho
                exact (ss i hi).1 ho
              · rw [k5 t i c z1 ht6 (by omega)] at ho; exact ho
          · have key : ∀ t, rr_la n (upd lv b 1) t → t ≠ b → t < 6 ∧ rr_la n lv t := fun t ht hn => by
              rcases la_1 ht with z | ⟨z1, z2⟩
              · exact absurd z hn
              · exact ⟨by have := z2.1; omega, z2⟩
            have laa : rr_la n lv a := ⟨ha, za⟩
            by_cases sa : s = a
            · subst sa
              rw [k3 i hi] at ho
              by_cases tb : t = b
              · subst tb
                rw [k4 i hi]; exact (ss i hi).2.2.1 ho
              · obtain ⟨t6, tl⟩ := key t ht tb
                rw [k5 t i (fun z => hst z.symm) tb t6 (by omega)]
                exact A.2.1 s t i laa tl hst hi ((ss i hi).1 ho)
            · by_cases sb : s = b
              · subst sb
                rw [k4 i hi] at ho
                by_cases ta : t = a
                · subst ta
                  rw [k3 i hi]; exact (ss i hi).2.2.2 ho
                · obtain ⟨t6, tl⟩ := key t ht (fun z => hst z.symm)
                  rw [k5 t i ta (fun z => hst z.symm) t6 (by omega)]
                  exact A.2.1 a t i laa tl (fun z => ta z.symm) hi ((ss i hi).2.1 ho)
              · obtain ⟨s6, sl⟩ := key s hs sb
                rw [k5 s i sa sb s6 (by omega)] at ho
                have oz := A.2.1 s a i sl laa sa hi ho
                by_cases ta : t = a
                · subst ta
                  rw [k3 i hi]
                  exact Decidable.byContradiction (fun z => (ss i hi).1 z oz)
                · by_cases tb : t = b
                  · subst tb
                    rw [k4 i hi]
                    exact Decidable.byContradiction (fun z => (ss i hi).2.1 z oz)
                  · obtain ⟨t6, tl⟩ := key t ht tb
                    rw [k5 t i ta tb t6 (by omega)]
                    exact A.2.1 s t i sl tl hst hi ho
      · unfold wpX_fork wpY_fork
        (try dsimp only)
        rw [nI_clamp (show a < 2 ^ 31 by omega), nI_clamp (show b < 2 ^ 31 by omega)]
        refine rc_3 rfl n6 ha hb (fun h => br_f (by decide) (bd_ok rfl n6 ha (br_t rfl (bd_ok rfl n6 hb (br_t rfl (br_t (by rw [h]) ⟨rfl, I⟩))))))
          (fun h z => br_f (by decide) (bd_ok rfl n6 ha (br_t rfl (bd_ok rfl n6 hb (br_t rfl (br_f (na h) ⟨ia, br_t (hla.1 z) ⟨rfl, I⟩⟩))))))
          (fun h z z' => br_f (by decide) (bd_ok rfl n6 ha (br_t rfl (bd_ok rfl n6 hb (br_t rfl (br_f (na h) ⟨ia, br_f (fun q => z (hla.2 q)) ⟨ib, br_f (fun q => z' (hlb.2 q)) ⟨rfl, I⟩⟩⟩))))))
          (fun h z z' => absurd ⟨h, z, z'⟩ ok)
end
end
section
/-! join and sync -/
section
variable {zS zM zF zG sc dp ce lm fr fc ct sp rp pl lo up : Int32} {L R B T mk lv ir er wc wh oA oB fA fB sg rN rC pa : Nat → Int32} {ys yc ye yn : Int32} {yl yo yk : Nat → Int32}
theorem ev_P0 {d : Nat} {fa fb : Nat → Nat} (h : ∀ i, i < 2 ^ d → fa i ≤ 1 ∧ fb i ≤ 1) : ev_P 0 d 0 0 fa fb :=
  ⟨fun i hi => by have := h i hi; omega, fun _ => ⟨rfl, fun i hi => (h i hi).1⟩, fun _ => ⟨rfl, fun i hi => (h i hi).2⟩⟩
theorem ev_P1 {d : Nat} {fa fb : Nat → Nat} (h : ∀ i, i < 2 ^ d → fa i < 2 ^ 20 ∧ fb i < 2 ^ 20) : ev_P 1 d 0 0 fa fb :=
  ⟨fun i hi => by have := h i hi; omega, fun z => absurd rfl z, fun z => by omega⟩
theorem sq_congr {d : Nat} {f f1 gl gu : Nat → Nat} (h : ∀ i, i < 2 ^ d → f i = f1 i) (sq : sq_S d f gl gu) : sq_S d f1 gl gu := by
  obtain ⟨e, st, h1, h2, h3, h4, h5, h6, h7, h8⟩ := sq
  have hz := zz_2s e
  refine ⟨e, st, h1, h2, h3, fun i hi hn => h4 i hi (by rw [h i hi]; exact hn), ?_, ?_, fun i hi => by rw [h7 i hi, h i hi], fun i hi => by rw [h8 i hi, h i hi]⟩
  · obtain ⟨i, c1, c2, c3⟩ := h5
    exact ⟨i, c1, c2, by rw [← h i (by omega)]; exact c3⟩
  · obtain ⟨i, c1, c2, c3⟩ := h6
    exact ⟨i, c1, c2, by rw [← h i (by omega)]; exact c3⟩
theorem xj_ok {post : Int32 → SX → Prop} {n d a b : Nat} {F : List Nat} {O H : Nat → Nat → Nat} (esc : sc = nI n) (n6 : n ≤ 6) (d4 : d ≤ 4) (ha : a < n) (hb : b < n) (hab : a ≠ b) (hla : lv a ≠ 0) (hlb : lv b ≠ 0) (hi : hp_I fr fc L R B T F) (hT : rr_T L R B T F n d lv ir er O H)
    (ho : ∀ i, i < 2 ^ d → O a i ≤ 1 ∧ O b i ≤ 1) (hh : ∀ i, i < 2 ^ d → H a i < 2 ^ 20 ∧ H b i < 2 ^ 20)
    (K : ∀ (F1 : List Nat) (x y : Nat) (mk1 : Nat → Int32) (fr1 fc1 : Int32) (L1 R1 B1 T1 : Nat → Int32) (sp1 rp1 : Int32) (oA1 oB1 fA1 fB1 sg1 rN1 rC1 : Nat → Int32), hp_I fr1 fc1 L1 R1 B1 T1 F1 → rr_T L1 R1 B1 T1 F1 n d lv ir er O H → tr_T L1 R1 B1 T1 F1 d x (fun i => max (O a i) (O b i)) → tr_T L1 R1 B1 T1 F1 d y (fun i => max (H a i) (H b i)) →
      post 0 (zS, zM, zF, zG, sc, dp, ce, lm, fr1, fc1, ct, sp1, rp1, pl, lo, up, L1, R1, B1, T1, mk1, upd (upd lv a 1) b 0, upd (upd ir a (nI x)) b 0, upd (upd er a (nI y)) b 0, wc, wh, oA1, oB1, fA1, fB1, sg1, rN1, rC1, pa)) : wpX_join post (zS, zM, zF, zG, sc, dp, ce, lm, fr, fc, ct, sp, rp, pl, lo, up, L, R, B, T, mk, lv, ir, er, wc, wh, oA, oB, fA, fB, sg, rN, rC, pa) (nI a) (nI b) := by
  have ia := zz_i6 n6 ha
  have ib := zz_i6 n6 hb
  unfold wpX_join
  (try dsimp only)
  refine rm_3 esc n6 ha hb (fun z => absurd z hab) (fun _ z => (z.elim hla hlb).elim) (fun _ _ _ => br_t rfl ?_)
  refine er_run n6 d4 esc hi (rr_ok hT) (fun F1 fr1 fc1 L1 R1 B1 T1 mk1 oA1 hi1 hF1 kp => ⟨ia, ib, ?_⟩)
  (try dsimp only)
  have hT1 := rr_kp hT kp
  obtain ⟨⟨xa, exa, txa⟩, ⟨ya, eya, tya⟩⟩ := hT1 a ha hla
  obtain ⟨⟨xb, exb, txb⟩, ⟨yb, eyb, tyb⟩⟩ := hT1 b hb hlb
  rw [nI_clamp (show a < 2 ^ 31 by omega), nI_clamp (show b < 2 ^ 31 by omega), exa, exb]
  refine ev_run (op := 0) (by decide) d4 hi1 (by omega) txa txb (ev_P0 ho) (fun F2 x f fr2 fc2 L2 R2 B2 T2 sp2 rp2 oA2 oB2 fA2 fB2 sg2 rN2 rC2 i2 t2 r2 => ⟨ia, ib, ?_⟩)
  (try dsimp only)
  rw [eya, eyb]
  have q2 := i2.2.2
  refine ev_run (op := 1) (by decide) d4 i2.1 (by omega) (tr_ext i2.2.1 tya) (tr_ext i2.2.1 tyb) (ev_P1 hh) (fun F3 y h fr3 fc3 L3 R3 B3 T3 sp3 rp3 oA3 oB3 fA3 fB3 sg3 rN3 rC3 i3 t3 r3 => ?_)
  (try dsimp only)
  refine ss_wp n6 ha ?_
  (try dsimp only)
  refine cs_wp n6 hb ?_
  (try dsimp only)
  exact K F3 x y _ _ _ _ _ _ _ _ _ _ _ _ _ _ _ _ i3.1 (rr_xt (rr_xt hT1 i2.2.1) i3.2.1) (tr_congr (r2.1 (by decide)) (tr_ext i3.2.1 t2)) (tr_congr (r3.1 (by decide)) t3)
theorem yj_ok {post : Int32 → SY → Prop} {n a b : Nat} {O Q : Nat → Nat → Nat} (esc : ys = nI n) (n6 : n ≤ 6) (ha : a < n) (hb : b < n) (hab : a ≠ b) (hla : yl a ≠ 0) (hlb : yl b ≠ 0) (hO : yo_is yo O) (hQ : yk_is yk Q)
    (K : ∀ (yo1 yk1 : Nat → Int32) (O1 Q1 : Nat → Nat → Nat), yo_is yo1 O1 → yk_is yk1 Q1 → (∀ s j, s < 6 → j < 16 → O1 s j = if s = a then max (O a j) (O b j) else O s j) → (∀ s j, s < 6 → j < 128 → Q1 s j = if s = a then max (Q a j) (Q b j) else Q s j) → post 0 (ys, yc, ye, yn, upd yl b 0, yo1, yk1)) :
    wpY_join post (ys, yc, ye, yn, yl, yo, yk) (nI a) (nI b) := by
  have ia := zz_i6 n6 ha
  have ib := zz_i6 n6 hb
  have na : ¬ nI a = nI b := fun z => hab ((nI_eq (by omega) (by omega)).1 z)
  unfold wpY_join
  (try dsimp only)
  rw [nI_clamp (show a < 2 ^ 31 by omega), nI_clamp (show b < 2 ^ 31 by omega), nb_0]
  refine bd_ok esc n6 ha (br_t rfl (bd_ok esc n6 hb (br_t rfl (br_f na ⟨ia, br_f hla ⟨ib, br_f hlb (un_wp (by omega) (by omega) hab hO hQ (fun yo1 yk1 O1 Q1 k1 k2 k3 k4 => ⟨ib, nm_e (K yo1 yk1 O1 Q1 k1 k2 k3 k4)⟩))⟩⟩))))
theorem i_vc_join {k : Nat} {u : SX} {v : SY} (I : i_Rel k u v) (hk : k + 3 ≤ 1539) (v1 : Int32) (v2 : Int32) : wpX_join (fun r u' => wpY_join (fun r' v' => r' = r ∧ i_Rel (k + 3) u' v') v v1 v2) u v1 v2 := by
  obtain ⟨zS, zM, zF, zG, sc, dp, ce, lm, fr, fc, ct, sp, rp, pl, lo, up, L, R, B, T, mk, lv, ir, er, wc, wh, oA, oB, fA, fB, sg, rN, rC, pa⟩ := u
  obtain ⟨ys, yc, ye, yn, yl, yo, yk⟩ := v
  obtain ⟨n, d, lim, cnt, F, O, H, K, E, w, g, ⟨e1, e2, e3, e4, e5⟩, ⟨f1, f2, f3, f4⟩, hi, hT, hw, hl, hO, hK, A⟩ := (show rr_R sc dp ce lm fr fc ct L R B T lv ir er wc wh ys yc ye yn yl yo yk from I)
  have hR : rr_R sc dp ce lm fr fc ct L R B T lv ir er wc wh ys yc ye yn yl yo yk := I
  subst e1 e2 e3 e4 e5 f1 f2 f3 f4
  have ⟨n2, n6, d1, d4, l8, l128, cl⟩ := A.1
  have h16 := zz_d4 d4
  have hp2 := zz_2p d
  rcases zz_slot v1 (n := n) (by omega) with hb | ⟨a, ha, rfl⟩
  · unfold wpX_join wpY_join
    (try dsimp only)
    exact rm_1 rfl hb (br_f (by decide) (bd_bad rfl hb (br_f (by decide) ⟨rfl, I⟩)))
  · rcases zz_slot v2 (n := n) (by omega) with hb | ⟨b, hb, rfl⟩
    · unfold wpX_join wpY_join
      (try dsimp only)
      exact rm_2 rfl n6 ha hb (br_f (by decide) (bd_ok rfl n6 ha (br_t rfl (bd_bad rfl hb (br_f (by decide) ⟨rfl, I⟩)))))
    · have ia := zz_i6 n6 ha
      have ib := zz_i6 n6 hb
      have hla := hl a ha
      have hlb := hl b hb
      have na : ¬ a = b → ¬ nI a = nI b := fun h z => h ((nI_eq (by omega) (by omega)).1 z)
      by_cases ok : a ≠ b ∧ lv a ≠ 0 ∧ lv b ≠ 0
      · obtain ⟨hab, za, zb⟩ := ok
        have ya : yl a ≠ 0 := fun q => za (hla.2 q)
        have yb : yl b ≠ 0 := fun q => zb (hlb.2 q)
        have laa : rr_la n lv a := ⟨ha, za⟩
        have lab : rr_la n lv b := ⟨hb, zb⟩
        have bnd : ∀ s i, rr_la n lv s → i < 2 ^ d → H s i ≤ cnt := A.2.2.2.2.2.2.2.2.2
        refine xj_ok rfl n6 d4 ha hb hab za zb hi hT (fun i hi => ⟨(hO a i (by omega) (by omega)).2, (hO b i (by omega) (by omega)).2⟩) (fun i hi => ⟨by have := bnd a i laa hi; omega, by have := bnd b i lab hi; omega⟩) (fun F1 x y mk1 fr1 fc1 L1 R1 B1 T1 sp1 rp1 oA1 oB1 fA1 fB1 sg1 rN1 rC1 hi1 hT1 tx ty => ?_)
        refine yj_ok rfl n6 ha hb hab ya yb hO hK (fun yo1 yk1 O1 Q1 k1 k2 k3 k4 => ⟨rfl, i_mk ?_⟩)
        have la : ∀ s, rr_la n (upd (upd lv a 1) b 0) s → s ≠ b ∧ s < 6 ∧ rr_la n lv s := by
          intro s h
          obtain ⟨z1, z2⟩ := la_0 h
          refine ⟨z1, by have := z2.1; omega, ?_⟩
          rcases la_1 z2 with e | ⟨_, e⟩
          · subst e; exact laa
          · exact e
        refine ⟨n, d, lim, cnt, F1, O1, hs_1 H a (fun i => max (H a i) (H b i)), Q1, E, w, g, ⟨rfl, rfl, rfl, rfl, rfl⟩, ⟨rfl, rfl, rfl, rfl⟩, hi1, ?_, hw, ?_, k1, k2, rr_gen A (fun t ht => ?_) (fun s t i hs ht hst hi ho => ?_)⟩
        · intro t ht htl
          obtain ⟨z1, z6, z2⟩ := la t ⟨ht, htl⟩
          obtain ⟨⟨x', ex, tx'⟩, ⟨y', ey, ty'⟩⟩ := hT1 t ht z2.2
          rw [pk_un z1, pk_un z1]
          by_cases c : t = a
          · subst c
            rw [pk_us, pk_us, hs_eq]
            exact ⟨⟨x, rfl, tr_congr (fun i hi => by rw [k3 t i z6 (by omega), if_pos rfl]) tx⟩, ⟨y, rfl, ty⟩⟩
          · rw [pk_un c, pk_un c, hs_ne c]
            exact ⟨⟨x', ex, tr_congr (fun i hi => by rw [k3 t i z6 (by omega), if_neg c]) tx'⟩, ⟨y', ey, ty'⟩⟩
        · intro s hs
          by_cases c : s = b
          · subst c; rw [pk_us, pk_us]
          · rw [pk_un c, pk_un c]
            by_cases c2 : s = a
            · subst c2
              rw [pk_us]
              exact ⟨fun z => absurd z (by decide), fun z => absurd z ya⟩
            · rw [pk_un c2]; exact hl s hs
        · obtain ⟨z1, z6, z2⟩ := la t ht
          by_cases c : t = a
          · subst c
            refine ⟨t, b, laa, lab, fun i _ => by rw [hs_eq], fun j hj => by rw [k4 t j z6 hj, if_pos rfl], fun i hi ho => ?_⟩
            rw [k3 t i z6 (by omega), if_pos rfl] at ho
            omega
          · refine ⟨t, t, z2, z2, fun i _ => by rw [hs_ne c]; omega, fun j hj => by rw [k4 t j z6 hj, if_neg c]; omega, fun i hi ho => Or.inl ?_⟩
            rw [k3 t i z6 (by omega), if_neg c] at ho; exact ho
        · obtain ⟨s1, s6, s2⟩ := la s hs
          obtain ⟨t1, t6, t2⟩ := la t ht
          rw [k3 s i s6 (by omega)] at ho
          rw [k3 t i t6 (by omega)]
          by_cases c : s = a
          · subst c
            rw [if_pos rfl] at ho
            rw [if_neg (fun z => hst z.symm)]
            by_cases o : O s i ≠ 0
            · exact A.2.1 s t i laa t2 hst hi o
            · exact A.2.1 b t i lab t2 (fun z => t1 z.symm) hi (by omega)
          · rw [if_neg c] at ho
            by_cases c2 : t = a
            · subst c2
              rw [if_pos rfl]
              have o1 := A.2.1 s t i s2 laa hst hi ho
              have o2 := A.2.1 s b i s2 lab s1 hi ho
              omega
            · rw [if_neg c2]
              exact A.2.1 s t i s2 t2 hst hi ho
      · unfold wpX_join wpY_join
        (try dsimp only)
        rw [nI_clamp (show a < 2 ^ 31 by omega), nI_clamp (show b < 2 ^ 31 by omega)]
        refine rm_3 rfl n6 ha hb (fun h => br_f (by decide) (bd_ok rfl n6 ha (br_t rfl (bd_ok rfl n6 hb (br_t rfl (br_t (by rw [h]) ⟨rfl, I⟩))))))
          (fun h z => br_f (by decide) (bd_ok rfl n6 ha (br_t rfl (bd_ok rfl n6 hb (br_t rfl (br_f (na h) ⟨ia, br_c (fun _ => ⟨rfl, I⟩) (fun q => ⟨ib, br_c (fun _ => ⟨rfl, I⟩) (fun q' => (z.elim (fun r => q (hla.1 r)) (fun r => q' (hlb.1 r))).elim)⟩)⟩))))))
          (fun h z z' => absurd ⟨h, z, z'⟩ ok)
theorem xy_ok {post : Int32 → SX → Prop} {n d a b : Nat} {F : List Nat} {O H : Nat → Nat → Nat} (esc : sc = nI n) (edp : dp = nI d) (n6 : n ≤ 6) (d4 : d ≤ 4) (ha : a < n) (hb : b < n) (hab : a ≠ b) (hla : lv a ≠ 0) (hlb : lv b ≠ 0) (hi : hp_I fr fc L R B T F) (hT : rr_T L R B T F n d lv ir er O H)
    (ho : ∀ i, i < 2 ^ d → O a i ≤ 1 ∧ O b i ≤ 1) (hh : ∀ i, i < 2 ^ d → H a i < 2 ^ 20 ∧ H b i < 2 ^ 20) (hdis : ∀ i, i < 2 ^ d → O a i ≠ 0 → O b i = 0)
    (K5 : ow_sm (O a) 0 (2 ^ d) = 0 ∨ ow_sm (O b) 0 (2 ^ d) = 0 → post (-5) (zS, zM, zF, zG, sc, dp, ce, lm, fr, fc, ct, sp, rp, pl, lo, up, L, R, B, T, mk, lv, ir, er, wc, wh, oA, oB, fA, fB, sg, rN, rC, pa))
    (K : ow_sm (O a) 0 (2 ^ d) ≠ 0 → ow_sm (O b) 0 (2 ^ d) ≠ 0 → ∀ (F1 : List Nat) (x0 x1 y : Nat) (gl gu : Nat → Nat) (lo1 up1 pl1 : Int32) (pa1 mk1 : Nat → Int32) (fr1 fc1 : Int32) (L1 R1 B1 T1 : Nat → Int32) (sp1 rp1 : Int32) (oA1 oB1 fA1 fB1 sg1 rN1 rC1 : Nat → Int32), hp_I fr1 fc1 L1 R1 B1 T1 F1 → rr_T L1 R1 B1 T1 F1 n d lv ir er O H → tr_T L1 R1 B1 T1 F1 d x0 gl → tr_T L1 R1 B1 T1 F1 d x1 gu → sq_S d (fun i => max (O a i) (O b i)) gl gu → tr_T L1 R1 B1 T1 F1 d y (fun i => max (H a i) (H b i)) →
      post 0 (zS, zM, zF, zG, sc, dp, ce, lm, fr1, fc1, ct, sp1, rp1, pl1, lo1, up1, L1, R1, B1, T1, mk1, upd (upd lv a 1) b 1, upd (upd ir a (nI x0)) b (nI x1), upd (upd er a (nI y)) b (nI y), wc, wh, oA1, oB1, fA1, fB1, sg1, rN1, rC1, pa1)) : wpX_sync post (zS, zM, zF, zG, sc, dp, ce, lm, fr, fc, ct, sp, rp, pl, lo, up, L, R, B, T, mk, lv, ir, er, wc, wh, oA, oB, fA, fB, sg, rN, rC, pa) (nI a) (nI b) := by
  have ia := zz_i6 n6 ha
  have ib := zz_i6 n6 hb
  obtain ⟨⟨xa', exa', txa'⟩, _⟩ := hT a ha hla
  obtain ⟨⟨xb', exb', txb'⟩, _⟩ := hT b hb hlb
  have za := tr_is0 txa'
  have zb := tr_is0 txb'
  have wa := ow_mx (d := d) (f := O a)
  have wb := ow_mx (d := d) (f := O b)
  unfold wpX_sync
  (try dsimp only)
  rw [nI_clamp (show a < 2 ^ 31 by omega), nI_clamp (show b < 2 ^ 31 by omega), exa', exb']
  refine rm_3 esc n6 ha hb (fun z => absurd z hab) (fun _ z => (z.elim hla hlb).elim) (fun _ _ _ => br_t rfl ⟨ia, pk_eq xa' 0 (fun h => K5 (Or.inl (wa.2 (za.1 h)))) (fun h1 => ⟨ib, pk_eq xb' 0 (fun h => K5 (Or.inr (wb.2 (zb.1 h)))) (fun h2 => ?_) rfl rfl (zz_lt (tr_lt txb')) (by decide)⟩) rfl rfl (zz_lt (tr_lt txa')) (by decide)⟩)
  have ma : tr_mx d (O a) ≠ 0 := fun z => h1 (za.2 z)
  have mb : tr_mx d (O b) ≠ 0 := fun z => h2 (zb.2 z)
  refine er_run n6 d4 esc hi (rr_ok hT) (fun F1 fr1 fc1 L1 R1 B1 T1 mk1 oA1 hi1 hF1 kp => ⟨ia, ib, ?_⟩)
  (try dsimp only)
  have hT1 := rr_kp hT kp
  obtain ⟨⟨xa, exa, txa⟩, ⟨ya, eya, tya⟩⟩ := hT1 a ha hla
  obtain ⟨⟨xb, exb, txb⟩, ⟨yb, eyb, tyb⟩⟩ := hT1 b hb hlb
  rw [exa, exb]
  refine ev_run (op := 0) (by decide) d4 hi1 (by omega) txa txb (ev_P0 ho) (fun F2 x f fr2 fc2 L2 R2 B2 T2 sp2 rp2 oA2 oB2 fA2 fB2 sg2 rN2 rC2 i2 t2 r2 => ⟨ia, ib, ?_⟩)
  (try dsimp only)
  rw [eya, eyb]
  have q2 := i2.2.2
  refine ev_run (op := 1) (by decide) d4 i2.1 (by omega) (tr_ext i2.2.1 tya) (tr_ext i2.2.1 tyb) (ev_P1 hh) (fun F3 y h fr3 fc3 L3 R3 B3 T3 sp3 rp3 oA3 oB3 fA3 fB3 sg3 rN3 rC3 i3 t3 r3 => ?_)
  (try dsimp only)
  have q3 := i3.2.2
  have two : ∃ j j', j < j' ∧ j' < 2 ^ d ∧ max (O a j) (O b j) ≠ 0 ∧ max (O a j') (O b j') ≠ 0 := by
    obtain ⟨i1, c1, c2⟩ := tr_mx_ex d (O a)
    obtain ⟨i2, e1, e2⟩ := tr_mx_ex d (O b)
    have hne : i1 ≠ i2 := by
      intro z; subst z
      have := hdis i1 c1 (by omega); omega
    by_cases c : i1 < i2
    · exact ⟨i1, i2, c, e1, by omega, by omega⟩
    · exact ⟨i2, i1, by omega, c1, by omega, by omega⟩
  refine sl_wp d4 edp i3.1 (by omega) (tr_congr (r2.1 (by decide)) (tr_ext i3.2.1 t2)) (fun j hj => by have := ho j hj; omega) two (fun F4 x0 x1 gl gu pl4 pa4 fr4 fc4 L4 R4 B4 T4 i4 t4 t5 sq => ?_)
  (try dsimp only)
  refine ss_wp n6 ha ?_
  (try dsimp only)
  refine ss_wp n6 hb ?_
  (try dsimp only)
  exact K (fun z => ma (wa.1 z)) (fun z => mb (wb.1 z)) F4 x0 x1 y gl gu _ _ _ _ _ _ _ _ _ _ _ _ _ _ _ _ _ _ _ _ i4.1 (rr_xt (rr_xt (rr_xt hT1 i2.2.1) i3.2.1) i4.2.1) t4 t5 sq (tr_ext i4.2.1 (tr_congr (r3.1 (by decide)) t3))
theorem yy_ok {post : Int32 → SY → Prop} {n d a b : Nat} {O Q : Nat → Nat → Nat} (esc : ys = nI n) (ec : yc = nI (2 ^ d)) (n6 : n ≤ 6) (d4 : d ≤ 4) (ha : a < n) (hb : b < n) (hab : a ≠ b) (hla : yl a ≠ 0) (hlb : yl b ≠ 0) (hO : yo_is yo O) (hQ : yk_is yk Q)
    (K5 : ow_sm (O a) 0 (2 ^ d) = 0 ∨ ow_sm (O b) 0 (2 ^ d) = 0 → post (-5) (ys, yc, ye, yn, yl, yo, yk))
    (K : ow_sm (O a) 0 (2 ^ d) ≠ 0 → ow_sm (O b) 0 (2 ^ d) ≠ 0 → ∃ gl gu, sq_S d (fun i => max (O a i) (O b i)) gl gu ∧ ∀ (yo1 yk1 : Nat → Int32) (O1 Q1 : Nat → Nat → Nat), yo_is yo1 O1 → yk_is yk1 Q1 → (∀ i, i < 2 ^ d → O1 a i = gl i) → (∀ i, i < 2 ^ d → O1 b i = gu i) → (∀ s i, s ≠ a → s ≠ b → s < 6 → i < 16 → O1 s i = O s i) →
      (∀ s j, s < 6 → j < 128 → Q1 s j = if s = a ∨ s = b then max (Q a j) (Q b j) else Q s j) → post 0 (ys, yc, ye, yn, yl, yo1, yk1)) : wpY_sync post (ys, yc, ye, yn, yl, yo, yk) (nI a) (nI b) := by
  have ia := zz_i6 n6 ha
  have ib := zz_i6 n6 hb
  have h16 := zz_d4 d4
  have na : ¬ nI a = nI b := fun z => hab ((nI_eq (by omega) (by omega)).1 z)
  have le1 : ow_sm (O a) 0 (2 ^ d) ≤ 2 ^ d := ow_le (fun i hi => by rw [Nat.zero_add]; exact (hO a i (by omega) (by omega)).2)
  have le2 : ow_sm (O b) 0 (2 ^ d) ≤ 2 ^ d := ow_le (fun i hi => by rw [Nat.zero_add]; exact (hO b i (by omega) (by omega)).2)
  subst ec
  unfold wpY_sync
  (try dsimp only)
  rw [nI_clamp (show a < 2 ^ 31 by omega), nI_clamp (show b < 2 ^ 31 by omega)]
  refine bd_ok esc n6 ha (br_t rfl (bd_ok esc n6 hb (br_t rfl (br_f na ⟨ia, br_f hla ⟨ib, br_f hlb (ow_wp (st := 0) (sz := 2 ^ d) (f := O a) (by omega) (by omega) (fun i hi => hO a i (by omega) hi) ?_)⟩⟩))))
  refine pk_eq (ow_sm (O a) 0 (2 ^ d)) 0 (fun h => K5 (Or.inl h)) (fun h1 => ow_wp (st := 0) (sz := 2 ^ d) (f := O b) (by omega) (by omega) (fun i hi => hO b i (by omega) hi) (pk_eq (ow_sm (O b) 0 (2 ^ d)) 0 (fun h => K5 (Or.inr h)) (fun h2 => ?_) rfl rfl (by omega) (by decide))) rfl rfl (by omega) (by decide)
  obtain ⟨gl, gu, sq, K⟩ := K h1 h2
  refine un_wp (by omega) (by omega) hab hO hQ (fun yo1 yk1 O1 Q1 k1 k2 k3 k4 => ?_)
  (try dsimp only)
  have sq' : sq_S d (O1 a) gl gu := sq_congr (fun i hi => by rw [k3 a i (by omega) (by omega), if_pos rfl]) sq
  refine ys_wp (by omega) (by omega) hab d4 rfl k1 sq' (fun yo2 O2 p1 p2 p3 p4 => ?_)
  (try dsimp only)
  refine ch_wp_y (by omega) (by omega) hab k2 (fun yk2 Q2 q1 q2 => ?_)
  refine K yo2 yk2 O2 Q2 p1 q1 p2 p3 (fun s i s1 s2 s6 hi => by rw [p4 s i s1 s2 s6 hi, k3 s i s6 hi, if_neg s1]) (fun s j s6 hj => ?_)
  rw [q2 s j s6 hj]
  by_cases c : s = b
  · rw [if_pos c, if_pos (Or.inr c), k4 a j (by omega) hj, if_pos rfl]
  · rw [if_neg c, k4 s j s6 hj]
    by_cases c2 : s = a
    · rw [if_pos c2, if_pos (Or.inl c2)]
    · rw [if_neg c2, if_neg (fun z => z.elim c2 c)]
theorem i_vc_sync {k : Nat} {u : SX} {v : SY} (I : i_Rel k u v) (hk : k + 3 ≤ 1539) (v1 : Int32) (v2 : Int32) : wpX_sync (fun r u' => wpY_sync (fun r' v' => r' = r ∧ i_Rel (k + 3) u' v') v v1 v2) u v1 v2 := by
  obtain ⟨zS, zM, zF, zG, sc, dp, ce, lm, fr, fc, ct, sp, rp, pl, lo, up, L, R, B, T, mk, lv, ir, er, wc, wh, oA, oB, fA, fB, sg, rN, rC, pa⟩ := u
  obtain ⟨ys, yc, ye, yn, yl, yo, yk⟩ := v
  obtain ⟨n, d, lim, cnt, F, O, H, K, E, w, g, ⟨e1, e2, e3, e4, e5⟩, ⟨f1, f2, f3, f4⟩, hi, hT, hw, hl, hO, hK, A⟩ := (show rr_R sc dp ce lm fr fc ct L R B T lv ir er wc wh ys yc ye yn yl yo yk from I)
  have hR : rr_R sc dp ce lm fr fc ct L R B T lv ir er wc wh ys yc ye yn yl yo yk := I
  subst e1 e2 e3 e4 e5 f1 f2 f3 f4
  have ⟨n2, n6, d1, d4, l8, l128, cl⟩ := A.1
  have h16 := zz_d4 d4
  have hp2 := zz_2p d
  rcases zz_slot v1 (n := n) (by omega) with hb | ⟨a, ha, rfl⟩
  · unfold wpX_sync wpY_sync
    (try dsimp only)
    exact rm_1 rfl hb (br_f (by decide) (bd_bad rfl hb (br_f (by decide) ⟨rfl, I⟩)))
  · rcases zz_slot v2 (n := n) (by omega) with hb | ⟨b, hb, rfl⟩
    · unfold wpX_sync wpY_sync
      (try dsimp only)
      exact rm_2 rfl n6 ha hb (br_f (by decide) (bd_ok rfl n6 ha (br_t rfl (bd_bad rfl hb (br_f (by decide) ⟨rfl, I⟩)))))
    · have ia := zz_i6 n6 ha
      have ib := zz_i6 n6 hb
      have hla := hl a ha
      have hlb := hl b hb
      have na : ¬ a = b → ¬ nI a = nI b := fun h z => h ((nI_eq (by omega) (by omega)).1 z)
      by_cases ok : a ≠ b ∧ lv a ≠ 0 ∧ lv b ≠ 0
      · obtain ⟨hab, za, zb⟩ := ok
        have ya : yl a ≠ 0 := fun q => za (hla.2 q)
        have yb : yl b ≠ 0 := fun q => zb (hlb.2 q)
        have laa : rr_la n lv a := ⟨ha, za⟩
        have lab : rr_la n lv b := ⟨hb, zb⟩
        have bnd : ∀ s i, rr_la n lv s → i < 2 ^ d → H s i ≤ cnt := A.2.2.2.2.2.2.2.2.2
        refine xy_ok rfl rfl n6 d4 ha hb hab za zb hi hT (fun i hi => ⟨(hO a i (by omega) (by omega)).2, (hO b i (by omega) (by omega)).2⟩) (fun i hi => ⟨by have := bnd a i laa hi; omega, by have := bnd b i lab hi; omega⟩) (fun i hi ho => A.2.1 a b i laa lab hab hi ho) (fun h5 => ?_) (fun h1 h2 F1 x0 x1 y gl gu lo1 up1 pl1 pa1 mk1 fr1 fc1 L1 R1 B1 T1 sp1 rp1 oA1 oB1 fA1 fB1 sg1 rN1 rC1 hi1 hT1 t0 t1 sq ty => ?_)
        · exact yy_ok rfl rfl n6 d4 ha hb hab ya yb hO hK (fun _ => ⟨rfl, i_mk hR⟩) (fun h1 h2 => (h5.elim h1 h2).elim)
        · refine yy_ok rfl rfl n6 d4 ha hb hab ya yb hO hK (fun h5 => (h5.elim h1 h2).elim) (fun _ _ => ⟨gl, gu, sq, fun yo1 yk1 O1 Q1 k1 k2 k3 k4 k5 k6 => ⟨rfl, i_mk ?_⟩⟩)
          have ss := sq_sub sq
          have la : ∀ s, rr_la n (upd (upd lv a 1) b 1) s → s < 6 ∧ rr_la n lv s := by
            intro s h
            have : rr_la n lv s := by
              rcases la_1 h with e | ⟨_, e⟩
              · subst e; exact lab
              · rcases la_1 e with e | ⟨_, e⟩
                · subst e; exact laa
                · exact e
            exact ⟨by have := this.1; omega, this⟩
          have msk : ∀ i, max (O a i) (O b i) ≠ 0 → O a i ≠ 0 ∨ O b i ≠ 0 := fun i h => by omega
          refine ⟨n, d, lim, cnt, F1, O1, hs_1 (hs_1 H a (fun i => max (H a i) (H b i))) b (fun i => max (H a i) (H b i)), Q1, E, w, g, ⟨rfl, rfl, rfl, rfl, rfl⟩, ⟨rfl, rfl, rfl, rfl⟩, hi1, ?_, hw, ?_, k1, k2, rr_gen A (fun t ht => ?_) (fun s t i hs ht hst hi ho => ?_)⟩
          · intro t ht htl
            obtain ⟨z6, z2⟩ := la t ⟨ht, htl⟩
            obtain ⟨⟨x', ex, tx'⟩, ⟨y', ey, ty'⟩⟩ := hT1 t ht z2.2
            by_cases c : t = b
            · subst c
              rw [pk_us, pk_us, hs_eq]
              exact ⟨⟨x1, rfl, tr_congr (fun i hi => (k4 i hi).symm) t1⟩, ⟨y, rfl, ty⟩⟩
            · rw [pk_un c, pk_un c, hs_ne c]
              by_cases c2 : t = a
              · subst c2
                rw [pk_us, pk_us, hs_eq]
                exact ⟨⟨x0, rfl, tr_congr (fun i hi => (k3 i hi).symm) t0⟩, ⟨y, rfl, ty⟩⟩
              · rw [pk_un c2, pk_un c2, hs_ne c2]
                exact ⟨⟨x', ex, tr_congr (fun i hi => (k5 t i c2 c z6 (by omega)).symm) tx'⟩, ⟨y', ey, ty'⟩⟩
          · intro s hs
            by_cases c : s = b
            · subst c
              rw [pk_us]
              exact ⟨fun z => absurd z (by decide), fun z => absurd z yb⟩
            · rw [pk_un c]
              by_cases c2 : s = a
              · subst c2
                rw [pk_us]
                exact ⟨fun z => absurd z (by decide), fun z => absurd z ya⟩
              · rw [pk_un c2]; exact hl s hs
          · obtain ⟨z6, z2⟩ := la t ht
            by_cases c : t = b
            · subst c
              refine ⟨a, t, laa, lab, fun i _ => by rw [hs_eq], fun j hj => by rw [k6 t j z6 hj, if_pos (Or.inr rfl)], fun i hi ho => msk i ((ss i hi).2.1 (by rw [k4 i hi] at ho; exact ho))⟩
            · by_cases c2 : t = a
              · subst c2
                refine ⟨t, b, laa, lab, fun i _ => by rw [hs_ne c, hs_eq], fun j hj => by rw [k6 t j z6 hj, if_pos (Or.inl rfl)], fun i hi ho => msk i ((ss i hi).1 (by rw [k3 i hi] at ho; exact ho))⟩
              · refine ⟨t, t, z2, z2, fun i _ => by rw [hs_ne c, hs_ne c2]; omega, fun j hj => by rw [k6 t j z6 hj, if_neg (fun z => z.elim c2 c)]; omega, fun i hi ho => Or.inl (by rw [k5 t i c2 c z6 (by omega)] at ho; exact ho)⟩
          · obtain ⟨s6, sl⟩ := la s hs
            obtain ⟨t6, tl⟩ := la t ht
            have oth : ∀ r, r ≠ a → r ≠ b → rr_la n lv r → max (O a i) (O b i) ≠ 0 → O r i = 0 := by
              intro r r1 r2 rl hm
              rcases msk i hm with o | o
              · exact A.2.1 a r i laa rl (fun z => r1 z.symm) hi o
              · exact A.2.1 b r i lab rl (fun z => r2 z.symm) hi o
            have oth2 : ∀ r, r ≠ a → r ≠ b → rr_la n lv r → O r i ≠ 0 → max (O a i) (O b i) = 0 := by
              intro r r1 r2 rl hm
              have o1 := A.2.1 r a i rl laa r1 hi hm
              have o2 := A.2.1 r b i rl lab r2 hi hm
              omega
            by_cases sa : s = a
            · subst sa
              rw [k3 i hi] at ho
              by_cases tb : t = b
              · subst tb
                rw [k4 i hi]; exact (ss i hi).2.2.1 ho
              · rw [k5 t i (fun z => hst z.symm) tb t6 (by omega)]
                exact oth t (fun z => hst z.symm) tb tl ((ss i hi).1 ho)
            · by_cases sb : s = b
              · subst sb
                rw [k4 i hi] at ho
                by_cases ta : t = a
                · subst ta
                  rw [k3 i hi]; exact (ss i hi).2.2.2 ho
                · rw [k5 t i ta (fun z => hst z.symm) t6 (by omega)]
                  exact oth t ta (fun z => hst z.symm) tl ((ss i hi).2.1 ho)
              · rw [k5 s i sa sb s6 (by omega)] at ho
                have oz := oth2 s sa sb sl ho
                by_cases ta : t = a
                · subst ta
                  rw [k3 i hi]
                  exact Decidable.byContradiction (fun z => (ss i hi).1 z oz)
                · by_cases tb : t = b
                  · subst tb
                    rw [k4 i hi]
                    exact Decidable.byContradiction (fun z => (ss i hi).2.1 z oz)
                  · rw [k5 t i ta tb t6 (by omega)]
                    exact A.2.1 s t i sl tl hst hi ho
      · unfold wpX_sync wpY_sync
        (try dsimp only)
        rw [nI_clamp (show a < 2 ^ 31 by omega), nI_clamp (show b < 2 ^ 31 by omega)]
        refine rm_3 rfl n6 ha hb (fun h => br_f (by decide) (bd_ok rfl n6 ha (br_t rfl (bd_ok rfl n6 hb (br_t rfl (br_t (by rw [h]) ⟨rfl, I⟩))))))
          (fun h z => br_f (by decide) (bd_ok rfl n6 ha (br_t rfl (bd_ok rfl n6 hb (br_t rfl (br_f (na h) ⟨ia, br_c (fun _ => ⟨rfl, I⟩) (fun q => ⟨ib, br_c (fun _ => ⟨rfl, I⟩) (fun q' => (z.elim (fun r => q (hla.1 r)) (fun r => q' (hlb.1 r))).elim)⟩)⟩))))))
          (fun h z z' => absurd ⟨h, z, z'⟩ ok)
end
end
section
/-! event -/
section
variable {zS zM zF zG sc dp ce lm fr fc ct sp rp pl lo up : Int32} {L R B T mk lv ir er wc wh oA oB fA fB sg rN rC pa : Nat → Int32} {ys yc ye yn : Int32} {yl yo yk : Nat → Int32}
theorem xe_100 {post : Int32 → SX → Prop} {n d s x c cnt : Nat} {F : List Nat} {h : Nat → Nat} (ece : ce = nI (2 ^ d)) (ect : ct = nI cnt) (n6 : n ≤ 6) (d4 : d ≤ 4) (hs : s < n) (hcnt : cnt < 128) (t : tr_T L R B T F d x h) (hb : tr_mx d h < 2 ^ 30) (hc : c < 2 ^ d)
    (K : post (nI cnt) (zS, zM, zF, zG, sc, dp, ce, lm, fr, fc, nI (cnt + 1), sp, rp, pl, lo, up, L, R, B, T, mk, lv, ir, upd er s (nI x), upd wc cnt (nI c), upd wh cnt (nI (h c)), oA, oB, fA, fB, sg, rN, rC, pa)) : wX_event_100 post (nI s) (nI x) (nI c) zS zM zF zG sc dp ce lm fr fc ct sp rp pl lo up L R B T mk lv ir er wc wh oA oB fA fB sg rN rC pa := by
  have is := zz_i6 n6 hs
  have ic : vp_in (nI cnt) 128 := vp_in_nI hcnt (by decide)
  subst ect
  unfold wX_event_100
  rw [nI_clamp (show s < 2 ^ 31 by omega), nI_clamp (show cnt < 2 ^ 31 by omega), nI_1 cnt]
  exact ⟨is, nm_e ⟨ic, nm_e (ha_wp d4 ece t hb hc ⟨ic, nm_e (nm_e K)⟩)⟩⟩
theorem ev_P23 {op d : Nat} {fa fb : Nat → Nat} (ho : 2 ≤ op) (h1 : ∀ i, i < 2 ^ d → fa i ≤ 1) (h2 : ∀ i, i < 2 ^ d → fb i < 2 ^ 20) : ev_P op d 0 0 fa fb :=
  ⟨fun i hi => by have := h1 i hi; have := h2 i hi; omega, fun _ => ⟨rfl, h1⟩, fun z => by omega⟩
theorem xe_ok {post : Int32 → SX → Prop} {n d s cnt lim : Nat} {F : List Nat} {O H : Nat → Nat → Nat} (esc : sc = nI n) (ece : ce = nI (2 ^ d)) (ect : ct = nI cnt) (elm : lm = nI lim) (n6 : n ≤ 6) (d4 : d ≤ 4) (l128 : lim ≤ 128) (cl : cnt ≤ lim) (hs : s < n) (hls : lv s ≠ 0) (hi : hp_I fr fc L R B T F) (hT : rr_T L R B T F n d lv ir er O H)
    (ho : ∀ i, i < 2 ^ d → O s i ≤ 1) (hh : ∀ i, i < 2 ^ d → H s i ≤ cnt)
    (K5 : ow_sm (O s) 0 (2 ^ d) = 0 → post (-5) (zS, zM, zF, zG, sc, dp, ce, lm, fr, fc, ct, sp, rp, pl, lo, up, L, R, B, T, mk, lv, ir, er, wc, wh, oA, oB, fA, fB, sg, rN, rC, pa)) (K7 : ow_sm (O s) 0 (2 ^ d) ≠ 0 → ¬ cnt < lim → post (-7) (zS, zM, zF, zG, sc, dp, ce, lm, fr, fc, ct, sp, rp, pl, lo, up, L, R, B, T, mk, lv, ir, er, wc, wh, oA, oB, fA, fB, sg, rN, rC, pa))
    (K : ow_sm (O s) 0 (2 ^ d) ≠ 0 → cnt < lim → ∀ (F1 : List Nat) (x c : Nat) (h : Nat → Nat) (mk1 : Nat → Int32) (fr1 fc1 : Int32) (L1 R1 B1 T1 : Nat → Int32) (sp1 rp1 : Int32) (oA1 oB1 fA1 fB1 sg1 rN1 rC1 : Nat → Int32), hp_I fr1 fc1 L1 R1 B1 T1 F1 → rr_T L1 R1 B1 T1 F1 n d lv ir er O H → tr_T L1 R1 B1 T1 F1 d x h → c < 2 ^ d → H s c < h c → (∀ i, i < 2 ^ d → H s i ≤ h i) → (∀ i, i < 2 ^ d → O s i = 0 → h i = H s i) → (∀ i, i < 2 ^ d → h i ≤ cnt + 1) →
      post (nI cnt) (zS, zM, zF, zG, sc, dp, ce, lm, fr1, fc1, nI (cnt + 1), sp1, rp1, pl, lo, up, L1, R1, B1, T1, mk1, lv, ir, upd er s (nI x), upd wc cnt (nI c), upd wh cnt (nI (h c)), oA1, oB1, fA1, fB1, sg1, rN1, rC1, pa)) : wpX_event post (zS, zM, zF, zG, sc, dp, ce, lm, fr, fc, ct, sp, rp, pl, lo, up, L, R, B, T, mk, lv, ir, er, wc, wh, oA, oB, fA, fB, sg, rN, rC, pa) (nI s) := by
  have is := zz_i6 n6 hs
  obtain ⟨⟨x', ex', tx'⟩, _⟩ := hT s hs hls
  have z0 := tr_is0 tx'
  have w0 := ow_mx (d := d) (f := O s)
  have mH : tr_mx d (H s) ≤ cnt := tr_mx_le hh
  unfold wpX_event
  (try dsimp only)
  rw [nI_clamp (show s < 2 ^ 31 by omega), ex']
  refine rf_ok esc n6 hs (fun z => absurd z hls) (fun _ => br_t rfl ⟨is, pk_eq x' 0 (fun h => K5 (w0.2 (z0.1 h))) (fun h1 => ?_) rfl rfl (zz_lt (tr_lt tx')) (by decide)⟩)
  have hne : ow_sm (O s) 0 (2 ^ d) ≠ 0 := fun z => h1 (z0.2 (w0.1 z))
  have hmx : tr_mx d (O s) ≠ 0 := fun z => h1 (z0.2 z)
  refine pk_lt cnt lim (fun hlt => ?_) (fun hge => K7 hne (by omega)) ect elm (by omega) (by omega)
  refine er_run n6 d4 esc hi (rr_ok hT) (fun F1 fr1 fc1 L1 R1 B1 T1 mk1 oA1 hi1 hF1 kp => ⟨is, ?_⟩)
  (try dsimp only)
  have hT1 := rr_kp hT kp
  obtain ⟨⟨x, ex, tx⟩, ⟨y, ey, ty⟩⟩ := hT1 s hs hls
  rw [ex, ey]
  refine nm_e ⟨is, ?_⟩
  refine ev_run (op := 2) (by decide) d4 hi1 (by omega) tx ty (ev_P23 (by decide) ho (fun i hi => by have := hh i hi; omega)) (fun F2 x2 f fr2 fc2 L2 R2 B2 T2 sp2 rp2 oA2 oB2 fA2 fB2 sg2 rN2 rC2 i2 t2 r2 => ?_)
  (try dsimp only)
  have q2 := i2.2.2
  have u2 := r2.2.1 (by decide)
  have v2 := r2.2.2.1 rfl
  refine rc_wp d4 ece (tr_ext i2.2.1 ty) t2 (by omega) (by omega) (fun hno => br_f (by decide) ⟨is, ?_⟩) (fun c hc hr => br_t (nI_pos' (by have := zz_d4 d4; omega)) ?_)
  · rw [ex]
    refine ev_run (op := 3) (by decide) d4 i2.1 (by omega) (tr_ext i2.2.1 tx) (tr_ext i2.2.1 ty) (ev_P23 (by decide) ho (fun i hi => by have := hh i hi; omega)) (fun F3 x3 f3 fr3 fc3 L3 R3 B3 T3 sp3 rp3 oA3 oB3 fA3 fB3 sg3 rN3 rC3 i3 t3 r3 => ?_)
    (try dsimp only)
    have u3 := r3.2.1 (by decide)
    have v3 := (r3.2.2.2 rfl).1
    obtain ⟨j, hj, qj⟩ := (r3.2.2.2 rfl).2 hmx
    refine rc_wp d4 ece (tr_ext i3.2.1 (tr_ext i2.2.1 ty)) t3 (by omega) (by omega) (fun hno3 => absurd (hno3 j hj) (by omega)) (fun c hc hr => ?_)
    refine xe_100 ece ect n6 d4 hs (by omega) t3 (by omega) hc ?_
    exact K hne hlt F3 x3 c f3 _ _ _ _ _ _ _ _ _ _ _ _ _ _ _ _ i3.1 (rr_xt (rr_xt hT1 i2.2.1) i3.2.1) t3 hc hr (fun i hi => (u3 i hi).1) (fun i hi => (u3 i hi).2) (fun i hi => by have := tr_mx_ge d f3 i hi; omega)
  · refine xe_100 ece ect n6 d4 hs (by omega) t2 (by omega) hc ?_
    exact K hne hlt F2 x2 c f _ _ _ _ _ _ _ _ _ _ _ _ _ _ _ _ i2.1 (rr_xt hT1 i2.2.1) t2 hc hr (fun i hi => (u2 i hi).1) (fun i hi => (u2 i hi).2) (fun i hi => by have := tr_mx_ge d f i hi; omega)
theorem ye_ok {post : Int32 → SY → Prop} {n d s cnt lim : Nat} {O Q : Nat → Nat → Nat} (esc : ys = nI n) (ec : yc = nI (2 ^ d)) (ect : yn = nI cnt) (elm : ye = nI lim) (n6 : n ≤ 6) (d4 : d ≤ 4) (l128 : lim ≤ 128) (cl : cnt ≤ lim) (hs : s < n) (hls : yl s ≠ 0) (hO : yo_is yo O) (hQ : yk_is yk Q)
    (K5 : ow_sm (O s) 0 (2 ^ d) = 0 → post (-5) (ys, yc, ye, yn, yl, yo, yk)) (K7 : ow_sm (O s) 0 (2 ^ d) ≠ 0 → ¬ cnt < lim → post (-7) (ys, yc, ye, yn, yl, yo, yk))
    (K : ow_sm (O s) 0 (2 ^ d) ≠ 0 → cnt < lim → ∀ yk1 : Nat → Int32, yk_is yk1 (fs_2 Q s cnt 1) → post (nI cnt) (ys, yc, ye, nI (cnt + 1), yl, yo, yk1)) : wpY_event post (ys, yc, ye, yn, yl, yo, yk) (nI s) := by
  have is := zz_i6 n6 hs
  have h16 := zz_d4 d4
  have le1 : ow_sm (O s) 0 (2 ^ d) ≤ 2 ^ d := ow_le (fun i hi => by rw [Nat.zero_add]; exact (hO s i (by omega) (by omega)).2)
  subst ec ect
  unfold wpY_event
  (try dsimp only)
  rw [nI_clamp (show s < 2 ^ 31 by omega)]
  refine bd_ok esc n6 hs (br_t rfl ⟨is, br_f hls (ow_wp (st := 0) (sz := 2 ^ d) (f := O s) (by omega) (by omega) (fun i hi => hO s i (by omega) hi) (pk_eq (ow_sm (O s) 0 (2 ^ d)) 0 K5 (fun h1 => ?_) rfl rfl (by omega) (by decide)))⟩)
  refine pk_lt cnt lim (fun hlt => ?_) (fun hge => K7 h1 (by omega)) rfl elm (by omega) (by omega)
  rw [ix_128, nI_clamp (show s * 128 + cnt < 2 ^ 31 by omega), nb_1, nI_1 cnt]
  refine ⟨vp_in_nI (by omega) (by decide), nm_e (nm_e ?_)⟩
  rw [nI_pred]
  exact K h1 hlt _ (yk_up hQ (by omega) (Nat.le_refl 1))
theorem i_vc_event {k : Nat} {u : SX} {v : SY} (I : i_Rel k u v) (hk : k + 3 ≤ 1539) (v1 : Int32) : wpX_event (fun r u' => wpY_event (fun r' v' => r' = r ∧ i_Rel (k + 3) u' v') v v1) u v1 := by
  obtain ⟨zS, zM, zF, zG, sc, dp, ce, lm, fr, fc, ct, sp, rp, pl, lo, up, L, R, B, T, mk, lv, ir, er, wc, wh, oA, oB, fA, fB, sg, rN, rC, pa⟩ := u
  obtain ⟨ys, yc, ye, yn, yl, yo, yk⟩ := v
  obtain ⟨n, d, lim, cnt, F, O, H, K, E, w, g, ⟨e1, e2, e3, e4, e5⟩, ⟨f1, f2, f3, f4⟩, hi, hT, hw, hl, hO, hK, A⟩ := (show rr_R sc dp ce lm fr fc ct L R B T lv ir er wc wh ys yc ye yn yl yo yk from I)
  have hR : rr_R sc dp ce lm fr fc ct L R B T lv ir er wc wh ys yc ye yn yl yo yk := I
  subst e1 e2 e3 e4 e5 f1 f2 f3 f4
  have ⟨n2, n6, d1, d4, l8, l128, cl⟩ := A.1
  have h16 := zz_d4 d4
  have hp2 := zz_2p d
  rcases zz_slot v1 (n := n) (by omega) with hb | ⟨s, hs, rfl⟩
  · unfold wpX_event wpY_event
    (try dsimp only)
    exact rf_bad rfl hb (br_f (by decide) (bd_bad rfl hb (br_f (by decide) ⟨rfl, I⟩)))
  · have is := zz_i6 n6 hs
    have hls := hl s hs
    by_cases c : lv s = 0
    · unfold wpX_event wpY_event
      (try dsimp only)
      rw [nI_clamp (show s < 2 ^ 31 by omega)]
      exact rf_ok rfl n6 hs (fun _ => br_f (by decide) (bd_ok rfl n6 hs (br_t rfl ⟨is, br_t (hls.1 c) ⟨rfl, I⟩⟩))) (fun z => absurd c z)
    · have cy : yl s ≠ 0 := fun z => c (hls.2 z)
      have las : rr_la n lv s := ⟨hs, c⟩
      have bnd : ∀ s i, rr_la n lv s → i < 2 ^ d → H s i ≤ cnt := A.2.2.2.2.2.2.2.2.2
      refine xe_ok rfl rfl rfl rfl n6 d4 l128 cl hs c hi hT (fun i hi => (hO s i (by omega) (by omega)).2) (fun i hi => bnd s i las hi) (fun h5 => ?_) (fun h1 h7 => ?_) (fun h1 h7 F1 x cc h mk1 fr1 fc1 L1 R1 B1 T1 sp1 rp1 oA1 oB1 fA1 fB1 sg1 rN1 rC1 hi1 hT1 tx hc hr u1 u2 u3 => ?_)
      · exact ye_ok rfl rfl rfl rfl n6 d4 l128 cl hs cy hO hK (fun _ => ⟨rfl, i_mk hR⟩) (fun z => absurd h5 z) (fun z => absurd h5 z)
      · exact ye_ok rfl rfl rfl rfl n6 d4 l128 cl hs cy hO hK (fun z => absurd z h1) (fun _ _ => ⟨rfl, i_mk hR⟩) (fun _ z => absurd z h7)
      · refine ye_ok rfl rfl rfl rfl n6 d4 l128 cl hs cy hO hK (fun z => absurd z h1) (fun _ z => absurd h7 z) (fun _ _ yk1 k1 => ⟨rfl, i_mk ?_⟩)
        refine ⟨n, d, lim, cnt + 1, F1, O, hs_1 H s h, fs_2 K s cnt 1, (fun j i => if j = cnt then h i else E j i), (fun j => if j = cnt then cc else w j), (fun j => if j = cnt then h cc else g j), ⟨rfl, rfl, rfl, rfl, rfl⟩, ⟨rfl, rfl, rfl, rfl⟩, hi1, ?_, ?_, hl, hO, k1, ?_⟩
        · intro t ht htl
          obtain ⟨⟨x', ex, tx'⟩, ⟨y', ey, ty'⟩⟩ := hT1 t ht htl
          by_cases e : t = s
          · subst e
            rw [pk_us, hs_eq]
            exact ⟨⟨x', ex, tx'⟩, ⟨x, rfl, tx⟩⟩
          · rw [pk_un e, hs_ne e]
            exact ⟨⟨x', ex, tx'⟩, ⟨y', ey, ty'⟩⟩
        · intro j hj
          by_cases e : j = cnt
          · subst e
            rw [pk_us, pk_us]
            (try dsimp only)
            rw [if_pos rfl, if_pos rfl]
            exact ⟨rfl, rfl⟩
          · rw [pk_un e, pk_un e]
            (try dsimp only)
            rw [if_neg e, if_neg e]
            exact hw j (by omega)
        · refine rr_ev (v := cc) (h := h) A las h7 hc hr u1 u2 u3 (fun t i _ => ?_) (fun t j _ _ => rfl) (fun j i => rfl) (fun j => rfl) (fun j => rfl)
          by_cases e : t = s
          · subst e; rw [hs_eq, if_pos rfl]
          · rw [hs_ne e, if_neg e]
end
end
section
/-! covered -/
section
variable {zS zM zF zG sc dp ce lm fr fc ct sp rp pl lo up : Int32} {L R B T mk lv ir er wc wh oA oB fA fB sg rN rC pa : Nat → Int32} {ys yc ye yn : Int32} {yl yo yk : Nat → Int32}
/-- slot b is in the set -/
def cv_in (v : Int32) (b : Nat) : Prop := (v >>> (nI b &&& 31)) &&& 1 = 1
/-- M: the greatest heights of the live slots of the set below c -/
def cv_M (d c : Nat) (v : Int32) (lv : Nat → Int32) (H : Nat → Nat → Nat) (M : Nat → Nat) : Prop :=
  ∀ i, i < 2 ^ d → (M i = 0 ∨ ∃ b, (b < c ∧ lv b ≠ 0 ∧ cv_in v b) ∧ M i = H b i) ∧ ∀ b, (b < c ∧ lv b ≠ 0 ∧ cv_in v b) → H b i ≤ M i
theorem cv_same {d c : Nat} {v : Int32} {H : Nat → Nat → Nat} {M : Nat → Nat} (h : cv_M d c v lv H M) (hn : lv c = 0 ∨ ¬ cv_in v c) : cv_M d (c + 1) v lv H M := by
  have key : ∀ b, (b < c + 1 ∧ lv b ≠ 0 ∧ cv_in v b) → (b < c ∧ lv b ≠ 0 ∧ cv_in v b) := by
    intro b hb
    by_cases e : b = c
    · subst e
      exact (hn.elim hb.2.1 (fun z => z hb.2.2)).elim
    · exact ⟨by omega, hb.2⟩
  intro i hi
  obtain ⟨h1, h2⟩ := h i hi
  refine ⟨h1.imp id (fun ⟨b, hb, e⟩ => ⟨b, ⟨by omega, hb.2⟩, e⟩), fun b hb => h2 b (key b hb)⟩
theorem cv_step {d c : Nat} {v : Int32} {H : Nat → Nat → Nat} {M M1 : Nat → Nat} (h : cv_M d c v lv H M) (hl : lv c ≠ 0) (hv : cv_in v c) (hM : ∀ i, i < 2 ^ d → M1 i = max (M i) (H c i)) : cv_M d (c + 1) v lv H M1 := by
  intro i hi
  obtain ⟨h1, h2⟩ := h i hi
  rw [hM i hi]
  constructor
  · by_cases c1 : H c i ≤ M i
    · rw [show max (M i) (H c i) = M i by omega]
      exact h1.imp id (fun ⟨b, hb, e⟩ => ⟨b, ⟨by omega, hb.2⟩, e⟩)
    · exact Or.inr ⟨c, ⟨by omega, hl, hv⟩, by omega⟩
  · intro b hb
    by_cases e : b = c
    · subst e; omega
    · have := h2 b ⟨by omega, hb.2⟩; omega
theorem xv_lp {post : Int32 → SX → Prop} {n d s cnt : Nat} {v : Int32} {O H : Nat → Nat → Nat} (esc : sc = nI n) (n6 : n ≤ 6) (d4 : d ≤ 4) (hs : s < n) (hls : lv s ≠ 0) (hc : cnt ≤ 128) (hh : ∀ t i, t < n → lv t ≠ 0 → i < 2 ^ d → H t i ≤ cnt)
    (K1 : ∀ M, cv_M d n v lv H M → (∀ i, i < 2 ^ d → H s i ≤ M i) → ∀ (F1 : List Nat) (fr1 fc1 : Int32) (L1 R1 B1 T1 : Nat → Int32) (sp1 rp1 : Int32) (oA1 oB1 fA1 fB1 sg1 rN1 rC1 : Nat → Int32), hp_I fr1 fc1 L1 R1 B1 T1 F1 → rr_T L1 R1 B1 T1 F1 n d lv ir er O H → post 1 (zS, zM, zF, zG, sc, dp, ce, lm, fr1, fc1, ct, sp1, rp1, pl, lo, up, L1, R1, B1, T1, mk, lv, ir, er, wc, wh, oA1, oB1, fA1, fB1, sg1, rN1, rC1, pa))
    (K0 : ∀ M, cv_M d n v lv H M → ¬ (∀ i, i < 2 ^ d → H s i ≤ M i) → ∀ (F1 : List Nat) (fr1 fc1 : Int32) (L1 R1 B1 T1 : Nat → Int32) (sp1 rp1 : Int32) (oA1 oB1 fA1 fB1 sg1 rN1 rC1 : Nat → Int32), hp_I fr1 fc1 L1 R1 B1 T1 F1 → rr_T L1 R1 B1 T1 F1 n d lv ir er O H → post 0 (zS, zM, zF, zG, sc, dp, ce, lm, fr1, fc1, ct, sp1, rp1, pl, lo, up, L1, R1, B1, T1, mk, lv, ir, er, wc, wh, oA1, oB1, fA1, fB1, sg1, rN1, rC1, pa)) :
    ∀ (m c x : Nat) (M : Nat → Nat) (F : List Nat) (fr fc : Int32) (L R B T : Nat → Int32) (sp rp : Int32) (oA oB fA fB sg rN rC : Nat → Int32), m + c = n + 1 → c ≤ n → hp_I fr fc L R B T F → 600 ≤ F.length + 76 * c → rr_T L R B T F n d lv ir er O H → tr_T L R B T F d x M → (∀ i, i < 2 ^ d → M i ≤ cnt) → cv_M d c v lv H M →
    wX_covered_22 post (nI s) v m (nI x) (nI c) zS zM zF zG sc dp ce lm fr fc ct sp rp pl lo up L R B T mk lv ir er wc wh oA oB fA fB sg rN rC pa := by
  intro m
  induction m with
  | zero => intro c x M F fr fc L R B T sp rp oA oB fA fB sg rN rC h1 h2; omega
  | succ m ih =>
    intro c x M F fr fc L R B T sp rp oA oB fA fB sg rN rC h1 h2 hi hF hT tx hM hcv
    by_cases h : c < n
    · have ic := zz_i6 n6 h
      refine br_f (by rw [esc]; exact nI_ge h (by omega)) ⟨ic, ?_⟩
      rw [nI_clamp (show c < 2 ^ 31 by omega)]
      refine br_c (fun z => nm_r (nI_1 c) (ih (c + 1) x M F _ _ _ _ _ _ _ _ _ _ _ _ _ _ _ (by omega) (by omega) hi (by omega) hT tx hM (cv_same hcv (Or.inl z)))) (fun z => br_c (fun zv => ⟨ic, ?_⟩) (fun zv => nm_r (nI_1 c) (ih (c + 1) x M F _ _ _ _ _ _ _ _ _ _ _ _ _ _ _ (by omega) (by omega) hi (by omega) hT tx hM (cv_same hcv (Or.inr zv)))))
      obtain ⟨_, ⟨y, ey, ty⟩⟩ := hT c h z
      rw [ey]
      refine ev_run (op := 1) (by decide) d4 hi (by omega) tx ty (ev_P1 (fun i hi => by have := hM i hi; have := hh c i h z hi; omega)) (fun F1 x1 f fr1 fc1 L1 R1 B1 T1 sp1 rp1 oA1 oB1 fA1 fB1 sg1 rN1 rC1 i1 t1 r1 => ?_)
      have q1 := i1.2.2
      have e1 := r1.1 (by decide)
      exact nm_r (nI_1 c) (ih (c + 1) x1 f F1 _ _ _ _ _ _ _ _ _ _ _ _ _ _ _ (by omega) (by omega) i1.1 (by omega) (rr_xt hT i1.2.1) t1 (fun i hi => by have := e1 i hi; have := hM i hi; have := hh c i h z hi; omega) (cv_step hcv z zv e1))
    · have e : c = n := by omega
      subst e
      have is := zz_i6 n6 hs
      obtain ⟨_, ⟨y, ey, ty⟩⟩ := hT s hs hls
      refine br_t (by rw [esc]; exact nI_le (Nat.le_refl _) (by omega)) ⟨is, ?_⟩
      rw [nI_clamp (show s < 2 ^ 31 by omega), ey]
      refine am_wp d4 ty tx (fun i hi => by have := hM i hi; have := hh s i hs hls hi; omega) (fun hle sp1 oA1 oB1 fA1 fB1 sg1 => br_f (by decide) ?_) (fun hex sp1 oA1 oB1 fA1 fB1 sg1 => br_t rfl ?_)
      · exact K1 M hcv hle F _ _ _ _ _ _ _ _ _ _ _ _ _ _ _ hi hT
      · refine K0 M hcv (fun z => ?_) F _ _ _ _ _ _ _ _ _ _ _ _ _ _ _ hi hT
        obtain ⟨i, hi, q⟩ := hex
        have := z i hi; omega
theorem xv_ok {post : Int32 → SX → Prop} {n d s cnt : Nat} {v : Int32} {F : List Nat} {O H : Nat → Nat → Nat} (esc : sc = nI n) (n6 : n ≤ 6) (d4 : d ≤ 4) (hs : s < n) (hls : lv s ≠ 0) (hc : cnt ≤ 128) (hh : ∀ t i, t < n → lv t ≠ 0 → i < 2 ^ d → H t i ≤ cnt) (hi : hp_I fr fc L R B T F) (hT : rr_T L R B T F n d lv ir er O H)
    (K1 : ∀ M, cv_M d n v lv H M → (∀ i, i < 2 ^ d → H s i ≤ M i) → ∀ (F1 : List Nat) (mk1 : Nat → Int32) (fr1 fc1 : Int32) (L1 R1 B1 T1 : Nat → Int32) (sp1 rp1 : Int32) (oA1 oB1 fA1 fB1 sg1 rN1 rC1 : Nat → Int32), hp_I fr1 fc1 L1 R1 B1 T1 F1 → rr_T L1 R1 B1 T1 F1 n d lv ir er O H → post 1 (zS, zM, zF, zG, sc, dp, ce, lm, fr1, fc1, ct, sp1, rp1, pl, lo, up, L1, R1, B1, T1, mk1, lv, ir, er, wc, wh, oA1, oB1, fA1, fB1, sg1, rN1, rC1, pa))
    (K0 : ∀ M, cv_M d n v lv H M → ¬ (∀ i, i < 2 ^ d → H s i ≤ M i) → ∀ (F1 : List Nat) (mk1 : Nat → Int32) (fr1 fc1 : Int32) (L1 R1 B1 T1 : Nat → Int32) (sp1 rp1 : Int32) (oA1 oB1 fA1 fB1 sg1 rN1 rC1 : Nat → Int32), hp_I fr1 fc1 L1 R1 B1 T1 F1 → rr_T L1 R1 B1 T1 F1 n d lv ir er O H → post 0 (zS, zM, zF, zG, sc, dp, ce, lm, fr1, fc1, ct, sp1, rp1, pl, lo, up, L1, R1, B1, T1, mk1, lv, ir, er, wc, wh, oA1, oB1, fA1, fB1, sg1, rN1, rC1, pa)) : wpX_covered post (zS, zM, zF, zG, sc, dp, ce, lm, fr, fc, ct, sp, rp, pl, lo, up, L, R, B, T, mk, lv, ir, er, wc, wh, oA, oB, fA, fB, sg, rN, rC, pa) (nI s) v := by
  unfold wpX_covered
  (try dsimp only)
  refine rf_ok esc n6 hs (fun z => absurd z hls) (fun _ => br_t rfl ?_)
  refine er_run n6 d4 esc hi (rr_ok hT) (fun F1 fr1 fc1 L1 R1 B1 T1 mk1 oA1 hi1 hF1 kp => ⟨n + 1, ?_⟩)
  refine xv_lp esc n6 d4 hs hls hc hh (fun M a b F2 fr2 fc2 L2 R2 B2 T2 sp2 rp2 oA2 oB2 fA2 fB2 sg2 rN2 rC2 hi2 hT2 => K1 M a b F2 mk1 _ _ _ _ _ _ _ _ _ _ _ _ _ _ _ hi2 hT2) (fun M a b F2 fr2 fc2 L2 R2 B2 T2 sp2 rp2 oA2 oB2 fA2 fB2 sg2 rN2 rC2 hi2 hT2 => K0 M a b F2 mk1 _ _ _ _ _ _ _ _ _ _ _ _ _ _ _ hi2 hT2)
    (n + 1) 0 0 (fun _ => 0) F1 _ _ _ _ _ _ _ _ _ _ _ _ _ _ _ (by omega) (by omega) hi1 (by omega) (rr_kp hT kp) (tr_zero hi1 (fun _ _ => rfl)) (fun i _ => Nat.zero_le _) (fun i _ => ⟨Or.inl rfl, fun b hb => by omega⟩)
/-- some live slot of the set knows event j -/
def cv_K (n j : Nat) (v : Int32) (yl : Nat → Int32) (Q : Nat → Nat → Nat) : Prop := ∃ b, (b < n ∧ yl b ≠ 0 ∧ cv_in v b) ∧ Q b j ≠ 0
theorem yv_37 {post : Int32 → Prop} {J : Int32 → Prop} {n s j : Nat} {v : Int32} {Q : Nat → Nat → Nat} (esc : ys = nI n) (n6 : n ≤ 6) (hs : s < n) (hj : j < 128) (hQ : yk_is yk Q) (Kg : (Q s j ≠ 0 → cv_K n j v yl Q) → J (nI (j + 1))) (K0 : Q s j ≠ 0 → ¬ cv_K n j v yl Q → post 0) : ∀ m c fl : Nat, m + c = n + 1 → c ≤ n → fl ≤ 1 → (fl ≠ 0 ↔ cv_K c j v yl Q) →
    wY_covered_37 post J (nI s) v (nI j) ys yc ye yn yl yo yk m (nI fl) (nI c) := by
  intro m
  induction m with
  | zero => intro c fl h1 h2; omega
  | succ m ih =>
    intro c fl h1 h2 hf hfl
    by_cases h : c < n
    · have ic := zz_i6 n6 h
      have g := hQ c j (by omega) hj
      have i2 : vp_in (nI (c * 128 + j)) 768 := vp_in_nI (by omega) (by decide)
      have up : cv_K c j v yl Q → cv_K (c + 1) j v yl Q := fun ⟨b, hb, q⟩ => ⟨b, ⟨by omega, hb.2⟩, q⟩
      have dn : ¬ (yl c ≠ 0 ∧ cv_in v c ∧ Q c j ≠ 0) → cv_K (c + 1) j v yl Q → cv_K c j v yl Q := by
        intro hn ⟨b, hb, q⟩
        by_cases e : b = c
        · subst e; exact absurd ⟨hb.2.1, hb.2.2, q⟩ hn
        · exact ⟨b, ⟨by omega, hb.2⟩, q⟩
      have same : ¬ (yl c ≠ 0 ∧ cv_in v c ∧ Q c j ≠ 0) → wY_covered_37 post J (nI s) v (nI j) ys yc ye yn yl yo yk m (nI fl) (nI (c + 1)) := fun hn => ih (c + 1) fl (by omega) (by omega) hf ⟨fun z => up (hfl.1 z), fun z => hfl.2 (dn hn z)⟩
      refine br_f (by rw [esc]; exact nI_ge h (by omega)) ?_
      rw [ix_128 c j, nI_clamp (show c < 2 ^ 31 by omega), nI_clamp (show c * 128 + j < 2 ^ 31 by omega), g.1]
      refine br_c (fun zv => ⟨ic, br_c (fun zl => nm_r (nI_1 c) (same (fun q => q.1 zl))) (fun zl => ⟨i2, pk_eq (Q c j) 0 (fun z => nm_r (nI_1 c) (same (fun q => q.2.2 z))) (fun z => nm_r (nI_1 c) ?_) rfl rfl (by omega) (by decide)⟩)⟩) (fun zv => nm_r (nI_1 c) (same (fun q => zv q.2.1)))
      exact ih (c + 1) 1 (by omega) (by omega) (Nat.le_refl _) ⟨fun _ => ⟨c, ⟨by omega, zl, zv⟩, z⟩, fun _ => by omega⟩
    · have e : c = n := by omega
      subst e
      have g := hQ s j (by omega) hj
      have i2 : vp_in (nI (s * 128 + j)) 768 := vp_in_nI (by omega) (by decide)
      refine br_t (by rw [esc]; exact nI_le (Nat.le_refl _) (by omega)) ?_
      rw [ix_128 s j, nI_clamp (show s * 128 + j < 2 ^ 31 by omega), g.1]
      refine ⟨i2, pk_eq (Q s j) 0 (fun z => nm_r (nI_1 j) (Kg (fun q => absurd z q))) (fun z => pk_eq fl 0 (fun z' => K0 z (fun q => hfl.2 q z')) (fun z' => nm_r (nI_1 j) (Kg (fun _ => hfl.1 z'))) rfl rfl (by omega) (by decide)) rfl rfl (by omega) (by decide)⟩
theorem yv_24 {post : Int32 → Prop} {n s : Nat} {v : Int32} {Q : Nat → Nat → Nat} (esc : ys = nI n) (n6 : n ≤ 6) (hs : s < n) (hQ : yk_is yk Q) (K1 : (∀ j, j < 128 → Q s j ≠ 0 → cv_K n j v yl Q) → post 1) (K0 : ¬ (∀ j, j < 128 → Q s j ≠ 0 → cv_K n j v yl Q) → post 0) : ∀ m c : Nat, m + c = 129 → c ≤ 128 → (∀ j, j < c → Q s j ≠ 0 → cv_K n j v yl Q) →
    wY_covered_24 post (nI s) v ys yc ye yn yl yo yk m (nI c) := by
  intro m
  induction m with
  | zero => intro c h1 h2; omega
  | succ m ih =>
    intro c h1 h2 hh
    by_cases h : c < 128
    · refine br_f (nI_ge (b := 128) h (by decide)) ⟨n + 1, ?_⟩
      refine yv_37 esc n6 hs h hQ (fun hg => ih (c + 1) (by omega) (by omega) (fun j hj hq => ?_)) (fun z z' => K0 (fun q => z' (q c h z))) (n + 1) 0 0 (by omega) (by omega) (by omega) ⟨fun z => absurd rfl z, fun ⟨b, hb, _⟩ => by omega⟩
      by_cases e : j = c
      · subst e; exact hg hq
      · exact hh j (by omega) hq
    · have e : c = 128 := by omega
      subst e
      exact br_t (by decide) (K1 hh)
theorem yv_ok {post : Int32 → Prop} {n s : Nat} {v : Int32} {Q : Nat → Nat → Nat} (esc : ys = nI n) (n6 : n ≤ 6) (hs : s < n) (hls : yl s ≠ 0) (hQ : yk_is yk Q) (K1 : (∀ j, j < 128 → Q s j ≠ 0 → cv_K n j v yl Q) → post 1) (K0 : ¬ (∀ j, j < 128 → Q s j ≠ 0 → cv_K n j v yl Q) → post 0) : wpY_covered post (ys, yc, ye, yn, yl, yo, yk) (nI s) v := by
  unfold wpY_covered
  (try dsimp only)
  rw [nI_clamp (show s < 2 ^ 31 by omega)]
  exact bd_ok esc n6 hs (br_t rfl ⟨zz_i6 n6 hs, br_f hls ⟨129, yv_24 esc n6 hs hQ K1 K0 129 0 (by omega) (by omega) (fun j hj => by omega)⟩⟩)
theorem i_vc_covered {k : Nat} {u : SX} {v : SY} (I : i_Rel k u v) (hk : k + 3 ≤ 1539) (v1 : Int32) (v2 : Int32) : wpX_covered (fun r u' => wpY_covered (fun r' => r' = r ∧ i_Rel (k + 3) u' v) v v1 v2) u v1 v2 := by
  obtain ⟨zS, zM, zF, zG, sc, dp, ce, lm, fr, fc, ct, sp, rp, pl, lo, up, L, R, B, T, mk, lv, ir, er, wc, wh, oA, oB, fA, fB, sg, rN, rC, pa⟩ := u
  obtain ⟨ys, yc, ye, yn, yl, yo, yk⟩ := v
  obtain ⟨n, d, lim, cnt, F, O, H, K, E, w, g, ⟨e1, e2, e3, e4, e5⟩, ⟨f1, f2, f3, f4⟩, hi, hT, hw, hl, hO, hK, A⟩ := (show rr_R sc dp ce lm fr fc ct L R B T lv ir er wc wh ys yc ye yn yl yo yk from I)
  have hR : rr_R sc dp ce lm fr fc ct L R B T lv ir er wc wh ys yc ye yn yl yo yk := I
  subst e1 e2 e3 e4 e5 f1 f2 f3 f4
  have ⟨n2, n6, d1, d4, l8, l128, cl⟩ := A.1
  have h16 := zz_d4 d4
  have hp2 := zz_2p d
  rcases zz_slot v1 (n := n) (by omega) with hb | ⟨s, hs, rfl⟩
  · unfold wpX_covered wpY_covered
    (try dsimp only)
    exact rf_bad rfl hb (br_f (by decide) (bd_bad rfl hb (br_f (by decide) ⟨rfl, I⟩)))
  · have is := zz_i6 n6 hs
    have hls := hl s hs
    by_cases c : lv s = 0
    · unfold wpX_covered wpY_covered
      (try dsimp only)
      rw [nI_clamp (show s < 2 ^ 31 by omega)]
      exact rf_ok rfl n6 hs (fun _ => br_f (by decide) (bd_ok rfl n6 hs (br_t rfl ⟨is, br_t (hls.1 c) ⟨rfl, I⟩⟩))) (fun z => absurd c z)
    · have cy : yl s ≠ 0 := fun z => c (hls.2 z)
      have bnd : ∀ s i, rr_la n lv s → i < 2 ^ d → H s i ≤ cnt := A.2.2.2.2.2.2.2.2.2
      have key : ∀ M, cv_M d n v2 lv H M → ((∀ i, i < 2 ^ d → H s i ≤ M i) ↔ ∀ j, j < 128 → K s j ≠ 0 → cv_K n j v2 yl K) := by
        intro M hM
        rw [rr_le A ⟨hs, c⟩ M (fun b => b < n ∧ lv b ≠ 0 ∧ cv_in v2 b) hM (fun b hb => ⟨hb.1, hb.2.1⟩)]
        constructor
        · intro h j hj hk
          obtain ⟨b, hb, q⟩ := h j hj hk
          exact ⟨b, ⟨hb.1, fun z => hb.2.1 ((hl b hb.1).2 z), hb.2.2⟩, q⟩
        · intro h j hj hk
          obtain ⟨b, hb, q⟩ := h j hj hk
          exact ⟨b, ⟨hb.1, fun z => hb.2.1 ((hl b hb.1).1 z), hb.2.2⟩, q⟩
      have rel : ∀ (F1 : List Nat) (fr1 fc1 : Int32) (L1 R1 B1 T1 : Nat → Int32), hp_I fr1 fc1 L1 R1 B1 T1 F1 → rr_T L1 R1 B1 T1 F1 n d lv ir er O H → rr_R (nI n) (nI d) (nI (2 ^ d)) (nI lim) fr1 fc1 (nI cnt) L1 R1 B1 T1 lv ir er wc wh (nI n) (nI (2 ^ d)) (nI lim) (nI cnt) yl yo yk := fun F1 fr1 fc1 L1 R1 B1 T1 hi1 hT1 =>
        ⟨n, d, lim, cnt, F1, O, H, K, E, w, g, ⟨rfl, rfl, rfl, rfl, rfl⟩, ⟨rfl, rfl, rfl, rfl⟩, hi1, hT1, hw, hl, hO, hK, A⟩
      refine xv_ok (cnt := cnt) rfl n6 d4 hs c (by omega) (fun t i ht hlt hi => bnd t i ⟨ht, hlt⟩ hi) hi hT (fun M hM hle F1 mk1 fr1 fc1 L1 R1 B1 T1 sp1 rp1 oA1 oB1 fA1 fB1 sg1 rN1 rC1 hi1 hT1 => ?_) (fun M hM hle F1 mk1 fr1 fc1 L1 R1 B1 T1 sp1 rp1 oA1 oB1 fA1 fB1 sg1 rN1 rC1 hi1 hT1 => ?_)
      · exact yv_ok rfl n6 hs cy hK (fun _ => ⟨rfl, i_mk (rel F1 _ _ _ _ _ _ hi1 hT1)⟩) (fun z => absurd ((key M hM).1 hle) z)
      · exact yv_ok rfl n6 hs cy hK (fun z => absurd ((key M hM).2 z) hle) (fun _ => ⟨rfl, i_mk (rel F1 _ _ _ _ _ _ hi1 hT1)⟩)
end
end
