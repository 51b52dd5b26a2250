section
theorem pk_us {f : Nat → Int32} {k : Nat} {x : Int32} : upd f k x k = x := if_pos rfl
theorem pk_un {f : Nat → Int32} {k j : Nat} {x : Int32} (h : j ≠ k) : upd f k x j = f j := if_neg h
theorem pk_uLs {f : Nat → Int64} {k : Nat} {x : Int64} : vp_updL f k x k = x := if_pos rfl
theorem pk_uLn {f : Nat → Int64} {k j : Nat} {x : Int64} (h : j ≠ k) : vp_updL f k x j = f j := if_neg h
theorem pk_sub {a b : Nat} (h : b ≤ a) : nI a - nI b = nI (a - b) := by
  obtain ⟨c, rfl⟩ : ∃ c, a = c + b := ⟨a - b, by omega⟩
  rw [← nI_add, Int32.add_sub_cancel, Nat.add_sub_cancel]
theorem pk_m1 (n : Nat) : nI (n + 1) + (-1) = nI n := by
  rw [← nI_1, Int32.add_assoc, show (1 : Int32) + (-1) = 0 from rfl, Int32.add_zero]
theorem pk_mul (a b : Nat) : nI a * nI b = nI (a * b) := (Int32.ofNat_mul a b).symm
theorem pk_div {a d : Nat} (ha : a < 2 ^ 31) (h0 : 0 < d) (hd : d < 2 ^ 31) : nI a / nI d = nI (a / d) := by
  apply Int32.toInt_inj.mp
  rw [lg_idiv_nonneg (by rw [nI_toInt ha]; omega) (by rw [nI_toInt hd]; omega), nI_toInt ha, nI_toInt hd, nI_toInt (Nat.lt_of_le_of_lt (Nat.div_le_self a d) ha)]
  first | rfl | exact (Int.natCast_ediv _ _).symm
theorem pk_rem {a d : Nat} (ha : a < 2 ^ 31) (h0 : 0 < d) (hd : d < 2 ^ 31) : nI a - nI a / nI d * nI d = nI (a % d) := by
  rw [pk_div ha h0 hd, pk_mul, pk_sub (Nat.div_mul_le_self a d)]
  exact congrArg nI (by have := Nat.div_add_mod' a d; omega)
theorem pk_sub_toInt {a b : Nat} (ha : a < 2 ^ 30) (hb : b < 2 ^ 30) : (nI a - nI b).toInt = (a : Int) - b := by
  rw [Int32.toInt_sub, nI_toInt (by omega), nI_toInt (by omega)]
  exact Int.bmod_eq_of_le (by omega) (by omega)
theorem pk_sneg {a b : Nat} (hb : b < 2 ^ 30) (h : a < b) : nI a - nI b < 0 := by
  rw [Int32.lt_iff_toInt_lt, pk_sub_toInt (by omega) hb, show (0 : Int32).toInt = 0 from by decide]
  omega
theorem pk_ix (x : Int32) {n : Nat} (hn : n < 2 ^ 31) : x < 0 ∨ nI n ≤ x ∨ ∃ j : Nat, j < n ∧ x = nI j := by
  by_cases h : x < 0
  · exact Or.inl h
  · obtain ⟨j, hj, rfl⟩ := nI_of h
    by_cases h2 : j < n
    · exact Or.inr (Or.inr ⟨j, h2, rfl⟩)
    · exact Or.inr (Or.inl (nI_le (by omega) hj))
theorem pk_le {x y : Int32} {A B : Prop} (a b : Nat) (f : a ≤ b → A) (g : b < a → B) (hx : x = nI a := by rfl) (hy : y = nI b := by rfl) (ha : a < 2 ^ 31 := by omega) (hb : b < 2 ^ 31 := by omega) : (x ≤ y → A) ∧ (¬ x ≤ y → B) := by
  subst hx hy
  rw [nI_leI ha hb]
  exact ⟨f, fun z => g (by omega)⟩
theorem pk_lt {x y : Int32} {A B : Prop} (a b : Nat) (f : a < b → A) (g : b ≤ a → B) (hx : x = nI a := by rfl) (hy : y = nI b := by rfl) (ha : a < 2 ^ 31 := by omega) (hb : b < 2 ^ 31 := by omega) : (x < y → A) ∧ (¬ x < y → B) := by
  subst hx hy
  rw [nI_ltI ha hb]
  exact ⟨f, fun z => g (by omega)⟩
theorem pk_eq {x y : Int32} {A B : Prop} (a b : Nat) (f : a = b → A) (g : a ≠ b → B) (hx : x = nI a := by rfl) (hy : y = nI b := by rfl) (ha : a < 2 ^ 31 := by omega) (hb : b < 2 ^ 31 := by omega) : (x = y → A) ∧ (¬ x = y → B) := by
  subst hx hy
  rw [nI_eq ha hb]
  exact ⟨f, g⟩
theorem pk_in {x : Int32} (n N : Nat) (h : n < N) (hx : x = nI n := by rfl) (hN : N < 2 ^ 31 := by omega) : vp_in x N := by
  subst hx
  exact vp_in_nI h hN
theorem pk_cl {x : Int32} (n : Nat) (hx : x = nI n := by rfl) (h : n < 2 ^ 31 := by omega) : x.toNatClampNeg = n := by
  subst hx
  exact nI_clamp h
theorem pk_tn {n : Nat} (h : n < 2 ^ 32) : (nI n).toBitVec.toNat = n := Nat.mod_eq_of_lt h
theorem pk_and (x : Int32) {m : Int32} (k : Nat) (hm : m.toBitVec.toNat = 2 ^ k - 1) : x &&& m = nI (x.toBitVec.toNat % 2 ^ k) := by
  apply Int32.toBitVec_inj.mp
  apply BitVec.eq_of_toNat_eq
  rw [Int32.toBitVec_and, BitVec.toNat_and, hm, Nat.and_two_pow_sub_one_eq_mod]
  show _ = (BitVec.ofNat 32 _).toNat
  rw [BitVec.toNat_ofNat]
  exact (Nat.mod_eq_of_lt (Nat.lt_of_le_of_lt (Nat.mod_le _ _) x.toBitVec.isLt)).symm
theorem pk_andN {n : Nat} (h : n < 2 ^ 32) {m : Int32} (k : Nat) (hm : m.toBitVec.toNat = 2 ^ k - 1) : nI n &&& m = nI (n % 2 ^ k) := by
  rw [pk_and _ k hm, pk_tn h]
theorem pk_andE (x : Int32) {m : Int32} (k : Nat) (hm : m.toBitVec.toNat = 2 ^ k - 1) : ∃ j : Nat, j < 2 ^ k ∧ x &&& m = nI j := ⟨_, Nat.mod_lt _ (Nat.two_pow_pos k), pk_and x k hm⟩
theorem pk_andIn (x : Int32) {m : Int32} (k : Nat) (hm : m.toBitVec.toNat = 2 ^ k - 1) (hk : k ≤ 30) : vp_in (x &&& m) (2 ^ k) := by
  obtain ⟨j, hj, e⟩ := pk_andE x k hm
  rw [e]
  exact vp_in_nI hj (Nat.lt_of_le_of_lt (Nat.pow_le_pow_right (by decide) hk) (by decide))
theorem pk_shl (a s : Int32) (k : Nat) (hs : (s.toBitVec.smod 32).toNat = k) : (a <<< s).toBitVec.toNat = a.toBitVec.toNat * 2 ^ k % 2 ^ 32 := by
  show (a.toBitVec <<< (s.toBitVec.smod 32).toNat).toNat = _
  rw [hs, BitVec.toNat_shiftLeft, Nat.shiftLeft_eq]
theorem pk_shlN {n : Nat} (s : Int32) (k : Nat) (hs : (s.toBitVec.smod 32).toNat = k) (h : n * 2 ^ k < 2 ^ 32) : nI n <<< s = nI (n * 2 ^ k) := by
  apply Int32.toBitVec_inj.mp
  apply BitVec.eq_of_toNat_eq
  have hn : n < 2 ^ 32 := Nat.lt_of_le_of_lt (Nat.le_mul_of_pos_right n (Nat.two_pow_pos k)) h
  rw [pk_shl _ _ k hs, pk_tn hn, pk_tn h, Nat.mod_eq_of_lt h]
theorem pk_shr (a s : Int32) (k : Nat) (hs : (s.toBitVec.smod 32).toNat = k) : (a >>> s).toInt = a.toInt >>> k := by
  show (a.toBitVec.sshiftRight (s.toBitVec.smod 32).toNat).toInt = _
  rw [hs, BitVec.toInt_sshiftRight]
  rfl
theorem pk_shrN {n : Nat} (h : n < 2 ^ 31) (s : Int32) (k : Nat) (hs : (s.toBitVec.smod 32).toNat = k) : nI n >>> s = nI (n / 2 ^ k) := by
  apply Int32.toInt_inj.mp
  have h2 : n / 2 ^ k ≤ n := Nat.div_le_self _ _
  rw [pk_shr _ _ k hs, nI_toInt h, nI_toInt (by omega), Int.shiftRight_eq_div_pow]
  rfl
theorem pk_ushr (x s : Int32) (k : Nat) (hs : ((s.toUInt32 &&& Int32.toUInt32 31).toBitVec % 32).toNat = k) : (x.toUInt32 >>> (s.toUInt32 &&& Int32.toUInt32 31)).toInt32.toBitVec.toNat = x.toBitVec.toNat / 2 ^ k := by
  have e : (x.toUInt32 >>> (s.toUInt32 &&& Int32.toUInt32 31)).toInt32.toBitVec = x.toBitVec >>> k := by
    rw [← hs]
    exact UInt32.toBitVec_shiftRight _ _
  rw [e, BitVec.toNat_ushiftRight, Nat.shiftRight_eq_div_pow]
theorem pk_ushrN {n : Nat} (hn : n < 2 ^ 32) (s : Int32) (k : Nat) (hs : ((s.toUInt32 &&& Int32.toUInt32 31).toBitVec % 32).toNat = k) : ((nI n).toUInt32 >>> (s.toUInt32 &&& Int32.toUInt32 31)).toInt32 = nI (n / 2 ^ k) := by
  apply Int32.toBitVec_inj.mp
  apply BitVec.eq_of_toNat_eq
  rw [pk_ushr _ s k hs, pk_tn hn, pk_tn (Nat.lt_of_le_of_lt (Nat.div_le_self _ _) hn)]
theorem pk_lT {n : Nat} (h : n < 2 ^ 63) : (lN n).toInt = (n : Int) := lg_ofNat_toInt h
theorem pk_lLT {a b : Nat} (ha : a < 2 ^ 63) (hb : b < 2 ^ 63) : lN a < lN b ↔ a < b := by
  rw [Int64.lt_iff_toInt_lt, pk_lT ha, pk_lT hb]; omega
theorem pk_lLE {a b : Nat} (ha : a < 2 ^ 63) (hb : b < 2 ^ 63) : lN a ≤ lN b ↔ a ≤ b := by
  rw [Int64.le_iff_toInt_le, pk_lT ha, pk_lT hb]; omega
theorem pk_lEQ {a b : Nat} (ha : a < 2 ^ 63) (hb : b < 2 ^ 63) : lN a = lN b ↔ a = b := by
  rw [← Int64.toInt_inj, pk_lT ha, pk_lT hb]; omega
theorem pk_lOf {x : Int64} (h : ¬ x < 0) : ∃ k : Nat, k < 2 ^ 63 ∧ x = lN k := by
  rw [Int64.lt_iff_toInt_lt] at h
  have h0 : (0 : Int64).toInt = 0 := by decide
  have hx := Int64.toInt_lt x
  refine ⟨x.toInt.toNat, by omega, Int64.toInt_inj.mp ?_⟩
  rw [pk_lT (by omega)]
  omega
theorem pk_lDiv {a b : Nat} (ha : a < 2 ^ 63) (h0 : 0 < b) (hb : b < 2 ^ 63) : lN a / lN b = lN (a / b) := by
  apply Int64.toInt_inj.mp
  rw [lg_ldiv_nonneg (by rw [pk_lT ha]; omega) (by rw [pk_lT hb]; omega), pk_lT ha, pk_lT hb, pk_lT (Nat.lt_of_le_of_lt (Nat.div_le_self a b) ha)]
  rfl
theorem pk_lRem {a b : Nat} (ha : a < 2 ^ 63) (h0 : 0 < b) (hb : b < 2 ^ 63) : lN a - lN a / lN b * lN b = lN (a % b) := by
  rw [pk_lDiv ha h0 hb, lN_mul, lN_sub (Nat.div_mul_le_self a b)]
  exact congrArg lN (by have := Nat.div_add_mod' a b; omega)
theorem wb_tb (n : Nat) : (lN n).toBitVec = BitVec.ofNat 64 n := rfl
theorem wb_inj {a b : Int64} (h : a.toBitVec = b.toBitVec) : a = b := Int64.toBitVec_inj.mp h
theorem wb_tn {n : Nat} (h : n < 2 ^ 64) : (lN n).toBitVec.toNat = n := by rw [wb_tb, BitVec.toNat_ofNat, Nat.mod_eq_of_lt h]
theorem wb_of (x : Int64) : ∃ n, n < 2 ^ 64 ∧ x = lN n := ⟨x.toBitVec.toNat, x.toBitVec.isLt, wb_inj (by rw [wb_tb]; simp)⟩
theorem wb_of32 (x : Int32) : ∃ n, n < 2 ^ 32 ∧ x = nI n := ⟨x.toBitVec.toNat, x.toBitVec.isLt, Int32.toBitVec_inj.mp (by show _ = BitVec.ofNat 32 _; simp)⟩
theorem wb_c : ∀ k, k < 64 → ((nI k).toInt64 &&& 63) = lN k := by decide +kernel
theorem wb_cu : ∀ k, k < 64 → ((nI k).toInt64.toUInt64 &&& Int64.toUInt64 63) = UInt64.ofNat k := by decide +kernel
theorem wb_sm : ∀ k, k < 64 → (BitVec.ofNat 64 k).smod 64 = BitVec.ofNat 64 k := by decide +kernel
theorem wb_pw {a b : Nat} (h : a ≤ b) : 2 ^ b = 2 ^ a * 2 ^ (b - a) := by rw [← Nat.pow_add]; congr 1; omega
theorem wb_lt2 {a b : Nat} (h : a < b) : 2 ^ a < 2 ^ b := Nat.pow_lt_pow_right (by decide) h
theorem wb_mod (n : Nat) : lN n = lN (n % 2 ^ 64) := wb_inj (by rw [wb_tb, wb_tb]; apply BitVec.eq_of_toNat_eq; rw [BitVec.toNat_ofNat, BitVec.toNat_ofNat, Nat.mod_mod])
theorem wb_shl (n : Nat) {k : Nat} (hk : k < 64) : lN n <<< ((nI k).toInt64 &&& 63) = lN (n * 2 ^ k) := by
  rw [wb_c k hk]
  apply wb_inj
  rw [Int64.toBitVec_shiftLeft, wb_tb, wb_tb, wb_tb, wb_sm k hk]
  apply BitVec.eq_of_toNat_eq
  rw [BitVec.shiftLeft_eq', BitVec.toNat_shiftLeft, BitVec.toNat_ofNat, BitVec.toNat_ofNat, BitVec.toNat_ofNat, Nat.mod_eq_of_lt (show k < 2 ^ 64 by omega), Nat.shiftLeft_eq, Nat.mul_mod, Nat.mod_mod, ← Nat.mul_mod]
theorem u_tn {n : Nat} (h : n < 2 ^ 64) : (UInt64.ofNat n).toNat = n := Nat.mod_eq_of_lt h
theorem g_or {k p a b : Nat} (hp : 2 ^ k = p) (ha : a < p) (h : b * p + a < 2 ^ 64) : lN (b * p) ||| lN a = lN (b * p + a) := by
  subst hp
  have h1 : b * 2 ^ k ||| a = b * 2 ^ k + a := by rw [← Nat.shiftLeft_eq, Nat.shiftLeft_add_eq_or_of_lt ha]
  have h3 : UInt64.ofNat (b * 2 ^ k) ||| UInt64.ofNat a = UInt64.ofNat (b * 2 ^ k + a) := UInt64.toNat_inj.mp (by rw [UInt64.toNat_or, u_tn (by omega), u_tn (by omega), u_tn h, h1])
  have h2 := congrArg UInt64.toInt64 h3
  exact h2
end
section
/-! counts, lists, small facts -/
def pg_cn (p : Nat → Bool) : Nat → Nat
  | 0 => 0
  | n + 1 => pg_cn p n + (if p n then 1 else 0)
theorem pg_cn_congr {p q : Nat → Bool} : ∀ {n : Nat}, (∀ i, i < n → p i = q i) → pg_cn p n = pg_cn q n
  | 0, _ => rfl
  | n + 1, h => by
    have e := pg_cn_congr (n := n) (fun i hi => h i (by omega))
    have e2 := h n (by omega)
    simp only [pg_cn, e, e2]
theorem pg_cn_le (p : Nat → Bool) : ∀ n, pg_cn p n ≤ n
  | 0 => Nat.le_refl 0
  | n + 1 => by
    have := pg_cn_le p n
    simp only [pg_cn]; split <;> omega
theorem pg_cn_set {p q : Nat → Bool} {i : Nat} : ∀ {n : Nat}, i < n → p i = false → q i = true → (∀ j, j < n → j ≠ i → p j = q j) → pg_cn q n = pg_cn p n + 1
  | 0, h, _, _, _ => absurd h (by omega)
  | n + 1, h, hp, hq, ho => by
    by_cases e : i = n
    · subst e
      have := pg_cn_congr (p := p) (q := q) (n := i) (fun j hj => ho j (by omega) (by omega))
      simp only [pg_cn, hp, hq, this]; simp
    · have := pg_cn_set (p := p) (q := q) (i := i) (n := n) (by omega) hp hq (fun j hj hne => ho j (by omega) hne)
      have e2 := ho n (by omega) (fun z => e z.symm)
      simp only [pg_cn, this, e2]; omega
theorem pg_cn_zero {p : Nat → Bool} : ∀ {n : Nat}, (∀ i, i < n → p i = false) → pg_cn p n = 0
  | 0, _ => rfl
  | n + 1, h => by
    have e := pg_cn_zero (n := n) (fun i hi => h i (by omega))
    have e2 := h n (by omega)
    simp only [pg_cn, e, e2]; simp
theorem pg_cn_ex {p : Nat → Bool} : ∀ {n : Nat}, 0 < pg_cn p n → ∃ i, i < n ∧ p i = true
  | 0, h => absurd h (by simp [pg_cn])
  | n + 1, h => by
    by_cases e : p n = true
    · exact ⟨n, by omega, e⟩
    · have e' : p n = false := by simpa using e
      simp only [pg_cn, e'] at h
      obtain ⟨i, hi, hp⟩ := pg_cn_ex (n := n) (by simpa using h)
      exact ⟨i, by omega, hp⟩
theorem pg_cn_mono (p : Nat → Bool) {n : Nat} : ∀ {k : Nat}, n ≤ k → pg_cn p n ≤ pg_cn p k
  | 0, h => by
    have : n = 0 := by omega
    subst this; exact Nat.le_refl _
  | k + 1, h => by
    by_cases e : n = k + 1
    · subst e; exact Nat.le_refl _
    · have := pg_cn_mono p (n := n) (k := k) (by omega)
      simp only [pg_cn]; omega
theorem pg_cn_pos {p : Nat → Bool} {n i : Nat} (h : i < n) (hp : p i = true) : 0 < pg_cn p n := by
  have h1 := pg_cn_mono p (n := i + 1) (k := n) (by omega)
  have h2 : pg_cn p (i + 1) = pg_cn p i + 1 := by simp only [pg_cn, hp]; simp
  omega
theorem pg_cn_none {p : Nat → Bool} {n i : Nat} (h : pg_cn p n = 0) (hi : i < n) : p i = false := by
  cases e : p i with
  | false => rfl
  | true => have := pg_cn_pos hi e; omega
theorem pg_cn_two {p : Nat → Bool} {n i j : Nat} (hi : i < n) (hj : j < n) (hne : i ≠ j) (hp : p i = true) (hq : p j = true) : 2 ≤ pg_cn p n := by
  have h1 := pg_cn_set (p := fun x => p x && decide (x ≠ i)) (q := p) (i := i) (n := n) hi (by simp) hp (by intro x hx hn; simp [hn])
  have h2 := pg_cn_pos (p := fun x => p x && decide (x ≠ i)) (i := j) (n := n) hj (by simp [hq]; exact fun z => hne z.symm)
  omega
theorem pg_cn_lt {p : Nat → Bool} {n i : Nat} (hi : i < n) (hp : p i = false) : pg_cn p n < n := by
  have h1 := pg_cn_set (p := p) (q := fun x => p x || decide (x = i)) (i := i) (n := n) hi hp (by simp) (by intro x hx hn; simp [hn])
  have h2 := pg_cn_le (fun x => p x || decide (x = i)) n
  omega
theorem pg_cn_blk {p : Nat → Bool} {a : Nat} : ∀ {k : Nat}, (∀ i, a ≤ i → i < a + k → p i = true) → pg_cn p (a + k) = pg_cn p a + k
  | 0, _ => rfl
  | k + 1, h => by
    have e := pg_cn_blk (p := p) (a := a) (k := k) (fun i h1 h2 => h i h1 (by omega))
    have e2 := h (a + k) (by omega) (by omega)
    show pg_cn p (a + k) + (if p (a + k) then 1 else 0) = _
    rw [e, e2]; simp; omega
theorem pg_len : ∀ {l : List Nat} {p : Nat → Bool} {n : Nat}, l.Nodup → (∀ m, m ∈ l ↔ m < n ∧ p m = true) → l.length = pg_cn p n
  | [], p, n, _, h => by
    rw [pg_cn_zero]
    · rfl
    · intro i hi
      cases e : p i with
      | false => rfl
      | true => exact absurd ((h i).2 ⟨hi, e⟩) (by simp)
  | a :: l, p, n, hd, h => by
    have ha := (h a).1 (by simp)
    have hnd := List.nodup_cons.1 hd
    have e := pg_len (l := l) (p := fun m => p m && decide (m ≠ a)) (n := n) hnd.2 (by
      intro m
      constructor
      · intro hm
        have h1 := (h m).1 (by simp [hm])
        have h2 : m ≠ a := fun z => hnd.1 (z ▸ hm)
        exact ⟨h1.1, by simp [h1.2, h2]⟩
      · intro hm
        have h3 := hm.2
        simp only [Bool.and_eq_true, decide_eq_true_eq] at h3
        have h1 := (h m).2 ⟨hm.1, h3.1⟩
        rcases List.mem_cons.1 h1 with z | z
        · exact absurd z h3.2
        · exact z)
    rw [List.length_cons, e]
    exact (pg_cn_set (p := fun m => p m && decide (m ≠ a)) (q := p) ha.1 (by simp) ha.2 (by intro x hx hn; simp [hn])).symm
theorem pg_us {f : Nat → Int32} {k : Nat} {x : Int32} : upd f k x k = x := if_pos rfl
theorem pg_un {f : Nat → Int32} {k j : Nat} {x : Int32} (h : j ≠ k) : upd f k x j = f j := if_neg h
theorem pg_uself {f : Nat → Int32} {k : Nat} {x : Int32} (h : f k = x) : upd f k x = f := by
  funext j
  by_cases e : j = k
  · subst e; rw [pg_us, h]
  · rw [pg_un e]
theorem pg_uu {f : Nat → Int32} {k : Nat} {x y : Int32} : upd (upd f k x) k y = upd f k y := by
  funext j
  by_cases e : j = k
  · subst e; rw [pg_us, pg_us]
  · rw [pg_un e, pg_un e, pg_un e]
theorem pg_nm {a : Nat} (h : a < 2 ^ 31) : nI a ≠ -1 := by
  intro e
  have := nI_pos h
  rw [e] at this
  exact this (by decide)
theorem pg_mn {a : Nat} (h : a < 2 ^ 31) : (-1 : Int32) ≠ nI a := fun e => pg_nm h e.symm
theorem pg_t4 (t j : Nat) : nI t * 4 + nI j = nI (4 * t + j) := by
  rw [show (4 : Int32) = nI 4 from rfl, pk_mul, nI_add, Nat.mul_comm]
theorem pg_4t (t j : Nat) : 4 * nI t + nI j = nI (4 * t + j) := by
  rw [show (4 : Int32) = nI 4 from rfl, pk_mul, nI_add]
theorem pg_m16 (t j : Nat) : nI t * 16 + nI j = nI (16 * t + j) := by
  rw [show (16 : Int32) = nI 16 from rfl, pk_mul, nI_add, Nat.mul_comm]
theorem pg_s2 {m : Nat} (h : m < 2 ^ 31) : nI m >>> ((2 : Int32) &&& 31) = nI (m / 4) := pk_shrN h _ 2 (by decide)
theorem pg_a3 {m : Nat} (h : m < 2 ^ 31) : nI m &&& 3 = nI (m % 4) := pk_andN (by omega) 2 (by decide)
theorem pg_b1 : vp_nar .boolean 1 = 1 := by decide
theorem pg_b0 : vp_nar .boolean 0 = 0 := by decide
/-- the list's head as the program has it -/
def pg_hd : List Nat → Int32
  | [] => -1
  | m :: _ => nI m
/-- a linked list, b in front of it -/
def pg_Lk (nx pv : Nat → Int32) : Int32 → List Nat → Prop
  | _, [] => True
  | b, m :: l => pv m = b ∧ nx m = pg_hd l ∧ pg_Lk nx pv (nI m) l
theorem pg_Lk_congr {nx pv nx' pv' : Nat → Int32} : ∀ {l : List Nat} {b : Int32}, (∀ m, m ∈ l → nx' m = nx m ∧ pv' m = pv m) → pg_Lk nx pv b l → pg_Lk nx' pv' b l
  | [], _, _, _ => trivial
  | m :: l, b, h, k => by
    have h1 := h m (by simp)
    exact ⟨h1.2.trans k.1, h1.1.trans k.2.1, pg_Lk_congr (fun x hx => h x (by simp [hx])) k.2.2⟩
theorem pg_Lk_pv {nx pv : Nat → Int32} : ∀ {l1 : List Nat} {m : Nat} {l2 : List Nat} {b : Int32}, pg_Lk nx pv b (l1 ++ m :: l2) → ((l1 = [] ∧ pv m = b) ∨ ∃ z, z ∈ l1 ∧ pv m = nI z) ∧ nx m = pg_hd l2
  | [], m, l2, b, h => ⟨Or.inl ⟨rfl, h.1⟩, h.2.1⟩
  | y :: l1, m, l2, b, h => by
    have k := pg_Lk_pv (l1 := l1) h.2.2
    refine ⟨Or.inr ?_, k.2⟩
    rcases k.1 with ⟨e, k1⟩ | ⟨z, hz, k1⟩
    · exact ⟨y, by simp, k1⟩
    · exact ⟨z, by simp [hz], k1⟩
theorem pg_Lk_cut {nx pv nx' pv' : Nat → Int32} {m : Nat} {l2 : List Nat} : ∀ {l1 : List Nat} {b : Int32}, pg_Lk nx pv b (l1 ++ m :: l2) → (l1 ++ m :: l2).Nodup → (∀ x, x ∈ l1 ++ m :: l2 → x < 64 ∧ nI x ≠ b) →
    (∀ x, x ∈ l1 ++ l2 → nx' x = (if nI x = pv m then nx m else nx x) ∧ pv' x = (if nI x = nx m then pv m else pv x)) → pg_Lk nx' pv' b (l1 ++ l2)
  | [], b, h, hd, hb, hx => by
    cases l2 with
    | nil => exact trivial
    | cons y l3 =>
      have hd1 := List.nodup_cons.1 hd
      have hd2 := List.nodup_cons.1 hd1.2
      have e1 : pv m = b := h.1
      have e2 : nx m = nI y := h.2.1
      have hy := hx y (by simp)
      have by1 := hb y (by simp)
      rw [e1, e2, if_neg by1.2, if_pos rfl] at hy
      refine ⟨hy.2, hy.1.trans h.2.2.2.1, pg_Lk_congr ?_ h.2.2.2.2⟩
      intro x hxm
      have hx1 := hx x (by simp [hxm])
      have bx := hb x (by simp [hxm])
      have hne : nI x ≠ nI y := by
        rw [Ne, nI_eq (by omega) (by omega)]
        exact fun z => hd2.1 (z ▸ hxm)
      rw [e1, e2, if_neg bx.2, if_neg hne] at hx1
      exact hx1
  | y :: l1, b, h, hd, hb, hx => by
    have hd1 := List.nodup_cons.1 hd
    have hy := hx y (by simp)
    have by1 := hb y (by simp)
    have k := pg_Lk_pv (l1 := l1) h.2.2
    have mem2 : ∀ z, z ∈ l1 ++ m :: l2 → nI y ≠ nI z := by
      intro z hz
      have bz := hb z (by simp at hz ⊢; exact Or.inr hz)
      rw [Ne, nI_eq (by omega) (by omega)]
      exact fun e => hd1.1 (e ▸ hz)
    have n1 : ¬ nI y = nx m := by
      rw [k.2]
      cases l2 with
      | nil => exact pg_nm (by omega)
      | cons z l3 => exact mem2 z (by simp)
    rw [if_neg n1] at hy
    refine ⟨hy.2.trans h.1, ?_, pg_Lk_cut (l1 := l1) h.2.2 hd1.2 (fun x hxm => ⟨(hb x (by simp at hxm ⊢; exact Or.inr hxm)).1, fun e => mem2 x hxm e.symm⟩) (fun x hxm => hx x (by simp at hxm ⊢; exact Or.inr hxm))⟩
    rcases k.1 with ⟨e, k1⟩ | ⟨z, hz, k1⟩
    · subst e
      rw [k1, if_pos rfl, k.2] at hy
      exact hy.1
    · have n2 : ¬ nI y = pv m := by rw [k1]; exact mem2 z (by simp [hz])
      rw [if_neg n2, h.2.1] at hy
      rw [hy.1]
      cases l1 with
      | nil => simp at hz
      | cons a l => rfl
end
section
/-! the pictures -/
def pg_chn (k p : Int32) : Int32 := if p < 0 then (if k < 2 then -1 else 18 + k - 2) else p
theorem pg_chn_p (k : Int32) {q : Nat} (h : q < 2 ^ 31) : pg_chn k (nI q) = nI q := if_neg (nI_pos h)
theorem pg_chn_1 : pg_chn 1 (-1) = -1 := by decide
theorem pg_chn_0 : pg_chn 0 (-1) = -1 := by decide
theorem pg_chn_s : ∀ k, k < 8 → pg_chn (nI (k + 2)) (-1) = nI (18 + k) := by decide
def pg_pt (D : Nat → Nat) (m : Nat) : Nat := 4 * D (m / 4) + m % 4
def pg_TB (NF : Nat) (dr fl fe pk pr pp pc : Nat → Int32) (D : Nat → Nat) (K R C P : Nat → Int32) : Prop :=
  (∀ d, d < 16 → (dr d = -1 ∧ ∀ j, j < 4 → K (4 * d + j) = 0) ∨ (dr d = nI (D d) ∧ D d < 16 ∧ fl (D d) = nI (pg_cn (fun j => decide (K (4 * d + j) ≠ 0)) 4) ∧ ∀ j, j < 4 → pk (4 * D d + j) = K (4 * d + j))) ∧
  (∀ d d', d < 16 → d' < 16 → dr d ≠ -1 → dr d' ≠ -1 → D d = D d' → d = d') ∧
  (∀ m, m < 64 → K m ≠ 0 → pr (pg_pt D m) = R m ∧ pp (pg_pt D m) = P m ∧ pc (pg_pt D m) = C m) ∧
  (∀ i, i < NF → ∃ t, t < 16 ∧ fe i = nI t ∧ (∀ j, j < 4 → pk (4 * t + j) = 0) ∧ ∀ d, d < 16 → dr d ≠ -1 → D d ≠ t) ∧
  (∀ i i', i < NF → i' < NF → fe i = fe i' → i = i') ∧
  pg_cn (fun d => decide (dr d = -1)) 16 = NF
def pg_CL (he sz nx pv Q : Nat → Int32) (c : Nat) (l : List Nat) : Prop :=
  l.Nodup ∧ (∀ m, m ∈ l ↔ m < 64 ∧ Q m = nI c) ∧ he c = pg_hd l ∧ sz c = nI l.length ∧ pg_Lk nx pv (-1) l
def pg_CH (he sz nx pv Q : Nat → Int32) : Prop := ∃ L : Nat → List Nat, ∀ c, c < 26 → pg_CL he sz nx pv Q c (L c)
def pg_TE (FR : Nat) (D : Nat → Nat) (K R P Q : Nat → Int32) (p f w : Int32) (m : Nat) : Prop :=
  K m ≠ 0 ∧ R m ≠ 0 ∧ p = nI (pg_pt D m) ∧ f = P m ∧ (∃ q, q < FR ∧ P m = nI q) ∧ (∃ c, c < 26 ∧ Q m = nI c) ∧ (w ≠ 0 → R m = 2 ∧ (K m ≠ 1 ∨ pg_cn (fun x => decide (Q x = Q m)) 64 = 1))
def pg_TL (E : Nat → Prop) (FR TS : Nat) (D : Nat → Nat) (K R P Q tm tp tf tw : Nat → Int32) : Prop :=
  (∀ t, t < TS → tm t = -1 ∨ ∃ m, m < 64 ∧ tm t = nI m ∧ (¬ E m → pg_TE FR D K R P Q (tp t) (tf t) (tw t) m)) ∧
  (∀ t t' m, t < TS → t' < TS → m < 64 → tm t = nI m → tm t' = nI m → t = t')
def pg_RX (FR SL : Nat) (D : Nat → Nat) (lv0 K R C P Q W0 U0 O0 KP0 : Nat → Int32) (NC : Nat) (u : SX) : Prop := match u with
  | (f1, f2, fr, sl, lm, fc, cc, hd, ts, th, lv, dr, fl, fe, pk, pr, pp, pc, W, U, rf, O, KP, he, sz, nx, pv, tm, tp, tf, tw) => (fr = nI FR ∧ sl = nI SL ∧ lm = nI (FR + SL - 1) ∧ cc = nI NC ∧ ∃ NH, NH < FR ∧ hd = nI NH) ∧
    (lv = lv0 ∧ W = W0 ∧ U = U0 ∧ O = O0 ∧ KP = KP0) ∧
    (∃ NF, fc = nI NF ∧ pg_TB NF dr fl fe pk pr pp pc D K R C P) ∧ pg_CH he sz nx pv Q ∧
    (∃ TS, 1 ≤ TS ∧ TS ≤ 8 ∧ ts = nI TS ∧ (∃ TH, TH < TS ∧ th = nI TH) ∧ pg_TL (fun _ => False) FR TS D K R P Q tm tp tf tw)
section
variable {FR SL NC : Nat} {D : Nat → Nat} {lv K R C P Q W U O KP : Nat → Int32}
theorem pg_RXi {f1 f2 : Int32} {NF NH TS TH : Nat} {dr fl fe pk pr pp pc rf he sz nx pv tm tp tf tw : Nat → Int32} (hH : NH < FR) (T : pg_TB NF dr fl fe pk pr pp pc D K R C P) (c : pg_CH he sz nx pv Q) (t1 : 1 ≤ TS) (t8 : TS ≤ 8) (hT : TH < TS) (L : pg_TL (fun _ => False) FR TS D K R P Q tm tp tf tw) : pg_RX FR SL D lv K R C P Q W U O KP NC (f1, f2, nI FR, nI SL, nI (FR + SL - 1), nI NF, nI NC, nI NH, nI TS, nI TH, lv, dr, fl, fe, pk, pr, pp, pc, W, U, rf, O, KP, he, sz, nx, pv, tm, tp, tf, tw) :=
  And.intro ⟨rfl, rfl, rfl, rfl, NH, hH, rfl⟩ (And.intro ⟨rfl, rfl, rfl, rfl, rfl⟩ (And.intro ⟨NF, rfl, T⟩ (And.intro c ⟨TS, t1, t8, rfl, ⟨TH, hT, rfl⟩, L⟩)))
theorem pg_RXe {u : SX} {Z : SX → Prop} (h : pg_RX FR SL D lv K R C P Q W U O KP NC u) (k : ∀ (f1 f2 : Int32) (NF NH TS TH : Nat) (dr fl fe pk pr pp pc rf he sz nx pv tm tp tf tw : Nat → Int32), NH < FR → pg_TB NF dr fl fe pk pr pp pc D K R C P → pg_CH he sz nx pv Q → 1 ≤ TS → TS ≤ 8 → TH < TS → pg_TL (fun _ => False) FR TS D K R P Q tm tp tf tw → Z (f1, f2, nI FR, nI SL, nI (FR + SL - 1), nI NF, nI NC, nI NH, nI TS, nI TH, lv, dr, fl, fe, pk, pr, pp, pc, W, U, rf, O, KP, he, sz, nx, pv, tm, tp, tf, tw)) : Z u := by
  revert h
  obtain ⟨f1, f2, fr, sl, lm, fc, cc, hd, ts, th, lv', dr, fl, fe, pk, pr, pp, pc, W', U', rf, O', KP', he, sz, nx, pv, tm, tp, tf, tw⟩ := u
  intro h
  obtain ⟨⟨rfl, rfl, rfl, rfl, NH, hH, rfl⟩, ⟨rfl, rfl, rfl, rfl, rfl⟩, ⟨NF, rfl, T⟩, c, TS, t1, t8, rfl, ⟨TH, hT, rfl⟩, L⟩ := h
  exact k f1 f2 NF NH TS TH dr fl fe pk pr pp pc rf he sz nx pv tm tp tf tw hH T c t1 t8 hT L
theorem pg_RXa {Z : SX → Prop} (k : ∀ (f1 f2 : Int32) (NF NH TS TH : Nat) (dr fl fe pk pr pp pc rf he sz nx pv tm tp tf tw : Nat → Int32), NH < FR → pg_TB NF dr fl fe pk pr pp pc D K R C P → pg_CH he sz nx pv Q → 1 ≤ TS → TS ≤ 8 → TH < TS → pg_TL (fun _ => False) FR TS D K R P Q tm tp tf tw → Z (f1, f2, nI FR, nI SL, nI (FR + SL - 1), nI NF, nI NC, nI NH, nI TS, nI TH, lv, dr, fl, fe, pk, pr, pp, pc, W, U, rf, O, KP, he, sz, nx, pv, tm, tp, tf, tw)) : ∀ u, pg_RX FR SL D lv K R C P Q W U O KP NC u → Z u := fun _ h => pg_RXe h k
/-- any state is a tuple -/
theorem pg_sx {Z : SX → Prop} (h : ∀ f1 f2 fr sl lm fc cc hd ts th lv dr fl fe pk pr pp pc W U rf O KP he sz nx pv tm tp tf tw, Z (f1, f2, fr, sl, lm, fc, cc, hd, ts, th, lv, dr, fl, fe, pk, pr, pp, pc, W, U, rf, O, KP, he, sz, nx, pv, tm, tp, tf, tw)) (u : SX) : Z u := by
  obtain ⟨f1, f2, fr, sl, lm, fc, cc, hd, ts, th, lv', dr, fl, fe, pk, pr, pp, pc, W', U', rf, O', KP', he, sz, nx, pv, tm, tp, tf, tw⟩ := u
  exact h _ _ _ _ _ _ _ _ _ _ _ _ _ _ _ _ _ _ _ _ _ _ _ _ _ _ _ _ _ _ _
end
section
variable {NF : Nat} {dr fl fe pk pr pp pc : Nat → Int32} {D : Nat → Nat} {K R C P : Nat → Int32}
theorem pg_TBm (T : pg_TB NF dr fl fe pk pr pp pc D K R C P) {m : Nat} (hm : m < 64) (hK : K m ≠ 0) : dr (m / 4) = nI (D (m / 4)) ∧ D (m / 4) < 16 ∧ pg_pt D m < 64 ∧ pk (pg_pt D m) = K m ∧ pr (pg_pt D m) = R m ∧ pp (pg_pt D m) = P m ∧ pc (pg_pt D m) = C m := by
  have e : 4 * (m / 4) + m % 4 = m := by omega
  have h3 := T.2.2.1 m hm hK
  rcases T.1 (m / 4) (by omega) with ⟨_, h⟩ | ⟨h1, h2, _, h4⟩
  · have := h (m % 4) (by omega)
    rw [e] at this; exact absurd this hK
  · have h5 := h4 (m % 4) (by omega)
    rw [e] at h5
    exact ⟨h1, h2, by unfold pg_pt; omega, h5, h3⟩
theorem pg_TB0 (T : pg_TB NF dr fl fe pk pr pp pc D K R C P) {m : Nat} (hm : m < 64) (hK : K m = 0) : dr (m / 4) = -1 ∨ (dr (m / 4) = nI (D (m / 4)) ∧ D (m / 4) < 16 ∧ pg_pt D m < 64 ∧ pk (pg_pt D m) = 0) := by
  have e : 4 * (m / 4) + m % 4 = m := by omega
  rcases T.1 (m / 4) (by omega) with ⟨h, _⟩ | ⟨h1, h2, _, h4⟩
  · exact Or.inl h
  · have h5 := h4 (m % 4) (by omega)
    rw [e, hK] at h5
    exact Or.inr ⟨h1, h2, by unfold pg_pt; omega, h5⟩
theorem pg_TBi (T : pg_TB NF dr fl fe pk pr pp pc D K R C P) {m m' : Nat} (hm : m < 64) (hm' : m' < 64) (hd : dr (m / 4) ≠ -1) (hd' : dr (m' / 4) ≠ -1) (e : pg_pt D m = pg_pt D m') : m = m' := by
  unfold pg_pt at e
  have h := T.2.1 (m / 4) (m' / 4) (by omega) (by omega) hd hd' (by omega)
  omega
theorem pg_TBd (T : pg_TB NF dr fl fe pk pr pp pc D K R C P) {m : Nat} (hm : m < 64) (hK : K m ≠ 0) : dr (m / 4) ≠ -1 := by
  have h := pg_TBm T hm hK
  rw [h.1]; exact pg_nm (by omega)
theorem pg_TBinj (T : pg_TB NF dr fl fe pk pr pp pc D K R C P) {m m' : Nat} (hm : m < 64) (hm' : m' < 64) (hK : K m ≠ 0) (hK' : K m' ≠ 0) (e : pg_pt D m = pg_pt D m') : m = m' :=
  pg_TBi T hm hm' (pg_TBd T hm hK) (pg_TBd T hm' hK') e
theorem pg_TBcg {R' C' P' : Nat → Int32} (T : pg_TB NF dr fl fe pk pr pp pc D K R C P) (h : ∀ m, m < 64 → K m ≠ 0 → R' m = R m ∧ C' m = C m ∧ P' m = P m) : pg_TB NF dr fl fe pk pr pp pc D K R' C' P' := by
  refine ⟨T.1, T.2.1, ?_, T.2.2.2⟩
  intro m hm hK
  have h1 := T.2.2.1 m hm hK
  have h2 := h m hm hK
  exact ⟨h1.1.trans h2.1.symm, h1.2.1.trans h2.2.2.symm, h1.2.2.trans h2.2.1.symm⟩
theorem pg_TBp (T : pg_TB NF dr fl fe pk pr pp pc D K R C P) {m : Nat} (hm : m < 64) (hK : K m ≠ 0) (x : Int32) : pg_TB NF dr fl fe pk pr (upd pp (pg_pt D m) x) pc D K R C (upd P m x) := by
  refine ⟨T.1, T.2.1, ?_, T.2.2.2⟩
  intro m' hm' hK'
  have h1 := T.2.2.1 m' hm' hK'
  refine ⟨h1.1, ?_, h1.2.2⟩
  by_cases e : m' = m
  · subst e; rw [pg_us, pg_us]
  · rw [pg_un e, pg_un (fun z => e (pg_TBinj T hm' hm hK' hK z)), h1.2.1]
theorem pg_TBr (T : pg_TB NF dr fl fe pk pr pp pc D K R C P) {m : Nat} (hm : m < 64) (hK : K m ≠ 0) (x : Int32) : pg_TB NF dr fl fe pk (upd pr (pg_pt D m) x) pp pc D K (upd R m x) C P := by
  refine ⟨T.1, T.2.1, ?_, T.2.2.2⟩
  intro m' hm' hK'
  have h1 := T.2.2.1 m' hm' hK'
  refine ⟨?_, h1.2⟩
  by_cases e : m' = m
  · subst e; rw [pg_us, pg_us]
  · rw [pg_un e, pg_un (fun z => e (pg_TBinj T hm' hm hK' hK z)), h1.1]
theorem pg_TBc (T : pg_TB NF dr fl fe pk pr pp pc D K R C P) {m : Nat} (hm : m < 64) (hK : K m ≠ 0) (x : Int32) : pg_TB NF dr fl fe pk pr pp (upd pc (pg_pt D m) x) D K R (upd C m x) P := by
  refine ⟨T.1, T.2.1, ?_, T.2.2.2⟩
  intro m' hm' hK'
  have h1 := T.2.2.1 m' hm' hK'
  refine ⟨h1.1, h1.2.1, ?_⟩
  by_cases e : m' = m
  · subst e; rw [pg_us, pg_us]
  · rw [pg_un e, pg_un (fun z => e (pg_TBinj T hm' hm hK' hK z)), h1.2.2]
end
section
variable {E E' : Nat → Prop} {FR TS : Nat} {D D' : Nat → Nat} {K R P Q K' R' P' Q' tm tp tf tw : Nat → Int32}
theorem pg_TLm (L : pg_TL E FR TS D K R P Q tm tp tf tw) (h : ∀ m, m < 64 → ¬ E' m → ¬ E m ∧ ∀ p f w, pg_TE FR D K R P Q p f w m → pg_TE FR D' K' R' P' Q' p f w m) : pg_TL E' FR TS D' K' R' P' Q' tm tp tf tw := by
  refine ⟨?_, L.2⟩
  intro t ht
  rcases L.1 t ht with e | ⟨m, hm, e, k⟩
  · exact Or.inl e
  · exact Or.inr ⟨m, hm, e, fun he => (h m hm he).2 _ _ _ (k (h m hm he).1)⟩
theorem pg_TLd {m t0 : Nat} (L : pg_TL (fun x => x = m ∨ E x) FR TS D K R P Q tm tp tf tw) (ht : t0 < TS) (hm : m < 64) (e0 : tm t0 = nI m) : pg_TL E FR TS D K R P Q (upd tm t0 (-1)) tp tf (upd tw t0 0) ∧ ∀ t, t < TS → upd tm t0 (-1) t ≠ nI m := by
  refine ⟨⟨?_, ?_⟩, ?_⟩
  · intro t ht'
    by_cases e : t = t0
    · subst e; exact Or.inl pg_us
    · rw [pg_un e, pg_un e]
      rcases L.1 t ht' with e1 | ⟨m', hm', e1, k⟩
      · exact Or.inl e1
      · refine Or.inr ⟨m', hm', e1, fun he => k ?_⟩
        rintro (z | z)
        · exact e (L.2 t t0 m ht' ht hm (z ▸ e1) e0)
        · exact he z
  · intro t t' m' h1 h2 h3 e1 e2
    have n1 : t ≠ t0 := by intro z; subst z; rw [pg_us] at e1; exact pg_mn (by omega) e1
    have n2 : t' ≠ t0 := by intro z; subst z; rw [pg_us] at e2; exact pg_mn (by omega) e2
    rw [pg_un n1] at e1; rw [pg_un n2] at e2
    exact L.2 t t' m' h1 h2 h3 e1 e2
  · intro t ht' e1
    by_cases e : t = t0
    · subst e; rw [pg_us] at e1; exact pg_mn (by omega) e1
    · rw [pg_un e] at e1
      exact e (L.2 t t0 m ht' ht hm e1 e0)
theorem pg_TLn {m : Nat} (L : pg_TL (fun x => x = m ∨ E x) FR TS D K R P Q tm tp tf tw) (hn : ∀ t, t < TS → tm t ≠ nI m) : pg_TL E FR TS D K R P Q tm tp tf tw := by
  refine ⟨?_, L.2⟩
  intro t ht
  rcases L.1 t ht with e | ⟨m', hm', e, k⟩
  · exact Or.inl e
  · refine Or.inr ⟨m', hm', e, fun he => k ?_⟩
    rintro (z | z)
    · exact hn t ht (z ▸ e)
    · exact he z
end
end
section
section
variable {NF : Nat} {dr fl fe pk pr pp pc : Nat → Int32} {D : Nat → Nat} {K R C P : Nat → Int32}
/-- an entry more in a table that is there -/
theorem pg_TBe1 (T : pg_TB NF dr fl fe pk pr pp pc D K R C P) {m : Nat} (hm : m < 64) (hK : K m = 0) (hd : dr (m / 4) ≠ -1) {kd rt : Int32} (hk : kd ≠ 0) : pg_TB NF dr (upd fl (D (m / 4)) (fl (D (m / 4)) + 1)) fe (upd pk (pg_pt D m) kd) (upd pr (pg_pt D m) rt) (upd pp (pg_pt D m) (-1)) (upd pc (pg_pt D m) 0) D (upd K m kd) (upd R m rt) (upd C m 0) (upd P m (-1)) := by
  have em : 4 * (m / 4) + m % 4 = m := by omega
  refine ⟨?_, T.2.1, ?_, ?_, T.2.2.2.2.1, T.2.2.2.2.2⟩
  · intro d hd'
    by_cases e : d = m / 4
    · rcases T.1 d hd' with ⟨h, _⟩ | ⟨h1, h2, h3, h4⟩
      · exact absurd (e ▸ h) hd
      · refine Or.inr ⟨h1, h2, ?_, ?_⟩
        · rw [← e, pg_us, h3, nI_1]
          refine congrArg nI (pg_cn_set (i := m % 4) (by omega) ?_ ?_ ?_).symm
          · rw [e, em, hK]; rfl
          · rw [e, em, pg_us]; exact decide_eq_true hk
          · intro j hj hne
            rw [pg_un (by omega)]
        · intro j hj
          by_cases ej : j = m % 4
          · have e1 : 4 * D d + j = pg_pt D m := by unfold pg_pt; rw [e, ej]
            have e2 : 4 * d + j = m := by omega
            rw [e1, e2, pg_us, pg_us]
          · rw [pg_un (by unfold pg_pt; rw [e]; omega), pg_un (by omega)]
            exact h4 j hj
    · have n : ∀ j, j < 4 → 4 * d + j ≠ m := fun j hj => by omega
      rcases T.1 d hd' with ⟨h, h0⟩ | ⟨h1, h2, h3, h4⟩
      · exact Or.inl ⟨h, fun j hj => by rw [pg_un (n j hj)]; exact h0 j hj⟩
      · have hne : D d ≠ D (m / 4) := fun z => e (T.2.1 d (m / 4) hd' (by omega) (by rw [h1]; exact pg_nm (by omega)) hd z)
        refine Or.inr ⟨h1, h2, ?_, ?_⟩
        · rw [pg_un hne, h3]
          refine congrArg nI (pg_cn_congr ?_)
          intro j hj
          rw [pg_un (n j hj)]
        · intro j hj
          rw [pg_un (by unfold pg_pt; omega), pg_un (n j hj)]
          exact h4 j hj
  · intro m' hm' hK'
    by_cases e : m' = m
    · subst e; exact ⟨by rw [pg_us, pg_us], by rw [pg_us, pg_us], by rw [pg_us, pg_us]⟩
    · rw [pg_un e] at hK'
      have hne : pg_pt D m' ≠ pg_pt D m := fun z => e (pg_TBi T hm' hm (pg_TBd T hm' hK') hd z)
      have h := T.2.2.1 m' hm' hK'
      rw [pg_un e, pg_un e, pg_un e, pg_un hne, pg_un hne, pg_un hne]
      exact h
  · intro i hi
    obtain ⟨t, h1, h2, h3, h4⟩ := T.2.2.2.1 i hi
    have hne := h4 (m / 4) (by omega) hd
    exact ⟨t, h1, h2, fun j hj => by rw [pg_un (by unfold pg_pt; omega)]; exact h3 j hj, h4⟩
/-- a table is taken for directory d0 -/
theorem pg_TBal (T : pg_TB NF dr fl fe pk pr pp pc D K R C P) {d0 : Nat} (h0 : d0 < 16) (hd : dr d0 = -1) : ∃ n t, NF = n + 1 ∧ n < 16 ∧ fe n = nI t ∧ t < 16 ∧ pg_TB n (upd dr d0 (nI t)) (upd fl t 0) fe pk pr pp pc (fun d => if d = d0 then t else D d) K R C P ∧ ∀ x, x < 64 → K x ≠ 0 → pg_pt (fun d => if d = d0 then t else D d) x = pg_pt D x := by
  have hpos : 0 < NF := by
    rw [← T.2.2.2.2.2]
    exact pg_cn_pos h0 (decide_eq_true hd)
  have hle : NF ≤ 16 := by rw [← T.2.2.2.2.2]; exact pg_cn_le _ _
  obtain ⟨n, rfl⟩ : ∃ n, NF = n + 1 := ⟨NF - 1, by omega⟩
  obtain ⟨t, h1, h2, h3, h4⟩ := T.2.2.2.1 n (by omega)
  have z0 : ∀ j, j < 4 → K (4 * d0 + j) = 0 := by
    rcases T.1 d0 h0 with ⟨_, h⟩ | ⟨h, h', _⟩
    · exact h
    · rw [hd] at h; exact absurd h (pg_mn (by omega))
  have hpt : ∀ x, x < 64 → K x ≠ 0 → pg_pt (fun d => if d = d0 then t else D d) x = pg_pt D x := by
    intro x hx hK
    unfold pg_pt
    dsimp only
    rw [if_neg]
    intro e
    have := z0 (x % 4) (by omega)
    rw [← e, show 4 * (x / 4) + x % 4 = x by omega] at this
    exact hK this
  refine ⟨n, t, rfl, by omega, h2, h1, ⟨?_, ?_, ?_, ?_, ?_, ?_⟩, hpt⟩
  · intro d hd'
    by_cases e : d = d0
    · subst e
      refine Or.inr ?_
      dsimp only
      rw [if_pos rfl, pg_us, pg_us]
      refine ⟨rfl, h1, ?_, ?_⟩
      · rw [pg_cn_zero]
        · rfl
        · intro j hj; rw [z0 j hj]; rfl
      · intro j hj; rw [h3 j hj, z0 j hj]
    · dsimp only
      rw [if_neg e, pg_un e]
      rcases T.1 d hd' with h | ⟨k1, k2, k3, k4⟩
      · exact Or.inl h
      · refine Or.inr ⟨k1, k2, ?_, k4⟩
        rw [pg_un (h4 d hd' (by rw [k1]; exact pg_nm (by omega)))]
        exact k3
  · intro d d' hd1 hd2
    dsimp only
    by_cases e : d = d0
    · by_cases e' : d' = d0
      · intro _ _ _; rw [e, e']
      · rw [if_pos e, if_neg e', pg_un e']
        intro _ k1 k2
        exact absurd k2.symm (h4 d' hd2 k1)
    · by_cases e' : d' = d0
      · rw [if_neg e, if_pos e', pg_un e]
        intro k1 _ k2
        exact absurd k2 (h4 d hd1 k1)
      · rw [if_neg e, if_neg e', pg_un e, pg_un e']
        exact T.2.1 d d' hd1 hd2
  · intro x hx hK
    rw [hpt x hx hK]
    exact T.2.2.1 x hx hK
  · intro i hi
    obtain ⟨t', k1, k2, k3, k4⟩ := T.2.2.2.1 i (by omega)
    refine ⟨t', k1, k2, k3, ?_⟩
    intro d hd'
    dsimp only
    by_cases e : d = d0
    · rw [if_pos e]
      intro _ z
      have := T.2.2.2.2.1 i n (by omega) (by omega) (by rw [k2, h2, z])
      omega
    · rw [if_neg e, pg_un e]; exact k4 d hd'
  · intro i i' hi hi'
    exact T.2.2.2.2.1 i i' (by omega) (by omega)
  · have := pg_cn_set (p := fun d => decide (upd dr d0 (nI t) d = -1)) (q := fun d => decide (dr d = -1)) (i := d0) (n := 16) h0 (by rw [pg_us]; exact decide_eq_false (pg_nm (by omega))) (decide_eq_true hd) (by intro j hj hne; rw [pg_un hne])
    rw [T.2.2.2.2.2] at this
    omega
/-- an entry is taken away -/
theorem pg_TBr1 (T : pg_TB NF dr fl fe pk pr pp pc D K R C P) {m : Nat} (hm : m < 64) (hK : K m ≠ 0) : ∃ c, fl (D (m / 4)) - 1 = nI c ∧ c < 4 ∧ (c = 0 → ∀ j, j < 4 → upd K m 0 (4 * (m / 4) + j) = 0) ∧ pg_TB NF dr (upd fl (D (m / 4)) (nI c)) fe (upd pk (pg_pt D m) 0) (upd pr (pg_pt D m) 0) pp (upd pc (pg_pt D m) 0) D (upd K m 0) (upd R m 0) (upd C m 0) P := by
  have em : 4 * (m / 4) + m % 4 = m := by omega
  have hd := pg_TBd T hm hK
  obtain ⟨d1, d2, _⟩ := pg_TBm T hm hK
  have hc := pg_cn_set (p := fun j => decide (upd K m 0 (4 * (m / 4) + j) ≠ 0)) (q := fun j => decide (K (4 * (m / 4) + j) ≠ 0)) (i := m % 4) (n := 4) (by omega) (by rw [em, pg_us]; rfl) (by rw [em]; exact decide_eq_true hK) (by intro j hj hne; rw [pg_un (by omega)])
  have hfl : fl (D (m / 4)) = nI (pg_cn (fun j => decide (K (4 * (m / 4) + j) ≠ 0)) 4) := by
    rcases T.1 (m / 4) (by omega) with ⟨h, _⟩ | ⟨_, _, h3, _⟩
    · exact absurd h hd
    · exact h3
  have h4' := pg_cn_le (fun j => decide (K (4 * (m / 4) + j) ≠ 0)) 4
  refine ⟨pg_cn (fun j => decide (upd K m 0 (4 * (m / 4) + j) ≠ 0)) 4, ?_, by omega, ?_, ⟨?_, T.2.1, ?_, ?_, T.2.2.2.2.1, T.2.2.2.2.2⟩⟩
  · rw [hfl, hc, nI_pred]
  · intro z j hj
    have := pg_cn_none z hj
    simpa using this
  · intro d hd'
    by_cases e : d = m / 4
    · rcases T.1 d hd' with ⟨h, _⟩ | ⟨h1, h2, h3, h4⟩
      · exact absurd (e ▸ h) hd
      · refine Or.inr ⟨h1, h2, ?_, ?_⟩
        · subst e; rw [pg_us]
        · intro j hj
          by_cases ej : j = m % 4
          · have e1 : 4 * D d + j = pg_pt D m := by unfold pg_pt; rw [e, ej]
            have e2 : 4 * d + j = m := by omega
            rw [e1, e2, pg_us, pg_us]
          · rw [pg_un (by unfold pg_pt; rw [e]; omega), pg_un (by omega)]
            exact h4 j hj
    · have n : ∀ j, j < 4 → 4 * d + j ≠ m := fun j hj => by omega
      rcases T.1 d hd' with ⟨h, h0⟩ | ⟨h1, h2, h3, h4⟩
      · exact Or.inl ⟨h, fun j hj => by rw [pg_un (n j hj)]; exact h0 j hj⟩
      · have hne : D d ≠ D (m / 4) := fun z => e (T.2.1 d (m / 4) hd' (by omega) (by rw [h1]; exact pg_nm (by omega)) hd z)
        refine Or.inr ⟨h1, h2, ?_, ?_⟩
        · rw [pg_un hne, h3]
          refine congrArg nI (pg_cn_congr ?_)
          intro j hj
          rw [pg_un (n j hj)]
        · intro j hj
          rw [pg_un (by unfold pg_pt; omega), pg_un (n j hj)]
          exact h4 j hj
  · intro m' hm' hK'
    have e : m' ≠ m := by intro z; subst z; rw [pg_us] at hK'; exact hK' rfl
    rw [pg_un e] at hK'
    have hne : pg_pt D m' ≠ pg_pt D m := fun z => e (pg_TBi T hm' hm (pg_TBd T hm' hK') hd z)
    have h := T.2.2.1 m' hm' hK'
    rw [pg_un e, pg_un e, pg_un hne, pg_un hne]
    exact h
  · intro i hi
    obtain ⟨t, h1, h2, h3, h4⟩ := T.2.2.2.1 i hi
    have hne := h4 (m / 4) (by omega) hd
    exact ⟨t, h1, h2, fun j hj => by rw [pg_un (by unfold pg_pt; omega)]; exact h3 j hj, h4⟩
/-- an empty table is given back -/
theorem pg_TBfr (T : pg_TB NF dr fl fe pk pr pp pc D K R C P) {d0 : Nat} (h0 : d0 < 16) (hd : dr d0 ≠ -1) (z0 : ∀ j, j < 4 → K (4 * d0 + j) = 0) : NF < 16 ∧ pg_TB (NF + 1) (upd dr d0 (-1)) fl (upd fe NF (nI (D d0))) pk pr pp pc D K R C P := by
  have hNF : NF < 16 := by
    rw [← T.2.2.2.2.2]
    exact pg_cn_lt h0 (decide_eq_false hd)
  refine ⟨hNF, ?_, ?_, T.2.2.1, ?_, ?_, ?_⟩
  · intro d hd'
    by_cases e : d = d0
    · subst e; exact Or.inl ⟨pg_us, z0⟩
    · rw [pg_un e]; exact T.1 d hd'
  · intro d d' hd1 hd2 k1 k2
    have e1 : d ≠ d0 := fun z => k1 (by rw [z, pg_us])
    have e2 : d' ≠ d0 := fun z => k2 (by rw [z, pg_us])
    rw [pg_un e1] at k1; rw [pg_un e2] at k2
    exact T.2.1 d d' hd1 hd2 k1 k2
  · intro i hi
    by_cases e : i = NF
    · subst e
      rcases T.1 d0 h0 with ⟨h, _⟩ | ⟨h1, h2, _, h4⟩
      · exact absurd h hd
      · refine ⟨D d0, h2, pg_us, fun j hj => by rw [h4 j hj, z0 j hj], ?_⟩
        intro d hd' k1 z
        have e1 : d ≠ d0 := fun z => k1 (by rw [z, pg_us])
        rw [pg_un e1] at k1
        exact e1 (T.2.1 d d0 hd' h0 k1 hd z)
    · obtain ⟨t, h1, h2, h3, h4⟩ := T.2.2.2.1 i (by omega)
      refine ⟨t, h1, by rw [pg_un e]; exact h2, h3, ?_⟩
      intro d hd' k1
      have e1 : d ≠ d0 := fun z => k1 (by rw [z, pg_us])
      rw [pg_un e1] at k1
      exact h4 d hd' k1
  · have hD : D d0 < 16 := by
      rcases T.1 d0 h0 with ⟨h, _⟩ | ⟨h1, h2, _⟩
      · exact absurd h hd
      · exact h2
    intro i i' hi hi'
    by_cases e : i = NF
    · by_cases e' : i' = NF
      · intro _; omega
      · rw [e, pg_us, pg_un e']
        intro z
        obtain ⟨t, h1, h2, h3, h4⟩ := T.2.2.2.1 i' (by omega)
        rw [h2, nI_eq (by omega) (by omega)] at z
        exact absurd z (h4 d0 h0 hd)
    · by_cases e' : i' = NF
      · rw [e', pg_us, pg_un e]
        intro z
        obtain ⟨t, h1, h2, h3, h4⟩ := T.2.2.2.1 i (by omega)
        rw [h2, nI_eq (by omega) (by omega)] at z
        exact absurd z.symm (h4 d0 h0 hd)
      · rw [pg_un e, pg_un e']
        exact T.2.2.2.2.1 i i' (by omega) (by omega)
  · have := pg_cn_set (q := fun d => decide (upd dr d0 (-1) d = -1)) (p := fun d => decide (dr d = -1)) (i := d0) (n := 16) h0 (decide_eq_false hd) (by rw [pg_us]; rfl) (by intro j hj hne; rw [pg_un hne])
    rw [T.2.2.2.2.2] at this
    exact this
end
end
section
section
variable {he sz nx pv Q : Nat → Int32}
theorem pg_CHsz (h : pg_CH he sz nx pv Q) {c : Nat} (hc : c < 26) : sz c = nI (pg_cn (fun x => decide (Q x = nI c)) 64) := by
  obtain ⟨L, hL⟩ := h
  obtain ⟨h1, h2, h3, h4, h5⟩ := hL c hc
  rw [h4]
  refine congrArg nI (pg_len h1 ?_)
  intro m
  rw [h2 m, decide_eq_true_eq]
theorem pg_CHhe (h : pg_CH he sz nx pv Q) {c : Nat} (hc : c < 26) : (he c = -1 ∧ ∀ x, x < 64 → Q x ≠ nI c) ∨ ∃ y, y < 64 ∧ he c = nI y ∧ Q y = nI c := by
  obtain ⟨L, hL⟩ := h
  obtain ⟨h1, h2, h3, h4, h5⟩ := hL c hc
  cases e : L c with
  | nil =>
    rw [e] at h2 h3
    exact Or.inl ⟨h3, fun x hx hq => by have := (h2 x).2 ⟨hx, hq⟩; simp at this⟩
  | cons y l =>
    rw [e] at h2 h3
    have := (h2 y).1 (by simp)
    exact Or.inr ⟨y, this.1, h3, this.2⟩
theorem pg_CHnb (h : pg_CH he sz nx pv Q) {c m : Nat} (hc : c < 26) (hm : m < 64) (hQ : Q m = nI c) : (pv m = -1 ∨ ∃ b, b < 64 ∧ b ≠ m ∧ pv m = nI b) ∧ (nx m = -1 ∨ ∃ b, b < 64 ∧ b ≠ m ∧ nx m = nI b) := by
  obtain ⟨L, hL⟩ := h
  obtain ⟨h1, h2, h3, h4, h5⟩ := hL c hc
  obtain ⟨l1, l2, e⟩ := List.append_of_mem ((h2 m).2 ⟨hm, hQ⟩)
  rw [e] at h1 h2 h5
  have k := pg_Lk_pv h5
  have hn := List.nodup_append.1 h1
  have hn2 := List.nodup_cons.1 hn.2.1
  constructor
  · rcases k.1 with ⟨_, k1⟩ | ⟨z, hz, k1⟩
    · exact Or.inl k1
    · refine Or.inr ⟨z, ((h2 z).1 (by simp [hz])).1, ?_, k1⟩
      exact hn.2.2 z hz m (by simp)
  · rw [k.2]
    cases l2 with
    | nil => exact Or.inl rfl
    | cons y l => exact Or.inr ⟨y, ((h2 y).1 (by simp)).1, fun z => hn2.1 (by simp [z]), rfl⟩
/-- a mapping joins chain c -/
theorem pg_CHj (h : pg_CH he sz nx pv Q) {c m : Nat} (hc : c < 26) (hm : m < 64) (hQ : ∀ c', c' < 26 → Q m ≠ nI c') {pv1 : Nat → Int32} (hp : (he c = -1 ∧ pv1 = pv) ∨ ∃ y, he c = nI y ∧ y < 64 ∧ pv1 = upd pv y (nI m)) : pg_CH (upd he c (nI m)) (upd sz c (sz c + 1)) (upd nx m (he c)) (upd pv1 m (-1)) (upd Q m (nI c)) := by
  obtain ⟨L, hL⟩ := h
  refine ⟨fun x => if x = c then m :: L c else L x, ?_⟩
  intro c' hc'
  by_cases e : c' = c
  · subst e
    dsimp only
    rw [if_pos rfl]
    obtain ⟨h1, h2, h3, h4, h5⟩ := hL c' hc'
    have hm0 : m ∉ L c' := fun z => hQ c' hc' ((h2 m).1 z).2
    refine ⟨List.nodup_cons.2 ⟨hm0, h1⟩, ?_, ?_, ?_, ?_⟩
    · intro x
      by_cases ex : x = m
      · subst ex; rw [pg_us]; simp [hm]
      · rw [pg_un ex, List.mem_cons, ← h2 x]
        constructor
        · rintro (z | z)
          · exact absurd z ex
          · exact z
        · exact Or.inr
    · rw [pg_us]; rfl
    · rw [pg_us, h4, nI_1]; rfl
    · refine ⟨by rw [pg_us], by rw [pg_us, h3], ?_⟩
      cases el : L c' with
      | nil => exact trivial
      | cons y l =>
        rw [el] at h1 h3 h5 hm0
        have hy : y ≠ m := fun z => hm0 (by simp [z])
        have hy64 : y < 64 := ((h2 y).1 (by rw [el]; simp)).1
        have hp1 : pv1 = upd pv y (nI m) := by
          rcases hp with ⟨e1, _⟩ | ⟨y', e1, hy', e2⟩
          · rw [h3] at e1; exact absurd e1 (pg_nm (by omega))
          · rw [h3] at e1
            have : y = y' := (nI_eq (by omega) (by omega)).1 e1
            rw [e2, this]
        refine ⟨by rw [pg_un hy, hp1, pg_us], by rw [pg_un hy]; exact h5.2.1, pg_Lk_congr ?_ h5.2.2⟩
        intro x hx
        have hxm : x ≠ m := fun z => hm0 (by rw [← z]; simp [hx])
        have hxy : x ≠ y := fun z => (List.nodup_cons.1 h1).1 (z ▸ hx)
        rw [pg_un hxm, pg_un hxm, hp1, pg_un hxy]
        exact ⟨rfl, rfl⟩
  · dsimp only
    rw [if_neg e]
    obtain ⟨h1, h2, h3, h4, h5⟩ := hL c' hc'
    refine ⟨h1, ?_, by rw [pg_un e]; exact h3, by rw [pg_un e]; exact h4, pg_Lk_congr ?_ h5⟩
    · intro x
      rw [h2 x]
      by_cases ex : x = m
      · subst ex
        rw [pg_us, nI_eq (by omega) (by omega)]
        constructor
        · intro z; exact absurd z.2 (hQ c' hc')
        · intro z; exact absurd z.2.symm e
      · rw [pg_un ex]
    · intro x hx
      have hx2 := (h2 x).1 hx
      have hxm : x ≠ m := fun z => hQ c' hc' (z ▸ hx2.2)
      rw [pg_un hxm, pg_un hxm]
      refine ⟨rfl, ?_⟩
      rcases hp with ⟨_, e2⟩ | ⟨y, e1, hy, e2⟩
      · rw [e2]
      · rw [e2, pg_un]
        intro z
        obtain ⟨k1, k2, k3, k4, k5⟩ := hL c hc
        have : y ∈ L c := by
          cases el : L c with
          | nil => rw [el] at k3; rw [e1] at k3; exact absurd k3 (pg_nm (by omega))
          | cons a l =>
            have ha : a < 64 := ((k2 a).1 (by rw [el]; simp)).1
            rw [el, e1] at k3
            have : y = a := (nI_eq (by omega) (by omega)).1 k3
            simp [this]
        have hq := ((k2 y).1 this).2
        rw [← z, hx2.2, nI_eq (by omega) (by omega)] at hq
        exact e hq
/-- a mapping leaves chain c -/
theorem pg_CHd (h : pg_CH he sz nx pv Q) {c m : Nat} (hc : c < 26) (hm : m < 64) (hQ : Q m = nI c) {he' nx' pv' : Nat → Int32} (hh : he' = if pv m < 0 then upd he c (nx m) else he) (hn : ∀ x, x ≠ m → x < 64 → nx' x = if nI x = pv m then nx m else nx x) (hp : ∀ x, x ≠ m → x < 64 → pv' x = if nI x = nx m then pv m else pv x) : pg_CH he' (upd sz c (sz c - 1)) nx' pv' (upd Q m (-1)) := by
  obtain ⟨L, hL⟩ := h
  obtain ⟨k1, k2, k3, k4, k5⟩ := hL c hc
  obtain ⟨l1, l2, el⟩ := List.append_of_mem ((k2 m).2 ⟨hm, hQ⟩)
  rw [el] at k1 k2 k3 k4 k5
  have k := pg_Lk_pv k5
  have nd := List.nodup_append.1 k1
  have nd2 := List.nodup_cons.1 nd.2.1
  have hm1 : m ∉ l1 := fun z => nd.2.2 m z m (by simp) rfl
  refine ⟨fun x => if x = c then l1 ++ l2 else L x, ?_⟩
  intro c' hc'
  by_cases e : c' = c
  · subst e
    dsimp only
    rw [if_pos rfl]
    have hmem : ∀ x, x ∈ l1 ++ l2 → x ≠ m ∧ x ∈ l1 ++ m :: l2 := by
      intro x hx
      refine ⟨fun z => ?_, by simp at hx ⊢; rcases hx with z | z <;> simp [z]⟩
      subst z
      rcases List.mem_append.1 hx with z | z
      · exact hm1 z
      · exact nd2.1 z
    refine ⟨?_, ?_, ?_, ?_, ?_⟩
    · refine List.nodup_append.2 ⟨nd.1, nd2.2, ?_⟩
      intro a ha b hb
      exact nd.2.2 a ha b (by simp [hb])
    · intro x
      by_cases ex : x = m
      · subst ex
        rw [pg_us]
        constructor
        · intro z; exact absurd rfl (hmem x z).1
        · intro z; exact absurd z.2 (pg_mn (by omega))
      · rw [pg_un ex, ← k2 x]
        simp [ex]
    · rw [hh]
      rcases k.1 with ⟨e1, e2⟩ | ⟨z, hz, e2⟩
      · subst e1
        rw [e2, if_pos (by decide), pg_us, k.2]; rfl
      · have hz64 : z < 64 := ((k2 z).1 (by simp [hz])).1
        rw [e2, if_neg (nI_pos (by omega)), k3]
        cases l1 with
        | nil => simp at hz
        | cons a l => rfl
    · rw [pg_us, k4]
      have : (l1 ++ m :: l2).length = (l1 ++ l2).length + 1 := by simp; omega
      rw [this, nI_pred]
    · refine pg_Lk_cut k5 k1 ?_ ?_
      · intro x hx
        have := ((k2 x).1 hx).1
        exact ⟨this, pg_nm (by omega)⟩
      · intro x hx
        have hx1 := hmem x hx
        have hx2 := ((k2 x).1 hx1.2).1
        exact ⟨hn x hx1.1 hx2, hp x hx1.1 hx2⟩
  · dsimp only
    rw [if_neg e]
    obtain ⟨h1, h2, h3, h4, h5⟩ := hL c' hc'
    refine ⟨h1, ?_, ?_, by rw [pg_un e]; exact h4, pg_Lk_congr ?_ h5⟩
    · intro x
      rw [h2 x]
      by_cases ex : x = m
      · subst ex
        rw [pg_us, hQ, nI_eq (by omega) (by omega)]
        constructor
        · intro z; exact absurd z.2.symm e
        · intro z; exact absurd z.2 (pg_mn (by omega))
      · rw [pg_un ex]
    · rw [hh]
      split
      · rw [pg_un e]; exact h3
      · exact h3
    · intro x hx
      have hx2 := (h2 x).1 hx
      have hoth : ∀ y, y ∈ l1 ++ m :: l2 → nI x ≠ nI y := by
        intro y hy z
        have hy2 := (k2 y).1 hy
        have : x = y := (nI_eq (by omega) (by omega)).1 z
        rw [← this, hx2.2, nI_eq (by omega) (by omega)] at hy2
        exact e hy2.2
      have hxm : x ≠ m := fun z => hoth m (by simp) (by rw [z])
      rw [hn x hxm hx2.1, hp x hxm hx2.1]
      constructor
      · rw [if_neg]
        rcases k.1 with ⟨e1, e2⟩ | ⟨z, hz, e2⟩
        · rw [e2]; exact pg_nm (by omega)
        · rw [e2]; exact hoth z (by simp [hz])
      · rw [if_neg]
        rw [k.2]
        cases l2 with
        | nil => exact pg_nm (by omega)
        | cons y l => exact hoth y (by simp)
/-- a whole chain goes to an empty one -/
theorem pg_CHm (h : pg_CH he sz nx pv Q) {c c2 : Nat} (hc : c < 26) (hc2 : c2 < 26) (hne : c ≠ c2) (hQ : ∀ x, x < 64 → Q x ≠ nI c2) : pg_CH (upd (upd he c2 (he c)) c (-1)) (upd (upd sz c2 (sz c)) c 0) nx pv (fun x => if Q x = nI c then nI c2 else Q x) := by
  obtain ⟨L, hL⟩ := h
  refine ⟨fun x => if x = c then [] else if x = c2 then L c else L x, ?_⟩
  intro c' hc'
  dsimp only
  by_cases e : c' = c
  · subst e
    rw [if_pos rfl]
    refine ⟨List.nodup_nil, ?_, pg_us, pg_us, trivial⟩
    intro x
    constructor
    · intro z; simp at z
    · intro z
      exfalso
      have z2 := z.2
      dsimp only at z2
      split at z2
      · rw [nI_eq (by omega) (by omega)] at z2; exact hne z2.symm
      · rename_i hh; exact hh z2
  · rw [if_neg e]
    by_cases e2 : c' = c2
    · subst e2
      rw [if_pos rfl]
      obtain ⟨h1, h2, h3, h4, h5⟩ := hL c hc
      refine ⟨h1, ?_, by rw [pg_un e, pg_us]; exact h3, by rw [pg_un e, pg_us]; exact h4, h5⟩
      intro x
      rw [h2 x]
      constructor
      · intro z; exact ⟨z.1, if_pos z.2⟩
      · intro z
        refine ⟨z.1, ?_⟩
        have z2 := z.2
        dsimp only at z2
        split at z2
        · assumption
        · exact absurd z2 (hQ x z.1)
    · rw [if_neg e2]
      obtain ⟨h1, h2, h3, h4, h5⟩ := hL c' hc'
      refine ⟨h1, ?_, by rw [pg_un e, pg_un e2]; exact h3, by rw [pg_un e, pg_un e2]; exact h4, h5⟩
      intro x
      rw [h2 x]
      constructor
      · intro z
        refine ⟨z.1, ?_⟩
        dsimp only
        rw [if_neg]
        · exact z.2
        · rw [z.2, nI_eq (by omega) (by omega)]; exact e
      · intro z
        refine ⟨z.1, ?_⟩
        have z2 := z.2
        dsimp only at z2
        split at z2
        · rw [nI_eq (by omega) (by omega)] at z2; exact absurd z2.symm e2
        · exact z2
end
end
section
section
variable {FR SL NC NF TS : Nat} {D : Nat → Nat} {K R C P Q : Nat → Int32} {E : Nat → Prop} {f1 f2 fr sl lm fc cc hd ts th : Int32} {lv dr fl fe pk pr pp pc W U rf O KP he sz nx pv tm tp tf tw : Nat → Int32}
theorem pg_walkR {post : Int32 → Prop} (T : pg_TB NF dr fl fe pk pr pp pc D K R C P) {m : Nat} (hm : m < 64) (h0 : K m = 0 → post (-1)) (h1 : K m ≠ 0 → post (nI (pg_pt D m))) : wpX_walk post (f1, f2, fr, sl, lm, fc, cc, hd, ts, th, lv, dr, fl, fe, pk, pr, pp, pc, W, U, rf, O, KP, he, sz, nx, pv, tm, tp, tf, tw) (nI m) := by
  unfold wpX_walk
  dsimp only
  rw [pg_s2 (by omega), pg_a3 (by omega)]
  refine ⟨vp_in_nI (by omega) (by omega), ?_⟩
  rw [nI_clamp (n := m / 4) (by omega)]
  by_cases hK : K m = 0
  · rcases pg_TB0 T hm hK with e | ⟨e, hD, hp, e2⟩
    · exact nm_r e (br_f (by decide) (h0 hK))
    · refine nm_r e (br_t (nI_pos' (by omega)) (nm_r (e' := nI (pg_pt D m)) (pg_t4 _ _) ⟨vp_in_nI hp (by omega), ?_⟩))
      rw [nI_clamp (n := pg_pt D m) (by omega)]
      exact br_t e2 (h0 hK)
  · obtain ⟨e, hD, hp, e2, _⟩ := pg_TBm T hm hK
    refine nm_r e (br_t (nI_pos' (by omega)) (nm_r (e' := nI (pg_pt D m)) (pg_t4 _ _) ⟨vp_in_nI hp (by omega), ?_⟩))
    rw [nI_clamp (n := pg_pt D m) (by omega)]
    exact br_f (by rw [e2]; exact hK) (h1 hK)
theorem pg_chainOfR {post : Int32 → Prop} {p : Nat} (hp : p < 64) (hk : post (pg_chn (pk p) (pp p))) : wpX_chainOf post (f1, f2, fr, sl, lm, fc, cc, hd, ts, th, lv, dr, fl, fe, pk, pr, pp, pc, W, U, rf, O, KP, he, sz, nx, pv, tm, tp, tf, tw) (nI p) := by
  unfold wpX_chainOf
  dsimp only
  have hi : vp_in (nI p) 64 := vp_in_nI hp (by omega)
  rw [nI_clamp (n := p) (by omega)]
  unfold pg_chn at hk
  refine ⟨hi, br_c (fun a => ⟨hi, br_c (fun b => ?_) (fun b => ⟨hi, ?_⟩)⟩) (fun a => ⟨hi, ?_⟩)⟩
  · rwa [if_pos a, if_pos b] at hk
  · rwa [if_pos a, if_neg b] at hk
  · rwa [if_neg a] at hk
theorem pg_tfl {post : Int32 → Prop} {x1 : Int32} (hTS : TS ≤ 8) (h1 : ∀ t, t < TS → tm t = x1 → post (nI t)) (h2 : (∀ t, t < TS → tm t ≠ x1) → post (-1)) : ∀ d i, i + d = TS → (∀ t, t < i → tm t ≠ x1) → wX_tlbFind_2 post x1 f1 f2 fr sl lm fc cc hd (nI TS) th lv dr fl fe pk pr pp pc W U rf O KP he sz nx pv tm tp tf tw (d + 1) (nI i)
  | 0, i, e, hi => br_t (nI_le (by omega) (by omega)) (h2 (fun t ht => hi t (by omega)))
  | d + 1, i, e, hi => by
    refine br_f (nI_ge (by omega) (by omega)) ⟨vp_in_nI (by omega) (by omega), ?_⟩
    rw [nI_clamp (n := i) (by omega)]
    refine br_c (fun a => h1 i (by omega) a) (fun a => nm_r (nI_1 i) ?_)
    exact pg_tfl hTS h1 h2 d (i + 1) (by omega) (fun t ht => by
      by_cases z : t = i
      · rw [z]; exact a
      · exact hi t (by omega))
theorem pg_tlbFindR {post : Int32 → Prop} {x1 : Int32} (hTS : TS ≤ 8) (h1 : ∀ t, t < TS → tm t = x1 → post (nI t)) (h2 : (∀ t, t < TS → tm t ≠ x1) → post (-1)) : wpX_tlbFind post (f1, f2, fr, sl, lm, fc, cc, hd, nI TS, th, lv, dr, fl, fe, pk, pr, pp, pc, W, U, rf, O, KP, he, sz, nx, pv, tm, tp, tf, tw) x1 :=
  ⟨TS + 1, pg_tfl hTS h1 h2 TS 0 (by omega) (fun t ht => absurd ht (by omega))⟩
theorem pg_tlbDropR {post : SX → Prop} {m : Nat} (hTS : TS ≤ 8) (hm : m < 64) (L : pg_TL (fun x => x = m ∨ E x) FR TS D K R P Q tm tp tf tw) (k : ∀ tm' tw', pg_TL E FR TS D K R P Q tm' tp tf tw' → (∀ t, t < TS → tm' t ≠ nI m) → post (f1, f2, fr, sl, lm, fc, cc, hd, nI TS, th, lv, dr, fl, fe, pk, pr, pp, pc, W, U, rf, O, KP, he, sz, nx, pv, tm', tp, tf, tw')) : wpX_tlbDrop post (f1, f2, fr, sl, lm, fc, cc, hd, nI TS, th, lv, dr, fl, fe, pk, pr, pp, pc, W, U, rf, O, KP, he, sz, nx, pv, tm, tp, tf, tw) (nI m) := by
  unfold wpX_tlbDrop
  dsimp only
  refine pg_tlbFindR hTS ?_ ?_
  · intro t ht e
    refine br_f (nI_pos (by omega)) ⟨vp_in_nI (by omega) (by omega), nm_e ⟨vp_in_nI (by omega) (by omega), nm_e ?_⟩⟩
    rw [nI_clamp (n := t) (by omega), pg_b0]
    obtain ⟨a, b⟩ := pg_TLd L ht hm e
    exact k _ _ a b
  · intro hn
    exact br_t (by decide) (k _ _ (pg_TLn L hn) hn)
theorem pg_e54 {post : Int32 → SX → Prop} {m : Nat} {kd rt : Int32} (hm : m < 64) (hD : D (m / 4) < 16) (k : post (nI (pg_pt D m)) (f1, f2, fr, sl, lm, fc, cc, hd, ts, th, lv, dr, upd fl (D (m / 4)) (fl (D (m / 4)) + 1), fe, upd pk (pg_pt D m) kd, upd pr (pg_pt D m) rt, upd pp (pg_pt D m) (-1), upd pc (pg_pt D m) 0, W, U, rf, O, KP, he, sz, nx, pv, tm, tp, tf, tw)) : wX_enter_54 post (nI m) kd rt (nI (D (m / 4))) f1 f2 fr sl lm fc cc hd ts th lv dr fl fe pk pr pp pc W U rf O KP he sz nx pv tm tp tf tw := by
  unfold wX_enter_54
  have hp : pg_pt D m < 64 := by unfold pg_pt; omega
  have hi : vp_in (nI (pg_pt D m)) 64 := vp_in_nI hp (by omega)
  have hj : vp_in (nI (D (m / 4))) 16 := vp_in_nI hD (by omega)
  rw [pg_a3 (by omega), nI_clamp (n := D (m / 4)) (by omega)]
  refine ⟨hj, hj, nm_e (nm_r (e' := nI (pg_pt D m)) (pg_t4 _ _) ⟨hi, nm_e ⟨hi, nm_e ⟨hi, nm_e ⟨hi, nm_e ?_⟩⟩⟩⟩)⟩
  rw [nI_clamp (n := pg_pt D m) (by omega), pg_b0]
  exact k
end
section
variable {FR SL NC : Nat} {D : Nat → Nat} {lv K R C P Q W U O KP : Nat → Int32} {u : SX}
theorem pg_walk {post : Int32 → Prop} (h : pg_RX FR SL D lv K R C P Q W U O KP NC u) {m : Nat} (hm : m < 64) (h0 : K m = 0 → post (-1)) (h1 : K m ≠ 0 → post (nI (pg_pt D m))) : wpX_walk post u (nI m) :=
  pg_RXe (Z := fun u => wpX_walk post u (nI m)) h (fun _ _ _ _ _ _ _ _ _ _ _ _ _ _ _ _ _ _ _ _ _ _ _ T _ _ _ _ _ => pg_walkR T hm h0 h1)
theorem pg_enter {post : Int32 → SX → Prop} (h : pg_RX FR SL D lv K R C P Q W U O KP NC u) {m : Nat} (hm : m < 64) (hK : K m = 0) {kd rt : Int32} (hk : kd ≠ 0) (k : ∀ D', (∀ x, x < 64 → K x ≠ 0 → pg_pt D' x = pg_pt D x) → ∀ u', pg_RX FR SL D' lv (upd K m kd) (upd R m rt) (upd C m 0) (upd P m (-1)) Q W U O KP NC u' → post (nI (pg_pt D' m)) u') : wpX_enter post u (nI m) kd rt := by
  refine pg_RXe (Z := fun u => wpX_enter post u (nI m) kd rt) h ?_
  intro f1 f2 NF NH TS TH dr fl fe pk pr pp pc rf he sz nx pv tm tp tf tw hH T c t1 t8 hT L
  unfold wpX_enter
  dsimp only
  rw [pg_s2 (by omega)]
  have hv : vp_in (nI (m / 4)) 16 := vp_in_nI (by omega) (by omega)
  refine ⟨hv, ?_⟩
  rw [nI_clamp (n := m / 4) (by omega)]
  have LL : ∀ D', (∀ x, x < 64 → K x ≠ 0 → pg_pt D' x = pg_pt D x) → pg_TL (fun _ => False) FR TS D' (upd K m kd) (upd R m rt) (upd P m (-1)) Q tm tp tf tw := by
    intro D' hD'
    refine pg_TLm L ?_
    intro x hx _
    refine ⟨id, ?_⟩
    intro p f w z
    have hxm : x ≠ m := fun e => z.1 (e ▸ hK)
    unfold pg_TE
    rw [pg_un hxm, pg_un hxm, pg_un hxm, hD' x hx z.1]
    exact z
  rcases pg_TB0 T hm hK with e | ⟨e, hD, hp, e2⟩
  · obtain ⟨n, t, rfl, hn, e3, ht, T2, hpt⟩ := pg_TBal T (d0 := m / 4) (by omega) e
    refine nm_r e (br_f (by decide) (nm_r (nI_pred n) ⟨vp_in_nI hn (by omega), ?_⟩))
    rw [nI_clamp (n := n) (by omega)]
    refine nm_r e3 ⟨hv, nm_e ⟨vp_in_nI ht (by omega), nm_e ?_⟩⟩
    rw [nI_clamp (n := t) (by omega)]
    generalize hD' : (fun d => if d = m / 4 then t else D d) = D' at T2 hpt
    have eD : t = D' (m / 4) := by rw [← hD']; exact (if_pos rfl).symm
    clear hD'
    subst eD
    exact pg_e54 hm ht (k _ hpt _ (pg_RXi hH (pg_TBe1 T2 hm hK (by rw [pg_us]; exact pg_nm (by omega)) hk) c t1 t8 hT (LL _ hpt)))
  · refine nm_r e (br_t (nI_pos' (by omega)) ?_)
    exact pg_e54 hm hD (k _ (fun _ _ _ => rfl) _ (pg_RXi hH (pg_TBe1 T hm hK (by rw [e]; exact pg_nm (by omega)) hk) c t1 t8 hT (LL _ (fun _ _ _ => rfl))))
end
end
section
/-! the state at rest -/
def pg_GM (K R C P Q U O KP : Nat → Int32) (m : Nat) : Prop :=
  (∃ k, k < 10 ∧ K m = nI k) ∧ (C m = 0 ∨ C m = 1) ∧ (K m = 0 → R m = 0 ∧ C m = 0 ∧ P m = -1) ∧ Q m = pg_chn (K m) (P m) ∧
  (P m = -1 ∨ ∃ q, q < 18 ∧ P m = nI q ∧ U q ≠ 0 ∧ (K m = 1 → O q = -1)) ∧ (∀ k, k < 8 → K m = nI (k + 2) → P m = KP k)
def pg_GP (FR SL : Nat) (P O KP : Nat → Int32) (q : Nat) : Prop := (q < FR ∨ (6 ≤ q ∧ q < 6 + SL)) ∧ (∃ m, m < 64 ∧ P m = nI q) ∧ (O q = -1 ∨ ∃ k, k < 8 ∧ O q = nI k ∧ KP k = nI q)
def pg_GD (FR SL : Nat) (lv K R C P Q W U O KP : Nat → Int32) (NC : Nat) : Prop :=
  (∀ m, m < 64 → pg_GM K R C P Q U O KP m) ∧
  (∀ q, q < 18 → U q ≠ 0 → pg_GP FR SL P O KP q) ∧
  (∀ k, k < 8 → KP k = -1 ∨ ∃ q, q < 18 ∧ KP k = nI q ∧ U q ≠ 0 ∧ O q = nI k) ∧
  (∀ i, i < 72 → ∃ w, w < 65536 ∧ W i = nI w) ∧
  (NC = pg_cn (fun q => decide (U q ≠ 0)) 18 ∧ NC ≤ FR + SL - 1) ∧
  (∀ p, p < 4 → lv p = 0 → ∀ j, j < 16 → K (16 * p + j) = 0) ∧ (2 ≤ FR ∧ FR ≤ 6 ∧ 1 ≤ SL ∧ SL ≤ 12)
def pg_WD (wd P W : Nat → Int32) : Prop := ∀ m, m < 64 → (P m = -1 → ∀ w, w < 4 → wd (4 * m + w) = 0) ∧ (∀ q, q < 18 → P m = nI q → ∀ w, w < 4 → wd (4 * m + w) = W (4 * q + w))
def pg_LB (lb P : Nat → Int32) : Prop := (∀ m, m < 64 → (lb m = 0 ↔ P m = -1)) ∧ (∀ m m', m < 64 → m' < 64 → (lb m = lb m' ↔ P m = P m'))
def pg_YL (lb wd P W : Nat → Int32) : Prop := pg_LB lb P ∧ pg_WD wd P W
def pg_w4 (W : Nat → Int32) (b : Nat) (g : Nat → Int32) : Nat → Int32 := fun i => if i / 4 = b then g (i % 4) else W i
theorem pg_w4s {W g : Nat → Int32} {b j : Nat} (hj : j < 4) : pg_w4 W b g (4 * b + j) = g j := by
  unfold pg_w4
  rw [if_pos (by omega)]
  exact congrArg g (by omega)
theorem pg_w4n {W g : Nat → Int32} {b q j : Nat} (hj : j < 4) (hq : q ≠ b) : pg_w4 W b g (4 * q + j) = W (4 * q + j) := if_neg (by omega)
theorem pg_w4u {W g : Nat → Int32} {b : Nat} {x0 x1 x2 x3 : Int32} (e0 : x0 = g 0) (e1 : x1 = g 1) (e2 : x2 = g 2) (e3 : x3 = g 3) : upd (upd (upd (upd W (4 * b + 0) x0) (4 * b + 1) x1) (4 * b + 2) x2) (4 * b + 3) x3 = pg_w4 W b g := by
  funext i
  subst e0 e1 e2 e3
  unfold pg_w4
  by_cases h : i / 4 = b
  · rw [if_pos h]
    have : i % 4 = 0 ∨ i % 4 = 1 ∨ i % 4 = 2 ∨ i % 4 = 3 := by omega
    rcases this with z | z | z | z
    · rw [pg_un (by omega), pg_un (by omega), pg_un (by omega), z, show i = 4 * b + 0 by omega, pg_us]
    · rw [pg_un (by omega), pg_un (by omega), z, show i = 4 * b + 1 by omega, pg_us]
    · rw [pg_un (by omega), z, show i = 4 * b + 2 by omega, pg_us]
    · rw [z, show i = 4 * b + 3 by omega, pg_us]
  · rw [if_neg h, pg_un (by omega), pg_un (by omega), pg_un (by omega), pg_un (by omega)]
def pg_rel (KP : Nat → Int32) (o x : Int32) : Nat → Int32 := if o < 0 then KP else upd KP o.toNatClampNeg x
theorem pg_rel_m {KP : Nat → Int32} {x : Int32} : pg_rel KP (-1) x = KP := if_pos (by decide)
theorem pg_rel_n {KP : Nat → Int32} {k : Nat} {x : Int32} (h : k < 2 ^ 31) : pg_rel KP (nI k) x = upd KP k x := by
  unfold pg_rel
  rw [if_neg (nI_pos h), nI_clamp h]
section
variable {FR SL NC : Nat} {lv K R C P Q W U O KP : Nat → Int32}
theorem pg_GDq (G : pg_GD FR SL lv K R C P Q W U O KP NC) {x q : Nat} (hx : x < 64) (hq : q < 18) : Q x = nI q ↔ P x = nI q := by
  obtain ⟨⟨k, hk, ek⟩, _, _, eQ, hP, _⟩ := G.1 x hx
  rw [eQ]
  rcases hP with e | ⟨q', hq', e, _⟩
  · rw [e, ek]
    have hn : ¬ (-1 : Int32) = nI q := pg_mn (by omega)
    constructor
    · intro z
      exfalso
      by_cases h2 : k < 2
      · have : pg_chn (nI k) (-1) = -1 := by
          have : k = 0 ∨ k = 1 := by omega
          rcases this with rfl | rfl <;> decide
        rw [this] at z; exact hn z
      · obtain ⟨j, rfl⟩ : ∃ j, k = j + 2 := ⟨k - 2, by omega⟩
        rw [pg_chn_s j (by omega), nI_eq (by omega) (by omega)] at z
        omega
    · intro z; exact absurd z hn
  · rw [e, pg_chn_p _ (by omega)]
theorem pg_GDq2 (G : pg_GD FR SL lv K R C P Q W U O KP NC) {x k : Nat} (hx : x < 64) (hk : k < 8) (h0 : KP k = -1) : Q x = nI (18 + k) ↔ K x = nI (k + 2) := by
  obtain ⟨⟨k', hk', ek⟩, _, _, eQ, hP, hS⟩ := G.1 x hx
  rw [eQ]
  rcases hP with e | ⟨q', hq', e, _⟩
  · rw [e, ek]
    by_cases h2 : k' < 2
    · have : pg_chn (nI k') (-1) = -1 := by
        have : k' = 0 ∨ k' = 1 := by omega
        rcases this with rfl | rfl <;> decide
      rw [this]
      constructor
      · intro z; exact absurd z (pg_mn (by omega))
      · intro z; rw [nI_eq (by omega) (by omega)] at z; omega
    · obtain ⟨j, rfl⟩ : ∃ j, k' = j + 2 := ⟨k' - 2, by omega⟩
      rw [pg_chn_s j (by omega), nI_eq (by omega) (by omega), nI_eq (by omega) (by omega)]
      omega
  · rw [e, pg_chn_p _ (by omega), nI_eq (by omega) (by omega)]
    constructor
    · intro z; omega
    · intro z
      have := hS k hk z
      rw [e, h0] at this
      exact absurd this (pg_nm (by omega))
theorem pg_GDu (G : pg_GD FR SL lv K R C P Q W U O KP NC) {x q : Nat} (hx : x < 64) (hq : q < 18) (e : P x = nI q) : U q ≠ 0 := by
  obtain ⟨_, _, _, _, hP, _⟩ := G.1 x hx
  rcases hP with z | ⟨q', hq', e', h, _⟩
  · rw [e] at z; exact absurd z (pg_nm (by omega))
  · rw [e, nI_eq (by omega) (by omega)] at e'
    rw [e']; exact h
theorem pg_GDo (G : pg_GD FR SL lv K R C P Q W U O KP NC) {x q : Nat} (hx : x < 64) (hq : q < 18) (e : P x = nI q) (hK : K x = 1) : O q = -1 := by
  obtain ⟨_, _, _, _, hP, _⟩ := G.1 x hx
  rcases hP with z | ⟨q', hq', e', _, h⟩
  · rw [e] at z; exact absurd z (pg_nm (by omega))
  · rw [e, nI_eq (by omega) (by omega)] at e'
    rw [e']; exact h hK
theorem pg_GDs (G : pg_GD FR SL lv K R C P Q W U O KP NC) {x : Nat} (hx : x < 64) (h0 : K x ≠ 0) (h1 : K x ≠ 1) : ∃ k, k < 8 ∧ K x = nI (k + 2) ∧ P x = KP k := by
  obtain ⟨⟨k, hk, ek⟩, _, _, _, _, hS⟩ := G.1 x hx
  have a0 : k ≠ 0 := fun z => h0 (by rw [ek, z]; rfl)
  have a1 : k ≠ 1 := fun z => h1 (by rw [ek, z]; rfl)
  obtain ⟨j, rfl⟩ : ∃ j, k = j + 2 := ⟨k - 2, by omega⟩
  exact ⟨j, by omega, ek, hS j (by omega) ek⟩
theorem pg_GDl (G : pg_GD FR SL lv K R C P Q W U O KP NC) {m : Nat} (hm : m < 64) (h0 : K m ≠ 0) : lv (m / 16) ≠ 0 := by
  intro z
  have := G.2.2.2.2.2.1 (m / 16) (by omega) z (m % 16) (by omega)
  rw [show 16 * (m / 16) + m % 16 = m by omega] at this
  exact h0 this
theorem pg_GDok (G : pg_GD FR SL lv K R C P Q W U O KP NC) {q : Nat} (hq : q < 18) (hU : U q ≠ 0) : O q = -1 ∨ ∃ k, k < 8 ∧ O q = nI k ∧ KP k = nI q := (G.2.1 q hq hU).2.2
theorem pg_GDkq (G : pg_GD FR SL lv K R C P Q W U O KP NC) {k q : Nat} (hk : k < 8) (hq : q < 18) (e : KP k = nI q) : U q ≠ 0 ∧ O q = nI k := by
  rcases G.2.2.1 k hk with z | ⟨q', hq', e', h⟩
  · rw [e] at z; exact absurd z (pg_nm (by omega))
  · rw [e, nI_eq (by omega) (by omega)] at e'
    rw [e']; exact h
/-- KP after the owner of place a is told b: pointwise -/
theorem pg_GDrel (G : pg_GD FR SL lv K R C P Q W U O KP NC) {a : Nat} (ha : a < 18) (hU : U a ≠ 0) {b : Int32} {k : Nat} (hk : k < 8) : (KP k = nI a → pg_rel KP (O a) b k = b) ∧ (KP k ≠ nI a → pg_rel KP (O a) b k = KP k) := by
  rcases pg_GDok G ha hU with e | ⟨k', hk', e, e2⟩
  · rw [e, pg_rel_m]
    constructor
    · intro z
      have := (pg_GDkq G hk ha z).2
      rw [e] at this; exact absurd this (pg_mn (by omega))
    · intro _; rfl
  · rw [e, pg_rel_n (by omega)]
    constructor
    · intro z
      have := (pg_GDkq G hk ha z).2
      rw [e, nI_eq (by omega) (by omega)] at this
      rw [this, pg_us]
    · intro z
      rw [pg_un]
      intro h; rw [h] at z; exact z e2
/-- a copy is moved from place a to place b -/
theorem pg_GDmv (G : pg_GD FR SL lv K R C P Q W U O KP NC) {a b : Nat} (ha : a < 18) (hb : b < 18) (hUa : U a ≠ 0) (hUb : U b = 0) (hv : b < FR ∨ (6 ≤ b ∧ b < 6 + SL)) :
    pg_GD FR SL lv K R C (fun x => if Q x = nI a then nI b else P x) (fun x => if Q x = nI a then nI b else Q x) (pg_w4 W b (fun j => W (4 * a + j))) (upd (upd U b 1) a 0) (upd (upd O b (O a)) a (-1)) (pg_rel KP (O a) (nI b)) NC := by
  have hab : a ≠ b := fun z => hUa (z ▸ hUb)
  have hba : b ≠ a := fun z => hab z.symm
  have nb : ∀ x, x < 64 → P x ≠ nI b := fun x hx e => pg_GDu G hx hb e hUb
  have rl := fun k (hk : k < 8) => pg_GDrel G ha hUa (b := nI b) hk
  refine ⟨?_, ?_, ?_, ?_, ⟨?_, G.2.2.2.2.1.2⟩, G.2.2.2.2.2⟩
  · intro x hx
    have gm := G.1 x hx
    have qp := pg_GDq G hx ha
    unfold pg_GM
    dsimp only
    by_cases e : P x = nI a
    · rw [if_pos (qp.2 e), if_pos (qp.2 e)]
      refine ⟨gm.1, gm.2.1, ?_, (pg_chn_p _ (by omega)).symm, Or.inr ⟨b, hb, rfl, ?_, ?_⟩, ?_⟩
      · intro z
        have := (gm.2.2.1 z).2.2
        rw [e] at this; exact absurd this (pg_nm (by omega))
      · rw [pg_un hba, pg_us]; decide
      · intro z
        rw [pg_un hba, pg_us]; exact pg_GDo G hx ha e z
      · intro k hk z
        have := gm.2.2.2.2.2 k hk z
        exact ((rl k hk).1 (by rw [← this, e])).symm
    · have e' : ¬ Q x = nI a := fun z => e (qp.1 z)
      rw [if_neg e', if_neg e']
      refine ⟨gm.1, gm.2.1, gm.2.2.1, gm.2.2.2.1, ?_, ?_⟩
      · rcases gm.2.2.2.2.1 with z | ⟨q, hq, z, h1, h2⟩
        · exact Or.inl z
        · have n1 : q ≠ a := fun w => e (by rw [z, w])
          have n2 : q ≠ b := fun w => h1 (by rw [w]; exact hUb)
          exact Or.inr ⟨q, hq, z, by rw [pg_un n1, pg_un n2]; exact h1, by rw [pg_un n1, pg_un n2]; exact h2⟩
      · intro k hk z
        have := gm.2.2.2.2.2 k hk z
        rw [(rl k hk).2 (by rw [← this]; exact e)]
        exact this
  · intro q hq hU
    by_cases e : q = a
    · rw [e, pg_us] at hU; exact absurd rfl hU
    · rw [pg_un e] at hU
      by_cases e2 : q = b
      · subst e2
        refine ⟨hv, ?_, ?_⟩
        · obtain ⟨m, hm, z⟩ := (G.2.1 a ha hUa).2.1
          exact ⟨m, hm, if_pos ((pg_GDq G hm ha).2 z)⟩
        · rw [pg_un e, pg_us]
          rcases pg_GDok G ha hUa with z | ⟨k, hk, z, z2⟩
          · exact Or.inl z
          · exact Or.inr ⟨k, hk, z, (rl k hk).1 z2⟩
      · rw [pg_un e2] at hU
        have gp := G.2.1 q hq hU
        refine ⟨gp.1, ?_, ?_⟩
        · obtain ⟨m, hm, z⟩ := gp.2.1
          refine ⟨m, hm, ?_⟩
          dsimp only
          rw [if_neg]
          · exact z
          · intro w
            rw [pg_GDq G hm ha, z, nI_eq (by omega) (by omega)] at w
            exact e w
        · rw [pg_un e, pg_un e2]
          rcases gp.2.2 with z | ⟨k, hk, z, z2⟩
          · exact Or.inl z
          · refine Or.inr ⟨k, hk, z, ?_⟩
            rw [(rl k hk).2]
            · exact z2
            · rw [z2, Ne, nI_eq (by omega) (by omega)]; exact e
  · intro k hk
    by_cases e : KP k = nI a
    · rw [(rl k hk).1 e]
      exact Or.inr ⟨b, hb, rfl, by rw [pg_un hba, pg_us]; decide, by rw [pg_un hba, pg_us]; exact (pg_GDkq G hk ha e).2⟩
    · rw [(rl k hk).2 e]
      rcases G.2.2.1 k hk with z | ⟨q, hq, z, h1, h2⟩
      · exact Or.inl z
      · have n1 : q ≠ a := fun w => e (by rw [z, w])
        have n2 : q ≠ b := fun w => h1 (by rw [w]; exact hUb)
        exact Or.inr ⟨q, hq, z, by rw [pg_un n1, pg_un n2]; exact h1, by rw [pg_un n1, pg_un n2]; exact h2⟩
  · intro i hi
    unfold pg_w4
    split
    · exact G.2.2.2.1 _ (by omega)
    · exact G.2.2.2.1 i hi
  · have c1 := pg_cn_set (p := fun q => decide (U q ≠ 0)) (q := fun q => decide (upd U b 1 q ≠ 0)) (i := b) (n := 18) hb (by rw [hUb]; rfl) (by rw [pg_us]; decide) (by intro j hj hne; rw [pg_un hne])
    have c2 := pg_cn_set (p := fun q => decide (upd (upd U b 1) a 0 q ≠ 0)) (q := fun q => decide (upd U b 1 q ≠ 0)) (i := a) (n := 18) ha (by rw [pg_us]; rfl) (by rw [pg_un hab]; exact decide_eq_true hUa) (by intro j hj hne; rw [pg_un hne])
    have := G.2.2.2.2.1.1
    omega
theorem pg_YLmv {lb wd : Nat → Int32} (G : pg_GD FR SL lv K R C P Q W U O KP NC) (Y : pg_YL lb wd P W) {a b : Nat} (ha : a < 18) (hb : b < 18) (hUb : U b = 0) : pg_YL lb wd (fun x => if Q x = nI a then nI b else P x) (pg_w4 W b (fun j => W (4 * a + j))) := by
  have nb : ∀ x, x < 64 → P x ≠ nI b := fun x hx e => pg_GDu G hx hb e hUb
  have pw : ∀ x, x < 64 → (P x = nI a ∧ (if Q x = nI a then nI b else P x) = nI b) ∨ (P x ≠ nI a ∧ (if Q x = nI a then nI b else P x) = P x) := by
    intro x hx
    have qp := pg_GDq G hx ha
    by_cases e : P x = nI a
    · exact Or.inl ⟨e, if_pos (qp.2 e)⟩
    · exact Or.inr ⟨e, if_neg (fun z => e (qp.1 z))⟩
  have nab : nI b ≠ -1 := pg_nm (by omega)
  have naa : nI a ≠ -1 := pg_nm (by omega)
  refine ⟨⟨?_, ?_⟩, ?_⟩
  · intro m hm
    dsimp only
    rw [Y.1.1 m hm]
    rcases pw m hm with ⟨e1, e2⟩ | ⟨e1, e2⟩
    · rw [e2, e1]; exact ⟨fun z => absurd z naa, fun z => absurd z nab⟩
    · rw [e2]
  · intro m m' hm hm'
    dsimp only
    rw [Y.1.2 m m' hm hm']
    have n1 := nb m hm
    have n2 := nb m' hm'
    rcases pw m hm with ⟨e1, e2⟩ | ⟨e1, e2⟩ <;> rcases pw m' hm' with ⟨e3, e4⟩ | ⟨e3, e4⟩
    · rw [e2, e4, e1, e3]; exact ⟨fun _ => rfl, fun _ => rfl⟩
    · rw [e2, e4, e1]; exact ⟨fun z => absurd z.symm e3, fun z => absurd z.symm n2⟩
    · rw [e2, e4, e3]; exact ⟨fun z => absurd z e1, fun z => absurd z n1⟩
    · rw [e2, e4]
  · intro m hm
    have y := Y.2 m hm
    dsimp only
    rcases pw m hm with ⟨e1, e2⟩ | ⟨e1, e2⟩
    · rw [e2]
      refine ⟨fun z => absurd z nab, ?_⟩
      intro q hq z w hw
      rw [nI_eq (by omega) (by omega)] at z
      rw [← z, pg_w4s hw]
      exact y.2 a ha e1 w hw
    · rw [e2]
      refine ⟨y.1, ?_⟩
      intro q hq z w hw
      rw [pg_w4n hw]
      · exact y.2 q hq z w hw
      · intro w'; exact nb m hm (by rw [z, w'])
end
end
section
section
variable {FR SL NC : Nat} {lv K R C P Q W U O KP : Nat → Int32}
/-- the kind, the rights and the mark that a mapping has when it is out of its chain -/
def pg_out (K C : Nat → Int32) (m : Nat) (k0 r0 c0 : Int32) : Prop := (k0 = 0 ∧ r0 = 0 ∧ c0 = 0) ∨ (k0 = 1 ∧ K m = 1 ∧ c0 = C m)
theorem pg_GMout {U' O' KP' : Nat → Int32} (G : pg_GD FR SL lv K R C P Q W U O KP NC) {m : Nat} {k0 r0 c0 : Int32} (hm : m < 64) (ho : pg_out K C m k0 r0 c0) : pg_GM (upd K m k0) (upd R m r0) (upd C m c0) (upd P m (-1)) (upd Q m (-1)) U' O' KP' m := by
  unfold pg_GM
  rw [pg_us, pg_us, pg_us, pg_us, pg_us]
  rcases ho with ⟨rfl, rfl, rfl⟩ | ⟨rfl, e, rfl⟩
  · exact ⟨⟨0, by omega, rfl⟩, Or.inl rfl, fun _ => ⟨rfl, rfl, rfl⟩, pg_chn_0.symm, Or.inl rfl, fun k hk z => absurd (show nI 0 = nI (k + 2) from z) (by rw [nI_eq (by omega) (by omega)]; omega)⟩
  · exact ⟨⟨1, by omega, rfl⟩, (G.1 m hm).2.1, fun z => absurd z (by decide), pg_chn_1.symm, Or.inl rfl, fun k hk z => absurd (show nI 1 = nI (k + 2) from z) (by rw [nI_eq (by omega) (by omega)]; omega)⟩
theorem pg_outd (G : pg_GD FR SL lv K R C P Q W U O KP NC) {m : Nat} {k0 r0 c0 : Int32} (hm : m < 64) (ho : pg_out K C m k0 r0 c0) : ∀ p, p < 4 → lv p = 0 → ∀ j, j < 16 → upd K m k0 (16 * p + j) = 0 := by
  intro p hp z j hj
  have h := G.2.2.2.2.2.1 p hp z j hj
  by_cases e : 16 * p + j = m
  · rw [e, pg_us]
    rcases ho with ⟨e1, _⟩ | ⟨_, e1, _⟩
    · exact e1
    · rw [e, e1] at h; exact absurd h (by decide)
  · rw [pg_un e]; exact h
/-- a mapping leaves its group; others stay in it -/
theorem pg_GDoutA (G : pg_GD FR SL lv K R C P Q W U O KP NC) {m : Nat} {k0 r0 c0 : Int32} (hm : m < 64) (ho : pg_out K C m k0 r0 c0) (hs : ∀ q, q < 18 → P m = nI q → ∃ x, x < 64 ∧ x ≠ m ∧ P x = nI q) :
    pg_GD FR SL lv (upd K m k0) (upd R m r0) (upd C m c0) (upd P m (-1)) (upd Q m (-1)) W U O KP NC := by
  refine ⟨?_, ?_, G.2.2.1, G.2.2.2.1, G.2.2.2.2.1, pg_outd G hm ho, G.2.2.2.2.2.2⟩
  · intro x hx
    by_cases e : x = m
    · subst e; exact pg_GMout G hm ho
    · have := G.1 x hx
      unfold pg_GM at this ⊢
      simp only [pg_un e]
      exact this
  · intro q hq hU
    have gp := G.2.1 q hq hU
    refine ⟨gp.1, ?_, gp.2.2⟩
    obtain ⟨x, hx, z⟩ := gp.2.1
    by_cases e : x = m
    · rw [e] at z
      obtain ⟨y, hy, hne, z2⟩ := hs q hq z
      exact ⟨y, hy, by rw [pg_un hne]; exact z2⟩
    · exact ⟨x, hx, by rw [pg_un e]; exact z⟩
/-- the last mapping leaves the group of place a -/
theorem pg_GDoutB (G : pg_GD FR SL lv K R C P Q W U O KP NC) {m a : Nat} {k0 r0 c0 : Int32} (hm : m < 64) (ha : a < 18) (hP : P m = nI a) (ho : pg_out K C m k0 r0 c0) (hs : ∀ x, x < 64 → x ≠ m → P x ≠ nI a) :
    pg_GD FR SL lv (upd K m k0) (upd R m r0) (upd C m c0) (upd P m (-1)) (upd Q m (-1)) W (upd U a 0) (upd O a (-1)) (pg_rel KP (O a) (-1)) (NC - 1) := by
  have hUa := pg_GDu G hm ha hP
  have rl := fun k (hk : k < 8) => pg_GDrel G ha hUa (b := -1) hk
  refine ⟨?_, ?_, ?_, G.2.2.2.1, ⟨?_, ?_⟩, pg_outd G hm ho, G.2.2.2.2.2.2⟩
  · intro x hx
    by_cases e : x = m
    · subst e; exact pg_GMout G hm ho
    · have gm := G.1 x hx
      have hne := hs x hx e
      unfold pg_GM
      simp only [pg_un e]
      refine ⟨gm.1, gm.2.1, gm.2.2.1, gm.2.2.2.1, ?_, ?_⟩
      · rcases gm.2.2.2.2.1 with z | ⟨q, hq, z, h1, h2⟩
        · exact Or.inl z
        · have n1 : q ≠ a := fun w => hne (by rw [z, w])
          exact Or.inr ⟨q, hq, z, by rw [pg_un n1]; exact h1, by rw [pg_un n1]; exact h2⟩
      · intro k hk z
        have := gm.2.2.2.2.2 k hk z
        rw [(rl k hk).2 (by rw [← this]; exact hne)]
        exact this
  · intro q hq hU
    have n1 : q ≠ a := fun w => hU (by rw [w, pg_us])
    rw [pg_un n1] at hU
    have gp := G.2.1 q hq hU
    refine ⟨gp.1, ?_, ?_⟩
    · obtain ⟨x, hx, z⟩ := gp.2.1
      have e : x ≠ m := by
        intro w; rw [w, hP, nI_eq (by omega) (by omega)] at z; exact n1 z.symm
      exact ⟨x, hx, by rw [pg_un e]; exact z⟩
    · rw [pg_un n1]
      rcases gp.2.2 with z | ⟨k, hk, z, z2⟩
      · exact Or.inl z
      · refine Or.inr ⟨k, hk, z, ?_⟩
        rw [(rl k hk).2]
        · exact z2
        · rw [z2, Ne, nI_eq (by omega) (by omega)]; exact n1
  · intro k hk
    by_cases e : KP k = nI a
    · exact Or.inl ((rl k hk).1 e)
    · rw [(rl k hk).2 e]
      rcases G.2.2.1 k hk with z | ⟨q, hq, z, h1, h2⟩
      · exact Or.inl z
      · have n1 : q ≠ a := fun w => e (by rw [z, w])
        exact Or.inr ⟨q, hq, z, by rw [pg_un n1]; exact h1, by rw [pg_un n1]; exact h2⟩
  · have c2 := pg_cn_set (p := fun q => decide (upd U a 0 q ≠ 0)) (q := fun q => decide (U q ≠ 0)) (i := a) (n := 18) ha (by rw [pg_us]; rfl) (decide_eq_true hUa) (by intro j hj hne; rw [pg_un hne])
    have := G.2.2.2.2.1.1
    omega
  · have := G.2.2.2.2.1.2
    omega
/-- a mapping that is in no group joins one -/
theorem pg_GDin (G : pg_GD FR SL lv K R C P Q W U O KP NC) {m : Nat} (hm : m < 64) (hP : P m = -1) (hl : lv (m / 16) ≠ 0) {kd rt ch pl : Int32} (hk : ∃ k, 1 ≤ k ∧ k < 10 ∧ kd = nI k) (hc : ch = 0 ∨ ch = 1) (hp : pl = -1 ∨ ∃ q, q < 18 ∧ pl = nI q ∧ U q ≠ 0 ∧ (kd = 1 → O q = -1)) (hs : ∀ k, k < 8 → kd = nI (k + 2) → pl = KP k) :
    pg_GD FR SL lv (upd K m kd) (upd R m rt) (upd C m ch) (upd P m pl) (upd Q m (pg_chn kd pl)) W U O KP NC := by
  obtain ⟨k, hk1, hk2, ek⟩ := hk
  refine ⟨?_, ?_, G.2.2.1, G.2.2.2.1, G.2.2.2.2.1, ?_, G.2.2.2.2.2.2⟩
  · intro x hx
    by_cases e : x = m
    · subst e
      unfold pg_GM
      rw [pg_us, pg_us, pg_us, pg_us, pg_us]
      exact ⟨⟨k, hk2, ek⟩, hc, fun z => absurd z (by rw [ek]; exact nI_ne0 (by omega) (by omega)), rfl, hp, hs⟩
    · have := G.1 x hx
      unfold pg_GM at this ⊢
      simp only [pg_un e]
      exact this
  · intro q hq hU
    have gp := G.2.1 q hq hU
    refine ⟨gp.1, ?_, gp.2.2⟩
    obtain ⟨x, hx, z⟩ := gp.2.1
    have e : x ≠ m := by
      intro w; rw [w, hP] at z; exact pg_mn (by omega) z
    exact ⟨x, hx, by rw [pg_un e]; exact z⟩
  · intro p hp' z j hj
    have e : 16 * p + j ≠ m := by
      intro w; rw [show m / 16 = p by omega] at hl; exact hl z
    rw [pg_un e]; exact G.2.2.2.2.2.1 p hp' z j hj
/-- a mapping of its own process gets a copy of its own in the unused frame f -/
theorem pg_GDown {W' : Nat → Int32} (G : pg_GD FR SL lv K R C P Q W U O KP NC) {m f : Nat} (hm : m < 64) (hf : f < FR) (hU : U f = 0) (hK : K m = 1) (hl : NC < FR + SL - 1) (hs : ∀ q, q < 18 → P m = nI q → ∃ x, x < 64 ∧ x ≠ m ∧ P x = nI q) (hW : ∀ i, i < 72 → ∃ w, w < 65536 ∧ W' i = nI w) :
    pg_GD FR SL lv K R C (upd P m (nI f)) (upd Q m (nI f)) W' (upd U f 1) (upd O f (-1)) KP (NC + 1) := by
  have hf18 : f < 18 := by have := G.2.2.2.2.2.2; omega
  have nf : ∀ x, x < 64 → P x ≠ nI f := fun x hx e => pg_GDu G hx hf18 e hU
  refine ⟨?_, ?_, ?_, hW, ⟨?_, by omega⟩, G.2.2.2.2.2⟩
  · intro x hx
    have gm := G.1 x hx
    by_cases e : x = m
    · subst e
      unfold pg_GM
      rw [pg_us, pg_us]
      refine ⟨gm.1, gm.2.1, fun z => absurd z (by rw [hK]; decide), (pg_chn_p _ (by omega)).symm, Or.inr ⟨f, hf18, rfl, by rw [pg_us]; decide, fun _ => pg_us⟩, ?_⟩
      intro k hk z
      rw [hK] at z
      exact absurd (show nI 1 = nI (k + 2) from z) (by rw [nI_eq (by omega) (by omega)]; omega)
    · unfold pg_GM
      simp only [pg_un e]
      refine ⟨gm.1, gm.2.1, gm.2.2.1, gm.2.2.2.1, ?_, gm.2.2.2.2.2⟩
      rcases gm.2.2.2.2.1 with z | ⟨q, hq, z, h1, h2⟩
      · exact Or.inl z
      · have n1 : q ≠ f := fun w => h1 (by rw [w]; exact hU)
        exact Or.inr ⟨q, hq, z, by rw [pg_un n1]; exact h1, by rw [pg_un n1]; exact h2⟩
  · intro q hq hU'
    by_cases n1 : q = f
    · subst n1
      exact ⟨Or.inl hf, ⟨m, hm, pg_us⟩, Or.inl pg_us⟩
    · rw [pg_un n1] at hU'
      have gp := G.2.1 q hq hU'
      refine ⟨gp.1, ?_, by rw [pg_un n1]; exact gp.2.2⟩
      obtain ⟨x, hx, z⟩ := gp.2.1
      by_cases e : x = m
      · rw [e] at z
        obtain ⟨y, hy, hne, z2⟩ := hs q hq z
        exact ⟨y, hy, by rw [pg_un hne]; exact z2⟩
      · exact ⟨x, hx, by rw [pg_un e]; exact z⟩
  · intro k hk
    rcases G.2.2.1 k hk with z | ⟨q, hq, z, h1, h2⟩
    · exact Or.inl z
    · have n1 : q ≠ f := fun w => h1 (by rw [w]; exact hU)
      exact Or.inr ⟨q, hq, z, by rw [pg_un n1]; exact h1, by rw [pg_un n1]; exact h2⟩
  · have c1 := pg_cn_set (p := fun q => decide (U q ≠ 0)) (q := fun q => decide (upd U f 1 q ≠ 0)) (i := f) (n := 18) hf18 (by rw [hU]; rfl) (by rw [pg_us]; decide) (by intro j hj hne; rw [pg_un hne])
    have := G.2.2.2.2.1.1
    omega
/-- all mappings of the blank key k get a copy in the unused frame f -/
theorem pg_GDshf {W' : Nat → Int32} (G : pg_GD FR SL lv K R C P Q W U O KP NC) {m f k : Nat} (hm : m < 64) (hf : f < FR) (hU : U f = 0) (hk : k < 8) (hK : K m = nI (k + 2)) (hB : KP k = -1) (hl : NC < FR + SL - 1) (hW : ∀ i, i < 72 → ∃ w, w < 65536 ∧ W' i = nI w) :
    pg_GD FR SL lv K R C (fun x => if Q x = nI (18 + k) then nI f else P x) (fun x => if Q x = nI (18 + k) then nI f else Q x) W' (upd U f 1) (upd O f (nI k)) (upd KP k (nI f)) (NC + 1) := by
  have hf18 : f < 18 := by have := G.2.2.2.2.2.2; omega
  have nf : ∀ x, x < 64 → P x ≠ nI f := fun x hx e => pg_GDu G hx hf18 e hU
  refine ⟨?_, ?_, ?_, hW, ⟨?_, by omega⟩, G.2.2.2.2.2⟩
  · intro x hx
    have gm := G.1 x hx
    have qk := pg_GDq2 G hx hk hB
    unfold pg_GM
    dsimp only
    by_cases e : K x = nI (k + 2)
    · rw [if_pos (qk.2 e), if_pos (qk.2 e)]
      refine ⟨gm.1, gm.2.1, fun z => ?_, (pg_chn_p _ (by omega)).symm, Or.inr ⟨f, hf18, rfl, by rw [pg_us]; decide, fun z => ?_⟩, ?_⟩
      · rw [e] at z
        exact absurd z (nI_ne0 (by omega) (by omega))
      · rw [e] at z
        exact absurd (show nI (k + 2) = nI 1 from z) (by rw [nI_eq (by omega) (by omega)]; omega)
      · intro k' hk' z
        rw [e, nI_eq (by omega) (by omega)] at z
        rw [show k' = k by omega, pg_us]
    · have e' : ¬ Q x = nI (18 + k) := fun z => e (qk.1 z)
      rw [if_neg e', if_neg e']
      refine ⟨gm.1, gm.2.1, gm.2.2.1, gm.2.2.2.1, ?_, ?_⟩
      · rcases gm.2.2.2.2.1 with z | ⟨q, hq, z, h1, h2⟩
        · exact Or.inl z
        · have n1 : q ≠ f := fun w => h1 (by rw [w]; exact hU)
          exact Or.inr ⟨q, hq, z, by rw [pg_un n1]; exact h1, by rw [pg_un n1]; exact h2⟩
      · intro k' hk' z
        have n1 : k' ≠ k := fun w => e (by rw [z, w])
        rw [pg_un n1]
        exact gm.2.2.2.2.2 k' hk' z
  · intro q hq hU'
    by_cases n1 : q = f
    · subst n1
      exact ⟨Or.inl hf, ⟨m, hm, if_pos ((pg_GDq2 G hm hk hB).2 hK)⟩, Or.inr ⟨k, hk, pg_us, pg_us⟩⟩
    · rw [pg_un n1] at hU'
      have gp := G.2.1 q hq hU'
      refine ⟨gp.1, ?_, ?_⟩
      · obtain ⟨x, hx, z⟩ := gp.2.1
        refine ⟨x, hx, ?_⟩
        dsimp only
        rw [if_neg]
        · exact z
        · rw [pg_GDq2 G hx hk hB]
          intro w
          have := (G.1 x hx).2.2.2.2.2 k hk w
          rw [z, hB] at this
          exact pg_nm (by omega) this
      · rw [pg_un n1]
        rcases gp.2.2 with z | ⟨k', hk', z, z2⟩
        · exact Or.inl z
        · refine Or.inr ⟨k', hk', z, ?_⟩
          rw [pg_un]
          · exact z2
          · intro w; rw [w, hB] at z2; exact pg_mn (by omega) z2
  · intro k' hk'
    by_cases e : k' = k
    · subst e
      exact Or.inr ⟨f, hf18, pg_us, by rw [pg_us]; decide, pg_us⟩
    · rw [pg_un e]
      rcases G.2.2.1 k' hk' with z | ⟨q, hq, z, h1, h2⟩
      · exact Or.inl z
      · have n1 : q ≠ f := fun w => h1 (by rw [w]; exact hU)
        exact Or.inr ⟨q, hq, z, by rw [pg_un n1]; exact h1, by rw [pg_un n1]; exact h2⟩
  · have c1 := pg_cn_set (p := fun q => decide (U q ≠ 0)) (q := fun q => decide (upd U f 1 q ≠ 0)) (i := f) (n := 18) hf18 (by rw [hU]; rfl) (by rw [pg_us]; decide) (by intro j hj hne; rw [pg_un hne])
    have := G.2.2.2.2.1.1
    omega
/-- words, rights and marks may change -/
theorem pg_GDw {W' : Nat → Int32} (G : pg_GD FR SL lv K R C P Q W U O KP NC) (hW : ∀ i, i < 72 → ∃ w, w < 65536 ∧ W' i = nI w) : pg_GD FR SL lv K R C P Q W' U O KP NC :=
  ⟨G.1, G.2.1, G.2.2.1, hW, G.2.2.2.2⟩
theorem pg_GDr (G : pg_GD FR SL lv K R C P Q W U O KP NC) {m : Nat} (hK : K m ≠ 0) {rt : Int32} : pg_GD FR SL lv K (upd R m rt) C P Q W U O KP NC := by
  refine ⟨?_, G.2⟩
  intro x hx
  have gm := G.1 x hx
  refine ⟨gm.1, gm.2.1, ?_, gm.2.2.2⟩
  intro z
  have e : x ≠ m := fun w => hK (w ▸ z)
  rw [pg_un e]; exact gm.2.2.1 z
theorem pg_GDc (G : pg_GD FR SL lv K R C P Q W U O KP NC) {m : Nat} {ch : Int32} (hK : K m ≠ 0 ∨ ch = 0) (hc : ch = 0 ∨ ch = 1) : pg_GD FR SL lv K R (upd C m ch) P Q W U O KP NC := by
  refine ⟨?_, G.2⟩
  intro x hx
  have gm := G.1 x hx
  by_cases e : x = m
  · subst e
    refine ⟨gm.1, by rw [pg_us]; exact hc, ?_, gm.2.2.2⟩
    intro z
    rw [pg_us]
    rcases hK with h | h
    · exact absurd z h
    · have := gm.2.2.1 z
      exact ⟨this.1, h, this.2.2⟩
  · unfold pg_GM
    rw [pg_un e]; exact gm
theorem pg_GDlv {lv' : Nat → Int32} (G : pg_GD FR SL lv K R C P Q W U O KP NC) (h : ∀ p, p < 4 → lv' p = 0 → ∀ j, j < 16 → K (16 * p + j) = 0) : pg_GD FR SL lv' K R C P Q W U O KP NC :=
  ⟨G.1, G.2.1, G.2.2.1, G.2.2.2.1, G.2.2.2.2.1, h, G.2.2.2.2.2.2⟩
/-- if all frames and all slots were used, there would be too many copies -/
theorem pg_GDslot (G : pg_GD FR SL lv K R C P Q W U O KP NC) (h1 : ∀ f, f < FR → U f ≠ 0) (h2 : ∀ s, s < SL → U (6 + s) ≠ 0) : False := by
  obtain ⟨a1, a2, a3, a4⟩ := G.2.2.2.2.2.2
  have c1 := pg_cn_blk (p := fun q => decide (U q ≠ 0)) (a := 0) (k := FR) (fun i _ hi => decide_eq_true (h1 i (by omega)))
  have c2 := pg_cn_mono (fun q => decide (U q ≠ 0)) (n := 0 + FR) (k := 6) (by omega)
  have c3 := pg_cn_blk (p := fun q => decide (U q ≠ 0)) (a := 6) (k := SL) (fun i h hi => decide_eq_true (by
    have := h2 (i - 6) (by omega)
    rw [show 6 + (i - 6) = i by omega] at this; exact this))
  have c4 := pg_cn_mono (fun q => decide (U q ≠ 0)) (n := 6 + SL) (k := 18) (by omega)
  have := G.2.2.2.2.1
  have c0 : pg_cn (fun q => decide (U q ≠ 0)) 0 = 0 := rfl
  omega
end
end
section
section
variable {FR SL NC NF TS : Nat} {D : Nat → Nat} {K R C P Q : Nat → Int32} {E : Nat → Prop} {f1 f2 fr sl lm fc cc hd ts th : Int32} {lv dr fl fe pk pr pp pc W U rf O KP he sz nx pv tm tp tf tw : Nat → Int32}
theorem pg_j59 {post : SX → Prop} {m c : Nat} {x5 : Int32} (hm : m < 64) (hc : c < 26) (k : post (f1, f2, fr, sl, lm, fc, cc, hd, ts, th, lv, dr, fl, fe, pk, pr, pp, pc, W, U, rf, O, KP, upd he c (nI m), upd sz c (sz c + 1), upd nx m x5, upd pv m (-1), tm, tp, tf, tw)) : wX_join_59 post (nI m) (nI c) x5 f1 f2 fr sl lm fc cc hd ts th lv dr fl fe pk pr pp pc W U rf O KP he sz nx pv tm tp tf tw := by
  unfold wX_join_59
  have hi : vp_in (nI m) 64 := vp_in_nI hm (by omega)
  have hj : vp_in (nI c) 26 := vp_in_nI hc (by omega)
  rw [nI_clamp (n := m) (by omega), nI_clamp (n := c) (by omega)]
  exact ⟨hi, nm_e ⟨hi, nm_e ⟨hj, nm_e ⟨hj, hj, nm_e k⟩⟩⟩⟩
theorem pg_vacateR {post : SX → Prop} {p : Nat} (hp : p < 18) (k : post (f1, f2, fr, sl, lm, fc, cc, hd, ts, th, lv, dr, fl, fe, pk, pr, pp, pc, W, upd U p 0, upd rf p 0, upd O p (-1), KP, he, sz, nx, pv, tm, tp, tf, tw)) : wpX_vacate post (f1, f2, fr, sl, lm, fc, cc, hd, ts, th, lv, dr, fl, fe, pk, pr, pp, pc, W, U, rf, O, KP, he, sz, nx, pv, tm, tp, tf, tw) (nI p) := by
  unfold wpX_vacate
  dsimp only
  have hi : vp_in (nI p) 18 := vp_in_nI hp (by omega)
  rw [nI_clamp (n := p) (by omega), pg_b0]
  exact ⟨hi, nm_e ⟨hi, nm_e ⟨hi, nm_e k⟩⟩⟩
theorem pg_releaseR {post : SX → Prop} {p : Nat} (hp : p < 18) (hO : O p = -1 ∨ ∃ k, k < 8 ∧ O p = nI k) (k : post (f1, f2, fr, sl, lm, fc, cc - 1, hd, ts, th, lv, dr, fl, fe, pk, pr, pp, pc, W, upd U p 0, upd rf p 0, upd O p (-1), pg_rel KP (O p) (-1), he, sz, nx, pv, tm, tp, tf, tw)) : wpX_release post (f1, f2, fr, sl, lm, fc, cc, hd, ts, th, lv, dr, fl, fe, pk, pr, pp, pc, W, U, rf, O, KP, he, sz, nx, pv, tm, tp, tf, tw) (nI p) := by
  unfold wpX_release
  dsimp only
  have hi : vp_in (nI p) 18 := vp_in_nI hp (by omega)
  rw [nI_clamp (n := p) (by omega)]
  refine ⟨hi, ?_⟩
  rcases hO with e | ⟨k', hk', e⟩
  · rw [e]
    refine br_t (by decide) ?_
    rw [e, pg_rel_m] at k
    unfold wX_release_21
    refine pg_vacateR hp ?_
    exact nm_e k
  · rw [e]
    rw [e, pg_rel_n (by omega)] at k
    refine br_f (nI_pos (by omega)) ⟨hi, vp_in_nI hk' (by omega), nm_e ?_⟩
    rw [nI_clamp (n := k') (by omega)]
    unfold wX_release_21
    refine pg_vacateR hp ?_
    exact nm_e k
theorem pg_d71 {post : SX → Prop} {m p c : Nat} (hm : m < 64) (hp : p < 64) (hc : c < 26) (hA : (sz c - 1 ≠ 0 ∨ 18 ≤ c) → post (f1, f2, fr, sl, lm, fc, cc, hd, ts, th, lv, dr, fl, fe, pk, pr, upd pp p (-1), pc, W, U, rf, O, KP, he, upd sz c (sz c - 1), upd nx m (-1), upd pv m (-1), tm, tp, tf, tw))
    (hO : sz c - 1 = 0 → c < 18 → O c = -1 ∨ ∃ k, k < 8 ∧ O c = nI k)
    (hB : sz c - 1 = 0 → c < 18 → post (f1, f2, fr, sl, lm, fc, cc - 1, hd, ts, th, lv, dr, fl, fe, pk, pr, upd pp p (-1), pc, W, upd U c 0, upd rf c 0, upd O c (-1), pg_rel KP (O c) (-1), he, upd sz c (sz c - 1), upd nx m (-1), upd pv m (-1), tm, tp, tf, tw)) : wX_detach_71 post (nI m) (nI p) (nI c) f1 f2 fr sl lm fc cc hd ts th lv dr fl fe pk pr pp pc W U rf O KP he sz nx pv tm tp tf tw := by
  unfold wX_detach_71
  have hi : vp_in (nI m) 64 := vp_in_nI hm (by omega)
  have hj : vp_in (nI p) 64 := vp_in_nI hp (by omega)
  have hl : vp_in (nI c) 26 := vp_in_nI hc (by omega)
  rw [nI_clamp (n := m) (by omega), nI_clamp (n := p) (by omega), nI_clamp (n := c) (by omega)]
  refine ⟨hi, nm_e ⟨hi, nm_e ⟨hj, nm_e ⟨hl, hl, nm_e ⟨hl, ?_⟩⟩⟩⟩⟩
  rw [pg_us]
  refine br_c (fun z => br_c (fun h18 => ?_) (fun h18 => ?_)) (fun z => ?_)
  · exact hA (Or.inr (by
      have h18' : nI 18 ≤ nI c := h18
      rw [nI_leI (by omega) (by omega)] at h18'; exact h18'))
  · have hc18 : c < 18 := by
      have h18' : ¬ nI 18 ≤ nI c := h18
      rw [nI_leI (by omega) (by omega)] at h18'; omega
    refine pg_releaseR hc18 (hO z hc18) ?_
    exact hB z hc18
  · exact hA (Or.inl z)
end
section
variable {FR TS : Nat} {D : Nat → Nat} {K R P Q tm tp tf tw : Nat → Int32} {E' : Nat → Prop}
theorem pg_TLj (L : pg_TL (fun _ => False) FR TS D K R P Q tm tp tf tw) (hFR : FR ≤ 6) {m c : Nat} (hP : P m = -1) (hQ : Q m = -1) (hc : c < 26) {pl : Int32} (hx : ∀ x, x < 64 → ¬ E' x → Q x = nI c → K x = 1 → pg_cn (fun z => decide (Q z = nI c)) 64 = 1 → False) : pg_TL E' FR TS D K R (upd P m pl) (upd Q m (nI c)) tm tp tf tw := by
  refine pg_TLm L ?_
  intro x hx64 hE
  refine ⟨id, ?_⟩
  intro p f w z
  obtain ⟨z1, z2, z3, z4, ⟨q, hq, z5⟩, ⟨c', hc', z6⟩, z7⟩ := z
  have hq2 : q < 2 ^ 31 := by omega
  · have hxm : x ≠ m := by
      intro e; rw [e, hP] at z5; exact pg_mn hq2 z5
    unfold pg_TE
    rw [pg_un hxm, pg_un hxm]
    refine ⟨z1, z2, z3, z4, ⟨q, hq, z5⟩, ⟨c', hc', z6⟩, ?_⟩
    intro hw
    refine ⟨(z7 hw).1, ?_⟩
    by_cases hk1 : K x = 1
    · right
      rcases (z7 hw).2 with a | a
      · exact absurd hk1 a
      · by_cases e : Q x = nI c
        · exfalso
          rw [e] at a
          exact hx x hx64 hE e hk1 a
        · rw [← a]
          refine pg_cn_congr ?_
          intro y hy
          by_cases ey : y = m
          · subst ey
            rw [pg_us, hQ, z6]
            rw [z6] at e
            rw [decide_eq_false (fun h => e h.symm), decide_eq_false (pg_mn (by omega))]
          · rw [pg_un ey]
    · exact Or.inl hk1
end
end
section
section
variable {FR SL NC : Nat} {D : Nat → Nat} {lv K R C P Q W U O KP : Nat → Int32} {u : SX}
theorem pg_join {post : SX → Prop} (h : pg_RX FR SL D lv K R C P Q W U O KP NC u) (hFR : FR ≤ 6) {m : Nat} (hm : m < 64) (hK : K m ≠ 0) (hP : P m = -1) (hQ : Q m = -1) {pl : Int32} (hc : pg_chn (K m) pl = -1 ∨ ∃ c, c < 26 ∧ pg_chn (K m) pl = nI c) (k : ∀ u', pg_RX FR SL D lv K R C (upd P m pl) (upd Q m (pg_chn (K m) pl)) W U O KP NC u' → post u') : wpX_join post u (nI m) (nI (pg_pt D m)) pl := by
  refine pg_RXe (Z := fun u => wpX_join post u (nI m) (nI (pg_pt D m)) pl) h ?_
  intro f1 f2 NF NH TS TH dr fl fe pk pr pp pc rf he sz nx pv tm tp tf tw hH T c t1 t8 hT L
  obtain ⟨d1, d2, hp, e1, e2, e3, e4⟩ := pg_TBm T hm hK
  unfold wpX_join
  dsimp only
  refine ⟨vp_in_nI hp (by omega), nm_e ?_⟩
  rw [nI_clamp (n := pg_pt D m) (by omega)]
  have T2 := pg_TBp T hm hK pl
  refine pg_chainOfR hp ?_
  rw [pg_us, e1]
  rcases hc with e | ⟨cc, hcc, e⟩
  · rw [e] at k ⊢
    have LL : pg_TL (fun _ => False) FR TS D K R (upd P m pl) Q tm tp tf tw := by
      refine pg_TLm L ?_
      intro x hx _
      refine ⟨id, ?_⟩
      intro p f w z
      obtain ⟨q, hq, z5⟩ := z.2.2.2.2.1
      have hxm : x ≠ m := by
        intro e; rw [e, hP] at z5; exact pg_mn (by omega) z5
      unfold pg_TE
      rw [pg_un hxm]
      exact z
    rw [pg_uself hQ] at k
    exact br_f (by decide) (k _ (pg_RXi hH T2 c t1 t8 hT LL))
  · rw [e] at k ⊢
    have hnQ : ∀ c', c' < 26 → Q m ≠ nI c' := fun c' hc' z => by rw [hQ] at z; exact pg_mn (by omega) z
    have hcv : vp_in (nI cc) 26 := vp_in_nI hcc (by omega)
    refine br_t (nI_pos' (by omega)) ⟨hcv, ?_⟩
    rw [nI_clamp (n := cc) (by omega)]
    rcases pg_CHhe c hcc with ⟨e5, hn⟩ | ⟨y, hy, e5, hq⟩
    · refine nm_r e5 (br_t (by decide) ?_)
      refine pg_j59 hm hcc ?_
      have C2 := pg_CHj c hcc hm hnQ (pv1 := pv) (Or.inl ⟨e5, rfl⟩)
      rw [e5] at C2
      exact k _ (pg_RXi hH T2 C2 t1 t8 hT (pg_TLj L hFR hP hQ hcc (fun x hx _ hqx _ _ => hn x hx hqx)))
    · refine nm_r e5 (br_f (nI_pos (by omega)) ⟨vp_in_nI hy (by omega), nm_e ⟨hcv, ?_⟩⟩)
      rw [nI_clamp (n := y) (by omega)]
      have C2 := pg_CHj c hcc hm hnQ (pv1 := upd pv y (nI m)) (Or.inr ⟨y, e5, hy, rfl⟩)
      rw [e5] at C2
      have es1 := pg_CHsz c hcc
      have hcn := pg_cn_le (fun x => decide (Q x = nI cc)) 64
      refine br_c (fun es => ?_) (fun es => ?_)
      · refine pg_tlbDropR (E := fun _ => False) (K := K) (R := R) (D := D) (FR := FR) (P := upd P m pl) (Q := upd Q m (nI cc)) t8 hy ?_ ?_
        · refine pg_TLj L hFR hP hQ hcc ?_
          intro x hx hE hqx _ h1
          have hxy : x ≠ y := fun z => hE (Or.inl z)
          have := pg_cn_two (p := fun z => decide (Q z = nI cc)) hx hy hxy (decide_eq_true hqx) (decide_eq_true hq)
          omega
        · intro tm' tw' L2 _
          exact pg_j59 hm hcc (k _ (pg_RXi hH T2 C2 t1 t8 hT L2))
      · refine pg_j59 hm hcc (k _ (pg_RXi hH T2 C2 t1 t8 hT (pg_TLj L hFR hP hQ hcc ?_)))
        intro x hx _ hqx _ h1
        rw [h1] at es1
        exact es es1
/-- what a detach leaves -/
def pg_af (m : Nat) (P Q U O KP : Nat → Int32) (NC : Nat) (P' Q' U' O' KP' : Nat → Int32) (NC' : Nat) : Prop :=
  P' = upd P m (-1) ∧ Q' = upd Q m (-1) ∧ (((∀ q, q < 18 → Q m = nI q → ∃ x, x < 64 ∧ x ≠ m ∧ Q x = nI q) ∧ U' = U ∧ O' = O ∧ KP' = KP ∧ NC' = NC) ∨
    (∃ q, q < 18 ∧ Q m = nI q ∧ (∀ x, x < 64 → x ≠ m → Q x ≠ nI q) ∧ U' = upd U q 0 ∧ O' = upd O q (-1) ∧ KP' = pg_rel KP (O q) (-1) ∧ NC' = NC - 1))
theorem pg_detach {post : SX → Prop} (h : pg_RX FR SL D lv K R C P Q W U O KP NC u) {m : Nat} (hm : m < 64) (hK : K m ≠ 0) (hQ : Q m = pg_chn (K m) (P m)) (hc : (Q m = -1 ∧ P m = -1) ∨ ∃ c, c < 26 ∧ Q m = nI c)
    (hR : ∀ q, q < 18 → Q m = nI q → (∀ x, x < 64 → x ≠ m → Q x ≠ nI q) → 0 < NC ∧ (O q = -1 ∨ ∃ k, k < 8 ∧ O q = nI k))
    (k : ∀ P' Q' U' O' KP' NC', pg_af m P Q U O KP NC P' Q' U' O' KP' NC' → ∀ u', pg_RX FR SL D lv K R C P' Q' W U' O' KP' NC' u' → post u') : wpX_detach post u (nI m) (nI (pg_pt D m)) := by
  refine pg_RXe (Z := fun u => wpX_detach post u (nI m) (nI (pg_pt D m))) h ?_
  intro f1 f2 NF NH TS TH dr fl fe pk pr pp pc rf he sz nx pv tm tp tf tw hH T c t1 t8 hT L
  obtain ⟨d1, d2, hp, e1, e2, e3, e4⟩ := pg_TBm T hm hK
  unfold wpX_detach
  dsimp only
  refine pg_chainOfR hp ?_
  rw [e1, e3, ← hQ]
  rcases hc with ⟨e, eP⟩ | ⟨cc, hcc, e⟩
  · rw [e]
    refine br_f (by decide) (k P Q U O KP NC ⟨(pg_uself eP).symm, (pg_uself e).symm, Or.inl ⟨?_, rfl, rfl, rfl, rfl⟩⟩ _ (pg_RXi hH T c t1 t8 hT L))
    intro q hq z
    rw [e] at z; exact absurd z (pg_mn (by omega))
  · rw [e]
    refine br_t (nI_pos' (by omega)) ?_
    refine pg_tlbDropR (E := fun _ => False) (K := K) (R := R) (D := D) (FR := FR) (P := P) (Q := Q) t8 hm (pg_TLm L (fun x hx _ => ⟨id, fun _ _ _ z => z⟩)) ?_
    intro tm' tw' L2 hn
    dsimp only
    have hmv : vp_in (nI m) 64 := vp_in_nI hm (by omega)
    have hcv : vp_in (nI cc) 26 := vp_in_nI hcc (by omega)
    rw [nI_clamp (n := m) (by omega)]
    obtain ⟨nb1, nb2⟩ := pg_CHnb c hcc hm e
    have T2 := pg_TBp T hm hK (-1)
    have LL : pg_TL (fun _ => False) FR TS D K R (upd P m (-1)) (upd Q m (-1)) tm' tp tf tw' := by
      refine pg_TLn (m := m) ?_ hn
      refine pg_TLm L2 ?_
      intro x hx hE
      have hxm : x ≠ m := fun z => hE (Or.inl z)
      refine ⟨id, ?_⟩
      intro p f w z
      obtain ⟨z1, z2, z3, z4, z5, ⟨c', hc', z6⟩, z7⟩ := z
      unfold pg_TE
      rw [pg_un hxm, pg_un hxm]
      refine ⟨z1, z2, z3, z4, z5, ⟨c', hc', z6⟩, ?_⟩
      intro hw
      refine ⟨(z7 hw).1, ?_⟩
      rcases (z7 hw).2 with a | a
      · exact Or.inl a
      · right
        by_cases eq : Q x = nI cc
        · exfalso
          have := pg_cn_two (p := fun y => decide (Q y = Q x)) hx hm hxm (decide_eq_true rfl) (decide_eq_true (by rw [e, eq]))
          omega
        · rw [← a]
          refine pg_cn_congr ?_
          intro y hy
          by_cases ey : y = m
          · subst ey
            rw [pg_us, e, z6]
            rw [z6] at eq
            rw [decide_eq_false (pg_mn (a := c') (by omega)), decide_eq_false (fun h => eq h.symm)]
          · rw [pg_un ey]
    have hsz := pg_CHsz c hcc
    have hpos : 0 < pg_cn (fun x => decide (Q x = nI cc)) 64 := pg_cn_pos hm (decide_eq_true e)
    have hle := pg_cn_le (fun x => decide (Q x = nI cc)) 64
    have hsz1 : sz cc - 1 = nI (pg_cn (fun x => decide (Q x = nI cc)) 64 - 1) := by
      rw [hsz]
      obtain ⟨n, hn⟩ : ∃ n, pg_cn (fun x => decide (Q x = nI cc)) 64 = n + 1 := ⟨pg_cn (fun x => decide (Q x = nI cc)) 64 - 1, by omega⟩
      rw [hn, nI_pred]; rfl
    have hA0 : (sz cc - 1 ≠ 0 ∨ 18 ≤ cc) → ∀ q, q < 18 → Q m = nI q → ∃ x, x < 64 ∧ x ≠ m ∧ Q x = nI q := by
      intro z q hq eq
      rw [e, nI_eq (by omega) (by omega)] at eq
      subst eq
      rcases z with z | z
      · have h2 : 2 ≤ pg_cn (fun x => decide (Q x = nI cc)) 64 := by
          rcases Nat.lt_or_ge (pg_cn (fun x => decide (Q x = nI cc)) 64) 2 with h | h
          · exfalso; apply z; rw [hsz1, show pg_cn (fun x => decide (Q x = nI cc)) 64 - 1 = 0 by omega]; rfl
          · exact h
        have h3 := pg_cn_set (p := fun x => decide (Q x = nI cc) && decide (x ≠ m)) (q := fun x => decide (Q x = nI cc)) hm (by simp) (decide_eq_true e) (by intro j hj hne; simp [hne])
        obtain ⟨x, hx, hpx⟩ := pg_cn_ex (p := fun x => decide (Q x = nI cc) && decide (x ≠ m)) (n := 64) (by omega)
        simp only [Bool.and_eq_true, decide_eq_true_eq] at hpx
        exact ⟨x, hx, hpx.2, hpx.1⟩
      · omega
    have hB0 : sz cc - 1 = 0 → ∀ x, x < 64 → x ≠ m → Q x ≠ nI cc := by
      intro z x hx hxm eq
      have := pg_cn_two (p := fun y => decide (Q y = nI cc)) hx hm hxm (decide_eq_true eq) (decide_eq_true e)
      rw [hsz1] at z
      exact nI_ne0 (by omega) (by omega) z
    have fin : ∀ he' nx1 pv1, pg_CH he' (upd sz cc (sz cc - 1)) (upd nx1 m (-1)) (upd pv1 m (-1)) (upd Q m (-1)) → wX_detach_71 post (nI m) (nI (pg_pt D m)) (nI cc) f1 f2 (nI FR) (nI SL) (nI (FR + SL - 1)) (nI NF) (nI NC) (nI NH) (nI TS) (nI TH) lv dr fl fe pk pr pp pc W U rf O KP he' sz nx1 pv1 tm' tp tf tw' := by
      intro he' nx1 pv1 C2
      refine pg_d71 hm hp hcc ?_ ?_ ?_
      · intro z
        exact k _ _ U O KP NC ⟨rfl, rfl, Or.inl ⟨hA0 z, rfl, rfl, rfl, rfl⟩⟩ _ (pg_RXi hH T2 C2 t1 t8 hT LL)
      · intro z hc18
        exact (hR cc hc18 e (hB0 z)).2
      · intro z hc18
        obtain ⟨n, hn⟩ : ∃ n, NC = n + 1 := ⟨NC - 1, by have := (hR cc hc18 e (hB0 z)).1; omega⟩
        subst hn
        rw [nI_pred]
        exact k _ _ _ _ _ n ⟨rfl, rfl, Or.inr ⟨cc, hc18, e, hB0 z, rfl, rfl, rfl, rfl⟩⟩ _ (pg_RXi hH T2 C2 t1 t8 hT LL)
    refine ⟨hmv, nm_e ⟨hmv, nm_e ?_⟩⟩
    rcases nb1 with p1 | ⟨b, hb, hbm, p1⟩
    · rw [p1]
      refine br_t (by decide) ⟨hcv, nm_e ?_⟩
      rw [nI_clamp (n := cc) (by omega)]
      unfold wX_detach_57
      rcases nb2 with p2 | ⟨a, ha, ham, p2⟩
      · rw [p2]
        refine br_t (by decide) (fin _ _ _ (pg_CHd c hcc hm e ?_ ?_ ?_))
        · rw [p1, p2]; rfl
        · intro x hx hx64; rw [pg_un hx, p1, if_neg (pg_nm (by omega))]
        · intro x hx hx64; rw [pg_un hx, p2, if_neg (pg_nm (by omega))]
      · rw [p2]
        refine br_f (nI_pos (by omega)) ⟨vp_in_nI ha (by omega), nm_e ?_⟩
        rw [nI_clamp (n := a) (by omega)]
        refine fin _ _ _ (pg_CHd c hcc hm e ?_ ?_ ?_)
        · rw [p1, p2]; rfl
        · intro x hx hx64; rw [pg_un hx, p1, if_neg (pg_nm (by omega))]
        · intro x hx hx64
          rw [pg_un hx, p2, p1]
          by_cases ex : x = a
          · subst ex; rw [pg_us, if_pos rfl]
          · rw [pg_un ex, if_neg (by rw [nI_eq (by omega) (by omega)]; exact ex)]
    · rw [p1]
      refine br_f (nI_pos (by omega)) ⟨vp_in_nI hb (by omega), nm_e ?_⟩
      rw [nI_clamp (n := b) (by omega)]
      unfold wX_detach_57
      have hnx : ∀ x, x ≠ m → x < 64 → upd (upd nx b (nx m)) m (-1) x = if nI x = pv m then nx m else nx x := by
        intro x hx hx64
        rw [pg_un hx, p1]
        by_cases ex : x = b
        · subst ex; rw [pg_us, if_pos rfl]
        · rw [pg_un ex, if_neg (by rw [nI_eq (by omega) (by omega)]; exact ex)]
      rcases nb2 with p2 | ⟨a, ha, ham, p2⟩
      · rw [p2] at hnx ⊢
        refine br_t (by decide) (fin _ _ _ (pg_CHd c hcc hm e ?_ ?_ ?_))
        · rw [p1, if_neg (nI_pos (by omega))]
        · rw [p2]; exact hnx
        · intro x hx hx64; rw [pg_un hx, p2, if_neg (pg_nm (by omega))]
      · rw [p2] at hnx ⊢
        refine br_f (nI_pos (by omega)) ⟨vp_in_nI ha (by omega), nm_e ?_⟩
        rw [nI_clamp (n := a) (by omega)]
        refine fin _ _ _ (pg_CHd c hcc hm e ?_ ?_ ?_)
        · rw [p1, if_neg (nI_pos (by omega))]
        · rw [p2]; exact hnx
        · intro x hx hx64
          rw [pg_un hx, p2, p1]
          by_cases ex : x = a
          · subst ex; rw [pg_us, if_pos rfl]
          · rw [pg_un ex, if_neg (by rw [nI_eq (by omega) (by omega)]; exact ex)]
end
end
section
section
variable {FR SL NC : Nat} {D : Nat → Nat} {lv K R C P Q W U O KP : Nat → Int32} {u : SX}
theorem pg_remove {post : SX → Prop} (h : pg_RX FR SL D lv K R C P Q W U O KP NC u) {m : Nat} (hm : m < 64) (hK : K m ≠ 0) (hQ : Q m = pg_chn (K m) (P m)) (hc : (Q m = -1 ∧ P m = -1) ∨ ∃ c, c < 26 ∧ Q m = nI c)
    (hR : ∀ q, q < 18 → Q m = nI q → (∀ x, x < 64 → x ≠ m → Q x ≠ nI q) → 0 < NC ∧ (O q = -1 ∨ ∃ k, k < 8 ∧ O q = nI k)) (hFR : FR ≤ 6)
    (k : ∀ P' Q' U' O' KP' NC', pg_af m P Q U O KP NC P' Q' U' O' KP' NC' → ∀ u', pg_RX FR SL D lv (upd K m 0) (upd R m 0) (upd C m 0) P' Q' W U' O' KP' NC' u' → post u') : wpX_remove post u (nI m) (nI (pg_pt D m)) := by
  revert h
  refine pg_sx (Z := fun u => pg_RX FR SL D lv K R C P Q W U O KP NC u → wpX_remove post u (nI m) (nI (pg_pt D m))) ?_ u
  intro f1 f2 fr sl lm fc cc hd ts th lv' dr fl fe pk pr pp pc W' U' rf O' KP' he sz nx pv tm tp tf tw h
  unfold wpX_remove
  dsimp only
  refine pg_detach h hm hK hQ hc hR ?_
  intro P' Q' U' O' KP' NC' hf
  refine pg_RXa ?_
  intro f1 f2 NF NH TS TH dr fl fe pk pr pp pc rf he sz nx pv tm tp tf tw hH T c t1 t8 hT L
  dsimp only
  have hk := k P' Q' U' O' KP' NC' hf
  obtain ⟨d1, d2, hp, e1, e2, e3, e4⟩ := pg_TBm T hm hK
  have hpm : P' m = -1 := by rw [hf.1, pg_us]
  have hpv : vp_in (nI (pg_pt D m)) 64 := vp_in_nI hp (by omega)
  have ep : pg_pt D m / 4 = D (m / 4) := by unfold pg_pt; omega
  rw [pg_s2 (m := pg_pt D m) (by omega), pg_s2 (m := m) (by omega), nI_clamp (n := pg_pt D m) (by omega), nI_clamp (n := m / 4) (by omega), ep, pg_b0]
  obtain ⟨c0, hc0, hc4, hz, T2⟩ := pg_TBr1 T hm hK
  have LL : pg_TL (fun _ => False) FR TS D (upd K m 0) (upd R m 0) P' Q' tm tp tf tw := by
    refine pg_TLm L ?_
    intro x hx _
    refine ⟨id, ?_⟩
    intro p f w z
    obtain ⟨q, hq, z5⟩ := z.2.2.2.2.1
    have hxm : x ≠ m := by
      intro e; rw [e, hpm] at z5; exact pg_mn (by omega) z5
    unfold pg_TE
    rw [pg_un hxm, pg_un hxm]
    exact z
  have htv : vp_in (nI (D (m / 4))) 16 := vp_in_nI d2 (by omega)
  refine ⟨hpv, nm_e ⟨hpv, nm_e ⟨hpv, nm_e (nm_e ⟨htv, htv, nm_e ⟨htv, ?_⟩⟩)⟩⟩⟩
  rw [nI_clamp (n := D (m / 4)) (by omega), hc0, pg_us]
  refine br_c (fun z => ?_) (fun z => ?_)
  · have z0 : c0 = 0 := by
      have z' : nI c0 = nI 0 := z
      rwa [nI_eq (by omega) (by omega)] at z'
    have hd := pg_TBd T hm hK
    obtain ⟨hNF, T3⟩ := pg_TBfr T2 (d0 := m / 4) (by omega) hd (hz z0)
    refine ⟨vp_in_nI (by omega) (by omega), nm_e ⟨vp_in_nI hNF (by omega), nm_e (nm_r (nI_1 NF) ?_)⟩⟩
    rw [nI_clamp (n := NF) (by omega)]
    exact hk _ (pg_RXi hH T3 c t1 t8 hT LL)
  · exact hk _ (pg_RXi hH T2 c t1 t8 hT LL)
/-- the list's mappings are told -/
def pg_sL (P : Nat → Int32) (x2 : Int32) : List Nat → Nat → Int32
  | [] => P
  | m :: l => pg_sL (upd P m x2) x2 l
theorem pg_sLx {x2 : Int32} : ∀ {l : List Nat} {P : Nat → Int32} {x : Nat}, pg_sL P x2 l x = if x ∈ l then x2 else P x
  | [], P, x => by simp [pg_sL]
  | m :: l, P, x => by
    rw [pg_sL, pg_sLx]
    by_cases e : x = m
    · subst e
      rw [pg_us]
      simp
    · rw [pg_un e]
      simp [e]
end
section
variable {FR SL NC NF TS : Nat} {D : Nat → Nat} {K R C Q : Nat → Int32} {f1 f2 fr sl lm fc cc hd th : Int32} {lv dr fl fe pk pr pc W U rf O KP he sz nx pv tp tf : Nat → Int32}
theorem pg_mcl {post : SX → Prop} {x2 : Int32} (t8 : TS ≤ 8) : ∀ (l : List Nat) (i : Nat) (b : Int32) (P pp tm tw : Nat → Int32), i + l.length ≤ 64 → pg_Lk nx pv b l → (∀ m, m ∈ l → m < 64 ∧ K m ≠ 0) → pg_TB NF dr fl fe pk pr pp pc D K R C P → pg_TL (fun _ => False) FR TS D K R P Q tm tp tf tw →
    (∀ pp' tm' tw', pg_TB NF dr fl fe pk pr pp' pc D K R C (pg_sL P x2 l) → pg_TL (fun _ => False) FR TS D K R (pg_sL P x2 l) Q tm' tp tf tw' → post (f1, f2, fr, sl, lm, fc, cc, hd, nI TS, th, lv, dr, fl, fe, pk, pr, pp', pc, W, U, rf, O, KP, he, sz, nx, pv, tm', tp, tf, tw')) → ∀ n, l.length < n → wX_moveChain_48 post x2 n (pg_hd l) (nI i) f1 f2 fr sl lm fc cc hd (nI TS) th lv dr fl fe pk pr pp pc W U rf O KP he sz nx pv tm tp tf tw
  | [], i, b, P, pp, tm, tw, hi, hl, hm, T, L, k, 0, hn => absurd hn (by simp)
  | [], i, b, P, pp, tm, tw, hi, hl, hm, T, L, k, n + 1, hn => br_c (fun _ => k pp tm tw T L) (fun _ => br_t (show (-1 : Int32) < 0 by decide) (k pp tm tw T L))
  | m :: l, i, b, P, pp, tm, tw, hi, hl, hm, T, L, k, 0, hn => absurd hn (by simp)
  | m :: l, i, b, P, pp, tm, tw, hi, hl, hm, T, L, k, n + 1, hn => by
    have hlen : (m :: l).length = l.length + 1 := rfl
    have hm0 := hm m (by simp)
    have hp := (pg_TBm T hm0.1 hm0.2).2.2.1
    refine br_f (nI_ge (b := 64) (by omega) (by decide)) (br_f (nI_pos (by omega)) ?_)
    refine pg_walkR T hm0.1 (fun z => absurd z hm0.2) (fun _ => ?_)
    refine br_f (nI_pos (by omega)) ⟨vp_in_nI hp (by omega), nm_e ?_⟩
    rw [nI_clamp (n := pg_pt D m) (by omega)]
    show wX_moveChain_79 post (wX_moveChain_48 post x2 n) x2 (nI m) (nI i) f1 f2 fr sl lm fc cc hd (nI TS) th lv dr fl fe pk pr (upd pp (pg_pt D m) x2) pc W U rf O KP he sz nx pv tm tp tf tw
    unfold wX_moveChain_79
    refine pg_tlbDropR (E := fun _ => False) (K := K) (R := R) (D := D) (FR := FR) (P := upd P m x2) (Q := Q) t8 hm0.1 ?_ ?_
    · refine pg_TLm L ?_
      intro x hx hE
      have hxm : x ≠ m := fun z => hE (Or.inl z)
      refine ⟨id, ?_⟩
      intro p f w z
      unfold pg_TE
      rw [pg_un hxm]
      exact z
    · intro tm' tw' L2 _
      dsimp only
      rw [nI_clamp (n := m) (by omega)]
      refine ⟨vp_in_nI hm0.1 (by omega), nm_r hl.2.1 (nm_r (nI_1 i) ?_)⟩
      exact pg_mcl t8 l (i + 1) (nI m) (upd P m x2) (upd pp (pg_pt D m) x2) tm' tw' (by omega) hl.2.2 (fun x hx => hm x (by simp [hx])) (pg_TBp T hm0.1 hm0.2 x2) L2 k n (by omega)
end
section
variable {FR SL NC : Nat} {D : Nat → Nat} {lv K R C P Q W U O KP : Nat → Int32} {u : SX}
theorem pg_moveChain {post : SX → Prop} (h : pg_RX FR SL D lv K R C P Q W U O KP NC u) {c c2 : Nat} (hc : c < 26) (hc2 : c2 < 26) (hne : c ≠ c2) (hQ : ∀ x, x < 64 → Q x ≠ nI c2) (hK : ∀ x, x < 64 → Q x = nI c → K x ≠ 0)
    (k : ∀ u', pg_RX FR SL D lv K R C (fun x => if Q x = nI c then nI c2 else P x) (fun x => if Q x = nI c then nI c2 else Q x) W U O KP NC u' → post u') : wpX_moveChain post u (nI c) (nI c2) := by
  refine pg_RXe (Z := fun u => wpX_moveChain post u (nI c) (nI c2)) h ?_
  intro f1 f2 NF NH TS TH dr fl fe pk pr pp pc rf he sz nx pv tm tp tf tw hH T C0 t1 t8 hT L
  unfold wpX_moveChain
  dsimp only
  have hv : vp_in (nI c) 26 := vp_in_nI hc (by omega)
  have hv2 : vp_in (nI c2) 26 := vp_in_nI hc2 (by omega)
  rw [nI_clamp (n := c) (by omega), nI_clamp (n := c2) (by omega)]
  have C2 := pg_CHm C0 hc hc2 hne hQ
  refine ⟨hv, hv2, nm_e ⟨hv, hv2, nm_e ⟨hv, nm_e ⟨hv, nm_e ⟨hv2, ?_⟩⟩⟩⟩⟩
  rw [pg_un (f := upd he c2 (he c)) (k := c) (j := c2) (fun z => hne z.symm), pg_us]
  obtain ⟨Ls, hL⟩ := C0
  obtain ⟨l1, l2, l3, l4, l5⟩ := hL c hc
  have hlen : (Ls c).length ≤ 64 := by
    rw [pg_len (n := 64) (p := fun x => decide (Q x = nI c)) l1 (by intro x; rw [l2 x, decide_eq_true_eq])]
    exact pg_cn_le _ _
  refine nm_r l3 ⟨65, ?_⟩
  have LL : pg_TL (fun _ => False) FR TS D K R P (fun x => if Q x = nI c then nI c2 else Q x) tm tp tf tw := by
    refine pg_TLm L ?_
    intro x hx _
    refine ⟨id, ?_⟩
    intro p f w z
    obtain ⟨z1, z2, z3, z4, z5, ⟨c', hc', z6⟩, z7⟩ := z
    refine ⟨z1, z2, z3, z4, z5, ?_, ?_⟩
    · dsimp only
      split
      · exact ⟨c2, hc2, rfl⟩
      · exact ⟨c', hc', z6⟩
    · intro hw
      refine ⟨(z7 hw).1, ?_⟩
      rcases (z7 hw).2 with a | a
      · exact Or.inl a
      · right
        rw [← a]
        refine pg_cn_congr ?_
        intro y hy
        have hqy := hQ y hy
        have hqx := hQ x hx
        by_cases e1 : Q x = nI c <;> by_cases e2 : Q y = nI c
        · simp [e1, e2]
        · simp only [e1, if_pos, if_neg e2]
          rw [decide_eq_false hqy, decide_eq_false e2]
        · simp only [e2, if_pos, if_neg e1]
          rw [decide_eq_false (fun z => hqx z.symm), decide_eq_false (fun z => e1 z.symm)]
        · simp only [if_neg e1, if_neg e2]
  refine pg_mcl (Q := fun x => if Q x = nI c then nI c2 else Q x) t8 (Ls c) 0 (-1) P pp tm tw (by omega) l5 (fun x hx => ⟨((l2 x).1 hx).1, hK x ((l2 x).1 hx).1 ((l2 x).1 hx).2⟩) T LL ?_ 65 (by omega)
  intro pp' tm' tw' T3 L3
  have hpw : ∀ x, x < 64 → (if Q x = nI c then nI c2 else P x) = pg_sL P (nI c2) (Ls c) x := by
    intro x hx
    rw [pg_sLx]
    by_cases e : Q x = nI c
    · rw [if_pos e, if_pos ((l2 x).2 ⟨hx, e⟩)]
    · rw [if_neg e, if_neg (fun z => e ((l2 x).1 z).2)]
  refine k _ (pg_RXi hH (pg_TBcg T3 (fun x hx _ => ⟨rfl, rfl, hpw x hx⟩)) C2 t1 t8 hT (pg_TLm L3 ?_))
  intro x hx _
  refine ⟨id, ?_⟩
  intro p f w z
  unfold pg_TE
  dsimp only
  rw [hpw x hx]
  exact z
end
section
variable {f1 f2 fr sl lm fc cc hd ts th : Int32} {lv dr fl fe pk pr pp pc W U rf O KP he sz nx pv tm tp tf tw : Nat → Int32}
theorem pg_cwS {post : SX → Prop} {a b j n : Nat} (ha : a < 18) (hb : b < 18) (hj : j < 4) (k : wX_copyWords_2 post (nI a) (nI b) f1 f2 fr sl lm fc cc hd ts th n (nI (j + 1)) lv dr fl fe pk pr pp pc (upd W (4 * b + j) (W (4 * a + j))) U rf O KP he sz nx pv tm tp tf tw) : wX_copyWords_2 post (nI a) (nI b) f1 f2 fr sl lm fc cc hd ts th (n + 1) (nI j) lv dr fl fe pk pr pp pc W U rf O KP he sz nx pv tm tp tf tw := by
  refine br_f (nI_ge (b := 4) hj (by decide)) ?_
  rw [pg_t4, pg_t4, nI_clamp (n := 4 * a + j) (by omega), nI_clamp (n := 4 * b + j) (by omega)]
  exact ⟨vp_in_nI (by omega) (by omega), vp_in_nI (by omega) (by omega), nm_e (nm_r (nI_1 j) k)⟩
theorem pg_copyWordsR {post : SX → Prop} {a b : Nat} (ha : a < 18) (hb : b < 18) (hab : a ≠ b) (k : post (f1, f2, fr, sl, lm, fc, cc, hd, ts, th, lv, dr, fl, fe, pk, pr, pp, pc, pg_w4 W b (fun j => W (4 * a + j)), U, rf, O, KP, he, sz, nx, pv, tm, tp, tf, tw)) : wpX_copyWords post (f1, f2, fr, sl, lm, fc, cc, hd, ts, th, lv, dr, fl, fe, pk, pr, pp, pc, W, U, rf, O, KP, he, sz, nx, pv, tm, tp, tf, tw) (nI a) (nI b) := by
  refine ⟨5, ?_⟩
  refine pg_cwS (j := 0) ha hb (by omega) (pg_cwS (j := 1) ha hb (by omega) (pg_cwS (j := 2) ha hb (by omega) (pg_cwS (j := 3) ha hb (by omega) ?_)))
  refine br_t (show (4 : Int32) ≤ nI 4 by decide) ?_
  have e := pg_w4u (W := W) (g := fun j => W (4 * a + j)) (b := b) (x0 := W (4 * a + 0)) (x1 := upd W (4 * b + 0) (W (4 * a + 0)) (4 * a + 1)) (x2 := upd (upd W (4 * b + 0) (W (4 * a + 0))) (4 * b + 1) (upd W (4 * b + 0) (W (4 * a + 0)) (4 * a + 1)) (4 * a + 2))
    (x3 := upd (upd (upd W (4 * b + 0) (W (4 * a + 0))) (4 * b + 1) (upd W (4 * b + 0) (W (4 * a + 0)) (4 * a + 1))) (4 * b + 2) (upd (upd W (4 * b + 0) (W (4 * a + 0))) (4 * b + 1) (upd W (4 * b + 0) (W (4 * a + 0)) (4 * a + 1)) (4 * a + 2)) (4 * a + 3))
    rfl (pg_un (by omega)) (by rw [pg_un (by omega), pg_un (by omega)]) (by rw [pg_un (by omega), pg_un (by omega), pg_un (by omega)])
  rw [← e] at k
  exact k
end
section
variable {FR SL NC : Nat} {D : Nat → Nat} {lv K R C P Q W U O KP : Nat → Int32} {u : SX}
theorem pg_moveCopy {post : SX → Prop} (h : pg_RX FR SL D lv K R C P Q W U O KP NC u) (G : pg_GD FR SL lv K R C P Q W U O KP NC) {a b : Nat} (ha : a < 18) (hb : b < 18) (hUa : U a ≠ 0) (hUb : U b = 0)
    (k : ∀ u', pg_RX FR SL D lv K R C (fun x => if Q x = nI a then nI b else P x) (fun x => if Q x = nI a then nI b else Q x) (pg_w4 W b (fun j => W (4 * a + j))) (upd (upd U b 1) a 0) (upd (upd O b (O a)) a (-1)) (pg_rel KP (O a) (nI b)) NC u' → post u') : wpX_moveCopy post u (nI a) (nI b) := by
  refine pg_RXe (Z := fun u => wpX_moveCopy post u (nI a) (nI b)) h ?_
  intro f1 f2 NF NH TS TH dr fl fe pk pr pp pc rf he sz nx pv tm tp tf tw hH T C0 t1 t8 hT L
  have hab : a ≠ b := fun z => hUa (z ▸ hUb)
  unfold wpX_moveCopy
  dsimp only
  refine pg_copyWordsR ha hb hab ?_
  dsimp only
  have hav : vp_in (nI a) 18 := vp_in_nI ha (by omega)
  have hbv : vp_in (nI b) 18 := vp_in_nI hb (by omega)
  rw [nI_clamp (n := a) (by omega), nI_clamp (n := b) (by omega), pg_b0, pg_b1]
  refine ⟨hbv, nm_e ⟨hbv, nm_e ⟨hav, hbv, nm_e ⟨hbv, ?_⟩⟩⟩⟩
  rw [pg_us]
  have fin : ∀ KP1 rf1, KP1 = pg_rel KP (O a) (nI b) → wX_moveCopy_53 post (nI a) (nI b) f1 f2 (nI FR) (nI SL) (nI (FR + SL - 1)) (nI NF) (nI NC) (nI NH) (nI TS) (nI TH) lv dr fl fe pk pr pp pc (pg_w4 W b (fun j => W (4 * a + j))) (upd U b 1) rf1 (upd O b (O a)) KP1 he sz nx pv tm tp tf tw := by
    intro KP1 rf1 e1
    subst e1
    unfold wX_moveCopy_53
    refine pg_moveChain (D := D) (K := K) (R := R) (C := C) (P := P) (Q := Q) (pg_RXi hH T C0 t1 t8 hT L) (by omega) (by omega) hab ?_ ?_ ?_
    · intro x hx z
      exact pg_GDu G hx hb ((pg_GDq G hx hb).1 z) hUb
    · intro x hx z z2
      have := ((G.1 x hx).2.2.1 z2).2.2
      rw [(pg_GDq G hx ha).1 z] at this
      exact pg_nm (by omega) this
    · refine pg_RXa ?_
      intro f1 f2 NF NH TS TH dr fl fe pk pr pp pc rf he sz nx pv tm tp tf tw hH T C0 t1 t8 hT L
      dsimp only
      refine pg_vacateR ha ?_
      exact k _ (pg_RXi hH T C0 t1 t8 hT L)
  rcases pg_GDok G ha hUa with e | ⟨k', hk', e, e2⟩
  · rw [e] at fin ⊢
    refine br_t (by decide) (fin _ _ ?_)
    rw [pg_rel_m]
  · rw [e] at fin ⊢
    refine br_f (nI_pos (by omega)) ⟨hbv, vp_in_nI hk' (by omega), nm_e ?_⟩
    rw [nI_clamp (n := k') (by omega)]
    refine fin _ _ ?_
    rw [pg_rel_n (by omega)]
end
end
section
section
variable {FR SL NC NF TS TH : Nat} {f1 f2 : Int32} {D : Nat → Nat} {lv dr fl fe pk pr pp pc W U O KP he sz nx pv tm tp tf tw : Nat → Int32}
theorem pg_cvl {post : Int32 → SX → Prop} {pin : Int32} (h2 : 2 ≤ FR) (h6 : FR ≤ 6) (k : ∀ f NH rf', f < FR → NH < FR → nI f ≠ pin → post (nI f) (f1, f2, nI FR, nI SL, nI (FR + SL - 1), nI NF, nI NC, nI NH, nI TS, nI TH, lv, dr, fl, fe, pk, pr, pp, pc, W, U, rf', O, KP, he, sz, nx, pv, tm, tp, tf, tw)) : ∀ d i NH rf, i + d = 2 * FR → NH < FR → wX_chooseVictim_2 post pin f1 f2 (nI FR) (nI SL) (nI (FR + SL - 1)) (nI NF) (nI NC) (nI TS) (nI TH) (d + 1) (nI i) (nI NH) lv dr fl fe pk pr pp pc W U rf O KP he sz nx pv tm tp tf tw
  | 0, i, NH, rf, e, hN => by
    have e2 : (2 : Int32) * nI FR = nI (2 * FR) := pk_mul 2 FR
    refine br_t (by rw [e2]; exact nI_le (by omega) (by omega)) ?_
    refine br_c (fun z => ?_) (fun z => ?_)
    · exact k 1 NH rf (by omega) hN (by rw [z]; decide)
    · exact k 0 NH rf (by omega) hN (fun w => z w.symm)
  | d + 1, i, NH, rf, e, hN => by
    have e2 : (2 : Int32) * nI FR = nI (2 * FR) := pk_mul 2 FR
    refine br_f (by rw [e2]; exact nI_ge (by omega) (by omega)) (nm_r (nI_1 NH) ?_)
    have body : ∀ N2, N2 < FR → wX_chooseVictim_43 post (wX_chooseVictim_2 post pin f1 f2 (nI FR) (nI SL) (nI (FR + SL - 1)) (nI NF) (nI NC) (nI TS) (nI TH) (d + 1)) pin (nI i) (nI NH) f1 f2 (nI FR) (nI SL) (nI (FR + SL - 1)) (nI NF) (nI NC) (nI N2) (nI TS) (nI TH) lv dr fl fe pk pr pp pc W U rf O KP he sz nx pv tm tp tf tw := by
      intro N2 hN2
      unfold wX_chooseVictim_43
      have hv : vp_in (nI NH) 18 := vp_in_nI (by omega) (by omega)
      refine br_c (fun z => nm_r (nI_1 i) ?_) (fun z => ⟨hv, ?_⟩)
      · exact pg_cvl h2 h6 k d (i + 1) N2 rf (by omega) hN2
      · refine br_c (fun w => ?_) (fun w => ⟨hv, nm_e (nm_r (nI_1 i) ?_)⟩)
        · exact k NH N2 rf hN hN2 z
        · exact pg_cvl h2 h6 k d (i + 1) N2 _ (by omega) hN2
    refine br_c (fun z => body (NH + 1) ?_) (fun z => body 0 (by omega))
    rw [nI_ltI (by omega) (by omega)] at z
    exact z
theorem pg_fsl {post : Int32 → Prop} {f1 f2 fr sl lm fc cc hd ts th : Int32} {lv dr fl fe pk pr pp pc W U rf O KP he sz nx pv tm tp tf tw : Nat → Int32} (h12 : SL ≤ 12) (hx : ∃ s, s < SL ∧ U (6 + s) = 0) (k : ∀ s, s < SL → U (6 + s) = 0 → post (nI (6 + s))) : ∀ d s, s + 1 + d = SL → (∀ s', s' < s → U (6 + s') ≠ 0) → wX_freeSlot_5 post f1 f2 fr (nI SL) lm fc cc hd ts th lv dr fl fe pk pr pp pc W U rf O KP he sz nx pv tm tp tf tw (d + 1) (nI (6 + s)) (nI (s + 1))
  | 0, s, e, hs => by
    refine br_t (nI_le (by omega) (by omega)) (k s (by omega) ?_)
    obtain ⟨s0, h0, h1⟩ := hx
    by_cases z : s0 = s
    · rw [← z]; exact h1
    · exact absurd h1 (hs s0 (by omega))
  | d + 1, s, e, hs => by
    refine br_f (nI_ge (by omega) (by omega)) ⟨vp_in_nI (by omega) (by omega), ?_⟩
    rw [nI_clamp (n := 6 + s) (by omega)]
    refine br_c (fun z => k s (by omega) z) (fun z => nm_r (nI_1 (6 + s)) (nm_r (nI_1 (s + 1)) ?_))
    exact pg_fsl (sl := sl) h12 hx k d (s + 1) (by omega) (fun s' h' => by
      by_cases w : s' = s
      · rw [w]; exact z
      · exact hs s' (by omega))
end
section
variable {FR SL NC : Nat} {D : Nat → Nat} {lv K R C P Q W U O KP lb wd : Nat → Int32} {u : SX}
/-- what paging may do to the places: f is free now -/
def pg_pg (f : Nat) (P U P' U' : Nat → Int32) : Prop := U' f = 0 ∧ (∀ q, q < 18 → q ≠ f → U q ≠ 0 → U' q ≠ 0) ∧ ∀ x q, x < 64 → q < 18 → q ≠ f → P x = nI q → P' x = nI q
theorem pg_evict {post : Int32 → SX → Prop} {pin : Int32} (G : pg_GD FR SL lv K R C P Q W U O KP NC) (Y : pg_YL lb wd P W) (hall : ∀ f, f < FR → U f ≠ 0) (k : ∀ f P' Q' W' U' O' KP', f < FR → nI f ≠ pin → pg_pg f P U P' U' → pg_GD FR SL lv K R C P' Q' W' U' O' KP' NC → pg_YL lb wd P' W' → ∀ u', pg_RX FR SL D lv K R C P' Q' W' U' O' KP' NC u' → post (nI f) u') (h : pg_RX FR SL D lv K R C P Q W U O KP NC u) :
    wpX_chooseVictim (fun r_2 u => wpX_freeSlot (fun r_34 => wpX_moveCopy (fun u => post r_2 u) u r_2 r_34) u) u pin := by
  obtain ⟨g1, g2, g3, g4⟩ := G.2.2.2.2.2.2
  refine pg_RXe (Z := fun u0 => wpX_chooseVictim (fun r_2 u => wpX_freeSlot (fun r_34 => wpX_moveCopy (fun u => post r_2 u) u r_2 r_34) u) u0 pin) h ?_
  intro f1 f2 NF NH TS TH dr fl fe pk pr pp pc rf he sz nx pv tm tp tf tw hH T C0 t1 t8 hT L
  refine ⟨2 * FR + 1, pg_cvl (post := fun r_2 u => wpX_freeSlot (fun r_34 => wpX_moveCopy (fun u => post r_2 u) u r_2 r_34) u) (pin := pin) g1 g2 ?_ (2 * FR) 0 NH rf (by omega) hH⟩
  intro f N2 rf' hf hN2 hne
  have hsl : ∃ s, s < SL ∧ U (6 + s) = 0 := by
    apply Classical.byContradiction
    intro hno
    exact pg_GDslot G hall (fun s hs z => hno ⟨s, hs, z⟩)
  refine ⟨SL, ?_⟩
  obtain ⟨d, hd⟩ : ∃ d, SL = d + 1 := ⟨SL - 1, by omega⟩
  have := pg_fsl (post := fun r_34 => wpX_moveCopy (fun u => post (nI f) u) (f1, f2, nI FR, nI SL, nI (FR + SL - 1), nI NF, nI NC, nI N2, nI TS, nI TH, lv, dr, fl, fe, pk, pr, pp, pc, W, U, rf', O, KP, he, sz, nx, pv, tm, tp, tf, tw) (nI f) r_34) (f1 := f1) (f2 := f2) (fr := nI FR) (sl := nI SL) (lm := nI (FR + SL - 1)) (fc := nI NF) (cc := nI NC) (hd := nI N2) (ts := nI TS) (th := nI TH) (lv := lv) (dr := dr) (fl := fl) (fe := fe) (pk := pk) (pr := pr) (pp := pp) (pc := pc) (W := W) (U := U) (rf := rf') (O := O) (KP := KP) (he := he) (sz := sz) (nx := nx) (pv := pv) (tm := tm) (tp := tp) (tf := tf) (tw := tw) g4 hsl ?_ d 0 (by omega) (fun s' h' => absurd h' (by omega))
  · rw [← hd] at this
    exact this
  · intro s hs hUs
    have hUf := hall f hf
    have hfs : f ≠ 6 + s := by omega
    have G' := pg_GDmv G (a := f) (b := 6 + s) (by omega) (by omega) hUf hUs (Or.inr ⟨by omega, by omega⟩)
    have Y' := pg_YLmv G Y (a := f) (b := 6 + s) (by omega) (by omega) hUs
    refine pg_moveCopy (pg_RXi hN2 T C0 t1 t8 hT L) G (a := f) (b := 6 + s) (by omega) (by omega) hUf hUs ?_
    refine k f _ _ _ _ _ _ hf hne ⟨pg_us, ?_, ?_⟩ G' Y'
    · intro q hq hqf hU
      have : q ≠ 6 + s := fun z => hU (by rw [z]; exact hUs)
      rw [pg_un hqf, pg_un this]; exact hU
    · intro x q hx hq hqf e
      dsimp only
      rw [if_neg]
      · exact e
      · rw [pg_GDq G hx (by omega), e, nI_eq (by omega) (by omega)]; exact hqf
theorem pg_takeFrame {post : Int32 → SX → Prop} {pin : Int32} (h : pg_RX FR SL D lv K R C P Q W U O KP NC u) (G : pg_GD FR SL lv K R C P Q W U O KP NC) (Y : pg_YL lb wd P W) (hpin : ∀ q, q < 18 → pin = nI q → U q ≠ 0) (k : ∀ f P' Q' W' U' O' KP', f < FR → nI f ≠ pin → pg_pg f P U P' U' → pg_GD FR SL lv K R C P' Q' W' U' O' KP' NC → pg_YL lb wd P' W' → ∀ u', pg_RX FR SL D lv K R C P' Q' W' U' O' KP' NC u' → post (nI f) u') : wpX_takeFrame post u pin := by
  obtain ⟨g1, g2, g3, g4⟩ := G.2.2.2.2.2.2
  refine pg_RXe (Z := fun u0 => wpX_takeFrame post u0 pin) h ?_
  intro f1 f2 NF NH TS TH dr fl fe pk pr pp pc rf he sz nx pv tm tp tf tw hH T C0 t1 t8 hT L
  have hR : pg_RX FR SL D lv K R C P Q W U O KP NC (f1, f2, nI FR, nI SL, nI (FR + SL - 1), nI NF, nI NC, nI NH, nI TS, nI TH, lv, dr, fl, fe, pk, pr, pp, pc, W, U, rf, O, KP, he, sz, nx, pv, tm, tp, tf, tw) := pg_RXi hH T C0 t1 t8 hT L
  suffices H : ∀ d i, i + d = FR → (∀ f, f < i → U f ≠ 0) → wX_takeFrame_2 post pin f1 f2 (nI FR) (nI SL) (nI (FR + SL - 1)) (nI NF) (nI NC) (nI NH) (nI TS) (nI TH) lv dr fl fe pk pr pp pc W U rf O KP he sz nx pv tm tp tf tw (d + 1) (nI i) from ⟨FR + 1, H FR 0 (by omega) (fun f hf => absurd hf (by omega))⟩
  intro d
  induction d with
  | zero =>
    intro i e hi
    refine br_t (nI_le (by omega) (by omega)) ?_
    exact pg_evict G Y (fun f hf => hi f (by omega)) k hR
  | succ d ih =>
    intro i e hi
    refine br_f (nI_ge (by omega) (by omega)) ⟨vp_in_nI (by omega) (by omega), ?_⟩
    rw [nI_clamp (n := i) (by omega)]
    refine br_c (fun z => ?_) (fun z => nm_r (nI_1 i) ?_)
    · refine k i P Q W U O KP (by omega) (fun w => hpin i (by omega) w.symm z) ⟨z, fun _ _ _ w => w, fun _ _ _ _ _ w => w⟩ G Y _ hR
    · exact ih (i + 1) (by omega) (fun f hf => by
        by_cases w : f = i
        · rw [w]; exact z
        · exact hi f (by omega))
theorem pg_pageIn {post : Int32 → SX → Prop} (h : pg_RX FR SL D lv K R C P Q W U O KP NC u) (G : pg_GD FR SL lv K R C P Q W U O KP NC) (Y : pg_YL lb wd P W) {m q : Nat} (hm : m < 64) (hq : q < 18) (hP : P m = nI q) (k : ∀ f P' Q' W' U' O' KP', f < FR → P' m = nI f → pg_GD FR SL lv K R C P' Q' W' U' O' KP' NC → pg_YL lb wd P' W' → ∀ u', pg_RX FR SL D lv K R C P' Q' W' U' O' KP' NC u' → post (nI f) u') : wpX_pageIn post u (nI q) := by
  obtain ⟨g1, g2, g3, g4⟩ := G.2.2.2.2.2.2
  have hU := pg_GDu G hm hq hP
  have hv := (G.2.1 q hq hU).1
  revert h
  refine pg_sx (Z := fun u => pg_RX FR SL D lv K R C P Q W U O KP NC u → wpX_pageIn post u (nI q)) ?_ u
  intro f1 f2 fr sl lm fc cc hd ts th lv' dr fl fe pk pr pp pc W' U' rf O' KP' he sz nx pv tm tp tf tw h
  refine pk_le 6 q (fun h6 => ?_) (fun h6 => ?_)
  · refine pg_takeFrame h G Y (fun q' hq' z => absurd z (pg_mn (by omega))) ?_
    intro f P1 Q1 W1 U1 O1 KP1 hf _ hpg G1 Y1
    refine pg_sx ?_
    intro f1 f2 fr sl lm fc cc hd ts th lv' dr fl fe pk pr pp pc W' U' rf O' KP' he sz nx pv tm tp tf tw h1
    have hqf : q ≠ f := by omega
    have hP1 := hpg.2.2 m q hm hq hqf hP
    refine pg_moveCopy h1 G1 (a := q) (b := f) hq (by omega) (hpg.2.1 q hq hqf hU) hpg.1 ?_
    refine pg_sx ?_
    intro f1 f2 fr sl lm fc cc hd ts th lv' dr fl fe pk pr pp pc W' U' rf O' KP' he sz nx pv tm tp tf tw h2
    have G2 := pg_GDmv G1 (a := q) (b := f) hq (by omega) (hpg.2.1 q hq hqf hU) hpg.1 (Or.inl hf)
    have Y2 := pg_YLmv G1 Y1 (a := q) (b := f) hq (by omega) hpg.1
    exact k f _ _ _ _ _ _ hf (if_pos ((pg_GDq G1 hm hq).2 hP1)) G2 Y2 _ h2
  · exact k q P Q W U O KP (by omega) hP G Y _ h
end
end
section
section
variable {f1 f2 fr sl lm fc cc hd ts th : Int32} {lv dr fl fe pk pr pp pc W U rf O KP he sz nx pv tm tp tf tw : Nat → Int32}
theorem pg_ncS {post : Int32 → SX → Prop} {f j n : Nat} (hf : f < 18) (hj : j < 4) (k : wX_newCopy_49 post (nI f) f1 f2 fr sl lm fc cc hd ts th n (nI (j + 1)) lv dr fl fe pk pr pp pc (upd W (4 * f + j) 0) U rf O KP he sz nx pv tm tp tf tw) : wX_newCopy_49 post (nI f) f1 f2 fr sl lm fc cc hd ts th (n + 1) (nI j) lv dr fl fe pk pr pp pc W U rf O KP he sz nx pv tm tp tf tw := by
  refine br_f (nI_ge (b := 4) hj (by decide)) ?_
  rw [pg_t4, nI_clamp (n := 4 * f + j) (by omega)]
  exact ⟨vp_in_nI (by omega) (by omega), nm_e (nm_r (nI_1 j) k)⟩
theorem pg_ncL {post : Int32 → SX → Prop} {f N : Nat} (hf : f < 18) (k : post (nI f) (f1, f2, fr, sl, lm, fc, nI (N + 1), hd, ts, th, lv, dr, fl, fe, pk, pr, pp, pc, pg_w4 W f (fun _ => 0), U, rf, O, KP, he, sz, nx, pv, tm, tp, tf, tw)) : wX_newCopy_49 post (nI f) f1 f2 fr sl lm fc (nI N) hd ts th 5 0 lv dr fl fe pk pr pp pc W U rf O KP he sz nx pv tm tp tf tw := by
  refine pg_ncS (j := 0) hf (by omega) (pg_ncS (j := 1) hf (by omega) (pg_ncS (j := 2) hf (by omega) (pg_ncS (j := 3) hf (by omega) ?_)))
  refine br_t (show (4 : Int32) ≤ nI 4 by decide) (nm_r (nI_1 N) ?_)
  have e := pg_w4u (W := W) (g := fun _ => 0) (b := f) (x0 := 0) (x1 := 0) (x2 := 0) (x3 := 0) rfl rfl rfl rfl
  rw [← e] at k
  exact k
theorem pg_te44 {post : SX → Prop} {m p q t : Nat} (hp : p < 64) (hq : q < 26) (ht : t < 8) (k : ∀ b, (b ≠ 0 → pr p = 2 ∧ (2 ≤ pk p ∨ sz q = 1)) → post (f1, f2, fr, sl, lm, fc, cc, hd, ts, th, lv, dr, fl, fe, pk, pr, pp, pc, W, U, rf, O, KP, he, sz, nx, pv, upd tm t (nI m), upd tp t (nI p), upd tf t (nI q), upd tw t b)) : wX_tlbEnter_44 post (nI m) (nI p) (nI q) (nI t) f1 f2 fr sl lm fc cc hd ts th lv dr fl fe pk pr pp pc W U rf O KP he sz nx pv tm tp tf tw := by
  unfold wX_tlbEnter_44
  have hpv : vp_in (nI p) 64 := vp_in_nI hp (by omega)
  have hqv : vp_in (nI q) 26 := vp_in_nI hq (by omega)
  have htv : vp_in (nI t) 8 := vp_in_nI ht (by omega)
  have t93 : ∀ z0, (z0 ≠ 0 → 2 ≤ pk p ∨ sz q = 1) → wX_tlbEnter_93 post (nI p) (nI t) z0 f1 f2 fr sl lm fc cc hd ts th lv dr fl fe pk pr pp pc W U rf O KP he sz nx pv (upd tm t (nI m)) (upd tp t (nI p)) (upd tf t (nI q)) tw := by
    intro z0 hz
    unfold wX_tlbEnter_93
    rw [nI_clamp (n := t) (by omega), nI_clamp (n := p) (by omega), pg_b0, pg_b1]
    refine br_c (fun _ => ⟨htv, nm_e (k 0 (fun z => absurd rfl z))⟩) (fun z => ⟨hpv, br_c (fun e => ⟨htv, nm_e (k 1 (fun _ => ⟨e, hz z⟩))⟩) (fun _ => ⟨htv, nm_e (k 0 (fun z => absurd rfl z))⟩)⟩)
  rw [nI_clamp (n := t) (by omega), nI_clamp (n := p) (by omega), nI_clamp (n := q) (by omega)]
  refine ⟨htv, nm_e ⟨htv, nm_e ⟨htv, nm_e ⟨hpv, br_c (fun e => ?_) (fun e => ⟨hqv, br_c (fun e2 => ?_) (fun e2 => ?_)⟩)⟩⟩⟩⟩
  · unfold wX_tlbEnter_88
    exact t93 1 (fun _ => Or.inl e)
  · unfold wX_tlbEnter_88
    exact t93 1 (fun _ => Or.inr e2)
  · exact t93 0 (fun z => absurd rfl z)
end
section
variable {FR TS : Nat} {D : Nat → Nat} {K R P Q tm tp tf tw : Nat → Int32}
theorem pg_TLe (L : pg_TL (fun _ => False) FR TS D K R P Q tm tp tf tw) {m t0 : Nat} {x y b : Int32} (ht : t0 < TS) (hm : m < 64) (hs : tm t0 = nI m ∨ ∀ t, t < TS → tm t ≠ nI m) (te : pg_TE FR D K R P Q x y b m) : pg_TL (fun _ => False) FR TS D K R P Q (upd tm t0 (nI m)) (upd tp t0 x) (upd tf t0 y) (upd tw t0 b) := by
  have key : ∀ t, t < TS → tm t = nI m → t = t0 := by
    intro t h e
    rcases hs with z | z
    · exact L.2 t t0 m h ht hm e z
    · exact absurd e (z t h)
  refine ⟨?_, ?_⟩
  · intro t h
    by_cases e : t = t0
    · subst e
      exact Or.inr ⟨m, hm, pg_us, fun _ => by rw [pg_us, pg_us, pg_us]; exact te⟩
    · rw [pg_un e, pg_un e, pg_un e, pg_un e]; exact L.1 t h
  · intro t t' m' h h' hm' e1 e2
    by_cases z1 : t = t0
    · by_cases z2 : t' = t0
      · rw [z1, z2]
      · rw [z1, pg_us, nI_eq (by omega) (by omega)] at e1
        rw [pg_un z2, ← e1] at e2
        exact absurd (key t' h' e2) z2
    · by_cases z2 : t' = t0
      · rw [z2, pg_us, nI_eq (by omega) (by omega)] at e2
        rw [pg_un z1, ← e2] at e1
        exact absurd (key t h e1) z1
      · rw [pg_un z1] at e1; rw [pg_un z2] at e2
        exact L.2 t t' m' h h' hm' e1 e2
end
section
variable {FR SL NC : Nat} {D : Nat → Nat} {lv K R C P Q W U O KP lb wd : Nat → Int32} {u : SX}
theorem pg_tlbEnter {post : SX → Prop} (h : pg_RX FR SL D lv K R C P Q W U O KP NC u) (hFR : FR ≤ 6) {m q : Nat} (hm : m < 64) (hK : K m ≠ 0) (hR0 : R m ≠ 0) (hq : q < FR) (hP : P m = nI q) (hQ : Q m = nI q) (k : ∀ u', pg_RX FR SL D lv K R C P Q W U O KP NC u' → post u') : wpX_tlbEnter post u (nI m) (nI (pg_pt D m)) (nI q) := by
  refine pg_RXe (Z := fun u => wpX_tlbEnter post u (nI m) (nI (pg_pt D m)) (nI q)) h ?_
  intro f1 f2 NF NH TS TH dr fl fe pk pr pp pc rf he sz nx pv tm tp tf tw hH T C0 t1 t8 hT L
  obtain ⟨d1, d2, hp, e1, e2, e3, e4⟩ := pg_TBm T hm hK
  have hsz := pg_CHsz C0 (c := q) (by omega)
  have hle := pg_cn_le (fun x => decide (Q x = nI q)) 64
  have TE : ∀ b, (b ≠ 0 → pr (pg_pt D m) = 2 ∧ (2 ≤ pk (pg_pt D m) ∨ sz q = 1)) → pg_TE FR D K R P Q (nI (pg_pt D m)) (nI q) b m := by
    intro b hb
    refine ⟨hK, hR0, rfl, hP.symm, ⟨q, hq, hP⟩, ⟨q, by omega, hQ⟩, ?_⟩
    intro hb0
    rw [e2, e1] at hb
    refine ⟨(hb hb0).1, ?_⟩
    rcases (hb hb0).2 with z | z
    · left
      intro w
      rw [w] at z
      exact absurd z (by decide)
    · right
      rw [hsz, show (1 : Int32) = nI 1 from rfl, nI_eq (by omega) (by omega)] at z
      rw [hQ]
      exact z
  unfold wpX_tlbEnter
  dsimp only
  refine pg_tlbFindR t8 ?_ ?_
  · intro t ht e
    refine br_t (nI_pos' (by omega)) (pg_te44 hp (by omega) (by omega) ?_)
    intro b hb
    exact k _ (pg_RXi hH T C0 t1 t8 hT (pg_TLe L ht hm (Or.inl e) (TE b hb)))
  · intro hn
    refine br_f (by decide) (nm_r (nI_1 TH) (br_c (fun z => ?_) (fun z => ?_)))
    · rw [nI_ltI (by omega) (by omega)] at z
      refine pg_te44 hp (by omega) (by omega) ?_
      intro b hb
      exact k _ (pg_RXi hH T C0 t1 t8 z (pg_TLe L hT hm (Or.inr hn) (TE b hb)))
    · refine pg_te44 hp (by omega) (by omega) ?_
      intro b hb
      exact k _ (pg_RXi (TH := 0) hH T C0 t1 t8 (by omega) (pg_TLe L hT hm (Or.inr hn) (TE b hb)))
theorem pg_newCopy {post : Int32 → SX → Prop} {pin : Int32} (h : pg_RX FR SL D lv K R C P Q W U O KP NC u) (G : pg_GD FR SL lv K R C P Q W U O KP NC) (Y : pg_YL lb wd P W) (hpin : ∀ q, q < 18 → pin = nI q → U q ≠ 0) (k0 : ¬ NC < FR + SL - 1 → ∀ u', pg_RX FR SL D lv K R C P Q W U O KP NC u' → post (-1) u')
    (k1 : NC < FR + SL - 1 → ∀ f P' Q' W' U' O' KP', f < FR → nI f ≠ pin → pg_pg f P U P' U' → pg_GD FR SL lv K R C P' Q' W' U' O' KP' NC → pg_YL lb wd P' W' → ∀ u', pg_RX FR SL D lv K R C P' Q' (pg_w4 W' f (fun _ => 0)) (upd U' f 1) (upd O' f (-1)) KP' (NC + 1) u' → post (nI f) u') : wpX_newCopy post u pin := by
  obtain ⟨g1, g2, g3, g4⟩ := G.2.2.2.2.2.2
  have hNC := G.2.2.2.2.1.2
  refine pg_RXe (Z := fun u0 => wpX_newCopy post u0 pin) h ?_
  intro f1 f2 NF NH TS TH dr fl fe pk pr pp pc rf he sz nx pv tm tp tf tw hH T C0 t1 t8 hT L
  refine pk_lt NC (FR + SL - 1) (fun hl => ?_) (fun hl => ?_)
  · refine pg_takeFrame (pg_RXi hH T C0 t1 t8 hT L) G Y hpin ?_
    intro f P1 Q1 W1 U1 O1 KP1 hf hne hpg G1 Y1
    have hk := k1 hl f P1 Q1 W1 U1 O1 KP1 hf hne hpg G1 Y1
    refine pg_RXa ?_
    intro f1 f2 NF NH TS TH dr fl fe pk pr pp pc rf he sz nx pv tm tp tf tw hH T C0 t1 t8 hT L
    dsimp only
    have hv : vp_in (nI f) 18 := vp_in_nI (by omega) (by omega)
    have hv2 : vp_in (nI f) 26 := vp_in_nI (by omega) (by omega)
    rw [nI_clamp (n := f) (by omega), pg_b1]
    have hnone : ∀ x, x < 64 → Q1 x ≠ nI f := by
      intro x hx z
      exact pg_GDu G1 hx (q := f) (by omega) ((pg_GDq G1 hx (by omega)).1 z) hpg.1
    have ehe : he f = -1 := by
      rcases pg_CHhe C0 (c := f) (by omega) with ⟨z, _⟩ | ⟨y, hy, _, z⟩
      · exact z
      · exact absurd z (hnone y hy)
    have esz : sz f = 0 := by
      rw [pg_CHsz C0 (c := f) (by omega), pg_cn_zero (fun i hi => decide_eq_false (hnone i hi))]
      rfl
    rw [pg_uself ehe, pg_uself esz]
    exact ⟨hv, nm_e ⟨hv, nm_e ⟨hv2, nm_e ⟨hv2, nm_e ⟨5, pg_ncL (by omega) (hk _ (pg_RXi hH T C0 t1 t8 hT L))⟩⟩⟩⟩⟩
  · exact k0 (by omega) _ (pg_RXi hH T C0 t1 t8 hT L)
/-- pure: labels and words behind a write fault -/
theorem pg_YLown {lb' W' : Nat → Int32} (G : pg_GD FR SL lv K R C P Q W U O KP NC) (Y : pg_YL lb wd P W) {m f : Nat} {fr : Int32} (hm : m < 64) (hf : f < 18) (hU : U f = 0) (hfr : fr ≠ 0) (hfr2 : ∀ x, x < 64 → lb x ≠ fr) (hl : lb' m = fr ∧ ∀ x, x < 64 → x ≠ m → lb' x = lb x) (hW : ∀ j, j < 4 → W' (4 * f + j) = wd (4 * m + j)) (hW2 : ∀ q j, q < 18 → j < 4 → q ≠ f → W' (4 * q + j) = W (4 * q + j)) : pg_YL lb' wd (upd P m (nI f)) W' := by
  have nf : ∀ x, x < 64 → P x ≠ nI f := fun x hx e => pg_GDu G hx hf e hU
  have nfm : nI f ≠ -1 := pg_nm (by omega)
  refine ⟨⟨?_, ?_⟩, ?_⟩
  · intro x hx
    by_cases e : x = m
    · subst e; rw [pg_us, hl.1]; exact ⟨fun z => absurd z hfr, fun z => absurd z nfm⟩
    · rw [pg_un e, hl.2 x hx e]; exact Y.1.1 x hx
  · intro x y hx hy
    by_cases e : x = m <;> by_cases e2 : y = m
    · subst e; subst e2; exact ⟨fun _ => rfl, fun _ => rfl⟩
    · subst e; rw [pg_us, pg_un e2, hl.1, hl.2 y hy e2]
      exact ⟨fun z => absurd z.symm (hfr2 y hy), fun z => absurd z.symm (nf y hy)⟩
    · subst e2; rw [pg_us, pg_un e, hl.1, hl.2 x hx e]
      exact ⟨fun z => absurd z (hfr2 x hx), fun z => absurd z (nf x hx)⟩
    · rw [pg_un e, pg_un e2, hl.2 x hx e, hl.2 y hy e2]; exact Y.1.2 x y hx hy
  · intro x hx
    by_cases e : x = m
    · subst e
      rw [pg_us]
      refine ⟨fun z => absurd z nfm, ?_⟩
      intro q hq z j hj
      rw [nI_eq (by omega) (by omega)] at z
      rw [← z, hW j hj]
    · rw [pg_un e]
      refine ⟨(Y.2 x hx).1, ?_⟩
      intro q hq z j hj
      rw [hW2 q j hq hj (fun w => nf x hx (by rw [z, w]))]
      exact (Y.2 x hx).2 q hq z j hj
theorem pg_YLshf {lb' W' : Nat → Int32} (G : pg_GD FR SL lv K R C P Q W U O KP NC) (Y : pg_YL lb wd P W) {f k : Nat} {fr : Int32} (hf : f < 18) (hU : U f = 0) (hk : k < 8) (hB : KP k = -1) (hfr : fr ≠ 0) (hfr2 : ∀ x, x < 64 → lb x ≠ fr) (hl : ∀ x, x < 64 → (K x = nI (k + 2) → lb' x = fr) ∧ (K x ≠ nI (k + 2) → lb' x = lb x)) (hW : ∀ j, j < 4 → W' (4 * f + j) = 0) (hW2 : ∀ q j, q < 18 → j < 4 → q ≠ f → W' (4 * q + j) = W (4 * q + j)) : pg_YL lb' wd (fun x => if Q x = nI (18 + k) then nI f else P x) W' := by
  have nf : ∀ x, x < 64 → P x ≠ nI f := fun x hx e => pg_GDu G hx hf e hU
  have nfm : nI f ≠ -1 := pg_nm (by omega)
  have pw : ∀ x, x < 64 → (K x = nI (k + 2) ∧ P x = -1 ∧ lb' x = fr ∧ (if Q x = nI (18 + k) then nI f else P x) = nI f) ∨ (lb' x = lb x ∧ (if Q x = nI (18 + k) then nI f else P x) = P x) := by
    intro x hx
    by_cases e : K x = nI (k + 2)
    · exact Or.inl ⟨e, by rw [(G.1 x hx).2.2.2.2.2 k hk e, hB], (hl x hx).1 e, if_pos ((pg_GDq2 G hx hk hB).2 e)⟩
    · exact Or.inr ⟨(hl x hx).2 e, if_neg (fun z => e ((pg_GDq2 G hx hk hB).1 z))⟩
  refine ⟨⟨?_, ?_⟩, ?_⟩
  · intro x hx
    dsimp only
    rcases pw x hx with ⟨a1, a2, a3, a4⟩ | ⟨a3, a4⟩
    · rw [a3, a4]; exact ⟨fun z => absurd z hfr, fun z => absurd z nfm⟩
    · rw [a3, a4]; exact Y.1.1 x hx
  · intro x y hx hy
    dsimp only
    rcases pw x hx with ⟨a1, a2, a3, a4⟩ | ⟨a3, a4⟩ <;> rcases pw y hy with ⟨b1, b2, b3, b4⟩ | ⟨b3, b4⟩
    · rw [a3, a4, b3, b4]; exact ⟨fun _ => rfl, fun _ => rfl⟩
    · rw [a3, a4, b3, b4]; exact ⟨fun z => absurd z.symm (hfr2 y hy), fun z => absurd z.symm (nf y hy)⟩
    · rw [a3, a4, b3, b4]; exact ⟨fun z => absurd z (hfr2 x hx), fun z => absurd z (nf x hx)⟩
    · rw [a3, a4, b3, b4]; exact Y.1.2 x y hx hy
  · intro x hx
    dsimp only
    rcases pw x hx with ⟨a1, a2, a3, a4⟩ | ⟨a3, a4⟩
    · rw [a4]
      refine ⟨fun z => absurd z nfm, ?_⟩
      intro q hq z j hj
      rw [nI_eq (by omega) (by omega)] at z
      rw [← z, hW j hj]
      exact (Y.2 x hx).1 a2 j hj
    · rw [a4]
      refine ⟨(Y.2 x hx).1, ?_⟩
      intro q hq z j hj
      rw [hW2 q j hq hj (fun w => nf x hx (by rw [z, w]))]
      exact (Y.2 x hx).2 q hq z j hj
/-- the mappings that a store through m reaches -/
def pg_hit (K : Nat → Int32) (m x : Nat) : Prop := x = m ∨ (K m ≠ 1 ∧ K x = K m)
theorem pg_hitP (G : pg_GD FR SL lv K R C P Q W U O KP NC) {m f : Nat} (hm : m < 64) (hf : f < 18) (hP : P m = nI f) (hal : K m = 1 → ∀ x, x < 64 → x ≠ m → P x ≠ nI f) {x : Nat} (hx : x < 64) : pg_hit K m x ↔ P x = nI f := by
  have hK : K m ≠ 0 := by
    intro z
    have := ((G.1 m hm).2.2.1 z).2.2
    rw [hP] at this; exact pg_nm (by omega) this
  constructor
  · rintro (z | ⟨z1, z2⟩)
    · rw [z]; exact hP
    · obtain ⟨k, hk, e1, e2⟩ := pg_GDs G hm hK z1
      rw [(G.1 x hx).2.2.2.2.2 k hk (by rw [z2, e1]), ← e2, hP]
  · intro z
    by_cases e : K m = 1
    · left
      apply Classical.byContradiction
      intro w
      exact hal e x hx w z
    · right
      refine ⟨e, ?_⟩
      obtain ⟨k, hk, e1, e2⟩ := pg_GDs G hm hK e
      have hO := (pg_GDkq G hk hf (by rw [← e2, hP])).2
      have hKx : K x ≠ 0 := by
        intro w
        have := ((G.1 x hx).2.2.1 w).2.2
        rw [z] at this; exact pg_nm (by omega) this
      have hKx1 : K x ≠ 1 := by
        intro w
        have := pg_GDo G hx hf z w
        rw [hO] at this; exact pg_nm (by omega) this
      obtain ⟨k', hk', e3, e4⟩ := pg_GDs G hx hKx hKx1
      have hO' := (pg_GDkq G hk' hf (by rw [← e4, z])).2
      rw [hO, nI_eq (by omega) (by omega)] at hO'
      rw [e3, e1, hO']
theorem pg_YLwr {wd' : Nat → Int32} (G : pg_GD FR SL lv K R C P Q W U O KP NC) (Y : pg_YL lb wd P W) {m f w : Nat} {v : Int32} (hm : m < 64) (hf : f < 18) (hw : w < 4) (hP : P m = nI f) (hal : K m = 1 → ∀ x, x < 64 → x ≠ m → P x ≠ nI f) (hd : ∀ x j, x < 64 → j < 4 → ((pg_hit K m x ∧ j = w) → wd' (4 * x + j) = v) ∧ (¬ (pg_hit K m x ∧ j = w) → wd' (4 * x + j) = wd (4 * x + j))) : pg_YL lb wd' P (upd W (4 * f + w) v) := by
  refine ⟨Y.1, ?_⟩
  intro x hx
  have hh := pg_hitP G hm hf hP hal hx
  constructor
  · intro z j hj
    rw [(hd x j hx hj).2 (fun w' => by rw [hh, z] at w'; exact pg_mn (by omega) w'.1)]
    exact (Y.2 x hx).1 z j hj
  · intro q hq z j hj
    by_cases e : pg_hit K m x ∧ j = w
    · rw [(hd x j hx hj).1 e]
      have := hh.1 e.1
      rw [z, nI_eq (by omega) (by omega)] at this
      rw [this, e.2, pg_us]
    · rw [(hd x j hx hj).2 e, pg_un]
      · exact (Y.2 x hx).2 q hq z j hj
      · intro w'
        apply e
        have : q = f := by omega
        exact ⟨hh.2 (by rw [z, this]), by omega⟩
end
end
section
section
variable {FR SL NC : Nat} {D : Nat → Nat} {lv K R C P Q W U O KP lb wd : Nat → Int32} {u : SX}
/-- what a write fault leaves, with labels lb' -/
def pg_wf (FR SL : Nat) (D : Nat → Nat) (lv K R C lb' wd : Nat → Int32) (m : Nat) (post : Int32 → SX → Prop) : Prop :=
  ∀ f P' Q' W' U' O' KP' NC', f < FR → P' m = nI f → (K m = 1 → ∀ x, x < 64 → x ≠ m → P' x ≠ nI f) → pg_GD FR SL lv K R C P' Q' W' U' O' KP' NC' → pg_YL lb' wd P' W' → ∀ u', pg_RX FR SL D lv K R C P' Q' W' U' O' KP' NC' u' → post (nI f) u'
theorem pg_w4r {W' : Nat → Int32} {f : Nat} {g : Nat → Int32} (hW : ∀ i, i < 72 → ∃ w, w < 65536 ∧ W' i = nI w) (hg : ∀ j, j < 4 → ∃ w, w < 65536 ∧ g j = nI w) : ∀ i, i < 72 → ∃ w, w < 65536 ∧ pg_w4 W' f g i = nI w := by
  intro i hi
  unfold pg_w4
  split
  · exact hg _ (by omega)
  · exact hW i hi
theorem pg_firstCopy {post : Int32 → SX → Prop} {lb' : Nat → Int32} (h : pg_RX FR SL D lv K R C P Q W U O KP NC u) (G : pg_GD FR SL lv K R C P Q W U O KP NC) (Y : pg_YL lb wd P W) {m : Nat} (hm : m < 64) (hK : K m ≠ 0) (hP : P m = -1) {fr : Int32} (hfr : fr ≠ 0) (hfr2 : ∀ x, x < 64 → lb x ≠ fr)
    (hl : NC < FR + SL - 1 → ∀ x, x < 64 → (pg_hit K m x → lb' x = fr) ∧ (¬ pg_hit K m x → lb' x = lb x)) (k0 : ¬ NC < FR + SL - 1 → ∀ u', pg_RX FR SL D lv K R C P Q W U O KP NC u' → post (-1) u') (k : NC < FR + SL - 1 → pg_wf FR SL D lv K R C lb' wd m post) : wpX_firstCopy post u (nI m) (nI (pg_pt D m)) := by
  obtain ⟨g1, g2, g3, g4⟩ := G.2.2.2.2.2.2
  revert h
  refine pg_sx (Z := fun u => pg_RX FR SL D lv K R C P Q W U O KP NC u → wpX_firstCopy post u (nI m) (nI (pg_pt D m))) ?_ u
  intro f1 f2 fr sl lm fc cc hd ts th lv' dr fl fe pk pr pp pc W' U' rf O' KP' he sz nx pv tm tp tf tw h
  unfold wpX_firstCopy
  dsimp only
  refine pg_newCopy h G Y (fun q hq z => absurd z (pg_mn (by omega))) ?_ ?_
  · intro hn
    refine pg_sx ?_
    intro f1 f2 fr sl lm fc cc hd ts th lv' dr fl fe pk pr pp pc W' U' rf O' KP' he sz nx pv tm tp tf tw h1
    exact br_f (by decide) (k0 hn _ h1)
  · intro hlt f P1 Q1 W1 U1 O1 KP1 hf _ hpg G1 Y1
    have hlb := hl hlt
    have hP1 : P1 m = -1 := (Y1.1.1 m hm).1 ((Y.1.1 m hm).2 hP)
    have hQ1 := (G1.1 m hm).2.2.2.1
    have hWr := pg_w4r (f := f) (g := fun _ => 0) G1.2.2.2.1 (fun j _ => ⟨0, by omega, rfl⟩)
    refine pg_RXa ?_
    intro f1 f2 NF NH TS TH dr fl fe pk pr pp pc rf he sz nx pv tm tp tf tw hH T C0 t1 t8 hT L
    obtain ⟨d1, d2, hp, e1, e2, e3, e4⟩ := pg_TBm T hm hK
    have hpv : vp_in (nI (pg_pt D m)) 64 := vp_in_nI hp (by omega)
    dsimp only
    refine br_t (nI_pos' (by omega)) ⟨hpv, ?_⟩
    rw [nI_clamp (n := pg_pt D m) (by omega), e1]
    by_cases hK1 : K m = 1
    · refine br_t hK1 ?_
      rw [hP1, hK1, pg_chn_1] at hQ1
      refine pg_join (pg_RXi hH T C0 t1 t8 hT L) g2 hm hK hP1 hQ1 (Or.inr ⟨f, by omega, pg_chn_p _ (by omega)⟩) ?_
      rw [pg_chn_p _ (by omega)]
      refine pg_sx ?_
      intro f1 f2 fr sl lm fc cc hd ts th lv' dr fl fe pk pr pp pc W' U' rf O' KP' he sz nx pv tm tp tf tw h2
      have nf : ∀ x, x < 64 → P1 x ≠ nI f := fun x hx e => pg_GDu G1 hx (q := f) (by omega) e hpg.1
      refine k hlt f _ _ _ _ _ _ _ hf pg_us (fun _ x hx hne => by rw [pg_un hne]; exact nf x hx) (pg_GDown G1 hm hf hpg.1 hK1 hlt (fun q hq z => ?_) hWr) (pg_YLown G1 Y1 hm (by omega) hpg.1 hfr hfr2 ⟨(hlb m hm).1 (Or.inl rfl), fun x hx hne => (hlb x hx).2 ?_⟩ ?_ ?_) _ h2
      · rw [hP1] at z; exact absurd z (pg_mn (by omega))
      · rintro (z | z)
        · exact hne z
        · exact z.1 hK1
      · intro j hj
        rw [pg_w4s hj]
        exact ((Y1.2 m hm).1 hP1 j hj).symm
      · intro q j hq hj hqf
        exact pg_w4n hj hqf
    · obtain ⟨k', hk', eK, eP⟩ := pg_GDs G1 hm hK hK1
      have hB : KP1 k' = -1 := by rw [← eP, hP1]
      have ek : K m - 2 = nI k' := by
        rw [eK, show (2 : Int32) = nI 2 from rfl, pk_sub (by omega)]
        rfl
      have e18 : (18 : Int32) + nI k' = nI (18 + k') := nI_add 18 k'
      refine br_f hK1 ⟨hpv, nm_r ek ?_⟩
      rw [e18, nI_clamp (n := f) (by omega), nI_clamp (n := k') (by omega), pg_uu]
      refine ⟨vp_in_nI (by omega) (by omega), nm_e ⟨vp_in_nI hk' (by omega), nm_e ?_⟩⟩
      refine pg_moveChain (D := D) (K := K) (R := R) (C := C) (P := P1) (Q := Q1) (NC := NC + 1) (pg_RXi hH T C0 t1 t8 hT L) (by omega) (by omega) (by omega) ?_ ?_ ?_
      · intro x hx z
        exact pg_GDu G1 hx (q := f) (by omega) ((pg_GDq G1 hx (by omega)).1 z) hpg.1
      · intro x hx z
        rw [(pg_GDq2 G1 hx hk' hB).1 z]
        exact nI_ne0 (by omega) (by omega)
      · refine pg_sx ?_
        intro f1 f2 fr sl lm fc cc hd ts th lv' dr fl fe pk pr pp pc W' U' rf O' KP' he sz nx pv tm tp tf tw h2
        refine k hlt f _ _ _ _ _ _ _ hf (if_pos ((pg_GDq2 G1 hm hk' hB).2 eK)) (fun z => absurd z hK1) (pg_GDshf G1 hm hf hpg.1 hk' eK hB hlt hWr) (pg_YLshf G1 Y1 (by omega) hpg.1 hk' hB hfr hfr2 ?_ ?_ ?_) _ h2
        · intro x hx
          refine ⟨fun z => (hlb x hx).1 (Or.inr ⟨hK1, by rw [z, eK]⟩), fun z => (hlb x hx).2 ?_⟩
          rintro (w | w)
          · exact z (by rw [w, eK])
          · exact z (by rw [w.2, eK])
        · intro j hj
          exact pg_w4s hj
        · intro q j hq hj hqf
          exact pg_w4n hj hqf
theorem pg_ownCopy {post : Int32 → SX → Prop} {lb' : Nat → Int32} (h : pg_RX FR SL D lv K R C P Q W U O KP NC u) (G : pg_GD FR SL lv K R C P Q W U O KP NC) (Y : pg_YL lb wd P W) {m q : Nat} (hm : m < 64) (hK : K m = 1) (hq : q < 18) (hP : P m = nI q) (ho : ∃ x, x < 64 ∧ x ≠ m ∧ P x = P m) {fr : Int32} (hfr : fr ≠ 0) (hfr2 : ∀ x, x < 64 → lb x ≠ fr)
    (hl : NC < FR + SL - 1 → ∀ x, x < 64 → (pg_hit K m x → lb' x = fr) ∧ (¬ pg_hit K m x → lb' x = lb x)) (k0 : ¬ NC < FR + SL - 1 → ∀ u', pg_RX FR SL D lv K R C P Q W U O KP NC u' → post (-1) u') (k : NC < FR + SL - 1 → pg_wf FR SL D lv K R C lb' wd m post) : wpX_ownCopy post u (nI m) (nI (pg_pt D m)) := by
  obtain ⟨g1, g2, g3, g4⟩ := G.2.2.2.2.2.2
  have hNC := G.2.2.2.2.1.2
  have hK0 : K m ≠ 0 := by rw [hK]; decide
  obtain ⟨x0, hx0, hxm, hxP⟩ := ho
  refine pg_RXe (Z := fun u0 => wpX_ownCopy post u0 (nI m) (nI (pg_pt D m))) h ?_
  intro f1 f2 NF NH TS TH dr fl fe pk pr pp pc rf he sz nx pv tm tp tf tw hH T C0 t1 t8 hT L
  obtain ⟨d1, d2, hp, e1, e2, e3, e4⟩ := pg_TBm T hm hK0
  unfold wpX_ownCopy
  dsimp only
  refine pk_lt NC (FR + SL - 1) (fun hlt => ?_) (fun hlt => ?_)
  · have hlb := hl hlt
    rw [nI_clamp (n := pg_pt D m) (by omega), e3, hP]
    refine ⟨vp_in_nI hp (by omega), ?_⟩
    refine pg_pageIn (pg_RXi hH T C0 t1 t8 hT L) G Y hm hq hP ?_
    intro f0 P1 Q1 W1 U1 O1 KP1 hf0 hP1 G1 Y1
    refine pg_sx ?_
    intro f1 f2 fr sl lm fc cc hd ts th lv' dr fl fe pk pr pp pc W' U' rf O' KP' he sz nx pv tm tp tf tw h1
    refine pg_newCopy h1 G1 Y1 (fun q' hq' z => ?_) (fun hn => absurd hlt hn) ?_
    · rw [nI_eq (by omega) (by omega)] at z
      rw [← z]; exact pg_GDu G1 hm (by omega) hP1
    · intro _ f P2 Q2 W2 U2 O2 KP2 hf hne hpg G2 Y2
      have hff : f0 ≠ f := fun z => hne (by rw [z])
      have hP2 := hpg.2.2 m f0 hm (by omega) hff hP1
      have hx2 : P2 x0 = nI f0 := by
        rw [← hP2]
        exact (Y2.1.2 x0 m hx0 hm).1 ((Y.1.2 x0 m hx0 hm).2 hxP)
      have hQ2 := (pg_GDq G2 hm (q := f0) (by omega)).2 hP2
      have hQx := (pg_GDq G2 hx0 (q := f0) (by omega)).2 hx2
      have hWr := pg_w4r (f := f) (g := fun _ => 0) G2.2.2.2.1 (fun j _ => ⟨0, by omega, rfl⟩)
      have hWr2 := pg_w4r (f := f) (g := fun j => pg_w4 W2 f (fun _ => 0) (4 * f0 + j)) hWr (fun j hj => hWr _ (by omega))
      refine pg_RXa ?_
      intro f1 f2 NF NH TS TH dr fl fe pk pr pp pc rf he sz nx pv tm tp tf tw hH T C0 t1 t8 hT L
      dsimp only
      refine br_t (nI_pos' (by omega)) ?_
      refine pg_copyWordsR (by omega) (by omega) hff ?_
      dsimp only
      refine pg_detach (D := D) (K := K) (R := R) (C := C) (P := P2) (Q := Q2) (NC := NC + 1) (pg_RXi hH T C0 t1 t8 hT L) hm hK0 (G2.1 m hm).2.2.2.1 (Or.inr ⟨f0, by omega, hQ2⟩) ?_ ?_
      · intro q' hq' z1 z2
        rw [hQ2] at z1
        exact absurd (by rw [hQx, z1]) (z2 x0 hx0 hxm)
      · intro P3 Q3 U3 O3 KP3 NC3 haf
        obtain ⟨rfl, rfl, haf⟩ := haf
        have haf2 : U3 = upd U2 f 1 ∧ O3 = upd O2 f (-1) ∧ KP3 = KP2 ∧ NC3 = NC + 1 := by
          rcases haf with ⟨_, z⟩ | ⟨q', hq', z1, z2, _⟩
          · exact z
          · rw [hQ2] at z1
            exact absurd (by rw [hQx, z1]) (z2 x0 hx0 hxm)
        obtain ⟨rfl, rfl, rfl, rfl⟩ := haf2
        refine pg_sx ?_
        intro f1 f2 fr sl lm fc cc hd ts th lv' dr fl fe pk pr pp pc W' U' rf O' KP' he sz nx pv tm tp tf tw h3
        refine pg_join h3 g2 hm hK0 pg_us pg_us (Or.inr ⟨f, by omega, pg_chn_p _ (by omega)⟩) ?_
        rw [pg_chn_p _ (by omega), pg_uu, pg_uu]
        refine pg_sx ?_
        intro f1 f2 fr sl lm fc cc hd ts th lv' dr fl fe pk pr pp pc W' U' rf O' KP' he sz nx pv tm tp tf tw h4
        have nf : ∀ x, x < 64 → P2 x ≠ nI f := fun x hx e => pg_GDu G2 hx (q := f) (by omega) e hpg.1
        refine k hlt f _ _ _ _ _ _ _ hf pg_us (fun _ x hx hne => by rw [pg_un hne]; exact nf x hx) (pg_GDown G2 hm hf hpg.1 hK hlt (fun q' hq' z => ?_) hWr2) (pg_YLown G2 Y2 hm (by omega) hpg.1 hfr hfr2 ⟨(hlb m hm).1 (Or.inl rfl), fun x hx hne => (hlb x hx).2 ?_⟩ ?_ ?_) _ h4
        · rw [hP2] at z
          exact ⟨x0, hx0, hxm, by rw [hx2, z]⟩
        · rintro (z | z)
          · exact hne z
          · exact z.1 hK
        · intro j hj
          rw [pg_w4s hj, pg_w4n hj hff]
          exact ((Y2.2 m hm).2 f0 (by omega) hP2 j hj).symm
        · intro q' j hq' hj hqf
          rw [pg_w4n hj hqf, pg_w4n hj hqf]
  · exact k0 (by omega) _ (pg_RXi hH T C0 t1 t8 hT L)
/-- a store through m needs a copy -/
def pg_nd (K P : Nat → Int32) (m : Nat) : Prop := P m = -1 ∨ (K m = 1 ∧ ∃ x, x < 64 ∧ x ≠ m ∧ P x = P m)
theorem pg_writable {post : Int32 → SX → Prop} {lb' : Nat → Int32} (h : pg_RX FR SL D lv K R C P Q W U O KP NC u) (G : pg_GD FR SL lv K R C P Q W U O KP NC) (Y : pg_YL lb wd P W) {m : Nat} (hm : m < 64) (hK : K m ≠ 0) {fr : Int32} (hfr : fr ≠ 0) (hfr2 : ∀ x, x < 64 → lb x ≠ fr)
    (hl : pg_nd K P m → NC < FR + SL - 1 → ∀ x, x < 64 → (pg_hit K m x → lb' x = fr) ∧ (¬ pg_hit K m x → lb' x = lb x)) (hl0 : ¬ pg_nd K P m → ∀ x, x < 64 → lb' x = lb x)
    (k0 : pg_nd K P m → ¬ NC < FR + SL - 1 → ∀ u', pg_RX FR SL D lv K R C P Q W U O KP NC u' → post (-1) u') (k : (pg_nd K P m → NC < FR + SL - 1) → pg_wf FR SL D lv K R C lb' wd m post) : wpX_writableFrame post u (nI m) (nI (pg_pt D m)) := by
  obtain ⟨g1, g2, g3, g4⟩ := G.2.2.2.2.2.2
  refine pg_RXe (Z := fun u0 => wpX_writableFrame post u0 (nI m) (nI (pg_pt D m))) h ?_
  intro f1 f2 NF NH TS TH dr fl fe pk pr pp pc rf he sz nx pv tm tp tf tw hH T C0 t1 t8 hT L
  obtain ⟨d1, d2, hp, e1, e2, e3, e4⟩ := pg_TBm T hm hK
  have hpv : vp_in (nI (pg_pt D m)) 64 := vp_in_nI hp (by omega)
  have h : pg_RX FR SL D lv K R C P Q W U O KP NC (f1, f2, nI FR, nI SL, nI (FR + SL - 1), nI NF, nI NC, nI NH, nI TS, nI TH, lv, dr, fl, fe, pk, pr, pp, pc, W, U, rf, O, KP, he, sz, nx, pv, tm, tp, tf, tw) := pg_RXi hH T C0 t1 t8 hT L
  unfold wpX_writableFrame
  dsimp only
  rw [nI_clamp (n := pg_pt D m) (by omega)]
  refine ⟨hpv, ?_⟩
  rcases (G.1 m hm).2.2.2.2.1 with eP | ⟨q, hq, eP, hUq, hOq⟩
  · refine nm_r (e3.trans eP) (br_f (by decide) ?_)
    exact pg_firstCopy h G Y hm hK eP hfr hfr2 (hl (Or.inl eP)) (k0 (Or.inl eP)) (fun z => k (fun _ => z))
  · refine nm_r (e3.trans eP) (br_t (nI_pos' (by omega)) ⟨hpv, ?_⟩)
    rw [e1]
    have hsz := pg_CHsz C0 (c := q) (by omega)
    have hle := pg_cn_le (fun x => decide (Q x = nI q)) 64
    have hQm := (pg_GDq G hm hq).2 eP
    have nP : P m ≠ -1 := by rw [eP]; exact pg_nm (by omega)
    have direct : (K m = 1 → ∀ x, x < 64 → x ≠ m → P x ≠ nI q) → wX_writableFrame_45 post (nI q) f1 f2 (nI FR) (nI SL) (nI (FR + SL - 1)) (nI NF) (nI NC) (nI NH) (nI TS) (nI TH) lv dr fl fe pk pr pp pc W U rf O KP he sz nx pv tm tp tf tw := by
      intro hal
      have hnd : ¬ pg_nd K P m := by
        rintro (z | ⟨z, x, hx, hxm, hxP⟩)
        · exact nP z
        · exact hal z x hx hxm (by rw [hxP, eP])
      unfold wX_writableFrame_45
      refine pg_pageIn h G Y hm hq eP ?_
      intro f P1 Q1 W1 U1 O1 KP1 hf hP1 G1 Y1
      refine pg_sx ?_
      intro f1 f2 fr sl lm fc cc hd ts th lv' dr fl fe pk pr pp pc W' U' rf O' KP' he sz nx pv tm tp tf tw h1
      refine k (fun z => absurd z hnd) f _ _ _ _ _ _ _ hf hP1 ?_ G1 ?_ _ h1
      · intro z x hx hxm hxP
        have : P x = P m := (Y.1.2 x m hx hm).1 ((Y1.1.2 x m hx hm).2 (by rw [hxP, hP1]))
        exact hal z x hx hxm (by rw [this, eP])
      · refine ⟨⟨?_, ?_⟩, Y1.2⟩
        · intro x hx; rw [hl0 hnd x hx]; exact Y1.1.1 x hx
        · intro x y hx hy; rw [hl0 hnd x hx, hl0 hnd y hy]; exact Y1.1.2 x y hx hy
    by_cases hK1 : K m = 1
    · refine br_t hK1 ⟨vp_in_nI (by omega) (by omega), ?_⟩
      rw [nI_clamp (n := q) (by omega), hsz]
      refine pk_le _ 1 (fun hc => direct ?_) (fun hc => ?_)
      · intro _ x hx hxm hxP
        have := pg_cn_two (p := fun x => decide (Q x = nI q)) hx hm hxm (decide_eq_true ((pg_GDq G hx hq).2 hxP)) (decide_eq_true hQm)
        omega
      · have hot : ∃ x, x < 64 ∧ x ≠ m ∧ P x = P m := by
          have h3 := pg_cn_set (p := fun x => decide (Q x = nI q) && decide (x ≠ m)) (q := fun x => decide (Q x = nI q)) hm (by simp) (decide_eq_true hQm) (by intro j hj hne; simp [hne])
          obtain ⟨x, hx, hpx⟩ := pg_cn_ex (p := fun x => decide (Q x = nI q) && decide (x ≠ m)) (n := 64) (by omega)
          simp only [Bool.and_eq_true, decide_eq_true_eq] at hpx
          exact ⟨x, hx, hpx.2, by rw [eP, (pg_GDq G hx hq).1 hpx.1]⟩
        exact pg_ownCopy h G Y hm hK1 hq eP hot hfr hfr2 (hl (Or.inr ⟨hK1, hot⟩)) (k0 (Or.inr ⟨hK1, hot⟩)) (fun z => k (fun _ => z))
    · exact br_f hK1 (direct (fun z => absurd z hK1))
end
end
section
section
variable {f1 f2 fr sl lm fc cc hd ts th : Int32} {lv dr fl fe pk pr pp pc W U rf O KP he sz nx pv tm tp tf tw : Nat → Int32}
theorem pg_l95 {post : Int32 → SX → Prop} {a q : Nat} (ha : a < 64) (hq : q < 18) (k : post (W (4 * q + a % 4)) (f1, f2, fr, sl, lm, fc, cc, hd, ts, th, lv, dr, fl, fe, pk, pr, pp, pc, W, U, upd rf q 1, O, KP, he, sz, nx, pv, tm, tp, tf, tw)) : wX_loadWord_95 post (nI a) (nI q) f1 f2 fr sl lm fc cc hd ts th lv dr fl fe pk pr pp pc W U rf O KP he sz nx pv tm tp tf tw := by
  unfold wX_loadWord_95
  rw [pg_a3 (by omega), pg_t4, nI_clamp (n := q) (by omega), nI_clamp (n := 4 * q + a % 4) (by omega), pg_b1]
  exact ⟨vp_in_nI hq (by omega), nm_e ⟨vp_in_nI (by omega) (by omega), k⟩⟩
theorem pg_s112 {post : Int32 → SX → Prop} {a q p : Nat} {val : Int32} (ha : a < 64) (hq : q < 18) (hp : p < 64) (k : post 0 (f1, f2, fr, sl, lm, fc, cc, hd, ts, th, lv, dr, fl, fe, pk, pr, pp, upd pc p 1, upd W (4 * q + a % 4) (val &&& 65535), U, upd rf q 1, O, KP, he, sz, nx, pv, tm, tp, tf, tw)) : wX_storeWord_112 post (nI a) val (nI q) (nI p) f1 f2 fr sl lm fc cc hd ts th lv dr fl fe pk pr pp pc W U rf O KP he sz nx pv tm tp tf tw := by
  unfold wX_storeWord_112
  rw [pg_a3 (by omega), pg_t4, nI_clamp (n := q) (by omega), nI_clamp (n := 4 * q + a % 4) (by omega), nI_clamp (n := p) (by omega), pg_b1]
  exact ⟨vp_in_nI hq (by omega), nm_e ⟨vp_in_nI (by omega) (by omega), nm_e ⟨vp_in_nI hp (by omega), nm_e k⟩⟩⟩
end
def pg_ldv (K R lb wd : Nat → Int32) (m w : Nat) : Int32 := if K m = 0 then -3 else if R m = 0 then -4 else if lb m = 0 then 0 else wd (4 * m + w)
section
variable {FR SL NC : Nat} {D : Nat → Nat} {lv K R C P Q W U O KP lb wd : Nat → Int32} {u : SX}
theorem pg_loadWord {post : Int32 → SX → Prop} (h : pg_RX FR SL D lv K R C P Q W U O KP NC u) (G : pg_GD FR SL lv K R C P Q W U O KP NC) (Y : pg_YL lb wd P W) {p a m w : Nat} (hp : p < 4) (ha : a < 64) (em : 16 * p + a / 4 = m) (ew : a % 4 = w) (k : ∀ P' Q' W' U' O' KP', pg_GD FR SL lv K R C P' Q' W' U' O' KP' NC → pg_YL lb wd P' W' → ∀ u', pg_RX FR SL D lv K R C P' Q' W' U' O' KP' NC u' → post (pg_ldv K R lb wd m w) u') : wpX_loadWord post u (nI p) (nI a) := by
  obtain ⟨g1, g2, g3, g4⟩ := G.2.2.2.2.2.2
  have hm : m < 64 := by omega
  have hw : w < 4 := by omega
  refine pg_RXe (Z := fun u0 => wpX_loadWord post u0 (nI p) (nI a)) h ?_
  intro f1 f2 NF NH TS TH dr fl fe pk pr pp pc rf he sz nx pv tm tp tf tw hH T C0 t1 t8 hT L
  have h : pg_RX FR SL D lv K R C P Q W U O KP NC (f1, f2, nI FR, nI SL, nI (FR + SL - 1), nI NF, nI NC, nI NH, nI TS, nI TH, lv, dr, fl, fe, pk, pr, pp, pc, W, U, rf, O, KP, he, sz, nx, pv, tm, tp, tf, tw) := pg_RXi hH T C0 t1 t8 hT L
  unfold wpX_loadWord
  dsimp only
  rw [pg_s2 (by omega)]
  refine nm_r (e' := nI m) (by rw [pg_m16, em]) ?_
  refine pg_tlbFindR t8 ?_ ?_
  · intro t ht e
    rcases L.1 t ht with z | ⟨m', hm', z, te⟩
    · rw [e] at z; exact absurd z (pg_nm (by omega))
    · rw [e, nI_eq (by omega) (by omega)] at z
      subst z
      obtain ⟨z1, z2, z3, z4, ⟨q, hq, z5⟩, _⟩ := te id
      refine br_f (nI_pos (by omega)) ⟨vp_in_nI (by omega) (by omega), ?_⟩
      rw [nI_clamp (n := t) (by omega)]
      refine nm_r (z4.trans z5) (pg_l95 ha (by omega) ?_)
      have ev : pg_ldv K R lb wd m w = W (4 * q + a % 4) := by
        unfold pg_ldv
        rw [if_neg z1, if_neg z2, if_neg, ew]
        · exact (Y.2 m hm).2 q (by omega) z5 w hw
        · rw [Y.1.1 m hm, z5]; exact pg_nm (by omega)
      rw [← ev]
      exact k P Q W U O KP G Y _ (pg_RXi hH T C0 t1 t8 hT L)
  · intro hn
    refine br_t (by decide) ?_
    refine pg_walkR T hm (fun z => ?_) (fun z => ?_)
    · have ev : pg_ldv K R lb wd m w = -3 := if_pos z
      have hk := k P Q W U O KP G Y _ h
      rw [ev] at hk
      exact br_f (by decide) hk
    · obtain ⟨d1, d2, hpt, e1, e2, e3, e4⟩ := pg_TBm T hm z
      have hpv : vp_in (nI (pg_pt D m)) 64 := vp_in_nI hpt (by omega)
      refine br_t (nI_pos' (by omega)) ⟨hpv, ?_⟩
      rw [nI_clamp (n := pg_pt D m) (by omega), e2, e3]
      refine br_c (fun r0 => ?_) (fun r0 => ⟨hpv, ?_⟩)
      · have ev : pg_ldv K R lb wd m w = -4 := by unfold pg_ldv; rw [if_neg z, if_pos r0]
        rw [← ev]
        exact k P Q W U O KP G Y _ h
      · rcases (G.1 m hm).2.2.2.2.1 with eP | ⟨q, hq, eP, hUq, hOq⟩
        · rw [eP]
          refine br_f (by decide) ?_
          have ev : pg_ldv K R lb wd m w = 0 := by
            unfold pg_ldv
            rw [if_neg z, if_neg r0, if_pos ((Y.1.1 m hm).2 eP)]
          rw [← ev]
          exact k P Q W U O KP G Y _ h
        · rw [eP]
          refine br_t (nI_pos' (by omega)) ⟨hpv, ?_⟩
          refine pg_pageIn h G Y hm hq eP ?_
          intro f P1 Q1 W1 U1 O1 KP1 hf hP1 G1 Y1
          refine pg_sx ?_
          intro f1 f2 fr sl lm fc cc hd ts th lv' dr fl fe pk pr pp pc W' U' rf O' KP' he sz nx pv tm tp tf tw h1
          refine pg_tlbEnter h1 g2 hm z r0 hf hP1 ((pg_GDq G1 hm (by omega)).2 hP1) ?_
          refine pg_RXa ?_
          intro f1 f2 NF NH TS TH dr fl fe pk pr pp pc rf he sz nx pv tm tp tf tw hH T C0 t1 t8 hT L
          dsimp only
          refine pg_l95 ha (by omega) ?_
          have ev : pg_ldv K R lb wd m w = W1 (4 * f + a % 4) := by
            unfold pg_ldv
            rw [if_neg z, if_neg r0, if_neg, ew]
            · exact (Y1.2 m hm).2 f (by omega) hP1 w hw
            · rw [Y1.1.1 m hm, hP1]; exact pg_nm (by omega)
          rw [← ev]
          exact k P1 Q1 W1 U1 O1 KP1 G1 Y1 _ (pg_RXi hH T C0 t1 t8 hT L)
theorem pg_storeWord {post : Int32 → SX → Prop} (h : pg_RX FR SL D lv K R C P Q W U O KP NC u) (G : pg_GD FR SL lv K R C P Q W U O KP NC) (Y : pg_YL lb wd P W) {p a m w : Nat} {val : Int32} (hp : p < 4) (ha : a < 64) (em : 16 * p + a / 4 = m) (ew : a % 4 = w)
    (kU : K m = 0 → ∀ u', pg_RX FR SL D lv K R C P Q W U O KP NC u' → post (-3) u') (kD : K m ≠ 0 → R m ≠ 2 → ∀ u', pg_RX FR SL D lv K R C P Q W U O KP NC u' → post (-4) u') (kN : K m ≠ 0 → R m = 2 → pg_nd K P m → ¬ NC < FR + SL - 1 → ∀ u', pg_RX FR SL D lv K R C P Q W U O KP NC u' → post (-5) u')
    {lb' wd' : Nat → Int32} {fr : Int32} (hfr : fr ≠ 0) (hfr2 : ∀ x, x < 64 → lb x ≠ fr)
    (hl : pg_nd K P m → NC < FR + SL - 1 → ∀ x, x < 64 → (pg_hit K m x → lb' x = fr) ∧ (¬ pg_hit K m x → lb' x = lb x)) (hl0 : ¬ pg_nd K P m → ∀ x, x < 64 → lb' x = lb x)
    (hwd : ∀ x j, x < 64 → j < 4 → ((pg_hit K m x ∧ j = w) → wd' (4 * x + j) = val &&& 65535) ∧ (¬ (pg_hit K m x ∧ j = w) → wd' (4 * x + j) = wd (4 * x + j)))
    (kS : K m ≠ 0 → R m = 2 → (pg_nd K P m → NC < FR + SL - 1) → ∀ P' Q' W' U' O' KP' NC', pg_GD FR SL lv K R (upd C m 1) P' Q' W' U' O' KP' NC' → pg_YL lb' wd' P' W' → ∀ u', pg_RX FR SL D lv K R (upd C m 1) P' Q' W' U' O' KP' NC' u' → post 0 u') : wpX_storeWord post u (nI p) (nI a) val := by
  obtain ⟨g1, g2, g3, g4⟩ := G.2.2.2.2.2.2
  have hm : m < 64 := by omega
  have hw : w < 4 := by omega
  have fin : K m ≠ 0 → R m = 2 → (pg_nd K P m → NC < FR + SL - 1) → ∀ f P' Q' W' U' O' KP' NC', f < FR → P' m = nI f → (K m = 1 → ∀ x, x < 64 → x ≠ m → P' x ≠ nI f) → pg_GD FR SL lv K R C P' Q' W' U' O' KP' NC' → pg_YL lb' wd P' W' → ∀ f1 f2 fr sl lm fc cc hd ts th lv' dr fl fe pk pr pp pc W'' U'' rf O'' KP'' he sz nx pv tm tp tf tw, pg_RX FR SL D lv K R C P' Q' W' U' O' KP' NC' (f1, f2, fr, sl, lm, fc, cc, hd, ts, th, lv', dr, fl, fe, pk, pr, pp, pc, W'', U'', rf, O'', KP'', he, sz, nx, pv, tm, tp, tf, tw) → wX_storeWord_112 post (nI a) val (nI f) (nI (pg_pt D m)) f1 f2 fr sl lm fc cc hd ts th lv' dr fl fe pk pr pp pc W'' U'' rf O'' KP'' he sz nx pv tm tp tf tw := by
    intro z zR zN f P' Q' W' U' O' KP' NC' hf hP' hal G' Y' f1 f2 fr sl lm fc cc hd ts th lv' dr fl fe pk pr pp pc W'' U'' rf O'' KP'' he sz nx pv tm tp tf tw h'
    have hh := kS z zR zN P' Q' (upd W' (4 * f + w) (val &&& 65535)) U' O' KP' NC' (pg_GDc (pg_GDw G' ?_) (Or.inl z) (Or.inr rfl)) (pg_YLwr G' Y' hm (by omega) hw hP' hal hwd)
    · revert h'
      refine fun h' => pg_RXe (Z := fun u0 => match u0 with | (f1, f2, fr, sl, lm, fc, cc, hd, ts, th, lv', dr, fl, fe, pk, pr, pp, pc, W'', U'', rf, O'', KP'', he, sz, nx, pv, tm, tp, tf, tw) => wX_storeWord_112 post (nI a) val (nI f) (nI (pg_pt D m)) f1 f2 fr sl lm fc cc hd ts th lv' dr fl fe pk pr pp pc W'' U'' rf O'' KP'' he sz nx pv tm tp tf tw) h' ?_
      intro f1 f2 NF NH TS TH dr fl fe pk pr pp pc rf he sz nx pv tm tp tf tw hH T C0 t1 t8 hT L
      dsimp only
      refine pg_s112 ha (by omega) (pg_TBm T hm z).2.2.1 ?_
      rw [ew]
      exact hh _ (pg_RXi hH (pg_TBc T hm z 1) C0 t1 t8 hT L)
    · intro i hi
      by_cases e : i = 4 * f + w
      · rw [e, pg_us]
        obtain ⟨j, hj, ej⟩ := pk_andE val (m := 65535) 16 (by decide)
        exact ⟨j, by omega, ej⟩
      · rw [pg_un e]; exact G'.2.2.2.1 i hi
  refine pg_RXe (Z := fun u0 => wpX_storeWord post u0 (nI p) (nI a) val) h ?_
  intro f1 f2 NF NH TS TH dr fl fe pk pr pp pc rf he sz nx pv tm tp tf tw hH T C0 t1 t8 hT L
  have h : pg_RX FR SL D lv K R C P Q W U O KP NC (f1, f2, nI FR, nI SL, nI (FR + SL - 1), nI NF, nI NC, nI NH, nI TS, nI TH, lv, dr, fl, fe, pk, pr, pp, pc, W, U, rf, O, KP, he, sz, nx, pv, tm, tp, tf, tw) := pg_RXi hH T C0 t1 t8 hT L
  have slow : wX_storeWord_54 post (nI a) val (nI m) f1 f2 (nI FR) (nI SL) (nI (FR + SL - 1)) (nI NF) (nI NC) (nI NH) (nI TS) (nI TH) lv dr fl fe pk pr pp pc W U rf O KP he sz nx pv tm tp tf tw := by
    unfold wX_storeWord_54
    refine pg_walkR T hm (fun z => ?_) (fun z => ?_)
    · exact br_f (by decide) (kU z _ h)
    · obtain ⟨d1, d2, hpt, e1, e2, e3, e4⟩ := pg_TBm T hm z
      refine br_t (nI_pos' (by omega)) ⟨vp_in_nI hpt (by omega), ?_⟩
      rw [nI_clamp (n := pg_pt D m) (by omega), e2]
      refine br_c (fun r2 => ?_) (fun r2 => kD z r2 _ h)
      refine pg_writable h G Y hm z hfr hfr2 hl hl0 ?_ ?_
      · intro hnd hfull
        refine pg_sx ?_
        intro f1 f2 fr sl lm fc cc hd ts th lv' dr fl fe pk pr pp pc W' U' rf O' KP' he sz nx pv tm tp tf tw h1
        exact br_f (by decide) (kN z r2 hnd hfull _ h1)
      · intro hnd f P1 Q1 W1 U1 O1 KP1 NC1 hf hP1 hal G1 Y1
        refine pg_sx ?_
        intro f1 f2 fr sl lm fc cc hd ts th lv' dr fl fe pk pr pp pc W' U' rf O' KP' he sz nx pv tm tp tf tw h1
        refine br_t (nI_pos' (by omega)) ?_
        refine pg_tlbEnter h1 g2 hm z (by rw [r2]; decide) hf hP1 ((pg_GDq G1 hm (by omega)).2 hP1) ?_
        refine pg_sx ?_
        intro f1 f2 fr sl lm fc cc hd ts th lv' dr fl fe pk pr pp pc W' U' rf O' KP' he sz nx pv tm tp tf tw h2
        exact fin z r2 hnd f P1 Q1 W1 U1 O1 KP1 NC1 hf hP1 hal G1 Y1 _ _ _ _ _ _ _ _ _ _ _ _ _ _ _ _ _ _ _ _ _ _ _ _ _ _ _ _ _ _ _ h2
  unfold wpX_storeWord
  dsimp only
  rw [pg_s2 (by omega)]
  refine nm_r (e' := nI m) (by rw [pg_m16, em]) ?_
  refine pg_tlbFindR t8 ?_ ?_
  · intro t ht e
    refine br_f (nI_pos (by omega)) ⟨vp_in_nI (by omega) (by omega), ?_⟩
    rw [nI_clamp (n := t) (by omega)]
    refine br_c (fun _ => slow) (fun hwr => ?_)
    rcases L.1 t ht with z | ⟨m', hm', z, te⟩
    · rw [e] at z; exact absurd z (pg_nm (by omega))
    · rw [e, nI_eq (by omega) (by omega)] at z
      subst z
      obtain ⟨z1, z2, z3, z4, ⟨q, hq, z5⟩, _, z7⟩ := te id
      have htv : vp_in (nI t) 8 := vp_in_nI (by omega) (by omega)
      have hal : K m = 1 → ∀ x, x < 64 → x ≠ m → P x ≠ nI q := by
        intro k1 x hx hxm hxP
        rcases (z7 hwr).2 with w' | w'
        · exact w' k1
        · have := pg_cn_two (p := fun y => decide (Q y = Q m)) hx hm hxm (decide_eq_true (by rw [(pg_GDq G hx (by omega)).2 hxP, (pg_GDq G hm (by omega)).2 z5])) (decide_eq_true rfl)
          omega
      have hnd : ¬ pg_nd K P m := by
        rintro (w' | ⟨w', x, hx, hxm, hxP⟩)
        · rw [z5] at w'; exact pg_nm (by omega) w'
        · exact hal w' x hx hxm (by rw [hxP, z5])
      refine ⟨htv, nm_r (z4.trans z5) ⟨htv, nm_r z3 ?_⟩⟩
      have Y' : pg_YL lb' wd P W := by
        refine ⟨⟨?_, ?_⟩, Y.2⟩
        · intro x hx; rw [hl0 hnd x hx]; exact Y.1.1 x hx
        · intro x y hx hy; rw [hl0 hnd x hx, hl0 hnd y hy]; exact Y.1.2 x y hx hy
      exact fin z1 (z7 hwr).1 (fun z => absurd z hnd) q P Q W U O KP NC hq z5 hal G Y' _ _ _ _ _ _ _ _ _ _ _ _ _ _ _ _ _ _ _ _ _ _ _ _ _ _ _ _ _ _ _ h
  · intro hn
    exact br_t (by decide) slow
end
end
section
section
variable {lim : Int32} {lv K R C lb wd : Nat → Int32}
theorem pg_yPidB {q : Int32 → Prop} {x : Int32} (h : x < 0 ∨ nI 4 ≤ x) (k : q 1) : wpY_badPid q (lim, lv, K, R, C, lb, wd) x := by
  unfold wpY_badPid
  dsimp only
  refine br_c (fun _ => k) (fun z => br_f ?_ k)
  rcases h with h | h
  · exact absurd h z
  · intro w
    have h2 : nI 4 ≤ nI 3 := Int32.le_trans h w
    rw [nI_leI (by omega) (by omega)] at h2
    omega
theorem pg_yPid {q : Int32 → Prop} {p : Nat} (h : p < 4) (k : q 0) : wpY_badPid q (lim, lv, K, R, C, lb, wd) (nI p) :=
  br_f (nI_pos (by omega)) (br_t (nI_le (b := 3) (by omega) (by decide)) k)
theorem pg_yCP {q : Int32 → Prop} {p j : Nat} (hp : p < 4) (hj : j < 16) (k2 : lv p = 0 → q (-2)) (k3 : lv p ≠ 0 → K (16 * p + j) = 0 → q (-3)) (k0 : lv p ≠ 0 → K (16 * p + j) ≠ 0 → q 0) : wpY_checkPage q (lim, lv, K, R, C, lb, wd) (nI p) (nI j) := by
  unfold wpY_checkPage
  dsimp only
  refine pg_yPid hp ?_
  refine br_t rfl (br_f (nI_pos (by omega)) (br_t (nI_le (b := 15) (by omega) (by decide)) ⟨vp_in_nI hp (by omega), ?_⟩))
  rw [pg_m16, nI_clamp (n := p) (by omega), nI_clamp (n := 16 * p + j) (by omega)]
  exact br_c k2 (fun a => ⟨vp_in_nI (by omega) (by omega), br_c (fun b => k3 a b) (fun b => k0 a b)⟩)
theorem pg_yCPb {q : Int32 → Prop} {x y : Int32} (h : (x < 0 ∨ nI 4 ≤ x) ∨ (y < 0 ∨ nI 16 ≤ y)) (k : q (-1)) : wpY_checkPage q (lim, lv, K, R, C, lb, wd) x y := by
  unfold wpY_checkPage
  dsimp only
  rcases pk_ix x (n := 4) (by omega) with z | z | ⟨p, hp, rfl⟩
  · exact pg_yPidB (Or.inl z) (br_f (by decide) k)
  · exact pg_yPidB (Or.inr z) (br_f (by decide) k)
  · refine pg_yPid hp (br_t rfl (br_c (fun _ => k) (fun z => br_f ?_ k)))
    rcases h with (h | h) | (h | h)
    · exact absurd h (nI_pos (by omega))
    · exact absurd h (nI_ge hp (by omega))
    · exact absurd h z
    · intro w
      have h2 : nI 16 ≤ nI 15 := Int32.le_trans h w
      rw [nI_leI (by omega) (by omega)] at h2
      omega
theorem pg_yCA {q : Int32 → Prop} {p a : Nat} (hp : p < 4) (ha : a < 64) (k2 : lv p = 0 → q (-2)) (k3 : lv p ≠ 0 → K (16 * p + a / 4) = 0 → q (-3)) (k0 : lv p ≠ 0 → K (16 * p + a / 4) ≠ 0 → q 0) : wpY_checkAddr q (lim, lv, K, R, C, lb, wd) (nI p) (nI a) := by
  unfold wpY_checkAddr
  dsimp only
  refine br_f (nI_pos (by omega)) (br_t (nI_le (b := 63) (by omega) (by decide)) ⟨by decide, ?_⟩)
  rw [show (4 : Int32) = nI 4 from rfl, pk_div (by omega) (by omega) (by omega)]
  exact pg_yCP hp (by omega) k2 k3 k0
theorem pg_yCAb {q : Int32 → Prop} {x y : Int32} (h : (x < 0 ∨ nI 4 ≤ x) ∨ (y < 0 ∨ nI 64 ≤ y)) (k : q (-1)) : wpY_checkAddr q (lim, lv, K, R, C, lb, wd) x y := by
  unfold wpY_checkAddr
  dsimp only
  rcases pk_ix y (n := 64) (by omega) with z | z | ⟨a, ha, rfl⟩
  · exact br_t z k
  · refine br_c (fun _ => k) (fun _ => br_f ?_ k)
    intro w
    have h2 : nI 64 ≤ nI 63 := Int32.le_trans z w
    rw [nI_leI (by omega) (by omega)] at h2
    omega
  · refine br_f (nI_pos (by omega)) (br_t (nI_le (b := 63) (by omega) (by decide)) ⟨by decide, ?_⟩)
    refine pg_yCPb (Or.inl ?_) k
    rcases h with h | (h | h)
    · exact h
    · exact absurd h (nI_pos (by omega))
    · exact absurd h (nI_ge ha (by omega))
theorem pg_yPgB {q : Int32 → Prop} {x y : Int32} (h : x < 0 ∨ nI 16 ≤ x ∨ y < 1 ∨ (16 - x) < y) (k : q 1) : wpY_badPages q (lim, lv, K, R, C, lb, wd) x y := by
  unfold wpY_badPages
  dsimp only
  refine br_c (fun _ => k) (fun z1 => br_c (fun _ => k) (fun z2 => br_c (fun _ => k) (fun z3 => br_f ?_ k)))
  rcases h with h | h | h | h
  · exact absurd h z1
  · exfalso
    apply z2
    exact Int32.lt_of_lt_of_le (show (15 : Int32) < nI 16 by decide) h
  · exact absurd h z3
  · exact Int32.not_le.mpr h
theorem pg_yPg {q : Int32 → Prop} {i n : Nat} (h1 : 1 ≤ n) (h2 : i + n ≤ 16) (k : q 0) : wpY_badPages q (lim, lv, K, R, C, lb, wd) (nI i) (nI n) := by
  unfold wpY_badPages
  dsimp only
  rw [show (16 : Int32) = nI 16 from rfl, pk_sub (by omega)]
  exact br_f (nI_pos (by omega)) (br_f (by rw [show (15 : Int32) = nI 15 from rfl, nI_ltI (by omega) (by omega)]; omega) (br_f (nI_nlt (b := 1) h1 (by omega)) (br_t (nI_le (by omega) (by omega)) k)))
theorem pg_yWdB {q : Int32 → Prop} {x y : Int32} (h : x < 0 ∨ nI 64 ≤ x ∨ y < 0 ∨ (64 - x) < y) (k : q 1) : wpY_badWords q (lim, lv, K, R, C, lb, wd) x y := by
  unfold wpY_badWords
  dsimp only
  refine br_c (fun _ => k) (fun z1 => br_c (fun _ => k) (fun z2 => br_c (fun _ => k) (fun z3 => br_f ?_ k)))
  rcases h with h | h | h | h
  · exact absurd h z1
  · exfalso
    apply z2
    exact Int32.lt_of_lt_of_le (show (63 : Int32) < nI 64 by decide) h
  · exact absurd h z3
  · exact Int32.not_le.mpr h
theorem pg_yWd {q : Int32 → Prop} {i n : Nat} (h0 : i < 64) (h2 : i + n ≤ 64) (k : q 0) : wpY_badWords q (lim, lv, K, R, C, lb, wd) (nI i) (nI n) := by
  unfold wpY_badWords
  dsimp only
  rw [show (64 : Int32) = nI 64 from rfl, pk_sub (by omega)]
  exact br_f (nI_pos (by omega)) (br_f (by rw [show (63 : Int32) = nI 63 from rfl, nI_ltI (by omega) (by omega)]; omega) (br_f (nI_pos (by omega)) (br_t (nI_le (by omega) (by omega)) k)))
theorem pg_yLD {q : Int32 → Prop} (k1 : ∀ p, p < 4 → lv p = 0 → (∀ p', p' < p → lv p' ≠ 0) → q (nI p)) (k2 : (∀ p, p < 4 → lv p ≠ 0) → q (-7)) : ∀ d i, i + d = 4 → (∀ p, p < i → lv p ≠ 0) → wY_lowestDead_2 q lim lv K R C lb wd (d + 1) (nI i)
  | 0, i, e, hi => br_t (nI_le (a := 4) (by omega) (by omega)) (k2 (fun p hp => hi p (by omega)))
  | d + 1, i, e, hi => by
    refine br_f (nI_ge (b := 4) (by omega) (by omega)) ⟨vp_in_nI (by omega) (by omega), ?_⟩
    rw [nI_clamp (n := i) (by omega)]
    refine br_c (fun z => k1 i (by omega) z hi) (fun z => nm_r (nI_1 i) ?_)
    exact pg_yLD k1 k2 d (i + 1) (by omega) (fun p hp => by
      by_cases w : p = i
      · rw [w]; exact z
      · exact hi p (by omega))
theorem pg_yGS {q : Int32 → Prop} {m : Nat} (hm : m < 64) (k0 : lb m = 0 → q 0) (k1 : lb m ≠ 0 → q (nI (pg_cn (fun x => decide (lb x = lb m)) 64))) : wpY_groupSize q (lim, lv, K, R, C, lb, wd) (nI m) := by
  unfold wpY_groupSize
  dsimp only
  have hv : vp_in (nI m) 64 := vp_in_nI hm (by omega)
  rw [nI_clamp (n := m) (by omega)]
  refine ⟨hv, br_c k0 (fun z => ⟨65, ?_⟩)⟩
  suffices H : ∀ d i, i + d = 64 → wY_groupSize_15 q (nI m) lim lv K R C lb wd (d + 1) (nI (pg_cn (fun x => decide (lb x = lb m)) i)) (nI i) from H 64 0 (by omega)
  intro d
  induction d with
  | zero =>
    intro i e
    obtain rfl : i = 64 := by omega
    exact br_t (by decide) (k1 z)
  | succ d ih =>
    intro i e
    refine br_f (nI_ge (b := 64) (by omega) (by omega)) ⟨vp_in_nI (by omega) (by omega), hv, ?_⟩
    rw [nI_clamp (n := m) (by omega), nI_clamp (n := i) (by omega)]
    have hs := ih (i + 1) (by omega)
    refine br_c (fun w => nm_r (nI_1 _) (nm_r (nI_1 i) ?_)) (fun w => nm_r (nI_1 i) ?_)
    · have e1 : pg_cn (fun x => decide (lb x = lb m)) (i + 1) = pg_cn (fun x => decide (lb x = lb m)) i + 1 := by simp [pg_cn, w]
      rw [e1] at hs; exact hs
    · have e1 : pg_cn (fun x => decide (lb x = lb m)) (i + 1) = pg_cn (fun x => decide (lb x = lb m)) i := by simp [pg_cn, w]
      rw [e1] at hs; exact hs
theorem pg_mbS {q : SY → Prop} {m j n : Nat} (hm : m < 64) (hj : j < 4) (k : wY_makeBlank_9 q (nI m) lim n (nI (j + 1)) lv K R C lb (upd wd (4 * m + j) 0)) : wY_makeBlank_9 q (nI m) lim (n + 1) (nI j) lv K R C lb wd := by
  refine br_f (nI_ge (b := 4) hj (by decide)) ?_
  rw [pg_4t, nI_clamp (n := 4 * m + j) (by omega)]
  exact ⟨vp_in_nI (by omega) (by omega), nm_e (nm_r (nI_1 j) k)⟩
theorem pg_yMB {q : SY → Prop} {m : Nat} (hm : m < 64) (k : q (lim, lv, K, R, C, upd lb m 0, pg_w4 wd m (fun _ => 0))) : wpY_makeBlank q (lim, lv, K, R, C, lb, wd) (nI m) := by
  unfold wpY_makeBlank
  dsimp only
  rw [nI_clamp (n := m) (by omega)]
  refine ⟨vp_in_nI hm (by omega), nm_e ⟨5, ?_⟩⟩
  refine pg_mbS (j := 0) hm (by omega) (pg_mbS (j := 1) hm (by omega) (pg_mbS (j := 2) hm (by omega) (pg_mbS (j := 3) hm (by omega) ?_)))
  refine br_t (show (4 : Int32) ≤ nI 4 by decide) ?_
  have e := pg_w4u (W := wd) (g := fun _ => 0) (b := m) (x0 := 0) (x1 := 0) (x2 := 0) (x3 := 0) rfl rfl rfl rfl
  rw [← e] at k
  exact k
theorem pg_yMU {q : SY → Prop} {m : Nat} (hm : m < 64) (k : q (lim, lv, upd K m 0, upd R m 0, upd C m 0, upd lb m 0, pg_w4 wd m (fun _ => 0))) : wpY_makeUnmapped q (lim, lv, K, R, C, lb, wd) (nI m) := by
  unfold wpY_makeUnmapped
  dsimp only
  have hv : vp_in (nI m) 64 := vp_in_nI hm (by omega)
  refine pg_yMB hm ?_
  dsimp only
  rw [nI_clamp (n := m) (by omega)]
  exact ⟨hv, nm_e ⟨hv, nm_e ⟨hv, nm_e k⟩⟩⟩
theorem pg_jgS {q : SY → Prop} {a b j n : Nat} (ha : a < 64) (hb : b < 64) (hj : j < 4) (k : wY_joinGroup_14 q (nI b) (nI a) lim n (nI (j + 1)) lv K R C lb (upd wd (4 * b + j) (wd (4 * a + j)))) : wY_joinGroup_14 q (nI b) (nI a) lim (n + 1) (nI j) lv K R C lb wd := by
  refine br_f (nI_ge (b := 4) hj (by decide)) ?_
  rw [pg_4t, pg_4t, nI_clamp (n := 4 * a + j) (by omega), nI_clamp (n := 4 * b + j) (by omega)]
  exact ⟨vp_in_nI (by omega) (by omega), vp_in_nI (by omega) (by omega), nm_e (nm_r (nI_1 j) k)⟩
theorem pg_yJG {q : SY → Prop} {a b : Nat} (ha : a < 64) (hb : b < 64) (hab : a ≠ b) (k : q (lim, lv, K, R, C, upd lb b (lb a), pg_w4 wd b (fun j => wd (4 * a + j)))) : wpY_joinGroup q (lim, lv, K, R, C, lb, wd) (nI b) (nI a) := by
  unfold wpY_joinGroup
  dsimp only
  rw [nI_clamp (n := a) (by omega), nI_clamp (n := b) (by omega)]
  refine ⟨vp_in_nI ha (by omega), vp_in_nI hb (by omega), nm_e ⟨5, ?_⟩⟩
  refine pg_jgS (j := 0) ha hb (by omega) (pg_jgS (j := 1) ha hb (by omega) (pg_jgS (j := 2) ha hb (by omega) (pg_jgS (j := 3) ha hb (by omega) ?_)))
  refine br_t (show (4 : Int32) ≤ nI 4 by decide) ?_
  have e := pg_w4u (W := wd) (g := fun j => wd (4 * a + j)) (b := b) (x0 := wd (4 * a + 0)) (x1 := upd wd (4 * b + 0) (wd (4 * a + 0)) (4 * a + 1)) (x2 := upd (upd wd (4 * b + 0) (wd (4 * a + 0))) (4 * b + 1) (upd wd (4 * b + 0) (wd (4 * a + 0)) (4 * a + 1)) (4 * a + 2))
    (x3 := upd (upd (upd wd (4 * b + 0) (wd (4 * a + 0))) (4 * b + 1) (upd wd (4 * b + 0) (wd (4 * a + 0)) (4 * a + 1))) (4 * b + 2) (upd (upd wd (4 * b + 0) (wd (4 * a + 0))) (4 * b + 1) (upd wd (4 * b + 0) (wd (4 * a + 0)) (4 * a + 1)) (4 * a + 2)) (4 * a + 3))
    rfl (pg_un (by omega)) (by rw [pg_un (by omega), pg_un (by omega)]) (by rw [pg_un (by omega), pg_un (by omega), pg_un (by omega)])
  rw [← e] at k
  exact k
/-- same words: 1 or 0 -/
theorem pg_ySW {q : Int32 → Prop} {a b : Nat} (ha : a < 64) (hb : b < 64) (k1 : (∀ j, j < 4 → wd (4 * a + j) = wd (4 * b + j)) → q 1) (k0 : ¬ (∀ j, j < 4 → wd (4 * a + j) = wd (4 * b + j)) → q 0) : wpY_sameWords q (lim, lv, K, R, C, lb, wd) (nI a) (nI b) := by
  refine ⟨5, ?_⟩
  suffices H : ∀ d i, i + d = 4 → (∀ j, j < i → wd (4 * a + j) = wd (4 * b + j)) → wY_sameWords_2 q (nI a) (nI b) lim lv K R C lb wd (d + 1) (nI i) from H 4 0 (by omega) (fun j hj => absurd hj (by omega))
  intro d
  induction d with
  | zero =>
    intro i e hi
    exact br_t (nI_le (a := 4) (by omega) (by omega)) (k1 (fun j hj => hi j (by omega)))
  | succ d ih =>
    intro i e hi
    refine br_f (nI_ge (b := 4) (by omega) (by omega)) ?_
    rw [pg_4t, pg_4t, nI_clamp (n := 4 * a + i) (by omega), nI_clamp (n := 4 * b + i) (by omega)]
    refine ⟨vp_in_nI (by omega) (by omega), vp_in_nI (by omega) (by omega), br_c (fun w => nm_r (nI_1 i) (ih (i + 1) (by omega) (fun j hj => ?_))) (fun w => k0 (fun z => w (z i (by omega))))⟩
    by_cases z : j = i
    · rw [z]; exact w
    · exact hi j (by omega)
end
end
section
theorem pg_cn_sub {p q : Nat → Bool} : ∀ {n : Nat}, (∀ i, i < n → p i = true → q i = true) → pg_cn p n ≤ pg_cn q n
  | 0, _ => Nat.le_refl 0
  | n + 1, h => by
    have e := pg_cn_sub (n := n) (fun i hi => h i (by omega))
    have e2 := h n (by omega)
    simp only [pg_cn]
    cases hp : p n with
    | false => simp only [Bool.false_eq_true, if_false]; omega
    | true => rw [e2 hp]; simp; omega
theorem pg_cn_sub1 {p q : Nat → Bool} {n i : Nat} (hi : i < n) (hp : p i = false) (hq : q i = true) (h : ∀ j, j < n → p j = true → q j = true) : pg_cn p n + 1 ≤ pg_cn q n := by
  have h1 := pg_cn_set (p := p) (q := fun x => p x || decide (x = i)) (i := i) (n := n) hi hp (by simp) (by intro x hx hn; simp [hn])
  have h2 := pg_cn_sub (p := fun x => p x || decide (x = i)) (q := q) (n := n) (by
    intro j hj hz
    simp only [Bool.or_eq_true, decide_eq_true_eq] at hz
    rcases hz with z | z
    · exact h j hj z
    · rw [z]; exact hq)
  omega
/-- some label of 1 .. n is at x -/
def pg_us1 (lb : Nat → Int32) (x : Nat) : Nat → Bool
  | 0 => false
  | n + 1 => pg_us1 lb x n || decide (lb x = nI (n + 1))
theorem pg_us1_iff {lb : Nat → Int32} {x : Nat} : ∀ {n : Nat}, pg_us1 lb x n = true ↔ ∃ i, 1 ≤ i ∧ i ≤ n ∧ lb x = nI i
  | 0 => by
    constructor
    · intro z; simp [pg_us1] at z
    · rintro ⟨i, h1, h2, _⟩; omega
  | n + 1 => by
    rw [pg_us1, Bool.or_eq_true, pg_us1_iff, decide_eq_true_eq]
    constructor
    · rintro (⟨i, h1, h2, h3⟩ | z)
      · exact ⟨i, h1, by omega, h3⟩
      · exact ⟨n + 1, by omega, by omega, z⟩
    · rintro ⟨i, h1, h2, h3⟩
      by_cases e : i = n + 1
      · right; rw [← e]; exact h3
      · exact Or.inl ⟨i, h1, by omega, h3⟩
theorem pg_pigeon {lb : Nat → Int32} : ∀ n, n ≤ 1000 → (∀ i, 1 ≤ i → i ≤ n → ∃ x, x < 64 ∧ lb x = nI i) → n ≤ pg_cn (fun x => pg_us1 lb x n) 64
  | 0, _, _ => Nat.zero_le _
  | n + 1, hb, h => by
    have ih := pg_pigeon (lb := lb) n (by omega) (fun i h1 h2 => h i h1 (by omega))
    obtain ⟨x, hx, e⟩ := h (n + 1) (by omega) (by omega)
    have := pg_cn_sub1 (p := fun x => pg_us1 lb x n) (q := fun x => pg_us1 lb x (n + 1)) (n := 64) (i := x) hx (by
      cases z : pg_us1 lb x n with
      | false => rfl
      | true =>
        obtain ⟨i, h1, h2, h3⟩ := pg_us1_iff.1 z
        rw [e, nI_eq (by omega) (by omega)] at h3
        omega) (pg_us1_iff.2 ⟨n + 1, by omega, by omega, e⟩) (by
      intro j hj z
      obtain ⟨i, h1, h2, h3⟩ := pg_us1_iff.1 z
      exact pg_us1_iff.2 ⟨i, h1, by omega, h3⟩)
    omega
section
variable {lim : Int32} {lv K R C lb wd : Nat → Int32}
theorem pg_yFL : ∃ fr : Int32, fr ≠ 0 ∧ (∀ x, x < 64 → lb x ≠ fr) ∧ ∀ q : Int32 → Prop, q fr → wpY_freshLabel q (lim, lv, K, R, C, lb, wd) := by
  -- one label's scan
  have scan : ∀ (q J : Int32 → Prop) (l : Nat), ((∀ x, x < 64 → lb x ≠ nI l) → q (nI l)) → ((∃ x, x < 64 ∧ lb x = nI l) → J (nI (l + 1))) → ∀ d i z, i + d = 64 → ((z = 0 ∧ ∀ x, x < i → lb x ≠ nI l) ∨ (z = 1 ∧ ∃ x, x < i ∧ lb x = nI l)) → wY_freshLabel_12 q J (nI l) lim lv K R C lb wd (d + 1) z (nI i) := by
    intro q J l hq hJ d
    induction d with
    | zero =>
      intro i z e hz
      refine br_t (nI_le (a := 64) (by omega) (by omega)) ?_
      rcases hz with ⟨rfl, hz⟩ | ⟨rfl, x, hx, hz⟩
      · exact br_t rfl (hq (fun x hx => hz x (by omega)))
      · exact br_f (by decide) (nm_r (nI_1 l) (hJ ⟨x, by omega, hz⟩))
    | succ d ih =>
      intro i z e hz
      refine br_f (nI_ge (b := 64) (by omega) (by omega)) ⟨vp_in_nI (by omega) (by omega), ?_⟩
      rw [nI_clamp (n := i) (by omega)]
      refine br_c (fun w => nm_r (nI_1 i) (ih (i + 1) 1 (by omega) (Or.inr ⟨rfl, i, by omega, w⟩))) (fun w => nm_r (nI_1 i) (ih (i + 1) z (by omega) ?_))
      rcases hz with ⟨h1, hz⟩ | ⟨h1, x, hx, hz⟩
      · refine Or.inl ⟨h1, fun x hx => ?_⟩
        by_cases e2 : x = i
        · rw [e2]; exact w
        · exact hz x (by omega)
      · exact Or.inr ⟨h1, x, by omega, hz⟩
  have loop : ∀ d l, l + d = 65 → 1 ≤ l → (∀ i, 1 ≤ i → i < l → ∃ x, x < 64 ∧ lb x = nI i) → ∃ fr : Int32, fr ≠ 0 ∧ (∀ x, x < 64 → lb x ≠ fr) ∧ ∀ q : Int32 → Prop, q fr → wY_freshLabel_2 q lim lv K R C lb wd (d + 1) (nI l) := by
    intro d
    induction d with
    | zero =>
      intro l e h1 hl
      obtain rfl : l = 65 := by omega
      refine ⟨65, by decide, ?_, fun q hq => br_t (show (64 : Int32) < nI 65 by decide) hq⟩
      intro x hx ex
      have := pg_pigeon (lb := lb) 65 (by omega) (fun i h1 h2 => by
        by_cases e2 : i = 65
        · exact ⟨x, hx, by rw [ex, e2]; rfl⟩
        · exact hl i h1 (by omega))
      have h2 := pg_cn_le (fun x => pg_us1 lb x 65) 64
      omega
    | succ d ih =>
      intro l e h1 hl
      have hlt : ¬ (64 : Int32) < nI l := by rw [show (64 : Int32) = nI 64 from rfl, nI_ltI (by omega) (by omega)]; omega
      by_cases hn : ∃ x, x < 64 ∧ lb x = nI l
      · obtain ⟨fr, f1, f2, f3⟩ := ih (l + 1) (by omega) (by omega) (fun i h1 h2 => by
          by_cases e2 : i = l
          · rw [e2]; exact hn
          · exact hl i h1 (by omega))
        refine ⟨fr, f1, f2, fun q hq => br_f hlt ⟨65, ?_⟩⟩
        exact scan q _ l (fun z => absurd hn (fun ⟨x, hx, w⟩ => z x hx w)) (fun _ => f3 q hq) 64 0 0 (by omega) (Or.inl ⟨rfl, fun x hx => absurd hx (by omega)⟩)
      · refine ⟨nI l, nI_ne0 (by omega) (by omega), fun x hx w => hn ⟨x, hx, w⟩, fun q hq => br_f hlt ⟨65, ?_⟩⟩
        exact scan q _ l (fun _ => hq) (fun z => absurd z hn) 64 0 0 (by omega) (Or.inl ⟨rfl, fun x hx => absurd hx (by omega)⟩)
  obtain ⟨fr, f1, f2, f3⟩ := loop 64 1 (by omega) (by omega) (fun i h1 h2 => by omega)
  exact ⟨fr, f1, f2, fun q hq => ⟨65, f3 q hq⟩⟩
/-- no label like that of m below k -/
def pg_lo (lb : Nat → Int32) (m : Nat) : Nat → Bool
  | 0 => true
  | k + 1 => pg_lo lb m k && decide (lb k ≠ lb m)
theorem pg_lo_iff {lb : Nat → Int32} {m : Nat} : ∀ {k : Nat}, pg_lo lb m k = true ↔ ∀ j, j < k → lb j ≠ lb m
  | 0 => ⟨fun _ j hj => absurd hj (by omega), fun _ => rfl⟩
  | k + 1 => by
    rw [pg_lo, Bool.and_eq_true, pg_lo_iff, decide_eq_true_eq]
    constructor
    · rintro ⟨h1, h2⟩ j hj
      by_cases e : j = k
      · rw [e]; exact h2
      · exact h1 j (by omega)
    · intro h
      exact ⟨fun j hj => h j (by omega), h k (by omega)⟩
def pg_cps (lb : Nat → Int32) : Nat := pg_cn (fun m => decide (lb m ≠ 0) && pg_lo lb m m) 64
theorem pg_yCopies {q : Int32 → Prop} (k : q (nI (pg_cps lb))) : wpY_copies q (lim, lv, K, R, C, lb, wd) := by
  have inner : ∀ (J : Int32 → Int32 → Prop) (c m : Nat), m < 64 → (∀ z : Bool, z = (decide (lb m ≠ 0) && pg_lo lb m m) → J (nI (c + (if z then 1 else 0))) (nI (m + 1))) → ∀ d i, i + d = m → wY_copies_28 q J (nI c) (nI m) lim lv K R C lb wd (d + 1) (if (decide (lb m ≠ 0) && pg_lo lb m i) then 1 else 0) (nI i) := by
    intro J c m hm hJ d
    induction d with
    | zero =>
      intro i e
      obtain rfl : i = m := by omega
      have := hJ _ rfl
      refine br_t (nI_le (by omega) (by omega)) ?_
      cases hz : (decide (lb i ≠ 0) && pg_lo lb i i) with
      | false =>
        rw [hz] at this
        exact br_t (by simp) (nm_r (nI_1 i) (by simpa using this))
      | true =>
        rw [hz] at this
        exact br_f (by simp) (nm_r (nI_1 c) (nm_r (nI_1 i) (by simpa using this)))
    | succ d ih =>
      intro i e
      refine br_f (nI_ge (by omega) (by omega)) ⟨vp_in_nI (by omega) (by omega), vp_in_nI (by omega) (by omega), ?_⟩
      rw [nI_clamp (n := i) (by omega), nI_clamp (n := m) (by omega)]
      have hs := ih (i + 1) (by omega)
      refine br_c (fun w => nm_r (nI_1 i) ?_) (fun w => nm_r (nI_1 i) ?_)
      · have e1 : (decide (lb m ≠ 0) && pg_lo lb m (i + 1)) = false := by simp [pg_lo, w]
        rw [e1] at hs
        exact hs
      · have e1 : (decide (lb m ≠ 0) && pg_lo lb m (i + 1)) = (decide (lb m ≠ 0) && pg_lo lb m i) := by simp [pg_lo, w]
        rw [e1] at hs
        exact hs
  suffices H : ∀ d m, m + d = 64 → wY_copies_4 q lim lv K R C lb wd (d + 1) (nI (pg_cn (fun m => decide (lb m ≠ 0) && pg_lo lb m m) m)) (nI m) from ⟨65, H 64 0 (by omega)⟩
  intro d
  induction d with
  | zero =>
    intro m e
    obtain rfl : m = 64 := by omega
    exact br_t (by decide) k
  | succ d ih =>
    intro m e
    have hs := ih (m + 1) (by omega)
    refine br_f (nI_ge (b := 64) (by omega) (by omega)) ⟨vp_in_nI (by omega) (by omega), ?_⟩
    rw [nI_clamp (n := m) (by omega)]
    have hin := inner (wY_copies_4 q lim lv K R C lb wd (d + 1)) (pg_cn (fun m => decide (lb m ≠ 0) && pg_lo lb m m) m) m (by omega) (by
      intro z ez
      have : pg_cn (fun m => decide (lb m ≠ 0) && pg_lo lb m m) m + (if z then 1 else 0) = pg_cn (fun m => decide (lb m ≠ 0) && pg_lo lb m m) (m + 1) := by
        rw [ez]; rfl
      rw [this]; exact hs) m 0 (by omega)
    refine br_c (fun w => ⟨m + 1, ?_⟩) (fun w => ⟨m + 1, ?_⟩)
    · have e1 : (decide (lb m ≠ 0) && pg_lo lb m 0) = false := by simp [w]
      rw [e1] at hin
      exact hin
    · have e1 : (decide (lb m ≠ 0) && pg_lo lb m 0) = true := by simp [w, pg_lo]
      rw [e1] at hin
      exact hin
end
/-- some mapping below M lies in place q -/
def pg_ht (P : Nat → Int32) (q : Nat) : Nat → Bool
  | 0 => false
  | m + 1 => pg_ht P q m || decide (P m = nI q)
theorem pg_ht_iff {P : Nat → Int32} {q : Nat} : ∀ {M : Nat}, pg_ht P q M = true ↔ ∃ m, m < M ∧ P m = nI q
  | 0 => ⟨fun z => by simp [pg_ht] at z, fun ⟨m, h, _⟩ => absurd h (by omega)⟩
  | M + 1 => by
    rw [pg_ht, Bool.or_eq_true, pg_ht_iff, decide_eq_true_eq]
    constructor
    · rintro (⟨m, h, e⟩ | e)
      · exact ⟨m, by omega, e⟩
      · exact ⟨M, by omega, e⟩
    · rintro ⟨m, h, e⟩
      by_cases z : m = M
      · right; rw [← z]; exact e
      · exact Or.inl ⟨m, by omega, e⟩
section
variable {FR SL NC : Nat} {lv K R C P Q W U O KP lb wd : Nat → Int32}
theorem pg_cpsNC (G : pg_GD FR SL lv K R C P Q W U O KP NC) (Y : pg_LB lb P) : pg_cps lb = NC := by
  have main : ∀ M, M ≤ 64 → pg_cn (fun m => decide (lb m ≠ 0) && pg_lo lb m m) M = pg_cn (fun q => pg_ht P q M) 18 := by
    intro M
    induction M with
    | zero => intro _; rw [pg_cn_zero (p := fun q => pg_ht P q 0) (fun i _ => rfl)]; rfl
    | succ M ih =>
      intro hM
      have e := ih (by omega)
      rw [pg_cn, e]
      rcases (G.1 M (by omega)).2.2.2.2.1 with z | ⟨q, hq, z, _⟩
      · have l0 := (Y.1 M (by omega)).2 z
        rw [show (decide (lb M ≠ 0) && pg_lo lb M M) = false by simp [l0]]
        simp only [Bool.false_eq_true, if_false, Nat.add_zero]
        refine pg_cn_congr ?_
        intro q hq
        rw [pg_ht, decide_eq_false (by rw [z]; exact pg_mn (by omega)), Bool.or_false]
      · have l0 : lb M ≠ 0 := by rw [Ne, Y.1 M (by omega), z]; exact pg_nm (by omega)
        have oth : ∀ q', q' < 18 → q' ≠ q → pg_ht P q' M = pg_ht P q' (M + 1) := by
          intro q' hq' hne
          rw [pg_ht, decide_eq_false (by rw [z, nI_eq (by omega) (by omega)]; exact fun w => hne w.symm), Bool.or_false]
        have hloq : pg_lo lb M M = true ↔ pg_ht P q M = false := by
          rw [pg_lo_iff]
          constructor
          · intro h
            cases w : pg_ht P q M with
            | false => rfl
            | true =>
              obtain ⟨m, hm, e2⟩ := pg_ht_iff.1 w
              exact absurd ((Y.2 m M (by omega) (by omega)).2 (by rw [e2, z])) (h m hm)
          · intro h j hj w
            have := (Y.2 j M (by omega) (by omega)).1 w
            have h2 : pg_ht P q M = true := pg_ht_iff.2 ⟨j, hj, by rw [this, z]⟩
            rw [h] at h2; simp at h2
        cases w : pg_ht P q M with
        | false =>
          rw [show (decide (lb M ≠ 0) && pg_lo lb M M) = true by rw [hloq.2 w]; simp [l0]]
          rw [if_pos rfl]
          exact (pg_cn_set (p := fun q => pg_ht P q M) (q := fun q => pg_ht P q (M + 1)) (i := q) hq w (by rw [pg_ht, decide_eq_true z, Bool.or_true]) oth).symm
        | true =>
          have hlo : pg_lo lb M M = false := by
            cases w2 : pg_lo lb M M with
            | false => rfl
            | true => rw [hloq.1 w2] at w; simp at w
          rw [hlo, Bool.and_false]
          simp only [Bool.false_eq_true, if_false, Nat.add_zero]
          refine pg_cn_congr ?_
          intro q' hq'
          by_cases ne : q' = q
          · rw [ne, w, pg_ht, w, Bool.true_or]
          · exact oth q' hq' ne
  unfold pg_cps
  rw [main 64 (by omega), G.2.2.2.2.1.1]
  refine pg_cn_congr ?_
  intro q hq
  by_cases hU : U q = 0
  · rw [decide_eq_false (fun z => z hU)]
    cases w : pg_ht P q 64 with
    | false => rfl
    | true =>
      obtain ⟨m, hm, e⟩ := pg_ht_iff.1 w
      exact absurd hU (pg_GDu G hm hq e)
  · rw [decide_eq_true hU, pg_ht_iff]
    exact (G.2.1 q hq hU).2.1
end
end
section
/-- the two states at the head of a turn -/
def pg_Rel (u : SX) (v : SY) : Prop := match v with
  | (lim, lv, K, R, C, lb, wd) => ∃ (FR SL NC : Nat) (D : Nat → Nat) (P Q W U O KP : Nat → Int32), lim = nI (FR + SL - 1) ∧ pg_GD FR SL lv K R C P Q W U O KP NC ∧ pg_YL lb wd P W ∧ pg_RX FR SL D lv K R C P Q W U O KP NC u
section
variable {FR SL NC : Nat} {D : Nat → Nat} {lv K R C P Q W U O KP lb wd : Nat → Int32} {u : SX}
theorem pg_Ri (G : pg_GD FR SL lv K R C P Q W U O KP NC) (Y : pg_YL lb wd P W) (h : pg_RX FR SL D lv K R C P Q W U O KP NC u) : pg_Rel u (nI (FR + SL - 1), lv, K, R, C, lb, wd) := ⟨FR, SL, NC, D, P, Q, W, U, O, KP, rfl, G, Y, h⟩
end
theorem pg_Re {u : SX} {v : SY} {Z : SX → SY → Prop} (h : pg_Rel u v) (k : ∀ (FR SL NC : Nat) (D : Nat → Nat) (P Q W U O KP lv K R C lb wd : Nat → Int32), pg_GD FR SL lv K R C P Q W U O KP NC → pg_YL lb wd P W → ∀ u, pg_RX FR SL D lv K R C P Q W U O KP NC u → Z u (nI (FR + SL - 1), lv, K, R, C, lb, wd)) : Z u v := by
  obtain ⟨lim, lv, K, R, C, lb, wd⟩ := v
  obtain ⟨FR, SL, NC, D, P, Q, W, U, O, KP, rfl, G, Y, h⟩ := h
  exact k FR SL NC D P Q W U O KP lv K R C lb wd G Y u h
theorem pg_pages (x y : Int32) : (x < 0 ∨ nI 16 ≤ x ∨ y < 1 ∨ (16 - x) < y) ∨ ∃ i n : Nat, x = nI i ∧ y = nI n ∧ 1 ≤ n ∧ i + n ≤ 16 := by
  rcases pk_ix x (n := 16) (by omega) with z | z | ⟨i, hi, rfl⟩
  · exact Or.inl (Or.inl z)
  · exact Or.inl (Or.inr (Or.inl z))
  · by_cases h1 : y < 1
    · exact Or.inl (Or.inr (Or.inr (Or.inl h1)))
    · have h0 : ¬ y < 0 := fun z => h1 (Int32.lt_trans z (by decide))
      obtain ⟨n, hn, rfl⟩ := nI_of h0
      have hn1 : 1 ≤ n := by
        rw [show (1 : Int32) = nI 1 from rfl, nI_ltI (by omega) (by omega)] at h1; omega
      by_cases h2 : (16 - nI i) < nI n
      · exact Or.inl (Or.inr (Or.inr (Or.inr h2)))
      · rw [show (16 : Int32) = nI 16 from rfl, pk_sub (by omega), nI_ltI (by omega) (by omega)] at h2
        exact Or.inr ⟨i, n, rfl, rfl, hn1, by omega⟩
theorem pg_words (x y : Int32) : (x < 0 ∨ nI 64 ≤ x ∨ y < 0 ∨ (64 - x) < y) ∨ ∃ i n : Nat, x = nI i ∧ y = nI n ∧ i < 64 ∧ i + n ≤ 64 := by
  rcases pk_ix x (n := 64) (by omega) with z | z | ⟨i, hi, rfl⟩
  · exact Or.inl (Or.inl z)
  · exact Or.inl (Or.inr (Or.inl z))
  · by_cases h0 : y < 0
    · exact Or.inl (Or.inr (Or.inr (Or.inl h0)))
    · obtain ⟨n, hn, rfl⟩ := nI_of h0
      by_cases h2 : (64 - nI i) < nI n
      · exact Or.inl (Or.inr (Or.inr (Or.inr h2)))
      · rw [show (64 : Int32) = nI 64 from rfl, pk_sub (by omega), nI_ltI (by omega) (by omega)] at h2
        exact Or.inr ⟨i, n, rfl, rfl, hi, by omega⟩
section
variable {f1 f2 fr sl lm fc cc hd ts th : Int32} {lv dr fl fe pk pr pp pc W U rf O KP he sz nx pv tm tp tf tw : Nat → Int32}
theorem pg_xPidB {post : Int32 → Prop} {x : Int32} (h : x < 0 ∨ nI 4 ≤ x) (k : post (-1)) : wpX_checkPid post (f1, f2, fr, sl, lm, fc, cc, hd, ts, th, lv, dr, fl, fe, pk, pr, pp, pc, W, U, rf, O, KP, he, sz, nx, pv, tm, tp, tf, tw) x := by
  unfold wpX_checkPid
  dsimp only
  refine br_c (fun _ => k) (fun z => br_f ?_ k)
  rcases h with h | h
  · exact absurd h z
  · exact Int32.not_lt.mpr h
theorem pg_xPid {post : Int32 → Prop} {p : Nat} (hp : p < 4) (k2 : lv p = 0 → post (-2)) (k0 : lv p ≠ 0 → post 0) : wpX_checkPid post (f1, f2, fr, sl, lm, fc, cc, hd, ts, th, lv, dr, fl, fe, pk, pr, pp, pc, W, U, rf, O, KP, he, sz, nx, pv, tm, tp, tf, tw) (nI p) := by
  unfold wpX_checkPid
  dsimp only
  rw [nI_clamp (n := p) (by omega)]
  exact br_f (nI_pos (by omega)) (br_t (nI_lt (b := 4) hp (by decide)) ⟨vp_in_nI hp (by omega), br_c k2 k0⟩)
theorem pg_xPgB {post : Int32 → Prop} {x y : Int32} (h : x < 0 ∨ nI 16 ≤ x ∨ y < 1 ∨ (16 - x) < y) (k : post 0) : wpX_goodPages post (f1, f2, fr, sl, lm, fc, cc, hd, ts, th, lv, dr, fl, fe, pk, pr, pp, pc, W, U, rf, O, KP, he, sz, nx, pv, tm, tp, tf, tw) x y := by
  unfold wpX_goodPages
  dsimp only
  refine br_c (fun _ => k) (fun z1 => br_c (fun _ => k) (fun z2 => br_c (fun _ => k) (fun z3 => br_t ?_ k)))
  rcases h with h | h | h | h
  · exact absurd h z1
  · exact absurd h z2
  · exact absurd h z3
  · exact h
theorem pg_xPg {post : Int32 → Prop} {i n : Nat} (h1 : 1 ≤ n) (h2 : i + n ≤ 16) (k : post 1) : wpX_goodPages post (f1, f2, fr, sl, lm, fc, cc, hd, ts, th, lv, dr, fl, fe, pk, pr, pp, pc, W, U, rf, O, KP, he, sz, nx, pv, tm, tp, tf, tw) (nI i) (nI n) := by
  unfold wpX_goodPages
  dsimp only
  rw [show (16 : Int32) = nI 16 from rfl, pk_sub (by omega)]
  exact br_f (nI_pos (by omega)) (br_f (nI_ge (by omega) (by omega)) (br_f (nI_nlt (b := 1) h1 (by omega)) (br_f (nI_nlt (by omega) (by omega)) k)))
theorem pg_xWdB {post : Int32 → Prop} {x y : Int32} (h : x < 0 ∨ nI 64 ≤ x ∨ y < 0 ∨ (64 - x) < y) (k : post 0) : wpX_goodWords post (f1, f2, fr, sl, lm, fc, cc, hd, ts, th, lv, dr, fl, fe, pk, pr, pp, pc, W, U, rf, O, KP, he, sz, nx, pv, tm, tp, tf, tw) x y := by
  unfold wpX_goodWords
  dsimp only
  refine br_c (fun _ => k) (fun z1 => br_c (fun _ => k) (fun z2 => br_c (fun _ => k) (fun z3 => br_t ?_ k)))
  rcases h with h | h | h | h
  · exact absurd h z1
  · exact absurd h z2
  · exact absurd h z3
  · exact h
theorem pg_xWd {post : Int32 → Prop} {i n : Nat} (h1 : i < 64) (h2 : i + n ≤ 64) (k : post 1) : wpX_goodWords post (f1, f2, fr, sl, lm, fc, cc, hd, ts, th, lv, dr, fl, fe, pk, pr, pp, pc, W, U, rf, O, KP, he, sz, nx, pv, tm, tp, tf, tw) (nI i) (nI n) := by
  unfold wpX_goodWords
  dsimp only
  rw [show (64 : Int32) = nI 64 from rfl, pk_sub (by omega)]
  exact br_f (nI_pos (by omega)) (br_f (nI_ge (by omega) (by omega)) (br_f (nI_pos (by omega)) (br_f (nI_nlt (by omega) (by omega)) k)))
theorem pg_xGpB {post : Int32 → Prop} {x : Int32} (h : x < 0 ∨ nI 16 ≤ x) (k : post 0) : wpX_goodPage post (f1, f2, fr, sl, lm, fc, cc, hd, ts, th, lv, dr, fl, fe, pk, pr, pp, pc, W, U, rf, O, KP, he, sz, nx, pv, tm, tp, tf, tw) x := by
  unfold wpX_goodPage
  dsimp only
  refine br_c (fun _ => k) (fun z => br_t ?_ k)
  rcases h with h | h
  · exact absurd h z
  · exact h
theorem pg_xGp {post : Int32 → Prop} {j : Nat} (h : j < 16) (k : post 1) : wpX_goodPage post (f1, f2, fr, sl, lm, fc, cc, hd, ts, th, lv, dr, fl, fe, pk, pr, pp, pc, W, U, rf, O, KP, he, sz, nx, pv, tm, tp, tf, tw) (nI j) :=
  br_f (nI_pos (by omega)) (br_f (nI_ge (b := 16) h (by decide)) k)
theorem pg_xGr {post : Int32 → Prop} {x : Int32} (k0 : (x < 0 ∨ ¬ x ≤ 2) → post 0) (k1 : ¬ x < 0 → x ≤ 2 → post 1) : wpX_goodRights post (f1, f2, fr, sl, lm, fc, cc, hd, ts, th, lv, dr, fl, fe, pk, pr, pp, pc, W, U, rf, O, KP, he, sz, nx, pv, tm, tp, tf, tw) x := by
  unfold wpX_goodRights
  dsimp only
  refine br_c (fun z => k0 (Or.inl z)) (fun z => br_c (fun w => k0 (Or.inr (Int32.not_le.mpr w))) (fun w => k1 z (Int32.not_lt.mp w)))
theorem pg_xLD {post : Int32 → Prop} (k1 : ∀ p, p < 4 → lv p = 0 → (∀ p', p' < p → lv p' ≠ 0) → post (nI p)) (k2 : (∀ p, p < 4 → lv p ≠ 0) → post (-1)) : ∀ d i, i + d = 4 → (∀ p, p < i → lv p ≠ 0) → wX_lowestDead_2 post f1 f2 fr sl lm fc cc hd ts th lv dr fl fe pk pr pp pc W U rf O KP he sz nx pv tm tp tf tw (d + 1) (nI i)
  | 0, i, e, hi => br_t (nI_le (a := 4) (by omega) (by omega)) (k2 (fun p hp => hi p (by omega)))
  | d + 1, i, e, hi => by
    refine br_f (nI_ge (b := 4) (by omega) (by omega)) ⟨vp_in_nI (by omega) (by omega), ?_⟩
    rw [nI_clamp (n := i) (by omega)]
    refine br_c (fun z => k1 i (by omega) z hi) (fun z => nm_r (nI_1 i) ?_)
    exact pg_xLD k1 k2 d (i + 1) (by omega) (fun p hp => by
      by_cases w : p = i
      · rw [w]; exact z
      · exact hi p (by omega))
end
section
variable {FR SL NC : Nat} {D : Nat → Nat} {lv K R C P Q W U O KP lb wd : Nat → Int32} {u : SX}
theorem pg_find {post : Int32 → Prop} (h : pg_RX FR SL D lv K R C P Q W U O KP NC u) {p j : Nat} (hp : p < 4) (hj : j < 16) (k2 : lv p = 0 → post (-2)) (k3 : lv p ≠ 0 → K (16 * p + j) = 0 → post (-3)) (k0 : lv p ≠ 0 → K (16 * p + j) ≠ 0 → post (nI (pg_pt D (16 * p + j)))) : wpX_find post u (nI p) (nI j) := by
  refine pg_RXe (Z := fun u => wpX_find post u (nI p) (nI j)) h ?_
  intro f1 f2 NF NH TS TH dr fl fe pk pr pp pc rf he sz nx pv tm tp tf tw hH T C0 t1 t8 hT L
  unfold wpX_find
  dsimp only
  refine pg_xGp hj (br_f (by decide) (pg_xPid hp (fun z => br_f (by decide) (k2 z)) (fun z => br_t rfl ?_)))
  rw [pg_m16]
  refine pg_walkR T (by omega) (fun w => br_f (by decide) (k3 z w)) (fun w => ?_)
  have := (pg_TBm T (m := 16 * p + j) (by omega) w).2.2.1
  exact br_t (nI_pos' (by omega)) (k0 z w)
theorem pg_findB {post : Int32 → Prop} {x y : Int32} (hb : (x < 0 ∨ nI 4 ≤ x) ∨ (y < 0 ∨ nI 16 ≤ y)) (k : post (-1)) : wpX_find post u x y := by
  refine pg_sx (Z := fun u => wpX_find post u x y) ?_ u
  intro f1 f2 fr sl lm fc cc hd ts th lv dr fl fe pk pr pp pc W U rf O KP he sz nx pv tm tp tf tw
  unfold wpX_find
  dsimp only
  rcases pk_ix y (n := 16) (by omega) with z | z | ⟨j, hj, rfl⟩
  · exact pg_xGpB (Or.inl z) (br_t rfl k)
  · exact pg_xGpB (Or.inr z) (br_t rfl k)
  · refine pg_xGp hj (br_f (by decide) (pg_xPidB ?_ (br_f (by decide) k)))
    rcases hb with h | (h | h)
    · exact h
    · exact absurd h (nI_pos (by omega))
    · exact absurd h (nI_ge hj (by omega))
/-- what a detach needs -/
theorem pg_GDdet (G : pg_GD FR SL lv K R C P Q W U O KP NC) {m : Nat} (hm : m < 64) : ((Q m = -1 ∧ P m = -1) ∨ ∃ c, c < 26 ∧ Q m = nI c) ∧ ∀ q, q < 18 → Q m = nI q → (∀ x, x < 64 → x ≠ m → Q x ≠ nI q) → 0 < NC ∧ (O q = -1 ∨ ∃ k, k < 8 ∧ O q = nI k) := by
  constructor
  · obtain ⟨⟨k, hk, ek⟩, _, _, eQ, hP, _⟩ := G.1 m hm
    rcases hP with e | ⟨q, hq, e, _⟩
    · rw [eQ, e, ek]
      by_cases h2 : k < 2
      · have : pg_chn (nI k) (-1) = -1 := by
          have : k = 0 ∨ k = 1 := by omega
          rcases this with rfl | rfl <;> decide
        exact Or.inl ⟨this, rfl⟩
      · obtain ⟨j, rfl⟩ : ∃ j, k = j + 2 := ⟨k - 2, by omega⟩
        exact Or.inr ⟨18 + j, by omega, pg_chn_s j (by omega)⟩
    · exact Or.inr ⟨q, by omega, by rw [eQ, e, pg_chn_p _ (by omega)]⟩
  · intro q hq e _
    have eP := (pg_GDq G hm hq).1 e
    have hU := pg_GDu G hm hq eP
    refine ⟨?_, ?_⟩
    · rw [G.2.2.2.2.1.1]
      exact pg_cn_pos hq (decide_eq_true hU)
    · rcases pg_GDok G hq hU with z | ⟨k, hk, z, _⟩
      · exact Or.inl z
      · exact Or.inr ⟨k, hk, z⟩
theorem pg_GDaf (G : pg_GD FR SL lv K R C P Q W U O KP NC) {m : Nat} {k0 r0 c0 : Int32} {P' Q' U' O' KP' : Nat → Int32} {NC' : Nat} (hm : m < 64) (ho : pg_out K C m k0 r0 c0) (haf : pg_af m P Q U O KP NC P' Q' U' O' KP' NC') :
    pg_GD FR SL lv (upd K m k0) (upd R m r0) (upd C m c0) P' Q' W U' O' KP' NC' := by
  obtain ⟨rfl, rfl, haf⟩ := haf
  rcases haf with ⟨h1, rfl, rfl, rfl, rfl⟩ | ⟨q, hq, h1, h2, rfl, rfl, rfl, rfl⟩
  · refine pg_GDoutA G hm ho ?_
    intro q hq e
    obtain ⟨x, hx, hne, z⟩ := h1 q hq ((pg_GDq G hm hq).2 e)
    exact ⟨x, hx, hne, (pg_GDq G hx hq).1 z⟩
  · refine pg_GDoutB G hm hq ((pg_GDq G hm hq).1 h1) ho ?_
    intro x hx hne z
    exact h2 x hx hne ((pg_GDq G hx hq).2 z)
theorem pg_YLout (Y : pg_YL lb wd P W) {m : Nat} : pg_YL (upd lb m 0) (pg_w4 wd m (fun _ => 0)) (upd P m (-1)) W ∨ ¬ m < 64 := by
  by_cases hm : m < 64
  · left
    refine ⟨⟨?_, ?_⟩, ?_⟩
    · intro x hx
      by_cases e : x = m
      · subst e; rw [pg_us, pg_us]; exact ⟨fun _ => rfl, fun _ => rfl⟩
      · rw [pg_un e, pg_un e]; exact Y.1.1 x hx
    · intro x y hx hy
      by_cases e : x = m <;> by_cases e2 : y = m
      · subst e; subst e2; exact ⟨fun _ => rfl, fun _ => rfl⟩
      · subst e; rw [pg_us, pg_us, pg_un e2, pg_un e2]
        have := Y.1.1 y hy
        exact ⟨fun z => (this.1 z.symm).symm, fun z => (this.2 z.symm).symm⟩
      · subst e2; rw [pg_us, pg_us, pg_un e, pg_un e]
        exact Y.1.1 x hx
      · rw [pg_un e, pg_un e2, pg_un e, pg_un e2]; exact Y.1.2 x y hx hy
    · intro x hx
      by_cases e : x = m
      · subst e
        rw [pg_us]
        refine ⟨fun _ w hw => pg_w4s hw, ?_⟩
        intro q hq z
        exact absurd z (pg_mn (by omega))
      · rw [pg_un e]
        have y := Y.2 x hx
        refine ⟨fun z w hw => ?_, fun q hq z w hw => ?_⟩
        · rw [pg_w4n hw e]; exact y.1 z w hw
        · rw [pg_w4n hw e]; exact y.2 q hq z w hw
  · exact Or.inr hm
/-- unmapping what is unmapped changes nothing -/
theorem pg_uid (G : pg_GD FR SL lv K R C P Q W U O KP NC) (Y : pg_YL lb wd P W) {m : Nat} (hm : m < 64) (h0 : K m = 0) : upd K m 0 = K ∧ upd R m 0 = R ∧ upd C m 0 = C ∧ upd lb m 0 = lb ∧ pg_w4 wd m (fun _ => 0) = wd := by
  obtain ⟨r0, c0, p0⟩ := (G.1 m hm).2.2.1 h0
  refine ⟨pg_uself h0, pg_uself r0, pg_uself c0, pg_uself ((Y.1.1 m hm).2 p0), ?_⟩
  funext i
  unfold pg_w4
  split
  · rename_i e
    have := (Y.2 m hm).1 p0 (i % 4) (by omega)
    rw [show 4 * m + i % 4 = i by omega] at this
    exact this.symm
  · rfl
end
end
section
theorem pg_pj (x y : Int32) : ((x < 0 ∨ nI 4 ≤ x) ∨ (y < 0 ∨ nI 16 ≤ y)) ∨ ∃ p j : Nat, p < 4 ∧ j < 16 ∧ x = nI p ∧ y = nI j := by
  rcases pk_ix x (n := 4) (by omega) with z | z | ⟨p, hp, rfl⟩
  · exact Or.inl (Or.inl (Or.inl z))
  · exact Or.inl (Or.inl (Or.inr z))
  · rcases pk_ix y (n := 16) (by omega) with z | z | ⟨j, hj, rfl⟩
    · exact Or.inl (Or.inr (Or.inl z))
    · exact Or.inl (Or.inr (Or.inr z))
    · exact Or.inr ⟨p, j, hp, hj, rfl, rfl⟩
theorem pg_pid (x : Int32) : (x < 0 ∨ nI 4 ≤ x) ∨ ∃ p : Nat, p < 4 ∧ x = nI p := by
  rcases pk_ix x (n := 4) (by omega) with z | z | ⟨p, hp, rfl⟩
  · exact Or.inl (Or.inl z)
  · exact Or.inl (Or.inr z)
  · exact Or.inr ⟨p, hp, rfl⟩
section
variable {u : SX} {v : SY}
theorem pg_vkind {post : Int32 → Prop} {x y : Int32} (h : pg_Rel u v) (k : ∀ r, (∀ q : Int32 → Prop, q r → wpY_kind q v x y) → post r) : wpX_kind post u x y := by
  revert k
  refine pg_Re (Z := fun u v => (∀ r, (∀ q : Int32 → Prop, q r → wpY_kind q v x y) → post r) → wpX_kind post u x y) h ?_
  intro FR SL NC D P Q W U O KP lv K R C lb wd G Y
  refine pg_RXa ?_
  intro f1 f2 NF NH TS TH dr fl fe pk pr pp pc rf he sz nx pv tm tp tf tw hH T C0 t1 t8 hT L k
  have h : pg_RX FR SL D lv K R C P Q W U O KP NC (f1, f2, nI FR, nI SL, nI (FR + SL - 1), nI NF, nI NC, nI NH, nI TS, nI TH, lv, dr, fl, fe, pk, pr, pp, pc, W, U, rf, O, KP, he, sz, nx, pv, tm, tp, tf, tw) := pg_RXi hH T C0 t1 t8 hT L
  unfold wpX_kind
  dsimp only
  rcases pg_pj x y with hb | ⟨p, j, hp, hj, rfl, rfl⟩
  · refine pg_findB hb (br_f (by decide) (br_f (by decide) (k (-1) (fun q hq => ?_))))
    unfold wpY_kind
    dsimp only
    exact pg_yCPb hb (br_t rfl hq)
  · refine pg_find h hp hj (fun z => ?_) (fun z w => ?_) (fun z w => ?_)
    · refine br_f (by decide) (br_f (by decide) (k (-2) (fun q hq => ?_)))
      unfold wpY_kind
      dsimp only
      exact pg_yCP hp hj (fun _ => br_f (by decide) (br_t rfl hq)) (fun z' => absurd z z') (fun z' => absurd z z')
    · refine br_t rfl (k 0 (fun q hq => ?_))
      unfold wpY_kind
      dsimp only
      refine pg_yCP hp hj (fun z' => absurd z' z) (fun _ _ => br_f (by decide) (br_f (by decide) ?_)) (fun _ z' => absurd w z')
      rw [pg_m16, nI_clamp (n := 16 * p + j) (by omega), w]
      exact ⟨vp_in_nI (by omega) (by omega), hq⟩
    · obtain ⟨d1, d2, hpt, e1, e2, e3, e4⟩ := pg_TBm T (m := 16 * p + j) (by omega) w
      refine br_f (fun z' => nI_pos (n := pg_pt D (16 * p + j)) (by omega) (by rw [z']; decide)) (br_t (nI_pos' (by omega)) ⟨vp_in_nI hpt (by omega), ?_⟩)
      rw [nI_clamp (n := pg_pt D (16 * p + j)) (by omega), e1]
      refine k _ (fun q hq => ?_)
      unfold wpY_kind
      dsimp only
      refine pg_yCP hp hj (fun z' => absurd z' z) (fun _ z' => absurd z' w) (fun _ _ => br_f (by decide) (br_f (by decide) ?_))
      rw [pg_m16, nI_clamp (n := 16 * p + j) (by omega)]
      exact ⟨vp_in_nI (by omega) (by omega), hq⟩
theorem pg_vrights {post : Int32 → Prop} {x y : Int32} (h : pg_Rel u v) (k : ∀ r, (∀ q : Int32 → Prop, q r → wpY_rights q v x y) → post r) : wpX_rights post u x y := by
  revert k
  refine pg_Re (Z := fun u v => (∀ r, (∀ q : Int32 → Prop, q r → wpY_rights q v x y) → post r) → wpX_rights post u x y) h ?_
  intro FR SL NC D P Q W U O KP lv K R C lb wd G Y
  refine pg_RXa ?_
  intro f1 f2 NF NH TS TH dr fl fe pk pr pp pc rf he sz nx pv tm tp tf tw hH T C0 t1 t8 hT L k
  have h : pg_RX FR SL D lv K R C P Q W U O KP NC (f1, f2, nI FR, nI SL, nI (FR + SL - 1), nI NF, nI NC, nI NH, nI TS, nI TH, lv, dr, fl, fe, pk, pr, pp, pc, W, U, rf, O, KP, he, sz, nx, pv, tm, tp, tf, tw) := pg_RXi hH T C0 t1 t8 hT L
  unfold wpX_rights
  dsimp only
  rcases pg_pj x y with hb | ⟨p, j, hp, hj, rfl, rfl⟩
  · exact pg_findB hb (br_f (by decide) (k (-1) (fun q hq => by unfold wpY_rights; dsimp only; exact pg_yCPb hb (br_f (by decide) hq))))
  · refine pg_find h hp hj (fun z => ?_) (fun z w => ?_) (fun z w => ?_)
    · refine br_f (by decide) (k (-2) (fun q hq => ?_))
      unfold wpY_rights
      dsimp only
      exact pg_yCP hp hj (fun _ => br_f (by decide) hq) (fun z' => absurd z z') (fun z' => absurd z z')
    · refine br_f (by decide) (k (-3) (fun q hq => ?_))
      unfold wpY_rights
      dsimp only
      exact pg_yCP hp hj (fun z' => absurd z' z) (fun _ _ => br_f (by decide) hq) (fun _ z' => absurd w z')
    · obtain ⟨d1, d2, hpt, e1, e2, e3, e4⟩ := pg_TBm T (m := 16 * p + j) (by omega) w
      refine br_t (nI_pos' (by omega)) ⟨vp_in_nI hpt (by omega), ?_⟩
      rw [nI_clamp (n := pg_pt D (16 * p + j)) (by omega), e2]
      refine k _ (fun q hq => ?_)
      unfold wpY_rights
      dsimp only
      refine pg_yCP hp hj (fun z' => absurd z' z) (fun _ z' => absurd z' w) (fun _ _ => br_t rfl ?_)
      rw [pg_m16, nI_clamp (n := 16 * p + j) (by omega)]
      exact ⟨vp_in_nI (by omega) (by omega), hq⟩
theorem pg_vchanged {post : Int32 → Prop} {x y : Int32} (h : pg_Rel u v) (k : ∀ r, (∀ q : Int32 → Prop, q r → wpY_changed q v x y) → post r) : wpX_changed post u x y := by
  revert k
  refine pg_Re (Z := fun u v => (∀ r, (∀ q : Int32 → Prop, q r → wpY_changed q v x y) → post r) → wpX_changed post u x y) h ?_
  intro FR SL NC D P Q W U O KP lv K R C lb wd G Y
  refine pg_RXa ?_
  intro f1 f2 NF NH TS TH dr fl fe pk pr pp pc rf he sz nx pv tm tp tf tw hH T C0 t1 t8 hT L k
  have h : pg_RX FR SL D lv K R C P Q W U O KP NC (f1, f2, nI FR, nI SL, nI (FR + SL - 1), nI NF, nI NC, nI NH, nI TS, nI TH, lv, dr, fl, fe, pk, pr, pp, pc, W, U, rf, O, KP, he, sz, nx, pv, tm, tp, tf, tw) := pg_RXi hH T C0 t1 t8 hT L
  unfold wpX_changed
  dsimp only
  rcases pg_pj x y with hb | ⟨p, j, hp, hj, rfl, rfl⟩
  · exact pg_findB hb (br_f (by decide) (k (-1) (fun q hq => by unfold wpY_changed; dsimp only; exact pg_yCPb hb (br_f (by decide) hq))))
  · refine pg_find h hp hj (fun z => ?_) (fun z w => ?_) (fun z w => ?_)
    · refine br_f (by decide) (k (-2) (fun q hq => ?_))
      unfold wpY_changed
      dsimp only
      exact pg_yCP hp hj (fun _ => br_f (by decide) hq) (fun z' => absurd z z') (fun z' => absurd z z')
    · refine br_f (by decide) (k (-3) (fun q hq => ?_))
      unfold wpY_changed
      dsimp only
      exact pg_yCP hp hj (fun z' => absurd z' z) (fun _ _ => br_f (by decide) hq) (fun _ z' => absurd w z')
    · obtain ⟨d1, d2, hpt, e1, e2, e3, e4⟩ := pg_TBm T (m := 16 * p + j) (by omega) w
      refine br_t (nI_pos' (by omega)) ⟨vp_in_nI hpt (by omega), ?_⟩
      rw [nI_clamp (n := pg_pt D (16 * p + j)) (by omega), e4]
      have hy : ∀ q : Int32 → Prop, q (C (16 * p + j)) → wpY_changed q (nI (FR + SL - 1), lv, K, R, C, lb, wd) (nI p) (nI j) := by
        intro q hq
        unfold wpY_changed
        dsimp only
        refine pg_yCP hp hj (fun z' => absurd z' z) (fun _ z' => absurd z' w) (fun _ _ => br_t rfl ?_)
        rw [pg_m16, nI_clamp (n := 16 * p + j) (by omega)]
        exact ⟨vp_in_nI (by omega) (by omega), hq⟩
      rcases (G.1 (16 * p + j) (by omega)).2.1 with c0 | c1
      · rw [c0] at hy ⊢
        exact br_t rfl (k 0 hy)
      · rw [c1] at hy ⊢
        exact br_f (by decide) (k 1 hy)
theorem pg_vsharers {post : Int32 → Prop} {x y : Int32} (h : pg_Rel u v) (k : ∀ r, (∀ q : Int32 → Prop, q r → wpY_sharers q v x y) → post r) : wpX_sharers post u x y := by
  revert k
  refine pg_Re (Z := fun u v => (∀ r, (∀ q : Int32 → Prop, q r → wpY_sharers q v x y) → post r) → wpX_sharers post u x y) h ?_
  intro FR SL NC D P Q W U O KP lv K R C lb wd G Y
  refine pg_RXa ?_
  intro f1 f2 NF NH TS TH dr fl fe pk pr pp pc rf he sz nx pv tm tp tf tw hH T C0 t1 t8 hT L k
  have h : pg_RX FR SL D lv K R C P Q W U O KP NC (f1, f2, nI FR, nI SL, nI (FR + SL - 1), nI NF, nI NC, nI NH, nI TS, nI TH, lv, dr, fl, fe, pk, pr, pp, pc, W, U, rf, O, KP, he, sz, nx, pv, tm, tp, tf, tw) := pg_RXi hH T C0 t1 t8 hT L
  unfold wpX_sharers
  dsimp only
  rcases pg_pj x y with hb | ⟨p, j, hp, hj, rfl, rfl⟩
  · exact pg_findB hb (br_f (by decide) (k (-1) (fun q hq => by unfold wpY_sharers; dsimp only; exact pg_yCPb hb (br_f (by decide) hq))))
  · refine pg_find h hp hj (fun z => ?_) (fun z w => ?_) (fun z w => ?_)
    · refine br_f (by decide) (k (-2) (fun q hq => ?_))
      unfold wpY_sharers
      dsimp only
      exact pg_yCP hp hj (fun _ => br_f (by decide) hq) (fun z' => absurd z z') (fun z' => absurd z z')
    · refine br_f (by decide) (k (-3) (fun q hq => ?_))
      unfold wpY_sharers
      dsimp only
      exact pg_yCP hp hj (fun z' => absurd z' z) (fun _ _ => br_f (by decide) hq) (fun _ z' => absurd w z')
    · have hm : 16 * p + j < 64 := by omega
      obtain ⟨d1, d2, hpt, e1, e2, e3, e4⟩ := pg_TBm T hm w
      refine br_t (nI_pos' (by omega)) ⟨vp_in_nI hpt (by omega), ?_⟩
      rw [nI_clamp (n := pg_pt D (16 * p + j)) (by omega)]
      rcases (G.1 (16 * p + j) hm).2.2.2.2.1 with eP | ⟨q', hq', eP, _⟩
      · refine nm_r (e3.trans eP) (br_f (by decide) (k 0 (fun q hq => ?_)))
        unfold wpY_sharers
        dsimp only
        refine pg_yCP hp hj (fun z' => absurd z' z) (fun _ z' => absurd z' w) (fun _ _ => br_t rfl ?_)
        rw [pg_m16]
        exact pg_yGS hm (fun _ => hq) (fun z' => absurd ((Y.1.1 _ hm).2 eP) z')
      · refine nm_r (e3.trans eP) (br_t (nI_pos' (by omega)) ⟨vp_in_nI (by omega) (by omega), ?_⟩)
        rw [nI_clamp (n := q') (by omega), pg_CHsz C0 (c := q') (by omega)]
        refine k _ (fun q hq => ?_)
        unfold wpY_sharers
        dsimp only
        refine pg_yCP hp hj (fun z' => absurd z' z) (fun _ z' => absurd z' w) (fun _ _ => br_t rfl ?_)
        rw [pg_m16]
        refine pg_yGS hm (fun z' => ?_) (fun _ => ?_)
        · rw [Y.1.1 _ hm, eP] at z'; exact absurd z' (pg_nm (by omega))
        · have e : pg_cn (fun x => decide (lb x = lb (16 * p + j))) 64 = pg_cn (fun x => decide (Q x = nI q')) 64 := by
            refine pg_cn_congr ?_
            intro x hx
            have : (lb x = lb (16 * p + j)) ↔ (Q x = nI q') := by rw [Y.1.2 x _ hx hm, eP, pg_GDq G hx hq']
            simp only [this]
          rw [e]; exact hq
theorem pg_vcopies {post : Int32 → Prop} (h : pg_Rel u v) (k : ∀ r, (∀ q : Int32 → Prop, q r → wpY_copies q v) → post r) : wpX_copies post u := by
  revert k
  refine pg_Re (Z := fun u v => (∀ r, (∀ q : Int32 → Prop, q r → wpY_copies q v) → post r) → wpX_copies post u) h ?_
  intro FR SL NC D P Q W U O KP lv K R C lb wd G Y
  refine pg_RXa ?_
  intro f1 f2 NF NH TS TH dr fl fe pk pr pp pc rf he sz nx pv tm tp tf tw hH T C0 t1 t8 hT L k
  refine k (nI NC) (fun q hq => ?_)
  refine pg_yCopies ?_
  rw [pg_cpsNC G Y.1]
  exact hq
theorem pg_yPeek {lim : Int32} {lv K R C lb wd : Nat → Int32} {q : Int32 → Prop} {p a : Nat} (hp : p < 4) (ha : a < 64) (k2 : lv p = 0 → q (-2)) (k3 : lv p ≠ 0 → K (16 * p + a / 4) = 0 → q (-3)) (k0 : lv p ≠ 0 → K (16 * p + a / 4) ≠ 0 → q (if lb (16 * p + a / 4) = 0 then 0 else wd (4 * (16 * p + a / 4) + a % 4))) : wpY_peek q (lim, lv, K, R, C, lb, wd) (nI p) (nI a) := by
  unfold wpY_peek
  dsimp only
  refine pg_yCA hp ha (fun z => br_f (by decide) (k2 z)) (fun z w => br_f (by decide) (k3 z w)) (fun z w => br_t rfl ⟨by decide, ?_⟩)
  have k0 := k0 z w
  rw [show (4 : Int32) = nI 4 from rfl, pk_rem (by omega) (by omega) (by omega), pk_div (by omega) (by omega) (by omega)]
  have hm : 16 * p + a / 4 < 64 := by omega
  refine nm_r (e' := nI (16 * p + a / 4)) (by rw [pg_m16]) ⟨vp_in_nI hm (by omega), ?_⟩
  rw [nI_clamp (n := 16 * p + a / 4) (by omega)]
  refine br_c (fun l0 => ?_) (fun l0 => ⟨by decide, ?_⟩)
  · rw [if_pos l0] at k0; exact k0
  · rw [if_neg l0] at k0
    rw [pk_mul, nI_add, nI_clamp (n := 4 * (16 * p + a / 4) + a % 4) (by omega)]
    exact ⟨vp_in_nI (by omega) (by omega), k0⟩
end
end
section
section
variable {u : SX} {v : SY}
theorem pg_vpeek {post : Int32 → Prop} {x y : Int32} (h : pg_Rel u v) (k : ∀ r, (∀ q : Int32 → Prop, q r → wpY_peek q v x y) → post r) : wpX_peek post u x y := by
  revert k
  refine pg_Re (Z := fun u v => (∀ r, (∀ q : Int32 → Prop, q r → wpY_peek q v x y) → post r) → wpX_peek post u x y) h ?_
  intro FR SL NC D P Q W U O KP lv K R C lb wd G Y
  refine pg_RXa ?_
  intro f1 f2 NF NH TS TH dr fl fe pk pr pp pc rf he sz nx pv tm tp tf tw hH T C0 t1 t8 hT L k
  have h : pg_RX FR SL D lv K R C P Q W U O KP NC (f1, f2, nI FR, nI SL, nI (FR + SL - 1), nI NF, nI NC, nI NH, nI TS, nI TH, lv, dr, fl, fe, pk, pr, pp, pc, W, U, rf, O, KP, he, sz, nx, pv, tm, tp, tf, tw) := pg_RXi hH T C0 t1 t8 hT L
  unfold wpX_peek
  dsimp only
  have bad : ((x < 0 ∨ nI 4 ≤ x) ∨ (y < 0 ∨ nI 64 ≤ y)) → post (-1) := by
    intro hb
    refine k (-1) (fun q hq => ?_)
    unfold wpY_peek
    dsimp only
    exact pg_yCAb hb (br_f (by decide) hq)
  rcases pk_ix y (n := 64) (by omega) with z | z | ⟨a, ha, rfl⟩
  · exact pg_xWdB (Or.inl z) (br_t rfl (bad (Or.inr (Or.inl z))))
  · exact pg_xWdB (Or.inr (Or.inl z)) (br_t rfl (bad (Or.inr (Or.inr z))))
  · refine pg_xWd (n := 1) ha (by omega) (br_f (by decide) ?_)
    rw [pg_s2 (by omega)]
    rcases pg_pid x with hb | ⟨p, hp, rfl⟩
    · exact pg_findB (Or.inl hb) (br_f (by decide) (bad (Or.inl hb)))
    · refine pg_find h hp (by omega) (fun z => ?_) (fun z w => ?_) (fun z w => ?_)
      · refine br_f (by decide) (k (-2) (fun q hq => ?_))
        exact pg_yPeek hp ha (fun _ => hq) (fun z' => absurd z z') (fun z' => absurd z z')
      · refine br_f (by decide) (k (-3) (fun q hq => ?_))
        exact pg_yPeek hp ha (fun z' => absurd z' z) (fun _ _ => hq) (fun _ z' => absurd w z')
      · have hm : 16 * p + a / 4 < 64 := by omega
        obtain ⟨d1, d2, hpt, e1, e2, e3, e4⟩ := pg_TBm T hm w
        refine br_t (nI_pos' (by omega)) ⟨vp_in_nI hpt (by omega), ?_⟩
        rw [nI_clamp (n := pg_pt D (16 * p + a / 4)) (by omega)]
        rcases (G.1 (16 * p + a / 4) hm).2.2.2.2.1 with eP | ⟨q', hq', eP, _⟩
        · refine nm_r (e3.trans eP) (br_f (by decide) (k 0 (fun q hq => ?_)))
          refine pg_yPeek hp ha (fun z' => absurd z' z) (fun _ z' => absurd z' w) (fun _ _ => ?_)
          rw [if_pos ((Y.1.1 _ hm).2 eP)]; exact hq
        · refine nm_r (e3.trans eP) (br_t (nI_pos' (by omega)) ?_)
          rw [pg_a3 (by omega), pg_t4, nI_clamp (n := 4 * q' + a % 4) (by omega)]
          refine ⟨vp_in_nI (by omega) (by omega), k _ (fun q hq => ?_)⟩
          refine pg_yPeek hp ha (fun z' => absurd z' z) (fun _ z' => absurd z' w) (fun _ _ => ?_)
          rw [if_neg (by rw [Y.1.1 _ hm, eP]; exact pg_nm (by omega)), (Y.2 _ hm).2 q' hq' eP (a % 4) (by omega)]
          exact hq
end
/-- the best sharer so far among those with S -/
def pg_bst (S : Nat → Prop) (af r : Int32) : Prop := (r = -8 ∧ ∀ x, x < 64 → S x → nI x ≤ af) ∨ ∃ b, b < 64 ∧ r = nI b ∧ S b ∧ ¬ nI b ≤ af ∧ ∀ x, x < 64 → S x → ¬ nI x ≤ af → b ≤ x
theorem pg_bst_c {S S' : Nat → Prop} {af r : Int32} (h : ∀ x, x < 64 → (S x ↔ S' x)) (hb : pg_bst S af r) : pg_bst S' af r := by
  rcases hb with ⟨e, k⟩ | ⟨b, hb, e, hS, k1, k2⟩
  · exact Or.inl ⟨e, fun x hx hs => k x hx ((h x hx).2 hs)⟩
  · exact Or.inr ⟨b, hb, e, (h b hb).1 hS, k1, fun x hx hs => k2 x hx ((h x hx).2 hs)⟩
section
variable {f1 f2 fr sl lm fc cc hd ts th : Int32} {lv dr fl fe pk pr pp pc W U rf O KP he sz nx pv tm tp tf tw : Nat → Int32}
theorem pg_nsl {post : Int32 → Prop} {af : Int32} : ∀ (l : List Nat) (i : Nat) (bo : Int32) (S : Nat → Prop) (r : Int32), i + l.length ≤ 64 → pg_Lk nx pv bo l → (∀ m, m ∈ l → m < 64) → pg_bst S af r → (∀ r', pg_bst (fun x => S x ∨ x ∈ l) af r' → post r') → ∀ n, l.length < n → wX_nextSharer_49 post af f1 f2 fr sl lm fc cc hd ts th lv dr fl fe pk pr pp pc W U rf O KP he sz nx pv tm tp tf tw n r (pg_hd l) (nI i)
  | [], i, bo, S, r, hi, hl, hm, hb, k, 0, hn => absurd hn (by simp)
  | [], i, bo, S, r, hi, hl, hm, hb, k, n + 1, hn => by
    have hk : post r := k r (pg_bst_c (fun x _ => by simp) hb)
    exact br_c (fun _ => hk) (fun _ => br_t (show (-1 : Int32) < 0 by decide) hk)
  | m :: l, i, bo, S, r, hi, hl, hm, hb, k, 0, hn => absurd hn (by simp)
  | m :: l, i, bo, S, r, hi, hl, hm, hb, k, n + 1, hn => by
    have hlen : (m :: l).length = l.length + 1 := rfl
    have hm0 := hm m (by simp)
    have hv : vp_in (nI m) 64 := vp_in_nI hm0 (by omega)
    have next : ∀ r2, pg_bst (fun x => S x ∨ x = m) af r2 → wX_nextSharer_49 post af f1 f2 fr sl lm fc cc hd ts th lv dr fl fe pk pr pp pc W U rf O KP he sz nx pv tm tp tf tw n r2 (pg_hd l) (nI (i + 1)) := by
      intro r2 hb2
      refine pg_nsl l (i + 1) (nI m) _ r2 (by omega) hl.2.2 (fun x hx => hm x (by simp [hx])) hb2 ?_ n (by omega)
      intro r' hr'
      refine k r' (pg_bst_c (fun x _ => ?_) hr')
      rw [List.mem_cons]
      constructor
      · rintro ((z | z) | z)
        · exact Or.inl z
        · exact Or.inr (Or.inl z)
        · exact Or.inr (Or.inr z)
      · rintro (z | z | z)
        · exact Or.inl (Or.inl z)
        · exact Or.inl (Or.inr z)
        · exact Or.inr z
    refine br_f (nI_ge (b := 64) (by omega) (by decide)) (br_f (nI_pos (by omega)) (br_c (fun ha => ?_) (fun ha => ?_)))
    · refine ⟨hv, ?_⟩
      show ∀ x7, x7 = nx (nI m).toNatClampNeg → _
      rw [nI_clamp (n := m) (by omega)]
      refine nm_r hl.2.1 (nm_r (nI_1 i) (next r ?_))
      rcases hb with ⟨e, k1⟩ | ⟨b, hb, e, hS, k1, k2⟩
      · refine Or.inl ⟨e, fun x hx hs => ?_⟩
        rcases hs with hs | hs
        · exact k1 x hx hs
        · rw [hs]; exact ha
      · refine Or.inr ⟨b, hb, e, Or.inl hS, k1, fun x hx hs hx2 => ?_⟩
        rcases hs with hs | hs
        · exact k2 x hx hs hx2
        · rw [hs] at hx2; exact absurd ha hx2
    · have take : (∀ x, x < 64 → S x → ¬ nI x ≤ af → m ≤ x) → wX_nextSharer_79 post (wX_nextSharer_49 post af f1 f2 fr sl lm fc cc hd ts th lv dr fl fe pk pr pp pc W U rf O KP he sz nx pv tm tp tf tw n) af (nI m) (nI i) f1 f2 fr sl lm fc cc hd ts th lv dr fl fe pk pr pp pc W U rf O KP he sz nx pv tm tp tf tw := by
        intro hmin
        unfold wX_nextSharer_79
        rw [nI_clamp (n := m) (by omega)]
        refine ⟨hv, nm_r hl.2.1 (nm_r (nI_1 i) (next (nI m) (Or.inr ⟨m, hm0, rfl, Or.inr rfl, ha, fun x hx hs hx2 => ?_⟩)))⟩
        rcases hs with hs | hs
        · exact hmin x hx hs hx2
        · omega
      rcases hb with ⟨rfl, k1⟩ | ⟨b, hb, rfl, hS, k1, k2⟩
      · exact br_t (by decide) (take (fun x hx hs hx2 => absurd (k1 x hx hs) hx2))
      · refine br_f (nI_pos (by omega)) (pk_le b m (fun hbm => ⟨hv, ?_⟩) (fun hbm => take (fun x hx hs hx2 => by have := k2 x hx hs hx2; omega)))
        show ∀ x7, x7 = nx (nI m).toNatClampNeg → _
        rw [nI_clamp (n := m) (by omega)]
        refine nm_r hl.2.1 (nm_r (nI_1 i) (next (nI b) (Or.inr ⟨b, hb, rfl, Or.inl hS, k1, fun x hx hs hx2 => ?_⟩)))
        rcases hs with hs | hs
        · exact k2 x hx hs hx2
        · omega
end
section
variable {lim : Int32} {lv K R C lb wd : Nat → Int32}
theorem pg_yNS {q : Int32 → Prop} {m : Nat} {af r : Int32} (hm : m < 64) (hb : pg_bst (fun x => lb x = lb m) af r) (k : q r) : ∀ d i, i + d = 64 → (∀ x, x < i → lb x = lb m → nI x ≤ af) → wY_nextSharer_40 q af (nI m) lim lv K R C lb wd (d + 1) (nI i)
  | 0, i, e, hi => by
    refine br_t (nI_le (a := 64) (by omega) (by omega)) ?_
    rcases hb with ⟨rfl, _⟩ | ⟨b, hb, _, hS, k1, _⟩
    · exact k
    · exact absurd (hi b (by omega) hS) k1
  | d + 1, i, e, hi => by
    have hv : vp_in (nI i) 64 := vp_in_nI (by omega) (by omega)
    have step : (lb i = lb m → nI i ≤ af) → wY_nextSharer_40 q af (nI m) lim lv K R C lb wd (d + 1) (nI (i + 1)) := by
      intro hs
      refine pg_yNS hm hb k d (i + 1) (by omega) (fun x hx hl => ?_)
      by_cases z : x = i
      · rw [z] at hl ⊢; exact hs hl
      · exact hi x (by omega) hl
    refine br_f (nI_ge (b := 64) (by omega) (by omega)) (br_c (fun ha => nm_r (nI_1 i) (step (fun _ => ha))) (fun ha => ⟨hv, vp_in_nI hm (by omega), ?_⟩))
    rw [nI_clamp (n := i) (by omega), nI_clamp (n := m) (by omega)]
    refine br_c (fun hl => ?_) (fun hl => nm_r (nI_1 i) (step (fun z => absurd z hl)))
    rcases hb with ⟨_, k1⟩ | ⟨b, hb, rfl, hS, k1, k2⟩
    · exact absurd (k1 i (by omega) hl) ha
    · have h1 := k2 i (by omega) hl ha
      have h2 : ¬ b < i := fun z => k1 (hi b z hS)
      rw [show i = b by omega]
      exact k
end
section
variable {u : SX} {v : SY}
theorem pg_vnextSharer {post : Int32 → Prop} {x y af : Int32} (h : pg_Rel u v) (k : ∀ r, (∀ q : Int32 → Prop, q r → wpY_nextSharer q v x y af) → post r) : wpX_nextSharer post u x y af := by
  revert k
  refine pg_Re (Z := fun u v => (∀ r, (∀ q : Int32 → Prop, q r → wpY_nextSharer q v x y af) → post r) → wpX_nextSharer post u x y af) h ?_
  intro FR SL NC D P Q W U O KP lv K R C lb wd G Y
  refine pg_RXa ?_
  intro f1 f2 NF NH TS TH dr fl fe pk pr pp pc rf he sz nx pv tm tp tf tw hH T C0 t1 t8 hT L k
  have h : pg_RX FR SL D lv K R C P Q W U O KP NC (f1, f2, nI FR, nI SL, nI (FR + SL - 1), nI NF, nI NC, nI NH, nI TS, nI TH, lv, dr, fl, fe, pk, pr, pp, pc, W, U, rf, O, KP, he, sz, nx, pv, tm, tp, tf, tw) := pg_RXi hH T C0 t1 t8 hT L
  unfold wpX_nextSharer
  dsimp only
  rcases pg_pj x y with hb | ⟨p, j, hp, hj, rfl, rfl⟩
  · exact pg_findB hb (br_f (by decide) (k (-1) (fun q hq => by unfold wpY_nextSharer; dsimp only; exact pg_yCPb hb (br_f (by decide) hq))))
  · refine pg_find h hp hj (fun z => ?_) (fun z w => ?_) (fun z w => ?_)
    · refine br_f (by decide) (k (-2) (fun q hq => ?_))
      unfold wpY_nextSharer
      dsimp only
      exact pg_yCP hp hj (fun _ => br_f (by decide) hq) (fun z' => absurd z z') (fun z' => absurd z z')
    · refine br_f (by decide) (k (-3) (fun q hq => ?_))
      unfold wpY_nextSharer
      dsimp only
      exact pg_yCP hp hj (fun z' => absurd z' z) (fun _ _ => br_f (by decide) hq) (fun _ z' => absurd w z')
    · have hm : 16 * p + j < 64 := by omega
      obtain ⟨d1, d2, hpt, e1, e2, e3, e4⟩ := pg_TBm T hm w
      refine br_t (nI_pos' (by omega)) ⟨vp_in_nI hpt (by omega), ?_⟩
      rw [nI_clamp (n := pg_pt D (16 * p + j)) (by omega)]
      rcases (G.1 (16 * p + j) hm).2.2.2.2.1 with eP | ⟨q', hq', eP, _⟩
      · refine nm_r (e3.trans eP) (br_f (by decide) (k (-8) (fun q hq => ?_)))
        unfold wpY_nextSharer
        dsimp only
        refine pg_yCP hp hj (fun z' => absurd z' z) (fun _ z' => absurd z' w) (fun _ _ => br_t rfl ?_)
        refine nm_r (pg_m16 p j) ⟨vp_in_nI hm (by omega), ?_⟩
        rw [nI_clamp (n := 16 * p + j) (by omega)]
        exact br_t ((Y.1.1 _ hm).2 eP) hq
      · refine nm_r (e3.trans eP) (br_t (nI_pos' (by omega)) ⟨vp_in_nI (by omega) (by omega), ?_⟩)
        rw [nI_clamp (n := q') (by omega)]
        obtain ⟨Ls, hL⟩ := C0
        obtain ⟨l1, l2, l3, l4, l5⟩ := hL q' (by omega)
        have hlen : (Ls q').length ≤ 64 := by
          rw [pg_len (n := 64) (p := fun x => decide (Q x = nI q')) l1 (by intro x; rw [l2 x, decide_eq_true_eq])]
          exact pg_cn_le _ _
        refine nm_r l3 ⟨65, ?_⟩
        refine pg_nsl (Ls q') 0 (-1) (fun _ => False) (-8) (by omega) l5 (fun x hx => ((l2 x).1 hx).1) (Or.inl ⟨rfl, fun x hx z => z.elim⟩) ?_ 65 (by omega)
        intro r hr
        refine k r (fun q hq => ?_)
        unfold wpY_nextSharer
        dsimp only
        refine pg_yCP hp hj (fun z' => absurd z' z) (fun _ z' => absurd z' w) (fun _ _ => br_t rfl ?_)
        refine nm_r (pg_m16 p j) ⟨vp_in_nI hm (by omega), ?_⟩
        rw [nI_clamp (n := 16 * p + j) (by omega)]
        refine br_f (by rw [Y.1.1 _ hm, eP]; exact pg_nm (by omega)) ⟨65, ?_⟩
        refine pg_yNS hm (pg_bst_c (fun x hx => ?_) hr) hq 64 0 (by omega) (fun x hx => absurd hx (by omega))
        rw [l2 x, Y.1.2 x _ hx hm, eP, ← pg_GDq G hx hq']
        simp [hx]
end
end
section
/-- a store through m needs a copy, by labels -/
def pg_nl (K lb : Nat → Int32) (m : Nat) : Prop := lb m = 0 ∨ (K m = 1 ∧ 2 ≤ pg_cn (fun x => decide (lb x = lb m)) 64)
/-- labels and words behind a store -/
def pg_sd (K lb wd : Nat → Int32) (m w : Nat) (v fr : Int32) (lb' wd' : Nat → Int32) : Prop :=
  (pg_nl K lb m → ∀ x, x < 64 → (pg_hit K m x → lb' x = fr) ∧ (¬ pg_hit K m x → lb' x = lb x)) ∧ (¬ pg_nl K lb m → ∀ x, x < 64 → lb' x = lb x) ∧
  (∀ x j, x < 64 → j < 4 → ((pg_hit K m x ∧ j = w) → wd' (4 * x + j) = v) ∧ (¬ (pg_hit K m x ∧ j = w) → wd' (4 * x + j) = wd (4 * x + j)))
theorem pg_nlnd {K lb P wd W : Nat → Int32} (Y : pg_YL lb wd P W) {m : Nat} (hm : m < 64) : pg_nl K lb m ↔ pg_nd K P m := by
  unfold pg_nl pg_nd
  rw [Y.1.1 m hm]
  refine or_congr Iff.rfl (and_congr Iff.rfl ?_)
  constructor
  · intro h
    have h3 := pg_cn_set (p := fun x => decide (lb x = lb m) && decide (x ≠ m)) (q := fun x => decide (lb x = lb m)) hm (by simp) (decide_eq_true rfl) (by intro j hj hne; simp [hne])
    obtain ⟨x, hx, hpx⟩ := pg_cn_ex (p := fun x => decide (lb x = lb m) && decide (x ≠ m)) (n := 64) (by omega)
    simp only [Bool.and_eq_true, decide_eq_true_eq] at hpx
    exact ⟨x, hx, hpx.2, (Y.1.2 x m hx hm).1 hpx.1⟩
  · rintro ⟨x, hx, hne, e⟩
    exact pg_cn_two (p := fun x => decide (lb x = lb m)) hx hm hne (decide_eq_true ((Y.1.2 x m hx hm).2 e)) (decide_eq_true rfl)
section
variable {lim : Int32} {lv K R C : Nat → Int32}
theorem pg_y160 {m w : Nat} {val fr x9 : Int32} (hm : m < 64) (hw : w < 4) : ∀ d i (lb wd : Nat → Int32), i + d = 64 → ∃ lb' wd', (∀ x, x < 64 → (i ≤ x ∧ K x = K m ∧ x9 ≠ 0 → lb' x = fr) ∧ (¬ (i ≤ x ∧ K x = K m ∧ x9 ≠ 0) → lb' x = lb x)) ∧
    (∀ x j, x < 64 → j < 4 → (i ≤ x ∧ K x = K m ∧ j = w → wd' (4 * x + j) = val &&& 65535) ∧ (¬ (i ≤ x ∧ K x = K m ∧ j = w) → wd' (4 * x + j) = wd (4 * x + j))) ∧
    ∀ q : Int32 → SY → Prop, q 0 (lim, lv, K, R, upd C m 1, lb', wd') → wY_store_160 q val (nI m) (nI w) x9 fr lim (d + 1) (nI i) lv K R C lb wd
  | 0, i, lb, wd, e => by
    refine ⟨lb, wd, fun x hx => ⟨fun z => by omega, fun _ => rfl⟩, fun x j hx hj => ⟨fun z => by omega, fun _ => rfl⟩, fun q hq => ?_⟩
    refine br_t (nI_le (a := 64) (by omega) (by omega)) ⟨vp_in_nI hm (by omega), nm_e ?_⟩
    rw [nI_clamp (n := m) (by omega)]
    exact hq
  | d + 1, i, lb, wd, e => by
    have hi : ¬ (64 : Int32) ≤ nI i := nI_ge (b := 64) (by omega) (by omega)
    have hv : vp_in (nI i) 64 := vp_in_nI (by omega) (by omega)
    have hvm : vp_in (nI m) 64 := vp_in_nI hm (by omega)
    by_cases hK : K i = K m
    · obtain ⟨lb', wd', h1, h2, h3⟩ := pg_y160 (m := m) (w := w) (val := val) (fr := fr) (x9 := x9) hm hw d (i + 1) (if x9 = 0 then lb else upd lb i fr) (upd wd (4 * i + w) (val &&& 65535)) (by omega)
      refine ⟨lb', wd', ?_, ?_, ?_⟩
      · intro x hx
        have a := h1 x hx
        refine ⟨fun z => ?_, fun z => ?_⟩
        · by_cases ex : x = i
          · rw [a.2 (fun w' => by omega), if_neg z.2.2, ex, pg_us]
          · exact a.1 ⟨by omega, z.2⟩
        · rw [a.2 (fun w' => z ⟨by omega, w'.2⟩)]
          by_cases e9 : x9 = 0
          · rw [if_pos e9]
          · rw [if_neg e9, pg_un]
            intro ex
            exact z ⟨by omega, by rw [ex]; exact hK, e9⟩
      · intro x j hx hj
        have a := h2 x j hx hj
        refine ⟨fun z => ?_, fun z => ?_⟩
        · by_cases ex : x = i
          · rw [a.2 (fun w' => by omega), ex, z.2.2, pg_us]
          · exact a.1 ⟨by omega, z.2⟩
        · rw [a.2 (fun w' => z ⟨by omega, w'.2⟩), pg_un]
          intro ex
          have : x = i := by omega
          exact z ⟨by omega, by rw [this]; exact hK, by omega⟩
      · intro q hq
        have rest := h3 q hq
        refine br_f hi ⟨hv, hvm, ?_⟩
        rw [nI_clamp (n := m) (by omega), nI_clamp (n := i) (by omega)]
        refine br_t hK ?_
        by_cases e9 : x9 = 0
        · rw [if_pos e9] at rest
          refine br_t e9 ?_
          unfold wY_store_198
          rw [pg_4t, nI_clamp (n := 4 * i + w) (by omega)]
          exact ⟨vp_in_nI (by omega) (by omega), nm_e (nm_r (nI_1 i) rest)⟩
        · rw [if_neg e9] at rest
          refine br_f e9 ⟨hv, nm_e ?_⟩
          unfold wY_store_198
          rw [pg_4t, nI_clamp (n := 4 * i + w) (by omega)]
          exact ⟨vp_in_nI (by omega) (by omega), nm_e (nm_r (nI_1 i) rest)⟩
    · obtain ⟨lb', wd', h1, h2, h3⟩ := pg_y160 (m := m) (w := w) (val := val) (fr := fr) (x9 := x9) hm hw d (i + 1) lb wd (by omega)
      refine ⟨lb', wd', ?_, ?_, ?_⟩
      · intro x hx
        have a := h1 x hx
        refine ⟨fun z => a.1 ⟨?_, z.2⟩, fun z => a.2 (fun w' => z ⟨by omega, w'.2⟩)⟩
        have : x ≠ i := fun ex => hK (by rw [← ex]; exact z.2.1)
        omega
      · intro x j hx hj
        have a := h2 x j hx hj
        refine ⟨fun z => a.1 ⟨?_, z.2⟩, fun z => a.2 (fun w' => z ⟨by omega, w'.2⟩)⟩
        have : x ≠ i := fun ex => hK (by rw [← ex]; exact z.2.1)
        omega
      · intro q hq
        have rest := h3 q hq
        refine br_f hi ⟨hv, hvm, ?_⟩
        rw [nI_clamp (n := m) (by omega), nI_clamp (n := i) (by omega)]
        exact br_f hK (nm_r (nI_1 i) rest)
variable {lb wd : Nat → Int32}
theorem pg_y113 {m w : Nat} {val fr x7 x9 : Int32} (hm : m < 64) (hw : w < 4) (hfl : ∀ q : Int32 → Prop, q fr → wpY_freshLabel q (lim, lv, K, R, C, lb, wd)) (h7 : x7 = if K m = 1 then 1 else 0) (h9 : x9 ≠ 0 ↔ pg_nl K lb m) : ∃ lb' wd', pg_sd K lb wd m w (val &&& 65535) fr lb' wd' ∧ ∀ q : Int32 → SY → Prop, q 0 (lim, lv, K, R, upd C m 1, lb', wd') → wY_store_113 q val (nI m) (nI w) x7 x9 lim lv K R C lb wd := by
  have hvm : vp_in (nI m) 64 := vp_in_nI hm (by omega)
  by_cases hK : K m = 1
  · rw [if_pos hK] at h7
    subst h7
    have hit : ∀ x, pg_hit K m x ↔ x = m := by
      intro x
      constructor
      · rintro (z | z)
        · exact z
        · exact absurd hK z.1
      · exact Or.inl
    have hwd : ∀ x j, x < 64 → j < 4 → ((pg_hit K m x ∧ j = w) → upd wd (4 * m + w) (val &&& 65535) (4 * x + j) = val &&& 65535) ∧ (¬ (pg_hit K m x ∧ j = w) → upd wd (4 * m + w) (val &&& 65535) (4 * x + j) = wd (4 * x + j)) := by
      intro x j hx hj
      rw [hit]
      refine ⟨fun z => by rw [z.1, z.2, pg_us], fun z => ?_⟩
      rw [pg_un]
      intro e; exact z ⟨by omega, by omega⟩
    by_cases e9 : x9 = 0
    · have hn : ¬ pg_nl K lb m := fun z => h9.2 z e9
      refine ⟨lb, upd wd (4 * m + w) (val &&& 65535), ⟨fun z => absurd z hn, fun _ _ _ => rfl, hwd⟩, fun q hq => ?_⟩
      unfold wY_store_113
      refine hfl _ (br_f (by decide) (br_t e9 ?_))
      unfold wY_store_138
      rw [pg_4t, nI_clamp (n := 4 * m + w) (by omega), nI_clamp (n := m) (by omega)]
      exact ⟨vp_in_nI (by omega) (by omega), nm_e ⟨hvm, nm_e hq⟩⟩
    · have hn : pg_nl K lb m := h9.1 e9
      refine ⟨upd lb m fr, upd wd (4 * m + w) (val &&& 65535), ⟨fun _ x hx => ?_, fun z => absurd hn z, hwd⟩, fun q hq => ?_⟩
      · rw [hit]
        exact ⟨fun z => by rw [z, pg_us], fun z => pg_un z⟩
      · unfold wY_store_113
        refine hfl _ (br_f (by decide) (br_f e9 ⟨hvm, nm_e ?_⟩))
        unfold wY_store_138
        rw [pg_4t, nI_clamp (n := 4 * m + w) (by omega), nI_clamp (n := m) (by omega)]
        exact ⟨vp_in_nI (by omega) (by omega), nm_e ⟨hvm, nm_e hq⟩⟩
  · rw [if_neg hK] at h7
    subst h7
    have hit : ∀ x, pg_hit K m x ↔ K x = K m := by
      intro x
      constructor
      · rintro (z | z)
        · rw [z]
        · exact z.2
      · intro z; exact Or.inr ⟨hK, z⟩
    obtain ⟨lb', wd', h1, h2, h3⟩ := pg_y160 (lim := lim) (lv := lv) (R := R) (C := C) (K := K) (val := val) (fr := fr) (x9 := x9) hm hw 64 0 lb wd (by omega)
    refine ⟨lb', wd', ⟨fun z x hx => ?_, fun z x hx => ?_, fun x j hx hj => ?_⟩, fun q hq => ?_⟩
    · rw [hit]
      exact ⟨fun e => (h1 x hx).1 ⟨by omega, e, h9.2 z⟩, fun e => (h1 x hx).2 (fun e' => e e'.2.1)⟩
    · exact (h1 x hx).2 (fun e => z (h9.1 e.2.2))
    · rw [hit]
      exact ⟨fun e => (h2 x j hx hj).1 ⟨by omega, e.1, e.2⟩, fun e => (h2 x j hx hj).2 (fun e' => e e'.2)⟩
    · unfold wY_store_113
      exact hfl _ (br_t rfl ⟨65, h3 q hq⟩)
theorem pg_y61 {q : Int32 → SY → Prop} {m : Nat} {val x6 z0 : Int32} (hm : m < 64) (hz : z0 = if K m = 1 then 1 else 0) (k1 : pg_nl K lb m → wY_store_92 q val (nI m) x6 z0 1 lim lv K R C lb wd) (k0 : ¬ pg_nl K lb m → wY_store_92 q val (nI m) x6 z0 0 lim lv K R C lb wd) : wY_store_61 q val (nI m) x6 z0 lim lv K R C lb wd := by
  unfold wY_store_61
  have hle := pg_cn_le (fun x => decide (lb x = lb m)) 64
  have hpos := pg_cn_pos (p := fun x => decide (lb x = lb m)) hm (decide_eq_true rfl)
  refine pg_yGS hm (fun z => br_t rfl ?_) (fun z => br_f (nI_ne0 hpos (by omega)) ?_)
  · unfold wY_store_87
    exact k1 (Or.inl z)
  · by_cases hK : K m = 1
    · rw [if_pos hK] at hz
      subst hz
      refine br_f (by decide) (pk_lt _ 2 (fun h2 => ?_) (fun h2 => ?_))
      · unfold wY_store_91
        refine k0 ?_
        rintro (w | w)
        · exact z w
        · omega
      · unfold wY_store_87
        exact k1 (Or.inr ⟨hK, h2⟩)
    · rw [if_neg hK] at hz
      subst hz
      refine br_t rfl ?_
      unfold wY_store_91
      refine k0 ?_
      rintro (w | w)
      · exact z w
      · exact hK w.1
theorem pg_yStore {LM : Nat} (hLM : LM < 100) {p a m w : Nat} {val : Int32} (hp : p < 4) (ha : a < 64) (em : 16 * p + a / 4 = m) (ew : a % 4 = w) (hl : lv p ≠ 0) :
    (K m = 0 → ∀ q : Int32 → SY → Prop, q (-3) (nI LM, lv, K, R, C, lb, wd) → wpY_store q (nI LM, lv, K, R, C, lb, wd) (nI p) (nI a) val) ∧
    (K m ≠ 0 → R m ≠ 2 → ∀ q : Int32 → SY → Prop, q (-4) (nI LM, lv, K, R, C, lb, wd) → wpY_store q (nI LM, lv, K, R, C, lb, wd) (nI p) (nI a) val) ∧
    (K m ≠ 0 → R m = 2 → pg_nl K lb m → ¬ pg_cps lb < LM → ∀ q : Int32 → SY → Prop, q (-5) (nI LM, lv, K, R, C, lb, wd) → wpY_store q (nI LM, lv, K, R, C, lb, wd) (nI p) (nI a) val) ∧
    (∃ fr lb' wd', fr ≠ 0 ∧ (∀ x, x < 64 → lb x ≠ fr) ∧ pg_sd K lb wd m w (val &&& 65535) fr lb' wd' ∧ (K m ≠ 0 → R m = 2 → (pg_nl K lb m → pg_cps lb < LM) → ∀ q : Int32 → SY → Prop, q 0 (nI LM, lv, K, R, upd C m 1, lb', wd') → wpY_store q (nI LM, lv, K, R, C, lb, wd) (nI p) (nI a) val)) := by
  have hm : m < 64 := by omega
  have hw : w < 4 := by omega
  have hvm : vp_in (nI m) 64 := vp_in_nI hm (by omega)
  have hcps : pg_cps lb ≤ 64 := pg_cn_le _ _
  have top : ∀ q : Int32 → SY → Prop, K m ≠ 0 → (R m = 2 → ∀ z0 : Int32, z0 = (if K m = 1 then 1 else 0) → wY_store_61 q val (nI m) (nI w) z0 (nI LM) lv K R C lb wd) → (R m ≠ 2 → q (-4) (nI LM, lv, K, R, C, lb, wd)) → wpY_store q (nI LM, lv, K, R, C, lb, wd) (nI p) (nI a) val := by
    intro q hK k2 k4
    unfold wpY_store
    dsimp only
    refine pg_yCA hp ha (fun z => absurd z hl) (fun _ z => absurd z (by rw [em]; exact hK)) (fun _ _ => br_t rfl ⟨by decide, ?_⟩)
    rw [show (4 : Int32) = nI 4 from rfl, pk_rem (by omega) (by omega) (by omega), pk_div (by omega) (by omega) (by omega)]
    refine nm_r (e' := nI m) (by rw [pg_m16, em]) ⟨by decide, nm_r (e' := nI w) (by rw [ew]) ⟨hvm, ?_⟩⟩
    rw [nI_clamp (n := m) (by omega)]
    refine br_c (fun r2 => ⟨hvm, br_c (fun k1 => k2 r2 1 (by rw [if_pos k1])) (fun k1 => k2 r2 0 (by rw [if_neg k1]))⟩) k4
  refine ⟨?_, ?_, ?_, ?_⟩
  · intro hK q hq
    unfold wpY_store
    dsimp only
    exact pg_yCA hp ha (fun z => absurd z hl) (fun _ _ => br_f (by decide) hq) (fun _ z => absurd (by rw [em]; exact hK) z)
  · intro hK hR q hq
    exact top q hK (fun z => absurd z hR) (fun _ => hq)
  · intro hK hR hn hc q hq
    refine top q hK (fun _ z0 hz => ?_) (fun z => absurd hR z)
    refine pg_y61 hm hz (fun _ => ?_) (fun z => absurd hn z)
    unfold wY_store_92
    refine br_f (by decide) (pg_yCopies (br_f ?_ hq))
    rw [nI_ltI (by omega) (by omega)]; exact hc
  · obtain ⟨fr, f1, f2, f3⟩ := pg_yFL (lim := nI LM) (lv := lv) (K := K) (R := R) (C := C) (lb := lb) (wd := wd)
    by_cases hn : pg_nl K lb m
    · obtain ⟨lb', wd', hs, hy⟩ := pg_y113 (lim := nI LM) (lv := lv) (K := K) (R := R) (C := C) (lb := lb) (wd := wd) (val := val) (x7 := if K m = 1 then 1 else 0) (x9 := 1) hm hw f3 rfl ⟨fun _ => hn, fun _ => by decide⟩
      refine ⟨fr, lb', wd', f1, f2, hs, ?_⟩
      intro hK hR hc q hq
      refine top q hK (fun _ z0 hz => ?_) (fun z => absurd hR z)
      refine pg_y61 hm hz (fun _ => ?_) (fun z => absurd hn z)
      unfold wY_store_92
      rw [hz]
      refine br_f (by decide) (pg_yCopies (br_t ?_ (hy q hq)))
      rw [nI_ltI (by omega) (by omega)]; exact hc hn
    · obtain ⟨lb', wd', hs, hy⟩ := pg_y113 (lim := nI LM) (lv := lv) (K := K) (R := R) (C := C) (lb := lb) (wd := wd) (val := val) (x7 := if K m = 1 then 1 else 0) (x9 := 0) hm hw f3 rfl ⟨fun z => absurd rfl z, fun z => absurd z hn⟩
      refine ⟨fr, lb', wd', f1, f2, hs, ?_⟩
      intro hK hR hc q hq
      refine top q hK (fun _ z0 hz => ?_) (fun z => absurd hR z)
      refine pg_y61 hm hz (fun z => absurd z hn) (fun _ => ?_)
      unfold wY_store_92
      rw [hz]
      exact br_t rfl (hy q hq)
end
end
section
section
variable {u : SX} {lim : Int32} {lv K R C lb wd : Nat → Int32}
theorem pg_vsw {post : Int32 → SX → Prop} {p a : Nat} {val : Int32} (h : pg_Rel u (lim, lv, K, R, C, lb, wd)) (hl : lv p ≠ 0) (hp : p < 4) (ha : a < 64) (k : ∀ r C' lb' wd', (∀ q : Int32 → SY → Prop, q r (lim, lv, K, R, C', lb', wd') → wpY_store q (lim, lv, K, R, C, lb, wd) (nI p) (nI a) val) → ∀ u', pg_Rel u' (lim, lv, K, R, C', lb', wd') → post r u') : wpX_storeWord post u (nI p) (nI a) val := by
  obtain ⟨FR, SL, NC, D, P, Q, W, U, O, KP, rfl, G, Y, h⟩ := h
  obtain ⟨g1, g2, g3, g4⟩ := G.2.2.2.2.2.2
  have hm : 16 * p + a / 4 < 64 := by omega
  obtain ⟨yU, yD, yN, fr, lb', wd', f1, f2, hs, yS⟩ := pg_yStore (LM := FR + SL - 1) (by omega) (lv := lv) (K := K) (R := R) (C := C) (lb := lb) (wd := wd) (val := val) hp ha rfl rfl hl
  have enl := pg_nlnd (K := K) Y hm
  have enc := pg_cpsNC G Y.1
  rw [enc] at yN yS
  refine pg_storeWord (lb' := lb') h G Y hp ha rfl rfl ?_ ?_ ?_ f1 f2 ?_ ?_ hs.2.2 ?_
  · intro z u' h'
    exact k _ _ _ _ (yU z) u' (pg_Ri G Y h')
  · intro z1 z2 u' h'
    exact k _ _ _ _ (yD z1 z2) u' (pg_Ri G Y h')
  · intro z1 z2 z3 z4 u' h'
    exact k _ _ _ _ (yN z1 z2 (enl.2 z3) z4) u' (pg_Ri G Y h')
  · intro z _
    exact hs.1 (enl.2 z)
  · intro z
    exact hs.2.1 (fun z' => z (enl.1 z'))
  · intro z1 z2 z3 P' Q' W' U' O' KP' NC' G' Y' u' h'
    exact k _ _ _ _ (yS z1 z2 (fun z => z3 (enl.1 z))) u' (pg_Ri G' Y' h')
theorem pg_vlw {post : Int32 → SX → Prop} {p a : Nat} (h : pg_Rel u (lim, lv, K, R, C, lb, wd)) (hp : p < 4) (ha : a < 64) (k : ∀ u', pg_Rel u' (lim, lv, K, R, C, lb, wd) → post (pg_ldv K R lb wd (16 * p + a / 4) (a % 4)) u') : wpX_loadWord post u (nI p) (nI a) := by
  obtain ⟨FR, SL, NC, D, P, Q, W, U, O, KP, rfl, G, Y, h⟩ := h
  refine pg_loadWord h G Y hp ha rfl rfl ?_
  intro P' Q' W' U' O' KP' G' Y' u' h'
  exact k u' (pg_Ri G' Y' h')
theorem pg_yLoad {q : Int32 → Prop} {p a : Nat} (hp : p < 4) (ha : a < 64) (k2 : lv p = 0 → q (-2)) (k0 : lv p ≠ 0 → q (pg_ldv K R lb wd (16 * p + a / 4) (a % 4))) : wpY_load q (lim, lv, K, R, C, lb, wd) (nI p) (nI a) := by
  unfold wpY_load
  dsimp only
  refine pg_yCA hp ha (fun z => br_f (by decide) (k2 z)) (fun z w => br_f (by decide) ?_) (fun z w => br_t rfl ⟨by decide, ?_⟩)
  · have := k0 z
    unfold pg_ldv at this
    rwa [if_pos w] at this
  · have hk := k0 z
    unfold pg_ldv at hk
    rw [if_neg w] at hk
    rw [show (4 : Int32) = nI 4 from rfl, pk_div (by omega) (by omega) (by omega), pg_m16, nI_clamp (n := 16 * p + a / 4) (by omega)]
    refine ⟨vp_in_nI (by omega) (by omega), br_c (fun r0 => ?_) (fun r0 => ?_)⟩
    · rwa [if_pos r0] at hk
    · rw [if_neg r0] at hk
      exact pg_yPeek hp ha (fun z' => absurd z' z) (fun _ z' => absurd z' w) (fun _ _ => hk)
end
section
variable {lim : Int32} {lv K R : Nat → Int32}
theorem pg_fil {post : Int32 → SX → Prop} {p a n : Nat} {val : Int32} (hl : lv p ≠ 0) (hp : p < 4) (ha : a + n ≤ 64) : ∀ (d i : Nat) (C lb wd : Nat → Int32) {f1' f2' fr' sl' lm' fc' cc' hd' ts' th' : Int32} {lv' dr' fl' fe' pk' pr' pp' pc' W' U' rf' O' KP' he' sz' nx' pv' tm' tp' tf' tw' : Nat → Int32}, i + d = n → pg_Rel (f1', f2', fr', sl', lm', fc', cc', hd', ts', th', lv', dr', fl', fe', pk', pr', pp', pc', W', U', rf', O', KP', he', sz', nx', pv', tm', tp', tf', tw') (lim, lv, K, R, C, lb, wd) →
    (∀ r C' lb' wd', (∀ q : Int32 → SY → Prop, q r (lim, lv, K, R, C', lb', wd') → wY_fill_34 q (nI p) (nI a) (nI n) val (d + 1) (nI i) lim lv K R C lb wd) → ∀ u', pg_Rel u' (lim, lv, K, R, C', lb', wd') → post r u') → wX_fill_29 post (nI p) (nI a) (nI n) val (d + 1) (nI i) f1' f2' fr' sl' lm' fc' cc' hd' ts' th' lv' dr' fl' fe' pk' pr' pp' pc' W' U' rf' O' KP' he' sz' nx' pv' tm' tp' tf' tw'
  | 0, i, C, lb, wd, f1', f2', fr', sl', lm', fc', cc', hd', ts', th', lv', dr', fl', fe', pk', pr', pp', pc', W', U', rf', O', KP', he', sz', nx', pv', tm', tp', tf', tw', e, h, k => by
    obtain rfl : i = n := by omega
    refine br_t (nI_le (by omega) (by omega)) (k (nI i) C lb wd (fun q hq => ?_) _ h)
    exact br_t (nI_le (by omega) (by omega)) hq
  | d + 1, i, C, lb, wd, f1', f2', fr', sl', lm', fc', cc', hd', ts', th', lv', dr', fl', fe', pk', pr', pp', pc', W', U', rf', O', KP', he', sz', nx', pv', tm', tp', tf', tw', e, h, k => by
    refine br_f (nI_ge (by omega) (by omega)) ?_
    rw [nI_add]
    refine pg_vsw h hl hp (by omega) ?_
    intro r C1 lb1 wd1 hy
    refine pg_sx ?_
    intro f1 f2 fr sl lm fc cc hd ts th lv' dr fl fe pk pr pp pc W' U rf O KP he sz nx pv tm tp tf tw h1
    dsimp only
    refine br_c (fun z => nm_r (nI_1 i) ?_) (fun z => ?_)
    · refine pg_fil hl hp ha d (i + 1) C1 lb1 wd1 (by omega) h1 ?_
      intro r2 C2 lb2 wd2 hy2
      refine k r2 C2 lb2 wd2 (fun q hq => ?_)
      refine br_f (nI_ge (by omega) (by omega)) ?_
      rw [nI_add]
      refine hy _ (br_t z (nm_r (nI_1 i) ?_))
      exact hy2 q hq
    · refine k (nI i) C1 lb1 wd1 (fun q hq => ?_) _ h1
      refine br_f (nI_ge (by omega) (by omega)) ?_
      rw [nI_add]
      exact hy _ (br_f z hq)
theorem pg_cpl {post : Int32 → SX → Prop} {p a b n : Nat} (hl : lv p ≠ 0) (hp : p < 4) (ha : a + n ≤ 64) (hb : b + n ≤ 64) : ∀ (d i : Nat) (C lb wd : Nat → Int32) {f1' f2' fr' sl' lm' fc' cc' hd' ts' th' : Int32} {lv' dr' fl' fe' pk' pr' pp' pc' W' U' rf' O' KP' he' sz' nx' pv' tm' tp' tf' tw' : Nat → Int32}, i + d = n → pg_Rel (f1', f2', fr', sl', lm', fc', cc', hd', ts', th', lv', dr', fl', fe', pk', pr', pp', pc', W', U', rf', O', KP', he', sz', nx', pv', tm', tp', tf', tw') (lim, lv, K, R, C, lb, wd) →
    (∀ r C' lb' wd', (∀ q : Int32 → SY → Prop, q r (lim, lv, K, R, C', lb', wd') → wY_copy_45 q (nI p) (nI a) (nI b) (nI n) (d + 1) (nI i) lim lv K R C lb wd) → ∀ u', pg_Rel u' (lim, lv, K, R, C', lb', wd') → post r u') → wX_copy_40 post (nI p) (nI a) (nI b) (nI n) (d + 1) (nI i) f1' f2' fr' sl' lm' fc' cc' hd' ts' th' lv' dr' fl' fe' pk' pr' pp' pc' W' U' rf' O' KP' he' sz' nx' pv' tm' tp' tf' tw'
  | 0, i, C, lb, wd, f1', f2', fr', sl', lm', fc', cc', hd', ts', th', lv', dr', fl', fe', pk', pr', pp', pc', W', U', rf', O', KP', he', sz', nx', pv', tm', tp', tf', tw', e, h, k => by
    obtain rfl : i = n := by omega
    refine br_t (nI_le (by omega) (by omega)) (k (nI i) C lb wd (fun q hq => ?_) _ h)
    exact br_t (nI_le (by omega) (by omega)) hq
  | d + 1, i, C, lb, wd, f1', f2', fr', sl', lm', fc', cc', hd', ts', th', lv', dr', fl', fe', pk', pr', pp', pc', W', U', rf', O', KP', he', sz', nx', pv', tm', tp', tf', tw', e, h, k => by
    refine br_f (nI_ge (by omega) (by omega)) ?_
    rw [nI_add, nI_add]
    refine pg_vlw h hp (by omega) ?_
    refine pg_sx ?_
    intro f1 f2 fr sl lm fc cc hd ts th lv' dr fl fe pk pr pp pc W' U rf O KP he sz nx pv tm tp tf tw h1
    dsimp only
    refine br_c (fun z0 => ?_) (fun z0 => ?_)
    · refine pg_vsw h1 hl hp (by omega) ?_
      intro r C1 lb1 wd1 hy
      refine pg_sx ?_
      intro f1 f2 fr sl lm fc cc hd ts th lv' dr fl fe pk pr pp pc W' U rf O KP he sz nx pv tm tp tf tw h1
      dsimp only
      refine br_c (fun z => nm_r (nI_1 i) ?_) (fun z => ?_)
      · refine pg_cpl hl hp ha hb d (i + 1) C1 lb1 wd1 (by omega) h1 ?_
        intro r2 C2 lb2 wd2 hy2
        refine k r2 C2 lb2 wd2 (fun q hq => ?_)
        refine br_f (nI_ge (by omega) (by omega)) ?_
        rw [nI_add, nI_add]
        refine pg_yLoad hp (by omega) (fun z' => absurd z' hl) (fun _ => br_t z0 ?_)
        refine hy _ (br_t z (nm_r (nI_1 i) ?_))
        exact hy2 q hq
      · refine k (nI i) C1 lb1 wd1 (fun q hq => ?_) _ h1
        refine br_f (nI_ge (by omega) (by omega)) ?_
        rw [nI_add, nI_add]
        refine pg_yLoad hp (by omega) (fun z' => absurd z' hl) (fun _ => br_t z0 ?_)
        exact hy _ (br_f z hq)
    · refine k (nI i) C lb wd (fun q hq => ?_) _ h1
      refine br_f (nI_ge (by omega) (by omega)) ?_
      rw [nI_add, nI_add]
      exact pg_yLoad hp (by omega) (fun z' => absurd z' hl) (fun _ => br_f z0 hq)
end
section
variable {u : SX} {v : SY}
theorem pg_vload {post : Int32 → SX → Prop} {x y : Int32} (h : pg_Rel u v) (k : ∀ r, (∀ q : Int32 → Prop, q r → wpY_load q v x y) → ∀ u', pg_Rel u' v → post r u') : wpX_load post u x y := by
  revert k
  refine pg_Re (Z := fun u v => (∀ r, (∀ q : Int32 → Prop, q r → wpY_load q v x y) → ∀ u', pg_Rel u' v → post r u') → wpX_load post u x y) h ?_
  intro FR SL NC D P Q W U O KP lv K R C lb wd G Y
  refine pg_RXa ?_
  intro f1 f2 NF NH TS TH dr fl fe pk pr pp pc rf he sz nx pv tm tp tf tw hH T C0 t1 t8 hT L k
  have hR : pg_Rel (f1, f2, nI FR, nI SL, nI (FR + SL - 1), nI NF, nI NC, nI NH, nI TS, nI TH, lv, dr, fl, fe, pk, pr, pp, pc, W, U, rf, O, KP, he, sz, nx, pv, tm, tp, tf, tw) (nI (FR + SL - 1), lv, K, R, C, lb, wd) := pg_Ri G Y (pg_RXi hH T C0 t1 t8 hT L)
  unfold wpX_load
  dsimp only
  have bad : ((x < 0 ∨ nI 4 ≤ x) ∨ (y < 0 ∨ nI 64 ≤ y)) → post (-1) (f1, f2, nI FR, nI SL, nI (FR + SL - 1), nI NF, nI NC, nI NH, nI TS, nI TH, lv, dr, fl, fe, pk, pr, pp, pc, W, U, rf, O, KP, he, sz, nx, pv, tm, tp, tf, tw) := by
    intro hb
    refine k (-1) (fun q hq => ?_) _ hR
    unfold wpY_load
    dsimp only
    exact pg_yCAb hb (br_f (by decide) hq)
  rcases pk_ix y (n := 64) (by omega) with z | z | ⟨a, ha, rfl⟩
  · exact pg_xWdB (Or.inl z) (br_t rfl (bad (Or.inr (Or.inl z))))
  · exact pg_xWdB (Or.inr (Or.inl z)) (br_t rfl (bad (Or.inr (Or.inr z))))
  · refine pg_xWd (n := 1) ha (by omega) (br_f (by decide) ?_)
    rcases pg_pid x with hb | ⟨p, hp, rfl⟩
    · exact pg_xPidB hb (br_f (by decide) (bad (Or.inl hb)))
    · refine pg_xPid hp (fun z => br_f (by decide) (k (-2) (fun q hq => ?_) _ hR)) (fun z => br_t rfl ?_)
      · exact pg_yLoad hp ha (fun _ => hq) (fun z' => absurd z z')
      · refine pg_vlw hR hp ha ?_
        refine pg_sx ?_
        intro f1 f2 fr sl lm fc cc hd ts th lv' dr fl fe pk pr pp pc W' U' rf O' KP' he sz nx pv tm tp tf tw h1
        exact k _ (fun q hq => pg_yLoad hp ha (fun z' => absurd z' z) (fun _ => hq)) _ h1
theorem pg_vstore {post : Int32 → SX → Prop} {x y val : Int32} (h : pg_Rel u v) (k : ∀ r v', (∀ q : Int32 → SY → Prop, q r v' → wpY_store q v x y val) → ∀ u', pg_Rel u' v' → post r u') : wpX_store post u x y val := by
  revert k
  refine pg_Re (Z := fun u v => (∀ r v', (∀ q : Int32 → SY → Prop, q r v' → wpY_store q v x y val) → ∀ u', pg_Rel u' v' → post r u') → wpX_store post u x y val) h ?_
  intro FR SL NC D P Q W U O KP lv K R C lb wd G Y
  refine pg_RXa ?_
  intro f1 f2 NF NH TS TH dr fl fe pk pr pp pc rf he sz nx pv tm tp tf tw hH T C0 t1 t8 hT L k
  have hR : pg_Rel (f1, f2, nI FR, nI SL, nI (FR + SL - 1), nI NF, nI NC, nI NH, nI TS, nI TH, lv, dr, fl, fe, pk, pr, pp, pc, W, U, rf, O, KP, he, sz, nx, pv, tm, tp, tf, tw) (nI (FR + SL - 1), lv, K, R, C, lb, wd) := pg_Ri G Y (pg_RXi hH T C0 t1 t8 hT L)
  unfold wpX_store
  dsimp only
  have bad : ((x < 0 ∨ nI 4 ≤ x) ∨ (y < 0 ∨ nI 64 ≤ y)) → post (-1) (f1, f2, nI FR, nI SL, nI (FR + SL - 1), nI NF, nI NC, nI NH, nI TS, nI TH, lv, dr, fl, fe, pk, pr, pp, pc, W, U, rf, O, KP, he, sz, nx, pv, tm, tp, tf, tw) := by
    intro hb
    refine k (-1) _ (fun q hq => ?_) _ hR
    unfold wpY_store
    dsimp only
    exact pg_yCAb hb (br_f (by decide) hq)
  rcases pk_ix y (n := 64) (by omega) with z | z | ⟨a, ha, rfl⟩
  · exact pg_xWdB (Or.inl z) (br_t rfl (bad (Or.inr (Or.inl z))))
  · exact pg_xWdB (Or.inr (Or.inl z)) (br_t rfl (bad (Or.inr (Or.inr z))))
  · refine pg_xWd (n := 1) ha (by omega) (br_f (by decide) ?_)
    rcases pg_pid x with hb | ⟨p, hp, rfl⟩
    · exact pg_xPidB hb (br_f (by decide) (bad (Or.inl hb)))
    · refine pg_xPid hp (fun z => br_f (by decide) (k (-2) _ (fun q hq => ?_) _ hR)) (fun z => br_t rfl ?_)
      · unfold wpY_store
        dsimp only
        exact pg_yCA hp ha (fun _ => br_f (by decide) hq) (fun z' => absurd z z') (fun z' => absurd z z')
      · refine pg_vsw hR z hp ha ?_
        intro r C' lb' wd' hy
        refine pg_sx ?_
        intro f1 f2 fr sl lm fc cc hd ts th lv' dr fl fe pk pr pp pc W' U' rf O' KP' he sz nx pv tm tp tf tw h1
        exact k r _ hy _ h1
theorem pg_vfill {post : Int32 → SX → Prop} {x y n val : Int32} (h : pg_Rel u v) (k : ∀ r v', (∀ q : Int32 → SY → Prop, q r v' → wpY_fill q v x y n val) → ∀ u', pg_Rel u' v' → post r u') : wpX_fill post u x y n val := by
  revert k
  refine pg_Re (Z := fun u v => (∀ r v', (∀ q : Int32 → SY → Prop, q r v' → wpY_fill q v x y n val) → ∀ u', pg_Rel u' v' → post r u') → wpX_fill post u x y n val) h ?_
  intro FR SL NC D P Q W U O KP lv K R C lb wd G Y
  refine pg_RXa ?_
  intro f1 f2 NF NH TS TH dr fl fe pk pr pp pc rf he sz nx pv tm tp tf tw hH T C0 t1 t8 hT L k
  have hR : pg_Rel (f1, f2, nI FR, nI SL, nI (FR + SL - 1), nI NF, nI NC, nI NH, nI TS, nI TH, lv, dr, fl, fe, pk, pr, pp, pc, W, U, rf, O, KP, he, sz, nx, pv, tm, tp, tf, tw) (nI (FR + SL - 1), lv, K, R, C, lb, wd) := pg_Ri G Y (pg_RXi hH T C0 t1 t8 hT L)
  unfold wpX_fill
  dsimp only
  rcases pg_words y n with hw | ⟨a, c, rfl, rfl, ha, hc⟩
  · refine pg_xWdB hw (br_t rfl (k (-1) _ (fun q hq => ?_) _ hR))
    unfold wpY_fill
    dsimp only
    rcases pg_pid x with hb | ⟨p, hp, rfl⟩
    · exact pg_yPidB hb (br_f (by decide) hq)
    · exact pg_yPid hp (br_t rfl (pg_yWdB hw (br_f (by decide) hq)))
  · refine pg_xWd ha hc (br_f (by decide) ?_)
    rcases pg_pid x with hb | ⟨p, hp, rfl⟩
    · refine pg_xPidB hb (br_f (by decide) (k (-1) _ (fun q hq => ?_) _ hR))
      unfold wpY_fill
      dsimp only
      exact pg_yPidB hb (br_f (by decide) hq)
    · have yt : ∀ q : Int32 → SY → Prop, (lv p = 0 → q (-2) (nI (FR + SL - 1), lv, K, R, C, lb, wd)) → (lv p ≠ 0 → ∃ n34, wY_fill_34 q (nI p) (nI a) (nI c) val n34 0 (nI (FR + SL - 1)) lv K R C lb wd) → wpY_fill q (nI (FR + SL - 1), lv, K, R, C, lb, wd) (nI p) (nI a) (nI c) val := by
        intro q h2 h3
        unfold wpY_fill
        dsimp only
        refine pg_yPid hp (br_t rfl (pg_yWd ha hc (br_t rfl ⟨vp_in_nI hp (by omega), ?_⟩)))
        rw [nI_clamp (n := p) (by omega)]
        exact br_c h2 h3
      refine pg_xPid hp (fun z => br_f (by decide) (k (-2) _ (fun q hq => yt q (fun _ => hq) (fun z' => absurd z z')) _ hR)) (fun z => br_t rfl ⟨c + 1, ?_⟩)
      refine pg_fil z hp hc c 0 C lb wd (by omega) hR ?_
      intro r C' lb' wd' hy u' h1
      exact k r _ (fun q hq => yt q (fun z' => absurd z' z) (fun _ => ⟨c + 1, hy q hq⟩)) u' h1
theorem pg_vcopy {post : Int32 → SX → Prop} {x y y2 n : Int32} (h : pg_Rel u v) (k : ∀ r v', (∀ q : Int32 → SY → Prop, q r v' → wpY_copy q v x y y2 n) → ∀ u', pg_Rel u' v' → post r u') : wpX_copy post u x y y2 n := by
  revert k
  refine pg_Re (Z := fun u v => (∀ r v', (∀ q : Int32 → SY → Prop, q r v' → wpY_copy q v x y y2 n) → ∀ u', pg_Rel u' v' → post r u') → wpX_copy post u x y y2 n) h ?_
  intro FR SL NC D P Q W U O KP lv K R C lb wd G Y
  refine pg_RXa ?_
  intro f1 f2 NF NH TS TH dr fl fe pk pr pp pc rf he sz nx pv tm tp tf tw hH T C0 t1 t8 hT L k
  have hR : pg_Rel (f1, f2, nI FR, nI SL, nI (FR + SL - 1), nI NF, nI NC, nI NH, nI TS, nI TH, lv, dr, fl, fe, pk, pr, pp, pc, W, U, rf, O, KP, he, sz, nx, pv, tm, tp, tf, tw) (nI (FR + SL - 1), lv, K, R, C, lb, wd) := pg_Ri G Y (pg_RXi hH T C0 t1 t8 hT L)
  unfold wpX_copy
  dsimp only
  rcases pg_words y n with hw | ⟨a, c, rfl, rfl, ha, hc⟩
  · refine pg_xWdB hw (br_t rfl (k (-1) _ (fun q hq => ?_) _ hR))
    unfold wpY_copy
    dsimp only
    rcases pg_pid x with hb | ⟨p, hp, rfl⟩
    · exact pg_yPidB hb (br_f (by decide) hq)
    · exact pg_yPid hp (br_t rfl (pg_yWdB hw (br_f (by decide) hq)))
  · refine pg_xWd ha hc (br_f (by decide) ?_)
    rcases pg_words y2 (nI c) with hw | ⟨b, c2, rfl, ec, hb2, hc2⟩
    · refine pg_xWdB hw (br_t rfl (k (-1) _ (fun q hq => ?_) _ hR))
      unfold wpY_copy
      dsimp only
      rcases pg_pid x with hb | ⟨p, hp, rfl⟩
      · exact pg_yPidB hb (br_f (by decide) hq)
      · exact pg_yPid hp (br_t rfl (pg_yWd ha hc (br_t rfl (pg_yWdB hw (br_f (by decide) hq)))))
    · obtain rfl : c = c2 := by
        rw [nI_eq (by omega) (by omega)] at ec; exact ec
      refine pg_xWd hb2 hc2 (br_f (by decide) ?_)
      rcases pg_pid x with hb | ⟨p, hp, rfl⟩
      · refine pg_xPidB hb (br_f (by decide) (k (-1) _ (fun q hq => ?_) _ hR))
        unfold wpY_copy
        dsimp only
        exact pg_yPidB hb (br_f (by decide) hq)
      · have yt : ∀ q : Int32 → SY → Prop, (lv p = 0 → q (-2) (nI (FR + SL - 1), lv, K, R, C, lb, wd)) → (lv p ≠ 0 → ∃ n45, wY_copy_45 q (nI p) (nI a) (nI b) (nI c) n45 0 (nI (FR + SL - 1)) lv K R C lb wd) → wpY_copy q (nI (FR + SL - 1), lv, K, R, C, lb, wd) (nI p) (nI a) (nI b) (nI c) := by
          intro q h2 h3
          unfold wpY_copy
          dsimp only
          refine pg_yPid hp (br_t rfl (pg_yWd ha hc (br_t rfl (pg_yWd hb2 hc2 (br_t rfl ⟨vp_in_nI hp (by omega), ?_⟩)))))
          rw [nI_clamp (n := p) (by omega)]
          exact br_c h2 h3
        refine pg_xPid hp (fun z => br_f (by decide) (k (-2) _ (fun q hq => yt q (fun _ => hq) (fun z' => absurd z z')) _ hR)) (fun z => br_t rfl ⟨c + 1, ?_⟩)
        refine pg_cpl z hp hc hc2 c 0 C lb wd (by omega) hR ?_
        intro r C' lb' wd' hy u' h1
        exact k r _ (fun q hq => yt q (fun z' => absurd z' z) (fun _ => ⟨c + 1, hy q hq⟩)) u' h1
end
end
section
theorem pg_Rj {FR SL NC : Nat} {D : Nat → Nat} {lim : Int32} {lv K R C P Q W U O KP lb wd : Nat → Int32} {u : SX} (e : lim = nI (FR + SL - 1)) (G : pg_GD FR SL lv K R C P Q W U O KP NC) (Y : pg_YL lb wd P W) (h : pg_RX FR SL D lv K R C P Q W U O KP NC u) : pg_Rel u (lim, lv, K, R, C, lb, wd) := ⟨FR, SL, NC, D, P, Q, W, U, O, KP, e, G, Y, h⟩
section
variable {lim : Int32} {lv : Nat → Int32}
/-- unmapping m, at the reference -/
theorem pg_rrl {post : Int32 → SX → Prop} {base cnt : Nat} {WY : Nat → Nat → Nat → SY → (Int32 → SY → Prop) → Prop} (hb : base + cnt ≤ 64)
    (hU : ∀ d c i K R C lb wd q, i < cnt → K (base + i) = 0 → (upd K (base + i) 0 = K ∧ upd R (base + i) 0 = R ∧ upd C (base + i) 0 = C ∧ upd lb (base + i) 0 = lb ∧ pg_w4 wd (base + i) (fun _ => 0) = wd) → WY d c (i + 1) (lim, lv, K, R, C, lb, wd) q → WY (d + 1) c i (lim, lv, K, R, C, lb, wd) q)
    (hM : ∀ d c i K R C lb wd q, i < cnt → K (base + i) ≠ 0 → WY d (c + 1) (i + 1) (lim, lv, upd K (base + i) 0, upd R (base + i) 0, upd C (base + i) 0, upd lb (base + i) 0, pg_w4 wd (base + i) (fun _ => 0)) q → WY (d + 1) c i (lim, lv, K, R, C, lb, wd) q) :
    ∀ (d i c : Nat) (K R C lb wd : Nat → Int32) {f1' f2' fr' sl' lm' fc' cc' hd' ts' th' : Int32} {lv' dr' fl' fe' pk' pr' pp' pc' W' U' rf' O' KP' he' sz' nx' pv' tm' tp' tf' tw' : Nat → Int32}, i + d = cnt → c ≤ i → (∀ j, j < i → K (base + j) = 0) → pg_Rel (f1', f2', fr', sl', lm', fc', cc', hd', ts', th', lv', dr', fl', fe', pk', pr', pp', pc', W', U', rf', O', KP', he', sz', nx', pv', tm', tp', tf', tw') (lim, lv, K, R, C, lb, wd) →
    (∀ c' K' R' C' lb' wd', c' ≤ cnt → (∀ j, j < cnt → K' (base + j) = 0) → (∀ q, WY 0 c' cnt (lim, lv, K', R', C', lb', wd') q → WY d c i (lim, lv, K, R, C, lb, wd) q) → ∀ u', pg_Rel u' (lim, lv, K', R', C', lb', wd') → post (nI c') u') → wX_removeRange_5 post (nI base) (nI cnt) (d + 1) (nI c) (nI i) f1' f2' fr' sl' lm' fc' cc' hd' ts' th' lv' dr' fl' fe' pk' pr' pp' pc' W' U' rf' O' KP' he' sz' nx' pv' tm' tp' tf' tw'
  | 0, i, c, K, R, C, lb, wd, f1', f2', fr', sl', lm', fc', cc', hd', ts', th', lv', dr', fl', fe', pk', pr', pp', pc', W', U', rf', O', KP', he', sz', nx', pv', tm', tp', tf', tw', e, hc, hi, h, k => by
    obtain rfl : i = cnt := by omega
    exact br_t (nI_le (by omega) (by omega)) (k c K R C lb wd hc hi (fun q hq => hq) _ h)
  | d + 1, i, c, K, R, C, lb, wd, f1', f2', fr', sl', lm', fc', cc', hd', ts', th', lv', dr', fl', fe', pk', pr', pp', pc', W', U', rf', O', KP', he', sz', nx', pv', tm', tp', tf', tw', e, hc, hi, h, k => by
    refine br_f (nI_ge (by omega) (by omega)) ?_
    rw [nI_add]
    have hrel := h
    obtain ⟨FR, SL, NC, D, P, Q, W, U, O, KP, elim, G, Y, h⟩ := h
    have hm : base + i < 64 := by omega
    refine pg_walk h hm (fun z => ?_) (fun z => ?_)
    · refine br_t (by decide) (nm_r (nI_1 i) ?_)
      refine pg_rrl hb hU hM d (i + 1) c K R C lb wd (by omega) (by omega) ?_ hrel ?_
      · intro j hj
        by_cases w : j = i
        · rw [w]; exact z
        · exact hi j (by omega)
      · intro c' K' R' C' lb' wd' h1 h2 h3 u' h4
        exact k c' K' R' C' lb' wd' h1 h2 (fun q hq => hU d c i K R C lb wd q (by omega) z (pg_uid G Y hm z) (h3 q hq)) u' h4
    · obtain ⟨dc, dR⟩ := pg_GDdet G hm
      have hpt : ¬ nI (pg_pt D (base + i)) < 0 := by
        have := pg_RXe (Z := fun _ => pg_pt D (base + i) < 64) h (fun _ _ _ _ _ _ _ _ _ _ _ _ _ _ _ _ _ _ _ _ _ _ _ T _ _ _ _ _ => (pg_TBm T hm z).2.2.1)
        exact nI_pos (by omega)
      refine br_f hpt ?_
      refine pg_remove h hm z (G.1 _ hm).2.2.2.1 dc dR G.2.2.2.2.2.2.2.1 ?_
      intro P' Q' U' O' KP' NC' haf
      refine pg_sx ?_
      intro f1' f2' fr' sl' lm' fc' cc' hd' ts' th' lv' dr' fl' fe' pk' pr' pp' pc' W' U' rf' O' KP' he' sz' nx' pv' tm' tp' tf' tw' h1
      have G1 := pg_GDaf G hm (Or.inl ⟨rfl, rfl, rfl⟩) haf
      have Y1 : pg_YL (upd lb (base + i) 0) (pg_w4 wd (base + i) (fun _ => 0)) P' W := by
        rw [haf.1]
        rcases pg_YLout Y (m := base + i) with y | y
        · exact y
        · exact absurd hm y
      refine nm_r (nI_1 c) (nm_r (nI_1 i) ?_)
      refine pg_rrl hb hU hM d (i + 1) (c + 1) _ _ _ _ _ (by omega) (by omega) ?_ (pg_Rj elim G1 Y1 h1) ?_
      · intro j hj
        by_cases w : j = i
        · rw [w, pg_us]
        · rw [pg_un (by omega)]; exact hi j (by omega)
      · intro c' K' R' C' lb' wd' h2 h3 h4 u' h5
        exact k c' K' R' C' lb' wd' h2 h3 (fun q hq => hM d c i K R C lb wd q (by omega) z (h4 q hq)) u' h5
/-- discard -/
theorem pg_dsl {post : Int32 → SX → Prop} {p f cnt : Nat} {K R C : Nat → Int32} (hp : p < 4) (hb : f + cnt ≤ 16) : ∀ (d i c : Nat) (lb wd : Nat → Int32) {f1' f2' fr' sl' lm' fc' cc' hd' ts' th' : Int32} {lv' dr' fl' fe' pk' pr' pp' pc' W' U' rf' O' KP' he' sz' nx' pv' tm' tp' tf' tw' : Nat → Int32}, i + d = cnt → c ≤ i → pg_Rel (f1', f2', fr', sl', lm', fc', cc', hd', ts', th', lv', dr', fl', fe', pk', pr', pp', pc', W', U', rf', O', KP', he', sz', nx', pv', tm', tp', tf', tw') (lim, lv, K, R, C, lb, wd) →
    (∀ c' lb' wd', (∀ q : Int32 → SY → Prop, q (nI c') (lim, lv, K, R, C, lb', wd') → wY_discard_37 q (nI p) (nI f) (nI cnt) (d + 1) (nI c) (nI i) lim lv K R C lb wd) → ∀ u', pg_Rel u' (lim, lv, K, R, C, lb', wd') → post (nI c') u') → wX_discard_40 post (nI cnt) (nI (16 * p + f)) (d + 1) (nI c) (nI i) f1' f2' fr' sl' lm' fc' cc' hd' ts' th' lv' dr' fl' fe' pk' pr' pp' pc' W' U' rf' O' KP' he' sz' nx' pv' tm' tp' tf' tw'
  | 0, i, c, lb, wd, f1', f2', fr', sl', lm', fc', cc', hd', ts', th', lv', dr', fl', fe', pk', pr', pp', pc', W', U', rf', O', KP', he', sz', nx', pv', tm', tp', tf', tw', e, hc, h, k => by
    obtain rfl : i = cnt := by omega
    refine br_t (nI_le (by omega) (by omega)) (k c lb wd (fun q hq => ?_) _ h)
    exact br_t (nI_le (by omega) (by omega)) hq
  | d + 1, i, c, lb, wd, f1', f2', fr', sl', lm', fc', cc', hd', ts', th', lv', dr', fl', fe', pk', pr', pp', pc', W', U', rf', O', KP', he', sz', nx', pv', tm', tp', tf', tw', e, hc, h, k => by
    have hm : 16 * p + f + i < 64 := by omega
    have ynext : ∀ q : Int32 → SY → Prop, (¬ (K (16 * p + f + i) = 1 ∧ lb (16 * p + f + i) ≠ 0) → wY_discard_37 q (nI p) (nI f) (nI cnt) (d + 1) (nI c) (nI (i + 1)) lim lv K R C lb wd) → (K (16 * p + f + i) = 1 → lb (16 * p + f + i) ≠ 0 → wY_discard_37 q (nI p) (nI f) (nI cnt) (d + 1) (nI (c + 1)) (nI (i + 1)) lim lv K R C (upd lb (16 * p + f + i) 0) (pg_w4 wd (16 * p + f + i) (fun _ => 0))) → wY_discard_37 q (nI p) (nI f) (nI cnt) (d + 1 + 1) (nI c) (nI i) lim lv K R C lb wd := by
      intro q h1 h2
      refine br_f (nI_ge (by omega) (by omega)) (nm_r (e' := nI (16 * p + f + i)) (by rw [pg_m16, nI_add]) ⟨vp_in_nI hm (by omega), ?_⟩)
      rw [nI_clamp (n := 16 * p + f + i) (by omega)]
      refine br_c (fun z => ⟨vp_in_nI hm (by omega), br_c (fun w => nm_r (nI_1 i) (h1 (fun w' => w'.2 w))) (fun w => ?_)⟩) (fun z => nm_r (nI_1 i) (h1 (fun w' => z w'.1)))
      refine pg_yMB hm ?_
      exact nm_r (nI_1 c) (nm_r (nI_1 i) (h2 z w))
    refine br_f (nI_ge (by omega) (by omega)) ?_
    rw [nI_add]
    have hrel := h
    obtain ⟨FR, SL, NC, D, P, Q, W, U, O, KP, elim, G, Y, h⟩ := h
    have skip : ¬ (K (16 * p + f + i) = 1 ∧ lb (16 * p + f + i) ≠ 0) → wX_discard_40 post (nI cnt) (nI (16 * p + f)) (d + 1) (nI c) (nI (i + 1)) f1' f2' fr' sl' lm' fc' cc' hd' ts' th' lv' dr' fl' fe' pk' pr' pp' pc' W' U' rf' O' KP' he' sz' nx' pv' tm' tp' tf' tw' := by
      intro hn
      refine pg_dsl hp hb d (i + 1) c lb wd (by omega) (by omega) hrel ?_
      intro c' lb' wd' h3 u' h4
      exact k c' lb' wd' (fun q hq => ynext q (fun _ => h3 q hq) (fun z w => absurd ⟨z, w⟩ hn)) u' h4
    refine pg_walk h hm (fun z => ?_) (fun z => ?_)
    · exact br_t (by decide) (nm_r (nI_1 i) (skip (fun w => by rw [z] at w; exact absurd w.1 (by decide))))
    · obtain ⟨dc, dR⟩ := pg_GDdet G hm
      obtain ⟨hpt, ek, epp⟩ : pg_pt D (16 * p + f + i) < 64 ∧ pk' (pg_pt D (16 * p + f + i)) = K (16 * p + f + i) ∧ pp' (pg_pt D (16 * p + f + i)) = P (16 * p + f + i) := by
        obtain ⟨_, _, ⟨NF, _, T⟩, _⟩ := h
        have := pg_TBm T hm z
        exact ⟨this.2.2.1, this.2.2.2.1, this.2.2.2.2.2.1⟩
      have hpv : vp_in (nI (pg_pt D (16 * p + f + i))) 64 := vp_in_nI hpt (by omega)
      refine br_f (nI_pos (by omega)) ⟨hpv, ?_⟩
      rw [nI_clamp (n := pg_pt D (16 * p + f + i)) (by omega), ek, epp]
      refine br_c (fun k1 => ⟨hpv, ?_⟩) (fun k1 => nm_r (nI_1 i) (skip (fun w => k1 w.1)))
      rcases (G.1 _ hm).2.2.2.2.1 with eP | ⟨q', hq', eP, _⟩
      · rw [eP]
        exact br_t (by decide) (nm_r (nI_1 i) (skip (fun w => w.2 ((Y.1.1 _ hm).2 eP))))
      · rw [eP]
        refine br_f (nI_pos (by omega)) ?_
        have hl : lb (16 * p + f + i) ≠ 0 := by rw [Ne, Y.1.1 _ hm, eP]; exact pg_nm (by omega)
        refine pg_detach h hm z (G.1 _ hm).2.2.2.1 dc dR ?_
        intro P' Q' U' O' KP' NC' haf
        refine pg_sx ?_
        intro f1' f2' fr' sl' lm' fc' cc' hd' ts' th' lv' dr' fl' fe' pk' pr' pp' pc' W' U' rf' O' KP' he' sz' nx' pv' tm' tp' tf' tw' h1
        have G1 := pg_GDaf G hm (k0 := 1) (r0 := R (16 * p + f + i)) (c0 := C (16 * p + f + i)) (Or.inr ⟨rfl, k1, rfl⟩) haf
        rw [pg_uself k1, pg_uself rfl, pg_uself rfl] at G1
        have Y1 : pg_YL (upd lb (16 * p + f + i) 0) (pg_w4 wd (16 * p + f + i) (fun _ => 0)) P' W := by
          rw [haf.1]
          rcases pg_YLout Y (m := 16 * p + f + i) with y | y
          · exact y
          · exact absurd hm y
        refine nm_r (nI_1 c) (nm_r (nI_1 i) ?_)
        refine pg_dsl hp hb d (i + 1) (c + 1) _ _ (by omega) (by omega) (pg_Rj elim G1 Y1 h1) ?_
        intro c' lb' wd' h3 u' h4
        exact k c' lb' wd' (fun q hq => ynext q (fun z => absurd ⟨k1, hl⟩ z) (fun _ _ => h3 q hq)) u' h4
end
section
variable {u : SX} {v : SY}
theorem pg_vunmap {post : Int32 → SX → Prop} {x y n : Int32} (h : pg_Rel u v) (k : ∀ r v', (∀ q : Int32 → SY → Prop, q r v' → wpY_unmap q v x y n) → ∀ u', pg_Rel u' v' → post r u') : wpX_unmap post u x y n := by
  revert k
  refine pg_Re (Z := fun u v => (∀ r v', (∀ q : Int32 → SY → Prop, q r v' → wpY_unmap q v x y n) → ∀ u', pg_Rel u' v' → post r u') → wpX_unmap post u x y n) h ?_
  intro FR SL NC D P Q W U O KP lv K R C lb wd G Y
  refine pg_RXa ?_
  intro f1 f2 NF NH TS TH dr fl fe pk pr pp pc rf he sz nx pv tm tp tf tw hH T C0 t1 t8 hT L k
  have hR : pg_Rel (f1, f2, nI FR, nI SL, nI (FR + SL - 1), nI NF, nI NC, nI NH, nI TS, nI TH, lv, dr, fl, fe, pk, pr, pp, pc, W, U, rf, O, KP, he, sz, nx, pv, tm, tp, tf, tw) (nI (FR + SL - 1), lv, K, R, C, lb, wd) := pg_Ri G Y (pg_RXi hH T C0 t1 t8 hT L)
  unfold wpX_unmap
  dsimp only
  rcases pg_pages y n with hw | ⟨f, c, rfl, rfl, hc1, hc2⟩
  · refine pg_xPgB hw (br_t rfl (k (-1) _ (fun q hq => ?_) _ hR))
    unfold wpY_unmap
    dsimp only
    rcases pg_pid x with hb | ⟨p, hp, rfl⟩
    · exact pg_yPidB hb (br_f (by decide) hq)
    · exact pg_yPid hp (br_t rfl (pg_yPgB hw (br_f (by decide) hq)))
  · refine pg_xPg hc1 hc2 (br_f (by decide) ?_)
    rcases pg_pid x with hb | ⟨p, hp, rfl⟩
    · refine pg_xPidB hb (br_f (by decide) (k (-1) _ (fun q hq => ?_) _ hR))
      unfold wpY_unmap
      dsimp only
      exact pg_yPidB hb (br_f (by decide) hq)
    · have yt : ∀ q : Int32 → SY → Prop, (lv p = 0 → q (-2) (nI (FR + SL - 1), lv, K, R, C, lb, wd)) → (lv p ≠ 0 → ∃ n37, wY_unmap_37 q (nI p) (nI f) (nI c) n37 0 0 (nI (FR + SL - 1)) lv K R C lb wd) → wpY_unmap q (nI (FR + SL - 1), lv, K, R, C, lb, wd) (nI p) (nI f) (nI c) := by
        intro q h2 h3
        unfold wpY_unmap
        dsimp only
        refine pg_yPid hp (br_t rfl (pg_yPg hc1 hc2 (br_t rfl ⟨vp_in_nI hp (by omega), ?_⟩)))
        rw [nI_clamp (n := p) (by omega)]
        exact br_c h2 h3
      refine pg_xPid hp (fun z => br_f (by decide) (k (-2) _ (fun q hq => yt q (fun _ => hq) (fun z' => absurd z z')) _ hR)) (fun z => br_t rfl ?_)
      rw [pg_m16]
      refine ⟨c + 1, ?_⟩
      refine pg_rrl (lim := nI (FR + SL - 1)) (lv := lv) (cnt := c) (base := 16 * p + f) (WY := fun d c' i v q => match v with | (lim, lv, K, R, C, lb, wd) => wY_unmap_37 q (nI p) (nI f) (nI c) (d + 1) (nI c') (nI i) lim lv K R C lb wd) (by omega) ?_ ?_ c 0 0 K R C lb wd (by omega) (by omega) (fun j hj => absurd hj (by omega)) hR ?_
      · intro d c' i K R C lb wd q hi h0 _ hq
        refine br_f (nI_ge (by omega) (by omega)) (nm_r (e' := nI (16 * p + f + i)) (by rw [pg_m16, nI_add]) ⟨vp_in_nI (by omega) (by omega), ?_⟩)
        rw [nI_clamp (n := 16 * p + f + i) (by omega)]
        exact br_t h0 (nm_r (nI_1 i) hq)
      · intro d c' i K R C lb wd q hi h0 hq
        refine br_f (nI_ge (by omega) (by omega)) (nm_r (e' := nI (16 * p + f + i)) (by rw [pg_m16, nI_add]) ⟨vp_in_nI (by omega) (by omega), ?_⟩)
        rw [nI_clamp (n := 16 * p + f + i) (by omega)]
        refine br_f h0 (pg_yMU (by omega) ?_)
        exact nm_r (nI_1 c') (nm_r (nI_1 i) hq)
      · intro c' K' R' C' lb' wd' hc' _ hy
        refine pg_sx ?_
        intro f1' f2' fr' sl' lm' fc' cc' hd' ts' th' lv' dr' fl' fe' pk' pr' pp' pc' W' U' rf' O' KP' he' sz' nx' pv' tm' tp' tf' tw' h1
        refine k (nI c') _ (fun q hq => yt q (fun z' => absurd z' z) (fun _ => ⟨c + 1, hy q ?_⟩)) _ h1
        exact br_t (nI_le (by omega) (by omega)) hq
theorem pg_vexit {post : Int32 → SX → Prop} {x : Int32} (h : pg_Rel u v) (k : ∀ r v', (∀ q : Int32 → SY → Prop, q r v' → wpY_exit q v x) → ∀ u', pg_Rel u' v' → post r u') : wpX_exit post u x := by
  revert k
  refine pg_Re (Z := fun u v => (∀ r v', (∀ q : Int32 → SY → Prop, q r v' → wpY_exit q v x) → ∀ u', pg_Rel u' v' → post r u') → wpX_exit post u x) h ?_
  intro FR SL NC D P Q W U O KP lv K R C lb wd G Y
  refine pg_RXa ?_
  intro f1 f2 NF NH TS TH dr fl fe pk pr pp pc rf he sz nx pv tm tp tf tw hH T C0 t1 t8 hT L k
  have hR : pg_Rel (f1, f2, nI FR, nI SL, nI (FR + SL - 1), nI NF, nI NC, nI NH, nI TS, nI TH, lv, dr, fl, fe, pk, pr, pp, pc, W, U, rf, O, KP, he, sz, nx, pv, tm, tp, tf, tw) (nI (FR + SL - 1), lv, K, R, C, lb, wd) := pg_Ri G Y (pg_RXi hH T C0 t1 t8 hT L)
  unfold wpX_exit
  dsimp only
  rcases pg_pid x with hb | ⟨p, hp, rfl⟩
  · refine pg_xPidB hb (br_f (by decide) (k (-1) _ (fun q hq => ?_) _ hR))
    unfold wpY_exit
    dsimp only
    exact pg_yPidB hb (br_f (by decide) hq)
  · have yt : ∀ q : Int32 → SY → Prop, (lv p = 0 → q (-2) (nI (FR + SL - 1), lv, K, R, C, lb, wd)) → (lv p ≠ 0 → ∃ n24, wY_exit_24 q (nI p) n24 0 (nI (FR + SL - 1)) lv K R C lb wd) → wpY_exit q (nI (FR + SL - 1), lv, K, R, C, lb, wd) (nI p) := by
      intro q h2 h3
      unfold wpY_exit
      dsimp only
      refine pg_yPid hp (br_t rfl ⟨vp_in_nI hp (by omega), ?_⟩)
      rw [nI_clamp (n := p) (by omega)]
      exact br_c h2 h3
    refine pg_xPid hp (fun z => br_f (by decide) (k (-2) _ (fun q hq => yt q (fun _ => hq) (fun z' => absurd z z')) _ hR)) (fun z => br_t rfl ?_)
    rw [show nI p * 16 = nI (16 * p) by rw [show (16 : Int32) = nI 16 from rfl, pk_mul, Nat.mul_comm]]
    refine ⟨17, ?_⟩
    refine pg_rrl (lim := nI (FR + SL - 1)) (lv := lv) (cnt := 16) (base := 16 * p) (WY := fun d c' i v q => match v with | (lim, lv, K, R, C, lb, wd) => wY_exit_24 q (nI p) (d + 1) (nI i) lim lv K R C lb wd) (by omega) ?_ ?_ 16 0 0 K R C lb wd (by omega) (by omega) (fun j hj => absurd hj (by omega)) hR ?_
    · intro d c' i K R C lb wd q hi h0 hid hq
      refine br_f (nI_ge (b := 16) (by omega) (by omega)) ?_
      rw [pg_m16]
      refine pg_yMU (by omega) ?_
      rw [hid.1, hid.2.1, hid.2.2.1, hid.2.2.2.1, hid.2.2.2.2]
      exact nm_r (nI_1 i) hq
    · intro d c' i K R C lb wd q hi h0 hq
      refine br_f (nI_ge (b := 16) (by omega) (by omega)) ?_
      rw [pg_m16]
      exact pg_yMU (by omega) (nm_r (nI_1 i) hq)
    · intro c' K' R' C' lb' wd' hc' hall hy u' h1
      obtain ⟨FR1, SL1, NC1, D1, P1, Q1, W1, U1, O1, KP1, e1, G1, Y1, h1⟩ := h1
      revert h1
      revert u'
      refine pg_RXa ?_
      intro f1 f2 NF NH TS TH dr fl fe pk pr pp pc rf he sz nx pv tm tp tf tw hH T C0 t1 t8 hT L
      dsimp only
      rw [nI_clamp (n := p) (by omega), pg_b0]
      refine ⟨vp_in_nI hp (by omega), nm_e ?_⟩
      refine k 0 (nI (FR + SL - 1), upd lv p 0, K', R', C', lb', wd') (fun q hq => yt q (fun z' => absurd z' z) (fun _ => ⟨17, hy q ?_⟩)) _ ?_
      · refine br_t (by decide) ⟨vp_in_nI hp (by omega), nm_e ?_⟩
        rw [nI_clamp (n := p) (by omega), pg_b0]
        exact hq
      · rw [e1]
        refine pg_Ri (pg_GDlv G1 ?_) Y1 (pg_RXi hH T C0 t1 t8 hT L)
        intro p' hp' z' j hj
        by_cases e : p' = p
        · rw [e]; exact hall j hj
        · rw [pg_un e] at z'
          exact G1.2.2.2.2.2.1 p' hp' z' j hj
theorem pg_vdiscard {post : Int32 → SX → Prop} {x y n : Int32} (h : pg_Rel u v) (k : ∀ r v', (∀ q : Int32 → SY → Prop, q r v' → wpY_discard q v x y n) → ∀ u', pg_Rel u' v' → post r u') : wpX_discard post u x y n := by
  revert k
  refine pg_Re (Z := fun u v => (∀ r v', (∀ q : Int32 → SY → Prop, q r v' → wpY_discard q v x y n) → ∀ u', pg_Rel u' v' → post r u') → wpX_discard post u x y n) h ?_
  intro FR SL NC D P Q W U O KP lv K R C lb wd G Y
  refine pg_RXa ?_
  intro f1 f2 NF NH TS TH dr fl fe pk pr pp pc rf he sz nx pv tm tp tf tw hH T C0 t1 t8 hT L k
  have hR : pg_Rel (f1, f2, nI FR, nI SL, nI (FR + SL - 1), nI NF, nI NC, nI NH, nI TS, nI TH, lv, dr, fl, fe, pk, pr, pp, pc, W, U, rf, O, KP, he, sz, nx, pv, tm, tp, tf, tw) (nI (FR + SL - 1), lv, K, R, C, lb, wd) := pg_Ri G Y (pg_RXi hH T C0 t1 t8 hT L)
  unfold wpX_discard
  dsimp only
  rcases pg_pages y n with hw | ⟨f, c, rfl, rfl, hc1, hc2⟩
  · refine pg_xPgB hw (br_t rfl (k (-1) _ (fun q hq => ?_) _ hR))
    unfold wpY_discard
    dsimp only
    rcases pg_pid x with hb | ⟨p, hp, rfl⟩
    · exact pg_yPidB hb (br_f (by decide) hq)
    · exact pg_yPid hp (br_t rfl (pg_yPgB hw (br_f (by decide) hq)))
  · refine pg_xPg hc1 hc2 (br_f (by decide) ?_)
    rcases pg_pid x with hb | ⟨p, hp, rfl⟩
    · refine pg_xPidB hb (br_f (by decide) (k (-1) _ (fun q hq => ?_) _ hR))
      unfold wpY_discard
      dsimp only
      exact pg_yPidB hb (br_f (by decide) hq)
    · have yt : ∀ q : Int32 → SY → Prop, (lv p = 0 → q (-2) (nI (FR + SL - 1), lv, K, R, C, lb, wd)) → (lv p ≠ 0 → ∃ n37, wY_discard_37 q (nI p) (nI f) (nI c) n37 0 0 (nI (FR + SL - 1)) lv K R C lb wd) → wpY_discard q (nI (FR + SL - 1), lv, K, R, C, lb, wd) (nI p) (nI f) (nI c) := by
        intro q h2 h3
        unfold wpY_discard
        dsimp only
        refine pg_yPid hp (br_t rfl (pg_yPg hc1 hc2 (br_t rfl ⟨vp_in_nI hp (by omega), ?_⟩)))
        rw [nI_clamp (n := p) (by omega)]
        exact br_c h2 h3
      refine pg_xPid hp (fun z => br_f (by decide) (k (-2) _ (fun q hq => yt q (fun _ => hq) (fun z' => absurd z z')) _ hR)) (fun z => br_t rfl ?_)
      refine nm_r (pg_m16 p f) ⟨c + 1, ?_⟩
      refine pg_dsl (lim := nI (FR + SL - 1)) (lv := lv) (K := K) (R := R) (C := C) hp hc2 c 0 0 lb wd (by omega) (by omega) hR ?_
      intro c' lb' wd' hy u' h1
      exact k (nI c') _ (fun q hq => yt q (fun z' => absurd z' z) (fun _ => ⟨c + 1, hy q hq⟩)) _ h1
end
end
section
section
variable {FR SL NC : Nat} {D : Nat → Nat} {lv K R C P Q W U O KP lb wd : Nat → Int32} {u : SX}
theorem pg_YLin (Y : pg_YL lb wd P W) {m x0 : Nat} {pl : Int32} (hm : m < 64) (hx0 : x0 < 64) (hne : x0 ≠ m) (e0 : P x0 = pl) : pg_YL (upd lb m (lb x0)) (pg_w4 wd m (fun j => wd (4 * x0 + j))) (upd P m pl) W := by
  subst e0
  refine ⟨⟨?_, ?_⟩, ?_⟩
  · intro x hx
    by_cases e : x = m
    · subst e; rw [pg_us, pg_us]; exact Y.1.1 x0 hx0
    · rw [pg_un e, pg_un e]; exact Y.1.1 x hx
  · intro x y hx hy
    by_cases e : x = m <;> by_cases e2 : y = m
    · subst e; subst e2; exact ⟨fun _ => rfl, fun _ => rfl⟩
    · subst e; rw [pg_us, pg_us, pg_un e2, pg_un e2]; exact Y.1.2 x0 y hx0 hy
    · subst e2; rw [pg_us, pg_us, pg_un e, pg_un e]; exact Y.1.2 x x0 hx hx0
    · rw [pg_un e, pg_un e2, pg_un e, pg_un e2]; exact Y.1.2 x y hx hy
  · intro x hx
    by_cases e : x = m
    · subst e
      rw [pg_us]
      have y := Y.2 x0 hx0
      refine ⟨fun z w hw => ?_, fun q hq z w hw => ?_⟩
      · rw [pg_w4s hw]; exact y.1 z w hw
      · rw [pg_w4s hw]; exact y.2 q hq z w hw
    · rw [pg_un e]
      have y := Y.2 x hx
      refine ⟨fun z w hw => ?_, fun q hq z w hw => ?_⟩
      · rw [pg_w4n hw e]; exact y.1 z w hw
      · rw [pg_w4n hw e]; exact y.2 q hq z w hw
theorem pg_GDq0 (G : pg_GD FR SL lv K R C P Q W U O KP NC) {m : Nat} (hm : m < 64) (h0 : K m = 0) : P m = -1 ∧ Q m = -1 ∧ R m = 0 ∧ C m = 0 := by
  obtain ⟨r0, c0, p0⟩ := (G.1 m hm).2.2.1 h0
  refine ⟨p0, ?_, r0, c0⟩
  rw [(G.1 m hm).2.2.2.1, h0, p0]; exact pg_chn_0
/-- a chain for every place and kind -/
theorem pg_GDch (G : pg_GD FR SL lv K R C P Q W U O KP NC) {kd pl : Int32} {k : Nat} (hk1 : 1 ≤ k) (hk : k < 10) (ek : kd = nI k) (hp : pl = -1 ∨ ∃ q, q < 18 ∧ pl = nI q) : pg_chn kd pl = -1 ∨ ∃ c, c < 26 ∧ pg_chn kd pl = nI c := by
  rcases hp with e | ⟨q, hq, e⟩
  · rw [e, ek]
    by_cases h2 : k < 2
    · obtain rfl : k = 1 := by omega
      exact Or.inl pg_chn_1
    · obtain ⟨j, rfl⟩ : ∃ j, k = j + 2 := ⟨k - 2, by omega⟩
      exact Or.inr ⟨18 + j, by omega, pg_chn_s j (by omega)⟩
  · exact Or.inr ⟨q, by omega, by rw [e, pg_chn_p _ (by omega)]⟩
/-- the count of mapped pages -/
theorem pg_cml {post : Int32 → Prop} {base cnt : Nat} (h : pg_RX FR SL D lv K R C P Q W U O KP NC u) (hb : base + cnt ≤ 64) (k : post (nI (pg_cn (fun j => decide (K (base + j) ≠ 0)) cnt))) : wpX_countMapped post u (nI base) (nI cnt) := by
  refine pg_RXe (Z := fun u => wpX_countMapped post u (nI base) (nI cnt)) h ?_
  intro f1 f2 NF NH TS TH dr fl fe pk pr pp pc rf he sz nx pv tm tp tf tw hH T C0 t1 t8 hT L
  suffices H : ∀ d i, i + d = cnt → wX_countMapped_5 post (nI base) (nI cnt) f1 f2 (nI FR) (nI SL) (nI (FR + SL - 1)) (nI NF) (nI NC) (nI NH) (nI TS) (nI TH) lv dr fl fe pk pr pp pc W U rf O KP he sz nx pv tm tp tf tw (d + 1) (nI (pg_cn (fun j => decide (K (base + j) ≠ 0)) i)) (nI i) from ⟨cnt + 1, H cnt 0 (by omega)⟩
  intro d
  induction d with
  | zero =>
    intro i e
    obtain rfl : i = cnt := by omega
    exact br_t (nI_le (by omega) (by omega)) k
  | succ d ih =>
    intro i e
    have hs := ih (i + 1) (by omega)
    refine br_f (nI_ge (by omega) (by omega)) ?_
    rw [nI_add]
    refine pg_walkR T (by omega) (fun z => br_t (by decide) (nm_r (nI_1 i) ?_)) (fun z => ?_)
    · have e1 : pg_cn (fun j => decide (K (base + j) ≠ 0)) (i + 1) = pg_cn (fun j => decide (K (base + j) ≠ 0)) i := by simp [pg_cn, z]
      rw [e1] at hs; exact hs
    · have hpt := (pg_TBm T (m := base + i) (by omega) z).2.2.1
      refine br_f (nI_pos (by omega)) (nm_r (nI_1 _) (nm_r (nI_1 i) ?_))
      have e1 : pg_cn (fun j => decide (K (base + j) ≠ 0)) (i + 1) = pg_cn (fun j => decide (K (base + j) ≠ 0)) i + 1 := by simp [pg_cn, z]
      rw [e1] at hs; exact hs
end
section
variable {lim : Int32} {lv K R C lb wd : Nat → Int32}
theorem pg_ySp {q : Int32 → SY → Prop} {p : Nat} (hp : p < 4) (hid : ∀ j, j < 16 → upd K (16 * p + j) 0 = K ∧ upd R (16 * p + j) 0 = R ∧ upd C (16 * p + j) 0 = C ∧ upd lb (16 * p + j) 0 = lb ∧ pg_w4 wd (16 * p + j) (fun _ => 0) = wd) (k : q (nI p) (lim, lv, K, R, C, lb, wd)) : ∀ d i, i + d = 16 → wY_spawn_21 q (nI p) (d + 1) (nI i) lim lv K R C lb wd
  | 0, i, e => br_t (nI_le (a := 16) (by omega) (by omega)) k
  | d + 1, i, e => by
    refine br_f (nI_ge (b := 16) (by omega) (by omega)) ?_
    rw [pg_m16]
    refine pg_yMU (by omega) ?_
    have hid' := hid i (by omega)
    rw [hid'.1, hid'.2.1, hid'.2.2.1, hid'.2.2.2.1, hid'.2.2.2.2]
    exact nm_r (nI_1 i) (pg_ySp hp hid k d (i + 1) (by omega))
theorem pg_yM45 {q : Int32 → SY → Prop} {p f cnt : Nat} {rt : Int32} (hp : p < 4) (hb : f + cnt ≤ 16) (k0 : (∀ j, j < cnt → K (16 * p + f + j) = 0) → ∃ n80, wY_map_80 q (nI p) (nI f) (nI cnt) rt n80 0 lim lv K R C lb wd) (k1 : (∃ j, j < cnt ∧ K (16 * p + f + j) ≠ 0) → q (-6) (lim, lv, K, R, C, lb, wd)) : ∀ d i, i + d = cnt → (∀ j, j < i → K (16 * p + f + j) = 0) → wY_map_45 q (nI p) (nI f) (nI cnt) rt lim lv K R C lb wd (d + 1) (nI i)
  | 0, i, e, hi => br_t (nI_le (by omega) (by omega)) (k0 (fun j hj => hi j (by omega)))
  | d + 1, i, e, hi => by
    refine br_f (nI_ge (by omega) (by omega)) ?_
    rw [pg_m16, nI_add, nI_clamp (n := 16 * p + f + i) (by omega)]
    refine ⟨vp_in_nI (by omega) (by omega), br_c (fun z => nm_r (nI_1 i) (pg_yM45 hp hb k0 k1 d (i + 1) (by omega) (fun j hj => ?_))) (fun z => k1 ⟨i, by omega, z⟩)⟩
    by_cases w : j = i
    · rw [w]; exact z
    · exact hi j (by omega)
theorem pg_yP45 {q : Int32 → SY → Prop} {p f cnt : Nat} {rt : Int32} (hp : p < 4) (hb : f + cnt ≤ 16) (k0 : (∀ j, j < cnt → K (16 * p + f + j) ≠ 0) → ∃ n80, wY_protect_80 q (nI p) (nI f) (nI cnt) rt lim n80 0 lv K R C lb wd) (k1 : (∃ j, j < cnt ∧ K (16 * p + f + j) = 0) → q (-3) (lim, lv, K, R, C, lb, wd)) : ∀ d i, i + d = cnt → (∀ j, j < i → K (16 * p + f + j) ≠ 0) → wY_protect_45 q (nI p) (nI f) (nI cnt) rt lim lv K R C lb wd (d + 1) (nI i)
  | 0, i, e, hi => br_t (nI_le (by omega) (by omega)) (k0 (fun j hj => hi j (by omega)))
  | d + 1, i, e, hi => by
    refine br_f (nI_ge (by omega) (by omega)) ?_
    rw [pg_m16, nI_add, nI_clamp (n := 16 * p + f + i) (by omega)]
    refine ⟨vp_in_nI (by omega) (by omega), br_c (fun z => k1 ⟨i, by omega, z⟩) (fun z => nm_r (nI_1 i) (pg_yP45 hp hb k0 k1 d (i + 1) (by omega) (fun j hj => ?_)))⟩
    by_cases w : j = i
    · rw [w]; exact z
    · exact hi j (by omega)
end
section
variable {lim : Int32} {lv C lb wd : Nat → Int32}
theorem pg_mpl {post : Int32 → SX → Prop} {p f cnt : Nat} {rt : Int32} (hl : lv p ≠ 0) (hp : p < 4) (hb : f + cnt ≤ 16) : ∀ (d i : Nat) (K R : Nat → Int32) {f1' f2' fr' sl' lm' fc' cc' hd' ts' th' : Int32} {lv' dr' fl' fe' pk' pr' pp' pc' W' U' rf' O' KP' he' sz' nx' pv' tm' tp' tf' tw' : Nat → Int32}, i + d = cnt → (∀ j, i ≤ j → j < cnt → K (16 * p + f + j) = 0) → pg_Rel (f1', f2', fr', sl', lm', fc', cc', hd', ts', th', lv', dr', fl', fe', pk', pr', pp', pc', W', U', rf', O', KP', he', sz', nx', pv', tm', tp', tf', tw') (lim, lv, K, R, C, lb, wd) →
    (∀ K' R', (∀ q : Int32 → SY → Prop, q 0 (lim, lv, K', R', C, lb, wd) → wY_map_80 q (nI p) (nI f) (nI cnt) rt (d + 1) (nI i) lim lv K R C lb wd) → ∀ u', pg_Rel u' (lim, lv, K', R', C, lb, wd) → post 0 u') → wX_map_63 post (nI cnt) rt (nI (16 * p + f)) (d + 1) (nI i) f1' f2' fr' sl' lm' fc' cc' hd' ts' th' lv' dr' fl' fe' pk' pr' pp' pc' W' U' rf' O' KP' he' sz' nx' pv' tm' tp' tf' tw'
  | 0, i, K, R, f1', f2', fr', sl', lm', fc', cc', hd', ts', th', lv', dr', fl', fe', pk', pr', pp', pc', W', U', rf', O', KP', he', sz', nx', pv', tm', tp', tf', tw', e, hK, h, k => by
    refine br_t (nI_le (by omega) (by omega)) (k K R (fun q hq => ?_) _ h)
    exact br_t (nI_le (by omega) (by omega)) hq
  | d + 1, i, K, R, f1', f2', fr', sl', lm', fc', cc', hd', ts', th', lv', dr', fl', fe', pk', pr', pp', pc', W', U', rf', O', KP', he', sz', nx', pv', tm', tp', tf', tw', e, hK, h, k => by
    refine br_f (nI_ge (by omega) (by omega)) ?_
    rw [nI_add]
    obtain ⟨FR, SL, NC, D, P, Q, W, U, O, KP, elim, G, Y, h⟩ := h
    have hm : 16 * p + f + i < 64 := by omega
    have h0 := hK i (by omega) (by omega)
    obtain ⟨p0, q0, r0, c0⟩ := pg_GDq0 G hm h0
    refine pg_enter h hm h0 (kd := 1) (by decide) ?_
    intro D' hD'
    rw [pg_uself c0, pg_uself p0]
    refine pg_sx ?_
    intro f1' f2' fr' sl' lm' fc' cc' hd' ts' th' lv' dr' fl' fe' pk' pr' pp' pc' W' U' rf' O' KP' he' sz' nx' pv' tm' tp' tf' tw' h1
    have G1 := pg_GDin G hm p0 (show lv ((16 * p + f + i) / 16) ≠ 0 by rw [show (16 * p + f + i) / 16 = p by omega]; exact hl) (kd := 1) (rt := rt) (ch := 0) (pl := -1) ⟨1, by omega, by omega, rfl⟩ (Or.inl rfl) (Or.inl rfl) (fun k hk z => absurd (show nI 1 = nI (k + 2) from z) (by rw [nI_eq (by omega) (by omega)]; omega))
    rw [pg_chn_1, pg_uself c0, pg_uself p0, pg_uself q0] at G1
    refine nm_r (nI_1 i) ?_
    refine pg_mpl hl hp hb d (i + 1) _ _ (by omega) ?_ (pg_Rj elim G1 Y h1) ?_
    · intro j h1 h2
      rw [pg_un (by omega)]; exact hK j (by omega) h2
    · intro K' R' hy u' h2
      refine k K' R' (fun q hq => ?_) u' h2
      refine br_f (nI_ge (by omega) (by omega)) (nm_r (e' := nI (16 * p + f + i)) (by rw [pg_m16, nI_add]) (pg_yMU hm ?_))
      obtain ⟨i1, i2, i3, i4, i5⟩ := pg_uid G Y hm h0
      rw [i1, i2, i3, i4, i5, nI_clamp (n := 16 * p + f + i) (by omega)]
      exact ⟨vp_in_nI hm (by omega), nm_e ⟨vp_in_nI hm (by omega), nm_e (nm_r (nI_1 i) (hy q hq))⟩⟩
end
end
section
section
variable {FR SL NC : Nat} {D : Nat → Nat} {lv K R C P Q W U O KP lb wd : Nat → Int32} {f1' f2' fr' sl' lm' fc' cc' hd' ts' th' : Int32} {lv' dr' fl' fe' pk' pr' pp' pc' W' U' rf' O' KP' he' sz' nx' pv' tm' tp' tf' tw' : Nat → Int32}
theorem pg_RXm (h : pg_RX FR SL D lv K R C P Q W U O KP NC (f1', f2', fr', sl', lm', fc', cc', hd', ts', th', lv', dr', fl', fe', pk', pr', pp', pc', W', U', rf', O', KP', he', sz', nx', pv', tm', tp', tf', tw')) {m : Nat} (hm : m < 64) (hK : K m ≠ 0) : pg_pt D m < 64 ∧ pk' (pg_pt D m) = K m ∧ pr' (pg_pt D m) = R m ∧ pp' (pg_pt D m) = P m ∧ pc' (pg_pt D m) = C m := by
  obtain ⟨_, _, ⟨NF, _, T⟩, _⟩ := h
  exact (pg_TBm T hm hK).2.2
theorem pg_RXk (h : pg_RX FR SL D lv K R C P Q W U O KP NC (f1', f2', fr', sl', lm', fc', cc', hd', ts', th', lv', dr', fl', fe', pk', pr', pp', pc', W', U', rf', O', KP', he', sz', nx', pv', tm', tp', tf', tw')) : KP' = KP := by
  obtain ⟨_, b, _⟩ := h
  exact b.2.2.2.2
theorem pg_setC (h : pg_RX FR SL D lv K R C P Q W U O KP NC (f1', f2', fr', sl', lm', fc', cc', hd', ts', th', lv', dr', fl', fe', pk', pr', pp', pc', W', U', rf', O', KP', he', sz', nx', pv', tm', tp', tf', tw')) {m : Nat} (hm : m < 64) (hK : K m ≠ 0) (x : Int32) : pg_RX FR SL D lv K R (upd C m x) P Q W U O KP NC (f1', f2', fr', sl', lm', fc', cc', hd', ts', th', lv', dr', fl', fe', pk', pr', pp', upd pc' (pg_pt D m) x, W', U', rf', O', KP', he', sz', nx', pv', tm', tp', tf', tw') := by
  obtain ⟨a, b, ⟨NF, e, T⟩, c, d⟩ := h
  exact And.intro a (And.intro b (And.intro ⟨NF, e, pg_TBc T hm hK x⟩ (And.intro c d)))
theorem pg_setR {post : SX → Prop} (h : pg_RX FR SL D lv K R C P Q W U O KP NC (f1', f2', fr', sl', lm', fc', cc', hd', ts', th', lv', dr', fl', fe', pk', pr', pp', pc', W', U', rf', O', KP', he', sz', nx', pv', tm', tp', tf', tw')) {m : Nat} {rt : Int32} (hm : m < 64) (hK : K m ≠ 0) (k : ∀ u', pg_RX FR SL D lv K (upd R m rt) C P Q W U O KP NC u' → post u') : wpX_tlbDrop post (f1', f2', fr', sl', lm', fc', cc', hd', ts', th', lv', dr', fl', fe', pk', upd pr' (pg_pt D m) rt, pp', pc', W', U', rf', O', KP', he', sz', nx', pv', tm', tp', tf', tw') (nI m) := by
  refine pg_RXe (Z := fun u0 => match u0 with | (f1, f2, fr, sl, lm, fc, cc, hd, ts, th, lv, dr, fl, fe, pk, pr, pp, pc, W, U, rf, O, KP, he, sz, nx, pv, tm, tp, tf, tw) => wpX_tlbDrop post (f1, f2, fr, sl, lm, fc, cc, hd, ts, th, lv, dr, fl, fe, pk, upd pr (pg_pt D m) rt, pp, pc, W, U, rf, O, KP, he, sz, nx, pv, tm, tp, tf, tw) (nI m)) h ?_
  intro f1 f2 NF NH TS TH dr fl fe pk pr pp pc rf he sz nx pv tm tp tf tw hH T C0 t1 t8 hT L
  dsimp only
  refine pg_tlbDropR (E := fun _ => False) (K := K) (R := upd R m rt) (D := D) (FR := FR) (P := P) (Q := Q) t8 hm ?_ ?_
  · refine pg_TLm L ?_
    intro x hx hE
    have hxm : x ≠ m := fun z => hE (Or.inl z)
    refine ⟨id, ?_⟩
    intro p f w z
    unfold pg_TE
    rw [pg_un hxm]
    exact z
  · intro tm' tw' L2 _
    exact k _ (pg_RXi hH (pg_TBr T hm hK rt) C0 t1 t8 hT L2)
end
section
variable {lim : Int32} {lv C lb wd : Nat → Int32}
theorem pg_prl {post : Int32 → SX → Prop} {p f cnt : Nat} {rt : Int32} {K : Nat → Int32} (hp : p < 4) (hb : f + cnt ≤ 16) (hK : ∀ j, j < cnt → K (16 * p + f + j) ≠ 0) : ∀ (d i : Nat) (R : Nat → Int32) {f1' f2' fr' sl' lm' fc' cc' hd' ts' th' : Int32} {lv' dr' fl' fe' pk' pr' pp' pc' W' U' rf' O' KP' he' sz' nx' pv' tm' tp' tf' tw' : Nat → Int32}, i + d = cnt → pg_Rel (f1', f2', fr', sl', lm', fc', cc', hd', ts', th', lv', dr', fl', fe', pk', pr', pp', pc', W', U', rf', O', KP', he', sz', nx', pv', tm', tp', tf', tw') (lim, lv, K, R, C, lb, wd) →
    (∀ R', (∀ q : Int32 → SY → Prop, q 0 (lim, lv, K, R', C, lb, wd) → wY_protect_80 q (nI p) (nI f) (nI cnt) rt lim (d + 1) (nI i) lv K R C lb wd) → ∀ u', pg_Rel u' (lim, lv, K, R', C, lb, wd) → post 0 u') → wX_protect_64 post (nI cnt) rt (nI (16 * p + f)) (d + 1) (nI i) f1' f2' fr' sl' lm' fc' cc' hd' ts' th' lv' dr' fl' fe' pk' pr' pp' pc' W' U' rf' O' KP' he' sz' nx' pv' tm' tp' tf' tw'
  | 0, i, R, f1', f2', fr', sl', lm', fc', cc', hd', ts', th', lv', dr', fl', fe', pk', pr', pp', pc', W', U', rf', O', KP', he', sz', nx', pv', tm', tp', tf', tw', e, h, k => by
    refine br_t (nI_le (by omega) (by omega)) (k R (fun q hq => ?_) _ h)
    exact br_t (nI_le (by omega) (by omega)) hq
  | d + 1, i, R, f1', f2', fr', sl', lm', fc', cc', hd', ts', th', lv', dr', fl', fe', pk', pr', pp', pc', W', U', rf', O', KP', he', sz', nx', pv', tm', tp', tf', tw', e, h, k => by
    refine br_f (nI_ge (by omega) (by omega)) ?_
    rw [nI_add]
    obtain ⟨FR, SL, NC, D, P, Q, W, U, O, KP, elim, G, Y, h⟩ := h
    have hm : 16 * p + f + i < 64 := by omega
    have h0 := hK i (by omega)
    have hpt := (pg_RXm h hm h0).1
    refine pg_walk h hm (fun z => absurd z h0) (fun _ => ?_)
    refine br_f (nI_pos (by omega)) ⟨vp_in_nI hpt (by omega), nm_e ?_⟩
    rw [nI_clamp (n := pg_pt D (16 * p + f + i)) (by omega)]
    refine pg_setR h hm h0 ?_
    refine pg_sx ?_
    intro f1' f2' fr' sl' lm' fc' cc' hd' ts' th' lv' dr' fl' fe' pk' pr' pp' pc' W' U' rf' O' KP' he' sz' nx' pv' tm' tp' tf' tw' h1
    refine nm_r (nI_1 i) ?_
    refine pg_prl hp hb hK d (i + 1) _ (by omega) (pg_Rj elim (pg_GDr G h0) Y h1) ?_
    intro R' hy u' h2
    refine k R' (fun q hq => ?_) u' h2
    refine br_f (nI_ge (by omega) (by omega)) ?_
    rw [pg_m16, nI_add, nI_clamp (n := 16 * p + f + i) (by omega)]
    exact ⟨vp_in_nI hm (by omega), nm_e (nm_r (nI_1 i) (hy q hq))⟩
theorem pg_ccl {post : Int32 → SX → Prop} {p : Nat} {K R : Nat → Int32} (hp : p < 4) : ∀ (d i c : Nat) (C : Nat → Int32) {f1' f2' fr' sl' lm' fc' cc' hd' ts' th' : Int32} {lv' dr' fl' fe' pk' pr' pp' pc' W' U' rf' O' KP' he' sz' nx' pv' tm' tp' tf' tw' : Nat → Int32}, i + d = 16 → c ≤ i → pg_Rel (f1', f2', fr', sl', lm', fc', cc', hd', ts', th', lv', dr', fl', fe', pk', pr', pp', pc', W', U', rf', O', KP', he', sz', nx', pv', tm', tp', tf', tw') (lim, lv, K, R, C, lb, wd) →
    (∀ c' C', (∀ q : Int32 → SY → Prop, q (nI c') (lim, lv, K, R, C', lb, wd) → wY_clearChanged_26 q (nI p) lim (d + 1) (nI c) (nI i) lv K R C lb wd) → ∀ u', pg_Rel u' (lim, lv, K, R, C', lb, wd) → post (nI c') u') → wX_clearChanged_17 post (nI p) f1' f2' fr' sl' lm' fc' cc' hd' ts' th' (d + 1) (nI c) (nI i) lv' dr' fl' fe' pk' pr' pp' pc' W' U' rf' O' KP' he' sz' nx' pv' tm' tp' tf' tw'
  | 0, i, c, C, f1', f2', fr', sl', lm', fc', cc', hd', ts', th', lv', dr', fl', fe', pk', pr', pp', pc', W', U', rf', O', KP', he', sz', nx', pv', tm', tp', tf', tw', e, hc, h, k => by
    refine br_t (nI_le (a := 16) (by omega) (by omega)) (k c C (fun q hq => ?_) _ h)
    exact br_t (nI_le (a := 16) (by omega) (by omega)) hq
  | d + 1, i, c, C, f1', f2', fr', sl', lm', fc', cc', hd', ts', th', lv', dr', fl', fe', pk', pr', pp', pc', W', U', rf', O', KP', he', sz', nx', pv', tm', tp', tf', tw', e, hc, h, k => by
    have hm : 16 * p + i < 64 := by omega
    refine br_f (nI_ge (b := 16) (by omega) (by omega)) ?_
    rw [pg_m16]
    have hrel := h
    obtain ⟨FR, SL, NC, D, P, Q, W, U, O, KP, elim, G, Y, h⟩ := h
    have ystep : ∀ q : Int32 → SY → Prop, (C (16 * p + i) = 0 → wY_clearChanged_26 q (nI p) lim (d + 1) (nI c) (nI (i + 1)) lv K R C lb wd) → (C (16 * p + i) = 1 → wY_clearChanged_26 q (nI p) lim (d + 1) (nI (c + 1)) (nI (i + 1)) lv K R (upd C (16 * p + i) 0) lb wd) → wY_clearChanged_26 q (nI p) lim (d + 1 + 1) (nI c) (nI i) lv K R C lb wd := by
      intro q h0 h1
      refine br_f (nI_ge (b := 16) (by omega) (by omega)) ?_
      rw [pg_m16, nI_clamp (n := 16 * p + i) (by omega)]
      refine ⟨vp_in_nI hm (by omega), br_c (fun z => nm_r (nI_1 c) ?_) (fun z => ?_)⟩
      · unfold wY_clearChanged_50
        rw [pg_m16, nI_clamp (n := 16 * p + i) (by omega)]
        exact ⟨vp_in_nI hm (by omega), nm_e (nm_r (nI_1 i) (h1 z))⟩
      · unfold wY_clearChanged_50
        rw [pg_m16, nI_clamp (n := 16 * p + i) (by omega)]
        have c0 : C (16 * p + i) = 0 := by
          rcases (G.1 _ hm).2.1 with w | w
          · exact w
          · exact absurd w z
        rw [pg_uself c0]
        exact ⟨vp_in_nI hm (by omega), nm_e (nm_r (nI_1 i) (h0 c0))⟩
    have skip : C (16 * p + i) = 0 → wX_clearChanged_17 post (nI p) f1' f2' fr' sl' lm' fc' cc' hd' ts' th' (d + 1) (nI c) (nI (i + 1)) lv' dr' fl' fe' pk' pr' pp' pc' W' U' rf' O' KP' he' sz' nx' pv' tm' tp' tf' tw' := by
      intro c0
      refine pg_ccl hp d (i + 1) c C (by omega) (by omega) hrel ?_
      intro c' C' hy u' h2
      exact k c' C' (fun q hq => ystep q (fun _ => hy q hq) (fun z => absurd (c0.symm.trans z) (by decide))) u' h2
    refine pg_walk h hm (fun z => ?_) (fun z => ?_)
    · exact br_t (by decide) (nm_r (nI_1 i) (skip (pg_GDq0 G hm z).2.2.2))
    · obtain ⟨hpt, _, _, _, epc⟩ := pg_RXm h hm z
      have hpv : vp_in (nI (pg_pt D (16 * p + i))) 64 := vp_in_nI hpt (by omega)
      refine br_f (nI_pos (by omega)) ⟨hpv, ?_⟩
      rw [nI_clamp (n := pg_pt D (16 * p + i)) (by omega), epc, pg_b0]
      refine br_c (fun c0 => nm_r (nI_1 i) (skip c0)) (fun c0 => ⟨hpv, nm_e (nm_r (nI_1 c) (nm_r (nI_1 i) ?_))⟩)
      have c1 : C (16 * p + i) = 1 := by
        rcases (G.1 _ hm).2.1 with w | w
        · exact absurd w c0
        · exact w
      refine pg_ccl hp d (i + 1) (c + 1) _ (by omega) (by omega) (pg_Rj elim (pg_GDc G (m := 16 * p + i) (ch := 0) (Or.inr rfl) (Or.inl rfl)) Y (pg_setC h hm z 0)) ?_
      intro c' C' hy u' h2
      exact k c' C' (fun q hq => ystep q (fun w => absurd w c0) (fun _ => hy q hq)) u' h2
/-- fork -/
theorem pg_fkl {post : Int32 → SX → Prop} {p c : Nat} (hp : p < 4) (hc : c < 4) (hpc : p ≠ c) (hl : lv c ≠ 0) : ∀ (d i : Nat) (K R C lb wd : Nat → Int32) {f1' f2' fr' sl' lm' fc' cc' hd' ts' th' : Int32} {lv' dr' fl' fe' pk' pr' pp' pc' W' U' rf' O' KP' he' sz' nx' pv' tm' tp' tf' tw' : Nat → Int32}, i + d = 16 → (∀ j, i ≤ j → j < 16 → K (16 * c + j) = 0) → pg_Rel (f1', f2', fr', sl', lm', fc', cc', hd', ts', th', lv', dr', fl', fe', pk', pr', pp', pc', W', U', rf', O', KP', he', sz', nx', pv', tm', tp', tf', tw') (lim, lv, K, R, C, lb, wd) →
    (∀ K' R' C' lb' wd', (∀ q : Int32 → SY → Prop, q (nI c) (lim, lv, K', R', C', lb', wd') → wY_fork_43 q (nI p) (nI c) (d + 1) (nI i) lim lv K R C lb wd) → ∀ u', pg_Rel u' (lim, lv, K', R', C', lb', wd') → post (nI c) u') → wX_fork_34 post (nI p) (nI c) (d + 1) (nI i) f1' f2' fr' sl' lm' fc' cc' hd' ts' th' lv' dr' fl' fe' pk' pr' pp' pc' W' U' rf' O' KP' he' sz' nx' pv' tm' tp' tf' tw'
  | 0, i, K, R, C, lb, wd, f1', f2', fr', sl', lm', fc', cc', hd', ts', th', lv', dr', fl', fe', pk', pr', pp', pc', W', U', rf', O', KP', he', sz', nx', pv', tm', tp', tf', tw', e, hK, h, k => by
    refine br_t (nI_le (a := 16) (by omega) (by omega)) (k K R C lb wd (fun q hq => ?_) _ h)
    exact br_t (nI_le (a := 16) (by omega) (by omega)) hq
  | d + 1, i, K, R, C, lb, wd, f1', f2', fr', sl', lm', fc', cc', hd', ts', th', lv', dr', fl', fe', pk', pr', pp', pc', W', U', rf', O', KP', he', sz', nx', pv', tm', tp', tf', tw', e, hK, h, k => by
    have hm : 16 * c + i < 64 := by omega
    have hs : 16 * p + i < 64 := by omega
    have hne : 16 * p + i ≠ 16 * c + i := by omega
    have h0 := hK i (by omega) (by omega)
    refine br_f (nI_ge (b := 16) (by omega) (by omega)) ?_
    rw [pg_m16, pg_m16]
    have hrel := h
    obtain ⟨FR, SL, NC, D, P, Q, W, U, O, KP, elim, G, Y, h⟩ := h
    obtain ⟨p0, q0, r0, c0⟩ := pg_GDq0 G hm h0
    obtain ⟨i1, i2, i3, i4, i5⟩ := pg_uid G Y hm h0
    refine pg_walk h hs (fun z => ?_) (fun z => ?_)
    · refine br_t (by decide) (nm_r (nI_1 i) ?_)
      refine pg_fkl hp hc hpc hl d (i + 1) K R C lb wd (by omega) (fun j h1 h2 => hK j (by omega) h2) hrel ?_
      intro K' R' C' lb' wd' hy u' h2
      refine k K' R' C' lb' wd' (fun q hq => ?_) u' h2
      refine br_f (nI_ge (b := 16) (by omega) (by omega)) (nm_r (pg_m16 p i) (nm_r (pg_m16 c i) (pg_yMU hm ?_)))
      rw [i1, i2, i3, i4, i5, nI_clamp (n := 16 * p + i) (by omega)]
      exact ⟨vp_in_nI hs (by omega), br_t z (nm_r (nI_1 i) (hy q hq))⟩
    · obtain ⟨hpt, ek, er, epp, _⟩ := pg_RXm h hs z
      have hpv : vp_in (nI (pg_pt D (16 * p + i))) 64 := vp_in_nI hpt (by omega)
      refine br_f (nI_pos (by omega)) (nm_e ⟨hpv, hpv, ?_⟩)
      rw [nI_clamp (n := pg_pt D (16 * p + i)) (by omega), ek, er]
      refine pg_enter h hm h0 z ?_
      intro D' hD'
      rw [pg_uself c0]
      refine pg_sx ?_
      intro f1' f2' fr' sl' lm' fc' cc' hd' ts' th' lv' dr' fl' fe' pk' pr' pp' pc' W' U' rf' O' KP' he' sz' nx' pv' tm' tp' tf' tw' h1
      have hK1 : upd K (16 * c + i) (K (16 * p + i)) (16 * p + i) ≠ 0 := by rw [pg_un hne]; exact z
      have hKm : upd K (16 * c + i) (K (16 * p + i)) (16 * c + i) ≠ 0 := by rw [pg_us]; exact z
      have epp1 := (pg_RXm h1 hs hK1).2.2.2.1
      rw [hD' _ hs z, pg_un hne] at epp1
      obtain ⟨⟨kk, hkk, ekk⟩, _, _, _, hPs, hSs⟩ := G.1 _ hs
      have hkk1 : 1 ≤ kk := by
        rcases Nat.eq_zero_or_pos kk with w | w
        · exact absurd (by rw [ekk, w]; rfl) z
        · exact w
      refine ⟨hpv, ?_⟩
      rw [epp1]
      refine pg_join h1 G.2.2.2.2.2.2.2.1 hm hKm pg_us q0 ?_ ?_
      · rw [pg_us]
        refine pg_GDch G hkk1 hkk ekk ?_
        rcases hPs with w | ⟨q', hq', w, _⟩
        · exact Or.inl w
        · exact Or.inr ⟨q', hq', w⟩
      · rw [pg_us, pg_uu]
        refine pg_sx ?_
        intro f1' f2' fr' sl' lm' fc' cc' hd' ts' th' lv' dr' fl' fe' pk' pr' pp' pc' W' U' rf' O' KP' he' sz' nx' pv' tm' tp' tf' tw' h2
        have G1 := pg_GDin G hm p0 (show lv ((16 * c + i) / 16) ≠ 0 by rw [show (16 * c + i) / 16 = c by omega]; exact hl) (kd := K (16 * p + i)) (rt := R (16 * p + i)) (ch := 0) (pl := P (16 * p + i)) ⟨kk, hkk1, hkk, ekk⟩ (Or.inl rfl) hPs hSs
        rw [pg_uself c0] at G1
        have Y1 := pg_YLin Y hm hs hne rfl
        refine nm_r (nI_1 i) ?_
        refine pg_fkl hp hc hpc hl d (i + 1) _ _ _ _ _ (by omega) ?_ (pg_Rj elim G1 Y1 h2) ?_
        · intro j h1 h2
          rw [pg_un (by omega)]; exact hK j (by omega) h2
        · intro K' R' C' lb' wd' hy u' h3
          refine k K' R' C' lb' wd' (fun q hq => ?_) u' h3
          refine br_f (nI_ge (b := 16) (by omega) (by omega)) (nm_r (pg_m16 p i) (nm_r (pg_m16 c i) (pg_yMU hm ?_)))
          rw [i1, i2, i3, i4, i5, nI_clamp (n := 16 * p + i) (by omega), nI_clamp (n := 16 * c + i) (by omega)]
          have hsv : vp_in (nI (16 * p + i)) 64 := vp_in_nI hs (by omega)
          have hmv : vp_in (nI (16 * c + i)) 64 := vp_in_nI hm (by omega)
          refine ⟨hsv, br_f z ⟨hsv, hmv, nm_e ⟨hsv, hmv, nm_e ?_⟩⟩⟩
          refine pg_yJG hs hm hne ?_
          exact nm_r (nI_1 i) (hy q hq)
end
end
section
section
variable {lim : Int32} {lv K R C lb wd : Nat → Int32}
/-- mapShared's scan: all mappings of the key that aren't blank are alike -/
theorem pg_yMS {q : Int32 → SY → Prop} {m key : Nat} {rt : Int32} (hm : m < 64) (hk : key < 8) (hKm : K m ≠ nI (key + 2)) (lbr wdr : Nat → Int32)
    (hno : (∀ x, x < 64 → K x = nI (key + 2) → lb x = 0) → lbr = lb ∧ wdr = wd)
    (hyes : ∀ x, x < 64 → K x = nI (key + 2) → lb x ≠ 0 → upd lb m (lb x) = lbr ∧ pg_w4 wd m (fun j => wd (4 * x + j)) = wdr)
    (k : q 0 (lim, lv, upd K m (nI (key + 2)), upd R m rt, C, lbr, wdr)) : ∀ d i (lb1 wd1 : Nat → Int32), i + d = 64 → ((lb1 = lb ∧ wd1 = wd ∧ ∀ x, x < i → K x = nI (key + 2) → lb x = 0) ∨ (lb1 = lbr ∧ wd1 = wdr ∧ ∃ x, x < 64 ∧ K x = nI (key + 2) ∧ lb x ≠ 0)) → wY_mapShared_83 q (nI key) rt (nI m) (d + 1) (nI i) lim lv K R C lb1 wd1
  | 0, i, lb1, wd1, e, hs => by
    have e2 : (2 : Int32) + nI key = nI (key + 2) := by rw [show (2 : Int32) = nI 2 from rfl, nI_add, Nat.add_comm]
    have hv : vp_in (nI m) 64 := vp_in_nI hm (by omega)
    refine br_t (nI_le (a := 64) (by omega) (by omega)) ⟨hv, nm_e ⟨hv, nm_e ?_⟩⟩
    rw [nI_clamp (n := m) (by omega), e2]
    rcases hs with ⟨rfl, rfl, hs⟩ | ⟨rfl, rfl, _⟩
    · obtain ⟨e3, e4⟩ := hno (fun x hx => hs x (by omega))
      rw [e3, e4] at k; exact k
    · exact k
  | d + 1, i, lb1, wd1, e, hs => by
    have e2 : (2 : Int32) + nI key = nI (key + 2) := by rw [show (2 : Int32) = nI 2 from rfl, nI_add, Nat.add_comm]
    have hv : vp_in (nI i) 64 := vp_in_nI (by omega) (by omega)
    have hlbr : (∃ x, x < 64 ∧ K x = nI (key + 2) ∧ lb x ≠ 0) → ∀ y, y ≠ m → lbr y = lb y ∧ ∀ j, j < 4 → wdr (4 * y + j) = wd (4 * y + j) := by
      rintro ⟨x, hx, hKx, hlx⟩ y hy
      obtain ⟨a1, a2⟩ := hyes x hx hKx hlx
      rw [← a1, ← a2, pg_un hy]
      exact ⟨rfl, fun j hj => pg_w4n hj hy⟩
    refine br_f (nI_ge (b := 64) (by omega) (by omega)) ⟨hv, ?_⟩
    rw [e2, nI_clamp (n := i) (by omega)]
    refine br_c (fun hKi => ⟨hv, ?_⟩) (fun hKi => nm_r (nI_1 i) (pg_yMS hm hk hKm lbr wdr hno hyes k d (i + 1) lb1 wd1 (by omega) ?_))
    · have him : i ≠ m := fun z => hKm (z ▸ hKi)
      have e1i : lb1 i = lb i := by
        rcases hs with ⟨rfl, _⟩ | ⟨rfl, _, hx⟩
        · rfl
        · exact (hlbr hx i him).1
      refine br_c (fun l0 => nm_r (nI_1 i) (pg_yMS hm hk hKm lbr wdr hno hyes k d (i + 1) lb1 wd1 (by omega) ?_)) (fun l0 => ?_)
      · rcases hs with ⟨a1, a2, hs⟩ | hs
        · refine Or.inl ⟨a1, a2, fun x hx hKx => ?_⟩
          by_cases z : x = i
          · rw [z, ← e1i]; exact l0
          · exact hs x (by omega) hKx
        · exact Or.inr hs
      · have li : lb i ≠ 0 := by rw [← e1i]; exact l0
        have hex : ∃ x, x < 64 ∧ K x = nI (key + 2) ∧ lb x ≠ 0 := ⟨i, by omega, hKi, li⟩
        obtain ⟨a1, a2⟩ := hyes i (by omega) hKi li
        refine pg_yJG (by omega) hm him ?_
        refine nm_r (nI_1 i) (pg_yMS hm hk hKm lbr wdr hno hyes k d (i + 1) _ _ (by omega) (Or.inr ⟨?_, ?_, hex⟩))
        · rw [e1i, ← a1]
          rcases hs with ⟨rfl, _⟩ | ⟨e3, _⟩
          · rfl
          · rw [e3, ← a1, pg_uu]
        · rw [← a2]
          rcases hs with ⟨_, e4, _⟩ | ⟨_, e4, _⟩
          · rw [e4]
          · funext t
            unfold pg_w4
            split
            · rw [e4]
              exact (hlbr hex i him).2 _ (by omega)
            · rename_i ht
              rw [e4, ← a2]
              exact if_neg ht
    · rcases hs with ⟨a1, a2, hs⟩ | hs
      · refine Or.inl ⟨a1, a2, fun x hx hKx => ?_⟩
        by_cases z : x = i
        · exact absurd (z ▸ hKx) hKi
        · exact hs x (by omega) hKx
      · exact Or.inr hs
end
section
variable {u : SX} {v : SY}
theorem pg_vspawn {post : Int32 → SX → Prop} (h : pg_Rel u v) (k : ∀ r v', (∀ q : Int32 → SY → Prop, q r v' → wpY_spawn q v) → ∀ u', pg_Rel u' v' → post r u') : wpX_spawn post u := by
  revert k
  refine pg_Re (Z := fun u v => (∀ r v', (∀ q : Int32 → SY → Prop, q r v' → wpY_spawn q v) → ∀ u', pg_Rel u' v' → post r u') → wpX_spawn post u) h ?_
  intro FR SL NC D P Q W U O KP lv K R C lb wd G Y
  refine pg_RXa ?_
  intro f1 f2 NF NH TS TH dr fl fe pk pr pp pc rf he sz nx pv tm tp tf tw hH T C0 t1 t8 hT L k
  have hR : pg_Rel (f1, f2, nI FR, nI SL, nI (FR + SL - 1), nI NF, nI NC, nI NH, nI TS, nI TH, lv, dr, fl, fe, pk, pr, pp, pc, W, U, rf, O, KP, he, sz, nx, pv, tm, tp, tf, tw) (nI (FR + SL - 1), lv, K, R, C, lb, wd) := pg_Ri G Y (pg_RXi hH T C0 t1 t8 hT L)
  unfold wpX_spawn
  dsimp only
  refine ⟨5, pg_xLD ?_ ?_ 4 0 (by omega) (fun p hp => absurd hp (by omega))⟩
  · intro p hp z hlow
    refine br_t (nI_pos' (by omega)) ⟨vp_in_nI hp (by omega), nm_e ?_⟩
    rw [nI_clamp (n := p) (by omega), pg_b1]
    refine k (nI p) (nI (FR + SL - 1), upd lv p 1, K, R, C, lb, wd) (fun q hq => ?_) _ (pg_Ri (pg_GDlv G ?_) Y (pg_RXi hH T C0 t1 t8 hT L))
    · unfold wpY_spawn
      dsimp only
      refine ⟨5, pg_yLD ?_ ?_ 4 0 (by omega) (fun p hp => absurd hp (by omega))⟩
      · intro p2 hp2 z2 hlow2
        obtain rfl : p = p2 := by
          rcases Nat.lt_trichotomy p p2 with w | w | w
          · exact absurd z (hlow2 p w)
          · exact w
          · exact absurd z2 (hlow p2 w)
        refine br_t (nI_pos' (by omega)) ⟨vp_in_nI hp (by omega), nm_e ⟨17, ?_⟩⟩
        rw [nI_clamp (n := p) (by omega), pg_b1]
        exact pg_ySp hp (fun j hj => pg_uid G Y (by omega) (G.2.2.2.2.2.1 p hp z j hj)) hq 16 0 (by omega)
      · intro hall
        exact absurd z (hall p hp)
    · intro p' hp' z' j hj
      by_cases e : p' = p
      · rw [e, pg_us] at z'; exact absurd z' (by decide)
      · rw [pg_un e] at z'
        exact G.2.2.2.2.2.1 p' hp' z' j hj
  · intro hall
    refine br_f (by decide) (k (-7) _ (fun q hq => ?_) _ hR)
    unfold wpY_spawn
    dsimp only
    refine ⟨5, pg_yLD (fun p2 hp2 z2 _ => absurd z2 (hall p2 hp2)) (fun _ => br_f (by decide) hq) 4 0 (by omega) (fun p hp => absurd hp (by omega))⟩
theorem pg_vfork {post : Int32 → SX → Prop} {x : Int32} (h : pg_Rel u v) (k : ∀ r v', (∀ q : Int32 → SY → Prop, q r v' → wpY_fork q v x) → ∀ u', pg_Rel u' v' → post r u') : wpX_fork post u x := by
  revert k
  refine pg_Re (Z := fun u v => (∀ r v', (∀ q : Int32 → SY → Prop, q r v' → wpY_fork q v x) → ∀ u', pg_Rel u' v' → post r u') → wpX_fork post u x) h ?_
  intro FR SL NC D P Q W U O KP lv K R C lb wd G Y
  refine pg_RXa ?_
  intro f1 f2 NF NH TS TH dr fl fe pk pr pp pc rf he sz nx pv tm tp tf tw hH T C0 t1 t8 hT L k
  have hR : pg_Rel (f1, f2, nI FR, nI SL, nI (FR + SL - 1), nI NF, nI NC, nI NH, nI TS, nI TH, lv, dr, fl, fe, pk, pr, pp, pc, W, U, rf, O, KP, he, sz, nx, pv, tm, tp, tf, tw) (nI (FR + SL - 1), lv, K, R, C, lb, wd) := pg_Ri G Y (pg_RXi hH T C0 t1 t8 hT L)
  unfold wpX_fork
  dsimp only
  rcases pg_pid x with hb | ⟨p, hp, rfl⟩
  · refine pg_xPidB hb (br_f (by decide) (k (-1) _ (fun q hq => ?_) _ hR))
    unfold wpY_fork
    dsimp only
    exact pg_yPidB hb (br_f (by decide) hq)
  · have yt : ∀ q : Int32 → SY → Prop, (lv p = 0 → q (-2) (nI (FR + SL - 1), lv, K, R, C, lb, wd)) → ((∀ c, c < 4 → lv c ≠ 0) → q (-7) (nI (FR + SL - 1), lv, K, R, C, lb, wd)) → (lv p ≠ 0 → ∀ c, c < 4 → lv c = 0 → (∀ c', c' < c → lv c' ≠ 0) → ∃ n43, wY_fork_43 q (nI p) (nI c) n43 0 (nI (FR + SL - 1)) (upd lv c 1) K R C lb wd) → wpY_fork q (nI (FR + SL - 1), lv, K, R, C, lb, wd) (nI p) := by
      intro q h2 h7 h3
      unfold wpY_fork
      dsimp only
      refine pg_yPid hp (br_t rfl ⟨vp_in_nI hp (by omega), ?_⟩)
      rw [nI_clamp (n := p) (by omega)]
      refine br_c h2 (fun z => ⟨5, pg_yLD ?_ ?_ 4 0 (by omega) (fun p hp => absurd hp (by omega))⟩)
      · intro c hc z2 hlow
        refine br_t (nI_pos' (by omega)) ⟨vp_in_nI hc (by omega), nm_e ?_⟩
        rw [nI_clamp (n := c) (by omega), pg_b1]
        exact h3 z c hc z2 hlow
      · intro hall
        exact br_f (by decide) (h7 hall)
    refine pg_xPid hp (fun z => br_f (by decide) (k (-2) _ (fun q hq => yt q (fun _ => hq) (fun hall => absurd z (hall p hp)) (fun z' => absurd z z')) _ hR)) (fun z => br_t rfl ⟨5, pg_xLD ?_ ?_ 4 0 (by omega) (fun p hp => absurd hp (by omega))⟩)
    · intro c hc z2 hlow
      refine br_t (nI_pos' (by omega)) ⟨vp_in_nI hc (by omega), nm_e ⟨17, ?_⟩⟩
      rw [nI_clamp (n := c) (by omega), pg_b1]
      have G1 : pg_GD FR SL (upd lv c 1) K R C P Q W U O KP NC := by
        refine pg_GDlv G ?_
        intro p' hp' z' j hj
        by_cases e : p' = c
        · rw [e, pg_us] at z'; exact absurd z' (by decide)
        · rw [pg_un e] at z'
          exact G.2.2.2.2.2.1 p' hp' z' j hj
      refine pg_fkl (lim := nI (FR + SL - 1)) (lv := upd lv c 1) hp hc (fun w => z (w ▸ z2)) (by rw [pg_us]; decide) 16 0 K R C lb wd (by omega) (fun j _ hj => G.2.2.2.2.2.1 c hc z2 j hj) (pg_Ri G1 Y (pg_RXi hH T C0 t1 t8 hT L)) ?_
      intro K' R' C' lb' wd' hy u' h1
      refine k (nI c) _ (fun q hq => yt q (fun z' => absurd z' z) (fun hall => absurd z2 (hall c hc)) (fun _ c2 hc2 z3 hlow2 => ?_)) u' h1
      obtain rfl : c = c2 := by
        rcases Nat.lt_trichotomy c c2 with w | w | w
        · exact absurd z2 (hlow2 c w)
        · exact w
        · exact absurd z3 (hlow c2 w)
      exact ⟨17, hy q hq⟩
    · intro hall
      exact br_f (by decide) (k (-7) _ (fun q hq => yt q (fun z' => absurd z' z) (fun _ => hq) (fun _ c hc z2 => absurd z2 (hall c hc))) _ hR)
theorem pg_vclear {post : Int32 → SX → Prop} {x : Int32} (h : pg_Rel u v) (k : ∀ r v', (∀ q : Int32 → SY → Prop, q r v' → wpY_clearChanged q v x) → ∀ u', pg_Rel u' v' → post r u') : wpX_clearChanged post u x := by
  revert k
  refine pg_Re (Z := fun u v => (∀ r v', (∀ q : Int32 → SY → Prop, q r v' → wpY_clearChanged q v x) → ∀ u', pg_Rel u' v' → post r u') → wpX_clearChanged post u x) h ?_
  intro FR SL NC D P Q W U O KP lv K R C lb wd G Y
  refine pg_RXa ?_
  intro f1 f2 NF NH TS TH dr fl fe pk pr pp pc rf he sz nx pv tm tp tf tw hH T C0 t1 t8 hT L k
  have hR : pg_Rel (f1, f2, nI FR, nI SL, nI (FR + SL - 1), nI NF, nI NC, nI NH, nI TS, nI TH, lv, dr, fl, fe, pk, pr, pp, pc, W, U, rf, O, KP, he, sz, nx, pv, tm, tp, tf, tw) (nI (FR + SL - 1), lv, K, R, C, lb, wd) := pg_Ri G Y (pg_RXi hH T C0 t1 t8 hT L)
  unfold wpX_clearChanged
  dsimp only
  rcases pg_pid x with hb | ⟨p, hp, rfl⟩
  · refine pg_xPidB hb (br_f (by decide) (k (-1) _ (fun q hq => ?_) _ hR))
    unfold wpY_clearChanged
    dsimp only
    exact pg_yPidB hb (br_f (by decide) hq)
  · have yt : ∀ q : Int32 → SY → Prop, (lv p = 0 → q (-2) (nI (FR + SL - 1), lv, K, R, C, lb, wd)) → (lv p ≠ 0 → ∃ n26, wY_clearChanged_26 q (nI p) (nI (FR + SL - 1)) n26 0 0 lv K R C lb wd) → wpY_clearChanged q (nI (FR + SL - 1), lv, K, R, C, lb, wd) (nI p) := by
      intro q h2 h3
      unfold wpY_clearChanged
      dsimp only
      refine pg_yPid hp (br_t rfl ⟨vp_in_nI hp (by omega), ?_⟩)
      rw [nI_clamp (n := p) (by omega)]
      exact br_c h2 h3
    refine pg_xPid hp (fun z => br_f (by decide) (k (-2) _ (fun q hq => yt q (fun _ => hq) (fun z' => absurd z z')) _ hR)) (fun z => br_t rfl ⟨17, ?_⟩)
    refine pg_ccl (lim := nI (FR + SL - 1)) (lv := lv) (K := K) (R := R) hp 16 0 0 C (by omega) (by omega) hR ?_
    intro c' C' hy u' h1
    exact k (nI c') _ (fun q hq => yt q (fun z' => absurd z' z) (fun _ => ⟨17, hy q hq⟩)) u' h1
theorem pg_vmap {post : Int32 → SX → Prop} {x y n rt : Int32} (h : pg_Rel u v) (k : ∀ r v', (∀ q : Int32 → SY → Prop, q r v' → wpY_map q v x y n rt) → ∀ u', pg_Rel u' v' → post r u') : wpX_map post u x y n rt := by
  revert k
  refine pg_Re (Z := fun u v => (∀ r v', (∀ q : Int32 → SY → Prop, q r v' → wpY_map q v x y n rt) → ∀ u', pg_Rel u' v' → post r u') → wpX_map post u x y n rt) h ?_
  intro FR SL NC D P Q W U O KP lv K R C lb wd G Y
  refine pg_RXa ?_
  intro f1 f2 NF NH TS TH dr fl fe pk pr pp pc rf he sz nx pv tm tp tf tw hH T C0 t1 t8 hT L k
  have hX : pg_RX FR SL D lv K R C P Q W U O KP NC (f1, f2, nI FR, nI SL, nI (FR + SL - 1), nI NF, nI NC, nI NH, nI TS, nI TH, lv, dr, fl, fe, pk, pr, pp, pc, W, U, rf, O, KP, he, sz, nx, pv, tm, tp, tf, tw) := pg_RXi hH T C0 t1 t8 hT L
  have hR : pg_Rel (f1, f2, nI FR, nI SL, nI (FR + SL - 1), nI NF, nI NC, nI NH, nI TS, nI TH, lv, dr, fl, fe, pk, pr, pp, pc, W, U, rf, O, KP, he, sz, nx, pv, tm, tp, tf, tw) (nI (FR + SL - 1), lv, K, R, C, lb, wd) := pg_Ri G Y hX
  unfold wpX_map
  dsimp only
  rcases pg_pages y n with hw | ⟨f, c, rfl, rfl, hc1, hc2⟩
  · refine pg_xPgB hw (br_t rfl (k (-1) _ (fun q hq => ?_) _ hR))
    unfold wpY_map
    dsimp only
    rcases pg_pid x with hb | ⟨p, hp, rfl⟩
    · exact pg_yPidB hb (br_f (by decide) hq)
    · exact pg_yPid hp (br_t rfl (pg_yPgB hw (br_f (by decide) hq)))
  · refine pg_xPg hc1 hc2 (br_f (by decide) ?_)
    refine pg_xGr (fun hr => br_t rfl (k (-1) _ (fun q hq => ?_) _ hR)) (fun hr1 hr2 => br_f (by decide) ?_)
    · unfold wpY_map
      dsimp only
      rcases pg_pid x with hb | ⟨p, hp, rfl⟩
      · exact pg_yPidB hb (br_f (by decide) hq)
      · refine pg_yPid hp (br_t rfl (pg_yPg hc1 hc2 (br_t rfl (br_c (fun _ => hq) (fun w => br_f ?_ hq)))))
        rcases hr with hr | hr
        · exact absurd hr w
        · exact hr
    · rcases pg_pid x with hb | ⟨p, hp, rfl⟩
      · refine pg_xPidB hb (br_f (by decide) (k (-1) _ (fun q hq => ?_) _ hR))
        unfold wpY_map
        dsimp only
        exact pg_yPidB hb (br_f (by decide) hq)
      · have yt : ∀ q : Int32 → SY → Prop, (lv p = 0 → q (-2) (nI (FR + SL - 1), lv, K, R, C, lb, wd)) → (lv p ≠ 0 → ∃ n45, wY_map_45 q (nI p) (nI f) (nI c) rt (nI (FR + SL - 1)) lv K R C lb wd n45 0) → wpY_map q (nI (FR + SL - 1), lv, K, R, C, lb, wd) (nI p) (nI f) (nI c) rt := by
          intro q h2 h3
          unfold wpY_map
          dsimp only
          refine pg_yPid hp (br_t rfl (pg_yPg hc1 hc2 (br_t rfl (br_f hr1 (br_t hr2 ⟨vp_in_nI hp (by omega), ?_⟩)))))
          rw [nI_clamp (n := p) (by omega)]
          exact br_c h2 h3
        refine pg_xPid hp (fun z => br_f (by decide) (k (-2) _ (fun q hq => yt q (fun _ => hq) (fun z' => absurd z z')) _ hR)) (fun z => br_t rfl ?_)
        refine nm_r (pg_m16 p f) ?_
        refine pg_cml hX (by omega) ?_
        have hcn := pg_cn_le (fun j => decide (K (16 * p + f + j) ≠ 0)) c
        refine pk_le _ 0 (fun hz => ?_) (fun hz => ?_)
        · have hall : ∀ j, j < c → K (16 * p + f + j) = 0 := by
            intro j hj
            have := pg_cn_none (p := fun j => decide (K (16 * p + f + j) ≠ 0)) (n := c) (by omega) hj
            simpa using this
          refine ⟨c + 1, ?_⟩
          refine pg_mpl (lim := nI (FR + SL - 1)) (lv := lv) (C := C) (lb := lb) (wd := wd) z hp hc2 c 0 K R (by omega) (fun j _ hj => hall j hj) hR ?_
          intro K' R' hy u' h1
          refine k 0 _ (fun q hq => yt q (fun z' => absurd z' z) (fun _ => ⟨c + 1, ?_⟩)) u' h1
          exact pg_yM45 hp hc2 (fun _ => ⟨c + 1, hy q hq⟩) (fun ⟨j, hj, w⟩ => absurd (hall j hj) w) c 0 (by omega) (fun j hj => absurd hj (by omega))
        · obtain ⟨j, hj, w⟩ := pg_cn_ex hz
          refine k (-6) _ (fun q hq => yt q (fun z' => absurd z' z) (fun _ => ⟨c + 1, ?_⟩)) _ hR
          exact pg_yM45 hp hc2 (fun hall => absurd (hall j hj) (by simpa using w)) (fun _ => hq) c 0 (by omega) (fun j hj => absurd hj (by omega))
theorem pg_vprotect {post : Int32 → SX → Prop} {x y n rt : Int32} (h : pg_Rel u v) (k : ∀ r v', (∀ q : Int32 → SY → Prop, q r v' → wpY_protect q v x y n rt) → ∀ u', pg_Rel u' v' → post r u') : wpX_protect post u x y n rt := by
  revert k
  refine pg_Re (Z := fun u v => (∀ r v', (∀ q : Int32 → SY → Prop, q r v' → wpY_protect q v x y n rt) → ∀ u', pg_Rel u' v' → post r u') → wpX_protect post u x y n rt) h ?_
  intro FR SL NC D P Q W U O KP lv K R C lb wd G Y
  refine pg_RXa ?_
  intro f1 f2 NF NH TS TH dr fl fe pk pr pp pc rf he sz nx pv tm tp tf tw hH T C0 t1 t8 hT L k
  have hX : pg_RX FR SL D lv K R C P Q W U O KP NC (f1, f2, nI FR, nI SL, nI (FR + SL - 1), nI NF, nI NC, nI NH, nI TS, nI TH, lv, dr, fl, fe, pk, pr, pp, pc, W, U, rf, O, KP, he, sz, nx, pv, tm, tp, tf, tw) := pg_RXi hH T C0 t1 t8 hT L
  have hR : pg_Rel (f1, f2, nI FR, nI SL, nI (FR + SL - 1), nI NF, nI NC, nI NH, nI TS, nI TH, lv, dr, fl, fe, pk, pr, pp, pc, W, U, rf, O, KP, he, sz, nx, pv, tm, tp, tf, tw) (nI (FR + SL - 1), lv, K, R, C, lb, wd) := pg_Ri G Y hX
  unfold wpX_protect
  dsimp only
  rcases pg_pages y n with hw | ⟨f, c, rfl, rfl, hc1, hc2⟩
  · refine pg_xPgB hw (br_t rfl (k (-1) _ (fun q hq => ?_) _ hR))
    unfold wpY_protect
    dsimp only
    rcases pg_pid x with hb | ⟨p, hp, rfl⟩
    · exact pg_yPidB hb (br_f (by decide) hq)
    · exact pg_yPid hp (br_t rfl (pg_yPgB hw (br_f (by decide) hq)))
  · refine pg_xPg hc1 hc2 (br_f (by decide) ?_)
    refine pg_xGr (fun hr => br_t rfl (k (-1) _ (fun q hq => ?_) _ hR)) (fun hr1 hr2 => br_f (by decide) ?_)
    · unfold wpY_protect
      dsimp only
      rcases pg_pid x with hb | ⟨p, hp, rfl⟩
      · exact pg_yPidB hb (br_f (by decide) hq)
      · refine pg_yPid hp (br_t rfl (pg_yPg hc1 hc2 (br_t rfl (br_c (fun _ => hq) (fun w => br_f ?_ hq)))))
        rcases hr with hr | hr
        · exact absurd hr w
        · exact hr
    · rcases pg_pid x with hb | ⟨p, hp, rfl⟩
      · refine pg_xPidB hb (br_f (by decide) (k (-1) _ (fun q hq => ?_) _ hR))
        unfold wpY_protect
        dsimp only
        exact pg_yPidB hb (br_f (by decide) hq)
      · have yt : ∀ q : Int32 → SY → Prop, (lv p = 0 → q (-2) (nI (FR + SL - 1), lv, K, R, C, lb, wd)) → (lv p ≠ 0 → ∃ n45, wY_protect_45 q (nI p) (nI f) (nI c) rt (nI (FR + SL - 1)) lv K R C lb wd n45 0) → wpY_protect q (nI (FR + SL - 1), lv, K, R, C, lb, wd) (nI p) (nI f) (nI c) rt := by
          intro q h2 h3
          unfold wpY_protect
          dsimp only
          refine pg_yPid hp (br_t rfl (pg_yPg hc1 hc2 (br_t rfl (br_f hr1 (br_t hr2 ⟨vp_in_nI hp (by omega), ?_⟩)))))
          rw [nI_clamp (n := p) (by omega)]
          exact br_c h2 h3
        refine pg_xPid hp (fun z => br_f (by decide) (k (-2) _ (fun q hq => yt q (fun _ => hq) (fun z' => absurd z z')) _ hR)) (fun z => br_t rfl ?_)
        refine nm_r (pg_m16 p f) ?_
        refine pg_cml hX (by omega) ?_
        have hcn := pg_cn_le (fun j => decide (K (16 * p + f + j) ≠ 0)) c
        refine pk_le c _ (fun hz => ?_) (fun hz => ?_)
        · have hall : ∀ j, j < c → K (16 * p + f + j) ≠ 0 := by
            intro j hj w
            have := pg_cn_lt (p := fun j => decide (K (16 * p + f + j) ≠ 0)) (n := c) hj (by rw [w]; rfl)
            omega
          refine ⟨c + 1, ?_⟩
          refine pg_prl (lim := nI (FR + SL - 1)) (lv := lv) (C := C) (lb := lb) (wd := wd) hp hc2 hall c 0 R (by omega) hR ?_
          intro R' hy u' h1
          refine k 0 _ (fun q hq => yt q (fun z' => absurd z' z) (fun _ => ⟨c + 1, ?_⟩)) u' h1
          exact pg_yP45 hp hc2 (fun _ => ⟨c + 1, hy q hq⟩) (fun ⟨j, hj, w⟩ => absurd w (hall j hj)) c 0 (by omega) (fun j hj => absurd hj (by omega))
        · refine k (-3) _ (fun q hq => yt q (fun z' => absurd z' z) (fun _ => ⟨c + 1, ?_⟩)) _ hR
          refine pg_yP45 hp hc2 (fun hall => ?_) (fun _ => hq) c 0 (by omega) (fun j hj => absurd hj (by omega))
          exfalso
          have := pg_cn_blk (p := fun j => decide (K (16 * p + f + j) ≠ 0)) (a := 0) (k := c) (fun i _ hi => decide_eq_true (hall i (by omega)))
          rw [Nat.zero_add] at this
          have z0 : pg_cn (fun j => decide (K (16 * p + f + j) ≠ 0)) 0 = 0 := rfl
          omega
end
end
section
section
variable {u : SX} {v : SY}
theorem pg_vmapShared {post : Int32 → SX → Prop} {x y ky rt : Int32} (h : pg_Rel u v) (k : ∀ r v', (∀ q : Int32 → SY → Prop, q r v' → wpY_mapShared q v x y ky rt) → ∀ u', pg_Rel u' v' → post r u') : wpX_mapShared post u x y ky rt := by
  revert k
  refine pg_Re (Z := fun u v => (∀ r v', (∀ q : Int32 → SY → Prop, q r v' → wpY_mapShared q v x y ky rt) → ∀ u', pg_Rel u' v' → post r u') → wpX_mapShared post u x y ky rt) h ?_
  intro FR SL NC D P Q W U O KP lv K R C lb wd G Y
  refine pg_RXa ?_
  intro f1 f2 NF NH TS TH dr fl fe pk pr pp pc rf he sz nx pv tm tp tf tw hH T C0 t1 t8 hT L k
  have hX : pg_RX FR SL D lv K R C P Q W U O KP NC (f1, f2, nI FR, nI SL, nI (FR + SL - 1), nI NF, nI NC, nI NH, nI TS, nI TH, lv, dr, fl, fe, pk, pr, pp, pc, W, U, rf, O, KP, he, sz, nx, pv, tm, tp, tf, tw) := pg_RXi hH T C0 t1 t8 hT L
  have hR : pg_Rel (f1, f2, nI FR, nI SL, nI (FR + SL - 1), nI NF, nI NC, nI NH, nI TS, nI TH, lv, dr, fl, fe, pk, pr, pp, pc, W, U, rf, O, KP, he, sz, nx, pv, tm, tp, tf, tw) (nI (FR + SL - 1), lv, K, R, C, lb, wd) := pg_Ri G Y hX
  have hb15 : ∀ z : Int32, nI 16 ≤ z → (15 : Int32) < z := fun z hz => Int32.lt_of_lt_of_le (show (15 : Int32) < nI 16 by decide) hz
  have hb7 : ∀ z : Int32, nI 8 ≤ z → (7 : Int32) < z := fun z hz => Int32.lt_of_lt_of_le (show (7 : Int32) < nI 8 by decide) hz
  -- all ways to a bad call, at the reference
  have ybad : ((x < 0 ∨ nI 4 ≤ x) ∨ (y < 0 ∨ nI 16 ≤ y) ∨ (ky < 0 ∨ nI 8 ≤ ky) ∨ (rt < 0 ∨ ¬ rt ≤ 2)) → post (-1) (f1, f2, nI FR, nI SL, nI (FR + SL - 1), nI NF, nI NC, nI NH, nI TS, nI TH, lv, dr, fl, fe, pk, pr, pp, pc, W, U, rf, O, KP, he, sz, nx, pv, tm, tp, tf, tw) := by
    intro hb
    refine k (-1) _ (fun q hq => ?_) _ hR
    unfold wpY_mapShared
    dsimp only
    rcases pg_pid x with hb1 | ⟨p, hp, rfl⟩
    · exact pg_yPidB hb1 (br_f (by decide) hq)
    · refine pg_yPid hp (br_t rfl (br_c (fun _ => hq) (fun z1 => br_c (fun _ => hq) (fun z2 => br_c (fun _ => hq) (fun z3 => br_c (fun _ => hq) (fun z4 => br_c (fun _ => hq) (fun z5 => br_f ?_ hq)))))))
      rcases hb with (hb | hb) | (hb | hb) | (hb | hb) | (hb | hb)
      · exact absurd hb (nI_pos (by omega))
      · exact absurd hb (nI_ge hp (by omega))
      · exact absurd hb z1
      · exact absurd (hb15 _ hb) z2
      · exact absurd hb z3
      · exact absurd (hb7 _ hb) z4
      · exact absurd hb z5
      · exact hb
  unfold wpX_mapShared
  dsimp only
  rcases pk_ix y (n := 16) (by omega) with z | z | ⟨j, hj, rfl⟩
  · exact pg_xGpB (Or.inl z) (br_t rfl (ybad (Or.inr (Or.inl (Or.inl z)))))
  · exact pg_xGpB (Or.inr z) (br_t rfl (ybad (Or.inr (Or.inl (Or.inr z)))))
  · refine pg_xGp hj (br_f (by decide) ?_)
    rcases pk_ix ky (n := 8) (by omega) with z | z | ⟨key, hkey, rfl⟩
    · exact br_t z (ybad (Or.inr (Or.inr (Or.inl (Or.inl z)))))
    · exact br_c (fun w => ybad (Or.inr (Or.inr (Or.inl (Or.inl w))))) (fun _ => br_t z (ybad (Or.inr (Or.inr (Or.inl (Or.inr z))))))
    · refine br_f (nI_pos (by omega)) (br_f (nI_ge (b := 8) hkey (by decide)) ?_)
      refine pg_xGr (fun hr => br_t rfl (ybad (Or.inr (Or.inr (Or.inr hr))))) (fun hr1 hr2 => br_f (by decide) ?_)
      rcases pg_pid x with hb | ⟨p, hp, rfl⟩
      · exact pg_xPidB hb (br_f (by decide) (ybad (Or.inl hb)))
      · have hm : 16 * p + j < 64 := by omega
        have yt : ∀ q : Int32 → SY → Prop, (lv p = 0 → q (-2) (nI (FR + SL - 1), lv, K, R, C, lb, wd)) → (lv p ≠ 0 → K (16 * p + j) ≠ 0 → q (-6) (nI (FR + SL - 1), lv, K, R, C, lb, wd)) → (lv p ≠ 0 → K (16 * p + j) = 0 → wY_mapShared_83 q (nI key) rt (nI (16 * p + j)) 65 0 (nI (FR + SL - 1)) lv K R C lb wd) → wpY_mapShared q (nI (FR + SL - 1), lv, K, R, C, lb, wd) (nI p) (nI j) (nI key) rt := by
          intro q h2 h6 h3
          unfold wpY_mapShared
          dsimp only
          refine pg_yPid hp (br_t rfl (br_f (nI_pos (by omega)) (br_f ?_ (br_f (nI_pos (by omega)) (br_f ?_ (br_f hr1 (br_t hr2 ⟨vp_in_nI hp (by omega), ?_⟩)))))))
          · rw [show (15 : Int32) = nI 15 from rfl, nI_ltI (by omega) (by omega)]; omega
          · rw [show (7 : Int32) = nI 7 from rfl, nI_ltI (by omega) (by omega)]; omega
          · rw [nI_clamp (n := p) (by omega)]
            refine br_c h2 (fun z => nm_r (pg_m16 p j) ⟨vp_in_nI hm (by omega), ?_⟩)
            rw [nI_clamp (n := 16 * p + j) (by omega)]
            refine br_c (fun w => pg_yMU hm ?_) (fun w => h6 z w)
            obtain ⟨i1, i2, i3, i4, i5⟩ := pg_uid G Y hm w
            rw [i1, i2, i3, i4, i5]
            exact ⟨65, h3 z w⟩
        refine pg_xPid hp (fun z => br_f (by decide) (k (-2) _ (fun q hq => yt q (fun _ => hq) (fun z' => absurd z z') (fun z' => absurd z z')) _ hR)) (fun z => br_t rfl ?_)
        refine nm_r (pg_m16 p j) ?_
        refine pg_walk hX hm (fun h0 => br_t (by decide) ?_) (fun h0 => ?_)
        · obtain ⟨p0, q0, r0, c0⟩ := pg_GDq0 G hm h0
          have e2 : (2 : Int32) + nI key = nI (key + 2) := by rw [show (2 : Int32) = nI 2 from rfl, nI_add, Nat.add_comm]
          rw [e2]
          have hkd : nI (key + 2) ≠ 0 := nI_ne0 (by omega) (by omega)
          refine pg_enter hX hm h0 hkd ?_
          intro D' hD'
          rw [pg_uself c0]
          refine pg_sx ?_
          intro f1' f2' fr' sl' lm' fc' cc' hd' ts' th' lv' dr' fl' fe' pk' pr' pp' pc' W' U' rf' O' KP' he' sz' nx' pv' tm' tp' tf' tw' h1
          have eKP := pg_RXk h1
          dsimp only
          refine ⟨vp_in_nI hkey (by omega), ?_⟩
          rw [nI_clamp (n := key) (by omega), show KP' key = KP key from congrFun eKP key]
          have hKP := G.2.2.1 key hkey
          have hKm : upd K (16 * p + j) (nI (key + 2)) (16 * p + j) ≠ 0 := by rw [pg_us]; exact hkd
          refine pg_join h1 G.2.2.2.2.2.2.2.1 hm hKm pg_us q0 ?_ ?_
          · rw [pg_us]
            refine pg_GDch G (k := key + 2) (by omega) (by omega) rfl ?_
            rcases hKP with w | ⟨q', hq', w, _⟩
            · exact Or.inl w
            · exact Or.inr ⟨q', hq', w⟩
          · rw [pg_us, pg_uu]
            refine pg_sx ?_
            intro f1' f2' fr' sl' lm' fc' cc' hd' ts' th' lv' dr' fl' fe' pk' pr' pp' pc' W' U' rf' O' KP' he' sz' nx' pv' tm' tp' tf' tw' h2
            have G1 := pg_GDin G hm p0 (show lv ((16 * p + j) / 16) ≠ 0 by rw [show (16 * p + j) / 16 = p by omega]; exact z) (kd := nI (key + 2)) (rt := rt) (ch := 0) (pl := KP key) ⟨key + 2, by omega, by omega, rfl⟩ (Or.inl rfl) (by
              rcases hKP with w | ⟨q', hq', w, w2, _⟩
              · exact Or.inl w
              · exact Or.inr ⟨q', hq', w, w2, fun w3 => absurd (show nI (key + 2) = nI 1 from w3) (by rw [nI_eq (by omega) (by omega)]; omega)⟩) (by
              intro k' hk' w
              rw [nI_eq (by omega) (by omega)] at w
              rw [show k' = key by omega])
            rw [pg_uself c0] at G1
            have hKm2 : K (16 * p + j) ≠ nI (key + 2) := by rw [h0]; exact fun w => hkd w.symm
            -- the mappings of the key
            have hP : ∀ x, x < 64 → K x = nI (key + 2) → P x = KP key := fun x hx w => (G.1 x hx).2.2.2.2.2 key hkey w
            rcases hKP with w | ⟨q', hq', w, w2, w3⟩
            · rw [w, pg_uself p0] at h2 G1
              refine k 0 (nI (FR + SL - 1), lv, upd K (16 * p + j) (nI (key + 2)), upd R (16 * p + j) rt, C, lb, wd) (fun q hq => yt q (fun z' => absurd z' z) (fun _ z' => absurd h0 z') (fun _ _ => ?_)) _ (pg_Ri G1 Y h2)
              refine pg_yMS hm hkey hKm2 lb wd (fun _ => ⟨rfl, rfl⟩) ?_ hq 64 0 lb wd (by omega) (Or.inl ⟨rfl, rfl, fun x hx => absurd hx (by omega)⟩)
              intro x hx hKx hlx
              exact absurd ((Y.1.1 x hx).2 (by rw [hP x hx hKx, w])) hlx
            · obtain ⟨x0, hx0, hx0P⟩ := (G.2.1 q' hq' w2).2.1
              have hx0K : K x0 = nI (key + 2) := by
                have a0 : K x0 ≠ 0 := by
                  intro a
                  rw [(pg_GDq0 G hx0 a).1] at hx0P
                  exact pg_mn (by omega) hx0P
                have a1 : K x0 ≠ 1 := by
                  intro a
                  have := pg_GDo G hx0 hq' hx0P a
                  rw [w3] at this; exact pg_nm (by omega) this
                obtain ⟨k2, hk2, a2, a3⟩ := pg_GDs G hx0 a0 a1
                have := (pg_GDkq G hk2 hq' (by rw [← a3, hx0P])).2
                rw [w3, nI_eq (by omega) (by omega)] at this
                rw [a2, this]
              have hne : x0 ≠ 16 * p + j := fun a => hKm2 (a ▸ hx0K)
              have Y1 := pg_YLin Y hm hx0 hne (hx0P.trans w.symm)
              have hx0l : lb x0 ≠ 0 := by rw [Ne, Y.1.1 x0 hx0, hx0P]; exact pg_nm (by omega)
              refine k 0 (nI (FR + SL - 1), lv, upd K (16 * p + j) (nI (key + 2)), upd R (16 * p + j) rt, C, upd lb (16 * p + j) (lb x0), pg_w4 wd (16 * p + j) (fun i => wd (4 * x0 + i))) (fun q hq => yt q (fun z' => absurd z' z) (fun _ z' => absurd h0 z') (fun _ _ => ?_)) _ (pg_Ri G1 Y1 h2)
              refine pg_yMS hm hkey hKm2 (upd lb (16 * p + j) (lb x0)) (pg_w4 wd (16 * p + j) (fun i => wd (4 * x0 + i))) (fun a => absurd (a x0 hx0 hx0K) hx0l) ?_ hq 64 0 lb wd (by omega) (Or.inl ⟨rfl, rfl, fun x hx => absurd hx (by omega)⟩)
              intro x hx hKx hlx
              have hPx : P x = nI q' := by rw [hP x hx hKx, w]
              refine ⟨by rw [(Y.1.2 x x0 hx hx0).2 (by rw [hPx, hx0P])], ?_⟩
              funext t
              unfold pg_w4
              split
              · dsimp only
                rw [(Y.2 x hx).2 q' hq' hPx _ (by omega), (Y.2 x0 hx0).2 q' hq' hx0P _ (by omega)]
              · rfl
        · have hpt := (pg_RXm hX hm h0).1
          refine br_f (nI_pos (by omega)) (k (-6) _ (fun q hq => yt q (fun z' => absurd z' z) (fun _ _ => hq) (fun _ z' => absurd z' h0)) _ hR)
theorem pg_vmove {post : Int32 → SX → Prop} {x y y2 : Int32} (h : pg_Rel u v) (k : ∀ r v', (∀ q : Int32 → SY → Prop, q r v' → wpY_move q v x y y2) → ∀ u', pg_Rel u' v' → post r u') : wpX_move post u x y y2 := by
  revert k
  refine pg_Re (Z := fun u v => (∀ r v', (∀ q : Int32 → SY → Prop, q r v' → wpY_move q v x y y2) → ∀ u', pg_Rel u' v' → post r u') → wpX_move post u x y y2) h ?_
  intro FR SL NC D P Q W U O KP lv K R C lb wd G Y
  refine pg_RXa ?_
  intro f1 f2 NF NH TS TH dr fl fe pk pr pp pc rf he sz nx pv tm tp tf tw hH T C0 t1 t8 hT L k
  have hX : pg_RX FR SL D lv K R C P Q W U O KP NC (f1, f2, nI FR, nI SL, nI (FR + SL - 1), nI NF, nI NC, nI NH, nI TS, nI TH, lv, dr, fl, fe, pk, pr, pp, pc, W, U, rf, O, KP, he, sz, nx, pv, tm, tp, tf, tw) := pg_RXi hH T C0 t1 t8 hT L
  have hR : pg_Rel (f1, f2, nI FR, nI SL, nI (FR + SL - 1), nI NF, nI NC, nI NH, nI TS, nI TH, lv, dr, fl, fe, pk, pr, pp, pc, W, U, rf, O, KP, he, sz, nx, pv, tm, tp, tf, tw) (nI (FR + SL - 1), lv, K, R, C, lb, wd) := pg_Ri G Y hX
  have hb15 : ∀ z : Int32, nI 16 ≤ z → (15 : Int32) < z := fun z hz => Int32.lt_of_lt_of_le (show (15 : Int32) < nI 16 by decide) hz
  have ybad : ((x < 0 ∨ nI 4 ≤ x) ∨ (y < 0 ∨ nI 16 ≤ y) ∨ (y2 < 0 ∨ nI 16 ≤ y2)) → post (-1) (f1, f2, nI FR, nI SL, nI (FR + SL - 1), nI NF, nI NC, nI NH, nI TS, nI TH, lv, dr, fl, fe, pk, pr, pp, pc, W, U, rf, O, KP, he, sz, nx, pv, tm, tp, tf, tw) := by
    intro hb
    refine k (-1) _ (fun q hq => ?_) _ hR
    unfold wpY_move
    dsimp only
    rcases pg_pid x with hb1 | ⟨p, hp, rfl⟩
    · exact pg_yPidB hb1 (br_f (by decide) hq)
    · refine pg_yPid hp (br_t rfl (br_c (fun _ => hq) (fun z1 => br_c (fun _ => hq) (fun z2 => br_c (fun _ => hq) (fun z3 => br_f ?_ hq)))))
      rcases hb with (hb | hb) | (hb | hb) | (hb | hb)
      · exact absurd hb (nI_pos (by omega))
      · exact absurd hb (nI_ge hp (by omega))
      · exact absurd hb z1
      · exact absurd (hb15 _ hb) z2
      · exact absurd hb z3
      · exact Int32.not_le.mpr (hb15 _ hb)
  unfold wpX_move
  dsimp only
  rcases pk_ix y (n := 16) (by omega) with z | z | ⟨i, hi, rfl⟩
  · exact pg_xGpB (Or.inl z) (br_t rfl (ybad (Or.inr (Or.inl (Or.inl z)))))
  · exact pg_xGpB (Or.inr z) (br_t rfl (ybad (Or.inr (Or.inl (Or.inr z)))))
  · refine pg_xGp hi (br_f (by decide) ?_)
    rcases pk_ix y2 (n := 16) (by omega) with z | z | ⟨j, hj, rfl⟩
    · exact pg_xGpB (Or.inl z) (br_t rfl (ybad (Or.inr (Or.inr (Or.inl z)))))
    · exact pg_xGpB (Or.inr z) (br_t rfl (ybad (Or.inr (Or.inr (Or.inr z)))))
    · refine pg_xGp hj (br_f (by decide) ?_)
      rcases pg_pid x with hb | ⟨p, hp, rfl⟩
      · exact pg_xPidB hb (br_f (by decide) (ybad (Or.inl hb)))
      · have hs : 16 * p + i < 64 := by omega
        have hm : 16 * p + j < 64 := by omega
        have hsv : vp_in (nI (16 * p + i)) 64 := vp_in_nI hs (by omega)
        have hmv : vp_in (nI (16 * p + j)) 64 := vp_in_nI hm (by omega)
        have yt : ∀ q : Int32 → SY → Prop, (lv p = 0 → q (-2) (nI (FR + SL - 1), lv, K, R, C, lb, wd)) → (lv p ≠ 0 → K (16 * p + i) = 0 → q (-3) (nI (FR + SL - 1), lv, K, R, C, lb, wd)) → (lv p ≠ 0 → K (16 * p + i) ≠ 0 → K (16 * p + j) ≠ 0 → q (-6) (nI (FR + SL - 1), lv, K, R, C, lb, wd)) →
            (lv p ≠ 0 → K (16 * p + i) ≠ 0 → K (16 * p + j) = 0 → q 0 (nI (FR + SL - 1), lv, upd (upd K (16 * p + j) (K (16 * p + i))) (16 * p + i) 0, upd (upd R (16 * p + j) (R (16 * p + i))) (16 * p + i) 0, upd (upd C (16 * p + j) (C (16 * p + i))) (16 * p + i) 0, upd (upd lb (16 * p + j) (lb (16 * p + i))) (16 * p + i) 0, pg_w4 (pg_w4 wd (16 * p + j) (fun t => wd (4 * (16 * p + i) + t))) (16 * p + i) (fun _ => 0))) → wpY_move q (nI (FR + SL - 1), lv, K, R, C, lb, wd) (nI p) (nI i) (nI j) := by
          intro q h2 h3 h6 h0
          unfold wpY_move
          dsimp only
          refine pg_yPid hp (br_t rfl (br_f (nI_pos (by omega)) (br_f ?_ (br_f (nI_pos (by omega)) (br_t (nI_le (b := 15) (by omega) (by decide)) ⟨vp_in_nI hp (by omega), ?_⟩)))))
          · rw [show (15 : Int32) = nI 15 from rfl, nI_ltI (by omega) (by omega)]; omega
          · rw [nI_clamp (n := p) (by omega)]
            refine br_c h2 (fun z => nm_r (pg_m16 p i) (nm_r (pg_m16 p j) ⟨hsv, ?_⟩))
            rw [nI_clamp (n := 16 * p + i) (by omega), nI_clamp (n := 16 * p + j) (by omega)]
            refine br_c (fun w => h3 z w) (fun w => ⟨hmv, br_c (fun w2 => ⟨hsv, hmv, nm_e ⟨hsv, hmv, nm_e ⟨hsv, hmv, nm_e ?_⟩⟩⟩) (fun w2 => h6 z w w2)⟩)
            refine pg_yJG hs hm (fun a => w (by rw [a]; exact w2)) ?_
            exact pg_yMU hs (h0 z w w2)
        refine pg_xPid hp (fun z => br_f (by decide) (k (-2) _ (fun q hq => yt q (fun _ => hq) (fun z' => absurd z z') (fun z' => absurd z z') (fun z' => absurd z z')) _ hR)) (fun z => br_t rfl ?_)
        refine nm_r (pg_m16 p i) (nm_r (pg_m16 p j) ?_)
        refine pg_walk hX hs (fun hK => br_f (by decide) (k (-3) _ (fun q hq => yt q (fun z' => absurd z' z) (fun _ _ => hq) (fun _ z' => absurd hK z') (fun _ z' => absurd hK z')) _ hR)) (fun hK => ?_)
        obtain ⟨hpt, ek, er, epp, epc⟩ := pg_RXm hX hs hK
        have hpv : vp_in (nI (pg_pt D (16 * p + i))) 64 := vp_in_nI hpt (by omega)
        refine br_t (nI_pos' (by omega)) ?_
        refine pg_walk hX hm (fun h0 => br_t (by decide) ⟨hpv, hpv, ?_⟩) (fun h0 => ?_)
        · obtain ⟨p0, q0, r0, c0⟩ := pg_GDq0 G hm h0
          have hne : 16 * p + i ≠ 16 * p + j := fun a => hK (by rw [a]; exact h0)
          rw [nI_clamp (n := pg_pt D (16 * p + i)) (by omega), ek, er]
          refine pg_enter hX hm h0 hK ?_
          intro D' hD'
          refine pg_sx ?_
          intro f1' f2' fr' sl' lm' fc' cc' hd' ts' th' lv' dr' fl' fe' pk' pr' pp' pc' W' U' rf' O' KP' he' sz' nx' pv' tm' tp' tf' tw' h1
          have hK1 : upd K (16 * p + j) (K (16 * p + i)) (16 * p + i) ≠ 0 := by rw [pg_un hne]; exact hK
          have hKm : upd K (16 * p + j) (K (16 * p + i)) (16 * p + j) ≠ 0 := by rw [pg_us]; exact hK
          obtain ⟨hpt1, _, _, epp1, epc1⟩ := pg_RXm h1 hs hK1
          rw [hD' _ hs hK] at hpt1 epp1 epc1
          rw [pg_un hne] at epp1 epc1
          have hptm := (pg_RXm h1 hm hKm).1
          have ec : vp_nar .boolean (C (16 * p + i)) = C (16 * p + i) := by
            rcases (G.1 _ hs).2.1 with w | w
            · rw [w]; exact pg_b0
            · rw [w]; exact pg_b1
          dsimp only
          refine ⟨hpv, vp_in_nI hptm (by omega), nm_e ⟨hpv, ?_⟩⟩
          rw [nI_clamp (n := pg_pt D' (16 * p + j)) (by omega), epp1, epc1, ec]
          have h2 := pg_setC h1 hm hKm (C (16 * p + i))
          rw [pg_uu] at h2
          obtain ⟨⟨kk, hkk, ekk⟩, hCs, _, _, hPs, hSs⟩ := G.1 _ hs
          have hkk1 : 1 ≤ kk := by
            rcases Nat.eq_zero_or_pos kk with w | w
            · exact absurd (by rw [ekk, w]; rfl) hK
            · exact w
          refine pg_join h2 G.2.2.2.2.2.2.2.1 hm hKm pg_us q0 ?_ ?_
          · rw [pg_us]
            refine pg_GDch G hkk1 hkk ekk ?_
            rcases hPs with w | ⟨q', hq', w, _⟩
            · exact Or.inl w
            · exact Or.inr ⟨q', hq', w⟩
          · rw [pg_us, pg_uu]
            refine pg_sx ?_
            intro f1' f2' fr' sl' lm' fc' cc' hd' ts' th' lv' dr' fl' fe' pk' pr' pp' pc' W' U' rf' O' KP' he' sz' nx' pv' tm' tp' tf' tw' h3
            have G1 := pg_GDin G hm p0 (show lv ((16 * p + j) / 16) ≠ 0 by rw [show (16 * p + j) / 16 = p by omega]; exact z) (kd := K (16 * p + i)) (rt := R (16 * p + i)) (ch := C (16 * p + i)) (pl := P (16 * p + i)) ⟨kk, hkk1, hkk, ekk⟩ hCs hPs hSs
            have Y1 := pg_YLin Y hm hs hne rfl
            obtain ⟨dc, dR⟩ := pg_GDdet G1 hs
            rw [← hD' _ hs hK]
            refine pg_remove h3 hs hK1 (G1.1 _ hs).2.2.2.1 dc dR G.2.2.2.2.2.2.2.1 ?_
            intro P' Q' U' O' KP' NC' haf
            refine pg_sx ?_
            intro f1'' f2'' fr'' sl'' lm'' fc'' cc'' hd'' ts'' th'' lv'' dr'' fl'' fe'' pk'' pr'' pp'' pc'' W'' U'' rf'' O'' KP'' he'' sz'' nx'' pv'' tm'' tp'' tf'' tw'' h4
            have G2 := pg_GDaf G1 hs (Or.inl ⟨rfl, rfl, rfl⟩) haf
            have Y2 : pg_YL (upd (upd lb (16 * p + j) (lb (16 * p + i))) (16 * p + i) 0) (pg_w4 (pg_w4 wd (16 * p + j) (fun t => wd (4 * (16 * p + i) + t))) (16 * p + i) (fun _ => 0)) P' W := by
              rw [haf.1]
              rcases pg_YLout Y1 (m := 16 * p + i) with y | y
              · exact y
              · exact absurd hs y
            exact k 0 _ (fun q hq => yt q (fun z' => absurd z' z) (fun _ z' => absurd z' hK) (fun _ _ z' => absurd h0 z') (fun _ _ _ => hq)) _ (pg_Ri G2 Y2 h4)
        · have hpt2 := (pg_RXm hX hm h0).1
          exact br_f (nI_pos (by omega)) (k (-6) _ (fun q hq => yt q (fun z' => absurd z' z) (fun _ z' => absurd z' hK) (fun _ _ _ => hq) (fun _ _ z' => absurd z' h0)) _ hR)
end
end
section
/-- a word as a natural, and the four words of a place as one -/
def pg_cv (W : Nat → Int32) (p : Nat) : Nat := (((W (4 * p)).toNatClampNeg * 65536 + (W (4 * p + 1)).toNatClampNeg) * 65536 + (W (4 * p + 2)).toNatClampNeg) * 65536 + (W (4 * p + 3)).toNatClampNeg
theorem pg_cvr {W : Nat → Int32} (hW : ∀ i, i < 72 → ∃ w, w < 65536 ∧ W i = nI w) {i : Nat} (hi : i < 72) : (W i).toNatClampNeg < 65536 ∧ W i = nI (W i).toNatClampNeg := by
  obtain ⟨w, hw, e⟩ := hW i hi
  rw [e, nI_clamp (by omega)]
  exact ⟨hw, rfl⟩
theorem pg_cv_lt {W : Nat → Int32} (hW : ∀ i, i < 72 → ∃ w, w < 65536 ∧ W i = nI w) {p : Nat} (hp : p < 18) : pg_cv W p < 2 ^ 64 := by
  have a0 := (pg_cvr hW (i := 4 * p) (by omega)).1
  have a1 := (pg_cvr hW (i := 4 * p + 1) (by omega)).1
  have a2 := (pg_cvr hW (i := 4 * p + 2) (by omega)).1
  have a3 := (pg_cvr hW (i := 4 * p + 3) (by omega)).1
  unfold pg_cv
  omega
theorem pg_cv_eq {W : Nat → Int32} (hW : ∀ i, i < 72 → ∃ w, w < 65536 ∧ W i = nI w) {p r : Nat} (hp : p < 18) (hr : r < 18) (e : pg_cv W p = pg_cv W r) : ∀ j, j < 4 → W (4 * p + j) = W (4 * r + j) := by
  have a0 := pg_cvr hW (i := 4 * p) (by omega)
  have a1 := pg_cvr hW (i := 4 * p + 1) (by omega)
  have a2 := pg_cvr hW (i := 4 * p + 2) (by omega)
  have a3 := pg_cvr hW (i := 4 * p + 3) (by omega)
  have b0 := pg_cvr hW (i := 4 * r) (by omega)
  have b1 := pg_cvr hW (i := 4 * r + 1) (by omega)
  have b2 := pg_cvr hW (i := 4 * r + 2) (by omega)
  have b3 := pg_cvr hW (i := 4 * r + 3) (by omega)
  unfold pg_cv at e
  have e3 : (W (4 * p + 3)).toNatClampNeg = (W (4 * r + 3)).toNatClampNeg := by omega
  have e2 : (W (4 * p + 2)).toNatClampNeg = (W (4 * r + 2)).toNatClampNeg := by omega
  have e1 : (W (4 * p + 1)).toNatClampNeg = (W (4 * r + 1)).toNatClampNeg := by omega
  have e0 : (W (4 * p)).toNatClampNeg = (W (4 * r)).toNatClampNeg := by omega
  intro j hj
  have : j = 0 ∨ j = 1 ∨ j = 2 ∨ j = 3 := by omega
  rcases this with rfl | rfl | rfl | rfl
  · show W (4 * p) = W (4 * r)
    rw [a0.2, b0.2, e0]
  · rw [a1.2, b1.2, e1]
  · rw [a2.2, b2.2, e2]
  · rw [a3.2, b3.2, e3]
theorem pg_cv_c {W : Nat → Int32} {p r : Nat} (h : ∀ j, j < 4 → W (4 * p + j) = W (4 * r + j)) : pg_cv W p = pg_cv W r := by
  unfold pg_cv
  have h0 := h 0 (by omega)
  rw [Nat.add_zero, Nat.add_zero] at h0
  rw [h0, h 1 (by omega), h 2 (by omega), h 3 (by omega)]
theorem pg_cv_0 {W : Nat → Int32} {p : Nat} (h : ∀ j, j < 4 → W (4 * p + j) = 0) : pg_cv W p = 0 := by
  unfold pg_cv
  have h0 := h 0 (by omega)
  rw [Nat.add_zero] at h0
  rw [h0, h 1 (by omega), h 2 (by omega), h 3 (by omega)]
  rfl
theorem pg_cv_z {W : Nat → Int32} (hW : ∀ i, i < 72 → ∃ w, w < 65536 ∧ W i = nI w) {p : Nat} (hp : p < 18) (e : pg_cv W p = 0) : ∀ j, j < 4 → W (4 * p + j) = 0 := by
  have a0 := pg_cvr hW (i := 4 * p) (by omega)
  have a1 := pg_cvr hW (i := 4 * p + 1) (by omega)
  have a2 := pg_cvr hW (i := 4 * p + 2) (by omega)
  have a3 := pg_cvr hW (i := 4 * p + 3) (by omega)
  unfold pg_cv at e
  intro j hj
  have : j = 0 ∨ j = 1 ∨ j = 2 ∨ j = 3 := by omega
  rcases this with rfl | rfl | rfl | rfl
  · show W (4 * p) = 0
    rw [a0.2, show (W (4 * p)).toNatClampNeg = 0 by omega]; rfl
  · rw [a1.2, show (W (4 * p + 1)).toNatClampNeg = 0 by omega]; rfl
  · rw [a2.2, show (W (4 * p + 2)).toNatClampNeg = 0 by omega]; rfl
  · rw [a3.2, show (W (4 * p + 3)).toNatClampNeg = 0 by omega]; rfl
theorem pg_lNe {a b : Nat} (ha : a < 2 ^ 64) (hb : b < 2 ^ 64) : lN a = lN b ↔ a = b := by
  constructor
  · intro e
    have := congrArg (fun x : Int64 => x.toBitVec.toNat) e
    rwa [wb_tn ha, wb_tn hb] at this
  · intro e; rw [e]
section
variable {f1 f2 fr sl lm fc cc hd ts th : Int32} {lv dr fl fe pk pr pp pc W U rf O KP he sz nx pv tm tp tf tw : Nat → Int32}
theorem pg_ctS {post : Int64 → Prop} {p j n a : Nat} (hp : p < 18) (hj : j < 4) (ha : a < 65536 ^ j) (hw : (W (4 * p + j)).toNatClampNeg < 65536 ∧ W (4 * p + j) = nI (W (4 * p + j)).toNatClampNeg) (k : wX_contentsOf_5 post (nI p) f1 f2 fr sl lm fc cc hd ts th lv dr fl fe pk pr pp pc W U rf O KP he sz nx pv tm tp tf tw n (lN (a * 65536 + (W (4 * p + j)).toNatClampNeg)) (nI (j + 1))) : wX_contentsOf_5 post (nI p) f1 f2 fr sl lm fc cc hd ts th lv dr fl fe pk pr pp pc W U rf O KP he sz nx pv tm tp tf tw (n + 1) (lN a) (nI j) := by
  refine br_f (nI_ge (b := 4) hj (by decide)) ?_
  have hb : a * 65536 + (W (4 * p + j)).toNatClampNeg < 2 ^ 64 := by
    have : 65536 ^ j ≤ 65536 ^ 3 := Nat.pow_le_pow_right (by omega) (by omega)
    omega
  have e : (lN a <<< ((16 : Int32).toInt64 &&& 63)) ||| (W (nI (4 * p + j)).toNatClampNeg).toInt64 = lN (a * 65536 + (W (4 * p + j)).toNatClampNeg) := by
    have h1 := wb_shl a (k := 16) (by omega)
    rw [show (16 : Int32) = nI 16 from rfl, h1, nI_clamp (n := 4 * p + j) (by omega), hw.2, nI_l (by omega), nI_clamp (n := (W (4 * p + j)).toNatClampNeg) (by omega)]
    exact g_or (k := 16) rfl hw.1 hb
  rw [pg_t4]
  exact ⟨vp_in_nI (by omega) (by omega), nm_r e (nm_r (nI_1 j) k)⟩
theorem pg_contentsR {post : Int64 → Prop} {p : Nat} (hp : p < 18) (hW : ∀ i, i < 72 → ∃ w, w < 65536 ∧ W i = nI w) (k : post (lN (pg_cv W p))) : wpX_contentsOf post (f1, f2, fr, sl, lm, fc, cc, hd, ts, th, lv, dr, fl, fe, pk, pr, pp, pc, W, U, rf, O, KP, he, sz, nx, pv, tm, tp, tf, tw) (nI p) := by
  refine ⟨5, ?_⟩
  have a0 := (pg_cvr hW (i := 4 * p) (by omega))
  have a1 := (pg_cvr hW (i := 4 * p + 1) (by omega))
  have a2 := (pg_cvr hW (i := 4 * p + 2) (by omega))
  have a3 := (pg_cvr hW (i := 4 * p + 3) (by omega))
  refine pg_ctS (j := 0) (a := 0) hp (by omega) (by omega) a0 (pg_ctS (j := 1) hp (by omega) (by rw [Nat.add_zero]; omega) a1 (pg_ctS (j := 2) hp (by omega) (by rw [Nat.add_zero]; omega) a2 (pg_ctS (j := 3) hp (by omega) (by rw [Nat.add_zero]; omega) a3 ?_)))
  refine br_t (show (4 : Int32) ≤ nI 4 by decide) ?_
  rw [Nat.zero_mul, Nat.zero_add, Nat.add_zero]
  exact k
end
section
variable {FR SL NC : Nat} {D : Nat → Nat} {lv K R C P Q W U O KP lb wd : Nat → Int32}
/-- the members of a place without owner have kind 1 -/
theorem pg_GDpv (G : pg_GD FR SL lv K R C P Q W U O KP NC) {x a : Nat} (hx : x < 64) (ha : a < 18) (e : P x = nI a) (hO : O a = -1) : K x = 1 := by
  apply Classical.byContradiction
  intro h1
  have h0 : K x ≠ 0 := by
    intro z
    have := ((G.1 x hx).2.2.1 z).2.2
    rw [e] at this; exact pg_nm (by omega) this
  obtain ⟨k, hk, _, e2⟩ := pg_GDs G hx h0 h1
  have := (pg_GDkq G hk ha (by rw [← e2, e])).2
  rw [hO] at this; exact pg_mn (by omega) this
/-- a mapping of kind 1 and another share only the blank -/
theorem pg_GDpb (G : pg_GD FR SL lv K R C P Q W U O KP NC) {x y : Nat} (hx : x < 64) (hy : y < 64) (h1 : K x = 1) (h2 : K y ≠ 1) (e : P x = P y) : P x = -1 := by
  rcases (G.1 x hx).2.2.2.2.1 with z | ⟨q, hq, z, _, hO⟩
  · exact z
  · exact absurd (pg_GDpv G hy hq (by rw [← e, z]) (hO h1)) h2
end
/-- where a regroup may go -/
def pg_to (W U O : Nat → Int32) (a : Nat) (pl : Int32) : Prop := (pl = -1 ∧ ∀ j, j < 4 → W (4 * a + j) = 0) ∨ ∃ b, b < 18 ∧ pl = nI b ∧ b ≠ a ∧ U b ≠ 0 ∧ O b = -1 ∧ ∀ j, j < 4 → W (4 * b + j) = W (4 * a + j)
section
variable {FR SL : Nat} {D : Nat → Nat} {lv K R C W wd : Nat → Int32}
theorem pg_rgl {post : SX → Prop} {a : Nat} {pl : Int32} (ha : a < 18) : ∀ (n i fu NC : Nat) (P Q U O KP : Nat → Int32) {f1' f2' fr' sl' lm' fc' cc' hd' ts' th' : Int32} {lv' dr' fl' fe' pk' pr' pp' pc' W' U' rf' O' KP' he' sz' nx' pv' tm' tp' tf' tw' : Nat → Int32}, pg_RX FR SL D lv K R C P Q W U O KP NC (f1', f2', fr', sl', lm', fc', cc', hd', ts', th', lv', dr', fl', fe', pk', pr', pp', pc', W', U', rf', O', KP', he', sz', nx', pv', tm', tp', tf', tw') → pg_GD FR SL lv K R C P Q W U O KP NC → pg_WD wd P W → pg_cn (fun x => decide (P x = nI a)) 64 = n → i + n ≤ 64 → O a = -1 → pg_to W U O a pl → n < fu →
    (∀ P' Q' U' O' KP' NC', (∀ x, x < 64 → (P x = nI a → P' x = pl) ∧ (P x ≠ nI a → P' x = P x)) → (∀ q, q < 18 → q ≠ a → U' q = U q ∧ O' q = O q) → pg_GD FR SL lv K R C P' Q' W U' O' KP' NC' → pg_WD wd P' W → ∀ u', pg_RX FR SL D lv K R C P' Q' W U' O' KP' NC' u' → post u') → wX_regroup_2 post (nI a) pl fu (nI i) f1' f2' fr' sl' lm' fc' cc' hd' ts' th' lv' dr' fl' fe' pk' pr' pp' pc' W' U' rf' O' KP' he' sz' nx' pv' tm' tp' tf' tw'
  | n, i, 0, NC, P, Q, U, O, KP, f1', f2', fr', sl', lm', fc', cc', hd', ts', th', lv', dr', fl', fe', pk', pr', pp', pc', W', U', rf', O', KP', he', sz', nx', pv', tm', tp', tf', tw', h, G, Y, hn, hi, hO, ht, hf, k => absurd hf (by omega)
  | 0, i, fu + 1, NC, P, Q, U, O, KP, f1', f2', fr', sl', lm', fc', cc', hd', ts', th', lv', dr', fl', fe', pk', pr', pp', pc', W', U', rf', O', KP', he', sz', nx', pv', tm', tp', tf', tw', h, G, Y, hn, hi, hO, ht, hf, k => by
    have hk : post (f1', f2', fr', sl', lm', fc', cc', hd', ts', th', lv', dr', fl', fe', pk', pr', pp', pc', W', U', rf', O', KP', he', sz', nx', pv', tm', tp', tf', tw') := k P Q U O KP NC (fun x hx => ⟨fun z => absurd (pg_cn_none hn hx) (by rw [decide_eq_true z]; simp), fun _ => rfl⟩) (fun q _ _ => ⟨rfl, rfl⟩) G Y _ h
    refine br_c (fun _ => hk) (fun _ => ⟨vp_in_nI (by omega) (by omega), br_t ?_ hk⟩)
    obtain ⟨_, _, _, C0, _⟩ := h
    rw [nI_clamp (n := a) (by omega), pg_CHsz C0 (c := a) (by omega), pg_cn_zero]
    · decide
    · intro x hx
      refine decide_eq_false (fun z => ?_)
      have := pg_cn_none hn hx
      rw [decide_eq_true ((pg_GDq G hx ha).1 z)] at this
      simp at this
  | n + 1, i, fu + 1, NC, P, Q, U, O, KP, f1', f2', fr', sl', lm', fc', cc', hd', ts', th', lv', dr', fl', fe', pk', pr', pp', pc', W', U', rf', O', KP', he', sz', nx', pv', tm', tp', tf', tw', h, G, Y, hn, hi, hO, ht, hf, k => by
    have hav : vp_in (nI a) 26 := vp_in_nI (by omega) (by omega)
    refine br_f (nI_ge (b := 64) (by omega) (by omega)) ⟨hav, ?_⟩
    have C0 : pg_CH he' sz' nx' pv' Q := by
      obtain ⟨_, _, _, C0, _⟩ := h
      exact C0
    have hcn : pg_cn (fun x => decide (Q x = nI a)) 64 = n + 1 := by
      rw [← hn]
      refine pg_cn_congr ?_
      intro x hx
      have := pg_GDq G hx ha
      simp only [this]
    have hsz := pg_CHsz C0 (c := a) (by omega)
    rw [hcn] at hsz
    rw [nI_clamp (n := a) (by omega)]
    refine br_f (by rw [hsz]; exact nI_nle (by omega) (by omega)) ⟨hav, ?_⟩
    obtain ⟨m, hm, ehe, hQm⟩ : ∃ m, m < 64 ∧ he' a = nI m ∧ Q m = nI a := by
      rcases pg_CHhe C0 (c := a) (by omega) with ⟨_, z⟩ | z
      · exfalso
        rw [pg_cn_zero (fun x hx => decide_eq_false (z x hx))] at hcn
        omega
      · exact z
    have hPm := (pg_GDq G hm ha).1 hQm
    have hK1 := pg_GDpv G hm ha hPm hO
    have hK0 : K m ≠ 0 := by rw [hK1]; decide
    have hpl : pl ≠ nI a := by
      rcases ht with ⟨e, _⟩ | ⟨b, hb, e, hne, _⟩
      · rw [e]; exact pg_mn (by omega)
      · rw [e, Ne, nI_eq (by omega) (by omega)]; exact hne
    refine nm_r ehe ?_
    have hpt := (pg_RXm h hm hK0).1
    refine pg_walk h hm (fun z => absurd z hK0) (fun _ => br_f (nI_pos (by omega)) ?_)
    obtain ⟨dc, dR⟩ := pg_GDdet G hm
    refine pg_detach h hm hK0 (G.1 m hm).2.2.2.1 dc dR ?_
    intro P1 Q1 U1 O1 KP1 NC1 haf
    refine pg_sx ?_
    intro f1' f2' fr' sl' lm' fc' cc' hd' ts' th' lv' dr' fl' fe' pk' pr' pp' pc' W' U' rf' O' KP' he' sz' nx' pv' tm' tp' tf' tw' h1
    have G1 := pg_GDaf G hm (k0 := 1) (r0 := R m) (c0 := C m) (Or.inr ⟨rfl, hK1, rfl⟩) haf
    rw [pg_uself hK1, pg_uself rfl, pg_uself rfl] at G1
    have hUO : ∀ q, q < 18 → q ≠ a → U1 q = U q ∧ O1 q = O q := by
      intro q hq hne
      rcases haf.2.2 with ⟨_, e1, e2, _⟩ | ⟨q', hq', e0, _, e1, e2, _⟩
      · rw [e1, e2]; exact ⟨rfl, rfl⟩
      · rw [hQm, nI_eq (by omega) (by omega)] at e0
        rw [e1, e2, ← e0, pg_un hne, pg_un hne]; exact ⟨rfl, rfl⟩
    have hO1 : O1 a = -1 := by
      rcases haf.2.2 with ⟨_, e1, e2, _⟩ | ⟨q', hq', e0, _, e1, e2, _⟩
      · rw [e2]; exact hO
      · rw [hQm, nI_eq (by omega) (by omega)] at e0
        rw [e2, ← e0, pg_us]
    have ht1 : pg_to W U1 O1 a pl := by
      rcases ht with z | ⟨b, hb, e, hne, z1, z2, z3⟩
      · exact Or.inl z
      · exact Or.inr ⟨b, hb, e, hne, by rw [(hUO b hb hne).1]; exact z1, by rw [(hUO b hb hne).2]; exact z2, z3⟩
    have eP1 := haf.1
    have eQ1 := haf.2.1
    subst eP1
    subst eQ1
    have hch : pg_chn (K m) pl = -1 ∨ ∃ c, c < 26 ∧ pg_chn (K m) pl = nI c := by
      rw [hK1]
      rcases ht with ⟨e, _⟩ | ⟨b, hb, e, _⟩
      · rw [e]; exact Or.inl pg_chn_1
      · rw [e]; exact Or.inr ⟨b, by omega, pg_chn_p _ (by omega)⟩
    refine pg_join h1 G.2.2.2.2.2.2.2.1 hm hK0 pg_us pg_us hch ?_
    rw [pg_uu, pg_uu]
    refine pg_sx ?_
    intro f1' f2' fr' sl' lm' fc' cc' hd' ts' th' lv' dr' fl' fe' pk' pr' pp' pc' W' U' rf' O' KP' he' sz' nx' pv' tm' tp' tf' tw' h2
    have G2 := pg_GDin G1 hm pg_us (pg_GDl G hm hK0) (kd := K m) (rt := R m) (ch := C m) (pl := pl) ⟨1, by omega, by omega, hK1⟩ (G.1 m hm).2.1 (by
      rcases ht1 with ⟨e, _⟩ | ⟨b, hb, e, hne, z1, z2, z3⟩
      · exact Or.inl e
      · exact Or.inr ⟨b, hb, e, z1, fun _ => z2⟩) (fun k' hk' z => absurd (show nI 1 = nI (k' + 2) by rw [← z, hK1]; rfl) (by rw [nI_eq (by omega) (by omega)]; omega))
    rw [pg_uu, pg_uu, pg_uself (f := K) rfl, pg_uself (f := R) rfl, pg_uself (f := C) rfl] at G2
    have Y2 : pg_WD wd (upd P m pl) W := by
      intro x hx
      by_cases e : x = m
      · subst e
        rw [pg_us]
        have y := (Y x hx).2 a ha hPm
        rcases ht with ⟨e, z⟩ | ⟨b, hb, e, hne, z1, z2, z3⟩
        · rw [e]
          refine ⟨fun _ w hw => by rw [y w hw, z w hw], fun q hq w => absurd w (pg_mn (by omega))⟩
        · rw [e]
          refine ⟨fun w => absurd w (pg_nm (by omega)), fun q hq w j hj => ?_⟩
          rw [nI_eq (by omega) (by omega)] at w
          rw [← w, y j hj, z3 j hj]
      · rw [pg_un e]; exact Y x hx
    refine nm_r (nI_1 i) ?_
    refine pg_rgl ha n (i + 1) fu NC1 _ _ U1 O1 KP1 h2 G2 Y2 ?_ (by omega) hO1 ht1 (by omega) ?_
    · have := pg_cn_set (p := fun x => decide (upd P m pl x = nI a)) (q := fun x => decide (P x = nI a)) hm (by rw [pg_us]; exact decide_eq_false hpl) (decide_eq_true hPm) (by intro j hj hne; rw [pg_un hne])
      omega
    · intro P' Q' U' O' KP' NC' c1 c2 G' Y'
      refine k P' Q' U' O' KP' NC' ?_ ?_ G' Y'
      · intro x hx
        have c := c1 x hx
        by_cases e : x = m
        · subst e
          rw [pg_us] at c
          exact ⟨fun _ => c.2 hpl, fun z => absurd hPm z⟩
        · rw [pg_un e] at c; exact c
      · intro q hq hne
        have a1 := c2 q hq hne
        have a2 := hUO q hq hne
        exact ⟨a1.1.trans a2.1, a1.2.trans a2.2⟩
end
end
section
/-- fewer places, and only mappings of kind 1 have moved -/
def pg_mg (K P U O P' U' O' : Nat → Int32) : Prop := (∀ q, q < 18 → U' q ≠ 0 → U q ≠ 0 ∧ O' q = O q) ∧ (∀ x, x < 64 → K x ≠ 1 → P' x = P x)
theorem pg_mg0 {K P U O : Nat → Int32} : pg_mg K P U O P U O := ⟨fun _ _ z => ⟨z, rfl⟩, fun _ _ _ => rfl⟩
theorem pg_mgt {K P U O P' U' O' P'' U'' O'' : Nat → Int32} (h1 : pg_mg K P U O P' U' O') (h2 : pg_mg K P' U' O' P'' U'' O'') : pg_mg K P U O P'' U'' O'' := by
  refine ⟨fun q hq z => ?_, fun x hx z => ?_⟩
  · obtain ⟨a, b⟩ := h2.1 q hq z
    obtain ⟨c, d⟩ := h1.1 q hq a
    exact ⟨c, b.trans d⟩
  · exact (h2.2 x hx z).trans (h1.2 x hx z)
section
variable {FR SL NC : Nat} {D : Nat → Nat} {lv K R C P Q W U O KP lb wd : Nat → Int32} {u : SX}
theorem pg_contents {post : Int64 → Prop} (h : pg_RX FR SL D lv K R C P Q W U O KP NC u) (G : pg_GD FR SL lv K R C P Q W U O KP NC) {p : Nat} (hp : p < 18) (k : post (lN (pg_cv W p))) : wpX_contentsOf post u (nI p) :=
  pg_RXe (Z := fun u => wpX_contentsOf post u (nI p)) h (fun _ _ _ _ _ _ _ _ _ _ _ _ _ _ _ _ _ _ _ _ _ _ _ _ _ _ _ _ _ => pg_contentsR hp G.2.2.2.1 k)
theorem pg_RXr {f1' f2' fr' sl' lm' fc' cc' hd' ts' th' : Int32} {lv' dr' fl' fe' pk' pr' pp' pc' W' U' rf' O' KP' he' sz' nx' pv' tm' tp' tf' tw' : Nat → Int32} (h : pg_RX FR SL D lv K R C P Q W U O KP NC (f1', f2', fr', sl', lm', fc', cc', hd', ts', th', lv', dr', fl', fe', pk', pr', pp', pc', W', U', rf', O', KP', he', sz', nx', pv', tm', tp', tf', tw')) : W' = W ∧ U' = U ∧ O' = O ∧ KP' = KP ∧ cc' = nI NC := by
  obtain ⟨a, b, _⟩ := h
  exact ⟨b.2.1, b.2.2.1, b.2.2.2.1, b.2.2.2.2, a.2.2.2.1⟩
theorem pg_regroup {post : SX → Prop} {a : Nat} {pl : Int32} (h : pg_RX FR SL D lv K R C P Q W U O KP NC u) (G : pg_GD FR SL lv K R C P Q W U O KP NC) (Y : pg_WD wd P W) (ha : a < 18) (hO : O a = -1) (ht : pg_to W U O a pl)
    (k : ∀ P' Q' U' O' KP' NC', U' a = 0 → (∀ q, q < 18 → q ≠ a → U' q = U q ∧ O' q = O q) → pg_mg K P U O P' U' O' → pg_GD FR SL lv K R C P' Q' W U' O' KP' NC' → pg_WD wd P' W → ∀ u', pg_RX FR SL D lv K R C P' Q' W U' O' KP' NC' u' → post u') : wpX_regroup post u (nI a) pl := by
  revert h
  refine pg_sx (Z := fun u => pg_RX FR SL D lv K R C P Q W U O KP NC u → wpX_regroup post u (nI a) pl) ?_ u
  intro f1' f2' fr' sl' lm' fc' cc' hd' ts' th' lv' dr' fl' fe' pk' pr' pp' pc' W' U' rf' O' KP' he' sz' nx' pv' tm' tp' tf' tw' h
  have hle := pg_cn_le (fun x => decide (P x = nI a)) 64
  have hpl : pl ≠ nI a := by
    rcases ht with ⟨e, _⟩ | ⟨b, hb, e, hne, _⟩
    · rw [e]; exact pg_mn (by omega)
    · rw [e, Ne, nI_eq (by omega) (by omega)]; exact hne
  refine ⟨65, pg_rgl ha _ 0 65 NC P Q U O KP h G Y rfl (by omega) hO ht (by omega) ?_⟩
  intro P1 Q1 U1 O1 KP1 NC1 c1 c2 G1 Y1
  have hU1 : U1 a = 0 := by
    apply Classical.byContradiction
    intro z
    obtain ⟨m, hm, e⟩ := (G1.2.1 a ha z).2.1
    by_cases w : P m = nI a
    · rw [(c1 m hm).1 w] at e; exact hpl e
    · rw [(c1 m hm).2 w] at e; exact w e
  refine k P1 Q1 U1 O1 KP1 NC1 hU1 c2 ⟨?_, ?_⟩ G1 Y1
  · intro q hq z
    have hne : q ≠ a := fun w => z (by rw [w]; exact hU1)
    obtain ⟨e1, e2⟩ := c2 q hq hne
    exact ⟨by rw [← e1]; exact z, e2⟩
  · intro x hx z
    exact (c1 x hx).2 (fun w => z (pg_GDpv G hx ha w hO))
end
section
variable {FR SL : Nat} {D : Nat → Nat} {lv K R C W wd : Nat → Int32}
theorem pg_abl {post : SX → Prop} {a : Nat} (ha : a < 18) : ∀ (d b NC : Nat) (P Q U O KP : Nat → Int32) {f1' f2' fr' sl' lm' fc' cc' hd' ts' th' : Int32} {lv' dr' fl' fe' pk' pr' pp' pc' W' U' rf' O' KP' he' sz' nx' pv' tm' tp' tf' tw' : Nat → Int32}, b + d = 18 → a < b → pg_RX FR SL D lv K R C P Q W U O KP NC (f1', f2', fr', sl', lm', fc', cc', hd', ts', th', lv', dr', fl', fe', pk', pr', pp', pc', W', U', rf', O', KP', he', sz', nx', pv', tm', tp', tf', tw') → pg_GD FR SL lv K R C P Q W U O KP NC → pg_WD wd P W → U a ≠ 0 → O a = -1 → (∀ c, a < c → c < b → U c ≠ 0 → O c = -1 → pg_cv W c ≠ pg_cv W a) →
    (∀ P' Q' U' O' KP' NC', U' a ≠ 0 → pg_mg K P U O P' U' O' → (∀ c, a < c → c < 18 → U' c ≠ 0 → O' c = -1 → pg_cv W c ≠ pg_cv W a) → pg_GD FR SL lv K R C P' Q' W U' O' KP' NC' → pg_WD wd P' W → ∀ u', pg_RX FR SL D lv K R C P' Q' W U' O' KP' NC' u' → post u') → wX_absorbEqual_11 post (nI a) (lN (pg_cv W a)) (d + 1) (nI b) f1' f2' fr' sl' lm' fc' cc' hd' ts' th' lv' dr' fl' fe' pk' pr' pp' pc' W' U' rf' O' KP' he' sz' nx' pv' tm' tp' tf' tw'
  | 0, b, NC, P, Q, U, O, KP, f1', f2', fr', sl', lm', fc', cc', hd', ts', th', lv', dr', fl', fe', pk', pr', pp', pc', W', U', rf', O', KP', he', sz', nx', pv', tm', tp', tf', tw', e, hab, h, G, Y, hU, hO, hc, k => br_t (nI_le (a := 18) (by omega) (by omega)) (k P Q U O KP NC hU pg_mg0 (fun c h1 h2 => hc c h1 (by omega)) G Y _ h)
  | d + 1, b, NC, P, Q, U, O, KP, f1', f2', fr', sl', lm', fc', cc', hd', ts', th', lv', dr', fl', fe', pk', pr', pp', pc', W', U', rf', O', KP', he', sz', nx', pv', tm', tp', tf', tw', e, hab, h, G, Y, hU, hO, hc, k => by
    obtain ⟨eW, eU, eO, _, _⟩ := pg_RXr h
    have hbv : vp_in (nI b) 18 := vp_in_nI (by omega) (by omega)
    refine br_f (nI_ge (b := 18) (by omega) (by omega)) ⟨hbv, ?_⟩
    rw [nI_clamp (n := b) (by omega), show U' b = U b from congrFun eU b, show O' b = O b from congrFun eO b]
    have skip : (U b ≠ 0 → O b = -1 → pg_cv W b ≠ pg_cv W a) → wX_absorbEqual_11 post (nI a) (lN (pg_cv W a)) (d + 1) (nI (b + 1)) f1' f2' fr' sl' lm' fc' cc' hd' ts' th' lv' dr' fl' fe' pk' pr' pp' pc' W' U' rf' O' KP' he' sz' nx' pv' tm' tp' tf' tw' := by
      intro hs
      refine pg_abl ha d (b + 1) NC P Q U O KP (by omega) (by omega) h G Y hU hO ?_ k
      intro c h1 h2 h3 h4
      by_cases w : c = b
      · rw [w] at h3 h4 ⊢; exact hs h3 h4
      · exact hc c h1 (by omega) h3 h4
    refine br_c (fun z => nm_r (nI_1 b) (skip (fun w => absurd z w))) (fun z => ⟨hbv, ?_⟩)
    rcases pg_GDok G (q := b) (by omega) z with eo | ⟨k', hk', eo, _⟩
    · refine br_f (by rw [eo]; decide) ?_
      refine pg_contents h G (p := b) (by omega) ?_
      have hl1 := pg_cv_lt G.2.2.2.1 ha
      have hl2 := pg_cv_lt G.2.2.2.1 (p := b) (by omega)
      refine br_c (fun w => ?_) (fun w => nm_r (nI_1 b) (skip (fun _ _ w' => w (by rw [w']))))
      rw [pg_lNe hl1 hl2] at w
      have hsame := pg_cv_eq G.2.2.2.1 ha (r := b) (by omega) w
      refine pg_regroup h G Y (a := b) (by omega) eo (Or.inr ⟨a, ha, rfl, by omega, hU, hO, hsame⟩) ?_
      intro P1 Q1 U1 O1 KP1 NC1 hU1 hq1 hmg G1 Y1
      refine pg_sx ?_
      intro f1' f2' fr' sl' lm' fc' cc' hd' ts' th' lv' dr' fl' fe' pk' pr' pp' pc' W' U' rf' O' KP' he' sz' nx' pv' tm' tp' tf' tw' h1
      have hqa := hq1 a ha (by omega)
      refine nm_r (nI_1 b) ?_
      refine pg_abl ha d (b + 1) NC1 P1 Q1 U1 O1 KP1 (by omega) (by omega) h1 G1 Y1 (by rw [hqa.1]; exact hU) (by rw [hqa.2]; exact hO) ?_ ?_
      · intro c h1 h2 h3 h4
        by_cases w : c = b
        · rw [w] at h3; exact absurd hU1 h3
        · have hqc := hq1 c (by omega) w
          exact hc c h1 (by omega) (by rw [← hqc.1]; exact h3) (by rw [← hqc.2]; exact h4)
      · intro P2 Q2 U2 O2 KP2 NC2 hU2 hmg2
        exact k P2 Q2 U2 O2 KP2 NC2 hU2 (pg_mgt hmg hmg2)
    · refine br_t (by rw [eo]; exact nI_pos' (by omega)) (nm_r (nI_1 b) (skip (fun _ w => ?_)))
      rw [eo] at w; exact absurd w (pg_nm (by omega))
theorem pg_m57 {post : Int32 → SX → Prop} {x1 : Int32} : ∀ (d p NC : Nat) (P Q U O KP : Nat → Int32) {f1' f2' fr' sl' lm' fc' cc' hd' ts' th' : Int32} {lv' dr' fl' fe' pk' pr' pp' pc' W' U' rf' O' KP' he' sz' nx' pv' tm' tp' tf' tw' : Nat → Int32}, p + d = 18 → pg_RX FR SL D lv K R C P Q W U O KP NC (f1', f2', fr', sl', lm', fc', cc', hd', ts', th', lv', dr', fl', fe', pk', pr', pp', pc', W', U', rf', O', KP', he', sz', nx', pv', tm', tp', tf', tw') → pg_GD FR SL lv K R C P Q W U O KP NC → pg_WD wd P W → (∀ a c, a < p → a < c → c < 18 → U a ≠ 0 → O a = -1 → U c ≠ 0 → O c = -1 → pg_cv W c ≠ pg_cv W a) →
    (∀ P' Q' U' O' KP' NC', pg_mg K P U O P' U' O' → (∀ a c, a < c → c < 18 → U' a ≠ 0 → O' a = -1 → U' c ≠ 0 → O' c = -1 → pg_cv W c ≠ pg_cv W a) → pg_GD FR SL lv K R C P' Q' W U' O' KP' NC' → pg_WD wd P' W → ∀ u', pg_RX FR SL D lv K R C P' Q' W U' O' KP' NC' u' → post (x1 - nI NC') u') → wX_merge_57 post x1 (d + 1) (nI p) f1' f2' fr' sl' lm' fc' cc' hd' ts' th' lv' dr' fl' fe' pk' pr' pp' pc' W' U' rf' O' KP' he' sz' nx' pv' tm' tp' tf' tw'
  | 0, p, NC, P, Q, U, O, KP, f1', f2', fr', sl', lm', fc', cc', hd', ts', th', lv', dr', fl', fe', pk', pr', pp', pc', W', U', rf', O', KP', he', sz', nx', pv', tm', tp', tf', tw', e, h, G, Y, hc, k => by
    have ecc := (pg_RXr h).2.2.2.2
    refine br_t (nI_le (a := 18) (by omega) (by omega)) ?_
    have := k P Q U O KP NC pg_mg0 (fun a c h1 h2 => hc a c (by omega) h1 h2) G Y _ h
    rw [← ecc] at this
    exact this
  | d + 1, p, NC, P, Q, U, O, KP, f1', f2', fr', sl', lm', fc', cc', hd', ts', th', lv', dr', fl', fe', pk', pr', pp', pc', W', U', rf', O', KP', he', sz', nx', pv', tm', tp', tf', tw', e, h, G, Y, hc, k => by
    obtain ⟨eW, eU, eO, _, _⟩ := pg_RXr h
    have hpv : vp_in (nI p) 18 := vp_in_nI (by omega) (by omega)
    refine br_f (nI_ge (b := 18) (by omega) (by omega)) ⟨hpv, ?_⟩
    rw [nI_clamp (n := p) (by omega), show U' p = U p from congrFun eU p, show O' p = O p from congrFun eO p]
    have skip : (U p ≠ 0 → O p = -1 → False) → wX_merge_57 post x1 (d + 1) (nI (p + 1)) f1' f2' fr' sl' lm' fc' cc' hd' ts' th' lv' dr' fl' fe' pk' pr' pp' pc' W' U' rf' O' KP' he' sz' nx' pv' tm' tp' tf' tw' := by
      intro hs
      refine pg_m57 d (p + 1) NC P Q U O KP (by omega) h G Y ?_ k
      intro a c h1 h2 h3 h4 h5
      by_cases w : a = p
      · rw [w] at h4 h5; exact (hs h4 h5).elim
      · exact hc a c (by omega) h2 h3 h4 h5
    refine br_c (fun z => nm_r (nI_1 p) (skip (fun w _ => w z))) (fun z => ⟨hpv, ?_⟩)
    rcases pg_GDok G (q := p) (by omega) z with eo | ⟨k', hk', eo, _⟩
    · refine br_f (by rw [eo]; decide) ?_
      unfold wpX_absorbEqual
      dsimp only
      refine pg_contents h G (p := p) (by omega) (nm_r (nI_1 p) ⟨18 - p, ?_⟩)
      obtain ⟨d2, hd2⟩ : ∃ d2, 18 - p = d2 + 1 := ⟨17 - p, by omega⟩
      rw [hd2]
      refine pg_abl (a := p) (by omega) d2 (p + 1) NC P Q U O KP (by omega) (by omega) h G Y z eo (fun c h1 h2 => absurd h2 (by omega)) ?_
      intro P1 Q1 U1 O1 KP1 NC1 hU1 hmg hdj G1 Y1
      refine pg_sx ?_
      intro f1' f2' fr' sl' lm' fc' cc' hd' ts' th' lv' dr' fl' fe' pk' pr' pp' pc' W' U' rf' O' KP' he' sz' nx' pv' tm' tp' tf' tw' h1
      refine nm_r (nI_1 p) ?_
      refine pg_m57 d (p + 1) NC1 P1 Q1 U1 O1 KP1 (by omega) h1 G1 Y1 ?_ ?_
      · intro a c h1 h2 h3 h4 h5 h6 h7
        by_cases w : a = p
        · rw [w] at h2 ⊢; exact hdj c h2 h3 h6 h7
        · have ga := hmg.1 a (by omega) h4
          have gc := hmg.1 c h3 h6
          exact hc a c (by omega) h2 h3 ga.1 (by rw [← ga.2]; exact h5) gc.1 (by rw [← gc.2]; exact h7)
      · intro P2 Q2 U2 O2 KP2 NC2 hmg2
        exact k P2 Q2 U2 O2 KP2 NC2 (pg_mgt hmg hmg2)
    · refine br_t (by rw [eo]; exact nI_pos' (by omega)) (nm_r (nI_1 p) (skip (fun _ w => ?_)))
      rw [eo] at w; exact absurd w (pg_nm (by omega))
theorem pg_m7 {post : Int32 → SX → Prop} {x1 : Int32} : ∀ (d p NC : Nat) (P Q U O KP : Nat → Int32) {f1' f2' fr' sl' lm' fc' cc' hd' ts' th' : Int32} {lv' dr' fl' fe' pk' pr' pp' pc' W' U' rf' O' KP' he' sz' nx' pv' tm' tp' tf' tw' : Nat → Int32}, p + d = 18 → pg_RX FR SL D lv K R C P Q W U O KP NC (f1', f2', fr', sl', lm', fc', cc', hd', ts', th', lv', dr', fl', fe', pk', pr', pp', pc', W', U', rf', O', KP', he', sz', nx', pv', tm', tp', tf', tw') → pg_GD FR SL lv K R C P Q W U O KP NC → pg_WD wd P W → (∀ c, c < p → U c ≠ 0 → O c = -1 → pg_cv W c ≠ 0) →
    (∀ P' Q' U' O' KP' NC', pg_mg K P U O P' U' O' → (∀ c, c < 18 → U' c ≠ 0 → O' c = -1 → pg_cv W c ≠ 0) → (∀ a c, a < c → c < 18 → U' a ≠ 0 → O' a = -1 → U' c ≠ 0 → O' c = -1 → pg_cv W c ≠ pg_cv W a) → pg_GD FR SL lv K R C P' Q' W U' O' KP' NC' → pg_WD wd P' W → ∀ u', pg_RX FR SL D lv K R C P' Q' W U' O' KP' NC' u' → post (x1 - nI NC') u') → wX_merge_7 post x1 (d + 1) (nI p) f1' f2' fr' sl' lm' fc' cc' hd' ts' th' lv' dr' fl' fe' pk' pr' pp' pc' W' U' rf' O' KP' he' sz' nx' pv' tm' tp' tf' tw'
  | 0, p, NC, P, Q, U, O, KP, f1', f2', fr', sl', lm', fc', cc', hd', ts', th', lv', dr', fl', fe', pk', pr', pp', pc', W', U', rf', O', KP', he', sz', nx', pv', tm', tp', tf', tw', e, h, G, Y, hc, k => by
    refine br_t (nI_le (a := 18) (by omega) (by omega)) ⟨19, ?_⟩
    refine pg_m57 18 0 NC P Q U O KP (by omega) h G Y (fun a c h1 => absurd h1 (by omega)) ?_
    intro P1 Q1 U1 O1 KP1 NC1 hmg hdj
    refine k P1 Q1 U1 O1 KP1 NC1 hmg ?_ hdj
    intro c h1 h2 h3
    have gc := hmg.1 c h1 h2
    exact hc c (by omega) gc.1 (by rw [← gc.2]; exact h3)
  | d + 1, p, NC, P, Q, U, O, KP, f1', f2', fr', sl', lm', fc', cc', hd', ts', th', lv', dr', fl', fe', pk', pr', pp', pc', W', U', rf', O', KP', he', sz', nx', pv', tm', tp', tf', tw', e, h, G, Y, hc, k => by
    obtain ⟨eW, eU, eO, _, _⟩ := pg_RXr h
    have hpv : vp_in (nI p) 18 := vp_in_nI (by omega) (by omega)
    refine br_f (nI_ge (b := 18) (by omega) (by omega)) ⟨hpv, ?_⟩
    rw [nI_clamp (n := p) (by omega), show U' p = U p from congrFun eU p, show O' p = O p from congrFun eO p]
    have skip : (U p ≠ 0 → O p = -1 → pg_cv W p ≠ 0) → wX_merge_7 post x1 (d + 1) (nI (p + 1)) f1' f2' fr' sl' lm' fc' cc' hd' ts' th' lv' dr' fl' fe' pk' pr' pp' pc' W' U' rf' O' KP' he' sz' nx' pv' tm' tp' tf' tw' := by
      intro hs
      refine pg_m7 d (p + 1) NC P Q U O KP (by omega) h G Y ?_ k
      intro c h1 h2 h3
      by_cases w : c = p
      · rw [w] at h2 h3 ⊢; exact hs h2 h3
      · exact hc c (by omega) h2 h3
    refine br_c (fun z => nm_r (nI_1 p) (skip (fun w _ => absurd z w))) (fun z => ⟨hpv, ?_⟩)
    rcases pg_GDok G (q := p) (by omega) z with eo | ⟨k', hk', eo, _⟩
    · refine br_f (by rw [eo]; decide) ?_
      refine pg_contents h G (p := p) (by omega) ?_
      have hl := pg_cv_lt G.2.2.2.1 (p := p) (by omega)
      refine br_c (fun w => ?_) (fun w => nm_r (nI_1 p) (skip (fun _ _ w' => w (by rw [w']; rfl))))
      rw [show (0 : Int64) = lN 0 from rfl, pg_lNe hl (by omega)] at w
      have hz := pg_cv_z G.2.2.2.1 (p := p) (by omega) w
      refine pg_regroup h G Y (a := p) (by omega) eo (Or.inl ⟨rfl, hz⟩) ?_
      intro P1 Q1 U1 O1 KP1 NC1 hU1 hq1 hmg G1 Y1
      refine pg_sx ?_
      intro f1' f2' fr' sl' lm' fc' cc' hd' ts' th' lv' dr' fl' fe' pk' pr' pp' pc' W' U' rf' O' KP' he' sz' nx' pv' tm' tp' tf' tw' h1
      refine nm_r (nI_1 p) ?_
      refine pg_m7 d (p + 1) NC1 P1 Q1 U1 O1 KP1 (by omega) h1 G1 Y1 ?_ ?_
      · intro c h1 h2 h3
        by_cases w : c = p
        · rw [w] at h2; exact absurd hU1 h2
        · have hqc := hq1 c (by omega) w
          exact hc c (by omega) (by rw [← hqc.1]; exact h2) (by rw [← hqc.2]; exact h3)
      · intro P2 Q2 U2 O2 KP2 NC2 hmg2
        exact k P2 Q2 U2 O2 KP2 NC2 (pg_mgt hmg hmg2)
    · refine br_t (by rw [eo]; exact nI_pos' (by omega)) (nm_r (nI_1 p) (skip (fun _ w => ?_)))
      rw [eo] at w; exact absurd w (pg_nm (by omega))
end
end
section
/-- the words of a mapping are zero; two mappings have the same words -/
def pg_zr (wd : Nat → Int32) (m : Nat) : Prop := ∀ j, j < 4 → wd (4 * m + j) = 0
def pg_sm (wd : Nat → Int32) (a b : Nat) : Prop := ∀ j, j < 4 → wd (4 * a + j) = wd (4 * b + j)
theorem pg_sms {wd : Nat → Int32} {a b : Nat} (h : pg_sm wd a b) : pg_sm wd b a := fun j hj => (h j hj).symm
theorem pg_smt {wd : Nat → Int32} {a b c : Nat} (h : pg_sm wd a b) (h2 : pg_sm wd b c) : pg_sm wd a c := fun j hj => (h j hj).trans (h2 j hj)
theorem pg_smr {wd : Nat → Int32} {a : Nat} : pg_sm wd a a := fun _ _ => rfl
section
variable {lim : Int32} {lv K R C wd : Nat → Int32}
/-- is m zero? -/
theorem pg_y18 {q : Int32 → SY → Prop} {J : Int32 → Int32 → (Nat → Int32) → (Nat → Int32) → (Nat → Int32) → (Nat → Int32) → (Nat → Int32) → (Nat → Int32) → Prop} {x1 : Int32} {m : Nat} {lb : Nat → Int32} (hm : m < 64) (k1 : K m = 1 → pg_zr wd m → J (nI (m + 1)) lim lv K R C (upd lb m 0) wd) (k0 : ¬ (K m = 1 ∧ pg_zr wd m) → J (nI (m + 1)) lim lv K R C lb wd) :
    ∀ d i (z : Int32), i + d = 4 → ((z ≠ 0 ∧ ∀ j, j < i → wd (4 * m + j) = 0) ∨ (z = 0 ∧ ¬ pg_zr wd m)) → wY_merge_18 q J x1 (nI m) lim lv K R C lb wd (d + 1) z (nI i)
  | 0, i, z, e, hz => by
    have hv : vp_in (nI m) 64 := vp_in_nI hm (by omega)
    refine br_t (nI_le (a := 4) (by omega) (by omega)) ⟨hv, ?_⟩
    rw [nI_clamp (n := m) (by omega)]
    refine br_c (fun hK => ?_) (fun hK => nm_r (nI_1 m) (k0 (fun w => hK w.1)))
    rcases hz with ⟨z1, z2⟩ | ⟨z1, z2⟩
    · have hzr : pg_zr wd m := fun j hj => z2 j (by omega)
      refine br_f z1 (pg_yMB hm ?_)
      have e1 : pg_w4 wd m (fun _ => 0) = wd := by
        funext t
        unfold pg_w4
        split
        · have := hzr (t % 4) (by omega)
          rw [show 4 * m + t % 4 = t by omega] at this
          exact this.symm
        · rfl
      rw [e1]
      exact nm_r (nI_1 m) (k1 hK hzr)
    · exact br_t z1 (nm_r (nI_1 m) (k0 (fun w => z2 w.2)))
  | d + 1, i, z, e, hz => by
    refine br_f (nI_ge (b := 4) (by omega) (by omega)) ?_
    rw [pg_4t, nI_clamp (n := 4 * m + i) (by omega)]
    refine ⟨vp_in_nI (by omega) (by omega), br_c (fun w => nm_r (nI_1 i) (pg_y18 hm k1 k0 d (i + 1) z (by omega) ?_)) (fun w => nm_r (nI_1 i) (pg_y18 hm k1 k0 d (i + 1) 0 (by omega) (Or.inr ⟨rfl, fun w' => w (w' i (by omega))⟩)))⟩
    rcases hz with ⟨z1, z2⟩ | z1
    · refine Or.inl ⟨z1, fun j hj => ?_⟩
      by_cases e2 : j = i
      · rw [e2]; exact w
      · exact z2 j (by omega)
    · exact Or.inr z1
/-- zero mappings of kind 1 become blank -/
theorem pg_y7 {x1 : Int32} : ∀ d m (lb : Nat → Int32), m + d = 64 → ∃ lb1, (∀ x, x < 64 → ((m ≤ x ∧ K x = 1 ∧ pg_zr wd x) → lb1 x = 0) ∧ (¬ (m ≤ x ∧ K x = 1 ∧ pg_zr wd x) → lb1 x = lb x)) ∧
    ∀ q : Int32 → SY → Prop, (∃ n73, wY_merge_73 q x1 lim n73 0 lv K R C lb1 wd) → wY_merge_7 q x1 (d + 1) (nI m) lim lv K R C lb wd
  | 0, m, lb, e => ⟨lb, fun x hx => ⟨fun z => by omega, fun _ => rfl⟩, fun q hq => br_t (nI_le (a := 64) (by omega) (by omega)) hq⟩
  | d + 1, m, lb, e => by
    have hm : m < 64 := by omega
    by_cases hz : K m = 1 ∧ pg_zr wd m
    · obtain ⟨lb1, h1, h2⟩ := pg_y7 (x1 := x1) d (m + 1) (upd lb m 0) (by omega)
      refine ⟨lb1, ?_, fun q hq => br_f (nI_ge (b := 64) (by omega) (by omega)) ⟨5, ?_⟩⟩
      · intro x hx
        refine ⟨fun z => ?_, fun z => ?_⟩
        · by_cases ex : x = m
          · rw [(h1 x hx).2 (fun w => by omega), ex, pg_us]
          · exact (h1 x hx).1 ⟨by omega, z.2⟩
        · rw [(h1 x hx).2 (fun w => z ⟨by omega, w.2⟩), pg_un]
          intro ex; exact z ⟨by omega, by rw [ex]; exact hz⟩
      · exact pg_y18 hm (fun _ _ => h2 q hq) (fun w => absurd hz w) 4 0 1 (by omega) (Or.inl ⟨by decide, fun j hj => absurd hj (by omega)⟩)
    · obtain ⟨lb1, h1, h2⟩ := pg_y7 (x1 := x1) d (m + 1) lb (by omega)
      refine ⟨lb1, ?_, fun q hq => br_f (nI_ge (b := 64) (by omega) (by omega)) ⟨5, ?_⟩⟩
      · intro x hx
        refine ⟨fun z => ?_, fun z => ?_⟩
        · by_cases ex : x = m
          · exact absurd (ex ▸ z.2) hz
          · exact (h1 x hx).1 ⟨by omega, z.2⟩
        · exact (h1 x hx).2 (fun w => z ⟨by omega, w.2⟩)
      · exact pg_y18 hm (fun w w2 => absurd ⟨w, w2⟩ hz) (fun _ => h2 q hq) 4 0 1 (by omega) (Or.inl ⟨by decide, fun j hj => absurd hj (by omega)⟩)
/-- b takes the label of a -/
def pg_tk (K lb wd : Nat → Int32) (a x : Nat) : Prop := K a = 1 ∧ lb a ≠ 0 ∧ K x = 1 ∧ lb x ≠ 0 ∧ pg_sm wd a x
theorem pg_y83 {x1 : Int32} {a : Nat} (ha : a < 64) : ∀ d i (lb : Nat → Int32), i + d = 64 → a < i → ∃ lb', (∀ x, x < 64 → ((i ≤ x ∧ pg_tk K lb wd a x) → lb' x = lb a) ∧ (¬ (i ≤ x ∧ pg_tk K lb wd a x) → lb' x = lb x)) ∧
    ∀ (q : Int32 → SY → Prop) (J : Int32 → (Nat → Int32) → (Nat → Int32) → (Nat → Int32) → (Nat → Int32) → (Nat → Int32) → (Nat → Int32) → Prop), J (nI (a + 1)) lv K R C lb' wd → wY_merge_83 q J x1 (nI a) lim (d + 1) (nI i) lv K R C lb wd
  | 0, i, lb, e, hai => ⟨lb, fun x hx => ⟨fun z => by omega, fun _ => rfl⟩, fun q J hJ => br_t (nI_le (a := 64) (by omega) (by omega)) (nm_r (nI_1 a) hJ)⟩
  | d + 1, i, lb, e, hai => by
    have hi : i < 64 := by omega
    have hav : vp_in (nI a) 64 := vp_in_nI ha (by omega)
    have hiv : vp_in (nI i) 64 := vp_in_nI hi (by omega)
    have hge : ¬ (64 : Int32) ≤ nI i := nI_ge (b := 64) (by omega) (by omega)
    have walk : ∀ (q : Int32 → SY → Prop) (J : Int32 → (Nat → Int32) → (Nat → Int32) → (Nat → Int32) → (Nat → Int32) → (Nat → Int32) → (Nat → Int32) → Prop), (pg_tk K lb wd a i → wY_merge_83 q J x1 (nI a) lim (d + 1) (nI (i + 1)) lv K R C (upd lb i (lb a)) wd) → (¬ pg_tk K lb wd a i → wY_merge_83 q J x1 (nI a) lim (d + 1) (nI (i + 1)) lv K R C lb wd) → wY_merge_83 q J x1 (nI a) lim (d + 1 + 1) (nI i) lv K R C lb wd := by
      intro q J h1 h0
      refine br_f hge ⟨hav, ?_⟩
      rw [nI_clamp (n := a) (by omega), nI_clamp (n := i) (by omega)]
      refine br_c (fun z1 => ⟨hav, br_c (fun z2 => nm_r (nI_1 i) (h0 (fun w => w.2.1 z2))) (fun z2 => ⟨hiv, br_c (fun z3 => ⟨hiv, br_c (fun z4 => nm_r (nI_1 i) (h0 (fun w => w.2.2.2.1 z4))) (fun z4 => ?_)⟩) (fun z3 => nm_r (nI_1 i) (h0 (fun w => z3 w.2.2.1)))⟩)⟩) (fun z1 => nm_r (nI_1 i) (h0 (fun w => z1 w.1)))
      refine pg_ySW ha hi (fun z5 => br_f (by decide) ⟨hav, hiv, nm_e (nm_r (nI_1 i) (h1 ⟨z1, z2, z3, z4, z5⟩))⟩) (fun z5 => br_t rfl (nm_r (nI_1 i) (h0 (fun w => z5 w.2.2.2.2))))
    by_cases ht : pg_tk K lb wd a i
    · obtain ⟨lb', h1, h2⟩ := pg_y83 (x1 := x1) ha d (i + 1) (upd lb i (lb a)) (by omega) (by omega)
      have ea : upd lb i (lb a) a = lb a := pg_un (by omega)
      have etk : ∀ x, x ≠ i → (pg_tk K (upd lb i (lb a)) wd a x ↔ pg_tk K lb wd a x) := by
        intro x hx
        unfold pg_tk
        rw [ea, pg_un hx]
      refine ⟨lb', ?_, fun q J hJ => walk q J (fun _ => h2 q J hJ) (fun w => absurd ht w)⟩
      intro x hx
      refine ⟨fun z => ?_, fun z => ?_⟩
      · by_cases ex : x = i
        · rw [(h1 x hx).2 (fun w => by omega), ex, pg_us]
        · rw [(h1 x hx).1 ⟨by omega, (etk x ex).2 z.2⟩, ea]
      · have ex : x ≠ i := fun ex => z ⟨by omega, by rw [ex]; exact ht⟩
        rw [(h1 x hx).2 (fun w => z ⟨by omega, (etk x ex).1 w.2⟩), pg_un ex]
    · obtain ⟨lb', h1, h2⟩ := pg_y83 (x1 := x1) ha d (i + 1) lb (by omega) (by omega)
      refine ⟨lb', ?_, fun q J hJ => walk q J (fun w => absurd w ht) (fun _ => h2 q J hJ)⟩
      intro x hx
      refine ⟨fun z => ?_, fun z => (h1 x hx).2 (fun w => z ⟨by omega, w.2⟩)⟩
      have ex : x ≠ i := fun ex => ht (ex ▸ z.2)
      exact (h1 x hx).1 ⟨by omega, z.2⟩
/-- the second phase: lb1 the labels at its start, Pr the mappings of kind 1 that aren't blank -/
def pg_iv (K lb1 wd : Nat → Int32) (Pr : Nat → Prop) (a : Nat) (lb : Nat → Int32) : Prop :=
  (∀ m, m < 64 → Pr m → ∃ r, r < 64 ∧ Pr r ∧ pg_sm wd r m ∧ lb m = lb1 r) ∧
  (∀ m m', m < 64 → m' < 64 → Pr m → Pr m' → pg_sm wd m m' → (∃ r, r < a ∧ Pr r ∧ pg_sm wd r m) → lb m = lb m') ∧
  (∀ m, m < 64 → ¬ Pr m → lb m = lb1 m)
theorem pg_y73 {x1 : Int32} {lb1 : Nat → Int32} {Pr : Nat → Prop} (hPr : ∀ m, m < 64 → (Pr m ↔ K m = 1 ∧ lb1 m ≠ 0)) : ∀ d a (lb : Nat → Int32), a + d = 64 → pg_iv K lb1 wd Pr a lb → ∃ lb2, pg_iv K lb1 wd Pr 64 lb2 ∧ ∀ q : Int32 → SY → Prop, wpY_copies (fun r_11 => q (x1 - r_11) (lim, lv, K, R, C, lb2, wd)) (lim, lv, K, R, C, lb2, wd) → wY_merge_73 q x1 lim (d + 1) (nI a) lv K R C lb wd
  | 0, a, lb, e, hv => by
    obtain rfl : a = 64 := by omega
    exact ⟨lb, hv, fun q hq => br_t (by decide) hq⟩
  | d + 1, a, lb, e, hv => by
    have ha : a < 64 := by omega
    obtain ⟨lb', h1, h2⟩ := pg_y83 (lim := lim) (lv := lv) (K := K) (R := R) (C := C) (wd := wd) (x1 := x1) ha (63 - a) (a + 1) lb (by omega) (by omega)
    have hPc : ∀ m, m < 64 → (Pr m ↔ K m = 1 ∧ lb m ≠ 0) := by
      intro m hm
      constructor
      · intro hp
        obtain ⟨r, hr, hpr, _, e⟩ := hv.1 m hm hp
        exact ⟨((hPr m hm).1 hp).1, by rw [e]; exact ((hPr r hr).1 hpr).2⟩
      · intro hp
        apply Classical.byContradiction
        intro hn
        apply hn
        rw [hPr m hm, ← hv.2.2 m hm hn]
        exact hp
    have htk : ∀ x, x < 64 → (pg_tk K lb wd a x ↔ Pr a ∧ Pr x ∧ pg_sm wd a x) := by
      intro x hx
      unfold pg_tk
      rw [hPc a ha, hPc x hx]
      constructor
      · rintro ⟨a1, a2, a3, a4, a5⟩; exact ⟨⟨a1, a2⟩, ⟨a3, a4⟩, a5⟩
      · rintro ⟨⟨a1, a2⟩, ⟨a3, a4⟩, a5⟩; exact ⟨a1, a2, a3, a4, a5⟩
    have hv' : pg_iv K lb1 wd Pr (a + 1) lb' := by
      refine ⟨?_, ?_, ?_⟩
      · intro m hm hp
        by_cases ht : a + 1 ≤ m ∧ pg_tk K lb wd a m
        · have t := (htk m hm).1 ht.2
          obtain ⟨r, hr, hpr, hs, e⟩ := hv.1 a ha t.1
          exact ⟨r, hr, hpr, pg_smt hs t.2.2, by rw [(h1 m hm).1 ht, e]⟩
        · rw [(h1 m hm).2 ht]; exact hv.1 m hm hp
      · intro m m' hm hm' hp hp' hs hex
        have key : ∀ x, x < 64 → Pr x → (∃ r, r < a ∧ Pr r ∧ pg_sm wd r x) → lb' x = lb x := by
          intro x hx hpx hr
          by_cases ht : a + 1 ≤ x ∧ pg_tk K lb wd a x
          · rw [(h1 x hx).1 ht]
            have t := (htk x hx).1 ht.2
            obtain ⟨r, hr1, hr2, hr3⟩ := hr
            exact hv.2.1 a x ha hx t.1 hpx t.2.2 ⟨r, hr1, hr2, pg_smt hr3 (pg_sms t.2.2)⟩
          · exact (h1 x hx).2 ht
        by_cases hlt : ∃ r, r < a ∧ Pr r ∧ pg_sm wd r m
        · rw [key m hm hp hlt]
          obtain ⟨r, hr1, hr2, hr3⟩ := hlt
          rw [key m' hm' hp' ⟨r, hr1, hr2, pg_smt hr3 hs⟩]
          exact hv.2.1 m m' hm hm' hp hp' hs ⟨r, hr1, hr2, hr3⟩
        · obtain ⟨r, hr1, hr2, hr3⟩ := hex
          have era : r = a := by
            apply Classical.byContradiction
            intro w
            exact hlt ⟨r, by omega, hr2, hr3⟩
          subst era
          have val : ∀ x, x < 64 → Pr x → pg_sm wd m x → lb' x = lb r := by
            intro x hx hpx hsx
            have hge : r ≤ x := by
              apply Classical.byContradiction
              intro w
              exact hlt ⟨x, by omega, hpx, pg_sms hsx⟩
            by_cases ex : x = r
            · rw [(h1 x hx).2 (fun w => by omega), ex]
            · exact (h1 x hx).1 ⟨by omega, (htk x hx).2 ⟨hr2, hpx, pg_smt hr3 hsx⟩⟩
          rw [val m hm hp pg_smr, val m' hm' hp' hs]
      · intro m hm hp
        rw [(h1 m hm).2 (fun w => hp ((htk m hm).1 w.2).2.1)]
        exact hv.2.2 m hm hp
    obtain ⟨lb2, h3, h4⟩ := pg_y73 (x1 := x1) hPr d (a + 1) lb' (by omega) hv'
    refine ⟨lb2, h3, fun q hq => ?_⟩
    refine br_f (nI_ge (b := 64) (by omega) (by omega)) (nm_r (nI_1 a) ⟨63 - a + 1, ?_⟩)
    exact h2 q _ (h4 q hq)
end
end
section
section
variable {FR SL NC NC' : Nat} {lv K R C P Q W U O KP P' Q' U' O' KP' lb lb1 lb2 wd : Nat → Int32} {Pr : Nat → Prop}
theorem pg_LBmg (G : pg_GD FR SL lv K R C P Q W U O KP NC) (Y : pg_YL lb wd P W) (G' : pg_GD FR SL lv K R C P' Q' W U' O' KP' NC') (Y' : pg_WD wd P' W) (hmg : pg_mg K P U O P' U' O') (hz : ∀ c, c < 18 → U' c ≠ 0 → O' c = -1 → pg_cv W c ≠ 0) (hdj : ∀ a c, a < c → c < 18 → U' a ≠ 0 → O' a = -1 → U' c ≠ 0 → O' c = -1 → pg_cv W c ≠ pg_cv W a)
    (h1 : ∀ x, x < 64 → ((0 ≤ x ∧ K x = 1 ∧ pg_zr wd x) → lb1 x = 0) ∧ (¬ (0 ≤ x ∧ K x = 1 ∧ pg_zr wd x) → lb1 x = lb x)) (hPr : ∀ m, m < 64 → (Pr m ↔ K m = 1 ∧ lb1 m ≠ 0)) (hv : pg_iv K lb1 wd Pr 64 lb2) : pg_LB lb2 P' := by
  -- three kinds of mappings
  have hPr2 : ∀ x, x < 64 → (Pr x ↔ K x = 1 ∧ ¬ pg_zr wd x) := by
    intro x hx
    rw [hPr x hx]
    constructor
    · intro z
      exact ⟨z.1, fun w => z.2 ((h1 x hx).1 ⟨Nat.zero_le _, z.1, w⟩)⟩
    · intro z
      refine ⟨z.1, ?_⟩
      rw [(h1 x hx).2 (fun w => z.2 w.2.2), Ne, Y.1.1 x hx]
      intro w
      exact z.2 ((Y.2 x hx).1 w)
  have lbA : ∀ x, x < 64 → Pr x → ∃ r, r < 64 ∧ K r = 1 ∧ P r ≠ -1 ∧ pg_sm wd r x ∧ lb2 x = lb r ∧ lb r ≠ 0 := by
    intro x hx hp
    obtain ⟨r, hr, hpr, hs, e⟩ := hv.1 x hx hp
    have h2 := (hPr2 r hr).1 hpr
    have el : lb1 r = lb r := (h1 r hr).2 (fun w => h2.2 w.2.2)
    have l0 := ((hPr r hr).1 hpr).2
    rw [el] at l0 e
    exact ⟨r, hr, h2.1, fun w => l0 ((Y.1.1 r hr).2 w), hs, e, l0⟩
  have pA : ∀ x, x < 64 → Pr x → ∃ q, q < 18 ∧ P' x = nI q ∧ U' q ≠ 0 ∧ O' q = -1 := by
    intro x hx hp
    have h2 := (hPr2 x hx).1 hp
    rcases (G'.1 x hx).2.2.2.2.1 with z | ⟨q, hq, z, hU, hO⟩
    · exact absurd ((Y' x hx).1 z) h2.2
    · exact ⟨q, hq, z, hU, hO h2.1⟩
  have bB : ∀ x, x < 64 → K x = 1 → ¬ Pr x → lb2 x = 0 ∧ P' x = -1 := by
    intro x hx hK hp
    have hzx : pg_zr wd x := by
      apply Classical.byContradiction
      intro w
      exact hp ((hPr2 x hx).2 ⟨hK, w⟩)
    refine ⟨by rw [hv.2.2 x hx hp, (h1 x hx).1 ⟨Nat.zero_le _, hK, hzx⟩], ?_⟩
    rcases (G'.1 x hx).2.2.2.2.1 with z | ⟨q, hq, z, hU, hO⟩
    · exact z
    · exfalso
      refine hz q hq hU (hO hK) (pg_cv_0 ?_)
      intro j hj
      rw [← (Y' x hx).2 q hq z j hj]
      exact hzx j hj
  have cC : ∀ x, x < 64 → K x ≠ 1 → lb2 x = lb x ∧ P' x = P x := by
    intro x hx hK
    have hp : ¬ Pr x := fun w => hK ((hPr x hx).1 w).1
    exact ⟨by rw [hv.2.2 x hx hp, (h1 x hx).2 (fun w => hK w.2.1)], hmg.2 x hx hK⟩
  -- one of kind 1 and another
  have AC : ∀ x y, x < 64 → y < 64 → Pr x → K y ≠ 1 → lb2 x ≠ lb2 y ∧ P' x ≠ P' y := by
    intro x y hx hy hp hK
    have h2 := (hPr2 x hx).1 hp
    refine ⟨?_, ?_⟩
    · obtain ⟨r, hr, hKr, hPr', _, e, l0⟩ := lbA x hx hp
      rw [e, (cC y hy hK).1]
      intro w
      exact hPr' (pg_GDpb G hr hy hKr hK ((Y.1.2 r y hr hy).1 w))
    · intro w
      have := pg_GDpb G' hx hy h2.1 hK w
      obtain ⟨q, hq, e, _⟩ := pA x hx hp
      rw [e] at this; exact pg_nm (by omega) this
  have AB : ∀ x y, x < 64 → y < 64 → Pr x → K y = 1 → ¬ Pr y → lb2 x ≠ lb2 y ∧ P' x ≠ P' y := by
    intro x y hx hy hp hK hn
    obtain ⟨b1, b2⟩ := bB y hy hK hn
    refine ⟨?_, ?_⟩
    · obtain ⟨r, hr, _, _, _, e, l0⟩ := lbA x hx hp
      rw [e, b1]; exact l0
    · obtain ⟨q, hq, e, _⟩ := pA x hx hp
      rw [e, b2]; exact pg_nm (by omega)
  have AA : ∀ x y, x < 64 → y < 64 → Pr x → Pr y → (lb2 x = lb2 y ↔ P' x = P' y) := by
    intro x y hx hy hp hp'
    obtain ⟨q, hq, e, hU, hO⟩ := pA x hx hp
    obtain ⟨q2, hq2, e2, hU2, hO2⟩ := pA y hy hp'
    constructor
    · intro w
      obtain ⟨r, hr, _, nr, hs, el, _⟩ := lbA x hx hp
      obtain ⟨r2, hr2, _, _, hs2, el2, _⟩ := lbA y hy hp'
      rw [el, el2] at w
      have hrr := (Y.1.2 r r2 hr hr2).1 w
      have hsm : pg_sm wd r r2 := by
        intro j hj
        rcases (G.1 r hr).2.2.2.2.1 with z | ⟨q3, hq3, z, _⟩
        · exact absurd z nr
        · rw [(Y.2 r hr).2 q3 hq3 z j hj, (Y.2 r2 hr2).2 q3 hq3 (by rw [← hrr, z]) j hj]
      have hxy : pg_sm wd x y := pg_smt (pg_sms hs) (pg_smt hsm hs2)
      have hcv : pg_cv W q = pg_cv W q2 := by
        refine pg_cv_c ?_
        intro j hj
        rw [← (Y' x hx).2 q hq e j hj, ← (Y' y hy).2 q2 hq2 e2 j hj]
        exact hxy j hj
      rcases Nat.lt_trichotomy q q2 with w2 | w2 | w2
      · exact absurd hcv.symm (hdj q q2 w2 hq2 hU hO hU2 hO2)
      · rw [e, e2, w2]
      · exact absurd hcv (hdj q2 q w2 hq hU2 hO2 hU hO)
    · intro w
      have hxy : pg_sm wd x y := by
        intro j hj
        rw [(Y' x hx).2 q hq e j hj, (Y' y hy).2 q hq (by rw [← w, e]) j hj]
      exact hv.2.1 x y hx hy hp hp' hxy ⟨x, hx, hp, pg_smr⟩
  refine ⟨?_, ?_⟩
  · intro x hx
    by_cases hK : K x = 1
    · by_cases hp : Pr x
      · obtain ⟨r, hr, _, _, _, e, l0⟩ := lbA x hx hp
        obtain ⟨q, hq, e2, _⟩ := pA x hx hp
        rw [e, e2]
        exact ⟨fun w => absurd w l0, fun w => absurd w (pg_nm (by omega))⟩
      · obtain ⟨b1, b2⟩ := bB x hx hK hp
        rw [b1, b2]; exact ⟨fun _ => rfl, fun _ => rfl⟩
    · obtain ⟨b1, b2⟩ := cC x hx hK
      rw [b1, b2]; exact Y.1.1 x hx
  · intro x y hx hy
    by_cases hK : K x = 1
    · by_cases hp : Pr x
      · by_cases hK' : K y = 1
        · by_cases hp' : Pr y
          · exact AA x y hx hy hp hp'
          · have := AB x y hx hy hp hK' hp'
            exact ⟨fun w => absurd w this.1, fun w => absurd w this.2⟩
        · have := AC x y hx hy hp hK'
          exact ⟨fun w => absurd w this.1, fun w => absurd w this.2⟩
      · by_cases hK' : K y = 1
        · by_cases hp' : Pr y
          · have := AB y x hy hx hp' hK hp
            exact ⟨fun w => absurd w.symm this.1, fun w => absurd w.symm this.2⟩
          · rw [(bB x hx hK hp).1, (bB x hx hK hp).2, (bB y hy hK' hp').1, (bB y hy hK' hp').2]
            exact ⟨fun _ => rfl, fun _ => rfl⟩
        · rw [(bB x hx hK hp).1, (bB x hx hK hp).2, (cC y hy hK').1, (cC y hy hK').2]
          have := Y.1.1 y hy
          exact ⟨fun w => (this.1 w.symm).symm, fun w => (this.2 w.symm).symm⟩
    · by_cases hK' : K y = 1
      · by_cases hp' : Pr y
        · have := AC y x hy hx hp' hK
          exact ⟨fun w => absurd w.symm this.1, fun w => absurd w.symm this.2⟩
        · rw [(bB y hy hK' hp').1, (bB y hy hK' hp').2, (cC x hx hK).1, (cC x hx hK).2]
          exact Y.1.1 x hx
      · rw [(cC x hx hK).1, (cC x hx hK).2, (cC y hy hK').1, (cC y hy hK').2]
        exact Y.1.2 x y hx hy
end
section
variable {u : SX} {v : SY}
theorem pg_vmerge {post : Int32 → SX → Prop} (h : pg_Rel u v) (k : ∀ r v', (∀ q : Int32 → SY → Prop, q r v' → wpY_merge q v) → ∀ u', pg_Rel u' v' → post r u') : wpX_merge post u := by
  revert k
  refine pg_Re (Z := fun u v => (∀ r v', (∀ q : Int32 → SY → Prop, q r v' → wpY_merge q v) → ∀ u', pg_Rel u' v' → post r u') → wpX_merge post u) h ?_
  intro FR SL NC D P Q W U O KP lv K R C lb wd G Y
  refine pg_RXa ?_
  intro f1 f2 NF NH TS TH dr fl fe pk pr pp pc rf he sz nx pv tm tp tf tw hH T C0 t1 t8 hT L k
  have hX : pg_RX FR SL D lv K R C P Q W U O KP NC (f1, f2, nI FR, nI SL, nI (FR + SL - 1), nI NF, nI NC, nI NH, nI TS, nI TH, lv, dr, fl, fe, pk, pr, pp, pc, W, U, rf, O, KP, he, sz, nx, pv, tm, tp, tf, tw) := pg_RXi hH T C0 t1 t8 hT L
  obtain ⟨lb1, h1, h2⟩ := pg_y7 (lim := nI (FR + SL - 1)) (lv := lv) (K := K) (R := R) (C := C) (wd := wd) (x1 := nI NC) 64 0 lb (by omega)
  obtain ⟨lb2, h3, h4⟩ := pg_y73 (lim := nI (FR + SL - 1)) (lv := lv) (K := K) (R := R) (C := C) (wd := wd) (x1 := nI NC) (lb1 := lb1) (Pr := fun m => K m = 1 ∧ lb1 m ≠ 0) (fun m hm => Iff.rfl) 64 0 lb1 (by omega) ⟨fun m hm hp => ⟨m, hm, hp, pg_smr, rfl⟩, fun m m' _ _ _ _ _ hr => absurd hr (fun ⟨r, hr, _⟩ => by omega), fun m hm _ => rfl⟩
  refine ⟨19, ?_⟩
  refine pg_m7 (x1 := nI NC) 18 0 NC P Q U O KP (by omega) hX G Y.2 (fun c hc => absurd hc (by omega)) ?_
  intro P' Q' U' O' KP' NC' hmg hz hdj G' Y' u' h'
  have LB := pg_LBmg G Y G' Y' hmg hz hdj h1 (fun m hm => Iff.rfl) h3
  refine k (nI NC - nI NC') (nI (FR + SL - 1), lv, K, R, C, lb2, wd) (fun q hq => ?_) u' (pg_Ri G' ⟨LB, Y'⟩ h')
  unfold wpY_merge
  dsimp only
  refine pg_yCopies ?_
  rw [pg_cpsNC G Y.1]
  refine ⟨65, h2 q ⟨65, h4 q (pg_yCopies ?_)⟩⟩
  rw [pg_cpsNC G' LB]
  exact hq
end
end
section
def pg_clv (x lo hi : Int32) : Int32 := if lo ≤ x then (if x ≤ hi then x else hi) else lo
theorem pg_clN {x : Int32} {lo hi : Nat} (h1 : lo ≤ hi) (h2 : hi < 100) : ∃ n, lo ≤ n ∧ n ≤ hi ∧ pg_clv x (nI lo) (nI hi) = nI n := by
  unfold pg_clv
  by_cases a : nI lo ≤ x
  · rw [if_pos a]
    by_cases b : x ≤ nI hi
    · rw [if_pos b]
      have h0 : ¬ x < 0 := fun z => by
        have := Int32.lt_of_le_of_lt a z
        exact nI_pos (by omega) this
      obtain ⟨n, hn, rfl⟩ := nI_of h0
      rw [nI_leI (by omega) (by omega)] at a b
      exact ⟨n, a, b, rfl⟩
    · rw [if_neg b]; exact ⟨hi, h1, Nat.le_refl _, rfl⟩
  · rw [if_neg a]; exact ⟨lo, Nat.le_refl _, h1, rfl⟩
theorem pg_clX {post : Int32 → Prop} {x lo hi : Int32} {f1 f2 fr sl lm fc cc hd ts th : Int32} {lv dr fl fe pk pr pp pc W U rf O KP he sz nx pv tm tp tf tw : Nat → Int32} (k : post (pg_clv x lo hi)) : wpX_clamp post (f1, f2, fr, sl, lm, fc, cc, hd, ts, th, lv, dr, fl, fe, pk, pr, pp, pc, W, U, rf, O, KP, he, sz, nx, pv, tm, tp, tf, tw) x lo hi := by
  unfold wpX_clamp
  dsimp only
  unfold pg_clv at k
  refine br_c (fun a => br_c (fun b => ?_) (fun b => ?_)) (fun a => ?_)
  · rwa [if_pos a, if_pos b] at k
  · rwa [if_pos a, if_neg b] at k
  · rwa [if_neg a] at k
theorem pg_yInit {post : SY → Prop} {x y z : Int32} (k : post (pg_clv x 2 6 + pg_clv y 1 12 - 1, fun _ => 0, fun _ => 0, fun _ => 0, fun _ => 0, fun _ => 0, fun _ => 0)) : wpY_init post x y z := by
  have s73 : ∀ f : Int32, f = pg_clv x 2 6 → wY_init_73 post y f 0 (fun _ => 0) (fun _ => 0) (fun _ => 0) (fun _ => 0) (fun _ => 0) (fun _ => 0) := by
    intro f hf
    subst hf
    unfold wY_init_73
    unfold wY_init_96
    have e : ∀ s : Int32, s = pg_clv y 1 12 → post (pg_clv x 2 6 + s - 1, fun _ => 0, fun _ => 0, fun _ => 0, fun _ => 0, fun _ => 0, fun _ => 0) := fun s hs => by rw [hs]; exact k
    refine br_c (fun a => br_c (fun b => nm_e (e _ ?_)) (fun b => nm_e (e _ ?_))) (fun a => nm_e (e _ ?_))
    · unfold pg_clv; rw [if_pos a, if_pos b]
    · unfold pg_clv; rw [if_pos a, if_neg b]
    · unfold pg_clv; rw [if_neg a]
  unfold wpY_init
  refine br_c (fun a => br_c (fun b => s73 _ ?_) (fun b => s73 _ ?_)) (fun a => s73 _ ?_)
  · unfold pg_clv; rw [if_pos a, if_pos b]
  · unfold pg_clv; rw [if_pos a, if_neg b]
  · unfold pg_clv; rw [if_neg a]
section
variable {f1 f2 fr sl lm fc cc hd ts th : Int32} {lv dr fl fe pk pr pp pc W U rf O KP he sz nx pv tm tp tf tw : Nat → Int32}
theorem pg_uj {f : Nat → Int32} {i : Nat} {x : Int32} {P : Nat → Int32 → Prop} (h : ∀ j, j < i → P j (f j)) (hx : P i x) : ∀ j, j < i + 1 → P j (upd f i x j) := by
  intro j hj
  by_cases e : j = i
  · rw [e, pg_us]; exact hx
  · rw [pg_un e]; exact h j (by omega)
theorem pg_i367 {post : SX → Prop} (k : ∀ KP tm : Nat → Int32, (∀ j, j < 8 → KP j = -1) → (∀ j, j < 8 → tm j = -1) → post (f1, f2, fr, sl, lm, fc, cc, hd, ts, th, lv, dr, fl, fe, pk, pr, pp, pc, W, U, rf, O, KP, he, sz, nx, pv, tm, tp, tf, tw)) : ∀ d i (KP tm : Nat → Int32), i + d = 8 → (∀ j, j < i → KP j = -1) → (∀ j, j < i → tm j = -1) → wX_init_367 post f1 f2 fr sl lm fc cc hd ts th (d + 1) (nI i) lv dr fl fe pk pr pp pc W U rf O KP he sz nx pv tm tp tf tw
  | 0, i, KP, tm, e, h1, h2 => br_t (nI_le (a := 8) (by omega) (by omega)) (k KP tm (fun j hj => h1 j (by omega)) (fun j hj => h2 j (by omega)))
  | d + 1, i, KP, tm, e, h1, h2 => by
    have hv : vp_in (nI i) 8 := vp_in_nI (by omega) (by omega)
    refine br_f (nI_ge (b := 8) (by omega) (by omega)) ⟨hv, nm_e ⟨hv, nm_e (nm_r (nI_1 i) ?_)⟩⟩
    rw [nI_clamp (n := i) (by omega)]
    exact pg_i367 k d (i + 1) _ _ (by omega) (pg_uj (P := fun _ x => x = -1) h1 rfl) (pg_uj (P := fun _ x => x = -1) h2 rfl)
theorem pg_i343 {post : SX → Prop} (k : ∀ he : Nat → Int32, (∀ j, j < 26 → he j = -1) → ∃ n367, wX_init_367 post f1 f2 fr sl lm fc cc hd ts th n367 0 lv dr fl fe pk pr pp pc W U rf O KP he sz nx pv tm tp tf tw) : ∀ d i (he : Nat → Int32), i + d = 26 → (∀ j, j < i → he j = -1) → wX_init_343 post f1 f2 fr sl lm fc cc hd ts th (d + 1) (nI i) lv dr fl fe pk pr pp pc W U rf O KP he sz nx pv tm tp tf tw
  | 0, i, he, e, h1 => br_t (nI_le (a := 26) (by omega) (by omega)) (k he (fun j hj => h1 j (by omega)))
  | d + 1, i, he, e, h1 => by
    have hv : vp_in (nI i) 26 := vp_in_nI (by omega) (by omega)
    refine br_f (nI_ge (b := 26) (by omega) (by omega)) ⟨hv, nm_e (nm_r (nI_1 i) ?_)⟩
    rw [nI_clamp (n := i) (by omega)]
    exact pg_i343 k d (i + 1) _ (by omega) (pg_uj (P := fun _ x => x = -1) h1 rfl)
theorem pg_i319 {post : SX → Prop} (k : ∀ O : Nat → Int32, (∀ j, j < 18 → O j = -1) → ∃ n343, wX_init_343 post f1 f2 fr sl lm fc cc hd ts th n343 0 lv dr fl fe pk pr pp pc W U rf O KP he sz nx pv tm tp tf tw) : ∀ d i (O : Nat → Int32), i + d = 18 → (∀ j, j < i → O j = -1) → wX_init_319 post f1 f2 fr sl lm fc cc hd ts th (d + 1) (nI i) lv dr fl fe pk pr pp pc W U rf O KP he sz nx pv tm tp tf tw
  | 0, i, O, e, h1 => br_t (nI_le (a := 18) (by omega) (by omega)) (k O (fun j hj => h1 j (by omega)))
  | d + 1, i, O, e, h1 => by
    have hv : vp_in (nI i) 18 := vp_in_nI (by omega) (by omega)
    refine br_f (nI_ge (b := 18) (by omega) (by omega)) ⟨hv, nm_e (nm_r (nI_1 i) ?_)⟩
    rw [nI_clamp (n := i) (by omega)]
    exact pg_i319 k d (i + 1) _ (by omega) (pg_uj (P := fun _ x => x = -1) h1 rfl)
theorem pg_i279 {post : SX → Prop} (k : ∀ pp nx pv : Nat → Int32, ∃ n319, wX_init_319 post f1 f2 fr sl lm fc cc hd ts th n319 0 lv dr fl fe pk pr pp pc W U rf O KP he sz nx pv tm tp tf tw) : ∀ d i (pp nx pv : Nat → Int32), i + d = 64 → wX_init_279 post f1 f2 fr sl lm fc cc hd ts th (d + 1) (nI i) lv dr fl fe pk pr pp pc W U rf O KP he sz nx pv tm tp tf tw
  | 0, i, pp, nx, pv, e => br_t (nI_le (a := 64) (by omega) (by omega)) (k pp nx pv)
  | d + 1, i, pp, nx, pv, e => by
    have hv : vp_in (nI i) 64 := vp_in_nI (by omega) (by omega)
    refine br_f (nI_ge (b := 64) (by omega) (by omega)) ⟨hv, nm_e ⟨hv, nm_e ⟨hv, nm_e (nm_r (nI_1 i) ?_)⟩⟩⟩
    exact pg_i279 k d (i + 1) _ _ _ (by omega)
theorem pg_i237 {post : SX → Prop} (k : ∀ dr fe : Nat → Int32, (∀ j, j < 16 → dr j = -1) → (∀ j, j < 16 → fe j = nI (15 - j)) → ∃ n279, wX_init_279 post f1 f2 fr sl lm 16 cc hd ts th n279 0 lv dr fl fe pk pr pp pc W U rf O KP he sz nx pv tm tp tf tw) : ∀ d i (dr fe : Nat → Int32), i + d = 16 → (∀ j, j < i → dr j = -1) → (∀ j, j < i → fe j = nI (15 - j)) → wX_init_237 post f1 f2 fr sl lm fc cc hd ts th (d + 1) (nI i) lv dr fl fe pk pr pp pc W U rf O KP he sz nx pv tm tp tf tw
  | 0, i, dr, fe, e, h1, h2 => br_t (nI_le (a := 16) (by omega) (by omega)) (k dr fe (fun j hj => h1 j (by omega)) (fun j hj => h2 j (by omega)))
  | d + 1, i, dr, fe, e, h1, h2 => by
    have hv : vp_in (nI i) 16 := vp_in_nI (by omega) (by omega)
    have e15 : (15 : Int32) - nI i = nI (15 - i) := pk_sub (a := 15) (by omega)
    refine br_f (nI_ge (b := 16) (by omega) (by omega)) ⟨hv, nm_e ⟨hv, nm_e (nm_r (nI_1 i) ?_)⟩⟩
    rw [nI_clamp (n := i) (by omega), e15]
    exact pg_i237 k d (i + 1) _ _ (by omega) (pg_uj (P := fun _ x => x = -1) h1 rfl) (pg_uj (P := fun j x => x = nI (15 - j)) h2 rfl)
end
theorem pg_G0 {FR SL : Nat} {O KP : Nat → Int32} (g : 2 ≤ FR ∧ FR ≤ 6 ∧ 1 ≤ SL ∧ SL ≤ 12) (hKP : ∀ j, j < 8 → KP j = -1) : pg_GD FR SL (fun _ => 0) (fun _ => 0) (fun _ => 0) (fun _ => 0) (fun _ => -1) (fun _ => -1) (fun _ => 0) (fun _ => 0) O KP 0 := by
  refine ⟨?_, fun q hq z => absurd rfl z, fun k hk => Or.inl (hKP k hk), fun i hi => ⟨0, by omega, rfl⟩, ⟨?_, by omega⟩, fun p hp _ j hj => rfl, g⟩
  · intro m hm
    exact ⟨⟨0, by omega, rfl⟩, Or.inl rfl, fun _ => ⟨rfl, rfl, rfl⟩, pg_chn_0.symm, Or.inl rfl, fun k hk z => absurd (show nI 0 = nI (k + 2) from z) (by rw [nI_eq (by omega) (by omega)]; omega)⟩
  · rw [pg_cn_zero]
    intro i hi
    rfl
theorem pg_R0 {FR SL TS : Nat} {f1 f2 : Int32} {dr fe pp nx pv O KP he tm : Nat → Int32} (g : 2 ≤ FR) (t1 : 1 ≤ TS) (t8 : TS ≤ 8) (h1 : ∀ j, j < 16 → dr j = -1) (h2 : ∀ j, j < 16 → fe j = nI (15 - j)) (h3 : ∀ j, j < 26 → he j = -1) (h4 : ∀ j, j < 8 → tm j = -1) :
    pg_RX FR SL (fun _ => 0) (fun _ => 0) (fun _ => 0) (fun _ => 0) (fun _ => 0) (fun _ => -1) (fun _ => -1) (fun _ => 0) (fun _ => 0) O KP 0 (f1, f2, nI FR, nI SL, nI (FR + SL - 1), 16, 0, 0, nI TS, 0, fun _ => 0, dr, fun _ => 0, fe, fun _ => 0, fun _ => 0, pp, fun _ => 0, fun _ => 0, fun _ => 0, fun _ => 0, O, KP, he, fun _ => 0, nx, pv, tm, fun _ => 0, fun _ => 0, fun _ => 0) := by
  refine pg_RXi (NF := 16) (NH := 0) (TS := TS) (TH := 0) (by omega) ?_ ?_ t1 t8 (by omega) ?_
  · refine ⟨fun d hd => Or.inl ⟨h1 d hd, fun j hj => rfl⟩, fun d d' hd _ z => absurd (h1 d hd) z, fun m hm z => absurd rfl z, ?_, ?_, ?_⟩
    · intro i hi
      exact ⟨15 - i, by omega, h2 i hi, fun j hj => rfl, fun d hd z => absurd (h1 d hd) z⟩
    · intro i i' hi hi' e
      rw [h2 i hi, h2 i' hi', nI_eq (by omega) (by omega)] at e
      omega
    · have := pg_cn_blk (p := fun d => decide (dr d = -1)) (a := 0) (k := 16) (fun i _ hi => decide_eq_true (h1 i (by omega)))
      exact this
  · refine ⟨fun _ => [], fun c hc => ⟨List.nodup_nil, ?_, h3 c hc, rfl, trivial⟩⟩
    intro m
    constructor
    · intro z; simp at z
    · intro z; exact absurd z.2 (pg_mn (by omega))
  · refine ⟨fun t ht => Or.inl (h4 t (by omega)), fun t t' m ht _ hm e => ?_⟩
    rw [h4 t (by omega)] at e
    exact absurd e (pg_mn (by omega))
theorem pg_vinit (x y z : Int32) : wpX_init (fun u => wpY_init (fun v => pg_Rel u v) x y z) x y z := by
  obtain ⟨FR, a1, a2, eF⟩ := pg_clN (x := x) (lo := 2) (hi := 6) (by omega) (by omega)
  obtain ⟨SL, b1, b2, eS⟩ := pg_clN (x := y) (lo := 1) (hi := 12) (by omega) (by omega)
  obtain ⟨TS, c1, c2, eT⟩ := pg_clN (x := z) (lo := 1) (hi := 8) (by omega) (by omega)
  have eF' : pg_clv x 2 6 = nI FR := eF
  have eS' : pg_clv y 1 12 = nI SL := eS
  have eT' : pg_clv z 1 8 = nI TS := eT
  have el : nI FR + nI SL - 1 = nI (FR + SL - 1) := by
    rw [nI_add]
    obtain ⟨n, hn⟩ : ∃ n, FR + SL = n + 1 := ⟨FR + SL - 1, by omega⟩
    rw [hn, nI_pred]; rfl
  unfold wpX_init
  refine pg_clX ?_
  refine pg_clX ?_
  refine pg_clX ?_
  rw [eF', eS', eT']
  refine nm_r el ⟨17, ?_⟩
  refine pg_i237 ?_ 16 0 (fun _ => 0) (fun _ => 0) (by omega) (fun j hj => absurd hj (by omega)) (fun j hj => absurd hj (by omega))
  intro dr fe hd1 hd2
  refine ⟨65, pg_i279 ?_ 64 0 (fun _ => 0) (fun _ => 0) (fun _ => 0) (by omega)⟩
  intro pp nx pv
  refine ⟨19, pg_i319 ?_ 18 0 (fun _ => 0) (by omega) (fun j hj => absurd hj (by omega))⟩
  intro O hO
  refine ⟨27, pg_i343 ?_ 26 0 (fun _ => 0) (by omega) (fun j hj => absurd hj (by omega))⟩
  intro he hhe
  refine ⟨9, pg_i367 ?_ 8 0 (fun _ => 0) (fun _ => 0) (by omega) (fun j hj => absurd hj (by omega)) (fun j hj => absurd hj (by omega))⟩
  intro KP tm hKP htm
  refine pg_yInit ?_
  rw [eF', eS', el]
  refine pg_Ri (P := fun _ => -1) (Q := fun _ => -1) (W := fun _ => 0) (U := fun _ => 0) (O := O) (KP := KP) (NC := 0) (D := fun _ => 0) (pg_G0 ⟨a1, a2, b1, b2⟩ hKP) ⟨⟨fun m hm => ⟨fun _ => rfl, fun _ => rfl⟩, fun m m' hm hm' => ⟨fun _ => rfl, fun _ => rfl⟩⟩, fun m hm => ⟨fun _ w hw => rfl, fun q hq e => absurd e (pg_mn (by omega))⟩⟩ (pg_R0 a1 c1 c2 hd1 hd2 hhe htm)
end
section
def i_Rel (_ : Nat) (u : SX) (v : SY) : Prop := pg_Rel u v
theorem i_up {k : Nat} {u : SX} {v : SY} (h : i_Rel k u v) : i_Rel (k + 5) u v := h
theorem i_vc0 (k0 : Int32) (k1 : Int32) (k2 : Int32) : wpX_init (fun u => wpY_init (fun v => i_Rel 3 u v) k0 k1 k2) k0 k1 k2 := pg_vinit k0 k1 k2
theorem i_vc_spawn {k : Nat} {u : SX} {v : SY} (I : i_Rel k u v) (hk : k + 5 ≤ 2563) : wpX_spawn (fun r u' => wpY_spawn (fun r' v' => r' = r ∧ i_Rel (k + 5) u' v') v) u := pg_vspawn I (fun r v' hq u' hr => hq _ ⟨rfl, hr⟩)
theorem i_vc_fork {k : Nat} {u : SX} {v : SY} (I : i_Rel k u v) (hk : k + 5 ≤ 2563) (v1 : Int32) : wpX_fork (fun r u' => wpY_fork (fun r' v' => r' = r ∧ i_Rel (k + 5) u' v') v v1) u v1 := pg_vfork I (fun r v' hq u' hr => hq _ ⟨rfl, hr⟩)
theorem i_vc_exit {k : Nat} {u : SX} {v : SY} (I : i_Rel k u v) (hk : k + 5 ≤ 2563) (v1 : Int32) : wpX_exit (fun r u' => wpY_exit (fun r' v' => r' = r ∧ i_Rel (k + 5) u' v') v v1) u v1 := pg_vexit I (fun r v' hq u' hr => hq _ ⟨rfl, hr⟩)
theorem i_vc_map {k : Nat} {u : SX} {v : SY} (I : i_Rel k u v) (hk : k + 5 ≤ 2563) (v1 : Int32) (v2 : Int32) (v3 : Int32) (v4 : Int32) : wpX_map (fun r u' => wpY_map (fun r' v' => r' = r ∧ i_Rel (k + 5) u' v') v v1 v2 v3 v4) u v1 v2 v3 v4 := pg_vmap I (fun r v' hq u' hr => hq _ ⟨rfl, hr⟩)
theorem i_vc_mapShared {k : Nat} {u : SX} {v : SY} (I : i_Rel k u v) (hk : k + 5 ≤ 2563) (v1 : Int32) (v2 : Int32) (v3 : Int32) (v4 : Int32) : wpX_mapShared (fun r u' => wpY_mapShared (fun r' v' => r' = r ∧ i_Rel (k + 5) u' v') v v1 v2 v3 v4) u v1 v2 v3 v4 := pg_vmapShared I (fun r v' hq u' hr => hq _ ⟨rfl, hr⟩)
theorem i_vc_unmap {k : Nat} {u : SX} {v : SY} (I : i_Rel k u v) (hk : k + 5 ≤ 2563) (v1 : Int32) (v2 : Int32) (v3 : Int32) : wpX_unmap (fun r u' => wpY_unmap (fun r' v' => r' = r ∧ i_Rel (k + 5) u' v') v v1 v2 v3) u v1 v2 v3 := pg_vunmap I (fun r v' hq u' hr => hq _ ⟨rfl, hr⟩)
theorem i_vc_protect {k : Nat} {u : SX} {v : SY} (I : i_Rel k u v) (hk : k + 5 ≤ 2563) (v1 : Int32) (v2 : Int32) (v3 : Int32) (v4 : Int32) : wpX_protect (fun r u' => wpY_protect (fun r' v' => r' = r ∧ i_Rel (k + 5) u' v') v v1 v2 v3 v4) u v1 v2 v3 v4 := pg_vprotect I (fun r v' hq u' hr => hq _ ⟨rfl, hr⟩)
theorem i_vc_move {k : Nat} {u : SX} {v : SY} (I : i_Rel k u v) (hk : k + 5 ≤ 2563) (v1 : Int32) (v2 : Int32) (v3 : Int32) : wpX_move (fun r u' => wpY_move (fun r' v' => r' = r ∧ i_Rel (k + 5) u' v') v v1 v2 v3) u v1 v2 v3 := pg_vmove I (fun r v' hq u' hr => hq _ ⟨rfl, hr⟩)
theorem i_vc_discard {k : Nat} {u : SX} {v : SY} (I : i_Rel k u v) (hk : k + 5 ≤ 2563) (v1 : Int32) (v2 : Int32) (v3 : Int32) : wpX_discard (fun r u' => wpY_discard (fun r' v' => r' = r ∧ i_Rel (k + 5) u' v') v v1 v2 v3) u v1 v2 v3 := pg_vdiscard I (fun r v' hq u' hr => hq _ ⟨rfl, hr⟩)
theorem i_vc_load {k : Nat} {u : SX} {v : SY} (I : i_Rel k u v) (hk : k + 5 ≤ 2563) (v1 : Int32) (v2 : Int32) : wpX_load (fun r u' => wpY_load (fun r' => r' = r ∧ i_Rel (k + 5) u' v) v v1 v2) u v1 v2 := pg_vload I (fun r hq u' hr => hq _ ⟨rfl, hr⟩)
theorem i_vc_store {k : Nat} {u : SX} {v : SY} (I : i_Rel k u v) (hk : k + 5 ≤ 2563) (v1 : Int32) (v2 : Int32) (v3 : Int32) : wpX_store (fun r u' => wpY_store (fun r' v' => r' = r ∧ i_Rel (k + 5) u' v') v v1 v2 v3) u v1 v2 v3 := pg_vstore I (fun r v' hq u' hr => hq _ ⟨rfl, hr⟩)
theorem i_vc_fill {k : Nat} {u : SX} {v : SY} (I : i_Rel k u v) (hk : k + 5 ≤ 2563) (v1 : Int32) (v2 : Int32) (v3 : Int32) (v4 : Int32) : wpX_fill (fun r u' => wpY_fill (fun r' v' => r' = r ∧ i_Rel (k + 5) u' v') v v1 v2 v3 v4) u v1 v2 v3 v4 := pg_vfill I (fun r v' hq u' hr => hq _ ⟨rfl, hr⟩)
theorem i_vc_copy {k : Nat} {u : SX} {v : SY} (I : i_Rel k u v) (hk : k + 5 ≤ 2563) (v1 : Int32) (v2 : Int32) (v3 : Int32) (v4 : Int32) : wpX_copy (fun r u' => wpY_copy (fun r' v' => r' = r ∧ i_Rel (k + 5) u' v') v v1 v2 v3 v4) u v1 v2 v3 v4 := pg_vcopy I (fun r v' hq u' hr => hq _ ⟨rfl, hr⟩)
theorem i_vc_merge {k : Nat} {u : SX} {v : SY} (I : i_Rel k u v) (hk : k + 5 ≤ 2563) : wpX_merge (fun r u' => wpY_merge (fun r' v' => r' = r ∧ i_Rel (k + 5) u' v') v) u := pg_vmerge I (fun r v' hq u' hr => hq _ ⟨rfl, hr⟩)
theorem i_vc_clearChanged {k : Nat} {u : SX} {v : SY} (I : i_Rel k u v) (hk : k + 5 ≤ 2563) (v1 : Int32) : wpX_clearChanged (fun r u' => wpY_clearChanged (fun r' v' => r' = r ∧ i_Rel (k + 5) u' v') v v1) u v1 := pg_vclear I (fun r v' hq u' hr => hq _ ⟨rfl, hr⟩)
theorem i_vc_kind {k : Nat} {u : SX} {v : SY} (I : i_Rel k u v) (hk : k + 5 ≤ 2563) (v1 : Int32) (v2 : Int32) : wpX_kind (fun r => wpY_kind (fun r' => r' = r ∧ i_Rel (k + 5) u v) v v1 v2) u v1 v2 := pg_vkind I (fun r hq => hq _ ⟨rfl, I⟩)
theorem i_vc_rights {k : Nat} {u : SX} {v : SY} (I : i_Rel k u v) (hk : k + 5 ≤ 2563) (v1 : Int32) (v2 : Int32) : wpX_rights (fun r => wpY_rights (fun r' => r' = r ∧ i_Rel (k + 5) u v) v v1 v2) u v1 v2 := pg_vrights I (fun r hq => hq _ ⟨rfl, I⟩)
theorem i_vc_changed {k : Nat} {u : SX} {v : SY} (I : i_Rel k u v) (hk : k + 5 ≤ 2563) (v1 : Int32) (v2 : Int32) : wpX_changed (fun r => wpY_changed (fun r' => r' = r ∧ i_Rel (k + 5) u v) v v1 v2) u v1 v2 := pg_vchanged I (fun r hq => hq _ ⟨rfl, I⟩)
theorem i_vc_sharers {k : Nat} {u : SX} {v : SY} (I : i_Rel k u v) (hk : k + 5 ≤ 2563) (v1 : Int32) (v2 : Int32) : wpX_sharers (fun r => wpY_sharers (fun r' => r' = r ∧ i_Rel (k + 5) u v) v v1 v2) u v1 v2 := pg_vsharers I (fun r hq => hq _ ⟨rfl, I⟩)
theorem i_vc_nextSharer {k : Nat} {u : SX} {v : SY} (I : i_Rel k u v) (hk : k + 5 ≤ 2563) (v1 : Int32) (v2 : Int32) (v3 : Int32) : wpX_nextSharer (fun r => wpY_nextSharer (fun r' => r' = r ∧ i_Rel (k + 5) u v) v v1 v2 v3) u v1 v2 v3 := pg_vnextSharer I (fun r hq => hq _ ⟨rfl, I⟩)
theorem i_vc_peek {k : Nat} {u : SX} {v : SY} (I : i_Rel k u v) (hk : k + 5 ≤ 2563) (v1 : Int32) (v2 : Int32) : wpX_peek (fun r => wpY_peek (fun r' => r' = r ∧ i_Rel (k + 5) u v) v v1 v2) u v1 v2 := pg_vpeek I (fun r hq => hq _ ⟨rfl, I⟩)
theorem i_vc_copies {k : Nat} {u : SX} {v : SY} (I : i_Rel k u v) (hk : k + 5 ≤ 2563) : wpX_copies (fun r => wpY_copies (fun r' => r' = r ∧ i_Rel (k + 5) u v) v) u := pg_vcopies I (fun r hq => hq _ ⟨rfl, I⟩)
end
