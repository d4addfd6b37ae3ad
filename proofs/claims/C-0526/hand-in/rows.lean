section
/-! rows of the kit (PURE-ROWS), pasted: stores, nI arithmetic, branches by naturals, masks, shifts; pk_least -/
theorem pk_us {f : Nat → Int32} {k : Nat} {x : Int32} : upd f k x k = x := if_pos rfl
theorem pk_un {f : Nat → Int32} {k j : Nat} {x : Int32} (h : j ≠ k) : upd f k x j = f j := if_neg h
theorem pk_sub {a b : Nat} (h : b ≤ a) : nI a - nI b = nI (a - b) := by
  obtain ⟨c, rfl⟩ : ∃ c, a = c + b := ⟨a - b, by omega⟩
  rw [← nI_add, Int32.add_sub_cancel, Nat.add_sub_cancel]
theorem pk_m1 (n : Nat) : nI (n + 1) + (-1) = nI n := by
  rw [← nI_1, Int32.add_assoc, show (1 : Int32) + (-1) = 0 from rfl, Int32.add_zero]
theorem pk_mul (a b : Nat) : nI a * nI b = nI (a * b) := (Int32.ofNat_mul a b).symm
theorem pk_div {a d : Nat} (ha : a < 2 ^ 31) (h0 : 0 < d) (hd : d < 2 ^ 31) : nI a / nI d = nI (a / d) := by
  apply Int32.toInt_inj.mp
  rw [lg_idiv_nonneg (by rw [nI_toInt ha]; omega) (by rw [nI_toInt hd]; omega), nI_toInt ha, nI_toInt hd, nI_toInt (Nat.lt_of_le_of_lt (Nat.div_le_self a d) ha)]
  first | rfl | exact (Int.natCast_ediv _ _).symm
theorem pk_rem {a d : Nat} (ha : a < 2 ^ 31) (h0 : 0 < d) (hd : d < 2 ^ 31) : nI a - nI a / nI d * nI d = nI (a % d) := by
  rw [pk_div ha h0 hd, pk_mul, pk_sub (Nat.div_mul_le_self a d)]
  exact congrArg nI (by have := Nat.div_add_mod' a d; omega)
theorem pk_sub_toInt {a b : Nat} (ha : a < 2 ^ 30) (hb : b < 2 ^ 30) : (nI a - nI b).toInt = (a : Int) - b := by
  rw [Int32.toInt_sub, nI_toInt (by omega), nI_toInt (by omega)]
  exact Int.bmod_eq_of_le (by omega) (by omega)
theorem pk_sneg {a b : Nat} (hb : b < 2 ^ 30) (h : a < b) : nI a - nI b < 0 := by
  rw [Int32.lt_iff_toInt_lt, pk_sub_toInt (by omega) hb, show (0 : Int32).toInt = 0 from by decide]
  omega
theorem pk_ix (x : Int32) {n : Nat} (hn : n < 2 ^ 31) : x < 0 ∨ nI n ≤ x ∨ ∃ j : Nat, j < n ∧ x = nI j := by
  by_cases h : x < 0
  · exact Or.inl h
  · obtain ⟨j, hj, rfl⟩ := nI_of h
    by_cases h2 : j < n
    · exact Or.inr (Or.inr ⟨j, h2, rfl⟩)
    · exact Or.inr (Or.inl (nI_le (by omega) hj))
theorem pk_le {x y : Int32} {A B : Prop} (a b : Nat) (f : a ≤ b → A) (g : b < a → B) (hx : x = nI a := by rfl) (hy : y = nI b := by rfl) (ha : a < 2 ^ 31 := by omega) (hb : b < 2 ^ 31 := by omega) : (x ≤ y → A) ∧ (¬ x ≤ y → B) := by
  subst hx hy
  rw [nI_leI ha hb]
  exact ⟨f, fun z => g (by omega)⟩
theorem pk_lt {x y : Int32} {A B : Prop} (a b : Nat) (f : a < b → A) (g : b ≤ a → B) (hx : x = nI a := by rfl) (hy : y = nI b := by rfl) (ha : a < 2 ^ 31 := by omega) (hb : b < 2 ^ 31 := by omega) : (x < y → A) ∧ (¬ x < y → B) := by
  subst hx hy
  rw [nI_ltI ha hb]
  exact ⟨f, fun z => g (by omega)⟩
theorem pk_eq {x y : Int32} {A B : Prop} (a b : Nat) (f : a = b → A) (g : a ≠ b → B) (hx : x = nI a := by rfl) (hy : y = nI b := by rfl) (ha : a < 2 ^ 31 := by omega) (hb : b < 2 ^ 31 := by omega) : (x = y → A) ∧ (¬ x = y → B) := by
  subst hx hy
  rw [nI_eq ha hb]
  exact ⟨f, g⟩
theorem pk_in {x : Int32} (n N : Nat) (h : n < N) (hx : x = nI n := by rfl) (hN : N < 2 ^ 31 := by omega) : vp_in x N := by
  subst hx
  exact vp_in_nI h hN
theorem pk_cl {x : Int32} (n : Nat) (hx : x = nI n := by rfl) (h : n < 2 ^ 31 := by omega) : x.toNatClampNeg = n := by
  subst hx
  exact nI_clamp h
theorem pk_tn {n : Nat} (h : n < 2 ^ 32) : (nI n).toBitVec.toNat = n := Nat.mod_eq_of_lt h
theorem pk_and (x : Int32) {m : Int32} (k : Nat) (hm : m.toBitVec.toNat = 2 ^ k - 1) : x &&& m = nI (x.toBitVec.toNat % 2 ^ k) := by
  apply Int32.toBitVec_inj.mp
  apply BitVec.eq_of_toNat_eq
  rw [Int32.toBitVec_and, BitVec.toNat_and, hm, Nat.and_two_pow_sub_one_eq_mod]
  show _ = (BitVec.ofNat 32 _).toNat
  rw [BitVec.toNat_ofNat]
  exact (Nat.mod_eq_of_lt (Nat.lt_of_le_of_lt (Nat.mod_le _ _) x.toBitVec.isLt)).symm
theorem pk_andN {n : Nat} (h : n < 2 ^ 32) {m : Int32} (k : Nat) (hm : m.toBitVec.toNat = 2 ^ k - 1) : nI n &&& m = nI (n % 2 ^ k) := by
  rw [pk_and _ k hm, pk_tn h]
theorem pk_andE (x : Int32) {m : Int32} (k : Nat) (hm : m.toBitVec.toNat = 2 ^ k - 1) : ∃ j : Nat, j < 2 ^ k ∧ x &&& m = nI j := ⟨_, Nat.mod_lt _ (Nat.two_pow_pos k), pk_and x k hm⟩
theorem pk_andIn (x : Int32) {m : Int32} (k : Nat) (hm : m.toBitVec.toNat = 2 ^ k - 1) (hk : k ≤ 30) : vp_in (x &&& m) (2 ^ k) := by
  obtain ⟨j, hj, e⟩ := pk_andE x k hm
  rw [e]
  exact vp_in_nI hj (Nat.lt_of_le_of_lt (Nat.pow_le_pow_right (by decide) hk) (by decide))
theorem pk_shl (a s : Int32) (k : Nat) (hs : (s.toBitVec.smod 32).toNat = k) : (a <<< s).toBitVec.toNat = a.toBitVec.toNat * 2 ^ k % 2 ^ 32 := by
  show (a.toBitVec <<< (s.toBitVec.smod 32).toNat).toNat = _
  rw [hs, BitVec.toNat_shiftLeft, Nat.shiftLeft_eq]
theorem pk_shlN {n : Nat} (s : Int32) (k : Nat) (hs : (s.toBitVec.smod 32).toNat = k) (h : n * 2 ^ k < 2 ^ 32) : nI n <<< s = nI (n * 2 ^ k) := by
  apply Int32.toBitVec_inj.mp
  apply BitVec.eq_of_toNat_eq
  have hn : n < 2 ^ 32 := Nat.lt_of_le_of_lt (Nat.le_mul_of_pos_right n (Nat.two_pow_pos k)) h
  rw [pk_shl _ _ k hs, pk_tn hn, pk_tn h, Nat.mod_eq_of_lt h]
theorem pk_shr (a s : Int32) (k : Nat) (hs : (s.toBitVec.smod 32).toNat = k) : (a >>> s).toInt = a.toInt >>> k := by
  show (a.toBitVec.sshiftRight (s.toBitVec.smod 32).toNat).toInt = _
  rw [hs, BitVec.toInt_sshiftRight]
  rfl
theorem pk_shrN {n : Nat} (h : n < 2 ^ 31) (s : Int32) (k : Nat) (hs : (s.toBitVec.smod 32).toNat = k) : nI n >>> s = nI (n / 2 ^ k) := by
  apply Int32.toInt_inj.mp
  have h2 : n / 2 ^ k ≤ n := Nat.div_le_self _ _
  rw [pk_shr _ _ k hs, nI_toInt h, nI_toInt (by omega), Int.shiftRight_eq_div_pow]
  rfl
theorem pk_ushr (x s : Int32) (k : Nat) (hs : ((s.toUInt32 &&& Int32.toUInt32 31).toBitVec % 32).toNat = k) : (x.toUInt32 >>> (s.toUInt32 &&& Int32.toUInt32 31)).toInt32.toBitVec.toNat = x.toBitVec.toNat / 2 ^ k := by
  have e : (x.toUInt32 >>> (s.toUInt32 &&& Int32.toUInt32 31)).toInt32.toBitVec = x.toBitVec >>> k := by
    rw [← hs]
    exact UInt32.toBitVec_shiftRight _ _
  rw [e, BitVec.toNat_ushiftRight, Nat.shiftRight_eq_div_pow]
theorem pk_ushrN {n : Nat} (hn : n < 2 ^ 32) (s : Int32) (k : Nat) (hs : ((s.toUInt32 &&& Int32.toUInt32 31).toBitVec % 32).toNat = k) : ((nI n).toUInt32 >>> (s.toUInt32 &&& Int32.toUInt32 31)).toInt32 = nI (n / 2 ^ k) := by
  apply Int32.toBitVec_inj.mp
  apply BitVec.eq_of_toNat_eq
  rw [pk_ushr _ s k hs, pk_tn hn, pk_tn (Nat.lt_of_le_of_lt (Nat.div_le_self _ _) hn)]
theorem pk_least (P : Nat → Prop) (h : ∃ k, P k) : ∃ k, P k ∧ ∀ j, j < k → ¬ P j := by
  obtain ⟨k, hk⟩ := h
  induction k using Nat.strongRecOn with
  | ind k ih =>
    by_cases e : ∃ j, j < k ∧ P j
    · obtain ⟨j, hj, pj⟩ := e
      exact ih j hj pj
    · exact ⟨k, hk, fun j hj pj => e ⟨j, hj, pj⟩⟩
end
section
/-! counting: how many i < n have p i; an injective relation gives ≤; pigeons -/
noncomputable def um_b (p : Prop) : Nat := @ite Nat p (Classical.propDecidable p) 1 0
theorem um_b1 {p : Prop} (h : p) : um_b p = 1 := @if_pos p (Classical.propDecidable p) h Nat 1 0
theorem um_b0 {p : Prop} (h : ¬ p) : um_b p = 0 := @if_neg p (Classical.propDecidable p) h Nat 1 0
theorem um_b_congr {p q : Prop} (h : p ↔ q) : um_b p = um_b q := by
  by_cases hq : q
  · rw [um_b1 hq, um_b1 (h.mpr hq)]
  · rw [um_b0 hq, um_b0 (fun z => hq (h.mp z))]
noncomputable def um_cn (p : Nat → Prop) : Nat → Nat
  | 0 => 0
  | n + 1 => um_cn p n + um_b (p n)
theorem um_cn_0 (p : Nat → Prop) : um_cn p 0 = 0 := rfl
theorem um_cn_s (p : Nat → Prop) (n : Nat) : um_cn p (n + 1) = um_cn p n + um_b (p n) := rfl
theorem um_cn_t {p : Nat → Prop} {n : Nat} (h : p n) : um_cn p (n + 1) = um_cn p n + 1 := by rw [um_cn_s, um_b1 h]
theorem um_cn_f {p : Nat → Prop} {n : Nat} (h : ¬ p n) : um_cn p (n + 1) = um_cn p n := by rw [um_cn_s, um_b0 h]; rfl
theorem um_cn_le (p : Nat → Prop) (n : Nat) : um_cn p n ≤ n := by
  induction n with
  | zero => exact Nat.le_refl 0
  | succ n ih =>
    by_cases h : p n
    · rw [um_cn_t h]; omega
    · rw [um_cn_f h]; omega
theorem um_cn_congr {p q : Nat → Prop} : ∀ n : Nat, (∀ i, i < n → (p i ↔ q i)) → um_cn p n = um_cn q n := by
  intro n
  induction n with
  | zero => intro _; rfl
  | succ n ih =>
    intro h
    rw [um_cn_s, um_cn_s, ih (fun i hi => h i (by omega)), um_b_congr (h n (by omega))]
theorem um_cn_pos {p : Nat → Prop} : ∀ n : Nat, 0 < um_cn p n → ∃ i, i < n ∧ p i := by
  intro n
  induction n with
  | zero => intro h; exact absurd h (Nat.lt_irrefl 0)
  | succ n ih =>
    intro h
    by_cases hp : p n
    · exact ⟨n, by omega, hp⟩
    · rw [um_cn_f hp] at h
      obtain ⟨i, hi, pi⟩ := ih h
      exact ⟨i, by omega, pi⟩
theorem um_cn_all {p : Nat → Prop} : ∀ n : Nat, (∀ i, i < n → p i) → um_cn p n = n := by
  intro n
  induction n with
  | zero => intro _; rfl
  | succ n ih =>
    intro h
    rw [um_cn_t (h n (by omega)), ih (fun i hi => h i (by omega))]
theorem um_cn_rm {q : Nat → Prop} {j : Nat} (h : q j) : ∀ m : Nat, j < m → um_cn (fun i => q i ∧ i ≠ j) m + 1 = um_cn q m := by
  intro m
  induction m with
  | zero => intro hj; omega
  | succ m ih =>
    intro hj
    by_cases e : j = m
    · subst e
      rw [um_cn_t (p := q) h, um_cn_f (p := fun i => q i ∧ i ≠ j) (n := j) (fun z => z.2 rfl)]
      have := um_cn_congr (p := fun i => q i ∧ i ≠ j) (q := q) j (fun i hi => ⟨fun z => z.1, fun z => ⟨z, by omega⟩⟩)
      omega
    · have ih := ih (by omega)
      have e2 : um_b (q m ∧ m ≠ j) = um_b (q m) := um_b_congr ⟨fun z => z.1, fun z => ⟨z, fun w => e w.symm⟩⟩
      rw [um_cn_s, um_cn_s, e2]
      omega
theorem um_cn_inj {R : Nat → Nat → Prop} {p : Nat → Prop} : ∀ (n m : Nat) (q : Nat → Prop), (∀ i, i < n → p i → ∃ j, j < m ∧ q j ∧ R i j) → (∀ i i' j, i < n → i' < n → p i → p i' → R i j → R i' j → i = i') → um_cn p n ≤ um_cn q m := by
  intro n
  induction n with
  | zero => intro m q _ _; exact Nat.zero_le _
  | succ n ih =>
    intro m q ht hu
    by_cases hp : p n
    · obtain ⟨j, hj, hq, hR⟩ := ht n (by omega) hp
      have h1 := ih m (fun i => q i ∧ i ≠ j) (fun i hi hpi => by
        obtain ⟨j', hj', hq', hR'⟩ := ht i (by omega) hpi
        refine ⟨j', hj', ⟨hq', fun e => ?_⟩, hR'⟩
        subst e
        have := hu i n j' (by omega) (by omega) hpi hp hR' hR
        omega) (fun i i' j hi hi' => hu i i' j (by omega) (by omega))
      have h2 := um_cn_rm hq m hj
      rw [um_cn_t hp]
      omega
    · rw [um_cn_f hp]
      exact ih m q (fun i hi => ht i (by omega)) (fun i i' j hi hi' => hu i i' j (by omega) (by omega))
theorem um_pig {R : Nat → Nat → Prop} {n m : Nat} (h : m < n) (ht : ∀ i, i < n → ∃ j, j < m ∧ R i j) : ∃ i i' j, i < i' ∧ i' < n ∧ R i j ∧ R i' j := by
  by_cases hc : ∃ i i' j, i < i' ∧ i' < n ∧ R i j ∧ R i' j
  · exact hc
  · exfalso
    have h1 := um_cn_inj (R := R) (p := fun _ => True) n m (fun _ => True) (fun i hi _ => by
      obtain ⟨j, hj, hR⟩ := ht i hi
      exact ⟨j, hj, trivial, hR⟩) (fun i i' j hi hi' _ _ r r' => by
      rcases Nat.lt_trichotomy i i' with z | z | z
      · exact absurd ⟨i, i', j, z, hi', r, r'⟩ hc
      · exact z
      · exact absurd ⟨i', i, j, z, hi, r', r⟩ hc)
    rw [um_cn_all (p := fun _ => True) n (fun _ _ => trivial)] at h1
    have h2 := um_cn_le (fun _ => True) m
    omega
theorem um_cn_two {p : Nat → Prop} : ∀ n : Nat, um_cn (fun j => p (j / 2)) (2 * n) = 2 * um_cn p n := by
  intro n
  induction n with
  | zero => rfl
  | succ n ih =>
    have e : 2 * (n + 1) = 2 * n + 1 + 1 := by omega
    have e1 : (2 * n) / 2 = n := by omega
    have e2 : (2 * n + 1) / 2 = n := by omega
    rw [e, um_cn_s, um_cn_s, um_cn_s, ih]
    show 2 * um_cn p n + um_b (p ((2 * n) / 2)) + um_b (p ((2 * n + 1) / 2)) = _
    rw [e1, e2]
    omega
end
section
/-! codes of pieces, two bits a letter, and their mirrors -/
def um_mi : Nat → Nat → Nat → Nat
  | 0, r, _ => r
  | n + 1, r, x => um_mi n (r * 4 + (3 - x % 4)) (x / 4)
def um_mir (n x : Nat) : Nat := um_mi n 0 x
theorem um_mi_0 (r x : Nat) : um_mi 0 r x = r := rfl
theorem um_mi_s (n r x : Nat) : um_mi (n + 1) r x = um_mi n (r * 4 + (3 - x % 4)) (x / 4) := rfl
def um_N (K : Nat) : Nat := 4 ^ K
def um_T (K : Nat) : Nat := 4 ^ (K - 1)
theorem um_m3a : ∀ x, x < 64 → um_mir 3 x < 64 ∧ um_mir 3 (um_mir 3 x) = x := by decide +kernel
theorem um_m3b : ∀ x, x < 64 → um_mir 3 x ≠ x := by decide +kernel
theorem um_m3c : ∀ x, x < 64 → um_mir 3 x / 4 = um_mir 2 (x % 16) ∧ um_mir 3 x % 16 = um_mir 2 (x / 4) := by decide +kernel
theorem um_m2 : ∀ x, x < 16 → um_mir 2 (um_mir 2 x) = x := by decide +kernel
theorem um_m5a : ∀ x, x < 1024 → um_mir 5 x < 1024 ∧ um_mir 5 (um_mir 5 x) = x := by decide +kernel
theorem um_m5b : ∀ x, x < 1024 → um_mir 5 x ≠ x := by decide +kernel
theorem um_m5c : ∀ x, x < 1024 → um_mir 5 x / 4 = um_mir 4 (x % 256) ∧ um_mir 5 x % 256 = um_mir 4 (x / 4) := by decide +kernel
theorem um_m4 : ∀ x, x < 256 → um_mir 4 (um_mir 4 x) = x := by decide +kernel
theorem um_N3 : um_N 3 = 64 := rfl
theorem um_N5 : um_N 5 = 1024 := rfl
theorem um_T3 : um_T 3 = 16 := rfl
theorem um_T5 : um_T 5 = 256 := rfl
theorem um_NT {K : Nat} (hK : K = 3 ∨ K = 5) : um_N K = 4 * um_T K ∧ um_N K ≤ 1024 ∧ 16 ≤ um_T K := by
  rcases hK with rfl | rfl
  · rw [um_N3, um_T3]; omega
  · rw [um_N5, um_T5]; omega
theorem um_mir_lt {K x : Nat} (hK : K = 3 ∨ K = 5) (hx : x < um_N K) : um_mir K x < um_N K := by
  rcases hK with rfl | rfl
  · exact (um_m3a x hx).1
  · exact (um_m5a x hx).1
theorem um_mir_mir {K x : Nat} (hK : K = 3 ∨ K = 5) (hx : x < um_N K) : um_mir K (um_mir K x) = x := by
  rcases hK with rfl | rfl
  · exact (um_m3a x hx).2
  · exact (um_m5a x hx).2
theorem um_mir_ne {K x : Nat} (hK : K = 3 ∨ K = 5) (hx : x < um_N K) : um_mir K x ≠ x := by
  rcases hK with rfl | rfl
  · exact um_m3b x hx
  · exact um_m5b x hx
theorem um_mir_inj {K x y : Nat} (hK : K = 3 ∨ K = 5) (hx : x < um_N K) (hy : y < um_N K) (h : um_mir K x = um_mir K y) : x = y := by
  rw [← um_mir_mir hK hx, h, um_mir_mir hK hy]
/-- y follows x exactly if the mirror of x follows the mirror of y -/
theorem um_mir_fol {K x y : Nat} (hK : K = 3 ∨ K = 5) (hx : x < um_N K) (hy : y < um_N K) (h : y / 4 = x % um_T K) : um_mir K x / 4 = um_mir K y % um_T K := by
  rcases hK with rfl | rfl
  · rw [um_T3] at h ⊢
    rw [(um_m3c x hx).1, (um_m3c y hy).2, h]
  · rw [um_T5] at h ⊢
    rw [(um_m5c x hx).1, (um_m5c y hy).2, h]
/-! a code out of letters -/
def um_cd (A : Nat → Nat) : Nat → Nat
  | 0 => 0
  | n + 1 => um_cd A n * 4 + A n
theorem um_cd_s (A : Nat → Nat) (n : Nat) : um_cd A (n + 1) = um_cd A n * 4 + A n := rfl
theorem um_cd_lt {A : Nat → Nat} : ∀ n : Nat, (∀ i, i < n → A i < 4) → um_cd A n < 4 ^ n := by
  intro n
  induction n with
  | zero => intro _; exact Nat.one_pos
  | succ n ih =>
    intro h
    have h1 := ih (fun i hi => h i (by omega))
    have h2 := h n (by omega)
    rw [um_cd_s, Nat.pow_succ]
    omega
theorem um_cd_congr {A B : Nat → Nat} : ∀ n : Nat, (∀ i, i < n → A i = B i) → um_cd A n = um_cd B n := by
  intro n
  induction n with
  | zero => intro _; rfl
  | succ n ih =>
    intro h
    rw [um_cd_s, um_cd_s, ih (fun i hi => h i (by omega)), h n (by omega)]
theorem um_cd_head (A : Nat → Nat) : ∀ n : Nat, um_cd A (n + 1) = A 0 * 4 ^ n + um_cd (fun i => A (i + 1)) n := by
  intro n
  induction n with
  | zero =>
    show 0 * 4 + A 0 = A 0 * 4 ^ 0 + 0
    rw [Nat.pow_zero]
    omega
  | succ n ih =>
    rw [um_cd_s, ih, um_cd_s, Nat.pow_succ, ← Nat.mul_assoc]
    show (A 0 * 4 ^ n + um_cd (fun i => A (i + 1)) n) * 4 + A (n + 1) = A 0 * 4 ^ n * 4 + (um_cd (fun i => A (i + 1)) n * 4 + A (n + 1))
    omega
theorem um_mi_cd {A : Nat → Nat} : ∀ (n r : Nat), (∀ i, i < n → A i < 4) → um_mi n r (um_cd A n) = r * 4 ^ n + um_cd (fun i => 3 - A (n - 1 - i)) n := by
  intro n
  induction n with
  | zero =>
    intro r _
    show r = r * 4 ^ 0 + 0
    rw [Nat.pow_zero]
    omega
  | succ n ih =>
    intro r h
    have h2 := h n (by omega)
    have e1 : (um_cd A n * 4 + A n) % 4 = A n := by omega
    have e2 : (um_cd A n * 4 + A n) / 4 = um_cd A n := by omega
    rw [um_mi_s, um_cd_s, e1, e2, ih _ (fun i hi => h i (by omega)), um_cd_head (fun i => 3 - A (n + 1 - 1 - i)) n]
    have e3 : um_cd (fun i => 3 - A (n - 1 - i)) n = um_cd (fun i => 3 - A (n + 1 - 1 - (i + 1))) n := by
      apply um_cd_congr
      intro i hi
      show 3 - A (n - 1 - i) = 3 - A (n + 1 - 1 - (i + 1))
      rw [show n - 1 - i = n + 1 - 1 - (i + 1) by omega]
    rw [e3]
    show (r * 4 + (3 - A n)) * 4 ^ n + _ = r * 4 ^ (n + 1) + ((3 - A (n + 1 - 1 - 0)) * 4 ^ n + _)
    rw [show n + 1 - 1 - 0 = n by omega, Nat.pow_succ, Nat.add_mul, Nat.mul_assoc, Nat.mul_comm 4 (4 ^ n), Nat.add_assoc]
theorem um_mir_cd {A : Nat → Nat} (n : Nat) (h : ∀ i, i < n → A i < 4) : um_mir n (um_cd A n) = um_cd (fun i => 3 - A (n - 1 - i)) n := by
  rw [um_mir, um_mi_cd n 0 h, Nat.zero_mul, Nat.zero_add]
theorem um_T_pow {K : Nat} (hK : K = 3 ∨ K = 5) {p : Nat} (hp : p < K) : 4 ^ p ≤ um_T K := Nat.pow_le_pow_right (by decide) (by omega)
theorem um_push_lt {K p : Nat} {A B : Nat → Nat} (hK : K = 3 ∨ K = 5) (hp : p < K) (hA : ∀ i, i < p → A i < 4) (h : ∀ i, i < p → B i = A i) : um_cd A p % um_T K * 4 + B p = um_cd B (p + 1) := by
  have h1 := um_cd_lt p hA
  have h2 := um_T_pow hK hp
  rw [Nat.mod_eq_of_lt (by omega), um_cd_s, um_cd_congr p h]
theorem um_push_eq {K : Nat} {A B : Nat → Nat} (hK : K = 3 ∨ K = 5) (hA : ∀ i, i < K → A i < 4) (h : ∀ i, i < K - 1 → B i = A (i + 1)) : um_cd A K % um_T K * 4 + B (K - 1) = um_cd B K := by
  obtain ⟨n, rfl⟩ : ∃ n, K = n + 1 := ⟨K - 1, by omega⟩
  have e : n + 1 - 1 = n := by omega
  rw [e] at h ⊢
  have h1 : um_cd (fun i => A (i + 1)) n < 4 ^ n := um_cd_lt n (fun i hi => hA (i + 1) (by omega))
  rw [um_cd_head, um_T, e, Nat.mul_add_mod_self_right, Nat.mod_eq_of_lt h1, um_cd_s, um_cd_congr n h]
theorem um_cd_N {K p : Nat} {A : Nat → Nat} (hp : p ≤ K) (hA : ∀ i, i < p → A i < 4) : um_cd A p < um_N K :=
  Nat.lt_of_lt_of_le (um_cd_lt p hA) (Nat.pow_le_pow_right (by decide) hp)
/-! the same in ints -/
theorem um_or4 {a l : Nat} (hl : l < 4) (ha : a * 4 + 3 < 2 ^ 32) : nI (a * 4) ||| nI l = nI (a * 4 + l) := by
  apply Int32.toBitVec_inj.mp
  apply BitVec.eq_of_toNat_eq
  rw [Int32.toBitVec_or, BitVec.toNat_or, pk_tn (by omega), pk_tn (by omega), pk_tn (by omega)]
  have h := Nat.shiftLeft_add_eq_or_of_lt (i := 2) (b := l) hl a
  rw [Nat.shiftLeft_eq] at h
  exact h.symm
theorem um_and3 (v : Int32) : ∃ l : Nat, l < 4 ∧ v &&& 3 = nI l := pk_andE v 2 (by decide)
theorem um_and3N {n : Nat} (h : n < 2 ^ 31) : nI n &&& 3 = nI (n % 4) := pk_andN (by omega) 2 (by decide)
theorem um_shl2 {n : Nat} (h : n < 2 ^ 28) : nI n <<< ((2 : Int32) &&& 31) = nI (n * 4) := pk_shlN _ 2 (by decide) (by omega)
theorem um_shr2 {n : Nat} (h : n < 2 ^ 31) : ((nI n).toUInt32 >>> ((2 : Int32).toUInt32 &&& Int32.toUInt32 31)).toInt32 = nI (n / 4) := pk_ushrN (by omega) 2 2 (by decide)
theorem um_shr3 {n : Nat} (h : n < 2 ^ 31) : ((nI n).toUInt32 >>> ((3 : Int32).toUInt32 &&& Int32.toUInt32 31)).toInt32 = nI (n / 8) := pk_ushrN (by omega) 3 3 (by decide)
theorem um_maskI {K n : Nat} (hK : K = 3 ∨ K = 5) (h : n < 2 ^ 31) : nI n &&& nI (um_N K - 1) = nI (n % um_N K) := by
  rcases hK with rfl | rfl
  · exact pk_andN (by omega) 6 (by decide)
  · exact pk_andN (by omega) 10 (by decide)
theorem um_pushI {K x l : Nat} (hK : K = 3 ∨ K = 5) (hx : x < um_N K) (hl : l < 4) : ((nI x <<< ((2 : Int32) &&& 31)) &&& nI (um_N K - 1)) ||| nI l = nI (x % um_T K * 4 + l) := by
  obtain ⟨h1, h2, h3⟩ := um_NT hK
  have h4 : x % um_T K < um_T K := Nat.mod_lt _ (by omega)
  have e : x * 4 % um_N K = x % um_T K * 4 := by rw [h1, Nat.mul_comm 4, Nat.mul_mod_mul_right]
  rw [um_shl2 (by omega), um_maskI hK (by omega), e, um_or4 hl (by omega)]
end
section
/-! chains: a map la on codes below N, not everywhere defined, with a mirror -/
def um_LA (N : Nat) (m : Nat → Nat) (so : Nat → Prop) (W : Nat → Nat) (la : Nat → Option Nat) : Prop :=
  (∀ x, x < N → m x < N ∧ m (m x) = x ∧ m x ≠ x) ∧
  (∀ x, x < N → so x → so (m x) ∧ ∃ p, p < 96 ∧ (W p = x ∨ W p = m x)) ∧
  (∀ x y, x < N → la x = some y → y < N ∧ so x ∧ so y ∧ la (m y) = some (m x) ∧ y ≠ m x ∧ y ≠ x)
def um_lb (m : Nat → Nat) (la : Nat → Option Nat) (x : Nat) : Option Nat := (la (m x)).map m
def um_it (la : Nat → Option Nat) : Nat → Nat → Option Nat
  | 0, x => some x
  | n + 1, x => (um_it la n x).bind la
def um_Per (la : Nat → Option Nat) (x n : Nat) : Prop :=
  1 ≤ n ∧ (um_it la n x = none ∨ um_it la n x = some x) ∧ ∀ j, 1 ≤ j → j < n → ∃ z, um_it la j x = some z ∧ z ≠ x
def um_con (la : Nat → Option Nat) (x z : Nat) : Prop := ∃ n, um_it la n x = some z ∨ um_it la n z = some x
def um_Head (m : Nat → Nat) (la : Nat → Option Nat) (st L : Nat) : Prop := um_Per la st L ∧ (um_lb m la st = none ∨ um_it la L st = some st)
noncomputable def um_len (N : Nat) (la : Nat → Option Nat) (x : Nat) : Nat := um_cn (um_con la x) N
section
variable {N : Nat} {m : Nat → Nat} {so : Nat → Prop} {W : Nat → Nat} {la : Nat → Option Nat}
theorem um_it_s {n x z : Nat} : um_it la (n + 1) x = some z ↔ ∃ y, um_it la n x = some y ∧ la y = some z := Option.bind_eq_some_iff
theorem um_it_1 (x : Nat) : um_it la 1 x = la x := rfl
theorem um_it_add {a x y : Nat} (h : um_it la a x = some y) : ∀ b : Nat, um_it la (a + b) x = um_it la b y := by
  intro b
  induction b with
  | zero => exact h
  | succ b ih =>
    show (um_it la (a + b) x).bind la = (um_it la b y).bind la
    rw [ih]
theorem um_it_sn {n x : Nat} (h : um_it la n x = none) : ∀ b : Nat, um_it la (n + b) x = none := by
  intro b
  induction b with
  | zero => exact h
  | succ b ih =>
    show (um_it la (n + b) x).bind la = none
    rw [ih]
    rfl
theorem um_it_h {n x y : Nat} (h : la x = some y) : um_it la (n + 1) x = um_it la n y := by
  rw [Nat.add_comm]
  exact um_it_add (a := 1) h n
theorem um_it_pre {n k x y : Nat} (h : um_it la n x = some y) (hk : k ≤ n) : ∃ z, um_it la k x = some z ∧ um_it la (n - k) z = some y := by
  have e : k + (n - k) = n := by omega
  cases hz : um_it la k x with
  | none =>
    have h1 := um_it_sn hz (n - k)
    rw [e, h] at h1
    cases h1
  | some z =>
    have h1 := um_it_add hz (n - k)
    rw [e, h] at h1
    exact ⟨z, rfl, h1.symm⟩
theorem um_it_lt (H : um_LA N m so W la) {x : Nat} (hx : x < N) : ∀ n y : Nat, um_it la n x = some y → y < N := by
  intro n
  induction n with
  | zero =>
    intro y h
    have e : x = y := Option.some.inj h
    omega
  | succ n ih =>
    intro y h
    obtain ⟨w, hw, hl⟩ := um_it_s.mp h
    exact (H.2.2 w y (ih w hw) hl).1
theorem um_it_so (H : um_LA N m so W la) {x : Nat} (hx : x < N) (hs : so x) : ∀ n y : Nat, um_it la n x = some y → so y := by
  intro n
  cases n with
  | zero =>
    intro y h
    have e : x = y := Option.some.inj h
    rw [← e]
    exact hs
  | succ n =>
    intro y h
    obtain ⟨w, hw, hl⟩ := um_it_s.mp h
    exact (H.2.2 w y (um_it_lt H hx n w hw) hl).2.2.1
theorem um_m_inj (H : um_LA N m so W la) {x y : Nat} (hx : x < N) (hy : y < N) (e : m x = m y) : x = y := by
  rw [← (H.1 x hx).2.1, e, (H.1 y hy).2.1]
theorem um_it_mir (H : um_LA N m so W la) : ∀ n x y : Nat, x < N → um_it la n x = some y → um_it la n (m y) = some (m x) := by
  intro n
  induction n with
  | zero =>
    intro x y _ h
    have e : x = y := Option.some.inj h
    rw [e]
    rfl
  | succ n ih =>
    intro x y hx h
    obtain ⟨w, hw, hl⟩ := um_it_s.mp h
    have h1 := (H.2.2 w y (um_it_lt H hx n w hw) hl).2.2.2.1
    rw [um_it_h h1]
    exact ih x w hx hw
theorem um_it_inj (H : um_LA N m so W la) {n x x' y : Nat} (hx : x < N) (hx' : x' < N) (h : um_it la n x = some y) (h' : um_it la n x' = some y) : x = x' := by
  have h1 := um_it_mir H n x y hx h
  have h2 := um_it_mir H n x' y hx' h'
  rw [h1] at h2
  exact um_m_inj H hx hx' (Option.some.inj h2)
theorem um_it_nomir (H : um_LA N m so W la) : ∀ n x : Nat, x < N → um_it la n x ≠ some (m x) := by
  intro n
  induction n using Nat.strongRecOn with
  | ind n ih =>
    intro x hx h
    match n, ih, h with
    | 0, _, h => exact (H.1 x hx).2.2 (Option.some.inj h).symm
    | 1, _, h => exact (H.2.2 x (m x) hx h).2.2.2.2.1 rfl
    | n + 2, ih, h =>
      obtain ⟨z, h1, h2⟩ := um_it_pre (k := 1) h (by omega)
      rw [show n + 2 - 1 = n + 1 by omega] at h2
      obtain ⟨b, hb, hl⟩ := um_it_s.mp h2
      have h3 := H.2.2 x z hx h1
      have hz := h3.1
      have e : b = m z := um_it_inj H (n := 1) (um_it_lt H hz n b hb) (H.1 z hz).1 hl h3.2.2.2.1
      exact ih n (by omega) z hz (by rw [hb, e])
theorem um_Per_ex (H : um_LA N m so W la) {x : Nat} (hx : x < N) (hs : so x) : ∃ n, n ≤ 96 ∧ um_Per la x n := by
  by_cases hc : ∃ n, 1 ≤ n ∧ n ≤ 96 ∧ (um_it la n x = none ∨ um_it la n x = some x)
  · obtain ⟨n, ⟨h1, h2, h3⟩, hm⟩ := pk_least _ hc
    refine ⟨n, h2, h1, h3, fun j hj1 hjn => ?_⟩
    cases hz : um_it la j x with
    | none => exact absurd ⟨hj1, by omega, Or.inl hz⟩ (hm j hjn)
    | some z => exact ⟨z, rfl, fun e => hm j hjn ⟨hj1, by omega, Or.inr (by rw [hz, e])⟩⟩
  · exfalso
    have hall : ∀ j, j < 97 → ∃ z, um_it la j x = some z ∧ (1 ≤ j → z ≠ x) := by
      intro j hj
      cases hz : um_it la j x with
      | none =>
        by_cases j0 : j = 0
        · subst j0
          cases hz
        · exact absurd ⟨j, by omega, by omega, Or.inl hz⟩ hc
      | some z => exact ⟨z, rfl, fun h1 e => hc ⟨j, h1, by omega, Or.inr (by rw [hz, e])⟩⟩
    obtain ⟨i, j, p, hij, hj, ⟨z, hz, hWz⟩, ⟨z', hz', hWz'⟩⟩ := um_pig (R := fun i p => ∃ z, um_it la i x = some z ∧ (W p = z ∨ W p = m z)) (n := 97) (m := 96) (by decide) (fun i hi => by
      obtain ⟨z, hz, _⟩ := hall i hi
      obtain ⟨p, hp, hW⟩ := (H.2.1 z (um_it_lt H hx i z hz) (um_it_so H hx hs i z hz)).2
      exact ⟨p, hp, z, hz, hW⟩)
    have hN := um_it_lt H hx i z hz
    have hN' := um_it_lt H hx j z' hz'
    obtain ⟨w, hw, hw2⟩ := um_it_pre hz' (k := i) (by omega)
    rw [hz] at hw
    have ew : z = w := Option.some.inj hw
    subst ew
    have hcase : z' = z ∨ z' = m z := by
      rcases hWz with e | e <;> rcases hWz' with e' | e'
      · left; rw [← e, ← e']
      · right; rw [← e, e', (H.1 z' hN').2.1]
      · right; rw [← e, ← e']
      · left; exact um_m_inj H hN' hN (by rw [← e, ← e'])
    rcases hcase with e | e
    · obtain ⟨y, hy, hy2⟩ := um_it_pre hz' (k := j - i) (by omega)
      rw [show j - (j - i) = i by omega, e] at hy2
      have ey : y = x := um_it_inj H (um_it_lt H hx _ y hy) hx hy2 hz
      obtain ⟨y', hy', hne⟩ := hall (j - i) (by omega)
      rw [hy] at hy'
      exact hne (by omega) (by rw [← Option.some.inj hy', ey])
    · exact um_it_nomir H (j - i) z hN (by rw [hw2, e])
theorem um_Per_lt {x n n' : Nat} (h : um_Per la x n) (h' : um_Per la x n') (z : n < n') : False := by
  obtain ⟨w, hw, hne⟩ := h'.2.2 n h.1 z
  rcases h.2.1 with e | e
  · rw [e] at hw
    cases hw
  · rw [e] at hw
    exact hne (Option.some.inj hw).symm
theorem um_Per_fun {x n n' : Nat} (h : um_Per la x n) (h' : um_Per la x n') : n = n' := by
  rcases Nat.lt_trichotomy n n' with z | z | z
  · exact (um_Per_lt h h' z).elim
  · exact z
  · exact (um_Per_lt h' h z).elim
theorem um_Per_96 (H : um_LA N m so W la) {x n : Nat} (hx : x < N) (hs : so x) (h : um_Per la x n) : n ≤ 96 := by
  obtain ⟨n', h1, h2⟩ := um_Per_ex H hx hs
  rw [um_Per_fun h h2]
  exact h1
/-! backwards -/
theorem um_lb_iff (H : um_LA N m so W la) {x y : Nat} (hx : x < N) (hy : y < N) : um_lb m la y = some x ↔ la x = some y := by
  constructor
  · intro h
    obtain ⟨z, hz, e⟩ := Option.map_eq_some_iff.mp h
    have hyN := H.1 y hy
    have h1 := (H.2.2 (m y) z hyN.1 hz).2.2.2.1
    rw [e, hyN.2.1] at h1
    exact h1
  · intro h
    have h1 := (H.2.2 x y hx h).2.2.2.1
    show (la (m y)).map m = some x
    rw [h1]
    show some (m (m x)) = some x
    rw [(H.1 x hx).2.1]
theorem um_lb_lt (H : um_LA N m so W la) {x y : Nat} (hx : x < N) (h : um_lb m la x = some y) : y < N := by
  obtain ⟨z, hz, e⟩ := Option.map_eq_some_iff.mp h
  have hz' := H.2.2 (m x) z (H.1 x hx).1 hz
  rw [← e]
  exact (H.1 z hz'.1).1
theorem um_LA_lb (H : um_LA N m so W la) : um_LA N m so W (um_lb m la) := by
  refine ⟨H.1, H.2.1, fun x y hx h => ?_⟩
  have hy := um_lb_lt H hx h
  have hl := (um_lb_iff H hy hx).mp h
  have h2 := H.2.2 y x hy hl
  refine ⟨hy, h2.2.2.1, h2.2.1, ?_, ?_, ?_⟩
  · show (la (m (m y))).map m = some (m x)
    rw [(H.1 y hy).2.1, hl]
    rfl
  · intro e
    apply h2.2.2.2.2.1
    rw [e, (H.1 x hx).2.1]
  · exact fun e => h2.2.2.2.2.2 e.symm
theorem um_itb_mp (H : um_LA N m so W la) : ∀ n x y : Nat, y < N → um_it (um_lb m la) n y = some x → um_it la n x = some y := by
  intro n
  induction n with
  | zero =>
    intro x y _ h
    have e : y = x := Option.some.inj h
    rw [e]
    rfl
  | succ n ih =>
    intro x y hy h
    obtain ⟨w, hw, hl⟩ := um_it_s.mp h
    have hwN := um_it_lt (um_LA_lb H) hy n w hw
    have hxN := um_lb_lt H hwN hl
    rw [um_it_h ((um_lb_iff H hxN hwN).mp hl)]
    exact ih w y hy hw
theorem um_itb_mpr (H : um_LA N m so W la) : ∀ n x y : Nat, x < N → um_it la n x = some y → um_it (um_lb m la) n y = some x := by
  intro n
  induction n with
  | zero =>
    intro x y _ h
    have e : x = y := Option.some.inj h
    rw [e]
    rfl
  | succ n ih =>
    intro x y hx h
    obtain ⟨w, h1, h2⟩ := um_it_pre (k := 1) h (by omega)
    rw [show n + 1 - 1 = n by omega] at h2
    have hw := (H.2.2 x w hx h1).1
    exact um_it_s.mpr ⟨w, ih w y hw h2, (um_lb_iff H hx hw).mpr h1⟩
theorem um_no_pre (H : um_LA N m so W la) {x y n : Nat} (hx : x < N) (hn : 1 ≤ n) (h : um_it la n x = some y) (e : um_lb m la y = none) : False := by
  obtain ⟨n, rfl⟩ : ∃ k, n = k + 1 := ⟨n - 1, by omega⟩
  obtain ⟨w, hw, hl⟩ := um_it_s.mp h
  have hwN := um_it_lt H hx n w hw
  rw [(um_lb_iff H hwN (H.2.2 w y hwN hl).1).mpr hl] at e
  cases e
theorem um_line {x n k : Nat} (h : um_Per la x n) (e : um_it la n x = none) (hk : 1 ≤ k) : um_it la k x ≠ some x := by
  intro hz
  by_cases z : k < n
  · obtain ⟨w, hw, hne⟩ := h.2.2 k hk z
    rw [hw] at hz
    exact hne (Option.some.inj hz)
  · have h1 := um_it_sn e (k - n)
    rw [show n + (k - n) = k by omega, hz] at h1
    cases h1
/-! the same chain -/
theorem um_con_refl (x : Nat) : um_con la x x := ⟨0, Or.inl rfl⟩
theorem um_con_symm {x y : Nat} (h : um_con la x y) : um_con la y x := by
  obtain ⟨n, h | h⟩ := h
  · exact ⟨n, Or.inr h⟩
  · exact ⟨n, Or.inl h⟩
theorem um_con_trans (H : um_LA N m so W la) {x y z : Nat} (hx : x < N) (hz : z < N) (h : um_con la x y) (h' : um_con la y z) : um_con la x z := by
  obtain ⟨n, h | h⟩ := h <;> obtain ⟨k, h' | h'⟩ := h'
  · exact ⟨n + k, Or.inl (by rw [um_it_add h]; exact h')⟩
  · by_cases c : n ≤ k
    · obtain ⟨w, hw, hw2⟩ := um_it_pre h' (k := k - n) (by omega)
      rw [show k - (k - n) = n by omega] at hw2
      have e := um_it_inj H (um_it_lt H hz _ w hw) hx hw2 h
      exact ⟨k - n, Or.inr (by rw [hw, e])⟩
    · obtain ⟨w, hw, hw2⟩ := um_it_pre h (k := n - k) (by omega)
      rw [show n - (n - k) = k by omega] at hw2
      have e := um_it_inj H (um_it_lt H hx _ w hw) hz hw2 h'
      exact ⟨n - k, Or.inl (by rw [hw, e])⟩
  · by_cases c : n ≤ k
    · obtain ⟨w, hw, hw2⟩ := um_it_pre h' (k := n) c
      rw [h] at hw
      rw [← Option.some.inj hw] at hw2
      exact ⟨k - n, Or.inl hw2⟩
    · obtain ⟨w, hw, hw2⟩ := um_it_pre h (k := k) (by omega)
      rw [h'] at hw
      rw [← Option.some.inj hw] at hw2
      exact ⟨n - k, Or.inr hw2⟩
  · exact ⟨k + n, Or.inr (by rw [um_it_add h']; exact h)⟩
theorem um_con_mir (H : um_LA N m so W la) {x y : Nat} (hx : x < N) (hy : y < N) (h : um_con la x y) : um_con la (m x) (m y) := by
  obtain ⟨n, h | h⟩ := h
  · exact ⟨n, Or.inr (um_it_mir H n x y hx h)⟩
  · exact ⟨n, Or.inl (um_it_mir H n y x hy h)⟩
theorem um_con_nomir (H : um_LA N m so W la) {x : Nat} (hx : x < N) : ¬ um_con la x (m x) := by
  rintro ⟨n, h | h⟩
  · exact um_it_nomir H n x hx h
  · exact um_it_nomir H n (m x) (H.1 x hx).1 (by rw [h, (H.1 x hx).2.1])
theorem um_con_so (H : um_LA N m so W la) {x y : Nat} (hx : x < N) (hy : y < N) (hs : so x) (h : um_con la x y) : so y := by
  obtain ⟨n, h | h⟩ := h
  · exact um_it_so H hx hs n y h
  · exact um_it_so (um_LA_lb H) hx hs n y (um_itb_mpr H n y x hy h)
/-! a chain listed from its first piece on -/
theorem um_ring_mul {st L : Nat} (h : um_it la L st = some st) : ∀ k : Nat, um_it la (k * L) st = some st := by
  intro k
  induction k with
  | zero => rw [Nat.zero_mul]; rfl
  | succ k ih =>
    rw [Nat.succ_mul, um_it_add ih]
    exact h
theorem um_ring_mod {st L : Nat} (hL : 1 ≤ L) (h : um_it la L st = some st) : ∀ n : Nat, ∃ i, i < L ∧ um_it la n st = um_it la i st := by
  intro n
  induction n using Nat.strongRecOn with
  | ind n ih =>
    by_cases c : n < L
    · exact ⟨n, c, rfl⟩
    · obtain ⟨i, hi, e⟩ := ih (n - L) (by omega)
      refine ⟨i, hi, ?_⟩
      rw [← e, ← um_it_add h (n - L), show L + (n - L) = n by omega]
theorem um_enum (H : um_LA N m so W la) {st L z : Nat} (hst : st < N) (hh : um_Head m la st L) (hz : z < N) : um_con la st z ↔ ∃ i, i < L ∧ um_it la i st = some z := by
  constructor
  · have hfw : ∀ n, um_it la n st = some z → ∃ i, i < L ∧ um_it la i st = some z := by
      intro n h
      by_cases c : n < L
      · exact ⟨n, c, h⟩
      · rcases hh.1.2.1 with e | e
        · have h1 := um_it_sn e (n - L)
          rw [show L + (n - L) = n by omega, h] at h1
          cases h1
        · obtain ⟨i, hi, e2⟩ := um_ring_mod hh.1.1 e n
          exact ⟨i, hi, by rw [← e2, h]⟩
    rintro ⟨n, h | h⟩
    · exact hfw n h
    · by_cases n0 : n = 0
      · subst n0
        exact hfw 0 (by rw [show z = st from Option.some.inj h]; rfl)
      · rcases hh.2 with e | e
        · exact (um_no_pre H hz (by omega) h e).elim
        · have h1 := um_ring_mul e n
          have hL := hh.1.1
          have h2 : n ≤ n * L := Nat.le_mul_of_pos_right n hL
          obtain ⟨w, hw, hw2⟩ := um_it_pre h1 (k := n * L - n) (by omega)
          rw [show n * L - (n * L - n) = n by omega] at hw2
          have ew := um_it_inj H (um_it_lt H hst _ w hw) hz hw2 h
          exact hfw _ (by rw [hw, ew])
  · rintro ⟨i, _, h⟩
    exact ⟨i, Or.inl h⟩
theorem um_enum_inj (H : um_LA N m so W la) {st L i j z : Nat} (hst : st < N) (hp : um_Per la st L) (hij : i < j) (hj : j < L) (h : um_it la i st = some z) (h' : um_it la j st = some z) : False := by
  obtain ⟨w, hw, hw2⟩ := um_it_pre h' (k := j - i) (by omega)
  rw [show j - (j - i) = i by omega] at hw2
  have e := um_it_inj H (um_it_lt H hst _ w hw) hst hw2 h
  obtain ⟨y, hy, hne⟩ := hp.2.2 (j - i) (by omega) (by omega)
  rw [hw] at hy
  exact hne (by rw [← Option.some.inj hy, e])
theorem um_len_head (H : um_LA N m so W la) {st L : Nat} (hst : st < N) (hh : um_Head m la st L) : um_len N la st = L := by
  have hall := um_cn_all (p := fun _ => True) L (fun _ _ => trivial)
  apply Nat.le_antisymm
  · have h1 := um_cn_inj (R := fun z i => um_it la i st = some z) (p := um_con la st) N L (fun _ => True) (fun z hz hc => by
      obtain ⟨i, hi, e⟩ := (um_enum H hst hh hz).mp hc
      exact ⟨i, hi, trivial, e⟩) (fun z z' i _ _ _ _ e e' => Option.some.inj (by rw [← e, e']))
    rw [hall] at h1
    exact h1
  · have h1 := um_cn_inj (R := fun i z => um_it la i st = some z) (p := fun _ => True) L N (um_con la st) (fun i hi _ => by
      have hz : ∃ z, um_it la i st = some z := by
        by_cases i0 : i = 0
        · exact ⟨st, by rw [i0]; rfl⟩
        · obtain ⟨z, hz, _⟩ := hh.1.2.2 i (by omega) hi
          exact ⟨z, hz⟩
      obtain ⟨z, hz⟩ := hz
      exact ⟨z, um_it_lt H hst i z hz, ⟨i, Or.inl hz⟩, hz⟩) (fun i i' z hi hi' _ _ e e' => by
      rcases Nat.lt_trichotomy i i' with c | c | c
      · exact (um_enum_inj H hst hh.1 c hi' e e').elim
      · exact c
      · exact (um_enum_inj H hst hh.1 c hi e' e).elim)
    rw [hall] at h1
    exact h1
theorem um_len_con (H : um_LA N m so W la) {x y : Nat} (hx : x < N) (hy : y < N) (h : um_con la x y) : um_len N la x = um_len N la y :=
  um_cn_congr N (fun z hz => ⟨fun c => um_con_trans H hy hz (um_con_symm h) c, fun c => um_con_trans H hx hz h c⟩)
theorem um_len_mir_le (H : um_LA N m so W la) {x : Nat} (hx : x < N) : um_len N la x ≤ um_len N la (m x) :=
  um_cn_inj (R := fun z w => w = m z) N N _ (fun z hz hc => ⟨m z, (H.1 z hz).1, um_con_mir H hx hz hc, rfl⟩) (fun z z' w hz hz' _ _ e e' => um_m_inj H hz hz' (by rw [← e, e']))
theorem um_len_mir (H : um_LA N m so W la) {x : Nat} (hx : x < N) : um_len N la (m x) = um_len N la x := by
  have h1 := um_len_mir_le H hx
  have h2 := um_len_mir_le H (H.1 x hx).1
  rw [(H.1 x hx).2.1] at h2
  omega
/-- all that is asked of the chain of x: n steps on, b - 1 steps back to st, and its length -/
theorem um_chain (H : um_LA N m so W la) {x : Nat} (hx : x < N) (hs : so x) : ∃ n b st : Nat, n ≤ 96 ∧ b ≤ 96 ∧ um_Per la x n ∧ um_Per (um_lb m la) x b ∧ um_it (um_lb m la) (b - 1) x = some st ∧ st < N ∧ so st ∧ um_it la (b - 1) st = some x ∧ um_Head m la st (um_len N la x) ∧ um_len N la x ≤ 96 ∧ ((um_it la n x = some x ∧ um_lb m la st = some x ∧ um_len N la x = n) ∨ (um_it la n x = none ∧ um_lb m la st = none ∧ um_len N la x = n + (b - 1))) := by
  obtain ⟨n, hn, hp⟩ := um_Per_ex H hx hs
  obtain ⟨b, hb, hpb⟩ := um_Per_ex (um_LA_lb H) hx hs
  have hst : ∃ st, um_it (um_lb m la) (b - 1) x = some st := by
    by_cases c : b - 1 = 0
    · exact ⟨x, by rw [c]; rfl⟩
    · obtain ⟨st, h, _⟩ := hpb.2.2 (b - 1) (by omega) (by have := hpb.1; omega)
      exact ⟨st, h⟩
  obtain ⟨st, hst⟩ := hst
  have hstN := um_it_lt (um_LA_lb H) hx _ st hst
  have hstS := um_it_so (um_LA_lb H) hx hs _ st hst
  have hfw := um_itb_mp H _ st x hx hst
  have hb1 := hpb.1
  have hlb : um_it (um_lb m la) b x = um_lb m la st := by
    have e := um_it_add hst 1
    rw [show b - 1 + 1 = b by omega] at e
    exact e
  have hcon : um_con la x st := ⟨b - 1, Or.inr hfw⟩
  have hlen := um_len_con H hx hstN hcon
  rcases hp.2.1 with e | e
  · have hno : um_lb m la st = none := by
      rcases hpb.2.1 with e2 | e2
      · rw [← hlb]; exact e2
      · exact absurd (um_itb_mp H b x x hx e2) (um_line hp e hb1)
    have hP : um_Per la st (n + (b - 1)) := by
      refine ⟨by have := hp.1; omega, Or.inl ?_, fun j hj1 hj => ?_⟩
      · rw [Nat.add_comm, um_it_add hfw]
        exact e
      · have hz : ∃ z, um_it la j st = some z := by
          by_cases c : j ≤ b - 1
          · obtain ⟨z, hz, _⟩ := um_it_pre hfw c
            exact ⟨z, hz⟩
          · obtain ⟨z, hz, _⟩ := hp.2.2 (j - (b - 1)) (by omega) (by omega)
            refine ⟨z, ?_⟩
            rw [← hz, ← um_it_add hfw, show b - 1 + (j - (b - 1)) = j by omega]
        obtain ⟨z, hz⟩ := hz
        exact ⟨z, hz, fun e3 => um_no_pre H hstN hj1 hz (by rw [e3]; exact hno)⟩
    have hh : um_Head m la st (n + (b - 1)) := ⟨hP, Or.inl hno⟩
    have hl : um_len N la x = n + (b - 1) := by rw [hlen]; exact um_len_head H hstN hh
    refine ⟨n, b, st, hn, hb, hp, hpb, hst, hstN, hstS, hfw, by rw [hl]; exact hh, by rw [hl]; exact um_Per_96 H hstN hstS hP, Or.inr ⟨e, hno, hl⟩⟩
  · have hr : um_it la n st = some st := by
      have h1 : um_it la (n + (b - 1)) st = some x := by
        rw [Nat.add_comm, um_it_add hfw]
        exact e
      obtain ⟨w, hw, hw2⟩ := um_it_pre h1 (k := n) (by omega)
      rw [show n + (b - 1) - n = b - 1 by omega] at hw2
      rw [hw, um_it_inj H (um_it_lt H hstN _ w hw) hstN hw2 hfw]
    have hP : um_Per la st n := by
      refine ⟨hp.1, Or.inr hr, fun j hj1 hj => ?_⟩
      obtain ⟨z, hz, _⟩ := um_it_pre hr (k := j) (by omega)
      refine ⟨z, hz, fun e3 => ?_⟩
      rw [e3] at hz
      have h1 := um_it_add hz (b - 1)
      have h2 := um_it_add hfw j
      rw [Nat.add_comm, h2, hfw] at h1
      obtain ⟨y, hy, hne⟩ := hp.2.2 j hj1 hj
      rw [hy] at h1
      exact hne (Option.some.inj h1)
    have hlx : um_lb m la st = some x := by
      rcases hpb.2.1 with e2 | e2
      · rw [hlb] at e2
        exact (um_no_pre H hstN hp.1 hr e2).elim
      · rw [← hlb]; exact e2
    have hh : um_Head m la st n := ⟨hP, Or.inr hr⟩
    have hl : um_len N la x = n := by rw [hlen]; exact um_len_head H hstN hh
    exact ⟨n, b, st, hn, hb, hp, hpb, hst, hstN, hstS, hfw, by rw [hl]; exact hh, by rw [hl]; exact hn, Or.inl ⟨e, hlx, hl⟩⟩
end
end
section
/-! the table of pieces and counts -/
def um_go (P : Nat → Int32) (c : Int32) : Nat → Nat → Nat
  | 0, a => a
  | n + 1, a => if P a < 0 ∨ P a = c then a else um_go P c n ((a + 1) % 128)
def um_h (c : Nat) : Nat := (c * 37 + c / 8) % 128
def um_slot (P : Nat → Int32) (c : Nat) : Nat := um_go P (nI c) 128 (um_h c)
def um_stp (P : Nat → Int32) (c : Int32) (a : Nat) : Prop := P a < 0 ∨ P a = c
theorem um_go_stop {P : Nat → Int32} {c : Int32} {n a : Nat} (h : um_stp P c a) : um_go P c (n + 1) a = a := if_pos h
theorem um_go_on {P : Nat → Int32} {c : Int32} {n a : Nat} (h : ¬ um_stp P c a) : um_go P c (n + 1) a = um_go P c n ((a + 1) % 128) := if_neg h
theorem um_go_lt {P : Nat → Int32} {c : Int32} : ∀ n a : Nat, a < 128 → um_go P c n a < 128 := by
  intro n
  induction n with
  | zero => intro a h; exact h
  | succ n ih =>
    intro a h
    by_cases s : um_stp P c a
    · rw [um_go_stop s]; exact h
    · rw [um_go_on s]; exact ih _ (by omega)
theorem um_h_lt (c : Nat) : um_h c < 128 := Nat.mod_lt _ (by decide)
theorem um_slot_lt (P : Nat → Int32) (c : Nat) : um_slot P c < 128 := um_go_lt 128 _ (um_h_lt c)
theorem um_go_at {P : Nat → Int32} {c : Int32} : ∀ d n a : Nat, a < 128 → d < n → um_stp P c ((a + d) % 128) → (∀ e, e < d → ¬ um_stp P c ((a + e) % 128)) → um_go P c n a = (a + d) % 128 := by
  intro d
  induction d with
  | zero =>
    intro n a ha hn hs _
    obtain ⟨n, rfl⟩ : ∃ k, n = k + 1 := ⟨n - 1, by omega⟩
    have e : (a + 0) % 128 = a := by omega
    rw [e] at hs ⊢
    exact um_go_stop hs
  | succ d ih =>
    intro n a ha hn hs hb
    obtain ⟨n, rfl⟩ : ∃ k, n = k + 1 := ⟨n - 1, by omega⟩
    have h0 := hb 0 (by omega)
    rw [show (a + 0) % 128 = a by omega] at h0
    rw [um_go_on h0, ih n ((a + 1) % 128) (by omega) (by omega)]
    · omega
    · rw [show ((a + 1) % 128 + d) % 128 = (a + (d + 1)) % 128 by omega]
      exact hs
    · intro e he
      rw [show ((a + 1) % 128 + e) % 128 = (a + (e + 1)) % 128 by omega]
      exact hb (e + 1) (by omega)
theorem um_go_ex {P : Nat → Int32} {c : Int32} {a s : Nat} (ha : a < 128) (hs : s < 128) (h : um_stp P c s) : ∃ d, d < 128 ∧ um_go P c 128 a = (a + d) % 128 ∧ um_stp P c ((a + d) % 128) ∧ ∀ e, e < d → ¬ um_stp P c ((a + e) % 128) := by
  obtain ⟨d, ⟨hd, hst⟩, hm⟩ := pk_least (fun d => d < 128 ∧ um_stp P c ((a + d) % 128)) ⟨(s + 128 - a) % 128, by omega, by rw [show (a + (s + 128 - a) % 128) % 128 = s by omega]; exact h⟩
  have hb : ∀ e, e < d → ¬ um_stp P c ((a + e) % 128) := fun e he h2 => hm e he ⟨by omega, h2⟩
  exact ⟨d, hd, um_go_at d 128 a ha hd hst hb, hst, hb⟩
theorem um_neg1 {n : Nat} (h : n < 2 ^ 31) : nI n ≠ -1 := by
  intro e
  have h1 := nI_pos h
  rw [e] at h1
  exact h1 (by decide)
def um_TB (K : Nat) (cn : Nat → Nat) (P C : Nat → Int32) : Prop :=
  (∀ a, a < 128 → (P a = -1 ∧ C a = 0) ∨ ∃ c, c < um_N K ∧ c < um_mir K c ∧ 0 < cn c ∧ P a = nI c ∧ a = um_slot P c) ∧
  (∀ c, c < um_N K → c < um_mir K c → (0 < cn c → P (um_slot P c) = nI c ∧ C (um_slot P c) = nI (cn c)) ∧ (cn c = 0 → P (um_slot P c) = -1 ∧ C (um_slot P c) = 0))
theorem um_TB_cn {K : Nat} {cn : Nat → Nat} {P C : Nat → Int32} (h : um_TB K cn P C) {c : Nat} (hc : c < um_N K) (hm : c < um_mir K c) : C (um_slot P c) = nI (cn c) := by
  by_cases z : cn c = 0
  · rw [((h.2 c hc hm).2 z).2, z]; rfl
  · exact ((h.2 c hc hm).1 (by omega)).2
/-- two canonical codes that agree up to the mirror are one -/
theorem um_can_eq {K c c' w : Nat} (hK : K = 3 ∨ K = 5) (hc : c < um_N K) (hm : c < um_mir K c) (hc' : c' < um_N K) (hm' : c' < um_mir K c') (h : w = c ∨ w = um_mir K c) (h' : w = c' ∨ w = um_mir K c') : c = c' := by
  have i1 := um_mir_mir hK hc
  have i2 := um_mir_mir hK hc'
  rcases h with e | e <;> rcases h' with e' | e'
  · omega
  · have e2 : um_mir K c = c' := by rw [← e, e', i2]
    omega
  · have e2 : um_mir K c' = c := by rw [← e', e, i1]
    omega
  · exact um_mir_inj hK hc hc' (by omega)
theorem um_TB_old {K c0 : Nat} {cn cn' : Nat → Nat} {P C : Nat → Int32} (hK : K = 3 ∨ K = 5) (h : um_TB K cn P C) (hc0 : c0 < um_N K) (hm0 : c0 < um_mir K c0) (hcn : ∀ c, c < um_N K → c < um_mir K c → cn' c = cn c + if c = c0 then 1 else 0) (h0 : 0 < cn c0) : um_TB K cn' (upd P (um_slot P c0) (nI c0)) (upd C (um_slot P c0) (C (um_slot P c0) + 1)) := by
  have hN := (um_NT hK).2.1
  obtain ⟨hP, hC⟩ := (h.2 c0 hc0 hm0).1 h0
  have eP : upd P (um_slot P c0) (nI c0) = P := funext fun j => by
    by_cases e : j = um_slot P c0
    · rw [e, pk_us, hP]
    · rw [pk_un e]
  rw [eP]
  refine ⟨fun a ha => ?_, fun c hc hm => ⟨fun hp => ?_, fun hz => ?_⟩⟩
  · rcases h.1 a ha with ⟨e1, e2⟩ | ⟨c, h1, h2, h3, h4, h5⟩
    · left
      have ne : a ≠ um_slot P c0 := by
        intro e
        rw [e, hP] at e1
        exact um_neg1 (by omega) e1
      exact ⟨e1, by rw [pk_un ne]; exact e2⟩
    · right
      exact ⟨c, h1, h2, by rw [hcn c h1 h2]; exact Nat.lt_of_lt_of_le h3 (Nat.le_add_right _ _), h4, h5⟩
  · by_cases e : c = c0
    · subst e
      refine ⟨hP, ?_⟩
      rw [pk_us, hC, hcn c hc hm, if_pos rfl, nI_1]
    · have ec : cn' c = cn c := by rw [hcn c hc hm, if_neg e, Nat.add_zero]
      rw [ec] at hp ⊢
      obtain ⟨a1, a2⟩ := (h.2 c hc hm).1 hp
      have ne : um_slot P c ≠ um_slot P c0 := by
        intro z
        rw [z, hP] at a1
        exact e ((nI_eq (by omega) (by omega)).mp a1).symm
      exact ⟨a1, by rw [pk_un ne]; exact a2⟩
  · have e : c ≠ c0 := by
      intro e
      rw [e, hcn c0 hc0 hm0] at hz
      omega
    rw [hcn c hc hm, if_neg e, Nat.add_zero] at hz
    obtain ⟨a1, a2⟩ := (h.2 c hc hm).2 hz
    have ne : um_slot P c ≠ um_slot P c0 := by
      intro z
      rw [z, hP] at a1
      exact um_neg1 (by omega) a1
    exact ⟨a1, by rw [pk_un ne]; exact a2⟩
theorem um_TB_new {K c0 : Nat} {cn cn' W : Nat → Nat} {P C : Nat → Int32} (hK : K = 3 ∨ K = 5) (h : um_TB K cn P C) (hc0 : c0 < um_N K) (hm0 : c0 < um_mir K c0) (hcn : ∀ c, c < um_N K → c < um_mir K c → cn' c = cn c + if c = c0 then 1 else 0) (hW : ∀ c, c < um_N K → c < um_mir K c → 0 < cn' c → ∃ p, p < 96 ∧ (W p = c ∨ W p = um_mir K c)) (h0 : cn c0 = 0) : um_TB K cn' (upd P (um_slot P c0) (nI c0)) (upd C (um_slot P c0) (C (um_slot P c0) + 1)) := by
  have hN := (um_NT hK).2.1
  obtain ⟨hP, hC⟩ := (h.2 c0 hc0 hm0).2 h0
  have hs := um_slot_lt P c0
  have hsd : um_go P (nI c0) 128 (um_h c0) = um_slot P c0 := rfl
  generalize um_slot P c0 = s at hP hC hs hsd ⊢
  have hneg : P s < 0 := by rw [hP]; decide
  have hc0' : cn' c0 = 1 := by rw [hcn c0 hc0 hm0, h0, if_pos rfl]
  have hge : ∀ c, c < um_N K → c < um_mir K c → 0 < cn c → 0 < cn' c := fun c a b z => by
    rw [hcn c a b]; exact Nat.lt_of_lt_of_le z (Nat.le_add_right _ _)
  have hno : ∀ a, a < 128 → P a ≠ nI c0 := by
    intro a ha e
    rcases h.1 a ha with ⟨e1, _⟩ | ⟨c, h1, h2, h3, h4, h5⟩
    · rw [e] at e1
      exact um_neg1 (by omega) e1
    · rw [e] at h4
      have := (nI_eq (by omega) (by omega)).mp h4
      subst this
      omega
  have hslot0 : um_slot (upd P s (nI c0)) c0 = s := by
    obtain ⟨d, hd, e1, e2, e3⟩ := um_go_ex (P := P) (c := nI c0) (um_h_lt c0) hs (Or.inl hneg)
    have e4 : (um_h c0 + d) % 128 = s := by rw [← e1, hsd]
    show um_go (upd P s (nI c0)) (nI c0) 128 (um_h c0) = s
    rw [um_go_at d 128 (um_h c0) (um_h_lt c0) hd]
    · exact e4
    · rw [e4]; exact Or.inr pk_us
    · intro e he hst
      have ne : (um_h c0 + e) % 128 ≠ s := fun z => e3 e he (by rw [z]; exact Or.inl hneg)
      rw [um_stp, pk_un ne] at hst
      exact e3 e he hst
  have hkeep : ∀ c, c < um_N K → c < um_mir K c → 0 < cn c → um_slot (upd P s (nI c0)) c = um_slot P c := by
    intro c hc hm hp
    obtain ⟨a1, _⟩ := (h.2 c hc hm).1 hp
    obtain ⟨d, hd, e1, e2, e3⟩ := um_go_ex (P := P) (c := nI c) (um_h_lt c) (um_slot_lt P c) (Or.inr a1)
    have e4 : (um_h c + d) % 128 = um_slot P c := e1.symm
    show um_go (upd P s (nI c0)) (nI c) 128 (um_h c) = um_slot P c
    rw [um_go_at d 128 (um_h c) (um_h_lt c) hd]
    · exact e4
    · rw [e4]
      have ne : um_slot P c ≠ s := by
        intro z
        rw [z, hP] at a1
        exact um_neg1 (n := c) (by omega) a1.symm
      exact Or.inr (by rw [pk_un ne]; exact a1)
    · intro e he hst
      have ne : (um_h c + e) % 128 ≠ s := fun z => e3 e he (by rw [z]; exact Or.inl hneg)
      rw [um_stp, pk_un ne] at hst
      exact e3 e he hst
  have hfree : ∃ a, a < 128 ∧ upd P s (nI c0) a < 0 := by
    by_cases hc : ∃ a, a < 128 ∧ upd P s (nI c0) a < 0
    · exact hc
    · exfalso
      obtain ⟨i, j, p, hij, hj, ⟨c, c1, c2, c3, c4⟩, ⟨c', c1', c2', c3', c4'⟩⟩ := um_pig (R := fun a p => ∃ c, c < um_N K ∧ c < um_mir K c ∧ upd P s (nI c0) a = nI c ∧ (W p = c ∨ W p = um_mir K c)) (n := 128) (m := 96) (by decide) (fun a ha => by
        by_cases e : a = s
        · obtain ⟨p, hp, hw⟩ := hW c0 hc0 hm0 (by omega)
          exact ⟨p, hp, c0, hc0, hm0, by rw [e, pk_us], hw⟩
        · rcases h.1 a ha with ⟨e1, _⟩ | ⟨c, h1, h2, h3, h4, h5⟩
          · exact absurd ⟨a, ha, by rw [pk_un e, e1]; decide⟩ hc
          · obtain ⟨p, hp, hw⟩ := hW c h1 h2 (hge c h1 h2 h3)
            exact ⟨p, hp, c, h1, h2, by rw [pk_un e]; exact h4, hw⟩)
      have ec : c = c' := um_can_eq hK c1 c2 c1' c2' c4 c4'
      subst ec
      have place : ∀ a, a < 128 → upd P s (nI c0) a = nI c → (c = c0 ∧ a = s) ∨ (c ≠ c0 ∧ a = um_slot P c) := by
        intro a ha e
        by_cases ea : a = s
        · rw [ea, pk_us] at e
          exact Or.inl ⟨((nI_eq (by omega) (by omega)).mp e).symm, ea⟩
        · rw [pk_un ea] at e
          right
          refine ⟨fun z => hno a ha (by rw [e, z]), ?_⟩
          rcases h.1 a ha with ⟨e1, _⟩ | ⟨c', h1, h2, h3, h4, h5⟩
          · rw [e] at e1
            exact (um_neg1 (by omega) e1).elim
          · rw [e] at h4
            rw [(nI_eq (by omega) (by omega)).mp h4]
            exact h5
      rcases place i (by omega) c3 with ⟨a1, a2⟩ | ⟨a1, a2⟩ <;> rcases place j (by omega) c3' with ⟨b1, b2⟩ | ⟨b1, b2⟩
      · omega
      · exact b1 a1
      · exact a1 b1
      · omega
  refine ⟨fun a ha => ?_, fun c hc hm => ⟨fun hp => ?_, fun hz => ?_⟩⟩
  · by_cases e : a = s
    · right
      exact ⟨c0, hc0, hm0, by omega, by rw [e, pk_us], by rw [hslot0, e]⟩
    · rcases h.1 a ha with ⟨e1, e2⟩ | ⟨c, h1, h2, h3, h4, h5⟩
      · left
        exact ⟨by rw [pk_un e]; exact e1, by rw [pk_un e]; exact e2⟩
      · right
        exact ⟨c, h1, h2, hge c h1 h2 h3, by rw [pk_un e]; exact h4, by rw [hkeep c h1 h2 h3]; exact h5⟩
  · by_cases e : c = c0
    · subst e
      rw [hslot0, pk_us, pk_us, hC, hc0']
      exact ⟨rfl, rfl⟩
    · have ec : cn' c = cn c := by rw [hcn c hc hm, if_neg e, Nat.add_zero]
      rw [ec] at hp ⊢
      obtain ⟨a1, a2⟩ := (h.2 c hc hm).1 hp
      have ne : um_slot P c ≠ s := by
        intro z
        rw [z, hP] at a1
        exact um_neg1 (n := c) (by omega) a1.symm
      rw [hkeep c hc hm hp, pk_un ne, pk_un ne]
      exact ⟨a1, a2⟩
  · have e : c ≠ c0 := by
      intro e
      rw [e] at hz
      omega
    rw [hcn c hc hm, if_neg e, Nat.add_zero] at hz
    obtain ⟨s', hs', hn⟩ := hfree
    obtain ⟨d, hd, e1, e2, e3⟩ := um_go_ex (P := upd P s (nI c0)) (c := nI c) (um_h_lt c) hs' (Or.inl hn)
    have e4 : um_slot (upd P s (nI c0)) c = (um_h c + d) % 128 := e1
    have ha : (um_h c + d) % 128 < 128 := Nat.mod_lt _ (by decide)
    rw [e4]
    generalize (um_h c + d) % 128 = a at e2 ha ⊢
    by_cases ea : a = s
    · exfalso
      rw [ea] at e2
      rcases e2 with z | z
      · rw [pk_us] at z
        exact nI_pos (by omega) z
      · rw [pk_us] at z
        exact e ((nI_eq (by omega) (by omega)).mp z).symm
    · rw [pk_un ea, pk_un ea]
      rcases h.1 a ha with hh | ⟨c', h1, h2, h3, h4, h5⟩
      · exact hh
      · exfalso
        rcases e2 with z | z
        · rw [pk_un ea, h4] at z
          exact nI_pos (by omega) z
        · rw [pk_un ea, h4] at z
          have := (nI_eq (by omega) (by omega)).mp z
          subst this
          omega
theorem um_TB_step {K c0 : Nat} {cn cn' W : Nat → Nat} {P C : Nat → Int32} (hK : K = 3 ∨ K = 5) (h : um_TB K cn P C) (hc0 : c0 < um_N K) (hm0 : c0 < um_mir K c0) (hcn : ∀ c, c < um_N K → c < um_mir K c → cn' c = cn c + if c = c0 then 1 else 0) (hW : ∀ c, c < um_N K → c < um_mir K c → 0 < cn' c → ∃ p, p < 96 ∧ (W p = c ∨ W p = um_mir K c)) : um_TB K cn' (upd P (um_slot P c0) (nI c0)) (upd C (um_slot P c0) (C (um_slot P c0) + 1)) := by
  by_cases z : cn c0 = 0
  · exact um_TB_new hK h hc0 hm0 hcn hW z
  · exact um_TB_old hK h hc0 hm0 hcn (by omega)
theorem um_TB_init {K : Nat} {cn : Nat → Nat} {P C : Nat → Int32} (hcn : ∀ c, c < um_N K → cn c = 0) (hP : ∀ a, a < 128 → P a = -1) (hC : ∀ a, a < 128 → C a = 0) : um_TB K cn P C := by
  refine ⟨fun a ha => Or.inl ⟨hP a ha, hC a ha⟩, fun c hc hm => ⟨fun hp => ?_, fun _ => ⟨hP _ (um_slot_lt P c), hC _ (um_slot_lt P c)⟩⟩⟩
  rw [hcn c hc] at hp
  exact absurd hp (Nat.lt_irrefl 0)
/-- canonical -/
def um_can (K x : Nat) : Nat := if um_mir K x ≤ x then um_mir K x else x
theorem um_can_lt {K x : Nat} (hK : K = 3 ∨ K = 5) (hx : x < um_N K) : um_can K x < um_N K ∧ um_can K x < um_mir K (um_can K x) ∧ (um_can K x = x ∨ um_can K x = um_mir K x) := by
  have h1 := um_mir_lt hK hx
  have h2 := um_mir_mir hK hx
  have h3 := um_mir_ne hK hx
  by_cases c : um_mir K x ≤ x
  · have e : um_can K x = um_mir K x := if_pos c
    rw [e, h2]
    exact ⟨h1, by omega, Or.inr rfl⟩
  · have e : um_can K x = x := if_neg c
    rw [e]
    exact ⟨hx, by omega, Or.inl rfl⟩
end
section
/-! the only one of a kind; links -/
noncomputable def um_pick (U : Nat → Prop) : Option Nat := @dite (Option Nat) (∃ y, U y) (Classical.propDecidable _) (fun h => some h.choose) (fun _ => none)
theorem um_pick_n {U : Nat → Prop} (h : ∀ y, ¬ U y) : um_pick U = none :=
  @dif_neg (∃ y, U y) (Classical.propDecidable _) (fun ⟨y, z⟩ => h y z) _ _ _
theorem um_pick_s {U : Nat → Prop} (hu : ∀ a b, U a → U b → a = b) {y : Nat} : um_pick U = some y ↔ U y := by
  by_cases hx : ∃ y, U y
  · have e : um_pick U = some hx.choose := @dif_pos (∃ y, U y) (Classical.propDecidable _) hx _ _ _
    have hc := hx.choose_spec
    rw [e]
    constructor
    · intro z
      rw [← Option.some.inj z]
      exact hc
    · intro z
      rw [hu _ _ hc z]
  · have e : um_pick U = none := um_pick_n (fun y z => hx ⟨y, z⟩)
    rw [e]
    constructor
    · intro z
      cases z
    · intro z
      exact absurd ⟨y, z⟩ hx
/-- y is the only solid piece that follows x -/
def um_U (so : Nat → Prop) (T x y : Nat) : Prop := so y ∧ y / 4 = x % T ∧ ∀ z, so z → z / 4 = x % T → z = y
theorem um_U_fun {so : Nat → Prop} {T x : Nat} (a b : Nat) (ha : um_U so T x a) (hb : um_U so T x b) : a = b := hb.2.2 a ha.1 ha.2.1
noncomputable def um_fo (so : Nat → Prop) (T x : Nat) : Option Nat := um_pick (um_U so T x)
theorem um_fo_s {so : Nat → Prop} {T x y : Nat} : um_fo so T x = some y ↔ um_U so T x y := um_pick_s um_U_fun
def um_lk (so : Nat → Prop) (K x y : Nat) : Prop := um_U so (um_T K) x y ∧ um_U so (um_T K) (um_mir K y) (um_mir K x) ∧ y ≠ x ∧ y ≠ um_mir K x
noncomputable def um_la (so : Nat → Prop) (K x : Nat) : Option Nat := um_pick (um_lk so K x)
theorem um_la_s {so : Nat → Prop} {K x y : Nat} : um_la so K x = some y ↔ um_lk so K x y := um_pick_s (fun a b ha hb => um_U_fun a b ha.1 hb.1)
theorem um_la_n {so : Nat → Prop} {K x : Nat} (h : ∀ y, ¬ um_lk so K x y) : um_la so K x = none := um_pick_n h
theorem um_U_lt {so : Nat → Prop} {K x y : Nat} (hK : K = 3 ∨ K = 5) (h : um_U so (um_T K) x y) : y < um_N K := by
  obtain ⟨h1, h2, h3⟩ := um_NT hK
  have h4 : x % um_T K < um_T K := Nat.mod_lt _ (by omega)
  have h5 := h.2.1
  omega
theorem um_LA_la {K : Nat} {so : Nat → Prop} {W : Nat → Nat} (hK : K = 3 ∨ K = 5) (hs : ∀ x, x < um_N K → so x → so (um_mir K x) ∧ ∃ p, p < 96 ∧ (W p = x ∨ W p = um_mir K x)) : um_LA (um_N K) (um_mir K) so W (um_la so K) := by
  refine ⟨fun x hx => ⟨um_mir_lt hK hx, um_mir_mir hK hx, um_mir_ne hK hx⟩, hs, fun x y hx h => ?_⟩
  have hl := um_la_s.mp h
  have hy := um_U_lt hK hl.1
  have sx : so x := by
    have h1 := (hs _ (um_mir_lt hK hx) hl.2.1.1).1
    rw [um_mir_mir hK hx] at h1
    exact h1
  refine ⟨hy, sx, hl.1.1, um_la_s.mpr ⟨hl.2.1, ?_, ?_, ?_⟩, hl.2.2.2, hl.2.2.1⟩
  · rw [um_mir_mir hK hx, um_mir_mir hK hy]
    exact hl.1
  · intro e
    exact hl.2.2.1 (um_mir_inj hK hx hy e).symm
  · intro e
    rw [um_mir_mir hK hy] at e
    exact hl.2.2.2 e.symm
def um_oI : Option Nat → Int32
  | none => -1
  | some y => nI y
theorem um_oI_n : um_oI none = -1 := rfl
theorem um_oI_s (y : Nat) : um_oI (some y) = nI y := rfl
end
section
/-! X: what each of its own methods answers -/
theorem ux_mirrorOf_loop {post : Int32 → Prop} {n : Nat} (hn : n ≤ 5) : ∀ (d i r x f : Nat), i + d = n → d < f → r < 4 ^ i → x < 2 ^ 31 → post (nI (um_mi d r x)) → wX_mirrorOf_7 post (nI n) f (nI r) (nI x) (nI i) := by
  intro d
  induction d with
  | zero =>
    intro i r x f hi hf hr hx hp
    obtain ⟨f, rfl⟩ : ∃ g, f = g + 1 := ⟨f - 1, by omega⟩
    exact br_t (nI_le (by omega) (by omega)) hp
  | succ d ih =>
    intro i r x f hi hf hr hx hp
    obtain ⟨f, rfl⟩ : ∃ g, f = g + 1 := ⟨f - 1, by omega⟩
    have h4 : 4 ^ i ≤ 4 ^ 5 := Nat.pow_le_pow_right (by decide) (by omega)
    have h5 : (4 : Nat) ^ 5 = 1024 := rfl
    refine br_f (nI_ge (by omega) (by omega)) (br_f (nI_ge (b := 5) (by omega) (by decide)) ?_)
    have e1 : (nI r <<< ((2 : Int32) &&& 31)) ||| (3 - (nI x &&& 3)) = nI (r * 4 + (3 - x % 4)) := by
      have e3 : (3 : Int32) - nI (x % 4) = nI (3 - x % 4) := pk_sub (a := 3) (by omega)
      rw [um_shl2 (by omega), um_and3N hx, e3, um_or4 (by omega) (by omega)]
    refine nm_r e1 (nm_r (um_shr2 hx) (nm_r (nI_1 i) ?_))
    exact ih (i + 1) _ _ f (by omega) (by omega) (by rw [Nat.pow_succ]; omega) (by omega) hp
theorem ux_mirrorOf {post : Int32 → Prop} {n x : Nat} (hn : n ≤ 5) (hx : x < 2 ^ 31) (hp : post (nI (um_mir n x))) : wpX_mirrorOf post (nI x) (nI n) :=
  ⟨n + 1, ux_mirrorOf_loop hn n 0 0 x (n + 1) (by omega) (by omega) (by decide) hx hp⟩
section
variable {post : Int32 → Prop} {K f x : Nat} {fm ff ft fw fv fl fp : Int32} {aP aC aM : Nat → Int32}
theorem ux_canonical (hK : K = 3 ∨ K = 5) (hx : x < um_N K) (hp : post (nI (um_can K x))) : wpX_canonical post (nI K, fm, ff, ft, fw, fv, fl, fp, aP, aC, aM) (nI x) := by
  have hN := (um_NT hK).2.1
  have hm := um_mir_lt hK hx
  unfold wpX_canonical
  dsimp only
  refine ux_mirrorOf (by omega) (by omega) ?_
  refine pk_le (um_mir K x) x (fun c => ?_) (fun c => ?_)
  · rw [um_can, if_pos c] at hp
    exact hp
  · rw [um_can, if_neg (by omega)] at hp
    exact hp
theorem ux_placeOf_loop {c : Nat} : ∀ (d a s g : Nat), s + d = 128 → d < g → a < 128 → post (nI (um_go aP (nI c) d a)) → wX_placeOf_21 post (nI c) (nI K) fm ff ft fw fv fl fp aP aC aM g (nI a) (nI s) := by
  intro d
  induction d with
  | zero =>
    intro a s g hs hg ha hp
    obtain ⟨g, rfl⟩ : ∃ k, g = k + 1 := ⟨g - 1, by omega⟩
    exact br_t (nI_le (a := 128) (by omega) (by omega)) hp
  | succ d ih =>
    intro a s g hs hg ha hp
    obtain ⟨g, rfl⟩ : ∃ k, g = k + 1 := ⟨g - 1, by omega⟩
    have e : (nI a).toNatClampNeg = a := nI_clamp (by omega)
    have hi : vp_in (nI a) 128 := vp_in_nI ha (by decide)
    refine br_f (nI_ge (b := 128) (by omega) (by decide)) ⟨hi, ?_⟩
    rw [e]
    by_cases h1 : aP a < 0
    · rw [um_go_stop (Or.inl h1)] at hp
      exact br_t h1 hp
    · refine br_f h1 ⟨hi, ?_⟩
      by_cases h2 : aP a = nI c
      · rw [um_go_stop (Or.inr h2)] at hp
        exact br_t h2 hp
      · rw [um_go_on (fun z => z.elim h1 h2)] at hp
        have e1 : (nI a + 1) &&& 127 = nI ((a + 1) % 128) := by
          rw [nI_1]
          exact pk_andN (by omega) 7 (by decide)
        refine br_f h2 (nm_r e1 (nm_r (nI_1 s) ?_))
        exact ih _ (s + 1) g (by omega) (by omega) (Nat.mod_lt _ (by decide)) hp
theorem um_hI {c : Nat} (hc : c < 1024) : ((nI c * 37) + (((nI c).toUInt32 >>> ((3 : Int32).toUInt32 &&& Int32.toUInt32 31)).toInt32)) &&& 127 = nI (um_h c) := by
  have e1 : nI c * 37 = nI (c * 37) := pk_mul c 37
  rw [um_shr3 (by omega), e1, nI_add]
  exact pk_andN (by omega) 7 (by decide)
theorem ux_placeOf (hK : K = 3 ∨ K = 5) (hx : x < um_N K) (hp : post (nI (um_slot aP (um_can K x)))) : wpX_placeOf post (nI K, fm, ff, ft, fw, fv, fl, fp, aP, aC, aM) (nI x) := by
  have hN := (um_NT hK).2.1
  have hc := (um_can_lt hK hx).1
  unfold wpX_placeOf
  dsimp only
  refine ux_canonical hK hx ?_
  refine nm_r (um_hI (by omega)) ⟨129, ?_⟩
  exact ux_placeOf_loop 128 (um_h (um_can K x)) 0 129 (by omega) (by omega) (um_h_lt _) hp
end
/-- what X's table gives -/
def um_XH (K f : Nat) (cn : Nat → Nat) (P C : Nat → Int32) : Prop :=
  (K = 3 ∨ K = 5) ∧ (1 ≤ f ∧ f ≤ 9) ∧ (∀ x, x < um_N K → cn (um_mir K x) = cn x ∧ cn x ≤ 96) ∧ um_TB K cn P C
section
variable {post : Int32 → Prop} {K f x : Nat} {cn : Nat → Nat} {ft fw fv fl fp : Int32} {aP aC aM : Nat → Int32}
theorem um_can_cn (H : um_XH K f cn aP aC) (hx : x < um_N K) : cn (um_can K x) = cn x := by
  rcases (um_can_lt H.1 hx).2.2 with e | e
  · rw [e]
  · rw [e, (H.2.2.1 x hx).1]
theorem ux_countFor {fm ff : Int32} (H : um_XH K f cn aP aC) (hx : x < um_N K) (hp : post (nI (cn x))) : wpX_countFor post (nI K, fm, ff, ft, fw, fv, fl, fp, aP, aC, aM) (nI x) := by
  have hc := um_can_lt H.1 hx
  have hs := um_slot_lt aP (um_can K x)
  unfold wpX_countFor
  dsimp only
  refine ux_placeOf H.1 hx ⟨vp_in_nI hs (by decide), ?_⟩
  rw [nI_clamp (by omega), um_TB_cn H.2.2.2 hc.1 hc.2.1, um_can_cn H hx]
  exact hp
theorem ux_isSolid {fm : Int32} (H : um_XH K f cn aP aC) (hx : x < um_N K) (h1 : f ≤ cn x → post 1) (h0 : ¬ f ≤ cn x → post 0) : wpX_isSolid post (nI K, fm, nI f, ft, fw, fv, fl, fp, aP, aC, aM) (nI x) := by
  have hb := (H.2.2.1 x hx).2
  have hf := H.2.1
  unfold wpX_isSolid
  dsimp only
  refine ux_countFor H hx ?_
  exact pk_lt (cn x) f (fun c => h0 (by omega)) (fun c => h1 c)
theorem ux_mirror {fm ff : Int32} (hK : K = 3 ∨ K = 5) (hx : x < um_N K) (hp : post (nI (um_mir K x))) : wpX_mirror post (nI K, fm, ff, ft, fw, fv, fl, fp, aP, aC, aM) (nI x) := by
  have hN := (um_NT hK).2.1
  unfold wpX_mirror
  dsimp only
  exact ux_mirrorOf (by omega) (by omega) hp
theorem ux_only_loop (H : um_XH K f cn aP aC) (hx : x < um_N K) (hp : post (um_oI (um_fo (fun y => f ≤ cn y) (um_T K) x))) : ∀ (d j g : Nat) (r : Option Nat), j + d = 4 → d < g → ((r = none ∧ ∀ i, i < j → ¬ f ≤ cn (x % um_T K * 4 + i)) ∨ (∃ i0, i0 < j ∧ r = some (x % um_T K * 4 + i0) ∧ f ≤ cn (x % um_T K * 4 + i0) ∧ ∀ i, i < j → f ≤ cn (x % um_T K * 4 + i) → i = i0)) → wX_onlyFollower_4 post (nI x) (nI K) (nI (um_N K - 1)) (nI f) ft fw fv fl fp aP aC aM g (um_oI r) (nI j) := by
  obtain ⟨h1, h2, h3⟩ := um_NT H.1
  have hT : x % um_T K < um_T K := Nat.mod_lt _ (by omega)
  have hpush : ∀ j, j < 4 → ((nI x <<< ((2 : Int32) &&& 31)) &&& nI (um_N K - 1)) ||| nI j = nI (x % um_T K * 4 + j) := fun j hj => um_pushI H.1 hx hj
  have hfo : ∀ y, um_fo (fun y => f ≤ cn y) (um_T K) x = some y ↔ um_U (fun y => f ≤ cn y) (um_T K) x y := fun y => um_fo_s
  have hfn : (∀ y, ¬ um_U (fun y => f ≤ cn y) (um_T K) x y) → um_fo (fun y => f ≤ cn y) (um_T K) x = none := um_pick_n
  generalize um_fo (fun y => f ≤ cn y) (um_T K) x = R at hp hfo hfn
  have hUd : ∀ y, um_U (fun y => f ≤ cn y) (um_T K) x y ↔ (f ≤ cn y ∧ y / 4 = x % um_T K ∧ ∀ z, f ≤ cn z → z / 4 = x % um_T K → z = y) := fun y => Iff.rfl
  generalize x % um_T K = b at hT hpush hUd ⊢
  intro d
  induction d with
  | zero =>
    intro j g r hj hg hr
    obtain ⟨g, rfl⟩ : ∃ k, g = k + 1 := ⟨g - 1, by omega⟩
    refine br_t (nI_le (a := 4) (by omega) (by omega)) ?_
    rcases hr with ⟨e, hn⟩ | ⟨i0, hi0, e, hs, hu⟩
    · rw [hfn (fun y hy => by
        have hy := (hUd y).mp hy
        refine hn (y % 4) (by omega) ?_
        rw [show b * 4 + y % 4 = y by omega]
        exact hy.1)] at hp
      rw [e]
      exact hp
    · rw [(hfo (b * 4 + i0)).mpr ((hUd _).mpr ⟨hs, by omega, fun z hz hzb => by
        have h5 := hu (z % 4) (by omega) (by rw [show b * 4 + z % 4 = z by omega]; exact hz)
        omega⟩)] at hp
      rw [e]
      exact hp
  | succ d ih =>
    intro j g r hj hg hr
    obtain ⟨g, rfl⟩ : ∃ k, g = k + 1 := ⟨g - 1, by omega⟩
    refine br_f (nI_ge (b := 4) (by omega) (by decide)) (nm_r (hpush j (by omega)) ?_)
    refine ux_isSolid H (by omega) (fun hs => br_f (by decide) ?_) (fun hs => br_t rfl (nm_r (nI_1 j) ?_))
    · rcases hr with ⟨e, hn⟩ | ⟨i0, hi0, e, hs0, hu⟩
      · rw [e]
        refine br_t (by decide) (nm_r (nI_1 j) ?_)
        refine ih (j + 1) g (some (b * 4 + j)) (by omega) (by omega) (Or.inr ⟨j, by omega, rfl, hs, fun i hi hsi => ?_⟩)
        by_cases c : i < j
        · exact absurd hsi (hn i c)
        · omega
      · rw [e]
        refine br_f (nI_pos (by omega)) ?_
        rw [hfn (fun y hy => by
          have hy := (hUd y).mp hy
          have h5 := hy.2.2 _ hs0 (by omega)
          have h6 := hy.2.2 _ hs (by omega)
          omega)] at hp
        exact hp
    · refine ih (j + 1) g r (by omega) (by omega) ?_
      rcases hr with ⟨e, hn⟩ | ⟨i0, hi0, e, hs0, hu⟩
      · refine Or.inl ⟨e, fun i hi => ?_⟩
        by_cases c : i < j
        · exact hn i c
        · rw [show i = j by omega]
          exact hs
      · refine Or.inr ⟨i0, by omega, e, hs0, fun i hi hsi => ?_⟩
        by_cases c : i < j
        · exact hu i c hsi
        · rw [show i = j by omega] at hsi
          exact absurd hsi hs
theorem ux_onlyFollower (H : um_XH K f cn aP aC) (hx : x < um_N K) (hp : post (um_oI (um_fo (fun y => f ≤ cn y) (um_T K) x))) : wpX_onlyFollower post (nI K, nI (um_N K - 1), nI f, ft, fw, fv, fl, fp, aP, aC, aM) (nI x) :=
  ⟨5, ux_only_loop H hx hp 4 0 5 none (by omega) (by omega) (Or.inl ⟨rfl, fun i hi => by omega⟩)⟩
theorem ux_linkedAfter (H : um_XH K f cn aP aC) (hx : x < um_N K) (hp : post (um_oI (um_la (fun y => f ≤ cn y) K x))) : wpX_linkedAfter post (nI K, nI (um_N K - 1), nI f, ft, fw, fv, fl, fp, aP, aC, aM) (nI x) := by
  have hN := (um_NT H.1).2.1
  have hxm := um_mir_lt H.1 hx
  unfold wpX_linkedAfter
  dsimp only
  refine ux_onlyFollower H hx ?_
  refine ux_mirror H.1 hx ?_
  have hfo : ∀ x y, um_fo (fun y => f ≤ cn y) (um_T K) x = some y ↔ um_U (fun y => f ≤ cn y) (um_T K) x y := fun x y => um_fo_s
  have hn : (∀ y, ¬ um_lk (fun y => f ≤ cn y) K x y) → post (-1) := fun h => by
    rw [um_la_n h] at hp
    exact hp
  cases hU : um_fo (fun y => f ≤ cn y) (um_T K) x with
  | none =>
    refine br_t (by decide) (hn fun y hy => ?_)
    rw [(hfo x y).mpr hy.1] at hU
    cases hU
  | some y =>
    have hUy := (hfo x y).mp hU
    have hy := um_U_lt H.1 hUy
    have hym := um_mir_lt H.1 hy
    refine br_f (nI_pos (by omega)) (pk_eq y x (fun e => hn fun y' hy' => ?_) (fun ne => pk_eq y (um_mir K x) (fun e => hn fun y' hy' => ?_) (fun ne2 => ?_)))
    · exact hy'.2.2.1 (by rw [um_U_fun y' y hy'.1 hUy, e])
    · exact hy'.2.2.2 (by rw [um_U_fun y' y hy'.1 hUy, e])
    · refine ux_mirror H.1 hy ?_
      refine ux_onlyFollower H hym ?_
      by_cases hb : um_fo (fun y => f ≤ cn y) (um_T K) (um_mir K y) = some (um_mir K x)
      · rw [hb]
        refine br_t rfl ?_
        rw [um_la_s.mpr ⟨hUy, (hfo _ _).mp hb, ne, ne2⟩] at hp
        exact hp
      · refine br_f (fun e => hb ?_) (hn fun y' hy' => hb ((hfo _ _).mpr (by rw [← um_U_fun y' y hy'.1 hUy]; exact hy'.2.1)))
        cases hV : um_fo (fun y => f ≤ cn y) (um_T K) (um_mir K y) with
        | none =>
          rw [hV] at e
          exact absurd e.symm (um_neg1 (by omega))
        | some z =>
          rw [hV] at e
          have hz := um_U_lt H.1 ((hfo _ _).mp hV)
          rw [(nI_eq (by omega) (by omega)).mp e]
theorem ux_linkedBefore (H : um_XH K f cn aP aC) (hx : x < um_N K) (hp : post (um_oI (um_lb (um_mir K) (um_la (fun y => f ≤ cn y) K) x))) : wpX_linkedBefore post (nI K, nI (um_N K - 1), nI f, ft, fw, fv, fl, fp, aP, aC, aM) (nI x) := by
  have hN := (um_NT H.1).2.1
  have hxm := um_mir_lt H.1 hx
  unfold wpX_linkedBefore
  dsimp only
  refine ux_mirror H.1 hx ?_
  refine ux_linkedAfter H hxm ?_
  rw [um_lb] at hp
  cases hl : um_la (fun y => f ≤ cn y) K (um_mir K x) with
  | none =>
    rw [hl] at hp
    exact br_f (by decide) hp
  | some y =>
    rw [hl] at hp
    have hy := um_U_lt H.1 (um_la_s.mp hl).1
    exact br_t (nI_pos' (by omega)) (ux_mirror H.1 hy hp)
end
end
section
/-! X: first of chain, walk, and the loops over all places -/
noncomputable def um_A (K f : Nat) (cn : Nat → Nat) : Nat → Option Nat := um_la (fun y => f ≤ cn y) K
noncomputable def um_B (K f : Nat) (cn : Nat → Nat) : Nat → Option Nat := um_lb (um_mir K) (um_A K f cn)
def um_CH (K f : Nat) (cn : Nat → Nat) : Prop := ∃ W, um_LA (um_N K) (um_mir K) (fun y => f ≤ cn y) W (um_A K f cn)
theorem um_slot_inj {K f : Nat} {cn : Nat → Nat} {P C : Nat → Int32} (H : um_XH K f cn P C) {c : Nat} (hc : c < um_N K) (hm : c < um_mir K c) (hs : f ≤ cn c) : P (um_slot P c) = nI c :=
  ((H.2.2.2.2 c hc hm).1 (by have := H.2.1; omega)).1
/-- the places of the pieces from the s-th on -/
def um_Z (K : Nat) (P : Nat → Int32) (A : Nat → Option Nat) (st L s a : Nat) : Prop := ∃ i z, s ≤ i ∧ i < L ∧ um_it A i st = some z ∧ a = um_slot P (um_can K z)
theorem um_Z_s {K : Nat} {P : Nat → Int32} {A : Nat → Option Nat} {st L s a z : Nat} (h : um_it A s st = some z) (hs : s < L) : um_Z K P A st L s a ↔ a = um_slot P (um_can K z) ∨ um_Z K P A st L (s + 1) a := by
  constructor
  · rintro ⟨i, z', h1, h2, h3, h4⟩
    by_cases e : i = s
    · subst e
      rw [h] at h3
      rw [← Option.some.inj h3] at h4
      exact Or.inl h4
    · exact Or.inr ⟨i, z', by omega, h2, h3, h4⟩
  · rintro (e | ⟨i, z', h1, h2, h3, h4⟩)
    · exact ⟨s, z, Nat.le_refl s, hs, h, e⟩
    · exact ⟨i, z', by omega, h2, h3, h4⟩
theorem um_Z_e {K : Nat} {P : Nat → Int32} {A : Nat → Option Nat} {st L a : Nat} : ¬ um_Z K P A st L L a := by
  rintro ⟨i, z', h1, h2, h3, h4⟩
  omega
def um_Mk (M M' : Nat → Int32) (Z : Nat → Prop) : Prop := ∀ a, M' a ≠ 0 ↔ (M a ≠ 0 ∨ Z a)
theorem um_Mk_u {M : Nat → Int32} {s : Nat} : um_Mk M (upd M s 1) (fun a => a = s) := by
  intro a
  by_cases e : a = s
  · subst e
    rw [pk_us]
    exact ⟨fun _ => Or.inr rfl, fun _ => by decide⟩
  · rw [pk_un e]
    exact ⟨fun h => Or.inl h, fun h => h.elim id (fun z => absurd z e)⟩
theorem um_Mk_t {M M1 M' : Nat → Int32} {Z1 Z2 Z : Nat → Prop} (h1 : um_Mk M M1 Z1) (h2 : um_Mk M1 M' Z2) (hz : ∀ a, Z a ↔ Z1 a ∨ Z2 a) : um_Mk M M' Z := by
  intro a
  rw [h2 a, h1 a, hz a, or_assoc]
theorem um_narT (M : Nat → Int32) {s : Nat} (h : s < 2 ^ 31) : upd M (nI s).toNatClampNeg (vp_nar .boolean 1) = upd M s 1 := by
  rw [nI_clamp h]
  rfl
theorem um_narF (M : Nat → Int32) {s : Nat} (h : s < 2 ^ 31) : upd M (nI s).toNatClampNeg (vp_nar .boolean 0) = upd M s 0 := by
  rw [nI_clamp h]
  rfl
section
variable {K f x : Nat} {cn : Nat → Nat} {ft fw fv fl fp : Int32} {aP aC : Nat → Int32}
theorem ux_la {post : Int32 → Prop} {aM : Nat → Int32} (H : um_XH K f cn aP aC) (hx : x < um_N K) (hp : post (um_oI (um_A K f cn x))) : wpX_linkedAfter post (nI K, nI (um_N K - 1), nI f, ft, fw, fv, fl, fp, aP, aC, aM) (nI x) := ux_linkedAfter H hx hp
theorem ux_lb {post : Int32 → Prop} {aM : Nat → Int32} (H : um_XH K f cn aP aC) (hx : x < um_N K) (hp : post (um_oI (um_B K f cn x))) : wpX_linkedBefore post (nI K, nI (um_N K - 1), nI f, ft, fw, fv, fl, fp, aP, aC, aM) (nI x) := ux_linkedBefore H hx hp
theorem ux_first_loop {post : Int32 → Prop} {aM W : _} {b st : Nat} (H : um_XH K f cn aP aC) (HA : um_LA (um_N K) (um_mir K) (fun y => f ≤ cn y) W (um_A K f cn)) (hx : x < um_N K) (hPb : um_Per (um_B K f cn) x b) (hst : um_it (um_B K f cn) (b - 1) x = some st) (hb : b ≤ 96) (hp : post (nI st)) : ∀ (d s a g : Nat), s + d = b - 1 → d < g → um_it (um_B K f cn) s x = some a → wX_firstOfChain_4 post (nI x) (nI K) (nI (um_N K - 1)) (nI f) ft fw fv fl fp aP aC aM g (nI a) (nI s) := by
  have hN := (um_NT H.1).2.1
  have hb1 := hPb.1
  have HB : um_LA (um_N K) (um_mir K) (fun y => f ≤ cn y) W (um_B K f cn) := um_LA_lb HA
  intro d
  induction d with
  | zero =>
    intro s a g hs hg ha
    obtain ⟨g, rfl⟩ : ∃ k, g = k + 1 := ⟨g - 1, by omega⟩
    have es : s = b - 1 := by omega
    rw [es] at ha ⊢
    rw [hst] at ha
    have ea : st = a := Option.some.inj ha
    subst ea
    have hstN := um_it_lt HB hx _ st hst
    have hB : um_it (um_B K f cn) b x = um_B K f cn st := by
      have e := um_it_add hst 1
      rw [show b - 1 + 1 = b by omega] at e
      exact e
    refine br_f (nI_ge (b := 128) (by omega) (by decide)) (ux_lb H hstN ?_)
    rw [← hB]
    rcases hPb.2.1 with e | e
    · rw [e]
      exact br_t (by decide) hp
    · rw [e]
      exact br_f (nI_pos (by omega)) (br_t rfl hp)
  | succ d ih =>
    intro s a g hs hg ha
    obtain ⟨g, rfl⟩ : ∃ k, g = k + 1 := ⟨g - 1, by omega⟩
    have haN := um_it_lt HB hx _ a ha
    obtain ⟨z, hz, hne⟩ := hPb.2.2 (s + 1) (by omega) (by omega)
    have hB : um_B K f cn a = some z := by
      have e := um_it_add ha 1
      rw [hz] at e
      exact e.symm
    have hzN := um_it_lt HB hx _ z hz
    refine br_f (nI_ge (b := 128) (by omega) (by decide)) (ux_lb H haN ?_)
    rw [hB]
    exact br_f (nI_pos (by omega)) (br_f (fun e => hne ((nI_eq (by omega) (by omega)).mp e)) (nm_r (nI_1 s) (ih (s + 1) z g (by omega) (by omega) hz)))
theorem ux_firstOfChain {post : Int32 → Prop} {aM W : _} {b st : Nat} (H : um_XH K f cn aP aC) (HA : um_LA (um_N K) (um_mir K) (fun y => f ≤ cn y) W (um_A K f cn)) (hx : x < um_N K) (hPb : um_Per (um_B K f cn) x b) (hst : um_it (um_B K f cn) (b - 1) x = some st) (hb : b ≤ 96) (hp : post (nI st)) : wpX_firstOfChain post (nI K, nI (um_N K - 1), nI f, ft, fw, fv, fl, fp, aP, aC, aM) (nI x) :=
  ⟨b, ux_first_loop H HA hx hPb hst hb hp (b - 1) 0 x b (by omega) (by have := hPb.1; omega) rfl⟩
theorem ux_walk_loop {post : Int32 → SX → Prop} {W : Nat → Nat} {st L : Nat} (H : um_XH K f cn aP aC) (HA : um_LA (um_N K) (um_mir K) (fun y => f ≤ cn y) W (um_A K f cn)) (hst : st < um_N K) (hP : um_Per (um_A K f cn) st L) (hL : L ≤ 96) : ∀ (d s z g : Nat) (M : Nat → Int32), s + d + 1 = L → d + 2 ≤ g → um_it (um_A K f cn) s st = some z → (∀ M', um_Mk M M' (um_Z K aP (um_A K f cn) st L s) → post (nI L) (nI K, nI (um_N K - 1), nI f, ft, fw, fv, fl, fp, aP, aC, M')) → wX_walk_7 post (nI st) (nI K) (nI (um_N K - 1)) (nI f) ft fw fv fl fp g (nI s) (nI z) (nI s) aP aC M := by
  have hN := (um_NT H.1).2.1
  intro d
  induction d with
  | zero =>
    intro s z g M hs hg hz hp
    obtain ⟨g, rfl⟩ : ∃ k, g = k + 1 + 1 := ⟨g - 2, by omega⟩
    have hzN := um_it_lt HA hst _ z hz
    have hsl := um_slot_lt aP (um_can K z)
    refine br_f (nI_ge (b := 128) (by omega) (by decide)) (br_f (nI_pos (by omega)) (ux_placeOf H.1 hzN ⟨vp_in_nI hsl (by decide), nm_r (um_narT M (by omega)) (nm_r (nI_1 s) (ux_la H hzN ?_))⟩))
    have hB : um_it (um_A K f cn) L st = um_A K f cn z := by
      have e := um_it_add hz 1
      rw [show s + 1 = L by omega] at e
      exact e
    have hq := hp (upd M (um_slot aP (um_can K z)) 1) (um_Mk_t um_Mk_u (M' := upd M (um_slot aP (um_can K z)) 1) (Z2 := fun a => False) (fun a => by rw [or_false]) (fun a => by
      rw [um_Z_s hz (by omega), show s + 1 = L by omega]
      exact or_congr Iff.rfl ⟨fun w => um_Z_e w, fun w => w.elim⟩))
    rw [← hB, show s + 1 = L by omega]
    rcases hP.2.1 with e | e
    · rw [e]
      refine br_f (fun e => um_neg1 (n := st) (by omega) e.symm) (nm_r (nI_1 s) ?_)
      exact br_f (nI_ge (a := s + 1) (b := 128) (by omega) (by decide)) (br_t (by decide) hq)
    · rw [e]
      exact br_t rfl hq
  | succ d ih =>
    intro s z g M hs hg hz hp
    obtain ⟨g, rfl⟩ : ∃ k, g = k + 1 := ⟨g - 1, by omega⟩
    have hzN := um_it_lt HA hst _ z hz
    have hsl := um_slot_lt aP (um_can K z)
    refine br_f (nI_ge (b := 128) (by omega) (by decide)) (br_f (nI_pos (by omega)) (ux_placeOf H.1 hzN ⟨vp_in_nI hsl (by decide), nm_r (um_narT M (by omega)) (nm_r (nI_1 s) (ux_la H hzN ?_))⟩))
    obtain ⟨z', hz', hne⟩ := hP.2.2 (s + 1) (by omega) (by omega)
    have hB : um_A K f cn z = some z' := by
      have e := um_it_add hz 1
      rw [hz'] at e
      exact e.symm
    have hzN' := um_it_lt HA hst _ z' hz'
    rw [hB]
    refine br_f (fun e => hne ((nI_eq (by omega) (by omega)).mp e)) (nm_r (nI_1 s) ?_)
    exact ih (s + 1) z' g _ (by omega) (by omega) hz' (fun M' hM' => hp M' (um_Mk_t um_Mk_u hM' (fun a => um_Z_s hz (by omega))))
theorem ux_walk {post : Int32 → SX → Prop} {W : Nat → Nat} {aM : Nat → Int32} {st L : Nat} (H : um_XH K f cn aP aC) (HA : um_LA (um_N K) (um_mir K) (fun y => f ≤ cn y) W (um_A K f cn)) (hst : st < um_N K) (hP : um_Per (um_A K f cn) st L) (hL : L ≤ 96) (hp : ∀ M', um_Mk aM M' (um_Z K aP (um_A K f cn) st L 0) → post (nI L) (nI K, nI (um_N K - 1), nI f, ft, fw, fv, fl, fp, aP, aC, M')) : wpX_walk post (nI K, nI (um_N K - 1), nI f, ft, fw, fv, fl, fp, aP, aC, aM) (nI st) :=
  ⟨L + 1, ux_walk_loop H HA hst hP hL (L - 1) 0 st (L + 1) aM (by have := hP.1; omega) (by have := hP.1; omega) rfl hp⟩
/-- the chain of x: its length, and the places that the walk marks -/
theorem ux_firstwalk {post : Int32 → SX → Prop} {W : Nat → Nat} {aM : Nat → Int32} (H : um_XH K f cn aP aC) (HA : um_LA (um_N K) (um_mir K) (fun y => f ≤ cn y) W (um_A K f cn)) (hx : x < um_N K) (hs : f ≤ cn x) (hp : ∀ M', um_Mk aM M' (fun a => ∃ z, z < um_N K ∧ um_con (um_A K f cn) x z ∧ a = um_slot aP (um_can K z)) → post (nI (um_len (um_N K) (um_A K f cn) x)) (nI K, nI (um_N K - 1), nI f, ft, fw, fv, fl, fp, aP, aC, M')) : wpX_firstOfChain (fun r => wpX_walk post (nI K, nI (um_N K - 1), nI f, ft, fw, fv, fl, fp, aP, aC, aM) r) (nI K, nI (um_N K - 1), nI f, ft, fw, fv, fl, fp, aP, aC, aM) (nI x) := by
  obtain ⟨n, b, st, hn, hb, hPn, hPb, hst, hstN, hstS, hfw, hh, hl, _⟩ := um_chain HA hx hs
  refine ux_firstOfChain H HA hx hPb hst hb ?_
  refine ux_walk H HA hstN hh.1 hl (fun M' hM' => hp M' (fun a => ?_))
  rw [hM' a]
  refine or_congr Iff.rfl ⟨?_, ?_⟩
  · rintro ⟨i, z, h1, h2, h3, h4⟩
    have hz := um_it_lt HA hstN i z h3
    exact ⟨z, hz, um_con_trans HA hx hz ⟨b - 1, Or.inr hfw⟩ ⟨i, Or.inl h3⟩, h4⟩
  · rintro ⟨z, hz, hc, h4⟩
    obtain ⟨i, h2, h3⟩ := (um_enum HA hstN hh hz).mp (um_con_trans HA hstN hz ⟨b - 1, Or.inl hfw⟩ hc)
    exact ⟨i, z, Nat.zero_le i, h2, h3, h4⟩
theorem ux_clear_loop {post : SX → Prop} {fm ff : Int32} : ∀ (d s g : Nat) (M : Nat → Int32), s + d = 128 → d < g → (∀ a, a < s → M a = 0) → (∀ M', (∀ a, a < 128 → M' a = 0) → post (nI K, fm, ff, ft, fw, fv, fl, fp, aP, aC, M')) → wX_clearMet_2 post (nI K) fm ff ft fw fv fl fp g (nI s) aP aC M := by
  intro d
  induction d with
  | zero =>
    intro s g M hs hg hM hp
    obtain ⟨g, rfl⟩ : ∃ k, g = k + 1 := ⟨g - 1, by omega⟩
    exact br_t (nI_le (a := 128) (by omega) (by omega)) (hp M (fun a ha => hM a (by omega)))
  | succ d ih =>
    intro s g M hs hg hM hp
    obtain ⟨g, rfl⟩ : ∃ k, g = k + 1 := ⟨g - 1, by omega⟩
    refine br_f (nI_ge (b := 128) (by omega) (by decide)) ⟨vp_in_nI (by omega) (by decide), nm_r (um_narF M (by omega)) (nm_r (nI_1 s) ?_)⟩
    refine ih (s + 1) g _ (by omega) (by omega) (fun a ha => ?_) hp
    by_cases e : a = s
    · rw [e, pk_us]
    · rw [pk_un e]
      exact hM a (by omega)
theorem ux_clearMet {post : SX → Prop} {fm ff : Int32} {aM : Nat → Int32} (hp : ∀ M', (∀ a, a < 128 → M' a = 0) → post (nI K, fm, ff, ft, fw, fv, fl, fp, aP, aC, M')) : wpX_clearMet post (nI K, fm, ff, ft, fw, fv, fl, fp, aP, aC, aM) :=
  ⟨129, ux_clear_loop 128 0 129 aM (by omega) (by omega) (fun a ha => by omega) hp⟩
theorem ux_solid_loop {post : Int32 → Prop} {fm : Int32} {aM : Nat → Int32} (hp : post (nI (um_cn (fun a => ¬ aC a < nI f) 128))) : ∀ (d s g : Nat), s + d = 128 → d < g → wX_solid_4 post (nI K) fm (nI f) ft fw fv fl fp aP aC aM g (nI (um_cn (fun a => ¬ aC a < nI f) s)) (nI s) := by
  intro d
  induction d with
  | zero =>
    intro s g hs hg
    obtain ⟨g, rfl⟩ : ∃ k, g = k + 1 := ⟨g - 1, by omega⟩
    have e : s = 128 := by omega
    rw [e]
    exact br_t (nI_le (a := 128) (by omega) (by omega)) hp
  | succ d ih =>
    intro s g hs hg
    obtain ⟨g, rfl⟩ : ∃ k, g = k + 1 := ⟨g - 1, by omega⟩
    refine br_f (nI_ge (b := 128) (by omega) (by decide)) ⟨vp_in_nI (by omega) (by decide), ?_⟩
    rw [nI_clamp (by omega)]
    have h1 := ih (s + 1) g (by omega) (by omega)
    by_cases c : aC s < nI f
    · rw [um_cn_f (p := fun a => ¬ aC a < nI f) (fun z => z c)] at h1
      exact br_t c (nm_r (nI_1 s) h1)
    · rw [um_cn_t (p := fun a => ¬ aC a < nI f) c] at h1
      exact br_f c (nm_r (nI_1 _) (nm_r (nI_1 s) h1))
theorem ux_solid {post : Int32 → Prop} {fm : Int32} {aM : Nat → Int32} (hp : post (nI (um_cn (fun a => ¬ aC a < nI f) 128))) : wpX_solid post (nI K, fm, nI f, ft, fw, fv, fl, fp, aP, aC, aM) :=
  ⟨129, ux_solid_loop hp 128 0 129 (by omega) (by omega)⟩
end
end
section
/-! places of X's table, the list of Y, and the counts that both make of the chains -/
def um_pc (P : Nat → Int32) (a : Nat) : Nat := (P a).toNatClampNeg
section
variable {K f : Nat} {cn : Nat → Nat} {P C : Nat → Int32}
theorem um_place (H : um_XH K f cn P C) {a : Nat} (ha : a < 128) (hs : ¬ C a < nI f) : um_pc P a < um_N K ∧ um_pc P a < um_mir K (um_pc P a) ∧ f ≤ cn (um_pc P a) ∧ P a = nI (um_pc P a) ∧ um_slot P (um_pc P a) = a := by
  have hN := (um_NT H.1).2.1
  have hf := H.2.1
  rcases H.2.2.2.1 a ha with ⟨e1, e2⟩ | ⟨c, h1, h2, h3, h4, h5⟩
  · exfalso
    apply hs
    rw [e2]
    exact nI_lt (a := 0) (by omega) (by omega)
  · have e : um_pc P a = c := by
      rw [um_pc, h4]
      exact nI_clamp (by omega)
    have h6 := um_TB_cn H.2.2.2 h1 h2
    rw [← h5] at h6
    rw [h6, nI_ltI (by have := (H.2.2.1 c h1).2; omega) (by omega)] at hs
    rw [e]
    exact ⟨h1, h2, by omega, h4, h5.symm⟩
theorem um_place_of (H : um_XH K f cn P C) {c : Nat} (hc : c < um_N K) (hm : c < um_mir K c) (hs : f ≤ cn c) : um_slot P c < 128 ∧ ¬ C (um_slot P c) < nI f ∧ um_pc P (um_slot P c) = c := by
  have hN := (um_NT H.1).2.1
  have hf := H.2.1
  refine ⟨um_slot_lt P c, ?_, ?_⟩
  · rw [um_TB_cn H.2.2.2 hc hm, nI_ltI (by have := (H.2.2.1 c hc).2; omega) (by omega)]
    omega
  · rw [um_pc, um_slot_inj H hc hm hs]
    exact nI_clamp (by omega)
end
/-! the same chain, up to the mirror -/
def um_sim (m : Nat → Nat) (la : Nat → Option Nat) (x y : Nat) : Prop := um_con la x y ∨ um_con la x (m y)
section
variable {N : Nat} {m : Nat → Nat} {so : Nat → Prop} {W : Nat → Nat} {la : Nat → Option Nat}
theorem um_sim_symm (H : um_LA N m so W la) {x y : Nat} (hx : x < N) (hy : y < N) (h : um_sim m la x y) : um_sim m la y x := by
  rcases h with h | h
  · exact Or.inl (um_con_symm h)
  · have h1 := um_con_mir H hx (H.1 y hy).1 h
    rw [(H.1 y hy).2.1] at h1
    exact Or.inr (um_con_symm h1)
theorem um_sim_trans (H : um_LA N m so W la) {x y z : Nat} (hx : x < N) (hy : y < N) (hz : z < N) (h : um_sim m la x y) (h' : um_sim m la y z) : um_sim m la x z := by
  have hzm := (H.1 z hz).1
  rcases h with h | h <;> rcases h' with h' | h'
  · exact Or.inl (um_con_trans H hx hz h h')
  · exact Or.inr (um_con_trans H hx hzm h h')
  · exact Or.inr (um_con_trans H hx hzm h (um_con_mir H hy hz h'))
  · have h1 := um_con_mir H hy hzm h'
    rw [(H.1 z hz).2.1] at h1
    exact Or.inl (um_con_trans H hx hz h h1)
theorem um_len_sim (H : um_LA N m so W la) {x y : Nat} (hx : x < N) (hy : y < N) (h : um_sim m la x y) : um_len N la x = um_len N la y := by
  rcases h with h | h
  · exact um_len_con H hx hy h
  · rw [um_len_con H hx (H.1 y hy).1 h, um_len_mir H hy]
theorem um_ring_con (H : um_LA N m so W la) {x y n : Nat} (hy : y < N) (e : um_it la n x = some x) (h : um_con la x y) : um_it la n y = some y := by
  obtain ⟨k, h | h⟩ := h
  · have h1 := um_it_add h n
    have h2 := um_it_add e k
    rw [Nat.add_comm, h2, h] at h1
    exact h1.symm
  · have h1 := um_it_add h n
    rw [e, Nat.add_comm] at h1
    obtain ⟨w, hw, hw2⟩ := um_it_pre h1 (k := n) (by omega)
    rw [show n + k - n = k by omega] at hw2
    rw [hw, um_it_inj H (um_it_lt H hy _ w hw) hy hw2 h]
/-- the piece by which Y counts its chain -/
def um_Ld (m : Nat → Nat) (la : Nat → Option Nat) (np : Nat) (PL : Nat → Nat) (i : Nat) : Prop :=
  um_lb m la (PL i) = none ∨ ((∃ n, 1 ≤ n ∧ um_it la n (PL i) = some (PL i)) ∧ ∀ j, j < np → um_con la (PL i) (PL j) → i ≤ j)
def um_GL (N : Nat) (so : Nat → Prop) (np : Nat) (PL : Nat → Nat) : Prop :=
  np ≤ 192 ∧ (∀ i, i < np → PL i < N ∧ so (PL i)) ∧ (∀ i j, i < np → j < np → PL i = PL j → i = j) ∧ (∀ x, x < N → so x → ∃ i, i < np ∧ PL i = x)
theorem um_Ld_ex (H : um_LA N m so W la) {np : Nat} {PL : Nat → Nat} (G : um_GL N so np PL) {x : Nat} (hx : x < N) (hs : so x) : ∃ i, i < np ∧ um_Ld m la np PL i ∧ um_con la (PL i) x := by
  obtain ⟨n, b, st, hn, hb, hPn, hPb, hst, hstN, hstS, hfw, hh, hl, hc⟩ := um_chain H hx hs
  rcases hc with ⟨e1, e2, e3⟩ | ⟨e1, e2, e3⟩
  · obtain ⟨i0, hi0, e0⟩ := G.2.2.2 x hx hs
    obtain ⟨i, ⟨hi, hci⟩, hmin⟩ := pk_least (fun i => i < np ∧ um_con la x (PL i)) ⟨i0, hi0, by rw [e0]; exact um_con_refl x⟩
    have hiN := (G.2.1 i hi).1
    refine ⟨i, hi, Or.inr ⟨⟨n, hPn.1, um_ring_con H hiN e1 hci⟩, fun j hj hc => ?_⟩, um_con_symm hci⟩
    by_cases c : i ≤ j
    · exact c
    · exact absurd ⟨hj, um_con_trans H hx (G.2.1 j hj).1 hci hc⟩ (hmin j (by omega))
  · obtain ⟨i, hi, e⟩ := G.2.2.2 st hstN hstS
    refine ⟨i, hi, Or.inl (by rw [e]; exact e2), ?_⟩
    rw [e]
    exact ⟨b - 1, Or.inl hfw⟩
theorem um_ring_pre (H : um_LA N m so W la) {x y n : Nat} (hx : x < N) (hn : 1 ≤ n) (e : um_it la n y = some y) (hc : um_con la y x) (hb : um_lb m la x = none) : False :=
  um_no_pre H hx hn (um_ring_con H hx e hc) hb
theorem um_Ld_un (H : um_LA N m so W la) {np : Nat} {PL : Nat → Nat} (G : um_GL N so np PL) {i j : Nat} (hi : i < np) (hj : j < np) (li : um_Ld m la np PL i) (lj : um_Ld m la np PL j) (hc : um_con la (PL i) (PL j)) : i = j := by
  have hiN := (G.2.1 i hi).1
  have hjN := (G.2.1 j hj).1
  rcases li with li | ⟨⟨n, hn, li⟩, mi⟩ <;> rcases lj with lj | ⟨⟨n', hn', lj⟩, mj⟩
  · obtain ⟨k, h | h⟩ := hc
    · by_cases k0 : k = 0
      · subst k0
        exact G.2.2.1 i j hi hj (Option.some.inj h)
      · exact (um_no_pre H hiN (by omega) h lj).elim
    · by_cases k0 : k = 0
      · subst k0
        exact G.2.2.1 i j hi hj (Option.some.inj h).symm
      · exact (um_no_pre H hjN (by omega) h li).elim
  · exact (um_ring_pre H hiN hn' lj (um_con_symm hc) li).elim
  · exact (um_ring_pre H hjN hn li hc lj).elim
  · have h1 := mi j hj hc
    have h2 := mj i hi (um_con_symm hc)
    omega
end
/-- the piece at the place j / 2, or its mirror -/
def um_or (K : Nat) (P : Nat → Int32) (j : Nat) : Nat := if j % 2 = 0 then um_pc P (j / 2) else um_mir K (um_pc P (j / 2))
section
variable {K f : Nat} {cn W : Nat → Nat} {P C : Nat → Int32} {np : Nat} {PL : Nat → Nat}
theorem um_or_cs (j : Nat) : (j % 2 = 0 ∧ um_or K P j = um_pc P (j / 2)) ∨ (j % 2 = 1 ∧ um_or K P j = um_mir K (um_pc P (j / 2))) := by
  by_cases c : j % 2 = 0
  · exact Or.inl ⟨c, if_pos c⟩
  · exact Or.inr ⟨by omega, if_neg c⟩
theorem um_or_in (H : um_XH K f cn P C) {j : Nat} (hj : j < 256) (hs : ¬ C (j / 2) < nI f) : um_or K P j < um_N K ∧ f ≤ cn (um_or K P j) := by
  obtain ⟨h1, h2, h3, h4, h5⟩ := um_place H (a := j / 2) (by omega) hs
  rcases um_or_cs (K := K) (P := P) j with ⟨_, e⟩ | ⟨_, e⟩
  · rw [e]
    exact ⟨h1, h3⟩
  · rw [e, (H.2.2.1 _ h1).1]
    exact ⟨um_mir_lt H.1 h1, h3⟩
theorem um_or_all (H : um_XH K f cn P C) {x : Nat} (hx : x < um_N K) (hs : f ≤ cn x) : ∃ j, j < 256 ∧ ¬ C (j / 2) < nI f ∧ um_or K P j = x := by
  obtain ⟨h1, h2, h3⟩ := um_can_lt H.1 hx
  have h4 := um_can_cn H hx
  obtain ⟨p1, p2, p3⟩ := um_place_of H h1 h2 (by rw [h4]; exact hs)
  rcases h3 with e | e
  · refine ⟨2 * um_slot P (um_can K x), by omega, ?_, ?_⟩
    · rw [show 2 * um_slot P (um_can K x) / 2 = um_slot P (um_can K x) by omega]
      exact p2
    · rw [um_or, if_pos (by omega), show 2 * um_slot P (um_can K x) / 2 = um_slot P (um_can K x) by omega, p3, e]
  · refine ⟨2 * um_slot P (um_can K x) + 1, by omega, ?_, ?_⟩
    · rw [show (2 * um_slot P (um_can K x) + 1) / 2 = um_slot P (um_can K x) by omega]
      exact p2
    · rw [um_or, if_neg (by omega), show (2 * um_slot P (um_can K x) + 1) / 2 = um_slot P (um_can K x) by omega, p3, e, um_mir_mir H.1 hx]
theorem um_or_inj (H : um_XH K f cn P C) {j j' : Nat} (hj : j < 256) (hj' : j' < 256) (hs : ¬ C (j / 2) < nI f) (hs' : ¬ C (j' / 2) < nI f) (e : um_or K P j = um_or K P j') : j = j' := by
  obtain ⟨h1, h2, h3, h4, h5⟩ := um_place H (a := j / 2) (by omega) hs
  obtain ⟨h1', h2', h3', h4', h5'⟩ := um_place H (a := j' / 2) (by omega) hs'
  have a1 := um_or_cs (K := K) (P := P) j
  have a2 := um_or_cs (K := K) (P := P) j'
  have ec : um_pc P (j / 2) = um_pc P (j' / 2) := um_can_eq H.1 (w := um_or K P j) h1 h2 h1' h2' (by rcases a1 with ⟨_, z⟩ | ⟨_, z⟩; exact Or.inl z; exact Or.inr z) (by rw [e]; rcases a2 with ⟨_, z⟩ | ⟨_, z⟩; exact Or.inl z; exact Or.inr z)
  have ea : j / 2 = j' / 2 := by rw [← h5, ← h5', ec]
  have ne := um_mir_ne H.1 h1
  rcases a1 with ⟨b1, b2⟩ | ⟨b1, b2⟩ <;> rcases a2 with ⟨c1, c2⟩ | ⟨c1, c2⟩
  · omega
  · rw [e, c2, ← ec] at b2
    exact (ne b2).elim
  · rw [e, c2, ← ec] at b2
    exact (ne b2.symm).elim
  · omega
theorem um_solid_eq (H : um_XH K f cn P C) (G : um_GL (um_N K) (fun y => f ≤ cn y) np PL) : np = 2 * um_cn (fun a => ¬ C a < nI f) 128 := by
  rw [← um_cn_two]
  have hall := um_cn_all (p := fun _ => True) np (fun _ _ => trivial)
  apply Nat.le_antisymm
  · have h := um_cn_inj (R := fun i j => um_or K P j = PL i) (p := fun _ => True) np (2 * 128) (fun j => ¬ C (j / 2) < nI f) (fun i hi _ => um_or_all H (G.2.1 i hi).1 (G.2.1 i hi).2) (fun i i' j hi hi' _ _ e e' => G.2.2.1 i i' hi hi' (by rw [← e, e']))
    rw [hall] at h
    exact h
  · have h := um_cn_inj (R := fun j i => um_or K P j = PL i) (p := fun j => ¬ C (j / 2) < nI f) (2 * 128) np (fun _ => True) (fun j hj hs => by
      obtain ⟨h1, h2⟩ := um_or_in H hj hs
      obtain ⟨i, hi, e⟩ := G.2.2.2 _ h1 h2
      exact ⟨i, hi, trivial, e.symm⟩) (fun j j' i hj hj' hs hs' e e' => um_or_inj H hj hj' hs hs' (by rw [e, e']))
    rw [hall] at h
    exact h
/-- the place is the first of its chain, both strands together -/
def um_Fs (K f : Nat) (cn : Nat → Nat) (P C : Nat → Int32) (k : Nat) : Prop := ¬ C k < nI f ∧ ∀ j, j < k → ¬ C j < nI f → ¬ um_sim (um_mir K) (um_A K f cn) (um_pc P j) (um_pc P k)
theorem um_chains_eq (H : um_XH K f cn P C) (HA : um_LA (um_N K) (um_mir K) (fun y => f ≤ cn y) W (um_A K f cn)) (G : um_GL (um_N K) (fun y => f ≤ cn y) np PL) : um_cn (um_Ld (um_mir K) (um_A K f cn) np PL) np = 2 * um_cn (um_Fs K f cn P C) 128 := by
  rw [← um_cn_two]
  apply Nat.le_antisymm
  · refine um_cn_inj (R := fun i j => um_con (um_A K f cn) (PL i) (um_or K P j)) np (2 * 128) (fun j => um_Fs K f cn P C (j / 2)) (fun i hi li => ?_) (fun i i' j hi hi' li li' e e' => ?_)
    · have hiN := G.2.1 i hi
      obtain ⟨j0, hj0, hs0, e0⟩ := um_or_all H hiN.1 hiN.2
      have hsim0 : um_sim (um_mir K) (um_A K f cn) (PL i) (um_pc P (j0 / 2)) := by
        rw [← e0]
        rcases um_or_cs (K := K) (P := P) j0 with ⟨_, e⟩ | ⟨_, e⟩
        · rw [e]
          exact Or.inl (um_con_refl _)
        · rw [e]
          exact Or.inr (um_con_refl _)
      obtain ⟨k, ⟨hk, hsk, hsim⟩, hmin⟩ := pk_least (fun k => k < 128 ∧ ¬ C k < nI f ∧ um_sim (um_mir K) (um_A K f cn) (PL i) (um_pc P k)) ⟨j0 / 2, by omega, hs0, hsim0⟩
      have hkp := um_place H hk hsk
      have hF : um_Fs K f cn P C k := ⟨hsk, fun j hj hsj hs => hmin j hj ⟨by omega, hsj, um_sim_trans HA hiN.1 hkp.1 (um_place H (by omega) hsj).1 hsim (um_sim_symm HA (um_place H (by omega) hsj).1 hkp.1 hs)⟩⟩
      rcases hsim with h | h
      · refine ⟨2 * k, by omega, ?_, ?_⟩
        · show um_Fs K f cn P C (2 * k / 2)
          rw [show 2 * k / 2 = k by omega]
          exact hF
        · show um_con (um_A K f cn) (PL i) (um_or K P (2 * k))
          rw [um_or, if_pos (by omega), show 2 * k / 2 = k by omega]
          exact h
      · refine ⟨2 * k + 1, by omega, ?_, ?_⟩
        · show um_Fs K f cn P C ((2 * k + 1) / 2)
          rw [show (2 * k + 1) / 2 = k by omega]
          exact hF
        · show um_con (um_A K f cn) (PL i) (um_or K P (2 * k + 1))
          rw [um_or, if_neg (by omega), show (2 * k + 1) / 2 = k by omega]
          exact h
    · exact um_Ld_un HA G hi hi' li li' (um_con_trans HA (G.2.1 i hi).1 (G.2.1 i' hi').1 e (um_con_symm e'))
  · refine um_cn_inj (R := fun j i => um_con (um_A K f cn) (PL i) (um_or K P j)) (2 * 128) np _ (fun j hj hF => ?_) (fun j j' i hj hj' hF hF' e e' => ?_)
    · obtain ⟨h1, h2⟩ := um_or_in H hj hF.1
      exact um_Ld_ex HA G h1 h2
    · have p1 := um_place H (a := j / 2) (by omega) hF.1
      have p2 := um_place H (a := j' / 2) (by omega) hF'.1
      have q1 := um_or_in H hj hF.1
      have q2 := um_or_in H hj' hF'.1
      have hc : um_con (um_A K f cn) (um_or K P j) (um_or K P j') := um_con_trans HA q1.1 q2.1 (um_con_symm e) e'
      have m1 : um_sim (um_mir K) (um_A K f cn) (um_pc P (j / 2)) (um_or K P j) := by
        rcases um_or_cs (K := K) (P := P) j with ⟨_, e⟩ | ⟨_, e⟩
        · rw [e]
          exact Or.inl (um_con_refl _)
        · rw [e]
          exact Or.inr (by rw [um_mir_mir H.1 p1.1]; exact um_con_refl _)
      have m2 : um_sim (um_mir K) (um_A K f cn) (um_or K P j') (um_pc P (j' / 2)) := by
        rcases um_or_cs (K := K) (P := P) j' with ⟨_, e⟩ | ⟨_, e⟩
        · rw [e]
          exact Or.inl (um_con_refl _)
        · rw [e]
          exact Or.inr (um_con_refl _)
      have m3 : um_sim (um_mir K) (um_A K f cn) (um_pc P (j / 2)) (um_pc P (j' / 2)) := um_sim_trans HA p1.1 q1.1 p2.1 m1 (um_sim_trans HA q1.1 q2.1 p2.1 (Or.inl hc) m2)
      have ea : j / 2 = j' / 2 := by
        rcases Nat.lt_trichotomy (j / 2) (j' / 2) with c | c | c
        · exact (hF'.2 _ c hF.1 m3).elim
        · exact c
        · exact (hF.2 _ c hF'.1 (um_sim_symm HA p1.1 p2.1 m3)).elim
      have hno := um_con_nomir HA p1.1
      rcases um_or_cs (K := K) (P := P) j with ⟨b1, b2⟩ | ⟨b1, b2⟩ <;> rcases um_or_cs (K := K) (P := P) j' with ⟨c1, c2⟩ | ⟨c1, c2⟩
      · omega
      · rw [b2, c2, ← ea] at hc
        exact (hno hc).elim
      · rw [b2, c2, ← ea] at hc
        exact (hno (um_con_symm hc)).elim
      · omega
/-- r is the greatest of the lengths over the n things -/
def um_Mx (p : Nat → Prop) (g : Nat → Nat) (n r : Nat) : Prop := (∀ a, a < n → p a → g a ≤ r) ∧ (r = 0 ∨ ∃ a, a < n ∧ p a ∧ g a = r)
theorem um_longest_eq (H : um_XH K f cn P C) (HA : um_LA (um_N K) (um_mir K) (fun y => f ≤ cn y) W (um_A K f cn)) (G : um_GL (um_N K) (fun y => f ≤ cn y) np PL) {r r' : Nat} (hX : um_Mx (fun a => ¬ C a < nI f) (fun a => um_len (um_N K) (um_A K f cn) (um_pc P a)) 128 r) (hY : um_Mx (fun _ => True) (fun i => um_len (um_N K) (um_A K f cn) (PL i)) np r') : r' = r := by
  apply Nat.le_antisymm
  · rcases hY.2 with e | ⟨i, hi, _, e⟩
    · omega
    · have hiN := G.2.1 i hi
      obtain ⟨h1, h2, h3⟩ := um_can_lt H.1 hiN.1
      have h4 := um_can_cn H hiN.1
      obtain ⟨p1, p2, p3⟩ := um_place_of H h1 h2 (by rw [h4]; exact hiN.2)
      have h5 : um_len (um_N K) (um_A K f cn) (um_pc P (um_slot P (um_can K (PL i)))) ≤ r := hX.1 _ p1 p2
      have e : um_len (um_N K) (um_A K f cn) (PL i) = r' := e
      rw [p3] at h5
      rcases h3 with z | z
      · rw [z] at h5
        omega
      · rw [z, um_len_mir HA hiN.1] at h5
        omega
  · rcases hX.2 with e | ⟨a, ha, hs, e⟩
    · omega
    · have p := um_place H ha hs
      obtain ⟨i, hi, ei⟩ := G.2.2.2 _ p.1 p.2.2.1
      have h5 : um_len (um_N K) (um_A K f cn) (PL i) ≤ r' := hY.1 i hi trivial
      have e : um_len (um_N K) (um_A K f cn) (um_pc P a) = r := e
      rw [ei] at h5
      omega
/-! what is marked when the places below k are done -/
def um_Mi (K f : Nat) (cn : Nat → Nat) (P C : Nat → Int32) (k : Nat) (M : Nat → Int32) : Prop := ∀ a, a < 128 → ¬ C a < nI f → (M a ≠ 0 ↔ ∃ j, j < k ∧ ¬ C j < nI f ∧ um_sim (um_mir K) (um_A K f cn) (um_pc P j) (um_pc P a))
theorem um_Mi_0 {M : Nat → Int32} (h : ∀ a, a < 128 → M a = 0) : um_Mi K f cn P C 0 M := by
  intro a ha _
  rw [h a ha]
  exact ⟨fun z => absurd rfl z, fun ⟨j, hj, _⟩ => by omega⟩
theorem um_Mi_no {k : Nat} {M : Nat → Int32} (h : um_Mi K f cn P C k M) (hk : C k < nI f) : um_Mi K f cn P C (k + 1) M := by
  intro a ha hs
  rw [h a ha hs]
  constructor
  · rintro ⟨j, h1, h2⟩
    exact ⟨j, by omega, h2⟩
  · rintro ⟨j, h1, h2, h3⟩
    refine ⟨j, ?_, h2, h3⟩
    by_cases e : j = k
    · rw [e] at h2
      exact absurd hk h2
    · omega
theorem um_Mi_old (H : um_XH K f cn P C) (HA : um_LA (um_N K) (um_mir K) (fun y => f ≤ cn y) W (um_A K f cn)) {k : Nat} {M : Nat → Int32} (h : um_Mi K f cn P C k M) (hk : k < 128) (hsk : ¬ C k < nI f) (hM : M k ≠ 0) : um_Mi K f cn P C (k + 1) M ∧ ¬ um_Fs K f cn P C k ∧ ∃ j, j < k ∧ ¬ C j < nI f ∧ um_sim (um_mir K) (um_A K f cn) (um_pc P j) (um_pc P k) := by
  obtain ⟨j0, hj0, hs0, hsim0⟩ := (h k hk hsk).mp hM
  have p0 := um_place H (a := j0) (by omega) hs0
  have pk := um_place H hk hsk
  refine ⟨fun a ha hs => ?_, fun hF => hF.2 j0 hj0 hs0 hsim0, j0, hj0, hs0, hsim0⟩
  have pa := um_place H ha hs
  rw [h a ha hs]
  constructor
  · rintro ⟨j, h1, h2⟩
    exact ⟨j, by omega, h2⟩
  · rintro ⟨j, h1, h2, h3⟩
    by_cases e : j = k
    · rw [e] at h3
      exact ⟨j0, hj0, hs0, um_sim_trans HA p0.1 pk.1 pa.1 hsim0 h3⟩
    · exact ⟨j, by omega, h2, h3⟩
theorem um_Mi_new (H : um_XH K f cn P C) (HA : um_LA (um_N K) (um_mir K) (fun y => f ≤ cn y) W (um_A K f cn)) {k : Nat} {M M' : Nat → Int32} (h : um_Mi K f cn P C k M) (hk : k < 128) (hsk : ¬ C k < nI f) (hM : M k = 0) (hM' : um_Mk M M' (fun a => ∃ z, z < um_N K ∧ um_con (um_A K f cn) (um_pc P k) z ∧ a = um_slot P (um_can K z))) : um_Mi K f cn P C (k + 1) M' ∧ um_Fs K f cn P C k := by
  have pk := um_place H hk hsk
  refine ⟨fun a ha hs => ?_, hsk, fun j hj hs hsim => (h k hk hsk).mpr ⟨j, hj, hs, hsim⟩ hM⟩
  have pa := um_place H ha hs
  rw [hM' a, h a ha hs]
  constructor
  · rintro (⟨j, h1, h2⟩ | ⟨z, hz, hc, e⟩)
    · exact ⟨j, by omega, h2⟩
    · refine ⟨k, by omega, hsk, ?_⟩
      have hzs := um_con_so HA pk.1 hz pk.2.2.1 hc
      obtain ⟨h1, h2, h3⟩ := um_can_lt H.1 hz
      have h4 := um_can_cn H hz
      have hq := um_place_of H h1 h2 (by rw [h4]; exact hzs)
      rw [← e] at hq
      rcases h3 with w | w
      · rw [hq.2.2, w]
        exact Or.inl hc
      · refine Or.inr ?_
        rw [hq.2.2, w, um_mir_mir H.1 hz]
        exact hc
  · rintro ⟨j, h1, h2, h3⟩
    by_cases e : j = k
    · right
      rw [e] at h3
      have hcan : um_can K (um_pc P a) = um_pc P a := if_neg (by omega)
      have hcan2 : um_can K (um_mir K (um_pc P a)) = um_pc P a := by
        rw [um_can, um_mir_mir H.1 pa.1, if_pos (by omega)]
      rcases h3 with h3 | h3
      · exact ⟨um_pc P a, pa.1, h3, by rw [hcan, pa.2.2.2.2]⟩
      · exact ⟨um_mir K (um_pc P a), um_mir_lt H.1 pa.1, h3, by rw [hcan2, pa.2.2.2.2]⟩
    · exact Or.inl ⟨j, by omega, h2, h3⟩
end
end
section
/-! X: the public methods over the chains -/
section
variable {K f p q : Nat} {cn W : Nat → Nat} {ft fw fv fl fp : Int32} {aP aC aM : Nat → Int32}
theorem ux_probeIsSolid {post : Int32 → Prop} (H : um_XH K f cn aP aC) (hp : p ≤ K) (hq : q < um_N K) (h1 : p = K → f ≤ cn q → post 1) (h0 : ¬ (p = K ∧ f ≤ cn q) → post 0) : wpX_probeIsSolid post (nI K, nI (um_N K - 1), nI f, ft, fw, fv, nI p, nI q, aP, aC, aM) := by
  have hK := H.1
  unfold wpX_probeIsSolid
  dsimp only
  refine pk_eq p K (fun e => ?_) (fun ne => h0 (fun z => ne z.1))
  exact ux_isSolid H hq (fun h => br_f (by decide) (h1 e h)) (fun h => br_t rfl (h0 (fun z => h z.2)))
theorem ux_chain_n {post : Int32 → SX → Prop} (H : um_XH K f cn aP aC) (hp : p ≤ K) (hq : q < um_N K) (hs : ¬ (p = K ∧ f ≤ cn q)) (h : post (-1) (nI K, nI (um_N K - 1), nI f, ft, fw, fv, nI p, nI q, aP, aC, aM)) : wpX_chain post (nI K, nI (um_N K - 1), nI f, ft, fw, fv, nI p, nI q, aP, aC, aM) := by
  unfold wpX_chain
  dsimp only
  exact ux_probeIsSolid H hp hq (fun a b => absurd ⟨a, b⟩ hs) (fun _ => br_t rfl h)
theorem ux_chain_s {post : Int32 → SX → Prop} (H : um_XH K f cn aP aC) (HA : um_LA (um_N K) (um_mir K) (fun y => f ≤ cn y) W (um_A K f cn)) (hp : p = K) (hq : q < um_N K) (hs : f ≤ cn q) (h : ∀ M', post (nI (um_len (um_N K) (um_A K f cn) q)) (nI K, nI (um_N K - 1), nI f, ft, fw, fv, nI p, nI q, aP, aC, M')) : wpX_chain post (nI K, nI (um_N K - 1), nI f, ft, fw, fv, nI p, nI q, aP, aC, aM) := by
  unfold wpX_chain
  dsimp only
  refine ux_probeIsSolid H (by omega) hq (fun a b => br_f (by decide) ?_) (fun z => absurd ⟨hp, hs⟩ z)
  exact ux_firstwalk H HA hq hs (fun M' _ => h M')
theorem ux_before_loop {post : Int32 → Prop} {st b : Nat} (H : um_XH K f cn aP aC) (HA : um_LA (um_N K) (um_mir K) (fun y => f ≤ cn y) W (um_A K f cn)) (hst : st < um_N K) (hq : q < um_N K) (hb : b ≤ 96) (hfw : um_it (um_A K f cn) b st = some q) (hno : ∀ k, 1 ≤ k → um_it (um_A K f cn) k q ≠ some q) (hp : post (nI b)) : ∀ (d s z g : Nat), s + d = b → d < g → um_it (um_A K f cn) s st = some z → wX_before_36 post (nI K) (nI (um_N K - 1)) (nI f) ft fw fv fl (nI q) aP aC aM g (nI s) (nI z) (nI s) := by
  have hN := (um_NT H.1).2.1
  intro d
  induction d with
  | zero =>
    intro s z g hs hg hz
    obtain ⟨g, rfl⟩ : ∃ k, g = k + 1 := ⟨g - 1, by omega⟩
    have es : s = b := by omega
    rw [es] at hz ⊢
    rw [hfw] at hz
    have ez : q = z := Option.some.inj hz
    subst ez
    exact br_f (nI_ge (b := 128) (by omega) (by decide)) (br_t rfl hp)
  | succ d ih =>
    intro s z g hs hg hz
    obtain ⟨g, rfl⟩ : ∃ k, g = k + 1 := ⟨g - 1, by omega⟩
    have hzN := um_it_lt HA hst _ z hz
    have ne : z ≠ q := by
      intro e
      rw [e] at hz
      have h1 := um_it_add hz (b - s)
      rw [show s + (b - s) = b by omega, hfw] at h1
      exact hno (b - s) (by omega) h1.symm
    obtain ⟨z', hz', _⟩ := um_it_pre hfw (k := s + 1) (by omega)
    have hA : um_A K f cn z = some z' := by
      have e := um_it_add hz 1
      rw [hz'] at e
      exact e.symm
    refine br_f (nI_ge (b := 128) (by omega) (by decide)) (br_f (fun e => ne ((nI_eq (by omega) (by omega)).mp e)) (ux_la H hzN (nm_r (nI_1 s) (nm_r (nI_1 s) ?_))))
    rw [hA]
    exact ih (s + 1) z' g (by omega) (by omega) hz'
theorem ux_before_n {post : Int32 → Prop} (H : um_XH K f cn aP aC) (hp : p ≤ K) (hq : q < um_N K) (hs : ¬ (p = K ∧ f ≤ cn q)) (h : post (-1)) : wpX_before post (nI K, nI (um_N K - 1), nI f, ft, fw, fv, nI p, nI q, aP, aC, aM) := by
  unfold wpX_before
  dsimp only
  exact ux_probeIsSolid H hp hq (fun a b => absurd ⟨a, b⟩ hs) (fun _ => br_t rfl h)
theorem ux_before_s {post : Int32 → Prop} {n b st : Nat} (H : um_XH K f cn aP aC) (HA : um_LA (um_N K) (um_mir K) (fun y => f ≤ cn y) W (um_A K f cn)) (hp : p = K) (hq : q < um_N K) (hs : f ≤ cn q) (hb : b ≤ 96) (hPn : um_Per (um_A K f cn) q n) (hPb : um_Per (um_B K f cn) q b) (hst : um_it (um_B K f cn) (b - 1) q = some st) (hstN : st < um_N K) (hfw : um_it (um_A K f cn) (b - 1) st = some q) (hc : (um_it (um_A K f cn) n q = some q ∧ um_B K f cn st = some q ∧ post (-2)) ∨ (um_it (um_A K f cn) n q = none ∧ um_B K f cn st = none ∧ post (nI (b - 1)))) : wpX_before post (nI K, nI (um_N K - 1), nI f, ft, fw, fv, nI p, nI q, aP, aC, aM) := by
  have hN := (um_NT H.1).2.1
  unfold wpX_before
  dsimp only
  refine ux_probeIsSolid H (by omega) hq (fun _ _ => br_f (by decide) ?_) (fun z => absurd ⟨hp, hs⟩ z)
  refine ux_firstOfChain H HA hq hPb hst hb ?_
  refine ux_lb H hstN ?_
  rcases hc with ⟨e1, e2, e3⟩ | ⟨e1, e2, e3⟩
  · rw [e2]
    exact br_f (nI_pos (by omega)) e3
  · rw [e2]
    refine br_t (by decide) ⟨b, ?_⟩
    exact ux_before_loop H HA hstN hq (by omega) hfw (fun k hk => um_line hPn e1 hk) e3 (b - 1) 0 st b (by omega) (by have := hPb.1; omega) rfl
theorem ux_step_n {post : Int32 → SX → Prop} (H : um_XH K f cn aP aC) (hp : p ≤ K) (hq : q < um_N K) (hs : ¬ (p = K ∧ f ≤ cn q)) (h : post (-1) (nI K, nI (um_N K - 1), nI f, ft, fw, fv, nI p, nI q, aP, aC, aM)) : wpX_step post (nI K, nI (um_N K - 1), nI f, ft, fw, fv, nI p, nI q, aP, aC, aM) := by
  unfold wpX_step
  dsimp only
  exact ux_probeIsSolid H hp hq (fun a b => absurd ⟨a, b⟩ hs) (fun _ => br_t rfl h)
theorem ux_step_s {post : Int32 → SX → Prop} (H : um_XH K f cn aP aC) (HA : um_LA (um_N K) (um_mir K) (fun y => f ≤ cn y) W (um_A K f cn)) (hp : p = K) (hq : q < um_N K) (hs : f ≤ cn q) (hn : um_A K f cn q = none → post (-1) (nI K, nI (um_N K - 1), nI f, ft, fw, fv, nI p, nI q, aP, aC, aM)) (hy : ∀ y, um_A K f cn q = some y → post (nI (y % 4)) (nI K, nI (um_N K - 1), nI f, ft, fw, fv, nI p, nI y, aP, aC, aM)) : wpX_step post (nI K, nI (um_N K - 1), nI f, ft, fw, fv, nI p, nI q, aP, aC, aM) := by
  have hN := (um_NT H.1).2.1
  unfold wpX_step
  dsimp only
  refine ux_probeIsSolid H (by omega) hq (fun _ _ => br_f (by decide) ?_) (fun z => absurd ⟨hp, hs⟩ z)
  refine ux_la H hq ?_
  cases hA : um_A K f cn q with
  | none => exact br_f (by decide) (hn hA)
  | some y =>
    have hyN := (HA.2.2 q y hq hA).1
    refine br_t (nI_pos' (by omega)) ?_
    show post (nI y &&& 3) _
    rw [um_and3N (by omega)]
    exact hy y hA
theorem ux_chains_loop {post : Int32 → SX → Prop} (H : um_XH K f cn aP aC) (HA : um_LA (um_N K) (um_mir K) (fun y => f ≤ cn y) W (um_A K f cn)) (hp : ∀ M', post (nI (um_cn (um_Fs K f cn aP aC) 128)) (nI K, nI (um_N K - 1), nI f, ft, fw, fv, fl, fp, aP, aC, M')) : ∀ (d k g : Nat) (M : Nat → Int32), k + d = 128 → d < g → um_Mi K f cn aP aC k M → wX_chains_8 post g (nI (um_cn (um_Fs K f cn aP aC) k)) (nI k) (nI K) (nI (um_N K - 1)) (nI f) ft fw fv fl fp aP aC M := by
  intro d
  induction d with
  | zero =>
    intro k g M hk hg hM
    obtain ⟨g, rfl⟩ : ∃ k, g = k + 1 := ⟨g - 1, by omega⟩
    have ek : k = 128 := by omega
    rw [ek]
    exact br_t (nI_le (a := 128) (by omega) (by omega)) (hp M)
  | succ d ih =>
    intro k g M hk hg hM
    obtain ⟨g, rfl⟩ : ∃ k, g = k + 1 := ⟨g - 1, by omega⟩
    have hi : vp_in (nI k) 128 := vp_in_nI (by omega) (by decide)
    refine br_f (nI_ge (b := 128) (by omega) (by decide)) ⟨hi, ?_⟩
    rw [nI_clamp (by omega)]
    by_cases c : aC k < nI f
    · have h1 := ih (k + 1) g M (by omega) (by omega) (um_Mi_no hM c)
      rw [um_cn_f (p := um_Fs K f cn aP aC) (fun z => z.1 c)] at h1
      exact br_t c (nm_r (nI_1 k) h1)
    · refine br_f c ⟨hi, ?_⟩
      by_cases m0 : M k = 0
      · have pk := um_place H (a := k) (by omega) c
        refine br_t m0 ⟨hi, ?_⟩
        rw [pk.2.2.2.1]
        refine ux_firstwalk H HA pk.1 pk.2.2.1 (fun M' hM' => ?_)
        obtain ⟨n1, n2⟩ := um_Mi_new H HA hM (by omega) c m0 hM'
        have h1 := ih (k + 1) g M' (by omega) (by omega) n1
        rw [um_cn_t (p := um_Fs K f cn aP aC) n2] at h1
        exact nm_r (nI_1 _) (nm_r (nI_1 k) h1)
      · obtain ⟨n1, n2, _⟩ := um_Mi_old H HA hM (by omega) c m0
        have h1 := ih (k + 1) g M (by omega) (by omega) n1
        rw [um_cn_f (p := um_Fs K f cn aP aC) n2] at h1
        exact br_f m0 (nm_r (nI_1 k) h1)
theorem ux_chains {post : Int32 → SX → Prop} (H : um_XH K f cn aP aC) (HA : um_LA (um_N K) (um_mir K) (fun y => f ≤ cn y) W (um_A K f cn)) (hp : ∀ M', post (nI (um_cn (um_Fs K f cn aP aC) 128)) (nI K, nI (um_N K - 1), nI f, ft, fw, fv, fl, fp, aP, aC, M')) : wpX_chains post (nI K, nI (um_N K - 1), nI f, ft, fw, fv, fl, fp, aP, aC, aM) := by
  unfold wpX_chains
  dsimp only
  refine ux_clearMet (fun M' hM' => ?_)
  exact ⟨129, ux_chains_loop H HA hp 128 0 129 M' (by omega) (by omega) (um_Mi_0 hM')⟩
theorem ux_longest_loop {post : Int32 → SX → Prop} (H : um_XH K f cn aP aC) (HA : um_LA (um_N K) (um_mir K) (fun y => f ≤ cn y) W (um_A K f cn)) (hp : ∀ r M', r ≤ 96 → um_Mx (fun a => ¬ aC a < nI f) (fun a => um_len (um_N K) (um_A K f cn) (um_pc aP a)) 128 r → post (nI r) (nI K, nI (um_N K - 1), nI f, ft, fw, fv, fl, fp, aP, aC, M')) : ∀ (d k g r : Nat) (M : Nat → Int32), k + d = 128 → d < g → um_Mi K f cn aP aC k M → r ≤ 96 → um_Mx (fun a => ¬ aC a < nI f) (fun a => um_len (um_N K) (um_A K f cn) (um_pc aP a)) k r → wX_longest_8 post g (nI r) (nI k) (nI K) (nI (um_N K - 1)) (nI f) ft fw fv fl fp aP aC M := by
  have hmx : ∀ k r r', um_Mx (fun a => ¬ aC a < nI f) (fun a => um_len (um_N K) (um_A K f cn) (um_pc aP a)) k r → r ≤ r' → (¬ aC k < nI f → um_len (um_N K) (um_A K f cn) (um_pc aP k) ≤ r') → (r' = r ∨ (¬ aC k < nI f ∧ um_len (um_N K) (um_A K f cn) (um_pc aP k) = r')) → um_Mx (fun a => ¬ aC a < nI f) (fun a => um_len (um_N K) (um_A K f cn) (um_pc aP a)) (k + 1) r' := by
    intro k r r' h hr hk hc
    refine ⟨fun a ha hs => ?_, ?_⟩
    · by_cases e : a = k
      · rw [e] at hs ⊢
        exact hk hs
      · exact Nat.le_trans (h.1 a (by omega) hs) hr
    · rcases hc with e | ⟨h1, h2⟩
      · rcases h.2 with e2 | ⟨a, ha, hs, e2⟩
        · exact Or.inl (by omega)
        · exact Or.inr ⟨a, by omega, hs, by rw [e]; exact e2⟩
      · exact Or.inr ⟨k, by omega, h1, h2⟩
  intro d
  induction d with
  | zero =>
    intro k g r M hk hg hM hr hx
    obtain ⟨g, rfl⟩ : ∃ k, g = k + 1 := ⟨g - 1, by omega⟩
    have ek : k = 128 := by omega
    rw [ek] at hx ⊢
    exact br_t (nI_le (a := 128) (by omega) (by omega)) (hp r M hr hx)
  | succ d ih =>
    intro k g r M hk hg hM hr hx
    obtain ⟨g, rfl⟩ : ∃ k, g = k + 1 := ⟨g - 1, by omega⟩
    have hi : vp_in (nI k) 128 := vp_in_nI (by omega) (by decide)
    refine br_f (nI_ge (b := 128) (by omega) (by decide)) ⟨hi, ?_⟩
    rw [nI_clamp (by omega)]
    by_cases c : aC k < nI f
    · exact br_t c (nm_r (nI_1 k) (ih (k + 1) g r M (by omega) (by omega) (um_Mi_no hM c) hr (hmx k r r hx (Nat.le_refl r) (fun z => absurd c z) (Or.inl rfl))))
    · have pk := um_place H (a := k) (by omega) c
      refine br_f c ⟨hi, ?_⟩
      by_cases m0 : M k = 0
      · obtain ⟨_, _, _, _, _, _, _, _, _, _, _, _, hlen, _⟩ := um_chain HA pk.1 pk.2.2.1
        refine br_t m0 ⟨hi, ?_⟩
        rw [pk.2.2.2.1]
        refine ux_firstwalk H HA pk.1 pk.2.2.1 (fun M' hM' => ?_)
        obtain ⟨n1, n2⟩ := um_Mi_new H HA hM (by omega) c m0 hM'
        refine pk_le (um_len (um_N K) (um_A K f cn) (um_pc aP k)) r (fun z => nm_r (nI_1 k) ?_) (fun z => nm_r (nI_1 k) ?_)
        · exact ih (k + 1) g r M' (by omega) (by omega) n1 hr (hmx k r r hx (Nat.le_refl r) (fun _ => z) (Or.inl rfl))
        · exact ih (k + 1) g _ M' (by omega) (by omega) n1 hlen (hmx k r _ hx (Nat.le_of_lt z) (fun _ => Nat.le_refl _) (Or.inr ⟨c, rfl⟩))
      · obtain ⟨n1, n2, j, hj, hsj, hsim⟩ := um_Mi_old H HA hM (by omega) c m0
        have pj := um_place H (a := j) (by omega) hsj
        have h1 : um_len (um_N K) (um_A K f cn) (um_pc aP j) ≤ r := hx.1 j hj hsj
        rw [um_len_sim HA pj.1 pk.1 hsim] at h1
        exact br_f m0 (nm_r (nI_1 k) (ih (k + 1) g r M (by omega) (by omega) n1 hr (hmx k r r hx (Nat.le_refl r) (fun _ => h1) (Or.inl rfl))))
theorem ux_longest {post : Int32 → SX → Prop} (H : um_XH K f cn aP aC) (HA : um_LA (um_N K) (um_mir K) (fun y => f ≤ cn y) W (um_A K f cn)) (hp : ∀ r M', r ≤ 96 → um_Mx (fun a => ¬ aC a < nI f) (fun a => um_len (um_N K) (um_A K f cn) (um_pc aP a)) 128 r → post (nI r) (nI K, nI (um_N K - 1), nI f, ft, fw, fv, fl, fp, aP, aC, M')) : wpX_longest post (nI K, nI (um_N K - 1), nI f, ft, fw, fv, fl, fp, aP, aC, aM) := by
  unfold wpX_longest
  dsimp only
  refine ux_clearMet (fun M' hM' => ?_)
  exact ⟨129, ux_longest_loop H HA hp 128 0 129 0 M' (by omega) (by omega) (um_Mi_0 hM') (by omega) ⟨fun a ha => by omega, Or.inl rfl⟩⟩
end
end
section
/-! Y: what each of its own methods answers -/
def um_sv (K t : Nat) (aB : Nat → Int32) (p : Nat) : Prop := p + K ≤ t ∧ ∀ i, p < i → i < p + K → aB i = 0
def um_sg (L : Nat → Nat) (p n : Nat) : Nat := um_cd (fun i => L (p + i)) n
theorem um_sg_s (L : Nat → Nat) (p n : Nat) : um_sg L p (n + 1) = um_sg L p n * 4 + L (p + n) := rfl
theorem um_sg_lt {K p : Nat} {L : Nat → Nat} (h : ∀ i, L i < 4) : um_sg L p K < um_N K := um_cd_lt K (fun i _ => h (p + i))
/-- how often the piece x, or its mirror, is seen -/
noncomputable def um_ct (K t : Nat) (L : Nat → Nat) (aB : Nat → Int32) (x : Nat) : Nat := um_cn (fun p => um_sv K t aB p ∧ (um_sg L p K = x ∨ um_sg L p K = um_mir K x)) t
section
variable {post : Int32 → Prop} {K f t x : Nat} {L : Nat → Nat} {ff ft fo fd fs : Int32} {aL aB aA aP aF aH : Nat → Int32}
theorem uy_mirror_loop (hK : K ≤ 5) : ∀ (d i r x g : Nat), i + d = K → d < g → x < 2 ^ 31 → post (nI (um_mi d r x)) → wY_mirror_7 post (nI K) ff ft fo fd fs aL aB aA aP aF aH g (nI r) (nI x) (nI i) := by
  intro d
  induction d with
  | zero =>
    intro i r x g hi hg hx hp
    obtain ⟨g, rfl⟩ : ∃ k, g = k + 1 := ⟨g - 1, by omega⟩
    exact br_t (nI_le (by omega) (by omega)) hp
  | succ d ih =>
    intro i r x g hi hg hx hp
    obtain ⟨g, rfl⟩ : ∃ k, g = k + 1 := ⟨g - 1, by omega⟩
    have e0 : nI x - nI x / 4 * 4 = nI (x % 4) := pk_rem (d := 4) hx (by decide) (by decide)
    have e1 : ((nI r * 4) + 3) - (nI x - nI x / 4 * 4) = nI (r * 4 + (3 - x % 4)) := by
      have a1 : nI r * 4 = nI (r * 4) := pk_mul r 4
      have a2 : nI (r * 4) + 3 = nI (r * 4 + 3) := nI_add (r * 4) 3
      rw [e0, a1, a2, pk_sub (by omega)]
      exact congrArg nI (by omega)
    have e2 : nI x / 4 = nI (x / 4) := pk_div (d := 4) hx (by decide) (by decide)
    refine br_f (nI_ge (by omega) (by omega)) ⟨by decide, nm_r e1 ⟨by decide, nm_r e2 (nm_r (nI_1 i) ?_)⟩⟩
    exact ih (i + 1) _ _ g (by omega) (by omega) (by omega) hp
theorem uy_mirror (hK : K ≤ 5) (hx : x < 2 ^ 31) (hp : post (nI (um_mir K x))) : wpY_mirror post (nI K, ff, ft, fo, fd, fs, aL, aB, aA, aP, aF, aH) (nI x) :=
  ⟨K + 1, uy_mirror_loop hK K 0 0 x (K + 1) (by omega) (by omega) hx hp⟩
theorem uy_seen_loop {p : Nat} (hL : ∀ i, L i < 4 ∧ aL i = nI (L i)) (ht : t ≤ 96) (hp : p + K ≤ t) (h1 : (∀ i, p < i → i < p + K → aB i = 0) → post (nI (um_sg L p K))) (h0 : ¬ (∀ i, p < i → i < p + K → aB i = 0) → post (-1)) : ∀ (d j g : Nat), j + d = K → d < g → (∀ i, p < i → i < p + j → aB i = 0) → wY_seen_19 post (nI p) (nI K) ff ft fo fd fs aL aB aA aP aF aH g (nI (um_sg L p j)) (nI (p + j)) := by
  intro d
  induction d with
  | zero =>
    intro j g hj hg hi
    obtain ⟨g, rfl⟩ : ∃ k, g = k + 1 := ⟨g - 1, by omega⟩
    have ej : j = K := by omega
    rw [ej] at hi ⊢
    exact br_t (by rw [nI_add]; exact nI_le (by omega) (by omega)) (h1 hi)
  | succ d ih =>
    intro j g hj hg hi
    obtain ⟨g, rfl⟩ : ∃ k, g = k + 1 := ⟨g - 1, by omega⟩
    have hv : vp_in (nI (p + j)) 96 := vp_in_nI (by omega) (by decide)
    have ec : (nI (p + j)).toNatClampNeg = p + j := nI_clamp (by omega)
    have hstep : (∀ i, p < i → i < p + (j + 1) → aB i = 0) → wY_seen_45 post (wY_seen_19 post (nI p) (nI K) ff ft fo fd fs aL aB aA aP aF aH g) (nI p) (nI (um_sg L p j)) (nI (p + j)) (nI K) ff ft fo fd fs aL aB aA aP aF aH := by
      intro hi'
      have e1 : nI (um_sg L p j) * 4 + aL (nI (p + j)).toNatClampNeg = nI (um_sg L p (j + 1)) := by
        have a1 : nI (um_sg L p j) * 4 = nI (um_sg L p j * 4) := pk_mul _ 4
        rw [ec, (hL (p + j)).2, a1, nI_add, um_sg_s]
      refine ⟨hv, nm_r e1 (nm_r (nI_1 (p + j)) ?_)⟩
      exact ih (j + 1) g (by omega) (by omega) hi'
    refine br_f (by rw [nI_add]; exact nI_ge (by omega) (by omega)) ?_
    by_cases j0 : j = 0
    · refine br_t (by rw [j0]; exact nI_le (Nat.le_refl _) (by omega)) (hstep (fun i a b => by omega))
    · refine br_f (nI_ge (by omega) (by omega)) ⟨hv, ?_⟩
      rw [ec]
      by_cases hb : aB (p + j) = 0
      · refine br_t hb (hstep (fun i a b => ?_))
        by_cases e : i = p + j
        · rw [e]
          exact hb
        · exact hi i a (by omega)
      · exact br_f hb (h0 (fun z => hb (z (p + j) (by omega) (by omega))))
theorem uy_seen {p : Nat} (hK : K ≤ 5) (hL : ∀ i, L i < 4 ∧ aL i = nI (L i)) (ht : t ≤ 96) (hp : p ≤ 96) (h1 : um_sv K t aB p → post (nI (um_sg L p K))) (h0 : ¬ um_sv K t aB p → post (-1)) : wpY_seen post (nI K, ff, nI t, fo, fd, fs, aL, aB, aA, aP, aF, aH) (nI p) := by
  unfold wpY_seen
  dsimp only
  refine pk_le (p + K) t (fun c => ⟨K + 1, ?_⟩) (fun c => h0 (fun z => by have := z.1; omega)) (hx := nI_add p K)
  exact uy_seen_loop hL ht c (fun z => h1 ⟨c, z⟩) (fun z => h0 (fun w => z w.2)) K 0 (K + 1) (by omega) (by omega) (fun i a b => by omega)
theorem uy_countOf_loop (hK : K = 3 ∨ K = 5) (hL : ∀ i, L i < 4 ∧ aL i = nI (L i)) (ht : t ≤ 96) (hx : x < um_N K) (hp : post (nI (um_ct K t L aB x))) : ∀ (d p g : Nat), p + d = t → d < g → wY_countOf_4 post (nI x) (nI K) ff (nI t) fo fd fs aL aB aA aP aF aH g (nI (um_cn (fun p => um_sv K t aB p ∧ (um_sg L p K = x ∨ um_sg L p K = um_mir K x)) p)) (nI p) := by
  have hN := (um_NT hK).2.1
  have hm := um_mir_lt hK hx
  intro d
  induction d with
  | zero =>
    intro p g hpd hg
    obtain ⟨g, rfl⟩ : ∃ k, g = k + 1 := ⟨g - 1, by omega⟩
    have ep : p = t := by omega
    rw [ep]
    exact br_t (nI_le (Nat.le_refl t) (by omega)) hp
  | succ d ih =>
    intro p g hpd hg
    obtain ⟨g, rfl⟩ : ∃ k, g = k + 1 := ⟨g - 1, by omega⟩
    have hsg : um_sg L p K < um_N K := um_sg_lt (fun i => (hL i).1)
    have h1 := ih (p + 1) g (by omega) (by omega)
    have hyes : (um_sv K t aB p ∧ (um_sg L p K = x ∨ um_sg L p K = um_mir K x)) → wY_countOf_4 post (nI x) (nI K) ff (nI t) fo fd fs aL aB aA aP aF aH g (nI (um_cn (fun p => um_sv K t aB p ∧ (um_sg L p K = x ∨ um_sg L p K = um_mir K x)) p + 1)) (nI (p + 1)) := by
      intro z
      rw [um_cn_t (p := fun p => um_sv K t aB p ∧ (um_sg L p K = x ∨ um_sg L p K = um_mir K x)) z] at h1
      exact h1
    have hno : ¬ (um_sv K t aB p ∧ (um_sg L p K = x ∨ um_sg L p K = um_mir K x)) → wY_countOf_4 post (nI x) (nI K) ff (nI t) fo fd fs aL aB aA aP aF aH g (nI (um_cn (fun p => um_sv K t aB p ∧ (um_sg L p K = x ∨ um_sg L p K = um_mir K x)) p)) (nI (p + 1)) := by
      intro z
      rw [um_cn_f (p := fun p => um_sv K t aB p ∧ (um_sg L p K = x ∨ um_sg L p K = um_mir K x)) z] at h1
      exact h1
    refine br_f (nI_ge (by omega) (by omega)) (uy_seen (by omega) hL ht (by omega) (fun hv => ?_) (fun hv => ?_))
    · refine br_f (nI_pos (by omega)) (pk_eq (um_sg L p K) x (fun e => ?_) (fun ne => ?_))
      · exact nm_r (nI_1 _) (nm_r (nI_1 p) (hyes ⟨hv, Or.inl e⟩))
      · refine uy_mirror (by omega) (by omega) (pk_eq (um_sg L p K) (um_mir K x) (fun e => ?_) (fun ne2 => ?_))
        · exact nm_r (nI_1 _) (nm_r (nI_1 p) (hyes ⟨hv, Or.inr e⟩))
        · exact nm_r (nI_1 p) (hno (fun z => z.2.elim ne ne2))
    · exact br_t (by decide) (nm_r (nI_1 p) (hno (fun z => hv z.1)))
theorem uy_countOf (hK : K = 3 ∨ K = 5) (hL : ∀ i, L i < 4 ∧ aL i = nI (L i)) (ht : t ≤ 96) (hx : x < um_N K) (hp : post (nI (um_ct K t L aB x))) : wpY_countOf post (nI K, ff, nI t, fo, fd, fs, aL, aB, aA, aP, aF, aH) (nI x) :=
  ⟨t + 1, uy_countOf_loop hK hL ht hx hp t 0 (t + 1) (by omega) (by omega)⟩
theorem uy_find_loop {np : Nat} {v : Int32} (hn : np ≤ 192) (h1 : ∀ i, i < np → aP i = v → (∀ j, j < i → aP j ≠ v) → post (nI i)) (h0 : (∀ j, j < np → aP j ≠ v) → post (-1)) : ∀ (d i g : Nat), i + d = np → d < g → (∀ j, j < i → aP j ≠ v) → wY_find_2 post v (nI K) ff ft fo fd (nI np) aL aB aA aP aF aH g (nI i) := by
  intro d
  induction d with
  | zero =>
    intro i g hi hg hj
    obtain ⟨g, rfl⟩ : ∃ k, g = k + 1 := ⟨g - 1, by omega⟩
    exact br_t (nI_le (by omega) (by omega)) (h0 (fun j z => hj j (by omega)))
  | succ d ih =>
    intro i g hi hg hj
    obtain ⟨g, rfl⟩ : ∃ k, g = k + 1 := ⟨g - 1, by omega⟩
    refine br_f (nI_ge (by omega) (by omega)) ⟨vp_in_nI (by omega) (by decide), ?_⟩
    rw [nI_clamp (by omega)]
    by_cases c : aP i = v
    · exact br_t c (h1 i (by omega) c hj)
    · refine br_f c (nm_r (nI_1 i) (ih (i + 1) g (by omega) (by omega) (fun j z => ?_)))
      by_cases e : j = i
      · rw [e]
        exact c
      · exact hj j (by omega)
theorem uy_find {np : Nat} {v : Int32} (hn : np ≤ 192) (h1 : ∀ i, i < np → aP i = v → (∀ j, j < i → aP j ≠ v) → post (nI i)) (h0 : (∀ j, j < np → aP j ≠ v) → post (-1)) : wpY_find post (nI K, ff, ft, fo, fd, nI np, aL, aB, aA, aP, aF, aH) v :=
  ⟨np + 1, uy_find_loop hn h1 h0 np 0 (np + 1) (by omega) (by omega) (fun j z => by omega)⟩
theorem uy_tail (hK : K = 3 ∨ K = 5) (hp : post (nI (um_T K))) : wpY_tail post (nI K, ff, ft, fo, fd, fs, aL, aB, aA, aP, aF, aH) := by
  unfold wpY_tail
  dsimp only
  rcases hK with rfl | rfl
  · exact br_t rfl hp
  · exact br_f (by decide) hp
theorem uy_only_59 {J : Int32 → Int32 → Int32 → Prop} {a b c y : Nat} {x1 x2 x3 : Int32} (hK : K = 3 ∨ K = 5) (ha : a < um_N K) (hb : b < um_N K) (h1 : a % um_T K = b / 4 → J (nI y) (nI (c + 1)) (nI (y + 1))) (h0 : a % um_T K ≠ b / 4 → J x3 (nI c) (nI (y + 1))) : wY_only_59 post J x1 x2 x3 (nI c) (nI y) (nI a) (nI b) (nI K) ff ft fo fd fs aL aB aA aP aF aH := by
  obtain ⟨e1, e2, e3⟩ := um_NT hK
  have hm : a % um_T K ≤ a := Nat.mod_le _ _
  unfold wY_only_59
  refine uy_tail hK ⟨nI_ne0 (by omega) (by omega), by decide, ?_⟩
  have q1 : nI a - nI a / nI (um_T K) * nI (um_T K) = nI (a % um_T K) := pk_rem (by omega) (by omega) (by omega)
  have q2 : nI b / 4 = nI (b / 4) := pk_div (d := 4) (by omega) (by decide) (by decide)
  refine pk_eq (a % um_T K) (b / 4) (fun e => ?_) (fun ne => ?_) (hx := q1) (hy := q2)
  · exact nm_r (nI_1 c) (nm_r (nI_1 y) (h1 e))
  · exact nm_r (nI_1 y) (h0 ne)
/-- how the search for the only one stands -/
def um_On (cond : Nat → Prop) (y : Nat) (r : Int32) (c : Nat) : Prop :=
  (c = 0 ∧ r = -1 ∧ ∀ j, j < y → ¬ cond j) ∨ (c = 1 ∧ ∃ j, j < y ∧ cond j ∧ r = nI j ∧ ∀ j', j' < y → cond j' → j' = j) ∨ (2 ≤ c ∧ ∃ j j', j < j' ∧ j' < y ∧ cond j ∧ cond j')
theorem um_On_t {cond : Nat → Prop} {y c : Nat} {r : Int32} (h : um_On cond y r c) (hc : cond y) : um_On cond (y + 1) (nI y) (c + 1) := by
  rcases h with ⟨e1, e2, e3⟩ | ⟨e1, j, h1, h2, h3, h4⟩ | ⟨e1, j, j', h1, h2, h3, h4⟩
  · refine Or.inr (Or.inl ⟨by omega, y, by omega, hc, rfl, fun j' hj' hcj => ?_⟩)
    by_cases e : j' < y
    · exact absurd hcj (e3 j' e)
    · omega
  · exact Or.inr (Or.inr ⟨by omega, j, y, h1, by omega, h2, hc⟩)
  · exact Or.inr (Or.inr ⟨by omega, j, j', h1, by omega, h3, h4⟩)
theorem um_On_f {cond : Nat → Prop} {y c : Nat} {r : Int32} (h : um_On cond y r c) (hc : ¬ cond y) : um_On cond (y + 1) r c := by
  rcases h with ⟨e1, e2, e3⟩ | ⟨e1, j, h1, h2, h3, h4⟩ | ⟨e1, j, j', h1, h2, h3, h4⟩
  · refine Or.inl ⟨e1, e2, fun j hj hcj => ?_⟩
    by_cases e : j = y
    · exact hc (by rw [← e]; exact hcj)
    · exact e3 j (by omega) hcj
  · refine Or.inr (Or.inl ⟨e1, j, by omega, h2, h3, fun j' hj' hcj => ?_⟩)
    by_cases e : j' = y
    · exact absurd (by rw [← e]; exact hcj) hc
    · exact h4 j' (by omega) hcj
  · exact Or.inr (Or.inr ⟨e1, j, j', h1, by omega, h3, h4⟩)
theorem uy_only_loop {np i : Nat} {fl : Int32} {PL A B : Nat → Nat} (hK : K = 3 ∨ K = 5) (hn : np ≤ 192) (hi : i < np) (hP : ∀ j, j < np → PL j < um_N K ∧ aP j = nI (PL j)) (hAB : (fl = 1 ∧ ∀ y, A y = PL i ∧ B y = PL y) ∨ (fl = 0 ∧ ∀ y, A y = PL y ∧ B y = PL i)) (h1 : ∀ j, j < np → A j % um_T K = B j / 4 → (∀ j', j' < np → A j' % um_T K = B j' / 4 → j' = j) → post (nI j)) (h0 : (¬ ∃ j, j < np ∧ A j % um_T K = B j / 4 ∧ ∀ j', j' < np → A j' % um_T K = B j' / 4 → j' = j) → post (-1)) : ∀ (d y g c : Nat) (r : Int32), y + d = np → d < g → c ≤ y → um_On (fun j => A j % um_T K = B j / 4) y r c → wY_only_8 post (nI i) fl (nI K) ff ft fo fd (nI np) aL aB aA aP aF aH g r (nI c) (nI y) := by
  intro d
  induction d with
  | zero =>
    intro y g c r hy hg hcy hO
    obtain ⟨g, rfl⟩ : ∃ k, g = k + 1 := ⟨g - 1, by omega⟩
    have ey : y = np := by omega
    subst ey
    refine br_t (nI_le (Nat.le_refl _) (by omega)) (pk_eq c 1 (fun e => ?_) (fun ne => h0 ?_))
    · rcases hO with ⟨e1, _⟩ | ⟨e1, j, a1, a2, a3, a4⟩ | ⟨e1, _⟩
      · omega
      · rw [a3]
        exact h1 j a1 a2 a4
      · omega
    · rintro ⟨j, b1, b2, b3⟩
      rcases hO with ⟨e1, _, e3⟩ | ⟨e1, _⟩ | ⟨e1, j1, j2, a1, a2, a3, a4⟩
      · exact e3 j b1 b2
      · omega
      · have := b3 j1 (by omega) a3
        have := b3 j2 (by omega) a4
        omega
  | succ d ih =>
    intro y g c r hy hg hcy hO
    obtain ⟨g, rfl⟩ : ∃ k, g = k + 1 := ⟨g - 1, by omega⟩
    have hvy : vp_in (nI y) 192 := vp_in_nI (by omega) (by decide)
    have hvi : vp_in (nI i) 192 := vp_in_nI (by omega) (by decide)
    have ecy : (nI y).toNatClampNeg = y := nI_clamp (by omega)
    have eci : (nI i).toNatClampNeg = i := nI_clamp (by omega)
    have hPy := hP y (by omega)
    have hPi := hP i hi
    have k1 : A y % um_T K = B y / 4 → wY_only_8 post (nI i) fl (nI K) ff ft fo fd (nI np) aL aB aA aP aF aH g (nI y) (nI (c + 1)) (nI (y + 1)) := fun e => ih (y + 1) g (c + 1) (nI y) (by omega) (by omega) (by omega) (um_On_t hO e)
    have k0 : A y % um_T K ≠ B y / 4 → wY_only_8 post (nI i) fl (nI K) ff ft fo fd (nI np) aL aB aA aP aF aH g r (nI c) (nI (y + 1)) := fun e => ih (y + 1) g c r (by omega) (by omega) (by omega) (um_On_f hO e)
    refine br_f (nI_ge (by omega) (by omega)) ?_
    rcases hAB with ⟨efl, hAB⟩ | ⟨efl, hAB⟩
    · subst efl
      rw [(hAB y).1, (hAB y).2] at k1 k0
      refine br_f (by decide) ⟨hvi, ?_⟩
      rw [eci, hPi.2]
      refine br_f (by decide) ⟨hvy, ?_⟩
      rw [ecy, hPy.2]
      exact uy_only_59 hK hPi.1 hPy.1 k1 k0
    · subst efl
      rw [(hAB y).1, (hAB y).2] at k1 k0
      refine br_t rfl ⟨hvy, ?_⟩
      rw [ecy, hPy.2]
      refine br_t rfl ⟨hvi, ?_⟩
      rw [eci, hPi.2]
      exact uy_only_59 hK hPy.1 hPi.1 k1 k0
theorem uy_only_fw {np i : Nat} {PL : Nat → Nat} (hK : K = 3 ∨ K = 5) (hn : np ≤ 192) (hi : i < np) (hP : ∀ j, j < np → PL j < um_N K ∧ aP j = nI (PL j)) (h1 : ∀ j, j < np → PL i % um_T K = PL j / 4 → (∀ j', j' < np → PL i % um_T K = PL j' / 4 → j' = j) → post (nI j)) (h0 : (¬ ∃ j, j < np ∧ PL i % um_T K = PL j / 4 ∧ ∀ j', j' < np → PL i % um_T K = PL j' / 4 → j' = j) → post (-1)) : wpY_only post (nI K, ff, ft, fo, fd, nI np, aL, aB, aA, aP, aF, aH) (nI i) 1 :=
  ⟨np + 1, uy_only_loop (A := fun _ => PL i) (B := PL) hK hn hi hP (Or.inl ⟨rfl, fun y => ⟨rfl, rfl⟩⟩) h1 h0 np 0 (np + 1) 0 (-1) (by omega) (by omega) (by omega) (Or.inl ⟨rfl, rfl, fun j z => by omega⟩)⟩
theorem uy_only_bw {np i : Nat} {PL : Nat → Nat} (hK : K = 3 ∨ K = 5) (hn : np ≤ 192) (hi : i < np) (hP : ∀ j, j < np → PL j < um_N K ∧ aP j = nI (PL j)) (h1 : ∀ j, j < np → PL j % um_T K = PL i / 4 → (∀ j', j' < np → PL j' % um_T K = PL i / 4 → j' = j) → post (nI j)) (h0 : (¬ ∃ j, j < np ∧ PL j % um_T K = PL i / 4 ∧ ∀ j', j' < np → PL j' % um_T K = PL i / 4 → j' = j) → post (-1)) : wpY_only post (nI K, ff, ft, fo, fd, nI np, aL, aB, aA, aP, aF, aH) (nI i) 0 :=
  ⟨np + 1, uy_only_loop (A := PL) (B := fun _ => PL i) hK hn hi hP (Or.inr ⟨rfl, fun y => ⟨rfl, rfl⟩⟩) h1 h0 np 0 (np + 1) 0 (-1) (by omega) (by omega) (by omega) (Or.inl ⟨rfl, rfl, fun j z => by omega⟩)⟩
theorem uy_probeCode_loop {p : Nat} {A : Nat → Nat} (hK : K ≤ 5) (hp : p ≤ K) (hA : ∀ i, i < p → aA i = nI (A i)) (h1 : p = K → post (nI (um_cd A p))) (h0 : p ≠ K → post (-1)) : ∀ (d j g : Nat), j + d = p → d < g → wY_probeCode_4 post (nI K) ff ft fo (nI p) fs aL aB aA aP aF aH g (nI (um_cd A j)) (nI j) := by
  intro d
  induction d with
  | zero =>
    intro j g hj hg
    obtain ⟨g, rfl⟩ : ∃ k, g = k + 1 := ⟨g - 1, by omega⟩
    have ej : j = p := by omega
    subst ej
    exact br_t (nI_le (Nat.le_refl _) (by omega)) (pk_eq j K h1 h0)
  | succ d ih =>
    intro j g hj hg
    obtain ⟨g, rfl⟩ : ∃ k, g = k + 1 := ⟨g - 1, by omega⟩
    have e1 : nI (um_cd A j) * 4 + aA (nI j).toNatClampNeg = nI (um_cd A (j + 1)) := by
      have a1 : nI (um_cd A j) * 4 = nI (um_cd A j * 4) := pk_mul _ 4
      rw [nI_clamp (by omega), hA j (by omega), a1, nI_add, um_cd_s]
    refine br_f (nI_ge (by omega) (by omega)) ⟨vp_in_nI (by omega) (by decide), nm_r e1 (nm_r (nI_1 j) ?_)⟩
    exact ih (j + 1) g (by omega) (by omega)
theorem uy_probeCode {p : Nat} {A : Nat → Nat} (hK : K ≤ 5) (hp : p ≤ K) (hA : ∀ i, i < p → aA i = nI (A i)) (h1 : p = K → post (nI (um_cd A p))) (h0 : p ≠ K → post (-1)) : wpY_probeCode post (nI K, ff, ft, fo, nI p, fs, aL, aB, aA, aP, aF, aH) :=
  ⟨p + 1, uy_probeCode_loop hK hp hA h1 h0 p 0 (p + 1) (by omega) (by omega)⟩
end
end
section
/-! Y: the list of solid pieces and its links -/
theorem um_ct_mir {K t x : Nat} {L : Nat → Nat} {aB : Nat → Int32} (hK : K = 3 ∨ K = 5) (hx : x < um_N K) : um_ct K t L aB (um_mir K x) = um_ct K t L aB x := by
  refine um_cn_congr t (fun p _ => ?_)
  rw [um_mir_mir hK hx]
  exact and_congr Iff.rfl or_comm
theorem um_ct_le (K t : Nat) (L : Nat → Nat) (aB : Nat → Int32) (x : Nat) : um_ct K t L aB x ≤ t := um_cn_le _ t
theorem um_ct_pos {K t x : Nat} {L : Nat → Nat} {aB : Nat → Int32} (h : 0 < um_ct K t L aB x) : ∃ p, p < t ∧ um_sv K t aB p ∧ (um_sg L p K = x ∨ um_sg L p K = um_mir K x) := um_cn_pos t h
def um_GI (K f t : Nat) (L : Nat → Nat) (aB : Nat → Int32) (p np : Nat) (PL : Nat → Nat) (aP : Nat → Int32) : Prop :=
  np ≤ 2 * p ∧ (∀ i, i < np → PL i < um_N K ∧ f ≤ um_ct K t L aB (PL i) ∧ aP i = nI (PL i) ∧ ∃ j, j < np ∧ PL j = um_mir K (PL i)) ∧ (∀ i j, i < np → j < np → PL i = PL j → i = j) ∧ (∀ p', p' < p → um_sv K t aB p' → f ≤ um_ct K t L aB (um_sg L p' K) → ∃ i, i < np ∧ PL i = um_sg L p' K)
theorem um_GI_skip {K f t : Nat} {L : Nat → Nat} {aB : Nat → Int32} {p np : Nat} {PL : Nat → Nat} {aP : Nat → Int32} (h : um_GI K f t L aB p np PL aP) (hs : um_sv K t aB p → f ≤ um_ct K t L aB (um_sg L p K) → ∃ i, i < np ∧ PL i = um_sg L p K) : um_GI K f t L aB (p + 1) np PL aP := by
  refine ⟨by have := h.1; omega, h.2.1, h.2.2.1, fun p' hp' hv hf => ?_⟩
  by_cases e : p' = p
  · subst e
    exact hs hv hf
  · exact h.2.2.2 p' (by omega) hv hf
theorem um_GI_put {K f t : Nat} {L : Nat → Nat} {aB : Nat → Int32} {p np : Nat} {PL : Nat → Nat} {aP : Nat → Int32} (hK : K = 3 ∨ K = 5) (h : um_GI K f t L aB p np PL aP) (hx : um_sg L p K < um_N K) (hf : f ≤ um_ct K t L aB (um_sg L p K)) (hn : ∀ j, j < np → PL j ≠ um_sg L p K) : um_GI K f t L aB (p + 1) (np + 2) (fun i => if i = np then um_sg L p K else if i = np + 1 then um_mir K (um_sg L p K) else PL i) (upd (upd aP np (nI (um_sg L p K))) (np + 1) (nI (um_mir K (um_sg L p K)))) := by
  have hct := um_ct_mir (t := t) (L := L) (aB := aB) hK hx
  have hmm := um_mir_mir hK hx
  have hml := um_mir_lt hK hx
  have hne := um_mir_ne hK hx
  have hsm : ∀ p', um_sg L p' K = um_sg L p' K := fun _ => rfl
  generalize hs : um_sg L p K = s at *
  have hn2 : ∀ j, j < np → PL j ≠ um_mir K s := by
    intro j hj e
    obtain ⟨j', hj', e'⟩ := (h.2.1 j hj).2.2.2
    rw [e, hmm] at e'
    exact hn j' hj' e'
  have v0 : (fun i => if i = np then s else if i = np + 1 then um_mir K s else PL i) np = s := if_pos rfl
  have v1 : (fun i => if i = np then s else if i = np + 1 then um_mir K s else PL i) (np + 1) = um_mir K s := by
    show (if np + 1 = np then s else if np + 1 = np + 1 then um_mir K s else PL (np + 1)) = um_mir K s
    rw [if_neg (by omega), if_pos rfl]
  have v2 : ∀ i, i < np → (fun i => if i = np then s else if i = np + 1 then um_mir K s else PL i) i = PL i := by
    intro i hi
    show (if i = np then s else if i = np + 1 then um_mir K s else PL i) = PL i
    rw [if_neg (by omega), if_neg (by omega)]
  generalize (fun i => if i = np then s else if i = np + 1 then um_mir K s else PL i) = Q at v0 v1 v2 ⊢
  refine ⟨by have := h.1; omega, fun i hi => ?_, fun i j hi hj e => ?_, fun p' hp' hv hf' => ?_⟩
  · by_cases c0 : i = np
    · subst c0
      rw [v0, pk_un (by omega), pk_us]
      exact ⟨hx, hf, rfl, i + 1, by omega, v1⟩
    · by_cases c1 : i = np + 1
      · subst c1
        rw [v1, pk_us, hmm]
        exact ⟨hml, by rw [hct]; exact hf, rfl, np, by omega, v0⟩
      · have hi2 : i < np := by omega
        obtain ⟨a1, a2, a3, j, a4, a5⟩ := h.2.1 i hi2
        rw [v2 i hi2, pk_un c1, pk_un c0]
        exact ⟨a1, a2, a3, j, by omega, by rw [v2 j a4]; exact a5⟩
  · have cs : ∀ i, i < np + 2 → (i = np ∧ Q i = s) ∨ (i = np + 1 ∧ Q i = um_mir K s) ∨ (i < np ∧ Q i = PL i) := by
      intro i hi
      by_cases c0 : i = np
      · exact Or.inl ⟨c0, by rw [c0]; exact v0⟩
      · by_cases c1 : i = np + 1
        · exact Or.inr (Or.inl ⟨c1, by rw [c1]; exact v1⟩)
        · exact Or.inr (Or.inr ⟨by omega, v2 i (by omega)⟩)
    rcases cs i hi with ⟨a1, a2⟩ | ⟨a1, a2⟩ | ⟨a1, a2⟩ <;> rcases cs j hj with ⟨b1, b2⟩ | ⟨b1, b2⟩ | ⟨b1, b2⟩
    · omega
    · exact absurd (by rw [← b2, ← e, a2]) hne
    · exact absurd (by rw [← b2, ← e, a2]) (hn j b1)
    · exact absurd (by rw [← a2, e, b2]) hne
    · omega
    · exact absurd (by rw [← b2, ← e, a2]) (hn2 j b1)
    · exact absurd (by rw [← a2, e, b2]) (hn i a1)
    · exact absurd (by rw [← a2, e, b2]) (hn2 i a1)
    · exact h.2.2.1 i j a1 b1 (by rw [← a2, e, b2])
  · by_cases e : p' = p
    · subst e
      exact ⟨np, by omega, by rw [v0, hs]⟩
    · obtain ⟨i, hi, ei⟩ := h.2.2.2 p' (by omega) hv hf'
      exact ⟨i, by omega, by rw [v2 i hi]; exact ei⟩
theorem um_GI_end {K f t : Nat} {L : Nat → Nat} {aB : Nat → Int32} {np : Nat} {PL : Nat → Nat} {aP : Nat → Int32} (hK : K = 3 ∨ K = 5) (hL : ∀ i, L i < 4) (hf : 1 ≤ f) (ht : t ≤ 96) (h : um_GI K f t L aB t np PL aP) : um_GL (um_N K) (fun y => f ≤ um_ct K t L aB y) np PL := by
  refine ⟨by have := h.1; omega, fun i hi => ⟨(h.2.1 i hi).1, (h.2.1 i hi).2.1⟩, h.2.2.1, fun x hx hs => ?_⟩
  have hs : f ≤ um_ct K t L aB x := hs
  obtain ⟨p, hp, hv, e⟩ := um_ct_pos (K := K) (t := t) (L := L) (aB := aB) (x := x) (by omega)
  rcases e with e | e
  · obtain ⟨i, hi, ei⟩ := h.2.2.2 p hp hv (by rw [e]; exact hs)
    exact ⟨i, hi, by rw [ei, e]⟩
  · obtain ⟨i, hi, ei⟩ := h.2.2.2 p hp hv (by rw [e, um_ct_mir hK hx]; exact hs)
    obtain ⟨j, hj, ej⟩ := (h.2.1 i hi).2.2.2
    exact ⟨j, hj, by rw [ej, ei, e, um_mir_mir hK hx]⟩
section
variable {post : SY → Prop} {K f t : Nat} {L : Nat → Nat} {fo fd : Int32} {aL aB aA aF aH : Nat → Int32}
theorem uy_gather_7 (hK : K = 3 ∨ K = 5) (hL : ∀ i, L i < 4 ∧ aL i = nI (L i)) (hf : f ≤ 9) (ht : t ≤ 96) (hk : ∀ np PL aP, um_GI K f t L aB t np PL aP → ∃ n99, wY_gather_99 post (nI K) (nI f) (nI t) fo fd (nI np) n99 0 aL aB aA aP aF aH) : ∀ (d p g np : Nat) (PL : Nat → Nat) (aP : Nat → Int32), p + d = t → d < g → um_GI K f t L aB p np PL aP → wY_gather_7 post (nI K) (nI f) (nI t) fo fd g (nI p) (nI np) aL aB aA aP aF aH := by
  have hN := (um_NT hK).2.1
  intro d
  induction d with
  | zero =>
    intro p g np PL aP hp hg hI
    obtain ⟨g, rfl⟩ : ∃ k, g = k + 1 := ⟨g - 1, by omega⟩
    have ep : p = t := by omega
    rw [ep] at hI ⊢
    exact br_t (nI_le (Nat.le_refl _) (by omega)) (hk np PL aP hI)
  | succ d ih =>
    intro p g np PL aP hp hg hI
    obtain ⟨g, rfl⟩ : ∃ k, g = k + 1 := ⟨g - 1, by omega⟩
    have hnp := hI.1
    have hsg : um_sg L p K < um_N K := um_sg_lt (fun i => (hL i).1)
    have hml := um_mir_lt hK hsg
    have hct := um_ct_le K t L aB (um_sg L p K)
    have hskip : (um_sv K t aB p → f ≤ um_ct K t L aB (um_sg L p K) → ∃ i, i < np ∧ PL i = um_sg L p K) → wY_gather_7 post (nI K) (nI f) (nI t) fo fd g (nI (p + 1)) (nI np) aL aB aA aP aF aH := fun z => ih (p + 1) g np PL aP (by omega) (by omega) (um_GI_skip hI z)
    refine br_f (nI_ge (by omega) (by omega)) (uy_seen (by omega) hL ht (by omega) (fun hv => ?_) (fun hv => ?_))
    · refine br_f (nI_pos (by omega)) (uy_find (by omega) (fun i hi ei _ => ?_) (fun hno => ?_))
      · refine br_t (nI_pos' (by omega)) (nm_r (nI_1 p) (hskip (fun _ _ => ⟨i, hi, ?_⟩)))
        obtain ⟨a1, _, a3, _⟩ := hI.2.1 i hi
        rw [a3] at ei
        exact (nI_eq (by omega) (by omega)).mp ei
      · refine br_f (by decide) (uy_countOf hK hL ht hsg (pk_lt (um_ct K t L aB (um_sg L p K)) f (fun c => ?_) (fun c => ?_)))
        · exact nm_r (nI_1 p) (hskip (fun _ z => by omega))
        · refine br_f (nI_ge (b := 191) (by omega) (by decide)) ⟨vp_in_nI (by omega) (by decide), nm_r (e' := upd aP np (nI (um_sg L p K))) (by rw [nI_clamp (by omega)]) (uy_mirror (by omega) (by omega) ⟨?_, nm_r (e' := upd (upd aP np (nI (um_sg L p K))) (np + 1) (nI (um_mir K (um_sg L p K)))) ?_ (nm_r (nI_add np 2) (nm_r (nI_1 p) ?_))⟩)⟩
          · rw [nI_1]
            exact vp_in_nI (by omega) (by decide)
          · rw [nI_1, nI_clamp (by omega)]
          · refine ih (p + 1) g (np + 2) _ _ (by omega) (by omega) (um_GI_put hK hI hsg c (fun j hj e => ?_))
            refine hno j hj ?_
            rw [(hI.2.1 j hj).2.2.1, e]
    · exact br_t (by decide) (nm_r (nI_1 p) (hskip (fun z => absurd z hv)))
theorem uy_gather_99 {np : Nat} {ff ft : Int32} {aP : Nat → Int32} (hn : np ≤ 192) (hk : ∀ aF aH : Nat → Int32, (∀ i, i < np → aF i = -1 ∧ aH i = -1) → ∃ n129, wY_gather_129 post (nI K) ff ft fo fd (nI np) n129 0 aL aB aA aP aF aH) : ∀ (d x g : Nat) (aF aH : Nat → Int32), x + d = np → d < g → (∀ i, i < x → aF i = -1 ∧ aH i = -1) → wY_gather_99 post (nI K) ff ft fo fd (nI np) g (nI x) aL aB aA aP aF aH := by
  intro d
  induction d with
  | zero =>
    intro x g aF aH hx hg hI
    obtain ⟨g, rfl⟩ : ∃ k, g = k + 1 := ⟨g - 1, by omega⟩
    exact br_t (nI_le (by omega) (by omega)) (hk aF aH (fun i hi => hI i (by omega)))
  | succ d ih =>
    intro x g aF aH hx hg hI
    obtain ⟨g, rfl⟩ : ∃ k, g = k + 1 := ⟨g - 1, by omega⟩
    have hv : vp_in (nI x) 192 := vp_in_nI (by omega) (by decide)
    have ec : (nI x).toNatClampNeg = x := nI_clamp (by omega)
    refine br_f (nI_ge (by omega) (by omega)) ⟨hv, nm_r (e' := upd aF x (-1)) (by rw [ec]) ⟨hv, nm_r (e' := upd aH x (-1)) (by rw [ec]) (nm_r (nI_1 x) ?_)⟩⟩
    refine ih (x + 1) g _ _ (by omega) (by omega) (fun i hi => ?_)
    by_cases e : i = x
    · rw [e, pk_us, pk_us]
      exact ⟨rfl, rfl⟩
    · rw [pk_un e, pk_un e]
      exact hI i (by omega)
end
/-! links by the list -/
section
variable {K f : Nat} {cn : Nat → Nat} {np : Nat} {PL : Nat → Nat}
theorem um_Uf (hK : K = 3 ∨ K = 5) (G : um_GL (um_N K) (fun y => f ≤ cn y) np PL) {x j : Nat} (hj : j < np) (e : PL x % um_T K = PL j / 4) : (∀ j', j' < np → PL x % um_T K = PL j' / 4 → j' = j) ↔ um_U (fun y => f ≤ cn y) (um_T K) (PL x) (PL j) := by
  obtain ⟨h1, h2, h3⟩ := um_NT hK
  have h4 : PL x % um_T K < um_T K := Nat.mod_lt _ (by omega)
  constructor
  · intro h
    refine ⟨(G.2.1 j hj).2, e.symm, fun z hz hzb => ?_⟩
    obtain ⟨j', hj', e'⟩ := G.2.2.2 z (by omega) hz
    rw [← e', h j' hj' (by rw [e', hzb])]
  · intro h j' hj' e'
    exact G.2.2.1 j' j hj' hj (h.2.2 _ (G.2.1 j' hj').2 e'.symm)
theorem um_Ub (hK : K = 3 ∨ K = 5) (hm : ∀ x, x < um_N K → cn (um_mir K x) = cn x) (G : um_GL (um_N K) (fun y => f ≤ cn y) np PL) {x j : Nat} (hx : x < np) (hj : j < np) (e : PL x % um_T K = PL j / 4) : (∀ i, i < np → PL i % um_T K = PL j / 4 → i = x) ↔ um_U (fun y => f ≤ cn y) (um_T K) (um_mir K (PL j)) (um_mir K (PL x)) := by
  obtain ⟨h1, h2, h3⟩ := um_NT hK
  have hjN := (G.2.1 j hj).1
  have hxN := (G.2.1 x hx).1
  have hmj := um_mir_lt hK hjN
  have h4 : um_mir K (PL j) % um_T K < um_T K := Nat.mod_lt _ (by omega)
  constructor
  · intro h
    refine ⟨?_, um_mir_fol hK hxN hjN e.symm, fun z hz hzb => ?_⟩
    · show f ≤ cn (um_mir K (PL x))
      rw [hm _ hxN]
      exact (G.2.1 x hx).2
    · have hzN : z < um_N K := by omega
      have h5 := um_mir_fol hK hmj hzN hzb
      rw [um_mir_mir hK hjN] at h5
      obtain ⟨i, hi, ei⟩ := G.2.2.2 (um_mir K z) (um_mir_lt hK hzN) (by show f ≤ cn (um_mir K z); rw [hm z hzN]; exact hz)
      have ex := h i hi (by rw [ei, h5])
      rw [ex] at ei
      rw [ei, um_mir_mir hK hzN]
  · intro h i hi e'
    have hiN := (G.2.1 i hi).1
    have h5 := um_mir_fol hK hiN hjN e'.symm
    have h6 := h.2.2 (um_mir K (PL i)) (by show f ≤ cn (um_mir K (PL i)); rw [hm _ hiN]; exact (G.2.1 i hi).2) h5
    exact G.2.2.1 i x hi hx (um_mir_inj hK hiN hxN h6)
end
def um_GF (K f : Nat) (cn : Nat → Nat) (np : Nat) (PL : Nat → Nat) (x : Nat) (aF aH : Nat → Int32) : Prop :=
  (∀ i, i < np → (i < x ∧ ∃ j, j < np ∧ um_A K f cn (PL i) = some (PL j) ∧ aF i = nI j) ∨ ((i < x → um_A K f cn (PL i) = none) ∧ aF i = -1)) ∧
  (∀ j, j < np → (∃ i, i < x ∧ um_A K f cn (PL i) = some (PL j) ∧ aH j = nI i) ∨ ((∀ i, i < x → um_A K f cn (PL i) ≠ some (PL j)) ∧ aH j = -1))
section
variable {K f : Nat} {cn : Nat → Nat} {np : Nat} {PL : Nat → Nat} {aF aH : Nat → Int32}
theorem um_GF_no {x : Nat} (h : um_GF K f cn np PL x aF aH) (hx : um_A K f cn (PL x) = none) : um_GF K f cn np PL (x + 1) aF aH := by
  refine ⟨fun i hi => ?_, fun j hj => ?_⟩
  · rcases h.1 i hi with ⟨a1, a2⟩ | ⟨a1, a2⟩
    · exact Or.inl ⟨by omega, a2⟩
    · refine Or.inr ⟨fun z => ?_, a2⟩
      by_cases e : i = x
      · rw [e]
        exact hx
      · exact a1 (by omega)
  · rcases h.2 j hj with ⟨i, a1, a2⟩ | ⟨a1, a2⟩
    · exact Or.inl ⟨i, by omega, a2⟩
    · refine Or.inr ⟨fun i z w => ?_, a2⟩
      by_cases e : i = x
      · rw [e, hx] at w
        cases w
      · exact a1 i (by omega) w
theorem um_GF_yes (G : um_GL (um_N K) (fun y => f ≤ cn y) np PL) {x y : Nat} (hxn : x < np) (hyn : y < np) (h : um_GF K f cn np PL x aF aH) (hx : um_A K f cn (PL x) = some (PL y)) : um_GF K f cn np PL (x + 1) (upd aF x (nI y)) (upd aH y (nI x)) := by
  refine ⟨fun i hi => ?_, fun j hj => ?_⟩
  · by_cases e : i = x
    · subst e
      rw [pk_us]
      exact Or.inl ⟨by omega, y, hyn, hx, rfl⟩
    · rw [pk_un e]
      rcases h.1 i hi with ⟨a1, a2⟩ | ⟨a1, a2⟩
      · exact Or.inl ⟨by omega, a2⟩
      · exact Or.inr ⟨fun z => a1 (by omega), a2⟩
  · by_cases e : j = y
    · subst e
      rw [pk_us]
      exact Or.inl ⟨x, by omega, hx, rfl⟩
    · rw [pk_un e]
      rcases h.2 j hj with ⟨i, a1, a2⟩ | ⟨a1, a2⟩
      · exact Or.inl ⟨i, by omega, a2⟩
      · refine Or.inr ⟨fun i z w => ?_, a2⟩
        by_cases ei : i = x
        · rw [ei, hx] at w
          exact e (G.2.2.1 j y hj hyn (Option.some.inj w).symm)
        · exact a1 i (by omega) w
end
/-- what the gathered list gives -/
def um_GA (K f : Nat) (cn : Nat → Nat) (np : Nat) (PL : Nat → Nat) (aP aF aH : Nat → Int32) : Prop :=
  um_GL (um_N K) (fun y => f ≤ cn y) np PL ∧ (∀ i, i < np → aP i = nI (PL i)) ∧
  (∀ i, i < np → (∃ j, j < np ∧ um_A K f cn (PL i) = some (PL j) ∧ aF i = nI j) ∨ (um_A K f cn (PL i) = none ∧ aF i = -1)) ∧
  (∀ i, i < np → (∃ j, j < np ∧ um_B K f cn (PL i) = some (PL j) ∧ aH i = nI j) ∨ (um_B K f cn (PL i) = none ∧ aH i = -1))
theorem um_GF_end {K f : Nat} {cn W : Nat → Nat} {np : Nat} {PL : Nat → Nat} {aP aF aH : Nat → Int32} (HA : um_LA (um_N K) (um_mir K) (fun y => f ≤ cn y) W (um_A K f cn)) (G : um_GL (um_N K) (fun y => f ≤ cn y) np PL) (hP : ∀ i, i < np → aP i = nI (PL i)) (h : um_GF K f cn np PL np aF aH) : um_GA K f cn np PL aP aF aH := by
  refine ⟨G, hP, fun i hi => ?_, fun j hj => ?_⟩
  · rcases h.1 i hi with ⟨a1, a2⟩ | ⟨a1, a2⟩
    · exact Or.inl a2
    · exact Or.inr ⟨a1 hi, a2⟩
  · have hjN := (G.2.1 j hj).1
    rcases h.2 j hj with ⟨i, a1, a2, a3⟩ | ⟨a1, a2⟩
    · exact Or.inl ⟨i, a1, (um_lb_iff HA (G.2.1 i a1).1 hjN).mpr a2, a3⟩
    · refine Or.inr ⟨?_, a2⟩
      cases hB : um_B K f cn (PL j) with
      | none => rfl
      | some z =>
        exfalso
        have hz := um_lb_lt HA hjN hB
        have hA := (um_lb_iff HA hz hjN).mp hB
        obtain ⟨i, hi, ei⟩ := G.2.2.2 z hz (HA.2.2 z _ hz hA).2.1
        rw [← ei] at hA
        exact a1 i hi hA
section
variable {post : SY → Prop} {K f : Nat} {cn : Nat → Nat} {np : Nat} {PL : Nat → Nat} {ff ft fo fd : Int32} {aL aB aA aP : Nat → Int32}
theorem uy_gather_129 (hK : K = 3 ∨ K = 5) (hm : ∀ x, x < um_N K → cn (um_mir K x) = cn x) (G : um_GL (um_N K) (fun y => f ≤ cn y) np PL) (hP : ∀ i, i < np → aP i = nI (PL i)) (hk : ∀ aF aH, um_GF K f cn np PL np aF aH → post (nI K, ff, ft, fo, fd, nI np, aL, aB, aA, aP, aF, aH)) : ∀ (d x g : Nat) (aF aH : Nat → Int32), x + d = np → d < g → um_GF K f cn np PL x aF aH → wY_gather_129 post (nI K) ff ft fo fd (nI np) g (nI x) aL aB aA aP aF aH := by
  have hN := (um_NT hK).2.1
  have hn := G.1
  have hPP : ∀ j, j < np → PL j < um_N K ∧ aP j = nI (PL j) := fun j hj => ⟨(G.2.1 j hj).1, hP j hj⟩
  intro d
  induction d with
  | zero =>
    intro x g aF aH hx hg hI
    obtain ⟨g, rfl⟩ : ∃ k, g = k + 1 := ⟨g - 1, by omega⟩
    have ex : x = np := by omega
    rw [ex] at hI ⊢
    exact br_t (nI_le (Nat.le_refl _) (by omega)) (hk aF aH hI)
  | succ d ih =>
    intro x g aF aH hx hg hI
    obtain ⟨g, rfl⟩ : ∃ k, g = k + 1 := ⟨g - 1, by omega⟩
    have hxn : x < np := by omega
    have hxN := (G.2.1 x hxn).1
    have hmN := um_mir_lt hK hxN
    have hskip : (∀ y, ¬ um_lk (fun y => f ≤ cn y) K (PL x) y) → wY_gather_129 post (nI K) ff ft fo fd (nI np) g (nI (x + 1)) aL aB aA aP aF aH := fun z => ih (x + 1) g aF aH (by omega) (by omega) (um_GF_no hI (um_la_n z))
    refine br_f (nI_ge (by omega) (by omega)) (uy_only_fw hK hn hxn hPP (fun y hy ey uy => ?_) (fun hno => ?_))
    · have hU := (um_Uf hK G hy ey).mp uy
      have hyN := (G.2.1 y hy).1
      have only : ∀ z, um_lk (fun y => f ≤ cn y) K (PL x) z → z = PL y := fun z hz => um_U_fun z (PL y) hz.1 hU
      refine br_f (nI_pos (by omega)) (uy_only_bw hK hn hy hPP (fun i hi ei ui => ?_) (fun hno => ?_))
      · refine pk_eq i x (fun e => ?_) (fun ne => nm_r (nI_1 x) (hskip (fun z hz => ?_)))
        · subst e
          have hb := (um_Ub hK hm G hi hy ey).mp ui
          refine pk_eq y i (fun e => nm_r (nI_1 i) (hskip (fun z hz => ?_))) (fun ne => ⟨vp_in_nI (by omega) (by decide), vp_in_nI (by omega) (by decide), ?_⟩)
          · exact hz.2.2.1 (by rw [only z hz, e])
          · rw [nI_clamp (n := i) (by omega), nI_clamp (n := y) (by omega), hP i hi, hP y hy]
            refine uy_mirror (by omega) (by omega) (pk_eq (PL y) (um_mir K (PL i)) (fun e => nm_r (nI_1 i) (hskip (fun z hz => ?_))) (fun ne2 => ⟨vp_in_nI (by omega) (by decide), nm_e ⟨vp_in_nI (by omega) (by decide), nm_e (nm_r (nI_1 i) ?_)⟩⟩))
            · exact hz.2.2.2 (by rw [only z hz, e])
            · refine ih (i + 1) g _ _ (by omega) (by omega) (um_GF_yes G hi hy hI (um_la_s.mpr ⟨hU, hb, fun e => ne (G.2.2.1 y i hy hi e), ne2⟩))
        · have ez := only z hz
          rw [ez] at hz
          exact ne ((um_Ub hK hm G hxn hy ey).mpr hz.2.1 i hi ei)
      · refine br_f (fun e => um_neg1 (n := x) (by omega) e.symm) (nm_r (nI_1 x) (hskip (fun z hz => ?_)))
        have ez := only z hz
        rw [ez] at hz
        exact hno ⟨x, hxn, ey, (um_Ub hK hm G hxn hy ey).mpr hz.2.1⟩
    · refine br_t (by decide) (nm_r (nI_1 x) (hskip (fun z hz => ?_)))
      have hzN := um_U_lt hK hz.1
      obtain ⟨y, hy, ey⟩ := G.2.2.2 z hzN hz.1.1
      rw [← ey] at hz
      have e := hz.1.2.1
      exact hno ⟨y, hy, e.symm, (um_Uf hK G hy e.symm).mpr hz.1⟩
end
theorem uy_gather {post : SY → Prop} {K f t : Nat} {L W : Nat → Nat} {fo fd fs : Int32} {aL aB aA aP aF aH : Nat → Int32} (hK : K = 3 ∨ K = 5) (hL : ∀ i, L i < 4 ∧ aL i = nI (L i)) (hf1 : 1 ≤ f) (hf : f ≤ 9) (ht : t ≤ 96) (HA : um_LA (um_N K) (um_mir K) (fun y => f ≤ um_ct K t L aB y) W (um_A K f (um_ct K t L aB))) (hk : ∀ np PL aP aF aH, um_GA K f (um_ct K t L aB) np PL aP aF aH → post (nI K, nI f, nI t, fo, fd, nI np, aL, aB, aA, aP, aF, aH)) : wpY_gather post (nI K, nI f, nI t, fo, fd, fs, aL, aB, aA, aP, aF, aH) := by
  refine ⟨t + 1, uy_gather_7 hK hL hf ht (fun np PL aP hI => ?_) t 0 (t + 1) 0 (fun _ => 0) aP (by omega) (by omega) ⟨by omega, fun i hi => by omega, fun i j hi => by omega, fun p' hp' => by omega⟩⟩
  have G := um_GI_end hK (fun i => (hL i).1) hf1 ht hI
  refine ⟨np + 1, uy_gather_99 G.1 (fun aF aH hF => ⟨np + 1, ?_⟩) np 0 (np + 1) aF aH (by omega) (by omega) (fun i hi => by omega)⟩
  have hP : ∀ i, i < np → aP i = nI (PL i) := fun i hi => (hI.2.1 i hi).2.2.1
  refine uy_gather_129 hK (fun x hx => um_ct_mir hK hx) G hP (fun aF aH hG => hk np PL aP aF aH (um_GF_end HA G hP hG)) np 0 (np + 1) aF aH (by omega) (by omega) ?_
  exact ⟨fun i hi => Or.inr ⟨fun z => by omega, (hF i hi).1⟩, fun j hj => Or.inr ⟨fun i z => by omega, (hF j hj).2⟩⟩
end
section
/-! Y: walks over the gathered list -/
theorem um_ix {R : Nat → Option Nat} {np : Nat} {PL : Nat → Nat} {aR : Nat → Int32} (hR : ∀ i, i < np → (∃ j, j < np ∧ R (PL i) = some (PL j) ∧ aR i = nI j) ∨ (R (PL i) = none ∧ aR i = -1)) {i : Nat} (hi : i < np) : (∀ z, R (PL i) = some z → ∃ j, j < np ∧ PL j = z ∧ aR i = nI j) ∧ (R (PL i) = none → aR i = -1) := by
  rcases hR i hi with ⟨j, h1, h2, h3⟩ | ⟨h1, h2⟩
  · refine ⟨fun z hz => ?_, fun z => ?_⟩
    · rw [h2] at hz
      exact ⟨j, h1, Option.some.inj hz, h3⟩
    · rw [h2] at z
      cases z
  · refine ⟨fun z hz => ?_, fun _ => h2⟩
    rw [h1] at hz
    cases hz
section
variable {post : Int32 → Prop} {K f x : Nat} {cn W : Nat → Nat} {np : Nat} {PL : Nat → Nat} {ff ft fo fd : Int32} {aL aB aA aP aF aH : Nat → Int32}
theorem uy_walk_loop {R : Nat → Option Nat} {aR : Nat → Int32} {fl : Int32} {n : Nat} (hnp : np ≤ 192) (hinj : ∀ i j, i < np → j < np → PL i = PL j → i = j) (hR : ∀ i, i < np → (∃ j, j < np ∧ R (PL i) = some (PL j) ∧ aR i = nI j) ∨ (R (PL i) = none ∧ aR i = -1)) (hfl : (fl = 1 ∧ aR = aF) ∨ (fl = 0 ∧ aR = aH)) (hx : x < np) (hP : um_Per R (PL x) n) (hn : n ≤ 96) (hp : post (nI (n - 1))) : ∀ (d s i g : Nat), s + d + 1 = n → d < g → i < np → um_it R s (PL x) = some (PL i) → wY_walk_5 post (nI x) fl (nI K) ff ft fo fd (nI np) aL aB aA aP aF aH g (nI i) (nI s) := by
  intro d
  induction d with
  | zero =>
    intro s i g hs hg hi hz
    obtain ⟨g, rfl⟩ : ∃ k, g = k + 1 := ⟨g - 1, by omega⟩
    have hv : vp_in (nI i) 192 := vp_in_nI (by omega) (by decide)
    have ec : (nI i).toNatClampNeg = i := nI_clamp (by omega)
    have hB : um_it R n (PL x) = R (PL i) := by
      have e := um_it_add hz 1
      rw [show s + 1 = n by omega] at e
      exact e
    have key : wY_walk_32 post (wY_walk_5 post (nI x) fl (nI K) ff ft fo fd (nI np) aL aB aA aP aF aH g) (nI x) fl (nI s) (aR i) (nI K) ff ft fo fd (nI np) aL aB aA aP aF aH := by
      have es : n - 1 = s := by omega
      rw [es] at hp
      rcases hP.2.1 with e | e
      · rw [(um_ix hR hi).2 (by rw [← hB, e])]
        exact br_t (by decide) hp
      · obtain ⟨j, hj, ej, e2⟩ := (um_ix hR hi).1 (PL x) (by rw [← hB, e])
        rw [e2, hinj j x hj hx ej]
        exact br_f (nI_pos (by omega)) (br_t rfl hp)
    refine br_f (nI_ge (b := 192) (by omega) (by decide)) ?_
    rcases hfl with ⟨e1, e2⟩ | ⟨e1, e2⟩
    · subst e1 e2
      exact br_f (by decide) ⟨hv, by rw [ec]; exact key⟩
    · subst e1 e2
      exact br_t rfl ⟨hv, by rw [ec]; exact key⟩
  | succ d ih =>
    intro s i g hs hg hi hz
    obtain ⟨g, rfl⟩ : ∃ k, g = k + 1 := ⟨g - 1, by omega⟩
    have hv : vp_in (nI i) 192 := vp_in_nI (by omega) (by decide)
    have ec : (nI i).toNatClampNeg = i := nI_clamp (by omega)
    obtain ⟨z, hz', hne⟩ := hP.2.2 (s + 1) (by omega) (by omega)
    have hB : R (PL i) = some z := by
      have e := um_it_add hz 1
      rw [hz'] at e
      exact e.symm
    obtain ⟨j, hj, ej, e2⟩ := (um_ix hR hi).1 z hB
    have key : wY_walk_32 post (wY_walk_5 post (nI x) fl (nI K) ff ft fo fd (nI np) aL aB aA aP aF aH g) (nI x) fl (nI s) (aR i) (nI K) ff ft fo fd (nI np) aL aB aA aP aF aH := by
      rw [e2]
      refine br_f (nI_pos (by omega)) (br_f (fun e => hne ?_) (nm_r (nI_1 s) (ih (s + 1) j g (by omega) (by omega) hj (by rw [hz', ej]))))
      rw [← ej, (nI_eq (by omega) (by omega)).mp e]
    refine br_f (nI_ge (b := 192) (by omega) (by decide)) ?_
    rcases hfl with ⟨e1, e3⟩ | ⟨e1, e3⟩
    · subst e1 e3
      exact br_f (by decide) ⟨hv, by rw [ec]; exact key⟩
    · subst e1 e3
      exact br_t rfl ⟨hv, by rw [ec]; exact key⟩
theorem uy_walk_fw {n : Nat} (G : um_GA K f cn np PL aP aF aH) (hx : x < np) (hP : um_Per (um_A K f cn) (PL x) n) (hn : n ≤ 96) (hp : post (nI (n - 1))) : wpY_walk post (nI K, ff, ft, fo, fd, nI np, aL, aB, aA, aP, aF, aH) (nI x) 1 :=
  ⟨n, uy_walk_loop G.1.1 G.1.2.2.1 G.2.2.1 (Or.inl ⟨rfl, rfl⟩) hx hP hn hp (n - 1) 0 x n (by have := hP.1; omega) (by have := hP.1; omega) hx rfl⟩
theorem uy_walk_bw {n : Nat} (G : um_GA K f cn np PL aP aF aH) (hx : x < np) (hP : um_Per (um_B K f cn) (PL x) n) (hn : n ≤ 96) (hp : post (nI (n - 1))) : wpY_walk post (nI K, ff, ft, fo, fd, nI np, aL, aB, aA, aP, aF, aH) (nI x) 0 :=
  ⟨n, uy_walk_loop G.1.1 G.1.2.2.1 G.2.2.2 (Or.inr ⟨rfl, rfl⟩) hx hP hn hp (n - 1) 0 x n (by have := hP.1; omega) (by have := hP.1; omega) hx rfl⟩
theorem uy_ring_loop {n : Nat} (G : um_GA K f cn np PL aP aF aH) (hx : x < np) (hP : um_Per (um_A K f cn) (PL x) n) (hn : n ≤ 96) (h1 : um_it (um_A K f cn) n (PL x) = some (PL x) → post 1) (h0 : um_it (um_A K f cn) n (PL x) = none → post 0) : ∀ (d s i g : Nat), s + d + 1 = n → d < g → i < np → um_it (um_A K f cn) s (PL x) = some (PL i) → wY_ring_4 post (nI x) (nI K) ff ft fo fd (nI np) aL aB aA aP aF aH g (nI i) (nI s) := by
  have hnp := G.1.1
  have hinj := G.1.2.2.1
  have hR := G.2.2.1
  intro d
  induction d with
  | zero =>
    intro s i g hs hg hi hz
    obtain ⟨g, rfl⟩ : ∃ k, g = k + 1 := ⟨g - 1, by omega⟩
    have hv : vp_in (nI i) 192 := vp_in_nI (by omega) (by decide)
    have ec : (nI i).toNatClampNeg = i := nI_clamp (by omega)
    have hB : um_it (um_A K f cn) n (PL x) = um_A K f cn (PL i) := by
      have e := um_it_add hz 1
      rw [show s + 1 = n by omega] at e
      exact e
    refine br_f (nI_ge (b := 192) (by omega) (by decide)) ⟨hv, ?_⟩
    rw [ec]
    rcases hP.2.1 with e | e
    · rw [(um_ix hR hi).2 (by rw [← hB, e])]
      exact nm_e (br_f (by decide) (h0 e))
    · obtain ⟨j, hj, ej, e2⟩ := (um_ix hR hi).1 (PL x) (by rw [← hB, e])
      rw [e2, hinj j x hj hx ej]
      exact nm_e (br_t (nI_pos' (by omega)) (br_t rfl (h1 e)))
  | succ d ih =>
    intro s i g hs hg hi hz
    obtain ⟨g, rfl⟩ : ∃ k, g = k + 1 := ⟨g - 1, by omega⟩
    have hv : vp_in (nI i) 192 := vp_in_nI (by omega) (by decide)
    have ec : (nI i).toNatClampNeg = i := nI_clamp (by omega)
    obtain ⟨z, hz', hne⟩ := hP.2.2 (s + 1) (by omega) (by omega)
    have hB : um_A K f cn (PL i) = some z := by
      have e := um_it_add hz 1
      rw [hz'] at e
      exact e.symm
    obtain ⟨j, hj, ej, e2⟩ := (um_ix hR hi).1 z hB
    refine br_f (nI_ge (b := 192) (by omega) (by decide)) ⟨hv, ?_⟩
    rw [ec, e2]
    refine nm_e (br_t (nI_pos' (by omega)) (br_f (fun e => hne ?_) (nm_r (nI_1 s) (ih (s + 1) j g (by omega) (by omega) hj (by rw [hz', ej])))))
    rw [← ej, (nI_eq (by omega) (by omega)).mp e]
theorem uy_ring {n : Nat} (G : um_GA K f cn np PL aP aF aH) (hx : x < np) (hP : um_Per (um_A K f cn) (PL x) n) (hn : n ≤ 96) (h1 : um_it (um_A K f cn) n (PL x) = some (PL x) → post 1) (h0 : um_it (um_A K f cn) n (PL x) = none → post 0) : wpY_ring post (nI K, ff, ft, fo, fd, nI np, aL, aB, aA, aP, aF, aH) (nI x) :=
  ⟨n, uy_ring_loop G hx hP hn h1 h0 (n - 1) 0 x n (by have := hP.1; omega) (by have := hP.1; omega) hx rfl⟩
theorem uy_length (G : um_GA K f cn np PL aP aF aH) (HA : um_LA (um_N K) (um_mir K) (fun y => f ≤ cn y) W (um_A K f cn)) (hx : x < np) (hp : post (nI (um_len (um_N K) (um_A K f cn) (PL x)))) : wpY_length post (nI K, ff, ft, fo, fd, nI np, aL, aB, aA, aP, aF, aH) (nI x) := by
  obtain ⟨n, b, st, hn, hb, hPn, hPb, hst, hstN, hstS, hfw, hh, hl, hc⟩ := um_chain HA (G.1.2.1 x hx).1 (G.1.2.1 x hx).2
  have n1 := hPn.1
  have b1 := hPb.1
  unfold wpY_length
  dsimp only
  refine uy_walk_fw G hx hPn hn (uy_ring G hx hPn hn (fun e => br_f (by decide) ?_) (fun e => br_t rfl (uy_walk_bw G hx hPb hb ?_)))
  · rcases hc with ⟨e1, e2, e3⟩ | ⟨e1, e2, e3⟩
    · rw [nI_1, show n - 1 + 1 = n by omega, ← e3]
      exact hp
    · rw [e1] at e
      cases e
  · rcases hc with ⟨e1, e2, e3⟩ | ⟨e1, e2, e3⟩
    · rw [e1] at e
      cases e
    · rw [nI_add, nI_1, show n - 1 + (b - 1) + 1 = n + (b - 1) by omega, ← e3]
      exact hp
theorem uy_leads_loop {n : Nat} (G : um_GA K f cn np PL aP aF aH) (HA : um_LA (um_N K) (um_mir K) (fun y => f ≤ cn y) W (um_A K f cn)) (hx : x < np) (hP : um_Per (um_A K f cn) (PL x) n) (hn : n ≤ 96) (hr : um_it (um_A K f cn) n (PL x) = some (PL x)) (h1 : um_Ld (um_mir K) (um_A K f cn) np PL x → post 1) (h0 : ¬ um_Ld (um_mir K) (um_A K f cn) np PL x → post 0) : ∀ (d s i g : Nat), s + d + 1 = n → d < g → i < np → um_it (um_A K f cn) s (PL x) = some (PL i) → (∀ k j, k ≤ s → j < np → um_it (um_A K f cn) k (PL x) = some (PL j) → x ≤ j) → wY_leads_27 post (nI x) (nI K) ff ft fo fd (nI np) aL aB aA aP aF aH g (nI i) (nI s) := by
  have hnp := G.1.1
  have hinj := G.1.2.2.1
  have hR := G.2.2.1
  have hxN := (G.1.2.1 x hx).1
  intro d
  induction d with
  | zero =>
    intro s i g hs hg hi hz hle
    obtain ⟨g, rfl⟩ : ∃ k, g = k + 1 := ⟨g - 1, by omega⟩
    have hv : vp_in (nI i) 192 := vp_in_nI (by omega) (by decide)
    have ec : (nI i).toNatClampNeg = i := nI_clamp (by omega)
    have hB : um_it (um_A K f cn) n (PL x) = um_A K f cn (PL i) := by
      have e := um_it_add hz 1
      rw [show s + 1 = n by omega] at e
      exact e
    refine br_f (nI_ge (b := 192) (by omega) (by decide)) ⟨hv, ?_⟩
    obtain ⟨j, hj, ej, e2⟩ := (um_ix hR hi).1 (PL x) (by rw [← hB, hr])
    rw [ec, e2, hinj j x hj hx ej]
    refine nm_e (br_t (nI_le (Nat.le_refl x) (by omega)) (br_t rfl (h1 (Or.inr ⟨⟨n, hP.1, hr⟩, fun j' hj' hc => ?_⟩))))
    obtain ⟨k, hk, ek⟩ := (um_enum HA hxN ⟨hP, Or.inr hr⟩ (G.1.2.1 j' hj').1).mp hc
    exact hle k j' (by omega) hj' ek
  | succ d ih =>
    intro s i g hs hg hi hz hle
    obtain ⟨g, rfl⟩ : ∃ k, g = k + 1 := ⟨g - 1, by omega⟩
    have hv : vp_in (nI i) 192 := vp_in_nI (by omega) (by decide)
    have ec : (nI i).toNatClampNeg = i := nI_clamp (by omega)
    obtain ⟨z, hz', hne⟩ := hP.2.2 (s + 1) (by omega) (by omega)
    have hB : um_A K f cn (PL i) = some z := by
      have e := um_it_add hz 1
      rw [hz'] at e
      exact e.symm
    obtain ⟨j, hj, ej, e2⟩ := (um_ix hR hi).1 z hB
    refine br_f (nI_ge (b := 192) (by omega) (by decide)) ⟨hv, ?_⟩
    rw [ec, e2]
    refine nm_e (pk_le x j (fun c => br_f (fun e => hne ?_) (nm_r (nI_1 s) ?_)) (fun c => br_t (nI_pos' (by omega)) (h0 (fun hl => ?_))))
    · rw [← ej, (nI_eq (by omega) (by omega)).mp e]
    · refine ih (s + 1) j g (by omega) (by omega) hj (by rw [hz', ej]) (fun k j' hk hj' e => ?_)
      by_cases ek : k = s + 1
      · rw [ek, hz', ← ej] at e
        rw [← hinj j j' hj hj' (Option.some.inj e)]
        exact c
      · exact hle k j' (by omega) hj' e
    · rcases hl with hl | ⟨_, hl⟩
      · exact um_no_pre HA hxN hP.1 hr hl
      · have := hl j hj ⟨s + 1, Or.inl (by rw [hz', ej])⟩
        omega
theorem uy_leads (G : um_GA K f cn np PL aP aF aH) (HA : um_LA (um_N K) (um_mir K) (fun y => f ≤ cn y) W (um_A K f cn)) (hx : x < np) (h1 : um_Ld (um_mir K) (um_A K f cn) np PL x → post 1) (h0 : ¬ um_Ld (um_mir K) (um_A K f cn) np PL x → post 0) : wpY_leads post (nI K, ff, ft, fo, fd, nI np, aL, aB, aA, aP, aF, aH) (nI x) := by
  have hnp := G.1.1
  obtain ⟨n, hn, hP⟩ := um_Per_ex HA (G.1.2.1 x hx).1 (G.1.2.1 x hx).2
  unfold wpY_leads
  dsimp only
  refine uy_ring G hx hP hn (fun e => br_f (by decide) ⟨n, ?_⟩) (fun e => br_t rfl ⟨vp_in_nI (by omega) (by decide), ?_⟩)
  · refine uy_leads_loop G HA hx hP hn e h1 h0 (n - 1) 0 x n (by have := hP.1; omega) (by have := hP.1; omega) hx rfl (fun k j hk hj ej => ?_)
    rw [show k = 0 by omega] at ej
    rw [← G.1.2.2.1 x j hx hj (Option.some.inj ej)]
    exact Nat.le_refl x
  · rw [nI_clamp (by omega)]
    cases hB : um_B K f cn (PL x) with
    | none =>
      rw [(um_ix G.2.2.2 hx).2 hB]
      exact br_f (by decide) (h1 (Or.inl hB))
    | some z =>
      obtain ⟨j, hj, ej, e2⟩ := (um_ix G.2.2.2 hx).1 z hB
      rw [e2]
      refine br_t (nI_pos' (by omega)) (h0 (fun hl => ?_))
      rcases hl with hl | ⟨⟨k, hk, hl⟩, _⟩
      · have hB2 : um_lb (um_mir K) (um_A K f cn) (PL x) = some z := hB
        rw [hl] at hB2
        cases hB2
      · exact um_line hP e hk hl
end
section
variable {post : Int32 → SY → Prop} {K f : Nat} {cn W : Nat → Nat} {np : Nat} {PL : Nat → Nat} {ff ft fo fd : Int32} {aL aB aA aP aF aH : Nat → Int32}
theorem uy_chains_loop (G : um_GA K f cn np PL aP aF aH) (HA : um_LA (um_N K) (um_mir K) (fun y => f ≤ cn y) W (um_A K f cn)) (hp : post (nI (um_cn (um_Ld (um_mir K) (um_A K f cn) np PL) np / 2)) (nI K, ff, ft, fo, fd, nI np, aL, aB, aA, aP, aF, aH)) : ∀ (d y g : Nat), y + d = np → d < g → wY_chains_8 post (nI K) ff ft fo fd (nI np) aL aB aA aP aF aH g (nI (um_cn (um_Ld (um_mir K) (um_A K f cn) np PL) y)) (nI y) := by
  have hnp := G.1.1
  intro d
  induction d with
  | zero =>
    intro y g hy hg
    obtain ⟨g, rfl⟩ : ∃ k, g = k + 1 := ⟨g - 1, by omega⟩
    have ey : y = np := by omega
    rw [ey]
    have hle := um_cn_le (um_Ld (um_mir K) (um_A K f cn) np PL) np
    have e2 : nI (um_cn (um_Ld (um_mir K) (um_A K f cn) np PL) np) / 2 = nI (um_cn (um_Ld (um_mir K) (um_A K f cn) np PL) np / 2) := pk_div (d := 2) (by omega) (by decide) (by decide)
    refine br_t (nI_le (Nat.le_refl _) (by omega)) ⟨by decide, ?_⟩
    rw [e2]
    exact hp
  | succ d ih =>
    intro y g hy hg
    obtain ⟨g, rfl⟩ : ∃ k, g = k + 1 := ⟨g - 1, by omega⟩
    have h1 := ih (y + 1) g (by omega) (by omega)
    refine br_f (nI_ge (by omega) (by omega)) (uy_leads G HA (by omega) (fun hl => br_f (by decide) ?_) (fun hl => br_t rfl ?_))
    · rw [um_cn_t (p := um_Ld (um_mir K) (um_A K f cn) np PL) hl] at h1
      exact nm_r (nI_1 _) (nm_r (nI_1 y) h1)
    · rw [um_cn_f (p := um_Ld (um_mir K) (um_A K f cn) np PL) hl] at h1
      exact nm_r (nI_1 y) h1
theorem uy_longest_loop (G : um_GA K f cn np PL aP aF aH) (HA : um_LA (um_N K) (um_mir K) (fun y => f ≤ cn y) W (um_A K f cn)) (hp : ∀ r, um_Mx (fun _ => True) (fun i => um_len (um_N K) (um_A K f cn) (PL i)) np r → post (nI r) (nI K, ff, ft, fo, fd, nI np, aL, aB, aA, aP, aF, aH)) : ∀ (d y g r : Nat), y + d = np → d < g → r ≤ 96 → um_Mx (fun _ => True) (fun i => um_len (um_N K) (um_A K f cn) (PL i)) y r → wY_longest_8 post (nI K) ff ft fo fd (nI np) aL aB aA aP aF aH g (nI r) (nI y) := by
  have hnp := G.1.1
  intro d
  induction d with
  | zero =>
    intro y g r hy hg hr hM
    obtain ⟨g, rfl⟩ : ∃ k, g = k + 1 := ⟨g - 1, by omega⟩
    have ey : y = np := by omega
    rw [ey] at hM ⊢
    exact br_t (nI_le (Nat.le_refl _) (by omega)) (hp r hM)
  | succ d ih =>
    intro y g r hy hg hr hM
    obtain ⟨g, rfl⟩ : ∃ k, g = k + 1 := ⟨g - 1, by omega⟩
    have hyn : y < np := by omega
    obtain ⟨_, _, _, _, _, _, _, _, _, _, _, _, hlen, _⟩ := um_chain HA (G.1.2.1 y hyn).1 (G.1.2.1 y hyn).2
    refine br_f (nI_ge (by omega) (by omega)) (uy_length G HA hyn (pk_le (um_len (um_N K) (um_A K f cn) (PL y)) r (fun c => nm_r (nI_1 y) ?_) (fun c => nm_r (nI_1 y) ?_)))
    · refine ih (y + 1) g r (by omega) (by omega) hr ⟨fun a ha _ => ?_, ?_⟩
      · by_cases e : a = y
        · rw [e]
          exact c
        · exact hM.1 a (by omega) trivial
      · rcases hM.2 with e | ⟨a, ha, e⟩
        · exact Or.inl e
        · exact Or.inr ⟨a, by omega, e⟩
    · refine ih (y + 1) g _ (by omega) (by omega) hlen ⟨fun a ha _ => ?_, Or.inr ⟨y, by omega, trivial, rfl⟩⟩
      by_cases e : a = y
      · rw [e]
        exact Nat.le_refl _
      · exact Nat.le_trans (hM.1 a (by omega) trivial) (Nat.le_of_lt c)
end
section
variable {post : Int32 → SY → Prop} {K f t p : Nat} {L W A : Nat → Nat} {fo fs : Int32} {aL aB aA aP aF aH : Nat → Int32}
theorem uy_probed (hK : K = 3 ∨ K = 5) (hL : ∀ i, L i < 4 ∧ aL i = nI (L i)) (hf1 : 1 ≤ f) (hf : f ≤ 9) (ht : t ≤ 96) (HA : um_LA (um_N K) (um_mir K) (fun y => f ≤ um_ct K t L aB y) W (um_A K f (um_ct K t L aB))) (hp : p ≤ K) (hA : ∀ i, i < p → A i < 4 ∧ aA i = nI (A i)) (h1 : ∀ np PL aP aF aH i, um_GA K f (um_ct K t L aB) np PL aP aF aH → i < np → p = K → PL i = um_cd A p → post (nI i) (nI K, nI f, nI t, fo, nI p, nI np, aL, aB, aA, aP, aF, aH)) (h0 : ∀ np PL aP aF aH, um_GA K f (um_ct K t L aB) np PL aP aF aH → ¬ (p = K ∧ f ≤ um_ct K t L aB (um_cd A p)) → post (-1) (nI K, nI f, nI t, fo, nI p, nI np, aL, aB, aA, aP, aF, aH)) : wpY_probed post (nI K, nI f, nI t, fo, nI p, fs, aL, aB, aA, aP, aF, aH) := by
  have hN := (um_NT hK).2.1
  have hq : um_cd A p < um_N K := um_cd_N hp (fun i hi => (hA i hi).1)
  unfold wpY_probed
  dsimp only
  refine uy_gather hK hL hf1 hf ht HA (fun np PL aP aF aH G => ?_)
  dsimp only
  refine uy_probeCode (by omega) hp (fun i hi => (hA i hi).2) (fun e => uy_find G.1.1 (fun i hi ei _ => ?_) (fun hno => ?_)) (fun ne => uy_find G.1.1 (fun i hi ei _ => ?_) (fun hno => ?_))
  · refine h1 np PL aP aF aH i G hi e ?_
    rw [G.2.1 i hi] at ei
    exact (nI_eq (by have := (G.1.2.1 i hi).1; omega) (by omega)).mp ei
  · refine h0 np PL aP aF aH G (fun z => ?_)
    obtain ⟨i, hi, ei⟩ := G.1.2.2.2 _ hq z.2
    exact hno i hi (by rw [G.2.1 i hi, ei])
  · rw [G.2.1 i hi] at ei
    exact (um_neg1 (by have := (G.1.2.1 i hi).1; omega) ei).elim
  · exact h0 np PL aP aF aH G (fun z => ne z.1)
end
end
section
/-! the relation's content, and how reading a letter keeps it -/
def um_up (A : Nat → Nat) (k v : Nat) : Nat → Nat := fun j => if j = k then v else A j
theorem um_up_s {A : Nat → Nat} {k v : Nat} : um_up A k v k = v := if_pos rfl
theorem um_up_n {A : Nat → Nat} {k v j : Nat} (h : j ≠ k) : um_up A k v j = A j := if_neg h
def um_Q (K f t w p : Nat) (op : Int32) (L A : Nat → Nat) (aL aB aA P C : Nat → Int32) : Prop :=
  (K = 3 ∨ K = 5) ∧ (1 ≤ f ∧ f ≤ 9) ∧ (t ≤ 96 ∧ w ≤ K ∧ w ≤ t ∧ p ≤ K) ∧ (∀ i, L i < 4 ∧ aL i = nI (L i)) ∧ (∀ i, i < p → A i < 4 ∧ aA i = nI (A i)) ∧
  ((∀ i, t - w < i → i < t → aB i = 0) ∧ ((w = 0 ∧ op = 0) ∨ (0 < w ∧ op = 1 ∧ (w < K → aB (t - w) ≠ 0)))) ∧ um_TB K (um_ct K t L aB) P C
theorem um_Q_XH {K f t w p : Nat} {op : Int32} {L A : Nat → Nat} {aL aB aA P C : Nat → Int32} (h : um_Q K f t w p op L A aL aB aA P C) : um_XH K f (um_ct K t L aB) P C :=
  ⟨h.1, h.2.1, fun x hx => ⟨um_ct_mir h.1 hx, Nat.le_trans (um_ct_le K t L aB x) h.2.2.1.1⟩, h.2.2.2.2.2.2⟩
theorem um_Q_HA {K f t w p : Nat} {op : Int32} {L A : Nat → Nat} {aL aB aA P C : Nat → Int32} (h : um_Q K f t w p op L A aL aB aA P C) : um_LA (um_N K) (um_mir K) (fun y => f ≤ um_ct K t L aB y) (fun p => um_sg L p K) (um_A K f (um_ct K t L aB)) := by
  have hf := h.2.1
  have ht := h.2.2.1.1
  refine um_LA_la h.1 (fun x hx hs => ?_)
  have hs : f ≤ um_ct K t L aB x := hs
  refine ⟨by show f ≤ um_ct K t L aB (um_mir K x); rw [um_ct_mir h.1 hx]; exact hs, ?_⟩
  obtain ⟨p, hp, _, e⟩ := um_ct_pos (K := K) (t := t) (L := L) (aB := aB) (x := x) (by omega)
  exact ⟨p, by omega, e⟩
section
variable {K t w l : Nat} {op b0 : Int32} {L : Nat → Nat} {aB : Nat → Int32}
/-- the window after a letter -/
theorem um_win_lt (hK : K = 3 ∨ K = 5) (hL : ∀ i, L i < 4) (hwt : w ≤ t) (hw : w < K) : um_sg L (t - w) w % um_T K * 4 + l = um_sg (um_up L t l) (t - w) (w + 1) := by
  have h := um_push_lt (K := K) (p := w) (A := fun i => L (t - w + i)) (B := fun i => um_up L t l (t - w + i)) hK hw (fun i _ => hL _) (fun i hi => um_up_n (by omega))
  have e : um_up L t l (t - w + w) = l := by rw [show t - w + w = t by omega]; exact um_up_s
  rw [e] at h
  exact h
theorem um_win_eq (hK : K = 3 ∨ K = 5) (hL : ∀ i, L i < 4) (hwt : K ≤ t) : um_sg L (t - K) K % um_T K * 4 + l = um_sg (um_up L t l) (t + 1 - K) K := by
  have h := um_push_eq (K := K) (A := fun i => L (t - K + i)) (B := fun i => um_up L t l (t + 1 - K + i)) hK (fun i _ => hL _) (fun i hi => by
    show um_up L t l (t + 1 - K + i) = L (t - K + (i + 1))
    rw [um_up_n (by omega), show t + 1 - K + i = t - K + (i + 1) by omega])
  have e : um_up L t l (t + 1 - K + (K - 1)) = l := by rw [show t + 1 - K + (K - 1) = t by omega]; exact um_up_s
  rw [e] at h
  exact h
theorem um_sg_up {p : Nat} (h : p + K ≤ t) : um_sg (um_up L t l) p K = um_sg L p K :=
  um_cd_congr K (fun i hi => um_up_n (by omega))
theorem um_sv_up {p : Nat} (h : p + K ≠ t + 1) : um_sv K (t + 1) (upd aB t b0) p ↔ um_sv K t aB p := by
  constructor
  · rintro ⟨h1, h2⟩
    refine ⟨by omega, fun i a b => ?_⟩
    have h3 := h2 i a b
    rw [pk_un (by omega)] at h3
    exact h3
  · rintro ⟨h1, h2⟩
    refine ⟨by omega, fun i a b => ?_⟩
    rw [pk_un (by omega)]
    exact h2 i a b
theorem um_ct_no {x : Nat} (hK : 1 ≤ K) (hn : ¬ (K ≤ t + 1 ∧ um_sv K (t + 1) (upd aB t b0) (t + 1 - K) ∧ (um_sg (um_up L t l) (t + 1 - K) K = x ∨ um_sg (um_up L t l) (t + 1 - K) K = um_mir K x))) : um_ct K (t + 1) (um_up L t l) (upd aB t b0) x = um_ct K t L aB x := by
  have h1 : um_ct K t L aB x = um_cn (fun p => um_sv K t aB p ∧ (um_sg L p K = x ∨ um_sg L p K = um_mir K x)) (t + 1) := by
    rw [um_cn_f (p := fun p => um_sv K t aB p ∧ (um_sg L p K = x ∨ um_sg L p K = um_mir K x)) (n := t) (fun z => by have := z.1.1; omega)]
    rfl
  rw [h1]
  refine um_cn_congr (t + 1) (fun p hp => ?_)
  by_cases e : p + K = t + 1
  · constructor
    · rintro ⟨a1, a2⟩
      rw [show p = t + 1 - K by omega] at a1 a2
      exact absurd ⟨by omega, a1, a2⟩ hn
    · rintro ⟨a1, a2⟩
      have := a1.1
      omega
  · rw [um_sv_up e]
    refine and_congr_right (fun a1 => ?_)
    rw [um_sg_up a1.1]
theorem um_ct_yes {x : Nat} (hK : 1 ≤ K) (ht : K ≤ t + 1) (hv : um_sv K (t + 1) (upd aB t b0) (t + 1 - K)) (hx : um_sg (um_up L t l) (t + 1 - K) K = x ∨ um_sg (um_up L t l) (t + 1 - K) K = um_mir K x) : um_ct K (t + 1) (um_up L t l) (upd aB t b0) x = um_ct K t L aB x + 1 := by
  have h1 : um_ct K t L aB x = um_cn (fun p => um_sv K t aB p ∧ (um_sg L p K = x ∨ um_sg L p K = um_mir K x)) (t + 1) := by
    rw [um_cn_f (p := fun p => um_sv K t aB p ∧ (um_sg L p K = x ∨ um_sg L p K = um_mir K x)) (n := t) (fun z => by have := z.1.1; omega)]
    rfl
  have h2 := um_cn_rm (q := fun p => um_sv K (t + 1) (upd aB t b0) p ∧ (um_sg (um_up L t l) p K = x ∨ um_sg (um_up L t l) p K = um_mir K x)) (j := t + 1 - K) ⟨hv, hx⟩ (t + 1) (by omega)
  rw [h1]
  show um_cn (fun p => um_sv K (t + 1) (upd aB t b0) p ∧ (um_sg (um_up L t l) p K = x ∨ um_sg (um_up L t l) p K = um_mir K x)) (t + 1) = _
  rw [← h2]
  congr 1
  refine um_cn_congr (t + 1) (fun p hp => ?_)
  constructor
  · rintro ⟨⟨a1, a2⟩, a3⟩
    have ne : p + K ≠ t + 1 := by omega
    have b1 := (um_sv_up ne).mp a1
    rw [um_sg_up b1.1] at a2
    exact ⟨b1, a2⟩
  · rintro ⟨a1, a2⟩
    have h5 := a1.1
    have ne : p + K ≠ t + 1 := by omega
    refine ⟨⟨(um_sv_up ne).mpr a1, ?_⟩, by omega⟩
    rw [um_sg_up h5]
    exact a2
end
/-- the window after one more letter: w' letters in the window -/
theorem um_Q_win {K t w w' : Nat} {op : Int32} {aB : Nat → Int32} (hK : K = 3 ∨ K = 5) (hw : w ≤ K) (hwt : w ≤ t) (h1 : ∀ i, t - w < i → i < t → aB i = 0) (h2 : (w = 0 ∧ op = 0) ∨ (0 < w ∧ op = 1 ∧ (w < K → aB (t - w) ≠ 0))) (hw' : (w < K ∧ w' = w + 1) ∨ (w = K ∧ w' = K)) {b0 : Int32} (hb : (op = 0 ∧ b0 = 1) ∨ (op ≠ 0 ∧ b0 = 0)) : (∀ i, t + 1 - w' < i → i < t + 1 → upd aB t b0 i = 0) ∧ (w' < K → upd aB t b0 (t + 1 - w') ≠ 0) := by
  have hop : (w = 0 ∧ b0 = 1) ∨ (0 < w ∧ b0 = 0) := by
    rcases h2 with ⟨a1, a2⟩ | ⟨a1, a2, _⟩ <;> rcases hb with ⟨c1, c2⟩ | ⟨c1, c2⟩
    · exact Or.inl ⟨a1, c2⟩
    · exact absurd a2 c1
    · rw [a2] at c1
      exact absurd c1 (by decide)
    · exact Or.inr ⟨a1, c2⟩
  constructor
  · intro i a b
    by_cases e : i = t
    · subst e
      rw [pk_us]
      rcases hop with ⟨c1, c2⟩ | ⟨c1, c2⟩
      · omega
      · exact c2
    · rw [pk_un e]
      exact h1 i (by omega) (by omega)
  · intro hlt
    have e1 : t + 1 - w' = t - w := by omega
    rw [e1]
    rcases hop with ⟨c1, c2⟩ | ⟨c1, c2⟩
    · rw [c1, show t - 0 = t by omega, pk_us, c2]
      decide
    · rw [pk_un (by omega)]
      rcases h2 with ⟨a1, a2⟩ | ⟨a1, a2, a3⟩
      · omega
      · exact a3 (by omega)
theorem um_sv_win {K t w' : Nat} {aB : Nat → Int32} (hw : w' ≤ K) (hw0 : 0 < w') (hwt : w' ≤ t) (h1 : ∀ i, t - w' < i → i < t → aB i = 0) (h2 : w' < K → aB (t - w') ≠ 0) : (K ≤ t ∧ um_sv K t aB (t - K)) ↔ w' = K := by
  constructor
  · rintro ⟨a1, a2, a3⟩
    by_cases c : w' = K
    · exact c
    · exact absurd (a3 (t - w') (by omega) (by omega)) (h2 (by omega))
  · intro e
    subst e
    exact ⟨hwt, by omega, fun i a b => h1 i a (by omega)⟩
/-! the owed relation -/
/-- the relation at the head of a turn whose first cell is k -/
def i_Rel (_k : Nat) (u : SX) (v : SY) : Prop :=
  ∃ (K f t w p : Nat) (op : Int32) (L A : Nat → Nat) (aL aB aA P C M : Nat → Int32) (ps : Int32) (aP aF aH : Nat → Int32),
    u = (nI K, nI (um_N K - 1), nI f, nI t, nI w, nI (um_sg L (t - w) w), nI p, nI (um_cd A p), P, C, M) ∧
    v = (nI K, nI f, nI t, op, nI p, ps, aL, aB, aA, aP, aF, aH) ∧ um_Q K f t w p op L A aL aB aA P C
theorem um_rel {k : Nat} {K f t w p : Nat} {op : Int32} {L A : Nat → Nat} {aL aB aA P C M : Nat → Int32} {ps : Int32} {aP aF aH : Nat → Int32} (h : um_Q K f t w p op L A aL aB aA P C) : i_Rel k (nI K, nI (um_N K - 1), nI f, nI t, nI w, nI (um_sg L (t - w) w), nI p, nI (um_cd A p), P, C, M) (nI K, nI f, nI t, op, nI p, ps, aL, aB, aA, aP, aF, aH) :=
  ⟨K, f, t, w, p, op, L, A, aL, aB, aA, P, C, M, ps, aP, aF, aH, rfl, rfl, h⟩
theorem um_el {R : SX → SY → Prop} {k : Nat} {u : SX} {v : SY} (h : ∀ (K f t w p : Nat) (op : Int32) (L A : Nat → Nat) (aL aB aA P C M : Nat → Int32) (ps : Int32) (aP aF aH : Nat → Int32), um_Q K f t w p op L A aL aB aA P C → R (nI K, nI (um_N K - 1), nI f, nI t, nI w, nI (um_sg L (t - w) w), nI p, nI (um_cd A p), P, C, M) (nI K, nI f, nI t, op, nI p, ps, aL, aB, aA, aP, aF, aH)) (I : i_Rel k u v) : R u v := by
  obtain ⟨K, f, t, w, p, op, L, A, aL, aB, aA, P, C, M, ps, aP, aF, aH, e1, e2, hQ⟩ := I
  rw [e1, e2]
  exact h K f t w p op L A aL aB aA P C M ps aP aF aH hQ
theorem i_up {k : Nat} {u : SX} {v : SY} (h : i_Rel k u v) : i_Rel (k + 2) u v := h
end
section
/-! the constructors and the methods without chains -/
def um_cl (v : Int32) (f : Nat) : Prop := (1 ≤ v ∧ v ≤ 9 ∧ v = nI f) ∨ (1 ≤ v ∧ ¬ v ≤ 9 ∧ f = 9) ∨ (¬ 1 ≤ v ∧ f = 1)
theorem um_cl_ex (v : Int32) : ∃ f, (1 ≤ f ∧ f ≤ 9) ∧ um_cl v f := by
  by_cases h1 : (1 : Int32) ≤ v
  · by_cases h9 : v ≤ 9
    · obtain ⟨j, hj, e⟩ := nI_of2 (x := v) (M := 9) (n := 9) (by decide) (Int32.not_lt.mpr (Int32.le_trans (by decide) h1)) h9
      refine ⟨j, ⟨?_, hj⟩, Or.inl ⟨h1, h9, e⟩⟩
      rw [e] at h1
      exact (nI_leI (a := 1) (b := j) (by omega) (by omega)).mp h1
    · exact ⟨9, by omega, Or.inr (Or.inl ⟨h1, h9, rfl⟩)⟩
  · exact ⟨1, by omega, Or.inr (Or.inr ⟨h1, rfl⟩)⟩
section
variable {f1 f2 f3 f4 f5 f6 f7 f8 : Int32} {P C M : Nat → Int32}
theorem ux_floor {post : SX → Prop} {v : Int32} {f : Nat} (h : um_cl v f) (hp : post (f1, f2, nI f, f4, f5, f6, f7, f8, P, C, M)) : wpX_floor post (f1, f2, f3, f4, f5, f6, f7, f8, P, C, M) v := by
  unfold wpX_floor
  dsimp only
  rcases h with ⟨h1, h9, e⟩ | ⟨h1, h9, e⟩ | ⟨h1, e⟩
  · rw [e] at h1 h9 ⊢
    exact br_t h1 (br_t h9 hp)
  · rw [e] at hp
    exact br_t h1 (br_f h9 hp)
  · rw [e] at hp
    exact br_f h1 hp
theorem ux_init_loop {post : SX → Prop} (hp : ∀ P', (∀ a, a < 128 → P' a = -1) → post (f1, f2, f3, f4, f5, f6, f7, f8, P', C, M)) : ∀ (d s g : Nat) (P : Nat → Int32), s + d = 128 → d < g → (∀ a, a < s → P a = -1) → wX_init_89 post f1 f2 f3 f4 f5 f6 f7 f8 g (nI s) P C M := by
  intro d
  induction d with
  | zero =>
    intro s g P hs hg hP
    obtain ⟨g, rfl⟩ : ∃ k, g = k + 1 := ⟨g - 1, by omega⟩
    exact br_t (nI_le (a := 128) (by omega) (by omega)) (hp P (fun a ha => hP a (by omega)))
  | succ d ih =>
    intro s g P hs hg hP
    obtain ⟨g, rfl⟩ : ∃ k, g = k + 1 := ⟨g - 1, by omega⟩
    refine br_f (nI_ge (b := 128) (by omega) (by decide)) ⟨vp_in_nI (by omega) (by decide), nm_r (e' := upd P s (-1)) (by rw [nI_clamp (by omega)]) (nm_r (nI_1 s) ?_)⟩
    refine ih (s + 1) g _ (by omega) (by omega) (fun a ha => ?_)
    by_cases e : a = s
    · rw [e, pk_us]
    · rw [pk_un e]
      exact hP a (by omega)
theorem ux_init_57 {post : SX → Prop} (hp : ∀ P', (∀ a, a < 128 → P' a = -1) → post (f1, f2, f3, f4, f5, f6, f7, f8, P', (fun _ => 0), (fun _ => 0))) {f9 : Int32} : wX_init_57 post f3 f1 f2 f9 f4 f5 f6 f7 f8 :=
  ⟨129, ux_init_loop hp 128 0 129 (fun _ => 0) (by omega) (by omega) (fun a ha => by omega)⟩
theorem ux_init_32 {post : SX → Prop} {v : Int32} {f : Nat} (h : um_cl v f) (hp : ∀ P', (∀ a, a < 128 → P' a = -1) → post (f1, f2, nI f, f4, f5, f6, f7, f8, P', (fun _ => 0), (fun _ => 0))) {f9 f10 : Int32} : wX_init_32 post v f2 f1 f9 f10 f4 f5 f6 f7 f8 := by
  unfold wX_init_32
  rcases h with ⟨h1, h9, e⟩ | ⟨h1, h9, e⟩ | ⟨h1, e⟩
  · rw [e] at h1 h9 ⊢
    exact br_t h1 (br_t h9 (ux_init_57 hp))
  · rw [e] at hp
    exact br_t h1 (br_f h9 (ux_init_57 hp))
  · rw [e] at hp
    exact br_f h1 (ux_init_57 hp)
end
section
variable {f1 f2 f3 f4 f5 f6 : Int32} {aL aB aA aP aF aH : Nat → Int32}
theorem uy_floor {post : SY → Prop} {v : Int32} {f : Nat} (h : um_cl v f) (hp : post (f1, nI f, f3, f4, f5, f6, aL, aB, aA, aP, aF, aH)) : wpY_floor post (f1, f2, f3, f4, f5, f6, aL, aB, aA, aP, aF, aH) v := by
  unfold wpY_floor
  dsimp only
  rcases h with ⟨h1, h9, e⟩ | ⟨h1, h9, e⟩ | ⟨h1, e⟩
  · rw [e] at h1 h9 ⊢
    exact br_t h1 (br_t h9 hp)
  · rw [e] at hp
    exact br_t h1 (br_f h9 hp)
  · rw [e] at hp
    exact br_f h1 hp
theorem uy_init_65 {post : SY → Prop} {v : Int32} {f : Nat} (h : um_cl v f) (hp : post (f1, nI f, f3, f4, f5, f6, aL, aB, aA, aP, aF, aH)) {f9 : Int32} : wY_init_65 post v f1 f9 f2 f3 f4 f5 f6 aL aB aA aP aF aH := by
  unfold wY_init_65
  exact uy_floor h hp
end
theorem um_Q_init {K f : Nat} {P : Nat → Int32} (hK : K = 3 ∨ K = 5) (hf : 1 ≤ f ∧ f ≤ 9) (hP : ∀ a, a < 128 → P a = -1) : um_Q K f 0 0 0 0 (fun _ => 0) (fun _ => 0) (fun _ => 0) (fun _ => 0) (fun _ => 0) P (fun _ => 0) :=
  ⟨hK, hf, ⟨by omega, by omega, by omega, by omega⟩, fun i => ⟨(by decide : (0 : Nat) < 4), rfl⟩, fun i hi => by omega, ⟨fun i a b => by omega, Or.inl ⟨rfl, rfl⟩⟩, um_TB_init (fun c _ => rfl) hP (fun a _ => rfl)⟩
theorem i_vc0 (k0 : Int32) (k1 : Int32) : wpX_init (fun u => wpY_init (fun v => i_Rel 2 u v) k0 k1) k0 k1 := by
  obtain ⟨f, hf, hcl⟩ := um_cl_ex k1
  by_cases h3 : 3 < k0
  · refine br_t h3 (br_t h3 (ux_init_32 hcl (fun P' hP' => br_t h3 (uy_init_65 hcl ?_))))
    exact um_rel (M := fun _ => 0) (ps := 0) (aP := fun _ => 0) (aF := fun _ => 0) (aH := fun _ => 0) (um_Q_init (Or.inr rfl) hf hP')
  · refine br_f h3 (br_f h3 (ux_init_32 hcl (fun P' hP' => br_f h3 (uy_init_65 hcl ?_))))
    exact um_rel (M := fun _ => 0) (ps := 0) (aP := fun _ => 0) (aF := fun _ => 0) (aH := fun _ => 0) (um_Q_init (Or.inl rfl) hf hP')
/-! reading -/
theorem um_Q_read {K f t w p w' l : Nat} {op b0 : Int32} {L A : Nat → Nat} {aL aB aA P C : Nat → Int32} (h : um_Q K f t w p op L A aL aB aA P C) (ht : t < 96) (hl : l < 4) (hw' : (w < K ∧ w' = w + 1) ∨ (w = K ∧ w' = K)) (hb : (op = 0 ∧ b0 = 1) ∨ (op ≠ 0 ∧ b0 = 0)) (c0 s : Nat) (hc0 : c0 = um_can K (um_sg (um_up L t l) (t + 1 - w') w')) (hs : s = um_slot P c0) :
    (w' = K → um_Q K f (t + 1) w' p 1 (um_up L t l) A (upd aL t (nI l)) (upd aB t b0) aA (upd P s (nI c0)) (upd C s (C s + 1))) ∧ (w' ≠ K → um_Q K f (t + 1) w' p 1 (um_up L t l) A (upd aL t (nI l)) (upd aB t b0) aA P C) := by
  obtain ⟨hK, hf, ⟨_, hw, hwt, hp⟩, hL, hA, ⟨hB1, hB2⟩, hTB⟩ := h
  have hL' : ∀ i, um_up L t l i < 4 ∧ upd aL t (nI l) i = nI (um_up L t l i) := by
    intro i
    by_cases e : i = t
    · rw [e, um_up_s, pk_us]
      exact ⟨hl, rfl⟩
    · rw [um_up_n e, pk_un e]
      exact hL i
  have hwin := um_Q_win hK hw hwt hB1 hB2 hw' hb
  have hsv := um_sv_win (K := K) (t := t + 1) (w' := w') (by omega) (by omega) (by omega) hwin.1 hwin.2
  have hw2 : t + 1 ≤ 96 ∧ w' ≤ K ∧ w' ≤ t + 1 ∧ p ≤ K := by omega
  refine ⟨fun e => ?_, fun ne => ?_⟩
  · refine ⟨hK, hf, hw2, hL', hA, ⟨hwin.1, Or.inr ⟨by omega, rfl, hwin.2⟩⟩, ?_⟩
    obtain ⟨g1, g2⟩ := hsv.mpr e
    rw [e] at hc0
    have hy : um_sg (um_up L t l) (t + 1 - K) K < um_N K := um_sg_lt (fun i => (hL' i).1)
    obtain ⟨a1, a2, a3⟩ := um_can_lt hK hy
    rw [← hc0] at a1 a2 a3
    rw [hs]
    refine um_TB_step (W := fun p => um_sg (um_up L t l) p K) hK hTB a1 a2 (fun c hc hm => ?_) (fun c hc hm hpos => ?_)
    · by_cases ec : c = c0
      · rw [if_pos ec]
        refine um_ct_yes (by omega) g1 g2 ?_
        rw [ec]
        rcases a3 with z | z
        · exact Or.inl z.symm
        · exact Or.inr (by rw [z, um_mir_mir hK hy])
      · rw [if_neg ec, Nat.add_zero]
        refine um_ct_no (by omega) (fun z => ec ?_)
        refine um_can_eq hK hc hm a1 a2 z.2.2 ?_
        rcases a3 with q | q
        · exact Or.inl q.symm
        · exact Or.inr (by rw [q, um_mir_mir hK hy])
    · obtain ⟨q, hq, _, e2⟩ := um_ct_pos hpos
      exact ⟨q, by omega, e2⟩
  · refine ⟨hK, hf, hw2, hL', hA, ⟨hwin.1, Or.inr ⟨by omega, rfl, hwin.2⟩⟩, ?_⟩
    have e : um_ct K (t + 1) (um_up L t l) (upd aB t b0) = um_ct K t L aB := funext fun x => um_ct_no (by omega) (fun z => ne (hsv.mp ⟨z.1, z.2.1⟩))
    rw [e]
    exact hTB
theorem ux_read {post : Int32 → SX → Prop} {K t w w' x l : Nat} {ff fl fp v : Int32} {aP aC aM : Nat → Int32} (hK : K = 3 ∨ K = 5) (ht : t < 96) (hx : x < um_N K) (hl : l < 4) (hv : v &&& 3 = nI l) (hw' : (w < K ∧ w' = w + 1) ∨ (w = K ∧ w' = K)) (y c0 s : Nat) (hy : x % um_T K * 4 + l = y) (hc0 : c0 = um_can K y) (hs : s = um_slot aP c0) (h1 : w' = K → post (nI (t + 1)) (nI K, nI (um_N K - 1), ff, nI (t + 1), nI w', nI y, fl, fp, upd aP s (nI c0), upd aC s (aC s + 1), aM)) (h0 : w' ≠ K → post (nI (t + 1)) (nI K, nI (um_N K - 1), ff, nI (t + 1), nI w', nI y, fl, fp, aP, aC, aM)) : wpX_read post (nI K, nI (um_N K - 1), ff, nI t, nI w, nI x, fl, fp, aP, aC, aM) v := by
  obtain ⟨e1, e2, e3⟩ := um_NT hK
  have hxT : x % um_T K < um_T K := Nat.mod_lt _ (by omega)
  have hyN : y < um_N K := by omega
  have hsl := um_slot_lt aP c0
  unfold wpX_read
  dsimp only
  have ew : ((nI x <<< ((2 : Int32) &&& 31)) &&& nI (um_N K - 1)) ||| (v &&& 3) = nI y := by rw [hv, um_pushI hK hx hl, hy]
  refine br_t (nI_lt (b := 96) ht (by decide)) (nm_r (nI_1 t) (nm_r ew ?_))
  have key : wX_read_65 post (nI w') (nI K) (nI (um_N K - 1)) ff (nI (t + 1)) (nI w) (nI y) fl fp aP aC aM := by
    unfold wX_read_65
    refine pk_eq w' K (fun e => ?_) (fun ne => h0 ne)
    refine ux_placeOf hK hyN ?_
    refine ux_canonical hK hyN ?_
    rw [← hc0, ← hs]
    have hvs : vp_in (nI s) 128 := vp_in_nI (by omega) (by decide)
    have ec : (nI s).toNatClampNeg = s := nI_clamp (by omega)
    rw [ec]
    exact ⟨hvs, nm_e ⟨hvs, hvs, nm_e (h1 e)⟩⟩
  rcases hw' with ⟨a1, a2⟩ | ⟨a1, a2⟩
  · refine br_f (nI_ge a1 (by omega)) ?_
    rw [nI_1, ← a2]
    exact key
  · refine br_t (nI_le (by omega) (by omega)) ?_
    rw [a2] at key
    exact key
theorem uy_read {post : Int32 → SY → Prop} {t l : Nat} {fk ff fd fs op b0 v : Int32} {aL aB aA aP aF aH : Nat → Int32} (ht : t < 96) (hv : v &&& 3 = nI l) (hb : (op = 0 ∧ b0 = 1) ∨ (op ≠ 0 ∧ b0 = 0)) (hp : post (nI (t + 1)) (fk, ff, nI (t + 1), 1, fd, fs, upd aL t (nI l), upd aB t b0, aA, aP, aF, aH)) : wpY_read post (fk, ff, nI t, op, fd, fs, aL, aB, aA, aP, aF, aH) v := by
  have hvt : vp_in (nI t) 96 := vp_in_nI ht (by decide)
  have ec : (nI t).toNatClampNeg = t := nI_clamp (by omega)
  unfold wpY_read
  dsimp only
  refine br_f (fun e => ?_) ⟨hvt, ?_⟩
  · have := (nI_eq (a := t) (b := 96) (by omega) (by decide)).mp e
    omega
  · rw [ec, hv]
    refine nm_e ?_
    rcases hb with ⟨e, e0⟩ | ⟨e, e0⟩
    · refine br_t e ⟨hvt, ?_⟩
      rw [um_narT aB (by omega)]
      rw [e0] at hp
      exact nm_e (nm_r (nI_1 t) hp)
    · refine br_f e ⟨hvt, ?_⟩
      rw [um_narF aB (by omega)]
      rw [e0] at hp
      exact nm_e (nm_r (nI_1 t) hp)
theorem i_vc_read {k : Nat} {u : SX} {v : SY} (I : i_Rel k u v) (hk : k + 2 ≤ 1026) (v1 : Int32) : wpX_read (fun r u' => wpY_read (fun r' v' => r' = r ∧ i_Rel (k + 2) u' v') v v1) u v1 := by
  refine um_el (R := fun u v => wpX_read (fun r u' => wpY_read (fun r' v' => r' = r ∧ i_Rel (k + 2) u' v') v v1) u v1) ?_ I
  intro K f t w p op L A aL aB aA P C M ps aP aF aH hQ
  obtain ⟨hK, hf, ⟨ht, hw, hwt, hp⟩, hL, hA, ⟨hB1, hB2⟩, hTB⟩ := id hQ
  by_cases t96 : t = 96
  · subst t96
    exact br_f (nI_nlt (a := 96) (b := 96) (by decide) (by decide)) (br_t rfl ⟨rfl, um_rel hQ⟩)
  · obtain ⟨l, hl, hv⟩ := um_and3 v1
    have hx : um_sg L (t - w) w < um_N K := um_cd_N hw (fun i _ => (hL _).1)
    have hb : ∃ b0 : Int32, (op = 0 ∧ b0 = 1) ∨ (op ≠ 0 ∧ b0 = 0) := by
      by_cases e : op = 0
      · exact ⟨1, Or.inl ⟨e, rfl⟩⟩
      · exact ⟨0, Or.inr ⟨e, rfl⟩⟩
    obtain ⟨b0, hb⟩ := hb
    have hw' : ∃ w', ((w < K ∧ w' = w + 1) ∨ (w = K ∧ w' = K)) ∧ um_sg L (t - w) w % um_T K * 4 + l = um_sg (um_up L t l) (t + 1 - w') w' := by
      by_cases c : w < K
      · refine ⟨w + 1, Or.inl ⟨c, rfl⟩, ?_⟩
        rw [show t + 1 - (w + 1) = t - w by omega]
        exact um_win_lt hK (fun i => (hL i).1) hwt c
      · have e : w = K := by omega
        refine ⟨K, Or.inr ⟨e, rfl⟩, ?_⟩
        rw [e]
        exact um_win_eq hK (fun i => (hL i).1) (by omega)
    obtain ⟨w', hw', hy⟩ := hw'
    have hq := um_Q_read (p := p) (A := A) hQ (by omega) hl hw' hb _ _ rfl rfl
    refine ux_read (w' := w') (l := l) hK (by omega) hx hl hv hw' _ _ _ hy rfl rfl (fun e => ?_) (fun ne => ?_)
    · exact uy_read (by omega) hv hb ⟨rfl, um_rel (hq.1 e)⟩
    · exact uy_read (by omega) hv hb ⟨rfl, um_rel (hq.2 ne)⟩
theorem i_vc_endRead {k : Nat} {u : SX} {v : SY} (I : i_Rel k u v) (hk : k + 2 ≤ 1026) : wpX_endRead (fun u' => wpY_endRead (fun v' => i_Rel (k + 2) u' v') v) u := by
  refine um_el (R := fun u v => wpX_endRead (fun u' => wpY_endRead (fun v' => i_Rel (k + 2) u' v') v) u) ?_ I
  intro K f t w p op L A aL aB aA P C M ps aP aF aH hQ
  obtain ⟨hK, hf, ⟨ht, hw, hwt, hp⟩, hL, hA, ⟨hB1, hB2⟩, hTB⟩ := hQ
  exact um_rel (k := k + 2) (w := 0) (op := 0) ⟨hK, hf, ⟨ht, by omega, by omega, hp⟩, hL, hA, ⟨fun i a b => by omega, Or.inl ⟨rfl, rfl⟩⟩, hTB⟩
theorem i_vc_floor {k : Nat} {u : SX} {v : SY} (I : i_Rel k u v) (hk : k + 2 ≤ 1026) (v1 : Int32) : wpX_floor (fun u' => wpY_floor (fun v' => i_Rel (k + 2) u' v') v v1) u v1 := by
  refine um_el (R := fun u v => wpX_floor (fun u' => wpY_floor (fun v' => i_Rel (k + 2) u' v') v v1) u v1) ?_ I
  intro K f t w p op L A aL aB aA P C M ps aP aF aH hQ
  obtain ⟨f', hf', hcl⟩ := um_cl_ex v1
  exact ux_floor hcl (uy_floor hcl (um_rel ⟨hQ.1, hf', hQ.2.2⟩))
theorem i_vc_count {k : Nat} {u : SX} {v : SY} (I : i_Rel k u v) (hk : k + 2 ≤ 1026) : wpX_count (fun r => wpY_count (fun r' => r' = r ∧ i_Rel (k + 2) u v) v) u := by
  have I2 := i_up I
  revert I2
  refine um_el (R := fun u v => i_Rel (k + 2) u v → wpX_count (fun r => wpY_count (fun r' => r' = r ∧ i_Rel (k + 2) u v) v) u) ?_ I
  intro K f t w p op L A aL aB aA P C M ps aP aF aH hQ I2
  have H := um_Q_XH hQ
  obtain ⟨hK, hf, ⟨ht, hw, hwt, hp⟩, hL, hA, ⟨hB1, hB2⟩, hTB⟩ := hQ
  have hN := (um_NT hK).2.1
  have hq : um_cd A p < um_N K := um_cd_N hp (fun i hi => (hA i hi).1)
  have hY : ∀ r, (p = K → r = nI (um_ct K t L aB (um_cd A p))) → (p ≠ K → r = -1) → wpY_count (fun r' => r' = r ∧ i_Rel (k + 2) (nI K, nI (um_N K - 1), nI f, nI t, nI w, nI (um_sg L (t - w) w), nI p, nI (um_cd A p), P, C, M) (nI K, nI f, nI t, op, nI p, ps, aL, aB, aA, aP, aF, aH)) (nI K, nI f, nI t, op, nI p, ps, aL, aB, aA, aP, aF, aH) := by
    intro r h1 h0
    unfold wpY_count
    dsimp only
    refine uy_probeCode (by omega) hp (fun i hi => (hA i hi).2) (fun e => br_t (nI_pos' (by omega)) ?_) (fun ne => br_f (by decide) ⟨(h0 ne).symm, I2⟩)
    exact uy_countOf hK hL ht hq ⟨(h1 e).symm, I2⟩
  unfold wpX_count
  dsimp only
  refine pk_le K p (fun c => ux_countFor H hq ?_) (fun c => ?_)
  · exact hY _ (fun _ => rfl) (fun ne => absurd (by omega) ne)
  · exact hY _ (fun e => by omega) (fun _ => rfl)
end
section
/-! the probe -/
section
variable {post : Int32 → SY → Prop} {K p l : Nat} {A : Nat → Nat} {ff ft fo fs v : Int32} {aL aB aA aP aF aH : Nat → Int32}
theorem uy_probe_51 (hp : p < 5) (hv : v &&& 3 = nI l) (h : post (nI (p + 1)) (nI K, ff, ft, fo, nI (p + 1), fs, aL, aB, upd aA p (nI l), aP, aF, aH)) : wY_probe_51 post v (nI K) ff ft fo (nI p) fs aL aB aA aP aF aH := by
  unfold wY_probe_51
  rw [hv, nI_clamp (by omega)]
  exact ⟨vp_in_nI hp (by decide), nm_e (nm_r (nI_1 p) h)⟩
theorem uy_probe_13 (hK : K = 3 ∨ K = 5) (hv : v &&& 3 = nI l) (h : ∀ aA', (∀ i, i < K - 1 → aA' i = nI (A (i + 1))) → post (nI K) (nI K, ff, ft, fo, nI K, fs, aL, aB, upd aA' (K - 1) (nI l), aP, aF, aH)) : ∀ (d j g : Nat) (aA : Nat → Int32), j + d = K → 1 ≤ j → d < g → (∀ i, i + 1 < j → aA i = nI (A (i + 1))) → (∀ i, j ≤ i + 1 → i < K → aA i = nI (A i)) → wY_probe_13 post v (nI K) ff ft fo (nI K) fs g (nI j) aL aB aA aP aF aH := by
  intro d
  induction d with
  | zero =>
    intro j g aA hj hj1 hg h1 h2
    obtain ⟨g, rfl⟩ : ∃ k, g = k + 1 := ⟨g - 1, by omega⟩
    have e : nI K - 1 = nI (K - 1) := pk_sub (b := 1) (by omega)
    have h3 := h aA (fun i hi => h1 i (by omega))
    refine br_t (nI_le (by omega) (by omega)) (nm_r e (uy_probe_51 (by omega) hv ?_))
    rw [show K - 1 + 1 = K by omega]
    exact h3
  | succ d ih =>
    intro j g aA hj hj1 hg h1 h2
    obtain ⟨g, rfl⟩ : ∃ k, g = k + 1 := ⟨g - 1, by omega⟩
    have e : nI j - 1 = nI (j - 1) := pk_sub (b := 1) (by omega)
    refine br_f (nI_ge (by omega) (by omega)) ⟨vp_in_nI (by omega) (by decide), ?_⟩
    rw [e, nI_clamp (n := j - 1) (by omega), nI_clamp (n := j) (by omega), h2 j (by omega) (by omega)]
    refine ⟨vp_in_nI (by omega) (by decide), nm_e (nm_r (nI_1 j) ?_)⟩
    refine ih (j + 1) g _ (by omega) (by omega) (by omega) (fun i hi => ?_) (fun i hi hiK => ?_)
    · by_cases ei : i = j - 1
      · rw [ei, pk_us, show j - 1 + 1 = j by omega]
      · rw [pk_un ei]
        exact h1 i (by omega)
    · rw [pk_un (by omega)]
      exact h2 i (by omega) hiK
theorem uy_probe (hK : K = 3 ∨ K = 5) (hp : p ≤ K) (hA : ∀ i, i < p → A i < 4 ∧ aA i = nI (A i)) (hl : l < 4) (hv : v &&& 3 = nI l) (p' : Nat) (hp' : (p < K ∧ p' = p + 1) ∨ (p = K ∧ p' = K)) (h : ∀ A' aA', (∀ i, i < p' → A' i < 4 ∧ aA' i = nI (A' i)) → um_cd A' p' = um_cd A p % um_T K * 4 + l → post (nI p') (nI K, ff, ft, fo, nI p', fs, aL, aB, aA', aP, aF, aH)) : wpY_probe post (nI K, ff, ft, fo, nI p, fs, aL, aB, aA, aP, aF, aH) v := by
  unfold wpY_probe
  dsimp only
  rcases hp' with ⟨c, e⟩ | ⟨c, e⟩
  · subst e
    refine br_f (fun z => ?_) (uy_probe_51 (by omega) hv (h (um_up A p l) _ (fun i hi => ?_) ?_))
    · have := (nI_eq (by omega) (by omega)).mp z
      omega
    · by_cases ei : i = p
      · rw [ei, um_up_s, pk_us]
        exact ⟨hl, rfl⟩
      · rw [um_up_n ei, pk_un ei]
        exact hA i (by omega)
    · have h1 := um_push_lt (K := K) (p := p) (A := A) (B := um_up A p l) hK c (fun i hi => (hA i hi).1) (fun i hi => um_up_n (by omega))
      rw [um_up_s] at h1
      exact h1.symm
  · subst c e
    refine br_t rfl ⟨p', uy_probe_13 (A := A) hK hv (fun aA' hA' => ?_) (p' - 1) 1 p' aA (by omega) (by omega) (by omega) (fun i hi => by omega) (fun i _ hi => (hA i hi).2)⟩
    refine h (um_up (fun i => A (i + 1)) (p' - 1) l) _ (fun i hi => ?_) ?_
    · by_cases ei : i = p' - 1
      · rw [ei, um_up_s, pk_us]
        exact ⟨hl, rfl⟩
      · rw [um_up_n ei, pk_un ei]
        exact ⟨(hA (i + 1) (by omega)).1, hA' i (by omega)⟩
    · have h1 := um_push_eq (K := p') (A := A) (B := um_up (fun i => A (i + 1)) (p' - 1) l) hK (fun i hi => (hA i hi).1) (fun i hi => um_up_n (by omega))
      rw [um_up_s] at h1
      exact h1.symm
end
theorem i_vc_probe {k : Nat} {u : SX} {v : SY} (I : i_Rel k u v) (hk : k + 2 ≤ 1026) (v1 : Int32) : wpX_probe (fun r u' => wpY_probe (fun r' v' => r' = r ∧ i_Rel (k + 2) u' v') v v1) u v1 := by
  refine um_el (R := fun u v => wpX_probe (fun r u' => wpY_probe (fun r' v' => r' = r ∧ i_Rel (k + 2) u' v') v v1) u v1) ?_ I
  intro K f t w p op L A aL aB aA P C M ps aP aF aH hQ
  obtain ⟨hK, hf, ⟨ht, hw, hwt, hp⟩, hL, hA, hB, hTB⟩ := hQ
  obtain ⟨l, hl, hv⟩ := um_and3 v1
  have hq : um_cd A p < um_N K := um_cd_N hp (fun i hi => (hA i hi).1)
  have key : ∀ p', ((p < K ∧ p' = p + 1) ∨ (p = K ∧ p' = K)) → wX_probe_21 (fun r u' => wpY_probe (fun r' v' => r' = r ∧ i_Rel (k + 2) u' v') (nI K, nI f, nI t, op, nI p, ps, aL, aB, aA, aP, aF, aH) v1) v1 (nI K) (nI (um_N K - 1)) (nI f) (nI t) (nI w) (nI (um_sg L (t - w) w)) (nI p') (nI (um_cd A p)) P C M := by
    intro p' hp'
    unfold wX_probe_21
    have ew : ((nI (um_cd A p) <<< ((2 : Int32) &&& 31)) &&& nI (um_N K - 1)) ||| (v1 &&& 3) = nI (um_cd A p % um_T K * 4 + l) := by rw [hv, um_pushI hK hq hl]
    refine nm_r ew (uy_probe hK hp hA hl hv p' hp' (fun A' aA' hA' e => ⟨rfl, ?_⟩))
    rw [← e]
    exact um_rel ⟨hK, hf, ⟨ht, hw, hwt, by omega⟩, hL, hA', hB, hTB⟩
  unfold wpX_probe
  dsimp only
  refine pk_le K p (fun c => ?_) (fun c => nm_r (nI_1 p) (key (p + 1) (Or.inl ⟨c, rfl⟩)))
  have e : p = K := by omega
  exact key p (Or.inr ⟨e, e⟩)
section
variable {post : SY → Prop} {p : Nat} {A : Nat → Nat} {fk ff ft fo fs : Int32} {aL aB aP aF aH : Nat → Int32}
theorem uy_turn_62 {R : Nat → Nat} (hp : p ≤ 5) (hR : ∀ i, i < p → R i < 4) (h : ∀ aA, (∀ i, i < p → aA i = nI (3 - R i)) → post (fk, ff, ft, fo, nI p, fs, aL, aB, aA, aP, aF, aH)) : ∀ (d i g : Nat) (aA : Nat → Int32), i + d = p → d < g → (∀ j, j < i → aA j = nI (3 - R j)) → (∀ j, i ≤ j → j < p → aA j = nI (R j)) → wY_turn_62 post fk ff ft fo (nI p) fs g (nI i) aL aB aA aP aF aH := by
  intro d
  induction d with
  | zero =>
    intro i g aA hi hg h1 h2
    obtain ⟨g, rfl⟩ : ∃ k, g = k + 1 := ⟨g - 1, by omega⟩
    exact br_t (nI_le (by omega) (by omega)) (h aA (fun j hj => h1 j (by omega)))
  | succ d ih =>
    intro i g aA hi hg h1 h2
    obtain ⟨g, rfl⟩ : ∃ k, g = k + 1 := ⟨g - 1, by omega⟩
    have hv : vp_in (nI i) 5 := vp_in_nI (by omega) (by decide)
    have h3 := hR i (by omega)
    have e3 : (3 : Int32) - nI (R i) = nI (3 - R i) := pk_sub (a := 3) (by omega)
    refine br_f (nI_ge (by omega) (by omega)) ⟨hv, hv, ?_⟩
    rw [nI_clamp (by omega), h2 i (Nat.le_refl i) (by omega), e3]
    refine nm_e (nm_r (nI_1 i) (ih (i + 1) g _ (by omega) (by omega) (fun j hj => ?_) (fun j hj hjp => ?_)))
    · by_cases ej : j = i
      · rw [ej, pk_us]
      · rw [pk_un ej]
        exact h1 j (by omega)
    · rw [pk_un (by omega)]
      exact h2 j (by omega) hjp
theorem uy_turn_2 (hp : p ≤ 5) (hp1 : 1 ≤ p) (h : ∀ aA, (∀ i, i < p → aA i = nI (A (p - 1 - i))) → ∃ n62, wY_turn_62 post fk ff ft fo (nI p) fs n62 0 aL aB aA aP aF aH) : ∀ (d i g : Nat) (aA : Nat → Int32), p ≤ 2 * i + d + 1 → 2 * i ≤ p → d < g → (∀ j, j < i ∨ p - i ≤ j → j < p → aA j = nI (A (p - 1 - j))) → (∀ j, i ≤ j → j < p - i → aA j = nI (A j)) → wY_turn_2 post fk ff ft fo (nI p) fs g (nI i) aL aB aA aP aF aH := by
  intro d
  induction d with
  | zero =>
    intro i g aA hi hi2 hg h1 h2
    obtain ⟨g, rfl⟩ : ∃ k, g = k + 1 := ⟨g - 1, by omega⟩
    have e : (nI p - 1) - nI i = nI (p - 1 - i) := by
      rw [show nI p - 1 = nI (p - 1) from pk_sub (b := 1) hp1, pk_sub (by omega)]
    refine br_t (by rw [e]; exact nI_le (by omega) (by omega)) (h aA (fun j hj => ?_))
    by_cases c : j < i ∨ p - i ≤ j
    · exact h1 j c hj
    · rw [show p - 1 - j = j by omega]
      exact h2 j (by omega) (by omega)
  | succ d ih =>
    intro i g aA hi hi2 hg h1 h2
    obtain ⟨g, rfl⟩ : ∃ k, g = k + 1 := ⟨g - 1, by omega⟩
    have e : (nI p - 1) - nI i = nI (p - 1 - i) := by
      rw [show nI p - 1 = nI (p - 1) from pk_sub (b := 1) hp1, pk_sub (by omega)]
    refine pk_le (p - 1 - i) i (fun c => h aA (fun j hj => ?_)) (fun c => ?_) (hx := e)
    · by_cases c : j < i ∨ p - i ≤ j
      · exact h1 j c hj
      · rw [show p - 1 - j = j by omega]
        exact h2 j (by omega) (by omega)
    · have hv : vp_in (nI i) 5 := vp_in_nI (by omega) (by decide)
      have hv2 : vp_in (nI (p - 1 - i)) 5 := vp_in_nI (by omega) (by decide)
      rw [e, nI_clamp (n := i) (by omega), nI_clamp (n := p - 1 - i) (by omega), h2 i (Nat.le_refl i) (by omega), h2 (p - 1 - i) (by omega) (by omega)]
      refine ⟨hv, nm_e ⟨hv2, hv, nm_e ⟨hv2, nm_e (nm_r (nI_1 i) ?_)⟩⟩⟩
      refine ih (i + 1) g _ (by omega) (by omega) (by omega) (fun j hj hjp => ?_) (fun j hj hjp => ?_)
      · by_cases ej : j = p - 1 - i
        · rw [ej, pk_us, show p - 1 - (p - 1 - i) = i by omega]
        · rw [pk_un ej]
          by_cases ei : j = i
          · rw [ei, pk_us]
          · rw [pk_un ei]
            exact h1 j (by omega) hjp
      · rw [pk_un (by omega), pk_un (by omega)]
        exact h2 j (by omega) (by omega)
theorem uy_turn {aA : Nat → Int32} (hp : p ≤ 5) (hA : ∀ i, i < p → A i < 4 ∧ aA i = nI (A i)) (h : ∀ aA', (∀ i, i < p → aA' i = nI (3 - A (p - 1 - i))) → post (fk, ff, ft, fo, nI p, fs, aL, aB, aA', aP, aF, aH)) : wpY_turn post (fk, ff, ft, fo, nI p, fs, aL, aB, aA, aP, aF, aH) := by
  unfold wpY_turn
  dsimp only
  have hk : ∀ aA, (∀ i, i < p → aA i = nI (A (p - 1 - i))) → ∃ n62, wY_turn_62 post fk ff ft fo (nI p) fs n62 0 aL aB aA aP aF aH := fun aA' hA' =>
    ⟨p + 1, uy_turn_62 (R := fun i => A (p - 1 - i)) hp (fun i hi => (hA _ (by omega)).1) h p 0 (p + 1) aA' (by omega) (by omega) (fun j hj => by omega) (fun j _ hj => hA' j hj)⟩
  by_cases p0 : p = 0
  · subst p0
    exact ⟨1, br_t (by decide) (hk aA (fun i hi => by omega))⟩
  · exact ⟨p + 1, uy_turn_2 (A := A) hp (by omega) hk p 0 (p + 1) aA (by omega) (by omega) (by omega) (fun j hj hjp => by omega) (fun j _ hj => (hA j (by omega)).2)⟩
end
theorem i_vc_turn {k : Nat} {u : SX} {v : SY} (I : i_Rel k u v) (hk : k + 2 ≤ 1026) : wpX_turn (fun u' => wpY_turn (fun v' => i_Rel (k + 2) u' v') v) u := by
  refine um_el (R := fun u v => wpX_turn (fun u' => wpY_turn (fun v' => i_Rel (k + 2) u' v') v) u) ?_ I
  intro K f t w p op L A aL aB aA P C M ps aP aF aH hQ
  obtain ⟨hK, hf, ⟨ht, hw, hwt, hp⟩, hL, hA, hB, hTB⟩ := hQ
  have hN := (um_NT hK).2.1
  have hq : um_cd A p < um_N K := um_cd_N hp (fun i hi => (hA i hi).1)
  unfold wpX_turn
  dsimp only
  refine ux_mirrorOf (by omega) (by omega) ?_
  refine uy_turn (A := A) (by omega) hA (fun aA' hA' => ?_)
  rw [um_mir_cd p (fun i hi => (hA i hi).1)]
  exact um_rel (A := fun i => 3 - A (p - 1 - i)) ⟨hK, hf, ⟨ht, hw, hwt, hp⟩, hL, fun i hi => ⟨by show 3 - A (p - 1 - i) < 4; omega, hA' i hi⟩, hB, hTB⟩
end
section
/-! the methods over the chains -/
theorem i_vc_chain {k : Nat} {u : SX} {v : SY} (I : i_Rel k u v) (hk : k + 2 ≤ 1026) : wpX_chain (fun r u' => wpY_chain (fun r' v' => r' = r ∧ i_Rel (k + 2) u' v') v) u := by
  refine um_el (R := fun u v => wpX_chain (fun r u' => wpY_chain (fun r' v' => r' = r ∧ i_Rel (k + 2) u' v') v) u) ?_ I
  intro K f t w p op L A aL aB aA P C M ps aP aF aH hQ
  have H := um_Q_XH hQ
  have HA := um_Q_HA hQ
  obtain ⟨hK, hf, ⟨ht, hw, hwt, hp⟩, hL, hA, hB, hTB⟩ := id hQ
  have hq : um_cd A p < um_N K := um_cd_N hp (fun i hi => (hA i hi).1)
  by_cases hs : p = K ∧ f ≤ um_ct K t L aB (um_cd A p)
  · refine ux_chain_s H HA hs.1 hq hs.2 (fun M' => ?_)
    unfold wpY_chain
    dsimp only
    refine uy_probed hK hL hf.1 hf.2 ht HA hp hA (fun np PL aP aF aH i G hi e ei => ?_) (fun np PL aP aF aH G hn => absurd hs hn)
    dsimp only
    exact br_t (nI_pos' (by have := G.1.1; omega)) (uy_length G HA hi ⟨by rw [ei], um_rel hQ⟩)
  · refine ux_chain_n H hp hq hs ?_
    unfold wpY_chain
    dsimp only
    refine uy_probed hK hL hf.1 hf.2 ht HA hp hA (fun np PL aP aF aH i G hi e ei => ?_) (fun np PL aP aF aH G hn => ?_)
    · have h1 := (G.1.2.1 i hi).2
      rw [ei] at h1
      exact absurd ⟨e, h1⟩ hs
    · dsimp only
      exact br_f (by decide) ⟨rfl, um_rel hQ⟩
theorem i_vc_before {k : Nat} {u : SX} {v : SY} (I : i_Rel k u v) (hk : k + 2 ≤ 1026) : wpX_before (fun r => wpY_before (fun r' v' => r' = r ∧ i_Rel (k + 2) u v') v) u := by
  refine um_el (R := fun u v => wpX_before (fun r => wpY_before (fun r' v' => r' = r ∧ i_Rel (k + 2) u v') v) u) ?_ I
  intro K f t w p op L A aL aB aA P C M ps aP aF aH hQ
  have H := um_Q_XH hQ
  have HA := um_Q_HA hQ
  obtain ⟨hK, hf, ⟨ht, hw, hwt, hp⟩, hL, hA, hB, hTB⟩ := id hQ
  have hq : um_cd A p < um_N K := um_cd_N hp (fun i hi => (hA i hi).1)
  by_cases hs : p = K ∧ f ≤ um_ct K t L aB (um_cd A p)
  · obtain ⟨n, b, st, hn, hb, hPn, hPb, hst, hstN, hstS, hfw, hh, hl, hc⟩ := um_chain HA hq hs.2
    have hY : ∀ r : Int32, (um_it (um_A K f (um_ct K t L aB)) n (um_cd A p) = some (um_cd A p) → r = -2) → (um_it (um_A K f (um_ct K t L aB)) n (um_cd A p) = none → r = nI (b - 1)) → wpY_before (fun r' v' => r' = r ∧ i_Rel (k + 2) (nI K, nI (um_N K - 1), nI f, nI t, nI w, nI (um_sg L (t - w) w), nI p, nI (um_cd A p), P, C, M) v') (nI K, nI f, nI t, op, nI p, ps, aL, aB, aA, aP, aF, aH) := by
      intro r h1 h0
      unfold wpY_before
      dsimp only
      refine uy_probed hK hL hf.1 hf.2 ht HA hp hA (fun np PL aP aF aH i G hi e ei => ?_) (fun np PL aP aF aH G hn => absurd hs hn)
      dsimp only
      rw [← ei] at hPn hPb h1 h0
      refine br_t (nI_pos' (by have := G.1.1; omega)) (uy_ring G hi hPn hn (fun e => br_f (by decide) ⟨(h1 e).symm, um_rel hQ⟩) (fun e => br_t rfl (uy_walk_bw G hi hPb hb ⟨(h0 e).symm, um_rel hQ⟩)))
    refine ux_before_s H HA hs.1 hq hs.2 hb hPn hPb hst hstN hfw ?_
    rcases hc with ⟨e1, e2, e3⟩ | ⟨e1, e2, e3⟩
    · exact Or.inl ⟨e1, e2, hY _ (fun _ => rfl) (fun e => by rw [e1] at e; cases e)⟩
    · exact Or.inr ⟨e1, e2, hY _ (fun e => by rw [e1] at e; cases e) (fun _ => rfl)⟩
  · refine ux_before_n H hp hq hs ?_
    unfold wpY_before
    dsimp only
    refine uy_probed hK hL hf.1 hf.2 ht HA hp hA (fun np PL aP aF aH i G hi e ei => ?_) (fun np PL aP aF aH G hn => ?_)
    · have h1 := (G.1.2.1 i hi).2
      rw [ei] at h1
      exact absurd ⟨e, h1⟩ hs
    · dsimp only
      exact br_f (by decide) ⟨rfl, um_rel hQ⟩
theorem i_vc_step {k : Nat} {u : SX} {v : SY} (I : i_Rel k u v) (hk : k + 2 ≤ 1026) : wpX_step (fun r u' => wpY_step (fun r' v' => r' = r ∧ i_Rel (k + 2) u' v') v) u := by
  refine um_el (R := fun u v => wpX_step (fun r u' => wpY_step (fun r' v' => r' = r ∧ i_Rel (k + 2) u' v') v) u) ?_ I
  intro K f t w p op L A aL aB aA P C M ps aP aF aH hQ
  have H := um_Q_XH hQ
  have HA := um_Q_HA hQ
  obtain ⟨hK, hf, ⟨ht, hw, hwt, hp⟩, hL, hA, hB, hTB⟩ := id hQ
  have hN := (um_NT hK).2.1
  have hq : um_cd A p < um_N K := um_cd_N hp (fun i hi => (hA i hi).1)
  by_cases hs : p = K ∧ f ≤ um_ct K t L aB (um_cd A p)
  · refine ux_step_s H HA hs.1 hq hs.2 (fun hn => ?_) (fun y hy => ?_)
    · unfold wpY_step
      dsimp only
      refine uy_probed hK hL hf.1 hf.2 ht HA hp hA (fun np PL aP aF aH i G hi e ei => ?_) (fun np PL aP aF aH G hn => absurd hs hn)
      dsimp only
      have hnp := G.1.1
      rw [← ei] at hn
      refine br_f (nI_pos (by omega)) ⟨vp_in_nI (by omega) (by decide), ?_⟩
      rw [nI_clamp (by omega), (um_ix G.2.2.1 hi).2 hn]
      exact br_f (by decide) ⟨rfl, um_rel hQ⟩
    · have hlk := um_la_s.mp hy
      have hyN := um_U_lt hK hlk.1
      have hy4 := hlk.1.2.1
      unfold wpY_step
      dsimp only
      refine uy_probed hK hL hf.1 hf.2 ht HA hp hA (fun np PL aP aF aH i G hi e ei => ?_) (fun np PL aP aF aH G hn => absurd hs hn)
      dsimp only
      have hnp := G.1.1
      rw [← ei] at hy
      obtain ⟨j, hj, ej, e2⟩ := (um_ix G.2.2.1 hi).1 y hy
      have e3 : nI y - nI y / 4 * 4 = nI (y % 4) := pk_rem (d := 4) (by omega) (by decide) (by decide)
      have e4 : nI (y % 4) &&& 3 = nI (y % 4) := by
        rw [um_and3N (by omega)]
        exact congrArg nI (by omega)
      refine br_f (nI_pos (by omega)) ⟨vp_in_nI (by omega) (by decide), ?_⟩
      rw [nI_clamp (n := i) (by omega), e2, nI_clamp (n := j) (by omega), G.2.1 j hj, ej, e3]
      refine br_t (nI_pos' (by omega)) ⟨vp_in_nI (by omega) (by decide), vp_in_nI (by omega) (by decide), by decide, nm_e ?_⟩
      refine uy_probe hK hp hA (l := y % 4) (by omega) e4 p (Or.inr ⟨hs.1, hs.1⟩) (fun A' aA' hA' ec => ?_)
      dsimp only
      refine ⟨rfl, ?_⟩
      have ey : um_cd A' p = y := by rw [ec, ← hy4]; omega
      rw [← ey]
      exact um_rel ⟨hK, hf, ⟨ht, hw, hwt, hp⟩, hL, hA', hB, hTB⟩
  · refine ux_step_n H hp hq hs ?_
    unfold wpY_step
    dsimp only
    refine uy_probed hK hL hf.1 hf.2 ht HA hp hA (fun np PL aP aF aH i G hi e ei => ?_) (fun np PL aP aF aH G hn => ?_)
    · have h1 := (G.1.2.1 i hi).2
      rw [ei] at h1
      exact absurd ⟨e, h1⟩ hs
    · dsimp only
      exact br_t (by decide) ⟨rfl, um_rel hQ⟩
theorem i_vc_solid {k : Nat} {u : SX} {v : SY} (I : i_Rel k u v) (hk : k + 2 ≤ 1026) : wpX_solid (fun r => wpY_solid (fun r' v' => r' = r ∧ i_Rel (k + 2) u v') v) u := by
  refine um_el (R := fun u v => wpX_solid (fun r => wpY_solid (fun r' v' => r' = r ∧ i_Rel (k + 2) u v') v) u) ?_ I
  intro K f t w p op L A aL aB aA P C M ps aP aF aH hQ
  have H := um_Q_XH hQ
  have HA := um_Q_HA hQ
  obtain ⟨hK, hf, ⟨ht, hw, hwt, hp⟩, hL, hA, hB, hTB⟩ := id hQ
  refine ux_solid ?_
  unfold wpY_solid
  dsimp only
  refine uy_gather hK hL hf.1 hf.2 ht HA (fun np PL aP aF aH G => ?_)
  dsimp only
  have hnp := G.1.1
  have e : nI np / 2 = nI (np / 2) := pk_div (d := 2) (by omega) (by decide) (by decide)
  have e2 := um_solid_eq H G.1
  refine ⟨by decide, ?_, um_rel hQ⟩
  rw [e]
  exact congrArg nI (by omega)
theorem i_vc_chains {k : Nat} {u : SX} {v : SY} (I : i_Rel k u v) (hk : k + 2 ≤ 1026) : wpX_chains (fun r u' => wpY_chains (fun r' v' => r' = r ∧ i_Rel (k + 2) u' v') v) u := by
  refine um_el (R := fun u v => wpX_chains (fun r u' => wpY_chains (fun r' v' => r' = r ∧ i_Rel (k + 2) u' v') v) u) ?_ I
  intro K f t w p op L A aL aB aA P C M ps aP aF aH hQ
  have H := um_Q_XH hQ
  have HA := um_Q_HA hQ
  obtain ⟨hK, hf, ⟨ht, hw, hwt, hp⟩, hL, hA, hB, hTB⟩ := id hQ
  refine ux_chains H HA (fun M' => ?_)
  unfold wpY_chains
  dsimp only
  refine uy_gather hK hL hf.1 hf.2 ht HA (fun np PL aP aF aH G => ?_)
  dsimp only
  refine ⟨np + 1, uy_chains_loop G HA ⟨?_, um_rel hQ⟩ np 0 (np + 1) (by omega) (by omega)⟩
  have e := um_chains_eq H HA G.1
  rw [e]
  exact congrArg nI (by omega)
theorem i_vc_longest {k : Nat} {u : SX} {v : SY} (I : i_Rel k u v) (hk : k + 2 ≤ 1026) : wpX_longest (fun r u' => wpY_longest (fun r' v' => r' = r ∧ i_Rel (k + 2) u' v') v) u := by
  refine um_el (R := fun u v => wpX_longest (fun r u' => wpY_longest (fun r' v' => r' = r ∧ i_Rel (k + 2) u' v') v) u) ?_ I
  intro K f t w p op L A aL aB aA P C M ps aP aF aH hQ
  have H := um_Q_XH hQ
  have HA := um_Q_HA hQ
  obtain ⟨hK, hf, ⟨ht, hw, hwt, hp⟩, hL, hA, hB, hTB⟩ := id hQ
  refine ux_longest H HA (fun r M' hr hX => ?_)
  unfold wpY_longest
  dsimp only
  refine uy_gather hK hL hf.1 hf.2 ht HA (fun np PL aP aF aH G => ?_)
  dsimp only
  refine ⟨np + 1, uy_longest_loop G HA (fun r' hY => ⟨?_, um_rel hQ⟩) np 0 (np + 1) 0 (by omega) (by omega) (by omega) ⟨fun a ha => by omega, Or.inl rfl⟩⟩
  rw [um_longest_eq H HA G.1 hX hY]
end
