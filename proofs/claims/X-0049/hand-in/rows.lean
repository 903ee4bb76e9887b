section
/-! rows out of kit/rows (starting text) -/
theorem pk_us {f : Nat → Int32} {k : Nat} {x : Int32} : upd f k x k = x := if_pos rfl
theorem pk_un {f : Nat → Int32} {k j : Nat} {x : Int32} (h : j ≠ k) : upd f k x j = f j := if_neg h
theorem pk_sub {a b : Nat} (h : b ≤ a) : nI a - nI b = nI (a - b) := by
  obtain ⟨c, rfl⟩ : ∃ c, a = c + b := ⟨a - b, by omega⟩
  rw [← nI_add, Int32.add_sub_cancel, Nat.add_sub_cancel]
theorem pk_m1 (n : Nat) : nI (n + 1) + (-1) = nI n := by
  rw [← nI_1, Int32.add_assoc, show (1 : Int32) + (-1) = 0 from rfl, Int32.add_zero]
theorem pk_mul (a b : Nat) : nI a * nI b = nI (a * b) := (Int32.ofNat_mul a b).symm
theorem pk_div {a d : Nat} (ha : a < 2 ^ 31) (h0 : 0 < d) (hd : d < 2 ^ 31) : nI a / nI d = nI (a / d) := by
  apply Int32.toInt_inj.mp
  rw [lg_idiv_nonneg (by rw [nI_toInt ha]; omega) (by rw [nI_toInt hd]; omega), nI_toInt ha, nI_toInt hd, nI_toInt (Nat.lt_of_le_of_lt (Nat.div_le_self a d) ha)]
  first | rfl | exact (Int.natCast_ediv _ _).symm
theorem pk_rem {a d : Nat} (ha : a < 2 ^ 31) (h0 : 0 < d) (hd : d < 2 ^ 31) : nI a - nI a / nI d * nI d = nI (a % d) := by
  rw [pk_div ha h0 hd, pk_mul, pk_sub (Nat.div_mul_le_self a d)]
  exact congrArg nI (by have := Nat.div_add_mod' a d; omega)
theorem pk_sub_toInt {a b : Nat} (ha : a < 2 ^ 30) (hb : b < 2 ^ 30) : (nI a - nI b).toInt = (a : Int) - b := by
  rw [Int32.toInt_sub, nI_toInt (by omega), nI_toInt (by omega)]
  exact Int.bmod_eq_of_le (by omega) (by omega)
theorem pk_sneg {a b : Nat} (hb : b < 2 ^ 30) (h : a < b) : nI a - nI b < 0 := by
  rw [Int32.lt_iff_toInt_lt, pk_sub_toInt (by omega) hb, show (0 : Int32).toInt = 0 from by decide]
  omega
theorem pk_ix (x : Int32) {n : Nat} (hn : n < 2 ^ 31) : x < 0 ∨ nI n ≤ x ∨ ∃ j : Nat, j < n ∧ x = nI j := by
  by_cases h : x < 0
  · exact Or.inl h
  · obtain ⟨j, hj, rfl⟩ := nI_of h
    by_cases h2 : j < n
    · exact Or.inr (Or.inr ⟨j, h2, rfl⟩)
    · exact Or.inr (Or.inl (nI_le (by omega) hj))
theorem pk_le {x y : Int32} {A B : Prop} (a b : Nat) (f : a ≤ b → A) (g : b < a → B) (hx : x = nI a := by rfl) (hy : y = nI b := by rfl) (ha : a < 2 ^ 31 := by omega) (hb : b < 2 ^ 31 := by omega) : (x ≤ y → A) ∧ (¬ x ≤ y → B) := by
  subst hx hy
  rw [nI_leI ha hb]
  exact ⟨f, fun z => g (by omega)⟩
theorem pk_lt {x y : Int32} {A B : Prop} (a b : Nat) (f : a < b → A) (g : b ≤ a → B) (hx : x = nI a := by rfl) (hy : y = nI b := by rfl) (ha : a < 2 ^ 31 := by omega) (hb : b < 2 ^ 31 := by omega) : (x < y → A) ∧ (¬ x < y → B) := by
  subst hx hy
  rw [nI_ltI ha hb]
  exact ⟨f, fun z => g (by omega)⟩
theorem pk_eq {x y : Int32} {A B : Prop} (a b : Nat) (f : a = b → A) (g : a ≠ b → B) (hx : x = nI a := by rfl) (hy : y = nI b := by rfl) (ha : a < 2 ^ 31 := by omega) (hb : b < 2 ^ 31 := by omega) : (x = y → A) ∧ (¬ x = y → B) := by
  subst hx hy
  rw [nI_eq ha hb]
  exact ⟨f, g⟩
theorem pk_in {x : Int32} (n N : Nat) (h : n < N) (hx : x = nI n := by rfl) (hN : N < 2 ^ 31 := by omega) : vp_in x N := by
  subst hx
  exact vp_in_nI h hN
theorem pk_cl {x : Int32} (n : Nat) (hx : x = nI n := by rfl) (h : n < 2 ^ 31 := by omega) : x.toNatClampNeg = n := by
  subst hx
  exact nI_clamp h
theorem pk_tn {n : Nat} (h : n < 2 ^ 32) : (nI n).toBitVec.toNat = n := Nat.mod_eq_of_lt h
theorem pk_and (x : Int32) {m : Int32} (k : Nat) (hm : m.toBitVec.toNat = 2 ^ k - 1) : x &&& m = nI (x.toBitVec.toNat % 2 ^ k) := by
  apply Int32.toBitVec_inj.mp
  apply BitVec.eq_of_toNat_eq
  rw [Int32.toBitVec_and, BitVec.toNat_and, hm, Nat.and_two_pow_sub_one_eq_mod]
  show _ = (BitVec.ofNat 32 _).toNat
  rw [BitVec.toNat_ofNat]
  exact (Nat.mod_eq_of_lt (Nat.lt_of_le_of_lt (Nat.mod_le _ _) x.toBitVec.isLt)).symm
theorem pk_andN {n : Nat} (h : n < 2 ^ 32) {m : Int32} (k : Nat) (hm : m.toBitVec.toNat = 2 ^ k - 1) : nI n &&& m = nI (n % 2 ^ k) := by
  rw [pk_and _ k hm, pk_tn h]
theorem pk_andE (x : Int32) {m : Int32} (k : Nat) (hm : m.toBitVec.toNat = 2 ^ k - 1) : ∃ j : Nat, j < 2 ^ k ∧ x &&& m = nI j := ⟨_, Nat.mod_lt _ (Nat.two_pow_pos k), pk_and x k hm⟩
theorem pk_andIn (x : Int32) {m : Int32} (k : Nat) (hm : m.toBitVec.toNat = 2 ^ k - 1) (hk : k ≤ 30) : vp_in (x &&& m) (2 ^ k) := by
  obtain ⟨j, hj, e⟩ := pk_andE x k hm
  rw [e]
  exact vp_in_nI hj (Nat.lt_of_le_of_lt (Nat.pow_le_pow_right (by decide) hk) (by decide))
theorem pk_shl (a s : Int32) (k : Nat) (hs : (s.toBitVec.smod 32).toNat = k) : (a <<< s).toBitVec.toNat = a.toBitVec.toNat * 2 ^ k % 2 ^ 32 := by
  show (a.toBitVec <<< (s.toBitVec.smod 32).toNat).toNat = _
  rw [hs, BitVec.toNat_shiftLeft, Nat.shiftLeft_eq]
theorem pk_shlN {n : Nat} (s : Int32) (k : Nat) (hs : (s.toBitVec.smod 32).toNat = k) (h : n * 2 ^ k < 2 ^ 32) : nI n <<< s = nI (n * 2 ^ k) := by
  apply Int32.toBitVec_inj.mp
  apply BitVec.eq_of_toNat_eq
  have hn : n < 2 ^ 32 := Nat.lt_of_le_of_lt (Nat.le_mul_of_pos_right n (Nat.two_pow_pos k)) h
  rw [pk_shl _ _ k hs, pk_tn hn, pk_tn h, Nat.mod_eq_of_lt h]
theorem pk_shr (a s : Int32) (k : Nat) (hs : (s.toBitVec.smod 32).toNat = k) : (a >>> s).toInt = a.toInt >>> k := by
  show (a.toBitVec.sshiftRight (s.toBitVec.smod 32).toNat).toInt = _
  rw [hs, BitVec.toInt_sshiftRight]
  rfl
theorem pk_shrN {n : Nat} (h : n < 2 ^ 31) (s : Int32) (k : Nat) (hs : (s.toBitVec.smod 32).toNat = k) : nI n >>> s = nI (n / 2 ^ k) := by
  apply Int32.toInt_inj.mp
  have h2 : n / 2 ^ k ≤ n := Nat.div_le_self _ _
  rw [pk_shr _ _ k hs, nI_toInt h, nI_toInt (by omega), Int.shiftRight_eq_div_pow]
  rfl
theorem pk_least (P : Nat → Prop) (h : ∃ k, P k) : ∃ k, P k ∧ ∀ j, j < k → ¬ P j := by
  obtain ⟨k, hk⟩ := h
  induction k using Nat.strongRecOn with
  | ind k ih =>
    by_cases e : ∃ j, j < k ∧ P j
    · obtain ⟨j, hj, pj⟩ := e
      exact ih j hj pj
    · exact ⟨k, hk, fun j hj pj => e ⟨j, hj, pj⟩⟩
def bt (x : Int32) (i : Nat) : Bool := x.toBitVec.getLsbD i
theorem b_ext {x y : Int32} (h : ∀ i, i < 32 → bt x i = bt y i) : x = y := Int32.toBitVec_inj.mp (BitVec.eq_of_getLsbD_eq (fun i hi => h i hi))
theorem b_or (x y : Int32) (i : Nat) : bt (x ||| y) i = (bt x i || bt y i) := by unfold bt; rw [Int32.toBitVec_or, BitVec.getLsbD_or]
theorem b_and (x y : Int32) (i : Nat) : bt (x &&& y) i = (bt x i && bt y i) := by unfold bt; rw [Int32.toBitVec_and, BitVec.getLsbD_and]
theorem b_xor (x y : Int32) (i : Nat) : bt (x ^^^ y) i = (bt x i ^^ bt y i) := by unfold bt; rw [Int32.toBitVec_xor, BitVec.getLsbD_xor]
theorem b_big {x : Int32} {i : Nat} (h : 32 ≤ i) : bt x i = false := BitVec.getLsbD_of_ge _ _ h
theorem b_255 (i : Nat) : bt 255 i = decide (i < 8) := by
  rcases Nat.lt_or_ge i 32 with h | h
  · exact (by decide +kernel : ∀ i, i < 32 → bt 255 i = decide (i < 8)) i h
  · rw [b_big h, decide_eq_false (by omega)]
theorem b_65535 (i : Nat) : bt 65535 i = decide (i < 16) := by
  rcases Nat.lt_or_ge i 32 with h | h
  · exact (by decide +kernel : ∀ i, i < 32 → bt 65535 i = decide (i < 16)) i h
  · rw [b_big h, decide_eq_false (by omega)]
theorem b_m1 : ∀ i, i < 32 → bt (-1) i = true := by decide +kernel
theorem b_0 (i : Nat) : bt 0 i = false := BitVec.getLsbD_zero
theorem s_l : ∀ n, n < 32 → ((nI n &&& 31).toBitVec.smod 32).toNat = n := by decide +kernel
theorem s_u : ∀ n, n < 32 → (((nI n).toUInt32 &&& Int32.toUInt32 31).toBitVec % 32).toNat = n := by decide +kernel
theorem b_shl (n : Nat) (hn : n < 32) (x : Int32) {i : Nat} (hi : i < 32) : bt (x <<< (nI n &&& 31)) i = (decide (n ≤ i) && bt x (i - n)) := by
  unfold bt
  rw [Int32.toBitVec_shiftLeft]
  show (x.toBitVec <<< ((nI n &&& 31).toBitVec.smod 32).toNat).getLsbD i = _
  rw [s_l n hn, BitVec.getLsbD_shiftLeft]
  rcases Nat.lt_or_ge i n with h | h
  · simp [h, Nat.not_le.mpr h]
  · simp [hi, h, Nat.not_lt.mpr h]
theorem b_ushr (n : Nat) (hn : n < 32) (x : Int32) (i : Nat) : bt ((x.toUInt32 >>> ((nI n).toUInt32 &&& Int32.toUInt32 31)).toInt32) i = bt x (n + i) := by
  show (x.toUInt32 >>> ((nI n).toUInt32 &&& Int32.toUInt32 31)).toBitVec.getLsbD i = x.toUInt32.toBitVec.getLsbD (n + i)
  rw [UInt32.toBitVec_shiftRight]
  show (x.toUInt32.toBitVec >>> (((nI n).toUInt32 &&& Int32.toUInt32 31).toBitVec % 32).toNat).getLsbD i = _
  rw [s_u n hn, BitVec.getLsbD_ushiftRight]
theorem b_sshr (n : Nat) (hn : n < 32) (x : Int32) {i : Nat} (hi : i < 32) : bt (x >>> (nI n &&& 31)) i = if n + i < 32 then bt x (n + i) else bt x 31 := by
  unfold bt
  rw [Int32.toBitVec_shiftRight]
  show (x.toBitVec.sshiftRight ((nI n &&& 31).toBitVec.smod 32).toNat).getLsbD i = _
  rw [s_l n hn, BitVec.getLsbD_sshiftRight, BitVec.msb_eq_getLsbD_last]
  simp [hi]
theorem nx_and (a b : Nat) : nI a &&& nI b = nI (a &&& b) := by
  apply Int32.toBitVec_inj.1
  show BitVec.ofNat 32 a &&& BitVec.ofNat 32 b = BitVec.ofNat 32 (a &&& b)
  apply BitVec.eq_of_getLsbD_eq
  intro i hi
  simp [hi]
theorem nx_xor (a b : Nat) : nI a ^^^ nI b = nI (a ^^^ b) := by
  apply Int32.toBitVec_inj.1
  show BitVec.ofNat 32 a ^^^ BitVec.ofNat 32 b = BitVec.ofNat 32 (a ^^^ b)
  apply BitVec.eq_of_getLsbD_eq
  intro i hi
  simp [hi]
end
section
/-! counting below a bound -/
noncomputable def cn_b (P : Prop) : Nat := @ite Nat P (Classical.propDecidable P) 1 0
theorem cn_t {P : Prop} (h : P) : cn_b P = 1 := by unfold cn_b; rw [if_pos h]
theorem cn_f {P : Prop} (h : ¬ P) : cn_b P = 0 := by unfold cn_b; rw [if_neg h]
noncomputable def cn_c (P : Nat → Prop) : Nat → Nat
  | 0 => 0
  | k + 1 => cn_c P k + cn_b (P k)
theorem cn_0 (P : Nat → Prop) : cn_c P 0 = 0 := rfl
theorem cn_st {P : Nat → Prop} {k : Nat} (h : P k) : cn_c P (k + 1) = cn_c P k + 1 := by
  show cn_c P k + cn_b (P k) = _
  rw [cn_t h]
theorem cn_sf {P : Nat → Prop} {k : Nat} (h : ¬ P k) : cn_c P (k + 1) = cn_c P k := by
  show cn_c P k + cn_b (P k) = _
  rw [cn_f h]; rfl
theorem cn_ext {P Q : Nat → Prop} : ∀ {N : Nat}, (∀ k, k < N → (P k ↔ Q k)) → cn_c P N = cn_c Q N
  | 0, _ => rfl
  | N + 1, h => by
    have a := cn_ext (P := P) (Q := Q) (N := N) (fun k hk => h k (by omega))
    rcases Classical.em (P N) with p | p
    · rw [cn_st p, cn_st ((h N (by omega)).mp p), a]
    · rw [cn_sf p, cn_sf (fun q => p ((h N (by omega)).mpr q)), a]
theorem cn_mono {P Q : Nat → Prop} : ∀ {N : Nat}, (∀ k, k < N → P k → Q k) → cn_c P N ≤ cn_c Q N
  | 0, _ => Nat.le_refl _
  | N + 1, h => by
    have a := cn_mono (P := P) (Q := Q) (N := N) (fun k hk => h k (by omega))
    rcases Classical.em (P N) with p | p
    · rw [cn_st p, cn_st (h N (by omega) p)]; omega
    · rw [cn_sf p]
      rcases Classical.em (Q N) with q | q
      · rw [cn_st q]; omega
      · rw [cn_sf q]; exact a
theorem cn_step (P : Nat → Prop) (k : Nat) : cn_c P k ≤ cn_c P (k + 1) ∧ cn_c P (k + 1) ≤ cn_c P k + 1 := by
  rcases Classical.em (P k) with p | p
  · rw [cn_st p]; omega
  · rw [cn_sf p]; omega
theorem cn_le_add (P : Nat → Prop) (a : Nat) : ∀ d, cn_c P a ≤ cn_c P (a + d)
  | 0 => Nat.le_refl _
  | d + 1 => Nat.le_trans (cn_le_add P a d) (cn_step P (a + d)).1
theorem cn_le {P : Nat → Prop} {a b : Nat} (h : a ≤ b) : cn_c P a ≤ cn_c P b := by
  obtain ⟨d, rfl⟩ : ∃ d, b = a + d := ⟨b - a, by omega⟩
  exact cn_le_add P a d
theorem cn_lt {P : Nat → Prop} {a b : Nat} (h : a < b) (hp : P a) : cn_c P a < cn_c P b := by
  have h1 : cn_c P (a + 1) ≤ cn_c P b := cn_le h
  rw [cn_st hp] at h1
  omega
theorem cn_leN (P : Nat → Prop) : ∀ N, cn_c P N ≤ N
  | 0 => Nat.le_refl _
  | N + 1 => by
    have a := cn_leN P N
    have b := (cn_step P N).2
    omega
theorem cn_uniq {P : Nat → Prop} {a b : Nat} (ha : P a) (hb : P b) (h : cn_c P a = cn_c P b) : a = b := by
  rcases Nat.lt_trichotomy a b with z | z | z
  · have := cn_lt z ha; omega
  · exact z
  · have := cn_lt z hb; omega
theorem cn_sur {P : Nat → Prop} : ∀ {N i : Nat}, i < cn_c P N → ∃ m, m < N ∧ P m ∧ cn_c P m = i
  | 0, i, h => absurd h (Nat.not_lt_zero i)
  | N + 1, i, h => by
    rcases Nat.lt_or_ge i (cn_c P N) with z | z
    · obtain ⟨m, h1, h2, h3⟩ := cn_sur z
      exact ⟨m, by omega, h2, h3⟩
    · rcases Classical.em (P N) with p | p
      · rw [cn_st p] at h
        exact ⟨N, by omega, p, by omega⟩
      · rw [cn_sf p] at h
        omega
/-- none below: count 0 -/
theorem cn_none {P : Nat → Prop} : ∀ {N : Nat}, (∀ k, k < N → ¬ P k) → cn_c P N = 0
  | 0, _ => rfl
  | N + 1, h => by
    rw [cn_sf (h N (by omega))]
    exact cn_none (fun k hk => h k (by omega))
theorem cn_all {P : Nat → Prop} : ∀ {N : Nat}, (∀ k, k < N → P k) → cn_c P N = N
  | 0, _ => rfl
  | N + 1, h => by
    rw [cn_st (h N (by omega)), cn_all (fun k hk => h k (by omega))]
theorem cn_zero {P : Nat → Prop} {N : Nat} (h : cn_c P N = 0) {k : Nat} (hk : k < N) : ¬ P k := by
  intro p
  have := cn_lt hk p
  omega
/-- beyond the last one nothing is counted -/
theorem cn_top {P : Nat → Prop} {M N : Nat} (h : M ≤ N) (hP : ∀ k, M ≤ k → k < N → ¬ P k) : cn_c P N = cn_c P M := by
  obtain ⟨d, rfl⟩ : ∃ d, N = M + d := ⟨N - M, by omega⟩
  clear h
  induction d with
  | zero => rfl
  | succ d ih =>
    have e : cn_c P (M + (d + 1)) = cn_c P (M + d) := cn_sf (hP (M + d) (by omega) (by omega))
    rw [e]
    exact ih (fun k h1 h2 => hP k h1 (by omega))
theorem cn_lo {P : Nat → Prop} {x N : Nat} (h : N ≤ x) : cn_c (fun k => P k ∨ k = x) N = cn_c P N :=
  cn_ext (fun k hk => ⟨fun z => z.elim id (fun e => by omega), Or.inl⟩)
theorem cn_hi {P : Nat → Prop} {x : Nat} (hx : ¬ P x) : ∀ {N : Nat}, x < N → cn_c (fun k => P k ∨ k = x) N = cn_c P N + 1
  | 0, h => by omega
  | N + 1, h => by
    rcases Nat.lt_or_ge x N with z | z
    · have ih := cn_hi hx z
      rcases Classical.em (P N) with p | p
      · rw [cn_st p, cn_st (P := fun k => P k ∨ k = x) (Or.inl p), ih]
      · have q : ¬ (P N ∨ N = x) := fun w => w.elim p (fun e => by omega)
        rw [cn_sf p, cn_sf (P := fun k => P k ∨ k = x) q, ih]
    · have e : N = x := by omega
      subst e
      rw [cn_sf hx, cn_st (P := fun k => P k ∨ k = N) (Or.inr rfl), cn_lo (Nat.le_refl _)]
/-- one taken out -/
theorem cn_dlo {P : Nat → Prop} {x N : Nat} (h : N ≤ x) : cn_c (fun k => P k ∧ k ≠ x) N = cn_c P N :=
  cn_ext (fun k hk => ⟨fun z => z.1, fun z => ⟨z, by omega⟩⟩)
theorem cn_dhi {P : Nat → Prop} {x N : Nat} (hx : P x) (h : x < N) : cn_c P N = cn_c (fun k => P k ∧ k ≠ x) N + 1 := by
  have a := cn_hi (P := fun k => P k ∧ k ≠ x) (x := x) (fun z => z.2 rfl) h
  rw [← a]
  refine cn_ext (fun k hk => ⟨fun z => ?_, fun z => ?_⟩)
  · rcases Classical.em (k = x) with e | e
    · exact Or.inr e
    · exact Or.inl ⟨z, e⟩
  · rcases z with z | z
    · exact z.1
    · rw [z]; exact hx
/-- an injection -/
theorem cn_inj {P : Nat → Prop} {M : Nat} {f : Nat → Nat} : ∀ {N : Nat} {Q : Nat → Prop}, (∀ x, x < N → P x → f x < M ∧ Q (f x)) → (∀ x y, x < N → y < N → P x → P y → f x = f y → x = y) → cn_c P N ≤ cn_c Q M
  | 0, _, _, _ => Nat.zero_le _
  | N + 1, Q, h, hi => by
    rcases Classical.em (P N) with p | p
    · have hN := h N (by omega) p
      have ih := cn_inj (P := P) (M := M) (f := f) (N := N) (Q := fun k => Q k ∧ k ≠ f N) (fun x hx px => ⟨(h x (by omega) px).1, (h x (by omega) px).2, fun e => by have := hi x N (by omega) (by omega) px p e; omega⟩) (fun x y hx hy px py e => hi x y (by omega) (by omega) px py e)
      rw [cn_st p, cn_dhi hN.2 hN.1]
      omega
    · rw [cn_sf p]
      exact cn_inj (fun x hx px => h x (by omega) px) (fun x y hx hy px py e => hi x y (by omega) (by omega) px py e)
/-- an injection of a finite set into itself is onto -/
theorem cn_onto {P : Nat → Prop} {N : Nat} {f : Nat → Nat} (h : ∀ x, x < N → P x → f x < N ∧ P (f x)) (hi : ∀ x y, x < N → y < N → P x → P y → f x = f y → x = y) {y : Nat} (hy : y < N) (py : P y) : ∃ x, x < N ∧ P x ∧ f x = y := by
  rcases Classical.em (∃ x, x < N ∧ P x ∧ f x = y) with z | z
  · exact z
  · have a := cn_inj (P := P) (M := N) (f := f) (N := N) (Q := fun k => P k ∧ k ≠ y) (fun x hx px => ⟨(h x hx px).1, (h x hx px).2, fun e => z ⟨x, hx, px, e⟩⟩) hi
    rw [cn_dhi py hy] at a
    omega
theorem cn_pig {N : Nat} {f : Nat → Nat} (h : ∀ x, x < N → f x < N) (hi : ∀ x y, x < N → y < N → f x = f y → x = y) {y : Nat} (hy : y < N) : ∃ x, x < N ∧ f x = y := by
  obtain ⟨x, h1, _, h3⟩ := cn_onto (P := fun _ => True) (N := N) (f := f) (fun x hx _ => ⟨h x hx, trivial⟩) (fun x y hx hy _ _ e => hi x y hx hy e) hy trivial
  exact ⟨x, h1, h3⟩
/-- onto, so injective -/
theorem cn_pig2 {N : Nat} {f : Nat → Nat} (h : ∀ x, x < N → f x < N) (hs : ∀ y, y < N → ∃ x, x < N ∧ f x = y) {x y : Nat} (hx : x < N) (hy : y < N) (e : f x = f y) : x = y := by
  obtain ⟨g, hg⟩ : ∃ g : Nat → Nat, ∀ y, y < N → g y < N ∧ f (g y) = y := by
    refine ⟨fun y => Classical.epsilon (fun x => x < N ∧ f x = y), fun y hy => ?_⟩
    exact Classical.epsilon_spec (p := fun x => x < N ∧ f x = y) (hs y hy)
  have gi : ∀ a b, a < N → b < N → g a = g b → a = b := by
    intro a b ha hb ee
    rw [← (hg a ha).2, ← (hg b hb).2, ee]
  obtain ⟨a, ha, ea⟩ := cn_pig (fun a ha => (hg a ha).1) gi hx
  obtain ⟨b, hb, eb⟩ := cn_pig (fun a ha => (hg a ha).1) gi hy
  have h1 := (hg a ha).2
  have h2 := (hg b hb).2
  rw [ea] at h1
  rw [eb] at h2
  rw [← ea, ← eb]
  exact congrArg g (by omega)
theorem cn_add {P Q : Nat → Prop} : ∀ {N : Nat}, (∀ k, k < N → P k → ¬ Q k) → cn_c (fun k => P k ∨ Q k) N = cn_c P N + cn_c Q N
  | 0, _ => rfl
  | N + 1, h => by
    have ih := cn_add (P := P) (Q := Q) (N := N) (fun k hk => h k (by omega))
    rcases Classical.em (P N) with p | p
    · rw [cn_st p, cn_sf (h N (by omega) p), cn_st (P := fun k => P k ∨ Q k) (Or.inl p), ih]; omega
    · rcases Classical.em (Q N) with q | q
      · rw [cn_sf p, cn_st q, cn_st (P := fun k => P k ∨ Q k) (Or.inr q), ih]; omega
      · rw [cn_sf p, cn_sf q, cn_sf (P := fun k => P k ∨ Q k) (fun z => z.elim p q), ih]
/-- fibres of one size -/
theorem cn_fib {P Q : Nat → Prop} {h : Nat → Nat} {N c : Nat} : ∀ {g : Nat}, (∀ y, y < g → Q y → cn_c (fun q => P q ∧ h q = y) N = c) → (∀ y, y < g → ¬ Q y → cn_c (fun q => P q ∧ h q = y) N = 0) → cn_c (fun q => P q ∧ h q < g) N = cn_c Q g * c
  | 0, _, _ => by
    rw [cn_none (P := fun q => P q ∧ h q < 0) (fun k _ z => Nat.not_lt_zero _ z.2), cn_0, Nat.zero_mul]
  | g + 1, h1, h2 => by
    have ih := cn_fib (P := P) (Q := Q) (h := h) (N := N) (c := c) (g := g) (fun y hy => h1 y (by omega)) (fun y hy => h2 y (by omega))
    have e : cn_c (fun q => P q ∧ h q < g + 1) N = cn_c (fun q => (P q ∧ h q < g) ∨ (P q ∧ h q = g)) N := by
      refine cn_ext (fun k hk => ⟨fun z => ?_, fun z => ?_⟩)
      · rcases Nat.lt_or_ge (h k) g with w | w
        · exact Or.inl ⟨z.1, w⟩
        · exact Or.inr ⟨z.1, by have := z.2; omega⟩
      · rcases z with z | z
        · exact ⟨z.1, by have := z.2; omega⟩
        · exact ⟨z.1, by have := z.2; omega⟩
    rw [e, cn_add (fun k hk z w => by have h1 := z.2; have h2 := w.2; omega), ih]
    rcases Classical.em (Q g) with q | q
    · rw [h1 g (by omega) q, cn_st q, Nat.add_mul, Nat.one_mul]
    · rw [h2 g (by omega) q, cn_sf q, Nat.add_zero]
/-- an ascending list of all that hold below N -/
def cn_E (P : Nat → Prop) (N : Nat) (a : Nat → Int32) : Prop := ∀ m, m < N → P m → a (cn_c P m) = nI m
end
section
/-! literals, tuples, bijections; masks of literals -/
def sy_fl (x : Nat) : Nat := x + 1 - 2 * (x % 2)
def sy_ap (t : Nat → Nat) (l : Nat) : Nat := if l % 2 = 0 then t (l / 2) else sy_fl (t (l / 2))
def sy_co (s t : Nat → Nat) : Nat → Nat := fun v => sy_ap s (t v)
def sy_id : Nat → Nat := fun v => 2 * v
theorem sy_fl_fl (x : Nat) : sy_fl (sy_fl x) = x := by unfold sy_fl; omega
theorem sy_fl_d (x : Nat) : sy_fl x / 2 = x / 2 := by unfold sy_fl; omega
theorem sy_fl_m (x : Nat) : sy_fl x % 2 = 1 - x % 2 := by unfold sy_fl; omega
theorem sy_fl_ne (x : Nat) : sy_fl x ≠ x := by unfold sy_fl; omega
theorem sy_fl_lt {n x : Nat} (h : x < 2 * n) : sy_fl x < 2 * n := by unfold sy_fl; omega
theorem sy_fl_e (v : Nat) : sy_fl (2 * v) = 2 * v + 1 := by unfold sy_fl; omega
theorem sy_half {x y : Nat} (h : x / 2 = y / 2) : x = y ∨ x = sy_fl y := by unfold sy_fl; omega
theorem sy_ap_0 {t : Nat → Nat} {l : Nat} (h : l % 2 = 0) : sy_ap t l = t (l / 2) := if_pos h
theorem sy_ap_1 {t : Nat → Nat} {l : Nat} (h : ¬ l % 2 = 0) : sy_ap t l = sy_fl (t (l / 2)) := if_neg h
theorem sy_ap_fl (t : Nat → Nat) (l : Nat) : sy_ap t (sy_fl l) = sy_fl (sy_ap t l) := by
  by_cases h : l % 2 = 0
  · rw [sy_ap_0 h, sy_ap_1 (by rw [sy_fl_m]; omega), sy_fl_d]
  · rw [sy_ap_1 h, sy_ap_0 (by rw [sy_fl_m]; omega), sy_fl_d, sy_fl_fl]
theorem sy_ap_e (t : Nat → Nat) (v : Nat) : sy_ap t (2 * v) = t v := by
  rw [sy_ap_0 (by omega), show 2 * v / 2 = v from by omega]
theorem sy_ap_o (t : Nat → Nat) (v : Nat) : sy_ap t (2 * v + 1) = sy_fl (t v) := by
  rw [sy_ap_1 (by omega), show (2 * v + 1) / 2 = v from by omega]
theorem sy_ap_id (l : Nat) : sy_ap sy_id l = l := by
  by_cases h : l % 2 = 0
  · rw [sy_ap_0 h]; unfold sy_id; omega
  · rw [sy_ap_1 h]; unfold sy_id sy_fl; omega
theorem sy_ap_co (s t : Nat → Nat) (l : Nat) : sy_ap (sy_co s t) l = sy_ap s (sy_ap t l) := by
  by_cases h : l % 2 = 0
  · rw [sy_ap_0 h, sy_ap_0 h]; rfl
  · rw [sy_ap_1 h, sy_ap_1 h, sy_ap_fl]; rfl
theorem sy_ap_d (t : Nat → Nat) (l : Nat) : sy_ap t l / 2 = t (l / 2) / 2 := by
  by_cases h : l % 2 = 0
  · rw [sy_ap_0 h]
  · rw [sy_ap_1 h, sy_fl_d]
theorem sy_ap_ext {n : Nat} {s t : Nat → Nat} (h : ∀ v, v < n → s v = t v) {l : Nat} (hl : l < 2 * n) : sy_ap s l = sy_ap t l := by
  unfold sy_ap
  rw [h (l / 2) (by omega)]
theorem sy_ap_lt {n : Nat} {t : Nat → Nat} (h : ∀ v, v < n → t v < 2 * n) {l : Nat} (hl : l < 2 * n) : sy_ap t l < 2 * n := by
  have a := h (l / 2) (by omega)
  by_cases z : l % 2 = 0
  · rw [sy_ap_0 z]; exact a
  · rw [sy_ap_1 z]; exact sy_fl_lt a
def sy_B (n : Nat) (t : Nat → Nat) : Prop := (∀ v, v < n → t v < 2 * n) ∧ (∀ v w, v < n → w < n → t v / 2 = t w / 2 → v = w)
theorem sy_ap_inj {n : Nat} {t : Nat → Nat} (h : sy_B n t) {l m : Nat} (hl : l < 2 * n) (hm : m < 2 * n) (e : sy_ap t l = sy_ap t m) : l = m := by
  have d : l / 2 = m / 2 := h.2 _ _ (by omega) (by omega) (by rw [← sy_ap_d, ← sy_ap_d, e])
  rcases sy_half d with z | z
  · exact z
  · rw [z, sy_ap_fl] at e
    exact absurd e (sy_fl_ne _)
theorem sy_ap_sur {n : Nat} {t : Nat → Nat} (h : sy_B n t) {j : Nat} (hj : j < 2 * n) : ∃ l, l < 2 * n ∧ sy_ap t l = j :=
  cn_pig (fun x hx => sy_ap_lt h.1 hx) (fun x y hx hy e => sy_ap_inj h hx hy e) hj
theorem sy_B_ext {n : Nat} {s t : Nat → Nat} (h : ∀ v, v < n → s v = t v) (hs : sy_B n s) : sy_B n t :=
  ⟨fun v hv => by rw [← h v hv]; exact hs.1 v hv, fun v w hv hw e => hs.2 v w hv hw (by rw [h v hv, h w hw]; exact e)⟩
theorem sy_B_id (n : Nat) : sy_B n sy_id :=
  ⟨fun v hv => by unfold sy_id; omega, fun v w _ _ e => by unfold sy_id at e; omega⟩
theorem sy_B_co {n : Nat} {s t : Nat → Nat} (hs : sy_B n s) (ht : sy_B n t) : sy_B n (sy_co s t) := by
  refine ⟨fun v hv => sy_ap_lt hs.1 (ht.1 v hv), fun v w hv hw e => ?_⟩
  have e2 : sy_ap s (t v) / 2 = sy_ap s (t w) / 2 := e
  rw [sy_ap_d, sy_ap_d] at e2
  have a := ht.1 v hv
  have b := ht.1 w hw
  exact ht.2 v w hv hw (hs.2 _ _ (by omega) (by omega) e2)
/-- a tuple that hits every literal is a bijection -/
theorem sy_B_of {n : Nat} {t : Nat → Nat} (h1 : ∀ v, v < n → t v < 2 * n) (h2 : ∀ j, j < 2 * n → ∃ l, l < 2 * n ∧ sy_ap t l = j) : sy_B n t := by
  refine ⟨h1, fun v w hv hw e => ?_⟩
  rcases sy_half e with z | z
  · have := cn_pig2 (f := sy_ap t) (fun x hx => sy_ap_lt h1 hx) h2 (x := 2 * v) (y := 2 * w) (by omega) (by omega) (by rw [sy_ap_e, sy_ap_e]; exact z)
    omega
  · have := cn_pig2 (f := sy_ap t) (fun x hx => sy_ap_lt h1 hx) h2 (x := 2 * v) (y := 2 * w + 1) (by omega) (by omega) (by rw [sy_ap_e, sy_ap_o]; exact z)
    omega
theorem sy_inv {n : Nat} {t : Nat → Nat} (h : sy_B n t) : ∃ s, sy_B n s ∧ (∀ l, l < 2 * n → sy_ap s (sy_ap t l) = l) ∧ (∀ l, l < 2 * n → sy_ap t (sy_ap s l) = l) := by
  obtain ⟨s, hs⟩ : ∃ s : Nat → Nat, ∀ v, v < n → s v < 2 * n ∧ sy_ap t (s v) = 2 * v := by
    refine ⟨fun v => Classical.epsilon (fun l => l < 2 * n ∧ sy_ap t l = 2 * v), fun v hv => ?_⟩
    exact Classical.epsilon_spec (p := fun l => l < 2 * n ∧ sy_ap t l = 2 * v) (sy_ap_sur h (by omega))
  have h2 : ∀ l, l < 2 * n → sy_ap t (sy_ap s l) = l := by
    intro l hl
    have a := (hs (l / 2) (by omega)).2
    by_cases z : l % 2 = 0
    · rw [sy_ap_0 (t := s) z, a]; omega
    · rw [sy_ap_1 (t := s) z, sy_ap_fl, a, sy_fl_e]; omega
  have h0 : ∀ v, v < n → s v < 2 * n := fun v hv => (hs v hv).1
  refine ⟨s, ⟨h0, fun v w hv hw e => ?_⟩, fun l hl => ?_, h2⟩
  · have a := (hs v hv).2
    have b := (hs w hw).2
    rcases sy_half e with z | z
    · rw [z, b] at a; omega
    · rw [z, sy_ap_fl, b, sy_fl_e] at a; omega
  · have a := sy_ap_lt h.1 hl
    exact sy_ap_inj h (sy_ap_lt h0 a) hl (h2 _ a)
/-! masks -/
def sy_mr (t : Nat → Nat) (m : Nat) : Nat → Nat
  | 0 => 0
  | L + 1 => if m.testBit L = true then sy_mr t m L ||| 2 ^ sy_ap t L else sy_mr t m L
theorem sy_mr_b (t : Nat → Nat) (m j : Nat) : ∀ L, (sy_mr t m L).testBit j = true ↔ ∃ l, l < L ∧ m.testBit l = true ∧ sy_ap t l = j
  | 0 => by
    constructor
    · intro h
      rw [show sy_mr t m 0 = 0 from rfl, Nat.zero_testBit] at h
      exact absurd h (by decide)
    · rintro ⟨l, h, _⟩; omega
  | L + 1 => by
    have ih := sy_mr_b t m j L
    by_cases h : m.testBit L = true
    · rw [show sy_mr t m (L + 1) = sy_mr t m L ||| 2 ^ sy_ap t L from if_pos h, Nat.testBit_or, Bool.or_eq_true, ih, Nat.testBit_two_pow, decide_eq_true_eq]
      constructor
      · rintro (⟨l, h1, h2, h3⟩ | z)
        · exact ⟨l, by omega, h2, h3⟩
        · exact ⟨L, by omega, h, z⟩
      · rintro ⟨l, h1, h2, h3⟩
        rcases Nat.lt_or_ge l L with z | z
        · exact Or.inl ⟨l, z, h2, h3⟩
        · have e : l = L := by omega
          rw [e] at h3
          exact Or.inr h3
    · rw [show sy_mr t m (L + 1) = sy_mr t m L from if_neg h, ih]
      constructor
      · rintro ⟨l, h1, h2, h3⟩
        exact ⟨l, by omega, h2, h3⟩
      · rintro ⟨l, h1, h2, h3⟩
        rcases Nat.lt_or_ge l L with z | z
        · exact ⟨l, z, h2, h3⟩
        · have e : l = L := by omega
          rw [e] at h2
          exact absurd h2 h
def sy_mm (n : Nat) (t : Nat → Nat) (m : Nat) : Nat := sy_mr t m (2 * n)
theorem sy_mm_b {n : Nat} {t : Nat → Nat} {m j : Nat} : (sy_mm n t m).testBit j = true ↔ ∃ l, l < 2 * n ∧ m.testBit l = true ∧ sy_ap t l = j := sy_mr_b t m j (2 * n)
theorem sy_eqb {x y : Nat} (h : ∀ i, x.testBit i = true ↔ y.testBit i = true) : x = y :=
  Nat.eq_of_testBit_eq (fun i => Bool.eq_iff_iff.mpr (h i))
theorem sy_bit_lt {m N l : Nat} (h : m < 2 ^ N) (hb : m.testBit l = true) : l < N := by
  rcases Nat.lt_or_ge l N with z | z
  · exact z
  · have := Nat.testBit_lt_two_pow (x := m) (i := l) (Nat.lt_of_lt_of_le h (Nat.pow_le_pow_right (by decide) z))
    rw [this] at hb
    exact absurd hb (by decide)
theorem sy_mm_lt {n : Nat} {t : Nat → Nat} (h : ∀ v, v < n → t v < 2 * n) (m : Nat) : sy_mm n t m < 2 ^ (2 * n) := by
  apply Nat.lt_pow_two_of_testBit
  intro i hi
  cases hb : (sy_mm n t m).testBit i
  · rfl
  · obtain ⟨l, h1, _, h3⟩ := sy_mm_b.mp hb
    have := sy_ap_lt h h1
    omega
theorem sy_mm_ext {n : Nat} {s t : Nat → Nat} (h : ∀ v, v < n → s v = t v) (m : Nat) : sy_mm n s m = sy_mm n t m := by
  apply sy_eqb
  intro i
  rw [sy_mm_b, sy_mm_b]
  constructor
  · rintro ⟨l, h1, h2, h3⟩
    exact ⟨l, h1, h2, by rw [← sy_ap_ext h h1]; exact h3⟩
  · rintro ⟨l, h1, h2, h3⟩
    exact ⟨l, h1, h2, by rw [sy_ap_ext h h1]; exact h3⟩
theorem sy_mm_id {n m : Nat} (h : m < 2 ^ (2 * n)) : sy_mm n sy_id m = m := by
  apply sy_eqb
  intro i
  rw [sy_mm_b]
  constructor
  · rintro ⟨l, h1, h2, h3⟩
    rw [sy_ap_id] at h3
    rw [← h3]; exact h2
  · intro hb
    exact ⟨i, sy_bit_lt h hb, hb, sy_ap_id i⟩
theorem sy_mm_co {n : Nat} {s t : Nat → Nat} (h : ∀ v, v < n → t v < 2 * n) (m : Nat) : sy_mm n (sy_co s t) m = sy_mm n s (sy_mm n t m) := by
  apply sy_eqb
  intro i
  rw [sy_mm_b, sy_mm_b]
  constructor
  · rintro ⟨l, h1, h2, h3⟩
    exact ⟨sy_ap t l, sy_ap_lt h h1, sy_mm_b.mpr ⟨l, h1, h2, rfl⟩, by rw [← sy_ap_co]; exact h3⟩
  · rintro ⟨l, h1, h2, h3⟩
    obtain ⟨l2, k1, k2, k3⟩ := sy_mm_b.mp h2
    exact ⟨l2, k1, k2, by rw [sy_ap_co, k3]; exact h3⟩
theorem sy_mm_inv {n : Nat} {s t : Nat → Nat} (h : ∀ v, v < n → t v < 2 * n) (hst : ∀ l, l < 2 * n → sy_ap s (sy_ap t l) = l) {m : Nat} (hm : m < 2 ^ (2 * n)) : sy_mm n s (sy_mm n t m) = m := by
  rw [← sy_mm_co h, sy_mm_ext (t := sy_id) (fun v hv => ?_), sy_mm_id hm]
  have := hst (2 * v) (by omega)
  rw [sy_ap_e] at this
  exact this
theorem sy_mm_inj {n : Nat} {t : Nat → Nat} (h : sy_B n t) {m k : Nat} (hm : m < 2 ^ (2 * n)) (hk : k < 2 ^ (2 * n)) (e : sy_mm n t m = sy_mm n t k) : m = k := by
  obtain ⟨s, _, h1, _⟩ := sy_inv h
  rw [← sy_mm_inv h.1 h1 hm, ← sy_mm_inv h.1 h1 hk, e]
/-! symmetries -/
def sy_S (n : Nat) (H : Nat → Prop) (t : Nat → Nat) : Prop := sy_B n t ∧ ∀ m, H m → H (sy_mm n t m)
def sy_H (n : Nat) (H : Nat → Prop) : Prop := ∀ m, H m → m < 2 ^ (2 * n)
theorem sy_S_ext {n : Nat} {H : Nat → Prop} {s t : Nat → Nat} (h : ∀ v, v < n → s v = t v) (hs : sy_S n H s) : sy_S n H t :=
  ⟨sy_B_ext h hs.1, fun m hm => by rw [← sy_mm_ext h]; exact hs.2 m hm⟩
theorem sy_S_id {n : Nat} {H : Nat → Prop} (hH : sy_H n H) : sy_S n H sy_id :=
  ⟨sy_B_id n, fun m hm => by rw [sy_mm_id (hH m hm)]; exact hm⟩
theorem sy_S_co {n : Nat} {H : Nat → Prop} {s t : Nat → Nat} (hs : sy_S n H s) (ht : sy_S n H t) : sy_S n H (sy_co s t) :=
  ⟨sy_B_co hs.1 ht.1, fun m hm => by rw [sy_mm_co ht.1.1]; exact hs.2 _ (ht.2 m hm)⟩
/-- the images fill the set -/
theorem sy_S_onto {n : Nat} {H : Nat → Prop} (hH : sy_H n H) {t : Nat → Nat} (ht : sy_S n H t) {m : Nat} (hm : H m) : ∃ k, H k ∧ sy_mm n t k = m := by
  obtain ⟨x, _, h2, h3⟩ := cn_onto (P := H) (N := 2 ^ (2 * n)) (f := sy_mm n t) (fun x hx px => ⟨sy_mm_lt ht.1.1 x, ht.2 x px⟩) (fun x y hx hy _ _ e => sy_mm_inj ht.1 hx hy e) (hH m hm) hm
  exact ⟨x, h2, h3⟩
theorem sy_S_inv {n : Nat} {H : Nat → Prop} (hH : sy_H n H) {t : Nat → Nat} (ht : sy_S n H t) : ∃ s, sy_S n H s ∧ (∀ l, l < 2 * n → sy_ap s (sy_ap t l) = l) ∧ (∀ l, l < 2 * n → sy_ap t (sy_ap s l) = l) := by
  obtain ⟨s, h1, h2, h3⟩ := sy_inv ht.1
  refine ⟨s, ⟨h1, fun m hm => ?_⟩, h2, h3⟩
  obtain ⟨k, hk, e⟩ := sy_S_onto hH ht hm
  rw [← e, sy_mm_inv ht.1.1 h2 (hH k hk)]
  exact hk
theorem sy_S_iff {n : Nat} {H : Nat → Prop} (hH : sy_H n H) {t : Nat → Nat} (ht : sy_S n H t) {m : Nat} (hm : m < 2 ^ (2 * n)) : H (sy_mm n t m) ↔ H m := by
  refine ⟨fun h => ?_, ht.2 m⟩
  obtain ⟨k, hk, e⟩ := sy_S_onto hH ht h
  rw [← sy_mm_inj ht.1 (hH k hk) hm e]
  exact hk
/-- the stabiliser of the variables below k -/
def sy_G (n : Nat) (H : Nat → Prop) (k : Nat) (t : Nat → Nat) : Prop := sy_S n H t ∧ ∀ v, v < k → t v = 2 * v
theorem sy_G_id {n : Nat} {H : Nat → Prop} (hH : sy_H n H) (k : Nat) : sy_G n H k sy_id := ⟨sy_S_id hH, fun _ _ => rfl⟩
theorem sy_G_co {n : Nat} {H : Nat → Prop} {k : Nat} {s t : Nat → Nat} (hs : sy_G n H k s) (ht : sy_G n H k t) : sy_G n H k (sy_co s t) :=
  ⟨sy_S_co hs.1 ht.1, fun v hv => by show sy_ap s (t v) = _; rw [ht.2 v hv, sy_ap_e]; exact hs.2 v hv⟩
theorem sy_G_inv {n : Nat} {H : Nat → Prop} (hH : sy_H n H) {k : Nat} (hk : k ≤ n) {t : Nat → Nat} (ht : sy_G n H k t) : ∃ s, sy_G n H k s ∧ (∀ l, l < 2 * n → sy_ap s (sy_ap t l) = l) ∧ (∀ l, l < 2 * n → sy_ap t (sy_ap s l) = l) := by
  obtain ⟨s, h1, h2, h3⟩ := sy_S_inv hH ht.1
  refine ⟨s, ⟨h1, fun v hv => ?_⟩, h2, h3⟩
  have a := h2 (2 * v) (by omega)
  rw [sy_ap_e, ht.2 v hv, sy_ap_e] at a
  exact a
theorem sy_G_ext {n : Nat} {H : Nat → Prop} {k : Nat} (hk : k ≤ n) {s t : Nat → Nat} (h : ∀ v, v < n → s v = t v) (hs : sy_G n H k s) : sy_G n H k t :=
  ⟨sy_S_ext h hs.1, fun v hv => by rw [← h v (by omega)]; exact hs.2 v hv⟩
theorem sy_G_lo {n : Nat} {H : Nat → Prop} {k j : Nat} (h : j ≤ k) {t : Nat → Nat} (ht : sy_G n H k t) : sy_G n H j t := ⟨ht.1, fun v hv => ht.2 v (by omega)⟩
theorem sy_G_fix {n : Nat} {H : Nat → Prop} {k : Nat} {t : Nat → Nat} (ht : sy_G n H k t) {l : Nat} (hl : l < 2 * k) : sy_ap t l = l := by
  by_cases h : l % 2 = 0
  · rw [sy_ap_0 h, ht.2 _ (by omega)]; omega
  · rw [sy_ap_1 h, ht.2 _ (by omega), sy_fl_e]; omega
/-- orbits -/
def sy_O (n : Nat) (H : Nat → Prop) (k l j : Nat) : Prop := ∃ t, sy_G n H k t ∧ sy_ap t l = j
theorem sy_O_lt {n : Nat} {H : Nat → Prop} {k l j : Nat} (hl : l < 2 * n) (h : sy_O n H k l j) : j < 2 * n := by
  obtain ⟨t, ht, e⟩ := h
  rw [← e]; exact sy_ap_lt ht.1.1.1 hl
theorem sy_O_rf {n : Nat} {H : Nat → Prop} (hH : sy_H n H) (k l : Nat) : sy_O n H k l l := ⟨sy_id, sy_G_id hH k, sy_ap_id l⟩
theorem sy_O_sy {n : Nat} {H : Nat → Prop} (hH : sy_H n H) {k l j : Nat} (hk : k ≤ n) (hl : l < 2 * n) (h : sy_O n H k l j) : sy_O n H k j l := by
  obtain ⟨t, ht, e⟩ := h
  obtain ⟨s, hs, h1, _⟩ := sy_G_inv hH hk ht
  exact ⟨s, hs, by rw [← e]; exact h1 l hl⟩
theorem sy_O_tr {n : Nat} {H : Nat → Prop} {k l j i : Nat} (h : sy_O n H k l j) (h2 : sy_O n H k j i) : sy_O n H k l i := by
  obtain ⟨t, ht, e⟩ := h
  obtain ⟨s, hs, e2⟩ := h2
  exact ⟨sy_co s t, sy_G_co hs ht, by rw [sy_ap_co, e]; exact e2⟩
theorem sy_O_ge {n : Nat} {H : Nat → Prop} {k l j : Nat} (hk : k ≤ n) (hl : l < 2 * n) (hl2 : 2 * k ≤ l) (h : sy_O n H k l j) : 2 * k ≤ j := by
  obtain ⟨t, ht, e⟩ := h
  rcases Nat.lt_or_ge j (2 * k) with z | z
  · have a := sy_G_fix ht z
    have b := sy_ap_inj ht.1.1 hl (by omega) (e.trans a.symm)
    omega
  · exact z
end
section
/-! tuples as numbers with octal digits; cosets; ranks -/
def sy_cr (t : Nat → Nat) : Nat → Nat
  | 0 => 0
  | k + 1 => sy_cr t k * 8 + t k
def sy_dg (n p v : Nat) : Nat := p / 8 ^ (n - 1 - v) % 8
theorem sy_dg_lt (n p v : Nat) : sy_dg n p v < 8 := Nat.mod_lt _ (by decide)
theorem sy_cr_dg {t : Nat → Nat} : ∀ {k : Nat}, (∀ v, v < k → t v < 8) → ∀ v, v < k → sy_dg k (sy_cr t k) v = t v
  | 0, _, v, hv => by omega
  | k + 1, h, v, hv => by
    have hk := h k (by omega)
    unfold sy_dg
    by_cases e : v = k
    · subst e
      rw [show v + 1 - 1 - v = 0 from by omega, Nat.pow_zero, Nat.div_one]
      show (sy_cr t v * 8 + t v) % 8 = _
      omega
    · have ih := sy_cr_dg (t := t) (k := k) (fun v hv => h v (by omega)) v (by omega)
      unfold sy_dg at ih
      rw [show k + 1 - 1 - v = (k - 1 - v) + 1 from by omega, Nat.pow_succ, Nat.mul_comm, ← Nat.div_div_eq_div_mul]
      have e2 : sy_cr t (k + 1) / 8 = sy_cr t k := by
        show (sy_cr t k * 8 + t k) / 8 = _
        omega
      rw [e2]
      exact ih
theorem sy_cr_lt {t : Nat → Nat} : ∀ {k : Nat}, (∀ v, v < k → t v < 8) → sy_cr t k < 8 ^ k
  | 0, _ => by show (0 : Nat) < 1; decide
  | k + 1, h => by
    have ih := sy_cr_lt (t := t) (k := k) (fun v hv => h v (by omega))
    have hk := h k (by omega)
    rw [Nat.pow_succ]
    show sy_cr t k * 8 + t k < _
    omega
theorem sy_pre_s {n k : Nat} (p : Nat) (hk : k < n) : p / 8 ^ (n - k) = p / 8 ^ (n - (k + 1)) / 8 := by
  rw [show n - k = n - (k + 1) + 1 from by omega, Nat.pow_succ, Nat.div_div_eq_div_mul]
theorem sy_pre_d {n k : Nat} (p : Nat) (hk : k < n) : sy_dg n p k = p / 8 ^ (n - (k + 1)) % 8 := by
  unfold sy_dg
  rw [show n - 1 - k = n - (k + 1) from by omega]
theorem sy_pre_0 {n p : Nat} (h : p < 8 ^ n) : p / 8 ^ (n - 0) = 0 := Nat.div_eq_of_lt h
theorem sy_pre_n (n p : Nat) : p / 8 ^ (n - n) = p := by rw [Nat.sub_self, Nat.pow_zero, Nat.div_one]
theorem sy_pre_eq {n p q : Nat} (hp : p < 8 ^ n) (hq : q < 8 ^ n) : ∀ {k : Nat}, k ≤ n → (p / 8 ^ (n - k) = q / 8 ^ (n - k) ↔ ∀ v, v < k → sy_dg n p v = sy_dg n q v)
  | 0, _ => by
    rw [sy_pre_0 hp, sy_pre_0 hq]
    exact ⟨fun _ v hv => by omega, fun _ => rfl⟩
  | k + 1, hk => by
    have ih := sy_pre_eq hp hq (k := k) (by omega)
    rw [sy_pre_s p (by omega), sy_pre_s q (by omega)] at ih
    have dp := sy_pre_d (n := n) (k := k) p (by omega)
    have dq := sy_pre_d (n := n) (k := k) q (by omega)
    constructor
    · intro e v hv
      by_cases z : v = k
      · rw [z, dp, dq, e]
      · exact ih.mp (by rw [e]) v (by omega)
    · intro h
      have a := ih.mpr (fun v hv => h v (by omega))
      have b := h k (by omega)
      rw [dp, dq] at b
      omega
theorem sy_dg_inj {n p q : Nat} (hp : p < 8 ^ n) (hq : q < 8 ^ n) (h : ∀ v, v < n → sy_dg n p v = sy_dg n q v) : p = q := by
  have := (sy_pre_eq hp hq (Nat.le_refl n)).mpr h
  rw [sy_pre_n, sy_pre_n] at this
  exact this
theorem sy_dg_cr {n p : Nat} (hp : p < 8 ^ n) : sy_cr (sy_dg n p) n = p :=
  sy_dg_inj (sy_cr_lt (fun v _ => sy_dg_lt n p v)) hp (fun v hv => sy_cr_dg (fun v _ => sy_dg_lt n p v) v hv)
/-- the symmetries as numbers -/
def sy_C (n : Nat) (H : Nat → Prop) (p : Nat) : Prop := sy_S n H (sy_dg n p)
def sy_K (n : Nat) (H : Nat → Prop) (k p : Nat) : Prop := sy_G n H k (sy_dg n p)
noncomputable def sy_z (n : Nat) (H : Nat → Prop) (k : Nat) : Nat := cn_c (sy_K n H k) (8 ^ n)
theorem sy_B8 {n : Nat} (hn : n ≤ 4) {t : Nat → Nat} (h : sy_B n t) : ∀ v, v < n → t v < 8 := fun v hv => by
  have := h.1 v hv
  omega
/-- a symmetry's number -/
theorem sy_C_cr {n : Nat} (hn : n ≤ 4) {H : Nat → Prop} {t : Nat → Nat} (h : sy_S n H t) : sy_cr t n < 8 ^ n ∧ sy_C n H (sy_cr t n) ∧ ∀ v, v < n → sy_dg n (sy_cr t n) v = t v :=
  ⟨sy_cr_lt (sy_B8 hn h.1), sy_S_ext (fun v hv => (sy_cr_dg (sy_B8 hn h.1) v hv).symm) h, sy_cr_dg (sy_B8 hn h.1)⟩
theorem sy_K_C {n : Nat} {H : Nat → Prop} {k p : Nat} (h : sy_K n H k p) : sy_C n H p := h.1
/-- the elements that agree with s below k: as many as the stabiliser has -/
theorem sy_coset {n : Nat} (hn : n ≤ 4) {H : Nat → Prop} (hH : sy_H n H) {k : Nat} (hk : k ≤ n) {s : Nat → Nat} (hs : sy_S n H s) : cn_c (fun q => sy_C n H q ∧ ∀ v, v < k → sy_dg n q v = s v) (8 ^ n) = sy_z n H k := by
  obtain ⟨r, hr, r1, r2⟩ := sy_S_inv hH hs
  have inj : ∀ (w : Nat → Nat), sy_S n H w → ∀ x y, x < 8 ^ n → y < 8 ^ n → sy_C n H x → sy_C n H y → sy_cr (sy_co w (sy_dg n x)) n = sy_cr (sy_co w (sy_dg n y)) n → x = y := by
    intro w hw x y hx hy cx cy e
    apply sy_dg_inj hx hy
    intro v hv
    have ex := (sy_C_cr hn (sy_S_co hw cx)).2.2 v hv
    have ey := (sy_C_cr hn (sy_S_co hw cy)).2.2 v hv
    rw [e] at ex
    have : sy_ap w (sy_dg n x v) = sy_ap w (sy_dg n y v) := ex.symm.trans ey
    exact sy_ap_inj hw.1 (cx.1.1 v hv) (cy.1.1 v hv) this
  apply Nat.le_antisymm
  · refine cn_inj (f := fun q => sy_cr (sy_co r (sy_dg n q)) n) (fun x hx px => ?_) (fun x y hx hy px py e => inj r hr x y hx hy px.1 py.1 e)
    obtain ⟨a, b, c⟩ := sy_C_cr hn (sy_S_co hr px.1)
    refine ⟨a, b, fun v hv => ?_⟩
    rw [c v (by omega)]
    show sy_ap r (sy_dg n x v) = _
    rw [px.2 v hv, ← sy_ap_e s v]
    exact r1 _ (by omega)
  · refine cn_inj (f := fun q => sy_cr (sy_co s (sy_dg n q)) n) (fun x hx px => ?_) (fun x y hx hy px py e => inj s hs x y hx hy px.1 py.1 e)
    obtain ⟨a, b, c⟩ := sy_C_cr hn (sy_S_co hs px.1)
    refine ⟨a, b, fun v hv => ?_⟩
    rw [c v (by omega)]
    show sy_ap s (sy_dg n x v) = _
    rw [px.2 v hv, sy_ap_e]
theorem sy_coset1 {n : Nat} (hn : n ≤ 4) {H : Nat → Prop} (hH : sy_H n H) {k : Nat} (hk : k < n) {s : Nat → Nat} (hs : sy_S n H s) {x : Nat} (hx : sy_O n H k (2 * k) x) : cn_c (fun q => (sy_C n H q ∧ ∀ v, v < k → sy_dg n q v = s v) ∧ sy_dg n q k = sy_ap s x) (8 ^ n) = sy_z n H (k + 1) := by
  obtain ⟨w, hw, e⟩ := hx
  rw [sy_ap_e] at e
  rw [← sy_coset hn hH (k := k + 1) (by omega) (sy_S_co hs hw.1)]
  have c1 : ∀ v, v < k → sy_co s w v = s v := fun v hv => by
    show sy_ap s (w v) = _
    rw [hw.2 v hv, sy_ap_e]
  have c2 : sy_co s w k = sy_ap s x := by
    show sy_ap s (w k) = _
    rw [e]
  refine cn_ext (fun q _ => ⟨fun h => ⟨h.1.1, fun v hv => ?_⟩, fun h => ⟨⟨h.1, fun v hv => ?_⟩, ?_⟩⟩)
  · by_cases z : v = k
    · rw [z, c2]; exact h.2
    · rw [c1 v (by omega)]; exact h.1.2 v (by omega)
  · rw [← c1 v hv]; exact h.2 v (by omega)
  · rw [← c2]; exact h.2 k (by omega)
theorem sy_coset0 {n : Nat} {H : Nat → Prop} (hH : sy_H n H) {k : Nat} (hk : k < n) {s : Nat → Nat} (hs : sy_S n H s) {q : Nat} (hq : sy_C n H q) (ha : ∀ v, v < k → sy_dg n q v = s v) : ∃ x, sy_O n H k (2 * k) x ∧ sy_ap s x = sy_dg n q k := by
  obtain ⟨r, hr, r1, r2⟩ := sy_S_inv hH hs
  refine ⟨sy_ap r (sy_dg n q k), ⟨sy_co r (sy_dg n q), ⟨sy_S_co hr hq, fun v hv => ?_⟩, by rw [sy_ap_e]; rfl⟩, r2 _ (hq.1.1 k hk)⟩
  show sy_ap r (sy_dg n q v) = _
  rw [ha v hv, ← sy_ap_e s v]
  exact r1 _ (by omega)
/-- the sizes along the chain -/
theorem sy_z_s {n : Nat} (hn : n ≤ 4) {H : Nat → Prop} (hH : sy_H n H) {k : Nat} (hk : k < n) : sy_z n H k = cn_c (fun x => sy_O n H k (2 * k) x) (2 * n) * sy_z n H (k + 1) := by
  have e : sy_z n H k = cn_c (fun q => sy_K n H k q ∧ sy_dg n q k < 2 * n) (8 ^ n) :=
    cn_ext (fun q _ => ⟨fun h => ⟨h, h.1.1.1 k hk⟩, fun h => h.1⟩)
  rw [e]
  refine cn_fib (P := sy_K n H k) (h := fun q => sy_dg n q k) (fun y hy qy => ?_) (fun y hy qy => ?_)
  · have := sy_coset1 hn hH hk (sy_S_id hH) qy
    rw [sy_ap_id] at this
    exact this
  · refine cn_none (fun q _ h => qy ?_)
    obtain ⟨x, h1, h2⟩ := sy_coset0 hH hk (sy_S_id hH) (q := q) h.1.1 h.1.2
    rw [sy_ap_id] at h2
    have e2 : sy_dg n q k = y := h.2
    rw [← e2, ← h2]
    exact h1
theorem sy_z_n {n : Nat} (hn : n ≤ 4) {H : Nat → Prop} (hH : sy_H n H) : sy_z n H n = 1 := by
  obtain ⟨a, b, c⟩ := sy_C_cr hn (sy_S_id (n := n) hH)
  have e := cn_hi (P := fun _ => False) (x := sy_cr sy_id n) (fun z => z) a
  rw [cn_none (P := fun _ => False) (fun _ _ z => z), Nat.zero_add] at e
  unfold sy_z
  rw [← e]
  refine cn_ext (fun q hq => ⟨fun h => Or.inr (sy_dg_inj hq a (fun v hv => ?_)), fun h => ?_⟩)
  · rw [c v hv]; exact h.2 v hv
  · rcases h with h | h
    · exact h.elim
    · rw [h]
      exact ⟨b, fun v hv => c v hv⟩
theorem sy_z_pos {n : Nat} (hn : n ≤ 4) {H : Nat → Prop} (hH : sy_H n H) {k : Nat} (hk : k ≤ n) : 0 < sy_z n H k := by
  obtain ⟨a, b, c⟩ := sy_C_cr hn (sy_S_id (n := n) hH)
  have : cn_c (sy_K n H k) (sy_cr sy_id n) < sy_z n H k := cn_lt a ⟨b, fun v hv => c v (by omega)⟩
  omega
theorem cn_rng {P : Nat → Prop} {M : Nat} (h : ∀ k, k < M → ¬ P k) : ∀ d, cn_c P (M + d) ≤ d
  | 0 => by rw [Nat.add_zero, cn_none h]; exact Nat.le_refl _
  | d + 1 => Nat.le_trans (cn_step P (M + d)).2 (by have := cn_rng h d; omega)
theorem sy_o_le {n : Nat} {H : Nat → Prop} {k : Nat} (hk : k < n) : cn_c (fun x => sy_O n H k (2 * k) x) (2 * n) ≤ 2 * n - 2 * k := by
  have := cn_rng (P := fun x => sy_O n H k (2 * k) x) (M := 2 * k) (fun x hx z => by
    have := sy_O_ge (by omega) (by omega) (Nat.le_refl _) z
    omega) (2 * n - 2 * k)
  rw [show 2 * k + (2 * n - 2 * k) = 2 * n from by omega] at this
  exact this
theorem sy_z_le {n : Nat} (h1 : 1 ≤ n) (hn : n ≤ 4) {H : Nat → Prop} (hH : sy_H n H) : sy_z n H 0 ≤ 384 := by
  have key : ∀ k, k < n → sy_z n H k ≤ (2 * n - 2 * k) * sy_z n H (k + 1) := fun k hk => by
    rw [sy_z_s hn hH hk]
    exact Nat.mul_le_mul_right _ (sy_o_le hk)
  have e := sy_z_n hn hH
  rcases (by omega : n = 1 ∨ n = 2 ∨ n = 3 ∨ n = 4) with r | r | r | r <;> subst r
  · have a : sy_z 1 H 0 ≤ 2 * sy_z 1 H 1 := key 0 (by omega)
    omega
  · have a : sy_z 2 H 0 ≤ 4 * sy_z 2 H 1 := key 0 (by omega)
    have b : sy_z 2 H 1 ≤ 2 * sy_z 2 H 2 := key 1 (by omega)
    omega
  · have a : sy_z 3 H 0 ≤ 6 * sy_z 3 H 1 := key 0 (by omega)
    have b : sy_z 3 H 1 ≤ 4 * sy_z 3 H 2 := key 1 (by omega)
    have c : sy_z 3 H 2 ≤ 2 * sy_z 3 H 3 := key 2 (by omega)
    omega
  · have a : sy_z 4 H 0 ≤ 8 * sy_z 4 H 1 := key 0 (by omega)
    have b : sy_z 4 H 1 ≤ 6 * sy_z 4 H 2 := key 1 (by omega)
    have c : sy_z 4 H 2 ≤ 4 * sy_z 4 H 3 := key 2 (by omega)
    have d : sy_z 4 H 3 ≤ 2 * sy_z 4 H 4 := key 3 (by omega)
    omega
theorem sy_z_lo {n : Nat} {H : Nat → Prop} {j k : Nat} (h : j ≤ k) : sy_z n H k ≤ sy_z n H j := cn_mono (fun _ _ z => sy_G_lo h z)
theorem sy_z_0 (n : Nat) (H : Nat → Prop) : sy_z n H 0 = cn_c (sy_C n H) (8 ^ n) := cn_ext (fun _ _ => ⟨fun h => h.1, fun h => ⟨h, fun v hv => by omega⟩⟩)
/-- those whose first k digits are less -/
noncomputable def sy_R (n : Nat) (H : Nat → Prop) (d k : Nat) : Nat := cn_c (fun q => sy_C n H q ∧ q / 8 ^ (n - k) < d / 8 ^ (n - k)) (8 ^ n)
theorem sy_R_0 {n : Nat} {H : Nat → Prop} {d : Nat} (hd : d < 8 ^ n) : sy_R n H d 0 = 0 :=
  cn_none (fun q _ h => by have := h.2; rw [sy_pre_0 hd] at this; exact Nat.not_lt_zero _ this)
theorem cn_cut {P : Nat → Prop} {d N : Nat} (h : d ≤ N) : cn_c (fun q => P q ∧ q < d) N = cn_c P d := by
  rw [cn_top (M := d) h (fun k h1 _ z => by have := z.2; omega)]
  exact cn_ext (fun k hk => ⟨fun z => z.1, fun z => ⟨z, hk⟩⟩)
theorem sy_R_n {n : Nat} {H : Nat → Prop} {d : Nat} (hd : d < 8 ^ n) : sy_R n H d n = cn_c (sy_C n H) d := by
  rw [← cn_cut (P := sy_C n H) (Nat.le_of_lt hd)]
  exact cn_ext (fun q _ => by rw [sy_pre_n, sy_pre_n])
theorem sy_R_s {n : Nat} (hn : n ≤ 4) {H : Nat → Prop} (hH : sy_H n H) {k : Nat} (hk : k < n) {d : Nat} (hd : d < 8 ^ n) {s : Nat → Nat} (hs : sy_S n H s) (ha : ∀ v, v < k → sy_dg n d v = s v) :
    sy_R n H d (k + 1) = sy_R n H d k + cn_c (fun y => ∃ x, sy_O n H k (2 * k) x ∧ sy_ap s x = y) (sy_dg n d k) * sy_z n H (k + 1) := by
  have f := cn_fib (P := fun q => sy_C n H q ∧ ∀ v, v < k → sy_dg n q v = s v) (h := fun q => sy_dg n q k) (N := 8 ^ n) (Q := fun y => ∃ x, sy_O n H k (2 * k) x ∧ sy_ap s x = y) (c := sy_z n H (k + 1)) (g := sy_dg n d k)
    (fun y hy qy => by
      obtain ⟨x, h1, h2⟩ := qy
      rw [← h2]
      exact sy_coset1 hn hH hk hs h1)
    (fun y hy qy => cn_none (fun q _ h => qy (by
      obtain ⟨x, h1, h2⟩ := sy_coset0 hH hk hs (q := q) h.1.1 h.1.2
      exact ⟨x, h1, h2.trans h.2⟩)))
  rw [← f]
  unfold sy_R
  rw [← cn_add (P := fun q => sy_C n H q ∧ q / 8 ^ (n - k) < d / 8 ^ (n - k)) (Q := fun q => (sy_C n H q ∧ ∀ v, v < k → sy_dg n q v = s v) ∧ sy_dg n q k < sy_dg n d k)]
  · refine cn_ext (fun q hq => ?_)
    have e := sy_pre_eq hq hd (k := k) (by omega)
    rw [sy_pre_s q hk, sy_pre_s d hk] at *
    rw [sy_pre_d q hk, sy_pre_d d hk]
    constructor
    · intro h
      rcases Nat.lt_or_ge (q / 8 ^ (n - (k + 1)) / 8) (d / 8 ^ (n - (k + 1)) / 8) with z | z
      · exact Or.inl ⟨h.1, z⟩
      · have h2 := h.2
        have e2 : q / 8 ^ (n - (k + 1)) / 8 = d / 8 ^ (n - (k + 1)) / 8 := by omega
        exact Or.inr ⟨⟨h.1, fun v hv => (e.mp e2 v hv).trans (ha v hv)⟩, by omega⟩
    · intro h
      rcases h with h | h
      · exact ⟨h.1, by have := h.2; omega⟩
      · have e2 := e.mpr (fun v hv => (h.1.2 v hv).trans (ha v hv).symm)
        exact ⟨h.1.1, by have := h.2; omega⟩
  · intro q hq z w
    have e := (sy_pre_eq hq hd (k := k) (by omega)).mpr (fun v hv => (w.1.2 v hv).trans (ha v hv).symm)
    have := z.2
    omega
theorem sy_R_le {n : Nat} {H : Nat → Prop} {d k : Nat} (hd : d < 8 ^ n) (hk : k ≤ n) : sy_R n H d k ≤ cn_c (sy_C n H) d := by
  rw [← sy_R_n (H := H) hd]
  refine cn_mono (fun q _ h => ⟨h.1, ?_⟩)
  rw [sy_pre_n, sy_pre_n]
  rcases Nat.lt_or_ge q d with z | z
  · exact z
  · have := Nat.div_le_div_right (c := 8 ^ (n - k)) z
    have := h.2
    omega
theorem sy_R_lt {n : Nat} (hn : n ≤ 4) {H : Nat → Prop} (hH : sy_H n H) {d k : Nat} (hd : d < 8 ^ n) (hk : k ≤ n) (hc : sy_C n H d) : cn_c (sy_C n H) d < sy_R n H d k + sy_z n H k := by
  have a := cn_hi (P := fun q => sy_C n H q ∧ q < d) (x := d) (fun z => by have := z.2; omega) hd
  rw [cn_cut (P := sy_C n H) (Nat.le_of_lt hd)] at a
  have b := sy_coset hn hH hk hc
  have c := cn_mono (N := 8 ^ n) (P := fun q => (sy_C n H q ∧ q < d) ∨ q = d) (Q := fun q => (sy_C n H q ∧ q / 8 ^ (n - k) < d / 8 ^ (n - k)) ∨ (sy_C n H q ∧ ∀ v, v < k → sy_dg n q v = sy_dg n d v)) (fun q hq h => by
    rcases h with h | h
    · have e := sy_pre_eq hq hd hk
      have z := Nat.div_le_div_right (c := 8 ^ (n - k)) (Nat.le_of_lt h.2)
      rcases Nat.lt_or_ge (q / 8 ^ (n - k)) (d / 8 ^ (n - k)) with w | w
      · exact Or.inl ⟨h.1, w⟩
      · exact Or.inr ⟨h.1, e.mp (by omega)⟩
    · rw [h]; exact Or.inr ⟨hc, fun _ _ => rfl⟩)
  have f := cn_add (N := 8 ^ n) (P := fun q => sy_C n H q ∧ q / 8 ^ (n - k) < d / 8 ^ (n - k)) (Q := fun q => sy_C n H q ∧ ∀ v, v < k → sy_dg n q v = sy_dg n d v) (fun q hq z w => by
    have e := (sy_pre_eq hq hd hk).mpr w.2
    have := z.2
    omega)
  rw [f, b] at c
  unfold sy_R
  omega
end
section
/-! closed sets of tuples, generators, partitions of the literals -/
def sy_Cl (n : Nat) (C : (Nat → Nat) → Prop) : Prop := (∀ s t, (∀ v, v < n → s v = t v) → C s → C t) ∧ C sy_id ∧ (∀ s t, C s → C t → C (sy_co s t))
def sy_Gen (n : Nat) (H : Nat → Prop) (k : Nat) (gs : Nat → Nat → Nat) (c : Nat) : Prop := ∀ C, sy_Cl n C → (∀ g, g < c → C (gs g)) → ∀ t, sy_G n H k t → C t
theorem sy_Gen_n (n : Nat) (H : Nat → Prop) (gs : Nat → Nat → Nat) (c : Nat) : sy_Gen n H n gs c :=
  fun _ hC _ t ht => hC.1 sy_id t (fun v hv => (ht.2 v hv).symm) hC.2.1
theorem sy_Gen_up {n : Nat} {H : Nat → Prop} {k : Nat} {gs gs' : Nat → Nat → Nat} {c c' : Nat} (hc : c ≤ c') (hg : ∀ g, g < c → gs' g = gs g) (h : sy_Gen n H k gs c) : sy_Gen n H k gs' c' :=
  fun C hC h1 t ht => h C hC (fun g hgc => by rw [← hg g hgc]; exact h1 g (by omega)) t ht
theorem sy_Gen_s {n : Nat} {H : Nat → Prop} (hH : sy_H n H) {k : Nat} (hk : k < n) {gs : Nat → Nat → Nat} {c : Nat} (h : sy_Gen n H (k + 1) gs c)
    (hT : ∀ x, sy_O n H k (2 * k) x → ∃ w, sy_G n H k w ∧ w k = x ∧ ∀ C, sy_Cl n C → (∀ g, g < c → C (gs g)) → C w) : sy_Gen n H k gs c := by
  intro C hC hg t ht
  obtain ⟨w, hw, e, hc⟩ := hT (t k) ⟨t, ht, sy_ap_e t k⟩
  obtain ⟨r, hr, r1, r2⟩ := sy_G_inv hH (by omega) hw
  have hq : sy_G n H (k + 1) (sy_co r t) := by
    refine ⟨sy_S_co hr.1 ht.1, fun v hv => ?_⟩
    show sy_ap r (t v) = _
    by_cases z : v = k
    · rw [z, ← e, ← sy_ap_e w k]; exact r1 _ (by omega)
    · rw [ht.2 v (by omega), sy_ap_e]; exact hr.2 v (by omega)
  refine hC.1 (sy_co w (sy_co r t)) t (fun v hv => ?_) (hC.2.2 _ _ (hc C hC hg) (h C hC hg _ hq))
  show sy_ap w (sy_ap r (t v)) = t v
  exact r2 _ (ht.1.1.1 v hv)
def sy_Eq (n : Nat) (σ : Nat → Nat → Prop) : Prop := (∀ l, l < 2 * n → σ l l) ∧ (∀ l j, l < 2 * n → j < 2 * n → σ l j → σ j l) ∧ (∀ l j i, l < 2 * n → j < 2 * n → i < 2 * n → σ l j → σ j i → σ l i)
def sy_P (n : Nat) (ρ : Nat → Nat → Prop) : Prop := sy_Eq n ρ ∧ (∀ l j, l < 2 * n → ρ l j → j < 2 * n)
theorem sy_O_P {n : Nat} {H : Nat → Prop} (hH : sy_H n H) {k : Nat} (hk : k ≤ n) : sy_P n (sy_O n H k) :=
  ⟨⟨fun l _ => sy_O_rf hH k l, fun _ _ hl _ h => sy_O_sy hH hk hl h, fun _ _ _ _ _ _ h1 h2 => sy_O_tr h1 h2⟩, fun _ _ hl h => sy_O_lt hl h⟩
def sy_J (ρ : Nat → Nat → Prop) (x y : Nat) (l j : Nat) : Prop := ((ρ x l ∨ ρ y l) ∧ (ρ x j ∨ ρ y j)) ∨ (¬ (ρ x l ∨ ρ y l) ∧ ρ l j)
theorem sy_J_u {n : Nat} {ρ : Nat → Nat → Prop} (h : sy_P n ρ) {x y l j : Nat} (hx : x < 2 * n) (hy : y < 2 * n) (hl : l < 2 * n) (hj : j < 2 * n) (e : ρ l j) (u : ρ x l ∨ ρ y l) : ρ x j ∨ ρ y j := by
  rcases u with u | u
  · exact Or.inl (h.1.2.2 x l j hx hl hj u e)
  · exact Or.inr (h.1.2.2 y l j hy hl hj u e)
theorem sy_J_P {n : Nat} {ρ : Nat → Nat → Prop} (h : sy_P n ρ) {x y : Nat} (hx : x < 2 * n) (hy : y < 2 * n) : sy_P n (sy_J ρ x y) := by
  refine ⟨⟨fun l hl => ?_, fun l j hl hj e => ?_, fun l j i hl hj hi e1 e2 => ?_⟩, fun l j hl e => ?_⟩
  · rcases Classical.em (ρ x l ∨ ρ y l) with u | u
    · exact Or.inl ⟨u, u⟩
    · exact Or.inr ⟨u, h.1.1 l hl⟩
  · rcases e with e | e
    · exact Or.inl ⟨e.2, e.1⟩
    · have e2 := h.1.2.1 l j hl hj e.2
      exact Or.inr ⟨fun u => e.1 (sy_J_u h hx hy hj hl e2 u), e2⟩
  · rcases e1 with e1 | e1
    · rcases e2 with e2 | e2
      · exact Or.inl ⟨e1.1, e2.2⟩
      · exact absurd e1.2 e2.1
    · rcases e2 with e2 | e2
      · exact absurd (sy_J_u h hx hy hj hl (h.1.2.1 l j hl hj e1.2) e2.1) e1.1
      · exact Or.inr ⟨e1.1, h.1.2.2 l j i hl hj hi e1.2 e2.2⟩
  · rcases e with e | e
    · rcases e.2 with u | u
      · exact h.2 x j hx u
      · exact h.2 y j hy u
    · exact h.2 l j hl e.2
theorem sy_J_sub {n : Nat} {ρ : Nat → Nat → Prop} (h : sy_P n ρ) {x y : Nat} (hx : x < 2 * n) (hy : y < 2 * n) {l j : Nat} (hl : l < 2 * n) (e : ρ l j) : sy_J ρ x y l j := by
  rcases Classical.em (ρ x l ∨ ρ y l) with u | u
  · exact Or.inl ⟨u, sy_J_u h hx hy hl (h.2 l j hl e) e u⟩
  · exact Or.inr ⟨u, e⟩
theorem sy_J_xy {n : Nat} {ρ : Nat → Nat → Prop} (h : sy_P n ρ) {x y : Nat} (hx : x < 2 * n) (hy : y < 2 * n) : sy_J ρ x y x y := Or.inl ⟨Or.inl (h.1.1 x hx), Or.inr (h.1.1 y hy)⟩
theorem sy_J_le {n : Nat} {ρ σ : Nat → Nat → Prop} (h : sy_P n ρ) (hσ : sy_Eq n σ) (hs : ∀ l j, l < 2 * n → ρ l j → σ l j) {x y : Nat} (hx : x < 2 * n) (hy : y < 2 * n) (hxy : σ x y) : ∀ l j, l < 2 * n → sy_J ρ x y l j → σ l j := by
  intro l j hl e
  rcases e with ⟨u1, u2⟩ | e
  · have a : σ l x := by
      rcases u1 with u | u
      · exact hσ.2.1 x l hx hl (hs x l hx u)
      · exact hσ.2.2 l y x hl hy hx (hσ.2.1 y l hy hl (hs y l hy u)) (hσ.2.1 x y hx hy hxy)
    rcases u2 with u | u
    · exact hσ.2.2 l x j hl hx (h.2 x j hx u) a (hs x j hx u)
    · exact hσ.2.2 l x j hl hx (h.2 y j hy u) a (hσ.2.2 x y j hx hy (h.2 y j hy u) hxy (hs y j hy u))
  · exact hs l j hl e.2
/-- no coarser than the generators make it -/
def sy_Lst (n : Nat) (gs : Nat → Nat → Nat) (c : Nat) (ρ : Nat → Nat → Prop) : Prop := ∀ σ, sy_Eq n σ → (∀ g, g < c → ∀ l, l < 2 * n → σ l (sy_ap (gs g) l)) → ∀ l j, l < 2 * n → ρ l j → σ l j
theorem sy_Lst_up {n : Nat} {gs gs' : Nat → Nat → Nat} {c c' : Nat} {ρ : Nat → Nat → Prop} (hc : c ≤ c') (hg : ∀ g, g < c → gs' g = gs g) (h : sy_Lst n gs c ρ) : sy_Lst n gs' c' ρ :=
  fun σ hσ h1 => h σ hσ (fun g hgc l hl => by rw [← hg g hgc]; exact h1 g (by omega) l hl)
theorem sy_Lst_J {n : Nat} {gs : Nat → Nat → Nat} {c : Nat} {ρ : Nat → Nat → Prop} (hP : sy_P n ρ) (h : sy_Lst n gs c ρ) {g x : Nat} (hg : g < c) (hx : x < 2 * n) (hb : sy_B n (gs g)) : sy_Lst n gs c (sy_J ρ x (sy_ap (gs g) x)) :=
  fun σ hσ h1 => sy_J_le hP hσ (h σ hσ h1) hx (sy_ap_lt hb.1 hx) (h1 g hg x hx)
/-- the stabiliser's partition is no coarser than its generators make it -/
theorem sy_Lst_O {n : Nat} {H : Nat → Prop} {k : Nat} {gs : Nat → Nat → Nat} {c : Nat} (hb : ∀ g, g < c → sy_B n (gs g)) (h : sy_Gen n H k gs c) : sy_Lst n gs c (sy_O n H k) := by
  intro σ hσ h1 l j hl e
  obtain ⟨t, ht, e⟩ := e
  have := h (fun t => sy_B n t ∧ ∀ l, l < 2 * n → σ l (sy_ap t l)) ⟨fun s t he hs => ⟨sy_B_ext he hs.1, fun l hl => by rw [← sy_ap_ext he hl]; exact hs.2 l hl⟩, ⟨sy_B_id n, fun l hl => by rw [sy_ap_id]; exact hσ.1 l hl⟩, fun s t hs ht => ⟨sy_B_co hs.1 ht.1, fun l hl => by
    rw [sy_ap_co]
    have a := sy_ap_lt ht.1.1 hl
    exact hσ.2.2 l _ _ hl a (sy_ap_lt hs.1.1 a) (ht.2 l hl) (hs.2 _ a)⟩⟩ (fun g hg => ⟨hb g hg, h1 g hg⟩) t ht
  rw [← e]
  exact this.2 l hl
/-- a set closed under the generators holds a whole class -/
theorem sy_reach {n : Nat} {gs : Nat → Nat → Nat} {c : Nat} {ρ : Nat → Nat → Prop} (hb : ∀ g, g < c → sy_B n (gs g)) (h : sy_Lst n gs c ρ) {rd : Nat → Prop} (hc : ∀ x, x < 2 * n → rd x → ∀ g, g < c → rd (sy_ap (gs g) x)) {l j : Nat} (hl : l < 2 * n) (h0 : rd l) (e : ρ l j) : rd j := by
  refine (h (fun l j => rd l ↔ rd j) ⟨fun _ _ => Iff.rfl, fun _ _ _ _ z => z.symm, fun _ _ _ _ _ _ z w => z.trans w⟩ (fun g hg l hl => ⟨fun z => hc l hl z g hg, fun z => ?_⟩) l j hl e).mp h0
  obtain ⟨x, h1, h2, h3⟩ := cn_onto (P := rd) (N := 2 * n) (f := sy_ap (gs g)) (fun x hx px => ⟨sy_ap_lt (hb g hg).1 hx, hc x hx px g hg⟩) (fun x y hx hy _ _ e => sy_ap_inj (hb g hg) hx hy e) (sy_ap_lt (hb g hg).1 hl) z
  rw [← sy_ap_inj (hb g hg) h1 hl h3]
  exact h2
theorem sy_full {n : Nat} {H : Nat → Prop} {k : Nat} {gs : Nat → Nat → Nat} {c : Nat} (hb : ∀ g, g < c → sy_B n (gs g)) (h : sy_Gen n H k gs c) {ρ : Nat → Nat → Prop} (hP : sy_P n ρ) (he : ∀ g, g < c → ∀ l, l < 2 * n → ρ l (sy_ap (gs g) l)) {l j : Nat} (hl : l < 2 * n) (e : sy_O n H k l j) : ρ l j :=
  sy_Lst_O hb h ρ hP.1 he l j hl e
theorem sy_sound {n : Nat} {H : Nat → Prop} (hH : sy_H n H) {k : Nat} (hk : k ≤ n) {gs : Nat → Nat → Nat} {c : Nat} (hg : ∀ g, g < c → sy_G n H k (gs g)) {ρ : Nat → Nat → Prop} (h : sy_Lst n gs c ρ) {l j : Nat} (hl : l < 2 * n) (e : ρ l j) : sy_O n H k l j :=
  h (sy_O n H k) (sy_O_P hH hk).1 (fun g hgc l _ => ⟨gs g, hg g hgc, rfl⟩) l j hl e
end
section
/-! assignments -/
def sy_tr (n a l : Nat) : Prop := a / 2 ^ (n - 1 - l / 2) % 2 ≠ l % 2
theorem sy_tr_fl (n a l : Nat) : sy_tr n a (sy_fl l) ↔ ¬ sy_tr n a l := by
  unfold sy_tr
  rw [sy_fl_d, sy_fl_m]
  have := Nat.mod_lt (a / 2 ^ (n - 1 - l / 2)) (show 0 < 2 by decide)
  omega
theorem sy_tr_e (n a v : Nat) : sy_tr n a (2 * v) ↔ a.testBit (n - 1 - v) = true := by
  unfold sy_tr
  rw [Nat.testBit_eq_decide_div_mod_eq, decide_eq_true_eq, show 2 * v / 2 = v from by omega]
  have := Nat.mod_lt (a / 2 ^ (n - 1 - v)) (show 0 < 2 by decide)
  omega
theorem sy_tr_o (n a v : Nat) : sy_tr n a (2 * v + 1) ↔ ¬ a.testBit (n - 1 - v) = true := by
  rw [← sy_fl_e, sy_tr_fl, sy_tr_e]
theorem sy_tr_inj {n a b : Nat} (ha : a < 2 ^ n) (hb : b < 2 ^ n) (h : ∀ v, v < n → (sy_tr n a (2 * v) ↔ sy_tr n b (2 * v))) : a = b := by
  apply sy_eqb
  intro i
  rcases Nat.lt_or_ge i n with z | z
  · have := h (n - 1 - i) (by omega)
    rw [sy_tr_e, sy_tr_e, show n - 1 - (n - 1 - i) = i from by omega] at this
    exact this
  · constructor
    · intro w; have := sy_bit_lt ha w; omega
    · intro w; have := sy_bit_lt hb w; omega
theorem sy_mk (f : Nat → Prop) : ∀ N, ∃ b, b < 2 ^ N ∧ ∀ i, i < N → (b.testBit i = true ↔ f i)
  | 0 => ⟨0, by decide, fun i hi => by omega⟩
  | N + 1 => by
    obtain ⟨b, h1, h2⟩ := sy_mk f N
    have p : 2 ^ (N + 1) = 2 ^ N * 2 := Nat.pow_succ 2 N
    rcases Classical.em (f N) with z | z
    · refine ⟨b ||| 2 ^ N, ?_, fun i hi => ?_⟩
      · exact Nat.or_lt_two_pow (by omega) (by have := Nat.two_pow_pos N; omega)
      · rw [Nat.testBit_or, Nat.testBit_two_pow, Bool.or_eq_true, decide_eq_true_eq]
        rcases Nat.lt_or_ge i N with w | w
        · rw [h2 i w]
          exact ⟨fun q => q.elim id (fun e => by omega), Or.inl⟩
        · have e : i = N := by omega
          rw [e]
          exact ⟨fun _ => z, fun _ => Or.inr rfl⟩
    · refine ⟨b, by omega, fun i hi => ?_⟩
      rcases Nat.lt_or_ge i N with w | w
      · exact h2 i w
      · have e : i = N := by omega
        rw [e]
        exact ⟨fun q => by have := sy_bit_lt h1 q; omega, fun q => absurd q z⟩
def sy_A (n : Nat) (t : Nat → Nat) (a b : Nat) : Prop := b < 2 ^ n ∧ ∀ l, l < 2 * n → (sy_tr n b (sy_ap t l) ↔ sy_tr n a l)
theorem sy_A_of {n : Nat} {t : Nat → Nat} {a b : Nat} (hb : b < 2 ^ n) (h : ∀ v, v < n → (sy_tr n b (t v) ↔ sy_tr n a (2 * v))) : sy_A n t a b := by
  refine ⟨hb, fun l hl => ?_⟩
  have a1 := h (l / 2) (by omega)
  by_cases z : l % 2 = 0
  · rw [sy_ap_0 z, a1, show 2 * (l / 2) = l from by omega]
  · rw [sy_ap_1 z, sy_tr_fl, a1, ← sy_tr_fl, sy_fl_e, show 2 * (l / 2) + 1 = l from by omega]
theorem sy_A_y {n : Nat} {t : Nat → Nat} (ht : sy_B n t) {a b : Nat} (hb : b < 2 ^ n) (h : ∀ w, w < n → (b.testBit (n - 1 - w) = true ↔ ∃ l, l < 2 * n ∧ sy_tr n a l ∧ sy_ap t l = 2 * w)) : sy_A n t a b := by
  refine sy_A_of hb (fun v hv => ?_)
  have lt := ht.1 v hv
  have hw := h (t v / 2) (by omega)
  rw [← sy_tr_e] at hw
  by_cases z : t v % 2 = 0
  · rw [show 2 * (t v / 2) = t v from by omega] at hw
    rw [hw]
    constructor
    · rintro ⟨l, h1, h2, h3⟩
      have e : l = 2 * v := sy_ap_inj ht h1 (by omega) (by rw [h3, sy_ap_e])
      rw [← e]; exact h2
    · intro q
      exact ⟨2 * v, by omega, q, sy_ap_e t v⟩
  · have e : t v = sy_fl (2 * (t v / 2)) := by unfold sy_fl; omega
    rw [e, sy_tr_fl, hw]
    have e2 : sy_ap t (2 * v + 1) = 2 * (t v / 2) := by rw [sy_ap_o]; unfold sy_fl; omega
    constructor
    · intro q
      rcases Classical.em (sy_tr n a (2 * v)) with w | w
      · exact w
      · exact absurd ⟨2 * v + 1, by omega, by rw [← sy_fl_e, sy_tr_fl]; exact w, e2⟩ q
    · rintro q ⟨l, h1, h2, h3⟩
      have e3 : l = 2 * v + 1 := sy_ap_inj ht h1 (by omega) (h3.trans e2.symm)
      rw [e3, ← sy_fl_e, sy_tr_fl] at h2
      exact h2 q
theorem sy_A_x {n : Nat} {t : Nat → Nat} (ht : sy_B n t) {a b : Nat} (hb : b < 2 ^ n) (h : ∀ w, w < n → (b.testBit (n - 1 - w) = true ↔ ∃ v, v < n ∧ t v / 2 = w ∧ a / 2 ^ (n - 1 - v) % 2 ≠ t v % 2)) : sy_A n t a b := by
  refine sy_A_of hb (fun v hv => ?_)
  have lt := ht.1 v hv
  have hw := h (t v / 2) (by omega)
  have h2 : (∃ v', v' < n ∧ t v' / 2 = t v / 2 ∧ a / 2 ^ (n - 1 - v') % 2 ≠ t v' % 2) ↔ a / 2 ^ (n - 1 - v) % 2 ≠ t v % 2 := by
    constructor
    · rintro ⟨v', h1, h2, h3⟩
      rw [ht.2 v' v h1 hv h2] at h3
      exact h3
    · intro q
      exact ⟨v, hv, rfl, q⟩
  rw [h2, ← sy_tr_e] at hw
  unfold sy_tr at hw ⊢
  rw [show 2 * (t v / 2) / 2 = t v / 2 from by omega] at hw
  rw [show 2 * v / 2 = v from by omega]
  have := Nat.mod_lt (a / 2 ^ (n - 1 - v)) (show 0 < 2 by decide)
  have := Nat.mod_lt (b / 2 ^ (n - 1 - t v / 2)) (show 0 < 2 by decide)
  clear h h2
  omega
theorem sy_A_ex {n : Nat} {t : Nat → Nat} (ht : sy_B n t) (a : Nat) : ∃ b, sy_A n t a b := by
  obtain ⟨b, h1, h2⟩ := sy_mk (fun i => ∃ l, l < 2 * n ∧ sy_tr n a l ∧ sy_ap t l = 2 * (n - 1 - i)) n
  refine ⟨b, sy_A_y ht h1 (fun w hw => ?_)⟩
  rw [h2 (n - 1 - w) (by omega), show n - 1 - (n - 1 - w) = w from by omega]
theorem sy_A_uniq {n : Nat} {t : Nat → Nat} (ht : sy_B n t) {a b c : Nat} (h1 : sy_A n t a b) (h2 : sy_A n t a c) : b = c := by
  refine sy_tr_inj h1.1 h2.1 (fun v hv => ?_)
  obtain ⟨l, hl, e⟩ := sy_ap_sur ht (j := 2 * v) (by omega)
  rw [← e, h1.2 l hl, h2.2 l hl]
theorem sy_A_id {n a : Nat} (ha : a < 2 ^ n) : sy_A n sy_id a a := ⟨ha, fun l _ => by rw [sy_ap_id]⟩
theorem sy_A_co {n : Nat} {s t : Nat → Nat} (ht : ∀ v, v < n → t v < 2 * n) {a b c : Nat} (h1 : sy_A n t a b) (h2 : sy_A n s b c) : sy_A n (sy_co s t) a c :=
  ⟨h2.1, fun l hl => by rw [sy_ap_co, h2.2 _ (sy_ap_lt ht hl), h1.2 l hl]⟩
theorem sy_A_ext {n : Nat} {s t : Nat → Nat} (h : ∀ v, v < n → s v = t v) {a b : Nat} (hs : sy_A n s a b) : sy_A n t a b :=
  ⟨hs.1, fun l hl => by rw [← sy_ap_ext h hl]; exact hs.2 l hl⟩
/-- one orbit of assignments -/
def sy_Q (n : Nat) (H : Nat → Prop) (a b : Nat) : Prop := ∃ t, sy_S n H t ∧ sy_A n t a b
theorem sy_Q_rf {n : Nat} {H : Nat → Prop} (hH : sy_H n H) {a : Nat} (ha : a < 2 ^ n) : sy_Q n H a a := ⟨sy_id, sy_S_id hH, sy_A_id ha⟩
theorem sy_Q_tr {n : Nat} {H : Nat → Prop} {a b c : Nat} (h1 : sy_Q n H a b) (h2 : sy_Q n H b c) : sy_Q n H a c := by
  obtain ⟨t, ht, e⟩ := h1
  obtain ⟨s, hs, e2⟩ := h2
  exact ⟨sy_co s t, sy_S_co hs ht, sy_A_co ht.1.1 e e2⟩
theorem sy_Q_sy {n : Nat} {H : Nat → Prop} (hH : sy_H n H) {a b : Nat} (ha : a < 2 ^ n) (h : sy_Q n H a b) : sy_Q n H b a := by
  obtain ⟨t, ht, e⟩ := h
  obtain ⟨s, hs, h1, h2⟩ := sy_S_inv hH ht
  exact ⟨s, hs, ha, fun l hl => by rw [← e.2 _ (sy_ap_lt hs.1.1 hl), h2 l hl]⟩
theorem sy_Q_lt {n : Nat} {H : Nat → Prop} {a b : Nat} (h : sy_Q n H a b) : b < 2 ^ n := by
  obtain ⟨t, _, e⟩ := h
  exact e.1
/-- the least of an orbit -/
def sy_L (n : Nat) (H : Nat → Prop) (a b : Nat) : Prop := sy_Q n H a b ∧ ∀ c, sy_Q n H a c → b ≤ c
theorem sy_L_uniq {n : Nat} {H : Nat → Prop} {a b c : Nat} (h1 : sy_L n H a b) (h2 : sy_L n H a c) : b = c :=
  Nat.le_antisymm (h1.2 c h2.1) (h2.2 b h1.1)
/-- leaders while they are joined -/
def sy_D (n : Nat) (H : Nat → Prop) (ld : Nat → Nat) : Prop := ∀ a, a < 16 → ld a ≤ a ∧ ld (ld a) = ld a ∧ (a < 2 ^ n → sy_Q n H a (ld a)) ∧ (2 ^ n ≤ a → ld a = a)
def sy_jn (ld : Nat → Nat) (p q : Nat) : Nat → Nat := fun a => if ld a = p ∨ ld a = q then (if p < q then p else q) else ld a
theorem sy_D_0 {n : Nat} {H : Nat → Prop} (hH : sy_H n H) : sy_D n H (fun a => a) := fun _ _ => ⟨Nat.le_refl _, rfl, fun h => sy_Q_rf hH h, fun _ => rfl⟩
theorem sy_jn_eq {ld : Nat → Nat} {p q a b : Nat} (h : ld a = ld b) : sy_jn ld p q a = sy_jn ld p q b := by
  unfold sy_jn
  rw [h]
theorem sy_jn_xy (ld : Nat → Nat) (x y : Nat) : sy_jn ld (ld x) (ld y) x = sy_jn ld (ld x) (ld y) y := by
  unfold sy_jn
  rw [if_pos (Or.inl rfl), if_pos (Or.inr rfl)]
theorem sy_D_j {n : Nat} (hn : n ≤ 4) {H : Nat → Prop} (hH : sy_H n H) {ld : Nat → Nat} (h : sy_D n H ld) {x y : Nat} (hx : x < 2 ^ n) (hxy : sy_Q n H x y) : sy_D n H (sy_jn ld (ld x) (ld y)) := by
  have h16 : 2 ^ n ≤ 16 := Nat.pow_le_pow_right (show 0 < 2 by decide) hn
  have hy := sy_Q_lt hxy
  have X := h x (by omega)
  have Y := h y (by omega)
  have qx := X.2.2.1 hx
  have qy := Y.2.2.1 hy
  have lx := sy_Q_lt qx
  have ly := sy_Q_lt qy
  have qxy : sy_Q n H (ld x) (ld y) := sy_Q_tr (sy_Q_sy hH hx qx) (sy_Q_tr hxy qy)
  intro a ha
  have A := h a ha
  by_cases u : ld a = ld x ∨ ld a = ld y
  · have big : a < 2 ^ n := by
      rcases Nat.lt_or_ge a (2 ^ n) with z | z
      · exact z
      · have := A.2.2.2 z
        rcases u with u | u <;> omega
    have qa := A.2.2.1 big
    have e : sy_jn ld (ld x) (ld y) a = if ld x < ld y then ld x else ld y := if_pos u
    have qz : sy_Q n H a (ld x) ∧ sy_Q n H a (ld y) := by
      rcases u with u | u
      · rw [u] at qa
        exact ⟨qa, sy_Q_tr qa qxy⟩
      · rw [u] at qa
        exact ⟨sy_Q_tr qa (sy_Q_sy hH lx qxy), qa⟩
    rw [e]
    by_cases w : ld x < ld y
    · rw [if_pos w]
      refine ⟨by rcases u with u | u <;> omega, ?_, fun _ => qz.1, fun z => by omega⟩
      show (if ld (ld x) = ld x ∨ ld (ld x) = ld y then (if ld x < ld y then ld x else ld y) else ld (ld x)) = _
      rw [if_pos (Or.inl X.2.1), if_pos w]
    · rw [if_neg w]
      refine ⟨by rcases u with u | u <;> omega, ?_, fun _ => qz.2, fun z => by omega⟩
      show (if ld (ld y) = ld x ∨ ld (ld y) = ld y then (if ld x < ld y then ld x else ld y) else ld (ld y)) = _
      rw [if_pos (Or.inr Y.2.1), if_neg w]
  · have e : sy_jn ld (ld x) (ld y) a = ld a := if_neg u
    rw [e]
    refine ⟨A.1, ?_, A.2.2.1, A.2.2.2⟩
    show (if ld (ld a) = ld x ∨ ld (ld a) = ld y then (if ld x < ld y then ld x else ld y) else ld (ld a)) = _
    rw [A.2.1, if_neg u]
/-- when every generator keeps the leaders they are the least of the orbits -/
theorem sy_D_L {n : Nat} (hn : n ≤ 4) {H : Nat → Prop} {gs : Nat → Nat → Nat} {c : Nat} (hb : ∀ g, g < c → sy_B n (gs g)) (hg : sy_Gen n H 0 gs c) {ld : Nat → Nat} (h : sy_D n H ld) (he : ∀ g, g < c → ∀ a b, a < 2 ^ n → sy_A n (gs g) a b → ld a = ld b) {a : Nat} (ha : a < 2 ^ n) : sy_L n H a (ld a) := by
  have h16 : 2 ^ n ≤ 16 := Nat.pow_le_pow_right (show 0 < 2 by decide) hn
  refine ⟨(h a (by omega)).2.2.1 ha, fun b hb2 => ?_⟩
  obtain ⟨t, ht, e⟩ := hb2
  have key := hg (fun t => sy_B n t ∧ ∀ a b, a < 2 ^ n → sy_A n t a b → ld a = ld b)
    ⟨fun s t hst hs => ⟨sy_B_ext hst hs.1, fun a b ha hab => hs.2 a b ha (sy_A_ext (fun v hv => (hst v hv).symm) hab)⟩,
     ⟨sy_B_id n, fun a b ha hab => by rw [sy_A_uniq (sy_B_id n) hab (sy_A_id ha)]⟩,
     fun s t hs ht => ⟨sy_B_co hs.1 ht.1, fun a b ha hab => by
       obtain ⟨m, hm⟩ := sy_A_ex ht.1 a
       obtain ⟨z, hz⟩ := sy_A_ex hs.1 m
       rw [sy_A_uniq (sy_B_co hs.1 ht.1) hab (sy_A_co ht.1.1 hm hz), ht.2 a m ha hm, hs.2 m z hm.1 hz]⟩⟩
    (fun g hgc => ⟨hb g hgc, he g hgc⟩) t ⟨ht, fun v hv => by omega⟩
  have l := sy_Q_lt (n := n) (H := H) ⟨t, ht, e⟩
  rw [key.2 a b ha e]
  exact (h b (by omega)).1
end
section
/-! sums of ints; the colours -/
def sm_s (f : Nat → Int32) : Nat → Int32
  | 0 => 0
  | N + 1 => sm_s f N + f N
theorem sm_ext {f g : Nat → Int32} : ∀ {N : Nat}, (∀ i, i < N → f i = g i) → sm_s f N = sm_s g N
  | 0, _ => rfl
  | N + 1, h => by
    show sm_s f N + f N = sm_s g N + g N
    rw [sm_ext (fun i hi => h i (by omega)), h N (by omega)]
theorem sm_zero {f : Nat → Int32} : ∀ {N : Nat}, (∀ i, i < N → f i = 0) → sm_s f N = 0
  | 0, _ => rfl
  | N + 1, h => by
    show sm_s f N + f N = 0
    rw [sm_zero (fun i hi => h i (by omega)), h N (by omega)]
    rfl
theorem sm_4 (a b c d : Int32) : (a + b) + (c + d) = (a + c) + (b + d) := by
  rw [Int32.add_assoc, Int32.add_assoc, ← Int32.add_assoc b c d, Int32.add_comm b c, Int32.add_assoc c b d]
theorem sm_add (f g : Nat → Int32) : ∀ N, sm_s (fun i => f i + g i) N = sm_s f N + sm_s g N
  | 0 => rfl
  | N + 1 => by
    show sm_s (fun i => f i + g i) N + (f N + g N) = (sm_s f N + f N) + (sm_s g N + g N)
    rw [sm_add f g N, sm_4]
theorem sm_swap (F : Nat → Nat → Int32) (M : Nat) : ∀ N, sm_s (fun i => sm_s (fun j => F i j) M) N = sm_s (fun j => sm_s (fun i => F i j) N) M
  | 0 => (sm_zero (fun _ _ => rfl)).symm
  | N + 1 => by
    show sm_s (fun i => sm_s (fun j => F i j) M) N + sm_s (fun j => F N j) M = _
    rw [sm_swap F M N, ← sm_add]
    rfl
theorem sm_one {f : Nat → Int32} {a : Nat} : ∀ {N : Nat}, a < N → sm_s (fun j => if j = a then f j else 0) N = f a
  | 0, h => by omega
  | N + 1, h => by
    show sm_s (fun j => if j = a then f j else 0) N + (if N = a then f N else 0) = _
    by_cases e : N = a
    · rw [if_pos e, sm_zero (fun i hi => if_neg (by omega)), e, Int32.zero_add]
    · rw [if_neg e, sm_one (by omega), Int32.add_zero]
theorem sm_perm {f : Nat → Int32} {p : Nat → Nat} {N : Nat} (h : ∀ i, i < N → p i < N) (hi : ∀ i j, i < N → j < N → p i = p j → i = j) : sm_s (fun i => f (p i)) N = sm_s f N := by
  have e : sm_s (fun i => f (p i)) N = sm_s (fun i => sm_s (fun j => if j = p i then f j else 0) N) N :=
    sm_ext (fun i hi => (sm_one (f := f) (h i hi)).symm)
  rw [e, sm_swap]
  refine sm_ext (fun j hj => ?_)
  obtain ⟨i0, h0, e0⟩ := cn_pig h hi hj
  have e2 : sm_s (fun i => if j = p i then f j else 0) N = sm_s (fun i => if i = i0 then (fun _ => f j) i else 0) N := by
    refine sm_ext (fun i hii => ?_)
    by_cases z : i = i0
    · rw [if_pos z, if_pos (by rw [z, e0])]
    · rw [if_neg z, if_neg (fun w => z (hi i i0 hii h0 (by rw [e0, w])))]
  rw [e2]
  exact sm_one (f := fun _ => f j) h0
def sm_y (x : Int32) : Int32 := ((x ^^^ ((x.toUInt32 >>> ((15 : Int32).toUInt32 &&& Int32.toUInt32 31)).toInt32)) * 739982445) + 1013904223
def sm_c (x : Int32) : Int32 := (sm_y x ^^^ (((sm_y x).toUInt32 >>> ((12 : Int32).toUInt32 &&& Int32.toUInt32 31)).toInt32)) * 695872825
/-- a clause's sum, and its signature -/
def sm_u (co : Nat → Int32) (m : Nat) (L : Nat) : Int32 := sm_s (fun l => if m.testBit l = true then sm_c (co l) else 0) L
def sm_g (n : Nat) (co : Nat → Int32) (m : Nat) : Int32 := sm_c (sm_u co m (2 * n))
/-- one round of the refinement -/
def sm_r (n : Nat) (ms : Nat → Nat) (co : Nat → Int32) (c l : Nat) : Int32 := (3 * sm_c (co l) + 7 * sm_c (co (sy_fl l))) + sm_s (fun c => if (ms c).testBit l = true then sm_g n co (ms c) else 0) c
/-- colours that a tuple keeps -/
def sm_K (n : Nat) (t : Nat → Nat) (co : Nat → Int32) : Prop := ∀ l, l < 2 * n → co (sy_ap t l) = co l
theorem sm_mb {n : Nat} {t : Nat → Nat} (ht : sy_B n t) {m l : Nat} (hl : l < 2 * n) : (sy_mm n t m).testBit (sy_ap t l) = m.testBit l := by
  apply Bool.eq_iff_iff.mpr
  rw [sy_mm_b]
  constructor
  · rintro ⟨j, h1, h2, h3⟩
    rw [← sy_ap_inj ht h1 hl h3]; exact h2
  · intro h
    exact ⟨l, hl, h, rfl⟩
theorem sm_g_k {n : Nat} {t : Nat → Nat} (ht : sy_B n t) {co : Nat → Int32} (hk : sm_K n t co) (m : Nat) : sm_g n co (sy_mm n t m) = sm_g n co m := by
  unfold sm_g sm_u
  rw [← sm_perm (f := fun l => if (sy_mm n t m).testBit l = true then sm_c (co l) else 0) (p := sy_ap t) (fun i hi => sy_ap_lt ht.1 hi) (fun i j hi hj e => sy_ap_inj ht hi hj e)]
  apply congrArg sm_c
  refine sm_ext (fun l hl => ?_)
  show (if (sy_mm n t m).testBit (sy_ap t l) = true then sm_c (co (sy_ap t l)) else 0) = _
  rw [sm_mb ht hl, hk l hl]
/-- the held masks as a list without repeats -/
def sm_E (H : Nat → Prop) (cc : Nat) (ms : Nat → Nat) : Prop := (∀ c, c < cc → H (ms c)) ∧ (∀ c d, c < cc → d < cc → ms c = ms d → c = d) ∧ (∀ m, H m → ∃ c, c < cc ∧ ms c = m)
theorem sm_r_k {n : Nat} {H : Nat → Prop} (hH : sy_H n H) {cc : Nat} {ms : Nat → Nat} (hE : sm_E H cc ms) {t : Nat → Nat} (ht : sy_S n H t) {co : Nat → Int32} (hk : sm_K n t co) : sm_K n t (sm_r n ms co cc) := by
  intro l hl
  unfold sm_r
  rw [← sy_ap_fl, hk l hl, hk (sy_fl l) (sy_fl_lt hl)]
  apply congrArg (fun z => (3 * sm_c (co l) + 7 * sm_c (co (sy_fl l))) + z)
  obtain ⟨p, hp⟩ : ∃ p : Nat → Nat, ∀ c, c < cc → p c < cc ∧ ms (p c) = sy_mm n t (ms c) := by
    refine ⟨fun c => Classical.epsilon (fun d => d < cc ∧ ms d = sy_mm n t (ms c)), fun c hc => ?_⟩
    exact Classical.epsilon_spec (p := fun d => d < cc ∧ ms d = sy_mm n t (ms c)) (hE.2.2 _ (ht.2 _ (hE.1 c hc)))
  rw [← sm_perm (f := fun c => if (ms c).testBit (sy_ap t l) = true then sm_g n co (ms c) else 0) (p := p) (fun i hi => (hp i hi).1) (fun i j hi hj e => by
    have a := (hp i hi).2
    rw [e, (hp j hj).2] at a
    exact (hE.2.1 j i hj hi (sy_mm_inj ht.1 (hH _ (hE.1 j hj)) (hH _ (hE.1 i hi)) a)).symm)]
  refine sm_ext (fun c hc => ?_)
  show (if (ms (p c)).testBit (sy_ap t l) = true then sm_g n co (ms (p c)) else 0) = _
  rw [(hp c hc).2, sm_mb ht.1 hl, sm_g_k ht.1 hk]
def sm_it (n : Nat) (ms : Nat → Nat) (cc : Nat) (co : Nat → Int32) : Nat → Nat → Int32
  | 0 => co
  | r + 1 => sm_r n ms (sm_it n ms cc co r) cc
theorem sm_it_k {n : Nat} {H : Nat → Prop} (hH : sy_H n H) {cc : Nat} {ms : Nat → Nat} (hE : sm_E H cc ms) {t : Nat → Nat} (ht : sy_S n H t) {co : Nat → Int32} (hk : sm_K n t co) : ∀ r, sm_K n t (sm_it n ms cc co r)
  | 0 => hk
  | r + 1 => sm_r_k hH hE ht (sm_it_k hH hE ht hk r)
def sm_0 (k : Nat) (l : Nat) : Int32 := if l % 2 = 0 ∧ l < 2 * k then nI (l + 1) else 0
theorem sm_0_k {n : Nat} {H : Nat → Prop} {k : Nat} (hk : k ≤ n) {t : Nat → Nat} (ht : sy_G n H k t) : sm_K n t (sm_0 k) := by
  intro l hl
  rcases Nat.lt_or_ge l (2 * k) with z | z
  · rw [sy_G_fix ht z]
  · have a := sy_O_ge hk hl z ⟨t, ht, rfl⟩
    unfold sm_0
    rw [if_neg (by omega), if_neg (by omega)]
/-- colours that agree below 2n do as well -/
theorem sm_K_ext {n : Nat} {t : Nat → Nat} (ht : ∀ v, v < n → t v < 2 * n) {co co' : Nat → Int32} (h : ∀ l, l < 2 * n → co' l = co l) (hk : sm_K n t co) : sm_K n t co' :=
  fun l hl => by rw [h _ (sy_ap_lt ht hl), h l hl]; exact hk l hl
theorem sm_u_ext {co co' : Nat → Int32} {m L : Nat} (h : ∀ l, l < L → co' l = co l) : sm_u co' m L = sm_u co m L :=
  sm_ext (fun l hl => by rw [h l hl])
theorem sm_r_ext {n : Nat} {ms : Nat → Nat} {co co' : Nat → Int32} (h : ∀ l, l < 2 * n → co' l = co l) {c l : Nat} (hl : l < 2 * n) : sm_r n ms co' c l = sm_r n ms co c l := by
  unfold sm_r
  rw [h l hl, h _ (sy_fl_lt hl)]
  apply congrArg (fun z => (3 * sm_c (co l) + 7 * sm_c (co (sy_fl l))) + z)
  refine sm_ext (fun c _ => ?_)
  unfold sm_g
  rw [sm_u_ext h]
end
section
/-! small ints: bits, shifts, images -/
theorem xi_bt (m i : Nat) (hi : i < 32) : bt (nI m) i = m.testBit i := by
  show (BitVec.ofNat 32 m).getLsbD i = _
  rw [BitVec.getLsbD_ofNat]
  simp [hi]
theorem xi_one : ∀ j, j < 32 → ∀ i, i < 32 → bt ((1 : Int32) <<< (nI j &&& 31)) i = decide (i = j) := by decide +kernel
theorem xi_b1 : ∀ i, i < 32 → bt 1 i = decide (i = 0) := by decide +kernel
theorem xi_bit (x : Int32) {i : Nat} (hi : i < 32) : (x >>> (nI i &&& 31)) &&& 1 = if bt x i = true then 1 else 0 := by
  apply b_ext
  intro j hj
  rw [b_and, xi_b1 j hj, b_sshr i hi x hj]
  by_cases z : j = 0
  · subst z
    rw [if_pos (by omega), Nat.add_zero]
    cases h : bt x i
    · rw [if_neg (by decide), b_0]; rfl
    · rw [if_pos rfl, xi_b1 0 hj]; rfl
  · rw [decide_eq_false z, Bool.and_false]
    cases h : bt x i
    · rw [if_neg (by decide), b_0]
    · rw [if_pos rfl, xi_b1 j hj, decide_eq_false z]
theorem xi_bit0 (x : Int32) {i : Nat} (hi : i < 32) : (x >>> (nI i &&& 31)) &&& 1 = 0 ↔ ¬ bt x i = true := by
  rw [xi_bit x hi]
  cases h : bt x i
  · exact ⟨fun _ => by decide, fun _ => rfl⟩
  · exact ⟨fun z => absurd z (by decide), fun z => absurd rfl z⟩
theorem xi_bit1 (x : Int32) {i : Nat} (hi : i < 32) : (x >>> (nI i &&& 31)) &&& 1 = 1 ↔ bt x i = true := by
  rw [xi_bit x hi]
  cases h : bt x i
  · exact ⟨fun z => absurd z (by decide), fun z => absurd z (by decide)⟩
  · exact ⟨fun _ => rfl, fun _ => rfl⟩
theorem xi_m0 {m i : Nat} (hi : i < 32) : (nI m >>> (nI i &&& 31)) &&& 1 = 0 ↔ ¬ m.testBit i = true := by
  rw [xi_bit0 _ hi, xi_bt m i hi]
theorem xi_m1 {m i : Nat} (hi : i < 32) : (nI m >>> (nI i &&& 31)) &&& 1 = 1 ↔ m.testBit i = true := by
  rw [xi_bit1 _ hi, xi_bt m i hi]
theorem xi_or (a b : Nat) : nI a ||| nI b = nI (a ||| b) := by
  apply Int32.toBitVec_inj.1
  show BitVec.ofNat 32 a ||| BitVec.ofNat 32 b = BitVec.ofNat 32 (a ||| b)
  apply BitVec.eq_of_getLsbD_eq
  intro i hi
  simp [hi]
theorem xi_shl : ∀ j, j < 31 → (1 : Int32) <<< (nI j &&& 31) = nI (2 ^ j) := by decide +kernel
theorem xi_xor : ∀ x, x < 8 → nI x ^^^ nI 0 = nI x ∧ nI x ^^^ nI 1 = nI (sy_fl x) := by decide +kernel
theorem xi_half {l : Nat} (h : l < 2 ^ 31) : nI l >>> ((1 : Int32) &&& 31) = nI (l / 2) := pk_shrN h _ 1 (by decide)
theorem xi_par {l : Nat} (h : l < 2 ^ 31) : nI l &&& 1 = nI (l % 2) := pk_andN (by omega) 1 (by decide)
theorem xi_ap {t : Nat → Nat} {l : Nat} (hl : l < 2 ^ 31) (h : t (l / 2) < 8) : nI (t (l / 2)) ^^^ (nI l &&& 1) = nI (sy_ap t l) := by
  rw [xi_par hl]
  by_cases z : l % 2 = 0
  · rw [z, (xi_xor _ h).1, sy_ap_0 z]
  · rw [show l % 2 = 1 from by omega, (xi_xor _ h).2, sy_ap_1 z]
theorem xi_fl {l : Nat} (h : l < 8) : nI l ^^^ 1 = nI (sy_fl l) := (xi_xor l h).2
theorem xi_sub1 {n : Nat} (h : 1 ≤ n) : nI n - 1 = nI (n - 1) := pk_sub (b := 1) h
theorem xi_pow {n : Nat} (h : n ≤ 4) : (1 : Int32) <<< (nI n &&& 31) = nI (2 ^ n) := xi_shl n (by omega)
theorem xi_pow8 : ∀ n, n < 5 → (1 : Int32) <<< ((3 * nI n) &&& 31) = nI (8 ^ n) := by decide +kernel
theorem xi_2 (v : Nat) : 2 * nI v = nI (2 * v) := pk_mul 2 v
theorem xi_upd {f : Nat → Int32} {k : Nat} {x : Int32} {j : Nat} (h : ¬ j = k) : upd f k x j = f j := if_neg h
theorem xi_uself (f : Nat → Int32) (k : Nat) (x : Int32) : upd f k x k = x := if_pos rfl
/-- below 2n bits: a mask as a number -/
theorem xi_p16 {n : Nat} (hn : n ≤ 4) : 2 ^ n ≤ 16 := Nat.pow_le_pow_right (show 0 < 2 by decide) hn
theorem xi_p256 {n : Nat} (hn : n ≤ 4) : 2 ^ (2 * n) ≤ 256 := Nat.pow_le_pow_right (show 0 < 2 by decide) (show 2 * n ≤ 8 by omega)
theorem xi_p4096 {n : Nat} (hn : n ≤ 4) : 8 ^ n ≤ 4096 := Nat.pow_le_pow_right (show 0 < 8 by decide) hn
/-- a nonzero 'and' -/
theorem xi_and0 (x y : Int32) : x &&& y = 0 ↔ ∀ i, i < 32 → ¬ (bt x i = true ∧ bt y i = true) := by
  constructor
  · intro h i hi ⟨a, b⟩
    have : bt (x &&& y) i = true := by rw [b_and, a, b]; rfl
    rw [h, b_0] at this
    exact absurd this (by decide)
  · intro h
    apply b_ext
    intro i hi
    rw [b_and, b_0]
    have := h i hi
    cases hx : bt x i <;> cases hy : bt y i <;> simp_all
end
section
/-! the component's small methods -/
def xw_PH (n q : Nat) (t : Nat → Nat) (pe : Nat → Int32) : Prop := ∀ v, v < n → pe (q + v) = nI (t v)
def xw_Put (n q : Nat) (t : Nat → Nat) (pe pe' : Nat → Int32) : Prop := xw_PH n q t pe' ∧ ∀ j, (j < q ∨ q + n ≤ j) → pe' j = pe j
section
variable {n cc : Nat} {mc mp d1 d2 d3 d4 d5 an pc gc ql re : Int32} {pe ma pi si ob co fr qu tu le : Nat → Int32}
theorem xw_isLiteral {post : Int32 → Prop} (hn : n ≤ 4) (x : Int32) (h1 : (∃ l, l < 2 * n ∧ x = nI l) → post 1) (h0 : (¬ ∃ l, l < 2 * n ∧ x = nI l) → post 0) : wpX_isLiteral post ((nI n), (nI (2 * n)), mc, mp, d1, d2, d3, d4, d5, (nI cc), an, pc, gc, ql, re, pe, ma, pi, si, ob, co, fr, qu, tu, le) x := by
  unfold wpX_isLiteral
  dsimp only
  rcases pk_ix x (n := 2 * n) (by omega) with z | z | z
  · refine br_t z (h0 ?_)
    rintro ⟨l, hl, e⟩
    rw [e] at z
    exact nI_pos (by omega) z
  · have nz : ¬ x < 0 := Int32.not_lt.mpr (Int32.le_trans (nI_pos' (n := 2 * n) (by omega)) z)
    refine br_f nz (br_t z (h0 ?_))
    rintro ⟨l, hl, e⟩
    rw [e] at z
    exact nI_ge hl (by omega) z
  · obtain ⟨l, hl, e⟩ := z
    have nz : ¬ x < 0 := by rw [e]; exact nI_pos (by omega)
    have nl : ¬ nI (2 * n) ≤ x := by rw [e]; exact nI_ge hl (by omega)
    exact br_f nz (br_f nl (h1 ⟨l, hl, e⟩))
theorem xw_clamp {post : Int32 → Prop} {u : SX} (x : Int32) {m : Nat} (hm : 1 ≤ m) (hm2 : m < 2 ^ 31) (h : ∀ r, 1 ≤ r → r ≤ m → (∀ q : Int32 → Prop, (1 ≤ x → (x ≤ nI m → q x) ∧ (¬ x ≤ nI m → q (nI m))) ∧ (¬ 1 ≤ x → q 1) → q (nI r)) → post (nI r)) : wpX_clamp post u x 1 (nI m) := by
  unfold wpX_clamp
  obtain ⟨f1, f2, f3, f4, f5, f6, f7, f8, f9, f10, f11, f12, f13, f14, f15, a1, a2, a3, a4, a5, a6, a7, a8, a9, a10⟩ := u
  dsimp only
  by_cases h1 : 1 ≤ x
  · have p0 : ¬ x < 0 := Int32.not_lt.mpr (Int32.le_trans (by decide) h1)
    obtain ⟨j, hj, e⟩ := nI_of p0
    have j1 : 1 ≤ j := by
      rw [e] at h1
      exact (nI_leI (a := 1) (by decide) hj).mp h1
    by_cases h2 : x ≤ nI m
    · have j2 : j ≤ m := by
        rw [e] at h2
        exact (nI_leI hj hm2).mp h2
      refine br_t h1 (br_t h2 ?_)
      rw [e]
      refine h j j1 j2 (fun q hq => ?_)
      rw [← e]
      exact (hq.1 h1).1 h2
    · exact br_t h1 (br_f h2 (h m hm (Nat.le_refl _) (fun q hq => (hq.1 h1).2 h2)))
  · exact br_f h1 (h 1 (Nat.le_refl _) hm (fun q hq => hq.2 h1))
theorem xw_setIdentity_2 {post : SX → Prop} (hn : n ≤ 4) {q : Nat} (hq : q + 4 ≤ 204) : ∀ (d i : Nat) (pe : Nat → Int32), i + d = n → (∀ v, v < i → pe (q + v) = nI (2 * v)) → (∀ pe', xw_PH n q sy_id pe' → (∀ j, (j < q ∨ q + n ≤ j) → pe' j = pe j) → post ((nI n), (nI (2 * n)), mc, mp, d1, d2, d3, d4, d5, (nI cc), an, pc, gc, ql, re, pe', ma, pi, si, ob, co, fr, qu, tu, le)) → wX_setIdentity_2 post (nI q) (nI n) (nI (2 * n)) mc mp d1 d2 d3 d4 d5 (nI cc) an pc gc ql re (d + 1) (nI i) pe ma pi si ob co fr qu tu le
  | 0, i, pe, e, h, hp => br_t (nI_le (by omega) (by omega)) (hp pe (fun v hv => h v (by omega)) (fun _ _ => rfl))
  | d + 1, i, pe, e, h, hp => by
    have ec : (nI q + nI i).toNatClampNeg = q + i := pk_cl (q + i) (nI_add q i)
    refine br_f (nI_ge (a := i) (b := n) (by omega) (by omega)) ⟨pk_in (q + i) 204 (by omega) (nI_add q i), nm_r (e' := upd pe (q + i) (nI (2 * i))) (by rw [ec, xi_2]) (nm_r (nI_1 i) (xw_setIdentity_2 hn hq d (i + 1) (upd pe (q + i) (nI (2 * i))) (by omega) (fun v hv => ?_) (fun pe' h1 h2 => hp pe' h1 (fun j hj => ?_))))⟩
    · by_cases z : v = i
      · rw [z, xi_uself]
      · rw [xi_upd (by omega)]; exact h v (by omega)
    · rw [h2 j hj, xi_upd (by omega)]
theorem xw_setIdentity {post : SX → Prop} (hn : n ≤ 4) {q : Nat} (hq : q + 4 ≤ 204) (hp : ∀ pe', xw_Put n q sy_id pe pe' → post ((nI n), (nI (2 * n)), mc, mp, d1, d2, d3, d4, d5, (nI cc), an, pc, gc, ql, re, pe', ma, pi, si, ob, co, fr, qu, tu, le)) : wpX_setIdentity post ((nI n), (nI (2 * n)), mc, mp, d1, d2, d3, d4, d5, (nI cc), an, pc, gc, ql, re, pe, ma, pi, si, ob, co, fr, qu, tu, le) (nI q) :=
  ⟨n + 1, xw_setIdentity_2 hn hq n 0 pe (by omega) (fun v hv => by omega) (fun pe' h1 h2 => hp pe' ⟨h1, h2⟩)⟩
theorem xw_copyPerm_2 {post : SX → Prop} (hn : n ≤ 4) {p q : Nat} (hp4 : p + 4 ≤ 204) (hq : q + 4 ≤ 204) {t : Nat → Nat} (hpq : p + n ≤ q ∨ q + n ≤ p) : ∀ (d i : Nat) (pe : Nat → Int32), i + d = n → xw_PH n p t pe → (∀ v, v < i → pe (q + v) = nI (t v)) → (∀ pe', xw_PH n q t pe' → (∀ j, (j < q ∨ q + n ≤ j) → pe' j = pe j) → post ((nI n), (nI (2 * n)), mc, mp, d1, d2, d3, d4, d5, (nI cc), an, pc, gc, ql, re, pe', ma, pi, si, ob, co, fr, qu, tu, le)) → wX_copyPerm_2 post (nI p) (nI q) (nI n) (nI (2 * n)) mc mp d1 d2 d3 d4 d5 (nI cc) an pc gc ql re (d + 1) (nI i) pe ma pi si ob co fr qu tu le
  | 0, i, pe, e, hh, h, hp => br_t (nI_le (by omega) (by omega)) (hp pe (fun v hv => h v (by omega)) (fun _ _ => rfl))
  | d + 1, i, pe, e, hh, h, hp => by
    have ec : (nI q + nI i).toNatClampNeg = q + i := pk_cl (q + i) (nI_add q i)
    have ep : (nI p + nI i).toNatClampNeg = p + i := pk_cl (p + i) (nI_add p i)
    refine br_f (nI_ge (a := i) (b := n) (by omega) (by omega)) ⟨pk_in (p + i) 204 (by omega) (nI_add p i), pk_in (q + i) 204 (by omega) (nI_add q i), nm_r (e' := upd pe (q + i) (nI (t i))) (by rw [ec, ep, hh i (by omega)]) (nm_r (nI_1 i) (xw_copyPerm_2 hn hp4 hq hpq d (i + 1) (upd pe (q + i) (nI (t i))) (by omega) (fun v hv => ?_) (fun v hv => ?_) (fun pe' h1 h2 => hp pe' h1 (fun j hj => ?_))))⟩
    · rw [xi_upd (by omega)]; exact hh v hv
    · by_cases z : v = i
      · rw [z, xi_uself]
      · rw [xi_upd (by omega)]; exact h v (by omega)
    · rw [h2 j hj, xi_upd (by omega)]
theorem xw_copyPerm {post : SX → Prop} (hn : n ≤ 4) {p q : Nat} (hp4 : p + 4 ≤ 204) (hq : q + 4 ≤ 204) {t : Nat → Nat} (hpq : p + n ≤ q ∨ q + n ≤ p) (hh : xw_PH n p t pe) (hp : ∀ pe', xw_Put n q t pe pe' → post ((nI n), (nI (2 * n)), mc, mp, d1, d2, d3, d4, d5, (nI cc), an, pc, gc, ql, re, pe', ma, pi, si, ob, co, fr, qu, tu, le)) : wpX_copyPerm post ((nI n), (nI (2 * n)), mc, mp, d1, d2, d3, d4, d5, (nI cc), an, pc, gc, ql, re, pe, ma, pi, si, ob, co, fr, qu, tu, le) (nI p) (nI q) :=
  ⟨n + 1, xw_copyPerm_2 hn hp4 hq hpq n 0 pe (by omega) hh (fun v hv => by omega) (fun pe' h1 h2 => hp pe' ⟨h1, h2⟩)⟩
theorem xw_imageAt {post : Int32 → Prop} {q l : Nat} {t : Nat → Nat} (h : pe (q + l / 2) = nI (t (l / 2))) (h8 : t (l / 2) < 8) (hq : q + l / 2 < 204) (hl : l < 2 ^ 31) (hp : post (nI (sy_ap t l))) : wpX_imageAt post ((nI n), (nI (2 * n)), mc, mp, d1, d2, d3, d4, d5, (nI cc), an, pc, gc, ql, re, pe, ma, pi, si, ob, co, fr, qu, tu, le) (nI q) (nI l) := by
  have e : nI q + (nI l >>> ((1 : Int32) &&& 31)) = nI (q + l / 2) := by rw [xi_half hl, nI_add]
  unfold wpX_imageAt
  dsimp only
  rw [e, nI_clamp (by omega), h, xi_ap hl h8]
  exact ⟨vp_in_nI hq (by decide), hp⟩
theorem xw_ap8 {t : Nat → Nat} {l : Nat} (h : t (l / 2) < 8) : sy_ap t l < 8 := by
  by_cases z : l % 2 = 0
  · rw [sy_ap_0 z]; exact h
  · rw [sy_ap_1 z]; unfold sy_fl; omega
theorem xw_mapMask_5 {post : Int32 → Prop} (hn : n ≤ 4) {q m : Nat} (hq : q + 4 ≤ 204) {t : Nat → Nat} (h : ∀ l, l < 2 * n → m.testBit l = true → pe (q + l / 2) = nI (t (l / 2)) ∧ t (l / 2) < 8) (hp : post (nI (sy_mm n t m))) : ∀ d i, i + d = 2 * n → wX_mapMask_5 post (nI q) (nI m) (nI n) (nI (2 * n)) mc mp d1 d2 d3 d4 d5 (nI cc) an pc gc ql re pe ma pi si ob co fr qu tu le (d + 1) (nI (sy_mr t m i)) (nI i)
  | 0, i, e => by
    refine br_t (nI_le (by omega) (by omega)) ?_
    rw [show i = 2 * n from by omega]
    exact hp
  | d + 1, i, e => by
    refine br_f (nI_ge (a := i) (b := 2 * n) (by omega) (by omega)) ?_
    have ih := xw_mapMask_5 hn hq h hp d (i + 1) (by omega)
    by_cases z : m.testBit i = true
    · have hz := h i (by omega) z
      refine br_f (fun w => (xi_m0 (by omega)).mp w z) (xw_imageAt hz.1 hz.2 (by omega) (by omega) (nm_r (e' := nI (sy_mr t m (i + 1))) ?_ (nm_r (nI_1 i) ih)))
      rw [xi_shl _ (by have := xw_ap8 hz.2; omega), xi_or]
      exact congrArg nI (if_pos z).symm
    · refine br_t ((xi_m0 (by omega)).mpr z) (nm_r (nI_1 i) ?_)
      rw [show sy_mr t m (i + 1) = sy_mr t m i from if_neg z] at ih
      exact ih
theorem xw_mapMask {post : Int32 → Prop} (hn : n ≤ 4) {q m : Nat} (hq : q + 4 ≤ 204) {t : Nat → Nat} (h : ∀ l, l < 2 * n → m.testBit l = true → pe (q + l / 2) = nI (t (l / 2)) ∧ t (l / 2) < 8) (hp : post (nI (sy_mm n t m))) : wpX_mapMask post ((nI n), (nI (2 * n)), mc, mp, d1, d2, d3, d4, d5, (nI cc), an, pc, gc, ql, re, pe, ma, pi, si, ob, co, fr, qu, tu, le) (nI q) (nI m) :=
  ⟨2 * n + 1, xw_mapMask_5 hn hq h hp (2 * n) 0 (by omega)⟩
theorem xw_bitCount_4 {post : Int32 → Prop} {x : Int32} (hp : post (nI (cn_c (fun i => bt x i = true) 16))) : ∀ d i, i + d = 16 → wX_bitCount_4 post x (nI n) (nI (2 * n)) mc mp d1 d2 d3 d4 d5 (nI cc) an pc gc ql re pe ma pi si ob co fr qu tu le (d + 1) (nI (cn_c (fun i => bt x i = true) i)) (nI i)
  | 0, i, e => by
    refine br_t (nI_le (a := 16) (by omega) (by omega)) ?_
    rw [show i = 16 from by omega]
    exact hp
  | d + 1, i, e => by
    refine br_f (nI_ge (a := i) (b := 16) (by omega) (by omega)) (nm_r (e' := nI (cn_c (fun i => bt x i = true) (i + 1))) ?_ (nm_r (nI_1 i) (xw_bitCount_4 hp d (i + 1) (by omega))))
    rw [xi_bit x (by omega)]
    by_cases z : bt x i = true
    · rw [if_pos z, cn_st (P := fun i => bt x i = true) z, nI_1]
    · rw [if_neg z, cn_sf (P := fun i => bt x i = true) z, Int32.add_zero]
theorem xw_bitCount {post : Int32 → Prop} {x : Int32} (hp : post (nI (cn_c (fun i => bt x i = true) 16))) : wpX_bitCount post ((nI n), (nI (2 * n)), mc, mp, d1, d2, d3, d4, d5, (nI cc), an, pc, gc, ql, re, pe, ma, pi, si, ob, co, fr, qu, tu, le) x :=
  ⟨17, xw_bitCount_4 hp 16 0 rfl⟩
theorem xw_nthBit_5 {post : Int32 → Prop} {x : Int32} {k r : Nat} (hr : r < 16) (hb : bt x r = true) (hk : cn_c (fun i => bt x i = true) r = k) (hp : post (nI r)) : ∀ d i, i + d = r → wX_nthBit_5 post x (nI n) (nI (2 * n)) mc mp d1 d2 d3 d4 d5 (nI cc) an pc gc ql re pe ma pi si ob co fr qu tu le (d + 1) (nI (k - cn_c (fun i => bt x i = true) i)) (nI i)
  | 0, i, e => by
    have e : i = r := by omega
    subst e
    refine br_f (nI_ge (a := i) (b := 16) (by omega) (by omega)) (br_f (fun w => (xi_bit0 x (by omega)).mp w hb) (br_t ?_ hp))
    rw [hk, Nat.sub_self]
    rfl
  | d + 1, i, e => by
    refine br_f (nI_ge (a := i) (b := 16) (by omega) (by omega)) ?_
    have ih := xw_nthBit_5 hr hb hk hp d (i + 1) (by omega)
    have kb : k ≤ 16 := by rw [← hk]; exact Nat.le_trans (cn_leN _ r) (by omega)
    by_cases z : bt x i = true
    · have lt := cn_lt (P := fun i => bt x i = true) (show i < r by omega) z
      rw [cn_st (P := fun i => bt x i = true) z] at ih
      refine br_f (fun w => (xi_bit0 x (by omega)).mp w z) (br_f (nI_ne0 (by omega) (by omega)) (nm_r (e' := nI (k - (cn_c (fun i => bt x i = true) i + 1))) ?_ (nm_r (nI_1 i) ih)))
      have := pk_m1 (k - (cn_c (fun i => bt x i = true) i + 1))
      rw [show k - (cn_c (fun i => bt x i = true) i + 1) + 1 = k - cn_c (fun i => bt x i = true) i from by omega] at this
      exact this
    · rw [cn_sf (P := fun i => bt x i = true) z] at ih
      exact br_t ((xi_bit0 x (by omega)).mpr z) (nm_r (nI_1 i) ih)
theorem xw_nthBit {post : Int32 → Prop} {x : Int32} {k r : Nat} (hr : r < 16) (hb : bt x r = true) (hk : cn_c (fun i => bt x i = true) r = k) (hp : post (nI r)) : wpX_nthBit post ((nI n), (nI (2 * n)), mc, mp, d1, d2, d3, d4, d5, (nI cc), an, pc, gc, ql, re, pe, ma, pi, si, ob, co, fr, qu, tu, le) x (nI k) :=
  ⟨r + 1, xw_nthBit_5 hr hb hk hp r 0 (by omega)⟩
theorem xw_xo : ∀ x, x < 8 → ∀ y, y < 8 → ((nI x ^^^ nI y) >>> ((1 : Int32) &&& 31) = 0 ↔ x / 2 = y / 2) ∧ (x = y → nI x ^^^ nI y = nI 0) ∧ (x = sy_fl y → nI x ^^^ nI y = nI 1) := by decide +kernel
theorem xw_preimageAt_2 {post : Int32 → Prop} (hn : n ≤ 4) {q : Nat} (hq : q + 4 ≤ 204) {t : Nat → Nat} (ht : sy_B n t) (hh : xw_PH n q t pe) {x : Nat} (hx : x < 2 * n) (hp : post (nI x)) : ∀ d i, i + d = x / 2 → wX_preimageAt_2 post (nI q) (nI (sy_ap t x)) (nI n) (nI (2 * n)) mc mp d1 d2 d3 d4 d5 (nI cc) an pc gc ql re pe ma pi si ob co fr qu tu le (d + 1) (nI i)
  | 0, i, e => by
    have e : i = x / 2 := by omega
    have l8 : sy_ap t x < 8 := by have := sy_ap_lt ht.1 hx; omega
    have t8 : t i < 8 := by have := ht.1 i (by omega); omega
    have ec : (nI q + nI i).toNatClampNeg = q + i := pk_cl (q + i) (nI_add q i)
    have T := xw_xo (t i) t8 (sy_ap t x) l8
    refine br_f (nI_ge (a := i) (b := n) (by omega) (by omega)) ⟨pk_in (q + i) 204 (by omega) (nI_add q i), nm_r (e' := nI (t i) ^^^ nI (sy_ap t x)) (by rw [ec, hh i (by omega)]) (br_t (T.1.mpr (by rw [sy_ap_d, e])) ?_)⟩
    rw [xi_2]
    by_cases z : x % 2 = 0
    · rw [T.2.1 (by rw [sy_ap_0 z, e]), nI_add, show 2 * i + 0 = x from by omega]
      exact hp
    · rw [T.2.2 (by rw [sy_ap_1 z, sy_fl_fl, e]), nI_add, show 2 * i + 1 = x from by omega]
      exact hp
  | d + 1, i, e => by
    have l8 : sy_ap t x < 8 := by have := sy_ap_lt ht.1 hx; omega
    have t8 : t i < 8 := by have := ht.1 i (by omega); omega
    have ec : (nI q + nI i).toNatClampNeg = q + i := pk_cl (q + i) (nI_add q i)
    have T := xw_xo (t i) t8 (sy_ap t x) l8
    refine br_f (nI_ge (a := i) (b := n) (by omega) (by omega)) ⟨pk_in (q + i) 204 (by omega) (nI_add q i), nm_r (e' := nI (t i) ^^^ nI (sy_ap t x)) (by rw [ec, hh i (by omega)]) (br_f (fun w => ?_) (nm_r (nI_1 i) (xw_preimageAt_2 hn hq ht hh hx hp d (i + 1) (by omega))))⟩
    have a := T.1.mp w
    rw [sy_ap_d] at a
    have := ht.2 i (x / 2) (by omega) (by omega) a
    omega
theorem xw_preimageAt {post : Int32 → Prop} (hn : n ≤ 4) {q : Nat} (hq : q + 4 ≤ 204) {t : Nat → Nat} (ht : sy_B n t) (hh : xw_PH n q t pe) {x : Nat} (hx : x < 2 * n) (hp : post (nI x)) : wpX_preimageAt post ((nI n), (nI (2 * n)), mc, mp, d1, d2, d3, d4, d5, (nI cc), an, pc, gc, ql, re, pe, ma, pi, si, ob, co, fr, qu, tu, le) (nI q) (nI (sy_ap t x)) :=
  ⟨x / 2 + 1, xw_preimageAt_2 hn hq ht hh hx hp (x / 2) 0 (by omega)⟩
theorem xw_extendPrefix_10 {post : SX → Prop} (hn : n ≤ 4) {q : Nat} (hq : q + 4 ≤ 204) (hq2 : 12 ≤ q) {s w : Nat → Nat} (hs : ∀ v, v < n → s v < 8) (hw : ∀ v, v < n → w v < 2 * n) : ∀ (d i : Nat) (pe : Nat → Int32), i + d = n → xw_PH n 8 s pe → xw_PH n q w pe → (∀ v, v < i → pe (4 + v) = nI (sy_co s w v)) → (∀ pe', xw_PH n 8 (sy_co s w) pe' → (∀ j, (j < 4 ∨ 12 ≤ j) → pe' j = pe j) → post ((nI n), (nI (2 * n)), mc, mp, d1, d2, d3, d4, d5, (nI cc), an, pc, gc, ql, re, pe', ma, pi, si, ob, co, fr, qu, tu, le)) → wX_extendPrefix_10 post (nI q) (nI n) (nI (2 * n)) mc mp d1 d2 d3 d4 d5 (nI cc) an pc gc ql re (d + 1) (nI i) pe ma pi si ob co fr qu tu le
  | 0, i, pe, e, h1, h2, h3, hp => by
    refine br_t (nI_le (by omega) (by omega)) (xw_copyPerm (p := 4) (q := 8) (t := sy_co s w) hn (by omega) (by omega) (Or.inl (by omega)) (fun v hv => h3 v (by omega)) (fun pe' hput => hp pe' hput.1 (fun j hj => hput.2 j (by omega))))
  | d + 1, i, pe, e, h1, h2, h3, hp => by
    have ec : (nI q + nI i).toNatClampNeg = q + i := pk_cl (q + i) (nI_add q i)
    have e4 : ((4 : Int32) + nI i).toNatClampNeg = 4 + i := pk_cl (4 + i) (nI_add 4 i)
    have wi := hw i (by omega)
    refine br_f (nI_ge (a := i) (b := n) (by omega) (by omega)) ⟨pk_in (q + i) 204 (by omega) (nI_add q i), ?_⟩
    rw [ec, h2 i (by omega)]
    refine xw_imageAt (q := 8) (t := s) (h1 (w i / 2) (by omega)) (hs _ (by omega)) (by omega) (by omega) ⟨pk_in (4 + i) 204 (by omega) (nI_add 4 i), nm_r (e' := upd pe (4 + i) (nI (sy_co s w i))) (by rw [e4]; rfl) (nm_r (nI_1 i) (xw_extendPrefix_10 hn hq hq2 hs hw d (i + 1) (upd pe (4 + i) (nI (sy_co s w i))) (by omega) (fun v hv => ?_) (fun v hv => ?_) (fun v hv => ?_) (fun pe' k1 k2 => hp pe' k1 (fun j hj => ?_))))⟩
    · rw [xi_upd (by omega)]; exact h1 v hv
    · rw [xi_upd (by omega)]; exact h2 v hv
    · by_cases z : v = i
      · rw [z, xi_uself]
      · rw [xi_upd (by omega)]; exact h3 v (by omega)
    · rw [k2 j hj, xi_upd (by omega)]
theorem xw_tAt (k x : Nat) : (76 : Int32) + (((nI k * 8) + nI x) * 4) = nI (76 + (k * 8 + x) * 4) := by
  have a : nI k * 8 = nI (k * 8) := pk_mul k 8
  rw [a, nI_add]
  have b : nI (k * 8 + x) * 4 = nI ((k * 8 + x) * 4) := pk_mul _ 4
  rw [b]
  exact nI_add 76 _
theorem xw_extendPrefix {post : SX → Prop} (hn : n ≤ 4) {k x : Nat} (hk : k < n) (hx : x < 2 * n) {s w : Nat → Nat} (hs : ∀ v, v < n → s v < 8) (hw : ∀ v, v < n → w v < 2 * n) (h1 : xw_PH n 8 s pe) (h2 : xw_PH n (76 + (k * 8 + x) * 4) w pe) (hp : ∀ pe', xw_PH n 8 (sy_co s w) pe' → (∀ j, (j < 4 ∨ 12 ≤ j) → pe' j = pe j) → post ((nI n), (nI (2 * n)), mc, mp, d1, d2, d3, d4, d5, (nI cc), an, pc, gc, ql, re, pe', ma, pi, si, ob, co, fr, qu, tu, le)) : wpX_extendPrefix post ((nI n), (nI (2 * n)), mc, mp, d1, d2, d3, d4, d5, (nI cc), an, pc, gc, ql, re, pe, ma, pi, si, ob, co, fr, qu, tu, le) (nI k) (nI x) := by
  unfold wpX_extendPrefix wpX_transversalAt
  dsimp only
  rw [xw_tAt]
  exact ⟨n + 1, xw_extendPrefix_10 hn (by omega) (by omega) hs hw n 0 pe (by omega) h1 h2 (fun v hv => by omega) hp⟩
end
end
section
/-! the clauses of the component -/
def xw_M (H : Nat → Prop) (cc : Nat) (ma : Nat → Int32) : Prop := cc = cn_c H 256 ∧ cc ≤ 12 ∧ cn_E H 256 ma
/-- the c-th held mask -/
theorem xw_Mg {H : Nat → Prop} {ma : Nat → Int32} (hE : cn_E H 256 ma) {c : Nat} (hc : c < cn_c H 256) : ∃ m, m < 256 ∧ H m ∧ cn_c H m = c ∧ ma c = nI m := by
  obtain ⟨m, h1, h2, h3⟩ := cn_sur hc
  exact ⟨m, h1, h2, h3, by rw [← h3]; exact hE m h1 h2⟩
theorem xw_Ms {H : Nat → Prop} (hH : ∀ m, H m → m < 256) {cc : Nat} {ma : Nat → Int32} (h : xw_M H cc ma) : ∃ ms : Nat → Nat, sm_E H cc ms ∧ ∀ c, c < cc → ma c = nI (ms c) ∧ ms c < 256 := by
  obtain ⟨ms, hm⟩ : ∃ ms : Nat → Nat, ∀ c, c < cc → ms c < 256 ∧ H (ms c) ∧ cn_c H (ms c) = c := by
    refine ⟨fun c => Classical.epsilon (fun m => m < 256 ∧ H m ∧ cn_c H m = c), fun c hc => ?_⟩
    refine Classical.epsilon_spec (p := fun m => m < 256 ∧ H m ∧ cn_c H m = c) ?_
    obtain ⟨m, h1, h2, h3, _⟩ := xw_Mg h.2.2 (c := c) (by rw [← h.1]; exact hc)
    exact ⟨m, h1, h2, h3⟩
  refine ⟨ms, ⟨fun c hc => (hm c hc).2.1, fun c d hc hd e => ?_, fun m hmm => ?_⟩, fun c hc => ⟨?_, (hm c hc).1⟩⟩
  · rw [← (hm c hc).2.2, ← (hm d hd).2.2, e]
  · have l : cn_c H m < cc := by rw [h.1]; exact cn_lt (hH m hmm) hmm
    exact ⟨cn_c H m, l, cn_uniq (hm _ l).2.1 hmm (hm _ l).2.2⟩
  · have := h.2.2 (ms c) (hm c hc).1 (hm c hc).2.1
    rw [(hm c hc).2.2] at this
    exact this
section
variable {n cc : Nat} {mc mp d1 d2 d3 d4 d5 an pc gc ql re : Int32} {pe ma pi si ob co fr qu tu le : Nat → Int32}
theorem xw_maskOf {post : Int32 → Prop} (hn : n ≤ 4) (a b c : Int32) (h0 : (¬ ∃ x y z, x < 2 * n ∧ y < 2 * n ∧ z < 2 * n ∧ a = nI x ∧ b = nI y ∧ c = nI z) → post 0) (h1 : ∀ x y z, x < 2 * n → y < 2 * n → z < 2 * n → a = nI x → b = nI y → c = nI z → post (nI (2 ^ x ||| 2 ^ y ||| 2 ^ z))) : wpX_maskOf post ((nI n), (nI (2 * n)), mc, mp, d1, d2, d3, d4, d5, (nI cc), an, pc, gc, ql, re, pe, ma, pi, si, ob, co, fr, qu, tu, le) a b c := by
  unfold wpX_maskOf
  dsimp only
  refine xw_isLiteral hn a (fun ⟨x, hx, ex⟩ => br_f (by decide) ?_) (fun no => br_t rfl (h0 ?_))
  · refine xw_isLiteral hn b (fun ⟨y, hy, ey⟩ => br_f (by decide) ?_) (fun no => br_t rfl (h0 ?_))
    · refine xw_isLiteral hn c (fun ⟨z, hz, ez⟩ => br_f (by decide) ?_) (fun no => br_t rfl (h0 ?_))
      · rw [ex, ey, ez, xi_shl x (by omega), xi_shl y (by omega), xi_shl z (by omega), xi_or, xi_or]
        exact h1 x y z hx hy hz ex ey ez
      · rintro ⟨x, y, z, _, _, hz, _, _, ez⟩
        exact no ⟨z, hz, ez⟩
    · rintro ⟨x, y, z, _, hy, _, _, ey, _⟩
      exact no ⟨y, hy, ey⟩
  · rintro ⟨x, y, z, hx, _, _, ex, _, _⟩
    exact no ⟨x, hx, ex⟩
theorem xw_clausePlace_4 {post : Int32 → Prop} {H : Nat → Prop} (hE : cn_E H 256 ma) (h12 : cc ≤ 12) (hcc : cc ≤ cn_c H 256) {m : Nat} (hm : m ≤ 256) (hm2 : cn_c H m ≤ cc) (hp : post (nI (cn_c H m))) : ∀ d i, i + d = cc → wX_clausePlace_4 post (nI m) (nI n) (nI (2 * n)) mc mp d1 d2 d3 d4 d5 (nI cc) an pc gc ql re pe ma pi si ob co fr qu tu le (d + 1) (nI (min i (cn_c H m))) (nI i)
  | 0, i, e => by
    refine br_t (nI_le (by omega) (by omega)) ?_
    rw [show min i (cn_c H m) = cn_c H m from by omega]
    exact hp
  | d + 1, i, e => by
    have ih := xw_clausePlace_4 hE h12 hcc hm hm2 hp d (i + 1) (by omega)
    obtain ⟨m2, h1, h2, h3, h4⟩ := xw_Mg hE (c := i) (by omega)
    have ec : (nI i).toNatClampNeg = i := nI_clamp (by omega)
    refine br_f (nI_ge (a := i) (b := cc) (by omega) (by omega)) ⟨vp_in_nI (by omega) (by decide), ?_⟩
    rw [ec, h4]
    rcases Nat.lt_or_ge m2 m with z | z
    · have lt := cn_lt z h2
      refine br_f (nI_ge z (by omega)) (nm_r (e' := nI (min (i + 1) (cn_c H m))) ?_ (nm_r (nI_1 i) ih))
      rw [nI_1, show min i (cn_c H m) + 1 = min (i + 1) (cn_c H m) from by omega]
    · have le : cn_c H m ≤ cn_c H m2 := cn_le z
      refine br_t (nI_le z (by omega)) (nm_r (nI_1 i) ?_)
      rw [show min (i + 1) (cn_c H m) = min i (cn_c H m) from by omega] at ih
      exact ih
theorem xw_clausePlace {post : Int32 → Prop} {H : Nat → Prop} (hE : cn_E H 256 ma) (h12 : cc ≤ 12) (hcc : cc ≤ cn_c H 256) {m : Nat} (hm : m ≤ 256) (hm2 : cn_c H m ≤ cc) (hp : post (nI (cn_c H m))) : wpX_clausePlace post ((nI n), (nI (2 * n)), mc, mp, d1, d2, d3, d4, d5, (nI cc), an, pc, gc, ql, re, pe, ma, pi, si, ob, co, fr, qu, tu, le) (nI m) := by
  have this : wX_clausePlace_4 post (nI m) (nI n) (nI (2 * n)) mc mp d1 d2 d3 d4 d5 (nI cc) an pc gc ql re pe ma pi si ob co fr qu tu le (cc + 1) (nI (min 0 (cn_c H m))) (nI 0) := xw_clausePlace_4 hE h12 hcc hm hm2 hp cc 0 (by omega)
  rw [show min 0 (cn_c H m) = 0 from by omega] at this
  exact ⟨cc + 1, this⟩
theorem xw_isHeld {post : Int32 → Prop} {H : Nat → Prop} (h : xw_M H cc ma) {m : Nat} (hm : m < 256) (h1 : H m → post 1) (h0 : ¬ H m → post 0) : wpX_isHeld post ((nI n), (nI (2 * n)), mc, mp, d1, d2, d3, d4, d5, (nI cc), an, pc, gc, ql, re, pe, ma, pi, si, ob, co, fr, qu, tu, le) (nI m) := by
  unfold wpX_isHeld
  dsimp only
  have hcc := h.1
  have h12 := h.2.1
  have le : cn_c H m ≤ cc := by rw [hcc]; exact cn_le (by omega)
  refine xw_clausePlace h.2.2 h12 (by omega) (by omega) le ?_
  rcases Nat.lt_or_ge (cn_c H m) cc with z | z
  · obtain ⟨m2, k1, k2, k3, k4⟩ := xw_Mg h.2.2 (c := cn_c H m) (by omega)
    refine br_f (nI_ge z (by omega)) ⟨vp_in_nI (by omega) (by decide), ?_⟩
    rw [nI_clamp (by omega), k4]
    by_cases e : m2 = m
    · rw [e] at k2
      exact br_t (by rw [e]) (h1 k2)
    · refine br_f (fun w => e ((nI_eq (by omega) (by omega)).mp w)) (h0 (fun hm3 => e (cn_uniq k2 hm3 k3)))
  · refine br_t (nI_le z (by omega)) (h0 (fun hm3 => ?_))
    have := cn_lt hm hm3
    omega
end
end
section
/-! the component's refinement -/
section
variable {n cc : Nat} {mc mp d1 d2 d3 d4 d5 an pc gc ql re : Int32} {pe ma pi si ob co fr qu tu le : Nat → Int32}
theorem xw_scramble {post : Int32 → Prop} {x : Int32} (hp : post (sm_c x)) : wpX_scramble post ((nI n), (nI (2 * n)), mc, mp, d1, d2, d3, d4, d5, (nI cc), an, pc, gc, ql, re, pe, ma, pi, si, ob, co, fr, qu, tu, le) x := fun y ey => by
  rw [ey]
  exact hp
theorem xw_spread_48 {post : SX → Prop} (hn : n ≤ 4) {m : Nat} {s : Int32} : ∀ (d i : Nat) (fr : Nat → Int32), i + d = 2 * n → (∀ fr', (∀ l, l < 2 * n → i ≤ l → fr' l = if m.testBit l = true then fr l + s else fr l) → (∀ l, l < i → fr' l = fr l) → post ((nI n), (nI (2 * n)), mc, mp, d1, d2, d3, d4, d5, (nI cc), an, pc, gc, ql, re, pe, ma, pi, si, ob, co, fr', qu, tu, le)) → wX_spread_48 post (nI m) s (nI n) (nI (2 * n)) mc mp d1 d2 d3 d4 d5 (nI cc) an pc gc ql re (d + 1) (nI i) pe ma pi si ob co fr qu tu le
  | 0, i, fr, e, hp => br_t (nI_le (by omega) (by omega)) (hp fr (fun l h1 h2 => by omega) (fun _ _ => rfl))
  | d + 1, i, fr, e, hp => by
    have ec : (nI i).toNatClampNeg = i := nI_clamp (by omega)
    refine br_f (nI_ge (a := i) (b := 2 * n) (by omega) (by omega)) ?_
    by_cases z : m.testBit i = true
    · refine br_f (fun w => (xi_m0 (by omega)).mp w z) ⟨vp_in_nI (by omega) (by decide), vp_in_nI (by omega) (by decide), nm_r (e' := upd fr i (fr i + s)) (by rw [ec]) (nm_r (nI_1 i) (xw_spread_48 hn d (i + 1) (upd fr i (fr i + s)) (by omega) (fun fr' h1 h2 => hp fr' (fun l k1 k2 => ?_) (fun l k1 => ?_))))⟩
      · by_cases w : l = i
        · rw [w, if_pos z, h2 i (by omega), xi_uself]
        · rw [h1 l k1 (by omega), xi_upd w]
      · rw [h2 l (by omega), xi_upd (by omega)]
    · refine br_t ((xi_m0 (by omega)).mpr z) (nm_r (nI_1 i) (xw_spread_48 hn d (i + 1) fr (by omega) (fun fr' h1 h2 => hp fr' (fun l k1 k2 => ?_) (fun l k1 => h2 l (by omega)))))
      by_cases w : l = i
      · rw [w, if_neg z, h2 i (by omega)]
      · exact h1 l k1 (by omega)
theorem xw_spread_4 {post : SX → Prop} (hn : n ≤ 4) {m : Nat} (hp : ∀ fr', (∀ l, l < 2 * n → fr' l = if m.testBit l = true then fr l + sm_g n co m else fr l) → post ((nI n), (nI (2 * n)), mc, mp, d1, d2, d3, d4, d5, (nI cc), an, pc, gc, ql, re, pe, ma, pi, si, ob, co, fr', qu, tu, le)) : ∀ d i, i + d = 2 * n → wX_spread_4 post (nI m) (nI n) (nI (2 * n)) mc mp d1 d2 d3 d4 d5 (nI cc) an pc gc ql re pe ma pi si ob co fr qu tu le (d + 1) (sm_u co m i) (nI i)
  | 0, i, e => by
    refine br_t (nI_le (by omega) (by omega)) (xw_scramble ⟨2 * n + 1, xw_spread_48 hn (2 * n) 0 fr (by omega) (fun fr' h1 _ => hp fr' (fun l hl => ?_))⟩)
    rw [h1 l hl (by omega), show i = 2 * n from by omega]
    rfl
  | d + 1, i, e => by
    have ih := xw_spread_4 hn hp d (i + 1) (by omega)
    have ec : (nI i).toNatClampNeg = i := nI_clamp (by omega)
    refine br_f (nI_ge (a := i) (b := 2 * n) (by omega) (by omega)) ?_
    by_cases z : m.testBit i = true
    · have eu : sm_u co m (i + 1) = sm_u co m i + sm_c (co i) := congrArg (fun w => sm_u co m i + w) (if_pos z)
      refine br_f (fun w => (xi_m0 (by omega)).mp w z) ⟨vp_in_nI (by omega) (by decide), ?_⟩
      rw [ec]
      exact xw_scramble (nm_r eu.symm (nm_r (nI_1 i) ih))
    · have eu : sm_u co m (i + 1) = sm_u co m i := by
        show sm_u co m i + (if m.testBit i = true then sm_c (co i) else 0) = _
        rw [if_neg z, Int32.add_zero]
      rw [eu] at ih
      exact br_t ((xi_m0 (by omega)).mpr z) (nm_r (nI_1 i) ih)
theorem xw_spread {post : SX → Prop} (hn : n ≤ 4) {m : Nat} (hp : ∀ fr', (∀ l, l < 2 * n → fr' l = if m.testBit l = true then fr l + sm_g n co m else fr l) → post ((nI n), (nI (2 * n)), mc, mp, d1, d2, d3, d4, d5, (nI cc), an, pc, gc, ql, re, pe, ma, pi, si, ob, co, fr', qu, tu, le)) : wpX_spread post ((nI n), (nI (2 * n)), mc, mp, d1, d2, d3, d4, d5, (nI cc), an, pc, gc, ql, re, pe, ma, pi, si, ob, co, fr, qu, tu, le) (nI m) :=
  ⟨2 * n + 1, xw_spread_4 hn hp (2 * n) 0 (by omega)⟩
theorem xw_refineOnce_78 {post : SX → Prop} (hn : n ≤ 4) : ∀ (d i : Nat) (co : Nat → Int32), i + d = 2 * n → (∀ l, l < i → co l = fr l) → (∀ co', (∀ l, l < 2 * n → co' l = fr l) → post ((nI n), (nI (2 * n)), mc, mp, d1, d2, d3, d4, d5, (nI cc), an, pc, gc, ql, re, pe, ma, pi, si, ob, co', fr, qu, tu, le)) → wX_refineOnce_78 post (nI n) (nI (2 * n)) mc mp d1 d2 d3 d4 d5 (nI cc) an pc gc ql re (d + 1) (nI i) pe ma pi si ob co fr qu tu le
  | 0, i, co, e, h, hp => br_t (nI_le (by omega) (by omega)) (hp co (fun l hl => h l (by omega)))
  | d + 1, i, co, e, h, hp => by
    have ec : (nI i).toNatClampNeg = i := nI_clamp (by omega)
    refine br_f (nI_ge (a := i) (b := 2 * n) (by omega) (by omega)) ⟨vp_in_nI (by omega) (by decide), vp_in_nI (by omega) (by decide), nm_r (e' := upd co i (fr i)) (by rw [ec]) (nm_r (nI_1 i) (xw_refineOnce_78 hn d (i + 1) (upd co i (fr i)) (by omega) (fun l hl => ?_) hp))⟩
    by_cases w : l = i
    · rw [w, xi_uself]
    · rw [xi_upd w]; exact h l (by omega)
theorem xw_refineOnce_52 {post : SX → Prop} (hn : n ≤ 4) (h12 : cc ≤ 12) {ms : Nat → Nat} (hms : ∀ c, c < cc → ma c = nI (ms c)) (hp : ∀ co' fr', (∀ l, l < 2 * n → co' l = sm_r n ms co cc l) → post ((nI n), (nI (2 * n)), mc, mp, d1, d2, d3, d4, d5, (nI cc), an, pc, gc, ql, re, pe, ma, pi, si, ob, co', fr', qu, tu, le)) : ∀ (d i : Nat) (fr : Nat → Int32), i + d = cc → (∀ l, l < 2 * n → fr l = sm_r n ms co i l) → wX_refineOnce_52 post (d + 1) (nI i) (nI n) (nI (2 * n)) mc mp d1 d2 d3 d4 d5 (nI cc) an pc gc ql re pe ma pi si ob co fr qu tu le
  | 0, i, fr, e, h => br_t (nI_le (by omega) (by omega)) ⟨2 * n + 1, xw_refineOnce_78 hn (2 * n) 0 co (by omega) (fun l hl => by omega) (fun co' h1 => hp co' fr (fun l hl => by rw [h1 l hl, h l hl, show i = cc from by omega]))⟩
  | d + 1, i, fr, e, h => by
    have ec : (nI i).toNatClampNeg = i := nI_clamp (by omega)
    refine br_f (nI_ge (a := i) (b := cc) (by omega) (by omega)) ⟨vp_in_nI (by omega) (by decide), ?_⟩
    rw [ec, hms i (by omega)]
    refine xw_spread hn (fun fr' h1 => nm_r (nI_1 i) (xw_refineOnce_52 hn h12 hms hp d (i + 1) fr' (by omega) (fun l hl => ?_)))
    rw [h1 l hl, h l hl]
    show _ = (3 * sm_c (co l) + 7 * sm_c (co (sy_fl l))) + (sm_s (fun c => if (ms c).testBit l = true then sm_g n co (ms c) else 0) i + (if (ms i).testBit l = true then sm_g n co (ms i) else 0))
    by_cases z : (ms i).testBit l = true
    · rw [if_pos z, if_pos z, ← Int32.add_assoc]; rfl
    · rw [if_neg z, if_neg z, Int32.add_zero]; rfl
theorem xw_refineOnce_2 {post : SX → Prop} (hn : n ≤ 4) (h12 : cc ≤ 12) {ms : Nat → Nat} (hms : ∀ c, c < cc → ma c = nI (ms c)) (hp : ∀ co' fr', (∀ l, l < 2 * n → co' l = sm_r n ms co cc l) → post ((nI n), (nI (2 * n)), mc, mp, d1, d2, d3, d4, d5, (nI cc), an, pc, gc, ql, re, pe, ma, pi, si, ob, co', fr', qu, tu, le)) : ∀ (d i : Nat) (fr : Nat → Int32), i + d = 2 * n → (∀ l, l < i → fr l = sm_r n ms co 0 l) → wX_refineOnce_2 post (nI n) (nI (2 * n)) mc mp d1 d2 d3 d4 d5 (nI cc) an pc gc ql re (d + 1) (nI i) pe ma pi si ob co fr qu tu le
  | 0, i, fr, e, h => br_t (nI_le (by omega) (by omega)) ⟨cc + 1, xw_refineOnce_52 hn h12 hms hp cc 0 fr (by omega) (fun l hl => h l (by omega))⟩
  | d + 1, i, fr, e, h => by
    have ec : (nI i).toNatClampNeg = i := nI_clamp (by omega)
    have fl8 : sy_fl i < 8 := by have := sy_fl_lt (n := n) (x := i) (by omega); omega
    refine br_f (nI_ge (a := i) (b := 2 * n) (by omega) (by omega)) ⟨vp_in_nI (by omega) (by decide), ?_⟩
    rw [ec, xi_fl (by omega), nI_clamp (n := sy_fl i) (by omega)]
    refine xw_scramble ⟨vp_in_nI fl8 (by decide), xw_scramble ⟨vp_in_nI (by omega) (by decide), nm_r (e' := upd fr i (sm_r n ms co 0 i)) ?_ (nm_r (nI_1 i) (xw_refineOnce_2 hn h12 hms hp d (i + 1) (upd fr i (sm_r n ms co 0 i)) (by omega) (fun l hl => ?_)))⟩⟩
    · show _ = upd fr i ((3 * sm_c (co i) + 7 * sm_c (co (sy_fl i))) + 0)
      rw [Int32.add_zero]
    · by_cases w : l = i
      · rw [w, xi_uself]
      · rw [xi_upd w]; exact h l (by omega)
theorem xw_refineOnce {post : SX → Prop} (hn : n ≤ 4) (h12 : cc ≤ 12) {ms : Nat → Nat} (hms : ∀ c, c < cc → ma c = nI (ms c)) (hp : ∀ co' fr', (∀ l, l < 2 * n → co' l = sm_r n ms co cc l) → post ((nI n), (nI (2 * n)), mc, mp, d1, d2, d3, d4, d5, (nI cc), an, pc, gc, ql, re, pe, ma, pi, si, ob, co', fr', qu, tu, le)) : wpX_refineOnce post ((nI n), (nI (2 * n)), mc, mp, d1, d2, d3, d4, d5, (nI cc), an, pc, gc, ql, re, pe, ma, pi, si, ob, co, fr, qu, tu, le) :=
  ⟨2 * n + 1, xw_refineOnce_2 hn h12 hms hp (2 * n) 0 fr (by omega) (fun l hl => by omega)⟩
theorem xw_refine_44 {post : SX → Prop} (hn : n ≤ 4) (h12 : cc ≤ 12) {ms : Nat → Nat} (hms : ∀ c, c < cc → ma c = nI (ms c)) {k : Nat} (hp : ∀ co' fr', (∀ l, l < 2 * n → co' l = sm_it n ms cc (sm_0 k) (2 * n) l) → post ((nI n), (nI (2 * n)), mc, mp, d1, d2, d3, d4, d5, (nI cc), an, pc, gc, ql, re, pe, ma, pi, si, ob, co', fr', qu, tu, le)) : ∀ (d i : Nat) (co fr : Nat → Int32), i + d = 2 * n → (∀ l, l < 2 * n → co l = sm_it n ms cc (sm_0 k) i l) → wX_refine_44 post (d + 1) (nI i) (nI n) (nI (2 * n)) mc mp d1 d2 d3 d4 d5 (nI cc) an pc gc ql re pe ma pi si ob co fr qu tu le
  | 0, i, co, fr, e, h => br_t (nI_le (by omega) (by omega)) (hp co fr (by rw [show i = 2 * n from by omega] at h; exact h))
  | d + 1, i, co, fr, e, h => by
    refine br_f (nI_ge (a := i) (b := 2 * n) (by omega) (by omega)) (xw_refineOnce hn h12 hms (fun co' fr' h1 => nm_r (nI_1 i) (xw_refine_44 hn h12 hms hp d (i + 1) co' fr' (by omega) (fun l hl => ?_))))
    rw [h1 l hl, sm_r_ext h hl]
    rfl
theorem xw_refine_2 {post : SX → Prop} (hn : n ≤ 4) (h12 : cc ≤ 12) {ms : Nat → Nat} (hms : ∀ c, c < cc → ma c = nI (ms c)) {k : Nat} (hk : k ≤ 4) (hp : ∀ co' fr', (∀ l, l < 2 * n → co' l = sm_it n ms cc (sm_0 k) (2 * n) l) → post ((nI n), (nI (2 * n)), mc, mp, d1, d2, d3, d4, d5, (nI cc), an, pc, gc, ql, re, pe, ma, pi, si, ob, co', fr', qu, tu, le)) : ∀ (d i : Nat) (co : Nat → Int32), i + d = 2 * n → (∀ l, l < i → co l = sm_0 k l) → wX_refine_2 post (nI k) (nI n) (nI (2 * n)) mc mp d1 d2 d3 d4 d5 (nI cc) an pc gc ql re (d + 1) (nI i) pe ma pi si ob co fr qu tu le
  | 0, i, co, e, h => br_t (nI_le (by omega) (by omega)) ⟨2 * n + 1, xw_refine_44 hn h12 hms hp (2 * n) 0 co fr (by omega) (fun l hl => h l (by omega))⟩
  | d + 1, i, co, e, h => by
    have ec : (nI i).toNatClampNeg = i := nI_clamp (by omega)
    have ih : ∀ x : Int32, x = sm_0 k i → wX_refine_2 post (nI k) (nI n) (nI (2 * n)) mc mp d1 d2 d3 d4 d5 (nI cc) an pc gc ql re (d + 1) (nI (i + 1)) pe ma pi si ob (upd co i x) fr qu tu le := fun x ex => xw_refine_2 hn h12 hms hk hp d (i + 1) (upd co i x) (by omega) (fun l hl => by
      by_cases w : l = i
      · rw [w, xi_uself, ex]
      · rw [xi_upd w]; exact h l (by omega))
    have vi : vp_in (nI i) 8 := vp_in_nI (by omega) (by decide)
    refine br_f (nI_ge (a := i) (b := 2 * n) (by omega) (by omega)) ?_
    rw [xi_par (by omega), xi_2]
    by_cases z : i % 2 = 0
    · refine br_t (by rw [z]; rfl) ?_
      rcases Nat.lt_or_ge i (2 * k) with w | w
      · exact br_f (nI_ge w (by omega)) ⟨vi, nm_r (e' := upd co i (nI (i + 1))) (by rw [ec, nI_1]) (nm_r (nI_1 i) (ih _ (if_pos ⟨z, w⟩).symm))⟩
      · exact br_t (nI_le w (by omega)) ⟨vi, nm_r (e' := upd co i 0) (by rw [ec]) (nm_r (nI_1 i) (ih _ (if_neg (by omega)).symm))⟩
    · exact br_f (nI_ne0 (by omega) (by omega)) ⟨vi, nm_r (e' := upd co i 0) (by rw [ec]) (nm_r (nI_1 i) (ih _ (if_neg (fun q => z q.1)).symm))⟩
theorem xw_refine {post : SX → Prop} (hn : n ≤ 4) {H : Nat → Prop} (hH : sy_H n H) (hM : xw_M H cc ma) {k : Nat} (hk : k ≤ n) (hp : ∀ co' fr', (∀ t, sy_G n H k t → sm_K n t co') → post ((nI n), (nI (2 * n)), mc, mp, d1, d2, d3, d4, d5, (nI cc), an, pc, gc, ql, re, pe, ma, pi, si, ob, co', fr', qu, tu, le)) : wpX_refine post ((nI n), (nI (2 * n)), mc, mp, d1, d2, d3, d4, d5, (nI cc), an, pc, gc, ql, re, pe, ma, pi, si, ob, co, fr, qu, tu, le) (nI k) := by
  obtain ⟨ms, hE, hms⟩ := xw_Ms (fun m hm => Nat.lt_of_lt_of_le (hH m hm) (xi_p256 hn)) hM
  refine ⟨2 * n + 1, xw_refine_2 hn hM.2.1 (fun c hc => (hms c hc).1) (k := k) (by omega) (fun co' fr' h => hp co' fr' (fun t ht => ?_)) (2 * n) 0 co (by omega) (fun l hl => by omega)⟩
  exact sm_K_ext ht.1.1.1 h (sm_it_k hH hE ht.1 (sm_0_k hk ht) (2 * n))
end
end
section
/-! the component's search -/
def xs_KC (n : Nat) (H : Nat → Prop) (d : Nat) (s : Nat → Nat) : Prop := ∀ m, H m → 0 < m / 2 ^ (2 * d) → m / 2 ^ (2 * d) < 4 → H (sy_mm n s m)
def xs_FT (n : Nat) (H : Nat → Prop) (co : Nat → Int32) (d : Nat) (s : Nat → Nat) : Prop := co (s d) = co (2 * d) ∧ (∀ v, v < d → s v / 2 ≠ s d / 2) ∧ xs_KC n H d s
theorem xs_top {m d l : Nat} (h : m / 2 ^ (2 * d) < 4) (hb : m.testBit l = true) : l / 2 ≤ d := by
  have h2 : m < 2 ^ (2 * d + 2) := by
    have := (Nat.div_lt_iff_lt_mul (Nat.two_pow_pos (2 * d))).mp h
    rw [Nat.pow_add]
    omega
  have := sy_bit_lt h2 hb
  omega
theorem xs_mm {n : Nat} {s t : Nat → Nat} {m : Nat} (h : ∀ l, l < 2 * n → m.testBit l = true → s (l / 2) = t (l / 2)) : sy_mm n s m = sy_mm n t m := by
  apply sy_eqb
  intro i
  rw [sy_mm_b, sy_mm_b]
  constructor
  · rintro ⟨l, h1, h2, h3⟩
    exact ⟨l, h1, h2, by rw [← h3]; unfold sy_ap; rw [h l h1 h2]⟩
  · rintro ⟨l, h1, h2, h3⟩
    exact ⟨l, h1, h2, by rw [← h3]; unfold sy_ap; rw [h l h1 h2]⟩
theorem xs_FT_ext {n : Nat} {H : Nat → Prop} {co : Nat → Int32} {d : Nat} {s t : Nat → Nat} (h : ∀ v, v ≤ d → s v = t v) (hs : xs_FT n H co d s) : xs_FT n H co d t := by
  refine ⟨by rw [← h d (Nat.le_refl _)]; exact hs.1, fun v hv => by rw [← h d (Nat.le_refl _), ← h v (by omega)]; exact hs.2.1 v hv, fun m hm h1 h2 => ?_⟩
  rw [← xs_mm (fun l _ hb => h (l / 2) (xs_top h2 hb))]
  exact hs.2.2 m hm h1 h2
/-- a symmetry of the stabiliser fits everywhere -/
theorem xs_FT_G {n : Nat} {H : Nat → Prop} {co : Nat → Int32} {t : Nat → Nat} (ht : sy_S n H t) (hk : sm_K n t co) {d : Nat} (hd : d < n) : xs_FT n H co d t := by
  refine ⟨?_, fun v hv e => ?_, fun m hm _ _ => ht.2 m hm⟩
  · have := hk (2 * d) (by omega)
    rw [sy_ap_e] at this
    exact this
  · have := ht.1.2 v d (by omega) hd e
    omega
/-- a mask's last variable -/
theorem xs_last : ∀ {n m : Nat}, 0 < m → m < 2 ^ (2 * n) → ∃ d, d < n ∧ 0 < m / 2 ^ (2 * d) ∧ m / 2 ^ (2 * d) < 4
  | 0, m, h0, h => by rw [Nat.mul_zero, Nat.pow_zero] at h; omega
  | n + 1, m, h0, h => by
    rcases Nat.lt_or_ge m (2 ^ (2 * n)) with z | z
    · obtain ⟨d, h1, h2⟩ := xs_last h0 z
      exact ⟨d, by omega, h2⟩
    · refine ⟨n, by omega, Nat.div_pos z (Nat.two_pow_pos _), (Nat.div_lt_iff_lt_mul (Nat.two_pow_pos _)).mpr ?_⟩
      rw [show 2 * (n + 1) = 2 * n + 2 from by omega, Nat.pow_add] at h
      omega
theorem xs_G {n : Nat} {H : Nat → Prop} (hH : sy_H n H) {co : Nat → Int32} {k : Nat} {s : Nat → Nat} (h1 : ∀ v, v < n → s v < 2 * n) (h2 : ∀ v, v < k → s v = 2 * v) (h3 : ∀ v, k ≤ v → v < n → xs_FT n H co v s) : sy_G n H k s := by
  have ne : ∀ v w, v < w → w < n → s v / 2 ≠ s w / 2 := by
    intro v w hv hw
    rcases Nat.lt_or_ge w k with z | z
    · rw [h2 w z, h2 v (by omega)]; omega
    · exact (h3 w z hw).2.1 v hv
  refine ⟨⟨⟨h1, fun v w hv hw e => ?_⟩, fun m hm => ?_⟩, h2⟩
  · rcases Nat.lt_trichotomy v w with z | z | z
    · exact absurd e (ne v w z hw)
    · exact z
    · exact absurd e.symm (ne w v z hv)
  · rcases Nat.eq_zero_or_pos m with z | z
    · have e : sy_mm n s m = m := by
        apply sy_eqb
        intro i
        rw [sy_mm_b, z]
        constructor
        · rintro ⟨l, _, h, _⟩
          rw [Nat.zero_testBit] at h
          exact absurd h (by decide)
        · intro h
          rw [Nat.zero_testBit] at h
          exact absurd h (by decide)
      rw [e]; exact hm
    · obtain ⟨d, hd, d1, d2⟩ := xs_last z (hH m hm)
      rcases Nat.lt_or_ge d k with w | w
      · rw [xs_mm (t := sy_id) (fun l _ hb => h2 (l / 2) (by have := xs_top d2 hb; omega)), sy_mm_id (hH m hm)]
        exact hm
      · exact (h3 d w hd).2.2 m hm d1 d2
/-- the order of the search -/
def xs_Cp (n : Nat) (H : Nat → Prop) (k m0 d c : Nat) (s : Nat → Nat) : Prop := ∀ t, sy_G n H k t → t k = m0 → ((∀ v, v < d → t v = s v) ∧ (d < n → c ≤ t d)) ∨ ∃ v, k < v ∧ v < d ∧ (∀ w, w < v → t w = s w) ∧ s v < t v
def xs_w : Nat → Nat
  | 1 => 82
  | 2 => 10
  | _ => 1
def xs_f (k : Nat) (s : Nat → Nat) : Nat → Nat
  | 0 => 0
  | d + 1 => xs_f k s d + (if k < d then s d * xs_w d + 1 else 0)
theorem xs_w_le (d : Nat) : xs_w d ≤ 82 := by unfold xs_w; split <;> omega
theorem xs_f_ext {k : Nat} {s t : Nat → Nat} : ∀ {d : Nat}, (∀ v, v < d → s v = t v) → xs_f k s d = xs_f k t d
  | 0, _ => rfl
  | d + 1, h => by
    show xs_f k s d + _ = xs_f k t d + _
    rw [xs_f_ext (fun v hv => h v (by omega)), h d (by omega)]
theorem xs_f_le {k : Nat} {s : Nat → Nat} : ∀ {d : Nat}, (∀ v, v < d → s v ≤ 7) → xs_f k s d ≤ d * 575
  | 0, _ => Nat.le_refl _
  | d + 1, h => by
    have ih := xs_f_le (k := k) (s := s) (d := d) (fun v hv => h v (by omega))
    have a : s d * xs_w d ≤ 7 * 82 := Nat.mul_le_mul (h d (by omega)) (xs_w_le d)
    show xs_f k s d + (if k < d then s d * xs_w d + 1 else 0) ≤ _
    split <;> omega
theorem xs_w_dn {d c : Nat} (h2 : 2 ≤ d) (h3 : d ≤ 3) (hc : c ≤ 8) : c * xs_w d + 2 ≤ xs_w (d - 1) := by
  rcases (by omega : d = 2 ∨ d = 3) with e | e <;> subst e
  · show c * 10 + 2 ≤ 82
    omega
  · show c * 1 + 2 ≤ 10
    omega
section
variable {n cc : Nat} {mc mp d1 d2 d3 d4 d5 an pc gc ql re : Int32} {pe ma pi si ob co fr qu tu le : Nat → Int32}
theorem xs_keepsClauses_2 {post : Int32 → Prop} (hn : n ≤ 4) {H : Nat → Prop} (hM : xw_M H cc ma) {ms : Nat → Nat} (hE : sm_E H cc ms) (hms : ∀ c, c < cc → ma c = nI (ms c) ∧ ms c < 256) {d : Nat} (hd : d < n) {s : Nat → Nat} (hs : ∀ v, v < n → s v < 2 * n) (hpe : ∀ v, v ≤ d → pe (4 + v) = nI (s v)) (h1 : xs_KC n H d s → post 1) (h0 : ¬ xs_KC n H d s → post 0) : ∀ f i, i + f = cc → (∀ c, c < i → 0 < ms c / 2 ^ (2 * d) → ms c / 2 ^ (2 * d) < 4 → H (sy_mm n s (ms c))) → wX_keepsClauses_2 post (nI d) (nI n) (nI (2 * n)) mc mp d1 d2 d3 d4 d5 (nI cc) an pc gc ql re pe ma pi si ob co fr qu tu le (f + 1) (nI i)
  | 0, i, e, h => by
    refine br_t (nI_le (by omega) (by have := hM.2.1; omega)) (h1 (fun m hm p1 p2 => ?_))
    obtain ⟨c, hc, ec⟩ := hE.2.2 m hm
    rw [← ec] at p1 p2 ⊢
    exact h c (by omega) p1 p2
  | f + 1, i, e, h => by
    have h12 := hM.2.1
    have ec : (nI i).toNatClampNeg = i := nI_clamp (by omega)
    have vi : vp_in (nI i) 12 := vp_in_nI (by omega) (by decide)
    have hm := hms i (by omega)
    have ih := xs_keepsClauses_2 hn hM hE hms hd hs hpe h1 h0 f (i + 1) (by omega)
    have le : ms i / 2 ^ (2 * d) ≤ ms i := Nat.div_le_self _ _
    refine br_f (nI_ge (a := i) (b := cc) (by omega) (by omega)) ⟨vi, nm_r (e' := nI (ms i / 2 ^ (2 * d))) ?_ ?_⟩
    · rw [ec, hm.1, xi_2]
      exact pk_shrN (by omega) _ (2 * d) (s_l (2 * d) (by omega))
    · rw [ec, hm.1]
      rcases Nat.eq_zero_or_pos (ms i / 2 ^ (2 * d)) with z | z
      · refine br_t (by rw [z]; decide) (nm_r (nI_1 i) (ih (fun c hc p1 p2 => ?_)))
        by_cases w : c = i
        · rw [w] at p1; omega
        · exact h c (by omega) p1 p2
      · refine br_f (nI_nle z (by omega)) ?_
        rcases Nat.lt_or_ge (ms i / 2 ^ (2 * d)) 4 with y | y
        · refine br_f (nI_ge (b := 4) y (by decide)) ⟨vi, xw_mapMask (q := 4) (t := s) hn (by omega) (fun l hl hb => ⟨hpe (l / 2) (xs_top y hb), by have := hs (l / 2) (by omega); omega⟩) (xw_isHeld hM (Nat.lt_of_lt_of_le (sy_mm_lt hs _) (xi_p256 hn)) (fun yes => br_f (by decide) (nm_r (nI_1 i) (ih (fun c hc p1 p2 => ?_)))) (fun no => br_t rfl (h0 (fun kc => no (kc _ (hE.1 i (by omega)) z y)))))⟩
          by_cases w : c = i
          · rw [w]; exact yes
          · exact h c (by omega) p1 p2
        · refine br_t (nI_le (a := 4) y (by omega)) (nm_r (nI_1 i) (ih (fun c hc p1 p2 => ?_)))
          by_cases w : c = i
          · rw [w] at p2; omega
          · exact h c (by omega) p1 p2
theorem xs_keepsClauses {post : Int32 → Prop} (hn : n ≤ 4) {H : Nat → Prop} (hH : sy_H n H) (hM : xw_M H cc ma) {d : Nat} (hd : d < n) {s : Nat → Nat} (hs : ∀ v, v < n → s v < 2 * n) (hpe : ∀ v, v ≤ d → pe (4 + v) = nI (s v)) (h1 : xs_KC n H d s → post 1) (h0 : ¬ xs_KC n H d s → post 0) : wpX_keepsClauses post ((nI n), (nI (2 * n)), mc, mp, d1, d2, d3, d4, d5, (nI cc), an, pc, gc, ql, re, pe, ma, pi, si, ob, co, fr, qu, tu, le) (nI d) := by
  obtain ⟨ms, hE, hms⟩ := xw_Ms (fun m hm => Nat.lt_of_lt_of_le (hH m hm) (xi_p256 hn)) hM
  exact ⟨cc + 1, xs_keepsClauses_2 hn hM hE hms hd hs hpe h1 h0 cc 0 (by omega) (fun c hc => by omega)⟩
theorem xs_fits_30 {post : Int32 → Prop} (hn : n ≤ 4) {H : Nat → Prop} (hH : sy_H n H) (hM : xw_M H cc ma) {d : Nat} (hd : d < n) {s : Nat → Nat} (hs : ∀ v, v < n → s v < 2 * n) (hpe : ∀ v, v ≤ d → pe (4 + v) = nI (s v)) (hco : co (s d) = co (2 * d)) (h1 : xs_FT n H co d s → post 1) (h0 : ¬ xs_FT n H co d s → post 0) : ∀ f i, i + f = d → (∀ v, v < i → s v / 2 ≠ s d / 2) → wX_fits_30 post (nI d) (nI (s d)) (nI n) (nI (2 * n)) mc mp d1 d2 d3 d4 d5 (nI cc) an pc gc ql re pe ma pi si ob co fr qu tu le (f + 1) (nI i)
  | 0, i, e, h => br_t (nI_le (by omega) (by omega)) (xs_keepsClauses hn hH hM hd hs hpe (fun kc => ⟨narrow_b1, h1 ⟨hco, fun v hv => h v (by omega), kc⟩⟩) (fun nk => ⟨narrow_b0, h0 (fun ft => nk ft.2.2)⟩))
  | f + 1, i, e, h => by
    have ei : ((4 : Int32) + nI i).toNatClampNeg = 4 + i := pk_cl (4 + i) (nI_add 4 i)
    have si := hs i (by omega)
    have sd := hs d hd
    refine br_f (nI_ge (a := i) (b := d) (by omega) (by omega)) ⟨pk_in (4 + i) 204 (by omega) (nI_add 4 i), ?_⟩
    rw [ei, hpe i (by omega), xi_half (by omega), xi_half (by omega)]
    by_cases z : s i / 2 = s d / 2
    · exact br_t (by rw [z]) (h0 (fun ft => ft.2.1 i (by omega) z))
    · refine br_f (fun w => z ((nI_eq (by omega) (by omega)).mp w)) (nm_r (nI_1 i) (xs_fits_30 hn hH hM hd hs hpe hco h1 h0 f (i + 1) (by omega) (fun v hv => ?_)))
      by_cases w : v = i
      · rw [w]; exact z
      · exact h v (by omega)
theorem xs_fits {post : Int32 → Prop} (hn : n ≤ 4) {H : Nat → Prop} (hH : sy_H n H) (hM : xw_M H cc ma) {d : Nat} (hd : d < n) {s : Nat → Nat} (hs : ∀ v, v < n → s v < 2 * n) (hpe : ∀ v, v ≤ d → pe (4 + v) = nI (s v)) (h1 : xs_FT n H co d s → post 1) (h0 : ¬ xs_FT n H co d s → post 0) : wpX_fits post ((nI n), (nI (2 * n)), mc, mp, d1, d2, d3, d4, d5, (nI cc), an, pc, gc, ql, re, pe, ma, pi, si, ob, co, fr, qu, tu, le) (nI d) := by
  have ed : ((4 : Int32) + nI d).toNatClampNeg = 4 + d := pk_cl (4 + d) (nI_add 4 d)
  have sd := hs d hd
  unfold wpX_fits
  dsimp only
  rw [ed, hpe d (Nat.le_refl _), xi_2]
  refine ⟨pk_in (4 + d) 204 (by omega) (nI_add 4 d), nm_e ⟨vp_in_nI (by omega) (by decide), vp_in_nI (by omega) (by decide), ?_⟩⟩
  rw [nI_clamp (n := s d) (by omega), nI_clamp (n := 2 * d) (by omega)]
  by_cases z : co (s d) = co (2 * d)
  · exact br_t z ⟨d + 1, xs_fits_30 hn hH hM hd hs hpe z h1 h0 d 0 (by omega) (fun v hv => by omega)⟩
  · exact br_f z (h0 (fun ft => z ft.1))
/-- the tuple with m at d -/
def xs_s (s : Nat → Nat) (d m : Nat) : Nat → Nat := fun v => if v = d then m else s v
theorem xs_s_d (s : Nat → Nat) (d m : Nat) : xs_s s d m d = m := if_pos rfl
theorem xs_s_n {s : Nat → Nat} {d m v : Nat} (h : ¬ v = d) : xs_s s d m v = s v := if_neg h
theorem xs_advance_11 {post : Int32 → SX → Prop} (hn : n ≤ 4) {H : Nat → Prop} (hH : sy_H n H) (hM : xw_M H cc ma) {d : Nat} (hd : d < n) {s : Nat → Nat} (hs : ∀ v, v < n → s v < 2 * n) {c : Nat} {pe0 : Nat → Int32} (hpe0 : ∀ v, v < d → pe0 (4 + v) = nI (s v))
    (h1 : ∀ pe' m, c ≤ m → m < 2 * n → xs_FT n H co d (xs_s s d m) → (∀ j, c ≤ j → j < m → ¬ xs_FT n H co d (xs_s s d j)) → pe' (4 + d) = nI m → (∀ j, ¬ j = 4 + d → pe' j = pe0 j) → post 1 ((nI n), (nI (2 * n)), mc, mp, d1, d2, d3, d4, d5, (nI cc), an, pc, gc, ql, re, pe', ma, pi, si, ob, co, fr, qu, tu, le))
    (h0 : ∀ pe', (∀ j, c ≤ j → j < 2 * n → ¬ xs_FT n H co d (xs_s s d j)) → (∀ j, ¬ j = 4 + d → pe' j = pe0 j) → post 0 ((nI n), (nI (2 * n)), mc, mp, d1, d2, d3, d4, d5, (nI cc), an, pc, gc, ql, re, pe', ma, pi, si, ob, co, fr, qu, tu, le)) : ∀ (f i : Nat) (pe : Nat → Int32), i + f = 2 * n → c ≤ i → (∀ j, ¬ j = 4 + d → pe j = pe0 j) → (∀ j, c ≤ j → j < i → ¬ xs_FT n H co d (xs_s s d j)) → wX_advance_11 post (nI d) (nI n) (nI (2 * n)) mc mp d1 d2 d3 d4 d5 (nI cc) an pc gc ql re (f + 1) (nI i) pe ma pi si ob co fr qu tu le
  | 0, i, pe, e, hi, hj, h => br_t (nI_le (by omega) (by omega)) (h0 pe (fun j j1 j2 => h j j1 (by omega)) hj)
  | f + 1, i, pe, e, hi, hj, h => by
    have ed : ((4 : Int32) + nI d).toNatClampNeg = 4 + d := pk_cl (4 + d) (nI_add 4 d)
    have hj2 : ∀ j, ¬ j = 4 + d → upd pe (4 + d) (nI i) j = pe0 j := fun j w => by rw [xi_upd w]; exact hj j w
    refine br_f (nI_ge (a := i) (b := 2 * n) (by omega) (by omega)) ⟨pk_in (4 + d) 204 (by omega) (nI_add 4 d), nm_r (e' := upd pe (4 + d) (nI i)) (by rw [ed]) (xs_fits (s := xs_s s d i) hn hH hM hd (fun v hv => ?_) (fun v hv => ?_) (fun ft => br_f (by decide) (h1 _ i hi (by omega) ft h (xi_uself _ _ _) hj2)) (fun nf => br_t rfl (nm_r (nI_1 i) (xs_advance_11 hn hH hM hd hs hpe0 h1 h0 f (i + 1) (upd pe (4 + d) (nI i)) (by omega) (by omega) hj2 (fun j j1 j2 => ?_)))))⟩
    · by_cases w : v = d
      · rw [w, xs_s_d]; omega
      · rw [xs_s_n w]; exact hs v hv
    · by_cases w : v = d
      · rw [w, xs_s_d, xi_uself]
      · rw [xs_s_n w, hj2 (4 + v) (by omega)]; exact hpe0 v (by omega)
    · by_cases w : j = i
      · rw [w]; exact nf
      · exact h j j1 (by omega)
theorem xs_advance {post : Int32 → SX → Prop} (hn : n ≤ 4) {H : Nat → Prop} (hH : sy_H n H) (hM : xw_M H cc ma) {d : Nat} (hd : d < n) {s : Nat → Nat} (hs : ∀ v, v < n → s v < 2 * n) {c : Nat} (hc : c ≤ 2 * n) (hpe : ∀ v, v < d → pe (4 + v) = nI (s v)) (hcu : pe (4 + d) + 1 = nI c)
    (h1 : ∀ pe' m, c ≤ m → m < 2 * n → xs_FT n H co d (xs_s s d m) → (∀ j, c ≤ j → j < m → ¬ xs_FT n H co d (xs_s s d j)) → pe' (4 + d) = nI m → (∀ j, ¬ j = 4 + d → pe' j = pe j) → post 1 ((nI n), (nI (2 * n)), mc, mp, d1, d2, d3, d4, d5, (nI cc), an, pc, gc, ql, re, pe', ma, pi, si, ob, co, fr, qu, tu, le))
    (h0 : ∀ pe', (∀ j, c ≤ j → j < 2 * n → ¬ xs_FT n H co d (xs_s s d j)) → (∀ j, ¬ j = 4 + d → pe' j = pe j) → post 0 ((nI n), (nI (2 * n)), mc, mp, d1, d2, d3, d4, d5, (nI cc), an, pc, gc, ql, re, pe', ma, pi, si, ob, co, fr, qu, tu, le)) : wpX_advance post ((nI n), (nI (2 * n)), mc, mp, d1, d2, d3, d4, d5, (nI cc), an, pc, gc, ql, re, pe, ma, pi, si, ob, co, fr, qu, tu, le) (nI d) := by
  have ed : ((4 : Int32) + nI d).toNatClampNeg = 4 + d := pk_cl (4 + d) (nI_add 4 d)
  unfold wpX_advance
  dsimp only
  rw [ed]
  exact ⟨pk_in (4 + d) 204 (by omega) (nI_add 4 d), nm_r hcu ⟨2 * n - c + 1, xs_advance_11 hn hH hM hd hs hpe h1 h0 (2 * n - c) c pe (by omega) (Nat.le_refl _) (fun _ _ => rfl) (fun j j1 j2 => by omega)⟩⟩
theorem xs_search_48 {post : Int32 → SX → Prop} (hn : n ≤ 4) {H : Nat → Prop} (hH : sy_H n H) (hM : xw_M H cc ma) {k m0 : Nat} (hk : k < n) (hco : ∀ t, sy_G n H k t → sm_K n t co) {pe0 : Nat → Int32}
    (h1 : ∀ pe' s, xw_PH n 4 s pe' → sy_G n H k s → s k = m0 → (∀ j, (j < 4 ∨ 8 ≤ j) → pe' j = pe0 j) → post 1 ((nI n), (nI (2 * n)), mc, mp, d1, d2, d3, d4, d5, (nI cc), an, pc, gc, ql, re, pe', ma, pi, si, ob, co, fr, qu, tu, le))
    (h0 : ∀ pe', (¬ ∃ t, sy_G n H k t ∧ t k = m0) → (∀ j, (j < 4 ∨ 8 ≤ j) → pe' j = pe0 j) → post 0 ((nI n), (nI (2 * n)), mc, mp, d1, d2, d3, d4, d5, (nI cc), an, pc, gc, ql, re, pe', ma, pi, si, ob, co, fr, qu, tu, le)) :
    ∀ (f d st c : Nat) (s : Nat → Nat) (pe : Nat → Int32), 4096 < f + st → k ≤ d → d ≤ n → (∀ v, v < n → s v < 2 * n) → (∀ v, v < k → s v = 2 * v) → s k = m0 → (∀ v, v < d → pe (4 + v) = nI (s v)) → (∀ v, k ≤ v → v < d → xs_FT n H co v s) → (k < d → d < n → pe (4 + d) + 1 = nI c ∧ c ≤ 2 * n) → (k < d → xs_Cp n H k m0 d c s) → (d = k → ¬ ∃ t, sy_G n H k t ∧ t k = m0) → (k < d → st ≤ xs_f k s d + (if d < n then c * xs_w d else 0)) → (d = k → st ≤ 4000) → (∀ j, (j < 4 ∨ 8 ≤ j) → pe j = pe0 j) → wX_search_48 post (nI k) f (nI d) (nI st) (nI n) (nI (2 * n)) mc mp d1 d2 d3 d4 d5 (nI cc) an pc gc ql re pe ma pi si ob co fr qu tu le
  | 0, d, st, c, s, pe, hf, kd, dn, hs, hsk, hm, hpe, hft, hcu, hcp, hno, hst, hst0, hfr => by
    exfalso
    rcases Nat.lt_or_ge k d with z | z
    · have a := hst z
      have b := xs_f_le (k := k) (s := s) (d := d) (fun v hv => by have := hs v (by omega); omega)
      by_cases w : d < n
      · rw [if_pos w] at a
        have e : c * xs_w d ≤ 8 * 82 := Nat.mul_le_mul (by have := (hcu z w).2; omega) (xs_w_le d)
        omega
      · rw [if_neg w] at a
        omega
    · have := hst0 (by omega)
      omega
  | f + 1, d, st, c, s, pe, hf, kd, dn, hs, hsk, hm, hpe, hft, hcu, hcp, hno, hst, hst0, hfr => by
    have st4 : st < 4096 := by
      rcases Nat.lt_or_ge k d with z | z
      · have a := hst z
        have b := xs_f_le (k := k) (s := s) (d := d) (fun v hv => by have := hs v (by omega); omega)
        by_cases w : d < n
        · rw [if_pos w] at a
          have e : c * xs_w d ≤ 8 * 82 := Nat.mul_le_mul (by have := (hcu z w).2; omega) (xs_w_le d)
          omega
        · rw [if_neg w] at a
          omega
      · have := hst0 (by omega)
        omega
    refine br_f (nI_ge (b := 4096) st4 (by decide)) ?_
    rcases Nat.lt_or_ge k d with z | z
    · refine br_f (nI_ge z (by omega)) ?_
      rcases Nat.lt_or_ge d n with w | w
      · refine br_f (nI_ge w (by omega)) ?_
        obtain ⟨cu, cl⟩ := hcu z w
        have hstw := hst z
        rw [if_pos w] at hstw
        refine xs_advance (s := s) hn hH hM w hs cl hpe cu (fun pe' m m1 m2 ft nft em fr => br_f (by decide) (nm_r (nI_1 d) ?_)) (fun pe' nft fr => br_t rfl ?_)
        · have hs' : ∀ v, v < n → xs_s s d m v < 2 * n := fun v hv => by
            by_cases y : v = d
            · rw [y, xs_s_d]; exact m2
            · rw [xs_s_n y]; exact hs v hv
          have hsk' : ∀ v, v < k → xs_s s d m v = 2 * v := fun v hv => by rw [xs_s_n (by omega)]; exact hsk v hv
          have hm' : xs_s s d m k = m0 := by rw [xs_s_n (by omega)]; exact hm
          have hft' : ∀ v, k ≤ v → v < d + 1 → xs_FT n H co v (xs_s s d m) := fun v v1 v2 => by
            by_cases y : v = d
            · rw [y]; exact ft
            · exact xs_FT_ext (fun u hu => (xs_s_n (by omega)).symm) (hft v v1 (by omega))
          have hcp' : xs_Cp n H k m0 (d + 1) 0 (xs_s s d m) := by
            intro t ht tk
            rcases hcp z t ht tk with ⟨a, b⟩ | ⟨v, v1, v2, v3, v4⟩
            · have cd := b w
              have td : m ≤ t d := by
                rcases Nat.lt_or_ge (t d) m with y | y
                · exfalso
                  refine nft (t d) cd y (xs_FT_ext (fun u hu => ?_) (xs_FT_G ht.1 (hco t ht) w))
                  by_cases q : u = d
                  · rw [q, xs_s_d]
                  · rw [xs_s_n q]; exact a u (by omega)
                · exact y
              by_cases q : t d = m
              · refine Or.inl ⟨fun u hu => ?_, fun _ => Nat.zero_le _⟩
                by_cases p : u = d
                · rw [p, xs_s_d]; exact q
                · rw [xs_s_n p]; exact a u (by omega)
              · exact Or.inr ⟨d, z, by omega, fun u hu => by rw [xs_s_n (by omega)]; exact a u hu, by rw [xs_s_d]; omega⟩
            · exact Or.inr ⟨v, v1, by omega, fun u hu => by rw [xs_s_n (by omega)]; exact v3 u hu, by rw [xs_s_n (by omega)]; exact v4⟩
          have hst' : st + 1 ≤ xs_f k (xs_s s d m) (d + 1) := by
            show _ ≤ xs_f k (xs_s s d m) d + (if k < d then xs_s s d m d * xs_w d + 1 else 0)
            rw [if_pos z, xs_s_d, xs_f_ext (t := s) (fun v hv => xs_s_n (by omega))]
            have := Nat.mul_le_mul_right (xs_w d) m1
            omega
          have hfr' : ∀ j, (j < 4 ∨ 8 ≤ j) → pe' j = pe0 j := fun j hj => by rw [fr j (by omega)]; exact hfr j hj
          have hpe' : ∀ v, v < d + 1 → pe' (4 + v) = nI (xs_s s d m v) := fun v hv => by
            by_cases y : v = d
            · rw [y, xs_s_d]; exact em
            · rw [xs_s_n y, fr (4 + v) (by omega)]; exact hpe v (by omega)
          rcases Nat.lt_or_ge (d + 1) n with y | y
          · have ed : ((4 : Int32) + nI (d + 1)).toNatClampNeg = 4 + (d + 1) := pk_cl (4 + (d + 1)) (nI_add 4 (d + 1))
            refine br_f (nI_ge y (by omega)) ⟨pk_in (4 + (d + 1)) 204 (by omega) (nI_add 4 (d + 1)), nm_r (e' := upd pe' (4 + (d + 1)) (-1)) (by rw [ed]) (nm_r (nI_1 st) (xs_search_48 hn hH hM hk hco h1 h0 f (d + 1) (st + 1) 0 (xs_s s d m) (upd pe' (4 + (d + 1)) (-1)) (by omega) (by omega) (by omega) hs' hsk' hm' (fun v hv => ?_) hft' (fun _ _ => ⟨?_, by omega⟩) (fun _ => hcp') (fun q => by omega) (fun _ => ?_) (fun q => by omega) (fun j hj => ?_)))⟩
            · rw [xi_upd (by omega)]; exact hpe' v hv
            · rw [xi_uself]; decide
            · rw [if_pos y]; omega
            · rw [xi_upd (by omega)]; exact hfr' j hj
          · exact br_t (nI_le y (by omega)) (nm_r (nI_1 st) (xs_search_48 hn hH hM hk hco h1 h0 f (d + 1) (st + 1) 0 (xs_s s d m) pe' (by omega) (by omega) (by omega) hs' hsk' hm' hpe' hft' (fun _ q => by omega) (fun _ => hcp') (fun q => by omega) (fun _ => by rw [if_neg (by omega)]; exact hst') (fun q => by omega) hfr'))
        · have ed : nI d + (-1) = nI (d - 1) := by
            have := pk_m1 (d - 1)
            rw [show d - 1 + 1 = d from by omega] at this
            exact this
          have hfr' : ∀ j, (j < 4 ∨ 8 ≤ j) → pe' j = pe0 j := fun j hj => by rw [fr j (by omega)]; exact hfr j hj
          have key : ∀ t, sy_G n H k t → t k = m0 → ∃ v, k < v ∧ v < d ∧ (∀ w, w < v → t w = s w) ∧ s v < t v := by
            intro t ht tk
            rcases hcp z t ht tk with ⟨a, b⟩ | q
            · exfalso
              refine nft (t d) (b w) (ht.1.1.1 d w) (xs_FT_ext (fun u hu => ?_) (xs_FT_G ht.1 (hco t ht) w))
              by_cases q : u = d
              · rw [q, xs_s_d]
              · rw [xs_s_n q]; exact a u (by omega)
            · exact q
          refine nm_r ed (nm_r (nI_1 st) (xs_search_48 hn hH hM hk hco h1 h0 f (d - 1) (st + 1) (s (d - 1) + 1) s pe' (by omega) (by omega) (by omega) hs hsk hm (fun v hv => ?_) (fun v v1 v2 => hft v v1 (by omega)) (fun q1 q2 => ⟨?_, ?_⟩) (fun q t ht tk => ?_) (fun q => ?_) (fun q => ?_) (fun q => ?_) hfr'))
          · rw [fr (4 + v) (by omega)]; exact hpe v (by omega)
          · rw [fr (4 + (d - 1)) (by omega), hpe (d - 1) (by omega), nI_1]
          · have := hs (d - 1) (by omega); omega
          · obtain ⟨v, v1, v2, v3, v4⟩ := key t ht tk
            by_cases y : v = d - 1
            · rw [y] at v3 v4
              exact Or.inl ⟨v3, fun _ => v4⟩
            · exact Or.inr ⟨v, v1, by omega, v3, v4⟩
          · rintro ⟨t, ht, tk⟩
            obtain ⟨v, v1, v2, _, _⟩ := key t ht tk
            omega
          · rw [if_pos (by omega)]
            obtain ⟨e, he⟩ : ∃ e, d = e + 1 := ⟨d - 1, by omega⟩
            subst he
            rw [show e + 1 - 1 = e from by omega] at q ⊢
            have dn := xs_w_dn (d := e + 1) (c := c) (by omega) (by omega) (by omega)
            rw [show e + 1 - 1 = e from by omega] at dn
            have ef : xs_f k s (e + 1) = xs_f k s e + (s e * xs_w e + 1) := by
              show xs_f k s e + (if k < e then s e * xs_w e + 1 else 0) = _
              rw [if_pos q]
            rw [ef] at hstw
            rw [Nat.add_mul, Nat.one_mul]
            omega
          · have b := xs_f_le (k := k) (s := s) (d := d) (fun v hv => by have := hs v (by omega); omega)
            have e : c * xs_w d ≤ 8 * 82 := Nat.mul_le_mul (by omega) (xs_w_le d)
            omega
      · have e : d = n := by omega
        subst e
        refine br_t (nI_le (Nat.le_refl _) (by omega)) (br_t rfl (h1 pe s (fun v hv => hpe v hv) (xs_G hH hs hsk (fun v v1 v2 => hft v v1 v2)) hm hfr))
    · have e : d = k := by omega
      subst e
      refine br_t (nI_le (Nat.le_refl _) (by omega)) (br_f (fun q => ?_) (h0 pe (hno rfl) hfr))
      have := (nI_eq (by omega) (by omega)).mp q
      omega
theorem xs_search {post : Int32 → SX → Prop} (hn : n ≤ 4) {H : Nat → Prop} (hH : sy_H n H) (hM : xw_M H cc ma) {k m0 : Nat} (hk : k < n) (hm0 : m0 < 2 * n) (hco : ∀ t, sy_G n H k t → sm_K n t co)
    (h1 : ∀ pe' s, xw_PH n 4 s pe' → sy_G n H k s → s k = m0 → (∀ j, (j < 4 ∨ 8 ≤ j) → pe' j = pe j) → post 1 ((nI n), (nI (2 * n)), mc, mp, d1, d2, d3, d4, d5, (nI cc), an, pc, gc, ql, re, pe', ma, pi, si, ob, co, fr, qu, tu, le))
    (h0 : ∀ pe', (¬ ∃ t, sy_G n H k t ∧ t k = m0) → (∀ j, (j < 4 ∨ 8 ≤ j) → pe' j = pe j) → post 0 ((nI n), (nI (2 * n)), mc, mp, d1, d2, d3, d4, d5, (nI cc), an, pc, gc, ql, re, pe', ma, pi, si, ob, co, fr, qu, tu, le)) : wpX_search post ((nI n), (nI (2 * n)), mc, mp, d1, d2, d3, d4, d5, (nI cc), an, pc, gc, ql, re, pe, ma, pi, si, ob, co, fr, qu, tu, le) (nI k) (nI m0) := by
  have ek : ((4 : Int32) + nI k).toNatClampNeg = 4 + k := pk_cl (4 + k) (nI_add 4 k)
  have ek1 : ((4 : Int32) + nI (k + 1)).toNatClampNeg = 4 + (k + 1) := pk_cl (4 + (k + 1)) (nI_add 4 (k + 1))
  have hs : ∀ v, v < n → xs_s sy_id k m0 v < 2 * n := fun v hv => by
    by_cases w : v = k
    · rw [w, xs_s_d]; exact hm0
    · rw [xs_s_n w]; unfold sy_id; omega
  unfold wpX_search
  dsimp only
  refine xw_setIdentity (q := 4) hn (by omega) (fun pe1 hput => ?_)
  dsimp only
  rw [ek]
  refine ⟨pk_in (4 + k) 204 (by omega) (nI_add 4 k), nm_e ?_⟩
  have hp2 : ∀ v, v < n → upd pe1 (4 + k) (nI m0) (4 + v) = nI (xs_s sy_id k m0 v) := fun v hv => by
    by_cases w : v = k
    · rw [w, xs_s_d, xi_uself]
    · rw [xs_s_n w, xi_upd (by omega)]; exact hput.1 v hv
  have hf2 : ∀ j, (j < 4 ∨ 8 ≤ j) → upd pe1 (4 + k) (nI m0) j = pe j := fun j hj => by
    rw [xi_upd (by omega)]; exact hput.2 j (by omega)
  refine xs_fits (s := xs_s sy_id k m0) hn hH hM hk hs (fun v hv => hp2 v (by omega)) (fun ft => br_f (by decide) (nm_r (nI_1 k) ?_)) (fun nf => br_t rfl (h0 _ ?_ hf2))
  · have hft : ∀ v, k ≤ v → v < k + 1 → xs_FT n H co v (xs_s sy_id k m0) := fun v v1 v2 => by
      rw [show v = k from by omega]; exact ft
    have hcp : ∀ c, c = 0 → xs_Cp n H k m0 (k + 1) c (xs_s sy_id k m0) := fun c ec t ht tk => Or.inl ⟨fun v hv => by
      by_cases w : v = k
      · rw [w, xs_s_d]; exact tk
      · rw [xs_s_n w]; exact ht.2 v (by omega), fun _ => by omega⟩
    have hsk : ∀ v, v < k → xs_s sy_id k m0 v = 2 * v := fun v hv => by rw [xs_s_n (by omega)]; rfl
    rcases Nat.lt_or_ge (k + 1) n with y | y
    · rw [ek1]
      refine br_f (nI_ge y (by omega)) ⟨pk_in (4 + (k + 1)) 204 (by omega) (nI_add 4 (k + 1)), nm_e ⟨4097, xs_search_48 hn hH hM hk hco h1 h0 4097 (k + 1) 0 0 (xs_s sy_id k m0) (upd (upd pe1 (4 + k) (nI m0)) (4 + (k + 1)) (-1)) (by omega) (by omega) (by omega) hs hsk (xs_s_d _ _ _) (fun v hv => ?_) hft (fun _ _ => ⟨?_, by omega⟩) (fun _ => hcp 0 rfl) (fun q => by omega) (fun _ => Nat.zero_le _) (fun q => by omega) (fun j hj => ?_)⟩⟩
      · rw [xi_upd (by omega)]; exact hp2 v (by omega)
      · rw [xi_uself]; decide
      · rw [xi_upd (by omega)]; exact hf2 j hj
    · exact br_t (nI_le y (by omega)) ⟨4097, xs_search_48 hn hH hM hk hco h1 h0 4097 (k + 1) 0 0 (xs_s sy_id k m0) (upd pe1 (4 + k) (nI m0)) (by omega) (by omega) (by omega) hs hsk (xs_s_d _ _ _) (fun v hv => hp2 v (by omega)) hft (fun _ q => by omega) (fun _ => hcp 0 rfl) (fun q => by omega) (fun _ => Nat.zero_le _) (fun q => by omega) hf2⟩
  · rintro ⟨t, ht, tk⟩
    refine nf (xs_FT_ext (fun v hv => ?_) (xs_FT_G ht.1 (hco t ht) hk))
    by_cases w : v = k
    · rw [w, xs_s_d]; exact tk
    · rw [xs_s_n w]; exact ht.2 v (by omega)
end
end
section
/-! the component's orbits and generators -/
def xc_R (n k : Nat) (ob : Nat → Int32) (ρ : Nat → Nat → Prop) : Prop := ∀ l, l < 2 * n → ∀ j, j < 32 → (bt (ob (k * 8 + l)) j = true ↔ ρ l j)
theorem xc_oAt (k l : Nat) : (nI k * 8) + nI l = nI (k * 8 + l) := by
  have a : nI k * 8 = nI (k * 8) := pk_mul k 8
  rw [a, nI_add]
theorem xc_gAt (g : Nat) : (12 : Int32) + (4 * nI g) = nI (12 + 4 * g) := by
  have a : 4 * nI g = nI (4 * g) := pk_mul 4 g
  rw [a]
  exact nI_add 12 (4 * g)
section
variable {n cc : Nat} {mc mp d1 d2 d3 d4 d5 an pc gc ql re : Int32} {pe ma pi si ob co fr qu tu le : Nat → Int32}
theorem xc_joinOrbits_28 {post : SX → Prop} (hn : n ≤ 4) {k : Nat} (hk : k < n) {un : Int32} : ∀ (d i : Nat) (ob : Nat → Int32), i + d = 2 * n → (∀ ob', (∀ l, l < 2 * n → i ≤ l → ob' (k * 8 + l) = if bt un l = true then un else ob (k * 8 + l)) → (∀ j, (j < k * 8 + i ∨ k * 8 + 2 * n ≤ j) → ob' j = ob j) → post ((nI n), (nI (2 * n)), mc, mp, d1, d2, d3, d4, d5, (nI cc), an, pc, gc, ql, re, pe, ma, pi, si, ob', co, fr, qu, tu, le)) → wX_joinOrbits_28 post (nI k) un (nI n) (nI (2 * n)) mc mp d1 d2 d3 d4 d5 (nI cc) an pc gc ql re (d + 1) (nI i) pe ma pi si ob co fr qu tu le
  | 0, i, ob, e, hp => br_t (nI_le (by omega) (by omega)) (hp ob (fun l h1 h2 => by omega) (fun _ _ => rfl))
  | d + 1, i, ob, e, hp => by
    have ec : ((nI k * 8) + nI i).toNatClampNeg = k * 8 + i := pk_cl (k * 8 + i) (xc_oAt k i)
    refine br_f (nI_ge (a := i) (b := 2 * n) (by omega) (by omega)) ?_
    by_cases z : bt un i = true
    · refine br_f (fun w => (xi_bit0 un (by omega)).mp w z) ⟨pk_in (k * 8 + i) 40 (by omega) (xc_oAt k i), nm_r (e' := upd ob (k * 8 + i) un) (by rw [ec]) (nm_r (nI_1 i) (xc_joinOrbits_28 hn hk d (i + 1) (upd ob (k * 8 + i) un) (by omega) (fun ob' h1 h2 => hp ob' (fun l k1 k2 => ?_) (fun j hj => ?_))))⟩
      · by_cases w : l = i
        · rw [w, if_pos z, h2 (k * 8 + i) (by omega), xi_uself]
        · rw [h1 l k1 (by omega), xi_upd (by omega)]
      · rw [h2 j (by omega), xi_upd (by omega)]
    · refine br_t ((xi_bit0 un (by omega)).mpr z) (nm_r (nI_1 i) (xc_joinOrbits_28 hn hk d (i + 1) ob (by omega) (fun ob' h1 h2 => hp ob' (fun l k1 k2 => ?_) (fun j hj => h2 j (by omega)))))
      by_cases w : l = i
      · rw [w, if_neg z, h2 (k * 8 + i) (by omega)]
      · exact h1 l k1 (by omega)
theorem xc_joinOrbits {post : SX → Prop} (hn : n ≤ 4) {k : Nat} (hk : k < n) {ρ : Nat → Nat → Prop} (hR : xc_R n k ob ρ) {x y : Nat} (hx : x < 2 * n) (hy : y < 2 * n) (hp : ∀ ob', xc_R n k ob' (sy_J ρ x y) → (∀ j, (j < k * 8 ∨ k * 8 + 2 * n ≤ j) → ob' j = ob j) → post ((nI n), (nI (2 * n)), mc, mp, d1, d2, d3, d4, d5, (nI cc), an, pc, gc, ql, re, pe, ma, pi, si, ob', co, fr, qu, tu, le)) : wpX_joinOrbits post ((nI n), (nI (2 * n)), mc, mp, d1, d2, d3, d4, d5, (nI cc), an, pc, gc, ql, re, pe, ma, pi, si, ob, co, fr, qu, tu, le) (nI k) (nI x) (nI y) := by
  have ex : ((nI k * 8) + nI x).toNatClampNeg = k * 8 + x := pk_cl (k * 8 + x) (xc_oAt k x)
  have ey : ((nI k * 8) + nI y).toNatClampNeg = k * 8 + y := pk_cl (k * 8 + y) (xc_oAt k y)
  unfold wpX_joinOrbits
  dsimp only
  rw [ex, ey]
  have hu : ∀ j, j < 32 → (bt (ob (k * 8 + x) ||| ob (k * 8 + y)) j = true ↔ ρ x j ∨ ρ y j) := fun j hj => by
    rw [b_or, Bool.or_eq_true, hR x hx j hj, hR y hy j hj]
  refine ⟨pk_in (k * 8 + x) 40 (by omega) (xc_oAt k x), pk_in (k * 8 + y) 40 (by omega) (xc_oAt k y), nm_e ⟨2 * n + 1, xc_joinOrbits_28 hn hk (2 * n) 0 ob (by omega) (fun ob' h1 h2 => hp ob' (fun l hl j hj => ?_) (fun j hj => h2 j (by omega)))⟩⟩
  rw [h1 l hl (by omega)]
  unfold sy_J
  by_cases z : ρ x l ∨ ρ y l
  · rw [if_pos ((hu l (by omega)).mpr z), hu j hj]
    exact ⟨fun w => Or.inl ⟨z, w⟩, fun w => w.elim (fun q => q.2) (fun q => absurd z q.1)⟩
  · rw [if_neg (fun w => z ((hu l (by omega)).mp w)), hR l hl j hj]
    exact ⟨fun w => Or.inr ⟨z, w⟩, fun w => w.elim (fun q => absurd q.1 z) (fun q => q.2)⟩
theorem xc_addGenerator_27 {post : SX → Prop} (hn : n ≤ 4) {k q : Nat} (hk : k < n) (hq : q + 4 ≤ 204) {s : Nat → Nat} (hs : sy_B n s) (hpe : xw_PH n q s pe) {gs : Nat → Nat → Nat} {c g0 : Nat} (hg0 : g0 < c) (hgs : gs g0 = s) {ρ0 : Nat → Nat → Prop} {ob0 : Nat → Int32}
    (hp : ∀ ob' ρ', sy_P n ρ' → xc_R n k ob' ρ' → sy_Lst n gs c ρ' → (∀ l, l < 2 * n → ρ' l (sy_ap s l)) → (∀ l j, l < 2 * n → ρ0 l j → ρ' l j) → (∀ j, (j < k * 8 ∨ k * 8 + 2 * n ≤ j) → ob' j = ob0 j) → post ((nI n), (nI (2 * n)), mc, mp, d1, d2, d3, d4, d5, (nI cc), an, pc, gc, ql, re, pe, ma, pi, si, ob', co, fr, qu, tu, le)) :
    ∀ (d i : Nat) (ob : Nat → Int32) (ρ : Nat → Nat → Prop), i + d = 2 * n → sy_P n ρ → xc_R n k ob ρ → sy_Lst n gs c ρ → (∀ l, l < i → ρ l (sy_ap s l)) → (∀ l j, l < 2 * n → ρ0 l j → ρ l j) → (∀ j, (j < k * 8 ∨ k * 8 + 2 * n ≤ j) → ob j = ob0 j) → wX_addGenerator_27 post (nI k) (nI q) (d + 1) (nI i) (nI n) (nI (2 * n)) mc mp d1 d2 d3 d4 d5 (nI cc) an pc gc ql re pe ma pi si ob co fr qu tu le
  | 0, i, ob, ρ, e, h1, h2, h3, h4, h5, h6 => br_t (nI_le (by omega) (by omega)) (hp ob ρ h1 h2 h3 (fun l hl => h4 l (by omega)) h5 h6)
  | d + 1, i, ob, ρ, e, h1, h2, h3, h4, h5, h6 => by
    have hi : i < 2 * n := by omega
    have hy := sy_ap_lt hs.1 hi
    refine br_f (nI_ge (a := i) (b := 2 * n) (by omega) (by omega)) (xw_imageAt (t := s) (hpe (i / 2) (by omega)) (by have := hs.1 (i / 2) (by omega); omega) (by omega) (by omega) (xc_joinOrbits hn hk h2 hi hy (fun ob' k1 k2 => nm_r (nI_1 i) (xc_addGenerator_27 hn hk hq hs hpe hg0 hgs hp d (i + 1) ob' (sy_J ρ i (sy_ap s i)) (by omega) (sy_J_P h1 hi hy) k1 ?_ (fun l hl => ?_) (fun l j hl hr => sy_J_sub h1 hi hy hl (h5 l j hl hr)) (fun j hj => by rw [k2 j hj]; exact h6 j hj)))))
    · have := sy_Lst_J h1 h3 hg0 hi (by rw [hgs]; exact hs)
      rw [hgs] at this
      exact this
    · by_cases w : l = i
      · rw [w]; exact sy_J_xy h1 hi hy
      · exact sy_J_sub h1 hi hy (by omega) (h4 l (by omega))
/-- the state while the generators of a level are found -/
def xc_F (n : Nat) (H : Nat → Prop) (k : Nat) (gs : Nat → Nat → Nat) (g : Nat) (pe ob : Nat → Int32) (ρ : Nat → Nat → Prop) : Prop :=
  (∀ i, i < g → xw_PH n (12 + 4 * i) (gs i) pe ∧ sy_G n H k (gs i)) ∧ sy_P n ρ ∧ xc_R n k ob ρ ∧ sy_Lst n gs g ρ ∧ (∀ i, i < g → ∀ l, l < 2 * n → ρ l (sy_ap (gs i) l)) ∧ sy_Gen n H (k + 1) gs g
def xc_g (gs : Nat → Nat → Nat) (g : Nat) (s : Nat → Nat) : Nat → Nat → Nat := fun i => if i = g then s else gs i
theorem xc_g_s (gs : Nat → Nat → Nat) (g : Nat) (s : Nat → Nat) : xc_g gs g s g = s := if_pos rfl
theorem xc_g_n {gs : Nat → Nat → Nat} {g : Nat} {s : Nat → Nat} {i : Nat} (h : ¬ i = g) : xc_g gs g s i = gs i := if_neg h
theorem xc_addGenerator {post : SX → Prop} (hn : n ≤ 4) {H : Nat → Prop} {k : Nat} (hk : k < n) {gs : Nat → Nat → Nat} {g : Nat} (hg : g ≤ 15) {ρ : Nat → Nat → Prop} (hF : xc_F n H k gs g pe ob ρ) {s : Nat → Nat} (hs : sy_G n H k s) (hpe : xw_PH n 4 s pe)
    (hp : ∀ pe' ob' ρ', xc_F n H k (xc_g gs g s) (g + 1) pe' ob' ρ' → (∀ l, l < 2 * n → ρ' l (sy_ap s l)) → (∀ l j, l < 2 * n → ρ l j → ρ' l j) → (∀ j, (j < 12 ∨ 76 ≤ j) → pe' j = pe j) → (∀ j, (j < k * 8 ∨ k * 8 + 2 * n ≤ j) → ob' j = ob j) → post ((nI n), (nI (2 * n)), mc, mp, d1, d2, d3, d4, d5, (nI cc), an, pc, (nI (g + 1)), ql, re, pe', ma, pi, si, ob', co, fr, qu, tu, le)) : wpX_addGenerator post ((nI n), (nI (2 * n)), mc, mp, d1, d2, d3, d4, d5, (nI cc), an, pc, (nI g), ql, re, pe, ma, pi, si, ob, co, fr, qu, tu, le) (nI k) := by
  unfold wpX_addGenerator wpX_generatorAt
  dsimp only
  rw [xc_gAt]
  refine xw_copyPerm (p := 4) (q := 12 + 4 * g) (t := s) hn (by omega) (by omega) (Or.inl (by omega)) hpe (fun pe' hput => nm_r (nI_1 g) ⟨2 * n + 1, ?_⟩)
  have up : ∀ i, i < g → xc_g gs g s i = gs i := fun i hi => xc_g_n (by omega)
  refine xc_addGenerator_27 (gs := xc_g gs g s) (c := g + 1) (g0 := g) (s := s) (ρ0 := ρ) (ob0 := ob) hn hk (by omega) hs.1.1 hput.1 (by omega) (xc_g_s gs g s) (fun ob' ρ' h1 h2 h3 h4 h5 h6 => hp pe' ob' ρ' ⟨fun i hi => ?_, h1, h2, h3, fun i hi l hl => ?_, sy_Gen_up (by omega) up hF.2.2.2.2.2⟩ h4 h5 (fun j hj => hput.2 j (by omega)) h6) (2 * n) 0 ob ρ (by omega) hF.2.1 hF.2.2.1 (sy_Lst_up (by omega) up hF.2.2.2.1) (fun l hl => by omega) (fun _ _ _ z => z) (fun _ _ => rfl)
  · by_cases w : i = g
    · rw [w, xc_g_s]; exact ⟨hput.1, hs⟩
    · rw [xc_g_n w]
      have a := hF.1 i (by omega)
      exact ⟨fun v hv => by rw [hput.2 _ (by omega)]; exact a.1 v hv, a.2⟩
  · by_cases w : i = g
    · rw [w, xc_g_s]; exact h4 l hl
    · rw [xc_g_n w]; exact h5 l _ hl (hF.2.2.2.2.1 i (by omega) l hl)
theorem xc_F_pe {H : Nat → Prop} {k : Nat} {gs : Nat → Nat → Nat} {g : Nat} {ρ : Nat → Nat → Prop} {pe' : Nat → Int32} (hn : n ≤ 4) (hg : g ≤ 16) (hF : xc_F n H k gs g pe ob ρ) (h : ∀ j, 12 ≤ j → j < 76 → pe' j = pe j) : xc_F n H k gs g pe' ob ρ :=
  ⟨fun i hi => ⟨fun v hv => by rw [h _ (by omega) (by omega)]; exact (hF.1 i hi).1 v hv, (hF.1 i hi).2⟩, hF.2⟩
theorem xc_findGenerators_12 {post : SX → Prop} (hn : n ≤ 4) {H : Nat → Prop} (hH : sy_H n H) (hM : xw_M H cc ma) {k : Nat} (hk : k < n) (hco : ∀ t, sy_G n H k t → sm_K n t co) {g0 : Nat} (hg0 : g0 + (2 * n - 2 * k - 1) ≤ 16) {pe0 ob0 : Nat → Int32}
    (hp : ∀ pe' ob' gs' g' ρ', g' ≤ g0 + (2 * n - 2 * k - 1) → xc_F n H k gs' g' pe' ob' ρ' → (∀ j, sy_O n H k (2 * k) j → ρ' (2 * k) j) → (∀ j, (j < 4 ∨ 76 ≤ j) → pe' j = pe0 j) → (∀ j, (j < k * 8 ∨ k * 8 + 2 * n ≤ j) → ob' j = ob0 j) → post ((nI n), (nI (2 * n)), mc, mp, d1, d2, d3, d4, d5, (nI cc), an, pc, (nI g'), ql, re, pe', ma, pi, si, ob', co, fr, qu, tu, le)) :
    ∀ (d m : Nat) (x : Int32) (pe ob : Nat → Int32) (gs : Nat → Nat → Nat) (g : Nat) (ρ : Nat → Nat → Prop), m + d = 2 * n → 2 * k < m → g ≤ g0 + (m - 2 * k - 1) → xc_F n H k gs g pe ob ρ → bt x (2 * k) = true → (∀ j, j < 32 → bt x j = true → j < 2 * n ∧ (j = 2 * k ∨ ¬ sy_O n H k (2 * k) j)) → (∀ j, 2 * k < j → j < m → ρ (2 * k) j ∨ ¬ sy_O n H k (2 * k) j) → (∀ j, (j < 4 ∨ 76 ≤ j) → pe j = pe0 j) → (∀ j, (j < k * 8 ∨ k * 8 + 2 * n ≤ j) → ob j = ob0 j) → wX_findGenerators_12 post (nI k) (d + 1) x (nI m) (nI n) (nI (2 * n)) mc mp d1 d2 d3 d4 d5 (nI cc) an pc (nI g) ql re pe ma pi si ob co fr qu tu le
  | 0, m, x, pe, ob, gs, g, ρ, e, hm, hg, hF, hx, hX, hD, f1, f2 => by
    refine br_t (nI_le (by omega) (by omega)) (hp pe ob gs g ρ (by omega) hF (fun j hj => ?_) f1 f2)
    have a := sy_O_lt (by omega) hj
    have b := sy_O_ge (by omega) (by omega) (Nat.le_refl _) hj
    rcases Nat.lt_or_ge (2 * k) j with w | w
    · exact (hD j w (by omega)).elim id (fun q => absurd hj q)
    · rw [show j = 2 * k from by omega]
      exact hF.2.1.1.1 (2 * k) (by omega)
  | d + 1, m, x, pe, ob, gs, g, ρ, e, hm, hg, hF, hx, hX, hD, f1, f2 => by
    have ec : ((nI k * 8) + nI m).toNatClampNeg = k * 8 + m := pk_cl (k * 8 + m) (xc_oAt k m)
    refine br_f (nI_ge (a := m) (b := 2 * n) (by omega) (by omega)) ⟨pk_in (k * 8 + m) 40 (by omega) (xc_oAt k m), ?_⟩
    rw [ec]
    by_cases z : ob (k * 8 + m) &&& x = 0
    · refine br_t z (xs_search (m0 := m) hn hH hM hk (by omega) hco (fun pe' s hs1 hs2 hs3 fr => br_f (by decide) ?_) (fun pe' hno fr => br_t rfl ?_))
      · refine xc_addGenerator hn hk (by omega) (xc_F_pe hn (by omega) hF (fun j j1 j2 => fr j (by omega))) hs2 hs1 (fun pe2 ob2 ρ2 hF2 he hsub fr2 fo2 => nm_r (nI_1 m) (xc_findGenerators_12 hn hH hM hk hco hg0 hp d (m + 1) x pe2 ob2 (xc_g gs g s) (g + 1) ρ2 (by omega) (by omega) (by omega) hF2 hx hX (fun j j1 j2 => ?_) (fun j hj => ?_) (fun j hj => by rw [fo2 j hj]; exact f2 j hj)))
        · by_cases w : j = m
          · have := he (2 * k) (by omega)
            rw [sy_ap_e, hs3] at this
            rw [w]; exact Or.inl this
          · exact (hD j j1 (by omega)).elim (fun q => Or.inl (hsub _ _ (by omega) q)) Or.inr
        · rw [fr2 j (by omega), fr j (by omega)]; exact f1 j hj
      · have no : ¬ sy_O n H k (2 * k) m := fun ⟨t, ht, et⟩ => hno ⟨t, ht, by rw [sy_ap_e] at et; exact et⟩
        refine nm_e (nm_r (nI_1 m) (xc_findGenerators_12 hn hH hM hk hco hg0 hp d (m + 1) _ pe' ob gs g ρ (by omega) (by omega) (by omega) (xc_F_pe hn (by omega) hF (fun j j1 j2 => fr j (by omega))) ?_ (fun j j1 j2 => ?_) (fun j j1 j2 => ?_) (fun j hj => by rw [fr j (by omega)]; exact f1 j hj) f2))
        · rw [b_or, hx]; rfl
        · rw [b_or, Bool.or_eq_true, xi_one m (by omega) j j1, decide_eq_true_eq] at j2
          rcases j2 with w | w
          · exact hX j j1 w
          · rw [w]; exact ⟨by omega, Or.inr no⟩
        · by_cases w : j = m
          · rw [w]; exact Or.inr no
          · exact hD j j1 (by omega)
    · refine br_f z (nm_r (nI_1 m) (xc_findGenerators_12 hn hH hM hk hco hg0 hp d (m + 1) x pe ob gs g ρ (by omega) (by omega) (by omega) hF hx hX (fun j j1 j2 => ?_) f1 f2))
      by_cases w : j = m
      · rw [w]
        rcases Classical.em (sy_O n H k (2 * k) m) with o | o
        · refine Or.inl ?_
          rcases Classical.em (ρ (2 * k) m) with r | r
          · exact r
          · exfalso
            refine z ((xi_and0 _ _).mpr (fun i hi hb => ?_))
            have rm := (hF.2.2.1 m (by omega) i hi).mp hb.1
            have xi := hX i hi hb.2
            have om : sy_O n H k m i := sy_sound hH (by omega) (fun i hi => (hF.1 i hi).2) hF.2.2.2.1 (by omega) rm
            rcases xi.2 with q | q
            · rw [q] at rm
              exact r (hF.2.1.1.2.1 m (2 * k) (by omega) (by omega) rm)
            · exact q (sy_O_tr o om)
        · exact Or.inr o
      · exact hD j j1 (by omega)
theorem xc_findGenerators {post : SX → Prop} (hn : n ≤ 4) {H : Nat → Prop} (hH : sy_H n H) (hM : xw_M H cc ma) {k : Nat} (hk : k < n) (hco : ∀ t, sy_G n H k t → sm_K n t co) {g : Nat} (hg : g + (2 * n - 2 * k - 1) ≤ 16) {gs : Nat → Nat → Nat} {ρ : Nat → Nat → Prop} (hF : xc_F n H k gs g pe ob ρ)
    (hp : ∀ pe' ob' gs' g' ρ', g' ≤ g + (2 * n - 2 * k - 1) → xc_F n H k gs' g' pe' ob' ρ' → (∀ j, sy_O n H k (2 * k) j → ρ' (2 * k) j) → (∀ j, (j < 4 ∨ 76 ≤ j) → pe' j = pe j) → (∀ j, (j < k * 8 ∨ k * 8 + 2 * n ≤ j) → ob' j = ob j) → post ((nI n), (nI (2 * n)), mc, mp, d1, d2, d3, d4, d5, (nI cc), an, pc, (nI g'), ql, re, pe', ma, pi, si, ob', co, fr, qu, tu, le)) : wpX_findGenerators post ((nI n), (nI (2 * n)), mc, mp, d1, d2, d3, d4, d5, (nI cc), an, pc, (nI g), ql, re, pe, ma, pi, si, ob, co, fr, qu, tu, le) (nI k) := by
  unfold wpX_findGenerators
  dsimp only
  rw [xi_2, nI_1]
  refine nm_e (nm_e ⟨2 * n - (2 * k + 1) + 1, xc_findGenerators_12 hn hH hM hk hco hg hp (2 * n - (2 * k + 1)) (2 * k + 1) _ pe ob gs g ρ (by omega) (by omega) (by omega) hF ?_ (fun j j1 j2 => ?_) (fun j j1 j2 => by omega) (fun _ _ => rfl) (fun _ _ => rfl)⟩)
  · rw [xi_one (2 * k) (by omega) (2 * k) (by omega)]; exact decide_eq_true rfl
  · rw [xi_one (2 * k) (by omega) j j1, decide_eq_true_eq] at j2
    exact ⟨by omega, Or.inl j2⟩
end
end
section
/-! the component's transversals and the chain -/
/-- the walk over a basic orbit -/
def xc_V (n : Nat) (H : Nat → Prop) (k : Nat) (gs : Nat → Nat → Nat) (g : Nat) (pe : Nat → Int32) (ql : Nat) (re : Int32) (qu : Nat → Int32) : Prop :=
  (∀ i, i < ql → ∃ x, x < 2 * n ∧ qu i = nI x ∧ bt re x = true) ∧ (∀ x, x < 32 → bt re x = true → x < 2 * n ∧ ∃ i, i < ql ∧ qu i = nI x) ∧ ql = cn_c (fun x => bt re x = true) 8 ∧
  (∀ x, x < 2 * n → bt re x = true → ∃ w, xw_PH n (76 + (k * 8 + x) * 4) w pe ∧ sy_G n H k w ∧ w k = x ∧ ∀ C, sy_Cl n C → (∀ i, i < g → C (gs i)) → C w) ∧
  (∀ i, i < g → xw_PH n (12 + 4 * i) (gs i) pe ∧ sy_G n H k (gs i))
section
variable {n cc : Nat} {mc mp d1 d2 d3 d4 d5 an pc gc ql re : Int32} {pe ma pi si ob co fr qu tu le : Nat → Int32}
theorem xc_visit_92 {post : SX → Prop} (hn : n ≤ 4) {p q r : Nat} (hp4 : p + 4 ≤ 204) (hq : q + 4 ≤ 204) (hr : r + 4 ≤ 204) (hqr : q + 4 ≤ r ∨ r + 4 ≤ q) (hpr : p + 4 ≤ r) {s w : Nat → Nat} (hs : ∀ v, v < n → s v < 8) (hw : ∀ v, v < n → w v < 2 * n) : ∀ (d i : Nat) (pe : Nat → Int32), i + d = n → xw_PH n p s pe → xw_PH n q w pe → (∀ v, v < i → pe (r + v) = nI (sy_co s w v)) → (∀ pe', xw_PH n r (sy_co s w) pe' → (∀ j, (j < r ∨ r + n ≤ j) → pe' j = pe j) → post ((nI n), (nI (2 * n)), mc, mp, d1, d2, d3, d4, d5, (nI cc), an, pc, gc, ql, re, pe', ma, pi, si, ob, co, fr, qu, tu, le)) → wX_visit_92 post (nI p) (nI q) (nI r) (nI n) (nI (2 * n)) mc mp d1 d2 d3 d4 d5 (nI cc) an pc gc ql re (d + 1) (nI i) pe ma pi si ob co fr qu tu le
  | 0, i, pe, e, h1, h2, h3, hp => br_t (nI_le (by omega) (by omega)) (hp pe (fun v hv => h3 v (by omega)) (fun _ _ => rfl))
  | d + 1, i, pe, e, h1, h2, h3, hp => by
    have eq : (nI q + nI i).toNatClampNeg = q + i := pk_cl (q + i) (nI_add q i)
    have er : (nI r + nI i).toNatClampNeg = r + i := pk_cl (r + i) (nI_add r i)
    have wi := hw i (by omega)
    refine br_f (nI_ge (a := i) (b := n) (by omega) (by omega)) ⟨pk_in (q + i) 204 (by omega) (nI_add q i), ?_⟩
    rw [eq, h2 i (by omega)]
    refine xw_imageAt (t := s) (h1 (w i / 2) (by omega)) (hs _ (by omega)) (by omega) (by omega) ⟨pk_in (r + i) 204 (by omega) (nI_add r i), nm_r (e' := upd pe (r + i) (nI (sy_co s w i))) (by rw [er]; rfl) (nm_r (nI_1 i) (xc_visit_92 hn hp4 hq hr hqr hpr hs hw d (i + 1) (upd pe (r + i) (nI (sy_co s w i))) (by omega) (fun v hv => ?_) (fun v hv => ?_) (fun v hv => ?_) (fun pe' k1 k2 => hp pe' k1 (fun j hj => ?_))))⟩
    · rw [xi_upd (by omega)]; exact h1 v hv
    · rw [xi_upd (by omega)]; exact h2 v hv
    · by_cases z : v = i
      · rw [z, xi_uself]
      · rw [xi_upd (by omega)]; exact h3 v (by omega)
    · rw [k2 j hj, xi_upd (by omega)]
theorem xc_visit {post : SX → Prop} (hn : n ≤ 4) {H : Nat → Prop} {k : Nat} (hk : k < n) {gs : Nat → Nat → Nat} {g : Nat} (hg : g ≤ 16) {l : Nat} (hV : xc_V n H k gs g pe l re qu) {x i : Nat} (hx : x < 2 * n) (hxr : bt re x = true) (hi : i < g)
    (hp : ∀ pe' l' re' qu', xc_V n H k gs g pe' l' re' qu' → (∀ y, y < 32 → bt re y = true → bt re' y = true) → l ≤ l' → (∀ j, j < l → qu' j = qu j) → bt re' (sy_ap (gs i) x) = true → (∀ j, (j < 76 + k * 32 ∨ 76 + k * 32 + 32 ≤ j) → pe' j = pe j) → post ((nI n), (nI (2 * n)), mc, mp, d1, d2, d3, d4, d5, (nI cc), an, pc, gc, (nI l'), re', pe', ma, pi, si, ob, co, fr, qu', tu, le)) : wpX_visit post ((nI n), (nI (2 * n)), mc, mp, d1, d2, d3, d4, d5, (nI cc), an, pc, gc, (nI l), re, pe, ma, pi, si, ob, co, fr, qu, tu, le) (nI k) (nI x) (nI i) := by
  obtain ⟨v1, v2, v3, v4, v5⟩ := hV
  have G := v5 i hi
  have B := G.2.1.1
  have hy := sy_ap_lt B.1 hx
  have B8 : ∀ v, v < n → gs i v < 8 := fun v hv => by have := B.1 v hv; omega
  unfold wpX_visit wpX_generatorAt
  dsimp only
  rw [xc_gAt]
  refine xw_imageAt (t := gs i) (G.1 (x / 2) (by omega)) (B8 _ (by omega)) (by omega) (by omega) ?_
  by_cases z : bt re (sy_ap (gs i) x) = true
  · exact br_f (fun w => (xi_bit0 re (by omega)).mp w z) (hp pe l re qu ⟨v1, v2, v3, v4, v5⟩ (fun _ _ h => h) (Nat.le_refl _) (fun _ _ => rfl) z (fun _ _ => rfl))
  · have add := cn_hi (P := fun x => bt re x = true) (x := sy_ap (gs i) x) z (show sy_ap (gs i) x < 8 by omega)
    have le := cn_leN (fun k => bt re k = true ∨ k = sy_ap (gs i) x) 8
    have l8 : l < 8 := by omega
    refine br_t ((xi_bit0 re (by omega)).mpr z) (br_t (nI_lt (b := 8) l8 (by decide)) (nm_e ⟨vp_in_nI l8 (by decide), ?_⟩))
    rw [nI_clamp (n := l) (by omega)]
    unfold wpX_transversalAt
    dsimp only
    rw [xw_tAt, xw_tAt]
    obtain ⟨w, w1, w2, w3, w4⟩ := v4 x hx hxr
    have ne : ¬ x = sy_ap (gs i) x := fun q => z (by rw [← q]; exact hxr)
    refine nm_e (nm_r (nI_1 l) ⟨n + 1, xc_visit_92 (s := gs i) (w := w) hn (by omega) (by omega) (by omega) (by omega) (by omega) B8 w2.1.1.1 n 0 pe (by omega) G.1 w1 (fun v hv => by omega) (fun pe' k1 k2 => hp pe' (l + 1) _ _ ⟨fun j hj => ?_, fun y y1 y2 => ?_, ?_, fun y y1 y2 => ?_, fun j hj => ?_⟩ (fun y y1 y2 => ?_) (by omega) (fun j hj => xi_upd (by omega)) ?_ (fun j hj => k2 j (by omega)))⟩)
    · by_cases q : j = l
      · refine ⟨sy_ap (gs i) x, hy, by rw [q, xi_uself], ?_⟩
        rw [b_or, xi_one _ (by omega) _ (by omega), Bool.or_eq_true, decide_eq_true_eq]
        exact Or.inr rfl
      · obtain ⟨y, y1, y2, y3⟩ := v1 j (by omega)
        refine ⟨y, y1, by rw [xi_upd q]; exact y2, ?_⟩
        rw [b_or, y3]; rfl
    · rw [b_or, Bool.or_eq_true, xi_one _ (by omega) y y1, decide_eq_true_eq] at y2
      rcases y2 with q | q
      · obtain ⟨a, j, j1, j2⟩ := v2 y y1 q
        exact ⟨a, j, by omega, by rw [xi_upd (by omega)]; exact j2⟩
      · exact ⟨by omega, l, by omega, by rw [xi_uself, q]⟩
    · rw [v3, ← add]
      refine cn_ext (fun y hy => ?_)
      rw [b_or, Bool.or_eq_true, xi_one _ (by omega) y (by omega), decide_eq_true_eq]
    · by_cases q : y = sy_ap (gs i) x
      · refine ⟨sy_co (gs i) w, by rw [q]; exact k1, sy_G_co G.2 w2, ?_, fun C hC hg => hC.2.2 _ _ (hg i hi) (w4 C hC hg)⟩
        show sy_ap (gs i) (w k) = _
        rw [w3, q]
      · rw [b_or, Bool.or_eq_true, xi_one _ (by omega) y (by omega), decide_eq_true_eq] at y2
        obtain ⟨u, u1, u2, u3, u4⟩ := v4 y y1 (y2.elim id (fun e => absurd e q))
        refine ⟨u, fun v hv => ?_, u2, u3, u4⟩
        rw [k2 _ (by omega)]; exact u1 v hv
    · have a := v5 j hj
      exact ⟨fun v hv => by rw [k2 _ (by omega)]; exact a.1 v hv, a.2⟩
    · rw [b_or, y2]; rfl
    · rw [b_or, xi_one _ (by omega) _ (by omega), Bool.or_eq_true, decide_eq_true_eq]
      exact Or.inr rfl
/-- head: literals whose images are all reached -/
def xc_D (n : Nat) (gs : Nat → Nat → Nat) (g : Nat) (re : Int32) (qu : Nat → Int32) (h : Nat) : Prop := ∀ i, i < h → ∀ x, x < 2 * n → qu i = nI x → ∀ j, j < g → bt re (sy_ap (gs j) x) = true
theorem xc_buildTransversal_56 {post : SX → Prop} (hn : n ≤ 4) {H : Nat → Prop} {k : Nat} (hk : k < n) {gs : Nat → Nat → Nat} {g : Nat} (hg : g ≤ 16) {J : Int32 → Int32 → Int32 → Int32 → Int32 → Int32 → Int32 → Int32 → Int32 → Int32 → Int32 → Int32 → Int32 → Int32 → Int32 → Int32 → (Nat → Int32) → (Nat → Int32) → (Nat → Int32) → (Nat → Int32) → (Nat → Int32) → (Nat → Int32) → (Nat → Int32) → (Nat → Int32) → (Nat → Int32) → (Nat → Int32) → Prop} {h : Nat} {pe0 : Nat → Int32}
    (hJ : ∀ pe' l' re' qu', xc_V n H k gs g pe' l' re' qu' → h < l' → xc_D n gs g re' qu' (h + 1) → bt re' (2 * k) = true → (∀ j, (j < 76 + k * 32 ∨ 76 + k * 32 + 32 ≤ j) → pe' j = pe0 j) → J (nI (h + 1)) (nI n) (nI (2 * n)) mc mp d1 d2 d3 d4 d5 (nI cc) an pc (nI g) (nI l') re' pe' ma pi si ob co fr qu' tu le) :
    ∀ (d i : Nat) (pe : Nat → Int32) (l : Nat) (re : Int32) (qu : Nat → Int32), i + d = g → h < l → h < 8 → xc_V n H k gs g pe l re qu → xc_D n gs g re qu h → (∀ x, x < 2 * n → qu h = nI x → ∀ j, j < i → bt re (sy_ap (gs j) x) = true) → bt re (2 * k) = true → (∀ j, (j < 76 + k * 32 ∨ 76 + k * 32 + 32 ≤ j) → pe j = pe0 j) → wX_buildTransversal_56 post J (nI k) (nI h) (d + 1) (nI i) (nI n) (nI (2 * n)) mc mp d1 d2 d3 d4 d5 (nI cc) an pc (nI g) (nI l) re pe ma pi si ob co fr qu tu le
  | 0, i, pe, l, re, qu, e, hl, h8, hV, hD, hc, h2k, fr => br_t (nI_le (by omega) (by omega)) (nm_r (nI_1 h) (hJ pe l re qu hV hl (fun j hj x hx ex y hy => by
      by_cases q : j = h
      · rw [q] at ex
        exact hc x hx ex y (by omega)
      · exact hD j (by omega) x hx ex y hy) h2k fr))
  | d + 1, i, pe, l, re, qu, e, hl, h8, hV, hD, hc, h2k, fr => by
    obtain ⟨x, x1, x2, x3⟩ := hV.1 h hl
    refine br_f (nI_ge (a := i) (b := g) (by omega) (by omega)) ⟨vp_in_nI h8 (by decide), ?_⟩
    rw [nI_clamp (n := h) (by omega), x2]
    refine xc_visit hn hk hg hV x1 x3 (show i < g by omega) (fun pe' l' re' qu' k1 k2 k3 k4 k5 k6 => nm_r (nI_1 i) (xc_buildTransversal_56 hn hk hg hJ d (i + 1) pe' l' re' qu' (by omega) (by omega) h8 k1 (fun j hj y hy ey m hm => ?_) (fun y hy ey m hm => ?_) (k2 _ (by omega) h2k) (fun j hj => by rw [k6 j hj]; exact fr j hj)))
    · rw [k4 j (by omega)] at ey
      have B := (hV.2.2.2.2 m hm).2.1.1
      exact k2 _ (by have := sy_ap_lt B.1 hy; omega) (hD j hj y hy ey m hm)
    · rw [k4 h hl, x2] at ey
      have exy : x = y := (nI_eq (by omega) (by omega)).mp ey
      by_cases q : m = i
      · rw [q, ← exy]; exact k5
      · have B := (hV.2.2.2.2 m (by omega)).2.1.1
        rw [← exy]
        exact k2 _ (by have := sy_ap_lt B.1 x1; omega) (hc x x1 x2 m (by omega))
theorem xc_buildTransversal_39 {post : SX → Prop} (hn : n ≤ 4) {H : Nat → Prop} {k : Nat} (hk : k < n) {gs : Nat → Nat → Nat} {g : Nat} (hg : g ≤ 16) {pe0 : Nat → Int32}
    (hp : ∀ pe' l' re' qu', xc_V n H k gs g pe' l' re' qu' → xc_D n gs g re' qu' l' → bt re' (2 * k) = true → (∀ j, (j < 76 + k * 32 ∨ 76 + k * 32 + 32 ≤ j) → pe' j = pe0 j) → post ((nI n), (nI (2 * n)), mc, mp, d1, d2, d3, d4, d5, (nI cc), an, pc, (nI g), (nI l'), re', pe', ma, pi, si, ob, co, fr, qu', tu, le)) :
    ∀ (d h : Nat) (pe : Nat → Int32) (l : Nat) (re : Int32) (qu : Nat → Int32), h + d = 8 → h ≤ l → xc_V n H k gs g pe l re qu → xc_D n gs g re qu h → bt re (2 * k) = true → (∀ j, (j < 76 + k * 32 ∨ 76 + k * 32 + 32 ≤ j) → pe j = pe0 j) → wX_buildTransversal_39 post (nI k) (d + 1) (nI h) (nI n) (nI (2 * n)) mc mp d1 d2 d3 d4 d5 (nI cc) an pc (nI g) (nI l) re pe ma pi si ob co fr qu tu le
  | 0, h, pe, l, re, qu, e, hl, hV, hD, h2k, fr => by
    have l8 : l ≤ 8 := by rw [hV.2.2.1]; exact cn_leN _ 8
    exact br_t (nI_le (a := 8) (by omega) (by omega)) (hp pe l re qu hV (by rw [show l = h from by omega]; exact hD) h2k fr)
  | d + 1, h, pe, l, re, qu, e, hl, hV, hD, h2k, fr => by
    have l8 : l ≤ 8 := by rw [hV.2.2.1]; exact cn_leN _ 8
    refine br_f (nI_ge (a := h) (b := 8) (by omega) (by omega)) ?_
    rcases Nat.lt_or_ge h l with z | z
    · exact br_f (nI_ge z (by omega)) ⟨g + 1, xc_buildTransversal_56 (pe0 := pe) hn hk hg (fun pe' l' re' qu' k1 k2 k3 k4 k5 => xc_buildTransversal_39 hn hk hg hp d (h + 1) pe' l' re' qu' (by omega) (by omega) k1 k3 k4 (fun j hj => by rw [k5 j hj]; exact fr j hj)) g 0 pe l re qu (by omega) z (by omega) hV hD (fun x hx ex j hj => by omega) h2k (fun _ _ => rfl)⟩
    · exact br_t (nI_le z (by omega)) (hp pe l re qu hV (by rw [show l = h from by omega]; exact hD) h2k fr)
theorem xc_buildTransversal {post : SX → Prop} (hn : n ≤ 4) {H : Nat → Prop} (hH : sy_H n H) {k : Nat} (hk : k < n) {gs : Nat → Nat → Nat} {g : Nat} (hg : g ≤ 16) {ρ : Nat → Nat → Prop} (hF : xc_F n H k gs g pe ob ρ) (hO : ∀ j, sy_O n H k (2 * k) j → ρ (2 * k) j)
    (hp : ∀ pe' l' re' qu', (∀ x, sy_O n H k (2 * k) x → ∃ w, xw_PH n (76 + (k * 8 + x) * 4) w pe' ∧ sy_G n H k w ∧ w k = x ∧ ∀ C, sy_Cl n C → (∀ i, i < g → C (gs i)) → C w) → (∀ j, (j < 76 + k * 32 ∨ 76 + k * 32 + 32 ≤ j) → pe' j = pe j) → post ((nI n), (nI (2 * n)), mc, mp, d1, d2, d3, d4, d5, (nI cc), an, pc, (nI g), (nI l'), re', pe', ma, pi, si, ob, co, fr, qu', tu, le)) : wpX_buildTransversal post ((nI n), (nI (2 * n)), mc, mp, d1, d2, d3, d4, d5, (nI cc), an, pc, (nI g), ql, re, pe, ma, pi, si, ob, co, fr, qu, tu, le) (nI k) := by
  unfold wpX_buildTransversal wpX_transversalAt
  dsimp only
  rw [xi_2, xw_tAt]
  refine xw_setIdentity hn (by omega) (fun pe1 hput => ?_)
  dsimp only
  refine nm_e (nm_e ?_)
  have b1 : ∀ j, j < 32 → (bt ((1 : Int32) <<< (nI (2 * k) &&& 31)) j = true ↔ j = 2 * k) := fun j hj => by
    rw [xi_one (2 * k) (by omega) j hj, decide_eq_true_eq]
  refine ⟨9, xc_buildTransversal_39 (H := H) (gs := gs) (pe0 := pe1) hn hk hg (fun pe' l' re' qu' k1 k2 k3 k4 => hp pe' l' re' qu' (fun x hx => ?_) (fun j hj => ?_)) 8 0 pe1 1 _ _ (by omega) (by omega) ⟨fun i hi => ?_, fun x x1 x2 => ?_, ?_, fun x x1 x2 => ?_, fun i hi => ?_⟩ (fun i hi => by omega) ((b1 _ (by omega)).mpr rfl) (fun _ _ => rfl)⟩
  · have lt := sy_O_lt (by omega) hx
    refine k1.2.2.2.1 x lt ?_
    refine sy_reach (rd := fun x => bt re' x = true) (fun i hi => (hF.1 i hi).2.1.1) hF.2.2.2.1 (fun y hy hr i hi => ?_) (l := 2 * k) (by omega) k3 (hO x hx)
    obtain ⟨_, j, j1, j2⟩ := k1.2.1 y (by omega) hr
    exact k2 j j1 y hy j2 i hi
  · rw [k4 j hj]; exact hput.2 j (by omega)
  · refine ⟨2 * k, by omega, ?_, (b1 _ (by omega)).mpr rfl⟩
    rw [show i = 0 from by omega]
    rfl
  · have e := (b1 x x1).mp x2
    exact ⟨by omega, 0, by omega, by rw [e]; rfl⟩
  · have a := cn_hi (P := fun _ => False) (x := 2 * k) (fun z => z) (show 2 * k < 8 by omega)
    rw [cn_none (P := fun _ => False) (fun _ _ z => z)] at a
    rw [← Nat.zero_add 1, ← a]
    exact cn_ext (fun x hx => ⟨fun z => (b1 x (by omega)).mpr (z.elim False.elim id), fun z => Or.inr ((b1 x (by omega)).mp z)⟩)
  · have e := (b1 x (by omega)).mp x2
    exact ⟨sy_id, by rw [e]; exact hput.1, sy_G_id hH k, e.symm, fun C hC _ => hC.2.1⟩
  · have a := hF.1 i hi
    exact ⟨fun v hv => by rw [hput.2 _ (by omega)]; exact a.1 v hv, a.2⟩
/-- the chain down to level k -/
def xc_H (n : Nat) (H : Nat → Prop) (k : Nat) (gs : Nat → Nat → Nat) (g : Nat) (pe si ob : Nat → Int32) : Prop :=
  (∀ i, i < g → xw_PH n (12 + 4 * i) (gs i) pe ∧ sy_G n H k (gs i)) ∧ g ≤ (n - k) * (n - k) ∧ sy_Gen n H k gs g ∧ (∀ j, k ≤ j → j ≤ n → xc_R n j ob (sy_O n H j)) ∧ (∀ j, k ≤ j → j ≤ n → si j = nI (sy_z n H j)) ∧
  (∀ j, k ≤ j → j < n → ∀ x, sy_O n H j (2 * j) x → ∃ w, xw_PH n (76 + (j * 8 + x) * 4) w pe ∧ sy_G n H j w ∧ w j = x)
theorem xc_sq {n k : Nat} (hn : n ≤ 4) (hk : k < n) : (n - (k + 1)) * (n - (k + 1)) + (2 * n - 2 * k - 1) = (n - k) * (n - k) ∧ (n - k) * (n - k) ≤ 16 := by
  obtain ⟨e, rfl⟩ : ∃ e, n = k + 1 + e := ⟨n - (k + 1), by omega⟩
  rw [show k + 1 + e - (k + 1) = e from by omega, show k + 1 + e - k = e + 1 from by omega, show 2 * (k + 1 + e) - 2 * k - 1 = 2 * e + 1 from by omega]
  rcases (by omega : e = 0 ∨ e = 1 ∨ e = 2 ∨ e = 3) with z | z | z | z <;> subst z <;> decide
theorem xc_buildLevel_2 {post : SX → Prop} (hn : n ≤ 4) {k : Nat} (hk : k < n) {ob0 : Nat → Int32} (hp : ∀ ob', (∀ l, l < 2 * n → ob' (k * 8 + l) = ob0 ((k + 1) * 8 + l)) → (∀ j, (j < k * 8 ∨ k * 8 + 2 * n ≤ j) → ob' j = ob0 j) → wX_buildLevel_2 post (nI k) (nI n) (nI (2 * n)) mc mp d1 d2 d3 d4 d5 (nI cc) an pc gc ql re 1 (nI (2 * n)) pe ma pi si ob' co fr qu tu le) : ∀ (d i : Nat) (ob : Nat → Int32), i + d = 2 * n → (∀ l, l < i → ob (k * 8 + l) = ob0 ((k + 1) * 8 + l)) → (∀ j, (j < k * 8 ∨ k * 8 + 2 * n ≤ j) → ob j = ob0 j) → wX_buildLevel_2 post (nI k) (nI n) (nI (2 * n)) mc mp d1 d2 d3 d4 d5 (nI cc) an pc gc ql re (d + 1) (nI i) pe ma pi si ob co fr qu tu le
  | 0, i, ob, e, h1, h2 => by
    rw [show i = 2 * n from by omega] at h1 ⊢
    exact hp ob h1 h2
  | d + 1, i, ob, e, h1, h2 => by
    have e1 : (nI k * 8 + 8) + nI i = nI ((k + 1) * 8 + i) := by
      have a : nI k * 8 = nI (k * 8) := pk_mul k 8
      have b : nI (k * 8) + 8 = nI (k * 8 + 8) := nI_add (k * 8) 8
      rw [a, b, nI_add, show k * 8 + 8 + i = (k + 1) * 8 + i from by omega]
    have c1 : ((nI k * 8 + 8) + nI i).toNatClampNeg = (k + 1) * 8 + i := pk_cl ((k + 1) * 8 + i) e1
    have c2 : ((nI k * 8) + nI i).toNatClampNeg = k * 8 + i := pk_cl (k * 8 + i) (xc_oAt k i)
    refine br_f (nI_ge (a := i) (b := 2 * n) (by omega) (by omega)) ⟨pk_in ((k + 1) * 8 + i) 40 (by omega) e1, pk_in (k * 8 + i) 40 (by omega) (xc_oAt k i), nm_r (e' := upd ob (k * 8 + i) (ob0 ((k + 1) * 8 + i))) (by rw [c1, c2, h2 _ (by omega)]) (nm_r (nI_1 i) (xc_buildLevel_2 hn hk hp d (i + 1) (upd ob (k * 8 + i) (ob0 ((k + 1) * 8 + i))) (by omega) (fun l hl => ?_) (fun j hj => ?_)))⟩
    · by_cases w : l = i
      · rw [w, xi_uself]
      · rw [xi_upd (by omega)]; exact h1 l (by omega)
    · rw [xi_upd (by omega)]; exact h2 j hj
theorem xc_buildLevel {post : SX → Prop} (hn : n ≤ 4) {H : Nat → Prop} (hH : sy_H n H) (hM : xw_M H cc ma) {k : Nat} (hk : k < n) {gs : Nat → Nat → Nat} {g : Nat} (hC : xc_H n H (k + 1) gs g pe si ob)
    (hp : ∀ pe' si' ob' co' fr' qu' g' l' re' gs', xc_H n H k gs' g' pe' si' ob' → (∀ j, j < 4 → pe' j = pe j) → post ((nI n), (nI (2 * n)), mc, mp, d1, d2, d3, d4, d5, (nI cc), an, pc, (nI g'), (nI l'), re', pe', ma, pi, si', ob', co', fr', qu', tu, le)) : wpX_buildLevel post ((nI n), (nI (2 * n)), mc, mp, d1, d2, d3, d4, d5, (nI cc), an, pc, (nI g), ql, re, pe, ma, pi, si, ob, co, fr, qu, tu, le) (nI k) := by
  obtain ⟨c1, c2, c3, c4, c5, c6⟩ := hC
  have sq := xc_sq hn hk
  refine ⟨2 * n + 1, xc_buildLevel_2 (ob0 := ob) hn hk (fun ob1 o1 o2 => ?_) (2 * n) 0 ob (by omega) (fun l hl => by omega) (fun _ _ => rfl)⟩
  refine br_t (nI_le (Nat.le_refl _) (by omega)) (xw_refine hn hH hM (by omega) (fun co1 fr1 hco => ?_))
  have hF : xc_F n H k gs g pe ob1 (sy_O n H (k + 1)) := ⟨fun i hi => ⟨(c1 i hi).1, sy_G_lo (by omega) (c1 i hi).2⟩, sy_O_P hH (by omega), fun l hl j hj => by rw [o1 l hl]; exact c4 (k + 1) (by omega) (by omega) l hl j hj, sy_Lst_O (fun i hi => (c1 i hi).2.1.1) c3, fun i hi l _ => ⟨gs i, (c1 i hi).2, rfl⟩, c3⟩
  refine xc_findGenerators hn hH hM hk hco (by omega) hF (fun pe2 ob2 gs2 g2 ρ2 b2 hF2 hO2 f2 fo2 => ?_)
  refine xc_buildTransversal hn hH hk (by omega) hF2 hO2 (fun pe3 l3 re3 qu3 hT f3 => ?_)
  have hg3 : sy_Gen n H k gs2 g2 := sy_Gen_s hH hk hF2.2.2.2.2.2 (fun x hx => by
    obtain ⟨w, _, w2, w3, w4⟩ := hT x hx
    exact ⟨w, w2, w3, w4⟩)
  have hB2 : ∀ i, i < g2 → sy_B n (gs2 i) := fun i hi => (hF2.1 i hi).2.1.1
  have hR2 : xc_R n k ob2 (sy_O n H k) := fun l hl j hj => by
    rw [hF2.2.2.1 l hl j hj]
    exact ⟨fun z => sy_sound hH (by omega) (fun i hi => (hF2.1 i hi).2) hF2.2.2.2.1 hl z, fun z => sy_full hB2 hg3 hF2.2.1 hF2.2.2.2.2.1 hl z⟩
  have ek : nI k + 1 = nI (k + 1) := nI_1 k
  have eo : ((nI k * 8) + (2 * nI k)) = nI (k * 8 + 2 * k) := by rw [xi_2]; exact xc_oAt k (2 * k)
  dsimp only
  rw [ek, eo, nI_clamp (n := k + 1) (by omega), nI_clamp (n := k * 8 + 2 * k) (by omega)]
  refine ⟨vp_in_nI (by omega) (by decide), vp_in_nI (by omega) (by decide), xw_bitCount ⟨vp_in_nI (by omega) (by decide), ?_⟩⟩
  have ez : si (k + 1) * nI (cn_c (fun i => bt (ob2 (k * 8 + 2 * k)) i = true) 16) = nI (sy_z n H k) := by
    rw [c5 (k + 1) (by omega) (by omega), pk_mul, sy_z_s hn hH hk, Nat.mul_comm]
    refine congrArg (fun q => nI (q * sy_z n H (k + 1))) ?_
    rw [cn_top (M := 2 * n) (by omega) (fun x h1 h2 h3 => by
      have := sy_O_lt (by omega) ((hR2 (2 * k) (by omega) x (by omega)).mp h3)
      omega)]
    exact cn_ext (fun x hx => hR2 (2 * k) (by omega) x (by omega))
  rw [nI_clamp (n := k) (by omega), ez]
  refine nm_e (hp pe3 _ ob2 co1 fr1 qu3 g2 l3 re3 gs2 ⟨fun i hi => ?_, by omega, hg3, fun j j1 j2 => ?_, fun j j1 j2 => ?_, fun j j1 j2 x hx => ?_⟩ (fun j hj => ?_))
  · have a := hF2.1 i hi
    exact ⟨fun v hv => by rw [f3 _ (by omega)]; exact a.1 v hv, a.2⟩
  · by_cases w : j = k
    · rw [w]; exact hR2
    · intro l hl i hi
      rw [fo2 _ (by omega), o2 _ (by omega)]
      exact c4 j (by omega) j2 l hl i hi
  · by_cases w : j = k
    · rw [w, xi_uself]
    · rw [xi_upd w]; exact c5 j (by omega) j2
  · by_cases w : j = k
    · subst w
      obtain ⟨t, t1, t2, t3, _⟩ := hT x hx
      exact ⟨t, t1, t2, t3⟩
    · obtain ⟨t, t1, t2, t3⟩ := c6 j (by omega) j2 x hx
      have lt := sy_O_lt (by omega) hx
      exact ⟨t, fun v hv => by rw [f3 _ (by omega), f2 _ (by omega)]; exact t1 v hv, t2, t3⟩
  · rw [f3 j (by omega), f2 j (by omega)]
theorem xc_buildChain_55 {post : SX → Prop} (hn : n ≤ 4) {H : Nat → Prop} (hH : sy_H n H) (hM : xw_M H cc ma) {pe0 : Nat → Int32}
    (hp : ∀ pe' si' ob' co' fr' qu' g' l' re' gs', xc_H n H 0 gs' g' pe' si' ob' → (∀ j, j < 4 → pe' j = pe0 j) → post ((nI n), (nI (2 * n)), mc, mp, d1, d2, d3, d4, d5, (nI cc), an, pc, (nI g'), l', re', pe', ma, pi, si', ob', co', fr', qu', tu, le)) :
    ∀ (k : Nat) (pe si ob co fr qu : Nat → Int32) (g : Nat) (l re : Int32) (gs : Nat → Nat → Nat), k ≤ n → xc_H n H k gs g pe si ob → (∀ j, j < 4 → pe j = pe0 j) → wX_buildChain_55 post (k + 1) (nI k + (-1)) (nI n) (nI (2 * n)) mc mp d1 d2 d3 d4 d5 (nI cc) an pc (nI g) l re pe ma pi si ob co fr qu tu le
  | 0, pe, si, ob, co, fr, qu, g, l, re, gs, hk, hC, fr0 => br_t (by decide) (hp pe si ob co fr qu g l re gs hC fr0)
  | k + 1, pe, si, ob, co, fr, qu, g, l, re, gs, hk, hC, fr0 => by
    rw [pk_m1]
    refine br_f (nI_pos (by omega)) (xc_buildLevel hn hH hM (by omega) hC (fun pe' si' ob' co' fr' qu' g' l' re' gs' h1 h2 => nm_e (xc_buildChain_55 hn hH hM hp k pe' si' ob' co' fr' qu' g' (nI l') re' gs' (by omega) h1 (fun j hj => by rw [h2 j hj]; exact fr0 j hj))))
theorem xc_buildChain_17 {post : SX → Prop} (hn : n ≤ 4) (h1n : 1 ≤ n) {H : Nat → Prop} (hH : sy_H n H) (hM : xw_M H cc ma) (hsi : si n = 1)
    (hp : ∀ pe' si' ob' co' fr' qu' g' l' re' gs', xc_H n H 0 gs' g' pe' si' ob' → (∀ j, j < 4 → pe' j = pe j) → post ((nI n), (nI (2 * n)), mc, mp, d1, d2, d3, d4, d5, (nI cc), an, pc, (nI g'), l', re', pe', ma, pi, si', ob', co', fr', qu', tu, le)) :
    ∀ (d i : Nat) (ob : Nat → Int32), i + d = 2 * n → (∀ l, l < i → ∀ j, j < 32 → (bt (ob (n * 8 + l)) j = true ↔ j = l)) → wX_buildChain_17 post (nI n) (nI (2 * n)) mc mp d1 d2 d3 d4 d5 (nI cc) an pc 0 ql re (d + 1) (nI i) pe ma pi si ob co fr qu tu le
  | 0, i, ob, e, h => by
    refine br_t (nI_le (by omega) (by omega)) (nm_r (e' := nI n + (-1)) ?_ ⟨n + 1, xc_buildChain_55 (pe0 := pe) hn hH hM hp n pe si ob co fr qu 0 ql re (fun _ => sy_id) (Nat.le_refl _) ⟨fun i hi => by omega, by omega, sy_Gen_n n H _ _, fun j j1 j2 l hl x hx => ?_, fun j j1 j2 => ?_, fun j j1 j2 => by omega⟩ (fun _ _ => rfl)⟩)
    · obtain ⟨m, rfl⟩ : ∃ m, n = m + 1 := ⟨n - 1, by omega⟩
      rw [pk_m1]
      exact nI_pred m
    · rw [show j = n from by omega, h l (by omega) x hx]
      constructor
      · intro q; rw [q]; exact sy_O_rf hH n l
      · rintro ⟨t, ht, et⟩
        rw [← et]; exact sy_G_fix ht hl
    · rw [show j = n from by omega, hsi, sy_z_n hn hH]
      rfl
  | d + 1, i, ob, e, h => by
    have ec : ((nI n * 8) + nI i).toNatClampNeg = n * 8 + i := pk_cl (n * 8 + i) (xc_oAt n i)
    refine br_f (nI_ge (a := i) (b := 2 * n) (by omega) (by omega)) ⟨pk_in (n * 8 + i) 40 (by omega) (xc_oAt n i), nm_r (e' := upd ob (n * 8 + i) ((1 : Int32) <<< (nI i &&& 31))) (by rw [ec]) (nm_r (nI_1 i) (xc_buildChain_17 hn h1n hH hM hsi hp d (i + 1) (upd ob (n * 8 + i) ((1 : Int32) <<< (nI i &&& 31))) (by omega) (fun l hl j hj => ?_)))⟩
    by_cases w : l = i
    · rw [w, xi_uself, xi_one i (by omega) j hj, decide_eq_true_eq]
    · rw [xi_upd (by omega)]; exact h l (by omega) j hj
theorem xc_buildChain {post : SX → Prop} (hn : n ≤ 4) (h1n : 1 ≤ n) {H : Nat → Prop} (hH : sy_H n H) (hM : xw_M H cc ma)
    (hp : ∀ pe' si' ob' co' fr' qu' g' l' re' gs', xc_H n H 0 gs' g' pe' si' ob' → (∀ j, j < 4 → pe' j = pe j) → post ((nI n), (nI (2 * n)), mc, mp, d1, d2, d3, d4, d5, (nI cc), an, pc, (nI g'), l', re', pe', ma, pi, si', ob', co', fr', qu', tu, le)) : wpX_buildChain post ((nI n), (nI (2 * n)), mc, mp, d1, d2, d3, d4, d5, (nI cc), an, pc, gc, ql, re, pe, ma, pi, si, ob, co, fr, qu, tu, le) := by
  unfold wpX_buildChain
  dsimp only
  rw [nI_clamp (n := n) (by omega)]
  exact ⟨vp_in_nI (by omega) (by decide), nm_e ⟨2 * n + 1, xc_buildChain_17 hn h1n hH hM (xi_uself _ _ _) hp (2 * n) 0 ob (by omega) (fun l hl => by omega)⟩⟩
end
end
section
/-! the component's leaders -/
def xl_r (n : Nat) (t : Nat → Nat) (a : Nat) : Nat → Nat
  | 0 => 0
  | v + 1 => xl_r n t a v ||| ((if a / 2 ^ (n - 1 - v) % 2 = t v % 2 then 0 else 1) * 2 ^ (n - 1 - t v / 2))
theorem xl_r_b (n : Nat) (t : Nat → Nat) (a j : Nat) : ∀ i, (xl_r n t a i).testBit j = true ↔ ∃ v, v < i ∧ a / 2 ^ (n - 1 - v) % 2 ≠ t v % 2 ∧ n - 1 - t v / 2 = j
  | 0 => by
    constructor
    · intro h
      rw [show xl_r n t a 0 = 0 from rfl, Nat.zero_testBit] at h
      exact absurd h (by decide)
    · rintro ⟨v, h, _⟩; omega
  | i + 1 => by
    rw [show xl_r n t a (i + 1) = xl_r n t a i ||| ((if a / 2 ^ (n - 1 - i) % 2 = t i % 2 then 0 else 1) * 2 ^ (n - 1 - t i / 2)) from rfl, Nat.testBit_or, Bool.or_eq_true, xl_r_b n t a j i]
    by_cases h : a / 2 ^ (n - 1 - i) % 2 = t i % 2
    · rw [if_pos h, Nat.zero_mul, Nat.zero_testBit]
      constructor
      · rintro (⟨v, h1, h2⟩ | z)
        · exact ⟨v, by omega, h2⟩
        · exact absurd z (by decide)
      · rintro ⟨v, h1, h2, h3⟩
        by_cases e : v = i
        · rw [e] at h2; exact absurd h h2
        · exact Or.inl ⟨v, by omega, h2, h3⟩
    · rw [if_neg h, Nat.one_mul, Nat.testBit_two_pow, decide_eq_true_eq]
      constructor
      · rintro (⟨v, h1, h2⟩ | z)
        · exact ⟨v, by omega, h2⟩
        · exact ⟨i, by omega, h, z⟩
      · rintro ⟨v, h1, h2, h3⟩
        by_cases e : v = i
        · rw [e] at h3; exact Or.inr h3
        · exact Or.inl ⟨v, by omega, h2, h3⟩
theorem xl_A {n : Nat} {t : Nat → Nat} (ht : sy_B n t) (a : Nat) : sy_A n t a (xl_r n t a n) := by
  refine sy_A_x ht (Nat.lt_pow_two_of_testBit _ (fun i hi => ?_)) (fun w hw => ?_)
  · cases hb : (xl_r n t a n).testBit i
    · rfl
    · obtain ⟨v, h1, _, h3⟩ := (xl_r_b n t a i n).mp hb
      omega
  · rw [xl_r_b]
    constructor
    · rintro ⟨v, h1, h2, h3⟩
      have := ht.1 v h1
      exact ⟨v, h1, by omega, h2⟩
    · rintro ⟨v, h1, h2, h3⟩
      exact ⟨v, h1, h3, by rw [h2]⟩
theorem xl_x2 : ∀ x, x < 2 → ∀ y, y < 2 → nI x ^^^ nI y = nI (if x = y then 0 else 1) := by decide +kernel
theorem xl_sh : ∀ x, x < 2 → ∀ j, j < 4 → nI x <<< (nI j &&& 31) = nI (x * 2 ^ j) := by decide +kernel
theorem xl_bit {a j : Nat} (ha : a < 2 ^ 31) (hj : j < 32) : (nI a >>> (nI j &&& 31)) &&& 1 = nI (a / 2 ^ j % 2) := by
  have le : a / 2 ^ j ≤ a := Nat.div_le_self _ _
  rw [pk_shrN ha _ j (s_l j hj)]
  exact pk_andN (by omega) 1 (by decide)
theorem xl_sub {n v : Nat} (h : v < n) : (nI n - 1) - nI v = nI (n - 1 - v) := by
  rw [xi_sub1 (by omega), pk_sub (by omega)]
abbrev xw_J : Type := Int32 → Int32 → Int32 → Int32 → Int32 → Int32 → Int32 → Int32 → Int32 → Int32 → Int32 → Int32 → Int32 → Int32 → Int32 → Int32 → (Nat → Int32) → (Nat → Int32) → (Nat → Int32) → (Nat → Int32) → (Nat → Int32) → (Nat → Int32) → (Nat → Int32) → (Nat → Int32) → (Nat → Int32) → (Nat → Int32) → Prop
section
variable {n cc : Nat} {mc mp d1 d2 d3 d4 d5 an pc gc ql re : Int32} {pe ma pi si ob co fr qu tu le : Nat → Int32}
theorem xl_mapAssignment_5 {post : Int32 → Prop} (hn : n ≤ 4) {q a : Nat} (hq : q + 4 ≤ 204) (ha : a < 16) {t : Nat → Nat} (ht : ∀ v, v < n → t v < 2 * n) (hh : xw_PH n q t pe) (hp : post (nI (xl_r n t a n))) : ∀ d i, i + d = n → wX_mapAssignment_5 post (nI q) (nI a) (nI n) (nI (2 * n)) mc mp d1 d2 d3 d4 d5 (nI cc) an pc gc ql re pe ma pi si ob co fr qu tu le (d + 1) (nI (xl_r n t a i)) (nI i)
  | 0, i, e => by
    refine br_t (nI_le (by omega) (by omega)) ?_
    rw [show i = n from by omega]
    exact hp
  | d + 1, i, e => by
    have ec : (nI q + nI i).toNatClampNeg = q + i := pk_cl (q + i) (nI_add q i)
    have ti := ht i (by omega)
    refine br_f (nI_ge (a := i) (b := n) (by omega) (by omega)) ⟨pk_in (q + i) 204 (by omega) (nI_add q i), nm_r (e' := nI (t i)) (by rw [ec, hh i (by omega)]) (nm_r (e' := nI (if a / 2 ^ (n - 1 - i) % 2 = t i % 2 then 0 else 1)) ?_ (nm_r (e' := nI (xl_r n t a (i + 1))) ?_ (nm_r (nI_1 i) (xl_mapAssignment_5 hn hq ha ht hh hp d (i + 1) (by omega)))))⟩
    · rw [xl_sub (by omega), xl_bit (by omega) (by omega), xi_par (by omega)]
      exact xl_x2 _ (Nat.mod_lt _ (by decide)) _ (Nat.mod_lt _ (by decide))
    · rw [xi_half (by omega), xl_sub (by omega), xl_sh _ (by split <;> decide) _ (by omega), xi_or]
      rfl
theorem xl_mapAssignment {post : Int32 → Prop} (hn : n ≤ 4) {q a : Nat} (hq : q + 4 ≤ 204) (ha : a < 16) {t : Nat → Nat} (ht : sy_B n t) (hh : xw_PH n q t pe) (hp : ∀ b, sy_A n t a b → post (nI b)) : wpX_mapAssignment post ((nI n), (nI (2 * n)), mc, mp, d1, d2, d3, d4, d5, (nI cc), an, pc, gc, ql, re, pe, ma, pi, si, ob, co, fr, qu, tu, le) (nI q) (nI a) :=
  ⟨n + 1, xl_mapAssignment_5 hn hq ha ht.1 hh (hp _ (xl_A ht a)) n 0 (by omega)⟩
theorem xl_joinLeaders_14 {post : SX → Prop} {p q lo : Nat} (hp31 : p < 16) (hq31 : q < 16) {ld : Nat → Nat} (hld : ∀ a, a < 16 → ld a < 16) : ∀ (d i : Nat) (le : Nat → Int32), i + d = 16 → (∀ a, a < i → le a = nI (if ld a = p ∨ ld a = q then lo else ld a)) → (∀ a, i ≤ a → a < 16 → le a = nI (ld a)) → (∀ le', (∀ a, a < 16 → le' a = nI (if ld a = p ∨ ld a = q then lo else ld a)) → post ((nI n), (nI (2 * n)), mc, mp, d1, d2, d3, d4, d5, (nI cc), an, pc, gc, ql, re, pe, ma, pi, si, ob, co, fr, qu, tu, le')) → wX_joinLeaders_14 post (nI p) (nI q) (nI lo) (nI n) (nI (2 * n)) mc mp d1 d2 d3 d4 d5 (nI cc) an pc gc ql re (d + 1) (nI i) pe ma pi si ob co fr qu tu le
  | 0, i, le, e, h1, h2, hp => br_t (nI_le (a := 16) (by omega) (by omega)) (hp le (fun a ha => h1 a (by omega)))
  | d + 1, i, le, e, h1, h2, hp => by
    have ec : (nI i).toNatClampNeg = i := nI_clamp (by omega)
    have vi : vp_in (nI i) 16 := vp_in_nI (by omega) (by decide)
    have li := hld i (by omega)
    refine br_f (nI_ge (a := i) (b := 16) (by omega) (by omega)) ⟨vi, ?_⟩
    rw [ec, h2 i (by omega) (by omega)]
    have up : (ld i = p ∨ ld i = q) → wX_joinLeaders_14 post (nI p) (nI q) (nI lo) (nI n) (nI (2 * n)) mc mp d1 d2 d3 d4 d5 (nI cc) an pc gc ql re (d + 1) (nI (i + 1)) pe ma pi si ob co fr qu tu (upd le i (nI lo)) := fun hu => xl_joinLeaders_14 hp31 hq31 hld d (i + 1) (upd le i (nI lo)) (by omega) (fun a ha => by
        by_cases w : a = i
        · rw [w, xi_uself, if_pos hu]
        · rw [xi_upd w]; exact h1 a (by omega)) (fun a a1 a2 => by rw [xi_upd (by omega)]; exact h2 a (by omega) a2) hp
    by_cases z : ld i = p
    · exact br_t (by rw [z]) ⟨vi, nm_e (nm_r (nI_1 i) (up (Or.inl z)))⟩
    · refine br_f (fun w => z ((nI_eq (by omega) (by omega)).mp w)) ⟨vi, ?_⟩
      by_cases y : ld i = q
      · exact br_t (by rw [y]) ⟨vi, nm_e (nm_r (nI_1 i) (up (Or.inr y)))⟩
      · refine br_f (fun w => y ((nI_eq (by omega) (by omega)).mp w)) (nm_r (nI_1 i) (xl_joinLeaders_14 hp31 hq31 hld d (i + 1) le (by omega) (fun a ha => ?_) (fun a a1 a2 => h2 a (by omega) a2) hp))
        by_cases w : a = i
        · rw [w, if_neg (fun u => u.elim z y)]; exact h2 i (by omega) (by omega)
        · exact h1 a (by omega)
theorem xl_joinLeaders {post : SX → Prop} {p q : Nat} (hp31 : p < 16) (hq31 : q < 16) {ld : Nat → Nat} (hld : ∀ a, a < 16 → ld a < 16) (h : ∀ a, a < 16 → le a = nI (ld a)) (hp : ∀ le', (∀ a, a < 16 → le' a = nI (sy_jn ld p q a)) → post ((nI n), (nI (2 * n)), mc, mp, d1, d2, d3, d4, d5, (nI cc), an, pc, gc, ql, re, pe, ma, pi, si, ob, co, fr, qu, tu, le')) : wpX_joinLeaders post ((nI n), (nI (2 * n)), mc, mp, d1, d2, d3, d4, d5, (nI cc), an, pc, gc, ql, re, pe, ma, pi, si, ob, co, fr, qu, tu, le) (nI p) (nI q) := by
  unfold wpX_joinLeaders
  dsimp only
  rcases Nat.lt_or_ge p q with z | z
  · refine br_f (nI_ge z (by omega)) ⟨17, xl_joinLeaders_14 hp31 hq31 hld 16 0 le (by omega) (fun a ha => by omega) (fun a _ ha => h a ha) (fun le' h1 => hp le' (fun a ha => ?_))⟩
    rw [h1 a ha]
    unfold sy_jn
    rw [if_pos (show p < q from z)]
  · refine br_t (nI_le z (by omega)) ⟨17, xl_joinLeaders_14 hp31 hq31 hld 16 0 le (by omega) (fun a ha => by omega) (fun a _ ha => h a ha) (fun le' h1 => hp le' (fun a ha => ?_))⟩
    rw [h1 a ha]
    unfold sy_jn
    rw [if_neg (show ¬ p < q by omega)]
theorem xl_buildLeaders_39 {post : SX → Prop} (hn : n ≤ 4) {H : Nat → Prop} (hH : sy_H n H) {q g : Nat} (hq : q + 4 ≤ 204) {t : Nat → Nat} (ht : sy_S n H t) (hh : xw_PH n q t pe) {J : xw_J} {E : Nat → Nat → Prop}
    (hJ : ∀ le' ld', sy_D n H ld' → (∀ a, a < 16 → le' a = nI (ld' a)) → (∀ a b, E a b → ld' a = ld' b) → (∀ a b, a < 2 ^ n → sy_A n t a b → ld' a = ld' b) → J (nI (g + 1)) (nI n) (nI (2 * n)) mc mp d1 d2 d3 d4 d5 (nI cc) an pc gc ql re pe ma pi si ob co fr qu tu le') :
    ∀ (d i : Nat) (le : Nat → Int32) (ld : Nat → Nat), i + d = 2 ^ n → sy_D n H ld → (∀ a, a < 16 → le a = nI (ld a)) → (∀ a b, E a b → ld a = ld b) → (∀ a b, a < i → sy_A n t a b → ld a = ld b) → wX_buildLeaders_39 post J (nI g) (nI q) (d + 1) (nI i) (nI n) (nI (2 * n)) mc mp d1 d2 d3 d4 d5 (nI cc) an pc gc ql re pe ma pi si ob co fr qu tu le
  | 0, i, le, ld, e, h1, h2, h3, h4 => by
    have h16 := xi_p16 hn
    unfold wX_buildLeaders_39
    rw [xi_pow hn]
    exact br_t (nI_le (by omega) (by omega)) (nm_r (nI_1 g) (hJ le ld h1 h2 h3 (fun a b ha => h4 a b (by omega))))
  | d + 1, i, le, ld, e, h1, h2, h3, h4 => by
    have h16 := xi_p16 hn
    unfold wX_buildLeaders_39
    rw [xi_pow hn]
    refine br_f (nI_ge (a := i) (b := 2 ^ n) (by omega) (by omega)) (xl_mapAssignment hn hq (by omega) ht.1 hh (fun b hb => ?_))
    have b16 : b < 16 := by have := hb.1; omega
    refine ⟨vp_in_nI (by omega) (by decide), vp_in_nI b16 (by decide), ?_⟩
    rw [nI_clamp (n := i) (by omega), nI_clamp (n := b) (by omega), h2 i (by omega), h2 b b16]
    have hld : ∀ a, a < 16 → ld a < 16 := fun a ha => by have := (h1 a ha).1; omega
    refine xl_joinLeaders (hld i (by omega)) (hld b b16) hld h2 (fun le' k1 => nm_r (nI_1 i) (xl_buildLeaders_39 hn hH hq ht hh hJ d (i + 1) le' (sy_jn ld (ld i) (ld b)) (by omega) (sy_D_j hn hH h1 (by omega) ⟨t, ht, hb⟩) k1 (fun x y hxy => sy_jn_eq (h3 x y hxy)) (fun x y hx hxy => ?_)))
    by_cases w : x = i
    · rw [w] at hxy ⊢
      rw [sy_A_uniq ht.1 hxy hb]
      exact sy_jn_xy ld i b
    · exact sy_jn_eq (h4 x y (by omega) hxy)
theorem xl_buildLeaders_23 {post : SX → Prop} (hn : n ≤ 4) {H : Nat → Prop} (hH : sy_H n H) {gs : Nat → Nat → Nat} {g : Nat} (hg : g ≤ 16) (hG : ∀ i, i < g → xw_PH n (12 + 4 * i) (gs i) pe ∧ sy_S n H (gs i)) (hp : ∀ le' ld', sy_D n H ld' → (∀ a, a < 16 → le' a = nI (ld' a)) → (∀ i, i < g → ∀ a b, a < 2 ^ n → sy_A n (gs i) a b → ld' a = ld' b) → post ((nI n), (nI (2 * n)), mc, mp, d1, d2, d3, d4, d5, (nI cc), an, pc, (nI g), ql, re, pe, ma, pi, si, ob, co, fr, qu, tu, le')) :
    ∀ (d i : Nat) (le : Nat → Int32) (ld : Nat → Nat), i + d = g → sy_D n H ld → (∀ a, a < 16 → le a = nI (ld a)) → (∀ j, j < i → ∀ a b, a < 2 ^ n → sy_A n (gs j) a b → ld a = ld b) → wX_buildLeaders_23 post (d + 1) (nI i) (nI n) (nI (2 * n)) mc mp d1 d2 d3 d4 d5 (nI cc) an pc (nI g) ql re pe ma pi si ob co fr qu tu le
  | 0, i, le, ld, e, h1, h2, h3 => br_t (nI_le (by omega) (by omega)) (hp le ld h1 h2 (fun j hj => h3 j (by omega)))
  | d + 1, i, le, ld, e, h1, h2, h3 => by
    have G := hG i (by omega)
    refine br_f (nI_ge (a := i) (b := g) (by omega) (by omega)) ?_
    unfold wpX_generatorAt
    dsimp only
    rw [xc_gAt]
    refine ⟨2 ^ n + 1, xl_buildLeaders_39 (E := fun a b => ∃ j, j < i ∧ a < 2 ^ n ∧ sy_A n (gs j) a b) hn hH (by omega) G.2 G.1 (fun le' ld' k1 k2 k3 k4 => xl_buildLeaders_23 hn hH hg hG hp d (i + 1) le' ld' (by omega) k1 k2 (fun j hj a b ha hab => ?_)) (2 ^ n) 0 le ld (by omega) h1 h2 (fun a b ⟨j, j1, j2, j3⟩ => h3 j j1 a b j2 j3) (fun a b ha => by omega)⟩
    by_cases w : j = i
    · rw [w] at hab
      exact k4 a b ha hab
    · exact k3 a b ⟨j, by omega, ha, hab⟩
theorem xl_buildLeaders_2 {post : SX → Prop} (hn : n ≤ 4) {H : Nat → Prop} (hH : sy_H n H) {gs : Nat → Nat → Nat} {g : Nat} (hg : g ≤ 16) (hG : ∀ i, i < g → xw_PH n (12 + 4 * i) (gs i) pe ∧ sy_S n H (gs i)) (hp : ∀ le' ld', sy_D n H ld' → (∀ a, a < 16 → le' a = nI (ld' a)) → (∀ i, i < g → ∀ a b, a < 2 ^ n → sy_A n (gs i) a b → ld' a = ld' b) → post ((nI n), (nI (2 * n)), mc, mp, d1, d2, d3, d4, d5, (nI cc), an, pc, (nI g), ql, re, pe, ma, pi, si, ob, co, fr, qu, tu, le')) :
    ∀ (d i : Nat) (le : Nat → Int32), i + d = 16 → (∀ a, a < i → le a = nI a) → wX_buildLeaders_2 post (nI n) (nI (2 * n)) mc mp d1 d2 d3 d4 d5 (nI cc) an pc (nI g) ql re (d + 1) (nI i) pe ma pi si ob co fr qu tu le
  | 0, i, le, e, h => br_t (nI_le (a := 16) (by omega) (by omega)) ⟨g + 1, xl_buildLeaders_23 hn hH hg hG hp g 0 le (fun a => a) (by omega) (sy_D_0 hH) (fun a ha => h a (by omega)) (fun j hj => by omega)⟩
  | d + 1, i, le, e, h => by
    refine br_f (nI_ge (a := i) (b := 16) (by omega) (by omega)) ⟨vp_in_nI (by omega) (by decide), nm_r (e' := upd le i (nI i)) (by rw [nI_clamp (by omega)]) (nm_r (nI_1 i) (xl_buildLeaders_2 hn hH hg hG hp d (i + 1) (upd le i (nI i)) (by omega) (fun a ha => ?_)))⟩
    by_cases w : a = i
    · rw [w, xi_uself]
    · rw [xi_upd w]; exact h a (by omega)
theorem xl_buildLeaders {post : SX → Prop} (hn : n ≤ 4) {H : Nat → Prop} (hH : sy_H n H) {gs : Nat → Nat → Nat} {g : Nat} (hg : g ≤ 16) (hG : ∀ i, i < g → xw_PH n (12 + 4 * i) (gs i) pe ∧ sy_S n H (gs i)) (hgen : sy_Gen n H 0 gs g) (hp : ∀ le', (∀ a, a < 2 ^ n → ∃ b, le' a = nI b ∧ sy_L n H a b) → post ((nI n), (nI (2 * n)), mc, mp, d1, d2, d3, d4, d5, (nI cc), an, pc, (nI g), ql, re, pe, ma, pi, si, ob, co, fr, qu, tu, le')) : wpX_buildLeaders post ((nI n), (nI (2 * n)), mc, mp, d1, d2, d3, d4, d5, (nI cc), an, pc, (nI g), ql, re, pe, ma, pi, si, ob, co, fr, qu, tu, le) :=
  ⟨17, xl_buildLeaders_2 hn hH hg hG (fun le' ld' k1 k2 k3 => hp le' (fun a ha => ⟨ld' a, k2 a (by have := xi_p16 hn; omega), sy_D_L hn (fun i hi => (hG i hi).2.1) hgen k1 k3 ha⟩)) 16 0 le (by omega) (fun a ha => by omega)⟩
/-- what the component knows when it has analysed -/
def xa_N (n : Nat) (H : Nat → Prop) (pe si ob le : Nat → Int32) : Prop :=
  (∀ j, j ≤ n → xc_R n j ob (sy_O n H j)) ∧ (∀ j, j ≤ n → si j = nI (sy_z n H j)) ∧ (∀ j, j < n → ∀ x, sy_O n H j (2 * j) x → ∃ w, xw_PH n (76 + (j * 8 + x) * 4) w pe ∧ sy_G n H j w ∧ w j = x) ∧ (∀ a, a < 2 ^ n → ∃ b, le a = nI b ∧ sy_L n H a b)
theorem xa_N_pe {H : Nat → Prop} {pe' : Nat → Int32} (h : xa_N n H pe si ob le) (hf : ∀ j, 12 ≤ j → pe' j = pe j) : xa_N n H pe' si ob le :=
  ⟨h.1, h.2.1, fun j hj x hx => by
    obtain ⟨w, w1, w2, w3⟩ := h.2.2.1 j hj x hx
    exact ⟨w, fun v hv => by rw [hf _ (by omega)]; exact w1 v hv, w2, w3⟩, h.2.2.2⟩
theorem xa_analyse {post : Int32 → SX → Prop} (hn : n ≤ 4) (h1n : 1 ≤ n) {H : Nat → Prop} (hH : sy_H n H) (hM : xw_M H cc ma)
    (hp : ∀ pe' si' ob' co' fr' qu' le' g' l' re', xa_N n H pe' si' ob' le' → (∀ j, j < 4 → pe' j = pe j) → post (nI (sy_z n H 0)) ((nI n), (nI (2 * n)), mc, mp, d1, d2, d3, d4, d5, (nI cc), 1, pc, g', l', re', pe', ma, pi, si', ob', co', fr', qu', tu, le')) : wpX_analyse post ((nI n), (nI (2 * n)), mc, mp, d1, d2, d3, d4, d5, (nI cc), 0, pc, gc, ql, re, pe, ma, pi, si, ob, co, fr, qu, tu, le) := by
  unfold wpX_analyse
  dsimp only
  refine br_t rfl (xc_buildChain hn h1n hH hM (fun pe1 si1 ob1 co1 fr1 qu1 g1 l1 re1 gs1 hC f1 => ?_))
  obtain ⟨c1, c2, c3, c4, c5, c6⟩ := hC
  have sq := (xc_sq hn (show 0 < n by omega)).2
  rw [Nat.sub_zero] at c2 sq
  refine xl_buildLeaders hn hH (by omega) (fun i hi => ⟨(c1 i hi).1, (c1 i hi).2.1⟩) c3 (fun le1 hle => ?_)
  dsimp only
  rw [c5 0 (by omega) (by omega)]
  exact hp pe1 si1 ob1 co1 fr1 qu1 le1 (nI g1) l1 re1 ⟨fun j hj => c4 j (by omega) hj, fun j hj => c5 j (by omega) hj, fun j hj => c6 j (by omega) hj, hle⟩ f1
end
end
section
/-! ranks -/
theorem xr_lo : ∀ j, j < 8 → ∀ i, i < 32 → bt (((1 : Int32) <<< (nI j &&& 31)) - 1) i = decide (i < j) := by decide +kernel
theorem xr_nat (x : Int32) : ∃ m, x = nI m := ⟨x.toBitVec.toNat, by
  apply Int32.toBitVec_inj.1
  show x.toBitVec = BitVec.ofNat 32 x.toBitVec.toNat
  simp⟩
/-- the mask of the images of a basic orbit -/
theorem xr_img {n : Nat} {H : Nat → Prop} {k : Nat} (hk : k < n) (hn : n ≤ 4) {s : Nat → Nat} {m : Nat} (hm : ∀ j, j < 32 → (m.testBit j = true ↔ sy_O n H k (2 * k) j)) (i : Nat) : (sy_mm n s m).testBit i = true ↔ ∃ x, sy_O n H k (2 * k) x ∧ sy_ap s x = i := by
  rw [sy_mm_b]
  constructor
  · rintro ⟨l, h1, h2, h3⟩
    exact ⟨l, (hm l (by omega)).mp h2, h3⟩
  · rintro ⟨x, h1, h2⟩
    have := sy_O_lt (by omega) h1
    exact ⟨x, this, (hm x (by omega)).mpr h1, h2⟩
section
variable {n cc : Nat} {mc mp d1 d2 d3 d4 d5 an pc gc ql re : Int32} {pe ma pi si ob co fr qu tu le : Nat → Int32}
theorem xr_rankDraft_10 {post : Int32 → SX → Prop} (hn : n ≤ 4) {H : Nat → Prop} (hH : sy_H n H) (hN : ∀ pe', (∀ j, 12 ≤ j → pe' j = pe j) → xa_N n H pe' si ob le) {d : Nat → Nat} (hd : ∀ v, v < n → d v < 2 * n) (hpd : ∀ v, v < n → pe v = nI (d v))
    (h1 : sy_S n H d → ∀ pe', (∀ j, (j < 4 ∨ 12 ≤ j) → pe' j = pe j) → post (nI (cn_c (sy_C n H) (sy_cr d n))) ((nI n), (nI (2 * n)), mc, mp, d1, d2, d3, d4, d5, (nI cc), an, pc, gc, ql, re, pe', ma, pi, si, ob, co, fr, qu, tu, le))
    (h0 : ¬ sy_S n H d → ∀ pe', (∀ j, (j < 4 ∨ 12 ≤ j) → pe' j = pe j) → post (-6) ((nI n), (nI (2 * n)), mc, mp, d1, d2, d3, d4, d5, (nI cc), an, pc, gc, ql, re, pe', ma, pi, si, ob, co, fr, qu, tu, le)) :
    ∀ (f k : Nat) (pe' : Nat → Int32) (s : Nat → Nat), k + f = n → xw_PH n 8 s pe' → sy_S n H s → (∀ v, v < k → s v = d v) → (∀ j, (j < 4 ∨ 12 ≤ j) → pe' j = pe j) → wX_rankDraft_10 post (f + 1) (nI (sy_R n H (sy_cr d n) k)) (nI k) (nI n) (nI (2 * n)) mc mp d1 d2 d3 d4 d5 (nI cc) an pc gc ql re pe' ma pi si ob co fr qu tu le
  | 0, k, pe', s, e, hs, hS, ha, fr => by
    have e : k = n := by omega
    subst e
    have lt := sy_cr_lt (t := d) (k := k) (fun v hv => by have := hd v hv; omega)
    rw [sy_R_n lt]
    exact br_t (nI_le (Nat.le_refl _) (by omega)) (h1 (sy_S_ext ha hS) pe' fr)
  | f + 1, k, pe', s, e, hs, hS, ha, fr => by
    have hk : k < n := by omega
    have d8 : ∀ v, v < n → d v < 8 := fun v hv => by have := hd v hv; omega
    have lt := sy_cr_lt d8
    have dg := sy_cr_dg d8
    have N := hN pe' (fun j hj => fr j (by omega))
    obtain ⟨x, hx, ex⟩ := sy_ap_sur hS.1 (hd k hk)
    have dk := hd k hk
    have ec : ((0 : Int32) + nI k).toNatClampNeg = k := by
      rw [Int32.zero_add]; exact nI_clamp (by omega)
    have eo : ((nI k * 8) + (2 * nI k)) = nI (k * 8 + 2 * k) := by rw [xi_2]; exact xc_oAt k (2 * k)
    refine br_f (nI_ge (a := k) (b := n) (by omega) (by omega)) ⟨pk_in k 204 (by omega) (Int32.zero_add _), nm_r (e' := nI (d k)) (by rw [ec, fr k (by omega), hpd k hk]) ?_⟩
    rw [eo]
    obtain ⟨m, hm⟩ := xr_nat (ob (k * 8 + 2 * k))
    have hb : ∀ j, j < 32 → (m.testBit j = true ↔ sy_O n H k (2 * k) j) := fun j hj => by
      rw [← N.1 k (by omega) (2 * k) (by omega) j hj, hm, xi_bt m j hj]
    refine ⟨vp_in_nI (by omega) (by decide), nm_r (e' := nI m) (by rw [nI_clamp (by omega), hm]) ?_⟩
    rw [← ex]
    refine xw_preimageAt (q := 8) hn (by omega) hS.1 hs hx ?_
    by_cases z : m.testBit x = true
    · refine br_f (fun w => (xi_m0 (by omega)).mp w z) (xw_mapMask (q := 8) (t := s) hn (by omega) (fun l hl _ => ⟨hs (l / 2) (by omega), by have := hS.1.1 (l / 2) (by omega); omega⟩) (nm_e (xw_bitCount ?_)))
      rw [ex]
      have hO := (hb x (by omega)).mp z
      obtain ⟨w, w1, w2, w3⟩ := N.2.2.1 k hk x hO
      have ek : nI k + 1 = nI (k + 1) := nI_1 k
      rw [ek, nI_clamp (n := k + 1) (by omega), N.2.1 (k + 1) (by omega)]
      have ecn : cn_c (fun i => bt (nI (sy_mm n s m) &&& (((1 : Int32) <<< (nI (d k) &&& 31)) - 1)) i = true) 16 = cn_c (fun y => ∃ x, sy_O n H k (2 * k) x ∧ sy_ap s x = y) (d k) := by
        rw [← cn_cut (P := fun y => ∃ x, sy_O n H k (2 * k) x ∧ sy_ap s x = y) (N := 16) (show d k ≤ 16 by omega)]
        refine cn_ext (fun i hi => ?_)
        rw [b_and, Bool.and_eq_true, xr_lo (d k) (by omega) i (by omega), decide_eq_true_eq, xi_bt _ i (by omega), xr_img hk hn hb]
      have eR := sy_R_s hn hH hk lt hS (fun v hv => by rw [dg v (by omega)]; exact (ha v hv).symm)
      rw [dg k hk] at eR
      refine ⟨vp_in_nI (by omega) (by decide), nm_r (e' := nI (sy_R n H (sy_cr d n) (k + 1))) (by rw [ecn, pk_mul, nI_add, eR]) (xw_extendPrefix (s := s) (w := w) hn hk hx (fun v hv => by have := hS.1.1 v hv; omega) w2.1.1.1 hs w1 (fun pe2 p1 p2 => nm_e (xr_rankDraft_10 hn hH hN hd hpd h1 h0 f (k + 1) pe2 (sy_co s w) (by omega) p1 (sy_S_co hS w2.1) (fun v hv => ?_) (fun j hj => by rw [p2 j hj]; exact fr j hj))))⟩
      show sy_ap s (w v) = _
      by_cases q : v = k
      · rw [q, w3, ex]
      · rw [w2.2 v (by omega), sy_ap_e]; exact ha v (by omega)
    · refine br_t ((xi_m0 (by omega)).mpr z) (h0 (fun hS2 => z ?_) pe' fr)
      obtain ⟨x2, o, e2⟩ := sy_coset0 hH hk hS (q := sy_cr d n) (sy_C_cr hn hS2).2.1 (fun v hv => by rw [dg v (by omega)]; exact (ha v hv).symm)
      rw [dg k hk, ← ex] at e2
      have := sy_ap_inj hS.1 (sy_O_lt (by omega) o) hx e2
      rw [← this]
      exact (hb x2 (by have := sy_O_lt (by omega) o; omega)).mpr o
theorem xr_rankDraft {post : Int32 → SX → Prop} (hn : n ≤ 4) {H : Nat → Prop} (hH : sy_H n H) (hN : xa_N n H pe si ob le) {d : Nat → Nat} (hd : ∀ v, v < n → d v < 2 * n) (hpd : ∀ v, v < n → pe v = nI (d v))
    (h1 : sy_S n H d → ∀ pe', (∀ j, (j < 4 ∨ 12 ≤ j) → pe' j = pe j) → post (nI (cn_c (sy_C n H) (sy_cr d n))) ((nI n), (nI (2 * n)), mc, mp, d1, d2, d3, d4, d5, (nI cc), an, pc, gc, ql, re, pe', ma, pi, si, ob, co, fr, qu, tu, le))
    (h0 : ¬ sy_S n H d → ∀ pe', (∀ j, (j < 4 ∨ 12 ≤ j) → pe' j = pe j) → post (-6) ((nI n), (nI (2 * n)), mc, mp, d1, d2, d3, d4, d5, (nI cc), an, pc, gc, ql, re, pe', ma, pi, si, ob, co, fr, qu, tu, le)) : wpX_rankDraft post ((nI n), (nI (2 * n)), mc, mp, d1, d2, d3, d4, d5, (nI cc), an, pc, gc, ql, re, pe, ma, pi, si, ob, co, fr, qu, tu, le) := by
  unfold wpX_rankDraft
  dsimp only
  refine xw_setIdentity (q := 8) hn (by omega) (fun pe1 hput => ⟨n + 1, ?_⟩)
  have := xr_rankDraft_10 (pe := pe) (cc := cc) (post := post) (mc := mc) (mp := mp) (d1 := d1) (d2 := d2) (d3 := d3) (d4 := d4) (d5 := d5) (an := an) (pc := pc) (gc := gc) (ql := ql) (re := re) (ma := ma) (pi := pi) (si := si) (ob := ob) (co := co) (fr := fr) (qu := qu) (tu := tu) (le := le) hn hH (fun pe' hf => xa_N_pe hN hf) hd hpd h1 h0 n 0 pe1 sy_id (by omega) hput.1 (sy_S_id hH) (fun v hv => by omega) (fun j hj => hput.2 j (by omega))
  rw [sy_R_0 (sy_cr_lt (fun v hv => by have := hd v hv; omega))] at this
  exact this
theorem xr_unrank_63 {post : SX → Prop} (hn : n ≤ 4) {H : Nat → Prop} (hH : sy_H n H) (hN : xa_N n H pe si ob le) {k : Nat} (hk : k < n) {s : Nat → Nat} (hs : xw_PH n 8 s pe) (hS : sy_S n H s) {q : Nat} (hq : sy_C n H q) (ha : ∀ v, v < k → sy_dg n q v = s v) {J : Int32 → xw_J} {x2 : Int32}
    (hJ : ∀ pe' w, xw_PH n 8 (sy_co s w) pe' → sy_S n H (sy_co s w) → (∀ v, v < k + 1 → sy_dg n q v = sy_co s w v) → (∀ j, (j < 4 ∨ 12 ≤ j) → pe' j = pe j) → J x2 (nI (k + 1)) (nI n) (nI (2 * n)) mc mp d1 d2 d3 d4 d5 (nI cc) an pc gc ql re pe' ma pi si ob co fr qu tu le) :
    wX_unrank_63 post J x2 (nI k) (nI (cn_c (fun y => ∃ x, sy_O n H k (2 * k) x ∧ sy_ap s x = y) (sy_dg n q k))) (nI n) (nI (2 * n)) mc mp d1 d2 d3 d4 d5 (nI cc) an pc gc ql re pe ma pi si ob co fr qu tu le := by
  have eo : ((nI k * 8) + (2 * nI k)) = nI (k * 8 + 2 * k) := by rw [xi_2]; exact xc_oAt k (2 * k)
  have d8 := sy_dg_lt n q k
  obtain ⟨x, hO, ex⟩ := sy_coset0 hH hk hS hq ha
  have hx := sy_O_lt (by omega) hO
  obtain ⟨w, w1, w2, w3⟩ := hN.2.2.1 k hk x hO
  obtain ⟨m, hm⟩ := xr_nat (ob (k * 8 + 2 * k))
  have hb : ∀ j, j < 32 → (m.testBit j = true ↔ sy_O n H k (2 * k) j) := fun j hj => by
    rw [← hN.1 k (by omega) (2 * k) (by omega) j hj, hm, xi_bt m j hj]
  unfold wX_unrank_63
  rw [eo, nI_clamp (n := k * 8 + 2 * k) (by omega), hm]
  refine ⟨vp_in_nI (by omega) (by decide), xw_mapMask (q := 8) (t := s) hn (by omega) (fun l hl _ => ⟨hs (l / 2) (by omega), by have := hS.1.1 (l / 2) (by omega); omega⟩) (xw_nthBit (r := sy_dg n q k) (by omega) ?_ ?_ ?_)⟩
  · rw [xi_bt _ _ (by omega), xr_img hk hn hb]
    exact ⟨x, hO, ex⟩
  · refine cn_ext (fun i hi => ?_)
    rw [xi_bt _ i (by omega), xr_img hk hn hb]
  · rw [← ex]
    refine xw_preimageAt (q := 8) hn (by omega) hS.1 hs hx (xw_extendPrefix (s := s) (w := w) hn hk hx (fun v hv => by have := hS.1.1 v hv; omega) w2.1.1.1 hs w1 (fun pe2 p1 p2 => nm_r (nI_1 k) (hJ pe2 w p1 (sy_S_co hS w2.1) (fun v hv => ?_) p2)))
    show _ = sy_ap s (w v)
    by_cases z : v = k
    · rw [z, w3, ex]
    · rw [w2.2 v (by omega), sy_ap_e]; exact ha v (by omega)
theorem xr_unrank_24 {post : SX → Prop} (hn : n ≤ 4) {H : Nat → Prop} (hH : sy_H n H) (hN : xa_N n H pe si ob le) {k : Nat} (hk : k < n) {J : Int32 → xw_J} {c r0 : Nat} (hc : c < 8) (h1 : c * sy_z n H (k + 1) ≤ r0) (h2 : r0 < c * sy_z n H (k + 1) + sy_z n H (k + 1)) (hr0 : r0 < 2 ^ 31) (hz : sy_z n H (k + 1) < 2 ^ 31)
    (hJ : wX_unrank_63 post J (nI (r0 - c * sy_z n H (k + 1))) (nI k) (nI c) (nI n) (nI (2 * n)) mc mp d1 d2 d3 d4 d5 (nI cc) an pc gc ql re pe ma pi si ob co fr qu tu le) : ∀ f i, i + f = c → wX_unrank_24 post J (nI k) (nI n) (nI (2 * n)) mc mp d1 d2 d3 d4 d5 (nI cc) an pc gc ql re pe ma pi si ob co fr qu tu le (f + 1) (nI (r0 - i * sy_z n H (k + 1))) (nI i) (nI i)
  | 0, i, e => by
    have e : i = c := by omega
    subst e
    refine br_f (nI_ge (a := i) (b := 8) (by omega) (by omega)) ?_
    rw [nI_1, nI_clamp (n := k + 1) (by omega), hN.2.1 (k + 1) (by omega)]
    exact ⟨vp_in_nI (by omega) (by decide), br_t (nI_lt (by omega) (by omega)) hJ⟩
  | f + 1, i, e => by
    have mu : (i + 1) * sy_z n H (k + 1) ≤ c * sy_z n H (k + 1) := Nat.mul_le_mul_right _ (by omega)
    have su : (i + 1) * sy_z n H (k + 1) = i * sy_z n H (k + 1) + sy_z n H (k + 1) := by rw [Nat.add_mul, Nat.one_mul]
    have vi : vp_in (nI (k + 1)) 5 := vp_in_nI (by omega) (by decide)
    refine br_f (nI_ge (a := i) (b := 8) (by omega) (by omega)) ?_
    rw [nI_1, nI_clamp (n := k + 1) (by omega), hN.2.1 (k + 1) (by omega)]
    refine ⟨vi, br_f (nI_nlt (by omega) (by omega)) ⟨vi, nm_r (e' := nI (r0 - (i + 1) * sy_z n H (k + 1))) ?_ (nm_r (nI_1 i) (nm_r (nI_1 i) (xr_unrank_24 hn hH hN hk hc h1 h2 hr0 hz hJ f (i + 1) (by omega))))⟩⟩
    rw [pk_sub (by omega), su, Nat.sub_sub]
theorem xr_unrank_10 {post : SX → Prop} (h1n : 1 ≤ n) (hn : n ≤ 4) {H : Nat → Prop} (hH : sy_H n H) (hN : ∀ pe', (∀ j, 12 ≤ j → pe' j = pe j) → xa_N n H pe' si ob le) {q : Nat} (hq8 : q < 8 ^ n) (hq : sy_C n H q)
    (hp : ∀ pe', xw_PH n 8 (sy_dg n q) pe' → (∀ j, (j < 4 ∨ 12 ≤ j) → pe' j = pe j) → post ((nI n), (nI (2 * n)), mc, mp, d1, d2, d3, d4, d5, (nI cc), an, pc, gc, ql, re, pe', ma, pi, si, ob, co, fr, qu, tu, le)) :
    ∀ (f k : Nat) (pe' : Nat → Int32) (s : Nat → Nat), k + f = n → xw_PH n 8 s pe' → sy_S n H s → (∀ v, v < k → sy_dg n q v = s v) → (∀ j, (j < 4 ∨ 12 ≤ j) → pe' j = pe j) → wX_unrank_10 post (f + 1) (nI (cn_c (sy_C n H) q - sy_R n H q k)) (nI k) (nI n) (nI (2 * n)) mc mp d1 d2 d3 d4 d5 (nI cc) an pc gc ql re pe' ma pi si ob co fr qu tu le
  | 0, k, pe', s, e, hs, hS, ha, fh => by
    have e : k = n := by omega
    subst e
    exact br_t (nI_le (Nat.le_refl _) (by omega)) (hp pe' (fun v hv => by rw [ha v hv]; exact hs v hv) fh)
  | f + 1, k, pe', s, e, hs, hS, ha, fh => by
    have hk : k < n := by omega
    have N := hN pe' (fun j hj => fh j (by omega))
    have eR := sy_R_s hn hH hk hq8 hS ha
    have zl := sy_z_le h1n hn hH
    have z1 : sy_z n H (k + 1) ≤ 384 := Nat.le_trans (sy_z_lo (Nat.zero_le _)) zl
    have R1 : sy_R n H q (k + 1) ≤ cn_c (sy_C n H) q := sy_R_le hq8 (by omega)
    have R2 := sy_R_lt hn hH hq8 (k := k + 1) (by omega) hq
    have rz : cn_c (sy_C n H) q < sy_z n H 0 := by rw [sy_z_0]; exact cn_lt hq8 hq
    have d8 := sy_dg_lt n q k
    have c8 : cn_c (fun y => ∃ x, sy_O n H k (2 * k) x ∧ sy_ap s x = y) (sy_dg n q k) < 8 := Nat.lt_of_le_of_lt (cn_leN _ _) d8
    rw [eR] at R1 R2
    refine br_f (nI_ge (a := k) (b := n) (by omega) (by omega)) ⟨cn_c (fun y => ∃ x, sy_O n H k (2 * k) x ∧ sy_ap s x = y) (sy_dg n q k) + 1, ?_⟩
    have key := xr_unrank_24 (r0 := cn_c (sy_C n H) q - sy_R n H q k) (post := post) (J := wX_unrank_10 post (f + 1)) (cc := cc) (mc := mc) (mp := mp) (d1 := d1) (d2 := d2) (d3 := d3) (d4 := d4) (d5 := d5) (an := an) (pc := pc) (gc := gc) (ql := ql) (re := re) (ma := ma) (pi := pi) (co := co) (fr := fr) (qu := qu) (tu := tu) hn hH N hk c8 (by omega) (by omega) (by omega) (by omega) (xr_unrank_63 hn hH N hk hs hS hq ha (fun pe2 w p1 p2 p3 p4 => by
      have ih := xr_unrank_10 h1n hn hH hN hq8 hq hp f (k + 1) pe2 (sy_co s w) (by omega) p1 p2 p3 (fun j hj => by rw [p4 j hj]; exact fh j hj)
      rw [eR, ← Nat.sub_sub] at ih
      exact ih)) _ 0 (Nat.zero_add _)
    rw [Nat.zero_mul, Nat.sub_zero] at key
    exact key
theorem xr_unrank {post : SX → Prop} (h1n : 1 ≤ n) (hn : n ≤ 4) {H : Nat → Prop} (hH : sy_H n H) (hN : xa_N n H pe si ob le) {q : Nat} (hq8 : q < 8 ^ n) (hq : sy_C n H q)
    (hp : ∀ pe', xw_PH n 8 (sy_dg n q) pe' → (∀ j, (j < 4 ∨ 12 ≤ j) → pe' j = pe j) → post ((nI n), (nI (2 * n)), mc, mp, d1, d2, d3, d4, d5, (nI cc), an, pc, gc, ql, re, pe', ma, pi, si, ob, co, fr, qu, tu, le)) : wpX_unrank post ((nI n), (nI (2 * n)), mc, mp, d1, d2, d3, d4, d5, (nI cc), an, pc, gc, ql, re, pe, ma, pi, si, ob, co, fr, qu, tu, le) (nI (cn_c (sy_C n H) q)) := by
  unfold wpX_unrank
  dsimp only
  refine xw_setIdentity (q := 8) hn (by omega) (fun pe1 hput => ⟨n + 1, ?_⟩)
  have := xr_unrank_10 (pe := pe) (cc := cc) (post := post) (mc := mc) (mp := mp) (d1 := d1) (d2 := d2) (d3 := d3) (d4 := d4) (d5 := d5) (an := an) (pc := pc) (gc := gc) (ql := ql) (re := re) (ma := ma) (pi := pi) (si := si) (ob := ob) (co := co) (fr := fr) (qu := qu) (tu := tu) (le := le) h1n hn hH (fun pe' hf => xa_N_pe hN hf) hq8 hq hp n 0 pe1 sy_id (by omega) hput.1 (sy_S_id hH) (fun v hv => by omega) (fun j hj => hput.2 j (by omega))
  rw [sy_R_0 hq8, Nat.sub_zero] at this
  exact this
end
end
section
/-! the component's models -/
def xm_T (n : Nat) (tu : Nat → Int32) : Prop := ∀ l, l < 2 * n → ∀ a, a < 32 → (bt (tu l) a = true ↔ a < 2 ^ n ∧ sy_tr n a l)
def xm_M (n : Nat) (H : Nat → Prop) (a : Nat) : Prop := ∀ m, H m → ∃ l, l < 2 * n ∧ m.testBit l = true ∧ sy_tr n a l
def xm_K (n : Nat) (H PK : Nat → Prop) (kd a : Nat) : Prop := kd = 0 ∨ ∀ q, q < 8 ^ n → sy_C n H q → (kd = 2 ∨ PK (cn_c (sy_C n H) q)) → ∀ b, sy_A n (sy_dg n q) a b → a ≤ b
def xm_lb (n a b : Nat) : Bool := (List.range n).all (fun w => !((List.range w).all (fun u => a.testBit (n - 1 - u) == b.testBit (n - 1 - u)) && a.testBit (n - 1 - w) && !b.testBit (n - 1 - w)))
theorem xm_lbt : ∀ n, n < 5 → ∀ a, a < 16 → ∀ b, b < 16 → a < 2 ^ n → b < 2 ^ n → xm_lb n a b = decide (a ≤ b) := by decide +kernel
theorem xm_lex (n : Nat) (hn : n < 5) (a : Nat) (ha : a < 16) (b : Nat) (hb : b < 16) (ha2 : a < 2 ^ n) (hb2 : b < 2 ^ n) : (∀ w, w < n → ¬ ((∀ u, u < w → a.testBit (n - 1 - u) = b.testBit (n - 1 - u)) ∧ a.testBit (n - 1 - w) = true ∧ ¬ b.testBit (n - 1 - w) = true)) ↔ a ≤ b := by
  have h := xm_lbt n hn a ha b hb ha2 hb2
  have e : xm_lb n a b = true ↔ a ≤ b := by rw [h, decide_eq_true_eq]
  rw [← e]
  unfold xm_lb
  rw [List.all_eq_true]
  have key : ∀ w, (!((List.range w).all (fun u => a.testBit (n - 1 - u) == b.testBit (n - 1 - u)) && a.testBit (n - 1 - w) && !b.testBit (n - 1 - w))) = true ↔ ¬ ((∀ u, u < w → a.testBit (n - 1 - u) = b.testBit (n - 1 - u)) ∧ a.testBit (n - 1 - w) = true ∧ ¬ b.testBit (n - 1 - w) = true) := by
    intro w
    rw [Bool.not_eq_true', ← Bool.not_eq_true, Bool.and_eq_true, Bool.and_eq_true, List.all_eq_true, Bool.not_eq_true']
    constructor
    · rintro k ⟨p1, p2, p3⟩
      exact k ⟨⟨fun u hu => by rw [p1 u (List.mem_range.mp hu)]; exact beq_self_eq_true _, p2⟩, Bool.not_eq_true _ ▸ p3⟩
    · rintro k ⟨⟨p1, p2⟩, p3⟩
      exact k ⟨fun u hu => beq_iff_eq.mp (p1 u (List.mem_range.mpr hu)), p2, by rw [p3]; decide⟩
  constructor
  · intro k w hw
    exact (key w).mpr (k w (List.mem_range.mp hw))
  · intro k w hw
    exact (key w).mp (k w (List.mem_range.mpr hw))
theorem xm_le {n a b : Nat} (hn : n ≤ 4) (ha : a < 2 ^ n) (hb : b < 2 ^ n) : (∀ w, w < n → ¬ ((∀ u, u < w → (sy_tr n a (2 * u) ↔ sy_tr n b (2 * u))) ∧ sy_tr n a (2 * w) ∧ ¬ sy_tr n b (2 * w))) ↔ a ≤ b := by
  have h16 := xi_p16 hn
  rw [← xm_lex n (by omega) a (by omega) b (by omega) ha hb]
  have e : ∀ u, (sy_tr n a (2 * u) ↔ sy_tr n b (2 * u)) ↔ a.testBit (n - 1 - u) = b.testBit (n - 1 - u) := fun u => by
    rw [sy_tr_e, sy_tr_e]
    exact Bool.eq_iff_iff.symm
  constructor
  · intro h w hw ⟨k1, k2, k3⟩
    exact h w hw ⟨fun u hu => (e u).mpr (k1 u hu), (sy_tr_e n a w).mpr k2, fun z => k3 ((sy_tr_e n b w).mp z)⟩
  · intro h w hw ⟨k1, k2, k3⟩
    exact h w hw ⟨fun u hu => (e u).mp (k1 u hu), (sy_tr_e n a w).mp k2, fun z => k3 ((sy_tr_e n b w).mpr z)⟩
theorem xm_full : ∀ n, n < 5 → ∀ a, a < 32 → bt (((1 : Int32) <<< (((1 : Int32) <<< (nI n &&& 31)) &&& 31)) - 1) a = decide (a < 2 ^ n) := by decide +kernel
theorem xm_not {x : Int32} {i : Nat} (hi : i < 32) : bt (x ^^^ (-1)) i = true ↔ ¬ bt x i = true := by
  rw [b_xor, b_m1 i hi]
  cases bt x i <;> simp
section
variable {n cc : Nat} {mc mp d1 d2 d3 d4 d5 an pc gc ql re : Int32} {pe ma pi si ob co fr qu tu le : Nat → Int32}
theorem xm_fillTruth_2 {post : SX → Prop} (hn : n ≤ 4) {v : Nat} (hv : v < n) {tu0 : Nat → Int32} (hp : ∀ tu', (∀ l, l < 2 * n → l / 2 = v → ∀ a, a < 32 → (bt (tu' l) a = true ↔ a < 2 ^ n ∧ sy_tr n a l)) → (∀ l, ¬ l / 2 = v → tu' l = tu0 l) → post ((nI n), (nI (2 * n)), mc, mp, d1, d2, d3, d4, d5, (nI cc), an, pc, gc, ql, re, pe, ma, pi, si, ob, co, fr, qu, tu', le)) :
    ∀ (d i : Nat) (tu : Nat → Int32), i + d = 2 ^ n → (∀ l, l < 2 * n → l / 2 = v → ∀ a, a < 32 → (bt (tu l) a = true ↔ a < i ∧ sy_tr n a l)) → (∀ l, ¬ l / 2 = v → tu l = tu0 l) → wX_fillTruth_2 post (nI v) (nI n) (nI (2 * n)) mc mp d1 d2 d3 d4 d5 (nI cc) an pc gc ql re (d + 1) (nI i) pe ma pi si ob co fr qu tu le
  | 0, i, tu, e, h1, h2 => by
    have h16 := xi_p16 hn
    unfold wX_fillTruth_2
    rw [xi_pow hn]
    refine br_t (nI_le (by omega) (by omega)) (hp tu (fun l hl hlv a ha => ?_) h2)
    rw [h1 l hl hlv a ha, show i = 2 ^ n from by omega]
  | d + 1, i, tu, e, h1, h2 => by
    have h16 := xi_p16 hn
    have b2 : i / 2 ^ (n - 1 - v) % 2 < 2 := Nat.mod_lt _ (by decide)
    have ix : ((2 * nI v) + 1) - nI (i / 2 ^ (n - 1 - v) % 2) = nI (2 * v + 1 - i / 2 ^ (n - 1 - v) % 2) := by
      rw [xi_2, nI_1, pk_sub (by omega)]
    have l2 : (2 * v + 1 - i / 2 ^ (n - 1 - v) % 2) / 2 = v := by omega
    have lt : 2 * v + 1 - i / 2 ^ (n - 1 - v) % 2 < 8 := by omega
    unfold wX_fillTruth_2
    rw [xi_pow hn]
    refine br_f (nI_ge (a := i) (b := 2 ^ n) (by omega) (by omega)) (nm_r (e' := nI (i / 2 ^ (n - 1 - v) % 2)) (by rw [xl_sub (by omega), xl_bit (by omega) (by omega)]) ?_)
    rw [ix, nI_clamp (n := 2 * v + 1 - i / 2 ^ (n - 1 - v) % 2) (by omega)]
    refine ⟨vp_in_nI lt (by decide), vp_in_nI lt (by decide), nm_e (nm_r (nI_1 i) (xm_fillTruth_2 hn hv hp d (i + 1) _ (by omega) (fun l hl hlv a ha => ?_) (fun l hl => ?_)))⟩
    · have tri : sy_tr n i l ↔ l = 2 * v + 1 - i / 2 ^ (n - 1 - v) % 2 := by
        unfold sy_tr
        rw [hlv]
        omega
      by_cases w : l = 2 * v + 1 - i / 2 ^ (n - 1 - v) % 2
      · rw [← w, xi_uself, b_or, Bool.or_eq_true, h1 l hl hlv a ha, xi_one i (by omega) a ha, decide_eq_true_eq]
        constructor
        · rintro (z | z)
          · exact ⟨by omega, z.2⟩
          · rw [z]; exact ⟨by omega, tri.mpr w⟩
        · rintro ⟨z1, z2⟩
          by_cases q : a = i
          · exact Or.inr q
          · exact Or.inl ⟨by omega, z2⟩
      · rw [xi_upd w, h1 l hl hlv a ha]
        constructor
        · rintro ⟨z1, z2⟩; exact ⟨by omega, z2⟩
        · rintro ⟨z1, z2⟩
          by_cases q : a = i
          · rw [q] at z2; exact absurd (tri.mp z2) w
          · exact ⟨by omega, z2⟩
    · rw [xi_upd (by omega)]; exact h2 l hl
theorem xm_fillTruth {post : SX → Prop} (hn : n ≤ 4) {v : Nat} (hv : v < n) (h0 : ∀ l, l / 2 = v → tu l = 0) (hp : ∀ tu', (∀ l, l < 2 * n → l / 2 = v → ∀ a, a < 32 → (bt (tu' l) a = true ↔ a < 2 ^ n ∧ sy_tr n a l)) → (∀ l, ¬ l / 2 = v → tu' l = tu l) → post ((nI n), (nI (2 * n)), mc, mp, d1, d2, d3, d4, d5, (nI cc), an, pc, gc, ql, re, pe, ma, pi, si, ob, co, fr, qu, tu', le)) : wpX_fillTruth post ((nI n), (nI (2 * n)), mc, mp, d1, d2, d3, d4, d5, (nI cc), an, pc, gc, ql, re, pe, ma, pi, si, ob, co, fr, qu, tu, le) (nI v) :=
  ⟨2 ^ n + 1, xm_fillTruth_2 hn hv hp (2 ^ n) 0 tu (by omega) (fun l hl hlv a ha => by
    rw [h0 l hlv, b_0]
    exact ⟨fun z => absurd z (by decide), fun z => absurd z.1 (Nat.not_lt_zero _)⟩) (fun _ _ => rfl)⟩
theorem xm_init_165 {post : SX → Prop} (hn : n ≤ 4) (hp : ∀ tu', xm_T n tu' → post ((nI n), (nI (2 * n)), mc, mp, d1, d2, d3, d4, d5, (nI cc), an, pc, gc, ql, re, pe, ma, pi, si, ob, co, fr, qu, tu', le)) : ∀ (d i : Nat) (tu : Nat → Int32), i + d = n → (∀ l, l < 2 * n → l / 2 < i → ∀ a, a < 32 → (bt (tu l) a = true ↔ a < 2 ^ n ∧ sy_tr n a l)) → (∀ l, i ≤ l / 2 → tu l = 0) → wX_init_165 post (d + 1) (nI i) (nI n) (nI (2 * n)) mc mp d1 d2 d3 d4 d5 (nI cc) an pc gc ql re pe ma pi si ob co fr qu tu le
  | 0, i, tu, e, h1, h2 => br_t (nI_le (by omega) (by omega)) (hp tu (fun l hl => h1 l hl (by omega)))
  | d + 1, i, tu, e, h1, h2 => by
    refine br_f (nI_ge (a := i) (b := n) (by omega) (by omega)) (xm_fillTruth hn (by omega) (fun l hl => h2 l (by omega)) (fun tu' k1 k2 => nm_r (nI_1 i) (xm_init_165 hn hp d (i + 1) tu' (by omega) (fun l hl hli => ?_) (fun l hl => ?_))))
    · by_cases w : l / 2 = i
      · exact k1 l hl w
      · rw [k2 l w]; exact h1 l hl (by omega)
    · rw [k2 l (by omega)]; exact h2 l (by omega)
theorem xm_clauseTruth_4 {post : Int32 → Prop} (hn : n ≤ 4) {m : Nat} (hp : ∀ r, (∀ a, a < 32 → (bt r a = true ↔ ∃ l, l < 2 * n ∧ m.testBit l = true ∧ bt (tu l) a = true)) → post r) : ∀ (d i : Nat) (x : Int32), i + d = 2 * n → (∀ a, a < 32 → (bt x a = true ↔ ∃ l, l < i ∧ m.testBit l = true ∧ bt (tu l) a = true)) → wX_clauseTruth_4 post (nI m) (nI n) (nI (2 * n)) mc mp d1 d2 d3 d4 d5 (nI cc) an pc gc ql re pe ma pi si ob co fr qu tu le (d + 1) x (nI i)
  | 0, i, x, e, h => br_t (nI_le (by omega) (by omega)) (hp x (by rw [show i = 2 * n from by omega] at h; exact h))
  | d + 1, i, x, e, h => by
    refine br_f (nI_ge (a := i) (b := 2 * n) (by omega) (by omega)) ?_
    by_cases z : m.testBit i = true
    · refine br_f (fun w => (xi_m0 (by omega)).mp w z) ⟨vp_in_nI (by omega) (by decide), ?_⟩
      rw [nI_clamp (n := i) (by omega)]
      refine nm_e (nm_r (nI_1 i) (xm_clauseTruth_4 hn hp d (i + 1) _ (by omega) (fun a ha => ?_)))
      rw [b_or, Bool.or_eq_true, h a ha]
      constructor
      · rintro (⟨l, l1, l2, l3⟩ | w)
        · exact ⟨l, by omega, l2, l3⟩
        · exact ⟨i, by omega, z, w⟩
      · rintro ⟨l, l1, l2, l3⟩
        by_cases w : l = i
        · rw [w] at l3; exact Or.inr l3
        · exact Or.inl ⟨l, by omega, l2, l3⟩
    · refine br_t ((xi_m0 (by omega)).mpr z) (nm_r (nI_1 i) (xm_clauseTruth_4 hn hp d (i + 1) x (by omega) (fun a ha => ?_)))
      rw [h a ha]
      constructor
      · rintro ⟨l, l1, l2, l3⟩
        exact ⟨l, by omega, l2, l3⟩
      · rintro ⟨l, l1, l2, l3⟩
        by_cases w : l = i
        · rw [w] at l2; exact absurd l2 z
        · exact ⟨l, by omega, l2, l3⟩
theorem xm_clauseTruth {post : Int32 → Prop} (hn : n ≤ 4) {m : Nat} (hp : ∀ r, (∀ a, a < 32 → (bt r a = true ↔ ∃ l, l < 2 * n ∧ m.testBit l = true ∧ bt (tu l) a = true)) → post r) : wpX_clauseTruth post ((nI n), (nI (2 * n)), mc, mp, d1, d2, d3, d4, d5, (nI cc), an, pc, gc, ql, re, pe, ma, pi, si, ob, co, fr, qu, tu, le) (nI m) :=
  ⟨2 * n + 1, xm_clauseTruth_4 hn hp (2 * n) 0 0 (by omega) (fun a _ => by
    rw [b_0]
    exact ⟨fun z => absurd z (by decide), fun ⟨l, h, _⟩ => absurd h (Nat.not_lt_zero _)⟩)⟩
theorem xm_notAboveImage_6 {post : Int32 → Prop} (hn : n ≤ 4) (hT : xm_T n tu) {t : Nat → Nat} (ht : sy_B n t) (hh : xw_PH n 8 t pe) (hp : ∀ r, (∀ a b, a < 2 ^ n → sy_A n t a b → (bt r a = true ↔ a ≤ b)) → post r) :
    ∀ (d i : Nat) (x y : Int32), i + d = n → (∀ a b, a < 2 ^ n → sy_A n t a b → (bt x a = true ↔ ∀ w, w < i → (sy_tr n a (2 * w) ↔ sy_tr n b (2 * w)))) → (∀ a b, a < 2 ^ n → sy_A n t a b → (bt y a = true ↔ ∀ w, w < i → ¬ ((∀ u, u < w → (sy_tr n a (2 * u) ↔ sy_tr n b (2 * u))) ∧ sy_tr n a (2 * w) ∧ ¬ sy_tr n b (2 * w)))) → wX_notAboveImage_6 post (nI n) (nI (2 * n)) mc mp d1 d2 d3 d4 d5 (nI cc) an pc gc ql re pe ma pi si ob co fr qu tu le (d + 1) x y (nI i)
  | 0, i, x, y, e, h1, h2 => by
    refine br_t (nI_le (by omega) (by omega)) (hp y (fun a b ha hab => ?_))
    rw [h2 a b ha hab, show i = n from by omega]
    exact xm_le hn ha hab.1
  | d + 1, i, x, y, e, h1, h2 => by
    have h16 := xi_p16 hn
    obtain ⟨z, hz, ez⟩ := sy_ap_sur ht (j := 2 * i) (by omega)
    refine br_f (nI_ge (a := i) (b := n) (by omega) (by omega)) ?_
    rw [xi_2, nI_clamp (n := 2 * i) (by omega)]
    refine ⟨vp_in_nI (by omega) (by decide), nm_e ?_⟩
    rw [← ez]
    refine xw_preimageAt (q := 8) hn (by omega) ht hh hz ⟨vp_in_nI (by omega) (by decide), ?_⟩
    rw [nI_clamp (n := z) (by omega), ez]
    have own : ∀ a, a < 2 ^ n → (bt (tu (2 * i)) a = true ↔ sy_tr n a (2 * i)) := fun a ha => by
      rw [hT (2 * i) (by omega) a (by omega)]
      exact ⟨fun q => q.2, fun q => ⟨ha, q⟩⟩
    have mov : ∀ a b, a < 2 ^ n → sy_A n t a b → (bt (tu z) a = true ↔ sy_tr n b (2 * i)) := fun a b ha hab => by
      rw [hT z hz a (by omega), ← ez, hab.2 z hz]
      exact ⟨fun q => q.2, fun q => ⟨ha, q⟩⟩
    refine nm_e (nm_e (nm_e (nm_r (nI_1 i) (xm_notAboveImage_6 hn hT ht hh hp d (i + 1) _ _ (by omega) (fun a b ha hab => ?_) (fun a b ha hab => ?_)))))
    · rw [b_and, Bool.and_eq_true, h1 a b ha hab, xm_not (by omega), b_xor]
      have o := own a ha
      have m := mov a b ha hab
      have key : ¬ (bt (tu (2 * i)) a ^^ bt (tu z) a) = true ↔ (sy_tr n a (2 * i) ↔ sy_tr n b (2 * i)) := by
        rw [← o, ← m]
        cases bt (tu (2 * i)) a <;> cases bt (tu z) a <;> simp
      rw [key]
      constructor
      · rintro ⟨k1, k2⟩ w hw
        by_cases q : w = i
        · rw [q]; exact k2
        · exact k1 w (by omega)
      · intro k
        exact ⟨fun w hw => k w (by omega), k i (by omega)⟩
    · rw [b_and, Bool.and_eq_true, h2 a b ha hab, xm_not (by omega), b_and, Bool.and_eq_true, b_and, Bool.and_eq_true, xm_not (by omega), h1 a b ha hab, own a ha, mov a b ha hab]
      constructor
      · rintro ⟨k1, k2⟩ w hw
        by_cases q : w = i
        · rw [q]
          rintro ⟨p1, p2, p3⟩
          exact k2 ⟨⟨p1, p2⟩, p3⟩
        · exact k1 w (by omega)
      · intro k
        exact ⟨fun w hw => k w (by omega), fun ⟨⟨p1, p2⟩, p3⟩ => k i (by omega) ⟨p1, p2, p3⟩⟩
theorem xm_notAboveImage {post : Int32 → Prop} (hn : n ≤ 4) (hT : xm_T n tu) {t : Nat → Nat} (ht : sy_B n t) (hh : xw_PH n 8 t pe) (hp : ∀ r, (∀ a b, a < 2 ^ n → sy_A n t a b → (bt r a = true ↔ a ≤ b)) → post r) : wpX_notAboveImage post ((nI n), (nI (2 * n)), mc, mp, d1, d2, d3, d4, d5, (nI cc), an, pc, gc, ql, re, pe, ma, pi, si, ob, co, fr, qu, tu, le) := by
  have h16 := xi_p16 hn
  exact ⟨n + 1, xm_notAboveImage_6 hn hT ht hh hp n 0 (-1) (-1) (by omega) (fun a b ha _ => ⟨fun _ w hw => by omega, fun _ => b_m1 a (by omega)⟩) (fun a b ha _ => ⟨fun _ w hw => by omega, fun _ => b_m1 a (by omega)⟩)⟩
theorem xm_keepChosen_4 {post : Int32 → SX → Prop} (h1n : 1 ≤ n) (hn : n ≤ 4) {H : Nat → Prop} (hH : sy_H n H) (hN : ∀ pe', (∀ j, 12 ≤ j → pe' j = pe j) → xa_N n H pe' si ob le) (hT : xm_T n tu) {PK : Nat → Prop} {p : Nat} (hpc : p = cn_c PK 384) (hp8 : p ≤ 8) (hPi : cn_E PK 384 pi) (hPK : ∀ r, PK r → r < sy_z n H 0) {x0 : Int32}
    (hp : ∀ pe' r, (∀ a, a < 32 → (bt r a = true → bt x0 a = true)) → (∀ a, a < 2 ^ n → (bt r a = true ↔ bt x0 a = true ∧ xm_K n H PK 1 a)) → (∀ j, (j < 4 ∨ 12 ≤ j) → pe' j = pe j) → post r ((nI n), (nI (2 * n)), mc, mp, d1, d2, d3, d4, d5, (nI cc), an, (nI p), gc, ql, re, pe', ma, pi, si, ob, co, fr, qu, tu, le)) :
    ∀ (d i : Nat) (pe' : Nat → Int32) (x : Int32), i + d = p → (∀ a, a < 32 → (bt x a = true → bt x0 a = true)) → (∀ a, a < 2 ^ n → (bt x a = true ↔ bt x0 a = true ∧ ∀ q, q < 8 ^ n → sy_C n H q → PK (cn_c (sy_C n H) q) → cn_c PK (cn_c (sy_C n H) q) < i → ∀ b, sy_A n (sy_dg n q) a b → a ≤ b)) → (∀ j, (j < 4 ∨ 12 ≤ j) → pe' j = pe j) → wX_keepChosen_4 post (d + 1) x (nI i) (nI n) (nI (2 * n)) mc mp d1 d2 d3 d4 d5 (nI cc) an (nI p) gc ql re pe' ma pi si ob co fr qu tu le
  | 0, i, pe', x, e, h0, h1, fh => by
    refine br_t (nI_le (by omega) (by omega)) (hp pe' x h0 (fun a ha => ?_) fh)
    rw [h1 a ha]
    have zl := sy_z_le h1n hn hH
    constructor
    · rintro ⟨k1, k2⟩
      refine ⟨k1, Or.inr (fun q q1 q2 q3 => k2 q q1 q2 ?_ ?_)⟩
      · rcases q3 with z | z
        · omega
        · exact z
      · have z : PK (cn_c (sy_C n H) q) := q3.elim (fun w => by omega) id
        have := cn_lt (show cn_c (sy_C n H) q < 384 by have := hPK _ z; omega) z
        omega
    · rintro ⟨k1, k2⟩
      refine ⟨k1, fun q q1 q2 q3 _ => ?_⟩
      rcases k2 with z | z
      · omega
      · exact z q q1 q2 (Or.inr q3)
  | d + 1, i, pe', x, e, h0, h1, fh => by
    have h16 := xi_p16 hn
    obtain ⟨r, r1, r2, r3⟩ := cn_sur (P := PK) (N := 384) (i := i) (by omega)
    have er : pi i = nI r := by rw [← r3]; exact hPi r r1 r2
    have rz := hPK r r2
    rw [sy_z_0] at rz
    obtain ⟨q, q1, q2, q3⟩ := cn_sur rz
    refine br_f (nI_ge (a := i) (b := p) (by omega) (by omega)) ⟨vp_in_nI (by omega) (by decide), ?_⟩
    rw [nI_clamp (n := i) (by omega), er, ← q3]
    refine xr_unrank h1n hn hH (hN pe' (fun j hj => fh j (by omega))) q1 q2 (fun pe2 p1 p2 => xm_notAboveImage hn hT q2.1 p1 (fun g hg => nm_e (nm_r (nI_1 i) (xm_keepChosen_4 h1n hn hH hN hT hpc hp8 hPi hPK hp d (i + 1) pe2 _ (by omega) (fun a ha hb => ?_) (fun a ha => ?_) (fun j hj => by rw [p2 j hj]; exact fh j hj)))))
    · rw [b_and, Bool.and_eq_true] at hb
      exact h0 a ha hb.1
    · rw [b_and, Bool.and_eq_true, h1 a ha]
      constructor
      · rintro ⟨⟨k1, k2⟩, k3⟩
        refine ⟨k1, fun q' a1 a2 a3 a4 b hb => ?_⟩
        by_cases w : cn_c PK (cn_c (sy_C n H) q') = i
        · have e1 : cn_c (sy_C n H) q' = r := cn_uniq a3 r2 (w.trans r3.symm)
          have e2 : q' = q := cn_uniq a2 q2 (e1.trans q3.symm)
          rw [e2] at hb
          exact (hg a b ha hb).mp k3
        · exact k2 q' a1 a2 a3 (by omega) b hb
      · rintro ⟨k1, k2⟩
        refine ⟨⟨k1, fun q' a1 a2 a3 a4 => k2 q' a1 a2 a3 (by omega)⟩, ?_⟩
        obtain ⟨b, hb⟩ := sy_A_ex q2.1 a
        exact (hg a b ha hb).mpr (k2 q q1 q2 (by rw [q3]; exact r2) (by rw [q3]; omega) b hb)
theorem xm_keepChosen {post : Int32 → SX → Prop} (h1n : 1 ≤ n) (hn : n ≤ 4) {H : Nat → Prop} (hH : sy_H n H) (hN : xa_N n H pe si ob le) (hT : xm_T n tu) {PK : Nat → Prop} {p : Nat} (hpc : p = cn_c PK 384) (hp8 : p ≤ 8) (hPi : cn_E PK 384 pi) (hPK : ∀ r, PK r → r < sy_z n H 0) {x0 : Int32}
    (hp : ∀ pe' r, (∀ a, a < 32 → (bt r a = true → bt x0 a = true)) → (∀ a, a < 2 ^ n → (bt r a = true ↔ bt x0 a = true ∧ xm_K n H PK 1 a)) → (∀ j, (j < 4 ∨ 12 ≤ j) → pe' j = pe j) → post r ((nI n), (nI (2 * n)), mc, mp, d1, d2, d3, d4, d5, (nI cc), an, (nI p), gc, ql, re, pe', ma, pi, si, ob, co, fr, qu, tu, le)) : wpX_keepChosen post ((nI n), (nI (2 * n)), mc, mp, d1, d2, d3, d4, d5, (nI cc), an, (nI p), gc, ql, re, pe, ma, pi, si, ob, co, fr, qu, tu, le) x0 :=
  ⟨p + 1, xm_keepChosen_4 h1n hn hH (fun pe' hf => xa_N_pe hN hf) hT hpc hp8 hPi hPK hp p 0 pe x0 (by omega) (fun _ _ z => z) (fun a _ => ⟨fun z => ⟨z, fun q _ _ _ w => absurd w (Nat.not_lt_zero _)⟩, fun z => z.1⟩) (fun _ _ => rfl)⟩
theorem xm_keepLeaders_4 {post : Int32 → Prop} {x0 : Int32} (hp : ∀ r, (∀ a, a < 32 → (bt r a = true ↔ bt x0 a = true ∧ (a < 16 → le a = nI a))) → post r) : ∀ (d i : Nat) (x : Int32), i + d = 16 → (∀ a, a < 32 → (bt x a = true ↔ bt x0 a = true ∧ (a < i → le a = nI a))) → wX_keepLeaders_4 post (nI n) (nI (2 * n)) mc mp d1 d2 d3 d4 d5 (nI cc) an pc gc ql re pe ma pi si ob co fr qu tu le (d + 1) x (nI i)
  | 0, i, x, e, h => br_t (nI_le (a := 16) (by omega) (by omega)) (hp x (by rw [show i = 16 from by omega] at h; exact h))
  | d + 1, i, x, e, h => by
    refine br_f (nI_ge (a := i) (b := 16) (by omega) (by omega)) ⟨vp_in_nI (by omega) (by decide), ?_⟩
    rw [nI_clamp (n := i) (by omega)]
    by_cases z : le i = nI i
    · refine br_t z (nm_r (nI_1 i) (xm_keepLeaders_4 hp d (i + 1) x (by omega) (fun a ha => ?_)))
      rw [h a ha]
      constructor
      · rintro ⟨k1, k2⟩
        refine ⟨k1, fun w => ?_⟩
        by_cases q : a = i
        · rw [q]; exact z
        · exact k2 (by omega)
      · rintro ⟨k1, k2⟩
        exact ⟨k1, fun w => k2 (by omega)⟩
    · refine br_f z (nm_e (nm_r (nI_1 i) (xm_keepLeaders_4 hp d (i + 1) _ (by omega) (fun a ha => ?_))))
      rw [b_and, Bool.and_eq_true, h a ha, xm_not ha, xi_one i (by omega) a ha, decide_eq_true_eq]
      constructor
      · rintro ⟨⟨k1, k2⟩, k3⟩
        exact ⟨k1, fun w => k2 (by omega)⟩
      · rintro ⟨k1, k2⟩
        refine ⟨⟨k1, fun w => k2 (by omega)⟩, fun q => ?_⟩
        rw [q] at k2
        exact z (k2 (by omega))
theorem xm_keepLeaders {post : Int32 → Prop} {x0 : Int32} (hp : ∀ r, (∀ a, a < 32 → (bt r a = true ↔ bt x0 a = true ∧ (a < 16 → le a = nI a))) → post r) : wpX_keepLeaders post ((nI n), (nI (2 * n)), mc, mp, d1, d2, d3, d4, d5, (nI cc), an, pc, gc, ql, re, pe, ma, pi, si, ob, co, fr, qu, tu, le) x0 :=
  ⟨17, xm_keepLeaders_4 hp 16 0 x0 (by omega) (fun a _ => ⟨fun z => ⟨z, fun w => absurd w (Nat.not_lt_zero _)⟩, fun z => z.1⟩)⟩
/-- a leader of its orbit -/
theorem xm_K2 {H PK : Nat → Prop} (hn : n ≤ 4) (hH : sy_H n H) {a b : Nat} (ha : a < 2 ^ n) (hL : sy_L n H a b) : b = a ↔ xm_K n H PK 2 a := by
  constructor
  · intro e
    refine Or.inr (fun q _ q2 _ c hc => ?_)
    rw [e] at hL
    exact hL.2 c ⟨_, q2, hc⟩
  · intro h
    have h2 := h.elim (fun z => absurd z (by decide)) id
    apply Nat.le_antisymm (hL.2 a (sy_Q_rf hH ha))
    obtain ⟨t, ht, e⟩ := hL.1
    obtain ⟨c1, c2, c3⟩ := sy_C_cr hn ht
    exact h2 _ c1 c2 (Or.inl rfl) b (sy_A_ext (fun v hv => (c3 v hv).symm) e)
theorem xm_modelSet_13 {post : Int32 → SX → Prop} (h1n : 1 ≤ n) (hn : n ≤ 4) {H : Nat → Prop} (hH : sy_H n H) (hM : xw_M H cc ma) {kd : Nat} (hkd : kd ≤ 2) (hN : kd ≠ 0 → xa_N n H pe si ob le) (hT : xm_T n tu) {PK : Nat → Prop} {p : Nat} (hpc : p = cn_c PK 384) (hp8 : p ≤ 8) (hPi : cn_E PK 384 pi) (hPK : kd ≠ 0 → ∀ r, PK r → r < sy_z n H 0) {ms : Nat → Nat} (hE : sm_E H cc ms) (hms : ∀ c, c < cc → ma c = nI (ms c) ∧ ms c < 256)
    (hp : ∀ pe' r, (∀ a, a < 32 → (bt r a = true ↔ a < 2 ^ n ∧ xm_M n H a ∧ xm_K n H PK kd a)) → (∀ j, (j < 4 ∨ 12 ≤ j) → pe' j = pe j) → post r ((nI n), (nI (2 * n)), mc, mp, d1, d2, d3, d4, d5, (nI cc), an, (nI p), gc, ql, re, pe', ma, pi, si, ob, co, fr, qu, tu, le)) :
    ∀ (d i : Nat) (x : Int32), i + d = cc → (∀ a, a < 32 → (bt x a = true ↔ a < 2 ^ n ∧ ∀ c, c < i → ∃ l, l < 2 * n ∧ (ms c).testBit l = true ∧ sy_tr n a l)) → wX_modelSet_13 post (nI kd) (nI n) (nI (2 * n)) mc mp d1 d2 d3 d4 d5 (nI cc) an (nI p) gc ql re pe ma pi si ob co fr qu tu le (d + 1) x (nI i)
  | 0, i, x, e, h => by
    have h12 := hM.2.1
    have h16 := xi_p16 hn
    have hx : ∀ a, a < 32 → (bt x a = true ↔ a < 2 ^ n ∧ xm_M n H a) := fun a ha => by
      rw [h a ha]
      constructor
      · rintro ⟨k1, k2⟩
        refine ⟨k1, fun m hm => ?_⟩
        obtain ⟨c, c1, c2⟩ := hE.2.2 m hm
        rw [← c2]; exact k2 c (by omega)
      · rintro ⟨k1, k2⟩
        exact ⟨k1, fun c hc => k2 _ (hE.1 c (by omega))⟩
    refine br_t (nI_le (by omega) (by omega)) ?_
    rcases (by omega : kd = 0 ∨ kd = 1 ∨ kd = 2) with z | z | z <;> subst z
    · refine br_f (by decide) (br_f (by decide) (hp pe x (fun a ha => ?_) (fun _ _ => rfl)))
      rw [hx a ha]
      exact ⟨fun q => ⟨q.1, q.2, Or.inl rfl⟩, fun q => ⟨q.1, q.2.1⟩⟩
    · refine br_t rfl (xm_keepChosen h1n hn hH (hN (by decide)) hT hpc hp8 hPi (hPK (by decide)) (fun pe' r k1 k2 k3 => hp pe' r (fun a ha => ?_) k3))
      constructor
      · intro q
        have q2 := (hx a ha).mp (k1 a ha q)
        exact ⟨q2.1, q2.2, ((k2 a q2.1).mp q).2⟩
      · intro q
        exact (k2 a q.1).mpr ⟨(hx a ha).mpr ⟨q.1, q.2.1⟩, q.2.2⟩
    · refine br_f (by decide) (br_t rfl (xm_keepLeaders (fun r k => hp pe r (fun a ha => ?_) (fun _ _ => rfl))))
      rw [k a ha, hx a ha]
      constructor
      · rintro ⟨⟨k1, k2⟩, k3⟩
        obtain ⟨b, b1, b2⟩ := (hN (by decide)).2.2.2 a k1
        have b3 := sy_Q_lt b2.1
        have e3 := k3 (by omega)
        rw [b1] at e3
        exact ⟨k1, k2, (xm_K2 hn hH k1 b2).mp ((nI_eq (by omega) (by omega)).mp e3)⟩
      · rintro ⟨k1, k2, k3⟩
        refine ⟨⟨k1, k2⟩, fun _ => ?_⟩
        obtain ⟨b, b1, b2⟩ := (hN (by decide)).2.2.2 a k1
        rw [b1, (xm_K2 hn hH k1 b2).mpr k3]
  | d + 1, i, x, e, h => by
    have h12 := hM.2.1
    refine br_f (nI_ge (a := i) (b := cc) (by omega) (by omega)) ⟨vp_in_nI (by omega) (by decide), ?_⟩
    rw [nI_clamp (n := i) (by omega), (hms i (by omega)).1]
    refine xm_clauseTruth hn (fun r hr => nm_e (nm_r (nI_1 i) (xm_modelSet_13 h1n hn hH hM hkd hN hT hpc hp8 hPi hPK hE hms hp d (i + 1) _ (by omega) (fun a ha => ?_))))
    rw [b_and, Bool.and_eq_true, h a ha, hr a ha]
    constructor
    · rintro ⟨⟨k1, k2⟩, l, l1, l2, l3⟩
      refine ⟨k1, fun c hc => ?_⟩
      by_cases w : c = i
      · rw [w]; exact ⟨l, l1, l2, ((hT l l1 a ha).mp l3).2⟩
      · exact k2 c (by omega)
    · rintro ⟨k1, k2⟩
      refine ⟨⟨k1, fun c hc => k2 c (by omega)⟩, ?_⟩
      obtain ⟨l, l1, l2, l3⟩ := k2 i (by omega)
      exact ⟨l, l1, l2, (hT l l1 a ha).mpr ⟨k1, l3⟩⟩
theorem xm_modelSet {post : Int32 → SX → Prop} (h1n : 1 ≤ n) (hn : n ≤ 4) {H : Nat → Prop} (hH : sy_H n H) (hM : xw_M H cc ma) {kd : Nat} (hkd : kd ≤ 2) (hN : kd ≠ 0 → xa_N n H pe si ob le) (hT : xm_T n tu) {PK : Nat → Prop} {p : Nat} (hpc : p = cn_c PK 384) (hp8 : p ≤ 8) (hPi : cn_E PK 384 pi) (hPK : kd ≠ 0 → ∀ r, PK r → r < sy_z n H 0)
    (hp : ∀ pe' r, (∀ a, a < 32 → (bt r a = true ↔ a < 2 ^ n ∧ xm_M n H a ∧ xm_K n H PK kd a)) → (∀ j, (j < 4 ∨ 12 ≤ j) → pe' j = pe j) → post r ((nI n), (nI (2 * n)), mc, mp, d1, d2, d3, d4, d5, (nI cc), an, (nI p), gc, ql, re, pe', ma, pi, si, ob, co, fr, qu, tu, le)) : wpX_modelSet post ((nI n), (nI (2 * n)), mc, mp, d1, d2, d3, d4, d5, (nI cc), an, (nI p), gc, ql, re, pe, ma, pi, si, ob, co, fr, qu, tu, le) (nI kd) := by
  obtain ⟨ms, hE, hms⟩ := xw_Ms (fun m hm => Nat.lt_of_lt_of_le (hH m hm) (xi_p256 hn)) hM
  unfold wpX_modelSet
  dsimp only
  refine nm_e ⟨cc + 1, xm_modelSet_13 h1n hn hH hM hkd hN hT hpc hp8 hPi hPK hE hms hp cc 0 _ (by omega) (fun a ha => ?_)⟩
  rw [xm_full n (by omega) a ha, decide_eq_true_eq]
  exact ⟨fun z => ⟨z, fun c hc => absurd hc (Nat.not_lt_zero _)⟩, fun z => z.1⟩
end
end
section
/-! the reference's small methods -/
def yw_H (he : Nat → Int32) (m : Nat) : Prop := m < 256 ∧ ¬ he m = 0
def yw_P (pd : Nat → Int32) (r : Nat) : Prop := r < 384 ∧ ¬ pd r = 0
theorem yw_n0 : vp_nar .boolean 0 = 0 := rfl
theorem yw_n1 : vp_nar .boolean 1 = 1 := rfl
theorem yw_8 : ∀ j, j < 11 → 2 ^ (3 * j) = 8 ^ j := by decide
section
variable {n : Nat} {mc mp an sz : Int32} {he gp pd dr : Nat → Int32}
theorem yw_clamp {post : Int32 → Prop} {u : SY} (x : Int32) {m : Nat} {r : Nat} (hq : ∀ q : Int32 → Prop, (1 ≤ x → (x ≤ nI m → q x) ∧ (¬ x ≤ nI m → q (nI m))) ∧ (¬ 1 ≤ x → q 1) → q (nI r)) (h : post (nI r)) : wpY_clamp post u x (nI m) := by
  unfold wpY_clamp
  obtain ⟨f1, f2, f3, f4, f5, a1, a2, a3, a4⟩ := u
  dsimp only
  by_cases h1 : 1 ≤ x
  · by_cases h2 : x ≤ nI m
    · refine br_t h1 (br_t h2 ?_)
      have : nI r = x := hq (fun y => y = x) ⟨fun _ => ⟨fun _ => rfl, fun z => absurd h2 z⟩, fun z => absurd h1 z⟩
      rw [← this]; exact h
    · refine br_t h1 (br_f h2 ?_)
      have : nI r = nI m := hq (fun y => y = nI m) ⟨fun _ => ⟨fun z => absurd z h2, fun _ => rfl⟩, fun z => absurd h1 z⟩
      rw [← this]; exact h
  · refine br_f h1 ?_
    have : nI r = 1 := hq (fun y => y = 1) ⟨fun z => absurd z h1, fun _ => rfl⟩
    rw [← this]; exact h
theorem yw_isLiteral {post : Int32 → Prop} (hn : n ≤ 4) (x : Int32) (h1 : (∃ l, l < 2 * n ∧ x = nI l) → post 1) (h0 : (¬ ∃ l, l < 2 * n ∧ x = nI l) → post 0) : wpY_isLiteral post ((nI n), mc, mp, an, sz, he, gp, pd, dr) x := by
  unfold wpY_isLiteral
  dsimp only
  rw [xi_2]
  rcases pk_ix x (n := 2 * n) (by omega) with z | z | z
  · refine br_t z (h0 ?_)
    rintro ⟨l, hl, e⟩
    rw [e] at z
    exact nI_pos (by omega) z
  · have nz : ¬ x < 0 := Int32.not_lt.mpr (Int32.le_trans (nI_pos' (n := 2 * n) (by omega)) z)
    refine br_f nz (br_t z (h0 ?_))
    rintro ⟨l, hl, e⟩
    rw [e] at z
    exact nI_ge hl (by omega) z
  · obtain ⟨l, hl, e⟩ := z
    have nz : ¬ x < 0 := by rw [e]; exact nI_pos (by omega)
    have nl : ¬ nI (2 * n) ≤ x := by rw [e]; exact nI_ge hl (by omega)
    exact br_f nz (br_f nl (h1 ⟨l, hl, e⟩))
theorem yw_maskOf {post : Int32 → Prop} (hn : n ≤ 4) (a b c : Int32) (h0 : (¬ ∃ x y z, x < 2 * n ∧ y < 2 * n ∧ z < 2 * n ∧ a = nI x ∧ b = nI y ∧ c = nI z) → post (-1)) (h1 : ∀ x y z, x < 2 * n → y < 2 * n → z < 2 * n → a = nI x → b = nI y → c = nI z → post (nI (2 ^ x ||| 2 ^ y ||| 2 ^ z))) : wpY_maskOf post ((nI n), mc, mp, an, sz, he, gp, pd, dr) a b c := by
  unfold wpY_maskOf
  dsimp only
  refine yw_isLiteral hn a (fun ⟨x, hx, ex⟩ => br_f (by decide) ?_) (fun no => br_t rfl (h0 ?_))
  · refine yw_isLiteral hn b (fun ⟨y, hy, ey⟩ => br_f (by decide) ?_) (fun no => br_t rfl (h0 ?_))
    · refine yw_isLiteral hn c (fun ⟨z, hz, ez⟩ => br_f (by decide) ?_) (fun no => br_t rfl (h0 ?_))
      · rw [ex, ey, ez, xi_shl x (by omega), xi_shl y (by omega), xi_shl z (by omega), xi_or, xi_or]
        exact h1 x y z hx hy hz ex ey ez
      · rintro ⟨x, y, z, _, _, hz, _, _, ez⟩
        exact no ⟨z, hz, ez⟩
    · rintro ⟨x, y, z, _, hy, _, _, ey, _⟩
      exact no ⟨y, hy, ey⟩
  · rintro ⟨x, y, z, hx, _, _, ex, _, _⟩
    exact no ⟨x, hx, ex⟩
theorem yw_heldCount_4 {post : Int32 → Prop} (hp : post (nI (cn_c (yw_H he) 256))) : ∀ d i, i + d = 256 → wY_heldCount_4 post (nI n) mc mp an sz he gp pd dr (d + 1) (nI (cn_c (yw_H he) i)) (nI i)
  | 0, i, e => by
    refine br_t (nI_le (a := 256) (by omega) (by omega)) ?_
    rw [show i = 256 from by omega]; exact hp
  | d + 1, i, e => by
    refine br_f (nI_ge (a := i) (b := 256) (by omega) (by omega)) ⟨vp_in_nI (by omega) (by decide), ?_⟩
    have ih := yw_heldCount_4 hp d (i + 1) (by omega)
    rw [nI_clamp (n := i) (by omega)]
    by_cases z : he i = 0
    · rw [cn_sf (P := yw_H he) (fun w => w.2 z)] at ih
      exact br_t z (nm_r (nI_1 i) ih)
    · rw [cn_st (P := yw_H he) ⟨by omega, z⟩] at ih
      exact br_f z (nm_r (nI_1 _) (nm_r (nI_1 i) ih))
theorem yw_heldCount {post : Int32 → Prop} (hp : post (nI (cn_c (yw_H he) 256))) : wpY_heldCount post ((nI n), mc, mp, an, sz, he, gp, pd, dr) := ⟨257, yw_heldCount_4 hp 256 0 rfl⟩
theorem yw_pickedCount_4 {post : Int32 → Prop} (hp : post (nI (cn_c (yw_P pd) 384))) : ∀ d i, i + d = 384 → wY_pickedCount_4 post (nI n) mc mp an sz he gp pd dr (d + 1) (nI (cn_c (yw_P pd) i)) (nI i)
  | 0, i, e => by
    refine br_t (nI_le (a := 384) (by omega) (by omega)) ?_
    rw [show i = 384 from by omega]; exact hp
  | d + 1, i, e => by
    refine br_f (nI_ge (a := i) (b := 384) (by omega) (by omega)) ⟨vp_in_nI (by omega) (by decide), ?_⟩
    have ih := yw_pickedCount_4 hp d (i + 1) (by omega)
    rw [nI_clamp (n := i) (by omega)]
    by_cases z : pd i = 0
    · rw [cn_sf (P := yw_P pd) (fun w => w.2 z)] at ih
      exact br_t z (nm_r (nI_1 i) ih)
    · rw [cn_st (P := yw_P pd) ⟨by omega, z⟩] at ih
      exact br_f z (nm_r (nI_1 _) (nm_r (nI_1 i) ih))
theorem yw_pickedCount {post : Int32 → Prop} (hp : post (nI (cn_c (yw_P pd) 384))) : wpY_pickedCount post ((nI n), mc, mp, an, sz, he, gp, pd, dr) := ⟨385, yw_pickedCount_4 hp 384 0 rfl⟩
theorem yw_forget_12 {post : SY → Prop} (hp : ∀ pd', (∀ r, r < 384 → pd' r = 0) → post ((nI n), mc, mp, an, sz, he, gp, pd', dr)) : ∀ (d i : Nat) (pd : Nat → Int32), i + d = 384 → (∀ r, r < i → pd r = 0) → wY_forget_12 post (nI n) mc mp an sz (d + 1) (nI i) he gp pd dr
  | 0, i, pd, e, h => br_t (nI_le (a := 384) (by omega) (by omega)) (hp pd (fun r hr => h r (by omega)))
  | d + 1, i, pd, e, h => by
    refine br_f (nI_ge (a := i) (b := 384) (by omega) (by omega)) ⟨vp_in_nI (by omega) (by decide), nm_r (e' := upd pd i 0) (by rw [nI_clamp (n := i) (by omega), yw_n0]) (nm_r (nI_1 i) (yw_forget_12 hp d (i + 1) (upd pd i 0) (by omega) (fun r hr => ?_)))⟩
    by_cases w : r = i
    · rw [w, xi_uself]
    · rw [xi_upd w]; exact h r (by omega)
theorem yw_forget {post : SY → Prop} (hp : ∀ pd', (∀ r, r < 384 → pd' r = 0) → post ((nI n), mc, mp, 0, 0, he, gp, pd', dr)) : wpY_forget post ((nI n), mc, mp, an, sz, he, gp, pd, dr) := ⟨385, yw_forget_12 hp 384 0 pd (by omega) (fun r hr => by omega)⟩
theorem yw_send {post : Int32 → Prop} (hn : n ≤ 4) {q l : Nat} (hq : q < 2 ^ 31) (hl : l < 2 * n) (hp : post (nI (sy_ap (sy_dg n q) l))) : wpY_send post ((nI n), mc, mp, an, sz, he, gp, pd, dr) (nI q) (nI l) := by
  unfold wpY_send
  dsimp only
  have e1 : (3 : Int32) * ((nI n - 1) - (nI l >>> ((1 : Int32) &&& 31))) = nI (3 * (n - 1 - l / 2)) := by
    rw [xi_half (by omega), xl_sub (by omega)]
    exact pk_mul 3 _
  have le : q / 2 ^ (3 * (n - 1 - l / 2)) ≤ q := Nat.div_le_self _ _
  have e2 : (nI q >>> ((3 * ((nI n - 1) - (nI l >>> ((1 : Int32) &&& 31)))) &&& 31)) &&& 7 = nI (sy_dg n q (l / 2)) := by
    rw [e1, pk_shrN hq _ (3 * (n - 1 - l / 2)) (s_l _ (by omega)), pk_andN (by omega) 3 (by decide), yw_8 _ (by omega)]
    rfl
  rw [e2, xi_ap (by omega) (sy_dg_lt n q (l / 2))]
  exact hp
theorem yw_sendClause_5 {post : Int32 → Prop} (hn : n ≤ 4) {q m : Nat} (hq : q < 2 ^ 31) (hp : post (nI (sy_mm n (sy_dg n q) m))) : ∀ d i, i + d = 2 * n → wY_sendClause_5 post (nI q) (nI m) (nI n) mc mp an sz he gp pd dr (d + 1) (nI (sy_mr (sy_dg n q) m i)) (nI i)
  | 0, i, e => by
    unfold wY_sendClause_5
    rw [xi_2]
    refine br_t (nI_le (by omega) (by omega)) ?_
    rw [show i = 2 * n from by omega]; exact hp
  | d + 1, i, e => by
    unfold wY_sendClause_5
    rw [xi_2]
    have ih := yw_sendClause_5 hn hq hp d (i + 1) (by omega)
    refine br_f (nI_ge (a := i) (b := 2 * n) (by omega) (by omega)) ?_
    by_cases z : m.testBit i = true
    · refine br_t ((xi_m1 (by omega)).mpr z) (yw_send hn hq (by omega) (nm_r (e' := nI (sy_mr (sy_dg n q) m (i + 1))) ?_ (nm_r (nI_1 i) ih)))
      rw [xi_shl _ (by have := xw_ap8 (t := sy_dg n q) (l := i) (sy_dg_lt n q _); omega), xi_or]
      exact congrArg nI (if_pos z).symm
    · refine br_f (fun w => z ((xi_m1 (by omega)).mp w)) (nm_r (nI_1 i) ?_)
      rw [show sy_mr (sy_dg n q) m (i + 1) = sy_mr (sy_dg n q) m i from if_neg z] at ih
      exact ih
theorem yw_sendClause {post : Int32 → Prop} (hn : n ≤ 4) {q m : Nat} (hq : q < 2 ^ 31) (hp : post (nI (sy_mm n (sy_dg n q) m))) : wpY_sendClause post ((nI n), mc, mp, an, sz, he, gp, pd, dr) (nI q) (nI m) :=
  ⟨2 * n + 1, yw_sendClause_5 hn hq hp (2 * n) 0 (by omega)⟩
theorem yw_isTrue {post : Int32 → Prop} (hn : n ≤ 4) {a l : Nat} (ha : a < 2 ^ 31) (hl : l < 2 * n) (h1 : sy_tr n a l → post 1) (h0 : ¬ sy_tr n a l → post 0) : wpY_isTrue post ((nI n), mc, mp, an, sz, he, gp, pd, dr) (nI a) (nI l) := by
  unfold wpY_isTrue
  dsimp only
  rw [xi_half (by omega), xl_sub (by omega), xl_bit ha (by omega), xi_par (by omega)]
  have b1 := Nat.mod_lt (a / 2 ^ (n - 1 - l / 2)) (show 0 < 2 by decide)
  refine nm_e ?_
  by_cases z : a / 2 ^ (n - 1 - l / 2) % 2 = l % 2
  · exact br_t (by rw [z]) (h0 (fun w => w z))
  · exact br_f (fun w => z ((nI_eq (by omega) (by omega)).mp w)) (h1 z)
theorem yw_sendAssignment_5 {post : Int32 → Prop} (hn : n ≤ 4) {q a : Nat} (hq : q < 2 ^ 31) (ha : a < 2 ^ 31) (ht : sy_B n (sy_dg n q)) (hp : ∀ b, sy_A n (sy_dg n q) a b → post (nI b)) : ∀ (d i x : Nat), i + d = 2 * n → (∀ j, x.testBit j = true ↔ ∃ l, l < i ∧ sy_tr n a l ∧ sy_ap (sy_dg n q) l % 2 = 0 ∧ n - 1 - sy_ap (sy_dg n q) l / 2 = j) → wY_sendAssignment_5 post (nI q) (nI a) (nI n) mc mp an sz he gp pd dr (d + 1) (nI x) (nI i)
  | 0, i, x, e, h => by
    unfold wY_sendAssignment_5
    rw [xi_2]
    have e : i = 2 * n := by omega
    subst e
    refine br_t (nI_le (by omega) (by omega)) (hp x (sy_A_y ht (Nat.lt_pow_two_of_testBit _ (fun j hj => ?_)) (fun w hw => ?_)))
    · cases hb : x.testBit j
      · rfl
      · obtain ⟨l, l1, _, _, l4⟩ := (h j).mp hb
        omega
    · rw [h]
      constructor
      · rintro ⟨l, l1, l2, l3, l4⟩
        have := sy_ap_lt ht.1 l1
        exact ⟨l, l1, l2, by omega⟩
      · rintro ⟨l, l1, l2, l3⟩
        exact ⟨l, l1, l2, by omega, by rw [l3]; omega⟩
  | d + 1, i, x, e, h => by
    unfold wY_sendAssignment_5
    rw [xi_2]
    have hy := sy_ap_lt ht.1 (l := i) (by omega)
    refine br_f (nI_ge (a := i) (b := 2 * n) (by omega) (by omega)) (yw_send hn hq (by omega) (yw_isTrue hn ha (by omega) (fun tr => br_f (by decide) ?_) (fun nt => br_t rfl (nm_r (nI_1 i) (yw_sendAssignment_5 hn hq ha ht hp d (i + 1) x (by omega) (fun j => ?_))))))
    · rw [xi_par (by omega), xi_half (by omega), xl_sub (by omega)]
      by_cases z : sy_ap (sy_dg n q) i % 2 = 0
      · refine br_t (by rw [z]; rfl) (nm_r (e' := nI (x ||| 2 ^ (n - 1 - sy_ap (sy_dg n q) i / 2))) (by rw [xi_shl _ (by omega), xi_or]) (nm_r (nI_1 i) (yw_sendAssignment_5 hn hq ha ht hp d (i + 1) _ (by omega) (fun j => ?_))))
        rw [Nat.testBit_or, Bool.or_eq_true, h j, Nat.testBit_two_pow, decide_eq_true_eq]
        constructor
        · rintro (⟨l, l1, l2⟩ | w)
          · exact ⟨l, by omega, l2⟩
          · exact ⟨i, by omega, tr, z, w⟩
        · rintro ⟨l, l1, l2, l3, l4⟩
          by_cases w : l = i
          · rw [w] at l4; exact Or.inr l4
          · exact Or.inl ⟨l, by omega, l2, l3, l4⟩
      · refine br_f (nI_ne0 (by omega) (by omega)) (nm_r (nI_1 i) (yw_sendAssignment_5 hn hq ha ht hp d (i + 1) x (by omega) (fun j => ?_)))
        rw [h j]
        constructor
        · rintro ⟨l, l1, l2⟩; exact ⟨l, by omega, l2⟩
        · rintro ⟨l, l1, l2, l3, l4⟩
          by_cases w : l = i
          · rw [w] at l3; exact absurd l3 z
          · exact ⟨l, by omega, l2, l3, l4⟩
    · rw [h j]
      constructor
      · rintro ⟨l, l1, l2⟩; exact ⟨l, by omega, l2⟩
      · rintro ⟨l, l1, l2, l3, l4⟩
        by_cases w : l = i
        · rw [w] at l2; exact absurd l2 nt
        · exact ⟨l, by omega, l2, l3, l4⟩
theorem yw_sendAssignment {post : Int32 → Prop} (hn : n ≤ 4) {q a : Nat} (hq : q < 2 ^ 31) (ha : a < 2 ^ 31) (ht : sy_B n (sy_dg n q)) (hp : ∀ b, sy_A n (sy_dg n q) a b → post (nI b)) : wpY_sendAssignment post ((nI n), mc, mp, an, sz, he, gp, pd, dr) (nI q) (nI a) :=
  ⟨2 * n + 1, yw_sendAssignment_5 hn hq ha ht hp (2 * n) 0 0 (by omega) (fun j => by
    rw [Nat.zero_testBit]
    exact ⟨fun z => absurd z (by decide), fun ⟨l, h, _⟩ => absurd h (Nat.not_lt_zero _)⟩)⟩
theorem yw_isSymmetry_66 {post : Int32 → Prop} (hn : n ≤ 4) {q : Nat} (hq : q < 2 ^ 31) (ht : sy_B n (sy_dg n q)) (h1 : sy_C n (yw_H he) q → post 1) (h0 : ¬ sy_C n (yw_H he) q → post 0) : ∀ d i, i + d = 256 → (∀ m, m < i → yw_H he m → yw_H he (sy_mm n (sy_dg n q) m)) → wY_isSymmetry_66 post (nI q) (nI n) mc mp an sz he gp pd dr (d + 1) (nI i)
  | 0, i, e, h => br_t (nI_le (a := 256) (by omega) (by omega)) (h1 ⟨ht, fun m hm => h m (by have := hm.1; omega) hm⟩)
  | d + 1, i, e, h => by
    have mlt : sy_mm n (sy_dg n q) i < 256 := Nat.lt_of_lt_of_le (sy_mm_lt ht.1 i) (xi_p256 hn)
    refine br_f (nI_ge (a := i) (b := 256) (by omega) (by omega)) ⟨vp_in_nI (by omega) (by decide), ?_⟩
    rw [nI_clamp (n := i) (by omega)]
    by_cases z : he i = 0
    · refine br_t z (nm_r (nI_1 i) (yw_isSymmetry_66 hn hq ht h1 h0 d (i + 1) (by omega) (fun m hm hh => ?_)))
      by_cases w : m = i
      · rw [w] at hh; exact absurd z hh.2
      · exact h m (by omega) hh
    · refine br_f z (yw_sendClause hn hq ⟨vp_in_nI mlt (by decide), ?_⟩)
      rw [nI_clamp (by omega)]
      by_cases y : he (sy_mm n (sy_dg n q) i) = 0
      · exact br_t y (h0 (fun c => (c.2 i ⟨by omega, z⟩).2 y))
      · refine br_f y (nm_r (nI_1 i) (yw_isSymmetry_66 hn hq ht h1 h0 d (i + 1) (by omega) (fun m hm hh => ?_)))
        by_cases w : m = i
        · rw [w]; exact ⟨mlt, y⟩
        · exact h m (by omega) hh
theorem yw_seen : ∀ n, n < 5 → ((1 : Int32) <<< ((2 * nI n) &&& 31)) - 1 = nI (2 ^ (2 * n) - 1) := by decide +kernel
theorem yw_isSymmetry_4 {post : Int32 → Prop} (hn : n ≤ 4) {q : Nat} (hq : q < 2 ^ 31) (h1 : sy_C n (yw_H he) q → post 1) (h0 : ¬ sy_C n (yw_H he) q → post 0) : ∀ (d i x : Nat), i + d = 2 * n → (∀ l, l < i → sy_ap (sy_dg n q) l < 2 * n) → (∀ j, x.testBit j = true ↔ ∃ l, l < i ∧ sy_ap (sy_dg n q) l = j) → wY_isSymmetry_4 post (nI q) (nI n) mc mp an sz he gp pd dr (d + 1) (nI x) (nI i)
  | 0, i, x, e, h, hx => by
    have e : i = 2 * n := by omega
    subst e
    have p := xi_p256 hn
    have p0 := Nat.two_pow_pos (2 * n)
    have xl : x < 2 ^ (2 * n) := Nat.lt_pow_two_of_testBit _ (fun j hj => by
      cases hb : x.testBit j
      · rfl
      · obtain ⟨l, l1, l2⟩ := (hx j).mp hb
        have := h l l1
        omega)
    unfold wY_isSymmetry_4
    rw [yw_seen n (by omega), xi_2]
    refine br_t (nI_le (by omega) (by omega)) ?_
    have tv : ∀ v, v < n → sy_dg n q v < 2 * n := fun v hv => by
      have := h (2 * v) (by omega)
      rw [sy_ap_e] at this
      exact this
    by_cases z : x = 2 ^ (2 * n) - 1
    · have B : sy_B n (sy_dg n q) := sy_B_of tv (fun j hj => (hx j).mp (by rw [z, Nat.testBit_two_pow_sub_one]; exact decide_eq_true hj))
      exact br_t (by rw [z]) ⟨257, yw_isSymmetry_66 hn hq B h1 h0 256 0 (by omega) (fun m hm => by omega)⟩
    · refine br_f (fun w => z ((nI_eq (by omega) (by omega)).mp w)) (h0 (fun c => z ?_))
      apply sy_eqb
      intro j
      rw [hx j, Nat.testBit_two_pow_sub_one, decide_eq_true_eq]
      exact ⟨fun ⟨l, l1, l2⟩ => by have := h l l1; omega, fun hj => sy_ap_sur c.1 hj⟩
  | d + 1, i, x, e, h, hx => by
    unfold wY_isSymmetry_4
    rw [xi_2]
    have a8 := xw_ap8 (t := sy_dg n q) (l := i) (sy_dg_lt n q _)
    refine br_f (nI_ge (a := i) (b := 2 * n) (by omega) (by omega)) (yw_send hn hq (by omega) ?_)
    rcases Nat.lt_or_ge (sy_ap (sy_dg n q) i) (2 * n) with z | z
    · refine br_t (nI_lt z (by omega)) (nm_r (e' := nI (x ||| 2 ^ sy_ap (sy_dg n q) i)) (by rw [xi_shl _ (by omega), xi_or]) (nm_r (nI_1 i) (yw_isSymmetry_4 hn hq h1 h0 d (i + 1) _ (by omega) (fun l hl => ?_) (fun j => ?_))))
      · by_cases w : l = i
        · rw [w]; exact z
        · exact h l (by omega)
      · rw [Nat.testBit_or, Bool.or_eq_true, hx j, Nat.testBit_two_pow, decide_eq_true_eq]
        constructor
        · rintro (⟨l, l1, l2⟩ | w)
          · exact ⟨l, by omega, l2⟩
          · exact ⟨i, by omega, w⟩
        · rintro ⟨l, l1, l2⟩
          by_cases w : l = i
          · rw [w] at l2; exact Or.inr l2
          · exact Or.inl ⟨l, by omega, l2⟩
    · refine br_f (nI_nlt z (by omega)) (h0 (fun c => ?_))
      have := sy_ap_lt c.1.1 (l := i) (by omega)
      omega
theorem yw_isSymmetry {post : Int32 → Prop} (hn : n ≤ 4) {q : Nat} (hq : q < 2 ^ 31) (h1 : sy_C n (yw_H he) q → post 1) (h0 : ¬ sy_C n (yw_H he) q → post 0) : wpY_isSymmetry post ((nI n), mc, mp, an, sz, he, gp, pd, dr) (nI q) :=
  ⟨2 * n + 1, yw_isSymmetry_4 hn hq h1 h0 (2 * n) 0 0 (by omega) (fun l hl => by omega) (fun j => by
    rw [Nat.zero_testBit]
    exact ⟨fun z => absurd z (by decide), fun ⟨l, h, _⟩ => absurd h (Nat.not_lt_zero _)⟩)⟩
theorem yw_fixes_2 {post : Int32 → Prop} (hn : n ≤ 4) {q k : Nat} (hq : q < 2 ^ 31) (hk : k ≤ n) (h1 : (∀ v, v < k → sy_dg n q v = 2 * v) → post 1) (h0 : (¬ ∀ v, v < k → sy_dg n q v = 2 * v) → post 0) : ∀ d i, i + d = k → (∀ v, v < i → sy_dg n q v = 2 * v) → wY_fixes_2 post (nI q) (nI k) (nI n) mc mp an sz he gp pd dr (d + 1) (nI i)
  | 0, i, e, h => br_t (nI_le (by omega) (by omega)) (h1 (fun v hv => h v (by omega)))
  | d + 1, i, e, h => by
    refine br_f (nI_ge (a := i) (b := k) (by omega) (by omega)) ?_
    rw [xi_2]
    refine yw_send hn hq (by omega) ?_
    rw [sy_ap_e]
    have := sy_dg_lt n q i
    by_cases z : sy_dg n q i = 2 * i
    · refine br_t (by rw [z]) (nm_r (nI_1 i) (yw_fixes_2 hn hq hk h1 h0 d (i + 1) (by omega) (fun v hv => ?_)))
      by_cases w : v = i
      · rw [w]; exact z
      · exact h v (by omega)
    · exact br_f (fun w => z ((nI_eq (by omega) (by omega)).mp w)) (h0 (fun c => z (c i (by omega))))
theorem yw_fixes {post : Int32 → Prop} (hn : n ≤ 4) {q k : Nat} (hq : q < 2 ^ 31) (hk : k ≤ n) (h1 : (∀ v, v < k → sy_dg n q v = 2 * v) → post 1) (h0 : (¬ ∀ v, v < k → sy_dg n q v = 2 * v) → post 0) : wpY_fixes post ((nI n), mc, mp, an, sz, he, gp, pd, dr) (nI q) (nI k) :=
  ⟨k + 1, yw_fixes_2 hn hq hk h1 h0 k 0 (by omega) (fun v hv => by omega)⟩
end
end
section
/-! the reference's methods -/
theorem cn_idx {P X : Nat → Prop} {N : Nat} : cn_c (fun r => ∃ q, q < N ∧ P q ∧ cn_c P q = r ∧ X q) (cn_c P N) = cn_c (fun q => P q ∧ X q) N := by
  apply Nat.le_antisymm
  · have sp : ∀ r, (∃ q, q < N ∧ P q ∧ cn_c P q = r ∧ X q) → (fun q => q < N ∧ P q ∧ cn_c P q = r ∧ X q) (Classical.epsilon (fun q => q < N ∧ P q ∧ cn_c P q = r ∧ X q)) := fun r h => Classical.epsilon_spec (p := fun q => q < N ∧ P q ∧ cn_c P q = r ∧ X q) h
    refine cn_inj (f := fun r => Classical.epsilon (fun q => q < N ∧ P q ∧ cn_c P q = r ∧ X q)) (fun r _ pr => ?_) (fun r s _ _ pr ps e => ?_)
    · have := sp r pr
      exact ⟨this.1, this.2.1, this.2.2.2⟩
    · have a := (sp r pr).2.2.1
      have b := (sp s ps).2.2.1
      rw [e] at a
      exact a.symm.trans b
  · exact cn_inj (f := cn_c P) (fun q hq pq => ⟨cn_lt hq pq.1, q, hq, pq.1, rfl, pq.2⟩) (fun q s _ _ pq ps e => cn_uniq pq.1 ps.1 e)
def yw_Gr (n : Nat) (H : Nat → Prop) (sz : Int32) (gp : Nat → Int32) : Prop := sz = nI (cn_c (sy_C n H) (8 ^ n)) ∧ cn_E (sy_C n H) (8 ^ n) gp ∧ cn_c (sy_C n H) (8 ^ n) ≤ 384
theorem yw_Gi {n : Nat} {H : Nat → Prop} {gp : Nat → Int32} (hE : cn_E (sy_C n H) (8 ^ n) gp) {i : Nat} (hi : i < cn_c (sy_C n H) (8 ^ n)) : ∃ q, q < 8 ^ n ∧ sy_C n H q ∧ cn_c (sy_C n H) q = i ∧ gp i = nI q := by
  obtain ⟨q, h1, h2, h3⟩ := cn_sur hi
  exact ⟨q, h1, h2, h3, by rw [← h3]; exact hE q h1 h2⟩
section
variable {n : Nat} {mc mp an sz : Int32} {he gp pd dr : Nat → Int32}
theorem yw_draftRank_32 {post : Int32 → Prop} (hn : n ≤ 4) {H : Nat → Prop} (hG : yw_Gr n H sz gp) {p : Nat} (hp8 : p < 8 ^ n) (h1 : sy_C n H p → post (nI (cn_c (sy_C n H) p))) (h0 : ¬ sy_C n H p → post (-6)) : ∀ d i, i + d = cn_c (sy_C n H) (8 ^ n) → (sy_C n H p → i ≤ cn_c (sy_C n H) p) → wY_draftRank_32 post (nI p) (nI n) mc mp an sz he gp pd dr (d + 1) (nI i)
  | 0, i, e, h => by
    have s := hG.2.2
    unfold wY_draftRank_32
    rw [hG.1]
    refine br_t (nI_le (by omega) (by omega)) (h0 (fun c => ?_))
    have := cn_lt hp8 c
    have := h c
    omega
  | d + 1, i, e, h => by
    have s := hG.2.2
    have p4 := xi_p4096 hn
    obtain ⟨q, q1, q2, q3, q4⟩ := yw_Gi hG.2.1 (i := i) (by omega)
    unfold wY_draftRank_32
    rw [hG.1]
    refine br_f (nI_ge (a := i) (by omega) (by omega)) ⟨vp_in_nI (by omega) (by decide), ?_⟩
    rw [nI_clamp (n := i) (by omega), q4]
    by_cases z : q = p
    · rw [z] at q2 q3
      refine br_t (by rw [z]) ?_
      rw [← q3]; exact h1 q2
    · refine br_f (fun w => z ((nI_eq (by omega) (by omega)).mp w)) (nm_r (nI_1 i) ?_)
      have ih := yw_draftRank_32 hn hG hp8 h1 h0 d (i + 1) (by omega) (fun c => by
        have a := h c
        rcases Nat.lt_or_ge i (cn_c (sy_C n H) p) with w | w
        · omega
        · exact absurd (cn_uniq q2 c (by omega)) z)
      rw [hG.1] at ih
      exact ih
theorem yw_draftRank_4 {post : Int32 → Prop} (hn : n ≤ 4) {H : Nat → Prop} (hG : yw_Gr n H sz gp) {d : Nat → Nat} (hd : ∀ v, v < n → d v < 8) (hdr : ∀ v, v < n → dr v = nI (d v)) (h1 : sy_C n H (sy_cr d n) → post (nI (cn_c (sy_C n H) (sy_cr d n)))) (h0 : ¬ sy_C n H (sy_cr d n) → post (-6)) : ∀ f i, i + f = n → wY_draftRank_4 post (nI n) mc mp an sz he gp pd dr (f + 1) (nI (sy_cr d i)) (nI i)
  | 0, i, e => by
    have e : i = n := by omega
    subst e
    exact br_t (nI_le (Nat.le_refl _) (by omega)) ⟨cn_c (sy_C i H) (8 ^ i) + 1, yw_draftRank_32 hn hG (sy_cr_lt hd) h1 h0 _ 0 (Nat.zero_add _) (fun _ => Nat.zero_le _)⟩
  | f + 1, i, e => by
    refine br_f (nI_ge (a := i) (b := n) (by omega) (by omega)) ⟨vp_in_nI (by omega) (by decide), nm_r (e' := nI (sy_cr d (i + 1))) ?_ (nm_r (nI_1 i) (yw_draftRank_4 hn hG hd hdr h1 h0 f (i + 1) (by omega)))⟩
    rw [nI_clamp (n := i) (by omega), hdr i (by omega)]
    have a : nI (sy_cr d i) * 8 = nI (sy_cr d i * 8) := pk_mul _ 8
    rw [a, nI_add]
    rfl
theorem yw_draftRank {post : Int32 → Prop} (hn : n ≤ 4) {H : Nat → Prop} (hG : yw_Gr n H sz gp) {d : Nat → Nat} (hd : ∀ v, v < n → d v < 8) (hdr : ∀ v, v < n → dr v = nI (d v)) (h1 : sy_C n H (sy_cr d n) → post (nI (cn_c (sy_C n H) (sy_cr d n)))) (h0 : ¬ sy_C n H (sy_cr d n) → post (-6)) : wpY_draftRank post ((nI n), mc, mp, an, sz, he, gp, pd, dr) :=
  ⟨n + 1, yw_draftRank_4 hn hG hd hdr h1 h0 n 0 (by omega)⟩
theorem yw_isModel_27 {post J : Int32 → Prop} (hn : n ≤ 4) {a m : Nat} (ha : a < 2 ^ 31) (hm : m < 256) (hJ : (yw_H he m → ∃ l, l < 2 * n ∧ m.testBit l = true ∧ sy_tr n a l) → J (nI (m + 1))) (h0 : (yw_H he m ∧ ¬ ∃ l, l < 2 * n ∧ m.testBit l = true ∧ sy_tr n a l) → post 0) : ∀ (d i : Nat) (x : Int32), i + d = 2 * n → ((x = 1 ∧ (yw_H he m → ∃ l, l < i ∧ m.testBit l = true ∧ sy_tr n a l)) ∨ (x = 0 ∧ yw_H he m ∧ ¬ ∃ l, l < i ∧ m.testBit l = true ∧ sy_tr n a l)) → wY_isModel_27 post J (nI a) (nI m) (nI n) mc mp an sz he gp pd dr (d + 1) x (nI i)
  | 0, i, x, e, h => by
    have e : i = 2 * n := by omega
    subst e
    unfold wY_isModel_27
    rw [xi_2]
    refine br_t (nI_le (by omega) (by omega)) ?_
    rcases h with ⟨h1, h2⟩ | ⟨h1, h2⟩
    · rw [h1]
      exact br_f (by decide) (nm_r (nI_1 m) (hJ h2))
    · rw [h1]
      exact br_t rfl (h0 h2)
  | d + 1, i, x, e, h => by
    unfold wY_isModel_27
    rw [xi_2]
    refine br_f (nI_ge (a := i) (b := 2 * n) (by omega) (by omega)) ?_
    have up : (∃ l, l < i ∧ m.testBit l = true ∧ sy_tr n a l) → ∃ l, l < i + 1 ∧ m.testBit l = true ∧ sy_tr n a l := fun ⟨l, l1, l2⟩ => ⟨l, by omega, l2⟩
    have dn : ¬ (m.testBit i = true ∧ sy_tr n a i) → (∃ l, l < i + 1 ∧ m.testBit l = true ∧ sy_tr n a l) → ∃ l, l < i ∧ m.testBit l = true ∧ sy_tr n a l := fun no ⟨l, l1, l2⟩ => by
      by_cases w : l = i
      · rw [w] at l2; exact absurd l2 no
      · exact ⟨l, by omega, l2⟩
    have same : ¬ (m.testBit i = true ∧ sy_tr n a i) → wY_isModel_27 post J (nI a) (nI m) (nI n) mc mp an sz he gp pd dr (d + 1) x (nI (i + 1)) := fun no => yw_isModel_27 hn ha hm hJ h0 d (i + 1) x (by omega) (by
      rcases h with ⟨h1, h2⟩ | ⟨h1, h2, h3⟩
      · exact Or.inl ⟨h1, fun q => up (h2 q)⟩
      · exact Or.inr ⟨h1, h2, fun q => h3 (dn no q)⟩)
    by_cases z : m.testBit i = true
    · refine br_t ((xi_m1 (by omega)).mpr z) (yw_isTrue hn ha (by omega) (fun tr => br_f (by decide) (nm_r (nI_1 i) (yw_isModel_27 hn ha hm hJ h0 d (i + 1) 1 (by omega) (Or.inl ⟨rfl, fun _ => ⟨i, by omega, z, tr⟩⟩)))) (fun nt => br_t rfl (nm_r (nI_1 i) (same (fun q => nt q.2)))))
    · exact br_f (fun w => z ((xi_m1 (by omega)).mp w)) (nm_r (nI_1 i) (same (fun q => z q.1)))
theorem yw_isModel_2 {post : Int32 → Prop} (hn : n ≤ 4) {a : Nat} (ha : a < 2 ^ 31) (h1 : xm_M n (yw_H he) a → post 1) (h0 : ¬ xm_M n (yw_H he) a → post 0) : ∀ d i, i + d = 256 → (∀ m, m < i → yw_H he m → ∃ l, l < 2 * n ∧ m.testBit l = true ∧ sy_tr n a l) → wY_isModel_2 post (nI a) (nI n) mc mp an sz he gp pd dr (d + 1) (nI i)
  | 0, i, e, h => br_t (nI_le (a := 256) (by omega) (by omega)) (h1 (fun m hm => h m (by have := hm.1; omega) hm))
  | d + 1, i, e, h => by
    refine br_f (nI_ge (a := i) (b := 256) (by omega) (by omega)) ⟨vp_in_nI (by omega) (by decide), ?_⟩
    rw [nI_clamp (n := i) (by omega)]
    have hJ : (yw_H he i → ∃ l, l < 2 * n ∧ i.testBit l = true ∧ sy_tr n a l) → wY_isModel_2 post (nI a) (nI n) mc mp an sz he gp pd dr (d + 1) (nI (i + 1)) := fun q => yw_isModel_2 hn ha h1 h0 d (i + 1) (by omega) (fun m hm hh => by
      by_cases w : m = i
      · rw [w] at hh ⊢; exact q hh
      · exact h m (by omega) hh)
    have hz : (yw_H he i ∧ ¬ ∃ l, l < 2 * n ∧ i.testBit l = true ∧ sy_tr n a l) → post 0 := fun q => h0 (fun c => q.2 (c i q.1))
    by_cases z : he i = 0
    · exact br_t z ⟨2 * n + 1, yw_isModel_27 hn ha (by omega) hJ hz (2 * n) 0 1 (by omega) (Or.inl ⟨rfl, fun q => absurd z q.2⟩)⟩
    · exact br_f z ⟨2 * n + 1, yw_isModel_27 hn ha (by omega) hJ hz (2 * n) 0 0 (by omega) (Or.inr ⟨rfl, ⟨by omega, z⟩, fun ⟨l, l1, _⟩ => absurd l1 (Nat.not_lt_zero _)⟩)⟩
theorem yw_isModel {post : Int32 → Prop} (hn : n ≤ 4) {a : Nat} (ha : a < 2 ^ 31) (h1 : xm_M n (yw_H he) a → post 1) (h0 : ¬ xm_M n (yw_H he) a → post 0) : wpY_isModel post ((nI n), mc, mp, an, sz, he, gp, pd, dr) (nI a) :=
  ⟨257, yw_isModel_2 hn ha h1 h0 256 0 rfl (fun m hm => by omega)⟩
theorem yw_isOfKind_18 {post : Int32 → Prop} (hn : n ≤ 4) {H : Nat → Prop} (hG : yw_Gr n H sz gp) {kd a : Nat} (hk0 : kd ≠ 0) (hk2 : kd ≤ 2) (ha : a < 2 ^ n) (h1 : xm_K n H (yw_P pd) kd a → post 1) (h0 : ¬ xm_K n H (yw_P pd) kd a → post 0) : ∀ d i, i + d = cn_c (sy_C n H) (8 ^ n) → (∀ q, q < 8 ^ n → sy_C n H q → cn_c (sy_C n H) q < i → (kd = 2 ∨ yw_P pd (cn_c (sy_C n H) q)) → ∀ b, sy_A n (sy_dg n q) a b → a ≤ b) → wY_isOfKind_18 post (nI kd) (nI a) (nI n) mc mp an sz he gp pd dr (d + 1) (nI i)
  | 0, i, e, h => by
    have s := hG.2.2
    unfold wY_isOfKind_18
    rw [hG.1]
    exact br_t (nI_le (by omega) (by omega)) (h1 (Or.inr (fun q q1 q2 => h q q1 q2 (by have := cn_lt q1 q2; omega))))
  | d + 1, i, e, h => by
    have s := hG.2.2
    have p4 := xi_p4096 hn
    have h16 := xi_p16 hn
    obtain ⟨q, q1, q2, q3, q4⟩ := yw_Gi hG.2.1 (i := i) (by omega)
    have ih : (∀ b, (kd = 2 ∨ yw_P pd i) → sy_A n (sy_dg n q) a b → a ≤ b) → wY_isOfKind_18 post (nI kd) (nI a) (nI n) mc mp an sz he gp pd dr (d + 1) (nI (i + 1)) := fun hb => yw_isOfKind_18 hn hG hk0 hk2 ha h1 h0 d (i + 1) (by omega) (fun q' a1 a2 a3 a4 b => by
      by_cases w : cn_c (sy_C n H) q' = i
      · have e2 := cn_uniq a2 q2 (w.trans q3.symm)
        rw [w] at a4
        rw [e2]
        exact hb b a4
      · exact h q' a1 a2 (by omega) a4 b)
    have body : (kd = 2 ∨ yw_P pd i) → wY_isOfKind_40 post (wY_isOfKind_18 post (nI kd) (nI a) (nI n) mc mp an sz he gp pd dr (d + 1)) (nI kd) (nI a) (nI i) (nI n) mc mp an sz he gp pd dr := fun hc => by
      unfold wY_isOfKind_40
      rw [nI_clamp (n := i) (by omega), q4]
      refine ⟨vp_in_nI (by omega) (by decide), yw_sendAssignment hn (by omega) (by omega) q2.1 (fun b hb => ?_)⟩
      have bl := hb.1
      rcases Nat.lt_or_ge b a with z | z
      · refine br_f (nI_ge z (by omega)) (h0 (fun c => ?_))
        rcases c with c | c
        · exact hk0 c
        · have := c q q1 q2 (by rw [q3]; exact hc) b hb
          omega
      · exact br_t (nI_le z (by omega)) (nm_r (nI_1 i) (ih (fun b' _ hb' => by rw [sy_A_uniq q2.1 hb' hb]; exact z)))
    unfold wY_isOfKind_18
    rw [hG.1] at ih body ⊢
    refine br_f (nI_ge (a := i) (by omega) (by omega)) ?_
    by_cases z : kd = 2
    · exact br_t (by rw [z]; rfl) (body (Or.inl z))
    · refine br_f (fun w => z ((nI_eq (b := 2) (by omega) (by decide)).mp w)) ⟨vp_in_nI (by omega) (by decide), ?_⟩
      rw [nI_clamp (n := i) (by omega)]
      by_cases y : pd i = 0
      · exact br_t y (nm_r (nI_1 i) (ih (fun b hc => hc.elim (fun w => absurd w z) (fun w => absurd y w.2))))
      · exact br_f y (body (Or.inr ⟨by omega, y⟩))
theorem yw_isOfKind {post : Int32 → Prop} (hn : n ≤ 4) {kd a : Nat} (hk2 : kd ≤ 2) (hG : kd ≠ 0 → yw_Gr n (yw_H he) sz gp) (ha : a < 2 ^ n) (h1 : (xm_M n (yw_H he) a ∧ xm_K n (yw_H he) (yw_P pd) kd a) → post 1) (h0 : ¬ (xm_M n (yw_H he) a ∧ xm_K n (yw_H he) (yw_P pd) kd a) → post 0) : wpY_isOfKind post ((nI n), mc, mp, an, sz, he, gp, pd, dr) (nI kd) (nI a) := by
  have h16 := xi_p16 hn
  unfold wpY_isOfKind
  dsimp only
  refine yw_isModel hn (by omega) (fun m => br_f (by decide) ?_) (fun m => br_t rfl (h0 (fun c => m c.1)))
  by_cases z : kd = 0
  · exact br_t (by rw [z]; rfl) (h1 ⟨m, Or.inl z⟩)
  · exact br_f (nI_ne0 (by omega) (by omega)) ⟨cn_c (sy_C n (yw_H he)) (8 ^ n) + 1, yw_isOfKind_18 hn (hG z) z hk2 ha (fun c => h1 ⟨m, c⟩) (fun c => h0 (fun w => c w.2)) _ 0 (Nat.zero_add _) (fun q _ _ w => absurd w (Nat.not_lt_zero _))⟩
theorem yw_analyse_19 {post : Int32 → SY → Prop} (hn : n ≤ 4) (hz : cn_c (sy_C n (yw_H he)) (8 ^ n) ≤ 384) (hp : ∀ gp', cn_E (sy_C n (yw_H he)) (8 ^ n) gp' → post (nI (cn_c (sy_C n (yw_H he)) (8 ^ n))) ((nI n), mc, mp, 1, (nI (cn_c (sy_C n (yw_H he)) (8 ^ n))), he, gp', pd, dr)) : ∀ (d i : Nat) (gp : Nat → Int32), i + d = 8 ^ n → cn_E (sy_C n (yw_H he)) i gp → wY_analyse_19 post (nI n) mc mp an (d + 1) (nI i) (nI (cn_c (sy_C n (yw_H he)) i)) he gp pd dr
  | 0, i, gp, e, h => by
    have p4 := xi_p4096 hn
    unfold wY_analyse_19
    rw [xi_pow8 n (by omega)]
    have e : i = 8 ^ n := by omega
    subst e
    exact br_t (nI_le (Nat.le_refl _) (by omega)) (hp gp h)
  | d + 1, i, gp, e, h => by
    have p4 := xi_p4096 hn
    have le : cn_c (sy_C n (yw_H he)) i ≤ cn_c (sy_C n (yw_H he)) (8 ^ n) := cn_le (by omega)
    unfold wY_analyse_19
    rw [xi_pow8 n (by omega)]
    refine br_f (nI_ge (a := i) (by omega) (by omega)) ?_
    have skip : ¬ sy_C n (yw_H he) i → wY_analyse_19 post (nI n) mc mp an (d + 1) (nI (i + 1)) (nI (cn_c (sy_C n (yw_H he)) i)) he gp pd dr := fun no => by
      have ih := yw_analyse_19 hn hz hp d (i + 1) gp (by omega) (fun q hq hc => by
        by_cases w : q = i
        · rw [w] at hc; exact absurd hc no
        · exact h q (by omega) hc)
      rw [cn_sf (P := sy_C n (yw_H he)) no] at ih
      exact ih
    rcases Nat.lt_or_ge (cn_c (sy_C n (yw_H he)) i) 384 with z | z
    · refine br_f (nI_ge (b := 384) z (by decide)) (yw_isSymmetry hn (by omega) (fun c => br_f (by decide) ⟨vp_in_nI z (by decide), ?_⟩) (fun c => br_t rfl (nm_r (nI_1 i) (skip c))))
      rw [nI_clamp (by omega)]
      have ih := yw_analyse_19 hn hz hp d (i + 1) (upd gp (cn_c (sy_C n (yw_H he)) i) (nI i)) (by omega) (fun q hq hc => by
        by_cases w : q = i
        · rw [w, xi_uself]
        · have := cn_lt (show q < i by omega) hc
          rw [xi_upd (by omega)]
          exact h q (by omega) hc)
      rw [cn_st (P := sy_C n (yw_H he)) c] at ih
      exact nm_e (nm_r (nI_1 _) (nm_r (nI_1 i) ih))
    · refine br_t (nI_le (a := 384) z (by omega)) (nm_r (nI_1 i) (skip (fun c => ?_)))
      have := cn_lt (show i < 8 ^ n by omega) c
      omega
theorem yw_analyse {post : Int32 → SY → Prop} (hn : n ≤ 4) (hz : cn_c (sy_C n (yw_H he)) (8 ^ n) ≤ 384) (hp : ∀ gp', cn_E (sy_C n (yw_H he)) (8 ^ n) gp' → post (nI (cn_c (sy_C n (yw_H he)) (8 ^ n))) ((nI n), mc, mp, 1, (nI (cn_c (sy_C n (yw_H he)) (8 ^ n))), he, gp', pd, dr)) : wpY_analyse post ((nI n), mc, mp, 0, sz, he, gp, pd, dr) :=
  br_t rfl ⟨8 ^ n + 1, yw_analyse_19 (an := 0) hn hz hp (8 ^ n) 0 gp (by omega) (fun q hq => by omega)⟩
theorem yw_order_28 {post : Int32 → Prop} (hn : n ≤ 4) {H : Nat → Prop} (hG : yw_Gr n H sz gp) {k : Nat} (hk : k ≤ n) (hp : post (nI (sy_z n H k))) : ∀ d i, i + d = cn_c (sy_C n H) (8 ^ n) → wY_order_28 post (nI k) (nI n) mc mp an sz he gp pd dr (d + 1) (nI (cn_c (fun r => ∃ q, q < 8 ^ n ∧ sy_C n H q ∧ cn_c (sy_C n H) q = r ∧ ∀ v, v < k → sy_dg n q v = 2 * v) i)) (nI i)
  | 0, i, e => by
    have s := hG.2.2
    unfold wY_order_28
    rw [hG.1]
    refine br_t (nI_le (by omega) (by omega)) ?_
    rw [show i = cn_c (sy_C n H) (8 ^ n) from by omega, cn_idx (X := fun q => ∀ v, v < k → sy_dg n q v = 2 * v)]
    exact hp
  | d + 1, i, e => by
    have s := hG.2.2
    have p4 := xi_p4096 hn
    obtain ⟨q, q1, q2, q3, q4⟩ := yw_Gi hG.2.1 (i := i) (by omega)
    have ih := yw_order_28 hn hG hk hp d (i + 1) (by omega)
    unfold wY_order_28
    rw [hG.1] at ih ⊢
    refine br_f (nI_ge (a := i) (by omega) (by omega)) ⟨vp_in_nI (by omega) (by decide), ?_⟩
    rw [nI_clamp (n := i) (by omega), q4]
    refine yw_fixes hn (by omega) hk (fun f => br_f (by decide) (nm_r (nI_1 _) (nm_r (nI_1 i) ?_))) (fun f => br_t rfl (nm_r (nI_1 i) ?_))
    · rw [cn_st (P := fun r => ∃ q, q < 8 ^ n ∧ sy_C n H q ∧ cn_c (sy_C n H) q = r ∧ ∀ v, v < k → sy_dg n q v = 2 * v) ⟨q, q1, q2, q3, f⟩] at ih
      exact ih
    · rw [cn_sf (P := fun r => ∃ q, q < 8 ^ n ∧ sy_C n H q ∧ cn_c (sy_C n H) q = r ∧ ∀ v, v < k → sy_dg n q v = 2 * v) (fun ⟨q', _, a2, a3, a4⟩ => f (by rw [← cn_uniq a2 q2 (a3.trans q3.symm)]; exact a4))] at ih
      exact ih
theorem yw_orbit_37 {post : Int32 → Prop} (hn : n ≤ 4) {H : Nat → Prop} (hG : yw_Gr n H sz gp) {k l : Nat} (hk : k ≤ n) (hl : l < 2 * n) (hp : ∀ r, (∀ j, j < 32 → (bt r j = true ↔ sy_O n H k l j)) → post r) : ∀ (d i : Nat) (x : Int32), i + d = cn_c (sy_C n H) (8 ^ n) → (∀ j, j < 32 → (bt x j = true ↔ ∃ q, q < 8 ^ n ∧ sy_C n H q ∧ cn_c (sy_C n H) q < i ∧ (∀ v, v < k → sy_dg n q v = 2 * v) ∧ sy_ap (sy_dg n q) l = j)) → wY_orbit_37 post (nI k) (nI l) (nI n) mc mp an sz he gp pd dr (d + 1) x (nI i)
  | 0, i, x, e, h => by
    have s := hG.2.2
    unfold wY_orbit_37
    rw [hG.1]
    refine br_t (nI_le (by omega) (by omega)) (hp x (fun j hj => ?_))
    rw [h j hj]
    constructor
    · rintro ⟨q, a1, a2, a3, a4, a5⟩
      exact ⟨sy_dg n q, ⟨a2, a4⟩, a5⟩
    · rintro ⟨t, ht, et⟩
      obtain ⟨c1, c2, c3⟩ := sy_C_cr hn ht.1
      refine ⟨sy_cr t n, c1, c2, by have := cn_lt c1 c2; omega, fun v hv => by rw [c3 v (by omega)]; exact ht.2 v hv, ?_⟩
      rw [sy_ap_ext c3 hl]; exact et
  | d + 1, i, x, e, h => by
    have s := hG.2.2
    have p4 := xi_p4096 hn
    obtain ⟨q, q1, q2, q3, q4⟩ := yw_Gi hG.2.1 (i := i) (by omega)
    have ih := fun y => yw_orbit_37 hn hG hk hl hp d (i + 1) y (by omega)
    unfold wY_orbit_37
    rw [hG.1] at ih ⊢
    have vi : vp_in (nI i) 384 := vp_in_nI (by omega) (by decide)
    refine br_f (nI_ge (a := i) (by omega) (by omega)) ⟨vi, ?_⟩
    rw [nI_clamp (n := i) (by omega), q4]
    refine yw_fixes hn (by omega) hk (fun f => br_f (by decide) ⟨vi, yw_send hn (by omega) hl (nm_e (nm_r (nI_1 i) (ih _ (fun j hj => ?_))))⟩) (fun f => br_t rfl (nm_r (nI_1 i) (ih x (fun j hj => ?_))))
    · have al := sy_ap_lt q2.1.1 hl
      rw [b_or, Bool.or_eq_true, h j hj, xi_one _ (by omega) j hj, decide_eq_true_eq]
      constructor
      · rintro (⟨q', a1, a2, a3, a4⟩ | w)
        · exact ⟨q', a1, a2, by omega, a4⟩
        · exact ⟨q, q1, q2, by omega, f, w.symm⟩
      · rintro ⟨q', a1, a2, a3, a4, a5⟩
        by_cases w : cn_c (sy_C n H) q' = i
        · rw [cn_uniq a2 q2 (w.trans q3.symm)] at a5
          exact Or.inr a5.symm
        · exact Or.inl ⟨q', a1, a2, by omega, a4, a5⟩
    · rw [h j hj]
      constructor
      · rintro ⟨q', a1, a2, a3, a4⟩
        exact ⟨q', a1, a2, by omega, a4⟩
      · rintro ⟨q', a1, a2, a3, a4, a5⟩
        by_cases w : cn_c (sy_C n H) q' = i
        · rw [cn_uniq a2 q2 (w.trans q3.symm)] at a4
          exact absurd a4 f
        · exact ⟨q', a1, a2, by omega, a4, a5⟩
theorem yw_leader_30 {post : Int32 → Prop} (hn : n ≤ 4) {H : Nat → Prop} (hH : sy_H n H) (hG : yw_Gr n H sz gp) {a : Nat} (ha : a < 2 ^ n) (hp : ∀ b, sy_L n H a b → post (nI b)) : ∀ (d i x : Nat), i + d = cn_c (sy_C n H) (8 ^ n) → sy_Q n H a x → (∀ q, q < 8 ^ n → sy_C n H q → cn_c (sy_C n H) q < i → ∀ b, sy_A n (sy_dg n q) a b → x ≤ b) → wY_leader_30 post (nI a) (nI n) mc mp an sz he gp pd dr (d + 1) (nI x) (nI i)
  | 0, i, x, e, h1, h2 => by
    have s := hG.2.2
    unfold wY_leader_30
    rw [hG.1]
    refine br_t (nI_le (by omega) (by omega)) (hp x ⟨h1, fun b hb => ?_⟩)
    obtain ⟨t, ht, et⟩ := hb
    obtain ⟨c1, c2, c3⟩ := sy_C_cr hn ht
    exact h2 _ c1 c2 (by have := cn_lt c1 c2; omega) b (sy_A_ext (fun v hv => (c3 v hv).symm) et)
  | d + 1, i, x, e, h1, h2 => by
    have s := hG.2.2
    have p4 := xi_p4096 hn
    have h16 := xi_p16 hn
    have xl := sy_Q_lt h1
    obtain ⟨q, q1, q2, q3, q4⟩ := yw_Gi hG.2.1 (i := i) (by omega)
    have ih := fun y => yw_leader_30 hn hH hG ha hp d (i + 1) y (by omega)
    unfold wY_leader_30
    rw [hG.1] at ih ⊢
    refine br_f (nI_ge (a := i) (by omega) (by omega)) ⟨vp_in_nI (by omega) (by decide), ?_⟩
    rw [nI_clamp (n := i) (by omega), q4]
    refine yw_sendAssignment hn (by omega) (by omega) q2.1 (fun b hb => ?_)
    have bl := hb.1
    rcases Nat.lt_or_ge b x with z | z
    · refine br_f (nI_ge z (by omega)) (nm_r (nI_1 i) (ih b ⟨_, q2, hb⟩ (fun q' a1 a2 a3 b' hb' => ?_)))
      by_cases w : cn_c (sy_C n H) q' = i
      · rw [cn_uniq a2 q2 (w.trans q3.symm)] at hb'
        rw [sy_A_uniq q2.1 hb' hb]
        exact Nat.le_refl _
      · have := h2 q' a1 a2 (by omega) b' hb'
        omega
    · refine br_t (nI_le z (by omega)) (nm_r (nI_1 i) (ih x h1 (fun q' a1 a2 a3 b' hb' => ?_)))
      by_cases w : cn_c (sy_C n H) q' = i
      · rw [cn_uniq a2 q2 (w.trans q3.symm)] at hb'
        rw [sy_A_uniq q2.1 hb' hb]
        exact z
      · exact h2 q' a1 a2 (by omega) b' hb'
theorem yw_clause_4 {post : Int32 → Prop} {x : Int32} (h1 : ∀ m, m < 256 → yw_H he m → x = nI (cn_c (yw_H he) m) → post (nI m)) (h0 : (∀ m, m < 256 → yw_H he m → ¬ x = nI (cn_c (yw_H he) m)) → post (-5)) : ∀ d i, i + d = 256 → (∀ m, m < i → yw_H he m → ¬ x = nI (cn_c (yw_H he) m)) → wY_clause_4 post x (nI n) mc mp an sz he gp pd dr (d + 1) (nI (cn_c (yw_H he) i)) (nI i)
  | 0, i, e, h => br_t (nI_le (a := 256) (by omega) (by omega)) (h0 (fun m hm => h m (by omega)))
  | d + 1, i, e, h => by
    refine br_f (nI_ge (a := i) (b := 256) (by omega) (by omega)) ⟨vp_in_nI (by omega) (by decide), ?_⟩
    rw [nI_clamp (n := i) (by omega)]
    have ih := yw_clause_4 h1 h0 d (i + 1) (by omega)
    by_cases z : he i = 0
    · have no : ¬ yw_H he i := fun w => w.2 z
      rw [cn_sf no] at ih
      refine br_t z (nm_r (nI_1 i) (ih (fun m hm hh => ?_)))
      by_cases w : m = i
      · rw [w] at hh; exact absurd hh no
      · exact h m (by omega) hh
    · have yes : yw_H he i := ⟨by omega, z⟩
      rw [cn_st yes] at ih
      refine br_f z ?_
      by_cases y : nI (cn_c (yw_H he) i) = x
      · exact br_t y (h1 i (by omega) yes y.symm)
      · refine br_f y (nm_r (nI_1 _) (nm_r (nI_1 i) (ih (fun m hm hh => ?_))))
        by_cases w : m = i
        · rw [w]; exact fun q => y q.symm
        · exact h m (by omega) hh
theorem yw_clause {post : Int32 → Prop} {x : Int32} (h1 : ∀ m, m < 256 → yw_H he m → x = nI (cn_c (yw_H he) m) → post (nI m)) (h0 : (∀ m, m < 256 → yw_H he m → ¬ x = nI (cn_c (yw_H he) m)) → post (-5)) : wpY_clause post ((nI n), mc, mp, an, sz, he, gp, pd, dr) x :=
  ⟨257, yw_clause_4 h1 h0 256 0 rfl (fun m hm => by omega)⟩
theorem yw_chosen_14 {post : Int32 → Prop} {x : Int32} {s : Nat} (hs : s ≤ 384) (h1 : ∀ r, r < s → yw_P pd r → x = nI (cn_c (yw_P pd) r) → post (nI r)) (h0 : (∀ r, r < s → yw_P pd r → ¬ x = nI (cn_c (yw_P pd) r)) → post (-5)) : ∀ d i, i + d = s → (∀ r, r < i → yw_P pd r → ¬ x = nI (cn_c (yw_P pd) r)) → wY_chosen_14 post x (nI n) mc mp an (nI s) he gp pd dr (d + 1) (nI (cn_c (yw_P pd) i)) (nI i)
  | 0, i, e, h => br_t (nI_le (by omega) (by omega)) (h0 (fun r hr => h r (by omega)))
  | d + 1, i, e, h => by
    refine br_f (nI_ge (a := i) (b := s) (by omega) (by omega)) ⟨vp_in_nI (by omega) (by decide), ?_⟩
    rw [nI_clamp (n := i) (by omega)]
    have ih := yw_chosen_14 hs h1 h0 d (i + 1) (by omega)
    by_cases z : pd i = 0
    · have no : ¬ yw_P pd i := fun w => w.2 z
      rw [cn_sf no] at ih
      refine br_t z (nm_r (nI_1 i) (ih (fun m hm hh => ?_)))
      by_cases w : m = i
      · rw [w] at hh; exact absurd hh no
      · exact h m (by omega) hh
    · have yes : yw_P pd i := ⟨by omega, z⟩
      rw [cn_st yes] at ih
      refine br_f z ?_
      by_cases y : nI (cn_c (yw_P pd) i) = x
      · exact br_t y (h1 i (by omega) yes y.symm)
      · refine br_f y (nm_r (nI_1 _) (nm_r (nI_1 i) (ih (fun m hm hh => ?_))))
        by_cases w : m = i
        · rw [w]; exact fun q => y q.symm
        · exact h m (by omega) hh
def yw_S (n : Nat) (he pd : Nat → Int32) (kd a : Nat) : Prop := xm_M n (yw_H he) a ∧ xm_K n (yw_H he) (yw_P pd) kd a
theorem yw_models_34 {post : Int32 → Prop} (hn : n ≤ 4) {kd : Nat} (hk2 : kd ≤ 2) (hG : kd ≠ 0 → yw_Gr n (yw_H he) sz gp) (hp : post (nI (cn_c (yw_S n he pd kd) (2 ^ n)))) : ∀ d i, i + d = 2 ^ n → wY_models_34 post (nI kd) (nI n) mc mp an sz he gp pd dr (d + 1) (nI (cn_c (yw_S n he pd kd) i)) (nI i)
  | 0, i, e => by
    have h16 := xi_p16 hn
    unfold wY_models_34
    rw [xi_pow hn]
    refine br_t (nI_le (by omega) (by omega)) ?_
    rw [show i = 2 ^ n from by omega]; exact hp
  | d + 1, i, e => by
    have h16 := xi_p16 hn
    have ih := yw_models_34 hn hk2 hG hp d (i + 1) (by omega)
    unfold wY_models_34
    rw [xi_pow hn]
    refine br_f (nI_ge (a := i) (by omega) (by omega)) (yw_isOfKind hn hk2 hG (by omega) (fun y => br_f (by decide) (nm_r (nI_1 _) (nm_r (nI_1 i) ?_))) (fun y => br_t rfl (nm_r (nI_1 i) ?_)))
    · rw [cn_st (P := yw_S n he pd kd) y] at ih
      exact ih
    · rw [cn_sf (P := yw_S n he pd kd) y] at ih
      exact ih
theorem yw_model_35 {post : Int32 → Prop} (hn : n ≤ 4) {kd : Nat} (hk2 : kd ≤ 2) (hG : kd ≠ 0 → yw_Gr n (yw_H he) sz gp) {x : Int32} (h1 : ∀ a, a < 2 ^ n → yw_S n he pd kd a → x = nI (cn_c (yw_S n he pd kd) a) → post (nI a)) (h0 : (∀ a, a < 2 ^ n → yw_S n he pd kd a → ¬ x = nI (cn_c (yw_S n he pd kd) a)) → post (-5)) : ∀ d i, i + d = 2 ^ n → (∀ a, a < i → yw_S n he pd kd a → ¬ x = nI (cn_c (yw_S n he pd kd) a)) → wY_model_35 post (nI kd) x (nI n) mc mp an sz he gp pd dr (d + 1) (nI (cn_c (yw_S n he pd kd) i)) (nI i)
  | 0, i, e, h => by
    have h16 := xi_p16 hn
    unfold wY_model_35
    rw [xi_pow hn]
    exact br_t (nI_le (by omega) (by omega)) (h0 (fun a ha => h a (by omega)))
  | d + 1, i, e, h => by
    have h16 := xi_p16 hn
    have ih := yw_model_35 hn hk2 hG h1 h0 d (i + 1) (by omega)
    unfold wY_model_35
    rw [xi_pow hn]
    refine br_f (nI_ge (a := i) (by omega) (by omega)) (yw_isOfKind hn hk2 hG (by omega) (fun y => br_f (by decide) ?_) (fun y => br_t rfl (nm_r (nI_1 i) ?_)))
    · rw [cn_st (P := yw_S n he pd kd) y] at ih
      by_cases z : nI (cn_c (yw_S n he pd kd) i) = x
      · exact br_t z (h1 i (by omega) y z.symm)
      · refine br_f z (nm_r (nI_1 _) (nm_r (nI_1 i) (ih (fun m hm hh => ?_))))
        by_cases w : m = i
        · rw [w]; exact fun q => z q.symm
        · exact h m (by omega) hh
    · rw [cn_sf (P := yw_S n he pd kd) y] at ih
      refine ih (fun m hm hh => ?_)
      by_cases w : m = i
      · rw [w] at hh; exact absurd hh y
      · exact h m (by omega) hh
end
end
section
/-! the relation; lists that grow and shrink -/
def rl_F (n cc c0 p0 p : Nat) (an sz : Int32) (pe ma pi si ob tu le he gp pd dr : Nat → Int32) : Prop :=
  1 ≤ n ∧ n ≤ 4 ∧ c0 ≤ 12 ∧ p0 ≤ 8 ∧ (an = 0 ∨ an = 1) ∧ sy_H n (yw_H he) ∧ xw_M (yw_H he) cc ma ∧ cc ≤ c0 ∧ p = cn_c (yw_P pd) 384 ∧ p ≤ p0 ∧ cn_E (yw_P pd) 384 pi ∧
  (∃ d : Nat → Nat, ∀ v, v < n → d v < 2 * n ∧ pe v = nI (d v) ∧ dr v = nI (d v)) ∧ xm_T n tu ∧
  (an = 1 → xa_N n (yw_H he) pe si ob le ∧ yw_Gr n (yw_H he) sz gp ∧ ∀ r, yw_P pd r → r < sy_z n (yw_H he) 0) ∧ (an = 0 → ∀ r, ¬ yw_P pd r)
/-- one state for both -/
def i_Rel (k : Nat) (u : SX) (v : SY) : Prop := match u, v with
  | (f1, f2, f3, f4, _, _, _, _, _, f10, f11, f12, _, _, _, pe, ma, pi, si, ob, _, _, _, tu, le), (g1, g2, g3, g4, g5, he, gp, pd, dr) =>
    ∃ n cc c0 p0 p : Nat, f1 = nI n ∧ f2 = nI (2 * n) ∧ f3 = nI c0 ∧ f4 = nI p0 ∧ f10 = nI cc ∧ f12 = nI p ∧ g1 = nI n ∧ g2 = nI c0 ∧ g3 = nI p0 ∧ g4 = f11 ∧ rl_F n cc c0 p0 p f11 g5 pe ma pi si ob tu le he gp pd dr
theorem i_up {k : Nat} {u : SX} {v : SY} (h : i_Rel k u v) : i_Rel (k + 4) u v := h
section
variable {n cc c0 p0 p : Nat} {d1 d2 d3 d4 d5 an gc ql re sz : Int32} {pe ma pi si ob co fr qu tu le he gp pd dr : Nat → Int32}
theorem rl_in {k : Nat} (h : rl_F n cc c0 p0 p an sz pe ma pi si ob tu le he gp pd dr) : i_Rel k ((nI n), (nI (2 * n)), (nI c0), (nI p0), d1, d2, d3, d4, d5, (nI cc), an, (nI p), gc, ql, re, pe, ma, pi, si, ob, co, fr, qu, tu, le) ((nI n), (nI c0), (nI p0), an, sz, he, gp, pd, dr) :=
  ⟨n, cc, c0, p0, p, rfl, rfl, rfl, rfl, rfl, rfl, rfl, rfl, rfl, rfl, h⟩
end
theorem rl_el {P : SX → SY → Prop} (h : ∀ (n cc c0 p0 p : Nat) (d1 d2 d3 d4 d5 an gc ql re sz : Int32) (pe ma pi si ob co fr qu tu le he gp pd dr : Nat → Int32), rl_F n cc c0 p0 p an sz pe ma pi si ob tu le he gp pd dr → P ((nI n), (nI (2 * n)), (nI c0), (nI p0), d1, d2, d3, d4, d5, (nI cc), an, (nI p), gc, ql, re, pe, ma, pi, si, ob, co, fr, qu, tu, le) ((nI n), (nI c0), (nI p0), an, sz, he, gp, pd, dr)) {k : Nat} {u : SX} {v : SY} (I : i_Rel k u v) : P u v := by
  obtain ⟨f1, f2, f3, f4, f5, f6, f7, f8, f9, f10, f11, f12, f13, f14, f15, pe, ma, pi, si, ob, co, fr, qu, tu, le⟩ := u
  obtain ⟨g1, g2, g3, g4, g5, he, gp, pd, dr⟩ := v
  obtain ⟨n, cc, c0, p0, p, e1, e2, e3, e4, e5, e6, e7, e8, e9, e10, F⟩ := I
  subst e1 e2 e3 e4 e5 e6 e7 e8 e9 e10
  exact h n cc c0 p0 p f5 f6 f7 f8 f9 g4 f13 f14 f15 g5 pe ma pi si ob co fr qu tu le he gp pd dr F
theorem rl_H1 {he : Nat → Int32} {m : Nat} (hm : m < 256) : yw_H (upd he m 1) = fun k => yw_H he k ∨ k = m := by
  funext k
  apply propext
  unfold yw_H
  by_cases z : k = m
  · rw [z, xi_uself]
    exact ⟨fun _ => Or.inr rfl, fun _ => ⟨hm, by decide⟩⟩
  · rw [xi_upd z]
    exact ⟨Or.inl, fun w => w.elim id (fun e => absurd e z)⟩
theorem rl_H0 {he : Nat → Int32} {m : Nat} : yw_H (upd he m 0) = fun k => yw_H he k ∧ k ≠ m := by
  funext k
  apply propext
  unfold yw_H
  by_cases z : k = m
  · rw [z, xi_uself]
    exact ⟨fun w => absurd rfl w.2, fun w => absurd rfl w.2⟩
  · rw [xi_upd z]
    exact ⟨fun w => ⟨w, z⟩, fun w => w.1⟩
theorem rl_P1 {pd : Nat → Int32} {m : Nat} (hm : m < 384) : yw_P (upd pd m 1) = fun k => yw_P pd k ∨ k = m := by
  funext k
  apply propext
  unfold yw_P
  by_cases z : k = m
  · rw [z, xi_uself]
    exact ⟨fun _ => Or.inr rfl, fun _ => ⟨hm, by decide⟩⟩
  · rw [xi_upd z]
    exact ⟨Or.inl, fun w => w.elim id (fun e => absurd e z)⟩
theorem rl_P0 {pd : Nat → Int32} {m : Nat} : yw_P (upd pd m 0) = fun k => yw_P pd k ∧ k ≠ m := by
  funext k
  apply propext
  unfold yw_P
  by_cases z : k = m
  · rw [z, xi_uself]
    exact ⟨fun w => absurd rfl w.2, fun w => absurd rfl w.2⟩
  · rw [xi_upd z]
    exact ⟨fun w => ⟨w, z⟩, fun w => w.1⟩
theorem rl_ins {P : Nat → Prop} {N x : Nat} {a a' : Nat → Int32} (h : cn_E P N a) (hx : ¬ P x) (hN : x < N) (h1 : ∀ j, j < cn_c P x → a' j = a j) (h2 : a' (cn_c P x) = nI x) (h3 : ∀ j, cn_c P x < j → j ≤ cn_c P N → a' j = a (j - 1)) : cn_E (fun k => P k ∨ k = x) N a' := by
  intro m hm pm
  rcases Nat.lt_trichotomy m x with z | z | z
  · have p : P m := pm.elim id (fun e => by omega)
    rw [cn_lo (by omega), h1 _ (cn_lt z p)]
    exact h m hm p
  · rw [z, cn_lo (Nat.le_refl _)]
    exact h2
  · have p : P m := pm.elim id (fun e => by omega)
    have a1 : cn_c P x ≤ cn_c P m := cn_le (by omega)
    have a2 : cn_c P m < cn_c P N := cn_lt hm p
    rw [cn_hi hx z, h3 _ (by omega) (by omega), Nat.add_sub_cancel]
    exact h m hm p
theorem rl_del {P : Nat → Prop} {N x : Nat} {a a' : Nat → Int32} (h : cn_E P N a) (hx : P x) (h1 : ∀ j, j < cn_c P x → a' j = a j) (h3 : ∀ j, cn_c P x ≤ j → j + 1 < cn_c P N → a' j = a (j + 1)) : cn_E (fun k => P k ∧ k ≠ x) N a' := by
  intro m hm pm
  have p := pm.1
  rcases Nat.lt_trichotomy m x with z | z | z
  · rw [cn_dlo (by omega), h1 _ (cn_lt z p)]
    exact h m hm p
  · exact absurd z pm.2
  · have a1 : cn_c P x < cn_c P m := cn_lt z hx
    have a2 : cn_c P m < cn_c P N := cn_lt hm p
    have e := cn_dhi hx z
    rw [h3 _ (by omega) (by omega), ← e]
    exact h m hm p
section
variable {n cc : Nat} {mc mp d1 d2 d3 d4 d5 an pc gc ql re : Int32} {pe ma pi si ob co fr qu tu le : Nat → Int32}
theorem rl_addClause_56 {post : Int32 → SX → Prop} {m c : Nat} (h12 : cc < 12) (hc : c ≤ cc) {ma0 : Nat → Int32} (hp : ∀ ma', (∀ j, j < c → ma' j = ma0 j) → ma' c = nI m → (∀ j, c < j → j ≤ cc → ma' j = ma0 (j - 1)) → post (nI (cc + 1)) ((nI n), (nI (2 * n)), mc, mp, d1, d2, d3, d4, d5, (nI (cc + 1)), 0, 0, gc, ql, re, pe, ma', pi, si, ob, co, fr, qu, tu, le)) : ∀ (d i : Nat) (ma : Nat → Int32), i = c + d → i ≤ cc → (∀ j, j < i → ma j = ma0 j) → (∀ j, i < j → j ≤ cc → ma j = ma0 (j - 1)) → wX_addClause_56 post (nI m) (nI c) (nI n) (nI (2 * n)) mc mp d1 d2 d3 d4 d5 (nI cc) an pc gc ql re (d + 1) (nI i) pe ma pi si ob co fr qu tu le
  | 0, i, ma, e, hi, h1, h2 => by
    have e : i = c := by omega
    subst e
    refine br_t (nI_le (Nat.le_refl _) (by omega)) ⟨vp_in_nI (by omega) (by decide), nm_r (e' := upd ma i (nI m)) (by rw [nI_clamp (by omega)]) (nm_r (nI_1 cc) (hp (upd ma i (nI m)) (fun j hj => ?_) (xi_uself _ _ _) (fun j j1 j2 => ?_)))⟩
    · rw [xi_upd (by omega)]; exact h1 j hj
    · rw [xi_upd (by omega)]; exact h2 j j1 j2
  | d + 1, i, ma, e, hi, h1, h2 => by
    obtain ⟨i, rfl⟩ : ∃ i', i = i' + 1 := ⟨i - 1, by omega⟩
    refine br_f (nI_ge (a := c) (b := i + 1) (by omega) (by omega)) ?_
    rw [nI_pred, nI_clamp (n := i) (by omega), nI_clamp (n := i + 1) (by omega)]
    refine ⟨vp_in_nI (by omega) (by decide), vp_in_nI (by omega) (by decide), nm_e (nm_r (pk_m1 i) (rl_addClause_56 h12 hc hp d i (upd ma (i + 1) (ma i)) (by omega) (by omega) (fun j hj => ?_) (fun j j1 j2 => ?_)))⟩
    · rw [xi_upd (by omega)]; exact h1 j (by omega)
    · by_cases w : j = i + 1
      · rw [w, xi_uself, h1 i (by omega)]; rfl
      · rw [xi_upd w]; exact h2 j (by omega) j2
theorem rl_removeClause_46 {post : Int32 → SX → Prop} {c : Nat} (h12 : cc < 12) (hc : c ≤ cc) {ma0 : Nat → Int32} (hp : ∀ ma', (∀ j, j < c → ma' j = ma0 j) → (∀ j, c ≤ j → j < cc → ma' j = ma0 (j + 1)) → post (nI cc) ((nI n), (nI (2 * n)), mc, mp, d1, d2, d3, d4, d5, (nI cc), 0, 0, gc, ql, re, pe, ma', pi, si, ob, co, fr, qu, tu, le)) : ∀ (d i : Nat) (ma : Nat → Int32), i + d = cc → c ≤ i → (∀ j, j < c → ma j = ma0 j) → (∀ j, c ≤ j → j < i → ma j = ma0 (j + 1)) → (∀ j, i ≤ j → ma j = ma0 j) → wX_removeClause_46 post (nI n) (nI (2 * n)) mc mp d1 d2 d3 d4 d5 (nI cc) an pc gc ql re (d + 1) (nI i) pe ma pi si ob co fr qu tu le
  | 0, i, ma, e, hi, h0, h1, h2 => br_t (nI_le (by omega) (by omega)) (hp ma h0 (fun j j1 j2 => h1 j j1 (by omega)))
  | d + 1, i, ma, e, hi, h0, h1, h2 => by
    refine br_f (nI_ge (a := i) (b := cc) (by omega) (by omega)) ?_
    rw [nI_1, nI_clamp (n := i) (by omega), nI_clamp (n := i + 1) (by omega)]
    refine ⟨vp_in_nI (by omega) (by decide), vp_in_nI (by omega) (by decide), nm_e (nm_e (rl_removeClause_46 h12 hc hp d (i + 1) (upd ma i (ma (i + 1))) (by omega) (by omega) (fun j hj => ?_) (fun j j1 j2 => ?_) (fun j hj => ?_)))⟩
    · rw [xi_upd (by omega)]; exact h0 j hj
    · by_cases w : j = i
      · rw [w, xi_uself]; exact h2 _ (by omega)
      · rw [xi_upd w]; exact h1 j j1 (by omega)
    · rw [xi_upd (by omega)]; exact h2 j (by omega)
theorem rl_choose_57 {post : Int32 → SX → Prop} {m c p : Nat} (h8 : p < 8) (hc : c ≤ p) {pi0 : Nat → Int32} (hp : ∀ pi', (∀ j, j < c → pi' j = pi0 j) → pi' c = nI m → (∀ j, c < j → j ≤ p → pi' j = pi0 (j - 1)) → post (nI (p + 1)) ((nI n), (nI (2 * n)), mc, mp, d1, d2, d3, d4, d5, (nI cc), an, (nI (p + 1)), gc, ql, re, pe, ma, pi', si, ob, co, fr, qu, tu, le)) : ∀ (d i : Nat) (pi : Nat → Int32), i = c + d → i ≤ p → (∀ j, j < i → pi j = pi0 j) → (∀ j, i < j → j ≤ p → pi j = pi0 (j - 1)) → wX_choose_57 post (nI m) (nI c) (nI n) (nI (2 * n)) mc mp d1 d2 d3 d4 d5 (nI cc) an (nI p) gc ql re (d + 1) (nI i) pe ma pi si ob co fr qu tu le
  | 0, i, pi, e, hi, h1, h2 => by
    have e : i = c := by omega
    subst e
    refine br_t (nI_le (Nat.le_refl _) (by omega)) ⟨vp_in_nI (by omega) (by decide), nm_r (e' := upd pi i (nI m)) (by rw [nI_clamp (by omega)]) (nm_r (nI_1 p) (hp (upd pi i (nI m)) (fun j hj => ?_) (xi_uself _ _ _) (fun j j1 j2 => ?_)))⟩
    · rw [xi_upd (by omega)]; exact h1 j hj
    · rw [xi_upd (by omega)]; exact h2 j j1 j2
  | d + 1, i, pi, e, hi, h1, h2 => by
    obtain ⟨i, rfl⟩ : ∃ i', i = i' + 1 := ⟨i - 1, by omega⟩
    refine br_f (nI_ge (a := c) (b := i + 1) (by omega) (by omega)) ?_
    rw [nI_pred, nI_clamp (n := i) (by omega), nI_clamp (n := i + 1) (by omega)]
    refine ⟨vp_in_nI (by omega) (by decide), vp_in_nI (by omega) (by decide), nm_e (nm_r (pk_m1 i) (rl_choose_57 h8 hc hp d i (upd pi (i + 1) (pi i)) (by omega) (by omega) (fun j hj => ?_) (fun j j1 j2 => ?_)))⟩
    · rw [xi_upd (by omega)]; exact h1 j (by omega)
    · by_cases w : j = i + 1
      · rw [w, xi_uself, h1 i (by omega)]; rfl
      · rw [xi_upd w]; exact h2 j (by omega) j2
theorem rl_unchoose_50 {post : Int32 → SX → Prop} {c p : Nat} (h8 : p < 8) (hc : c ≤ p) {pi0 : Nat → Int32} (hp : ∀ pi', (∀ j, j < c → pi' j = pi0 j) → (∀ j, c ≤ j → j < p → pi' j = pi0 (j + 1)) → post (nI p) ((nI n), (nI (2 * n)), mc, mp, d1, d2, d3, d4, d5, (nI cc), an, (nI p), gc, ql, re, pe, ma, pi', si, ob, co, fr, qu, tu, le)) : ∀ (d i : Nat) (pi : Nat → Int32), i + d = p → c ≤ i → (∀ j, j < c → pi j = pi0 j) → (∀ j, c ≤ j → j < i → pi j = pi0 (j + 1)) → (∀ j, i ≤ j → pi j = pi0 j) → wX_unchoose_50 post (nI n) (nI (2 * n)) mc mp d1 d2 d3 d4 d5 (nI cc) an (nI p) gc ql re (d + 1) (nI i) pe ma pi si ob co fr qu tu le
  | 0, i, pi, e, hi, h0, h1, h2 => br_t (nI_le (by omega) (by omega)) (hp pi h0 (fun j j1 j2 => h1 j j1 (by omega)))
  | d + 1, i, pi, e, hi, h0, h1, h2 => by
    refine br_f (nI_ge (a := i) (b := p) (by omega) (by omega)) ?_
    rw [nI_1, nI_clamp (n := i) (by omega), nI_clamp (n := i + 1) (by omega)]
    refine ⟨vp_in_nI (by omega) (by decide), vp_in_nI (by omega) (by decide), nm_e (nm_e (rl_unchoose_50 h8 hc hp d (i + 1) (upd pi i (pi (i + 1))) (by omega) (by omega) (fun j hj => ?_) (fun j j1 j2 => ?_) (fun j hj => ?_)))⟩
    · rw [xi_upd (by omega)]; exact h0 j hj
    · by_cases w : j = i
      · rw [w, xi_uself]; exact h2 _ (by omega)
      · rw [xi_upd w]; exact h1 j j1 (by omega)
    · rw [xi_upd (by omega)]; exact h2 j (by omega)
theorem rl_pickPlace_4 {post : Int32 → Prop} {P : Nat → Prop} (hE : cn_E P 384 pi) {p : Nat} (h8 : p ≤ 8) (hpc : p = cn_c P 384) {m : Nat} (hm : m ≤ 384) (hp : post (nI (cn_c P m))) : ∀ d i, i + d = p → wX_pickPlace_4 post (nI m) (nI n) (nI (2 * n)) mc mp d1 d2 d3 d4 d5 (nI cc) an (nI p) gc ql re pe ma pi si ob co fr qu tu le (d + 1) (nI (min i (cn_c P m))) (nI i)
  | 0, i, e => by
    have le : cn_c P m ≤ cn_c P 384 := cn_le hm
    refine br_t (nI_le (by omega) (by omega)) ?_
    rw [show min i (cn_c P m) = cn_c P m from by omega]
    exact hp
  | d + 1, i, e => by
    have ih := rl_pickPlace_4 hE h8 hpc hm hp d (i + 1) (by omega)
    obtain ⟨m2, h1, h2, h3⟩ := cn_sur (P := P) (N := 384) (i := i) (by omega)
    have h4 : pi i = nI m2 := by rw [← h3]; exact hE m2 h1 h2
    refine br_f (nI_ge (a := i) (b := p) (by omega) (by omega)) ⟨vp_in_nI (by omega) (by decide), ?_⟩
    rw [nI_clamp (n := i) (by omega), h4]
    rcases Nat.lt_or_ge m2 m with z | z
    · have lt := cn_lt z h2
      refine br_f (nI_ge z (by omega)) (nm_r (e' := nI (min (i + 1) (cn_c P m))) ?_ (nm_r (nI_1 i) ih))
      rw [nI_1, show min i (cn_c P m) + 1 = min (i + 1) (cn_c P m) from by omega]
    · have le : cn_c P m ≤ cn_c P m2 := cn_le z
      refine br_t (nI_le z (by omega)) (nm_r (nI_1 i) ?_)
      rw [show min (i + 1) (cn_c P m) = min i (cn_c P m) from by omega] at ih
      exact ih
theorem rl_pickPlace {post : Int32 → Prop} {P : Nat → Prop} (hE : cn_E P 384 pi) {p : Nat} (h8 : p ≤ 8) (hpc : p = cn_c P 384) {m : Nat} (hm : m ≤ 384) (hp : post (nI (cn_c P m))) : wpX_pickPlace post ((nI n), (nI (2 * n)), mc, mp, d1, d2, d3, d4, d5, (nI cc), an, (nI p), gc, ql, re, pe, ma, pi, si, ob, co, fr, qu, tu, le) (nI m) := by
  have this : wX_pickPlace_4 post (nI m) (nI n) (nI (2 * n)) mc mp d1 d2 d3 d4 d5 (nI cc) an (nI p) gc ql re pe ma pi si ob co fr qu tu le (p + 1) (nI (min 0 (cn_c P m))) (nI 0) := rl_pickPlace_4 hE h8 hpc hm hp p 0 (by omega)
  rw [show min 0 (cn_c P m) = 0 from by omega] at this
  exact ⟨p + 1, this⟩
end
end
section
/-! the owed statements, first half -/
section
variable {n : Nat} {mc mp an sz : Int32} {he gp pd dr : Nat → Int32}
theorem yw_init_83 {post : SY → Prop} (hp : ∀ dr', (∀ v, v < 4 → dr' v = nI (2 * v)) → post ((nI n), mc, mp, an, sz, he, gp, pd, dr')) : ∀ (d i : Nat) (dr : Nat → Int32), i + d = 4 → (∀ v, v < i → dr v = nI (2 * v)) → wY_init_83 post (nI n) mc mp an sz (d + 1) (nI i) he gp pd dr
  | 0, i, dr, e, h => br_t (nI_le (a := 4) (by omega) (by omega)) (hp dr (fun v hv => h v (by omega)))
  | d + 1, i, dr, e, h => by
    refine br_f (nI_ge (a := i) (b := 4) (by omega) (by omega)) ⟨vp_in_nI (by omega) (by decide), nm_r (e' := upd dr i (nI (2 * i))) (by rw [nI_clamp (by omega), xi_2]) (nm_r (nI_1 i) (yw_init_83 hp d (i + 1) (upd dr i (nI (2 * i))) (by omega) (fun v hv => ?_)))⟩
    by_cases w : v = i
    · rw [w, xi_uself]
    · rw [xi_upd w]; exact h v (by omega)
end
theorem i_vc0 (k0 : Int32) (k1 : Int32) (k2 : Int32) : wpX_init (fun u => wpY_init (fun v => i_Rel 3 u v) k0 k1 k2) k0 k1 k2 := by
  unfold wpX_init
  refine xw_clamp k0 (m := 4) (by decide) (by decide) (fun n h1n hn q0 => nm_r (xi_2 n) (xw_clamp k1 (m := 12) (by decide) (by decide) (fun c0 _ hc q1 => xw_clamp k2 (m := 8) (by decide) (by decide) (fun p0 _ hp q2 => ?_))))
  refine xw_setIdentity (n := n) (cc := 0) (q := 0) hn (by omega) (fun pe hput => ⟨n + 1, ?_⟩)
  refine xm_init_165 (cc := 0) hn (fun tu hT => ?_) n 0 _ (by omega) (fun l _ hl => by omega) (fun l _ => rfl)
  unfold wpY_init
  refine yw_clamp k0 q0 (yw_clamp k1 q1 (yw_clamp k2 q2 ⟨5, yw_init_83 (n := n) (fun dr hdr => ?_) 4 0 _ (by omega) (fun v hv => by omega)⟩))
  have nH : ∀ m, ¬ yw_H (fun _ => 0) m := fun m h => h.2 rfl
  have nP : ∀ m, ¬ yw_P (fun _ => 0) m := fun m h => h.2 rfl
  refine rl_in (n := n) (cc := 0) (p := 0) (an := 0) ⟨h1n, hn, hc, hp, Or.inl rfl, fun m hm => absurd hm (nH m), ⟨(cn_none (fun m _ => nH m)).symm, by omega, fun m _ hm => absurd hm (nH m)⟩, by omega, (cn_none (fun m _ => nP m)).symm, by omega, fun m _ hm => absurd hm (nP m), ⟨fun v => 2 * v, fun v hv => ⟨show 2 * v < 2 * n by omega, ?_, hdr v (by omega)⟩⟩, hT, fun h => absurd h (by decide), fun _ r => nP r⟩
  have := hput.1 v hv
  rw [Nat.zero_add] at this
  exact this
theorem i_vc_clause {k : Nat} {u : SX} {v : SY} (I : i_Rel k u v) (hk : k + 4 ≤ 2051) (v1 : Int32) : wpX_clause (fun r => wpY_clause (fun r' => r' = r ∧ i_Rel (k + 4) u v) v v1) u v1 := by
  refine rl_el (P := fun u v => wpX_clause (fun r => wpY_clause (fun r' => r' = r ∧ i_Rel (k + 4) u v) v v1) u v1) ?_ I
  intro n cc c0 p0 p d1 d2 d3 d4 d5 an gc ql re sz pe ma pi si ob co fr qu tu le he gp pd dr F
  have R := rl_in (k := k + 4) (d1 := d1) (d2 := d2) (d3 := d3) (d4 := d4) (d5 := d5) (gc := gc) (ql := ql) (re := re) (co := co) (fr := fr) (qu := qu) F
  obtain ⟨h1n, hn, hc0, hp0, han, hH, hM, hcc, hpc, hpp, hPi, hd, hT, hA, hZ⟩ := F
  have h12 := hM.2.1
  have hcn := hM.1
  have lt : ∀ m, m < 256 → yw_H he m → cn_c (yw_H he) m < cc := fun m h1 h2 => by rw [hcn]; exact cn_lt h1 h2
  unfold wpX_clause
  dsimp only
  rcases pk_ix v1 (n := cc) (by omega) with z | z | z
  · refine br_t z (yw_clause (fun m h1 h2 e => ?_) (fun _ => ⟨rfl, R⟩))
    have := lt m h1 h2
    rw [e] at z
    exact absurd z (nI_pos (by omega))
  · have nz : ¬ v1 < 0 := Int32.not_lt.mpr (Int32.le_trans (nI_pos' (n := cc) (by omega)) z)
    refine br_f nz (br_f (Int32.not_lt.mpr z) (yw_clause (fun m h1 h2 e => ?_) (fun _ => ⟨rfl, R⟩)))
    have := lt m h1 h2
    rw [e] at z
    exact absurd z (nI_ge this (by omega))
  · obtain ⟨j, hj, e⟩ := z
    subst e
    obtain ⟨m, m1, m2, m3, m4⟩ := xw_Mg hM.2.2 (c := j) (by omega)
    refine br_f (nI_pos (by omega)) (br_t (nI_lt hj (by omega)) ⟨vp_in_nI (by omega) (by decide), ?_⟩)
    rw [nI_clamp (by omega), m4]
    refine yw_clause (fun m' h1 h2 e => ⟨?_, R⟩) (fun no => absurd (by rw [m3]) (no m m1 m2))
    have := lt m' h1 h2
    have e2 := (nI_eq (by omega) (by omega)).mp e
    rw [cn_uniq h2 m2 (e2.symm.trans m3.symm)]
theorem i_vc_analyse {k : Nat} {u : SX} {v : SY} (I : i_Rel k u v) (hk : k + 4 ≤ 2051) : wpX_analyse (fun r u' => wpY_analyse (fun r' v' => r' = r ∧ i_Rel (k + 4) u' v') v) u := by
  refine rl_el (P := fun u v => wpX_analyse (fun r u' => wpY_analyse (fun r' v' => r' = r ∧ i_Rel (k + 4) u' v') v) u) ?_ I
  intro n cc c0 p0 p d1 d2 d3 d4 d5 an gc ql re sz pe ma pi si ob co fr qu tu le he gp pd dr F
  have R := rl_in (k := k + 4) (d1 := d1) (d2 := d2) (d3 := d3) (d4 := d4) (d5 := d5) (gc := gc) (ql := ql) (re := re) (co := co) (fr := fr) (qu := qu) F
  obtain ⟨h1n, hn, hc0, hp0, han, hH, hM, hcc, hpc, hpp, hPi, ⟨d, hd⟩, hT, hA, hZ⟩ := F
  rcases han with z | z <;> subst z
  · have zl := sy_z_le h1n hn hH
    rw [sy_z_0] at zl
    refine xa_analyse hn h1n hH hM (fun pe' si' ob' co' fr' qu' le' g' l' re' N fr4 => yw_analyse hn zl (fun gp' hE => ⟨by rw [sy_z_0], ?_⟩))
    exact rl_in ⟨h1n, hn, hc0, hp0, Or.inr rfl, hH, hM, hcc, hpc, hpp, hPi, ⟨d, fun v hv => ⟨(hd v hv).1, by rw [fr4 v (by omega)]; exact (hd v hv).2.1, (hd v hv).2.2⟩⟩, hT, fun _ => ⟨N, ⟨rfl, hE, zl⟩, fun r hr => absurd hr (hZ rfl r)⟩, fun h => absurd h (by decide)⟩
  · obtain ⟨N, G, _⟩ := hA rfl
    refine br_f (by decide) (br_f (by decide) ⟨?_, R⟩)
    show sz = si 0
    rw [N.2.1 0 (by omega), G.1, sy_z_0]
theorem i_vc_order {k : Nat} {u : SX} {v : SY} (I : i_Rel k u v) (hk : k + 4 ≤ 2051) (v1 : Int32) : wpX_order (fun r => wpY_order (fun r' => r' = r ∧ i_Rel (k + 4) u v) v v1) u v1 := by
  refine rl_el (P := fun u v => wpX_order (fun r => wpY_order (fun r' => r' = r ∧ i_Rel (k + 4) u v) v v1) u v1) ?_ I
  intro n cc c0 p0 p d1 d2 d3 d4 d5 an gc ql re sz pe ma pi si ob co fr qu tu le he gp pd dr F
  have R := rl_in (k := k + 4) (d1 := d1) (d2 := d2) (d3 := d3) (d4 := d4) (d5 := d5) (gc := gc) (ql := ql) (re := re) (co := co) (fr := fr) (qu := qu) F
  obtain ⟨h1n, hn, hc0, hp0, han, hH, hM, hcc, hpc, hpp, hPi, hd, hT, hA, hZ⟩ := F
  unfold wpX_order wpY_order
  dsimp only
  rcases pk_ix v1 (n := n + 1) (by omega) with z | z | z
  · exact br_t z (br_t z ⟨rfl, R⟩)
  · have nz : ¬ v1 < 0 := Int32.not_lt.mpr (Int32.le_trans (nI_pos' (n := n + 1) (by omega)) z)
    have nl : ¬ v1 ≤ nI n := fun w => absurd (Int32.le_trans z w) (nI_ge (by omega) (by omega))
    exact br_f nz (br_f nl (br_f nz (br_f nl ⟨rfl, R⟩)))
  · obtain ⟨j, hj, e⟩ := z
    subst e
    have nz : ¬ nI j < 0 := nI_pos (by omega)
    have l : nI j ≤ nI n := nI_le (by omega) (by omega)
    rcases han with z | z <;> subst z
    · exact br_f nz (br_t l (br_t rfl (br_f nz (br_t l (br_t rfl ⟨rfl, R⟩)))))
    · obtain ⟨N, G, _⟩ := hA rfl
      refine br_f nz (br_t l (br_f (by decide) ⟨vp_in_nI (by omega) (by decide), br_f nz (br_t l (br_f (by decide) ⟨cn_c (sy_C n (yw_H he)) (8 ^ n) + 1, yw_order_28 hn G (by omega) ⟨?_, R⟩ _ 0 (Nat.zero_add _)⟩))⟩))
      rw [nI_clamp (by omega), N.2.1 j (by omega)]
theorem i_vc_orbit {k : Nat} {u : SX} {v : SY} (I : i_Rel k u v) (hk : k + 4 ≤ 2051) (v1 : Int32) (v2 : Int32) : wpX_orbit (fun r => wpY_orbit (fun r' => r' = r ∧ i_Rel (k + 4) u v) v v1 v2) u v1 v2 := by
  refine rl_el (P := fun u v => wpX_orbit (fun r => wpY_orbit (fun r' => r' = r ∧ i_Rel (k + 4) u v) v v1 v2) u v1 v2) ?_ I
  intro n cc c0 p0 p d1 d2 d3 d4 d5 an gc ql re sz pe ma pi si ob co fr qu tu le he gp pd dr F
  have R := rl_in (k := k + 4) (d1 := d1) (d2 := d2) (d3 := d3) (d4 := d4) (d5 := d5) (gc := gc) (ql := ql) (re := re) (co := co) (fr := fr) (qu := qu) F
  obtain ⟨h1n, hn, hc0, hp0, han, hH, hM, hcc, hpc, hpp, hPi, hd, hT, hA, hZ⟩ := F
  unfold wpX_orbit wpY_orbit
  dsimp only
  rcases pk_ix v1 (n := n + 1) (by omega) with z | z | z
  · exact br_t z (br_t z ⟨rfl, R⟩)
  · have nz : ¬ v1 < 0 := Int32.not_lt.mpr (Int32.le_trans (nI_pos' (n := n + 1) (by omega)) z)
    have l : nI n < v1 := Int32.lt_of_lt_of_le (nI_lt (by omega) (by omega)) z
    exact br_f nz (br_t l (br_f nz (br_t l ⟨rfl, R⟩)))
  · obtain ⟨j, hj, e⟩ := z
    subst e
    have nz : ¬ nI j < 0 := nI_pos (by omega)
    have l : ¬ nI n < nI j := nI_nlt (by omega) (by omega)
    refine br_f nz (br_f l (xw_isLiteral hn v2 (fun ⟨m, hm, em⟩ => br_f (by decide) ?_) (fun no => br_t rfl (br_f nz (br_f l (yw_isLiteral hn v2 (fun y => absurd y no) (fun _ => br_t rfl ⟨rfl, R⟩)))))))
    subst em
    have yes : ∃ l, l < 2 * n ∧ nI m = nI l := ⟨m, hm, rfl⟩
    rcases han with z | z <;> subst z
    · exact br_t rfl (br_f nz (br_f l (yw_isLiteral hn _ (fun _ => br_f (by decide) (br_t rfl ⟨rfl, R⟩)) (fun no => absurd yes no))))
    · obtain ⟨N, G, _⟩ := hA rfl
      refine br_f (by decide) ⟨pk_in (j * 8 + m) 40 (by omega) (xc_oAt j m), br_f nz (br_f l (yw_isLiteral hn _ (fun _ => br_f (by decide) (br_f (by decide) ⟨cn_c (sy_C n (yw_H he)) (8 ^ n) + 1, yw_orbit_37 hn G (by omega) hm (fun r hr => ⟨?_, R⟩) _ 0 0 (Nat.zero_add _) (fun i hi => ?_)⟩)) (fun no => absurd yes no)))⟩
      · rw [b_0]
        exact ⟨fun w => absurd w (by decide), fun ⟨q, _, _, w, _⟩ => absurd w (Nat.not_lt_zero _)⟩
      · rw [xc_oAt, nI_clamp (by omega)]
        apply b_ext
        intro i hi
        apply Bool.eq_iff_iff.mpr
        rw [hr i hi, N.1 j (by omega) m hm i hi]
theorem i_vc_setImage {k : Nat} {u : SX} {v : SY} (I : i_Rel k u v) (hk : k + 4 ≤ 2051) (v1 : Int32) (v2 : Int32) : wpX_setImage (fun r u' => wpY_setImage (fun r' v' => r' = r ∧ i_Rel (k + 4) u' v') v v1 v2) u v1 v2 := by
  refine rl_el (P := fun u v => wpX_setImage (fun r u' => wpY_setImage (fun r' v' => r' = r ∧ i_Rel (k + 4) u' v') v v1 v2) u v1 v2) ?_ I
  intro n cc c0 p0 p d1 d2 d3 d4 d5 an gc ql re sz pe ma pi si ob co fr qu tu le he gp pd dr F
  have R := rl_in (k := k + 4) (d1 := d1) (d2 := d2) (d3 := d3) (d4 := d4) (d5 := d5) (gc := gc) (ql := ql) (re := re) (co := co) (fr := fr) (qu := qu) F
  obtain ⟨h1n, hn, hc0, hp0, han, hH, hM, hcc, hpc, hpp, hPi, ⟨d, hd⟩, hT, hA, hZ⟩ := F
  unfold wpX_setImage wpY_setImage
  dsimp only
  rcases pk_ix v1 (n := n) (by omega) with z | z | z
  · exact br_t z (br_t z ⟨rfl, R⟩)
  · have nz : ¬ v1 < 0 := Int32.not_lt.mpr (Int32.le_trans (nI_pos' (n := n) (by omega)) z)
    exact br_f nz (br_t z (br_f nz (br_t z ⟨rfl, R⟩)))
  · obtain ⟨j, hj, e⟩ := z
    subst e
    have nz : ¬ nI j < 0 := nI_pos (by omega)
    have l : ¬ nI n ≤ nI j := nI_ge hj (by omega)
    refine br_f nz (br_f l (xw_isLiteral hn v2 (fun ⟨m, hm, em⟩ => br_f (by decide) ?_) (fun no => br_t rfl (br_f nz (br_f l (yw_isLiteral hn v2 (fun y => absurd y no) (fun _ => br_t rfl ⟨rfl, R⟩)))))))
    subst em
    have e0 : ((0 : Int32) + nI j) = nI j := Int32.zero_add _
    rw [e0, nI_clamp (by omega)]
    refine ⟨vp_in_nI (by omega) (by decide), nm_e (br_f nz (br_f l (yw_isLiteral hn _ (fun _ => br_f (by decide) ⟨vp_in_nI (by omega) (by decide), nm_e ⟨rfl, ?_⟩⟩) (fun no => absurd ⟨m, hm, rfl⟩ no))))⟩
    refine rl_in ⟨h1n, hn, hc0, hp0, han, hH, hM, hcc, hpc, hpp, hPi, ⟨fun v => if v = j then m else d v, fun v hv => ?_⟩, hT, fun h => ⟨xa_N_pe (hA h).1 (fun i hi => xi_upd (by omega)), (hA h).2⟩, hZ⟩
    dsimp only
    by_cases w : v = j
    · rw [if_pos w, w, xi_uself, xi_uself]; exact ⟨hm, rfl, rfl⟩
    · rw [if_neg w, xi_upd w, xi_upd w]; exact hd v hv
theorem i_vc_image {k : Nat} {u : SX} {v : SY} (I : i_Rel k u v) (hk : k + 4 ≤ 2051) (v1 : Int32) : wpX_image (fun r => wpY_image (fun r' => r' = r ∧ i_Rel (k + 4) u v) v v1) u v1 := by
  refine rl_el (P := fun u v => wpX_image (fun r => wpY_image (fun r' => r' = r ∧ i_Rel (k + 4) u v) v v1) u v1) ?_ I
  intro n cc c0 p0 p d1 d2 d3 d4 d5 an gc ql re sz pe ma pi si ob co fr qu tu le he gp pd dr F
  have R := rl_in (k := k + 4) (d1 := d1) (d2 := d2) (d3 := d3) (d4 := d4) (d5 := d5) (gc := gc) (ql := ql) (re := re) (co := co) (fr := fr) (qu := qu) F
  obtain ⟨h1n, hn, hc0, hp0, han, hH, hM, hcc, hpc, hpp, hPi, ⟨d, hd⟩, hT, hA, hZ⟩ := F
  unfold wpX_image wpY_image
  dsimp only
  refine xw_isLiteral hn v1 (fun ⟨m, hm, em⟩ => br_f (by decide) ?_) (fun no => br_t rfl (yw_isLiteral hn v1 (fun y => absurd y no) (fun _ => br_t rfl ⟨rfl, R⟩)))
  subst em
  have D := hd (m / 2) (by omega)
  refine xw_imageAt (q := 0) (t := d) (by rw [Nat.zero_add]; exact D.2.1) (by omega) (by omega) (by omega) (yw_isLiteral hn _ (fun _ => br_f (by decide) ⟨by decide, ?_⟩) (fun no => absurd ⟨m, hm, rfl⟩ no))
  have e2 : nI m / 2 = nI (m / 2) := pk_div (d := 2) (by omega) (by decide) (by decide)
  rw [e2, nI_clamp (by omega), D.2.2, xi_ap (by omega) (by omega)]
  exact ⟨vp_in_nI (by omega) (by decide), rfl, R⟩
theorem i_vc_leader {k : Nat} {u : SX} {v : SY} (I : i_Rel k u v) (hk : k + 4 ≤ 2051) (v1 : Int32) : wpX_leader (fun r => wpY_leader (fun r' => r' = r ∧ i_Rel (k + 4) u v) v v1) u v1 := by
  refine rl_el (P := fun u v => wpX_leader (fun r => wpY_leader (fun r' => r' = r ∧ i_Rel (k + 4) u v) v v1) u v1) ?_ I
  intro n cc c0 p0 p d1 d2 d3 d4 d5 an gc ql re sz pe ma pi si ob co fr qu tu le he gp pd dr F
  have R := rl_in (k := k + 4) (d1 := d1) (d2 := d2) (d3 := d3) (d4 := d4) (d5 := d5) (gc := gc) (ql := ql) (re := re) (co := co) (fr := fr) (qu := qu) F
  obtain ⟨h1n, hn, hc0, hp0, han, hH, hM, hcc, hpc, hpp, hPi, hd, hT, hA, hZ⟩ := F
  have h16 := xi_p16 hn
  unfold wpX_leader wpY_leader
  dsimp only
  rw [xi_pow hn]
  rcases pk_ix v1 (n := 2 ^ n) (by omega) with z | z | z
  · exact br_t z (br_t z ⟨rfl, R⟩)
  · have nz : ¬ v1 < 0 := Int32.not_lt.mpr (Int32.le_trans (nI_pos' (n := 2 ^ n) (by omega)) z)
    have nl : ¬ v1 < nI (2 ^ n) := Int32.not_lt.mpr z
    exact br_f nz (br_f nl (br_f nz (br_f nl ⟨rfl, R⟩)))
  · obtain ⟨j, hj, e⟩ := z
    subst e
    have nz : ¬ nI j < 0 := nI_pos (by omega)
    have l : nI j < nI (2 ^ n) := nI_lt hj (by omega)
    rcases han with z | z <;> subst z
    · exact br_f nz (br_t l (br_t rfl (br_f nz (br_t l (br_t rfl ⟨rfl, R⟩)))))
    · obtain ⟨N, G, _⟩ := hA rfl
      obtain ⟨b, b1, b2⟩ := N.2.2.2 j hj
      refine br_f nz (br_t l (br_f (by decide) ⟨vp_in_nI (by omega) (by decide), br_f nz (br_t l (br_f (by decide) ⟨cn_c (sy_C n (yw_H he)) (8 ^ n) + 1, yw_leader_30 hn hH G hj (fun c hc => ⟨?_, R⟩) _ 0 j (Nat.zero_add _) (sy_Q_rf hH hj) (fun q _ _ w => absurd w (Nat.not_lt_zero _))⟩))⟩))
      rw [nI_clamp (by omega), b1, sy_L_uniq hc b2]
end
section
/-! the owed statements, second half -/
theorem rl_mask {n x y z : Nat} (hx : x < 2 * n) (hy : y < 2 * n) (hz : z < 2 * n) : 0 < 2 ^ x ||| 2 ^ y ||| 2 ^ z ∧ 2 ^ x ||| 2 ^ y ||| 2 ^ z < 2 ^ (2 * n) := by
  constructor
  · exact Nat.lt_of_lt_of_le (Nat.two_pow_pos x) (Nat.le_trans Nat.left_le_or Nat.left_le_or)
  · exact Nat.or_lt_two_pow (Nat.or_lt_two_pow (Nat.pow_lt_pow_right (by decide) hx) (Nat.pow_lt_pow_right (by decide) hy)) (Nat.pow_lt_pow_right (by decide) hz)
theorem rl_CS {n : Nat} (hn : n ≤ 4) {H : Nat → Prop} {d : Nat → Nat} (hd : ∀ v, v < n → d v < 8) : sy_C n H (sy_cr d n) ↔ sy_S n H d :=
  ⟨fun h => sy_S_ext (fun v hv => sy_cr_dg hd v hv) h, fun h => (sy_C_cr hn h).2.1⟩
theorem rl_F_pe {n cc c0 p0 p : Nat} {an sz : Int32} {pe ma pi si ob tu le he gp pd dr pe' : Nat → Int32} (F : rl_F n cc c0 p0 p an sz pe ma pi si ob tu le he gp pd dr) (h : ∀ j, (j < 4 ∨ 12 ≤ j) → pe' j = pe j) : rl_F n cc c0 p0 p an sz pe' ma pi si ob tu le he gp pd dr := by
  obtain ⟨h1n, hn, hc0, hp0, han, hH, hM, hcc, hpc, hpp, hPi, ⟨d, hd⟩, hT, hA, hZ⟩ := F
  exact ⟨h1n, hn, hc0, hp0, han, hH, hM, hcc, hpc, hpp, hPi, ⟨d, fun v hv => ⟨(hd v hv).1, by rw [h v (by omega)]; exact (hd v hv).2.1, (hd v hv).2.2⟩⟩, hT, fun a => ⟨xa_N_pe (hA a).1 (fun j hj => h j (by omega)), (hA a).2⟩, hZ⟩
section
variable {n : Nat} {mc mp an sz : Int32} {he gp pd dr : Nat → Int32}
theorem rl_ymask {post : Int32 → Prop} (hn : n ≤ 4) {x y z : Nat} (hx : x < 2 * n) (hy : y < 2 * n) (hz : z < 2 * n) (hp : post (nI (2 ^ x ||| 2 ^ y ||| 2 ^ z))) : wpY_maskOf post ((nI n), mc, mp, an, sz, he, gp, pd, dr) (nI x) (nI y) (nI z) :=
  yw_maskOf hn _ _ _ (fun no => absurd ⟨x, y, z, hx, hy, hz, rfl, rfl, rfl⟩ no) (fun x' y' z' a b c e1 e2 e3 => by
    have f1 := (nI_eq (by omega) (by omega)).mp e1
    have f2 := (nI_eq (by omega) (by omega)).mp e2
    have f3 := (nI_eq (by omega) (by omega)).mp e3
    subst f1 f2 f3
    exact hp)
theorem rl_yload {post : Int32 → SY → Prop} (hn : n ≤ 4) {q r : Nat} (hq : q < 2 ^ 31) (hr : r < 384) (hg : gp r = nI q) (hp : ∀ dr', (∀ v, v < n → dr' v = nI (sy_dg n q v)) → post 0 ((nI n), mc, mp, an, sz, he, gp, pd, dr')) : ∀ (d i : Nat) (dr : Nat → Int32), i + d = n → (∀ v, v < i → dr v = nI (sy_dg n q v)) → wY_loadElement_26 post (nI r) (nI n) mc mp an sz (d + 1) (nI i) he gp pd dr
  | 0, i, dr, e, h => br_t (nI_le (by omega) (by omega)) (hp dr (fun v hv => h v (by omega)))
  | d + 1, i, dr, e, h => by
    refine br_f (nI_ge (a := i) (b := n) (by omega) (by omega)) ⟨vp_in_nI hr (by decide), ?_⟩
    rw [nI_clamp (n := r) (by omega), hg, xi_2]
    refine yw_send hn hq (by omega) ⟨vp_in_nI (by omega) (by decide), nm_r (e' := upd dr i (nI (sy_dg n q i))) (by rw [nI_clamp (by omega), sy_ap_e]) (nm_r (nI_1 i) (rl_yload hn hq hr hg hp d (i + 1) (upd dr i (nI (sy_dg n q i))) (by omega) (fun v hv => ?_)))⟩
    by_cases w : v = i
    · rw [w, xi_uself]
    · rw [xi_upd w]; exact h v (by omega)
end
theorem i_vc_addClause {k : Nat} {u : SX} {v : SY} (I : i_Rel k u v) (hk : k + 4 ≤ 2051) (v1 : Int32) (v2 : Int32) (v3 : Int32) : wpX_addClause (fun r u' => wpY_addClause (fun r' v' => r' = r ∧ i_Rel (k + 4) u' v') v v1 v2 v3) u v1 v2 v3 := by
  refine rl_el (P := fun u v => wpX_addClause (fun r u' => wpY_addClause (fun r' v' => r' = r ∧ i_Rel (k + 4) u' v') v v1 v2 v3) u v1 v2 v3) ?_ I
  intro n cc c0 p0 p d1 d2 d3 d4 d5 an gc ql re sz pe ma pi si ob co fr qu tu le he gp pd dr F
  have R := rl_in (k := k + 4) (d1 := d1) (d2 := d2) (d3 := d3) (d4 := d4) (d5 := d5) (gc := gc) (ql := ql) (re := re) (co := co) (fr := fr) (qu := qu) F
  obtain ⟨h1n, hn, hc0, hp0, han, hH, hM, hcc, hpc, hpp, hPi, hd, hT, hA, hZ⟩ := F
  have h256 := xi_p256 hn
  have hcn := hM.1
  unfold wpX_addClause wpY_addClause
  dsimp only
  refine xw_maskOf hn v1 v2 v3 (fun no => br_t rfl (yw_maskOf hn v1 v2 v3 (fun _ => br_f (by decide) ⟨rfl, R⟩) (fun x y z hx hy hz e1 e2 e3 => absurd ⟨x, y, z, hx, hy, hz, e1, e2, e3⟩ no))) (fun x y z hx hy hz e1 e2 e3 => ?_)
  subst e1 e2 e3
  obtain ⟨M0, M1⟩ := rl_mask hx hy hz
  have Y := fun (post : Int32 → Prop) => rl_ymask (post := post) (mc := nI c0) (mp := nI p0) (an := an) (sz := sz) (he := he) (gp := gp) (pd := pd) (dr := dr) hn hx hy hz
  revert M0 M1 Y
  generalize 2 ^ x ||| 2 ^ y ||| 2 ^ z = M
  intro M0 M1 Y
  have vM : vp_in (nI M) 256 := vp_in_nI (by omega) (by decide)
  have cM : (nI M).toNatClampNeg = M := nI_clamp (by omega)
  refine br_f (nI_ne0 M0 (by omega)) (xw_isHeld hM (by omega) (fun held => br_f (by decide) (Y _ (br_t (nI_pos' (by omega)) ⟨vM, ?_⟩))) (fun nh => br_t rfl ?_))
  · rw [cM]
    exact br_f held.2 ⟨rfl, R⟩
  · have z0 : he M = 0 := Classical.byContradiction (fun w => nh ⟨by omega, w⟩)
    rcases Nat.lt_or_ge cc c0 with z | z
    · have le : cn_c (yw_H he) M ≤ cc := by rw [hcn]; exact cn_le (by omega)
      refine br_t (nI_lt z (by omega)) (xw_clausePlace hM.2.2 hM.2.1 (by omega) (by omega) le ⟨cc - cn_c (yw_H he) M + 1, rl_addClause_56 (ma0 := ma) (by omega) le (fun ma' k1 k2 k3 => Y _ (br_t (nI_pos' (by omega)) ⟨vM, ?_⟩)) (cc - cn_c (yw_H he) M) cc ma (by omega) (Nat.le_refl _) (fun _ _ => rfl) (fun j j1 j2 => by omega)⟩)
      rw [cM]
      refine br_t z0 (yw_heldCount ?_)
      rw [← hcn]
      refine br_t (nI_lt z (by omega)) ⟨vM, nm_r (e' := upd he M 1) rfl (yw_forget (fun pd' hpd => yw_heldCount ?_))⟩
      have eH := rl_H1 (he := he) (m := M) (by omega)
      have nP : ∀ r, ¬ yw_P pd' r := fun r h => h.2 (hpd r h.1)
      have ecn : cn_c (yw_H (upd he M 1)) 256 = cc + 1 := by rw [eH, cn_hi nh (by omega), ← hcn]
      rw [ecn]
      refine ⟨rfl, rl_in (p := 0) ⟨h1n, hn, hc0, hp0, Or.inl rfl, ?_, ⟨ecn.symm, by omega, ?_⟩, by omega, (cn_none (fun m _ => nP m)).symm, Nat.zero_le _, fun m _ hm => absurd hm (nP m), hd, hT, fun h => absurd h (by decide), fun _ r => nP r⟩⟩
      · rw [eH]
        rintro m (w | w)
        · exact hH m w
        · rw [w]; exact M1
      · rw [eH]
        exact rl_ins hM.2.2 nh (by omega) k1 k2 (fun j j1 j2 => k3 j j1 (by omega))
    · refine br_f (nI_nlt z (by omega)) (Y _ (br_t (nI_pos' (by omega)) ⟨vM, ?_⟩))
      rw [cM]
      refine br_t z0 (yw_heldCount ?_)
      rw [← hcn]
      exact br_f (nI_nlt z (by omega)) ⟨rfl, R⟩
theorem i_vc_removeClause {k : Nat} {u : SX} {v : SY} (I : i_Rel k u v) (hk : k + 4 ≤ 2051) (v1 : Int32) (v2 : Int32) (v3 : Int32) : wpX_removeClause (fun r u' => wpY_removeClause (fun r' v' => r' = r ∧ i_Rel (k + 4) u' v') v v1 v2 v3) u v1 v2 v3 := by
  refine rl_el (P := fun u v => wpX_removeClause (fun r u' => wpY_removeClause (fun r' v' => r' = r ∧ i_Rel (k + 4) u' v') v v1 v2 v3) u v1 v2 v3) ?_ I
  intro n cc c0 p0 p d1 d2 d3 d4 d5 an gc ql re sz pe ma pi si ob co fr qu tu le he gp pd dr F
  have R := rl_in (k := k + 4) (d1 := d1) (d2 := d2) (d3 := d3) (d4 := d4) (d5 := d5) (gc := gc) (ql := ql) (re := re) (co := co) (fr := fr) (qu := qu) F
  obtain ⟨h1n, hn, hc0, hp0, han, hH, hM, hcc, hpc, hpp, hPi, hd, hT, hA, hZ⟩ := F
  have h256 := xi_p256 hn
  have hcn := hM.1
  have h12 := hM.2.1
  unfold wpX_removeClause wpY_removeClause
  dsimp only
  refine xw_maskOf hn v1 v2 v3 (fun no => br_t rfl (yw_maskOf hn v1 v2 v3 (fun _ => br_f (by decide) ⟨rfl, R⟩) (fun x y z hx hy hz e1 e2 e3 => absurd ⟨x, y, z, hx, hy, hz, e1, e2, e3⟩ no))) (fun x y z hx hy hz e1 e2 e3 => ?_)
  subst e1 e2 e3
  obtain ⟨M0, M1⟩ := rl_mask hx hy hz
  have Y := fun (post : Int32 → Prop) => rl_ymask (post := post) (mc := nI c0) (mp := nI p0) (an := an) (sz := sz) (he := he) (gp := gp) (pd := pd) (dr := dr) hn hx hy hz
  revert M0 M1 Y
  generalize 2 ^ x ||| 2 ^ y ||| 2 ^ z = M
  intro M0 M1 Y
  have vM : vp_in (nI M) 256 := vp_in_nI (by omega) (by decide)
  have cM : (nI M).toNatClampNeg = M := nI_clamp (by omega)
  refine br_f (nI_ne0 M0 (by omega)) (xw_isHeld hM (by omega) (fun held => br_f (by decide) ?_) (fun nh => br_t rfl (Y _ (br_t (nI_pos' (by omega)) ⟨vM, ?_⟩))))
  · have lt : cn_c (yw_H he) M < cc := by rw [hcn]; exact cn_lt (by omega) held
    obtain ⟨c, rfl⟩ : ∃ c, cc = c + 1 := ⟨cc - 1, by omega⟩
    refine nm_r (nI_pred c) (xw_clausePlace hM.2.2 (by omega) (by omega) (by omega) (by omega) ⟨c - cn_c (yw_H he) M + 1, rl_removeClause_46 (ma0 := ma) (by omega) (c := cn_c (yw_H he) M) (by omega) (fun ma' k1 k3 => Y _ (br_t (nI_pos' (by omega)) ⟨vM, ?_⟩)) (c - cn_c (yw_H he) M) (cn_c (yw_H he) M) ma (by omega) (Nat.le_refl _) (fun _ _ => rfl) (fun j j1 j2 => by omega) (fun _ _ => rfl)⟩)
    rw [cM]
    refine br_f held.2 ⟨vM, nm_r (e' := upd he M 0) rfl (yw_forget (fun pd' hpd => yw_heldCount ?_))⟩
    have eH := rl_H0 (he := he) (m := M)
    have nP : ∀ r, ¬ yw_P pd' r := fun r h => h.2 (hpd r h.1)
    have ed := cn_dhi held (show M < 256 by omega)
    have ecn : cn_c (yw_H (upd he M 0)) 256 = c := by rw [eH]; omega
    rw [ecn]
    refine ⟨rfl, rl_in (p := 0) ⟨h1n, hn, hc0, hp0, Or.inl rfl, ?_, ⟨ecn.symm, by omega, ?_⟩, by omega, (cn_none (fun m _ => nP m)).symm, Nat.zero_le _, fun m _ hm => absurd hm (nP m), hd, hT, fun h => absurd h (by decide), fun _ r => nP r⟩⟩
    · rw [eH]
      exact fun m w => hH m w.1
    · rw [eH]
      exact rl_del hM.2.2 held k1 (fun j j1 j2 => k3 j j1 (by omega))
  · have z0 : he M = 0 := Classical.byContradiction (fun w => nh ⟨by omega, w⟩)
    rw [cM]
    exact br_t z0 ⟨rfl, R⟩
theorem i_vc_loadElement {k : Nat} {u : SX} {v : SY} (I : i_Rel k u v) (hk : k + 4 ≤ 2051) (v1 : Int32) : wpX_loadElement (fun r u' => wpY_loadElement (fun r' v' => r' = r ∧ i_Rel (k + 4) u' v') v v1) u v1 := by
  refine rl_el (P := fun u v => wpX_loadElement (fun r u' => wpY_loadElement (fun r' v' => r' = r ∧ i_Rel (k + 4) u' v') v v1) u v1) ?_ I
  intro n cc c0 p0 p d1 d2 d3 d4 d5 an gc ql re sz pe ma pi si ob co fr qu tu le he gp pd dr F
  have R := rl_in (k := k + 4) (d1 := d1) (d2 := d2) (d3 := d3) (d4 := d4) (d5 := d5) (gc := gc) (ql := ql) (re := re) (co := co) (fr := fr) (qu := qu) F
  obtain ⟨h1n, hn, hc0, hp0, han, hH, hM, hcc, hpc, hpp, hPi, hd, hT, hA, hZ⟩ := F
  unfold wpX_loadElement wpY_loadElement
  dsimp only
  rcases han with z | z <;> subst z
  · exact br_t rfl (br_t rfl ⟨rfl, R⟩)
  obtain ⟨N, G, K⟩ := hA rfl
  have p4 := xi_p4096 hn
  have zl := sy_z_le h1n hn hH
  refine br_f (by decide) ?_
  rw [N.2.1 0 (by omega)]
  have es : sz = nI (sy_z n (yw_H he) 0) := by rw [G.1, sy_z_0]
  rcases pk_ix v1 (n := sy_z n (yw_H he) 0) (by omega) with z | z | z
  · exact br_t z (br_f (by decide) (br_t z ⟨rfl, R⟩))
  · have nz : ¬ v1 < 0 := Int32.not_lt.mpr (Int32.le_trans (nI_pos' (n := sy_z n (yw_H he) 0) (by omega)) z)
    have nl : ¬ v1 < nI (sy_z n (yw_H he) 0) := Int32.not_lt.mpr z
    exact br_f nz (br_f nl (br_f (by decide) (br_f nz (br_f (by rw [es]; exact nl) ⟨rfl, R⟩))))
  · obtain ⟨r, hr, e⟩ := z
    subst e
    have nz : ¬ nI r < 0 := nI_pos (by omega)
    have l : nI r < nI (sy_z n (yw_H he) 0) := nI_lt hr (by omega)
    have hr2 := hr
    rw [sy_z_0] at hr2
    obtain ⟨q, q1, q2, q3, q4⟩ := yw_Gi G.2.1 hr2
    refine br_f nz (br_t l ?_)
    rw [← q3]
    refine xr_unrank h1n hn hH N q1 q2 (fun pe' k1 k2 => ?_)
    dsimp only
    refine xw_copyPerm (p := 8) (q := 0) (t := sy_dg n q) hn (by omega) (by omega) (Or.inr (by omega)) k1 (fun pe2 hput => ?_)
    dsimp only
    rw [q3]
    refine br_f (by decide) (br_f nz (br_t (by rw [es]; exact l) ⟨n + 1, rl_yload hn (by omega) (by omega) q4 (fun dr' hdr => ⟨rfl, ?_⟩) n 0 dr (by omega) (fun v hv => by omega)⟩))
    refine rl_in ⟨h1n, hn, hc0, hp0, Or.inr rfl, hH, hM, hcc, hpc, hpp, hPi, ⟨sy_dg n q, fun v hv => ⟨q2.1.1 v hv, ?_, hdr v hv⟩⟩, hT, fun _ => ⟨xa_N_pe N (fun j hj => ?_), G, K⟩, fun h => absurd h (by decide)⟩
    · have := hput.1 v hv
      rw [Nat.zero_add] at this
      exact this
    · rw [hput.2 j (by omega), k2 j (by omega)]
theorem i_vc_rank {k : Nat} {u : SX} {v : SY} (I : i_Rel k u v) (hk : k + 4 ≤ 2051) : wpX_rank (fun r u' => wpY_rank (fun r' => r' = r ∧ i_Rel (k + 4) u' v) v) u := by
  refine rl_el (P := fun u v => wpX_rank (fun r u' => wpY_rank (fun r' => r' = r ∧ i_Rel (k + 4) u' v) v) u) ?_ I
  intro n cc c0 p0 p d1 d2 d3 d4 d5 an gc ql re sz pe ma pi si ob co fr qu tu le he gp pd dr F
  have F0 := F
  obtain ⟨h1n, hn, hc0, hp0, han, hH, hM, hcc, hpc, hpp, hPi, ⟨d, hd⟩, hT, hA, hZ⟩ := F
  unfold wpX_rank wpY_rank
  dsimp only
  rcases han with z | z <;> subst z
  · exact br_t rfl (br_t rfl ⟨rfl, rl_in F0⟩)
  obtain ⟨N, G, K⟩ := hA rfl
  have d8 : ∀ v, v < n → d v < 8 := fun v hv => by have := (hd v hv).1; omega
  have CS := rl_CS (H := yw_H he) hn d8
  refine br_f (by decide) (xr_rankDraft hn hH N (fun v hv => (hd v hv).1) (fun v hv => (hd v hv).2.1) (fun S pe' fh => br_f (by decide) (yw_draftRank hn G d8 (fun v hv => (hd v hv).2.2) (fun C => ⟨rfl, rl_in (rl_F_pe F0 fh)⟩) (fun nC => absurd (CS.mpr S) nC))) (fun nS pe' fh => br_f (by decide) (yw_draftRank hn G d8 (fun v hv => (hd v hv).2.2) (fun C => absurd (CS.mp C) nS) (fun nC => ⟨rfl, rl_in (rl_F_pe F0 fh)⟩))))
theorem i_vc_chosen {k : Nat} {u : SX} {v : SY} (I : i_Rel k u v) (hk : k + 4 ≤ 2051) (v1 : Int32) : wpX_chosen (fun r => wpY_chosen (fun r' => r' = r ∧ i_Rel (k + 4) u v) v v1) u v1 := by
  refine rl_el (P := fun u v => wpX_chosen (fun r => wpY_chosen (fun r' => r' = r ∧ i_Rel (k + 4) u v) v v1) u v1) ?_ I
  intro n cc c0 p0 p d1 d2 d3 d4 d5 an gc ql re sz pe ma pi si ob co fr qu tu le he gp pd dr F
  have R := rl_in (k := k + 4) (d1 := d1) (d2 := d2) (d3 := d3) (d4 := d4) (d5 := d5) (gc := gc) (ql := ql) (re := re) (co := co) (fr := fr) (qu := qu) F
  obtain ⟨h1n, hn, hc0, hp0, han, hH, hM, hcc, hpc, hpp, hPi, hd, hT, hA, hZ⟩ := F
  unfold wpX_chosen wpY_chosen
  dsimp only
  rcases han with z | z <;> subst z
  · exact br_t rfl (br_t rfl ⟨rfl, R⟩)
  obtain ⟨N, G, K⟩ := hA rfl
  have zl := sy_z_le h1n hn hH
  have es : sz = nI (sy_z n (yw_H he) 0) := by rw [G.1, sy_z_0]
  subst es
  have lt : ∀ m, yw_P pd m → cn_c (yw_P pd) m < p := fun m h2 => by rw [hpc]; exact cn_lt h2.1 h2
  have Y : ∀ post : Int32 → Prop, (∀ r, r < sy_z n (yw_H he) 0 → yw_P pd r → v1 = nI (cn_c (yw_P pd) r) → post (nI r)) → ((∀ r, r < sy_z n (yw_H he) 0 → yw_P pd r → ¬ v1 = nI (cn_c (yw_P pd) r)) → post (-5)) → ∃ n14, wY_chosen_14 post v1 (nI n) (nI c0) (nI p0) 1 (nI (sy_z n (yw_H he) 0)) he gp pd dr n14 0 0 := fun post a b => ⟨_, yw_chosen_14 zl a b (sy_z n (yw_H he) 0) 0 (Nat.zero_add _) (fun r hr => by omega)⟩
  refine br_f (by decide) ?_
  rcases pk_ix v1 (n := p) (by omega) with z | z | z
  · refine br_t z (br_f (by decide) (Y _ (fun m h1 h2 e => ?_) (fun _ => ⟨rfl, R⟩)))
    have := lt m h2
    rw [e] at z
    exact absurd z (nI_pos (by omega))
  · have nz : ¬ v1 < 0 := Int32.not_lt.mpr (Int32.le_trans (nI_pos' (n := p) (by omega)) z)
    refine br_f nz (br_f (Int32.not_lt.mpr z) (br_f (by decide) (Y _ (fun m h1 h2 e => ?_) (fun _ => ⟨rfl, R⟩))))
    have := lt m h2
    rw [e] at z
    exact absurd z (nI_ge this (by omega))
  · obtain ⟨j, hj, e⟩ := z
    subst e
    obtain ⟨m, m1, m2, m3⟩ := cn_sur (P := yw_P pd) (N := 384) (i := j) (by omega)
    have m4 : pi j = nI m := by rw [← m3]; exact hPi m m1 m2
    refine br_f (nI_pos (by omega)) (br_t (nI_lt hj (by omega)) ⟨vp_in_nI (by omega) (by decide), br_f (by decide) (Y _ (fun m' h1 h2 e => ⟨?_, R⟩) (fun no => absurd (by rw [m3]) (no m (K m m2) m2)))⟩)
    have := lt m' h2
    have e2 := (nI_eq (by omega) (by omega)).mp e
    rw [nI_clamp (by omega), m4, cn_uniq h2 m2 (e2.symm.trans m3.symm)]
end
section
/-! the owed statements, the rest -/
theorem rl_no {A B : Prop} {P : Nat → Prop} {p r : Nat} {pi : Nat → Int32} (hPi : cn_E P 384 pi) (hpc : p = cn_c P 384) (hp8 : p ≤ 8) (hr : r < 384) (no : ¬ P r) (h : B) : (nI p ≤ nI (cn_c P r) → B) ∧ (¬ nI p ≤ nI (cn_c P r) → vp_in (nI (cn_c P r)) 8 ∧ ((pi (nI (cn_c P r)).toNatClampNeg = nI r → A) ∧ (¬ pi (nI (cn_c P r)).toNatClampNeg = nI r → B))) := by
  have le : cn_c P r ≤ p := by rw [hpc]; exact cn_le (by omega)
  rcases Nat.lt_or_ge (cn_c P r) p with z | z
  · obtain ⟨s, s1, s2, s3⟩ := cn_sur (P := P) (N := 384) (i := cn_c P r) (by omega)
    have e : pi (cn_c P r) = nI s := by rw [← s3]; exact hPi s s1 s2
    refine br_f (nI_ge z (by omega)) ⟨vp_in_nI (by omega) (by decide), ?_⟩
    rw [nI_clamp (by omega), e]
    refine br_f (fun w => ?_) h
    rw [(nI_eq (by omega) (by omega)).mp w] at s2
    exact no s2
  · exact br_t (nI_le z (by omega)) h
theorem i_vc_choose {k : Nat} {u : SX} {v : SY} (I : i_Rel k u v) (hk : k + 4 ≤ 2051) : wpX_choose (fun r u' => wpY_choose (fun r' v' => r' = r ∧ i_Rel (k + 4) u' v') v) u := by
  refine rl_el (P := fun u v => wpX_choose (fun r u' => wpY_choose (fun r' v' => r' = r ∧ i_Rel (k + 4) u' v') v) u) ?_ I
  intro n cc c0 p0 p d1 d2 d3 d4 d5 an gc ql re sz pe ma pi si ob co fr qu tu le he gp pd dr F
  have F0 := F
  obtain ⟨h1n, hn, hc0, hp0, han, hH, hM, hcc, hpc, hpp, hPi, ⟨d, hd⟩, hT, hA, hZ⟩ := F
  unfold wpX_choose wpX_rank wpY_choose
  dsimp only
  rcases han with z | z <;> subst z
  · exact br_t rfl (br_f (by decide) (br_t rfl ⟨rfl, rl_in F0⟩))
  obtain ⟨N, G, K⟩ := hA rfl
  have d8 : ∀ v, v < n → d v < 8 := fun v hv => by have := (hd v hv).1; omega
  have CS := rl_CS (H := yw_H he) hn d8
  have zl := sy_z_le h1n hn hH
  refine br_f (by decide) (xr_rankDraft hn hH N (fun v hv => (hd v hv).1) (fun v hv => (hd v hv).2.1) (fun S pe' fh => ?_) (fun nS pe' fh => ?_))
  · dsimp only
    have C0 := CS.mpr S
    have rz : cn_c (sy_C n (yw_H he)) (sy_cr d n) < sy_z n (yw_H he) 0 := by rw [sy_z_0]; exact cn_lt (sy_cr_lt d8) C0
    have Y := fun (post : Int32 → Prop) (hp : post (nI (cn_c (sy_C n (yw_H he)) (sy_cr d n)))) => yw_draftRank (post := post) (mc := nI c0) (mp := nI p0) (an := 1) (he := he) (pd := pd) hn G d8 (fun v hv => (hd v hv).2.2) (fun _ => hp) (fun nC => absurd C0 nC)
    revert rz Y
    generalize cn_c (sy_C n (yw_H he)) (sy_cr d n) = r
    intro rz Y
    have vr : vp_in (nI r) 384 := vp_in_nI (by omega) (by decide)
    have cr : (nI r).toNatClampNeg = r := nI_clamp (by omega)
    have le : cn_c (yw_P pd) r ≤ p := by rw [hpc]; exact cn_le (by omega)
    have F1 := rl_F_pe F0 fh
    refine br_t (nI_pos' (by omega)) (rl_pickPlace hPi (by omega) hpc (by omega) ?_)
    by_cases pk : yw_P pd r
    · have lt : cn_c (yw_P pd) r < p := by rw [hpc]; exact cn_lt pk.1 pk
      refine br_f (nI_ge lt (by omega)) ⟨vp_in_nI (by omega) (by decide), ?_⟩
      rw [nI_clamp (by omega), hPi r pk.1 pk]
      refine br_t rfl (br_f (by decide) (Y _ (br_t (nI_pos' (by omega)) ⟨vr, ?_⟩)))
      rw [cr]
      exact br_f pk.2 ⟨rfl, rl_in F1⟩
    · have z0 : pd r = 0 := Classical.byContradiction (fun w => pk ⟨by omega, w⟩)
      refine rl_no hPi hpc (by omega) (by omega) pk ?_
      unfold wX_choose_38
      rcases Nat.lt_or_ge p p0 with z | z
      · refine br_t (nI_lt z (by omega)) ⟨p - cn_c (yw_P pd) r + 1, rl_choose_57 (pi0 := pi) (by omega) le (fun pi' k1 k2 k3 => br_f (by decide) (Y _ (br_t (nI_pos' (by omega)) ⟨vr, ?_⟩))) (p - cn_c (yw_P pd) r) p pi (by omega) (Nat.le_refl _) (fun _ _ => rfl) (fun j j1 j2 => by omega)⟩
        rw [cr]
        refine br_t z0 (yw_pickedCount ?_)
        rw [← hpc]
        refine br_t (nI_lt z (by omega)) ⟨vr, nm_r (e' := upd pd r 1) rfl (yw_pickedCount ?_)⟩
        have eP := rl_P1 (pd := pd) (m := r) (by omega)
        have ecn : cn_c (yw_P (upd pd r 1)) 384 = p + 1 := by rw [eP, cn_hi pk (by omega), ← hpc]
        rw [ecn]
        obtain ⟨_, _, _, _, _, _, _, _, _, _, _, hd1, _, hA1, _⟩ := F1
        refine ⟨rfl, rl_in ⟨h1n, hn, hc0, hp0, Or.inr rfl, hH, hM, hcc, ecn.symm, by omega, ?_, hd1, hT, fun _ => ⟨(hA1 rfl).1, G, ?_⟩, fun h => absurd h (by decide)⟩⟩
        · rw [eP]
          exact rl_ins hPi pk (by omega) k1 k2 (fun j j1 j2 => k3 j j1 (by omega))
        · rw [eP]
          rintro s (w | w)
          · exact K s w
          · rw [w]; exact rz
      · refine br_f (nI_nlt z (by omega)) (br_f (by decide) (Y _ (br_t (nI_pos' (by omega)) ⟨vr, ?_⟩)))
        rw [cr]
        refine br_t z0 (yw_pickedCount ?_)
        rw [← hpc]
        exact br_f (nI_nlt z (by omega)) ⟨rfl, rl_in F1⟩
  · refine br_f (by decide) (br_f (by decide) (yw_draftRank hn G d8 (fun v hv => (hd v hv).2.2) (fun C => absurd (CS.mp C) nS) (fun nC => br_f (by decide) ⟨rfl, rl_in (rl_F_pe F0 fh)⟩)))
theorem i_vc_unchoose {k : Nat} {u : SX} {v : SY} (I : i_Rel k u v) (hk : k + 4 ≤ 2051) : wpX_unchoose (fun r u' => wpY_unchoose (fun r' v' => r' = r ∧ i_Rel (k + 4) u' v') v) u := by
  refine rl_el (P := fun u v => wpX_unchoose (fun r u' => wpY_unchoose (fun r' v' => r' = r ∧ i_Rel (k + 4) u' v') v) u) ?_ I
  intro n cc c0 p0 p d1 d2 d3 d4 d5 an gc ql re sz pe ma pi si ob co fr qu tu le he gp pd dr F
  have F0 := F
  obtain ⟨h1n, hn, hc0, hp0, han, hH, hM, hcc, hpc, hpp, hPi, ⟨d, hd⟩, hT, hA, hZ⟩ := F
  unfold wpX_unchoose wpX_rank wpY_unchoose
  dsimp only
  rcases han with z | z <;> subst z
  · exact br_t rfl (br_f (by decide) (br_t rfl ⟨rfl, rl_in F0⟩))
  obtain ⟨N, G, K⟩ := hA rfl
  have d8 : ∀ v, v < n → d v < 8 := fun v hv => by have := (hd v hv).1; omega
  have CS := rl_CS (H := yw_H he) hn d8
  have zl := sy_z_le h1n hn hH
  refine br_f (by decide) (xr_rankDraft hn hH N (fun v hv => (hd v hv).1) (fun v hv => (hd v hv).2.1) (fun S pe' fh => ?_) (fun nS pe' fh => ?_))
  · dsimp only
    have C0 := CS.mpr S
    have rz : cn_c (sy_C n (yw_H he)) (sy_cr d n) < sy_z n (yw_H he) 0 := by rw [sy_z_0]; exact cn_lt (sy_cr_lt d8) C0
    have Y := fun (post : Int32 → Prop) (hp : post (nI (cn_c (sy_C n (yw_H he)) (sy_cr d n)))) => yw_draftRank (post := post) (mc := nI c0) (mp := nI p0) (an := 1) (he := he) (pd := pd) hn G d8 (fun v hv => (hd v hv).2.2) (fun _ => hp) (fun nC => absurd C0 nC)
    revert rz Y
    generalize cn_c (sy_C n (yw_H he)) (sy_cr d n) = r
    intro rz Y
    have vr : vp_in (nI r) 384 := vp_in_nI (by omega) (by decide)
    have cr : (nI r).toNatClampNeg = r := nI_clamp (by omega)
    have le : cn_c (yw_P pd) r ≤ p := by rw [hpc]; exact cn_le (by omega)
    have F1 := rl_F_pe F0 fh
    refine br_t (nI_pos' (by omega)) (rl_pickPlace hPi (by omega) hpc (by omega) ?_)
    by_cases pk : yw_P pd r
    · have lt : cn_c (yw_P pd) r < p := by rw [hpc]; exact cn_lt pk.1 pk
      obtain ⟨c, rfl⟩ : ∃ c, p = c + 1 := ⟨p - 1, by omega⟩
      refine br_f (nI_ge lt (by omega)) ⟨vp_in_nI (by omega) (by decide), ?_⟩
      rw [nI_clamp (by omega), hPi r pk.1 pk]
      refine br_t rfl (nm_r (nI_pred c) ⟨c - cn_c (yw_P pd) r + 1, rl_unchoose_50 (pi0 := pi) (by omega) (c := cn_c (yw_P pd) r) (by omega) (fun pi' k1 k3 => br_f (by decide) (Y _ (br_t (nI_pos' (by omega)) ⟨vr, ?_⟩))) (c - cn_c (yw_P pd) r) (cn_c (yw_P pd) r) pi (by omega) (Nat.le_refl _) (fun _ _ => rfl) (fun j j1 j2 => by omega) (fun _ _ => rfl)⟩)
      rw [cr]
      refine br_f pk.2 ⟨vr, nm_r (e' := upd pd r 0) rfl (yw_pickedCount ?_)⟩
      have eP := rl_P0 (pd := pd) (m := r)
      have ed := cn_dhi pk (show r < 384 by omega)
      have ecn : cn_c (yw_P (upd pd r 0)) 384 = c := by rw [eP]; omega
      rw [ecn]
      obtain ⟨_, _, _, _, _, _, _, _, _, _, _, hd1, _, hA1, _⟩ := F1
      refine ⟨rfl, rl_in ⟨h1n, hn, hc0, hp0, Or.inr rfl, hH, hM, hcc, ecn.symm, by omega, ?_, hd1, hT, fun _ => ⟨(hA1 rfl).1, G, ?_⟩, fun h => absurd h (by decide)⟩⟩
      · rw [eP]
        exact rl_del hPi pk k1 (fun j j1 j2 => k3 j j1 (by omega))
      · rw [eP]
        exact fun s w => K s w.1
    · have z0 : pd r = 0 := Classical.byContradiction (fun w => pk ⟨by omega, w⟩)
      refine rl_no hPi hpc (by omega) (by omega) pk (br_f (by decide) (Y _ (br_t (nI_pos' (by omega)) ⟨vr, ?_⟩)))
      rw [cr]
      exact br_t z0 ⟨rfl, rl_in F1⟩
  · refine br_f (by decide) (br_f (by decide) (yw_draftRank hn G d8 (fun v hv => (hd v hv).2.2) (fun C => absurd (CS.mp C) nS) (fun nC => br_f (by decide) ⟨rfl, rl_in (rl_F_pe F0 fh)⟩)))
end
section
/-! the owed statements on models -/
theorem rl_cnt {n : Nat} (hn : n ≤ 4) {r : Int32} {S : Nat → Prop} (h : ∀ a, a < 32 → (bt r a = true ↔ a < 2 ^ n ∧ S a)) {a : Nat} (ha : a ≤ 16) : cn_c (fun i => bt r i = true) a = cn_c S (min a (2 ^ n)) := by
  have h16 := xi_p16 hn
  rw [cn_top (M := min a (2 ^ n)) (by omega) (fun i h1 h2 h3 => by
    have := ((h i (by omega)).mp h3).1
    omega)]
  refine cn_ext (fun i hi => ?_)
  rw [h i (by omega)]
  exact ⟨fun z => z.2, fun z => ⟨by omega, z⟩⟩
section
variable {n cc : Nat} {mc mp d1 d2 d3 d4 d5 an pc gc ql re : Int32} {pe ma pi si ob co fr qu tu le : Nat → Int32}
theorem rl_checkKind {post : Int32 → Prop} (han : an = 0 ∨ an = 1) (v1 : Int32) (h1 : (¬ ∃ kd, kd ≤ 2 ∧ v1 = nI kd) → post (-1)) (h2 : ∀ kd, kd ≤ 2 → v1 = nI kd → kd ≠ 0 → an = 0 → post (-2)) (h3 : ∀ kd, kd ≤ 2 → v1 = nI kd → (kd ≠ 0 → an = 1) → post 0) : wpX_checkKind post ((nI n), (nI (2 * n)), mc, mp, d1, d2, d3, d4, d5, (nI cc), an, pc, gc, ql, re, pe, ma, pi, si, ob, co, fr, qu, tu, le) v1 := by
  unfold wpX_checkKind
  dsimp only
  rcases pk_ix v1 (n := 3) (by omega) with z | z | z
  · refine br_t z (h1 ?_)
    rintro ⟨kd, h, e⟩
    rw [e] at z
    exact nI_pos (by omega) z
  · have nz : ¬ v1 < 0 := Int32.not_lt.mpr (Int32.le_trans (nI_pos' (n := 3) (by omega)) z)
    have nl : ¬ v1 ≤ 2 := fun w => absurd (Int32.le_trans z w) (by decide)
    refine br_f nz (br_f nl (h1 ?_))
    rintro ⟨kd, h, e⟩
    rw [e] at z
    exact nI_ge (show kd < 3 by omega) (by decide) z
  · obtain ⟨kd, hkd, e⟩ := z
    subst e
    refine br_f (nI_pos (by omega)) (br_t (nI_le (b := 2) (by omega) (by decide)) ?_)
    by_cases z : kd = 0
    · exact br_t (by rw [z]; rfl) (h3 kd (by omega) rfl (fun w => absurd z w))
    · refine br_f (nI_ne0 (by omega) (by omega)) ?_
      rcases han with a | a
      · exact br_t a (h2 kd (by omega) rfl z a)
      · exact br_f (by rw [a]; decide) (h3 kd (by omega) rfl (fun _ => a))
end
section
variable {n : Nat} {mc mp an sz : Int32} {he gp pd dr : Nat → Int32}
theorem rl_nk {v1 : Int32} (no : ¬ ∃ kd, kd ≤ 2 ∧ v1 = nI kd) : ¬ v1 = 0 ∧ ¬ v1 = 1 ∧ ¬ v1 = 2 :=
  ⟨fun e => no ⟨0, by decide, e⟩, fun e => no ⟨1, by decide, e⟩, fun e => no ⟨2, by decide, e⟩⟩
theorem rl_ymodels_b {post : Int32 → Prop} {v1 : Int32} (no : ¬ ∃ kd, kd ≤ 2 ∧ v1 = nI kd) (hp : post (-1)) : wpY_models post ((nI n), mc, mp, an, sz, he, gp, pd, dr) v1 :=
  br_f (rl_nk no).1 (br_f (rl_nk no).2.1 (br_f (rl_nk no).2.2 hp))
theorem rl_ymodels_s {post : Int32 → Prop} {kd : Nat} (hk2 : kd ≤ 2) (h0 : kd ≠ 0) (han : an = 0) (hp : post (-2)) : wpY_models post ((nI n), mc, mp, an, sz, he, gp, pd, dr) (nI kd) := by
  unfold wpY_models wY_models_16
  dsimp only
  rcases (by omega : kd = 1 ∨ kd = 2) with z | z <;> subst z
  · exact br_f (by decide) (br_t rfl (br_f (by decide) (br_t han hp)))
  · exact br_f (by decide) (br_f (by decide) (br_t rfl (br_f (by decide) (br_t han hp))))
theorem rl_ymodels {post : Int32 → Prop} (hn : n ≤ 4) {kd : Nat} (hk2 : kd ≤ 2) (hG : kd ≠ 0 → an = 1 ∧ yw_Gr n (yw_H he) sz gp) (hp : post (nI (cn_c (yw_S n he pd kd) (2 ^ n)))) : wpY_models post ((nI n), mc, mp, an, sz, he, gp, pd, dr) (nI kd) := by
  have E : ∃ n34, wY_models_34 post (nI kd) (nI n) mc mp an sz he gp pd dr n34 0 0 := ⟨2 ^ n + 1, yw_models_34 hn hk2 (fun h => (hG h).2) hp (2 ^ n) 0 (by omega)⟩
  unfold wpY_models wY_models_16
  dsimp only
  rcases (by omega : kd = 0 ∨ kd = 1 ∨ kd = 2) with z | z | z <;> subst z
  · exact br_t rfl (br_t rfl E)
  · exact br_f (by decide) (br_t rfl (br_f (by decide) (br_f (by rw [(hG (by decide)).1]; decide) E)))
  · exact br_f (by decide) (br_f (by decide) (br_t rfl (br_f (by decide) (br_f (by rw [(hG (by decide)).1]; decide) E))))
theorem rl_ymodel_b {post : Int32 → Prop} {v1 v2 : Int32} (no : ¬ ∃ kd, kd ≤ 2 ∧ v1 = nI kd) (hp : post (-1)) : wpY_model post ((nI n), mc, mp, an, sz, he, gp, pd, dr) v1 v2 :=
  br_f (rl_nk no).1 (br_f (rl_nk no).2.1 (br_f (rl_nk no).2.2 hp))
theorem rl_ymodel_s {post : Int32 → Prop} {kd : Nat} {v2 : Int32} (hk2 : kd ≤ 2) (h0 : kd ≠ 0) (han : an = 0) (hp : post (-2)) : wpY_model post ((nI n), mc, mp, an, sz, he, gp, pd, dr) (nI kd) v2 := by
  unfold wpY_model wY_model_16
  dsimp only
  rcases (by omega : kd = 1 ∨ kd = 2) with z | z <;> subst z
  · exact br_f (by decide) (br_t rfl (br_f (by decide) (br_t han hp)))
  · exact br_f (by decide) (br_f (by decide) (br_t rfl (br_f (by decide) (br_t han hp))))
theorem rl_ymodel {post : Int32 → Prop} (hn : n ≤ 4) {kd : Nat} (hk2 : kd ≤ 2) (hG : kd ≠ 0 → an = 1 ∧ yw_Gr n (yw_H he) sz gp) {x : Int32} (h1 : ∀ a, a < 2 ^ n → yw_S n he pd kd a → x = nI (cn_c (yw_S n he pd kd) a) → post (nI a)) (h0 : (∀ a, a < 2 ^ n → yw_S n he pd kd a → ¬ x = nI (cn_c (yw_S n he pd kd) a)) → post (-5)) : wpY_model post ((nI n), mc, mp, an, sz, he, gp, pd, dr) (nI kd) x := by
  have E : ∃ n35, wY_model_35 post (nI kd) x (nI n) mc mp an sz he gp pd dr n35 0 0 := ⟨2 ^ n + 1, yw_model_35 hn hk2 (fun h => (hG h).2) h1 h0 (2 ^ n) 0 (by omega) (fun a ha => by omega)⟩
  unfold wpY_model wY_model_16
  dsimp only
  rcases (by omega : kd = 0 ∨ kd = 1 ∨ kd = 2) with z | z | z <;> subst z
  · exact br_t rfl (br_t rfl E)
  · exact br_f (by decide) (br_t rfl (br_f (by decide) (br_f (by rw [(hG (by decide)).1]; decide) E)))
  · exact br_f (by decide) (br_f (by decide) (br_t rfl (br_f (by decide) (br_f (by rw [(hG (by decide)).1]; decide) E))))
end
theorem i_vc_models {k : Nat} {u : SX} {v : SY} (I : i_Rel k u v) (hk : k + 4 ≤ 2051) (v1 : Int32) : wpX_models (fun r u' => wpY_models (fun r' => r' = r ∧ i_Rel (k + 4) u' v) v v1) u v1 := by
  refine rl_el (P := fun u v => wpX_models (fun r u' => wpY_models (fun r' => r' = r ∧ i_Rel (k + 4) u' v) v v1) u v1) ?_ I
  intro n cc c0 p0 p d1 d2 d3 d4 d5 an gc ql re sz pe ma pi si ob co fr qu tu le he gp pd dr F
  have F0 := F
  obtain ⟨h1n, hn, hc0, hp0, han, hH, hM, hcc, hpc, hpp, hPi, hd, hT, hA, hZ⟩ := F
  have h16 := xi_p16 hn
  unfold wpX_models
  dsimp only
  refine rl_checkKind han v1 (fun no => br_f (by decide) (rl_ymodels_b no ⟨rfl, rl_in F0⟩)) (fun kd hkd e h0 ha => br_f (by decide) ?_) (fun kd hkd e hk1 => br_t rfl ?_)
  · subst e
    exact rl_ymodels_s hkd h0 ha ⟨rfl, rl_in F0⟩
  · subst e
    refine xm_modelSet h1n hn hH hM hkd (fun h => (hA (hk1 h)).1) hT hpc (by omega) hPi (fun h => (hA (hk1 h)).2.2) (fun pe' r hr fh => ?_)
    dsimp only
    refine xw_bitCount (rl_ymodels hn hkd (fun h => ⟨hk1 h, (hA (hk1 h)).2.1⟩) ⟨?_, rl_in (rl_F_pe F0 fh)⟩)
    rw [rl_cnt hn hr (Nat.le_refl _), show min 16 (2 ^ n) = 2 ^ n from by omega]
    rfl
theorem i_vc_model {k : Nat} {u : SX} {v : SY} (I : i_Rel k u v) (hk : k + 4 ≤ 2051) (v1 : Int32) (v2 : Int32) : wpX_model (fun r u' => wpY_model (fun r' => r' = r ∧ i_Rel (k + 4) u' v) v v1 v2) u v1 v2 := by
  refine rl_el (P := fun u v => wpX_model (fun r u' => wpY_model (fun r' => r' = r ∧ i_Rel (k + 4) u' v) v v1 v2) u v1 v2) ?_ I
  intro n cc c0 p0 p d1 d2 d3 d4 d5 an gc ql re sz pe ma pi si ob co fr qu tu le he gp pd dr F
  have F0 := F
  obtain ⟨h1n, hn, hc0, hp0, han, hH, hM, hcc, hpc, hpp, hPi, hd, hT, hA, hZ⟩ := F
  have h16 := xi_p16 hn
  unfold wpX_model
  dsimp only
  refine rl_checkKind han v1 (fun no => br_f (by decide) (rl_ymodel_b no ⟨rfl, rl_in F0⟩)) (fun kd hkd e h0 ha => br_f (by decide) ?_) (fun kd hkd e hk1 => br_t rfl ?_)
  · subst e
    exact rl_ymodel_s hkd h0 ha ⟨rfl, rl_in F0⟩
  · subst e
    refine xm_modelSet h1n hn hH hM hkd (fun h => (hA (hk1 h)).1) hT hpc (by omega) hPi (fun h => (hA (hk1 h)).2.2) (fun pe' r hr fh => ?_)
    dsimp only
    have R := rl_in (k := k + 4) (d1 := d1) (d2 := d2) (d3 := d3) (d4 := d4) (d5 := d5) (gc := gc) (ql := ql) (re := re) (co := co) (fr := fr) (qu := qu) (rl_F_pe F0 fh)
    have hG : kd ≠ 0 → an = 1 ∧ yw_Gr n (yw_H he) sz gp := fun h => ⟨hk1 h, (hA (hk1 h)).2.1⟩
    have hr2 : ∀ a, a < 32 → (bt r a = true ↔ a < 2 ^ n ∧ yw_S n he pd kd a) := hr
    have c16 : cn_c (fun i => bt r i = true) 16 = cn_c (yw_S n he pd kd) (2 ^ n) := by
      rw [rl_cnt hn hr2 (Nat.le_refl _), show min 16 (2 ^ n) = 2 ^ n from by omega]
    have cle : cn_c (yw_S n he pd kd) (2 ^ n) ≤ 2 ^ n := cn_leN _ _
    have lt : ∀ a, a < 2 ^ n → yw_S n he pd kd a → cn_c (yw_S n he pd kd) a < cn_c (yw_S n he pd kd) (2 ^ n) := fun a h1 h2 => cn_lt h1 h2
    rcases pk_ix v2 (n := cn_c (yw_S n he pd kd) (2 ^ n)) (by omega) with z | z | z
    · refine br_t z (rl_ymodel hn hkd hG (fun a a1 a2 e => ?_) (fun _ => ⟨rfl, R⟩))
      have := lt a a1 a2
      rw [e] at z
      exact absurd z (nI_pos (by omega))
    · have nz : ¬ v2 < 0 := Int32.not_lt.mpr (Int32.le_trans (nI_pos' (n := cn_c (yw_S n he pd kd) (2 ^ n)) (by omega)) z)
      refine br_f nz (xw_bitCount ?_)
      rw [c16]
      refine br_f (Int32.not_lt.mpr z) (rl_ymodel hn hkd hG (fun a a1 a2 e => ?_) (fun _ => ⟨rfl, R⟩))
      have := lt a a1 a2
      rw [e] at z
      exact absurd z (nI_ge this (by omega))
    · obtain ⟨j, hj, e⟩ := z
      subst e
      obtain ⟨a, a1, a2, a3⟩ := cn_sur hj
      refine br_f (nI_pos (by omega)) (xw_bitCount ?_)
      rw [c16]
      refine br_t (nI_lt hj (by omega)) (xw_nthBit (r := a) (by omega) ((hr2 a (by omega)).mpr ⟨a1, a2⟩) ?_ (rl_ymodel hn hkd hG (fun b b1 b2 e => ⟨?_, R⟩) (fun no => absurd (by rw [a3]) (no a a1 a2))))
      · rw [rl_cnt hn hr2 (by omega), show min a (2 ^ n) = a from by omega, a3]
      · have := lt b b1 b2
        have e2 := (nI_eq (by omega) (by omega)).mp e
        rw [cn_uniq b2 a2 (e2.symm.trans a3.symm)]
end
