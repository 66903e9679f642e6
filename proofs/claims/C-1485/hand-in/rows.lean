section
theorem pk_us {f : Nat → Int32} {k : Nat} {x : Int32} : upd f k x k = x := if_pos rfl
theorem pk_un {f : Nat → Int32} {k j : Nat} {x : Int32} (h : j ≠ k) : upd f k x j = f j := if_neg h
theorem pk_uLs {f : Nat → Int64} {k : Nat} {x : Int64} : vp_updL f k x k = x := if_pos rfl
theorem pk_uLn {f : Nat → Int64} {k j : Nat} {x : Int64} (h : j ≠ k) : vp_updL f k x j = f j := if_neg h
theorem pk_sub {a b : Nat} (h : b ≤ a) : nI a - nI b = nI (a - b) := by
  obtain ⟨c, rfl⟩ : ∃ c, a = c + b := ⟨a - b, by omega⟩
  rw [← nI_add, Int32.add_sub_cancel, Nat.add_sub_cancel]
theorem pk_m1 (n : Nat) : nI (n + 1) + (-1) = nI n := by
  rw [← nI_1, Int32.add_assoc, show (1 : Int32) + (-1) = 0 from rfl, Int32.add_zero]
theorem pk_mul (a b : Nat) : nI a * nI b = nI (a * b) := (Int32.ofNat_mul a b).symm
theorem pk_div {a d : Nat} (ha : a < 2 ^ 31) (h0 : 0 < d) (hd : d < 2 ^ 31) : nI a / nI d = nI (a / d) := by
  apply Int32.toInt_inj.mp
  rw [lg_idiv_nonneg (by rw [nI_toInt ha]; omega) (by rw [nI_toInt hd]; omega), nI_toInt ha, nI_toInt hd, nI_toInt (Nat.lt_of_le_of_lt (Nat.div_le_self a d) ha)]
  first | rfl | exact (Int.natCast_ediv _ _).symm
theorem pk_rem {a d : Nat} (ha : a < 2 ^ 31) (h0 : 0 < d) (hd : d < 2 ^ 31) : nI a - nI a / nI d * nI d = nI (a % d) := by
  rw [pk_div ha h0 hd, pk_mul, pk_sub (Nat.div_mul_le_self a d)]
  exact congrArg nI (by have := Nat.div_add_mod' a d; omega)
theorem pk_sub_toInt {a b : Nat} (ha : a < 2 ^ 30) (hb : b < 2 ^ 30) : (nI a - nI b).toInt = (a : Int) - b := by
  rw [Int32.toInt_sub, nI_toInt (by omega), nI_toInt (by omega)]
  exact Int.bmod_eq_of_le (by omega) (by omega)
theorem pk_sneg {a b : Nat} (hb : b < 2 ^ 30) (h : a < b) : nI a - nI b < 0 := by
  rw [Int32.lt_iff_toInt_lt, pk_sub_toInt (by omega) hb, show (0 : Int32).toInt = 0 from by decide]
  omega
theorem pk_ix (x : Int32) {n : Nat} (hn : n < 2 ^ 31) : x < 0 ∨ nI n ≤ x ∨ ∃ j : Nat, j < n ∧ x = nI j := by
  by_cases h : x < 0
  · exact Or.inl h
  · obtain ⟨j, hj, rfl⟩ := nI_of h
    by_cases h2 : j < n
    · exact Or.inr (Or.inr ⟨j, h2, rfl⟩)
    · exact Or.inr (Or.inl (nI_le (by omega) hj))
theorem pk_le {x y : Int32} {A B : Prop} (a b : Nat) (f : a ≤ b → A) (g : b < a → B) (hx : x = nI a := by rfl) (hy : y = nI b := by rfl) (ha : a < 2 ^ 31 := by omega) (hb : b < 2 ^ 31 := by omega) : (x ≤ y → A) ∧ (¬ x ≤ y → B) := by
  subst hx hy
  rw [nI_leI ha hb]
  exact ⟨f, fun z => g (by omega)⟩
theorem pk_lt {x y : Int32} {A B : Prop} (a b : Nat) (f : a < b → A) (g : b ≤ a → B) (hx : x = nI a := by rfl) (hy : y = nI b := by rfl) (ha : a < 2 ^ 31 := by omega) (hb : b < 2 ^ 31 := by omega) : (x < y → A) ∧ (¬ x < y → B) := by
  subst hx hy
  rw [nI_ltI ha hb]
  exact ⟨f, fun z => g (by omega)⟩
theorem pk_eq {x y : Int32} {A B : Prop} (a b : Nat) (f : a = b → A) (g : a ≠ b → B) (hx : x = nI a := by rfl) (hy : y = nI b := by rfl) (ha : a < 2 ^ 31 := by omega) (hb : b < 2 ^ 31 := by omega) : (x = y → A) ∧ (¬ x = y → B) := by
  subst hx hy
  rw [nI_eq ha hb]
  exact ⟨f, g⟩
theorem pk_in {x : Int32} (n N : Nat) (h : n < N) (hx : x = nI n := by rfl) (hN : N < 2 ^ 31 := by omega) : vp_in x N := by
  subst hx
  exact vp_in_nI h hN
theorem pk_cl {x : Int32} (n : Nat) (hx : x = nI n := by rfl) (h : n < 2 ^ 31 := by omega) : x.toNatClampNeg = n := by
  subst hx
  exact nI_clamp h
theorem pk_tn {n : Nat} (h : n < 2 ^ 32) : (nI n).toBitVec.toNat = n := Nat.mod_eq_of_lt h
theorem pk_and (x : Int32) {m : Int32} (k : Nat) (hm : m.toBitVec.toNat = 2 ^ k - 1) : x &&& m = nI (x.toBitVec.toNat % 2 ^ k) := by
  apply Int32.toBitVec_inj.mp
  apply BitVec.eq_of_toNat_eq
  rw [Int32.toBitVec_and, BitVec.toNat_and, hm, Nat.and_two_pow_sub_one_eq_mod]
  show _ = (BitVec.ofNat 32 _).toNat
  rw [BitVec.toNat_ofNat]
  exact (Nat.mod_eq_of_lt (Nat.lt_of_le_of_lt (Nat.mod_le _ _) x.toBitVec.isLt)).symm
theorem pk_andN {n : Nat} (h : n < 2 ^ 32) {m : Int32} (k : Nat) (hm : m.toBitVec.toNat = 2 ^ k - 1) : nI n &&& m = nI (n % 2 ^ k) := by
  rw [pk_and _ k hm, pk_tn h]
theorem pk_andE (x : Int32) {m : Int32} (k : Nat) (hm : m.toBitVec.toNat = 2 ^ k - 1) : ∃ j : Nat, j < 2 ^ k ∧ x &&& m = nI j := ⟨_, Nat.mod_lt _ (Nat.two_pow_pos k), pk_and x k hm⟩
theorem pk_andIn (x : Int32) {m : Int32} (k : Nat) (hm : m.toBitVec.toNat = 2 ^ k - 1) (hk : k ≤ 30) : vp_in (x &&& m) (2 ^ k) := by
  obtain ⟨j, hj, e⟩ := pk_andE x k hm
  rw [e]
  exact vp_in_nI hj (Nat.lt_of_le_of_lt (Nat.pow_le_pow_right (by decide) hk) (by decide))
theorem pk_shl (a s : Int32) (k : Nat) (hs : (s.toBitVec.smod 32).toNat = k) : (a <<< s).toBitVec.toNat = a.toBitVec.toNat * 2 ^ k % 2 ^ 32 := by
  show (a.toBitVec <<< (s.toBitVec.smod 32).toNat).toNat = _
  rw [hs, BitVec.toNat_shiftLeft, Nat.shiftLeft_eq]
theorem pk_shlN {n : Nat} (s : Int32) (k : Nat) (hs : (s.toBitVec.smod 32).toNat = k) (h : n * 2 ^ k < 2 ^ 32) : nI n <<< s = nI (n * 2 ^ k) := by
  apply Int32.toBitVec_inj.mp
  apply BitVec.eq_of_toNat_eq
  have hn : n < 2 ^ 32 := Nat.lt_of_le_of_lt (Nat.le_mul_of_pos_right n (Nat.two_pow_pos k)) h
  rw [pk_shl _ _ k hs, pk_tn hn, pk_tn h, Nat.mod_eq_of_lt h]
theorem pk_shr (a s : Int32) (k : Nat) (hs : (s.toBitVec.smod 32).toNat = k) : (a >>> s).toInt = a.toInt >>> k := by
  show (a.toBitVec.sshiftRight (s.toBitVec.smod 32).toNat).toInt = _
  rw [hs, BitVec.toInt_sshiftRight]
  rfl
theorem pk_shrN {n : Nat} (h : n < 2 ^ 31) (s : Int32) (k : Nat) (hs : (s.toBitVec.smod 32).toNat = k) : nI n >>> s = nI (n / 2 ^ k) := by
  apply Int32.toInt_inj.mp
  have h2 : n / 2 ^ k ≤ n := Nat.div_le_self _ _
  rw [pk_shr _ _ k hs, nI_toInt h, nI_toInt (by omega), Int.shiftRight_eq_div_pow]
  rfl
theorem pk_ushr (x s : Int32) (k : Nat) (hs : ((s.toUInt32 &&& Int32.toUInt32 31).toBitVec % 32).toNat = k) : (x.toUInt32 >>> (s.toUInt32 &&& Int32.toUInt32 31)).toInt32.toBitVec.toNat = x.toBitVec.toNat / 2 ^ k := by
  have e : (x.toUInt32 >>> (s.toUInt32 &&& Int32.toUInt32 31)).toInt32.toBitVec = x.toBitVec >>> k := by
    rw [← hs]
    exact UInt32.toBitVec_shiftRight _ _
  rw [e, BitVec.toNat_ushiftRight, Nat.shiftRight_eq_div_pow]
theorem pk_ushrN {n : Nat} (hn : n < 2 ^ 32) (s : Int32) (k : Nat) (hs : ((s.toUInt32 &&& Int32.toUInt32 31).toBitVec % 32).toNat = k) : ((nI n).toUInt32 >>> (s.toUInt32 &&& Int32.toUInt32 31)).toInt32 = nI (n / 2 ^ k) := by
  apply Int32.toBitVec_inj.mp
  apply BitVec.eq_of_toNat_eq
  rw [pk_ushr _ s k hs, pk_tn hn, pk_tn (Nat.lt_of_le_of_lt (Nat.div_le_self _ _) hn)]
theorem pk_nb (z : Int32) : narrow .byte (.int z.toInt8.toInt32) = .int z.toInt8.toInt32 := congrArg Value.int (by simp)
theorem pk_ns (z : Int32) : narrow .short (.int z.toInt16.toInt32) = .int z.toInt16.toInt32 := congrArg Value.int (by simp)
theorem pk_fb (r : Int32) : fits .byte (.int r.toInt8.toInt32) = true := by
  have ⟨a, b⟩ := lg_i2b_range r
  have h1 : (-128 : Int32).toInt = -128 := by decide
  have h2 : (127 : Int32).toInt = 127 := by decide
  simp only [fits, Bool.and_eq_true, decide_eq_true_eq, Int32.le_iff_toInt_le, h1, h2]
  omega
theorem pk_fs (r : Int32) : fits .short (.int r.toInt16.toInt32) = true := by
  have ⟨a, b⟩ := lg_i2s_range r
  have h1 : (-32768 : Int32).toInt = -32768 := by decide
  have h2 : (32767 : Int32).toInt = 32767 := by decide
  simp only [fits, Bool.and_eq_true, decide_eq_true_eq, Int32.le_iff_toInt_le, h1, h2]
  omega
theorem pk_vb (z : Int32) : vp_nar .byte z.toInt8.toInt32 = z.toInt8.toInt32 := by rw [vp_nar_byte]; simp
theorem pk_vs (z : Int32) : vp_nar .short z.toInt16.toInt32 = z.toInt16.toInt32 := by rw [vp_nar_short]; simp
theorem pk_least (P : Nat → Prop) (h : ∃ k, P k) : ∃ k, P k ∧ ∀ j, j < k → ¬ P j := by
  obtain ⟨k, hk⟩ := h
  induction k using Nat.strongRecOn with
  | ind k ih =>
    by_cases e : ∃ j, j < k ∧ P j
    · obtain ⟨j, hj, pj⟩ := e
      exact ih j hj pj
    · exact ⟨k, hk, fun j hj pj => e ⟨j, hj, pj⟩⟩
def bt (x : Int32) (i : Nat) : Bool := x.toBitVec.getLsbD i
theorem b_ext {x y : Int32} (h : ∀ i, i < 32 → bt x i = bt y i) : x = y := Int32.toBitVec_inj.mp (BitVec.eq_of_getLsbD_eq (fun i hi => h i hi))
theorem b_or (x y : Int32) (i : Nat) : bt (x ||| y) i = (bt x i || bt y i) := by unfold bt; rw [Int32.toBitVec_or, BitVec.getLsbD_or]
theorem b_and (x y : Int32) (i : Nat) : bt (x &&& y) i = (bt x i && bt y i) := by unfold bt; rw [Int32.toBitVec_and, BitVec.getLsbD_and]
theorem b_xor (x y : Int32) (i : Nat) : bt (x ^^^ y) i = (bt x i ^^ bt y i) := by unfold bt; rw [Int32.toBitVec_xor, BitVec.getLsbD_xor]
theorem b_big {x : Int32} {i : Nat} (h : 32 ≤ i) : bt x i = false := BitVec.getLsbD_of_ge _ _ h
theorem b_0 (i : Nat) : bt 0 i = false := BitVec.getLsbD_zero
theorem s_l : ∀ n, n < 32 → ((nI n &&& 31).toBitVec.smod 32).toNat = n := by decide +kernel
theorem b_shl (n : Nat) (hn : n < 32) (x : Int32) {i : Nat} (hi : i < 32) : bt (x <<< (nI n &&& 31)) i = (decide (n ≤ i) && bt x (i - n)) := by
  unfold bt
  rw [Int32.toBitVec_shiftLeft]
  show (x.toBitVec <<< ((nI n &&& 31).toBitVec.smod 32).toNat).getLsbD i = _
  rw [s_l n hn, BitVec.getLsbD_shiftLeft]
  rcases Nat.lt_or_ge i n with h | h
  · simp [h, Nat.not_le.mpr h]
  · simp [hi, h, Nat.not_lt.mpr h]
theorem b_sshr (n : Nat) (hn : n < 32) (x : Int32) {i : Nat} (hi : i < 32) : bt (x >>> (nI n &&& 31)) i = if n + i < 32 then bt x (n + i) else bt x 31 := by
  unfold bt
  rw [Int32.toBitVec_shiftRight]
  show (x.toBitVec.sshiftRight ((nI n &&& 31).toBitVec.smod 32).toNat).getLsbD i = _
  rw [s_l n hn, BitVec.getLsbD_sshiftRight, BitVec.msb_eq_getLsbD_last]
  simp [hi]
theorem ts_nf {x : Bool} (h : ¬ x = false) : x = true := by cases x <;> first | rfl | exact absurd rfl h
theorem ts_nt {x : Bool} (h : ¬ x = true) : x = false := by cases x <;> first | rfl | exact absurd rfl h
theorem wb_tb (n : Nat) : (lN n).toBitVec = BitVec.ofNat 64 n := rfl
theorem wb_inj {a b : Int64} (h : a.toBitVec = b.toBitVec) : a = b := Int64.toBitVec_inj.mp h
theorem wb_tn {n : Nat} (h : n < 2 ^ 64) : (lN n).toBitVec.toNat = n := by rw [wb_tb, BitVec.toNat_ofNat, Nat.mod_eq_of_lt h]
theorem wb_of (x : Int64) : ∃ n, n < 2 ^ 64 ∧ x = lN n := ⟨x.toBitVec.toNat, x.toBitVec.isLt, wb_inj (by rw [wb_tb]; simp)⟩
theorem wb_of32 (x : Int32) : ∃ n, n < 2 ^ 32 ∧ x = nI n := ⟨x.toBitVec.toNat, x.toBitVec.isLt, Int32.toBitVec_inj.mp (by show _ = BitVec.ofNat 32 _; simp)⟩
theorem wb_c : ∀ k, k < 64 → ((nI k).toInt64 &&& 63) = lN k := by decide +kernel
theorem wb_cu : ∀ k, k < 64 → ((nI k).toInt64.toUInt64 &&& Int64.toUInt64 63) = UInt64.ofNat k := by decide +kernel
theorem wb_sm : ∀ k, k < 64 → (BitVec.ofNat 64 k).smod 64 = BitVec.ofNat 64 k := by decide +kernel
theorem wb_pw {a b : Nat} (h : a ≤ b) : 2 ^ b = 2 ^ a * 2 ^ (b - a) := by rw [← Nat.pow_add]; congr 1; omega
theorem wb_lt2 {a b : Nat} (h : a < b) : 2 ^ a < 2 ^ b := Nat.pow_lt_pow_right (by decide) h
theorem wb_mod (n : Nat) : lN n = lN (n % 2 ^ 64) := wb_inj (by rw [wb_tb, wb_tb]; apply BitVec.eq_of_toNat_eq; rw [BitVec.toNat_ofNat, BitVec.toNat_ofNat, Nat.mod_mod])
theorem wb_shr {n k : Nat} (hn : n < 2 ^ 64) (hk : k < 64) : ((lN n).toUInt64 >>> ((nI k).toInt64.toUInt64 &&& Int64.toUInt64 63)).toInt64 = lN (n / 2 ^ k) := by
  rw [wb_cu k hk]
  apply wb_inj
  apply BitVec.eq_of_toNat_eq
  show ((lN n).toUInt64 >>> UInt64.ofNat k).toNat = (BitVec.ofNat 64 _).toNat
  have h1 : (UInt64.ofNat k).toNat = k := by
    show (BitVec.ofNat 64 k).toNat = k
    rw [BitVec.toNat_ofNat, Nat.mod_eq_of_lt (by omega)]
  have h2 : (lN n).toUInt64.toNat = n := wb_tn hn
  rw [UInt64.toNat_shiftRight, h1, h2, Nat.mod_eq_of_lt hk, Nat.shiftRight_eq_div_pow, BitVec.toNat_ofNat, Nat.mod_eq_of_lt (Nat.lt_of_le_of_lt (Nat.div_le_self _ _) hn)]
theorem wb_shl (n : Nat) {k : Nat} (hk : k < 64) : lN n <<< ((nI k).toInt64 &&& 63) = lN (n * 2 ^ k) := by
  rw [wb_c k hk]
  apply wb_inj
  rw [Int64.toBitVec_shiftLeft, wb_tb, wb_tb, wb_tb, wb_sm k hk]
  apply BitVec.eq_of_toNat_eq
  rw [BitVec.shiftLeft_eq', BitVec.toNat_shiftLeft, BitVec.toNat_ofNat, BitVec.toNat_ofNat, BitVec.toNat_ofNat, Nat.mod_eq_of_lt (show k < 2 ^ 64 by omega), Nat.shiftLeft_eq, Nat.mul_mod, Nat.mod_mod, ← Nat.mul_mod]
noncomputable def b01 (P : Prop) : Nat := @ite Nat P (Classical.propDecidable P) 1 0
theorem b01_t {P : Prop} (h : P) : b01 P = 1 := by unfold b01; rw [if_pos h]
theorem b01_f {P : Prop} (h : ¬ P) : b01 P = 0 := by unfold b01; rw [if_neg h]
theorem b01_le (P : Prop) : b01 P ≤ 1 := by
  rcases Classical.em P with h | h
  · rw [b01_t h]; omega
  · rw [b01_f h]; omega
theorem b01_mono {P Q : Prop} (h : P → Q) : b01 P ≤ b01 Q := by
  rcases Classical.em P with hp | hp
  · rw [b01_t hp, b01_t (h hp)]; omega
  · rw [b01_f hp]; omega
noncomputable def cn (P : Nat → Prop) : Nat → Nat
  | 0 => 0
  | k + 1 => cn P k + b01 (P k)
theorem cn_mono {P Q : Nat → Prop} : ∀ {N : Nat}, (∀ k, k < N → P k → Q k) → cn P N ≤ cn Q N
  | 0, _ => Nat.le_refl _
  | N + 1, h => by
    have a := cn_mono (P := P) (Q := Q) (N := N) (fun k hk => h k (by omega))
    have b := b01_mono (h N (by omega))
    simp only [cn]; omega
theorem cn_lt {P Q : Nat → Prop} {a : Nat} (hp : ¬ P a) (hq : Q a) : ∀ {N : Nat}, (∀ k, k < N → P k → Q k) → a < N → cn P N < cn Q N
  | 0, _, h => by omega
  | N + 1, h, ha => by
    simp only [cn]
    rcases Nat.lt_or_ge a N with z | z
    · have x := cn_lt hp hq (N := N) (fun k hk => h k (by omega)) z
      have b := b01_mono (h N (by omega))
      omega
    · have e : a = N := by omega
      subst e
      have x := cn_mono (P := P) (Q := Q) (N := a) (fun k hk => h k (by omega))
      rw [b01_t hq, b01_f hp]; omega
theorem cn_le (P : Nat → Prop) : ∀ N, cn P N ≤ N
  | 0 => Nat.le_refl _
  | N + 1 => by have := cn_le P N; have := b01_le (P N); simp only [cn]; omega
theorem cn_eq {P Q : Nat → Prop} {N : Nat} (h : ∀ k, k < N → (P k ↔ Q k)) : cn P N = cn Q N :=
  Nat.le_antisymm (cn_mono fun k hk => (h k hk).mp) (cn_mono fun k hk => (h k hk).mpr)
theorem cn_add {P : Nat → Prop} {a : Nat} (hp : ¬ P a) : ∀ {N : Nat}, a < N → cn (fun k => P k ∨ k = a) N = cn P N + 1
  | 0, h => by omega
  | N + 1, h => by
    simp only [cn]
    rcases Nat.lt_or_ge a N with z | z
    · rw [cn_add hp z]
      have : b01 (P N ∨ N = a) = b01 (P N) := Nat.le_antisymm (b01_mono fun q => q.elim id (fun e => by omega)) (b01_mono Or.inl)
      omega
    · have e : a = N := by omega
      subst e
      rw [cn_eq (P := fun k => P k ∨ k = a) (Q := P) (fun k hk => ⟨fun q => q.elim id (fun e => by omega), Or.inl⟩), b01_t (Or.inr rfl), b01_f hp]
end
section
/-! sets of states as two words -/
def bl (w : Int64) (j : Nat) : Bool := w.toBitVec.getLsbD j
theorem bl_or (x y : Int64) (i : Nat) : bl (x ||| y) i = (bl x i || bl y i) := by unfold bl; rw [Int64.toBitVec_or, BitVec.getLsbD_or]
theorem bl_and (x y : Int64) (i : Nat) : bl (x &&& y) i = (bl x i && bl y i) := by unfold bl; rw [Int64.toBitVec_and, BitVec.getLsbD_and]
theorem bl_xor (x y : Int64) (i : Nat) : bl (x ^^^ y) i = (bl x i ^^ bl y i) := by unfold bl; rw [Int64.toBitVec_xor, BitVec.getLsbD_xor]
theorem bl_0 (i : Nat) : bl 0 i = false := BitVec.getLsbD_zero
theorem bl_big {x : Int64} {i : Nat} (h : 64 ≤ i) : bl x i = false := BitVec.getLsbD_of_ge _ _ h
theorem bl_ext {x y : Int64} (h : ∀ i, i < 64 → bl x i = bl y i) : x = y := Int64.toBitVec_inj.mp (BitVec.eq_of_getLsbD_eq (fun i hi => h i hi))
theorem bl_z {x : Int64} : x = 0 ↔ ∀ i, i < 64 → bl x i = false := by
  constructor
  · intro h i _; rw [h]; exact bl_0 i
  · intro h; exact bl_ext fun i hi => by rw [h i hi, bl_0]
theorem bl_m1 : ∀ i, i < 64 → bl (-1) i = true := by decide +kernel
theorem bl_c1 : ∀ i, i < 64 → bl 1 i = decide (i = 0) := by decide +kernel
theorem bl_not (x : Int64) {i : Nat} (hi : i < 64) : bl (x ^^^ (-1)) i = !bl x i := by rw [bl_xor, bl_m1 i hi]; cases bl x i <;> rfl
theorem bl_one {k : Nat} (hk : k < 64) (i : Nat) : bl ((1 : Int64) <<< ((nI k).toInt64 &&& 63)) i = decide (i = k) := by
  have e : (1 : Int64) <<< ((nI k).toInt64 &&& 63) = lN (2 ^ k) := by
    have h := wb_shl 1 hk
    rw [Nat.one_mul] at h
    exact h
  rw [e]
  show (BitVec.ofNat 64 (2 ^ k)).getLsbD i = _
  rw [BitVec.getLsbD_ofNat, Nat.testBit_two_pow]
  rcases Nat.lt_or_ge i 64 with h | h
  · simp [h, eq_comm]
  · have : ¬ i = k := by omega
    simp [this]
    omega
theorem bl_m63 {s : Nat} (hs : s < 128) : nI s &&& 63 = nI (s % 64) := pk_andN (n := s) (by omega) 6 (by decide)
theorem bl_on {s : Nat} (hs : s < 128) (i : Nat) : bl ((1 : Int64) <<< ((nI s &&& 63).toInt64 &&& 63)) i = decide (i = s % 64) := by
  rw [bl_m63 hs]; exact bl_one (by omega) i
theorem bl_a1 {y : Int64} : (y &&& 1) = 0 ↔ bl y 0 = false := by
  constructor
  · intro h
    have := congrArg (fun z => bl z 0) h
    simp only [bl_and, bl_c1 0 (by omega), bl_0] at this
    simpa using this
  · intro h
    refine bl_ext fun i hi => ?_
    rw [bl_and, bl_c1 i hi, bl_0]
    by_cases e : i = 0
    · rw [e, h]; rfl
    · simp [e]
theorem bl_a2 {y : Int64} : (y &&& 1) = 1 ↔ bl y 0 = true := by
  constructor
  · intro h
    have := congrArg (fun z => bl z 0) h
    simp only [bl_and, bl_c1 0 (by omega)] at this
    simpa using this
  · intro h
    refine bl_ext fun i hi => ?_
    rw [bl_and, bl_c1 i hi]
    by_cases e : i = 0
    · rw [e, h]; rfl
    · simp [e]
theorem bl_sh (w : Int64) {k : Nat} (hk : k < 64) : bl (w >>> ((nI k).toInt64 &&& 63)) 0 = bl w k := by
  unfold bl
  rw [wb_c k hk, Int64.toBitVec_shiftRight, wb_tb, wb_sm k hk]
  show (w.toBitVec.sshiftRight (BitVec.ofNat 64 k).toNat).getLsbD 0 = _
  rw [BitVec.toNat_ofNat, Nat.mod_eq_of_lt (by omega), BitVec.getLsbD_sshiftRight]
  simp [hk]
theorem bl_shr (w : Int64) {k : Nat} (hk : k < 64) : ((w >>> ((nI k).toInt64 &&& 63)) &&& 1) = 0 ↔ bl w k = false := by rw [bl_a1, bl_sh w hk]
theorem bl_shr1 (w : Int64) {k : Nat} (hk : k < 64) : ((w >>> ((nI k).toInt64 &&& 63)) &&& 1) = 1 ↔ bl w k = true := by rw [bl_a2, bl_sh w hk]
/-- s lies in the set of the two words -/
def iS (lo hi : Int64) (s : Nat) : Prop := s < 128 ∧ bl (if s < 64 then lo else hi) (s % 64) = true
theorem iS_lo {lo hi : Int64} {s : Nat} (h : s < 64) : iS lo hi s ↔ bl lo s = true := by
  unfold iS; rw [if_pos h, Nat.mod_eq_of_lt h]
  exact ⟨fun z => z.2, fun z => ⟨by omega, z⟩⟩
theorem iS_hi {lo hi : Int64} {s : Nat} (h : 64 ≤ s) (h2 : s < 128) : iS lo hi s ↔ bl hi (s - 64) = true := by
  have e : s % 64 = s - 64 := by omega
  unfold iS; rw [if_neg (by omega), e]
  exact ⟨fun z => z.2, fun z => ⟨h2, z⟩⟩
theorem iS_0 (s : Nat) : ¬ iS 0 0 s := by
  rintro ⟨_, h⟩
  rw [ite_self, bl_0] at h
  exact Bool.noConfusion h
theorem iS_or {a b c d : Int64} {s : Nat} : iS (a ||| c) (b ||| d) s ↔ iS a b s ∨ iS c d s := by
  unfold iS
  by_cases h : s < 64
  · simp only [if_pos h, bl_or, Bool.or_eq_true]
    exact ⟨fun ⟨p, q⟩ => q.elim (fun z => Or.inl ⟨p, z⟩) (fun z => Or.inr ⟨p, z⟩), fun z => z.elim (fun ⟨p, q⟩ => ⟨p, Or.inl q⟩) (fun ⟨p, q⟩ => ⟨p, Or.inr q⟩)⟩
  · simp only [if_neg h, bl_or, Bool.or_eq_true]
    exact ⟨fun ⟨p, q⟩ => q.elim (fun z => Or.inl ⟨p, z⟩) (fun z => Or.inr ⟨p, z⟩), fun z => z.elim (fun ⟨p, q⟩ => ⟨p, Or.inl q⟩) (fun ⟨p, q⟩ => ⟨p, Or.inr q⟩)⟩
theorem iS_and {a b c d : Int64} {s : Nat} : iS (a &&& c) (b &&& d) s ↔ iS a b s ∧ iS c d s := by
  unfold iS
  by_cases h : s < 64
  · simp only [if_pos h, bl_and, Bool.and_eq_true]
    exact ⟨fun ⟨p, q, r⟩ => ⟨⟨p, q⟩, ⟨p, r⟩⟩, fun ⟨⟨p, q⟩, ⟨_, r⟩⟩ => ⟨p, q, r⟩⟩
  · simp only [if_neg h, bl_and, Bool.and_eq_true]
    exact ⟨fun ⟨p, q, r⟩ => ⟨⟨p, q⟩, ⟨p, r⟩⟩, fun ⟨⟨p, q⟩, ⟨_, r⟩⟩ => ⟨p, q, r⟩⟩
theorem iS_lt {lo hi : Int64} {s : Nat} (h : iS lo hi s) : s < 128 := h.1
theorem iS_ex {lo hi : Int64} : (¬ lo = 0 ∨ ¬ hi = 0) ↔ ∃ s, iS lo hi s := by
  constructor
  · intro h
    rcases h with h | h
    · by_cases e : ∃ i, i < 64 ∧ bl lo i = true
      · obtain ⟨i, hi, z⟩ := e
        exact ⟨i, (iS_lo hi).mpr z⟩
      · exact absurd (bl_z.mpr fun i hi => by
          cases z : bl lo i
          · rfl
          · exact absurd ⟨i, hi, z⟩ e) h
    · by_cases e : ∃ i, i < 64 ∧ bl hi i = true
      · obtain ⟨i, h2, z⟩ := e
        refine ⟨i + 64, (iS_hi (by omega) (by omega)).mpr ?_⟩
        rw [Nat.add_sub_cancel]; exact z
      · exact absurd (bl_z.mpr fun i h2 => by
          cases z : bl hi i
          · rfl
          · exact absurd ⟨i, h2, z⟩ e) h
  · rintro ⟨s, h1, h2⟩
    by_cases e : s < 64
    · rw [if_pos e] at h2
      refine Or.inl fun z => ?_
      rw [z, bl_0] at h2; exact Bool.noConfusion h2
    · rw [if_neg e] at h2
      refine Or.inr fun z => ?_
      rw [z, bl_0] at h2; exact Bool.noConfusion h2
theorem iS_none {lo hi : Int64} : (lo ||| hi) = 0 ↔ ∀ s, ¬ iS lo hi s := by
  constructor
  · intro h s ⟨h1, h2⟩
    have hz := bl_z.mp h (s % 64) (by omega)
    rw [bl_or, Bool.or_eq_false_iff] at hz
    by_cases e : s < 64
    · rw [if_pos e, hz.1] at h2; exact Bool.noConfusion h2
    · rw [if_neg e, hz.2] at h2; exact Bool.noConfusion h2
  · intro h
    have a : lo = 0 := Classical.byContradiction fun z => (iS_ex.mp (Or.inl z)).elim fun s hs => h s hs
    have b : hi = 0 := Classical.byContradiction fun z => (iS_ex.mp (Or.inr z)).elim fun s hs => h s hs
    rw [a, b]; decide
theorem iS_pl {lo hi : Int64} {k s : Nat} (hk : k < 64) : iS (lo ||| ((1 : Int64) <<< ((nI k).toInt64 &&& 63))) hi s ↔ iS lo hi s ∨ s = k := by
  unfold iS
  by_cases h : s < 64
  · simp only [if_pos h, bl_or, Bool.or_eq_true, bl_one hk, Nat.mod_eq_of_lt h, decide_eq_true_eq]
    constructor
    · rintro ⟨p, q | q⟩
      · exact Or.inl ⟨p, q⟩
      · exact Or.inr q
    · rintro (⟨p, q⟩ | q)
      · exact ⟨p, Or.inl q⟩
      · exact ⟨by omega, Or.inr q⟩
  · simp only [if_neg h]
    constructor
    · exact Or.inl
    · rintro (q | q)
      · exact q
      · omega
theorem iS_ph {lo hi : Int64} {k s : Nat} (h64 : 64 ≤ k) (hk : k < 128) : iS lo (hi ||| ((1 : Int64) <<< ((nI k &&& 63).toInt64 &&& 63))) s ↔ iS lo hi s ∨ s = k := by
  unfold iS
  by_cases h : s < 64
  · simp only [if_pos h]
    constructor
    · exact Or.inl
    · rintro (q | q)
      · exact q
      · omega
  · simp only [if_neg h, bl_or, Bool.or_eq_true, bl_on hk, decide_eq_true_eq]
    constructor
    · rintro ⟨p, q | q⟩
      · exact Or.inl ⟨p, q⟩
      · exact Or.inr (by omega)
    · rintro (⟨p, q⟩ | q)
      · exact ⟨p, Or.inl q⟩
      · exact ⟨by omega, Or.inr (by omega)⟩
/-- a set within an array of words: the words i, i + 1 -/
def aS (f : Nat → Int64) (i s : Nat) : Prop := iS (f i) (f (i + 1)) s
theorem aS_put {f : Nat → Int64} {i k s : Nat} (hk : k < 128) : aS (vp_updL f (i + k / 64) (f (i + k / 64) ||| ((1 : Int64) <<< ((nI (k % 64)).toInt64 &&& 63)))) i s ↔ aS f i s ∨ s = k := by
  unfold aS
  rcases Nat.lt_or_ge k 64 with h | h
  · have e1 : k / 64 = 0 := by omega
    have e2 : k % 64 = k := by omega
    rw [e1, e2, Nat.add_zero, pk_uLs, pk_uLn (by omega)]
    exact iS_pl h
  · have e1 : k / 64 = 1 := by omega
    rw [e1, pk_uLs, pk_uLn (by omega), ← bl_m63 hk]
    exact iS_ph h hk
theorem aS_un {f : Nat → Int64} {i j s : Nat} {x : Int64} (h1 : i ≠ j) (h2 : i + 1 ≠ j) : aS (vp_updL f j x) i s ↔ aS f i s := by
  unfold aS
  rw [pk_uLn h1, pk_uLn h2]
theorem aS_2 {f : Nat → Int64} {i s : Nat} {x y : Int64} : aS (vp_updL (vp_updL f i x) (i + 1) y) i s ↔ iS x y s := by
  unfold aS
  rw [pk_uLs, pk_uLn (by omega), pk_uLs]
/-- removing one state -/
theorem aS_del {f : Nat → Int64} {i k s : Nat} (hk : k < 128) : aS (vp_updL f (i + k / 64) (f (i + k / 64) &&& (((1 : Int64) <<< ((nI (k % 64)).toInt64 &&& 63)) ^^^ (-1)))) i s ↔ aS f i s ∧ s ≠ k := by
  unfold aS iS
  have hs : s % 64 < 64 := Nat.mod_lt _ (by omega)
  rcases Nat.lt_or_ge k 64 with h | h
  · have e1 : k / 64 = 0 := by omega
    rw [e1, Nat.add_zero, pk_uLs, pk_uLn (by omega)]
    by_cases h6 : s < 64
    · rw [if_pos h6, if_pos h6, bl_and, bl_not _ hs, bl_one (by omega), Bool.and_eq_true, Bool.not_eq_true', decide_eq_false_iff_not]
      constructor
      · rintro ⟨p, q, r⟩; exact ⟨⟨p, q⟩, by omega⟩
      · rintro ⟨⟨p, q⟩, r⟩; exact ⟨p, q, by omega⟩
    · rw [if_neg h6, if_neg h6]
      exact ⟨fun z => ⟨z, by omega⟩, fun z => z.1⟩
  · have e1 : k / 64 = 1 := by omega
    rw [e1, pk_uLs, pk_uLn (by omega)]
    by_cases h6 : s < 64
    · rw [if_pos h6, if_pos h6]
      exact ⟨fun z => ⟨z, by omega⟩, fun z => z.1⟩
    · rw [if_neg h6, if_neg h6, bl_and, bl_not _ hs, bl_one (by omega), Bool.and_eq_true, Bool.not_eq_true', decide_eq_false_iff_not]
      constructor
      · rintro ⟨p, q, r⟩; exact ⟨⟨p, q⟩, by omega⟩
      · rintro ⟨⟨p, q⟩, r⟩; exact ⟨p, q, by omega⟩
/-- a word pair without one state: X's masks 'self' -/
theorem iS_sl {lo hi : Int64} {k s : Nat} (hk : k < 64) : iS (lo &&& (((1 : Int64) <<< ((nI k &&& 63).toInt64 &&& 63)) ^^^ (-1))) hi s ↔ iS lo hi s ∧ s ≠ k := by
  unfold iS
  have hs : s % 64 < 64 := Nat.mod_lt _ (by omega)
  by_cases h6 : s < 64
  · rw [if_pos h6, if_pos h6, bl_and, bl_not _ hs, bl_on (by omega), Bool.and_eq_true, Bool.not_eq_true', decide_eq_false_iff_not]
    constructor
    · rintro ⟨p, q, r⟩; exact ⟨⟨p, q⟩, by omega⟩
    · rintro ⟨⟨p, q⟩, r⟩; exact ⟨p, q, by omega⟩
  · rw [if_neg h6, if_neg h6]
    exact ⟨fun z => ⟨z, by omega⟩, fun z => z.1⟩
theorem iS_sh {lo hi : Int64} {k s : Nat} (h64 : 64 ≤ k) (hk : k < 128) : iS lo (hi &&& (((1 : Int64) <<< ((nI k &&& 63).toInt64 &&& 63)) ^^^ (-1))) s ↔ iS lo hi s ∧ s ≠ k := by
  unfold iS
  have hs : s % 64 < 64 := Nat.mod_lt _ (by omega)
  by_cases h6 : s < 64
  · rw [if_pos h6, if_pos h6]
    exact ⟨fun z => ⟨z, by omega⟩, fun z => z.1⟩
  · rw [if_neg h6, if_neg h6, bl_and, bl_not _ hs, bl_on (by omega), Bool.and_eq_true, Bool.not_eq_true', decide_eq_false_iff_not]
    constructor
    · rintro ⟨p, q, r⟩; exact ⟨⟨p, q⟩, by omega⟩
    · rintro ⟨⟨p, q⟩, r⟩; exact ⟨p, q, by omega⟩
/-! masks of four actions -/
def mb (x : Int32) (p : Nat → Prop) : Prop := ∀ i, bt x i = true ↔ i < 4 ∧ p i
theorem mb_u {x y : Int32} {p : Nat → Prop} (h : mb x p) (k : mb y p) : x = y := b_ext fun i _ => by
  have a := h i
  have b := k i
  cases hx : bt x i <;> cases hy : bt y i
  · rfl
  · exact absurd (a.mpr (b.mp hy)) (by rw [hx]; exact Bool.noConfusion)
  · exact absurd (b.mpr (a.mp hx)) (by rw [hy]; exact Bool.noConfusion)
  · rfl
theorem mb_c {x : Int32} {p q : Nat → Prop} (h : mb x p) (e : ∀ i, i < 4 → (p i ↔ q i)) : mb x q := fun i => (h i).trans ⟨fun z => ⟨z.1, (e i z.1).mp z.2⟩, fun z => ⟨z.1, (e i z.1).mpr z.2⟩⟩
theorem mb_0 {p : Nat → Prop} (h : ∀ i, i < 4 → ¬ p i) : mb 0 p := fun i => by
  rw [b_0]; exact ⟨fun z => Bool.noConfusion z, fun z => absurd z.2 (h i z.1)⟩
theorem b_one {a : Nat} (ha : a < 4) (i : Nat) : bt ((1 : Int32) <<< (nI a &&& 31)) i = decide (i = a) := by
  rcases Nat.lt_or_ge i 32 with h | h
  · exact (by decide +kernel : ∀ a, a < 4 → ∀ i, i < 32 → bt ((1 : Int32) <<< (nI a &&& 31)) i = decide (i = a)) a ha i h
  · rw [b_big h, decide_eq_false (by omega)]
theorem mb_or {x : Int32} {p : Nat → Prop} {a : Nat} (ha : a < 4) (h : mb x p) : mb (x ||| ((1 : Int32) <<< (nI a &&& 31))) (fun i => p i ∨ i = a) := fun i => by
  rw [b_or, b_one ha, Bool.or_eq_true, decide_eq_true_eq, h i]
  exact ⟨fun z => z.elim (fun z => ⟨z.1, Or.inl z.2⟩) (fun z => ⟨by omega, Or.inr z⟩), fun z => z.2.elim (fun y => Or.inl ⟨z.1, y⟩) Or.inr⟩
theorem mb_k {x : Int32} {p : Nat → Prop} (h : mb x p) : ∃ k, k < 16 ∧ x = nI k := by
  refine ⟨x.toBitVec.toNat, ?_, ?_⟩
  · apply Nat.lt_pow_two_of_testBit (n := 4)
    intro i hi
    have := h i
    unfold bt at this
    rw [BitVec.testBit_toNat]
    cases e : x.toBitVec.getLsbD i
    · rfl
    · exact absurd (this.mp e).1 (by omega)
  · exact Int32.toBitVec_inj.mp (by show _ = BitVec.ofNat 32 _; simp)
theorem nar16 : ∀ k, k < 16 → (nI k).toInt8.toInt32 = nI k := by decide +kernel
theorem mb_n {x : Int32} {p : Nat → Prop} (h : mb x p) : vp_nar .byte (x.toInt8.toInt32) = x := by
  obtain ⟨k, hk, rfl⟩ := mb_k h
  rw [pk_vb, nar16 k hk]
theorem b_1 : ∀ i, i < 32 → bt 1 i = decide (i = 0) := by decide +kernel
theorem b_a1 {y : Int32} : (y &&& 1) = 0 ↔ bt y 0 = false := by
  constructor
  · intro h
    have := congrArg (fun z => bt z 0) h
    simp only [b_and, b_1 0 (by omega), b_0] at this
    simpa using this
  · intro h
    refine b_ext fun i hi => ?_
    rw [b_and, b_1 i hi, b_0]
    by_cases e : i = 0
    · rw [e, h]; rfl
    · simp [e]
theorem b_bit {x : Int32} {a : Nat} (ha : a < 4) : ((x >>> (nI a &&& 31)) &&& 1) = 0 ↔ bt x a = false := by
  rw [b_a1, b_sshr a (by omega) x (by omega), if_pos (by omega), Nat.add_zero]
theorem mb_t {x : Int32} {p : Nat → Prop} {a : Nat} (ha : a < 4) (h : mb x p) : ((x >>> (nI a &&& 31)) &&& 1) = 0 ↔ ¬ p a := by
  rw [b_bit ha]
  constructor
  · intro z y
    rw [(h a).mpr ⟨ha, y⟩] at z; exact Bool.noConfusion z
  · intro z
    cases e : bt x a
    · rfl
    · exact absurd ((h a).mp e).2 z
theorem mb_and {x y : Int32} {p q : Nat → Prop} (h : mb x p) (k : mb y q) : mb (x &&& y) (fun i => p i ∧ q i) := fun i => by
  rw [b_and, Bool.and_eq_true, h i, k i]
  exact ⟨fun z => ⟨z.1.1, z.1.2, z.2.2⟩, fun z => ⟨⟨z.1, z.2.1⟩, ⟨z.1, z.2.2⟩⟩⟩
theorem mb_oo {x y : Int32} {p q : Nat → Prop} (h : mb x p) (k : mb y q) : mb (x ||| y) (fun i => p i ∨ q i) := fun i => by
  rw [b_or, Bool.or_eq_true, h i, k i]
  exact ⟨fun z => z.elim (fun z => ⟨z.1, Or.inl z.2⟩) (fun z => ⟨z.1, Or.inr z.2⟩), fun z => z.2.elim (fun y => Or.inl ⟨z.1, y⟩) (fun y => Or.inr ⟨z.1, y⟩)⟩
theorem mb_15 : mb 15 (fun _ => True) := fun i => by
  rcases Nat.lt_or_ge i 32 with h | h
  · rw [(by decide +kernel : ∀ i, i < 32 → bt 15 i = decide (i < 4)) i h, decide_eq_true_eq]
    exact ⟨fun z => ⟨z, trivial⟩, fun z => z.1⟩
  · rw [b_big h]
    exact ⟨fun z => Bool.noConfusion z, fun z => by omega⟩
theorem mb_z {x : Int32} {p : Nat → Prop} (h : mb x p) : x = 0 ↔ ∀ i, i < 4 → ¬ p i := by
  constructor
  · intro e i hi z
    have := (h i).mpr ⟨hi, z⟩
    rw [e, b_0] at this; exact Bool.noConfusion this
  · intro e
    exact mb_u h (mb_0 e)
end
section
/-! expressions: a stack machine from the last token to the first -/
def e_ar (t : Nat) : Nat := if t < 20 then 0 else if t < 27 then 2 else if t = 27 then 1 else 3
theorem e_ar_le (t : Nat) : e_ar t ≤ 3 := by unfold e_ar; split; omega; split; omega; split <;> omega
theorem e_ar_0 {t : Nat} (h : t < 20) : e_ar t = 0 := by unfold e_ar; rw [if_pos h]
theorem e_ar_pos {t : Nat} (h : ¬ t < 20) : 0 < e_ar t := by unfold e_ar; rw [if_neg h]; split; omega; split <;> omega
theorem e_ar_1 : e_ar 27 = 1 := by decide
theorem e_ar_2 {t : Nat} (h : ¬ t < 20) (h2 : t < 27) : e_ar t = 2 := by unfold e_ar; rw [if_neg h, if_pos h2]
theorem e_ar_3 {t : Nat} (h : 27 < t) : e_ar t = 3 := by unfold e_ar; rw [if_neg (by omega), if_neg (by omega), if_neg (by omega)]
def e_res (t : Nat) (a b c : Int32) : Int32 :=
  if t = 20 then a + b else if t = 21 then a - b else if t = 22 then a * b else if t = 23 then (if a = b then 1 else 0)
  else if t = 24 then (if b ≤ a then 0 else 1) else if t = 25 then (if a = 0 then 0 else if b = 0 then 0 else 1)
  else if t = 26 then (if a = 0 then (if b = 0 then 0 else 1) else 1) else if t = 27 then (if a = 0 then 1 else 0) else (if a = 0 then c else b)
theorem e_res_3 {t : Nat} (h : 27 < t) (a b c : Int32) : e_res t a b c = if a = 0 then c else b := by
  unfold e_res
  rw [if_neg (by omega), if_neg (by omega), if_neg (by omega), if_neg (by omega), if_neg (by omega), if_neg (by omega), if_neg (by omega), if_neg (by omega)]
theorem e_res_1 (a b c b' c' : Int32) : e_res 27 a b c = e_res 27 a b' c' := by simp only [e_res, Nat.reduceEqDiff, if_false, if_true, ite_false, ite_true]
theorem e_res_2 {t : Nat} (h : t < 28) (h0 : ¬ t < 20) (a b c c' : Int32) : e_res t a b c = e_res t a b c' := by
  have : t = 20 ∨ t = 21 ∨ t = 22 ∨ t = 23 ∨ t = 24 ∨ t = 25 ∨ t = 26 ∨ t = 27 := by omega
  rcases this with h | h | h | h | h | h | h | h <;> subst h <;> simp only [e_res, Nat.reduceEqDiff, if_false, if_true, ite_false, ite_true]
/-- one token -/
def e_n (t n : Nat) : Nat := if t < 20 then n + 1 else n - e_ar t + 1
def e_f (t n : Nat) (vl : Nat → Nat) (f : Nat → Int32) : Nat → Int32 :=
  if t < 20 then upd f n (if t < 10 then nI t else nI (vl (t - 10))) else upd f (n - e_ar t) (e_res t (f (n - 1)) (f (n - 2)) (f (n - 3)))
/-- after the last j tokens of a list of m -/
def e_sn (tk : Nat → Nat) (m : Nat) : Nat → Nat
  | 0 => 0
  | j + 1 => e_n (tk (m - 1 - j)) (e_sn tk m j)
def e_sf (tk : Nat → Nat) (vl : Nat → Nat) (m : Nat) (f0 : Nat → Int32) : Nat → Nat → Int32
  | 0 => f0
  | j + 1 => e_f (tk (m - 1 - j)) (e_sn tk m j) vl (e_sf tk vl m f0 j)
/-- missing operands after k tokens -/
def e_ms (tk : Nat → Nat) : Nat → Nat
  | 0 => 1
  | k + 1 => e_ms tk k + e_ar (tk k) - 1
def e_wh (tk : Nat → Nat) (m : Nat) : Prop := (∀ k, k < m → 1 ≤ e_ms tk k) ∧ e_ms tk m = 0
theorem e_wh_0 {tk : Nat → Nat} {m : Nat} (h : e_wh tk m) : 0 < m := by
  rcases Nat.eq_zero_or_pos m with e | e
  · subst e; exact absurd h.2 (fun z => Nat.noConfusion z)
  · exact e
theorem e_wh_sn {tk : Nat → Nat} {m : Nat} (h : e_wh tk m) : ∀ j, j ≤ m → e_sn tk m j = e_ms tk (m - j) := by
  intro j
  induction j with
  | zero => intro _; exact h.2.symm
  | succ j ih =>
    intro hj
    have e := ih (by omega)
    have e1 : m - j = (m - (j + 1)) + 1 := by omega
    have e2 : m - 1 - j = m - (j + 1) := by omega
    have h1 := h.1 (m - (j + 1)) (by omega)
    show e_n (tk (m - 1 - j)) (e_sn tk m j) = _
    rw [e, e1, e2]
    show e_n _ (e_ms tk (m - (j + 1)) + e_ar (tk (m - (j + 1))) - 1) = _
    unfold e_n
    by_cases c : tk (m - (j + 1)) < 20
    · rw [if_pos c, e_ar_0 c]; omega
    · rw [if_neg c]; have := e_ar_pos c; omega
/-- there are operands enough -/
theorem e_wh_ar {tk : Nat → Nat} {m j : Nat} (h : e_wh tk m) (hj : j < m) : e_ar (tk (m - 1 - j)) ≤ e_sn tk m j := by
  have e := e_wh_sn h j (by omega)
  have e1 : m - j = (m - 1 - j) + 1 := by omega
  have h1 := h.1 (m - 1 - j) (by omega)
  rw [e, e1]
  show _ ≤ e_ms tk (m - 1 - j) + e_ar (tk (m - 1 - j)) - 1
  omega
theorem e_sn_le {tk : Nat → Nat} {m : Nat} : ∀ j, e_sn tk m j ≤ j
  | 0 => Nat.le_refl _
  | j + 1 => by
    have := e_sn_le (tk := tk) (m := m) j
    show e_n _ _ ≤ _
    unfold e_n
    by_cases c : tk (m - 1 - j) < 20
    · rw [if_pos c]; omega
    · rw [if_neg c]; have := e_ar_pos c; omega
/-- the stack does not depend on what lay there -/
theorem e_sf_ind {tk vl : Nat → Nat} {m : Nat} {f g : Nat → Int32} (h : e_wh tk m) : ∀ j, j ≤ m → ∀ i, i < e_sn tk m j → e_sf tk vl m f j i = e_sf tk vl m g j i := by
  intro j
  induction j with
  | zero => intro _ i hi; exact absurd hi (Nat.not_lt_zero _)
  | succ j ih =>
    intro hj i hi
    have ih' := ih (by omega)
    have ha := e_wh_ar h (show j < m by omega)
    show e_f _ _ _ _ i = e_f _ _ _ _ i
    have hi : i < e_n (tk (m - 1 - j)) (e_sn tk m j) := hi
    unfold e_f
    unfold e_n at hi
    by_cases c : tk (m - 1 - j) < 20
    · rw [if_pos c] at hi
      rw [if_pos c, if_pos c]
      by_cases e : i = e_sn tk m j
      · rw [e, pk_us, pk_us]
      · rw [pk_un e, pk_un e]; exact ih' i (by omega)
    · rw [if_neg c] at hi
      rw [if_neg c, if_neg c]
      have hp := e_ar_pos c
      by_cases e : i = e_sn tk m j - e_ar (tk (m - 1 - j))
      · rw [e, pk_us, pk_us, ih' _ (by omega : e_sn tk m j - 1 < _)]
        generalize tk (m - 1 - j) = t at *
        by_cases c3 : 27 < t
        · have := e_ar_3 c3
          rw [ih' _ (by omega : e_sn tk m j - 2 < _), ih' _ (by omega : e_sn tk m j - 3 < _)]
        · by_cases c2 : t = 27
          · subst c2; exact e_res_1 _ _ _ _ _
          · have := e_ar_2 c (by omega : t < 27)
            rw [ih' _ (by omega : e_sn tk m j - 2 < _)]
            exact e_res_2 (by omega) c _ _ _ _
      · rw [pk_un e, pk_un e]; exact ih' i (by omega)
def e_val (tk vl : Nat → Nat) (m : Nat) : Int32 := if m = 0 then 1 else e_sf tk vl m (fun _ => 0) m 0
theorem e_val_0 (tk vl : Nat → Nat) : e_val tk vl 0 = 1 := rfl
theorem e_val_w {tk vl : Nat → Nat} {m : Nat} {f : Nat → Int32} (h : e_wh tk m) : e_sf tk vl m f m 0 = e_val tk vl m := by
  unfold e_val
  rw [if_neg (by have := e_wh_0 h; omega)]
  apply e_sf_ind h m (Nat.le_refl _)
  rw [e_wh_sn h m (Nat.le_refl _), Nat.sub_self]
  exact Nat.zero_lt_one
theorem e_ms_c {tk tk' : Nat → Nat} {m : Nat} (h : ∀ k, k < m → tk k = tk' k) : ∀ k, k ≤ m → e_ms tk k = e_ms tk' k
  | 0, _ => rfl
  | k + 1, hk => by
    show e_ms tk k + e_ar (tk k) - 1 = e_ms tk' k + e_ar (tk' k) - 1
    rw [e_ms_c h k (by omega), h k (by omega)]
theorem e_wh_c {tk tk' : Nat → Nat} {m : Nat} (h : ∀ k, k < m → tk k = tk' k) (w : e_wh tk m) : e_wh tk' m :=
  ⟨fun k hk => by rw [← e_ms_c h k (by omega)]; exact w.1 k hk, by rw [← e_ms_c h m (Nat.le_refl _)]; exact w.2⟩
end
section
/-! states and steps of a specification -/
def s_N (z : Nat → Nat) : Nat := z 0 * z 1 * z 2
def s_Z (z : Nat → Nat) : Prop := ∀ v, v < 3 → 1 ≤ z v ∧ z v ≤ 5
theorem s_N_le {z : Nat → Nat} (h : s_Z z) : s_N z ≤ 125 := by
  have a := (h 0 (by omega)).2
  have b := (h 1 (by omega)).2
  have c := (h 2 (by omega)).2
  unfold s_N
  exact Nat.le_trans (Nat.mul_le_mul (Nat.mul_le_mul a b) c) (by decide)
theorem s_N_pos {z : Nat → Nat} (h : s_Z z) : 1 ≤ s_N z := by
  have a := (h 0 (by omega)).1
  have b := (h 1 (by omega)).1
  have c := (h 2 (by omega)).1
  exact Nat.mul_pos (Nat.mul_pos a b) c
def sv (z : Nat → Nat) (s v : Nat) : Nat := if v = 0 then s % z 0 else if v = 1 then s / z 0 % z 1 else s / z 0 / z 1
theorem sv_0 (z : Nat → Nat) (s : Nat) : sv z s 0 = s % z 0 := rfl
theorem sv_1 (z : Nat → Nat) (s : Nat) : sv z s 1 = s / z 0 % z 1 := rfl
theorem sv_2 (z : Nat → Nat) (s : Nat) : sv z s 2 = s / z 0 / z 1 := rfl
theorem sv_lt {z : Nat → Nat} (h : s_Z z) {s v : Nat} (hs : s < s_N z) (hv : v < 3) : sv z s v < z v := by
  have hz := (h v hv).1
  have : v = 0 ∨ v = 1 ∨ v = 2 := by omega
  rcases this with e | e | e <;> subst e
  · exact Nat.mod_lt _ hz
  · exact Nat.mod_lt _ hz
  · rw [sv_2, Nat.div_div_eq_div_mul]
    apply Nat.div_lt_of_lt_mul
    exact hs
theorem sv_mk0 {z : Nat → Nat} {u v w : Nat} (hu : u < z 0) : sv z (u + z 0 * (v + z 1 * w)) 0 = u := by
  rw [sv_0, Nat.add_mul_mod_self_left, Nat.mod_eq_of_lt hu]
theorem sv_mkd {z : Nat → Nat} {u x : Nat} (hu : u < z 0) : (u + z 0 * x) / z 0 = x := by
  rw [Nat.add_mul_div_left _ _ (by omega), Nat.div_eq_of_lt hu, Nat.zero_add]
theorem sv_mk1 {z : Nat → Nat} {u v w : Nat} (hu : u < z 0) (hv : v < z 1) : sv z (u + z 0 * (v + z 1 * w)) 1 = v := by
  rw [sv_1, sv_mkd hu, Nat.add_mul_mod_self_left, Nat.mod_eq_of_lt hv]
theorem sv_mk2 {z : Nat → Nat} {u v w : Nat} (hu : u < z 0) (hv : v < z 1) : sv z (u + z 0 * (v + z 1 * w)) 2 = w := by
  rw [sv_2, sv_mkd hu, Nat.add_mul_div_left _ _ (by omega), Nat.div_eq_of_lt hv, Nat.zero_add]
theorem mk_sv (z : Nat → Nat) (s : Nat) : sv z s 0 + z 0 * (sv z s 1 + z 1 * sv z s 2) = s := by
  rw [sv_0, sv_1, sv_2, Nat.mod_add_div, Nat.mod_add_div]
theorem mk_lt {z : Nat → Nat} {u v w : Nat} (hu : u < z 0) (hv : v < z 1) (hw : w < z 2) : u + z 0 * (v + z 1 * w) < s_N z := by
  have h1 : v + z 1 * w < z 1 * z 2 := by
    calc v + z 1 * w < z 1 + z 1 * w := by omega
      _ = z 1 * (w + 1) := by rw [Nat.mul_add]; omega
      _ ≤ z 1 * z 2 := Nat.mul_le_mul_left _ hw
  have h2 : z 0 * (v + z 1 * w + 1) ≤ z 0 * (z 1 * z 2) := Nat.mul_le_mul_left _ h1
  unfold s_N
  rw [Nat.mul_assoc]
  rw [Nat.mul_add] at h2
  omega
/-- the value taken round the clock -/
def e_clk (w p : Int32) : Int32 := if 0 ≤ w - w / p * p then w - w / p * p else (w - w / p * p) + p
theorem e_clk_lt (w : Int32) {n : Nat} (h1 : 1 ≤ n) (h5 : n ≤ 5) : ∃ j, j < n ∧ e_clk w (nI n) = nI j := by
  have hr := rem_toInt w (nI n)
  have hn : (nI n).toInt = (n : Int) := nI_toInt (by omega)
  rw [hn] at hr
  have hb := tmod_bounds (a := w.toInt) (M := (n : Int)) (by omega)
  unfold e_clk
  by_cases c : 0 ≤ w - w / nI n * nI n
  · rw [if_pos c]
    have hn0 : ¬ (w - w / nI n * nI n) < 0 := Int32.not_lt.mpr c
    obtain ⟨j, hj, e⟩ := nI_of hn0
    refine ⟨j, ?_, e⟩
    rw [e, nI_toInt hj] at hr
    omega
  · rw [if_neg c]
    have hneg : (w - w / nI n * nI n).toInt < 0 := by
      have := Int32.not_le.mp c
      rw [Int32.lt_iff_toInt_lt] at this
      exact this
    have hs : ((w - w / nI n * nI n) + nI n).toInt = (w - w / nI n * nI n).toInt + n := by
      rw [Int32.toInt_add, hn]
      apply Int.bmod_eq_of_le <;> omega
    have hp : ¬ ((w - w / nI n * nI n) + nI n) < 0 := by
      rw [Int32.lt_iff_toInt_lt, hs]
      show ¬ _ < (0 : Int)
      omega
    obtain ⟨j, hj, e⟩ := nI_of hp
    refine ⟨j, ?_, e⟩
    rw [e, nI_toInt hj] at hs
    omega
section Sp
variable (z : Nat → Nat) (th hw : Nat → Int32) (tk : Nat → Nat → Nat) (ln : Nat → Nat)
/-- the worth of list l in state s -/
def s_E (l s : Nat) : Int32 := e_val (tk l) (sv z s) (ln l)
/-- the value that action a gives variable v in state s (if not any) -/
def s_d (a v s : Nat) : Nat := if hw (3 * a + v) = 1 then (e_clk (s_E z tk ln (4 + 3 * a + v) s) (nI (z v))).toNatClampNeg else sv z s v
def s_g (a s : Nat) : Prop := th a ≠ 0 ∧ s_E z tk ln a s ≠ 0
def s_go (a s t : Nat) : Prop := s < s_N z ∧ t < s_N z ∧ s_g z th tk ln a s ∧ ∀ v, v < 3 → hw (3 * a + v) = 2 ∨ sv z t v = s_d z hw tk ln a v s
def s_en (a s : Nat) : Prop := ∃ t, t ≠ s ∧ s_go z th hw tk ln a s t
def s_st (s t : Nat) : Prop := s ≠ t ∧ ∃ a, a < 4 ∧ s_go z th hw tk ln a s t
def s_i (s : Nat) : Prop := s < s_N z ∧ s_E z tk ln 16 s ≠ 0
end Sp
theorem s_st_lt {z : Nat → Nat} {th hw : Nat → Int32} {tk : Nat → Nat → Nat} {ln : Nat → Nat} {s t : Nat} (h : s_st z th hw tk ln s t) : s < s_N z ∧ t < s_N z := by
  obtain ⟨_, a, _, h1, h2, _⟩ := h
  exact ⟨h1, h2⟩
theorem s_d_lt {z : Nat → Nat} {hw : Nat → Int32} {tk : Nat → Nat → Nat} {ln : Nat → Nat} (h : s_Z z) {a v s : Nat} (hs : s < s_N z) (hv : v < 3) : s_d z hw tk ln a v s < z v := by
  unfold s_d
  by_cases c : hw (3 * a + v) = 1
  · rw [if_pos c]
    have hz := h v hv
    obtain ⟨j, hj, e⟩ := e_clk_lt (s_E z tk ln (4 + 3 * a + v) s) hz.1 hz.2
    rw [e, nI_clamp (by omega)]; exact hj
  · rw [if_neg c]; exact sv_lt h hs hv
end
section
/-! reachability, depths -/
section Gr
variable (I : Nat → Prop) (St : Nat → Nat → Prop)
def g_R : Nat → Nat → Prop
  | 0 => I
  | k + 1 => fun s => ∃ t, g_R k t ∧ St t s
def g_D (k s : Nat) : Prop := g_R I St k s ∧ ∀ j, j < k → ¬ g_R I St j s
def g_Rd (s : Nat) : Prop := ∃ k, g_R I St k s
end Gr
section Gs
variable {I : Nat → Prop} {St : Nat → Nat → Prop} {N : Nat}
theorem g_D_u {k j s : Nat} (h : g_D I St k s) (h2 : g_D I St j s) : k = j := by
  rcases Nat.lt_trichotomy k j with c | c | c
  · exact absurd h.1 (h2.2 k c)
  · exact c
  · exact absurd h2.1 (h.2 j c)
theorem g_R_D {k s : Nat} (h : g_R I St k s) : ∃ j, j ≤ k ∧ g_D I St j s := by
  obtain ⟨j, hj, hl⟩ := pk_least (fun j => g_R I St j s) ⟨k, h⟩
  refine ⟨j, ?_, hj, hl⟩
  rcases Nat.lt_or_ge k j with c | c
  · exact absurd h (hl k c)
  · exact c
theorem g_Rd_D {s : Nat} (h : g_Rd I St s) : ∃ j, g_D I St j s := by
  obtain ⟨k, hk⟩ := h
  obtain ⟨j, _, hj⟩ := g_R_D hk
  exact ⟨j, hj⟩
theorem g_D_Rd {k s : Nat} (h : g_D I St k s) : g_Rd I St s := ⟨k, h.1⟩
theorem g_D_0 {s : Nat} : g_D I St 0 s ↔ I s := ⟨fun h => h.1, fun h => ⟨h, fun j hj => absurd hj (Nat.not_lt_zero _)⟩⟩
theorem g_D_pre {k s : Nat} (h : g_D I St (k + 1) s) : ∃ t, g_D I St k t ∧ St t s := by
  obtain ⟨⟨t, ht, hs⟩, h2⟩ := h
  exact ⟨t, ⟨ht, fun j hj hr => h2 (j + 1) (by omega) ⟨t, hr, hs⟩⟩, hs⟩
theorem g_D_nx {k t s : Nat} (h : g_D I St k t) (hs : St t s) : ∃ j, j ≤ k + 1 ∧ g_D I St j s := g_R_D (k := k + 1) ⟨t, h.1, hs⟩
theorem g_Rd_nx {t s : Nat} (h : g_Rd I St t) (hs : St t s) : g_Rd I St s := by
  obtain ⟨k, hk⟩ := h
  exact ⟨k + 1, t, hk, hs⟩
theorem g_D_all {k s : Nat} (h : g_D I St k s) : ∀ j, j ≤ k → ∃ t, g_D I St j t := by
  induction k generalizing s with
  | zero => intro j hj; have : j = 0 := by omega
            subst this; exact ⟨s, h⟩
  | succ k ih =>
    intro j hj
    rcases Nat.lt_or_ge j (k + 1) with c | c
    · obtain ⟨t, ht, _⟩ := g_D_pre h
      exact ih ht j (by omega)
    · have : j = k + 1 := by omega
      subst this; exact ⟨s, h⟩
theorem g_R_lt (hI : ∀ s, I s → s < N) (hS : ∀ s t, St s t → t < N) {k s : Nat} (h : g_R I St k s) : s < N := by
  cases k with
  | zero => exact hI s h
  | succ k => obtain ⟨t, _, h2⟩ := h; exact hS t s h2
theorem g_D_lt (hI : ∀ s, I s → s < N) (hS : ∀ s t, St s t → t < N) {k s : Nat} (h : g_D I St k s) : k < N := by
  have key : ∀ j, j ≤ k → j + 1 ≤ cn (fun t => ∃ i, i ≤ j ∧ g_D I St i t) N := by
    intro j
    induction j with
    | zero =>
      intro hj
      obtain ⟨t, ht⟩ := g_D_all h 0 hj
      have := cn_lt (P := fun _ => False) (Q := fun t => ∃ i, i ≤ 0 ∧ g_D I St i t) (a := t) (N := N) id ⟨0, Nat.le_refl _, ht⟩ (fun _ _ q => q.elim) (g_R_lt hI hS ht.1)
      omega
    | succ j ih =>
      intro hj
      obtain ⟨t, ht⟩ := g_D_all h (j + 1) hj
      have := cn_lt (P := fun t => ∃ i, i ≤ j ∧ g_D I St i t) (Q := fun t => ∃ i, i ≤ j + 1 ∧ g_D I St i t) (a := t) (N := N) (fun ⟨i, hi, hd⟩ => by have := g_D_u hd ht; omega) ⟨j + 1, Nat.le_refl _, ht⟩ (fun _ _ ⟨i, hi, hd⟩ => ⟨i, by omega, hd⟩) (g_R_lt hI hS ht.1)
      have := ih (by omega)
      omega
  have := key k (Nat.le_refl _)
  have := cn_le (fun t => ∃ i, i ≤ k ∧ g_D I St i t) N
  omega
end Gs
/-- an array of depths is right -/
def d_OK (I : Nat → Prop) (St : Nat → Nat → Prop) (N : Nat) (dep : Nat → Int32) : Prop :=
  ∀ s, s < N → (∃ k, k < N ∧ dep s = nI k ∧ g_D I St k s) ∨ (dep s = -1 ∧ ¬ g_Rd I St s)
section Gd
variable {I : Nat → Prop} {St : Nat → Nat → Prop} {N : Nat} {dep dep' : Nat → Int32}
theorem d_m1 {k : Nat} (h : k < 2 ^ 31) : ¬ nI k = -1 := by
  intro e
  have := congrArg Int32.toInt e
  rw [nI_toInt h] at this
  have e2 : (-1 : Int32).toInt = -1 := by decide
  omega
theorem d_neg {k : Nat} (h : k < 2 ^ 31) : ¬ nI k < 0 := nI_pos h
theorem d_OK_u (h : d_OK I St N dep) (h' : d_OK I St N dep') {s : Nat} (hs : s < N) : dep s = dep' s := by
  rcases h s hs with ⟨k, _, e, d⟩ | ⟨e, d⟩ <;> rcases h' s hs with ⟨k', _, e', d'⟩ | ⟨e', d'⟩
  · rw [e, e', g_D_u d d']
  · exact absurd (g_D_Rd d) d'
  · exact absurd (g_D_Rd d') d
  · rw [e, e']
theorem d_OK_eq (hN : N ≤ 125) (h : d_OK I St N dep) {s k : Nat} (hs : s < N) (hk : k < 2 ^ 31) : dep s = nI k ↔ g_D I St k s := by
  rcases h s hs with ⟨j, hj, e, d⟩ | ⟨e, d⟩
  · rw [e]
    constructor
    · intro c
      rw [nI_eq (by omega) hk] at c
      rw [← c]; exact d
    · intro c; rw [g_D_u c d]
  · rw [e]
    exact ⟨fun c => absurd c.symm (d_m1 hk), fun c => absurd (g_D_Rd c) d⟩
theorem d_OK_neg (hN : N ≤ 125) (h : d_OK I St N dep) {s : Nat} (hs : s < N) : dep s < 0 ↔ ¬ g_Rd I St s := by
  rcases h s hs with ⟨j, hj, e, d⟩ | ⟨e, d⟩
  · rw [e]; exact ⟨fun c => absurd c (d_neg (by omega)), fun c => absurd (g_D_Rd d) c⟩
  · rw [e]; exact ⟨fun _ => d, fun _ => by decide⟩
theorem d_OK_pos (hN : N ≤ 125) (h : d_OK I St N dep) {s : Nat} (hs : s < N) : 0 ≤ dep s ↔ g_Rd I St s := by
  rw [← Int32.not_lt, d_OK_neg hN h hs, Classical.not_not]
end Gd
/-- X's queue: q 0 .. q (en - 1) are the states with a depth, k of them done, d the depth at hand -/
def x_BI (I : Nat → Prop) (St : Nat → Nat → Prop) (N : Nat) (dep : Nat → Int32) (q : Nat → Nat) (en k d : Nat) : Prop :=
  (∀ s, s < N → dep s = -1 ∨ ∃ j, j ≤ d + 1 ∧ dep s = nI j ∧ g_D I St j s) ∧
  (∀ s j, j ≤ d → g_D I St j s → dep s ≠ -1) ∧
  (∀ s, s < N → dep s ≠ -1 → ∃ i, i < en ∧ q i = s) ∧
  (∀ i, i < en → q i < N ∧ dep (q i) ≠ -1) ∧
  (∀ i j a b, i ≤ j → j < en → g_D I St a (q i) → g_D I St b (q j) → a ≤ b) ∧
  (∀ i t, i < k → St (q i) t → dep t ≠ -1) ∧
  en = cn (fun s => dep s ≠ -1) N ∧
  (∀ i a, k ≤ i → i < en → g_D I St a (q i) → d ≤ a) ∧ k ≤ en
section Gx
variable {I : Nat → Prop} {St : Nat → Nat → Prop} {N : Nat} {dep : Nat → Int32} {q : Nat → Nat} {en k d : Nat}
/-- the head's depth -/
theorem x_head (hI : ∀ s, I s → s < N) (hS : ∀ s t, St s t → t < N) (hN : N ≤ 125) (h : x_BI I St N dep q en k d) (hk : k < en) : ∃ d', dep (q k) = nI d' ∧ d' < N ∧ g_D I St d' (q k) ∧ x_BI I St N dep q en k d' := by
  obtain ⟨h1, h2, h3, h4, h5, h6, h7, h8, h9⟩ := h
  obtain ⟨hq, hd⟩ := h4 k hk
  rcases h1 (q k) hq with e | ⟨j, hj, e, dj⟩
  · exact absurd e hd
  have hdj := h8 k j (Nat.le_refl _) hk dj
  refine ⟨j, e, g_D_lt hI hS dj, dj, ?_, ?_, h3, h4, h5, h6, h7, ?_, h9⟩
  · intro s hs
    rcases h1 s hs with e | ⟨i, hi, e, di⟩
    · exact Or.inl e
    · exact Or.inr ⟨i, by omega, e, di⟩
  · intro s i hi di
    rcases Nat.lt_or_ge d i with c | c
    · have hi1 : i = d + 1 := by omega
      have hj1 : j = d + 1 := by omega
      subst hi1
      obtain ⟨t, ht, hst⟩ := g_D_pre di
      have htn := h2 t d (Nat.le_refl _) ht
      obtain ⟨m, hm, em⟩ := h3 t (g_R_lt hI hS ht.1) htn
      rcases Nat.lt_or_ge m k with c2 | c2
      · exact h6 m s c2 (by rw [em]; exact hst)
      · have := h5 k m j d c2 hm dj (by rw [em]; exact ht)
        omega
    · exact h2 s i c di
  · intro i a hi hi2 ha
    exact h5 k i j a hi hi2 dj ha
/-- a new state behind the queue -/
theorem x_push (hI : ∀ s, I s → s < N) (hS : ∀ s t, St s t → t < N) (hN : N ≤ 125) (h : x_BI I St N dep q en k d) (hk : k < en) (hd : g_D I St d (q k)) {t : Nat} (ht : t < N) (hst : St (q k) t) (hn : dep t = -1) :
    en < N ∧ x_BI I St N (upd dep t (nI (d + 1))) (fun i => if i = en then t else q i) (en + 1) k d := by
  obtain ⟨h1, h2, h3, h4, h5, h6, h7, h8, h9⟩ := h
  have hdl : d < N := g_D_lt hI hS hd
  have hdt : g_D I St (d + 1) t := by
    refine ⟨⟨q k, hd.1, hst⟩, fun j hj hr => ?_⟩
    obtain ⟨i, hi, di⟩ := g_R_D hr
    exact h2 t i (by omega) di hn
  have hnn : nI (d + 1) ≠ -1 := d_m1 (by omega)
  have hcn : cn (fun s => upd dep t (nI (d + 1)) s ≠ -1) N = en + 1 := by
    rw [h7, ← cn_add (P := fun s => dep s ≠ -1) (a := t) (fun c => c hn) ht]
    apply cn_eq
    intro s hs
    by_cases c : s = t
    · subst c; rw [pk_us]; exact ⟨fun _ => Or.inr rfl, fun _ => hnn⟩
    · rw [pk_un c]; exact ⟨Or.inl, fun z => z.elim id (fun z => absurd z c)⟩
  have keep : ∀ s, dep s ≠ -1 → upd dep t (nI (d + 1)) s ≠ -1 := by
    intro s hs
    by_cases c : s = t
    · subst c; rw [pk_us]; exact hnn
    · rw [pk_un c]; exact hs
  have hq : ∀ i, i < en → (if i = en then t else q i) = q i := fun i hi => if_neg (by omega)
  refine ⟨by have := cn_le (fun s => upd dep t (nI (d + 1)) s ≠ -1) N; omega, ?_, ?_, ?_, ?_, ?_, ?_, hcn.symm, ?_, by omega⟩
  · intro s hs
    by_cases c : s = t
    · subst c; rw [pk_us]; exact Or.inr ⟨d + 1, Nat.le_refl _, rfl, hdt⟩
    · rw [pk_un c]; exact h1 s hs
  · intro s j hj dj; exact keep s (h2 s j hj dj)
  · intro s hs hsn
    by_cases c : s = t
    · exact ⟨en, by omega, by show (if en = en then t else q en) = s; rw [if_pos rfl, c]⟩
    · rw [pk_un c] at hsn
      obtain ⟨i, hi, e⟩ := h3 s hs hsn
      exact ⟨i, by omega, by show (if i = en then t else q i) = s; rw [hq i hi]; exact e⟩
  · intro i hi
    show (if i = en then t else q i) < N ∧ upd dep t (nI (d + 1)) (if i = en then t else q i) ≠ -1
    by_cases c : i = en
    · rw [if_pos c, pk_us]; exact ⟨ht, hnn⟩
    · rw [if_neg c]
      obtain ⟨a, b⟩ := h4 i (by omega)
      exact ⟨a, keep _ b⟩
  · intro i j a b hij hj
    show g_D I St a (if i = en then t else q i) → g_D I St b (if j = en then t else q j) → a ≤ b
    by_cases c : j = en
    · rw [if_pos c]
      intro ha hb
      have hb1 := g_D_u hb hdt
      by_cases c2 : i = en
      · rw [if_pos c2] at ha
        have := g_D_u ha hdt; omega
      · rw [if_neg c2] at ha
        obtain ⟨x, y⟩ := h4 i (by omega)
        rcases h1 _ x with e | ⟨m, hm, _, dm⟩
        · exact absurd e y
        · have := g_D_u ha dm; omega
    · rw [if_neg c, if_neg (by omega)]
      exact h5 i j a b hij (by omega)
  · intro i s hi
    show St (if i = en then t else q i) s → _
    rw [hq i (by omega)]
    exact fun z => keep s (h6 i s hi z)
  · intro i a hi hi2
    show g_D I St a (if i = en then t else q i) → _
    by_cases c : i = en
    · rw [if_pos c]; intro ha; have := g_D_u ha hdt; omega
    · rw [if_neg c]; exact h8 i a hi (by omega)
theorem x_next (h : x_BI I St N dep q en k d) (hk : k < en) (hd : g_D I St d (q k)) (hc : ∀ t, St (q k) t → dep t ≠ -1) : x_BI I St N dep q en (k + 1) d := by
  obtain ⟨h1, h2, h3, h4, h5, h6, h7, h8, h9⟩ := h
  refine ⟨h1, h2, h3, h4, h5, ?_, h7, fun i a hi hi2 ha => h8 i a (by omega) hi2 ha, hk⟩
  intro i t hi hst
  rcases Nat.lt_or_ge i k with c | c
  · exact h6 i t c hst
  · have : i = k := by omega
    subst this; exact hc t hst
theorem x_done (hI : ∀ s, I s → s < N) (hS : ∀ s t, St s t → t < N) (h : x_BI I St N dep q en en d) : d_OK I St N dep ∧ en = cn (g_Rd I St) N := by
  obtain ⟨h1, h2, h3, h4, h5, h6, h7, h8, h9⟩ := h
  have key : ∀ k s, g_R I St k s → dep s ≠ -1 := by
    intro k
    induction k with
    | zero => intro s hs; exact h2 s 0 (by omega) (g_D_0.mpr hs)
    | succ k ih =>
      intro s hs
      obtain ⟨t, ht, hst⟩ := hs
      obtain ⟨i, hi, e⟩ := h3 t (g_R_lt hI hS ht) (ih t ht)
      exact h6 i s hi (by rw [e]; exact hst)
  constructor
  · intro s hs
    rcases h1 s hs with e | ⟨j, hj, e, dj⟩
    · exact Or.inr ⟨e, fun ⟨k, hk⟩ => key k s hk e⟩
    · exact Or.inl ⟨j, g_D_lt hI hS dj, e, dj⟩
  · rw [h7]
    apply cn_eq
    intro s hs
    constructor
    · intro c
      rcases h1 s hs with e | ⟨j, hj, e, dj⟩
      · exact absurd e c
      · exact g_D_Rd dj
    · rintro ⟨k, hk⟩; exact key k s hk
theorem x_max (hN : N ≤ 125) (hI : ∀ s, I s → s < N) (hS : ∀ s t, St s t → t < N) (h : x_BI I St N dep q en en d) : (en = 0 → ∀ s, s < N → dep s = -1) ∧ (0 < en → q (en - 1) < N ∧ ∀ s, s < N → dep s ≤ dep (q (en - 1))) := by
  have hd := (x_done hI hS h).1
  obtain ⟨h1, h2, h3, h4, h5, h6, h7, h8, h9⟩ := h
  constructor
  · intro e s hs
    by_cases c : dep s = -1
    · exact c
    · obtain ⟨i, hi, _⟩ := h3 s hs c
      omega
  · intro hp
    obtain ⟨a, b⟩ := h4 (en - 1) (by omega)
    refine ⟨a, fun s hs => ?_⟩
    rcases hd _ a with ⟨k, hk, ek, dk⟩ | ⟨e, _⟩
    · rw [ek]
      rcases hd s hs with ⟨j, hj, ej, dj⟩ | ⟨e, _⟩
      · rw [ej]
        obtain ⟨i, hi, ei⟩ := h3 s hs (by rw [ej]; exact d_m1 (by omega))
        have := h5 i (en - 1) j k (by omega) (by omega) (by rw [ei]; exact dj) dk
        exact nI_le this (by omega)
      · rw [e]
        have : (-1 : Int32) ≤ 0 := by decide
        exact Int32.le_trans this (nI_pos' (by omega))
    · exact absurd e b
end Gx
/-- Y's levels: d of them complete -/
def y_BI (I : Nat → Prop) (St : Nat → Nat → Prop) (N : Nat) (dep : Nat → Int32) (d : Nat) : Prop :=
  ∀ s, s < N → (dep s = -1 ∧ ∀ j, j ≤ d → ¬ g_D I St j s) ∨ ∃ j, j ≤ d ∧ dep s = nI j ∧ g_D I St j s
/-- within level d: the states below i are done, and of the state i the steps to states below m -/
def y_BR (I : Nat → Prop) (St : Nat → Nat → Prop) (N : Nat) (dep : Nat → Int32) (d i m : Nat) : Prop :=
  ∀ t, t < N → (dep t = -1 ∧ (∀ j, j ≤ d → ¬ g_D I St j t) ∧ (∀ s, s < i → g_D I St d s → ¬ St s t) ∧ (t < m → g_D I St d i → ¬ St i t)) ∨ (∃ j, j ≤ d ∧ dep t = nI j ∧ g_D I St j t) ∨ (dep t = nI (d + 1) ∧ g_D I St (d + 1) t)
section Gy
variable {I : Nat → Prop} {St : Nat → Nat → Prop} {N : Nat} {dep : Nat → Int32} {d i m : Nat}
theorem y_start (h : y_BI I St N dep d) : y_BR I St N dep d 0 0 := by
  intro t ht
  rcases h t ht with ⟨e, n⟩ | y
  · exact Or.inl ⟨e, n, fun s hs => absurd hs (Nat.not_lt_zero _), fun hs => absurd hs (Nat.not_lt_zero _)⟩
  · exact Or.inr (Or.inl y)
theorem y_row (h : y_BR I St N dep d i N) : y_BR I St N dep d (i + 1) 0 := by
  intro t ht
  rcases h t ht with ⟨e, n, a, b⟩ | y
  · refine Or.inl ⟨e, n, fun s hs hd => ?_, fun hs => absurd hs (Nat.not_lt_zero _)⟩
    rcases Nat.lt_or_ge s i with c | c
    · exact a s c hd
    · have : s = i := by omega
      subst this; exact b ht hd
  · exact Or.inr y
theorem y_skip (h : y_BR I St N dep d i 0) (hn : ¬ g_D I St d i) : y_BR I St N dep d (i + 1) 0 := by
  apply y_row
  intro t ht
  rcases h t ht with ⟨e, n, a, b⟩ | y
  · exact Or.inl ⟨e, n, a, fun _ c => absurd c hn⟩
  · exact Or.inr y
theorem y_keep (h : y_BR I St N dep d i m) (hn : dep m ≠ -1 ∨ ¬ St i m) : y_BR I St N dep d i (m + 1) := by
  intro t ht
  rcases h t ht with ⟨e, n, a, b⟩ | y
  · refine Or.inl ⟨e, n, a, fun hm hd => ?_⟩
    rcases Nat.lt_or_ge t m with c | c
    · exact b c hd
    · have : t = m := by omega
      subst this
      exact hn.elim (fun z => absurd e z) id
  · exact Or.inr y
theorem y_set (h : y_BR I St N dep d i m) (hm : m < N) (hd : g_D I St d i) (hs : St i m) (hn : dep m = -1) (h31 : d + 1 < 2 ^ 31) : y_BR I St N (upd dep m (nI (d + 1))) d i (m + 1) := by
  intro t ht
  by_cases c : t = m
  · subst c
    refine Or.inr (Or.inr ⟨pk_us, ?_⟩)
    rcases h t ht with ⟨e, n, a, b⟩ | ⟨j, hj, e, _⟩ | ⟨e, _⟩
    · obtain ⟨j, hj, dj⟩ := g_D_nx hd hs
      rcases Nat.lt_or_ge d j with c2 | c2
      · have : j = d + 1 := by omega
        subst this; exact dj
      · exact absurd dj (n j c2)
    · rw [e] at hn; exact absurd hn (d_m1 (by omega))
    · rw [e] at hn; exact absurd hn (d_m1 (by omega))
  · rw [pk_un c]
    rcases h t ht with ⟨e, n, a, b⟩ | y
    · exact Or.inl ⟨e, n, a, fun hm' hd' => b (by omega) hd'⟩
    · exact Or.inr y
theorem y_end (hI : ∀ s, I s → s < N) (hS : ∀ s t, St s t → t < N) (h : y_BR I St N dep d N 0) : y_BI I St N dep (d + 1) := by
  intro t ht
  rcases h t ht with ⟨e, n, a, b⟩ | ⟨j, hj, e, dj⟩ | ⟨e, dj⟩
  · refine Or.inl ⟨e, fun j hj dj => ?_⟩
    rcases Nat.lt_or_ge d j with c2 | c2
    · have : j = d + 1 := by omega
      subst this
      obtain ⟨s, ds, hst⟩ := g_D_pre dj
      exact a s (g_R_lt hI hS ds.1) ds hst
    · exact n j c2 dj
  · exact Or.inr ⟨j, by omega, e, dj⟩
  · exact Or.inr ⟨d + 1, Nat.le_refl _, e, dj⟩
/-- no state of depth d + 1: all is known -/
theorem y_done (hI : ∀ s, I s → s < N) (hS : ∀ s t, St s t → t < N) (h : y_BI I St N dep (d + 1)) (hz : ∀ t, ¬ g_D I St (d + 1) t) : d_OK I St N dep := by
  intro s hs
  rcases h s hs with ⟨e, n⟩ | ⟨j, hj, e, dj⟩
  · refine Or.inr ⟨e, fun hr => ?_⟩
    obtain ⟨j, dj⟩ := g_Rd_D hr
    rcases Nat.lt_or_ge (d + 1) j with c | c
    · obtain ⟨t, dt⟩ := g_D_all dj (d + 1) (by omega)
      exact hz t dt
    · exact n j c dj
  · exact Or.inl ⟨j, g_D_lt hI hS dj, e, dj⟩
end Gy
end
section
/-! paths within a set, fair sets -/
/-- t is come to from s by steps within A -/
def p_r (St : Nat → Nat → Prop) (A : Nat → Prop) (s t : Nat) : Prop := A s ∧ ∀ S : Nat → Prop, S s → (∀ x y, S x → A x → A y → St x y → S y) → S t
section Pa
variable {St : Nat → Nat → Prop} {A B : Nat → Prop} {s t u : Nat}
theorem p_refl (h : A s) : p_r St A s s := ⟨h, fun _ hs _ => hs⟩
theorem p_trans (h : p_r St A s t) (k : p_r St A t u) : p_r St A s u := ⟨h.1, fun S hs hc => k.2 S (h.2 S hs hc) hc⟩
theorem p_end (h : p_r St A s t) : A t := h.2 A h.1 (fun _ _ _ _ hy _ => hy)
theorem p_step (hs : A s) (ht : A t) (h : St s t) : p_r St A s t := ⟨hs, fun _ h0 hc => hc s t h0 hs ht h⟩
theorem p_snoc (h : p_r St A s t) (hu : A u) (k : St t u) : p_r St A s u := p_trans h (p_step (p_end h) hu k)
theorem p_cons (hs : A s) (k : St s t) (h : p_r St A t u) : p_r St A s u := p_trans (p_step hs h.1 k) h
theorem p_ind (h : p_r St A s t) (P : Nat → Prop) (h0 : P s) (hc : ∀ x y, p_r St A s x → P x → A y → St x y → P y) : P t :=
  (h.2 (fun x => p_r St A s x ∧ P x) ⟨p_refl h.1, h0⟩ (fun x y hx _ hy hs => ⟨p_snoc hx.1 hy hs, hc x y hx.1 hx.2 hy hs⟩)).2
theorem p_mono (h : p_r St A s t) (k : ∀ x, A x → B x) : p_r St B s t :=
  p_ind h (fun x => p_r St B s x) (p_refl (k _ h.1)) (fun _ y _ hx hy hs => p_snoc hx (k y hy) hs)
/-- a set that steps within A don't leave -/
theorem p_in (h : p_r St A s t) (hs : B s) (hc : ∀ x y, B x → A y → St x y → B y) : p_r St B s t :=
  p_ind h (fun x => p_r St B s x) (p_refl hs) (fun x y _ hx hy k => p_snoc hx (hc x y (p_end hx) hy k) k)
end Pa
section Fa
variable (St : Nat → Nat → Prop) (go : Nat → Nat → Nat → Prop) (en : Nat → Nat → Prop) (th fr : Nat → Int32)
def f_tk (C : Nat → Prop) (a : Nat) : Prop := ∃ x y, C x ∧ C y ∧ x ≠ y ∧ go a x y
def f_OK (C : Nat → Prop) : Prop := ∀ a, a < 4 → th a ≠ 0 → (fr a = 1 → (∃ t, C t ∧ ¬ en a t) ∨ f_tk go C a) ∧ (fr a = 2 → (∀ t, C t → ¬ en a t) ∨ f_tk go C a)
/-- a set that a fair behaviour can stay in -/
def f_S (C : Nat → Prop) : Prop := (∀ s t, C s → C t → p_r St C s t) ∧ f_OK go en th fr C
/-- the states of fair sets within W -/
def f_F (W : Nat → Prop) (s : Nat) : Prop := ∃ C : Nat → Prop, f_S St go en th fr C ∧ (∀ x, C x → W x) ∧ C s
def f_tg (A : Nat → Prop) (s t : Nat) : Prop := p_r St A s t ∧ p_r St A t s
def f_un (A : Nat → Prop) (s : Nat) : Prop := ∃ a, a < 4 ∧ th a ≠ 0 ∧ fr a ≠ 0 ∧ en a s ∧ (fr a = 1 → ∀ t, f_tg St A s t → en a t) ∧ ¬ f_tk go (f_tg St A s) a
/-- those that come to F within W -/
def f_c (W F : Nat → Prop) (s : Nat) : Prop := ∃ t, F t ∧ p_r St W s t
end Fa
section Fb
variable {St : Nat → Nat → Prop} {go : Nat → Nat → Nat → Prop} {en : Nat → Nat → Prop} {th fr : Nat → Int32}
theorem f_tk_mono {C D : Nat → Prop} {a : Nat} (h : f_tk go C a) (k : ∀ x, C x → D x) : f_tk go D a := by
  obtain ⟨x, y, hx, hy, h⟩ := h
  exact ⟨x, y, k x hx, k y hy, h⟩
/-- Y takes no state of a fair set away -/
theorem f_keep {A C : Nat → Prop} {s : Nat} (hfr : ∀ a, a < 4 → fr a = 0 ∨ fr a = 1 ∨ fr a = 2) (h : f_S St go en th fr C) (hA : ∀ x, C x → A x) (hs : C s) : ¬ f_un St go en th fr A s := by
  rintro ⟨a, ha, h1, h2, h3, h4, h5⟩
  have sub : ∀ x, C x → f_tg St A s x := fun x hx => ⟨p_mono (h.1 s x hs hx) hA, p_mono (h.1 x s hx hs) hA⟩
  obtain ⟨k1, k2⟩ := h.2 a ha h1
  rcases hfr a ha with e | e | e
  · exact h2 e
  · rcases k1 e with ⟨t, ht, hn⟩ | q
    · exact hn (h4 e t (sub t ht))
    · exact h5 (f_tk_mono q sub)
  · rcases k2 e with q | q
    · exact q s hs h3
    · exact h5 (f_tk_mono q sub)
theorem f_tg_sc {A : Nat → Prop} {s x y : Nat} (hx : f_tg St A s x) (hy : f_tg St A s y) : p_r St (f_tg St A s) x y := by
  have hxy : p_r St A x y := p_trans hx.2 hy.1
  have key : p_r St A y y → p_r St (f_tg St A s) x y := by
    refine p_ind hxy (fun w => p_r St A w y → p_r St (f_tg St A s) x w) (fun _ => p_refl hx) ?_
    intro w w' hw ih hw' hs hy'
    have h1 : p_r St A w y := p_cons (p_end hw) hs hy'
    exact p_snoc (ih h1) ⟨p_trans hx.1 (p_snoc hw hw' hs), p_trans hy' hy.2⟩ hs
  exact key (p_refl (p_end hxy))
/-- where Y takes nothing away, each part is fair -/
theorem f_stay {A : Nat → Prop} (h : ∀ s, A s → ¬ f_un St go en th fr A s) {s : Nat} (hs : A s) : f_S St go en th fr (f_tg St A s) := by
  refine ⟨fun x y hx hy => f_tg_sc hx hy, fun a ha h1 => ⟨fun e => ?_, fun e => ?_⟩⟩
  · by_cases c : f_tk go (f_tg St A s) a
    · exact Or.inr c
    · left
      by_cases c2 : ∃ t, f_tg St A s t ∧ ¬ en a t
      · exact c2
      · have all : ∀ t, f_tg St A s t → en a t := fun t ht => Classical.byContradiction fun z => c2 ⟨t, ht, z⟩
        exact absurd ⟨a, ha, h1, by rw [e]; decide, all s ⟨p_refl hs, p_refl hs⟩, fun _ => all, c⟩ (h s hs)
  · by_cases c : f_tk go (f_tg St A s) a
    · exact Or.inr c
    · left
      intro t ht hen
      refine h t (p_end ht.1) ⟨a, ha, h1, by rw [e]; decide, hen, fun e1 => by rw [e1] at e; exact absurd e (by decide), fun q => c ?_⟩
      exact f_tk_mono q fun x hx => ⟨p_trans ht.1 hx.1, p_trans hx.2 ht.2⟩
theorem f_Y {A W : Nat → Prop} (hW : ∀ s, A s → W s) (hk : ∀ C : Nat → Prop, f_S St go en th fr C → (∀ x, C x → W x) → ∀ x, C x → A x) (h : ∀ s, A s → ¬ f_un St go en th fr A s) (s : Nat) : A s ↔ f_F St go en th fr W s := by
  constructor
  · intro hs
    exact ⟨f_tg St A s, f_stay h hs, fun x hx => hW x (p_end hx.1), p_refl hs, p_refl hs⟩
  · rintro ⟨C, hC, hCW, hs⟩
    exact hk C hC hCW s hs
/-- X's part without complaint -/
theorem f_part {P : Nat → Prop} (hfr : ∀ a, a < 4 → fr a = 0 ∨ fr a = 1 ∨ fr a = 2) (hsc : ∀ s t, P s → P t → p_r St P s t)
    (hw : ∀ a, a < 4 → th a ≠ 0 → ¬ f_tk go P a → fr a = 1 → ∃ t, P t ∧ ¬ en a t) (hs : ∀ a, a < 4 → th a ≠ 0 → ¬ f_tk go P a → fr a = 2 → ∀ t, P t → ¬ en a t) : f_S St go en th fr P := by
  refine ⟨hsc, fun a ha h1 => ⟨fun e => ?_, fun e => ?_⟩⟩
  · by_cases c : f_tk go P a
    · exact Or.inr c
    · exact Or.inl (hw a ha h1 c e)
  · by_cases c : f_tk go P a
    · exact Or.inr c
    · exact Or.inl (hs a ha h1 c e)
theorem f_weak {P C : Nat → Prop} {a : Nat} (ha : a < 4) (h1 : th a ≠ 0) (h2 : ¬ f_tk go P a) (h3 : fr a = 1) (h4 : ∀ t, P t → en a t) (hC : f_S St go en th fr C) (hP : ∀ x, C x → P x) : False := by
  rcases (hC.2 a ha h1).1 h3 with ⟨t, ht, hn⟩ | q
  · exact hn (h4 t (hP t ht))
  · exact h2 (f_tk_mono q hP)
theorem f_strong {P C : Nat → Prop} {a s : Nat} (ha : a < 4) (h1 : th a ≠ 0) (h2 : ¬ f_tk go P a) (h3 : fr a = 2) (hC : f_S St go en th fr C) (hP : ∀ x, C x → P x) (hs : C s) : ¬ en a s := by
  rcases (hC.2 a ha h1).2 h3 with q | q
  · exact q s hs
  · exact absurd (f_tk_mono q hP) h2
theorem f_F_W {W : Nat → Prop} {s : Nat} (h : f_F St go en th fr W s) : W s := by
  obtain ⟨C, _, h2, h3⟩ := h
  exact h2 s h3
/-- going backwards: what is left out has no step to what is in -/
theorem f_back {W F G : Nat → Prop} (h0 : ∀ s, F s → G s) (h1 : ∀ s, G s → f_c St W F s) (h2 : ∀ s t, W s → G t → St s t → G s) (s : Nat) : G s ↔ f_c St W F s := by
  refine ⟨h1 s, ?_⟩
  rintro ⟨t, ht, hp⟩
  have key := hp.2 (fun x => G x → G s) id (fun x y hx hw _ hs hy => hx (h2 x y hw hy hs))
  exact key (h0 t ht)
theorem f_c_0 {W F : Nat → Prop} {s : Nat} (h : F s) (hw : W s) : f_c St W F s := ⟨s, h, p_refl hw⟩
theorem f_c_s {W F : Nat → Prop} {s t : Nat} (h : f_c St W F t) (hw : W s) (hs : St s t) : f_c St W F s := by
  obtain ⟨u, hu, hp⟩ := h
  exact ⟨u, hu, p_cons hw hs hp⟩
/-- reached states: X's answer and Y's are the same -/
theorem f_join {W Rd : Nat → Prop} (hR : ∀ s t, Rd s → St s t → Rd t) (s : Nat) (hs : Rd s) : f_c St W (f_F St go en th fr W) s ↔ f_c St (fun x => Rd x ∧ W x) (f_F St go en th fr (fun x => Rd x ∧ W x)) s := by
  constructor
  · rintro ⟨t, ⟨C, hC, hCW, ht⟩, hp⟩
    have hp2 : p_r St (fun x => Rd x ∧ W x) s t := p_in hp ⟨hs, hp.1⟩ (fun x y hx hy k => ⟨hR x y hx.1 k, hy⟩)
    refine ⟨t, ⟨C, hC, fun x hx => ⟨?_, hCW x hx⟩, ht⟩, hp2⟩
    exact p_ind (hC.1 t x ht hx) Rd (p_end hp2).1 (fun a b _ ha _ k => hR a b ha k)
  · rintro ⟨t, ⟨C, hC, hCW, ht⟩, hp⟩
    exact ⟨t, ⟨C, hC, fun x hx => (hCW x hx).2, ht⟩, p_mono hp fun x hx => hx.2⟩
end Fb
/-! closing by going over it (Warshall) -/
/-- W is closed through the states below m -/
def w_C (W : Nat → Nat → Prop) (m : Nat) : Prop := ∀ x s t, x < m → W s x → W x t → W s t
theorem w_next {W : Nat → Nat → Prop} {m : Nat} (h : w_C W m) : w_C (fun s t => W s t ∨ (W s m ∧ W m t)) (m + 1) := by
  intro x s t hx
  rcases Nat.lt_or_ge x m with c | c
  · rintro (a | ⟨a, a'⟩) (b | ⟨b, b'⟩)
    · exact Or.inl (h x s t c a b)
    · exact Or.inr ⟨h x s m c a b, b'⟩
    · exact Or.inr ⟨a, h x m t c a' b⟩
    · exact Or.inr ⟨a, b'⟩
  · have : x = m := by omega
    subst this
    rintro (a | ⟨a, a'⟩) (b | ⟨b, b'⟩)
    · exact Or.inr ⟨a, b⟩
    · exact Or.inr ⟨a, b'⟩
    · exact Or.inr ⟨a, b⟩
    · exact Or.inr ⟨a, b'⟩
/-- at the end: exactly the paths within A -/
theorem w_end {St : Nat → Nat → Prop} {A : Nat → Prop} {W : Nat → Nat → Prop} {N : Nat} (hA : ∀ s, A s → s < N) (h : w_C W N) (hr : ∀ s, A s → W s s) (hs : ∀ s t, A s → A t → St s t → W s t) (hp : ∀ s t, W s t → p_r St A s t) (s t : Nat) : W s t ↔ p_r St A s t := by
  refine ⟨hp s t, fun k => ?_⟩
  exact p_ind k (fun x => W s x) (hr s k.1) (fun x y hx hw hy st => h x s y (hA x (p_end hx)) hw (hs x y (p_end hx) hy st))
end
section
/-! the walk that finds strongly connected parts -/
def fu (f : Nat → Nat) (k x : Nat) : Nat → Nat := fun j => if j = k then x else f j
theorem fu_s {f : Nat → Nat} {k x : Nat} : fu f k x k = x := if_pos rfl
theorem fu_n {f : Nat → Nat} {k j x : Nat} (h : j ≠ k) : fu f k x j = f j := if_neg h
/-- T: the set at hand; V: numbered; O: on the stack; nm, lw: numbers; ah: steps below it are done; op 0 .. op (ond - 1): the stack; pa 0 .. pa (dp - 1): the way -/
def t_I (N : Nat) (St : Nat → Nat → Prop) (T V O : Nat → Prop) (nm lw ah op pa : Nat → Nat) (ond dp nd : Nat) : Prop :=
  (∀ s, V s → T s) ∧ (∀ s, O s → V s) ∧ (nd = cn V N ∧ ∀ s, V s → nm s < nd) ∧
  ((∀ i, i < ond → O (op i)) ∧ (∀ s, O s → ∃ i, i < ond ∧ op i = s) ∧ (∀ i j, i < j → j < ond → nm (op i) < nm (op j))) ∧
  ((∀ i, i < dp → O (pa i)) ∧ (∀ i j, i < j → j < dp → nm (pa i) < nm (pa j))) ∧
  (∀ s t, V s → ¬ O s → T t → St s t → V t ∧ ¬ O t) ∧
  ((∀ s t, O s → T t → St s t → t < ah s → V t) ∧ (∀ s, O s → (∀ i, i < dp → pa i ≠ s) → ah s = N)) ∧
  (∀ s, O s → lw s ≤ nm s ∧ ∃ w, O w ∧ nm w = lw s ∧ p_r St T s w) ∧
  (∀ i s, i < dp → O s → nm (pa i) ≤ nm s → p_r St T (pa i) s) ∧
  (∀ i s, i < dp → O s → nm (pa i) ≤ nm s → (i + 1 < dp → nm s < nm (pa (i + 1))) → (∀ t, T t → St s t → t < ah s → O t → lw (pa i) ≤ nm t) ∧ (s ≠ pa i → lw s < nm s ∧ lw (pa i) ≤ lw s)) ∧
  (∀ s, O s → 0 < dp ∧ nm (pa 0) ≤ nm s)
section Ta
variable {N : Nat} {St : Nat → Nat → Prop} {T V O : Nat → Prop} {nm lw ah op pa : Nat → Nat} {ond dp nd : Nat}
theorem t_inj (h : t_I N St T V O nm lw ah op pa ond dp nd) {s t : Nat} (hs : O s) (ht : O t) (e : nm s = nm t) : s = t := by
  obtain ⟨h1, h2, h3, ⟨h4, h4', h4''⟩, h5, h6, h7, h8, h9, h10, h11⟩ := h
  obtain ⟨i, hi, ei⟩ := h4' s hs
  obtain ⟨j, hj, ej⟩ := h4' t ht
  subst ei; subst ej
  rcases Nat.lt_trichotomy i j with c | c | c
  · have := h4'' i j c hj; omega
  · rw [c]
  · have := h4'' j i c hi; omega
theorem t_0 : t_I N St T (fun _ => False) (fun _ => False) nm lw ah op pa 0 0 0 := by
  refine ⟨fun _ h => h.elim, fun _ h => h.elim, ⟨?_, fun _ h => h.elim⟩, ⟨fun i h => absurd h (Nat.not_lt_zero _), fun _ h => h.elim, fun i j _ h => absurd h (Nat.not_lt_zero _)⟩, ⟨fun i h => absurd h (Nat.not_lt_zero _), fun i j _ h => absurd h (Nat.not_lt_zero _)⟩, fun _ _ h => h.elim, ⟨fun _ _ h => h.elim, fun _ h => h.elim⟩, fun _ h => h.elim, fun i s h => absurd h (Nat.not_lt_zero _), fun i s h => absurd h (Nat.not_lt_zero _), fun _ h => h.elim⟩
  have : ∀ n, cn (fun _ => False) n = 0 := by
    intro n
    induction n with
    | zero => rfl
    | succ n ih => show cn _ n + b01 False = 0; rw [ih, b01_f id]
  exact (this N).symm
/-- enter t -/
theorem t_enter (hT : ∀ s, T s → s < N) (h : t_I N St T V O nm lw ah op pa ond dp nd) {t : Nat} (ht : T t) (hv : ¬ V t) (hst : 0 < dp → St (pa (dp - 1)) t) :
    nd < N ∧ t_I N St T (fun x => V x ∨ x = t) (fun x => O x ∨ x = t) (fu nm t nd) (fu lw t nd) (fu ah t 0) (fu op ond t) (fu pa dp t) (ond + 1) (dp + 1) (nd + 1) := by
  obtain ⟨h1, h2, ⟨h3, h3'⟩, ⟨h4, h4', h4''⟩, ⟨h5, h5'⟩, h6, ⟨h7, h7'⟩, h8, h9, h10, h11⟩ := h
  have hc : cn (fun x => V x ∨ x = t) N = nd + 1 := by rw [h3]; exact cn_add hv (hT t ht)
  have vt : ∀ x, V x → x ≠ t := fun x hx e => hv (e ▸ hx)
  have ot : ∀ x, O x → x ≠ t := fun x hx => vt x (h2 x hx)
  have on : ∀ x, O x → fu nm t nd x = nm x := fun x hx => fu_n (ot x hx)
  have ol : ∀ x, O x → fu lw t nd x = lw x := fun x hx => fu_n (ot x hx)
  have oa : ∀ x, O x → fu ah t 0 x = ah x := fun x hx => fu_n (ot x hx)
  have olt : ∀ x, O x → nm x < nd := fun x hx => h3' x (h2 x hx)
  have pi : ∀ i, i < dp → fu pa dp t i = pa i := fun i hi => fu_n (by omega)
  have po : ∀ i, i < ond → fu op ond t i = op i := fun i hi => fu_n (by omega)
  refine ⟨by have := cn_le (fun x => V x ∨ x = t) N; omega, ?_, ?_, ⟨hc.symm, ?_⟩, ⟨?_, ?_, ?_⟩, ⟨?_, ?_⟩, ?_, ⟨?_, ?_⟩, ?_, ?_, ?_, ?_⟩
  · rintro s (hs | hs)
    · exact h1 s hs
    · rw [hs]; exact ht
  · rintro s (hs | hs)
    · exact Or.inl (h2 s hs)
    · exact Or.inr hs
  · rintro s (hs | hs)
    · rw [fu_n (vt s hs)]; have := h3' s hs; omega
    · rw [hs, fu_s]; omega
  · intro i hi
    by_cases c : i = ond
    · rw [c, fu_s]; exact Or.inr rfl
    · rw [fu_n c]; exact Or.inl (h4 i (by omega))
  · rintro s (hs | hs)
    · obtain ⟨i, hi, e⟩ := h4' s hs
      exact ⟨i, by omega, by rw [po i hi]; exact e⟩
    · exact ⟨ond, by omega, by rw [fu_s, hs]⟩
  · intro i j hij hj
    by_cases c : j = ond
    · rw [c, fu_s, po i (by omega), fu_s, on _ (h4 i (by omega))]; exact olt _ (h4 i (by omega))
    · rw [po i (by omega), po j (by omega), on _ (h4 i (by omega)), on _ (h4 j (by omega))]; exact h4'' i j hij (by omega)
  · intro i hi
    by_cases c : i = dp
    · rw [c, fu_s]; exact Or.inr rfl
    · rw [fu_n c]; exact Or.inl (h5 i (by omega))
  · intro i j hij hj
    by_cases c : j = dp
    · rw [c, fu_s, pi i (by omega), fu_s, on _ (h5 i (by omega))]; exact olt _ (h5 i (by omega))
    · rw [pi i (by omega), pi j (by omega), on _ (h5 i (by omega)), on _ (h5 j (by omega))]; exact h5' i j hij (by omega)
  · rintro s y hs hn hy k
    have hsn : s ≠ t := fun e => hn (Or.inr e)
    have hsv : V s := hs.elim id (fun e => absurd e hsn)
    obtain ⟨a, b⟩ := h6 s y hsv (fun z => hn (Or.inl z)) hy k
    exact ⟨Or.inl a, fun z => z.elim b (vt y a)⟩
  · rintro s y (hs | hs) hy k ha
    · rw [oa s hs] at ha; exact Or.inl (h7 s y hs hy k ha)
    · rw [hs, fu_s] at ha; exact absurd ha (Nat.not_lt_zero _)
  · rintro s (hs | hs) hp
    · rw [oa s hs]
      exact h7' s hs fun i hi => by have := hp i (by omega); rw [pi i hi] at this; exact this
    · exact absurd (by rw [fu_s, hs]) (hp dp (by omega))
  · rintro s (hs | hs)
    · rw [on s hs, ol s hs]
      obtain ⟨a, w, hw, e, p⟩ := h8 s hs
      exact ⟨a, w, Or.inl hw, by rw [on w hw]; exact e, p⟩
    · rw [hs, fu_s, fu_s]
      exact ⟨Nat.le_refl _, t, Or.inr rfl, fu_s, p_refl ht⟩
  · intro i s hi hs
    by_cases c : i = dp
    · rw [c, fu_s, fu_s]
      rcases hs with hs | hs
      · rw [on s hs]; intro z; have := olt s hs; omega
      · intro _; rw [hs]; exact p_refl ht
    · have hi' : i < dp := by omega
      rw [pi i hi', on _ (h5 i hi')]
      rcases hs with hs | hs
      · rw [on s hs]; exact h9 i s hi' hs
      · intro _
        have hle : nm (pa i) ≤ nm (pa (dp - 1)) := by
          rcases Nat.lt_or_ge i (dp - 1) with z | z
          · exact Nat.le_of_lt (h5' i (dp - 1) z (by omega))
          · have : i = dp - 1 := by omega
            rw [this]; exact Nat.le_refl _
        have hp := h9 i (pa (dp - 1)) hi' (h5 (dp - 1) (by omega)) hle
        rw [hs]
        exact p_snoc hp ht (hst (by omega))
  · intro i s hi hs
    by_cases c : i = dp
    · rw [c, fu_s, fu_s]
      rcases hs with hs | hs
      · rw [on s hs]; intro z; have := olt s hs; omega
      · intro _ _
        refine ⟨fun y _ _ hy => ?_, fun z => absurd hs z⟩
        rw [hs, fu_s] at hy; exact absurd hy (Nat.not_lt_zero _)
    · have hi' : i < dp := by omega
      rw [pi i hi', on _ (h5 i hi'), ol _ (h5 i hi')]
      intro hle hup
      have hso : O s := by
        rcases hs with hs | hs
        · exact hs
        · exfalso
          have := hup (by omega)
          rw [hs, fu_s] at this
          by_cases c2 : i + 1 = dp
          · rw [c2, fu_s, fu_s] at this; omega
          · rw [pi (i + 1) (by omega), on _ (h5 (i + 1) (by omega))] at this
            have := olt _ (h5 (i + 1) (by omega)); omega
      rw [on s hso] at hle hup
      obtain ⟨a, b⟩ := h10 i s hi' hso hle (fun z => by
        have := hup (by omega)
        rw [pi (i + 1) z, on _ (h5 (i + 1) z)] at this; exact this)
      rw [oa s hso, on s hso, ol s hso]
      refine ⟨fun y hy k hya hyo => ?_, b⟩
      rcases hyo with hyo | hyo
      · rw [on y hyo]; exact a y hy k hya hyo
      · rw [hyo, fu_s]
        have x1 := (h8 _ (h5 i hi')).1
        have x2 := olt _ (h5 i hi')
        omega
  · rintro s hs
    refine ⟨by omega, ?_⟩
    by_cases c : dp = 0
    · have hst : s = t := hs.elim (fun z => absurd (h11 s z).1 (by omega)) id
      rw [hst, c, fu_s]; exact Nat.le_refl _
    · rw [pi 0 (by omega), on _ (h5 0 (by omega))]
      rcases hs with hs | hs
      · rw [on s hs]; exact (h11 s hs).2
      · rw [hs, fu_s]; exact Nat.le_of_lt (olt _ (h5 0 (by omega)))
/-- one more step of the state pa i0 is looked at -/
theorem t_adv (h : t_I N St T V O nm lw ah op pa ond dp nd) {i0 t : Nat} {lw' : Nat → Nat} (hi : i0 < dp) (ha : ah (pa i0) = t) (htN : t < N) (hl : ∀ x, x ≠ pa i0 → lw' x = lw x) (hl1 : lw' (pa i0) ≤ lw (pa i0))
    (hw : ∃ w, O w ∧ nm w = lw' (pa i0) ∧ p_r St T (pa i0) w) (hv : T t → St (pa i0) t → V t) (ho : T t → St (pa i0) t → O t → lw' (pa i0) ≤ nm t) :
    t_I N St T V O nm lw' (fu ah (pa i0) (t + 1)) op pa ond dp nd := by
  obtain ⟨h1, h2, ⟨h3, h3'⟩, ⟨h4, h4', h4''⟩, ⟨h5, h5'⟩, h6, ⟨h7, h7'⟩, h8, h9, h10, h11⟩ := h
  have pne : ∀ i, i < dp → i ≠ i0 → pa i ≠ pa i0 := by
    intro i hi2 hne e
    rcases Nat.lt_or_gt_of_ne hne with c | c
    · have := h5' i i0 c hi; rw [e] at this; omega
    · have := h5' i0 i c hi2; rw [e] at this; omega
  have all : ∀ x, lw' x ≤ lw x := fun x => by
    by_cases c : x = pa i0
    · rw [c]; exact hl1
    · rw [hl x c]; exact Nat.le_refl _
  have adv : ∀ s y, T y → St s y → y < fu ah (pa i0) (t + 1) s → y < ah s ∨ (s = pa i0 ∧ y = t) := by
    intro s y _ _ hy
    by_cases c : s = pa i0
    · rw [c, fu_s] at hy
      rw [c, ha]
      rcases Nat.lt_or_ge y t with z | z
      · exact Or.inl z
      · exact Or.inr ⟨rfl, by omega⟩
    · rw [fu_n c] at hy; exact Or.inl hy
  refine ⟨h1, h2, ⟨h3, h3'⟩, ⟨h4, h4', h4''⟩, ⟨h5, h5'⟩, h6, ⟨?_, ?_⟩, ?_, h9, ?_, h11⟩
  · intro s y hs hy k hya
    rcases adv s y hy k hya with c | ⟨c, e⟩
    · exact h7 s y hs hy k c
    · rw [c, e] at k; rw [e] at hy ⊢; exact hv hy k
  · intro s hs hp
    rw [fu_n (fun e => hp i0 hi e.symm)]; exact h7' s hs hp
  · intro s hs
    obtain ⟨a, w, hw1, e, p⟩ := h8 s hs
    by_cases c : s = pa i0
    · rw [c] at a ⊢
      exact ⟨by omega, hw⟩
    · rw [hl s c]; exact ⟨a, w, hw1, e, p⟩
  · intro i s hi2 hs hle hup
    obtain ⟨a, b⟩ := h10 i s hi2 hs hle hup
    by_cases c : i = i0
    · subst c
      refine ⟨fun y hy k hya hyo => ?_, fun hne => ?_⟩
      · rcases adv s y hy k hya with z | ⟨z, e⟩
        · exact Nat.le_trans hl1 (a y hy k z hyo)
        · rw [z, e] at k; rw [e] at hy hyo ⊢; exact ho hy k hyo
      · obtain ⟨b1, b2⟩ := b hne
        rw [hl s hne]
        exact ⟨b1, Nat.le_trans hl1 b2⟩
    · have hsn : s ≠ pa i0 := by
        intro e
        subst e
        rcases Nat.lt_or_gt_of_ne c with z | z
        · have hx := hup (by omega)
          rcases Nat.lt_or_ge (i + 1) i0 with y | y
          · have := h5' (i + 1) i0 y hi; omega
          · have : i + 1 = i0 := by omega
            rw [this] at hx; omega
        · have := h5' i0 i z hi2; omega
      rw [hl _ (pne i hi2 c), hl s hsn]
      refine ⟨fun y hy k hya hyo => ?_, b⟩
      rw [fu_n hsn] at hya
      exact a y hy k hya hyo
/-- leave without a part -/
theorem t_leave (h : t_I N St T V O nm lw ah op pa ond (dp + 1) nd) (ha : ah (pa dp) = N) (hne : lw (pa dp) ≠ nm (pa dp)) :
    0 < dp ∧ ∀ lw' : Nat → Nat, (∀ x, x ≠ pa (dp - 1) → lw' x = lw x) → (lw' (pa (dp - 1)) = if lw (pa dp) < lw (pa (dp - 1)) then lw (pa dp) else lw (pa (dp - 1))) → t_I N St T V O nm lw' ah op pa ond dp nd := by
  have inj := fun {s t : Nat} => t_inj h (s := s) (t := t)
  obtain ⟨h1, h2, ⟨h3, h3'⟩, ⟨h4, h4', h4''⟩, ⟨h5, h5'⟩, h6, ⟨h7, h7'⟩, h8, h9, h10, h11⟩ := h
  have hs := h5 dp (by omega)
  obtain ⟨l1, w, ow, ew, pw⟩ := h8 _ hs
  have hd : 0 < dp := by
    rcases Nat.eq_zero_or_pos dp with c | c
    · exfalso
      have := (h11 w ow).2
      rw [c] at hne l1 ew
      omega
    · exact c
  refine ⟨hd, fun lw' hl hb => ?_⟩
  have hb1 : lw' (pa (dp - 1)) ≤ lw (pa (dp - 1)) := by rw [hb]; split <;> omega
  have hb2 : lw' (pa (dp - 1)) ≤ lw (pa dp) := by rw [hb]; split <;> omega
  have hlt := h5' (dp - 1) dp (by omega) (by omega)
  have ob := h5 (dp - 1) (by omega)
  have sb : pa dp ≠ pa (dp - 1) := fun e => by rw [e] at hlt; omega
  refine ⟨h1, h2, ⟨h3, h3'⟩, ⟨h4, h4', h4''⟩, ⟨fun i hi => h5 i (by omega), fun i j hij hj => h5' i j hij (by omega)⟩, h6, ⟨h7, ?_⟩, ?_, fun i s hi => h9 i s (by omega), ?_, fun s hs => ⟨hd, (h11 s hs).2⟩⟩
  · intro s hs hp
    by_cases c : s = pa dp
    · rw [c]; exact ha
    · refine h7' s hs fun i hi e => ?_
      rcases Nat.lt_or_ge i dp with z | z
      · exact hp i z e
      · have : i = dp := by omega
        rw [this] at e; exact c e.symm
  · intro s hs
    obtain ⟨a, w', hw1, e, p⟩ := h8 s hs
    by_cases c : s = pa (dp - 1)
    · subst c
      refine ⟨by omega, ?_⟩
      by_cases z : lw (pa dp) < lw (pa (dp - 1))
      · rw [if_pos z] at hb
        exact ⟨w, ow, by rw [hb, ew], p_trans (h9 (dp - 1) (pa dp) (by omega) (h5 dp (by omega)) (by omega)) pw⟩
      · rw [if_neg z] at hb
        exact ⟨w', hw1, by rw [hb, e], p⟩
    · rw [hl s c]; exact ⟨a, w', hw1, e, p⟩
  · intro i s hi hso hle hup
    by_cases c : i = dp - 1
    · subst c
      rcases Nat.lt_or_ge (nm s) (nm (pa dp)) with z | z
      · obtain ⟨a, b⟩ := h10 (dp - 1) s (by omega) hso hle (fun _ => by rw [show dp - 1 + 1 = dp by omega]; exact z)
        refine ⟨fun y hy k hya hyo => Nat.le_trans hb1 (a y hy k hya hyo), fun hne2 => ?_⟩
        obtain ⟨b1, b2⟩ := b hne2
        rw [hl s hne2]; exact ⟨b1, Nat.le_trans hb1 b2⟩
      · obtain ⟨a, b⟩ := h10 dp s (by omega) hso z (fun q => absurd q (by omega))
        refine ⟨fun y hy k hya hyo => Nat.le_trans hb2 (a y hy k hya hyo), fun hne2 => ?_⟩
        rw [hl s hne2]
        by_cases c2 : s = pa dp
        · rw [c2]; exact ⟨by omega, hb2⟩
        · obtain ⟨b1, b2⟩ := b c2
          exact ⟨b1, Nat.le_trans hb2 b2⟩
    · have hip : nm (pa i) < nm (pa (dp - 1)) := h5' i (dp - 1) (by omega) (by omega)
      have hx := hup (by omega)
      have hy2 : nm (pa (i + 1)) ≤ nm (pa (dp - 1)) := by
        rcases Nat.lt_or_ge (i + 1) (dp - 1) with y | y
        · exact Nat.le_of_lt (h5' (i + 1) (dp - 1) y (by omega))
        · have : i + 1 = dp - 1 := by omega
          rw [this]; exact Nat.le_refl _
      have n1 : pa i ≠ pa (dp - 1) := fun e => by rw [e] at hip; omega
      have n2 : s ≠ pa (dp - 1) := fun e => by rw [e] at hx; omega
      rw [hl _ n1, hl _ n2]
      exact h10 i s (by omega) hso hle (fun _ => hx)
/-- leave with a part: what the stack holds from pa dp on -/
theorem t_pop (hS : ∀ s t, St s t → t < N) (h : t_I N St T V O nm lw ah op pa ond (dp + 1) nd) (ha : ah (pa dp) = N) (he : lw (pa dp) = nm (pa dp)) {i0 : Nat} (hi0 : i0 < ond) (ei : op i0 = pa dp) :
    t_I N St T V (fun x => O x ∧ nm x < nm (pa dp)) nm lw ah op pa i0 dp nd ∧
    (∀ x y, (O x ∧ nm (pa dp) ≤ nm x) → (O y ∧ nm (pa dp) ≤ nm y) → p_r St (fun x => O x ∧ nm (pa dp) ≤ nm x) x y) ∧
    (∀ C : Nat → Prop, (∀ x y, C x → C y → p_r St C x y) → (∀ x, C x → T x ∧ ¬ (V x ∧ ¬ O x)) → ∀ x, C x → (O x ∧ nm (pa dp) ≤ nm x) → ∀ y, C y → (O y ∧ nm (pa dp) ≤ nm y)) ∧
    (∀ x, (O x ∧ nm (pa dp) ≤ nm x) ↔ ∃ i, i0 ≤ i ∧ i < ond ∧ op i = x) ∧ (0 < dp → lw (pa (dp - 1)) ≤ lw (pa dp)) := by
  have inj := fun {s t : Nat} => t_inj h (s := s) (t := t)
  obtain ⟨h1, h2, ⟨h3, h3'⟩, ⟨h4, h4', h4''⟩, ⟨h5, h5'⟩, h6, ⟨h7, h7'⟩, h8, h9, h10, h11⟩ := h
  have os := h5 dp (by omega)
  have cl : ∀ x y, (O x ∧ nm (pa dp) ≤ nm x) → T y → St x y → (O y ∧ nm (pa dp) ≤ nm y) ∨ (V y ∧ ¬ O y) := by
    intro x y ⟨ox, lx⟩ hy k
    have hax : ah x = N := by
      by_cases c : x = pa dp
      · rw [c]; exact ha
      · refine h7' x ox fun i hi e => ?_
        rcases Nat.lt_or_ge i dp with z | z
        · have := h5' i dp z (by omega); rw [e] at this; omega
        · have : i = dp := by omega
          rw [this] at e; exact c e.symm
    have hyN := hS x y k
    have vy := h7 x y ox hy k (by omega)
    by_cases oy : O y
    · left
      refine ⟨oy, ?_⟩
      have := (h10 dp x (by omega) ox lx (fun q => absurd q (by omega))).1 y hy k (by omega) oy
      omega
    · exact Or.inr ⟨vy, oy⟩
  have opi : ∀ i, i < ond → (i0 ≤ i ↔ nm (pa dp) ≤ nm (op i)) := by
    intro i hi
    constructor
    · intro z
      rcases Nat.lt_or_ge i0 i with c | c
      · have := h4'' i0 i c hi; rw [ei] at this; omega
      · have : i = i0 := by omega
        rw [this, ei]; exact Nat.le_refl _
    · intro z
      rcases Nat.lt_or_ge i i0 with c | c
      · have := h4'' i i0 c hi0; rw [ei] at this; omega
      · exact c
  have back : ∀ n x, nm x < n → (O x ∧ nm (pa dp) ≤ nm x) → p_r St T x (pa dp) := by
    intro n
    induction n with
    | zero => intro x hx; omega
    | succ n ih =>
      intro x hx ⟨ox, lx⟩
      by_cases c : x = pa dp
      · rw [c]; exact p_refl (h1 _ (h2 _ os))
      · obtain ⟨b1, b2⟩ := (h10 dp x (by omega) ox lx (fun q => absurd q (by omega))).2 c
        obtain ⟨_, w, ow, ew, pw⟩ := h8 x ox
        exact p_trans pw (ih w (by omega) ⟨ow, by omega⟩)
  refine ⟨⟨h1, fun s hs => h2 s hs.1, ⟨h3, h3'⟩, ⟨?_, ?_, fun i j hij hj => h4'' i j hij (by omega)⟩, ⟨fun i hi => ⟨h5 i (by omega), h5' i dp hi (by omega)⟩, fun i j hij hj => h5' i j hij (by omega)⟩, ?_, ⟨fun s y hs => h7 s y hs.1, ?_⟩, ?_, fun i s hi hs => h9 i s (by omega) hs.1, ?_, ?_⟩, ?_, ?_, ?_, ?_⟩
  · intro i hi
    refine ⟨h4 i (by omega), ?_⟩
    have := h4'' i i0 hi hi0; rw [ei] at this; exact this
  · rintro s ⟨hs, hl⟩
    obtain ⟨i, hi, e⟩ := h4' s hs
    refine ⟨i, ?_, e⟩
    rcases Nat.lt_or_ge i i0 with c | c
    · exact c
    · have := (opi i hi).mp c; rw [e] at this; omega
  · intro s y hv hn hy k
    by_cases os2 : O s
    · have ls : nm (pa dp) ≤ nm s := by
        rcases Nat.lt_or_ge (nm s) (nm (pa dp)) with c | c
        · exact absurd ⟨os2, c⟩ hn
        · exact c
      rcases cl s y ⟨os2, ls⟩ hy k with c | c
      · exact ⟨h2 y c.1, fun z => by have := z.2; omega⟩
      · exact ⟨c.1, fun z => c.2 z.1⟩
    · obtain ⟨a, b⟩ := h6 s y hv os2 hy k
      exact ⟨a, fun z => b z.1⟩
  · intro s hs hp
    refine h7' s hs.1 fun i hi e => ?_
    rcases Nat.lt_or_ge i dp with z | z
    · exact hp i z e
    · have : i = dp := by omega
      rw [this] at e; rw [← e] at hs; exact absurd hs.2 (by omega)
  · rintro s ⟨hs, hl⟩
    obtain ⟨a, w, ow, ew, pw⟩ := h8 s hs
    exact ⟨a, w, ⟨ow, by omega⟩, ew, pw⟩
  · intro i s hi hs hle hup
    obtain ⟨a, b⟩ := h10 i s (by omega) hs.1 hle (fun z => by
      rcases Nat.lt_or_ge (i + 1) dp with y | y
      · exact hup y
      · have : i + 1 = dp := by omega
        rw [this]; exact hs.2)
    exact ⟨fun y hy k hya hyo => a y hy k hya hyo.1, b⟩
  · rintro s ⟨hs, hl⟩
    have := (h11 s hs).2
    refine ⟨?_, this⟩
    rcases Nat.eq_zero_or_pos dp with c | c
    · rw [c] at hl; omega
    · exact c
  · intro x y hx hy
    have p : p_r St T x y := p_trans (back _ x (Nat.lt_succ_self _) hx) (h9 dp y (by omega) hy.1 hy.2)
    have key := p_ind p (fun w => (V w ∧ ¬ O w) ∨ p_r St (fun x => O x ∧ nm (pa dp) ≤ nm x) x w) (Or.inr (p_refl hx)) (by
      intro w w' _ hw hw' k
      rcases hw with hw | hw
      · exact Or.inl (h6 w w' hw.1 hw.2 hw' k)
      · rcases cl w w' (p_end hw) hw' k with c | c
        · exact Or.inr (p_snoc hw c k)
        · exact Or.inl c)
    exact key.elim (fun z => absurd hy.1 z.2) id
  · intro C hC hT x hx px y hy
    exact p_ind (hC x y hx hy) (fun w => O w ∧ nm (pa dp) ≤ nm w) px (by
      intro w w' _ hw hw' k
      rcases cl w w' hw (hT w' hw').1 k with c | c
      · exact c
      · exact absurd c (hT w' hw').2)
  · intro x
    constructor
    · rintro ⟨ox, lx⟩
      obtain ⟨i, hi, e⟩ := h4' x ox
      exact ⟨i, (opi i hi).mpr (by rw [e]; exact lx), hi, e⟩
    · rintro ⟨i, hi, hi2, e⟩
      rw [← e]
      exact ⟨h4 i hi2, (opi i hi2).mp hi⟩
  · intro hd
    have := (h8 _ (h5 (dp - 1) (by omega))).1
    have := h5' (dp - 1) dp (by omega) (by omega)
    omega
end Ta
end
section
/-! sums, and the sets that wait -/
def sm (f : Nat → Nat) : Nat → Nat
  | 0 => 0
  | n + 1 => sm f n + f n
theorem sm_le {f g : Nat → Nat} : ∀ {n : Nat}, (∀ i, i < n → f i ≤ g i) → sm f n ≤ sm g n
  | 0, _ => Nat.le_refl _
  | n + 1, h => by
    have a := sm_le (f := f) (g := g) (n := n) (fun i hi => h i (by omega))
    have b := h n (by omega)
    show sm f n + f n ≤ sm g n + g n
    omega
theorem sm_lt {f g : Nat → Nat} {k c : Nat} (hk : f k + c ≤ g k) : ∀ {n : Nat}, k < n → (∀ i, i < n → f i ≤ g i) → sm f n + c ≤ sm g n
  | 0, h, _ => absurd h (Nat.not_lt_zero _)
  | n + 1, h, hl => by
    show sm f n + f n + c ≤ sm g n + g n
    rcases Nat.lt_or_ge k n with z | z
    · have a := sm_lt hk (n := n) z (fun i hi => hl i (by omega))
      have b := hl n (by omega)
      omega
    · have e : k = n := by omega
      have a := sm_le (f := f) (g := g) (n := n) (fun i hi => hl i (by omega))
      rw [e] at hk
      omega
theorem sm_eq {f g : Nat → Nat} {n : Nat} (h : ∀ i, i < n → f i = g i) : sm f n = sm g n :=
  Nat.le_antisymm (sm_le fun i hi => Nat.le_of_eq (h i hi)) (sm_le fun i hi => Nat.le_of_eq (h i hi).symm)
theorem sm_ge {f : Nat → Nat} : ∀ {n : Nat}, (∀ i, i < n → 1 ≤ f i) → n ≤ sm f n
  | 0, _ => Nat.le_refl _
  | n + 1, h => by
    have a := sm_ge (f := f) (n := n) (fun i hi => h i (by omega))
    have b := h n (by omega)
    show n + 1 ≤ sm f n + f n
    omega
theorem cn_dj {P Q R : Nat → Prop} : ∀ {N : Nat}, (∀ k, k < N → P k → Q k → False) → (∀ k, k < N → P k ∨ Q k → R k) → cn P N + cn Q N ≤ cn R N
  | 0, _, _ => Nat.le_refl _
  | N + 1, h, k => by
    have a := cn_dj (P := P) (Q := Q) (R := R) (N := N) (fun i hi => h i (by omega)) (fun i hi => k i (by omega))
    show cn P N + b01 (P N) + (cn Q N + b01 (Q N)) ≤ cn R N + b01 (R N)
    have b : b01 (P N) + b01 (Q N) ≤ b01 (R N) := by
      by_cases p : P N
      · have q : ¬ Q N := fun q => h N (by omega) p q
        rw [b01_t p, b01_f q, b01_t (k N (by omega) (Or.inl p))]; omega
      · rw [b01_f p, Nat.zero_add]; exact b01_mono fun q => k N (by omega) (Or.inr q)
    omega
section Ju
variable (N : Nat) (St : Nat → Nat → Prop) (go : Nat → Nat → Nat → Prop) (en : Nat → Nat → Prop) (th fr : Nat → Int32) (W : Nat → Prop)
/-- within a split of T, of which Dn is done -/
def j_I (F T Dn : Nat → Prop) (td : Nat → Nat → Prop) (wt M : Nat) : Prop :=
  (∀ C : Nat → Prop, f_S St go en th fr C → (∀ x, C x → W x) → (∀ x, C x → F x) ∨ (∃ i, i < wt ∧ ∀ x, C x → td i x) ∨ (∀ x, C x → T x ∧ ¬ Dn x)) ∧
  (∀ s, F s → f_F St go en th fr W s) ∧ (∀ i x, i < wt → td i x → W x) ∧ (∀ x, T x → W x) ∧
  sm (fun i => cn (td i) N + 1) wt + cn (fun x => T x ∧ ¬ Dn x) N ≤ M
/-- between two splits -/
def o_I (F : Nat → Prop) (td : Nat → Nat → Prop) (wt M : Nat) : Prop :=
  (∀ C : Nat → Prop, f_S St go en th fr C → (∀ x, C x → W x) → (∀ x, C x → F x) ∨ (∃ i, i < wt ∧ ∀ x, C x → td i x)) ∧
  (∀ s, F s → f_F St go en th fr W s) ∧ (∀ i x, i < wt → td i x → W x) ∧ sm (fun i => cn (td i) N + 1) wt ≤ M
end Ju
section Jv
variable {N : Nat} {St : Nat → Nat → Prop} {go : Nat → Nat → Nat → Prop} {en : Nat → Nat → Prop} {th fr : Nat → Int32} {W F T Dn : Nat → Prop} {td : Nat → Nat → Prop} {wt M : Nat}
theorem o_0 {W' : Nat → Prop} (hW : ∀ x, td 0 x ↔ W x) (hF : ∀ x, ¬ F x) : o_I N St go en th fr W F td 1 (N + 1) := by
  refine ⟨fun C _ h => Or.inr ⟨0, by omega, fun x hx => (hW x).mpr (h x hx)⟩, fun s h => absurd h (hF s), fun i x hi h => ?_, ?_⟩
  · have : i = 0 := by omega
    rw [this] at h; exact (hW x).mp h
  · show 0 + (cn (td 0) N + 1) ≤ N + 1
    have := cn_le (td 0) N
    omega
theorem o_end (h : o_I N St go en th fr W F td 0 M) (s : Nat) : F s ↔ f_F St go en th fr W s := by
  refine ⟨h.2.1 s, ?_⟩
  rintro ⟨C, hC, hW, hs⟩
  rcases h.1 C hC hW with z | ⟨i, hi, _⟩
  · exact z s hs
  · exact absurd hi (Nat.not_lt_zero _)
theorem o_pop (h : o_I N St go en th fr W F td (wt + 1) (M + 1)) : j_I N St go en th fr W F (td wt) (fun _ => False) td wt M := by
  obtain ⟨h1, h2, h3, h4⟩ := h
  refine ⟨fun C hC hW => ?_, h2, fun i x hi => h3 i x (by omega), fun x => h3 wt x (by omega), ?_⟩
  · rcases h1 C hC hW with z | ⟨i, hi, z⟩
    · exact Or.inl z
    · rcases Nat.lt_or_ge i wt with c | c
      · exact Or.inr (Or.inl ⟨i, c, z⟩)
      · have : i = wt := by omega
        rw [this] at z
        exact Or.inr (Or.inr fun x hx => ⟨z x hx, id⟩)
  · have e : cn (fun x => td wt x ∧ ¬ False) N = cn (td wt) N := cn_eq fun k _ => ⟨fun z => z.1, fun z => ⟨z, id⟩⟩
    rw [e]
    have : sm (fun i => cn (td i) N + 1) (wt + 1) = sm (fun i => cn (td i) N + 1) wt + (cn (td wt) N + 1) := rfl
    omega
theorem o_M (h : o_I N St go en th fr W F td (wt + 1) M) : 1 ≤ M ∧ wt + 1 ≤ M := by
  have := sm_ge (f := fun i => cn (td i) N + 1) (n := wt + 1) (fun i _ => by omega)
  have := h.2.2.2
  omega
theorem j_end (h : j_I N St go en th fr W F T Dn td wt M) (hd : ∀ x, T x → Dn x) : o_I N St go en th fr W F td wt M := by
  obtain ⟨h1, h2, h3, h4, h5⟩ := h
  refine ⟨fun C hC hW => ?_, h2, h3, by omega⟩
  rcases h1 C hC hW with z | z | z
  · exact Or.inl z
  · exact Or.inr z
  · exact Or.inl fun x hx => absurd (hd x (z x hx).1) (z x hx).2
theorem j_c {F' Dn' : Nat → Prop} {td' : Nat → Nat → Prop} (h : j_I N St go en th fr W F T Dn td wt M) (hF : ∀ x, F x ↔ F' x) (hD : ∀ x, T x → (Dn x ↔ Dn' x)) (ht : ∀ i x, i < wt → (td i x ↔ td' i x)) : j_I N St go en th fr W F' T Dn' td' wt M := by
  obtain ⟨h1, h2, h3, h4, h5⟩ := h
  refine ⟨fun C hC hW => ?_, fun s hs => h2 s ((hF s).mpr hs), fun i x hi hx => h3 i x hi ((ht i x hi).mpr hx), h4, ?_⟩
  · rcases h1 C hC hW with z | ⟨i, hi, z⟩ | z
    · exact Or.inl fun x hx => (hF x).mp (z x hx)
    · exact Or.inr (Or.inl ⟨i, hi, fun x hx => (ht i x hi).mp (z x hx)⟩)
    · exact Or.inr (Or.inr fun x hx => ⟨(z x hx).1, fun q => (z x hx).2 ((hD x (z x hx).1).mpr q)⟩)
  · have e1 : sm (fun i => cn (td' i) N + 1) wt = sm (fun i => cn (td i) N + 1) wt := sm_eq fun i hi => by
      show cn (td' i) N + 1 = cn (td i) N + 1
      rw [cn_eq fun k _ => (ht i k hi).symm]
    have e2 : cn (fun x => T x ∧ ¬ Dn' x) N = cn (fun x => T x ∧ ¬ Dn x) N := cn_eq fun k _ => ⟨fun z => ⟨z.1, fun q => z.2 ((hD k z.1).mp q)⟩, fun z => ⟨z.1, fun q => z.2 ((hD k z.1).mpr q)⟩⟩
    rw [e1, e2]; exact h5
/-- a part is done -/
theorem j_part {P : Nat → Prop} (h : j_I N St go en th fr W F T Dn td wt M) (hP : ∀ x, P x → x < N ∧ T x ∧ ¬ Dn x)
    (p2 : ∀ C : Nat → Prop, (∀ x y, C x → C y → p_r St C x y) → (∀ x, C x → T x ∧ ¬ Dn x) → ∀ x, C x → P x → ∀ y, C y → P y) :
    (∀ C : Nat → Prop, f_S St go en th fr C → (∀ x, C x → W x) → (∀ x, C x → F x) ∨ (∃ i, i < wt ∧ ∀ x, C x → td i x) ∨ (∀ x, C x → T x ∧ ¬ (Dn x ∨ P x)) ∨ (∀ x, C x → P x)) ∧
    cn P N + (sm (fun i => cn (td i) N + 1) wt + cn (fun x => T x ∧ ¬ (Dn x ∨ P x)) N) ≤ M := by
  obtain ⟨h1, h2, h3, h4, h5⟩ := h
  constructor
  · intro C hC hW
    rcases h1 C hC hW with z | z | z
    · exact Or.inl z
    · exact Or.inr (Or.inl z)
    · by_cases e : ∃ x, C x ∧ P x
      · obtain ⟨x, hx, px⟩ := e
        exact Or.inr (Or.inr (Or.inr (p2 C hC.1 z x hx px)))
      · exact Or.inr (Or.inr (Or.inl fun x hx => ⟨(z x hx).1, fun q => q.elim (z x hx).2 fun q => e ⟨x, hx, q⟩⟩))
  · have := cn_dj (P := P) (Q := fun x => T x ∧ ¬ (Dn x ∨ P x)) (R := fun x => T x ∧ ¬ Dn x) (N := N) (fun k _ p q => q.2 (Or.inr p)) (fun k _ pq => pq.elim (fun p => (hP k p).2) (fun q => ⟨q.1, fun z => q.2 (Or.inl z)⟩))
    omega
theorem j_weak {P : Nat → Prop} (h : j_I N St go en th fr W F T Dn td wt M) (hP : ∀ x, P x → x < N ∧ T x ∧ ¬ Dn x)
    (p2 : ∀ C : Nat → Prop, (∀ x y, C x → C y → p_r St C x y) → (∀ x, C x → T x ∧ ¬ Dn x) → ∀ x, C x → P x → ∀ y, C y → P y)
    (hw : ∀ C : Nat → Prop, f_S St go en th fr C → (∀ x, C x → P x) → ∀ x, C x → F x) : j_I N St go en th fr W F T (fun x => Dn x ∨ P x) td wt M := by
  obtain ⟨a, b⟩ := j_part h hP p2
  refine ⟨fun C hC hW => ?_, h.2.1, h.2.2.1, h.2.2.2.1, Nat.le_trans (Nat.le_add_left _ _) b⟩
  rcases a C hC hW with z | z | z | z
  · exact Or.inl z
  · exact Or.inr (Or.inl z)
  · exact Or.inr (Or.inr z)
  · exact Or.inl (hw C hC z)
theorem j_fair {P F' : Nat → Prop} (h : j_I N St go en th fr W F T Dn td wt M) (hP : ∀ x, P x → x < N ∧ T x ∧ ¬ Dn x)
    (p2 : ∀ C : Nat → Prop, (∀ x y, C x → C y → p_r St C x y) → (∀ x, C x → T x ∧ ¬ Dn x) → ∀ x, C x → P x → ∀ y, C y → P y)
    (hf : f_S St go en th fr P) (hF : ∀ x, F' x ↔ F x ∨ P x) : j_I N St go en th fr W F' T (fun x => Dn x ∨ P x) td wt M := by
  obtain ⟨a, b⟩ := j_part h hP p2
  refine ⟨fun C hC hW => ?_, fun s hs => ?_, h.2.2.1, h.2.2.2.1, Nat.le_trans (Nat.le_add_left _ _) b⟩
  · rcases a C hC hW with z | z | z | z
    · exact Or.inl fun x hx => (hF x).mpr (Or.inl (z x hx))
    · exact Or.inr (Or.inl z)
    · exact Or.inr (Or.inr z)
    · exact Or.inl fun x hx => (hF x).mpr (Or.inr (z x hx))
  · rcases (hF s).mp hs with z | z
    · exact h.2.1 s z
    · exact ⟨P, hf, fun x hx => h.2.2.2.1 x (hP x hx).2.1, z⟩
theorem j_again {P Q : Nat → Prop} {td' : Nat → Nat → Prop} (h : j_I N St go en th fr W F T Dn td wt M) (hP : ∀ x, P x → x < N ∧ T x ∧ ¬ Dn x)
    (p2 : ∀ C : Nat → Prop, (∀ x y, C x → C y → p_r St C x y) → (∀ x, C x → T x ∧ ¬ Dn x) → ∀ x, C x → P x → ∀ y, C y → P y)
    (hw : ∀ C : Nat → Prop, f_S St go en th fr C → (∀ x, C x → P x) → ∀ x, C x → Q x) (hQ : ∀ x, Q x → P x) {s : Nat} (hs : P s) (hn : ¬ Q s) (ht : ∀ i x, i < wt → (td i x ↔ td' i x)) (hq : ∀ x, td' wt x ↔ Q x) :
    wt + 1 ≤ M ∧ j_I N St go en th fr W F T (fun x => Dn x ∨ P x) td' (wt + 1) M := by
  obtain ⟨a, b⟩ := j_part h hP p2
  have hlt := cn_lt (P := Q) (Q := P) (a := s) (N := N) hn hs (fun k _ q => hQ k q) (hP s hs).1
  have e1 : sm (fun i => cn (td' i) N + 1) wt = sm (fun i => cn (td i) N + 1) wt := sm_eq fun i hi => by
    show cn (td' i) N + 1 = cn (td i) N + 1
    rw [cn_eq fun k _ => (ht i k hi).symm]
  have e2 : cn (td' wt) N = cn Q N := cn_eq fun k _ => hq k
  have hsum : sm (fun i => cn (td' i) N + 1) (wt + 1) + cn (fun x => T x ∧ ¬ (Dn x ∨ P x)) N ≤ M := by
    show sm (fun i => cn (td' i) N + 1) wt + (cn (td' wt) N + 1) + _ ≤ M
    omega
  refine ⟨?_, fun C hC hW => ?_, h.2.1, fun i x hi hx => ?_, h.2.2.2.1, hsum⟩
  · have := sm_ge (f := fun i => cn (td' i) N + 1) (n := wt + 1) (fun i _ => by omega)
    omega
  · rcases a C hC hW with z | ⟨i, hi, z⟩ | z | z
    · exact Or.inl z
    · exact Or.inr (Or.inl ⟨i, by omega, fun x hx => (ht i x hi).mp (z x hx)⟩)
    · exact Or.inr (Or.inr z)
    · exact Or.inr (Or.inl ⟨wt, by omega, fun x hx => (hq x).mpr (hw C hC z x hx)⟩)
  · rcases Nat.lt_or_ge i wt with c | c
    · exact h.2.2.1 i x c ((ht i x c).mpr hx)
    · have : i = wt := by omega
      rw [this] at hx
      exact h.2.2.2.1 x (hP x (hQ x ((hq x).mp hx))).2.1
end Jv
/-! the measure of the walk -/
noncomputable def t_w (N : Nat) (V : Nat → Prop) (ah : Nat → Nat) (s : Nat) : Nat := @ite Nat (V s) (Classical.propDecidable (V s)) (N - ah s) (N + 2)
theorem t_w_v {N : Nat} {V : Nat → Prop} {ah : Nat → Nat} {s : Nat} (h : V s) : t_w N V ah s = N - ah s := by unfold t_w; rw [if_pos h]
theorem t_w_n {N : Nat} {V : Nat → Prop} {ah : Nat → Nat} {s : Nat} (h : ¬ V s) : t_w N V ah s = N + 2 := by unfold t_w; rw [if_neg h]
noncomputable def t_mu (N : Nat) (V : Nat → Prop) (ah : Nat → Nat) (dp : Nat) : Nat := sm (t_w N V ah) N + dp
theorem t_mu_adv {N : Nat} {V : Nat → Prop} {ah : Nat → Nat} {s t dp : Nat} (hs : V s) (hN : s < N) (ha : ah s = t) (ht : t < N) : t_mu N V (fu ah s (t + 1)) dp < t_mu N V ah dp := by
  unfold t_mu
  have := sm_lt (f := t_w N V (fu ah s (t + 1))) (g := t_w N V ah) (k := s) (c := 1) (by rw [t_w_v hs, t_w_v hs, fu_s]; omega) (n := N) hN (fun i _ => by
    by_cases c : i = s
    · rw [c, t_w_v hs, t_w_v hs, fu_s]; omega
    · by_cases v : V i
      · rw [t_w_v v, t_w_v v, fu_n c]; exact Nat.le_refl _
      · rw [t_w_n v, t_w_n v]; exact Nat.le_refl _)
  omega
theorem t_mu_ent {N : Nat} {V : Nat → Prop} {ah : Nat → Nat} {t dp : Nat} (hv : ¬ V t) (hN : t < N) : t_mu N (fun x => V x ∨ x = t) (fu ah t 0) (dp + 1) < t_mu N V ah dp := by
  unfold t_mu
  have := sm_lt (f := t_w N (fun x => V x ∨ x = t) (fu ah t 0)) (g := t_w N V ah) (k := t) (c := 2) (by rw [t_w_v (Or.inr rfl), t_w_n hv, fu_s]; omega) (n := N) hN (fun i _ => by
    by_cases c : i = t
    · rw [c, t_w_v (Or.inr rfl), t_w_n hv, fu_s]; omega
    · by_cases v : V i
      · rw [t_w_v (Or.inl v), t_w_v v, fu_n c]; exact Nat.le_refl _
      · rw [t_w_n v, t_w_n (fun z => z.elim v c)]; exact Nat.le_refl _)
  omega
end
section
/-! X: expressions -/
def r_L (tk : Nat → Nat → Nat) (ln : Nat → Nat) (a_list a_length : Nat → Int32) : Prop := ∀ l, l < 19 → a_length l = nI (ln l) ∧ ∀ k, k < ln l → a_list (12 * l + k) = nI (tk l k)
def r_Tk (tk : Nat → Nat → Nat) (ln : Nat → Nat) : Prop := ∀ l, l < 19 → ln l ≤ 12 ∧ ∀ k, k < ln l → tk l k ≤ 28 ∧ (tk l k < 20 → tk l k ≤ 4 ∨ (10 ≤ tk l k ∧ tk l k ≤ 12))
theorem x_opd {post : Int32 → Prop} {t : Nat} (ht : t < 2 ^ 31) (h : post (nI (e_ar t))) : wpX_operands post (nI t) := by
  unfold wpX_operands
  refine pk_le 20 t (fun h1 => pk_le 27 t (fun h2 => pk_eq t 27 (fun e => ?_) (fun e => ?_)) (fun h2 => ?_)) (fun h1 => ?_)
  · rw [e, e_ar_1] at h; exact h
  · rw [e_ar_3 (by omega)] at h; exact h
  · rw [e_ar_2 (by omega) (by omega)] at h; exact h
  · rw [e_ar_0 h1] at h; exact h
theorem nI_lit {a : Nat} (n : Nat) : nI a = nI n → nI a = nI n := id
theorem x_in {post : Int32 → Prop} {x : Int32} {n : Nat} (hn : n < 2 ^ 31) (h0 : ¬ vp_in x n → post 0) (h1 : ∀ j, j < n → x = nI j → post 1) : wpX_in post x (nI n) := by
  unfold wpX_in
  refine br_c (fun h => h0 fun z => z (Or.inl h)) (fun h => ?_)
  obtain ⟨j, hj, e⟩ := nI_of h
  subst e
  exact pk_le n j (fun h => h0 fun z => z (Or.inr (by rw [nI_clamp hj]; exact h))) (fun h => h1 j h rfl)
theorem e_ms_pos {tk : Nat → Nat} {m k : Nat} (hk : ¬ e_ms tk k = 0) : nI (e_ms tk k) + (nI (e_ar (tk k)) - 1) = nI (e_ms tk (k + 1)) := by
  show _ = nI (e_ms tk k + e_ar (tk k) - 1)
  rcases Nat.eq_zero_or_pos (e_ar (tk k)) with c | c
  · rw [c]
    obtain ⟨j, hj⟩ : ∃ j, e_ms tk k = j + 1 := ⟨e_ms tk k - 1, by omega⟩
    rw [hj]
    exact pk_m1 j
  · rw [show nI (e_ar (tk k)) - 1 = nI (e_ar (tk k) - 1) from pk_sub (b := 1) c, nI_add]
    congr 1; omega
theorem e_ms_le {tk : Nat → Nat} : ∀ k, e_ms tk k ≤ 1 + 2 * k
  | 0 => Nat.le_refl _
  | k + 1 => by
    have := e_ms_le (tk := tk) k
    have := e_ar_le (tk k)
    show e_ms tk k + e_ar (tk k) - 1 ≤ _
    omega
/-- the answer of whole, isExpression -/
noncomputable def e_w01 (tk : Nat → Nat) (m : Nat) : Int32 := @ite Int32 (e_wh tk m) (Classical.propDecidable _) 1 0
theorem e_w01_t {tk : Nat → Nat} {m : Nat} (h : e_wh tk m) : e_w01 tk m = 1 := by unfold e_w01; rw [if_pos h]
theorem e_w01_f {tk : Nat → Nat} {m : Nat} (h : ¬ e_wh tk m) : e_w01 tk m = 0 := by unfold e_w01; rw [if_neg h]
section Xe
variable {f_made f_states f_initial f_reached f_deepest f_options0 f_options1 f_opened f_depthOf f_numbered f_waiting f_traced f_failures : Int32} {f_fairLow f_fairHigh f_partLow f_partHigh f_withLow f_withHigh f_backLow f_backHigh : Int64} {a_sizes a_list a_length a_there a_how a_fairness a_stack a_val a_guards a_enabled a_depth a_number a_low a_onStack a_open a_path a_ahead a_shown a_failed : Nat → Int32} {a_goes a_steps a_todo : Nat → Int64}
variable {post : Int32 → Prop} {z : Nat → Nat} {tk : Nat → Nat → Nat} {ln : Nat → Nat}
theorem x_whole_l {l : Nat} (hl : l < 19) (hL : r_L tk ln a_list a_length) (hT : r_Tk tk ln) (h : post (e_w01 (tk l) (ln l))) :
    ∀ n k, k ≤ ln l → ln l - k < n → (∀ j, j < k → 1 ≤ e_ms (tk l) j) → wX_whole_7 post (nI l) f_made f_states f_initial f_reached f_deepest f_options0 f_options1 f_opened f_depthOf f_numbered f_waiting f_fairLow f_fairHigh f_partLow f_partHigh f_withLow f_withHigh f_traced f_failures f_backLow f_backHigh a_sizes a_list a_length a_there a_how a_fairness a_stack a_val a_goes a_steps a_guards a_enabled a_depth a_number a_low a_onStack a_open a_path a_ahead a_todo a_shown a_failed n (nI (e_ms (tk l) k)) (nI (12 * l + k)) := by
  have h12 := (hT l hl).1
  obtain ⟨hlen, hlist⟩ := hL l hl
  intro n
  induction n with
  | zero => intro k _ h; omega
  | succ n ih =>
    intro k hk hn hp
    have hm := e_ms_le (tk := tk l) k
    have e12 : (12 * nI l) + a_length (nI l).toNatClampNeg = nI (12 * l + ln l) := by
      rw [nI_clamp (by omega), hlen, show (12 : Int32) * nI l = nI (12 * l) from pk_mul 12 l, nI_add]
    refine ⟨vp_in_nI hl (by omega), ?_⟩
    rw [e12]
    refine pk_le (12 * l + ln l) (12 * l + k) (fun h1 => ?_) (fun h1 => ?_)
    · have ek : k = ln l := by omega
      subst ek
      refine pk_eq (e_ms (tk l) (ln l)) 0 (fun e => ?_) (fun e => ?_)
      · rw [e_w01_t ⟨hp, e⟩] at h; exact h
      · rw [e_w01_f (fun w => e w.2)] at h; exact h
    · refine pk_eq (e_ms (tk l) k) 0 (fun e => ?_) (fun e => ?_)
      · rw [e_w01_f (fun w => by have := w.1 k (by omega); omega)] at h; exact h
      · refine ⟨vp_in_nI (by omega) (by omega), ?_⟩
        rw [nI_clamp (by omega), hlist k (by omega)]
        have h28 := ((hT l hl).2 k (by omega)).1
        refine x_opd (by omega) (nm_r (e_ms_pos (m := ln l) e) (nm_r (nI_1 (12 * l + k)) ?_))
        exact ih (k + 1) (by omega) (by omega) (fun j hj => by
          rcases Nat.lt_or_ge j k with c | c
          · exact hp j c
          · have : j = k := by omega
            rw [this]; omega)
theorem x_whole {l : Nat} (hl : l < 19) (hL : r_L tk ln a_list a_length) (hT : r_Tk tk ln) (h : post (e_w01 (tk l) (ln l))) : wpX_whole post (f_made, f_states, f_initial, f_reached, f_deepest, f_options0, f_options1, f_opened, f_depthOf, f_numbered, f_waiting, f_fairLow, f_fairHigh, f_partLow, f_partHigh, f_withLow, f_withHigh, f_traced, f_failures, f_backLow, f_backHigh, a_sizes, a_list, a_length, a_there, a_how, a_fairness, a_stack, a_val, a_goes, a_steps, a_guards, a_enabled, a_depth, a_number, a_low, a_onStack, a_open, a_path, a_ahead, a_todo, a_shown, a_failed) (nI l) :=
  nm_r (show (12 : Int32) * nI l = nI (12 * l) from pk_mul 12 l) ⟨ln l + 1, x_whole_l hl hL hT h (ln l + 1) 0 (Nat.zero_le _) (by omega) (fun j hj => absurd hj (Nat.not_lt_zero _))⟩
end Xe
section Xv
variable {f_made f_states f_initial f_reached f_deepest f_options0 f_options1 f_opened f_depthOf f_numbered f_waiting f_traced f_failures : Int32} {f_fairLow f_fairHigh f_partLow f_partHigh f_withLow f_withHigh f_backLow f_backHigh : Int64} {a_sizes a_list a_length a_there a_how a_fairness a_stack a_val a_guards a_enabled a_depth a_number a_low a_onStack a_open a_path a_ahead a_shown a_failed : Nat → Int32} {a_goes a_steps a_todo : Nat → Int64}
variable {z : Nat → Nat} {tk : Nat → Nat → Nat} {ln : Nat → Nat}
theorem x_val_it {post : SX → Prop} {n v rest zz : Nat} (hv : v < 3) (h1 : 1 ≤ zz) (h5 : zz ≤ 5) (he : a_sizes v = nI zz) (hr : rest < 2 ^ 31)
    (H : wX_values_4 post f_made f_states f_initial f_reached f_deepest f_options0 f_options1 f_opened f_depthOf f_numbered f_waiting f_fairLow f_fairHigh f_partLow f_partHigh f_withLow f_withHigh f_traced f_failures f_backLow f_backHigh n (nI (rest / zz)) (nI (v + 1)) a_sizes a_list a_length a_there a_how a_fairness a_stack (upd a_val v (nI (rest % zz))) a_goes a_steps a_guards a_enabled a_depth a_number a_low a_onStack a_open a_path a_ahead a_todo a_shown a_failed) :
    wX_values_4 post f_made f_states f_initial f_reached f_deepest f_options0 f_options1 f_opened f_depthOf f_numbered f_waiting f_fairLow f_fairHigh f_partLow f_partHigh f_withLow f_withHigh f_traced f_failures f_backLow f_backHigh (n + 1) (nI rest) (nI v) a_sizes a_list a_length a_there a_how a_fairness a_stack a_val a_goes a_steps a_guards a_enabled a_depth a_number a_low a_onStack a_open a_path a_ahead a_todo a_shown a_failed := by
  have c3 : ¬ (3 : Int32) ≤ nI v := nI_ge (b := 3) hv (by omega)
  have hc : (nI v).toNatClampNeg = v := nI_clamp (by omega)
  have p1 : (1 : Int32) ≤ nI zz := nI_le (a := 1) h1 (by omega)
  have n0 : ¬ nI zz = 0 := nI_ne0 (by omega) (by omega)
  refine br_f c3 ⟨vp_in_nI hv (by omega), nm_r (e' := nI zz) (by rw [hc, he]) (br_t p1 ⟨n0, ?_⟩)⟩
  unfold wX_values_36
  refine ⟨vp_in_nI hv (by omega), nm_r (e' := upd a_val v (nI (rest % zz))) (by rw [hc, pk_rem hr (by omega) (by omega)]) (br_t p1 ⟨n0, nm_r (pk_div hr (by omega) (by omega)) (nm_r (nI_1 v) H)⟩)⟩
theorem x_values {post : SX → Prop} {s : Nat} (hz : s_Z z) (hsz : ∀ v, v < 3 → a_sizes v = nI (z v)) (hs : s < s_N z)
    (H : ∀ a_val' : Nat → Int32, (∀ v, v < 3 → a_val' v = nI (sv z s v)) → post (f_made, f_states, f_initial, f_reached, f_deepest, f_options0, f_options1, f_opened, f_depthOf, f_numbered, f_waiting, f_fairLow, f_fairHigh, f_partLow, f_partHigh, f_withLow, f_withHigh, f_traced, f_failures, f_backLow, f_backHigh, a_sizes, a_list, a_length, a_there, a_how, a_fairness, a_stack, a_val', a_goes, a_steps, a_guards, a_enabled, a_depth, a_number, a_low, a_onStack, a_open, a_path, a_ahead, a_todo, a_shown, a_failed)) : wpX_values post (f_made, f_states, f_initial, f_reached, f_deepest, f_options0, f_options1, f_opened, f_depthOf, f_numbered, f_waiting, f_fairLow, f_fairHigh, f_partLow, f_partHigh, f_withLow, f_withHigh, f_traced, f_failures, f_backLow, f_backHigh, a_sizes, a_list, a_length, a_there, a_how, a_fairness, a_stack, a_val, a_goes, a_steps, a_guards, a_enabled, a_depth, a_number, a_low, a_onStack, a_open, a_path, a_ahead, a_todo, a_shown, a_failed) (nI s) := by
  have hN := s_N_le hz
  have z0 := hz 0 (by omega)
  have z1 := hz 1 (by omega)
  have z2 := hz 2 (by omega)
  have hd1 : s / z 0 ≤ s := Nat.div_le_self _ _
  have hd2 : s / z 0 / z 1 ≤ s / z 0 := Nat.div_le_self _ _
  have c3 : (3 : Int32) ≤ nI 3 := nI_le (a := 3) (b := 3) (by omega) (by omega)
  refine ⟨4, x_val_it (v := 0) (by omega) z0.1 z0.2 (hsz 0 (by omega)) (by omega) (x_val_it (v := 1) (by omega) z1.1 z1.2 (hsz 1 (by omega)) (by omega) (x_val_it (v := 2) (by omega) z2.1 z2.2 (hsz 2 (by omega)) (by omega) (br_t c3 (H _ ?_))))⟩
  intro v hv
  have : v = 0 ∨ v = 1 ∨ v = 2 := by omega
  rcases this with e | e | e <;> subst e
  · rw [pk_un (by omega), pk_un (by omega), pk_us]; rfl
  · rw [pk_un (by omega), pk_us]; rfl
  · have hl := sv_lt hz hs (v := 2) (by omega)
    rw [sv_2] at hl
    rw [pk_us, Nat.mod_eq_of_lt hl]; rfl
theorem x_result {post : Int32 → Prop} {t : Nat} {a b c : Int32} (h20 : 20 ≤ t) (h28 : t ≤ 28) (h : post (e_res t a b c)) : wpX_result post (nI t) a b c := by
  unfold wpX_result
  unfold e_res at h
  refine pk_lt t 20 (fun h1 => absurd h1 (by omega)) (fun _ => pk_lt 27 t (fun h1 => ?_) (fun h1 => ?_))
  · rw [if_neg (by omega), if_neg (by omega), if_neg (by omega), if_neg (by omega), if_neg (by omega), if_neg (by omega), if_neg (by omega), if_neg (by omega)] at h
    exact br_c (fun e => by rw [if_pos e] at h; exact h) (fun e => by rw [if_neg e] at h; exact h)
  refine pk_eq t 20 (fun e => ?_) (fun e1 => pk_eq t 21 (fun e => ?_) (fun e2 => pk_eq t 22 (fun e => ?_) (fun e3 => pk_eq t 23 (fun e => ?_) (fun e4 => pk_eq t 24 (fun e => ?_) (fun e5 => pk_eq t 25 (fun e => ?_) (fun e6 => pk_eq t 26 (fun e => ?_) (fun e7 => pk_eq t 27 (fun e => ?_) (fun e8 => trivial))))))))
  · rw [if_pos e] at h; exact h
  · rw [if_neg e1, if_pos e] at h; exact h
  · rw [if_neg e1, if_neg e2, if_pos e] at h; exact h
  · rw [if_neg e1, if_neg e2, if_neg e3, if_pos e] at h
    exact br_c (fun e => by rw [if_pos e] at h; exact h) (fun e => by rw [if_neg e] at h; exact h)
  · rw [if_neg e1, if_neg e2, if_neg e3, if_neg e4, if_pos e] at h
    exact br_c (fun e => by rw [if_pos e] at h; exact h) (fun e => by rw [if_neg e] at h; exact h)
  · rw [if_neg e1, if_neg e2, if_neg e3, if_neg e4, if_neg e5, if_pos e] at h
    exact br_c (fun e => by rw [if_pos e] at h; exact h) (fun e => by
      rw [if_neg e] at h
      exact br_c (fun e => by rw [if_pos e] at h; exact h) (fun e => by rw [if_neg e] at h; exact h))
  · rw [if_neg e1, if_neg e2, if_neg e3, if_neg e4, if_neg e5, if_neg e6, if_pos e] at h
    exact br_c (fun e => by
      rw [if_pos e] at h
      exact br_c (fun e => by rw [if_pos e] at h; exact h) (fun e => by rw [if_neg e] at h; exact h)) (fun e => by rw [if_neg e] at h; exact h)
  · rw [if_neg e1, if_neg e2, if_neg e3, if_neg e4, if_neg e5, if_neg e6, if_neg e7, if_pos e] at h
    exact br_c (fun e => by rw [if_pos e] at h; exact h) (fun e => by rw [if_neg e] at h; exact h)
theorem x_worth_l {post : Int32 → SX → Prop} {l s : Nat} (hl : l < 19) (hL : r_L tk ln a_list a_length) (hT : r_Tk tk ln) (hv : ∀ v, v < 3 → a_val v = nI (sv z s v)) (hw : e_wh (tk l) (ln l)) (f0 : Nat → Int32)
    (H : ∀ a_stack' : Nat → Int32, post (s_E z tk ln l s) (f_made, f_states, f_initial, f_reached, f_deepest, f_options0, f_options1, f_opened, f_depthOf, f_numbered, f_waiting, f_fairLow, f_fairHigh, f_partLow, f_partHigh, f_withLow, f_withHigh, f_traced, f_failures, f_backLow, f_backHigh, a_sizes, a_list, a_length, a_there, a_how, a_fairness, a_stack', a_val, a_goes, a_steps, a_guards, a_enabled, a_depth, a_number, a_low, a_onStack, a_open, a_path, a_ahead, a_todo, a_shown, a_failed)) :
    ∀ n j, j ≤ ln l → ln l - j < n → wX_worth_16 post (nI l) f_made f_states f_initial f_reached f_deepest f_options0 f_options1 f_opened f_depthOf f_numbered f_waiting f_fairLow f_fairHigh f_partLow f_partHigh f_withLow f_withHigh f_traced f_failures f_backLow f_backHigh n (nI (e_sn (tk l) (ln l) j)) (nI (12 * l + (ln l - j)) - 1) a_sizes a_list a_length a_there a_how a_fairness (e_sf (tk l) (sv z s) (ln l) f0 j) a_val a_goes a_steps a_guards a_enabled a_depth a_number a_low a_onStack a_open a_path a_ahead a_todo a_shown a_failed := by
  have h12 := (hT l hl).1
  obtain ⟨hlen, hlist⟩ := hL l hl
  have hpos := e_wh_0 hw
  have e12 : (12 : Int32) * nI l = nI (12 * l) := pk_mul 12 l
  intro n
  induction n with
  | zero => intro k _ h; omega
  | succ n ih =>
    intro j hj hn
    rcases Nat.lt_or_ge j (ln l) with c | c
    · have ep : nI (12 * l + (ln l - j)) - 1 = nI (12 * l + (ln l - 1 - j)) := by
        rw [show ln l - j = (ln l - 1 - j) + 1 by omega, ← Nat.add_assoc]
        exact nI_pred _
      have ep2 : nI (12 * l + (ln l - 1 - j)) + (-1) = nI (12 * l + (ln l - (j + 1))) - 1 := by
        rw [show ln l - (j + 1) = ln l - 1 - j by omega]
        exact (Int32.sub_eq_add_neg _ _).symm
      have c1 : ¬ nI (12 * l + (ln l - 1 - j)) < 12 * nI l := by rw [e12]; exact nI_nlt (by omega) (by omega)
      have hcl : (nI (12 * l + (ln l - 1 - j))).toNatClampNeg = 12 * l + (ln l - 1 - j) := nI_clamp (by omega)
      have htok := hlist (ln l - 1 - j) (by omega)
      obtain ⟨t28, tlo⟩ := (hT l hl).2 (ln l - 1 - j) (by omega)
      have ih' := ih (j + 1) (by omega) (by omega)
      have har := e_wh_ar hw c
      have hnl := e_sn_le (tk := tk l) (m := ln l) j
      rw [ep]
      refine br_f c1 ⟨vp_in_nI (by omega) (by omega), nm_r (e' := nI (tk l (ln l - 1 - j))) (by rw [hcl, htok]) (x_opd (by omega) ?_)⟩
      have ihn : e_sn (tk l) (ln l) (j + 1) = e_n (tk l (ln l - 1 - j)) (e_sn (tk l) (ln l) j) := rfl
      have ihf : e_sf (tk l) (sv z s) (ln l) f0 (j + 1) = e_f (tk l (ln l - 1 - j)) (e_sn (tk l) (ln l) j) (sv z s) (e_sf (tk l) (sv z s) (ln l) f0 j) := rfl
      rw [ihn, ihf] at ih'
      generalize tk l (ln l - 1 - j) = t at *
      generalize e_sn (tk l) (ln l) j = m at *
      generalize e_sf (tk l) (sv z s) (ln l) f0 j = f at *
      rw [← ep2] at ih'
      unfold e_n e_f at ih'
      by_cases t20 : t < 20
      · rw [e_ar_0 t20]
        rw [if_pos t20, if_pos t20] at ih'
        refine br_t rfl (nm_r (nI_1 m) (pk_le 10 t (fun t10 => ?_) (fun t10 => ?_)))
        · have e10 : nI t - 10 = nI (t - 10) := pk_sub (b := 10) t10
          have t3 : t - 10 < 3 := by have := tlo t20; omega
          rw [e10]
          rw [if_neg (by omega)] at ih'
          refine ⟨vp_in_nI t3 (by omega), vp_in_nI (by omega) (by omega), nm_r (e' := upd f m (nI (sv z s (t - 10)))) ?_ (nm_e ih')⟩
          rw [nI_clamp (by omega), nI_clamp (by omega), hv _ t3]
        · rw [if_pos t10] at ih'
          refine ⟨vp_in_nI (by omega) (by omega), nm_r (e' := upd f m (nI t)) ?_ (nm_e ih')⟩
          rw [nI_clamp (by omega)]
      · have hpa := e_ar_pos t20
        have ha3 := e_ar_le t
        rw [if_neg t20, if_neg t20] at ih'
        have en : nI m - (nI (e_ar t) - 1) = nI (m - e_ar t + 1) := by
          rw [show nI (e_ar t) - 1 = nI (e_ar t - 1) from pk_sub (b := 1) hpa, pk_sub (by omega)]
          congr 1; omega
        have ea : nI (m - e_ar t + 1) + nI (e_ar t) - 2 = nI (m - 1) := by
          rw [nI_add, show nI (m - e_ar t + 1 + e_ar t) - 2 = nI (m - e_ar t + 1 + e_ar t - 2) from pk_sub (b := 2) (by omega)]
          congr 1; omega
        have ec : nI (m - e_ar t + 1) - 1 = nI (m - e_ar t) := nI_pred _
        have cl1 : (nI (m - 1)).toNatClampNeg = m - 1 := nI_clamp (by omega)
        refine br_f (nI_ne0 hpa (by omega)) (nm_r en ⟨by rw [ea]; exact vp_in_nI (by omega) (by omega), ?_⟩)
        rw [ea, ec, cl1]
        refine pk_le (e_ar t) 1 (fun h1 => ?_) (fun h1 => ?_)
        · have e1 : e_ar t = 1 := by omega
          have t27 : t = 27 := by
            by_cases q : t < 27
            · rw [e_ar_2 t20 q] at e1; omega
            · by_cases q2 : t = 27
              · exact q2
              · rw [e_ar_3 (by omega)] at e1; omega
          unfold wX_worth_126
          refine pk_le (e_ar t) 2 (fun h2 => ?_) (fun h2 => absurd h2 (by omega))
          unfold wX_worth_144
          refine x_result (by omega) t28 ⟨vp_in_nI (by omega) (by omega), nm_r (e' := upd f (m - e_ar t) (e_res t (f (m - 1)) (f (m - 2)) (f (m - 3)))) ?_ (nm_e ih')⟩
          rw [nI_clamp (by omega), t27]
          exact congrArg (upd f (m - e_ar 27)) (e_res_1 _ _ _ _ _)
        · have eb : nI (m - e_ar t + 1) + nI (e_ar t) - 3 = nI (m - 2) := by
            rw [nI_add, show nI (m - e_ar t + 1 + e_ar t) - 3 = nI (m - e_ar t + 1 + e_ar t - 3) from pk_sub (b := 3) (by omega)]
            congr 1; omega
          have cl2 : (nI (m - 2)).toNatClampNeg = m - 2 := nI_clamp (by omega)
          rw [eb, cl2]
          refine ⟨vp_in_nI (by omega) (by omega), ?_⟩
          unfold wX_worth_126
          refine pk_le (e_ar t) 2 (fun h2 => ?_) (fun h2 => ?_)
          · unfold wX_worth_144
            refine x_result (by omega) t28 ⟨vp_in_nI (by omega) (by omega), nm_r (e' := upd f (m - e_ar t) (e_res t (f (m - 1)) (f (m - 2)) (f (m - 3)))) ?_ (nm_e ih')⟩
            rw [nI_clamp (by omega)]
            refine congrArg (upd f (m - e_ar t)) (e_res_2 ?_ t20 _ _ _ _)
            by_cases q : 27 < t
            · rw [e_ar_3 q] at h2; omega
            · omega
          · rw [ec]
            refine ⟨vp_in_nI (by omega) (by omega), ?_⟩
            unfold wX_worth_144
            refine x_result (by omega) t28 ⟨vp_in_nI (by omega) (by omega), nm_r (e' := upd f (m - e_ar t) (e_res t (f (m - 1)) (f (m - 2)) (f (m - 3)))) ?_ (nm_e ih')⟩
            rw [nI_clamp (by omega), show m - e_ar t = m - 3 by omega]
    · have ej : j = ln l := by omega
      subst ej
      have c1 : nI (12 * l + (ln l - ln l)) - 1 < 12 * nI l := by
        rw [e12, Nat.sub_self, Nat.add_zero, Int32.lt_iff_toInt_lt]
        have := pk_sub_toInt (a := 12 * l) (b := 1) (by omega) (by omega)
        have e1 : nI (12 * l) - 1 = nI (12 * l) - nI 1 := rfl
        rw [e1, this, nI_toInt (by omega)]
        omega
      refine br_t c1 ⟨vp_in_nI hl (by omega), ?_⟩
      rw [nI_clamp (by omega), hlen, e_val_w hw]
      exact br_f (nI_ne0 hpos (by omega)) (H _)
theorem x_worth {post : Int32 → SX → Prop} {l s : Nat} (hl : l < 19) (hL : r_L tk ln a_list a_length) (hT : r_Tk tk ln) (hv : ∀ v, v < 3 → a_val v = nI (sv z s v)) (hw : ln l = 0 ∨ e_wh (tk l) (ln l))
    (H : ∀ a_stack' : Nat → Int32, post (s_E z tk ln l s) (f_made, f_states, f_initial, f_reached, f_deepest, f_options0, f_options1, f_opened, f_depthOf, f_numbered, f_waiting, f_fairLow, f_fairHigh, f_partLow, f_partHigh, f_withLow, f_withHigh, f_traced, f_failures, f_backLow, f_backHigh, a_sizes, a_list, a_length, a_there, a_how, a_fairness, a_stack', a_val, a_goes, a_steps, a_guards, a_enabled, a_depth, a_number, a_low, a_onStack, a_open, a_path, a_ahead, a_todo, a_shown, a_failed)) : wpX_worth post (f_made, f_states, f_initial, f_reached, f_deepest, f_options0, f_options1, f_opened, f_depthOf, f_numbered, f_waiting, f_fairLow, f_fairHigh, f_partLow, f_partHigh, f_withLow, f_withHigh, f_traced, f_failures, f_backLow, f_backHigh, a_sizes, a_list, a_length, a_there, a_how, a_fairness, a_stack, a_val, a_goes, a_steps, a_guards, a_enabled, a_depth, a_number, a_low, a_onStack, a_open, a_path, a_ahead, a_todo, a_shown, a_failed) (nI l) := by
  have h12 := (hT l hl).1
  have e12 : (12 : Int32) * nI l = nI (12 * l) := pk_mul 12 l
  obtain ⟨hlen, _⟩ := hL l hl
  refine ⟨vp_in_nI hl (by omega), nm_r (e' := nI (12 * l + ln l) - 1) (by rw [nI_clamp (by omega), hlen, e12, nI_add]) ?_⟩
  rcases hw with h0 | hw
  · refine ⟨1, br_t ?_ ⟨vp_in_nI hl (by omega), ?_⟩⟩
    · rw [e12, h0, Nat.add_zero, Int32.lt_iff_toInt_lt]
      have := pk_sub_toInt (a := 12 * l) (b := 1) (by omega) (by omega)
      have e1 : nI (12 * l) - 1 = nI (12 * l) - nI 1 := rfl
      rw [e1, this, nI_toInt (by omega)]
      omega
    · rw [nI_clamp (by omega), hlen, h0]
      have hE : s_E z tk ln l s = 1 := by unfold s_E; rw [h0]; rfl
      have := H a_stack
      rw [hE] at this
      exact br_t rfl this
  · exact ⟨ln l + 1, x_worth_l hl hL hT hv hw a_stack H (ln l + 1) 0 (Nat.zero_le _) (by omega)⟩
end Xv
end
section
/-! X: where actions lead -/
theorem bl_has {w : Int64} {s : Nat} (hs : s < 128) : ((w >>> ((nI s &&& 63).toInt64 &&& 63)) &&& 1) = 0 ↔ bl w (s % 64) = false := by
  rw [bl_m63 hs]; exact bl_shr w (by omega)
theorem if2 {c d A B : Prop} (e : c ↔ ¬ d) (f : ¬ d → A) (g : d → B) : (c → A) ∧ (¬ c → B) :=
  ⟨fun h => f (e.mp h), fun h => g (Classical.byContradiction fun z => h (e.mpr z))⟩
theorem if1 {c d A B : Prop} (e : c ↔ d) (f : d → A) (g : ¬ d → B) : (c → A) ∧ (¬ c → B) := ⟨fun h => f (e.mp h), fun h => g fun z => h (e.mpr z)⟩
/-- the k-th target: base b, choices by sizes o -/
def sp_T (z o b : Nat → Nat) (k : Nat) : Nat := (b 0 + sv o k 0) + z 0 * ((b 1 + sv o k 1) + z 1 * (b 2 + sv o k 2))
theorem sp_ex {z o b d : Nat → Nat} {q : Nat → Prop} (hz : s_Z z) (ho : ∀ v, v < 3 → (q v ∧ o v = z v ∧ b v = 0) ∨ (¬ q v ∧ o v = 1 ∧ b v = d v ∧ d v < z v)) (t : Nat) :
    (∃ k, k < s_N o ∧ t = sp_T z o b k) ↔ (t < s_N z ∧ ∀ v, v < 3 → q v ∨ sv z t v = d v) := by
  have hoZ : s_Z o := by
    intro v hv
    have := hz v hv
    rcases ho v hv with ⟨_, e, _⟩ | ⟨_, e, _⟩ <;> omega
  have comp : ∀ k, k < s_N o → ∀ v, v < 3 → b v + sv o k v < z v ∧ (q v ∨ b v + sv o k v = d v) := by
    intro k hk v hv
    have := sv_lt hoZ hk hv
    rcases ho v hv with ⟨hq, e, e2⟩ | ⟨_, e, e2, e3⟩
    · exact ⟨by omega, Or.inl hq⟩
    · exact ⟨by omega, Or.inr (by omega)⟩
  constructor
  · rintro ⟨k, hk, rfl⟩
    obtain ⟨a0, a1⟩ := comp k hk 0 (by omega)
    obtain ⟨b0, b1⟩ := comp k hk 1 (by omega)
    obtain ⟨c0, c1⟩ := comp k hk 2 (by omega)
    refine ⟨mk_lt a0 b0 c0, fun v hv => ?_⟩
    have : v = 0 ∨ v = 1 ∨ v = 2 := by omega
    unfold sp_T
    rcases this with e | e | e <;> subst e
    · rw [sv_mk0 a0]; exact a1
    · rw [sv_mk1 a0 b0]; exact b1
    · rw [sv_mk2 a0 b0]; exact c1
  · rintro ⟨ht, hq⟩
    have ex : ∀ v, v < 3 → ∃ c, c < o v ∧ b v + c = sv z t v := by
      intro v hv
      rcases ho v hv with ⟨_, e, e2⟩ | ⟨hn, e, e2, _⟩
      · exact ⟨sv z t v, by rw [e]; exact sv_lt hz ht hv, by omega⟩
      · exact ⟨0, by omega, by rcases hq v hv with c | c; exact absurd c hn; omega⟩
    obtain ⟨x, hx, ex⟩ := ex 0 (by omega)
    obtain ⟨y, hy, ey⟩ := (show ∀ v, v < 3 → ∃ c, c < o v ∧ b v + c = sv z t v by assumption) 1 (by omega)
    obtain ⟨w, hw, ew⟩ := (show ∀ v, v < 3 → ∃ c, c < o v ∧ b v + c = sv z t v by assumption) 2 (by omega)
    refine ⟨x + o 0 * (y + o 1 * w), mk_lt hx hy hw, ?_⟩
    unfold sp_T
    rw [sv_mk0 hx, sv_mk1 hx hy, sv_mk2 hx hy, ex, ey, ew, mk_sv]
theorem sp_lt {z o b d : Nat → Nat} {q : Nat → Prop} (hz : s_Z z) (ho : ∀ v, v < 3 → (q v ∧ o v = z v ∧ b v = 0) ∨ (¬ q v ∧ o v = 1 ∧ b v = d v ∧ d v < z v)) {k : Nat} (hk : k < s_N o) : sp_T z o b k < s_N z :=
  ((sp_ex hz ho (sp_T z o b k)).mp ⟨k, hk, rfl⟩).1
section Xl
variable {f_made f_states f_initial f_reached f_deepest f_options0 f_options1 f_opened f_depthOf f_numbered f_waiting f_traced f_failures : Int32} {f_fairLow f_fairHigh f_partLow f_partHigh f_withLow f_withHigh f_backLow f_backHigh : Int64} {a_sizes a_list a_length a_there a_how a_fairness a_stack a_val a_guards a_enabled a_depth a_number a_low a_onStack a_open a_path a_ahead a_shown a_failed : Nat → Int32} {a_goes a_steps a_todo : Nat → Int64}
variable {z : Nat → Nat} {tk : Nat → Nat → Nat} {ln : Nat → Nat}
theorem x_has {post : Int32 → Prop} {lo hi : Int64} {s : Nat} (hs : s < 128) (h1 : iS lo hi s → post 1) (h0 : ¬ iS lo hi s → post 0) : wpX_has post (f_made, f_states, f_initial, f_reached, f_deepest, f_options0, f_options1, f_opened, f_depthOf, f_numbered, f_waiting, f_fairLow, f_fairHigh, f_partLow, f_partHigh, f_withLow, f_withHigh, f_traced, f_failures, f_backLow, f_backHigh, a_sizes, a_list, a_length, a_there, a_how, a_fairness, a_stack, a_val, a_goes, a_steps, a_guards, a_enabled, a_depth, a_number, a_low, a_onStack, a_open, a_path, a_ahead, a_todo, a_shown, a_failed) lo hi (nI s) := by
  unfold wpX_has
  refine pk_le 64 s (fun h => ?_) (fun h => ?_)
  · unfold wX_has_12
    refine br_c (fun e => h0 fun z => ?_) (fun e => h1 ⟨hs, ?_⟩)
    · have z2 := z.2
      rw [if_neg (by omega), (bl_has hs).mp e] at z2; exact Bool.noConfusion z2
    · rw [if_neg (by omega)]; exact ts_nf fun z => e ((bl_has hs).mpr z)
  · unfold wX_has_12
    refine br_c (fun e => h0 fun z => ?_) (fun e => h1 ⟨hs, ?_⟩)
    · have z2 := z.2
      rw [if_pos h, (bl_has hs).mp e] at z2; exact Bool.noConfusion z2
    · rw [if_pos h]; exact ts_nf fun z => e ((bl_has hs).mpr z)
theorem x_size {post : Int32 → Prop} {v : Nat} (hsz : ∀ v, v < 3 → a_sizes v = nI (z v)) (hv : v < 3) (h : post (nI (z v))) : wpX_size post (f_made, f_states, f_initial, f_reached, f_deepest, f_options0, f_options1, f_opened, f_depthOf, f_numbered, f_waiting, f_fairLow, f_fairHigh, f_partLow, f_partHigh, f_withLow, f_withHigh, f_traced, f_failures, f_backLow, f_backHigh, a_sizes, a_list, a_length, a_there, a_how, a_fairness, a_stack, a_val, a_goes, a_steps, a_guards, a_enabled, a_depth, a_number, a_low, a_onStack, a_open, a_path, a_ahead, a_todo, a_shown, a_failed) (nI v) := by
  refine ⟨vp_in_nI hv (by omega), ?_⟩
  rw [nI_clamp (by omega), hsz v hv]; exact h
theorem i3 (a v : Nat) : (3 * nI a) + nI v = nI (3 * a + v) := by
  rw [show (3 : Int32) * nI a = nI (3 * a) from pk_mul 3 a, nI_add]
/-- how many options -/
def sp_o (z : Nat → Nat) (a_how : Nat → Int32) (a v : Nat) : Nat := if a_how (3 * a + v) = 2 then z v else 1
def sp_b (z : Nat → Nat) (a_how : Nat → Int32) (tk : Nat → Nat → Nat) (ln : Nat → Nat) (a s v : Nat) : Nat := if a_how (3 * a + v) = 2 then 0 else s_d z a_how tk ln a v s
theorem sp_ob (hz : s_Z z) {a s : Nat} (hs : s < s_N z) : ∀ v, v < 3 → (a_how (3 * a + v) = 2 ∧ sp_o z a_how a v = z v ∧ sp_b z a_how tk ln a s v = 0) ∨ (¬ a_how (3 * a + v) = 2 ∧ sp_o z a_how a v = 1 ∧ sp_b z a_how tk ln a s v = s_d z a_how tk ln a v s ∧ s_d z a_how tk ln a v s < z v) := by
  intro v hv
  unfold sp_o sp_b
  by_cases c : a_how (3 * a + v) = 2
  · rw [if_pos c, if_pos c]; exact Or.inl ⟨c, rfl, rfl⟩
  · rw [if_neg c, if_neg c]; exact Or.inr ⟨c, rfl, rfl, s_d_lt hz hs hv⟩
theorem sp_oZ (hz : s_Z z) {a v : Nat} (hv : v < 3) : 1 ≤ sp_o z a_how a v ∧ sp_o z a_how a v ≤ 5 := by
  unfold sp_o
  split
  · exact hz v hv
  · omega
theorem x_options {post : Int32 → Prop} {a v : Nat} (hsz : ∀ v, v < 3 → a_sizes v = nI (z v)) (ha : a < 4) (hv : v < 3) (h : post (nI (sp_o z a_how a v))) : wpX_options post (f_made, f_states, f_initial, f_reached, f_deepest, f_options0, f_options1, f_opened, f_depthOf, f_numbered, f_waiting, f_fairLow, f_fairHigh, f_partLow, f_partHigh, f_withLow, f_withHigh, f_traced, f_failures, f_backLow, f_backHigh, a_sizes, a_list, a_length, a_there, a_how, a_fairness, a_stack, a_val, a_goes, a_steps, a_guards, a_enabled, a_depth, a_number, a_low, a_onStack, a_open, a_path, a_ahead, a_todo, a_shown, a_failed) (nI a) (nI v) := by
  unfold wpX_options
  dsimp only
  rw [i3, nI_clamp (by omega)]
  unfold sp_o at h
  refine ⟨vp_in_nI (by omega) (by omega), br_c (fun e => ?_) (fun e => ?_)⟩
  · rw [if_pos e] at h; exact x_size hsz hv h
  · rw [if_neg e] at h; exact h
theorem x_target {post : Int32 → SX → Prop} {a v s : Nat} (hz : s_Z z) (hsz : ∀ v, v < 3 → a_sizes v = nI (z v)) (hL : r_L tk ln a_list a_length) (hT : r_Tk tk ln) (hv : ∀ v, v < 3 → a_val v = nI (sv z s v)) (hh : a_how (3 * a + v) = 0 ∨ a_how (3 * a + v) = 1 ∨ a_how (3 * a + v) = 2)
    (hw : a_how (3 * a + v) = 1 → e_wh (tk (4 + 3 * a + v)) (ln (4 + 3 * a + v))) (ha : a < 4) (hv3 : v < 3) (H : ∀ a_stack' : Nat → Int32, post (nI (sp_b z a_how tk ln a s v)) (f_made, f_states, f_initial, f_reached, f_deepest, f_options0, f_options1, f_opened, f_depthOf, f_numbered, f_waiting, f_fairLow, f_fairHigh, f_partLow, f_partHigh, f_withLow, f_withHigh, f_traced, f_failures, f_backLow, f_backHigh, a_sizes, a_list, a_length, a_there, a_how, a_fairness, a_stack', a_val, a_goes, a_steps, a_guards, a_enabled, a_depth, a_number, a_low, a_onStack, a_open, a_path, a_ahead, a_todo, a_shown, a_failed)) : wpX_target post (f_made, f_states, f_initial, f_reached, f_deepest, f_options0, f_options1, f_opened, f_depthOf, f_numbered, f_waiting, f_fairLow, f_fairHigh, f_partLow, f_partHigh, f_withLow, f_withHigh, f_traced, f_failures, f_backLow, f_backHigh, a_sizes, a_list, a_length, a_there, a_how, a_fairness, a_stack, a_val, a_goes, a_steps, a_guards, a_enabled, a_depth, a_number, a_low, a_onStack, a_open, a_path, a_ahead, a_todo, a_shown, a_failed) (nI a) (nI v) := by
  unfold wpX_target
  dsimp only
  rw [i3, nI_clamp (by omega)]
  have hz1 := hz v hv3
  refine ⟨vp_in_nI (by omega) (by omega), nm_e ?_⟩
  unfold sp_b s_d at H
  refine br_c (fun e => ?_) (fun e => br_c (fun e0 => ?_) (fun e0 => ?_))
  · rw [if_pos e] at H; exact H a_stack
  · rw [if_neg e, if_neg (by rw [e0]; decide)] at H
    refine ⟨vp_in_nI hv3 (by omega), ?_⟩
    rw [nI_clamp (by omega), hv v hv3]
    exact H a_stack
  · have e1 : a_how (3 * a + v) = 1 := by
      rcases hh with q | q | q
      · exact absurd q e0
      · exact q
      · exact absurd q e
    rw [if_neg e, if_pos e1] at H
    have ei : (4 + 3 * nI a) + nI v = nI (4 + 3 * a + v) := by
      rw [show (3 : Int32) * nI a = nI (3 * a) from pk_mul 3 a, show (4 : Int32) + nI (3 * a) = nI (4 + 3 * a) from nI_add 4 (3 * a), nI_add]
    rw [ei]
    refine x_worth (s := s) (by omega) hL hT hv (Or.inr (hw e1)) (fun st => x_size hsz hv3 ?_)
    obtain ⟨j, hj, ej⟩ := e_clk_lt (s_E z tk ln (4 + 3 * a + v) s) hz1.1 hz1.2
    have Hs := H st
    rw [ej, nI_clamp (by omega), ← ej] at Hs
    unfold e_clk at Hs
    unfold wpX_clock
    refine br_t (nI_le (a := 1) hz1.1 (by omega)) ⟨nI_ne0 (by omega) (by omega), nm_e (br_c (fun q => ?_) (fun q => ?_))⟩
    · rw [if_pos q] at Hs; exact Hs
    · rw [if_neg q] at Hs; exact Hs
theorem x_choice {post : Int32 → Prop} {k n : Nat} (hk : k < 2 ^ 31) (h1 : 1 ≤ n) (hn : n < 2 ^ 31) (h : post (nI (k % n))) : wpX_choice post (nI k) (nI n) := by
  refine pk_le 2 n (fun h2 => ⟨nI_ne0 (by omega) hn, ?_⟩) (fun h2 => ?_)
  · rw [pk_rem hk (by omega) hn]; exact h
  · have : n = 1 := by omega
    rw [this, Nat.mod_one] at h; exact h
theorem x_over {post : Int32 → Prop} {k n : Nat} (hk : k < 2 ^ 31) (h1 : 1 ≤ n) (hn : n < 2 ^ 31) (h : post (nI (k / n))) : wpX_over post (nI k) (nI n) := by
  refine pk_le 2 n (fun h2 => ⟨nI_ne0 (by omega) hn, ?_⟩) (fun h2 => ?_)
  · rw [pk_div hk (by omega) hn]; exact h
  · have : n = 1 := by omega
    rw [this, Nat.div_one] at h; exact h
/-- the loop of spread: o, b as named -/
theorem x_spread_l {post : SX → Prop} {a s : Nat} {o b : Nat → Nat} (hz : s_Z z) (hoZ : s_Z o) (hsz : ∀ v, v < 3 → a_sizes v = nI (z v)) (ha : a < 4) (hs : s < s_N z) (hT : ∀ k, k < s_N o → sp_T z o b k < s_N z)
    (g0 : Nat → Int64) (H : ∀ a_goes' : Nat → Int64, (∀ j, j ≠ 8 * s + 2 * a → j ≠ 8 * s + 2 * a + 1 → a_goes' j = g0 j) → (∀ t, aS a_goes' (8 * s + 2 * a) t ↔ aS g0 (8 * s + 2 * a) t ∨ ∃ k, k < s_N o ∧ t = sp_T z o b k) → post (f_made, f_states, f_initial, f_reached, f_deepest, nI (o 0), nI (o 1), f_opened, f_depthOf, f_numbered, f_waiting, f_fairLow, f_fairHigh, f_partLow, f_partHigh, f_withLow, f_withHigh, f_traced, f_failures, f_backLow, f_backHigh, a_sizes, a_list, a_length, a_there, a_how, a_fairness, a_stack, a_val, a_goes', a_steps, a_guards, a_enabled, a_depth, a_number, a_low, a_onStack, a_open, a_path, a_ahead, a_todo, a_shown, a_failed)) :
    ∀ n k, k ≤ s_N o → s_N o - k < n → ∀ a_goes : Nat → Int64, (∀ j, j ≠ 8 * s + 2 * a → j ≠ 8 * s + 2 * a + 1 → a_goes j = g0 j) → (∀ t, aS a_goes (8 * s + 2 * a) t ↔ aS g0 (8 * s + 2 * a) t ∨ ∃ j, j < k ∧ t = sp_T z o b j) →
      wX_spread_54 post (nI a) (nI s) (nI (s_N o)) (nI (b 0)) (nI (b 1)) (nI (b 2)) f_made f_states f_initial f_reached f_deepest (nI (o 0)) (nI (o 1)) f_opened f_depthOf f_numbered f_waiting f_fairLow f_fairHigh f_partLow f_partHigh f_withLow f_withHigh f_traced f_failures f_backLow f_backHigh n (nI k) a_sizes a_list a_length a_there a_how a_fairness a_stack a_val a_goes a_steps a_guards a_enabled a_depth a_number a_low a_onStack a_open a_path a_ahead a_todo a_shown a_failed := by
  have hN := s_N_le hz
  have hNo := s_N_le hoZ
  have o0 := hoZ 0 (by omega)
  have o1 := hoZ 1 (by omega)
  intro n
  induction n with
  | zero => intro k _ h; omega
  | succ n ih =>
    intro k hk hn a_goes hfr hset
    refine pk_le (s_N o) k (fun h => ?_) (fun h => ?_)
    · have e : k = s_N o := by omega
      subst e
      exact H a_goes hfr hset
    · have hd1 : k / o 0 ≤ k := Nat.div_le_self _ _
      have ht := hT k h
      have et : nI (b 0) + nI (k % o 0) + nI (z 0) * (nI (b 1) + nI (k / o 0 % o 1) + nI (z 1) * (nI (b 2) + nI (k / o 0 / o 1))) = nI (sp_T z o b k) := by
        rw [nI_add, nI_add, nI_add, pk_mul, nI_add, pk_mul, nI_add]; rfl
      have ei : 8 * nI s + 2 * nI a + nI (sp_T z o b k) >>> ((6 : Int32) &&& 31) = nI (8 * s + 2 * a + sp_T z o b k / 64) := by
        rw [show (8 : Int32) * nI s = nI (8 * s) from pk_mul 8 s, show (2 : Int32) * nI a = nI (2 * a) from pk_mul 2 a, nI_add, pk_shrN (by omega) _ 6 (by decide), nI_add]
      have hin : vp_in (nI (8 * s + 2 * a + sp_T z o b k / 64)) 1000 := vp_in_nI (by omega) (by omega)
      refine x_choice (by omega) o0.1 (by omega) (nm_e (x_over (by omega) o0.1 (by omega) (x_choice (by omega) o1.1 (by omega) (nm_e (x_over (by omega) o1.1 (by omega) (nm_e (x_size (v := 0) hsz (by omega) (x_size (v := 1) hsz (by omega) (nm_r et ?_)))))))))
      rw [ei]
      refine ⟨hin, hin, nm_r (e' := vp_updL a_goes (8 * s + 2 * a + sp_T z o b k / 64) (a_goes (8 * s + 2 * a + sp_T z o b k / 64) ||| ((1 : Int64) <<< ((nI (sp_T z o b k % 64)).toInt64 &&& 63)))) (by rw [nI_clamp (by omega), bl_m63 (by omega)]) (nm_r (nI_1 k) (ih (k + 1) (by omega) (by omega) _ ?_ ?_))⟩
      · intro j hj1 hj2
        rw [pk_uLn (by omega)]; exact hfr j hj1 hj2
      · intro t
        rw [aS_put (by omega), hset t]
        constructor
        · rintro ((q | ⟨j, hj, e⟩) | q)
          · exact Or.inl q
          · exact Or.inr ⟨j, by omega, e⟩
          · exact Or.inr ⟨k, by omega, q⟩
        · rintro (q | ⟨j, hj, e⟩)
          · exact Or.inl (Or.inl q)
          · rcases Nat.lt_or_ge j k with c | c
            · exact Or.inl (Or.inr ⟨j, c, e⟩)
            · have : j = k := by omega
              exact Or.inr (by rw [e, this])
end Xl
end
section
/-! X: the tables of steps -/
section Km
variable (z : Nat → Nat) (th hw : Nat → Int32) (tk : Nat → Nat → Nat) (ln : Nat → Nat) (goes steps : Nat → Int64) (guards enabled : Nat → Int32)
/-- row s, the actions below a -/
def k_R (s a : Nat) : Prop :=
  (∀ b, b < a → ∀ t, aS goes (8 * s + 2 * b) t ↔ s_go z th hw tk ln b s t) ∧ (∀ b, a ≤ b → b < 4 → ∀ t, ¬ aS goes (8 * s + 2 * b) t) ∧
  (∀ t, aS steps (2 * s) t ↔ ∃ b, b < a ∧ s_go z th hw tk ln b s t) ∧ mb (guards s) (fun i => i < a ∧ s_g z th tk ln i s) ∧ mb (enabled s) (fun i => i < a ∧ s_en z th hw tk ln i s)
/-- row s whole -/
def k_F (s : Nat) : Prop :=
  (∀ b, b < 4 → ∀ t, aS goes (8 * s + 2 * b) t ↔ s_go z th hw tk ln b s t) ∧ (∀ t, aS steps (2 * s) t ↔ s_st z th hw tk ln s t) ∧
  mb (guards s) (fun i => s_g z th tk ln i s) ∧ mb (enabled s) (fun i => s_en z th hw tk ln i s)
def k_X (i : Nat) : Prop := (∀ s, s < i → k_F z th hw tk ln goes steps guards enabled s) ∧ (∀ s, i ≤ s → s < 125 → ∀ b, b < 4 → ∀ t, ¬ aS goes (8 * s + 2 * b) t)
end Km
section Kn
variable {z : Nat → Nat} {th hw : Nat → Int32} {tk : Nat → Nat → Nat} {ln : Nat → Nat} {goes steps goes' steps' : Nat → Int64} {guards enabled guards' enabled' : Nat → Int32} {s a : Nat}
theorem k_F_c (h : k_F z th hw tk ln goes steps guards enabled s) (h1 : ∀ j, 8 * s ≤ j → j < 8 * s + 8 → goes' j = goes j) (h2 : steps' (2 * s) = steps (2 * s)) (h3 : steps' (2 * s + 1) = steps (2 * s + 1)) (h4 : guards' s = guards s) (h5 : enabled' s = enabled s) : k_F z th hw tk ln goes' steps' guards' enabled' s := by
  obtain ⟨a1, a2, a3, a4⟩ := h
  refine ⟨fun b hb t => ?_, fun t => ?_, by rw [h4]; exact a3, by rw [h5]; exact a4⟩
  · unfold aS; rw [h1 _ (by omega) (by omega), h1 _ (by omega) (by omega)]; exact a1 b hb t
  · unfold aS; rw [h2, h3]; exact a2 t
theorem k_R_no (ha : a < 4) (h : k_R z th hw tk ln goes steps guards enabled s a) (hn : ¬ s_g z th tk ln a s) : k_R z th hw tk ln goes steps guards enabled s (a + 1) := by
  obtain ⟨a1, a2, a3, a4, a5⟩ := h
  have ng : ∀ t, ¬ s_go z th hw tk ln a s t := fun t q => hn q.2.2.1
  have ne : ¬ s_en z th hw tk ln a s := fun ⟨t, _, q⟩ => ng t q
  refine ⟨fun b hb t => ?_, fun b hb hb4 t => a2 b (by omega) hb4 t, fun t => ?_, mb_c a4 fun i _ => ?_, mb_c a5 fun i _ => ?_⟩
  · rcases Nat.lt_or_ge b a with c | c
    · exact a1 b c t
    · have e : b = a := by omega
      rw [e]
      exact ⟨fun q => absurd q (a2 a (by omega) ha t), fun q => absurd q (ng t)⟩
  · rw [a3 t]
    constructor
    · rintro ⟨b, hb, q⟩; exact ⟨b, by omega, q⟩
    · rintro ⟨b, hb, q⟩
      rcases Nat.lt_or_ge b a with c | c
      · exact ⟨b, c, q⟩
      · have e : b = a := by omega
        rw [e] at q; exact absurd q (ng t)
  · constructor
    · rintro ⟨q, r⟩; exact ⟨by omega, r⟩
    · rintro ⟨q, r⟩
      rcases Nat.lt_or_ge i a with c | c
      · exact ⟨c, r⟩
      · have e : i = a := by omega
        rw [e] at r; exact absurd r hn
  · constructor
    · rintro ⟨q, r⟩; exact ⟨by omega, r⟩
    · rintro ⟨q, r⟩
      rcases Nat.lt_or_ge i a with c | c
      · exact ⟨c, r⟩
      · have e : i = a := by omega
        rw [e] at r; exact absurd r ne
/-- an action more -/
theorem k_R_yes (h : k_R z th hw tk ln goes steps guards enabled s a) (ha : a < 4) (hg : s_g z th tk ln a s)
    (g1 : ∀ j, j ≠ 8 * s + 2 * a → j ≠ 8 * s + 2 * a + 1 → goes' j = goes j) (g2 : ∀ t, aS goes' (8 * s + 2 * a) t ↔ s_go z th hw tk ln a s t) (g3 : ∀ t, aS steps' (2 * s) t ↔ aS steps (2 * s) t ∨ s_go z th hw tk ln a s t)
    (g4 : mb (guards' s) (fun i => (i < a ∧ s_g z th tk ln i s) ∨ i = a)) (g5 : mb (enabled' s) (fun i => (i < a ∧ s_en z th hw tk ln i s) ∨ (i = a ∧ s_en z th hw tk ln a s))) : k_R z th hw tk ln goes' steps' guards' enabled' s (a + 1) := by
  obtain ⟨a1, a2, a3, a4, a5⟩ := h
  have gu : ∀ b, b ≠ a → ∀ t, aS goes' (8 * s + 2 * b) t ↔ aS goes (8 * s + 2 * b) t := by
    intro b hb t
    unfold aS; rw [g1 _ (by omega) (by omega), g1 _ (by omega) (by omega)]
  refine ⟨fun b hb t => ?_, fun b hb hb4 t => ?_, fun t => ?_, mb_c g4 fun i _ => ?_, mb_c g5 fun i _ => ?_⟩
  · by_cases c : b = a
    · rw [c]; exact g2 t
    · rw [gu b c]; exact a1 b (by omega) t
  · rw [gu b (by omega)]; exact a2 b (by omega) hb4 t
  · rw [g3 t, a3 t]
    constructor
    · rintro (⟨b, hb, q⟩ | q)
      · exact ⟨b, by omega, q⟩
      · exact ⟨a, by omega, q⟩
    · rintro ⟨b, hb, q⟩
      rcases Nat.lt_or_ge b a with c | c
      · exact Or.inl ⟨b, c, q⟩
      · have e : b = a := by omega
        rw [e] at q; exact Or.inr q
  · constructor
    · rintro (⟨q, r⟩ | q)
      · exact ⟨by omega, r⟩
      · rw [q]; exact ⟨by omega, hg⟩
    · rintro ⟨q, r⟩
      rcases Nat.lt_or_ge i a with c | c
      · exact Or.inl ⟨c, r⟩
      · exact Or.inr (by omega)
  · constructor
    · rintro (⟨q, r⟩ | ⟨q, r⟩)
      · exact ⟨by omega, r⟩
      · rw [q]; exact ⟨by omega, r⟩
    · rintro ⟨q, r⟩
      rcases Nat.lt_or_ge i a with c | c
      · exact Or.inl ⟨c, r⟩
      · have e : i = a := by omega
        rw [e] at r; exact Or.inr ⟨e, r⟩
theorem k_R_4 (h : k_R z th hw tk ln goes steps guards enabled s 4) (hst : ∀ t, aS steps' (2 * s) t ↔ aS steps (2 * s) t ∧ t ≠ s) : k_F z th hw tk ln goes steps' guards enabled s := by
  obtain ⟨a1, a2, a3, a4, a5⟩ := h
  refine ⟨a1, fun t => ?_, mb_c a4 fun i hi => ⟨fun q => q.2, fun q => ⟨hi, q⟩⟩, mb_c a5 fun i hi => ⟨fun q => q.2, fun q => ⟨hi, q⟩⟩⟩
  rw [hst t, a3 t]
  constructor
  · rintro ⟨⟨b, hb, q⟩, hne⟩; exact ⟨fun e => hne e.symm, b, hb, q⟩
  · rintro ⟨hne, b, hb, q⟩; exact ⟨⟨b, hb, q⟩, fun e => hne e.symm⟩
end Kn
section Xm
variable {f_made f_states f_initial f_reached f_deepest f_options0 f_options1 f_opened f_depthOf f_numbered f_waiting f_traced f_failures : Int32} {f_fairLow f_fairHigh f_partLow f_partHigh f_withLow f_withHigh f_backLow f_backHigh : Int64} {a_sizes a_list a_length a_there a_how a_fairness a_stack a_val a_guards a_enabled a_depth a_number a_low a_onStack a_open a_path a_ahead a_shown a_failed : Nat → Int32} {a_goes a_steps a_todo : Nat → Int64}
variable {z : Nat → Nat} {tk : Nat → Nat → Nat} {ln : Nat → Nat}
theorem x_spread {post : SX → Prop} {a s : Nat} (hz : s_Z z) (hsz : ∀ v, v < 3 → a_sizes v = nI (z v)) (hL : r_L tk ln a_list a_length) (hT : r_Tk tk ln) (hv : ∀ v, v < 3 → a_val v = nI (sv z s v)) (hh : ∀ i, i < 12 → a_how i = 0 ∨ a_how i = 1 ∨ a_how i = 2)
    (hw : ∀ v, v < 3 → a_how (3 * a + v) = 1 → e_wh (tk (4 + 3 * a + v)) (ln (4 + 3 * a + v))) (ha : a < 4) (hs : s < s_N z) (e0 : f_options0 = nI (sp_o z a_how a 0)) (e1 : f_options1 = nI (sp_o z a_how a 1))
    (H : ∀ (a_goes' : Nat → Int64) (a_stack' : Nat → Int32), (∀ j, j ≠ 8 * s + 2 * a → j ≠ 8 * s + 2 * a + 1 → a_goes' j = a_goes j) → (∀ t, aS a_goes' (8 * s + 2 * a) t ↔ aS a_goes (8 * s + 2 * a) t ∨ (t < s_N z ∧ ∀ v, v < 3 → a_how (3 * a + v) = 2 ∨ sv z t v = s_d z a_how tk ln a v s)) → post (f_made, f_states, f_initial, f_reached, f_deepest, f_options0, f_options1, f_opened, f_depthOf, f_numbered, f_waiting, f_fairLow, f_fairHigh, f_partLow, f_partHigh, f_withLow, f_withHigh, f_traced, f_failures, f_backLow, f_backHigh, a_sizes, a_list, a_length, a_there, a_how, a_fairness, a_stack', a_val, a_goes', a_steps, a_guards, a_enabled, a_depth, a_number, a_low, a_onStack, a_open, a_path, a_ahead, a_todo, a_shown, a_failed)) :
    wpX_spread post (f_made, f_states, f_initial, f_reached, f_deepest, f_options0, f_options1, f_opened, f_depthOf, f_numbered, f_waiting, f_fairLow, f_fairHigh, f_partLow, f_partHigh, f_withLow, f_withHigh, f_traced, f_failures, f_backLow, f_backHigh, a_sizes, a_list, a_length, a_there, a_how, a_fairness, a_stack, a_val, a_goes, a_steps, a_guards, a_enabled, a_depth, a_number, a_low, a_onStack, a_open, a_path, a_ahead, a_todo, a_shown, a_failed) (nI a) (nI s) := by
  have hoZ : s_Z (sp_o z a_how a) := fun v hv => sp_oZ hz hv
  have hob := sp_ob (tk := tk) (ln := ln) (a_how := a_how) hz (a := a) hs
  subst e0; subst e1
  have em1 : (1 : Int32) * nI (sp_o z a_how a 0) = nI (sp_o z a_how a 0) := by
    have := pk_mul 1 (sp_o z a_how a 0)
    rw [Nat.one_mul] at this; exact this
  refine ⟨4, br_f (nI_ge (a := 0) (b := 3) (by omega) (by omega)) (x_options (v := 0) hsz ha (by omega) (nm_r em1 (nm_r (e' := nI 1) rfl (br_f (nI_ge (a := 1) (b := 3) (by omega) (by omega)) (x_options (v := 1) hsz ha (by omega) (nm_r (pk_mul _ _) (nm_r (e' := nI 2) rfl (br_f (nI_ge (a := 2) (b := 3) (by omega) (by omega)) (x_options (v := 2) hsz ha (by omega) (nm_r (pk_mul _ _) (nm_r (e' := nI 3) rfl (br_t (nI_le (a := 3) (b := 3) (by omega) (by omega)) ?_))))))))))))⟩
  refine x_target (v := 0) (s := s) hz hsz hL hT hv (hh _ (by omega)) (hw 0 (by omega)) ha (by omega) (fun st0 => ?_)
  refine x_target (v := 1) (s := s) hz hsz hL hT hv (hh _ (by omega)) (hw 1 (by omega)) ha (by omega) (fun st1 => ?_)
  refine x_target (v := 2) (s := s) hz hsz hL hT hv (hh _ (by omega)) (hw 2 (by omega)) ha (by omega) (fun st2 => ?_)
  refine ⟨s_N (sp_o z a_how a) + 1, x_spread_l (o := sp_o z a_how a) (b := sp_b z a_how tk ln a s) hz hoZ hsz ha hs (fun k hk => sp_lt hz hob hk) a_goes (fun g h1 h2 => H g st2 h1 fun t => ?_) _ 0 (Nat.zero_le _) (by omega) a_goes (fun j _ _ => rfl) (fun t => ⟨Or.inl, fun q => q.elim id fun ⟨j, hj, _⟩ => absurd hj (Nat.not_lt_zero _)⟩)⟩
  rw [h2 t, sp_ex hz hob t]
theorem x_lead_e {post : SX → Prop} {a s : Nat} {g0 g1 : Int64} (ha : a < 4) (hs : s < 125) (h1 : (∃ t, iS g0 g1 t) → post (f_made, f_states, f_initial, f_reached, f_deepest, f_options0, f_options1, f_opened, f_depthOf, f_numbered, f_waiting, f_fairLow, f_fairHigh, f_partLow, f_partHigh, f_withLow, f_withHigh, f_traced, f_failures, f_backLow, f_backHigh, a_sizes, a_list, a_length, a_there, a_how, a_fairness, a_stack, a_val, a_goes, a_steps, a_guards, upd a_enabled s (vp_nar .byte ((a_enabled s ||| ((1 : Int32) <<< (nI a &&& 31))).toInt8.toInt32)), a_depth, a_number, a_low, a_onStack, a_open, a_path, a_ahead, a_todo, a_shown, a_failed)) (h0 : ¬ (∃ t, iS g0 g1 t) → post (f_made, f_states, f_initial, f_reached, f_deepest, f_options0, f_options1, f_opened, f_depthOf, f_numbered, f_waiting, f_fairLow, f_fairHigh, f_partLow, f_partHigh, f_withLow, f_withHigh, f_traced, f_failures, f_backLow, f_backHigh, a_sizes, a_list, a_length, a_there, a_how, a_fairness, a_stack, a_val, a_goes, a_steps, a_guards, a_enabled, a_depth, a_number, a_low, a_onStack, a_open, a_path, a_ahead, a_todo, a_shown, a_failed)) :
    ((g0 = 0 → wX_lead_184 post (nI a) (nI s) g1 f_made f_states f_initial f_reached f_deepest f_options0 f_options1 f_opened f_depthOf f_numbered f_waiting f_fairLow f_fairHigh f_partLow f_partHigh f_withLow f_withHigh f_traced f_failures f_backLow f_backHigh a_sizes a_list a_length a_there a_how a_fairness a_stack a_val a_goes a_steps a_guards a_enabled a_depth a_number a_low a_onStack a_open a_path a_ahead a_todo a_shown a_failed) ∧ (¬ g0 = 0 → wX_lead_189 post (nI a) (nI s) f_made f_states f_initial f_reached f_deepest f_options0 f_options1 f_opened f_depthOf f_numbered f_waiting f_fairLow f_fairHigh f_partLow f_partHigh f_withLow f_withHigh f_traced f_failures f_backLow f_backHigh a_sizes a_list a_length a_there a_how a_fairness a_stack a_val a_goes a_steps a_guards a_enabled a_depth a_number a_low a_onStack a_open a_path a_ahead a_todo a_shown a_failed)) := by
  have yes : (∃ t, iS g0 g1 t) → wX_lead_189 post (nI a) (nI s) f_made f_states f_initial f_reached f_deepest f_options0 f_options1 f_opened f_depthOf f_numbered f_waiting f_fairLow f_fairHigh f_partLow f_partHigh f_withLow f_withHigh f_traced f_failures f_backLow f_backHigh a_sizes a_list a_length a_there a_how a_fairness a_stack a_val a_goes a_steps a_guards a_enabled a_depth a_number a_low a_onStack a_open a_path a_ahead a_todo a_shown a_failed := fun q => by
    unfold wX_lead_189 wX_lead_194
    refine br_f (by decide) ⟨vp_in_nI hs (by omega), vp_in_nI hs (by omega), nm_e ?_⟩
    rw [nI_clamp (by omega)]
    exact h1 q
  refine br_c (fun e => ?_) (fun e => yes (iS_ex.mp (Or.inl e)))
  unfold wX_lead_184
  refine br_c (fun e2 => ?_) (fun e2 => yes (iS_ex.mp (Or.inr e2)))
  unfold wX_lead_194
  exact br_t rfl (h0 fun q => (iS_ex.mpr q).elim (fun n => n e) (fun n => n e2))
theorem x_lead_hi {post : SX → Prop} {a s : Nat} (h64 : 64 ≤ s) (hs : s < 125) (ha : a < 4) (h1 : (∃ t, t ≠ s ∧ aS a_goes (8 * s + 2 * a) t) → post (f_made, f_states, f_initial, f_reached, f_deepest, f_options0, f_options1, f_opened, f_depthOf, f_numbered, f_waiting, f_fairLow, f_fairHigh, f_partLow, f_partHigh, f_withLow, f_withHigh, f_traced, f_failures, f_backLow, f_backHigh, a_sizes, a_list, a_length, a_there, a_how, a_fairness, a_stack, a_val, a_goes, a_steps, a_guards, upd a_enabled s (vp_nar .byte ((a_enabled s ||| ((1 : Int32) <<< (nI a &&& 31))).toInt8.toInt32)), a_depth, a_number, a_low, a_onStack, a_open, a_path, a_ahead, a_todo, a_shown, a_failed)) (h0 : ¬ (∃ t, t ≠ s ∧ aS a_goes (8 * s + 2 * a) t) → post (f_made, f_states, f_initial, f_reached, f_deepest, f_options0, f_options1, f_opened, f_depthOf, f_numbered, f_waiting, f_fairLow, f_fairHigh, f_partLow, f_partHigh, f_withLow, f_withHigh, f_traced, f_failures, f_backLow, f_backHigh, a_sizes, a_list, a_length, a_there, a_how, a_fairness, a_stack, a_val, a_goes, a_steps, a_guards, a_enabled, a_depth, a_number, a_low, a_onStack, a_open, a_path, a_ahead, a_todo, a_shown, a_failed)) :
    wX_lead_119 post (nI a) (nI s) (nI (8 * s + 2 * a)) ((1 : Int64) <<< ((nI s &&& 63).toInt64 &&& 63)) 0 f_made f_states f_initial f_reached f_deepest f_options0 f_options1 f_opened f_depthOf f_numbered f_waiting f_fairLow f_fairHigh f_partLow f_partHigh f_withLow f_withHigh f_traced f_failures f_backLow f_backHigh a_sizes a_list a_length a_there a_how a_fairness a_stack a_val a_goes a_steps a_guards a_enabled a_depth a_number a_low a_onStack a_open a_path a_ahead a_todo a_shown a_failed := by
  have v8 : vp_in (nI (8 * s + 2 * a)) 1000 := vp_in_nI (by omega) (by omega)
  have v81 : vp_in (nI (8 * s + 2 * a + 1)) 1000 := vp_in_nI (by omega) (by omega)
  have eqv : (∃ t, iS (a_goes (8 * s + 2 * a)) (a_goes (8 * s + 2 * a + 1) &&& (((1 : Int64) <<< ((nI s &&& 63).toInt64 &&& 63)) ^^^ (-1))) t) ↔ (∃ t, t ≠ s ∧ aS a_goes (8 * s + 2 * a) t) :=
    ⟨fun ⟨t, q⟩ => ⟨t, ((iS_sh h64 (by omega)).mp q).2, ((iS_sh h64 (by omega)).mp q).1⟩, fun ⟨t, q⟩ => ⟨t, (iS_sh h64 (by omega)).mpr ⟨q.2, q.1⟩⟩⟩
  have k := x_lead_e (post := post) (g0 := a_goes (8 * s + 2 * a)) ha hs (fun q => h1 (eqv.mp q)) (fun q => h0 fun y => q (eqv.mpr y))
  unfold wX_lead_119
  refine br_t rfl ⟨v8, ?_⟩
  unfold wX_lead_148
  rw [nI_1, nI_clamp (by omega), nI_clamp (by omega)]
  exact ⟨fun e => br_t rfl ⟨v81, k.1 e⟩, k.2⟩
theorem x_lead_lo {post : SX → Prop} {a s : Nat} (h64 : s < 64) (ha : a < 4) (h1 : (∃ t, t ≠ s ∧ aS a_goes (8 * s + 2 * a) t) → post (f_made, f_states, f_initial, f_reached, f_deepest, f_options0, f_options1, f_opened, f_depthOf, f_numbered, f_waiting, f_fairLow, f_fairHigh, f_partLow, f_partHigh, f_withLow, f_withHigh, f_traced, f_failures, f_backLow, f_backHigh, a_sizes, a_list, a_length, a_there, a_how, a_fairness, a_stack, a_val, a_goes, a_steps, a_guards, upd a_enabled s (vp_nar .byte ((a_enabled s ||| ((1 : Int32) <<< (nI a &&& 31))).toInt8.toInt32)), a_depth, a_number, a_low, a_onStack, a_open, a_path, a_ahead, a_todo, a_shown, a_failed)) (h0 : ¬ (∃ t, t ≠ s ∧ aS a_goes (8 * s + 2 * a) t) → post (f_made, f_states, f_initial, f_reached, f_deepest, f_options0, f_options1, f_opened, f_depthOf, f_numbered, f_waiting, f_fairLow, f_fairHigh, f_partLow, f_partHigh, f_withLow, f_withHigh, f_traced, f_failures, f_backLow, f_backHigh, a_sizes, a_list, a_length, a_there, a_how, a_fairness, a_stack, a_val, a_goes, a_steps, a_guards, a_enabled, a_depth, a_number, a_low, a_onStack, a_open, a_path, a_ahead, a_todo, a_shown, a_failed)) :
    wX_lead_119 post (nI a) (nI s) (nI (8 * s + 2 * a)) ((1 : Int64) <<< ((nI s &&& 63).toInt64 &&& 63)) 1 f_made f_states f_initial f_reached f_deepest f_options0 f_options1 f_opened f_depthOf f_numbered f_waiting f_fairLow f_fairHigh f_partLow f_partHigh f_withLow f_withHigh f_traced f_failures f_backLow f_backHigh a_sizes a_list a_length a_there a_how a_fairness a_stack a_val a_goes a_steps a_guards a_enabled a_depth a_number a_low a_onStack a_open a_path a_ahead a_todo a_shown a_failed := by
  have v8 : vp_in (nI (8 * s + 2 * a)) 1000 := vp_in_nI (by omega) (by omega)
  have v81 : vp_in (nI (8 * s + 2 * a + 1)) 1000 := vp_in_nI (by omega) (by omega)
  have eqv : (∃ t, iS (a_goes (8 * s + 2 * a) &&& (((1 : Int64) <<< ((nI s &&& 63).toInt64 &&& 63)) ^^^ (-1))) (a_goes (8 * s + 2 * a + 1)) t) ↔ (∃ t, t ≠ s ∧ aS a_goes (8 * s + 2 * a) t) :=
    ⟨fun ⟨t, q⟩ => ⟨t, ((iS_sl h64).mp q).2, ((iS_sl h64).mp q).1⟩, fun ⟨t, q⟩ => ⟨t, (iS_sl h64).mpr ⟨q.2, q.1⟩⟩⟩
  have k := x_lead_e (post := post) (g1 := a_goes (8 * s + 2 * a + 1)) ha (by omega) (fun q => h1 (eqv.mp q)) (fun q => h0 fun y => q (eqv.mpr y))
  unfold wX_lead_119
  refine br_f (by decide) ⟨v8, ?_⟩
  unfold wX_lead_148
  rw [nI_1, nI_clamp (by omega), nI_clamp (by omega)]
  exact ⟨fun e => br_f (by decide) ⟨v81, k.1 e⟩, k.2⟩
theorem x_lead {post : SX → Prop} {a s : Nat} (hz : s_Z z) (hsz : ∀ v, v < 3 → a_sizes v = nI (z v)) (hL : r_L tk ln a_list a_length) (hT : r_Tk tk ln) (hh : ∀ i, i < 12 → a_how i = 0 ∨ a_how i = 1 ∨ a_how i = 2)
    (hw : ∀ v, v < 3 → a_how (3 * a + v) = 1 → e_wh (tk (4 + 3 * a + v)) (ln (4 + 3 * a + v))) (ha : a < 4) (hg : e_wh (tk a) (ln a)) (hth : a_there a ≠ 0) (hs : s < s_N z) (hR : k_R z a_there a_how tk ln a_goes a_steps a_guards a_enabled s a)
    (H : ∀ (a_val' a_stack' : Nat → Int32) (a_goes' a_steps' : Nat → Int64) (a_guards' a_enabled' : Nat → Int32) (o0 o1 : Int32), (∀ j, (j < 8 * s ∨ 8 * s + 8 ≤ j) → a_goes' j = a_goes j) → (∀ j, j ≠ 2 * s → j ≠ 2 * s + 1 → a_steps' j = a_steps j) → (∀ j, j ≠ s → a_guards' j = a_guards j) → (∀ j, j ≠ s → a_enabled' j = a_enabled j) →
      k_R z a_there a_how tk ln a_goes' a_steps' a_guards' a_enabled' s (a + 1) → post (f_made, f_states, f_initial, f_reached, f_deepest, o0, o1, f_opened, f_depthOf, f_numbered, f_waiting, f_fairLow, f_fairHigh, f_partLow, f_partHigh, f_withLow, f_withHigh, f_traced, f_failures, f_backLow, f_backHigh, a_sizes, a_list, a_length, a_there, a_how, a_fairness, a_stack', a_val', a_goes', a_steps', a_guards', a_enabled', a_depth, a_number, a_low, a_onStack, a_open, a_path, a_ahead, a_todo, a_shown, a_failed)) :
    wpX_lead post (f_made, f_states, f_initial, f_reached, f_deepest, f_options0, f_options1, f_opened, f_depthOf, f_numbered, f_waiting, f_fairLow, f_fairHigh, f_partLow, f_partHigh, f_withLow, f_withHigh, f_traced, f_failures, f_backLow, f_backHigh, a_sizes, a_list, a_length, a_there, a_how, a_fairness, a_stack, a_val, a_goes, a_steps, a_guards, a_enabled, a_depth, a_number, a_low, a_onStack, a_open, a_path, a_ahead, a_todo, a_shown, a_failed) (nI a) (nI s) := by
  have hN := s_N_le hz
  have hs5 : s < 125 := by omega
  unfold wpX_lead
  dsimp only
  refine x_values hz hsz hs (fun vl hvl => ?_)
  refine x_worth (s := s) (by omega) hL hT hvl (Or.inr hg) (fun st => ?_)
  refine br_c (fun e => ?_) (fun e => ?_)
  · exact H vl st a_goes a_steps a_guards a_enabled f_options0 f_options1 (fun _ _ => rfl) (fun _ _ _ => rfl) (fun _ _ => rfl) (fun _ _ => rfl) (k_R_no ha hR fun q => q.2 e)
  · have hsg : s_g z a_there tk ln a s := ⟨hth, e⟩
    have hgm := mb_or ha hR.2.2.2.1
    refine ⟨vp_in_nI hs5 (by omega), vp_in_nI hs5 (by omega), nm_r (e' := upd a_guards s (a_guards s ||| ((1 : Int32) <<< (nI a &&& 31)))) (by rw [nI_clamp (by omega), mb_n hgm]) ?_⟩
    refine x_options (v := 0) hsz ha (by omega) (x_options (v := 1) hsz ha (by omega) ?_)
    refine x_spread (s := s) hz hsz hL hT hvl hh hw ha hs rfl rfl (fun gg st2 hf hset => ?_)
    have i8 : (8 * nI s) + (2 * nI a) = nI (8 * s + 2 * a) := by
      rw [show (8 : Int32) * nI s = nI (8 * s) from pk_mul 8 s, show (2 : Int32) * nI a = nI (2 * a) from pk_mul 2 a, nI_add]
    have i2 : (2 : Int32) * nI s = nI (2 * s) := pk_mul 2 s
    have i21 : nI (2 * s) + 1 = nI (2 * s + 1) := nI_1 _
    have i81 : nI (8 * s + 2 * a) + 1 = nI (8 * s + 2 * a + 1) := nI_1 _
    have c2 : (nI (2 * s)).toNatClampNeg = 2 * s := nI_clamp (by omega)
    have c21 : (nI (2 * s + 1)).toNatClampNeg = 2 * s + 1 := nI_clamp (by omega)
    have c8 : (nI (8 * s + 2 * a)).toNatClampNeg = 8 * s + 2 * a := nI_clamp (by omega)
    have c81 : (nI (8 * s + 2 * a + 1)).toNatClampNeg = 8 * s + 2 * a + 1 := nI_clamp (by omega)
    have v2 : vp_in (2 * nI s) 250 := by rw [i2]; exact vp_in_nI (by omega) (by omega)
    have v21 : vp_in (2 * nI s + 1) 250 := by rw [i2, i21]; exact vp_in_nI (by omega) (by omega)
    have v8 : vp_in (nI (8 * s + 2 * a)) 1000 := vp_in_nI (by omega) (by omega)
    have v81 : vp_in (nI (8 * s + 2 * a) + 1) 1000 := by rw [i81]; exact vp_in_nI (by omega) (by omega)
    have hset' : ∀ t, aS gg (8 * s + 2 * a) t ↔ s_go z a_there a_how tk ln a s t := by
      intro t
      rw [hset t]
      constructor
      · rintro (q | q)
        · exact absurd q (hR.2.1 a (by omega) ha t)
        · exact ⟨hs, q.1, hsg, q.2⟩
      · rintro ⟨_, q, _, r⟩; exact Or.inr ⟨q, r⟩
    refine nm_r i8 ⟨v2, v8, v2, nm_r (e' := vp_updL a_steps (2 * s) (a_steps (2 * s) ||| gg (8 * s + 2 * a))) (by rw [i2, c2, c8]) ⟨v21, v81, v21, nm_r (e' := vp_updL (vp_updL a_steps (2 * s) (a_steps (2 * s) ||| gg (8 * s + 2 * a))) (2 * s + 1) (vp_updL a_steps (2 * s) (a_steps (2 * s) ||| gg (8 * s + 2 * a)) (2 * s + 1) ||| gg (8 * s + 2 * a + 1))) (by rw [i2, i21, c21, i81, c81]) (nm_e ?_)⟩⟩
    have hst : ∀ t, aS (vp_updL (vp_updL a_steps (2 * s) (a_steps (2 * s) ||| gg (8 * s + 2 * a))) (2 * s + 1) (vp_updL a_steps (2 * s) (a_steps (2 * s) ||| gg (8 * s + 2 * a)) (2 * s + 1) ||| gg (8 * s + 2 * a + 1))) (2 * s) t ↔ aS a_steps (2 * s) t ∨ s_go z a_there a_how tk ln a s t := by
      intro t
      rw [aS_2, pk_uLn (by omega), iS_or, ← hset' t]
      rfl
    have fin : ∀ en' : Nat → Int32, (∀ j, j ≠ s → en' j = a_enabled j) → mb (en' s) (fun i => (i < a ∧ s_en z a_there a_how tk ln i s) ∨ (i = a ∧ s_en z a_there a_how tk ln a s)) →
        post (f_made, f_states, f_initial, f_reached, f_deepest, nI (sp_o z a_how a 0), nI (sp_o z a_how a 1), f_opened, f_depthOf, f_numbered, f_waiting, f_fairLow, f_fairHigh, f_partLow, f_partHigh, f_withLow, f_withHigh, f_traced, f_failures, f_backLow, f_backHigh, a_sizes, a_list, a_length, a_there, a_how, a_fairness, st2, vl, gg, (vp_updL (vp_updL a_steps (2 * s) (a_steps (2 * s) ||| gg (8 * s + 2 * a))) (2 * s + 1) (vp_updL a_steps (2 * s) (a_steps (2 * s) ||| gg (8 * s + 2 * a)) (2 * s + 1) ||| gg (8 * s + 2 * a + 1))), upd a_guards s (a_guards s ||| ((1 : Int32) <<< (nI a &&& 31))), en', a_depth, a_number, a_low, a_onStack, a_open, a_path, a_ahead, a_todo, a_shown, a_failed) := by
      intro en' he1 he2
      refine H vl st2 gg _ _ en' _ _ (fun j hj => hf j (by omega) (by omega)) (fun j hj1 hj2 => by rw [pk_uLn hj2, pk_uLn hj1]) (fun j hj => pk_un hj) he1 ?_
      exact k_R_yes hR ha hsg hf hset' hst (by rw [pk_us]; exact hgm) he2
    have yes : (∃ t, t ≠ s ∧ aS gg (8 * s + 2 * a) t) → mb (upd a_enabled s (vp_nar .byte ((a_enabled s ||| ((1 : Int32) <<< (nI a &&& 31))).toInt8.toInt32)) s) (fun i => (i < a ∧ s_en z a_there a_how tk ln i s) ∨ (i = a ∧ s_en z a_there a_how tk ln a s)) := by
      rintro ⟨t, hts, ht⟩
      have hme := mb_or ha hR.2.2.2.2
      rw [pk_us, mb_n hme]
      exact mb_c hme fun i _ => ⟨fun q => q.elim Or.inl fun e => Or.inr ⟨e, t, hts, (hset' t).mp ht⟩, fun q => q.elim Or.inl fun e => Or.inr e.1⟩
    have no : ¬ (∃ t, t ≠ s ∧ aS gg (8 * s + 2 * a) t) → mb (a_enabled s) (fun i => (i < a ∧ s_en z a_there a_how tk ln i s) ∨ (i = a ∧ s_en z a_there a_how tk ln a s)) := fun n =>
      mb_c hR.2.2.2.2 fun i _ => ⟨Or.inl, fun q => q.elim id fun ⟨_, t, hts, ht⟩ => absurd ⟨t, hts, (hset' t).mpr ht⟩ n⟩
    refine pk_le 64 s (fun h64 => ?_) (fun h64 => ?_)
    · exact x_lead_hi h64 hs5 ha (fun q => fin _ (fun j hj => pk_un hj) (yes q)) (fun q => fin a_enabled (fun _ _ => rfl) (no q))
    · exact x_lead_lo h64 ha (fun q => fin _ (fun j hj => pk_un hj) (yes q)) (fun q => fin a_enabled (fun _ _ => rfl) (no q))
end Xm
end
section
/-! X: depths, make -/
theorem n16 : ∀ k, k < 256 → (nI k).toInt16.toInt32 = nI k := by decide +kernel
theorem n16v {k : Nat} (h : k < 256) : vp_nar .short ((nI k).toInt16.toInt32) = nI k := by rw [pk_vs, n16 k h]
theorem n16m : vp_nar .short ((-1 : Int32).toInt16.toInt32) = -1 := by rw [pk_vs]; decide
theorem n16w {k : Nat} (h : k < 256) : vp_nar .short (nI k) = nI k := by rw [vp_nar_short, n16 k h]
/-- mx is the greatest depth, or -1 -/
def m_X (N : Nat) (dep : Nat → Int32) (mx : Int32) : Prop := (∀ s, s < N → dep s ≤ mx) ∧ (mx = -1 ∨ ∃ s, s < N ∧ dep s = mx)
def i_I (I : Nat → Prop) (dep : Nat → Int32) (q : Nat → Nat) (en i : Nat) : Prop :=
  (∀ s, s < i → (dep s = 0 ∧ I s) ∨ (dep s = -1 ∧ ¬ I s)) ∧ (∀ s, s < i → I s → ∃ j, j < en ∧ q j = s) ∧ (∀ j, j < en → q j < i ∧ I (q j)) ∧ en = cn I i
section Xi
variable {I : Nat → Prop} {St : Nat → Nat → Prop} {N : Nat} {dep : Nat → Int32} {q : Nat → Nat} {en i : Nat}
theorem i_I_0 : i_I I dep q 0 0 := ⟨fun s h => absurd h (Nat.not_lt_zero _), fun s h => absurd h (Nat.not_lt_zero _), fun s h => absurd h (Nat.not_lt_zero _), rfl⟩
theorem i_I_n (h : i_I I dep q en i) (hn : ¬ I i) : i_I I (upd dep i (-1)) q en (i + 1) := by
  obtain ⟨a, b, c, d⟩ := h
  refine ⟨fun s hs => ?_, fun s hs hI => ?_, fun j hj => ⟨by have := (c j hj).1; omega, (c j hj).2⟩, ?_⟩
  · by_cases e : s = i
    · subst e; rw [pk_us]; exact Or.inr ⟨rfl, hn⟩
    · rw [pk_un e]; exact a s (by omega)
  · by_cases e : s = i
    · subst e; exact absurd hI hn
    · exact b s (by omega) hI
  · show en = cn I i + b01 (I i)
    rw [b01_f hn]; exact d
theorem i_I_y (h : i_I I dep q en i) (hy : I i) : i_I I (upd dep i 0) (fun j => if j = en then i else q j) (en + 1) (i + 1) := by
  obtain ⟨a, b, c, d⟩ := h
  refine ⟨fun s hs => ?_, fun s hs hI => ?_, fun j hj => ?_, ?_⟩
  · by_cases e : s = i
    · subst e; rw [pk_us]; exact Or.inl ⟨rfl, hy⟩
    · rw [pk_un e]; exact a s (by omega)
  · by_cases e : s = i
    · exact ⟨en, by omega, by show (if en = en then i else q en) = s; rw [if_pos rfl, e]⟩
    · obtain ⟨j, hj, ej⟩ := b s (by omega) hI
      exact ⟨j, by omega, by show (if j = en then i else q j) = s; rw [if_neg (by omega)]; exact ej⟩
  · show (if j = en then i else q j) < i + 1 ∧ I (if j = en then i else q j)
    by_cases e : j = en
    · rw [if_pos e]; exact ⟨by omega, hy⟩
    · rw [if_neg e]
      have := c j (by omega)
      exact ⟨by omega, this.2⟩
  · show en + 1 = cn I i + b01 (I i)
    rw [b01_t hy, d]
theorem i_I_e (hI : ∀ s, I s → s < N) (h : i_I I dep q en N) : x_BI I St N dep q en 0 0 := by
  obtain ⟨a, b, c, d⟩ := h
  have z1 : (0 : Int32) ≠ -1 := by decide
  have ne : ∀ s, s < N → (dep s ≠ -1 ↔ I s) := by
    intro s hs
    rcases a s hs with ⟨e, y⟩ | ⟨e, y⟩
    · rw [e]; exact ⟨fun _ => y, fun _ => z1⟩
    · rw [e]; exact ⟨fun z => absurd rfl z, fun z => absurd z y⟩
  refine ⟨fun s hs => ?_, fun s j hj dj => ?_, fun s hs hn => b s hs ((ne s hs).mp hn), fun j hj => ⟨(c j hj).1, (ne _ (c j hj).1).mpr (c j hj).2⟩, ?_, fun i t hi => absurd hi (Nat.not_lt_zero _), ?_, fun i a _ _ _ => Nat.zero_le _, Nat.zero_le _⟩
  · rcases a s hs with ⟨e, y⟩ | ⟨e, y⟩
    · exact Or.inr ⟨0, by omega, e, g_D_0.mpr y⟩
    · exact Or.inl e
  · have : j = 0 := by omega
    subst this
    have := g_D_0.mp dj
    exact (ne s (hI s this)).mpr this
  · intro i j x y hij hj hx hy
    have e1 := g_D_u hx (g_D_0.mpr (c i (by omega)).2)
    omega
  · rw [d]; exact cn_eq fun k hk => (ne k hk).symm
end Xi
section Xr
variable {f_made f_states f_initial f_reached f_deepest f_options0 f_options1 f_opened f_depthOf f_numbered f_waiting f_traced f_failures : Int32} {f_fairLow f_fairHigh f_partLow f_partHigh f_withLow f_withHigh f_backLow f_backHigh : Int64} {a_sizes a_list a_length a_there a_how a_fairness a_stack a_val a_guards a_enabled a_depth a_number a_low a_onStack a_open a_path a_ahead a_shown a_failed : Nat → Int32} {a_goes a_steps a_todo : Nat → Int64}
variable {z : Nat → Nat} {tk : Nat → Nat → Nat} {ln : Nat → Nat}
theorem x_reach_in {post : SX → Prop} {I : Nat → Prop} {St : Nat → Nat → Prop} {N k s d : Nat} {J96 : Int32 → Int32 → Int32 → (Nat → Int32) → (Nat → Int32) → (Nat → Int32) → (Nat → Int32) → (Nat → Int32) → (Nat → Int32) → (Nat → Int32) → (Nat → Int32) → (Nat → Int64) → (Nat → Int64) → (Nat → Int32) → (Nat → Int32) → (Nat → Int32) → (Nat → Int32) → (Nat → Int32) → (Nat → Int32) → (Nat → Int32) → (Nat → Int32) → (Nat → Int32) → (Nat → Int64) → (Nat → Int32) → (Nat → Int32) → Prop}
    (hN : N ≤ 125) (hI : ∀ s, I s → s < N) (hS : ∀ s t, St s t → t < N) (hst : ∀ t, aS a_steps (2 * s) t ↔ St s t) (hs : s < N) (hd : g_D I St d s)
    (HJ : ∀ (en : Nat) (depth path : Nat → Int32) (q : Nat → Nat), x_BI I St N depth q en k d → (∀ i, i < en → path i = nI (q i)) → q k = s → (∀ t, St s t → depth t ≠ -1) → k < en → J96 (nI en) (nI (k + 1)) f_deepest a_sizes a_list a_length a_there a_how a_fairness a_stack a_val a_goes a_steps a_guards a_enabled depth a_number a_low a_onStack a_open path a_ahead a_todo a_shown a_failed) :
    ∀ n t, t ≤ N → N - t < n → ∀ (en : Nat) (depth path : Nat → Int32) (q : Nat → Nat), x_BI I St N depth q en k d → (∀ i, i < en → path i = nI (q i)) → q k = s → k < en → (∀ t', t' < t → St s t' → depth t' ≠ -1) →
      wX_reach_121 post J96 (nI k) (nI s) f_made (nI N) f_initial f_reached f_deepest f_options0 f_options1 f_opened f_depthOf f_numbered f_waiting f_fairLow f_fairHigh f_partLow f_partHigh f_withLow f_withHigh f_traced f_failures f_backLow f_backHigh n (nI en) (nI t) a_sizes a_list a_length a_there a_how a_fairness a_stack a_val a_goes a_steps a_guards a_enabled depth a_number a_low a_onStack a_open path a_ahead a_todo a_shown a_failed := by
  have hdN := g_D_lt hI hS hd
  intro n
  induction n with
  | zero => intro t _ h; omega
  | succ n ih =>
    intro t ht hn en depth path q hB hp hq hk hc
    have hen : en ≤ N := by rw [hB.2.2.2.2.2.2.1]; exact cn_le _ _
    refine pk_le N t (fun h => ?_) (fun h => ?_)
    · exact nm_r (nI_1 k) (HJ en depth path q hB hp hq (fun t' hst' => hc t' (by have := hS s t' hst'; omega) hst') hk)
    · have skip : (St s t → depth t ≠ -1) → wX_reach_171 post J96 (wX_reach_121 post J96 (nI k) (nI s) f_made (nI N) f_initial f_reached f_deepest f_options0 f_options1 f_opened f_depthOf f_numbered f_waiting f_fairLow f_fairHigh f_partLow f_partHigh f_withLow f_withHigh f_traced f_failures f_backLow f_backHigh n) (nI en) (nI k) (nI s) (nI t) f_made (nI N) f_initial f_reached f_deepest f_options0 f_options1 f_opened f_depthOf f_numbered f_waiting f_fairLow f_fairHigh f_partLow f_partHigh f_withLow f_withHigh f_traced f_failures f_backLow f_backHigh a_sizes a_list a_length a_there a_how a_fairness a_stack a_val a_goes a_steps a_guards a_enabled depth a_number a_low a_onStack a_open path a_ahead a_todo a_shown a_failed := by
        intro hsk
        unfold wX_reach_171 wX_reach_172
        refine br_t rfl (nm_r (nI_1 t) (ih (t + 1) (by omega) (by omega) en depth path q hB hp hq hk fun t' ht' hst' => ?_))
        rcases Nat.lt_or_ge t' t with c | c
        · exact hc t' c hst'
        · have : t' = t := by omega
          rw [this] at hst' ⊢; exact hsk hst'
      refine ⟨vp_in_nI (by omega) (by omega), ?_⟩
      rw [nI_clamp (by omega)]
      have hdt : depth t = -1 ∨ ∃ j, j ≤ d + 1 ∧ depth t = nI j ∧ g_D I St j t := hB.1 t h
      refine br_c (fun e => skip fun _ e1 => ?_) (fun e => ?_)
      · rw [e1] at e; exact absurd e (by decide)
      · have em : depth t = -1 := by
          rcases hdt with e1 | ⟨j, hj, e1, _⟩
          · exact e1
          · rw [e1] at e; exact absurd (nI_pos' (by omega)) e
        have i2 : (2 : Int32) * nI s = nI (2 * s) := pk_mul 2 s
        have v2 : vp_in (2 * nI s) 250 := by rw [i2]; exact vp_in_nI (by omega) (by omega)
        have v21 : vp_in (2 * nI s + 1) 250 := by rw [i2, nI_1]; exact vp_in_nI (by omega) (by omega)
        refine ⟨v2, v21, x_has (by omega) (fun hh => ?_) (fun hh => ?_)⟩
        · rw [i2, nI_1, nI_clamp (by omega), nI_clamp (by omega)] at hh
          have hstt := (hst t).mp hh
          obtain ⟨henN, hB'⟩ := x_push hI hS hN hB hk (by rw [hq]; exact hd) h (by rw [hq]; exact hstt) em
          have hds : depth s = nI d := by
            have h4 := hB.2.2.2.1 k hk
            rw [hq] at h4
            rcases hB.1 s hs with e1 | ⟨j, hj, e1, dj⟩
            · exact absurd e1 h4.2
            · rw [e1, g_D_u dj hd]
          refine br_f (by decide) ?_
          unfold wX_reach_172
          refine br_f (by decide) ⟨vp_in_nI (by omega) (by omega), vp_in_nI (by omega) (by omega), nm_r (e' := upd depth t (nI (d + 1))) (by rw [nI_clamp (by omega), nI_clamp (by omega), hds, nI_1, n16v (by omega)]) (nm_r (nI_1 en) ⟨vp_in_nI (by omega) (by omega), nm_r (e' := upd path en (nI t)) (by rw [nI_clamp (by omega), n16v (by omega)]) (nm_r (nI_1 t) (ih (t + 1) (by omega) (by omega) (en + 1) _ _ _ hB' ?_ ?_ (by omega) ?_))⟩)⟩
          · intro i hi
            show upd path en (nI t) i = nI (if i = en then t else q i)
            by_cases c : i = en
            · rw [if_pos c, c, pk_us]
            · rw [if_neg c, pk_un c]; exact hp i (by omega)
          · show (if k = en then t else q k) = s
            rw [if_neg (by omega)]; exact hq
          · intro t' ht' hst'
            by_cases c : t' = t
            · rw [c, pk_us]; exact d_m1 (by omega)
            · rw [pk_un c]; exact hc t' (by omega) hst'
        · refine br_t rfl (skip fun hst' => ?_)
          rw [i2, nI_1, nI_clamp (by omega), nI_clamp (by omega)] at hh
          exact absurd ((hst t).mpr hst') hh
theorem x_reach_out {post : SX → Prop} {I : Nat → Prop} {St : Nat → Nat → Prop} {N : Nat}
    (hN : N ≤ 125) (hI : ∀ s, I s → s < N) (hS : ∀ s t, St s t → t < N) (hst : ∀ s, s < N → ∀ t, aS a_steps (2 * s) t ↔ St s t)
    (H : ∀ (depth path : Nat → Int32) (dp : Int32), d_OK I St N depth → m_X N depth dp → post (f_made, nI N, f_initial, nI (cn (g_Rd I St) N), dp, f_options0, f_options1, f_opened, f_depthOf, f_numbered, f_waiting, f_fairLow, f_fairHigh, f_partLow, f_partHigh, f_withLow, f_withHigh, f_traced, f_failures, f_backLow, f_backHigh, a_sizes, a_list, a_length, a_there, a_how, a_fairness, a_stack, a_val, a_goes, a_steps, a_guards, a_enabled, depth, a_number, a_low, a_onStack, a_open, path, a_ahead, a_todo, a_shown, a_failed)) :
    ∀ n k, ∀ (en d : Nat) (dp : Int32) (depth path : Nat → Int32) (q : Nat → Nat), x_BI I St N depth q en k d → (∀ i, i < en → path i = nI (q i)) → N + 1 - k < n → (k = 0 → dp = -1) → (0 < k → ∃ e, dp = nI e ∧ g_D I St e (q (k - 1))) →
      wX_reach_96 post f_made (nI N) f_initial f_reached f_options0 f_options1 f_opened f_depthOf f_numbered f_waiting f_fairLow f_fairHigh f_partLow f_partHigh f_withLow f_withHigh f_traced f_failures f_backLow f_backHigh n (nI en) (nI k) dp a_sizes a_list a_length a_there a_how a_fairness a_stack a_val a_goes a_steps a_guards a_enabled depth a_number a_low a_onStack a_open path a_ahead a_todo a_shown a_failed := by
  intro n
  induction n with
  | zero => intro k en d dp depth path q _ _ h; omega
  | succ n ih =>
    intro k en d dp depth path q hB hp hn h0 h1
    have hen : en ≤ N := by rw [hB.2.2.2.2.2.2.1]; exact cn_le _ _
    have hke : k ≤ en := hB.2.2.2.2.2.2.2.2
    refine pk_le en k (fun h => ?_) (fun h => ?_)
    · have ek : k = en := by omega
      subst ek
      obtain ⟨hOK, hcn⟩ := x_done hI hS hB
      obtain ⟨m0, m1⟩ := x_max hN hI hS hB
      have hm : m_X N depth dp := by
        rcases Nat.eq_zero_or_pos k with c | c
        · rw [h0 c]
          exact ⟨fun s hs => by rw [m0 c s hs]; exact Int32.le_refl _, Or.inl rfl⟩
        · obtain ⟨e, he, de⟩ := h1 c
          obtain ⟨hq, hle⟩ := m1 c
          have hdq : depth (q (k - 1)) = nI e := by rw [d_OK_eq hN hOK hq (by have := g_D_lt hI hS de; omega)]; exact de
          rw [hdq] at hle
          rw [he]
          exact ⟨hle, Or.inr ⟨q (k - 1), hq, hdq⟩⟩
      rw [hcn]
      exact H depth path dp hOK hm
    · obtain ⟨d', hd', hdN, dd, hB'⟩ := x_head hI hS hN hB h
      have hqN := (hB.2.2.2.1 k h).1
      refine ⟨vp_in_nI (by omega) (by omega), nm_r (e' := nI (q k)) (by rw [nI_clamp (by omega), hp k h]) ⟨vp_in_nI (by omega) (by omega), nm_r (e' := nI d') (by rw [nI_clamp (by omega), hd']) ⟨N + 1, ?_⟩⟩⟩
      refine x_reach_in (d := d') hN hI hS (hst (q k) hqN) hqN dd ?_ (N + 1) 0 (Nat.zero_le _) (by omega) en depth path q hB' hp rfl h (fun t' ht' => absurd ht' (Nat.not_lt_zero _))
      intro en2 depth2 path2 q2 hB2 hp2 hq2 hc2 hk2
      refine ih (k + 1) en2 d' _ depth2 path2 q2 (x_next hB2 hk2 (by rw [hq2]; exact dd) (by rw [hq2]; exact hc2)) hp2 (by omega) (fun z => absurd z (by omega)) (fun _ => ⟨d', rfl, ?_⟩)
      rw [Nat.add_sub_cancel, hq2]; exact dd
theorem x_reach_i {post : SX → Prop} (hz : s_Z z) (hsz : ∀ v, v < 3 → a_sizes v = nI (z v)) (hL : r_L tk ln a_list a_length) (hT : r_Tk tk ln) (hwI : ln 16 = 0 ∨ e_wh (tk 16) (ln 16))
    (hst : ∀ s, s < s_N z → ∀ t, aS a_steps (2 * s) t ↔ s_st z a_there a_how tk ln s t) (e1 : f_deepest = -1)
    (H : ∀ (a_val' a_stack' a_depth' a_path' : Nat → Int32) (dp : Int32), d_OK (s_i z tk ln) (s_st z a_there a_how tk ln) (s_N z) a_depth' → m_X (s_N z) a_depth' dp →
      post (f_made, nI (s_N z), nI (cn (s_i z tk ln) (s_N z)), nI (cn (g_Rd (s_i z tk ln) (s_st z a_there a_how tk ln)) (s_N z)), dp, f_options0, f_options1, f_opened, f_depthOf, f_numbered, f_waiting, f_fairLow, f_fairHigh, f_partLow, f_partHigh, f_withLow, f_withHigh, f_traced, f_failures, f_backLow, f_backHigh, a_sizes, a_list, a_length, a_there, a_how, a_fairness, a_stack', a_val', a_goes, a_steps, a_guards, a_enabled, a_depth', a_number, a_low, a_onStack, a_open, a_path', a_ahead, a_todo, a_shown, a_failed)) :
    ∀ n i, i ≤ s_N z → s_N z - i < n → ∀ (en : Nat) (a_val a_stack depth path : Nat → Int32) (q : Nat → Nat), i_I (s_i z tk ln) depth q en i → (∀ j, j < en → path j = nI (q j)) →
      wX_reach_19 post n (nI en) (nI i) f_made (nI (s_N z)) (nI en) f_reached f_deepest f_options0 f_options1 f_opened f_depthOf f_numbered f_waiting f_fairLow f_fairHigh f_partLow f_partHigh f_withLow f_withHigh f_traced f_failures f_backLow f_backHigh a_sizes a_list a_length a_there a_how a_fairness a_stack a_val a_goes a_steps a_guards a_enabled depth a_number a_low a_onStack a_open path a_ahead a_todo a_shown a_failed := by
  have hN := s_N_le hz
  have hI : ∀ s, s_i z tk ln s → s < s_N z := fun s h => h.1
  have hS : ∀ s t, s_st z a_there a_how tk ln s t → t < s_N z := fun s t h => (s_st_lt h).2
  subst e1
  intro n
  induction n with
  | zero => intro i _ h; omega
  | succ n ih =>
    intro i hi hn en a_val a_stack depth path q hB hp
    have hen : en ≤ i := by rw [hB.2.2.2]; exact cn_le _ _
    refine pk_le (s_N z) i (fun h => ?_) (fun h => ?_)
    · have ei : i = s_N z := by omega
      subst ei
      have hcn := hB.2.2.2
      refine ⟨s_N z + 2, x_reach_out hN hI hS hst ?_ (s_N z + 2) 0 en 0 (-1) depth path q (i_I_e hI hB) hp (by omega) (fun _ => rfl) (fun z => absurd z (Nat.lt_irrefl _))⟩
      intro depth2 path2 dp h1 h2
      rw [hcn]
      exact H a_val a_stack depth2 path2 dp h1 h2
    · refine x_values hz hsz h (fun vl hvl => ?_)
      refine x_worth (l := 16) (s := i) (by omega) hL hT hvl hwI (fun st => ?_)
      refine br_c (fun e => ?_) (fun e => ?_)
      · unfold wX_reach_46
        refine br_t rfl ?_
        unfold wX_reach_61
        refine ⟨vp_in_nI (by omega) (by omega), nm_r (e' := upd depth i (-1)) (by rw [nI_clamp (by omega), n16m]) (br_t rfl (nm_r (nI_1 i) (ih (i + 1) (by omega) (by omega) en vl st _ _ q (i_I_n hB fun c => c.2 e) hp)))⟩
      · unfold wX_reach_46
        refine br_f (by decide) ?_
        unfold wX_reach_61
        refine ⟨vp_in_nI (by omega) (by omega), nm_r (e' := upd depth i 0) (by rw [nI_clamp (by omega)]; exact congrArg (upd depth i) (n16v (k := 0) (by omega))) (br_f (by decide) (nm_r (nI_1 en) ⟨vp_in_nI (by omega) (by omega), nm_r (e' := upd path en (nI i)) (by rw [nI_clamp (by omega), n16v (by omega)]) (nm_r (nI_1 en) (nm_r (nI_1 i) (ih (i + 1) (by omega) (by omega) (en + 1) vl st _ _ _ (i_I_y hB ⟨h, e⟩) ?_)))⟩))⟩
        intro j hj
        show upd path en (nI i) j = nI (if j = en then i else q j)
        by_cases c : j = en
        · rw [if_pos c, c, pk_us]
        · rw [if_neg c, pk_un c]; exact hp j (by omega)
end Xr
end
section
/-! X: make -/
/-- all that is asked of a specification -/
def r_W (z : Nat → Nat) (th fr hw : Nat → Int32) (tk : Nat → Nat → Nat) (ln : Nat → Nat) : Prop :=
  s_Z z ∧ (∀ a, a < 4 → fr a = 0 ∨ fr a = 1 ∨ fr a = 2) ∧ (∀ i, i < 12 → hw i = 0 ∨ hw i = 1 ∨ hw i = 2) ∧ r_Tk tk ln ∧
  (∀ l, l < 18 → ln l = 0 ∨ e_wh (tk l) (ln l)) ∧ (∀ a, a < 4 → th a ≠ 0 → e_wh (tk a) (ln a)) ∧
  (∀ a v, a < 4 → v < 3 → hw (3 * a + v) = 1 → e_wh (tk (4 + 3 * a + v)) (ln (4 + 3 * a + v)))
/-- X's tables are right -/
def x_D (z : Nat → Nat) (th hw : Nat → Int32) (tk : Nat → Nat → Nat) (ln : Nat → Nat) (f_states f_initial f_reached f_deepest : Int32) (goes steps : Nat → Int64) (guards enabled depth : Nat → Int32) : Prop :=
  f_states = nI (s_N z) ∧ (∀ s, s < s_N z → k_F z th hw tk ln goes steps guards enabled s) ∧ d_OK (s_i z tk ln) (s_st z th hw tk ln) (s_N z) depth ∧
  f_initial = nI (cn (s_i z tk ln) (s_N z)) ∧ f_reached = nI (cn (g_Rd (s_i z tk ln) (s_st z th hw tk ln)) (s_N z)) ∧ m_X (s_N z) depth f_deepest
section Xk
variable {f_made f_states f_initial f_reached f_deepest f_options0 f_options1 f_opened f_depthOf f_numbered f_waiting f_traced f_failures : Int32} {f_fairLow f_fairHigh f_partLow f_partHigh f_withLow f_withHigh f_backLow f_backHigh : Int64} {a_sizes a_list a_length a_there a_how a_fairness a_stack a_val a_guards a_enabled a_depth a_number a_low a_onStack a_open a_path a_ahead a_shown a_failed : Nat → Int32} {a_goes a_steps a_todo : Nat → Int64}
variable {z : Nat → Nat} {tk : Nat → Nat → Nat} {ln : Nat → Nat}
theorem x_make_102 {post : SX → Prop} {s : Nat} {J58 : Int32 → Int32 → Int32 → Int32 → Int32 → Int32 → Int32 → Int32 → Int32 → Int32 → Int32 → Int32 → Int64 → Int64 → Int64 → Int64 → Int64 → Int64 → Int32 → Int32 → Int64 → Int64 → (Nat → Int32) → (Nat → Int32) → (Nat → Int32) → (Nat → Int32) → (Nat → Int32) → (Nat → Int32) → (Nat → Int32) → (Nat → Int32) → (Nat → Int64) → (Nat → Int64) → (Nat → Int32) → (Nat → Int32) → (Nat → Int32) → (Nat → Int32) → (Nat → Int32) → (Nat → Int32) → (Nat → Int32) → (Nat → Int32) → (Nat → Int32) → (Nat → Int64) → (Nat → Int32) → (Nat → Int32) → Prop}
    (hW : r_W z a_there a_fairness a_how tk ln) (hsz : ∀ v, v < 3 → a_sizes v = nI (z v)) (hL : r_L tk ln a_list a_length) (hs : s < s_N z)
    (HJ : ∀ (a_val a_stack : Nat → Int32) (goes steps : Nat → Int64) (guards enabled : Nat → Int32) (o0 o1 : Int32), k_X z a_there a_how tk ln goes steps guards enabled (s + 1) →
      J58 (nI (s + 1)) f_made f_states f_initial f_reached f_deepest o0 o1 f_opened f_depthOf f_numbered f_waiting f_fairLow f_fairHigh f_partLow f_partHigh f_withLow f_withHigh f_traced f_failures f_backLow f_backHigh a_sizes a_list a_length a_there a_how a_fairness a_stack a_val goes steps guards enabled a_depth a_number a_low a_onStack a_open a_path a_ahead a_todo a_shown a_failed) :
    ∀ n a, a ≤ 4 → 4 - a < n → ∀ (a_val a_stack : Nat → Int32) (goes steps : Nat → Int64) (guards enabled : Nat → Int32) (o0 o1 : Int32),
      (∀ s', s' < s → k_F z a_there a_how tk ln goes steps guards enabled s') → (∀ s', s + 1 ≤ s' → s' < 125 → ∀ b, b < 4 → ∀ t, ¬ aS goes (8 * s' + 2 * b) t) → k_R z a_there a_how tk ln goes steps guards enabled s a →
      wX_make_102 post J58 (nI s) n (nI a) f_made f_states f_initial f_reached f_deepest o0 o1 f_opened f_depthOf f_numbered f_waiting f_fairLow f_fairHigh f_partLow f_partHigh f_withLow f_withHigh f_traced f_failures f_backLow f_backHigh a_sizes a_list a_length a_there a_how a_fairness a_stack a_val goes steps guards enabled a_depth a_number a_low a_onStack a_open a_path a_ahead a_todo a_shown a_failed := by
  obtain ⟨hz, hfr, hh, hT, hwl, hwg, hwe⟩ := hW
  have hN := s_N_le hz
  intro n
  induction n with
  | zero => intro a _ h; omega
  | succ n ih =>
    intro a ha hn a_val a_stack goes steps guards enabled o0 o1 h1 h2 h3
    refine pk_le 4 a (fun h => ?_) (fun h => ?_)
    · have ea : a = 4 := by omega
      subst ea
      have ei : (2 * nI s) + (nI s >>> ((6 : Int32) &&& 31)) = nI (2 * s + s / 64) := by
        rw [show (2 : Int32) * nI s = nI (2 * s) from pk_mul 2 s, pk_shrN (by omega) _ 6 (by decide), nI_add]
      have hin : vp_in ((2 * nI s) + (nI s >>> ((6 : Int32) &&& 31))) 250 := by rw [ei]; exact vp_in_nI (by omega) (by omega)
      refine ⟨hin, hin, nm_r (e' := vp_updL steps (2 * s + s / 64) (steps (2 * s + s / 64) &&& (((1 : Int64) <<< ((nI (s % 64)).toInt64 &&& 63)) ^^^ (-1)))) (by rw [ei, nI_clamp (by omega), bl_m63 (by omega)]) (nm_r (nI_1 s) (HJ _ _ _ _ _ _ _ _ ⟨fun s' hs' => ?_, h2⟩))⟩
      rcases Nat.lt_or_ge s' s with c | c
      · exact k_F_c (h1 s' c) (fun _ _ _ => rfl) (pk_uLn (by omega)) (pk_uLn (by omega)) rfl rfl
      · have : s' = s := by omega
        rw [this]
        exact k_R_4 h3 fun t => aS_del (by omega)
    · refine ⟨vp_in_nI h (by omega), ?_⟩
      rw [nI_clamp (by omega)]
      refine br_c (fun e => ?_) (fun e => ?_)
      · exact nm_r (nI_1 a) (ih (a + 1) (by omega) (by omega) a_val a_stack goes steps guards enabled o0 o1 h1 h2 (k_R_no h h3 fun q => q.1 e))
      · refine x_lead hz hsz hL hT hh (fun v hv => hwe a v h hv) h (hwg a h e) e hs h3 (fun vl st g' st' gu' en' p0 p1 f1 f2 f3 f4 h3' => ?_)
        refine nm_r (nI_1 a) (ih (a + 1) (by omega) (by omega) vl st g' st' gu' en' p0 p1 (fun s' hs' => ?_) (fun s' hs' hs2 b hb t => ?_) h3')
        · exact k_F_c (h1 s' hs') (fun j _ hj => f1 j (by omega)) (f2 _ (by omega) (by omega)) (f2 _ (by omega) (by omega)) (f3 _ (by omega)) (f4 _ (by omega))
        · unfold aS
          rw [f1 _ (by omega), f1 _ (by omega)]
          exact h2 s' hs' hs2 b hb t
theorem x_make_58 {post : SX → Prop} (hW : r_W z a_there a_fairness a_how tk ln) (hsz : ∀ v, v < 3 → a_sizes v = nI (z v)) (hL : r_L tk ln a_list a_length)
    (H : ∀ (a_val a_stack : Nat → Int32) (goes steps : Nat → Int64) (guards enabled depth path : Nat → Int32) (o0 o1 i0 r0 d0 : Int32), x_D z a_there a_how tk ln (nI (s_N z)) i0 r0 d0 goes steps guards enabled depth →
      post (f_made, nI (s_N z), i0, r0, d0, o0, o1, f_opened, f_depthOf, f_numbered, f_waiting, f_fairLow, f_fairHigh, f_partLow, f_partHigh, f_withLow, f_withHigh, f_traced, f_failures, f_backLow, f_backHigh, a_sizes, a_list, a_length, a_there, a_how, a_fairness, a_stack, a_val, goes, steps, guards, enabled, depth, a_number, a_low, a_onStack, a_open, path, a_ahead, a_todo, a_shown, a_failed)) :
    ∀ n s, s ≤ s_N z → s_N z - s < n → ∀ (a_val a_stack : Nat → Int32) (goes steps : Nat → Int64) (guards enabled : Nat → Int32) (o0 o1 : Int32), k_X z a_there a_how tk ln goes steps guards enabled s →
      wX_make_58 post n (nI s) f_made (nI (s_N z)) f_initial f_reached f_deepest o0 o1 f_opened f_depthOf f_numbered f_waiting f_fairLow f_fairHigh f_partLow f_partHigh f_withLow f_withHigh f_traced f_failures f_backLow f_backHigh a_sizes a_list a_length a_there a_how a_fairness a_stack a_val goes steps guards enabled a_depth a_number a_low a_onStack a_open a_path a_ahead a_todo a_shown a_failed := by
  have hN := s_N_le hW.1
  intro n
  induction n with
  | zero => intro s _ h; omega
  | succ n ih =>
    intro s hs hn a_val a_stack goes steps guards enabled o0 o1 hk
    refine pk_le (s_N z) s (fun h => ?_) (fun h => ?_)
    · have es : s = s_N z := by omega
      subst es
      refine ⟨s_N z + 1, x_reach_i hW.1 hsz hL hW.2.2.2.1 (hW.2.2.2.2.1 16 (by omega)) (fun s hs t => (hk.1 s hs).2.1 t) rfl ?_ (s_N z + 1) 0 (Nat.zero_le _) (by omega) 0 a_val a_stack a_depth a_path (fun _ => 0) i_I_0 (fun j hj => absurd hj (Nat.not_lt_zero _))⟩
      intro vl st dep pth dp h1 h2
      exact H vl st goes steps guards enabled dep pth o0 o1 _ _ _ ⟨rfl, hk.1, h1, rfl, rfl, h2⟩
    · have i2 : (2 : Int32) * nI s = nI (2 * s) := pk_mul 2 s
      have v2 : vp_in (2 * nI s) 250 := by rw [i2]; exact vp_in_nI (by omega) (by omega)
      have v21 : vp_in (2 * nI s + 1) 250 := by rw [i2, nI_1]; exact vp_in_nI (by omega) (by omega)
      have v1 : vp_in (nI s) 125 := vp_in_nI (by omega) (by omega)
      have cs : (nI s).toNatClampNeg = s := nI_clamp (by omega)
      have nb : vp_nar .byte 0 = 0 := by rw [vp_nar_byte]; decide
      refine ⟨v2, nm_r (e' := vp_updL steps (2 * s) 0) (by rw [i2, nI_clamp (by omega)]) ⟨v21, nm_r (e' := vp_updL (vp_updL steps (2 * s) 0) (2 * s + 1) 0) (by rw [i2, nI_1, nI_clamp (by omega)]) ⟨v1, nm_r (e' := upd guards s 0) (by rw [cs, nb]) ⟨v1, nm_r (e' := upd enabled s 0) (by rw [cs, nb]) ⟨5, ?_⟩⟩⟩⟩⟩
      refine x_make_102 hW hsz hL h ?_ 5 0 (by omega) (by omega) a_val a_stack goes _ _ _ o0 o1 (fun s' hs' => ?_) (fun s' hs' => hk.2 s' (by omega)) ?_
      · intro vl st g' st' gu' en' p0 p1 hk'
        exact ih (s + 1) (by omega) (by omega) vl st g' st' gu' en' p0 p1 hk'
      · exact k_F_c (hk.1 s' hs') (fun _ _ _ => rfl) (by rw [pk_uLn (by omega), pk_uLn (by omega)]) (by rw [pk_uLn (by omega), pk_uLn (by omega)]) (pk_un (by omega)) (pk_un (by omega))
      · refine ⟨fun b hb => absurd hb (Nat.not_lt_zero _), fun b _ hb t => hk.2 s (Nat.le_refl _) (by omega) b hb t, fun t => ?_, ?_, ?_⟩
        · rw [aS_2]
          exact ⟨fun q => absurd q (iS_0 t), fun ⟨b, hb, _⟩ => absurd hb (Nat.not_lt_zero _)⟩
        · rw [pk_us]; exact mb_0 fun i _ q => absurd q.1 (Nat.not_lt_zero _)
        · rw [pk_us]; exact mb_0 fun i _ q => absurd q.1 (Nat.not_lt_zero _)
theorem x_make_36 {post : SX → Prop} (H : ∀ goes : Nat → Int64, (∀ j, j < 1000 → goes j = 0) → ∃ n58 : Nat, wX_make_58 post n58 0 f_made f_states f_initial f_reached f_deepest f_options0 f_options1 f_opened f_depthOf f_numbered f_waiting f_fairLow f_fairHigh f_partLow f_partHigh f_withLow f_withHigh f_traced f_failures f_backLow f_backHigh a_sizes a_list a_length a_there a_how a_fairness a_stack a_val goes a_steps a_guards a_enabled a_depth a_number a_low a_onStack a_open a_path a_ahead a_todo a_shown a_failed) :
    ∀ n k, k ≤ 1000 → 1000 - k < n → ∀ goes : Nat → Int64, (∀ j, j < k → goes j = 0) → wX_make_36 post f_made f_states f_initial f_reached f_deepest f_options0 f_options1 f_opened f_depthOf f_numbered f_waiting f_fairLow f_fairHigh f_partLow f_partHigh f_withLow f_withHigh f_traced f_failures f_backLow f_backHigh n (nI k) a_sizes a_list a_length a_there a_how a_fairness a_stack a_val goes a_steps a_guards a_enabled a_depth a_number a_low a_onStack a_open a_path a_ahead a_todo a_shown a_failed := by
  intro n
  induction n with
  | zero => intro k _ h; omega
  | succ n ih =>
    intro k hk hn goes h0
    refine pk_le 1000 k (fun h => H goes fun j hj => h0 j (by omega)) (fun h => ?_)
    refine ⟨vp_in_nI h (by omega), nm_r (e' := vp_updL goes k 0) (by rw [nI_clamp (by omega)]) (nm_r (nI_1 k) (ih (k + 1) (by omega) (by omega) _ fun j hj => ?_))⟩
    by_cases c : j = k
    · rw [c, pk_uLs]
    · rw [pk_uLn c]; exact h0 j (by omega)
/-- X: make, made or not -/
theorem x_make {post : SX → Prop} (hW : r_W z a_there a_fairness a_how tk ln) (hsz : ∀ v, v < 3 → a_sizes v = nI (z v)) (hL : r_L tk ln a_list a_length)
    (hm : f_made = 0 ∨ (f_made = 1 ∧ x_D z a_there a_how tk ln f_states f_initial f_reached f_deepest a_goes a_steps a_guards a_enabled a_depth))
    (H : ∀ (a_val a_stack : Nat → Int32) (goes steps : Nat → Int64) (guards enabled depth path : Nat → Int32) (o0 o1 i0 r0 d0 : Int32), x_D z a_there a_how tk ln (nI (s_N z)) i0 r0 d0 goes steps guards enabled depth →
      post (1, nI (s_N z), i0, r0, d0, o0, o1, f_opened, f_depthOf, f_numbered, f_waiting, f_fairLow, f_fairHigh, f_partLow, f_partHigh, f_withLow, f_withHigh, f_traced, f_failures, f_backLow, f_backHigh, a_sizes, a_list, a_length, a_there, a_how, a_fairness, a_stack, a_val, goes, steps, guards, enabled, depth, a_number, a_low, a_onStack, a_open, path, a_ahead, a_todo, a_shown, a_failed)) :
    wpX_make post (f_made, f_states, f_initial, f_reached, f_deepest, f_options0, f_options1, f_opened, f_depthOf, f_numbered, f_waiting, f_fairLow, f_fairHigh, f_partLow, f_partHigh, f_withLow, f_withHigh, f_traced, f_failures, f_backLow, f_backHigh, a_sizes, a_list, a_length, a_there, a_how, a_fairness, a_stack, a_val, a_goes, a_steps, a_guards, a_enabled, a_depth, a_number, a_low, a_onStack, a_open, a_path, a_ahead, a_todo, a_shown, a_failed) := by
  rcases hm with e | ⟨e, hD⟩
  · refine br_t e (x_size (v := 0) hsz (by omega) (x_size (v := 1) hsz (by omega) (x_size (v := 2) hsz (by omega) (nm_r (e' := nI (s_N z)) (by rw [pk_mul, pk_mul]; rfl) ⟨1001, ?_⟩))))
    refine x_make_36 ?_ 1001 0 (by omega) (by omega) a_goes (fun j hj => absurd hj (Nat.not_lt_zero _))
    intro goes h0
    refine ⟨s_N z + 1, x_make_58 hW hsz hL H (s_N z + 1) 0 (Nat.zero_le _) (by omega) a_val a_stack goes a_steps a_guards a_enabled f_options0 f_options1 ⟨fun s hs => absurd hs (Nat.not_lt_zero _), fun s _ hs b hb t => ?_⟩⟩
    unfold aS
    rw [h0 _ (by omega), h0 _ (by omega)]
    exact iS_0 t
  · subst e
    have e1 := hD.1
    subst e1
    exact br_f (by decide) (H _ _ _ _ _ _ _ _ _ _ _ _ _ hD)
end Xk
end
section
/-! answers of the queries; X's side of them -/
theorem cn_split {P : Nat → Prop} (a : Nat) : ∀ b, cn P (a + b) = cn P a + cn (fun k => P (a + k)) b
  | 0 => rfl
  | b + 1 => by
    show cn P (a + b) + b01 (P (a + b)) = cn P a + (cn (fun k => P (a + k)) b + b01 (P (a + b)))
    rw [cn_split a b]; omega
theorem cn_0 {P : Nat → Prop} : ∀ {n : Nat}, (∀ k, k < n → ¬ P k) → cn P n = 0
  | 0, _ => rfl
  | n + 1, h => by
    show cn P n + b01 (P n) = 0
    rw [cn_0 (fun k hk => h k (by omega)), b01_f (h n (by omega))]
theorem cn_ext {P : Nat → Prop} {n m : Nat} (h : n ≤ m) (hp : ∀ k, P k → k < n) : cn P m = cn P n := by
  obtain ⟨d, rfl⟩ : ∃ d, m = n + d := ⟨m - n, by omega⟩
  rw [cn_split, cn_0 (P := fun k => P (n + k)) (fun k _ q => by have := hp _ q; omega)]
  rfl
theorem iS_cn {lo hi : Int64} : cn (fun j => bl lo j = true) 64 + cn (fun j => bl hi j = true) 64 = cn (iS lo hi) 128 := by
  rw [cn_split (P := iS lo hi) 64 64, cn_eq (P := fun j => bl lo j = true) (Q := iS lo hi) (fun k hk => (iS_lo hk).symm), cn_eq (P := fun j => bl hi j = true) (Q := fun k => iS lo hi (64 + k)) (fun k hk => by rw [iS_hi (by omega) (by omega), Nat.add_sub_cancel_left])]
theorem oddhalf {q : Nat} (h : q % 2 = 1) : (q - 1) / 2 = q / 2 := by omega
theorem lowbit {n : Nat} (h : n ≠ 0) : ∃ j, n.testBit j = true ∧ ∀ i, (n &&& (n - 1)).testBit i = (n.testBit i && decide (i ≠ j)) := by
  obtain ⟨j, hj, hl⟩ := pk_least (fun i => n.testBit i = true) (Nat.exists_testBit_of_ne_zero h)
  refine ⟨j, hj, fun i => ?_⟩
  have hl' : ∀ i, i < j → n.testBit i = false := fun i hi => ts_nt (hl i hi)
  have hm : n % 2 ^ j = 0 := by
    apply Nat.eq_of_testBit_eq
    intro i
    rw [Nat.testBit_mod_two_pow, Nat.zero_testBit]
    by_cases c : i < j
    · rw [hl' i c]; simp
    · simp [c]
  have ho : n / 2 ^ j % 2 = 1 := by
    rw [Nat.testBit_eq_decide_div_mod_eq, decide_eq_true_eq] at hj; exact hj
  have hpos : 0 < 2 ^ j := Nat.two_pow_pos j
  have hd : n = 2 ^ j * (n / 2 ^ j) := by have := Nat.div_add_mod n (2 ^ j); omega
  have h1 : (n - 1) / 2 ^ j = n / 2 ^ j - 1 := by
    generalize n / 2 ^ j = q at *
    obtain ⟨p, rfl⟩ : ∃ p, q = p + 1 := ⟨q - 1, by omega⟩
    rw [hd, Nat.mul_add, Nat.mul_one, Nat.add_sub_assoc (by omega), Nat.mul_add_div hpos, Nat.div_eq_of_lt (by omega)]
    omega
  rw [Nat.testBit_and]
  rcases Nat.lt_trichotomy i j with c | c | c
  · rw [hl' i c]; simp
  · subst c
    have : (n - 1).testBit i = false := by
      rw [Nat.testBit_eq_decide_div_mod_eq, h1, decide_eq_false_iff_not]; omega
    rw [this]; simp
  · have e : (n - 1).testBit i = n.testBit i := by
      rw [Nat.testBit_eq_decide_div_mod_eq, Nat.testBit_eq_decide_div_mod_eq]
      have e2 : (2 : Nat) ^ i = 2 ^ j * 2 * 2 ^ (i - j - 1) := by
        rw [← Nat.pow_succ, ← Nat.pow_add]; congr 1; omega
      rw [e2, ← Nat.div_div_eq_div_mul, ← Nat.div_div_eq_div_mul, h1, ← Nat.div_div_eq_div_mul, ← Nat.div_div_eq_div_mul]
      rw [oddhalf ho]
    rw [e]
    have : decide (i ≠ j) = true := by rw [decide_eq_true_eq]; omega
    rw [this]; simp
theorem bl_low {w : Int64} (h : ¬ w = 0) : ∃ j, j < 64 ∧ bl w j = true ∧ ∀ i, bl (w &&& (w - 1)) i = true ↔ (bl w i = true ∧ i ≠ j) := by
  have hn : w.toBitVec.toNat ≠ 0 := fun e => h (Int64.toBitVec_inj.mp (BitVec.eq_of_toNat_eq e))
  obtain ⟨j, h1, h2⟩ := lowbit hn
  have hb : ∀ i, bl w i = w.toBitVec.toNat.testBit i := fun i => rfl
  have hs : ∀ i, bl (w - 1) i = (w.toBitVec.toNat - 1).testBit i := by
    intro i
    show (w - 1).toBitVec.toNat.testBit i = _
    have : (w - 1).toBitVec.toNat = w.toBitVec.toNat - 1 := by
      rw [Int64.toBitVec_sub, BitVec.toNat_sub]
      have h1 : (Int64.toBitVec 1).toNat = 1 := by decide
      rw [h1]
      have := w.toBitVec.isLt
      omega
    rw [this]
  refine ⟨j, ?_, h1, fun i => ?_⟩
  · rcases Nat.lt_or_ge j 64 with c | c
    · exact c
    · have : bl w j = true := h1
      rw [bl_big c] at this; exact Bool.noConfusion this
  · rw [bl_and, hb, hs, ← Nat.testBit_and, h2 i, Bool.and_eq_true, decide_eq_true_eq]
theorem x_bits_l {post : Int32 → Prop} {C : Nat} (hC : C < 2 ^ 20) (h : post (nI C)) : ∀ n k (w : Int64), k + cn (fun j => bl w j = true) 64 = C → cn (fun j => bl w j = true) 64 < n → wX_bits_4 post n (nI k) w := by
  intro n
  induction n with
  | zero => intro k w _ h; omega
  | succ n ih =>
    intro k w hk hn
    refine br_c (fun e => ?_) (fun e => ?_)
    · have : cn (fun j => bl w j = true) 64 = 0 := cn_0 fun j _ q => by rw [e, bl_0] at q; exact Bool.noConfusion q
      have : k = C := by omega
      rw [this]; exact h
    · obtain ⟨j, hj, hb, hw⟩ := bl_low e
      have hc : cn (fun j => bl w j = true) 64 = cn (fun i => bl (w &&& (w - 1)) i = true) 64 + 1 := by
        rw [← cn_add (P := fun i => bl (w &&& (w - 1)) i = true) (a := j) (fun q => ((hw j).mp q).2 rfl) hj]
        refine cn_eq fun i hi => ?_
        rw [hw i]
        by_cases c : i = j
        · rw [c]; exact ⟨fun _ => Or.inr rfl, fun _ => hb⟩
        · exact ⟨fun q => Or.inl ⟨q, c⟩, fun q => q.elim (fun q => q.1) (fun q => absurd q c)⟩
      exact nm_r (nI_1 k) (nm_e (ih (k + 1) _ (by omega) (by omega)))
theorem x_bits {post : Int32 → Prop} {w : Int64} (h : post (nI (cn (fun j => bl w j = true) 64))) : wpX_bits post w := by
  have := cn_le (fun j => bl w j = true) 64
  exact ⟨cn (fun j => bl w j = true) 64 + 1, x_bits_l (by omega) h _ 0 w (by omega) (by omega)⟩
section Qa
variable (z : Nat → Nat) (th hw : Nat → Int32) (tk : Nat → Nat → Nat) (ln : Nat → Nat)
def q_Rd (s : Nat) : Prop := g_Rd (s_i z tk ln) (s_st z th hw tk ln) s
def q_stk (s : Nat) : Prop := q_Rd z th hw tk ln s ∧ ∀ a, a < 4 → ¬ s_en z th hw tk ln a s
noncomputable def q_prs (s : Nat) : Nat := cn (fun t => q_Rd z th hw tk ln s ∧ s_st z th hw tk ln s t) (s_N z)
def q_dOK (dep : Nat → Int32) : Prop := d_OK (s_i z tk ln) (s_st z th hw tk ln) (s_N z) dep
/-- count -/
def c_A (p r : Int32) : Prop :=
  (p = 0 → r = nI (s_N z)) ∧ (p = 1 → r = nI (cn (s_i z tk ln) (s_N z))) ∧ (p = 2 → r = nI (cn (q_Rd z th hw tk ln) (s_N z))) ∧
  (p = 3 → ∃ dep, q_dOK z th hw tk ln dep ∧ m_X (s_N z) dep r) ∧ (p = 4 → r = nI (cn (q_stk z th hw tk ln) (s_N z))) ∧
  (p = 5 → r = nI (sm (q_prs z th hw tk ln) (s_N z))) ∧ ((¬ p = 0 ∧ ¬ p = 1 ∧ ¬ p = 2 ∧ ¬ p = 3 ∧ ¬ p = 4 ∧ ¬ p = 5) → r = -1)
/-- state -/
def st_A (p0 p1 r : Int32) : Prop :=
  (∃ s w, s < s_N z ∧ p0 = nI s ∧ w < 6 ∧ p1 = nI w ∧ (w = 0 → ∃ dep, q_dOK z th hw tk ln dep ∧ r = dep s) ∧ (w = 1 → mb r (fun a => s_en z th hw tk ln a s)) ∧ (w = 2 → mb r (fun a => s_g z th tk ln a s)) ∧ (3 ≤ w → r = nI (sv z s (w - 3)))) ∨
  ((¬ vp_in p0 (s_N z) ∨ ¬ vp_in p1 6) ∧ r = -1)
/-- leads -/
def le_Q (p0 p1 p2 : Int32) : Prop := ∃ a s t, a < 4 ∧ p0 = nI a ∧ p1 = nI s ∧ p2 = nI t ∧ s_go z th hw tk ln a s t
def le_A (p0 p1 p2 r : Int32) : Prop := (r = 1 ∧ le_Q z th hw tk ln p0 p1 p2) ∨ (r = 0 ∧ ¬ le_Q z th hw tk ln p0 p1 p2)
end Qa
section Qb
variable {z : Nat → Nat} {th hw : Nat → Int32} {tk : Nat → Nat → Nat} {ln : Nat → Nat}
theorem m_X_u (hz : s_Z z) {dep dep' : Nat → Int32} {x y : Int32} (h : q_dOK z th hw tk ln dep) (h' : q_dOK z th hw tk ln dep') (hx : m_X (s_N z) dep x) (hy : m_X (s_N z) dep' y) : x = y := by
  have hN := s_N_le hz
  have eq : ∀ s, s < s_N z → dep s = dep' s := fun s hs => d_OK_u h h' hs
  have lo : ∀ s, s < s_N z → -1 ≤ dep s := by
    intro s hs
    rcases h s hs with ⟨k, hk, e, _⟩ | ⟨e, _⟩
    · rw [e]; exact Int32.le_trans (by decide) (nI_pos' (by omega))
    · rw [e]; exact Int32.le_refl _
  have hx' : m_X (s_N z) dep y := ⟨fun s hs => by rw [eq s hs]; exact hy.1 s hs, hy.2.elim Or.inl fun ⟨s, hs, e⟩ => Or.inr ⟨s, hs, by rw [eq s hs]; exact e⟩⟩
  have hp := s_N_pos hz
  apply Int32.le_antisymm
  · rcases hx.2 with e | ⟨s, hs, e⟩
    · rw [e]; exact Int32.le_trans (lo 0 (by omega)) (hx'.1 0 (by omega))
    · rw [← e]; exact hx'.1 s hs
  · rcases hx'.2 with e | ⟨s, hs, e⟩
    · rw [e]; exact Int32.le_trans (lo 0 (by omega)) (hx.1 0 (by omega))
    · rw [← e]; exact hx.1 s hs
theorem c_A_u (hz : s_Z z) {p x y : Int32} (h : c_A z th hw tk ln p x) (k : c_A z th hw tk ln p y) : x = y := by
  obtain ⟨a0, a1, a2, a3, a4, a5, a6⟩ := h
  obtain ⟨b0, b1, b2, b3, b4, b5, b6⟩ := k
  by_cases e0 : p = 0
  · rw [a0 e0, b0 e0]
  by_cases e1 : p = 1
  · rw [a1 e1, b1 e1]
  by_cases e2 : p = 2
  · rw [a2 e2, b2 e2]
  by_cases e3 : p = 3
  · obtain ⟨d, h1, h2⟩ := a3 e3
    obtain ⟨d', h1', h2'⟩ := b3 e3
    exact m_X_u hz h1 h1' h2 h2'
  by_cases e4 : p = 4
  · rw [a4 e4, b4 e4]
  by_cases e5 : p = 5
  · rw [a5 e5, b5 e5]
  · rw [a6 ⟨e0, e1, e2, e3, e4, e5⟩, b6 ⟨e0, e1, e2, e3, e4, e5⟩]
theorem st_A_u (hz : s_Z z) {p0 p1 x y : Int32} (h : st_A z th hw tk ln p0 p1 x) (k : st_A z th hw tk ln p0 p1 y) : x = y := by
  have hN := s_N_le hz
  rcases h with ⟨s, w, hs, es, hw6, ew, a0, a1, a2, a3⟩ | ⟨hn, e⟩
  · rcases k with ⟨s', w', hs', es', hw6', ew', b0, b1, b2, b3⟩ | ⟨hn', e'⟩
    · have e1 : s' = s := (nI_eq (by omega) (by omega)).mp (es'.symm.trans es)
      have e2 : w' = w := (nI_eq (by omega) (by omega)).mp (ew'.symm.trans ew)
      subst e1; subst e2
      rcases Nat.lt_or_ge w' 3 with c | c
      · have : w' = 0 ∨ w' = 1 ∨ w' = 2 := by omega
        rcases this with q | q | q
        · obtain ⟨d, h1, h2⟩ := a0 q
          obtain ⟨d', h1', h2'⟩ := b0 q
          rw [h2, h2']; exact d_OK_u h1 h1' hs
        · exact mb_u (a1 q) (b1 q)
        · exact mb_u (a2 q) (b2 q)
      · rw [a3 c, b3 c]
    · exfalso
      rcases hn' with q | q
      · exact q (by rw [es]; exact vp_in_nI hs (by omega))
      · exact q (by rw [ew]; exact vp_in_nI hw6 (by omega))
  · rcases k with ⟨s', w', hs', es', hw6', ew', b0, b1, b2, b3⟩ | ⟨hn', e'⟩
    · exfalso
      rcases hn with q | q
      · exact q (by rw [es']; exact vp_in_nI hs' (by omega))
      · exact q (by rw [ew']; exact vp_in_nI hw6' (by omega))
    · rw [e, e']
theorem le_A_u {p0 p1 p2 x y : Int32} (h : le_A z th hw tk ln p0 p1 p2 x) (k : le_A z th hw tk ln p0 p1 p2 y) : x = y := by
  rcases h with ⟨e, q⟩ | ⟨e, q⟩ <;> rcases k with ⟨e', q'⟩ | ⟨e', q'⟩
  · rw [e, e']
  · exact absurd q q'
  · exact absurd q' q
  · rw [e, e']
end Qb
section Xq
variable {f_made f_states f_initial f_reached f_deepest f_options0 f_options1 f_opened f_depthOf f_numbered f_waiting f_traced f_failures : Int32} {f_fairLow f_fairHigh f_partLow f_partHigh f_withLow f_withHigh f_backLow f_backHigh : Int64} {a_sizes a_list a_length a_there a_how a_fairness a_stack a_val a_guards a_enabled a_depth a_number a_low a_onStack a_open a_path a_ahead a_shown a_failed : Nat → Int32} {a_goes a_steps a_todo : Nat → Int64}
variable {z : Nat → Nat} {tk : Nat → Nat → Nat} {ln : Nat → Nat}
theorem x_count_l {post : Int32 → SX → Prop} {p : Int32} (hz : s_Z z) (e0 : ¬ p = 0) (e1 : ¬ p = 1) (e2 : ¬ p = 2) (e3 : ¬ p = 3) (hD : x_D z a_there a_how tk ln (nI (s_N z)) f_initial f_reached f_deepest a_goes a_steps a_guards a_enabled a_depth)
    (H : ∀ r, c_A z a_there a_how tk ln p r → post r (f_made, nI (s_N z), f_initial, f_reached, f_deepest, f_options0, f_options1, f_opened, f_depthOf, f_numbered, f_waiting, f_fairLow, f_fairHigh, f_partLow, f_partHigh, f_withLow, f_withHigh, f_traced, f_failures, f_backLow, f_backHigh, a_sizes, a_list, a_length, a_there, a_how, a_fairness, a_stack, a_val, a_goes, a_steps, a_guards, a_enabled, a_depth, a_number, a_low, a_onStack, a_open, a_path, a_ahead, a_todo, a_shown, a_failed)) : ∀ n s, s ≤ s_N z → s_N z - s < n →
      wX_count_50 post p f_made (nI (s_N z)) f_initial f_reached f_deepest f_options0 f_options1 f_opened f_depthOf f_numbered f_waiting f_fairLow f_fairHigh f_partLow f_partHigh f_withLow f_withHigh f_traced f_failures f_backLow f_backHigh a_sizes a_list a_length a_there a_how a_fairness a_stack a_val a_goes a_steps a_guards a_enabled a_depth a_number a_low a_onStack a_open a_path a_ahead a_todo a_shown a_failed n (nI (cn (q_stk z a_there a_how tk ln) s)) (nI (sm (q_prs z a_there a_how tk ln) s)) (nI s) := by
  have hN := s_N_le hz
  obtain ⟨_, hF, hd, _, _, _⟩ := hD
  intro n
  induction n with
  | zero => intro s _ h; omega
  | succ n ih =>
    intro s hs hn
    refine pk_le (s_N z) s (fun h => ?_) (fun h => ?_)
    · have es : s = s_N z := by omega
      rw [es]
      refine br_c (fun e4 => H _ ?_) (fun e4 => br_c (fun e5 => H _ ?_) (fun e5 => H _ ?_))
      · exact ⟨fun q => absurd q e0, fun q => absurd q e1, fun q => absurd q e2, fun q => absurd q e3, fun _ => rfl, fun q => absurd (e4.symm.trans q) (by decide), fun q => absurd e4 q.2.2.2.2.1⟩
      · exact ⟨fun q => absurd q e0, fun q => absurd q e1, fun q => absurd q e2, fun q => absurd q e3, fun q => absurd q e4, fun _ => rfl, fun q => absurd e5 q.2.2.2.2.2⟩
      · exact ⟨fun q => absurd q e0, fun q => absurd q e1, fun q => absurd q e2, fun q => absurd q e3, fun q => absurd q e4, fun q => absurd q e5, fun _ => rfl⟩
    · have v1 : vp_in (nI s) 125 := vp_in_nI (by omega) (by omega)
      refine ⟨v1, ?_⟩
      rw [nI_clamp (by omega)]
      refine if1 (d_OK_pos hN hd h) (fun hr => ⟨v1, ?_⟩) (fun hr => nm_r (nI_1 s) ?_)
      · obtain ⟨f1, f2, f3, f4⟩ := hF s h
        have prs : q_prs z a_there a_how tk ln s = cn (fun j => bl (a_steps (2 * s)) j = true) 64 + cn (fun j => bl (a_steps (2 * s + 1)) j = true) 64 := by
          rw [iS_cn]
          have hlt : ∀ k, iS (a_steps (2 * s)) (a_steps (2 * s + 1)) k → k < s_N z := fun k hk => (s_st_lt ((f2 k).mp hk)).2
          rw [cn_ext (n := s_N z) (by omega) hlt]
          exact cn_eq fun k hk => ⟨fun q => (f2 k).mpr q.2, fun q => ⟨hr, (f2 k).mp q⟩⟩
        have go : ∀ st, nI st = nI (cn (q_stk z a_there a_how tk ln) (s + 1)) → wX_count_85 post (wX_count_50 post p f_made (nI (s_N z)) f_initial f_reached f_deepest f_options0 f_options1 f_opened f_depthOf f_numbered f_waiting f_fairLow f_fairHigh f_partLow f_partHigh f_withLow f_withHigh f_traced f_failures f_backLow f_backHigh a_sizes a_list a_length a_there a_how a_fairness a_stack a_val a_goes a_steps a_guards a_enabled a_depth a_number a_low a_onStack a_open a_path a_ahead a_todo a_shown a_failed n) p (nI st) (nI (sm (q_prs z a_there a_how tk ln) s)) (nI s) f_made (nI (s_N z)) f_initial f_reached f_deepest f_options0 f_options1 f_opened f_depthOf f_numbered f_waiting f_fairLow f_fairHigh f_partLow f_partHigh f_withLow f_withHigh f_traced f_failures f_backLow f_backHigh a_sizes a_list a_length a_there a_how a_fairness a_stack a_val a_goes a_steps a_guards a_enabled a_depth a_number a_low a_onStack a_open a_path a_ahead a_todo a_shown a_failed := by
          intro st est
          unfold wX_count_85
          have i2 : (2 : Int32) * nI s = nI (2 * s) := pk_mul 2 s
          have v2 : vp_in (2 * nI s) 250 := by rw [i2]; exact vp_in_nI (by omega) (by omega)
          have v21 : vp_in (2 * nI s + 1) 250 := by rw [i2, nI_1]; exact vp_in_nI (by omega) (by omega)
          refine ⟨v2, x_bits ⟨v21, x_bits (nm_r (e' := nI (sm (q_prs z a_there a_how tk ln) (s + 1))) ?_ (nm_r (nI_1 s) ?_))⟩⟩
          · rw [i2, nI_1, nI_clamp (by omega), nI_clamp (by omega), nI_add, nI_add, ← prs]; rfl
          · rw [est]; exact ih (s + 1) (by omega) (by omega)
        refine if1 (mb_z f4) (fun hz0 => nm_r (nI_1 _) (go _ ?_)) (fun hz0 => go _ ?_)
        · show _ = nI (cn _ s + b01 _)
          rw [b01_t ⟨hr, hz0⟩]
        · show _ = nI (cn _ s + b01 _)
          rw [b01_f fun q => hz0 q.2, Nat.add_zero]
      · have x1 : cn (q_stk z a_there a_how tk ln) (s + 1) = cn (q_stk z a_there a_how tk ln) s := by
          show cn _ s + b01 _ = _
          rw [b01_f fun q => hr q.1, Nat.add_zero]
        have x2 : sm (q_prs z a_there a_how tk ln) (s + 1) = sm (q_prs z a_there a_how tk ln) s := by
          show sm _ s + q_prs z a_there a_how tk ln s = _
          have : q_prs z a_there a_how tk ln s = 0 := cn_0 fun k _ q => hr q.1
          rw [this, Nat.add_zero]
        have := ih (s + 1) (by omega) (by omega)
        rw [x1, x2] at this
        exact this
theorem x_count {post : Int32 → SX → Prop} {p : Int32} (hW : r_W z a_there a_fairness a_how tk ln) (hsz : ∀ v, v < 3 → a_sizes v = nI (z v)) (hL : r_L tk ln a_list a_length)
    (hm : f_made = 0 ∨ (f_made = 1 ∧ x_D z a_there a_how tk ln f_states f_initial f_reached f_deepest a_goes a_steps a_guards a_enabled a_depth))
    (H : ∀ r, c_A z a_there a_how tk ln p r → ∀ (a_val a_stack : Nat → Int32) (goes steps : Nat → Int64) (guards enabled depth path : Nat → Int32) (o0 o1 i0 r0 d0 : Int32), x_D z a_there a_how tk ln (nI (s_N z)) i0 r0 d0 goes steps guards enabled depth →
      post r (1, nI (s_N z), i0, r0, d0, o0, o1, f_opened, f_depthOf, f_numbered, f_waiting, f_fairLow, f_fairHigh, f_partLow, f_partHigh, f_withLow, f_withHigh, f_traced, f_failures, f_backLow, f_backHigh, a_sizes, a_list, a_length, a_there, a_how, a_fairness, a_stack, a_val, goes, steps, guards, enabled, depth, a_number, a_low, a_onStack, a_open, path, a_ahead, a_todo, a_shown, a_failed)) :
    wpX_count post (f_made, f_states, f_initial, f_reached, f_deepest, f_options0, f_options1, f_opened, f_depthOf, f_numbered, f_waiting, f_fairLow, f_fairHigh, f_partLow, f_partHigh, f_withLow, f_withHigh, f_traced, f_failures, f_backLow, f_backHigh, a_sizes, a_list, a_length, a_there, a_how, a_fairness, a_stack, a_val, a_goes, a_steps, a_guards, a_enabled, a_depth, a_number, a_low, a_onStack, a_open, a_path, a_ahead, a_todo, a_shown, a_failed) p := by
  unfold wpX_count
  dsimp only
  refine x_make hW hsz hL hm (fun vl st goes steps guards enabled depth path o0 o1 i0 r0 d0 hD => ?_)
  have K := fun r hr => H r hr vl st goes steps guards enabled depth path o0 o1 i0 r0 d0 hD
  refine br_c (fun e => K _ ?_) (fun e0 => br_c (fun e => K _ ?_) (fun e1 => br_c (fun e => K _ ?_) (fun e2 => br_c (fun e => K _ ?_) (fun e3 => ⟨s_N z + 1, x_count_l hW.1 e0 e1 e2 e3 hD K _ 0 (Nat.zero_le _) (by omega)⟩))))
  · subst e
    exact ⟨fun _ => rfl, fun q => absurd q (by decide), fun q => absurd q (by decide), fun q => absurd q (by decide), fun q => absurd q (by decide), fun q => absurd q (by decide), fun q => absurd rfl q.1⟩
  · subst e
    exact ⟨fun q => absurd q (by decide), fun _ => hD.2.2.2.1, fun q => absurd q (by decide), fun q => absurd q (by decide), fun q => absurd q (by decide), fun q => absurd q (by decide), fun q => absurd rfl q.2.1⟩
  · subst e
    exact ⟨fun q => absurd q (by decide), fun q => absurd q (by decide), fun _ => hD.2.2.2.2.1, fun q => absurd q (by decide), fun q => absurd q (by decide), fun q => absurd q (by decide), fun q => absurd rfl q.2.2.1⟩
  · subst e
    exact ⟨fun q => absurd q (by decide), fun q => absurd q (by decide), fun q => absurd q (by decide), fun _ => ⟨depth, hD.2.2.1, hD.2.2.2.2.2⟩, fun q => absurd q (by decide), fun q => absurd q (by decide), fun q => absurd rfl q.2.2.2.1⟩
theorem x_state {post : Int32 → SX → Prop} {p0 p1 : Int32} (hW : r_W z a_there a_fairness a_how tk ln) (hsz : ∀ v, v < 3 → a_sizes v = nI (z v)) (hL : r_L tk ln a_list a_length)
    (hm : f_made = 0 ∨ (f_made = 1 ∧ x_D z a_there a_how tk ln f_states f_initial f_reached f_deepest a_goes a_steps a_guards a_enabled a_depth))
    (H : ∀ r, st_A z a_there a_how tk ln p0 p1 r → ∀ (a_val a_stack : Nat → Int32) (goes steps : Nat → Int64) (guards enabled depth path : Nat → Int32) (o0 o1 i0 r0 d0 : Int32), x_D z a_there a_how tk ln (nI (s_N z)) i0 r0 d0 goes steps guards enabled depth →
      post r (1, nI (s_N z), i0, r0, d0, o0, o1, f_opened, f_depthOf, f_numbered, f_waiting, f_fairLow, f_fairHigh, f_partLow, f_partHigh, f_withLow, f_withHigh, f_traced, f_failures, f_backLow, f_backHigh, a_sizes, a_list, a_length, a_there, a_how, a_fairness, a_stack, a_val, goes, steps, guards, enabled, depth, a_number, a_low, a_onStack, a_open, path, a_ahead, a_todo, a_shown, a_failed)) :
    wpX_state post (f_made, f_states, f_initial, f_reached, f_deepest, f_options0, f_options1, f_opened, f_depthOf, f_numbered, f_waiting, f_fairLow, f_fairHigh, f_partLow, f_partHigh, f_withLow, f_withHigh, f_traced, f_failures, f_backLow, f_backHigh, a_sizes, a_list, a_length, a_there, a_how, a_fairness, a_stack, a_val, a_goes, a_steps, a_guards, a_enabled, a_depth, a_number, a_low, a_onStack, a_open, a_path, a_ahead, a_todo, a_shown, a_failed) p0 p1 := by
  have hN := s_N_le hW.1
  unfold wpX_state
  dsimp only
  refine x_make hW hsz hL hm (fun vl st goes steps guards enabled depth path o0 o1 i0 r0 d0 hD => ?_)
  refine x_in (by omega) (fun hn => br_t rfl (H _ (Or.inr ⟨Or.inl hn, rfl⟩) vl st goes steps guards enabled depth path o0 o1 i0 r0 d0 hD)) (fun s hs e => ?_)
  subst e
  refine br_f (by decide) (x_values hW.1 hsz hs (fun vl2 hvl => ?_))
  have K := fun r hr => H r hr vl2 st goes steps guards enabled depth path o0 o1 i0 r0 d0 hD
  have v1 : vp_in (nI s) 125 := vp_in_nI (by omega) (by omega)
  have cs : (nI s).toNatClampNeg = s := nI_clamp (by omega)
  refine br_c (fun e => K _ (Or.inr ⟨Or.inr fun q => q (Or.inl e), rfl⟩)) (fun e => ?_)
  obtain ⟨w, hw, ew⟩ := nI_of e
  subst ew
  obtain ⟨f1, f2, f3, f4⟩ := hD.2.1 s hs
  refine pk_lt 5 w (fun h5 => K _ (Or.inr ⟨Or.inr fun q => ?_, rfl⟩)) (fun h5 => ?_)
  · obtain ⟨j, hj, ej⟩ := vp_in_of q (by omega)
    rw [nI_eq hw (by omega)] at ej; omega
  have A : ∀ r, (w = 0 → ∃ dep, q_dOK z a_there a_how tk ln dep ∧ r = dep s) → (w = 1 → mb r (fun a => s_en z a_there a_how tk ln a s)) → (w = 2 → mb r (fun a => s_g z a_there tk ln a s)) → (3 ≤ w → r = nI (sv z s (w - 3))) → st_A z a_there a_how tk ln (nI s) (nI w) r :=
    fun r a b c d => Or.inl ⟨s, w, hs, rfl, by omega, rfl, a, b, c, d⟩
  refine pk_eq w 0 (fun e => ⟨v1, ?_⟩) (fun e0 => pk_eq w 1 (fun e => ⟨v1, ?_⟩) (fun e1 => pk_eq w 2 (fun e => ⟨v1, ?_⟩) (fun e2 => ?_)))
  · rw [cs]; exact K _ (A _ (fun _ => ⟨depth, hD.2.2.1, rfl⟩) (fun q => by omega) (fun q => by omega) (fun q => by omega))
  · rw [cs]; exact K _ (A _ (fun q => by omega) (fun _ => f4) (fun q => by omega) (fun q => by omega))
  · rw [cs]; exact K _ (A _ (fun q => by omega) (fun q => by omega) (fun _ => f3) (fun q => by omega))
  · have e3 : nI w - 3 = nI (w - 3) := pk_sub (b := 3) (by omega)
    have v3 : vp_in (nI w - 3) 3 := by rw [e3]; exact vp_in_nI (by omega) (by omega)
    have fin : post (vl2 (nI w - 3).toNatClampNeg) (1, nI (s_N z), i0, r0, d0, o0, o1, f_opened, f_depthOf, f_numbered, f_waiting, f_fairLow, f_fairHigh, f_partLow, f_partHigh, f_withLow, f_withHigh, f_traced, f_failures, f_backLow, f_backHigh, a_sizes, a_list, a_length, a_there, a_how, a_fairness, st, vl2, goes, steps, guards, enabled, depth, a_number, a_low, a_onStack, a_open, path, a_ahead, a_todo, a_shown, a_failed) := by
      rw [e3, nI_clamp (by omega), hvl _ (by omega)]
      exact K _ (A _ (fun q => by omega) (fun q => by omega) (fun q => by omega) (fun _ => rfl))
    exact br_c (fun _ => ⟨v3, fin⟩) (fun _ => br_c (fun _ => ⟨v3, fin⟩) (fun _ => br_c (fun _ => ⟨v3, fin⟩) (fun _ => trivial)))
theorem x_leads {post : Int32 → SX → Prop} {p0 p1 p2 : Int32} (hW : r_W z a_there a_fairness a_how tk ln) (hsz : ∀ v, v < 3 → a_sizes v = nI (z v)) (hL : r_L tk ln a_list a_length)
    (hm : f_made = 0 ∨ (f_made = 1 ∧ x_D z a_there a_how tk ln f_states f_initial f_reached f_deepest a_goes a_steps a_guards a_enabled a_depth))
    (H : ∀ r, le_A z a_there a_how tk ln p0 p1 p2 r → ∀ (a_val a_stack : Nat → Int32) (goes steps : Nat → Int64) (guards enabled depth path : Nat → Int32) (o0 o1 i0 r0 d0 : Int32), x_D z a_there a_how tk ln (nI (s_N z)) i0 r0 d0 goes steps guards enabled depth →
      post r (1, nI (s_N z), i0, r0, d0, o0, o1, f_opened, f_depthOf, f_numbered, f_waiting, f_fairLow, f_fairHigh, f_partLow, f_partHigh, f_withLow, f_withHigh, f_traced, f_failures, f_backLow, f_backHigh, a_sizes, a_list, a_length, a_there, a_how, a_fairness, a_stack, a_val, goes, steps, guards, enabled, depth, a_number, a_low, a_onStack, a_open, path, a_ahead, a_todo, a_shown, a_failed)) :
    wpX_leads post (f_made, f_states, f_initial, f_reached, f_deepest, f_options0, f_options1, f_opened, f_depthOf, f_numbered, f_waiting, f_fairLow, f_fairHigh, f_partLow, f_partHigh, f_withLow, f_withHigh, f_traced, f_failures, f_backLow, f_backHigh, a_sizes, a_list, a_length, a_there, a_how, a_fairness, a_stack, a_val, a_goes, a_steps, a_guards, a_enabled, a_depth, a_number, a_low, a_onStack, a_open, a_path, a_ahead, a_todo, a_shown, a_failed) p0 p1 p2 := by
  have hN := s_N_le hW.1
  unfold wpX_leads
  dsimp only
  refine x_make hW hsz hL hm (fun vl st goes steps guards enabled depth path o0 o1 i0 r0 d0 hD => ?_)
  have K := fun r hr => H r hr vl st goes steps guards enabled depth path o0 o1 i0 r0 d0 hD
  refine x_in (n := 4) (by omega) (fun hn => br_t rfl (K _ (Or.inr ⟨rfl, ?_⟩))) (fun a ha e => br_f (by decide) ?_)
  · rintro ⟨a, s, t, ha, e, _⟩; exact hn (by rw [e]; exact vp_in_nI ha (by omega))
  subst e
  refine ⟨vp_in_nI ha (by omega), ?_⟩
  rw [nI_clamp (by omega)]
  refine br_c (fun e => K _ (Or.inr ⟨rfl, ?_⟩)) (fun eth => ?_)
  · rintro ⟨a', s, t, ha', e', _, _, h⟩
    have : a' = a := (nI_eq (by omega) (by omega)).mp e'.symm
    rw [this] at h
    exact h.2.2.1.1 e
  refine x_in (by omega) (fun hn => br_t rfl (K _ (Or.inr ⟨rfl, ?_⟩))) (fun s hs e => br_f (by decide) ?_)
  · rintro ⟨a, s, t, ha, _, e, _, h⟩; exact hn (by rw [e]; exact vp_in_nI h.1 (by omega))
  subst e
  refine x_in (by omega) (fun hn => br_t rfl (K _ (Or.inr ⟨rfl, ?_⟩))) (fun t ht e => br_f (by decide) ?_)
  · rintro ⟨a, s, t, ha, _, _, e, h⟩; exact hn (by rw [e]; exact vp_in_nI h.2.1 (by omega))
  subst e
  have i8 : (8 * nI s) + (2 * nI a) = nI (8 * s + 2 * a) := by
    rw [show (8 : Int32) * nI s = nI (8 * s) from pk_mul 8 s, show (2 : Int32) * nI a = nI (2 * a) from pk_mul 2 a, nI_add]
  have v8 : vp_in ((8 * nI s) + (2 * nI a)) 1000 := by rw [i8]; exact vp_in_nI (by omega) (by omega)
  have v81 : vp_in ((8 * nI s) + (2 * nI a) + 1) 1000 := by rw [i8, nI_1]; exact vp_in_nI (by omega) (by omega)
  have hg := (hD.2.1 s hs).1 a ha t
  refine ⟨v8, v81, x_has (by omega) (fun hh => br_f (by decide) (K _ (Or.inl ⟨rfl, ?_⟩))) (fun hh => br_t rfl (K _ (Or.inr ⟨rfl, ?_⟩)))⟩
  · rw [i8, nI_1, nI_clamp (by omega), nI_clamp (by omega)] at hh
    exact ⟨a, s, t, ha, rfl, rfl, rfl, hg.mp hh⟩
  · rw [i8, nI_1, nI_clamp (by omega), nI_clamp (by omega)] at hh
    rintro ⟨a', s', t', ha', e1, e2, e3, h⟩
    have x1 : a' = a := (nI_eq (by omega) (by omega)).mp e1.symm
    have h1 := h.1
    have h2 := h.2.1
    have x2 : s' = s := (nI_eq (by omega) (by omega)).mp e2.symm
    have x3 : t' = t := (nI_eq (by omega) (by omega)).mp e3.symm
    rw [x1, x2, x3] at h
    exact hh (hg.mpr h)
end Xq
end
section
/-! least depths and traces, pure -/
/-- over the states below i: no bad one is reached (-1), or x is the least depth of one -/
def v_L (I : Nat → Prop) (St : Nat → Nat → Prop) (Bd : Nat → Prop) (i : Nat) (x : Int32) : Prop :=
  (x = -1 ∧ ∀ s, s < i → Bd s → ¬ g_Rd I St s) ∨ ∃ d, d < 125 ∧ x = nI d ∧ (∃ s, s < i ∧ Bd s ∧ g_D I St d s) ∧ ∀ s, s < i → Bd s → ∀ j, g_D I St j s → d ≤ j
/-- m levels back from the bad states of depth d -/
def v_m (I : Nat → Prop) (St : Nat → Nat → Prop) (Bd : Nat → Prop) (d : Nat) : Nat → Nat → Prop
  | 0 => fun s => g_D I St d s ∧ Bd s
  | m + 1 => fun s => g_D I St (d - (m + 1)) s ∧ ∃ t, v_m I St Bd d m t ∧ St s t
/-- the least way -/
def v_T (I : Nat → Prop) (St : Nat → Nat → Prop) (Bd : Nat → Prop) (d k : Nat) (f : Nat → Nat) : Prop :=
  ∀ j, j < k → v_m I St Bd d (d - j) (f j) ∧ (0 < j → St (f (j - 1)) (f j)) ∧ ∀ s, s < f j → v_m I St Bd d (d - j) s → ¬ (0 < j → St (f (j - 1)) s)
section Vt
variable {I : Nat → Prop} {St : Nat → Nat → Prop} {Bd : Nat → Prop} {N d : Nat}
theorem v_L_0 : v_L I St Bd 0 (-1) := Or.inl ⟨rfl, fun s h => absurd h (Nat.not_lt_zero _)⟩
theorem v_L_s {i : Nat} {x : Int32} (h : v_L I St Bd i x) (hn : ¬ Bd i ∨ ¬ g_Rd I St i ∨ ∃ d j, x = nI d ∧ d < 2 ^ 31 ∧ g_D I St j i ∧ d ≤ j) : v_L I St Bd (i + 1) x := by
  rcases h with ⟨e, h⟩ | ⟨d, hd, e, ⟨s, hs, bs, ds⟩, h⟩
  · refine Or.inl ⟨e, fun s hs b => ?_⟩
    by_cases c : s = i
    · subst c
      rcases hn with q | q | ⟨d, j, e2, h31, _⟩
      · exact absurd b q
      · exact q
      · rw [e] at e2; exact absurd e2.symm (d_m1 h31)
    · exact h s (by omega) b
  · refine Or.inr ⟨d, hd, e, ⟨s, by omega, bs, ds⟩, fun s' hs' b j dj => ?_⟩
    by_cases c : s' = i
    · subst c
      rcases hn with q | q | ⟨d', j', e2, h31, dj', hle⟩
      · exact absurd b q
      · exact absurd (g_D_Rd dj) q
      · rw [e, nI_eq (by omega) h31] at e2
        have := g_D_u dj dj'
        omega
    · exact h s' (by omega) b j dj
theorem v_L_n {i j : Nat} {x : Int32} (h : v_L I St Bd i x) (b : Bd i) (dj : g_D I St j i) (hj : j < 125) (hn : x = -1 ∨ ∃ d, x = nI d ∧ d < 2 ^ 31 ∧ j < d) : v_L I St Bd (i + 1) (nI j) := by
  refine Or.inr ⟨j, hj, rfl, ⟨i, by omega, b, dj⟩, fun s hs bs k dk => ?_⟩
  by_cases c : s = i
  · subst c
    have := g_D_u dk dj; omega
  · rcases h with ⟨e, h⟩ | ⟨d, hd, e, _, h⟩
    · exact absurd (g_D_Rd dk) (h s (by omega) bs)
    · rcases hn with q | ⟨d', e2, h31, hlt⟩
      · rw [e] at q; exact absurd q (d_m1 (by omega))
      · rw [e, nI_eq (by omega) h31] at e2
        have := h s (by omega) bs k dk
        omega
theorem v_L_u {i : Nat} {x y : Int32} (h : v_L I St Bd i x) (k : v_L I St Bd i y) : x = y := by
  rcases h with ⟨e, h⟩ | ⟨d, _, e, ⟨s, hs, bs, ds⟩, h⟩ <;> rcases k with ⟨e', h'⟩ | ⟨d', _, e', ⟨s', hs', bs', ds'⟩, h'⟩
  · rw [e, e']
  · exact absurd (g_D_Rd ds') (h s' hs' bs')
  · exact absurd (g_D_Rd ds) (h' s hs bs)
  · have a := h s' hs' bs' d' ds'
    have b := h' s hs bs d ds
    rw [e, e', Nat.le_antisymm a b]
theorem v_m_D {m s : Nat} (h : v_m I St Bd d m s) : g_D I St (d - m) s := by
  cases m with
  | zero => exact h.1
  | succ m => exact h.1
theorem v_m_ex (hb : ∃ s, g_D I St d s ∧ Bd s) : ∀ m, m ≤ d → ∃ s, v_m I St Bd d m s := by
  intro m
  induction m with
  | zero => intro _; exact hb
  | succ m ih =>
    intro hm
    obtain ⟨s, hs⟩ := ih (by omega)
    have hd := v_m_D hs
    rw [show d - m = (d - (m + 1)) + 1 by omega] at hd
    obtain ⟨t, dt, hst⟩ := g_D_pre hd
    exact ⟨t, dt, s, hs, hst⟩
/-- the next state of the way -/
theorem v_T_nx (hb : ∃ s, g_D I St d s ∧ Bd s) {k : Nat} {f : Nat → Nat} (hk : k ≤ d) (h : v_T I St Bd d k f) : ∃ s, v_m I St Bd d (d - k) s ∧ (0 < k → St (f (k - 1)) s) := by
  rcases Nat.eq_zero_or_pos k with c | c
  · subst c
    obtain ⟨s, hs⟩ := v_m_ex hb d (Nat.le_refl _)
    exact ⟨s, hs, fun q => absurd q (Nat.lt_irrefl _)⟩
  · have := (h (k - 1) (by omega)).1
    rw [show d - (k - 1) = (d - k) + 1 by omega] at this
    obtain ⟨_, t, ht, hst⟩ := this
    exact ⟨t, ht, fun _ => hst⟩
theorem v_T_s {k : Nat} {f f' : Nat → Nat} {s : Nat} (h : v_T I St Bd d k f) (hf : ∀ j, j < k → f' j = f j) (hs : f' k = s) (h1 : v_m I St Bd d (d - k) s) (h2 : 0 < k → St (f (k - 1)) s) (h3 : ∀ t, t < s → v_m I St Bd d (d - k) t → ¬ (0 < k → St (f (k - 1)) t)) : v_T I St Bd d (k + 1) f' := by
  intro j hj
  rcases Nat.lt_or_ge j k with c | c
  · rw [hf j c]
    obtain ⟨a, b, e⟩ := h j c
    refine ⟨a, fun q => ?_, fun t ht hv => ?_⟩
    · rw [hf _ (by omega)]; exact b q
    · intro z
      refine e t ht hv fun q => ?_
      have := z q
      rw [hf _ (by omega)] at this; exact this
  · have : j = k := by omega
    subst this
    rw [hs]
    refine ⟨h1, fun q => ?_, fun t ht hv => ?_⟩
    · rw [hf _ (by omega)]; exact h2 q
    · intro z
      refine h3 t ht hv fun q => ?_
      have := z q
      rw [hf _ (by omega)] at this; exact this
theorem v_T_u {k : Nat} {f g : Nat → Nat} (h : v_T I St Bd d k f) (h' : v_T I St Bd d k g) : ∀ j, j < k → f j = g j := by
  intro j
  induction j with
  | zero =>
    intro hj
    obtain ⟨a, _, c⟩ := h 0 hj
    obtain ⟨a', _, c'⟩ := h' 0 hj
    rcases Nat.lt_trichotomy (f 0) (g 0) with q | q | q
    · exact absurd (fun z => absurd z (Nat.lt_irrefl _)) (c' (f 0) q a)
    · exact q
    · exact absurd (fun z => absurd z (Nat.lt_irrefl _)) (c (g 0) q a')
  | succ j ih =>
    intro hj
    have e := ih (by omega)
    obtain ⟨a, b, c⟩ := h (j + 1) hj
    obtain ⟨a', b', c'⟩ := h' (j + 1) hj
    rw [Nat.add_sub_cancel] at b c b' c'
    rcases Nat.lt_trichotomy (f (j + 1)) (g (j + 1)) with q | q | q
    · exact absurd (fun z => by rw [← e]; exact b z) (c' _ q a)
    · exact q
    · exact absurd (fun z => by rw [e]; exact b' z) (c _ q a')
/-- the marks down to level k -/
def v_B (I : Nat → Prop) (St : Nat → Nat → Prop) (Bd : Nat → Prop) (d k s : Nat) : Prop := ∃ m, m + k ≤ d ∧ v_m I St Bd d m s
theorem v_B_at {k j s : Nat} (hj : k ≤ j) (hjd : j ≤ d) : (g_D I St j s ∧ v_B I St Bd d k s) ↔ v_m I St Bd d (d - j) s := by
  constructor
  · rintro ⟨dj, m, hm, hv⟩
    have := g_D_u dj (v_m_D hv)
    rw [show d - j = m by omega]; exact hv
  · intro hv
    have := v_m_D hv
    rw [show d - (d - j) = j by omega] at this
    exact ⟨this, d - j, by omega, hv⟩
/-- one level more -/
theorem v_B_s {k s : Nat} (hk : k < d) : v_B I St Bd d k s ↔ v_B I St Bd d (k + 1) s ∨ (g_D I St k s ∧ ∃ t, g_D I St (k + 1) t ∧ v_B I St Bd d (k + 1) t ∧ St s t) := by
  have e : d - k = (d - (k + 1)) + 1 := by omega
  constructor
  · rintro ⟨m, hm, hv⟩
    rcases Nat.lt_or_ge (m + k) d with c | c
    · exact Or.inl ⟨m, by omega, hv⟩
    · have em : m = (d - (k + 1)) + 1 := by omega
      subst em
      obtain ⟨a, t, ht, hst⟩ := hv
      rw [show d - (d - (k + 1) + 1) = k by omega] at a
      obtain ⟨x, y⟩ := (v_B_at (k := k + 1) (j := k + 1) (Nat.le_refl _) (by omega)).mpr ht
      exact Or.inr ⟨a, t, x, y, hst⟩
  · rintro (⟨m, hm, hv⟩ | ⟨a, t, dt, hv, hst⟩)
    · exact ⟨m, by omega, hv⟩
    · refine ⟨(d - (k + 1)) + 1, by omega, ?_, t, (v_B_at (k := k + 1) (j := k + 1) (Nat.le_refl _) (by omega)).mp ⟨dt, hv⟩, hst⟩
      rw [show d - (d - (k + 1) + 1) = k by omega]; exact a
theorem v_B_d {s : Nat} : v_B I St Bd d d s ↔ (g_D I St d s ∧ Bd s) := by
  constructor
  · rintro ⟨m, hm, hv⟩
    have : m = 0 := by omega
    subst this; exact hv
  · intro h; exact ⟨0, by omega, h⟩
end Vt
end
section
/-! X: invariant, backtrack -/
section Xv
variable {f_made f_states f_initial f_reached f_deepest f_options0 f_options1 f_opened f_depthOf f_numbered f_waiting f_traced f_failures : Int32} {f_fairLow f_fairHigh f_partLow f_partHigh f_withLow f_withHigh f_backLow f_backHigh : Int64} {a_sizes a_list a_length a_there a_how a_fairness a_stack a_val a_guards a_enabled a_depth a_number a_low a_onStack a_open a_path a_ahead a_shown a_failed : Nat → Int32} {a_goes a_steps a_todo : Nat → Int64}
variable {z : Nat → Nat} {tk : Nat → Nat → Nat} {ln : Nat → Nat} {I : Nat → Prop} {St : Nat → Nat → Prop} {Bd : Nat → Prop} {N d : Nat}
theorem x_mark {post : SX → Prop} {s : Nat} (hs : s < 128) (H : ∀ lo hi : Int64, (∀ t, iS lo hi t ↔ iS f_backLow f_backHigh t ∨ t = s) → post (f_made, f_states, f_initial, f_reached, f_deepest, f_options0, f_options1, f_opened, f_depthOf, f_numbered, f_waiting, f_fairLow, f_fairHigh, f_partLow, f_partHigh, f_withLow, f_withHigh, f_traced, f_failures, lo, hi, a_sizes, a_list, a_length, a_there, a_how, a_fairness, a_stack, a_val, a_goes, a_steps, a_guards, a_enabled, a_depth, a_number, a_low, a_onStack, a_open, a_path, a_ahead, a_todo, a_shown, a_failed)) : wpX_mark post (f_made, f_states, f_initial, f_reached, f_deepest, f_options0, f_options1, f_opened, f_depthOf, f_numbered, f_waiting, f_fairLow, f_fairHigh, f_partLow, f_partHigh, f_withLow, f_withHigh, f_traced, f_failures, f_backLow, f_backHigh, a_sizes, a_list, a_length, a_there, a_how, a_fairness, a_stack, a_val, a_goes, a_steps, a_guards, a_enabled, a_depth, a_number, a_low, a_onStack, a_open, a_path, a_ahead, a_todo, a_shown, a_failed) (nI s) :=
  pk_le 64 s (fun h => nm_e (H _ _ fun t => iS_ph h hs)) (fun h => nm_e (H _ _ fun t => iS_pl h))
theorem x_leadsOn {post : Int32 → Prop} {s : Nat} {x2 : Int32} {lo hi : Int64} (hN : N ≤ 125) (hs : s < N) (h1 : (∃ t, t < N ∧ a_depth t = x2 ∧ iS lo hi t ∧ aS a_steps (2 * s) t) → post 1) (h0 : ¬ (∃ t, t < N ∧ a_depth t = x2 ∧ iS lo hi t ∧ aS a_steps (2 * s) t) → post 0) :
    wpX_leadsOn post (f_made, nI N, f_initial, f_reached, f_deepest, f_options0, f_options1, f_opened, f_depthOf, f_numbered, f_waiting, f_fairLow, f_fairHigh, f_partLow, f_partHigh, f_withLow, f_withHigh, f_traced, f_failures, f_backLow, f_backHigh, a_sizes, a_list, a_length, a_there, a_how, a_fairness, a_stack, a_val, a_goes, a_steps, a_guards, a_enabled, a_depth, a_number, a_low, a_onStack, a_open, a_path, a_ahead, a_todo, a_shown, a_failed) (nI s) x2 lo hi := by
  have key : ∀ n t, t ≤ N → N - t < n → (∀ t', t' < t → ¬ (a_depth t' = x2 ∧ iS lo hi t' ∧ aS a_steps (2 * s) t')) → wX_leadsOn_3 post (nI s) x2 lo hi f_made (nI N) f_initial f_reached f_deepest f_options0 f_options1 f_opened f_depthOf f_numbered f_waiting f_fairLow f_fairHigh f_partLow f_partHigh f_withLow f_withHigh f_traced f_failures f_backLow f_backHigh a_sizes a_list a_length a_there a_how a_fairness a_stack a_val a_goes a_steps a_guards a_enabled a_depth a_number a_low a_onStack a_open a_path a_ahead a_todo a_shown a_failed n (nI t) := by
    intro n
    induction n with
    | zero => intro t _ h; omega
    | succ n ih =>
      intro t ht hn hp
      refine pk_le N t (fun h => h0 ?_) (fun h => ?_)
      · rintro ⟨t', a, b⟩; exact hp t' (by omega) b
      · have nx : ¬ (a_depth t = x2 ∧ iS lo hi t ∧ aS a_steps (2 * s) t) → wX_leadsOn_3 post (nI s) x2 lo hi f_made (nI N) f_initial f_reached f_deepest f_options0 f_options1 f_opened f_depthOf f_numbered f_waiting f_fairLow f_fairHigh f_partLow f_partHigh f_withLow f_withHigh f_traced f_failures f_backLow f_backHigh a_sizes a_list a_length a_there a_how a_fairness a_stack a_val a_goes a_steps a_guards a_enabled a_depth a_number a_low a_onStack a_open a_path a_ahead a_todo a_shown a_failed n (nI (t + 1)) := by
          intro hne
          refine ih (t + 1) (by omega) (by omega) fun t' ht' => ?_
          rcases Nat.lt_or_ge t' t with c | c
          · exact hp t' c
          · have : t' = t := by omega
            rw [this]; exact hne
        have i2 : (2 : Int32) * nI s = nI (2 * s) := pk_mul 2 s
        have v2 : vp_in (2 * nI s) 250 := by rw [i2]; exact vp_in_nI (by omega) (by omega)
        have v21 : vp_in (2 * nI s + 1) 250 := by rw [i2, nI_1]; exact vp_in_nI (by omega) (by omega)
        have es : aS a_steps (2 * s) t = iS (a_steps (2 * nI s).toNatClampNeg) (a_steps (2 * nI s + 1).toNatClampNeg) t := by
          rw [i2, nI_1, nI_clamp (by omega), nI_clamp (by omega)]; rfl
        refine ⟨vp_in_nI (by omega) (by omega), br_c (fun e => ⟨v2, v21, x_has (by omega) (fun hh => br_f (by decide) ?_) (fun hh => br_t rfl (nm_r (nI_1 t) (nx ?_)))⟩) (fun e => nm_r (nI_1 t) (nx ?_))⟩
        · rw [nI_clamp (by omega)] at e
          have := iS_and.mp hh
          rw [← es] at this
          exact h1 ⟨t, h, e, this⟩
        · rintro ⟨_, q⟩
          rw [es] at q
          exact hh (iS_and.mpr q)
        · rintro ⟨q, _⟩
          rw [nI_clamp (by omega)] at e
          exact e q
  exact ⟨N + 1, key _ 0 (Nat.zero_le _) (by omega) (fun t h => absurd h (Nat.not_lt_zero _))⟩
/-- forward -/
theorem x_bt_142 {post : SX → Prop} {k : Nat} {x2 : Int32} {f : Nat → Nat} {J134 : Int32 → Int32 → (Nat → Int32) → (Nat → Int32) → (Nat → Int32) → (Nat → Int32) → (Nat → Int32) → (Nat → Int32) → (Nat → Int32) → (Nat → Int32) → (Nat → Int64) → (Nat → Int64) → (Nat → Int32) → (Nat → Int32) → (Nat → Int32) → (Nat → Int32) → (Nat → Int32) → (Nat → Int32) → (Nat → Int32) → (Nat → Int32) → (Nat → Int32) → (Nat → Int64) → (Nat → Int32) → (Nat → Int32) → Prop}
    (hN : N ≤ 125) (hS : ∀ s t, St s t → s < N) (hI : ∀ s, g_Rd I St s → s < N) (hd : d_OK I St N a_depth) (hst : ∀ s, s < N → ∀ t, aS a_steps (2 * s) t ↔ St s t) (hk : k ≤ d) (hdN : d < N) (hb : ∀ s, iS f_backLow f_backHigh s ↔ v_B I St Bd d 0 s)
    (h2 : (k = 0 ∧ x2 = -1) ∨ (0 < k ∧ x2 = nI (f (k - 1)) ∧ f (k - 1) < N)) {s0 : Nat} (hs0 : v_m I St Bd d (d - k) s0 ∧ (0 < k → St (f (k - 1)) s0))
    (HJ : ∀ s, s < N → v_m I St Bd d (d - k) s → (0 < k → St (f (k - 1)) s) → (∀ t, t < s → v_m I St Bd d (d - k) t → ¬ (0 < k → St (f (k - 1)) t)) → J134 (nI s) (nI (k + 1)) a_sizes a_list a_length a_there a_how a_fairness a_stack a_val a_goes a_steps a_guards a_enabled a_depth a_number a_low a_onStack a_open a_path a_ahead a_todo (upd a_shown k (nI s)) a_failed) :
    ∀ n s, s ≤ s0 → s0 - s < n → (∀ t, t < s → v_m I St Bd d (d - k) t → ¬ (0 < k → St (f (k - 1)) t)) → wX_backtrack_142 post J134 (nI d) x2 (nI k) f_made f_states f_initial f_reached f_deepest f_options0 f_options1 f_opened f_depthOf f_numbered f_waiting f_fairLow f_fairHigh f_partLow f_partHigh f_withLow f_withHigh f_traced f_failures f_backLow f_backHigh a_sizes a_list a_length a_there a_how a_fairness a_stack a_val a_goes a_steps a_guards a_enabled a_depth a_number a_low a_onStack a_open a_path a_ahead a_todo a_shown a_failed n (nI s) := by
  have hs0N : s0 < N := hI s0 (g_D_Rd (v_m_D hs0.1))
  intro n
  induction n with
  | zero => intro s _ h; omega
  | succ n ih =>
    intro s hs hn hp
    have nx : ¬ (v_m I St Bd d (d - k) s ∧ (0 < k → St (f (k - 1)) s)) → wX_backtrack_142 post J134 (nI d) x2 (nI k) f_made f_states f_initial f_reached f_deepest f_options0 f_options1 f_opened f_depthOf f_numbered f_waiting f_fairLow f_fairHigh f_partLow f_partHigh f_withLow f_withHigh f_traced f_failures f_backLow f_backHigh a_sizes a_list a_length a_there a_how a_fairness a_stack a_val a_goes a_steps a_guards a_enabled a_depth a_number a_low a_onStack a_open a_path a_ahead a_todo a_shown a_failed n (nI (s + 1)) := by
      intro hne
      have hlt : s < s0 := by
        rcases Nat.lt_or_ge s s0 with c | c
        · exact c
        · have : s = s0 := by omega
          rw [this] at hne; exact absurd hs0 hne
      refine ih (s + 1) hlt (by omega) fun t ht hv => ?_
      rcases Nat.lt_or_ge t s with c | c
      · exact hp t c hv
      · have : t = s := by omega
        rw [this] at hv ⊢; exact fun q => hne ⟨hv, q⟩
    have hsN : s < N := by omega
    have fin : v_m I St Bd d (d - k) s → (0 < k → St (f (k - 1)) s) → wX_backtrack_207 post J134 (nI d) (nI k) (nI s) f_made f_states f_initial f_reached f_deepest f_options0 f_options1 f_opened f_depthOf f_numbered f_waiting f_fairLow f_fairHigh f_partLow f_partHigh f_withLow f_withHigh f_traced f_failures f_backLow f_backHigh a_sizes a_list a_length a_there a_how a_fairness a_stack a_val a_goes a_steps a_guards a_enabled a_depth a_number a_low a_onStack a_open a_path a_ahead a_todo a_shown a_failed := by
      intro hv hst
      unfold wX_backtrack_207
      exact ⟨vp_in_nI (by omega) (by omega), nm_r (e' := upd a_shown k (nI s)) (by rw [nI_clamp (by omega), n16v (by omega)]) (nm_r (nI_1 k) (HJ s hsN hv hst hp))⟩
    refine ⟨vp_in_nI (by omega) (by omega), if1 (d := g_D I St k s) (by rw [nI_clamp (by omega)]; exact d_OK_eq hN hd hsN (by omega)) (fun dk => ?_) (fun dk => nm_r (nI_1 s) (nx fun q => dk ?_))⟩
    · refine x_has (by omega) (fun hh => br_f (by decide) ?_) (fun hh => br_t rfl (nm_r (nI_1 s) (nx fun q => hh ((hb s).mpr ⟨d - k, by omega, q.1⟩))))
      have hv := (v_B_at (Nat.zero_le k) hk).mp ⟨dk, (hb s).mp hh⟩
      rcases h2 with ⟨k0, rfl⟩ | ⟨k0, rfl, hl⟩
      · exact br_t (by decide) (fin hv fun q => by omega)
      · have i2 : (2 : Int32) * nI (f (k - 1)) = nI (2 * f (k - 1)) := pk_mul 2 _
        have v2 : vp_in (2 * nI (f (k - 1))) 250 := by rw [i2]; exact vp_in_nI (by omega) (by omega)
        have v21 : vp_in (2 * nI (f (k - 1)) + 1) 250 := by rw [i2, nI_1]; exact vp_in_nI (by omega) (by omega)
        have es : aS a_steps (2 * f (k - 1)) s = iS (a_steps (2 * nI (f (k - 1))).toNatClampNeg) (a_steps (2 * nI (f (k - 1)) + 1).toNatClampNeg) s := by
          rw [i2, nI_1, nI_clamp (by omega), nI_clamp (by omega)]; rfl
        refine br_f (nI_pos (by omega)) ⟨v2, v21, x_has (by omega) (fun h3 => br_f (by decide) (fin hv fun _ => ?_)) (fun h3 => br_t rfl (nm_r (nI_1 s) (nx fun q => h3 ?_)))⟩
        · rw [← es] at h3; exact (hst _ hl s).mp h3
        · rw [← es]; exact (hst _ hl s).mpr (q.2 k0)
    · have := v_m_D q.1
      rw [show d - (d - k) = k by omega] at this
      exact this
theorem x_bt_134 {post : SX → Prop}
    (hN : N ≤ 125) (hS : ∀ s t, St s t → s < N) (hI : ∀ s, g_Rd I St s → s < N) (hd : d_OK I St N a_depth) (hst : ∀ s, s < N → ∀ t, aS a_steps (2 * s) t ↔ St s t) (hdN : d < N) (hb : ∀ s, iS f_backLow f_backHigh s ↔ v_B I St Bd d 0 s) (hex : ∃ s, g_D I St d s ∧ Bd s)
    (H : ∀ (f : Nat → Nat) (shown : Nat → Int32), v_T I St Bd d (d + 1) f → (∀ k, k ≤ d → shown k = nI (f k)) → post (f_made, f_states, f_initial, f_reached, f_deepest, f_options0, f_options1, f_opened, f_depthOf, f_numbered, f_waiting, f_fairLow, f_fairHigh, f_partLow, f_partHigh, f_withLow, f_withHigh, f_traced, f_failures, f_backLow, f_backHigh, a_sizes, a_list, a_length, a_there, a_how, a_fairness, a_stack, a_val, a_goes, a_steps, a_guards, a_enabled, a_depth, a_number, a_low, a_onStack, a_open, a_path, a_ahead, a_todo, shown, a_failed)) :
    ∀ n k, k ≤ d + 1 → d + 1 - k < n → ∀ (f : Nat → Nat) (shown : Nat → Int32) (x2 : Int32), v_T I St Bd d k f → (∀ j, j < k → shown j = nI (f j)) → ((k = 0 ∧ x2 = -1) ∨ (0 < k ∧ x2 = nI (f (k - 1)) ∧ f (k - 1) < N)) →
      wX_backtrack_134 post (nI d) f_made f_states f_initial f_reached f_deepest f_options0 f_options1 f_opened f_depthOf f_numbered f_waiting f_fairLow f_fairHigh f_partLow f_partHigh f_withLow f_withHigh f_traced f_failures f_backLow f_backHigh n x2 (nI k) a_sizes a_list a_length a_there a_how a_fairness a_stack a_val a_goes a_steps a_guards a_enabled a_depth a_number a_low a_onStack a_open a_path a_ahead a_todo shown a_failed := by
  intro n
  induction n with
  | zero => intro k _ h; omega
  | succ n ih =>
    intro k hk hn f shown x2 hT hsh h2
    refine pk_lt d k (fun h => ?_) (fun h => ?_)
    · have : k = d + 1 := by omega
      subst this
      exact H f shown hT fun j hj => hsh j (by omega)
    · obtain ⟨s0, hs0⟩ := v_T_nx hex h hT
      refine ⟨s0 + 1, x_bt_142 hN hS hI hd hst h hdN hb h2 hs0 (fun s hsN hv hs3 hlt => ?_) (s0 + 1) 0 (Nat.zero_le _) (by omega) (fun t ht => absurd ht (Nat.not_lt_zero _))⟩
      refine ih (k + 1) (by omega) (by omega) (fun j => if j = k then s else f j) _ _ (v_T_s hT (fun j hj => if_neg (by omega)) (if_pos rfl) hv hs3 hlt) (fun j hj => ?_) (Or.inr ⟨by omega, ?_, ?_⟩)
      · show upd shown k (nI s) j = nI (if j = k then s else f j)
        by_cases c : j = k
        · rw [if_pos c, c, pk_us]
        · rw [if_neg c, pk_un c]; exact hsh j (by omega)
      · show nI s = nI (if k + 1 - 1 = k then s else f (k + 1 - 1))
        rw [if_pos (by omega)]
      · show (if k + 1 - 1 = k then s else f (k + 1 - 1)) < N
        rw [if_pos (by omega)]; exact hsN
/-- one level back -/
theorem x_bt_77 {post : SX → Prop} {k : Nat} {lo0 hi0 : Int64} {J59 : Int32 → Int32 → Int32 → Int32 → Int32 → Int32 → Int32 → Int32 → Int32 → Int32 → Int32 → Int32 → Int64 → Int64 → Int64 → Int64 → Int64 → Int64 → Int32 → Int32 → Int64 → Int64 → (Nat → Int32) → (Nat → Int32) → (Nat → Int32) → (Nat → Int32) → (Nat → Int32) → (Nat → Int32) → (Nat → Int32) → (Nat → Int32) → (Nat → Int64) → (Nat → Int64) → (Nat → Int32) → (Nat → Int32) → (Nat → Int32) → (Nat → Int32) → (Nat → Int32) → (Nat → Int32) → (Nat → Int32) → (Nat → Int32) → (Nat → Int32) → (Nat → Int64) → (Nat → Int32) → (Nat → Int32) → Prop}
    (hN : N ≤ 125) (hI : ∀ s, g_Rd I St s → s < N) (hd : d_OK I St N a_depth) (hst : ∀ s, s < N → ∀ t, aS a_steps (2 * s) t ↔ St s t) (hk : k < d) (hdN : d < N) (hb0 : ∀ s, iS lo0 hi0 s ↔ v_B I St Bd d (k + 1) s)
    (HJ : ∀ lo hi : Int64, (∀ s, iS lo hi s ↔ v_B I St Bd d k s) → J59 (nI k + (-1)) f_made (nI N) f_initial f_reached f_deepest f_options0 f_options1 f_opened f_depthOf f_numbered f_waiting f_fairLow f_fairHigh f_partLow f_partHigh f_withLow f_withHigh f_traced f_failures lo hi a_sizes a_list a_length a_there a_how a_fairness a_stack a_val a_goes a_steps a_guards a_enabled a_depth a_number a_low a_onStack a_open a_path a_ahead a_todo a_shown a_failed) :
    ∀ n s, s ≤ N → N - s < n → ∀ lo hi : Int64, (∀ t, iS lo hi t ↔ v_B I St Bd d (k + 1) t ∨ (t < s ∧ v_B I St Bd d k t)) → wX_backtrack_77 post J59 (nI d) (nI k) lo0 hi0 n (nI s) f_made (nI N) f_initial f_reached f_deepest f_options0 f_options1 f_opened f_depthOf f_numbered f_waiting f_fairLow f_fairHigh f_partLow f_partHigh f_withLow f_withHigh f_traced f_failures lo hi a_sizes a_list a_length a_there a_how a_fairness a_stack a_val a_goes a_steps a_guards a_enabled a_depth a_number a_low a_onStack a_open a_path a_ahead a_todo a_shown a_failed := by
  have up : ∀ t, v_B I St Bd d (k + 1) t → v_B I St Bd d k t := fun t h => (v_B_s hk).mpr (Or.inl h)
  have rd : ∀ t, v_B I St Bd d k t → t < N := fun t ⟨m, _, hv⟩ => hI t (g_D_Rd (v_m_D hv))
  intro n
  induction n with
  | zero => intro s _ h; omega
  | succ n ih =>
    intro s hs hn lo hi hb
    refine pk_le N s (fun h => nm_e (HJ lo hi fun t => ?_)) (fun h => ?_)
    · rw [hb t]
      exact ⟨fun q => q.elim (up t) (fun q => q.2), fun q => Or.inr ⟨by have := rd t q; omega, q⟩⟩
    · have nx : (v_B I St Bd d k s → v_B I St Bd d (k + 1) s) → wX_backtrack_77 post J59 (nI d) (nI k) lo0 hi0 n (nI (s + 1)) f_made (nI N) f_initial f_reached f_deepest f_options0 f_options1 f_opened f_depthOf f_numbered f_waiting f_fairLow f_fairHigh f_partLow f_partHigh f_withLow f_withHigh f_traced f_failures lo hi a_sizes a_list a_length a_there a_how a_fairness a_stack a_val a_goes a_steps a_guards a_enabled a_depth a_number a_low a_onStack a_open a_path a_ahead a_todo a_shown a_failed := by
        intro hne
        refine ih (s + 1) (by omega) (by omega) lo hi fun t => ?_
        rw [hb t]
        constructor
        · rintro (q | ⟨q, r⟩)
          · exact Or.inl q
          · exact Or.inr ⟨by omega, r⟩
        · rintro (q | ⟨q, r⟩)
          · exact Or.inl q
          · by_cases c : t = s
            · rw [c] at r ⊢; exact Or.inl (hne r)
            · exact Or.inr ⟨by omega, r⟩
      refine ⟨vp_in_nI (by omega) (by omega), if1 (d := g_D I St k s) (by rw [nI_clamp (by omega)]; exact d_OK_eq hN hd h (by omega)) (fun dk => ?_) (fun dk => nm_r (nI_1 s) (nx fun q => ?_))⟩
      · rw [show nI k + 1 = nI (k + 1) from nI_1 k]
        refine x_leadsOn hN h (fun hh => br_f (by decide) (x_mark (by omega) fun lo' hi' hb' => nm_r (nI_1 s) (ih (s + 1) (by omega) (by omega) lo' hi' fun t => ?_))) (fun hh => br_t rfl (nm_r (nI_1 s) (nx fun q => ?_)))
        · obtain ⟨t', ht', e', h1, h2⟩ := hh
          have hvs : v_B I St Bd d k s := (v_B_s hk).mpr (Or.inr ⟨dk, t', (d_OK_eq hN hd ht' (by omega)).mp e', (hb0 t').mp h1, (hst s h t').mp h2⟩)
          rw [hb' t, hb t]
          constructor
          · rintro ((q | ⟨q, r⟩) | q)
            · exact Or.inl q
            · exact Or.inr ⟨by omega, r⟩
            · rw [q]; exact Or.inr ⟨by omega, hvs⟩
          · rintro (q | ⟨q, r⟩)
            · exact Or.inl (Or.inl q)
            · by_cases c : t = s
              · exact Or.inr c
              · exact Or.inl (Or.inr ⟨by omega, r⟩)
        · rcases (v_B_s hk).mp q with q | ⟨_, t, dt, hv, hs2⟩
          · exact q
          · have htN := hI t (g_D_Rd dt)
            exact absurd ⟨t, htN, (d_OK_eq hN hd htN (by omega)).mpr dt, (hb0 t).mpr hv, (hst s h t).mpr hs2⟩ hh
      · rcases (v_B_s hk).mp q with q | ⟨q, _⟩
        · exact q
        · exact absurd q dk
theorem x_bt_59 {post : SX → Prop}
    (hN : N ≤ 125) (hS : ∀ s t, St s t → s < N) (hI : ∀ s, g_Rd I St s → s < N) (hd : d_OK I St N a_depth) (hst : ∀ s, s < N → ∀ t, aS a_steps (2 * s) t ↔ St s t) (hdN : d < N) (hex : ∃ s, g_D I St d s ∧ Bd s)
    (H : ∀ (f : Nat → Nat) (shown : Nat → Int32) (lo hi : Int64), v_T I St Bd d (d + 1) f → (∀ k, k ≤ d → shown k = nI (f k)) → post (f_made, nI N, f_initial, f_reached, f_deepest, f_options0, f_options1, f_opened, f_depthOf, f_numbered, f_waiting, f_fairLow, f_fairHigh, f_partLow, f_partHigh, f_withLow, f_withHigh, f_traced, f_failures, lo, hi, a_sizes, a_list, a_length, a_there, a_how, a_fairness, a_stack, a_val, a_goes, a_steps, a_guards, a_enabled, a_depth, a_number, a_low, a_onStack, a_open, a_path, a_ahead, a_todo, shown, a_failed)) :
    ∀ n k, k ≤ d → k < n → ∀ lo hi : Int64, (∀ s, iS lo hi s ↔ v_B I St Bd d k s) → wX_backtrack_59 post (nI d) n (nI k + (-1)) f_made (nI N) f_initial f_reached f_deepest f_options0 f_options1 f_opened f_depthOf f_numbered f_waiting f_fairLow f_fairHigh f_partLow f_partHigh f_withLow f_withHigh f_traced f_failures lo hi a_sizes a_list a_length a_there a_how a_fairness a_stack a_val a_goes a_steps a_guards a_enabled a_depth a_number a_low a_onStack a_open a_path a_ahead a_todo a_shown a_failed := by
  intro n
  induction n with
  | zero => intro k _ h; omega
  | succ n ih =>
    intro k hk hn lo hi hb
    rcases Nat.eq_zero_or_pos k with c | c
    · subst c
      have e : nI 0 + (-1) = -1 := by decide
      rw [e]
      refine br_t (by decide) ⟨d + 2, x_bt_134 hN hS hI hd hst hdN hb hex (fun f shown h1 h2 => H f shown lo hi h1 h2) (d + 2) 0 (Nat.zero_le _) (by omega) (fun _ => 0) a_shown (-1) (fun j hj => absurd hj (Nat.not_lt_zero _)) (fun j hj => absurd hj (Nat.not_lt_zero _)) (Or.inl ⟨rfl, rfl⟩)⟩
    · obtain ⟨j, rfl⟩ : ∃ j, k = j + 1 := ⟨k - 1, by omega⟩
      rw [pk_m1 j]
      refine br_f (nI_pos (by omega)) ⟨N + 1, x_bt_77 hN hI hd hst (by omega) hdN hb (fun lo' hi' hb' => ih j (by omega) (by omega) lo' hi' hb') (N + 1) 0 (Nat.zero_le _) (by omega) lo hi fun t => ?_⟩
      rw [hb t]
      exact ⟨Or.inl, fun q => q.elim id fun q => absurd q.1 (Nat.not_lt_zero _)⟩
theorem x_bt_12 {post : SX → Prop} (hz : s_Z z) (hsz : ∀ v, v < 3 → a_sizes v = nI (z v)) (hL : r_L tk ln a_list a_length) (hT : r_Tk tk ln) (hw : e_wh (tk 18) (ln 18))
    (hS : ∀ s t, St s t → s < s_N z) (hI : ∀ s, g_Rd I St s → s < s_N z) (hd : d_OK I St (s_N z) a_depth) (hst : ∀ s, s < s_N z → ∀ t, aS a_steps (2 * s) t ↔ St s t) (hdN : d < s_N z) (hex : ∃ s, g_D I St d s ∧ s_E z tk ln 18 s = 0)
    (H : ∀ (f : Nat → Nat) (a_val a_stack shown : Nat → Int32) (lo hi : Int64), v_T I St (fun s => s_E z tk ln 18 s = 0) d (d + 1) f → (∀ k, k ≤ d → shown k = nI (f k)) → post (f_made, nI (s_N z), f_initial, f_reached, f_deepest, f_options0, f_options1, f_opened, f_depthOf, f_numbered, f_waiting, f_fairLow, f_fairHigh, f_partLow, f_partHigh, f_withLow, f_withHigh, f_traced, f_failures, lo, hi, a_sizes, a_list, a_length, a_there, a_how, a_fairness, a_stack, a_val, a_goes, a_steps, a_guards, a_enabled, a_depth, a_number, a_low, a_onStack, a_open, a_path, a_ahead, a_todo, shown, a_failed)) :
    ∀ n s, s ≤ s_N z → s_N z - s < n → ∀ (a_val a_stack : Nat → Int32) (lo hi : Int64), (∀ t, iS lo hi t ↔ t < s ∧ g_D I St d t ∧ s_E z tk ln 18 t = 0) → wX_backtrack_12 post (nI d) n (nI s) f_made (nI (s_N z)) f_initial f_reached f_deepest f_options0 f_options1 f_opened f_depthOf f_numbered f_waiting f_fairLow f_fairHigh f_partLow f_partHigh f_withLow f_withHigh f_traced f_failures lo hi a_sizes a_list a_length a_there a_how a_fairness a_stack a_val a_goes a_steps a_guards a_enabled a_depth a_number a_low a_onStack a_open a_path a_ahead a_todo a_shown a_failed := by
  have hN := s_N_le hz
  intro n
  induction n with
  | zero => intro s _ h; omega
  | succ n ih =>
    intro s hs hn a_val a_stack lo hi hb
    refine pk_le (s_N z) s (fun h => nm_r (e' := nI d + (-1)) (Int32.sub_eq_add_neg _ _) ⟨d + 1, x_bt_59 hN hS hI hd hst hdN hex (fun f shown lo hi h1 h2 => H f a_val a_stack shown lo hi h1 h2) (d + 1) d (Nat.le_refl _) (by omega) lo hi fun t => ?_⟩) (fun h => ?_)
    · rw [hb t, v_B_d]
      exact ⟨fun q => q.2, fun q => ⟨by have := hI t (g_D_Rd q.1); omega, q⟩⟩
    · refine x_values hz hsz h (fun vl hvl => ⟨vp_in_nI (by omega) (by omega), if1 (d := g_D I St d s) (by rw [nI_clamp (by omega)]; exact d_OK_eq hN hd h (by omega)) (fun dk => ?_) (fun dk => nm_r (nI_1 s) (ih (s + 1) (by omega) (by omega) vl a_stack lo hi fun t => ?_))⟩)
      · refine x_worth (l := 18) (s := s) (by omega) hL hT hvl (Or.inr hw) (fun st => br_c (fun e => x_mark (by omega) fun lo' hi' hb' => nm_r (nI_1 s) (ih (s + 1) (by omega) (by omega) vl st lo' hi' fun t => ?_)) (fun e => nm_r (nI_1 s) (ih (s + 1) (by omega) (by omega) vl st lo hi fun t => ?_)))
        · rw [hb' t, hb t]
          constructor
          · rintro (⟨q, r⟩ | q)
            · exact ⟨by omega, r⟩
            · rw [q]; exact ⟨by omega, dk, e⟩
          · rintro ⟨q, r⟩
            by_cases c : t = s
            · exact Or.inr c
            · exact Or.inl ⟨by omega, r⟩
        · rw [hb t]
          constructor
          · rintro ⟨q, r⟩; exact ⟨by omega, r⟩
          · rintro ⟨q, r⟩
            by_cases c : t = s
            · rw [c] at r; exact absurd r.2 e
            · exact ⟨by omega, r⟩
      · rw [hb t]
        constructor
        · rintro ⟨q, r⟩; exact ⟨by omega, r⟩
        · rintro ⟨q, r⟩
          by_cases c : t = s
          · rw [c] at r; exact absurd r.1 dk
          · exact ⟨by omega, r⟩
theorem x_inv_20 {post : Int32 → SX → Prop} (hz : s_Z z) (hsz : ∀ v, v < 3 → a_sizes v = nI (z v)) (hL : r_L tk ln a_list a_length) (hT : r_Tk tk ln) (hw : e_wh (tk 18) (ln 18))
    (hS : ∀ s t, St s t → s < s_N z) (hI : ∀ s, g_Rd I St s → s < s_N z) (hd : d_OK I St (s_N z) a_depth) (hst : ∀ s, s < s_N z → ∀ t, aS a_steps (2 * s) t ↔ St s t)
    (H1 : ∀ (d : Nat) (f : Nat → Nat) (a_val a_stack shown : Nat → Int32) (lo hi : Int64), d < s_N z → v_L I St (fun s => s_E z tk ln 18 s = 0) (s_N z) (nI d) → v_T I St (fun s => s_E z tk ln 18 s = 0) d (d + 1) f → (∀ k, k ≤ d → shown k = nI (f k)) → post (nI d) (f_made, nI (s_N z), f_initial, f_reached, f_deepest, f_options0, f_options1, f_opened, f_depthOf, f_numbered, f_waiting, f_fairLow, f_fairHigh, f_partLow, f_partHigh, f_withLow, f_withHigh, nI d, f_failures, lo, hi, a_sizes, a_list, a_length, a_there, a_how, a_fairness, a_stack, a_val, a_goes, a_steps, a_guards, a_enabled, a_depth, a_number, a_low, a_onStack, a_open, a_path, a_ahead, a_todo, shown, a_failed))
    (H0 : ∀ (a_val a_stack : Nat → Int32), v_L I St (fun s => s_E z tk ln 18 s = 0) (s_N z) (-1) → post (-1) (f_made, nI (s_N z), f_initial, f_reached, f_deepest, f_options0, f_options1, f_opened, f_depthOf, f_numbered, f_waiting, f_fairLow, f_fairHigh, f_partLow, f_partHigh, f_withLow, f_withHigh, f_traced, f_failures, f_backLow, f_backHigh, a_sizes, a_list, a_length, a_there, a_how, a_fairness, a_stack, a_val, a_goes, a_steps, a_guards, a_enabled, a_depth, a_number, a_low, a_onStack, a_open, a_path, a_ahead, a_todo, a_shown, a_failed)) :
    ∀ n s, s ≤ s_N z → s_N z - s < n → ∀ (x1 : Int32) (a_val a_stack : Nat → Int32), v_L I St (fun s => s_E z tk ln 18 s = 0) s x1 → wX_invariant_20 post n x1 (nI s) f_made (nI (s_N z)) f_initial f_reached f_deepest f_options0 f_options1 f_opened f_depthOf f_numbered f_waiting f_fairLow f_fairHigh f_partLow f_partHigh f_withLow f_withHigh f_traced f_failures f_backLow f_backHigh a_sizes a_list a_length a_there a_how a_fairness a_stack a_val a_goes a_steps a_guards a_enabled a_depth a_number a_low a_onStack a_open a_path a_ahead a_todo a_shown a_failed := by
  have hN := s_N_le hz
  intro n
  induction n with
  | zero => intro s _ h; omega
  | succ n ih =>
    intro s hs hn x1 a_val a_stack hv
    refine pk_le (s_N z) s (fun h => ?_) (fun h => ?_)
    · have es : s = s_N z := by omega
      subst es
      rcases hv with ⟨e, hv⟩ | ⟨d, hd5, e, ⟨s, hs5, bs, ds⟩, hv⟩
      · rw [e]
        exact br_f (by decide) (H0 a_val a_stack (Or.inl ⟨rfl, hv⟩))
      · rw [e]
        have hdN : d < s_N z := by
          rcases hd s hs5 with ⟨k, hk, _, dk⟩ | ⟨_, dk⟩
          · have := g_D_u dk ds; omega
          · exact absurd (g_D_Rd ds) dk
        refine br_t (nI_pos' (by omega)) ⟨s_N z + 1, x_bt_12 hz hsz hL hT hw hS hI hd hst hdN ⟨s, ds, bs⟩ ?_ (s_N z + 1) 0 (Nat.zero_le _) (by omega) a_val a_stack 0 0 fun t => ⟨fun q => absurd q (iS_0 t), fun q => absurd q.1 (Nat.not_lt_zero _)⟩⟩
        intro f vl st shown lo hi h1 h2
        exact H1 d f vl st shown lo hi hdN (Or.inr ⟨d, hd5, rfl, ⟨s, hs5, bs, ds⟩, hv⟩) h1 h2
    · have cs : (nI s).toNatClampNeg = s := nI_clamp (by omega)
      have v1 : vp_in (nI s) 125 := vp_in_nI (by omega) (by omega)
      refine ⟨v1, ?_⟩
      rw [cs]
      refine if2 (d := g_Rd I St s) (d_OK_neg hN hd h) (fun hr => nm_r (nI_1 s) (ih (s + 1) (by omega) (by omega) x1 a_val a_stack (v_L_s hv (Or.inr (Or.inl hr))))) (fun hr => ?_)
      obtain ⟨j, hj, ej, dj⟩ : ∃ k, k < s_N z ∧ a_depth s = nI k ∧ g_D I St k s := by
        rcases hd s h with q | ⟨_, q⟩
        · exact q
        · exact absurd hr q
      have look : (x1 = -1 ∨ ∃ d, x1 = nI d ∧ d < 2 ^ 31 ∧ j < d) → wX_invariant_54 post (wX_invariant_20 post n) x1 (nI s) f_made (nI (s_N z)) f_initial f_reached f_deepest f_options0 f_options1 f_opened f_depthOf f_numbered f_waiting f_fairLow f_fairHigh f_partLow f_partHigh f_withLow f_withHigh f_traced f_failures f_backLow f_backHigh a_sizes a_list a_length a_there a_how a_fairness a_stack a_val a_goes a_steps a_guards a_enabled a_depth a_number a_low a_onStack a_open a_path a_ahead a_todo a_shown a_failed := by
        intro hc
        unfold wX_invariant_54
        refine x_values hz hsz h (fun vl hvl => x_worth (l := 18) (s := s) (by omega) hL hT hvl (Or.inr hw) (fun st => br_c (fun e => ⟨v1, nm_r (e' := nI j) (by rw [cs, ej]) (nm_r (nI_1 s) (ih (s + 1) (by omega) (by omega) (nI j) vl st (v_L_n hv e dj (by omega) hc)))⟩) (fun e => nm_r (nI_1 s) (ih (s + 1) (by omega) (by omega) x1 vl st (v_L_s hv (Or.inl e))))))
      rcases hv with ⟨e, hv'⟩ | ⟨d, hd5, e, hv'⟩
      · exact br_t (by rw [e]; decide) (look (Or.inl e))
      · refine br_f (by rw [e]; exact nI_pos (by omega)) ⟨v1, ?_⟩
        rw [ej]
        refine pk_lt j d (fun hlt => look (Or.inr ⟨d, e, by omega, hlt⟩)) (fun hle => nm_r (nI_1 s) (ih (s + 1) (by omega) (by omega) x1 a_val a_stack (v_L_s (Or.inr ⟨d, hd5, e, hv'⟩) (Or.inr (Or.inr ⟨d, j, e, by omega, dj, hle⟩))))) rfl e
end Xv
end
section
/-! X: judge -/
theorem j_w {N : Nat} {St : Nat → Nat → Prop} {go : Nat → Nat → Nat → Prop} {en : Nat → Nat → Prop} {th fr : Nat → Int32} {W F T Dn : Nat → Prop} {td : Nat → Nat → Prop} {wt M : Nat} (h : j_I N St go en th fr W F T Dn td wt M) : wt ≤ M := by
  have a := sm_ge (f := fun i => cn (td i) N + 1) (n := wt) (fun i _ => by omega)
  have b := h.2.2.2.2
  omega
section Xj
variable {f_made f_states f_initial f_reached f_deepest f_options0 f_options1 f_opened f_depthOf f_numbered f_waiting f_traced f_failures : Int32} {f_fairLow f_fairHigh f_partLow f_partHigh f_withLow f_withHigh f_backLow f_backHigh : Int64} {a_sizes a_list a_length a_there a_how a_fairness a_stack a_val a_guards a_enabled a_depth a_number a_low a_onStack a_open a_path a_ahead a_shown a_failed : Nat → Int32} {a_goes a_steps a_todo : Nat → Int64}
variable {St : Nat → Nat → Prop} {go : Nat → Nat → Nat → Prop} {en : Nat → Nat → Prop} {W T Dn : Nat → Prop} {N w M : Nat}
theorem x_later {post : SX → Prop} {lo hi : Int64} (hw : w < 130) (ew : f_waiting = nI w) (H : ∀ todo : Nat → Int64, (∀ i s, i < w → (aS a_todo (2 * i) s ↔ aS todo (2 * i) s)) → (∀ s, aS todo (2 * w) s ↔ iS lo hi s) → post (f_made, f_states, f_initial, f_reached, f_deepest, f_options0, f_options1, f_opened, f_depthOf, f_numbered, nI (w + 1), f_fairLow, f_fairHigh, f_partLow, f_partHigh, f_withLow, f_withHigh, f_traced, f_failures, f_backLow, f_backHigh, a_sizes, a_list, a_length, a_there, a_how, a_fairness, a_stack, a_val, a_goes, a_steps, a_guards, a_enabled, a_depth, a_number, a_low, a_onStack, a_open, a_path, a_ahead, todo, a_shown, a_failed)) : wpX_later post (f_made, f_states, f_initial, f_reached, f_deepest, f_options0, f_options1, f_opened, f_depthOf, f_numbered, f_waiting, f_fairLow, f_fairHigh, f_partLow, f_partHigh, f_withLow, f_withHigh, f_traced, f_failures, f_backLow, f_backHigh, a_sizes, a_list, a_length, a_there, a_how, a_fairness, a_stack, a_val, a_goes, a_steps, a_guards, a_enabled, a_depth, a_number, a_low, a_onStack, a_open, a_path, a_ahead, a_todo, a_shown, a_failed) lo hi := by
  have i2 : (2 : Int32) * nI w = nI (2 * w) := pk_mul 2 w
  subst ew
  refine ⟨by rw [i2]; exact vp_in_nI (by omega) (by omega), nm_r (e' := vp_updL a_todo (2 * w) lo) (by rw [i2, nI_clamp (by omega)]) ⟨by rw [i2, nI_1]; exact vp_in_nI (by omega) (by omega), nm_r (e' := vp_updL (vp_updL a_todo (2 * w) lo) (2 * w + 1) hi) (by rw [i2, nI_1, nI_clamp (by omega)]) (nm_r (nI_1 w) (H _ (fun i s hi => ?_) (fun s => aS_2)))⟩⟩
  rw [aS_un (by omega) (by omega), aS_un (by omega) (by omega)]
theorem x_tkf_62 {post : Int32 → Prop} {s : Nat} {lo hi : Int64} {P : Nat → Prop} (hs : s < 125) (hg : ∀ b, b < 4 → ∀ t, aS a_goes (8 * s + 2 * b) t ↔ go b s t) (hP : ∀ t, iS lo hi t ↔ P t)
    (H : ∀ r, mb r (fun a => ∃ t, P t ∧ go a s t) → post r) : ∀ n a, a ≤ 4 → 4 - a < n → ∀ x2, mb x2 (fun b => b < a ∧ ∃ t, P t ∧ go b s t) → wX_takenFrom_62 post (nI s) lo hi f_made f_states f_initial f_reached f_deepest f_options0 f_options1 f_opened f_depthOf f_numbered f_waiting f_fairLow f_fairHigh f_partLow f_partHigh f_withLow f_withHigh f_traced f_failures f_backLow f_backHigh a_sizes a_list a_length a_there a_how a_fairness a_stack a_val a_goes a_steps a_guards a_enabled a_depth a_number a_low a_onStack a_open a_path a_ahead a_todo a_shown a_failed n x2 (nI a) := by
  intro n
  induction n with
  | zero => intro a _ h; omega
  | succ n ih =>
    intro a ha hn x2 hm
    refine pk_le 4 a (fun h => H x2 (mb_c hm fun i hi => ⟨fun q => q.2, fun q => ⟨by omega, q⟩⟩)) (fun h => ?_)
    have i8 : (8 * nI s) + (2 * nI a) = nI (8 * s + 2 * a) := by
      rw [show (8 : Int32) * nI s = nI (8 * s) from pk_mul 8 s, show (2 : Int32) * nI a = nI (2 * a) from pk_mul 2 a, nI_add]
    have v8 : vp_in ((8 * nI s) + (2 * nI a)) 1000 := by rw [i8]; exact vp_in_nI (by omega) (by omega)
    have v81 : vp_in ((8 * nI s) + (2 * nI a) + 1) 1000 := by rw [i8, nI_1]; exact vp_in_nI (by omega) (by omega)
    have c8 : ((8 * nI s) + (2 * nI a)).toNatClampNeg = 8 * s + 2 * a := by rw [i8, nI_clamp (by omega)]
    have c81 : ((8 * nI s) + (2 * nI a) + 1).toNatClampNeg = 8 * s + 2 * a + 1 := by rw [i8, nI_1, nI_clamp (by omega)]
    have ex : (∃ t, iS (a_goes (8 * s + 2 * a) &&& lo) (a_goes (8 * s + 2 * a + 1) &&& hi) t) ↔ ∃ t, P t ∧ go a s t :=
      ⟨fun ⟨t, q⟩ => ⟨t, (hP t).mp (iS_and.mp q).2, (hg a h t).mp (iS_and.mp q).1⟩, fun ⟨t, q, r⟩ => ⟨t, iS_and.mpr ⟨(hg a h t).mpr r, (hP t).mpr q⟩⟩⟩
    have yes : (∃ t, P t ∧ go a s t) → wX_takenFrom_114 post (wX_takenFrom_62 post (nI s) lo hi f_made f_states f_initial f_reached f_deepest f_options0 f_options1 f_opened f_depthOf f_numbered f_waiting f_fairLow f_fairHigh f_partLow f_partHigh f_withLow f_withHigh f_traced f_failures f_backLow f_backHigh a_sizes a_list a_length a_there a_how a_fairness a_stack a_val a_goes a_steps a_guards a_enabled a_depth a_number a_low a_onStack a_open a_path a_ahead a_todo a_shown a_failed n) (nI s) x2 lo hi (nI a) f_made f_states f_initial f_reached f_deepest f_options0 f_options1 f_opened f_depthOf f_numbered f_waiting f_fairLow f_fairHigh f_partLow f_partHigh f_withLow f_withHigh f_traced f_failures f_backLow f_backHigh a_sizes a_list a_length a_there a_how a_fairness a_stack a_val a_goes a_steps a_guards a_enabled a_depth a_number a_low a_onStack a_open a_path a_ahead a_todo a_shown a_failed := by
      intro q
      unfold wX_takenFrom_114
      refine nm_e (nm_r (nI_1 a) (ih (a + 1) (by omega) (by omega) _ (mb_c (mb_or h hm) fun i _ => ⟨?_, ?_⟩)))
      · rintro (⟨x, y⟩ | x)
        · exact ⟨by omega, y⟩
        · rw [x]; exact ⟨by omega, q⟩
      · rintro ⟨x, y⟩
        rcases Nat.lt_or_ge i a with c | c
        · exact Or.inl ⟨c, y⟩
        · exact Or.inr (by omega)
    refine ⟨v8, ?_⟩
    rw [c8, c81]
    refine br_c (fun e => ⟨v81, br_c (fun e2 => ?_) (fun e2 => yes (ex.mp (iS_ex.mp (Or.inr e2))))⟩) (fun e => yes (ex.mp (iS_ex.mp (Or.inl e))))
    refine nm_r (nI_1 a) (ih (a + 1) (by omega) (by omega) x2 (mb_c hm fun i _ => ⟨?_, ?_⟩))
    · rintro ⟨x, y⟩; exact ⟨by omega, y⟩
    · rintro ⟨x, y⟩
      rcases Nat.lt_or_ge i a with c | c
      · exact ⟨c, y⟩
      · have ei : i = a := by omega
        rw [ei] at y
        exact absurd (iS_ex.mpr (ex.mpr y)) (fun q => q.elim (fun q => q e) (fun q => q e2))
theorem x_tkf {post : Int32 → Prop} {s : Nat} (hs : s < 125) (hg : ∀ b, b < 4 → ∀ t, aS a_goes (8 * s + 2 * b) t ↔ go b s t)
    (H : ∀ r, mb r (fun a => ∃ t, (iS f_partLow f_partHigh t ∧ t ≠ s) ∧ go a s t) → post r) : wpX_takenFrom post (f_made, f_states, f_initial, f_reached, f_deepest, f_options0, f_options1, f_opened, f_depthOf, f_numbered, f_waiting, f_fairLow, f_fairHigh, f_partLow, f_partHigh, f_withLow, f_withHigh, f_traced, f_failures, f_backLow, f_backHigh, a_sizes, a_list, a_length, a_there, a_how, a_fairness, a_stack, a_val, a_goes, a_steps, a_guards, a_enabled, a_depth, a_number, a_low, a_onStack, a_open, a_path, a_ahead, a_todo, a_shown, a_failed) (nI s) := by
  unfold wpX_takenFrom
  refine nm_e (pk_le 64 s (fun h => ?_) (fun h => ?_))
  · unfold wX_takenFrom_32
    refine br_t (nI_le (a := 64) h (by omega)) (nm_e ⟨5, x_tkf_62 hs hg (fun t => iS_sh h (by omega)) H 5 0 (by omega) (by omega) 0 (mb_0 fun i _ q => absurd q.1 (Nat.not_lt_zero _))⟩)
  · unfold wX_takenFrom_32
    refine br_f (nI_ge (b := 64) h (by omega)) ⟨5, x_tkf_62 hs hg (fun t => iS_sl h) H 5 0 (by omega) (by omega) 0 (mb_0 fun i _ q => absurd q.1 (Nat.not_lt_zero _))⟩
theorem x_without {post : SX → Prop} {x1 : Int32} {K : Nat → Prop} (hN : N ≤ 125) (hen : ∀ s, s < N → mb (a_enabled s) (fun i => en i s)) (hK : mb x1 K) (hw : w < 130) (ew : f_waiting = nI w) (hPN : ∀ s, iS f_partLow f_partHigh s → s < N)
    (H0 : (∀ s, ¬ (iS f_partLow f_partHigh s ∧ ∀ a, a < 4 → K a → ¬ en a s)) → post (f_made, nI N, f_initial, f_reached, f_deepest, f_options0, f_options1, f_opened, f_depthOf, f_numbered, f_waiting, f_fairLow, f_fairHigh, f_partLow, f_partHigh, f_withLow, f_withHigh, f_traced, f_failures, f_backLow, f_backHigh, a_sizes, a_list, a_length, a_there, a_how, a_fairness, a_stack, a_val, a_goes, a_steps, a_guards, a_enabled, a_depth, a_number, a_low, a_onStack, a_open, a_path, a_ahead, a_todo, a_shown, a_failed))
    (H1 : ∀ todo : Nat → Int64, (∀ i s, i < w → (aS a_todo (2 * i) s ↔ aS todo (2 * i) s)) → (∀ s, aS todo (2 * w) s ↔ (iS f_partLow f_partHigh s ∧ ∀ a, a < 4 → K a → ¬ en a s)) → post (f_made, nI N, f_initial, f_reached, f_deepest, f_options0, f_options1, f_opened, f_depthOf, f_numbered, nI (w + 1), f_fairLow, f_fairHigh, f_partLow, f_partHigh, f_withLow, f_withHigh, f_traced, f_failures, f_backLow, f_backHigh, a_sizes, a_list, a_length, a_there, a_how, a_fairness, a_stack, a_val, a_goes, a_steps, a_guards, a_enabled, a_depth, a_number, a_low, a_onStack, a_open, a_path, a_ahead, todo, a_shown, a_failed)) :
    wpX_without post (f_made, nI N, f_initial, f_reached, f_deepest, f_options0, f_options1, f_opened, f_depthOf, f_numbered, f_waiting, f_fairLow, f_fairHigh, f_partLow, f_partHigh, f_withLow, f_withHigh, f_traced, f_failures, f_backLow, f_backHigh, a_sizes, a_list, a_length, a_there, a_how, a_fairness, a_stack, a_val, a_goes, a_steps, a_guards, a_enabled, a_depth, a_number, a_low, a_onStack, a_open, a_path, a_ahead, a_todo, a_shown, a_failed) x1 := by
  have key : ∀ n s, s ≤ N → N - s < n → ∀ lo hi : Int64, (∀ t, iS lo hi t ↔ t < s ∧ (iS f_partLow f_partHigh t ∧ ∀ a, a < 4 → K a → ¬ en a t)) → wX_without_8 post x1 f_made (nI N) f_initial f_reached f_deepest f_options0 f_options1 f_opened f_depthOf f_numbered f_waiting f_fairLow f_fairHigh f_partLow f_partHigh f_withLow f_withHigh f_traced f_failures f_backLow f_backHigh a_sizes a_list a_length a_there a_how a_fairness a_stack a_val a_goes a_steps a_guards a_enabled a_depth a_number a_low a_onStack a_open a_path a_ahead a_todo a_shown a_failed n lo hi (nI s) := by
    intro n
    induction n with
    | zero => intro s _ h; omega
    | succ n ih =>
      intro s hs hn lo hi hb
      refine pk_le N s (fun h => ?_) (fun h => ?_)
      · have full : ∀ t, iS lo hi t ↔ (iS f_partLow f_partHigh t ∧ ∀ a, a < 4 → K a → ¬ en a t) := fun t => by
          rw [hb t]; exact ⟨fun q => q.2, fun q => ⟨by have := hPN t q.1; omega, q⟩⟩
        refine br_c (fun e => H0 fun t q => iS_none.mp e t ((full t).mpr q)) (fun e => x_later hw ew fun todo h1 h2 => H1 todo h1 fun t => ?_)
        rw [h2 t, full t]
      · have no : ¬ (iS f_partLow f_partHigh s ∧ ∀ a, a < 4 → K a → ¬ en a s) → wX_without_8 post x1 f_made (nI N) f_initial f_reached f_deepest f_options0 f_options1 f_opened f_depthOf f_numbered f_waiting f_fairLow f_fairHigh f_partLow f_partHigh f_withLow f_withHigh f_traced f_failures f_backLow f_backHigh a_sizes a_list a_length a_there a_how a_fairness a_stack a_val a_goes a_steps a_guards a_enabled a_depth a_number a_low a_onStack a_open a_path a_ahead a_todo a_shown a_failed n lo hi (nI (s + 1)) := by
          intro hne
          refine ih (s + 1) (by omega) (by omega) lo hi fun t => ?_
          rw [hb t]
          constructor
          · rintro ⟨q, r⟩; exact ⟨by omega, r⟩
          · rintro ⟨q, r⟩
            by_cases c : t = s
            · rw [c] at r; exact absurd r hne
            · exact ⟨by omega, r⟩
        have yes : ∀ lo' hi' : Int64, (iS f_partLow f_partHigh s ∧ ∀ a, a < 4 → K a → ¬ en a s) → (∀ t, iS lo' hi' t ↔ iS lo hi t ∨ t = s) → wX_without_8 post x1 f_made (nI N) f_initial f_reached f_deepest f_options0 f_options1 f_opened f_depthOf f_numbered f_waiting f_fairLow f_fairHigh f_partLow f_partHigh f_withLow f_withHigh f_traced f_failures f_backLow f_backHigh a_sizes a_list a_length a_there a_how a_fairness a_stack a_val a_goes a_steps a_guards a_enabled a_depth a_number a_low a_onStack a_open a_path a_ahead a_todo a_shown a_failed n lo' hi' (nI (s + 1)) := by
          intro lo' hi' hy hb'
          refine ih (s + 1) (by omega) (by omega) lo' hi' fun t => ?_
          rw [hb' t, hb t]
          constructor
          · rintro (⟨q, r⟩ | q)
            · exact ⟨by omega, r⟩
            · rw [q]; exact ⟨by omega, hy⟩
          · rintro ⟨q, r⟩
            by_cases c : t = s
            · exact Or.inr c
            · exact Or.inl ⟨by omega, r⟩
        refine x_has (by omega) (fun hh => br_f (by decide) ⟨vp_in_nI (by omega) (by omega), ?_⟩) (fun hh => br_t rfl (nm_r (nI_1 s) (no fun q => hh q.1)))
        rw [nI_clamp (by omega)]
        have hmz := mb_z (mb_and (hen s h) hK)
        refine if1 hmz (fun hz => ?_) (fun hz => nm_r (nI_1 s) (no fun q => hz fun i hi r => q.2 i hi r.2 r.1))
        have hy : iS f_partLow f_partHigh s ∧ ∀ a, a < 4 → K a → ¬ en a s := ⟨hh, fun a ha k e => hz a ha ⟨e, k⟩⟩
        exact pk_le 64 s (fun h64 => nm_e (nm_r (nI_1 s) (yes _ _ hy fun t => iS_ph h64 (by omega)))) (fun h64 => nm_e (nm_r (nI_1 s) (yes _ _ hy fun t => iS_pl h64)))
  exact ⟨N + 1, key _ 0 (Nat.zero_le _) (by omega) 0 0 fun t => ⟨fun q => absurd q (iS_0 t), fun q => absurd q.1 (Nat.not_lt_zero _)⟩⟩
/-- the verdict on a part -/
theorem x_judge_80 {post : SX → Prop} {x1 x2 x3 : Int32} (hfr : ∀ a, a < 4 → a_fairness a = 0 ∨ a_fairness a = 1 ∨ a_fairness a = 2)
    (h1 : mb x1 (fun a => ∀ s, iS f_partLow f_partHigh s → en a s)) (h2 : mb x2 (fun a => ∃ s, iS f_partLow f_partHigh s ∧ en a s)) (h3 : mb x3 (fun a => f_tk go (iS f_partLow f_partHigh) a))
    (Hw : ∀ a, a < 4 → a_there a ≠ 0 → ¬ f_tk go (iS f_partLow f_partHigh) a → a_fairness a = 1 → (∀ s, iS f_partLow f_partHigh s → en a s) → post (f_made, f_states, f_initial, f_reached, f_deepest, f_options0, f_options1, f_opened, f_depthOf, f_numbered, f_waiting, f_fairLow, f_fairHigh, f_partLow, f_partHigh, f_withLow, f_withHigh, f_traced, f_failures, f_backLow, f_backHigh, a_sizes, a_list, a_length, a_there, a_how, a_fairness, a_stack, a_val, a_goes, a_steps, a_guards, a_enabled, a_depth, a_number, a_low, a_onStack, a_open, a_path, a_ahead, a_todo, a_shown, a_failed))
    (Hf : (∀ a, a < 4 → a_there a ≠ 0 → ¬ f_tk go (iS f_partLow f_partHigh) a → a_fairness a = 1 → ∃ s, iS f_partLow f_partHigh s ∧ ¬ en a s) → (∀ a, a < 4 → a_there a ≠ 0 → ¬ f_tk go (iS f_partLow f_partHigh) a → a_fairness a = 2 → ∀ s, iS f_partLow f_partHigh s → ¬ en a s) → post (f_made, f_states, f_initial, f_reached, f_deepest, f_options0, f_options1, f_opened, f_depthOf, f_numbered, f_waiting, f_fairLow ||| f_partLow, f_fairHigh ||| f_partHigh, f_partLow, f_partHigh, f_withLow, f_withHigh, f_traced, f_failures, f_backLow, f_backHigh, a_sizes, a_list, a_length, a_there, a_how, a_fairness, a_stack, a_val, a_goes, a_steps, a_guards, a_enabled, a_depth, a_number, a_low, a_onStack, a_open, a_path, a_ahead, a_todo, a_shown, a_failed))
    (Hs : ∀ x4, mb x4 (fun a => a_there a ≠ 0 ∧ ¬ f_tk go (iS f_partLow f_partHigh) a ∧ a_fairness a = 2 ∧ ∃ s, iS f_partLow f_partHigh s ∧ en a s) → ¬ x4 = 0 → wpX_without (fun u => match u with | (f_made, f_states, f_initial, f_reached, f_deepest, f_options0, f_options1, f_opened, f_depthOf, f_numbered, f_waiting, f_fairLow, f_fairHigh, f_partLow, f_partHigh, f_withLow, f_withHigh, f_traced, f_failures, f_backLow, f_backHigh, a_sizes, a_list, a_length, a_there, a_how, a_fairness, a_stack, a_val, a_goes, a_steps, a_guards, a_enabled, a_depth, a_number, a_low, a_onStack, a_open, a_path, a_ahead, a_todo, a_shown, a_failed) => post (f_made, f_states, f_initial, f_reached, f_deepest, f_options0, f_options1, f_opened, f_depthOf, f_numbered, f_waiting, f_fairLow, f_fairHigh, f_partLow, f_partHigh, f_withLow, f_withHigh, f_traced, f_failures, f_backLow, f_backHigh, a_sizes, a_list, a_length, a_there, a_how, a_fairness, a_stack, a_val, a_goes, a_steps, a_guards, a_enabled, a_depth, a_number, a_low, a_onStack, a_open, a_path, a_ahead, a_todo, a_shown, a_failed)) (f_made, f_states, f_initial, f_reached, f_deepest, f_options0, f_options1, f_opened, f_depthOf, f_numbered, f_waiting, f_fairLow, f_fairHigh, f_partLow, f_partHigh, f_withLow, f_withHigh, f_traced, f_failures, f_backLow, f_backHigh, a_sizes, a_list, a_length, a_there, a_how, a_fairness, a_stack, a_val, a_goes, a_steps, a_guards, a_enabled, a_depth, a_number, a_low, a_onStack, a_open, a_path, a_ahead, a_todo, a_shown, a_failed) x4) :
    ∀ n a, a ≤ 4 → 4 - a < n → ∀ x4, mb x4 (fun b => b < a ∧ a_there b ≠ 0 ∧ ¬ f_tk go (iS f_partLow f_partHigh) b ∧ a_fairness b = 2 ∧ ∃ s, iS f_partLow f_partHigh s ∧ en b s) → (∀ b, b < a → a_there b ≠ 0 → ¬ f_tk go (iS f_partLow f_partHigh) b → a_fairness b = 1 → ∃ s, iS f_partLow f_partHigh s ∧ ¬ en b s) →
      wX_judge_80 post x1 x2 x3 f_made f_states f_initial f_reached f_deepest f_options0 f_options1 f_opened f_depthOf f_numbered f_waiting f_fairLow f_fairHigh f_partLow f_partHigh f_withLow f_withHigh f_traced f_failures f_backLow f_backHigh a_sizes a_list a_length a_there a_how a_fairness a_stack a_val a_goes a_steps a_guards a_enabled a_depth a_number a_low a_onStack a_open a_path a_ahead a_todo a_shown a_failed n x4 (nI a) := by
  intro n
  induction n with
  | zero => intro a _ h; omega
  | succ n ih =>
    intro a ha hn x4 hm hwk
    refine pk_le 4 a (fun h => ?_) (fun h => ?_)
    · have ea : a = 4 := by omega
      subst ea
      have hm' : mb x4 (fun a => a_there a ≠ 0 ∧ ¬ f_tk go (iS f_partLow f_partHigh) a ∧ a_fairness a = 2 ∧ ∃ s, iS f_partLow f_partHigh s ∧ en a s) := mb_c hm fun i hi => ⟨fun q => q.2, fun q => ⟨hi, q⟩⟩
      refine br_c (fun e => nm_e (nm_e (Hf hwk fun b hb t1 t2 t3 s hs he => ?_))) (fun e => Hs x4 hm' e)
      exact (mb_z hm').mp e b hb ⟨t1, t2, t3, s, hs, he⟩
    · have nx : (a_there a ≠ 0 → ¬ f_tk go (iS f_partLow f_partHigh) a → (a_fairness a = 1 → ∃ s, iS f_partLow f_partHigh s ∧ ¬ en a s) ∧ ¬ (a_fairness a = 2 ∧ ∃ s, iS f_partLow f_partHigh s ∧ en a s)) → wX_judge_80 post x1 x2 x3 f_made f_states f_initial f_reached f_deepest f_options0 f_options1 f_opened f_depthOf f_numbered f_waiting f_fairLow f_fairHigh f_partLow f_partHigh f_withLow f_withHigh f_traced f_failures f_backLow f_backHigh a_sizes a_list a_length a_there a_how a_fairness a_stack a_val a_goes a_steps a_guards a_enabled a_depth a_number a_low a_onStack a_open a_path a_ahead a_todo a_shown a_failed n x4 (nI (a + 1)) := by
        intro hc
        refine ih (a + 1) (by omega) (by omega) x4 (mb_c hm fun i _ => ⟨?_, ?_⟩) (fun b hb t1 t2 t3 => ?_)
        · rintro ⟨q, r⟩; exact ⟨by omega, r⟩
        · rintro ⟨q, r⟩
          rcases Nat.lt_or_ge i a with c | c
          · exact ⟨c, r⟩
          · have ei : i = a := by omega
            rw [ei] at r
            exact absurd r.2.2 (hc r.1 r.2.1).2
        · rcases Nat.lt_or_ge b a with c | c
          · exact hwk b c t1 t2 t3
          · have ei : b = a := by omega
            rw [ei] at t1 t2 t3 ⊢
            exact (hc t1 t2).1 t3
      refine ⟨vp_in_nI h (by omega), ?_⟩
      have ca : (nI a).toNatClampNeg = a := nI_clamp (by omega)
      rw [ca]
      refine br_c (fun e => nm_r (nI_1 a) (nx fun q => absurd e q)) (fun eth => if2 (d := f_tk go (iS f_partLow f_partHigh) a) (mb_t h h3) (fun ntk => ⟨vp_in_nI h (by omega), ?_⟩) (fun tk => nm_r (nI_1 a) (nx fun _ q => absurd tk q)))
      have j129 : (a_fairness a = 1 → ∃ s, iS f_partLow f_partHigh s ∧ ¬ en a s) → wX_judge_129 post (wX_judge_80 post x1 x2 x3 f_made f_states f_initial f_reached f_deepest f_options0 f_options1 f_opened f_depthOf f_numbered f_waiting f_fairLow f_fairHigh f_partLow f_partHigh f_withLow f_withHigh f_traced f_failures f_backLow f_backHigh a_sizes a_list a_length a_there a_how a_fairness a_stack a_val a_goes a_steps a_guards a_enabled a_depth a_number a_low a_onStack a_open a_path a_ahead a_todo a_shown a_failed n) x1 x2 x3 x4 (nI a) f_made f_states f_initial f_reached f_deepest f_options0 f_options1 f_opened f_depthOf f_numbered f_waiting f_fairLow f_fairHigh f_partLow f_partHigh f_withLow f_withHigh f_traced f_failures f_backLow f_backHigh a_sizes a_list a_length a_there a_how a_fairness a_stack a_val a_goes a_steps a_guards a_enabled a_depth a_number a_low a_onStack a_open a_path a_ahead a_todo a_shown a_failed := by
        intro hc
        unfold wX_judge_129
        refine ⟨vp_in_nI h (by omega), ?_⟩
        rw [ca]
        refine br_c (fun e2 => if2 (d := ∃ s, iS f_partLow f_partHigh s ∧ en a s) (mb_t h h2) (fun nev => nm_r (nI_1 a) (nx fun _ _ => ⟨hc, fun q => nev q.2⟩)) (fun ev => nm_e (nm_r (nI_1 a) ?_))) (fun e2 => nm_r (nI_1 a) (nx fun _ _ => ⟨hc, fun q => e2 q.1⟩))
        refine ih (a + 1) (by omega) (by omega) _ (mb_c (mb_or h hm) fun i _ => ⟨?_, ?_⟩) (fun b hb t1 t2 t3 => ?_)
        · rintro (⟨q, r⟩ | q)
          · exact ⟨by omega, r⟩
          · rw [q]; exact ⟨by omega, eth, ntk, e2, ev⟩
        · rintro ⟨q, r⟩
          rcases Nat.lt_or_ge i a with c | c
          · exact Or.inl ⟨c, r⟩
          · exact Or.inr (by omega)
        · rcases Nat.lt_or_ge b a with c | c
          · exact hwk b c t1 t2 t3
          · have ei : b = a := by omega
            rw [ei] at t3 ⊢
            exact hc t3
      refine br_c (fun e1 => if2 (d := ∀ s, iS f_partLow f_partHigh s → en a s) (mb_t h h1) (fun nal => j129 fun _ => ?_) (fun al => Hw a h eth ntk e1 al)) (fun e1 => j129 fun q => absurd q e1)
      exact Classical.byContradiction fun z => nal fun s hs => Classical.byContradiction fun y => z ⟨s, hs, y⟩
theorem x_judge {post : SX → Prop} (hN : N ≤ 125) (hM : M ≤ 125) (hfr : ∀ a, a < 4 → a_fairness a = 0 ∨ a_fairness a = 1 ∨ a_fairness a = 2)
    (hg : ∀ s, s < N → ∀ b, b < 4 → ∀ t, aS a_goes (8 * s + 2 * b) t ↔ go b s t) (hen : ∀ s, s < N → mb (a_enabled s) (fun i => en i s))
    (hJ : j_I N St go en a_there a_fairness W (iS f_fairLow f_fairHigh) T Dn (fun i => aS a_todo (2 * i)) w M) (ew : f_waiting = nI w)
    (hP : ∀ x, iS f_partLow f_partHigh x → x < N ∧ T x ∧ ¬ Dn x) (p1 : ∀ s t, iS f_partLow f_partHigh s → iS f_partLow f_partHigh t → p_r St (iS f_partLow f_partHigh) s t)
    (p2 : ∀ C : Nat → Prop, (∀ x y, C x → C y → p_r St C x y) → (∀ x, C x → T x ∧ ¬ Dn x) → ∀ x, C x → iS f_partLow f_partHigh x → ∀ y, C y → iS f_partLow f_partHigh y)
    (H : ∀ (fl fh : Int64) (w' : Nat) (todo : Nat → Int64), j_I N St go en a_there a_fairness W (iS fl fh) T (fun x => Dn x ∨ iS f_partLow f_partHigh x) (fun i => aS todo (2 * i)) w' M → post (f_made, nI N, f_initial, f_reached, f_deepest, f_options0, f_options1, f_opened, f_depthOf, f_numbered, nI w', fl, fh, f_partLow, f_partHigh, f_withLow, f_withHigh, f_traced, f_failures, f_backLow, f_backHigh, a_sizes, a_list, a_length, a_there, a_how, a_fairness, a_stack, a_val, a_goes, a_steps, a_guards, a_enabled, a_depth, a_number, a_low, a_onStack, a_open, a_path, a_ahead, todo, a_shown, a_failed)) :
    wpX_judge post (f_made, nI N, f_initial, f_reached, f_deepest, f_options0, f_options1, f_opened, f_depthOf, f_numbered, f_waiting, f_fairLow, f_fairHigh, f_partLow, f_partHigh, f_withLow, f_withHigh, f_traced, f_failures, f_backLow, f_backHigh, a_sizes, a_list, a_length, a_there, a_how, a_fairness, a_stack, a_val, a_goes, a_steps, a_guards, a_enabled, a_depth, a_number, a_low, a_onStack, a_open, a_path, a_ahead, a_todo, a_shown, a_failed) := by
  have hwM : w ≤ M := j_w hJ
  have key : ∀ n s, s ≤ N → N - s < n → ∀ x1 x2 x3, mb x1 (fun a => ∀ s', s' < s → iS f_partLow f_partHigh s' → en a s') → mb x2 (fun a => ∃ s', s' < s ∧ iS f_partLow f_partHigh s' ∧ en a s') → mb x3 (fun a => ∃ s', s' < s ∧ iS f_partLow f_partHigh s' ∧ ∃ t, (iS f_partLow f_partHigh t ∧ t ≠ s') ∧ go a s' t) →
      wX_judge_10 post f_made (nI N) f_initial f_reached f_deepest f_options0 f_options1 f_opened f_depthOf f_numbered f_waiting f_fairLow f_fairHigh f_partLow f_partHigh f_withLow f_withHigh f_traced f_failures f_backLow f_backHigh a_sizes a_list a_length a_there a_how a_fairness a_stack a_val a_goes a_steps a_guards a_enabled a_depth a_number a_low a_onStack a_open a_path a_ahead a_todo a_shown a_failed n x1 x2 x3 (nI s) := by
    intro n
    induction n with
    | zero => intro s _ h; omega
    | succ n ih =>
      intro s hs hn x1 x2 x3 m1 m2 m3
      refine pk_le N s (fun h => ?_) (fun h => ?_)
      · have es : s = N := by omega
        subst es
        refine ⟨5, x_judge_80 hfr (mb_c m1 fun i _ => ⟨fun q s' hs' => q s' (hP s' hs').1 hs', fun q s' _ hs' => q s' hs'⟩) (mb_c m2 fun i _ => ⟨fun ⟨s', _, q⟩ => ⟨s', q⟩, fun ⟨s', q⟩ => ⟨s', (hP s' q.1).1, q⟩⟩) (mb_c m3 fun i _ => ⟨fun ⟨s', _, q, t, r, g⟩ => ⟨s', t, q, r.1, fun e => r.2 e.symm, g⟩, fun ⟨s', t, q, r, e, g⟩ => ⟨s', (hP s' q).1, q, t, ⟨r, fun y => e y.symm⟩, g⟩⟩) ?_ ?_ ?_ 5 0 (by omega) (by omega) 0 (mb_0 fun i _ q => absurd q.1 (Nat.not_lt_zero _)) (fun b hb => absurd hb (Nat.not_lt_zero _))⟩
        · intro a ha t1 t2 t3 t4
          subst ew
          exact H f_fairLow f_fairHigh w a_todo (j_weak hJ hP p2 fun C hC hCP x hx => (f_weak ha t1 t2 t3 t4 hC hCP).elim)
        · intro t1 t2
          subst ew
          exact H _ _ w a_todo (j_fair hJ hP p2 (f_part hfr p1 t1 t2) fun x => iS_or)
        · intro x4 hx4 hx0
          have hst : ∃ a, a < 4 ∧ a_there a ≠ 0 ∧ ¬ f_tk go (iS f_partLow f_partHigh) a ∧ a_fairness a = 2 ∧ ∃ s, iS f_partLow f_partHigh s ∧ en a s :=
            Classical.byContradiction fun q => hx0 ((mb_z hx4).mpr fun i hi r => q ⟨i, hi, r⟩)
          obtain ⟨a, ha, t1, t2, t3, s, hs, he⟩ := hst
          have hCQ : ∀ C : Nat → Prop, f_S St go en a_there a_fairness C → (∀ x, C x → iS f_partLow f_partHigh x) → ∀ x, C x → (iS f_partLow f_partHigh x ∧ ∀ a, a < 4 → (a_there a ≠ 0 ∧ ¬ f_tk go (iS f_partLow f_partHigh) a ∧ a_fairness a = 2 ∧ ∃ s, iS f_partLow f_partHigh s ∧ en a s) → ¬ en a x) :=
            fun C hC hCP x hx => ⟨hCP x hx, fun a ha k => f_strong ha k.1 k.2.1 k.2.2.1 hC hCP hx⟩
          refine x_without (w := w) hN hen hx4 (by omega) ew (fun s hs => (hP s hs).1) (fun hz => ?_) (fun todo e1 e2 => ?_)
          · subst ew
            exact H f_fairLow f_fairHigh w a_todo (j_weak hJ hP p2 fun C hC hCP x hx => absurd (hCQ C hC hCP x hx) (hz x))
          · exact H f_fairLow f_fairHigh (w + 1) todo (j_again hJ hP p2 hCQ (fun x hx => hx.1) hs (fun q => q.2 a ha ⟨t1, t2, t3, s, hs, he⟩ he) e1 e2).2
      · refine x_has (by omega) (fun hh => br_f (by decide) ?_) (fun hh => br_t rfl (nm_r (nI_1 s) (ih (s + 1) (by omega) (by omega) x1 x2 x3 (mb_c m1 fun i _ => ⟨?_, ?_⟩) (mb_c m2 fun i _ => ⟨?_, ?_⟩) (mb_c m3 fun i _ => ⟨?_, ?_⟩))))
        · have v1 : vp_in (nI s) 125 := vp_in_nI (by omega) (by omega)
          have cs : (nI s).toNatClampNeg = s := nI_clamp (by omega)
          refine ⟨v1, nm_r (e' := x1 &&& a_enabled s) (by rw [cs]) ⟨v1, nm_r (e' := x2 ||| a_enabled s) (by rw [cs]) (x_tkf (by omega) (hg s h) fun r hr => nm_e (nm_r (nI_1 s) (ih (s + 1) (by omega) (by omega) _ _ _ (mb_c (mb_and m1 (hen s h)) fun i _ => ⟨?_, ?_⟩) (mb_c (mb_oo m2 (hen s h)) fun i _ => ⟨?_, ?_⟩) (mb_c (mb_oo m3 hr) fun i _ => ⟨?_, ?_⟩))))⟩⟩
          · rintro ⟨q, r⟩ s' hs' hp
            by_cases c : s' = s
            · rw [c]; exact r
            · exact q s' (by omega) hp
          · intro q; exact ⟨fun s' hs' hp => q s' (by omega) hp, q s (by omega) hh⟩
          · rintro (⟨s', q, r⟩ | q)
            · exact ⟨s', by omega, r⟩
            · exact ⟨s, by omega, hh, q⟩
          · rintro ⟨s', q, r⟩
            by_cases c : s' = s
            · rw [c] at r; exact Or.inr r.2
            · exact Or.inl ⟨s', by omega, r⟩
          · rintro (⟨s', q, r⟩ | q)
            · exact ⟨s', by omega, r⟩
            · exact ⟨s, by omega, hh, q⟩
          · rintro ⟨s', q, r⟩
            by_cases c : s' = s
            · rw [c] at r; exact Or.inr r.2
            · exact Or.inl ⟨s', by omega, r⟩
        · intro q s' hs' hp
          by_cases c : s' = s
          · rw [c] at hp; exact absurd hp hh
          · exact q s' (by omega) hp
        · intro q s' hs' hp; exact q s' (by omega) hp
        · rintro ⟨s', q, r⟩; exact ⟨s', by omega, r⟩
        · rintro ⟨s', q, r⟩
          by_cases c : s' = s
          · rw [c] at r; exact absurd r.1 hh
          · exact ⟨s', by omega, r⟩
        · rintro ⟨s', q, r⟩; exact ⟨s', by omega, r⟩
        · rintro ⟨s', q, r⟩
          by_cases c : s' = s
          · rw [c] at r; exact absurd r.1 hh
          · exact ⟨s', by omega, r⟩
  exact ⟨N + 1, key _ 0 (Nat.zero_le _) (by omega) 15 0 0 (mb_c mb_15 fun i _ => ⟨fun _ s' h => absurd h (Nat.not_lt_zero _), fun _ => trivial⟩) (mb_0 fun i _ ⟨s', h, _⟩ => absurd h (Nat.not_lt_zero _)) (mb_0 fun i _ ⟨s', h, _⟩ => absurd h (Nat.not_lt_zero _))⟩
end Xj
end
section
/-! X: walk, split -/
/-- the arrays hold what the ghosts say -/
def t_A (N : Nat) (V O : Nat → Prop) (nm lw ah op pa : Nat → Nat) (ond dp : Nat) (number low onStack opn path ahead : Nat → Int32) : Prop :=
  (∀ s, s < N → (V s → number s = nI (nm s)) ∧ (¬ V s → number s = -1)) ∧ (∀ s, s < N → V s → low s = nI (lw s)) ∧ (∀ s, s < N → (O s → onStack s = 1) ∧ (¬ O s → onStack s = 0)) ∧
  (∀ i, i < ond → opn i = nI (op i)) ∧ (∀ i, i < dp → path i = nI (pa i)) ∧ (∀ s, s < N → V s → ahead s = nI (ah s) ∧ ah s ≤ N)
theorem nb0 : vp_nar .boolean 0 = 0 := rfl
theorem nb1 : vp_nar .boolean 1 = 1 := rfl
section Xw
variable {f_made f_states f_initial f_reached f_deepest f_options0 f_options1 f_opened f_depthOf f_numbered f_waiting f_traced f_failures : Int32} {f_fairLow f_fairHigh f_partLow f_partHigh f_withLow f_withHigh f_backLow f_backHigh : Int64} {a_sizes a_list a_length a_there a_how a_fairness a_stack a_val a_guards a_enabled a_depth a_number a_low a_onStack a_open a_path a_ahead a_shown a_failed : Nat → Int32} {a_goes a_steps a_todo : Nat → Int64}
variable {St : Nat → Nat → Prop} {go : Nat → Nat → Nat → Prop} {en : Nat → Nat → Prop} {W T V O : Nat → Prop} {nm lw ah op pa : Nat → Nat} {N w M ond dp nd : Nat}
theorem x_enter {post : SX → Prop} {t : Nat} (hN : N ≤ 125) (ht : t < N) (hnd : nd < N) (ho : ond ≤ nd) (hd : dp ≤ nd) (e1 : f_opened = nI ond) (e2 : f_depthOf = nI dp) (e3 : f_numbered = nI nd)
    (hA : t_A N V O nm lw ah op pa ond dp a_number a_low a_onStack a_open a_path a_ahead)
    (H : ∀ number low onStack opn path ahead : Nat → Int32, t_A N (fun x => V x ∨ x = t) (fun x => O x ∨ x = t) (fu nm t nd) (fu lw t nd) (fu ah t 0) (fu op ond t) (fu pa dp t) (ond + 1) (dp + 1) number low onStack opn path ahead →
      post (f_made, f_states, f_initial, f_reached, f_deepest, f_options0, f_options1, nI (ond + 1), nI (dp + 1), nI (nd + 1), f_waiting, f_fairLow, f_fairHigh, f_partLow, f_partHigh, f_withLow, f_withHigh, f_traced, f_failures, f_backLow, f_backHigh, a_sizes, a_list, a_length, a_there, a_how, a_fairness, a_stack, a_val, a_goes, a_steps, a_guards, a_enabled, a_depth, number, low, onStack, opn, path, ahead, a_todo, a_shown, a_failed)) : wpX_enter post (f_made, f_states, f_initial, f_reached, f_deepest, f_options0, f_options1, f_opened, f_depthOf, f_numbered, f_waiting, f_fairLow, f_fairHigh, f_partLow, f_partHigh, f_withLow, f_withHigh, f_traced, f_failures, f_backLow, f_backHigh, a_sizes, a_list, a_length, a_there, a_how, a_fairness, a_stack, a_val, a_goes, a_steps, a_guards, a_enabled, a_depth, a_number, a_low, a_onStack, a_open, a_path, a_ahead, a_todo, a_shown, a_failed) (nI t) := by
  subst e1; subst e2; subst e3
  obtain ⟨h1, h2, h3, h4, h5, h6⟩ := hA
  have v1 : vp_in (nI t) 125 := vp_in_nI (by omega) (by omega)
  have ct : (nI t).toNatClampNeg = t := nI_clamp (by omega)
  have n0 : vp_nar .short 0 = 0 := by rw [vp_nar_short]; decide
  refine ⟨v1, nm_r (e' := upd a_number t (nI nd)) (by rw [ct, n16v (by omega)]) (nm_r (nI_1 nd) ⟨v1, nm_r (e' := upd a_low t (nI nd)) (by rw [ct, n16v (by omega)]) (nm_r (nI_1 ond) ⟨vp_in_nI (by omega) (by omega), nm_r (e' := upd a_open ond (nI t)) (by rw [nI_clamp (by omega), n16v (by omega)]) ⟨v1, nm_r (e' := upd a_onStack t 1) (by rw [ct, nb1]) ⟨v1, nm_r (e' := upd a_ahead t 0) (by rw [ct, n0]) (nm_r (nI_1 dp) ⟨vp_in_nI (by omega) (by omega), nm_r (e' := upd a_path dp (nI t)) (by rw [nI_clamp (by omega), n16v (by omega)]) (H _ _ _ _ _ _ ⟨?_, ?_, ?_, ?_, ?_, ?_⟩)⟩)⟩⟩⟩)⟩)⟩
  · intro s hs
    by_cases c : s = t
    · rw [c, pk_us, fu_s]; exact ⟨fun _ => rfl, fun q => absurd (Or.inr rfl) q⟩
    · rw [pk_un c, fu_n c]
      exact ⟨fun q => q.elim (h1 s hs).1 (fun q => absurd q c), fun q => (h1 s hs).2 fun z => q (Or.inl z)⟩
  · intro s hs q
    by_cases c : s = t
    · rw [c, pk_us, fu_s]
    · rw [pk_un c, fu_n c]; exact h2 s hs (q.elim id (fun q => absurd q c))
  · intro s hs
    by_cases c : s = t
    · rw [c, pk_us]; exact ⟨fun _ => rfl, fun q => absurd (Or.inr rfl) q⟩
    · rw [pk_un c]
      exact ⟨fun q => q.elim (h3 s hs).1 (fun q => absurd q c), fun q => (h3 s hs).2 fun z => q (Or.inl z)⟩
  · intro i hi
    by_cases c : i = ond
    · rw [c, pk_us, fu_s]
    · rw [pk_un c, fu_n c]; exact h4 i (by omega)
  · intro i hi
    by_cases c : i = dp
    · rw [c, pk_us, fu_s]
    · rw [pk_un c, fu_n c]; exact h5 i (by omega)
  · intro s hs q
    by_cases c : s = t
    · rw [c, pk_us, fu_s]; exact ⟨rfl, Nat.zero_le _⟩
    · rw [pk_un c, fu_n c]; exact h6 s hs (q.elim id (fun q => absurd q c))
theorem t_le (h : t_I N St T V O nm lw ah op pa ond dp nd) (hT : ∀ s, T s → s < N) : ond ≤ nd ∧ dp ≤ nd := by
  obtain ⟨h1, h2, ⟨h3, h3'⟩, ⟨h4, h4', h4''⟩, ⟨h5, h5'⟩, h6⟩ := h
  have key : ∀ (g : Nat → Nat) (m : Nat), (∀ i, i < m → O (g i)) → (∀ i j, i < j → j < m → nm (g i) < nm (g j)) → m ≤ nd := by
    intro g m ho hl
    have k2 : ∀ i, i < m → i ≤ nm (g i) := by
      intro i
      induction i with
      | zero => intro _; exact Nat.zero_le _
      | succ i ih =>
        intro hi
        have := ih (by omega)
        have := hl i (i + 1) (by omega) hi
        omega
    rcases Nat.eq_zero_or_pos m with c | c
    · omega
    · have := k2 (m - 1) (by omega)
      have := h3' _ (h2 _ (ho (m - 1) (by omega)))
      omega
  exact ⟨key op ond h4 h4'', key pa dp h5 h5'⟩
/-- taking a part off the stack -/
theorem x_leave_27 {post : SX → Prop} {s i0 : Nat} (hN : N ≤ 125) (hs : s < N) (hi0 : i0 < ond) (ho : ond ≤ 125) (ei : op i0 = s) (hne : ∀ i, i0 < i → i < ond → op i ≠ s) (hop : ∀ i, i < ond → a_open i = nI (op i) ∧ op i < N) (os : Nat → Int32)
    (H : ∀ (pl ph : Int64) (onStack : Nat → Int32), (∀ t, iS pl ph t ↔ ∃ i, i0 ≤ i ∧ i < ond ∧ op i = t) → (∀ t, (∃ i, i0 ≤ i ∧ i < ond ∧ op i = t) → onStack t = 0) → (∀ t, ¬ (∃ i, i0 ≤ i ∧ i < ond ∧ op i = t) → onStack t = os t) →
      wpX_judge (fun u => match u with | (f_made, f_states, f_initial, f_reached, f_deepest, f_options0, f_options1, f_opened, f_depthOf, f_numbered, f_waiting, f_fairLow, f_fairHigh, f_partLow, f_partHigh, f_withLow, f_withHigh, f_traced, f_failures, f_backLow, f_backHigh, a_sizes, a_list, a_length, a_there, a_how, a_fairness, a_stack, a_val, a_goes, a_steps, a_guards, a_enabled, a_depth, a_number, a_low, a_onStack, a_open, a_path, a_ahead, a_todo, a_shown, a_failed) => wX_leave_109 post (nI s) f_made f_states f_initial f_reached f_deepest f_options0 f_options1 f_opened f_depthOf f_numbered f_waiting f_fairLow f_fairHigh f_partLow f_partHigh f_withLow f_withHigh f_traced f_failures f_backLow f_backHigh a_sizes a_list a_length a_there a_how a_fairness a_stack a_val a_goes a_steps a_guards a_enabled a_depth a_number a_low a_onStack a_open a_path a_ahead a_todo a_shown a_failed) (f_made, f_states, f_initial, f_reached, f_deepest, f_options0, f_options1, nI i0, f_depthOf, f_numbered, f_waiting, f_fairLow, f_fairHigh, pl, ph, f_withLow, f_withHigh, f_traced, f_failures, f_backLow, f_backHigh, a_sizes, a_list, a_length, a_there, a_how, a_fairness, a_stack, a_val, a_goes, a_steps, a_guards, a_enabled, a_depth, a_number, a_low, onStack, a_open, a_path, a_ahead, a_todo, a_shown, a_failed)) :
    ∀ n j, i0 ≤ j → j ≤ ond → j - i0 + 1 < n → ∀ (x2 : Int32) (pl ph : Int64) (onStack : Nat → Int32), (x2 = 0 ∧ j = i0 ∨ x2 = 1 ∧ i0 < j) → (∀ t, iS pl ph t ↔ ∃ i, j ≤ i ∧ i < ond ∧ op i = t) → (∀ t, (∃ i, j ≤ i ∧ i < ond ∧ op i = t) → onStack t = 0) → (∀ t, ¬ (∃ i, j ≤ i ∧ i < ond ∧ op i = t) → onStack t = os t) →
      wX_leave_27 post (nI s) f_made f_states f_initial f_reached f_deepest f_options0 f_options1 f_depthOf f_numbered f_waiting f_fairLow f_fairHigh f_withLow f_withHigh f_traced f_failures f_backLow f_backHigh n x2 (nI j) pl ph a_sizes a_list a_length a_there a_how a_fairness a_stack a_val a_goes a_steps a_guards a_enabled a_depth a_number a_low onStack a_open a_path a_ahead a_todo a_shown a_failed := by
  intro n
  induction n with
  | zero => intro j _ _ h; omega
  | succ n ih =>
    intro j hj hjo hn x2 pl ph onStack hx hp h0 h1
    rcases hx with ⟨rfl, rfl⟩ | ⟨rfl, hlt⟩
    · exact br_t rfl (H pl ph onStack hp h0 h1)
    · obtain ⟨k, rfl⟩ : ∃ k, j = k + 1 := ⟨j - 1, by omega⟩
      obtain ⟨eo, hoN⟩ := hop k (by omega)
      have ck : (nI (k + 1) - 1).toNatClampNeg = k := by rw [nI_pred, nI_clamp (by omega)]
      have nx : ∀ pl' ph' : Int64, (∀ t, iS pl' ph' t ↔ iS pl ph t ∨ t = op k) → wX_leave_91 post (wX_leave_27 post (nI s) f_made f_states f_initial f_reached f_deepest f_options0 f_options1 f_depthOf f_numbered f_waiting f_fairLow f_fairHigh f_withLow f_withHigh f_traced f_failures f_backLow f_backHigh n) (nI s) (nI (op k)) f_made f_states f_initial f_reached f_deepest f_options0 f_options1 (nI k) f_depthOf f_numbered f_waiting f_fairLow f_fairHigh pl' ph' f_withLow f_withHigh f_traced f_failures f_backLow f_backHigh a_sizes a_list a_length a_there a_how a_fairness a_stack a_val a_goes a_steps a_guards a_enabled a_depth a_number a_low (upd onStack (op k) 0) a_open a_path a_ahead a_todo a_shown a_failed := by
        intro pl' ph' hp'
        have q1 : ∀ t, iS pl' ph' t ↔ ∃ i, k ≤ i ∧ i < ond ∧ op i = t := by
          intro t
          rw [hp' t, hp t]
          constructor
          · rintro (⟨i, a, b⟩ | e)
            · exact ⟨i, by omega, b⟩
            · exact ⟨k, Nat.le_refl _, by omega, e.symm⟩
          · rintro ⟨i, a, b, e⟩
            rcases Nat.lt_or_ge k i with c | c
            · exact Or.inl ⟨i, c, b, e⟩
            · have : i = k := by omega
              rw [this] at e; exact Or.inr e.symm
        have q2 : ∀ t, (∃ i, k ≤ i ∧ i < ond ∧ op i = t) → upd onStack (op k) 0 t = 0 := by
          rintro t ⟨i, a, b, e⟩
          by_cases c : t = op k
          · rw [c, pk_us]
          · rw [pk_un c]
            refine h0 t ⟨i, ?_, b, e⟩
            rcases Nat.lt_or_ge k i with d | d
            · exact d
            · have : i = k := by omega
              rw [this] at e; exact absurd e.symm c
        have q3 : ∀ t, ¬ (∃ i, k ≤ i ∧ i < ond ∧ op i = t) → upd onStack (op k) 0 t = os t := by
          intro t q
          rw [pk_un fun e => q ⟨k, Nat.le_refl _, by omega, e.symm⟩]
          exact h1 t fun ⟨i, a, b⟩ => q ⟨i, by omega, b⟩
        unfold wX_leave_91
        refine pk_eq (op k) s (fun e => ?_) (fun e => ?_)
        · have : k = i0 := by
            rcases Nat.lt_or_ge i0 k with c | c
            · exact absurd e (hne k c (by omega))
            · omega
          exact ih k (by omega) (by omega) (by omega) 0 pl' ph' _ (Or.inl ⟨rfl, this⟩) q1 q2 q3
        · have : i0 < k := by
            rcases Nat.lt_or_ge i0 k with c | c
            · exact c
            · have : k = i0 := by omega
              rw [this, ei] at e; exact absurd rfl e
          exact ih k (by omega) (by omega) (by omega) 1 pl' ph' _ (Or.inr ⟨rfl, this⟩) q1 q2 q3
      refine br_f (by decide) (nm_r (nI_pred k) ⟨by rw [nI_pred]; exact vp_in_nI (by omega) (by omega), nm_r (e' := nI (op k)) (by rw [ck, eo]) ⟨vp_in_nI (by omega) (by omega), nm_r (e' := upd onStack (op k) 0) (by rw [nI_clamp (by omega), nb0]) ?_⟩⟩)
      exact pk_le 64 (op k) (fun h64 => nm_e (nx _ _ fun t => iS_ph h64 (by omega))) (fun h64 => nm_e (nx _ _ fun t => iS_pl h64))
theorem x_leave_109 {post : SX → Prop} {s : Nat} (hN : N ≤ 125) (hs : s < N) (hd : dp ≤ 125) (e2 : f_depthOf = nI dp) (hpa : ∀ i, i < dp → a_path i = nI (pa i) ∧ pa i < N ∧ a_low (pa i) = nI (lw (pa i)) ∧ lw (pa i) < N) (hl : a_low s = nI (lw s)) (hls : lw s < N)
    (H0 : dp = 0 → post (f_made, f_states, f_initial, f_reached, f_deepest, f_options0, f_options1, f_opened, f_depthOf, f_numbered, f_waiting, f_fairLow, f_fairHigh, f_partLow, f_partHigh, f_withLow, f_withHigh, f_traced, f_failures, f_backLow, f_backHigh, a_sizes, a_list, a_length, a_there, a_how, a_fairness, a_stack, a_val, a_goes, a_steps, a_guards, a_enabled, a_depth, a_number, a_low, a_onStack, a_open, a_path, a_ahead, a_todo, a_shown, a_failed)) (H1 : 0 < dp → lw (pa (dp - 1)) ≤ lw s → post (f_made, f_states, f_initial, f_reached, f_deepest, f_options0, f_options1, f_opened, f_depthOf, f_numbered, f_waiting, f_fairLow, f_fairHigh, f_partLow, f_partHigh, f_withLow, f_withHigh, f_traced, f_failures, f_backLow, f_backHigh, a_sizes, a_list, a_length, a_there, a_how, a_fairness, a_stack, a_val, a_goes, a_steps, a_guards, a_enabled, a_depth, a_number, a_low, a_onStack, a_open, a_path, a_ahead, a_todo, a_shown, a_failed)) (H2 : 0 < dp → lw s < lw (pa (dp - 1)) → post (f_made, f_states, f_initial, f_reached, f_deepest, f_options0, f_options1, f_opened, f_depthOf, f_numbered, f_waiting, f_fairLow, f_fairHigh, f_partLow, f_partHigh, f_withLow, f_withHigh, f_traced, f_failures, f_backLow, f_backHigh, a_sizes, a_list, a_length, a_there, a_how, a_fairness, a_stack, a_val, a_goes, a_steps, a_guards, a_enabled, a_depth, a_number, upd a_low (pa (dp - 1)) (nI (lw s)), a_onStack, a_open, a_path, a_ahead, a_todo, a_shown, a_failed)) : wX_leave_109 post (nI s) f_made f_states f_initial f_reached f_deepest f_options0 f_options1 f_opened f_depthOf f_numbered f_waiting f_fairLow f_fairHigh f_partLow f_partHigh f_withLow f_withHigh f_traced f_failures f_backLow f_backHigh a_sizes a_list a_length a_there a_how a_fairness a_stack a_val a_goes a_steps a_guards a_enabled a_depth a_number a_low a_onStack a_open a_path a_ahead a_todo a_shown a_failed := by
  subst e2
  have v1 : vp_in (nI s) 125 := vp_in_nI (by omega) (by omega)
  have cs : (nI s).toNatClampNeg = s := nI_clamp (by omega)
  refine pk_le dp 0 (fun h => ?_) (fun h => ?_)
  · unfold wX_leave_131
    refine ⟨v1, v1, br_t (Int32.le_refl _) (H0 (by omega))⟩
  · have ed : nI dp - 1 = nI (dp - 1) := pk_sub (b := 1) h
    obtain ⟨p1, p2, p3, p4⟩ := hpa (dp - 1) (by omega)
    have ep : a_path (nI dp - 1).toNatClampNeg = nI (pa (dp - 1)) := by rw [ed, nI_clamp (by omega), p1]
    refine ⟨by rw [ed]; exact vp_in_nI (by omega) (by omega), ?_⟩
    rw [ep]
    unfold wX_leave_131
    have vb : vp_in (nI (pa (dp - 1))) 125 := vp_in_nI (by omega) (by omega)
    have cb : (nI (pa (dp - 1))).toNatClampNeg = pa (dp - 1) := nI_clamp (by omega)
    refine ⟨v1, vb, ?_⟩
    rw [cs, cb, hl, p3]
    refine pk_le (lw (pa (dp - 1))) (lw s) (fun h1 => H1 h h1) (fun h1 => ⟨v1, vb, nm_r (e' := upd a_low (pa (dp - 1)) (nI (lw s))) (by rw [n16w (by omega)]) (H2 h h1)⟩)
/-- leave, from the walk: the way is shorter by one already -/
theorem x_leave {post : SX → Prop} (hN : N ≤ 125) (hM : M ≤ 125) (hS : ∀ s t, St s t → t < N) (hT : ∀ s, T s → s < N) (hfr : ∀ a, a < 4 → a_fairness a = 0 ∨ a_fairness a = 1 ∨ a_fairness a = 2)
    (hg : ∀ s, s < N → ∀ b, b < 4 → ∀ t, aS a_goes (8 * s + 2 * b) t ↔ go b s t) (hen : ∀ s, s < N → mb (a_enabled s) (fun i => en i s))
    (hI : t_I N St T V O nm lw ah op pa ond (dp + 1) nd) (ha : ah (pa dp) = N)
    (hA : t_A N V O nm lw ah op pa ond (dp + 1) a_number a_low a_onStack a_open a_path a_ahead) (e1 : f_opened = nI ond) (e2 : f_depthOf = nI dp)
    (hJ : j_I N St go en a_there a_fairness W (iS f_fairLow f_fairHigh) T (fun x => V x ∧ ¬ O x) (fun i => aS a_todo (2 * i)) w M) (ew : f_waiting = nI w)
    (H : ∀ (O' : Nat → Prop) (lw' : Nat → Nat) (ond' w' : Nat) (fl fh pl ph : Int64) (low onStack : Nat → Int32) (todo : Nat → Int64), t_I N St T V O' nm lw' ah op pa ond' dp nd → t_A N V O' nm lw' ah op pa ond' dp a_number low onStack a_open a_path a_ahead → j_I N St go en a_there a_fairness W (iS fl fh) T (fun x => V x ∧ ¬ O' x) (fun i => aS todo (2 * i)) w' M →
      post (f_made, nI N, f_initial, f_reached, f_deepest, f_options0, f_options1, nI ond', f_depthOf, f_numbered, nI w', fl, fh, pl, ph, f_withLow, f_withHigh, f_traced, f_failures, f_backLow, f_backHigh, a_sizes, a_list, a_length, a_there, a_how, a_fairness, a_stack, a_val, a_goes, a_steps, a_guards, a_enabled, a_depth, a_number, low, onStack, a_open, a_path, a_ahead, todo, a_shown, a_failed)) : wpX_leave post (f_made, nI N, f_initial, f_reached, f_deepest, f_options0, f_options1, f_opened, f_depthOf, f_numbered, f_waiting, f_fairLow, f_fairHigh, f_partLow, f_partHigh, f_withLow, f_withHigh, f_traced, f_failures, f_backLow, f_backHigh, a_sizes, a_list, a_length, a_there, a_how, a_fairness, a_stack, a_val, a_goes, a_steps, a_guards, a_enabled, a_depth, a_number, a_low, a_onStack, a_open, a_path, a_ahead, a_todo, a_shown, a_failed) (nI (pa dp)) := by
  have hle := t_le hI hT
  have hnd : nd ≤ N := by rw [hI.2.2.1.1]; exact cn_le _ _
  have hA0 := hA
  obtain ⟨a1, a2, a3, a4, a5, a6⟩ := hA0
  have hO := hI.2.1
  have hVT := hI.1
  have hpaO := hI.2.2.2.2.1.1
  have hlw := hI.2.2.2.2.2.2.2.1
  have hnm := hI.2.2.1.2
  have op0 := hpaO dp (by omega)
  have sN : pa dp < N := hT _ (hVT _ (hO _ op0))
  have fact : ∀ x, O x → x < N ∧ a_low x = nI (lw x) ∧ lw x < N := fun x hx => by
    have x1 := hT x (hVT x (hO x hx))
    have := (hlw x hx).1
    have := hnm x (hO x hx)
    exact ⟨x1, a2 x x1 (hO x hx), by omega⟩
  have v1 : vp_in (nI (pa dp)) 125 := vp_in_nI (by omega) (by omega)
  have cs : (nI (pa dp)).toNatClampNeg = pa dp := nI_clamp (by omega)
  have hls := fact _ op0
  have hns := (a1 _ sN).1 (hO _ op0)
  have hnN := hnm _ (hO _ op0)
  have hpath : ∀ i, i < dp → a_path i = nI (pa i) ∧ pa i < N ∧ a_low (pa i) = nI (lw (pa i)) ∧ lw (pa i) < N := fun i hi => by
    have f := fact _ (hpaO i (by omega))
    exact ⟨a5 i (by omega), f.1, f.2⟩
  refine ⟨v1, v1, ?_⟩
  rw [cs, hls.2.1, hns]
  refine pk_eq (lw (pa dp)) (nm (pa dp)) (fun e => ?_) (fun e => ?_)
  · obtain ⟨i0, hi0, ei0⟩ := hI.2.2.2.1.2.1 _ op0
    obtain ⟨tI, p1, p2, pset, plo⟩ := t_pop hS hI ha e hi0 ei0
    subst e1; subst e2
    refine ⟨ond - i0 + 2, x_leave_27 (op := op) (i0 := i0) hN sN hi0 (by omega) ei0 (fun i h1 h2 e3 => ?_) (fun i hi => ⟨a4 i hi, hT _ (hVT _ (hO _ (hI.2.2.2.1.1 i hi)))⟩) a_onStack ?_ (ond - i0 + 2) ond (by omega) (Nat.le_refl _) (by omega) 1 0 0 a_onStack (Or.inr ⟨rfl, hi0⟩) (fun t => ⟨fun q => absurd q (iS_0 t), fun ⟨i, q1, q2, _⟩ => by omega⟩) (fun t ⟨i, q1, q2, _⟩ => by omega) (fun t _ => rfl)⟩
    · have := hI.2.2.2.1.2.2 i0 i h1 h2
      rw [e3, ei0] at this; omega
    · intro pl ph onS hp o0 o1
      have hpp : ∀ x, iS pl ph x ↔ (O x ∧ nm (pa dp) ≤ nm x) := fun x => by rw [hp x, pset x]
      have eP : iS pl ph = fun x => O x ∧ nm (pa dp) ≤ nm x := funext fun x => propext (hpp x)
      refine x_judge hN hM hfr hg hen hJ ew (fun x hx => ?_) ?_ ?_ ?_
      · have := (hpp x).mp hx
        exact ⟨(fact x this.1).1, hVT x (hO x this.1), fun q => q.2 this.1⟩
      · rw [eP]; exact p1
      · rw [eP]; exact p2
      · intro fl fh w' todo hJ'
        have hA' : t_A N V (fun x => O x ∧ nm x < nm (pa dp)) nm lw ah op pa i0 dp a_number a_low onS a_open a_path a_ahead := by
          refine ⟨a1, a2, fun s hs => ⟨fun q => ?_, fun q => ?_⟩, fun i hi => a4 i (by omega), fun i hi => a5 i (by omega), a6⟩
          · rw [o1 s fun z => by have := (pset s).mpr z; omega]; exact (a3 s hs).1 q.1
          · by_cases c : O s
            · exact o0 s ((pset s).mp ⟨c, by
                rcases Nat.lt_or_ge (nm s) (nm (pa dp)) with z | z
                · exact absurd ⟨c, z⟩ q
                · exact z⟩)
            · rw [o1 s fun z => c ((pset s).mpr z).1]; exact (a3 s hs).2 c
        have hJ2 : j_I N St go en a_there a_fairness W (iS fl fh) T (fun x => V x ∧ ¬ (O x ∧ nm x < nm (pa dp))) (fun i => aS todo (2 * i)) w' M := by
          refine j_c hJ' (fun x => Iff.rfl) (fun x hx => ?_) (fun i x _ => Iff.rfl)
          show ((V x ∧ ¬ O x) ∨ iS pl ph x) ↔ _
          rw [hpp x]
          constructor
          · rintro (⟨q1, q2⟩ | ⟨q1, q2⟩)
            · exact ⟨q1, fun q => q2 q.1⟩
            · exact ⟨hO x q1, fun q => by have := q.2; omega⟩
          · rintro ⟨q1, q2⟩
            by_cases c : O x
            · refine Or.inr ⟨c, ?_⟩
              rcases Nat.lt_or_ge (nm x) (nm (pa dp)) with z | z
              · exact absurd ⟨c, z⟩ q2
              · exact z
            · exact Or.inl ⟨q1, c⟩
        have K := H _ lw i0 w' fl fh pl ph a_low onS todo tI hA' hJ2
        exact x_leave_109 (pa := pa) (lw := lw) hN sN (by omega) rfl hpath hls.2.1 hls.2.2 (fun _ => K) (fun _ _ => K) (fun q1 q2 => absurd (plo q1) (by omega))
  · obtain ⟨hd, hL⟩ := t_leave hI ha e
    subst e1; subst e2; subst ew
    have tA : ∀ (lw' : Nat → Nat) (low : Nat → Int32), (∀ x, x < N → V x → low x = nI (lw' x)) → t_A N V O nm lw' ah op pa ond dp a_number low a_onStack a_open a_path a_ahead := fun lw' low hl =>
      ⟨a1, hl, a3, a4, fun i hi => a5 i (by omega), a6⟩
    refine x_leave_109 (pa := pa) (lw := lw) hN sN (by omega) rfl hpath hls.2.1 hls.2.2 (fun q => absurd q (by omega)) (fun _ q => ?_) (fun _ q => ?_)
    · exact H O lw ond w _ _ _ _ a_low a_onStack a_todo (hL lw (fun _ _ => rfl) (by rw [if_neg (by omega)])) (tA lw a_low a2) hJ
    · refine H O (fu lw (pa (dp - 1)) (lw (pa dp))) ond w _ _ _ _ _ a_onStack a_todo (hL _ (fun x hx => fu_n hx) (by rw [if_pos q, fu_s])) (tA _ _ fun x hx hv => ?_) hJ
      by_cases c : x = pa (dp - 1)
      · rw [c, pk_us, fu_s]
      · rw [pk_un c, fu_n c]; exact a2 x hx hv
end Xw
end
section
/-! X: the walk's loop, split -/
section Xs
variable {f_made f_states f_initial f_reached f_deepest f_options0 f_options1 f_opened f_depthOf f_numbered f_waiting f_traced f_failures : Int32} {f_fairLow f_fairHigh f_partLow f_partHigh f_withLow f_withHigh f_backLow f_backHigh : Int64} {a_sizes a_list a_length a_there a_how a_fairness a_stack a_val a_guards a_enabled a_depth a_number a_low a_onStack a_open a_path a_ahead a_shown a_failed : Nat → Int32} {a_goes a_steps a_todo : Nat → Int64}
variable {St : Nat → Nat → Prop} {go : Nat → Nat → Nat → Prop} {en : Nat → Nat → Prop} {W T V0 : Nat → Prop} {N M : Nat} {lo hi : Int64}
theorem x_walk_10 {post : SX → Prop} (hN : N ≤ 125) (hM : M ≤ 125) (hS : ∀ s t, St s t → t < N) (hT : ∀ s, T s → s < N) (hfr : ∀ a, a < 4 → a_fairness a = 0 ∨ a_fairness a = 1 ∨ a_fairness a = 2)
    (hg : ∀ s, s < N → ∀ b, b < 4 → ∀ t, aS a_goes (8 * s + 2 * b) t ↔ go b s t) (hen : ∀ s, s < N → mb (a_enabled s) (fun i => en i s)) (hst : ∀ s, s < N → ∀ t, aS a_steps (2 * s) t ↔ St s t) (hset : ∀ t, iS lo hi t ↔ T t)
    (H : ∀ (V O : Nat → Prop) (nm lw ah op pa : Nat → Nat) (ond nd w : Nat) (fl fh pl ph : Int64) (number low onStack opn path ahead : Nat → Int32) (todo : Nat → Int64), t_I N St T V O nm lw ah op pa ond 0 nd → t_A N V O nm lw ah op pa ond 0 number low onStack opn path ahead →
      j_I N St go en a_there a_fairness W (iS fl fh) T (fun x => V x ∧ ¬ O x) (fun i => aS todo (2 * i)) w M → (∀ x, V0 x → V x) →
      post (f_made, nI N, f_initial, f_reached, f_deepest, f_options0, f_options1, nI ond, nI 0, nI nd, nI w, fl, fh, pl, ph, f_withLow, f_withHigh, f_traced, f_failures, f_backLow, f_backHigh, a_sizes, a_list, a_length, a_there, a_how, a_fairness, a_stack, a_val, a_goes, a_steps, a_guards, a_enabled, a_depth, number, low, onStack, opn, path, ahead, todo, a_shown, a_failed)) :
    ∀ (n : Nat) (V O : Nat → Prop) (nm lw ah op pa : Nat → Nat) (ond dp nd w : Nat) (fl fh pl ph : Int64) (number low onStack opn path ahead : Nat → Int32) (todo : Nat → Int64), t_I N St T V O nm lw ah op pa ond dp nd → t_A N V O nm lw ah op pa ond dp number low onStack opn path ahead →
      j_I N St go en a_there a_fairness W (iS fl fh) T (fun x => V x ∧ ¬ O x) (fun i => aS todo (2 * i)) w M → (∀ x, V0 x → V x) → t_mu N V ah dp < n →
      wX_walk_10 post lo hi n f_made (nI N) f_initial f_reached f_deepest f_options0 f_options1 (nI ond) (nI dp) (nI nd) (nI w) fl fh pl ph f_withLow f_withHigh f_traced f_failures f_backLow f_backHigh a_sizes a_list a_length a_there a_how a_fairness a_stack a_val a_goes a_steps a_guards a_enabled a_depth number low onStack opn path ahead todo a_shown a_failed := by
  intro n
  induction n with
  | zero => intro V O nm lw ah op pa ond dp nd w fl fh pl ph number low onStack opn path ahead todo _ _ _ _ h; omega
  | succ n ih =>
    intro V O nm lw ah op pa ond dp nd w fl fh pl ph number low onStack opn path ahead todo hI hA hJ hV hmu
    have hle := t_le hI hT
    have hnd : nd ≤ N := by rw [hI.2.2.1.1]; exact cn_le _ _
    refine pk_le dp 0 (fun h => ?_) (fun h => ?_)
    · have e : dp = 0 := by omega
      subst e
      exact H V O nm lw ah op pa ond nd w fl fh pl ph number low onStack opn path ahead todo hI hA hJ hV
    · obtain ⟨d, rfl⟩ : ∃ d, dp = d + 1 := ⟨dp - 1, by omega⟩
      have hA0 := hA
      obtain ⟨a1, a2, a3, a4, a5, a6⟩ := hA0
      have hO := hI.2.1
      have hVT := hI.1
      have op0 := hI.2.2.2.2.1.1 d (by omega)
      have vs := hO _ op0
      have sN : pa d < N := hT _ (hVT _ vs)
      obtain ⟨ahe, ahN⟩ := a6 _ sN vs
      have v1 : vp_in (nI (pa d)) 125 := vp_in_nI (by omega) (by omega)
      have cs : (nI (pa d)).toNatClampNeg = pa d := nI_clamp (by omega)
      have ck : (nI (d + 1) - 1).toNatClampNeg = d := by rw [nI_pred, nI_clamp (by omega)]
      refine ⟨by rw [nI_pred]; exact vp_in_nI (by omega) (by omega), nm_r (e' := nI (pa d)) (by rw [ck, a5 d (by omega)]) ⟨v1, nm_r (e' := nI (ah (pa d))) (by rw [cs, ahe]) (pk_eq (ah (pa d)) N (fun e => ?_) (fun e => ?_))⟩⟩
      · refine nm_r (nI_pred d) (x_leave hN hM hS hT hfr hg hen hI e hA rfl rfl hJ rfl ?_)
        intro O' lw' ond' w' fl' fh' pl' ph' low' onS' todo' hI' hA' hJ'
        exact ih V O' nm lw' ah op pa ond' d nd w' fl' fh' pl' ph' number low' onS' opn path ahead todo' hI' hA' hJ' hV (by unfold t_mu at hmu ⊢; omega)
      · have tN : ah (pa d) < N := by omega
        have hmu2 := t_mu_adv (dp := d + 1) vs sN rfl tN
        have adv : ∀ (lw' : Nat → Nat) (low' : Nat → Int32), (∀ x, x ≠ pa d → lw' x = lw x) → lw' (pa d) ≤ lw (pa d) → (∃ w, O w ∧ nm w = lw' (pa d) ∧ p_r St T (pa d) w) → (T (ah (pa d)) → St (pa d) (ah (pa d)) → V (ah (pa d))) → (T (ah (pa d)) → St (pa d) (ah (pa d)) → O (ah (pa d)) → lw' (pa d) ≤ nm (ah (pa d))) → (∀ x, x < N → V x → low' x = nI (lw' x)) →
            wX_walk_10 post lo hi n f_made (nI N) f_initial f_reached f_deepest f_options0 f_options1 (nI ond) (nI (d + 1)) (nI nd) (nI w) fl fh pl ph f_withLow f_withHigh f_traced f_failures f_backLow f_backHigh a_sizes a_list a_length a_there a_how a_fairness a_stack a_val a_goes a_steps a_guards a_enabled a_depth number low' onStack opn path (upd ahead (pa d) (nI (ah (pa d) + 1))) todo a_shown a_failed := by
          intro lw' low' q1 q2 q3 q4 q5 q6
          refine ih V O nm lw' _ op pa ond (d + 1) nd w fl fh pl ph number low' onStack opn path _ todo (t_adv hI (i0 := d) (by omega) rfl tN q1 q2 q3 q4 q5) ⟨a1, q6, a3, a4, a5, fun x hx hv => ?_⟩ hJ hV (by omega)
          by_cases c : x = pa d
          · rw [c, pk_us, fu_s]; exact ⟨rfl, by omega⟩
          · rw [pk_un c, fu_n c]; exact a6 x hx hv
        have same : (T (ah (pa d)) → St (pa d) (ah (pa d)) → V (ah (pa d))) → (T (ah (pa d)) → St (pa d) (ah (pa d)) → O (ah (pa d)) → lw (pa d) ≤ nm (ah (pa d))) → wX_walk_10 post lo hi n f_made (nI N) f_initial f_reached f_deepest f_options0 f_options1 (nI ond) (nI (d + 1)) (nI nd) (nI w) fl fh pl ph f_withLow f_withHigh f_traced f_failures f_backLow f_backHigh a_sizes a_list a_length a_there a_how a_fairness a_stack a_val a_goes a_steps a_guards a_enabled a_depth number low onStack opn path (upd ahead (pa d) (nI (ah (pa d) + 1))) todo a_shown a_failed :=
          fun q4 q5 => adv lw low (fun _ _ => rfl) (Nat.le_refl _) (hI.2.2.2.2.2.2.2.1 _ op0).2 q4 q5 a2
        have i2 : (2 : Int32) * nI (pa d) = nI (2 * pa d) := pk_mul 2 _
        have v2 : vp_in (2 * nI (pa d)) 250 := by rw [i2]; exact vp_in_nI (by omega) (by omega)
        have v21 : vp_in (2 * nI (pa d) + 1) 250 := by rw [i2, nI_1]; exact vp_in_nI (by omega) (by omega)
        have es : ∀ t, aS a_steps (2 * pa d) t = iS (a_steps (2 * nI (pa d)).toNatClampNeg) (a_steps (2 * nI (pa d) + 1).toNatClampNeg) t := by
          intro t; rw [i2, nI_1, nI_clamp (by omega), nI_clamp (by omega)]; rfl
        refine ⟨v1, v1, nm_r (e' := upd ahead (pa d) (nI (ah (pa d) + 1))) (by rw [cs, ahe, nI_1, n16v (by omega)]) (x_has (by omega) (fun hh => br_f (by decide) ⟨v2, v21, x_has (by omega) (fun hs => br_f (by decide) ?_) (fun hs => br_t rfl ?_)⟩) (fun hh => br_t rfl ?_))⟩
        · have tT := (hset _).mp hh
          rw [← es] at hs
          have stt := (hst _ sN _).mp hs
          have vt : vp_in (nI (ah (pa d))) 125 := vp_in_nI (by omega) (by omega)
          have ct : (nI (ah (pa d))).toNatClampNeg = ah (pa d) := nI_clamp (by omega)
          unfold wX_walk_125
          refine br_f (by decide) ⟨vt, ?_⟩
          rw [ct]
          by_cases hvt : V (ah (pa d))
          · have en' := (a1 _ tN).1 hvt
            have hnm := hI.2.2.1.2 _ hvt
            rw [en']
            refine br_t (nI_pos' (by omega)) ?_
            unfold wX_walk_151
            refine br_f (by decide) ⟨vt, ?_⟩
            rw [ct, cs]
            by_cases hot : O (ah (pa d))
            · rw [(a3 _ tN).1 hot, en', a2 _ sN vs]
              have hlw := (hI.2.2.2.2.2.2.2.1 _ op0).1
              have hnms := hI.2.2.1.2 _ vs
              refine br_f (by decide) ⟨vt, v1, pk_le (lw (pa d)) (nm (ah (pa d))) (fun hl => same (fun _ _ => hvt) (fun _ _ _ => hl)) (fun hl => ⟨vt, v1, nm_r (e' := upd low (pa d) (nI (nm (ah (pa d))))) (by rw [n16w (by omega)]) (adv (fu lw (pa d) (nm (ah (pa d)))) _ (fun x hx => fu_n hx) (by rw [fu_s]; omega) ⟨_, hot, by rw [fu_s], p_step (hVT _ vs) tT stt⟩ (fun _ _ => hvt) (fun _ _ _ => by rw [fu_s]; exact Nat.le_refl _) (fun x hx hv => ?_))⟩)⟩
              by_cases c : x = pa d
              · rw [c, pk_us, fu_s]
              · rw [pk_un c, fu_n c]; exact a2 x hx hv
            · rw [(a3 _ tN).2 hot]
              exact br_t rfl (same (fun _ _ => hvt) (fun _ _ q => absurd q hot))
          · rw [(a1 _ tN).2 hvt]
            refine br_f (by decide) ?_
            obtain ⟨hndN, hI2⟩ := t_enter hT hI tT hvt (fun _ => by rw [Nat.add_sub_cancel]; exact stt)
            have hne : ah (pa d) ≠ pa d := fun e => hvt (by rw [e]; exact vs)
            have hA2 : t_A N V O nm lw (fu ah (pa d) (ah (pa d) + 1)) op pa ond (d + 1) number low onStack opn path (upd ahead (pa d) (nI (ah (pa d) + 1))) := ⟨a1, a2, a3, a4, a5, fun x hx hv => by
              by_cases c : x = pa d
              · rw [c, pk_us, fu_s]; exact ⟨rfl, by omega⟩
              · rw [pk_un c, fu_n c]; exact a6 x hx hv⟩
            refine x_enter hN tN hndN hle.1 hle.2 rfl rfl rfl hA2 (fun number' low' onS' opn' path' ahead' hA3 => ?_)
            have pd : fu pa (d + 1) (ah (pa d)) d = pa d := fu_n (by omega)
            have hI3 := t_adv hI2 (i0 := d) (t := ah (pa d)) (lw' := fu lw (ah (pa d)) nd) (by omega) (by rw [pd, fu_n (fun e => hne e.symm)]) tN (fun _ _ => rfl) (Nat.le_refl _)
              (by
                obtain ⟨w0, x1, x2, x3⟩ := (hI2.2.2.2.2.2.2.2.1 (pa d) (Or.inl op0)).2
                rw [pd]; exact ⟨w0, x1, x2, x3⟩) (fun _ _ => Or.inr rfl) (fun _ _ _ => by
                rw [pd, fu_s, fu_n (fun e => hne e.symm)]
                have x1 := (hI.2.2.2.2.2.2.2.1 _ op0).1
                have x2 := hI.2.2.1.2 _ vs
                omega)
            have ea : fu (fu ah (ah (pa d)) 0) (fu pa (d + 1) (ah (pa d)) d) (ah (pa d) + 1) = fu (fu ah (pa d) (ah (pa d) + 1)) (ah (pa d)) 0 := by
              rw [pd]
              funext x
              by_cases c1 : x = pa d
              · rw [c1, fu_s, fu_n (fun e => hne e.symm), fu_s]
              · rw [fu_n c1]
                by_cases c2 : x = ah (pa d)
                · rw [c2, fu_s, fu_s]
                · rw [fu_n c2, fu_n c2, fu_n c1]
            rw [ea] at hI3
            refine ih _ _ _ _ _ _ _ _ _ _ w fl fh pl ph number' low' onS' opn' path' ahead' todo hI3 hA3 (j_c hJ (fun x => Iff.rfl) (fun x hx => ⟨fun q => ⟨Or.inl q.1, fun z => z.elim q.2 (fun e => hvt (by rw [← e]; exact q.1))⟩, fun q => ?_⟩) (fun i x _ => Iff.rfl)) (fun x hx => Or.inl (hV x hx)) ?_
            · have : x ≠ ah (pa d) := fun e => q.2 (Or.inr e)
              exact ⟨q.1.elim id (fun e => absurd e this), fun z => q.2 (Or.inl z)⟩
            · have := t_mu_ent (N := N) (V := V) (ah := fu ah (pa d) (ah (pa d) + 1)) (dp := d + 1) hvt tN
              omega
        · rw [← es] at hs
          unfold wX_walk_124 wX_walk_125
          refine br_t rfl ?_
          unfold wX_walk_151
          exact br_t rfl (same (fun _ q => absurd ((hst _ sN _).mpr q) hs) (fun _ q => absurd ((hst _ sN _).mpr q) hs))
        · unfold wX_walk_124 wX_walk_125
          refine br_t rfl ?_
          unfold wX_walk_151
          exact br_t rfl (same (fun q => absurd ((hset _).mpr q) hh) (fun q => absurd ((hset _).mpr q) hh))
theorem x_split_47 {post : SX → Prop} (hN : N ≤ 125) (hM : M ≤ 125) (hS : ∀ s t, St s t → t < N) (hT : ∀ s, T s → s < N) (hfr : ∀ a, a < 4 → a_fairness a = 0 ∨ a_fairness a = 1 ∨ a_fairness a = 2)
    (hg : ∀ s, s < N → ∀ b, b < 4 → ∀ t, aS a_goes (8 * s + 2 * b) t ↔ go b s t) (hen : ∀ s, s < N → mb (a_enabled s) (fun i => en i s)) (hst : ∀ s, s < N → ∀ t, aS a_steps (2 * s) t ↔ St s t) (hset : ∀ t, iS lo hi t ↔ T t)
    (H : ∀ (fo fd fn : Int32) (w : Nat) (fl fh pl ph : Int64) (number low onStack opn path ahead : Nat → Int32) (todo : Nat → Int64), o_I N St go en a_there a_fairness W (iS fl fh) (fun i => aS todo (2 * i)) w M →
      post (f_made, nI N, f_initial, f_reached, f_deepest, f_options0, f_options1, fo, fd, fn, nI w, fl, fh, pl, ph, f_withLow, f_withHigh, f_traced, f_failures, f_backLow, f_backHigh, a_sizes, a_list, a_length, a_there, a_how, a_fairness, a_stack, a_val, a_goes, a_steps, a_guards, a_enabled, a_depth, number, low, onStack, opn, path, ahead, todo, a_shown, a_failed)) :
    ∀ (n s : Nat), s ≤ N → N - s < n → ∀ (V O : Nat → Prop) (nm lw ah op pa : Nat → Nat) (ond nd w : Nat) (fd : Int32) (fl fh pl ph : Int64) (number low onStack opn path ahead : Nat → Int32) (todo : Nat → Int64), t_I N St T V O nm lw ah op pa ond 0 nd → t_A N V O nm lw ah op pa ond 0 number low onStack opn path ahead →
      j_I N St go en a_there a_fairness W (iS fl fh) T (fun x => V x ∧ ¬ O x) (fun i => aS todo (2 * i)) w M → (∀ x, x < s → T x → V x) →
      wX_split_47 post lo hi n (nI s) f_made (nI N) f_initial f_reached f_deepest f_options0 f_options1 (nI ond) fd (nI nd) (nI w) fl fh pl ph f_withLow f_withHigh f_traced f_failures f_backLow f_backHigh a_sizes a_list a_length a_there a_how a_fairness a_stack a_val a_goes a_steps a_guards a_enabled a_depth number low onStack opn path ahead todo a_shown a_failed := by
  intro n
  induction n with
  | zero => intro s _ h; omega
  | succ n ih =>
    intro s hs hn V O nm lw ah op pa ond nd w fd fl fh pl ph number low onStack opn path ahead todo hI hA hJ hV
    refine pk_le N s (fun h => ?_) (fun h => ?_)
    · refine H _ fd _ w fl fh pl ph number low onStack opn path ahead todo (j_end hJ fun x hx => ⟨hV x (by have := hT x hx; omega) hx, fun ho => ?_⟩)
      exact absurd (hI.2.2.2.2.2.2.2.2.2.2 x ho).1 (Nat.lt_irrefl _)
    · have nx : (T s → V s) → wX_split_47 post lo hi n (nI (s + 1)) f_made (nI N) f_initial f_reached f_deepest f_options0 f_options1 (nI ond) fd (nI nd) (nI w) fl fh pl ph f_withLow f_withHigh f_traced f_failures f_backLow f_backHigh a_sizes a_list a_length a_there a_how a_fairness a_stack a_val a_goes a_steps a_guards a_enabled a_depth number low onStack opn path ahead todo a_shown a_failed := by
        intro hc
        refine ih (s + 1) (by omega) (by omega) V O nm lw ah op pa ond nd w fd fl fh pl ph number low onStack opn path ahead todo hI hA hJ fun x hx hT' => ?_
        by_cases c : x = s
        · rw [c] at hT' ⊢; exact hc hT'
        · exact hV x (by omega) hT'
      refine x_has (by omega) (fun hh => br_f (by decide) ⟨vp_in_nI (by omega) (by omega), ?_⟩) (fun hh => br_t rfl (nm_r (nI_1 s) (nx fun q => absurd ((hset s).mpr q) hh)))
      have tT := (hset s).mp hh
      rw [nI_clamp (by omega)]
      by_cases hv : V s
      · have hnm := hI.2.2.1.2 _ hv
        have hnd : nd ≤ N := by rw [hI.2.2.1.1]; exact cn_le _ _
        rw [(hA.1 s h).1 hv]
        exact br_t (nI_pos' (by omega)) (nm_r (nI_1 s) (nx fun _ => hv))
      · rw [(hA.1 s h).2 hv]
        refine br_f (by decide) ?_
        obtain ⟨hndN, hI2⟩ := t_enter hT hI tT hv (fun q => absurd q (Nat.lt_irrefl _))
        have hle := t_le hI hT
        unfold wpX_walk
        refine x_enter (dp := 0) hN h hndN hle.1 hle.2 rfl rfl rfl hA (fun number' low' onS' opn' path' ahead' hA3 => ?_)
        refine ⟨t_mu N (fun x => V x ∨ x = s) (fu ah s 0) (0 + 1) + 1, x_walk_10 (V0 := fun x => V x ∨ x = s) hN hM hS hT hfr hg hen hst hset ?_ _ _ _ _ _ _ _ _ _ _ _ w fl fh pl ph number' low' onS' opn' path' ahead' todo hI2 hA3 (j_c hJ (fun x => Iff.rfl) (fun x hx => ⟨fun q => ⟨Or.inl q.1, fun z => z.elim q.2 (fun e => hv (e ▸ q.1))⟩, fun q => ?_⟩) (fun i x _ => Iff.rfl)) (fun _ q => q) (Nat.lt_succ_self _)⟩
        · intro V2 O2 nm2 lw2 ah2 op2 pa2 ond2 nd2 w2 fl2 fh2 pl2 ph2 number2 low2 onS2 opn2 path2 ahead2 todo2 hI4 hA4 hJ4 hV4
          refine nm_r (nI_1 s) (ih (s + 1) (by omega) (by omega) V2 O2 nm2 lw2 ah2 op2 pa2 ond2 nd2 w2 _ fl2 fh2 pl2 ph2 number2 low2 onS2 opn2 path2 ahead2 todo2 hI4 hA4 hJ4 fun x hx hT' => ?_)
          by_cases c : x = s
          · exact hV4 x (Or.inr c)
          · exact hV4 x (Or.inl (hV x (by omega) hT'))
        · have : x ≠ s := fun e => q.2 (Or.inr e)
          exact ⟨q.1.elim id (fun e => absurd e this), fun z => q.2 (Or.inl z)⟩
theorem x_split {post : SX → Prop} {w : Nat} (hN : N ≤ 125) (hM : M ≤ 125) (hS : ∀ s t, St s t → t < N) (hT : ∀ s, T s → s < N) (hfr : ∀ a, a < 4 → a_fairness a = 0 ∨ a_fairness a = 1 ∨ a_fairness a = 2)
    (hg : ∀ s, s < N → ∀ b, b < 4 → ∀ t, aS a_goes (8 * s + 2 * b) t ↔ go b s t) (hen : ∀ s, s < N → mb (a_enabled s) (fun i => en i s)) (hst : ∀ s, s < N → ∀ t, aS a_steps (2 * s) t ↔ St s t) (hset : ∀ t, iS lo hi t ↔ T t)
    (hJ : j_I N St go en a_there a_fairness W (iS f_fairLow f_fairHigh) T (fun _ => False) (fun i => aS a_todo (2 * i)) w M) (ew : f_waiting = nI w)
    (H : ∀ (fo fd fn : Int32) (w : Nat) (fl fh pl ph : Int64) (number low onStack opn path ahead : Nat → Int32) (todo : Nat → Int64), o_I N St go en a_there a_fairness W (iS fl fh) (fun i => aS todo (2 * i)) w M →
      post (f_made, nI N, f_initial, f_reached, f_deepest, f_options0, f_options1, fo, fd, fn, nI w, fl, fh, pl, ph, f_withLow, f_withHigh, f_traced, f_failures, f_backLow, f_backHigh, a_sizes, a_list, a_length, a_there, a_how, a_fairness, a_stack, a_val, a_goes, a_steps, a_guards, a_enabled, a_depth, number, low, onStack, opn, path, ahead, todo, a_shown, a_failed)) :
    wpX_split post (f_made, nI N, f_initial, f_reached, f_deepest, f_options0, f_options1, f_opened, f_depthOf, f_numbered, f_waiting, f_fairLow, f_fairHigh, f_partLow, f_partHigh, f_withLow, f_withHigh, f_traced, f_failures, f_backLow, f_backHigh, a_sizes, a_list, a_length, a_there, a_how, a_fairness, a_stack, a_val, a_goes, a_steps, a_guards, a_enabled, a_depth, a_number, a_low, a_onStack, a_open, a_path, a_ahead, a_todo, a_shown, a_failed) lo hi := by
  subst ew
  have key : ∀ n s, s ≤ N → N - s < n → ∀ number onStack : Nat → Int32, (∀ x, x < s → number x = -1 ∧ onStack x = 0) → wX_split_3 post lo hi f_made (nI N) f_initial f_reached f_deepest f_options0 f_options1 f_opened f_depthOf f_numbered (nI w) f_fairLow f_fairHigh f_partLow f_partHigh f_withLow f_withHigh f_traced f_failures f_backLow f_backHigh n (nI s) a_sizes a_list a_length a_there a_how a_fairness a_stack a_val a_goes a_steps a_guards a_enabled a_depth number a_low onStack a_open a_path a_ahead a_todo a_shown a_failed := by
    intro n
    induction n with
    | zero => intro s _ h; omega
    | succ n ih =>
      intro s hs hn number onStack h0
      refine pk_le N s (fun h => ?_) (fun h => ?_)
      · refine ⟨N + 1, x_split_47 (T := T) hN hM hS hT hfr hg hen hst hset H (N + 1) 0 (Nat.zero_le _) (by omega) (fun _ => False) (fun _ => False) (fun _ => 0) (fun _ => 0) (fun _ => 0) (fun _ => 0) (fun _ => 0) 0 0 w f_depthOf _ _ _ _ number a_low onStack a_open a_path a_ahead a_todo t_0 ?_ (j_c hJ (fun _ => Iff.rfl) (fun _ _ => ⟨fun q => q.elim, fun q => q.1⟩) (fun _ _ _ => Iff.rfl)) (fun x hx => absurd hx (Nat.not_lt_zero _))⟩
        exact ⟨fun x hx => ⟨fun q => q.elim, fun _ => (h0 x (by omega)).1⟩, fun x hx q => q.elim, fun x hx => ⟨fun q => q.elim, fun _ => (h0 x (by omega)).2⟩, fun i hi => absurd hi (Nat.not_lt_zero _), fun i hi => absurd hi (Nat.not_lt_zero _), fun x hx q => q.elim⟩
      · have v1 : vp_in (nI s) 125 := vp_in_nI (by omega) (by omega)
        have cs : (nI s).toNatClampNeg = s := nI_clamp (by omega)
        have nm1 : vp_nar .short (-1) = -1 := by rw [vp_nar_short]; decide
        refine ⟨v1, nm_r (e' := upd number s (-1)) (by rw [cs, nm1]) ⟨v1, nm_r (e' := upd onStack s 0) (by rw [cs, nb0]) (nm_r (nI_1 s) (ih (s + 1) (by omega) (by omega) _ _ fun x hx => ?_))⟩⟩
        by_cases c : x = s
        · rw [c, pk_us, pk_us]; exact ⟨rfl, rfl⟩
        · rw [pk_un c, pk_un c]; exact h0 x (by omega)
  exact ⟨N + 1, key _ 0 (Nat.zero_le _) (by omega) a_number a_onStack fun x hx => absurd hx (Nat.not_lt_zero _)⟩
end Xs
end
section
/-! X: fails -/
/-- the list of failing states: fl of them, in order -/
def fl_A (N : Nat) (Q : Nat → Prop) (fl : Nat) (fd : Nat → Int32) : Prop := fl = cn Q N ∧ ∀ s, s < N → Q s → fd (cn Q s) = nI s
theorem cn_at {Q : Nat → Prop} : ∀ {N k : Nat}, k < cn Q N → ∃ s, s < N ∧ Q s ∧ cn Q s = k
  | 0, k, h => absurd h (Nat.not_lt_zero _)
  | N + 1, k, h => by
    have h : k < cn Q N + b01 (Q N) := h
    by_cases c : k < cn Q N
    · obtain ⟨s, a, b⟩ := cn_at c
      exact ⟨s, by omega, b⟩
    · by_cases q : Q N
      · rw [b01_t q] at h
        exact ⟨N, by omega, q, by omega⟩
      · rw [b01_f q] at h; omega
theorem fl_A_u {N : Nat} {Q Q' : Nat → Prop} {fl fl' : Nat} {fd fd' : Nat → Int32} (e : ∀ s, s < N → (Q s ↔ Q' s)) (h : fl_A N Q fl fd) (h' : fl_A N Q' fl' fd') : fl = fl' ∧ ∀ k, k < fl → fd k = fd' k := by
  have ec : ∀ s, s ≤ N → cn Q s = cn Q' s := fun s hs => cn_eq fun k hk => e k (by omega)
  refine ⟨by rw [h.1, h'.1, ec N (Nat.le_refl _)], fun k hk => ?_⟩
  rw [h.1] at hk
  obtain ⟨s, hs, q, ek⟩ := cn_at hk
  rw [← ek, h.2 s hs q, ec s (by omega), h'.2 s hs ((e s hs).mp q)]
section Xf
variable {f_made f_states f_initial f_reached f_deepest f_options0 f_options1 f_opened f_depthOf f_numbered f_waiting f_traced f_failures : Int32} {f_fairLow f_fairHigh f_partLow f_partHigh f_withLow f_withHigh f_backLow f_backHigh : Int64} {a_sizes a_list a_length a_there a_how a_fairness a_stack a_val a_guards a_enabled a_depth a_number a_low a_onStack a_open a_path a_ahead a_shown a_failed : Nat → Int32} {a_goes a_steps a_todo : Nat → Int64}
variable {z : Nat → Nat} {tk : Nat → Nat → Nat} {ln : Nat → Nat} {St : Nat → Nat → Prop} {go : Nat → Nat → Nat → Prop} {en : Nat → Nat → Prop} {F0 Q : Nat → Prop} {N : Nat}
theorem x_sb_15 {post : SX → Prop} {J2 : Int32 → Int64 → Int64 → Prop} {Fst : Nat → Prop} (hN : N ≤ 125) (hst : ∀ s, s < N → ∀ t, aS a_steps (2 * s) t ↔ St s t) (hWN : ∀ s, iS f_withLow f_withHigh s → s < N)
    (HJ0 : ∀ fl fh : Int64, (∀ s, iS fl fh s ↔ Fst s) → (∀ s t, iS f_withLow f_withHigh s → iS fl fh t → St s t → iS fl fh s) → J2 0 fl fh)
    (HJ1 : ∀ fl fh : Int64, (∀ s, Fst s → iS fl fh s) → (∀ s, iS fl fh s → f_c St (iS f_withLow f_withHigh) F0 s) → cn Fst N < cn (iS fl fh) N → J2 1 fl fh) :
    ∀ n k, k ≤ N → k < n → ∀ (x1 : Int32) (fl fh : Int64), (∀ s, Fst s → iS fl fh s) → (∀ s, iS fl fh s → f_c St (iS f_withLow f_withHigh) F0 s) →
      ((x1 = 0 ∧ (∀ s, iS fl fh s ↔ Fst s) ∧ ∀ s, k ≤ s → iS f_withLow f_withHigh s → ¬ iS fl fh s → ∀ t, St s t → ¬ iS fl fh t) ∨ (x1 = 1 ∧ cn Fst N < cn (iS fl fh) N)) →
      wX_spreadBack_15 post J2 f_made (nI N) f_initial f_reached f_deepest f_options0 f_options1 f_opened f_depthOf f_numbered f_waiting f_partLow f_partHigh f_withLow f_withHigh f_traced f_failures f_backLow f_backHigh a_sizes a_list a_length a_there a_how a_fairness a_stack a_val a_goes a_steps a_guards a_enabled a_depth a_number a_low a_onStack a_open a_path a_ahead a_todo a_shown a_failed n x1 (nI k + (-1)) fl fh := by
  intro n
  induction n with
  | zero => intro k _ h; omega
  | succ n ih =>
    intro k hk hn x1 fl fh h1 h2 h3
    rcases Nat.eq_zero_or_pos k with c | c
    · subst c
      have e : nI 0 + (-1) = -1 := by decide
      rw [e]
      refine br_t (by decide) ?_
      rcases h3 with ⟨rfl, a, b⟩ | ⟨rfl, a⟩
      · exact HJ0 fl fh a fun s t hw ht hs => Classical.byContradiction fun q => b s (Nat.zero_le _) hw q t hs ht
      · exact HJ1 fl fh h1 h2 a
    · obtain ⟨s, rfl⟩ : ∃ s, k = s + 1 := ⟨k - 1, by omega⟩
      rw [pk_m1 s]
      have skip : (iS f_withLow f_withHigh s → ¬ iS fl fh s → ∀ t, St s t → ¬ iS fl fh t) → wX_spreadBack_93 post J2 (wX_spreadBack_15 post J2 f_made (nI N) f_initial f_reached f_deepest f_options0 f_options1 f_opened f_depthOf f_numbered f_waiting f_partLow f_partHigh f_withLow f_withHigh f_traced f_failures f_backLow f_backHigh a_sizes a_list a_length a_there a_how a_fairness a_stack a_val a_goes a_steps a_guards a_enabled a_depth a_number a_low a_onStack a_open a_path a_ahead a_todo a_shown a_failed n) x1 (nI s) f_made (nI N) f_initial f_reached f_deepest f_options0 f_options1 f_opened f_depthOf f_numbered f_waiting fl fh f_partLow f_partHigh f_withLow f_withHigh f_traced f_failures f_backLow f_backHigh a_sizes a_list a_length a_there a_how a_fairness a_stack a_val a_goes a_steps a_guards a_enabled a_depth a_number a_low a_onStack a_open a_path a_ahead a_todo a_shown a_failed := by
        intro hc
        unfold wX_spreadBack_93 wX_spreadBack_94
        refine br_t rfl (nm_e (ih s (by omega) (by omega) x1 fl fh h1 h2 ?_))
        rcases h3 with ⟨e, a, b⟩ | q
        · refine Or.inl ⟨e, a, fun s' hs' => ?_⟩
          by_cases c : s' = s
          · rw [c]; exact hc
          · exact b s' (by omega)
        · exact Or.inr q
      have take : iS f_withLow f_withHigh s → ¬ iS fl fh s → (∃ t, St s t ∧ iS fl fh t) → wX_spreadBack_89 post J2 (wX_spreadBack_15 post J2 f_made (nI N) f_initial f_reached f_deepest f_options0 f_options1 f_opened f_depthOf f_numbered f_waiting f_partLow f_partHigh f_withLow f_withHigh f_traced f_failures f_backLow f_backHigh a_sizes a_list a_length a_there a_how a_fairness a_stack a_val a_goes a_steps a_guards a_enabled a_depth a_number a_low a_onStack a_open a_path a_ahead a_todo a_shown a_failed n) x1 (nI s) f_made (nI N) f_initial f_reached f_deepest f_options0 f_options1 f_opened f_depthOf f_numbered f_waiting fl fh f_partLow f_partHigh f_withLow f_withHigh f_traced f_failures f_backLow f_backHigh a_sizes a_list a_length a_there a_how a_fairness a_stack a_val a_goes a_steps a_guards a_enabled a_depth a_number a_low a_onStack a_open a_path a_ahead a_todo a_shown a_failed := by
        intro hw hnf ⟨t, hst', ht⟩
        have go1 : ∀ fl' fh' : Int64, (∀ x, iS fl' fh' x ↔ iS fl fh x ∨ x = s) → wX_spreadBack_15 post J2 f_made (nI N) f_initial f_reached f_deepest f_options0 f_options1 f_opened f_depthOf f_numbered f_waiting f_partLow f_partHigh f_withLow f_withHigh f_traced f_failures f_backLow f_backHigh a_sizes a_list a_length a_there a_how a_fairness a_stack a_val a_goes a_steps a_guards a_enabled a_depth a_number a_low a_onStack a_open a_path a_ahead a_todo a_shown a_failed n 1 (nI s + (-1)) fl' fh' := by
          intro fl' fh' hb
          refine ih s (by omega) (by omega) 1 fl' fh' (fun x hx => (hb x).mpr (Or.inl (h1 x hx))) (fun x hx => ?_) (Or.inr ⟨rfl, ?_⟩)
          · rcases (hb x).mp hx with q | q
            · exact h2 x q
            · rw [q]; exact f_c_s (h2 t ht) hw hst'
          · have hlt := cn_lt (P := iS fl fh) (Q := iS fl' fh') (a := s) (N := N) hnf ((hb s).mpr (Or.inr rfl)) (fun x _ q => (hb x).mpr (Or.inl q)) (hWN s hw)
            have hle : cn Fst N ≤ cn (iS fl fh) N := cn_mono fun x _ q => h1 x q
            omega
        unfold wX_spreadBack_89 wX_spreadBack_94
        exact br_f (by decide) (pk_le 64 s (fun h64 => nm_e (nm_e (go1 _ _ fun x => iS_ph h64 (by omega)))) (fun h64 => nm_e (nm_e (go1 _ _ fun x => iS_pl h64))))
      have i2 : (2 : Int32) * nI s = nI (2 * s) := pk_mul 2 s
      have v2 : vp_in (2 * nI s) 250 := by rw [i2]; exact vp_in_nI (by omega) (by omega)
      have v21 : vp_in (2 * nI s + 1) 250 := by rw [i2, nI_1]; exact vp_in_nI (by omega) (by omega)
      have c2 : (2 * nI s).toNatClampNeg = 2 * s := by rw [i2, nI_clamp (by omega)]
      have c21 : (2 * nI s + 1).toNatClampNeg = 2 * s + 1 := by rw [i2, nI_1, nI_clamp (by omega)]
      have ex : (¬ (a_steps (2 * s) &&& fl) = 0 ∨ ¬ (a_steps (2 * s + 1) &&& fh) = 0) ↔ ∃ t, St s t ∧ iS fl fh t := by
        rw [iS_ex]
        exact ⟨fun ⟨t, q⟩ => ⟨t, (hst s (by omega) t).mp (iS_and.mp q).1, (iS_and.mp q).2⟩, fun ⟨t, q, r⟩ => ⟨t, iS_and.mpr ⟨(hst s (by omega) t).mpr q, r⟩⟩⟩
      refine br_f (nI_pos (by omega)) (x_has (by omega) (fun hw => br_f (by decide) (x_has (by omega) (fun hf => br_f (by decide) (skip fun _ q => absurd hf q)) (fun hf => br_t rfl ⟨v2, ?_⟩))) (fun hw => br_t rfl (skip fun q => absurd q hw)))
      rw [c2, c21]
      refine br_c (fun e => ⟨v21, br_c (fun e2 => skip fun _ _ t q r => ?_) (fun e2 => take hw hf (ex.mp (Or.inr e2)))⟩) (fun e => take hw hf (ex.mp (Or.inl e)))
      exact (ex.mpr ⟨t, q, r⟩).elim (fun x => x e) (fun x => x e2)
theorem x_spreadBack {post : SX → Prop} (hN : N ≤ 125) (hst : ∀ s, s < N → ∀ t, aS a_steps (2 * s) t ↔ St s t) (hWN : ∀ s, iS f_withLow f_withHigh s → s < N) (hF : ∀ s, iS f_fairLow f_fairHigh s ↔ F0 s) (hFW : ∀ s, F0 s → iS f_withLow f_withHigh s)
    (H : ∀ fl fh : Int64, (∀ s, iS fl fh s ↔ f_c St (iS f_withLow f_withHigh) F0 s) → post (f_made, nI N, f_initial, f_reached, f_deepest, f_options0, f_options1, f_opened, f_depthOf, f_numbered, f_waiting, fl, fh, f_partLow, f_partHigh, f_withLow, f_withHigh, f_traced, f_failures, f_backLow, f_backHigh, a_sizes, a_list, a_length, a_there, a_how, a_fairness, a_stack, a_val, a_goes, a_steps, a_guards, a_enabled, a_depth, a_number, a_low, a_onStack, a_open, a_path, a_ahead, a_todo, a_shown, a_failed)) : wpX_spreadBack post (f_made, nI N, f_initial, f_reached, f_deepest, f_options0, f_options1, f_opened, f_depthOf, f_numbered, f_waiting, f_fairLow, f_fairHigh, f_partLow, f_partHigh, f_withLow, f_withHigh, f_traced, f_failures, f_backLow, f_backHigh, a_sizes, a_list, a_length, a_there, a_how, a_fairness, a_stack, a_val, a_goes, a_steps, a_guards, a_enabled, a_depth, a_number, a_low, a_onStack, a_open, a_path, a_ahead, a_todo, a_shown, a_failed) := by
  have key : ∀ n (fl fh : Int64), (∀ s, F0 s → iS fl fh s) → (∀ s, iS fl fh s → f_c St (iS f_withLow f_withHigh) F0 s) → N + 1 - cn (iS fl fh) N < n → wX_spreadBack_2 post f_made (nI N) f_initial f_reached f_deepest f_options0 f_options1 f_opened f_depthOf f_numbered f_waiting f_partLow f_partHigh f_withLow f_withHigh f_traced f_failures f_backLow f_backHigh a_sizes a_list a_length a_there a_how a_fairness a_stack a_val a_goes a_steps a_guards a_enabled a_depth a_number a_low a_onStack a_open a_path a_ahead a_todo a_shown a_failed n 1 fl fh := by
    intro n
    induction n with
    | zero => intro fl fh _ _ h; omega
    | succ n ih =>
      intro fl fh h1 h2 hn
      have hcl := cn_le (iS fl fh) N
      obtain ⟨m, rfl⟩ : ∃ m, n = m + 1 := ⟨n - 1, by omega⟩
      refine br_f (by decide) (nm_r (e' := nI N + (-1)) (Int32.sub_eq_add_neg _ _) ⟨N + 1, x_sb_15 (F0 := F0) (Fst := iS fl fh) hN hst hWN (fun fl' fh' e hc => ?_) (fun fl' fh' e hc hlt => ?_) (N + 1) N (Nat.le_refl _) (by omega) 0 fl fh (fun _ q => q) h2 (Or.inl ⟨rfl, fun _ => Iff.rfl, fun s hs hw => absurd (hWN s hw) (by omega)⟩)⟩)
      · refine br_t rfl (H fl' fh' fun s => f_back (fun x hx => (e x).mpr (h1 x hx)) (fun x hx => h2 x ((e x).mp hx)) (fun x y hw hy hs => hc x y hw hy hs) s)
      · exact ih fl' fh' (fun x hx => e x (h1 x hx)) hc (by omega)
  exact ⟨N + 2, key _ f_fairLow f_fairHigh (fun s hs => (hF s).mpr hs) (fun s hs => f_c_0 ((hF s).mp hs) (hFW s ((hF s).mp hs))) (by omega)⟩
/-- the list of failing states -/
theorem x_fails_181 {post : Int32 → SX → Prop} {I : Nat → Prop} (hz : s_Z z) (hsz : ∀ v, v < 3 → a_sizes v = nI (z v)) (hL : r_L tk ln a_list a_length) (hT : r_Tk tk ln) (hw17 : ln 17 = 0 ∨ e_wh (tk 17) (ln 17)) (hd : d_OK I St (s_N z) a_depth)
    (hQ : ∀ s, s < s_N z → (Q s ↔ g_Rd I St s ∧ iS f_fairLow f_fairHigh s ∧ s_E z tk ln 17 s ≠ 0))
    (H : ∀ (fl : Nat) (a_val a_stack fd : Nat → Int32), fl_A (s_N z) Q fl fd → post (nI fl) (f_made, nI (s_N z), f_initial, f_reached, f_deepest, f_options0, f_options1, f_opened, f_depthOf, f_numbered, f_waiting, f_fairLow, f_fairHigh, f_partLow, f_partHigh, f_withLow, f_withHigh, f_traced, nI fl, f_backLow, f_backHigh, a_sizes, a_list, a_length, a_there, a_how, a_fairness, a_stack, a_val, a_goes, a_steps, a_guards, a_enabled, a_depth, a_number, a_low, a_onStack, a_open, a_path, a_ahead, a_todo, a_shown, fd)) :
    ∀ n s, s ≤ s_N z → s_N z - s < n → ∀ (a_val a_stack fd : Nat → Int32), (∀ t, t < s → Q t → fd (cn Q t) = nI t) → wX_fails_181 post n (nI s) f_made (nI (s_N z)) f_initial f_reached f_deepest f_options0 f_options1 f_opened f_depthOf f_numbered f_waiting f_fairLow f_fairHigh f_partLow f_partHigh f_withLow f_withHigh f_traced (nI (cn Q s)) f_backLow f_backHigh a_sizes a_list a_length a_there a_how a_fairness a_stack a_val a_goes a_steps a_guards a_enabled a_depth a_number a_low a_onStack a_open a_path a_ahead a_todo a_shown fd := by
  have hN := s_N_le hz
  intro n
  induction n with
  | zero => intro s _ h; omega
  | succ n ih =>
    intro s hs hn a_val a_stack fd hf
    refine pk_le (s_N z) s (fun h => ?_) (fun h => ?_)
    · have es : s = s_N z := by omega
      subst es
      exact H _ a_val a_stack fd ⟨rfl, hf⟩
    · have hc5 := cn_le Q s
      have no : ∀ vl st : Nat → Int32, ¬ Q s → wX_fails_181 post n (nI (s + 1)) f_made (nI (s_N z)) f_initial f_reached f_deepest f_options0 f_options1 f_opened f_depthOf f_numbered f_waiting f_fairLow f_fairHigh f_partLow f_partHigh f_withLow f_withHigh f_traced (nI (cn Q s)) f_backLow f_backHigh a_sizes a_list a_length a_there a_how a_fairness st vl a_goes a_steps a_guards a_enabled a_depth a_number a_low a_onStack a_open a_path a_ahead a_todo a_shown fd := by
        intro vl st hq
        have := ih (s + 1) (by omega) (by omega) vl st fd (fun t ht qt => by
          by_cases c : t = s
          · rw [c] at qt; exact absurd qt hq
          · exact hf t (by omega) qt)
        have e : cn Q (s + 1) = cn Q s := by
          show cn Q s + b01 (Q s) = _
          rw [b01_f hq, Nat.add_zero]
        rw [e] at this
        exact this
      refine x_values hz hsz h (fun vl hvl => ⟨vp_in_nI (by omega) (by omega), ?_⟩)
      rw [nI_clamp (by omega)]
      refine if2 (d := g_Rd I St s) (d_OK_neg hN hd h) (fun hr => nm_r (nI_1 s) (no vl a_stack fun q => hr ((hQ s h).mp q).1)) (fun hr => x_has (by omega) (fun hh => br_f (by decide) ?_) (fun hh => br_t rfl (nm_r (nI_1 s) (no vl a_stack fun q => hh ((hQ s h).mp q).2.1))))
      refine x_worth (l := 17) (s := s) (by omega) hL hT hvl hw17 (fun st => br_c (fun e => nm_r (nI_1 s) (no vl st fun q => ((hQ s h).mp q).2.2 e)) (fun e => nm_r (nI_1 _) ⟨vp_in_nI (by omega) (by omega), nm_r (e' := upd fd (cn Q s) (nI s)) (by rw [nI_clamp (by omega), n16v (by omega)]) (nm_r (nI_1 s) ?_)⟩))
      have qs : Q s := (hQ s h).mpr ⟨hr, hh, e⟩
      have := ih (s + 1) (by omega) (by omega) vl st (upd fd (cn Q s) (nI s)) (fun t ht qt => by
        by_cases c : t = s
        · rw [c, pk_us]
        · have hlt := cn_lt (P := fun x => Q x ∧ x < t) (Q := fun x => Q x ∧ x < s) (a := t) (N := s) (fun q => Nat.lt_irrefl _ q.2) ⟨qt, by omega⟩ (fun x _ q => ⟨q.1, by omega⟩) (by omega)
          have e1 : cn (fun x => Q x ∧ x < t) s = cn Q t := by
            rw [cn_ext (n := t) (by omega) (fun k q => q.2)]
            exact cn_eq fun k hk => ⟨fun q => q.1, fun q => ⟨q, hk⟩⟩
          have e2 : cn (fun x => Q x ∧ x < s) s = cn Q s := cn_eq fun k hk => ⟨fun q => q.1, fun q => ⟨q, hk⟩⟩
          rw [pk_un (by omega)]; exact hf t (by omega) qt)
      have e : cn Q (s + 1) = cn Q s + 1 := by
        show cn Q s + b01 (Q s) = _
        rw [b01_t qs]
      rw [e] at this
      exact this
/-- the sets that wait -/
theorem x_fails_122 {post : Int32 → SX → Prop} {I : Nat → Prop} (hz : s_Z z) (hsz : ∀ v, v < 3 → a_sizes v = nI (z v)) (hL : r_L tk ln a_list a_length) (hT : r_Tk tk ln) (hw17 : ln 17 = 0 ∨ e_wh (tk 17) (ln 17)) (hd : d_OK I St (s_N z) a_depth)
    (hS : ∀ s t, St s t → t < s_N z) (hfr : ∀ a, a < 4 → a_fairness a = 0 ∨ a_fairness a = 1 ∨ a_fairness a = 2) (hg : ∀ s, s < s_N z → ∀ b, b < 4 → ∀ t, aS a_goes (8 * s + 2 * b) t ↔ go b s t) (hen : ∀ s, s < s_N z → mb (a_enabled s) (fun i => en i s)) (hst : ∀ s, s < s_N z → ∀ t, aS a_steps (2 * s) t ↔ St s t)
    (hWN : ∀ s, iS f_withLow f_withHigh s → s < s_N z)
    (H : ∀ (fl : Nat) (a_val a_stack fd : Nat → Int32) (fo fdp fn fwt : Int32) (ql qh pl ph : Int64) (number low onStack opn path ahead : Nat → Int32) (todo : Nat → Int64), fl_A (s_N z) (fun s => g_Rd I St s ∧ f_c St (iS f_withLow f_withHigh) (f_F St go en a_there a_fairness (iS f_withLow f_withHigh)) s ∧ s_E z tk ln 17 s ≠ 0) fl fd →
      post (nI fl) (f_made, nI (s_N z), f_initial, f_reached, f_deepest, f_options0, f_options1, fo, fdp, fn, fwt, ql, qh, pl, ph, f_withLow, f_withHigh, f_traced, nI fl, f_backLow, f_backHigh, a_sizes, a_list, a_length, a_there, a_how, a_fairness, a_stack, a_val, a_goes, a_steps, a_guards, a_enabled, a_depth, number, low, onStack, opn, path, ahead, todo, a_shown, fd)) :
    ∀ (n μ : Nat), μ < n → μ ≤ s_N z + 1 → ∀ (w : Nat) (fo fdp fn : Int32) (ql qh pl ph : Int64) (number low onStack opn path ahead : Nat → Int32) (todo : Nat → Int64), o_I (s_N z) St go en a_there a_fairness (iS f_withLow f_withHigh) (iS ql qh) (fun i => aS todo (2 * i)) w μ →
      wX_fails_122 post n f_made (nI (s_N z)) f_initial f_reached f_deepest f_options0 f_options1 fo fdp fn (nI w) ql qh pl ph f_withLow f_withHigh f_traced f_failures f_backLow f_backHigh a_sizes a_list a_length a_there a_how a_fairness a_stack a_val a_goes a_steps a_guards a_enabled a_depth number low onStack opn path ahead todo a_shown a_failed := by
  have hN := s_N_le hz
  intro n
  induction n with
  | zero => intro μ h; omega
  | succ n ih =>
    intro μ hμ hμN w fo fdp fn ql qh pl ph number low onStack opn path ahead todo ho
    rcases Nat.eq_zero_or_pos w with c | c
    · subst c
      refine br_t (by decide) (x_spreadBack (F0 := f_F St go en a_there a_fairness (iS f_withLow f_withHigh)) hN hst hWN (o_end ho) (fun s hs => f_F_W hs) (fun fl' fh' hb => ?_))
      refine ⟨s_N z + 1, x_fails_181 (I := I) (Q := fun s => g_Rd I St s ∧ f_c St (iS f_withLow f_withHigh) (f_F St go en a_there a_fairness (iS f_withLow f_withHigh)) s ∧ s_E z tk ln 17 s ≠ 0) hz hsz hL hT hw17 hd (fun s hs => ?_) (fun fl vl st fd h => ?_) (s_N z + 1) 0 (Nat.zero_le _) (by omega) a_val a_stack a_failed (fun t ht => absurd ht (Nat.not_lt_zero _))⟩
      · rw [hb s]
      · exact H fl vl st fd fo fdp fn (nI 0) fl' fh' pl ph number low onStack opn path ahead todo h
    · obtain ⟨k, rfl⟩ : ∃ k, w = k + 1 := ⟨w - 1, by omega⟩
      obtain ⟨hm1, hm2⟩ := o_M ho
      obtain ⟨m, rfl⟩ : ∃ m, μ = m + 1 := ⟨μ - 1, by omega⟩
      have hJ := o_pop ho
      have i2 : (2 : Int32) * nI k = nI (2 * k) := pk_mul 2 k
      have v2 : vp_in (2 * nI k) 260 := by rw [i2]; exact vp_in_nI (by omega) (by omega)
      have v21 : vp_in (2 * nI k + 1) 260 := by rw [i2, nI_1]; exact vp_in_nI (by omega) (by omega)
      have c2 : (2 * nI k).toNatClampNeg = 2 * k := by rw [i2, nI_clamp (by omega)]
      have c21 : (2 * nI k + 1).toNatClampNeg = 2 * k + 1 := by rw [i2, nI_1, nI_clamp (by omega)]
      refine br_f (nI_nle (by omega) (by omega)) (nm_r (nI_pred k) ⟨v2, v21, ?_⟩)
      rw [c2, c21]
      refine x_split (T := aS todo (2 * k)) (M := m) (w := k) hN (by omega) hS (fun s hs => hWN s (hJ.2.2.2.1 s hs)) hfr hg hen hst (fun t => Iff.rfl) hJ rfl ?_
      intro fo' fd' fn' w' fl' fh' pl' ph' number' low' onS' opn' path' ahead' todo' ho'
      exact ih m (by omega) (by omega) w' fo' fd' fn' fl' fh' pl' ph' number' low' onS' opn' path' ahead' todo' ho'
theorem x_fails_28 {post : Int32 → SX → Prop} {I : Nat → Prop} (hz : s_Z z) (hsz : ∀ v, v < 3 → a_sizes v = nI (z v)) (hL : r_L tk ln a_list a_length) (hT : r_Tk tk ln) (hw17 : ln 17 = 0 ∨ e_wh (tk 17) (ln 17)) (hw : e_wh (tk 18) (ln 18)) (hd : d_OK I St (s_N z) a_depth)
    (hS : ∀ s t, St s t → t < s_N z) (hfr : ∀ a, a < 4 → a_fairness a = 0 ∨ a_fairness a = 1 ∨ a_fairness a = 2) (hg : ∀ s, s < s_N z → ∀ b, b < 4 → ∀ t, aS a_goes (8 * s + 2 * b) t ↔ go b s t) (hen : ∀ s, s < s_N z → mb (a_enabled s) (fun i => en i s)) (hst : ∀ s, s < s_N z → ∀ t, aS a_steps (2 * s) t ↔ St s t)
    (H : ∀ (fl : Nat) (a_val a_stack fd : Nat → Int32) (fo fdp fn fwt : Int32) (wl wh ql qh pl ph : Int64) (number low onStack opn path ahead : Nat → Int32) (todo : Nat → Int64), fl_A (s_N z) (fun s => g_Rd I St s ∧ f_c St (fun x => x < s_N z ∧ s_E z tk ln 18 x = 0) (f_F St go en a_there a_fairness (fun x => x < s_N z ∧ s_E z tk ln 18 x = 0)) s ∧ s_E z tk ln 17 s ≠ 0) fl fd →
      post (nI fl) (f_made, nI (s_N z), f_initial, f_reached, f_deepest, f_options0, f_options1, fo, fdp, fn, fwt, ql, qh, pl, ph, wl, wh, f_traced, nI fl, f_backLow, f_backHigh, a_sizes, a_list, a_length, a_there, a_how, a_fairness, a_stack, a_val, a_goes, a_steps, a_guards, a_enabled, a_depth, number, low, onStack, opn, path, ahead, todo, a_shown, fd)) :
    ∀ n s, s ≤ s_N z → s_N z - s < n → ∀ (a_val a_stack : Nat → Int32) (wl wh : Int64), (∀ t, iS wl wh t ↔ t < s ∧ s_E z tk ln 18 t = 0) → wX_fails_28 post n (nI s) f_made (nI (s_N z)) f_initial f_reached f_deepest f_options0 f_options1 f_opened f_depthOf f_numbered f_waiting f_fairLow f_fairHigh f_partLow f_partHigh wl wh f_traced f_failures f_backLow f_backHigh a_sizes a_list a_length a_there a_how a_fairness a_stack a_val a_goes a_steps a_guards a_enabled a_depth a_number a_low a_onStack a_open a_path a_ahead a_todo a_shown a_failed := by
  have hN := s_N_le hz
  intro n
  induction n with
  | zero => intro s _ h; omega
  | succ n ih =>
    intro s hs hn a_val a_stack wl wh hb
    refine pk_le (s_N z) s (fun h => ?_) (fun h => ?_)
    · have es : s = s_N z := by omega
      subst es
      have eW : iS wl wh = fun x => x < s_N z ∧ s_E z tk ln 18 x = 0 := funext fun x => propext (hb x)
      refine x_later (w := 0) (by omega) rfl (fun todo _ h2 => ⟨s_N z + 2, x_fails_122 (I := I) hz hsz hL hT hw17 hd hS hfr hg hen hst (fun s hs => ((hb s).mp hs).1) ?_ (s_N z + 2) (s_N z + 1) (by omega) (Nat.le_refl _) 1 _ _ _ 0 0 _ _ _ _ _ _ _ _ todo ?_⟩)
      · intro fl vl st fd fo fdp fn fwt ql qh pl ph number low onStack opn path ahead todo h
        rw [eW] at h
        exact H fl vl st fd fo fdp fn fwt wl wh ql qh pl ph number low onStack opn path ahead todo h
      · exact o_0 (W' := fun _ => True) (fun x => h2 x) iS_0
    · refine x_values hz hsz h (fun vl hvl => x_worth (l := 18) (s := s) (by omega) hL hT hvl (Or.inr hw) (fun st => br_c (fun e => ?_) (fun e => nm_r (nI_1 s) (ih (s + 1) (by omega) (by omega) vl st wl wh fun t => ?_))))
      · have yes : ∀ wl' wh' : Int64, (∀ t, iS wl' wh' t ↔ iS wl wh t ∨ t = s) → wX_fails_28 post n (nI (s + 1)) f_made (nI (s_N z)) f_initial f_reached f_deepest f_options0 f_options1 f_opened f_depthOf f_numbered f_waiting f_fairLow f_fairHigh f_partLow f_partHigh wl' wh' f_traced f_failures f_backLow f_backHigh a_sizes a_list a_length a_there a_how a_fairness st vl a_goes a_steps a_guards a_enabled a_depth a_number a_low a_onStack a_open a_path a_ahead a_todo a_shown a_failed := by
          intro wl' wh' hb'
          refine ih (s + 1) (by omega) (by omega) vl st wl' wh' fun t => ?_
          rw [hb' t, hb t]
          constructor
          · rintro (⟨q, r⟩ | q)
            · exact ⟨by omega, r⟩
            · rw [q]; exact ⟨by omega, e⟩
          · rintro ⟨q, r⟩
            by_cases c : t = s
            · exact Or.inr c
            · exact Or.inl ⟨by omega, r⟩
        exact pk_le 64 s (fun h64 => nm_e (nm_r (nI_1 s) (yes _ _ fun x => iS_ph h64 (by omega)))) (fun h64 => nm_e (nm_r (nI_1 s) (yes _ _ fun x => iS_pl h64)))
      · rw [hb t]
        constructor
        · rintro ⟨q, r⟩; exact ⟨by omega, r⟩
        · rintro ⟨q, r⟩
          by_cases c : t = s
          · rw [c] at r; exact absurd r e
          · exact ⟨by omega, r⟩
end Xf
end
section
/-! Y: expressions -/
def y_l (l : Nat) : Nat := if l < 4 then 3 + 4 * l else if l < 16 then 4 + 4 * ((l - 4) / 3) + (l - 4) % 3 else if l = 16 then 1 else if l = 17 then 2 else 0
theorem y_l_lt {l : Nat} (h : l < 19) : y_l l < 19 := (by decide : ∀ l, l < 19 → y_l l < 19) l h
theorem y_l_inj : ∀ l, l < 19 → ∀ m, m < 19 → y_l l = y_l m → l = m := by decide +kernel
theorem y_l_e : ∀ a, a < 4 → ∀ v, v < 3 → y_l (4 + 3 * a + v) = 4 + 4 * a + v := by decide +kernel
theorem y_l_g : ∀ a, a < 4 → y_l a = 3 + 4 * a := by decide +kernel
theorem y_l_0 : ∀ l, l < 18 → y_l l ≠ 0 := by decide +kernel
def r_M (tk : Nat → Nat → Nat) (ln : Nat → Nat) (a_tokens a_lengths : Nat → Int32) : Prop := ∀ l, l < 19 → a_lengths (y_l l) = nI (ln l) ∧ ∀ k, k < ln l → a_tokens (12 * y_l l + k) = nI (tk l k)
theorem y_ar {post : Int32 → Prop} {t : Nat} (ht : t ≤ 28) (h : post (nI (e_ar t))) : wpY_arity post (nI t) := by
  unfold wpY_arity
  refine pk_le 20 t (fun h1 => pk_eq t 27 (fun e => ?_) (fun e => pk_eq t 28 (fun e2 => ?_) (fun e2 => ?_))) (fun h1 => ?_)
  · rw [e, e_ar_1] at h; exact h
  · rw [e_ar_3 (by omega)] at h; exact h
  · rw [e_ar_2 (by omega) (by omega)] at h; exact h
  · rw [e_ar_0 h1] at h; exact h
theorem y_in {post : Int32 → Prop} {x : Int32} {n : Nat} (hn : n < 2 ^ 31) (h0 : ¬ vp_in x (n + 1) → post 0) (h1 : ∀ j, j < n + 1 → x = nI j → post 1) : wpY_in post x 0 (nI n) := by
  unfold wpY_in
  refine br_c (fun h => h0 fun z => z (Or.inl h)) (fun h => ?_)
  obtain ⟨j, hj, e⟩ := nI_of h
  subst e
  exact pk_lt n j (fun h => h0 fun z => z (Or.inr (by rw [nI_clamp hj]; omega))) (fun h => h1 j (by omega) rfl)
theorem y_calc {post : Int32 → Prop} {t : Nat} {a b c : Int32} (h20 : 20 ≤ t) (h28 : t ≤ 27) (h : post (e_res t a b c)) : wpY_calculate post (nI t) a b := by
  unfold wpY_calculate
  unfold e_res at h
  refine pk_lt t 20 (fun h1 => absurd h1 (by omega)) (fun _ => pk_lt 26 t (fun h1 => ?_) (fun h1 => ?_))
  · rw [if_neg (by omega), if_neg (by omega), if_neg (by omega), if_neg (by omega), if_neg (by omega), if_neg (by omega), if_neg (by omega), if_pos (by omega)] at h
    exact br_c (fun e => by rw [if_pos e] at h; exact h) (fun e => by rw [if_neg e] at h; exact h)
  refine pk_eq t 20 (fun e => ?_) (fun e1 => pk_eq t 21 (fun e => ?_) (fun e2 => pk_eq t 22 (fun e => ?_) (fun e3 => pk_eq t 23 (fun e => ?_) (fun e4 => pk_eq t 24 (fun e => ?_) (fun e5 => pk_eq t 25 (fun e => ?_) (fun e6 => pk_eq t 26 (fun e => ?_) (fun e7 => trivial)))))))
  · rw [if_pos e] at h; exact h
  · rw [if_neg e1, if_pos e] at h; exact h
  · rw [if_neg e1, if_neg e2, if_pos e] at h; exact h
  · rw [if_neg e1, if_neg e2, if_neg e3, if_pos e] at h
    exact br_c (fun e => by rw [if_pos e] at h; exact h) (fun e => by rw [if_neg e] at h; exact h)
  · rw [if_neg e1, if_neg e2, if_neg e3, if_neg e4, if_pos e] at h
    exact br_c (fun e => by rw [if_pos e] at h; exact h) (fun e => by rw [if_neg e] at h; exact h)
  · rw [if_neg e1, if_neg e2, if_neg e3, if_neg e4, if_neg e5, if_pos e] at h
    exact br_c (fun e => by rw [if_pos e] at h; exact h) (fun e => by
      rw [if_neg e] at h
      exact br_c (fun e => by rw [if_pos e] at h; exact h) (fun e => by rw [if_neg e] at h; exact h))
  · rw [if_neg e1, if_neg e2, if_neg e3, if_neg e4, if_neg e5, if_neg e6, if_pos e] at h
    exact br_c (fun e => by
      rw [if_pos e] at h
      exact br_c (fun e => by rw [if_pos e] at h; exact h) (fun e => by rw [if_neg e] at h; exact h)) (fun e => by rw [if_neg e] at h; exact h)
section Ye
variable {f_known f_traceEnd f_failures : Int32} {a_tokens a_lengths a_values a_there a_fairness a_effects a_guards a_enabled a_depth a_traced a_failed a_stack : Nat → Int32} {a_goes a_ways a_alive a_calm : Nat → Int64}
variable {z : Nat → Nat} {tk : Nat → Nat → Nat} {ln : Nat → Nat}
theorem y_isExpr {post : Int32 → Prop} {l : Nat} (hl : l < 19) (hL : r_M tk ln a_tokens a_lengths) (hT : r_Tk tk ln) (h : post (e_w01 (tk l) (ln l))) : wpY_isExpression post (f_known, f_traceEnd, f_failures, a_tokens, a_lengths, a_values, a_there, a_fairness, a_effects, a_goes, a_guards, a_enabled, a_depth, a_ways, a_alive, a_calm, a_traced, a_failed, a_stack) (nI (y_l l)) := by
  have h12 := (hT l hl).1
  have hy := y_l_lt hl
  obtain ⟨hlen, hlist⟩ := hL l hl
  have key : ∀ n k, k ≤ ln l → ln l - k < n → (∀ j, j < k → 1 ≤ e_ms (tk l) j) → wY_isExpression_4 post (nI (y_l l)) f_known f_traceEnd f_failures a_tokens a_lengths a_values a_there a_fairness a_effects a_goes a_guards a_enabled a_depth a_ways a_alive a_calm a_traced a_failed a_stack n (nI (e_ms (tk l) k)) (nI k) := by
    intro n
    induction n with
    | zero => intro k _ h; omega
    | succ n ih =>
      intro k hk hn hp
      have hm := e_ms_le (tk := tk l) k
      have cl : a_lengths (nI (y_l l)).toNatClampNeg = nI (ln l) := by rw [nI_clamp (by omega), hlen]
      have ei : (12 * nI (y_l l)) + nI k = nI (12 * y_l l + k) := by rw [show (12 : Int32) * nI (y_l l) = nI (12 * y_l l) from pk_mul 12 _, nI_add]
      refine ⟨vp_in_nI hy (by omega), ?_⟩
      rw [cl]
      refine pk_le (ln l) k (fun h1 => ?_) (fun h1 => ?_)
      · have ek : k = ln l := by omega
        subst ek
        refine pk_eq (e_ms (tk l) (ln l)) 0 (fun e => ?_) (fun e => ?_)
        · rw [e_w01_t ⟨hp, e⟩] at h; exact h
        · rw [e_w01_f (fun w => e w.2)] at h; exact h
      · refine pk_eq (e_ms (tk l) k) 0 (fun e => ?_) (fun e => ?_)
        · rw [e_w01_f (fun w => by have := w.1 k (by omega); omega)] at h; exact h
        · refine ⟨by rw [ei]; exact vp_in_nI (by omega) (by omega), ?_⟩
          rw [ei, nI_clamp (by omega), hlist k (by omega)]
          have h28 := ((hT l hl).2 k (by omega)).1
          refine y_ar (by omega) (nm_r (e_ms_pos (m := ln l) e) (nm_r (nI_1 k) ?_))
          exact ih (k + 1) (by omega) (by omega) (fun j hj => by
            rcases Nat.lt_or_ge j k with c | c
            · exact hp j c
            · have : j = k := by omega
              rw [this]; omega)
  exact ⟨ln l + 1, key _ 0 (Nat.zero_le _) (by omega) (fun j hj => absurd hj (Nat.not_lt_zero _))⟩
theorem y_valueOf {post : Int32 → Prop} {s v : Nat} (hz : s_Z z) (hsz : ∀ v, v < 3 → a_values v = nI (z v)) (hs : s < 2 ^ 31) (hv : v < 3) (h : post (nI (sv z s v))) : wpY_valueOf post (f_known, f_traceEnd, f_failures, a_tokens, a_lengths, a_values, a_there, a_fairness, a_effects, a_goes, a_guards, a_enabled, a_depth, a_ways, a_alive, a_calm, a_traced, a_failed, a_stack) (nI s) (nI v) := by
  have z0 := hz 0 (by omega)
  have z1 := hz 1 (by omega)
  have n0 : ¬ a_values 0 = 0 := by rw [hsz 0 (by omega)]; exact nI_ne0 (by omega) (by omega)
  have n1 : ¬ a_values 1 = 0 := by rw [hsz 1 (by omega)]; exact nI_ne0 (by omega) (by omega)
  have d1 : nI s / a_values 0 = nI (s / z 0) := by rw [hsz 0 (by omega)]; exact pk_div hs (by omega) (by omega)
  have hle : s / z 0 ≤ s := Nat.div_le_self _ _
  refine pk_eq v 0 (fun e => ⟨n0, ?_⟩) (fun e => pk_eq v 1 (fun e1 => ⟨n0, n1, ?_⟩) (fun e1 => ⟨n0, n1, ?_⟩))
  · rw [e] at h
    rw [hsz 0 (by omega), pk_rem hs (by omega) (by omega)]; exact h
  · rw [e1] at h
    rw [d1, hsz 1 (by omega), pk_rem (by omega) (by omega) (by omega)]; exact h
  · have e2 : v = 2 := by omega
    rw [e2] at h
    rw [d1, hsz 1 (by omega), pk_div (by omega) (by omega) (by omega)]; exact h
theorem y_work_131 {post : Int32 → SY → Prop} {J12 : Int32 → Int32 → (Nat → Int32) → (Nat → Int32) → (Nat → Int32) → (Nat → Int32) → (Nat → Int32) → (Nat → Int32) → (Nat → Int64) → (Nat → Int32) → (Nat → Int32) → (Nat → Int32) → (Nat → Int64) → (Nat → Int64) → (Nat → Int64) → (Nat → Int32) → (Nat → Int32) → (Nat → Int32) → Prop}
    {x1 x2 x4 x6 b : Int32} {t m : Nat} (h20 : 20 ≤ t) (h28 : t ≤ 28) (hm : e_ar t ≤ m) (hm12 : m ≤ 12) (h6 : t = 28 → x6 = a_stack (m - 3) ∧ b = a_stack (m - 2)) (hb : t < 27 → b = a_stack (m - 2))
    (H : J12 (nI (m - e_ar t + 1)) (x4 + (-1)) a_tokens a_lengths a_values a_there a_fairness a_effects a_goes a_guards a_enabled a_depth a_ways a_alive a_calm a_traced a_failed (upd a_stack (m - e_ar t) (e_res t (a_stack (m - 1)) (a_stack (m - 2)) (a_stack (m - 3))))) : wY_work_131 post J12 x1 x2 (nI (m - e_ar t)) x4 (nI t) x6 b f_known f_traceEnd f_failures a_tokens a_lengths a_values a_there a_fairness a_effects a_goes a_guards a_enabled a_depth a_ways a_alive a_calm a_traced a_failed a_stack := by
  have hp := e_ar_pos (t := t) (by omega)
  have h3 := e_ar_le t
  have ei : nI (m - e_ar t) + nI (e_ar t) - 1 = nI (m - 1) := by
    rw [nI_add, show nI (m - e_ar t + e_ar t) - 1 = nI (m - e_ar t + e_ar t - 1) from pk_sub (b := 1) (by omega)]
    congr 1; omega
  have vi : vp_in (nI (m - e_ar t)) 12 := vp_in_nI (by omega) (by omega)
  have ci : (nI (m - e_ar t)).toNatClampNeg = m - e_ar t := nI_clamp (by omega)
  unfold wY_work_131
  refine y_ar h28 ⟨by rw [ei]; exact vp_in_nI (by omega) (by omega), nm_r (e' := a_stack (m - 1)) (by rw [ei, nI_clamp (by omega)]) (pk_eq t 28 (fun e => ?_) (fun e => ?_))⟩
  · obtain ⟨q1, q2⟩ := h6 e
    rw [e_res_3 (by omega)] at H
    refine br_c (fun e0 => ⟨vi, nm_r (e' := upd a_stack (m - e_ar t) (a_stack (m - 3))) (by rw [ci, q1]) (nm_r (nI_1 _) (nm_e ?_))⟩) (fun e0 => ⟨vi, nm_r (e' := upd a_stack (m - e_ar t) (a_stack (m - 2))) (by rw [ci, q2]) (nm_r (nI_1 _) (nm_e ?_))⟩)
    · rw [if_pos e0] at H; exact H
    · rw [if_neg e0] at H; exact H
  · refine y_calc (c := a_stack (m - 3)) h20 (by omega) ⟨vi, nm_r (e' := upd a_stack (m - e_ar t) (e_res t (a_stack (m - 1)) (a_stack (m - 2)) (a_stack (m - 3)))) ?_ (nm_r (nI_1 _) (nm_e H))⟩
    rw [ci]
    by_cases e27 : t = 27
    · rw [e27]; exact congrArg (upd a_stack (m - e_ar 27)) (e_res_1 _ _ _ _ _)
    · rw [hb (by omega)]
theorem y_work {post : Int32 → SY → Prop} {l s : Nat} (hz : s_Z z) (hsz : ∀ v, v < 3 → a_values v = nI (z v)) (hl : l < 19) (hL : r_M tk ln a_tokens a_lengths) (hT : r_Tk tk ln) (hs : s < 2 ^ 31) (hw : e_wh (tk l) (ln l))
    (H : ∀ a_stack' : Nat → Int32, post (s_E z tk ln l s) (f_known, f_traceEnd, f_failures, a_tokens, a_lengths, a_values, a_there, a_fairness, a_effects, a_goes, a_guards, a_enabled, a_depth, a_ways, a_alive, a_calm, a_traced, a_failed, a_stack')) : wpY_work post (f_known, f_traceEnd, f_failures, a_tokens, a_lengths, a_values, a_there, a_fairness, a_effects, a_goes, a_guards, a_enabled, a_depth, a_ways, a_alive, a_calm, a_traced, a_failed, a_stack) (nI (y_l l)) (nI s) := by
  have h12 := (hT l hl).1
  have hy := y_l_lt hl
  obtain ⟨hlen, hlist⟩ := hL l hl
  have hpos := e_wh_0 hw
  have key : ∀ n j, j ≤ ln l → ln l - j < n → wY_work_12 post (nI (y_l l)) (nI s) f_known f_traceEnd f_failures n (nI (e_sn (tk l) (ln l) j)) (nI (ln l - j) - 1) a_tokens a_lengths a_values a_there a_fairness a_effects a_goes a_guards a_enabled a_depth a_ways a_alive a_calm a_traced a_failed (e_sf (tk l) (sv z s) (ln l) a_stack j) := by
    intro n
    induction n with
    | zero => intro k _ h; omega
    | succ n ih =>
      intro j hj hn
      rcases Nat.lt_or_ge j (ln l) with c | c
      · have ep : nI (ln l - j) - 1 = nI (ln l - 1 - j) := by
          rw [show ln l - j = (ln l - 1 - j) + 1 by omega]
          exact nI_pred _
        have ep2 : nI (ln l - 1 - j) + (-1) = nI (ln l - (j + 1)) - 1 := by
          rw [show ln l - (j + 1) = ln l - 1 - j by omega]
          exact (Int32.sub_eq_add_neg _ _).symm
        have ei : (12 * nI (y_l l)) + nI (ln l - 1 - j) = nI (12 * y_l l + (ln l - 1 - j)) := by rw [show (12 : Int32) * nI (y_l l) = nI (12 * y_l l) from pk_mul 12 _, nI_add]
        have htok := hlist (ln l - 1 - j) (by omega)
        obtain ⟨t28, tlo⟩ := (hT l hl).2 (ln l - 1 - j) (by omega)
        have ih' := ih (j + 1) (by omega) (by omega)
        have har := e_wh_ar hw c
        have hnl := e_sn_le (tk := tk l) (m := ln l) j
        rw [ep]
        refine br_f (nI_pos (by omega)) ⟨by rw [ei]; exact vp_in_nI (by omega) (by omega), nm_r (e' := nI (tk l (ln l - 1 - j))) (by rw [ei, nI_clamp (by omega), htok]) ?_⟩
        have ihn : e_sn (tk l) (ln l) (j + 1) = e_n (tk l (ln l - 1 - j)) (e_sn (tk l) (ln l) j) := rfl
        have ihf : e_sf (tk l) (sv z s) (ln l) a_stack (j + 1) = e_f (tk l (ln l - 1 - j)) (e_sn (tk l) (ln l) j) (sv z s) (e_sf (tk l) (sv z s) (ln l) a_stack j) := rfl
        rw [ihn, ihf] at ih'
        generalize tk l (ln l - 1 - j) = t at *
        generalize e_sn (tk l) (ln l) j = m at *
        generalize e_sf (tk l) (sv z s) (ln l) a_stack j = f at *
        rw [← ep2] at ih'
        unfold e_n e_f at ih'
        refine pk_le 20 t (fun t20 => ?_) (fun t20 => ?_)
        · rw [if_neg (by omega), if_neg (by omega)] at ih'
          have hp := e_ar_pos (t := t) (by omega)
          have h3 := e_ar_le t
          have en : nI m - nI (e_ar t) = nI (m - e_ar t) := pk_sub har
          have vi : vp_in (nI (m - e_ar t)) 12 := vp_in_nI (by omega) (by omega)
          have ci : (nI (m - e_ar t)).toNatClampNeg = m - e_ar t := nI_clamp (by omega)
          refine y_ar t28 (nm_r en (pk_eq t 28 (fun e => ⟨vi, ?_⟩) (fun e => ?_)))
          · have e3 := e_ar_3 (t := t) (by omega)
            have x1 : nI (m - e_ar t) + 1 = nI (m - 2) := by rw [nI_1]; congr 1; omega
            unfold wY_work_94
            refine br_f (fun q => by have := (nI_eq (a := t) (b := 27) (by omega) (by omega)).mp q; omega) (br_t (by rw [e]; rfl) ⟨by rw [x1]; exact vp_in_nI (by omega) (by omega), ?_⟩)
            refine y_work_131 t20 t28 har (by omega) (fun _ => ⟨by rw [ci, e3], by rw [x1, nI_clamp (by omega)]⟩) (fun q => by omega) ih'
          · unfold wY_work_94
            refine pk_eq t 27 (fun e27 => ?_) (fun e27 => br_f (fun q => by have := (nI_eq (a := t) (b := 28) (by omega) (by omega)).mp q; omega) ⟨vi, ?_⟩)
            · exact y_work_131 t20 t28 har (by omega) (fun q => absurd q e) (fun q => by omega) ih'
            · have e2 := e_ar_2 (t := t) (by omega) (by omega)
              exact y_work_131 t20 t28 har (by omega) (fun q => absurd q e) (fun _ => by rw [ci, e2]) ih'
        · rw [if_pos t20, if_pos t20] at ih'
          refine pk_le 10 t (fun t10 => ?_) (fun t10 => ?_)
          · have e10 : nI t - 10 = nI (t - 10) := pk_sub (b := 10) t10
            have t3 : t - 10 < 3 := by have := tlo t20; omega
            rw [e10]
            rw [if_neg (by omega)] at ih'
            refine y_valueOf hz hsz hs t3 ⟨vp_in_nI (by omega) (by omega), nm_r (e' := upd f m (nI (sv z s (t - 10)))) (by rw [nI_clamp (by omega)]) (nm_r (nI_1 m) (nm_e ih'))⟩
          · rw [if_pos t10] at ih'
            exact ⟨vp_in_nI (by omega) (by omega), nm_r (e' := upd f m (nI t)) (by rw [nI_clamp (by omega)]) (nm_r (nI_1 m) (nm_e ih'))⟩
      · have ej : j = ln l := by omega
        subst ej
        have c1 : nI (ln l - ln l) - 1 < 0 := by rw [Nat.sub_self]; decide
        refine br_t c1 ?_
        rw [e_val_w hw]
        exact H _
  refine ⟨vp_in_nI hy (by omega), nm_r (e' := nI (ln l) - 1) (by rw [nI_clamp (by omega), hlen]) ⟨ln l + 1, key _ 0 (Nat.zero_le _) (by omega)⟩⟩
theorem y_isTrue {post : Int32 → SY → Prop} {l s : Nat} (hz : s_Z z) (hsz : ∀ v, v < 3 → a_values v = nI (z v)) (hl : l < 19) (hL : r_M tk ln a_tokens a_lengths) (hT : r_Tk tk ln) (hs : s < 2 ^ 31) (hw : ln l = 0 ∨ e_wh (tk l) (ln l))
    (H1 : ∀ a_stack' : Nat → Int32, s_E z tk ln l s ≠ 0 → post 1 (f_known, f_traceEnd, f_failures, a_tokens, a_lengths, a_values, a_there, a_fairness, a_effects, a_goes, a_guards, a_enabled, a_depth, a_ways, a_alive, a_calm, a_traced, a_failed, a_stack')) (H0 : ∀ a_stack' : Nat → Int32, s_E z tk ln l s = 0 → post 0 (f_known, f_traceEnd, f_failures, a_tokens, a_lengths, a_values, a_there, a_fairness, a_effects, a_goes, a_guards, a_enabled, a_depth, a_ways, a_alive, a_calm, a_traced, a_failed, a_stack')) : wpY_isTrue post (f_known, f_traceEnd, f_failures, a_tokens, a_lengths, a_values, a_there, a_fairness, a_effects, a_goes, a_guards, a_enabled, a_depth, a_ways, a_alive, a_calm, a_traced, a_failed, a_stack) (nI (y_l l)) (nI s) := by
  have hy := y_l_lt hl
  have h12 := (hT l hl).1
  refine ⟨vp_in_nI hy (by omega), ?_⟩
  rw [nI_clamp (by omega), (hL l hl).1]
  refine pk_eq (ln l) 0 (fun e => H1 a_stack ?_) (fun e => ?_)
  · unfold s_E; rw [e, e_val_0]; decide
  · exact y_work hz hsz hl hL hT hs (hw.elim (fun q => absurd q e) id) (fun st => br_c (fun e => H0 st e) (fun e => H1 st e))
end Ye
end
section
/-! Y: sets in arrays of words -/
theorem aS_ix {f : Nat → Int64} {i s : Nat} (hs : s < 128) : aS f i s ↔ bl (f (i + s / 64)) (s % 64) = true := by
  unfold aS iS
  rcases Nat.lt_or_ge s 64 with c | c
  · rw [if_pos c, show s / 64 = 0 by omega, Nat.add_zero]; exact ⟨fun q => q.2, fun q => ⟨hs, q⟩⟩
  · rw [if_neg (by omega), show s / 64 = 1 by omega]; exact ⟨fun q => q.2, fun q => ⟨hs, q⟩⟩
theorem y_ix {i s : Nat} (hs : s < 128) : nI i + nI s / 64 = nI (i + s / 64) := by
  rw [show nI s / 64 = nI (s / 64) from pk_div (d := 64) (by omega) (by omega) (by omega), nI_add]
theorem y_md {s : Nat} (hs : s < 128) : nI s - nI s / 64 * 64 = nI (s % 64) := pk_rem (d := 64) (by omega) (by omega) (by omega)
theorem y_64 : ¬ (64 : Int32) = 0 := by decide
section Yh
variable {f_known f_traceEnd f_failures : Int32} {a_tokens a_lengths a_values a_there a_fairness a_effects a_guards a_enabled a_depth a_traced a_failed a_stack : Nat → Int32} {a_goes a_ways a_alive a_calm : Nat → Int64}
theorem y_has_goes {post : Int32 → Prop} {i s : Nat} (hs : s < 128) (hi : i + 1 < 1000) (h1 : aS a_goes i s → post 1) (h0 : ¬ aS a_goes i s → post 0) : wpY_has__goes post (f_known, f_traceEnd, f_failures, a_tokens, a_lengths, a_values, a_there, a_fairness, a_effects, a_goes, a_guards, a_enabled, a_depth, a_ways, a_alive, a_calm, a_traced, a_failed, a_stack) (nI i) (nI s) := by
  unfold wpY_has__goes
  dsimp only
  rw [y_ix hs, y_md hs, nI_clamp (by omega)]
  refine ⟨y_64, vp_in_nI (by omega) (by omega), y_64, br_c (fun e => h1 ((aS_ix hs).mpr ((bl_shr1 _ (by omega)).mp e))) (fun e => h0 fun q => e ((bl_shr1 _ (by omega)).mpr ((aS_ix hs).mp q)))⟩
theorem y_put_goes {post : SY → Prop} {i s : Nat} (hs : s < 128) (hi : i + 1 < 1000) (H : ∀ g : Nat → Int64, (∀ j, j ≠ i → j ≠ i + 1 → g j = a_goes j) → (∀ t, aS g i t ↔ aS a_goes i t ∨ t = s) → post (f_known, f_traceEnd, f_failures, a_tokens, a_lengths, a_values, a_there, a_fairness, a_effects, g, a_guards, a_enabled, a_depth, a_ways, a_alive, a_calm, a_traced, a_failed, a_stack)) : wpY_put__goes post (f_known, f_traceEnd, f_failures, a_tokens, a_lengths, a_values, a_there, a_fairness, a_effects, a_goes, a_guards, a_enabled, a_depth, a_ways, a_alive, a_calm, a_traced, a_failed, a_stack) (nI i) (nI s) := by
  unfold wpY_put__goes
  dsimp only
  rw [y_ix hs, y_md hs, nI_clamp (by omega)]
  exact ⟨y_64, vp_in_nI (by omega) (by omega), y_64, vp_in_nI (by omega) (by omega), nm_e (H _ (fun j h1 h2 => pk_uLn (by omega)) (fun t => aS_put hs))⟩
theorem y_has_alive {post : Int32 → Prop} {i s : Nat} (hs : s < 128) (hi : i + 1 < 2) (h1 : aS a_alive i s → post 1) (h0 : ¬ aS a_alive i s → post 0) : wpY_has__alive post (f_known, f_traceEnd, f_failures, a_tokens, a_lengths, a_values, a_there, a_fairness, a_effects, a_goes, a_guards, a_enabled, a_depth, a_ways, a_alive, a_calm, a_traced, a_failed, a_stack) (nI i) (nI s) := by
  unfold wpY_has__alive
  dsimp only
  rw [y_ix hs, y_md hs, nI_clamp (by omega)]
  refine ⟨y_64, vp_in_nI (by omega) (by omega), y_64, br_c (fun e => h1 ((aS_ix hs).mpr ((bl_shr1 _ (by omega)).mp e))) (fun e => h0 fun q => e ((bl_shr1 _ (by omega)).mpr ((aS_ix hs).mp q)))⟩
theorem y_put_alive {post : SY → Prop} {i s : Nat} (hs : s < 128) (hi : i + 1 < 2) (H : ∀ g : Nat → Int64, (∀ j, j ≠ i → j ≠ i + 1 → g j = a_alive j) → (∀ t, aS g i t ↔ aS a_alive i t ∨ t = s) → post (f_known, f_traceEnd, f_failures, a_tokens, a_lengths, a_values, a_there, a_fairness, a_effects, a_goes, a_guards, a_enabled, a_depth, a_ways, g, a_calm, a_traced, a_failed, a_stack)) : wpY_put__alive post (f_known, f_traceEnd, f_failures, a_tokens, a_lengths, a_values, a_there, a_fairness, a_effects, a_goes, a_guards, a_enabled, a_depth, a_ways, a_alive, a_calm, a_traced, a_failed, a_stack) (nI i) (nI s) := by
  unfold wpY_put__alive
  dsimp only
  rw [y_ix hs, y_md hs, nI_clamp (by omega)]
  exact ⟨y_64, vp_in_nI (by omega) (by omega), y_64, vp_in_nI (by omega) (by omega), nm_e (H _ (fun j h1 h2 => pk_uLn (by omega)) (fun t => aS_put hs))⟩
theorem y_has_ways {post : Int32 → Prop} {i s : Nat} (hs : s < 128) (hi : i + 1 < 250) (h1 : aS a_ways i s → post 1) (h0 : ¬ aS a_ways i s → post 0) : wpY_has__ways post (f_known, f_traceEnd, f_failures, a_tokens, a_lengths, a_values, a_there, a_fairness, a_effects, a_goes, a_guards, a_enabled, a_depth, a_ways, a_alive, a_calm, a_traced, a_failed, a_stack) (nI i) (nI s) := by
  unfold wpY_has__ways
  dsimp only
  rw [y_ix hs, y_md hs, nI_clamp (by omega)]
  refine ⟨y_64, vp_in_nI (by omega) (by omega), y_64, br_c (fun e => h1 ((aS_ix hs).mpr ((bl_shr1 _ (by omega)).mp e))) (fun e => h0 fun q => e ((bl_shr1 _ (by omega)).mpr ((aS_ix hs).mp q)))⟩
theorem y_put_ways {post : SY → Prop} {i s : Nat} (hs : s < 128) (hi : i + 1 < 250) (H : ∀ g : Nat → Int64, (∀ j, j ≠ i → j ≠ i + 1 → g j = a_ways j) → (∀ t, aS g i t ↔ aS a_ways i t ∨ t = s) → post (f_known, f_traceEnd, f_failures, a_tokens, a_lengths, a_values, a_there, a_fairness, a_effects, a_goes, a_guards, a_enabled, a_depth, g, a_alive, a_calm, a_traced, a_failed, a_stack)) : wpY_put__ways post (f_known, f_traceEnd, f_failures, a_tokens, a_lengths, a_values, a_there, a_fairness, a_effects, a_goes, a_guards, a_enabled, a_depth, a_ways, a_alive, a_calm, a_traced, a_failed, a_stack) (nI i) (nI s) := by
  unfold wpY_put__ways
  dsimp only
  rw [y_ix hs, y_md hs, nI_clamp (by omega)]
  exact ⟨y_64, vp_in_nI (by omega) (by omega), y_64, vp_in_nI (by omega) (by omega), nm_e (H _ (fun j h1 h2 => pk_uLn (by omega)) (fun t => aS_put hs))⟩
theorem y_has_calm {post : Int32 → Prop} {i s : Nat} (hs : s < 128) (hi : i + 1 < 2) (h1 : aS a_calm i s → post 1) (h0 : ¬ aS a_calm i s → post 0) : wpY_has__calm post (f_known, f_traceEnd, f_failures, a_tokens, a_lengths, a_values, a_there, a_fairness, a_effects, a_goes, a_guards, a_enabled, a_depth, a_ways, a_alive, a_calm, a_traced, a_failed, a_stack) (nI i) (nI s) := by
  unfold wpY_has__calm
  dsimp only
  rw [y_ix hs, y_md hs, nI_clamp (by omega)]
  refine ⟨y_64, vp_in_nI (by omega) (by omega), y_64, br_c (fun e => h1 ((aS_ix hs).mpr ((bl_shr1 _ (by omega)).mp e))) (fun e => h0 fun q => e ((bl_shr1 _ (by omega)).mpr ((aS_ix hs).mp q)))⟩
theorem y_put_calm {post : SY → Prop} {i s : Nat} (hs : s < 128) (hi : i + 1 < 2) (H : ∀ g : Nat → Int64, (∀ j, j ≠ i → j ≠ i + 1 → g j = a_calm j) → (∀ t, aS g i t ↔ aS a_calm i t ∨ t = s) → post (f_known, f_traceEnd, f_failures, a_tokens, a_lengths, a_values, a_there, a_fairness, a_effects, a_goes, a_guards, a_enabled, a_depth, a_ways, a_alive, g, a_traced, a_failed, a_stack)) : wpY_put__calm post (f_known, f_traceEnd, f_failures, a_tokens, a_lengths, a_values, a_there, a_fairness, a_effects, a_goes, a_guards, a_enabled, a_depth, a_ways, a_alive, a_calm, a_traced, a_failed, a_stack) (nI i) (nI s) := by
  unfold wpY_put__calm
  dsimp only
  rw [y_ix hs, y_md hs, nI_clamp (by omega)]
  exact ⟨y_64, vp_in_nI (by omega) (by omega), y_64, vp_in_nI (by omega) (by omega), nm_e (H _ (fun j h1 h2 => pk_uLn (by omega)) (fun t => aS_put hs))⟩
end Yh
end
section
/-! Y: steps, where actions lead -/
section Kl
variable (z : Nat → Nat) (th hw : Nat → Int32) (tk : Nat → Nat → Nat) (ln : Nat → Nat) (goes : Nat → Int64) (guards enabled : Nat → Int32)
def l_R (s a : Nat) : Prop :=
  (∀ b, b < a → ∀ t, aS goes (250 * b + 2 * s) t ↔ s_go z th hw tk ln b s t) ∧ (∀ b, a ≤ b → b < 4 → ∀ t, ¬ aS goes (250 * b + 2 * s) t) ∧
  mb (guards s) (fun i => i < a ∧ s_g z th tk ln i s) ∧ mb (enabled s) (fun i => i < a ∧ s_en z th hw tk ln i s)
def l_F (s : Nat) : Prop := (∀ b, b < 4 → ∀ t, aS goes (250 * b + 2 * s) t ↔ s_go z th hw tk ln b s t) ∧ mb (guards s) (fun i => s_g z th tk ln i s) ∧ mb (enabled s) (fun i => s_en z th hw tk ln i s)
def l_X (i : Nat) : Prop := (∀ s, s < i → l_F z th hw tk ln goes guards enabled s) ∧ (∀ s, i ≤ s → s < 125 → ∀ b, b < 4 → ∀ t, ¬ aS goes (250 * b + 2 * s) t)
/-- Y's tables are right -/
def y_D (depth : Nat → Int32) : Prop := (∀ s, s < s_N z → l_F z th hw tk ln goes guards enabled s) ∧ q_dOK z th hw tk ln depth
end Kl
section Kk
variable {z : Nat → Nat} {th hw : Nat → Int32} {tk : Nat → Nat → Nat} {ln : Nat → Nat} {goes goes' : Nat → Int64} {guards enabled guards' enabled' : Nat → Int32} {s a : Nat}
theorem l_F_c (h : l_F z th hw tk ln goes guards enabled s) (h1 : ∀ b, b < 4 → goes' (250 * b + 2 * s) = goes (250 * b + 2 * s) ∧ goes' (250 * b + 2 * s + 1) = goes (250 * b + 2 * s + 1)) (h4 : guards' s = guards s) (h5 : enabled' s = enabled s) : l_F z th hw tk ln goes' guards' enabled' s := by
  obtain ⟨a1, a3, a4⟩ := h
  refine ⟨fun b hb t => ?_, by rw [h4]; exact a3, by rw [h5]; exact a4⟩
  unfold aS; rw [(h1 b hb).1, (h1 b hb).2]; exact a1 b hb t
theorem l_R_no (ha : a < 4) (h : l_R z th hw tk ln goes guards enabled s a) (hn : ¬ s_g z th tk ln a s) : l_R z th hw tk ln goes guards enabled s (a + 1) := by
  obtain ⟨a1, a2, a4, a5⟩ := h
  have ng : ∀ t, ¬ s_go z th hw tk ln a s t := fun t q => hn q.2.2.1
  have ne : ¬ s_en z th hw tk ln a s := fun ⟨t, _, q⟩ => ng t q
  refine ⟨fun b hb t => ?_, fun b hb hb4 t => a2 b (by omega) hb4 t, mb_c a4 fun i _ => ?_, mb_c a5 fun i _ => ?_⟩
  · rcases Nat.lt_or_ge b a with c | c
    · exact a1 b c t
    · have e : b = a := by omega
      rw [e]
      exact ⟨fun q => absurd q (a2 a (by omega) ha t), fun q => absurd q (ng t)⟩
  · constructor
    · rintro ⟨q, r⟩; exact ⟨by omega, r⟩
    · rintro ⟨q, r⟩
      rcases Nat.lt_or_ge i a with c | c
      · exact ⟨c, r⟩
      · have e : i = a := by omega
        rw [e] at r; exact absurd r hn
  · constructor
    · rintro ⟨q, r⟩; exact ⟨by omega, r⟩
    · rintro ⟨q, r⟩
      rcases Nat.lt_or_ge i a with c | c
      · exact ⟨c, r⟩
      · have e : i = a := by omega
        rw [e] at r; exact absurd r ne
theorem l_R_yes (h : l_R z th hw tk ln goes guards enabled s a) (ha : a < 4) (hs : s < 125) (hg : s_g z th tk ln a s)
    (g1 : ∀ j, j ≠ 250 * a + 2 * s → j ≠ 250 * a + 2 * s + 1 → goes' j = goes j) (g2 : ∀ t, aS goes' (250 * a + 2 * s) t ↔ s_go z th hw tk ln a s t)
    (g4 : mb (guards' s) (fun i => (i < a ∧ s_g z th tk ln i s) ∨ i = a)) (g5 : mb (enabled' s) (fun i => (i < a ∧ s_en z th hw tk ln i s) ∨ (i = a ∧ s_en z th hw tk ln a s))) : l_R z th hw tk ln goes' guards' enabled' s (a + 1) := by
  obtain ⟨a1, a2, a4, a5⟩ := h
  have gu : ∀ b, b ≠ a → ∀ t, aS goes' (250 * b + 2 * s) t ↔ aS goes (250 * b + 2 * s) t := by
    intro b hb t
    unfold aS; rw [g1 _ (by omega) (by omega), g1 _ (by omega) (by omega)]
  refine ⟨fun b hb t => ?_, fun b hb hb4 t => ?_, mb_c g4 fun i _ => ?_, mb_c g5 fun i _ => ?_⟩
  · by_cases c : b = a
    · rw [c]; exact g2 t
    · rw [gu b c]; exact a1 b (by omega) t
  · rw [gu b (by omega)]; exact a2 b (by omega) hb4 t
  · constructor
    · rintro (⟨q, r⟩ | q)
      · exact ⟨by omega, r⟩
      · rw [q]; exact ⟨by omega, hg⟩
    · rintro ⟨q, r⟩
      rcases Nat.lt_or_ge i a with c | c
      · exact Or.inl ⟨c, r⟩
      · exact Or.inr (by omega)
  · constructor
    · rintro (⟨q, r⟩ | ⟨q, r⟩)
      · exact ⟨by omega, r⟩
      · rw [q]; exact ⟨by omega, r⟩
    · rintro ⟨q, r⟩
      rcases Nat.lt_or_ge i a with c | c
      · exact Or.inl ⟨c, r⟩
      · have e : i = a := by omega
        rw [e] at r; exact Or.inr ⟨e, r⟩
theorem l_R_4 (h : l_R z th hw tk ln goes guards enabled s 4) : l_F z th hw tk ln goes guards enabled s :=
  ⟨h.1, mb_c h.2.2.1 fun i hi => ⟨fun q => q.2, fun q => ⟨hi, q⟩⟩, mb_c h.2.2.2 fun i hi => ⟨fun q => q.2, fun q => ⟨hi, q⟩⟩⟩
end Kk
section Yl
variable {f_known f_traceEnd f_failures : Int32} {a_tokens a_lengths a_values a_there a_fairness a_effects a_guards a_enabled a_depth a_traced a_failed a_stack : Nat → Int32} {a_goes a_ways a_alive a_calm : Nat → Int64}
variable {z : Nat → Nat} {tk : Nat → Nat → Nat} {ln : Nat → Nat}
theorem y_due {post : Int32 → SY → Prop} {a v s : Nat} (hz : s_Z z) (hsz : ∀ v, v < 3 → a_values v = nI (z v)) (hL : r_M tk ln a_tokens a_lengths) (hT : r_Tk tk ln)
    (hw : a_effects (3 * a + v) = 1 → e_wh (tk (4 + 3 * a + v)) (ln (4 + 3 * a + v))) (ha : a < 4) (hv3 : v < 3) (hs : s < 125) (H : ∀ a_stack' : Nat → Int32, post (nI (s_d z a_effects tk ln a v s)) (f_known, f_traceEnd, f_failures, a_tokens, a_lengths, a_values, a_there, a_fairness, a_effects, a_goes, a_guards, a_enabled, a_depth, a_ways, a_alive, a_calm, a_traced, a_failed, a_stack')) : wpY_due post (f_known, f_traceEnd, f_failures, a_tokens, a_lengths, a_values, a_there, a_fairness, a_effects, a_goes, a_guards, a_enabled, a_depth, a_ways, a_alive, a_calm, a_traced, a_failed, a_stack) (nI a) (nI v) (nI s) := by
  have hz1 := hz v hv3
  unfold wpY_due
  dsimp only
  refine y_valueOf hz hsz (by omega) hv3 ?_
  rw [i3, nI_clamp (by omega)]
  refine ⟨vp_in_nI (by omega) (by omega), ?_⟩
  unfold s_d at H
  refine br_c (fun e => ?_) (fun e => ?_)
  · rw [if_pos e] at H
    have ei : ((3 + 4 * nI a) + 1) + nI v = nI (y_l (4 + 3 * a + v)) := by
      rw [y_l_e a ha v hv3, show (4 : Int32) * nI a = nI (4 * a) from pk_mul 4 a, show (3 : Int32) + nI (4 * a) = nI (3 + 4 * a) from nI_add 3 (4 * a), nI_1, nI_add]
      congr 1; omega
    rw [ei]
    refine y_work hz hsz (by omega) hL hT (by omega) (hw e) (fun st => And.intro (vp_in_nI hv3 (by omega)) ?_)
    obtain ⟨j, hj, ej⟩ := e_clk_lt (s_E z tk ln (4 + 3 * a + v) s) hz1.1 hz1.2
    have Hs := H st
    rw [ej, nI_clamp (by omega), ← ej] at Hs
    unfold e_clk at Hs
    dsimp only
    rw [nI_clamp (by omega), hsz v hv3]
    refine ⟨nI_ne0 (by omega) (by omega), nm_e (br_c (fun q => ?_) (fun q => ⟨vp_in_nI hv3 (by omega), ?_⟩))⟩
    · rw [if_pos q] at Hs; exact Hs
    · rw [if_neg q] at Hs; exact Hs
  · rw [if_neg e] at H; exact H a_stack
/-- the states that fit -/
theorem y_lead_56 {post : SY → Prop} {a s N : Nat} {d : Nat → Nat} {en0 : Nat → Prop} (hz : s_Z z) (hsz : ∀ v, v < 3 → a_values v = nI (z v)) (ha : a < 4) (hs : s < s_N z) (eN : N = s_N z) (hd : ∀ v, v < 3 → d v < 5) (g0 : Nat → Int64) (e0 : Nat → Int32)
    (H : ∀ (g : Nat → Int64) (e : Nat → Int32), (∀ j, j ≠ 250 * a + 2 * s → j ≠ 250 * a + 2 * s + 1 → g j = g0 j) → (∀ t, aS g (250 * a + 2 * s) t ↔ aS g0 (250 * a + 2 * s) t ∨ (t < N ∧ ∀ v, v < 3 → a_effects (3 * a + v) = 2 ∨ sv z t v = d v)) → (∀ j, j ≠ s → e j = e0 j) →
      mb (e s) (fun i => en0 i ∨ (i = a ∧ ∃ t, t < N ∧ t ≠ s ∧ ∀ v, v < 3 → a_effects (3 * a + v) = 2 ∨ sv z t v = d v)) → post (f_known, f_traceEnd, f_failures, a_tokens, a_lengths, a_values, a_there, a_fairness, a_effects, g, a_guards, e, a_depth, a_ways, a_alive, a_calm, a_traced, a_failed, a_stack)) :
    ∀ n t, t ≤ N → N - t < n → ∀ (g : Nat → Int64) (e : Nat → Int32), (∀ j, j ≠ 250 * a + 2 * s → j ≠ 250 * a + 2 * s + 1 → g j = g0 j) → (∀ x, aS g (250 * a + 2 * s) x ↔ aS g0 (250 * a + 2 * s) x ∨ (x < t ∧ ∀ v, v < 3 → a_effects (3 * a + v) = 2 ∨ sv z x v = d v)) → (∀ j, j ≠ s → e j = e0 j) →
      mb (e s) (fun i => en0 i ∨ (i = a ∧ ∃ x, x < t ∧ x ≠ s ∧ ∀ v, v < 3 → a_effects (3 * a + v) = 2 ∨ sv z x v = d v)) →
      wY_lead_56 post (nI a) (nI s) (nI N) (nI (d 0)) (nI (d 1)) (nI (d 2)) n (nI t) f_known f_traceEnd f_failures a_tokens a_lengths a_values a_there a_fairness a_effects g a_guards e a_depth a_ways a_alive a_calm a_traced a_failed a_stack := by
  have hN := s_N_le hz
  intro n
  induction n with
  | zero => intro t _ h; omega
  | succ n ih =>
    intro t ht hn g e hf hset he hm
    refine pk_le N t (fun h => ?_) (fun h => ?_)
    · have et : t = N := by omega
      subst et
      exact H g e hf hset he hm
    · have no : ¬ (∀ v, v < 3 → a_effects (3 * a + v) = 2 ∨ sv z t v = d v) → wY_lead_142 post (wY_lead_56 post (nI a) (nI s) (nI N) (nI (d 0)) (nI (d 1)) (nI (d 2)) n) (nI a) (nI s) (nI N) (nI (d 0)) (nI (d 1)) (nI (d 2)) (nI t) f_known f_traceEnd f_failures a_tokens a_lengths a_values a_there a_fairness a_effects g a_guards e a_depth a_ways a_alive a_calm a_traced a_failed a_stack := by
        intro hc
        unfold wY_lead_142 wY_lead_143
        refine br_t rfl (nm_r (nI_1 t) (ih (t + 1) (by omega) (by omega) g e hf (fun x => ?_) he (mb_c hm fun i _ => ?_)))
        · rw [hset x]
          constructor
          · rintro (q | ⟨q, r⟩)
            · exact Or.inl q
            · exact Or.inr ⟨by omega, r⟩
          · rintro (q | ⟨q, r⟩)
            · exact Or.inl q
            · by_cases c : x = t
              · rw [c] at r; exact absurd r hc
              · exact Or.inr ⟨by omega, r⟩
        · constructor
          · rintro (q | ⟨q, x, r1, r2⟩)
            · exact Or.inl q
            · exact Or.inr ⟨q, x, by omega, r2⟩
          · rintro (q | ⟨q, x, r1, r2, r3⟩)
            · exact Or.inl q
            · by_cases c : x = t
              · rw [c] at r3; exact absurd r3 hc
              · exact Or.inr ⟨q, x, by omega, r2, r3⟩
      have yes : (∀ v, v < 3 → a_effects (3 * a + v) = 2 ∨ sv z t v = d v) → wY_lead_138 post (wY_lead_56 post (nI a) (nI s) (nI N) (nI (d 0)) (nI (d 1)) (nI (d 2)) n) (nI a) (nI s) (nI N) (nI (d 0)) (nI (d 1)) (nI (d 2)) (nI t) f_known f_traceEnd f_failures a_tokens a_lengths a_values a_there a_fairness a_effects g a_guards e a_depth a_ways a_alive a_calm a_traced a_failed a_stack := by
        intro hc
        have ei : (250 * nI a) + (2 * nI s) = nI (250 * a + 2 * s) := by
          rw [show (250 : Int32) * nI a = nI (250 * a) from pk_mul 250 a, show (2 : Int32) * nI s = nI (2 * s) from pk_mul 2 s, nI_add]
        have v1 : vp_in (nI s) 125 := vp_in_nI (by omega) (by omega)
        unfold wY_lead_138 wY_lead_143
        rw [ei]
        refine br_f (by decide) (y_put_goes (by omega) (by omega) fun g' hf' hset' => ?_)
        have hf2 : ∀ j, j ≠ 250 * a + 2 * s → j ≠ 250 * a + 2 * s + 1 → g' j = g0 j := fun j h1 h2 => by rw [hf' j h1 h2, hf j h1 h2]
        have hs2 : ∀ x, aS g' (250 * a + 2 * s) x ↔ aS g0 (250 * a + 2 * s) x ∨ (x < t + 1 ∧ ∀ v, v < 3 → a_effects (3 * a + v) = 2 ∨ sv z x v = d v) := by
          intro x
          rw [hset' x, hset x]
          constructor
          · rintro ((q | ⟨q, r⟩) | q)
            · exact Or.inl q
            · exact Or.inr ⟨by omega, r⟩
            · rw [q]; exact Or.inr ⟨by omega, hc⟩
          · rintro (q | ⟨q, r⟩)
            · exact Or.inl (Or.inl q)
            · by_cases c : x = t
              · exact Or.inr c
              · exact Or.inl (Or.inr ⟨by omega, r⟩)
        refine pk_eq t s (fun ets => nm_r (nI_1 t) (ih (t + 1) (by omega) (by omega) g' e hf2 hs2 he (mb_c hm fun i _ => ?_))) (fun ets => ⟨v1, v1, nm_r (e' := upd e s (e s ||| ((1 : Int32) <<< (nI a &&& 31)))) (by rw [nI_clamp (by omega)]) (nm_r (nI_1 t) (ih (t + 1) (by omega) (by omega) g' _ hf2 hs2 (fun j hj => by rw [pk_un hj]; exact he j hj) ?_))⟩)
        · constructor
          · rintro (q | ⟨q, x, r1, r2⟩)
            · exact Or.inl q
            · exact Or.inr ⟨q, x, by omega, r2⟩
          · rintro (q | ⟨q, x, r1, r2, r3⟩)
            · exact Or.inl q
            · exact Or.inr ⟨q, x, by omega, r2, r3⟩
        · rw [pk_us]
          refine mb_c (mb_or ha hm) fun i _ => ?_
          constructor
          · rintro ((q | ⟨q, x, r1, r2⟩) | q)
            · exact Or.inl q
            · exact Or.inr ⟨q, x, by omega, r2⟩
            · exact Or.inr ⟨q, t, by omega, ets, hc⟩
          · rintro (q | ⟨q, x, r⟩)
            · exact Or.inl (Or.inl q)
            · exact Or.inr q
      have e30 : (3 : Int32) * nI a = nI (3 * a + 0) := pk_mul 3 a
      have e31 : (3 : Int32) * nI a + 1 = nI (3 * a + 1) := by rw [show (3 : Int32) * nI a = nI (3 * a) from pk_mul 3 a, nI_1]
      have e32 : (3 : Int32) * nI a + 2 = nI (3 * a + 2) := by rw [show (3 : Int32) * nI a = nI (3 * a) from pk_mul 3 a]; exact nI_add _ 2
      have c0 := hd 0 (by omega)
      have c1 := hd 1 (by omega)
      have c2 := hd 2 (by omega)
      have l0 := sv_lt hz (s := t) (by omega) (v := 0) (by omega)
      have l1 := sv_lt hz (s := t) (by omega) (v := 1) (by omega)
      have l2 := sv_lt hz (s := t) (by omega) (v := 2) (by omega)
      have z0 := hz 0 (by omega)
      have z1 := hz 1 (by omega)
      have z2 := hz 2 (by omega)
      have all : (a_effects (3 * a + 0) = 2 ∨ sv z t 0 = d 0) → (a_effects (3 * a + 1) = 2 ∨ sv z t 1 = d 1) → (a_effects (3 * a + 2) = 2 ∨ sv z t 2 = d 2) → ∀ v, v < 3 → a_effects (3 * a + v) = 2 ∨ sv z t v = d v := by
        intro q0 q1 q2 v hv
        have : v = 0 ∨ v = 1 ∨ v = 2 := by omega
        rcases this with e | e | e <;> subst e
        · exact q0
        · exact q1
        · exact q2
      have s3 : (a_effects (3 * a + 0) = 2 ∨ sv z t 0 = d 0) → (a_effects (3 * a + 1) = 2 ∨ sv z t 1 = d 1) → wY_lead_112 post (wY_lead_56 post (nI a) (nI s) (nI N) (nI (d 0)) (nI (d 1)) (nI (d 2)) n) (nI a) (nI s) (nI N) (nI (d 0)) (nI (d 1)) (nI (d 2)) (nI t) f_known f_traceEnd f_failures a_tokens a_lengths a_values a_there a_fairness a_effects g a_guards e a_depth a_ways a_alive a_calm a_traced a_failed a_stack := by
        intro q0 q1
        unfold wY_lead_112
        refine ⟨by rw [e32]; exact vp_in_nI (by omega) (by omega), ?_⟩
        rw [e32, nI_clamp (by omega)]
        refine br_c (fun q => yes (all q0 q1 (Or.inl q))) (fun q => y_valueOf (v := 2) hz hsz (by omega) (by omega) (pk_eq (sv z t 2) (d 2) (fun r => yes (all q0 q1 (Or.inr r))) (fun r => no fun x => (x 2 (by omega)).elim q r)))
      have s2 : (a_effects (3 * a + 0) = 2 ∨ sv z t 0 = d 0) → wY_lead_86 post (wY_lead_56 post (nI a) (nI s) (nI N) (nI (d 0)) (nI (d 1)) (nI (d 2)) n) (nI a) (nI s) (nI N) (nI (d 0)) (nI (d 1)) (nI (d 2)) (nI t) f_known f_traceEnd f_failures a_tokens a_lengths a_values a_there a_fairness a_effects g a_guards e a_depth a_ways a_alive a_calm a_traced a_failed a_stack := by
        intro q0
        unfold wY_lead_86
        refine ⟨by rw [e31]; exact vp_in_nI (by omega) (by omega), ?_⟩
        rw [e31, nI_clamp (by omega)]
        refine br_c (fun q => s3 q0 (Or.inl q)) (fun q => y_valueOf (v := 1) hz hsz (by omega) (by omega) (pk_eq (sv z t 1) (d 1) (fun r => s3 q0 (Or.inr r)) (fun r => no fun x => (x 1 (by omega)).elim q r)))
      refine ⟨by rw [e30]; exact vp_in_nI (by omega) (by omega), ?_⟩
      rw [e30, nI_clamp (by omega)]
      refine br_c (fun q => s2 (Or.inl q)) (fun q => y_valueOf (v := 0) hz hsz (by omega) (by omega) (pk_eq (sv z t 0) (d 0) (fun r => s2 (Or.inr r)) (fun r => no fun x => (x 0 (by omega)).elim q r)))
theorem y_lead {post : SY → Prop} {a s : Nat} (hz : s_Z z) (hsz : ∀ v, v < 3 → a_values v = nI (z v)) (hL : r_M tk ln a_tokens a_lengths) (hT : r_Tk tk ln)
    (hw : ∀ v, v < 3 → a_effects (3 * a + v) = 1 → e_wh (tk (4 + 3 * a + v)) (ln (4 + 3 * a + v))) (ha : a < 4) (hg : e_wh (tk a) (ln a)) (hth : a_there a ≠ 0) (hs : s < s_N z) (hR : l_R z a_there a_effects tk ln a_goes a_guards a_enabled s a)
    (H : ∀ (st : Nat → Int32) (g : Nat → Int64) (gu e : Nat → Int32), (∀ j, j ≠ 250 * a + 2 * s → j ≠ 250 * a + 2 * s + 1 → g j = a_goes j) → (∀ j, j ≠ s → gu j = a_guards j) → (∀ j, j ≠ s → e j = a_enabled j) → l_R z a_there a_effects tk ln g gu e s (a + 1) → post (f_known, f_traceEnd, f_failures, a_tokens, a_lengths, a_values, a_there, a_fairness, a_effects, g, gu, e, a_depth, a_ways, a_alive, a_calm, a_traced, a_failed, st)) :
    wpY_lead post (f_known, f_traceEnd, f_failures, a_tokens, a_lengths, a_values, a_there, a_fairness, a_effects, a_goes, a_guards, a_enabled, a_depth, a_ways, a_alive, a_calm, a_traced, a_failed, a_stack) (nI a) (nI s) (nI (s_N z)) := by
  have hN := s_N_le hz
  have ei : 3 + 4 * nI a = nI (y_l a) := by
    rw [y_l_g a ha, show (4 : Int32) * nI a = nI (4 * a) from pk_mul 4 a]; exact nI_add 3 (4 * a)
  have v1 : vp_in (nI s) 125 := vp_in_nI (by omega) (by omega)
  unfold wpY_lead
  dsimp only
  rw [ei]
  refine y_work hz hsz (by omega) hL hT (by omega) hg (fun st0 => br_c (fun e => ?_) (fun e => ?_))
  · exact H st0 a_goes a_guards a_enabled (fun _ _ _ => rfl) (fun _ _ => rfl) (fun _ _ => rfl) (l_R_no ha hR fun q => q.2 e)
  · have hsg : s_g z a_there tk ln a s := ⟨hth, e⟩
    have hgm := mb_or ha hR.2.2.1
    have d5 : ∀ v, v < 3 → s_d z a_effects tk ln a v s < 5 := fun v hv => by
      have := s_d_lt (hw := a_effects) (tk := tk) (ln := ln) hz (a := a) hs hv
      have := hz v hv
      omega
    refine ⟨v1, v1, nm_r (e' := upd a_guards s (a_guards s ||| ((1 : Int32) <<< (nI a &&& 31)))) (by rw [nI_clamp (by omega)]) ?_⟩
    refine y_due (v := 0) hz hsz hL hT (hw 0 (by omega)) ha (by omega) (by omega) (fun st1 => ?_)
    refine y_due (v := 1) hz hsz hL hT (hw 1 (by omega)) ha (by omega) (by omega) (fun st2 => ?_)
    refine y_due (v := 2) hz hsz hL hT (hw 2 (by omega)) ha (by omega) (by omega) (fun st3 => ?_)
    refine ⟨s_N z + 1, y_lead_56 (d := fun v => s_d z a_effects tk ln a v s) (en0 := fun i => i < a ∧ s_en z a_there a_effects tk ln i s) hz hsz ha hs rfl d5 a_goes a_enabled (fun g e' h1 h2 h3 h4 => ?_) (s_N z + 1) 0 (Nat.zero_le _) (by omega) a_goes a_enabled (fun _ _ _ => rfl) (fun x => ⟨Or.inl, fun q => q.elim id fun q => absurd q.1 (Nat.not_lt_zero _)⟩) (fun _ _ => rfl) (mb_c hR.2.2.2 fun i _ => ⟨Or.inl, fun q => q.elim id fun ⟨_, x, q, _⟩ => absurd q (Nat.not_lt_zero _)⟩)⟩
    have hset : ∀ t, aS g (250 * a + 2 * s) t ↔ s_go z a_there a_effects tk ln a s t := by
      intro t
      rw [h2 t]
      constructor
      · rintro (q | q)
        · exact absurd q (hR.2.1 a (by omega) ha t)
        · exact ⟨hs, q.1, hsg, q.2⟩
      · rintro ⟨_, q, _, r⟩; exact Or.inr ⟨q, r⟩
    refine H st3 g (upd a_guards s (a_guards s ||| ((1 : Int32) <<< (nI a &&& 31)))) e' h1 (fun j hj => pk_un hj) h3 (l_R_yes hR ha (by omega) hsg h1 hset (by rw [pk_us]; exact hgm) (mb_c h4 fun i _ => ?_))
    constructor
    · rintro (q | ⟨q, t, r1, r2, r3⟩)
      · exact Or.inl q
      · exact Or.inr ⟨q, t, r2, hs, r1, hsg, r3⟩
    · rintro (q | ⟨q, t, r1, _, r2, _, r3⟩)
      · exact Or.inl q
      · exact Or.inr ⟨q, t, r2, r1, r3⟩
end Yl
end
section
/-! Y: step, further, know -/
section Yk
variable {f_known f_traceEnd f_failures : Int32} {a_tokens a_lengths a_values a_there a_fairness a_effects a_guards a_enabled a_depth a_traced a_failed a_stack : Nat → Int32} {a_goes a_ways a_alive a_calm : Nat → Int64}
variable {z : Nat → Nat} {tk : Nat → Nat → Nat} {ln : Nat → Nat} {go : Nat → Nat → Nat → Prop} {N : Nat}
theorem y_goesTo {post : Int32 → Prop} {a s t : Nat} (ha : a < 4) (hs : s < 125) (ht : t < 125) (hg : ∀ x, aS a_goes (250 * a + 2 * s) x ↔ go a s x) (hth : a_there a = 0 → ¬ go a s t) (h1 : go a s t → post 1) (h0 : ¬ go a s t → post 0) : wpY_goesTo post (f_known, f_traceEnd, f_failures, a_tokens, a_lengths, a_values, a_there, a_fairness, a_effects, a_goes, a_guards, a_enabled, a_depth, a_ways, a_alive, a_calm, a_traced, a_failed, a_stack) (nI a) (nI s) (nI t) := by
  have ei : (250 * nI a) + (2 * nI s) = nI (250 * a + 2 * s) := by
    rw [show (250 : Int32) * nI a = nI (250 * a) from pk_mul 250 a, show (2 : Int32) * nI s = nI (2 * s) from pk_mul 2 s, nI_add]
  unfold wpY_goesTo
  dsimp only
  rw [ei, nI_clamp (by omega)]
  exact ⟨vp_in_nI ha (by omega), br_c (fun e => h0 (hth e)) (fun e => y_has_goes (by omega) (by omega) (fun q => br_f (by decide) (h1 ((hg t).mp q))) (fun q => br_t rfl (h0 fun r => q ((hg t).mpr r))))⟩
theorem or00 : (0 : Int32) ||| 0 = 0 := by decide
theorem or01 : (0 : Int32) ||| 1 = 1 := by decide
theorem or10 : (1 : Int32) ||| 0 = 1 := by decide
theorem or11 : (1 : Int32) ||| 1 = 1 := by decide
theorem y_step {post : Int32 → Prop} {s t : Nat} (hs : s < 125) (ht : t < 125) (hg : ∀ a, a < 4 → ∀ x, aS a_goes (250 * a + 2 * s) x ↔ go a s x) (hth : ∀ a, a < 4 → a_there a = 0 → ¬ go a s t)
    (h1 : (s ≠ t ∧ ∃ a, a < 4 ∧ go a s t) → post 1) (h0 : ¬ (s ≠ t ∧ ∃ a, a < 4 ∧ go a s t) → post 0) : wpY_step post (f_known, f_traceEnd, f_failures, a_tokens, a_lengths, a_values, a_there, a_fairness, a_effects, a_goes, a_guards, a_enabled, a_depth, a_ways, a_alive, a_calm, a_traced, a_failed, a_stack) (nI s) (nI t) := by
  have key : ∀ n a, a ≤ 4 → 4 - a < n → ∀ x3 : Int32, ((x3 = 0 ∧ ∀ b, b < a → ¬ go b s t) ∨ (x3 = 1 ∧ ∃ b, b < a ∧ go b s t)) → wY_step_5 post (nI s) (nI t) f_known f_traceEnd f_failures a_tokens a_lengths a_values a_there a_fairness a_effects a_goes a_guards a_enabled a_depth a_ways a_alive a_calm a_traced a_failed a_stack n x3 (nI a) := by
    intro n
    induction n with
    | zero => intro a _ h; omega
    | succ n ih =>
      intro a ha hn x3 hx
      refine pk_le 4 a (fun h => ?_) (fun h => ?_)
      · have ea : a = 4 := by omega
        subst ea
        rcases hx with ⟨rfl, q⟩ | ⟨rfl, b, hb, q⟩
        · exact br_t rfl (h0 fun ⟨_, b, hb, r⟩ => q b hb r)
        · exact br_f (by decide) (pk_eq s t (fun e => h0 fun r => r.1 e) (fun e => h1 ⟨e, b, hb, q⟩))
      · refine y_goesTo h hs ht (hg a h) (hth a h) (fun q => ?_) (fun q => ?_)
        · refine nm_r (e' := 1) (by rcases hx with ⟨rfl, _⟩ | ⟨rfl, _⟩; exact or01; exact or11) (nm_r (nI_1 a) (ih (a + 1) (by omega) (by omega) 1 (Or.inr ⟨rfl, a, by omega, q⟩)))
        · refine nm_r (e' := x3) (by rcases hx with ⟨rfl, _⟩ | ⟨rfl, _⟩; exact or00; exact or10) (nm_r (nI_1 a) (ih (a + 1) (by omega) (by omega) x3 ?_))
          rcases hx with ⟨e, r⟩ | ⟨e, b, hb, r⟩
          · refine Or.inl ⟨e, fun b hb => ?_⟩
            by_cases c : b = a
            · rw [c]; exact q
            · exact r b (by omega)
          · exact Or.inr ⟨e, b, by omega, r⟩
  exact ⟨5, key 5 0 (by omega) (by omega) 0 (Or.inl ⟨rfl, fun b hb => absurd hb (Nat.not_lt_zero _)⟩)⟩
/-- the same over the tables -/
theorem y_stepD {post : Int32 → Prop} {s t : Nat} (hz : s_Z z) (hs : s < s_N z) (ht : t < s_N z) (hF : ∀ s, s < s_N z → l_F z a_there a_effects tk ln a_goes a_guards a_enabled s)
    (h1 : s_st z a_there a_effects tk ln s t → post 1) (h0 : ¬ s_st z a_there a_effects tk ln s t → post 0) : wpY_step post (f_known, f_traceEnd, f_failures, a_tokens, a_lengths, a_values, a_there, a_fairness, a_effects, a_goes, a_guards, a_enabled, a_depth, a_ways, a_alive, a_calm, a_traced, a_failed, a_stack) (nI s) (nI t) := by
  have hN := s_N_le hz
  exact y_step (go := s_go z a_there a_effects tk ln) (by omega) (by omega) (fun a ha x => (hF s hs).1 a ha x) (fun a _ e q => q.2.2.1.1 e) h1 h0
theorem y_further {post : Int32 → SY → Prop} {s d : Nat} (hz : s_Z z) (hs : s < s_N z) (hF : ∀ s, s < s_N z → l_F z a_there a_effects tk ln a_goes a_guards a_enabled s) (hd : g_D (s_i z tk ln) (s_st z a_there a_effects tk ln) d s) (hdN : d < s_N z)
    (hB : y_BR (s_i z tk ln) (s_st z a_there a_effects tk ln) (s_N z) a_depth d s 0)
    (H : ∀ (r : Int32) (dep : Nat → Int32), y_BR (s_i z tk ln) (s_st z a_there a_effects tk ln) (s_N z) dep d s (s_N z) → ((r = 0 ∧ ∀ t, dep t = a_depth t) ∨ (r = 1 ∧ ∃ t, g_D (s_i z tk ln) (s_st z a_there a_effects tk ln) (d + 1) t)) → post r (f_known, f_traceEnd, f_failures, a_tokens, a_lengths, a_values, a_there, a_fairness, a_effects, a_goes, a_guards, a_enabled, dep, a_ways, a_alive, a_calm, a_traced, a_failed, a_stack)) :
    wpY_further post (f_known, f_traceEnd, f_failures, a_tokens, a_lengths, a_values, a_there, a_fairness, a_effects, a_goes, a_guards, a_enabled, a_depth, a_ways, a_alive, a_calm, a_traced, a_failed, a_stack) (nI s) (nI (s_N z)) (nI d) := by
  have hN := s_N_le hz
  have key : ∀ n t, t ≤ s_N z → s_N z - t < n → ∀ (x4 : Int32) (dep : Nat → Int32), y_BR (s_i z tk ln) (s_st z a_there a_effects tk ln) (s_N z) dep d s t → ((x4 = 0 ∧ ∀ t, dep t = a_depth t) ∨ (x4 = 1 ∧ ∃ t, g_D (s_i z tk ln) (s_st z a_there a_effects tk ln) (d + 1) t)) →
      wY_further_6 post (nI s) (nI (s_N z)) (nI d) f_known f_traceEnd f_failures n x4 (nI t) a_tokens a_lengths a_values a_there a_fairness a_effects a_goes a_guards a_enabled dep a_ways a_alive a_calm a_traced a_failed a_stack := by
    intro n
    induction n with
    | zero => intro t _ h; omega
    | succ n ih =>
      intro t ht hn x4 dep hB hx
      refine pk_le (s_N z) t (fun h => ?_) (fun h => ?_)
      · have et : t = s_N z := by omega
        subst et
        exact ⟨by rcases hx with ⟨rfl, _⟩ | ⟨rfl, _⟩ <;> rfl, H x4 dep hB hx⟩
      · refine ⟨vp_in_nI (by omega) (by omega), ?_⟩
        rw [nI_clamp (by omega)]
        have keep : (dep t ≠ -1 ∨ ¬ s_st z a_there a_effects tk ln s t) → wY_further_6 post (nI s) (nI (s_N z)) (nI d) f_known f_traceEnd f_failures n x4 (nI (t + 1)) a_tokens a_lengths a_values a_there a_fairness a_effects a_goes a_guards a_enabled dep a_ways a_alive a_calm a_traced a_failed a_stack :=
          fun q => ih (t + 1) (by omega) (by omega) x4 dep (y_keep hB q) hx
        refine br_c (fun e => nm_r (nI_1 t) (keep (Or.inl fun q => ?_))) (fun e => ?_)
        · rw [q] at e; exact absurd e (by decide)
        · refine y_stepD hz hs h hF (fun q => br_f (by decide) ⟨vp_in_nI (by omega) (by omega), nm_r (e' := upd dep t (nI (d + 1))) (by rw [nI_1]) (nm_r (nI_1 t) ?_)⟩) (fun q => br_t rfl (nm_r (nI_1 t) (keep (Or.inr q))))
          have em : dep t = -1 := by
            rcases hB t h with ⟨e1, _⟩ | ⟨j, hj, e1, _⟩ | ⟨e1, _⟩
            · exact e1
            · rw [e1] at e; exact absurd (nI_pos' (by omega)) e
            · rw [e1] at e; exact absurd (nI_pos' (by omega)) e
          have hB' := y_set hB h hd q em (by omega)
          refine ih (t + 1) (by omega) (by omega) 1 _ hB' (Or.inr ⟨rfl, t, ?_⟩)
          rcases hB' t h with ⟨e1, _⟩ | ⟨j, hj, e1, _⟩ | ⟨_, r⟩
          · rw [pk_us] at e1; exact absurd e1 (d_m1 (by omega))
          · rw [pk_us, nI_eq (by omega) (by omega)] at e1; omega
          · exact r
  exact ⟨s_N z + 1, key _ 0 (Nat.zero_le _) (by omega) 0 a_depth hB (Or.inl ⟨rfl, fun _ => rfl⟩)⟩
theorem y_know_142 {post : SY → Prop} {d : Nat} {J133 : Int32 → Int32 → Int32 → Int32 → Int32 → (Nat → Int32) → (Nat → Int32) → (Nat → Int32) → (Nat → Int32) → (Nat → Int32) → (Nat → Int32) → (Nat → Int64) → (Nat → Int32) → (Nat → Int32) → (Nat → Int32) → (Nat → Int64) → (Nat → Int64) → (Nat → Int64) → (Nat → Int32) → (Nat → Int32) → (Nat → Int32) → Prop}
    (hz : s_Z z) (hF : ∀ s, s < s_N z → l_F z a_there a_effects tk ln a_goes a_guards a_enabled s) (hdN : d < s_N z)
    (HJ : ∀ (x2 : Int32) (dep : Nat → Int32), y_BI (s_i z tk ln) (s_st z a_there a_effects tk ln) (s_N z) dep (d + 1) → ((x2 = 0 ∧ ∀ t, t < s_N z → dep t ≠ nI (d + 1)) ∨ (x2 = 1 ∧ ∃ t, g_D (s_i z tk ln) (s_st z a_there a_effects tk ln) (d + 1) t)) → J133 x2 (nI (d + 1)) f_known f_traceEnd f_failures a_tokens a_lengths a_values a_there a_fairness a_effects a_goes a_guards a_enabled dep a_ways a_alive a_calm a_traced a_failed a_stack) :
    ∀ n s, s ≤ s_N z → s_N z - s < n → ∀ (x2 : Int32) (dep : Nat → Int32), y_BR (s_i z tk ln) (s_st z a_there a_effects tk ln) (s_N z) dep d s 0 → ((x2 = 0 ∧ ∀ t, t < s_N z → dep t ≠ nI (d + 1)) ∨ (x2 = 1 ∧ ∃ t, g_D (s_i z tk ln) (s_st z a_there a_effects tk ln) (d + 1) t)) →
      wY_know_142 post J133 (nI (s_N z)) (nI d) n x2 (nI s) f_known f_traceEnd f_failures a_tokens a_lengths a_values a_there a_fairness a_effects a_goes a_guards a_enabled dep a_ways a_alive a_calm a_traced a_failed a_stack := by
  have hN := s_N_le hz
  have hI : ∀ s, s_i z tk ln s → s < s_N z := fun s h => h.1
  have hS : ∀ s t, s_st z a_there a_effects tk ln s t → t < s_N z := fun s t h => (s_st_lt h).2
  intro n
  induction n with
  | zero => intro s _ h; omega
  | succ n ih =>
    intro s hs hn x2 dep hB hx
    refine pk_le (s_N z) s (fun h => ?_) (fun h => ?_)
    · have es : s = s_N z := by omega
      subst es
      exact nm_r (nI_1 d) (HJ x2 dep (y_end hI hS hB) hx)
    · refine ⟨vp_in_nI (by omega) (by omega), ?_⟩
      rw [nI_clamp (by omega)]
      have ed : dep s = nI d ↔ g_D (s_i z tk ln) (s_st z a_there a_effects tk ln) d s := by
        rcases hB s h with ⟨e1, q, _⟩ | ⟨j, hj, e1, q⟩ | ⟨e1, q⟩
        · rw [e1]; exact ⟨fun c => absurd c.symm (d_m1 (by omega)), fun c => absurd c (q d (Nat.le_refl _))⟩
        · rw [e1, nI_eq (by omega) (by omega)]
          exact ⟨fun c => by rw [← c]; exact q, fun c => g_D_u q c⟩
        · rw [e1, nI_eq (by omega) (by omega)]
          exact ⟨fun c => by omega, fun c => g_D_u q c⟩
      refine if1 ed (fun hd => ?_) (fun hd => nm_r (nI_1 s) (ih (s + 1) (by omega) (by omega) x2 dep (y_skip hB hd) hx))
      refine y_further hz h hF hd hdN hB (fun r dep' hB' hr => ?_)
      rcases hr with ⟨rfl, e⟩ | ⟨rfl, t, ht⟩
      · refine br_t rfl (nm_r (nI_1 s) (ih (s + 1) (by omega) (by omega) x2 dep' (y_row hB') ?_))
        rcases hx with ⟨ex, q⟩ | q
        · exact Or.inl ⟨ex, fun t ht => by rw [e t]; exact q t ht⟩
        · exact Or.inr q
      · exact br_f (by decide) (nm_r (nI_1 s) (ih (s + 1) (by omega) (by omega) 1 dep' (y_row hB') (Or.inr ⟨rfl, t, ht⟩)))
theorem y_know_133 {post : SY → Prop} (hz : s_Z z) (hF : ∀ s, s < s_N z → l_F z a_there a_effects tk ln a_goes a_guards a_enabled s)
    (H : ∀ dep : Nat → Int32, q_dOK z a_there a_effects tk ln dep → post (f_known, f_traceEnd, f_failures, a_tokens, a_lengths, a_values, a_there, a_fairness, a_effects, a_goes, a_guards, a_enabled, dep, a_ways, a_alive, a_calm, a_traced, a_failed, a_stack)) :
    ∀ n d, (d = 0 ∨ ∃ t, g_D (s_i z tk ln) (s_st z a_there a_effects tk ln) d t) → s_N z + 1 - d < n → ∀ dep : Nat → Int32, y_BI (s_i z tk ln) (s_st z a_there a_effects tk ln) (s_N z) dep d → wY_know_133 post (nI (s_N z)) n 1 (nI d) f_known f_traceEnd f_failures a_tokens a_lengths a_values a_there a_fairness a_effects a_goes a_guards a_enabled dep a_ways a_alive a_calm a_traced a_failed a_stack := by
  have hN := s_N_le hz
  have hp := s_N_pos hz
  have hI : ∀ s, s_i z tk ln s → s < s_N z := fun s h => h.1
  have hS : ∀ s t, s_st z a_there a_effects tk ln s t → t < s_N z := fun s t h => (s_st_lt h).2
  intro n
  induction n with
  | zero => intro d _ h; omega
  | succ n ih =>
    intro d hd hn dep hB
    have hdN : d < s_N z := by
      rcases hd with e | ⟨t, ht⟩
      · omega
      · exact g_D_lt hI hS ht
    refine br_f (by decide) ⟨s_N z + 1, y_know_142 hz hF hdN (fun x2 dep' hB' hx => ?_) (s_N z + 1) 0 (Nat.zero_le _) (by omega) 0 dep (y_start hB) (Or.inl ⟨rfl, fun t ht e => ?_⟩)⟩
    · rcases hx with ⟨rfl, q⟩ | ⟨rfl, q⟩
      · obtain ⟨m, rfl⟩ : ∃ m, n = m + 1 := ⟨n - 1, by omega⟩
        refine br_t rfl (H dep' (y_done hI hS hB' fun t ht => ?_))
        have htN := g_R_lt hI hS ht.1
        rcases hB' t htN with ⟨_, r⟩ | ⟨j, hj, e, r⟩
        · exact r (d + 1) (Nat.le_refl _) ht
        · exact q t htN (by rw [e, g_D_u r ht])
      · exact ih (d + 1) (Or.inr q) (by omega) dep' hB'
    · rcases hB t ht with ⟨e1, _⟩ | ⟨j, hj, e1, _⟩
      · rw [e1] at e; exact d_m1 (by omega) e.symm
      · rw [e1, nI_eq (by omega) (by omega)] at e; omega
theorem y_know_98 {post : SY → Prop} (hz : s_Z z) (hsz : ∀ v, v < 3 → a_values v = nI (z v)) (hL : r_M tk ln a_tokens a_lengths) (hT : r_Tk tk ln) (hwI : ln 16 = 0 ∨ e_wh (tk 16) (ln 16)) (hF : ∀ s, s < s_N z → l_F z a_there a_effects tk ln a_goes a_guards a_enabled s)
    (H : ∀ st dep : Nat → Int32, q_dOK z a_there a_effects tk ln dep → post (f_known, f_traceEnd, f_failures, a_tokens, a_lengths, a_values, a_there, a_fairness, a_effects, a_goes, a_guards, a_enabled, dep, a_ways, a_alive, a_calm, a_traced, a_failed, st)) :
    ∀ n s, s ≤ s_N z → s_N z - s < n → ∀ st dep : Nat → Int32, (∀ t, t < s → (dep t = -1 ∧ ¬ s_i z tk ln t) ∨ (dep t = 0 ∧ s_i z tk ln t)) → wY_know_98 post (nI (s_N z)) n (nI s) f_known f_traceEnd f_failures a_tokens a_lengths a_values a_there a_fairness a_effects a_goes a_guards a_enabled dep a_ways a_alive a_calm a_traced a_failed st := by
  have hN := s_N_le hz
  intro n
  induction n with
  | zero => intro s _ h; omega
  | succ n ih =>
    intro s hs hn st dep hd
    refine pk_le (s_N z) s (fun h => ?_) (fun h => ?_)
    · refine ⟨s_N z + 2, y_know_133 hz hF (fun dep' hd' => H st dep' hd') (s_N z + 2) 0 (Or.inl rfl) (by omega) dep fun t ht => ?_⟩
      rcases hd t (by omega) with ⟨e, q⟩ | ⟨e, q⟩
      · refine Or.inl ⟨e, fun j hj dj => ?_⟩
        have : j = 0 := by omega
        subst this
        exact q (g_D_0.mp dj)
      · exact Or.inr ⟨0, by omega, e, g_D_0.mpr q⟩
    · refine y_isTrue (l := 16) hz hsz (by omega) hL hT (by omega) hwI (fun st' e => br_f (by decide) ⟨vp_in_nI (by omega) (by omega), nm_r (e' := upd dep s 0) (by rw [nI_clamp (by omega)]) (nm_r (nI_1 s) (ih (s + 1) (by omega) (by omega) st' _ fun t ht => ?_))⟩) (fun st' e => br_t rfl ⟨vp_in_nI (by omega) (by omega), nm_r (e' := upd dep s (-1)) (by rw [nI_clamp (by omega)]) (nm_r (nI_1 s) (ih (s + 1) (by omega) (by omega) st' _ fun t ht => ?_))⟩)
      · by_cases c : t = s
        · rw [c, pk_us]; exact Or.inr ⟨rfl, h, e⟩
        · rw [pk_un c]; exact hd t (by omega)
      · by_cases c : t = s
        · rw [c, pk_us]; exact Or.inl ⟨rfl, fun q => q.2 e⟩
        · rw [pk_un c]; exact hd t (by omega)
theorem y_know_63 {post : SY → Prop} {s : Nat} {J42 : Int32 → Int32 → Int32 → Int32 → (Nat → Int32) → (Nat → Int32) → (Nat → Int32) → (Nat → Int32) → (Nat → Int32) → (Nat → Int32) → (Nat → Int64) → (Nat → Int32) → (Nat → Int32) → (Nat → Int32) → (Nat → Int64) → (Nat → Int64) → (Nat → Int64) → (Nat → Int32) → (Nat → Int32) → (Nat → Int32) → Prop}
    (hW : r_W z a_there a_fairness a_effects tk ln) (hsz : ∀ v, v < 3 → a_values v = nI (z v)) (hL : r_M tk ln a_tokens a_lengths) (hs : s < s_N z)
    (HJ : ∀ (st : Nat → Int32) (goes : Nat → Int64) (guards enabled : Nat → Int32), l_X z a_there a_effects tk ln goes guards enabled (s + 1) → J42 (nI (s + 1)) f_known f_traceEnd f_failures a_tokens a_lengths a_values a_there a_fairness a_effects goes guards enabled a_depth a_ways a_alive a_calm a_traced a_failed st) :
    ∀ n a, a ≤ 4 → 4 - a < n → ∀ (st : Nat → Int32) (goes : Nat → Int64) (guards enabled : Nat → Int32), (∀ s', s' < s → l_F z a_there a_effects tk ln goes guards enabled s') → (∀ s', s + 1 ≤ s' → s' < 125 → ∀ b, b < 4 → ∀ t, ¬ aS goes (250 * b + 2 * s') t) → l_R z a_there a_effects tk ln goes guards enabled s a →
      wY_know_63 post J42 (nI (s_N z)) (nI s) n (nI a) f_known f_traceEnd f_failures a_tokens a_lengths a_values a_there a_fairness a_effects goes guards enabled a_depth a_ways a_alive a_calm a_traced a_failed st := by
  obtain ⟨hz, hfr, hh, hT, hwl, hwg, hwe⟩ := hW
  have hN := s_N_le hz
  intro n
  induction n with
  | zero => intro a _ h; omega
  | succ n ih =>
    intro a ha hn st goes guards enabled h1 h2 h3
    refine pk_le 4 a (fun h => ?_) (fun h => ?_)
    · have ea : a = 4 := by omega
      subst ea
      refine nm_r (nI_1 s) (HJ _ _ _ _ ⟨fun s' hs' => ?_, h2⟩)
      rcases Nat.lt_or_ge s' s with c | c
      · exact h1 s' c
      · have : s' = s := by omega
        rw [this]; exact l_R_4 h3
    · refine ⟨vp_in_nI h (by omega), ?_⟩
      rw [nI_clamp (by omega)]
      refine br_c (fun e => nm_r (nI_1 a) (ih (a + 1) (by omega) (by omega) st goes guards enabled h1 h2 (l_R_no h h3 fun q => q.1 e))) (fun e => ?_)
      refine y_lead hz hsz hL hT (fun v hv => hwe a v h hv) h (hwg a h e) e hs h3 (fun st' g' gu' en' f1 f3 f4 h3' => nm_r (nI_1 a) (ih (a + 1) (by omega) (by omega) st' g' gu' en' (fun s' hs' => ?_) (fun s' hs' hs2 b hb t => ?_) h3'))
      · exact l_F_c (h1 s' hs') (fun b hb => ⟨f1 _ (by omega) (by omega), f1 _ (by omega) (by omega)⟩) (f3 _ (by omega)) (f4 _ (by omega))
      · unfold aS
        rw [f1 _ (by omega) (by omega), f1 _ (by omega) (by omega)]
        exact h2 s' hs' hs2 b hb t
theorem y_know_42 {post : SY → Prop} (hW : r_W z a_there a_fairness a_effects tk ln) (hsz : ∀ v, v < 3 → a_values v = nI (z v)) (hL : r_M tk ln a_tokens a_lengths)
    (H : ∀ (st : Nat → Int32) (goes : Nat → Int64) (guards enabled dep : Nat → Int32), y_D z a_there a_effects tk ln goes guards enabled dep → post (f_known, f_traceEnd, f_failures, a_tokens, a_lengths, a_values, a_there, a_fairness, a_effects, goes, guards, enabled, dep, a_ways, a_alive, a_calm, a_traced, a_failed, st)) :
    ∀ n s, s ≤ s_N z → s_N z - s < n → ∀ (st : Nat → Int32) (goes : Nat → Int64) (guards enabled : Nat → Int32), l_X z a_there a_effects tk ln goes guards enabled s → wY_know_42 post (nI (s_N z)) n (nI s) f_known f_traceEnd f_failures a_tokens a_lengths a_values a_there a_fairness a_effects goes guards enabled a_depth a_ways a_alive a_calm a_traced a_failed st := by
  have hN := s_N_le hW.1
  intro n
  induction n with
  | zero => intro s _ h; omega
  | succ n ih =>
    intro s hs hn st goes guards enabled hk
    refine pk_le (s_N z) s (fun h => ?_) (fun h => ?_)
    · have es : s = s_N z := by omega
      subst es
      refine ⟨s_N z + 1, y_know_98 hW.1 hsz hL hW.2.2.2.1 (hW.2.2.2.2.1 16 (by omega)) hk.1 (fun st' dep hd => H st' goes guards enabled dep ⟨hk.1, hd⟩) (s_N z + 1) 0 (Nat.zero_le _) (by omega) st a_depth (fun t ht => absurd ht (Nat.not_lt_zero _))⟩
    · have v1 : vp_in (nI s) 125 := vp_in_nI (by omega) (by omega)
      have cs : (nI s).toNatClampNeg = s := nI_clamp (by omega)
      refine ⟨v1, nm_r (e' := upd guards s 0) (by rw [cs]) ⟨v1, nm_r (e' := upd enabled s 0) (by rw [cs]) ⟨5, y_know_63 hW hsz hL h (fun st' g' gu' en' hk' => ih (s + 1) (by omega) (by omega) st' g' gu' en' hk') 5 0 (by omega) (by omega) st goes _ _ (fun s' hs' => ?_) (fun s' hs' => hk.2 s' (by omega)) ?_⟩⟩⟩
      · exact l_F_c (hk.1 s' hs') (fun _ _ => ⟨rfl, rfl⟩) (pk_un (by omega)) (pk_un (by omega))
      · refine ⟨fun b hb => absurd hb (Nat.not_lt_zero _), fun b _ hb t => hk.2 s (Nat.le_refl _) (by omega) b hb t, ?_, ?_⟩
        · rw [pk_us]; exact mb_0 fun i _ q => absurd q.1 (Nat.not_lt_zero _)
        · rw [pk_us]; exact mb_0 fun i _ q => absurd q.1 (Nat.not_lt_zero _)
theorem y_states {post : Int32 → Prop} (hsz : ∀ v, v < 3 → a_values v = nI (z v)) (h : post (nI (s_N z))) : wpY_states post (f_known, f_traceEnd, f_failures, a_tokens, a_lengths, a_values, a_there, a_fairness, a_effects, a_goes, a_guards, a_enabled, a_depth, a_ways, a_alive, a_calm, a_traced, a_failed, a_stack) := by
  unfold wpY_states
  dsimp only
  rw [hsz 0 (by omega), hsz 1 (by omega), hsz 2 (by omega), pk_mul, pk_mul]
  exact h
theorem y_know {post : SY → Prop} (hW : r_W z a_there a_fairness a_effects tk ln) (hsz : ∀ v, v < 3 → a_values v = nI (z v)) (hL : r_M tk ln a_tokens a_lengths)
    (hm : f_known = 0 ∨ (f_known = 1 ∧ y_D z a_there a_effects tk ln a_goes a_guards a_enabled a_depth))
    (H : ∀ (st : Nat → Int32) (goes : Nat → Int64) (guards enabled dep : Nat → Int32), y_D z a_there a_effects tk ln goes guards enabled dep → post (1, f_traceEnd, f_failures, a_tokens, a_lengths, a_values, a_there, a_fairness, a_effects, goes, guards, enabled, dep, a_ways, a_alive, a_calm, a_traced, a_failed, st)) :
    wpY_know post (f_known, f_traceEnd, f_failures, a_tokens, a_lengths, a_values, a_there, a_fairness, a_effects, a_goes, a_guards, a_enabled, a_depth, a_ways, a_alive, a_calm, a_traced, a_failed, a_stack) := by
  rcases hm with e | ⟨e, hD⟩
  · have key : ∀ n k, k ≤ 1000 → 1000 - k < n → ∀ goes : Nat → Int64, (∀ j, j < k → goes j = 0) → wY_know_20 post (nI (s_N z)) 1 f_traceEnd f_failures n (nI k) a_tokens a_lengths a_values a_there a_fairness a_effects goes a_guards a_enabled a_depth a_ways a_alive a_calm a_traced a_failed a_stack := by
      intro n
      induction n with
      | zero => intro k _ h; omega
      | succ n ih =>
        intro k hk hn goes h0
        refine pk_le 1000 k (fun h => ⟨s_N z + 1, y_know_42 hW hsz hL H (s_N z + 1) 0 (Nat.zero_le _) (by omega) a_stack goes a_guards a_enabled ⟨fun s hs => absurd hs (Nat.not_lt_zero _), fun s _ hs b hb t => ?_⟩⟩) (fun h => ?_)
        · unfold aS
          rw [h0 _ (by omega), h0 _ (by omega)]
          exact iS_0 t
        · refine ⟨vp_in_nI h (by omega), nm_r (e' := vp_updL goes k 0) (by rw [nI_clamp (by omega)]) (nm_r (nI_1 k) (ih (k + 1) (by omega) (by omega) _ fun j hj => ?_))⟩
          by_cases c : j = k
          · rw [c, pk_uLs]
          · rw [pk_uLn c]; exact h0 j (by omega)
    refine br_t e (y_states hsz ⟨1001, key 1001 0 (by omega) (by omega) a_goes fun j hj => absurd hj (Nat.not_lt_zero _)⟩)
  · subst e
    exact br_f (by decide) (H _ _ _ _ _ hD)
end Yk
end
section
/-! Y: count, state, leads -/
theorem sm_cn {P : Nat → Prop} : ∀ n, sm (fun s => b01 (P s)) n = cn P n
  | 0 => rfl
  | n + 1 => by show sm _ n + _ = cn P n + _; rw [sm_cn n]
/-- what state s adds to the count p -/
noncomputable def c_inc (z : Nat → Nat) (th hw : Nat → Int32) (tk : Nat → Nat → Nat) (ln : Nat → Nat) (p s : Nat) : Nat :=
  if p = 1 then b01 (s_i z tk ln s) else if p = 2 then b01 (q_Rd z th hw tk ln s) else if p = 4 then b01 (q_stk z th hw tk ln s) else if p = 5 then q_prs z th hw tk ln s else 0
section Yq
variable {f_known f_traceEnd f_failures : Int32} {a_tokens a_lengths a_values a_there a_fairness a_effects a_guards a_enabled a_depth a_traced a_failed a_stack : Nat → Int32} {a_goes a_ways a_alive a_calm : Nat → Int64}
variable {z : Nat → Nat} {tk : Nat → Nat → Nat} {ln : Nat → Nat}
theorem y_c122 {post : Int32 → SY → Prop} {J34 : Int32 → Int32 → Int32 → Prop} {p s x3 : Nat} {x4 : Int32} (hz : s_Z z) (hp : p < 6) (hD : y_D z a_there a_effects tk ln a_goes a_guards a_enabled a_depth) (hs : s < s_N z)
    (HJ : J34 (nI (x3 + if p = 5 then q_prs z a_there a_effects tk ln s else 0)) x4 (nI (s + 1))) : ∃ n, wY_count_122 post J34 (nI p) (nI (s_N z)) x4 (nI s) f_known f_traceEnd f_failures a_tokens a_lengths a_values a_there a_fairness a_effects a_goes a_guards a_enabled a_depth a_ways a_alive a_calm a_traced a_failed a_stack n (nI x3) (nI 0) := by
  have hN := s_N_le hz
  have hNp := s_N_pos hz
  by_cases h5 : p = 5
  · rw [if_pos h5] at HJ
    by_cases hr : q_Rd z a_there a_effects tk ln s
    · have key : ∀ n t, t ≤ s_N z → s_N z - t < n → wY_count_122 post J34 (nI p) (nI (s_N z)) x4 (nI s) f_known f_traceEnd f_failures a_tokens a_lengths a_values a_there a_fairness a_effects a_goes a_guards a_enabled a_depth a_ways a_alive a_calm a_traced a_failed a_stack n (nI (x3 + cn (fun t => q_Rd z a_there a_effects tk ln s ∧ s_st z a_there a_effects tk ln s t) t)) (nI t) := by
        intro n
        induction n with
        | zero => intro t _ h; omega
        | succ n ih =>
          intro t ht hn
          refine pk_le (s_N z) t (fun h => ?_) (fun h => ?_)
          · have et : t = s_N z := by omega
            subst et
            exact nm_r (nI_1 s) HJ
          · refine br_t (by rw [h5]; rfl) ⟨vp_in_nI (by omega) (by omega), br_f ?_ (y_stepD hz hs h hD.1 (fun q => br_f (by decide) (nm_r (nI_1 _) (nm_r (nI_1 t) ?_))) (fun q => br_t rfl (nm_r (nI_1 t) ?_)))⟩
            · rw [nI_clamp (by omega), d_OK_neg hN hD.2 hs]; exact fun q => q hr
            · have := ih (t + 1) (by omega) (by omega)
              rw [show cn (fun t => q_Rd z a_there a_effects tk ln s ∧ s_st z a_there a_effects tk ln s t) (t + 1) = cn (fun t => q_Rd z a_there a_effects tk ln s ∧ s_st z a_there a_effects tk ln s t) t + 1 by
                show cn _ t + b01 _ = _
                rw [b01_t ⟨hr, q⟩], ← Nat.add_assoc] at this
              exact this
            · have := ih (t + 1) (by omega) (by omega)
              rw [show cn (fun t => q_Rd z a_there a_effects tk ln s ∧ s_st z a_there a_effects tk ln s t) (t + 1) = cn (fun t => q_Rd z a_there a_effects tk ln s ∧ s_st z a_there a_effects tk ln s t) t by
                show cn _ t + b01 _ = _
                rw [b01_f fun r => q r.2, Nat.add_zero]] at this
              exact this
      exact ⟨s_N z + 1, key _ 0 (Nat.zero_le _) (by omega)⟩
    · have e0 : q_prs z a_there a_effects tk ln s = 0 := cn_0 fun k _ q => hr q.1
      rw [e0, Nat.add_zero] at HJ
      refine ⟨1, br_f (nI_ge (a := 0) (b := s_N z) (by omega) (by omega)) (br_t (by rw [h5]; rfl) ⟨vp_in_nI (by omega) (by omega), br_t ?_ (nm_r (nI_1 s) HJ)⟩)⟩
      rw [nI_clamp (by omega), d_OK_neg hN hD.2 hs]; exact hr
  · rw [if_neg h5, Nat.add_zero] at HJ
    exact ⟨1, br_f (nI_ge (a := 0) (b := s_N z) (by omega) (by omega)) (br_f (fun q => h5 ((nI_eq (a := p) (b := 5) (by omega) (by omega)).mp q)) (nm_r (nI_1 s) HJ))⟩
theorem y_c61 {post : Int32 → SY → Prop} {J34 : Int32 → Int32 → Int32 → Prop} {p s x3 : Nat} {x4 : Int32} (hz : s_Z z) (hp : p < 6) (hD : y_D z a_there a_effects tk ln a_goes a_guards a_enabled a_depth) (hs : s < s_N z)
    (HJ : J34 (nI (x3 + c_inc z a_there a_effects tk ln p s)) x4 (nI (s + 1))) : wY_count_61 post J34 (nI p) (nI (s_N z)) (nI x3) x4 (nI s) f_known f_traceEnd f_failures a_tokens a_lengths a_values a_there a_fairness a_effects a_goes a_guards a_enabled a_depth a_ways a_alive a_calm a_traced a_failed a_stack := by
  have hN := s_N_le hz
  have v1 : vp_in (nI s) 125 := vp_in_nI (by omega) (by omega)
  have cs : (nI s).toNatClampNeg = s := nI_clamp (by omega)
  unfold c_inc at HJ
  have w91 : ¬ p = 1 → (p = 2 → ¬ q_Rd z a_there a_effects tk ln s) → wY_count_91 post J34 (nI p) (nI (s_N z)) (nI x3) x4 (nI s) f_known f_traceEnd f_failures a_tokens a_lengths a_values a_there a_fairness a_effects a_goes a_guards a_enabled a_depth a_ways a_alive a_calm a_traced a_failed a_stack := by
    intro h1 h2
    rw [if_neg h1] at HJ
    unfold wY_count_91
    refine pk_eq p 4 (fun h4 => ⟨v1, ?_⟩) (fun h4 => y_c122 hz hp hD hs ?_)
    · rw [if_neg (by omega), if_pos h4] at HJ
      rw [cs]
      have e5 : ∀ x, x + (if p = 5 then q_prs z a_there a_effects tk ln s else 0) = x := fun x => by rw [if_neg (by omega)]; rfl
      refine if2 (d := q_Rd z a_there a_effects tk ln s) (d_OK_neg hN hD.2 hs) (fun hr => y_c122 hz hp hD hs ?_) (fun hr => ⟨v1, if1 (mb_z (hD.1 s hs).2.2) (fun hz0 => nm_r (nI_1 x3) (y_c122 hz hp hD hs ?_)) (fun hz0 => y_c122 hz hp hD hs ?_)⟩)
      · rw [b01_f fun q => hr q.1, Nat.add_zero] at HJ; rw [e5]; exact HJ
      · rw [b01_t ⟨hr, hz0⟩] at HJ; rw [e5]; exact HJ
      · rw [b01_f fun q => hz0 q.2, Nat.add_zero] at HJ; rw [e5]; exact HJ
    · rw [if_neg h4] at HJ
      by_cases h2' : p = 2
      · rw [if_pos h2', b01_f (h2 h2'), Nat.add_zero] at HJ
        rw [if_neg (by omega), Nat.add_zero]; exact HJ
      · rw [if_neg h2'] at HJ; exact HJ
  have w76 : ¬ p = 1 → wY_count_76 post J34 (nI p) (nI (s_N z)) (nI x3) x4 (nI s) f_known f_traceEnd f_failures a_tokens a_lengths a_values a_there a_fairness a_effects a_goes a_guards a_enabled a_depth a_ways a_alive a_calm a_traced a_failed a_stack := by
    intro h1
    unfold wY_count_76
    refine pk_eq p 2 (fun h2 => ⟨v1, ?_⟩) (fun h2 => w91 h1 fun q => absurd q h2)
    rw [cs]
    refine if1 (d := q_Rd z a_there a_effects tk ln s) (d_OK_pos hN hD.2 hs) (fun hr => nm_r (nI_1 x3) (y_c122 hz hp hD hs ?_)) (fun hr => w91 h1 fun _ => hr)
    rw [if_neg h1, if_pos h2, b01_t hr] at HJ
    rw [if_neg (by omega), Nat.add_zero]; exact HJ
  unfold wY_count_61
  refine pk_eq p 1 (fun h1 => ⟨v1, ?_⟩) (fun h1 => w76 h1)
  rw [cs]
  have e0 : a_depth s = 0 ↔ s_i z tk ln s := (d_OK_eq hN hD.2 hs (k := 0) (by omega)).trans g_D_0
  have e5 : ∀ x, x + (if p = 5 then q_prs z a_there a_effects tk ln s else 0) = x := fun x => by rw [if_neg (by omega)]; rfl
  refine if1 e0 (fun hi => nm_r (nI_1 x3) (y_c122 hz hp hD hs ?_)) (fun hi => ?_)
  · rw [if_pos h1, b01_t hi] at HJ; rw [e5]; exact HJ
  · rw [if_pos h1, b01_f hi, Nat.add_zero] at HJ
    unfold wY_count_76
    refine br_f (fun q => by have := (nI_eq (a := p) (b := 2) (by omega) (by omega)).mp q; omega) ?_
    unfold wY_count_91
    refine br_f (fun q => by have := (nI_eq (a := p) (b := 4) (by omega) (by omega)).mp q; omega) (y_c122 hz hp hD hs ?_)
    rw [e5]; exact HJ
theorem y_c34 {post : Int32 → SY → Prop} {p : Nat} (hz : s_Z z) (hp : p < 6) (hD : y_D z a_there a_effects tk ln a_goes a_guards a_enabled a_depth)
    (H3 : p = 3 → ∀ mx, m_X (s_N z) a_depth mx → post mx (f_known, f_traceEnd, f_failures, a_tokens, a_lengths, a_values, a_there, a_fairness, a_effects, a_goes, a_guards, a_enabled, a_depth, a_ways, a_alive, a_calm, a_traced, a_failed, a_stack)) (H : ¬ p = 3 → post (nI (sm (c_inc z a_there a_effects tk ln p) (s_N z))) (f_known, f_traceEnd, f_failures, a_tokens, a_lengths, a_values, a_there, a_fairness, a_effects, a_goes, a_guards, a_enabled, a_depth, a_ways, a_alive, a_calm, a_traced, a_failed, a_stack)) :
    ∀ n s, s ≤ s_N z → s_N z - s < n → ∀ x4 : Int32, m_X s a_depth x4 → wY_count_34 post (nI p) (nI (s_N z)) f_known f_traceEnd f_failures a_tokens a_lengths a_values a_there a_fairness a_effects a_goes a_guards a_enabled a_depth a_ways a_alive a_calm a_traced a_failed a_stack n (nI (sm (c_inc z a_there a_effects tk ln p) s)) x4 (nI s) := by
  have hN := s_N_le hz
  intro n
  induction n with
  | zero => intro s _ h; omega
  | succ n ih =>
    intro s hs hn x4 hm
    refine pk_le (s_N z) s (fun h => ?_) (fun h => ?_)
    · have es : s = s_N z := by omega
      subst es
      exact pk_eq p 3 (fun e => H3 e x4 hm) (fun e => H e)
    · have v1 : vp_in (nI s) 125 := vp_in_nI (by omega) (by omega)
      have cs : (nI s).toNatClampNeg = s := nI_clamp (by omega)
      refine ⟨v1, ?_⟩
      rw [cs]
      refine br_c (fun e => ?_) (fun e => ⟨v1, nm_e ?_⟩)
      · refine y_c61 hz hp hD h (ih (s + 1) (by omega) (by omega) x4 ⟨fun t ht => ?_, ?_⟩)
        · by_cases c : t = s
          · rw [c]; exact e
          · exact hm.1 t (by omega)
        · exact hm.2.elim Or.inl fun ⟨t, ht, q⟩ => Or.inr ⟨t, by omega, q⟩
      · refine y_c61 hz hp hD h (ih (s + 1) (by omega) (by omega) _ ⟨fun t ht => ?_, Or.inr ⟨s, by omega, rfl⟩⟩)
        by_cases c : t = s
        · rw [c]; exact Int32.le_refl _
        · have := hm.1 t (by omega)
          exact Int32.le_trans this (Int32.le_of_lt (Int32.not_le.mp e))
theorem y_count {post : Int32 → SY → Prop} {p : Int32} (hW : r_W z a_there a_fairness a_effects tk ln) (hsz : ∀ v, v < 3 → a_values v = nI (z v)) (hL : r_M tk ln a_tokens a_lengths)
    (hm : f_known = 0 ∨ (f_known = 1 ∧ y_D z a_there a_effects tk ln a_goes a_guards a_enabled a_depth))
    (H : ∀ r, c_A z a_there a_effects tk ln p r → ∀ (st : Nat → Int32) (goes : Nat → Int64) (guards enabled dep : Nat → Int32), y_D z a_there a_effects tk ln goes guards enabled dep → post r (1, f_traceEnd, f_failures, a_tokens, a_lengths, a_values, a_there, a_fairness, a_effects, goes, guards, enabled, dep, a_ways, a_alive, a_calm, a_traced, a_failed, st)) :
    wpY_count post (f_known, f_traceEnd, f_failures, a_tokens, a_lengths, a_values, a_there, a_fairness, a_effects, a_goes, a_guards, a_enabled, a_depth, a_ways, a_alive, a_calm, a_traced, a_failed, a_stack) p := by
  have hN := s_N_le hW.1
  unfold wpY_count
  dsimp only
  refine y_know hW hsz hL hm (fun st goes guards enabled dep hD => y_states hsz ?_)
  have K := fun r hr => H r hr st goes guards enabled dep hD
  refine br_c (fun e => K _ ?_) (fun e0 => ?_)
  · subst e
    exact ⟨fun _ => rfl, fun q => absurd q (by decide), fun q => absurd q (by decide), fun q => absurd q (by decide), fun q => absurd q (by decide), fun q => absurd q (by decide), fun q => absurd rfl q.1⟩
  have none : (¬ p = 1 ∧ ¬ p = 2 ∧ ¬ p = 3 ∧ ¬ p = 4 ∧ ¬ p = 5) → c_A z a_there a_effects tk ln p (-1) := fun ⟨a, b, c, d, e⟩ =>
    ⟨fun q => absurd q e0, fun q => absurd q a, fun q => absurd q b, fun q => absurd q c, fun q => absurd q d, fun q => absurd q e, fun _ => rfl⟩
  unfold wpY_in
  refine br_c (fun h => br_t rfl (K _ (none ?_))) (fun h => br_c (fun h5 => br_t rfl (K _ (none ?_))) (fun h5 => br_f (by decide) ?_))
  · refine ⟨?_, ?_, ?_, ?_, ?_⟩ <;> (intro q; rw [q] at h; exact absurd h (by decide))
  · refine ⟨?_, ?_, ?_, ?_, ?_⟩ <;> (intro q; rw [q] at h5; exact absurd h5 (by decide))
  · have hp0 : ¬ p < 0 := fun q => h (Int32.lt_of_lt_of_le q (by decide))
    obtain ⟨j, hj, e⟩ := nI_of hp0
    subst e
    have hj5 : j ≤ 5 := by
      rcases Nat.lt_or_ge 5 j with c | c
      · exact absurd (nI_lt (a := 5) c hj) h5
      · exact c
    have hj1 : 1 ≤ j := by
      rcases Nat.eq_zero_or_pos j with c | c
      · rw [c] at e0; exact absurd rfl e0
      · exact c
    have eqn : ∀ m, m < 6 → (nI j = nI m ↔ j = m) := fun m hm => nI_eq hj (by omega)
    refine ⟨s_N z + 1, y_c34 hW.1 (by omega) hD (fun e3 mx hmx => K _ ?_) (fun e3 => K _ ?_) (s_N z + 1) 0 (Nat.zero_le _) (by omega) (-1) ⟨fun s hs => absurd hs (Nat.not_lt_zero _), Or.inl rfl⟩⟩
    · subst e3
      exact ⟨fun q => absurd q (by decide), fun q => absurd q (by decide), fun q => absurd q (by decide), fun _ => ⟨dep, hD.2, hmx⟩, fun q => absurd q (by decide), fun q => absurd q (by decide), fun q => absurd rfl q.2.2.2.1⟩
    · have inc : ∀ P : Nat → Prop, (∀ s, c_inc z a_there a_effects tk ln j s = b01 (P s)) → sm (c_inc z a_there a_effects tk ln j) (s_N z) = cn P (s_N z) := fun P hP => by
        rw [← sm_cn]; exact sm_eq fun s _ => hP s
      have : j = 1 ∨ j = 2 ∨ j = 4 ∨ j = 5 := by omega
      rcases this with q | q | q | q <;> subst q
      · refine ⟨fun q => absurd q (by decide), fun _ => ?_, fun q => absurd q (by decide), fun q => absurd q (by decide), fun q => absurd q (by decide), fun q => absurd q (by decide), fun q => absurd rfl q.2.1⟩
        rw [inc _ fun s => rfl]
      · refine ⟨fun q => absurd q (by decide), fun q => absurd q (by decide), fun _ => ?_, fun q => absurd q (by decide), fun q => absurd q (by decide), fun q => absurd q (by decide), fun q => absurd rfl q.2.2.1⟩
        rw [inc _ fun s => rfl]
      · refine ⟨fun q => absurd q (by decide), fun q => absurd q (by decide), fun q => absurd q (by decide), fun q => absurd q (by decide), fun _ => ?_, fun q => absurd q (by decide), fun q => absurd rfl q.2.2.2.2.1⟩
        rw [inc _ fun s => rfl]
      · refine ⟨fun q => absurd q (by decide), fun q => absurd q (by decide), fun q => absurd q (by decide), fun q => absurd q (by decide), fun q => absurd q (by decide), fun _ => ?_, fun q => absurd rfl q.2.2.2.2.2⟩
        exact congrArg nI (sm_eq fun s _ => rfl)
theorem y_in' {post : Int32 → Prop} {x m : Int32} {n : Nat} (hn : 1 ≤ n) (hn2 : n < 2 ^ 31) (em : m = nI n) (h0 : ¬ vp_in x n → post 0) (h1 : ∀ j, j < n → x = nI j → post 1) : wpY_in post x 0 (m - 1) := by
  subst em
  obtain ⟨k, rfl⟩ : ∃ k, n = k + 1 := ⟨n - 1, by omega⟩
  rw [nI_pred]
  exact y_in (by omega) h0 h1
theorem y_state {post : Int32 → SY → Prop} {p0 p1 : Int32} (hW : r_W z a_there a_fairness a_effects tk ln) (hsz : ∀ v, v < 3 → a_values v = nI (z v)) (hL : r_M tk ln a_tokens a_lengths)
    (hm : f_known = 0 ∨ (f_known = 1 ∧ y_D z a_there a_effects tk ln a_goes a_guards a_enabled a_depth))
    (H0 : ∀ r, st_A z a_there a_effects tk ln p0 p1 r → post r (f_known, f_traceEnd, f_failures, a_tokens, a_lengths, a_values, a_there, a_fairness, a_effects, a_goes, a_guards, a_enabled, a_depth, a_ways, a_alive, a_calm, a_traced, a_failed, a_stack))
    (H : ∀ r, st_A z a_there a_effects tk ln p0 p1 r → ∀ (st : Nat → Int32) (goes : Nat → Int64) (guards enabled dep : Nat → Int32), y_D z a_there a_effects tk ln goes guards enabled dep → post r (1, f_traceEnd, f_failures, a_tokens, a_lengths, a_values, a_there, a_fairness, a_effects, goes, guards, enabled, dep, a_ways, a_alive, a_calm, a_traced, a_failed, st)) :
    wpY_state post (f_known, f_traceEnd, f_failures, a_tokens, a_lengths, a_values, a_there, a_fairness, a_effects, a_goes, a_guards, a_enabled, a_depth, a_ways, a_alive, a_calm, a_traced, a_failed, a_stack) p0 p1 := by
  have hN := s_N_le hW.1
  have hNp := s_N_pos hW.1
  unfold wpY_state
  dsimp only
  refine y_states hsz (y_in' hNp (by omega) rfl (fun hn => br_t rfl (H0 _ (Or.inr ⟨Or.inl hn, rfl⟩))) (fun s hs e => br_f (by decide) ?_))
  subst e
  refine y_in (n := 5) (by omega) (fun hn => br_t rfl (H0 _ (Or.inr ⟨Or.inr hn, rfl⟩))) (fun w hw e => br_f (by decide) ?_)
  subst e
  refine y_know hW hsz hL hm (fun st goes guards enabled dep hD => ?_)
  have K := fun r hr => H r hr st goes guards enabled dep hD
  have v1 : vp_in (nI s) 125 := vp_in_nI (by omega) (by omega)
  have cs : (nI s).toNatClampNeg = s := nI_clamp (by omega)
  obtain ⟨f1, f3, f4⟩ := hD.1 s hs
  have A : ∀ r, (w = 0 → ∃ dep, q_dOK z a_there a_effects tk ln dep ∧ r = dep s) → (w = 1 → mb r (fun a => s_en z a_there a_effects tk ln a s)) → (w = 2 → mb r (fun a => s_g z a_there tk ln a s)) → (3 ≤ w → r = nI (sv z s (w - 3))) → st_A z a_there a_effects tk ln (nI s) (nI w) r :=
    fun r a b c d => Or.inl ⟨s, w, hs, rfl, by omega, rfl, a, b, c, d⟩
  dsimp only
  rw [cs]
  refine pk_eq w 0 (fun e => ⟨v1, K _ (A _ (fun _ => ⟨dep, hD.2, rfl⟩) (fun q => by omega) (fun q => by omega) (fun q => by omega))⟩) (fun e0 => pk_eq w 1 (fun e => ⟨v1, K _ (A _ (fun q => by omega) (fun _ => f4) (fun q => by omega) (fun q => by omega))⟩) (fun e1 => pk_eq w 2 (fun e => ⟨v1, K _ (A _ (fun q => by omega) (fun q => by omega) (fun _ => f3) (fun q => by omega))⟩) (fun e2 => ?_)))
  have e3 : nI w - 3 = nI (w - 3) := pk_sub (b := 3) (by omega)
  rw [e3]
  exact y_valueOf hW.1 hsz (by omega) (by omega) (K _ (A _ (fun q => by omega) (fun q => by omega) (fun q => by omega) (fun _ => rfl)))
theorem y_leads {post : Int32 → SY → Prop} {p0 p1 p2 : Int32} (hW : r_W z a_there a_fairness a_effects tk ln) (hsz : ∀ v, v < 3 → a_values v = nI (z v)) (hL : r_M tk ln a_tokens a_lengths)
    (hm : f_known = 0 ∨ (f_known = 1 ∧ y_D z a_there a_effects tk ln a_goes a_guards a_enabled a_depth))
    (H0 : ∀ r, le_A z a_there a_effects tk ln p0 p1 p2 r → post r (f_known, f_traceEnd, f_failures, a_tokens, a_lengths, a_values, a_there, a_fairness, a_effects, a_goes, a_guards, a_enabled, a_depth, a_ways, a_alive, a_calm, a_traced, a_failed, a_stack))
    (H : ∀ r, le_A z a_there a_effects tk ln p0 p1 p2 r → ∀ (st : Nat → Int32) (goes : Nat → Int64) (guards enabled dep : Nat → Int32), y_D z a_there a_effects tk ln goes guards enabled dep → post r (1, f_traceEnd, f_failures, a_tokens, a_lengths, a_values, a_there, a_fairness, a_effects, goes, guards, enabled, dep, a_ways, a_alive, a_calm, a_traced, a_failed, st)) :
    wpY_leads post (f_known, f_traceEnd, f_failures, a_tokens, a_lengths, a_values, a_there, a_fairness, a_effects, a_goes, a_guards, a_enabled, a_depth, a_ways, a_alive, a_calm, a_traced, a_failed, a_stack) p0 p1 p2 := by
  have hN := s_N_le hW.1
  have hNp := s_N_pos hW.1
  unfold wpY_leads
  dsimp only
  refine y_in (n := 3) (by omega) (fun hn => br_t rfl (H0 _ (Or.inr ⟨rfl, ?_⟩))) (fun a ha e => br_f (by decide) ?_)
  · rintro ⟨a, s, t, ha, e, _⟩; exact hn (by rw [e]; exact vp_in_nI ha (by omega))
  subst e
  refine ⟨vp_in_nI ha (by omega), ?_⟩
  rw [nI_clamp (by omega)]
  refine br_c (fun e => H0 _ (Or.inr ⟨rfl, ?_⟩)) (fun eth => y_states hsz (y_in' hNp (by omega) rfl (fun hn => br_t rfl (H0 _ (Or.inr ⟨rfl, ?_⟩))) (fun s hs e => br_f (by decide) (y_states hsz (y_in' hNp (by omega) rfl (fun hn => br_t rfl (H0 _ (Or.inr ⟨rfl, ?_⟩))) (fun t ht e2 => br_f (by decide) ?_))))))
  · rintro ⟨a', s, t, ha', e', _, _, h⟩
    have : a' = a := (nI_eq (by omega) (by omega)).mp e'.symm
    rw [this] at h
    exact h.2.2.1.1 e
  · rintro ⟨a, s, t, ha, _, e, _, h⟩; exact hn (by rw [e]; exact vp_in_nI h.1 (by omega))
  · rintro ⟨a, s, t, ha, _, _, e, h⟩; exact hn (by rw [e]; exact vp_in_nI h.2.1 (by omega))
  subst e; subst e2
  refine y_know hW hsz hL hm (fun st goes guards enabled dep hD => ?_)
  have K := fun r hr => H r hr st goes guards enabled dep hD
  have ex : ∀ x : Prop, le_Q z a_there a_effects tk ln (nI a) (nI s) (nI t) → (s_go z a_there a_effects tk ln a s t → x) → x := by
    rintro x ⟨a', s', t', ha', e1, e2, e3, h⟩ k
    have x1 : a' = a := (nI_eq (by omega) (by omega)).mp e1.symm
    have h1 := h.1
    have h2 := h.2.1
    have x2 : s' = s := (nI_eq (by omega) (by omega)).mp e2.symm
    have x3 : t' = t := (nI_eq (by omega) (by omega)).mp e3.symm
    rw [x1, x2, x3] at h
    exact k h
  refine y_goesTo (go := s_go z a_there a_effects tk ln) (by omega) (by omega) (by omega) (fun x => (hD.1 s hs).1 a ha x) (fun q r => r.2.2.1.1 q) (fun q => ⟨rfl, K _ (Or.inl ⟨rfl, a, s, t, ha, rfl, rfl, rfl, q⟩)⟩) (fun q => ⟨rfl, K _ (Or.inr ⟨rfl, fun r => ex _ r q⟩)⟩)
end Yq
end
section
/-! Y: invariant, row -/
section Yv
variable {f_known f_traceEnd f_failures : Int32} {a_tokens a_lengths a_values a_there a_fairness a_effects a_guards a_enabled a_depth a_traced a_failed a_stack : Nat → Int32} {a_goes a_ways a_alive a_calm : Nat → Int64}
variable {z : Nat → Nat} {tk : Nat → Nat → Nat} {ln : Nat → Nat} {d : Nat} {Bd : Nat → Prop}
/-- forward -/
theorem y_row_170 {post : SY → Prop} {k : Nat} {f : Nat → Nat} {J162 : Int32 → (Nat → Int32) → (Nat → Int32) → (Nat → Int32) → (Nat → Int32) → (Nat → Int32) → (Nat → Int32) → (Nat → Int64) → (Nat → Int32) → (Nat → Int32) → (Nat → Int32) → (Nat → Int64) → (Nat → Int64) → (Nat → Int64) → (Nat → Int32) → (Nat → Int32) → (Nat → Int32) → Prop}
    (hz : s_Z z) (hD : y_D z a_there a_effects tk ln a_goes a_guards a_enabled a_depth) (hk : k ≤ d) (hdN : d < s_N z) (hb : ∀ s, aS a_alive 0 s ↔ v_B (s_i z tk ln) (s_st z a_there a_effects tk ln) Bd d 0 s)
    (h2 : 0 < k → a_traced (k - 1) = nI (f (k - 1)) ∧ f (k - 1) < s_N z) {s0 : Nat} (hs0 : v_m (s_i z tk ln) (s_st z a_there a_effects tk ln) Bd d (d - k) s0 ∧ (0 < k → s_st z a_there a_effects tk ln (f (k - 1)) s0))
    (HJ : ∀ s, s < s_N z → v_m (s_i z tk ln) (s_st z a_there a_effects tk ln) Bd d (d - k) s → (0 < k → s_st z a_there a_effects tk ln (f (k - 1)) s) → (∀ t, t < s → v_m (s_i z tk ln) (s_st z a_there a_effects tk ln) Bd d (d - k) t → ¬ (0 < k → s_st z a_there a_effects tk ln (f (k - 1)) t)) → J162 (nI (k + 1)) a_tokens a_lengths a_values a_there a_fairness a_effects a_goes a_guards a_enabled a_depth a_ways a_alive a_calm (upd a_traced k (nI s)) a_failed a_stack) :
    ∀ n s, s ≤ s0 → s0 - s < n → (∀ t, t < s → v_m (s_i z tk ln) (s_st z a_there a_effects tk ln) Bd d (d - k) t → ¬ (0 < k → s_st z a_there a_effects tk ln (f (k - 1)) t)) → wY_row_170 post J162 (nI d) (nI k) f_known f_traceEnd f_failures a_tokens a_lengths a_values a_there a_fairness a_effects a_goes a_guards a_enabled a_depth a_ways a_alive a_calm a_traced a_failed a_stack n (nI s) := by
  have hN := s_N_le hz
  have hI : ∀ s, s_i z tk ln s → s < s_N z := fun s h => h.1
  have hS : ∀ s t, s_st z a_there a_effects tk ln s t → t < s_N z := fun s t h => (s_st_lt h).2
  have hs0N : s0 < s_N z := g_R_lt hI hS (v_m_D hs0.1).1
  intro n
  induction n with
  | zero => intro s _ h; omega
  | succ n ih =>
    intro s hs hn hp
    have nx : ¬ (v_m (s_i z tk ln) (s_st z a_there a_effects tk ln) Bd d (d - k) s ∧ (0 < k → s_st z a_there a_effects tk ln (f (k - 1)) s)) → wY_row_170 post J162 (nI d) (nI k) f_known f_traceEnd f_failures a_tokens a_lengths a_values a_there a_fairness a_effects a_goes a_guards a_enabled a_depth a_ways a_alive a_calm a_traced a_failed a_stack n (nI (s + 1)) := by
      intro hne
      have hlt : s < s0 := by
        rcases Nat.lt_or_ge s s0 with c | c
        · exact c
        · have : s = s0 := by omega
          rw [this] at hne; exact absurd hs0 hne
      refine ih (s + 1) hlt (by omega) fun t ht hv => ?_
      rcases Nat.lt_or_ge t s with c | c
      · exact hp t c hv
      · have : t = s := by omega
        rw [this] at hv ⊢; exact fun q => hne ⟨hv, q⟩
    have hsN : s < s_N z := by omega
    refine ⟨vp_in_nI (by omega) (by omega), if1 (d := g_D (s_i z tk ln) (s_st z a_there a_effects tk ln) k s) (by rw [nI_clamp (by omega)]; exact d_OK_eq hN hD.2 hsN (by omega)) (fun dk => ?_) (fun dk => nm_r (nI_1 s) (nx fun q => dk ?_))⟩
    · refine y_has_alive (i := 0) (by omega) (by omega) (fun hh => br_f (by decide) ?_) (fun hh => br_t rfl (nm_r (nI_1 s) (nx fun q => hh ((hb s).mpr ⟨d - k, by omega, q.1⟩))))
      have hv := (v_B_at (Nat.zero_le k) hk).mp ⟨dk, (hb s).mp hh⟩
      refine pk_le k 0 (fun k0 => ⟨vp_in_nI (by omega) (by omega), nm_r (e' := upd a_traced k (nI s)) (by rw [nI_clamp (by omega)]) (nm_r (nI_1 k) (HJ s hsN hv (fun q => by omega) hp))⟩) (fun k0 => ?_)
      obtain ⟨e1, e2⟩ := h2 k0
      have ek : nI k - 1 = nI (k - 1) := pk_sub (b := 1) k0
      refine ⟨by rw [ek]; exact vp_in_nI (by omega) (by omega), ?_⟩
      rw [show a_traced (nI k - 1).toNatClampNeg = nI (f (k - 1)) by rw [ek, nI_clamp (by omega), e1]]
      refine y_stepD hz e2 hsN hD.1 (fun q => br_f (by decide) ⟨vp_in_nI (by omega) (by omega), nm_r (e' := upd a_traced k (nI s)) (by rw [nI_clamp (by omega)]) (nm_r (nI_1 k) (HJ s hsN hv (fun _ => q) hp))⟩) (fun q => br_t rfl (nm_r (nI_1 s) (nx fun r => q (r.2 k0))))
    · have := v_m_D q.1
      rw [show d - (d - k) = k by omega] at this
      exact this
theorem y_row_162 {post : SY → Prop} (hz : s_Z z) (hD : y_D z a_there a_effects tk ln a_goes a_guards a_enabled a_depth) (hdN : d < s_N z) (hb : ∀ s, aS a_alive 0 s ↔ v_B (s_i z tk ln) (s_st z a_there a_effects tk ln) Bd d 0 s) (hex : ∃ s, g_D (s_i z tk ln) (s_st z a_there a_effects tk ln) d s ∧ Bd s)
    (H : ∀ (f : Nat → Nat) (tr : Nat → Int32), v_T (s_i z tk ln) (s_st z a_there a_effects tk ln) Bd d (d + 1) f → (∀ k, k ≤ d → tr k = nI (f k)) → post (f_known, f_traceEnd, f_failures, a_tokens, a_lengths, a_values, a_there, a_fairness, a_effects, a_goes, a_guards, a_enabled, a_depth, a_ways, a_alive, a_calm, tr, a_failed, a_stack)) :
    ∀ n k, k ≤ d + 1 → d + 1 - k < n → ∀ (f : Nat → Nat) (tr : Nat → Int32), v_T (s_i z tk ln) (s_st z a_there a_effects tk ln) Bd d k f → (∀ j, j < k → tr j = nI (f j) ∧ f j < s_N z) → wY_row_162 post (nI d) f_known f_traceEnd f_failures n (nI k) a_tokens a_lengths a_values a_there a_fairness a_effects a_goes a_guards a_enabled a_depth a_ways a_alive a_calm tr a_failed a_stack := by
  have hN := s_N_le hz
  intro n
  induction n with
  | zero => intro k _ h; omega
  | succ n ih =>
    intro k hk hn f tr hT htr
    refine pk_lt d k (fun h => ?_) (fun h => ?_)
    · have : k = d + 1 := by omega
      subst this
      exact H f tr hT fun j hj => (htr j (by omega)).1
    · obtain ⟨s0, hs0⟩ := v_T_nx hex h hT
      refine ⟨s0 + 1, y_row_170 (f := f) hz hD h hdN hb (fun q => htr (k - 1) (by omega)) hs0 (fun s hsN hv hs3 hlt => ?_) (s0 + 1) 0 (Nat.zero_le _) (by omega) (fun t ht => absurd ht (Nat.not_lt_zero _))⟩
      refine ih (k + 1) (by omega) (by omega) (fun j => if j = k then s else f j) _ (v_T_s hT (fun j hj => if_neg (by omega)) (if_pos rfl) hv hs3 hlt) (fun j hj => ?_)
      show upd tr k (nI s) j = nI (if j = k then s else f j) ∧ (if j = k then s else f j) < s_N z
      by_cases c : j = k
      · rw [if_pos c, c, pk_us]; exact ⟨rfl, hsN⟩
      · rw [if_neg c, pk_un c]; exact htr j (by omega)
/-- what is marked when level k is begun -/
def v_P (I : Nat → Prop) (St : Nat → Nat → Prop) (Bd : Nat → Prop) (d k s : Nat) : Prop := k < d ∧ v_B I St Bd d (k + 1) s
/-- whether a state of depth k is good -/
def v_G (I : Nat → Prop) (St : Nat → Nat → Prop) (Bd : Nat → Prop) (d k s : Nat) : Prop := (k = d ∧ Bd s) ∨ (k < d ∧ ∃ t, g_D I St (k + 1) t ∧ v_B I St Bd d (k + 1) t ∧ St s t)
theorem v_PG {I : Nat → Prop} {St : Nat → Nat → Prop} {k s : Nat} (hk : k ≤ d) : v_B I St Bd d k s ↔ v_P I St Bd d k s ∨ (g_D I St k s ∧ v_G I St Bd d k s) := by
  rcases Nat.lt_or_ge k d with c | c
  · rw [v_B_s c]
    constructor
    · rintro (q | ⟨q, r⟩)
      · exact Or.inl ⟨c, q⟩
      · exact Or.inr ⟨q, Or.inr ⟨c, r⟩⟩
    · rintro (⟨_, q⟩ | ⟨q, ⟨r, _⟩ | ⟨_, r⟩⟩)
      · exact Or.inl q
      · omega
      · exact Or.inr ⟨q, r⟩
  · have : k = d := by omega
    subst this
    rw [v_B_d]
    constructor
    · rintro ⟨q, r⟩; exact Or.inr ⟨q, Or.inl ⟨rfl, r⟩⟩
    · rintro (⟨q, _⟩ | ⟨q, ⟨_, r⟩ | ⟨r, _⟩⟩)
      · omega
      · exact ⟨q, r⟩
      · omega
/-- is a state good? -/
theorem y_row_62 {post : SY → Prop} {k s : Nat} {J10 J17 : Int32 → Int32 → Int32 → Int32 → (Nat → Int32) → (Nat → Int32) → (Nat → Int32) → (Nat → Int32) → (Nat → Int32) → (Nat → Int32) → (Nat → Int64) → (Nat → Int32) → (Nat → Int32) → (Nat → Int32) → (Nat → Int64) → (Nat → Int64) → (Nat → Int64) → (Nat → Int32) → (Nat → Int32) → (Nat → Int32) → Prop}
    (hz : s_Z z) (hD : y_D z a_there a_effects tk ln a_goes a_guards a_enabled a_depth) (hk : k ≤ d) (hdN : d < s_N z) (hs : s < s_N z) (hb : k < d → ∀ t, g_D (s_i z tk ln) (s_st z a_there a_effects tk ln) (k + 1) t → (aS a_alive 0 t ↔ v_B (s_i z tk ln) (s_st z a_there a_effects tk ln) Bd d (k + 1) t))
    (H1 : v_G (s_i z tk ln) (s_st z a_there a_effects tk ln) Bd d k s → ∀ al : Nat → Int64, (∀ t, aS al 0 t ↔ aS a_alive 0 t ∨ t = s) → J17 (nI (s + 1)) f_known f_traceEnd f_failures a_tokens a_lengths a_values a_there a_fairness a_effects a_goes a_guards a_enabled a_depth a_ways al a_calm a_traced a_failed a_stack) (H0 : ¬ v_G (s_i z tk ln) (s_st z a_there a_effects tk ln) Bd d k s → J17 (nI (s + 1)) f_known f_traceEnd f_failures a_tokens a_lengths a_values a_there a_fairness a_effects a_goes a_guards a_enabled a_depth a_ways a_alive a_calm a_traced a_failed a_stack)
    {x5 : Int32} (hx : (x5 = 0 ∧ ¬ (k = d ∧ Bd s)) ∨ (x5 = 1 ∧ k = d ∧ Bd s)) : ∃ n, wY_row_62 post J10 J17 (nI d) (nI (s_N z)) (nI k) (nI s) f_known f_traceEnd f_failures a_tokens a_lengths a_values a_there a_fairness a_effects a_goes a_guards a_enabled a_depth a_ways a_alive a_calm a_traced a_failed a_stack n x5 (nI 0) := by
  have hN := s_N_le hz
  have hNp := s_N_pos hz
  have hI : ∀ s, s_i z tk ln s → s < s_N z := fun s h => h.1
  have hS : ∀ s t, s_st z a_there a_effects tk ln s t → t < s_N z := fun s t h => (s_st_lt h).2
  have fin : ∀ x5 : Int32, ((x5 = 0 ∧ ¬ v_G (s_i z tk ln) (s_st z a_there a_effects tk ln) Bd d k s) ∨ (x5 = 1 ∧ v_G (s_i z tk ln) (s_st z a_there a_effects tk ln) Bd d k s)) → wY_row_127 post J10 J17 (nI d) (nI (s_N z)) (nI k) (nI s) x5 f_known f_traceEnd f_failures a_tokens a_lengths a_values a_there a_fairness a_effects a_goes a_guards a_enabled a_depth a_ways a_alive a_calm a_traced a_failed a_stack := by
    intro x5 hx
    unfold wY_row_127
    rcases hx with ⟨rfl, q⟩ | ⟨rfl, q⟩
    · exact br_t rfl (nm_r (nI_1 s) (H0 q))
    · exact br_f (by decide) (y_put_alive (i := 0) (by omega) (by omega) fun g _ hg => nm_r (nI_1 s) (H1 q g hg))
  rcases Nat.lt_or_ge k d with c | c
  · have key : ∀ n t, t ≤ s_N z → s_N z - t < n → ∀ x5 : Int32, ((x5 = 0 ∧ ∀ t', t' < t → ¬ (g_D (s_i z tk ln) (s_st z a_there a_effects tk ln) (k + 1) t' ∧ v_B (s_i z tk ln) (s_st z a_there a_effects tk ln) Bd d (k + 1) t' ∧ s_st z a_there a_effects tk ln s t')) ∨ (x5 = 1 ∧ ∃ t', (g_D (s_i z tk ln) (s_st z a_there a_effects tk ln) (k + 1) t' ∧ v_B (s_i z tk ln) (s_st z a_there a_effects tk ln) Bd d (k + 1) t' ∧ s_st z a_there a_effects tk ln s t'))) → wY_row_62 post J10 J17 (nI d) (nI (s_N z)) (nI k) (nI s) f_known f_traceEnd f_failures a_tokens a_lengths a_values a_there a_fairness a_effects a_goes a_guards a_enabled a_depth a_ways a_alive a_calm a_traced a_failed a_stack n x5 (nI t) := by
      intro n
      induction n with
      | zero => intro t _ h; omega
      | succ n ih =>
        intro t ht hn x5 hx
        refine pk_le (s_N z) t (fun h => fin x5 ?_) (fun h => br_f (nI_ge c (by omega)) ⟨vp_in_nI (by omega) (by omega), ?_⟩)
        · rcases hx with ⟨e, q⟩ | ⟨e, q⟩
          · exact Or.inl ⟨e, fun r => r.elim (fun r => by omega) fun ⟨_, t', r⟩ => q t' (by have := g_R_lt hI hS r.1.1; omega) r⟩
          · exact Or.inr ⟨e, Or.inr ⟨c, q⟩⟩
        · have no : ¬ (g_D (s_i z tk ln) (s_st z a_there a_effects tk ln) (k + 1) t ∧ v_B (s_i z tk ln) (s_st z a_there a_effects tk ln) Bd d (k + 1) t ∧ s_st z a_there a_effects tk ln s t) → ∀ y : Int32, y = x5 ||| 0 → ∀ x6 : Int32, x6 = nI t + 1 → wY_row_62 post J10 J17 (nI d) (nI (s_N z)) (nI k) (nI s) f_known f_traceEnd f_failures a_tokens a_lengths a_values a_there a_fairness a_effects a_goes a_guards a_enabled a_depth a_ways a_alive a_calm a_traced a_failed a_stack n y x6 := by
            intro hne y hy x6 hx6
            have ey : y = x5 := by rw [hy]; rcases hx with ⟨rfl, _⟩ | ⟨rfl, _⟩; exact or00; exact or10
            rw [ey, hx6, nI_1]
            refine ih (t + 1) (by omega) (by omega) x5 ?_
            rcases hx with ⟨e, q⟩ | q
            · refine Or.inl ⟨e, fun t' ht' => ?_⟩
              by_cases c2 : t' = t
              · rw [c2]; exact hne
              · exact q t' (by omega)
            · exact Or.inr q
          rw [nI_clamp (by omega), nI_1]
          refine if1 (d := g_D (s_i z tk ln) (s_st z a_there a_effects tk ln) (k + 1) t) (d_OK_eq hN hD.2 h (by omega)) (fun dt => ?_) (fun dt => no fun q => dt q.1)
          refine y_has_alive (i := 0) (by omega) (by omega) (fun hh => br_f (by decide) (y_stepD hz hs h hD.1 (fun q => br_f (by decide) ?_) (fun q => br_t rfl (no fun r => q r.2.2)))) (fun hh => br_t rfl (no fun q => hh ((hb c t dt).mpr q.2.1)))
          refine nm_r (e' := 1) (by rcases hx with ⟨rfl, _⟩ | ⟨rfl, _⟩; exact or01; exact or11) (nm_r (nI_1 t) (ih (t + 1) (by omega) (by omega) 1 (Or.inr ⟨rfl, t, dt, (hb c t dt).mp hh, q⟩)))
    have e0 : x5 = 0 := by
      rcases hx with ⟨e, _⟩ | ⟨_, e, _⟩
      · exact e
      · omega
    rw [e0]
    exact ⟨s_N z + 1, key _ 0 (Nat.zero_le _) (by omega) 0 (Or.inl ⟨rfl, fun t' ht' => absurd ht' (Nat.not_lt_zero _)⟩)⟩
  · refine ⟨1, br_f (nI_ge (a := 0) (b := s_N z) (by omega) (by omega)) (br_t (nI_le c (by omega)) (fin x5 ?_))⟩
    rcases hx with ⟨e, q⟩ | ⟨e, q⟩
    · exact Or.inl ⟨e, fun r => r.elim q fun r => by omega⟩
    · exact Or.inr ⟨e, Or.inl q⟩
theorem y_row_17 {post : SY → Prop} {k : Nat} {J10 : Int32 → Int32 → Int32 → Int32 → (Nat → Int32) → (Nat → Int32) → (Nat → Int32) → (Nat → Int32) → (Nat → Int32) → (Nat → Int32) → (Nat → Int64) → (Nat → Int32) → (Nat → Int32) → (Nat → Int32) → (Nat → Int64) → (Nat → Int64) → (Nat → Int64) → (Nat → Int32) → (Nat → Int32) → (Nat → Int32) → Prop}
    (hz : s_Z z) (hsz : ∀ v, v < 3 → a_values v = nI (z v)) (hL : r_M tk ln a_tokens a_lengths) (hT : r_Tk tk ln) (hw : e_wh (tk 18) (ln 18)) (hD : y_D z a_there a_effects tk ln a_goes a_guards a_enabled a_depth) (hk : k ≤ d) (hdN : d < s_N z)
    (HJ : ∀ (st : Nat → Int32) (al : Nat → Int64), (∀ s, aS al 0 s ↔ v_B (s_i z tk ln) (s_st z a_there a_effects tk ln) (fun s => s_E z tk ln 18 s = 0) d k s) → J10 (nI k + (-1)) f_known f_traceEnd f_failures a_tokens a_lengths a_values a_there a_fairness a_effects a_goes a_guards a_enabled a_depth a_ways al a_calm a_traced a_failed st) :
    ∀ n s, s ≤ s_N z → s_N z - s < n → ∀ (st : Nat → Int32) (al : Nat → Int64), (∀ t, aS al 0 t ↔ v_P (s_i z tk ln) (s_st z a_there a_effects tk ln) (fun s => s_E z tk ln 18 s = 0) d k t ∨ (t < s ∧ v_B (s_i z tk ln) (s_st z a_there a_effects tk ln) (fun s => s_E z tk ln 18 s = 0) d k t)) →
      wY_row_17 post J10 (nI d) (nI (s_N z)) (nI k) n (nI s) f_known f_traceEnd f_failures a_tokens a_lengths a_values a_there a_fairness a_effects a_goes a_guards a_enabled a_depth a_ways al a_calm a_traced a_failed st := by
  have hN := s_N_le hz
  have hI : ∀ s, s_i z tk ln s → s < s_N z := fun s h => h.1
  have hS : ∀ s t, s_st z a_there a_effects tk ln s t → t < s_N z := fun s t h => (s_st_lt h).2
  have rd : ∀ t, v_B (s_i z tk ln) (s_st z a_there a_effects tk ln) (fun s => s_E z tk ln 18 s = 0) d k t → t < s_N z := fun t ⟨m, _, hv⟩ => g_R_lt hI hS (v_m_D hv).1
  intro n
  induction n with
  | zero => intro s _ h; omega
  | succ n ih =>
    intro s hs hn st al hb
    refine pk_le (s_N z) s (fun h => nm_e (HJ st al fun t => ?_)) (fun h => ⟨vp_in_nI (by omega) (by omega), ?_⟩)
    · rw [hb t]
      exact ⟨fun q => q.elim (fun q => (v_PG hk).mpr (Or.inl q)) (fun q => q.2), fun q => Or.inr ⟨by have := rd t q; omega, q⟩⟩
    · have no : ∀ st' : Nat → Int32, (v_B (s_i z tk ln) (s_st z a_there a_effects tk ln) (fun s => s_E z tk ln 18 s = 0) d k s → v_P (s_i z tk ln) (s_st z a_there a_effects tk ln) (fun s => s_E z tk ln 18 s = 0) d k s) → wY_row_17 post J10 (nI d) (nI (s_N z)) (nI k) n (nI (s + 1)) f_known f_traceEnd f_failures a_tokens a_lengths a_values a_there a_fairness a_effects a_goes a_guards a_enabled a_depth a_ways al a_calm a_traced a_failed st' := by
        intro st' hne
        refine ih (s + 1) (by omega) (by omega) st' al fun t => ?_
        rw [hb t]
        constructor
        · rintro (q | ⟨q, r⟩)
          · exact Or.inl q
          · exact Or.inr ⟨by omega, r⟩
        · rintro (q | ⟨q, r⟩)
          · exact Or.inl q
          · by_cases c : t = s
            · rw [c] at r ⊢; exact Or.inl (hne r)
            · exact Or.inr ⟨by omega, r⟩
      have lv : k < d → ∀ t, g_D (s_i z tk ln) (s_st z a_there a_effects tk ln) (k + 1) t → (aS al 0 t ↔ v_B (s_i z tk ln) (s_st z a_there a_effects tk ln) (fun s => s_E z tk ln 18 s = 0) d (k + 1) t) := by
        intro hkd t dt
        rw [hb t]
        constructor
        · rintro (q | ⟨q, r⟩)
          · exact q.2
          · exact ((v_B_at (k := k + 1) (j := k + 1) (Nat.le_refl _) (by omega)).mpr ((v_B_at (k := k) (j := k + 1) (by omega) (by omega)).mp ⟨dt, r⟩)).2
        · intro q; exact Or.inl ⟨hkd, q⟩
      rw [nI_clamp (by omega)]
      refine if1 (d := g_D (s_i z tk ln) (s_st z a_there a_effects tk ln) k s) (d_OK_eq hN hD.2 h (by omega)) (fun dk => ?_) (fun dk => nm_r (nI_1 s) (no st fun q => ?_))
      · have go1 : ∀ (st' : Nat → Int32) (x5 : Int32), ((x5 = 0 ∧ ¬ (k = d ∧ s_E z tk ln 18 s = 0)) ∨ (x5 = 1 ∧ k = d ∧ s_E z tk ln 18 s = 0)) → ∃ n62, wY_row_62 post J10 (wY_row_17 post J10 (nI d) (nI (s_N z)) (nI k) n) (nI d) (nI (s_N z)) (nI k) (nI s) f_known f_traceEnd f_failures a_tokens a_lengths a_values a_there a_fairness a_effects a_goes a_guards a_enabled a_depth a_ways al a_calm a_traced a_failed st' n62 x5 (nI 0) := by
          intro st' x5 hx
          refine y_row_62 (Bd := fun s => s_E z tk ln 18 s = 0) hz hD hk hdN h lv (fun hg al' hal' => ?_) (fun hg => no st' fun q => ?_) hx
          · have hvs := (v_PG hk).mpr (Or.inr ⟨dk, hg⟩)
            refine ih (s + 1) (by omega) (by omega) st' al' fun t => ?_
            rw [hal' t, hb t]
            constructor
            · rintro ((q | ⟨q, r⟩) | q)
              · exact Or.inl q
              · exact Or.inr ⟨by omega, r⟩
              · rw [q]; exact Or.inr ⟨by omega, hvs⟩
            · rintro (q | ⟨q, r⟩)
              · exact Or.inl (Or.inl q)
              · by_cases c : t = s
                · exact Or.inr c
                · exact Or.inl (Or.inr ⟨by omega, r⟩)
          · rcases (v_PG hk).mp q with q | q
            · exact q
            · exact absurd q.2 hg
        refine pk_eq k d (fun ek => ?_) (fun ek => go1 st 0 (Or.inl ⟨rfl, fun q => ek q.1⟩))
        exact y_work (l := 18) hz hsz (by omega) hL hT (by omega) hw (fun st' => br_c (fun e => go1 st' 1 (Or.inr ⟨rfl, ek, e⟩)) (fun e => go1 st' 0 (Or.inl ⟨rfl, fun q => e q.2⟩)))
      · rcases (v_PG hk).mp q with q | q
        · exact q
        · exact absurd q.1 dk
theorem y_rowm {post : SY → Prop} (hz : s_Z z) (hsz : ∀ v, v < 3 → a_values v = nI (z v)) (hL : r_M tk ln a_tokens a_lengths) (hT : r_Tk tk ln) (hw : e_wh (tk 18) (ln 18)) (hD : y_D z a_there a_effects tk ln a_goes a_guards a_enabled a_depth) (hdN : d < s_N z)
    (hex : ∃ s, g_D (s_i z tk ln) (s_st z a_there a_effects tk ln) d s ∧ s_E z tk ln 18 s = 0)
    (H : ∀ (f : Nat → Nat) (st tr : Nat → Int32) (al : Nat → Int64), v_T (s_i z tk ln) (s_st z a_there a_effects tk ln) (fun s => s_E z tk ln 18 s = 0) d (d + 1) f → (∀ k, k ≤ d → tr k = nI (f k)) → post (f_known, nI d, f_failures, a_tokens, a_lengths, a_values, a_there, a_fairness, a_effects, a_goes, a_guards, a_enabled, a_depth, a_ways, al, a_calm, tr, a_failed, st)) :
    wpY_row post (f_known, f_traceEnd, f_failures, a_tokens, a_lengths, a_values, a_there, a_fairness, a_effects, a_goes, a_guards, a_enabled, a_depth, a_ways, a_alive, a_calm, a_traced, a_failed, a_stack) (nI d) (nI (s_N z)) := by
  have hN := s_N_le hz
  have key : ∀ n k, k ≤ d + 1 → k < n → ∀ (st : Nat → Int32) (al : Nat → Int64), (∀ s, aS al 0 s ↔ (k ≤ d ∧ v_B (s_i z tk ln) (s_st z a_there a_effects tk ln) (fun s => s_E z tk ln 18 s = 0) d k s)) → wY_row_10 post (nI d) (nI (s_N z)) n (nI k + (-1)) f_known f_traceEnd f_failures a_tokens a_lengths a_values a_there a_fairness a_effects a_goes a_guards a_enabled a_depth a_ways al a_calm a_traced a_failed st := by
    intro n
    induction n with
    | zero => intro k _ h; omega
    | succ n ih =>
      intro k hk hn st al hb
      rcases Nat.eq_zero_or_pos k with c | c
      · subst c
        have e : nI 0 + (-1) = -1 := by decide
        rw [e]
        refine br_t (by decide) ⟨d + 2, y_row_162 hz hD hdN (fun s => by rw [hb s]; exact ⟨fun q => q.2, fun q => ⟨Nat.zero_le _, q⟩⟩) hex (fun f tr h1 h2 => H f st tr al h1 h2) (d + 2) 0 (Nat.zero_le _) (by omega) (fun _ => 0) a_traced (fun j hj => absurd hj (Nat.not_lt_zero _)) (fun j hj => absurd hj (Nat.not_lt_zero _))⟩
      · obtain ⟨j, rfl⟩ : ∃ j, k = j + 1 := ⟨k - 1, by omega⟩
        rw [pk_m1 j]
        refine br_f (nI_pos (by omega)) ⟨s_N z + 1, y_row_17 hz hsz hL hT hw hD (by omega) hdN (fun st' al' hb' => ih j (by omega) (by omega) st' al' fun s => ?_) (s_N z + 1) 0 (Nat.zero_le _) (by omega) st al fun t => ?_⟩
        · rw [hb' s]; exact ⟨fun q => ⟨by omega, q⟩, fun q => q.2⟩
        · rw [hb t]
          exact ⟨fun q => Or.inl q, fun q => q.elim id fun q => absurd q.1 (Nat.not_lt_zero _)⟩
  have e0 : nI d = nI (d + 1) + (-1) := (pk_m1 d).symm
  have st := key (d + 2) (d + 1) (Nat.le_refl _) (by omega) a_stack (vp_updL (vp_updL a_alive 0 0) 1 0) fun s => ⟨fun q => absurd (aS_2.mp q) (iS_0 s), fun q => absurd q.1 (by omega)⟩
  rw [← e0] at st
  exact nm_e (nm_e ⟨d + 2, st⟩)
theorem y_inv_24 {post : Int32 → SY → Prop} (hz : s_Z z) (hsz : ∀ v, v < 3 → a_values v = nI (z v)) (hL : r_M tk ln a_tokens a_lengths) (hT : r_Tk tk ln) (hw : e_wh (tk 18) (ln 18)) (hD : y_D z a_there a_effects tk ln a_goes a_guards a_enabled a_depth)
    (H1 : ∀ (d : Nat) (f : Nat → Nat) (st tr : Nat → Int32) (al : Nat → Int64), d < s_N z → v_L (s_i z tk ln) (s_st z a_there a_effects tk ln) (fun s => s_E z tk ln 18 s = 0) (s_N z) (nI d) → v_T (s_i z tk ln) (s_st z a_there a_effects tk ln) (fun s => s_E z tk ln 18 s = 0) d (d + 1) f → (∀ k, k ≤ d → tr k = nI (f k)) → post (nI d) (f_known, nI d, f_failures, a_tokens, a_lengths, a_values, a_there, a_fairness, a_effects, a_goes, a_guards, a_enabled, a_depth, a_ways, al, a_calm, tr, a_failed, st))
    (H0 : ∀ st : Nat → Int32, v_L (s_i z tk ln) (s_st z a_there a_effects tk ln) (fun s => s_E z tk ln 18 s = 0) (s_N z) (-1) → post (-1) (f_known, f_traceEnd, f_failures, a_tokens, a_lengths, a_values, a_there, a_fairness, a_effects, a_goes, a_guards, a_enabled, a_depth, a_ways, a_alive, a_calm, a_traced, a_failed, st)) :
    ∀ n s, s ≤ s_N z → s_N z - s < n → ∀ (x2 : Int32) (st : Nat → Int32), v_L (s_i z tk ln) (s_st z a_there a_effects tk ln) (fun s => s_E z tk ln 18 s = 0) s x2 → wY_invariant_24 post (nI (s_N z)) n x2 (nI s) f_known f_traceEnd f_failures a_tokens a_lengths a_values a_there a_fairness a_effects a_goes a_guards a_enabled a_depth a_ways a_alive a_calm a_traced a_failed st := by
  have hN := s_N_le hz
  intro n
  induction n with
  | zero => intro s _ h; omega
  | succ n ih =>
    intro s hs hn x2 st hv
    refine pk_le (s_N z) s (fun h => ?_) (fun h => ?_)
    · have es : s = s_N z := by omega
      subst es
      rcases hv with ⟨e, hv⟩ | ⟨d, hd5, e, ⟨s, hs5, bs, ds⟩, hv⟩
      · rw [e]
        exact br_t (by decide) (H0 st (Or.inl ⟨rfl, hv⟩))
      · rw [e]
        have hdN : d < s_N z := by
          rcases hD.2 s hs5 with ⟨k, hk, _, dk⟩ | ⟨_, dk⟩
          · have := g_D_u dk ds; omega
          · exact absurd (g_D_Rd ds) dk
        refine br_f (nI_pos (by omega)) (y_rowm hz hsz hL hT hw hD hdN ⟨s, ds, bs⟩ (fun f st' tr al h1 h2 => ?_))
        exact H1 d f st' tr al hdN (Or.inr ⟨d, hd5, rfl, ⟨s, hs5, bs, ds⟩, hv⟩) h1 h2
    · have cs : (nI s).toNatClampNeg = s := nI_clamp (by omega)
      have v1 : vp_in (nI s) 125 := vp_in_nI (by omega) (by omega)
      refine ⟨v1, ?_⟩
      rw [cs]
      refine if2 (d := g_Rd (s_i z tk ln) (s_st z a_there a_effects tk ln) s) (d_OK_neg hN hD.2 h) (fun hr => nm_r (nI_1 s) (ih (s + 1) (by omega) (by omega) x2 st (v_L_s hv (Or.inr (Or.inl hr))))) (fun hr => ?_)
      obtain ⟨j, hj, ej, dj⟩ : ∃ k, k < s_N z ∧ a_depth s = nI k ∧ g_D (s_i z tk ln) (s_st z a_there a_effects tk ln) k s := by
        rcases hD.2 s h with q | ⟨_, q⟩
        · exact q
        · exact absurd hr q
      refine y_work (l := 18) hz hsz (by omega) hL hT (by omega) hw (fun st' => br_c (fun e => ?_) (fun e => nm_r (nI_1 s) (ih (s + 1) (by omega) (by omega) x2 st' (v_L_s hv (Or.inl e)))))
      rcases hv with ⟨e2, hv'⟩ | ⟨d, hd5, e2, hv'⟩
      · exact br_t (by rw [e2]; decide) ⟨v1, nm_r (e' := nI j) ej (nm_r (nI_1 s) (ih (s + 1) (by omega) (by omega) (nI j) st' (v_L_n (Or.inl ⟨e2, hv'⟩) e dj (by omega) (Or.inl e2))))⟩
      · refine br_f (by rw [e2]; exact nI_pos (by omega)) ⟨v1, ?_⟩
        exact pk_le d j (fun hle => nm_r (nI_1 s) (ih (s + 1) (by omega) (by omega) x2 st' (v_L_s (Or.inr ⟨d, hd5, e2, hv'⟩) (Or.inr (Or.inr ⟨d, j, e2, by omega, dj, hle⟩))))) (fun hlt => ⟨v1, nm_r (e' := nI j) ej (nm_r (nI_1 s) (ih (s + 1) (by omega) (by omega) (nI j) st' (v_L_n (Or.inr ⟨d, hd5, e2, hv'⟩) e dj (by omega) (Or.inr ⟨d, e2, by omega, hlt⟩))))⟩) e2 ej
end Yv
end
section
/-! Y: ways, unfair -/
section Yf
variable {f_known f_traceEnd f_failures : Int32} {a_tokens a_lengths a_values a_there a_fairness a_effects a_guards a_enabled a_depth a_traced a_failed a_stack : Nat → Int32} {a_goes a_ways a_alive a_calm : Nat → Int64}
variable {z : Nat → Nat} {tk : Nat → Nat → Nat} {ln : Nat → Nat} {A : Nat → Prop}
theorem y_close_107 {post : SY → Prop} {m : Nat} {W0 : Nat → Nat → Prop} {J100 : Int32 → (Nat → Int32) → (Nat → Int32) → (Nat → Int32) → (Nat → Int32) → (Nat → Int32) → (Nat → Int32) → (Nat → Int64) → (Nat → Int32) → (Nat → Int32) → (Nat → Int32) → (Nat → Int64) → (Nat → Int64) → (Nat → Int64) → (Nat → Int32) → (Nat → Int32) → (Nat → Int32) → Prop} (hz : s_Z z) (hm : m < s_N z)
    (HJ : ∀ ways : Nat → Int64, (∀ s, s < s_N z → ∀ t, aS ways (2 * s) t ↔ W0 s t ∨ (W0 s m ∧ W0 m t)) → J100 (nI (m + 1)) a_tokens a_lengths a_values a_there a_fairness a_effects a_goes a_guards a_enabled a_depth ways a_alive a_calm a_traced a_failed a_stack) :
    ∀ n s, s ≤ s_N z → s_N z - s < n → ∀ ways : Nat → Int64, (∀ x, x < s → ∀ t, aS ways (2 * x) t ↔ W0 x t ∨ (W0 x m ∧ W0 m t)) → (∀ x, s ≤ x → x < s_N z → ∀ t, aS ways (2 * x) t ↔ W0 x t) →
      wY_close_107 post J100 (nI (s_N z)) (nI m) f_known f_traceEnd f_failures n (nI s) a_tokens a_lengths a_values a_there a_fairness a_effects a_goes a_guards a_enabled a_depth ways a_alive a_calm a_traced a_failed a_stack := by
  have hN := s_N_le hz
  intro n
  induction n with
  | zero => intro s _ h; omega
  | succ n ih =>
    intro s hs hn ways h1 h2
    refine pk_le (s_N z) s (fun h => nm_r (nI_1 m) (HJ ways fun x hx => h1 x (by omega))) (fun h => ?_)
    have is : (2 : Int32) * nI s = nI (2 * s) := pk_mul 2 s
    have im : (2 : Int32) * nI m = nI (2 * m) := pk_mul 2 m
    have rowm : ∀ t, aS ways (2 * m) t ↔ W0 m t := by
      intro t
      rcases Nat.lt_or_ge m s with c | c
      · rw [h1 m c t]; exact ⟨fun q => q.elim id fun q => q.2, Or.inl⟩
      · exact h2 m c hm t
    have rows := h2 s (Nat.le_refl _) h
    rw [is]
    refine y_has_ways (by omega) (by omega) (fun hh => br_f (by decide) ?_) (fun hh => br_t rfl (nm_r (nI_1 s) (ih (s + 1) (by omega) (by omega) ways (fun x hx t => ?_) (fun x hx => h2 x (by omega)))))
    · have hsm := (rows m).mp hh
      rw [im]
      have c1 : (nI (2 * s)).toNatClampNeg = 2 * s := nI_clamp (by omega)
      have c2 : (nI (2 * m)).toNatClampNeg = 2 * m := nI_clamp (by omega)
      have c3 : (nI (2 * s) + 1).toNatClampNeg = 2 * s + 1 := by rw [nI_1, nI_clamp (by omega)]
      have c4 : (nI (2 * m) + 1).toNatClampNeg = 2 * m + 1 := by rw [nI_1, nI_clamp (by omega)]
      have v1 : vp_in (nI (2 * s)) 250 := vp_in_nI (by omega) (by omega)
      have v2 : vp_in (nI (2 * m)) 250 := vp_in_nI (by omega) (by omega)
      have v3 : vp_in (nI (2 * s) + 1) 250 := by rw [nI_1]; exact vp_in_nI (by omega) (by omega)
      have v4 : vp_in (nI (2 * m) + 1) 250 := by rw [nI_1]; exact vp_in_nI (by omega) (by omega)
      refine ⟨v1, v2, v1, nm_r (e' := vp_updL ways (2 * s) (ways (2 * s) ||| ways (2 * m))) (by rw [c1, c2]) ⟨v3, v4, v3, nm_r (e' := vp_updL (vp_updL ways (2 * s) (ways (2 * s) ||| ways (2 * m))) (2 * s + 1) (ways (2 * s + 1) ||| ways (2 * m + 1))) (by rw [c3, c4, pk_uLn (by omega), pk_uLn (by omega)]) (nm_r (nI_1 s) (ih (s + 1) (by omega) (by omega) _ (fun x hx t => ?_) (fun x hx hx2 t => ?_)))⟩⟩
      · by_cases c : x = s
        · rw [c, aS_2, iS_or]
          show aS ways (2 * s) t ∨ aS ways (2 * m) t ↔ _
          rw [rows t, rowm t]
          exact ⟨fun q => q.elim Or.inl fun q => Or.inr ⟨hsm, q⟩, fun q => q.elim Or.inl fun q => Or.inr q.2⟩
        · rw [aS_un (by omega) (by omega), aS_un (by omega) (by omega)]; exact h1 x (by omega) t
      · rw [aS_un (by omega) (by omega), aS_un (by omega) (by omega)]; exact h2 x (by omega) hx2 t
    · by_cases c : x = s
      · rw [c, rows t]
        exact ⟨Or.inl, fun q => q.elim id fun q => absurd ((rows m).mpr q.1) hh⟩
      · exact h1 x (by omega) t
theorem y_close_100 {post : SY → Prop} (hz : s_Z z) (hAN : ∀ s, A s → s < s_N z)
    (H : ∀ ways : Nat → Int64, (∀ s, s < s_N z → ∀ t, aS ways (2 * s) t ↔ p_r (s_st z a_there a_effects tk ln) A s t) → post (f_known, f_traceEnd, f_failures, a_tokens, a_lengths, a_values, a_there, a_fairness, a_effects, a_goes, a_guards, a_enabled, a_depth, ways, a_alive, a_calm, a_traced, a_failed, a_stack)) :
    ∀ n m, m ≤ s_N z → s_N z - m < n → ∀ ways : Nat → Int64, w_C (fun s t => s < s_N z ∧ aS ways (2 * s) t) m → (∀ s, A s → aS ways (2 * s) s) → (∀ s t, A s → A t → (s_st z a_there a_effects tk ln) s t → aS ways (2 * s) t) → (∀ s t, s < s_N z → aS ways (2 * s) t → p_r (s_st z a_there a_effects tk ln) A s t) →
      wY_close_100 post (nI (s_N z)) f_known f_traceEnd f_failures n (nI m) a_tokens a_lengths a_values a_there a_fairness a_effects a_goes a_guards a_enabled a_depth ways a_alive a_calm a_traced a_failed a_stack := by
  have hN := s_N_le hz
  intro n
  induction n with
  | zero => intro m _ h; omega
  | succ n ih =>
    intro m hm hn ways h1 h2 h3 h4
    refine pk_le (s_N z) m (fun h => H ways fun s hs t => ?_) (fun h => ?_)
    · have em : m = s_N z := by omega
      subst em
      have := w_end (St := (s_st z a_there a_effects tk ln)) (A := A) hAN h1 (fun s q => ⟨hAN s q, h2 s q⟩) (fun s t q r k => ⟨hAN s q, h3 s t q r k⟩) (fun s t q => h4 s t q.1 q.2) s t
      exact ⟨fun q => this.mp ⟨hs, q⟩, fun q => (this.mpr q).2⟩
    · refine ⟨s_N z + 1, y_close_107 (W0 := fun s t => s < s_N z ∧ aS ways (2 * s) t) hz h (fun ways' hw' => ?_) (s_N z + 1) 0 (Nat.zero_le _) (by omega) ways (fun x hx => absurd hx (Nat.not_lt_zero _)) (fun x _ hx t => ⟨fun q => ⟨hx, q⟩, fun q => q.2⟩)⟩
      have eq : (fun s t => s < s_N z ∧ aS ways' (2 * s) t) = fun s t => (s < s_N z ∧ aS ways (2 * s) t) ∨ ((s < s_N z ∧ aS ways (2 * s) m) ∧ (m < s_N z ∧ aS ways (2 * m) t)) := by
        funext s t
        apply propext
        constructor
        · rintro ⟨q, r⟩; exact (hw' s q t).mp r
        · intro r
          have q : s < s_N z := r.elim (fun r => r.1) (fun r => r.1.1)
          exact ⟨q, (hw' s q t).mpr r⟩
      refine ih (m + 1) (by omega) (by omega) ways' (by rw [eq]; exact w_next h1) (fun s q => (hw' s (hAN s q) s).mpr (Or.inl ⟨hAN s q, h2 s q⟩)) (fun s t q r k => (hw' s (hAN s q) t).mpr (Or.inl ⟨hAN s q, h3 s t q r k⟩)) (fun s t q r => ?_)
      rcases (hw' s q t).mp r with x | ⟨x, y⟩
      · exact h4 s t q x.2
      · exact p_trans (h4 s m q x.2) (h4 m t y.1 y.2)
theorem y_close {post : SY → Prop} (hz : s_Z z) (hF : ∀ s, s < s_N z → l_F z a_there a_effects tk ln a_goes a_guards a_enabled s) (hA : ∀ s, aS a_alive 0 s ↔ A s) (hAN : ∀ s, A s → s < s_N z)
    (H : ∀ ways : Nat → Int64, (∀ s, s < s_N z → ∀ t, aS ways (2 * s) t ↔ p_r (s_st z a_there a_effects tk ln) A s t) → post (f_known, f_traceEnd, f_failures, a_tokens, a_lengths, a_values, a_there, a_fairness, a_effects, a_goes, a_guards, a_enabled, a_depth, ways, a_alive, a_calm, a_traced, a_failed, a_stack)) : wpY_close post (f_known, f_traceEnd, f_failures, a_tokens, a_lengths, a_values, a_there, a_fairness, a_effects, a_goes, a_guards, a_enabled, a_depth, a_ways, a_alive, a_calm, a_traced, a_failed, a_stack) (nI (s_N z)) := by
  have hN := s_N_le hz
  have inner : ∀ (s : Nat) (J2 : Int32 → Int32 → Int32 → Int32 → (Nat → Int32) → (Nat → Int32) → (Nat → Int32) → (Nat → Int32) → (Nat → Int32) → (Nat → Int32) → (Nat → Int64) → (Nat → Int32) → (Nat → Int32) → (Nat → Int32) → (Nat → Int64) → (Nat → Int64) → (Nat → Int64) → (Nat → Int32) → (Nat → Int32) → (Nat → Int32) → Prop), s < s_N z → ∀ w0 : Nat → Int64, (∀ ways : Nat → Int64, (∀ x, x ≠ s → ∀ t, aS ways (2 * x) t ↔ aS w0 (2 * x) t) → (∀ t, aS ways (2 * s) t ↔ (A s ∧ A t ∧ (s = t ∨ (s_st z a_there a_effects tk ln) s t))) → J2 (nI (s + 1)) f_known f_traceEnd f_failures a_tokens a_lengths a_values a_there a_fairness a_effects a_goes a_guards a_enabled a_depth ways a_alive a_calm a_traced a_failed a_stack) →
      ∀ n t, t ≤ s_N z → s_N z - t < n → ∀ ways : Nat → Int64, (∀ x, x ≠ s → ∀ t, aS ways (2 * x) t ↔ aS w0 (2 * x) t) → (∀ x, aS ways (2 * s) x ↔ x < t ∧ (A s ∧ A x ∧ (s = x ∨ (s_st z a_there a_effects tk ln) s x))) → wY_close_29 post J2 (nI (s_N z)) (nI s) n (nI t) f_known f_traceEnd f_failures a_tokens a_lengths a_values a_there a_fairness a_effects a_goes a_guards a_enabled a_depth ways a_alive a_calm a_traced a_failed a_stack := by
    intro s J2 hs w0 HJ n
    induction n with
    | zero => intro t _ h; omega
    | succ n ih =>
      intro t ht hn ways hf hw
      refine pk_le (s_N z) t (fun h => nm_r (nI_1 s) (HJ ways hf fun x => ?_)) (fun h => ?_)
      · rw [hw x]; exact ⟨fun q => q.2, fun q => ⟨by have := hAN x q.2.1; omega, q⟩⟩
      · have no : ¬ (A s ∧ A t ∧ (s = t ∨ (s_st z a_there a_effects tk ln) s t)) → wY_close_29 post J2 (nI (s_N z)) (nI s) n (nI (t + 1)) f_known f_traceEnd f_failures a_tokens a_lengths a_values a_there a_fairness a_effects a_goes a_guards a_enabled a_depth ways a_alive a_calm a_traced a_failed a_stack := by
          intro hne
          refine ih (t + 1) (by omega) (by omega) ways hf fun x => ?_
          rw [hw x]
          constructor
          · rintro ⟨q, r⟩; exact ⟨by omega, r⟩
          · rintro ⟨q, r⟩
            by_cases c : x = t
            · rw [c] at r; exact absurd r hne
            · exact ⟨by omega, r⟩
        have yes : (A s ∧ A t ∧ (s = t ∨ (s_st z a_there a_effects tk ln) s t)) → wY_close_74 post J2 (wY_close_29 post J2 (nI (s_N z)) (nI s) n) (nI (s_N z)) (nI s) (nI t) f_known f_traceEnd f_failures a_tokens a_lengths a_values a_there a_fairness a_effects a_goes a_guards a_enabled a_depth ways a_alive a_calm a_traced a_failed a_stack := by
          intro hy
          unfold wY_close_74
          rw [show (2 : Int32) * nI s = nI (2 * s) from pk_mul 2 s]
          refine y_put_ways (by omega) (by omega) fun g hg1 hg2 => nm_r (nI_1 t) (ih (t + 1) (by omega) (by omega) g (fun x hx t' => ?_) fun x => ?_)
          · rw [← hf x hx t']
            unfold aS
            rw [hg1 _ (by omega) (by omega), hg1 _ (by omega) (by omega)]
          · rw [hg2 x, hw x]
            constructor
            · rintro (⟨q, r⟩ | q)
              · exact ⟨by omega, r⟩
              · rw [q]; exact ⟨by omega, hy⟩
            · rintro ⟨q, r⟩
              by_cases c : x = t
              · exact Or.inr c
              · exact Or.inl ⟨by omega, r⟩
        refine y_has_alive (i := 0) (by omega) (by omega) (fun h1 => br_f (by decide) (y_has_alive (i := 0) (by omega) (by omega) (fun h2 => br_f (by decide) (pk_eq s t (fun e => yes ⟨(hA s).mp h1, (hA t).mp h2, Or.inl e⟩) (fun e => y_stepD hz hs h hF (fun q => br_f (by decide) (yes ⟨(hA s).mp h1, (hA t).mp h2, Or.inr q⟩)) (fun q => br_t rfl (nm_r (nI_1 t) (no fun r => r.2.2.elim e q)))))) (fun h2 => br_t rfl (nm_r (nI_1 t) (no fun r => h2 ((hA t).mpr r.2.1)))))) (fun h1 => br_t rfl (nm_r (nI_1 t) (no fun r => h1 ((hA s).mpr r.1))))
  have key : ∀ n s, s ≤ s_N z → s_N z - s < n → ∀ ways : Nat → Int64, (∀ x, x < s → ∀ t, aS ways (2 * x) t ↔ (A x ∧ A t ∧ (x = t ∨ (s_st z a_there a_effects tk ln) x t))) → wY_close_2 post (nI (s_N z)) n (nI s) f_known f_traceEnd f_failures a_tokens a_lengths a_values a_there a_fairness a_effects a_goes a_guards a_enabled a_depth ways a_alive a_calm a_traced a_failed a_stack := by
    intro n
    induction n with
    | zero => intro s _ h; omega
    | succ n ih =>
      intro s hs hn ways hw
      refine pk_le (s_N z) s (fun h => ?_) (fun h => ?_)
      · have full : ∀ x, x < s_N z → ∀ t, aS ways (2 * x) t ↔ (A x ∧ A t ∧ (x = t ∨ (s_st z a_there a_effects tk ln) x t)) := fun x hx => hw x (by omega)
        refine ⟨s_N z + 1, y_close_100 hz hAN H (s_N z + 1) 0 (Nat.zero_le _) (by omega) ways (fun x s t hx => absurd hx (Nat.not_lt_zero _)) (fun s q => (full s (hAN s q) s).mpr ⟨q, q, Or.inl rfl⟩) (fun s t q r k => (full s (hAN s q) t).mpr ⟨q, r, Or.inr k⟩) (fun s t q r => ?_)⟩
        obtain ⟨a, b, c⟩ := (full s q t).mp r
        rcases c with c | c
        · rw [← c]; exact p_refl a
        · exact p_step a b c
      · have is : (2 : Int32) * nI s = nI (2 * s) := pk_mul 2 s
        have v1 : vp_in (2 * nI s) 250 := by rw [is]; exact vp_in_nI (by omega) (by omega)
        have v3 : vp_in (2 * nI s + 1) 250 := by rw [is, nI_1]; exact vp_in_nI (by omega) (by omega)
        refine ⟨v1, nm_r (e' := vp_updL ways (2 * s) 0) (by rw [is, nI_clamp (by omega)]) ⟨v3, nm_r (e' := vp_updL (vp_updL ways (2 * s) 0) (2 * s + 1) 0) (by rw [is, nI_1, nI_clamp (by omega)]) ⟨s_N z + 1, inner s _ h (vp_updL (vp_updL ways (2 * s) 0) (2 * s + 1) 0) (fun ways' hf hw' => ih (s + 1) (by omega) (by omega) ways' fun x hx t => ?_) (s_N z + 1) 0 (Nat.zero_le _) (by omega) _ (fun _ _ _ => Iff.rfl) fun x => ?_⟩⟩⟩
        · by_cases c : x = s
          · rw [c]; exact hw' t
          · rw [hf x c t, aS_un (by omega) (by omega), aS_un (by omega) (by omega)]; exact hw x (by omega) t
        · rw [aS_2]; exact ⟨fun q => absurd q (iS_0 x), fun q => absurd q.1 (Nat.not_lt_zero _)⟩
  exact ⟨s_N z + 1, key _ 0 (Nat.zero_le _) (by omega) a_ways fun x hx => absurd hx (Nat.not_lt_zero _)⟩
theorem y_tg {post : Int32 → Prop} {s t : Nat} (hz : s_Z z) (hw : ∀ s, s < s_N z → ∀ t, aS a_ways (2 * s) t ↔ p_r (s_st z a_there a_effects tk ln) A s t) (hs : s < s_N z) (ht : t < s_N z) (h1 : f_tg (s_st z a_there a_effects tk ln) A s t → post 1) (h0 : ¬ f_tg (s_st z a_there a_effects tk ln) A s t → post 0) : wpY_together post (f_known, f_traceEnd, f_failures, a_tokens, a_lengths, a_values, a_there, a_fairness, a_effects, a_goes, a_guards, a_enabled, a_depth, a_ways, a_alive, a_calm, a_traced, a_failed, a_stack) (nI s) (nI t) := by
  have hN := s_N_le hz
  unfold wpY_together
  dsimp only
  rw [show (2 : Int32) * nI s = nI (2 * s) from pk_mul 2 s, show (2 : Int32) * nI t = nI (2 * t) from pk_mul 2 t]
  exact y_has_ways (by omega) (by omega) (fun q => br_f (by decide) (y_has_ways (by omega) (by omega) (fun r => br_f (by decide) (h1 ⟨(hw s hs t).mp q, (hw t ht s).mp r⟩)) (fun r => br_t rfl (h0 fun x => r ((hw t ht s).mpr x.2))))) (fun q => br_t rfl (h0 fun x => q ((hw s hs t).mpr x.1)))
theorem y_taken {post : Int32 → Prop} {a s : Nat} (hz : s_Z z) (hF : ∀ s, s < s_N z → l_F z a_there a_effects tk ln a_goes a_guards a_enabled s) (hw : ∀ s, s < s_N z → ∀ t, aS a_ways (2 * s) t ↔ p_r (s_st z a_there a_effects tk ln) A s t) (hAN : ∀ s, A s → s < s_N z) (ha : a < 4) (hs : s < s_N z)
    (h1 : f_tk (s_go z a_there a_effects tk ln) (f_tg (s_st z a_there a_effects tk ln) A s) a → post 1) (h0 : ¬ f_tk (s_go z a_there a_effects tk ln) (f_tg (s_st z a_there a_effects tk ln) A s) a → post 0) : wpY_taken post (f_known, f_traceEnd, f_failures, a_tokens, a_lengths, a_values, a_there, a_fairness, a_effects, a_goes, a_guards, a_enabled, a_depth, a_ways, a_alive, a_calm, a_traced, a_failed, a_stack) (nI a) (nI s) (nI (s_N z)) := by
  have hN := s_N_le hz
  have inner : ∀ (x : Nat) (J3 : Int32 → Prop), x < s_N z → ((∀ y, ¬ (x ≠ y ∧ (s_go z a_there a_effects tk ln) a x y ∧ f_tg (s_st z a_there a_effects tk ln) A s x ∧ f_tg (s_st z a_there a_effects tk ln) A s y)) → J3 (nI (x + 1))) → ∀ n y, y ≤ s_N z → s_N z - y < n → (∀ y', y' < y → ¬ (x ≠ y' ∧ (s_go z a_there a_effects tk ln) a x y' ∧ f_tg (s_st z a_there a_effects tk ln) A s x ∧ f_tg (s_st z a_there a_effects tk ln) A s y')) → wY_taken_12 post J3 (nI a) (nI s) (nI (s_N z)) (nI x) f_known f_traceEnd f_failures a_tokens a_lengths a_values a_there a_fairness a_effects a_goes a_guards a_enabled a_depth a_ways a_alive a_calm a_traced a_failed a_stack n (nI y) := by
    intro x J3 hx HJ n
    induction n with
    | zero => intro y _ h; omega
    | succ n ih =>
      intro y hy hn hp
      refine pk_le (s_N z) y (fun h => nm_r (nI_1 x) (HJ fun y' q => hp y' (by have := hAN y' (p_end q.2.2.2.1); omega) q)) (fun h => ?_)
      have no : ¬ (x ≠ y ∧ (s_go z a_there a_effects tk ln) a x y ∧ f_tg (s_st z a_there a_effects tk ln) A s x ∧ f_tg (s_st z a_there a_effects tk ln) A s y) → wY_taken_12 post J3 (nI a) (nI s) (nI (s_N z)) (nI x) f_known f_traceEnd f_failures a_tokens a_lengths a_values a_there a_fairness a_effects a_goes a_guards a_enabled a_depth a_ways a_alive a_calm a_traced a_failed a_stack n (nI (y + 1)) := by
        intro hne
        refine ih (y + 1) (by omega) (by omega) fun y' hy' => ?_
        by_cases c : y' = y
        · rw [c]; exact hne
        · exact hp y' (by omega)
      refine pk_eq x y (fun e => nm_r (nI_1 y) (no fun q => q.1 e)) (fun e => y_goesTo (go := (s_go z a_there a_effects tk ln)) ha (by omega) (by omega) (fun t => (hF x hx).1 a ha t) (fun q r => r.2.2.1.1 q) (fun q => br_f (by decide) (y_tg hz hw hs hx (fun r => br_f (by decide) (y_tg hz hw hs h (fun u => br_f (by decide) (h1 ⟨x, y, r, u, e, q⟩)) (fun u => br_t rfl (nm_r (nI_1 y) (no fun v => u v.2.2.2))))) (fun r => br_t rfl (nm_r (nI_1 y) (no fun v => r v.2.2.1))))) (fun q => br_t rfl (nm_r (nI_1 y) (no fun v => q v.2.1))))
  have key : ∀ n x, x ≤ s_N z → s_N z - x < n → (∀ x', x' < x → ∀ y, ¬ (x' ≠ y ∧ (s_go z a_there a_effects tk ln) a x' y ∧ f_tg (s_st z a_there a_effects tk ln) A s x' ∧ f_tg (s_st z a_there a_effects tk ln) A s y)) → wY_taken_3 post (nI a) (nI s) (nI (s_N z)) f_known f_traceEnd f_failures a_tokens a_lengths a_values a_there a_fairness a_effects a_goes a_guards a_enabled a_depth a_ways a_alive a_calm a_traced a_failed a_stack n (nI x) := by
    intro n
    induction n with
    | zero => intro x _ h; omega
    | succ n ih =>
      intro x hx hn hp
      refine pk_le (s_N z) x (fun h => h0 ?_) (fun h => ⟨s_N z + 1, inner x _ h (fun hq => ih (x + 1) (by omega) (by omega) fun x' hx' => ?_) (s_N z + 1) 0 (Nat.zero_le _) (by omega) fun y' hy' => absurd hy' (Nat.not_lt_zero _)⟩)
      · rintro ⟨x', y, q1, q2, q3, q4⟩
        exact hp x' (by have := hAN x' (p_end q1.1); omega) y ⟨q3, q4, q1, q2⟩
      · by_cases c : x' = x
        · rw [c]; exact hq
        · exact hp x' (by omega)
  exact ⟨s_N z + 1, key _ 0 (Nat.zero_le _) (by omega) fun x' hx' => absurd hx' (Nat.not_lt_zero _)⟩
theorem y_unfair {post : Int32 → Prop} {s : Nat} (hz : s_Z z) (hfr : ∀ a, a < 4 → a_fairness a = 0 ∨ a_fairness a = 1 ∨ a_fairness a = 2) (hF : ∀ s, s < s_N z → l_F z a_there a_effects tk ln a_goes a_guards a_enabled s) (hw : ∀ s, s < s_N z → ∀ t, aS a_ways (2 * s) t ↔ p_r (s_st z a_there a_effects tk ln) A s t) (hAN : ∀ s, A s → s < s_N z) (hs : s < s_N z)
    (h1 : f_un (s_st z a_there a_effects tk ln) (s_go z a_there a_effects tk ln) (s_en z a_there a_effects tk ln) a_there a_fairness A s → post 1) (h0 : ¬ f_un (s_st z a_there a_effects tk ln) (s_go z a_there a_effects tk ln) (s_en z a_there a_effects tk ln) a_there a_fairness A s → post 0) : wpY_unfair post (f_known, f_traceEnd, f_failures, a_tokens, a_lengths, a_values, a_there, a_fairness, a_effects, a_goes, a_guards, a_enabled, a_depth, a_ways, a_alive, a_calm, a_traced, a_failed, a_stack) (nI s) (nI (s_N z)) := by
  have hN := s_N_le hz
  have cs : (nI s).toNatClampNeg = s := nI_clamp (by omega)
  have ubit : ∀ a, f_un (s_st z a_there a_effects tk ln) (s_go z a_there a_effects tk ln) (s_en z a_there a_effects tk ln) a_there a_fairness A s → (∀ b, b < 4 → b ≠ a → ¬ (a_there b ≠ 0 ∧ a_fairness b ≠ 0 ∧ (s_en z a_there a_effects tk ln) b s ∧ (a_fairness b = 1 → ∀ t, f_tg (s_st z a_there a_effects tk ln) A s t → (s_en z a_there a_effects tk ln) b t) ∧ ¬ f_tk (s_go z a_there a_effects tk ln) (f_tg (s_st z a_there a_effects tk ln) A s) b)) → True := fun _ _ _ => trivial
  have inner : ∀ (a : Nat) (J2 : Int32 → Prop), a < 4 → a_there a ≠ 0 → a_fairness a ≠ 0 → (s_en z a_there a_effects tk ln) a s → (¬ ((a_fairness a = 1 → ∀ t, f_tg (s_st z a_there a_effects tk ln) A s t → (s_en z a_there a_effects tk ln) a t) ∧ ¬ f_tk (s_go z a_there a_effects tk ln) (f_tg (s_st z a_there a_effects tk ln) A s) a) → J2 (nI (a + 1))) → ∃ n, wY_unfair_47 post J2 (nI s) (nI (s_N z)) (nI a) f_known f_traceEnd f_failures a_tokens a_lengths a_values a_there a_fairness a_effects a_goes a_guards a_enabled a_depth a_ways a_alive a_calm a_traced a_failed a_stack n 1 (nI 0) := by
    intro a J2 ha t1 t2 t3 HJ
    have ca : (nI a).toNatClampNeg = a := nI_clamp (by omega)
    have fin : ∀ x4 : Int32, ((x4 = 0 ∧ ¬ (a_fairness a = 1 → ∀ t, f_tg (s_st z a_there a_effects tk ln) A s t → (s_en z a_there a_effects tk ln) a t)) ∨ (x4 = 1 ∧ (a_fairness a = 1 → ∀ t, f_tg (s_st z a_there a_effects tk ln) A s t → (s_en z a_there a_effects tk ln) a t))) → wY_unfair_96 post J2 (nI s) (nI (s_N z)) (nI a) x4 f_known f_traceEnd f_failures a_tokens a_lengths a_values a_there a_fairness a_effects a_goes a_guards a_enabled a_depth a_ways a_alive a_calm a_traced a_failed a_stack := by
      intro x4 hx
      unfold wY_unfair_96
      rcases hx with ⟨rfl, q⟩ | ⟨rfl, q⟩
      · exact br_t rfl (nm_r (nI_1 a) (HJ fun r => q r.1))
      · exact br_f (by decide) (y_taken hz hF hw hAN ha hs (fun r => br_f (by decide) (nm_r (nI_1 a) (HJ fun u => u.2 r))) (fun r => br_t rfl (h1 ⟨a, ha, t1, t2, t3, q, r⟩)))
    by_cases f1 : a_fairness a = 1
    · have key : ∀ n t, t ≤ s_N z → s_N z - t < n → ∀ x4 : Int32, ((x4 = 0 ∧ ∃ t', f_tg (s_st z a_there a_effects tk ln) A s t' ∧ ¬ (s_en z a_there a_effects tk ln) a t') ∨ (x4 = 1 ∧ ∀ t', t' < t → f_tg (s_st z a_there a_effects tk ln) A s t' → (s_en z a_there a_effects tk ln) a t')) → wY_unfair_47 post J2 (nI s) (nI (s_N z)) (nI a) f_known f_traceEnd f_failures a_tokens a_lengths a_values a_there a_fairness a_effects a_goes a_guards a_enabled a_depth a_ways a_alive a_calm a_traced a_failed a_stack n x4 (nI t) := by
        intro n
        induction n with
        | zero => intro t _ h; omega
        | succ n ih =>
          intro t ht hn x4 hx
          refine pk_le (s_N z) t (fun h => fin x4 ?_) (fun h => ⟨vp_in_nI ha (by omega), ?_⟩)
          · rcases hx with ⟨e, t', q, r⟩ | ⟨e, q⟩
            · exact Or.inl ⟨e, fun u => r (u f1 t' q)⟩
            · exact Or.inr ⟨e, fun _ t' r => q t' (by have := hAN t' (p_end r.1); omega) r⟩
          · rw [ca]
            have keep : (f_tg (s_st z a_there a_effects tk ln) A s t → (s_en z a_there a_effects tk ln) a t) → wY_unfair_47 post J2 (nI s) (nI (s_N z)) (nI a) f_known f_traceEnd f_failures a_tokens a_lengths a_values a_there a_fairness a_effects a_goes a_guards a_enabled a_depth a_ways a_alive a_calm a_traced a_failed a_stack n x4 (nI (t + 1)) := by
              intro hk
              refine ih (t + 1) (by omega) (by omega) x4 ?_
              rcases hx with q | ⟨e, q⟩
              · exact Or.inl q
              · refine Or.inr ⟨e, fun t' ht' r => ?_⟩
                by_cases c : t' = t
                · rw [c] at r ⊢; exact hk r
                · exact q t' (by omega) r
            refine br_t f1 (y_tg hz hw hs h (fun q => br_f (by decide) ⟨vp_in_nI (by omega) (by omega), ?_⟩) (fun q => br_t rfl (nm_r (nI_1 t) (keep fun r => absurd r q))))
            rw [nI_clamp (by omega)]
            refine if2 (d := (s_en z a_there a_effects tk ln) a t) (mb_t ha (hF t h).2.2) (fun e => nm_r (nI_1 t) (ih (t + 1) (by omega) (by omega) 0 (Or.inl ⟨rfl, t, q, e⟩))) (fun e => nm_r (nI_1 t) (keep fun _ => e))
      exact ⟨s_N z + 1, key _ 0 (Nat.zero_le _) (by omega) 1 (Or.inr ⟨rfl, fun t' ht' => absurd ht' (Nat.not_lt_zero _)⟩)⟩
    · refine ⟨1, pk_le (s_N z) 0 (fun h => absurd (s_N_pos hz) (by omega)) (fun h => ⟨vp_in_nI ha (by omega), ?_⟩)⟩
      rw [ca]
      exact br_f f1 (fin 1 (Or.inr ⟨rfl, fun q => absurd q f1⟩))
  have key : ∀ n a, a ≤ 4 → 4 - a < n → (∀ b, b < a → ¬ (a_there b ≠ 0 ∧ a_fairness b ≠ 0 ∧ (s_en z a_there a_effects tk ln) b s ∧ (a_fairness b = 1 → ∀ t, f_tg (s_st z a_there a_effects tk ln) A s t → (s_en z a_there a_effects tk ln) b t) ∧ ¬ f_tk (s_go z a_there a_effects tk ln) (f_tg (s_st z a_there a_effects tk ln) A s) b)) → wY_unfair_2 post (nI s) (nI (s_N z)) f_known f_traceEnd f_failures a_tokens a_lengths a_values a_there a_fairness a_effects a_goes a_guards a_enabled a_depth a_ways a_alive a_calm a_traced a_failed a_stack n (nI a) := by
    intro n
    induction n with
    | zero => intro a _ h; omega
    | succ n ih =>
      intro a ha hn hp
      refine pk_le 4 a (fun h => h0 fun ⟨b, hb, q⟩ => hp b (by omega) q) (fun h => ⟨vp_in_nI h (by omega), ?_⟩)
      have ca : (nI a).toNatClampNeg = a := nI_clamp (by omega)
      have no : ¬ (a_there a ≠ 0 ∧ a_fairness a ≠ 0 ∧ (s_en z a_there a_effects tk ln) a s ∧ (a_fairness a = 1 → ∀ t, f_tg (s_st z a_there a_effects tk ln) A s t → (s_en z a_there a_effects tk ln) a t) ∧ ¬ f_tk (s_go z a_there a_effects tk ln) (f_tg (s_st z a_there a_effects tk ln) A s) a) → wY_unfair_2 post (nI s) (nI (s_N z)) f_known f_traceEnd f_failures a_tokens a_lengths a_values a_there a_fairness a_effects a_goes a_guards a_enabled a_depth a_ways a_alive a_calm a_traced a_failed a_stack n (nI (a + 1)) := by
        intro hne
        refine ih (a + 1) (by omega) (by omega) fun b hb => ?_
        by_cases c : b = a
        · rw [c]; exact hne
        · exact hp b (by omega)
      rw [ca, cs]
      refine br_c (fun e => nm_r (nI_1 a) (no fun q => q.1 e)) (fun e1 => ⟨vp_in_nI h (by omega), br_c (fun e => nm_r (nI_1 a) (no fun q => q.2.1 e)) (fun e2 => ⟨vp_in_nI (by omega) (by omega), if2 (d := (s_en z a_there a_effects tk ln) a s) (mb_t h (hF s hs).2.2) (fun e => nm_r (nI_1 a) (no fun q => e q.2.2.1)) (fun e3 => inner a _ h e1 e2 e3 fun q => no fun r => q r.2.2.2)⟩)⟩)
  exact ⟨5, key 5 0 (by omega) (by omega) fun b hb => absurd hb (Nat.not_lt_zero _)⟩
end Yf
end
section
/-! Y: fails -/
section Yg
variable {f_known f_traceEnd f_failures : Int32} {a_tokens a_lengths a_values a_there a_fairness a_effects a_guards a_enabled a_depth a_traced a_failed a_stack : Nat → Int32} {a_goes a_ways a_alive a_calm : Nat → Int64}
variable {z : Nat → Nat} {tk : Nat → Nat → Nat} {ln : Nat → Nat} {A W F0 Q : Nat → Prop}
theorem y_come_10 {post : SY → Prop} {Fst : Nat → Prop} {J2 : Int32 → Int32 → Int32 → Int32 → (Nat → Int32) → (Nat → Int32) → (Nat → Int32) → (Nat → Int32) → (Nat → Int32) → (Nat → Int32) → (Nat → Int64) → (Nat → Int32) → (Nat → Int32) → (Nat → Int32) → (Nat → Int64) → (Nat → Int64) → (Nat → Int64) → (Nat → Int32) → (Nat → Int32) → (Nat → Int32) → Prop} (hz : s_Z z) (hF : ∀ s, s < s_N z → l_F z a_there a_effects tk ln a_goes a_guards a_enabled s) (hW : ∀ s, aS a_calm 0 s ↔ W s) (hWN : ∀ s, W s → s < s_N z) (hFW : ∀ s, F0 s → W s)
    (HJ0 : ∀ al : Nat → Int64, (∀ s, aS al 0 s ↔ Fst s) → (∀ s t, W s → aS al 0 t → (s_st z a_there a_effects tk ln) s t → aS al 0 s) → J2 0 f_known f_traceEnd f_failures a_tokens a_lengths a_values a_there a_fairness a_effects a_goes a_guards a_enabled a_depth a_ways al a_calm a_traced a_failed a_stack)
    (HJ1 : ∀ al : Nat → Int64, (∀ s, Fst s → aS al 0 s) → (∀ s, aS al 0 s → f_c (s_st z a_there a_effects tk ln) W F0 s) → cn Fst (s_N z) < cn (aS al 0) (s_N z) → J2 1 f_known f_traceEnd f_failures a_tokens a_lengths a_values a_there a_fairness a_effects a_goes a_guards a_enabled a_depth a_ways al a_calm a_traced a_failed a_stack) :
    ∀ n s, s ≤ s_N z → s_N z - s < n → ∀ (x2 : Int32) (al : Nat → Int64), (∀ s, Fst s → aS al 0 s) → (∀ s, aS al 0 s → f_c (s_st z a_there a_effects tk ln) W F0 s) →
      ((x2 = 0 ∧ (∀ x, aS al 0 x ↔ Fst x) ∧ ∀ x, x < s → W x → ¬ aS al 0 x → ∀ t, (s_st z a_there a_effects tk ln) x t → ¬ aS al 0 t) ∨ (x2 = 1 ∧ cn Fst (s_N z) < cn (aS al 0) (s_N z))) →
      wY_come_10 post J2 (nI (s_N z)) n x2 (nI s) f_known f_traceEnd f_failures a_tokens a_lengths a_values a_there a_fairness a_effects a_goes a_guards a_enabled a_depth a_ways al a_calm a_traced a_failed a_stack := by
  have hN := s_N_le hz
  have cW : ∀ s, f_c (s_st z a_there a_effects tk ln) W F0 s → W s := fun s ⟨t, _, h⟩ => h.1
  intro n
  induction n with
  | zero => intro s _ h; omega
  | succ n ih =>
    intro s hs hn x2 al h1 h2 h3
    refine pk_le (s_N z) s (fun h => ?_) (fun h => ?_)
    · rcases h3 with ⟨rfl, a, b⟩ | ⟨rfl, a⟩
      · exact HJ0 al a fun x t hw ht hst => Classical.byContradiction fun q => b x (by have := hWN x hw; omega) hw q t hst ht
      · exact HJ1 al h1 h2 a
    · have skip : (W s → ¬ aS al 0 s → ∀ t, (s_st z a_there a_effects tk ln) s t → ¬ aS al 0 t) → wY_come_10 post J2 (nI (s_N z)) n x2 (nI (s + 1)) f_known f_traceEnd f_failures a_tokens a_lengths a_values a_there a_fairness a_effects a_goes a_guards a_enabled a_depth a_ways al a_calm a_traced a_failed a_stack := by
        intro hc
        refine ih (s + 1) (by omega) (by omega) x2 al h1 h2 ?_
        rcases h3 with ⟨e, a, b⟩ | q
        · refine Or.inl ⟨e, a, fun x hx => ?_⟩
          by_cases c : x = s
          · rw [c]; exact hc
          · exact b x (by omega)
        · exact Or.inr q
      refine y_has_calm (i := 0) (by omega) (by omega) (fun hw => br_f (by decide) (y_has_alive (i := 0) (by omega) (by omega) (fun ha => br_f (by decide) (nm_r (nI_1 s) (skip fun _ q => absurd ha q))) (fun ha => br_t rfl ?_))) (fun hw => br_t rfl (nm_r (nI_1 s) (skip fun q => absurd ((hW s).mpr q) hw)))
      have hWs := (hW s).mp hw
      have inner : ∀ n' t, t ≤ s_N z → s_N z - t < n' → ∀ x4 : Int32, ((x4 = 0 ∧ ∀ t', t' < t → ¬ (aS al 0 t' ∧ (s_st z a_there a_effects tk ln) s t')) ∨ (x4 = 1 ∧ ∃ t', aS al 0 t' ∧ (s_st z a_there a_effects tk ln) s t')) → wY_come_50 post J2 (wY_come_10 post J2 (nI (s_N z)) n) (nI (s_N z)) x2 (nI s) f_known f_traceEnd f_failures a_tokens a_lengths a_values a_there a_fairness a_effects a_goes a_guards a_enabled a_depth a_ways al a_calm a_traced a_failed a_stack n' x4 (nI t) := by
        intro n'
        induction n' with
        | zero => intro t _ h; omega
        | succ n' ih' =>
          intro t ht hn' x4 hx
          refine pk_le (s_N z) t (fun h' => ?_) (fun h' => ?_)
          · rcases hx with ⟨rfl, q⟩ | ⟨rfl, t', q1, q2⟩
            · refine br_t rfl (nm_r (e' := x2) (by rcases h3 with ⟨rfl, _⟩ | ⟨rfl, _⟩; exact or00; exact or10) (nm_r (nI_1 s) (skip fun _ _ t' q1 q2 => ?_)))
              exact q t' (by have := hWN t' (cW t' (h2 t' q2)); omega) ⟨q2, q1⟩
            · refine br_f (by decide) (y_put_alive (i := 0) (by omega) (by omega) fun al' _ hal' => nm_r (e' := 1) (by rcases h3 with ⟨rfl, _⟩ | ⟨rfl, _⟩; exact or01; exact or11) (nm_r (nI_1 s) (ih (s + 1) (by omega) (by omega) 1 al' (fun x hx => (hal' x).mpr (Or.inl (h1 x hx))) (fun x hx => ?_) (Or.inr ⟨rfl, ?_⟩))))
              · rcases (hal' x).mp hx with r | r
                · exact h2 x r
                · rw [r]; exact f_c_s (h2 t' q1) hWs q2
              · have hlt := cn_lt (P := aS al 0) (Q := aS al' 0) (a := s) (N := s_N z) ha ((hal' s).mpr (Or.inr rfl)) (fun x _ q => (hal' x).mpr (Or.inl q)) h
                have hle : cn Fst (s_N z) ≤ cn (aS al 0) (s_N z) := cn_mono fun x _ q => h1 x q
                omega
          · have no : ¬ (aS al 0 t ∧ (s_st z a_there a_effects tk ln) s t) → ∀ y : Int32, y = x4 ||| 0 → ∀ x6 : Int32, x6 = nI t + 1 → wY_come_50 post J2 (wY_come_10 post J2 (nI (s_N z)) n) (nI (s_N z)) x2 (nI s) f_known f_traceEnd f_failures a_tokens a_lengths a_values a_there a_fairness a_effects a_goes a_guards a_enabled a_depth a_ways al a_calm a_traced a_failed a_stack n' y x6 := by
              intro hne y hy x6 hx6
              have ey : y = x4 := by rw [hy]; rcases hx with ⟨rfl, _⟩ | ⟨rfl, _⟩; exact or00; exact or10
              rw [ey, hx6, nI_1]
              refine ih' (t + 1) (by omega) (by omega) x4 ?_
              rcases hx with ⟨e, q⟩ | q
              · refine Or.inl ⟨e, fun t' ht' => ?_⟩
                by_cases c2 : t' = t
                · rw [c2]; exact hne
                · exact q t' (by omega)
              · exact Or.inr q
            refine y_has_alive (i := 0) (by omega) (by omega) (fun q => br_f (by decide) (y_stepD hz h h' hF (fun r => br_f (by decide) ?_) (fun r => br_t rfl (no fun u => r u.2)))) (fun q => br_t rfl (no fun u => q u.1))
            exact nm_r (e' := 1) (by rcases hx with ⟨rfl, _⟩ | ⟨rfl, _⟩; exact or01; exact or11) (nm_r (nI_1 t) (ih' (t + 1) (by omega) (by omega) 1 (Or.inr ⟨rfl, t, q, r⟩)))
      exact ⟨s_N z + 1, inner _ 0 (Nat.zero_le _) (by omega) 0 (Or.inl ⟨rfl, fun t' ht' => absurd ht' (Nat.not_lt_zero _)⟩)⟩
theorem y_come {post : SY → Prop} (hz : s_Z z) (hF : ∀ s, s < s_N z → l_F z a_there a_effects tk ln a_goes a_guards a_enabled s) (hW : ∀ s, aS a_calm 0 s ↔ W s) (hWN : ∀ s, W s → s < s_N z) (hFW : ∀ s, F0 s → W s) (hA : ∀ s, aS a_alive 0 s ↔ F0 s)
    (H : ∀ al : Nat → Int64, (∀ s, aS al 0 s ↔ f_c (s_st z a_there a_effects tk ln) W F0 s) → post (f_known, f_traceEnd, f_failures, a_tokens, a_lengths, a_values, a_there, a_fairness, a_effects, a_goes, a_guards, a_enabled, a_depth, a_ways, al, a_calm, a_traced, a_failed, a_stack)) : wpY_come post (f_known, f_traceEnd, f_failures, a_tokens, a_lengths, a_values, a_there, a_fairness, a_effects, a_goes, a_guards, a_enabled, a_depth, a_ways, a_alive, a_calm, a_traced, a_failed, a_stack) (nI (s_N z)) := by
  have key : ∀ n (al : Nat → Int64), (∀ s, F0 s → aS al 0 s) → (∀ s, aS al 0 s → f_c (s_st z a_there a_effects tk ln) W F0 s) → s_N z + 1 - cn (aS al 0) (s_N z) < n → wY_come_2 post (nI (s_N z)) n 1 f_known f_traceEnd f_failures a_tokens a_lengths a_values a_there a_fairness a_effects a_goes a_guards a_enabled a_depth a_ways al a_calm a_traced a_failed a_stack := by
    intro n
    induction n with
    | zero => intro al _ _ h; omega
    | succ n ih =>
      intro al h1 h2 hn
      have hcl := cn_le (aS al 0) (s_N z)
      obtain ⟨m, rfl⟩ : ∃ m, n = m + 1 := ⟨n - 1, by omega⟩
      refine br_f (by decide) ⟨s_N z + 1, y_come_10 (F0 := F0) (W := W) (Fst := aS al 0) hz hF hW hWN hFW (fun al' e hc => ?_) (fun al' e hc hlt => ?_) (s_N z + 1) 0 (Nat.zero_le _) (by omega) 0 al (fun _ q => q) h2 (Or.inl ⟨rfl, fun _ => Iff.rfl, fun x hx => absurd hx (Nat.not_lt_zero _)⟩)⟩
      · exact br_t rfl (H al' fun s => f_back (fun x hx => (e x).mpr (h1 x hx)) (fun x hx => h2 x ((e x).mp hx)) (fun x y hw hy hs => hc x y hw hy hs) s)
      · exact ih al' (fun x hx => e x (h1 x hx)) hc (by omega)
  exact ⟨s_N z + 2, key _ a_alive (fun s hs => (hA s).mpr hs) (fun s hs => f_c_0 ((hA s).mp hs) (hFW s ((hA s).mp hs))) (by omega)⟩
theorem y_fails_183 {post : Int32 → SY → Prop} (hz : s_Z z) (hsz : ∀ v, v < 3 → a_values v = nI (z v)) (hL : r_M tk ln a_tokens a_lengths) (hT : r_Tk tk ln) (hw17 : ln 17 = 0 ∨ e_wh (tk 17) (ln 17))
    (hQ : ∀ s, s < s_N z → (Q s ↔ aS a_alive 0 s ∧ s_E z tk ln 17 s ≠ 0))
    (H : ∀ (fl : Nat) (st fd : Nat → Int32), fl_A (s_N z) Q fl fd → post (nI fl) (f_known, f_traceEnd, nI fl, a_tokens, a_lengths, a_values, a_there, a_fairness, a_effects, a_goes, a_guards, a_enabled, a_depth, a_ways, a_alive, a_calm, a_traced, fd, st)) :
    ∀ n s, s ≤ s_N z → s_N z - s < n → ∀ st fd : Nat → Int32, (∀ t, t < s → Q t → fd (cn Q t) = nI t) → wY_fails_183 post (nI (s_N z)) n (nI s) f_known f_traceEnd (nI (cn Q s)) a_tokens a_lengths a_values a_there a_fairness a_effects a_goes a_guards a_enabled a_depth a_ways a_alive a_calm a_traced fd st := by
  have hN := s_N_le hz
  intro n
  induction n with
  | zero => intro s _ h; omega
  | succ n ih =>
    intro s hs hn st fd hf
    refine pk_le (s_N z) s (fun h => ?_) (fun h => ?_)
    · have es : s = s_N z := by omega
      subst es
      exact H _ st fd ⟨rfl, hf⟩
    · have hc5 := cn_le Q s
      have no : ∀ st' : Nat → Int32, ¬ Q s → wY_fails_183 post (nI (s_N z)) n (nI (s + 1)) f_known f_traceEnd (nI (cn Q s)) a_tokens a_lengths a_values a_there a_fairness a_effects a_goes a_guards a_enabled a_depth a_ways a_alive a_calm a_traced fd st' := by
        intro st' hq
        have := ih (s + 1) (by omega) (by omega) st' fd (fun t ht qt => by
          by_cases c : t = s
          · rw [c] at qt; exact absurd qt hq
          · exact hf t (by omega) qt)
        have e : cn Q (s + 1) = cn Q s := by
          show cn Q s + b01 (Q s) = _
          rw [b01_f hq, Nat.add_zero]
        rw [e] at this
        exact this
      refine y_has_alive (i := 0) (by omega) (by omega) (fun hh => br_f (by decide) ?_) (fun hh => br_t rfl (nm_r (nI_1 s) (no st fun q => hh ((hQ s h).mp q).1)))
      refine y_isTrue (l := 17) hz hsz (by omega) hL hT (by omega) hw17 (fun st' e => br_f (by decide) ⟨vp_in_nI (by omega) (by omega), nm_r (e' := upd fd (cn Q s) (nI s)) (by rw [nI_clamp (by omega)]) (nm_r (nI_1 _) (nm_r (nI_1 s) ?_))⟩) (fun st' e => br_t rfl (nm_r (nI_1 s) (no st' fun q => ((hQ s h).mp q).2 e)))
      have qs : Q s := (hQ s h).mpr ⟨hh, e⟩
      have := ih (s + 1) (by omega) (by omega) st' (upd fd (cn Q s) (nI s)) (fun t ht qt => by
        by_cases c : t = s
        · rw [c, pk_us]
        · have hlt := cn_lt (P := fun x => Q x ∧ x < t) (Q := fun x => Q x ∧ x < s) (a := t) (N := s) (fun q => Nat.lt_irrefl _ q.2) ⟨qt, by omega⟩ (fun x _ q => ⟨q.1, by omega⟩) (by omega)
          have e1 : cn (fun x => Q x ∧ x < t) s = cn Q t := by
            rw [cn_ext (n := t) (by omega) (fun k q => q.2)]
            exact cn_eq fun k hk => ⟨fun q => q.1, fun q => ⟨q, hk⟩⟩
          have e2 : cn (fun x => Q x ∧ x < s) s = cn Q s := cn_eq fun k hk => ⟨fun q => q.1, fun q => ⟨q, hk⟩⟩
          rw [pk_un (by omega)]; exact hf t (by omega) qt)
      have e : cn Q (s + 1) = cn Q s + 1 := by
        show cn Q s + b01 (Q s) = _
        rw [b01_t qs]
      rw [e] at this
      exact this
/-- one round of taking away -/
theorem y_fails_108 {post : Int32 → SY → Prop} {J95 : Int32 → Int32 → Int32 → Int32 → (Nat → Int32) → (Nat → Int32) → (Nat → Int32) → (Nat → Int32) → (Nat → Int32) → (Nat → Int32) → (Nat → Int64) → (Nat → Int32) → (Nat → Int32) → (Nat → Int32) → (Nat → Int64) → (Nat → Int64) → (Nat → Int64) → (Nat → Int32) → (Nat → Int32) → (Nat → Int32) → Prop} (hz : s_Z z) (hfr : ∀ a, a < 4 → a_fairness a = 0 ∨ a_fairness a = 1 ∨ a_fairness a = 2) (hF : ∀ s, s < s_N z → l_F z a_there a_effects tk ln a_goes a_guards a_enabled s) (hw : ∀ s, s < s_N z → ∀ t, aS a_ways (2 * s) t ↔ p_r (s_st z a_there a_effects tk ln) A s t) (hAN : ∀ s, A s → s < s_N z)
    (HJ0 : ∀ al : Nat → Int64, (∀ s, aS al 0 s ↔ A s) → (∀ s, A s → ¬ (f_un (s_st z a_there a_effects tk ln) (s_go z a_there a_effects tk ln) (s_en z a_there a_effects tk ln) a_there a_fairness) A s) → J95 0 f_known f_traceEnd f_failures a_tokens a_lengths a_values a_there a_fairness a_effects a_goes a_guards a_enabled a_depth a_ways al a_calm a_traced a_failed a_stack)
    (HJ1 : ∀ al : Nat → Int64, (∀ s, aS al 0 s ↔ A s ∧ ¬ (f_un (s_st z a_there a_effects tk ln) (s_go z a_there a_effects tk ln) (s_en z a_there a_effects tk ln) a_there a_fairness) A s) → (∃ s, A s ∧ (f_un (s_st z a_there a_effects tk ln) (s_go z a_there a_effects tk ln) (s_en z a_there a_effects tk ln) a_there a_fairness) A s) → J95 1 f_known f_traceEnd f_failures a_tokens a_lengths a_values a_there a_fairness a_effects a_goes a_guards a_enabled a_depth a_ways al a_calm a_traced a_failed a_stack) :
    ∀ n s, s ≤ s_N z → s_N z - s < n → ∀ (x2 : Int32) (al : Nat → Int64), (∀ x, aS al 0 x ↔ A x ∧ ¬ (x < s ∧ (f_un (s_st z a_there a_effects tk ln) (s_go z a_there a_effects tk ln) (s_en z a_there a_effects tk ln) a_there a_fairness) A x)) → ((x2 = 0 ∧ ∀ x, x < s → A x → ¬ (f_un (s_st z a_there a_effects tk ln) (s_go z a_there a_effects tk ln) (s_en z a_there a_effects tk ln) a_there a_fairness) A x) ∨ (x2 = 1 ∧ ∃ x, A x ∧ (f_un (s_st z a_there a_effects tk ln) (s_go z a_there a_effects tk ln) (s_en z a_there a_effects tk ln) a_there a_fairness) A x)) →
      wY_fails_108 post J95 (nI (s_N z)) f_known f_traceEnd f_failures n x2 (nI s) a_tokens a_lengths a_values a_there a_fairness a_effects a_goes a_guards a_enabled a_depth a_ways al a_calm a_traced a_failed a_stack := by
  have hN := s_N_le hz
  intro n
  induction n with
  | zero => intro s _ h; omega
  | succ n ih =>
    intro s hs hn x2 al hal hx
    refine pk_le (s_N z) s (fun h => ?_) (fun h => ?_)
    · rcases hx with ⟨rfl, q⟩ | ⟨rfl, q⟩
      · have all : ∀ x, A x → ¬ (f_un (s_st z a_there a_effects tk ln) (s_go z a_there a_effects tk ln) (s_en z a_there a_effects tk ln) a_there a_fairness) A x := fun x hx => q x (by have := hAN x hx; omega) hx
        exact HJ0 al (fun x => by rw [hal x]; exact ⟨fun r => r.1, fun r => ⟨r, fun u => all x r u.2⟩⟩) all
      · exact HJ1 al (fun x => by rw [hal x]; exact ⟨fun r => ⟨r.1, fun u => r.2 ⟨by have := hAN x r.1; omega, u⟩⟩, fun r => ⟨r.1, fun u => r.2 u.2⟩⟩) q
    · have keep : (A s → ¬ (f_un (s_st z a_there a_effects tk ln) (s_go z a_there a_effects tk ln) (s_en z a_there a_effects tk ln) a_there a_fairness) A s) → wY_fails_108 post J95 (nI (s_N z)) f_known f_traceEnd f_failures n x2 (nI (s + 1)) a_tokens a_lengths a_values a_there a_fairness a_effects a_goes a_guards a_enabled a_depth a_ways al a_calm a_traced a_failed a_stack := by
        intro hk
        refine ih (s + 1) (by omega) (by omega) x2 al (fun x => ?_) ?_
        · rw [hal x]
          constructor
          · rintro ⟨q, r⟩
            refine ⟨q, fun u => ?_⟩
            by_cases c : x = s
            · rw [c] at q u; exact hk q u.2
            · exact r ⟨by omega, u.2⟩
          · rintro ⟨q, r⟩; exact ⟨q, fun u => r ⟨by omega, u.2⟩⟩
        · rcases hx with ⟨e, q⟩ | q
          · refine Or.inl ⟨e, fun x hx' => ?_⟩
            by_cases c : x = s
            · rw [c]; exact hk
            · exact q x (by omega)
          · exact Or.inr q
      refine y_has_alive (i := 0) (by omega) (by omega) (fun hh => br_f (by decide) ?_) (fun hh => br_t rfl (nm_r (nI_1 s) (keep fun q => absurd ((hal s).mpr ⟨q, fun u => Nat.lt_irrefl _ u.1⟩) hh)))
      have hAs := ((hal s).mp hh).1
      refine y_unfair hz hfr hF hw hAN h (fun q => br_f (by decide) ?_) (fun q => br_t rfl (nm_r (nI_1 s) (keep fun _ => q)))
      have ed : nI s / 64 = nI (s / 64) := pk_div (d := 64) (by omega) (by omega) (by omega)
      have em := y_md (s := s) (by omega)
      have vi : vp_in (nI s / 64) 2 := by rw [ed]; exact vp_in_nI (by omega) (by omega)
      refine ⟨y_64, vi, y_64, vi, nm_r (e' := vp_updL al (0 + s / 64) (al (0 + s / 64) &&& (((1 : Int64) <<< ((nI (s % 64)).toInt64 &&& 63)) ^^^ (-1)))) (by rw [em, ed, nI_clamp (by omega), Nat.zero_add]) (nm_r (nI_1 s) (ih (s + 1) (by omega) (by omega) 1 _ (fun x => ?_) (Or.inr ⟨rfl, s, hAs, q⟩)))⟩
      rw [aS_del (by omega), hal x]
      constructor
      · rintro ⟨⟨r1, r2⟩, r3⟩; exact ⟨r1, fun u => r2 ⟨by omega, u.2⟩⟩
      · rintro ⟨r1, r2⟩
        refine ⟨⟨r1, fun u => r2 ⟨by omega, u.2⟩⟩, fun e => ?_⟩
        rw [e] at r2; exact r2 ⟨by omega, q⟩
theorem y_fails_95 {post : Int32 → SY → Prop} (hz : s_Z z) (hsz : ∀ v, v < 3 → a_values v = nI (z v)) (hL : r_M tk ln a_tokens a_lengths) (hT : r_Tk tk ln) (hw17 : ln 17 = 0 ∨ e_wh (tk 17) (ln 17)) (hfr : ∀ a, a < 4 → a_fairness a = 0 ∨ a_fairness a = 1 ∨ a_fairness a = 2) (hF : ∀ s, s < s_N z → l_F z a_there a_effects tk ln a_goes a_guards a_enabled s)
    (hW : ∀ s, aS a_calm 0 s ↔ W s) (hWN : ∀ s, W s → s < s_N z)
    (H : ∀ (fl : Nat) (st fd : Nat → Int32) (ways al : Nat → Int64), fl_A (s_N z) (fun s => f_c (s_st z a_there a_effects tk ln) W ((f_F (s_st z a_there a_effects tk ln) (s_go z a_there a_effects tk ln) (s_en z a_there a_effects tk ln) a_there a_fairness) W) s ∧ s_E z tk ln 17 s ≠ 0) fl fd → post (nI fl) (f_known, f_traceEnd, nI fl, a_tokens, a_lengths, a_values, a_there, a_fairness, a_effects, a_goes, a_guards, a_enabled, a_depth, ways, al, a_calm, a_traced, fd, st)) :
    ∀ n (A : Nat → Prop), cn A (s_N z) + 1 < n → (∀ s, A s → W s) → (∀ C : Nat → Prop, (f_S (s_st z a_there a_effects tk ln) (s_go z a_there a_effects tk ln) (s_en z a_there a_effects tk ln) a_there a_fairness) C → (∀ x, C x → W x) → ∀ x, C x → A x) → ∀ ways al : Nat → Int64, (∀ s, aS al 0 s ↔ A s) → wY_fails_95 post (nI (s_N z)) n 1 f_known f_traceEnd f_failures a_tokens a_lengths a_values a_there a_fairness a_effects a_goes a_guards a_enabled a_depth ways al a_calm a_traced a_failed a_stack := by
  have hN := s_N_le hz
  intro n
  induction n with
  | zero => intro A h; omega
  | succ n ih =>
    intro A hn hAW hk ways al hal
    have hAN : ∀ s, A s → s < s_N z := fun s h => hWN s (hAW s h)
    obtain ⟨m, rfl⟩ : ∃ m, n = m + 1 := ⟨n - 1, by omega⟩
    refine br_f (by decide) (y_close (A := A) hz hF hal hAN fun ways' hw' => ⟨s_N z + 1, y_fails_108 (A := A) hz hfr hF hw' hAN (fun al' ha' hu => ?_) (fun al' ha' hu => ?_) (s_N z + 1) 0 (Nat.zero_le _) (by omega) 0 al (fun x => by rw [hal x]; exact ⟨fun q => ⟨q, fun u => absurd u.1 (Nat.not_lt_zero _)⟩, fun q => q.1⟩) (Or.inl ⟨rfl, fun x hx => absurd hx (Nat.not_lt_zero _)⟩)⟩)
    · have hY := f_Y hAW hk hu
      refine br_t rfl (y_come (W := W) (F0 := (f_F (s_st z a_there a_effects tk ln) (s_go z a_there a_effects tk ln) (s_en z a_there a_effects tk ln) a_there a_fairness) W) hz hF hW hWN (fun s hs => f_F_W hs) (fun s => by rw [ha' s]; exact hY s) fun al2 hal2 => ⟨s_N z + 1, y_fails_183 (Q := fun s => f_c (s_st z a_there a_effects tk ln) W ((f_F (s_st z a_there a_effects tk ln) (s_go z a_there a_effects tk ln) (s_en z a_there a_effects tk ln) a_there a_fairness) W) s ∧ s_E z tk ln 17 s ≠ 0) hz hsz hL hT hw17 (fun s hs => by rw [hal2 s]) (fun fl st fd h => H fl st fd ways' al2 h) (s_N z + 1) 0 (Nat.zero_le _) (by omega) a_stack a_failed (fun t ht => absurd ht (Nat.not_lt_zero _))⟩)
    · obtain ⟨s0, hs0, hu0⟩ := hu
      refine ih (fun s => A s ∧ ¬ (f_un (s_st z a_there a_effects tk ln) (s_go z a_there a_effects tk ln) (s_en z a_there a_effects tk ln) a_there a_fairness) A s) ?_ (fun s h => hAW s h.1) (fun C hC hCW x hx => ⟨hk C hC hCW x hx, f_keep hfr hC (hk C hC hCW) hx⟩) ways' al' ha'
      have := cn_lt (P := fun s => A s ∧ ¬ (f_un (s_st z a_there a_effects tk ln) (s_go z a_there a_effects tk ln) (s_en z a_there a_effects tk ln) a_there a_fairness) A s) (Q := A) (a := s0) (N := s_N z) (fun q => q.2 hu0) hs0 (fun k _ q => q.1) (hAN s0 hs0)
      omega
theorem y_fails_30 {post : Int32 → SY → Prop} (hz : s_Z z) (hsz : ∀ v, v < 3 → a_values v = nI (z v)) (hL : r_M tk ln a_tokens a_lengths) (hT : r_Tk tk ln) (hw17 : ln 17 = 0 ∨ e_wh (tk 17) (ln 17)) (hw : e_wh (tk 18) (ln 18)) (hfr : ∀ a, a < 4 → a_fairness a = 0 ∨ a_fairness a = 1 ∨ a_fairness a = 2)
    (hD : y_D z a_there a_effects tk ln a_goes a_guards a_enabled a_depth)
    (H : ∀ (fl : Nat) (st fd : Nat → Int32) (ways al cm : Nat → Int64), fl_A (s_N z) (fun s => f_c (s_st z a_there a_effects tk ln) (fun x => q_Rd z a_there a_effects tk ln x ∧ (x < s_N z ∧ s_E z tk ln 18 x = 0)) ((f_F (s_st z a_there a_effects tk ln) (s_go z a_there a_effects tk ln) (s_en z a_there a_effects tk ln) a_there a_fairness) (fun x => q_Rd z a_there a_effects tk ln x ∧ (x < s_N z ∧ s_E z tk ln 18 x = 0))) s ∧ s_E z tk ln 17 s ≠ 0) fl fd → post (nI fl) (f_known, f_traceEnd, nI fl, a_tokens, a_lengths, a_values, a_there, a_fairness, a_effects, a_goes, a_guards, a_enabled, a_depth, ways, al, cm, a_traced, fd, st)) :
    ∀ n s, s ≤ s_N z → s_N z - s < n → ∀ (st : Nat → Int32) (cm : Nat → Int64), (∀ t, aS cm 0 t ↔ t < s ∧ q_Rd z a_there a_effects tk ln t ∧ s_E z tk ln 18 t = 0) → wY_fails_30 post (nI (s_N z)) n (nI s) f_known f_traceEnd f_failures a_tokens a_lengths a_values a_there a_fairness a_effects a_goes a_guards a_enabled a_depth a_ways a_alive cm a_traced a_failed st := by
  have hN := s_N_le hz
  intro n
  induction n with
  | zero => intro s _ h; omega
  | succ n ih =>
    intro s hs hn st cm hb
    refine pk_le (s_N z) s (fun h => ?_) (fun h => ?_)
    · have es : s = s_N z := by omega
      subst es
      have hW : ∀ x, aS cm 0 x ↔ (q_Rd z a_there a_effects tk ln x ∧ (x < s_N z ∧ s_E z tk ln 18 x = 0)) := fun x => by
        rw [hb x]; exact ⟨fun q => ⟨q.2.1, q.1, q.2.2⟩, fun q => ⟨q.2.1, q.1, q.2.2⟩⟩
      refine nm_e (nm_e ⟨s_N z + 2, y_fails_95 (W := fun x => q_Rd z a_there a_effects tk ln x ∧ (x < s_N z ∧ s_E z tk ln 18 x = 0)) hz hsz hL hT hw17 hfr hD.1 hW (fun x hx => hx.2.1) (fun fl st fd ways al h => H fl st fd ways al cm h) (s_N z + 2) (fun x => q_Rd z a_there a_effects tk ln x ∧ (x < s_N z ∧ s_E z tk ln 18 x = 0)) (by have := cn_le (fun x => q_Rd z a_there a_effects tk ln x ∧ (x < s_N z ∧ s_E z tk ln 18 x = 0)) (s_N z); omega) (fun _ q => q) (fun C _ h => h) a_ways _ (fun x => ?_)⟩)
      rw [← hW x]
      exact aS_2
    · have no : ∀ st' : Nat → Int32, ¬ (q_Rd z a_there a_effects tk ln s ∧ s_E z tk ln 18 s = 0) → wY_fails_30 post (nI (s_N z)) n (nI (s + 1)) f_known f_traceEnd f_failures a_tokens a_lengths a_values a_there a_fairness a_effects a_goes a_guards a_enabled a_depth a_ways a_alive cm a_traced a_failed st' := by
        intro st' hne
        refine ih (s + 1) (by omega) (by omega) st' cm fun t => ?_
        rw [hb t]
        constructor
        · rintro ⟨q, r⟩; exact ⟨by omega, r⟩
        · rintro ⟨q, r⟩
          by_cases c : t = s
          · rw [c] at r; exact absurd r hne
          · exact ⟨by omega, r⟩
      refine ⟨vp_in_nI (by omega) (by omega), ?_⟩
      rw [nI_clamp (by omega)]
      refine if2 (d := q_Rd z a_there a_effects tk ln s) (d_OK_neg hN hD.2 h) (fun hr => nm_r (nI_1 s) (no st fun q => hr q.1)) (fun hr => ?_)
      refine y_work (l := 18) hz hsz (by omega) hL hT (by omega) hw (fun st' => br_c (fun e => y_put_calm (i := 0) (by omega) (by omega) fun cm' _ hcm' => nm_r (nI_1 s) (ih (s + 1) (by omega) (by omega) st' cm' fun t => ?_)) (fun e => nm_r (nI_1 s) (no st' fun q => e q.2)))
      rw [hcm' t, hb t]
      constructor
      · rintro (⟨q, r⟩ | q)
        · exact ⟨by omega, r⟩
        · rw [q]; exact ⟨by omega, hr, e⟩
      · rintro ⟨q, r⟩
        by_cases c : t = s
        · exact Or.inr c
        · exact Or.inl ⟨by omega, r⟩
end Yg
end
section
/-! the relation -/
/-- X's state holds the specification; te, tr: the trace, fl, fd: the failing states -/
def r_X (z : Nat → Nat) (th fr hw : Nat → Int32) (tk : Nat → Nat → Nat) (ln : Nat → Nat) (te : Int32) (tr : Nat → Int32) (fl : Nat) (fd : Nat → Int32) (u : SX) : Prop :=
  match u with
  | (f_made, f_states, f_initial, f_reached, f_deepest, f_options0, f_options1, f_opened, f_depthOf, f_numbered, f_waiting, f_fairLow, f_fairHigh, f_partLow, f_partHigh, f_withLow, f_withHigh, f_traced, f_failures, f_backLow, f_backHigh, a_sizes, a_list, a_length, a_there, a_how, a_fairness, a_stack, a_val, a_goes, a_steps, a_guards, a_enabled, a_depth, a_number, a_low, a_onStack, a_open, a_path, a_ahead, a_todo, a_shown, a_failed) => a_there = th ∧ a_fairness = fr ∧ a_how = hw ∧ (∀ v, v < 3 → a_sizes v = nI (z v)) ∧ r_L tk ln a_list a_length ∧
      (f_made = 0 ∨ (f_made = 1 ∧ x_D z th hw tk ln f_states f_initial f_reached f_deepest a_goes a_steps a_guards a_enabled a_depth)) ∧
      f_traced = te ∧ (∀ k, k < 125 → nI k ≤ te → a_shown k = tr k) ∧ f_failures = nI fl ∧ (∀ k, k < fl → a_failed k = fd k)
def r_Y (z : Nat → Nat) (th fr hw : Nat → Int32) (tk : Nat → Nat → Nat) (ln : Nat → Nat) (te : Int32) (tr : Nat → Int32) (fl : Nat) (fd : Nat → Int32) (v : SY) : Prop :=
  match v with
  | (f_known, f_traceEnd, f_failures, a_tokens, a_lengths, a_values, a_there, a_fairness, a_effects, a_goes, a_guards, a_enabled, a_depth, a_ways, a_alive, a_calm, a_traced, a_failed, a_stack) => a_there = th ∧ a_fairness = fr ∧ a_effects = hw ∧ (∀ v, v < 3 → a_values v = nI (z v)) ∧ r_M tk ln a_tokens a_lengths ∧
      (f_known = 0 ∨ (f_known = 1 ∧ y_D z th hw tk ln a_goes a_guards a_enabled a_depth)) ∧
      f_traceEnd = te ∧ (∀ k, k < 125 → nI k ≤ te → a_traced k = tr k) ∧ f_failures = nI fl ∧ (∀ k, k < fl → a_failed k = fd k)
/-- the relation at the head of a turn whose first cell is k -/
def i_Rel (k : Nat) (u : SX) (v : SY) : Prop :=
  ∃ (z : Nat → Nat) (th fr hw : Nat → Int32) (tk : Nat → Nat → Nat) (ln : Nat → Nat) (te : Int32) (tr : Nat → Int32) (fl : Nat) (fd : Nat → Int32),
    r_W z th fr hw tk ln ∧ (te = -1 ∨ ∃ e, e < 125 ∧ te = nI e) ∧ fl ≤ 125 ∧ r_X z th fr hw tk ln te tr fl fd u ∧ r_Y z th fr hw tk ln te tr fl fd v
theorem i_up {k : Nat} {u : SX} {v : SY} (h : i_Rel k u v) : i_Rel (k + 4) u v := h
/-! the tables depend on the lists below 17 alone -/
section Cg
variable {z : Nat → Nat} {th hw : Nat → Int32} {tk tk' : Nat → Nat → Nat} {ln ln' : Nat → Nat}
theorem g_E (h : ∀ l, l < 17 → tk l = tk' l ∧ ln l = ln' l) {l s : Nat} (hl : l < 17) : s_E z tk ln l s = s_E z tk' ln' l s := by
  unfold s_E; rw [(h l hl).1, (h l hl).2]
theorem g_g (h : ∀ l, l < 17 → tk l = tk' l ∧ ln l = ln' l) {a s : Nat} (ha : a < 4) : s_g z th tk ln a s ↔ s_g z th tk' ln' a s := by
  unfold s_g; rw [g_E h (by omega)]
theorem g_go (h : ∀ l, l < 17 → tk l = tk' l ∧ ln l = ln' l) {a s t : Nat} (ha : a < 4) : s_go z th hw tk ln a s t ↔ s_go z th hw tk' ln' a s t := by
  have hd : ∀ v, v < 3 → s_d z hw tk ln a v s = s_d z hw tk' ln' a v s := fun v hv => by unfold s_d; rw [g_E h (by omega)]
  constructor
  · rintro ⟨a1, a2, a3, a4⟩
    exact ⟨a1, a2, (g_g h ha).mp a3, fun v hv => by rw [← hd v hv]; exact a4 v hv⟩
  · rintro ⟨a1, a2, a3, a4⟩
    exact ⟨a1, a2, (g_g h ha).mpr a3, fun v hv => by rw [hd v hv]; exact a4 v hv⟩
theorem g_en (h : ∀ l, l < 17 → tk l = tk' l ∧ ln l = ln' l) {a s : Nat} (ha : a < 4) : s_en z th hw tk ln a s ↔ s_en z th hw tk' ln' a s :=
  ⟨fun ⟨t, a1, a2⟩ => ⟨t, a1, (g_go h ha).mp a2⟩, fun ⟨t, a1, a2⟩ => ⟨t, a1, (g_go h ha).mpr a2⟩⟩
theorem g_st (h : ∀ l, l < 17 → tk l = tk' l ∧ ln l = ln' l) : s_st z th hw tk ln = s_st z th hw tk' ln' := by
  funext s t
  exact propext ⟨fun ⟨a1, a, ha, a2⟩ => ⟨a1, a, ha, (g_go h ha).mp a2⟩, fun ⟨a1, a, ha, a2⟩ => ⟨a1, a, ha, (g_go h ha).mpr a2⟩⟩
theorem g_i (h : ∀ l, l < 17 → tk l = tk' l ∧ ln l = ln' l) : s_i z tk ln = s_i z tk' ln' := by
  funext s
  unfold s_i; rw [g_E h (by omega)]
theorem x_D_c (h : ∀ l, l < 17 → tk l = tk' l ∧ ln l = ln' l) {f1 f2 f3 f4 : Int32} {goes steps : Nat → Int64} {guards enabled depth : Nat → Int32} (hD : x_D z th hw tk ln f1 f2 f3 f4 goes steps guards enabled depth) : x_D z th hw tk' ln' f1 f2 f3 f4 goes steps guards enabled depth := by
  obtain ⟨h1, h2, h3, h4, h5, h6⟩ := hD
  rw [g_st h, g_i h] at h3 h5
  rw [g_i h] at h4
  refine ⟨h1, fun s hs => ?_, h3, h4, h5, h6⟩
  obtain ⟨a1, a2, a3, a4⟩ := h2 s hs
  refine ⟨fun b hb t => (a1 b hb t).trans (g_go h hb), fun t => ?_, mb_c a3 fun i hi => g_g h hi, mb_c a4 fun i hi => g_en h hi⟩
  rw [a2 t, g_st h]
theorem y_D_c (h : ∀ l, l < 17 → tk l = tk' l ∧ ln l = ln' l) {goes : Nat → Int64} {guards enabled depth : Nat → Int32} (hD : y_D z th hw tk ln goes guards enabled depth) : y_D z th hw tk' ln' goes guards enabled depth := by
  obtain ⟨h1, h2⟩ := hD
  unfold q_dOK at h2
  rw [g_st h, g_i h] at h2
  refine ⟨fun s hs => ?_, h2⟩
  obtain ⟨a1, a3, a4⟩ := h1 s hs
  exact ⟨fun b hb t => (a1 b hb t).trans (g_go h hb), mb_c a3 fun i hi => g_g h hi, mb_c a4 fun i hi => g_en h hi⟩
end Cg
/-! taking the draft -/
/-- the draft emptied -/
def d_0 (ln : Nat → Nat) : Nat → Nat := fun l => if l = 18 then 0 else ln l
/-- the draft moved to a list -/
def d_tk (tk : Nat → Nat → Nat) (to : Nat) : Nat → Nat → Nat := fun l => if l = to then tk 18 else tk l
def d_ln (ln : Nat → Nat) (to : Nat) : Nat → Nat := fun l => if l = 18 then 0 else if l = to then ln 18 else ln l
/-- whether the draft may be taken -/
def d_ok (tk : Nat → Nat → Nat) (ln : Nat → Nat) (e : Bool) : Prop := (ln 18 = 0 ∧ e = true) ∨ e_wh (tk 18) (ln 18)
section Tk
variable {f_made f_states f_initial f_reached f_deepest f_options0 f_options1 f_opened f_depthOf f_numbered f_waiting f_traced f_failures : Int32} {f_fairLow f_fairHigh f_partLow f_partHigh f_withLow f_withHigh f_backLow f_backHigh : Int64} {a_sizes a_list a_length a_there a_how a_fairness a_stack a_val a_guards a_enabled a_depth a_number a_low a_onStack a_open a_path a_ahead a_shown a_failed : Nat → Int32} {a_goes a_steps a_todo : Nat → Int64}
variable {z : Nat → Nat} {tk : Nat → Nat → Nat} {ln : Nat → Nat}
theorem nbb : vp_nar .byte 0 = 0 := by rw [vp_nar_byte]; decide
theorem n8 : ∀ k, k < 128 → (nI k).toInt8.toInt32 = nI k := by decide +kernel
theorem n8v {k : Nat} (h : k < 128) : vp_nar .byte ((nI k).toInt8.toInt32) = nI k := by rw [pk_vb, n8 k h]
theorem n8w {k : Nat} (h : k < 128) : vp_nar .byte (nI k) = nI k := by rw [vp_nar_byte, n8 k h]
theorem r_L_0 (hL : r_L tk ln a_list a_length) : r_L tk (d_0 ln) a_list (upd a_length 18 0) := by
  intro l hl
  unfold d_0
  by_cases c : l = 18
  · rw [c, pk_us, if_pos rfl]; exact ⟨rfl, fun k hk => absurd hk (Nat.not_lt_zero _)⟩
  · rw [pk_un c, if_neg c]; exact hL l hl
theorem x_move {post : SX → Prop} {to : Nat} (hto : to < 18) (hL : r_L tk ln a_list a_length) (hT : r_Tk tk ln)
    (H : ∀ lst len : Nat → Int32, r_L (d_tk tk to) (d_ln ln to) lst len → post (f_made, f_states, f_initial, f_reached, f_deepest, f_options0, f_options1, f_opened, f_depthOf, f_numbered, f_waiting, f_fairLow, f_fairHigh, f_partLow, f_partHigh, f_withLow, f_withHigh, f_traced, f_failures, f_backLow, f_backHigh, a_sizes, lst, len, a_there, a_how, a_fairness, a_stack, a_val, a_goes, a_steps, a_guards, a_enabled, a_depth, a_number, a_low, a_onStack, a_open, a_path, a_ahead, a_todo, a_shown, a_failed)) : wpX_move post (f_made, f_states, f_initial, f_reached, f_deepest, f_options0, f_options1, f_opened, f_depthOf, f_numbered, f_waiting, f_fairLow, f_fairHigh, f_partLow, f_partHigh, f_withLow, f_withHigh, f_traced, f_failures, f_backLow, f_backHigh, a_sizes, a_list, a_length, a_there, a_how, a_fairness, a_stack, a_val, a_goes, a_steps, a_guards, a_enabled, a_depth, a_number, a_low, a_onStack, a_open, a_path, a_ahead, a_todo, a_shown, a_failed) (nI 18) (nI to) := by
  have h12 := hT 18 (by omega)
  -- the tokens are ints between 0 and 28 where they count; others are bytes too, but that isn't asked
  have key : ∀ n k, k ≤ 12 → 12 - k < n → ∀ lst : Nat → Int32, (∀ j, ¬ (12 * to ≤ j ∧ j < 12 * to + 12) → lst j = a_list j) → (∀ j, j < k → j < ln 18 → lst (12 * to + j) = nI (tk 18 j)) → wX_move_2 post (nI 18) (nI to) f_made f_states f_initial f_reached f_deepest f_options0 f_options1 f_opened f_depthOf f_numbered f_waiting f_fairLow f_fairHigh f_partLow f_partHigh f_withLow f_withHigh f_traced f_failures f_backLow f_backHigh n (nI k) a_sizes lst a_length a_there a_how a_fairness a_stack a_val a_goes a_steps a_guards a_enabled a_depth a_number a_low a_onStack a_open a_path a_ahead a_todo a_shown a_failed := by
    intro n
    induction n with
    | zero => intro k _ h; omega
    | succ n ih =>
      intro k hk hn lst h1 h2
      refine pk_le 12 k (fun h => ?_) (fun h => ?_)
      · have v18 : vp_in (nI 18) 19 := vp_in_nI (by omega) (by omega)
        have vto : vp_in (nI to) 19 := vp_in_nI (by omega) (by omega)
        have hl18 := (hL 18 (by omega)).1
        refine ⟨v18, vto, nm_r (e' := upd a_length to (nI (ln 18))) (by rw [nI_clamp (by omega), nI_clamp (by omega), hl18, n8w (by have := h12.1; omega)]) ⟨v18, nm_r (e' := upd (upd a_length to (nI (ln 18))) 18 0) (by rw [nI_clamp (by omega), nbb]) (H _ _ fun l hl => ?_)⟩⟩
        unfold d_tk d_ln
        by_cases c : l = 18
        · rw [c, pk_us, if_pos rfl]; exact ⟨rfl, fun k hk => absurd hk (Nat.not_lt_zero _)⟩
        · rw [pk_un c, if_neg c]
          by_cases c2 : l = to
          · rw [c2, pk_us, if_pos rfl, if_pos rfl]
            exact ⟨rfl, fun j hj => h2 j (by have := h12.1; omega) hj⟩
          · rw [pk_un c2, if_neg c2, if_neg c2]
            obtain ⟨q1, q2⟩ := hL l hl
            have := (hT l hl).1
            exact ⟨q1, fun j hj => by rw [h1 _ (by omega)]; exact q2 j hj⟩
      · have e18 : (12 * nI 18) + nI k = nI (216 + k) := by
          rw [show (12 : Int32) * nI 18 = nI (12 * 18) from pk_mul 12 18, nI_add]
        have eto : (12 * nI to) + nI k = nI (12 * to + k) := by
          rw [show (12 : Int32) * nI to = nI (12 * to) from pk_mul 12 to, nI_add]
        refine ⟨by rw [e18]; exact vp_in_nI (by omega) (by omega), by rw [eto]; exact vp_in_nI (by omega) (by omega), nm_r (e' := upd lst (12 * to + k) (vp_nar .byte (lst (216 + k)))) (by rw [e18, eto, nI_clamp (by omega), nI_clamp (by omega)]) (nm_r (nI_1 k) (ih (k + 1) (by omega) (by omega) _ (fun j hj => ?_) (fun j hj hj2 => ?_)))⟩
        · rw [pk_un (by omega)]; exact h1 j hj
        · by_cases c : j = k
          · rw [c, pk_us, h1 _ (by omega), show 216 + k = 12 * 18 + k by omega, (hL 18 (by omega)).2 k (by omega)]
            have := (h12.2 k (by omega)).1
            exact n8w (by omega)
          · rw [pk_un (by omega)]; exact h2 j (by omega) hj2
  exact ⟨13, key 13 0 (by omega) (by omega) a_list (fun _ _ => rfl) (fun j hj => absurd hj (Nat.not_lt_zero _))⟩
/-- take: p1 is 1 if an empty draft may be taken -/
theorem x_take {post : Int32 → SX → Prop} {to : Nat} {e : Bool} (hto : to < 18) (hL : r_L tk ln a_list a_length) (hT : r_Tk tk ln)
    (H1 : d_ok tk ln e → ∀ lst len : Nat → Int32, r_L (d_tk tk to) (d_ln ln to) lst len → post 1 (f_made, f_states, f_initial, f_reached, f_deepest, f_options0, f_options1, f_opened, f_depthOf, f_numbered, f_waiting, f_fairLow, f_fairHigh, f_partLow, f_partHigh, f_withLow, f_withHigh, f_traced, f_failures, f_backLow, f_backHigh, a_sizes, lst, len, a_there, a_how, a_fairness, a_stack, a_val, a_goes, a_steps, a_guards, a_enabled, a_depth, a_number, a_low, a_onStack, a_open, a_path, a_ahead, a_todo, a_shown, a_failed)) (H0 : ¬ d_ok tk ln e → ∀ len : Nat → Int32, r_L tk (d_0 ln) a_list len → post 0 (f_made, f_states, f_initial, f_reached, f_deepest, f_options0, f_options1, f_opened, f_depthOf, f_numbered, f_waiting, f_fairLow, f_fairHigh, f_partLow, f_partHigh, f_withLow, f_withHigh, f_traced, f_failures, f_backLow, f_backHigh, a_sizes, a_list, len, a_there, a_how, a_fairness, a_stack, a_val, a_goes, a_steps, a_guards, a_enabled, a_depth, a_number, a_low, a_onStack, a_open, a_path, a_ahead, a_todo, a_shown, a_failed)) :
    wpX_take post (f_made, f_states, f_initial, f_reached, f_deepest, f_options0, f_options1, f_opened, f_depthOf, f_numbered, f_waiting, f_fairLow, f_fairHigh, f_partLow, f_partHigh, f_withLow, f_withHigh, f_traced, f_failures, f_backLow, f_backHigh, a_sizes, a_list, a_length, a_there, a_how, a_fairness, a_stack, a_val, a_goes, a_steps, a_guards, a_enabled, a_depth, a_number, a_low, a_onStack, a_open, a_path, a_ahead, a_todo, a_shown, a_failed) (nI to) (if e = true then 1 else 0) := by
  have h12 := (hT 18 (by omega)).1
  have hl18 := (hL 18 (by omega)).1
  have w20 : ∀ r : Int32, ((r = 1 ∧ d_ok tk ln e) ∨ (r = 0 ∧ ¬ d_ok tk ln e)) → wX_take_20 post (nI to) r f_made f_states f_initial f_reached f_deepest f_options0 f_options1 f_opened f_depthOf f_numbered f_waiting f_fairLow f_fairHigh f_partLow f_partHigh f_withLow f_withHigh f_traced f_failures f_backLow f_backHigh a_sizes a_list a_length a_there a_how a_fairness a_stack a_val a_goes a_steps a_guards a_enabled a_depth a_number a_low a_onStack a_open a_path a_ahead a_todo a_shown a_failed := by
    intro r hr
    unfold wX_take_20
    rcases hr with ⟨rfl, q⟩ | ⟨rfl, q⟩
    · refine br_f (by decide) (x_move hto hL hT fun lst len h => nm_r (e' := len) ?_ ⟨rfl, H1 q lst len h⟩)
      rw [nbb]
      funext j
      by_cases c : j = 18
      · rw [c, pk_us]
        have := (h 18 (by omega)).1
        unfold d_ln at this
        rw [if_pos rfl] at this
        rw [this]; rfl
      · rw [pk_un c]
    · exact br_t rfl (nm_r (e' := upd a_length 18 0) (by rw [nbb]) ⟨rfl, H0 q _ (r_L_0 hL)⟩)
  unfold wpX_take
  dsimp only
  rw [hl18]
  refine pk_eq (ln 18) 0 (fun h => w20 _ ?_) (fun h => x_whole (l := 18) (by omega) hL hT ?_)
  · have hw : ¬ e_wh (tk 18) (ln 18) := fun q => by have := e_wh_0 q; omega
    cases e with
    | true => exact Or.inl ⟨rfl, Or.inl ⟨h, rfl⟩⟩
    | false => exact Or.inr ⟨rfl, fun q => q.elim (fun q => Bool.noConfusion q.2) hw⟩
  · by_cases q : e_wh (tk 18) (ln 18)
    · rw [e_w01_t q]; exact w20 1 (Or.inl ⟨rfl, Or.inr q⟩)
    · rw [e_w01_f q]; exact w20 0 (Or.inr ⟨rfl, fun r => r.elim (fun r => h r.1) q⟩)
end Tk
section Tl
variable {f_known f_traceEnd f_failures : Int32} {a_tokens a_lengths a_values a_there a_fairness a_effects a_guards a_enabled a_depth a_traced a_failed a_stack : Nat → Int32} {a_goes a_ways a_alive a_calm : Nat → Int64}
variable {z : Nat → Nat} {tk : Nat → Nat → Nat} {ln : Nat → Nat}
theorem r_M_0 (hL : r_M tk ln a_tokens a_lengths) : r_M tk (d_0 ln) a_tokens (upd a_lengths 0 0) := by
  intro l hl
  unfold d_0
  by_cases c : l = 18
  · rw [c, if_pos rfl]; exact ⟨pk_us, fun k hk => absurd hk (Nat.not_lt_zero _)⟩
  · rw [pk_un (y_l_0 l (by omega)), if_neg c]; exact hL l hl
theorem y_take0 {post : Int32 → SY → Prop} {x : Int32} (hL : r_M tk ln a_tokens a_lengths) (H : ∀ len : Nat → Int32, r_M tk (d_0 ln) a_tokens len → post 0 (f_known, f_traceEnd, f_failures, a_tokens, len, a_values, a_there, a_fairness, a_effects, a_goes, a_guards, a_enabled, a_depth, a_ways, a_alive, a_calm, a_traced, a_failed, a_stack)) : wpY_take post (f_known, f_traceEnd, f_failures, a_tokens, a_lengths, a_values, a_there, a_fairness, a_effects, a_goes, a_guards, a_enabled, a_depth, a_ways, a_alive, a_calm, a_traced, a_failed, a_stack) 0 x :=
  br_t rfl (nm_e ⟨rfl, H _ (r_M_0 hL)⟩)
theorem y_take1 {post : Int32 → SY → Prop} {to : Nat} (hto : to < 18) (hL : r_M tk ln a_tokens a_lengths) (hT : r_Tk tk ln)
    (H : ∀ tks len : Nat → Int32, r_M (d_tk tk to) (d_ln ln to) tks len → post 1 (0, f_traceEnd, f_failures, tks, len, a_values, a_there, a_fairness, a_effects, a_goes, a_guards, a_enabled, a_depth, a_ways, a_alive, a_calm, a_traced, a_failed, a_stack)) : wpY_take post (f_known, f_traceEnd, f_failures, a_tokens, a_lengths, a_values, a_there, a_fairness, a_effects, a_goes, a_guards, a_enabled, a_depth, a_ways, a_alive, a_calm, a_traced, a_failed, a_stack) 1 (nI (y_l to)) := by
  have h12 := (hT 18 (by omega)).1
  have hy := y_l_lt (l := to) (by omega)
  have hy0 := y_l_0 to hto
  have hl18 : a_lengths 0 = nI (ln 18) := (hL 18 (by omega)).1
  have ht18 : ∀ k, k < ln 18 → a_tokens k = nI (tk 18 k) := fun k hk => by
    have := (hL 18 (by omega)).2 k hk
    rw [show 12 * y_l 18 + k = k by rw [show y_l 18 = 0 from rfl]; omega] at this
    exact this
  have key : ∀ n k, k ≤ ln 18 → ln 18 - k < n → ∀ tks : Nat → Int32, (∀ j, ¬ (12 * y_l to ≤ j ∧ j < 12 * y_l to + 12) → tks j = a_tokens j) → (∀ j, j < k → tks (12 * y_l to + j) = nI (tk 18 j)) → wY_take_6 post 1 (nI (y_l to)) f_known f_traceEnd f_failures n (nI k) tks a_lengths a_values a_there a_fairness a_effects a_goes a_guards a_enabled a_depth a_ways a_alive a_calm a_traced a_failed a_stack := by
    intro n
    induction n with
    | zero => intro k _ h; omega
    | succ n ih =>
      intro k hk hn tks h1 h2
      show ((a_lengths 0 ≤ nI k → _) ∧ (¬ a_lengths 0 ≤ nI k → _))
      rw [hl18]
      refine pk_le (ln 18) k (fun h => ?_) (fun h => ?_)
      · refine ⟨vp_in_nI hy (by omega), nm_r (e' := upd a_lengths (y_l to) (nI (ln 18))) (by rw [nI_clamp (by omega)]) (nm_e ⟨rfl, H _ _ fun l hl => ?_⟩)⟩
        unfold d_tk d_ln
        by_cases c : l = 18
        · rw [c, if_pos rfl]; exact ⟨pk_us, fun k hk => absurd hk (Nat.not_lt_zero _)⟩
        · rw [pk_un (y_l_0 l (by omega)), if_neg c]
          by_cases c2 : l = to
          · rw [c2, pk_us, if_pos rfl, if_pos rfl]
            exact ⟨rfl, fun j hj => h2 j (by omega)⟩
          · have hne : y_l l ≠ y_l to := fun e => c2 (y_l_inj l hl to (by omega) e)
            rw [pk_un hne, if_neg c2, if_neg c2]
            obtain ⟨q1, q2⟩ := hL l hl
            have := (hT l hl).1
            exact ⟨q1, fun j hj => by rw [h1 _ (by omega)]; exact q2 j hj⟩
      · have eto : (12 * nI (y_l to)) + nI k = nI (12 * y_l to + k) := by
          rw [show (12 : Int32) * nI (y_l to) = nI (12 * y_l to) from pk_mul 12 _, nI_add]
        refine ⟨vp_in_nI (by omega) (by omega), by rw [eto]; exact vp_in_nI (by omega) (by omega), nm_r (e' := upd tks (12 * y_l to + k) (nI (tk 18 k))) (by rw [eto, nI_clamp (by omega), nI_clamp (by omega), h1 k (by omega), ht18 k h]) (nm_r (nI_1 k) (ih (k + 1) (by omega) (by omega) _ (fun j hj => ?_) (fun j hj => ?_)))⟩
        · rw [pk_un (by omega)]; exact h1 j hj
        · by_cases c : j = k
          · rw [c, pk_us]
          · rw [pk_un (by omega)]; exact h2 j (by omega)
  exact br_f (by decide) ⟨ln 18 + 1, key _ 0 (Nat.zero_le _) (by omega) a_tokens (fun _ _ => rfl) (fun j hj => absurd hj (Nat.not_lt_zero _))⟩
end Tl
end
section
/-! the specification's methods, each side -/
section Wf
variable {z : Nat → Nat} {th fr hw : Nat → Int32} {tk : Nat → Nat → Nat} {ln : Nat → Nat} {to : Nat}
theorem d_00 : d_0 (d_0 ln) = d_0 ln := by
  funext l; unfold d_0; by_cases c : l = 18
  · rw [if_pos c, if_pos c]
  · rw [if_neg c]
theorem d_0l : d_0 (d_ln ln to) = d_ln ln to := by
  funext l; unfold d_0 d_ln; by_cases c : l = 18
  · rw [if_pos c, if_pos c]
  · rw [if_neg c]
theorem r_W_0 (h : r_W z th fr hw tk ln) : r_W z th fr hw tk (d_0 ln) := by
  obtain ⟨h1, h2, h3, h4, h5, h6, h7⟩ := h
  have e : ∀ l, l < 18 → d_0 ln l = ln l := fun l hl => if_neg (by omega)
  refine ⟨h1, h2, h3, fun l hl => ?_, fun l hl => by rw [e l hl]; exact h5 l hl, fun a ha q => by rw [e a (by omega)]; exact h6 a ha q, fun a v ha hv q => by rw [e _ (by omega)]; exact h7 a v ha hv q⟩
  unfold d_0
  by_cases c : l = 18
  · rw [if_pos c]; exact ⟨by omega, fun k hk => absurd hk (Nat.not_lt_zero _)⟩
  · rw [if_neg c]; exact h4 l hl
theorem r_W_mv {th' fr' hw' : Nat → Int32} (h : r_W z th fr hw tk ln) (hto : to < 18) (ok : ln 18 = 0 ∨ e_wh (tk 18) (ln 18)) (f1 : ∀ a, a < 4 → fr' a = 0 ∨ fr' a = 1 ∨ fr' a = 2) (f2 : ∀ i, i < 12 → hw' i = 0 ∨ hw' i = 1 ∨ hw' i = 2)
    (f3 : ∀ a, a < 4 → th' a ≠ 0 → (a ≠ to ∧ th a ≠ 0) ∨ (a = to ∧ e_wh (tk 18) (ln 18))) (f4 : ∀ a v, a < 4 → v < 3 → hw' (3 * a + v) = 1 → (4 + 3 * a + v ≠ to ∧ hw (3 * a + v) = 1) ∨ (4 + 3 * a + v = to ∧ e_wh (tk 18) (ln 18))) : r_W z th' fr' hw' (d_tk tk to) (d_ln ln to) := by
  obtain ⟨h1, h2, h3, h4, h5, h6, h7⟩ := h
  have et : d_tk tk to to = tk 18 := if_pos rfl
  have el : d_ln ln to to = ln 18 := by unfold d_ln; rw [if_neg (by omega), if_pos rfl]
  have nt : ∀ l, l ≠ to → d_tk tk to l = tk l := fun l hl => if_neg hl
  have nl : ∀ l, l < 18 → l ≠ to → d_ln ln to l = ln l := fun l h18 hl => by unfold d_ln; rw [if_neg (by omega), if_neg hl]
  refine ⟨h1, f1, f2, fun l hl => ?_, fun l hl => ?_, fun a ha q => ?_, fun a v ha hv q => ?_⟩
  · by_cases c : l = 18
    · rw [c]
      have : d_ln ln to 18 = 0 := if_pos rfl
      rw [this]; exact ⟨by omega, fun k hk => absurd hk (Nat.not_lt_zero _)⟩
    · by_cases c2 : l = to
      · rw [c2, et, el]; exact h4 18 (by omega)
      · rw [nt l c2, nl l (by omega) c2]; exact h4 l hl
  · by_cases c2 : l = to
    · rw [c2, et, el]; exact ok
    · rw [nt l c2, nl l hl c2]; exact h5 l hl
  · rcases f3 a ha q with ⟨q1, q2⟩ | ⟨q1, q2⟩
    · rw [nt a q1, nl a (by omega) q1]; exact h6 a ha q2
    · rw [q1, et, el]; exact q2
  · rcases f4 a v ha hv q with ⟨q1, q2⟩ | ⟨q1, q2⟩
    · rw [nt _ q1, nl _ (by omega) q1]; exact h7 a v ha hv q2
    · rw [q1, et, el]; exact q2
end Wf
def h_0 (h : Nat → Int32) (a : Nat) : Nat → Int32 := upd (upd (upd h (3 * a) 0) (3 * a + 1) 0) (3 * a + 2) 0
section Sx
variable {f_made f_states f_initial f_reached f_deepest f_options0 f_options1 f_opened f_depthOf f_numbered f_waiting f_traced f_failures : Int32} {f_fairLow f_fairHigh f_partLow f_partHigh f_withLow f_withHigh f_backLow f_backHigh : Int64} {a_sizes a_list a_length a_there a_how a_fairness a_stack a_val a_guards a_enabled a_depth a_number a_low a_onStack a_open a_path a_ahead a_shown a_failed : Nat → Int32} {a_goes a_steps a_todo : Nat → Int64}
variable {z : Nat → Nat} {tk : Nat → Nat → Nat} {ln : Nat → Nat}
theorem x_action {post : Int32 → SX → Prop} {p : Int32} (hL : r_L tk ln a_list a_length) (hT : r_Tk tk ln)
    (H0 : ¬ (vp_in p 4 ∧ e_wh (tk 18) (ln 18)) → ∀ len : Nat → Int32, r_L tk (d_0 ln) a_list len → post 0 (f_made, f_states, f_initial, f_reached, f_deepest, f_options0, f_options1, f_opened, f_depthOf, f_numbered, f_waiting, f_fairLow, f_fairHigh, f_partLow, f_partHigh, f_withLow, f_withHigh, f_traced, f_failures, f_backLow, f_backHigh, a_sizes, a_list, len, a_there, a_how, a_fairness, a_stack, a_val, a_goes, a_steps, a_guards, a_enabled, a_depth, a_number, a_low, a_onStack, a_open, a_path, a_ahead, a_todo, a_shown, a_failed))
    (H1 : ∀ a, a < 4 → p = nI a → e_wh (tk 18) (ln 18) → ∀ lst len : Nat → Int32, r_L (d_tk tk a) (d_ln ln a) lst len → post 1 (0, f_states, f_initial, f_reached, f_deepest, f_options0, f_options1, f_opened, f_depthOf, f_numbered, f_waiting, f_fairLow, f_fairHigh, f_partLow, f_partHigh, f_withLow, f_withHigh, f_traced, f_failures, f_backLow, f_backHigh, a_sizes, lst, len, upd a_there a 1, h_0 a_how a, upd a_fairness a 0, a_stack, a_val, a_goes, a_steps, a_guards, a_enabled, a_depth, a_number, a_low, a_onStack, a_open, a_path, a_ahead, a_todo, a_shown, a_failed)) :
    wpX_action post (f_made, f_states, f_initial, f_reached, f_deepest, f_options0, f_options1, f_opened, f_depthOf, f_numbered, f_waiting, f_fairLow, f_fairHigh, f_partLow, f_partHigh, f_withLow, f_withHigh, f_traced, f_failures, f_backLow, f_backHigh, a_sizes, a_list, a_length, a_there, a_how, a_fairness, a_stack, a_val, a_goes, a_steps, a_guards, a_enabled, a_depth, a_number, a_low, a_onStack, a_open, a_path, a_ahead, a_todo, a_shown, a_failed) p := by
  unfold wpX_action
  dsimp only
  refine x_in (n := 4) (by omega) (fun hn => br_t rfl ?_) (fun a ha e => br_f (by decide) ?_)
  · unfold wX_action_21 wX_action_22
    exact nm_r (e' := upd a_length 18 0) (by rw [nbb]) (br_t rfl (H0 (fun q => hn q.1) _ (r_L_0 hL)))
  · subst e
    have vA : vp_in (nI a) 4 := vp_in_nI ha (by omega)
    have ca : (nI a).toNatClampNeg = a := nI_clamp (by omega)
    refine x_take (e := false) (by omega) hL hT (fun ok lst len h => br_f (by decide) ?_) (fun ok len h => br_t rfl ?_)
    · have hw : e_wh (tk 18) (ln 18) := ok.elim (fun q => Bool.noConfusion q.2) id
      have h2 := r_L_0 h
      rw [d_0l] at h2
      unfold wX_action_22
      have e1 : 3 * nI a + nI 0 = nI (3 * a) := i3 a 0
      refine nm_r (e' := upd len 18 0) (by rw [nbb]) (br_f (by decide) ⟨vA, nm_r (e' := upd a_there a 1) (by rw [ca, nb1]) ⟨vA, nm_r (e' := upd a_fairness a 0) (by rw [ca, nbb]) ⟨4, ?_⟩⟩⟩)
      refine br_f (nI_ge (a := 0) (b := 3) (by omega) (by omega)) ⟨by rw [show (0 : Int32) = nI 0 from rfl, i3]; exact vp_in_nI (by omega) (by omega), nm_r (e' := upd a_how (3 * a) 0) (by rw [show (0 : Int32) = nI 0 from rfl, i3, nI_clamp (by omega)]; exact congrArg (upd a_how (3 * a)) nbb) (nm_r (e' := nI 1) rfl ?_)⟩
      refine br_f (nI_ge (a := 1) (b := 3) (by omega) (by omega)) ⟨by rw [i3]; exact vp_in_nI (by omega) (by omega), nm_r (e' := upd (upd a_how (3 * a) 0) (3 * a + 1) 0) (by rw [i3, nI_clamp (by omega), nbb]) (nm_r (e' := nI 2) rfl ?_)⟩
      refine br_f (nI_ge (a := 2) (b := 3) (by omega) (by omega)) ⟨by rw [i3]; exact vp_in_nI (by omega) (by omega), nm_r (e' := upd (upd (upd a_how (3 * a) 0) (3 * a + 1) 0) (3 * a + 2) 0) (by rw [i3, nI_clamp (by omega), nbb]) (nm_r (e' := nI 3) rfl ?_)⟩
      exact br_t (nI_le (a := 3) (b := 3) (by omega) (by omega)) (H1 a ha rfl hw _ _ h2)
    · have h2 := r_L_0 h
      rw [d_00] at h2
      unfold wX_action_21 wX_action_22
      exact nm_r (e' := upd len 18 0) (by rw [nbb]) (br_t rfl (H0 (fun q => ok (Or.inr q.2)) _ h2))
/-- the kind of an effect -/
def h_k (n : Nat) (any : Int32) : Int32 := if n = 0 then (if any = 0 then 0 else 2) else 1
theorem x_effect {post : Int32 → SX → Prop} {p q any : Int32} (hL : r_L tk ln a_list a_length) (hT : r_Tk tk ln)
    (H0 : ¬ (∃ a v, a < 4 ∧ v < 3 ∧ p = nI a ∧ q = nI v ∧ a_there a ≠ 0 ∧ d_ok tk ln true) → ∀ len : Nat → Int32, r_L tk (d_0 ln) a_list len → post 0 (f_made, f_states, f_initial, f_reached, f_deepest, f_options0, f_options1, f_opened, f_depthOf, f_numbered, f_waiting, f_fairLow, f_fairHigh, f_partLow, f_partHigh, f_withLow, f_withHigh, f_traced, f_failures, f_backLow, f_backHigh, a_sizes, a_list, len, a_there, a_how, a_fairness, a_stack, a_val, a_goes, a_steps, a_guards, a_enabled, a_depth, a_number, a_low, a_onStack, a_open, a_path, a_ahead, a_todo, a_shown, a_failed))
    (H1 : ∀ a v, a < 4 → v < 3 → p = nI a → q = nI v → a_there a ≠ 0 → d_ok tk ln true → ∀ lst len : Nat → Int32, r_L (d_tk tk (4 + 3 * a + v)) (d_ln ln (4 + 3 * a + v)) lst len → post 1 (0, f_states, f_initial, f_reached, f_deepest, f_options0, f_options1, f_opened, f_depthOf, f_numbered, f_waiting, f_fairLow, f_fairHigh, f_partLow, f_partHigh, f_withLow, f_withHigh, f_traced, f_failures, f_backLow, f_backHigh, a_sizes, lst, len, a_there, upd a_how (3 * a + v) (h_k (ln 18) any), a_fairness, a_stack, a_val, a_goes, a_steps, a_guards, a_enabled, a_depth, a_number, a_low, a_onStack, a_open, a_path, a_ahead, a_todo, a_shown, a_failed)) :
    wpX_effect post (f_made, f_states, f_initial, f_reached, f_deepest, f_options0, f_options1, f_opened, f_depthOf, f_numbered, f_waiting, f_fairLow, f_fairHigh, f_partLow, f_partHigh, f_withLow, f_withHigh, f_traced, f_failures, f_backLow, f_backHigh, a_sizes, a_list, a_length, a_there, a_how, a_fairness, a_stack, a_val, a_goes, a_steps, a_guards, a_enabled, a_depth, a_number, a_low, a_onStack, a_open, a_path, a_ahead, a_todo, a_shown, a_failed) p q any := by
  have hl18 := (hL 18 (by omega)).1
  have h12 := (hT 18 (by omega)).1
  have w15 : ∀ x4 : Int32, ((x4 = 1 ∧ ln 18 = 0) ∨ (x4 = 0 ∧ ¬ ln 18 = 0)) → wX_effect_15 post p q any x4 f_made f_states f_initial f_reached f_deepest f_options0 f_options1 f_opened f_depthOf f_numbered f_waiting f_fairLow f_fairHigh f_partLow f_partHigh f_withLow f_withHigh f_traced f_failures f_backLow f_backHigh a_sizes a_list a_length a_there a_how a_fairness a_stack a_val a_goes a_steps a_guards a_enabled a_depth a_number a_low a_onStack a_open a_path a_ahead a_todo a_shown a_failed := by
    intro x4 hx
    have bad : ∀ len : Nat → Int32, r_L tk (d_0 ln) a_list (upd len 18 0) → ¬ (∃ a v, a < 4 ∧ v < 3 ∧ p = nI a ∧ q = nI v ∧ a_there a ≠ 0 ∧ d_ok tk ln true) → wX_effect_61 post p q any x4 f_made f_states f_initial f_reached f_deepest f_options0 f_options1 f_opened f_depthOf f_numbered f_waiting f_fairLow f_fairHigh f_partLow f_partHigh f_withLow f_withHigh f_traced f_failures f_backLow f_backHigh a_sizes a_list len a_there a_how a_fairness a_stack a_val a_goes a_steps a_guards a_enabled a_depth a_number a_low a_onStack a_open a_path a_ahead a_todo a_shown a_failed := by
      intro len h hn
      unfold wX_effect_61 wX_effect_62
      exact nm_r (e' := upd len 18 0) (by rw [nbb]) (br_t rfl (H0 hn _ h))
    unfold wX_effect_15
    refine x_in (n := 4) (by omega) (fun hn => br_t rfl (bad a_length (r_L_0 hL) fun ⟨a, v, ha, hv, e1, _⟩ => hn (by rw [e1]; exact vp_in_nI ha (by omega)))) (fun a ha e => br_f (by decide) ?_)
    subst e
    refine x_in (n := 3) (by omega) (fun hn => br_t rfl (bad a_length (r_L_0 hL) fun ⟨a, v, ha, hv, _, e1, _⟩ => hn (by rw [e1]; exact vp_in_nI hv (by omega)))) (fun v hv e => br_f (by decide) ⟨vp_in_nI ha (by omega), ?_⟩)
    subst e
    have au : ∀ a', a' < 4 → nI a = nI a' → a' = a := fun a' h' e => ((nI_eq (by omega) (by omega)).mp e).symm
    rw [nI_clamp (by omega)]
    refine br_c (fun e => bad a_length (r_L_0 hL) fun ⟨a', v', ha', hv', e1, _, e2, _⟩ => e2 (by rw [au a' ha' e1]; exact e)) (fun eth => ?_)
    have ei : (4 + 3 * nI a) + nI v = nI (4 + 3 * a + v) := by
      rw [show (3 : Int32) * nI a = nI (3 * a) from pk_mul 3 a, show (4 : Int32) + nI (3 * a) = nI (4 + 3 * a) from nI_add 4 (3 * a), nI_add]
    rw [ei]
    refine x_take (e := true) (by omega) hL hT (fun ok lst len h => br_f (by decide) ?_) (fun ok len h => br_t rfl (bad len ?_ fun ⟨_, _, _, _, _, _, _, e2⟩ => ok e2))
    · have h2 := r_L_0 h
      rw [d_0l] at h2
      have K := H1 a v ha hv rfl rfl eth ok lst _ h2
      unfold h_k at K
      have vi : vp_in (3 * nI a + nI v) 12 := by rw [i3]; exact vp_in_nI (by omega) (by omega)
      have ci : (3 * nI a + nI v).toNatClampNeg = 3 * a + v := by rw [i3, nI_clamp (by omega)]
      have m1 : vp_nar .byte ((1 : Int32).toInt8.toInt32) = 1 := n8v (k := 1) (by omega)
      have m0 : vp_nar .byte ((0 : Int32).toInt8.toInt32) = 0 := n8v (k := 0) (by omega)
      have m2 : vp_nar .byte ((2 : Int32).toInt8.toInt32) = 2 := n8v (k := 2) (by omega)
      unfold wX_effect_62
      refine nm_r (e' := upd len 18 0) (by rw [nbb]) (br_f (by decide) ?_)
      rcases hx with ⟨rfl, q⟩ | ⟨rfl, q⟩
      · rw [if_pos q] at K
        refine br_f (by decide) (br_c (fun e => ⟨vi, nm_r (e' := upd a_how (3 * a + v) 0) (by rw [ci, m0]) ?_⟩) (fun e => ⟨vi, nm_r (e' := upd a_how (3 * a + v) 2) (by rw [ci, m2]) ?_⟩))
        · rw [if_pos e] at K; exact K
        · rw [if_neg e] at K; exact K
      · rw [if_neg q] at K
        exact br_t rfl ⟨vi, nm_r (e' := upd a_how (3 * a + v) 1) (by rw [ci, m1]) K⟩
    · have h2 := r_L_0 h
      rw [d_00] at h2; exact h2
  unfold wpX_effect
  dsimp only
  rw [hl18]
  exact pk_eq (ln 18) 0 (fun e => w15 1 (Or.inl ⟨rfl, e⟩)) (fun e => w15 0 (Or.inr ⟨rfl, e⟩))
/-- tokens that are known -/
def t_ok (j : Nat) : Prop := j ≤ 28 ∧ (j < 20 → j ≤ 4 ∨ (10 ≤ j ∧ j ≤ 12))
def t_tk (tk : Nat → Nat → Nat) (ln : Nat → Nat) (j : Nat) : Nat → Nat → Nat := fun l => if l = 18 then (fun k => if k = ln 18 then j else tk 18 k) else tk l
def t_ln (ln : Nat → Nat) : Nat → Nat := fun l => if l = 18 then ln 18 + 1 else ln l
theorem x_token {post : Int32 → SX → Prop} {p : Int32} (hL : r_L tk ln a_list a_length) (hT : r_Tk tk ln)
    (H0 : ¬ (∃ j, j < 29 ∧ p = nI j ∧ t_ok j ∧ ln 18 < 12) → post (-1) (f_made, f_states, f_initial, f_reached, f_deepest, f_options0, f_options1, f_opened, f_depthOf, f_numbered, f_waiting, f_fairLow, f_fairHigh, f_partLow, f_partHigh, f_withLow, f_withHigh, f_traced, f_failures, f_backLow, f_backHigh, a_sizes, a_list, a_length, a_there, a_how, a_fairness, a_stack, a_val, a_goes, a_steps, a_guards, a_enabled, a_depth, a_number, a_low, a_onStack, a_open, a_path, a_ahead, a_todo, a_shown, a_failed))
    (H1 : ∀ j, j < 29 → p = nI j → t_ok j → ln 18 < 12 → ∀ lst len : Nat → Int32, r_L (t_tk tk ln j) (t_ln ln) lst len → post (nI (ln 18 + 1)) (f_made, f_states, f_initial, f_reached, f_deepest, f_options0, f_options1, f_opened, f_depthOf, f_numbered, f_waiting, f_fairLow, f_fairHigh, f_partLow, f_partHigh, f_withLow, f_withHigh, f_traced, f_failures, f_backLow, f_backHigh, a_sizes, lst, len, a_there, a_how, a_fairness, a_stack, a_val, a_goes, a_steps, a_guards, a_enabled, a_depth, a_number, a_low, a_onStack, a_open, a_path, a_ahead, a_todo, a_shown, a_failed)) :
    wpX_token post (f_made, f_states, f_initial, f_reached, f_deepest, f_options0, f_options1, f_opened, f_depthOf, f_numbered, f_waiting, f_fairLow, f_fairHigh, f_partLow, f_partHigh, f_withLow, f_withHigh, f_traced, f_failures, f_backLow, f_backHigh, a_sizes, a_list, a_length, a_there, a_how, a_fairness, a_stack, a_val, a_goes, a_steps, a_guards, a_enabled, a_depth, a_number, a_low, a_onStack, a_open, a_path, a_ahead, a_todo, a_shown, a_failed) p := by
  have hl18 := (hL 18 (by omega)).1
  have h12 := (hT 18 (by omega)).1
  have no : ¬ (∃ j, j < 29 ∧ p = nI j ∧ t_ok j) → wX_token_37 post p 0 f_made f_states f_initial f_reached f_deepest f_options0 f_options1 f_opened f_depthOf f_numbered f_waiting f_fairLow f_fairHigh f_partLow f_partHigh f_withLow f_withHigh f_traced f_failures f_backLow f_backHigh a_sizes a_list a_length a_there a_how a_fairness a_stack a_val a_goes a_steps a_guards a_enabled a_depth a_number a_low a_onStack a_open a_path a_ahead a_todo a_shown a_failed := by
    intro hn
    unfold wX_token_37
    exact br_t rfl (H0 fun ⟨j, h1, h2, h3, _⟩ => hn ⟨j, h1, h2, h3⟩)
  have yes : ∀ j, j < 29 → p = nI j → t_ok j → wX_token_37 post p 1 f_made f_states f_initial f_reached f_deepest f_options0 f_options1 f_opened f_depthOf f_numbered f_waiting f_fairLow f_fairHigh f_partLow f_partHigh f_withLow f_withHigh f_traced f_failures f_backLow f_backHigh a_sizes a_list a_length a_there a_how a_fairness a_stack a_val a_goes a_steps a_guards a_enabled a_depth a_number a_low a_onStack a_open a_path a_ahead a_todo a_shown a_failed := by
    intro j hj e hok
    subst e
    unfold wX_token_37
    rw [hl18]
    have jl : ∀ j', j' < 29 → nI j = nI j' → j' = j := fun j' h' e => ((nI_eq (by omega) (by omega)).mp e).symm
    refine br_f (by decide) (pk_eq (ln 18) 12 (fun e => H0 fun ⟨j', _, _, _, q⟩ => by omega) (fun e => ?_))
    have ei : 216 + nI (ln 18) = nI (216 + ln 18) := nI_add 216 (ln 18)
    refine ⟨by rw [ei]; exact vp_in_nI (by omega) (by omega), nm_r (e' := upd a_list (216 + ln 18) (nI j)) (by rw [ei, nI_clamp (by omega), n8v (by omega)]) (nm_r (e' := upd a_length 18 (nI (ln 18 + 1))) (by rw [nI_1, n8v (by omega)]) ?_)⟩
    rw [nI_1, n8 _ (by omega)]
    refine H1 j hj rfl hok (by omega) _ _ fun l hl => ?_
    unfold t_tk t_ln
    by_cases c : l = 18
    · rw [c, pk_us, if_pos rfl, if_pos rfl]
      refine ⟨rfl, fun k hk => ?_⟩
      by_cases c2 : k = ln 18
      · rw [c2, if_pos rfl, show 12 * 18 + ln 18 = 216 + ln 18 by omega, pk_us]
      · rw [if_neg c2, pk_un (by omega)]; exact (hL 18 (by omega)).2 k (by omega)
    · rw [pk_un c, if_neg c, if_neg c]
      obtain ⟨q1, q2⟩ := hL l hl
      have := (hT l hl).1
      exact ⟨q1, fun k hk => by rw [pk_un (by omega)]; exact q2 k hk⟩
  have w20 : (∀ j, j < 29 → p = nI j → t_ok j → 20 ≤ j) → wX_token_20 post p f_made f_states f_initial f_reached f_deepest f_options0 f_options1 f_opened f_depthOf f_numbered f_waiting f_fairLow f_fairHigh f_partLow f_partHigh f_withLow f_withHigh f_traced f_failures f_backLow f_backHigh a_sizes a_list a_length a_there a_how a_fairness a_stack a_val a_goes a_steps a_guards a_enabled a_depth a_number a_low a_onStack a_open a_path a_ahead a_todo a_shown a_failed := by
    intro h20
    unfold wX_token_20
    refine br_c (fun h => ?_) (fun h => ?_)
    · unfold wX_token_36
      refine no fun ⟨j, hj, e, hok⟩ => ?_
      have := h20 j hj e hok
      rw [e] at h
      exact nI_ge (a := 19) (b := j) (by omega) (by omega) h
    · refine br_c (fun h29 => ?_) (fun h29 => ?_)
      · unfold wX_token_36
        refine no fun ⟨j, hj, e, hok⟩ => ?_
        rw [e] at h29
        exact nI_ge (a := j) (b := 29) hj (by omega) h29
      · unfold wX_token_32
        have h0 : ¬ p < 0 := fun q => h (Int32.le_of_lt (Int32.lt_of_lt_of_le q (by decide)))
        obtain ⟨j, hj, e⟩ := nI_of h0
        have j1 : 20 ≤ j := by
          rcases Nat.lt_or_ge j 20 with c | c
          · rw [e] at h; exact absurd (nI_le (a := j) (b := 19) (by omega) (by omega)) h
          · exact c
        have j2 : j < 29 := by
          rcases Nat.lt_or_ge j 29 with c | c
          · exact c
          · rw [e] at h29; exact absurd (nI_le (a := 29) (b := j) c hj) h29
        exact yes j j2 e ⟨by omega, fun q => by omega⟩
  unfold wpX_token
  dsimp only
  refine x_in (n := 5) (by omega) (fun hn => br_t rfl (br_c (fun h9 => w20 fun j hj e hok => ?_) (fun h9 => br_c (fun h13 => ?_) (fun h13 => w20 fun j hj e hok => ?_)))) (fun j hj e => br_f (by decide) ?_)
  · rcases Nat.lt_or_ge j 20 with c | c
    · rcases hok.2 c with d | d
      · exact absurd (by rw [e]; exact vp_in_nI (by omega) (by omega)) hn
      · rw [e] at h9; exact absurd h9 (nI_ge (a := 9) (b := j) (by omega) (by omega))
    · exact c
  · unfold wX_token_32
    have h0 : ¬ p < 0 := fun q => h9 (Int32.le_of_lt (Int32.lt_of_lt_of_le q (by decide)))
    obtain ⟨j, hj, e⟩ := nI_of h0
    have j1 : 10 ≤ j := by
      rcases Nat.lt_or_ge j 10 with c | c
      · rw [e] at h9; exact absurd (nI_le (a := j) (b := 9) (by omega) (by omega)) h9
      · exact c
    have j2 : j < 13 := by
      rcases Nat.lt_or_ge j 13 with c | c
      · exact c
      · rw [e] at h13; exact absurd h13 (nI_nlt (a := j) (b := 13) c hj)
    exact yes j (by omega) e ⟨by omega, fun _ => Or.inr ⟨j1, by omega⟩⟩
  · rcases Nat.lt_or_ge j 20 with c | c
    · rcases hok.2 c with d | d
      · exact absurd (by rw [e]; exact vp_in_nI (by omega) (by omega)) hn
      · rw [e] at h13; exact absurd (nI_lt (a := j) (b := 13) (by omega) (by omega)) h13
    · exact c
  · unfold wX_token_32
    exact yes j (by omega) e ⟨by omega, fun _ => Or.inl (by omega)⟩
end Sx
end
section
/-! the specification's methods, Y -/
theorem y_inb {post : Int32 → Prop} {x : Int32} {lo hi : Nat} (hl : lo < 2 ^ 31) (hh : hi < 2 ^ 31) (h0 : ¬ (∃ j, lo ≤ j ∧ j ≤ hi ∧ x = nI j) → post 0) (h1 : ∀ j, lo ≤ j → j ≤ hi → x = nI j → post 1) : wpY_in post x (nI lo) (nI hi) := by
  unfold wpY_in
  refine br_c (fun h => h0 fun ⟨j, a, b, e⟩ => ?_) (fun h => ?_)
  · rw [e] at h; exact nI_nlt a (by omega) h
  · have hx : ¬ x < 0 := fun q => h (Int32.lt_of_lt_of_le q (nI_pos' hl))
    obtain ⟨j, hj, e⟩ := nI_of hx
    subst e
    have j1 : lo ≤ j := by
      rcases Nat.lt_or_ge j lo with c | c
      · exact absurd (nI_lt c hl) h
      · exact c
    refine pk_lt hi j (fun h2 => h0 fun ⟨j', a, b, e⟩ => ?_) (fun h2 => h1 j j1 h2 rfl)
    have := (nI_eq hj (by omega)).mp e
    omega
section Sy
variable {f_known f_traceEnd f_failures : Int32} {a_tokens a_lengths a_values a_there a_fairness a_effects a_guards a_enabled a_depth a_traced a_failed a_stack : Nat → Int32} {a_goes a_ways a_alive a_calm : Nat → Int64}
variable {z : Nat → Nat} {tk : Nat → Nat → Nat} {ln : Nat → Nat}
theorem y_action {post : Int32 → SY → Prop} {p : Int32} (hL : r_M tk ln a_tokens a_lengths) (hT : r_Tk tk ln)
    (H0 : ¬ (vp_in p 4 ∧ e_wh (tk 18) (ln 18)) → ∀ len : Nat → Int32, r_M tk (d_0 ln) a_tokens len → post 0 (f_known, f_traceEnd, f_failures, a_tokens, len, a_values, a_there, a_fairness, a_effects, a_goes, a_guards, a_enabled, a_depth, a_ways, a_alive, a_calm, a_traced, a_failed, a_stack))
    (H1 : ∀ a, a < 4 → p = nI a → e_wh (tk 18) (ln 18) → ∀ tks len : Nat → Int32, r_M (d_tk tk a) (d_ln ln a) tks len → post 1 (0, f_traceEnd, f_failures, tks, len, a_values, upd a_there a 1, upd a_fairness a 0, h_0 a_effects a, a_goes, a_guards, a_enabled, a_depth, a_ways, a_alive, a_calm, a_traced, a_failed, a_stack)) :
    wpY_action post (f_known, f_traceEnd, f_failures, a_tokens, a_lengths, a_values, a_there, a_fairness, a_effects, a_goes, a_guards, a_enabled, a_depth, a_ways, a_alive, a_calm, a_traced, a_failed, a_stack) p := by
  have bad : ¬ (vp_in p 4 ∧ e_wh (tk 18) (ln 18)) → wY_action_21 post p f_known f_traceEnd f_failures a_tokens a_lengths a_values a_there a_fairness a_effects a_goes a_guards a_enabled a_depth a_ways a_alive a_calm a_traced a_failed a_stack := by
    intro hn
    unfold wY_action_21 wY_action_22
    refine br_t rfl ?_
    unfold wY_action_65
    refine br_t rfl ?_
    unfold wY_action_80
    exact y_take0 hL fun len h => ⟨rfl, H0 hn len h⟩
  unfold wpY_action
  dsimp only
  refine y_in (n := 3) (by omega) (fun hn => br_t rfl (bad fun q => hn q.1)) (fun a ha e => br_f (by decide) (y_isExpr (l := 18) (by omega) hL hT ?_))
  by_cases hw : e_wh (tk 18) (ln 18)
  · subst e
    have vA : vp_in (nI a) 4 := vp_in_nI ha (by omega)
    have ca : (nI a).toNatClampNeg = a := nI_clamp (by omega)
    rw [e_w01_t hw]
    refine br_f (by decide) ?_
    unfold wY_action_22
    refine br_f (by decide) ⟨vA, nm_r (e' := upd a_there a 1) (by rw [ca, nb1]) ⟨vA, nm_r (e' := upd a_fairness a 0) (by rw [ca]) ⟨4, ?_⟩⟩⟩
    refine br_f (nI_ge (a := 0) (b := 3) (by omega) (by omega)) ⟨by rw [show (0 : Int32) = nI 0 from rfl, i3]; exact vp_in_nI (by omega) (by omega), nm_r (e' := upd a_effects (3 * a) 0) (by rw [show 3 * nI a + 0 = nI (3 * a) from i3 a 0, nI_clamp (by omega)]) (nm_r (e' := nI 1) rfl ?_)⟩
    refine br_f (nI_ge (a := 1) (b := 3) (by omega) (by omega)) ⟨by rw [i3]; exact vp_in_nI (by omega) (by omega), nm_r (e' := upd (upd a_effects (3 * a) 0) (3 * a + 1) 0) (by rw [i3, nI_clamp (by omega)]) (nm_r (e' := nI 2) rfl ?_)⟩
    refine br_f (nI_ge (a := 2) (b := 3) (by omega) (by omega)) ⟨by rw [i3]; exact vp_in_nI (by omega) (by omega), nm_r (e' := upd (upd (upd a_effects (3 * a) 0) (3 * a + 1) 0) (3 * a + 2) 0) (by rw [i3, nI_clamp (by omega)]) (nm_r (e' := nI 3) rfl ?_)⟩
    refine br_t (nI_le (a := 3) (b := 3) (by omega) (by omega)) ?_
    unfold wY_action_65
    refine br_f (by decide) ?_
    unfold wY_action_80
    have ei : 3 + 4 * nI a = nI (y_l a) := by
      rw [y_l_g a ha, show (4 : Int32) * nI a = nI (4 * a) from pk_mul 4 a]; exact nI_add 3 (4 * a)
    rw [ei]
    exact y_take1 (by omega) hL hT fun tks len h => ⟨rfl, H1 a ha rfl hw tks len h⟩
  · rw [e_w01_f hw]
    exact br_t rfl (bad fun q => hw q.2)
theorem y_effect {post : Int32 → SY → Prop} {p q any : Int32} (hL : r_M tk ln a_tokens a_lengths) (hT : r_Tk tk ln)
    (H0 : ¬ (∃ a v, a < 4 ∧ v < 3 ∧ p = nI a ∧ q = nI v ∧ a_there a ≠ 0 ∧ d_ok tk ln true) → ∀ len : Nat → Int32, r_M tk (d_0 ln) a_tokens len → post 0 (f_known, f_traceEnd, f_failures, a_tokens, len, a_values, a_there, a_fairness, a_effects, a_goes, a_guards, a_enabled, a_depth, a_ways, a_alive, a_calm, a_traced, a_failed, a_stack))
    (H1 : ∀ a v, a < 4 → v < 3 → p = nI a → q = nI v → a_there a ≠ 0 → d_ok tk ln true → ∀ tks len : Nat → Int32, r_M (d_tk tk (4 + 3 * a + v)) (d_ln ln (4 + 3 * a + v)) tks len → post 1 (0, f_traceEnd, f_failures, tks, len, a_values, a_there, a_fairness, upd a_effects (3 * a + v) (h_k (ln 18) any), a_goes, a_guards, a_enabled, a_depth, a_ways, a_alive, a_calm, a_traced, a_failed, a_stack)) :
    wpY_effect post (f_known, f_traceEnd, f_failures, a_tokens, a_lengths, a_values, a_there, a_fairness, a_effects, a_goes, a_guards, a_enabled, a_depth, a_ways, a_alive, a_calm, a_traced, a_failed, a_stack) p q any := by
  have hl18 : a_lengths 0 = nI (ln 18) := (hL 18 (by omega)).1
  have h12 := (hT 18 (by omega)).1
  have bad : ¬ (∃ a v, a < 4 ∧ v < 3 ∧ p = nI a ∧ q = nI v ∧ a_there a ≠ 0 ∧ d_ok tk ln true) → wY_effect_48 post p q any f_known f_traceEnd f_failures a_tokens a_lengths a_values a_there a_fairness a_effects a_goes a_guards a_enabled a_depth a_ways a_alive a_calm a_traced a_failed a_stack := by
    intro hn
    unfold wY_effect_48 wY_effect_49
    refine br_t rfl ?_
    unfold wY_effect_88
    refine br_t rfl ?_
    unfold wY_effect_109
    exact y_take0 hL fun len h => ⟨rfl, H0 hn len h⟩
  unfold wpY_effect
  dsimp only
  refine y_in (n := 3) (by omega) (fun hn => br_t rfl (bad fun ⟨a, v, ha, hv, e1, _⟩ => hn (by rw [e1]; exact vp_in_nI ha (by omega)))) (fun a ha e => br_f (by decide) ?_)
  refine y_in (n := 2) (by omega) (fun hn => br_t rfl (bad fun ⟨a, v, ha, hv, _, e1, _⟩ => hn (by rw [e1]; exact vp_in_nI hv (by omega)))) (fun v hv e' => br_f (by decide) ⟨by rw [e]; exact vp_in_nI ha (by omega), ?_⟩)
  subst e; subst e'
  have au : ∀ a', a' < 4 → nI a = nI a' → a' = a := fun a' h' e => ((nI_eq (by omega) (by omega)).mp e).symm
  rw [nI_clamp (by omega), hl18]
  refine br_c (fun e => bad fun ⟨a', v', ha', hv', e1, _, e2, _⟩ => e2 (by rw [au a' ha' e1]; exact e)) (fun eth => ?_)
  have good : d_ok tk ln true → wY_effect_44 post (nI a) (nI v) any f_known f_traceEnd f_failures a_tokens a_lengths a_values a_there a_fairness a_effects a_goes a_guards a_enabled a_depth a_ways a_alive a_calm a_traced a_failed a_stack := by
    intro ok
    have K := fun tks len h => H1 a v ha hv rfl rfl eth ok tks len h
    unfold h_k at K
    have vi : vp_in (3 * nI a + nI v) 12 := by rw [i3]; exact vp_in_nI (by omega) (by omega)
    have ci : (3 * nI a + nI v).toNatClampNeg = 3 * a + v := by rw [i3, nI_clamp (by omega)]
    have w87 : ∀ x : Int32, (∀ tks len : Nat → Int32, r_M (d_tk tk (4 + 3 * a + v)) (d_ln ln (4 + 3 * a + v)) tks len → post 1 (0, f_traceEnd, f_failures, tks, len, a_values, a_there, a_fairness, upd a_effects (3 * a + v) x, a_goes, a_guards, a_enabled, a_depth, a_ways, a_alive, a_calm, a_traced, a_failed, a_stack)) → wY_effect_87 post (nI a) (nI v) 1 x (3 * nI a + nI v) f_known f_traceEnd f_failures a_tokens a_lengths a_values a_there a_fairness a_effects a_goes a_guards a_enabled a_depth a_ways a_alive a_calm a_traced a_failed a_stack := by
      intro x hx
      unfold wY_effect_87
      refine ⟨vi, nm_r (e' := upd a_effects (3 * a + v) x) (by rw [ci]) ?_⟩
      unfold wY_effect_88
      refine br_f (by decide) ?_
      unfold wY_effect_109
      have ei : ((3 + 4 * nI a) + 1) + nI v = nI (y_l (4 + 3 * a + v)) := by
        rw [y_l_e a ha v hv, show (4 : Int32) * nI a = nI (4 * a) from pk_mul 4 a, show (3 : Int32) + nI (4 * a) = nI (3 + 4 * a) from nI_add 3 (4 * a), nI_1, nI_add]
        congr 1; omega
      rw [ei]
      exact y_take1 (by omega) hL hT fun tks len h => ⟨rfl, hx tks len h⟩
    unfold wY_effect_44 wY_effect_49
    rw [hl18]
    refine br_f (by decide) (pk_le (ln 18) 0 (fun h => br_c (fun e => w87 0 fun tks len hh => ?_) (fun e => w87 2 fun tks len hh => ?_)) (fun h => w87 1 fun tks len hh => ?_))
    · have := K tks len hh; rw [if_pos (by omega), if_pos e] at this; exact this
    · have := K tks len hh; rw [if_pos (by omega), if_neg e] at this; exact this
    · have := K tks len hh; rw [if_neg (by omega)] at this; exact this
  refine pk_eq (ln 18) 0 (fun e => good (Or.inl ⟨e, rfl⟩)) (fun e => y_isExpr (l := 18) (by omega) hL hT ?_)
  by_cases hw : e_wh (tk 18) (ln 18)
  · rw [e_w01_t hw]; exact br_f (by decide) (good (Or.inr hw))
  · rw [e_w01_f hw]; exact br_t rfl (bad fun ⟨_, _, _, _, _, _, _, ok⟩ => ok.elim (fun q => e q.1) hw)
theorem y_token {post : Int32 → SY → Prop} {p : Int32} (hL : r_M tk ln a_tokens a_lengths) (hT : r_Tk tk ln)
    (H0 : ¬ (∃ j, j < 29 ∧ p = nI j ∧ t_ok j ∧ ln 18 < 12) → post (-1) (f_known, f_traceEnd, f_failures, a_tokens, a_lengths, a_values, a_there, a_fairness, a_effects, a_goes, a_guards, a_enabled, a_depth, a_ways, a_alive, a_calm, a_traced, a_failed, a_stack))
    (H1 : ∀ j, j < 29 → p = nI j → t_ok j → ln 18 < 12 → ∀ tks len : Nat → Int32, r_M (t_tk tk ln j) (t_ln ln) tks len → post (nI (ln 18 + 1)) (f_known, f_traceEnd, f_failures, tks, len, a_values, a_there, a_fairness, a_effects, a_goes, a_guards, a_enabled, a_depth, a_ways, a_alive, a_calm, a_traced, a_failed, a_stack)) :
    wpY_token post (f_known, f_traceEnd, f_failures, a_tokens, a_lengths, a_values, a_there, a_fairness, a_effects, a_goes, a_guards, a_enabled, a_depth, a_ways, a_alive, a_calm, a_traced, a_failed, a_stack) p := by
  have hl18 : a_lengths 0 = nI (ln 18) := (hL 18 (by omega)).1
  have h12 := (hT 18 (by omega)).1
  have yes : ∀ j, j < 29 → p = nI j → t_ok j → wY_token_31 post p f_known f_traceEnd f_failures a_tokens a_lengths a_values a_there a_fairness a_effects a_goes a_guards a_enabled a_depth a_ways a_alive a_calm a_traced a_failed a_stack := by
    intro j hj e hok
    subst e
    unfold wY_token_31 wY_token_36
    rw [hl18]
    refine br_f (by decide) (pk_eq (ln 18) 12 (fun e => H0 fun ⟨j', _, _, _, q⟩ => by omega) (fun e => ?_))
    refine ⟨vp_in_nI (by omega) (by omega), nm_r (e' := upd a_tokens (ln 18) (nI j)) (by rw [nI_clamp (by omega)]) (nm_r (e' := upd a_lengths 0 (nI (ln 18 + 1))) (by rw [nI_1]) ?_)⟩
    rw [pk_us]
    refine H1 j hj rfl hok (by omega) _ _ fun l hl => ?_
    unfold t_tk t_ln
    by_cases c : l = 18
    · rw [c, if_pos rfl, if_pos rfl]
      refine ⟨pk_us, fun k hk => ?_⟩
      have ek : 12 * y_l 18 + k = k := by rw [show y_l 18 = 0 from rfl]; omega
      rw [ek]
      by_cases c2 : k = ln 18
      · rw [c2, if_pos rfl, pk_us]
      · rw [if_neg c2, pk_un c2]
        have := (hL 18 (by omega)).2 k (by omega)
        rw [ek] at this; exact this
    · have hy := y_l_0 l (by omega)
      rw [pk_un hy, if_neg c, if_neg c]
      obtain ⟨q1, q2⟩ := hL l hl
      exact ⟨q1, fun k hk => by rw [pk_un (by omega)]; exact q2 k hk⟩
  unfold wpY_token
  dsimp only
  refine y_inb (lo := 0) (hi := 4) (by omega) (by omega) (fun n1 => br_t rfl (y_inb (lo := 10) (hi := 12) (by omega) (by omega) (fun n2 => br_t rfl (y_inb (lo := 20) (hi := 28) (by omega) (by omega) (fun n3 => br_t rfl ?_) (fun j h1 h2 e => br_f (by decide) (yes j (by omega) e ⟨h2, fun q => by omega⟩)))) (fun j h1 h2 e => br_f (by decide) (yes j (by omega) e ⟨by omega, fun _ => Or.inr ⟨h1, h2⟩⟩)))) (fun j h1 h2 e => br_f (by decide) (yes j (by omega) e ⟨by omega, fun _ => Or.inl h2⟩))
  unfold wY_token_36
  refine br_t rfl (H0 fun ⟨j, hj, e, hok, _⟩ => ?_)
  rcases Nat.lt_or_ge j 20 with c | c
  · rcases hok.2 c with d | d
    · exact n1 ⟨j, Nat.zero_le _, d, e⟩
    · exact n2 ⟨j, d.1, d.2, e⟩
  · exact n3 ⟨j, c, by omega, e⟩
end Sy
end
section
/-! invariant, fails: the methods; the relation opened and closed -/
section Wx
variable {f_made f_states f_initial f_reached f_deepest f_options0 f_options1 f_opened f_depthOf f_numbered f_waiting f_traced f_failures : Int32} {f_fairLow f_fairHigh f_partLow f_partHigh f_withLow f_withHigh f_backLow f_backHigh : Int64} {a_sizes a_list a_length a_there a_how a_fairness a_stack a_val a_guards a_enabled a_depth a_number a_low a_onStack a_open a_path a_ahead a_shown a_failed : Nat → Int32} {a_goes a_steps a_todo : Nat → Int64}
variable {z : Nat → Nat} {tk : Nat → Nat → Nat} {ln : Nat → Nat}
theorem q_St {th hw : Nat → Int32} : (∀ s t, s_st z th hw tk ln s t → s < s_N z) ∧ (∀ s t, s_st z th hw tk ln s t → t < s_N z) ∧ (∀ s, q_Rd z th hw tk ln s → s < s_N z) :=
  ⟨fun s t h => (s_st_lt h).1, fun s t h => (s_st_lt h).2, fun s ⟨k, h⟩ => g_R_lt (N := s_N z) (fun s h => h.1) (fun s t h => (s_st_lt h).2) h⟩
theorem x_invariant {post : Int32 → SX → Prop} (hW : r_W z a_there a_fairness a_how tk ln) (hsz : ∀ v, v < 3 → a_sizes v = nI (z v)) (hL : r_L tk ln a_list a_length)
    (hm : f_made = 0 ∨ (f_made = 1 ∧ x_D z a_there a_how tk ln f_states f_initial f_reached f_deepest a_goes a_steps a_guards a_enabled a_depth))
    (H2 : ¬ e_wh (tk 18) (ln 18) → post (-2) (f_made, f_states, f_initial, f_reached, f_deepest, f_options0, f_options1, f_opened, f_depthOf, f_numbered, f_waiting, f_fairLow, f_fairHigh, f_partLow, f_partHigh, f_withLow, f_withHigh, f_traced, f_failures, f_backLow, f_backHigh, a_sizes, a_list, a_length, a_there, a_how, a_fairness, a_stack, a_val, a_goes, a_steps, a_guards, a_enabled, a_depth, a_number, a_low, a_onStack, a_open, a_path, a_ahead, a_todo, a_shown, a_failed))
    (H1 : e_wh (tk 18) (ln 18) → ∀ (d : Nat) (f : Nat → Nat) (shown : Nat → Int32), d < s_N z → v_L (s_i z tk ln) (s_st z a_there a_how tk ln) (fun s => s_E z tk ln 18 s = 0) (s_N z) (nI d) → v_T (s_i z tk ln) (s_st z a_there a_how tk ln) (fun s => s_E z tk ln 18 s = 0) d (d + 1) f → (∀ k, k ≤ d → shown k = nI (f k)) →
      ∀ (a_val a_stack : Nat → Int32) (lo hi : Int64) (goes steps : Nat → Int64) (guards enabled depth path : Nat → Int32) (o0 o1 i0 r0 d0 : Int32), x_D z a_there a_how tk ln (nI (s_N z)) i0 r0 d0 goes steps guards enabled depth →
      post (nI d) (1, nI (s_N z), i0, r0, d0, o0, o1, f_opened, f_depthOf, f_numbered, f_waiting, f_fairLow, f_fairHigh, f_partLow, f_partHigh, f_withLow, f_withHigh, nI d, f_failures, lo, hi, a_sizes, a_list, a_length, a_there, a_how, a_fairness, a_stack, a_val, goes, steps, guards, enabled, depth, a_number, a_low, a_onStack, a_open, path, a_ahead, a_todo, shown, a_failed))
    (H0 : e_wh (tk 18) (ln 18) → v_L (s_i z tk ln) (s_st z a_there a_how tk ln) (fun s => s_E z tk ln 18 s = 0) (s_N z) (-1) →
      ∀ (a_val a_stack : Nat → Int32) (goes steps : Nat → Int64) (guards enabled depth path : Nat → Int32) (o0 o1 i0 r0 d0 : Int32), x_D z a_there a_how tk ln (nI (s_N z)) i0 r0 d0 goes steps guards enabled depth →
      post (-1) (1, nI (s_N z), i0, r0, d0, o0, o1, f_opened, f_depthOf, f_numbered, f_waiting, f_fairLow, f_fairHigh, f_partLow, f_partHigh, f_withLow, f_withHigh, f_traced, f_failures, f_backLow, f_backHigh, a_sizes, a_list, a_length, a_there, a_how, a_fairness, a_stack, a_val, goes, steps, guards, enabled, depth, a_number, a_low, a_onStack, a_open, path, a_ahead, a_todo, a_shown, a_failed)) :
    wpX_invariant post (f_made, f_states, f_initial, f_reached, f_deepest, f_options0, f_options1, f_opened, f_depthOf, f_numbered, f_waiting, f_fairLow, f_fairHigh, f_partLow, f_partHigh, f_withLow, f_withHigh, f_traced, f_failures, f_backLow, f_backHigh, a_sizes, a_list, a_length, a_there, a_how, a_fairness, a_stack, a_val, a_goes, a_steps, a_guards, a_enabled, a_depth, a_number, a_low, a_onStack, a_open, a_path, a_ahead, a_todo, a_shown, a_failed) := by
  unfold wpX_invariant
  dsimp only
  refine x_whole (l := 18) (by omega) hL hW.2.2.2.1 ?_
  by_cases hw : e_wh (tk 18) (ln 18)
  · rw [e_w01_t hw]
    refine br_f (by decide) (x_make hW hsz hL hm (fun vl st goes steps guards enabled depth path o0 o1 i0 r0 d0 hD => ?_))
    refine ⟨s_N z + 1, x_inv_20 (I := s_i z tk ln) (St := s_st z a_there a_how tk ln) hW.1 hsz hL hW.2.2.2.1 hw q_St.1 q_St.2.2 hD.2.2.1 (fun s hs => (hD.2.1 s hs).2.1) (fun d f vl' st' shown lo hi h1 h2 h3 h4 => H1 hw d f shown h1 h2 h3 h4 vl' st' lo hi goes steps guards enabled depth path o0 o1 i0 r0 d0 hD) (fun vl' st' h => H0 hw h vl' st' goes steps guards enabled depth path o0 o1 i0 r0 d0 hD) (s_N z + 1) 0 (Nat.zero_le _) (by omega) (-1) vl st v_L_0⟩
  · rw [e_w01_f hw]
    exact br_t rfl (H2 hw)
theorem x_fails {post : Int32 → SX → Prop} (hW : r_W z a_there a_fairness a_how tk ln) (hsz : ∀ v, v < 3 → a_sizes v = nI (z v)) (hL : r_L tk ln a_list a_length)
    (hm : f_made = 0 ∨ (f_made = 1 ∧ x_D z a_there a_how tk ln f_states f_initial f_reached f_deepest a_goes a_steps a_guards a_enabled a_depth))
    (H2 : ¬ e_wh (tk 18) (ln 18) → post (-2) (f_made, f_states, f_initial, f_reached, f_deepest, f_options0, f_options1, f_opened, f_depthOf, f_numbered, f_waiting, f_fairLow, f_fairHigh, f_partLow, f_partHigh, f_withLow, f_withHigh, f_traced, f_failures, f_backLow, f_backHigh, a_sizes, a_list, a_length, a_there, a_how, a_fairness, a_stack, a_val, a_goes, a_steps, a_guards, a_enabled, a_depth, a_number, a_low, a_onStack, a_open, a_path, a_ahead, a_todo, a_shown, a_failed))
    (H1 : e_wh (tk 18) (ln 18) → ∀ (fl : Nat) (fd : Nat → Int32), fl_A (s_N z) (fun s => q_Rd z a_there a_how tk ln s ∧ f_c (s_st z a_there a_how tk ln) (fun x => x < s_N z ∧ s_E z tk ln 18 x = 0) (f_F (s_st z a_there a_how tk ln) (s_go z a_there a_how tk ln) (s_en z a_there a_how tk ln) a_there a_fairness (fun x => x < s_N z ∧ s_E z tk ln 18 x = 0)) s ∧ s_E z tk ln 17 s ≠ 0) fl fd →
      ∀ (a_val a_stack : Nat → Int32) (goes steps : Nat → Int64) (guards enabled depth path : Nat → Int32) (o0 o1 i0 r0 d0 : Int32) (fo fdp fn fwt : Int32) (wl wh ql qh pl ph : Int64) (number low onStack opn ahead : Nat → Int32) (todo : Nat → Int64), x_D z a_there a_how tk ln (nI (s_N z)) i0 r0 d0 goes steps guards enabled depth →
      post (nI fl) (1, nI (s_N z), i0, r0, d0, o0, o1, fo, fdp, fn, fwt, ql, qh, pl, ph, wl, wh, f_traced, nI fl, f_backLow, f_backHigh, a_sizes, a_list, a_length, a_there, a_how, a_fairness, a_stack, a_val, goes, steps, guards, enabled, depth, number, low, onStack, opn, path, ahead, todo, a_shown, fd)) :
    wpX_fails post (f_made, f_states, f_initial, f_reached, f_deepest, f_options0, f_options1, f_opened, f_depthOf, f_numbered, f_waiting, f_fairLow, f_fairHigh, f_partLow, f_partHigh, f_withLow, f_withHigh, f_traced, f_failures, f_backLow, f_backHigh, a_sizes, a_list, a_length, a_there, a_how, a_fairness, a_stack, a_val, a_goes, a_steps, a_guards, a_enabled, a_depth, a_number, a_low, a_onStack, a_open, a_path, a_ahead, a_todo, a_shown, a_failed) := by
  unfold wpX_fails
  dsimp only
  refine x_whole (l := 18) (by omega) hL hW.2.2.2.1 ?_
  by_cases hw : e_wh (tk 18) (ln 18)
  · rw [e_w01_t hw]
    refine br_f (by decide) (x_make hW hsz hL hm (fun vl st goes steps guards enabled depth path o0 o1 i0 r0 d0 hD => ?_))
    refine ⟨s_N z + 1, x_fails_28 (I := s_i z tk ln) (St := s_st z a_there a_how tk ln) (go := s_go z a_there a_how tk ln) (en := s_en z a_there a_how tk ln) hW.1 hsz hL hW.2.2.2.1 (hW.2.2.2.2.1 17 (by omega)) hw hD.2.2.1 q_St.2.1 hW.2.1 (fun s hs b hb t => (hD.2.1 s hs).1 b hb t) (fun s hs => (hD.2.1 s hs).2.2.2) (fun s hs => (hD.2.1 s hs).2.1)
      (fun fl vl' st' fd fo fdp fn fwt wl wh ql qh pl ph number low onStack opn path' ahead todo h => H1 hw fl fd h vl' st' goes steps guards enabled depth path' o0 o1 i0 r0 d0 fo fdp fn fwt wl wh ql qh pl ph number low onStack opn ahead todo hD) (s_N z + 1) 0 (Nat.zero_le _) (by omega) vl st 0 0 fun t => ⟨fun q => absurd q (iS_0 t), fun q => absurd q.1 (Nat.not_lt_zero _)⟩⟩
  · rw [e_w01_f hw]
    exact br_t rfl (H2 hw)
end Wx
section Wy
variable {f_known f_traceEnd f_failures : Int32} {a_tokens a_lengths a_values a_there a_fairness a_effects a_guards a_enabled a_depth a_traced a_failed a_stack : Nat → Int32} {a_goes a_ways a_alive a_calm : Nat → Int64}
variable {z : Nat → Nat} {tk : Nat → Nat → Nat} {ln : Nat → Nat}
theorem y_invariant {post : Int32 → SY → Prop} (hW : r_W z a_there a_fairness a_effects tk ln) (hsz : ∀ v, v < 3 → a_values v = nI (z v)) (hL : r_M tk ln a_tokens a_lengths)
    (hm : f_known = 0 ∨ (f_known = 1 ∧ y_D z a_there a_effects tk ln a_goes a_guards a_enabled a_depth))
    (H2 : ¬ e_wh (tk 18) (ln 18) → post (-2) (f_known, f_traceEnd, f_failures, a_tokens, a_lengths, a_values, a_there, a_fairness, a_effects, a_goes, a_guards, a_enabled, a_depth, a_ways, a_alive, a_calm, a_traced, a_failed, a_stack))
    (H1 : e_wh (tk 18) (ln 18) → ∀ (d : Nat) (f : Nat → Nat) (tr : Nat → Int32), d < s_N z → v_L (s_i z tk ln) (s_st z a_there a_effects tk ln) (fun s => s_E z tk ln 18 s = 0) (s_N z) (nI d) → v_T (s_i z tk ln) (s_st z a_there a_effects tk ln) (fun s => s_E z tk ln 18 s = 0) d (d + 1) f → (∀ k, k ≤ d → tr k = nI (f k)) →
      ∀ (st : Nat → Int32) (goes al : Nat → Int64) (guards enabled dep : Nat → Int32), y_D z a_there a_effects tk ln goes guards enabled dep → post (nI d) (1, nI d, f_failures, a_tokens, a_lengths, a_values, a_there, a_fairness, a_effects, goes, guards, enabled, dep, a_ways, al, a_calm, tr, a_failed, st))
    (H0 : e_wh (tk 18) (ln 18) → v_L (s_i z tk ln) (s_st z a_there a_effects tk ln) (fun s => s_E z tk ln 18 s = 0) (s_N z) (-1) →
      ∀ (st : Nat → Int32) (goes : Nat → Int64) (guards enabled dep : Nat → Int32), y_D z a_there a_effects tk ln goes guards enabled dep → post (-1) (1, f_traceEnd, f_failures, a_tokens, a_lengths, a_values, a_there, a_fairness, a_effects, goes, guards, enabled, dep, a_ways, a_alive, a_calm, a_traced, a_failed, st)) :
    wpY_invariant post (f_known, f_traceEnd, f_failures, a_tokens, a_lengths, a_values, a_there, a_fairness, a_effects, a_goes, a_guards, a_enabled, a_depth, a_ways, a_alive, a_calm, a_traced, a_failed, a_stack) := by
  unfold wpY_invariant
  dsimp only
  refine y_isExpr (l := 18) (by omega) hL hW.2.2.2.1 ?_
  by_cases hw : e_wh (tk 18) (ln 18)
  · rw [e_w01_t hw]
    refine br_f (by decide) (y_know hW hsz hL hm (fun st goes guards enabled dep hD => y_states hsz ?_))
    exact ⟨s_N z + 1, y_inv_24 hW.1 hsz hL hW.2.2.2.1 hw hD (fun d f st' tr al h1 h2 h3 h4 => H1 hw d f tr h1 h2 h3 h4 st' goes al guards enabled dep hD) (fun st' h => H0 hw h st' goes guards enabled dep hD) (s_N z + 1) 0 (Nat.zero_le _) (by omega) (-1) st v_L_0⟩
  · rw [e_w01_f hw]
    exact br_t rfl (H2 hw)
theorem y_fails {post : Int32 → SY → Prop} (hW : r_W z a_there a_fairness a_effects tk ln) (hsz : ∀ v, v < 3 → a_values v = nI (z v)) (hL : r_M tk ln a_tokens a_lengths)
    (hm : f_known = 0 ∨ (f_known = 1 ∧ y_D z a_there a_effects tk ln a_goes a_guards a_enabled a_depth))
    (H2 : ¬ e_wh (tk 18) (ln 18) → post (-2) (f_known, f_traceEnd, f_failures, a_tokens, a_lengths, a_values, a_there, a_fairness, a_effects, a_goes, a_guards, a_enabled, a_depth, a_ways, a_alive, a_calm, a_traced, a_failed, a_stack))
    (H1 : e_wh (tk 18) (ln 18) → ∀ (fl : Nat) (fd : Nat → Int32), fl_A (s_N z) (fun s => q_Rd z a_there a_effects tk ln s ∧ f_c (s_st z a_there a_effects tk ln) (fun x => x < s_N z ∧ s_E z tk ln 18 x = 0) (f_F (s_st z a_there a_effects tk ln) (s_go z a_there a_effects tk ln) (s_en z a_there a_effects tk ln) a_there a_fairness (fun x => x < s_N z ∧ s_E z tk ln 18 x = 0)) s ∧ s_E z tk ln 17 s ≠ 0) fl fd →
      ∀ (st : Nat → Int32) (goes ways al cm : Nat → Int64) (guards enabled dep : Nat → Int32), y_D z a_there a_effects tk ln goes guards enabled dep → post (nI fl) (1, f_traceEnd, nI fl, a_tokens, a_lengths, a_values, a_there, a_fairness, a_effects, goes, guards, enabled, dep, ways, al, cm, a_traced, fd, st)) :
    wpY_fails post (f_known, f_traceEnd, f_failures, a_tokens, a_lengths, a_values, a_there, a_fairness, a_effects, a_goes, a_guards, a_enabled, a_depth, a_ways, a_alive, a_calm, a_traced, a_failed, a_stack) := by
  unfold wpY_fails
  dsimp only
  refine y_isExpr (l := 18) (by omega) hL hW.2.2.2.1 ?_
  by_cases hw : e_wh (tk 18) (ln 18)
  · rw [e_w01_t hw]
    refine br_f (by decide) (y_know hW hsz hL hm (fun st goes guards enabled dep hD => y_states hsz (nm_e (nm_e ?_))))
    refine ⟨s_N z + 1, y_fails_30 hW.1 hsz hL hW.2.2.2.1 (hW.2.2.2.2.1 17 (by omega)) hw hW.2.1 hD (fun fl st' fd ways al cm h => H1 hw fl fd ?_ st' goes ways al cm guards enabled dep hD) (s_N z + 1) 0 (Nat.zero_le _) (by omega) st _ fun t => ⟨fun q => absurd (aS_2.mp q) (iS_0 t), fun q => absurd q.1 (Nat.not_lt_zero _)⟩⟩
    have eq : (fun s => f_c (s_st z a_there a_effects tk ln) (fun x => q_Rd z a_there a_effects tk ln x ∧ (x < s_N z ∧ s_E z tk ln 18 x = 0)) (f_F (s_st z a_there a_effects tk ln) (s_go z a_there a_effects tk ln) (s_en z a_there a_effects tk ln) a_there a_fairness (fun x => q_Rd z a_there a_effects tk ln x ∧ (x < s_N z ∧ s_E z tk ln 18 x = 0))) s ∧ s_E z tk ln 17 s ≠ 0) = fun s => q_Rd z a_there a_effects tk ln s ∧ f_c (s_st z a_there a_effects tk ln) (fun x => x < s_N z ∧ s_E z tk ln 18 x = 0) (f_F (s_st z a_there a_effects tk ln) (s_go z a_there a_effects tk ln) (s_en z a_there a_effects tk ln) a_there a_fairness (fun x => x < s_N z ∧ s_E z tk ln 18 x = 0)) s ∧ s_E z tk ln 17 s ≠ 0 := by
      funext s
      apply propext
      constructor
      · rintro ⟨q, r⟩
        have hr : q_Rd z a_there a_effects tk ln s := by obtain ⟨t, _, hp⟩ := q; exact hp.1.1
        exact ⟨hr, (f_join (fun x y hx hy => g_Rd_nx hx hy) s hr).mpr q, r⟩
      · rintro ⟨hr, q, r⟩
        exact ⟨(f_join (fun x y hx hy => g_Rd_nx hx hy) s hr).mp q, r⟩
    rw [← eq]; exact h
  · rw [e_w01_f hw]
    exact br_t rfl (H2 hw)
end Wy
section Zz
variable {f_made f_states f_initial f_reached f_deepest f_options0 f_options1 f_opened f_depthOf f_numbered f_waiting f_traced f_failures : Int32} {f_fairLow f_fairHigh f_partLow f_partHigh f_withLow f_withHigh f_backLow f_backHigh : Int64} {a_sizes a_list a_length a_there a_how a_fairness a_stack a_val a_guards a_enabled a_depth a_number a_low a_onStack a_open a_path a_ahead a_shown a_failed : Nat → Int32} {a_goes a_steps a_todo : Nat → Int64}
variable {b_known : Int32} {b_tokens b_lengths b_values b_guards b_enabled b_depth b_traced b_failed b_stack : Nat → Int32} {b_goes b_ways b_alive b_calm : Nat → Int64} {z : Nat → Nat} {tk : Nat → Nat → Nat} {ln : Nat → Nat} {te : Int32} {tr : Nat → Int32} {fl : Nat} {fd : Nat → Int32} {k : Nat}
theorem zi (hW : r_W z a_there a_fairness a_how tk ln) (hte : te = -1 ∨ ∃ e, e < 125 ∧ te = nI e) (hfl : fl ≤ 125)
    (x1 : ∀ v, v < 3 → a_sizes v = nI (z v)) (x2 : r_L tk ln a_list a_length) (x3 : f_made = 0 ∨ (f_made = 1 ∧ x_D z a_there a_how tk ln f_states f_initial f_reached f_deepest a_goes a_steps a_guards a_enabled a_depth)) (x4 : ∀ k, k < 125 → nI k ≤ te → a_shown k = tr k) (x5 : ∀ k, k < fl → a_failed k = fd k)
    (y1 : ∀ v, v < 3 → b_values v = nI (z v)) (y2 : r_M tk ln b_tokens b_lengths) (y3 : b_known = 0 ∨ (b_known = 1 ∧ y_D z a_there a_how tk ln b_goes b_guards b_enabled b_depth)) (y4 : ∀ k, k < 125 → nI k ≤ te → b_traced k = tr k) (y5 : ∀ k, k < fl → b_failed k = fd k) :
    i_Rel k (f_made, f_states, f_initial, f_reached, f_deepest, f_options0, f_options1, f_opened, f_depthOf, f_numbered, f_waiting, f_fairLow, f_fairHigh, f_partLow, f_partHigh, f_withLow, f_withHigh, te, nI fl, f_backLow, f_backHigh, a_sizes, a_list, a_length, a_there, a_how, a_fairness, a_stack, a_val, a_goes, a_steps, a_guards, a_enabled, a_depth, a_number, a_low, a_onStack, a_open, a_path, a_ahead, a_todo, a_shown, a_failed) (b_known, te, nI fl, b_tokens, b_lengths, b_values, a_there, a_fairness, a_how, b_goes, b_guards, b_enabled, b_depth, b_ways, b_alive, b_calm, b_traced, b_failed, b_stack) :=
  ⟨z, a_there, a_fairness, a_how, tk, ln, te, tr, fl, fd, hW, hte, hfl, ⟨rfl, rfl, rfl, x1, x2, x3, rfl, x4, rfl, x5⟩, ⟨rfl, rfl, rfl, y1, y2, y3, rfl, y4, rfl, y5⟩⟩
end Zz
theorem zz {k : Nat} {u : SX} {v : SY} {P : SX → SY → Prop} (I : i_Rel k u v)
    (H : ∀ (f_made f_states f_initial f_reached f_deepest f_options0 f_options1 f_opened f_depthOf f_numbered f_waiting : Int32) (f_fairLow f_fairHigh f_partLow f_partHigh f_withLow f_withHigh : Int64) (f_backLow f_backHigh : Int64)
      (a_sizes a_list a_length a_there a_how a_fairness a_stack a_val : Nat → Int32) (a_goes a_steps : Nat → Int64) (a_guards a_enabled a_depth a_number a_low a_onStack a_open a_path a_ahead : Nat → Int32) (a_todo : Nat → Int64) (a_shown a_failed : Nat → Int32)
      (b_known : Int32) (b_tokens b_lengths b_values : Nat → Int32) (b_goes : Nat → Int64) (b_guards b_enabled b_depth : Nat → Int32) (b_ways b_alive b_calm : Nat → Int64) (b_traced b_failed b_stack : Nat → Int32)
      (z : Nat → Nat) (tk : Nat → Nat → Nat) (ln : Nat → Nat) (te : Int32) (tr : Nat → Int32) (fl : Nat) (fd : Nat → Int32),
      r_W z a_there a_fairness a_how tk ln → (te = -1 ∨ ∃ e, e < 125 ∧ te = nI e) → fl ≤ 125 →
      (∀ v, v < 3 → a_sizes v = nI (z v)) → r_L tk ln a_list a_length → (f_made = 0 ∨ (f_made = 1 ∧ x_D z a_there a_how tk ln f_states f_initial f_reached f_deepest a_goes a_steps a_guards a_enabled a_depth)) → (∀ k, k < 125 → nI k ≤ te → a_shown k = tr k) → (∀ k, k < fl → a_failed k = fd k) →
      (∀ v, v < 3 → b_values v = nI (z v)) → r_M tk ln b_tokens b_lengths → (b_known = 0 ∨ (b_known = 1 ∧ y_D z a_there a_how tk ln b_goes b_guards b_enabled b_depth)) → (∀ k, k < 125 → nI k ≤ te → b_traced k = tr k) → (∀ k, k < fl → b_failed k = fd k) →
      P (f_made, f_states, f_initial, f_reached, f_deepest, f_options0, f_options1, f_opened, f_depthOf, f_numbered, f_waiting, f_fairLow, f_fairHigh, f_partLow, f_partHigh, f_withLow, f_withHigh, te, nI fl, f_backLow, f_backHigh, a_sizes, a_list, a_length, a_there, a_how, a_fairness, a_stack, a_val, a_goes, a_steps, a_guards, a_enabled, a_depth, a_number, a_low, a_onStack, a_open, a_path, a_ahead, a_todo, a_shown, a_failed) (b_known, te, nI fl, b_tokens, b_lengths, b_values, a_there, a_fairness, a_how, b_goes, b_guards, b_enabled, b_depth, b_ways, b_alive, b_calm, b_traced, b_failed, b_stack)) : P u v := by
  obtain ⟨z, th, fr, hw, tk, ln, te, tr, fl, fd, hW, hte, hfl, hX, hY⟩ := I
  obtain ⟨f_made, f_states, f_initial, f_reached, f_deepest, f_options0, f_options1, f_opened, f_depthOf, f_numbered, f_waiting, f_fairLow, f_fairHigh, f_partLow, f_partHigh, f_withLow, f_withHigh, f_traced, f_failures, f_backLow, f_backHigh, a_sizes, a_list, a_length, a_there, a_how, a_fairness, a_stack, a_val, a_goes, a_steps, a_guards, a_enabled, a_depth, a_number, a_low, a_onStack, a_open, a_path, a_ahead, a_todo, a_shown, a_failed⟩ := u
  obtain ⟨b_known, b_traceEnd, b_failures, b_tokens, b_lengths, b_values, b_there, b_fairness, b_effects, b_goes, b_guards, b_enabled, b_depth, b_ways, b_alive, b_calm, b_traced, b_failed, b_stack⟩ := v
  obtain ⟨e1, e2, e3, x1, x2, x3, e4, x4, e5, x5⟩ := hX
  obtain ⟨g1, g2, g3, y1, y2, y3, g4, y4, g5, y5⟩ := hY
  subst e1; subst e2; subst e3; subst e4; subst e5; subst g1; subst g2; subst g3; subst g4; subst g5
  exact H _ _ _ _ _ _ _ _ _ _ _ _ _ _ _ _ _ _ _ _ _ _ _ _ _ _ _ _ _ _ _ _ _ _ _ _ _ _ _ _ _ _ _ _ _ _ _ _ _ _ _ _ _ _ _ z tk ln _ tr fl fd hW hte hfl x1 x2 x3 x4 x5 y1 y2 y3 y4 y5
end
section
/-! Y: init, hold -/
section Ih
variable {f_known f_traceEnd f_failures : Int32} {a_tokens a_lengths a_values a_there a_fairness a_effects a_guards a_enabled a_depth a_traced a_failed a_stack : Nat → Int32} {a_goes a_ways a_alive a_calm : Nat → Int64}
variable {tk : Nat → Nat → Nat} {ln : Nat → Nat}
theorem y_init_m {post : Int32 → SY → Prop} (hL : r_M tk ln a_tokens a_lengths) (hT : r_Tk tk ln)
    (H1 : d_ok tk ln true → ∀ tks len : Nat → Int32, r_M (d_tk tk 16) (d_ln ln 16) tks len → post 1 (0, f_traceEnd, f_failures, tks, len, a_values, a_there, a_fairness, a_effects, a_goes, a_guards, a_enabled, a_depth, a_ways, a_alive, a_calm, a_traced, a_failed, a_stack))
    (H0 : ¬ d_ok tk ln true → ∀ len : Nat → Int32, r_M tk (d_0 ln) a_tokens len → post 0 (f_known, f_traceEnd, f_failures, a_tokens, len, a_values, a_there, a_fairness, a_effects, a_goes, a_guards, a_enabled, a_depth, a_ways, a_alive, a_calm, a_traced, a_failed, a_stack)) : wpY_init_ post (f_known, f_traceEnd, f_failures, a_tokens, a_lengths, a_values, a_there, a_fairness, a_effects, a_goes, a_guards, a_enabled, a_depth, a_ways, a_alive, a_calm, a_traced, a_failed, a_stack) := by
  have hl18 : a_lengths 0 = nI (ln 18) := (hL 18 (by omega)).1
  have h12 := (hT 18 (by omega)).1
  have yes : d_ok tk ln true → wY_init__18 post f_known f_traceEnd f_failures a_tokens a_lengths a_values a_there a_fairness a_effects a_goes a_guards a_enabled a_depth a_ways a_alive a_calm a_traced a_failed a_stack := by
    intro ok
    unfold wY_init__18 wY_init__23
    exact y_take1 (to := 16) (by omega) hL hT fun tks len h => ⟨rfl, H1 ok tks len h⟩
  unfold wpY_init_
  dsimp only
  rw [hl18]
  refine pk_eq (ln 18) 0 (fun e => yes (Or.inl ⟨e, rfl⟩)) (fun e => y_isExpr (l := 18) (by omega) hL hT ?_)
  by_cases hw : e_wh (tk 18) (ln 18)
  · rw [e_w01_t hw]; exact br_f (by decide) (yes (Or.inr hw))
  · rw [e_w01_f hw]
    refine br_t rfl ?_
    unfold wY_init__23
    exact y_take0 hL fun len h => ⟨rfl, H0 (fun ok => ok.elim (fun q => e q.1) hw) len h⟩
theorem y_holdm {post : Int32 → SY → Prop} (hL : r_M tk ln a_tokens a_lengths) (hT : r_Tk tk ln)
    (H1 : d_ok tk ln true → ∀ tks len : Nat → Int32, r_M (d_tk tk 17) (d_ln ln 17) tks len → post 1 (0, f_traceEnd, f_failures, tks, len, a_values, a_there, a_fairness, a_effects, a_goes, a_guards, a_enabled, a_depth, a_ways, a_alive, a_calm, a_traced, a_failed, a_stack))
    (H0 : ¬ d_ok tk ln true → ∀ len : Nat → Int32, r_M tk (d_0 ln) a_tokens len → post 0 (f_known, f_traceEnd, f_failures, a_tokens, len, a_values, a_there, a_fairness, a_effects, a_goes, a_guards, a_enabled, a_depth, a_ways, a_alive, a_calm, a_traced, a_failed, a_stack)) : wpY_hold post (f_known, f_traceEnd, f_failures, a_tokens, a_lengths, a_values, a_there, a_fairness, a_effects, a_goes, a_guards, a_enabled, a_depth, a_ways, a_alive, a_calm, a_traced, a_failed, a_stack) := by
  have hl18 : a_lengths 0 = nI (ln 18) := (hL 18 (by omega)).1
  have h12 := (hT 18 (by omega)).1
  have yes : d_ok tk ln true → wY_hold_18 post f_known f_traceEnd f_failures a_tokens a_lengths a_values a_there a_fairness a_effects a_goes a_guards a_enabled a_depth a_ways a_alive a_calm a_traced a_failed a_stack := by
    intro ok
    unfold wY_hold_18 wY_hold_23
    exact y_take1 (to := 17) (by omega) hL hT fun tks len h => ⟨rfl, H1 ok tks len h⟩
  unfold wpY_hold
  dsimp only
  rw [hl18]
  refine pk_eq (ln 18) 0 (fun e => yes (Or.inl ⟨e, rfl⟩)) (fun e => y_isExpr (l := 18) (by omega) hL hT ?_)
  by_cases hw : e_wh (tk 18) (ln 18)
  · rw [e_w01_t hw]; exact br_f (by decide) (yes (Or.inr hw))
  · rw [e_w01_f hw]
    refine br_t rfl ?_
    unfold wY_hold_23
    exact y_take0 hL fun len h => ⟨rfl, H0 (fun ok => ok.elim (fun q => e q.1) hw) len h⟩
end Ih
end
section
/-! what is owed -/
theorem i_vc0 : wpX_init (fun u => wpY_init (fun v => i_Rel 0 u v)) := by
  have c0 : ¬ (3 : Int32) ≤ 0 := by decide
  have c1 : ¬ (3 : Int32) ≤ 0 + 1 := by decide
  have c2 : ¬ (3 : Int32) ≤ 0 + 1 + 1 := by decide
  have c3 : (3 : Int32) ≤ 0 + 1 + 1 + 1 := by decide
  have v0 : vp_in 0 3 := vp_in_nI (n := 0) (by omega) (by omega)
  have v1 : vp_in (0 + 1) 3 := vp_in_nI (n := 1) (by omega) (by omega)
  have v2 : vp_in (0 + 1 + 1) 3 := vp_in_nI (n := 2) (by omega) (by omega)
  have t0 : (0 : Int32).toNatClampNeg = 0 := by decide
  have t1 : (0 + 1 : Int32).toNatClampNeg = 1 := by decide
  have t2 : (0 + 1 + 1 : Int32).toNatClampNeg = 2 := by decide
  have nb : vp_nar .byte 1 = 1 := by rw [vp_nar_byte]; decide
  refine ⟨4, br_f c0 ⟨v0, nm_e (nm_e (br_f c1 ⟨v1, nm_e (nm_e (br_f c2 ⟨v2, nm_e (nm_e (br_t c3 ?_))⟩))⟩))⟩⟩
  refine ⟨4, br_f c0 ⟨v0, nm_e (nm_e (br_f c1 ⟨v1, nm_e (nm_e (br_f c2 ⟨v2, nm_e (nm_e (br_t c3 ?_))⟩))⟩))⟩⟩
  rw [t0, t1, t2, nb]
  have sz : ∀ v, v < 3 → upd (upd (upd (fun _ => 0) 0 1) 1 1) 2 1 v = nI ((fun _ => 1) v) := by
    intro v hv
    have : v = 0 ∨ v = 1 ∨ v = 2 := by omega
    rcases this with e | e | e <;> subst e
    · rw [pk_un (by omega), pk_un (by omega), pk_us]; rfl
    · rw [pk_un (by omega), pk_us]; rfl
    · rw [pk_us]; rfl
  have hW : r_W (fun _ => 1) (fun _ => 0) (fun _ => 0) (fun _ => 0) (fun _ _ => 0) (fun _ => 0) := by
    refine ⟨fun v _ => ⟨Nat.le_refl _, (by decide : (1 : Nat) ≤ 5)⟩, fun a _ => Or.inl rfl, fun i _ => Or.inl rfl, fun l _ => ⟨Nat.zero_le _, fun k hk => absurd hk (Nat.not_lt_zero _)⟩, fun l _ => Or.inl rfl, fun a _ q => absurd rfl q, fun a v _ _ q => absurd q (show ¬ (0 : Int32) = 1 by decide)⟩
  exact zi (z := fun _ => 1) (tk := fun _ _ => 0) (ln := fun _ => 0) (te := -1) (tr := fun _ => 0) (fl := 0) (fd := fun _ => 0) hW (Or.inl rfl) (by omega) sz (fun l hl => ⟨rfl, fun k hk => absurd hk (Nat.not_lt_zero _)⟩) (Or.inl rfl) (fun k hk q => rfl) (fun k hk => rfl) sz (fun l hl => ⟨rfl, fun k hk => absurd hk (Nat.not_lt_zero _)⟩) (Or.inl rfl) (fun k hk q => rfl) (fun k hk => rfl)
theorem i_vc_variable {k : Nat} {u : SX} {v : SY} (I : i_Rel k u v) (hk : k + 4 ≤ 2048) (v1 : Int32) (v2 : Int32) : wpX_variable (fun r u' => wpY_variable (fun r' v' => r' = r ∧ i_Rel (k + 4) u' v') v v1 v2) u v1 v2 := by
  refine zz (P := fun u v => wpX_variable (fun r u' => wpY_variable (fun r' v' => r' = r ∧ i_Rel (k + 4) u' v') v v1 v2) u v1 v2) I ?_
  intro f_made f_states f_initial f_reached f_deepest f_options0 f_options1 f_opened f_depthOf f_numbered f_waiting f_fairLow f_fairHigh f_partLow f_partHigh f_withLow f_withHigh f_backLow f_backHigh a_sizes a_list a_length a_there a_how a_fairness a_stack a_val a_goes a_steps a_guards a_enabled a_depth a_number a_low a_onStack a_open a_path a_ahead a_todo a_shown a_failed b_known b_tokens b_lengths b_values b_goes b_guards b_enabled b_depth b_ways b_alive b_calm b_traced b_failed b_stack z tk ln te tr fl fd hW hte hfl x1 x2 x3 x4 x5 y1 y2 y3 y4 y5
  have same : i_Rel (k + 4) (f_made, f_states, f_initial, f_reached, f_deepest, f_options0, f_options1, f_opened, f_depthOf, f_numbered, f_waiting, f_fairLow, f_fairHigh, f_partLow, f_partHigh, f_withLow, f_withHigh, te, nI fl, f_backLow, f_backHigh, a_sizes, a_list, a_length, a_there, a_how, a_fairness, a_stack, a_val, a_goes, a_steps, a_guards, a_enabled, a_depth, a_number, a_low, a_onStack, a_open, a_path, a_ahead, a_todo, a_shown, a_failed) (b_known, te, nI fl, b_tokens, b_lengths, b_values, a_there, a_fairness, a_how, b_goes, b_guards, b_enabled, b_depth, b_ways, b_alive, b_calm, b_traced, b_failed, b_stack) := zi hW hte hfl x1 x2 x3 x4 x5 y1 y2 y3 y4 y5
  have ybad : ¬ (∃ j, j < 3 ∧ v1 = nI j ∧ ∃ n, 1 ≤ n ∧ n ≤ 5 ∧ v2 = nI n) → wpY_variable (fun r' v' => r' = 0 ∧ i_Rel (k + 4) (f_made, f_states, f_initial, f_reached, f_deepest, f_options0, f_options1, f_opened, f_depthOf, f_numbered, f_waiting, f_fairLow, f_fairHigh, f_partLow, f_partHigh, f_withLow, f_withHigh, te, nI fl, f_backLow, f_backHigh, a_sizes, a_list, a_length, a_there, a_how, a_fairness, a_stack, a_val, a_goes, a_steps, a_guards, a_enabled, a_depth, a_number, a_low, a_onStack, a_open, a_path, a_ahead, a_todo, a_shown, a_failed) v') (b_known, te, nI fl, b_tokens, b_lengths, b_values, a_there, a_fairness, a_how, b_goes, b_guards, b_enabled, b_depth, b_ways, b_alive, b_calm, b_traced, b_failed, b_stack) v1 v2 := by
    intro hn
    unfold wpY_variable
    dsimp only
    refine y_in (n := 2) (by omega) (fun _ => br_t rfl ⟨rfl, same⟩) (fun j hj e => br_f (by decide) (y_inb (lo := 1) (hi := 5) (by omega) (by omega) (fun _ => br_t rfl ⟨rfl, same⟩) (fun n h1 h2 e2 => absurd ⟨j, hj, e, n, h1, h2, e2⟩ hn)))
  unfold wpX_variable
  dsimp only
  refine x_in (n := 3) (by omega) (fun hn => br_t rfl (ybad fun ⟨j, hj, e, _⟩ => hn (by rw [e]; exact vp_in_nI hj (by omega)))) (fun j hj e => br_f (by decide) ?_)
  refine br_c (fun h1 => ybad fun ⟨_, _, _, n, q1, q2, q3⟩ => ?_) (fun h1 => br_c (fun h5 => ?_) (fun h5 => ybad fun ⟨_, _, _, n, q1, q2, q3⟩ => ?_))
  · rw [q3] at h1; exact nI_nlt (a := n) (b := 1) q1 (by omega) h1
  · have h0 : ¬ v2 < 0 := fun q => h1 (Int32.lt_of_lt_of_le q (by decide))
    obtain ⟨n, hn, en⟩ := nI_of h0
    have n1 : 1 ≤ n := by
      rcases Nat.lt_or_ge n 1 with c | c
      · rw [en] at h1; exact absurd (nI_lt (a := n) (b := 1) c (by omega)) h1
      · exact c
    have n5 : n ≤ 5 := by
      rcases Nat.lt_or_ge 5 n with c | c
      · rw [en] at h5; exact absurd h5 (nI_ge (a := 5) (b := n) c hn)
      · exact c
    subst e; subst en
    have cj : (nI j).toNatClampNeg = j := nI_clamp (by omega)
    refine ⟨vp_in_nI hj (by omega), nm_r (e' := upd a_sizes j (nI n)) (by rw [cj, n8v (by omega)]) ?_⟩
    unfold wpY_variable
    dsimp only
    refine y_in (n := 2) (by omega) (fun q => absurd (vp_in_nI hj (by omega)) q) (fun j' hj' e => br_f (by decide) (y_inb (lo := 1) (hi := 5) (by omega) (by omega) (fun q => absurd ⟨n, n1, n5, rfl⟩ q) (fun n' _ _ e2 => br_f (by decide) ⟨vp_in_nI hj (by omega), nm_r (e' := upd b_values j (nI n)) (by rw [cj]) ⟨rfl, ?_⟩⟩)))
    have sz : ∀ (f : Nat → Int32), (∀ v, v < 3 → f v = nI (z v)) → ∀ v, v < 3 → upd f j (nI n) v = nI (fu z j n v) := by
      intro f hf v hv
      by_cases c : v = j
      · rw [c, pk_us, fu_s]
      · rw [pk_un c, fu_n c]; exact hf v hv
    obtain ⟨w1, w2⟩ := hW
    refine zi ⟨fun v hv => ?_, w2⟩ hte hfl (sz _ x1) x2 (Or.inl rfl) x4 x5 (sz _ y1) y2 (Or.inl rfl) y4 y5
    by_cases c : v = j
    · rw [c, fu_s]; exact ⟨n1, n5⟩
    · rw [fu_n c]; exact w1 v hv
  · rw [q3] at h5; exact h5 (nI_le (a := n) (b := 5) q2 (by omega))
theorem i_vc_token {k : Nat} {u : SX} {v : SY} (I : i_Rel k u v) (hk : k + 4 ≤ 2048) (v1 : Int32) : wpX_token (fun r u' => wpY_token (fun r' v' => r' = r ∧ i_Rel (k + 4) u' v') v v1) u v1 := by
  refine zz (P := fun u v => wpX_token (fun r u' => wpY_token (fun r' v' => r' = r ∧ i_Rel (k + 4) u' v') v v1) u v1) I ?_
  intro f_made f_states f_initial f_reached f_deepest f_options0 f_options1 f_opened f_depthOf f_numbered f_waiting f_fairLow f_fairHigh f_partLow f_partHigh f_withLow f_withHigh f_backLow f_backHigh a_sizes a_list a_length a_there a_how a_fairness a_stack a_val a_goes a_steps a_guards a_enabled a_depth a_number a_low a_onStack a_open a_path a_ahead a_todo a_shown a_failed b_known b_tokens b_lengths b_values b_goes b_guards b_enabled b_depth b_ways b_alive b_calm b_traced b_failed b_stack z tk ln te tr fl fd hW hte hfl x1 x2 x3 x4 x5 y1 y2 y3 y4 y5
  have same : i_Rel (k + 4) (f_made, f_states, f_initial, f_reached, f_deepest, f_options0, f_options1, f_opened, f_depthOf, f_numbered, f_waiting, f_fairLow, f_fairHigh, f_partLow, f_partHigh, f_withLow, f_withHigh, te, nI fl, f_backLow, f_backHigh, a_sizes, a_list, a_length, a_there, a_how, a_fairness, a_stack, a_val, a_goes, a_steps, a_guards, a_enabled, a_depth, a_number, a_low, a_onStack, a_open, a_path, a_ahead, a_todo, a_shown, a_failed) (b_known, te, nI fl, b_tokens, b_lengths, b_values, a_there, a_fairness, a_how, b_goes, b_guards, b_enabled, b_depth, b_ways, b_alive, b_calm, b_traced, b_failed, b_stack) := zi hW hte hfl x1 x2 x3 x4 x5 y1 y2 y3 y4 y5
  refine x_token x2 hW.2.2.2.1 (fun hn => y_token y2 hW.2.2.2.1 (fun _ => ⟨rfl, same⟩) (fun j h1 h2 h3 h4 => absurd ⟨j, h1, h2, h3, h4⟩ hn)) (fun j h1 h2 h3 h4 lst len hL => y_token y2 hW.2.2.2.1 (fun q => absurd ⟨j, h1, h2, h3, h4⟩ q) (fun j' h1' h2' _ _ tks len' hM => ⟨rfl, ?_⟩))
  have ej : j' = j := (nI_eq (by omega) (by omega)).mp (h2'.symm.trans h2)
  subst ej
  have cg : ∀ l, l < 17 → tk l = t_tk tk ln j' l ∧ ln l = t_ln ln l := fun l hl => by unfold t_tk t_ln; rw [if_neg (by omega), if_neg (by omega)]; exact ⟨rfl, rfl⟩
  have cg2 : ∀ l, l < 18 → tk l = t_tk tk ln j' l ∧ ln l = t_ln ln l := fun l hl => by unfold t_tk t_ln; rw [if_neg (by omega), if_neg (by omega)]; exact ⟨rfl, rfl⟩
  obtain ⟨w1, w2, w3, w4, w5, w6, w7⟩ := hW
  refine zi ⟨w1, w2, w3, fun l hl => ?_, fun l hl => ?_, fun a ha q => ?_, fun a v ha hv q => ?_⟩ hte hfl x1 hL (x3.elim Or.inl fun q => Or.inr ⟨q.1, x_D_c cg q.2⟩) x4 x5 y1 hM (y3.elim Or.inl fun q => Or.inr ⟨q.1, y_D_c cg q.2⟩) y4 y5
  · by_cases c : l = 18
    · unfold t_tk t_ln
      rw [c, if_pos rfl, if_pos rfl]
      refine ⟨by omega, fun k hk => ?_⟩
      by_cases c2 : k = ln 18
      · rw [if_pos c2]; exact h3
      · rw [if_neg c2]; exact (w4 18 (by omega)).2 k (by omega)
    · rw [← (cg2 l (by omega)).1, ← (cg2 l (by omega)).2]; exact w4 l hl
  · rw [← (cg2 l hl).1, ← (cg2 l hl).2]; exact w5 l hl
  · rw [← (cg2 a (by omega)).1, ← (cg2 a (by omega)).2]; exact w6 a ha q
  · rw [← (cg2 _ (by omega)).1, ← (cg2 _ (by omega)).2]; exact w7 a v ha hv q
theorem cg_0 {tk : Nat → Nat → Nat} {ln : Nat → Nat} : ∀ l, l < 17 → tk l = tk l ∧ ln l = d_0 ln l := fun l hl => ⟨rfl, by unfold d_0; rw [if_neg (by omega)]⟩
theorem cg_17 {tk : Nat → Nat → Nat} {ln : Nat → Nat} : ∀ l, l < 17 → tk l = d_tk tk 17 l ∧ ln l = d_ln ln 17 l := fun l hl => by unfold d_tk d_ln; rw [if_neg (by omega), if_neg (by omega), if_neg (by omega)]; exact ⟨rfl, rfl⟩
theorem i_vc_action {k : Nat} {u : SX} {v : SY} (I : i_Rel k u v) (hk : k + 4 ≤ 2048) (v1 : Int32) : wpX_action (fun r u' => wpY_action (fun r' v' => r' = r ∧ i_Rel (k + 4) u' v') v v1) u v1 := by
  refine zz (P := fun u v => wpX_action (fun r u' => wpY_action (fun r' v' => r' = r ∧ i_Rel (k + 4) u' v') v v1) u v1) I ?_
  intro f_made f_states f_initial f_reached f_deepest f_options0 f_options1 f_opened f_depthOf f_numbered f_waiting f_fairLow f_fairHigh f_partLow f_partHigh f_withLow f_withHigh f_backLow f_backHigh a_sizes a_list a_length a_there a_how a_fairness a_stack a_val a_goes a_steps a_guards a_enabled a_depth a_number a_low a_onStack a_open a_path a_ahead a_todo a_shown a_failed b_known b_tokens b_lengths b_values b_goes b_guards b_enabled b_depth b_ways b_alive b_calm b_traced b_failed b_stack z tk ln te tr fl fd hW hte hfl x1 x2 x3 x4 x5 y1 y2 y3 y4 y5
  refine x_action x2 hW.2.2.2.1 (fun hn len hL => y_action y2 hW.2.2.2.1 (fun _ len' hM => ⟨rfl, ?_⟩) (fun a ha e hw => absurd ⟨by rw [e]; exact vp_in_nI ha (by omega), hw⟩ hn)) (fun a ha e hw lst len hL => y_action y2 hW.2.2.2.1 (fun q => absurd ⟨by rw [e]; exact vp_in_nI ha (by omega), hw⟩ q) (fun a' ha' e' _ tks len' hM => ⟨rfl, ?_⟩))
  · exact zi (r_W_0 hW) hte hfl x1 hL (x3.elim Or.inl fun q => Or.inr ⟨q.1, x_D_c cg_0 q.2⟩) x4 x5 y1 hM (y3.elim Or.inl fun q => Or.inr ⟨q.1, y_D_c cg_0 q.2⟩) y4 y5
  · have ea : a' = a := (nI_eq (by omega) (by omega)).mp (e'.symm.trans e)
    subst ea
    refine zi (r_W_mv hW (by omega) (Or.inr hw) (fun b hb => ?_) (fun i hi => ?_) (fun b hb q => ?_) (fun b v hb hv q => ?_)) hte hfl x1 hL (Or.inl rfl) x4 x5 y1 hM (Or.inl rfl) y4 y5
    · by_cases c : b = a'
      · rw [c, pk_us]; exact Or.inl rfl
      · rw [pk_un c]; exact hW.2.1 b hb
    · unfold h_0
      by_cases c2 : i = 3 * a' + 2
      · rw [c2, pk_us]; exact Or.inl rfl
      · rw [pk_un c2]
        by_cases c1 : i = 3 * a' + 1
        · rw [c1, pk_us]; exact Or.inl rfl
        · rw [pk_un c1]
          by_cases c0 : i = 3 * a'
          · rw [c0, pk_us]; exact Or.inl rfl
          · rw [pk_un c0]; exact hW.2.2.1 i hi
    · by_cases c : b = a'
      · exact Or.inr ⟨c, hw⟩
      · rw [pk_un c] at q; exact Or.inl ⟨c, q⟩
    · refine Or.inl ⟨by omega, ?_⟩
      unfold h_0 at q
      by_cases c : b = a'
      · exfalso
        subst c
        have : v = 0 ∨ v = 1 ∨ v = 2 := by omega
        rcases this with e | e | e <;> subst e
        · rw [pk_un (by omega), pk_un (by omega), Nat.add_zero, pk_us] at q; exact absurd q (by decide)
        · rw [pk_un (by omega), pk_us] at q; exact absurd q (by decide)
        · rw [pk_us] at q; exact absurd q (by decide)
      · rw [pk_un (by omega), pk_un (by omega), pk_un (by omega)] at q; exact q
theorem i_vc_effect {k : Nat} {u : SX} {v : SY} (I : i_Rel k u v) (hk : k + 4 ≤ 2048) (v1 : Int32) (v2 : Int32) (v3 : Int32) : wpX_effect (fun r u' => wpY_effect (fun r' v' => r' = r ∧ i_Rel (k + 4) u' v') v v1 v2 (lw_bz v3)) u v1 v2 (lw_bz v3) := by
  refine zz (P := fun u v => wpX_effect (fun r u' => wpY_effect (fun r' v' => r' = r ∧ i_Rel (k + 4) u' v') v v1 v2 (lw_bz v3)) u v1 v2 (lw_bz v3)) I ?_
  intro f_made f_states f_initial f_reached f_deepest f_options0 f_options1 f_opened f_depthOf f_numbered f_waiting f_fairLow f_fairHigh f_partLow f_partHigh f_withLow f_withHigh f_backLow f_backHigh a_sizes a_list a_length a_there a_how a_fairness a_stack a_val a_goes a_steps a_guards a_enabled a_depth a_number a_low a_onStack a_open a_path a_ahead a_todo a_shown a_failed b_known b_tokens b_lengths b_values b_goes b_guards b_enabled b_depth b_ways b_alive b_calm b_traced b_failed b_stack z tk ln te tr fl fd hW hte hfl x1 x2 x3 x4 x5 y1 y2 y3 y4 y5
  refine x_effect x2 hW.2.2.2.1 (fun hn len hL => y_effect y2 hW.2.2.2.1 (fun _ len' hM => ⟨rfl, ?_⟩) (fun a w ha hw e1 e2 e3 e4 => absurd ⟨a, w, ha, hw, e1, e2, e3, e4⟩ hn)) (fun a w ha hw e1 e2 e3 e4 lst len hL => y_effect y2 hW.2.2.2.1 (fun q => absurd ⟨a, w, ha, hw, e1, e2, e3, e4⟩ q) (fun a' w' ha' hw' e1' e2' _ _ tks len' hM => ⟨rfl, ?_⟩))
  · exact zi (r_W_0 hW) hte hfl x1 hL (x3.elim Or.inl fun q => Or.inr ⟨q.1, x_D_c cg_0 q.2⟩) x4 x5 y1 hM (y3.elim Or.inl fun q => Or.inr ⟨q.1, y_D_c cg_0 q.2⟩) y4 y5
  · have ea : a' = a := (nI_eq (by omega) (by omega)).mp (e1'.symm.trans e1)
    have ew : w' = w := (nI_eq (by omega) (by omega)).mp (e2'.symm.trans e2)
    subst ea; subst ew
    refine zi (r_W_mv hW (by omega) (e4.elim (fun q => Or.inl q.1) Or.inr) hW.2.1 (fun i hi => ?_) (fun b hb q => Or.inl ⟨by omega, q⟩) (fun b v hb hv q => ?_)) hte hfl x1 hL (Or.inl rfl) x4 x5 y1 hM (Or.inl rfl) y4 y5
    · by_cases c : i = 3 * a' + w'
      · rw [c, pk_us]
        unfold h_k
        split
        · split
          · exact Or.inl rfl
          · exact Or.inr (Or.inr rfl)
        · exact Or.inr (Or.inl rfl)
      · rw [pk_un c]; exact hW.2.2.1 i hi
    · by_cases c : 3 * b + v = 3 * a' + w'
      · refine Or.inr ⟨by omega, ?_⟩
        rw [c, pk_us] at q
        unfold h_k at q
        by_cases c2 : ln 18 = 0
        · rw [if_pos c2] at q
          split at q <;> exact absurd q (by decide)
        · exact e4.elim (fun q => absurd q.1 c2) id
      · rw [pk_un c] at q; exact Or.inl ⟨by omega, q⟩
theorem i_vc_fair {k : Nat} {u : SX} {v : SY} (I : i_Rel k u v) (hk : k + 4 ≤ 2048) (v1 : Int32) (v2 : Int32) : wpX_fair (fun r u' => wpY_fair (fun r' v' => r' = r ∧ i_Rel (k + 4) u' v') v v1 v2) u v1 v2 := by
  refine zz (P := fun u v => wpX_fair (fun r u' => wpY_fair (fun r' v' => r' = r ∧ i_Rel (k + 4) u' v') v v1 v2) u v1 v2) I ?_
  intro f_made f_states f_initial f_reached f_deepest f_options0 f_options1 f_opened f_depthOf f_numbered f_waiting f_fairLow f_fairHigh f_partLow f_partHigh f_withLow f_withHigh f_backLow f_backHigh a_sizes a_list a_length a_there a_how a_fairness a_stack a_val a_goes a_steps a_guards a_enabled a_depth a_number a_low a_onStack a_open a_path a_ahead a_todo a_shown a_failed b_known b_tokens b_lengths b_values b_goes b_guards b_enabled b_depth b_ways b_alive b_calm b_traced b_failed b_stack z tk ln te tr fl fd hW hte hfl x1 x2 x3 x4 x5 y1 y2 y3 y4 y5
  have same : i_Rel (k + 4) (f_made, f_states, f_initial, f_reached, f_deepest, f_options0, f_options1, f_opened, f_depthOf, f_numbered, f_waiting, f_fairLow, f_fairHigh, f_partLow, f_partHigh, f_withLow, f_withHigh, te, nI fl, f_backLow, f_backHigh, a_sizes, a_list, a_length, a_there, a_how, a_fairness, a_stack, a_val, a_goes, a_steps, a_guards, a_enabled, a_depth, a_number, a_low, a_onStack, a_open, a_path, a_ahead, a_todo, a_shown, a_failed) (b_known, te, nI fl, b_tokens, b_lengths, b_values, a_there, a_fairness, a_how, b_goes, b_guards, b_enabled, b_depth, b_ways, b_alive, b_calm, b_traced, b_failed, b_stack) := zi hW hte hfl x1 x2 x3 x4 x5 y1 y2 y3 y4 y5
  have ybad : ¬ (∃ a, a < 4 ∧ v1 = nI a ∧ a_there a ≠ 0 ∧ ∃ n, n < 3 ∧ v2 = nI n) → wpY_fair (fun r' v' => r' = 0 ∧ i_Rel (k + 4) (f_made, f_states, f_initial, f_reached, f_deepest, f_options0, f_options1, f_opened, f_depthOf, f_numbered, f_waiting, f_fairLow, f_fairHigh, f_partLow, f_partHigh, f_withLow, f_withHigh, te, nI fl, f_backLow, f_backHigh, a_sizes, a_list, a_length, a_there, a_how, a_fairness, a_stack, a_val, a_goes, a_steps, a_guards, a_enabled, a_depth, a_number, a_low, a_onStack, a_open, a_path, a_ahead, a_todo, a_shown, a_failed) v') (b_known, te, nI fl, b_tokens, b_lengths, b_values, a_there, a_fairness, a_how, b_goes, b_guards, b_enabled, b_depth, b_ways, b_alive, b_calm, b_traced, b_failed, b_stack) v1 v2 := by
    intro hn
    unfold wpY_fair
    dsimp only
    refine y_in (n := 3) (by omega) (fun _ => br_t rfl ⟨rfl, same⟩) (fun a ha e => br_f (by decide) ⟨by rw [e]; exact vp_in_nI ha (by omega), br_c (fun _ => ⟨rfl, same⟩) (fun eth => y_in (n := 2) (by omega) (fun _ => br_t rfl ⟨rfl, same⟩) (fun n hn' e2 => absurd ⟨a, ha, e, ?_, n, hn', e2⟩ hn))⟩)
    rw [e, nI_clamp (by omega)] at eth; exact eth
  unfold wpX_fair
  dsimp only
  refine x_in (n := 4) (by omega) (fun hn => br_t rfl (ybad fun ⟨a, ha, e, _⟩ => hn (by rw [e]; exact vp_in_nI ha (by omega)))) (fun a ha e => br_f (by decide) ?_)
  subst e
  have ca : (nI a).toNatClampNeg = a := nI_clamp (by omega)
  have au : ∀ a', a' < 4 → nI a = nI a' → a' = a := fun a' h' e => ((nI_eq (by omega) (by omega)).mp e).symm
  refine ⟨vp_in_nI ha (by omega), br_c (fun e => ybad fun ⟨a', ha', e', q, _⟩ => q (by rw [au a' ha' e']; rw [ca] at e; exact e)) (fun eth => x_in (n := 3) (by omega) (fun hn => br_t rfl (ybad fun ⟨_, _, _, _, n, hn', e⟩ => hn (by rw [e]; exact vp_in_nI hn' (by omega)))) (fun n hn e => br_f (by decide) ⟨vp_in_nI ha (by omega), ?_⟩))⟩
  subst e
  refine nm_r (e' := upd a_fairness a (nI n)) (by rw [ca, n8v (by omega)]) ?_
  unfold wpY_fair
  dsimp only
  refine y_in (n := 3) (by omega) (fun q => absurd (vp_in_nI ha (by omega)) q) (fun a' ha' e => br_f (by decide) ⟨vp_in_nI ha (by omega), br_f eth (y_in (n := 2) (by omega) (fun q => absurd (vp_in_nI hn (by omega)) q) (fun n' hn' e2 => br_f (by decide) ⟨vp_in_nI ha (by omega), nm_r (e' := upd a_fairness a (nI n)) (by rw [ca]) ⟨rfl, ?_⟩⟩))⟩)
  obtain ⟨w1, w2, w3⟩ := hW
  refine zi ⟨w1, fun b hb => ?_, w3⟩ hte hfl x1 x2 x3 x4 x5 y1 y2 y3 y4 y5
  by_cases c : b = a
  · rw [c, pk_us]
    have : n = 0 ∨ n = 1 ∨ n = 2 := by omega
    rcases this with e | e | e <;> subst e
    · exact Or.inl rfl
    · exact Or.inr (Or.inl rfl)
    · exact Or.inr (Or.inr rfl)
  · rw [pk_un c]; exact w2 b hb
theorem i_vc_drop {k : Nat} {u : SX} {v : SY} (I : i_Rel k u v) (hk : k + 4 ≤ 2048) (v1 : Int32) : wpX_drop (fun r u' => wpY_drop (fun r' v' => r' = r ∧ i_Rel (k + 4) u' v') v v1) u v1 := by
  refine zz (P := fun u v => wpX_drop (fun r u' => wpY_drop (fun r' v' => r' = r ∧ i_Rel (k + 4) u' v') v v1) u v1) I ?_
  intro f_made f_states f_initial f_reached f_deepest f_options0 f_options1 f_opened f_depthOf f_numbered f_waiting f_fairLow f_fairHigh f_partLow f_partHigh f_withLow f_withHigh f_backLow f_backHigh a_sizes a_list a_length a_there a_how a_fairness a_stack a_val a_goes a_steps a_guards a_enabled a_depth a_number a_low a_onStack a_open a_path a_ahead a_todo a_shown a_failed b_known b_tokens b_lengths b_values b_goes b_guards b_enabled b_depth b_ways b_alive b_calm b_traced b_failed b_stack z tk ln te tr fl fd hW hte hfl x1 x2 x3 x4 x5 y1 y2 y3 y4 y5
  have same : i_Rel (k + 4) (f_made, f_states, f_initial, f_reached, f_deepest, f_options0, f_options1, f_opened, f_depthOf, f_numbered, f_waiting, f_fairLow, f_fairHigh, f_partLow, f_partHigh, f_withLow, f_withHigh, te, nI fl, f_backLow, f_backHigh, a_sizes, a_list, a_length, a_there, a_how, a_fairness, a_stack, a_val, a_goes, a_steps, a_guards, a_enabled, a_depth, a_number, a_low, a_onStack, a_open, a_path, a_ahead, a_todo, a_shown, a_failed) (b_known, te, nI fl, b_tokens, b_lengths, b_values, a_there, a_fairness, a_how, b_goes, b_guards, b_enabled, b_depth, b_ways, b_alive, b_calm, b_traced, b_failed, b_stack) := zi hW hte hfl x1 x2 x3 x4 x5 y1 y2 y3 y4 y5
  have ybad : ¬ (∃ a, a < 4 ∧ v1 = nI a ∧ a_there a ≠ 0) → wpY_drop (fun r' v' => r' = 0 ∧ i_Rel (k + 4) (f_made, f_states, f_initial, f_reached, f_deepest, f_options0, f_options1, f_opened, f_depthOf, f_numbered, f_waiting, f_fairLow, f_fairHigh, f_partLow, f_partHigh, f_withLow, f_withHigh, te, nI fl, f_backLow, f_backHigh, a_sizes, a_list, a_length, a_there, a_how, a_fairness, a_stack, a_val, a_goes, a_steps, a_guards, a_enabled, a_depth, a_number, a_low, a_onStack, a_open, a_path, a_ahead, a_todo, a_shown, a_failed) v') (b_known, te, nI fl, b_tokens, b_lengths, b_values, a_there, a_fairness, a_how, b_goes, b_guards, b_enabled, b_depth, b_ways, b_alive, b_calm, b_traced, b_failed, b_stack) v1 := by
    intro hn
    unfold wpY_drop
    dsimp only
    refine y_in (n := 3) (by omega) (fun _ => br_t rfl ⟨rfl, same⟩) (fun a ha e => br_f (by decide) ⟨by rw [e]; exact vp_in_nI ha (by omega), br_c (fun _ => ⟨rfl, same⟩) (fun eth => absurd ⟨a, ha, e, ?_⟩ hn)⟩)
    rw [e, nI_clamp (by omega)] at eth; exact eth
  unfold wpX_drop
  dsimp only
  refine x_in (n := 4) (by omega) (fun hn => br_t rfl (ybad fun ⟨a, ha, e, _⟩ => hn (by rw [e]; exact vp_in_nI ha (by omega)))) (fun a ha e => br_f (by decide) ?_)
  subst e
  have ca : (nI a).toNatClampNeg = a := nI_clamp (by omega)
  have au : ∀ a', a' < 4 → nI a = nI a' → a' = a := fun a' h' e => ((nI_eq (by omega) (by omega)).mp e).symm
  have vA : vp_in (nI a) 4 := vp_in_nI ha (by omega)
  refine ⟨vA, br_c (fun e => ybad fun ⟨a', ha', e', q⟩ => q (by rw [au a' ha' e']; rw [ca] at e; exact e)) (fun eth => ⟨vA, nm_r (e' := upd a_there a 0) (by rw [ca, nb0]) ?_⟩)⟩
  unfold wpY_drop
  dsimp only
  refine y_in (n := 3) (by omega) (fun q => absurd vA q) (fun a' ha' e => br_f (by decide) ⟨vA, br_f eth ⟨vA, nm_r (e' := upd a_there a 0) (by rw [ca, nb0]) ⟨rfl, ?_⟩⟩⟩)
  obtain ⟨w1, w2, w3, w4, w5, w6, w7⟩ := hW
  refine zi ⟨w1, w2, w3, w4, w5, fun b hb q => ?_, w7⟩ hte hfl x1 x2 (Or.inl rfl) x4 x5 y1 y2 (Or.inl rfl) y4 y5
  by_cases c : b = a
  · rw [c, pk_us] at q; exact absurd rfl q
  · rw [pk_un c] at q; exact w6 b hb q
theorem i_vc_init_ {k : Nat} {u : SX} {v : SY} (I : i_Rel k u v) (hk : k + 4 ≤ 2048) : wpX_init_ (fun r u' => wpY_init_ (fun r' v' => r' = r ∧ i_Rel (k + 4) u' v') v) u := by
  refine zz (P := fun u v => wpX_init_ (fun r u' => wpY_init_ (fun r' v' => r' = r ∧ i_Rel (k + 4) u' v') v) u) I ?_
  intro f_made f_states f_initial f_reached f_deepest f_options0 f_options1 f_opened f_depthOf f_numbered f_waiting f_fairLow f_fairHigh f_partLow f_partHigh f_withLow f_withHigh f_backLow f_backHigh a_sizes a_list a_length a_there a_how a_fairness a_stack a_val a_goes a_steps a_guards a_enabled a_depth a_number a_low a_onStack a_open a_path a_ahead a_todo a_shown a_failed b_known b_tokens b_lengths b_values b_goes b_guards b_enabled b_depth b_ways b_alive b_calm b_traced b_failed b_stack z tk ln te tr fl fd hW hte hfl x1 x2 x3 x4 x5 y1 y2 y3 y4 y5
  unfold wpX_init_
  dsimp only
  refine x_take (e := true) (to := 16) (by omega) x2 hW.2.2.2.1 (fun ok lst len hL => br_f (by decide) ⟨rfl, ?_⟩) (fun ok len hL => br_t rfl ⟨rfl, ?_⟩)
  · refine y_init_m y2 hW.2.2.2.1 (fun _ tks len' hM => ⟨rfl, ?_⟩) (fun q => absurd ok q)
    exact zi (r_W_mv hW (by omega) (ok.elim (fun q => Or.inl q.1) Or.inr) hW.2.1 hW.2.2.1 (fun b hb q => Or.inl ⟨by omega, q⟩) (fun b v hb hv q => Or.inl ⟨by omega, q⟩)) hte hfl x1 hL (Or.inl rfl) x4 x5 y1 hM (Or.inl rfl) y4 y5
  · refine y_init_m y2 hW.2.2.2.1 (fun q => absurd q ok) (fun _ len' hM => ⟨rfl, ?_⟩)
    exact zi (r_W_0 hW) hte hfl x1 hL (x3.elim Or.inl fun q => Or.inr ⟨q.1, x_D_c cg_0 q.2⟩) x4 x5 y1 hM (y3.elim Or.inl fun q => Or.inr ⟨q.1, y_D_c cg_0 q.2⟩) y4 y5
theorem i_vc_hold {k : Nat} {u : SX} {v : SY} (I : i_Rel k u v) (hk : k + 4 ≤ 2048) : wpX_hold (fun r u' => wpY_hold (fun r' v' => r' = r ∧ i_Rel (k + 4) u' v') v) u := by
  refine zz (P := fun u v => wpX_hold (fun r u' => wpY_hold (fun r' v' => r' = r ∧ i_Rel (k + 4) u' v') v) u) I ?_
  intro f_made f_states f_initial f_reached f_deepest f_options0 f_options1 f_opened f_depthOf f_numbered f_waiting f_fairLow f_fairHigh f_partLow f_partHigh f_withLow f_withHigh f_backLow f_backHigh a_sizes a_list a_length a_there a_how a_fairness a_stack a_val a_goes a_steps a_guards a_enabled a_depth a_number a_low a_onStack a_open a_path a_ahead a_todo a_shown a_failed b_known b_tokens b_lengths b_values b_goes b_guards b_enabled b_depth b_ways b_alive b_calm b_traced b_failed b_stack z tk ln te tr fl fd hW hte hfl x1 x2 x3 x4 x5 y1 y2 y3 y4 y5
  unfold wpX_hold
  dsimp only
  refine x_take (e := true) (to := 17) (by omega) x2 hW.2.2.2.1 (fun ok lst len hL => ⟨rfl, ?_⟩) (fun ok len hL => ⟨rfl, ?_⟩)
  · refine y_holdm y2 hW.2.2.2.1 (fun _ tks len' hM => ⟨rfl, ?_⟩) (fun q => absurd ok q)
    exact zi (r_W_mv hW (by omega) (ok.elim (fun q => Or.inl q.1) Or.inr) hW.2.1 hW.2.2.1 (fun b hb q => Or.inl ⟨by omega, q⟩) (fun b v hb hv q => Or.inl ⟨by omega, q⟩)) hte hfl x1 hL (x3.elim Or.inl fun q => Or.inr ⟨q.1, x_D_c cg_17 q.2⟩) x4 x5 y1 hM (Or.inl rfl) y4 y5
  · refine y_holdm y2 hW.2.2.2.1 (fun q => absurd q ok) (fun _ len' hM => ⟨rfl, ?_⟩)
    exact zi (r_W_0 hW) hte hfl x1 hL (x3.elim Or.inl fun q => Or.inr ⟨q.1, x_D_c cg_0 q.2⟩) x4 x5 y1 hM (y3.elim Or.inl fun q => Or.inr ⟨q.1, y_D_c cg_0 q.2⟩) y4 y5
theorem i_vc_count {k : Nat} {u : SX} {v : SY} (I : i_Rel k u v) (hk : k + 4 ≤ 2048) (v1 : Int32) : wpX_count (fun r u' => wpY_count (fun r' v' => r' = r ∧ i_Rel (k + 4) u' v') v v1) u v1 := by
  refine zz (P := fun u v => wpX_count (fun r u' => wpY_count (fun r' v' => r' = r ∧ i_Rel (k + 4) u' v') v v1) u v1) I ?_
  intro f_made f_states f_initial f_reached f_deepest f_options0 f_options1 f_opened f_depthOf f_numbered f_waiting f_fairLow f_fairHigh f_partLow f_partHigh f_withLow f_withHigh f_backLow f_backHigh a_sizes a_list a_length a_there a_how a_fairness a_stack a_val a_goes a_steps a_guards a_enabled a_depth a_number a_low a_onStack a_open a_path a_ahead a_todo a_shown a_failed b_known b_tokens b_lengths b_values b_goes b_guards b_enabled b_depth b_ways b_alive b_calm b_traced b_failed b_stack z tk ln te tr fl fd hW hte hfl x1 x2 x3 x4 x5 y1 y2 y3 y4 y5
  refine x_count hW x1 x2 x3 (fun r hr vl st goes steps guards enabled depth path o0 o1 i0 r0 d0 hD => y_count hW y1 y2 y3 (fun r' hr' st' goes' guards' enabled' dep' hD' => ⟨c_A_u hW.1 hr' hr, ?_⟩))
  exact zi hW hte hfl x1 x2 (Or.inr ⟨rfl, hD⟩) x4 x5 y1 y2 (Or.inr ⟨rfl, hD'⟩) y4 y5
theorem i_vc_state {k : Nat} {u : SX} {v : SY} (I : i_Rel k u v) (hk : k + 4 ≤ 2048) (v1 : Int32) (v2 : Int32) : wpX_state (fun r u' => wpY_state (fun r' v' => r' = r ∧ i_Rel (k + 4) u' v') v v1 v2) u v1 v2 := by
  refine zz (P := fun u v => wpX_state (fun r u' => wpY_state (fun r' v' => r' = r ∧ i_Rel (k + 4) u' v') v v1 v2) u v1 v2) I ?_
  intro f_made f_states f_initial f_reached f_deepest f_options0 f_options1 f_opened f_depthOf f_numbered f_waiting f_fairLow f_fairHigh f_partLow f_partHigh f_withLow f_withHigh f_backLow f_backHigh a_sizes a_list a_length a_there a_how a_fairness a_stack a_val a_goes a_steps a_guards a_enabled a_depth a_number a_low a_onStack a_open a_path a_ahead a_todo a_shown a_failed b_known b_tokens b_lengths b_values b_goes b_guards b_enabled b_depth b_ways b_alive b_calm b_traced b_failed b_stack z tk ln te tr fl fd hW hte hfl x1 x2 x3 x4 x5 y1 y2 y3 y4 y5
  refine x_state hW x1 x2 x3 (fun r hr vl st goes steps guards enabled depth path o0 o1 i0 r0 d0 hD => y_state hW y1 y2 y3 (fun r' hr' => ⟨st_A_u hW.1 hr' hr, ?_⟩) (fun r' hr' st' goes' guards' enabled' dep' hD' => ⟨st_A_u hW.1 hr' hr, ?_⟩))
  · exact zi hW hte hfl x1 x2 (Or.inr ⟨rfl, hD⟩) x4 x5 y1 y2 y3 y4 y5
  · exact zi hW hte hfl x1 x2 (Or.inr ⟨rfl, hD⟩) x4 x5 y1 y2 (Or.inr ⟨rfl, hD'⟩) y4 y5
theorem i_vc_leads {k : Nat} {u : SX} {v : SY} (I : i_Rel k u v) (hk : k + 4 ≤ 2048) (v1 : Int32) (v2 : Int32) (v3 : Int32) : wpX_leads (fun r u' => wpY_leads (fun r' v' => r' = r ∧ i_Rel (k + 4) u' v') v v1 v2 v3) u v1 v2 v3 := by
  refine zz (P := fun u v => wpX_leads (fun r u' => wpY_leads (fun r' v' => r' = r ∧ i_Rel (k + 4) u' v') v v1 v2 v3) u v1 v2 v3) I ?_
  intro f_made f_states f_initial f_reached f_deepest f_options0 f_options1 f_opened f_depthOf f_numbered f_waiting f_fairLow f_fairHigh f_partLow f_partHigh f_withLow f_withHigh f_backLow f_backHigh a_sizes a_list a_length a_there a_how a_fairness a_stack a_val a_goes a_steps a_guards a_enabled a_depth a_number a_low a_onStack a_open a_path a_ahead a_todo a_shown a_failed b_known b_tokens b_lengths b_values b_goes b_guards b_enabled b_depth b_ways b_alive b_calm b_traced b_failed b_stack z tk ln te tr fl fd hW hte hfl x1 x2 x3 x4 x5 y1 y2 y3 y4 y5
  refine x_leads hW x1 x2 x3 (fun r hr vl st goes steps guards enabled depth path o0 o1 i0 r0 d0 hD => y_leads hW y1 y2 y3 (fun r' hr' => ⟨le_A_u hr' hr, ?_⟩) (fun r' hr' st' goes' guards' enabled' dep' hD' => ⟨le_A_u hr' hr, ?_⟩))
  · exact zi hW hte hfl x1 x2 (Or.inr ⟨rfl, hD⟩) x4 x5 y1 y2 y3 y4 y5
  · exact zi hW hte hfl x1 x2 (Or.inr ⟨rfl, hD⟩) x4 x5 y1 y2 (Or.inr ⟨rfl, hD'⟩) y4 y5
theorem i_vc_invariant {k : Nat} {u : SX} {v : SY} (I : i_Rel k u v) (hk : k + 4 ≤ 2048) : wpX_invariant (fun r u' => wpY_invariant (fun r' v' => r' = r ∧ i_Rel (k + 4) u' v') v) u := by
  refine zz (P := fun u v => wpX_invariant (fun r u' => wpY_invariant (fun r' v' => r' = r ∧ i_Rel (k + 4) u' v') v) u) I ?_
  intro f_made f_states f_initial f_reached f_deepest f_options0 f_options1 f_opened f_depthOf f_numbered f_waiting f_fairLow f_fairHigh f_partLow f_partHigh f_withLow f_withHigh f_backLow f_backHigh a_sizes a_list a_length a_there a_how a_fairness a_stack a_val a_goes a_steps a_guards a_enabled a_depth a_number a_low a_onStack a_open a_path a_ahead a_todo a_shown a_failed b_known b_tokens b_lengths b_values b_goes b_guards b_enabled b_depth b_ways b_alive b_calm b_traced b_failed b_stack z tk ln te tr fl fd hW hte hfl x1 x2 x3 x4 x5 y1 y2 y3 y4 y5
  have hN := s_N_le hW.1
  have same : i_Rel (k + 4) (f_made, f_states, f_initial, f_reached, f_deepest, f_options0, f_options1, f_opened, f_depthOf, f_numbered, f_waiting, f_fairLow, f_fairHigh, f_partLow, f_partHigh, f_withLow, f_withHigh, te, nI fl, f_backLow, f_backHigh, a_sizes, a_list, a_length, a_there, a_how, a_fairness, a_stack, a_val, a_goes, a_steps, a_guards, a_enabled, a_depth, a_number, a_low, a_onStack, a_open, a_path, a_ahead, a_todo, a_shown, a_failed) (b_known, te, nI fl, b_tokens, b_lengths, b_values, a_there, a_fairness, a_how, b_goes, b_guards, b_enabled, b_depth, b_ways, b_alive, b_calm, b_traced, b_failed, b_stack) := zi hW hte hfl x1 x2 x3 x4 x5 y1 y2 y3 y4 y5
  refine x_invariant hW x1 x2 x3 (fun hn => y_invariant hW y1 y2 y3 (fun _ => ⟨rfl, same⟩) (fun q => absurd q hn) (fun q => absurd q hn)) (fun hw d f shown hdN hvL hvT hsh vl st lo hi goes steps guards enabled depth path o0 o1 i0 r0 d0 hD => y_invariant hW y1 y2 y3 (fun q => absurd hw q) (fun _ d' f' tr' hdN' hvL' hvT' htr' st' goes' al' guards' enabled' dep' hD' => ?_) (fun _ hvL' => absurd (v_L_u hvL hvL') (d_m1 (by omega)))) (fun hw hvL vl st goes steps guards enabled depth path o0 o1 i0 r0 d0 hD => y_invariant hW y1 y2 y3 (fun q => absurd hw q) (fun _ d' f' tr' hdN' hvL' => absurd (v_L_u hvL' hvL) (d_m1 (by omega))) (fun _ hvL' st' goes' guards' enabled' dep' hD' => ⟨rfl, ?_⟩))
  · have e := v_L_u hvL' hvL
    have ed : d' = d := (nI_eq (by omega) (by omega)).mp e
    subst ed
    refine ⟨rfl, ?_⟩
    have le : ∀ j, j < 125 → nI j ≤ nI d' → j ≤ d' := fun j hj q => (nI_leI (by omega) (by omega)).mp q
    have hu := v_T_u hvT' hvT
    refine zi (tr := fun k => nI (f k)) hW (Or.inr ⟨d', by omega, rfl⟩) hfl x1 x2 (Or.inr ⟨rfl, hD⟩) (fun j hj q => hsh j (le j hj q)) x5 y1 y2 (Or.inr ⟨rfl, hD'⟩) (fun j hj q => ?_) y5
    rw [htr' j (le j hj q), hu j (by have := le j hj q; omega)]
  · exact zi hW hte hfl x1 x2 (Or.inr ⟨rfl, hD⟩) x4 x5 y1 y2 (Or.inr ⟨rfl, hD'⟩) y4 y5
theorem i_vc_trace {k : Nat} {u : SX} {v : SY} (I : i_Rel k u v) (hk : k + 4 ≤ 2048) (v1 : Int32) : wpX_trace (fun r => wpY_trace (fun r' => r' = r ∧ i_Rel (k + 4) u v) v v1) u v1 := by
  refine zz (P := fun u v => wpX_trace (fun r => wpY_trace (fun r' => r' = r ∧ i_Rel (k + 4) u v) v v1) u v1) I ?_
  intro f_made f_states f_initial f_reached f_deepest f_options0 f_options1 f_opened f_depthOf f_numbered f_waiting f_fairLow f_fairHigh f_partLow f_partHigh f_withLow f_withHigh f_backLow f_backHigh a_sizes a_list a_length a_there a_how a_fairness a_stack a_val a_goes a_steps a_guards a_enabled a_depth a_number a_low a_onStack a_open a_path a_ahead a_todo a_shown a_failed b_known b_tokens b_lengths b_values b_goes b_guards b_enabled b_depth b_ways b_alive b_calm b_traced b_failed b_stack z tk ln te tr fl fd hW hte hfl x1 x2 x3 x4 x5 y1 y2 y3 y4 y5
  have same : i_Rel (k + 4) (f_made, f_states, f_initial, f_reached, f_deepest, f_options0, f_options1, f_opened, f_depthOf, f_numbered, f_waiting, f_fairLow, f_fairHigh, f_partLow, f_partHigh, f_withLow, f_withHigh, te, nI fl, f_backLow, f_backHigh, a_sizes, a_list, a_length, a_there, a_how, a_fairness, a_stack, a_val, a_goes, a_steps, a_guards, a_enabled, a_depth, a_number, a_low, a_onStack, a_open, a_path, a_ahead, a_todo, a_shown, a_failed) (b_known, te, nI fl, b_tokens, b_lengths, b_values, a_there, a_fairness, a_how, b_goes, b_guards, b_enabled, b_depth, b_ways, b_alive, b_calm, b_traced, b_failed, b_stack) := zi hW hte hfl x1 x2 x3 x4 x5 y1 y2 y3 y4 y5
  unfold wpX_trace wpY_trace
  dsimp only
  rcases hte with e | ⟨e, he, ee⟩
  · refine br_t (by rw [e]; decide) (br_c (fun _ => ⟨rfl, same⟩) (fun h0 => br_f ?_ ⟨rfl, same⟩))
    intro q
    rw [e] at q
    exact h0 (Int32.lt_of_le_of_lt q (by decide))
  · refine br_f (by rw [ee]; exact nI_pos (by omega)) (br_c (fun h0 => br_t h0 ⟨rfl, same⟩) (fun h0 => ?_))
    obtain ⟨j, hj, ej⟩ := nI_of h0
    subst ej
    refine br_c (fun h1 => br_f h0 (br_f (Int32.not_le.mpr h1) ⟨rfl, same⟩)) (fun h1 => ?_)
    have hle : nI j ≤ te := Int32.not_lt.mp h1
    have hje : j ≤ e := by rw [ee] at hle; exact (nI_leI hj (by omega)).mp hle
    have vj : vp_in (nI j) 125 := vp_in_nI (by omega) (by omega)
    refine ⟨vj, br_f h0 (br_t hle ⟨vj, ?_, same⟩)⟩
    rw [nI_clamp hj, x4 j (by omega) hle, y4 j (by omega) hle]
theorem i_vc_fails {k : Nat} {u : SX} {v : SY} (I : i_Rel k u v) (hk : k + 4 ≤ 2048) : wpX_fails (fun r u' => wpY_fails (fun r' v' => r' = r ∧ i_Rel (k + 4) u' v') v) u := by
  refine zz (P := fun u v => wpX_fails (fun r u' => wpY_fails (fun r' v' => r' = r ∧ i_Rel (k + 4) u' v') v) u) I ?_
  intro f_made f_states f_initial f_reached f_deepest f_options0 f_options1 f_opened f_depthOf f_numbered f_waiting f_fairLow f_fairHigh f_partLow f_partHigh f_withLow f_withHigh f_backLow f_backHigh a_sizes a_list a_length a_there a_how a_fairness a_stack a_val a_goes a_steps a_guards a_enabled a_depth a_number a_low a_onStack a_open a_path a_ahead a_todo a_shown a_failed b_known b_tokens b_lengths b_values b_goes b_guards b_enabled b_depth b_ways b_alive b_calm b_traced b_failed b_stack z tk ln te tr fl fd hW hte hfl x1 x2 x3 x4 x5 y1 y2 y3 y4 y5
  have hN := s_N_le hW.1
  have same : i_Rel (k + 4) (f_made, f_states, f_initial, f_reached, f_deepest, f_options0, f_options1, f_opened, f_depthOf, f_numbered, f_waiting, f_fairLow, f_fairHigh, f_partLow, f_partHigh, f_withLow, f_withHigh, te, nI fl, f_backLow, f_backHigh, a_sizes, a_list, a_length, a_there, a_how, a_fairness, a_stack, a_val, a_goes, a_steps, a_guards, a_enabled, a_depth, a_number, a_low, a_onStack, a_open, a_path, a_ahead, a_todo, a_shown, a_failed) (b_known, te, nI fl, b_tokens, b_lengths, b_values, a_there, a_fairness, a_how, b_goes, b_guards, b_enabled, b_depth, b_ways, b_alive, b_calm, b_traced, b_failed, b_stack) := zi hW hte hfl x1 x2 x3 x4 x5 y1 y2 y3 y4 y5
  refine x_fails hW x1 x2 x3 (fun hn => y_fails hW y1 y2 y3 (fun _ => ⟨rfl, same⟩) (fun q => absurd q hn)) (fun hw fl1 fd1 hA vl st goes steps guards enabled depth path o0 o1 i0 r0 d0 fo fdp fn fwt wl wh ql qh pl ph number low onStack opn ahead todo hD => y_fails hW y1 y2 y3 (fun q => absurd hw q) (fun _ fl2 fd2 hB st' goes' ways' al' cm' guards' enabled' dep' hD' => ?_))
  obtain ⟨e1, e2⟩ := fl_A_u (fun s _ => Iff.rfl) hB hA
  subst e1
  refine ⟨rfl, zi (fd := fd1) hW hte (by rw [hB.1]; exact Nat.le_trans (cn_le _ _) hN) x1 x2 (Or.inr ⟨rfl, hD⟩) x4 (fun _ _ => rfl) y1 y2 (Or.inr ⟨rfl, hD'⟩) y4 e2⟩
theorem i_vc_failing {k : Nat} {u : SX} {v : SY} (I : i_Rel k u v) (hk : k + 4 ≤ 2048) (v1 : Int32) : wpX_failing (fun r => wpY_failing (fun r' => r' = r ∧ i_Rel (k + 4) u v) v v1) u v1 := by
  refine zz (P := fun u v => wpX_failing (fun r => wpY_failing (fun r' => r' = r ∧ i_Rel (k + 4) u v) v v1) u v1) I ?_
  intro f_made f_states f_initial f_reached f_deepest f_options0 f_options1 f_opened f_depthOf f_numbered f_waiting f_fairLow f_fairHigh f_partLow f_partHigh f_withLow f_withHigh f_backLow f_backHigh a_sizes a_list a_length a_there a_how a_fairness a_stack a_val a_goes a_steps a_guards a_enabled a_depth a_number a_low a_onStack a_open a_path a_ahead a_todo a_shown a_failed b_known b_tokens b_lengths b_values b_goes b_guards b_enabled b_depth b_ways b_alive b_calm b_traced b_failed b_stack z tk ln te tr fl fd hW hte hfl x1 x2 x3 x4 x5 y1 y2 y3 y4 y5
  have same : i_Rel (k + 4) (f_made, f_states, f_initial, f_reached, f_deepest, f_options0, f_options1, f_opened, f_depthOf, f_numbered, f_waiting, f_fairLow, f_fairHigh, f_partLow, f_partHigh, f_withLow, f_withHigh, te, nI fl, f_backLow, f_backHigh, a_sizes, a_list, a_length, a_there, a_how, a_fairness, a_stack, a_val, a_goes, a_steps, a_guards, a_enabled, a_depth, a_number, a_low, a_onStack, a_open, a_path, a_ahead, a_todo, a_shown, a_failed) (b_known, te, nI fl, b_tokens, b_lengths, b_values, a_there, a_fairness, a_how, b_goes, b_guards, b_enabled, b_depth, b_ways, b_alive, b_calm, b_traced, b_failed, b_stack) := zi hW hte hfl x1 x2 x3 x4 x5 y1 y2 y3 y4 y5
  unfold wpX_failing wpY_failing
  dsimp only
  refine br_c (fun h0 => br_t h0 ⟨rfl, same⟩) (fun h0 => ?_)
  obtain ⟨j, hj, ej⟩ := nI_of h0
  subst ej
  refine pk_le fl j (fun h => br_f h0 (br_f (nI_nlt h hj) ⟨rfl, same⟩)) (fun h => ?_)
  have vj : vp_in (nI j) 125 := vp_in_nI (by omega) (by omega)
  refine ⟨vj, br_f h0 (br_t (nI_lt h (by omega)) ⟨vj, ?_, same⟩)⟩
  rw [nI_clamp hj, x5 j h, y5 j h]
end
