section
/-! pure rows to paste: stores, nI and lN arithmetic, masks, shifts, narrowing, branches by naturals (pk_le, pk_lt, pk_eq), loops (lp1 .. lp16: the measure of the state; rp1 ..: recursion), negatives. Take what you need -/
theorem pk_us {f : Nat → Int32} {k : Nat} {x : Int32} : upd f k x k = x := if_pos rfl
theorem pk_un {f : Nat → Int32} {k j : Nat} {x : Int32} (h : j ≠ k) : upd f k x j = f j := if_neg h
theorem pk_uLs {f : Nat → Int64} {k : Nat} {x : Int64} : vp_updL f k x k = x := if_pos rfl
theorem pk_uLn {f : Nat → Int64} {k j : Nat} {x : Int64} (h : j ≠ k) : vp_updL f k x j = f j := if_neg h
theorem pk_sub {a b : Nat} (h : b ≤ a) : nI a - nI b = nI (a - b) := by
  obtain ⟨c, rfl⟩ : ∃ c, a = c + b := ⟨a - b, by omega⟩
  rw [← nI_add, Int32.add_sub_cancel, Nat.add_sub_cancel]
theorem pk_m1 (n : Nat) : nI (n + 1) + (-1) = nI n := by
  rw [← nI_1, Int32.add_assoc, show (1 : Int32) + (-1) = 0 from rfl, Int32.add_zero]
theorem pk_mul (a b : Nat) : nI a * nI b = nI (a * b) := (Int32.ofNat_mul a b).symm
theorem pk_div {a d : Nat} (ha : a < 2 ^ 31) (h0 : 0 < d) (hd : d < 2 ^ 31) : nI a / nI d = nI (a / d) := by
  apply Int32.toInt_inj.mp
  rw [lg_idiv_nonneg (by rw [nI_toInt ha]; omega) (by rw [nI_toInt hd]; omega), nI_toInt ha, nI_toInt hd, nI_toInt (Nat.lt_of_le_of_lt (Nat.div_le_self a d) ha)]
  first | rfl | exact (Int.natCast_ediv _ _).symm
theorem pk_rem {a d : Nat} (ha : a < 2 ^ 31) (h0 : 0 < d) (hd : d < 2 ^ 31) : nI a - nI a / nI d * nI d = nI (a % d) := by
  rw [pk_div ha h0 hd, pk_mul, pk_sub (Nat.div_mul_le_self a d)]
  exact congrArg nI (by have := Nat.div_add_mod' a d; omega)
theorem pk_sub_toInt {a b : Nat} (ha : a < 2 ^ 30) (hb : b < 2 ^ 30) : (nI a - nI b).toInt = (a : Int) - b := by
  rw [Int32.toInt_sub, nI_toInt (by omega), nI_toInt (by omega)]
  exact Int.bmod_eq_of_le (by omega) (by omega)
theorem pk_sneg {a b : Nat} (hb : b < 2 ^ 30) (h : a < b) : nI a - nI b < 0 := by
  rw [Int32.lt_iff_toInt_lt, pk_sub_toInt (by omega) hb, show (0 : Int32).toInt = 0 from by decide]
  omega
theorem pk_ix (x : Int32) {n : Nat} (hn : n < 2 ^ 31) : x < 0 ∨ nI n ≤ x ∨ ∃ j : Nat, j < n ∧ x = nI j := by
  by_cases h : x < 0
  · exact Or.inl h
  · obtain ⟨j, hj, rfl⟩ := nI_of h
    by_cases h2 : j < n
    · exact Or.inr (Or.inr ⟨j, h2, rfl⟩)
    · exact Or.inr (Or.inl (nI_le (by omega) hj))
theorem pk_le {x y : Int32} {A B : Prop} (a b : Nat) (f : a ≤ b → A) (g : b < a → B) (hx : x = nI a := by rfl) (hy : y = nI b := by rfl) (ha : a < 2 ^ 31 := by omega) (hb : b < 2 ^ 31 := by omega) : (x ≤ y → A) ∧ (¬ x ≤ y → B) := by
  subst hx hy
  rw [nI_leI ha hb]
  exact ⟨f, fun z => g (by omega)⟩
theorem pk_lt {x y : Int32} {A B : Prop} (a b : Nat) (f : a < b → A) (g : b ≤ a → B) (hx : x = nI a := by rfl) (hy : y = nI b := by rfl) (ha : a < 2 ^ 31 := by omega) (hb : b < 2 ^ 31 := by omega) : (x < y → A) ∧ (¬ x < y → B) := by
  subst hx hy
  rw [nI_ltI ha hb]
  exact ⟨f, fun z => g (by omega)⟩
theorem pk_eq {x y : Int32} {A B : Prop} (a b : Nat) (f : a = b → A) (g : a ≠ b → B) (hx : x = nI a := by rfl) (hy : y = nI b := by rfl) (ha : a < 2 ^ 31 := by omega) (hb : b < 2 ^ 31 := by omega) : (x = y → A) ∧ (¬ x = y → B) := by
  subst hx hy
  rw [nI_eq ha hb]
  exact ⟨f, g⟩
theorem pk_in {x : Int32} (n N : Nat) (h : n < N) (hx : x = nI n := by rfl) (hN : N < 2 ^ 31 := by omega) : vp_in x N := by
  subst hx
  exact vp_in_nI h hN
theorem pk_cl {x : Int32} (n : Nat) (hx : x = nI n := by rfl) (h : n < 2 ^ 31 := by omega) : x.toNatClampNeg = n := by
  subst hx
  exact nI_clamp h
theorem pk_tn {n : Nat} (h : n < 2 ^ 32) : (nI n).toBitVec.toNat = n := Nat.mod_eq_of_lt h
theorem pk_and (x : Int32) {m : Int32} (k : Nat) (hm : m.toBitVec.toNat = 2 ^ k - 1) : x &&& m = nI (x.toBitVec.toNat % 2 ^ k) := by
  apply Int32.toBitVec_inj.mp
  apply BitVec.eq_of_toNat_eq
  rw [Int32.toBitVec_and, BitVec.toNat_and, hm, Nat.and_two_pow_sub_one_eq_mod]
  show _ = (BitVec.ofNat 32 _).toNat
  rw [BitVec.toNat_ofNat]
  exact (Nat.mod_eq_of_lt (Nat.lt_of_le_of_lt (Nat.mod_le _ _) x.toBitVec.isLt)).symm
theorem pk_andN {n : Nat} (h : n < 2 ^ 32) {m : Int32} (k : Nat) (hm : m.toBitVec.toNat = 2 ^ k - 1) : nI n &&& m = nI (n % 2 ^ k) := by
  rw [pk_and _ k hm, pk_tn h]
theorem pk_andE (x : Int32) {m : Int32} (k : Nat) (hm : m.toBitVec.toNat = 2 ^ k - 1) : ∃ j : Nat, j < 2 ^ k ∧ x &&& m = nI j := ⟨_, Nat.mod_lt _ (Nat.two_pow_pos k), pk_and x k hm⟩
theorem pk_andIn (x : Int32) {m : Int32} (k : Nat) (hm : m.toBitVec.toNat = 2 ^ k - 1) (hk : k ≤ 30) : vp_in (x &&& m) (2 ^ k) := by
  obtain ⟨j, hj, e⟩ := pk_andE x k hm
  rw [e]
  exact vp_in_nI hj (Nat.lt_of_le_of_lt (Nat.pow_le_pow_right (by decide) hk) (by decide))
theorem pk_shl (a s : Int32) (k : Nat) (hs : (s.toBitVec.smod 32).toNat = k) : (a <<< s).toBitVec.toNat = a.toBitVec.toNat * 2 ^ k % 2 ^ 32 := by
  show (a.toBitVec <<< (s.toBitVec.smod 32).toNat).toNat = _
  rw [hs, BitVec.toNat_shiftLeft, Nat.shiftLeft_eq]
theorem pk_shlN {n : Nat} (s : Int32) (k : Nat) (hs : (s.toBitVec.smod 32).toNat = k) (h : n * 2 ^ k < 2 ^ 32) : nI n <<< s = nI (n * 2 ^ k) := by
  apply Int32.toBitVec_inj.mp
  apply BitVec.eq_of_toNat_eq
  have hn : n < 2 ^ 32 := Nat.lt_of_le_of_lt (Nat.le_mul_of_pos_right n (Nat.two_pow_pos k)) h
  rw [pk_shl _ _ k hs, pk_tn hn, pk_tn h, Nat.mod_eq_of_lt h]
theorem pk_shr (a s : Int32) (k : Nat) (hs : (s.toBitVec.smod 32).toNat = k) : (a >>> s).toInt = a.toInt >>> k := by
  show (a.toBitVec.sshiftRight (s.toBitVec.smod 32).toNat).toInt = _
  rw [hs, BitVec.toInt_sshiftRight]
  rfl
theorem pk_shrN {n : Nat} (h : n < 2 ^ 31) (s : Int32) (k : Nat) (hs : (s.toBitVec.smod 32).toNat = k) : nI n >>> s = nI (n / 2 ^ k) := by
  apply Int32.toInt_inj.mp
  have h2 : n / 2 ^ k ≤ n := Nat.div_le_self _ _
  rw [pk_shr _ _ k hs, nI_toInt h, nI_toInt (by omega), Int.shiftRight_eq_div_pow]
  rfl
theorem pk_ushr (x s : Int32) (k : Nat) (hs : ((s.toUInt32 &&& Int32.toUInt32 31).toBitVec % 32).toNat = k) : (x.toUInt32 >>> (s.toUInt32 &&& Int32.toUInt32 31)).toInt32.toBitVec.toNat = x.toBitVec.toNat / 2 ^ k := by
  have e : (x.toUInt32 >>> (s.toUInt32 &&& Int32.toUInt32 31)).toInt32.toBitVec = x.toBitVec >>> k := by
    rw [← hs]
    exact UInt32.toBitVec_shiftRight _ _
  rw [e, BitVec.toNat_ushiftRight, Nat.shiftRight_eq_div_pow]
theorem pk_ushrN {n : Nat} (hn : n < 2 ^ 32) (s : Int32) (k : Nat) (hs : ((s.toUInt32 &&& Int32.toUInt32 31).toBitVec % 32).toNat = k) : ((nI n).toUInt32 >>> (s.toUInt32 &&& Int32.toUInt32 31)).toInt32 = nI (n / 2 ^ k) := by
  apply Int32.toBitVec_inj.mp
  apply BitVec.eq_of_toNat_eq
  rw [pk_ushr _ s k hs, pk_tn hn, pk_tn (Nat.lt_of_le_of_lt (Nat.div_le_self _ _) hn)]
theorem pk_nb (z : Int32) : narrow .byte (.int z.toInt8.toInt32) = .int z.toInt8.toInt32 := congrArg Value.int (by simp)
theorem pk_ns (z : Int32) : narrow .short (.int z.toInt16.toInt32) = .int z.toInt16.toInt32 := congrArg Value.int (by simp)
theorem pk_fb (r : Int32) : fits .byte (.int r.toInt8.toInt32) = true := by
  have ⟨a, b⟩ := lg_i2b_range r
  have h1 : (-128 : Int32).toInt = -128 := by decide
  have h2 : (127 : Int32).toInt = 127 := by decide
  simp only [fits, Bool.and_eq_true, decide_eq_true_eq, Int32.le_iff_toInt_le, h1, h2]
  omega
theorem pk_fs (r : Int32) : fits .short (.int r.toInt16.toInt32) = true := by
  have ⟨a, b⟩ := lg_i2s_range r
  have h1 : (-32768 : Int32).toInt = -32768 := by decide
  have h2 : (32767 : Int32).toInt = 32767 := by decide
  simp only [fits, Bool.and_eq_true, decide_eq_true_eq, Int32.le_iff_toInt_le, h1, h2]
  omega
theorem pk_charN {q : Nat} (hq : q < 65536) : narrow .char (.int (nI q)) = .int (nI q) ∧ fits .char (.int (nI q)) = true := by
  constructor
  · have e : (nI q).toUInt32.toUInt16.toUInt32.toInt32 = nI q := by
      apply Int32.toBitVec_inj.mp
      apply BitVec.eq_of_toNat_eq
      show (nI q).toUInt32.toUInt16.toUInt32.toNat = q % 2 ^ 32
      rw [UInt16.toNat_toUInt32, UInt32.toNat_toUInt16, show (nI q).toUInt32.toNat = q % 2 ^ 32 from rfl]
      omega
    exact congrArg Value.int e
  · have a : (0 : Int32) ≤ nI q := nI_pos' (by omega)
    have b : nI q ≤ 65535 := nI_le (b := 65535) (by omega) (by decide)
    show (decide ((0 : Int32) ≤ nI q) && decide (nI q ≤ 65535)) = true
    rw [decide_eq_true a, decide_eq_true b]
    rfl
theorem pk_char (x : Int32) : (x.toUInt32 % 65536).toInt32 = nI (x.toBitVec.toNat % 65536) := by
  apply Int32.toBitVec_inj.mp
  apply BitVec.eq_of_toNat_eq
  rw [pk_tn (by omega)]
  show (x.toUInt32 % 65536).toNat = _
  rw [UInt32.toNat_mod]
  rfl
theorem pk_nc (x : Int32) : narrow .char (.int (x.toUInt32 % 65536).toInt32) = .int (x.toUInt32 % 65536).toInt32 := by
  rw [pk_char]
  exact (pk_charN (Nat.mod_lt _ (by decide))).1
theorem pk_fc (x : Int32) : fits .char (.int (x.toUInt32 % 65536).toInt32) = true := by
  rw [pk_char]
  exact (pk_charN (Nat.mod_lt _ (by decide))).2
theorem pk_vb (z : Int32) : vp_nar .byte z.toInt8.toInt32 = z.toInt8.toInt32 := by rw [vp_nar_byte]; simp
theorem pk_vs (z : Int32) : vp_nar .short z.toInt16.toInt32 = z.toInt16.toInt32 := by rw [vp_nar_short]; simp
theorem pk_vc (z : Int32) : vp_nar .char (z.toUInt32 % 65536).toInt32 = (z.toUInt32 % 65536).toInt32 := Value.int.inj (pk_nc z)
theorem pk_lT {n : Nat} (h : n < 2 ^ 63) : (lN n).toInt = (n : Int) := lg_ofNat_toInt h
theorem pk_lLT {a b : Nat} (ha : a < 2 ^ 63) (hb : b < 2 ^ 63) : lN a < lN b ↔ a < b := by
  rw [Int64.lt_iff_toInt_lt, pk_lT ha, pk_lT hb]; omega
theorem pk_lLE {a b : Nat} (ha : a < 2 ^ 63) (hb : b < 2 ^ 63) : lN a ≤ lN b ↔ a ≤ b := by
  rw [Int64.le_iff_toInt_le, pk_lT ha, pk_lT hb]; omega
theorem pk_lEQ {a b : Nat} (ha : a < 2 ^ 63) (hb : b < 2 ^ 63) : lN a = lN b ↔ a = b := by
  rw [← Int64.toInt_inj, pk_lT ha, pk_lT hb]; omega
theorem pk_lOf {x : Int64} (h : ¬ x < 0) : ∃ k : Nat, k < 2 ^ 63 ∧ x = lN k := by
  rw [Int64.lt_iff_toInt_lt] at h
  have h0 : (0 : Int64).toInt = 0 := by decide
  have hx := Int64.toInt_lt x
  refine ⟨x.toInt.toNat, by omega, Int64.toInt_inj.mp ?_⟩
  rw [pk_lT (by omega)]
  omega
theorem pk_lDiv {a b : Nat} (ha : a < 2 ^ 63) (h0 : 0 < b) (hb : b < 2 ^ 63) : lN a / lN b = lN (a / b) := by
  apply Int64.toInt_inj.mp
  rw [lg_ldiv_nonneg (by rw [pk_lT ha]; omega) (by rw [pk_lT hb]; omega), pk_lT ha, pk_lT hb, pk_lT (Nat.lt_of_le_of_lt (Nat.div_le_self a b) ha)]
  rfl
theorem pk_lRem {a b : Nat} (ha : a < 2 ^ 63) (h0 : 0 < b) (hb : b < 2 ^ 63) : lN a - lN a / lN b * lN b = lN (a % b) := by
  rw [pk_lDiv ha h0 hb, lN_mul, lN_sub (Nat.div_mul_le_self a b)]
  exact congrArg lN (by have := Nat.div_add_mod' a b; omega)
theorem pk_loop {σ : Type} (W : Nat → Nat → σ → Prop) (I : Nat → σ → Prop) (e i0 : Nat) (s : σ) (hi : i0 ≤ e) (h0 : I i0 s) (hx : ∀ n s, I e s → W (n + 1) e s)
    (hs : ∀ n i s, i < e → I i s → (∀ s', I (i + 1) s' → W n (i + 1) s') → W (n + 1) i s) : ∃ n, W n i0 s :=
  ⟨e + 1, loop_i W I e hx hs (e + 1) i0 s hi (by omega) h0⟩
theorem pk_loopD {σ : Type} (W : Nat → Nat → σ → Prop) (I : Nat → σ → Prop) (hx : ∀ n s, I 0 s → W (n + 1) 0 s)
    (hs : ∀ n i s, I (i + 1) s → (∀ s', I i s' → W n i s') → W (n + 1) (i + 1) s) : ∀ (e : Nat) (s : σ), I e s → W (e + 1) e s := by
  intro e
  induction e with
  | zero => exact fun s h => hx 0 s h
  | succ e ih => exact fun s h => hs (e + 1) e s h (fun s' h' => ih s' h')
theorem lp1 {A1 : Type} (W : Nat → A1 → Prop) (I : A1 → Prop) (μ : A1 → Nat) (hs : ∀ (n : Nat) (a1 : A1), I a1 → (∀ (b1 : A1), I b1 → μ b1 < μ a1 → W n b1) → W (n + 1) a1) (a1 : A1) (h : I a1) : ∃ n, W n a1 :=
  loop_m (σ := A1) (fun n s => W n s) (fun s => I s) (fun s => μ s) (fun n s hI hk => hs n s hI (fun b1 h9 hm => hk b1 h9 hm)) a1 h
theorem lp2 {A1 A2 : Type} (W : Nat → A1 → A2 → Prop) (I : A1 → A2 → Prop) (μ : A1 → A2 → Nat) (hs : ∀ (n : Nat) (a1 : A1) (a2 : A2), I a1 a2 → (∀ (b1 : A1) (b2 : A2), I b1 b2 → μ b1 b2 < μ a1 a2 → W n b1 b2) → W (n + 1) a1 a2) (a1 : A1) (a2 : A2) (h : I a1 a2) : ∃ n, W n a1 a2 :=
  loop_m (σ := A1 × A2) (fun n s => W n s.1 s.2) (fun s => I s.1 s.2) (fun s => μ s.1 s.2) (fun n s hI hk => hs n s.1 s.2 hI (fun b1 b2 h9 hm => hk (b1, b2) h9 hm)) (a1, a2) h
theorem lp3 {A1 A2 A3 : Type} (W : Nat → A1 → A2 → A3 → Prop) (I : A1 → A2 → A3 → Prop) (μ : A1 → A2 → A3 → Nat) (hs : ∀ (n : Nat) (a1 : A1) (a2 : A2) (a3 : A3), I a1 a2 a3 → (∀ (b1 : A1) (b2 : A2) (b3 : A3), I b1 b2 b3 → μ b1 b2 b3 < μ a1 a2 a3 → W n b1 b2 b3) → W (n + 1) a1 a2 a3) (a1 : A1) (a2 : A2) (a3 : A3) (h : I a1 a2 a3) : ∃ n, W n a1 a2 a3 :=
  loop_m (σ := A1 × A2 × A3) (fun n s => W n s.1 s.2.1 s.2.2) (fun s => I s.1 s.2.1 s.2.2) (fun s => μ s.1 s.2.1 s.2.2) (fun n s hI hk => hs n s.1 s.2.1 s.2.2 hI (fun b1 b2 b3 h9 hm => hk (b1, b2, b3) h9 hm)) (a1, a2, a3) h
theorem lp4 {A1 A2 A3 A4 : Type} (W : Nat → A1 → A2 → A3 → A4 → Prop) (I : A1 → A2 → A3 → A4 → Prop) (μ : A1 → A2 → A3 → A4 → Nat) (hs : ∀ (n : Nat) (a1 : A1) (a2 : A2) (a3 : A3) (a4 : A4), I a1 a2 a3 a4 → (∀ (b1 : A1) (b2 : A2) (b3 : A3) (b4 : A4), I b1 b2 b3 b4 → μ b1 b2 b3 b4 < μ a1 a2 a3 a4 → W n b1 b2 b3 b4) → W (n + 1) a1 a2 a3 a4) (a1 : A1) (a2 : A2) (a3 : A3) (a4 : A4) (h : I a1 a2 a3 a4) : ∃ n, W n a1 a2 a3 a4 :=
  loop_m (σ := A1 × A2 × A3 × A4) (fun n s => W n s.1 s.2.1 s.2.2.1 s.2.2.2) (fun s => I s.1 s.2.1 s.2.2.1 s.2.2.2) (fun s => μ s.1 s.2.1 s.2.2.1 s.2.2.2) (fun n s hI hk => hs n s.1 s.2.1 s.2.2.1 s.2.2.2 hI (fun b1 b2 b3 b4 h9 hm => hk (b1, b2, b3, b4) h9 hm)) (a1, a2, a3, a4) h
theorem lp5 {A1 A2 A3 A4 A5 : Type} (W : Nat → A1 → A2 → A3 → A4 → A5 → Prop) (I : A1 → A2 → A3 → A4 → A5 → Prop) (μ : A1 → A2 → A3 → A4 → A5 → Nat) (hs : ∀ (n : Nat) (a1 : A1) (a2 : A2) (a3 : A3) (a4 : A4) (a5 : A5), I a1 a2 a3 a4 a5 → (∀ (b1 : A1) (b2 : A2) (b3 : A3) (b4 : A4) (b5 : A5), I b1 b2 b3 b4 b5 → μ b1 b2 b3 b4 b5 < μ a1 a2 a3 a4 a5 → W n b1 b2 b3 b4 b5) → W (n + 1) a1 a2 a3 a4 a5) (a1 : A1) (a2 : A2) (a3 : A3) (a4 : A4) (a5 : A5) (h : I a1 a2 a3 a4 a5) : ∃ n, W n a1 a2 a3 a4 a5 :=
  loop_m (σ := A1 × A2 × A3 × A4 × A5) (fun n s => W n s.1 s.2.1 s.2.2.1 s.2.2.2.1 s.2.2.2.2) (fun s => I s.1 s.2.1 s.2.2.1 s.2.2.2.1 s.2.2.2.2) (fun s => μ s.1 s.2.1 s.2.2.1 s.2.2.2.1 s.2.2.2.2) (fun n s hI hk => hs n s.1 s.2.1 s.2.2.1 s.2.2.2.1 s.2.2.2.2 hI (fun b1 b2 b3 b4 b5 h9 hm => hk (b1, b2, b3, b4, b5) h9 hm)) (a1, a2, a3, a4, a5) h
theorem lp6 {A1 A2 A3 A4 A5 A6 : Type} (W : Nat → A1 → A2 → A3 → A4 → A5 → A6 → Prop) (I : A1 → A2 → A3 → A4 → A5 → A6 → Prop) (μ : A1 → A2 → A3 → A4 → A5 → A6 → Nat) (hs : ∀ (n : Nat) (a1 : A1) (a2 : A2) (a3 : A3) (a4 : A4) (a5 : A5) (a6 : A6), I a1 a2 a3 a4 a5 a6 → (∀ (b1 : A1) (b2 : A2) (b3 : A3) (b4 : A4) (b5 : A5) (b6 : A6), I b1 b2 b3 b4 b5 b6 → μ b1 b2 b3 b4 b5 b6 < μ a1 a2 a3 a4 a5 a6 → W n b1 b2 b3 b4 b5 b6) → W (n + 1) a1 a2 a3 a4 a5 a6) (a1 : A1) (a2 : A2) (a3 : A3) (a4 : A4) (a5 : A5) (a6 : A6) (h : I a1 a2 a3 a4 a5 a6) : ∃ n, W n a1 a2 a3 a4 a5 a6 :=
  loop_m (σ := A1 × A2 × A3 × A4 × A5 × A6) (fun n s => W n s.1 s.2.1 s.2.2.1 s.2.2.2.1 s.2.2.2.2.1 s.2.2.2.2.2) (fun s => I s.1 s.2.1 s.2.2.1 s.2.2.2.1 s.2.2.2.2.1 s.2.2.2.2.2) (fun s => μ s.1 s.2.1 s.2.2.1 s.2.2.2.1 s.2.2.2.2.1 s.2.2.2.2.2) (fun n s hI hk => hs n s.1 s.2.1 s.2.2.1 s.2.2.2.1 s.2.2.2.2.1 s.2.2.2.2.2 hI (fun b1 b2 b3 b4 b5 b6 h9 hm => hk (b1, b2, b3, b4, b5, b6) h9 hm)) (a1, a2, a3, a4, a5, a6) h
theorem lp7 {A1 A2 A3 A4 A5 A6 A7 : Type} (W : Nat → A1 → A2 → A3 → A4 → A5 → A6 → A7 → Prop) (I : A1 → A2 → A3 → A4 → A5 → A6 → A7 → Prop) (μ : A1 → A2 → A3 → A4 → A5 → A6 → A7 → Nat) (hs : ∀ (n : Nat) (a1 : A1) (a2 : A2) (a3 : A3) (a4 : A4) (a5 : A5) (a6 : A6) (a7 : A7), I a1 a2 a3 a4 a5 a6 a7 → (∀ (b1 : A1) (b2 : A2) (b3 : A3) (b4 : A4) (b5 : A5) (b6 : A6) (b7 : A7), I b1 b2 b3 b4 b5 b6 b7 → μ b1 b2 b3 b4 b5 b6 b7 < μ a1 a2 a3 a4 a5 a6 a7 → W n b1 b2 b3 b4 b5 b6 b7) → W (n + 1) a1 a2 a3 a4 a5 a6 a7) (a1 : A1) (a2 : A2) (a3 : A3) (a4 : A4) (a5 : A5) (a6 : A6) (a7 : A7) (h : I a1 a2 a3 a4 a5 a6 a7) : ∃ n, W n a1 a2 a3 a4 a5 a6 a7 :=
  loop_m (σ := A1 × A2 × A3 × A4 × A5 × A6 × A7) (fun n s => W n s.1 s.2.1 s.2.2.1 s.2.2.2.1 s.2.2.2.2.1 s.2.2.2.2.2.1 s.2.2.2.2.2.2) (fun s => I s.1 s.2.1 s.2.2.1 s.2.2.2.1 s.2.2.2.2.1 s.2.2.2.2.2.1 s.2.2.2.2.2.2) (fun s => μ s.1 s.2.1 s.2.2.1 s.2.2.2.1 s.2.2.2.2.1 s.2.2.2.2.2.1 s.2.2.2.2.2.2) (fun n s hI hk => hs n s.1 s.2.1 s.2.2.1 s.2.2.2.1 s.2.2.2.2.1 s.2.2.2.2.2.1 s.2.2.2.2.2.2 hI (fun b1 b2 b3 b4 b5 b6 b7 h9 hm => hk (b1, b2, b3, b4, b5, b6, b7) h9 hm)) (a1, a2, a3, a4, a5, a6, a7) h
theorem lp8 {A1 A2 A3 A4 A5 A6 A7 A8 : Type} (W : Nat → A1 → A2 → A3 → A4 → A5 → A6 → A7 → A8 → Prop) (I : A1 → A2 → A3 → A4 → A5 → A6 → A7 → A8 → Prop) (μ : A1 → A2 → A3 → A4 → A5 → A6 → A7 → A8 → Nat) (hs : ∀ (n : Nat) (a1 : A1) (a2 : A2) (a3 : A3) (a4 : A4) (a5 : A5) (a6 : A6) (a7 : A7) (a8 : A8), I a1 a2 a3 a4 a5 a6 a7 a8 → (∀ (b1 : A1) (b2 : A2) (b3 : A3) (b4 : A4) (b5 : A5) (b6 : A6) (b7 : A7) (b8 : A8), I b1 b2 b3 b4 b5 b6 b7 b8 → μ b1 b2 b3 b4 b5 b6 b7 b8 < μ a1 a2 a3 a4 a5 a6 a7 a8 → W n b1 b2 b3 b4 b5 b6 b7 b8) → W (n + 1) a1 a2 a3 a4 a5 a6 a7 a8) (a1 : A1) (a2 : A2) (a3 : A3) (a4 : A4) (a5 : A5) (a6 : A6) (a7 : A7) (a8 : A8) (h : I a1 a2 a3 a4 a5 a6 a7 a8) : ∃ n, W n a1 a2 a3 a4 a5 a6 a7 a8 :=
  loop_m (σ := A1 × A2 × A3 × A4 × A5 × A6 × A7 × A8) (fun n s => W n s.1 s.2.1 s.2.2.1 s.2.2.2.1 s.2.2.2.2.1 s.2.2.2.2.2.1 s.2.2.2.2.2.2.1 s.2.2.2.2.2.2.2) (fun s => I s.1 s.2.1 s.2.2.1 s.2.2.2.1 s.2.2.2.2.1 s.2.2.2.2.2.1 s.2.2.2.2.2.2.1 s.2.2.2.2.2.2.2) (fun s => μ s.1 s.2.1 s.2.2.1 s.2.2.2.1 s.2.2.2.2.1 s.2.2.2.2.2.1 s.2.2.2.2.2.2.1 s.2.2.2.2.2.2.2) (fun n s hI hk => hs n s.1 s.2.1 s.2.2.1 s.2.2.2.1 s.2.2.2.2.1 s.2.2.2.2.2.1 s.2.2.2.2.2.2.1 s.2.2.2.2.2.2.2 hI (fun b1 b2 b3 b4 b5 b6 b7 b8 h9 hm => hk (b1, b2, b3, b4, b5, b6, b7, b8) h9 hm)) (a1, a2, a3, a4, a5, a6, a7, a8) h
theorem lp9 {A1 A2 A3 A4 A5 A6 A7 A8 A9 : Type} (W : Nat → A1 → A2 → A3 → A4 → A5 → A6 → A7 → A8 → A9 → Prop) (I : A1 → A2 → A3 → A4 → A5 → A6 → A7 → A8 → A9 → Prop) (μ : A1 → A2 → A3 → A4 → A5 → A6 → A7 → A8 → A9 → Nat) (hs : ∀ (n : Nat) (a1 : A1) (a2 : A2) (a3 : A3) (a4 : A4) (a5 : A5) (a6 : A6) (a7 : A7) (a8 : A8) (a9 : A9), I a1 a2 a3 a4 a5 a6 a7 a8 a9 → (∀ (b1 : A1) (b2 : A2) (b3 : A3) (b4 : A4) (b5 : A5) (b6 : A6) (b7 : A7) (b8 : A8) (b9 : A9), I b1 b2 b3 b4 b5 b6 b7 b8 b9 → μ b1 b2 b3 b4 b5 b6 b7 b8 b9 < μ a1 a2 a3 a4 a5 a6 a7 a8 a9 → W n b1 b2 b3 b4 b5 b6 b7 b8 b9) → W (n + 1) a1 a2 a3 a4 a5 a6 a7 a8 a9) (a1 : A1) (a2 : A2) (a3 : A3) (a4 : A4) (a5 : A5) (a6 : A6) (a7 : A7) (a8 : A8) (a9 : A9) (h : I a1 a2 a3 a4 a5 a6 a7 a8 a9) : ∃ n, W n a1 a2 a3 a4 a5 a6 a7 a8 a9 :=
  loop_m (σ := A1 × A2 × A3 × A4 × A5 × A6 × A7 × A8 × A9) (fun n s => W n s.1 s.2.1 s.2.2.1 s.2.2.2.1 s.2.2.2.2.1 s.2.2.2.2.2.1 s.2.2.2.2.2.2.1 s.2.2.2.2.2.2.2.1 s.2.2.2.2.2.2.2.2) (fun s => I s.1 s.2.1 s.2.2.1 s.2.2.2.1 s.2.2.2.2.1 s.2.2.2.2.2.1 s.2.2.2.2.2.2.1 s.2.2.2.2.2.2.2.1 s.2.2.2.2.2.2.2.2) (fun s => μ s.1 s.2.1 s.2.2.1 s.2.2.2.1 s.2.2.2.2.1 s.2.2.2.2.2.1 s.2.2.2.2.2.2.1 s.2.2.2.2.2.2.2.1 s.2.2.2.2.2.2.2.2) (fun n s hI hk => hs n s.1 s.2.1 s.2.2.1 s.2.2.2.1 s.2.2.2.2.1 s.2.2.2.2.2.1 s.2.2.2.2.2.2.1 s.2.2.2.2.2.2.2.1 s.2.2.2.2.2.2.2.2 hI (fun b1 b2 b3 b4 b5 b6 b7 b8 b9 h9 hm => hk (b1, b2, b3, b4, b5, b6, b7, b8, b9) h9 hm)) (a1, a2, a3, a4, a5, a6, a7, a8, a9) h
theorem lp10 {A1 A2 A3 A4 A5 A6 A7 A8 A9 A10 : Type} (W : Nat → A1 → A2 → A3 → A4 → A5 → A6 → A7 → A8 → A9 → A10 → Prop) (I : A1 → A2 → A3 → A4 → A5 → A6 → A7 → A8 → A9 → A10 → Prop) (μ : A1 → A2 → A3 → A4 → A5 → A6 → A7 → A8 → A9 → A10 → Nat) (hs : ∀ (n : Nat) (a1 : A1) (a2 : A2) (a3 : A3) (a4 : A4) (a5 : A5) (a6 : A6) (a7 : A7) (a8 : A8) (a9 : A9) (a10 : A10), I a1 a2 a3 a4 a5 a6 a7 a8 a9 a10 → (∀ (b1 : A1) (b2 : A2) (b3 : A3) (b4 : A4) (b5 : A5) (b6 : A6) (b7 : A7) (b8 : A8) (b9 : A9) (b10 : A10), I b1 b2 b3 b4 b5 b6 b7 b8 b9 b10 → μ b1 b2 b3 b4 b5 b6 b7 b8 b9 b10 < μ a1 a2 a3 a4 a5 a6 a7 a8 a9 a10 → W n b1 b2 b3 b4 b5 b6 b7 b8 b9 b10) → W (n + 1) a1 a2 a3 a4 a5 a6 a7 a8 a9 a10) (a1 : A1) (a2 : A2) (a3 : A3) (a4 : A4) (a5 : A5) (a6 : A6) (a7 : A7) (a8 : A8) (a9 : A9) (a10 : A10) (h : I a1 a2 a3 a4 a5 a6 a7 a8 a9 a10) : ∃ n, W n a1 a2 a3 a4 a5 a6 a7 a8 a9 a10 :=
  loop_m (σ := A1 × A2 × A3 × A4 × A5 × A6 × A7 × A8 × A9 × A10) (fun n s => W n s.1 s.2.1 s.2.2.1 s.2.2.2.1 s.2.2.2.2.1 s.2.2.2.2.2.1 s.2.2.2.2.2.2.1 s.2.2.2.2.2.2.2.1 s.2.2.2.2.2.2.2.2.1 s.2.2.2.2.2.2.2.2.2) (fun s => I s.1 s.2.1 s.2.2.1 s.2.2.2.1 s.2.2.2.2.1 s.2.2.2.2.2.1 s.2.2.2.2.2.2.1 s.2.2.2.2.2.2.2.1 s.2.2.2.2.2.2.2.2.1 s.2.2.2.2.2.2.2.2.2) (fun s => μ s.1 s.2.1 s.2.2.1 s.2.2.2.1 s.2.2.2.2.1 s.2.2.2.2.2.1 s.2.2.2.2.2.2.1 s.2.2.2.2.2.2.2.1 s.2.2.2.2.2.2.2.2.1 s.2.2.2.2.2.2.2.2.2) (fun n s hI hk => hs n s.1 s.2.1 s.2.2.1 s.2.2.2.1 s.2.2.2.2.1 s.2.2.2.2.2.1 s.2.2.2.2.2.2.1 s.2.2.2.2.2.2.2.1 s.2.2.2.2.2.2.2.2.1 s.2.2.2.2.2.2.2.2.2 hI (fun b1 b2 b3 b4 b5 b6 b7 b8 b9 b10 h9 hm => hk (b1, b2, b3, b4, b5, b6, b7, b8, b9, b10) h9 hm)) (a1, a2, a3, a4, a5, a6, a7, a8, a9, a10) h
theorem lp11 {A1 A2 A3 A4 A5 A6 A7 A8 A9 A10 A11 : Type} (W : Nat → A1 → A2 → A3 → A4 → A5 → A6 → A7 → A8 → A9 → A10 → A11 → Prop) (I : A1 → A2 → A3 → A4 → A5 → A6 → A7 → A8 → A9 → A10 → A11 → Prop) (μ : A1 → A2 → A3 → A4 → A5 → A6 → A7 → A8 → A9 → A10 → A11 → Nat) (hs : ∀ (n : Nat) (a1 : A1) (a2 : A2) (a3 : A3) (a4 : A4) (a5 : A5) (a6 : A6) (a7 : A7) (a8 : A8) (a9 : A9) (a10 : A10) (a11 : A11), I a1 a2 a3 a4 a5 a6 a7 a8 a9 a10 a11 → (∀ (b1 : A1) (b2 : A2) (b3 : A3) (b4 : A4) (b5 : A5) (b6 : A6) (b7 : A7) (b8 : A8) (b9 : A9) (b10 : A10) (b11 : A11), I b1 b2 b3 b4 b5 b6 b7 b8 b9 b10 b11 → μ b1 b2 b3 b4 b5 b6 b7 b8 b9 b10 b11 < μ a1 a2 a3 a4 a5 a6 a7 a8 a9 a10 a11 → W n b1 b2 b3 b4 b5 b6 b7 b8 b9 b10 b11) → W (n + 1) a1 a2 a3 a4 a5 a6 a7 a8 a9 a10 a11) (a1 : A1) (a2 : A2) (a3 : A3) (a4 : A4) (a5 : A5) (a6 : A6) (a7 : A7) (a8 : A8) (a9 : A9) (a10 : A10) (a11 : A11) (h : I a1 a2 a3 a4 a5 a6 a7 a8 a9 a10 a11) : ∃ n, W n a1 a2 a3 a4 a5 a6 a7 a8 a9 a10 a11 :=
  loop_m (σ := A1 × A2 × A3 × A4 × A5 × A6 × A7 × A8 × A9 × A10 × A11) (fun n s => W n s.1 s.2.1 s.2.2.1 s.2.2.2.1 s.2.2.2.2.1 s.2.2.2.2.2.1 s.2.2.2.2.2.2.1 s.2.2.2.2.2.2.2.1 s.2.2.2.2.2.2.2.2.1 s.2.2.2.2.2.2.2.2.2.1 s.2.2.2.2.2.2.2.2.2.2) (fun s => I s.1 s.2.1 s.2.2.1 s.2.2.2.1 s.2.2.2.2.1 s.2.2.2.2.2.1 s.2.2.2.2.2.2.1 s.2.2.2.2.2.2.2.1 s.2.2.2.2.2.2.2.2.1 s.2.2.2.2.2.2.2.2.2.1 s.2.2.2.2.2.2.2.2.2.2) (fun s => μ s.1 s.2.1 s.2.2.1 s.2.2.2.1 s.2.2.2.2.1 s.2.2.2.2.2.1 s.2.2.2.2.2.2.1 s.2.2.2.2.2.2.2.1 s.2.2.2.2.2.2.2.2.1 s.2.2.2.2.2.2.2.2.2.1 s.2.2.2.2.2.2.2.2.2.2) (fun n s hI hk => hs n s.1 s.2.1 s.2.2.1 s.2.2.2.1 s.2.2.2.2.1 s.2.2.2.2.2.1 s.2.2.2.2.2.2.1 s.2.2.2.2.2.2.2.1 s.2.2.2.2.2.2.2.2.1 s.2.2.2.2.2.2.2.2.2.1 s.2.2.2.2.2.2.2.2.2.2 hI (fun b1 b2 b3 b4 b5 b6 b7 b8 b9 b10 b11 h9 hm => hk (b1, b2, b3, b4, b5, b6, b7, b8, b9, b10, b11) h9 hm)) (a1, a2, a3, a4, a5, a6, a7, a8, a9, a10, a11) h
theorem lp12 {A1 A2 A3 A4 A5 A6 A7 A8 A9 A10 A11 A12 : Type} (W : Nat → A1 → A2 → A3 → A4 → A5 → A6 → A7 → A8 → A9 → A10 → A11 → A12 → Prop) (I : A1 → A2 → A3 → A4 → A5 → A6 → A7 → A8 → A9 → A10 → A11 → A12 → Prop) (μ : A1 → A2 → A3 → A4 → A5 → A6 → A7 → A8 → A9 → A10 → A11 → A12 → Nat) (hs : ∀ (n : Nat) (a1 : A1) (a2 : A2) (a3 : A3) (a4 : A4) (a5 : A5) (a6 : A6) (a7 : A7) (a8 : A8) (a9 : A9) (a10 : A10) (a11 : A11) (a12 : A12), I a1 a2 a3 a4 a5 a6 a7 a8 a9 a10 a11 a12 → (∀ (b1 : A1) (b2 : A2) (b3 : A3) (b4 : A4) (b5 : A5) (b6 : A6) (b7 : A7) (b8 : A8) (b9 : A9) (b10 : A10) (b11 : A11) (b12 : A12), I b1 b2 b3 b4 b5 b6 b7 b8 b9 b10 b11 b12 → μ b1 b2 b3 b4 b5 b6 b7 b8 b9 b10 b11 b12 < μ a1 a2 a3 a4 a5 a6 a7 a8 a9 a10 a11 a12 → W n b1 b2 b3 b4 b5 b6 b7 b8 b9 b10 b11 b12) → W (n + 1) a1 a2 a3 a4 a5 a6 a7 a8 a9 a10 a11 a12) (a1 : A1) (a2 : A2) (a3 : A3) (a4 : A4) (a5 : A5) (a6 : A6) (a7 : A7) (a8 : A8) (a9 : A9) (a10 : A10) (a11 : A11) (a12 : A12) (h : I a1 a2 a3 a4 a5 a6 a7 a8 a9 a10 a11 a12) : ∃ n, W n a1 a2 a3 a4 a5 a6 a7 a8 a9 a10 a11 a12 :=
  loop_m (σ := A1 × A2 × A3 × A4 × A5 × A6 × A7 × A8 × A9 × A10 × A11 × A12) (fun n s => W n s.1 s.2.1 s.2.2.1 s.2.2.2.1 s.2.2.2.2.1 s.2.2.2.2.2.1 s.2.2.2.2.2.2.1 s.2.2.2.2.2.2.2.1 s.2.2.2.2.2.2.2.2.1 s.2.2.2.2.2.2.2.2.2.1 s.2.2.2.2.2.2.2.2.2.2.1 s.2.2.2.2.2.2.2.2.2.2.2) (fun s => I s.1 s.2.1 s.2.2.1 s.2.2.2.1 s.2.2.2.2.1 s.2.2.2.2.2.1 s.2.2.2.2.2.2.1 s.2.2.2.2.2.2.2.1 s.2.2.2.2.2.2.2.2.1 s.2.2.2.2.2.2.2.2.2.1 s.2.2.2.2.2.2.2.2.2.2.1 s.2.2.2.2.2.2.2.2.2.2.2) (fun s => μ s.1 s.2.1 s.2.2.1 s.2.2.2.1 s.2.2.2.2.1 s.2.2.2.2.2.1 s.2.2.2.2.2.2.1 s.2.2.2.2.2.2.2.1 s.2.2.2.2.2.2.2.2.1 s.2.2.2.2.2.2.2.2.2.1 s.2.2.2.2.2.2.2.2.2.2.1 s.2.2.2.2.2.2.2.2.2.2.2) (fun n s hI hk => hs n s.1 s.2.1 s.2.2.1 s.2.2.2.1 s.2.2.2.2.1 s.2.2.2.2.2.1 s.2.2.2.2.2.2.1 s.2.2.2.2.2.2.2.1 s.2.2.2.2.2.2.2.2.1 s.2.2.2.2.2.2.2.2.2.1 s.2.2.2.2.2.2.2.2.2.2.1 s.2.2.2.2.2.2.2.2.2.2.2 hI (fun b1 b2 b3 b4 b5 b6 b7 b8 b9 b10 b11 b12 h9 hm => hk (b1, b2, b3, b4, b5, b6, b7, b8, b9, b10, b11, b12) h9 hm)) (a1, a2, a3, a4, a5, a6, a7, a8, a9, a10, a11, a12) h
theorem lp13 {A1 A2 A3 A4 A5 A6 A7 A8 A9 A10 A11 A12 A13 : Type} (W : Nat → A1 → A2 → A3 → A4 → A5 → A6 → A7 → A8 → A9 → A10 → A11 → A12 → A13 → Prop) (I : A1 → A2 → A3 → A4 → A5 → A6 → A7 → A8 → A9 → A10 → A11 → A12 → A13 → Prop) (μ : A1 → A2 → A3 → A4 → A5 → A6 → A7 → A8 → A9 → A10 → A11 → A12 → A13 → Nat) (hs : ∀ (n : Nat) (a1 : A1) (a2 : A2) (a3 : A3) (a4 : A4) (a5 : A5) (a6 : A6) (a7 : A7) (a8 : A8) (a9 : A9) (a10 : A10) (a11 : A11) (a12 : A12) (a13 : A13), I a1 a2 a3 a4 a5 a6 a7 a8 a9 a10 a11 a12 a13 → (∀ (b1 : A1) (b2 : A2) (b3 : A3) (b4 : A4) (b5 : A5) (b6 : A6) (b7 : A7) (b8 : A8) (b9 : A9) (b10 : A10) (b11 : A11) (b12 : A12) (b13 : A13), I b1 b2 b3 b4 b5 b6 b7 b8 b9 b10 b11 b12 b13 → μ b1 b2 b3 b4 b5 b6 b7 b8 b9 b10 b11 b12 b13 < μ a1 a2 a3 a4 a5 a6 a7 a8 a9 a10 a11 a12 a13 → W n b1 b2 b3 b4 b5 b6 b7 b8 b9 b10 b11 b12 b13) → W (n + 1) a1 a2 a3 a4 a5 a6 a7 a8 a9 a10 a11 a12 a13) (a1 : A1) (a2 : A2) (a3 : A3) (a4 : A4) (a5 : A5) (a6 : A6) (a7 : A7) (a8 : A8) (a9 : A9) (a10 : A10) (a11 : A11) (a12 : A12) (a13 : A13) (h : I a1 a2 a3 a4 a5 a6 a7 a8 a9 a10 a11 a12 a13) : ∃ n, W n a1 a2 a3 a4 a5 a6 a7 a8 a9 a10 a11 a12 a13 :=
  loop_m (σ := A1 × A2 × A3 × A4 × A5 × A6 × A7 × A8 × A9 × A10 × A11 × A12 × A13) (fun n s => W n s.1 s.2.1 s.2.2.1 s.2.2.2.1 s.2.2.2.2.1 s.2.2.2.2.2.1 s.2.2.2.2.2.2.1 s.2.2.2.2.2.2.2.1 s.2.2.2.2.2.2.2.2.1 s.2.2.2.2.2.2.2.2.2.1 s.2.2.2.2.2.2.2.2.2.2.1 s.2.2.2.2.2.2.2.2.2.2.2.1 s.2.2.2.2.2.2.2.2.2.2.2.2) (fun s => I s.1 s.2.1 s.2.2.1 s.2.2.2.1 s.2.2.2.2.1 s.2.2.2.2.2.1 s.2.2.2.2.2.2.1 s.2.2.2.2.2.2.2.1 s.2.2.2.2.2.2.2.2.1 s.2.2.2.2.2.2.2.2.2.1 s.2.2.2.2.2.2.2.2.2.2.1 s.2.2.2.2.2.2.2.2.2.2.2.1 s.2.2.2.2.2.2.2.2.2.2.2.2) (fun s => μ s.1 s.2.1 s.2.2.1 s.2.2.2.1 s.2.2.2.2.1 s.2.2.2.2.2.1 s.2.2.2.2.2.2.1 s.2.2.2.2.2.2.2.1 s.2.2.2.2.2.2.2.2.1 s.2.2.2.2.2.2.2.2.2.1 s.2.2.2.2.2.2.2.2.2.2.1 s.2.2.2.2.2.2.2.2.2.2.2.1 s.2.2.2.2.2.2.2.2.2.2.2.2) (fun n s hI hk => hs n s.1 s.2.1 s.2.2.1 s.2.2.2.1 s.2.2.2.2.1 s.2.2.2.2.2.1 s.2.2.2.2.2.2.1 s.2.2.2.2.2.2.2.1 s.2.2.2.2.2.2.2.2.1 s.2.2.2.2.2.2.2.2.2.1 s.2.2.2.2.2.2.2.2.2.2.1 s.2.2.2.2.2.2.2.2.2.2.2.1 s.2.2.2.2.2.2.2.2.2.2.2.2 hI (fun b1 b2 b3 b4 b5 b6 b7 b8 b9 b10 b11 b12 b13 h9 hm => hk (b1, b2, b3, b4, b5, b6, b7, b8, b9, b10, b11, b12, b13) h9 hm)) (a1, a2, a3, a4, a5, a6, a7, a8, a9, a10, a11, a12, a13) h
theorem lp14 {A1 A2 A3 A4 A5 A6 A7 A8 A9 A10 A11 A12 A13 A14 : Type} (W : Nat → A1 → A2 → A3 → A4 → A5 → A6 → A7 → A8 → A9 → A10 → A11 → A12 → A13 → A14 → Prop) (I : A1 → A2 → A3 → A4 → A5 → A6 → A7 → A8 → A9 → A10 → A11 → A12 → A13 → A14 → Prop) (μ : A1 → A2 → A3 → A4 → A5 → A6 → A7 → A8 → A9 → A10 → A11 → A12 → A13 → A14 → Nat) (hs : ∀ (n : Nat) (a1 : A1) (a2 : A2) (a3 : A3) (a4 : A4) (a5 : A5) (a6 : A6) (a7 : A7) (a8 : A8) (a9 : A9) (a10 : A10) (a11 : A11) (a12 : A12) (a13 : A13) (a14 : A14), I a1 a2 a3 a4 a5 a6 a7 a8 a9 a10 a11 a12 a13 a14 → (∀ (b1 : A1) (b2 : A2) (b3 : A3) (b4 : A4) (b5 : A5) (b6 : A6) (b7 : A7) (b8 : A8) (b9 : A9) (b10 : A10) (b11 : A11) (b12 : A12) (b13 : A13) (b14 : A14), I b1 b2 b3 b4 b5 b6 b7 b8 b9 b10 b11 b12 b13 b14 → μ b1 b2 b3 b4 b5 b6 b7 b8 b9 b10 b11 b12 b13 b14 < μ a1 a2 a3 a4 a5 a6 a7 a8 a9 a10 a11 a12 a13 a14 → W n b1 b2 b3 b4 b5 b6 b7 b8 b9 b10 b11 b12 b13 b14) → W (n + 1) a1 a2 a3 a4 a5 a6 a7 a8 a9 a10 a11 a12 a13 a14) (a1 : A1) (a2 : A2) (a3 : A3) (a4 : A4) (a5 : A5) (a6 : A6) (a7 : A7) (a8 : A8) (a9 : A9) (a10 : A10) (a11 : A11) (a12 : A12) (a13 : A13) (a14 : A14) (h : I a1 a2 a3 a4 a5 a6 a7 a8 a9 a10 a11 a12 a13 a14) : ∃ n, W n a1 a2 a3 a4 a5 a6 a7 a8 a9 a10 a11 a12 a13 a14 :=
  loop_m (σ := A1 × A2 × A3 × A4 × A5 × A6 × A7 × A8 × A9 × A10 × A11 × A12 × A13 × A14) (fun n s => W n s.1 s.2.1 s.2.2.1 s.2.2.2.1 s.2.2.2.2.1 s.2.2.2.2.2.1 s.2.2.2.2.2.2.1 s.2.2.2.2.2.2.2.1 s.2.2.2.2.2.2.2.2.1 s.2.2.2.2.2.2.2.2.2.1 s.2.2.2.2.2.2.2.2.2.2.1 s.2.2.2.2.2.2.2.2.2.2.2.1 s.2.2.2.2.2.2.2.2.2.2.2.2.1 s.2.2.2.2.2.2.2.2.2.2.2.2.2) (fun s => I s.1 s.2.1 s.2.2.1 s.2.2.2.1 s.2.2.2.2.1 s.2.2.2.2.2.1 s.2.2.2.2.2.2.1 s.2.2.2.2.2.2.2.1 s.2.2.2.2.2.2.2.2.1 s.2.2.2.2.2.2.2.2.2.1 s.2.2.2.2.2.2.2.2.2.2.1 s.2.2.2.2.2.2.2.2.2.2.2.1 s.2.2.2.2.2.2.2.2.2.2.2.2.1 s.2.2.2.2.2.2.2.2.2.2.2.2.2) (fun s => μ s.1 s.2.1 s.2.2.1 s.2.2.2.1 s.2.2.2.2.1 s.2.2.2.2.2.1 s.2.2.2.2.2.2.1 s.2.2.2.2.2.2.2.1 s.2.2.2.2.2.2.2.2.1 s.2.2.2.2.2.2.2.2.2.1 s.2.2.2.2.2.2.2.2.2.2.1 s.2.2.2.2.2.2.2.2.2.2.2.1 s.2.2.2.2.2.2.2.2.2.2.2.2.1 s.2.2.2.2.2.2.2.2.2.2.2.2.2) (fun n s hI hk => hs n s.1 s.2.1 s.2.2.1 s.2.2.2.1 s.2.2.2.2.1 s.2.2.2.2.2.1 s.2.2.2.2.2.2.1 s.2.2.2.2.2.2.2.1 s.2.2.2.2.2.2.2.2.1 s.2.2.2.2.2.2.2.2.2.1 s.2.2.2.2.2.2.2.2.2.2.1 s.2.2.2.2.2.2.2.2.2.2.2.1 s.2.2.2.2.2.2.2.2.2.2.2.2.1 s.2.2.2.2.2.2.2.2.2.2.2.2.2 hI (fun b1 b2 b3 b4 b5 b6 b7 b8 b9 b10 b11 b12 b13 b14 h9 hm => hk (b1, b2, b3, b4, b5, b6, b7, b8, b9, b10, b11, b12, b13, b14) h9 hm)) (a1, a2, a3, a4, a5, a6, a7, a8, a9, a10, a11, a12, a13, a14) h
theorem lp15 {A1 A2 A3 A4 A5 A6 A7 A8 A9 A10 A11 A12 A13 A14 A15 : Type} (W : Nat → A1 → A2 → A3 → A4 → A5 → A6 → A7 → A8 → A9 → A10 → A11 → A12 → A13 → A14 → A15 → Prop) (I : A1 → A2 → A3 → A4 → A5 → A6 → A7 → A8 → A9 → A10 → A11 → A12 → A13 → A14 → A15 → Prop) (μ : A1 → A2 → A3 → A4 → A5 → A6 → A7 → A8 → A9 → A10 → A11 → A12 → A13 → A14 → A15 → Nat) (hs : ∀ (n : Nat) (a1 : A1) (a2 : A2) (a3 : A3) (a4 : A4) (a5 : A5) (a6 : A6) (a7 : A7) (a8 : A8) (a9 : A9) (a10 : A10) (a11 : A11) (a12 : A12) (a13 : A13) (a14 : A14) (a15 : A15), I a1 a2 a3 a4 a5 a6 a7 a8 a9 a10 a11 a12 a13 a14 a15 → (∀ (b1 : A1) (b2 : A2) (b3 : A3) (b4 : A4) (b5 : A5) (b6 : A6) (b7 : A7) (b8 : A8) (b9 : A9) (b10 : A10) (b11 : A11) (b12 : A12) (b13 : A13) (b14 : A14) (b15 : A15), I b1 b2 b3 b4 b5 b6 b7 b8 b9 b10 b11 b12 b13 b14 b15 → μ b1 b2 b3 b4 b5 b6 b7 b8 b9 b10 b11 b12 b13 b14 b15 < μ a1 a2 a3 a4 a5 a6 a7 a8 a9 a10 a11 a12 a13 a14 a15 → W n b1 b2 b3 b4 b5 b6 b7 b8 b9 b10 b11 b12 b13 b14 b15) → W (n + 1) a1 a2 a3 a4 a5 a6 a7 a8 a9 a10 a11 a12 a13 a14 a15) (a1 : A1) (a2 : A2) (a3 : A3) (a4 : A4) (a5 : A5) (a6 : A6) (a7 : A7) (a8 : A8) (a9 : A9) (a10 : A10) (a11 : A11) (a12 : A12) (a13 : A13) (a14 : A14) (a15 : A15) (h : I a1 a2 a3 a4 a5 a6 a7 a8 a9 a10 a11 a12 a13 a14 a15) : ∃ n, W n a1 a2 a3 a4 a5 a6 a7 a8 a9 a10 a11 a12 a13 a14 a15 :=
  loop_m (σ := A1 × A2 × A3 × A4 × A5 × A6 × A7 × A8 × A9 × A10 × A11 × A12 × A13 × A14 × A15) (fun n s => W n s.1 s.2.1 s.2.2.1 s.2.2.2.1 s.2.2.2.2.1 s.2.2.2.2.2.1 s.2.2.2.2.2.2.1 s.2.2.2.2.2.2.2.1 s.2.2.2.2.2.2.2.2.1 s.2.2.2.2.2.2.2.2.2.1 s.2.2.2.2.2.2.2.2.2.2.1 s.2.2.2.2.2.2.2.2.2.2.2.1 s.2.2.2.2.2.2.2.2.2.2.2.2.1 s.2.2.2.2.2.2.2.2.2.2.2.2.2.1 s.2.2.2.2.2.2.2.2.2.2.2.2.2.2) (fun s => I s.1 s.2.1 s.2.2.1 s.2.2.2.1 s.2.2.2.2.1 s.2.2.2.2.2.1 s.2.2.2.2.2.2.1 s.2.2.2.2.2.2.2.1 s.2.2.2.2.2.2.2.2.1 s.2.2.2.2.2.2.2.2.2.1 s.2.2.2.2.2.2.2.2.2.2.1 s.2.2.2.2.2.2.2.2.2.2.2.1 s.2.2.2.2.2.2.2.2.2.2.2.2.1 s.2.2.2.2.2.2.2.2.2.2.2.2.2.1 s.2.2.2.2.2.2.2.2.2.2.2.2.2.2) (fun s => μ s.1 s.2.1 s.2.2.1 s.2.2.2.1 s.2.2.2.2.1 s.2.2.2.2.2.1 s.2.2.2.2.2.2.1 s.2.2.2.2.2.2.2.1 s.2.2.2.2.2.2.2.2.1 s.2.2.2.2.2.2.2.2.2.1 s.2.2.2.2.2.2.2.2.2.2.1 s.2.2.2.2.2.2.2.2.2.2.2.1 s.2.2.2.2.2.2.2.2.2.2.2.2.1 s.2.2.2.2.2.2.2.2.2.2.2.2.2.1 s.2.2.2.2.2.2.2.2.2.2.2.2.2.2) (fun n s hI hk => hs n s.1 s.2.1 s.2.2.1 s.2.2.2.1 s.2.2.2.2.1 s.2.2.2.2.2.1 s.2.2.2.2.2.2.1 s.2.2.2.2.2.2.2.1 s.2.2.2.2.2.2.2.2.1 s.2.2.2.2.2.2.2.2.2.1 s.2.2.2.2.2.2.2.2.2.2.1 s.2.2.2.2.2.2.2.2.2.2.2.1 s.2.2.2.2.2.2.2.2.2.2.2.2.1 s.2.2.2.2.2.2.2.2.2.2.2.2.2.1 s.2.2.2.2.2.2.2.2.2.2.2.2.2.2 hI (fun b1 b2 b3 b4 b5 b6 b7 b8 b9 b10 b11 b12 b13 b14 b15 h9 hm => hk (b1, b2, b3, b4, b5, b6, b7, b8, b9, b10, b11, b12, b13, b14, b15) h9 hm)) (a1, a2, a3, a4, a5, a6, a7, a8, a9, a10, a11, a12, a13, a14, a15) h
theorem lp16 {A1 A2 A3 A4 A5 A6 A7 A8 A9 A10 A11 A12 A13 A14 A15 A16 : Type} (W : Nat → A1 → A2 → A3 → A4 → A5 → A6 → A7 → A8 → A9 → A10 → A11 → A12 → A13 → A14 → A15 → A16 → Prop) (I : A1 → A2 → A3 → A4 → A5 → A6 → A7 → A8 → A9 → A10 → A11 → A12 → A13 → A14 → A15 → A16 → Prop) (μ : A1 → A2 → A3 → A4 → A5 → A6 → A7 → A8 → A9 → A10 → A11 → A12 → A13 → A14 → A15 → A16 → Nat) (hs : ∀ (n : Nat) (a1 : A1) (a2 : A2) (a3 : A3) (a4 : A4) (a5 : A5) (a6 : A6) (a7 : A7) (a8 : A8) (a9 : A9) (a10 : A10) (a11 : A11) (a12 : A12) (a13 : A13) (a14 : A14) (a15 : A15) (a16 : A16), I a1 a2 a3 a4 a5 a6 a7 a8 a9 a10 a11 a12 a13 a14 a15 a16 → (∀ (b1 : A1) (b2 : A2) (b3 : A3) (b4 : A4) (b5 : A5) (b6 : A6) (b7 : A7) (b8 : A8) (b9 : A9) (b10 : A10) (b11 : A11) (b12 : A12) (b13 : A13) (b14 : A14) (b15 : A15) (b16 : A16), I b1 b2 b3 b4 b5 b6 b7 b8 b9 b10 b11 b12 b13 b14 b15 b16 → μ b1 b2 b3 b4 b5 b6 b7 b8 b9 b10 b11 b12 b13 b14 b15 b16 < μ a1 a2 a3 a4 a5 a6 a7 a8 a9 a10 a11 a12 a13 a14 a15 a16 → W n b1 b2 b3 b4 b5 b6 b7 b8 b9 b10 b11 b12 b13 b14 b15 b16) → W (n + 1) a1 a2 a3 a4 a5 a6 a7 a8 a9 a10 a11 a12 a13 a14 a15 a16) (a1 : A1) (a2 : A2) (a3 : A3) (a4 : A4) (a5 : A5) (a6 : A6) (a7 : A7) (a8 : A8) (a9 : A9) (a10 : A10) (a11 : A11) (a12 : A12) (a13 : A13) (a14 : A14) (a15 : A15) (a16 : A16) (h : I a1 a2 a3 a4 a5 a6 a7 a8 a9 a10 a11 a12 a13 a14 a15 a16) : ∃ n, W n a1 a2 a3 a4 a5 a6 a7 a8 a9 a10 a11 a12 a13 a14 a15 a16 :=
  loop_m (σ := A1 × A2 × A3 × A4 × A5 × A6 × A7 × A8 × A9 × A10 × A11 × A12 × A13 × A14 × A15 × A16) (fun n s => W n s.1 s.2.1 s.2.2.1 s.2.2.2.1 s.2.2.2.2.1 s.2.2.2.2.2.1 s.2.2.2.2.2.2.1 s.2.2.2.2.2.2.2.1 s.2.2.2.2.2.2.2.2.1 s.2.2.2.2.2.2.2.2.2.1 s.2.2.2.2.2.2.2.2.2.2.1 s.2.2.2.2.2.2.2.2.2.2.2.1 s.2.2.2.2.2.2.2.2.2.2.2.2.1 s.2.2.2.2.2.2.2.2.2.2.2.2.2.1 s.2.2.2.2.2.2.2.2.2.2.2.2.2.2.1 s.2.2.2.2.2.2.2.2.2.2.2.2.2.2.2) (fun s => I s.1 s.2.1 s.2.2.1 s.2.2.2.1 s.2.2.2.2.1 s.2.2.2.2.2.1 s.2.2.2.2.2.2.1 s.2.2.2.2.2.2.2.1 s.2.2.2.2.2.2.2.2.1 s.2.2.2.2.2.2.2.2.2.1 s.2.2.2.2.2.2.2.2.2.2.1 s.2.2.2.2.2.2.2.2.2.2.2.1 s.2.2.2.2.2.2.2.2.2.2.2.2.1 s.2.2.2.2.2.2.2.2.2.2.2.2.2.1 s.2.2.2.2.2.2.2.2.2.2.2.2.2.2.1 s.2.2.2.2.2.2.2.2.2.2.2.2.2.2.2) (fun s => μ s.1 s.2.1 s.2.2.1 s.2.2.2.1 s.2.2.2.2.1 s.2.2.2.2.2.1 s.2.2.2.2.2.2.1 s.2.2.2.2.2.2.2.1 s.2.2.2.2.2.2.2.2.1 s.2.2.2.2.2.2.2.2.2.1 s.2.2.2.2.2.2.2.2.2.2.1 s.2.2.2.2.2.2.2.2.2.2.2.1 s.2.2.2.2.2.2.2.2.2.2.2.2.1 s.2.2.2.2.2.2.2.2.2.2.2.2.2.1 s.2.2.2.2.2.2.2.2.2.2.2.2.2.2.1 s.2.2.2.2.2.2.2.2.2.2.2.2.2.2.2) (fun n s hI hk => hs n s.1 s.2.1 s.2.2.1 s.2.2.2.1 s.2.2.2.2.1 s.2.2.2.2.2.1 s.2.2.2.2.2.2.1 s.2.2.2.2.2.2.2.1 s.2.2.2.2.2.2.2.2.1 s.2.2.2.2.2.2.2.2.2.1 s.2.2.2.2.2.2.2.2.2.2.1 s.2.2.2.2.2.2.2.2.2.2.2.1 s.2.2.2.2.2.2.2.2.2.2.2.2.1 s.2.2.2.2.2.2.2.2.2.2.2.2.2.1 s.2.2.2.2.2.2.2.2.2.2.2.2.2.2.1 s.2.2.2.2.2.2.2.2.2.2.2.2.2.2.2 hI (fun b1 b2 b3 b4 b5 b6 b7 b8 b9 b10 b11 b12 b13 b14 b15 b16 h9 hm => hk (b1, b2, b3, b4, b5, b6, b7, b8, b9, b10, b11, b12, b13, b14, b15, b16) h9 hm)) (a1, a2, a3, a4, a5, a6, a7, a8, a9, a10, a11, a12, a13, a14, a15, a16) h
theorem pk_least (P : Nat → Prop) (h : ∃ k, P k) : ∃ k, P k ∧ ∀ j, j < k → ¬ P j := by
  obtain ⟨k, hk⟩ := h
  induction k using Nat.strongRecOn with
  | ind k ih =>
    by_cases e : ∃ j, j < k ∧ P j
    · obtain ⟨j, hj, pj⟩ := e
      exact ih j hj pj
    · exact ⟨k, hk, fun j hj pj => e ⟨j, hj, pj⟩⟩
theorem rp1 {ρ A1 : Type} (W : Nat → (ρ → Prop) → A1 → Prop) (ok : A1 → Prop) (μ : A1 → Nat) (val : A1 → ρ)
    (hs : ∀ (d : Nat) (post : ρ → Prop) (a1 : A1), ok a1 → post (val a1) → (∀ (post' : ρ → Prop) (b1 : A1), ok b1 → μ b1 < μ a1 → post' (val b1) → W d post' b1) → W (d + 1) post a1) :
    ∀ (d : Nat) (post : ρ → Prop) (a1 : A1), ok a1 → μ a1 < d → post (val a1) → W d post a1 := by
  intro d
  induction d with
  | zero => intro post a1 _ h; omega
  | succ d ih =>
    intro post a1 ho hm hp
    exact hs d post a1 ho hp (fun post' b1 ho' hm' hp' => ih post' b1 ho' (by omega) hp')
theorem rp2 {ρ A1 A2 : Type} (W : Nat → (ρ → Prop) → A1 → A2 → Prop) (ok : A1 → A2 → Prop) (μ : A1 → A2 → Nat) (val : A1 → A2 → ρ)
    (hs : ∀ (d : Nat) (post : ρ → Prop) (a1 : A1) (a2 : A2), ok a1 a2 → post (val a1 a2) → (∀ (post' : ρ → Prop) (b1 : A1) (b2 : A2), ok b1 b2 → μ b1 b2 < μ a1 a2 → post' (val b1 b2) → W d post' b1 b2) → W (d + 1) post a1 a2) :
    ∀ (d : Nat) (post : ρ → Prop) (a1 : A1) (a2 : A2), ok a1 a2 → μ a1 a2 < d → post (val a1 a2) → W d post a1 a2 := by
  intro d
  induction d with
  | zero => intro post a1 a2 _ h; omega
  | succ d ih =>
    intro post a1 a2 ho hm hp
    exact hs d post a1 a2 ho hp (fun post' b1 b2 ho' hm' hp' => ih post' b1 b2 ho' (by omega) hp')
theorem rp3 {ρ A1 A2 A3 : Type} (W : Nat → (ρ → Prop) → A1 → A2 → A3 → Prop) (ok : A1 → A2 → A3 → Prop) (μ : A1 → A2 → A3 → Nat) (val : A1 → A2 → A3 → ρ)
    (hs : ∀ (d : Nat) (post : ρ → Prop) (a1 : A1) (a2 : A2) (a3 : A3), ok a1 a2 a3 → post (val a1 a2 a3) → (∀ (post' : ρ → Prop) (b1 : A1) (b2 : A2) (b3 : A3), ok b1 b2 b3 → μ b1 b2 b3 < μ a1 a2 a3 → post' (val b1 b2 b3) → W d post' b1 b2 b3) → W (d + 1) post a1 a2 a3) :
    ∀ (d : Nat) (post : ρ → Prop) (a1 : A1) (a2 : A2) (a3 : A3), ok a1 a2 a3 → μ a1 a2 a3 < d → post (val a1 a2 a3) → W d post a1 a2 a3 := by
  intro d
  induction d with
  | zero => intro post a1 a2 a3 _ h; omega
  | succ d ih =>
    intro post a1 a2 a3 ho hm hp
    exact hs d post a1 a2 a3 ho hp (fun post' b1 b2 b3 ho' hm' hp' => ih post' b1 b2 b3 ho' (by omega) hp')
theorem rp4 {ρ A1 A2 A3 A4 : Type} (W : Nat → (ρ → Prop) → A1 → A2 → A3 → A4 → Prop) (ok : A1 → A2 → A3 → A4 → Prop) (μ : A1 → A2 → A3 → A4 → Nat) (val : A1 → A2 → A3 → A4 → ρ)
    (hs : ∀ (d : Nat) (post : ρ → Prop) (a1 : A1) (a2 : A2) (a3 : A3) (a4 : A4), ok a1 a2 a3 a4 → post (val a1 a2 a3 a4) → (∀ (post' : ρ → Prop) (b1 : A1) (b2 : A2) (b3 : A3) (b4 : A4), ok b1 b2 b3 b4 → μ b1 b2 b3 b4 < μ a1 a2 a3 a4 → post' (val b1 b2 b3 b4) → W d post' b1 b2 b3 b4) → W (d + 1) post a1 a2 a3 a4) :
    ∀ (d : Nat) (post : ρ → Prop) (a1 : A1) (a2 : A2) (a3 : A3) (a4 : A4), ok a1 a2 a3 a4 → μ a1 a2 a3 a4 < d → post (val a1 a2 a3 a4) → W d post a1 a2 a3 a4 := by
  intro d
  induction d with
  | zero => intro post a1 a2 a3 a4 _ h; omega
  | succ d ih =>
    intro post a1 a2 a3 a4 ho hm hp
    exact hs d post a1 a2 a3 a4 ho hp (fun post' b1 b2 b3 b4 ho' hm' hp' => ih post' b1 b2 b3 b4 ho' (by omega) hp')
theorem rp5 {ρ A1 A2 A3 A4 A5 : Type} (W : Nat → (ρ → Prop) → A1 → A2 → A3 → A4 → A5 → Prop) (ok : A1 → A2 → A3 → A4 → A5 → Prop) (μ : A1 → A2 → A3 → A4 → A5 → Nat) (val : A1 → A2 → A3 → A4 → A5 → ρ)
    (hs : ∀ (d : Nat) (post : ρ → Prop) (a1 : A1) (a2 : A2) (a3 : A3) (a4 : A4) (a5 : A5), ok a1 a2 a3 a4 a5 → post (val a1 a2 a3 a4 a5) → (∀ (post' : ρ → Prop) (b1 : A1) (b2 : A2) (b3 : A3) (b4 : A4) (b5 : A5), ok b1 b2 b3 b4 b5 → μ b1 b2 b3 b4 b5 < μ a1 a2 a3 a4 a5 → post' (val b1 b2 b3 b4 b5) → W d post' b1 b2 b3 b4 b5) → W (d + 1) post a1 a2 a3 a4 a5) :
    ∀ (d : Nat) (post : ρ → Prop) (a1 : A1) (a2 : A2) (a3 : A3) (a4 : A4) (a5 : A5), ok a1 a2 a3 a4 a5 → μ a1 a2 a3 a4 a5 < d → post (val a1 a2 a3 a4 a5) → W d post a1 a2 a3 a4 a5 := by
  intro d
  induction d with
  | zero => intro post a1 a2 a3 a4 a5 _ h; omega
  | succ d ih =>
    intro post a1 a2 a3 a4 a5 ho hm hp
    exact hs d post a1 a2 a3 a4 a5 ho hp (fun post' b1 b2 b3 b4 b5 ho' hm' hp' => ih post' b1 b2 b3 b4 b5 ho' (by omega) hp')
theorem rp6 {ρ A1 A2 A3 A4 A5 A6 : Type} (W : Nat → (ρ → Prop) → A1 → A2 → A3 → A4 → A5 → A6 → Prop) (ok : A1 → A2 → A3 → A4 → A5 → A6 → Prop) (μ : A1 → A2 → A3 → A4 → A5 → A6 → Nat) (val : A1 → A2 → A3 → A4 → A5 → A6 → ρ)
    (hs : ∀ (d : Nat) (post : ρ → Prop) (a1 : A1) (a2 : A2) (a3 : A3) (a4 : A4) (a5 : A5) (a6 : A6), ok a1 a2 a3 a4 a5 a6 → post (val a1 a2 a3 a4 a5 a6) → (∀ (post' : ρ → Prop) (b1 : A1) (b2 : A2) (b3 : A3) (b4 : A4) (b5 : A5) (b6 : A6), ok b1 b2 b3 b4 b5 b6 → μ b1 b2 b3 b4 b5 b6 < μ a1 a2 a3 a4 a5 a6 → post' (val b1 b2 b3 b4 b5 b6) → W d post' b1 b2 b3 b4 b5 b6) → W (d + 1) post a1 a2 a3 a4 a5 a6) :
    ∀ (d : Nat) (post : ρ → Prop) (a1 : A1) (a2 : A2) (a3 : A3) (a4 : A4) (a5 : A5) (a6 : A6), ok a1 a2 a3 a4 a5 a6 → μ a1 a2 a3 a4 a5 a6 < d → post (val a1 a2 a3 a4 a5 a6) → W d post a1 a2 a3 a4 a5 a6 := by
  intro d
  induction d with
  | zero => intro post a1 a2 a3 a4 a5 a6 _ h; omega
  | succ d ih =>
    intro post a1 a2 a3 a4 a5 a6 ho hm hp
    exact hs d post a1 a2 a3 a4 a5 a6 ho hp (fun post' b1 b2 b3 b4 b5 b6 ho' hm' hp' => ih post' b1 b2 b3 b4 b5 b6 ho' (by omega) hp')
theorem rec_p {σ ρ : Type} (W : Nat → (ρ → Prop) → σ → Prop) (ok : σ → Prop) (μ : σ → Nat) (val : σ → ρ)
    (hs : ∀ d s post, ok s → post (val s) → (∀ s' post', ok s' → μ s' < μ s → post' (val s') → W d post' s') → W (d + 1) post s) :
    ∀ d s post, ok s → μ s < d → post (val s) → W d post s := by
  intro d
  induction d with
  | zero => intro s post _ h; omega
  | succ d ih =>
    intro s post ho hm hp
    exact hs d s post ho hp (fun s' post' ho' hm' hp' => ih s' post' ho' (by omega) hp')
theorem rec_q {σ ρ : Type} (W : Nat → (ρ → Prop) → σ → Prop) (ok : σ → Prop) (μ : σ → Nat) (Q : σ → ρ → Prop)
    (hs : ∀ d s post, ok s → (∀ r, Q s r → post r) → (∀ s' post', ok s' → μ s' < μ s → (∀ r, Q s' r → post' r) → W d post' s') → W (d + 1) post s) :
    ∀ d s post, ok s → μ s < d → (∀ r, Q s r → post r) → W d post s := by
  intro d
  induction d with
  | zero => intro s post _ h; omega
  | succ d ih =>
    intro s post ho hm hp
    exact hs d s post ho hp (fun s' post' ho' hm' hp' => ih s' post' ho' (by omega) hp')
def bx_sum (f : Nat → Int32) : Nat → Int32
  | 0 => 0
  | n + 1 => bx_sum f n + f n
theorem ek_u {A : Prop} {B : Nat → Prop} {k N : Nat} (hk : k < N) (h : B k) : (some k = none → A) ∧ (∀ y : Nat, some k = some y → (y < N ∧ B y)) :=
  ⟨fun z => absurd z (Option.some_ne_none k), fun _ e => (by cases e; exact ⟨hk, h⟩)⟩
theorem ek_nu {A : Prop} {B : Nat → Prop} (h : A) : ((none : Option Nat) = none → A) ∧ (∀ y : Nat, (none : Option Nat) = some y → B y) :=
  ⟨fun _ => h, fun _ e => (by cases e)⟩
theorem ek_if {c d A B : Prop} (e : c ↔ d) (f : d → A) (g : ¬ d → B) : (c → A) ∧ (¬ c → B) :=
  ⟨fun z => f (e.mp z), fun z => g (fun y => z (e.mpr y))⟩
theorem ek_v {α : Sort _} {P : α → Prop} {a b : α} (e : a = b) (h : P b) : P a := e ▸ h
theorem co_some {x : Option Nat} {A : Prop} {B : Nat → Prop} (i : Nat) (h : B i) (hx : x = some i := by rfl) : (x = none → A) ∧ (∀ y : Nat, x = some y → B y) := by
  subst hx
  exact ⟨fun e => (nomatch e), fun y e => Option.some.inj e ▸ h⟩
theorem co_none {x : Option Nat} {A : Prop} {B : Nat → Prop} (h : A) (hx : x = none := by rfl) : (x = none → A) ∧ (∀ y : Nat, x = some y → B y) := by
  subst hx
  exact ⟨fun _ => h, fun y e => (nomatch e)⟩
theorem co_any {x : Option Nat} {A : Prop} {B : Nat → Prop} (hn : x = none → A) (hs : ∀ i : Nat, x = some i → B i) : (x = none → A) ∧ (∀ y : Nat, x = some y → B y) := ⟨hn, hs⟩
theorem co_2 {P : Nat → Prop} (h0 : P 0) (h1 : P 1) {i : Nat} (hi : i < 2) : P i :=
  match i, hi with
  | 0, _ => h0
  | 1, _ => h1
theorem co_3 {P : Nat → Prop} (h0 : P 0) (h1 : P 1) (h2 : P 2) {i : Nat} (hi : i < 3) : P i :=
  match i, hi with
  | 0, _ => h0
  | 1, _ => h1
  | 2, _ => h2
theorem co_4 {P : Nat → Prop} (h0 : P 0) (h1 : P 1) (h2 : P 2) (h3 : P 3) {i : Nat} (hi : i < 4) : P i :=
  match i, hi with
  | 0, _ => h0
  | 1, _ => h1
  | 2, _ => h2
  | 3, _ => h3
theorem co_dec {N : Nat} {P : Nat → Prop} [DecidablePred P] (h : (List.range N).all (fun i => decide (P i)) = true) {i : Nat} (hi : i < N) : P i := by
  have := List.all_eq_true.mp h i (List.mem_range.mpr hi)
  exact of_decide_eq_true this
theorem co_tab {α : Type} {l : List α} {d : α} {P : α → Prop} (h : ∀ a, a ∈ l → P a) {i : Nat} (hi : i < l.length) : P (l.getD i d) := by
  rw [List.getD_eq_getElem?_getD, List.getElem?_eq_getElem hi]
  exact h _ (List.getElem_mem hi)
theorem pk_mu {x : Int32} {L : Nat} (h0 : ¬ x < 0) (h : ¬ nI L ≤ x) (hL : L < 2 ^ 31) : ∃ j : Nat, j < L ∧ x = nI j ∧ x + 1 = nI (j + 1) ∧ x.toNatClampNeg = j ∧ L - (x + 1).toNatClampNeg < L - x.toNatClampNeg := by
  obtain ⟨j, hj, rfl⟩ := nI_of h0
  have hl : j < L := Nat.not_le.mp fun q => h (nI_le q hj)
  refine ⟨j, hl, rfl, nI_1 j, nI_clamp hj, ?_⟩
  rw [nI_1, nI_clamp (by omega), nI_clamp hj]
  omega
theorem op_s {α : Type} {r : Option α} {A : Prop} {B : α → Prop} {y : α} (h : r = some y) (b : B y) : (r = none → A) ∧ ∀ z, r = some z → B z :=
  ⟨fun e => (by rw [h] at e; cases e), fun z e => (by rw [h] at e; cases e; exact b)⟩
def l_holds {α : Type} (a : Nat → Option Nat) (LP : List Nat) (p : Nat → α) (c : Nat) (b : Nat → α) : Prop :=
  ∀ j, j < c → ∃ y, a j = some y ∧ y ∈ LP ∧ p y = b j
theorem l_holds_0 {α : Type} {a : Nat → Option Nat} {LP : List Nat} {p b : Nat → α} : l_holds a LP p 0 b := fun j h => absurd h (Nat.not_lt_zero j)
theorem l_in_new (LP : List Nat) (q : Nat) : q ∈ LP ++ [q] := List.mem_append.mpr (Or.inr (List.mem_singleton.mpr rfl))
def l_sum (b : Nat → Int32) : Nat → Int32
  | 0 => 0
  | k + 1 => l_sum b k + b k
theorem sb_shr0 (x : Int32) : x >>> ((0 : Int32) &&& 31) = x := by
  rw [show ((0 : Int32) &&& 31) = 0 by decide]
  simp
theorem sb_shl0 (x : Int32) : x <<< ((0 : Int32) &&& 31) = x := by
  rw [show ((0 : Int32) &&& 31) = 0 by decide]
  simp
theorem sb_cl0 : (0 : Int32).toNatClampNeg = 0 := by decide
theorem sb_m1 {p : Nat} (h : 0 < p) : nI p + (-1) = nI (p - 1) := by
  obtain ⟨q, rfl⟩ : ∃ q, p = q + 1 := ⟨p - 1, by omega⟩
  exact pk_m1 q
def sb_b (c : Nat) : Int32 := (nI c).toInt8.toInt32
theorem sb_byte : ∀ c, c < 256 → sb_b c &&& 255 = nI c ∧ ((nI c).toUInt32 % 65536).toInt32 = nI c ∧ nI c ≤ 255 := by decide +kernel
def sb_Fit (a : Nat → Int32) : Prop := ∀ j, fits .byte (.int (a j)) = true
def sb_Lat (t : Nat → Nat) (n : Nat) (a : Nat → Int32) : Prop := ∀ j, j < n → t j < 256 ∧ a j = sb_b (t j)
theorem sb_fitB (c : Nat) : fits .byte (.int (sb_b c)) = true := pk_fb _
theorem sb_fit0 : sb_Fit (fun _ => 0) := fun _ => by
  show fits .byte (.int 0) = true
  decide
theorem sb_fitU {a : Nat → Int32} {k : Nat} {x : Int32} (h : sb_Fit a) (hx : fits .byte (.int x) = true) : sb_Fit (upd a k x) := by
  intro j
  by_cases e : j = k
  · subst e
    rw [pk_us]
    exact hx
  · rw [pk_un e]
    exact h j
def sb_cat (t : Nat → Nat) (n : Nat) (s : Nat → Nat) : Nat → Nat := fun j => if j < n then t j else s (j - n)
theorem sb_cat_lo {t s : Nat → Nat} {n j : Nat} (h : j < n) : sb_cat t n s j = t j := if_pos h
theorem sb_cat_hi {t s : Nat → Nat} {n j : Nat} : sb_cat t n s (n + j) = s j := by
  show (if n + j < n then t (n + j) else s (n + j - n)) = s j
  rw [if_neg (by omega), Nat.add_sub_cancel_left]
theorem sb_latPut {t s : Nat → Nat} {n w : Nat} {a a' : Nat → Int32} (h : sb_Lat t n a) (hk : ∀ j, j < n → a' j = a j) (hs : ∀ i, i < w → s i < 256 ∧ a' (n + i) = sb_b (s i)) : sb_Lat (sb_cat t n s) (n + w) a' := by
  intro j hj
  by_cases e : j < n
  · rw [sb_cat_lo e, hk j e]
    exact h j e
  · obtain ⟨i, rfl⟩ : ∃ i, j = n + i := ⟨j - n, by omega⟩
    rw [sb_cat_hi]
    exact hs i (by omega)
theorem sb_latKeep {t : Nat → Nat} {n : Nat} {a a' : Nat → Int32} (h : sb_Lat t n a) (hk : ∀ j, j < n → a' j = a j) : sb_Lat t n a' := fun j hj => by
  rw [hk j hj]
  exact h j hj
def sb_cap (q m : Nat) : Nat := if q ≤ m then m else if 2 * m + 2 < q then q else 2 * m + 2
def sb_Room (q m mc ms : Nat) : Prop := q ≤ m ∨ (1 ≤ mc ∧ sb_cap q m ≤ ms ∧ sb_cap q m ≤ 65536)
theorem sb_cap_ge (q m : Nat) : q ≤ sb_cap q m := by
  unfold sb_cap
  split
  · omega
  · split <;> omega
theorem sb_cap_gem (q m : Nat) : m ≤ sb_cap q m := by
  unfold sb_cap
  split
  · omega
  · split <;> omega
theorem sb_cap_le {q m mc ms : Nat} (hm : m ≤ 65536) (hr : sb_Room q m mc ms) : sb_cap q m ≤ 65536 := by
  rcases hr with h | h
  · rw [sb_cap, if_pos h]
    exact hm
  · exact h.2.2
theorem sb_at {P : Int32 → Prop} {x y : Int32} (e : x = y) (h : P y) : P x := e ▸ h
def sb_dg (w : Nat) : Nat := if w < 10 then 1 else if w < 100 then 2 else if w < 1000 then 3 else if w < 10000 then 4 else if w < 100000 then 5 else if w < 1000000 then 6 else if w < 10000000 then 7 else if w < 100000000 then 8 else if w < 1000000000 then 9 else 10
def sb_dec (v : Nat) : Nat → Nat := fun i => 48 + v / 10 ^ (sb_dg v - 1 - i) % 10
theorem sb_dg_in (w : Nat) : 1 ≤ sb_dg w ∧ sb_dg w ≤ 10 := by
  unfold sb_dg
  constructor <;> (repeat' split) <;> omega
theorem sb_dg100 {w : Nat} (h : 100 ≤ w) (hw : w < 2 ^ 31) : sb_dg w = sb_dg (w / 100) + 2 := by
  rw [sb_dg, sb_dg, if_neg (show ¬ w < 10 by omega), if_neg (show ¬ w < 100 by omega)]
  by_cases h3 : w < 1000
  · rw [if_pos h3, if_pos (show w / 100 < 10 by omega)]
  rw [if_neg h3, if_neg (show ¬ w / 100 < 10 by omega)]
  by_cases h4 : w < 10000
  · rw [if_pos h4, if_pos (show w / 100 < 100 by omega)]
  rw [if_neg h4, if_neg (show ¬ w / 100 < 100 by omega)]
  by_cases h5 : w < 100000
  · rw [if_pos h5, if_pos (show w / 100 < 1000 by omega)]
  rw [if_neg h5, if_neg (show ¬ w / 100 < 1000 by omega)]
  by_cases h6 : w < 1000000
  · rw [if_pos h6, if_pos (show w / 100 < 10000 by omega)]
  rw [if_neg h6, if_neg (show ¬ w / 100 < 10000 by omega)]
  by_cases h7 : w < 10000000
  · rw [if_pos h7, if_pos (show w / 100 < 100000 by omega)]
  rw [if_neg h7, if_neg (show ¬ w / 100 < 100000 by omega)]
  by_cases h8 : w < 100000000
  · rw [if_pos h8, if_pos (show w / 100 < 1000000 by omega)]
  rw [if_neg h8, if_neg (show ¬ w / 100 < 1000000 by omega)]
  by_cases h9 : w < 1000000000
  · rw [if_pos h9, if_pos (show w / 100 < 10000000 by omega)]
  rw [if_neg h9, if_neg (show ¬ w / 100 < 10000000 by omega)]
  rw [if_pos (show w / 100 < 100000000 by omega)]
theorem sb_negT {w : Nat} (h : w < 2 ^ 31) : (-nI w).toInt = -(w : Int) := by
  rw [Int32.toInt_neg, nI_toInt h]
  exact Int.bmod_eq_of_le (by omega) (by omega)
theorem sb_nle {a b : Nat} (ha : a < 2 ^ 31) (hb : b < 2 ^ 31) : -nI a ≤ -nI b ↔ b ≤ a := by
  rw [Int32.le_iff_toInt_le, sb_negT ha, sb_negT hb]
  omega
theorem sb_nlt {a b : Nat} (ha : a < 2 ^ 31) (hb : b < 2 ^ 31) : -nI a < -nI b ↔ b < a := by
  rw [Int32.lt_iff_toInt_lt, sb_negT ha, sb_negT hb]
  omega
theorem sb_cmp {A B : Prop} {x : Int32} (v c : Nat) (f : c ≤ v → A) (g : v < c → B) (hv : v < 2 ^ 31) (hx : x = -nI c := by rfl) (hc : c < 2 ^ 31 := by omega) : (-nI v ≤ x → A) ∧ (¬ -nI v ≤ x → B) := by
  subst hx
  rw [sb_nle hv hc]
  exact ⟨f, fun z => g (by omega)⟩
theorem sb_ndiv {w : Nat} (hw : w < 2 ^ 31) : (-nI w) / 100 = -nI (w / 100) := by
  apply Int32.toInt_inj.mp
  have h100 : (100 : Int32).toInt = 100 := by decide
  rw [Int32.toInt_div, sb_negT hw, h100, sb_negT (by omega), Int.neg_tdiv, Int.tdiv_eq_ediv_of_nonneg (by omega), Int.bmod_eq_of_le (by omega) (by omega)]
  omega
theorem sb_nrem {w : Nat} (hw : w < 2 ^ 31) : (-nI (w / 100)) * 100 - (-nI w) = nI (w % 100) := by
  have h := pk_rem (a := w) (d := 100) hw (by decide) (by decide)
  rw [pk_div hw (by decide) (by decide)] at h
  rw [← h]
  show (-nI (w / 100)) * nI 100 - (-nI w) = nI w - nI (w / 100) * nI 100
  rw [Int32.neg_mul, Int32.sub_neg, Int32.add_comm, ← Int32.sub_eq_add_neg]
theorem s_l : ∀ n, n < 32 → ((nI n &&& 31).toBitVec.smod 32).toNat = n := by decide +kernel
/-! ===== nI under and, xor, >>>, one bit, 65535 ===== -/
theorem nx_and (a b : Nat) : nI a &&& nI b = nI (a &&& b) := by
  apply Int32.toBitVec_inj.1
  show BitVec.ofNat 32 a &&& BitVec.ofNat 32 b = BitVec.ofNat 32 (a &&& b)
  apply BitVec.eq_of_getLsbD_eq
  intro i hi
  simp [hi]
theorem nx_xor (a b : Nat) : nI a ^^^ nI b = nI (a ^^^ b) := by
  apply Int32.toBitVec_inj.1
  show BitVec.ofNat 32 a ^^^ BitVec.ofNat 32 b = BitVec.ofNat 32 (a ^^^ b)
  apply BitVec.eq_of_getLsbD_eq
  intro i hi
  simp [hi]
theorem nx_cnt : ∀ j : Fin 32, (UInt32.ofNat j.val &&& Int32.toUInt32 31).toNat % 32 = j.val := by decide +kernel
theorem nx_ush {k j : Nat} (hk : k < 65536) (hj : j < 32) : ((nI k).toUInt32 >>> ((nI j).toUInt32 &&& Int32.toUInt32 31)).toInt32 = nI (k >>> j) := by
  have hs : k >>> j ≤ k := by
    rw [Nat.shiftRight_eq_div_pow]
    exact Nat.div_le_self _ _
  have e2 : UInt32.ofNat k >>> (UInt32.ofNat j &&& Int32.toUInt32 31) = UInt32.ofNat (k >>> j) := by
    apply UInt32.toNat_inj.1
    have h1 : (UInt32.ofNat k).toNat = k := Nat.mod_eq_of_lt (by omega)
    have h2 : (UInt32.ofNat (k >>> j)).toNat = k >>> j := Nat.mod_eq_of_lt (by omega)
    rw [UInt32.toNat_shiftRight, nx_cnt ⟨j, hj⟩, h1, h2]
  show (UInt32.ofNat k >>> (UInt32.ofNat j &&& Int32.toUInt32 31)).toInt32 = _
  rw [e2]
  rfl
theorem nx_bit {k j : Nat} (hk : k < 65536) (hj : j < 16) : (((nI k).toUInt32 >>> ((nI j).toUInt32 &&& Int32.toUInt32 31)).toInt32 &&& 1) = 0 ↔ k.testBit j = false := by
  rw [nx_ush hk (by omega)]
  show nI (k >>> j) &&& nI 1 = 0 ↔ _
  rw [nx_and, Nat.and_one_is_mod, ← nI_0, nI_eq (by omega) (by omega), Nat.testBit_eq_decide_div_mod_eq, Nat.shiftRight_eq_div_pow, decide_eq_false_iff_not]
  generalize k / 2 ^ j = z
  omega
theorem nx_mod (k : Nat) : nI k &&& 65535 = nI (k % 65536) := by
  show nI k &&& nI 65535 = _
  rw [nx_and, show (65535 : Nat) = 2 ^ 16 - 1 from rfl, Nat.and_two_pow_sub_one_eq_mod]
theorem nx_m16 {k : Nat} (h : k < 65536) : nI k &&& 65535 = nI k := by rw [nx_mod, Nat.mod_eq_of_lt h]
theorem nx_mask (x : Int32) : ∃ k, k < 65536 ∧ x &&& 65535 = nI k := by
  have e : x = nI x.toBitVec.toNat := by
    apply Int32.toBitVec_inj.1
    show x.toBitVec = BitVec.ofNat 32 x.toBitVec.toNat
    simp
  refine ⟨x.toBitVec.toNat % 65536, Nat.mod_lt _ (by omega), ?_⟩
  rw [← nx_mod, ← e]
/-! ===== lN n to 2^64: shifts, and, or, masks, one bit ===== -/
theorem wb_tb (n : Nat) : (lN n).toBitVec = BitVec.ofNat 64 n := rfl
theorem wb_inj {a b : Int64} (h : a.toBitVec = b.toBitVec) : a = b := Int64.toBitVec_inj.mp h
theorem wb_tn {n : Nat} (h : n < 2 ^ 64) : (lN n).toBitVec.toNat = n := by rw [wb_tb, BitVec.toNat_ofNat, Nat.mod_eq_of_lt h]
theorem wb_of (x : Int64) : ∃ n, n < 2 ^ 64 ∧ x = lN n := ⟨x.toBitVec.toNat, x.toBitVec.isLt, wb_inj (by rw [wb_tb]; simp)⟩
theorem wb_of32 (x : Int32) : ∃ n, n < 2 ^ 32 ∧ x = nI n := ⟨x.toBitVec.toNat, x.toBitVec.isLt, Int32.toBitVec_inj.mp (by show _ = BitVec.ofNat 32 _; simp)⟩
theorem wb_c : ∀ k, k < 64 → ((nI k).toInt64 &&& 63) = lN k := by decide +kernel
theorem wb_cu : ∀ k, k < 64 → ((nI k).toInt64.toUInt64 &&& Int64.toUInt64 63) = UInt64.ofNat k := by decide +kernel
theorem wb_sm : ∀ k, k < 64 → (BitVec.ofNat 64 k).smod 64 = BitVec.ofNat 64 k := by decide +kernel
theorem wb_pw {a b : Nat} (h : a ≤ b) : 2 ^ b = 2 ^ a * 2 ^ (b - a) := by rw [← Nat.pow_add]; congr 1; omega
theorem wb_lt2 {a b : Nat} (h : a < b) : 2 ^ a < 2 ^ b := Nat.pow_lt_pow_right (by decide) h
theorem wb_mod (n : Nat) : lN n = lN (n % 2 ^ 64) := wb_inj (by rw [wb_tb, wb_tb]; apply BitVec.eq_of_toNat_eq; rw [BitVec.toNat_ofNat, BitVec.toNat_ofNat, Nat.mod_mod])
theorem wb_shr {n k : Nat} (hn : n < 2 ^ 64) (hk : k < 64) : ((lN n).toUInt64 >>> ((nI k).toInt64.toUInt64 &&& Int64.toUInt64 63)).toInt64 = lN (n / 2 ^ k) := by
  rw [wb_cu k hk]
  apply wb_inj
  apply BitVec.eq_of_toNat_eq
  show ((lN n).toUInt64 >>> UInt64.ofNat k).toNat = (BitVec.ofNat 64 _).toNat
  have h1 : (UInt64.ofNat k).toNat = k := by
    show (BitVec.ofNat 64 k).toNat = k
    rw [BitVec.toNat_ofNat, Nat.mod_eq_of_lt (by omega)]
  have h2 : (lN n).toUInt64.toNat = n := wb_tn hn
  rw [UInt64.toNat_shiftRight, h1, h2, Nat.mod_eq_of_lt hk, Nat.shiftRight_eq_div_pow, BitVec.toNat_ofNat, Nat.mod_eq_of_lt (Nat.lt_of_le_of_lt (Nat.div_le_self _ _) hn)]
theorem wb_shl (n : Nat) {k : Nat} (hk : k < 64) : lN n <<< ((nI k).toInt64 &&& 63) = lN (n * 2 ^ k) := by
  rw [wb_c k hk]
  apply wb_inj
  rw [Int64.toBitVec_shiftLeft, wb_tb, wb_tb, wb_tb, wb_sm k hk]
  apply BitVec.eq_of_toNat_eq
  rw [BitVec.shiftLeft_eq', BitVec.toNat_shiftLeft, BitVec.toNat_ofNat, BitVec.toNat_ofNat, BitVec.toNat_ofNat, Nat.mod_eq_of_lt (show k < 2 ^ 64 by omega), Nat.shiftLeft_eq, Nat.mul_mod, Nat.mod_mod, ← Nat.mul_mod]
theorem wb_and {a b : Nat} (ha : a < 2 ^ 64) (hb : b < 2 ^ 64) : lN a &&& lN b = lN (a &&& b) := by
  apply wb_inj
  rw [Int64.toBitVec_and, wb_tb, wb_tb, wb_tb]
  apply BitVec.eq_of_toNat_eq
  rw [BitVec.toNat_and, BitVec.toNat_ofNat, BitVec.toNat_ofNat, BitVec.toNat_ofNat, Nat.mod_eq_of_lt ha, Nat.mod_eq_of_lt hb, Nat.mod_eq_of_lt (Nat.and_lt_two_pow _ hb)]
theorem wb_or {a b : Nat} (ha : a < 2 ^ 64) (hb : b < 2 ^ 64) : lN a ||| lN b = lN (a ||| b) := by
  apply wb_inj
  rw [Int64.toBitVec_or, wb_tb, wb_tb, wb_tb]
  apply BitVec.eq_of_toNat_eq
  rw [BitVec.toNat_or, BitVec.toNat_ofNat, BitVec.toNat_ofNat, BitVec.toNat_ofNat, Nat.mod_eq_of_lt ha, Nat.mod_eq_of_lt hb, Nat.mod_eq_of_lt (Nat.or_lt_two_pow ha hb)]
theorem wb_mask {n k : Nat} (hn : n < 2 ^ 64) (hk : k < 64) : lN n &&& lN (2 ^ k - 1) = lN (n % 2 ^ k) := by
  rw [wb_and hn (by have := wb_lt2 hk; omega), Nat.and_two_pow_sub_one_eq_mod]
theorem wb_a1 {n : Nat} (hn : n < 2 ^ 64) : lN n &&& 1 = lN (n % 2) := wb_mask (k := 1) hn (by decide)
theorem wb_bit {n k : Nat} (hn : n < 2 ^ 64) (hk : k < 64) : ((lN n).toUInt64 >>> ((nI k).toInt64.toUInt64 &&& Int64.toUInt64 63)).toInt64 &&& 1 = lN (n / 2 ^ k % 2) := by
  rw [wb_shr hn hk, wb_a1 (Nat.lt_of_le_of_lt (Nat.div_le_self _ _) hn)]
theorem wb_xor {q k : Nat} (hk : k < 63) (h : 2 ^ k ≤ q) (h2 : q < 2 ^ (k + 1)) : lN q ^^^ lN (2 ^ k) = lN (q - 2 ^ k) := by
  obtain ⟨r, rfl⟩ : ∃ r, q = 2 ^ k + r := ⟨q - 2 ^ k, by omega⟩
  have hr : r < 2 ^ k := by rw [Nat.pow_succ] at h2; omega
  have hx : (2 ^ k + r) ^^^ 2 ^ k = r := by
    apply Nat.eq_of_testBit_eq
    intro i
    rw [Nat.testBit_xor, Nat.testBit_two_pow]
    rcases Nat.lt_trichotomy i k with h | h | h
    · rw [Nat.testBit_two_pow_add_gt h]
      simp [show ¬ k = i by omega]
    · subst h
      rw [Nat.testBit_two_pow_add_eq]
      simp
    · have a1 : 2 ^ (k + 1) ≤ 2 ^ i := Nat.pow_le_pow_right (by decide) h
      rw [Nat.testBit_lt_two_pow (show 2 ^ k + r < 2 ^ i by omega), Nat.testBit_lt_two_pow (show r < 2 ^ i by omega)]
      simp [show ¬ k = i by omega]
  have b1 := wb_lt2 (show k + 1 < 64 by omega)
  have b2 := wb_lt2 (show k < 64 by omega)
  apply wb_inj
  rw [Int64.toBitVec_xor, wb_tb, wb_tb, wb_tb]
  apply BitVec.eq_of_toNat_eq
  rw [BitVec.toNat_xor, BitVec.toNat_ofNat, BitVec.toNat_ofNat, BitVec.toNat_ofNat, Nat.mod_eq_of_lt (by omega : 2 ^ k + r < 2 ^ 64), Nat.mod_eq_of_lt b2, hx, Nat.add_sub_cancel_left, Nat.mod_eq_of_lt (by omega)]
/-! ===== lN to 2^62 under >> and >>> ===== -/
theorem pf_lI {a : Nat} (h : a < 2 ^ 63) : (lN a).toInt = (a : Int) := lg_ofNat_toInt h
theorem pf_shr {a d : Nat} {D : Int64} (hD : (D.toBitVec.smod 64).toNat = d) (h : a < 2 ^ 62) : lN a >>> D = lN (a / 2 ^ d) := by
  have hd : a / 2 ^ d ≤ a := Nat.div_le_self _ _
  apply Int64.toInt_inj.mp
  have e : (lN a >>> D).toInt = (lN a).toInt >>> d := by
    rw [← hD]
    exact BitVec.toInt_sshiftRight ..
  rw [e, Int.shiftRight_eq_div_pow, pf_lI (by omega), pf_lI (by omega)]
  rfl
theorem pf_ushr {a d : Nat} {D : UInt64} (hD : D.toNat % 64 = d) (h : a < 2 ^ 62) : ((lN a).toUInt64 >>> D).toInt64 = lN (a / 2 ^ d) := by
  have hd : a / 2 ^ d ≤ a := Nat.div_le_self _ _
  have e : (lN a).toUInt64 >>> D = UInt64.ofNat (a / 2 ^ d) := UInt64.toNat_inj.mp (by
    rw [UInt64.toNat_shiftRight, hD, Nat.shiftRight_eq_div_pow, UInt64.toNat_ofNat']
    show (UInt64.ofNat a).toNat / 2 ^ d = _
    rw [UInt64.toNat_ofNat', Nat.mod_eq_of_lt (by omega), Nat.mod_eq_of_lt (by omega)])
  rw [e]
  rfl
theorem pf_andw (x : Int64) : ∃ m, m < 2 ^ 32 ∧ x &&& 4294967295 = lN m := ⟨x.toBitVec.toNat % 2 ^ 32, Nat.mod_lt _ (by decide), Int64.toBitVec_inj.mp (BitVec.eq_of_toNat_eq (by
  show (x.toBitVec &&& 4294967295#64).toNat = (BitVec.ofNat 64 (x.toBitVec.toNat % 2 ^ 32)).toNat
  rw [BitVec.toNat_and, show (4294967295#64).toNat = 2 ^ 32 - 1 from by decide, Nat.and_two_pow_sub_one_eq_mod, BitVec.toNat_ofNat]
  omega))⟩
end
section
/-! finite sums of naturals, updates of functions on naturals -/
def qs_s (f : Nat → Nat) : Nat → Nat
  | 0 => 0
  | n + 1 => qs_s f n + f n
theorem qs_0 (f : Nat → Nat) : qs_s f 0 = 0 := rfl
theorem qs_1 (f : Nat → Nat) (n : Nat) : qs_s f (n + 1) = qs_s f n + f n := rfl
theorem qs_congr {f g : Nat → Nat} : ∀ n, (∀ i, i < n → f i = g i) → qs_s f n = qs_s g n := by
  intro n
  induction n with
  | zero => intro _; rfl
  | succ n ih =>
    intro h
    rw [qs_1, qs_1, ih (fun i hi => h i (by omega)), h n (by omega)]
theorem qs_le {f g : Nat → Nat} : ∀ n, (∀ i, i < n → f i ≤ g i) → qs_s f n ≤ qs_s g n := by
  intro n
  induction n with
  | zero => intro _; exact Nat.le_refl _
  | succ n ih =>
    intro h
    rw [qs_1, qs_1]
    have h1 := ih (fun i hi => h i (by omega))
    have h2 := h n (by omega)
    omega
theorem qs_add (f g : Nat → Nat) : ∀ n, qs_s (fun i => f i + g i) n = qs_s f n + qs_s g n := by
  intro n
  induction n with
  | zero => rfl
  | succ n ih => rw [qs_1, qs_1, qs_1, ih]; omega
theorem qs_mul (c : Nat) (f : Nat → Nat) : ∀ n, qs_s (fun i => c * f i) n = c * qs_s f n := by
  intro n
  induction n with
  | zero => rfl
  | succ n ih => rw [qs_1, qs_1, ih, Nat.mul_add]
theorem qs_mulr (c : Nat) (f : Nat → Nat) : ∀ n, qs_s (fun i => f i * c) n = qs_s f n * c := by
  intro n
  induction n with
  | zero => rw [qs_0, qs_0, Nat.zero_mul]
  | succ n ih => rw [qs_1, qs_1, ih, Nat.add_mul]
theorem qs_const (c : Nat) : ∀ n, qs_s (fun _ => c) n = n * c := by
  intro n
  induction n with
  | zero => rw [qs_0, Nat.zero_mul]
  | succ n ih => rw [qs_1, ih, Nat.succ_mul]
theorem qs_zero : ∀ (n : Nat) (f : Nat → Nat), (∀ i, i < n → f i = 0) → qs_s f n = 0 := by
  intro n f h
  rw [qs_congr n (g := fun _ => 0) h, qs_const, Nat.mul_zero]
theorem qs_mono (f : Nat → Nat) {m n : Nat} (h : m ≤ n) : qs_s f m ≤ qs_s f n := by
  induction n with
  | zero =>
    have : m = 0 := by omega
    subst this
    exact Nat.le_refl _
  | succ n ih =>
    by_cases e : m = n + 1
    · subst e; exact Nat.le_refl _
    · have := ih (by omega)
      rw [qs_1]; omega
theorem qs_tm (f : Nat → Nat) {i n : Nat} (h : i < n) : f i ≤ qs_s f n := by
  have h1 := qs_mono f (show i + 1 ≤ n from h)
  rw [qs_1] at h1
  omega
theorem qs_single (s v : Nat) : ∀ n, qs_s (fun i => if i = s then v else 0) n = if s < n then v else 0 := by
  intro n
  induction n with
  | zero => rfl
  | succ n ih =>
    rw [qs_1, ih]
    by_cases h : s < n
    · have h1 : ¬ n = s := by omega
      have h2 : s < n + 1 := by omega
      simp [h, h1, h2]
    · by_cases e : n = s
      · subst e; simp
      · have h2 : ¬ s < n + 1 := by omega
        simp [h, e, h2]
theorem qs_if (f : Nat → Nat) (a : Nat) : ∀ n, qs_s (fun i => if i < a then f i else 0) n = qs_s f (min a n) := by
  intro n
  induction n with
  | zero => rw [Nat.min_zero]; rfl
  | succ n ih =>
    rw [qs_1, ih]
    by_cases h : n < a
    · have h1 : min a n = n := by omega
      have h2 : min a (n + 1) = n + 1 := by omega
      rw [h1, h2, qs_1, if_pos h]
    · have h1 : min a n = a := by omega
      have h2 : min a (n + 1) = a := by omega
      rw [h1, h2, if_neg h, Nat.add_zero]
theorem qs_two (f : Nat → Nat) {i n : Nat} (h : i < n) (hf : ∀ j, j < n → 1 ≤ f j) : f i + (n - 1) ≤ qs_s f n := by
  have e : ∀ m, m ≤ n → qs_s (fun j => if j = i then f i else 1) m ≤ qs_s f m := fun m hm => qs_le m (fun j hj => by
    by_cases e : j = i
    · subst e; simp
    · simp only [if_neg e]; exact hf j (by omega))
  have e2 : ∀ m, qs_s (fun j => if j = i then f i else 1) m = if i < m then f i + (m - 1) else m := by
    intro m
    induction m with
    | zero => rfl
    | succ m ih =>
      rw [qs_1, ih]
      by_cases h1 : i < m
      · have h2 : ¬ m = i := by omega
        have h3 : i < m + 1 := by omega
        simp only [if_pos h1, if_neg h2, if_pos h3]; omega
      · by_cases h2 : m = i
        · subst h2
          simp only [if_pos (Nat.lt_succ_self m), if_neg h1]
          simp only [if_true]; omega
        · have h3 : ¬ i < m + 1 := by omega
          simp only [if_neg h1, if_neg h2, if_neg h3]
  have e3 := e n (Nat.le_refl _)
  rw [e2 n, if_pos h] at e3
  exact e3
def qs_u (f : Nat → Nat) (k x : Nat) : Nat → Nat := fun j => if j = k then x else f j
theorem qs_us {f : Nat → Nat} {k x : Nat} : qs_u f k x k = x := if_pos rfl
theorem qs_un {f : Nat → Nat} {k x j : Nat} (h : j ≠ k) : qs_u f k x j = f j := if_neg h
/-- an array of naturals -/
def qs_N (f : Nat → Nat) : Nat → Int32 := fun j => nI (f j)
theorem qs_Nr (f : Nat → Nat) {i : Nat} (h : i < 2 ^ 31) : qs_N f (nI i).toNatClampNeg = nI (f i) := by rw [nI_clamp h]; rfl
theorem qs_upd {f : Nat → Nat} {k x : Nat} : upd (qs_N f) k (nI x) = qs_N (qs_u f k x) := by
  funext j
  show (if j = k then nI x else nI (f j)) = nI (if j = k then x else f j)
  by_cases h : j = k
  · rw [if_pos h, if_pos h]
  · rw [if_neg h, if_neg h]
theorem qs_updI {f : Nat → Nat} {k x : Nat} {y : Int32} (hk : k < 2 ^ 31) (hy : y = nI x) : upd (qs_N f) (nI k).toNatClampNeg y = qs_N (qs_u f k x) := by
  rw [nI_clamp hk, hy]; exact qs_upd
/-- an array filled up to i -/
def qs_f (v c : Nat → Nat) (i : Nat) : Nat → Nat := fun j => if j < i then v j else c j
theorem qs_f0 (v c : Nat → Nat) : qs_f v c 0 = c := rfl
theorem qs_fs (v c : Nat → Nat) (i : Nat) : qs_u (qs_f v c i) i (v i) = qs_f v c (i + 1) := by
  funext j
  show (if j = i then v i else if j < i then v j else c j) = if j < i + 1 then v j else c j
  by_cases h : j = i
  · subst h; rw [if_pos rfl, if_pos (by omega)]
  · rw [if_neg h]
    by_cases h2 : j < i
    · rw [if_pos h2, if_pos (by omega)]
    · rw [if_neg h2, if_neg (by omega)]
theorem qs_fI {v c : Nat → Nat} {i : Nat} {y : Int32} (hi : i < 2 ^ 31) (hy : y = nI (v i)) : upd (qs_N (qs_f v c i)) (nI i).toNatClampNeg y = qs_N (qs_f v c (i + 1)) := by
  rw [qs_updI hi hy, qs_fs]
theorem qs_fl {v c : Nat → Nat} {i j : Nat} (h : j < i) : qs_f v c i j = v j := if_pos h
theorem qs_fg {v c : Nat → Nat} {i j : Nat} (h : i ≤ j) : qs_f v c i j = c j := if_neg (by omega)
theorem qs_su (f : Nat → Nat) (k x : Nat) : ∀ n, k < n → qs_s (qs_u f k x) n + f k = qs_s f n + x := by
  intro n
  induction n with
  | zero => intro h; omega
  | succ n ih =>
    intro h
    rw [qs_1, qs_1]
    by_cases e : k = n
    · subst e
      rw [qs_us, qs_congr k (f := qs_u f k x) (g := f) (fun i hi => qs_un (by omega))]
      omega
    · have := ih (by omega)
      rw [qs_un (show n ≠ k by omega)]
      omega
end
section
/-! package-merge: sorted rows, merged rows, the tiers, and that the last row's beginning is the least weight -/
def qm_srt (f : Nat → Nat) (n : Nat) : Prop := ∀ i j, i ≤ j → j < n → f i ≤ f j
theorem qm_seg_le (f : Nat → Nat) (v a' : Nat) : ∀ d, (∀ i, a' ≤ i → i < a' + d → f i ≤ v) → qs_s f (a' + d) ≤ qs_s f a' + d * v := by
  intro d
  induction d with
  | zero => intro _; simp
  | succ d ih =>
    intro h
    have h1 := ih (fun i hi hj => h i hi (by omega))
    have h2 := h (a' + d) (by omega) (by omega)
    rw [show a' + (d + 1) = (a' + d) + 1 from rfl, qs_1, Nat.succ_mul]
    omega
theorem qm_seg_ge (f : Nat → Nat) (v a' : Nat) : ∀ d, (∀ i, a' ≤ i → i < a' + d → v ≤ f i) → qs_s f a' + d * v ≤ qs_s f (a' + d) := by
  intro d
  induction d with
  | zero => intro _; simp
  | succ d ih =>
    intro h
    have h1 := ih (fun i hi hj => h i hi (by omega))
    have h2 := h (a' + d) (by omega) (by omega)
    rw [show a' + (d + 1) = (a' + d) + 1 from rfl, qs_1, Nat.succ_mul]
    omega
theorem qm_cross {A B : Nat → Nat} {n p a b : Nat} (hA : qm_srt A n) (hB : qm_srt B p) (ha : a ≤ n) (hb : b ≤ p) (h1 : ∀ i, i < a → b < p → A i ≤ B b) (h2 : ∀ j, j < b → a < n → B j ≤ A a) :
    ∀ a' b', a' + b' = a + b → a' ≤ n → b' ≤ p → qs_s A a + qs_s B b ≤ qs_s A a' + qs_s B b' := by
  intro a' b' e ha' hb'
  by_cases c : a' ≤ a
  · obtain ⟨d, rfl⟩ : ∃ d, a = a' + d := ⟨a - a', by omega⟩
    obtain rfl : b' = b + d := by omega
    by_cases d0 : d = 0
    · subst d0; simp
    · have x1 := qm_seg_le A (B b) a' d (fun i hi hj => h1 i hj (by omega))
      have x2 := qm_seg_ge B (B b) b d (fun j hj hj2 => hB b j hj (by omega))
      omega
  · obtain ⟨d, rfl⟩ : ∃ d, a' = a + d := ⟨a' - a, by omega⟩
    obtain rfl : b = b' + d := by omega
    have x1 := qm_seg_le B (A a) b' d (fun j hj hj2 => h2 j hj2 (by omega))
    have x2 := qm_seg_ge A (A a) a d (fun i hi hj => hA a i hi (by omega))
    omega
/-- which side the merge takes from -/
def qm_c (A : Nat → Nat) (n : Nat) (B : Nat → Nat) (p a b : Nat) : Bool := decide (p ≤ b) || (decide (a < n) && decide (A a ≤ B b))
def qm_p (A : Nat → Nat) (n : Nat) (B : Nat → Nat) (p : Nat) : Nat → Nat × Nat
  | 0 => (0, 0)
  | k + 1 => bif qm_c A n B p (qm_p A n B p k).1 (qm_p A n B p k).2 then ((qm_p A n B p k).1 + 1, (qm_p A n B p k).2) else ((qm_p A n B p k).1, (qm_p A n B p k).2 + 1)
def qm_r (A : Nat → Nat) (n : Nat) (B : Nat → Nat) (p : Nat) (k : Nat) : Nat :=
  bif qm_c A n B p (qm_p A n B p k).1 (qm_p A n B p k).2 then A (qm_p A n B p k).1 else B (qm_p A n B p k).2
theorem qm_p_t {A : Nat → Nat} {n : Nat} {B : Nat → Nat} {p k a b : Nat} (e : qm_p A n B p k = (a, b)) (h : qm_c A n B p a b = true) : qm_p A n B p (k + 1) = (a + 1, b) ∧ qm_r A n B p k = A a := by
  constructor
  · rw [qm_p, e]; dsimp only; rw [h]; rfl
  · rw [qm_r, e]; dsimp only; rw [h]; rfl
theorem qm_p_f {A : Nat → Nat} {n : Nat} {B : Nat → Nat} {p k a b : Nat} (e : qm_p A n B p k = (a, b)) (h : qm_c A n B p a b = false) : qm_p A n B p (k + 1) = (a, b + 1) ∧ qm_r A n B p k = B b := by
  constructor
  · rw [qm_p, e]; dsimp only; rw [h]; rfl
  · rw [qm_r, e]; dsimp only; rw [h]; rfl
theorem qm_c_t {A : Nat → Nat} {n : Nat} {B : Nat → Nat} {p a b : Nat} : qm_c A n B p a b = true ↔ (p ≤ b ∨ (a < n ∧ A a ≤ B b)) := by
  simp [qm_c]
theorem qm_c_f {A : Nat → Nat} {n : Nat} {B : Nat → Nat} {p a b : Nat} : qm_c A n B p a b = false ↔ (b < p ∧ (n ≤ a ∨ B b < A a)) := by
  rw [← Bool.not_eq_true, qm_c_t]
  omega
/-- what holds at step k of the merge -/
def qm_I (A : Nat → Nat) (n : Nat) (B : Nat → Nat) (p k a b : Nat) : Prop :=
  a + b = k ∧ a ≤ n ∧ b ≤ p ∧ (∀ i, i < a → b < p → A i ≤ B b) ∧ (∀ j, j < b → a < n → B j ≤ A a) ∧
  qs_s (qm_r A n B p) k = qs_s A a + qs_s B b ∧ (∀ i, i < k → (a < n → qm_r A n B p i ≤ A a) ∧ (b < p → qm_r A n B p i ≤ B b)) ∧
  (∀ i j, i ≤ j → j < k → qm_r A n B p i ≤ qm_r A n B p j)
theorem qm_inv {A B : Nat → Nat} {n p : Nat} (hA : qm_srt A n) (hB : qm_srt B p) : ∀ k, k ≤ n + p → ∃ a b, qm_p A n B p k = (a, b) ∧ qm_I A n B p k a b := by
  intro k
  induction k with
  | zero =>
    intro _
    exact ⟨0, 0, rfl, rfl, by omega, by omega, fun i hi => by omega, fun i hi => by omega, rfl, fun i hi => by omega, fun i j _ hj => by omega⟩
  | succ k ih =>
    intro hk
    obtain ⟨a, b, e, i1, i2, i3, i4, i5, i6, i7, i8⟩ := ih (by omega)
    by_cases h : qm_c A n B p a b = true
    · obtain ⟨e1, e2⟩ := qm_p_t e h
      have h' := qm_c_t.mp h
      have han : a < n := by omega
      refine ⟨a + 1, b, e1, by omega, by omega, i3, ?_, ?_, ?_, ?_, ?_⟩
      · intro i hi hb
        by_cases x : i = a
        · subst x; omega
        · exact i4 i (by omega) hb
      · intro j hj ha
        have := i5 j hj han
        have := hA a (a + 1) (by omega) ha
        omega
      · rw [qs_1, i6, e2, qs_1]; omega
      · intro i hi
        by_cases x : i = k
        · subst x
          rw [e2]
          exact ⟨fun ha => hA a (a + 1) (by omega) ha, fun hb => by omega⟩
        · have := i7 i (by omega)
          refine ⟨fun ha => ?_, this.2⟩
          have := hA a (a + 1) (by omega) ha
          omega
      · intro i j hij hj
        by_cases x : j = k
        · subst x
          by_cases y : i = j
          · subst y; exact Nat.le_refl _
          · rw [e2]; exact (i7 i (by omega)).1 han
        · exact i8 i j hij (by omega)
    · have h0 : qm_c A n B p a b = false := by simpa using h
      obtain ⟨e1, e2⟩ := qm_p_f e h0
      have h' := qm_c_f.mp h0
      refine ⟨a, b + 1, e1, by omega, i2, by omega, ?_, ?_, ?_, ?_, ?_⟩
      · intro i hi hb
        have := i4 i hi (by omega)
        have := hB b (b + 1) (by omega) hb
        omega
      · intro j hj ha
        by_cases x : j = b
        · subst x; omega
        · exact i5 j (by omega) ha
      · rw [qs_1, i6, e2, qs_1]; omega
      · intro i hi
        by_cases x : i = k
        · subst x
          rw [e2]
          exact ⟨fun ha => by omega, fun hb => hB b (b + 1) (by omega) hb⟩
        · have := i7 i (by omega)
          refine ⟨this.1, fun hb => ?_⟩
          have := hB b (b + 1) (by omega) hb
          have := this
          have := (i7 i (by omega)).2 h'.1
          omega
      · intro i j hij hj
        by_cases x : j = k
        · subst x
          by_cases y : i = j
          · subst y; exact Nat.le_refl _
          · rw [e2]; exact (i7 i (by omega)).2 h'.1
        · exact i8 i j hij (by omega)
def qm_pk (R : Nat → Nat) : Nat → Nat := fun j => R (2 * j) + R (2 * j + 1)
theorem qm_pk_s (R : Nat → Nat) : ∀ b, qs_s (qm_pk R) b = qs_s R (2 * b) := by
  intro b
  induction b with
  | zero => rfl
  | succ b ih =>
    rw [qs_1, ih, show 2 * (b + 1) = (2 * b + 1) + 1 from by omega, qs_1, qs_1]
    show _ + (R (2 * b) + R (2 * b + 1)) = _
    omega
theorem qm_pk_srt {R : Nat → Nat} {z : Nat} (h : qm_srt R z) : qm_srt (qm_pk R) (z / 2) := by
  intro i j hij hj
  have h1 := h (2 * i) (2 * j) (by omega) (by omega)
  have h2 := h (2 * i + 1) (2 * j + 1) (by omega) (by omega)
  show R (2 * i) + R (2 * i + 1) ≤ R (2 * j) + R (2 * j + 1)
  omega
def qm_z (n : Nat) : Nat → Nat
  | 0 => 0
  | k + 1 => n + qm_z n k / 2
def qm_w (A : Nat → Nat) (n : Nat) : Nat → Nat → Nat
  | 0 => fun _ => 0
  | k + 1 => qm_r A n (qm_pk (qm_w A n k)) (qm_z n k / 2)
theorem qm_w1 (A : Nat → Nat) (n : Nat) : ∀ j, qm_w A n 1 j = A j := by
  have e : ∀ k, qm_p A n (qm_pk (qm_w A n 0)) (qm_z n 0 / 2) k = (k, 0) := by
    intro k
    induction k with
    | zero => rfl
    | succ k ih => exact (qm_p_t ih (qm_c_t.mpr (Or.inl (by simp [qm_z])))).1
  intro j
  exact (qm_p_t (e j) (qm_c_t.mpr (Or.inl (by simp [qm_z])))).2
/-- the subset lemma: N items are no lighter than the first N -/
theorem qm_sub {A : Nat → Nat} (e : Nat → Nat) : ∀ n, qm_srt A n → (∀ i, i < n → e i = 0 ∨ e i = 1) → qs_s e n ≤ n ∧ qs_s A (qs_s e n) ≤ qs_s (fun i => A i * e i) n := by
  intro n
  induction n with
  | zero => intro _ _; exact ⟨Nat.le_refl _, Nat.le_refl _⟩
  | succ n ih =>
    intro hA he
    obtain ⟨h1, h2⟩ := ih (fun i j hij hj => hA i j hij (by omega)) (fun i hi => he i (by omega))
    rw [qs_1, qs_1]
    rcases he n (by omega) with h | h
    · rw [h]; simp only [Nat.mul_zero, Nat.add_zero]; exact ⟨by omega, h2⟩
    · rw [h]; simp only [Nat.mul_one]
      refine ⟨by omega, ?_⟩
      have := hA (qs_s e n) n h1 (by omega)
      rw [qs_1]
      omega
/-- the space that k tiers of n lengths leave free, in units 2^-k, counted from above -/
def qm_K (k n : Nat) (l : Nat → Nat) : Nat := qs_s (fun i => 2 ^ k - 2 ^ (k - l i)) n
def qm_W (A : Nat → Nat) (n : Nat) (l : Nat → Nat) : Nat := qs_s (fun i => A i * l i) n
def qm_G (A : Nat → Nat) (n k : Nat) : Prop :=
  qm_srt (qm_w A n k) (qm_z n k) ∧
  (∀ m, m ≤ qm_z n k → ∃ l : Nat → Nat, (∀ i, l i ≤ k) ∧ qs_s (qm_w A n k) m = qm_W A n l ∧ m * 2 ^ k ≤ 2 * qm_K k n l) ∧
  (∀ (l : Nat → Nat) (m : Nat), (∀ i, i < n → l i ≤ k) → m * 2 ^ k ≤ 2 * qm_K k n l → m ≤ qm_z n k ∧ qs_s (qm_w A n k) m ≤ qm_W A n l)
theorem qm_G0 (A : Nat → Nat) (n : Nat) : qm_G A n 0 := by
  refine ⟨fun i j _ hj => ?_, fun m hm => ?_, fun l m hl hm => ?_⟩
  · exact Nat.le_refl _
  · have : m = 0 := by have : qm_z n 0 = 0 := rfl; omega
    subst this
    exact ⟨fun _ => 0, fun _ => Nat.le_refl _, by rw [qm_W, qs_zero _ _ (fun i _ => Nat.mul_zero _)]; rfl, by simp⟩
  · have h0 : qm_K 0 n l = 0 := qs_zero _ _ (fun i _ => by simp)
    rw [h0] at hm
    have : m = 0 := by omega
    subst this
    exact ⟨Nat.zero_le _, Nat.zero_le _⟩
theorem qm_Gs {A : Nat → Nat} {n k : Nat} (hA : qm_srt A n) (G : qm_G A n k) : qm_G A n (k + 1) := by
  obtain ⟨g1, g2, g3⟩ := G
  have hB : qm_srt (qm_pk (qm_w A n k)) (qm_z n k / 2) := qm_pk_srt g1
  have hz : qm_z n (k + 1) = n + qm_z n k / 2 := rfl
  have hP : 0 < 2 ^ k := Nat.two_pow_pos k
  have hP2 : 2 ^ (k + 1) = 2 * 2 ^ k := by rw [Nat.pow_succ]; omega
  refine ⟨?_, ?_, ?_⟩
  · obtain ⟨a, b, -, -, -, -, -, -, -, -, h⟩ := qm_inv hA hB (n + qm_z n k / 2) (Nat.le_refl _)
    exact h
  · intro m hm
    obtain ⟨a, b, -, i1, i2, i3, -, -, i6, -, -⟩ := qm_inv hA hB m hm
    obtain ⟨l, l1, l2, l3⟩ := g2 (2 * b) (by omega)
    refine ⟨fun i => l i + if i < a then 1 else 0, fun i => ?_, ?_, ?_⟩
    · have := l1 i
      dsimp only
      by_cases h : i < a
      · rw [if_pos h]; omega
      · rw [if_neg h]; omega
    · show qs_s (qm_r A n (qm_pk (qm_w A n k)) (qm_z n k / 2)) m = _
      rw [i6, qm_pk_s, l2]
      show _ = qs_s (fun i => A i * (l i + if i < a then 1 else 0)) n
      rw [qs_congr n (g := fun i => A i * l i + if i < a then A i else 0) (fun i _ => by
        by_cases h : i < a
        · simp only [if_pos h, Nat.mul_add, Nat.mul_one]
        · simp only [if_neg h, Nat.add_zero]), qs_add, qs_if, show min a n = a from by omega]
      show qs_s A a + qm_W A n l = qm_W A n l + qs_s A a
      omega
    · have t : ∀ i, i < n → (if i < a then 2 ^ k else 0) + (2 ^ k - 2 ^ (k - l i)) ≤ 2 ^ (k + 1) - 2 ^ (k + 1 - (l i + if i < a then 1 else 0)) := by
        intro i _
        have q : 2 ^ (k - l i) ≤ 2 ^ k := Nat.pow_le_pow_right (by decide) (by omega)
        by_cases h : i < a
        · rw [if_pos h, if_pos h, show k + 1 - (l i + 1) = k - l i from by omega, hP2]; omega
        · have := l1 i
          rw [if_neg h, if_neg h, show k + 1 - (l i + 0) = (k - l i) + 1 from by omega, hP2, Nat.pow_succ]; omega
      have s := qs_le n t
      rw [qs_add, qs_if (fun _ => 2 ^ k), show min a n = a from by omega, qs_const] at s
      show m * 2 ^ (k + 1) ≤ 2 * qs_s (fun i => 2 ^ (k + 1) - 2 ^ (k + 1 - (l i + if i < a then 1 else 0))) n
      have l3' : 2 * b * 2 ^ k ≤ 2 * qs_s (fun i => 2 ^ k - 2 ^ (k - l i)) n := l3
      have e : m * 2 ^ (k + 1) = 2 * (a * 2 ^ k) + 2 * b * 2 ^ k := by
        rw [← i1, hP2, Nat.add_mul, Nat.mul_left_comm, Nat.mul_left_comm b, Nat.mul_assoc 2 b]
      rw [e]
      omega
  · intro l m hl hm
    have e01 : ∀ i, i < n → (if l i = 0 then 0 else 1) = 0 ∨ (if l i = 0 then 0 else 1) = 1 := fun i _ => by
      by_cases h : l i = 0
      · exact Or.inl (if_pos h)
      · exact Or.inr (if_neg h)
    obtain ⟨n1, n2⟩ := qm_sub (A := A) (fun i => if l i = 0 then 0 else 1) n hA e01
    generalize hN : qs_s (fun i => if l i = 0 then 0 else 1) n = N at n1 n2
    have t : qm_K (k + 1) n l = N * 2 ^ k + qm_K k n (fun i => l i - 1) := by
      show qs_s (fun i => 2 ^ (k + 1) - 2 ^ (k + 1 - l i)) n = _
      rw [qs_congr n (g := fun i => (if l i = 0 then 0 else 1) * 2 ^ k + (2 ^ k - 2 ^ (k - (l i - 1)))) (fun i hi => by
        by_cases h : l i = 0
        · simp [h]
        · have := hl i hi
          have q : 2 ^ (k - (l i - 1)) ≤ 2 ^ k := Nat.pow_le_pow_right (by decide) (by omega)
          simp only [if_neg h, Nat.one_mul]
          rw [show k + 1 - l i = k - (l i - 1) from by omega, hP2]; omega), qs_add, qs_mulr, hN]
      rfl
    have w : qm_W A n l = qs_s (fun i => A i * if l i = 0 then 0 else 1) n + qm_W A n (fun i => l i - 1) := by
      show qs_s (fun i => A i * l i) n = _
      rw [qs_congr n (g := fun i => (A i * if l i = 0 then 0 else 1) + A i * (l i - 1)) (fun i _ => by
        by_cases h : l i = 0
        · simp [h]
        · simp only [if_neg h]
          rw [← Nat.mul_add, show 1 + (l i - 1) = l i from by omega]), qs_add]
      rfl
    have c : (2 * (m - N)) * 2 ^ k ≤ 2 * qm_K k n (fun i => l i - 1) := by
      rw [t, hP2] at hm
      rw [Nat.mul_assoc, Nat.sub_mul]
      have : m * (2 * 2 ^ k) = 2 * (m * 2 ^ k) := Nat.mul_left_comm _ _ _
      omega
    obtain ⟨k1, k2⟩ := g3 (fun i => l i - 1) (2 * (m - N)) (fun i hi => by have := hl i hi; omega) c
    have opt : ∀ a b, a ≤ n → b ≤ qm_z n k / 2 → qs_s (qm_w A n (k + 1)) (a + b) ≤ qs_s A a + qs_s (qm_w A n k) (2 * b) := by
      intro a b ha hb
      obtain ⟨a0, b0, -, i1, i2, i3, i4, i5, i6, -, -⟩ := qm_inv hA hB (a + b) (by omega)
      have := qm_cross hA hB i2 i3 i4 i5 a b (by omega) ha hb
      rw [← i6, qm_pk_s] at this
      exact this
    by_cases h : N ≤ m
    · refine ⟨by omega, ?_⟩
      have o := opt N (m - N) n1 (by omega)
      rw [show N + (m - N) = m from by omega] at o
      rw [w]; omega
    · refine ⟨by omega, ?_⟩
      have o := opt m 0 (by omega) (Nat.zero_le _)
      have e0 : qs_s (qm_w A n k) (2 * 0) = 0 := rfl
      have mm := qs_mono A (show m ≤ N by omega)
      rw [Nat.add_zero m] at o
      rw [w]; omega
theorem qm_Gall {A : Nat → Nat} {n : Nat} (hA : qm_srt A n) : ∀ k, qm_G A n k := by
  intro k
  induction k with
  | zero => exact qm_G0 A n
  | succ k ih => exact qm_Gs hA ih
/-- K and the plain sum of the pieces -/
theorem qm_Kp (g n : Nat) (l : Nat → Nat) : qm_K g n l + qs_s (fun i => 2 ^ (g - l i)) n = n * 2 ^ g := by
  show qs_s (fun i => 2 ^ g - 2 ^ (g - l i)) n + _ = _
  rw [← qs_add, ← qs_const]
  apply qs_congr
  intro i _
  have q : 2 ^ (g - l i) ≤ 2 ^ g := Nat.pow_le_pow_right (by decide) (by omega)
  omega
/-- the last row's first 2n-2 items: no heavier than any lengths that fit, and as heavy as some that fit -/
theorem qm_top {A : Nat → Nat} {n g : Nat} (hA : qm_srt A n) (hn : 2 ≤ n) (hg : n ≤ 2 ^ g) :
    2 * n - 2 ≤ qm_z n g ∧
    (∀ l : Nat → Nat, (∀ i, i < n → l i ≤ g) → qs_s (fun i => 2 ^ (g - l i)) n ≤ 2 ^ g → qs_s (qm_w A n g) (2 * n - 2) ≤ qm_W A n l) ∧
    ∃ l : Nat → Nat, (∀ i, i < n → 1 ≤ l i ∧ l i ≤ g) ∧ qs_s (fun i => 2 ^ (g - l i)) n ≤ 2 ^ g ∧ qs_s (qm_w A n g) (2 * n - 2) = qm_W A n l := by
  obtain ⟨g1, g2, g3⟩ := qm_Gall hA g
  have hP : 0 < 2 ^ g := Nat.two_pow_pos g
  have ex : (2 * n - 2) * 2 ^ g = 2 * (n * 2 ^ g) - 2 * 2 ^ g := by rw [Nat.sub_mul, Nat.mul_assoc]
  have e1 : n * 2 ^ g = (n - 1) * 2 ^ g + 2 ^ g := by
    rw [← Nat.succ_mul, show (n - 1).succ = n from by omega]
  have go : ∀ l : Nat → Nat, (∀ i, i < n → l i ≤ g) → qs_s (fun i => 2 ^ (g - l i)) n ≤ 2 ^ g → 2 * n - 2 ≤ qm_z n g ∧ qs_s (qm_w A n g) (2 * n - 2) ≤ qm_W A n l := by
    intro l hl hs
    refine g3 l _ hl ?_
    have := qm_Kp g n l
    rw [ex]; omega
  have zz := (go (fun _ => g) (fun _ _ => Nat.le_refl _) (by rw [qs_const]; simpa using hg)).1
  refine ⟨zz, fun l hl hs => (go l hl hs).2, ?_⟩
  obtain ⟨l, l1, l2, l3⟩ := g2 _ zz
  have hk := qm_Kp g n l
  rw [ex] at l3
  have hs : qs_s (fun i => 2 ^ (g - l i)) n ≤ 2 ^ g := by omega
  refine ⟨l, fun i hi => ⟨?_, l1 i⟩, hs, l2⟩
  by_cases h : l i = 0
  · have q := qs_two (fun i => 2 ^ (g - l i)) hi (fun j _ => Nat.two_pow_pos _)
    simp only [h, Nat.sub_zero] at q
    omega
  · omega
/-- no row is heavier than k times the leaves -/
theorem qm_bd {A : Nat → Nat} {n : Nat} (hA : qm_srt A n) : ∀ k, qs_s (qm_w A n k) (qm_z n k) ≤ k * qs_s A n := by
  intro k
  induction k with
  | zero => exact Nat.zero_le _
  | succ k ih =>
    have hB : qm_srt (qm_pk (qm_w A n k)) (qm_z n k / 2) := qm_pk_srt (qm_Gall hA k).1
    obtain ⟨a, b, -, i1, i2, i3, -, -, i6, -, -⟩ := qm_inv hA hB (n + qm_z n k / 2) (Nat.le_refl _)
    show qs_s (qm_r A n (qm_pk (qm_w A n k)) (qm_z n k / 2)) (n + qm_z n k / 2) ≤ _
    rw [i6, qm_pk_s, Nat.succ_mul k]
    have h1 := qs_mono A i2
    have h2 := qs_mono (qm_w A n k) (show 2 * b ≤ qm_z n k by omega)
    omega
end
section
/-! the reference's table and its greedy lengths, in plain naturals -/
def qd_m (c1 g r : Nat) (nx : Nat → Nat) : Nat → Nat
  | 0 => 1000000
  | j + 1 => if 2 ^ (g - (j + 1)) ≤ r ∧ c1 * (j + 1) + nx (r - 2 ^ (g - (j + 1))) < qd_m c1 g r nx j then c1 * (j + 1) + nx (r - 2 ^ (g - (j + 1))) else qd_m c1 g r nx j
def qd_D (c : Nat → Nat) (g S : Nat) : Nat → Nat → Nat
  | 0 => fun _ => 0
  | k + 1 => fun r => if c (S - (k + 1)) = 0 then qd_D c g S k r else qd_m (c (S - (k + 1))) g r (qd_D c g S k) g
theorem qd_D1 (c : Nat → Nat) (g S k r : Nat) : qd_D c g S (k + 1) r = if c (S - (k + 1)) = 0 then qd_D c g S k r else qd_m (c (S - (k + 1))) g r (qd_D c g S k) g := rfl
theorem qd_m_le {c1 g r : Nat} {nx : Nat → Nat} : ∀ j, qd_m c1 g r nx j ≤ 1000000 := by
  intro j
  induction j with
  | zero => exact Nat.le_refl _
  | succ j ih =>
    rw [qd_m]
    by_cases h : 2 ^ (g - (j + 1)) ≤ r ∧ c1 * (j + 1) + nx (r - 2 ^ (g - (j + 1))) < qd_m c1 g r nx j
    · rw [if_pos h]; omega
    · rw [if_neg h]; exact ih
theorem qd_m_min {c1 g r : Nat} {nx : Nat → Nat} : ∀ j i, 1 ≤ i → i ≤ j → 2 ^ (g - i) ≤ r → qd_m c1 g r nx j ≤ c1 * i + nx (r - 2 ^ (g - i)) := by
  intro j
  induction j with
  | zero => intro i h1 h2; omega
  | succ j ih =>
    intro i h1 h2 h3
    rw [qd_m]
    by_cases h : 2 ^ (g - (j + 1)) ≤ r ∧ c1 * (j + 1) + nx (r - 2 ^ (g - (j + 1))) < qd_m c1 g r nx j
    · rw [if_pos h]
      by_cases e : i = j + 1
      · subst e; exact Nat.le_refl _
      · have := ih i h1 (by omega) h3
        omega
    · rw [if_neg h]
      by_cases e : i = j + 1
      · subst e
        by_cases h4 : c1 * (j + 1) + nx (r - 2 ^ (g - (j + 1))) < qd_m c1 g r nx j
        · exact absurd ⟨h3, h4⟩ h
        · omega
      · exact ih i h1 (by omega) h3
theorem qd_m_at {c1 g r : Nat} {nx : Nat → Nat} : ∀ j, qd_m c1 g r nx j < 1000000 → ∃ i, 1 ≤ i ∧ i ≤ j ∧ 2 ^ (g - i) ≤ r ∧ c1 * i + nx (r - 2 ^ (g - i)) = qd_m c1 g r nx j := by
  intro j
  induction j with
  | zero => intro h; exact absurd h (Nat.lt_irrefl _)
  | succ j ih =>
    rw [qd_m]
    by_cases h : 2 ^ (g - (j + 1)) ≤ r ∧ c1 * (j + 1) + nx (r - 2 ^ (g - (j + 1))) < qd_m c1 g r nx j
    · rw [if_pos h]
      intro _
      exact ⟨j + 1, by omega, by omega, h.1, rfl⟩
    · rw [if_neg h]
      intro hl
      obtain ⟨i, i1, i2, i3, i4⟩ := ih hl
      exact ⟨i, i1, by omega, i3, i4⟩
theorem qd_D_le {c : Nat → Nat} {g S : Nat} : ∀ k r, qd_D c g S k r ≤ 1000000 := by
  intro k
  induction k with
  | zero => intro r; exact Nat.zero_le _
  | succ k ih =>
    intro r
    rw [qd_D1]
    by_cases h : c (S - (k + 1)) = 0
    · rw [if_pos h]; exact ih r
    · rw [if_neg h]; exact qd_m_le _
/-- sums over the last k of S -/
def qd_t (f : Nat → Nat) (S : Nat) : Nat → Nat
  | 0 => 0
  | k + 1 => f (S - (k + 1)) + qd_t f S k
theorem qd_t1 (f : Nat → Nat) (S k : Nat) : qd_t f S (k + 1) = f (S - (k + 1)) + qd_t f S k := rfl
theorem qd_t_s (f : Nat → Nat) (S : Nat) : ∀ k, k ≤ S → qs_s f (S - k) + qd_t f S k = qs_s f S := by
  intro k
  induction k with
  | zero => intro _; rfl
  | succ k ih =>
    intro h
    have := ih (by omega)
    rw [qd_t1]
    rw [show S - k = (S - (k + 1)) + 1 from by omega, qs_1] at this
    omega
theorem qd_t_all (f : Nat → Nat) (S : Nat) : qd_t f S S = qs_s f S := by
  have := qd_t_s f S S (Nat.le_refl _)
  rw [Nat.sub_self, qs_0] at this
  omega
theorem qd_t_congr {f g : Nat → Nat} {S : Nat} : ∀ k, k ≤ S → (∀ t, S - k ≤ t → t < S → f t = g t) → qd_t f S k = qd_t g S k := by
  intro k
  induction k with
  | zero => intro _ _; rfl
  | succ k ih =>
    intro hk h
    rw [qd_t1, qd_t1, h _ (Nat.le_refl _) (by omega), ih (by omega) (fun t h1 h2 => h t (by omega) h2)]
def qd_F (c : Nat → Nat) (g S k r : Nat) (l : Nat → Nat) : Prop :=
  (∀ t, S - k ≤ t → t < S → (c t = 0 → l t = 0) ∧ (c t ≠ 0 → 1 ≤ l t ∧ l t ≤ g)) ∧ qd_t (fun t => if c t = 0 then 0 else 2 ^ (g - l t)) S k ≤ r
def qd_c (c : Nat → Nat) (S k : Nat) (l : Nat → Nat) : Nat := qd_t (fun t => c t * l t) S k
def qd_l (S k : Nat) (l : Nat → Nat) : Nat := qd_t (fun t => l t * 8 ^ (11 - t)) S k
theorem qd_F_dn {c : Nat → Nat} {g S k r : Nat} {l : Nat → Nat} (hk : k + 1 ≤ S) (h : qd_F c g S (k + 1) r l) :
    (c (S - (k + 1)) = 0 → l (S - (k + 1)) = 0 ∧ qd_F c g S k r l) ∧ (c (S - (k + 1)) ≠ 0 → 1 ≤ l (S - (k + 1)) ∧ l (S - (k + 1)) ≤ g ∧ 2 ^ (g - l (S - (k + 1))) ≤ r ∧ qd_F c g S k (r - 2 ^ (g - l (S - (k + 1)))) l) := by
  obtain ⟨h1, h2⟩ := h
  have a := h1 (S - (k + 1)) (Nat.le_refl _) (by omega)
  rw [qd_t1] at h2
  constructor
  · intro z
    rw [if_pos z, Nat.zero_add] at h2
    exact ⟨a.1 z, fun t t1 t2 => h1 t (by omega) t2, h2⟩
  · intro z
    rw [if_neg z] at h2
    exact ⟨(a.2 z).1, (a.2 z).2, by omega, fun t t1 t2 => h1 t (by omega) t2, by omega⟩
theorem qd_F_up {c : Nat → Nat} {g S k r : Nat} {l : Nat → Nat} (hk : k + 1 ≤ S)
    (h : (c (S - (k + 1)) = 0 ∧ l (S - (k + 1)) = 0 ∧ qd_F c g S k r l) ∨ (c (S - (k + 1)) ≠ 0 ∧ 1 ≤ l (S - (k + 1)) ∧ l (S - (k + 1)) ≤ g ∧ 2 ^ (g - l (S - (k + 1))) ≤ r ∧ qd_F c g S k (r - 2 ^ (g - l (S - (k + 1)))) l)) : qd_F c g S (k + 1) r l := by
  rcases h with ⟨z, l0, h1, h2⟩ | ⟨z, l1, l2, l3, h1, h2⟩
  · refine ⟨fun t t1 t2 => ?_, ?_⟩
    · by_cases e : t = S - (k + 1)
      · subst e; exact ⟨fun _ => l0, fun y => absurd z y⟩
      · exact h1 t (by omega) t2
    · rw [qd_t1, if_pos z]; omega
  · refine ⟨fun t t1 t2 => ?_, ?_⟩
    · by_cases e : t = S - (k + 1)
      · subst e; exact ⟨fun y => absurd y z, fun _ => ⟨l1, l2⟩⟩
      · exact h1 t (by omega) t2
    · rw [qd_t1, if_neg z]; omega
theorem qd_low {S : Nat} {l : Nat → Nat} (hS : S ≤ 12) : ∀ k, k ≤ S → (∀ t, S - k ≤ t → t < S → l t ≤ 7) → qd_l S k l < 8 ^ (12 - (S - k)) := by
  intro k
  induction k with
  | zero => intro _ _; exact Nat.pow_pos (by decide)
  | succ k ih =>
    intro hk h
    have h1 := ih (by omega) (fun t t1 t2 => h t (by omega) t2)
    have h2 := h (S - (k + 1)) (Nat.le_refl _) (by omega)
    show l (S - (k + 1)) * 8 ^ (11 - (S - (k + 1))) + qd_l S k l < _
    rw [show 12 - (S - k) = 11 - (S - (k + 1)) from by omega] at h1
    rw [show 12 - (S - (k + 1)) = (11 - (S - (k + 1))) + 1 from by omega, Nat.pow_succ]
    generalize 8 ^ (11 - (S - (k + 1))) = P at h1
    have : l (S - (k + 1)) * P ≤ 7 * P := Nat.mul_le_mul_right _ h2
    omega
/-- no lengths that fit cost less than the table says -/
theorem qd_lb {c : Nat → Nat} {g S : Nat} : ∀ k, k ≤ S → ∀ r l, qd_F c g S k r l → qd_D c g S k r ≤ qd_c c S k l := by
  intro k
  induction k with
  | zero => intro _ r l _; exact Nat.zero_le _
  | succ k ih =>
    intro hk r l h
    have d := qd_F_dn hk h
    show _ ≤ c (S - (k + 1)) * l (S - (k + 1)) + qd_c c S k l
    by_cases z : c (S - (k + 1)) = 0
    · obtain ⟨_, h1⟩ := d.1 z
      have := ih (by omega) r l h1
      rw [qd_D1, if_pos z]; omega
    · obtain ⟨h0, h1, h2, h3⟩ := d.2 z
      have := ih (by omega) _ l h3
      rw [qd_D1, if_neg z]
      have := qd_m_min (c1 := c (S - (k + 1))) (nx := qd_D c g S k) g _ h0 h1 h2
      omega
def qd_O (c : Nat → Nat) (g S k r : Nat) (l : Nat → Nat) : Prop :=
  qd_F c g S k r l ∧ qd_c c S k l = qd_D c g S k r ∧ ∀ l', qd_F c g S k r l' → qd_c c S k l * 2 ^ 36 + qd_l S k l ≤ qd_c c S k l' * 2 ^ 36 + qd_l S k l'
theorem qd_O0 {c : Nat → Nat} {g S r : Nat} {l : Nat → Nat} : qd_O c g S 0 r l := ⟨⟨fun t t1 t2 => by omega, Nat.zero_le _⟩, rfl, fun _ _ => Nat.le_refl _⟩
theorem qd_Oz {c : Nat → Nat} {g S k r : Nat} {l : Nat → Nat} (hk : k + 1 ≤ S) (z : c (S - (k + 1)) = 0) (l0 : l (S - (k + 1)) = 0) (h : qd_O c g S k r l) : qd_O c g S (k + 1) r l := by
  obtain ⟨h1, h2, h3⟩ := h
  have ec : ∀ l', qd_c c S (k + 1) l' = qd_c c S k l' := fun l' => by
    show c (S - (k + 1)) * l' (S - (k + 1)) + qd_c c S k l' = _
    rw [z]; omega
  have el : ∀ l', l' (S - (k + 1)) = 0 → qd_l S (k + 1) l' = qd_l S k l' := fun l' e => by
    show l' (S - (k + 1)) * 8 ^ (11 - (S - (k + 1))) + qd_l S k l' = _
    rw [e]; omega
  refine ⟨qd_F_up hk (Or.inl ⟨z, l0, h1⟩), ?_, fun l' hl' => ?_⟩
  · rw [ec, h2, qd_D1, if_pos z]
  · obtain ⟨q1, q2⟩ := (qd_F_dn hk hl').1 z
    rw [ec, ec, el l l0, el l' q1]
    exact h3 l' q2
theorem qd_Op {c : Nat → Nat} {g S k r : Nat} {l : Nat → Nat} (hS : S ≤ 12) (hg : g ≤ 6) (hk : k + 1 ≤ S) (z : c (S - (k + 1)) ≠ 0) {e : Nat} (le : l (S - (k + 1)) = e) (e1 : 1 ≤ e) (e2 : e ≤ g) (e3 : 2 ^ (g - e) ≤ r)
    (e4 : c (S - (k + 1)) * e + qd_D c g S k (r - 2 ^ (g - e)) = qd_D c g S (k + 1) r)
    (e5 : ∀ i, 1 ≤ i → i < e → 2 ^ (g - i) ≤ r → c (S - (k + 1)) * i + qd_D c g S k (r - 2 ^ (g - i)) ≠ qd_D c g S (k + 1) r)
    (h : qd_O c g S k (r - 2 ^ (g - e)) l) : qd_O c g S (k + 1) r l := by
  obtain ⟨h1, h2, h3⟩ := h
  have ec : ∀ l', qd_c c S (k + 1) l' = c (S - (k + 1)) * l' (S - (k + 1)) + qd_c c S k l' := fun _ => rfl
  have el : ∀ l', qd_l S (k + 1) l' = l' (S - (k + 1)) * 8 ^ (11 - (S - (k + 1))) + qd_l S k l' := fun _ => rfl
  have hF : qd_F c g S (k + 1) r l := qd_F_up hk (Or.inr ⟨z, by omega, by omega, by rw [le]; exact e3, by rw [le]; exact h1⟩)
  have hc : qd_c c S (k + 1) l = qd_D c g S (k + 1) r := by rw [ec, le, h2, e4]
  have bnd : ∀ (l' : Nat → Nat) (r' j : Nat), j ≤ S → qd_F c g S j r' l' → qd_l S j l' < 8 ^ (12 - (S - j)) := fun l' r' j hj hf => qd_low hS j hj (fun t t1 t2 => by
    have := hf.1 t t1 t2
    by_cases y : c t = 0
    · have := this.1 y; omega
    · have := this.2 y; omega)
  refine ⟨hF, hc, fun l' hl' => ?_⟩
  have lb := qd_lb (k + 1) hk r l' hl'
  obtain ⟨q0, q1, q2, q3⟩ := (qd_F_dn hk hl').2 z
  by_cases x : qd_c c S (k + 1) l' = qd_D c g S (k + 1) r
  · -- the same cost
    have lb' := qd_lb k (by omega) _ l' q3
    have mn : qd_D c g S (k + 1) r ≤ c (S - (k + 1)) * l' (S - (k + 1)) + qd_D c g S k (r - 2 ^ (g - l' (S - (k + 1)))) := by
      rw [qd_D1, if_neg z]
      exact qd_m_min g _ q0 q1 q2
    have ex := ec l'
    have eq' : c (S - (k + 1)) * l' (S - (k + 1)) + qd_D c g S k (r - 2 ^ (g - l' (S - (k + 1)))) = qd_D c g S (k + 1) r := by omega
    have hle : e ≤ l' (S - (k + 1)) := by
      by_cases y : l' (S - (k + 1)) < e
      · exact absurd eq' (e5 _ q0 y q2)
      · omega
    rw [hc, x, el, el, le]
    by_cases y : l' (S - (k + 1)) = e
    · rw [y] at q3 ex ⊢
      have a1 := h3 l' q3
      have a2 : qd_c c S k l' = qd_c c S k l := by rw [ec l, le] at hc; omega
      rw [a2] at a1
      exact Nat.add_le_add_left (Nat.add_le_add_left (Nat.le_of_add_le_add_left a1) _) _
    · have b := bnd l _ k (by omega) h1
      rw [show 12 - (S - k) = 11 - (S - (k + 1)) from by omega] at b
      generalize 8 ^ (11 - (S - (k + 1))) = P at b
      have : (e + 1) * P ≤ l' (S - (k + 1)) * P := Nat.mul_le_mul_right _ (by omega)
      rw [Nat.succ_mul] at this
      omega
  · have b := bnd l r (k + 1) hk hF
    have b2 : 8 ^ (12 - (S - (k + 1))) ≤ 2 ^ 36 := by
      rw [show (2 : Nat) ^ 36 = 8 ^ 12 from by decide]
      exact Nat.pow_le_pow_right (by decide) (by omega)
    rw [hc]
    have : (qd_D c g S (k + 1) r + 1) * 2 ^ 36 ≤ qd_c c S (k + 1) l' * 2 ^ 36 := Nat.mul_le_mul_right _ (by omega)
    rw [Nat.succ_mul] at this
    omega
/-- where the table has a way, the greedy search finds a least length, and there is a way behind it -/
theorem qd_ex {c : Nat → Nat} {g S k r : Nat} (z : c (S - (k + 1)) ≠ 0) (h : qd_D c g S (k + 1) r < 1000000) :
    ∃ e, 1 ≤ e ∧ e ≤ g ∧ 2 ^ (g - e) ≤ r ∧ c (S - (k + 1)) * e + qd_D c g S k (r - 2 ^ (g - e)) = qd_D c g S (k + 1) r ∧
      (∀ i, 1 ≤ i → i < e → 2 ^ (g - i) ≤ r → c (S - (k + 1)) * i + qd_D c g S k (r - 2 ^ (g - i)) ≠ qd_D c g S (k + 1) r) ∧ qd_D c g S k (r - 2 ^ (g - e)) < 1000000 := by
  have hd : qd_D c g S (k + 1) r = qd_m (c (S - (k + 1))) g r (qd_D c g S k) g := by rw [qd_D1, if_neg z]
  obtain ⟨i, i1, i2, i3, i4⟩ := qd_m_at (c1 := c (S - (k + 1))) (nx := qd_D c g S k) g (by rw [← hd]; exact h)
  obtain ⟨e, ⟨p1, p2, p3⟩, p4⟩ := pk_least (fun j => 1 ≤ j ∧ 2 ^ (g - j) ≤ r ∧ c (S - (k + 1)) * j + qd_D c g S k (r - 2 ^ (g - j)) = qd_D c g S (k + 1) r) ⟨i, i1, i3, by rw [hd]; exact i4⟩
  have hei : e ≤ i := by
    by_cases y : i < e
    · exact absurd ⟨i1, i3, by rw [hd]; exact i4⟩ (p4 i y)
    · omega
  refine ⟨e, p1, by omega, p2, p3, fun j j1 j2 j3 j4 => p4 j j2 ⟨j1, j3, j4⟩, ?_⟩
  omega
end
section
/-! package-merge and the table meet -/
theorem qs_pair (f : Nat → Nat) {i j n : Nat} (h : i < j) (hj : j < n) : f i + f j ≤ qs_s f n := by
  have h1 := qs_mono f (show j + 1 ≤ n from hj)
  rw [qs_1] at h1
  have h2 := qs_tm f h
  omega
def qj_w (c : Nat → Nat) (s : Nat) : Nat := c s * 2 ^ 36 + 8 ^ (11 - s)
/-- o lists the used symbols below S, each once: every sum says so -/
def qj_P (c o : Nat → Nat) (S n : Nat) : Prop := ∀ f : Nat → Nat, qs_s (fun i => f (o i)) n = qs_s (fun s => if c s = 0 then 0 else f s) S
theorem qj_n {c o : Nat → Nat} {S n : Nat} (h : qj_P c o S n) : n = qs_s (fun s => if c s = 0 then 0 else 1) S := by
  have := h (fun _ => 1)
  rw [qs_const, Nat.mul_one] at this
  exact this
theorem qj_in {c o : Nat → Nat} {S n : Nat} (h : qj_P c o S n) {i : Nat} (hi : i < n) : o i < S ∧ c (o i) ≠ 0 := by
  by_cases y : o i < S ∧ c (o i) ≠ 0
  · exact y
  · exfalso
    have e := h (fun s => if s = o i then 1 else 0)
    have z : qs_s (fun s => if c s = 0 then 0 else (fun s => if s = o i then 1 else 0) s) S = 0 := qs_zero _ _ (fun s hs => by
      by_cases c0 : c s = 0
      · simp [c0]
      · by_cases x : s = o i
        · subst x; exact absurd ⟨hs, c0⟩ y
        · simp [x])
    rw [z] at e
    have t := qs_tm (fun j => (fun s => if s = o i then 1 else 0) (o j)) hi
    rw [e] at t
    simp at t
theorem qj_inj {c o : Nat → Nat} {S n : Nat} (h : qj_P c o S n) {i j : Nat} (hij : i < j) (hj : j < n) : o i ≠ o j := by
  intro x
  have e := h (fun s => if s = o i then 1 else 0)
  have u : qs_s (fun s => if c s = 0 then 0 else (fun s => if s = o i then 1 else 0) s) S ≤ qs_s (fun s => if s = o i then 1 else 0) S := qs_le _ (fun s _ => by
    by_cases c0 : c s = 0
    · simp [c0]
    · simp [c0])
  rw [qs_single] at u
  have t := qs_pair (fun j => (fun s => if s = o i then 1 else 0) (o j)) hij hj
  rw [e] at t
  have t1 : (fun j => (fun s => if s = o i then 1 else 0) (o j)) i = 1 := by simp
  have t2 : (fun j => (fun s => if s = o i then 1 else 0) (o j)) j = 1 := by simp [x]
  have u2 : (if o i < S then 1 else 0) ≤ 1 := by
    by_cases q : o i < S
    · rw [if_pos q]; exact Nat.le_refl _
    · rw [if_neg q]; exact Nat.zero_le _
  rw [t1, t2] at t
  exact absurd (Nat.le_trans t (Nat.le_trans u u2)) (by decide)
theorem qj_sym {c o : Nat → Nat} {S n : Nat} (h : qj_P c o S n) (l : Nat → Nat) : ∃ L : Nat → Nat, (∀ i, i < n → L (o i) = l i) ∧ ∀ s, (∀ i, i < n → o i ≠ s) → L s = 0 := by
  have ex : ∀ s, ∃ v, (∀ i, i < n → o i = s → v = l i) ∧ ((∀ i, i < n → o i ≠ s) → v = 0) := by
    intro s
    by_cases y : ∃ i, i < n ∧ o i = s
    · obtain ⟨i, hi, e⟩ := y
      refine ⟨l i, fun j hj ej => ?_, fun q => absurd e (q i hi)⟩
      rcases Nat.lt_trichotomy i j with x | x | x
      · exact absurd (e.trans ej.symm) (qj_inj h x hj)
      · rw [x]
      · exact absurd (ej.trans e.symm) (qj_inj h x hi)
    · exact ⟨0, fun i hi e => absurd ⟨i, hi, e⟩ y, fun _ => rfl⟩
  exact ⟨fun s => (ex s).choose, fun i hi => (ex (o i)).choose_spec.1 i hi rfl, fun s hs => (ex s).choose_spec.2 hs⟩
theorem qj_W {c o : Nat → Nat} {S n : Nat} (h : qj_P c o S n) {l : Nat → Nat} (hl : ∀ s, s < S → c s = 0 → l s = 0) :
    qm_W (fun i => qj_w c (o i)) n (fun i => l (o i)) = qd_c c S S l * 2 ^ 36 + qd_l S S l := by
  have e := h (fun s => qj_w c s * l s)
  show qs_s (fun i => qj_w c (o i) * l (o i)) n = _
  rw [e, qs_congr S (g := fun s => c s * l s * 2 ^ 36 + l s * 8 ^ (11 - s)) (fun s hs => by
    by_cases z : c s = 0
    · simp only [if_pos z, hl s hs z, Nat.mul_zero, Nat.zero_mul, Nat.add_zero]
    · simp only [if_neg z]
      rw [qj_w, Nat.add_mul, Nat.mul_right_comm, Nat.mul_comm (8 ^ _)]), qs_add, qs_mulr]
  show _ = qd_t (fun t => c t * l t) S S * 2 ^ 36 + qd_t (fun t => l t * 8 ^ (11 - t)) S S
  rw [qd_t_all, qd_t_all]
theorem qj_K {c o : Nat → Nat} {S n : Nat} (h : qj_P c o S n) (g : Nat) (l : Nat → Nat) :
    qs_s (fun i => 2 ^ (g - l (o i))) n = qd_t (fun t => if c t = 0 then 0 else 2 ^ (g - l t)) S S := by
  rw [qd_t_all]
  exact h (fun s => 2 ^ (g - l s))
theorem qj_F0 {c : Nat → Nat} {g S r : Nat} {l : Nat → Nat} (h : qd_F c g S S r l) : (∀ s, s < S → c s = 0 → l s = 0) := fun s hs z => (h.1 s (by omega) hs).1 z
/-- two or more used symbols -/
theorem qj_two {c o : Nat → Nat} {S n g : Nat} {l0 : Nat → Nat} (h : qj_P c o S n) (hs : qm_srt (fun i => qj_w c (o i)) n) (hn : n ≤ 2 ^ g) (h2 : 2 ≤ n) (O : qd_O c g S S (2 ^ g) l0) :
    2 * n - 2 ≤ qm_z n g ∧ qs_s (qm_w (fun i => qj_w c (o i)) n g) (2 * n - 2) = qd_D c g S S (2 ^ g) * 2 ^ 36 + qd_l S S l0 := by
  obtain ⟨t1, t2, l, l1, l2, l3⟩ := qm_top hs h2 hn
  obtain ⟨o1, o2, o3⟩ := O
  refine ⟨t1, Nat.le_antisymm ?_ ?_⟩
  · rw [← o2, ← qj_W h (qj_F0 o1)]
    refine t2 (fun i => l0 (o i)) (fun i hi => ?_) ?_
    · obtain ⟨q1, q2⟩ := qj_in h hi
      exact ((o1.1 (o i) (by omega) q1).2 q2).2
    · rw [qj_K h]; exact o1.2
  · obtain ⟨L, L1, L2⟩ := qj_sym h l
    have cov : ∀ s, s < S → c s ≠ 0 → ∃ i, i < n ∧ o i = s := by
      intro s hs' hc
      by_cases y : ∃ i, i < n ∧ o i = s
      · exact y
      · exfalso
        have e := h (fun t => if t = s then 1 else 0)
        have z : qs_s (fun i => (fun t => if t = s then 1 else 0) (o i)) n = 0 := qs_zero _ _ (fun i hi => by
          have : ¬ o i = s := fun x => y ⟨i, hi, x⟩
          simp [this])
        have t := qs_tm (fun t => if c t = 0 then 0 else (fun t => if t = s then 1 else 0) t) hs'
        rw [z] at e
        rw [← e] at t
        simp [hc] at t
    have hF : qd_F c g S S (2 ^ g) L := by
      refine ⟨fun s _ hs' => ⟨fun z => L2 s (fun i hi e => ?_), fun z => ?_⟩, ?_⟩
      · subst e; exact (qj_in h hi).2 z
      · obtain ⟨i, hi, e⟩ := cov s hs' z
        rw [← e, L1 i hi]
        exact l1 i hi
      · rw [← qj_K h, qs_congr n (g := fun i => 2 ^ (g - l i)) (fun i hi => by rw [L1 i hi])]
        exact l2
    have := o3 L hF
    rw [← o2]
    refine Nat.le_trans this ?_
    rw [← qj_W h (qj_F0 hF), l3]
    apply Nat.le_of_eq
    show qs_s (fun i => qj_w c (o i) * L (o i)) n = qs_s (fun i => qj_w c (o i) * l i) n
    exact qs_congr n (fun i hi => by rw [L1 i hi])
/-- one used symbol -/
theorem qj_one {c o : Nat → Nat} {S g : Nat} {l0 : Nat → Nat} (h : qj_P c o S 1) (hg : 1 ≤ g) (O : qd_O c g S S (2 ^ g) l0) :
    qj_w c (o 0) = qd_D c g S S (2 ^ g) * 2 ^ 36 + qd_l S S l0 := by
  obtain ⟨o1, o2, o3⟩ := O
  have w1 : ∀ l : Nat → Nat, qm_W (fun i => qj_w c (o i)) 1 (fun i => l (o i)) = qj_w c (o 0) * l (o 0) := fun l => by
    show 0 + qj_w c (o 0) * l (o 0) = _
    omega
  obtain ⟨q1, q2⟩ := qj_in h (show 0 < 1 by decide)
  rw [← o2]
  apply Nat.le_antisymm
  · rw [← qj_W h (qj_F0 o1), w1]
    have := ((o1.1 (o 0) (by omega) q1).2 q2).1
    exact Nat.le_mul_of_pos_right _ this
  · obtain ⟨L, L1, L2⟩ := qj_sym h (fun _ => 1)
    have hF : qd_F c g S S (2 ^ g) L := by
      refine ⟨fun s _ hs' => ⟨fun z => L2 s (fun i hi e => ?_), fun z => ?_⟩, ?_⟩
      · subst e; exact (qj_in h hi).2 z
      · have e : o 0 = s := by
          by_cases y : o 0 = s
          · exact y
          · exfalso
            have e := h (fun t => if t = s then 1 else 0)
            have z' : qs_s (fun i => (fun t => if t = s then 1 else 0) (o i)) 1 = 0 := qs_zero _ _ (fun i hi => by
              have e0 : i = 0 := by omega
              subst e0
              simp [y])
            have t := qs_tm (fun t => if c t = 0 then 0 else (fun t => if t = s then 1 else 0) t) hs'
            rw [z'] at e
            rw [← e] at t
            simp [z] at t
        rw [← e, L1 0 (by decide)]
        exact ⟨Nat.le_refl _, hg⟩
      · rw [← qj_K h, qs_congr 1 (g := fun i => 2 ^ (g - 1)) (fun i hi => by rw [L1 i hi]), qs_const, Nat.one_mul]
        exact Nat.pow_le_pow_right (by decide) (by omega)
    have := o3 L hF
    refine Nat.le_trans this ?_
    rw [← qj_W h (qj_F0 hF), w1, L1 0 (by decide), Nat.mul_one]
    exact Nat.le_refl _
/-- the leaves' sum -/
theorem qj_bd {c o : Nat → Nat} {S n : Nat} (h : qj_P c o S n) (hS : S ≤ 12) (hT : qs_s c S ≤ 1000) : qs_s (fun i => qj_w c (o i)) n ≤ 1002 * 2 ^ 36 := by
  rw [h (fun s => qj_w c s)]
  have e := qs_le (f := fun s => if c s = 0 then 0 else qj_w c s) (g := fun s => c s * 2 ^ 36 + 8 ^ 11) S (fun s _ => by
    have q : 8 ^ (11 - s) ≤ 8 ^ 11 := Nat.pow_le_pow_right (by decide) (by omega)
    by_cases z : c s = 0
    · simp only [if_pos z]; exact Nat.zero_le _
    · simp only [if_neg z]
      rw [qj_w]; omega)
  rw [qs_add, qs_mulr, qs_const] at e
  refine Nat.le_trans e ?_
  have h1 : S * 8 ^ 11 ≤ 12 * 8 ^ 11 := Nat.mul_le_mul_right _ hS
  have h2 : qs_s c S * 2 ^ 36 ≤ 1000 * 2 ^ 36 := Nat.mul_le_mul_right _ hT
  exact Nat.le_trans (Nat.add_le_add h2 h1) (by decide)
/-- there is a way at the start -/
theorem qj_way {c : Nat → Nat} {S g n : Nat} (hn : n = qs_s (fun s => if c s = 0 then 0 else 1) S) (hng : n ≤ 2 ^ g) (hg1 : 1 ≤ g) (hg : g ≤ 6) (hT : qs_s c S ≤ 1000) : qd_D c g S S (2 ^ g) ≤ 6000 := by
  have hF : qd_F c g S S (2 ^ g) (fun s => if c s = 0 then 0 else g) := by
    refine ⟨fun s _ _ => ⟨fun z => if_pos z, fun z => ?_⟩, ?_⟩
    · dsimp only; rw [if_neg z]; omega
    · rw [qd_t_all]
      refine Nat.le_trans (Nat.le_of_eq ?_) hng
      rw [hn]
      apply qs_congr
      intro s _
      by_cases z : c s = 0
      · simp [z]
      · simp [z]
  have := qd_lb S (Nat.le_refl _) _ _ hF
  refine Nat.le_trans this ?_
  show qd_t (fun t => c t * if c t = 0 then 0 else g) S S ≤ _
  rw [qd_t_all]
  have e := qs_le (f := fun t => c t * if c t = 0 then 0 else g) (g := fun t => c t * 6) S (fun t _ => by
    by_cases z : c t = 0
    · simp [z]
    · simp only [if_neg z]; exact Nat.mul_le_mul_left _ hg)
  rw [qs_mulr] at e
  omega
/-- the digits of the least weight are the lengths -/
theorem qj_pre (l : Nat → Nat) : ∀ s, s ≤ 12 → ∃ X, qs_s (fun t => l t * 8 ^ (11 - t)) s = X * 8 ^ (12 - s) := by
  intro s
  induction s with
  | zero => intro _; exact ⟨0, by rw [qs_0, Nat.zero_mul]⟩
  | succ s ih =>
    intro h
    obtain ⟨X, e⟩ := ih (by omega)
    refine ⟨X * 8 + l s, ?_⟩
    rw [qs_1, e, show 12 - s = (12 - (s + 1)) + 1 from by omega, show 11 - s = 12 - (s + 1) from by omega, Nat.pow_succ, Nat.add_mul]
    rw [Nat.mul_assoc X 8, Nat.mul_comm 8]
theorem qj_dig {S D s : Nat} {l : Nat → Nat} (hS : S ≤ 12) (hs : s < S) (hl : ∀ t, t < S → l t ≤ 7) : (D * 2 ^ 36 + qd_l S S l) / 2 ^ (3 * (11 - s)) % 8 = l s := by
  obtain ⟨X, e⟩ := qj_pre l s (by omega)
  have e1 : qd_l S S l = qs_s (fun t => l t * 8 ^ (11 - t)) s + (l s * 8 ^ (11 - s) + qd_l S (S - (s + 1)) l) := by
    have a := qd_t_s (fun t => l t * 8 ^ (11 - t)) S (S - (s + 1)) (by omega)
    rw [show S - (S - (s + 1)) = s + 1 from by omega, qs_1] at a
    show qd_t (fun t => l t * 8 ^ (11 - t)) S S = _ + (_ + qd_t (fun t => l t * 8 ^ (11 - t)) S (S - (s + 1)))
    rw [qd_t_all]
    omega
  have b := qd_low (l := l) hS (S - (s + 1)) (by omega) (fun t _ t2 => hl t t2)
  rw [show 12 - (S - (S - (s + 1))) = 11 - s from by omega] at b
  have e36 : (2 : Nat) ^ 36 = 8 ^ s * 8 ^ (12 - s) := by
    rw [← Nat.pow_add, show s + (12 - s) = 12 from by omega]
  have e8 : 8 ^ (12 - s) = 8 * 8 ^ (11 - s) := by rw [show 12 - s = (11 - s) + 1 from by omega, Nat.pow_succ]; omega
  have ep : 2 ^ (3 * (11 - s)) = 8 ^ (11 - s) := by rw [Nat.pow_mul]
  have hp : 0 < 8 ^ (11 - s) := Nat.pow_pos (by decide)
  rw [ep, e1, e, e36, e8]
  generalize 8 ^ (11 - s) = P at *
  have r : D * (8 ^ s * (8 * P)) + (X * (8 * P) + (l s * P + qd_l S (S - (s + 1)) l)) = qd_l S (S - (s + 1)) l + (D * 8 ^ s * 8 + X * 8 + l s) * P := by
    rw [Nat.add_mul, Nat.add_mul]
    have r1 : D * (8 ^ s * (8 * P)) = D * 8 ^ s * 8 * P := by rw [Nat.mul_assoc, Nat.mul_assoc]
    have r2 : X * (8 * P) = X * 8 * P := by rw [Nat.mul_assoc]
    omega
  rw [r, Nat.add_mul_div_right _ _ hp, Nat.div_eq_of_lt b]
  have := hl s hs
  omega
theorem qj_hi {S D : Nat} {l : Nat → Nat} (hS : S ≤ 12) (hl : ∀ t, t < S → l t ≤ 7) : (D * 2 ^ 36 + qd_l S S l) / 2 ^ 36 = D ∧ qd_l S S l < 2 ^ 36 := by
  have b := qd_low (l := l) hS S (Nat.le_refl _) (fun t _ t2 => hl t t2)
  rw [Nat.sub_self, show (8 : Nat) ^ (12 - 0) = 2 ^ 36 from by decide] at b
  refine ⟨?_, b⟩
  rw [Nat.add_comm, Nat.add_mul_div_right _ _ (by decide), Nat.div_eq_of_lt b, Nat.zero_add]
/-- insertion into the order -/
def qj_ins (o : Nat → Nat) (p x : Nat) : Nat → Nat := fun i => if i < p then o i else if i = p then x else o (i - 1)
theorem qj_ins_s (o f : Nat → Nat) (p x : Nat) : ∀ n, p ≤ n → qs_s (fun i => f (qj_ins o p x i)) (n + 1) = qs_s (fun i => f (o i)) n + f x := by
  intro n
  induction n with
  | zero =>
    intro h
    have e : p = 0 := by omega
    subst e
    show 0 + f (qj_ins o 0 x 0) = 0 + f x
    rw [qj_ins, if_neg (by omega), if_pos rfl]
  | succ n ih =>
    intro h
    by_cases e : p = n + 1
    · subst e
      rw [qs_1, qs_congr (n + 1) (g := fun i => f (o i)) (fun i hi => by rw [qj_ins, if_pos hi])]
      rw [qj_ins, if_neg (by omega), if_pos rfl]
    · rw [qs_1, ih (by omega), qs_1, qj_ins, if_neg (by omega), if_neg (by omega), Nat.add_sub_cancel]
      omega
end
section
/-! canonical words -/
def qw_n (h : Nat → Nat) (k s : Nat) : Nat := qs_s (fun t => if h t = k then 1 else 0) s
def qw_V (h : Nat → Nat) (S : Nat) : Nat → Nat
  | 0 => 0
  | k + 1 => 2 * (qw_V h S k + if k = 0 then 0 else qw_n h k S)
/-- the running value at length k, symbol s -/
def qw_v (h : Nat → Nat) (S k s : Nat) : Nat := qw_V h S k + qw_n h k s
def qw_w (h : Nat → Nat) (S s : Nat) : Nat := qw_v h S (h s) s
theorem qw_V1 (h : Nat → Nat) (S : Nat) : qw_v h S 1 0 = 0 := rfl
theorem qw_V2 (h : Nat → Nat) (S : Nat) {k : Nat} (hk : 1 ≤ k) : qw_v h S (k + 1) 0 = 2 * qw_v h S k S := by
  show 2 * (qw_V h S k + if k = 0 then 0 else qw_n h k S) + 0 = 2 * (qw_V h S k + qw_n h k S)
  rw [if_neg (by omega), Nat.add_zero]
theorem qw_vy (h : Nat → Nat) (S : Nat) {k s : Nat} (e : h s = k) : qw_v h S k (s + 1) = qw_v h S k s + 1 := by
  show qw_V h S k + (qw_n h k s + if h s = k then 1 else 0) = qw_V h S k + qw_n h k s + 1
  rw [if_pos e]; omega
theorem qw_vn (h : Nat → Nat) (S : Nat) {k s : Nat} (e : h s ≠ k) : qw_v h S k (s + 1) = qw_v h S k s := by
  show qw_V h S k + (qw_n h k s + if h s = k then 1 else 0) = qw_V h S k + qw_n h k s
  rw [if_neg e]; omega
theorem qw_nb (h : Nat → Nat) (k s : Nat) : qw_n h k s ≤ s := by
  have := qs_le (f := fun t => if h t = k then 1 else 0) (g := fun _ => 1) s (fun t _ => by
    by_cases e : h t = k
    · simp [e]
    · simp [e])
  rw [qs_const] at this
  show qs_s _ s ≤ s
  omega
theorem qw_Vb (h : Nat → Nat) {S : Nat} (hS : S ≤ 12) : ∀ k, qw_V h S k ≤ 24 * (2 ^ k - 1) := by
  intro k
  induction k with
  | zero => exact Nat.zero_le _
  | succ k ih =>
    rw [qw_V, Nat.pow_succ]
    have n1 := qw_nb h k S
    have p := Nat.two_pow_pos k
    by_cases e : k = 0
    · rw [if_pos e]; omega
    · rw [if_neg e]; omega
theorem qw_vb (h : Nat → Nat) {S : Nat} (hS : S ≤ 12) {k s : Nat} (hk : k ≤ 6) (hs : s ≤ S) : qw_v h S k s ≤ 1536 := by
  have a := qw_Vb h hS k
  have b := qw_nb h k s
  have p : 2 ^ k ≤ 2 ^ 6 := Nat.pow_le_pow_right (by decide) hk
  show qw_V h S k + qw_n h k s ≤ 1536
  omega
/-- the space before length k, symbol s, in units 1/64 -/
def qw_C (h : Nat → Nat) (S k s : Nat) : Nat := qs_s (fun t => if h t ≠ 0 ∧ (h t < k ∨ (h t = k ∧ t < s)) then 2 ^ (6 - h t) else 0) S
theorem qw_C1 (h : Nat → Nat) (S : Nat) {k s : Nat} (hs : s < S) (hk : 1 ≤ k) : qw_C h S k (s + 1) = qw_C h S k s + if h s = k then 2 ^ (6 - k) else 0 := by
  have e : qs_s (fun t => if t = s then (if h s = k then 2 ^ (6 - k) else 0) else 0) S = if h s = k then 2 ^ (6 - k) else 0 := by rw [qs_single, if_pos hs]
  show qs_s _ S = qs_s _ S + _
  rw [← e, ← qs_add]
  apply qs_congr
  intro t ht
  by_cases x : t = s
  · subst x
    by_cases y : h t = k
    · have a1 : h t ≠ 0 ∧ (h t < k ∨ (h t = k ∧ t < t + 1)) := ⟨by omega, Or.inr ⟨y, by omega⟩⟩
      have a2 : ¬ (h t ≠ 0 ∧ (h t < k ∨ (h t = k ∧ t < t))) := by omega
      rw [if_pos a1, if_neg a2, if_pos rfl, if_pos y, y, Nat.zero_add]
    · rw [if_pos rfl, if_neg y, Nat.add_zero]
      by_cases a : h t ≠ 0 ∧ h t < k
      · rw [if_pos ⟨a.1, Or.inl a.2⟩, if_pos ⟨a.1, Or.inl a.2⟩]; exact (Nat.add_zero _).symm
      · rw [if_neg (by omega), if_neg (by omega)]
  · rw [if_neg x, Nat.add_zero]
    by_cases a : h t ≠ 0 ∧ (h t < k ∨ (h t = k ∧ t < s))
    · rw [if_pos a, if_pos (by omega)]; exact (Nat.add_zero _).symm
    · rw [if_neg a, if_neg (by omega)]
theorem qw_Cv (h : Nat → Nat) (S : Nat) : ∀ k, 1 ≤ k → k ≤ 6 → ∀ s, s ≤ S → qw_v h S k s * 2 ^ (6 - k) = qw_C h S k s := by
  have go : ∀ k, 1 ≤ k → k ≤ 6 → qw_v h S k 0 * 2 ^ (6 - k) = qw_C h S k 0 → ∀ s, s ≤ S → qw_v h S k s * 2 ^ (6 - k) = qw_C h S k s := by
    intro k h1 h6 h0 s
    induction s with
    | zero => intro _; exact h0
    | succ s ih =>
      intro hs
      rw [qw_C1 h S (by omega) h1, ← ih (by omega)]
      by_cases e : h s = k
      · rw [qw_vy h S e, if_pos e, Nat.succ_mul]
      · rw [qw_vn h S e, if_neg e, Nat.add_zero]
  intro k
  induction k with
  | zero => intro h1; omega
  | succ k ih =>
    intro _ h6
    refine go (k + 1) (by omega) h6 ?_
    by_cases k0 : k = 0
    · subst k0
      rw [qw_V1, Nat.zero_mul]
      exact (qs_zero _ _ (fun t _ => if_neg (by omega))).symm
    · have i := ih (by omega) (by omega) S (Nat.le_refl _)
      rw [qw_V2 h S (by omega)]
      have p : 2 ^ (6 - k) = 2 * 2 ^ (6 - (k + 1)) := by rw [show 6 - k = (6 - (k + 1)) + 1 from by omega, Nat.pow_succ]; omega
      rw [p] at i
      have e : qw_C h S (k + 1) 0 = qw_C h S k S := by
        apply qs_congr
        intro t ht
        by_cases a : h t ≠ 0 ∧ (h t < k ∨ (h t = k ∧ t < S))
        · rw [if_pos a, if_pos (by omega)]
        · rw [if_neg a, if_neg (by omega)]
      rw [e, ← i, Nat.mul_assoc, Nat.mul_left_comm]
/-- the code's room -/
def qw_K (h : Nat → Nat) (S : Nat) : Nat := qs_s (fun t => if h t = 0 then 0 else 2 ^ (6 - h t)) S
theorem qw_in {h : Nat → Nat} {S s : Nat} (hs : s < S) (h0 : h s ≠ 0) (h6 : h s ≤ 6) : (qw_w h S s + 1) * 2 ^ (6 - h s) ≤ qw_K h S := by
  rw [Nat.succ_mul]
  show qw_v h S (h s) s * 2 ^ (6 - h s) + _ ≤ _
  rw [qw_Cv h S (h s) (by omega) h6 s (by omega)]
  have e : qs_s (fun t => if t = s then 2 ^ (6 - h s) else 0) S = 2 ^ (6 - h s) := by rw [qs_single, if_pos hs]
  rw [← e]
  show qs_s _ S + _ ≤ qs_s _ S
  rw [← qs_add]
  apply qs_le
  intro t ht
  by_cases x : t = s
  · subst x
    rw [if_neg (by omega), if_pos rfl, if_neg h0, Nat.zero_add]
    exact Nat.le_refl _
  · rw [if_neg x, Nat.add_zero]
    by_cases a : h t ≠ 0 ∧ (h t < h s ∨ (h t = h s ∧ t < s))
    · rw [if_pos a, if_neg a.1]; exact Nat.le_refl _
    · rw [if_neg a]; exact Nat.zero_le _
theorem qw_dis {h : Nat → Nat} {S s t : Nat} (hs : s < S) (ht : t < S) (h0 : h s ≠ 0) (h1 : h t ≠ 0) (h6 : h s ≤ 6) (h7 : h t ≤ 6) (hl : h s < h t ∨ (h s = h t ∧ s < t)) : (qw_w h S s + 1) * 2 ^ (6 - h s) ≤ qw_w h S t * 2 ^ (6 - h t) := by
  rw [Nat.succ_mul]
  show qw_v h S (h s) s * 2 ^ (6 - h s) + _ ≤ qw_v h S (h t) t * 2 ^ (6 - h t)
  rw [qw_Cv h S (h s) (by omega) h6 s (by omega), qw_Cv h S (h t) (by omega) h7 t (by omega)]
  have e : qs_s (fun x => if x = s then 2 ^ (6 - h s) else 0) S = 2 ^ (6 - h s) := by rw [qs_single, if_pos hs]
  rw [← e]
  show qs_s _ S + _ ≤ qs_s _ S
  rw [← qs_add]
  apply qs_le
  intro x hx
  by_cases y : x = s
  · subst y
    rw [if_neg (by omega), if_pos rfl, if_pos (by omega), Nat.zero_add]
    exact Nat.le_refl _
  · rw [if_neg y, Nat.add_zero]
    by_cases a : h x ≠ 0 ∧ (h x < h s ∨ (h x = h s ∧ x < s))
    · rw [if_pos a, if_pos (by omega)]; exact Nat.le_refl _
    · rw [if_neg a]; exact Nat.zero_le _
/-- the six bits W begin with the word of s -/
def qw_m (h : Nat → Nat) (S W s : Nat) : Prop := h s ≠ 0 ∧ W / 2 ^ (6 - h s) = qw_w h S s
theorem qw_mi {h : Nat → Nat} {S W s : Nat} (m : qw_m h S W s) : qw_w h S s * 2 ^ (6 - h s) ≤ W ∧ W < (qw_w h S s + 1) * 2 ^ (6 - h s) := by
  have p := Nat.two_pow_pos (6 - h s)
  constructor
  · rw [← m.2]; exact Nat.div_mul_le_self _ _
  · rw [← m.2]
    have := Nat.lt_div_mul_add (a := W) p
    rw [Nat.succ_mul]
    exact this
theorem qw_mo {h : Nat → Nat} {S W s : Nat} (h0 : h s ≠ 0) (h1 : qw_w h S s * 2 ^ (6 - h s) ≤ W) (h2 : W < (qw_w h S s + 1) * 2 ^ (6 - h s)) : qw_m h S W s := by
  refine ⟨h0, ?_⟩
  have p := Nat.two_pow_pos (6 - h s)
  apply Nat.le_antisymm
  · have := (Nat.div_lt_iff_lt_mul p).mpr h2
    omega
  · exact (Nat.le_div_iff_mul_le p).mpr h1
theorem qw_un {h : Nat → Nat} {S W s t : Nat} (h6 : ∀ j, h j ≤ 6) (hs : s < S) (ht : t < S) (ms : qw_m h S W s) (mt : qw_m h S W t) : s = t := by
  have a := qw_mi ms
  have b := qw_mi mt
  by_cases e : s = t
  · exact e
  · exfalso
    by_cases l : h s < h t ∨ (h s = h t ∧ s < t)
    · have := qw_dis hs ht ms.1 mt.1 (h6 s) (h6 t) l
      omega
    · have := qw_dis ht hs mt.1 ms.1 (h6 t) (h6 s) (by omega)
      omega
end
section
/-! the two-level table, in plain naturals -/
/-- the entry of W among the symbols below s -/
def qt_E (h : Nat → Nat) (S : Nat) : Nat → Nat → Nat
  | 0 => fun _ => 0
  | s + 1 => fun W => if h s ≠ 0 ∧ W / 2 ^ (6 - h s) = qw_w h S s then 8 * s + h s else qt_E h S s W
theorem qt_E1 (h : Nat → Nat) (S s W : Nat) : qt_E h S (s + 1) W = if h s ≠ 0 ∧ W / 2 ^ (6 - h s) = qw_w h S s then 8 * s + h s else qt_E h S s W := rfl
theorem qt_Ey {h : Nat → Nat} {S W s : Nat} (m : qw_m h S W s) : qt_E h S (s + 1) W = 8 * s + h s := by rw [qt_E1]; exact if_pos m
theorem qt_En {h : Nat → Nat} {S W s : Nat} (m : ¬ qw_m h S W s) : qt_E h S (s + 1) W = qt_E h S s W := by rw [qt_E1]; exact if_neg m
theorem qt_E0 {h : Nat → Nat} {S W : Nat} : ∀ s, (∀ t, t < s → ¬ qw_m h S W t) → qt_E h S s W = 0 := by
  intro s
  induction s with
  | zero => intro _; rfl
  | succ s ih =>
    intro a
    rw [qt_En (a s (by omega))]
    exact ih (fun t ht => a t (by omega))
theorem qt_Ex {h : Nat → Nat} {S W : Nat} : ∀ s, qt_E h S s W ≠ 0 → ∃ t, t < s ∧ qw_m h S W t ∧ qt_E h S s W = 8 * t + h t := by
  intro s
  induction s with
  | zero => intro a; exact absurd rfl a
  | succ s ih =>
    intro a
    by_cases m : qw_m h S W s
    · exact ⟨s, by omega, m, qt_Ey m⟩
    · rw [qt_En m] at a ⊢
      obtain ⟨t, t1, t2, t3⟩ := ih a
      exact ⟨t, by omega, t2, t3⟩
theorem qt_Em {h : Nat → Nat} {S W t : Nat} (h6 : ∀ j, h j ≤ 6) : ∀ s, s ≤ S → t < s → qw_m h S W t → qt_E h S s W = 8 * t + h t := by
  intro s hs ht m
  by_cases z : qt_E h S s W = 0
  · exfalso
    have : ∀ s, s ≤ S → t < s → qt_E h S s W ≠ 0 := by
      intro s
      induction s with
      | zero => intro _ h; omega
      | succ s ih =>
        intro hs ht
        by_cases e : qw_m h S W s
        · rw [qt_Ey e]
          have := e.1
          omega
        · rw [qt_En e]
          by_cases x : t = s
          · subst x; exact absurd m e
          · exact ih (by omega) (by omega)
    exact this s hs ht z
  · obtain ⟨t', a, b, c⟩ := qt_Ex s z
    have : t' = t := qw_un h6 (by omega) (by omega) b m
    subst this
    exact c
theorem qt_Eb {h : Nat → Nat} {S W : Nat} (hS : S ≤ 12) (h6 : ∀ j, h j ≤ 6) : ∀ s, s ≤ S → qt_E h S s W < 96 := by
  intro s hs
  by_cases z : qt_E h S s W = 0
  · omega
  · obtain ⟨t, a, b, c⟩ := qt_Ex s z
    have := h6 t
    omega
/-- the state of the tables when the symbols below s are entered: B p = 0, an entry; B p = b + 1: the block b -/
def qt_I (h : Nat → Nat) (S s bl : Nat) (B : Nat → Nat) (root branch : Nat → Int32) : Prop :=
  (∀ p, p < 8 → B p = 0 → root p = nI (qt_E h S s (8 * p)) ∧ ∀ q, q < 8 → qt_E h S s (8 * p + q) = qt_E h S s (8 * p)) ∧
  (∀ p, p < 8 → B p ≠ 0 → root p = -nI (B p) ∧ B p ≤ bl ∧ (∀ q, q < 8 → branch (8 * (B p - 1) + q) = nI (qt_E h S s (8 * p + q))) ∧ ∃ t, t < s ∧ 3 < h t ∧ qw_w h S t / 2 ^ (h t - 3) = p) ∧
  (∀ p p', p < 8 → p' < 8 → B p ≠ 0 → B p = B p' → p = p') ∧
  qs_s (fun p => if B p = 0 then 0 else 1) 8 = bl ∧
  (∀ j, 8 * bl ≤ j → j < 64 → branch j = 0)
/-- what the decoder needs -/
def qt_T (h : Nat → Nat) (S : Nat) (root branch : Nat → Int32) : Prop :=
  ∀ p, p < 8 → (root p = nI (qt_E h S S (8 * p)) ∧ ∀ q, q < 8 → qt_E h S S (8 * p + q) = qt_E h S S (8 * p)) ∨
    ∃ b, b < 8 ∧ root p = -nI (b + 1) ∧ ∀ q, q < 8 → branch (8 * b + q) = nI (qt_E h S S (8 * p + q))
theorem qt_bl (B : Nat → Nat) : qs_s (fun p => if B p = 0 then 0 else 1) 8 ≤ 8 := by
  have := qs_le (f := fun p => if B p = 0 then 0 else 1) (g := fun _ => 1) 8 (fun t _ => by
    by_cases e : B t = 0
    · simp [e]
    · simp [e])
  rw [qs_const] at this
  exact this
theorem qt_fin {h : Nat → Nat} {S bl : Nat} {B : Nat → Nat} {root branch : Nat → Int32} (I : qt_I h S S bl B root branch) : qt_T h S root branch := by
  obtain ⟨i1, i2, i3, i4, i5⟩ := I
  intro p hp
  by_cases z : B p = 0
  · exact Or.inl (i1 p hp z)
  · obtain ⟨a, b, c, -⟩ := i2 p hp z
    have := qt_bl B
    rw [i4] at this
    exact Or.inr ⟨B p - 1, by omega, by rw [show B p - 1 + 1 = B p from by omega]; exact a, c⟩
theorem qt_start (h : Nat → Nat) (S : Nat) {root branch : Nat → Int32} (hr : ∀ p, p < 8 → root p = 0) (hb : ∀ j, j < 64 → branch j = 0) : qt_I h S 0 0 (fun _ => 0) root branch :=
  ⟨fun p hp _ => ⟨hr p hp, fun _ _ => rfl⟩, fun p hp z => absurd rfl z, fun p p' _ _ z => absurd rfl z, rfl, fun j _ hj => hb j hj⟩
theorem qt_skip {h : Nat → Nat} {S s bl : Nat} {B : Nat → Nat} {root branch : Nat → Int32} (I : qt_I h S s bl B root branch) (z : h s = 0) : qt_I h S (s + 1) bl B root branch := by
  have e : ∀ W, qt_E h S (s + 1) W = qt_E h S s W := fun W => qt_En (fun m => m.1 z)
  obtain ⟨i1, i2, i3, i4, i5⟩ := I
  refine ⟨fun p hp zp => ?_, fun p hp zp => ?_, i3, i4, i5⟩
  · rw [e]
    refine ⟨(i1 p hp zp).1, fun q hq => ?_⟩
    rw [e]; exact (i1 p hp zp).2 q hq
  · obtain ⟨a, b, c, t, t1, t2⟩ := i2 p hp zp
    exact ⟨a, b, fun q hq => by rw [e]; exact c q hq, t, by omega, t2⟩
theorem qt_d8 (k p q : Nat) (hk : k ≤ 3) (hq : q < 8) : (8 * p + q) / 2 ^ (6 - k) = p / 2 ^ (3 - k) := by
  rw [show 6 - k = 3 + (3 - k) from by omega, Nat.pow_add, ← Nat.div_div_eq_div_mul, show (2 : Nat) ^ 3 = 8 from rfl, show (8 * p + q) / 8 = p from by omega]
theorem qt_p3 {h : Nat → Nat} {S t : Nat} (h3 : 3 < h t) (h6 : h t ≤ 6) : qw_w h S t * 2 ^ (6 - h t) / 8 = qw_w h S t / 2 ^ (h t - 3) := by
  have e : (8 : Nat) = 2 ^ (h t - 3) * 2 ^ (6 - h t) := by
    rw [← Nat.pow_add, show h t - 3 + (6 - h t) = 3 from by omega]
  rw [e, Nat.mul_div_mul_right _ _ (Nat.two_pow_pos _)]
theorem qt_ms {h : Nat → Nat} {S t : Nat} (h0 : h t ≠ 0) : qw_m h S (qw_w h S t * 2 ^ (6 - h t)) t :=
  ⟨h0, Nat.mul_div_cancel _ (Nat.two_pow_pos _)⟩
/-- a word of one to three bits -/
theorem qt_short {h : Nat → Nat} {S s bl : Nat} {B : Nat → Nat} {root root' branch : Nat → Int32} (I : qt_I h S s bl B root branch) (h6 : ∀ j, h j ≤ 6) (hs : s < S) (z : h s ≠ 0) (z3 : h s ≤ 3)
    (hr : ∀ p, p < 8 → root' p = if p / 2 ^ (3 - h s) = qw_w h S s then nI (8 * s + h s) else root p) : qt_I h S (s + 1) bl B root' branch := by
  obtain ⟨i1, i2, i3, i4, i5⟩ := I
  have mm : ∀ p q, q < 8 → (qw_m h S (8 * p + q) s ↔ p / 2 ^ (3 - h s) = qw_w h S s) := fun p q hq =>
    ⟨fun m => by rw [← qt_d8 (h s) p q z3 hq]; exact m.2, fun e => ⟨z, by rw [qt_d8 (h s) p q z3 hq]; exact e⟩⟩
  have key : ∀ p, p < 8 → B p ≠ 0 → ¬ p / 2 ^ (3 - h s) = qw_w h S s := by
    intro p hp zp e
    obtain ⟨-, -, -, t, t1, t2, t3⟩ := i2 p hp zp
    have m1 : qw_m h S (qw_w h S t * 2 ^ (6 - h t)) t := qt_ms (by omega)
    have d := qt_p3 (S := S) t2 (h6 t)
    rw [t3] at d
    generalize qw_w h S t * 2 ^ (6 - h t) = W at m1 d
    have eW : W = 8 * p + W % 8 := by omega
    have m2 : qw_m h S W s := by
      rw [eW]
      exact (mm p (W % 8) (Nat.mod_lt _ (by decide))).mpr e
    have := qw_un h6 hs (by omega) m2 m1
    subst this
    omega
  refine ⟨fun p hp zp => ?_, fun p hp zp => ?_, i3, i4, i5⟩
  · by_cases e : p / 2 ^ (3 - h s) = qw_w h S s
    · have e0 : qt_E h S (s + 1) (8 * p) = 8 * s + h s := qt_Ey ((mm p 0 (by decide)).mpr e)
      rw [hr p hp, if_pos e, e0]
      exact ⟨rfl, fun q hq => qt_Ey ((mm p q hq).mpr e)⟩
    · have e0 : qt_E h S (s + 1) (8 * p) = qt_E h S s (8 * p) := qt_En (fun m => e ((mm p 0 (by decide)).mp m))
      rw [hr p hp, if_neg e, e0]
      refine ⟨(i1 p hp zp).1, fun q hq => ?_⟩
      rw [qt_En (fun m => e ((mm p q hq).mp m))]
      exact (i1 p hp zp).2 q hq
  · obtain ⟨a, b, c, t, t1, t2⟩ := i2 p hp zp
    have e := key p hp zp
    refine ⟨by rw [hr p hp, if_neg e]; exact a, b, fun q hq => ?_, t, by omega, t2⟩
    rw [qt_En (fun m => e ((mm p q hq).mp m))]
    exact c q hq
/-- the place of a longer word holds no short one -/
theorem qt_free {h : Nat → Nat} {S s bl : Nat} {B : Nat → Nat} {root branch : Nat → Int32} (I : qt_I h S s bl B root branch) (h6 : ∀ j, h j ≤ 6) (hs : s < S) (z3 : 3 < h s) {p : Nat} (hp : p < 8) (ep : qw_w h S s / 2 ^ (h s - 3) = p) (zp : B p = 0) :
    qt_E h S s (8 * p) = 0 ∧ root p = 0 := by
  obtain ⟨i1, i2, i3, i4, i5⟩ := I
  obtain ⟨a, b⟩ := i1 p hp zp
  have e0 : qt_E h S s (8 * p) = 0 := by
    by_cases y : qt_E h S s (8 * p) = 0
    · exact y
    · exfalso
      have m1 : qw_m h S (qw_w h S s * 2 ^ (6 - h s)) s := qt_ms (by omega)
      have d := qt_p3 (S := S) z3 (h6 s)
      rw [ep] at d
      generalize qw_w h S s * 2 ^ (6 - h s) = W at m1 d
      have eW : 8 * p + W % 8 = W := by omega
      have b' := b (W % 8) (Nat.mod_lt _ (by decide))
      rw [eW] at b'
      rw [← b'] at y
      obtain ⟨t, t1, t2, -⟩ := qt_Ex s y
      have := qw_un h6 hs (by omega) m1 t2
      omega
  refine ⟨e0, ?_⟩
  rw [a, e0]
  rfl
/-- a new block -/
theorem qt_new {h : Nat → Nat} {S s bl : Nat} {B : Nat → Nat} {root branch : Nat → Int32} (I : qt_I h S s bl B root branch) (h6 : ∀ j, h j ≤ 6) (hs : s < S) (z3 : 3 < h s) {p : Nat} (hp : p < 8) (ep : qw_w h S s / 2 ^ (h s - 3) = p) (zp : B p = 0) :
    bl < 8 ∧ (∀ p', p' < 8 → p' ≠ p → B p' = qs_u B p (bl + 1) p') ∧ qs_u B p (bl + 1) p = bl + 1 ∧
    (∀ q, q < 8 → branch (8 * bl + q) = nI (qt_E h S s (8 * p + q))) := by
  obtain ⟨e0, -⟩ := qt_free I h6 hs z3 hp ep zp
  obtain ⟨i1, i2, i3, i4, i5⟩ := I
  have hb : bl < 8 := by
    have u := qs_su (fun p => if B p = 0 then 0 else 1) p 1 8 hp
    have v := qs_le (f := qs_u (fun p => if B p = 0 then 0 else 1) p 1) (g := fun _ => 1) 8 (fun t _ => by
      by_cases x : t = p
      · subst x; rw [qs_us]; exact Nat.le_refl _
      · rw [qs_un x]
        by_cases e : B t = 0
        · simp [e]
        · simp [e])
    rw [qs_const] at v
    rw [i4] at u
    simp only [zp, if_true] at u
    omega
  refine ⟨hb, fun p' _ x => (qs_un x).symm, qs_us, fun q hq => ?_⟩
  rw [i5 _ (by omega) (by omega), (i1 p hp zp).2 q hq, e0]
  rfl
/-- a word of four to six bits goes into the block b of its place: B1 is the table of blocks with it -/
theorem qt_long {h : Nat → Nat} {S s bl : Nat} {B : Nat → Nat} {root branch branch' : Nat → Int32} (h6 : ∀ j, h j ≤ 6) (hs : s < S) (z3 : 3 < h s) {p : Nat} (hp : p < 8) (ep : qw_w h S s / 2 ^ (h s - 3) = p) (zp : B p ≠ 0)
    (i1 : ∀ p, p < 8 → B p = 0 → root p = nI (qt_E h S s (8 * p)) ∧ ∀ q, q < 8 → qt_E h S s (8 * p + q) = qt_E h S s (8 * p))
    (i2 : ∀ p', p' < 8 → B p' ≠ 0 → root p' = -nI (B p') ∧ B p' ≤ bl ∧ (∀ q, q < 8 → branch (8 * (B p' - 1) + q) = nI (qt_E h S s (8 * p' + q))) ∧ ∃ t, t < s + 1 ∧ 3 < h t ∧ qw_w h S t / 2 ^ (h t - 3) = p')
    (i3 : ∀ p p', p < 8 → p' < 8 → B p ≠ 0 → B p = B p' → p = p') (i4 : qs_s (fun p => if B p = 0 then 0 else 1) 8 = bl) (i5 : ∀ j, 8 * bl ≤ j → j < 64 → branch j = 0)
    (hr : ∀ j, j < 64 → branch' j = if j / 8 = B p - 1 ∧ (8 * p + j % 8) / 2 ^ (6 - h s) = qw_w h S s then nI (8 * s + h s) else branch j) : qt_I h S (s + 1) bl B root branch' := by
  have mp : ∀ W, qw_m h S W s → W / 8 = p := by
    intro W m
    have d := qw_mi m
    have e := qt_p3 (S := S) z3 (h6 s)
    rw [ep] at e
    have g6 := h6 s
    have l : 2 ^ (6 - h s) ≤ 8 := Nat.pow_le_pow_right (n := 2) (by decide) (show 6 - h s ≤ 3 by omega)
    have e8 : (8 : Nat) = 2 ^ (h s - 3) * 2 ^ (6 - h s) := by
      rw [← Nat.pow_add, show h s - 3 + (6 - h s) = 3 from by omega]
    rw [← ep]
    have a1 : W / 8 = W / 2 ^ (6 - h s) / 2 ^ (h s - 3) := by
      rw [Nat.div_div_eq_div_mul, Nat.mul_comm, ← e8]
    rw [a1, m.2]
  have bl8 := qt_bl B
  rw [i4] at bl8
  refine ⟨fun p' hp' z' => ?_, fun p' hp' z' => ?_, i3, i4, fun j hj hj2 => ?_⟩
  · have n : ∀ q, q < 8 → ¬ qw_m h S (8 * p' + q) s := by
      intro q hq m
      have := mp _ m
      have : p' = p := by omega
      subst this
      exact zp z'
    have n0 := n 0 (by decide)
    rw [Nat.add_zero] at n0
    rw [qt_En n0]
    refine ⟨(i1 p' hp' z').1, fun q hq => ?_⟩
    rw [qt_En (n q hq)]
    exact (i1 p' hp' z').2 q hq
  · obtain ⟨a, b, c, d⟩ := i2 p' hp' z'
    refine ⟨a, b, fun q hq => ?_, d⟩
    rw [hr _ (by omega), show (8 * (B p' - 1) + q) / 8 = B p' - 1 from by omega, show (8 * (B p' - 1) + q) % 8 = q from by omega]
    by_cases x : p' = p
    · subst x
      by_cases m : qw_m h S (8 * p' + q) s
      · rw [if_pos ⟨rfl, m.2⟩, qt_Ey m]
      · rw [if_neg (fun y => m ⟨by omega, y.2⟩), qt_En m]
        exact c q hq
    · have nb : ¬ B p' - 1 = B p - 1 := fun y => x (i3 p' p hp' hp z' (by omega))
      have nm : ¬ qw_m h S (8 * p' + q) s := fun m => by
        have := mp _ m
        omega
      rw [if_neg (fun y => nb y.1), qt_En nm]
      exact c q hq
  · have := (i2 p hp zp).2.1
    rw [hr j hj2, if_neg (fun y => by omega)]
    exact i5 j hj hj2
end
section
/-! the relation of the two states -/
def qr_mx (h : Nat → Nat) : Nat → Nat
  | 0 => 0
  | s + 1 => if h s ≤ qr_mx h s then qr_mx h s else h s
section QR
variable {S L C T M O N R E D G : Nat} {c ml lc ob ib lh par : Nat → Nat} {pr cc op : Int32} {cw dl rt br wh ls : Nat → Int32} {lf pa ro : Nat → Int64}
def qr_F (S L C T M O N R E D G : Nat) (c ml lc ob ib lh : Nat → Nat) (op : Int32) (cw rt br : Nat → Int32) : Prop :=
  (2 ≤ S ∧ S ≤ 12 ∧ 1 ≤ L ∧ L ≤ 6 ∧ 1 ≤ C ∧ C ≤ 31 ∧ M ≤ C ∧ O ≤ 256 ∧ N ≤ 256 ∧ R ≤ N ∧ D ≤ E ∧ E ≤ C) ∧
  (T = qs_s c S ∧ T ≤ 1000 ∧ ∀ j, S ≤ j → c j = 0) ∧
  (∀ i, i < M → ml i < S) ∧
  ((∀ j, lc j ≤ 6) ∧ (∀ j, S ≤ j → lc j = 0) ∧ ∀ s, s < S → lc s ≠ 0 → cw s = nI (qw_w lc S s)) ∧
  ((∀ j, ob j ≤ 1) ∧ ∀ j, ib j ≤ 1) ∧
  ((∀ j, lh j ≤ 6) ∧ (∀ j, S ≤ j → lh j = 0)) ∧
  (op ≠ 0 → qw_K lh S ≤ 64 ∧ qt_T lh S rt br ∧ G = qr_mx lh S)
def i_Rel (_ : Nat) (u : SX) (v : SY) : Prop :=
  ∃ (S L C T M O N R E D G : Nat) (c ml lc ob ib lh par : Nat → Nat) (pr cc op : Int32) (cw dl rt br : Nat → Int32) (lf pa ro : Nat → Int64) (wh ls : Nat → Int32),
    qr_F S L C T M O N R E D G c ml lc ob ib lh op cw rt br ∧ u = (nI S, nI L, nI C, nI T, nI M, pr, cc, nI O, nI N, op, nI G, nI R, nI E, nI D, qs_N c, qs_N ml, qs_N lc, cw, qs_N ob, qs_N ib, qs_N lh, dl, rt, br, lf, pa, ro, qs_N par, wh) ∧ v = (nI S, nI L, nI C, nI M, pr, cc, nI O, nI N, op, nI R, nI E, nI D, qs_N c, qs_N ml, qs_N lc, qs_N ob, qs_N ib, qs_N lh, dl, ls, qs_N par)
theorem i_up {k : Nat} {u : SX} {v : SY} (h : i_Rel k u v) : i_Rel (k + 3) u v := h
theorem qr_in (k : Nat) (F : qr_F S L C T M O N R E D G c ml lc ob ib lh op cw rt br) : i_Rel k (nI S, nI L, nI C, nI T, nI M, pr, cc, nI O, nI N, op, nI G, nI R, nI E, nI D, qs_N c, qs_N ml, qs_N lc, cw, qs_N ob, qs_N ib, qs_N lh, dl, rt, br, lf, pa, ro, qs_N par, wh) (nI S, nI L, nI C, nI M, pr, cc, nI O, nI N, op, nI R, nI E, nI D, qs_N c, qs_N ml, qs_N lc, qs_N ob, qs_N ib, qs_N lh, dl, ls, qs_N par) :=
  ⟨S, L, C, T, M, O, N, R, E, D, G, c, ml, lc, ob, ib, lh, par, pr, cc, op, cw, dl, rt, br, lf, pa, ro, wh, ls, F, rfl, rfl⟩
theorem qr_el {P : SX → SY → Prop} (H : ∀ (S L C T M O N R E D G : Nat) (c ml lc ob ib lh par : Nat → Nat) (pr cc op : Int32) (cw dl rt br : Nat → Int32) (lf pa ro : Nat → Int64) (wh ls : Nat → Int32),
    qr_F S L C T M O N R E D G c ml lc ob ib lh op cw rt br → P (nI S, nI L, nI C, nI T, nI M, pr, cc, nI O, nI N, op, nI G, nI R, nI E, nI D, qs_N c, qs_N ml, qs_N lc, cw, qs_N ob, qs_N ib, qs_N lh, dl, rt, br, lf, pa, ro, qs_N par, wh) (nI S, nI L, nI C, nI M, pr, cc, nI O, nI N, op, nI R, nI E, nI D, qs_N c, qs_N ml, qs_N lc, qs_N ob, qs_N ib, qs_N lh, dl, ls, qs_N par)) {k : Nat} {u : SX} {v : SY} (I : i_Rel k u v) : P u v :=
  Exists.elim I fun S I => Exists.elim I fun L I => Exists.elim I fun C I => Exists.elim I fun T I => Exists.elim I fun M I => Exists.elim I fun O I => Exists.elim I fun N I => Exists.elim I fun R I => Exists.elim I fun E I => Exists.elim I fun D I => Exists.elim I fun G I =>
  Exists.elim I fun c I => Exists.elim I fun ml I => Exists.elim I fun lc I => Exists.elim I fun ob I => Exists.elim I fun ib I => Exists.elim I fun lh I => Exists.elim I fun par I =>
  Exists.elim I fun pr I => Exists.elim I fun cc I => Exists.elim I fun op I => Exists.elim I fun cw I => Exists.elim I fun dl I => Exists.elim I fun rt I => Exists.elim I fun br I =>
  Exists.elim I fun lf I => Exists.elim I fun pa I => Exists.elim I fun ro I => Exists.elim I fun wh I => Exists.elim I fun ls I => by
    rw [I.2.1, I.2.2]
    exact H S L C T M O N R E D G c ml lc ob ib lh par pr cc op cw dl rt br lf pa ro wh ls I.1
end QR
theorem qr_cl {post : Int32 → Prop} {u : SX} {p0 p1 p2 : Int32} (h : ∀ r, (wpY_clamp (fun r' => r' = r) p0 p1 p2) → post r) : wpX_clamp post u p0 p1 p2 := by
  obtain ⟨x1, x2, x3, x4, x5, x6, x7, x8, x9, x10, x11, x12, x13, x14, x15, x16, x17, x18, x19, x20, x21, x22, x23, x24, x25, x26, x27, x28, x29⟩ := u
  by_cases a : p1 ≤ p0
  · by_cases b : p0 ≤ p2
    · exact br_t a (br_t b (h _ (br_t a (br_t b rfl))))
    · exact br_t a (br_f b (h _ (br_t a (br_f b rfl))))
  · exact br_f a (h _ (br_f a rfl))
theorem qr_cy {post : Int32 → Prop} {r p0 p1 p2 : Int32} (h : wpY_clamp (fun r' => r' = r) p0 p1 p2) (q : post r) : wpY_clamp post p0 p1 p2 := by
  by_cases a : p1 ≤ p0
  · by_cases b : p0 ≤ p2
    · exact br_t a (br_t b (by rw [(h.1 a).1 b]; exact q))
    · exact br_t a (br_f b (by rw [(h.1 a).2 b]; exact q))
  · exact br_f a (by rw [h.2 a]; exact q)
theorem qr_cn {r p0 p1 p2 : Int32} {lo hi : Nat} (h : wpY_clamp (fun r' => r' = r) p0 p1 p2) (h1 : p1.toInt = lo) (h2 : p2.toInt = hi) (hl : lo ≤ hi) (hb : hi < 2 ^ 31) : ∃ a : Nat, lo ≤ a ∧ a ≤ hi ∧ r = nI a := by
  have key : ∀ x : Int32, (lo : Int) ≤ x.toInt → x.toInt ≤ hi → ∃ a : Nat, lo ≤ a ∧ a ≤ hi ∧ x = nI a := by
    intro x x1 x2
    obtain ⟨j, hj, e⟩ := nI_of (x := x) (by rw [Int32.lt_iff_toInt_lt, show (0 : Int32).toInt = 0 from by decide]; omega)
    have t := nI_toInt hj
    rw [← e] at t
    exact ⟨j, by omega, by omega, e⟩
  by_cases a : p1 ≤ p0
  · by_cases b : p0 ≤ p2
    · rw [← (h.1 a).1 b]
      rw [Int32.le_iff_toInt_le] at a b
      exact key _ (by omega) (by omega)
    · rw [← (h.1 a).2 b]
      exact key _ (by omega) (by omega)
  · rw [← h.2 a]
    exact key _ (by omega) (by omega)
theorem i_vc0 (k0 : Int32) (k1 : Int32) (k2 : Int32) : wpX_init (fun u => wpY_init (fun v => i_Rel 3 u v) k0 k1 k2) k0 k1 k2 := by
  unfold wpX_init
  refine qr_cl fun r1 h1 => ?_
  refine qr_cl fun r2 h2 => ?_
  refine qr_cl fun r3 h3 => ?_
  unfold wpY_init
  refine qr_cy h1 ?_
  refine qr_cy h2 ?_
  refine qr_cy h3 ?_
  obtain ⟨S, a1, a2, rfl⟩ := qr_cn (lo := 2) (hi := 12) h1 (by decide) (by decide) (by decide) (by decide)
  obtain ⟨L, b1, b2, rfl⟩ := qr_cn (lo := 1) (hi := 6) h2 (by decide) (by decide) (by decide) (by decide)
  obtain ⟨C, c1, c2, rfl⟩ := qr_cn (lo := 1) (hi := 31) h3 (by decide) (by decide) (by decide) (by decide)
  have F : qr_F S L C 0 0 0 0 0 0 0 0 (fun _ => 0) (fun _ => 0) (fun _ => 0) (fun _ => 0) (fun _ => 0) (fun _ => 0) 0 (fun _ => 0) (fun _ => 0) (fun _ => 0) :=
    ⟨⟨a1, a2, b1, b2, c1, c2, Nat.zero_le _, Nat.zero_le _, Nat.zero_le _, Nat.zero_le _, Nat.zero_le _, Nat.zero_le _⟩, ⟨(qs_zero _ _ (fun _ _ => rfl)).symm, Nat.zero_le _, fun _ _ => rfl⟩, fun i hi => absurd hi (Nat.not_lt_zero i),
     ⟨fun _ => Nat.zero_le _, fun _ _ => rfl, fun s _ z => absurd rfl z⟩, ⟨fun _ => Nat.zero_le _, fun _ => Nat.zero_le _⟩, ⟨fun _ => Nat.zero_le _, fun _ _ => rfl⟩, fun z => absurd rfl z⟩
  exact qr_in (par := fun _ => 0) (pr := 0) (cc := 0) (dl := fun _ => 0) (lf := fun _ => 0) (pa := fun _ => 0) (ro := fun _ => 0) (wh := fun _ => 0) (ls := fun _ => 0) 3 F
end
section
/-! bits: reading and writing -/
theorem qb_or (a b : Nat) : nI a ||| nI b = nI (a ||| b) := by
  apply Int32.toBitVec_inj.mp
  rw [Int32.toBitVec_or]
  apply BitVec.eq_of_toNat_eq
  show (BitVec.ofNat 32 a ||| BitVec.ofNat 32 b).toNat = (BitVec.ofNat 32 (a ||| b)).toNat
  rw [BitVec.toNat_or, BitVec.toNat_ofNat, BitVec.toNat_ofNat, BitVec.toNat_ofNat, Nat.or_mod_two_pow]
theorem qb_or1 {v b : Nat} (hv : v < 2 ^ 30) (hb : b ≤ 1) : (nI v <<< ((1 : Int32) &&& 31)) ||| nI b = nI (2 * v + b) := by
  rw [pk_shlN ((1 : Int32) &&& 31) 1 (by decide) (by omega), qb_or]
  have e : 2 * v + b = 2 ^ 1 * v + b := by omega
  rw [e, Nat.two_pow_add_eq_or_of_lt (by omega : b < 2 ^ 1) v, Nat.mul_comm v]
theorem qb_sl1 {v : Nat} (hv : v < 2 ^ 30) : nI v <<< ((1 : Int32) &&& 31) = nI (2 * v) := by
  rw [pk_shlN ((1 : Int32) &&& 31) 1 (by decide) (by omega), Nat.mul_comm v]
theorem qb_ml2 (v b : Nat) : nI v * 2 + nI b = nI (2 * v + b) := by
  show nI v * nI 2 + nI b = _
  rw [pk_mul, nI_add, Nat.mul_comm v]
/-- a bit of an int -/
def qb_b (v : Int32) (i : Nat) : Nat := (v >>> (nI i &&& 31)).toBitVec.toNat % 2
theorem qb_b1 (v : Int32) (i : Nat) : qb_b v i ≤ 1 := by
  have := Nat.mod_lt (v >>> (nI i &&& 31)).toBitVec.toNat (show 2 > 0 by decide)
  show _ % 2 ≤ 1
  omega
theorem qb_bY (v : Int32) (i : Nat) : (v >>> (nI i &&& 31)) &&& 1 = nI (qb_b v i) := pk_and _ 1 (by decide)
theorem qb_nar {b : Nat} (h : b ≤ 1) : vp_nar .byte (nI b) = nI b := by
  have : b = 0 ∨ b = 1 := by omega
  rcases this with e | e
  · subst e; rw [vp_nar_byte]; decide
  · subst e; rw [vp_nar_byte]; decide
theorem qb_nar8 {b : Nat} (h : b ≤ 1) : vp_nar .byte ((nI b).toInt8.toInt32) = nI b := by
  have : b = 0 ∨ b = 1 := by omega
  rcases this with e | e
  · subst e; rw [vp_nar_byte]; decide
  · subst e; rw [vp_nar_byte]; decide
theorem qb_bX (v : Int32) (i : Nat) : vp_nar .byte (((v >>> (nI i &&& 31)) &&& 1).toInt8.toInt32) = nI (qb_b v i) := by
  rw [qb_bY]; exact qb_nar8 (qb_b1 v i)
theorem qb_bN {w i : Nat} (hw : w < 2 ^ 31) (hi : i < 32) : qb_b (nI w) i = w / 2 ^ i % 2 := by
  show (nI w >>> (nI i &&& 31)).toBitVec.toNat % 2 = _
  rw [pk_shrN hw (nI i &&& 31) i (s_l i hi), pk_tn (Nat.lt_of_le_of_lt (Nat.div_le_self _ _) (by omega))]
/-- w bits from a on -/
def qb_v (f : Nat → Nat) (a : Nat) : Nat → Nat
  | 0 => 0
  | i + 1 => 2 * qb_v f a i + f (a + i)
theorem qb_vb {f : Nat → Nat} (hf : ∀ j, f j ≤ 1) (a : Nat) : ∀ i, qb_v f a i < 2 ^ i := by
  intro i
  induction i with
  | zero => exact Nat.one_pos
  | succ i ih =>
    have := hf (a + i)
    rw [qb_v, Nat.pow_succ]
    omega
/-- writing w bits of v behind the first s.1 -/
def qb_wr (v : Int32) : Nat → Nat × (Nat → Nat) → Nat × (Nat → Nat)
  | 0 => fun s => s
  | i + 1 => fun s => qb_wr v i (if 256 ≤ s.1 then s else (s.1 + 1, qs_u s.2 s.1 (qb_b v i)))
theorem qb_wrS (v : Int32) (i : Nat) (s : Nat × (Nat → Nat)) : qb_wr v (i + 1) s = qb_wr v i (if 256 ≤ s.1 then s else (s.1 + 1, qs_u s.2 s.1 (qb_b v i))) := rfl
theorem qb_wr_ok (v : Int32) : ∀ i s, s.1 ≤ 256 → (∀ j, s.2 j ≤ 1) → (qb_wr v i s).1 ≤ 256 ∧ ∀ j, (qb_wr v i s).2 j ≤ 1 := by
  intro i
  induction i with
  | zero => intro s h1 h2; exact ⟨h1, h2⟩
  | succ i ih =>
    intro s h1 h2
    rw [qb_wrS]
    by_cases h : 256 ≤ s.1
    · rw [if_pos h]; exact ih s h1 h2
    · rw [if_neg h]
      refine ih _ (by show s.1 + 1 ≤ 256; omega) (fun j => ?_)
      show qs_u s.2 s.1 (qb_b v i) j ≤ 1
      by_cases e : j = s.1
      · subst e; rw [qs_us]; exact qb_b1 v i
      · rw [qs_un e]; exact h2 j
theorem qb_wr_n (v : Int32) : ∀ i s, s.1 + i ≤ 256 → (qb_wr v i s).1 = s.1 + i := by
  intro i
  induction i with
  | zero => intro s _; rfl
  | succ i ih =>
    intro s h
    rw [qb_wrS, if_neg (by omega), ih _ (by show s.1 + 1 + i ≤ 256; omega)]
    show s.1 + 1 + i = _
    omega
section QB
variable {S L C T M O N R E D G : Nat} {c ml lc ob ib lh par : Nat → Nat} {pr cc op : Int32} {cw dl rt br wh ls : Nat → Int32} {lf pa ro : Nat → Int64}
/-! reading -/
theorem qx_pick_in_l {post : Int32 → Prop} {a w : Nat} (hb : ∀ j, ib j ≤ 1) (haw : a + w ≤ 256) (hw : w ≤ 16) : ∀ d i n, i + d = w → d < n → post (nI (qb_v ib a w)) → wX_pick__inBit_6 post (nI a) (nI w) (nI S) (nI L) (nI C) (nI T) (nI M) pr cc (nI O) (nI N) op (nI G) (nI R) (nI E) (nI D) (qs_N c) (qs_N ml) (qs_N lc) cw (qs_N ob) (qs_N ib) (qs_N lh) dl rt br lf pa ro (qs_N par) wh n (nI (qb_v ib a i)) (nI i) := by
  intro d
  induction d with
  | zero =>
    intro i n hi hn hp
    obtain ⟨n, rfl⟩ : ∃ m, n = m + 1 := ⟨n - 1, by omega⟩
    obtain rfl : i = w := by omega
    exact br_t (nI_le (Nat.le_refl _) (by omega)) hp
  | succ d ih =>
    intro i n hi hn hp
    obtain ⟨n, rfl⟩ : ∃ m, n = m + 1 := ⟨n - 1, by omega⟩
    have b := qb_vb hb a i
    have b2 : 2 ^ i ≤ 2 ^ 16 := Nat.pow_le_pow_right (by decide) (by omega)
    refine br_f (nI_ge (by omega) (by omega)) ⟨by rw [nI_add]; exact vp_in_nI (by omega) (by decide), nm_r (e' := nI (qb_v ib a (i + 1))) ?_ (nm_r (nI_1 i) (ih (i + 1) n (by omega) (by omega) hp))⟩
    rw [nI_add, qs_Nr _ (by omega)]
    exact qb_or1 (by omega) (hb _)
theorem qx_pick_in {post : Int32 → Prop} {a w : Nat} (hb : ∀ j, ib j ≤ 1) (haw : a + w ≤ 256) (hw : w ≤ 16) (hp : post (nI (qb_v ib a w))) : wpX_pick__inBit post (nI S, nI L, nI C, nI T, nI M, pr, cc, nI O, nI N, op, nI G, nI R, nI E, nI D, qs_N c, qs_N ml, qs_N lc, cw, qs_N ob, qs_N ib, qs_N lh, dl, rt, br, lf, pa, ro, qs_N par, wh) (nI a) (nI w) :=
  ⟨w + 1, qx_pick_in_l hb haw hw w 0 (w + 1) (by omega) (by omega) hp⟩
theorem qy_pick_in_l {post : Int32 → Prop} {a w : Nat} (haw : a + w ≤ 256) (hw : w ≤ 16) : ∀ d i n, i + d = w → d < n → post (nI (qb_v ib a w)) → wY_inBits_33 post (nI a) (nI w) (nI S) (nI L) (nI C) (nI M) pr cc (nI O) (nI N) op (nI R) (nI E) (nI D) (qs_N c) (qs_N ml) (qs_N lc) (qs_N ob) (qs_N ib) (qs_N lh) dl ls (qs_N par) n (nI (qb_v ib a i)) (nI i) := by
  intro d
  induction d with
  | zero =>
    intro i n hi hn hp
    obtain ⟨n, rfl⟩ : ∃ m, n = m + 1 := ⟨n - 1, by omega⟩
    obtain rfl : i = w := by omega
    exact br_t (nI_le (Nat.le_refl _) (by omega)) hp
  | succ d ih =>
    intro i n hi hn hp
    obtain ⟨n, rfl⟩ : ∃ m, n = m + 1 := ⟨n - 1, by omega⟩
    refine br_f (nI_ge (by omega) (by omega)) ⟨by rw [nI_add]; exact vp_in_nI (by omega) (by decide), nm_r (e' := nI (qb_v ib a (i + 1))) ?_ (nm_r (nI_1 i) (ih (i + 1) n (by omega) (by omega) hp))⟩
    rw [nI_add, qs_Nr _ (by omega)]
    exact qb_ml2 _ _
theorem qy_pick_in {post : Int32 → Prop} {a w : Nat} (hF : N ≤ 256) (ha : a < 2 ^ 20) (hw1 : 1 ≤ w) (hw : w ≤ 16) (hp : a + w ≤ N → post (nI (qb_v ib a w))) (hq : N < a + w → post (-2)) : wpY_inBits post (nI S, nI L, nI C, nI M, pr, cc, nI O, nI N, op, nI R, nI E, nI D, qs_N c, qs_N ml, qs_N lc, qs_N ob, qs_N ib, qs_N lh, dl, ls, qs_N par) (nI a) (nI w) := by
  refine br_f (nI_nlt (b := 1) (by omega) (by omega)) (br_f (nI_nlt (a := 16) (by omega) (by omega)) (br_f (nI_pos (by omega)) ?_))
  by_cases h : a + w ≤ N
  · refine br_t ?_ ⟨w + 1, qy_pick_in_l (by omega) hw w 0 (w + 1) (by omega) (by omega) (hp h)⟩
    rw [pk_sub (by omega)]
    exact nI_le (by omega) (by omega)
  · refine br_f ?_ (hq (by omega))
    rw [Int32.le_iff_toInt_le, nI_toInt (by omega), pk_sub_toInt (by omega) (by omega)]
    omega
theorem qx_pick_out_l {post : Int32 → Prop} {a w : Nat} (hb : ∀ j, ob j ≤ 1) (haw : a + w ≤ 256) (hw : w ≤ 16) : ∀ d i n, i + d = w → d < n → post (nI (qb_v ob a w)) → wX_pick__outBit_6 post (nI a) (nI w) (nI S) (nI L) (nI C) (nI T) (nI M) pr cc (nI O) (nI N) op (nI G) (nI R) (nI E) (nI D) (qs_N c) (qs_N ml) (qs_N lc) cw (qs_N ob) (qs_N ib) (qs_N lh) dl rt br lf pa ro (qs_N par) wh n (nI (qb_v ob a i)) (nI i) := by
  intro d
  induction d with
  | zero =>
    intro i n hi hn hp
    obtain ⟨n, rfl⟩ : ∃ m, n = m + 1 := ⟨n - 1, by omega⟩
    obtain rfl : i = w := by omega
    exact br_t (nI_le (Nat.le_refl _) (by omega)) hp
  | succ d ih =>
    intro i n hi hn hp
    obtain ⟨n, rfl⟩ : ∃ m, n = m + 1 := ⟨n - 1, by omega⟩
    have b := qb_vb hb a i
    have b2 : 2 ^ i ≤ 2 ^ 16 := Nat.pow_le_pow_right (by decide) (by omega)
    refine br_f (nI_ge (by omega) (by omega)) ⟨by rw [nI_add]; exact vp_in_nI (by omega) (by decide), nm_r (e' := nI (qb_v ob a (i + 1))) ?_ (nm_r (nI_1 i) (ih (i + 1) n (by omega) (by omega) hp))⟩
    rw [nI_add, qs_Nr _ (by omega)]
    exact qb_or1 (by omega) (hb _)
theorem qx_pick_out {post : Int32 → Prop} {a w : Nat} (hb : ∀ j, ob j ≤ 1) (haw : a + w ≤ 256) (hw : w ≤ 16) (hp : post (nI (qb_v ob a w))) : wpX_pick__outBit post (nI S, nI L, nI C, nI T, nI M, pr, cc, nI O, nI N, op, nI G, nI R, nI E, nI D, qs_N c, qs_N ml, qs_N lc, cw, qs_N ob, qs_N ib, qs_N lh, dl, rt, br, lf, pa, ro, qs_N par, wh) (nI a) (nI w) :=
  ⟨w + 1, qx_pick_out_l hb haw hw w 0 (w + 1) (by omega) (by omega) hp⟩
theorem qy_pick_out_l {post : Int32 → Prop} {a w : Nat} (haw : a + w ≤ 256) (hw : w ≤ 16) : ∀ d i n, i + d = w → d < n → post (nI (qb_v ob a w)) → wY_outBits_33 post (nI a) (nI w) (nI S) (nI L) (nI C) (nI M) pr cc (nI O) (nI N) op (nI R) (nI E) (nI D) (qs_N c) (qs_N ml) (qs_N lc) (qs_N ob) (qs_N ib) (qs_N lh) dl ls (qs_N par) n (nI (qb_v ob a i)) (nI i) := by
  intro d
  induction d with
  | zero =>
    intro i n hi hn hp
    obtain ⟨n, rfl⟩ : ∃ m, n = m + 1 := ⟨n - 1, by omega⟩
    obtain rfl : i = w := by omega
    exact br_t (nI_le (Nat.le_refl _) (by omega)) hp
  | succ d ih =>
    intro i n hi hn hp
    obtain ⟨n, rfl⟩ : ∃ m, n = m + 1 := ⟨n - 1, by omega⟩
    refine br_f (nI_ge (by omega) (by omega)) ⟨by rw [nI_add]; exact vp_in_nI (by omega) (by decide), nm_r (e' := nI (qb_v ob a (i + 1))) ?_ (nm_r (nI_1 i) (ih (i + 1) n (by omega) (by omega) hp))⟩
    rw [nI_add, qs_Nr _ (by omega)]
    exact qb_ml2 _ _
theorem qy_pick_out {post : Int32 → Prop} {a w : Nat} (hF : O ≤ 256) (ha : a < 2 ^ 20) (hw1 : 1 ≤ w) (hw : w ≤ 16) (hp : a + w ≤ O → post (nI (qb_v ob a w))) (hq : O < a + w → post (-2)) : wpY_outBits post (nI S, nI L, nI C, nI M, pr, cc, nI O, nI N, op, nI R, nI E, nI D, qs_N c, qs_N ml, qs_N lc, qs_N ob, qs_N ib, qs_N lh, dl, ls, qs_N par) (nI a) (nI w) := by
  refine br_f (nI_nlt (b := 1) (by omega) (by omega)) (br_f (nI_nlt (a := 16) (by omega) (by omega)) (br_f (nI_pos (by omega)) ?_))
  by_cases h : a + w ≤ O
  · refine br_t ?_ ⟨w + 1, qy_pick_out_l (by omega) hw w 0 (w + 1) (by omega) (by omega) (hp h)⟩
    rw [pk_sub (by omega)]
    exact nI_le (by omega) (by omega)
  · refine br_f ?_ (hq (by omega))
    rw [Int32.le_iff_toInt_le, nI_toInt (by omega), pk_sub_toInt (by omega) (by omega)]
    omega
/-- the arguments of inBits and outBits -/
theorem qb_rng {p0 p1 : Int32} (hN : N ≤ 256) (h1 : ¬ p1 < 1) (h2 : ¬ 16 < p1) (h3 : ¬ p0 < 0) (h4 : p0 ≤ nI N - p1) : ∃ a w : Nat, p0 = nI a ∧ p1 = nI w ∧ 1 ≤ w ∧ w ≤ 16 ∧ a + w ≤ N := by
  obtain ⟨a, ha, rfl⟩ := nI_of h3
  have q1 : (1 : Int32).toInt = 1 := by decide
  have q16 : (16 : Int32).toInt = 16 := by decide
  have q0 : (0 : Int32).toInt = 0 := by decide
  rw [Int32.lt_iff_toInt_lt, q1] at h1
  obtain ⟨w, hw, rfl⟩ := nI_of (x := p1) (by rw [Int32.lt_iff_toInt_lt, q0]; omega)
  rw [nI_toInt hw] at h1
  rw [Int32.lt_iff_toInt_lt, q16, nI_toInt hw] at h2
  rw [Int32.le_iff_toInt_le, nI_toInt ha, pk_sub_toInt (by omega) (by omega)] at h4
  exact ⟨a, w, rfl, rfl, by omega, by omega, by omega⟩
/-! writing -/
theorem qx_write_l {post : SX → Prop} {v : Int32} : ∀ i n s, i < n → i ≤ 31 → s.1 ≤ 256 → post (nI S, nI L, nI C, nI T, nI M, pr, cc, nI ((qb_wr v i s).1), nI N, op, nI G, nI R, nI E, nI D, qs_N c, qs_N ml, qs_N lc, cw, qs_N ((qb_wr v i s).2), qs_N ib, qs_N lh, dl, rt, br, lf, pa, ro, qs_N par, wh) → wX_writeBits_4 post v (nI S) (nI L) (nI C) (nI T) (nI M) pr cc (nI N) op (nI G) (nI R) (nI E) (nI D) n (nI i + (-1)) (nI s.1) (qs_N c) (qs_N ml) (qs_N lc) cw (qs_N s.2) (qs_N ib) (qs_N lh) dl rt br lf pa ro (qs_N par) wh := by
  intro i
  induction i with
  | zero =>
    intro n s hn hi hs hp
    obtain ⟨n, rfl⟩ : ∃ m, n = m + 1 := ⟨n - 1, by omega⟩
    exact br_t (by decide) hp
  | succ i ih =>
    intro n s hn hi hs hp
    obtain ⟨n, rfl⟩ : ∃ m, n = m + 1 := ⟨n - 1, by omega⟩
    rw [pk_m1]
    rw [qb_wrS] at hp
    refine br_f (nI_pos (by omega)) ?_
    by_cases x : 256 ≤ s.1
    · rw [if_pos x] at hp
      exact br_t (nI_le (a := 256) x (by omega)) (nm_e (ih n s (by omega) (by omega) hs hp))
    · rw [if_neg x] at hp
      exact br_f (nI_ge (b := 256) (by omega) (by decide)) ⟨vp_in_nI (by omega) (by decide), nm_r (qs_updI (by omega) (qb_bX v i)) (nm_r (nI_1 s.1) (nm_e (ih n (s.1 + 1, qs_u s.2 s.1 (qb_b v i)) (by omega) (by omega) (by show s.1 + 1 ≤ 256; omega) hp)))⟩
theorem qx_write {post : SX → Prop} {v : Int32} {s : Nat × (Nat → Nat)} {w : Nat} (hw : w ≤ 31) (hs : s.1 ≤ 256) (hp : post (nI S, nI L, nI C, nI T, nI M, pr, cc, nI ((qb_wr v w s).1), nI N, op, nI G, nI R, nI E, nI D, qs_N c, qs_N ml, qs_N lc, cw, qs_N ((qb_wr v w s).2), qs_N ib, qs_N lh, dl, rt, br, lf, pa, ro, qs_N par, wh)) : wpX_writeBits post (nI S, nI L, nI C, nI T, nI M, pr, cc, nI s.1, nI N, op, nI G, nI R, nI E, nI D, qs_N c, qs_N ml, qs_N lc, cw, qs_N s.2, qs_N ib, qs_N lh, dl, rt, br, lf, pa, ro, qs_N par, wh) v (nI w) :=
  nm_r (e' := nI w + (-1)) (Int32.sub_eq_add_neg _ _) ⟨w + 1, qx_write_l w (w + 1) s (by omega) hw hs hp⟩
theorem qy_write_l {post : SY → Prop} {v : Int32} : ∀ i n s, i < n → i ≤ 31 → s.1 ≤ 256 → post (nI S, nI L, nI C, nI M, pr, cc, nI ((qb_wr v i s).1), nI N, op, nI R, nI E, nI D, qs_N c, qs_N ml, qs_N lc, qs_N ((qb_wr v i s).2), qs_N ib, qs_N lh, dl, ls, qs_N par) → wY_write_4 post v (nI S) (nI L) (nI C) (nI M) pr cc (nI N) op (nI R) (nI E) (nI D) n (nI i + (-1)) (nI s.1) (qs_N c) (qs_N ml) (qs_N lc) (qs_N s.2) (qs_N ib) (qs_N lh) dl ls (qs_N par) := by
  intro i
  induction i with
  | zero =>
    intro n s hn hi hs hp
    obtain ⟨n, rfl⟩ : ∃ m, n = m + 1 := ⟨n - 1, by omega⟩
    exact br_t (by decide) hp
  | succ i ih =>
    intro n s hn hi hs hp
    obtain ⟨n, rfl⟩ : ∃ m, n = m + 1 := ⟨n - 1, by omega⟩
    rw [pk_m1]
    rw [qb_wrS] at hp
    refine br_f (nI_pos (by omega)) ?_
    by_cases x : 256 ≤ s.1
    · rw [if_pos x] at hp
      exact br_t (nI_le (a := 256) x (by omega)) (nm_e (ih n s (by omega) (by omega) hs hp))
    · rw [if_neg x] at hp
      exact br_f (nI_ge (b := 256) (by omega) (by decide)) ⟨vp_in_nI (by omega) (by decide), nm_r (qs_updI (by omega) (qb_bY v i)) (nm_r (nI_1 s.1) (nm_e (ih n (s.1 + 1, qs_u s.2 s.1 (qb_b v i)) (by omega) (by omega) (by show s.1 + 1 ≤ 256; omega) hp)))⟩
theorem qy_write {post : SY → Prop} {v : Int32} {s : Nat × (Nat → Nat)} {w : Nat} (hw : w ≤ 31) (hs : s.1 ≤ 256) (hp : post (nI S, nI L, nI C, nI M, pr, cc, nI ((qb_wr v w s).1), nI N, op, nI R, nI E, nI D, qs_N c, qs_N ml, qs_N lc, qs_N ((qb_wr v w s).2), qs_N ib, qs_N lh, dl, ls, qs_N par)) : wpY_write post (nI S, nI L, nI C, nI M, pr, cc, nI s.1, nI N, op, nI R, nI E, nI D, qs_N c, qs_N ml, qs_N lc, qs_N s.2, qs_N ib, qs_N lh, dl, ls, qs_N par) v (nI w) :=
  nm_r (e' := nI w + (-1)) (Int32.sub_eq_add_neg _ _) ⟨w + 1, qy_write_l w (w + 1) s (by omega) hw hs hp⟩
theorem qx_recv_l {post : Int32 → SX → Prop} {v : Int32} : ∀ i n s, i < n → i ≤ 31 → s.1 + i ≤ 256 → post 0 (nI S, nI L, nI C, nI T, nI M, pr, cc, nI O, nI ((qb_wr v i s).1), op, nI G, nI R, nI E, nI D, qs_N c, qs_N ml, qs_N lc, cw, qs_N ob, qs_N ((qb_wr v i s).2), qs_N lh, dl, rt, br, lf, pa, ro, qs_N par, wh) → wX_receive_33 post v (nI S) (nI L) (nI C) (nI T) (nI M) pr cc (nI O) op (nI G) (nI R) (nI E) (nI D) n (nI i + (-1)) (nI s.1) (qs_N c) (qs_N ml) (qs_N lc) cw (qs_N ob) (qs_N s.2) (qs_N lh) dl rt br lf pa ro (qs_N par) wh := by
  intro i
  induction i with
  | zero =>
    intro n s hn hi hs hp
    obtain ⟨n, rfl⟩ : ∃ m, n = m + 1 := ⟨n - 1, by omega⟩
    exact br_t (by decide) hp
  | succ i ih =>
    intro n s hn hi hs hp
    obtain ⟨n, rfl⟩ : ∃ m, n = m + 1 := ⟨n - 1, by omega⟩
    rw [pk_m1]
    rw [qb_wrS, if_neg (by omega)] at hp
    exact br_f (nI_pos (by omega)) ⟨vp_in_nI (by omega) (by decide), nm_r (qs_updI (by omega) (qb_bX v i)) (nm_r (nI_1 s.1) (nm_e (ih n (s.1 + 1, qs_u s.2 s.1 (qb_b v i)) (by omega) (by omega) (by show s.1 + 1 + i ≤ 256; omega) hp)))⟩
theorem qy_recv_l {post : Int32 → SY → Prop} {v : Int32} : ∀ i n s, i < n → i ≤ 31 → s.1 + i ≤ 256 → post 0 (nI S, nI L, nI C, nI M, pr, cc, nI O, nI ((qb_wr v i s).1), op, nI R, nI E, nI D, qs_N c, qs_N ml, qs_N lc, qs_N ob, qs_N ((qb_wr v i s).2), qs_N lh, dl, ls, qs_N par) → wY_receive_33 post v (nI S) (nI L) (nI C) (nI M) pr cc (nI O) op (nI R) (nI E) (nI D) n (nI i + (-1)) (nI s.1) (qs_N c) (qs_N ml) (qs_N lc) (qs_N ob) (qs_N s.2) (qs_N lh) dl ls (qs_N par) := by
  intro i
  induction i with
  | zero =>
    intro n s hn hi hs hp
    obtain ⟨n, rfl⟩ : ∃ m, n = m + 1 := ⟨n - 1, by omega⟩
    exact br_t (by decide) hp
  | succ i ih =>
    intro n s hn hi hs hp
    obtain ⟨n, rfl⟩ : ∃ m, n = m + 1 := ⟨n - 1, by omega⟩
    rw [pk_m1]
    rw [qb_wrS, if_neg (by omega)] at hp
    exact br_f (nI_pos (by omega)) ⟨vp_in_nI (by omega) (by decide), nm_r (qs_updI (by omega) (qb_bY v i)) (nm_r (nI_1 s.1) (nm_e (ih n (s.1 + 1, qs_u s.2 s.1 (qb_b v i)) (by omega) (by omega) (by show s.1 + 1 + i ≤ 256; omega) hp)))⟩
end QB
end
section
/-! the small methods -/
theorem qs_fz {c : Nat → Nat} {m : Nat} (h : ∀ j, m ≤ j → c j = 0) : qs_f (fun _ => 0) c m = fun _ => 0 := by
  funext j
  by_cases x : j < m
  · exact qs_fl x
  · rw [qs_fg (by omega)]; exact h j (by omega)
theorem qs_f00 (v c : Nat → Nat) : qs_f v c 0 = c := by
  funext j
  exact qs_fg (Nat.zero_le _)
section QX
variable {S L C T M O N R E D G : Nat} {c ml lc ob ib lh par : Nat → Nat} {pr cc op : Int32} {cw dl rt br wh ls : Nat → Int32} {lf pa ro : Nat → Int64}
theorem qx_symB {post : Int32 → Prop} {p : Int32} (b : p < 0 ∨ nI S ≤ p) (h : post 0) : wpX_isSymbol post (nI S, nI L, nI C, nI T, nI M, pr, cc, nI O, nI N, op, nI G, nI R, nI E, nI D, qs_N c, qs_N ml, qs_N lc, cw, qs_N ob, qs_N ib, qs_N lh, dl, rt, br, lf, pa, ro, qs_N par, wh) p := by
  by_cases x : p < 0
  · exact br_t x h
  · exact br_f x (br_t (b.resolve_left x) h)
theorem qx_symG {post : Int32 → Prop} {s : Nat} (hS : S ≤ 12) (hs : s < S) (h : post 1) : wpX_isSymbol post (nI S, nI L, nI C, nI T, nI M, pr, cc, nI O, nI N, op, nI G, nI R, nI E, nI D, qs_N c, qs_N ml, qs_N lc, cw, qs_N ob, qs_N ib, qs_N lh, dl, rt, br, lf, pa, ro, qs_N par, wh) (nI s) :=
  br_f (nI_pos (by omega)) (br_f (nI_ge hs (by omega)) h)
theorem qy_symB {post : Int32 → Prop} {p : Int32} (b : p < 0 ∨ nI S ≤ p) (h : post 0) : wpY_isSymbol post (nI S, nI L, nI C, nI M, pr, cc, nI O, nI N, op, nI R, nI E, nI D, qs_N c, qs_N ml, qs_N lc, qs_N ob, qs_N ib, qs_N lh, dl, ls, qs_N par) p := by
  by_cases x : p < 0
  · exact br_t x h
  · exact br_f x (br_t (b.resolve_left x) h)
theorem qy_symG {post : Int32 → Prop} {s : Nat} (hS : S ≤ 12) (hs : s < S) (h : post 1) : wpY_isSymbol post (nI S, nI L, nI C, nI M, pr, cc, nI O, nI N, op, nI R, nI E, nI D, qs_N c, qs_N ml, qs_N lc, qs_N ob, qs_N ib, qs_N lh, dl, ls, qs_N par) (nI s) :=
  br_f (nI_pos (by omega)) (br_f (nI_ge hs (by omega)) h)
theorem qx_sy (p : Int32) (hS : S ≤ 12) : (p < 0 ∨ nI S ≤ p) ∨ ∃ s, s < S ∧ p = nI s := by
  rcases pk_ix p (n := S) (by omega) with x | x | x
  · exact Or.inl (Or.inl x)
  · exact Or.inl (Or.inr x)
  · exact Or.inr x
/-! Y's total -/
theorem qy_total_l {post : Int32 → Prop} (hS : S ≤ 12) : ∀ d i n, i + d = S → d < n → post (nI (qs_s c S)) → wY_total_4 post (nI S) (nI L) (nI C) (nI M) pr cc (nI O) (nI N) op (nI R) (nI E) (nI D) (qs_N c) (qs_N ml) (qs_N lc) (qs_N ob) (qs_N ib) (qs_N lh) dl ls (qs_N par) n (nI (qs_s c i)) (nI i) := by
  intro d
  induction d with
  | zero =>
    intro i n hi hn hp
    obtain ⟨n, rfl⟩ : ∃ m, n = m + 1 := ⟨n - 1, by omega⟩
    obtain rfl : i = S := by omega
    exact br_t (nI_le (Nat.le_refl _) (by omega)) hp
  | succ d ih =>
    intro i n hi hn hp
    obtain ⟨n, rfl⟩ : ∃ m, n = m + 1 := ⟨n - 1, by omega⟩
    exact br_f (nI_ge (by omega) (by omega)) ⟨vp_in_nI (by omega) (by decide), nm_r (e' := nI (qs_s c (i + 1))) (by rw [qs_Nr _ (by omega), nI_add]; rfl) (nm_r (nI_1 i) (ih (i + 1) n (by omega) (by omega) hp))⟩
theorem qy_total {post : Int32 → Prop} (hS : S ≤ 12) (hp : post (nI (qs_s c S))) : wpY_total post (nI S, nI L, nI C, nI M, pr, cc, nI O, nI N, op, nI R, nI E, nI D, qs_N c, qs_N ml, qs_N lc, qs_N ob, qs_N ib, qs_N lh, dl, ls, qs_N par) :=
  ⟨S + 1, qy_total_l hS S 0 (S + 1) (by omega) (by omega) hp⟩
/-! fills -/
theorem qx_clearSource {post : SX → Prop} (hS : S ≤ 12) (hp : post (nI S, nI L, nI C, nI 0, nI 0, pr, cc, nI O, nI N, op, nI G, nI R, nI E, nI D, qs_N (qs_f (fun _ => 0) c S), qs_N ml, qs_N lc, cw, qs_N ob, qs_N ib, qs_N lh, dl, rt, br, lf, pa, ro, qs_N par, wh)) : wpX_clearSource post (nI S, nI L, nI C, nI T, nI M, pr, cc, nI O, nI N, op, nI G, nI R, nI E, nI D, qs_N c, qs_N ml, qs_N lc, cw, qs_N ob, qs_N ib, qs_N lh, dl, rt, br, lf, pa, ro, qs_N par, wh) := by
  have key : ∀ d i n, i + d = S → d < n → wX_clearSource_2 post (nI S) (nI L) (nI C) (nI T) (nI M) pr cc (nI O) (nI N) op (nI G) (nI R) (nI E) (nI D) n (nI i) (qs_N (qs_f (fun _ => 0) c i)) (qs_N ml) (qs_N lc) cw (qs_N ob) (qs_N ib) (qs_N lh) dl rt br lf pa ro (qs_N par) wh := by
    intro d
    induction d with
    | zero =>
      intro i n hi hn
      obtain ⟨n, rfl⟩ : ∃ m, n = m + 1 := ⟨n - 1, by omega⟩
      obtain rfl : i = S := by omega
      exact br_t (nI_le (Nat.le_refl _) (by omega)) hp
    | succ d ih =>
      intro i n hi hn
      obtain ⟨n, rfl⟩ : ∃ m, n = m + 1 := ⟨n - 1, by omega⟩
      exact br_f (nI_ge (by omega) (by omega)) ⟨vp_in_nI (by omega) (by decide), nm_r (qs_fI (by omega) rfl) (nm_r (nI_1 i) (ih (i + 1) n (by omega) (by omega)))⟩
  have := key S 0 (S + 1) (by omega) (by omega)
  rw [qs_f00] at this
  exact ⟨_, this⟩
/-- a code word array with zeros below i -/
def qx_z (w : Nat → Int32) (i : Nat) : Nat → Int32 := fun j => if j < i then 0 else w j
theorem qx_z0 (w : Nat → Int32) : qx_z w 0 = w := by
  funext j
  exact if_neg (Nat.not_lt_zero j)
theorem qx_zs {w : Nat → Int32} {i : Nat} (hi : i < 2 ^ 31) : upd (qx_z w i) (nI i).toNatClampNeg 0 = qx_z w (i + 1) := by
  rw [nI_clamp hi]
  funext j
  show (if j = i then 0 else if j < i then 0 else w j) = if j < i + 1 then 0 else w j
  by_cases x : j = i
  · rw [if_pos x, if_pos (by omega)]
  · rw [if_neg x]
    by_cases y : j < i
    · rw [if_pos y, if_pos (by omega)]
    · rw [if_neg y, if_neg (by omega)]
theorem qx_clearCode {post : SX → Prop} (hS : S ≤ 12) (hp : post (nI S, nI L, nI C, nI T, nI M, 0, 0, nI 0, nI N, op, nI G, nI R, nI E, nI D, qs_N c, qs_N ml, qs_N (qs_f (fun _ => 0) lc S), (qx_z cw S), qs_N ob, qs_N ib, qs_N lh, dl, rt, br, lf, pa, ro, qs_N par, wh)) : wpX_clearCode post (nI S, nI L, nI C, nI T, nI M, pr, cc, nI O, nI N, op, nI G, nI R, nI E, nI D, qs_N c, qs_N ml, qs_N lc, cw, qs_N ob, qs_N ib, qs_N lh, dl, rt, br, lf, pa, ro, qs_N par, wh) := by
  have key : ∀ d i n, i + d = S → d < n → wX_clearCode_2 post (nI S) (nI L) (nI C) (nI T) (nI M) pr cc (nI O) (nI N) op (nI G) (nI R) (nI E) (nI D) n (nI i) (qs_N c) (qs_N ml) (qs_N (qs_f (fun _ => 0) lc i)) (qx_z cw i) (qs_N ob) (qs_N ib) (qs_N lh) dl rt br lf pa ro (qs_N par) wh := by
    intro d
    induction d with
    | zero =>
      intro i n hi hn
      obtain ⟨n, rfl⟩ : ∃ m, n = m + 1 := ⟨n - 1, by omega⟩
      obtain rfl : i = S := by omega
      exact br_t (nI_le (Nat.le_refl _) (by omega)) hp
    | succ d ih =>
      intro i n hi hn
      obtain ⟨n, rfl⟩ : ∃ m, n = m + 1 := ⟨n - 1, by omega⟩
      exact br_f (nI_ge (by omega) (by omega)) ⟨vp_in_nI (by omega) (by decide), nm_r (qs_fI (by omega) rfl) ⟨vp_in_nI (by omega) (by decide), nm_r (qx_zs (by omega)) (nm_r (nI_1 i) (ih (i + 1) n (by omega) (by omega)))⟩⟩
  have := key S 0 (S + 1) (by omega) (by omega)
  rw [qs_f00, qx_z0] at this
  exact ⟨_, this⟩
theorem qx_closeReceiver {post : SX → Prop} (hS : S ≤ 12) (hp : post (nI S, nI L, nI C, nI T, nI M, pr, cc, nI O, nI N, 0, nI 0, nI 0, nI 0, nI 0, qs_N c, qs_N ml, qs_N lc, cw, qs_N ob, qs_N ib, qs_N (qs_f (fun _ => 0) lh S), dl, rt, br, lf, pa, ro, qs_N par, wh)) : wpX_closeReceiver post (nI S, nI L, nI C, nI T, nI M, pr, cc, nI O, nI N, op, nI G, nI R, nI E, nI D, qs_N c, qs_N ml, qs_N lc, cw, qs_N ob, qs_N ib, qs_N lh, dl, rt, br, lf, pa, ro, qs_N par, wh) := by
  have key : ∀ d i n, i + d = S → d < n → wX_closeReceiver_2 post (nI S) (nI L) (nI C) (nI T) (nI M) pr cc (nI O) (nI N) op (nI G) (nI R) (nI E) (nI D) n (nI i) (qs_N c) (qs_N ml) (qs_N lc) cw (qs_N ob) (qs_N ib) (qs_N (qs_f (fun _ => 0) lh i)) dl rt br lf pa ro (qs_N par) wh := by
    intro d
    induction d with
    | zero =>
      intro i n hi hn
      obtain ⟨n, rfl⟩ : ∃ m, n = m + 1 := ⟨n - 1, by omega⟩
      obtain rfl : i = S := by omega
      exact br_t (nI_le (Nat.le_refl _) (by omega)) hp
    | succ d ih =>
      intro i n hi hn
      obtain ⟨n, rfl⟩ : ∃ m, n = m + 1 := ⟨n - 1, by omega⟩
      exact br_f (nI_ge (by omega) (by omega)) ⟨vp_in_nI (by omega) (by decide), nm_r (qs_fI (by omega) rfl) (nm_r (nI_1 i) (ih (i + 1) n (by omega) (by omega)))⟩
  have := key S 0 (S + 1) (by omega) (by omega)
  rw [qs_f00] at this
  exact ⟨_, this⟩
theorem qy_closeReceiver {post : SY → Prop} (hp : post (nI S, nI L, nI C, nI M, pr, cc, nI O, nI N, 0, nI 0, nI 0, nI 0, qs_N c, qs_N ml, qs_N lc, qs_N ob, qs_N ib, qs_N (qs_f (fun _ => 0) lh 12), dl, ls, qs_N par)) : wpY_closeReceiver post (nI S, nI L, nI C, nI M, pr, cc, nI O, nI N, op, nI R, nI E, nI D, qs_N c, qs_N ml, qs_N lc, qs_N ob, qs_N ib, qs_N lh, dl, ls, qs_N par) := by
  have key : ∀ d i n, i + d = 12 → d < n → wY_closeReceiver_7 post (nI S) (nI L) (nI C) (nI M) pr cc (nI O) (nI N) 0 (nI R) (nI E) (nI D) n (nI i) (qs_N c) (qs_N ml) (qs_N lc) (qs_N ob) (qs_N ib) (qs_N (qs_f (fun _ => 0) lh i)) dl ls (qs_N par) := by
    intro d
    induction d with
    | zero =>
      intro i n hi hn
      obtain ⟨n, rfl⟩ : ∃ m, n = m + 1 := ⟨n - 1, by omega⟩
      obtain rfl : i = 12 := by omega
      exact br_t (by decide) hp
    | succ d ih =>
      intro i n hi hn
      obtain ⟨n, rfl⟩ : ∃ m, n = m + 1 := ⟨n - 1, by omega⟩
      exact br_f (nI_ge (b := 12) (by omega) (by omega)) ⟨vp_in_nI (by omega) (by decide), nm_r (qs_fI (by omega) rfl) (nm_r (nI_1 i) (ih (i + 1) n (by omega) (by omega)))⟩
  have := key 12 0 13 (by omega) (by omega)
  rw [qs_f00] at this
  exact ⟨_, this⟩
theorem qy_clearSource {post : Int32 → SY → Prop} (hp : post 0 (nI S, nI L, nI C, nI 0, pr, cc, nI O, nI N, op, nI R, nI E, nI D, qs_N (qs_f (fun _ => 0) c 12), qs_N ml, qs_N lc, qs_N ob, qs_N ib, qs_N lh, dl, ls, qs_N par)) : ∃ n, wY_clear_6 post (nI S) (nI L) (nI C) (nI M) pr cc (nI O) (nI N) op (nI R) (nI E) (nI D) n 0 (qs_N c) (qs_N ml) (qs_N lc) (qs_N ob) (qs_N ib) (qs_N lh) dl ls (qs_N par) := by
  have key : ∀ d i n, i + d = 12 → d < n → wY_clear_6 post (nI S) (nI L) (nI C) (nI M) pr cc (nI O) (nI N) op (nI R) (nI E) (nI D) n (nI i) (qs_N (qs_f (fun _ => 0) c i)) (qs_N ml) (qs_N lc) (qs_N ob) (qs_N ib) (qs_N lh) dl ls (qs_N par) := by
    intro d
    induction d with
    | zero =>
      intro i n hi hn
      obtain ⟨n, rfl⟩ : ∃ m, n = m + 1 := ⟨n - 1, by omega⟩
      obtain rfl : i = 12 := by omega
      exact br_t (by decide) hp
    | succ d ih =>
      intro i n hi hn
      obtain ⟨n, rfl⟩ : ∃ m, n = m + 1 := ⟨n - 1, by omega⟩
      exact br_f (nI_ge (b := 12) (by omega) (by omega)) ⟨vp_in_nI (by omega) (by decide), nm_r (qs_fI (by omega) rfl) (nm_r (nI_1 i) (ih (i + 1) n (by omega) (by omega)))⟩
  have := key 12 0 13 (by omega) (by omega)
  rw [qs_f00] at this
  exact ⟨_, this⟩
theorem qy_clearCode {post : Int32 → SY → Prop} (hp : post 0 (nI S, nI L, nI C, nI M, 0, 0, nI 0, nI N, op, nI R, nI E, nI D, qs_N c, qs_N ml, qs_N (qs_f (fun _ => 0) lc 12), qs_N ob, qs_N ib, qs_N lh, dl, ls, qs_N par)) : ∃ n, wY_clear_44 post (nI S) (nI L) (nI C) (nI M) 0 cc (nI O) (nI N) op (nI R) (nI E) (nI D) n 0 (qs_N c) (qs_N ml) (qs_N lc) (qs_N ob) (qs_N ib) (qs_N lh) dl ls (qs_N par) := by
  have key : ∀ d i n, i + d = 12 → d < n → wY_clear_44 post (nI S) (nI L) (nI C) (nI M) 0 cc (nI O) (nI N) op (nI R) (nI E) (nI D) n (nI i) (qs_N c) (qs_N ml) (qs_N (qs_f (fun _ => 0) lc i)) (qs_N ob) (qs_N ib) (qs_N lh) dl ls (qs_N par) := by
    intro d
    induction d with
    | zero =>
      intro i n hi hn
      obtain ⟨n, rfl⟩ : ∃ m, n = m + 1 := ⟨n - 1, by omega⟩
      obtain rfl : i = 12 := by omega
      exact br_t (by decide) hp
    | succ d ih =>
      intro i n hi hn
      obtain ⟨n, rfl⟩ : ∃ m, n = m + 1 := ⟨n - 1, by omega⟩
      exact br_f (nI_ge (b := 12) (by omega) (by omega)) ⟨vp_in_nI (by omega) (by decide), nm_r (qs_fI (by omega) rfl) (nm_r (nI_1 i) (ih (i + 1) n (by omega) (by omega)))⟩
  have := key 12 0 13 (by omega) (by omega)
  rw [qs_f00] at this
  exact ⟨_, this⟩
theorem qx_transmit {post : Int32 → SX → Prop} (hS : S ≤ 12) (hO : O ≤ 256) (hob : ∀ j, ob j ≤ 1) (hp : post 0 (nI S, nI L, nI C, nI T, nI M, pr, cc, nI O, nI O, 0, nI 0, nI 0, nI 0, nI 0, qs_N c, qs_N ml, qs_N lc, cw, qs_N ob, qs_N (qs_f ob ib O), qs_N (qs_f (fun _ => 0) lh S), dl, rt, br, lf, pa, ro, qs_N par, wh)) : ∃ n, wX_transmit_12 post (nI S) (nI L) (nI C) (nI T) (nI M) pr cc (nI O) (nI N) op (nI G) (nI R) (nI E) (nI D) n 0 (qs_N c) (qs_N ml) (qs_N lc) cw (qs_N ob) (qs_N ib) (qs_N lh) dl rt br lf pa ro (qs_N par) wh := by
  have key : ∀ d i n, i + d = O → d < n → wX_transmit_12 post (nI S) (nI L) (nI C) (nI T) (nI M) pr cc (nI O) (nI N) op (nI G) (nI R) (nI E) (nI D) n (nI i) (qs_N c) (qs_N ml) (qs_N lc) cw (qs_N ob) (qs_N (qs_f ob ib i)) (qs_N lh) dl rt br lf pa ro (qs_N par) wh := by
    intro d
    induction d with
    | zero =>
      intro i n hi hn
      obtain ⟨n, rfl⟩ : ∃ m, n = m + 1 := ⟨n - 1, by omega⟩
      obtain rfl : i = O := by omega
      exact br_t (nI_le (Nat.le_refl _) (by omega)) (qx_closeReceiver hS hp)
    | succ d ih =>
      intro i n hi hn
      obtain ⟨n, rfl⟩ : ∃ m, n = m + 1 := ⟨n - 1, by omega⟩
      exact br_f (nI_ge (by omega) (by omega)) ⟨vp_in_nI (by omega) (by decide), vp_in_nI (by omega) (by decide), nm_r (qs_fI (by omega) (by rw [qs_Nr _ (by omega)]; exact qb_nar (hob i))) (nm_r (nI_1 i) (ih (i + 1) n (by omega) (by omega)))⟩
  have := key O 0 (O + 1) (by omega) (by omega)
  rw [qs_f00] at this
  exact ⟨_, this⟩
theorem qy_transmit {post : Int32 → SY → Prop} (hO : O ≤ 256) (hp : post 0 (nI S, nI L, nI C, nI M, pr, cc, nI O, nI O, 0, nI 0, nI 0, nI 0, qs_N c, qs_N ml, qs_N lc, qs_N ob, qs_N (qs_f ob ib O), qs_N (qs_f (fun _ => 0) lh 12), dl, ls, qs_N par)) : ∃ n, wY_transmit_12 post (nI S) (nI L) (nI C) (nI M) pr cc (nI O) (nI N) op (nI R) (nI E) (nI D) n 0 (qs_N c) (qs_N ml) (qs_N lc) (qs_N ob) (qs_N ib) (qs_N lh) dl ls (qs_N par) := by
  have key : ∀ d i n, i + d = O → d < n → wY_transmit_12 post (nI S) (nI L) (nI C) (nI M) pr cc (nI O) (nI N) op (nI R) (nI E) (nI D) n (nI i) (qs_N c) (qs_N ml) (qs_N lc) (qs_N ob) (qs_N (qs_f ob ib i)) (qs_N lh) dl ls (qs_N par) := by
    intro d
    induction d with
    | zero =>
      intro i n hi hn
      obtain ⟨n, rfl⟩ : ∃ m, n = m + 1 := ⟨n - 1, by omega⟩
      obtain rfl : i = O := by omega
      exact br_t (nI_le (Nat.le_refl _) (by omega)) (qy_closeReceiver hp)
    | succ d ih =>
      intro i n hi hn
      obtain ⟨n, rfl⟩ : ∃ m, n = m + 1 := ⟨n - 1, by omega⟩
      exact br_f (nI_ge (by omega) (by omega)) ⟨vp_in_nI (by omega) (by decide), vp_in_nI (by omega) (by decide), nm_r (qs_fI (by omega) (qs_Nr _ (by omega))) (nm_r (nI_1 i) (ih (i + 1) n (by omega) (by omega)))⟩
  have := key O 0 (O + 1) (by omega) (by omega)
  rw [qs_f00] at this
  exact ⟨_, this⟩
end QX
theorem i_vc_addCount {k : Nat} {u : SX} {v : SY} (I : i_Rel k u v) (hk : k + 3 ≤ 1539) (v1 : Int32) (v2 : Int32) : wpX_addCount (fun r u' => wpY_addCount (fun r' v' => r' = r ∧ i_Rel (k + 3) u' v') v v1 v2) u v1 v2 := by
  refine qr_el (P := fun u v => wpX_addCount (fun r u' => wpY_addCount (fun r' v' => r' = r ∧ i_Rel (k + 3) u' v') v v1 v2) u v1 v2) ?_ I
  intro S L C T M O N R E D G c ml lc ob ib lh par pr cc op cw dl rt br lf pa ro wh ls F
  have F0 := F
  obtain ⟨⟨hS2, hS, hL1, hL, hC1, hC, hM, hO, hN, hR, hD, hE⟩, ⟨hT, hT2, hc0⟩, hml, ⟨hh6, hh0, hcw⟩, ⟨hob, hib⟩, ⟨hd6, hd0⟩, hop⟩ := F
  unfold wpX_addCount wpY_addCount
  dsimp only
  rcases qx_sy v1 hS with b | ⟨s, hs, rfl⟩
  · refine qx_symB b (br_t rfl ?_)
    exact qy_symB b (br_t rfl ⟨rfl, qr_in _ F0⟩)
  · refine qx_symG hS hs (br_f (by decide) ?_)
    by_cases x1 : v2 < 1
    · refine br_t x1 ?_
      exact qy_symG hS hs (br_f (by decide) (br_t x1 ⟨rfl, qr_in _ F0⟩))
    · by_cases x2 : v2 ≤ 1000
      · have q1 : (1 : Int32).toInt = 1 := by decide
        have q0 : (0 : Int32).toInt = 0 := by decide
        obtain ⟨a, ha, rfl⟩ := nI_of2 (x := v2) (M := 1000) (n := 1000) (by decide) (by rw [Int32.lt_iff_toInt_lt] at x1 ⊢; rw [q1] at x1; rw [q0]; omega) x2
        refine br_f x1 (br_t x2 ?_)
        by_cases x3 : T + a ≤ 1000
        · have e3 : nI T + nI a ≤ 1000 := by rw [nI_add]; exact nI_le (b := 1000) x3 (by decide)
          have eu : upd (qs_N c) (nI s).toNatClampNeg (qs_N c (nI s).toNatClampNeg + nI a) = qs_N (qs_u c s (c s + a)) := qs_updI (by omega) (by rw [qs_Nr _ (by omega), nI_add])
          refine br_t e3 ⟨vp_in_nI (by omega) (by decide), vp_in_nI (by omega) (by decide), nm_r eu (nm_r (nI_add T a) ?_)⟩
          refine qy_symG hS hs (br_f (by decide) (br_f x1 (br_t x2 ?_)))
          refine qy_total hS ?_
          rw [← hT]
          refine br_t e3 ⟨vp_in_nI (by omega) (by decide), vp_in_nI (by omega) (by decide), nm_r eu ⟨rfl, qr_in _ ?_⟩⟩
          have su := qs_su c s (c s + a) S hs
          refine ⟨⟨hS2, hS, hL1, hL, hC1, hC, hM, hO, hN, hR, hD, hE⟩, ⟨by omega, x3, fun j hj => ?_⟩, hml, ⟨hh6, hh0, hcw⟩, ⟨hob, hib⟩, ⟨hd6, hd0⟩, hop⟩
          rw [qs_un (by omega)]; exact hc0 j hj
        · have e3 : ¬ nI T + nI a ≤ 1000 := by rw [nI_add]; exact nI_ge (a := 1000) (by omega) (by omega)
          refine br_f e3 ?_
          refine qy_symG hS hs (br_f (by decide) (br_f x1 (br_t x2 ?_)))
          refine qy_total hS ?_
          rw [← hT]
          exact br_f e3 ⟨rfl, qr_in _ F0⟩
      · refine br_f x1 (br_f x2 ?_)
        exact qy_symG hS hs (br_f (by decide) (br_f x1 (br_f x2 ⟨rfl, qr_in _ F0⟩)))
end
section
theorem i_vc_put {k : Nat} {u : SX} {v : SY} (I : i_Rel k u v) (hk : k + 3 ≤ 1539) (v1 : Int32) : wpX_put (fun r u' => wpY_put (fun r' v' => r' = r ∧ i_Rel (k + 3) u' v') v v1) u v1 := by
  refine qr_el (P := fun u v => wpX_put (fun r u' => wpY_put (fun r' v' => r' = r ∧ i_Rel (k + 3) u' v') v v1) u v1) ?_ I
  intro S L C T M O N R E D G c ml lc ob ib lh par pr cc op cw dl rt br lf pa ro wh ls F
  have F0 := F
  obtain ⟨⟨hS2, hS, hL1, hL, hC1, hC, hM, hO, hN, hR, hD, hE⟩, ⟨hT, hT2, hc0⟩, hml, ⟨hh6, hh0, hcw⟩, ⟨hob, hib⟩, ⟨hd6, hd0⟩, hop⟩ := F
  unfold wpX_put wpY_put
  dsimp only
  rcases qx_sy v1 hS with b | ⟨s, hs, rfl⟩
  · refine qx_symB b (br_t rfl ?_)
    exact qy_symB b (br_t rfl ⟨rfl, qr_in _ F0⟩)
  · refine qx_symG hS hs (br_f (by decide) ?_)
    by_cases x1 : C ≤ M
    · refine br_t (nI_le x1 (by omega)) ?_
      exact qy_symG hS hs (br_f (by decide) (br_f (nI_nlt x1 (by omega)) ⟨rfl, qr_in _ F0⟩))
    · refine br_f (nI_ge (by omega) (by omega)) ?_
      by_cases x2 : T < 1000
      · have eu : upd (qs_N c) (nI s).toNatClampNeg (qs_N c (nI s).toNatClampNeg + 1) = qs_N (qs_u c s (c s + 1)) := qs_updI (by omega) (by rw [qs_Nr _ (by omega), nI_1])
        have em : upd (qs_N ml) (nI M).toNatClampNeg (nI s) = qs_N (qs_u ml M s) := qs_updI (by omega) rfl
        refine br_t (nI_lt (b := 1000) x2 (by decide)) ⟨vp_in_nI (by omega) (by decide), nm_r em (nm_r (nI_1 M) ⟨vp_in_nI (by omega) (by decide), vp_in_nI (by omega) (by decide), nm_r eu (nm_r (nI_1 T) ?_)⟩)⟩
        refine qy_symG hS hs (br_f (by decide) (br_t (nI_lt (by omega) (by omega)) ?_))
        refine qy_total hS ?_
        rw [← hT]
        refine br_t (nI_lt (b := 1000) x2 (by decide)) ⟨vp_in_nI (by omega) (by decide), nm_r em (nm_r (nI_1 M) ⟨vp_in_nI (by omega) (by decide), vp_in_nI (by omega) (by decide), nm_r eu ⟨rfl, qr_in _ ?_⟩⟩)⟩
        have su := qs_su c s (c s + 1) S hs
        refine ⟨⟨hS2, hS, hL1, hL, hC1, hC, by omega, hO, hN, hR, hD, hE⟩, ⟨by omega, by omega, fun j hj => ?_⟩, fun i hi => ?_, ⟨hh6, hh0, hcw⟩, ⟨hob, hib⟩, ⟨hd6, hd0⟩, hop⟩
        · rw [qs_un (by omega)]; exact hc0 j hj
        · by_cases e : i = M
          · subst e; rw [qs_us]; exact hs
          · rw [qs_un e]; exact hml i (by omega)
      · refine br_f (nI_nlt (b := 1000) (by omega) (by omega)) ?_
        refine qy_symG hS hs (br_f (by decide) (br_t (nI_lt (by omega) (by omega)) ?_))
        refine qy_total hS ?_
        rw [← hT]
        exact br_f (nI_nlt (b := 1000) (by omega) (by omega)) ⟨rfl, qr_in _ F0⟩
theorem i_vc_clear {k : Nat} {u : SX} {v : SY} (I : i_Rel k u v) (hk : k + 3 ≤ 1539) (v1 : Int32) : wpX_clear (fun r u' => wpY_clear (fun r' v' => r' = r ∧ i_Rel (k + 3) u' v') v v1) u v1 := by
  refine qr_el (P := fun u v => wpX_clear (fun r u' => wpY_clear (fun r' v' => r' = r ∧ i_Rel (k + 3) u' v') v v1) u v1) ?_ I
  intro S L C T M O N R E D G c ml lc ob ib lh par pr cc op cw dl rt br lf pa ro wh ls F
  have F0 := F
  obtain ⟨⟨hS2, hS, hL1, hL, hC1, hC, hM, hO, hN, hR, hD, hE⟩, ⟨hT, hT2, hc0⟩, hml, ⟨hh6, hh0, hcw⟩, ⟨hob, hib⟩, ⟨hd6, hd0⟩, hop⟩ := F
  unfold wpX_clear
  dsimp only
  by_cases x0 : v1 = 0
  · refine br_t x0 (qx_clearSource hS ?_)
    refine br_t x0 (qy_clearSource ?_)
    rw [qs_fz hc0, qs_fz (m := 12) (fun j hj => hc0 j (by omega))]
    exact ⟨rfl, qr_in _ ⟨⟨hS2, hS, hL1, hL, hC1, hC, Nat.zero_le _, hO, hN, hR, hD, hE⟩, ⟨(qs_zero _ _ (fun _ _ => rfl)).symm, Nat.zero_le _, fun _ _ => rfl⟩, fun i hi => absurd hi (Nat.not_lt_zero i), ⟨hh6, hh0, hcw⟩, ⟨hob, hib⟩, ⟨hd6, hd0⟩, hop⟩⟩
  · refine br_f x0 ?_
    by_cases x1 : v1 = 1
    · refine br_t x1 (qx_clearCode hS ?_)
      refine br_f x0 (br_t x1 (qy_clearCode ?_))
      rw [qs_fz hh0, qs_fz (m := 12) (fun j hj => hh0 j (by omega))]
      exact ⟨rfl, qr_in _ ⟨⟨hS2, hS, hL1, hL, hC1, hC, hM, Nat.zero_le _, hN, hR, hD, hE⟩, ⟨hT, hT2, hc0⟩, hml, ⟨fun _ => Nat.zero_le _, fun _ _ => rfl, fun s _ z => absurd rfl z⟩, ⟨hob, hib⟩, ⟨hd6, hd0⟩, hop⟩⟩
    · refine br_f x1 ?_
      by_cases x2 : v1 = 2
      · refine br_t x2 (qx_closeReceiver (N := 0) hS ?_)
        refine br_f x0 (br_f x1 (br_t x2 (qy_closeReceiver (N := 0) ?_)))
        rw [qs_fz hd0, qs_fz (m := 12) (fun j hj => hd0 j (by omega))]
        exact ⟨rfl, qr_in _ ⟨⟨hS2, hS, hL1, hL, hC1, hC, hM, hO, Nat.zero_le _, Nat.zero_le _, Nat.zero_le _, Nat.zero_le _⟩, ⟨hT, hT2, hc0⟩, hml, ⟨hh6, hh0, hcw⟩, ⟨hob, hib⟩, ⟨fun _ => Nat.zero_le _, fun _ _ => rfl⟩, fun z => absurd rfl z⟩⟩
      · exact br_f x2 (br_f x0 (br_f x1 (br_f x2 ⟨rfl, qr_in _ F0⟩)))
theorem i_vc_transmit {k : Nat} {u : SX} {v : SY} (I : i_Rel k u v) (hk : k + 3 ≤ 1539) : wpX_transmit (fun r u' => wpY_transmit (fun r' v' => r' = r ∧ i_Rel (k + 3) u' v') v) u := by
  refine qr_el (P := fun u v => wpX_transmit (fun r u' => wpY_transmit (fun r' v' => r' = r ∧ i_Rel (k + 3) u' v') v) u) ?_ I
  intro S L C T M O N R E D G c ml lc ob ib lh par pr cc op cw dl rt br lf pa ro wh ls F
  have F0 := F
  obtain ⟨⟨hS2, hS, hL1, hL, hC1, hC, hM, hO, hN, hR, hD, hE⟩, ⟨hT, hT2, hc0⟩, hml, ⟨hh6, hh0, hcw⟩, ⟨hob, hib⟩, ⟨hd6, hd0⟩, hop⟩ := F
  by_cases x : O = 0
  · subst x
    exact br_t rfl (br_t rfl ⟨rfl, qr_in _ F0⟩)
  · have e : ¬ nI O = 0 := nI_ne0 (by omega) (by omega)
    refine br_f e (qx_transmit hS hO hob ?_)
    refine br_f e (qy_transmit hO ?_)
    rw [qs_fz hd0, qs_fz (m := 12) (fun j hj => hd0 j (by omega))]
    refine ⟨rfl, qr_in _ ⟨⟨hS2, hS, hL1, hL, hC1, hC, hM, hO, hO, Nat.zero_le _, Nat.zero_le _, Nat.zero_le _⟩, ⟨hT, hT2, hc0⟩, hml, ⟨hh6, hh0, hcw⟩, ⟨hob, fun j => ?_⟩, ⟨fun _ => Nat.zero_le _, fun _ _ => rfl⟩, fun z => absurd rfl z⟩⟩
    by_cases y : j < O
    · rw [qs_fl y]; exact hob j
    · rw [qs_fg (by omega)]; exact hib j
theorem i_vc_receive {k : Nat} {u : SX} {v : SY} (I : i_Rel k u v) (hk : k + 3 ≤ 1539) (v1 : Int32) (v2 : Int32) : wpX_receive (fun r u' => wpY_receive (fun r' v' => r' = r ∧ i_Rel (k + 3) u' v') v v1 v2) u v1 v2 := by
  refine qr_el (P := fun u v => wpX_receive (fun r u' => wpY_receive (fun r' v' => r' = r ∧ i_Rel (k + 3) u' v') v v1 v2) u v1 v2) ?_ I
  intro S L C T M O N R E D G c ml lc ob ib lh par pr cc op cw dl rt br lf pa ro wh ls F
  have F0 := F
  obtain ⟨⟨hS2, hS, hL1, hL, hC1, hC, hM, hO, hN, hR, hD, hE⟩, ⟨hT, hT2, hc0⟩, hml, ⟨hh6, hh0, hcw⟩, ⟨hob, hib⟩, ⟨hd6, hd0⟩, hop⟩ := F
  by_cases x1 : v2 < 1
  · exact br_t x1 (br_t x1 ⟨rfl, qr_in _ F0⟩)
  · by_cases x2 : v2 ≤ 16
    · have q1 : (1 : Int32).toInt = 1 := by decide
      have q0 : (0 : Int32).toInt = 0 := by decide
      obtain ⟨w, hw, rfl⟩ := nI_of2 (x := v2) (M := 16) (n := 16) (by decide) (by rw [Int32.lt_iff_toInt_lt] at x1 ⊢; rw [q1] at x1; rw [q0]; omega) x2
      refine br_f x1 (br_t x2 ?_)
      by_cases x3 : N + w ≤ 256
      · have e3 : nI N + nI w ≤ 256 := by rw [nI_add]; exact nI_le (b := 256) x3 (by decide)
        refine br_t e3 (nm_r (e' := nI w + (-1)) (Int32.sub_eq_add_neg _ _) ⟨w + 1, qx_recv_l w (w + 1) (N, ib) (by omega) (by omega) x3 ?_⟩)
        refine br_f x1 (br_t x2 (br_t e3 (nm_r (e' := nI w + (-1)) (Int32.sub_eq_add_neg _ _) ⟨w + 1, qy_recv_l w (w + 1) (N, ib) (by omega) (by omega) x3 ?_⟩)))
        have ok := qb_wr_ok v1 w (N, ib) hN hib
        have en := qb_wr_n v1 w (N, ib) x3
        refine ⟨rfl, qr_in _ ⟨⟨hS2, hS, hL1, hL, hC1, hC, hM, hO, ok.1, ?_, hD, hE⟩, ⟨hT, hT2, hc0⟩, hml, ⟨hh6, hh0, hcw⟩, ⟨hob, ok.2⟩, ⟨hd6, hd0⟩, hop⟩⟩
        rw [en]
        show R ≤ N + w
        omega
      · have e3 : ¬ nI N + nI w ≤ 256 := by rw [nI_add]; exact nI_ge (a := 256) (by omega) (by omega)
        exact br_f e3 (br_f x1 (br_t x2 (br_f e3 ⟨rfl, qr_in _ F0⟩)))
    · exact br_f x1 (br_f x2 (br_f x1 (br_f x2 ⟨rfl, qr_in _ F0⟩)))
theorem i_vc_flip {k : Nat} {u : SX} {v : SY} (I : i_Rel k u v) (hk : k + 3 ≤ 1539) (v1 : Int32) : wpX_flip (fun r u' => wpY_flip (fun r' v' => r' = r ∧ i_Rel (k + 3) u' v') v v1) u v1 := by
  refine qr_el (P := fun u v => wpX_flip (fun r u' => wpY_flip (fun r' v' => r' = r ∧ i_Rel (k + 3) u' v') v v1) u v1) ?_ I
  intro S L C T M O N R E D G c ml lc ob ib lh par pr cc op cw dl rt br lf pa ro wh ls F
  have F0 := F
  obtain ⟨⟨hS2, hS, hL1, hL, hC1, hC, hM, hO, hN, hR, hD, hE⟩, ⟨hT, hT2, hc0⟩, hml, ⟨hh6, hh0, hcw⟩, ⟨hob, hib⟩, ⟨hd6, hd0⟩, hop⟩ := F
  by_cases x1 : v1 < 0
  · exact br_t x1 (br_t x1 ⟨rfl, qr_in _ F0⟩)
  · by_cases x2 : v1 < nI N
    · obtain ⟨a, ha, rfl⟩ := nI_of x1
      have x3 := (nI_ltI ha (by omega)).mp x2
      have bb : ib a = 0 ∨ ib a = 1 := by have := hib a; omega
      have eX : upd (qs_N ib) (nI a).toNatClampNeg (vp_nar .byte ((qs_N ib (nI a).toNatClampNeg ^^^ 1).toInt8.toInt32)) = qs_N (qs_u ib a (1 - ib a)) := qs_updI ha (by
        rw [qs_Nr _ ha]
        rcases bb with e | e
        · rw [e, vp_nar_byte]; decide
        · rw [e, vp_nar_byte]; decide)
      have eY : upd (qs_N ib) (nI a).toNatClampNeg (1 - qs_N ib (nI a).toNatClampNeg) = qs_N (qs_u ib a (1 - ib a)) := qs_updI ha (by
        rw [qs_Nr _ ha]
        rcases bb with e | e
        · rw [e]; decide
        · rw [e]; decide)
      refine br_f x1 (br_t x2 ⟨vp_in_nI (by omega) (by decide), vp_in_nI (by omega) (by decide), nm_r eX ?_⟩)
      refine br_f x1 (br_t x2 ⟨vp_in_nI (by omega) (by decide), vp_in_nI (by omega) (by decide), nm_r eY ?_⟩)
      refine ⟨rfl, qr_in _ ⟨⟨hS2, hS, hL1, hL, hC1, hC, hM, hO, hN, hR, hD, hE⟩, ⟨hT, hT2, hc0⟩, hml, ⟨hh6, hh0, hcw⟩, ⟨hob, fun j => ?_⟩, ⟨hd6, hd0⟩, hop⟩⟩
      by_cases y : j = a
      · subst y; rw [qs_us]; omega
      · rw [qs_un y]; exact hib j
    · exact br_f x1 (br_f x2 (br_f x1 (br_f x2 ⟨rfl, qr_in _ F0⟩)))
theorem i_vc_count {k : Nat} {u : SX} {v : SY} (I : i_Rel k u v) (hk : k + 3 ≤ 1539) (v1 : Int32) : wpX_count (fun r => wpY_count (fun r' => r' = r ∧ i_Rel (k + 3) u v) v v1) u v1 := by
  refine qr_el (P := fun u v => wpX_count (fun r => wpY_count (fun r' => r' = r ∧ i_Rel (k + 3) u v) v v1) u v1) ?_ I
  intro S L C T M O N R E D G c ml lc ob ib lh par pr cc op cw dl rt br lf pa ro wh ls F
  have F0 := F
  obtain ⟨⟨hS2, hS, hL1, hL, hC1, hC, hM, hO, hN, hR, hD, hE⟩, ⟨hT, hT2, hc0⟩, hml, ⟨hh6, hh0, hcw⟩, ⟨hob, hib⟩, ⟨hd6, hd0⟩, hop⟩ := F
  unfold wpX_count wpY_count
  dsimp only
  rcases qx_sy v1 hS with b | ⟨s, hs, rfl⟩
  · refine qx_symB b (br_t rfl ?_)
    exact qy_symB b (br_t rfl ⟨rfl, qr_in _ F0⟩)
  · refine qx_symG hS hs (br_f (by decide) ⟨vp_in_nI (by omega) (by decide), ?_⟩)
    exact qy_symG hS hs (br_f (by decide) ⟨vp_in_nI (by omega) (by decide), rfl, qr_in _ F0⟩)
theorem i_vc_length {k : Nat} {u : SX} {v : SY} (I : i_Rel k u v) (hk : k + 3 ≤ 1539) (v1 : Int32) : wpX_length (fun r => wpY_length (fun r' => r' = r ∧ i_Rel (k + 3) u v) v v1) u v1 := by
  refine qr_el (P := fun u v => wpX_length (fun r => wpY_length (fun r' => r' = r ∧ i_Rel (k + 3) u v) v v1) u v1) ?_ I
  intro S L C T M O N R E D G c ml lc ob ib lh par pr cc op cw dl rt br lf pa ro wh ls F
  have F0 := F
  obtain ⟨⟨hS2, hS, hL1, hL, hC1, hC, hM, hO, hN, hR, hD, hE⟩, ⟨hT, hT2, hc0⟩, hml, ⟨hh6, hh0, hcw⟩, ⟨hob, hib⟩, ⟨hd6, hd0⟩, hop⟩ := F
  unfold wpX_length wpY_length
  dsimp only
  rcases qx_sy v1 hS with b | ⟨s, hs, rfl⟩
  · refine qx_symB b (br_t rfl ?_)
    exact qy_symB b (br_t rfl ⟨rfl, qr_in _ F0⟩)
  · refine qx_symG hS hs (br_f (by decide) ⟨vp_in_nI (by omega) (by decide), ?_⟩)
    exact qy_symG hS hs (br_f (by decide) ⟨vp_in_nI (by omega) (by decide), rfl, qr_in _ F0⟩)
theorem i_vc_heardLength {k : Nat} {u : SX} {v : SY} (I : i_Rel k u v) (hk : k + 3 ≤ 1539) (v1 : Int32) : wpX_heardLength (fun r => wpY_heardLength (fun r' => r' = r ∧ i_Rel (k + 3) u v) v v1) u v1 := by
  refine qr_el (P := fun u v => wpX_heardLength (fun r => wpY_heardLength (fun r' => r' = r ∧ i_Rel (k + 3) u v) v v1) u v1) ?_ I
  intro S L C T M O N R E D G c ml lc ob ib lh par pr cc op cw dl rt br lf pa ro wh ls F
  have F0 := F
  obtain ⟨⟨hS2, hS, hL1, hL, hC1, hC, hM, hO, hN, hR, hD, hE⟩, ⟨hT, hT2, hc0⟩, hml, ⟨hh6, hh0, hcw⟩, ⟨hob, hib⟩, ⟨hd6, hd0⟩, hop⟩ := F
  unfold wpX_heardLength wpY_heardLength
  dsimp only
  rcases qx_sy v1 hS with b | ⟨s, hs, rfl⟩
  · refine qx_symB b (br_t rfl ?_)
    exact qy_symB b (br_t rfl ⟨rfl, qr_in _ F0⟩)
  · refine qx_symG hS hs (br_f (by decide) ⟨vp_in_nI (by omega) (by decide), ?_⟩)
    exact qy_symG hS hs (br_f (by decide) ⟨vp_in_nI (by omega) (by decide), rfl, qr_in _ F0⟩)
theorem i_vc_message {k : Nat} {u : SX} {v : SY} (I : i_Rel k u v) (hk : k + 3 ≤ 1539) (v1 : Int32) : wpX_message (fun r => wpY_message (fun r' => r' = r ∧ i_Rel (k + 3) u v) v v1) u v1 := by
  refine qr_el (P := fun u v => wpX_message (fun r => wpY_message (fun r' => r' = r ∧ i_Rel (k + 3) u v) v v1) u v1) ?_ I
  intro S L C T M O N R E D G c ml lc ob ib lh par pr cc op cw dl rt br lf pa ro wh ls F
  have F0 := F
  obtain ⟨⟨hS2, hS, hL1, hL, hC1, hC, hM, hO, hN, hR, hD, hE⟩, ⟨hT, hT2, hc0⟩, hml, ⟨hh6, hh0, hcw⟩, ⟨hob, hib⟩, ⟨hd6, hd0⟩, hop⟩ := F
  by_cases x1 : v1 < 0
  · exact br_t x1 (br_t x1 ⟨rfl, qr_in _ F0⟩)
  · by_cases x2 : v1 < nI M
    · obtain ⟨a, ha, rfl⟩ := nI_of x1
      have x3 := (nI_ltI ha (by omega)).mp x2
      exact br_f x1 (br_t x2 ⟨vp_in_nI (by omega) (by decide), br_f x1 (br_t x2 ⟨vp_in_nI (by omega) (by decide), rfl, qr_in _ F0⟩)⟩)
    · exact br_f x1 (br_f x2 (br_f x1 (br_f x2 ⟨rfl, qr_in _ F0⟩)))
theorem i_vc_decoded {k : Nat} {u : SX} {v : SY} (I : i_Rel k u v) (hk : k + 3 ≤ 1539) (v1 : Int32) : wpX_decoded (fun r => wpY_decoded (fun r' => r' = r ∧ i_Rel (k + 3) u v) v v1) u v1 := by
  refine qr_el (P := fun u v => wpX_decoded (fun r => wpY_decoded (fun r' => r' = r ∧ i_Rel (k + 3) u v) v v1) u v1) ?_ I
  intro S L C T M O N R E D G c ml lc ob ib lh par pr cc op cw dl rt br lf pa ro wh ls F
  have F0 := F
  obtain ⟨⟨hS2, hS, hL1, hL, hC1, hC, hM, hO, hN, hR, hD, hE⟩, ⟨hT, hT2, hc0⟩, hml, ⟨hh6, hh0, hcw⟩, ⟨hob, hib⟩, ⟨hd6, hd0⟩, hop⟩ := F
  by_cases x1 : v1 < 0
  · exact br_t x1 (br_t x1 ⟨rfl, qr_in _ F0⟩)
  · by_cases x2 : v1 < nI D
    · obtain ⟨a, ha, rfl⟩ := nI_of x1
      have x3 := (nI_ltI ha (by omega)).mp x2
      exact br_f x1 (br_t x2 ⟨vp_in_nI (by omega) (by decide), br_f x1 (br_t x2 ⟨vp_in_nI (by omega) (by decide), rfl, qr_in _ F0⟩)⟩)
    · exact br_f x1 (br_f x2 (br_f x1 (br_f x2 ⟨rfl, qr_in _ F0⟩)))
theorem i_vc_cost {k : Nat} {u : SX} {v : SY} (I : i_Rel k u v) (hk : k + 3 ≤ 1539) : wpX_cost (fun r => wpY_cost (fun r' => r' = r ∧ i_Rel (k + 3) u v) v) u := by
  refine qr_el (P := fun u v => wpX_cost (fun r => wpY_cost (fun r' => r' = r ∧ i_Rel (k + 3) u v) v) u) ?_ I
  intro S L C T M O N R E D G c ml lc ob ib lh par pr cc op cw dl rt br lf pa ro wh ls F
  exact ⟨rfl, qr_in _ F⟩
theorem i_vc_outBits {k : Nat} {u : SX} {v : SY} (I : i_Rel k u v) (hk : k + 3 ≤ 1539) (v1 : Int32) (v2 : Int32) : wpX_outBits (fun r => wpY_outBits (fun r' => r' = r ∧ i_Rel (k + 3) u v) v v1 v2) u v1 v2 := by
  refine qr_el (P := fun u v => wpX_outBits (fun r => wpY_outBits (fun r' => r' = r ∧ i_Rel (k + 3) u v) v v1 v2) u v1 v2) ?_ I
  intro S L C T M O N R E D G c ml lc ob ib lh par pr cc op cw dl rt br lf pa ro wh ls F
  have F0 := F
  obtain ⟨⟨hS2, hS, hL1, hL, hC1, hC, hM, hO, hN, hR, hD, hE⟩, ⟨hT, hT2, hc0⟩, hml, ⟨hh6, hh0, hcw⟩, ⟨hob, hib⟩, ⟨hd6, hd0⟩, hop⟩ := F
  by_cases x1 : v2 < 1
  · exact br_t x1 (br_t x1 ⟨rfl, qr_in _ F0⟩)
  · by_cases x2 : 16 < v2
    · exact br_f x1 (br_t x2 (br_f x1 (br_t x2 ⟨rfl, qr_in _ F0⟩)))
    · by_cases x3 : v1 < 0
      · exact br_f x1 (br_f x2 (br_t x3 (br_f x1 (br_f x2 (br_t x3 ⟨rfl, qr_in _ F0⟩)))))
      · by_cases x4 : v1 ≤ nI O - v2
        · obtain ⟨a, w, rfl, rfl, w1, w2, w3⟩ := qb_rng hO x1 x2 x3 x4
          refine br_f x1 (br_f x2 (br_f x3 (br_t x4 (qx_pick_out hob (by omega) w2 ?_))))
          refine qy_pick_out hO (by omega) w1 w2 (fun _ => ⟨rfl, qr_in _ F0⟩) (fun y => by omega)
        · exact br_f x1 (br_f x2 (br_f x3 (br_f x4 (br_f x1 (br_f x2 (br_f x3 (br_f x4 ⟨rfl, qr_in _ F0⟩)))))))
theorem i_vc_inBits {k : Nat} {u : SX} {v : SY} (I : i_Rel k u v) (hk : k + 3 ≤ 1539) (v1 : Int32) (v2 : Int32) : wpX_inBits (fun r => wpY_inBits (fun r' => r' = r ∧ i_Rel (k + 3) u v) v v1 v2) u v1 v2 := by
  refine qr_el (P := fun u v => wpX_inBits (fun r => wpY_inBits (fun r' => r' = r ∧ i_Rel (k + 3) u v) v v1 v2) u v1 v2) ?_ I
  intro S L C T M O N R E D G c ml lc ob ib lh par pr cc op cw dl rt br lf pa ro wh ls F
  have F0 := F
  obtain ⟨⟨hS2, hS, hL1, hL, hC1, hC, hM, hO, hN, hR, hD, hE⟩, ⟨hT, hT2, hc0⟩, hml, ⟨hh6, hh0, hcw⟩, ⟨hob, hib⟩, ⟨hd6, hd0⟩, hop⟩ := F
  by_cases x1 : v2 < 1
  · exact br_t x1 (br_t x1 ⟨rfl, qr_in _ F0⟩)
  · by_cases x2 : 16 < v2
    · exact br_f x1 (br_t x2 (br_f x1 (br_t x2 ⟨rfl, qr_in _ F0⟩)))
    · by_cases x3 : v1 < 0
      · exact br_f x1 (br_f x2 (br_t x3 (br_f x1 (br_f x2 (br_t x3 ⟨rfl, qr_in _ F0⟩)))))
      · by_cases x4 : v1 ≤ nI N - v2
        · obtain ⟨a, w, rfl, rfl, w1, w2, w3⟩ := qb_rng hN x1 x2 x3 x4
          refine br_f x1 (br_f x2 (br_f x3 (br_t x4 (qx_pick_in hib (by omega) w2 ?_))))
          refine qy_pick_in hN (by omega) w1 w2 (fun _ => ⟨rfl, qr_in _ F0⟩) (fun y => by omega)
        · exact br_f x1 (br_f x2 (br_f x3 (br_f x4 (br_f x1 (br_f x2 (br_f x3 (br_f x4 ⟨rfl, qr_in _ F0⟩)))))))
theorem i_vc_size {k : Nat} {u : SX} {v : SY} (I : i_Rel k u v) (hk : k + 3 ≤ 1539) (v1 : Int32) : wpX_size (fun r => wpY_size (fun r' => r' = r ∧ i_Rel (k + 3) u v) v v1) u v1 := by
  refine qr_el (P := fun u v => wpX_size (fun r => wpY_size (fun r' => r' = r ∧ i_Rel (k + 3) u v) v v1) u v1) ?_ I
  intro S L C T M O N R E D G c ml lc ob ib lh par pr cc op cw dl rt br lf pa ro wh ls F
  have F0 := F
  obtain ⟨⟨hS2, hS, hL1, hL, hC1, hC, hM, hO, hN, hR, hD, hE⟩, ⟨hT, hT2, hc0⟩, hml, ⟨hh6, hh0, hcw⟩, ⟨hob, hib⟩, ⟨hd6, hd0⟩, hop⟩ := F
  have J : i_Rel (k + 3) (nI S, nI L, nI C, nI T, nI M, pr, cc, nI O, nI N, op, nI G, nI R, nI E, nI D, qs_N c, qs_N ml, qs_N lc, cw, qs_N ob, qs_N ib, qs_N lh, dl, rt, br, lf, pa, ro, qs_N par, wh) (nI S, nI L, nI C, nI M, pr, cc, nI O, nI N, op, nI R, nI E, nI D, qs_N c, qs_N ml, qs_N lc, qs_N ob, qs_N ib, qs_N lh, dl, ls, qs_N par) := qr_in _ F0
  by_cases x1 : v1 < 0
  · refine br_t x1 ?_
    have n0 : ∀ m : Nat, m ≤ 10 → ¬ v1 = nI m := fun m hm e => by rw [e] at x1; exact nI_pos (by omega) x1
    exact br_f (n0 0 (by decide)) (br_f (n0 1 (by decide)) (br_f (n0 2 (by decide)) (br_f (n0 3 (by decide)) (br_f (n0 4 (by decide)) (br_f (n0 5 (by decide)) (br_f (n0 6 (by decide)) (br_f (n0 7 (by decide)) (br_f (n0 8 (by decide)) (br_f (n0 9 (by decide)) (br_f (n0 10 (by decide)) ⟨rfl, J⟩))))))))))
  · by_cases x2 : 10 < v1
    · refine br_f x1 (br_t x2 ?_)
      have n0 : ∀ m : Nat, m ≤ 10 → ¬ v1 = nI m := fun m hm e => by rw [e] at x2; exact nI_nlt (a := 10) hm (by decide) x2
      exact br_f (n0 0 (by decide)) (br_f (n0 1 (by decide)) (br_f (n0 2 (by decide)) (br_f (n0 3 (by decide)) (br_f (n0 4 (by decide)) (br_f (n0 5 (by decide)) (br_f (n0 6 (by decide)) (br_f (n0 7 (by decide)) (br_f (n0 8 (by decide)) (br_f (n0 9 (by decide)) (br_f (n0 10 (by decide)) ⟨rfl, J⟩))))))))))
    · refine br_f x1 (br_f x2 ?_)
      refine br_c (fun e => ?_) (fun e0 => ?_)
      · refine br_t e (qy_total hS ⟨?_, J⟩)
        rw [← hT]
      refine br_c (fun e => br_f e0 (br_t e ⟨rfl, J⟩)) (fun e1 => ?_)
      refine br_c (fun e => br_f e0 (br_f e1 (br_t e ⟨rfl, J⟩))) (fun e2 => ?_)
      refine br_c (fun e => br_f e0 (br_f e1 (br_f e2 (br_t e ⟨rfl, J⟩)))) (fun e3 => ?_)
      refine br_c (fun e => br_f e0 (br_f e1 (br_f e2 (br_f e3 (br_t e ⟨rfl, J⟩))))) (fun e4 => ?_)
      refine br_c (fun e => br_f e0 (br_f e1 (br_f e2 (br_f e3 (br_f e4 (br_t e ⟨rfl, J⟩)))))) (fun e5 => ?_)
      refine br_c (fun e => br_f e0 (br_f e1 (br_f e2 (br_f e3 (br_f e4 (br_f e5 (br_t e ⟨rfl, J⟩))))))) (fun e6 => ?_)
      refine br_c (fun e => br_c (fun y => br_f e0 (br_f e1 (br_f e2 (br_f e3 (br_f e4 (br_f e5 (br_f e6 (br_t e (br_t y ⟨rfl, J⟩))))))))) (fun y => br_f e0 (br_f e1 (br_f e2 (br_f e3 (br_f e4 (br_f e5 (br_f e6 (br_t e (br_f y ⟨rfl, J⟩)))))))))) (fun e7 => ?_)
      refine br_c (fun e => br_f e0 (br_f e1 (br_f e2 (br_f e3 (br_f e4 (br_f e5 (br_f e6 (br_f e7 (br_t e ⟨rfl, J⟩))))))))) (fun e8 => ?_)
      refine br_c (fun e => br_f e0 (br_f e1 (br_f e2 (br_f e3 (br_f e4 (br_f e5 (br_f e6 (br_f e7 (br_f e8 (br_t e ⟨rfl, J⟩)))))))))) (fun e9 => ?_)
      exact br_c (fun e => br_f e0 (br_f e1 (br_f e2 (br_f e3 (br_f e4 (br_f e5 (br_f e6 (br_f e7 (br_f e8 (br_f e9 (br_t e ⟨rfl, J⟩))))))))))) (fun e10 => trivial)
end
section
/-! canonical words: the component's table, the reference's search -/
def qw_I (h : Nat → Nat) (S k s : Nat) (w : Nat → Int32) : Prop := ∀ t, t < S → h t ≠ 0 → (h t < k ∨ (h t = k ∧ t < s)) → w t = nI (qw_w h S t)
def qw_P (h : Nat → Nat) (S : Nat) (w : Nat → Int32) : Prop := ∀ t, t < S → h t ≠ 0 → w t = nI (qw_w h S t)
theorem qw_Iy {h : Nat → Nat} {S k s : Nat} {w : Nat → Int32} (I : qw_I h S k s w) (e : h s = k) : qw_I h S k (s + 1) (upd w s (nI (qw_v h S k s))) := by
  intro t ht h0 a
  by_cases x : t = s
  · subst x
    rw [pk_us]
    show nI (qw_v h S k t) = nI (qw_v h S (h t) t)
    rw [e]
  · rw [pk_un x]
    exact I t ht h0 (by omega)
theorem qw_In {h : Nat → Nat} {S k s : Nat} {w : Nat → Int32} (I : qw_I h S k s w) (e : h s ≠ k) : qw_I h S k (s + 1) w := by
  intro t ht h0 a
  refine I t ht h0 ?_
  by_cases x : t = s
  · subst x; omega
  · omega
section QW
variable {S L C T M O N R E D G : Nat} {c ml lc ob ib lh par : Nat → Nat} {pr cc op : Int32} {cw dl rt br wh ls : Nat → Int32} {lf pa ro : Nat → Int64}
theorem qx_aw60_cw {post : SX → Prop} (hS : S ≤ 12) (hl6 : ∀ j, lc j ≤ 6) (hp : ∀ w, qw_P lc S w → post (nI S, nI L, nI C, nI T, nI M, pr, cc, nI O, nI N, op, nI G, nI R, nI E, nI D, qs_N c, qs_N ml, qs_N lc, w, qs_N ob, qs_N ib, qs_N lh, dl, rt, br, lf, pa, ro, qs_N par, wh)) : ∀ d s n w, s + d = S → d < n → qw_P lc S w → wX_assignWords__codeLength_codeWord_60 post (nI S) (nI L) (nI C) (nI T) (nI M) pr cc (nI O) (nI N) op (nI G) (nI R) (nI E) (nI D) n (nI s) (qs_N c) (qs_N ml) (qs_N lc) w (qs_N ob) (qs_N ib) (qs_N lh) dl rt br lf pa ro (qs_N par) wh := by
  intro d
  induction d with
  | zero =>
    intro s n w hs hn hw
    obtain ⟨n, rfl⟩ : ∃ m, n = m + 1 := ⟨n - 1, by omega⟩
    obtain rfl : s = S := by omega
    exact br_t (nI_le (Nat.le_refl _) (by omega)) (hp w hw)
  | succ d ih =>
    intro s n w hs hn hw
    obtain ⟨n, rfl⟩ : ∃ m, n = m + 1 := ⟨n - 1, by omega⟩
    refine br_f (nI_ge (by omega) (by omega)) ⟨vp_in_nI (by omega) (by decide), ?_⟩
    have e := qs_Nr lc (i := s) (by omega)
    have l6 := hl6 s
    by_cases x : lc s = 0
    · rw [x] at e
      refine br_t e ⟨vp_in_nI (by omega) (by decide), nm_r (e' := upd w s 0) (by rw [nI_clamp (by omega)]) (nm_r (nI_1 s) (ih (s + 1) n _ (by omega) (by omega) (fun t ht h0 => ?_)))⟩
      rw [pk_un (fun y => h0 (by rw [y]; exact x))]
      exact hw t ht h0
    · exact br_f (by rw [e]; exact nI_ne0 (by omega) (by omega)) (nm_r (nI_1 s) (ih (s + 1) n w (by omega) (by omega) hw))
theorem qx_aw19_cw {post : SX → Prop} {J5 : Int32 → Int32 → (Nat → Int32) → (Nat → Int32) → (Nat → Int32) → (Nat → Int32) → (Nat → Int32) → (Nat → Int32) → (Nat → Int32) → (Nat → Int32) → (Nat → Int32) → (Nat → Int32) → (Nat → Int64) → (Nat → Int64) → (Nat → Int64) → (Nat → Int32) → (Nat → Int32) → Prop} {k : Nat} (hS : S ≤ 12) (hl6 : ∀ j, lc j ≤ 6) (hk : k ≤ 6) (hJ : ∀ w, qw_I lc S k S w → J5 (nI (qw_v lc S k S)) (nI (k + 1)) (qs_N c) (qs_N ml) (qs_N lc) w (qs_N ob) (qs_N ib) (qs_N lh) dl rt br lf pa ro (qs_N par) wh) : ∀ d s n w, s + d = S → d < n → qw_I lc S k s w → wX_assignWords__codeLength_codeWord_19 post J5 (nI k) (nI S) (nI L) (nI C) (nI T) (nI M) pr cc (nI O) (nI N) op (nI G) (nI R) (nI E) (nI D) n (nI (qw_v lc S k s)) (nI s) (qs_N c) (qs_N ml) (qs_N lc) w (qs_N ob) (qs_N ib) (qs_N lh) dl rt br lf pa ro (qs_N par) wh := by
  intro d
  induction d with
  | zero =>
    intro s n w hs hn hw
    obtain ⟨n, rfl⟩ : ∃ m, n = m + 1 := ⟨n - 1, by omega⟩
    obtain rfl : s = S := by omega
    exact br_t (nI_le (Nat.le_refl _) (by omega)) (nm_r (nI_1 k) (hJ w hw))
  | succ d ih =>
    intro s n w hs hn hw
    obtain ⟨n, rfl⟩ : ∃ m, n = m + 1 := ⟨n - 1, by omega⟩
    refine br_f (nI_ge (by omega) (by omega)) ⟨vp_in_nI (by omega) (by decide), ?_⟩
    have e := qs_Nr lc (i := s) (by omega)
    have l6 := hl6 s
    by_cases x : lc s = k
    · refine br_t (by rw [e, x]) ⟨vp_in_nI (by omega) (by decide), nm_r (e' := upd w s (nI (qw_v lc S k s))) (by rw [nI_clamp (by omega)]) (nm_r (e' := nI (qw_v lc S k (s + 1))) (by rw [nI_1, qw_vy _ _ x]) (nm_r (nI_1 s) (ih (s + 1) n _ (by omega) (by omega) (qw_Iy hw x))))⟩
    · refine br_f (by rw [e, nI_eq (by omega) (by omega)]; exact x) (nm_r (nI_1 s) ?_)
      have := ih (s + 1) n w (by omega) (by omega) (qw_In hw x)
      rw [qw_vn _ _ x] at this
      exact this
theorem qx_aw5_cw {post : SX → Prop} (hS : S ≤ 12) (hl6 : ∀ j, lc j ≤ 6) (hp : ∀ w, qw_P lc S w → post (nI S, nI L, nI C, nI T, nI M, pr, cc, nI O, nI N, op, nI G, nI R, nI E, nI D, qs_N c, qs_N ml, qs_N lc, w, qs_N ob, qs_N ib, qs_N lh, dl, rt, br, lf, pa, ro, qs_N par, wh)) : ∀ d k n p w, k + d = 7 → 1 ≤ k → d < n → 2 * p = qw_v lc S k 0 → p ≤ 2000 → qw_I lc S k 0 w → wX_assignWords__codeLength_codeWord_5 post (nI S) (nI L) (nI C) (nI T) (nI M) pr cc (nI O) (nI N) op (nI G) (nI R) (nI E) (nI D) n (nI p) (nI k) (qs_N c) (qs_N ml) (qs_N lc) w (qs_N ob) (qs_N ib) (qs_N lh) dl rt br lf pa ro (qs_N par) wh := by
  intro d
  induction d with
  | zero =>
    intro k n p w hk h1 hn hv hb hw
    obtain ⟨n, rfl⟩ : ∃ m, n = m + 1 := ⟨n - 1, by omega⟩
    obtain rfl : k = 7 := by omega
    refine br_t (by decide) ⟨S + 1, qx_aw60_cw hS hl6 hp S 0 (S + 1) w (by omega) (by omega) (fun t ht h0 => hw t ht h0 ?_)⟩
    have := hl6 t
    omega
  | succ d ih =>
    intro k n p w hk h1 hn hv hb hw
    obtain ⟨n, rfl⟩ : ∃ m, n = m + 1 := ⟨n - 1, by omega⟩
    refine br_f (nI_nlt (a := 6) (by omega) (by omega)) (nm_r (e' := nI (qw_v lc S k 0)) (by rw [qb_sl1 (by omega), hv]) ⟨S + 1, qx_aw19_cw hS hl6 (by omega) (fun w' hw' => ?_) S 0 (S + 1) w (by omega) (by omega) hw⟩)
    refine ih (k + 1) n _ w' (by omega) (by omega) (by omega) (qw_V2 _ _ h1).symm ?_ (fun t ht h0 a => hw' t ht h0 (by omega))
    have := qw_vb lc hS (k := k) (s := S) (by omega) (Nat.le_refl _)
    omega
theorem qx_aw_cw {post : SX → Prop} (hS : S ≤ 12) (hl6 : ∀ j, lc j ≤ 6) (hp : ∀ w, qw_P lc S w → post (nI S, nI L, nI C, nI T, nI M, pr, cc, nI O, nI N, op, nI G, nI R, nI E, nI D, qs_N c, qs_N ml, qs_N lc, w, qs_N ob, qs_N ib, qs_N lh, dl, rt, br, lf, pa, ro, qs_N par, wh)) : wpX_assignWords__codeLength_codeWord post (nI S, nI L, nI C, nI T, nI M, pr, cc, nI O, nI N, op, nI G, nI R, nI E, nI D, qs_N c, qs_N ml, qs_N lc, cw, qs_N ob, qs_N ib, qs_N lh, dl, rt, br, lf, pa, ro, qs_N par, wh) :=
  ⟨7, qx_aw5_cw hS hl6 hp 6 1 7 0 cw (by omega) (by omega) (by omega) (qw_V1 _ _).symm (by omega) (fun t ht h0 a => by omega)⟩
theorem qx_aw60_wh {post : SX → Prop} (hS : S ≤ 12) (hl6 : ∀ j, lh j ≤ 6) (hp : ∀ w, qw_P lh S w → post (nI S, nI L, nI C, nI T, nI M, pr, cc, nI O, nI N, op, nI G, nI R, nI E, nI D, qs_N c, qs_N ml, qs_N lc, cw, qs_N ob, qs_N ib, qs_N lh, dl, rt, br, lf, pa, ro, qs_N par, w)) : ∀ d s n w, s + d = S → d < n → qw_P lh S w → wX_assignWords__heard_heardWord_60 post (nI S) (nI L) (nI C) (nI T) (nI M) pr cc (nI O) (nI N) op (nI G) (nI R) (nI E) (nI D) n (nI s) (qs_N c) (qs_N ml) (qs_N lc) cw (qs_N ob) (qs_N ib) (qs_N lh) dl rt br lf pa ro (qs_N par) w := by
  intro d
  induction d with
  | zero =>
    intro s n w hs hn hw
    obtain ⟨n, rfl⟩ : ∃ m, n = m + 1 := ⟨n - 1, by omega⟩
    obtain rfl : s = S := by omega
    exact br_t (nI_le (Nat.le_refl _) (by omega)) (hp w hw)
  | succ d ih =>
    intro s n w hs hn hw
    obtain ⟨n, rfl⟩ : ∃ m, n = m + 1 := ⟨n - 1, by omega⟩
    refine br_f (nI_ge (by omega) (by omega)) ⟨vp_in_nI (by omega) (by decide), ?_⟩
    have e := qs_Nr lh (i := s) (by omega)
    have l6 := hl6 s
    by_cases x : lh s = 0
    · rw [x] at e
      refine br_t e ⟨vp_in_nI (by omega) (by decide), nm_r (e' := upd w s 0) (by rw [nI_clamp (by omega)]) (nm_r (nI_1 s) (ih (s + 1) n _ (by omega) (by omega) (fun t ht h0 => ?_)))⟩
      rw [pk_un (fun y => h0 (by rw [y]; exact x))]
      exact hw t ht h0
    · exact br_f (by rw [e]; exact nI_ne0 (by omega) (by omega)) (nm_r (nI_1 s) (ih (s + 1) n w (by omega) (by omega) hw))
theorem qx_aw19_wh {post : SX → Prop} {J5 : Int32 → Int32 → (Nat → Int32) → (Nat → Int32) → (Nat → Int32) → (Nat → Int32) → (Nat → Int32) → (Nat → Int32) → (Nat → Int32) → (Nat → Int32) → (Nat → Int32) → (Nat → Int32) → (Nat → Int64) → (Nat → Int64) → (Nat → Int64) → (Nat → Int32) → (Nat → Int32) → Prop} {k : Nat} (hS : S ≤ 12) (hl6 : ∀ j, lh j ≤ 6) (hk : k ≤ 6) (hJ : ∀ w, qw_I lh S k S w → J5 (nI (qw_v lh S k S)) (nI (k + 1)) (qs_N c) (qs_N ml) (qs_N lc) cw (qs_N ob) (qs_N ib) (qs_N lh) dl rt br lf pa ro (qs_N par) w) : ∀ d s n w, s + d = S → d < n → qw_I lh S k s w → wX_assignWords__heard_heardWord_19 post J5 (nI k) (nI S) (nI L) (nI C) (nI T) (nI M) pr cc (nI O) (nI N) op (nI G) (nI R) (nI E) (nI D) n (nI (qw_v lh S k s)) (nI s) (qs_N c) (qs_N ml) (qs_N lc) cw (qs_N ob) (qs_N ib) (qs_N lh) dl rt br lf pa ro (qs_N par) w := by
  intro d
  induction d with
  | zero =>
    intro s n w hs hn hw
    obtain ⟨n, rfl⟩ : ∃ m, n = m + 1 := ⟨n - 1, by omega⟩
    obtain rfl : s = S := by omega
    exact br_t (nI_le (Nat.le_refl _) (by omega)) (nm_r (nI_1 k) (hJ w hw))
  | succ d ih =>
    intro s n w hs hn hw
    obtain ⟨n, rfl⟩ : ∃ m, n = m + 1 := ⟨n - 1, by omega⟩
    refine br_f (nI_ge (by omega) (by omega)) ⟨vp_in_nI (by omega) (by decide), ?_⟩
    have e := qs_Nr lh (i := s) (by omega)
    have l6 := hl6 s
    by_cases x : lh s = k
    · refine br_t (by rw [e, x]) ⟨vp_in_nI (by omega) (by decide), nm_r (e' := upd w s (nI (qw_v lh S k s))) (by rw [nI_clamp (by omega)]) (nm_r (e' := nI (qw_v lh S k (s + 1))) (by rw [nI_1, qw_vy _ _ x]) (nm_r (nI_1 s) (ih (s + 1) n _ (by omega) (by omega) (qw_Iy hw x))))⟩
    · refine br_f (by rw [e, nI_eq (by omega) (by omega)]; exact x) (nm_r (nI_1 s) ?_)
      have := ih (s + 1) n w (by omega) (by omega) (qw_In hw x)
      rw [qw_vn _ _ x] at this
      exact this
theorem qx_aw5_wh {post : SX → Prop} (hS : S ≤ 12) (hl6 : ∀ j, lh j ≤ 6) (hp : ∀ w, qw_P lh S w → post (nI S, nI L, nI C, nI T, nI M, pr, cc, nI O, nI N, op, nI G, nI R, nI E, nI D, qs_N c, qs_N ml, qs_N lc, cw, qs_N ob, qs_N ib, qs_N lh, dl, rt, br, lf, pa, ro, qs_N par, w)) : ∀ d k n p w, k + d = 7 → 1 ≤ k → d < n → 2 * p = qw_v lh S k 0 → p ≤ 2000 → qw_I lh S k 0 w → wX_assignWords__heard_heardWord_5 post (nI S) (nI L) (nI C) (nI T) (nI M) pr cc (nI O) (nI N) op (nI G) (nI R) (nI E) (nI D) n (nI p) (nI k) (qs_N c) (qs_N ml) (qs_N lc) cw (qs_N ob) (qs_N ib) (qs_N lh) dl rt br lf pa ro (qs_N par) w := by
  intro d
  induction d with
  | zero =>
    intro k n p w hk h1 hn hv hb hw
    obtain ⟨n, rfl⟩ : ∃ m, n = m + 1 := ⟨n - 1, by omega⟩
    obtain rfl : k = 7 := by omega
    refine br_t (by decide) ⟨S + 1, qx_aw60_wh hS hl6 hp S 0 (S + 1) w (by omega) (by omega) (fun t ht h0 => hw t ht h0 ?_)⟩
    have := hl6 t
    omega
  | succ d ih =>
    intro k n p w hk h1 hn hv hb hw
    obtain ⟨n, rfl⟩ : ∃ m, n = m + 1 := ⟨n - 1, by omega⟩
    refine br_f (nI_nlt (a := 6) (by omega) (by omega)) (nm_r (e' := nI (qw_v lh S k 0)) (by rw [qb_sl1 (by omega), hv]) ⟨S + 1, qx_aw19_wh hS hl6 (by omega) (fun w' hw' => ?_) S 0 (S + 1) w (by omega) (by omega) hw⟩)
    refine ih (k + 1) n _ w' (by omega) (by omega) (by omega) (qw_V2 _ _ h1).symm ?_ (fun t ht h0 a => hw' t ht h0 (by omega))
    have := qw_vb lh hS (k := k) (s := S) (by omega) (Nat.le_refl _)
    omega
theorem qx_aw_wh {post : SX → Prop} (hS : S ≤ 12) (hl6 : ∀ j, lh j ≤ 6) (hp : ∀ w, qw_P lh S w → post (nI S, nI L, nI C, nI T, nI M, pr, cc, nI O, nI N, op, nI G, nI R, nI E, nI D, qs_N c, qs_N ml, qs_N lc, cw, qs_N ob, qs_N ib, qs_N lh, dl, rt, br, lf, pa, ro, qs_N par, w)) : wpX_assignWords__heard_heardWord post (nI S, nI L, nI C, nI T, nI M, pr, cc, nI O, nI N, op, nI G, nI R, nI E, nI D, qs_N c, qs_N ml, qs_N lc, cw, qs_N ob, qs_N ib, qs_N lh, dl, rt, br, lf, pa, ro, qs_N par, wh) :=
  ⟨7, qx_aw5_wh hS hl6 hp 6 1 7 0 wh (by omega) (by omega) (by omega) (qw_V1 _ _).symm (by omega) (fun t ht h0 a => by omega)⟩
/-- what Y's search holds at (k, s) -/
def qw_J (h : Nat → Nat) (S k s v j : Nat) : Prop := (j = 0 ∧ qw_v h S k s = 0) ∨ (1 ≤ j ∧ j ≤ k ∧ (v + 1) * 2 ^ (k - j) = qw_v h S k s)
theorem qw_Jn {h : Nat → Nat} {S k s v j : Nat} (I : qw_J h S k s v j) (e : h s ≠ k) : qw_J h S k (s + 1) v j := by
  rw [qw_J, qw_vn _ _ e]; exact I
theorem qw_Jk {h : Nat → Nat} {S k v j : Nat} (hk : 1 ≤ k) (I : qw_J h S k S v j) : qw_J h S (k + 1) 0 v j := by
  rw [qw_J, qw_V2 _ _ hk]
  rcases I with ⟨a, b⟩ | ⟨a, b, c⟩
  · exact Or.inl ⟨a, by omega⟩
  · refine Or.inr ⟨a, by omega, ?_⟩
    rw [show k + 1 - j = (k - j) + 1 from by omega, Nat.pow_succ, ← c, ← Nat.mul_assoc]
    omega
theorem qw_Jy {h : Nat → Nat} {S k s : Nat} (hk : 1 ≤ k) (e : h s = k) : qw_J h S k (s + 1) (qw_v h S k s) k := by
  refine Or.inr ⟨hk, Nat.le_refl _, ?_⟩
  rw [Nat.sub_self, Nat.pow_zero, Nat.mul_one, qw_vy _ _ e]
theorem qy_w18_c {post : Int32 → Prop} {J8 : Int32 → Int32 → Int32 → Prop} {k y : Nat} (hS : S ≤ 12) (hl6 : ∀ j, lc j ≤ 6) (hy : y < S) (hy0 : lc y ≠ 0) (hk1 : 1 ≤ k) (hky : k ≤ lc y) (hp : post (nI (qw_w lc S y))) (hJ : k < lc y → ∀ v j, qw_J lc S k S v j → v ≤ 2000 → J8 (nI v) (nI j) (nI (k + 1))) : ∀ d s n v j, s + d = S → d < n → qw_J lc S k s v j → (k = lc y → s ≤ y) → v ≤ 2000 → wY_wordOf_18 post J8 0 (nI y) (nI k) (nI S) (nI L) (nI C) (nI M) pr cc (nI O) (nI N) op (nI R) (nI E) (nI D) (qs_N c) (qs_N ml) (qs_N lc) (qs_N ob) (qs_N ib) (qs_N lh) dl ls (qs_N par) n (nI v) (nI j) (nI s) := by
  have hk6 : k ≤ 6 := Nat.le_trans hky (hl6 y)
  intro d
  induction d with
  | zero =>
    intro s n v j hs hn I hsy hv
    obtain ⟨n, rfl⟩ : ∃ m, n = m + 1 := ⟨n - 1, by omega⟩
    obtain rfl : s = S := by omega
    refine br_t (nI_le (Nat.le_refl _) (by omega)) (nm_r (nI_1 k) (hJ ?_ v j I hv))
    by_cases x : k = lc y
    · have := hsy x; omega
    · omega
  | succ d ih =>
    intro s n v j hs hn I hsy hv
    obtain ⟨n, rfl⟩ : ∃ m, n = m + 1 := ⟨n - 1, by omega⟩
    have e := qs_Nr lc (i := s) (by omega)
    have l6 := hl6 s
    have vb := qw_vb lc hS (k := k) (s := s) hk6 (by omega)
    refine br_f (nI_ge (by omega) (by omega)) (br_t rfl ⟨vp_in_nI (by omega) (by decide), ?_⟩)
    rw [e]
    by_cases x : lc s = k
    · have fin : ∀ z : Int32, z = nI (qw_v lc S k s) → wY_wordOf_77 post J8 (wY_wordOf_18 post J8 0 (nI y) (nI k) (nI S) (nI L) (nI C) (nI M) pr cc (nI O) (nI N) op (nI R) (nI E) (nI D) (qs_N c) (qs_N ml) (qs_N lc) (qs_N ob) (qs_N ib) (qs_N lh) dl ls (qs_N par) n) 0 (nI y) z (nI k) (nI s) (nI S) (nI L) (nI C) (nI M) pr cc (nI O) (nI N) op (nI R) (nI E) (nI D) (qs_N c) (qs_N ml) (qs_N lc) (qs_N ob) (qs_N ib) (qs_N lh) dl ls (qs_N par) := by
        intro z ez
        subst ez
        by_cases q : s = y
        · subst q
          refine br_t rfl ?_
          have : qw_w lc S s = qw_v lc S k s := by show qw_v lc S (lc s) s = _; rw [x]
          rw [← this]; exact hp
        · exact br_f (by rw [nI_eq (by omega) (by omega)]; exact q) (nm_r (nI_1 s) (ih (s + 1) n _ k (by omega) (by omega) (qw_Jy hk1 x) (fun z => by have := hsy z; omega) (by omega)))
      refine br_t (by rw [x]) ?_
      rcases I with ⟨a, b⟩ | ⟨a, b, c⟩
      · subst a
        refine br_t rfl (fin 0 ?_)
        rw [b]; rfl
      · refine br_f (nI_ne0 (by omega) (by omega)) (nm_e (fin _ ?_))
        rw [pk_sub (by omega), nI_1, pk_shlN (nI (k - j) &&& 31) (k - j) (s_l _ (by omega)) (by rw [c]; omega), c]
    · exact br_f (by rw [nI_eq (by omega) (by omega)]; exact x) (nm_r (nI_1 s) (ih (s + 1) n v j (by omega) (by omega) (qw_Jn I x) (fun z => by
        have := hsy z
        by_cases q : s = y
        · subst q; exact absurd z.symm x
        · omega) hv))
theorem qy_w8_c {post : Int32 → Prop} {y : Nat} (hS : S ≤ 12) (hl6 : ∀ j, lc j ≤ 6) (hy : y < S) (hy0 : lc y ≠ 0) (hp : post (nI (qw_w lc S y))) : ∀ d k n v j, k + d = lc y → 1 ≤ k → d < n → qw_J lc S k 0 v j → v ≤ 2000 → wY_wordOf_8 post 0 (nI y) (nI S) (nI L) (nI C) (nI M) pr cc (nI O) (nI N) op (nI R) (nI E) (nI D) (qs_N c) (qs_N ml) (qs_N lc) (qs_N ob) (qs_N ib) (qs_N lh) dl ls (qs_N par) n (nI v) (nI j) (nI k) := by
  intro d
  have y6 := hl6 y
  induction d with
  | zero =>
    intro k n v j hk h1 hn I hv
    obtain ⟨n, rfl⟩ : ∃ m, n = m + 1 := ⟨n - 1, by omega⟩
    refine br_f (nI_nlt (a := 6) (by omega) (by omega)) ⟨S + 1, qy_w18_c hS hl6 hy hy0 h1 (by omega) hp (fun z => by omega) S 0 (S + 1) v j (by omega) (by omega) I (fun _ => Nat.zero_le _) hv⟩
  | succ d ih =>
    intro k n v j hk h1 hn I hv
    obtain ⟨n, rfl⟩ : ∃ m, n = m + 1 := ⟨n - 1, by omega⟩
    refine br_f (nI_nlt (a := 6) (by omega) (by omega)) ⟨S + 1, qy_w18_c hS hl6 hy hy0 h1 (by omega) hp (fun z v' j' I' b' => ih (k + 1) n v' j' (by omega) (by omega) (by omega) (qw_Jk h1 I') b') S 0 (S + 1) v j (by omega) (by omega) I (fun _ => Nat.zero_le _) hv⟩
theorem qy_wordOf_c {post : Int32 → Prop} {y : Nat} (hS : S ≤ 12) (hl6 : ∀ j, lc j ≤ 6) (hy : y < S) (hy0 : lc y ≠ 0) (hp : post (nI (qw_w lc S y))) : wpY_wordOf post (nI S, nI L, nI C, nI M, pr, cc, nI O, nI N, op, nI R, nI E, nI D, qs_N c, qs_N ml, qs_N lc, qs_N ob, qs_N ib, qs_N lh, dl, ls, qs_N par) 0 (nI y) :=
  ⟨7, qy_w8_c hS hl6 hy hy0 hp (lc y - 1) 1 7 0 0 (by omega) (by omega) (by have := hl6 y; omega) (Or.inl ⟨rfl, rfl⟩) (by omega)⟩
theorem qy_w18_h {post : Int32 → Prop} {J8 : Int32 → Int32 → Int32 → Prop} {k y : Nat} (hS : S ≤ 12) (hl6 : ∀ j, lh j ≤ 6) (hy : y < S) (hy0 : lh y ≠ 0) (hk1 : 1 ≤ k) (hky : k ≤ lh y) (hp : post (nI (qw_w lh S y))) (hJ : k < lh y → ∀ v j, qw_J lh S k S v j → v ≤ 2000 → J8 (nI v) (nI j) (nI (k + 1))) : ∀ d s n v j, s + d = S → d < n → qw_J lh S k s v j → (k = lh y → s ≤ y) → v ≤ 2000 → wY_wordOf_18 post J8 1 (nI y) (nI k) (nI S) (nI L) (nI C) (nI M) pr cc (nI O) (nI N) op (nI R) (nI E) (nI D) (qs_N c) (qs_N ml) (qs_N lc) (qs_N ob) (qs_N ib) (qs_N lh) dl ls (qs_N par) n (nI v) (nI j) (nI s) := by
  have hk6 : k ≤ 6 := Nat.le_trans hky (hl6 y)
  intro d
  induction d with
  | zero =>
    intro s n v j hs hn I hsy hv
    obtain ⟨n, rfl⟩ : ∃ m, n = m + 1 := ⟨n - 1, by omega⟩
    obtain rfl : s = S := by omega
    refine br_t (nI_le (Nat.le_refl _) (by omega)) (nm_r (nI_1 k) (hJ ?_ v j I hv))
    by_cases x : k = lh y
    · have := hsy x; omega
    · omega
  | succ d ih =>
    intro s n v j hs hn I hsy hv
    obtain ⟨n, rfl⟩ : ∃ m, n = m + 1 := ⟨n - 1, by omega⟩
    have e := qs_Nr lh (i := s) (by omega)
    have l6 := hl6 s
    have vb := qw_vb lh hS (k := k) (s := s) hk6 (by omega)
    refine br_f (nI_ge (by omega) (by omega)) (br_f (by decide) ⟨vp_in_nI (by omega) (by decide), ?_⟩)
    rw [e]
    by_cases x : lh s = k
    · have fin : ∀ z : Int32, z = nI (qw_v lh S k s) → wY_wordOf_77 post J8 (wY_wordOf_18 post J8 1 (nI y) (nI k) (nI S) (nI L) (nI C) (nI M) pr cc (nI O) (nI N) op (nI R) (nI E) (nI D) (qs_N c) (qs_N ml) (qs_N lc) (qs_N ob) (qs_N ib) (qs_N lh) dl ls (qs_N par) n) 1 (nI y) z (nI k) (nI s) (nI S) (nI L) (nI C) (nI M) pr cc (nI O) (nI N) op (nI R) (nI E) (nI D) (qs_N c) (qs_N ml) (qs_N lc) (qs_N ob) (qs_N ib) (qs_N lh) dl ls (qs_N par) := by
        intro z ez
        subst ez
        by_cases q : s = y
        · subst q
          refine br_t rfl ?_
          have : qw_w lh S s = qw_v lh S k s := by show qw_v lh S (lh s) s = _; rw [x]
          rw [← this]; exact hp
        · exact br_f (by rw [nI_eq (by omega) (by omega)]; exact q) (nm_r (nI_1 s) (ih (s + 1) n _ k (by omega) (by omega) (qw_Jy hk1 x) (fun z => by have := hsy z; omega) (by omega)))
      refine br_t (by rw [x]) ?_
      rcases I with ⟨a, b⟩ | ⟨a, b, c⟩
      · subst a
        refine br_t rfl (fin 0 ?_)
        rw [b]; rfl
      · refine br_f (nI_ne0 (by omega) (by omega)) (nm_e (fin _ ?_))
        rw [pk_sub (by omega), nI_1, pk_shlN (nI (k - j) &&& 31) (k - j) (s_l _ (by omega)) (by rw [c]; omega), c]
    · exact br_f (by rw [nI_eq (by omega) (by omega)]; exact x) (nm_r (nI_1 s) (ih (s + 1) n v j (by omega) (by omega) (qw_Jn I x) (fun z => by
        have := hsy z
        by_cases q : s = y
        · subst q; exact absurd z.symm x
        · omega) hv))
theorem qy_w8_h {post : Int32 → Prop} {y : Nat} (hS : S ≤ 12) (hl6 : ∀ j, lh j ≤ 6) (hy : y < S) (hy0 : lh y ≠ 0) (hp : post (nI (qw_w lh S y))) : ∀ d k n v j, k + d = lh y → 1 ≤ k → d < n → qw_J lh S k 0 v j → v ≤ 2000 → wY_wordOf_8 post 1 (nI y) (nI S) (nI L) (nI C) (nI M) pr cc (nI O) (nI N) op (nI R) (nI E) (nI D) (qs_N c) (qs_N ml) (qs_N lc) (qs_N ob) (qs_N ib) (qs_N lh) dl ls (qs_N par) n (nI v) (nI j) (nI k) := by
  intro d
  have y6 := hl6 y
  induction d with
  | zero =>
    intro k n v j hk h1 hn I hv
    obtain ⟨n, rfl⟩ : ∃ m, n = m + 1 := ⟨n - 1, by omega⟩
    refine br_f (nI_nlt (a := 6) (by omega) (by omega)) ⟨S + 1, qy_w18_h hS hl6 hy hy0 h1 (by omega) hp (fun z => by omega) S 0 (S + 1) v j (by omega) (by omega) I (fun _ => Nat.zero_le _) hv⟩
  | succ d ih =>
    intro k n v j hk h1 hn I hv
    obtain ⟨n, rfl⟩ : ∃ m, n = m + 1 := ⟨n - 1, by omega⟩
    refine br_f (nI_nlt (a := 6) (by omega) (by omega)) ⟨S + 1, qy_w18_h hS hl6 hy hy0 h1 (by omega) hp (fun z v' j' I' b' => ih (k + 1) n v' j' (by omega) (by omega) (by omega) (qw_Jk h1 I') b') S 0 (S + 1) v j (by omega) (by omega) I (fun _ => Nat.zero_le _) hv⟩
theorem qy_wordOf_h {post : Int32 → Prop} {y : Nat} (hS : S ≤ 12) (hl6 : ∀ j, lh j ≤ 6) (hy : y < S) (hy0 : lh y ≠ 0) (hp : post (nI (qw_w lh S y))) : wpY_wordOf post (nI S, nI L, nI C, nI M, pr, cc, nI O, nI N, op, nI R, nI E, nI D, qs_N c, qs_N ml, qs_N lc, qs_N ob, qs_N ib, qs_N lh, dl, ls, qs_N par) 1 (nI y) :=
  ⟨7, qy_w8_h hS hl6 hy hy0 hp (lh y - 1) 1 7 0 0 (by omega) (by omega) (by have := hl6 y; omega) (Or.inl ⟨rfl, rfl⟩) (by omega)⟩
end QW
theorem i_vc_word {k : Nat} {u : SX} {v : SY} (I : i_Rel k u v) (hk : k + 3 ≤ 1539) (v1 : Int32) : wpX_word (fun r => wpY_word (fun r' => r' = r ∧ i_Rel (k + 3) u v) v v1) u v1 := by
  refine qr_el (P := fun u v => wpX_word (fun r => wpY_word (fun r' => r' = r ∧ i_Rel (k + 3) u v) v v1) u v1) ?_ I
  intro S L C T M O N R E D G c ml lc ob ib lh par pr cc op cw dl rt br lf pa ro wh ls F
  have F0 := F
  obtain ⟨⟨hS2, hS, hL1, hL, hC1, hC, hM, hO, hN, hR, hD, hE⟩, ⟨hT, hT2, hc0⟩, hml, ⟨hh6, hh0, hcw⟩, ⟨hob, hib⟩, ⟨hd6, hd0⟩, hop⟩ := F
  unfold wpX_word wpY_word
  dsimp only
  rcases qx_sy v1 hS with b | ⟨s, hs, rfl⟩
  · refine qx_symB b (br_t rfl ?_)
    exact qy_symB b (br_t rfl ⟨rfl, qr_in _ F0⟩)
  · refine qx_symG hS hs (br_f (by decide) ⟨vp_in_nI (by omega) (by decide), ?_⟩)
    have e := qs_Nr lc (i := s) (by omega)
    have l6 := hh6 s
    by_cases x : lc s = 0
    · rw [x] at e
      refine br_t e ?_
      exact qy_symG hS hs (br_f (by decide) ⟨vp_in_nI (by omega) (by decide), br_t e ⟨rfl, qr_in _ F0⟩⟩)
    · have e' : ¬ qs_N lc (nI s).toNatClampNeg = 0 := by rw [e]; exact nI_ne0 (by omega) (by omega)
      refine br_f e' ⟨vp_in_nI (by omega) (by decide), ?_⟩
      refine qy_symG hS hs (br_f (by decide) ⟨vp_in_nI (by omega) (by decide), br_f e' ?_⟩)
      refine qy_wordOf_c hS hh6 hs x ⟨?_, qr_in _ F0⟩
      rw [nI_clamp (by omega), hcw s hs x]
end
section
/-! the component's package-merge -/
def qu_n (c : Nat → Nat) (s : Nat) : Nat := qs_s (fun t => if c t = 0 then 0 else 1) s
theorem qu_le (c : Nat → Nat) (s : Nat) : qu_n c s ≤ s := by
  have := qs_le (f := fun t => if c t = 0 then 0 else 1) (g := fun _ => 1) s (fun t _ => by
    by_cases e : c t = 0
    · simp [e]
    · simp [e])
  rw [qs_const, Nat.mul_one] at this
  exact this
theorem qu_z (c : Nat → Nat) {s : Nat} (e : c s = 0) : qu_n c (s + 1) = qu_n c s := by
  show qu_n c s + (if c s = 0 then 0 else 1) = _
  rw [if_pos e]; rfl
theorem qu_p (c : Nat → Nat) {s : Nat} (e : c s ≠ 0) : qu_n c (s + 1) = qu_n c s + 1 := by
  show qu_n c s + (if c s = 0 then 0 else 1) = _
  rw [if_neg e]
theorem qu_sh {g : Nat} (hg : g ≤ 6) : (1 : Int32) <<< (nI g &&& 31) = nI (2 ^ g) := by
  have : 2 ^ g ≤ 2 ^ 6 := Nat.pow_le_pow_right (by decide) hg
  have := pk_shlN (n := 1) (nI g &&& 31) g (s_l g (by omega)) (by omega)
  rw [Nat.one_mul] at this
  exact this
theorem qu_64 {g : Nat} (hg : g ≤ 6) : 2 ^ g ≤ 64 := Nat.pow_le_pow_right (n := 2) (j := 6) (by decide) hg
section QP
variable {S L C T M O N R E D G : Nat} {c ml lc ob ib lh par : Nat → Nat} {pr cc op : Int32} {cw dl rt br wh ls : Nat → Int32} {lf pa ro : Nat → Int64}
theorem qx_check {post : Int32 → Prop} {g : Nat} (hS : S ≤ 12) (hT2 : T ≤ 1000) (hc : ∀ s, s < S → c s ≤ 1000) (hg : g ≤ 6) (h0 : T = 0 → post (-4)) (h1 : T ≠ 0 → 2 ^ g < qu_n c S → post (-5)) (h2 : T ≠ 0 → qu_n c S ≤ 2 ^ g → post 0) : wpX_checkCounts post (nI S, nI L, nI C, nI T, nI M, pr, cc, nI O, nI N, op, nI G, nI R, nI E, nI D, qs_N c, qs_N ml, qs_N lc, cw, qs_N ob, qs_N ib, qs_N lh, dl, rt, br, lf, pa, ro, qs_N par, wh) (nI g) := by
  by_cases x : T = 0
  · exact br_t (by rw [x]; rfl) (h0 x)
  · have key : ∀ d i n, i + d = S → d < n → wX_checkCounts_14 post (nI g) (nI S) (nI L) (nI C) (nI T) (nI M) pr cc (nI O) (nI N) op (nI G) (nI R) (nI E) (nI D) (qs_N c) (qs_N ml) (qs_N lc) cw (qs_N ob) (qs_N ib) (qs_N lh) dl rt br lf pa ro (qs_N par) wh n (nI (qu_n c i)) (nI i) := by
      intro d
      induction d with
      | zero =>
        intro i n hi hn
        obtain ⟨n, rfl⟩ : ∃ m, n = m + 1 := ⟨n - 1, by omega⟩
        obtain rfl : i = S := by omega
        have a := qu_le c i
        have b := qu_64 hg
        refine br_t (nI_le (Nat.le_refl _) (by omega)) ?_
        rw [qu_sh hg]
        by_cases y : qu_n c i ≤ 2 ^ g
        · exact br_t (nI_le y (by omega)) (h2 x y)
        · exact br_f (nI_ge (by omega) (by omega)) (h1 x (by omega))
      | succ d ih =>
        intro i n hi hn
        obtain ⟨n, rfl⟩ : ∃ m, n = m + 1 := ⟨n - 1, by omega⟩
        refine br_f (nI_ge (by omega) (by omega)) ⟨vp_in_nI (by omega) (by decide), ?_⟩
        have := hc i (by omega)
        rw [qs_Nr _ (by omega)]
        by_cases y : c i = 0
        · refine br_t (by rw [y]; decide) (nm_r (nI_1 i) ?_)
          have := ih (i + 1) n (by omega) (by omega)
          rw [qu_z c y] at this
          exact this
        · exact br_f (nI_nle (by omega) (by omega)) (nm_r (e' := nI (qu_n c (i + 1))) (by rw [nI_1, qu_p c y]) (nm_r (nI_1 i) (ih (i + 1) n (by omega) (by omega))))
    exact br_f (nI_ne0 (by omega) (by omega)) ⟨S + 1, key S 0 (S + 1) (by omega) (by omega)⟩
theorem qy_used {post : Int32 → Prop} (hS : S ≤ 12) (hc : ∀ s, s < S → c s ≤ 1000) (hp : post (nI (qu_n c S))) : wpY_used post (nI S, nI L, nI C, nI M, pr, cc, nI O, nI N, op, nI R, nI E, nI D, qs_N c, qs_N ml, qs_N lc, qs_N ob, qs_N ib, qs_N lh, dl, ls, qs_N par) := by
  have key : ∀ d i n, i + d = S → d < n → wY_used_4 post (nI S) (nI L) (nI C) (nI M) pr cc (nI O) (nI N) op (nI R) (nI E) (nI D) (qs_N c) (qs_N ml) (qs_N lc) (qs_N ob) (qs_N ib) (qs_N lh) dl ls (qs_N par) n (nI (qu_n c i)) (nI i) := by
    intro d
    induction d with
    | zero =>
      intro i n hi hn
      obtain ⟨n, rfl⟩ : ∃ m, n = m + 1 := ⟨n - 1, by omega⟩
      obtain rfl : i = S := by omega
      exact br_t (nI_le (Nat.le_refl _) (by omega)) hp
    | succ d ih =>
      intro i n hi hn
      obtain ⟨n, rfl⟩ : ∃ m, n = m + 1 := ⟨n - 1, by omega⟩
      refine br_f (nI_ge (by omega) (by omega)) ⟨vp_in_nI (by omega) (by decide), ?_⟩
      have := hc i (by omega)
      rw [qs_Nr _ (by omega)]
      by_cases y : c i = 0
      · refine br_t (by rw [y]; decide) (nm_r (nI_1 i) ?_)
        have := ih (i + 1) n (by omega) (by omega)
        rw [qu_z c y] at this
        exact this
      · exact br_f (nI_nle (by omega) (by omega)) (nm_r (e' := nI (qu_n c (i + 1))) (by rw [nI_1, qu_p c y]) (nm_r (nI_1 i) (ih (i + 1) n (by omega) (by omega))))
  exact ⟨S + 1, key S 0 (S + 1) (by omega) (by omega)⟩
/-! the leaves -/
theorem qx_sl98 {post : Int32 → SX → Prop} {J4 : Int32 → Int32 → (Nat → Int32) → (Nat → Int32) → (Nat → Int32) → (Nat → Int32) → (Nat → Int32) → (Nat → Int32) → (Nat → Int32) → (Nat → Int32) → (Nat → Int32) → (Nat → Int32) → (Nat → Int64) → (Nat → Int64) → (Nat → Int64) → (Nat → Int32) → (Nat → Int32) → Prop} {o : Nat → Nat} {s u p : Nat} (hu : u ≤ 11) (hs : s ≤ 11) (hp : p ≤ u)
    (hsrt : qm_srt (fun i => qj_w c (o i)) u) (h1 : ∀ i, i < p → lf i = lN (qj_w c (o i))) (h2 : ∀ i, p < i → i ≤ u → lf i = lN (qj_w c (o (i - 1))))
    (h3 : ∀ i, i < p → qj_w c (o i) ≤ qj_w c s) (h4 : ∀ i, p ≤ i → i < u → qj_w c s ≤ qj_w c (o i))
    (hJ : ∀ lf', (∀ i, i < u + 1 → lf' i = lN (qj_w c (qj_ins o p s i))) → qm_srt (fun i => qj_w c (qj_ins o p s i)) (u + 1) → J4 (nI (u + 1)) (nI (s + 1)) (qs_N c) (qs_N ml) (qs_N lc) cw (qs_N ob) (qs_N ib) (qs_N lh) dl rt br lf' pa ro (qs_N par) wh) :
    wX_sortLeaves_98 post J4 (nI u) (nI s) (lN (qj_w c s)) (nI p) (nI S) (nI L) (nI C) (nI T) (nI M) pr cc (nI O) (nI N) op (nI G) (nI R) (nI E) (nI D) (qs_N c) (qs_N ml) (qs_N lc) cw (qs_N ob) (qs_N ib) (qs_N lh) dl rt br lf pa ro (qs_N par) wh := by
  refine ⟨vp_in_nI (by omega) (by decide), nm_r (e' := vp_updL lf p (lN (qj_w c s))) (by rw [nI_clamp (by omega)]) (nm_r (nI_1 u) (nm_r (nI_1 s) (hJ _ (fun i hi => ?_) (fun i j hij hj => ?_))))⟩
  · rw [qj_ins]
    by_cases x : i = p
    · subst x; rw [pk_uLs, if_neg (by omega), if_pos rfl]
    · rw [pk_uLn x]
      by_cases y : i < p
      · rw [if_pos y]; exact h1 i y
      · rw [if_neg y, if_neg x]; exact h2 i (by omega) (by omega)
  · show qj_w c (qj_ins o p s i) ≤ qj_w c (qj_ins o p s j)
    rw [qj_ins, qj_ins]
    by_cases x : j < p
    · rw [if_pos x, if_pos (by omega)]; exact hsrt i j hij (by omega)
    · rw [if_neg x]
      by_cases y : j = p
      · rw [if_pos y]
        by_cases z : i < p
        · rw [if_pos z]; exact h3 i z
        · rw [if_neg z, if_pos (by omega)]; exact Nat.le_refl _
      · rw [if_neg y]
        by_cases z : i < p
        · rw [if_pos z]; exact hsrt i (j - 1) (by omega) (by omega)
        · rw [if_neg z]
          by_cases q : i = p
          · rw [if_pos q]; exact h4 (j - 1) (by omega) (by omega)
          · rw [if_neg q]; exact hsrt (i - 1) (j - 1) (by omega) (by omega)
theorem qx_sl50 {post : Int32 → SX → Prop} {J4 : Int32 → Int32 → (Nat → Int32) → (Nat → Int32) → (Nat → Int32) → (Nat → Int32) → (Nat → Int32) → (Nat → Int32) → (Nat → Int32) → (Nat → Int32) → (Nat → Int32) → (Nat → Int32) → (Nat → Int64) → (Nat → Int64) → (Nat → Int64) → (Nat → Int32) → (Nat → Int32) → Prop} {o : Nat → Nat} {s u : Nat} (hu : u ≤ 11) (hs : s ≤ 11)
    (hsrt : qm_srt (fun i => qj_w c (o i)) u) (hwo : ∀ i, i < u → qj_w c (o i) < 2 ^ 63) (hws : qj_w c s < 2 ^ 63)
    (hJ : ∀ p lf', p ≤ u → (∀ i, i < u + 1 → lf' i = lN (qj_w c (qj_ins o p s i))) → qm_srt (fun i => qj_w c (qj_ins o p s i)) (u + 1) → J4 (nI (u + 1)) (nI (s + 1)) (qs_N c) (qs_N ml) (qs_N lc) cw (qs_N ob) (qs_N ib) (qs_N lh) dl rt br lf' pa ro (qs_N par) wh) :
    ∀ p n lf, p ≤ u → p < n → (∀ i, i < p → lf i = lN (qj_w c (o i))) → (∀ i, p < i → i ≤ u → lf i = lN (qj_w c (o (i - 1)))) → (∀ i, p ≤ i → i < u → qj_w c s ≤ qj_w c (o i)) →
    wX_sortLeaves_50 post J4 (nI u) (nI s) (lN (qj_w c s)) (nI S) (nI L) (nI C) (nI T) (nI M) pr cc (nI O) (nI N) op (nI G) (nI R) (nI E) (nI D) n (nI p) (nI p) (qs_N c) (qs_N ml) (qs_N lc) cw (qs_N ob) (qs_N ib) (qs_N lh) dl rt br lf pa ro (qs_N par) wh := by
  intro p
  induction p with
  | zero =>
    intro n lf hp hn h1 h2 h4
    obtain ⟨n, rfl⟩ : ∃ m, n = m + 1 := ⟨n - 1, by omega⟩
    exact br_t (by decide) (qx_sl98 hu hs hp hsrt h1 h2 (fun i hi => by omega) h4 (fun lf' => hJ 0 lf' hp))
  | succ p ih =>
    intro n lf hp hn h1 h2 h4
    obtain ⟨n, rfl⟩ : ∃ m, n = m + 1 := ⟨n - 1, by omega⟩
    have wp := hwo p (by omega)
    refine br_f (nI_nle (by omega) (by omega)) ?_
    rw [nI_pred, nI_clamp (show p < 2 ^ 31 by omega), h1 p (by omega), pk_m1]
    refine ⟨vp_in_nI (by omega) (by decide), ?_⟩
    by_cases x : qj_w c (o p) ≤ qj_w c s
    · refine br_t ((pk_lLE wp hws).mpr x) (qx_sl98 hu hs hp hsrt h1 h2 (fun i hi => ?_) h4 (fun lf' => hJ (p + 1) lf' hp))
      have := hsrt i p (by omega) (by omega)
      exact Nat.le_trans this x
    · refine br_f (fun y => x ((pk_lLE wp hws).mp y)) ⟨vp_in_nI (by omega) (by decide), vp_in_nI (by omega) (by decide), nm_r (e' := vp_updL lf (p + 1) (lN (qj_w c (o p)))) (by rw [nI_clamp (by omega)]) (nm_e (nm_e (ih n _ (by omega) (by omega) (fun i hi => ?_) (fun i hi hi2 => ?_) (fun i hi hi2 => ?_))))⟩
      · rw [pk_uLn (by omega)]; exact h1 i (by omega)
      · by_cases y : i = p + 1
        · subst y; rw [pk_uLs, Nat.add_sub_cancel]
        · rw [pk_uLn y]; exact h2 i (by omega) hi2
      · by_cases y : i = p
        · subst y; omega
        · exact h4 i (by omega) hi2
theorem qx_wt {s : Nat} (hs : s ≤ 11) (hc : c s ≤ 1000) : (((nI (c s)).toInt64) <<< ((36 : Int32).toInt64 &&& 63)) + ((1 : Int64) <<< ((3 * (11 - nI s)).toInt64 &&& 63)) = lN (qj_w c s) := by
  have e1 : (3 : Int32) * (11 - nI s) = nI (3 * (11 - s)) := by
    show nI 3 * (nI 11 - nI s) = _
    rw [pk_sub hs, pk_mul]
  have e2 : lN (c s) <<< ((36 : Int32).toInt64 &&& 63) = lN (c s * 2 ^ 36) := wb_shl (c s) (k := 36) (by decide)
  have e3 : (1 : Int64) <<< ((nI (3 * (11 - s))).toInt64 &&& 63) = lN (1 * 2 ^ (3 * (11 - s))) := wb_shl 1 (k := 3 * (11 - s)) (by omega)
  rw [nI_l (by omega), e2, e1, e3, lN_add, Nat.one_mul, Nat.pow_mul]
  rfl
theorem qx_wb {s : Nat} (hc : c s ≤ 1000) : qj_w c s < 2 ^ 63 := by
  have q : 8 ^ (11 - s) ≤ 8 ^ 11 := Nat.pow_le_pow_right (by decide) (by omega)
  have r : c s * 2 ^ 36 ≤ 1000 * 2 ^ 36 := Nat.mul_le_mul_right _ hc
  exact Nat.lt_of_le_of_lt (Nat.add_le_add r q) (by decide)
theorem qx_sort {post : Int32 → SX → Prop} (hS : S ≤ 12) (hc : ∀ s, s < S → c s ≤ 1000)
    (hp : ∀ o lf', qj_P c o S (qu_n c S) → qm_srt (fun i => qj_w c (o i)) (qu_n c S) → (∀ i, i < qu_n c S → lf' i = lN (qj_w c (o i))) → post (nI (qu_n c S)) (nI S, nI L, nI C, nI T, nI M, pr, cc, nI O, nI N, op, nI G, nI R, nI E, nI D, qs_N c, qs_N ml, qs_N lc, cw, qs_N ob, qs_N ib, qs_N lh, dl, rt, br, lf', pa, ro, qs_N par, wh)) : wpX_sortLeaves post (nI S, nI L, nI C, nI T, nI M, pr, cc, nI O, nI N, op, nI G, nI R, nI E, nI D, qs_N c, qs_N ml, qs_N lc, cw, qs_N ob, qs_N ib, qs_N lh, dl, rt, br, lf, pa, ro, qs_N par, wh) := by
  have key : ∀ d s n o lf, s + d = S → d < n → qj_P c o s (qu_n c s) → qm_srt (fun i => qj_w c (o i)) (qu_n c s) → (∀ i, i < qu_n c s → lf i = lN (qj_w c (o i))) → wX_sortLeaves_4 post (nI S) (nI L) (nI C) (nI T) (nI M) pr cc (nI O) (nI N) op (nI G) (nI R) (nI E) (nI D) n (nI (qu_n c s)) (nI s) (qs_N c) (qs_N ml) (qs_N lc) cw (qs_N ob) (qs_N ib) (qs_N lh) dl rt br lf pa ro (qs_N par) wh := by
    intro d
    induction d with
    | zero =>
      intro s n o lf hs hn h1 h2 h3
      obtain ⟨n, rfl⟩ : ∃ m, n = m + 1 := ⟨n - 1, by omega⟩
      obtain rfl : s = S := by omega
      exact br_t (nI_le (Nat.le_refl _) (by omega)) (hp o lf h1 h2 h3)
    | succ d ih =>
      intro s n o lf hs hn h1 h2 h3
      obtain ⟨n, rfl⟩ : ∃ m, n = m + 1 := ⟨n - 1, by omega⟩
      have cs := hc s (by omega)
      have un := qu_le c s
      refine br_f (nI_ge (by omega) (by omega)) ⟨vp_in_nI (by omega) (by decide), ?_⟩
      rw [qs_Nr c (show s < 2 ^ 31 by omega)]
      by_cases y : c s = 0
      · refine br_t (by rw [y]; decide) (nm_r (nI_1 s) ?_)
        have := ih (s + 1) n o lf (by omega) (by omega)
        rw [qu_z c y] at this
        refine this (fun f => ?_) h2 h3
        rw [qs_1, if_pos y, Nat.add_zero]
        exact h1 f
      · refine br_f (nI_nle (by omega) (by omega)) (nm_e ⟨vp_in_nI (by omega) (by decide), nm_r (qx_wt (by omega) cs) ⟨qu_n c s + 1, qx_sl50 (by omega) (by omega) h2 (fun i hi => ?_) (qx_wb cs) (fun p lf' pu q1 q2 => ?_) (qu_n c s) (qu_n c s + 1) lf (Nat.le_refl _) (by omega) h3 (fun i a b => by omega) (fun i a b => by omega)⟩⟩)
        · exact qx_wb (hc _ (by have := (qj_in h1 hi).1; omega))
        · have := ih (s + 1) n (qj_ins o p s) lf' (by omega) (by omega)
          rw [qu_p c y] at this
          refine this (fun f => ?_) q2 q1
          rw [qj_ins_s o f p s _ pu, h1 f, qs_1, if_neg y]
  have e0 : qu_n c 0 = 0 := rfl
  have := key S 0 (S + 1) (fun _ => 0) lf (by omega) (by omega) (fun f => rfl) (fun i j _ hj => by omega) (fun i hi => by omega)
  rw [e0] at this
  exact ⟨_, this⟩
end QP
end
section
/-! the component's package-merge: the rows -/
theorem qm_zb {n : Nat} (hn : 1 ≤ n) : ∀ k, qm_z n k ≤ 2 * n - 1 := by
  intro k
  induction k with
  | zero => exact Nat.zero_le _
  | succ k ih =>
    rw [qm_z]
    omega
theorem qx_lr {f : Nat → Int64} {A : Nat → Nat} {n i : Nat} (hf : ∀ j, j < n → f j = lN (A j)) (hi : i < n) (hn : n < 2 ^ 31) : f (nI i).toNatClampNeg = lN (A i) := by
  rw [nI_clamp (by omega)]; exact hf i hi
section QM
variable {S L C T M O N R E D G : Nat} {c ml lc ob ib lh par : Nat → Nat} {pr cc op : Int32} {cw dl rt br wh ls : Nat → Int32} {lf pa ro : Nat → Int64}
theorem qx_merge {post : Int32 → SX → Prop} {A B : Nat → Nat} {n p : Nat} (hA : qm_srt A n) (hB : qm_srt B p) (hn : n ≤ 12) (hp12 : p ≤ 12) (hnp : n + p ≤ 24)
    (hl : ∀ i, i < n → lf i = lN (A i)) (hq : ∀ j, j < p → pa j = lN (B j)) (bA : ∀ i, i < n → A i < 2 ^ 63) (bB : ∀ j, j < p → B j < 2 ^ 63)
    (hp : ∀ ro', (∀ i, i < n + p → ro' i = lN (qm_r A n B p i)) → post (nI (n + p)) (nI S, nI L, nI C, nI T, nI M, pr, cc, nI O, nI N, op, nI G, nI R, nI E, nI D, qs_N c, qs_N ml, qs_N lc, cw, qs_N ob, qs_N ib, qs_N lh, dl, rt, br, lf, pa, ro', qs_N par, wh)) : wpX_mergeRow post (nI S, nI L, nI C, nI T, nI M, pr, cc, nI O, nI N, op, nI G, nI R, nI E, nI D, qs_N c, qs_N ml, qs_N lc, cw, qs_N ob, qs_N ib, qs_N lh, dl, rt, br, lf, pa, ro, qs_N par, wh) (nI n) (nI p) := by
  have key : ∀ d k m a b ro, k + d = n + p → d < m → qm_p A n B p k = (a, b) → (∀ i, i < k → ro i = lN (qm_r A n B p i)) → wX_mergeRow_13 post (nI n) (nI p) (nI (n + p)) (nI S) (nI L) (nI C) (nI T) (nI M) pr cc (nI O) (nI N) op (nI G) (nI R) (nI E) (nI D) m (nI a) (nI b) (nI k) (qs_N c) (qs_N ml) (qs_N lc) cw (qs_N ob) (qs_N ib) (qs_N lh) dl rt br lf pa ro (qs_N par) wh := by
    intro d
    induction d with
    | zero =>
      intro k m a b ro hk hm e hr
      obtain ⟨m, rfl⟩ : ∃ q, m = q + 1 := ⟨m - 1, by omega⟩
      obtain rfl : k = n + p := by omega
      exact br_t (nI_le (Nat.le_refl _) (by omega)) (hp ro hr)
    | succ d ih =>
      intro k m a b ro hk hm e hr
      obtain ⟨m, rfl⟩ : ∃ q, m = q + 1 := ⟨m - 1, by omega⟩
      obtain ⟨a', b', e', i1, i2, i3, -⟩ := qm_inv hA hB k (by omega)
      obtain ⟨rfl, rfl⟩ : a' = a ∧ b' = b := by rw [e] at e'; exact ⟨(Prod.mk.inj e').1.symm, (Prod.mk.inj e').2.symm⟩
      have stp : ∀ v, ∀ i, i < k + 1 → (v = qm_r A n B p k) → vp_updL ro k (lN v) i = lN (qm_r A n B p i) := by
        intro v i hi ev
        by_cases x : i = k
        · subst x; rw [pk_uLs, ev]
        · rw [pk_uLn x]; exact hr i (by omega)
      have tA : qm_c A n B p a' b' = true → a' < n → wX_mergeRow_49 post (wX_mergeRow_13 post (nI n) (nI p) (nI (n + p)) (nI S) (nI L) (nI C) (nI T) (nI M) pr cc (nI O) (nI N) op (nI G) (nI R) (nI E) (nI D) m) (nI n) (nI p) (nI (n + p)) (nI a') (nI b') (nI k) (nI S) (nI L) (nI C) (nI T) (nI M) pr cc (nI O) (nI N) op (nI G) (nI R) (nI E) (nI D) (qs_N c) (qs_N ml) (qs_N lc) cw (qs_N ob) (qs_N ib) (qs_N lh) dl rt br lf pa ro (qs_N par) wh := by
        intro c1 c2
        obtain ⟨s1, s2⟩ := qm_p_t e c1
        refine ⟨vp_in_nI (by omega) (by decide), vp_in_nI (by omega) (by decide), nm_r (e' := vp_updL ro k (lN (A a'))) (by rw [nI_clamp (show k < 2 ^ 31 by omega), qx_lr hl c2 (by omega)]) (nm_r (nI_1 a') (nm_r (nI_1 k) (ih (k + 1) m _ _ _ (by omega) (by omega) s1 (fun i hi => stp _ i hi s2.symm))))⟩
      have tB : qm_c A n B p a' b' = false → b' < p → wX_mergeRow_69 post (wX_mergeRow_13 post (nI n) (nI p) (nI (n + p)) (nI S) (nI L) (nI C) (nI T) (nI M) pr cc (nI O) (nI N) op (nI G) (nI R) (nI E) (nI D) m) (nI n) (nI p) (nI (n + p)) (nI a') (nI b') (nI k) (nI S) (nI L) (nI C) (nI T) (nI M) pr cc (nI O) (nI N) op (nI G) (nI R) (nI E) (nI D) (qs_N c) (qs_N ml) (qs_N lc) cw (qs_N ob) (qs_N ib) (qs_N lh) dl rt br lf pa ro (qs_N par) wh := by
        intro c1 c2
        obtain ⟨s1, s2⟩ := qm_p_f e c1
        refine ⟨vp_in_nI (by omega) (by decide), vp_in_nI (by omega) (by decide), nm_r (e' := vp_updL ro k (lN (B b'))) (by rw [nI_clamp (show k < 2 ^ 31 by omega), qx_lr hq c2 (by omega)]) (nm_r (nI_1 b') (nm_r (nI_1 k) (ih (k + 1) m _ _ _ (by omega) (by omega) s1 (fun i hi => stp _ i hi s2.symm))))⟩
      refine br_f (nI_ge (by omega) (by omega)) ?_
      by_cases x : p ≤ b'
      · exact br_t (nI_le x (by omega)) (tA (qm_c_t.mpr (Or.inl x)) (by omega))
      · refine br_f (nI_ge (by omega) (by omega)) ?_
        by_cases y : n ≤ a'
        · exact br_t (nI_le y (by omega)) (tB (qm_c_f.mpr ⟨by omega, Or.inl y⟩) (by omega))
        · refine br_f (nI_ge (by omega) (by omega)) ⟨vp_in_nI (by omega) (by decide), vp_in_nI (by omega) (by decide), ?_⟩
          rw [qx_lr hl (show a' < n by omega) (by omega), qx_lr hq (show b' < p by omega) (by omega)]
          by_cases z : B b' < A a'
          · exact br_t ((pk_lLT (bB b' (by omega)) (bA a' (by omega))).mpr z) (tB (qm_c_f.mpr ⟨by omega, Or.inr z⟩) (by omega))
          · exact br_f (fun q => z ((pk_lLT (bB b' (by omega)) (bA a' (by omega))).mp q)) (tA (qm_c_t.mpr (Or.inr ⟨by omega, by omega⟩)) (by omega))
  exact nm_r (nI_add n p) ⟨n + p + 1, key (n + p) 0 (n + p + 1) 0 0 ro (by omega) (by omega) rfl (fun i hi => by omega)⟩
theorem qx_pm148 {post : Int64 → SX → Prop} {Q : Nat → Nat} {t z : Nat} (htz : t ≤ z) (hz : z ≤ 24) (hr : ∀ i, i < z → ro i = lN (Q i)) (hp : post (lN (qs_s Q t)) (nI S, nI L, nI C, nI T, nI M, pr, cc, nI O, nI N, op, nI G, nI R, nI E, nI D, qs_N c, qs_N ml, qs_N lc, cw, qs_N ob, qs_N ib, qs_N lh, dl, rt, br, lf, pa, ro, qs_N par, wh)) : ∀ d i n, i + d = t → d < n → wX_packageMerge_148 post (nI t) (nI S) (nI L) (nI C) (nI T) (nI M) pr cc (nI O) (nI N) op (nI G) (nI R) (nI E) (nI D) (qs_N c) (qs_N ml) (qs_N lc) cw (qs_N ob) (qs_N ib) (qs_N lh) dl rt br lf pa ro (qs_N par) wh n (lN (qs_s Q i)) (nI i) := by
  intro d
  induction d with
  | zero =>
    intro i n hi hn
    obtain ⟨n, rfl⟩ : ∃ m, n = m + 1 := ⟨n - 1, by omega⟩
    obtain rfl : i = t := by omega
    exact br_t (nI_le (Nat.le_refl _) (by omega)) hp
  | succ d ih =>
    intro i n hi hn
    obtain ⟨n, rfl⟩ : ∃ m, n = m + 1 := ⟨n - 1, by omega⟩
    exact br_f (nI_ge (by omega) (by omega)) ⟨vp_in_nI (by omega) (by decide), nm_r (e' := lN (qs_s Q (i + 1))) (by rw [qx_lr hr (by omega) (by omega), lN_add]; rfl) (nm_r (nI_1 i) (ih (i + 1) n (by omega) (by omega)))⟩
theorem qx_pm71 {post : Int64 → SX → Prop} {J57 : Int32 → Int32 → Int32 → Int32 → Int32 → Int32 → Int32 → Int32 → Int32 → Int32 → Int32 → Int32 → Int32 → Int32 → Int32 → Int32 → (Nat → Int32) → (Nat → Int32) → (Nat → Int32) → (Nat → Int32) → (Nat → Int32) → (Nat → Int32) → (Nat → Int32) → (Nat → Int32) → (Nat → Int32) → (Nat → Int32) → (Nat → Int64) → (Nat → Int64) → (Nat → Int64) → (Nat → Int32) → (Nat → Int32) → Prop} {A Q : Nat → Nat} {g n z k : Nat} (hA : qm_srt A n) (hQ : qm_srt Q z) (hn1 : 1 ≤ n) (hn : n ≤ 12) (hz : z ≤ 2 * n - 1)
    (hl : ∀ i, i < n → lf i = lN (A i)) (hr : ∀ i, i < z → ro i = lN (Q i)) (bA : ∀ i, i < n → A i < 2 ^ 63) (bQ : qs_s Q z < 2 ^ 63)
    (hJ : ∀ pa' ro', (∀ i, i < n + z / 2 → ro' i = lN (qm_r A n (qm_pk Q) (z / 2) i)) → J57 (nI (n + z / 2)) (nI (k + 1)) (nI S) (nI L) (nI C) (nI T) (nI M) pr cc (nI O) (nI N) op (nI G) (nI R) (nI E) (nI D) (qs_N c) (qs_N ml) (qs_N lc) cw (qs_N ob) (qs_N ib) (qs_N lh) dl rt br lf pa' ro' (qs_N par) wh) :
    ∀ d i m pa, i + d = z / 2 → d < m → (∀ j, j < i → pa j = lN (qm_pk Q j)) → wX_packageMerge_71 post J57 (nI g) (nI n) (nI k) (nI (z / 2)) (nI S) (nI L) (nI C) (nI T) (nI M) pr cc (nI O) (nI N) op (nI G) (nI R) (nI E) (nI D) m (nI i) (qs_N c) (qs_N ml) (qs_N lc) cw (qs_N ob) (qs_N ib) (qs_N lh) dl rt br lf pa ro (qs_N par) wh := by
  intro d
  induction d with
  | zero =>
    intro i m pa hi hm hq
    obtain ⟨m, rfl⟩ : ∃ q, m = q + 1 := ⟨m - 1, by omega⟩
    obtain rfl : i = z / 2 := by omega
    refine br_t (nI_le (Nat.le_refl _) (by omega)) (qx_merge hA (qm_pk_srt hQ) hn (by omega) (by omega) hl hq bA (fun j hj => ?_) (fun ro' hr' => nm_r (nI_1 k) (hJ pa ro' hr')))
    have b1 := qs_tm (qm_pk Q) hj
    rw [qm_pk_s] at b1
    have b2 := qs_mono Q (show 2 * (z / 2) ≤ z by omega)
    exact Nat.lt_of_le_of_lt (Nat.le_trans b1 b2) bQ
  | succ d ih =>
    intro i m pa hi hm hq
    obtain ⟨m, rfl⟩ : ∃ q, m = q + 1 := ⟨m - 1, by omega⟩
    have e1 : (2 : Int32) * nI i = nI (2 * i) := pk_mul 2 i
    refine br_f (nI_ge (by omega) (by omega)) ?_
    rw [e1, nI_1]
    refine ⟨vp_in_nI (by omega) (by decide), vp_in_nI (by omega) (by decide), vp_in_nI (by omega) (by decide), nm_r (e' := vp_updL pa i (lN (qm_pk Q i))) ?_ (nm_r (nI_1 i) (ih (i + 1) m _ (by omega) (by omega) (fun j hj => ?_)))⟩
    · rw [nI_clamp (show i < 2 ^ 31 by omega), qx_lr hr (show 2 * i < z by omega) (by omega), qx_lr hr (show 2 * i + 1 < z by omega) (by omega), lN_add]
      rfl
    · by_cases x : j = i
      · subst x; rw [pk_uLs]
      · rw [pk_uLn x]; exact hq j (by omega)
theorem qx_pm57 {post : Int64 → SX → Prop} {A : Nat → Nat} {g n : Nat} (hA : qm_srt A n) (hn1 : 1 ≤ n) (hn : n ≤ 12) (hg : g ≤ 6) (ht : 2 * n - 2 ≤ qm_z n g)
    (hl : ∀ i, i < n → lf i = lN (A i)) (bA : qs_s A n ≤ 1002 * 2 ^ 36)
    (hp : ∀ pa ro, post (lN (qs_s (qm_w A n g) (2 * n - 2))) (nI S, nI L, nI C, nI T, nI M, pr, cc, nI O, nI N, op, nI G, nI R, nI E, nI D, qs_N c, qs_N ml, qs_N lc, cw, qs_N ob, qs_N ib, qs_N lh, dl, rt, br, lf, pa, ro, qs_N par, wh)) :
    ∀ d k m pa ro, k + d = g → 1 ≤ k → d < m → (∀ i, i < qm_z n k → ro i = lN (qm_w A n k i)) → wX_packageMerge_57 post (nI g) (nI n) m (nI (qm_z n k)) (nI k) (nI S) (nI L) (nI C) (nI T) (nI M) pr cc (nI O) (nI N) op (nI G) (nI R) (nI E) (nI D) (qs_N c) (qs_N ml) (qs_N lc) cw (qs_N ob) (qs_N ib) (qs_N lh) dl rt br lf pa ro (qs_N par) wh := by
  intro d
  induction d with
  | zero =>
    intro k m pa ro hk h1 hm hr
    obtain ⟨m, rfl⟩ : ∃ q, m = q + 1 := ⟨m - 1, by omega⟩
    obtain rfl : k = g := by omega
    have zb := qm_zb hn1 k
    have e : (2 * nI n) - 2 = nI (2 * n - 2) := by
      show nI 2 * nI n - nI 2 = _
      rw [pk_mul, pk_sub (by omega)]
    exact br_t (nI_le (Nat.le_refl _) (by omega)) (nm_r e (br_t (nI_le ht (by omega)) ⟨2 * n - 2 + 1, qx_pm148 ht (by omega) hr (hp pa ro) (2 * n - 2) 0 (2 * n - 2 + 1) (by omega) (by omega)⟩))
  | succ d ih =>
    intro k m pa ro hk h1 hm hr
    obtain ⟨m, rfl⟩ : ∃ q, m = q + 1 := ⟨m - 1, by omega⟩
    have zb := qm_zb hn1 k
    have e : nI (qm_z n k) >>> ((1 : Int32) &&& 31) = nI (qm_z n k / 2) := pk_shrN (by omega) ((1 : Int32) &&& 31) 1 (by decide)
    have bk : k * qs_s A n ≤ 6 * (1002 * 2 ^ 36) := Nat.mul_le_mul (by omega) bA
    refine br_f (nI_ge (by omega) (by omega)) (nm_r e ⟨qm_z n k / 2 + 1, qx_pm71 hA (qm_Gall hA k).1 hn1 hn zb hl hr (fun i hi => ?_) ?_ (fun pa' ro' hr' => ?_) (qm_z n k / 2) 0 (qm_z n k / 2 + 1) pa (by omega) (by omega) (fun j hj => by omega)⟩)
    · exact Nat.lt_of_le_of_lt (Nat.le_trans (qs_tm A hi) bA) (by decide)
    · exact Nat.lt_of_le_of_lt (Nat.le_trans (qm_bd hA k) bk) (by decide)
    · exact ih (k + 1) m pa' ro' (by omega) (by omega) (by omega) hr'
theorem qx_pm28 {post : Int64 → SX → Prop} {A : Nat → Nat} {g n : Nat} (hA : qm_srt A n) (hn1 : 1 ≤ n) (hn : n ≤ 12) (hg1 : 1 ≤ g) (hg : g ≤ 6) (ht : 2 * n - 2 ≤ qm_z n g)
    (hl : ∀ i, i < n → lf i = lN (A i)) (bA : qs_s A n ≤ 1002 * 2 ^ 36)
    (hp : ∀ pa ro, post (lN (qs_s (qm_w A n g) (2 * n - 2))) (nI S, nI L, nI C, nI T, nI M, pr, cc, nI O, nI N, op, nI G, nI R, nI E, nI D, qs_N c, qs_N ml, qs_N lc, cw, qs_N ob, qs_N ib, qs_N lh, dl, rt, br, lf, pa, ro, qs_N par, wh)) :
    ∀ d i m ro, i + d = n → d < m → (∀ j, j < i → ro j = lN (A j)) → wX_packageMerge_28 post (nI g) (nI n) (nI n) (nI S) (nI L) (nI C) (nI T) (nI M) pr cc (nI O) (nI N) op (nI G) (nI R) (nI E) (nI D) m (nI i) (qs_N c) (qs_N ml) (qs_N lc) cw (qs_N ob) (qs_N ib) (qs_N lh) dl rt br lf pa ro (qs_N par) wh := by
  intro d
  induction d with
  | zero =>
    intro i m ro hi hm hr
    obtain ⟨m, rfl⟩ : ∃ q, m = q + 1 := ⟨m - 1, by omega⟩
    obtain rfl : i = n := by omega
    have e : qm_z i 1 = i := by simp [qm_z]
    have := qx_pm57 hA hn1 hn hg ht hl bA hp (g - 1) 1 g pa ro (by omega) (by omega) (by omega) (fun j hj => by rw [qm_w1]; exact hr j (by rw [e] at hj; exact hj))
    rw [e] at this
    exact br_t (nI_le (Nat.le_refl _) (by omega)) ⟨g, this⟩
  | succ d ih =>
    intro i m ro hi hm hr
    obtain ⟨m, rfl⟩ : ∃ q, m = q + 1 := ⟨m - 1, by omega⟩
    refine br_f (nI_ge (by omega) (by omega)) ⟨vp_in_nI (by omega) (by decide), vp_in_nI (by omega) (by decide), nm_r (e' := vp_updL ro i (lN (A i))) (by rw [nI_clamp (show i < 2 ^ 31 by omega), hl i (by omega)]) (nm_r (nI_1 i) (ih (i + 1) m _ (by omega) (by omega) (fun j hj => ?_)))⟩
    by_cases x : j = i
    · subst x; rw [pk_uLs]
    · rw [pk_uLn x]; exact hr j (by omega)
theorem qx_pm {post : Int64 → SX → Prop} {g : Nat} {l0 : Nat → Nat} (hS : S ≤ 12) (hT2 : qs_s c S ≤ 1000) (hg1 : 1 ≤ g) (hg : g ≤ 6) (hu1 : 1 ≤ qu_n c S) (hug : qu_n c S ≤ 2 ^ g) (O0 : qd_O c g S S (2 ^ g) l0)
    (hp : ∀ lf pa ro, post (lN (qd_D c g S S (2 ^ g) * 2 ^ 36 + qd_l S S l0)) (nI S, nI L, nI C, nI T, nI M, pr, cc, nI O, nI N, op, nI G, nI R, nI E, nI D, qs_N c, qs_N ml, qs_N lc, cw, qs_N ob, qs_N ib, qs_N lh, dl, rt, br, lf, pa, ro, qs_N par, wh)) : wpX_packageMerge post (nI S, nI L, nI C, nI T, nI M, pr, cc, nI O, nI N, op, nI G, nI R, nI E, nI D, qs_N c, qs_N ml, qs_N lc, cw, qs_N ob, qs_N ib, qs_N lh, dl, rt, br, lf, pa, ro, qs_N par, wh) (nI g) := by
  have hc : ∀ s, s < S → c s ≤ 1000 := fun s hs => Nat.le_trans (qs_tm c hs) hT2
  have hu := qu_le c S
  unfold wpX_packageMerge
  dsimp only
  refine qx_sort hS hc (fun o lf' h1 h2 h3 => ?_)
  refine br_f (nI_ne0 (by omega) (by omega)) ?_
  by_cases x : qu_n c S = 1
  · refine br_t (by rw [x]; rfl) ?_
    rw [x] at h1
    have e := qj_one h1 hg1 O0
    show post (lf' 0) (nI S, nI L, nI C, nI T, nI M, pr, cc, nI O, nI N, op, nI G, nI R, nI E, nI D, qs_N c, qs_N ml, qs_N lc, cw, qs_N ob, qs_N ib, qs_N lh, dl, rt, br, lf', pa, ro, qs_N par, wh)
    rw [h3 0 (by omega), e]
    exact hp _ _ _
  · obtain ⟨t1, t2⟩ := qj_two h1 h2 hug (by omega) O0
    refine br_f (fun y => x ((nI_eq (b := 1) (by omega) (by decide)).mp y)) ⟨qu_n c S + 1, qx_pm28 h2 hu1 (by omega) hg1 hg t1 h3 (qj_bd h1 hS hT2) (fun pa ro => ?_) (qu_n c S) 0 (qu_n c S + 1) ro (by omega) (by omega) (fun j hj => by omega)⟩
    rw [t2]
    exact hp _ _ _
end QM
end
section
/-! the reference's table and lengths; build, leastCost -/
theorem qd_Ds {c : Nat → Nat} {g S s : Nat} (hs : s < S) (r : Nat) : qd_D c g S (S - s) r = if c s = 0 then qd_D c g S (S - (s + 1)) r else qd_m (c s) g r (qd_D c g S (S - (s + 1))) g := by
  have e1 : S - (S - (s + 1) + 1) = s := by omega
  have e2 : S - s = S - (s + 1) + 1 := by omega
  rw [e2, qd_D1, e1]
theorem qd_exs {c : Nat → Nat} {g S s r : Nat} (hs : s < S) (z : c s ≠ 0) (h : qd_D c g S (S - s) r < 1000000) :
    ∃ e, 1 ≤ e ∧ e ≤ g ∧ 2 ^ (g - e) ≤ r ∧ c s * e + qd_D c g S (S - (s + 1)) (r - 2 ^ (g - e)) = qd_D c g S (S - s) r ∧
      (∀ i, 1 ≤ i → i < e → 2 ^ (g - i) ≤ r → c s * i + qd_D c g S (S - (s + 1)) (r - 2 ^ (g - i)) ≠ qd_D c g S (S - s) r) ∧ qd_D c g S (S - (s + 1)) (r - 2 ^ (g - e)) < 1000000 := by
  have e1 : S - (S - (s + 1) + 1) = s := by omega
  have e2 : S - s = S - (s + 1) + 1 := by omega
  have := qd_ex (c := c) (g := g) (S := S) (k := S - (s + 1)) (r := r)
  rw [e1, ← e2] at this
  exact this z h
theorem qd_Ozs {c : Nat → Nat} {g S s r : Nat} {l : Nat → Nat} (hs : s < S) (z : c s = 0) (l0 : l s = 0) (h : qd_O c g S (S - (s + 1)) r l) : qd_O c g S (S - s) r l := by
  have e1 : S - (S - (s + 1) + 1) = s := by omega
  have e2 : S - s = S - (s + 1) + 1 := by omega
  have := qd_Oz (c := c) (g := g) (S := S) (k := S - (s + 1)) (r := r) (l := l) (by omega)
  rw [e1, ← e2] at this
  exact this z l0 h
theorem qd_Ops {c : Nat → Nat} {g S s r : Nat} {l : Nat → Nat} (hS : S ≤ 12) (hg : g ≤ 6) (hs : s < S) (z : c s ≠ 0) {e : Nat} (le : l s = e) (e1 : 1 ≤ e) (e2 : e ≤ g) (e3 : 2 ^ (g - e) ≤ r)
    (e4 : c s * e + qd_D c g S (S - (s + 1)) (r - 2 ^ (g - e)) = qd_D c g S (S - s) r)
    (e5 : ∀ i, 1 ≤ i → i < e → 2 ^ (g - i) ≤ r → c s * i + qd_D c g S (S - (s + 1)) (r - 2 ^ (g - i)) ≠ qd_D c g S (S - s) r)
    (h : qd_O c g S (S - (s + 1)) (r - 2 ^ (g - e)) l) : qd_O c g S (S - s) r l := by
  have q1 : S - (S - (s + 1) + 1) = s := by omega
  have q2 : S - s = S - (s + 1) + 1 := by omega
  have := qd_Op (c := c) (g := g) (S := S) (k := S - (s + 1)) (r := r) (l := l) hS hg (by omega) (e := e)
  rw [q1, ← q2] at this
  exact this z le e1 e2 e3 e4 e5 h
theorem qd_Oc {c : Nat → Nat} {g S k r : Nat} {l l' : Nat → Nat} (hk : k ≤ S) (he : ∀ t, S - k ≤ t → t < S → l t = l' t) (h : qd_O c g S k r l) : qd_O c g S k r l' := by
  obtain ⟨⟨f1, f2⟩, h2, h3⟩ := h
  have ec : qd_c c S k l = qd_c c S k l' := qd_t_congr k hk (fun t t1 t2 => by rw [he t t1 t2])
  have el : qd_l S k l = qd_l S k l' := qd_t_congr k hk (fun t t1 t2 => by rw [he t t1 t2])
  have ek : qd_t (fun t => if c t = 0 then 0 else 2 ^ (g - l t)) S k = qd_t (fun t => if c t = 0 then 0 else 2 ^ (g - l' t)) S k := qd_t_congr k hk (fun t t1 t2 => by rw [he t t1 t2])
  refine ⟨⟨fun t t1 t2 => by rw [← he t t1 t2]; exact f1 t t1 t2, by rw [← ek]; exact f2⟩, by rw [← ec]; exact h2, fun l2 hl2 => ?_⟩
  rw [← ec, ← el]
  exact h3 l2 hl2
theorem qd_some {c : Nat → Nat} {g S : Nat} (hS : S ≤ 12) (hg : g ≤ 6) : ∀ d s r, s + d = S → qd_D c g S (S - s) r < 1000000 → ∃ l, qd_O c g S (S - s) r l := by
  intro d
  induction d with
  | zero =>
    intro s r hs h
    rw [show S - s = 0 from by omega]
    exact ⟨fun _ => 0, qd_O0⟩
  | succ d ih =>
    intro s r hs h
    by_cases z : c s = 0
    · have h' := h
      rw [qd_Ds (by omega), if_pos z] at h'
      obtain ⟨l, hl⟩ := ih (s + 1) r (by omega) h'
      refine ⟨qs_u l s 0, qd_Ozs (by omega) z qs_us (qd_Oc (by omega) (fun t t1 t2 => ?_) hl)⟩
      rw [qs_un (by omega)]
    · obtain ⟨e, e1, e2, e3, e4, e5, e6⟩ := qd_exs (by omega) z h
      obtain ⟨l, hl⟩ := ih (s + 1) _ (by omega) e6
      refine ⟨qs_u l s e, qd_Ops hS hg (by omega) z qs_us e1 e2 e3 e4 e5 (qd_Oc (by omega) (fun t t1 t2 => ?_) hl)⟩
      rw [qs_un (by omega)]
theorem qd_O7 {c : Nat → Nat} {g S r : Nat} {l : Nat → Nat} (hg : g ≤ 6) (h : qd_O c g S S r l) : ∀ t, t < S → l t ≤ 6 := fun t ht => by
  have := h.1.1 t (by omega) ht
  by_cases z : c t = 0
  · have := this.1 z; omega
  · have := this.2 z; omega
theorem qd_uniq {c : Nat → Nat} {g S r : Nat} {l l' : Nat → Nat} (hS : S ≤ 12) (hg : g ≤ 6) (h : qd_O c g S S r l) (h' : qd_O c g S S r l') : ∀ s, s < S → l s = l' s := by
  have a := h.2.2 l' h'.1
  have b := h'.2.2 l h.1
  rw [h.2.1, h'.2.1] at a b
  have e : qd_l S S l = qd_l S S l' := Nat.le_antisymm (Nat.le_of_add_le_add_left a) (Nat.le_of_add_le_add_left b)
  intro s hs
  have x := qj_dig (D := 0) hS hs (fun t ht => Nat.le_trans (qd_O7 hg h t ht) (by decide))
  have y := qj_dig (D := 0) hS hs (fun t ht => Nat.le_trans (qd_O7 hg h' t ht) (by decide))
  rw [← x, ← y, e]
/-- the table below row s -/
def qy_T (c : Nat → Nat) (g S s : Nat) (ls : Nat → Int32) : Prop := ∀ t, s ≤ t → t ≤ S → ∀ r, r ≤ 64 → ls (t * 65 + r) = nI (qd_D c g S (S - t) r)
theorem qy_sh {g l : Nat} (hl : l ≤ g) (hg : g ≤ 6) : (1 : Int32) <<< ((nI g - nI l) &&& 31) = nI (2 ^ (g - l)) := by
  rw [pk_sub hl]
  exact qu_sh (by omega)
section QY
variable {S L C T M O N R E D G : Nat} {c ml lc ob ib lh par : Nat → Nat} {pr cc op : Int32} {cw dl rt br wh ls : Nat → Int32} {lf pa ro : Nat → Int64}
theorem qy_f147 {post : SY → Prop} {J36 : Int32 → (Nat → Int32) → (Nat → Int32) → (Nat → Int32) → (Nat → Int32) → (Nat → Int32) → (Nat → Int32) → (Nat → Int32) → (Nat → Int32) → (Nat → Int32) → Prop} {J42 : Int32 → (Nat → Int32) → (Nat → Int32) → (Nat → Int32) → (Nat → Int32) → (Nat → Int32) → (Nat → Int32) → (Nat → Int32) → (Nat → Int32) → (Nat → Int32) → Prop} {g s r m : Nat} (hs : s ≤ 11) (hr : r ≤ 64) (hJ : J42 (nI (r + 1)) (qs_N c) (qs_N ml) (qs_N lc) (qs_N ob) (qs_N ib) (qs_N lh) dl (upd ls (s * 65 + r) (nI m)) (qs_N par)) : wY_fillLeast_147 post J36 J42 (nI g) (nI s) (nI r) (nI m) (nI S) (nI L) (nI C) (nI M) pr cc (nI O) (nI N) op (nI R) (nI E) (nI D) (qs_N c) (qs_N ml) (qs_N lc) (qs_N ob) (qs_N ib) (qs_N lh) dl ls (qs_N par) := by
  have e : nI s * 65 + nI r = nI (s * 65 + r) := by
    show nI s * nI 65 + nI r = _
    rw [pk_mul, nI_add]
  unfold wY_fillLeast_147
  rw [e]
  exact ⟨vp_in_nI (by omega) (by decide), nm_r (e' := upd ls (s * 65 + r) (nI m)) (by rw [nI_clamp (by omega)]) (nm_r (nI_1 r) hJ)⟩
theorem qy_ix {s r p : Nat} (hp : p ≤ r) : (((nI s + 1) * 65) + nI r) - nI p = nI ((s + 1) * 65 + (r - p)) := by
  show (((nI s + 1) * nI 65) + nI r) - nI p = _
  rw [nI_1, pk_mul, nI_add, pk_sub (by omega)]
  exact congrArg nI (by omega)
theorem qy_f82 {post : SY → Prop} {J36 : Int32 → (Nat → Int32) → (Nat → Int32) → (Nat → Int32) → (Nat → Int32) → (Nat → Int32) → (Nat → Int32) → (Nat → Int32) → (Nat → Int32) → (Nat → Int32) → Prop} {J42 : Int32 → (Nat → Int32) → (Nat → Int32) → (Nat → Int32) → (Nat → Int32) → (Nat → Int32) → (Nat → Int32) → (Nat → Int32) → (Nat → Int32) → (Nat → Int32) → Prop} {g s r : Nat} (hS : S ≤ 12) (hs : s < S) (hg : g ≤ 6) (hr : r ≤ 64) (hc : c s ≤ 1000) (hT : qy_T c g S (s + 1) ls)
    (hJ : J42 (nI (r + 1)) (qs_N c) (qs_N ml) (qs_N lc) (qs_N ob) (qs_N ib) (qs_N lh) dl (upd ls (s * 65 + r) (nI (qd_m (c s) g r (qd_D c g S (S - (s + 1))) g))) (qs_N par)) :
    ∀ d j n, j + d = g → d < n → wY_fillLeast_82 post J36 J42 (nI g) (nI s) (nI r) (nI S) (nI L) (nI C) (nI M) pr cc (nI O) (nI N) op (nI R) (nI E) (nI D) (qs_N c) (qs_N ml) (qs_N lc) (qs_N ob) (qs_N ib) (qs_N lh) dl ls (qs_N par) n (nI (qd_m (c s) g r (qd_D c g S (S - (s + 1))) j)) (nI (j + 1)) := by
  intro d
  induction d with
  | zero =>
    intro j n hj hn
    obtain ⟨n, rfl⟩ : ∃ m, n = m + 1 := ⟨n - 1, by omega⟩
    obtain rfl : j = g := by omega
    exact br_t (nI_lt (by omega) (by omega)) (qy_f147 (by omega) hr hJ)
  | succ d ih =>
    intro j n hj hn
    obtain ⟨n, rfl⟩ : ∃ m, n = m + 1 := ⟨n - 1, by omega⟩
    have i1 := ih (j + 1) n (by omega) (by omega)
    have p64 := qu_64 (show g - (j + 1) ≤ 6 by omega)
    have pp := Nat.two_pow_pos (g - (j + 1))
    have mb := qd_m_le (c1 := c s) (g := g) (r := r) (nx := qd_D c g S (S - (s + 1))) j
    refine br_f (nI_nlt (by omega) (by omega)) (nm_r (qy_sh (by omega) hg) ?_)
    by_cases x : r < 2 ^ (g - (j + 1))
    · refine br_t (nI_lt x (by omega)) (nm_r (nI_1 (j + 1)) ?_)
      rw [qd_m, if_neg (fun y => by omega)] at i1
      exact i1
    · refine br_f (nI_nlt (by omega) (by omega)) ⟨vp_in_nI (by omega) (by decide), ?_⟩
      have db := qd_D_le (c := c) (g := g) (S := S) (S - (s + 1)) (r - 2 ^ (g - (j + 1)))
      have cb : c s * (j + 1) ≤ 1000 * 6 := Nat.mul_le_mul hc (by omega)
      rw [qy_ix (by omega), nI_clamp (show (s + 1) * 65 + (r - 2 ^ (g - (j + 1))) < 2 ^ 31 by omega), hT (s + 1) (Nat.le_refl _) (by omega) _ (by omega), qs_Nr c (show s < 2 ^ 31 by omega), pk_mul, nI_add]
      refine ⟨vp_in_nI (by omega) (by decide), nm_e ?_⟩
      by_cases y : c s * (j + 1) + qd_D c g S (S - (s + 1)) (r - 2 ^ (g - (j + 1))) < qd_m (c s) g r (qd_D c g S (S - (s + 1))) j
      · rw [qd_m, if_pos ⟨by omega, y⟩] at i1
        exact br_f (nI_ge y (by omega)) (nm_r (nI_1 (j + 1)) i1)
      · rw [qd_m, if_neg (fun q => y q.2)] at i1
        exact br_t (nI_le (by omega) (by omega)) (nm_r (nI_1 (j + 1)) i1)
theorem qy_f42 {post : SY → Prop} {J36 : Int32 → (Nat → Int32) → (Nat → Int32) → (Nat → Int32) → (Nat → Int32) → (Nat → Int32) → (Nat → Int32) → (Nat → Int32) → (Nat → Int32) → (Nat → Int32) → Prop} {g s : Nat} (hS : S ≤ 12) (hs : s < S) (hg : g ≤ 6) (hc : c s ≤ 1000) (hJ : ∀ ls, qy_T c g S s ls → J36 (nI s + (-1)) (qs_N c) (qs_N ml) (qs_N lc) (qs_N ob) (qs_N ib) (qs_N lh) dl ls (qs_N par)) :
    ∀ d r n ls, r + d = 65 → d < n → qy_T c g S (s + 1) ls → (∀ q, q < r → ls (s * 65 + q) = nI (qd_D c g S (S - s) q)) → wY_fillLeast_42 post J36 (nI g) (nI s) (nI S) (nI L) (nI C) (nI M) pr cc (nI O) (nI N) op (nI R) (nI E) (nI D) n (nI r) (qs_N c) (qs_N ml) (qs_N lc) (qs_N ob) (qs_N ib) (qs_N lh) dl ls (qs_N par) := by
  intro d
  induction d with
  | zero =>
    intro r n ls hr hn hT hq
    obtain ⟨n, rfl⟩ : ∃ m, n = m + 1 := ⟨n - 1, by omega⟩
    obtain rfl : r = 65 := by omega
    refine br_t (by decide) (nm_e (hJ ls (fun t t1 t2 r hr => ?_)))
    by_cases x : t = s
    · subst x; exact hq r (by omega)
    · exact hT t (by omega) t2 r hr
  | succ d ih =>
    intro r n ls hr hn hT hq
    obtain ⟨n, rfl⟩ : ∃ m, n = m + 1 := ⟨n - 1, by omega⟩
    have e : ∀ v, v = qd_D c g S (S - s) r → wY_fillLeast_42 post J36 (nI g) (nI s) (nI S) (nI L) (nI C) (nI M) pr cc (nI O) (nI N) op (nI R) (nI E) (nI D) n (nI (r + 1)) (qs_N c) (qs_N ml) (qs_N lc) (qs_N ob) (qs_N ib) (qs_N lh) dl (upd ls (s * 65 + r) (nI v)) (qs_N par) := by
      intro v ev
      refine ih (r + 1) n _ (by omega) (by omega) (fun t t1 t2 q hq' => ?_) (fun q hq' => ?_)
      · rw [pk_un (by omega)]; exact hT t t1 t2 q hq'
      · by_cases x : q = r
        · subst x; rw [pk_us, ev]
        · rw [pk_un (by omega)]; exact hq q (by omega)
    refine br_f (nI_nlt (a := 64) (by omega) (by decide)) ⟨vp_in_nI (by omega) (by decide), ?_⟩
    rw [qs_Nr c (show s < 2 ^ 31 by omega)]
    have ds := qd_Ds (c := c) (g := g) hs r
    by_cases y : c s = 0
    · rw [if_pos y] at ds
      have e0 : ((nI s + 1) * 65) + nI r = nI ((s + 1) * 65 + r) := by
        show ((nI s + 1) * nI 65) + nI r = _
        rw [nI_1, pk_mul, nI_add]
      refine br_t (by rw [y]; rfl) ?_
      rw [e0, nI_clamp (show (s + 1) * 65 + r < 2 ^ 31 by omega), hT (s + 1) (Nat.le_refl _) (by omega) _ (by omega)]
      exact ⟨vp_in_nI (by omega) (by decide), nm_e (qy_f147 (by omega) (by omega) (e _ ds.symm))⟩
    · rw [if_neg y] at ds
      exact br_f (nI_ne0 (by omega) (by omega)) ⟨g + 1, qy_f82 hS hs hg (by omega) hc hT (e _ ds.symm) g 0 (g + 1) (by omega) (by omega)⟩
theorem qy_f36 {post : SY → Prop} {g : Nat} (hS : S ≤ 12) (hg : g ≤ 6) (hc : ∀ s, s < S → c s ≤ 1000) (hp : ∀ ls, qy_T c g S 0 ls → post (nI S, nI L, nI C, nI M, pr, cc, nI O, nI N, op, nI R, nI E, nI D, qs_N c, qs_N ml, qs_N lc, qs_N ob, qs_N ib, qs_N lh, dl, ls, qs_N par)) :
    ∀ s n ls, s ≤ S → s < n → qy_T c g S s ls → wY_fillLeast_36 post (nI g) (nI S) (nI L) (nI C) (nI M) pr cc (nI O) (nI N) op (nI R) (nI E) (nI D) n (nI s + (-1)) (qs_N c) (qs_N ml) (qs_N lc) (qs_N ob) (qs_N ib) (qs_N lh) dl ls (qs_N par) := by
  intro s
  induction s with
  | zero =>
    intro n ls hs hn hT
    obtain ⟨n, rfl⟩ : ∃ m, n = m + 1 := ⟨n - 1, by omega⟩
    exact br_t (by decide) (hp ls hT)
  | succ s ih =>
    intro n ls hs hn hT
    obtain ⟨n, rfl⟩ : ∃ m, n = m + 1 := ⟨n - 1, by omega⟩
    rw [pk_m1]
    exact br_f (nI_pos (by omega)) ⟨66, qy_f42 hS (by omega) hg (hc s (by omega)) (fun ls' hT' => ih n ls' (by omega) (by omega) hT') 65 0 66 ls (by omega) (by omega) hT (fun q hq => by omega)⟩
theorem qy_fill {post : SY → Prop} {g : Nat} (hS : S ≤ 12) (hg : g ≤ 6) (hc : ∀ s, s < S → c s ≤ 1000) (hp : ∀ ls, qy_T c g S 0 ls → post (nI S, nI L, nI C, nI M, pr, cc, nI O, nI N, op, nI R, nI E, nI D, qs_N c, qs_N ml, qs_N lc, qs_N ob, qs_N ib, qs_N lh, dl, ls, qs_N par)) : wpY_fillLeast post (nI S, nI L, nI C, nI M, pr, cc, nI O, nI N, op, nI R, nI E, nI D, qs_N c, qs_N ml, qs_N lc, qs_N ob, qs_N ib, qs_N lh, dl, ls, qs_N par) (nI g) := by
  have key : ∀ d r n ls, r + d = 65 → d < n → (∀ q, q < r → ls (S * 65 + q) = 0) → wY_fillLeast_2 post (nI g) (nI S) (nI L) (nI C) (nI M) pr cc (nI O) (nI N) op (nI R) (nI E) (nI D) n (nI r) (qs_N c) (qs_N ml) (qs_N lc) (qs_N ob) (qs_N ib) (qs_N lh) dl ls (qs_N par) := by
    intro d
    induction d with
    | zero =>
      intro r n ls hr hn hq
      obtain ⟨n, rfl⟩ : ∃ m, n = m + 1 := ⟨n - 1, by omega⟩
      obtain rfl : r = 65 := by omega
      refine br_t (by decide) (nm_r (e' := nI S + (-1)) (Int32.sub_eq_add_neg _ _) ⟨S + 1, qy_f36 hS hg hc hp S (S + 1) ls (Nat.le_refl _) (by omega) (fun t t1 t2 r hr => ?_)⟩)
      obtain rfl : t = S := by omega
      rw [hq r (by omega), Nat.sub_self]
      rfl
    | succ d ih =>
      intro r n ls hr hn hq
      obtain ⟨n, rfl⟩ : ∃ m, n = m + 1 := ⟨n - 1, by omega⟩
      have e : nI S * 65 + nI r = nI (S * 65 + r) := by
        show nI S * nI 65 + nI r = _
        rw [pk_mul, nI_add]
      refine br_f (nI_nlt (a := 64) (by omega) (by decide)) ?_
      rw [e]
      refine ⟨vp_in_nI (by omega) (by decide), nm_r (e' := upd ls (S * 65 + r) 0) (by rw [nI_clamp (by omega)]) (nm_r (nI_1 r) (ih (r + 1) n _ (by omega) (by omega) (fun q hq' => ?_)))⟩
      by_cases x : q = r
      · subst x; rw [pk_us]
      · rw [pk_un (by omega)]; exact hq q (by omega)
  exact ⟨66, key 65 0 66 ls (by omega) (by omega) (fun q hq => by omega)⟩
/-! the lengths -/
theorem qy_b79 {post : Int32 → SY → Prop} {J53 : Int32 → Int32 → (Nat → Int32) → (Nat → Int32) → (Nat → Int32) → (Nat → Int32) → (Nat → Int32) → (Nat → Int32) → (Nat → Int32) → (Nat → Int32) → (Nat → Int32) → Prop} {s r e : Nat} (hS : S ≤ 12) (hs : s < S) (hL : L ≤ 6) (hr : r ≤ 64) (hc : c s ≤ 1000) (hT : qy_T c L S 0 ls)
    (e1 : 1 ≤ e) (e2 : e ≤ L) (e3 : 2 ^ (L - e) ≤ r) (e4 : c s * e + qd_D c L S (S - (s + 1)) (r - 2 ^ (L - e)) = qd_D c L S (S - s) r)
    (e5 : ∀ i, 1 ≤ i → i < e → 2 ^ (L - i) ≤ r → c s * i + qd_D c L S (S - (s + 1)) (r - 2 ^ (L - i)) ≠ qd_D c L S (S - s) r)
    (hJ : J53 (nI (r - 2 ^ (L - e))) (nI (s + 1)) (qs_N c) (qs_N ml) (qs_N (qs_u lc s e)) (qs_N ob) (qs_N ib) (qs_N lh) dl ls (qs_N par)) :
    ∀ d i n, i + d = e → 1 ≤ i → d < n → wY_build_79 post J53 (nI r) (nI s) (nI S) (nI L) (nI C) (nI M) pr cc (nI O) (nI N) op (nI R) (nI E) (nI D) (qs_N c) (qs_N ml) (qs_N lc) (qs_N ob) (qs_N ib) (qs_N lh) dl ls (qs_N par) n (nI i) := by
  have pre : ∀ i n, 1 ≤ i → i ≤ e → (2 ^ (L - i) ≤ r → ((nI (c s * i + qd_D c L S (S - (s + 1)) (r - 2 ^ (L - i))) = nI (qd_D c L S (S - s) r) → (vp_in (nI s) 12 ∧ ∀ y : Nat → Int32, y = upd (qs_N lc) (nI s).toNatClampNeg (nI i) → (∀ y1 : Int32, y1 = nI r - nI (2 ^ (L - i)) → (∀ y2 : Int32, y2 = nI s + 1 → J53 y1 y2 (qs_N c) (qs_N ml) y (qs_N ob) (qs_N ib) (qs_N lh) dl ls (qs_N par))))) ∧ (¬ nI (c s * i + qd_D c L S (S - (s + 1)) (r - 2 ^ (L - i))) = nI (qd_D c L S (S - s) r) → (∀ y : Int32, y = nI i + 1 → wY_build_79 post J53 (nI r) (nI s) (nI S) (nI L) (nI C) (nI M) pr cc (nI O) (nI N) op (nI R) (nI E) (nI D) (qs_N c) (qs_N ml) (qs_N lc) (qs_N ob) (qs_N ib) (qs_N lh) dl ls (qs_N par) n y)))) →
      (r < 2 ^ (L - i) → ∀ y : Int32, y = nI i + 1 → wY_build_79 post J53 (nI r) (nI s) (nI S) (nI L) (nI C) (nI M) pr cc (nI O) (nI N) op (nI R) (nI E) (nI D) (qs_N c) (qs_N ml) (qs_N lc) (qs_N ob) (qs_N ib) (qs_N lh) dl ls (qs_N par) n y) → wY_build_79 post J53 (nI r) (nI s) (nI S) (nI L) (nI C) (nI M) pr cc (nI O) (nI N) op (nI R) (nI E) (nI D) (qs_N c) (qs_N ml) (qs_N lc) (qs_N ob) (qs_N ib) (qs_N lh) dl ls (qs_N par) (n + 1) (nI i) := by
    intro i n i1 i2 h1 h2
    have p64 := qu_64 (show L - i ≤ 6 by omega)
    have pp := Nat.two_pow_pos (L - i)
    refine br_f (nI_nlt (by omega) (by omega)) (nm_r (qy_sh (by omega) hL) ?_)
    by_cases x : r < 2 ^ (L - i)
    · exact br_t (nI_lt x (by omega)) (h2 x)
    · refine br_f (nI_nlt (by omega) (by omega)) ⟨vp_in_nI (by omega) (by decide), ?_⟩
      have e0 : nI s * 65 + nI r = nI (s * 65 + r) := by
        show nI s * nI 65 + nI r = _
        rw [pk_mul, nI_add]
      rw [qy_ix (by omega), nI_clamp (show (s + 1) * 65 + (r - 2 ^ (L - i)) < 2 ^ 31 by omega), hT (s + 1) (by omega) (by omega) _ (by omega), qs_Nr c (show s < 2 ^ 31 by omega), pk_mul, nI_add, e0, nI_clamp (show s * 65 + r < 2 ^ 31 by omega), hT s (by omega) (by omega) _ (by omega)]
      exact ⟨vp_in_nI (by omega) (by decide), vp_in_nI (by omega) (by decide), h1 (by omega)⟩
  have dD := qd_D_le (c := c) (g := L) (S := S) (S - s) r
  intro d
  induction d with
  | zero =>
    intro i n hi h1 hn
    obtain ⟨n, rfl⟩ : ∃ m, n = m + 1 := ⟨n - 1, by omega⟩
    obtain rfl : i = e := by omega
    refine pre i n h1 (Nat.le_refl _) (fun _ => br_t (by rw [e4]) ⟨vp_in_nI (by omega) (by decide), nm_r (qs_updI (by omega) rfl) (nm_r (pk_sub e3) (nm_r (nI_1 s) hJ))⟩) (fun x => by omega)
  | succ d ih =>
    intro i n hi h1 hn
    obtain ⟨n, rfl⟩ : ∃ m, n = m + 1 := ⟨n - 1, by omega⟩
    have db := qd_D_le (c := c) (g := L) (S := S) (S - (s + 1)) (r - 2 ^ (L - i))
    have cb : c s * i ≤ 1000 * 6 := Nat.mul_le_mul hc (by omega)
    refine pre i n h1 (by omega) (fun x => br_f (fun y => ?_) (nm_r (nI_1 i) (ih (i + 1) n (by omega) (by omega) (by omega)))) (fun x => nm_r (nI_1 i) (ih (i + 1) n (by omega) (by omega) (by omega)))
    exact e5 i h1 (by omega) x ((nI_eq (by omega) (by omega)).mp y)
theorem qy_b53 {post : Int32 → SY → Prop} (hS : S ≤ 12) (hL : L ≤ 6) (hc : ∀ s, s < S → c s ≤ 1000) (hT : qy_T c L S 0 ls) :
    ∀ d s n r lc, s + d = S → d < n → r ≤ 64 → qd_D c L S (S - s) r < 1000000 →
      (∀ l', (∀ j, j < s → l' j = lc j) → (∀ j, S ≤ j → l' j = lc j) → qd_O c L S (S - s) r l' → post 0 (nI S, nI L, nI C, nI M, 1, cc, nI O, nI N, op, nI R, nI E, nI D, qs_N c, qs_N ml, qs_N l', qs_N ob, qs_N ib, qs_N lh, dl, ls, qs_N par)) →
      wY_build_53 post (nI S) (nI L) (nI C) (nI M) pr cc (nI O) (nI N) op (nI R) (nI E) (nI D) n (nI r) (nI s) (qs_N c) (qs_N ml) (qs_N lc) (qs_N ob) (qs_N ib) (qs_N lh) dl ls (qs_N par) := by
  intro d
  induction d with
  | zero =>
    intro s n r lc hs hn hr hD hp
    obtain ⟨n, rfl⟩ : ∃ m, n = m + 1 := ⟨n - 1, by omega⟩
    obtain rfl : s = S := by omega
    refine br_t (nI_le (Nat.le_refl _) (by omega)) (hp lc (fun _ _ => rfl) (fun _ _ => rfl) ?_)
    rw [Nat.sub_self]
    exact qd_O0
  | succ d ih =>
    intro s n r lc hs hn hr hD hp
    obtain ⟨n, rfl⟩ : ∃ m, n = m + 1 := ⟨n - 1, by omega⟩
    refine br_f (nI_ge (by omega) (by omega)) ⟨vp_in_nI (by omega) (by decide), nm_r (qs_updI (x := 0) (by omega) rfl) ⟨vp_in_nI (by omega) (by decide), ?_⟩⟩
    have cs := hc s (by omega)
    rw [qs_Nr c (show s < 2 ^ 31 by omega)]
    by_cases y : c s = 0
    · refine br_t (by rw [y]; decide) (nm_r (nI_1 s) (ih (s + 1) n r _ (by omega) (by omega) hr ?_ (fun l' q1 q2 q3 => hp l' (fun j hj => ?_) (fun j hj => ?_) ?_)))
      · rw [qd_Ds (by omega), if_pos y] at hD
        exact hD
      · rw [q1 j (by omega), qs_un (by omega)]
      · rw [q2 j hj, qs_un (by omega)]
      · refine qd_Ozs (by omega) y ?_ q3
        rw [q1 s (by omega), qs_us]
    · obtain ⟨e, e1, e2, e3, e4, e5, e6⟩ := qd_exs (by omega) y hD
      refine br_f (nI_nle (by omega) (by omega)) ⟨e, qy_b79 hS (by omega) hL hr cs hT e1 e2 e3 e4 e5 (ih (s + 1) n _ _ (by omega) (by omega) (Nat.le_trans (Nat.sub_le _ _) hr) e6 (fun l' q1 q2 q3 => hp l' (fun j hj => ?_) (fun j hj => ?_) ?_)) (e - 1) 1 e (by omega) (by omega) (by omega)⟩
      · rw [q1 j (by omega), qs_un (by omega), qs_un (by omega)]
      · rw [q2 j hj, qs_un (by omega), qs_un (by omega)]
      · refine qd_Ops hS hL (by omega) y ?_ e1 e2 e3 e4 e5 q3
        rw [q1 s (by omega), qs_us]
/-! the component's lengths -/
theorem qx_lsh {b m : Nat} (hb : b < 2 ^ 62) (hm : m < 64) : lN b >>> ((nI m).toInt64 &&& 63) = lN (b / 2 ^ m) := by
  rw [wb_c m hm]
  refine pf_shr ?_ hb
  rw [wb_tb, wb_sm m hm, BitVec.toNat_ofNat, Nat.mod_eq_of_lt (by omega)]
theorem qx_b27 {post : Int32 → SX → Prop} {b : Nat} {l0 : Nat → Nat} (hS : S ≤ 12) (hb : b < 2 ^ 62) (hl : ∀ s, s < S → b / 2 ^ (3 * (11 - s)) % 8 = l0 s) (hp : ∀ cw, qw_P (qs_f l0 lc S) S cw → post 0 (nI S, nI L, nI C, nI T, nI M, 1, (nI (b / 2 ^ 36)), nI O, nI N, op, nI G, nI R, nI E, nI D, qs_N c, qs_N ml, qs_N (qs_f l0 lc S), cw, qs_N ob, qs_N ib, qs_N lh, dl, rt, br, lf, pa, ro, qs_N par, wh)) (hl6 : ∀ j, qs_f l0 lc S j ≤ 6) :
    ∀ d s n, s + d = S → d < n → wX_build_27 post (lN b) (nI S) (nI L) (nI C) (nI T) (nI M) pr cc (nI O) (nI N) op (nI G) (nI R) (nI E) (nI D) n (nI s) (qs_N c) (qs_N ml) (qs_N (qs_f l0 lc s)) cw (qs_N ob) (qs_N ib) (qs_N lh) dl rt br lf pa ro (qs_N par) wh := by
  intro d
  induction d with
  | zero =>
    intro s n hs hn
    obtain ⟨n, rfl⟩ : ∃ m, n = m + 1 := ⟨n - 1, by omega⟩
    obtain rfl : s = S := by omega
    refine br_t (nI_le (Nat.le_refl _) (by omega)) (nm_r (e' := nI (b / 2 ^ 36)) ?_ (qx_aw_cw hS hl6 hp))
    have := qx_lsh (m := 36) hb (by decide)
    rw [show (36 : Int32) = nI 36 from rfl, this, lN_i]
  | succ d ih =>
    intro s n hs hn
    obtain ⟨n, rfl⟩ : ∃ m, n = m + 1 := ⟨n - 1, by omega⟩
    have e1 : (3 : Int32) * (11 - nI s) = nI (3 * (11 - s)) := by
      show nI 3 * (nI 11 - nI s) = _
      rw [pk_sub (by omega), pk_mul]
    refine br_f (nI_ge (by omega) (by omega)) (nm_r e1 ⟨vp_in_nI (by omega) (by decide), nm_r (qs_fI (by omega) ?_) (nm_r (nI_1 s) (ih (s + 1) n (by omega) (by omega)))⟩)
    have m := wb_mask (n := b / 2 ^ (3 * (11 - s))) (k := 3) (Nat.lt_of_le_of_lt (Nat.div_le_self _ _) (by omega)) (by decide)
    rw [qx_lsh hb (by omega), show (7 : Int64) = lN (2 ^ 3 - 1) from rfl, m, lN_i, ← hl s (by omega)]
end QY
end
section
/-! build, leastCost -/
theorem qz_u1 {c : Nat → Nat} {S : Nat} (h : qs_s c S ≠ 0) : 1 ≤ qu_n c S := by
  by_cases x : qu_n c S = 0
  · exfalso
    apply h
    apply qs_zero
    intro i hi
    by_cases y : c i = 0
    · exact y
    · have t := qs_tm (fun t => if c t = 0 then 0 else 1) hi
      rw [show qs_s (fun t => if c t = 0 then 0 else 1) S = 0 from x] at t
      simp only [if_neg y] at t
      omega
  · omega
theorem i_vc_build {k : Nat} {u : SX} {v : SY} (I : i_Rel k u v) (hk : k + 3 ≤ 1539) : wpX_build (fun r u' => wpY_build (fun r' v' => r' = r ∧ i_Rel (k + 3) u' v') v) u := by
  refine qr_el (P := fun u v => wpX_build (fun r u' => wpY_build (fun r' v' => r' = r ∧ i_Rel (k + 3) u' v') v) u) ?_ I
  intro S L C T M O N R E D G c ml lc ob ib lh par pr cc op cw dl rt br lf pa ro wh ls F
  have F0 := F
  obtain ⟨⟨hS2, hS, hL1, hL, hC1, hC, hM, hO, hN, hR, hD, hE⟩, ⟨hT, hT2, hc0⟩, hml, ⟨hh6, hh0, hcw⟩, ⟨hob, hib⟩, ⟨hd6, hd0⟩, hop⟩ := F
  have hc : ∀ s, s < S → c s ≤ 1000 := fun s hs => Nat.le_trans (qs_tm c hs) (by omega)
  have hT3 : qs_s c S ≤ 1000 := by omega
  have ul := qu_le c S
  have g64 := qu_64 hL
  unfold wpX_build wpY_build
  dsimp only
  refine qx_check hS hT2 hc hL (fun z => ?_) (fun z y => ?_) (fun z y => ?_)
  · refine br_f (by decide) (qy_total hS ?_)
    exact br_t (by rw [← hT, z]; rfl) ⟨rfl, qr_in _ F0⟩
  · refine br_f (by decide) (qy_total hS ?_)
    refine br_f (by rw [← hT]; exact nI_ne0 (by omega) (by omega)) (qy_used hS hc ?_)
    rw [qu_sh hL]
    exact br_f (nI_ge y (by omega)) ⟨rfl, qr_in _ F0⟩
  · have u1 := qz_u1 (c := c) (S := S) (by omega)
    have way := qj_way (c := c) (S := S) (g := L) (n := qu_n c S) rfl y hL1 hL hT3
    obtain ⟨l0, O0⟩ := qd_some (c := c) (g := L) hS hL S 0 (2 ^ L) (by omega) (by rw [Nat.sub_zero]; omega)
    rw [Nat.sub_zero] at O0
    have l7 : ∀ t, t < S → l0 t ≤ 7 := fun t ht => Nat.le_trans (qd_O7 hL O0 t ht) (by decide)
    obtain ⟨hi1, hi2⟩ := qj_hi (D := qd_D c L S S (2 ^ L)) hS l7
    have l6 : ∀ j, qs_f l0 lc S j ≤ 6 := fun j => by
      by_cases q : j < S
      · rw [qs_fl q]; exact qd_O7 hL O0 j q
      · rw [qs_fg (by omega)]; exact hh6 j
    have bb : qd_D c L S S (2 ^ L) * 2 ^ 36 + qd_l S S l0 < 2 ^ 62 := by
      have : qd_D c L S S (2 ^ L) * 2 ^ 36 ≤ 6000 * 2 ^ 36 := Nat.mul_le_mul_right _ way
      exact Nat.lt_of_le_of_lt (Nat.add_le_add this (Nat.le_of_lt hi2)) (by decide)
    refine br_t rfl (qx_pm hS hT3 hL1 hL u1 y O0 (fun lf' pa' ro' => ?_))
    have key := qx_b27 (T := T) (C := C) (L := L) (M := M) (O := O) (N := N) (R := R) (E := E) (D := D) (G := G) (c := c) (ml := ml) (ob := ob) (ib := ib) (lh := lh) (par := par) (pr := pr) (cc := cc) (op := op) (cw := cw) (dl := dl) (rt := rt) (br := br) (wh := wh) (lf := lf') (pa := pa') (ro := ro') (lc := lc)
      (post := fun r u' => wpY_build (fun r' v' => r' = r ∧ i_Rel (k + 3) u' v') (nI S, nI L, nI C, nI M, pr, cc, nI O, nI N, op, nI R, nI E, nI D, qs_N c, qs_N ml, qs_N lc, qs_N ob, qs_N ib, qs_N lh, dl, ls, qs_N par)) (l0 := l0) hS bb (fun s hs => qj_dig hS hs l7) (fun cw' hcw' => ?_) l6 S 0 (S + 1) (by omega) (by omega)
    · rw [qs_f00] at key
      exact ⟨_, key⟩
    · rw [hi1]
      unfold wpY_build
      dsimp only
      refine qy_total hS ?_
      refine br_f (by rw [← hT]; exact nI_ne0 (by omega) (by omega)) (qy_used hS hc ?_)
      rw [qu_sh hL]
      refine br_t (nI_le y (by omega)) (qy_fill hS hL hc (fun ls' hT' => ?_))
      refine nm_r (qu_sh hL) ⟨vp_in_nI (by omega) (by decide), nm_r (e' := nI (qd_D c L S S (2 ^ L))) ?_ ⟨S + 1, ?_⟩⟩
      · show ls' (nI (2 ^ L)).toNatClampNeg = _
        have := hT' 0 (Nat.le_refl _) (Nat.zero_le _) (2 ^ L) g64
        rw [Nat.zero_mul, Nat.zero_add, Nat.sub_zero] at this
        rw [nI_clamp (by omega), this]
      · refine qy_b53 hS hL hc hT' S 0 (S + 1) (2 ^ L) lc (by omega) (by omega) g64 (by rw [Nat.sub_zero]; omega) (fun l' q1 q2 q3 => ?_)
        rw [Nat.sub_zero] at q3
        have el : l' = qs_f l0 lc S := by
          funext j
          by_cases q : j < S
          · rw [qs_fl q]; exact qd_uniq hS hL q3 O0 j q
          · rw [qs_fg (by omega)]; exact q2 j (by omega)
        rw [el]
        exact ⟨rfl, qr_in _ ⟨⟨hS2, hS, hL1, hL, hC1, hC, hM, hO, hN, hR, hD, hE⟩, ⟨hT, hT2, hc0⟩, hml, ⟨l6, fun j hj => by rw [qs_fg hj]; exact hh0 j hj, hcw'⟩, ⟨hob, hib⟩, ⟨hd6, hd0⟩, hop⟩⟩
theorem i_vc_leastCost {k : Nat} {u : SX} {v : SY} (I : i_Rel k u v) (hk : k + 3 ≤ 1539) (v1 : Int32) : wpX_leastCost (fun r u' => wpY_leastCost (fun r' v' => r' = r ∧ i_Rel (k + 3) u' v') v v1) u v1 := by
  refine qr_el (P := fun u v => wpX_leastCost (fun r u' => wpY_leastCost (fun r' v' => r' = r ∧ i_Rel (k + 3) u' v') v v1) u v1) ?_ I
  intro S L C T M O N R E D G c ml lc ob ib lh par pr cc op cw dl rt br lf pa ro wh ls F
  have F0 := F
  obtain ⟨⟨hS2, hS, hL1, hL, hC1, hC, hM, hO, hN, hR, hD, hE⟩, ⟨hT, hT2, hc0⟩, hml, ⟨hh6, hh0, hcw⟩, ⟨hob, hib⟩, ⟨hd6, hd0⟩, hop⟩ := F
  have hc : ∀ s, s < S → c s ≤ 1000 := fun s hs => Nat.le_trans (qs_tm c hs) (by omega)
  have hT3 : qs_s c S ≤ 1000 := by omega
  have ul := qu_le c S
  by_cases x1 : v1 < 1
  · exact br_t x1 (br_t x1 ⟨rfl, qr_in _ F0⟩)
  · by_cases x2 : v1 ≤ 6
    · have q1 : (1 : Int32).toInt = 1 := by decide
      have q0 : (0 : Int32).toInt = 0 := by decide
      obtain ⟨g, hg, rfl⟩ := nI_of2 (x := v1) (M := 6) (n := 6) (by decide) (by rw [Int32.lt_iff_toInt_lt] at x1 ⊢; rw [q1] at x1; rw [q0]; omega) x2
      have hg1 : 1 ≤ g := by
        by_cases z : g = 0
        · subst z; exact absurd (by decide) x1
        · omega
      have g64 := qu_64 hg
      refine br_f x1 (br_t x2 (qx_check hS hT2 hc hg (fun z => ?_) (fun z y => ?_) (fun z y => ?_)))
      · refine br_f (by decide) (br_f x1 (br_t x2 (qy_total hS ?_)))
        exact br_t (by rw [← hT, z]; rfl) ⟨rfl, qr_in _ F0⟩
      · refine br_f (by decide) (br_f x1 (br_t x2 (qy_total hS ?_)))
        refine br_f (by rw [← hT]; exact nI_ne0 (by omega) (by omega)) (qy_used hS hc ?_)
        rw [qu_sh hg]
        exact br_f (nI_ge y (by omega)) ⟨rfl, qr_in _ F0⟩
      · have u1 := qz_u1 (c := c) (S := S) (by omega)
        have way := qj_way (c := c) (S := S) (g := g) (n := qu_n c S) rfl y hg1 hg hT3
        obtain ⟨l0, O0⟩ := qd_some (c := c) (g := g) hS hg S 0 (2 ^ g) (by omega) (by rw [Nat.sub_zero]; omega)
        rw [Nat.sub_zero] at O0
        have l7 : ∀ t, t < S → l0 t ≤ 7 := fun t ht => Nat.le_trans (qd_O7 hg O0 t ht) (by decide)
        obtain ⟨hi1, hi2⟩ := qj_hi (D := qd_D c g S S (2 ^ g)) hS l7
        have bb : qd_D c g S S (2 ^ g) * 2 ^ 36 + qd_l S S l0 < 2 ^ 62 := by
          have : qd_D c g S S (2 ^ g) * 2 ^ 36 ≤ 6000 * 2 ^ 36 := Nat.mul_le_mul_right _ way
          exact Nat.lt_of_le_of_lt (Nat.add_le_add this (Nat.le_of_lt hi2)) (by decide)
        have er : (lN (qd_D c g S S (2 ^ g) * 2 ^ 36 + qd_l S S l0) >>> ((36 : Int32).toInt64 &&& 63)).toInt32 = nI (qd_D c g S S (2 ^ g)) := by
          have := qx_lsh (m := 36) bb (by decide)
          rw [show (36 : Int32) = nI 36 from rfl, this, lN_i, hi1]
        refine br_t rfl (qx_pm hS hT3 hg1 hg u1 y O0 (fun lf' pa' ro' => ?_))
        refine br_f x1 (br_t x2 (qy_total hS ?_))
        refine br_f (by rw [← hT]; exact nI_ne0 (by omega) (by omega)) (qy_used hS hc ?_)
        rw [qu_sh hg]
        refine br_t (nI_le y (by omega)) (qy_fill hS hg hc (fun ls' hT' => ⟨vp_in_nI (by omega) (by decide), ?_, qr_in _ F0⟩))
        show ls' (nI (2 ^ g)).toNatClampNeg = _
        have := hT' 0 (Nat.le_refl _) (Nat.zero_le _) (2 ^ g) g64
        rw [Nat.zero_mul, Nat.zero_add, Nat.sub_zero] at this
        rw [nI_clamp (by omega), this]
        exact er.symm
    · exact br_f x1 (br_f x2 (br_f x1 (br_f x2 ⟨rfl, qr_in _ F0⟩)))
end
section
/-! encode -/
def qe_ok (s : Nat × (Nat → Nat)) : Prop := s.1 ≤ 256 ∧ ∀ j, s.2 j ≤ 1
theorem qe_okw {v : Int32} {w : Nat} {s : Nat × (Nat → Nat)} (h : qe_ok s) : qe_ok (qb_wr v w s) := qb_wr_ok v w s h.1 h.2
theorem qe_cg {v v' : Int32} : ∀ b s, (∀ i, i < b → qb_b v i = qb_b v' i) → qb_wr v b s = qb_wr v' b s := by
  intro b
  induction b with
  | zero => intro s _; rfl
  | succ b ih =>
    intro s h
    rw [qb_wrS, qb_wrS, h b (by omega)]
    exact ih _ (fun i hi => h i (by omega))
theorem qe_sp {v b : Nat} (hv : v < 2 ^ 31) : ∀ a s, a + b ≤ 31 → qb_wr (nI v) (a + b) s = qb_wr (nI v) b (qb_wr (nI (v / 2 ^ b)) a s) := by
  intro a
  induction a with
  | zero => intro s _; rw [Nat.zero_add]; rfl
  | succ a ih =>
    intro s h
    have e : qb_b (nI v) (a + b) = qb_b (nI (v / 2 ^ b)) a := by
      rw [qb_bN hv (by omega), qb_bN (Nat.lt_of_le_of_lt (Nat.div_le_self _ _) hv) (by omega), Nat.div_div_eq_div_mul, ← Nat.pow_add, Nat.add_comm b]
    rw [show a + 1 + b = (a + b) + 1 from by omega, qb_wrS, qb_wrS, e]
    exact ih _ (by omega)
theorem qe_z3 {r : Nat} (hr : r ≤ 3) (s : Nat × (Nat → Nat)) : qb_wr (nI r) 2 (qb_wr 0 1 s) = qb_wr (nI r) 3 s := by
  have e := qe_sp (v := r) (b := 2) (by omega) 1 s (by decide)
  rw [show r / 2 ^ 2 = 0 from by omega] at e
  exact e.symm
theorem qe_h5 {h : Nat} (hh : h ≤ 6) (s : Nat × (Nat → Nat)) : qb_wr (nI h) 3 (qb_wr 3 2 s) = qb_wr (nI (24 + h)) 5 s := by
  have e := qe_sp (v := 24 + h) (b := 3) (by omega) 2 s (by decide)
  rw [show (24 + h) / 2 ^ 3 = 3 from by omega] at e
  refine Eq.trans (qe_cg 3 _ (fun i hi => ?_)) e.symm
  rw [qb_bN (by omega) (by omega), qb_bN (by omega) (by omega)]
  have : ∀ h, h < 7 → ∀ i, i < 3 → h / 2 ^ i % 2 = (24 + h) / 2 ^ i % 2 := by decide
  exact this h (by omega) i hi
/-- the last length that isn't 0 before s -/
def qe_l (h : Nat → Nat) : Nat → Nat
  | 0 => 0
  | s + 1 => if h s = 0 then qe_l h s else h s
theorem qe_l1 (h : Nat → Nat) (s : Nat) : qe_l h (s + 1) = if h s = 0 then qe_l h s else h s := rfl
theorem qe_l6 {h : Nat → Nat} (h6 : ∀ j, h j ≤ 6) : ∀ s, qe_l h s ≤ 6 := by
  intro s
  induction s with
  | zero => exact Nat.zero_le _
  | succ s ih =>
    rw [qe_l1]
    by_cases x : h s = 0
    · rw [if_pos x]; exact ih
    · rw [if_neg x]; exact h6 s
theorem qe_lz {h : Nat → Nat} {s : Nat} : ∀ r, (∀ j, j < r → h (s + j) = 0) → qe_l h (s + r) = qe_l h s := by
  intro r
  induction r with
  | zero => intro _; rfl
  | succ r ih =>
    intro z
    rw [show s + (r + 1) = (s + r) + 1 from rfl, qe_l1, if_pos (z r (by omega))]
    exact ih (fun j hj => z j (by omega))
/-- the run of zeros from s on, among the next d -/
def qe_p (h : Nat → Nat) : Nat → Nat → Nat
  | 0 => fun _ => 0
  | d + 1 => fun s => if h s = 0 then qe_p h d (s + 1) + 1 else 0
theorem qe_p1 (h : Nat → Nat) (d s : Nat) : qe_p h (d + 1) s = if h s = 0 then qe_p h d (s + 1) + 1 else 0 := rfl
theorem qe_pp {h : Nat → Nat} : ∀ d s, qe_p h d s ≤ d ∧ (∀ j, j < qe_p h d s → h (s + j) = 0) ∧ (qe_p h d s < d → h (s + qe_p h d s) ≠ 0) := by
  intro d
  induction d with
  | zero => intro s; exact ⟨Nat.le_refl _, fun j hj => absurd hj (Nat.not_lt_zero j), fun x => absurd x (Nat.lt_irrefl _)⟩
  | succ d ih =>
    intro s
    rw [qe_p1]
    by_cases x : h s = 0
    · rw [if_pos x]
      obtain ⟨a, b, c⟩ := ih (s + 1)
      refine ⟨by omega, fun j hj => ?_, fun hl => ?_⟩
      · by_cases j0 : j = 0
        · subst j0; exact x
        · have := b (j - 1) (by omega)
          rw [show s + 1 + (j - 1) = s + j from by omega] at this
          exact this
      · have := c (by omega)
        rw [show s + (qe_p h d (s + 1) + 1) = s + 1 + qe_p h d (s + 1) from by omega]
        exact this
    · rw [if_neg x]
      exact ⟨Nat.zero_le _, fun j hj => absurd hj (Nat.not_lt_zero j), fun _ => x⟩
def qe_r (h : Nat → Nat) (S s : Nat) : Nat := min (qe_p h (S - s) s) 4
theorem qe_r1 {h : Nat → Nat} {S s : Nat} (hs : s < S) (x : h s = 0) : 1 ≤ qe_r h S s := by
  have : qe_p h (S - s) s = qe_p h (S - (s + 1)) (s + 1) + 1 := by
    rw [show S - s = S - (s + 1) + 1 from by omega, qe_p1, if_pos x]
  rw [qe_r, this]
  omega
/-- the header -/
def qe_h (h : Nat → Nat) (S : Nat) : Nat → Nat → Nat × (Nat → Nat) → Nat × (Nat → Nat)
  | 0 => fun _ σ => σ
  | f + 1 => fun s σ => if S ≤ s then σ else if h s = 0 then qe_h h S f (s + qe_r h S s) (qb_wr (nI (qe_r h S s - 1)) 3 σ) else if h s = qe_l h s then qe_h h S f (s + 1) (qb_wr 2 2 σ) else qe_h h S f (s + 1) (qb_wr (nI (24 + h s)) 5 σ)
theorem qe_h1 (h : Nat → Nat) (S f s : Nat) (σ : Nat × (Nat → Nat)) : qe_h h S (f + 1) s σ = if S ≤ s then σ else if h s = 0 then qe_h h S f (s + qe_r h S s) (qb_wr (nI (qe_r h S s - 1)) 3 σ) else if h s = qe_l h s then qe_h h S f (s + 1) (qb_wr 2 2 σ) else qe_h h S f (s + 1) (qb_wr (nI (24 + h s)) 5 σ) := rfl
theorem qe_hok {h : Nat → Nat} {S : Nat} : ∀ f s σ, qe_ok σ → qe_ok (qe_h h S f s σ) := by
  intro f
  induction f with
  | zero => intro s σ k; exact k
  | succ f ih =>
    intro s σ k
    rw [qe_h1]
    by_cases x : S ≤ s
    · rw [if_pos x]; exact k
    · rw [if_neg x]
      by_cases y : h s = 0
      · rw [if_pos y]; exact ih _ _ (qe_okw k)
      · rw [if_neg y]
        by_cases z : h s = qe_l h s
        · rw [if_pos z]; exact ih _ _ (qe_okw k)
        · rw [if_neg z]; exact ih _ _ (qe_okw k)
/-- the message -/
def qe_m (h ml : Nat → Nat) (S : Nat) : Nat → Nat → Nat × (Nat → Nat) → Nat × (Nat → Nat)
  | 0 => fun _ σ => σ
  | d + 1 => fun i σ => qe_m h ml S d (i + 1) (qb_wr (nI (qw_w h S (ml i))) (h (ml i)) σ)
theorem qe_m1 (h ml : Nat → Nat) (S d i : Nat) (σ : Nat × (Nat → Nat)) : qe_m h ml S (d + 1) i σ = qe_m h ml S d (i + 1) (qb_wr (nI (qw_w h S (ml i))) (h (ml i)) σ) := rfl
theorem qe_mok {h ml : Nat → Nat} {S : Nat} : ∀ d i σ, qe_ok σ → qe_ok (qe_m h ml S d i σ) := by
  intro d
  induction d with
  | zero => intro i σ k; exact k
  | succ d ih => intro i σ k; exact ih _ _ (qe_okw k)
section QE
variable {S L C T M O N R E D G : Nat} {c ml lc ob ib lh par : Nat → Nat} {pr cc op : Int32} {cw dl rt br wh ls : Nat → Int32} {lf pa ro : Nat → Int64}
theorem qx_zr {post : Int32 → Prop} {s : Nat} (hS : S ≤ 12) (hs : s < S) (hl6 : ∀ j, lc j ≤ 6) (x : lc s = 0) (hp : post (nI (qe_r lc S s))) : wpX_zeroRun post (nI S, nI L, nI C, nI T, nI M, pr, cc, nI O, nI N, op, nI G, nI R, nI E, nI D, qs_N c, qs_N ml, qs_N lc, cw, qs_N ob, qs_N ib, qs_N lh, dl, rt, br, lf, pa, ro, qs_N par, wh) (nI s) := by
  obtain ⟨p1, p2, p3⟩ := qe_pp (h := lc) (S - s) s
  have r1 := qe_r1 hs x
  have er : qe_r lc S s = min (qe_p lc (S - s) s) 4 := rfl
  have key : ∀ d i n, i + d = qe_r lc S s → d < n → 1 ≤ i → wX_zeroRun_4 post (nI s) (nI S) (nI L) (nI C) (nI T) (nI M) pr cc (nI O) (nI N) op (nI G) (nI R) (nI E) (nI D) (qs_N c) (qs_N ml) (qs_N lc) cw (qs_N ob) (qs_N ib) (qs_N lh) dl rt br lf pa ro (qs_N par) wh n (nI i) (nI i) := by
    intro d
    induction d with
    | zero =>
      intro i n hi hn h1
      obtain ⟨n, rfl⟩ : ∃ m, n = m + 1 := ⟨n - 1, by omega⟩
      rw [Nat.add_zero] at hi
      rw [← hi] at hp
      by_cases y : 4 ≤ i
      · exact br_t (nI_le (a := 4) y (by omega)) hp
      · refine br_f (nI_ge (b := 4) (by omega) (by decide)) ?_
        rw [nI_add]
        by_cases z : S ≤ s + i
        · exact br_t (nI_le z (by omega)) hp
        · have := p3 (by omega)
          rw [show qe_p lc (S - s) s = i from by omega] at this
          have l6 := hl6 (s + i)
          refine br_f (nI_ge (by omega) (by omega)) ⟨vp_in_nI (by omega) (by decide), br_f ?_ hp⟩
          rw [qs_Nr _ (by omega)]
          exact nI_ne0 (by omega) (by omega)
    | succ d ih =>
      intro i n hi hn h1
      obtain ⟨n, rfl⟩ : ∃ m, n = m + 1 := ⟨n - 1, by omega⟩
      have := p2 i (by omega)
      refine br_f (nI_ge (b := 4) (by omega) (by decide)) ?_
      rw [nI_add]
      refine br_f (nI_ge (by omega) (by omega)) ⟨vp_in_nI (by omega) (by decide), br_t ?_ (nm_r (nI_1 i) (nm_r (nI_1 i) (ih (i + 1) n (by omega) (by omega) (by omega))))⟩
      rw [qs_Nr _ (by omega), this]
      rfl
  exact ⟨qe_r lc S s, key (qe_r lc S s - 1) 1 (qe_r lc S s) (by omega) (by omega) (by omega)⟩
theorem qx_wl {post : SX → Prop} (hS : S ≤ 12) (hl6 : ∀ j, lc j ≤ 6) : ∀ f s i n σ, i + f = 12 → f < n → s ≤ S → qe_ok σ → post (nI S, nI L, nI C, nI T, nI M, pr, cc, nI ((qe_h lc S f s σ).1), nI N, op, nI G, nI R, nI E, nI D, qs_N c, qs_N ml, qs_N lc, cw, qs_N ((qe_h lc S f s σ).2), qs_N ib, qs_N lh, dl, rt, br, lf, pa, ro, qs_N par, wh) → wX_writeLengths_6 post n (nI (qe_l lc s)) (nI s) (nI i) (nI S) (nI L) (nI C) (nI T) (nI M) pr cc (nI σ.1) (nI N) op (nI G) (nI R) (nI E) (nI D) (qs_N c) (qs_N ml) (qs_N lc) cw (qs_N σ.2) (qs_N ib) (qs_N lh) dl rt br lf pa ro (qs_N par) wh := by
  intro f
  induction f with
  | zero =>
    intro s i n σ hi hn hs k hp
    obtain ⟨n, rfl⟩ : ∃ m, n = m + 1 := ⟨n - 1, by omega⟩
    obtain rfl : i = 12 := by omega
    exact br_t (by decide) hp
  | succ f ih =>
    intro s i n σ hi hn hs k hp
    obtain ⟨n, rfl⟩ : ∃ m, n = m + 1 := ⟨n - 1, by omega⟩
    rw [qe_h1] at hp
    have l6 := hl6 s
    have q6 := qe_l6 hl6 s
    refine br_f (nI_ge (b := 12) (by omega) (by decide)) ?_
    by_cases x : S ≤ s
    · rw [if_pos x] at hp
      exact br_t (nI_le x (by omega)) hp
    · rw [if_neg x] at hp
      refine br_f (nI_ge (by omega) (by omega)) ⟨vp_in_nI (by omega) (by decide), nm_r (qs_Nr lc (i := s) (by omega)) ?_⟩
      by_cases y : lc s = 0
      · rw [if_pos y] at hp
        have r1 := qe_r1 (S := S) (by omega) y
        obtain ⟨p1, p2, p3⟩ := qe_pp (h := lc) (S - s) s
        have er : qe_r lc S s = min (qe_p lc (S - s) s) 4 := rfl
        refine br_t (by rw [y]; rfl) (qx_zr hS (by omega) hl6 y ?_)
        have e1 : nI (qe_r lc S s) - 1 = nI (qe_r lc S s - 1) := pk_sub (b := 1) r1
        rw [e1]
        refine qx_write (s := σ) (w := 3) (by decide) k.1 (nm_r (nI_add s (qe_r lc S s)) (nm_r (nI_1 i) ?_))
        have := ih (s + qe_r lc S s) (i + 1) n _ (by omega) (by omega) (by omega) (qe_okw k) hp
        rw [qe_lz _ (fun j hj => p2 j (by omega))] at this
        exact this
      · rw [if_neg y] at hp
        refine br_f (nI_ne0 (by omega) (by omega)) ?_
        have el : qe_l lc (s + 1) = lc s := by rw [qe_l1, if_neg y]
        by_cases z : lc s = qe_l lc s
        · rw [if_pos z] at hp
          refine br_t (congrArg nI z) (qx_write (s := σ) (v := 2) (w := 2) (by decide) k.1 (nm_r (nI_1 s) (nm_r (nI_1 i) ?_)))
          have := ih (s + 1) (i + 1) n _ (by omega) (by omega) (by omega) (qe_okw k) hp
          rw [el, z] at this
          exact this
        · rw [if_neg z] at hp
          have e2 : (24 : Int32) + nI (lc s) = nI (24 + lc s) := nI_add 24 (lc s)
          refine br_f (by rw [nI_eq (by omega) (by omega)]; exact z) ?_
          rw [e2]
          refine qx_write (s := σ) (w := 5) (by decide) k.1 (nm_r (nI_1 s) (nm_r (nI_1 i) ?_))
          have := ih (s + 1) (i + 1) n _ (by omega) (by omega) (by omega) (qe_okw k) hp
          rw [el] at this
          exact this
theorem qx_e63 {post : Int32 → SX → Prop} (hS : S ≤ 12) (hM : M ≤ 31) (hl6 : ∀ j, lc j ≤ 6) (hml : ∀ i, i < M → ml i < S) (hnz : ∀ i, i < M → lc (ml i) ≠ 0) (hcw : ∀ s, s < S → lc s ≠ 0 → cw s = nI (qw_w lc S s)) :
    ∀ d i n σ, i + d = M → d < n → qe_ok σ → post (nI (qe_m lc ml S d i σ).1) (nI S, nI L, nI C, nI T, nI M, pr, cc, nI ((qe_m lc ml S d i σ).1), nI N, op, nI G, nI R, nI E, nI D, qs_N c, qs_N ml, qs_N lc, cw, qs_N ((qe_m lc ml S d i σ).2), qs_N ib, qs_N lh, dl, rt, br, lf, pa, ro, qs_N par, wh) → wX_encode_63 post n (nI i) (nI S) (nI L) (nI C) (nI T) (nI M) pr cc (nI σ.1) (nI N) op (nI G) (nI R) (nI E) (nI D) (qs_N c) (qs_N ml) (qs_N lc) cw (qs_N σ.2) (qs_N ib) (qs_N lh) dl rt br lf pa ro (qs_N par) wh := by
  intro d
  induction d with
  | zero =>
    intro i n σ hi hn k hp
    obtain ⟨n, rfl⟩ : ∃ m, n = m + 1 := ⟨n - 1, by omega⟩
    exact br_t (nI_le (by omega) (by omega)) hp
  | succ d ih =>
    intro i n σ hi hn k hp
    obtain ⟨n, rfl⟩ : ∃ m, n = m + 1 := ⟨n - 1, by omega⟩
    rw [qe_m1] at hp
    have m1 := hml i (by omega)
    have l6 := hl6 (ml i)
    refine br_f (nI_ge (by omega) (by omega)) ⟨vp_in_nI (by omega) (by decide), nm_r (qs_Nr ml (i := i) (by omega)) ⟨vp_in_nI (by omega) (by decide), vp_in_nI (by omega) (by decide), ?_⟩⟩
    rw [qs_Nr lc (show ml i < 2 ^ 31 by omega), nI_clamp (show ml i < 2 ^ 31 by omega), hcw _ m1 (hnz i (by omega))]
    exact qx_write (s := σ) (w := lc (ml i)) (by omega) k.1 (nm_r (nI_1 i) (ih (i + 1) n _ (by omega) (by omega) (qe_okw k) hp))
/-! Y -/
theorem qy_e108 {post : Int32 → SY → Prop} {J52 : Int32 → Int32 → Int32 → Int32 → Int32 → Int32 → Int32 → Int32 → Int32 → Int32 → Int32 → Int32 → Int32 → Int32 → (Nat → Int32) → (Nat → Int32) → (Nat → Int32) → (Nat → Int32) → (Nat → Int32) → (Nat → Int32) → (Nat → Int32) → (Nat → Int32) → (Nat → Int32) → Prop} {s i r : Nat} {σ : Nat × (Nat → Nat)} (k : qe_ok σ) (hr1 : 1 ≤ r) (hr : r ≤ 12) (hJ : J52 (nI (s + min r 4)) (nI (i + 1)) (nI S) (nI L) (nI C) (nI M) pr cc (nI ((qb_wr (nI (min r 4 - 1)) 3 σ).1)) (nI N) op (nI R) (nI E) (nI D) (qs_N c) (qs_N ml) (qs_N lc) (qs_N ((qb_wr (nI (min r 4 - 1)) 3 σ).2)) (qs_N ib) (qs_N lh) dl ls (qs_N par)) : wY_encode_108 post J52 (nI s) (nI i) (nI r) (nI S) (nI L) (nI C) (nI M) pr cc (nI σ.1) (nI N) op (nI R) (nI E) (nI D) (qs_N c) (qs_N ml) (qs_N lc) (qs_N σ.2) (qs_N ib) (qs_N lh) dl ls (qs_N par) := by
  have go : ∀ q : Nat, q = min r 4 → wY_encode_115 post J52 (nI s) (nI i) (nI q) (nI S) (nI L) (nI C) (nI M) pr cc (nI σ.1) (nI N) op (nI R) (nI E) (nI D) (qs_N c) (qs_N ml) (qs_N lc) (qs_N σ.2) (qs_N ib) (qs_N lh) dl ls (qs_N par) := by
    intro q eq
    rw [← eq] at hJ
    have e1 : nI q - 1 = nI (q - 1) := pk_sub (b := 1) (by omega)
    unfold wY_encode_115
    refine qy_write (s := σ) (v := 0) (w := 1) (by decide) k.1 ?_
    dsimp only
    rw [e1]
    refine qy_write (s := qb_wr 0 1 σ) (w := 2) (by decide) (qe_okw k).1 (nm_r (nI_add s q) (nm_r (nI_1 i) ?_))
    rw [qe_z3 (by omega)]
    exact hJ
  by_cases x : r ≤ 4
  · exact br_t (nI_le (b := 4) x (by decide)) (go r (by omega))
  · exact br_f (nI_ge (a := 4) (by omega) (by omega)) (go 4 (by omega))
theorem qy_e80 {post : Int32 → SY → Prop} {J52 : Int32 → Int32 → Int32 → Int32 → Int32 → Int32 → Int32 → Int32 → Int32 → Int32 → Int32 → Int32 → Int32 → Int32 → (Nat → Int32) → (Nat → Int32) → (Nat → Int32) → (Nat → Int32) → (Nat → Int32) → (Nat → Int32) → (Nat → Int32) → (Nat → Int32) → (Nat → Int32) → Prop} {s i : Nat} {σ : Nat × (Nat → Nat)} (hS : S ≤ 12) (hs : s < S) (hl6 : ∀ j, lc j ≤ 6) (x : lc s = 0) (k : qe_ok σ)
    (hJ : J52 (nI (s + qe_r lc S s)) (nI (i + 1)) (nI S) (nI L) (nI C) (nI M) pr cc (nI ((qb_wr (nI (qe_r lc S s - 1)) 3 σ).1)) (nI N) op (nI R) (nI E) (nI D) (qs_N c) (qs_N ml) (qs_N lc) (qs_N ((qb_wr (nI (qe_r lc S s - 1)) 3 σ).2)) (qs_N ib) (qs_N lh) dl ls (qs_N par)) :
    ∀ d r n, r + d = qe_p lc (S - s) s → d < n → wY_encode_80 post J52 (nI s) (nI i) (nI S) (nI L) (nI C) (nI M) pr cc (nI σ.1) (nI N) op (nI R) (nI E) (nI D) (qs_N c) (qs_N ml) (qs_N lc) (qs_N σ.2) (qs_N ib) (qs_N lh) dl ls (qs_N par) n (nI r) (nI (s + r)) := by
  obtain ⟨p1, p2, p3⟩ := qe_pp (h := lc) (S - s) s
  have r1 := qe_r1 hs x
  have er : qe_r lc S s = min (qe_p lc (S - s) s) 4 := rfl
  intro d
  induction d with
  | zero =>
    intro r n hr hn
    obtain ⟨n, rfl⟩ : ∃ m, n = m + 1 := ⟨n - 1, by omega⟩
    rw [Nat.add_zero] at hr
    have fin : wY_encode_108 post J52 (nI s) (nI i) (nI r) (nI S) (nI L) (nI C) (nI M) pr cc (nI σ.1) (nI N) op (nI R) (nI E) (nI D) (qs_N c) (qs_N ml) (qs_N lc) (qs_N σ.2) (qs_N ib) (qs_N lh) dl ls (qs_N par) := by
      refine qy_e108 k (by omega) (by omega) ?_
      rw [hr]
      exact hJ
    by_cases y : S ≤ s + r
    · exact br_t (nI_le y (by omega)) fin
    · have := p3 (by omega)
      rw [← hr] at this
      have l6 := hl6 (s + r)
      refine br_f (nI_ge (by omega) (by omega)) ⟨vp_in_nI (by omega) (by decide), br_f ?_ fin⟩
      rw [qs_Nr _ (by omega)]
      exact nI_ne0 (by omega) (by omega)
  | succ d ih =>
    intro r n hr hn
    obtain ⟨n, rfl⟩ : ∃ m, n = m + 1 := ⟨n - 1, by omega⟩
    have := p2 r (by omega)
    refine br_f (nI_ge (by omega) (by omega)) ⟨vp_in_nI (by omega) (by decide), br_t ?_ (nm_r (nI_1 r) (nm_r (nI_1 (s + r)) (ih (r + 1) n (by omega) (by omega))))⟩
    rw [qs_Nr _ (by omega), this]
    rfl
theorem qy_e141 {post : Int32 → SY → Prop} {J52 : Int32 → Int32 → Int32 → Int32 → Int32 → Int32 → Int32 → Int32 → Int32 → Int32 → Int32 → Int32 → Int32 → Int32 → (Nat → Int32) → (Nat → Int32) → (Nat → Int32) → (Nat → Int32) → (Nat → Int32) → (Nat → Int32) → (Nat → Int32) → (Nat → Int32) → (Nat → Int32) → Prop} {s i : Nat} {σ : Nat × (Nat → Nat)} (hS : S ≤ 12) (hs : s < S) (hl6 : ∀ j, lc j ≤ 6) (k : qe_ok σ)
    (h1 : lc s = qe_l lc s → J52 (nI (s + 1)) (nI (i + 1)) (nI S) (nI L) (nI C) (nI M) pr cc (nI ((qb_wr 2 2 σ).1)) (nI N) op (nI R) (nI E) (nI D) (qs_N c) (qs_N ml) (qs_N lc) (qs_N ((qb_wr 2 2 σ).2)) (qs_N ib) (qs_N lh) dl ls (qs_N par))
    (h2 : lc s ≠ qe_l lc s → J52 (nI (s + 1)) (nI (i + 1)) (nI S) (nI L) (nI C) (nI M) pr cc (nI ((qb_wr (nI (24 + lc s)) 5 σ).1)) (nI N) op (nI R) (nI E) (nI D) (qs_N c) (qs_N ml) (qs_N lc) (qs_N ((qb_wr (nI (24 + lc s)) 5 σ).2)) (qs_N ib) (qs_N lh) dl ls (qs_N par)) :
    ∀ d t n, t + d = s → d < n → wY_encode_141 post J52 (nI s) (nI i) (nI S) (nI L) (nI C) (nI M) pr cc (nI σ.1) (nI N) op (nI R) (nI E) (nI D) (qs_N c) (qs_N ml) (qs_N lc) (qs_N σ.2) (qs_N ib) (qs_N lh) dl ls (qs_N par) n (nI (qe_l lc t)) (nI t) := by
  intro d
  induction d with
  | zero =>
    intro t n ht hn
    obtain ⟨n, rfl⟩ : ∃ m, n = m + 1 := ⟨n - 1, by omega⟩
    rw [Nat.add_zero] at ht
    subst ht
    have l6 := hl6 t
    have q6 := qe_l6 hl6 t
    refine br_t (nI_le (Nat.le_refl _) (by omega)) ⟨vp_in_nI (by omega) (by decide), ?_⟩
    rw [qs_Nr lc (show t < 2 ^ 31 by omega)]
    by_cases z : lc t = qe_l lc t
    · exact br_t (congrArg nI z.symm) (qy_write (s := σ) (v := 2) (w := 2) (by decide) k.1 (nm_r (nI_1 t) (nm_r (nI_1 i) (h1 z))))
    · refine br_f (by rw [nI_eq (by omega) (by omega)]; exact fun q => z q.symm) (qy_write (s := σ) (v := 3) (w := 2) (by decide) k.1 ⟨vp_in_nI (by omega) (by decide), ?_⟩)
      rw [qs_Nr lc (show t < 2 ^ 31 by omega)]
      refine qy_write (s := qb_wr 3 2 σ) (w := 3) (by decide) (qe_okw k).1 (nm_r (nI_1 t) (nm_r (nI_1 i) ?_))
      rw [qe_h5 l6]
      exact h2 z
  | succ d ih =>
    intro t n ht hn
    obtain ⟨n, rfl⟩ : ∃ m, n = m + 1 := ⟨n - 1, by omega⟩
    have i1 := ih (t + 1) n (by omega) (by omega)
    have l6 := hl6 t
    refine br_f (nI_ge (by omega) (by omega)) ⟨vp_in_nI (by omega) (by decide), ?_⟩
    rw [qs_Nr lc (show t < 2 ^ 31 by omega)]
    by_cases z : lc t = 0
    · rw [qe_l1, if_pos z] at i1
      exact br_t (by rw [z]; rfl) (nm_r (nI_1 t) i1)
    · rw [qe_l1, if_neg z] at i1
      exact br_f (nI_ne0 (by omega) (by omega)) ⟨vp_in_nI (by omega) (by decide), nm_e (nm_r (nI_1 t) i1)⟩
theorem qy_e52 {post : Int32 → SY → Prop} (hS : S ≤ 12) (hl6 : ∀ j, lc j ≤ 6) : ∀ f s i n σ, i + f = 12 → f < n → s ≤ S → qe_ok σ → wY_encode_216 post (nI S) (nI L) (nI C) (nI M) pr cc (nI ((qe_h lc S f s σ).1)) (nI N) op (nI R) (nI E) (nI D) (qs_N c) (qs_N ml) (qs_N lc) (qs_N ((qe_h lc S f s σ).2)) (qs_N ib) (qs_N lh) dl ls (qs_N par) → wY_encode_52 post n (nI s) (nI i) (nI S) (nI L) (nI C) (nI M) pr cc (nI σ.1) (nI N) op (nI R) (nI E) (nI D) (qs_N c) (qs_N ml) (qs_N lc) (qs_N σ.2) (qs_N ib) (qs_N lh) dl ls (qs_N par) := by
  intro f
  induction f with
  | zero =>
    intro s i n σ hi hn hs k hp
    obtain ⟨n, rfl⟩ : ∃ m, n = m + 1 := ⟨n - 1, by omega⟩
    obtain rfl : i = 12 := by omega
    exact br_t (by decide) hp
  | succ f ih =>
    intro s i n σ hi hn hs k hp
    obtain ⟨n, rfl⟩ : ∃ m, n = m + 1 := ⟨n - 1, by omega⟩
    rw [qe_h1] at hp
    have l6 := hl6 s
    refine br_f (nI_ge (b := 12) (by omega) (by decide)) ?_
    by_cases x : S ≤ s
    · rw [if_pos x] at hp
      exact br_t (nI_le x (by omega)) hp
    · rw [if_neg x] at hp
      refine br_f (nI_ge (by omega) (by omega)) ⟨vp_in_nI (by omega) (by decide), ?_⟩
      rw [qs_Nr lc (show s < 2 ^ 31 by omega)]
      by_cases y : lc s = 0
      · rw [if_pos y] at hp
        obtain ⟨p1, p2, p3⟩ := qe_pp (h := lc) (S - s) s
        have er : qe_r lc S s = min (qe_p lc (S - s) s) 4 := rfl
        exact br_t (by rw [y]; rfl) ⟨qe_p lc (S - s) s + 1, qy_e80 hS (by omega) hl6 y k (ih (s + qe_r lc S s) (i + 1) n _ (by omega) (by omega) (by omega) (qe_okw k) hp) (qe_p lc (S - s) s) 0 (qe_p lc (S - s) s + 1) (by omega) (by omega)⟩
      · rw [if_neg y] at hp
        refine br_f (nI_ne0 (by omega) (by omega)) ⟨s + 1, qy_e141 hS (by omega) hl6 k (fun z => ?_) (fun z => ?_) s 0 (s + 1) (by omega) (by omega)⟩
        · rw [if_pos z] at hp
          exact ih (s + 1) (i + 1) n _ (by omega) (by omega) (by omega) (qe_okw k) hp
        · rw [if_neg z] at hp
          exact ih (s + 1) (i + 1) n _ (by omega) (by omega) (by omega) (qe_okw k) hp
theorem qy_e227 {post : Int32 → SY → Prop} (hS : S ≤ 12) (hM : M ≤ 31) (hl6 : ∀ j, lc j ≤ 6) (hml : ∀ i, i < M → ml i < S) (hnz : ∀ i, i < M → lc (ml i) ≠ 0) :
    ∀ d i n σ, i + d = M → d < n → qe_ok σ → post (nI (qe_m lc ml S d i σ).1) (nI S, nI L, nI C, nI M, pr, cc, nI ((qe_m lc ml S d i σ).1), nI N, op, nI R, nI E, nI D, qs_N c, qs_N ml, qs_N lc, qs_N ((qe_m lc ml S d i σ).2), qs_N ib, qs_N lh, dl, ls, qs_N par) → wY_encode_227 post n (nI i) (nI S) (nI L) (nI C) (nI M) pr cc (nI σ.1) (nI N) op (nI R) (nI E) (nI D) (qs_N c) (qs_N ml) (qs_N lc) (qs_N σ.2) (qs_N ib) (qs_N lh) dl ls (qs_N par) := by
  intro d
  induction d with
  | zero =>
    intro i n σ hi hn k hp
    obtain ⟨n, rfl⟩ : ∃ m, n = m + 1 := ⟨n - 1, by omega⟩
    exact br_t (nI_le (by omega) (by omega)) hp
  | succ d ih =>
    intro i n σ hi hn k hp
    obtain ⟨n, rfl⟩ : ∃ m, n = m + 1 := ⟨n - 1, by omega⟩
    rw [qe_m1] at hp
    have m1 := hml i (by omega)
    have l6 := hl6 (ml i)
    refine br_f (nI_ge (by omega) (by omega)) ⟨vp_in_nI (by omega) (by decide), ?_⟩
    rw [qs_Nr ml (show i < 2 ^ 31 by omega)]
    refine qy_wordOf_c hS hl6 m1 (hnz i (by omega)) ⟨vp_in_nI (by omega) (by decide), vp_in_nI (by omega) (by decide), ?_⟩
    rw [qs_Nr lc (show ml i < 2 ^ 31 by omega)]
    exact qy_write (s := σ) (w := lc (ml i)) (by omega) k.1 (nm_r (nI_1 i) (ih (i + 1) n _ (by omega) (by omega) (qe_okw k) hp))
end QE
end
section
section QF
variable {S L C T M O N R E D G : Nat} {c ml lc ob ib lh par : Nat → Nat} {pr cc op : Int32} {cw dl rt br wh ls : Nat → Int32} {lf pa ro : Nat → Int64}
theorem qx_e12 {post : Int32 → SX → Prop} (hS : S ≤ 12) (hM : M ≤ 31) (hl6 : ∀ j, lc j ≤ 6) (hml : ∀ i, i < M → ml i < S)
    (hb : (∃ i, i < M ∧ lc (ml i) = 0) → post (-7) (nI S, nI L, nI C, nI T, nI M, pr, cc, nI O, nI N, op, nI G, nI R, nI E, nI D, qs_N c, qs_N ml, qs_N lc, cw, qs_N ob, qs_N ib, qs_N lh, dl, rt, br, lf, pa, ro, qs_N par, wh))
    (hg : (∀ i, i < M → lc (ml i) ≠ 0) → wpX_writeLengths (fun u => match u with | (f_symbols, f_limit, f_capacity, f_total, f_messageCount, f_codePresent, f_codeCost, f_outCount, f_inCount, f_receiverOpen, f_greatestHeard, f_readAt, f_expected, f_decodedCount, a_counts, a_messageList, a_codeLength, a_codeWord, a_outBit, a_inBit, a_heard, a_decodedList, a_root, a_branch, a_leaves, a_packages, a_row, a_parsed, a_heardWord) => (wpX_writeBits (fun u => match u with | (f_symbols, f_limit, f_capacity, f_total, f_messageCount, f_codePresent, f_codeCost, f_outCount, f_inCount, f_receiverOpen, f_greatestHeard, f_readAt, f_expected, f_decodedCount, a_counts, a_messageList, a_codeLength, a_codeWord, a_outBit, a_inBit, a_heard, a_decodedList, a_root, a_branch, a_leaves, a_packages, a_row, a_parsed, a_heardWord) => (∃ n63 : Nat, wX_encode_63 post n63 0 f_symbols f_limit f_capacity f_total f_messageCount f_codePresent f_codeCost f_outCount f_inCount f_receiverOpen f_greatestHeard f_readAt f_expected f_decodedCount a_counts a_messageList a_codeLength a_codeWord a_outBit a_inBit a_heard a_decodedList a_root a_branch a_leaves a_packages a_row a_parsed a_heardWord)) (f_symbols, f_limit, f_capacity, f_total, f_messageCount, f_codePresent, f_codeCost, f_outCount, f_inCount, f_receiverOpen, f_greatestHeard, f_readAt, f_expected, f_decodedCount, a_counts, a_messageList, a_codeLength, a_codeWord, a_outBit, a_inBit, a_heard, a_decodedList, a_root, a_branch, a_leaves, a_packages, a_row, a_parsed, a_heardWord) f_messageCount 5)) (nI S, nI L, nI C, nI T, nI M, pr, cc, nI 0, nI N, op, nI G, nI R, nI E, nI D, qs_N c, qs_N ml, qs_N lc, cw, qs_N ob, qs_N ib, qs_N lh, dl, rt, br, lf, pa, ro, qs_N par, wh)) :
    ∀ d i n, i + d = M → d < n → (∀ j, j < i → lc (ml j) ≠ 0) → wX_encode_12 post (nI S) (nI L) (nI C) (nI T) (nI M) pr cc (nI O) (nI N) op (nI G) (nI R) (nI E) (nI D) (qs_N c) (qs_N ml) (qs_N lc) cw (qs_N ob) (qs_N ib) (qs_N lh) dl rt br lf pa ro (qs_N par) wh n (nI i) := by
  intro d
  induction d with
  | zero =>
    intro i n hi hn hj
    obtain ⟨n, rfl⟩ : ∃ m, n = m + 1 := ⟨n - 1, by omega⟩
    exact br_t (nI_le (by omega) (by omega)) (hg (fun j h => hj j (by omega)))
  | succ d ih =>
    intro i n hi hn hj
    obtain ⟨n, rfl⟩ : ∃ m, n = m + 1 := ⟨n - 1, by omega⟩
    have m1 := hml i (by omega)
    have l6 := hl6 (ml i)
    refine br_f (nI_ge (by omega) (by omega)) ⟨vp_in_nI (by omega) (by decide), ?_⟩
    rw [qs_Nr ml (show i < 2 ^ 31 by omega), qs_Nr lc (show ml i < 2 ^ 31 by omega)]
    refine ⟨vp_in_nI (by omega) (by decide), ?_⟩
    by_cases x : lc (ml i) = 0
    · exact br_t (by rw [x]; rfl) (hb ⟨i, by omega, x⟩)
    · refine br_f (nI_ne0 (by omega) (by omega)) (nm_r (nI_1 i) (ih (i + 1) n (by omega) (by omega) (fun j h => ?_)))
      by_cases y : j = i
      · subst y; exact x
      · exact hj j (by omega)
theorem qy_e12 {post : Int32 → SY → Prop} (hS : S ≤ 12) (hM : M ≤ 31) (hl6 : ∀ j, lc j ≤ 6) (hml : ∀ i, i < M → ml i < S)
    (hb : (∃ i, i < M ∧ lc (ml i) = 0) → post (-7) (nI S, nI L, nI C, nI M, pr, cc, nI O, nI N, op, nI R, nI E, nI D, qs_N c, qs_N ml, qs_N lc, qs_N ob, qs_N ib, qs_N lh, dl, ls, qs_N par))
    (hg : (∀ i, i < M → lc (ml i) ≠ 0) → ∃ n52 : Nat, wY_encode_52 post n52 0 0 (nI S) (nI L) (nI C) (nI M) pr cc 0 (nI N) op (nI R) (nI E) (nI D) (qs_N c) (qs_N ml) (qs_N lc) (qs_N ob) (qs_N ib) (qs_N lh) dl ls (qs_N par)) :
    ∀ d i n, i + d = M → d < n → (∀ j, j < i → lc (ml j) ≠ 0) → wY_encode_12 post (nI S) (nI L) (nI C) (nI M) pr cc (nI O) (nI N) op (nI R) (nI E) (nI D) (qs_N c) (qs_N ml) (qs_N lc) (qs_N ob) (qs_N ib) (qs_N lh) dl ls (qs_N par) n (nI i) := by
  intro d
  induction d with
  | zero =>
    intro i n hi hn hj
    obtain ⟨n, rfl⟩ : ∃ m, n = m + 1 := ⟨n - 1, by omega⟩
    exact br_t (nI_le (by omega) (by omega)) (hg (fun j h => hj j (by omega)))
  | succ d ih =>
    intro i n hi hn hj
    obtain ⟨n, rfl⟩ : ∃ m, n = m + 1 := ⟨n - 1, by omega⟩
    have m1 := hml i (by omega)
    have l6 := hl6 (ml i)
    refine br_f (nI_ge (by omega) (by omega)) ⟨vp_in_nI (by omega) (by decide), ?_⟩
    rw [qs_Nr ml (show i < 2 ^ 31 by omega), qs_Nr lc (show ml i < 2 ^ 31 by omega)]
    refine ⟨vp_in_nI (by omega) (by decide), ?_⟩
    by_cases x : lc (ml i) = 0
    · exact br_t (by rw [x]; rfl) (hb ⟨i, by omega, x⟩)
    · refine br_f (nI_ne0 (by omega) (by omega)) (nm_r (nI_1 i) (ih (i + 1) n (by omega) (by omega) (fun j h => ?_)))
      by_cases y : j = i
      · subst y; exact x
      · exact hj j (by omega)
end QF
theorem i_vc_encode {k : Nat} {u : SX} {v : SY} (I : i_Rel k u v) (hk : k + 3 ≤ 1539) : wpX_encode (fun r u' => wpY_encode (fun r' v' => r' = r ∧ i_Rel (k + 3) u' v') v) u := by
  refine qr_el (P := fun u v => wpX_encode (fun r u' => wpY_encode (fun r' v' => r' = r ∧ i_Rel (k + 3) u' v') v) u) ?_ I
  intro S L C T M O N R E D G c ml lc ob ib lh par pr cc op cw dl rt br lf pa ro wh ls F
  have F0 := F
  obtain ⟨⟨hS2, hS, hL1, hL, hC1, hC, hM, hO, hN, hR, hD, hE⟩, ⟨hT, hT2, hc0⟩, hml, ⟨hh6, hh0, hcw⟩, ⟨hob, hib⟩, ⟨hd6, hd0⟩, hop⟩ := F
  by_cases x : pr = 0
  · exact br_t x (br_t x ⟨rfl, qr_in _ F0⟩)
  · refine br_f x ⟨M + 1, qx_e12 hS (by omega) hh6 hml (fun b => ?_) (fun g => ?_) M 0 (M + 1) (by omega) (by omega) (fun j h => by omega)⟩
    · refine br_f x ⟨M + 1, qy_e12 hS (by omega) hh6 hml (fun _ => ⟨rfl, qr_in _ F0⟩) (fun g => ?_) M 0 (M + 1) (by omega) (by omega) (fun j h => by omega)⟩
      obtain ⟨i, i1, i2⟩ := b
      exact absurd i2 (g i i1)
    · have k0 : qe_ok (0, ob) := ⟨Nat.zero_le _, hob⟩
      have k1 := qe_hok (h := lc) (S := S) 12 0 (0, ob) k0
      refine ⟨13, qx_wl (s := 0) hS hh6 12 0 13 (0, ob) (by omega) (by omega) (Nat.zero_le _) k0 ?_⟩
      refine qx_write (s := qe_h lc S 12 0 (0, ob)) (w := 5) (by decide) k1.1 ?_
      have k2 : qe_ok (qb_wr (nI M) 5 (qe_h lc S 12 0 (0, ob))) := qe_okw k1
      refine ⟨M + 1, qx_e63 hS (by omega) hh6 hml g hcw M 0 (M + 1) _ (by omega) (by omega) k2 ?_⟩
      have k3 := qe_mok (h := lc) (ml := ml) (S := S) M 0 _ k2
      refine br_f x ⟨M + 1, qy_e12 hS (by omega) hh6 hml (fun b => ?_) (fun _ => ?_) M 0 (M + 1) (by omega) (by omega) (fun j h => by omega)⟩
      · obtain ⟨i, i1, i2⟩ := b
        exact absurd i2 (g i i1)
      · refine ⟨13, qy_e52 hS hh6 12 0 0 13 (0, ob) (by omega) (by omega) (Nat.zero_le _) k0 ?_⟩
        unfold wY_encode_216
        refine qy_write (s := qe_h lc S 12 0 (0, ob)) (w := 5) (by decide) k1.1 ?_
        refine ⟨M + 1, qy_e227 hS (by omega) hh6 hml g M 0 (M + 1) _ (by omega) (by omega) k2 ?_⟩
        exact ⟨rfl, qr_in _ ⟨⟨hS2, hS, hL1, hL, hC1, hC, hM, k3.1, hN, hR, hD, hE⟩, ⟨hT, hT2, hc0⟩, hml, ⟨hh6, hh0, hcw⟩, ⟨k3.2, hib⟩, ⟨hd6, hd0⟩, hop⟩⟩
end
section
/-! the component fills its tables -/
/-- i cells from a on set to e -/
def qt_R (f : Nat → Int32) (a i : Nat) (e : Int32) : Nat → Int32 := fun p => if a ≤ p ∧ p < a + i then e else f p
theorem qt_R0 (f : Nat → Int32) (a : Nat) (e : Int32) : qt_R f a 0 e = f := by
  funext p
  exact if_neg (by omega)
theorem qt_Rs (f : Nat → Int32) (a i : Nat) (e : Int32) : upd (qt_R f a i e) (a + i) e = qt_R f a (i + 1) e := by
  funext p
  show (if p = a + i then e else if a ≤ p ∧ p < a + i then e else f p) = if a ≤ p ∧ p < a + (i + 1) then e else f p
  by_cases x : p = a + i
  · rw [if_pos x, if_pos (by omega)]
  · rw [if_neg x]
    by_cases y : a ≤ p ∧ p < a + i
    · rw [if_pos y, if_pos (by omega)]
    · rw [if_neg y, if_neg (by omega)]
theorem qt_ent {s k : Nat} (hs : s ≤ 11) (hk : k ≤ 7) : (nI s <<< ((3 : Int32) &&& 31)) ||| nI k = nI (8 * s + k) := by
  rw [pk_shlN ((3 : Int32) &&& 31) 3 (by decide) (by omega), qb_or]
  rw [show 8 * s + k = 2 ^ 3 * s + k from by omega, Nat.two_pow_add_eq_or_of_lt (by omega : k < 2 ^ 3) s, Nat.mul_comm s]
theorem qt_sl {v k : Nat} (hk : k ≤ 6) (hv : v * 2 ^ k < 2 ^ 31) : nI v <<< (nI k &&& 31) = nI (v * 2 ^ k) := pk_shlN (nI k &&& 31) k (s_l k (by omega)) (by omega)
section QT
variable {S L C T M O N R E D G : Nat} {c ml lc ob ib lh par : Nat → Nat} {pr cc op : Int32} {cw dl rt br wh ls : Nat → Int32} {lf pa ro : Nat → Int64}
theorem qx_fr {post : SX → Prop} {s k w : Nat} (hs : s ≤ 11) (hk1 : 1 ≤ k) (hk : k ≤ 3) (hw : (w + 1) * 2 ^ (3 - k) ≤ 8) (ew : wh s = nI w) (hp : post (nI S, nI L, nI C, nI T, nI M, pr, cc, nI O, nI N, op, nI G, nI R, nI E, nI D, qs_N c, qs_N ml, qs_N lc, cw, qs_N ob, qs_N ib, qs_N lh, dl, (qt_R rt (w * 2 ^ (3 - k)) (2 ^ (3 - k)) (nI (8 * s + k))), br, lf, pa, ro, qs_N par, wh)) : wpX_fillRoot post (nI S, nI L, nI C, nI T, nI M, pr, cc, nI O, nI N, op, nI G, nI R, nI E, nI D, qs_N c, qs_N ml, qs_N lc, cw, qs_N ob, qs_N ib, qs_N lh, dl, rt, br, lf, pa, ro, qs_N par, wh) (nI s) (nI k) := by
  rw [Nat.succ_mul] at hw
  have p0 := Nat.two_pow_pos (3 - k)
  have key : ∀ d i n, i + d = 2 ^ (3 - k) → d < n → wX_fillRoot_29 post (nI (w * 2 ^ (3 - k))) (nI (2 ^ (3 - k))) (nI (8 * s + k)) (nI S) (nI L) (nI C) (nI T) (nI M) pr cc (nI O) (nI N) op (nI G) (nI R) (nI E) (nI D) n (nI i) (qs_N c) (qs_N ml) (qs_N lc) cw (qs_N ob) (qs_N ib) (qs_N lh) dl (qt_R rt (w * 2 ^ (3 - k)) i (nI (8 * s + k))) br lf pa ro (qs_N par) wh := by
    intro d
    induction d with
    | zero =>
      intro i n hi hn
      obtain ⟨n, rfl⟩ : ∃ m, n = m + 1 := ⟨n - 1, by omega⟩
      rw [Nat.add_zero] at hi
      subst hi
      exact br_t (nI_le (Nat.le_refl _) (by omega)) hp
    | succ d ih =>
      intro i n hi hn
      obtain ⟨n, rfl⟩ : ∃ m, n = m + 1 := ⟨n - 1, by omega⟩
      refine br_f (nI_ge (by omega) (by omega)) ?_
      rw [nI_add, pk_andN (by omega) 3 (by decide), Nat.mod_eq_of_lt (by omega)]
      refine ⟨vp_in_nI (by omega) (by decide), nm_r (e' := qt_R rt (w * 2 ^ (3 - k)) (i + 1) (nI (8 * s + k))) ?_ (nm_r (nI_1 i) (ih (i + 1) n (by omega) (by omega)))⟩
      rw [nI_clamp (by omega)]
      exact qt_Rs _ _ _ _
  have e1 : (3 : Int32) - nI k = nI (3 - k) := pk_sub (a := 3) hk
  have k0 := key (2 ^ (3 - k)) 0 (2 ^ (3 - k) + 1) (by omega) (by omega)
  rw [qt_R0] at k0
  refine nm_r e1 ⟨vp_in_nI (by omega) (by decide), nm_r (e' := nI (w * 2 ^ (3 - k))) ?_ (nm_r (qu_sh (by omega)) (nm_r (qt_ent hs (by omega)) ⟨_, k0⟩))⟩
  rw [nI_clamp (by omega), ew, qt_sl (by omega) (by omega)]
theorem qx_fb {post : SX → Prop} {s k w b : Nat} (hs : s ≤ 11) (hk1 : 4 ≤ k) (hk : k ≤ 6) (hw : (w + 1) * 2 ^ (6 - k) ≤ 64) (hb : b < 8) (ew : wh s = nI w) (hp : post (nI S, nI L, nI C, nI T, nI M, pr, cc, nI O, nI N, op, nI G, nI R, nI E, nI D, qs_N c, qs_N ml, qs_N lc, cw, qs_N ob, qs_N ib, qs_N lh, dl, rt, (qt_R br (8 * b + w * 2 ^ (6 - k) % 8) (2 ^ (6 - k)) (nI (8 * s + k))), lf, pa, ro, qs_N par, wh)) : wpX_fillBranch post (nI S, nI L, nI C, nI T, nI M, pr, cc, nI O, nI N, op, nI G, nI R, nI E, nI D, qs_N c, qs_N ml, qs_N lc, cw, qs_N ob, qs_N ib, qs_N lh, dl, rt, br, lf, pa, ro, qs_N par, wh) (nI s) (nI k) (-nI (b + 1)) := by
  rw [Nat.succ_mul] at hw
  have p0 := Nat.two_pow_pos (6 - k)
  have al : w * 2 ^ (6 - k) % 8 + 2 ^ (6 - k) ≤ 8 := by
    have h3 : k = 4 ∨ k = 5 ∨ k = 6 := by omega
    rcases h3 with e | e | e
    · subst e; show w * 4 % 8 + 4 ≤ 8; omega
    · subst e; show w * 2 % 8 + 2 ≤ 8; omega
    · subst e; show w * 1 % 8 + 1 ≤ 8; omega
  have key : ∀ d i n, i + d = 2 ^ (6 - k) → d < n → wX_fillBranch_41 post (nI (8 * b)) (nI (w * 2 ^ (6 - k))) (nI (2 ^ (6 - k))) (nI (8 * s + k)) (nI S) (nI L) (nI C) (nI T) (nI M) pr cc (nI O) (nI N) op (nI G) (nI R) (nI E) (nI D) n (nI i) (qs_N c) (qs_N ml) (qs_N lc) cw (qs_N ob) (qs_N ib) (qs_N lh) dl rt (qt_R br (8 * b + w * 2 ^ (6 - k) % 8) i (nI (8 * s + k))) lf pa ro (qs_N par) wh := by
    intro d
    induction d with
    | zero =>
      intro i n hi hn
      obtain ⟨n, rfl⟩ : ∃ m, n = m + 1 := ⟨n - 1, by omega⟩
      rw [Nat.add_zero] at hi
      subst hi
      exact br_t (nI_le (Nat.le_refl _) (by omega)) hp
    | succ d ih =>
      intro i n hi hn
      obtain ⟨n, rfl⟩ : ∃ m, n = m + 1 := ⟨n - 1, by omega⟩
      refine br_f (nI_ge (by omega) (by omega)) (nm_r (e' := nI (w * 2 ^ (6 - k) % 8 + i)) ?_ ?_)
      · rw [nI_add, pk_andN (by omega) 3 (by decide)]
        exact congrArg nI (by omega)
      · rw [nI_add, pk_andN (by omega) 6 (by decide), Nat.mod_eq_of_lt (by omega)]
        refine ⟨vp_in_nI (by omega) (by decide), nm_r (e' := qt_R br (8 * b + w * 2 ^ (6 - k) % 8) (i + 1) (nI (8 * s + k))) ?_ (nm_r (nI_1 i) (ih (i + 1) n (by omega) (by omega)))⟩
        rw [nI_clamp (by omega), ← Nat.add_assoc]
        exact qt_Rs _ _ _ _
  have e0 : (-(-nI (b + 1)) - 1) <<< ((3 : Int32) &&& 31) = nI (8 * b) := by
    rw [Int32.neg_neg, nI_pred, pk_shlN ((3 : Int32) &&& 31) 3 (by decide) (by omega)]
    exact congrArg nI (by omega)
  have e1 : (6 : Int32) - nI k = nI (6 - k) := pk_sub (a := 6) hk
  have k0 := key (2 ^ (6 - k)) 0 (2 ^ (6 - k) + 1) (by omega) (by omega)
  rw [qt_R0] at k0
  refine nm_r e0 (nm_r e1 ⟨vp_in_nI (by omega) (by decide), nm_r (e' := nI (w * 2 ^ (6 - k))) ?_ (nm_r (qu_sh (by omega)) (nm_r (qt_ent hs (by omega)) ⟨_, k0⟩))⟩)
  rw [nI_clamp (by omega), ew, qt_sl (by omega) (by omega)]
theorem qx_ft46 {post : SX → Prop} (hS : S ≤ 12) (h6 : ∀ j, lh j ≤ 6) (hK : qw_K lh S ≤ 64) (hw : qw_P lh S wh) (hp : ∀ rt br, qt_T lh S rt br → post (nI S, nI L, nI C, nI T, nI M, pr, cc, nI O, nI N, op, nI G, nI R, nI E, nI D, qs_N c, qs_N ml, qs_N lc, cw, qs_N ob, qs_N ib, qs_N lh, dl, rt, br, lf, pa, ro, qs_N par, wh)) :
    ∀ d s n bl B rt br, s + d = S → d < n → qt_I lh S s bl B rt br → wX_fillTables_46 post n (nI bl) (nI s) (nI S) (nI L) (nI C) (nI T) (nI M) pr cc (nI O) (nI N) op (nI G) (nI R) (nI E) (nI D) (qs_N c) (qs_N ml) (qs_N lc) cw (qs_N ob) (qs_N ib) (qs_N lh) dl rt br lf pa ro (qs_N par) wh := by
  intro d
  induction d with
  | zero =>
    intro s n bl B rt br hs hn I
    obtain ⟨n, rfl⟩ : ∃ m, n = m + 1 := ⟨n - 1, by omega⟩
    obtain rfl : s = S := by omega
    exact br_t (nI_le (Nat.le_refl _) (by omega)) (hp rt br (qt_fin I))
  | succ d ih =>
    intro s n bl B rt br hs hn I
    obtain ⟨n, rfl⟩ : ∃ m, n = m + 1 := ⟨n - 1, by omega⟩
    have l6 := h6 s
    have bl8 : bl ≤ 8 := by rw [← I.2.2.2.1]; exact qt_bl B
    refine br_f (nI_ge (by omega) (by omega)) ⟨vp_in_nI (by omega) (by decide), nm_r (qs_Nr lh (i := s) (by omega)) ?_⟩
    by_cases x : lh s = 0
    · rw [x]
      exact br_t (by decide) (br_t (by decide) (nm_r (nI_1 s) (ih (s + 1) n bl B rt br (by omega) (by omega) (qt_skip I x))))
    · have wk := qw_in (h := lh) (S := S) (s := s) (by omega) x l6
      have ew := hw s (by omega) x
      refine br_f (nI_nle (by omega) (by omega)) ?_
      by_cases y : 3 < lh s
      · refine br_t (nI_lt (a := 3) y (by omega)) (br_f (nI_ge (a := 3) y (by omega)) ⟨vp_in_nI (by omega) (by decide), ?_⟩)
        -- the place
        have e3 : nI (lh s) - 3 = nI (lh s - 3) := pk_sub (b := 3) (by omega)
        have w64 : qw_w lh S s * 2 ^ (6 - lh s) + 2 ^ (6 - lh s) ≤ 64 := by have := wk; rw [Nat.succ_mul] at this; omega
        have pp := Nat.two_pow_pos (6 - lh s)
        have d8 := qt_p3 (S := S) y l6
        have hp8 : qw_w lh S s / 2 ^ (lh s - 3) < 8 := by omega
        have wlt : qw_w lh S s < 2 ^ 31 := by
          have := Nat.le_mul_of_pos_right (qw_w lh S s) pp
          omega
        have ep : (wh (nI s).toNatClampNeg >>> ((nI (lh s) - 3) &&& 31)) &&& 7 = nI (qw_w lh S s / 2 ^ (lh s - 3)) := by
          rw [nI_clamp (by omega), ew, e3, pk_shrN wlt (nI (lh s - 3) &&& 31) (lh s - 3) (s_l _ (by omega)), pk_andN (by omega) 3 (by decide), Nat.mod_eq_of_lt hp8]
        refine nm_r ep ?_
        generalize hpl : qw_w lh S s / 2 ^ (lh s - 3) = p at *
        refine ⟨vp_in_nI (by omega) (by decide), ?_⟩
        -- entering the word, once the place has a block
        have fin : ∀ (bl : Nat) (B : Nat → Nat) (rt : Nat → Int32), bl ≤ 8 → B p ≠ 0 → (∀ p, p < 8 → B p = 0 → rt p = nI (qt_E lh S s (8 * p)) ∧ ∀ q, q < 8 → qt_E lh S s (8 * p + q) = qt_E lh S s (8 * p)) →
            (∀ p', p' < 8 → B p' ≠ 0 → rt p' = -nI (B p') ∧ B p' ≤ bl ∧ (∀ q, q < 8 → br (8 * (B p' - 1) + q) = nI (qt_E lh S s (8 * p' + q))) ∧ ∃ t, t < s + 1 ∧ 3 < lh t ∧ qw_w lh S t / 2 ^ (lh t - 3) = p') →
            (∀ p p', p < 8 → p' < 8 → B p ≠ 0 → B p = B p' → p = p') → qs_s (fun p => if B p = 0 then 0 else 1) 8 = bl → (∀ j, 8 * bl ≤ j → j < 64 → br j = 0) →
            wX_fillTables_121 post (wX_fillTables_46 post n) (nI bl) (nI s) (nI (lh s)) (nI p) (nI S) (nI L) (nI C) (nI T) (nI M) pr cc (nI O) (nI N) op (nI G) (nI R) (nI E) (nI D) (qs_N c) (qs_N ml) (qs_N lc) cw (qs_N ob) (qs_N ib) (qs_N lh) dl rt br lf pa ro (qs_N par) wh := by
          intro bl B rt b8 zp i1 i2 i3 i4 i5
          obtain ⟨a1, a2, -, -⟩ := i2 p hp8 zp
          refine ⟨vp_in_nI hp8 (by decide), ?_⟩
          rw [nI_clamp (by omega), a1]
          obtain ⟨b, eb⟩ : ∃ b, B p = b + 1 := ⟨B p - 1, by omega⟩
          rw [eb]
          refine qx_fb (w := qw_w lh S s) (by omega) (by omega) l6 (by rw [Nat.succ_mul]; exact w64) (by omega) ew (nm_r (nI_1 s) (ih (s + 1) n bl B rt _ (by omega) (by omega) (qt_long h6 (by omega) y hp8 hpl zp i1 i2 i3 i4 i5 (fun j hj => ?_))))
          have cnd : (8 * b + qw_w lh S s * 2 ^ (6 - lh s) % 8 ≤ j ∧ j < 8 * b + qw_w lh S s * 2 ^ (6 - lh s) % 8 + 2 ^ (6 - lh s)) ↔ (j / 8 = B p - 1 ∧ (8 * p + j % 8) / 2 ^ (6 - lh s) = qw_w lh S s) := by
            have al : qw_w lh S s * 2 ^ (6 - lh s) % 8 + 2 ^ (6 - lh s) ≤ 8 := by
              have h3 : lh s = 4 ∨ lh s = 5 ∨ lh s = 6 := by omega
              rcases h3 with e | e | e
              · rw [e]; show _ * 4 % 8 + 4 ≤ 8; omega
              · rw [e]; show _ * 2 % 8 + 2 ≤ 8; omega
              · rw [e]; show _ * 1 % 8 + 1 ≤ 8; omega
            constructor
            · intro ⟨c1, c2⟩
              refine ⟨by omega, ?_⟩
              have m : qw_m lh S (8 * p + j % 8) s := qw_mo x (by omega) (by rw [Nat.succ_mul (qw_w lh S s)]; omega)
              exact m.2
            · intro ⟨c1, c2⟩
              have m := qw_mi (h := lh) (S := S) (W := 8 * p + j % 8) (s := s) ⟨x, c2⟩
              rw [Nat.succ_mul (qw_w lh S s)] at m
              omega
          show (if _ then _ else _) = _
          by_cases q : 8 * b + qw_w lh S s * 2 ^ (6 - lh s) % 8 ≤ j ∧ j < 8 * b + qw_w lh S s * 2 ^ (6 - lh s) % 8 + 2 ^ (6 - lh s)
          · rw [if_pos q, if_pos (cnd.mp q)]
          · rw [if_neg q, if_neg (fun r => q (cnd.mpr r))]
        by_cases z : B p = 0
        · obtain ⟨f1, f2⟩ := qt_free I h6 (by omega) y hp8 hpl z
          obtain ⟨g1, g2, g3, g4⟩ := qt_new I h6 (by omega) y hp8 hpl z
          obtain ⟨i1, i2, i3, i4, i5⟩ := I
          have su := qs_su (fun p => if B p = 0 then 0 else 1) p 1 8 hp8
          have fs : ∀ q, q < 8 → (if qs_u B p (bl + 1) q = 0 then 0 else 1) = qs_u (fun p => if B p = 0 then 0 else 1) p 1 q := by
            intro q hq
            by_cases e : q = p
            · subst e; rw [qs_us, qs_us, if_neg (by omega)]
            · rw [qs_un e, qs_un e]
          refine br_t (by rw [nI_clamp (by omega)]; exact f2) (nm_r (nI_1 bl) ⟨vp_in_nI hp8 (by decide), nm_r (e' := upd rt p (-nI (bl + 1))) (by rw [nI_clamp (by omega)]) (fin (bl + 1) (qs_u B p (bl + 1)) _ (by omega) (by rw [g3]; omega) (fun q hq zq => ?_) (fun q hq zq => ?_) (fun q q' hq hq' zq eq => ?_) ?_ (fun j j1 j2 => i5 j (by omega) j2))⟩)
          · have e : q ≠ p := fun e => by subst e; rw [g3] at zq; omega
            rw [qs_un e] at zq
            rw [pk_un e]
            exact i1 q hq zq
          · by_cases e : q = p
            · subst e
              rw [g3, pk_us]
              exact ⟨rfl, Nat.le_refl _, g4, s, by omega, y, hpl⟩
            · rw [qs_un e] at zq ⊢
              rw [pk_un e]
              obtain ⟨a, b, c, t, t1, t2⟩ := i2 q hq zq
              exact ⟨a, by omega, c, t, by omega, t2⟩
          · by_cases e : q = p
            · subst e
              by_cases e' : q' = q
              · exact e'.symm
              · exfalso
                rw [g3, qs_un e'] at eq
                have zq' : B q' ≠ 0 := by omega
                have := (i2 q' hq' zq').2.1
                omega
            · rw [qs_un e] at zq eq
              by_cases e' : q' = p
              · exfalso
                subst e'
                rw [g3] at eq
                have := (i2 q hq zq).2.1
                omega
              · rw [qs_un e'] at eq
                exact i3 q q' hq hq' zq eq
          · rw [qs_congr 8 fs]
            rw [i4] at su
            simp only [z, if_true] at su
            omega
        · obtain ⟨i1, i2, i3, i4, i5⟩ := I
          obtain ⟨a1, a2, -, -⟩ := i2 p hp8 z
          refine br_f ?_ (fin bl B rt bl8 z i1 (fun q hq zq => ?_) i3 i4 i5)
          · rw [nI_clamp (by omega), a1]
            intro e
            have e' : nI (B p) = 0 := by
              have n := Int32.neg_neg (a := nI (B p))
              rw [e] at n
              rw [← n]; rfl
            exact nI_ne0 (by omega) (by omega) e'
          · obtain ⟨a, b, c, t, t1, t2⟩ := i2 q hq zq
            exact ⟨a, b, c, t, by omega, t2⟩
      · refine br_f (nI_nlt (a := 3) (by omega) (by decide)) ?_
        have w8 : (qw_w lh S s + 1) * 2 ^ (3 - lh s) ≤ 8 := by
          have e : 2 ^ (6 - lh s) = 2 ^ (3 - lh s) * 8 := by
            rw [show 6 - lh s = (3 - lh s) + 3 from by omega, Nat.pow_add]
          rw [e, ← Nat.mul_assoc] at wk
          omega
        refine qx_fr (w := qw_w lh S s) (by omega) (by omega) (by omega) w8 ew (nm_r (nI_1 s) (ih (s + 1) n bl B _ br (by omega) (by omega) (qt_short I h6 (by omega) x (by omega) (fun p hp => ?_))))
        have p0 := Nat.two_pow_pos (3 - lh s)
        have cnd : (qw_w lh S s * 2 ^ (3 - lh s) ≤ p ∧ p < qw_w lh S s * 2 ^ (3 - lh s) + 2 ^ (3 - lh s)) ↔ p / 2 ^ (3 - lh s) = qw_w lh S s := by
          constructor
          · intro ⟨c1, c2⟩
            apply Nat.le_antisymm
            · have := (Nat.div_lt_iff_lt_mul p0).mpr (show p < (qw_w lh S s + 1) * 2 ^ (3 - lh s) by rw [Nat.succ_mul]; exact c2)
              omega
            · exact (Nat.le_div_iff_mul_le p0).mpr c1
          · intro e
            rw [← e]
            exact ⟨Nat.div_mul_le_self _ _, Nat.lt_div_mul_add p0⟩
        show (if _ then _ else _) = _
        by_cases q : qw_w lh S s * 2 ^ (3 - lh s) ≤ p ∧ p < qw_w lh S s * 2 ^ (3 - lh s) + 2 ^ (3 - lh s)
        · rw [if_pos q, if_pos (cnd.mp q)]
        · rw [if_neg q, if_neg (fun r => q (cnd.mpr r))]
theorem qx_ft {post : SX → Prop} (hS : S ≤ 12) (h6 : ∀ j, lh j ≤ 6) (hK : qw_K lh S ≤ 64) (hw : qw_P lh S wh) (hp : ∀ rt br, qt_T lh S rt br → post (nI S, nI L, nI C, nI T, nI M, pr, cc, nI O, nI N, op, nI G, nI R, nI E, nI D, qs_N c, qs_N ml, qs_N lc, cw, qs_N ob, qs_N ib, qs_N lh, dl, rt, br, lf, pa, ro, qs_N par, wh)) : wpX_fillTables post (nI S, nI L, nI C, nI T, nI M, pr, cc, nI O, nI N, op, nI G, nI R, nI E, nI D, qs_N c, qs_N ml, qs_N lc, cw, qs_N ob, qs_N ib, qs_N lh, dl, rt, br, lf, pa, ro, qs_N par, wh) := by
  have key2 : ∀ rt, (∀ p, p < 8 → rt p = 0) → ∀ d i n br, i + d = 64 → d < n → (∀ j, j < i → br j = 0) → wX_fillTables_23 post (nI S) (nI L) (nI C) (nI T) (nI M) pr cc (nI O) (nI N) op (nI G) (nI R) (nI E) (nI D) n (nI i) (qs_N c) (qs_N ml) (qs_N lc) cw (qs_N ob) (qs_N ib) (qs_N lh) dl rt br lf pa ro (qs_N par) wh := by
    intro rt hr d
    induction d with
    | zero =>
      intro i n br hi hn hb
      obtain ⟨n, rfl⟩ : ∃ m, n = m + 1 := ⟨n - 1, by omega⟩
      obtain rfl : i = 64 := by omega
      exact br_t (by decide) ⟨S + 1, qx_ft46 hS h6 hK hw hp S 0 (S + 1) 0 (fun _ => 0) rt br (by omega) (by omega) (qt_start lh S hr hb)⟩
    | succ d ih =>
      intro i n br hi hn hb
      obtain ⟨n, rfl⟩ : ∃ m, n = m + 1 := ⟨n - 1, by omega⟩
      refine br_f (nI_ge (b := 64) (by omega) (by decide)) ⟨vp_in_nI (by omega) (by decide), nm_r (e' := upd br i 0) (by rw [nI_clamp (by omega)]) (nm_r (nI_1 i) (ih (i + 1) n _ (by omega) (by omega) (fun j hj => ?_)))⟩
      by_cases x : j = i
      · subst x; rw [pk_us]
      · rw [pk_un x]; exact hb j (by omega)
  have key : ∀ d i n rt, i + d = 8 → d < n → (∀ j, j < i → rt j = 0) → wX_fillTables_2 post (nI S) (nI L) (nI C) (nI T) (nI M) pr cc (nI O) (nI N) op (nI G) (nI R) (nI E) (nI D) n (nI i) (qs_N c) (qs_N ml) (qs_N lc) cw (qs_N ob) (qs_N ib) (qs_N lh) dl rt br lf pa ro (qs_N par) wh := by
    intro d
    induction d with
    | zero =>
      intro i n rt hi hn hb
      obtain ⟨n, rfl⟩ : ∃ m, n = m + 1 := ⟨n - 1, by omega⟩
      obtain rfl : i = 8 := by omega
      exact br_t (by decide) ⟨65, key2 rt hb 64 0 65 br (by omega) (by omega) (fun j hj => by omega)⟩
    | succ d ih =>
      intro i n rt hi hn hb
      obtain ⟨n, rfl⟩ : ∃ m, n = m + 1 := ⟨n - 1, by omega⟩
      refine br_f (nI_ge (b := 8) (by omega) (by decide)) ⟨vp_in_nI (by omega) (by decide), nm_r (e' := upd rt i 0) (by rw [nI_clamp (by omega)]) (nm_r (nI_1 i) (ih (i + 1) n _ (by omega) (by omega) (fun j hj => ?_)))⟩
      by_cases x : j = i
      · subst x; rw [pk_us]
      · rw [pk_un x]; exact hb j (by omega)
  exact ⟨9, key 8 0 9 rt (by omega) (by omega) (fun j hj => by omega)⟩
end QT
end
section
/-! open: the header, in lockstep -/
def qo_z (par : Nat → Nat) (s i : Nat) : Nat → Nat := fun j => if s ≤ j ∧ j < s + i then 0 else par j
theorem qo_z0 (par : Nat → Nat) (s : Nat) : qo_z par s 0 = par := by
  funext j
  exact if_neg (by omega)
theorem qo_zs (par : Nat → Nat) (s i : Nat) : qs_u (qo_z par s i) (s + i) 0 = qo_z par s (i + 1) := by
  funext p
  show (if p = s + i then 0 else if s ≤ p ∧ p < s + i then 0 else par p) = if s ≤ p ∧ p < s + (i + 1) then 0 else par p
  by_cases x : p = s + i
  · rw [if_pos x, if_pos (by omega)]
  · rw [if_neg x]
    by_cases y : s ≤ p ∧ p < s + i
    · rw [if_pos y, if_pos (by omega)]
    · rw [if_neg y, if_neg (by omega)]
/-- one outcome for both sides: a refusal e, or the position behind the lengths -/
def qo_Out (AX : (Int32 → SX → Prop) → Prop) (AY : (Int32 → SY → Prop) → Prop) (mX : (Nat → Nat) → SX) (mY : (Nat → Nat) → SY) (K : (Int32 → SY → Prop) → Nat → (Nat → Nat) → Prop) (N S : Nat) : Prop :=
  (∃ (e : Int32) (par : Nat → Nat), ¬ 0 ≤ e ∧ (∀ post, post e (mX par) → AX post) ∧ (∀ post, post e (mY par) → AY post)) ∨
  (∃ (a : Nat) (par : Nat → Nat), a ≤ N ∧ (∀ t, t < S → par t ≤ 6) ∧ (∀ post, post (nI a) (mX par) → AX post) ∧ (∀ post, K post a par → AY post))
theorem qo_step {AX AX' : (Int32 → SX → Prop) → Prop} {AY AY' : (Int32 → SY → Prop) → Prop} {mX : (Nat → Nat) → SX} {mY : (Nat → Nat) → SY} {K : (Int32 → SY → Prop) → Nat → (Nat → Nat) → Prop} {N S : Nat}
    (h : qo_Out AX' AY' mX mY K N S) (hX : ∀ post, AX' post → AX post) (hY : ∀ post, AY' post → AY post) : qo_Out AX AY mX mY K N S := by
  rcases h with ⟨e, par, h1, h2, h3⟩ | ⟨a, par, h0, h1, h2, h3⟩
  · exact Or.inl ⟨e, par, h1, fun post hp => hX post (h2 post hp), fun post hp => hY post (h3 post hp)⟩
  · exact Or.inr ⟨a, par, h0, h1, fun post hp => hX post (h2 post hp), fun post hp => hY post (h3 post hp)⟩
theorem qo_err {AX : (Int32 → SX → Prop) → Prop} {AY : (Int32 → SY → Prop) → Prop} {mX : (Nat → Nat) → SX} {mY : (Nat → Nat) → SY} {K : (Int32 → SY → Prop) → Nat → (Nat → Nat) → Prop} {N S : Nat}
    (e : Int32) (par : Nat → Nat) (he : ¬ 0 ≤ e) (hX : ∀ post, post e (mX par) → AX post) (hY : ∀ post, post e (mY par) → AY post) : qo_Out AX AY mX mY K N S :=
  Or.inl ⟨e, par, he, hX, hY⟩
theorem qo_b1 (f : Nat → Nat) (a : Nat) : qb_v f a 1 = f a := by
  show 2 * 0 + f (a + 0) = f a
  rw [Nat.add_zero]; omega
section QO
variable {S L C T M O N R E D G : Nat} {c ml lc ob ib lh par : Nat → Nat} {pr cc op : Int32} {cw dl rt br wh ls : Nat → Int32} {lf pa ro : Nat → Int64}
theorem qx_98 {post : Int32 → SX → Prop} {J9 : Int32 → Int32 → Int32 → Int32 → (Nat → Int32) → (Nat → Int32) → (Nat → Int32) → (Nat → Int32) → (Nat → Int32) → (Nat → Int32) → (Nat → Int32) → (Nat → Int32) → (Nat → Int32) → (Nat → Int32) → (Nat → Int64) → (Nat → Int64) → (Nat → Int64) → (Nat → Int32) → (Nat → Int32) → Prop} {a s prev item run : Nat} (hS : S ≤ 12) (hr : s + run ≤ S) (hJ : J9 (nI a) (nI (s + run)) (nI prev) (nI (item + 1)) (qs_N c) (qs_N ml) (qs_N lc) cw (qs_N ob) (qs_N ib) (qs_N lh) dl rt br lf pa ro (qs_N (qo_z par s run)) wh) :
    ∃ n, wX_readLengths_98 post J9 (nI a) (nI s) (nI prev) (nI item) (nI run) (nI S) (nI L) (nI C) (nI T) (nI M) pr cc (nI O) (nI N) op (nI G) (nI R) (nI E) (nI D) n 0 (qs_N c) (qs_N ml) (qs_N lc) cw (qs_N ob) (qs_N ib) (qs_N lh) dl rt br lf pa ro (qs_N par) wh := by
  have key : ∀ d i n, i + d = run → d < n → wX_readLengths_98 post J9 (nI a) (nI s) (nI prev) (nI item) (nI run) (nI S) (nI L) (nI C) (nI T) (nI M) pr cc (nI O) (nI N) op (nI G) (nI R) (nI E) (nI D) n (nI i) (qs_N c) (qs_N ml) (qs_N lc) cw (qs_N ob) (qs_N ib) (qs_N lh) dl rt br lf pa ro (qs_N (qo_z par s i)) wh := by
    intro d
    induction d with
    | zero =>
      intro i n hi hn
      obtain ⟨n, rfl⟩ : ∃ m, n = m + 1 := ⟨n - 1, by omega⟩
      obtain rfl : i = run := by omega
      exact br_t (nI_le (Nat.le_refl _) (by omega)) (nm_r (nI_add s i) (nm_r (nI_1 item) hJ))
    | succ d ih =>
      intro i n hi hn
      obtain ⟨n, rfl⟩ : ∃ m, n = m + 1 := ⟨n - 1, by omega⟩
      refine br_f (nI_ge (by omega) (by omega)) ?_
      rw [nI_add]
      refine ⟨vp_in_nI (by omega) (by decide), nm_r (e' := qs_N (qo_z par s (i + 1))) ?_ (nm_r (nI_1 i) (ih (i + 1) n (by omega) (by omega)))⟩
      rw [← qo_zs]
      exact qs_updI (by omega) rfl
  have := key run 0 (run + 1) (by omega) (by omega)
  rw [qo_z0] at this
  exact ⟨_, this⟩
theorem qy_86 {post : Int32 → SY → Prop} {J9 : Int32 → Int32 → Int32 → Int32 → (Nat → Int32) → (Nat → Int32) → (Nat → Int32) → (Nat → Int32) → (Nat → Int32) → (Nat → Int32) → (Nat → Int32) → (Nat → Int32) → (Nat → Int32) → Prop} {a s prev item rr : Nat} (hS : S ≤ 12) (hr : s + (rr + 1) ≤ S) (hJ : J9 (nI a) (nI (s + (rr + 1))) (nI prev) (nI (item + 1)) (qs_N c) (qs_N ml) (qs_N lc) (qs_N ob) (qs_N ib) (qs_N lh) dl ls (qs_N (qo_z par s (rr + 1)))) :
    ∃ n, wY_open_86 post J9 (nI a) (nI s) (nI prev) (nI item) (nI rr) (nI S) (nI L) (nI C) (nI M) pr cc (nI O) (nI N) op (nI R) (nI E) (nI D) n (nI s) (qs_N c) (qs_N ml) (qs_N lc) (qs_N ob) (qs_N ib) (qs_N lh) dl ls (qs_N par) := by
  have key : ∀ d i n, i + d = rr + 1 → d < n → wY_open_86 post J9 (nI a) (nI s) (nI prev) (nI item) (nI rr) (nI S) (nI L) (nI C) (nI M) pr cc (nI O) (nI N) op (nI R) (nI E) (nI D) n (nI (s + i)) (qs_N c) (qs_N ml) (qs_N lc) (qs_N ob) (qs_N ib) (qs_N lh) dl ls (qs_N (qo_z par s i)) := by
    intro d
    induction d with
    | zero =>
      intro i n hi hn
      obtain ⟨n, rfl⟩ : ∃ m, n = m + 1 := ⟨n - 1, by omega⟩
      obtain rfl : i = rr + 1 := by omega
      exact br_t (by rw [nI_add]; exact nI_lt (by omega) (by omega)) (nm_r (e' := nI (s + (rr + 1))) (by rw [nI_1, nI_add]) (nm_r (nI_1 item) hJ))
    | succ d ih =>
      intro i n hi hn
      obtain ⟨n, rfl⟩ : ∃ m, n = m + 1 := ⟨n - 1, by omega⟩
      refine br_f (by rw [nI_add]; exact nI_nlt (by omega) (by omega)) ⟨vp_in_nI (by omega) (by decide), nm_r (e' := qs_N (qo_z par s (i + 1))) ?_ (nm_r (nI_1 (s + i)) (ih (i + 1) n (by omega) (by omega)))⟩
      rw [← qo_zs]
      exact qs_updI (by omega) rfl
  have := key (rr + 1) 0 (rr + 1 + 1) (by omega) (by omega)
  rw [qo_z0] at this
  exact ⟨_, this⟩
theorem qx_215 {post : Int32 → SX → Prop} {J9 : Int32 → Int32 → Int32 → Int32 → (Nat → Int32) → (Nat → Int32) → (Nat → Int32) → (Nat → Int32) → (Nat → Int32) → (Nat → Int32) → (Nat → Int32) → (Nat → Int32) → (Nat → Int32) → (Nat → Int32) → (Nat → Int64) → (Nat → Int64) → (Nat → Int64) → (Nat → Int32) → (Nat → Int32) → Prop} {a s prev item : Nat} (hs : s ≤ 11) (hJ : J9 (nI a) (nI (s + 1)) (nI prev) (nI (item + 1)) (qs_N c) (qs_N ml) (qs_N lc) cw (qs_N ob) (qs_N ib) (qs_N lh) dl rt br lf pa ro (qs_N (qs_u par s prev)) wh) : wX_readLengths_215 post J9 (nI a) (nI s) (nI prev) (nI item) (nI S) (nI L) (nI C) (nI T) (nI M) pr cc (nI O) (nI N) op (nI G) (nI R) (nI E) (nI D) (qs_N c) (qs_N ml) (qs_N lc) cw (qs_N ob) (qs_N ib) (qs_N lh) dl rt br lf pa ro (qs_N par) wh :=
  ⟨vp_in_nI (by omega) (by decide), nm_r (qs_updI (by omega) rfl) (nm_r (nI_1 s) (nm_r (nI_1 item) hJ))⟩
theorem qy_189 {post : Int32 → SY → Prop} {J9 : Int32 → Int32 → Int32 → Int32 → (Nat → Int32) → (Nat → Int32) → (Nat → Int32) → (Nat → Int32) → (Nat → Int32) → (Nat → Int32) → (Nat → Int32) → (Nat → Int32) → (Nat → Int32) → Prop} {a s prev item : Nat} (hs : s ≤ 11) (hJ : J9 (nI a) (nI (s + 1)) (nI prev) (nI (item + 1)) (qs_N c) (qs_N ml) (qs_N lc) (qs_N ob) (qs_N ib) (qs_N lh) dl ls (qs_N (qs_u par s prev))) : wY_open_189 post J9 (nI a) (nI s) (nI prev) (nI item) (nI S) (nI L) (nI C) (nI M) pr cc (nI O) (nI N) op (nI R) (nI E) (nI D) (qs_N c) (qs_N ml) (qs_N lc) (qs_N ob) (qs_N ib) (qs_N lh) dl ls (qs_N par) :=
  ⟨vp_in_nI (by omega) (by decide), nm_r (qs_updI (by omega) rfl) (nm_r (nI_1 s) (nm_r (nI_1 item) hJ))⟩
theorem qo_parse (hS : S ≤ 12) (hL : L ≤ 6) (hN : N ≤ 256) (hib : ∀ j, ib j ≤ 1) : ∀ f item a s prev par, item + f = 12 → S ≤ s + f → s ≤ S → a ≤ N → prev ≤ 6 → (∀ t, t < s → par t ≤ 6) →
    qo_Out (fun post => wX_readLengths_9 post (nI S) (nI L) (nI C) (nI T) (nI M) pr cc (nI O) (nI N) op (nI G) (nI R) (nI E) (nI D) (f + 1) (nI a) (nI s) (nI prev) (nI item) (qs_N c) (qs_N ml) (qs_N lc) cw (qs_N ob) (qs_N ib) (qs_N lh) dl rt br lf pa ro (qs_N par) wh) (fun post => wY_open_9 post (nI S) (nI L) (nI C) (nI M) pr cc (nI O) (nI N) op (nI R) (nI E) (nI D) (f + 1) (nI a) (nI s) (nI prev) (nI item) (qs_N c) (qs_N ml) (qs_N lc) (qs_N ob) (qs_N ib) (qs_N lh) dl ls (qs_N par)) (fun par => (nI S, nI L, nI C, nI T, nI M, pr, cc, nI O, nI N, op, nI G, nI R, nI E, nI D, qs_N c, qs_N ml, qs_N lc, cw, qs_N ob, qs_N ib, qs_N lh, dl, rt, br, lf, pa, ro, qs_N par, wh)) (fun par => (nI S, nI L, nI C, nI M, pr, cc, nI O, nI N, op, nI R, nI E, nI D, qs_N c, qs_N ml, qs_N lc, qs_N ob, qs_N ib, qs_N lh, dl, ls, qs_N par)) (fun post a par => wY_open_205 post (nI a) (nI S) (nI L) (nI C) (nI M) pr cc (nI O) (nI N) op (nI R) (nI E) (nI D) (qs_N c) (qs_N ml) (qs_N lc) (qs_N ob) (qs_N ib) (qs_N lh) dl ls (qs_N par)) N S := by
  intro f
  induction f with
  | zero =>
    intro item a s prev par hi hf hs ha hq hp6
    obtain rfl : item = 12 := by omega
    exact Or.inr ⟨a, par, ha, fun t ht => hp6 t (by omega), fun post hp => br_t (by decide) hp, fun post hp => br_t (by decide) hp⟩
  | succ f ih =>
    intro item a s prev par hi hf hs ha hq hp6
    have c12 : ¬ (12 : Int32) ≤ nI item := nI_ge (b := 12) (by omega) (by decide)
    by_cases x : S ≤ s
    · have cs : nI S ≤ nI s := nI_le x (by omega)
      exact Or.inr ⟨a, par, ha, fun t ht => hp6 t (by omega), fun post hp => br_f c12 (br_t cs hp), fun post hp => br_f c12 (br_t cs hp)⟩
    · have cs : ¬ nI S ≤ nI s := nI_ge (by omega) (by omega)
      by_cases x1 : N ≤ a
      · refine qo_err (-8) par (by decide) (fun post hp => br_f c12 (br_f cs (br_f (nI_nlt x1 (by omega)) hp))) (fun post hp => br_f c12 (br_f cs ?_))
        exact qy_pick_in (w := 1) hN (by omega) (by decide) (by decide) (fun y => by omega) (fun y => br_f (by decide) hp)
      · have cn : nI a < nI N := nI_lt (by omega) (by omega)
        have ei := qs_Nr ib (i := a) (by omega)
        have b0 := hib a
        by_cases x2 : ib a = 0
        · -- a run of zeros
          have e2 : nI (a + 1) + 2 = nI (a + 3) := nI_add (a + 1) 2
          have z0 : nI (ib a) = 0 := by rw [x2]; rfl
          by_cases x3 : a + 3 ≤ N
          · have vb := qb_vb hib (a + 1) 2
            have c3 : nI (a + 1) + 2 ≤ nI N := by rw [e2]; exact nI_le x3 (by omega)
            by_cases x4 : s + (qb_v ib (a + 1) 2 + 1) ≤ S
            · refine qo_step (ih (item + 1) (a + 3) (s + (qb_v ib (a + 1) 2 + 1)) prev (qo_z par s (qb_v ib (a + 1) 2 + 1)) (by omega) (by omega) x4 x3 hq (fun t ht => ?_)) (fun post hp => br_f c12 (br_f cs (br_t cn ⟨vp_in_nI (by omega) (by decide), nm_r ei (nm_r (nI_1 a) (br_t z0 (br_t c3 ?_)))⟩))) (fun post hp => br_f c12 (br_f cs ?_))
              · show (if _ then _ else _) ≤ 6
                by_cases y : s ≤ t ∧ t < s + (qb_v ib (a + 1) 2 + 1)
                · rw [if_pos y]; exact Nat.zero_le _
                · rw [if_neg y]; exact hp6 t (by omega)
              · exact qx_pick_in (a := a + 1) (w := 2) hib (by omega) (by decide) (nm_r (nI_1 _) (nm_r e2 (br_t (by rw [nI_add]; exact nI_le x4 (by omega)) (qx_98 hS x4 hp))))
              · refine qy_pick_in (w := 1) hN (by omega) (by decide) (by decide) (fun y => ?_) (fun y => by omega)
                rw [qo_b1]
                refine br_t (nI_pos' (by omega)) (nm_r (nI_1 a) (br_t z0 ?_))
                refine qy_pick_in (w := 2) hN (by omega) (by decide) (by decide) (fun y => ?_) (fun y => by omega)
                exact br_t (nI_pos' (by omega)) (nm_r e2 (br_t (by rw [nI_add, nI_1]; exact nI_le (by omega) (by omega)) (qy_86 hS x4 hp)))
            · refine qo_err (-9) par (by decide) (fun post hp => br_f c12 (br_f cs (br_t cn ⟨vp_in_nI (by omega) (by decide), nm_r ei (nm_r (nI_1 a) (br_t z0 (br_t c3 ?_)))⟩))) (fun post hp => br_f c12 (br_f cs ?_))
              · exact qx_pick_in (a := a + 1) (w := 2) hib (by omega) (by decide) (nm_r (nI_1 _) (nm_r e2 (br_f (by rw [nI_add]; exact nI_ge (by omega) (by omega)) hp)))
              · refine qy_pick_in (w := 1) hN (by omega) (by decide) (by decide) (fun y => ?_) (fun y => by omega)
                rw [qo_b1]
                refine br_t (nI_pos' (by omega)) (nm_r (nI_1 a) (br_t z0 ?_))
                refine qy_pick_in (w := 2) hN (by omega) (by decide) (by decide) (fun y => ?_) (fun y => by omega)
                exact br_t (nI_pos' (by omega)) (nm_r e2 (br_f (by rw [nI_add, nI_1]; exact nI_ge (by omega) (by omega)) hp))
          · have c3 : ¬ nI (a + 1) + 2 ≤ nI N := by rw [e2]; exact nI_ge (by omega) (by omega)
            refine qo_err (-8) par (by decide) (fun post hp => br_f c12 (br_f cs (br_t cn ⟨vp_in_nI (by omega) (by decide), nm_r ei (nm_r (nI_1 a) (br_t z0 (br_f c3 hp)))⟩))) (fun post hp => br_f c12 (br_f cs ?_))
            refine qy_pick_in (w := 1) hN (by omega) (by decide) (by decide) (fun y => ?_) (fun y => by omega)
            rw [qo_b1]
            refine br_t (nI_pos' (by omega)) (nm_r (nI_1 a) (br_t z0 ?_))
            exact qy_pick_in (w := 2) hN (by omega) (by decide) (by decide) (fun y => by omega) (fun y => br_f (by decide) hp)
        · have z0 : ¬ nI (ib a) = 0 := nI_ne0 (by omega) (by omega)
          by_cases x3 : N ≤ a + 1
          · refine qo_err (-8) par (by decide) (fun post hp => br_f c12 (br_f cs (br_t cn ⟨vp_in_nI (by omega) (by decide), nm_r ei (nm_r (nI_1 a) (br_f z0 (br_f (nI_nlt x3 (by omega)) hp)))⟩))) (fun post hp => br_f c12 (br_f cs ?_))
            refine qy_pick_in (w := 1) hN (by omega) (by decide) (by decide) (fun y => ?_) (fun y => by omega)
            rw [qo_b1]
            refine br_t (nI_pos' (by omega)) (nm_r (nI_1 a) (br_f z0 ?_))
            exact qy_pick_in (w := 1) hN (by omega) (by decide) (by decide) (fun y => by omega) (fun y => br_f (by decide) hp)
          · have cn1 : nI (a + 1) < nI N := nI_lt (by omega) (by omega)
            have ei1 := qs_Nr ib (i := a + 1) (by omega)
            have b1 := hib (a + 1)
            by_cases x4 : ib (a + 1) = 0
            · -- the previous length again
              have z1 : nI (ib (a + 1)) = 0 := by rw [x4]; rfl
              have z2 : ¬ nI (ib (a + 1)) = 1 := by rw [x4]; decide
              by_cases x5 : prev = 0
              · have p0 : nI prev = 0 := by rw [x5]; rfl
                refine qo_err (-9) par (by decide) (fun post hp => br_f c12 (br_f cs (br_t cn ⟨vp_in_nI (by omega) (by decide), nm_r ei (nm_r (nI_1 a) (br_f z0 (br_t cn1 ⟨vp_in_nI (by omega) (by decide), nm_r ei1 (nm_r (nI_1 (a + 1)) (br_f z2 (br_t p0 hp)))⟩)))⟩))) (fun post hp => br_f c12 (br_f cs ?_))
                refine qy_pick_in (w := 1) hN (by omega) (by decide) (by decide) (fun y => ?_) (fun y => by omega)
                rw [qo_b1]
                refine br_t (nI_pos' (by omega)) (nm_r (nI_1 a) (br_f z0 ?_))
                refine qy_pick_in (w := 1) hN (by omega) (by decide) (by decide) (fun y => ?_) (fun y => by omega)
                rw [qo_b1]
                exact br_t (nI_pos' (by omega)) (nm_r (nI_1 (a + 1)) (br_t z1 (br_t p0 hp)))
              · have p0 : ¬ nI prev = 0 := nI_ne0 (by omega) (by omega)
                refine qo_step (ih (item + 1) (a + 1 + 1) (s + 1) prev (qs_u par s prev) (by omega) (by omega) (by omega) (by omega) hq (fun t ht => ?_)) (fun post hp => br_f c12 (br_f cs (br_t cn ⟨vp_in_nI (by omega) (by decide), nm_r ei (nm_r (nI_1 a) (br_f z0 (br_t cn1 ⟨vp_in_nI (by omega) (by decide), nm_r ei1 (nm_r (nI_1 (a + 1)) (br_f z2 (br_f p0 (qx_215 (by omega) hp))))⟩)))⟩))) (fun post hp => br_f c12 (br_f cs ?_))
                · by_cases y : t = s
                  · subst y; rw [qs_us]; exact hq
                  · rw [qs_un y]; exact hp6 t (by omega)
                · refine qy_pick_in (w := 1) hN (by omega) (by decide) (by decide) (fun y => ?_) (fun y => by omega)
                  rw [qo_b1]
                  refine br_t (nI_pos' (by omega)) (nm_r (nI_1 a) (br_f z0 ?_))
                  refine qy_pick_in (w := 1) hN (by omega) (by decide) (by decide) (fun y => ?_) (fun y => by omega)
                  rw [qo_b1]
                  exact br_t (nI_pos' (by omega)) (nm_r (nI_1 (a + 1)) (br_t z1 (br_f p0 (qy_189 (by omega) hp))))
            · -- a plain length
              have e1 : ib (a + 1) = 1 := by omega
              have z1 : ¬ nI (ib (a + 1)) = 0 := nI_ne0 (by omega) (by omega)
              have z2 : nI (ib (a + 1)) = 1 := by rw [e1]; rfl
              have e3 : nI (a + 1 + 1) + 3 = nI (a + 5) := nI_add (a + 1 + 1) 3
              by_cases x5 : a + 5 ≤ N
              · have c5 : nI (a + 1 + 1) + 3 ≤ nI N := by rw [e3]; exact nI_le x5 (by omega)
                have vb := qb_vb hib (a + 1 + 1) 3
                by_cases x6 : qb_v ib (a + 1 + 1) 3 = 0
                · have v0 : nI (qb_v ib (a + 1 + 1) 3) = 0 := by rw [x6]; rfl
                  refine qo_err (-9) par (by decide) (fun post hp => br_f c12 (br_f cs (br_t cn ⟨vp_in_nI (by omega) (by decide), nm_r ei (nm_r (nI_1 a) (br_f z0 (br_t cn1 ⟨vp_in_nI (by omega) (by decide), nm_r ei1 (nm_r (nI_1 (a + 1)) (br_t z2 (br_t c5 ?_)))⟩)))⟩))) (fun post hp => br_f c12 (br_f cs ?_))
                  · exact qx_pick_in (a := a + 1 + 1) (w := 3) hib (by omega) (by decide) (nm_r e3 (br_t v0 hp))
                  · refine qy_pick_in (w := 1) hN (by omega) (by decide) (by decide) (fun y => ?_) (fun y => by omega)
                    rw [qo_b1]
                    refine br_t (nI_pos' (by omega)) (nm_r (nI_1 a) (br_f z0 ?_))
                    refine qy_pick_in (w := 1) hN (by omega) (by decide) (by decide) (fun y => ?_) (fun y => by omega)
                    rw [qo_b1]
                    refine br_t (nI_pos' (by omega)) (nm_r (nI_1 (a + 1)) (br_f z1 ?_))
                    refine qy_pick_in (w := 3) hN (by omega) (by decide) (by decide) (fun y => ?_) (fun y => by omega)
                    exact br_t (nI_pos' (by omega)) (nm_r e3 (br_t v0 hp))
                · have v0 : ¬ nI (qb_v ib (a + 1 + 1) 3) = 0 := nI_ne0 (by omega) (by omega)
                  by_cases x7 : qb_v ib (a + 1 + 1) 3 ≤ L
                  · have vl : nI (qb_v ib (a + 1 + 1) 3) ≤ nI L := nI_le x7 (by omega)
                    refine qo_step (ih (item + 1) (a + 5) (s + 1) (qb_v ib (a + 1 + 1) 3) (qs_u par s (qb_v ib (a + 1 + 1) 3)) (by omega) (by omega) (by omega) (by omega) (by omega) (fun t ht => ?_)) (fun post hp => br_f c12 (br_f cs (br_t cn ⟨vp_in_nI (by omega) (by decide), nm_r ei (nm_r (nI_1 a) (br_f z0 (br_t cn1 ⟨vp_in_nI (by omega) (by decide), nm_r ei1 (nm_r (nI_1 (a + 1)) (br_t z2 (br_t c5 ?_)))⟩)))⟩))) (fun post hp => br_f c12 (br_f cs ?_))
                    · by_cases y : t = s
                      · subst y; rw [qs_us]; omega
                      · rw [qs_un y]; exact hp6 t (by omega)
                    · exact qx_pick_in (a := a + 1 + 1) (w := 3) hib (by omega) (by decide) (nm_r e3 (br_f v0 (br_t vl (qx_215 (by omega) hp))))
                    · refine qy_pick_in (w := 1) hN (by omega) (by decide) (by decide) (fun y => ?_) (fun y => by omega)
                      rw [qo_b1]
                      refine br_t (nI_pos' (by omega)) (nm_r (nI_1 a) (br_f z0 ?_))
                      refine qy_pick_in (w := 1) hN (by omega) (by decide) (by decide) (fun y => ?_) (fun y => by omega)
                      rw [qo_b1]
                      refine br_t (nI_pos' (by omega)) (nm_r (nI_1 (a + 1)) (br_f z1 ?_))
                      refine qy_pick_in (w := 3) hN (by omega) (by decide) (by decide) (fun y => ?_) (fun y => by omega)
                      exact br_t (nI_pos' (by omega)) (nm_r e3 (br_f v0 (br_t vl (qy_189 (by omega) hp))))
                  · have vl : ¬ nI (qb_v ib (a + 1 + 1) 3) ≤ nI L := nI_ge (by omega) (by omega)
                    refine qo_err (-9) par (by decide) (fun post hp => br_f c12 (br_f cs (br_t cn ⟨vp_in_nI (by omega) (by decide), nm_r ei (nm_r (nI_1 a) (br_f z0 (br_t cn1 ⟨vp_in_nI (by omega) (by decide), nm_r ei1 (nm_r (nI_1 (a + 1)) (br_t z2 (br_t c5 ?_)))⟩)))⟩))) (fun post hp => br_f c12 (br_f cs ?_))
                    · exact qx_pick_in (a := a + 1 + 1) (w := 3) hib (by omega) (by decide) (nm_r e3 (br_f v0 (br_f vl hp)))
                    · refine qy_pick_in (w := 1) hN (by omega) (by decide) (by decide) (fun y => ?_) (fun y => by omega)
                      rw [qo_b1]
                      refine br_t (nI_pos' (by omega)) (nm_r (nI_1 a) (br_f z0 ?_))
                      refine qy_pick_in (w := 1) hN (by omega) (by decide) (by decide) (fun y => ?_) (fun y => by omega)
                      rw [qo_b1]
                      refine br_t (nI_pos' (by omega)) (nm_r (nI_1 (a + 1)) (br_f z1 ?_))
                      refine qy_pick_in (w := 3) hN (by omega) (by decide) (by decide) (fun y => ?_) (fun y => by omega)
                      exact br_t (nI_pos' (by omega)) (nm_r e3 (br_f v0 (br_f vl hp)))
              · have c5 : ¬ nI (a + 1 + 1) + 3 ≤ nI N := by rw [e3]; exact nI_ge (by omega) (by omega)
                refine qo_err (-8) par (by decide) (fun post hp => br_f c12 (br_f cs (br_t cn ⟨vp_in_nI (by omega) (by decide), nm_r ei (nm_r (nI_1 a) (br_f z0 (br_t cn1 ⟨vp_in_nI (by omega) (by decide), nm_r ei1 (nm_r (nI_1 (a + 1)) (br_t z2 (br_f c5 hp)))⟩)))⟩))) (fun post hp => br_f c12 (br_f cs ?_))
                refine qy_pick_in (w := 1) hN (by omega) (by decide) (by decide) (fun y => ?_) (fun y => by omega)
                rw [qo_b1]
                refine br_t (nI_pos' (by omega)) (nm_r (nI_1 a) (br_f z0 ?_))
                refine qy_pick_in (w := 1) hN (by omega) (by decide) (by decide) (fun y => ?_) (fun y => by omega)
                rw [qo_b1]
                refine br_t (nI_pos' (by omega)) (nm_r (nI_1 (a + 1)) (br_f z1 ?_))
                exact qy_pick_in (w := 3) hN (by omega) (by decide) (by decide) (fun y => by omega) (fun y => br_f (by decide) hp)
end QO
end
section
/-! open: the room, the tables -/
theorem qw_K1 (h : Nat → Nat) (s : Nat) : qw_K h (s + 1) = qw_K h s + if h s = 0 then 0 else 2 ^ (6 - h s) := rfl
theorem qw_Kb (h : Nat → Nat) : ∀ s, qw_K h s ≤ s * 64 := by
  intro s
  induction s with
  | zero => exact Nat.zero_le _
  | succ s ih =>
    rw [qw_K1, Nat.succ_mul]
    by_cases x : h s = 0
    · rw [if_pos x]; omega
    · rw [if_neg x]
      have := qu_64 (show 6 - h s ≤ 6 by omega)
      omega
theorem qw_n1 (h : Nat → Nat) (s : Nat) : qw_n h 1 (s + 1) = qw_n h 1 s + if h s = 1 then 1 else 0 := rfl
theorem qw_lone0 {h : Nat → Nat} : ∀ S, qu_n h S = 0 → qw_K h S = 0 ∧ qw_n h 1 S = 0 := by
  intro S
  induction S with
  | zero => intro _; exact ⟨rfl, rfl⟩
  | succ s ih =>
    intro u
    by_cases x : h s = 0
    · rw [qu_z h x] at u
      obtain ⟨a, b⟩ := ih u
      rw [qw_K1, qw_n1, if_pos x, if_neg (by omega)]
      omega
    · rw [qu_p h x] at u
      omega
theorem qw_lone {h : Nat → Nat} : ∀ S, (∀ t, t < S → h t ≤ 6) → qu_n h S = 1 → (qw_K h S = 32 ↔ qw_n h 1 S = 1) := by
  intro S
  induction S with
  | zero => intro _ u; exact absurd (show (0 : Nat) = 1 from u) (by decide)
  | succ s ih =>
    intro l6 u
    by_cases x : h s = 0
    · rw [qu_z h x] at u
      rw [qw_K1, qw_n1, if_pos x, if_neg (by omega), Nat.add_zero, Nat.add_zero]
      exact ih (fun t ht => l6 t (by omega)) u
    · rw [qu_p h x] at u
      obtain ⟨a, b⟩ := qw_lone0 (h := h) s (by omega)
      have l := l6 s (by omega)
      rw [qw_K1, qw_n1, if_neg x, a, b]
      have : ∀ p, p < 7 → p ≠ 0 → (0 + 2 ^ (6 - p) = 32 ↔ 0 + (if p = 1 then 1 else 0) = 1) := by decide
      exact this (h s) (by omega) x
theorem qr_mxc {h h' : Nat → Nat} : ∀ s, (∀ t, t < s → h t = h' t) → qr_mx h s = qr_mx h' s := by
  intro s
  induction s with
  | zero => intro _; rfl
  | succ s ih =>
    intro e
    rw [qr_mx, qr_mx, ih (fun t ht => e t (by omega)), e s (by omega)]
theorem qr_mx6 {h : Nat → Nat} : ∀ s, (∀ t, t < s → h t ≤ 6) → qr_mx h s ≤ 6 := by
  intro s
  induction s with
  | zero => intro _; exact Nat.zero_le _
  | succ s ih =>
    intro e
    rw [qr_mx]
    by_cases x : h s ≤ qr_mx h s
    · rw [if_pos x]; exact ih (fun t ht => e t (by omega))
    · rw [if_neg x]; exact e s (by omega)
section QQ
variable {S L C T M O N R E D G : Nat} {c ml lc ob ib lh par : Nat → Nat} {pr cc op : Int32} {cw dl rt br wh ls : Nat → Int32} {lf pa ro : Nat → Int64}
theorem qx_cs {post : Int32 → Prop} (hS : S ≤ 12) (p6 : ∀ t, t < S → par t ≤ 6) (h1 : 64 < qw_K par S → post (-10)) (h2 : qw_K par S < 64 → ¬ (qu_n par S = 1 ∧ qw_K par S = 32) → post (-11)) (h3 : qw_K par S ≤ 64 → (qw_K par S = 64 ∨ (qu_n par S = 1 ∧ qw_K par S = 32)) → post 0) : wpX_checkSpace post (nI S, nI L, nI C, nI T, nI M, pr, cc, nI O, nI N, op, nI G, nI R, nI E, nI D, qs_N c, qs_N ml, qs_N lc, cw, qs_N ob, qs_N ib, qs_N lh, dl, rt, br, lf, pa, ro, qs_N par, wh) := by
  have key : ∀ d s n, s + d = S → d < n → wX_checkSpace_6 post (nI S) (nI L) (nI C) (nI T) (nI M) pr cc (nI O) (nI N) op (nI G) (nI R) (nI E) (nI D) (qs_N c) (qs_N ml) (qs_N lc) cw (qs_N ob) (qs_N ib) (qs_N lh) dl rt br lf pa ro (qs_N par) wh n (nI (qw_K par s)) (nI (qu_n par s)) (nI s) := by
    intro d
    induction d with
    | zero =>
      intro s n hs hn
      obtain ⟨n, rfl⟩ : ∃ m, n = m + 1 := ⟨n - 1, by omega⟩
      obtain rfl : s = S := by omega
      have kb := qw_Kb par s
      have ub := qu_le par s
      refine br_t (nI_le (Nat.le_refl _) (by omega)) ?_
      by_cases x : qw_K par s ≤ 64
      · refine br_t (nI_le (b := 64) x (by decide)) ?_
        by_cases y : 64 ≤ qw_K par s
        · exact br_t (nI_le (a := 64) y (by omega)) (h3 x (Or.inl (by omega)))
        · refine br_f (nI_ge (b := 64) (by omega) (by decide)) ?_
          by_cases z : qu_n par s = 1
          · refine br_t (by rw [z]; rfl) ?_
            by_cases q : qw_K par s = 32
            · exact br_t (by rw [q]; rfl) (br_f (by decide) (h3 x (Or.inr ⟨z, q⟩)))
            · exact br_f (fun e => q ((nI_eq (b := 32) (by omega) (by decide)).mp e)) (br_t rfl (h2 (by omega) (fun w => q w.2)))
          · exact br_f (fun e => z ((nI_eq (b := 1) (by omega) (by decide)).mp e)) (br_t rfl (h2 (by omega) (fun w => z w.1)))
      · exact br_f (nI_ge (a := 64) (by omega) (by omega)) (h1 (by omega))
    | succ d ih =>
      intro s n hs hn
      obtain ⟨n, rfl⟩ : ∃ m, n = m + 1 := ⟨n - 1, by omega⟩
      have l6 := p6 s (by omega)
      have i1 := ih (s + 1) n (by omega) (by omega)
      refine br_f (nI_ge (by omega) (by omega)) ⟨vp_in_nI (by omega) (by decide), nm_r (qs_Nr par (i := s) (by omega)) ?_⟩
      by_cases x : par s = 0
      · rw [qu_z par x, qw_K1, if_pos x, Nat.add_zero] at i1
        exact br_t (by rw [x]; decide) (nm_r (nI_1 s) i1)
      · rw [qu_p par x, qw_K1, if_neg x] at i1
        exact br_f (nI_nle (by omega) (by omega)) (nm_r (e' := nI (qw_K par s + 2 ^ (6 - par s))) (by rw [show (6 : Int32) = nI 6 from rfl, qy_sh l6 (by decide), nI_add]) (nm_r (nI_1 _) (nm_r (nI_1 s) i1)))
  exact ⟨S + 1, key S 0 (S + 1) (by omega) (by omega)⟩
theorem qy_cs {post : Int32 → SY → Prop} {a : Nat} (hS : S ≤ 12) (p6 : ∀ t, t < S → par t ≤ 6) (h1 : 64 < qw_K par S → post (-10) (nI S, nI L, nI C, nI M, pr, cc, nI O, nI N, op, nI R, nI E, nI D, qs_N c, qs_N ml, qs_N lc, qs_N ob, qs_N ib, qs_N lh, dl, ls, qs_N par)) (h2 : qw_K par S < 64 → ¬ (qu_n par S = 1 ∧ qw_n par 1 S = 1) → post (-11) (nI S, nI L, nI C, nI M, pr, cc, nI O, nI N, op, nI R, nI E, nI D, qs_N c, qs_N ml, qs_N lc, qs_N ob, qs_N ib, qs_N lh, dl, ls, qs_N par)) (h3 : qw_K par S ≤ 64 → (qw_K par S = 64 ∨ (qu_n par S = 1 ∧ qw_n par 1 S = 1)) → wY_open_308 post (nI a) (nI S) (nI L) (nI C) (nI M) pr cc (nI O) (nI N) op (nI R) (nI E) (nI D) (qs_N c) (qs_N ml) (qs_N lc) (qs_N ob) (qs_N ib) (qs_N lh) dl ls (qs_N par)) : wY_open_205 post (nI a) (nI S) (nI L) (nI C) (nI M) pr cc (nI O) (nI N) op (nI R) (nI E) (nI D) (qs_N c) (qs_N ml) (qs_N lc) (qs_N ob) (qs_N ib) (qs_N lh) dl ls (qs_N par) := by
  have key : ∀ d s n, s + d = S → d < n → wY_open_217 post (nI a) (nI S) (nI L) (nI C) (nI M) pr cc (nI O) (nI N) op (nI R) (nI E) (nI D) (qs_N c) (qs_N ml) (qs_N lc) (qs_N ob) (qs_N ib) (qs_N lh) dl ls (qs_N par) n (nI (qw_K par s)) (nI (qu_n par s)) (nI (qw_n par 1 s)) (nI s) := by
    intro d
    induction d with
    | zero =>
      intro s n hs hn
      obtain ⟨n, rfl⟩ : ∃ m, n = m + 1 := ⟨n - 1, by omega⟩
      obtain rfl : s = S := by omega
      have kb := qw_Kb par s
      have ub := qu_le par s
      have nb := qw_nb par 1 s
      refine br_t (nI_le (Nat.le_refl _) (by omega)) ?_
      by_cases x : qw_K par s ≤ 64
      · refine br_t (nI_le (b := 64) x (by decide)) ?_
        by_cases y : 64 ≤ qw_K par s
        · exact br_t (nI_le (a := 64) y (by omega)) (h3 x (Or.inl (by omega)))
        · refine br_f (nI_ge (b := 64) (by omega) (by decide)) ?_
          by_cases z : qu_n par s = 1
          · refine br_t (by rw [z]; rfl) ?_
            by_cases q : qw_n par 1 s = 1
            · exact br_t (by rw [q]; rfl) (h3 x (Or.inr ⟨z, q⟩))
            · exact br_f (fun e => q ((nI_eq (b := 1) (by omega) (by decide)).mp e)) (h2 (by omega) (fun w => q w.2))
          · exact br_f (fun e => z ((nI_eq (b := 1) (by omega) (by decide)).mp e)) (h2 (by omega) (fun w => z w.1))
      · exact br_f (nI_ge (a := 64) (by omega) (by omega)) (h1 (by omega))
    | succ d ih =>
      intro s n hs hn
      obtain ⟨n, rfl⟩ : ∃ m, n = m + 1 := ⟨n - 1, by omega⟩
      have l6 := p6 s (by omega)
      have i1 := ih (s + 1) n (by omega) (by omega)
      have fin : ∀ K u : Nat, K = qw_K par (s + 1) → u = qu_n par (s + 1) → wY_open_256 post (wY_open_217 post (nI a) (nI S) (nI L) (nI C) (nI M) pr cc (nI O) (nI N) op (nI R) (nI E) (nI D) (qs_N c) (qs_N ml) (qs_N lc) (qs_N ob) (qs_N ib) (qs_N lh) dl ls (qs_N par) n) (nI a) (nI K) (nI u) (nI (qw_n par 1 s)) (nI s) (nI S) (nI L) (nI C) (nI M) pr cc (nI O) (nI N) op (nI R) (nI E) (nI D) (qs_N c) (qs_N ml) (qs_N lc) (qs_N ob) (qs_N ib) (qs_N lh) dl ls (qs_N par) := by
        intro K u eK eu
        rw [← eK, ← eu] at i1
        refine ⟨vp_in_nI (by omega) (by decide), ?_⟩
        rw [qs_Nr par (show s < 2 ^ 31 by omega)]
        by_cases x : par s = 1
        · rw [qw_n1, if_pos x] at i1
          exact br_t (by rw [x]; rfl) (nm_r (nI_1 _) (nm_r (nI_1 s) i1))
        · rw [qw_n1, if_neg x, Nat.add_zero] at i1
          exact br_f (fun e => x ((nI_eq (b := 1) (by omega) (by decide)).mp e)) (nm_r (nI_1 s) i1)
      refine br_f (nI_ge (by omega) (by omega)) ⟨vp_in_nI (by omega) (by decide), ?_⟩
      rw [qs_Nr par (show s < 2 ^ 31 by omega)]
      by_cases x : par s = 0
      · refine br_t (by rw [x]; rfl) (fin _ _ ?_ ?_)
        · rw [qw_K1, if_pos x, Nat.add_zero]
        · rw [qu_z par x]
      · refine br_f (nI_ne0 (by omega) (by omega)) ⟨vp_in_nI (by omega) (by decide), nm_r (e' := nI (qw_K par s + 2 ^ (6 - par s))) (by rw [show (6 : Int32) = nI 6 from rfl, qy_sh l6 (by decide), nI_add]) (nm_r (nI_1 _) (fin _ _ ?_ ?_))⟩
        · rw [qw_K1, if_neg x]
        · rw [qu_p par x]
  exact ⟨S + 1, key S 0 (S + 1) (by omega) (by omega)⟩
theorem qx_al {post : SX → Prop} (hS : S ≤ 12) (p6 : ∀ t, t < S → par t ≤ 6) (hl6 : ∀ j, qs_f par lh S j ≤ 6) (hK : qw_K (qs_f par lh S) S ≤ 64) (hp : ∀ wh rt br, qt_T (qs_f par lh S) S rt br → post (nI S, nI L, nI C, nI T, nI M, pr, cc, nI O, nI N, op, nI (qr_mx par S), nI R, nI E, nI D, qs_N c, qs_N ml, qs_N lc, cw, qs_N ob, qs_N ib, qs_N (qs_f par lh S), dl, rt, br, lf, pa, ro, qs_N par, wh)) : wpX_acceptLengths post (nI S, nI L, nI C, nI T, nI M, pr, cc, nI O, nI N, op, nI G, nI R, nI E, nI D, qs_N c, qs_N ml, qs_N lc, cw, qs_N ob, qs_N ib, qs_N lh, dl, rt, br, lf, pa, ro, qs_N par, wh) := by
  have key : ∀ d s n, s + d = S → d < n → wX_acceptLengths_7 post (nI S) (nI L) (nI C) (nI T) (nI M) pr cc (nI O) (nI N) op (nI R) (nI E) (nI D) n (nI s) (nI (qr_mx par s)) (qs_N c) (qs_N ml) (qs_N lc) cw (qs_N ob) (qs_N ib) (qs_N (qs_f par lh s)) dl rt br lf pa ro (qs_N par) wh := by
    intro d
    induction d with
    | zero =>
      intro s n hs hn
      obtain ⟨n, rfl⟩ : ∃ m, n = m + 1 := ⟨n - 1, by omega⟩
      obtain rfl : s = S := by omega
      refine br_t (nI_le (Nat.le_refl _) (by omega)) (qx_aw_wh hS hl6 (fun w hw => ?_))
      exact qx_ft (wh := w) hS hl6 hK hw (fun rt br ht => hp w rt br ht)
    | succ d ih =>
      intro s n hs hn
      obtain ⟨n, rfl⟩ : ∃ m, n = m + 1 := ⟨n - 1, by omega⟩
      have l6 := p6 s (by omega)
      have m6 := qr_mx6 (h := par) s (fun t ht => p6 t (by omega))
      have i1 := ih (s + 1) n (by omega) (by omega)
      refine br_f (nI_ge (by omega) (by omega)) ⟨vp_in_nI (by omega) (by decide), vp_in_nI (by omega) (by decide), nm_r (qs_fI (by omega) (qs_Nr par (by omega))) ⟨vp_in_nI (by omega) (by decide), ?_⟩⟩
      rw [qs_Nr (qs_f par lh (s + 1)) (show s < 2 ^ 31 by omega), qs_fl (show s < s + 1 by omega)]
      by_cases x : par s ≤ qr_mx par s
      · rw [qr_mx, if_pos x] at i1
        exact br_t (nI_le x (by omega)) (nm_r (nI_1 s) i1)
      · rw [qr_mx, if_neg x] at i1
        exact br_f (nI_ge (by omega) (by omega)) ⟨vp_in_nI (by omega) (by decide), nm_e (nm_r (nI_1 s) i1)⟩
  have := key S 0 (S + 1) (by omega) (by omega)
  rw [qs_f00] at this
  exact ⟨_, this⟩
theorem qy_347 {post : Int32 → SY → Prop} {a e : Nat} (hS : S ≤ 12) (hp : post 0 (nI S, nI L, nI C, nI M, pr, cc, nI O, nI N, op, nI a, nI e, nI 0, qs_N c, qs_N ml, qs_N lc, qs_N ob, qs_N ib, qs_N (qs_f par lh S), dl, ls, qs_N par)) : ∃ n, wY_open_347 post (nI a) (nI e) (nI S) (nI L) (nI C) (nI M) pr cc (nI O) (nI N) op (nI R) (nI E) (nI D) n 0 (qs_N c) (qs_N ml) (qs_N lc) (qs_N ob) (qs_N ib) (qs_N lh) dl ls (qs_N par) := by
  have key : ∀ d s n, s + d = S → d < n → wY_open_347 post (nI a) (nI e) (nI S) (nI L) (nI C) (nI M) pr cc (nI O) (nI N) op (nI R) (nI E) (nI D) n (nI s) (qs_N c) (qs_N ml) (qs_N lc) (qs_N ob) (qs_N ib) (qs_N (qs_f par lh s)) dl ls (qs_N par) := by
    intro d
    induction d with
    | zero =>
      intro s n hs hn
      obtain ⟨n, rfl⟩ : ∃ m, n = m + 1 := ⟨n - 1, by omega⟩
      obtain rfl : s = S := by omega
      exact br_t (nI_le (Nat.le_refl _) (by omega)) hp
    | succ d ih =>
      intro s n hs hn
      obtain ⟨n, rfl⟩ : ∃ m, n = m + 1 := ⟨n - 1, by omega⟩
      exact br_f (nI_ge (by omega) (by omega)) ⟨vp_in_nI (by omega) (by decide), vp_in_nI (by omega) (by decide), nm_r (qs_fI (by omega) (qs_Nr par (by omega))) (nm_r (nI_1 s) (ih (s + 1) n (by omega) (by omega)))⟩
  have := key S 0 (S + 1) (by omega) (by omega)
  rw [qs_f00] at this
  exact ⟨_, this⟩
end QQ
theorem i_vc_open {k : Nat} {u : SX} {v : SY} (I : i_Rel k u v) (hk : k + 3 ≤ 1539) : wpX_open (fun r u' => wpY_open (fun r' v' => r' = r ∧ i_Rel (k + 3) u' v') v) u := by
  refine qr_el (P := fun u v => wpX_open (fun r u' => wpY_open (fun r' v' => r' = r ∧ i_Rel (k + 3) u' v') v) u) ?_ I
  intro S L C T M O N R E D G c ml lc ob ib lh par pr cc op cw dl rt br lf pa ro wh ls F
  have F0 := F
  obtain ⟨⟨hS2, hS, hL1, hL, hC1, hC, hM, hO, hN, hR, hD, hE⟩, ⟨hT, hT2, hc0⟩, hml, ⟨hh6, hh0, hcw⟩, ⟨hob, hib⟩, ⟨hd6, hd0⟩, hop⟩ := F
  unfold wpX_open
  dsimp only
  have out := qo_parse (T := T) (C := C) (M := M) (O := O) (R := R) (E := E) (D := D) (G := G) (c := c) (ml := ml) (lc := lc) (ob := ob) (lh := lh) (pr := pr) (cc := cc) (op := op) (cw := cw) (dl := dl) (rt := rt) (br := br) (wh := wh) (ls := ls) (lf := lf) (pa := pa) (ro := ro) hS hL hN hib 12 0 0 0 0 par (by omega) (by omega) (Nat.zero_le _) (Nat.zero_le _) (Nat.zero_le _) (fun t ht => by omega)
  rcases out with ⟨e, par', he, hX, hY⟩ | ⟨a, par', ha, p6, hX, hY⟩
  · refine ⟨13, hX _ (br_f he ?_)⟩
    exact ⟨13, hY _ ⟨rfl, qr_in _ F0⟩⟩
  · refine ⟨13, hX _ (br_t (nI_pos' (by omega)) ?_)⟩
    have lone := qw_lone (h := par') S p6
    have e5 : nI a + 5 = nI (a + 5) := nI_add a 5
    refine qx_cs hS p6 (fun x => ?_) (fun x y => ?_) (fun x y => ?_)
    · refine br_f (by decide) ?_
      exact ⟨13, hY _ (qy_cs hS p6 (fun _ => ⟨rfl, qr_in _ F0⟩) (fun z _ => by omega) (fun z _ => by omega))⟩
    · refine br_f (by decide) ?_
      refine ⟨13, hY _ (qy_cs hS p6 (fun z => by omega) (fun _ _ => ⟨rfl, qr_in _ F0⟩) (fun z w => ?_))⟩
      exfalso
      rcases w with w | ⟨w1, w2⟩
      · omega
      · exact y ⟨w1, (lone w1).mpr w2⟩
    · refine br_t rfl ?_
      have y' : qw_K par' S = 64 ∨ (qu_n par' S = 1 ∧ qw_n par' 1 S = 1) := by
        rcases y with y | ⟨w1, w2⟩
        · exact Or.inl y
        · exact Or.inr ⟨w1, (lone w1).mp w2⟩
      have goY : ∀ (post : Int32 → SY → Prop), wY_open_308 post (nI a) (nI S) (nI L) (nI C) (nI M) pr cc (nI O) (nI N) op (nI R) (nI E) (nI D) (qs_N c) (qs_N ml) (qs_N lc) (qs_N ob) (qs_N ib) (qs_N lh) dl ls (qs_N par') → wpY_open post (nI S, nI L, nI C, nI M, pr, cc, nI O, nI N, op, nI R, nI E, nI D, qs_N c, qs_N ml, qs_N lc, qs_N ob, qs_N ib, qs_N lh, dl, ls, qs_N par) := fun post h => ⟨13, hY _ (qy_cs hS p6 (fun z => by omega) (fun z w => by
        exfalso
        rcases y' with q | q
        · omega
        · exact w q) (fun _ _ => h))⟩
      by_cases z : a + 5 ≤ N
      · refine br_t (by rw [e5]; exact nI_le z (by omega)) ?_
        have vb := qb_vb hib a 5
        refine qx_pick_in (a := a) (w := 5) hib (by omega) (by decide) ?_
        by_cases q : qb_v ib a 5 ≤ C
        · refine br_t (nI_le q (by omega)) ?_
          have l6 : ∀ j, qs_f par' lh S j ≤ 6 := fun j => by
            by_cases w : j < S
            · rw [qs_fl w]; exact p6 j w
            · rw [qs_fg (by omega)]; exact hd6 j
          have eK : qw_K (qs_f par' lh S) S = qw_K par' S := qs_congr S (fun t ht => by rw [qs_fl ht])
          refine qx_al (par := par') hS p6 l6 (by rw [eK]; exact x) (fun wh' rt' br' ht => nm_r e5 ?_)
          refine goY _ ?_
          unfold wY_open_308
          refine qy_pick_in (a := a) (w := 5) hN (by omega) (by decide) (by decide) (fun _ => ?_) (fun w => by omega)
          refine br_t (nI_pos' (by omega)) (nm_r e5 (br_t (nI_le q (by omega)) (qy_347 (op := 1) hS ?_)))
          refine ⟨rfl, qr_in _ ⟨⟨hS2, hS, hL1, hL, hC1, hC, hM, hO, hN, z, Nat.zero_le _, q⟩, ⟨hT, hT2, hc0⟩, hml, ⟨hh6, hh0, hcw⟩, ⟨hob, hib⟩, ⟨l6, fun j hj => by rw [qs_fg hj]; exact hd0 j hj⟩, fun _ => ⟨by rw [eK]; exact x, ht, ?_⟩⟩⟩
          exact qr_mxc S (fun t ht => by rw [qs_fl ht])
        · refine br_f (nI_ge (by omega) (by omega)) ?_
          refine goY _ ?_
          unfold wY_open_308
          refine qy_pick_in (a := a) (w := 5) hN (by omega) (by decide) (by decide) (fun _ => ?_) (fun w => by omega)
          exact br_t (nI_pos' (by omega)) (nm_r e5 (br_f (nI_ge (by omega) (by omega)) ⟨rfl, qr_in _ F0⟩))
      · refine br_f (by rw [e5]; exact nI_ge (by omega) (by omega)) ?_
        refine goY _ ?_
        unfold wY_open_308
        exact qy_pick_in (a := a) (w := 5) hN (by omega) (by decide) (by decide) (fun w => by omega) (fun _ => br_f (by decide) ⟨rfl, qr_in _ F0⟩)
end
section
/-! next, decodeAll -/
/-- the window: i bits from R on, zeros behind N -/
def qn_w (f : Nat → Nat) (N R : Nat) : Nat → Nat
  | 0 => 0
  | i + 1 => 2 * qn_w f N R i + if R + i < N then f (R + i) else 0
theorem qn_w1 (f : Nat → Nat) (N R i : Nat) : qn_w f N R (i + 1) = 2 * qn_w f N R i + if R + i < N then f (R + i) else 0 := rfl
theorem qn_bit {f : Nat → Nat} (hf : ∀ j, f j ≤ 1) (N R i : Nat) : (if R + i < N then f (R + i) else 0) ≤ 1 := by
  by_cases x : R + i < N
  · rw [if_pos x]; exact hf _
  · rw [if_neg x]; exact Nat.zero_le _
theorem qn_wb {f : Nat → Nat} (hf : ∀ j, f j ≤ 1) (N R : Nat) : ∀ i, qn_w f N R i < 2 ^ i := by
  intro i
  induction i with
  | zero => exact Nat.one_pos
  | succ i ih =>
    have := qn_bit hf N R i
    rw [qn_w1, Nat.pow_succ]
    omega
theorem qn_wv {f : Nat → Nat} {N R : Nat} : ∀ i, R + i ≤ N → qn_w f N R i = qb_v f R i := by
  intro i
  induction i with
  | zero => intro _; rfl
  | succ i ih =>
    intro h
    rw [qn_w1, if_pos (by omega), ih (by omega)]
    rfl
theorem qn_wd {f : Nat → Nat} (hf : ∀ j, f j ≤ 1) (N R k : Nat) : ∀ d, qn_w f N R (k + d) / 2 ^ d = qn_w f N R k := by
  intro d
  induction d with
  | zero => rw [Nat.pow_zero, Nat.div_one]; rfl
  | succ d ih =>
    have b := qn_bit hf N R (k + d)
    rw [show k + (d + 1) = (k + d) + 1 from rfl, qn_w1, Nat.pow_succ, Nat.mul_comm (2 ^ d), ← Nat.div_div_eq_div_mul, ← ih]
    congr 1
    omega
theorem qn_w6 {f : Nat → Nat} (hf : ∀ j, f j ≤ 1) {N R k : Nat} (hk : k ≤ 6) (h : R + k ≤ N) : qn_w f N R 6 / 2 ^ (6 - k) = qb_v f R k := by
  have := qn_wd hf N R k (6 - k)
  rw [show k + (6 - k) = 6 from by omega] at this
  rw [this, qn_wv k h]
theorem qr_mxg {h : Nat → Nat} : ∀ s t, t < s → h t ≤ qr_mx h s := by
  intro s
  induction s with
  | zero => intro t ht; omega
  | succ s ih =>
    intro t ht
    rw [qr_mx]
    by_cases e : t = s
    · subst e
      by_cases x : h t ≤ qr_mx h t
      · rw [if_pos x]; exact x
      · rw [if_neg x]; exact Nat.le_refl _
    · have := ih t (by omega)
      by_cases x : h s ≤ qr_mx h s
      · rw [if_pos x]; exact this
      · rw [if_neg x]; omega
section QN
variable {S L C T M O N R E D G : Nat} {c ml lc ob ib lh par : Nat → Nat} {pr cc op : Int32} {cw dl rt br wh ls : Nat → Int32} {lf pa ro : Nat → Int64}
theorem qx_win {post : Int32 → Prop} (hN : N ≤ 256) (hR : R ≤ N) (hib : ∀ j, ib j ≤ 1) (hp : post (nI (qn_w ib N R 6))) : wpX_window post (nI S, nI L, nI C, nI T, nI M, pr, cc, nI O, nI N, op, nI G, nI R, nI E, nI D, qs_N c, qs_N ml, qs_N lc, cw, qs_N ob, qs_N ib, qs_N lh, dl, rt, br, lf, pa, ro, qs_N par, wh) := by
  have key : ∀ d i n, i + d = 6 → d < n → wX_window_4 post (nI S) (nI L) (nI C) (nI T) (nI M) pr cc (nI O) (nI N) op (nI G) (nI R) (nI E) (nI D) (qs_N c) (qs_N ml) (qs_N lc) cw (qs_N ob) (qs_N ib) (qs_N lh) dl rt br lf pa ro (qs_N par) wh n (nI (qn_w ib N R i)) (nI i) := by
    intro d
    induction d with
    | zero =>
      intro i n hi hn
      obtain ⟨n, rfl⟩ : ∃ m, n = m + 1 := ⟨n - 1, by omega⟩
      obtain rfl : i = 6 := by omega
      exact br_t (by decide) hp
    | succ d ih =>
      intro i n hi hn
      obtain ⟨n, rfl⟩ : ∃ m, n = m + 1 := ⟨n - 1, by omega⟩
      have b := qn_wb hib N R i
      have b2 : 2 ^ i ≤ 2 ^ 6 := Nat.pow_le_pow_right (by decide) (by omega)
      have i1 := ih (i + 1) n (by omega) (by omega)
      refine br_f (nI_ge (b := 6) (by omega) (by decide)) (nm_e (nm_r (nI_add R i) ?_))
      by_cases x : N ≤ R + i
      · rw [qn_w1, if_neg (by omega), Nat.add_zero] at i1
        rw [qb_sl1 (by omega)]
        exact br_t (nI_le x (by omega)) (nm_r (nI_1 i) i1)
      · rw [qn_w1, if_pos (by omega)] at i1
        refine br_f (nI_ge (by omega) (by omega)) ⟨vp_in_nI (by omega) (by decide), nm_r (e' := nI (2 * qn_w ib N R i + ib (R + i))) ?_ (nm_r (nI_1 i) i1)⟩
        rw [qs_Nr _ (by omega)]
        exact qb_or1 (by omega) (hib _)
  exact ⟨7, key 6 0 7 (by omega) (by omega)⟩
theorem qx_one {post : Int32 → SX → Prop} {W : Nat} (hS : S ≤ 12) (hN : N ≤ 256) (hR : R ≤ N) (hib : ∀ j, ib j ≤ 1) (hl6 : ∀ j, lh j ≤ 6) (hop : ¬ op = 0) (hDE : D < E) (hE : E ≤ 31) (hT : qt_T lh S rt br) (eW : qn_w ib N R 6 = W)
    (hp : wX_decodeOne_83 post (nI (N - R)) (nI (qt_E lh S S W)) (nI S) (nI L) (nI C) (nI T) (nI M) pr cc (nI O) (nI N) op (nI G) (nI R) (nI E) (nI D) (qs_N c) (qs_N ml) (qs_N lc) cw (qs_N ob) (qs_N ib) (qs_N lh) dl rt br lf pa ro (qs_N par) wh) : wpX_decodeOne post (nI S, nI L, nI C, nI T, nI M, pr, cc, nI O, nI N, op, nI G, nI R, nI E, nI D, qs_N c, qs_N ml, qs_N lc, cw, qs_N ob, qs_N ib, qs_N lh, dl, rt, br, lf, pa, ro, qs_N par, wh) := by
  have W64 : W < 64 := by rw [← eW]; exact qn_wb hib N R 6
  have eb := qt_Eb (h := lh) (W := W) hS hl6 S (Nat.le_refl _)
  refine br_f hop (br_t (nI_lt hDE (by omega)) (nm_r (pk_sub hR) ?_))
  refine qx_win hN hR hib ?_
  rw [eW]
  have e1 : (nI W >>> ((3 : Int32) &&& 31)) &&& 7 = nI (W / 8) := by
    rw [pk_shrN (by omega) ((3 : Int32) &&& 31) 3 (by decide), pk_andN (by omega) 3 (by decide)]
    exact congrArg nI (by omega)
  rw [e1]
  refine ⟨vp_in_nI (by omega) (by decide), nm_e ?_⟩
  rw [nI_clamp (show W / 8 < 2 ^ 31 by omega)]
  have ew : 8 * (W / 8) + W % 8 = W := by omega
  rcases hT (W / 8) (by omega) with ⟨h1, h2⟩ | ⟨b, b8, h1, h2⟩
  · have := h2 (W % 8) (by omega)
    rw [ew] at this
    rw [h1, ← this]
    exact br_t (nI_pos' (by omega)) hp
  · have := h2 (W % 8) (by omega)
    rw [ew] at this
    rw [h1]
    have e2 : (-(-nI (b + 1)) - 1) <<< ((3 : Int32) &&& 31) = nI (8 * b) := by
      rw [Int32.neg_neg, nI_pred, pk_shlN ((3 : Int32) &&& 31) 3 (by decide) (by omega)]
      exact congrArg nI (by omega)
    have e3 : nI W &&& 7 = nI (W % 8) := pk_andN (by omega) 3 (by decide)
    have e4 : (nI (8 * b) + nI (W % 8)) &&& 63 = nI (8 * b + W % 8) := by
      rw [nI_add, pk_andN (by omega) 6 (by decide), Nat.mod_eq_of_lt (by omega)]
    refine br_f ?_ (nm_r e2 (nm_r e3 ?_))
    · rw [Int32.le_iff_toInt_le, sb_negT (by omega), show (0 : Int32).toInt = 0 from by decide]
      omega
    · rw [e4]
      refine ⟨vp_in_nI (by omega) (by decide), nm_r (e' := nI (qt_E lh S S W)) ?_ hp⟩
      rw [nI_clamp (by omega), this]
theorem qx_83n {post : Int32 → SX → Prop} {l : Nat} (hl : l ≤ 256) (hG : G ≤ 6) (h1 : G ≤ l → post (-15) (nI S, nI L, nI C, nI T, nI M, pr, cc, nI O, nI N, op, nI G, nI R, nI E, nI D, qs_N c, qs_N ml, qs_N lc, cw, qs_N ob, qs_N ib, qs_N lh, dl, rt, br, lf, pa, ro, qs_N par, wh)) (h2 : l < G → post (-8) (nI S, nI L, nI C, nI T, nI M, pr, cc, nI O, nI N, op, nI G, nI R, nI E, nI D, qs_N c, qs_N ml, qs_N lc, cw, qs_N ob, qs_N ib, qs_N lh, dl, rt, br, lf, pa, ro, qs_N par, wh)) : wX_decodeOne_83 post (nI l) 0 (nI S) (nI L) (nI C) (nI T) (nI M) pr cc (nI O) (nI N) op (nI G) (nI R) (nI E) (nI D) (qs_N c) (qs_N ml) (qs_N lc) cw (qs_N ob) (qs_N ib) (qs_N lh) dl rt br lf pa ro (qs_N par) wh := by
  refine br_t rfl ?_
  by_cases x : G ≤ l
  · exact br_t (nI_le x (by omega)) (h1 x)
  · exact br_f (nI_ge (by omega) (by omega)) (h2 (by omega))
theorem qx_83y {post : Int32 → SX → Prop} {l y q : Nat} (hl : l ≤ 256) (hR : R ≤ 256) (hD : D < 31) (hy : y ≤ 11) (hq0 : q ≠ 0) (hq : q ≤ 6) (h1 : q ≤ l → post (nI y) (nI S, nI L, nI C, nI T, nI M, pr, cc, nI O, nI N, op, nI G, nI (R + q), nI E, nI (D + 1), qs_N c, qs_N ml, qs_N lc, cw, qs_N ob, qs_N ib, qs_N lh, (upd dl D (nI y)), rt, br, lf, pa, ro, qs_N par, wh)) (h2 : l < q → post (-8) (nI S, nI L, nI C, nI T, nI M, pr, cc, nI O, nI N, op, nI G, nI R, nI E, nI D, qs_N c, qs_N ml, qs_N lc, cw, qs_N ob, qs_N ib, qs_N lh, dl, rt, br, lf, pa, ro, qs_N par, wh)) : wX_decodeOne_83 post (nI l) (nI (8 * y + q)) (nI S) (nI L) (nI C) (nI T) (nI M) pr cc (nI O) (nI N) op (nI G) (nI R) (nI E) (nI D) (qs_N c) (qs_N ml) (qs_N lc) cw (qs_N ob) (qs_N ib) (qs_N lh) dl rt br lf pa ro (qs_N par) wh := by
  have e1 : nI (8 * y + q) &&& 7 = nI q := by
    rw [pk_andN (by omega) 3 (by decide)]
    exact congrArg nI (by omega)
  have e2 : nI (8 * y + q) >>> ((3 : Int32) &&& 31) = nI y := by
    rw [pk_shrN (by omega) ((3 : Int32) &&& 31) 3 (by decide)]
    exact congrArg nI (by omega)
  refine br_f (nI_ne0 (by omega) (by omega)) (nm_r e1 ?_)
  by_cases x : q ≤ l
  · exact br_t (nI_le x (by omega)) (nm_r e2 ⟨vp_in_nI (by omega) (by decide), nm_r (e' := upd dl D (nI y)) (by rw [nI_clamp (by omega)]) (nm_r (nI_1 D) (nm_r (nI_add R q) (h1 x)))⟩)
  · exact br_f (nI_ge (by omega) (by omega)) (h2 (by omega))
/-! Y -/
theorem qy_95n {post : Int32 → SY → Prop} {J61 : Int32 → Prop} {m q v : Nat} (hS : S ≤ 12) (hl6 : ∀ j, lh j ≤ 6) (hq1 : 1 ≤ q) (hq : q ≤ 6) (hv : v < 2 ^ 31) (hn : ∀ s, s < S → lh s = q → qw_w lh S s ≠ v) (hJ : J61 (nI (q + 1))) :
    ∀ d s n, s + d = S → d < n → wY_next_95 post J61 (nI m) (nI q) (nI v) (nI S) (nI L) (nI C) (nI M) pr cc (nI O) (nI N) op (nI R) (nI E) (nI D) (qs_N c) (qs_N ml) (qs_N lc) (qs_N ob) (qs_N ib) (qs_N lh) dl ls (qs_N par) n (nI s) := by
  intro d
  induction d with
  | zero =>
    intro s n hs hn'
    obtain ⟨n, rfl⟩ : ∃ m, n = m + 1 := ⟨n - 1, by omega⟩
    exact br_t (nI_le (by omega) (by omega)) (nm_r (nI_1 q) hJ)
  | succ d ih =>
    intro s n hs hn'
    obtain ⟨n, rfl⟩ : ∃ m, n = m + 1 := ⟨n - 1, by omega⟩
    have l6 := hl6 s
    refine br_f (nI_ge (by omega) (by omega)) ⟨vp_in_nI (by omega) (by decide), ?_⟩
    rw [qs_Nr lh (show s < 2 ^ 31 by omega)]
    have i1 := ih (s + 1) n (by omega) (by omega)
    by_cases x : lh s = q
    · have wb : qw_w lh S s ≤ 1536 := qw_vb lh hS l6 (by omega)
      refine br_t (congrArg nI x) (qy_wordOf_h hS hl6 (by omega) (by omega) ?_)
      exact br_f (by rw [nI_eq (by omega) hv]; exact hn s (by omega) x) (nm_r (nI_1 s) i1)
    · exact br_f (by rw [nI_eq (by omega) (by omega)]; exact x) (nm_r (nI_1 s) i1)
theorem qy_95y {post : Int32 → SY → Prop} {J61 : Int32 → Prop} {m q v y : Nat} (hS : S ≤ 12) (hl6 : ∀ j, lh j ≤ 6) (hq1 : 1 ≤ q) (hq : q ≤ 6) (hv : v < 2 ^ 31) (hD : D < 31) (hy : y < S) (ey : lh y = q) (wy : qw_w lh S y = v) (hn : ∀ s, s < y → lh s = q → qw_w lh S s ≠ v)
    (hp : post (nI y) (nI S, nI L, nI C, nI M, pr, cc, nI O, nI N, op, nI (R + q), nI E, nI (D + 1), qs_N c, qs_N ml, qs_N lc, qs_N ob, qs_N ib, qs_N lh, (upd dl D (nI y)), ls, qs_N par)) :
    ∀ d s n, s + d = y → d < n → wY_next_95 post J61 (nI m) (nI q) (nI v) (nI S) (nI L) (nI C) (nI M) pr cc (nI O) (nI N) op (nI R) (nI E) (nI D) (qs_N c) (qs_N ml) (qs_N lc) (qs_N ob) (qs_N ib) (qs_N lh) dl ls (qs_N par) n (nI s) := by
  intro d
  induction d with
  | zero =>
    intro s n hs hn'
    obtain ⟨n, rfl⟩ : ∃ m, n = m + 1 := ⟨n - 1, by omega⟩
    obtain rfl : s = y := by omega
    refine br_f (nI_ge (by omega) (by omega)) ⟨vp_in_nI (by omega) (by decide), ?_⟩
    rw [qs_Nr lh (show s < 2 ^ 31 by omega)]
    refine br_t (congrArg nI ey) (qy_wordOf_h hS hl6 (by omega) (by omega) ?_)
    exact br_t (congrArg nI wy) ⟨vp_in_nI (by omega) (by decide), nm_r (e' := upd dl D (nI s)) (by rw [nI_clamp (by omega)]) (nm_r (nI_1 D) (nm_r (nI_add R q) hp))⟩
  | succ d ih =>
    intro s n hs hn'
    obtain ⟨n, rfl⟩ : ∃ m, n = m + 1 := ⟨n - 1, by omega⟩
    have l6 := hl6 s
    refine br_f (nI_ge (by omega) (by omega)) ⟨vp_in_nI (by omega) (by decide), ?_⟩
    rw [qs_Nr lh (show s < 2 ^ 31 by omega)]
    have i1 := ih (s + 1) n (by omega) (by omega)
    by_cases x : lh s = q
    · have wb : qw_w lh S s ≤ 1536 := qw_vb lh hS l6 (by omega)
      refine br_t (congrArg nI x) (qy_wordOf_h hS hl6 (by omega) (by omega) ?_)
      exact br_f (by rw [nI_eq (by omega) hv]; exact hn s (by omega) x) (nm_r (nI_1 s) i1)
    · exact br_f (by rw [nI_eq (by omega) (by omega)]; exact x) (nm_r (nI_1 s) i1)
theorem qy_61 {post : Int32 → SY → Prop} {m q0 : Nat} (hS : S ≤ 12) (hN : N ≤ 256) (hR : R ≤ N) (hib : ∀ j, ib j ≤ 1) (hl6 : ∀ j, lh j ≤ 6) (hm : m ≤ 6) (hq0 : q0 ≤ m + 1)
    (hno : ∀ q, 1 ≤ q → q < q0 → R + q ≤ N ∧ ∀ s, s < S → lh s = q → qw_w lh S s ≠ qb_v ib R q)
    (hT : ∀ n, wY_next_61 post (nI m) (nI S) (nI L) (nI C) (nI M) pr cc (nI O) (nI N) op (nI R) (nI E) (nI D) (qs_N c) (qs_N ml) (qs_N lc) (qs_N ob) (qs_N ib) (qs_N lh) dl ls (qs_N par) (n + 1) (nI q0)) : ∀ d q n, q + d = q0 → 1 ≤ q → d < n → wY_next_61 post (nI m) (nI S) (nI L) (nI C) (nI M) pr cc (nI O) (nI N) op (nI R) (nI E) (nI D) (qs_N c) (qs_N ml) (qs_N lc) (qs_N ob) (qs_N ib) (qs_N lh) dl ls (qs_N par) n (nI q) := by
  intro d
  induction d with
  | zero =>
    intro q n hq h1 hn
    obtain ⟨n, rfl⟩ : ∃ m, n = m + 1 := ⟨n - 1, by omega⟩
    obtain rfl : q = q0 := by omega
    exact hT n
  | succ d ih =>
    intro q n hq h1 hn
    obtain ⟨n, rfl⟩ : ∃ m, n = m + 1 := ⟨n - 1, by omega⟩
    obtain ⟨a1, a2⟩ := hno q h1 (by omega)
    have vb := qb_vb hib R q
    have v6 : 2 ^ q ≤ 2 ^ 6 := Nat.pow_le_pow_right (by decide) (by omega)
    refine br_f (nI_nlt (by omega) (by omega)) (br_t (by rw [nI_add]; exact nI_le a1 (by omega)) ?_)
    refine qy_pick_in hN (by omega) h1 (by omega) (fun _ => ?_) (fun y => by omega)
    exact ⟨S + 1, qy_95n hS hl6 h1 (by omega) (by omega) a2 (ih (q + 1) n (by omega) (by omega) (by omega)) S 0 (S + 1) (by omega) (by omega)⟩
theorem qy_28 {post : Int32 → SY → Prop} (hS : S ≤ 12) (hl6 : ∀ j, lh j ≤ 6) (hp : ∃ n, wY_next_61 post (nI (qr_mx lh S)) (nI S) (nI L) (nI C) (nI M) pr cc (nI O) (nI N) op (nI R) (nI E) (nI D) (qs_N c) (qs_N ml) (qs_N lc) (qs_N ob) (qs_N ib) (qs_N lh) dl ls (qs_N par) n 1) : ∃ n, wY_next_28 post (nI S) (nI L) (nI C) (nI M) pr cc (nI O) (nI N) op (nI R) (nI E) (nI D) (qs_N c) (qs_N ml) (qs_N lc) (qs_N ob) (qs_N ib) (qs_N lh) dl ls (qs_N par) n 0 0 := by
  have key : ∀ d s n, s + d = S → d < n → wY_next_28 post (nI S) (nI L) (nI C) (nI M) pr cc (nI O) (nI N) op (nI R) (nI E) (nI D) (qs_N c) (qs_N ml) (qs_N lc) (qs_N ob) (qs_N ib) (qs_N lh) dl ls (qs_N par) n (nI (qr_mx lh s)) (nI s) := by
    intro d
    induction d with
    | zero =>
      intro s n hs hn
      obtain ⟨n, rfl⟩ : ∃ m, n = m + 1 := ⟨n - 1, by omega⟩
      obtain rfl : s = S := by omega
      exact br_t (nI_le (by omega) (by omega)) hp
    | succ d ih =>
      intro s n hs hn
      obtain ⟨n, rfl⟩ : ∃ m, n = m + 1 := ⟨n - 1, by omega⟩
      have l6 := hl6 s
      have m6 := qr_mx6 (h := lh) s (fun t _ => hl6 t)
      have i1 := ih (s + 1) n (by omega) (by omega)
      refine br_f (nI_ge (by omega) (by omega)) ⟨vp_in_nI (by omega) (by decide), ?_⟩
      rw [qs_Nr lh (show s < 2 ^ 31 by omega)]
      by_cases x : lh s ≤ qr_mx lh s
      · rw [qr_mx, if_pos x] at i1
        exact br_t (nI_le x (by omega)) (nm_r (nI_1 s) i1)
      · rw [qr_mx, if_neg x] at i1
        exact br_f (nI_ge (by omega) (by omega)) ⟨vp_in_nI (by omega) (by decide), nm_e (nm_r (nI_1 s) i1)⟩
  exact ⟨S + 1, key S 0 (S + 1) (by omega) (by omega)⟩
end QN
/-- one outcome of one decoding step -/
def qn_S (k : Nat) (u : SX) (v : SY) : Prop := ∃ (r : Int32) (u' : SX) (v' : SY), i_Rel k u' v' ∧ (∀ post, post r u' → wpX_decodeOne post u) ∧ (∀ post, post r v' → wpY_next post v)
theorem qn_step {k : Nat} {u : SX} {v : SY} (I : i_Rel k u v) : qn_S k u v := by
  refine qr_el (P := fun u v => qn_S k u v) ?_ I
  intro S L C T M O N R E D G c ml lc ob ib lh par pr cc op cw dl rt br lf pa ro wh ls F
  have F0 := F
  obtain ⟨⟨hS2, hS, hL1, hL, hC1, hC, hM, hO, hN, hR, hD, hE⟩, ⟨hT, hT2, hc0⟩, hml, ⟨hh6, hh0, hcw⟩, ⟨hob, hib⟩, ⟨hd6, hd0⟩, hop⟩ := F
  by_cases x : op = 0
  · exact ⟨-13, (nI S, nI L, nI C, nI T, nI M, pr, cc, nI O, nI N, op, nI G, nI R, nI E, nI D, qs_N c, qs_N ml, qs_N lc, cw, qs_N ob, qs_N ib, qs_N lh, dl, rt, br, lf, pa, ro, qs_N par, wh), (nI S, nI L, nI C, nI M, pr, cc, nI O, nI N, op, nI R, nI E, nI D, qs_N c, qs_N ml, qs_N lc, qs_N ob, qs_N ib, qs_N lh, dl, ls, qs_N par), qr_in _ F0, fun post hp => br_t x hp, fun post hp => br_t x hp⟩
  · obtain ⟨hK, hT', hG⟩ := hop x
    by_cases x1 : D < E
    · have cD : nI D < nI E := nI_lt x1 (by omega)
      have G6 : G ≤ 6 := by rw [hG]; exact qr_mx6 S (fun t _ => hd6 t)
      have m6 : qr_mx lh S ≤ 6 := by rw [← hG]; exact G6
      have hw6 : ∀ q, q ≤ 6 → R + q ≤ N → ∀ s, lh s = q → lh s ≠ 0 → qw_w lh S s = qb_v ib R q → qw_m lh S (qn_w ib N R 6) s := by
        intro q q6 hq s es s0 ew
        refine ⟨s0, ?_⟩
        rw [es, qn_w6 hib q6 hq, ew]
      generalize eW : qn_w ib N R 6 = W at hw6
      by_cases z : qt_E lh S S W = 0
      · -- no word fits
        have none : ∀ s, s < S → ¬ qw_m lh S W s := fun s hs m => by
          have := qt_Em hd6 S (Nat.le_refl _) hs m
          have := m.1
          omega
        have hX : ∀ post, wX_decodeOne_83 post (nI (N - R)) 0 (nI S) (nI L) (nI C) (nI T) (nI M) pr cc (nI O) (nI N) op (nI G) (nI R) (nI E) (nI D) (qs_N c) (qs_N ml) (qs_N lc) cw (qs_N ob) (qs_N ib) (qs_N lh) dl rt br lf pa ro (qs_N par) wh → wpX_decodeOne post (nI S, nI L, nI C, nI T, nI M, pr, cc, nI O, nI N, op, nI G, nI R, nI E, nI D, qs_N c, qs_N ml, qs_N lc, cw, qs_N ob, qs_N ib, qs_N lh, dl, rt, br, lf, pa, ro, qs_N par, wh) := fun post hp => qx_one hS hN hR hib hd6 x x1 (by omega) hT' eW (by rw [z]; exact hp)
        by_cases y : G ≤ N - R
        · refine ⟨-15, (nI S, nI L, nI C, nI T, nI M, pr, cc, nI O, nI N, op, nI G, nI R, nI E, nI D, qs_N c, qs_N ml, qs_N lc, cw, qs_N ob, qs_N ib, qs_N lh, dl, rt, br, lf, pa, ro, qs_N par, wh), (nI S, nI L, nI C, nI M, pr, cc, nI O, nI N, op, nI R, nI E, nI D, qs_N c, qs_N ml, qs_N lc, qs_N ob, qs_N ib, qs_N lh, dl, ls, qs_N par), qr_in _ F0, fun post hp => hX post (qx_83n (by omega) G6 (fun _ => hp) (fun w => by omega)), fun post hp => br_f x (br_t cD (qy_28 hS hd6 ⟨qr_mx lh S + 1, qy_61 (q0 := qr_mx lh S + 1) hS hN hR hib hd6 m6 (Nat.le_refl _) (fun q q1 q2 => ⟨by omega, fun s hs es ew => none s hs (hw6 q (by omega) (by omega) s es (by omega) ew)⟩) (fun n => br_t (nI_lt (by omega) (by omega)) hp) (qr_mx lh S) 1 _ (by omega) (by omega) (by omega)⟩))⟩
        · refine ⟨-8, (nI S, nI L, nI C, nI T, nI M, pr, cc, nI O, nI N, op, nI G, nI R, nI E, nI D, qs_N c, qs_N ml, qs_N lc, cw, qs_N ob, qs_N ib, qs_N lh, dl, rt, br, lf, pa, ro, qs_N par, wh), (nI S, nI L, nI C, nI M, pr, cc, nI O, nI N, op, nI R, nI E, nI D, qs_N c, qs_N ml, qs_N lc, qs_N ob, qs_N ib, qs_N lh, dl, ls, qs_N par), qr_in _ F0, fun post hp => hX post (qx_83n (by omega) G6 (fun w => by omega) (fun _ => hp)), fun post hp => br_f x (br_t cD (qy_28 hS hd6 ⟨N - R + 1, qy_61 (q0 := N - R + 1) hS hN hR hib hd6 m6 (by omega) (fun q q1 q2 => ⟨by omega, fun s hs es ew => none s hs (hw6 q (by omega) (by omega) s es (by omega) ew)⟩) (fun n => br_f (nI_nlt (by omega) (by omega)) (br_f (by rw [nI_add]; exact nI_ge (by omega) (by omega)) hp)) (N - R) 1 _ (by omega) (by omega) (by omega)⟩))⟩
      · obtain ⟨y, y1, y2, y3⟩ := qt_Ex S z
        have y6 := hd6 y
        have y0 := y2.1
        have ym := qr_mxg (h := lh) S y y1
        have one : ∀ s, s < S → s ≠ y → ¬ qw_m lh S W s := fun s hs e m => e (qw_un hd6 hs y1 m y2)
        have hX : ∀ post, wX_decodeOne_83 post (nI (N - R)) (nI (8 * y + lh y)) (nI S) (nI L) (nI C) (nI T) (nI M) pr cc (nI O) (nI N) op (nI G) (nI R) (nI E) (nI D) (qs_N c) (qs_N ml) (qs_N lc) cw (qs_N ob) (qs_N ib) (qs_N lh) dl rt br lf pa ro (qs_N par) wh → wpX_decodeOne post (nI S, nI L, nI C, nI T, nI M, pr, cc, nI O, nI N, op, nI G, nI R, nI E, nI D, qs_N c, qs_N ml, qs_N lc, cw, qs_N ob, qs_N ib, qs_N lh, dl, rt, br, lf, pa, ro, qs_N par, wh) := fun post hp => qx_one hS hN hR hib hd6 x x1 (by omega) hT' eW (by rw [y3]; exact hp)
        by_cases w : lh y ≤ N - R
        · have wy : qw_w lh S y = qb_v ib R (lh y) := by
            rw [← qn_w6 (N := N) hib y6 (by omega), eW, y2.2]
          have vb := qb_vb hib R (lh y)
          have v6 : 2 ^ lh y ≤ 2 ^ 6 := Nat.pow_le_pow_right (by decide) y6
          refine ⟨nI y, (nI S, nI L, nI C, nI T, nI M, pr, cc, nI O, nI N, op, nI G, nI (R + lh y), nI E, nI (D + 1), qs_N c, qs_N ml, qs_N lc, cw, qs_N ob, qs_N ib, qs_N lh, (upd dl D (nI y)), rt, br, lf, pa, ro, qs_N par, wh), (nI S, nI L, nI C, nI M, pr, cc, nI O, nI N, op, nI (R + lh y), nI E, nI (D + 1), qs_N c, qs_N ml, qs_N lc, qs_N ob, qs_N ib, qs_N lh, (upd dl D (nI y)), ls, qs_N par), qr_in _ ⟨⟨hS2, hS, hL1, hL, hC1, hC, hM, hO, hN, by omega, by omega, hE⟩, ⟨hT, hT2, hc0⟩, hml, ⟨hh6, hh0, hcw⟩, ⟨hob, hib⟩, ⟨hd6, hd0⟩, hop⟩, fun post hp => hX post (qx_83y (by omega) (by omega) (by omega) (by omega) y0 y6 (fun _ => hp) (fun q => by omega)), fun post hp => br_f x (br_t cD (qy_28 hS hd6 ⟨lh y, qy_61 (q0 := lh y) hS hN hR hib hd6 m6 (by omega) (fun q q1 q2 => ⟨by omega, fun s hs es ew => one s hs (fun e => by subst e; omega) (hw6 q (by omega) (by omega) s es (by omega) ew)⟩) (fun n => br_f (nI_nlt ym (by omega)) (br_t (by rw [nI_add]; exact nI_le (by omega) (by omega)) ?_)) (lh y - 1) 1 _ (by omega) (by omega) (by omega)⟩))⟩
          refine qy_pick_in hN (by omega) (by omega) (by omega) (fun _ => ?_) (fun q => by omega)
          exact ⟨y + 1, qy_95y hS hd6 (by omega) y6 (by omega) (by omega) y1 rfl wy (fun s hs es ew => one s (by omega) (by omega) (hw6 (lh y) y6 (by omega) s es (by omega) ew)) hp y 0 (y + 1) (by omega) (by omega)⟩
        · refine ⟨-8, (nI S, nI L, nI C, nI T, nI M, pr, cc, nI O, nI N, op, nI G, nI R, nI E, nI D, qs_N c, qs_N ml, qs_N lc, cw, qs_N ob, qs_N ib, qs_N lh, dl, rt, br, lf, pa, ro, qs_N par, wh), (nI S, nI L, nI C, nI M, pr, cc, nI O, nI N, op, nI R, nI E, nI D, qs_N c, qs_N ml, qs_N lc, qs_N ob, qs_N ib, qs_N lh, dl, ls, qs_N par), qr_in _ F0, fun post hp => hX post (qx_83y (by omega) (by omega) (by omega) (by omega) y0 y6 (fun q => by omega) (fun _ => hp)), fun post hp => br_f x (br_t cD (qy_28 hS hd6 ⟨N - R + 1, qy_61 (q0 := N - R + 1) hS hN hR hib hd6 m6 (by omega) (fun q q1 q2 => ⟨by omega, fun s hs es ew => one s hs (fun e => by subst e; omega) (hw6 q (by omega) (by omega) s es (by omega) ew)⟩) (fun n => br_f (nI_nlt (by omega) (by omega)) (br_f (by rw [nI_add]; exact nI_ge (by omega) (by omega)) hp)) (N - R) 1 _ (by omega) (by omega) (by omega)⟩))⟩
    · have cD : ¬ nI D < nI E := nI_nlt (by omega) (by omega)
      exact ⟨-14, (nI S, nI L, nI C, nI T, nI M, pr, cc, nI O, nI N, op, nI G, nI R, nI E, nI D, qs_N c, qs_N ml, qs_N lc, cw, qs_N ob, qs_N ib, qs_N lh, dl, rt, br, lf, pa, ro, qs_N par, wh), (nI S, nI L, nI C, nI M, pr, cc, nI O, nI N, op, nI R, nI E, nI D, qs_N c, qs_N ml, qs_N lc, qs_N ob, qs_N ib, qs_N lh, dl, ls, qs_N par), qr_in _ F0, fun post hp => br_f x (br_f cD hp), fun post hp => br_f x (br_f cD hp)⟩
theorem i_vc_next {k : Nat} {u : SX} {v : SY} (I : i_Rel k u v) (hk : k + 3 ≤ 1539) : wpX_next (fun r u' => wpY_next (fun r' v' => r' = r ∧ i_Rel (k + 3) u' v') v) u := by
  obtain ⟨r, u', v', J, hX, hY⟩ := qn_step I
  obtain ⟨x1, x2, x3, x4, x5, x6, x7, x8, x9, x10, x11, x12, x13, x14, x15, x16, x17, x18, x19, x20, x21, x22, x23, x24, x25, x26, x27, x28, x29⟩ := u
  obtain ⟨z1, z2, z3, z4, z5, z6, z7, z8, z9, z10, z11, z12, z13, z14, z15, z16, z17, z18, z19, z20, z21, z22, z23, z24, z25, z26, z27, z28, z29⟩ := u'
  unfold wpX_next
  refine hX _ ?_
  refine hY _ ?_
  exact ⟨rfl, J⟩
/-- the loops of decodeAll over a state -/
def qn_X (post : Int32 → SX → Prop) (n i : Nat) (u : SX) : Prop := match u with
  | (f_symbols, f_limit, f_capacity, f_total, f_messageCount, f_codePresent, f_codeCost, f_outCount, f_inCount, f_receiverOpen, f_greatestHeard, f_readAt, f_expected, f_decodedCount, a_counts, a_messageList, a_codeLength, a_codeWord, a_outBit, a_inBit, a_heard, a_decodedList, a_root, a_branch, a_leaves, a_packages, a_row, a_parsed, a_heardWord) => wX_decodeAll_2 post n (nI i) f_symbols f_limit f_capacity f_total f_messageCount f_codePresent f_codeCost f_outCount f_inCount f_receiverOpen f_greatestHeard f_readAt f_expected f_decodedCount a_counts a_messageList a_codeLength a_codeWord a_outBit a_inBit a_heard a_decodedList a_root a_branch a_leaves a_packages a_row a_parsed a_heardWord
def qn_Y (post : Int32 → SY → Prop) (n i : Nat) (v : SY) : Prop := match v with
  | (f_symbols, f_limit, f_capacity, f_messageSize, f_present, f_codeCost, f_outSize, f_inSize, f_isOpen, f_readPosition, f_expected, f_decodedSize, a_counts, a_messageList, a_lengths, a_outString, a_inString, a_heard, a_decodedList, a_least, a_trial) => wY_decodeAll_2 post n (nI i) f_symbols f_limit f_capacity f_messageSize f_present f_codeCost f_outSize f_inSize f_isOpen f_readPosition f_expected f_decodedSize a_counts a_messageList a_lengths a_outString a_inString a_heard a_decodedList a_least a_trial
def qn_A (k n i : Nat) (u : SX) (v : SY) : Prop := ∃ (r : Int32) (u' : SX) (v' : SY), i_Rel k u' v' ∧ (∀ post, post r u' → qn_X post n i u) ∧ (∀ post, post r v' → qn_Y post n i v)
theorem qn_all {k : Nat} : ∀ d i n u v, i + d = 32 → d < n → i_Rel k u v → qn_A k n i u v := by
  intro d
  induction d with
  | zero =>
    intro i n u v hi hn I
    obtain ⟨n, rfl⟩ : ∃ m, n = m + 1 := ⟨n - 1, by omega⟩
    obtain rfl : i = 32 := by omega
    refine ⟨-14, u, v, I, fun post hp => ?_, fun post hp => ?_⟩
    · obtain ⟨x1, x2, x3, x4, x5, x6, x7, x8, x9, x10, x11, x12, x13, x14, x15, x16, x17, x18, x19, x20, x21, x22, x23, x24, x25, x26, x27, x28, x29⟩ := u
      exact br_t (by decide) hp
    · obtain ⟨y1, y2, y3, y4, y5, y6, y7, y8, y9, y10, y11, y12, y13, y14, y15, y16, y17, y18, y19, y20, y21⟩ := v
      exact br_t (by decide) hp
  | succ d ih =>
    intro i n u v hi hn I
    obtain ⟨n, rfl⟩ : ∃ m, n = m + 1 := ⟨n - 1, by omega⟩
    have c32 : ¬ (32 : Int32) ≤ nI i := nI_ge (b := 32) (by omega) (by decide)
    obtain ⟨r, u', v', J, hX, hY⟩ := qn_step I
    by_cases x : 0 ≤ r
    · obtain ⟨r2, u2, v2, J2, hX2, hY2⟩ := ih (i + 1) n u' v' (by omega) (by omega) J
      refine ⟨r2, u2, v2, J2, fun post hp => ?_, fun post hp => ?_⟩
      · have h := hX2 post hp
        obtain ⟨x1, x2, x3, x4, x5, x6, x7, x8, x9, x10, x11, x12, x13, x14, x15, x16, x17, x18, x19, x20, x21, x22, x23, x24, x25, x26, x27, x28, x29⟩ := u
        obtain ⟨z1, z2, z3, z4, z5, z6, z7, z8, z9, z10, z11, z12, z13, z14, z15, z16, z17, z18, z19, z20, z21, z22, z23, z24, z25, z26, z27, z28, z29⟩ := u'
        exact br_f c32 (hX _ (br_t x (nm_r (nI_1 i) h)))
      · have h := hY2 post hp
        obtain ⟨y1, y2, y3, y4, y5, y6, y7, y8, y9, y10, y11, y12, y13, y14, y15, y16, y17, y18, y19, y20, y21⟩ := v
        obtain ⟨z1, z2, z3, z4, z5, z6, z7, z8, z9, z10, z11, z12, z13, z14, z15, z16, z17, z18, z19, z20, z21⟩ := v'
        exact br_f c32 (hY _ (br_t x (nm_r (nI_1 i) h)))
    · refine ⟨r, u', v', J, fun post hp => ?_, fun post hp => ?_⟩
      · obtain ⟨x1, x2, x3, x4, x5, x6, x7, x8, x9, x10, x11, x12, x13, x14, x15, x16, x17, x18, x19, x20, x21, x22, x23, x24, x25, x26, x27, x28, x29⟩ := u
        obtain ⟨z1, z2, z3, z4, z5, z6, z7, z8, z9, z10, z11, z12, z13, z14, z15, z16, z17, z18, z19, z20, z21, z22, z23, z24, z25, z26, z27, z28, z29⟩ := u'
        exact br_f c32 (hX _ (br_f x hp))
      · obtain ⟨y1, y2, y3, y4, y5, y6, y7, y8, y9, y10, y11, y12, y13, y14, y15, y16, y17, y18, y19, y20, y21⟩ := v
        obtain ⟨z1, z2, z3, z4, z5, z6, z7, z8, z9, z10, z11, z12, z13, z14, z15, z16, z17, z18, z19, z20, z21⟩ := v'
        exact br_f c32 (hY _ (br_f x hp))
theorem i_vc_decodeAll {k : Nat} {u : SX} {v : SY} (I : i_Rel k u v) (hk : k + 3 ≤ 1539) : wpX_decodeAll (fun r u' => wpY_decodeAll (fun r' v' => r' = r ∧ i_Rel (k + 3) u' v') v) u := by
  obtain ⟨r, u', v', J, hX, hY⟩ := qn_all 32 0 33 u v (by omega) (by omega) I
  obtain ⟨x1, x2, x3, x4, x5, x6, x7, x8, x9, x10, x11, x12, x13, x14, x15, x16, x17, x18, x19, x20, x21, x22, x23, x24, x25, x26, x27, x28, x29⟩ := u
  obtain ⟨y1, y2, y3, y4, y5, y6, y7, y8, y9, y10, y11, y12, y13, y14, y15, y16, y17, y18, y19, y20, y21⟩ := v
  have h := hX (fun r u' => wpY_decodeAll (fun r' v' => r' = r ∧ i_Rel (k + 3) u' v') (y1, y2, y3, y4, y5, y6, y7, y8, y9, y10, y11, y12, y13, y14, y15, y16, y17, y18, y19, y20, y21)) ?_
  · exact ⟨33, h⟩
  · have h := hY (fun r' v' => r' = r ∧ i_Rel (k + 3) u' v') ⟨rfl, J⟩
    exact ⟨33, h⟩
end
