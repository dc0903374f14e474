section
/-! pure rows to paste: stores, nI and lN arithmetic, masks, shifts, narrowing, branches by naturals (pk_le, pk_lt, pk_eq), loops (lp1 .. lp16: the measure of the state; rp1 ..: recursion), negatives. Take what you need -/
theorem pk_us {f : Nat → Int32} {k : Nat} {x : Int32} : upd f k x k = x := if_pos rfl
theorem pk_un {f : Nat → Int32} {k j : Nat} {x : Int32} (h : j ≠ k) : upd f k x j = f j := if_neg h
theorem pk_uLs {f : Nat → Int64} {k : Nat} {x : Int64} : vp_updL f k x k = x := if_pos rfl
theorem pk_uLn {f : Nat → Int64} {k j : Nat} {x : Int64} (h : j ≠ k) : vp_updL f k x j = f j := if_neg h
theorem pk_sub {a b : Nat} (h : b ≤ a) : nI a - nI b = nI (a - b) := by
  obtain ⟨c, rfl⟩ : ∃ c, a = c + b := ⟨a - b, by omega⟩
  rw [← nI_add, Int32.add_sub_cancel, Nat.add_sub_cancel]
theorem pk_m1 (n : Nat) : nI (n + 1) + (-1) = nI n := by
  rw [← nI_1, Int32.add_assoc, show (1 : Int32) + (-1) = 0 from rfl, Int32.add_zero]
theorem pk_mul (a b : Nat) : nI a * nI b = nI (a * b) := (Int32.ofNat_mul a b).symm
theorem pk_div {a d : Nat} (ha : a < 2 ^ 31) (h0 : 0 < d) (hd : d < 2 ^ 31) : nI a / nI d = nI (a / d) := by
  apply Int32.toInt_inj.mp
  rw [lg_idiv_nonneg (by rw [nI_toInt ha]; omega) (by rw [nI_toInt hd]; omega), nI_toInt ha, nI_toInt hd, nI_toInt (Nat.lt_of_le_of_lt (Nat.div_le_self a d) ha)]
  first | rfl | exact (Int.natCast_ediv _ _).symm
theorem pk_rem {a d : Nat} (ha : a < 2 ^ 31) (h0 : 0 < d) (hd : d < 2 ^ 31) : nI a - nI a / nI d * nI d = nI (a % d) := by
  rw [pk_div ha h0 hd, pk_mul, pk_sub (Nat.div_mul_le_self a d)]
  exact congrArg nI (by have := Nat.div_add_mod' a d; omega)
theorem pk_sub_toInt {a b : Nat} (ha : a < 2 ^ 30) (hb : b < 2 ^ 30) : (nI a - nI b).toInt = (a : Int) - b := by
  rw [Int32.toInt_sub, nI_toInt (by omega), nI_toInt (by omega)]
  exact Int.bmod_eq_of_le (by omega) (by omega)
theorem pk_sneg {a b : Nat} (hb : b < 2 ^ 30) (h : a < b) : nI a - nI b < 0 := by
  rw [Int32.lt_iff_toInt_lt, pk_sub_toInt (by omega) hb, show (0 : Int32).toInt = 0 from by decide]
  omega
theorem pk_ix (x : Int32) {n : Nat} (hn : n < 2 ^ 31) : x < 0 ∨ nI n ≤ x ∨ ∃ j : Nat, j < n ∧ x = nI j := by
  by_cases h : x < 0
  · exact Or.inl h
  · obtain ⟨j, hj, rfl⟩ := nI_of h
    by_cases h2 : j < n
    · exact Or.inr (Or.inr ⟨j, h2, rfl⟩)
    · exact Or.inr (Or.inl (nI_le (by omega) hj))
theorem pk_le {x y : Int32} {A B : Prop} (a b : Nat) (f : a ≤ b → A) (g : b < a → B) (hx : x = nI a := by rfl) (hy : y = nI b := by rfl) (ha : a < 2 ^ 31 := by omega) (hb : b < 2 ^ 31 := by omega) : (x ≤ y → A) ∧ (¬ x ≤ y → B) := by
  subst hx hy
  rw [nI_leI ha hb]
  exact ⟨f, fun z => g (by omega)⟩
theorem pk_lt {x y : Int32} {A B : Prop} (a b : Nat) (f : a < b → A) (g : b ≤ a → B) (hx : x = nI a := by rfl) (hy : y = nI b := by rfl) (ha : a < 2 ^ 31 := by omega) (hb : b < 2 ^ 31 := by omega) : (x < y → A) ∧ (¬ x < y → B) := by
  subst hx hy
  rw [nI_ltI ha hb]
  exact ⟨f, fun z => g (by omega)⟩
theorem pk_eq {x y : Int32} {A B : Prop} (a b : Nat) (f : a = b → A) (g : a ≠ b → B) (hx : x = nI a := by rfl) (hy : y = nI b := by rfl) (ha : a < 2 ^ 31 := by omega) (hb : b < 2 ^ 31 := by omega) : (x = y → A) ∧ (¬ x = y → B) := by
  subst hx hy
  rw [nI_eq ha hb]
  exact ⟨f, g⟩
theorem pk_in {x : Int32} (n N : Nat) (h : n < N) (hx : x = nI n := by rfl) (hN : N < 2 ^ 31 := by omega) : vp_in x N := by
  subst hx
  exact vp_in_nI h hN
theorem pk_cl {x : Int32} (n : Nat) (hx : x = nI n := by rfl) (h : n < 2 ^ 31 := by omega) : x.toNatClampNeg = n := by
  subst hx
  exact nI_clamp h
theorem pk_tn {n : Nat} (h : n < 2 ^ 32) : (nI n).toBitVec.toNat = n := Nat.mod_eq_of_lt h
theorem pk_and (x : Int32) {m : Int32} (k : Nat) (hm : m.toBitVec.toNat = 2 ^ k - 1) : x &&& m = nI (x.toBitVec.toNat % 2 ^ k) := by
  apply Int32.toBitVec_inj.mp
  apply BitVec.eq_of_toNat_eq
  rw [Int32.toBitVec_and, BitVec.toNat_and, hm, Nat.and_two_pow_sub_one_eq_mod]
  show _ = (BitVec.ofNat 32 _).toNat
  rw [BitVec.toNat_ofNat]
  exact (Nat.mod_eq_of_lt (Nat.lt_of_le_of_lt (Nat.mod_le _ _) x.toBitVec.isLt)).symm
theorem pk_andN {n : Nat} (h : n < 2 ^ 32) {m : Int32} (k : Nat) (hm : m.toBitVec.toNat = 2 ^ k - 1) : nI n &&& m = nI (n % 2 ^ k) := by
  rw [pk_and _ k hm, pk_tn h]
theorem pk_andE (x : Int32) {m : Int32} (k : Nat) (hm : m.toBitVec.toNat = 2 ^ k - 1) : ∃ j : Nat, j < 2 ^ k ∧ x &&& m = nI j := ⟨_, Nat.mod_lt _ (Nat.two_pow_pos k), pk_and x k hm⟩
theorem pk_andIn (x : Int32) {m : Int32} (k : Nat) (hm : m.toBitVec.toNat = 2 ^ k - 1) (hk : k ≤ 30) : vp_in (x &&& m) (2 ^ k) := by
  obtain ⟨j, hj, e⟩ := pk_andE x k hm
  rw [e]
  exact vp_in_nI hj (Nat.lt_of_le_of_lt (Nat.pow_le_pow_right (by decide) hk) (by decide))
theorem pk_shl (a s : Int32) (k : Nat) (hs : (s.toBitVec.smod 32).toNat = k) : (a <<< s).toBitVec.toNat = a.toBitVec.toNat * 2 ^ k % 2 ^ 32 := by
  show (a.toBitVec <<< (s.toBitVec.smod 32).toNat).toNat = _
  rw [hs, BitVec.toNat_shiftLeft, Nat.shiftLeft_eq]
theorem pk_shlN {n : Nat} (s : Int32) (k : Nat) (hs : (s.toBitVec.smod 32).toNat = k) (h : n * 2 ^ k < 2 ^ 32) : nI n <<< s = nI (n * 2 ^ k) := by
  apply Int32.toBitVec_inj.mp
  apply BitVec.eq_of_toNat_eq
  have hn : n < 2 ^ 32 := Nat.lt_of_le_of_lt (Nat.le_mul_of_pos_right n (Nat.two_pow_pos k)) h
  rw [pk_shl _ _ k hs, pk_tn hn, pk_tn h, Nat.mod_eq_of_lt h]
theorem pk_shr (a s : Int32) (k : Nat) (hs : (s.toBitVec.smod 32).toNat = k) : (a >>> s).toInt = a.toInt >>> k := by
  show (a.toBitVec.sshiftRight (s.toBitVec.smod 32).toNat).toInt = _
  rw [hs, BitVec.toInt_sshiftRight]
  rfl
theorem pk_shrN {n : Nat} (h : n < 2 ^ 31) (s : Int32) (k : Nat) (hs : (s.toBitVec.smod 32).toNat = k) : nI n >>> s = nI (n / 2 ^ k) := by
  apply Int32.toInt_inj.mp
  have h2 : n / 2 ^ k ≤ n := Nat.div_le_self _ _
  rw [pk_shr _ _ k hs, nI_toInt h, nI_toInt (by omega), Int.shiftRight_eq_div_pow]
  rfl
theorem pk_ushr (x s : Int32) (k : Nat) (hs : ((s.toUInt32 &&& Int32.toUInt32 31).toBitVec % 32).toNat = k) : (x.toUInt32 >>> (s.toUInt32 &&& Int32.toUInt32 31)).toInt32.toBitVec.toNat = x.toBitVec.toNat / 2 ^ k := by
  have e : (x.toUInt32 >>> (s.toUInt32 &&& Int32.toUInt32 31)).toInt32.toBitVec = x.toBitVec >>> k := by
    rw [← hs]
    exact UInt32.toBitVec_shiftRight _ _
  rw [e, BitVec.toNat_ushiftRight, Nat.shiftRight_eq_div_pow]
theorem pk_ushrN {n : Nat} (hn : n < 2 ^ 32) (s : Int32) (k : Nat) (hs : ((s.toUInt32 &&& Int32.toUInt32 31).toBitVec % 32).toNat = k) : ((nI n).toUInt32 >>> (s.toUInt32 &&& Int32.toUInt32 31)).toInt32 = nI (n / 2 ^ k) := by
  apply Int32.toBitVec_inj.mp
  apply BitVec.eq_of_toNat_eq
  rw [pk_ushr _ s k hs, pk_tn hn, pk_tn (Nat.lt_of_le_of_lt (Nat.div_le_self _ _) hn)]
theorem pk_nb (z : Int32) : narrow .byte (.int z.toInt8.toInt32) = .int z.toInt8.toInt32 := congrArg Value.int (by simp)
theorem pk_ns (z : Int32) : narrow .short (.int z.toInt16.toInt32) = .int z.toInt16.toInt32 := congrArg Value.int (by simp)
theorem pk_fb (r : Int32) : fits .byte (.int r.toInt8.toInt32) = true := by
  have ⟨a, b⟩ := lg_i2b_range r
  have h1 : (-128 : Int32).toInt = -128 := by decide
  have h2 : (127 : Int32).toInt = 127 := by decide
  simp only [fits, Bool.and_eq_true, decide_eq_true_eq, Int32.le_iff_toInt_le, h1, h2]
  omega
theorem pk_fs (r : Int32) : fits .short (.int r.toInt16.toInt32) = true := by
  have ⟨a, b⟩ := lg_i2s_range r
  have h1 : (-32768 : Int32).toInt = -32768 := by decide
  have h2 : (32767 : Int32).toInt = 32767 := by decide
  simp only [fits, Bool.and_eq_true, decide_eq_true_eq, Int32.le_iff_toInt_le, h1, h2]
  omega
theorem pk_charN {q : Nat} (hq : q < 65536) : narrow .char (.int (nI q)) = .int (nI q) ∧ fits .char (.int (nI q)) = true := by
  constructor
  · have e : (nI q).toUInt32.toUInt16.toUInt32.toInt32 = nI q := by
      apply Int32.toBitVec_inj.mp
      apply BitVec.eq_of_toNat_eq
      show (nI q).toUInt32.toUInt16.toUInt32.toNat = q % 2 ^ 32
      rw [UInt16.toNat_toUInt32, UInt32.toNat_toUInt16, show (nI q).toUInt32.toNat = q % 2 ^ 32 from rfl]
      omega
    exact congrArg Value.int e
  · have a : (0 : Int32) ≤ nI q := nI_pos' (by omega)
    have b : nI q ≤ 65535 := nI_le (b := 65535) (by omega) (by decide)
    show (decide ((0 : Int32) ≤ nI q) && decide (nI q ≤ 65535)) = true
    rw [decide_eq_true a, decide_eq_true b]
    rfl
theorem pk_char (x : Int32) : (x.toUInt32 % 65536).toInt32 = nI (x.toBitVec.toNat % 65536) := by
  apply Int32.toBitVec_inj.mp
  apply BitVec.eq_of_toNat_eq
  rw [pk_tn (by omega)]
  show (x.toUInt32 % 65536).toNat = _
  rw [UInt32.toNat_mod]
  rfl
theorem pk_nc (x : Int32) : narrow .char (.int (x.toUInt32 % 65536).toInt32) = .int (x.toUInt32 % 65536).toInt32 := by
  rw [pk_char]
  exact (pk_charN (Nat.mod_lt _ (by decide))).1
theorem pk_fc (x : Int32) : fits .char (.int (x.toUInt32 % 65536).toInt32) = true := by
  rw [pk_char]
  exact (pk_charN (Nat.mod_lt _ (by decide))).2
theorem pk_vb (z : Int32) : vp_nar .byte z.toInt8.toInt32 = z.toInt8.toInt32 := by rw [vp_nar_byte]; simp
theorem pk_vs (z : Int32) : vp_nar .short z.toInt16.toInt32 = z.toInt16.toInt32 := by rw [vp_nar_short]; simp
theorem pk_vc (z : Int32) : vp_nar .char (z.toUInt32 % 65536).toInt32 = (z.toUInt32 % 65536).toInt32 := Value.int.inj (pk_nc z)
theorem pk_lT {n : Nat} (h : n < 2 ^ 63) : (lN n).toInt = (n : Int) := lg_ofNat_toInt h
theorem pk_lLT {a b : Nat} (ha : a < 2 ^ 63) (hb : b < 2 ^ 63) : lN a < lN b ↔ a < b := by
  rw [Int64.lt_iff_toInt_lt, pk_lT ha, pk_lT hb]; omega
theorem pk_lLE {a b : Nat} (ha : a < 2 ^ 63) (hb : b < 2 ^ 63) : lN a ≤ lN b ↔ a ≤ b := by
  rw [Int64.le_iff_toInt_le, pk_lT ha, pk_lT hb]; omega
theorem pk_lEQ {a b : Nat} (ha : a < 2 ^ 63) (hb : b < 2 ^ 63) : lN a = lN b ↔ a = b := by
  rw [← Int64.toInt_inj, pk_lT ha, pk_lT hb]; omega
theorem pk_lOf {x : Int64} (h : ¬ x < 0) : ∃ k : Nat, k < 2 ^ 63 ∧ x = lN k := by
  rw [Int64.lt_iff_toInt_lt] at h
  have h0 : (0 : Int64).toInt = 0 := by decide
  have hx := Int64.toInt_lt x
  refine ⟨x.toInt.toNat, by omega, Int64.toInt_inj.mp ?_⟩
  rw [pk_lT (by omega)]
  omega
theorem pk_lDiv {a b : Nat} (ha : a < 2 ^ 63) (h0 : 0 < b) (hb : b < 2 ^ 63) : lN a / lN b = lN (a / b) := by
  apply Int64.toInt_inj.mp
  rw [lg_ldiv_nonneg (by rw [pk_lT ha]; omega) (by rw [pk_lT hb]; omega), pk_lT ha, pk_lT hb, pk_lT (Nat.lt_of_le_of_lt (Nat.div_le_self a b) ha)]
  rfl
theorem pk_lRem {a b : Nat} (ha : a < 2 ^ 63) (h0 : 0 < b) (hb : b < 2 ^ 63) : lN a - lN a / lN b * lN b = lN (a % b) := by
  rw [pk_lDiv ha h0 hb, lN_mul, lN_sub (Nat.div_mul_le_self a b)]
  exact congrArg lN (by have := Nat.div_add_mod' a b; omega)
theorem pk_loop {σ : Type} (W : Nat → Nat → σ → Prop) (I : Nat → σ → Prop) (e i0 : Nat) (s : σ) (hi : i0 ≤ e) (h0 : I i0 s) (hx : ∀ n s, I e s → W (n + 1) e s)
    (hs : ∀ n i s, i < e → I i s → (∀ s', I (i + 1) s' → W n (i + 1) s') → W (n + 1) i s) : ∃ n, W n i0 s :=
  ⟨e + 1, loop_i W I e hx hs (e + 1) i0 s hi (by omega) h0⟩
theorem pk_loopD {σ : Type} (W : Nat → Nat → σ → Prop) (I : Nat → σ → Prop) (hx : ∀ n s, I 0 s → W (n + 1) 0 s)
    (hs : ∀ n i s, I (i + 1) s → (∀ s', I i s' → W n i s') → W (n + 1) (i + 1) s) : ∀ (e : Nat) (s : σ), I e s → W (e + 1) e s := by
  intro e
  induction e with
  | zero => exact fun s h => hx 0 s h
  | succ e ih => exact fun s h => hs (e + 1) e s h (fun s' h' => ih s' h')
theorem lp1 {A1 : Type} (W : Nat → A1 → Prop) (I : A1 → Prop) (μ : A1 → Nat) (hs : ∀ (n : Nat) (a1 : A1), I a1 → (∀ (b1 : A1), I b1 → μ b1 < μ a1 → W n b1) → W (n + 1) a1) (a1 : A1) (h : I a1) : ∃ n, W n a1 :=
  loop_m (σ := A1) (fun n s => W n s) (fun s => I s) (fun s => μ s) (fun n s hI hk => hs n s hI (fun b1 h9 hm => hk b1 h9 hm)) a1 h
theorem lp2 {A1 A2 : Type} (W : Nat → A1 → A2 → Prop) (I : A1 → A2 → Prop) (μ : A1 → A2 → Nat) (hs : ∀ (n : Nat) (a1 : A1) (a2 : A2), I a1 a2 → (∀ (b1 : A1) (b2 : A2), I b1 b2 → μ b1 b2 < μ a1 a2 → W n b1 b2) → W (n + 1) a1 a2) (a1 : A1) (a2 : A2) (h : I a1 a2) : ∃ n, W n a1 a2 :=
  loop_m (σ := A1 × A2) (fun n s => W n s.1 s.2) (fun s => I s.1 s.2) (fun s => μ s.1 s.2) (fun n s hI hk => hs n s.1 s.2 hI (fun b1 b2 h9 hm => hk (b1, b2) h9 hm)) (a1, a2) h
theorem lp3 {A1 A2 A3 : Type} (W : Nat → A1 → A2 → A3 → Prop) (I : A1 → A2 → A3 → Prop) (μ : A1 → A2 → A3 → Nat) (hs : ∀ (n : Nat) (a1 : A1) (a2 : A2) (a3 : A3), I a1 a2 a3 → (∀ (b1 : A1) (b2 : A2) (b3 : A3), I b1 b2 b3 → μ b1 b2 b3 < μ a1 a2 a3 → W n b1 b2 b3) → W (n + 1) a1 a2 a3) (a1 : A1) (a2 : A2) (a3 : A3) (h : I a1 a2 a3) : ∃ n, W n a1 a2 a3 :=
  loop_m (σ := A1 × A2 × A3) (fun n s => W n s.1 s.2.1 s.2.2) (fun s => I s.1 s.2.1 s.2.2) (fun s => μ s.1 s.2.1 s.2.2) (fun n s hI hk => hs n s.1 s.2.1 s.2.2 hI (fun b1 b2 b3 h9 hm => hk (b1, b2, b3) h9 hm)) (a1, a2, a3) h
theorem lp4 {A1 A2 A3 A4 : Type} (W : Nat → A1 → A2 → A3 → A4 → Prop) (I : A1 → A2 → A3 → A4 → Prop) (μ : A1 → A2 → A3 → A4 → Nat) (hs : ∀ (n : Nat) (a1 : A1) (a2 : A2) (a3 : A3) (a4 : A4), I a1 a2 a3 a4 → (∀ (b1 : A1) (b2 : A2) (b3 : A3) (b4 : A4), I b1 b2 b3 b4 → μ b1 b2 b3 b4 < μ a1 a2 a3 a4 → W n b1 b2 b3 b4) → W (n + 1) a1 a2 a3 a4) (a1 : A1) (a2 : A2) (a3 : A3) (a4 : A4) (h : I a1 a2 a3 a4) : ∃ n, W n a1 a2 a3 a4 :=
  loop_m (σ := A1 × A2 × A3 × A4) (fun n s => W n s.1 s.2.1 s.2.2.1 s.2.2.2) (fun s => I s.1 s.2.1 s.2.2.1 s.2.2.2) (fun s => μ s.1 s.2.1 s.2.2.1 s.2.2.2) (fun n s hI hk => hs n s.1 s.2.1 s.2.2.1 s.2.2.2 hI (fun b1 b2 b3 b4 h9 hm => hk (b1, b2, b3, b4) h9 hm)) (a1, a2, a3, a4) h
theorem lp5 {A1 A2 A3 A4 A5 : Type} (W : Nat → A1 → A2 → A3 → A4 → A5 → Prop) (I : A1 → A2 → A3 → A4 → A5 → Prop) (μ : A1 → A2 → A3 → A4 → A5 → Nat) (hs : ∀ (n : Nat) (a1 : A1) (a2 : A2) (a3 : A3) (a4 : A4) (a5 : A5), I a1 a2 a3 a4 a5 → (∀ (b1 : A1) (b2 : A2) (b3 : A3) (b4 : A4) (b5 : A5), I b1 b2 b3 b4 b5 → μ b1 b2 b3 b4 b5 < μ a1 a2 a3 a4 a5 → W n b1 b2 b3 b4 b5) → W (n + 1) a1 a2 a3 a4 a5) (a1 : A1) (a2 : A2) (a3 : A3) (a4 : A4) (a5 : A5) (h : I a1 a2 a3 a4 a5) : ∃ n, W n a1 a2 a3 a4 a5 :=
  loop_m (σ := A1 × A2 × A3 × A4 × A5) (fun n s => W n s.1 s.2.1 s.2.2.1 s.2.2.2.1 s.2.2.2.2) (fun s => I s.1 s.2.1 s.2.2.1 s.2.2.2.1 s.2.2.2.2) (fun s => μ s.1 s.2.1 s.2.2.1 s.2.2.2.1 s.2.2.2.2) (fun n s hI hk => hs n s.1 s.2.1 s.2.2.1 s.2.2.2.1 s.2.2.2.2 hI (fun b1 b2 b3 b4 b5 h9 hm => hk (b1, b2, b3, b4, b5) h9 hm)) (a1, a2, a3, a4, a5) h
theorem lp6 {A1 A2 A3 A4 A5 A6 : Type} (W : Nat → A1 → A2 → A3 → A4 → A5 → A6 → Prop) (I : A1 → A2 → A3 → A4 → A5 → A6 → Prop) (μ : A1 → A2 → A3 → A4 → A5 → A6 → Nat) (hs : ∀ (n : Nat) (a1 : A1) (a2 : A2) (a3 : A3) (a4 : A4) (a5 : A5) (a6 : A6), I a1 a2 a3 a4 a5 a6 → (∀ (b1 : A1) (b2 : A2) (b3 : A3) (b4 : A4) (b5 : A5) (b6 : A6), I b1 b2 b3 b4 b5 b6 → μ b1 b2 b3 b4 b5 b6 < μ a1 a2 a3 a4 a5 a6 → W n b1 b2 b3 b4 b5 b6) → W (n + 1) a1 a2 a3 a4 a5 a6) (a1 : A1) (a2 : A2) (a3 : A3) (a4 : A4) (a5 : A5) (a6 : A6) (h : I a1 a2 a3 a4 a5 a6) : ∃ n, W n a1 a2 a3 a4 a5 a6 :=
  loop_m (σ := A1 × A2 × A3 × A4 × A5 × A6) (fun n s => W n s.1 s.2.1 s.2.2.1 s.2.2.2.1 s.2.2.2.2.1 s.2.2.2.2.2) (fun s => I s.1 s.2.1 s.2.2.1 s.2.2.2.1 s.2.2.2.2.1 s.2.2.2.2.2) (fun s => μ s.1 s.2.1 s.2.2.1 s.2.2.2.1 s.2.2.2.2.1 s.2.2.2.2.2) (fun n s hI hk => hs n s.1 s.2.1 s.2.2.1 s.2.2.2.1 s.2.2.2.2.1 s.2.2.2.2.2 hI (fun b1 b2 b3 b4 b5 b6 h9 hm => hk (b1, b2, b3, b4, b5, b6) h9 hm)) (a1, a2, a3, a4, a5, a6) h
theorem lp7 {A1 A2 A3 A4 A5 A6 A7 : Type} (W : Nat → A1 → A2 → A3 → A4 → A5 → A6 → A7 → Prop) (I : A1 → A2 → A3 → A4 → A5 → A6 → A7 → Prop) (μ : A1 → A2 → A3 → A4 → A5 → A6 → A7 → Nat) (hs : ∀ (n : Nat) (a1 : A1) (a2 : A2) (a3 : A3) (a4 : A4) (a5 : A5) (a6 : A6) (a7 : A7), I a1 a2 a3 a4 a5 a6 a7 → (∀ (b1 : A1) (b2 : A2) (b3 : A3) (b4 : A4) (b5 : A5) (b6 : A6) (b7 : A7), I b1 b2 b3 b4 b5 b6 b7 → μ b1 b2 b3 b4 b5 b6 b7 < μ a1 a2 a3 a4 a5 a6 a7 → W n b1 b2 b3 b4 b5 b6 b7) → W (n + 1) a1 a2 a3 a4 a5 a6 a7) (a1 : A1) (a2 : A2) (a3 : A3) (a4 : A4) (a5 : A5) (a6 : A6) (a7 : A7) (h : I a1 a2 a3 a4 a5 a6 a7) : ∃ n, W n a1 a2 a3 a4 a5 a6 a7 :=
  loop_m (σ := A1 × A2 × A3 × A4 × A5 × A6 × A7) (fun n s => W n s.1 s.2.1 s.2.2.1 s.2.2.2.1 s.2.2.2.2.1 s.2.2.2.2.2.1 s.2.2.2.2.2.2) (fun s => I s.1 s.2.1 s.2.2.1 s.2.2.2.1 s.2.2.2.2.1 s.2.2.2.2.2.1 s.2.2.2.2.2.2) (fun s => μ s.1 s.2.1 s.2.2.1 s.2.2.2.1 s.2.2.2.2.1 s.2.2.2.2.2.1 s.2.2.2.2.2.2) (fun n s hI hk => hs n s.1 s.2.1 s.2.2.1 s.2.2.2.1 s.2.2.2.2.1 s.2.2.2.2.2.1 s.2.2.2.2.2.2 hI (fun b1 b2 b3 b4 b5 b6 b7 h9 hm => hk (b1, b2, b3, b4, b5, b6, b7) h9 hm)) (a1, a2, a3, a4, a5, a6, a7) h
theorem lp8 {A1 A2 A3 A4 A5 A6 A7 A8 : Type} (W : Nat → A1 → A2 → A3 → A4 → A5 → A6 → A7 → A8 → Prop) (I : A1 → A2 → A3 → A4 → A5 → A6 → A7 → A8 → Prop) (μ : A1 → A2 → A3 → A4 → A5 → A6 → A7 → A8 → Nat) (hs : ∀ (n : Nat) (a1 : A1) (a2 : A2) (a3 : A3) (a4 : A4) (a5 : A5) (a6 : A6) (a7 : A7) (a8 : A8), I a1 a2 a3 a4 a5 a6 a7 a8 → (∀ (b1 : A1) (b2 : A2) (b3 : A3) (b4 : A4) (b5 : A5) (b6 : A6) (b7 : A7) (b8 : A8), I b1 b2 b3 b4 b5 b6 b7 b8 → μ b1 b2 b3 b4 b5 b6 b7 b8 < μ a1 a2 a3 a4 a5 a6 a7 a8 → W n b1 b2 b3 b4 b5 b6 b7 b8) → W (n + 1) a1 a2 a3 a4 a5 a6 a7 a8) (a1 : A1) (a2 : A2) (a3 : A3) (a4 : A4) (a5 : A5) (a6 : A6) (a7 : A7) (a8 : A8) (h : I a1 a2 a3 a4 a5 a6 a7 a8) : ∃ n, W n a1 a2 a3 a4 a5 a6 a7 a8 :=
  loop_m (σ := A1 × A2 × A3 × A4 × A5 × A6 × A7 × A8) (fun n s => W n s.1 s.2.1 s.2.2.1 s.2.2.2.1 s.2.2.2.2.1 s.2.2.2.2.2.1 s.2.2.2.2.2.2.1 s.2.2.2.2.2.2.2) (fun s => I s.1 s.2.1 s.2.2.1 s.2.2.2.1 s.2.2.2.2.1 s.2.2.2.2.2.1 s.2.2.2.2.2.2.1 s.2.2.2.2.2.2.2) (fun s => μ s.1 s.2.1 s.2.2.1 s.2.2.2.1 s.2.2.2.2.1 s.2.2.2.2.2.1 s.2.2.2.2.2.2.1 s.2.2.2.2.2.2.2) (fun n s hI hk => hs n s.1 s.2.1 s.2.2.1 s.2.2.2.1 s.2.2.2.2.1 s.2.2.2.2.2.1 s.2.2.2.2.2.2.1 s.2.2.2.2.2.2.2 hI (fun b1 b2 b3 b4 b5 b6 b7 b8 h9 hm => hk (b1, b2, b3, b4, b5, b6, b7, b8) h9 hm)) (a1, a2, a3, a4, a5, a6, a7, a8) h
theorem lp9 {A1 A2 A3 A4 A5 A6 A7 A8 A9 : Type} (W : Nat → A1 → A2 → A3 → A4 → A5 → A6 → A7 → A8 → A9 → Prop) (I : A1 → A2 → A3 → A4 → A5 → A6 → A7 → A8 → A9 → Prop) (μ : A1 → A2 → A3 → A4 → A5 → A6 → A7 → A8 → A9 → Nat) (hs : ∀ (n : Nat) (a1 : A1) (a2 : A2) (a3 : A3) (a4 : A4) (a5 : A5) (a6 : A6) (a7 : A7) (a8 : A8) (a9 : A9), I a1 a2 a3 a4 a5 a6 a7 a8 a9 → (∀ (b1 : A1) (b2 : A2) (b3 : A3) (b4 : A4) (b5 : A5) (b6 : A6) (b7 : A7) (b8 : A8) (b9 : A9), I b1 b2 b3 b4 b5 b6 b7 b8 b9 → μ b1 b2 b3 b4 b5 b6 b7 b8 b9 < μ a1 a2 a3 a4 a5 a6 a7 a8 a9 → W n b1 b2 b3 b4 b5 b6 b7 b8 b9) → W (n + 1) a1 a2 a3 a4 a5 a6 a7 a8 a9) (a1 : A1) (a2 : A2) (a3 : A3) (a4 : A4) (a5 : A5) (a6 : A6) (a7 : A7) (a8 : A8) (a9 : A9) (h : I a1 a2 a3 a4 a5 a6 a7 a8 a9) : ∃ n, W n a1 a2 a3 a4 a5 a6 a7 a8 a9 :=
  loop_m (σ := A1 × A2 × A3 × A4 × A5 × A6 × A7 × A8 × A9) (fun n s => W n s.1 s.2.1 s.2.2.1 s.2.2.2.1 s.2.2.2.2.1 s.2.2.2.2.2.1 s.2.2.2.2.2.2.1 s.2.2.2.2.2.2.2.1 s.2.2.2.2.2.2.2.2) (fun s => I s.1 s.2.1 s.2.2.1 s.2.2.2.1 s.2.2.2.2.1 s.2.2.2.2.2.1 s.2.2.2.2.2.2.1 s.2.2.2.2.2.2.2.1 s.2.2.2.2.2.2.2.2) (fun s => μ s.1 s.2.1 s.2.2.1 s.2.2.2.1 s.2.2.2.2.1 s.2.2.2.2.2.1 s.2.2.2.2.2.2.1 s.2.2.2.2.2.2.2.1 s.2.2.2.2.2.2.2.2) (fun n s hI hk => hs n s.1 s.2.1 s.2.2.1 s.2.2.2.1 s.2.2.2.2.1 s.2.2.2.2.2.1 s.2.2.2.2.2.2.1 s.2.2.2.2.2.2.2.1 s.2.2.2.2.2.2.2.2 hI (fun b1 b2 b3 b4 b5 b6 b7 b8 b9 h9 hm => hk (b1, b2, b3, b4, b5, b6, b7, b8, b9) h9 hm)) (a1, a2, a3, a4, a5, a6, a7, a8, a9) h
theorem lp10 {A1 A2 A3 A4 A5 A6 A7 A8 A9 A10 : Type} (W : Nat → A1 → A2 → A3 → A4 → A5 → A6 → A7 → A8 → A9 → A10 → Prop) (I : A1 → A2 → A3 → A4 → A5 → A6 → A7 → A8 → A9 → A10 → Prop) (μ : A1 → A2 → A3 → A4 → A5 → A6 → A7 → A8 → A9 → A10 → Nat) (hs : ∀ (n : Nat) (a1 : A1) (a2 : A2) (a3 : A3) (a4 : A4) (a5 : A5) (a6 : A6) (a7 : A7) (a8 : A8) (a9 : A9) (a10 : A10), I a1 a2 a3 a4 a5 a6 a7 a8 a9 a10 → (∀ (b1 : A1) (b2 : A2) (b3 : A3) (b4 : A4) (b5 : A5) (b6 : A6) (b7 : A7) (b8 : A8) (b9 : A9) (b10 : A10), I b1 b2 b3 b4 b5 b6 b7 b8 b9 b10 → μ b1 b2 b3 b4 b5 b6 b7 b8 b9 b10 < μ a1 a2 a3 a4 a5 a6 a7 a8 a9 a10 → W n b1 b2 b3 b4 b5 b6 b7 b8 b9 b10) → W (n + 1) a1 a2 a3 a4 a5 a6 a7 a8 a9 a10) (a1 : A1) (a2 : A2) (a3 : A3) (a4 : A4) (a5 : A5) (a6 : A6) (a7 : A7) (a8 : A8) (a9 : A9) (a10 : A10) (h : I a1 a2 a3 a4 a5 a6 a7 a8 a9 a10) : ∃ n, W n a1 a2 a3 a4 a5 a6 a7 a8 a9 a10 :=
  loop_m (σ := A1 × A2 × A3 × A4 × A5 × A6 × A7 × A8 × A9 × A10) (fun n s => W n s.1 s.2.1 s.2.2.1 s.2.2.2.1 s.2.2.2.2.1 s.2.2.2.2.2.1 s.2.2.2.2.2.2.1 s.2.2.2.2.2.2.2.1 s.2.2.2.2.2.2.2.2.1 s.2.2.2.2.2.2.2.2.2) (fun s => I s.1 s.2.1 s.2.2.1 s.2.2.2.1 s.2.2.2.2.1 s.2.2.2.2.2.1 s.2.2.2.2.2.2.1 s.2.2.2.2.2.2.2.1 s.2.2.2.2.2.2.2.2.1 s.2.2.2.2.2.2.2.2.2) (fun s => μ s.1 s.2.1 s.2.2.1 s.2.2.2.1 s.2.2.2.2.1 s.2.2.2.2.2.1 s.2.2.2.2.2.2.1 s.2.2.2.2.2.2.2.1 s.2.2.2.2.2.2.2.2.1 s.2.2.2.2.2.2.2.2.2) (fun n s hI hk => hs n s.1 s.2.1 s.2.2.1 s.2.2.2.1 s.2.2.2.2.1 s.2.2.2.2.2.1 s.2.2.2.2.2.2.1 s.2.2.2.2.2.2.2.1 s.2.2.2.2.2.2.2.2.1 s.2.2.2.2.2.2.2.2.2 hI (fun b1 b2 b3 b4 b5 b6 b7 b8 b9 b10 h9 hm => hk (b1, b2, b3, b4, b5, b6, b7, b8, b9, b10) h9 hm)) (a1, a2, a3, a4, a5, a6, a7, a8, a9, a10) h
theorem lp11 {A1 A2 A3 A4 A5 A6 A7 A8 A9 A10 A11 : Type} (W : Nat → A1 → A2 → A3 → A4 → A5 → A6 → A7 → A8 → A9 → A10 → A11 → Prop) (I : A1 → A2 → A3 → A4 → A5 → A6 → A7 → A8 → A9 → A10 → A11 → Prop) (μ : A1 → A2 → A3 → A4 → A5 → A6 → A7 → A8 → A9 → A10 → A11 → Nat) (hs : ∀ (n : Nat) (a1 : A1) (a2 : A2) (a3 : A3) (a4 : A4) (a5 : A5) (a6 : A6) (a7 : A7) (a8 : A8) (a9 : A9) (a10 : A10) (a11 : A11), I a1 a2 a3 a4 a5 a6 a7 a8 a9 a10 a11 → (∀ (b1 : A1) (b2 : A2) (b3 : A3) (b4 : A4) (b5 : A5) (b6 : A6) (b7 : A7) (b8 : A8) (b9 : A9) (b10 : A10) (b11 : A11), I b1 b2 b3 b4 b5 b6 b7 b8 b9 b10 b11 → μ b1 b2 b3 b4 b5 b6 b7 b8 b9 b10 b11 < μ a1 a2 a3 a4 a5 a6 a7 a8 a9 a10 a11 → W n b1 b2 b3 b4 b5 b6 b7 b8 b9 b10 b11) → W (n + 1) a1 a2 a3 a4 a5 a6 a7 a8 a9 a10 a11) (a1 : A1) (a2 : A2) (a3 : A3) (a4 : A4) (a5 : A5) (a6 : A6) (a7 : A7) (a8 : A8) (a9 : A9) (a10 : A10) (a11 : A11) (h : I a1 a2 a3 a4 a5 a6 a7 a8 a9 a10 a11) : ∃ n, W n a1 a2 a3 a4 a5 a6 a7 a8 a9 a10 a11 :=
  loop_m (σ := A1 × A2 × A3 × A4 × A5 × A6 × A7 × A8 × A9 × A10 × A11) (fun n s => W n s.1 s.2.1 s.2.2.1 s.2.2.2.1 s.2.2.2.2.1 s.2.2.2.2.2.1 s.2.2.2.2.2.2.1 s.2.2.2.2.2.2.2.1 s.2.2.2.2.2.2.2.2.1 s.2.2.2.2.2.2.2.2.2.1 s.2.2.2.2.2.2.2.2.2.2) (fun s => I s.1 s.2.1 s.2.2.1 s.2.2.2.1 s.2.2.2.2.1 s.2.2.2.2.2.1 s.2.2.2.2.2.2.1 s.2.2.2.2.2.2.2.1 s.2.2.2.2.2.2.2.2.1 s.2.2.2.2.2.2.2.2.2.1 s.2.2.2.2.2.2.2.2.2.2) (fun s => μ s.1 s.2.1 s.2.2.1 s.2.2.2.1 s.2.2.2.2.1 s.2.2.2.2.2.1 s.2.2.2.2.2.2.1 s.2.2.2.2.2.2.2.1 s.2.2.2.2.2.2.2.2.1 s.2.2.2.2.2.2.2.2.2.1 s.2.2.2.2.2.2.2.2.2.2) (fun n s hI hk => hs n s.1 s.2.1 s.2.2.1 s.2.2.2.1 s.2.2.2.2.1 s.2.2.2.2.2.1 s.2.2.2.2.2.2.1 s.2.2.2.2.2.2.2.1 s.2.2.2.2.2.2.2.2.1 s.2.2.2.2.2.2.2.2.2.1 s.2.2.2.2.2.2.2.2.2.2 hI (fun b1 b2 b3 b4 b5 b6 b7 b8 b9 b10 b11 h9 hm => hk (b1, b2, b3, b4, b5, b6, b7, b8, b9, b10, b11) h9 hm)) (a1, a2, a3, a4, a5, a6, a7, a8, a9, a10, a11) h
theorem lp12 {A1 A2 A3 A4 A5 A6 A7 A8 A9 A10 A11 A12 : Type} (W : Nat → A1 → A2 → A3 → A4 → A5 → A6 → A7 → A8 → A9 → A10 → A11 → A12 → Prop) (I : A1 → A2 → A3 → A4 → A5 → A6 → A7 → A8 → A9 → A10 → A11 → A12 → Prop) (μ : A1 → A2 → A3 → A4 → A5 → A6 → A7 → A8 → A9 → A10 → A11 → A12 → Nat) (hs : ∀ (n : Nat) (a1 : A1) (a2 : A2) (a3 : A3) (a4 : A4) (a5 : A5) (a6 : A6) (a7 : A7) (a8 : A8) (a9 : A9) (a10 : A10) (a11 : A11) (a12 : A12), I a1 a2 a3 a4 a5 a6 a7 a8 a9 a10 a11 a12 → (∀ (b1 : A1) (b2 : A2) (b3 : A3) (b4 : A4) (b5 : A5) (b6 : A6) (b7 : A7) (b8 : A8) (b9 : A9) (b10 : A10) (b11 : A11) (b12 : A12), I b1 b2 b3 b4 b5 b6 b7 b8 b9 b10 b11 b12 → μ b1 b2 b3 b4 b5 b6 b7 b8 b9 b10 b11 b12 < μ a1 a2 a3 a4 a5 a6 a7 a8 a9 a10 a11 a12 → W n b1 b2 b3 b4 b5 b6 b7 b8 b9 b10 b11 b12) → W (n + 1) a1 a2 a3 a4 a5 a6 a7 a8 a9 a10 a11 a12) (a1 : A1) (a2 : A2) (a3 : A3) (a4 : A4) (a5 : A5) (a6 : A6) (a7 : A7) (a8 : A8) (a9 : A9) (a10 : A10) (a11 : A11) (a12 : A12) (h : I a1 a2 a3 a4 a5 a6 a7 a8 a9 a10 a11 a12) : ∃ n, W n a1 a2 a3 a4 a5 a6 a7 a8 a9 a10 a11 a12 :=
  loop_m (σ := A1 × A2 × A3 × A4 × A5 × A6 × A7 × A8 × A9 × A10 × A11 × A12) (fun n s => W n s.1 s.2.1 s.2.2.1 s.2.2.2.1 s.2.2.2.2.1 s.2.2.2.2.2.1 s.2.2.2.2.2.2.1 s.2.2.2.2.2.2.2.1 s.2.2.2.2.2.2.2.2.1 s.2.2.2.2.2.2.2.2.2.1 s.2.2.2.2.2.2.2.2.2.2.1 s.2.2.2.2.2.2.2.2.2.2.2) (fun s => I s.1 s.2.1 s.2.2.1 s.2.2.2.1 s.2.2.2.2.1 s.2.2.2.2.2.1 s.2.2.2.2.2.2.1 s.2.2.2.2.2.2.2.1 s.2.2.2.2.2.2.2.2.1 s.2.2.2.2.2.2.2.2.2.1 s.2.2.2.2.2.2.2.2.2.2.1 s.2.2.2.2.2.2.2.2.2.2.2) (fun s => μ s.1 s.2.1 s.2.2.1 s.2.2.2.1 s.2.2.2.2.1 s.2.2.2.2.2.1 s.2.2.2.2.2.2.1 s.2.2.2.2.2.2.2.1 s.2.2.2.2.2.2.2.2.1 s.2.2.2.2.2.2.2.2.2.1 s.2.2.2.2.2.2.2.2.2.2.1 s.2.2.2.2.2.2.2.2.2.2.2) (fun n s hI hk => hs n s.1 s.2.1 s.2.2.1 s.2.2.2.1 s.2.2.2.2.1 s.2.2.2.2.2.1 s.2.2.2.2.2.2.1 s.2.2.2.2.2.2.2.1 s.2.2.2.2.2.2.2.2.1 s.2.2.2.2.2.2.2.2.2.1 s.2.2.2.2.2.2.2.2.2.2.1 s.2.2.2.2.2.2.2.2.2.2.2 hI (fun b1 b2 b3 b4 b5 b6 b7 b8 b9 b10 b11 b12 h9 hm => hk (b1, b2, b3, b4, b5, b6, b7, b8, b9, b10, b11, b12) h9 hm)) (a1, a2, a3, a4, a5, a6, a7, a8, a9, a10, a11, a12) h
theorem lp13 {A1 A2 A3 A4 A5 A6 A7 A8 A9 A10 A11 A12 A13 : Type} (W : Nat → A1 → A2 → A3 → A4 → A5 → A6 → A7 → A8 → A9 → A10 → A11 → A12 → A13 → Prop) (I : A1 → A2 → A3 → A4 → A5 → A6 → A7 → A8 → A9 → A10 → A11 → A12 → A13 → Prop) (μ : A1 → A2 → A3 → A4 → A5 → A6 → A7 → A8 → A9 → A10 → A11 → A12 → A13 → Nat) (hs : ∀ (n : Nat) (a1 : A1) (a2 : A2) (a3 : A3) (a4 : A4) (a5 : A5) (a6 : A6) (a7 : A7) (a8 : A8) (a9 : A9) (a10 : A10) (a11 : A11) (a12 : A12) (a13 : A13), I a1 a2 a3 a4 a5 a6 a7 a8 a9 a10 a11 a12 a13 → (∀ (b1 : A1) (b2 : A2) (b3 : A3) (b4 : A4) (b5 : A5) (b6 : A6) (b7 : A7) (b8 : A8) (b9 : A9) (b10 : A10) (b11 : A11) (b12 : A12) (b13 : A13), I b1 b2 b3 b4 b5 b6 b7 b8 b9 b10 b11 b12 b13 → μ b1 b2 b3 b4 b5 b6 b7 b8 b9 b10 b11 b12 b13 < μ a1 a2 a3 a4 a5 a6 a7 a8 a9 a10 a11 a12 a13 → W n b1 b2 b3 b4 b5 b6 b7 b8 b9 b10 b11 b12 b13) → W (n + 1) a1 a2 a3 a4 a5 a6 a7 a8 a9 a10 a11 a12 a13) (a1 : A1) (a2 : A2) (a3 : A3) (a4 : A4) (a5 : A5) (a6 : A6) (a7 : A7) (a8 : A8) (a9 : A9) (a10 : A10) (a11 : A11) (a12 : A12) (a13 : A13) (h : I a1 a2 a3 a4 a5 a6 a7 a8 a9 a10 a11 a12 a13) : ∃ n, W n a1 a2 a3 a4 a5 a6 a7 a8 a9 a10 a11 a12 a13 :=
  loop_m (σ := A1 × A2 × A3 × A4 × A5 × A6 × A7 × A8 × A9 × A10 × A11 × A12 × A13) (fun n s => W n s.1 s.2.1 s.2.2.1 s.2.2.2.1 s.2.2.2.2.1 s.2.2.2.2.2.1 s.2.2.2.2.2.2.1 s.2.2.2.2.2.2.2.1 s.2.2.2.2.2.2.2.2.1 s.2.2.2.2.2.2.2.2.2.1 s.2.2.2.2.2.2.2.2.2.2.1 s.2.2.2.2.2.2.2.2.2.2.2.1 s.2.2.2.2.2.2.2.2.2.2.2.2) (fun s => I s.1 s.2.1 s.2.2.1 s.2.2.2.1 s.2.2.2.2.1 s.2.2.2.2.2.1 s.2.2.2.2.2.2.1 s.2.2.2.2.2.2.2.1 s.2.2.2.2.2.2.2.2.1 s.2.2.2.2.2.2.2.2.2.1 s.2.2.2.2.2.2.2.2.2.2.1 s.2.2.2.2.2.2.2.2.2.2.2.1 s.2.2.2.2.2.2.2.2.2.2.2.2) (fun s => μ s.1 s.2.1 s.2.2.1 s.2.2.2.1 s.2.2.2.2.1 s.2.2.2.2.2.1 s.2.2.2.2.2.2.1 s.2.2.2.2.2.2.2.1 s.2.2.2.2.2.2.2.2.1 s.2.2.2.2.2.2.2.2.2.1 s.2.2.2.2.2.2.2.2.2.2.1 s.2.2.2.2.2.2.2.2.2.2.2.1 s.2.2.2.2.2.2.2.2.2.2.2.2) (fun n s hI hk => hs n s.1 s.2.1 s.2.2.1 s.2.2.2.1 s.2.2.2.2.1 s.2.2.2.2.2.1 s.2.2.2.2.2.2.1 s.2.2.2.2.2.2.2.1 s.2.2.2.2.2.2.2.2.1 s.2.2.2.2.2.2.2.2.2.1 s.2.2.2.2.2.2.2.2.2.2.1 s.2.2.2.2.2.2.2.2.2.2.2.1 s.2.2.2.2.2.2.2.2.2.2.2.2 hI (fun b1 b2 b3 b4 b5 b6 b7 b8 b9 b10 b11 b12 b13 h9 hm => hk (b1, b2, b3, b4, b5, b6, b7, b8, b9, b10, b11, b12, b13) h9 hm)) (a1, a2, a3, a4, a5, a6, a7, a8, a9, a10, a11, a12, a13) h
theorem lp14 {A1 A2 A3 A4 A5 A6 A7 A8 A9 A10 A11 A12 A13 A14 : Type} (W : Nat → A1 → A2 → A3 → A4 → A5 → A6 → A7 → A8 → A9 → A10 → A11 → A12 → A13 → A14 → Prop) (I : A1 → A2 → A3 → A4 → A5 → A6 → A7 → A8 → A9 → A10 → A11 → A12 → A13 → A14 → Prop) (μ : A1 → A2 → A3 → A4 → A5 → A6 → A7 → A8 → A9 → A10 → A11 → A12 → A13 → A14 → Nat) (hs : ∀ (n : Nat) (a1 : A1) (a2 : A2) (a3 : A3) (a4 : A4) (a5 : A5) (a6 : A6) (a7 : A7) (a8 : A8) (a9 : A9) (a10 : A10) (a11 : A11) (a12 : A12) (a13 : A13) (a14 : A14), I a1 a2 a3 a4 a5 a6 a7 a8 a9 a10 a11 a12 a13 a14 → (∀ (b1 : A1) (b2 : A2) (b3 : A3) (b4 : A4) (b5 : A5) (b6 : A6) (b7 : A7) (b8 : A8) (b9 : A9) (b10 : A10) (b11 : A11) (b12 : A12) (b13 : A13) (b14 : A14), I b1 b2 b3 b4 b5 b6 b7 b8 b9 b10 b11 b12 b13 b14 → μ b1 b2 b3 b4 b5 b6 b7 b8 b9 b10 b11 b12 b13 b14 < μ a1 a2 a3 a4 a5 a6 a7 a8 a9 a10 a11 a12 a13 a14 → W n b1 b2 b3 b4 b5 b6 b7 b8 b9 b10 b11 b12 b13 b14) → W (n + 1) a1 a2 a3 a4 a5 a6 a7 a8 a9 a10 a11 a12 a13 a14) (a1 : A1) (a2 : A2) (a3 : A3) (a4 : A4) (a5 : A5) (a6 : A6) (a7 : A7) (a8 : A8) (a9 : A9) (a10 : A10) (a11 : A11) (a12 : A12) (a13 : A13) (a14 : A14) (h : I a1 a2 a3 a4 a5 a6 a7 a8 a9 a10 a11 a12 a13 a14) : ∃ n, W n a1 a2 a3 a4 a5 a6 a7 a8 a9 a10 a11 a12 a13 a14 :=
  loop_m (σ := A1 × A2 × A3 × A4 × A5 × A6 × A7 × A8 × A9 × A10 × A11 × A12 × A13 × A14) (fun n s => W n s.1 s.2.1 s.2.2.1 s.2.2.2.1 s.2.2.2.2.1 s.2.2.2.2.2.1 s.2.2.2.2.2.2.1 s.2.2.2.2.2.2.2.1 s.2.2.2.2.2.2.2.2.1 s.2.2.2.2.2.2.2.2.2.1 s.2.2.2.2.2.2.2.2.2.2.1 s.2.2.2.2.2.2.2.2.2.2.2.1 s.2.2.2.2.2.2.2.2.2.2.2.2.1 s.2.2.2.2.2.2.2.2.2.2.2.2.2) (fun s => I s.1 s.2.1 s.2.2.1 s.2.2.2.1 s.2.2.2.2.1 s.2.2.2.2.2.1 s.2.2.2.2.2.2.1 s.2.2.2.2.2.2.2.1 s.2.2.2.2.2.2.2.2.1 s.2.2.2.2.2.2.2.2.2.1 s.2.2.2.2.2.2.2.2.2.2.1 s.2.2.2.2.2.2.2.2.2.2.2.1 s.2.2.2.2.2.2.2.2.2.2.2.2.1 s.2.2.2.2.2.2.2.2.2.2.2.2.2) (fun s => μ s.1 s.2.1 s.2.2.1 s.2.2.2.1 s.2.2.2.2.1 s.2.2.2.2.2.1 s.2.2.2.2.2.2.1 s.2.2.2.2.2.2.2.1 s.2.2.2.2.2.2.2.2.1 s.2.2.2.2.2.2.2.2.2.1 s.2.2.2.2.2.2.2.2.2.2.1 s.2.2.2.2.2.2.2.2.2.2.2.1 s.2.2.2.2.2.2.2.2.2.2.2.2.1 s.2.2.2.2.2.2.2.2.2.2.2.2.2) (fun n s hI hk => hs n s.1 s.2.1 s.2.2.1 s.2.2.2.1 s.2.2.2.2.1 s.2.2.2.2.2.1 s.2.2.2.2.2.2.1 s.2.2.2.2.2.2.2.1 s.2.2.2.2.2.2.2.2.1 s.2.2.2.2.2.2.2.2.2.1 s.2.2.2.2.2.2.2.2.2.2.1 s.2.2.2.2.2.2.2.2.2.2.2.1 s.2.2.2.2.2.2.2.2.2.2.2.2.1 s.2.2.2.2.2.2.2.2.2.2.2.2.2 hI (fun b1 b2 b3 b4 b5 b6 b7 b8 b9 b10 b11 b12 b13 b14 h9 hm => hk (b1, b2, b3, b4, b5, b6, b7, b8, b9, b10, b11, b12, b13, b14) h9 hm)) (a1, a2, a3, a4, a5, a6, a7, a8, a9, a10, a11, a12, a13, a14) h
theorem lp15 {A1 A2 A3 A4 A5 A6 A7 A8 A9 A10 A11 A12 A13 A14 A15 : Type} (W : Nat → A1 → A2 → A3 → A4 → A5 → A6 → A7 → A8 → A9 → A10 → A11 → A12 → A13 → A14 → A15 → Prop) (I : A1 → A2 → A3 → A4 → A5 → A6 → A7 → A8 → A9 → A10 → A11 → A12 → A13 → A14 → A15 → Prop) (μ : A1 → A2 → A3 → A4 → A5 → A6 → A7 → A8 → A9 → A10 → A11 → A12 → A13 → A14 → A15 → Nat) (hs : ∀ (n : Nat) (a1 : A1) (a2 : A2) (a3 : A3) (a4 : A4) (a5 : A5) (a6 : A6) (a7 : A7) (a8 : A8) (a9 : A9) (a10 : A10) (a11 : A11) (a12 : A12) (a13 : A13) (a14 : A14) (a15 : A15), I a1 a2 a3 a4 a5 a6 a7 a8 a9 a10 a11 a12 a13 a14 a15 → (∀ (b1 : A1) (b2 : A2) (b3 : A3) (b4 : A4) (b5 : A5) (b6 : A6) (b7 : A7) (b8 : A8) (b9 : A9) (b10 : A10) (b11 : A11) (b12 : A12) (b13 : A13) (b14 : A14) (b15 : A15), I b1 b2 b3 b4 b5 b6 b7 b8 b9 b10 b11 b12 b13 b14 b15 → μ b1 b2 b3 b4 b5 b6 b7 b8 b9 b10 b11 b12 b13 b14 b15 < μ a1 a2 a3 a4 a5 a6 a7 a8 a9 a10 a11 a12 a13 a14 a15 → W n b1 b2 b3 b4 b5 b6 b7 b8 b9 b10 b11 b12 b13 b14 b15) → W (n + 1) a1 a2 a3 a4 a5 a6 a7 a8 a9 a10 a11 a12 a13 a14 a15) (a1 : A1) (a2 : A2) (a3 : A3) (a4 : A4) (a5 : A5) (a6 : A6) (a7 : A7) (a8 : A8) (a9 : A9) (a10 : A10) (a11 : A11) (a12 : A12) (a13 : A13) (a14 : A14) (a15 : A15) (h : I a1 a2 a3 a4 a5 a6 a7 a8 a9 a10 a11 a12 a13 a14 a15) : ∃ n, W n a1 a2 a3 a4 a5 a6 a7 a8 a9 a10 a11 a12 a13 a14 a15 :=
  loop_m (σ := A1 × A2 × A3 × A4 × A5 × A6 × A7 × A8 × A9 × A10 × A11 × A12 × A13 × A14 × A15) (fun n s => W n s.1 s.2.1 s.2.2.1 s.2.2.2.1 s.2.2.2.2.1 s.2.2.2.2.2.1 s.2.2.2.2.2.2.1 s.2.2.2.2.2.2.2.1 s.2.2.2.2.2.2.2.2.1 s.2.2.2.2.2.2.2.2.2.1 s.2.2.2.2.2.2.2.2.2.2.1 s.2.2.2.2.2.2.2.2.2.2.2.1 s.2.2.2.2.2.2.2.2.2.2.2.2.1 s.2.2.2.2.2.2.2.2.2.2.2.2.2.1 s.2.2.2.2.2.2.2.2.2.2.2.2.2.2) (fun s => I s.1 s.2.1 s.2.2.1 s.2.2.2.1 s.2.2.2.2.1 s.2.2.2.2.2.1 s.2.2.2.2.2.2.1 s.2.2.2.2.2.2.2.1 s.2.2.2.2.2.2.2.2.1 s.2.2.2.2.2.2.2.2.2.1 s.2.2.2.2.2.2.2.2.2.2.1 s.2.2.2.2.2.2.2.2.2.2.2.1 s.2.2.2.2.2.2.2.2.2.2.2.2.1 s.2.2.2.2.2.2.2.2.2.2.2.2.2.1 s.2.2.2.2.2.2.2.2.2.2.2.2.2.2) (fun s => μ s.1 s.2.1 s.2.2.1 s.2.2.2.1 s.2.2.2.2.1 s.2.2.2.2.2.1 s.2.2.2.2.2.2.1 s.2.2.2.2.2.2.2.1 s.2.2.2.2.2.2.2.2.1 s.2.2.2.2.2.2.2.2.2.1 s.2.2.2.2.2.2.2.2.2.2.1 s.2.2.2.2.2.2.2.2.2.2.2.1 s.2.2.2.2.2.2.2.2.2.2.2.2.1 s.2.2.2.2.2.2.2.2.2.2.2.2.2.1 s.2.2.2.2.2.2.2.2.2.2.2.2.2.2) (fun n s hI hk => hs n s.1 s.2.1 s.2.2.1 s.2.2.2.1 s.2.2.2.2.1 s.2.2.2.2.2.1 s.2.2.2.2.2.2.1 s.2.2.2.2.2.2.2.1 s.2.2.2.2.2.2.2.2.1 s.2.2.2.2.2.2.2.2.2.1 s.2.2.2.2.2.2.2.2.2.2.1 s.2.2.2.2.2.2.2.2.2.2.2.1 s.2.2.2.2.2.2.2.2.2.2.2.2.1 s.2.2.2.2.2.2.2.2.2.2.2.2.2.1 s.2.2.2.2.2.2.2.2.2.2.2.2.2.2 hI (fun b1 b2 b3 b4 b5 b6 b7 b8 b9 b10 b11 b12 b13 b14 b15 h9 hm => hk (b1, b2, b3, b4, b5, b6, b7, b8, b9, b10, b11, b12, b13, b14, b15) h9 hm)) (a1, a2, a3, a4, a5, a6, a7, a8, a9, a10, a11, a12, a13, a14, a15) h
theorem lp16 {A1 A2 A3 A4 A5 A6 A7 A8 A9 A10 A11 A12 A13 A14 A15 A16 : Type} (W : Nat → A1 → A2 → A3 → A4 → A5 → A6 → A7 → A8 → A9 → A10 → A11 → A12 → A13 → A14 → A15 → A16 → Prop) (I : A1 → A2 → A3 → A4 → A5 → A6 → A7 → A8 → A9 → A10 → A11 → A12 → A13 → A14 → A15 → A16 → Prop) (μ : A1 → A2 → A3 → A4 → A5 → A6 → A7 → A8 → A9 → A10 → A11 → A12 → A13 → A14 → A15 → A16 → Nat) (hs : ∀ (n : Nat) (a1 : A1) (a2 : A2) (a3 : A3) (a4 : A4) (a5 : A5) (a6 : A6) (a7 : A7) (a8 : A8) (a9 : A9) (a10 : A10) (a11 : A11) (a12 : A12) (a13 : A13) (a14 : A14) (a15 : A15) (a16 : A16), I a1 a2 a3 a4 a5 a6 a7 a8 a9 a10 a11 a12 a13 a14 a15 a16 → (∀ (b1 : A1) (b2 : A2) (b3 : A3) (b4 : A4) (b5 : A5) (b6 : A6) (b7 : A7) (b8 : A8) (b9 : A9) (b10 : A10) (b11 : A11) (b12 : A12) (b13 : A13) (b14 : A14) (b15 : A15) (b16 : A16), I b1 b2 b3 b4 b5 b6 b7 b8 b9 b10 b11 b12 b13 b14 b15 b16 → μ b1 b2 b3 b4 b5 b6 b7 b8 b9 b10 b11 b12 b13 b14 b15 b16 < μ a1 a2 a3 a4 a5 a6 a7 a8 a9 a10 a11 a12 a13 a14 a15 a16 → W n b1 b2 b3 b4 b5 b6 b7 b8 b9 b10 b11 b12 b13 b14 b15 b16) → W (n + 1) a1 a2 a3 a4 a5 a6 a7 a8 a9 a10 a11 a12 a13 a14 a15 a16) (a1 : A1) (a2 : A2) (a3 : A3) (a4 : A4) (a5 : A5) (a6 : A6) (a7 : A7) (a8 : A8) (a9 : A9) (a10 : A10) (a11 : A11) (a12 : A12) (a13 : A13) (a14 : A14) (a15 : A15) (a16 : A16) (h : I a1 a2 a3 a4 a5 a6 a7 a8 a9 a10 a11 a12 a13 a14 a15 a16) : ∃ n, W n a1 a2 a3 a4 a5 a6 a7 a8 a9 a10 a11 a12 a13 a14 a15 a16 :=
  loop_m (σ := A1 × A2 × A3 × A4 × A5 × A6 × A7 × A8 × A9 × A10 × A11 × A12 × A13 × A14 × A15 × A16) (fun n s => W n s.1 s.2.1 s.2.2.1 s.2.2.2.1 s.2.2.2.2.1 s.2.2.2.2.2.1 s.2.2.2.2.2.2.1 s.2.2.2.2.2.2.2.1 s.2.2.2.2.2.2.2.2.1 s.2.2.2.2.2.2.2.2.2.1 s.2.2.2.2.2.2.2.2.2.2.1 s.2.2.2.2.2.2.2.2.2.2.2.1 s.2.2.2.2.2.2.2.2.2.2.2.2.1 s.2.2.2.2.2.2.2.2.2.2.2.2.2.1 s.2.2.2.2.2.2.2.2.2.2.2.2.2.2.1 s.2.2.2.2.2.2.2.2.2.2.2.2.2.2.2) (fun s => I s.1 s.2.1 s.2.2.1 s.2.2.2.1 s.2.2.2.2.1 s.2.2.2.2.2.1 s.2.2.2.2.2.2.1 s.2.2.2.2.2.2.2.1 s.2.2.2.2.2.2.2.2.1 s.2.2.2.2.2.2.2.2.2.1 s.2.2.2.2.2.2.2.2.2.2.1 s.2.2.2.2.2.2.2.2.2.2.2.1 s.2.2.2.2.2.2.2.2.2.2.2.2.1 s.2.2.2.2.2.2.2.2.2.2.2.2.2.1 s.2.2.2.2.2.2.2.2.2.2.2.2.2.2.1 s.2.2.2.2.2.2.2.2.2.2.2.2.2.2.2) (fun s => μ s.1 s.2.1 s.2.2.1 s.2.2.2.1 s.2.2.2.2.1 s.2.2.2.2.2.1 s.2.2.2.2.2.2.1 s.2.2.2.2.2.2.2.1 s.2.2.2.2.2.2.2.2.1 s.2.2.2.2.2.2.2.2.2.1 s.2.2.2.2.2.2.2.2.2.2.1 s.2.2.2.2.2.2.2.2.2.2.2.1 s.2.2.2.2.2.2.2.2.2.2.2.2.1 s.2.2.2.2.2.2.2.2.2.2.2.2.2.1 s.2.2.2.2.2.2.2.2.2.2.2.2.2.2.1 s.2.2.2.2.2.2.2.2.2.2.2.2.2.2.2) (fun n s hI hk => hs n s.1 s.2.1 s.2.2.1 s.2.2.2.1 s.2.2.2.2.1 s.2.2.2.2.2.1 s.2.2.2.2.2.2.1 s.2.2.2.2.2.2.2.1 s.2.2.2.2.2.2.2.2.1 s.2.2.2.2.2.2.2.2.2.1 s.2.2.2.2.2.2.2.2.2.2.1 s.2.2.2.2.2.2.2.2.2.2.2.1 s.2.2.2.2.2.2.2.2.2.2.2.2.1 s.2.2.2.2.2.2.2.2.2.2.2.2.2.1 s.2.2.2.2.2.2.2.2.2.2.2.2.2.2.1 s.2.2.2.2.2.2.2.2.2.2.2.2.2.2.2 hI (fun b1 b2 b3 b4 b5 b6 b7 b8 b9 b10 b11 b12 b13 b14 b15 b16 h9 hm => hk (b1, b2, b3, b4, b5, b6, b7, b8, b9, b10, b11, b12, b13, b14, b15, b16) h9 hm)) (a1, a2, a3, a4, a5, a6, a7, a8, a9, a10, a11, a12, a13, a14, a15, a16) h
theorem pk_least (P : Nat → Prop) (h : ∃ k, P k) : ∃ k, P k ∧ ∀ j, j < k → ¬ P j := by
  obtain ⟨k, hk⟩ := h
  induction k using Nat.strongRecOn with
  | ind k ih =>
    by_cases e : ∃ j, j < k ∧ P j
    · obtain ⟨j, hj, pj⟩ := e
      exact ih j hj pj
    · exact ⟨k, hk, fun j hj pj => e ⟨j, hj, pj⟩⟩
theorem rp1 {ρ A1 : Type} (W : Nat → (ρ → Prop) → A1 → Prop) (ok : A1 → Prop) (μ : A1 → Nat) (val : A1 → ρ)
    (hs : ∀ (d : Nat) (post : ρ → Prop) (a1 : A1), ok a1 → post (val a1) → (∀ (post' : ρ → Prop) (b1 : A1), ok b1 → μ b1 < μ a1 → post' (val b1) → W d post' b1) → W (d + 1) post a1) :
    ∀ (d : Nat) (post : ρ → Prop) (a1 : A1), ok a1 → μ a1 < d → post (val a1) → W d post a1 := by
  intro d
  induction d with
  | zero => intro post a1 _ h; omega
  | succ d ih =>
    intro post a1 ho hm hp
    exact hs d post a1 ho hp (fun post' b1 ho' hm' hp' => ih post' b1 ho' (by omega) hp')
theorem rp2 {ρ A1 A2 : Type} (W : Nat → (ρ → Prop) → A1 → A2 → Prop) (ok : A1 → A2 → Prop) (μ : A1 → A2 → Nat) (val : A1 → A2 → ρ)
    (hs : ∀ (d : Nat) (post : ρ → Prop) (a1 : A1) (a2 : A2), ok a1 a2 → post (val a1 a2) → (∀ (post' : ρ → Prop) (b1 : A1) (b2 : A2), ok b1 b2 → μ b1 b2 < μ a1 a2 → post' (val b1 b2) → W d post' b1 b2) → W (d + 1) post a1 a2) :
    ∀ (d : Nat) (post : ρ → Prop) (a1 : A1) (a2 : A2), ok a1 a2 → μ a1 a2 < d → post (val a1 a2) → W d post a1 a2 := by
  intro d
  induction d with
  | zero => intro post a1 a2 _ h; omega
  | succ d ih =>
    intro post a1 a2 ho hm hp
    exact hs d post a1 a2 ho hp (fun post' b1 b2 ho' hm' hp' => ih post' b1 b2 ho' (by omega) hp')
theorem rp3 {ρ A1 A2 A3 : Type} (W : Nat → (ρ → Prop) → A1 → A2 → A3 → Prop) (ok : A1 → A2 → A3 → Prop) (μ : A1 → A2 → A3 → Nat) (val : A1 → A2 → A3 → ρ)
    (hs : ∀ (d : Nat) (post : ρ → Prop) (a1 : A1) (a2 : A2) (a3 : A3), ok a1 a2 a3 → post (val a1 a2 a3) → (∀ (post' : ρ → Prop) (b1 : A1) (b2 : A2) (b3 : A3), ok b1 b2 b3 → μ b1 b2 b3 < μ a1 a2 a3 → post' (val b1 b2 b3) → W d post' b1 b2 b3) → W (d + 1) post a1 a2 a3) :
    ∀ (d : Nat) (post : ρ → Prop) (a1 : A1) (a2 : A2) (a3 : A3), ok a1 a2 a3 → μ a1 a2 a3 < d → post (val a1 a2 a3) → W d post a1 a2 a3 := by
  intro d
  induction d with
  | zero => intro post a1 a2 a3 _ h; omega
  | succ d ih =>
    intro post a1 a2 a3 ho hm hp
    exact hs d post a1 a2 a3 ho hp (fun post' b1 b2 b3 ho' hm' hp' => ih post' b1 b2 b3 ho' (by omega) hp')
theorem rp4 {ρ A1 A2 A3 A4 : Type} (W : Nat → (ρ → Prop) → A1 → A2 → A3 → A4 → Prop) (ok : A1 → A2 → A3 → A4 → Prop) (μ : A1 → A2 → A3 → A4 → Nat) (val : A1 → A2 → A3 → A4 → ρ)
    (hs : ∀ (d : Nat) (post : ρ → Prop) (a1 : A1) (a2 : A2) (a3 : A3) (a4 : A4), ok a1 a2 a3 a4 → post (val a1 a2 a3 a4) → (∀ (post' : ρ → Prop) (b1 : A1) (b2 : A2) (b3 : A3) (b4 : A4), ok b1 b2 b3 b4 → μ b1 b2 b3 b4 < μ a1 a2 a3 a4 → post' (val b1 b2 b3 b4) → W d post' b1 b2 b3 b4) → W (d + 1) post a1 a2 a3 a4) :
    ∀ (d : Nat) (post : ρ → Prop) (a1 : A1) (a2 : A2) (a3 : A3) (a4 : A4), ok a1 a2 a3 a4 → μ a1 a2 a3 a4 < d → post (val a1 a2 a3 a4) → W d post a1 a2 a3 a4 := by
  intro d
  induction d with
  | zero => intro post a1 a2 a3 a4 _ h; omega
  | succ d ih =>
    intro post a1 a2 a3 a4 ho hm hp
    exact hs d post a1 a2 a3 a4 ho hp (fun post' b1 b2 b3 b4 ho' hm' hp' => ih post' b1 b2 b3 b4 ho' (by omega) hp')
theorem rp5 {ρ A1 A2 A3 A4 A5 : Type} (W : Nat → (ρ → Prop) → A1 → A2 → A3 → A4 → A5 → Prop) (ok : A1 → A2 → A3 → A4 → A5 → Prop) (μ : A1 → A2 → A3 → A4 → A5 → Nat) (val : A1 → A2 → A3 → A4 → A5 → ρ)
    (hs : ∀ (d : Nat) (post : ρ → Prop) (a1 : A1) (a2 : A2) (a3 : A3) (a4 : A4) (a5 : A5), ok a1 a2 a3 a4 a5 → post (val a1 a2 a3 a4 a5) → (∀ (post' : ρ → Prop) (b1 : A1) (b2 : A2) (b3 : A3) (b4 : A4) (b5 : A5), ok b1 b2 b3 b4 b5 → μ b1 b2 b3 b4 b5 < μ a1 a2 a3 a4 a5 → post' (val b1 b2 b3 b4 b5) → W d post' b1 b2 b3 b4 b5) → W (d + 1) post a1 a2 a3 a4 a5) :
    ∀ (d : Nat) (post : ρ → Prop) (a1 : A1) (a2 : A2) (a3 : A3) (a4 : A4) (a5 : A5), ok a1 a2 a3 a4 a5 → μ a1 a2 a3 a4 a5 < d → post (val a1 a2 a3 a4 a5) → W d post a1 a2 a3 a4 a5 := by
  intro d
  induction d with
  | zero => intro post a1 a2 a3 a4 a5 _ h; omega
  | succ d ih =>
    intro post a1 a2 a3 a4 a5 ho hm hp
    exact hs d post a1 a2 a3 a4 a5 ho hp (fun post' b1 b2 b3 b4 b5 ho' hm' hp' => ih post' b1 b2 b3 b4 b5 ho' (by omega) hp')
theorem rp6 {ρ A1 A2 A3 A4 A5 A6 : Type} (W : Nat → (ρ → Prop) → A1 → A2 → A3 → A4 → A5 → A6 → Prop) (ok : A1 → A2 → A3 → A4 → A5 → A6 → Prop) (μ : A1 → A2 → A3 → A4 → A5 → A6 → Nat) (val : A1 → A2 → A3 → A4 → A5 → A6 → ρ)
    (hs : ∀ (d : Nat) (post : ρ → Prop) (a1 : A1) (a2 : A2) (a3 : A3) (a4 : A4) (a5 : A5) (a6 : A6), ok a1 a2 a3 a4 a5 a6 → post (val a1 a2 a3 a4 a5 a6) → (∀ (post' : ρ → Prop) (b1 : A1) (b2 : A2) (b3 : A3) (b4 : A4) (b5 : A5) (b6 : A6), ok b1 b2 b3 b4 b5 b6 → μ b1 b2 b3 b4 b5 b6 < μ a1 a2 a3 a4 a5 a6 → post' (val b1 b2 b3 b4 b5 b6) → W d post' b1 b2 b3 b4 b5 b6) → W (d + 1) post a1 a2 a3 a4 a5 a6) :
    ∀ (d : Nat) (post : ρ → Prop) (a1 : A1) (a2 : A2) (a3 : A3) (a4 : A4) (a5 : A5) (a6 : A6), ok a1 a2 a3 a4 a5 a6 → μ a1 a2 a3 a4 a5 a6 < d → post (val a1 a2 a3 a4 a5 a6) → W d post a1 a2 a3 a4 a5 a6 := by
  intro d
  induction d with
  | zero => intro post a1 a2 a3 a4 a5 a6 _ h; omega
  | succ d ih =>
    intro post a1 a2 a3 a4 a5 a6 ho hm hp
    exact hs d post a1 a2 a3 a4 a5 a6 ho hp (fun post' b1 b2 b3 b4 b5 b6 ho' hm' hp' => ih post' b1 b2 b3 b4 b5 b6 ho' (by omega) hp')
theorem rec_p {σ ρ : Type} (W : Nat → (ρ → Prop) → σ → Prop) (ok : σ → Prop) (μ : σ → Nat) (val : σ → ρ)
    (hs : ∀ d s post, ok s → post (val s) → (∀ s' post', ok s' → μ s' < μ s → post' (val s') → W d post' s') → W (d + 1) post s) :
    ∀ d s post, ok s → μ s < d → post (val s) → W d post s := by
  intro d
  induction d with
  | zero => intro s post _ h; omega
  | succ d ih =>
    intro s post ho hm hp
    exact hs d s post ho hp (fun s' post' ho' hm' hp' => ih s' post' ho' (by omega) hp')
theorem rec_q {σ ρ : Type} (W : Nat → (ρ → Prop) → σ → Prop) (ok : σ → Prop) (μ : σ → Nat) (Q : σ → ρ → Prop)
    (hs : ∀ d s post, ok s → (∀ r, Q s r → post r) → (∀ s' post', ok s' → μ s' < μ s → (∀ r, Q s' r → post' r) → W d post' s') → W (d + 1) post s) :
    ∀ d s post, ok s → μ s < d → (∀ r, Q s r → post r) → W d post s := by
  intro d
  induction d with
  | zero => intro s post _ h; omega
  | succ d ih =>
    intro s post ho hm hp
    exact hs d s post ho hp (fun s' post' ho' hm' hp' => ih s' post' ho' (by omega) hp')
def bx_sum (f : Nat → Int32) : Nat → Int32
  | 0 => 0
  | n + 1 => bx_sum f n + f n
theorem ek_u {A : Prop} {B : Nat → Prop} {k N : Nat} (hk : k < N) (h : B k) : (some k = none → A) ∧ (∀ y : Nat, some k = some y → (y < N ∧ B y)) :=
  ⟨fun z => absurd z (Option.some_ne_none k), fun _ e => (by cases e; exact ⟨hk, h⟩)⟩
theorem ek_nu {A : Prop} {B : Nat → Prop} (h : A) : ((none : Option Nat) = none → A) ∧ (∀ y : Nat, (none : Option Nat) = some y → B y) :=
  ⟨fun _ => h, fun _ e => (by cases e)⟩
theorem ek_if {c d A B : Prop} (e : c ↔ d) (f : d → A) (g : ¬ d → B) : (c → A) ∧ (¬ c → B) :=
  ⟨fun z => f (e.mp z), fun z => g (fun y => z (e.mpr y))⟩
theorem ek_v {α : Sort _} {P : α → Prop} {a b : α} (e : a = b) (h : P b) : P a := e ▸ h
theorem co_some {x : Option Nat} {A : Prop} {B : Nat → Prop} (i : Nat) (h : B i) (hx : x = some i := by rfl) : (x = none → A) ∧ (∀ y : Nat, x = some y → B y) := by
  subst hx
  exact ⟨fun e => (nomatch e), fun y e => Option.some.inj e ▸ h⟩
theorem co_none {x : Option Nat} {A : Prop} {B : Nat → Prop} (h : A) (hx : x = none := by rfl) : (x = none → A) ∧ (∀ y : Nat, x = some y → B y) := by
  subst hx
  exact ⟨fun _ => h, fun y e => (nomatch e)⟩
theorem co_any {x : Option Nat} {A : Prop} {B : Nat → Prop} (hn : x = none → A) (hs : ∀ i : Nat, x = some i → B i) : (x = none → A) ∧ (∀ y : Nat, x = some y → B y) := ⟨hn, hs⟩
theorem co_2 {P : Nat → Prop} (h0 : P 0) (h1 : P 1) {i : Nat} (hi : i < 2) : P i :=
  match i, hi with
  | 0, _ => h0
  | 1, _ => h1
theorem co_3 {P : Nat → Prop} (h0 : P 0) (h1 : P 1) (h2 : P 2) {i : Nat} (hi : i < 3) : P i :=
  match i, hi with
  | 0, _ => h0
  | 1, _ => h1
  | 2, _ => h2
theorem co_4 {P : Nat → Prop} (h0 : P 0) (h1 : P 1) (h2 : P 2) (h3 : P 3) {i : Nat} (hi : i < 4) : P i :=
  match i, hi with
  | 0, _ => h0
  | 1, _ => h1
  | 2, _ => h2
  | 3, _ => h3
theorem co_dec {N : Nat} {P : Nat → Prop} [DecidablePred P] (h : (List.range N).all (fun i => decide (P i)) = true) {i : Nat} (hi : i < N) : P i := by
  have := List.all_eq_true.mp h i (List.mem_range.mpr hi)
  exact of_decide_eq_true this
theorem co_tab {α : Type} {l : List α} {d : α} {P : α → Prop} (h : ∀ a, a ∈ l → P a) {i : Nat} (hi : i < l.length) : P (l.getD i d) := by
  rw [List.getD_eq_getElem?_getD, List.getElem?_eq_getElem hi]
  exact h _ (List.getElem_mem hi)
theorem pk_mu {x : Int32} {L : Nat} (h0 : ¬ x < 0) (h : ¬ nI L ≤ x) (hL : L < 2 ^ 31) : ∃ j : Nat, j < L ∧ x = nI j ∧ x + 1 = nI (j + 1) ∧ x.toNatClampNeg = j ∧ L - (x + 1).toNatClampNeg < L - x.toNatClampNeg := by
  obtain ⟨j, hj, rfl⟩ := nI_of h0
  have hl : j < L := Nat.not_le.mp fun q => h (nI_le q hj)
  refine ⟨j, hl, rfl, nI_1 j, nI_clamp hj, ?_⟩
  rw [nI_1, nI_clamp (by omega), nI_clamp hj]
  omega
theorem op_s {α : Type} {r : Option α} {A : Prop} {B : α → Prop} {y : α} (h : r = some y) (b : B y) : (r = none → A) ∧ ∀ z, r = some z → B z :=
  ⟨fun e => (by rw [h] at e; cases e), fun z e => (by rw [h] at e; cases e; exact b)⟩
def l_holds {α : Type} (a : Nat → Option Nat) (LP : List Nat) (p : Nat → α) (c : Nat) (b : Nat → α) : Prop :=
  ∀ j, j < c → ∃ y, a j = some y ∧ y ∈ LP ∧ p y = b j
theorem l_holds_0 {α : Type} {a : Nat → Option Nat} {LP : List Nat} {p b : Nat → α} : l_holds a LP p 0 b := fun j h => absurd h (Nat.not_lt_zero j)
theorem l_in_new (LP : List Nat) (q : Nat) : q ∈ LP ++ [q] := List.mem_append.mpr (Or.inr (List.mem_singleton.mpr rfl))
def l_sum (b : Nat → Int32) : Nat → Int32
  | 0 => 0
  | k + 1 => l_sum b k + b k
theorem sb_shr0 (x : Int32) : x >>> ((0 : Int32) &&& 31) = x := by
  rw [show ((0 : Int32) &&& 31) = 0 by decide]
  simp
theorem sb_shl0 (x : Int32) : x <<< ((0 : Int32) &&& 31) = x := by
  rw [show ((0 : Int32) &&& 31) = 0 by decide]
  simp
theorem sb_cl0 : (0 : Int32).toNatClampNeg = 0 := by decide
theorem sb_m1 {p : Nat} (h : 0 < p) : nI p + (-1) = nI (p - 1) := by
  obtain ⟨q, rfl⟩ : ∃ q, p = q + 1 := ⟨p - 1, by omega⟩
  exact pk_m1 q
def sb_b (c : Nat) : Int32 := (nI c).toInt8.toInt32
theorem sb_byte : ∀ c, c < 256 → sb_b c &&& 255 = nI c ∧ ((nI c).toUInt32 % 65536).toInt32 = nI c ∧ nI c ≤ 255 := by decide +kernel
def sb_Fit (a : Nat → Int32) : Prop := ∀ j, fits .byte (.int (a j)) = true
def sb_Lat (t : Nat → Nat) (n : Nat) (a : Nat → Int32) : Prop := ∀ j, j < n → t j < 256 ∧ a j = sb_b (t j)
theorem sb_fitB (c : Nat) : fits .byte (.int (sb_b c)) = true := pk_fb _
theorem sb_fit0 : sb_Fit (fun _ => 0) := fun _ => by
  show fits .byte (.int 0) = true
  decide
theorem sb_fitU {a : Nat → Int32} {k : Nat} {x : Int32} (h : sb_Fit a) (hx : fits .byte (.int x) = true) : sb_Fit (upd a k x) := by
  intro j
  by_cases e : j = k
  · subst e
    rw [pk_us]
    exact hx
  · rw [pk_un e]
    exact h j
def sb_cat (t : Nat → Nat) (n : Nat) (s : Nat → Nat) : Nat → Nat := fun j => if j < n then t j else s (j - n)
theorem sb_cat_lo {t s : Nat → Nat} {n j : Nat} (h : j < n) : sb_cat t n s j = t j := if_pos h
theorem sb_cat_hi {t s : Nat → Nat} {n j : Nat} : sb_cat t n s (n + j) = s j := by
  show (if n + j < n then t (n + j) else s (n + j - n)) = s j
  rw [if_neg (by omega), Nat.add_sub_cancel_left]
theorem sb_latPut {t s : Nat → Nat} {n w : Nat} {a a' : Nat → Int32} (h : sb_Lat t n a) (hk : ∀ j, j < n → a' j = a j) (hs : ∀ i, i < w → s i < 256 ∧ a' (n + i) = sb_b (s i)) : sb_Lat (sb_cat t n s) (n + w) a' := by
  intro j hj
  by_cases e : j < n
  · rw [sb_cat_lo e, hk j e]
    exact h j e
  · obtain ⟨i, rfl⟩ : ∃ i, j = n + i := ⟨j - n, by omega⟩
    rw [sb_cat_hi]
    exact hs i (by omega)
theorem sb_latKeep {t : Nat → Nat} {n : Nat} {a a' : Nat → Int32} (h : sb_Lat t n a) (hk : ∀ j, j < n → a' j = a j) : sb_Lat t n a' := fun j hj => by
  rw [hk j hj]
  exact h j hj
def sb_cap (q m : Nat) : Nat := if q ≤ m then m else if 2 * m + 2 < q then q else 2 * m + 2
def sb_Room (q m mc ms : Nat) : Prop := q ≤ m ∨ (1 ≤ mc ∧ sb_cap q m ≤ ms ∧ sb_cap q m ≤ 65536)
theorem sb_cap_ge (q m : Nat) : q ≤ sb_cap q m := by
  unfold sb_cap
  split
  · omega
  · split <;> omega
theorem sb_cap_gem (q m : Nat) : m ≤ sb_cap q m := by
  unfold sb_cap
  split
  · omega
  · split <;> omega
theorem sb_cap_le {q m mc ms : Nat} (hm : m ≤ 65536) (hr : sb_Room q m mc ms) : sb_cap q m ≤ 65536 := by
  rcases hr with h | h
  · rw [sb_cap, if_pos h]
    exact hm
  · exact h.2.2
theorem sb_at {P : Int32 → Prop} {x y : Int32} (e : x = y) (h : P y) : P x := e ▸ h
def sb_dg (w : Nat) : Nat := if w < 10 then 1 else if w < 100 then 2 else if w < 1000 then 3 else if w < 10000 then 4 else if w < 100000 then 5 else if w < 1000000 then 6 else if w < 10000000 then 7 else if w < 100000000 then 8 else if w < 1000000000 then 9 else 10
def sb_dec (v : Nat) : Nat → Nat := fun i => 48 + v / 10 ^ (sb_dg v - 1 - i) % 10
theorem sb_dg_in (w : Nat) : 1 ≤ sb_dg w ∧ sb_dg w ≤ 10 := by
  unfold sb_dg
  constructor <;> (repeat' split) <;> omega
theorem sb_dg100 {w : Nat} (h : 100 ≤ w) (hw : w < 2 ^ 31) : sb_dg w = sb_dg (w / 100) + 2 := by
  rw [sb_dg, sb_dg, if_neg (show ¬ w < 10 by omega), if_neg (show ¬ w < 100 by omega)]
  by_cases h3 : w < 1000
  · rw [if_pos h3, if_pos (show w / 100 < 10 by omega)]
  rw [if_neg h3, if_neg (show ¬ w / 100 < 10 by omega)]
  by_cases h4 : w < 10000
  · rw [if_pos h4, if_pos (show w / 100 < 100 by omega)]
  rw [if_neg h4, if_neg (show ¬ w / 100 < 100 by omega)]
  by_cases h5 : w < 100000
  · rw [if_pos h5, if_pos (show w / 100 < 1000 by omega)]
  rw [if_neg h5, if_neg (show ¬ w / 100 < 1000 by omega)]
  by_cases h6 : w < 1000000
  · rw [if_pos h6, if_pos (show w / 100 < 10000 by omega)]
  rw [if_neg h6, if_neg (show ¬ w / 100 < 10000 by omega)]
  by_cases h7 : w < 10000000
  · rw [if_pos h7, if_pos (show w / 100 < 100000 by omega)]
  rw [if_neg h7, if_neg (show ¬ w / 100 < 100000 by omega)]
  by_cases h8 : w < 100000000
  · rw [if_pos h8, if_pos (show w / 100 < 1000000 by omega)]
  rw [if_neg h8, if_neg (show ¬ w / 100 < 1000000 by omega)]
  by_cases h9 : w < 1000000000
  · rw [if_pos h9, if_pos (show w / 100 < 10000000 by omega)]
  rw [if_neg h9, if_neg (show ¬ w / 100 < 10000000 by omega)]
  rw [if_pos (show w / 100 < 100000000 by omega)]
theorem sb_negT {w : Nat} (h : w < 2 ^ 31) : (-nI w).toInt = -(w : Int) := by
  rw [Int32.toInt_neg, nI_toInt h]
  exact Int.bmod_eq_of_le (by omega) (by omega)
theorem sb_nle {a b : Nat} (ha : a < 2 ^ 31) (hb : b < 2 ^ 31) : -nI a ≤ -nI b ↔ b ≤ a := by
  rw [Int32.le_iff_toInt_le, sb_negT ha, sb_negT hb]
  omega
theorem sb_nlt {a b : Nat} (ha : a < 2 ^ 31) (hb : b < 2 ^ 31) : -nI a < -nI b ↔ b < a := by
  rw [Int32.lt_iff_toInt_lt, sb_negT ha, sb_negT hb]
  omega
theorem sb_cmp {A B : Prop} {x : Int32} (v c : Nat) (f : c ≤ v → A) (g : v < c → B) (hv : v < 2 ^ 31) (hx : x = -nI c := by rfl) (hc : c < 2 ^ 31 := by omega) : (-nI v ≤ x → A) ∧ (¬ -nI v ≤ x → B) := by
  subst hx
  rw [sb_nle hv hc]
  exact ⟨f, fun z => g (by omega)⟩
theorem sb_ndiv {w : Nat} (hw : w < 2 ^ 31) : (-nI w) / 100 = -nI (w / 100) := by
  apply Int32.toInt_inj.mp
  have h100 : (100 : Int32).toInt = 100 := by decide
  rw [Int32.toInt_div, sb_negT hw, h100, sb_negT (by omega), Int.neg_tdiv, Int.tdiv_eq_ediv_of_nonneg (by omega), Int.bmod_eq_of_le (by omega) (by omega)]
  omega
theorem sb_nrem {w : Nat} (hw : w < 2 ^ 31) : (-nI (w / 100)) * 100 - (-nI w) = nI (w % 100) := by
  have h := pk_rem (a := w) (d := 100) hw (by decide) (by decide)
  rw [pk_div hw (by decide) (by decide)] at h
  rw [← h]
  show (-nI (w / 100)) * nI 100 - (-nI w) = nI w - nI (w / 100) * nI 100
  rw [Int32.neg_mul, Int32.sub_neg, Int32.add_comm, ← Int32.sub_eq_add_neg]
end
section
noncomputable def b01 (P : Prop) : Nat := @ite Nat P (Classical.propDecidable P) 1 0
theorem b01_t {P : Prop} (h : P) : b01 P = 1 := by unfold b01; rw [if_pos h]
theorem b01_f {P : Prop} (h : ¬ P) : b01 P = 0 := by unfold b01; rw [if_neg h]
theorem b01_le (P : Prop) : b01 P ≤ 1 := by
  rcases Classical.em P with h | h
  · rw [b01_t h]; omega
  · rw [b01_f h]; omega
theorem b01_mono {P Q : Prop} (h : P → Q) : b01 P ≤ b01 Q := by
  rcases Classical.em P with hp | hp
  · rw [b01_t hp, b01_t (h hp)]; omega
  · rw [b01_f hp]; omega
noncomputable def cn (P : Nat → Prop) : Nat → Nat
  | 0 => 0
  | k + 1 => cn P k + b01 (P k)
theorem cn_mono {P Q : Nat → Prop} : ∀ {N : Nat}, (∀ k, k < N → P k → Q k) → cn P N ≤ cn Q N
  | 0, _ => Nat.le_refl _
  | N + 1, h => by
    have a := cn_mono (P := P) (Q := Q) (N := N) (fun k hk => h k (by omega))
    have b := b01_mono (h N (by omega))
    simp only [cn]; omega
theorem cn_lt {P Q : Nat → Prop} {a : Nat} (hp : ¬ P a) (hq : Q a) : ∀ {N : Nat}, (∀ k, k < N → P k → Q k) → a < N → cn P N < cn Q N
  | 0, _, h => by omega
  | N + 1, h, ha => by
    simp only [cn]
    rcases Nat.lt_or_ge a N with z | z
    · have x := cn_lt hp hq (N := N) (fun k hk => h k (by omega)) z
      have b := b01_mono (h N (by omega))
      omega
    · have e : a = N := by omega
      subst e
      have x := cn_mono (P := P) (Q := Q) (N := a) (fun k hk => h k (by omega))
      rw [b01_t hq, b01_f hp]; omega
theorem cn_le (P : Nat → Prop) : ∀ N, cn P N ≤ N
  | 0 => Nat.le_refl _
  | N + 1 => by have := cn_le P N; have := b01_le (P N); simp only [cn]; omega
theorem cn_eq {P Q : Nat → Prop} {N : Nat} (h : ∀ k, k < N → (P k ↔ Q k)) : cn P N = cn Q N :=
  Nat.le_antisymm (cn_mono fun k hk => (h k hk).mp) (cn_mono fun k hk => (h k hk).mpr)
theorem cn_add {P : Nat → Prop} {a : Nat} (hp : ¬ P a) : ∀ {N : Nat}, a < N → cn (fun k => P k ∨ k = a) N = cn P N + 1
  | 0, h => by omega
  | N + 1, h => by
    simp only [cn]
    rcases Nat.lt_or_ge a N with z | z
    · rw [cn_add hp z]
      have : b01 (P N ∨ N = a) = b01 (P N) := Nat.le_antisymm (b01_mono fun q => q.elim id (fun e => by omega)) (b01_mono Or.inl)
      omega
    · have e : a = N := by omega
      subst e
      rw [cn_eq (P := fun k => P k ∨ k = a) (Q := P) (fun k hk => ⟨fun q => q.elim id (fun e => by omega), Or.inl⟩), b01_t (Or.inr rfl), b01_f hp]
theorem cn_F : ∀ N, cn (fun _ => False) N = 0
  | 0 => rfl
  | N + 1 => by simp only [cn]; rw [cn_F N, b01_f id]
theorem ct_pos {P : Nat → Prop} {a N : Nat} (h : P a) (ha : a < N) : 0 < cn P N := by
  have x := cn_lt (P := fun _ => False) (Q := P) (a := a) (fun z => z) h (N := N) (fun _ _ z => z.elim) ha
  omega
theorem ct_del {P : Nat → Prop} {a N : Nat} (h : P a) (ha : a < N) : cn P N = cn (fun k => P k ∧ k ≠ a) N + 1 := by
  have x := cn_add (P := fun k => P k ∧ k ≠ a) (a := a) (fun z => z.2 rfl) ha
  rw [← x]
  exact cn_eq fun k _ => ⟨fun hp => (Classical.em (k = a)).elim Or.inr fun z => Or.inl ⟨hp, z⟩, fun z => z.elim And.left fun e => e ▸ h⟩
theorem ct_two {P : Nat → Prop} {a b N : Nat} (ha : a < N) (hb : b < N) (pa : ¬ P a) (pb : ¬ P b) (hab : a ≠ b) : cn P N + 2 ≤ N := by
  have x := cn_add (P := P) (a := a) pa ha
  have y := cn_add (P := fun k => P k ∨ k = a) (a := b) (fun z => z.elim pb fun e => hab e.symm) hb
  have z := cn_le (fun k => (P k ∨ k = a) ∨ k = b) N
  omega
theorem ct_one {P : Nat → Prop} {a N : Nat} (ha : a < N) (pa : ¬ P a) : cn P N + 1 ≤ N := by
  have x := cn_add (P := P) (a := a) pa ha
  have z := cn_le (fun k => P k ∨ k = a) N
  omega
theorem ct_inj {m : Nat} (g : Nat → Nat) : ∀ (N : Nat) (P : Nat → Prop), (∀ s, s < m → P s → g s < N) → (∀ s t, s < m → t < m → P s → P t → g s = g t → s = t) → cn P m ≤ N
  | 0, P, h, _ => by
    have x : cn P m ≤ cn (fun _ => False) m := cn_mono fun k hk hp => absurd (h k hk hp) (by omega)
    rw [cn_F] at x
    exact x
  | N + 1, P, h, hi => by
    rcases Classical.em (∃ s, s < m ∧ P s ∧ g s = N) with ⟨s, hs, hp, hg⟩ | hn
    · rw [ct_del hp hs]
      have x := ct_inj g N (fun k => P k ∧ k ≠ s) (fun k hk hq => by
        have a := h k hk hq.1
        have b : g k ≠ N := fun e => hq.2 (hi k s hk hs hq.1 hp (e.trans hg.symm))
        omega) (fun a b ha hb pa pb e => hi a b ha hb pa.1 pb.1 e)
      omega
    · have x := ct_inj g N P (fun k hk hq => by
        have a := h k hk hq
        have b : g k ≠ N := fun e => hn ⟨k, hk, hq, e⟩
        omega) hi
      omega
end
section
/-! the term: parents, operands, binders; all pure -/
def re_R (up : Nat → Int32) (m n : Nat) : Prop := ∀ S : Nat → Prop, S m → (∀ a p, S a → p < 2 ^ 31 → up a = nI p → S p) → S n
theorem re_rf {up : Nat → Int32} {m : Nat} : re_R up m m := fun _ h _ => h
theorem re_st {up : Nat → Int32} {m p n : Nat} (hp : p < 2 ^ 31) (e : up m = nI p) (h : re_R up p n) : re_R up m n := fun S h0 hs => h S (hs m p h0 hp e) hs
theorem re_tr {up : Nat → Int32} {a b c : Nat} (h1 : re_R up a b) (h2 : re_R up b c) : re_R up a c := fun S h0 hs => h2 S (h1 S h0 hs) hs
theorem re_cs {up : Nat → Int32} {m n : Nat} (h : re_R up m n) : m = n ∨ ∃ p, p < 2 ^ 31 ∧ up m = nI p ∧ re_R up p n := by
  refine h (fun x => m = x ∨ ∃ p, p < 2 ^ 31 ∧ up m = nI p ∧ re_R up p x) (Or.inl rfl) ?_
  intro a p ha hp e
  rcases ha with rfl | ⟨q, hq, eq, hr⟩
  · exact Or.inr ⟨p, hp, e, re_rf⟩
  · exact Or.inr ⟨q, hq, eq, re_tr hr (re_st hp e re_rf)⟩
theorem re_li {up : Nat → Int32} {m a b : Nat} (h1 : re_R up m a) (h2 : re_R up m b) : re_R up a b ∨ re_R up b a := by
  refine h1 (fun x => re_R up x b ∨ re_R up b x) (Or.inl h2) ?_
  intro x p hx hp e
  rcases hx with h | h
  · rcases re_cs h with rfl | ⟨q, hq, eq, hr⟩
    · exact Or.inr (re_st hp e re_rf)
    · have e2 : p = q := (nI_eq hp hq).mp (e.symm.trans eq)
      subst e2
      exact Or.inl hr
  · exact Or.inr (re_tr h (re_st hp e re_rf))
theorem m1_n {p : Nat} (hp : p < 2 ^ 31) : ¬ (-1 : Int32) = nI p := fun e => by
  have h := nI_pos' hp
  rw [← e] at h
  exact absurd h (by decide)
/-- from p on (its number), the next parent -/
theorem re_up {up : Nat → Int32} {m p n : Nat} (hp : p < 2 ^ 31) (e : up m = nI p) (h : re_R up m n) (hn : m ≠ n) : re_R up p n := by
  rcases re_cs h with rfl | ⟨q, hq, eq, hr⟩
  · exact absurd rfl hn
  · have e2 : p = q := (nI_eq hp hq).mp (e.symm.trans eq)
    subst e2
    exact hr
theorem re_no {up : Nat → Int32} {m n : Nat} (e : up m = -1) (h : re_R up m n) : m = n := by
  rcases re_cs h with rfl | ⟨q, hq, eq, hr⟩
  · rfl
  · exact absurd (e.symm.trans eq) (m1_n hq)
def tm_up (N : Nat) (up : Nat → Int32) : Prop := ∀ m, m < N → up m = -1 ∨ ∃ p, m < p ∧ p < N ∧ up m = nI p
theorem re_lt {up : Nat → Int32} {N m n : Nat} (hN : N ≤ 32) (T : tm_up N up) (hm : m < N) (h : re_R up m n) : n < N ∧ m ≤ n := by
  refine h (fun x => x < N ∧ m ≤ x) ⟨hm, Nat.le_refl _⟩ ?_
  intro a p ha hp e
  rcases T a ha.1 with h | ⟨q, h1, h2, h3⟩
  · exact absurd (h.symm.trans e) (m1_n hp)
  · have e2 : p = q := (nI_eq hp (by omega)).mp (e.symm.trans h3)
    omega
theorem re_an {up : Nat → Int32} {N m n : Nat} (hN : N ≤ 32) (T : tm_up N up) (hm : m < N) (h : re_R up m n) (h2 : re_R up n m) : m = n := by
  have a := re_lt hN T hm h
  have b := re_lt hN T a.1 h2
  omega
def tm_ar (k : Int32) : Nat := if k = 0 ∨ k = 1 then 0 else if k = 7 then 3 else if k = 3 ∨ k = 4 ∨ k = 8 then 2 else 1
def tm_c (op : Nat → Int32) (n i : Nat) : Nat := (op (3 * n + i)).toNatClampNeg
def tm_K (k : Int32) : Prop := k = 0 ∨ k = 1 ∨ k = 2 ∨ k = 3 ∨ k = 4 ∨ k = 5 ∨ k = 6 ∨ k = 7 ∨ k = 8
def tm_op (N : Nat) (kd up op : Nat → Int32) : Prop :=
  (∀ n i, n < N → i < tm_ar (kd n) → op (3 * n + i) = nI (tm_c op n i) ∧ tm_c op n i < n ∧ up (tm_c op n i) = nI n) ∧
  (∀ n i j, n < N → i < j → j < tm_ar (kd n) → tm_c op n i < tm_c op n j) ∧
  (∀ n m, n < N → m < N → up m = nI n → ∃ i, i < tm_ar (kd n) ∧ m = tm_c op n i) ∧
  (∀ n i, n < N → tm_ar (kd n) ≤ i → i < 3 → op (3 * n + i) = 0)
def tm_nm (N : Nat) (kd ka kb : Nat → Int32) : Prop := ∀ n, n < N → (kd n = 1 ∨ kd n = 2 → ∃ a, a < 8 ∧ ka n = nI a) ∧ (kd n = 2 → ∃ b, b < 8 ∧ kb n = nI b)
def tm_T (N : Nat) (kd ka kb up op : Nat → Int32) : Prop := N ≤ 32 ∧ (∀ n, n < N → tm_K (kd n)) ∧ tm_up N up ∧ tm_op N kd up op ∧ tm_nm N kd ka kb
theorem ar_0 {k : Int32} (h : k = 0) : tm_ar k = 0 := by subst h; decide
theorem ar_1 {k : Int32} (h : k = 1) : tm_ar k = 0 := by subst h; decide
theorem ar_2 {k : Int32} (h : k = 2) : tm_ar k = 1 := by subst h; decide
theorem ar_3 {k : Int32} (h : k = 3) : tm_ar k = 2 := by subst h; decide
theorem ar_4 {k : Int32} (h : k = 4) : tm_ar k = 2 := by subst h; decide
theorem ar_5 {k : Int32} (h : k = 5) : tm_ar k = 1 := by subst h; decide
theorem ar_6 {k : Int32} (h : k = 6) : tm_ar k = 1 := by subst h; decide
theorem ar_7 {k : Int32} (h : k = 7) : tm_ar k = 3 := by subst h; decide
theorem ar_8 {k : Int32} (h : k = 8) : tm_ar k = 2 := by subst h; decide
theorem ar_le (k : Int32) : tm_ar k ≤ 3 := by unfold tm_ar; split <;> (try split) <;> (try split) <;> omega
/-- every entry of op is a small number -/
theorem tm_o {N : Nat} {kd ka kb up op : Nat → Int32} (T : tm_T N kd ka kb up op) {n i : Nat} (hn : n < N) (hi : i < 3) : op (3 * n + i) = nI (tm_c op n i) ∧ tm_c op n i ≤ n ∧ tm_c op n i < 32 := by
  rcases Nat.lt_or_ge i (tm_ar (kd n)) with h | h
  · obtain ⟨a, b, -⟩ := T.2.2.2.1.1 n i hn h
    have := T.1
    exact ⟨a, by omega, by omega⟩
  · have z := T.2.2.2.1.2.2.2 n i hn h hi
    have e : tm_c op n i = 0 := by unfold tm_c; rw [z]; decide
    have := T.1
    rw [e]
    exact ⟨z, by omega, by omega⟩
def bn_M (kd ka kb : Nat → Int32) (nm : Int32) (f : Nat) : Prop := kd f = 2 ∧ (ka f = nm ∨ kb f = nm)
/-- f is the innermost function around n that binds the name nm -/
def bn_B (kd ka kb up : Nat → Int32) (n : Nat) (nm : Int32) (f : Nat) : Prop :=
  re_R up n f ∧ f ≠ n ∧ bn_M kd ka kb nm f ∧ ∀ g, re_R up n g → g ≠ n → bn_M kd ka kb nm g → f ≤ g
theorem bn_u {kd ka kb up : Nat → Int32} {n f g : Nat} {nm : Int32} (h : bn_B kd ka kb up n nm f) (h2 : bn_B kd ka kb up n nm g) : f = g :=
  Nat.le_antisymm (h.2.2.2 g h2.1 h2.2.1 h2.2.2.1) (h2.2.2.2 f h.1 h.2.1 h.2.2.1)
/-- strictly above n -/
theorem bn_gt {N : Nat} {kd ka kb up : Nat → Int32} {n f : Nat} {nm : Int32} (hN : N ≤ 32) (T : tm_up N up) (hn : n < N) (h : bn_B kd ka kb up n nm f) : n < f ∧ f < N := by
  have a := re_lt hN T hn h.1
  have b := h.2.1
  omega
/-- a node's parent is above it -/
theorem tm_pl {N : Nat} {up : Nat → Int32} {c n : Nat} (T : tm_up N up) (hN : N ≤ 32) (hc : c < N) (hn : n < 2 ^ 31) (e : up c = nI n) : c < n ∧ n < N := by
  rcases T c hc with h | ⟨q, h1, h2, h3⟩
  · exact absurd (h.symm.trans e) (m1_n hn)
  · have e2 : n = q := (nI_eq hn (by omega)).mp (e.symm.trans h3)
    omega
/-- the operand of a node that does not bind the name sees what the node sees -/
theorem bn_dn {N : Nat} {kd ka kb up : Nat → Int32} {c n f : Nat} {nm : Int32} (hN : N ≤ 32) (T : tm_up N up) (hc : c < N) (hn : n < 2 ^ 31) (e : up c = nI n) (hk : ¬ bn_M kd ka kb nm n) (h : bn_B kd ka kb up c nm f) : bn_B kd ka kb up n nm f := by
  have hcn := tm_pl T hN hc hn e
  have hf : f ≠ n := fun z => hk (z ▸ h.2.2.1)
  refine ⟨re_up hn e h.1 (fun z => h.2.1 z.symm), hf, h.2.2.1, fun g hg hgn hm => ?_⟩
  have := re_lt hN T hcn.2 hg
  exact h.2.2.2 g (re_st hn e hg) (by omega) hm
/-- a function that binds the name is its operand's binder -/
theorem bn_me {N : Nat} {kd ka kb up : Nat → Int32} {c n f : Nat} {nm : Int32} (hN : N ≤ 32) (T : tm_up N up) (hc : c < N) (hn : n < 2 ^ 31) (e : up c = nI n) (hk : bn_M kd ka kb nm n) (h : bn_B kd ka kb up c nm f) : f = n := by
  have hcn := tm_pl T hN hc hn e
  have a := h.2.2.2 n (re_st hn e re_rf) (by omega) hk
  have b := re_lt hN T hcn.2 (re_up hn e h.1 (fun z => h.2.1 z.symm))
  omega
/-- two nodes on one way up: above is not below -/
theorem re_bl {N : Nat} {up : Nat → Int32} {v x f : Nat} (hN : N ≤ 32) (T : tm_up N up) (hv : v < N) (hx : re_R up v x) (hf : re_R up v f) : ¬ re_R up f x ↔ x < f := by
  constructor
  · intro h
    rcases re_li hx hf with a | a
    · have b := re_lt hN T (re_lt hN T hv hx).1 a
      rcases Nat.lt_or_ge x f with z | z
      · exact z
      · have : x = f := by omega
        subst this
        exact absurd re_rf h
    · exact absurd a h
  · intro h a
    have b := re_lt hN T (re_lt hN T hv hf).1 a
    omega
/-! forms and equations of the types; slot i of node n is 3 * n + i -/
def fo_g (k : Int32) (n a b : Nat) : Option (Nat × Nat × Nat × Nat) :=
  if k = 0 then some (3 * n, 1, 3 * n, 3 * n) else if k = 2 then some (3 * n, 3, 3 * n + 1, 3 * a) else if k = 3 then some (3 * n + 1, 3, 3 * b, 3 * n)
  else if k = 4 then some (3 * n, 2, 3 * a, 3 * b) else if k = 5 then some (3 * n + 1, 2, 3 * n, 3 * n + 2) else if k = 6 then some (3 * n + 1, 2, 3 * n + 2, 3 * n)
  else if k = 7 then some (3 * n + 1, 1, 3 * n, 3 * n) else if k = 8 then some (3 * n, 1, 3 * n, 3 * n) else none
/-- node n gives slot s the kind k and the parts p, q -/
def fo_n (kd op : Nat → Int32) (n s k p q : Nat) : Prop := fo_g (kd n) n (tm_c op n 0) (tm_c op n 1) = some (s, k, p, q)
theorem fo_u {kd op : Nat → Int32} {n s k p q s' k' p' q' : Nat} (h : fo_n kd op n s k p q) (h' : fo_n kd op n s' k' p' q') : s = s' ∧ k = k' ∧ p = p' ∧ q = q' := by
  have e := h.symm.trans h'
  simp only [Option.some.injEq, Prod.mk.injEq] at e
  exact e
theorem fo_1 {k : Int32} {n a b : Nat} (h : k = 1) : fo_g k n a b = none := by subst h; rfl
theorem fo_0 {k : Int32} {n a b : Nat} (h : k = 0) : fo_g k n a b = some (3 * n, 1, 3 * n, 3 * n) := by subst h; rfl
theorem fo_2 {k : Int32} {n a b : Nat} (h : k = 2) : fo_g k n a b = some (3 * n, 3, 3 * n + 1, 3 * a) := by subst h; rfl
theorem fo_3 {k : Int32} {n a b : Nat} (h : k = 3) : fo_g k n a b = some (3 * n + 1, 3, 3 * b, 3 * n) := by subst h; rfl
theorem fo_4 {k : Int32} {n a b : Nat} (h : k = 4) : fo_g k n a b = some (3 * n, 2, 3 * a, 3 * b) := by subst h; rfl
theorem fo_5 {k : Int32} {n a b : Nat} (h : k = 5) : fo_g k n a b = some (3 * n + 1, 2, 3 * n, 3 * n + 2) := by subst h; rfl
theorem fo_6 {k : Int32} {n a b : Nat} (h : k = 6) : fo_g k n a b = some (3 * n + 1, 2, 3 * n + 2, 3 * n) := by subst h; rfl
theorem fo_7 {k : Int32} {n a b : Nat} (h : k = 7) : fo_g k n a b = some (3 * n + 1, 1, 3 * n, 3 * n) := by subst h; rfl
theorem fo_8 {k : Int32} {n a b : Nat} (h : k = 8) : fo_g k n a b = some (3 * n, 1, 3 * n, 3 * n) := by subst h; rfl
theorem fo_inj {s k p q s' k' p' q' : Nat} (h : some (s, k, p, q) = some (s', k', p', q')) : s' = s ∧ k' = k ∧ p' = p ∧ q' = q := by
  simp only [Option.some.injEq, Prod.mk.injEq] at h
  omega
/-- where a form lies, and how great it is -/
theorem fo_b {N : Nat} {kd ka kb up op : Nat → Int32} (T : tm_T N kd ka kb up op) {n s k p q : Nat} (hn : n < N) (h : fo_n kd op n s k p q) : 3 * n ≤ s ∧ s < 3 * n + 2 ∧ 1 ≤ k ∧ k ≤ 3 ∧ p < 3 * N ∧ q < 3 * N := by
  have a := tm_o T hn (i := 0) (by omega)
  have b := tm_o T hn (i := 1) (by omega)
  unfold fo_n at h
  rcases T.2.1 n hn with hk | hk | hk | hk | hk | hk | hk | hk | hk
  · rw [fo_0 hk] at h; have := fo_inj h; omega
  · rw [fo_1 hk] at h; exact absurd h (by simp)
  · rw [fo_2 hk] at h; have := fo_inj h; omega
  · rw [fo_3 hk] at h; have := fo_inj h; omega
  · rw [fo_4 hk] at h; have := fo_inj h; omega
  · rw [fo_5 hk] at h; have := fo_inj h; omega
  · rw [fo_6 hk] at h; have := fo_inj h; omega
  · rw [fo_7 hk] at h; have := fo_inj h; omega
  · rw [fo_8 hk] at h; have := fo_inj h; omega
/-- a form's slot tells its node -/
theorem fo_us {N : Nat} {kd ka kb up op : Nat → Int32} (T : tm_T N kd ka kb up op) {n m s k p q k' p' q' : Nat} (hn : n < N) (hm : m < N) (h : fo_n kd op n s k p q) (h' : fo_n kd op m s k' p' q') : n = m ∧ k = k' ∧ p = p' ∧ q = q' := by
  have a := fo_b T hn h
  have b := fo_b T hm h'
  have e : n = m := by omega
  subst e
  exact ⟨rfl, (fo_u h h').2⟩
/-- the equation s = t that node n asks for -/
def be_E (kd ka kb up op : Nat → Int32) (n s t : Nat) : Prop :=
  (kd n = 1 ∧ s = 3 * n ∧ ∃ f, bn_B kd ka kb up n (ka n) f ∧ t = if kb f = ka n then 3 * f + 1 else 3 * f) ∨
  ((kd n = 3 ∨ kd n = 5 ∨ kd n = 6 ∨ kd n = 7) ∧ s = 3 * tm_c op n 0 ∧ t = 3 * n + 1) ∨
  (kd n = 8 ∧ s = 3 * tm_c op n 0 ∧ t = 3 * n) ∨ ((kd n = 8 ∨ kd n = 7) ∧ s = 3 * tm_c op n 1 ∧ t = 3 * n) ∨ (kd n = 7 ∧ s = 3 * tm_c op n 2 ∧ t = 3 * n)
theorem be_b {N : Nat} {kd ka kb up op : Nat → Int32} (T : tm_T N kd ka kb up op) {n s t : Nat} (hn : n < N) (h : be_E kd ka kb up op n s t) : s < 3 * N ∧ t < 3 * N := by
  have a := tm_o T hn (i := 0) (by omega)
  have b := tm_o T hn (i := 1) (by omega)
  have c := tm_o T hn (i := 2) (by omega)
  rcases h with ⟨-, h1, f, hf, h2⟩ | ⟨-, h1, h2⟩ | ⟨-, h1, h2⟩ | ⟨-, h1, h2⟩ | ⟨-, h1, h2⟩
  · have := bn_gt T.1 T.2.2.1 hn hf
    split at h2 <;> omega
  · omega
  · omega
  · omega
  · omega
/-- equivalences that answer the equations and take equal forms apart -/
def le_C (N : Nat) (kd ka kb up op : Nat → Int32) (E : Nat → Nat → Prop) : Prop :=
  (∀ s, E s s) ∧ (∀ s t, E s t → E t s) ∧ (∀ s t r, E s t → E t r → E s r) ∧ (∀ n s t, n < N → be_E kd ka kb up op n s t → E s t) ∧
  (∀ n m s k p q s' p' q', n < N → m < N → fo_n kd op n s k p q → fo_n kd op m s' k p' q' → 2 ≤ k → E s s' → E p p' ∧ E q q')
def le_R (N : Nat) (kd ka kb up op : Nat → Int32) (s t : Nat) : Prop := ∀ E, le_C N kd ka kb up op E → E s t
theorem le_c {N : Nat} {kd ka kb up op : Nat → Int32} : le_C N kd ka kb up op (le_R N kd ka kb up op) :=
  ⟨fun s E h => h.1 s, fun s t h E c => c.2.1 s t (h E c), fun s t r h1 h2 E c => c.2.2.1 s t r (h1 E c) (h2 E c), fun n s t hn h E c => c.2.2.2.1 n s t hn h,
   fun n m s k p q s' p' q' hn hm h1 h2 hk h => ⟨fun E c => (c.2.2.2.2 n m s k p q s' p' q' hn hm h1 h2 hk (h E c)).1, fun E c => (c.2.2.2.2 n m s k p q s' p' q' hn hm h1 h2 hk (h E c)).2⟩⟩
/-- two slots of one class with different forms -/
def le_X (N : Nat) (kd ka kb up op : Nat → Int32) : Prop := ∃ n m s k p q s' k' p' q', n < N ∧ m < N ∧ fo_n kd op n s k p q ∧ fo_n kd op m s' k' p' q' ∧ le_R N kd ka kb up op s s' ∧ k ≠ k'
end
section
/-! the component's union-find: r is the root of a slot, k its rank (the time at which it was linked) -/
def uf_F (S : Nat) (lk : Nat → Int32) (r k : Nat → Nat) : Prop :=
  S ≤ 96 ∧ (∀ s, s < S → ∃ p, p < S ∧ lk s = nI p ∧ r p = r s ∧ (p ≠ s → k s < k p)) ∧
  (∀ s, s < S → r s < S ∧ lk (r s) = nI (r s) ∧ r (r s) = r s) ∧ (∀ s, s < S → lk s = nI s → r s = s) ∧
  (∀ s, s < S → r s = s → k s = 95) ∧ (∀ s, s < S → r s ≠ s → k s < cn (fun t => r t ≠ t) S)
theorem uf_k {S : Nat} {lk : Nat → Int32} {r k : Nat → Nat} (F : uf_F S lk r k) {s : Nat} (hs : s < S) : k s ≤ 95 := by
  rcases Classical.em (r s = s) with h | h
  · rw [F.2.2.2.2.1 s hs h]; omega
  · have a := F.2.2.2.2.2 s hs h
    have b := cn_le (fun t => r t ≠ t) S
    have c := F.1
    omega
theorem uf_half {S : Nat} {lk : Nat → Int32} {r k : Nat → Nat} (F : uf_F S lk r k) {s p q : Nat} (hs : s < S) (hp : p < S) (e : lk s = nI p) (hps : p ≠ s) (e2 : lk p = nI q) : uf_F S (upd lk s (nI q)) r k := by
  have c := F.1
  obtain ⟨p', hp', e', er, ek⟩ := F.2.1 s hs
  have z : p' = p := (nI_eq (by omega) (by omega)).mp (e'.symm.trans e)
  subst z
  obtain ⟨q', hq', e2', er2, ek2⟩ := F.2.1 p' hp
  have hq31 : nI q' = nI q := e2'.symm.trans e2
  rw [← hq31]
  have kq : k s < k q' := by
    have a := ek hps
    rcases Classical.em (q' = p') with h | h
    · rw [h]; exact a
    · have b := ek2 h; omega
  have hnr : ∀ t, t < S → r t ≠ s := fun t ht h => by
    have a := (F.2.2.1 t ht).2.1
    rw [h] at a
    exact hps ((nI_eq (by omega) (by omega)).mp (e.symm.trans a))
  refine ⟨c, fun t ht => ?_, fun t ht => ?_, fun t ht h => ?_, F.2.2.2.2.1, F.2.2.2.2.2⟩
  · rcases Classical.em (t = s) with h | h
    · subst h
      exact ⟨q', hq', pk_us, er2.trans er, fun _ => kq⟩
    · obtain ⟨u, h1, h2, h3, h4⟩ := F.2.1 t ht
      exact ⟨u, h1, by rw [pk_un h]; exact h2, h3, h4⟩
  · have a := F.2.2.1 t ht
    exact ⟨a.1, by rw [pk_un (hnr t ht)]; exact a.2.1, a.2.2⟩
  · rcases Classical.em (t = s) with z | z
    · subst z
      rw [pk_us] at h
      have : q' = t := (nI_eq (by omega) (by omega)).mp h
      subst this
      omega
    · rw [pk_un z] at h
      exact F.2.2.2.1 t ht h
theorem uf_merge {S : Nat} {lk : Nat → Int32} {r k : Nat → Nat} (F : uf_F S lk r k) {x y : Nat} (hx : x < S) (hy : y < S) (ex : r x = x) (ey : r y = y) (hxy : x ≠ y) :
    uf_F S (upd lk y (nI x)) (fun s => if r s = y then x else r s) (fun s => if s = y then cn (fun t => r t ≠ t) S else k s) ∧ cn (fun t => (if r t = y then x else r t) ≠ t) S = cn (fun t => r t ≠ t) S + 1 := by
  have c := F.1
  have two : cn (fun t => r t ≠ t) S + 2 ≤ S := ct_two hx hy (fun z => z ex) (fun z => z ey) hxy
  have hc : cn (fun t => (if r t = y then x else r t) ≠ t) S = cn (fun t => r t ≠ t) S + 1 := by
    rw [← cn_add (P := fun t => r t ≠ t) (a := y) (fun z => z ey) hy]
    refine cn_eq fun t ht => ?_
    constructor
    · intro h
      rcases Classical.em (t = y) with z | z
      · exact Or.inr z
      · refine Or.inl fun e => h ?_
        rw [e, if_neg z]
    · intro h
      rcases h with h | h
      · intro e
        split at e
        · rename_i q
          subst e
          exact h ex
        · exact h e
      · subst h
        rw [if_pos ey]
        exact hxy
  refine ⟨⟨c, fun s hs => ?_, fun s hs => ?_, fun s hs h => ?_, fun s hs h => ?_, fun s hs h => ?_⟩, hc⟩
  · rcases Classical.em (s = y) with z | z
    · subst z
      refine ⟨x, hx, pk_us, ?_, fun _ => ?_⟩
      · show (if r x = s then x else r x) = if r s = s then x else r s
        rw [if_pos ey, ex, if_neg hxy]
      · show (if s = s then _ else k s) < if x = s then _ else k x
        rw [if_pos rfl, if_neg hxy, F.2.2.2.2.1 x hx ex]
        omega
    · obtain ⟨p, h1, h2, h3, h4⟩ := F.2.1 s hs
      refine ⟨p, h1, by rw [pk_un z]; exact h2, ?_, fun h => ?_⟩
      · show (if r p = y then x else r p) = if r s = y then x else r s
        rw [h3]
      · show (if s = y then _ else k s) < if p = y then _ else k p
        rw [if_neg z]
        have hr : r s ≠ s := fun e => by
          have a := (F.2.2.1 s hs).2.1
          rw [e] at a
          exact h ((nI_eq (by omega) (by omega)).mp (h2.symm.trans a))
        have b := F.2.2.2.2.2 s hs hr
        split
        · exact b
        · exact h4 h
  · have a := F.2.2.1 s hs
    show (if r s = y then x else r s) < S ∧ upd lk y (nI x) (if r s = y then x else r s) = nI (if r s = y then x else r s) ∧ (if r (if r s = y then x else r s) = y then x else r (if r s = y then x else r s)) = (if r s = y then x else r s)
    rcases Classical.em (r s = y) with z | z
    · rw [if_pos z, pk_un hxy, ex, if_neg hxy]
      have b := (F.2.2.1 x hx).2.1
      rw [ex] at b
      exact ⟨hx, b, rfl⟩
    · rw [if_neg z, pk_un z, a.2.2, if_neg z]
      exact ⟨a.1, a.2.1, rfl⟩
  · rcases Classical.em (s = y) with z | z
    · subst z
      rw [pk_us] at h
      exact absurd ((nI_eq (by omega) (by omega)).mp h) hxy
    · rw [pk_un z] at h
      have b := F.2.2.2.1 s hs h
      show (if r s = y then x else r s) = s
      rw [b, if_neg z]
  · have h' : (if r s = y then x else r s) = s := h
    show (if s = y then _ else k s) = 95
    rcases Classical.em (r s = y) with z | z
    · rw [if_pos z] at h'
      subst h'
      exact absurd (ex.symm.trans z) hxy
    · rw [if_neg z] at h'
      rw [if_neg (fun e => z (h'.trans e))]
      exact F.2.2.2.2.1 s hs h'
  · have h' : (if r s = y then x else r s) ≠ s := h
    show (if s = y then _ else k s) < cn (fun t => (if r t = y then x else r t) ≠ t) S
    rw [hc]
    rcases Classical.em (s = y) with z | z
    · rw [if_pos z]; omega
    · rw [if_neg z]
      have hr : r s ≠ s := fun e => h' (by rw [e, if_neg z])
      have b := F.2.2.2.2.2 s hs hr
      omega
/-- what the classes and the work still to do generate -/
def eq_C (S : Nat) (r : Nat → Nat) (Q : Nat → Nat → Prop) (a b : Nat) : Prop := ∀ E : Nat → Nat → Prop, (∀ s, E s s) → (∀ s t, E s t → E t s) → (∀ s t u, E s t → E t u → E s u) →
  (∀ s t, s < S → t < S → r s = r t → E s t) → (∀ s t, Q s t → E s t) → E a b
theorem eq_mono {S : Nat} {r r' : Nat → Nat} {Q Q' : Nat → Nat → Prop} {a b : Nat} (h : eq_C S r Q a b) (hr : ∀ s t, s < S → t < S → r s = r t → r' s = r' t) (hq : ∀ s t, Q s t → eq_C S r' Q' s t) : eq_C S r' Q' a b :=
  fun E e1 e2 e3 e4 e5 => h E e1 e2 e3 (fun s t hs ht e => e4 s t hs ht (hr s t hs ht e)) (fun s t z => hq s t z E e1 e2 e3 e4 e5)
theorem eq_r {S : Nat} {r : Nat → Nat} {Q : Nat → Nat → Prop} {a b : Nat} (ha : a < S) (hb : b < S) (e : r a = r b) : eq_C S r Q a b := fun _ _ _ _ e4 _ => e4 a b ha hb e
theorem eq_q {S : Nat} {r : Nat → Nat} {Q : Nat → Nat → Prop} {a b : Nat} (h : Q a b) : eq_C S r Q a b := fun _ _ _ _ _ e5 => e5 a b h
theorem eq_s {S : Nat} {r : Nat → Nat} {Q : Nat → Nat → Prop} {a b : Nat} (h : eq_C S r Q a b) : eq_C S r Q b a := fun E e1 e2 e3 e4 e5 => e2 _ _ (h E e1 e2 e3 e4 e5)
theorem eq_t {S : Nat} {r : Nat → Nat} {Q : Nat → Nat → Prop} {a b c : Nat} (h : eq_C S r Q a b) (h2 : eq_C S r Q b c) : eq_C S r Q a c := fun E e1 e2 e3 e4 e5 => e3 _ _ _ (h E e1 e2 e3 e4 e5) (h2 E e1 e2 e3 e4 e5)
theorem eq_0 {S : Nat} {r : Nat → Nat} {Q : Nat → Nat → Prop} {a b : Nat} (hq : ∀ s t, ¬ Q s t) (h : eq_C S r Q a b) : r a = r b :=
  h (fun s t => r s = r t) (fun _ => rfl) (fun _ _ e => e.symm) (fun _ _ _ e e' => e.trans e') (fun _ _ _ _ e => e) (fun s t z => absurd z (hq s t))
/-- the pairs on the work stack -/
def wk_Q (wa wb : Nat → Int32) (w : Nat) (x y : Nat) : Prop := ∃ i, i < w ∧ x < 96 ∧ y < 96 ∧ wa i = nI x ∧ wb i = nI y
/-- the classes so far: sound, and every form is its class's shape but for the work Q -/
def um_I (N : Nat) (kd ka kb up op : Nat → Int32) (r : Nat → Nat) (sh : Nat → Int32) (Q : Nat → Nat → Prop) : Prop :=
  (∀ x y, Q x y → le_R N kd ka kb up op x y) ∧
  (∀ s t, s < 3 * N → t < 3 * N → r s = r t → le_R N kd ka kb up op s t) ∧
  (∀ n s k p q, n < N → fo_n kd op n s k p q → ∃ m t p' q', m < N ∧ fo_n kd op m t k p' q' ∧ sh (r s) = nI t ∧ r t = r s ∧ (2 ≤ k → eq_C (3 * N) r Q p p' ∧ eq_C (3 * N) r Q q q')) ∧
  (∀ s, s < 3 * N → r s = s → sh s = -1 ∨ ∃ m t k p q, m < N ∧ fo_n kd op m t k p q ∧ sh s = nI t ∧ r t = s)
/-- classes and work change, all that was asked is still asked -/
theorem um_mono {N : Nat} {kd ka kb up op : Nat → Int32} {r : Nat → Nat} {sh : Nat → Int32} {Q Q' : Nat → Nat → Prop} (I : um_I N kd ka kb up op r sh Q) (h1 : ∀ x y, Q' x y → le_R N kd ka kb up op x y) (h2 : ∀ x y, Q x y → eq_C (3 * N) r Q' x y) : um_I N kd ka kb up op r sh Q' := by
  refine ⟨h1, I.2.1, fun n s k p q hn h => ?_, I.2.2.2⟩
  obtain ⟨m, t, p', q', a, b, c, d, e⟩ := I.2.2.1 n s k p q hn h
  exact ⟨m, t, p', q', a, b, c, d, fun z => ⟨eq_mono (e z).1 (fun _ _ _ _ x => x) h2, eq_mono (e z).2 (fun _ _ _ _ x => x) h2⟩⟩
section
variable {N : Nat} {kd ka kb up op : Nat → Int32} {r : Nat → Nat} {sh : Nat → Int32} {Q Q' : Nat → Nat → Prop} {a b x y : Nat}
/-- the merged roots -/
def um_r (r : Nat → Nat) (x y : Nat) : Nat → Nat := fun s => if r s = y then x else r s
theorem um_rm {s t : Nat} (h : r s = r t) : um_r r x y s = um_r r x y t := by unfold um_r; rw [h]
theorem um_le (I : um_I N kd ka kb up op r sh Q) (ha : a < 3 * N) (hb : b < 3 * N) (ea : r a = x) (eb : r b = y) (hle : le_R N kd ka kb up op a b) {s t : Nat} (hs : s < 3 * N) (ht : t < 3 * N) (h : um_r r x y s = um_r r x y t) : le_R N kd ka kb up op s t := by
  have L := le_c (N := N) (kd := kd) (ka := ka) (kb := kb) (up := up) (op := op)
  have key : ∀ u, u < 3 * N → (r u = y ∨ r u = x → le_R N kd ka kb up op u a) := by
    intro u hu z
    rcases z with z | z
    · exact L.2.2.1 u b a (I.2.1 u b hu hb (z.trans eb.symm)) (L.2.1 _ _ hle)
    · exact I.2.1 u a hu ha (z.trans ea.symm)
  unfold um_r at h
  rcases Classical.em (r s = y) with z | z
  · rw [if_pos z] at h
    rcases Classical.em (r t = y) with w | w
    · exact L.2.2.1 s a t (key s hs (Or.inl z)) (L.2.1 _ _ (key t ht (Or.inl w)))
    · rw [if_neg w] at h
      exact L.2.2.1 s a t (key s hs (Or.inl z)) (L.2.1 _ _ (key t ht (Or.inr h.symm)))
  · rw [if_neg z] at h
    rcases Classical.em (r t = y) with w | w
    · rw [if_pos w] at h
      exact L.2.2.1 s a t (key s hs (Or.inr h)) (L.2.1 _ _ (key t ht (Or.inl w)))
    · rw [if_neg w] at h
      exact I.2.1 s t hs ht h
theorem um_mg {sh' : Nat → Int32} (I : um_I N kd ka kb up op r sh Q) (ha : a < 3 * N) (hb : b < 3 * N) (ea : r a = x) (eb : r b = y) (ex : r x = x) (ey : r y = y) (hxy : x ≠ y)
    (hle : le_R N kd ka kb up op a b) (hQ' : ∀ u v, Q' u v → le_R N kd ka kb up op u v) (hQ : ∀ u v, Q u v → eq_C (3 * N) (um_r r x y) Q' u v)
    (h3 : ∀ n s k p q, n < N → fo_n kd op n s k p q → r s = x ∨ r s = y → ∃ m t p' q', m < N ∧ fo_n kd op m t k p' q' ∧ sh' x = nI t ∧ (r t = x ∨ r t = y) ∧ (2 ≤ k → eq_C (3 * N) (um_r r x y) Q' p p' ∧ eq_C (3 * N) (um_r r x y) Q' q q'))
    (h4 : sh' x = -1 ∨ ∃ m t k p q, m < N ∧ fo_n kd op m t k p q ∧ sh' x = nI t ∧ (r t = x ∨ r t = y)) (ho : ∀ s, s ≠ x → sh' s = sh s) : um_I N kd ka kb up op (um_r r x y) sh' Q' := by
  have tox : ∀ t, r t = x ∨ r t = y → um_r r x y t = x := by
    intro t z
    unfold um_r
    rcases z with z | z
    · rw [z, if_neg hxy]
    · rw [if_pos z]
  have toz : ∀ t, r t ≠ y → um_r r x y t = r t := fun t z => if_neg z
  refine ⟨hQ', fun s t hs ht h => um_le I ha hb ea eb hle hs ht h, fun n s k p q hn h => ?_, fun s hs h => ?_⟩
  · rcases Classical.em (r s = x ∨ r s = y) with z | z
    · obtain ⟨m, t, p', q', h1, h2, h5, h6, h7⟩ := h3 n s k p q hn h z
      rw [tox s z]
      exact ⟨m, t, p', q', h1, h2, h5, tox t h6, h7⟩
    · have z1 : r s ≠ x := fun e => z (Or.inl e)
      have z2 : r s ≠ y := fun e => z (Or.inr e)
      obtain ⟨m, t, p', q', h1, h2, h5, h6, h7⟩ := I.2.2.1 n s k p q hn h
      rw [toz s z2, ho _ z1]
      refine ⟨m, t, p', q', h1, h2, h5, ?_, fun w => ⟨eq_mono (h7 w).1 (fun _ _ _ _ e => um_rm e) hQ, eq_mono (h7 w).2 (fun _ _ _ _ e => um_rm e) hQ⟩⟩
      rw [toz t (h6 ▸ z2)]
      exact h6
  · have sy : r s ≠ y := fun e => by
      have e2 := tox s (Or.inr e)
      have e3 : x = s := e2.symm.trans h
      subst e3
      exact hxy (ex.symm.trans e)
    have rs : r s = s := (toz s sy).symm.trans h
    rcases Classical.em (s = x) with z | z
    · subst z
      rcases h4 with w | ⟨m, t, k, p, q, h1, h2, h5, h6⟩
      · exact Or.inl w
      · exact Or.inr ⟨m, t, k, p, q, h1, h2, h5, tox t h6⟩
    · rw [ho s z]
      rcases I.2.2.2 s hs rs with w | ⟨m, t, k, p, q, h1, h2, h5, h6⟩
      · exact Or.inl w
      · exact Or.inr ⟨m, t, k, p, q, h1, h2, h5, (toz t (h6 ▸ (fun e => sy (rs.trans e)))).trans h6⟩
/-- the first class has no shape: it takes the other's -/
theorem um_m1 (hN : N ≤ 32) (I : um_I N kd ka kb up op r sh Q) (ha : a < 3 * N) (hb : b < 3 * N) (ea : r a = x) (eb : r b = y) (ex : r x = x) (ey : r y = y) (hy : y < 3 * N) (hxy : x ≠ y)
    (hle : le_R N kd ka kb up op a b) (hQ' : ∀ u v, Q' u v → le_R N kd ka kb up op u v) (hQ : ∀ u v, Q u v → eq_C (3 * N) (um_r r x y) Q' u v) (TT : tm_T N kd ka kb up op) (e : sh x = -1) : um_I N kd ka kb up op (um_r r x y) (upd sh x (sh y)) Q' := by
  refine um_mg I ha hb ea eb ex ey hxy hle hQ' hQ (fun n s k p q hn h z => ?_) ?_ (fun s hs => pk_un hs)
  · obtain ⟨m, t, p', q', h1, h2, h5, h6, h7⟩ := I.2.2.1 n s k p q hn h
    have bt := fo_b TT h1 h2
    rcases z with z | z
    · rw [z, e] at h5
      exact absurd h5 (m1_n (by omega))
    · rw [z] at h5 h6
      exact ⟨m, t, p', q', h1, h2, by rw [pk_us]; exact h5, Or.inr h6, fun w => ⟨eq_mono (h7 w).1 (fun _ _ _ _ e => um_rm e) hQ, eq_mono (h7 w).2 (fun _ _ _ _ e => um_rm e) hQ⟩⟩
  · rw [pk_us]
    rcases I.2.2.2 y hy ey with w | ⟨m, t, k, p, q, h1, h2, h5, h6⟩
    · exact Or.inl w
    · exact Or.inr ⟨m, t, k, p, q, h1, h2, h5, Or.inr h6⟩
/-- the second class has none -/
theorem um_m2 (hN : N ≤ 32) (I : um_I N kd ka kb up op r sh Q) (ha : a < 3 * N) (hb : b < 3 * N) (ea : r a = x) (eb : r b = y) (ex : r x = x) (ey : r y = y) (hx : x < 3 * N) (hxy : x ≠ y)
    (hle : le_R N kd ka kb up op a b) (hQ' : ∀ u v, Q' u v → le_R N kd ka kb up op u v) (hQ : ∀ u v, Q u v → eq_C (3 * N) (um_r r x y) Q' u v) (TT : tm_T N kd ka kb up op) (e : sh y = -1) : um_I N kd ka kb up op (um_r r x y) sh Q' := by
  refine um_mg I ha hb ea eb ex ey hxy hle hQ' hQ (fun n s k p q hn h z => ?_) ?_ (fun s hs => rfl)
  · obtain ⟨m, t, p', q', h1, h2, h5, h6, h7⟩ := I.2.2.1 n s k p q hn h
    have bt := fo_b TT h1 h2
    rcases z with z | z
    · rw [z] at h5 h6
      exact ⟨m, t, p', q', h1, h2, h5, Or.inl h6, fun w => ⟨eq_mono (h7 w).1 (fun _ _ _ _ e => um_rm e) hQ, eq_mono (h7 w).2 (fun _ _ _ _ e => um_rm e) hQ⟩⟩
    · rw [z, e] at h5
      exact absurd h5 (m1_n (by omega))
  · rcases I.2.2.2 x hx ex with w | ⟨m, t, k, p, q, h1, h2, h5, h6⟩
    · exact Or.inl w
    · exact Or.inr ⟨m, t, k, p, q, h1, h2, h5, Or.inl h6⟩
/-- both have one, of one kind, and their parts are asked to be equal -/
theorem um_m3 (hN : N ≤ 32) (I : um_I N kd ka kb up op r sh Q) (ha : a < 3 * N) (hb : b < 3 * N) (ea : r a = x) (eb : r b = y) (ex : r x = x) (ey : r y = y) (hxy : x ≠ y)
    (hle : le_R N kd ka kb up op a b) (hQ' : ∀ u v, Q' u v → le_R N kd ka kb up op u v) (hQ : ∀ u v, Q u v → eq_C (3 * N) (um_r r x y) Q' u v) (TT : tm_T N kd ka kb up op)
    {m1 t1 m2 t2 k p1 q1 p2 q2 : Nat} (hm1 : m1 < N) (f1 : fo_n kd op m1 t1 k p1 q1) (s1 : sh x = nI t1) (r1 : r t1 = x) (hm2 : m2 < N) (f2 : fo_n kd op m2 t2 k p2 q2) (s2 : sh y = nI t2)
    (hk : 2 ≤ k → eq_C (3 * N) (um_r r x y) Q' p1 p2 ∧ eq_C (3 * N) (um_r r x y) Q' q1 q2) : um_I N kd ka kb up op (um_r r x y) sh Q' := by
  have b1 := fo_b TT hm1 f1
  have b2 := fo_b TT hm2 f2
  refine um_mg I ha hb ea eb ex ey hxy hle hQ' hQ (fun n s k' p q hn h z => ?_) (Or.inr ⟨m1, t1, k, p1, q1, hm1, f1, s1, Or.inl r1⟩) (fun s hs => rfl)
  obtain ⟨m, t, p', q', h1, h2, h5, h6, h7⟩ := I.2.2.1 n s k' p q hn h
  have bt := fo_b TT h1 h2
  rcases z with z | z
  · rw [z] at h5 h6
    exact ⟨m, t, p', q', h1, h2, h5, Or.inl h6, fun w => ⟨eq_mono (h7 w).1 (fun _ _ _ _ e => um_rm e) hQ, eq_mono (h7 w).2 (fun _ _ _ _ e => um_rm e) hQ⟩⟩
  · rw [z] at h5 h6
    have e : t = t2 := (nI_eq (by omega) (by omega)).mp (h5.symm.trans s2)
    subst e
    obtain ⟨-, ek, ep, eq⟩ := fo_us TT h1 hm2 h2 f2
    subst ek ep eq
    refine ⟨m1, t1, p1, q1, hm1, f1, s1, Or.inl r1, fun w => ?_⟩
    have g := h7 w
    exact ⟨eq_t (eq_mono g.1 (fun _ _ _ _ e => um_rm e) hQ) (eq_s (hk w).1), eq_t (eq_mono g.2 (fun _ _ _ _ e => um_rm e) hQ) (eq_s (hk w).2)⟩
end
end
section
section
variable {ml fl cnt pc ifd wt rc gw ec tp : Int32} {vl : Int64} {rm ls sp md hld pk : Int32} {kd ka kb op up bd pn sk f1 f2 lk sh cl wa wb se rg hm : Nat → Int32} {ra ef vi la sn : Nat → Int64} {qn qr qe : Nat → Int32} {qf qs : Nat → Int64} {al enn : Nat → Int32} {env : Nat → Int64} {enx frn fre frs frm : Nat → Int32} {frf : Nat → Int64}
theorem xu_find4 {post : Int32 → SX → Prop} {S : Nat} {r k : Nat → Nat} : ∀ (d s i : Nat) (lk : Nat → Int32), uf_F S lk r k → s < S → i ≤ k s → 97 ≤ d + i → (∀ lk', uf_F S lk' r k → post (nI (r s)) (ml, fl, cnt, pc, ifd, wt, rc, gw, ec, tp, vl, rm, ls, sp, md, hld, pk, kd, ka, kb, op, up, bd, pn, sk, f1, f2, lk', sh, cl, wa, wb, se, rg, hm, ra, ef, vi, la, sn, qn, qr, qe, qf, qs, al, enn, env, enx, frn, fre, frs, frm, frf)) → wX_find_4 post ml fl cnt pc ifd wt rc gw ec tp vl rm ls sp md hld pk d (nI s) (nI i) kd ka kb op up bd pn sk f1 f2 lk sh cl wa wb se rg hm ra ef vi la sn qn qr qe qf qs al enn env enx frn fre frs frm frf := by
  intro d
  induction d with
  | zero =>
    intro s i lk F hs hi hd K
    have := uf_k F hs
    omega
  | succ d ih =>
    intro s i lk F hs hi hd K
    have hk := uf_k F hs
    have hS := F.1
    obtain ⟨p, hp, e, er, ek⟩ := F.2.1 s hs
    have cs : (nI s).toNatClampNeg = s := nI_clamp (by omega)
    refine br_f (nI_ge (b := 96) (by omega) (by omega)) ⟨pk_in s 96 (by omega), ?_⟩
    rw [cs]
    rcases Classical.em (p = s) with z | z
    · subst z
      refine br_t e ?_
      have h := F.2.2.2.1 p hs e
      have K2 := K lk F
      rw [h] at K2
      exact K2
    · obtain ⟨q, hq, e2, er2, ek2⟩ := F.2.1 p hp
      have cp : (lk s).toNatClampNeg = p := by rw [e]; exact nI_clamp (by omega)
      have kq : i + 1 ≤ k q := by
        have a := ek z
        rcases Classical.em (q = p) with h | h
        · rw [h]; omega
        · have b := ek2 h; omega
      refine br_f (fun w => z ((nI_eq (by omega) (by omega)).mp (e.symm.trans w))) ⟨pk_in s 96 (by omega), pk_in p 96 (by omega) e, pk_in s 96 (by omega), nm_r (e' := upd lk s (nI q)) (by rw [cp, e2]) ⟨pk_in s 96 (by omega), nm_r (e' := nI q) pk_us (nm_r (e' := nI (i + 1)) (nI_1 i) ?_)⟩⟩
      refine ih q (i + 1) (upd lk s (nI q)) (uf_half F hs hp e z e2) hq kq (by omega) (fun lk' F' => ?_)
      have K2 := K lk' F'
      rw [← er, ← er2] at K2
      exact K2
theorem xu_find {post : Int32 → SX → Prop} {S : Nat} {r k : Nat → Nat} {v : Int32} {s : Nat} (F : uf_F S lk r k) (hs : s < S) (e : v = nI s) (K : ∀ lk', uf_F S lk' r k → post (nI (r s)) (ml, fl, cnt, pc, ifd, wt, rc, gw, ec, tp, vl, rm, ls, sp, md, hld, pk, kd, ka, kb, op, up, bd, pn, sk, f1, f2, lk', sh, cl, wa, wb, se, rg, hm, ra, ef, vi, la, sn, qn, qr, qe, qf, qs, al, enn, env, enx, frn, fre, frs, frm, frf)) : wpX_find post (ml, fl, cnt, pc, ifd, wt, rc, gw, ec, tp, vl, rm, ls, sp, md, hld, pk, kd, ka, kb, op, up, bd, pn, sk, f1, f2, lk, sh, cl, wa, wb, se, rg, hm, ra, ef, vi, la, sn, qn, qr, qe, qf, qs, al, enn, env, enx, frn, fre, frs, frm, frf) v := by
  subst e
  exact ⟨97, xu_find4 97 s 0 lk F hs (Nat.zero_le _) (by omega) K⟩
/-- what one merge leaves: the new roots and the new work -/
def xm_P (N : Nat) (kd ka kb up op : Nat → Int32) (r : Nat → Nat) (Q : Nat → Nat → Prop) (w : Nat) (lk' sh' wa' wb' : Nat → Int32) (w' : Nat) (r' k' : Nat → Nat) : Prop :=
  uf_F (3 * N) lk' r' k' ∧ um_I N kd ka kb up op r' sh' (wk_Q wa' wb' w') ∧ (∀ i, i < w' → ∃ x y, x < 3 * N ∧ y < 3 * N ∧ wa' i = nI x ∧ wb' i = nI y) ∧
  (∀ s t, s < 3 * N → t < 3 * N → r s = r t → r' s = r' t) ∧ (∀ u v, Q u v → eq_C (3 * N) r' (wk_Q wa' wb' w') u v) ∧ w' + 2 * cn (fun t => r t ≠ t) (3 * N) ≤ w + 2 * cn (fun t => r' t ≠ t) (3 * N)
theorem xm_push {post : SX → Prop} {w x y : Nat} {a b : Int32} (hw : w < 256) (ea : a = nI x) (eb : b = nI y) (K : post (ml, fl, cnt, pc, ifd, nI (w + 1), rc, gw, ec, tp, vl, rm, ls, sp, md, hld, pk, kd, ka, kb, op, up, bd, pn, sk, f1, f2, lk, sh, cl, upd wa w (nI x), upd wb w (nI y), se, rg, hm, ra, ef, vi, la, sn, qn, qr, qe, qf, qs, al, enn, env, enx, frn, fre, frs, frm, frf)) : wpX_push post (ml, fl, cnt, pc, ifd, nI w, rc, gw, ec, tp, vl, rm, ls, sp, md, hld, pk, kd, ka, kb, op, up, bd, pn, sk, f1, f2, lk, sh, cl, wa, wb, se, rg, hm, ra, ef, vi, la, sn, qn, qr, qe, qf, qs, al, enn, env, enx, frn, fre, frs, frm, frf) a b := by
  subst ea eb
  have c : (nI w).toNatClampNeg = w := nI_clamp (by omega)
  exact ⟨pk_in w 256 hw, nm_r (e' := upd wa w (nI x)) (by rw [c]) ⟨pk_in w 256 hw, nm_r (e' := upd wb w (nI y)) (by rw [c]) (nm_r (e' := nI (w + 1)) (nI_1 w) K)⟩⟩
end
end
section
section
variable {ml fl cnt pc ifd wt rc gw ec tp : Int32} {vl : Int64} {rm ls sp md hld pk : Int32} {kd ka kb op up bd pn sk f1 f2 lk sh cl wa wb se rg hm : Nat → Int32} {ra ef vi la sn : Nat → Int64} {qn qr qe : Nat → Int32} {qf qs : Nat → Int64} {al enn : Nat → Int32} {env : Nat → Int64} {enx frn fre frs frm : Nat → Int32} {frf : Nat → Int64}
theorem wk_in {wa wb : Nat → Int32} {w u v x y : Nat} (h : wk_Q wa wb w u v) : wk_Q (upd wa w (nI x)) (upd wb w (nI y)) (w + 1) u v := by
  obtain ⟨i, h1, h2, h3, h4, h5⟩ := h
  exact ⟨i, by omega, h2, h3, by rw [pk_un (by omega)]; exact h4, by rw [pk_un (by omega)]; exact h5⟩
theorem wk_new {wa wb : Nat → Int32} {w x y : Nat} (hx : x < 96) (hy : y < 96) : wk_Q (upd wa w (nI x)) (upd wb w (nI y)) (w + 1) x y := ⟨w, by omega, hx, hy, pk_us, pk_us⟩
theorem xm_59 {post : Int32 → SX → Prop} {N : Nat} {r k : Nat → Nat} {w a b x y : Nat} (TT : tm_T N kd ka kb up op)
    (hsk : ∀ n s k p q, n < N → fo_n kd op n s k p q → sk s = nI k ∧ f1 s = nI p ∧ f2 s = nI q)
    (I : um_I N kd ka kb up op r sh (fun u v => (u = a ∧ v = b) ∨ wk_Q wa wb w u v))
    (hwb : ∀ i, i < w → ∃ x y, x < 3 * N ∧ y < 3 * N ∧ wa i = nI x ∧ wb i = nI y)
    (F : uf_F (3 * N) lk (um_r r x y) k) (hc : cn (fun t => um_r r x y t ≠ t) (3 * N) = cn (fun t => r t ≠ t) (3 * N) + 1)
    (ha : a < 3 * N) (hb : b < 3 * N) (ea : r a = x) (eb : r b = y) (ex : r x = x) (ey : r y = y) (hx : x < 3 * N) (hy : y < 3 * N) (hxy : x ≠ y) (hw : w + 2 ≤ 256)
    (K0 : ∀ lk' sh' wa' wb' wt', le_X N kd ka kb up op → post 0 (ml, fl, cnt, pc, ifd, wt', rc, gw, ec, tp, vl, rm, ls, sp, md, hld, pk, kd, ka, kb, op, up, bd, pn, sk, f1, f2, lk', sh', cl, wa', wb', se, rg, hm, ra, ef, vi, la, sn, qn, qr, qe, qf, qs, al, enn, env, enx, frn, fre, frs, frm, frf))
    (K1 : ∀ lk' sh' wa' wb' w' r' k', xm_P N kd ka kb up op r (fun u v => (u = a ∧ v = b) ∨ wk_Q wa wb w u v) w lk' sh' wa' wb' w' r' k' → post 1 (ml, fl, cnt, pc, ifd, nI w', rc, gw, ec, tp, vl, rm, ls, sp, md, hld, pk, kd, ka, kb, op, up, bd, pn, sk, f1, f2, lk', sh', cl, wa', wb', se, rg, hm, ra, ef, vi, la, sn, qn, qr, qe, qf, qs, al, enn, env, enx, frn, fre, frs, frm, frf))
    (hs : ¬ sh x = -1) : wX_merge_59 post (sh x) (sh y) ml fl cnt pc ifd (nI w) rc gw ec tp vl rm ls sp md hld pk kd ka kb op up bd pn sk f1 f2 lk sh cl wa wb se rg hm ra ef vi la sn qn qr qe qf qs al enn env enx frn fre frs frm frf := by
  have hN := TT.1
  have L := le_c (N := N) (kd := kd) (ka := ka) (kb := kb) (up := up) (op := op)
  have hle : le_R N kd ka kb up op a b := I.1 a b (Or.inl ⟨rfl, rfl⟩)
  have hab : um_r r x y a = um_r r x y b := by
    unfold um_r
    rw [if_pos eb, ea, if_neg hxy]
  have hQ : ∀ Q' : Nat → Nat → Prop, (∀ u v, wk_Q wa wb w u v → eq_C (3 * N) (um_r r x y) Q' u v) → ∀ u v, ((u = a ∧ v = b) ∨ wk_Q wa wb w u v) → eq_C (3 * N) (um_r r x y) Q' u v := by
    intro Q' h u v z
    rcases z with ⟨rfl, rfl⟩ | z
    · exact eq_r ha hb hab
    · exact h u v z
  have hQ0 := hQ (wk_Q wa wb w) (fun u v z => eq_q z)
  rcases I.2.2.2 x hx ex with z | ⟨m1, t1, k1, p1, q1, hm1, g1, s1, r1⟩
  · exact absurd z hs
  have b1 := fo_b TT hm1 g1
  refine br_f (by rw [s1]; exact nI_pos (by omega)) ?_
  rcases I.2.2.2 y hy ey with z | ⟨m2, t2, k2, p2, q2, hm2, g2, s2, r2⟩
  · refine br_f (by rw [z]; decide) (K1 lk sh wa wb w (um_r r x y) k ⟨F, um_m2 hN I ha hb ea eb ex ey hx hxy hle (fun u v q => I.1 u v (Or.inr q)) hQ0 TT z, hwb, fun _ _ _ _ e => um_rm e, hQ0, by omega⟩)
  have b2 := fo_b TT hm2 g2
  have c1 : (sh x).toNatClampNeg = t1 := by rw [s1]; exact nI_clamp (by omega)
  have c2 : (sh y).toNatClampNeg = t2 := by rw [s2]; exact nI_clamp (by omega)
  obtain ⟨k1e, f1e, f2e⟩ := hsk _ _ _ _ _ hm1 g1
  obtain ⟨k2e, f1e2, f2e2⟩ := hsk _ _ _ _ _ hm2 g2
  have v1 : vp_in (sh x) 96 := pk_in t1 96 (by omega) s1
  have v2 : vp_in (sh y) 96 := pk_in t2 96 (by omega) s2
  have l12 : le_R N kd ka kb up op t1 t2 := um_le I ha hb ea eb hle (by omega) (by omega) (by unfold um_r; rw [r1, r2, if_pos rfl, if_neg hxy])
  refine br_t (by rw [s2]; exact nI_pos' (by omega)) ⟨v1, v2, ?_⟩
  rw [c1, c2, k1e, k2e]
  rcases Classical.em (k1 = k2) with hk | hk
  · subst hk
    refine br_t rfl ⟨v1, ?_⟩
    rw [f1e, f1e2]
    rcases Classical.em (k1 = 1) with h1 | h1
    · subst h1
      exact br_t rfl (K1 lk sh wa wb w (um_r r x y) k ⟨F, um_m3 hN I ha hb ea eb ex ey hxy hle (fun u v q => I.1 u v (Or.inr q)) hQ0 TT hm1 g1 s1 r1 hm2 g2 s2 (fun z => absurd z (by omega)), hwb, fun _ _ _ _ e => um_rm e, hQ0, by omega⟩)
    · have cong := L.2.2.2.2 m1 m2 t1 k1 p1 q1 t2 p2 q2 hm1 hm2 g1 g2 (by omega) l12
      refine br_f (fun z => h1 ((nI_eq (b := 1) (by omega) (by omega)).mp z)) ⟨v1, v2, xm_push (x := p1) (y := p2) (by omega) rfl rfl ⟨v1, v2, ?_⟩⟩
      rw [f2e, f2e2]
      refine xm_push (x := q1) (y := q2) (by omega) rfl rfl ?_
      have nq : ∀ u v, wk_Q wa wb w u v → wk_Q (upd (upd wa w (nI p1)) (w + 1) (nI q1)) (upd (upd wb w (nI p2)) (w + 1) (nI q2)) (w + 2) u v := fun u v z => wk_in (wk_in z)
      have hQ2 := hQ (wk_Q (upd (upd wa w (nI p1)) (w + 1) (nI q1)) (upd (upd wb w (nI p2)) (w + 1) (nI q2)) (w + 2)) (fun u v z => eq_q (nq u v z))
      have hwb2 : ∀ i, i < w + 2 → ∃ x y, x < 3 * N ∧ y < 3 * N ∧ upd (upd wa w (nI p1)) (w + 1) (nI q1) i = nI x ∧ upd (upd wb w (nI p2)) (w + 1) (nI q2) i = nI y := by
        intro i hi
        rcases Classical.em (i = w + 1) with z | z
        · subst z
          exact ⟨q1, q2, by omega, by omega, pk_us, pk_us⟩
        · rw [pk_un z, pk_un z]
          rcases Classical.em (i = w) with z2 | z2
          · subst z2
            exact ⟨p1, p2, by omega, by omega, pk_us, pk_us⟩
          · rw [pk_un z2, pk_un z2]
            exact hwb i (by omega)
      have hle2 : ∀ u v, wk_Q (upd (upd wa w (nI p1)) (w + 1) (nI q1)) (upd (upd wb w (nI p2)) (w + 1) (nI q2)) (w + 2) u v → le_R N kd ka kb up op u v := by
        intro u v z
        obtain ⟨i, h3, hu, hv, h4, h5⟩ := z
        rcases Classical.em (i = w + 1) with z | z
        · subst z
          rw [pk_us] at h4 h5
          have e1 : q1 = u := (nI_eq (by omega) (by omega)).mp h4
          have e2 : q2 = v := (nI_eq (by omega) (by omega)).mp h5
          subst e1 e2
          exact cong.2
        · rw [pk_un z] at h4 h5
          rcases Classical.em (i = w) with z2 | z2
          · subst z2
            rw [pk_us] at h4 h5
            have e1 : p1 = u := (nI_eq (by omega) (by omega)).mp h4
            have e2 : p2 = v := (nI_eq (by omega) (by omega)).mp h5
            subst e1 e2
            exact cong.1
          · rw [pk_un z2] at h4 h5
            exact I.1 u v (Or.inr ⟨i, by omega, hu, hv, h4, h5⟩)
      exact K1 lk sh _ _ (w + 2) (um_r r x y) k ⟨F, um_m3 hN I ha hb ea eb ex ey hxy hle hle2 hQ2 TT hm1 g1 s1 r1 hm2 g2 s2 (fun _ => ⟨eq_q (wk_in (wk_new (by omega) (by omega))), eq_q (wk_new (by omega) (by omega))⟩), hwb2, fun _ _ _ _ e => um_rm e, hQ2, by omega⟩
  · exact br_f (fun z => hk ((nI_eq (by omega) (by omega)).mp z)) (K0 lk sh wa wb (nI w) ⟨m1, m2, t1, k1, p1, q1, t2, k2, p2, q2, hm1, hm2, g1, g2, l12, hk⟩)
theorem xm_merge {post : Int32 → SX → Prop} {N : Nat} {r k : Nat → Nat} {w a b : Nat} {va vb : Int32} (TT : tm_T N kd ka kb up op)
    (hsk : ∀ n s k p q, n < N → fo_n kd op n s k p q → sk s = nI k ∧ f1 s = nI p ∧ f2 s = nI q)
    (F : uf_F (3 * N) lk r k) (I : um_I N kd ka kb up op r sh (fun u v => (u = a ∧ v = b) ∨ wk_Q wa wb w u v))
    (hwb : ∀ i, i < w → ∃ x y, x < 3 * N ∧ y < 3 * N ∧ wa i = nI x ∧ wb i = nI y)
    (ha : a < 3 * N) (hb : b < 3 * N) (eva : va = nI a) (evb : vb = nI b) (hw : w + 2 ≤ 256)
    (K0 : ∀ lk' sh' wa' wb' wt', le_X N kd ka kb up op → post 0 (ml, fl, cnt, pc, ifd, wt', rc, gw, ec, tp, vl, rm, ls, sp, md, hld, pk, kd, ka, kb, op, up, bd, pn, sk, f1, f2, lk', sh', cl, wa', wb', se, rg, hm, ra, ef, vi, la, sn, qn, qr, qe, qf, qs, al, enn, env, enx, frn, fre, frs, frm, frf))
    (K1 : ∀ lk' sh' wa' wb' w' r' k', xm_P N kd ka kb up op r (fun u v => (u = a ∧ v = b) ∨ wk_Q wa wb w u v) w lk' sh' wa' wb' w' r' k' → post 1 (ml, fl, cnt, pc, ifd, nI w', rc, gw, ec, tp, vl, rm, ls, sp, md, hld, pk, kd, ka, kb, op, up, bd, pn, sk, f1, f2, lk', sh', cl, wa', wb', se, rg, hm, ra, ef, vi, la, sn, qn, qr, qe, qf, qs, al, enn, env, enx, frn, fre, frs, frm, frf))
    : wpX_merge post (ml, fl, cnt, pc, ifd, nI w, rc, gw, ec, tp, vl, rm, ls, sp, md, hld, pk, kd, ka, kb, op, up, bd, pn, sk, f1, f2, lk, sh, cl, wa, wb, se, rg, hm, ra, ef, vi, la, sn, qn, qr, qe, qf, qs, al, enn, env, enx, frn, fre, frs, frm, frf) va vb := by
  have hN := TT.1
  unfold wpX_merge
  dsimp only
  refine xu_find F ha eva (fun lk1 F1 => ?_)
  dsimp only
  refine xu_find F1 hb evb (fun lk2 F2 => ?_)
  dsimp only
  have rx := F.2.2.1 a ha
  have ry := F.2.2.1 b hb
  have ca : (nI (r a)).toNatClampNeg = r a := nI_clamp (by omega)
  have cb : (nI (r b)).toNatClampNeg = r b := nI_clamp (by omega)
  have hle : le_R N kd ka kb up op a b := I.1 a b (Or.inl ⟨rfl, rfl⟩)
  rcases Classical.em (r a = r b) with hab | hab
  · refine br_t (congrArg nI hab) ?_
    have hQ : ∀ u v, ((u = a ∧ v = b) ∨ wk_Q wa wb w u v) → eq_C (3 * N) r (wk_Q wa wb w) u v := by
      intro u v z
      rcases z with ⟨rfl, rfl⟩ | z
      · exact eq_r ha hb hab
      · exact eq_q z
    exact K1 lk2 sh wa wb w r k ⟨F2, um_mono I (fun u v z => I.1 u v (Or.inr z)) hQ, hwb, fun _ _ _ _ e => e, hQ, by omega⟩
  · obtain ⟨F3, hc⟩ := uf_merge F2 rx.1 ry.1 rx.2.2 ry.2.2 hab
    refine br_f (fun z => hab ((nI_eq (by omega) (by omega)).mp z)) ⟨pk_in (r b) 96 (by omega), nm_r (e' := upd lk2 (r b) (nI (r a))) (by rw [cb]) ⟨pk_in (r a) 96 (by omega), nm_r (e' := sh (r a)) (by rw [ca]) ⟨pk_in (r b) 96 (by omega), nm_r (e' := sh (r b)) (by rw [cb]) ?_⟩⟩⟩
    rcases I.2.2.2 (r a) rx.1 rx.2.2 with z | ⟨m1, t1, k1, p1, q1, hm1, g1, s1, r1⟩
    · have hab' : um_r r (r a) (r b) a = um_r r (r a) (r b) b := by
        unfold um_r
        rw [if_pos rfl, if_neg hab]
      have hQ : ∀ u v, ((u = a ∧ v = b) ∨ wk_Q wa wb w u v) → eq_C (3 * N) (um_r r (r a) (r b)) (wk_Q wa wb w) u v := by
        intro u v z
        rcases z with ⟨rfl, rfl⟩ | z
        · exact eq_r ha hb hab'
        · exact eq_q z
      refine br_f (by rw [z]; decide) ⟨pk_in (r a) 96 (by omega), nm_r (e' := upd sh (r a) (sh (r b))) (by rw [ca]) (br_t (by rw [z]; decide) ?_)⟩
      exact K1 _ _ wa wb w (um_r r (r a) (r b)) _ ⟨F3, um_m1 hN I ha hb rfl rfl rx.2.2 ry.2.2 ry.1 hab hle (fun u v q => I.1 u v (Or.inr q)) hQ TT z, hwb, fun _ _ _ _ e => um_rm e, hQ, by
        have hc' : cn (fun t => um_r r (r a) (r b) t ≠ t) (3 * N) = cn (fun t => r t ≠ t) (3 * N) + 1 := hc
        omega⟩
    · have b1 := fo_b TT hm1 g1
      refine br_t (by rw [s1]; exact nI_pos' (by omega)) ?_
      exact xm_59 TT hsk I hwb F3 hc ha hb rfl rfl rx.2.2 ry.2.2 rx.1 ry.1 hab hw K0 K1 (fun z => m1_n (by omega) (z.symm.trans s1))
end
end
section
/-- the classes between two equations -/
def xq_I (N : Nat) (kd ka kb up op lk sh : Nat → Int32) (r k : Nat → Nat) : Prop := uf_F (3 * N) lk r k ∧ um_I N kd ka kb up op r sh (fun _ _ => False)
def xq_L (S : Nat) (r r' : Nat → Nat) : Prop := ∀ s t, s < S → t < S → r s = r t → r' s = r' t
theorem xq_t {S : Nat} {r r' r'' : Nat → Nat} (h : xq_L S r r') (h2 : xq_L S r' r'') : xq_L S r r'' := fun s t hs ht e => h2 s t hs ht (h s t hs ht e)
section
variable {ml fl cnt pc ifd wt rc gw ec tp : Int32} {vl : Int64} {rm ls sp md hld pk : Int32} {kd ka kb op up bd pn sk f1 f2 lk sh cl wa wb se rg hm : Nat → Int32} {ra ef vi la sn : Nat → Int64} {qn qr qe : Nat → Int32} {qf qs : Nat → Int64} {al enn : Nat → Int32} {env : Nat → Int64} {enx frn fre frs frm : Nat → Int32} {frf : Nat → Int64}
theorem xe_16 {post : Int32 → SX → Prop} {N : Nat} {r0 : Nat → Nat} {a0 b0 : Nat} (TT : tm_T N kd ka kb up op) (ha0 : a0 < 3 * N)
    (hsk : ∀ n s k p q, n < N → fo_n kd op n s k p q → sk s = nI k ∧ f1 s = nI p ∧ f2 s = nI q)
    (K0 : ∀ lk' sh' wa' wb' wt', le_X N kd ka kb up op → post 0 (ml, fl, cnt, pc, ifd, wt', rc, gw, ec, tp, vl, rm, ls, sp, md, hld, pk, kd, ka, kb, op, up, bd, pn, sk, f1, f2, lk', sh', cl, wa', wb', se, rg, hm, ra, ef, vi, la, sn, qn, qr, qe, qf, qs, al, enn, env, enx, frn, fre, frs, frm, frf))
    (K1 : ∀ lk' sh' wa' wb' wt' r' k', xq_I N kd ka kb up op lk' sh' r' k' → xq_L (3 * N) r0 r' → r' a0 = r' b0 → post 1 (ml, fl, cnt, pc, ifd, wt', rc, gw, ec, tp, vl, rm, ls, sp, md, hld, pk, kd, ka, kb, op, up, bd, pn, sk, f1, f2, lk', sh', cl, wa', wb', se, rg, hm, ra, ef, vi, la, sn, qn, qr, qe, qf, qs, al, enn, env, enx, frn, fre, frs, frm, frf)) :
    ∀ (d i w : Nat) (lk sh wa wb : Nat → Int32) (r k : Nat → Nat), uf_F (3 * N) lk r k → um_I N kd ka kb up op r sh (wk_Q wa wb w) →
      (∀ i, i < w → ∃ x y, x < 3 * N ∧ y < 3 * N ∧ wa i = nI x ∧ wb i = nI y) → xq_L (3 * N) r0 r → eq_C (3 * N) r (wk_Q wa wb w) a0 b0 →
      i + w ≤ 1 + 2 * cn (fun t => r t ≠ t) (3 * N) → 258 ≤ d + i → wX_equate_16 post d 1 (nI i) ml fl cnt pc ifd (nI w) rc gw ec tp vl rm ls sp md hld pk kd ka kb op up bd pn sk f1 f2 lk sh cl wa wb se rg hm ra ef vi la sn qn qr qe qf qs al enn env enx frn fre frs frm frf := by
  intro d
  induction d with
  | zero =>
    intro i w lk sh wa wb r k F I hwb hL hq hm hd
    have := F.1
    have := cn_le (fun t => r t ≠ t) (3 * N)
    omega
  | succ d ih =>
    intro i w lk sh wa wb r k F I hwb hL hq hm hd
    have hS := F.1
    have hr := F.2.2.1 a0 ha0
    have hc := ct_one (P := fun t => r t ≠ t) hr.1 (fun z => z hr.2.2)
    refine br_f (nI_ge (b := 256) (by omega) (by omega)) ?_
    rcases w with _ | w
    · refine br_t (nI_le (a := 0) (b := 0) (by omega) (by omega)) ⟨narrow_b1, K1 lk sh wa wb _ r k ⟨F, um_mono I (fun _ _ z => z.elim) (fun u v z => ?_)⟩ hL (eq_0 (fun u v z => ?_) hq)⟩
      · obtain ⟨j, hj, -⟩ := z; omega
      · obtain ⟨j, hj, -⟩ := z; omega
    · refine br_f (nI_nle (by omega) (by omega)) (br_f (by decide) (nm_r (e' := nI w) (nI_pred w) ⟨pk_in w 256 (by omega), pk_in w 256 (by omega), ?_⟩))
      obtain ⟨a, b, ha, hb, ea, eb⟩ := hwb w (by omega)
      have c : (nI w).toNatClampNeg = w := nI_clamp (by omega)
      rw [c]
      have Q1 : ∀ u v, ((u = a ∧ v = b) ∨ wk_Q wa wb w u v) → wk_Q wa wb (w + 1) u v := by
        intro u v z
        rcases z with ⟨rfl, rfl⟩ | ⟨j, h1, h2⟩
        · exact ⟨w, by omega, by omega, by omega, ea, eb⟩
        · exact ⟨j, by omega, h2⟩
      have Q2 : ∀ u v, wk_Q wa wb (w + 1) u v → ((u = a ∧ v = b) ∨ wk_Q wa wb w u v) := by
        intro u v ⟨j, h1, h2, h3, h4, h5⟩
        rcases Classical.em (j = w) with z | z
        · subst z
          exact Or.inl ⟨(nI_eq (by omega) (by omega)).mp (h4.symm.trans ea), (nI_eq (by omega) (by omega)).mp (h5.symm.trans eb)⟩
        · exact Or.inr ⟨j, by omega, h2, h3, h4, h5⟩
      refine xm_merge (a := a) (b := b) TT hsk F (um_mono I (fun u v z => I.1 u v (Q1 u v z)) (fun u v z => eq_q (Q2 u v z))) (fun j hj => hwb j (by omega)) ha hb ea eb (by omega) (fun lk' sh' wa' wb' wt' X => ?_) (fun lk' sh' wa' wb' w' r' k' P => ?_)
      · refine nm_r (e' := nI (i + 1)) (nI_1 i) ?_
        rcases d with _ | d
        · omega
        · exact br_c (fun _ => ⟨narrow_b0, K0 _ _ _ _ _ X⟩) (fun _ => br_c (fun _ => ⟨narrow_b0, K0 _ _ _ _ _ X⟩) (fun _ => br_t rfl ⟨narrow_b0, K0 _ _ _ _ _ X⟩))
      · refine nm_r (e' := nI (i + 1)) (nI_1 i) ?_
        obtain ⟨P1, P2, P3, P4, P5, P6⟩ := P
        exact ih (i + 1) w' lk' sh' wa' wb' r' k' P1 P2 P3 (xq_t hL P4) (eq_mono hq P4 (fun u v z => P5 u v (Q2 u v z))) (by omega) (by omega)
theorem xe_eq {post : Int32 → SX → Prop} {N : Nat} {r k : Nat → Nat} {a b : Nat} {va vb : Int32} (TT : tm_T N kd ka kb up op)
    (hsk : ∀ n s k p q, n < N → fo_n kd op n s k p q → sk s = nI k ∧ f1 s = nI p ∧ f2 s = nI q)
    (I : xq_I N kd ka kb up op lk sh r k) (ha : a < 3 * N) (hb : b < 3 * N) (ea : va = nI a) (eb : vb = nI b) (hle : le_R N kd ka kb up op a b)
    (K0 : ∀ lk' sh' wa' wb' wt', le_X N kd ka kb up op → post 0 (ml, fl, cnt, pc, ifd, wt', rc, gw, ec, tp, vl, rm, ls, sp, md, hld, pk, kd, ka, kb, op, up, bd, pn, sk, f1, f2, lk', sh', cl, wa', wb', se, rg, hm, ra, ef, vi, la, sn, qn, qr, qe, qf, qs, al, enn, env, enx, frn, fre, frs, frm, frf))
    (K1 : ∀ lk' sh' wa' wb' wt' r' k', xq_I N kd ka kb up op lk' sh' r' k' → xq_L (3 * N) r r' → r' a = r' b → post 1 (ml, fl, cnt, pc, ifd, wt', rc, gw, ec, tp, vl, rm, ls, sp, md, hld, pk, kd, ka, kb, op, up, bd, pn, sk, f1, f2, lk', sh', cl, wa', wb', se, rg, hm, ra, ef, vi, la, sn, qn, qr, qe, qf, qs, al, enn, env, enx, frn, fre, frs, frm, frf)) :
    wpX_equate post (ml, fl, cnt, pc, ifd, wt, rc, gw, ec, tp, vl, rm, ls, sp, md, hld, pk, kd, ka, kb, op, up, bd, pn, sk, f1, f2, lk, sh, cl, wa, wb, se, rg, hm, ra, ef, vi, la, sn, qn, qr, qe, qf, qs, al, enn, env, enx, frn, fre, frs, frm, frf) va vb := by
  have hN := TT.1
  unfold wpX_equate
  dsimp only
  refine xm_push (w := 0) (x := a) (y := b) (by omega) ea eb ?_
  refine ⟨258, ?_⟩
  have hQ : ∀ u v, wk_Q (upd wa 0 (nI a)) (upd wb 0 (nI b)) (0 + 1) u v → u = a ∧ v = b := by
    intro u v ⟨j, h1, h2, h3, h4, h5⟩
    have : j = 0 := by omega
    subst this
    rw [pk_us] at h4 h5
    exact ⟨((nI_eq (by omega) (by omega)).mp h4).symm, ((nI_eq (by omega) (by omega)).mp h5).symm⟩
  refine xe_16 (r0 := r) (a0 := a) (b0 := b) TT ha hsk K0 K1 258 0 1 lk sh (upd wa 0 (nI a)) (upd wb 0 (nI b)) r k I.1 (um_mono I.2 (fun u v z => ?_) (fun u v z => z.elim)) (fun j hj => ?_) (fun _ _ _ _ e => e) (eq_q (wk_new (by omega) (by omega))) (by omega) (by omega)
  · obtain ⟨rfl, rfl⟩ := hQ u v z
    exact hle
  · have : j = 0 := by omega
    subst this
    exact ⟨a, b, ha, hb, pk_us, pk_us⟩
end
end
section
theorem be_no {kd ka kb up op : Nat → Int32} {n s t : Nat} (hk : kd n = 0 ∨ kd n = 2 ∨ kd n = 4) : ¬ be_E kd ka kb up op n s t := by
  intro h
  have key : ∀ c : Int32, kd n = c → c = 1 ∨ c = 3 ∨ c = 5 ∨ c = 6 ∨ c = 7 ∨ c = 8 → False := by
    intro c e z
    rcases hk with a | a | a <;> (rw [a] at e; subst e; revert z; decide)
  rcases h with ⟨a, -⟩ | ⟨a | a | a | a, -⟩ | ⟨a, -⟩ | ⟨a | a, -⟩ | ⟨a, -⟩ <;> exact key _ a (by decide)
theorem be_1 {kd ka kb up op : Nat → Int32} {n s t f : Nat} (hk : kd n = 1) (hf : bn_B kd ka kb up n (ka n) f) (h : be_E kd ka kb up op n s t) : s = 3 * n ∧ t = if kb f = ka n then 3 * f + 1 else 3 * f := by
  rcases h with ⟨-, e, g, hg, e2⟩ | ⟨a | a | a | a, -⟩ | ⟨a, -⟩ | ⟨a | a, -⟩ | ⟨a, -⟩
  · rw [bn_u hf hg]
    exact ⟨e, e2⟩
  all_goals exact absurd (hk.symm.trans a) (by decide)
theorem be_3 {kd ka kb up op : Nat → Int32} {n s t : Nat} (hk : kd n = 3 ∨ kd n = 5 ∨ kd n = 6) (h : be_E kd ka kb up op n s t) : s = 3 * tm_c op n 0 ∧ t = 3 * n + 1 := by
  have key : ∀ c : Int32, kd n = c → c = 1 ∨ c = 7 ∨ c = 8 → False := by
    intro c e z
    rcases hk with a | a | a <;> (rw [a] at e; subst e; revert z; decide)
  rcases h with ⟨a, -⟩ | ⟨-, e, e2⟩ | ⟨a, -⟩ | ⟨a | a, -⟩ | ⟨a, -⟩
  · exact (key _ a (by decide)).elim
  · exact ⟨e, e2⟩
  all_goals exact (key _ a (by decide)).elim
theorem be_8 {kd ka kb up op : Nat → Int32} {n s t : Nat} (hk : kd n = 8) (h : be_E kd ka kb up op n s t) : (s = 3 * tm_c op n 0 ∧ t = 3 * n) ∨ (s = 3 * tm_c op n 1 ∧ t = 3 * n) := by
  rcases h with ⟨a, -⟩ | ⟨a | a | a | a, -⟩ | ⟨-, e⟩ | ⟨-, e⟩ | ⟨a, -⟩
  · exact absurd (hk.symm.trans a) (by decide)
  · exact absurd (hk.symm.trans a) (by decide)
  · exact absurd (hk.symm.trans a) (by decide)
  · exact absurd (hk.symm.trans a) (by decide)
  · exact absurd (hk.symm.trans a) (by decide)
  · exact Or.inl e
  · exact Or.inr e
  · exact absurd (hk.symm.trans a) (by decide)
theorem be_7 {kd ka kb up op : Nat → Int32} {n s t : Nat} (hk : kd n = 7) (h : be_E kd ka kb up op n s t) : (s = 3 * tm_c op n 0 ∧ t = 3 * n + 1) ∨ (s = 3 * tm_c op n 1 ∧ t = 3 * n) ∨ (s = 3 * tm_c op n 2 ∧ t = 3 * n) := by
  rcases h with ⟨a, -⟩ | ⟨-, e⟩ | ⟨a, -⟩ | ⟨-, e⟩ | ⟨-, e⟩
  · exact absurd (hk.symm.trans a) (by decide)
  · exact Or.inl e
  · exact absurd (hk.symm.trans a) (by decide)
  · exact Or.inr (Or.inl e)
  · exact Or.inr (Or.inr e)
section
variable {ml fl cnt pc ifd wt rc gw ec tp : Int32} {vl : Int64} {rm ls sp md hld pk : Int32} {kd ka kb op up bd pn sk f1 f2 lk sh cl wa wb se rg hm : Nat → Int32} {ra ef vi la sn : Nat → Int64} {qn qr qe : Nat → Int32} {qf qs : Nat → Int64} {al enn : Nat → Int32} {env : Nat → Int64} {enx frn fre frs frm : Nat → Int32} {frf : Nat → Int64}
theorem xs_131 {post : Int32 → SX → Prop} {N : Nat} {r k : Nat → Nat} {n : Nat} {v1 v2 : Int32} (TT : tm_T N kd ka kb up op)
    (hsk : ∀ n s k p q, n < N → fo_n kd op n s k p q → sk s = nI k ∧ f1 s = nI p ∧ f2 s = nI q)
    (I : xq_I N kd ka kb up op lk sh r k) (hn : n < N) (hk : kd n = 3 ∨ kd n = 5 ∨ kd n = 6) (e1 : v1 = nI (3 * n)) (e2 : v2 = nI (3 * tm_c op n 0))
    (K0 : ∀ lk' sh' wa' wb' wt', le_X N kd ka kb up op → post 0 (ml, fl, cnt, pc, ifd, wt', rc, gw, ec, tp, vl, rm, ls, sp, md, hld, pk, kd, ka, kb, op, up, bd, pn, sk, f1, f2, lk', sh', cl, wa', wb', se, rg, hm, ra, ef, vi, la, sn, qn, qr, qe, qf, qs, al, enn, env, enx, frn, fre, frs, frm, frf))
    (K1 : ∀ lk' sh' wa' wb' wt' r' k', xq_I N kd ka kb up op lk' sh' r' k' → xq_L (3 * N) r r' → (∀ s t, be_E kd ka kb up op n s t → r' s = r' t) → post 1 (ml, fl, cnt, pc, ifd, wt', rc, gw, ec, tp, vl, rm, ls, sp, md, hld, pk, kd, ka, kb, op, up, bd, pn, sk, f1, f2, lk', sh', cl, wa', wb', se, rg, hm, ra, ef, vi, la, sn, qn, qr, qe, qf, qs, al, enn, env, enx, frn, fre, frs, frm, frf)) :
    wX_solveNode_131 post v1 v2 ml fl cnt pc ifd wt rc gw ec tp vl rm ls sp md hld pk kd ka kb op up bd pn sk f1 f2 lk sh cl wa wb se rg hm ra ef vi la sn qn qr qe qf qs al enn env enx frn fre frs frm frf := by
  subst e1
  have c0 := tm_o TT hn (i := 0) (by omega)
  have be : be_E kd ka kb up op n (3 * tm_c op n 0) (3 * n + 1) := Or.inr (Or.inl ⟨by rcases hk with a | a | a <;> simp [a], rfl, rfl⟩)
  unfold wX_solveNode_131
  refine xe_eq (a := 3 * tm_c op n 0) (b := 3 * n + 1) TT hsk I (by omega) (by omega) e2 (nI_1 _) (le_c.2.2.2.1 n _ _ hn be) (fun lk' sh' wa' wb' wt' X => ⟨narrow_b0, K0 _ _ _ _ _ X⟩) (fun lk' sh' wa' wb' wt' r' k' J L E => ⟨narrow_b1, K1 _ _ _ _ _ r' k' J L (fun s t h => ?_)⟩)
  obtain ⟨rfl, rfl⟩ := be_3 hk h
  exact E
theorem xs_node {post : Int32 → SX → Prop} {N : Nat} {r k : Nat → Nat} {n : Nat} {v : Int32} (TT : tm_T N kd ka kb up op)
    (hsk : ∀ n s k p q, n < N → fo_n kd op n s k p q → sk s = nI k ∧ f1 s = nI p ∧ f2 s = nI q)
    (hbd : ∀ n, n < N → kd n = 1 → ∃ f, bn_B kd ka kb up n (ka n) f ∧ bd n = nI f)
    (I : xq_I N kd ka kb up op lk sh r k) (hn : n < N) (ev : v = nI n)
    (K0 : ∀ lk' sh' wa' wb' wt', le_X N kd ka kb up op → post 0 (ml, fl, cnt, pc, ifd, wt', rc, gw, ec, tp, vl, rm, ls, sp, md, hld, pk, kd, ka, kb, op, up, bd, pn, sk, f1, f2, lk', sh', cl, wa', wb', se, rg, hm, ra, ef, vi, la, sn, qn, qr, qe, qf, qs, al, enn, env, enx, frn, fre, frs, frm, frf))
    (K1 : ∀ lk' sh' wa' wb' wt' r' k', xq_I N kd ka kb up op lk' sh' r' k' → xq_L (3 * N) r r' → (∀ s t, be_E kd ka kb up op n s t → r' s = r' t) → post 1 (ml, fl, cnt, pc, ifd, wt', rc, gw, ec, tp, vl, rm, ls, sp, md, hld, pk, kd, ka, kb, op, up, bd, pn, sk, f1, f2, lk', sh', cl, wa', wb', se, rg, hm, ra, ef, vi, la, sn, qn, qr, qe, qf, qs, al, enn, env, enx, frn, fre, frs, frm, frf)) :
    wpX_solveNode post (ml, fl, cnt, pc, ifd, wt, rc, gw, ec, tp, vl, rm, ls, sp, md, hld, pk, kd, ka, kb, op, up, bd, pn, sk, f1, f2, lk, sh, cl, wa, wb, se, rg, hm, ra, ef, vi, la, sn, qn, qr, qe, qf, qs, al, enn, env, enx, frn, fre, frs, frm, frf) v := by
  subst ev
  have hN := TT.1
  have c0 := tm_o TT hn (i := 0) (by omega)
  have c1 := tm_o TT hn (i := 1) (by omega)
  have c2 := tm_o TT hn (i := 2) (by omega)
  have cn : (nI n).toNatClampNeg = n := nI_clamp (by omega)
  have L := le_c (N := N) (kd := kd) (ka := ka) (kb := kb) (up := up) (op := op)
  have e0 : 3 * op (nI (3 * n)).toNatClampNeg = nI (3 * tm_c op n 0) := by
    rw [nI_clamp (by omega), show op (3 * n) = nI (tm_c op n 0) from c0.1]
    exact pk_mul 3 _
  have e1 : 3 * op (nI (3 * n) + 1).toNatClampNeg = nI (3 * tm_c op n 1) := by
    rw [nI_1, nI_clamp (by omega), c1.1]
    exact pk_mul 3 _
  have e2 : 3 * op (nI (3 * n) + 2).toNatClampNeg = nI (3 * tm_c op n 2) := by
    rw [show nI (3 * n) + 2 = nI (3 * n + 2) from nI_add _ 2, nI_clamp (by omega), c2.1]
    exact pk_mul 3 _
  have K1' : (kd n = 0 ∨ kd n = 2 ∨ kd n = 4) → post 1 (ml, fl, cnt, pc, ifd, wt, rc, gw, ec, tp, vl, rm, ls, sp, md, hld, pk, kd, ka, kb, op, up, bd, pn, sk, f1, f2, lk, sh, cl, wa, wb, se, rg, hm, ra, ef, vi, la, sn, qn, qr, qe, qf, qs, al, enn, env, enx, frn, fre, frs, frm, frf) := fun hk => K1 lk sh wa wb wt r k I (fun _ _ _ _ e => e) (fun s t h => absurd h (be_no hk))
  unfold wpX_solveNode
  dsimp only
  refine nm_r (e' := nI (3 * n)) (pk_mul 3 n) ⟨pk_in (3 * n) 96 (by omega), nm_r e0 ⟨pk_in (3 * n + 1) 96 (by omega) (nI_1 _), nm_r e1 ⟨pk_in (3 * n + 2) 96 (by omega) (nI_add _ 2), nm_r e2 ⟨pk_in n 32 (by omega), ?_⟩⟩⟩⟩
  rcases TT.2.1 n hn with hk | hk | hk | hk | hk | hk | hk | hk | hk
  · exact nm_r (e' := 0) (by rw [cn, hk]) (br_t (by decide) (K1' (Or.inl hk)))
  · obtain ⟨f, hf, ef⟩ := hbd n hn hk
    have hfN := bn_gt hN TT.2.2.1 hn hf
    have cf : (nI f).toNatClampNeg = f := nI_clamp (by omega)
    refine nm_r (e' := 1) (by rw [cn, hk]) (br_f (by decide) (br_f (by decide) (br_t rfl ⟨pk_in n 32 (by omega), nm_r (e' := nI f) (by rw [cn, ef]) ⟨pk_in f 32 (by omega), pk_in n 32 (by omega), ?_⟩⟩)))
    rw [cn, cf]
    rcases Classical.em (kb f = ka n) with z | z
    · refine br_t z ?_
      have be : be_E kd ka kb up op n (3 * n) (3 * f + 1) := Or.inl ⟨hk, rfl, f, hf, by rw [if_pos z]⟩
      unfold wX_solveNode_127
      refine xe_eq (a := 3 * n) (b := 3 * f + 1) TT hsk I (by omega) (by omega) rfl (by rw [show 3 * nI f = nI (3 * f) from pk_mul 3 f]; exact nI_1 _) (L.2.2.2.1 n _ _ hn be) (fun lk' sh' wa' wb' wt' X => ⟨narrow_b0, K0 _ _ _ _ _ X⟩) (fun lk' sh' wa' wb' wt' r' k' J L E => ⟨narrow_b1, K1 _ _ _ _ _ r' k' J L (fun s t h => ?_)⟩)
      obtain ⟨rfl, rfl⟩ := be_1 hk hf h
      rw [if_pos z]
      exact E
    · refine br_f z ?_
      have be : be_E kd ka kb up op n (3 * n) (3 * f) := Or.inl ⟨hk, rfl, f, hf, by rw [if_neg z]⟩
      unfold wX_solveNode_127
      refine xe_eq (a := 3 * n) (b := 3 * f) TT hsk I (by omega) (by omega) rfl (pk_mul 3 f) (L.2.2.2.1 n _ _ hn be) (fun lk' sh' wa' wb' wt' X => ⟨narrow_b0, K0 _ _ _ _ _ X⟩) (fun lk' sh' wa' wb' wt' r' k' J L E => ⟨narrow_b1, K1 _ _ _ _ _ r' k' J L (fun s t h => ?_)⟩)
      obtain ⟨rfl, rfl⟩ := be_1 hk hf h
      rw [if_neg z]
      exact E
  · exact nm_r (e' := 2) (by rw [cn, hk]) (br_f (by decide) (br_f (by decide) (br_f (by decide) (br_t rfl (K1' (Or.inr (Or.inl hk)))))))
  · exact nm_r (e' := 3) (by rw [cn, hk]) (br_f (by decide) (br_f (by decide) (br_f (by decide) (br_f (by decide) (br_t rfl (xs_131 TT hsk I hn (Or.inl hk) rfl rfl K0 K1))))))
  · exact nm_r (e' := 4) (by rw [cn, hk]) (br_f (by decide) (br_f (by decide) (br_f (by decide) (br_f (by decide) (br_f (by decide) (br_t rfl (K1' (Or.inr (Or.inr hk)))))))))
  · exact nm_r (e' := 5) (by rw [cn, hk]) (br_f (by decide) (br_f (by decide) (br_f (by decide) (br_f (by decide) (br_f (by decide) (br_f (by decide) (br_t rfl (xs_131 TT hsk I hn (Or.inr (Or.inl hk)) rfl rfl K0 K1))))))))
  · exact nm_r (e' := 6) (by rw [cn, hk]) (br_f (by decide) (br_f (by decide) (br_f (by decide) (br_f (by decide) (br_f (by decide) (br_f (by decide) (br_f (by decide) (br_t rfl (xs_131 TT hsk I hn (Or.inr (Or.inr hk)) rfl rfl K0 K1)))))))))
  · refine nm_r (e' := 7) (by rw [cn, hk]) (br_f (by decide) (br_f (by decide) (br_f (by decide) (br_f (by decide) (br_f (by decide) (br_f (by decide) (br_f (by decide) (br_f (by decide) (br_t rfl ?_)))))))))
    have b0 : be_E kd ka kb up op n (3 * tm_c op n 0) (3 * n + 1) := Or.inr (Or.inl ⟨Or.inr (Or.inr (Or.inr hk)), rfl, rfl⟩)
    have b1 : be_E kd ka kb up op n (3 * tm_c op n 1) (3 * n) := Or.inr (Or.inr (Or.inr (Or.inl ⟨Or.inr hk, rfl, rfl⟩)))
    have b2 : be_E kd ka kb up op n (3 * tm_c op n 2) (3 * n) := Or.inr (Or.inr (Or.inr (Or.inr ⟨hk, rfl, rfl⟩)))
    refine xe_eq (a := 3 * tm_c op n 0) (b := 3 * n + 1) TT hsk I (by omega) (by omega) rfl (nI_1 _) (L.2.2.2.1 n _ _ hn b0) (fun lk' sh' wa' wb' wt' X => br_t rfl (K0 _ _ _ _ _ X)) (fun lk1 sh1 wa1 wb1 wt1 r1 k1 J1 L1 E1 => br_f (by decide) ?_)
    refine xe_eq (a := 3 * tm_c op n 1) (b := 3 * n) TT hsk J1 (by omega) (by omega) rfl rfl (L.2.2.2.1 n _ _ hn b1) (fun lk' sh' wa' wb' wt' X => br_t rfl (K0 _ _ _ _ _ X)) (fun lk2 sh2 wa2 wb2 wt2 r2 k2 J2 L2 E2 => br_f (by decide) ?_)
    refine xe_eq (a := 3 * tm_c op n 2) (b := 3 * n) TT hsk J2 (by omega) (by omega) rfl rfl (L.2.2.2.1 n _ _ hn b2) (fun lk' sh' wa' wb' wt' X => br_t rfl (K0 _ _ _ _ _ X)) (fun lk3 sh3 wa3 wb3 wt3 r3 k3 J3 L3 E3 => br_f (by decide) ?_)
    refine K1 _ _ _ _ _ r3 k3 J3 (xq_t (xq_t L1 L2) L3) (fun s t h => ?_)
    rcases be_7 hk h with ⟨rfl, rfl⟩ | ⟨rfl, rfl⟩ | ⟨rfl, rfl⟩
    · exact xq_t L2 L3 _ _ (by omega) (by omega) E1
    · exact L3 _ _ (by omega) (by omega) E2
    · exact E3
  · refine nm_r (e' := 8) (by rw [cn, hk]) (br_f (by decide) (br_f (by decide) (br_f (by decide) (br_f (by decide) (br_f (by decide) (br_f (by decide) (br_f (by decide) (br_f (by decide) (br_f (by decide) (br_t rfl ?_))))))))))
    have b0 : be_E kd ka kb up op n (3 * tm_c op n 0) (3 * n) := Or.inr (Or.inr (Or.inl ⟨hk, rfl, rfl⟩))
    have b1 : be_E kd ka kb up op n (3 * tm_c op n 1) (3 * n) := Or.inr (Or.inr (Or.inr (Or.inl ⟨Or.inl hk, rfl, rfl⟩)))
    refine xe_eq (a := 3 * tm_c op n 0) (b := 3 * n) TT hsk I (by omega) (by omega) rfl rfl (L.2.2.2.1 n _ _ hn b0) (fun lk' sh' wa' wb' wt' X => br_t rfl (K0 _ _ _ _ _ X)) (fun lk1 sh1 wa1 wb1 wt1 r1 k1 J1 L1 E1 => br_f (by decide) ?_)
    refine xe_eq (a := 3 * tm_c op n 1) (b := 3 * n) TT hsk J1 (by omega) (by omega) rfl rfl (L.2.2.2.1 n _ _ hn b1) (fun lk' sh' wa' wb' wt' X => br_t rfl (K0 _ _ _ _ _ X)) (fun lk2 sh2 wa2 wb2 wt2 r2 k2 J2 L2 E2 => br_f (by decide) ?_)
    refine K1 _ _ _ _ _ r2 k2 J2 (xq_t L1 L2) (fun s t h => ?_)
    rcases be_8 hk h with ⟨rfl, rfl⟩ | ⟨rfl, rfl⟩
    · exact L2 _ _ (by omega) (by omega) E1
    · exact E2
end
end
section
/-- the classes when no clash was met: r sound, answers every equation, every form's class has a shape of its kind with equal parts -/
def ty_C (N : Nat) (kd ka kb up op : Nat → Int32) (sh : Nat → Int32) (r : Nat → Nat) : Prop :=
  (∀ s, s < 3 * N → r s < 3 * N ∧ r (r s) = r s) ∧
  (∀ s t, s < 3 * N → t < 3 * N → r s = r t → le_R N kd ka kb up op s t) ∧
  (∀ n s t, n < N → be_E kd ka kb up op n s t → r s = r t) ∧
  (∀ n s k p q, n < N → fo_n kd op n s k p q → ∃ m t p' q', m < N ∧ fo_n kd op m t k p' q' ∧ sh (r s) = nI t ∧ r t = r s ∧ (2 ≤ k → r p = r p' ∧ r q = r q')) ∧
  (∀ s, s < 3 * N → r s = s → sh s = -1 ∨ ∃ m t k p q, m < N ∧ fo_n kd op m t k p q ∧ sh s = nI t ∧ r t = s)
section
variable {ml fl cnt pc ifd wt rc gw ec tp : Int32} {vl : Int64} {rm ls sp md hld pk : Int32} {kd ka kb op up bd pn sk f1 f2 lk sh cl wa wb se rg hm : Nat → Int32} {ra ef vi la sn : Nat → Int64} {qn qr qe : Nat → Int32} {qf qs : Nat → Int64} {al enn : Nat → Int32} {env : Nat → Int64} {enx frn fre frs frm : Nat → Int32} {frf : Nat → Int64}
theorem xn_28 {post : Int32 → SX → Prop} {N : Nat} {r k : Nat → Nat} (hN : N ≤ 32)
    (K1 : ∀ lk' cl', uf_F (3 * N) lk' r k → (∀ s, s < 3 * N → cl' s = nI (r s)) → post 1 (ml, fl, nI N, pc, ifd, wt, rc, gw, ec, tp, vl, rm, ls, sp, md, hld, pk, kd, ka, kb, op, up, bd, pn, sk, f1, f2, lk', sh, cl', wa, wb, se, rg, hm, ra, ef, vi, la, sn, qn, qr, qe, qf, qs, al, enn, env, enx, frn, fre, frs, frm, frf)) :
    ∀ (d s : Nat) (lk cl : Nat → Int32), uf_F (3 * N) lk r k → (∀ t, t < s → cl t = nI (r t)) → s ≤ 3 * N → 3 * N + 1 ≤ d + s → wX_unifyAll_28 post d (nI s) ml fl (nI N) pc ifd wt rc gw ec tp vl rm ls sp md hld pk kd ka kb op up bd pn sk f1 f2 lk sh cl wa wb se rg hm ra ef vi la sn qn qr qe qf qs al enn env enx frn fre frs frm frf := by
  intro d
  induction d with
  | zero => intro s lk cl F h hs hd; omega
  | succ d ih =>
    intro s lk cl F h hs hd
    refine pk_le (3 * N) s (fun z => ?_) (fun z => ?_) (pk_mul 3 N)
    · have : s = 3 * N := by omega
      subst this
      exact K1 lk cl F h
    · refine xu_find F (by omega) rfl (fun lk' F' => ⟨pk_in s 96 (by omega), nm_r (e' := upd cl s (nI (r s))) (by rw [nI_clamp (by omega)]) (nm_r (e' := nI (s + 1)) (nI_1 s) ?_)⟩)
      refine ih (s + 1) lk' _ F' (fun t ht => ?_) (by omega) (by omega)
      rcases Classical.em (t = s) with z2 | z2
      · subst z2; exact pk_us
      · rw [pk_un z2]; exact h t (by omega)
theorem xn_2 {post : Int32 → SX → Prop} {N : Nat} (TT : tm_T N kd ka kb up op)
    (hsk : ∀ n s k p q, n < N → fo_n kd op n s k p q → sk s = nI k ∧ f1 s = nI p ∧ f2 s = nI q)
    (hbd : ∀ n, n < N → kd n = 1 → ∃ f, bn_B kd ka kb up n (ka n) f ∧ bd n = nI f)
    (K0 : ∀ lk' sh' wa' wb' wt', le_X N kd ka kb up op → post 0 (ml, fl, nI N, pc, ifd, wt', rc, gw, ec, tp, vl, rm, ls, sp, md, hld, pk, kd, ka, kb, op, up, bd, pn, sk, f1, f2, lk', sh', cl, wa', wb', se, rg, hm, ra, ef, vi, la, sn, qn, qr, qe, qf, qs, al, enn, env, enx, frn, fre, frs, frm, frf))
    (K1 : ∀ lk' sh' wa' wb' wt' cl' r', ty_C N kd ka kb up op sh' r' → (∀ s, s < 3 * N → cl' s = nI (r' s)) → post 1 (ml, fl, nI N, pc, ifd, wt', rc, gw, ec, tp, vl, rm, ls, sp, md, hld, pk, kd, ka, kb, op, up, bd, pn, sk, f1, f2, lk', sh', cl', wa', wb', se, rg, hm, ra, ef, vi, la, sn, qn, qr, qe, qf, qs, al, enn, env, enx, frn, fre, frs, frm, frf)) :
    ∀ (d n : Nat) (lk sh wa wb : Nat → Int32) (wt : Int32) (r k : Nat → Nat), xq_I N kd ka kb up op lk sh r k → (∀ m s t, m < n → be_E kd ka kb up op m s t → r s = r t) → n ≤ N → N + 1 ≤ d + n → wX_unifyAll_2 post d (nI n) ml fl (nI N) pc ifd wt rc gw ec tp vl rm ls sp md hld pk kd ka kb op up bd pn sk f1 f2 lk sh cl wa wb se rg hm ra ef vi la sn qn qr qe qf qs al enn env enx frn fre frs frm frf := by
  have hN := TT.1
  intro d
  induction d with
  | zero => intro n lk sh wa wb wt r k I h hn hd; omega
  | succ d ih =>
    intro n lk sh wa wb wt r k I h hn hd
    refine pk_le N n (fun z => ?_) (fun z => ?_)
    · have : n = N := by omega
      subst this
      refine ⟨3 * n + 1, xn_28 hN (fun lk' cl' F' hc => ?_) (3 * n + 1) 0 lk cl I.1 (fun t ht => absurd ht (by omega)) (by omega) (by omega)⟩
      refine K1 lk' sh wa wb wt cl' r ⟨fun s hs => ⟨(I.1.2.2.1 s hs).1, (I.1.2.2.1 s hs).2.2⟩, I.2.2.1, fun m s t hm e => h m s t hm e, fun m s k p q hm f => ?_, I.2.2.2.2⟩ hc
      obtain ⟨m', t, p', q', h1, h2, h3, h4, h5⟩ := I.2.2.2.1 m s k p q hm f
      exact ⟨m', t, p', q', h1, h2, h3, h4, fun w => ⟨eq_0 (fun _ _ z => z) (h5 w).1, eq_0 (fun _ _ z => z) (h5 w).2⟩⟩
    · refine xs_node TT hsk hbd I (by omega) rfl (fun lk' sh' wa' wb' wt' X => br_t rfl (K0 _ _ _ _ _ X)) (fun lk' sh' wa' wb' wt' r' k' J L E => br_f (by decide) (nm_r (e' := nI (n + 1)) (nI_1 n) ?_))
      refine ih (n + 1) lk' sh' wa' wb' wt' r' k' J (fun m s t hm e => ?_) (by omega) (by omega)
      rcases Classical.em (m = n) with z2 | z2
      · subst z2; exact E s t e
      · have b := be_b TT (n := m) (by omega) e
        exact L s t b.1 b.2 (h m s t (by omega) e)
theorem xn_all {post : Int32 → SX → Prop} {N : Nat} {r k : Nat → Nat} (TT : tm_T N kd ka kb up op)
    (hsk : ∀ n s k p q, n < N → fo_n kd op n s k p q → sk s = nI k ∧ f1 s = nI p ∧ f2 s = nI q)
    (hbd : ∀ n, n < N → kd n = 1 → ∃ f, bn_B kd ka kb up n (ka n) f ∧ bd n = nI f) (I : xq_I N kd ka kb up op lk sh r k)
    (K0 : ∀ lk' sh' wa' wb' wt', le_X N kd ka kb up op → post 0 (ml, fl, nI N, pc, ifd, wt', rc, gw, ec, tp, vl, rm, ls, sp, md, hld, pk, kd, ka, kb, op, up, bd, pn, sk, f1, f2, lk', sh', cl, wa', wb', se, rg, hm, ra, ef, vi, la, sn, qn, qr, qe, qf, qs, al, enn, env, enx, frn, fre, frs, frm, frf))
    (K1 : ∀ lk' sh' wa' wb' wt' cl' r', ty_C N kd ka kb up op sh' r' → (∀ s, s < 3 * N → cl' s = nI (r' s)) → post 1 (ml, fl, nI N, pc, ifd, wt', rc, gw, ec, tp, vl, rm, ls, sp, md, hld, pk, kd, ka, kb, op, up, bd, pn, sk, f1, f2, lk', sh', cl', wa', wb', se, rg, hm, ra, ef, vi, la, sn, qn, qr, qe, qf, qs, al, enn, env, enx, frn, fre, frs, frm, frf)) :
    wpX_unifyAll post (ml, fl, nI N, pc, ifd, wt, rc, gw, ec, tp, vl, rm, ls, sp, md, hld, pk, kd, ka, kb, op, up, bd, pn, sk, f1, f2, lk, sh, cl, wa, wb, se, rg, hm, ra, ef, vi, la, sn, qn, qr, qe, qf, qs, al, enn, env, enx, frn, fre, frs, frm, frf) := by
  exact ⟨N + 1, xn_2 TT hsk hbd K0 K1 (N + 1) 0 lk sh wa wb wt r k I (fun m s t hm => absurd hm (by omega)) (by omega) (by omega)⟩
end
end
section
section
variable {ml fl cnt pc ifd wt rc gw ec tp : Int32} {vl : Int64} {rm ls sp md hld pk : Int32} {kd ka kb op up bd pn sk f1 f2 lk sh cl wa wb se rg hm : Nat → Int32} {ra ef vi la sn : Nat → Int64} {qn qr qe : Nat → Int32} {qf qs : Nat → Int64} {al enn : Nat → Int32} {env : Nat → Int64} {enx frn fre frs frm : Nat → Int32} {frf : Nat → Int64}
theorem xl_form {post : SX → Prop} {s k p q : Nat} {v0 v1 v2 v3 : Int32} (hs : s < 96) (e0 : v0 = nI s) (e1 : v1 = nI k) (e2 : v2 = nI p) (e3 : v3 = nI q)
    (K : post (ml, fl, cnt, pc, ifd, wt, rc, gw, ec, tp, vl, rm, ls, sp, md, hld, pk, kd, ka, kb, op, up, bd, pn, upd sk s (nI k), upd f1 s (nI p), upd f2 s (nI q), lk, upd sh s (nI s), cl, wa, wb, se, rg, hm, ra, ef, vi, la, sn, qn, qr, qe, qf, qs, al, enn, env, enx, frn, fre, frs, frm, frf)) : wpX_form post (ml, fl, cnt, pc, ifd, wt, rc, gw, ec, tp, vl, rm, ls, sp, md, hld, pk, kd, ka, kb, op, up, bd, pn, sk, f1, f2, lk, sh, cl, wa, wb, se, rg, hm, ra, ef, vi, la, sn, qn, qr, qe, qf, qs, al, enn, env, enx, frn, fre, frs, frm, frf) v0 v1 v2 v3 := by
  subst e0 e1 e2 e3
  have c : (nI s).toNatClampNeg = s := nI_clamp (by omega)
  have v : vp_in (nI s) 96 := vp_in_nI hs (by omega)
  exact ⟨v, nm_r (e' := upd sk s (nI k)) (by rw [c]) ⟨v, nm_r (e' := upd f1 s (nI p)) (by rw [c]) ⟨v, nm_r (e' := upd f2 s (nI q)) (by rw [c]) ⟨v, nm_r (e' := upd sh s (nI s)) (by rw [c]) K⟩⟩⟩⟩
theorem xl_node {post : SX → Prop} {N n : Nat} {v : Int32} (TT : tm_T N kd ka kb up op) (hn : n < N) (ev : v = nI n) (K1 : kd n = 1 → post (ml, fl, cnt, pc, ifd, wt, rc, gw, ec, tp, vl, rm, ls, sp, md, hld, pk, kd, ka, kb, op, up, bd, pn, sk, f1, f2, lk, sh, cl, wa, wb, se, rg, hm, ra, ef, vi, la, sn, qn, qr, qe, qf, qs, al, enn, env, enx, frn, fre, frs, frm, frf))
    (K : ∀ s k p q, fo_n kd op n s k p q → post (ml, fl, cnt, pc, ifd, wt, rc, gw, ec, tp, vl, rm, ls, sp, md, hld, pk, kd, ka, kb, op, up, bd, pn, upd sk s (nI k), upd f1 s (nI p), upd f2 s (nI q), lk, upd sh s (nI s), cl, wa, wb, se, rg, hm, ra, ef, vi, la, sn, qn, qr, qe, qf, qs, al, enn, env, enx, frn, fre, frs, frm, frf)) : wpX_layOutNode post (ml, fl, cnt, pc, ifd, wt, rc, gw, ec, tp, vl, rm, ls, sp, md, hld, pk, kd, ka, kb, op, up, bd, pn, sk, f1, f2, lk, sh, cl, wa, wb, se, rg, hm, ra, ef, vi, la, sn, qn, qr, qe, qf, qs, al, enn, env, enx, frn, fre, frs, frm, frf) v := by
  subst ev
  have hN := TT.1
  have c0 := tm_o TT hn (i := 0) (by omega)
  have c1 := tm_o TT hn (i := 1) (by omega)
  have cn : (nI n).toNatClampNeg = n := nI_clamp (by omega)
  have e0 : 3 * op (nI (3 * n)).toNatClampNeg = nI (3 * tm_c op n 0) := by
    rw [nI_clamp (by omega), show op (3 * n) = nI (tm_c op n 0) from c0.1]
    exact pk_mul 3 _
  have e1 : 3 * op (nI (3 * n) + 1).toNatClampNeg = nI (3 * tm_c op n 1) := by
    rw [nI_1, nI_clamp (by omega), c1.1]
    exact pk_mul 3 _
  unfold wpX_layOutNode
  dsimp only
  refine nm_r (e' := nI (3 * n)) (pk_mul 3 n) ⟨pk_in (3 * n) 96 (by omega), nm_r e0 ⟨pk_in (3 * n + 1) 96 (by omega) (nI_1 _), nm_r e1 ⟨pk_in n 32 (by omega), ?_⟩⟩⟩
  have p1 : nI (3 * n) + 1 = nI (3 * n + 1) := nI_1 _
  have p2 : nI (3 * n) + 2 = nI (3 * n + 2) := nI_add _ 2
  rcases TT.2.1 n hn with hk | hk | hk | hk | hk | hk | hk | hk | hk
  · exact nm_r (e' := 0) (by rw [cn, hk]) (br_f (by decide) (br_f (by decide) (br_t rfl (xl_form (s := 3 * n) (k := 1) (by omega) rfl rfl rfl rfl (K _ _ _ _ (fo_0 hk))))))
  · exact nm_r (e' := 1) (by rw [cn, hk]) (br_f (by decide) (br_f (by decide) (br_f (by decide) (br_t rfl (K1 hk)))))
  · exact nm_r (e' := 2) (by rw [cn, hk]) (br_f (by decide) (br_f (by decide) (br_f (by decide) (br_f (by decide) (br_t rfl (xl_form (s := 3 * n) (k := 3) (by omega) rfl rfl p1 rfl (K _ _ _ _ (fo_2 hk))))))))
  · exact nm_r (e' := 3) (by rw [cn, hk]) (br_f (by decide) (br_f (by decide) (br_f (by decide) (br_f (by decide) (br_f (by decide) (br_t rfl (xl_form (s := 3 * n + 1) (k := 3) (by omega) p1 rfl rfl rfl (K _ _ _ _ (fo_3 hk)))))))))
  · exact nm_r (e' := 4) (by rw [cn, hk]) (br_f (by decide) (br_f (by decide) (br_f (by decide) (br_f (by decide) (br_f (by decide) (br_f (by decide) (br_t rfl (xl_form (s := 3 * n) (k := 2) (by omega) rfl rfl rfl rfl (K _ _ _ _ (fo_4 hk))))))))))
  · exact nm_r (e' := 5) (by rw [cn, hk]) (br_f (by decide) (br_f (by decide) (br_f (by decide) (br_f (by decide) (br_f (by decide) (br_f (by decide) (br_f (by decide) (br_t rfl (xl_form (s := 3 * n + 1) (k := 2) (by omega) p1 rfl rfl p2 (K _ _ _ _ (fo_5 hk)))))))))))
  · exact nm_r (e' := 6) (by rw [cn, hk]) (br_f (by decide) (br_f (by decide) (br_f (by decide) (br_f (by decide) (br_f (by decide) (br_f (by decide) (br_f (by decide) (br_f (by decide) (br_t rfl (xl_form (s := 3 * n + 1) (k := 2) (by omega) p1 rfl p2 rfl (K _ _ _ _ (fo_6 hk))))))))))))
  · exact nm_r (e' := 7) (by rw [cn, hk]) (br_f (by decide) (br_f (by decide) (br_f (by decide) (br_f (by decide) (br_f (by decide) (br_f (by decide) (br_f (by decide) (br_f (by decide) (br_f (by decide) (br_t rfl (xl_form (s := 3 * n + 1) (k := 1) (by omega) p1 rfl rfl rfl (K _ _ _ _ (fo_7 hk)))))))))))))
  · exact nm_r (e' := 8) (by rw [cn, hk]) (br_f (by decide) (br_f (by decide) (br_f (by decide) (br_f (by decide) (br_f (by decide) (br_f (by decide) (br_f (by decide) (br_f (by decide) (br_f (by decide) (br_f (by decide) (br_t rfl (xl_form (s := 3 * n) (k := 1) (by omega) rfl rfl rfl rfl (K _ _ _ _ (fo_8 hk))))))))))))))
/-- the forms of the nodes below n are laid -/
def xl_I (kd op sk f1 f2 sh : Nat → Int32) (S n : Nat) : Prop :=
  (∀ m s k p q, m < n → fo_n kd op m s k p q → sk s = nI k ∧ f1 s = nI p ∧ f2 s = nI q ∧ sh s = nI s) ∧
  (∀ s, s < S → sh s = -1 ∨ ∃ m k p q, m < n ∧ fo_n kd op m s k p q ∧ sh s = nI s)
theorem xl_34 {post : SX → Prop} {N : Nat} (TT : tm_T N kd ka kb up op)
    (K : ∀ sk' f1' f2' sh', xl_I kd op sk' f1' f2' sh' (3 * N) N → post (ml, fl, nI N, pc, ifd, wt, rc, gw, ec, tp, vl, rm, ls, sp, md, hld, pk, kd, ka, kb, op, up, bd, pn, sk', f1', f2', lk, sh', cl, wa, wb, se, rg, hm, ra, ef, vi, la, sn, qn, qr, qe, qf, qs, al, enn, env, enx, frn, fre, frs, frm, frf)) :
    ∀ (d n : Nat) (sk f1 f2 sh : Nat → Int32), xl_I kd op sk f1 f2 sh (3 * N) n → n ≤ N → N + 1 ≤ d + n → wX_layOutSlots_34 post d (nI n) ml fl (nI N) pc ifd wt rc gw ec tp vl rm ls sp md hld pk kd ka kb op up bd pn sk f1 f2 lk sh cl wa wb se rg hm ra ef vi la sn qn qr qe qf qs al enn env enx frn fre frs frm frf := by
  have hN := TT.1
  intro d
  induction d with
  | zero => intro n sk f1 f2 sh I hn hd; omega
  | succ d ih =>
    intro n sk f1 f2 sh I hn hd
    refine pk_le N n (fun z => ?_) (fun z => ?_)
    · have : n = N := by omega
      subst this
      exact K sk f1 f2 sh I
    · refine xl_node TT z rfl (fun hk => nm_r (e' := nI (n + 1)) (nI_1 n) ?_) (fun s k p q h => nm_r (e' := nI (n + 1)) (nI_1 n) ?_)
      · refine ih (n + 1) sk f1 f2 sh ⟨fun m s k p q hm f => ?_, fun s hs => ?_⟩ (by omega) (by omega)
        · rcases Classical.em (m = n) with w | w
          · subst w
            have f' : fo_g (kd m) m (tm_c op m 0) (tm_c op m 1) = some (s, k, p, q) := f
            rw [fo_1 hk] at f'
            exact absurd f' (by simp)
          · exact I.1 m s k p q (by omega) f
        · rcases I.2 s hs with w | ⟨m, k, p, q, h1, h2⟩
          · exact Or.inl w
          · exact Or.inr ⟨m, k, p, q, by omega, h2⟩
      · refine ih (n + 1) _ _ _ _ ⟨fun m s' k' p' q' hm f => ?_, fun s' hs => ?_⟩ (by omega) (by omega)
        · rcases Classical.em (m = n) with w | w
          · subst w
            obtain ⟨rfl, rfl, rfl, rfl⟩ := fo_u f h
            exact ⟨pk_us, pk_us, pk_us, pk_us⟩
          · have b := fo_b TT z h
            have b' := fo_b TT (n := m) (by omega) f
            have ne : s' ≠ s := by omega
            rw [pk_un ne, pk_un ne, pk_un ne, pk_un ne]
            exact I.1 m s' k' p' q' (by omega) f
        · rcases Classical.em (s' = s) with w | w
          · subst w
            exact Or.inr ⟨n, k, p, q, by omega, h, pk_us⟩
          · rw [pk_un w]
            rcases I.2 s' hs with w | ⟨m, k, p, q, h1, h2⟩
            · exact Or.inl w
            · exact Or.inr ⟨m, k, p, q, by omega, h2⟩
theorem xl_2 {post : SX → Prop} {N : Nat} (TT : tm_T N kd ka kb up op)
    (K : ∀ sk' f1' f2' sh' lk', (∀ s, s < 3 * N → lk' s = nI s) → xl_I kd op sk' f1' f2' sh' (3 * N) N → post (ml, fl, nI N, pc, ifd, wt, rc, gw, ec, tp, vl, rm, ls, sp, md, hld, pk, kd, ka, kb, op, up, bd, pn, sk', f1', f2', lk', sh', cl, wa, wb, se, rg, hm, ra, ef, vi, la, sn, qn, qr, qe, qf, qs, al, enn, env, enx, frn, fre, frs, frm, frf)) :
    ∀ (d s : Nat) (lk sh : Nat → Int32), (∀ t, t < s → lk t = nI t ∧ sh t = -1) → s ≤ 3 * N → 3 * N + 1 ≤ d + s → wX_layOutSlots_2 post ml fl (nI N) pc ifd wt rc gw ec tp vl rm ls sp md hld pk d (nI s) kd ka kb op up bd pn sk f1 f2 lk sh cl wa wb se rg hm ra ef vi la sn qn qr qe qf qs al enn env enx frn fre frs frm frf := by
  have hN := TT.1
  intro d
  induction d with
  | zero => intro s lk sh h hs hd; omega
  | succ d ih =>
    intro s lk sh h hs hd
    refine pk_le (3 * N) s (fun z => ?_) (fun z => ?_) (pk_mul 3 N)
    · have : s = 3 * N := by omega
      subst this
      exact ⟨N + 1, xl_34 TT (fun sk' f1' f2' sh' I => K sk' f1' f2' sh' lk (fun t ht => (h t ht).1) I) (N + 1) 0 sk f1 f2 sh ⟨fun m s k p q hm => absurd hm (by omega), fun t ht => Or.inl (h t ht).2⟩ (by omega) (by omega)⟩
    · have c : (nI s).toNatClampNeg = s := nI_clamp (by omega)
      refine ⟨pk_in s 96 (by omega), nm_r (e' := upd lk s (nI s)) (by rw [c]) ⟨pk_in s 96 (by omega), nm_r (e' := upd sh s (-1)) (by rw [c]) (nm_r (e' := nI (s + 1)) (nI_1 s) ?_)⟩⟩
      refine ih (s + 1) _ _ (fun t ht => ?_) (by omega) (by omega)
      rcases Classical.em (t = s) with w | w
      · subst w; exact ⟨pk_us, pk_us⟩
      · rw [pk_un w, pk_un w]; exact h t (by omega)
/-- layOutSlots: every slot a class of its own -/
theorem xl_all {post : SX → Prop} {N : Nat} (TT : tm_T N kd ka kb up op)
    (K : ∀ sk' f1' f2' sh' lk' r k, xq_I N kd ka kb up op lk' sh' r k → (∀ n s k p q, n < N → fo_n kd op n s k p q → sk' s = nI k ∧ f1' s = nI p ∧ f2' s = nI q) → post (ml, fl, nI N, pc, ifd, wt, rc, gw, ec, tp, vl, rm, ls, sp, md, hld, pk, kd, ka, kb, op, up, bd, pn, sk', f1', f2', lk', sh', cl, wa, wb, se, rg, hm, ra, ef, vi, la, sn, qn, qr, qe, qf, qs, al, enn, env, enx, frn, fre, frs, frm, frf)) :
    wpX_layOutSlots post (ml, fl, nI N, pc, ifd, wt, rc, gw, ec, tp, vl, rm, ls, sp, md, hld, pk, kd, ka, kb, op, up, bd, pn, sk, f1, f2, lk, sh, cl, wa, wb, se, rg, hm, ra, ef, vi, la, sn, qn, qr, qe, qf, qs, al, enn, env, enx, frn, fre, frs, frm, frf) := by
  have hN := TT.1
  refine ⟨3 * N + 1, xl_2 TT (fun sk' f1' f2' sh' lk' hl I => ?_) (3 * N + 1) 0 lk sh (fun t ht => absurd ht (by omega)) (by omega) (by omega)⟩
  refine K sk' f1' f2' sh' lk' (fun s => s) (fun _ => 95) ⟨⟨by omega, fun s hs => ⟨s, hs, hl s hs, rfl, fun z => absurd rfl z⟩, fun s hs => ⟨hs, hl s hs, rfl⟩, fun _ _ _ => rfl, fun _ _ _ => rfl, fun s _ z => absurd rfl z⟩, ⟨fun _ _ z => z.elim, ?_, ?_, ?_⟩⟩ (fun n s k p q hn f => ?_)
  · intro s t hs ht e
    subst e
    exact le_c.1 s
  · intro n s k p q hn f
    exact ⟨n, s, p, q, hn, f, (I.1 n s k p q hn f).2.2.2, rfl, fun _ => ⟨fun E e1 _ _ _ _ => e1 _, fun E e1 _ _ _ _ => e1 _⟩⟩
  · intro s hs _
    rcases I.2 s hs with z | ⟨m, k, p, q, h1, h2, h3⟩
    · exact Or.inl z
    · exact Or.inr ⟨m, s, k, p, q, h1, h2, h3, rfl⟩
  · have a := I.1 n s k p q hn f
    exact ⟨a.1, a.2.1, a.2.2.1⟩
end
end
section
section
variable {ml fl cnt pc ifd wt rc gw ec tp : Int32} {vl : Int64} {rm ls sp md hld pk : Int32} {kd ka kb op up bd pn sk f1 f2 lk sh cl wa wb se rg hm : Nat → Int32} {ra ef vi la sn : Nat → Int64} {qn qr qe : Nat → Int32} {qf qs : Nat → Int64} {al enn : Nat → Int32} {env : Nat → Int64} {enx frn fre frs frm : Nat → Int32} {frf : Nat → Int64}
theorem xb_9 {post : Int32 → Prop} {N v : Nat} (TT : tm_T N kd ka kb up op) (hv : v < N)
    (K : ∀ b, ((b = -1 ∧ ∀ f, ¬ bn_B kd ka kb up v (ka v) f) ∨ ∃ f, bn_B kd ka kb up v (ka v) f ∧ b = nI f) → post b) :
    ∀ (d i : Nat) (p : Int32), ((p = -1 ∧ ∀ g, re_R up v g → g ≠ v → ¬ bn_M kd ka kb (ka v) g) ∨ ∃ q, p = nI q ∧ i < q ∧ q < N ∧ re_R up v q ∧ q ≠ v ∧ ∀ g, re_R up v g → g ≠ v → bn_M kd ka kb (ka v) g → re_R up q g) →
      i ≤ 32 → 33 ≤ d + i → wX_binderOf_9 post (nI v) ml fl cnt pc ifd wt rc gw ec tp vl rm ls sp md hld pk kd ka kb op up bd pn sk f1 f2 lk sh cl wa wb se rg hm ra ef vi la sn qn qr qe qf qs al enn env enx frn fre frs frm frf d p (nI i) := by
  have hN := TT.1
  have cv : (nI v).toNatClampNeg = v := nI_clamp (by omega)
  intro d
  induction d with
  | zero => intro i p _ h1 h2; omega
  | succ d ih =>
    intro i p I h1 h2
    rcases I with ⟨rfl, hno⟩ | ⟨q, rfl, hiq, hq, hr, hqv, hg⟩
    · have k : post (-1) := K (-1) (Or.inl ⟨rfl, fun f hf => hno f hf.1 hf.2.1 hf.2.2.1⟩)
      exact br_c (fun _ => k) (fun _ => br_t (by decide) k)
    · have cq : (nI q).toNatClampNeg = q := nI_clamp (by omega)
      have vq : vp_in (nI q) 32 := pk_in q 32 (by omega)
      have vv : vp_in (nI v) 32 := pk_in v 32 (by omega)
      refine br_f (nI_ge (b := 32) (by omega) (by omega)) (br_f (nI_pos (by omega)) ⟨vq, ?_⟩)
      rw [cq, cv]
      have fin : bn_M kd ka kb (ka v) q → post (nI q) := fun hm => K (nI q) (Or.inr ⟨q, ⟨hr, hqv, hm, fun g a b c => (re_lt hN TT.2.2.1 hq (hg g a b c)).2⟩, rfl⟩)
      have nxt : ¬ bn_M kd ka kb (ka v) q → wX_binderOf_9 post (nI v) ml fl cnt pc ifd wt rc gw ec tp vl rm ls sp md hld pk kd ka kb op up bd pn sk f1 f2 lk sh cl wa wb se rg hm ra ef vi la sn qn qr qe qf qs al enn env enx frn fre frs frm frf d (up q) (nI (i + 1)) := by
        intro hm
        refine ih (i + 1) (up q) ?_ (by omega) (by omega)
        rcases TT.2.2.1 q hq with e | ⟨p, e1, e2, e3⟩
        · refine Or.inl ⟨e, fun g a b c => ?_⟩
          have := re_no e (hg g a b c)
          subst this
          exact hm c
        · refine Or.inr ⟨p, e3, by omega, e2, re_tr hr (re_st (by omega) e3 re_rf), ?_, fun g a b c => ?_⟩
          · have := re_lt hN TT.2.2.1 hv hr
            omega
          · refine re_up (by omega) e3 (hg g a b c) (fun z => ?_)
            subst z
            exact hm c
      rcases Classical.em (kd q = 2) with k2 | k2
      · refine br_t k2 ⟨vq, vv, ?_⟩
        rcases Classical.em (ka q = ka v) with a | a
        · exact br_t a (fin ⟨k2, Or.inl a⟩)
        · refine br_f a ⟨vq, vv, ?_⟩
          rcases Classical.em (kb q = ka v) with b | b
          · exact br_t b (fin ⟨k2, Or.inr b⟩)
          · exact br_f b ⟨vq, nm_r (e' := up q) rfl (nm_r (e' := nI (i + 1)) (nI_1 i) (nxt (fun z => z.2.elim a b)))⟩
      · exact br_f k2 ⟨vq, nm_r (e' := up q) rfl (nm_r (e' := nI (i + 1)) (nI_1 i) (nxt (fun z => k2 z.1)))⟩
theorem xb_of {post : Int32 → Prop} {N v : Nat} {x : Int32} (TT : tm_T N kd ka kb up op) (hv : v < N) (ex : x = nI v)
    (K : ∀ b, ((b = -1 ∧ ∀ f, ¬ bn_B kd ka kb up v (ka v) f) ∨ ∃ f, bn_B kd ka kb up v (ka v) f ∧ b = nI f) → post b) : wpX_binderOf post (ml, fl, cnt, pc, ifd, wt, rc, gw, ec, tp, vl, rm, ls, sp, md, hld, pk, kd, ka, kb, op, up, bd, pn, sk, f1, f2, lk, sh, cl, wa, wb, se, rg, hm, ra, ef, vi, la, sn, qn, qr, qe, qf, qs, al, enn, env, enx, frn, fre, frs, frm, frf) x := by
  subst ex
  have hN := TT.1
  have cv : (nI v).toNatClampNeg = v := nI_clamp (by omega)
  refine ⟨pk_in v 32 (by omega), nm_r (e' := up v) (by rw [cv]) ⟨33, xb_9 TT hv K 33 0 (up v) ?_ (by omega) (by omega)⟩⟩
  rcases TT.2.2.1 v hv with e | ⟨p, e1, e2, e3⟩
  · exact Or.inl ⟨e, fun g a b _ => b (re_no e a).symm⟩
  · exact Or.inr ⟨p, e3, by omega, e2, re_st (by omega) e3 re_rf, by omega, fun g a b _ => re_up (by omega) e3 a (fun z => b z.symm)⟩
theorem xb_2 {post : Int32 → SX → Prop} {N : Nat} (TT : tm_T N kd ka kb up op)
    (K0 : ∀ bd', (∃ v, v < N ∧ kd v = 1 ∧ ∀ f, ¬ bn_B kd ka kb up v (ka v) f) → post 0 (ml, fl, nI N, pc, ifd, wt, rc, gw, ec, tp, vl, rm, ls, sp, md, hld, pk, kd, ka, kb, op, up, bd', pn, sk, f1, f2, lk, sh, cl, wa, wb, se, rg, hm, ra, ef, vi, la, sn, qn, qr, qe, qf, qs, al, enn, env, enx, frn, fre, frs, frm, frf))
    (K1 : ∀ bd', (∀ n, n < N → kd n = 1 → ∃ f, bn_B kd ka kb up n (ka n) f ∧ bd' n = nI f) → post 1 (ml, fl, nI N, pc, ifd, wt, rc, gw, ec, tp, vl, rm, ls, sp, md, hld, pk, kd, ka, kb, op, up, bd', pn, sk, f1, f2, lk, sh, cl, wa, wb, se, rg, hm, ra, ef, vi, la, sn, qn, qr, qe, qf, qs, al, enn, env, enx, frn, fre, frs, frm, frf)) :
    ∀ (d n : Nat) (bd : Nat → Int32), (∀ m, m < n → kd m = 1 → ∃ f, bn_B kd ka kb up m (ka m) f ∧ bd m = nI f) → n ≤ N → N + 1 ≤ d + n → wX_bindAll_2 post ml fl (nI N) pc ifd wt rc gw ec tp vl rm ls sp md hld pk d (nI n) kd ka kb op up bd pn sk f1 f2 lk sh cl wa wb se rg hm ra ef vi la sn qn qr qe qf qs al enn env enx frn fre frs frm frf := by
  have hN := TT.1
  intro d
  induction d with
  | zero => intro n bd h hn hd; omega
  | succ d ih =>
    intro n bd h hn hd
    refine pk_le N n (fun z => ?_) (fun z => ⟨pk_in n 32 (by omega), ?_⟩)
    · have : n = N := by omega
      subst this
      exact K1 bd h
    · have cn : (nI n).toNatClampNeg = n := nI_clamp (by omega)
      rw [cn]
      rcases Classical.em (kd n = 1) with hk | hk
      · refine br_t hk (xb_of TT z rfl (fun b hb => ⟨pk_in n 32 (by omega), nm_r (e' := upd bd n b) rfl ⟨pk_in n 32 (by omega), ?_⟩⟩))
        have u : upd bd n b n = b := pk_us
        rw [u]
        rcases hb with ⟨rfl, hno⟩ | ⟨f, hf, rfl⟩
        · exact br_f (by decide) (K0 _ ⟨n, z, hk, hno⟩)
        · have hf' := bn_gt hN TT.2.2.1 z hf
          refine br_t (nI_pos' (by omega)) (nm_r (e' := nI (n + 1)) (nI_1 n) ?_)
          refine ih (n + 1) _ (fun m hm k1 => ?_) (by omega) (by omega)
          rcases Classical.em (m = n) with w | w
          · subst w; exact ⟨f, hf, pk_us⟩
          · rw [pk_un w]; exact h m (by omega) k1
      · refine br_f hk (nm_r (e' := nI (n + 1)) (nI_1 n) ?_)
        refine ih (n + 1) bd (fun m hm k1 => ?_) (by omega) (by omega)
        rcases Classical.em (m = n) with w | w
        · subst w; exact absurd k1 hk
        · exact h m (by omega) k1
theorem xb_all {post : Int32 → SX → Prop} {N : Nat} (TT : tm_T N kd ka kb up op)
    (K0 : ∀ bd', (∃ v, v < N ∧ kd v = 1 ∧ ∀ f, ¬ bn_B kd ka kb up v (ka v) f) → post 0 (ml, fl, nI N, pc, ifd, wt, rc, gw, ec, tp, vl, rm, ls, sp, md, hld, pk, kd, ka, kb, op, up, bd', pn, sk, f1, f2, lk, sh, cl, wa, wb, se, rg, hm, ra, ef, vi, la, sn, qn, qr, qe, qf, qs, al, enn, env, enx, frn, fre, frs, frm, frf))
    (K1 : ∀ bd', (∀ n, n < N → kd n = 1 → ∃ f, bn_B kd ka kb up n (ka n) f ∧ bd' n = nI f) → post 1 (ml, fl, nI N, pc, ifd, wt, rc, gw, ec, tp, vl, rm, ls, sp, md, hld, pk, kd, ka, kb, op, up, bd', pn, sk, f1, f2, lk, sh, cl, wa, wb, se, rg, hm, ra, ef, vi, la, sn, qn, qr, qe, qf, qs, al, enn, env, enx, frn, fre, frs, frm, frf)) : wpX_bindAll post (ml, fl, nI N, pc, ifd, wt, rc, gw, ec, tp, vl, rm, ls, sp, md, hld, pk, kd, ka, kb, op, up, bd, pn, sk, f1, f2, lk, sh, cl, wa, wb, se, rg, hm, ra, ef, vi, la, sn, qn, qr, qe, qf, qs, al, enn, env, enx, frn, fre, frs, frm, frf) :=
  ⟨N + 1, xb_2 TT K0 K1 (N + 1) 0 bd (fun m hm => absurd hm (by omega)) (by omega) (by omega)⟩
end
end
section
theorem ct_ex {P : Nat → Prop} {N : Nat} (h : 0 < cn P N) : ∃ k, k < N ∧ P k := by
  rcases Classical.em (∃ k, k < N ∧ P k) with z | z
  · exact z
  · have x : cn P N ≤ cn (fun _ => False) N := cn_mono fun k hk hp => z ⟨k, hk, hp⟩
    rw [cn_F] at x
    omega
/-- the class of the root s has the kind k and the parts (roots) a, b -/
def tg_G (N : Nat) (kd op sh : Nat → Int32) (r : Nat → Nat) (s k a b : Nat) : Prop := ∃ m t p q, m < N ∧ fo_n kd op m t k p q ∧ sh s = nI t ∧ r t = s ∧ a = r p ∧ b = r q
theorem tg_u {N : Nat} {kd ka kb up op sh : Nat → Int32} {r : Nat → Nat} {s k a b k' a' b' : Nat} (TT : tm_T N kd ka kb up op) (h : tg_G N kd op sh r s k a b) (h' : tg_G N kd op sh r s k' a' b') : k = k' ∧ a = a' ∧ b = b' := by
  have hN := TT.1
  obtain ⟨m, t, p, q, h1, h2, h3, h4, rfl, rfl⟩ := h
  obtain ⟨m', t', p', q', g1, g2, g3, g4, rfl, rfl⟩ := h'
  have b1 := fo_b TT h1 h2
  have b2 := fo_b TT g1 g2
  have e : t = t' := (nI_eq (by omega) (by omega)).mp (h3.symm.trans g3)
  subst e
  obtain ⟨-, rfl, rfl, rfl⟩ := fo_us TT h1 g1 h2 g2
  exact ⟨rfl, rfl, rfl⟩
/-- a pair or a function -/
def tg_B (N : Nat) (kd op sh : Nat → Int32) (r : Nat → Nat) (s : Nat) : Prop := ∃ k a b, tg_G N kd op sh r s k a b ∧ 2 ≤ k
def fn_C (N : Nat) (kd op sh : Nat → Int32) (r : Nat → Nat) (P : Nat → Prop) : Prop := ∀ s, s < 3 * N → r s = s → (¬ tg_B N kd op sh r s → P s) ∧ (∀ k a b, tg_G N kd op sh r s k a b → 2 ≤ k → P a → P b → P s)
/-- the finite classes -/
def fn_F (N : Nat) (kd op sh : Nat → Int32) (r : Nat → Nat) (s : Nat) : Prop := ∀ P, fn_C N kd op sh r P → P s
theorem fn_c {N : Nat} {kd op sh : Nat → Int32} {r : Nat → Nat} : fn_C N kd op sh r (fn_F N kd op sh r) := fun s hs hr => ⟨fun h P c => (c s hs hr).1 h, fun k a b g hk h1 h2 P c => (c s hs hr).2 k a b g hk (h1 P c) (h2 P c)⟩
theorem tg_b {N : Nat} {kd ka kb up op sh : Nat → Int32} {r : Nat → Nat} {s k a b : Nat} (TT : tm_T N kd ka kb up op) (C : ty_C N kd ka kb up op sh r) (h : tg_G N kd op sh r s k a b) : s < 3 * N ∧ a < 3 * N ∧ b < 3 * N ∧ r a = a ∧ r b = b ∧ r s = s ∧ 1 ≤ k ∧ k ≤ 3 := by
  obtain ⟨m, t, p, q, h1, h2, h3, h4, rfl, rfl⟩ := h
  have b1 := fo_b TT h1 h2
  have ct := C.1 t (by omega)
  have cp := C.1 p (by omega)
  have cq := C.1 q (by omega)
  rw [h4] at ct
  exact ⟨ct.1, cp.1, cq.1, cp.2, cq.2, ct.2, b1.2.2.1, b1.2.2.2.1⟩
def ac_I (N : Nat) (kd op sh : Nat → Int32) (r : Nat → Nat) (se : Nat → Int32) : Prop := ∀ t, t < 3 * N → (se t = 0 ∧ r t = t ∧ tg_B N kd op sh r t) ∨ (se t = 1 ∧ (r t = t → fn_F N kd op sh r t))
def ac_P (N : Nat) (kd op sh : Nat → Int32) (r : Nat → Nat) (se : Nat → Int32) (t : Nat) : Prop := ∃ k a b, tg_G N kd op sh r t k a b ∧ 2 ≤ k ∧ se a = 1 ∧ se b = 1
def ac_C (N : Nat) (kd op sh : Nat → Int32) (r : Nat → Nat) (se : Nat → Int32) : Prop := ∀ t, t < 3 * N → se t = 0 → ¬ ac_P N kd op sh r se t
section
variable {ml fl cnt pc ifd wt rc gw ec tp : Int32} {vl : Int64} {rm ls sp md hld pk : Int32} {kd ka kb op up bd pn sk f1 f2 lk sh cl wa wb se rg hm : Nat → Int32} {ra ef vi la sn : Nat → Int64} {qn qr qe : Nat → Int32} {qf qs : Nat → Int64} {al enn : Nat → Int32} {env : Nat → Int64} {enx frn fre frs frm : Nat → Int32} {frf : Nat → Int64}
theorem xc_box {post : Int32 → Prop} {N s : Nat} {r : Nat → Nat} {v : Int32} (TT : tm_T N kd ka kb up op)
    (hsk : ∀ n s k p q, n < N → fo_n kd op n s k p q → sk s = nI k ∧ f1 s = nI p ∧ f2 s = nI q) (C : ty_C N kd ka kb up op sh r)
    (hs : s < 3 * N) (hr : r s = s) (ev : v = nI s) (K1 : tg_B N kd op sh r s → post 1) (K0 : ¬ tg_B N kd op sh r s → post 0) : wpX_isBoxed post (ml, fl, cnt, pc, ifd, wt, rc, gw, ec, tp, vl, rm, ls, sp, md, hld, pk, kd, ka, kb, op, up, bd, pn, sk, f1, f2, lk, sh, cl, wa, wb, se, rg, hm, ra, ef, vi, la, sn, qn, qr, qe, qf, qs, al, enn, env, enx, frn, fre, frs, frm, frf) v := by
  subst ev
  have hN := TT.1
  have c : (nI s).toNatClampNeg = s := nI_clamp (by omega)
  refine ⟨pk_in s 96 (by omega), nm_r (e' := sh s) (by rw [c]) ?_⟩
  rcases C.2.2.2.2 s hs hr with z | ⟨m, t, k, p, q, h1, h2, h3, h4⟩
  · refine br_t (by rw [z]; decide) (K0 fun ⟨k, a, b, ⟨m, t, p, q, g1, g2, g3, _⟩, _⟩ => ?_)
    have := fo_b TT g1 g2
    exact m1_n (by omega) (z.symm.trans g3)
  · have bt := fo_b TT h1 h2
    have G : tg_G N kd op sh r s k (r p) (r q) := ⟨m, t, p, q, h1, h2, h3, h4, rfl, rfl⟩
    refine br_f (by rw [h3]; exact nI_pos (by omega)) ⟨pk_in t 96 (by omega) h3, ?_⟩
    rw [h3, nI_clamp (by omega), (hsk _ _ _ _ _ h1 h2).1]
    refine pk_eq k 1 (fun e => K0 fun ⟨k', a, b, G', hk⟩ => ?_) (fun e => K1 ⟨k, _, _, G, by omega⟩)
    have := (tg_u TT G G').1
    omega
theorem xc_ps {post : Int32 → Prop} {N s : Nat} {r : Nat → Nat} {v : Int32} (TT : tm_T N kd ka kb up op)
    (hsk : ∀ n s k p q, n < N → fo_n kd op n s k p q → sk s = nI k ∧ f1 s = nI p ∧ f2 s = nI q) (C : ty_C N kd ka kb up op sh r) (hcl : ∀ s, s < 3 * N → cl s = nI (r s))
    (hse : ∀ t, t < 3 * N → se t = 0 ∨ se t = 1) (ev : v = nI s) (B : tg_B N kd op sh r s) (K1 : ac_P N kd op sh r se s → post 1) (K0 : ¬ ac_P N kd op sh r se s → post 0) : wpX_partsSettled post (ml, fl, cnt, pc, ifd, wt, rc, gw, ec, tp, vl, rm, ls, sp, md, hld, pk, kd, ka, kb, op, up, bd, pn, sk, f1, f2, lk, sh, cl, wa, wb, se, rg, hm, ra, ef, vi, la, sn, qn, qr, qe, qf, qs, al, enn, env, enx, frn, fre, frs, frm, frf) v := by
  subst ev
  have hN := TT.1
  obtain ⟨k, a, b, G, hk⟩ := B
  have gb := tg_b TT C G
  obtain ⟨m, t, p, q, h1, h2, h3, h4, ea, eb⟩ := id G
  have bt := fo_b TT h1 h2
  have c : (nI s).toNatClampNeg = s := nI_clamp (by omega)
  have cp : cl (f1 (nI t).toNatClampNeg).toNatClampNeg = nI a := by
    rw [nI_clamp (by omega), (hsk _ _ _ _ _ h1 h2).2.1, nI_clamp (by omega), hcl p (by omega), ea]
  have cq : cl (f2 (nI t).toNatClampNeg).toNatClampNeg = nI b := by
    rw [nI_clamp (by omega), (hsk _ _ _ _ _ h1 h2).2.2, nI_clamp (by omega), hcl q (by omega), eb]
  have ct : (nI t).toNatClampNeg = t := nI_clamp (by omega)
  have vp : vp_in (f1 (nI t).toNatClampNeg) 96 := pk_in p 96 (by omega) (by rw [ct]; exact (hsk _ _ _ _ _ h1 h2).2.1)
  have vq : vp_in (f2 (nI t).toNatClampNeg) 96 := pk_in q 96 (by omega) (by rw [ct]; exact (hsk _ _ _ _ _ h1 h2).2.2)
  refine ⟨pk_in s 96 (by omega), nm_r (e' := nI t) (by rw [c]; exact h3) ⟨pk_in t 96 (by omega), vp, pk_in a 96 (by omega) cp, ?_⟩⟩
  rw [cp, cq, nI_clamp (n := a) (by omega), nI_clamp (n := b) (by omega)]
  have un : ∀ {k' a' b'}, tg_G N kd op sh r s k' a' b' → a' = a ∧ b' = b := fun g => ⟨(tg_u TT g G).2.1, (tg_u TT g G).2.2⟩
  rcases hse a gb.2.1 with za | za
  · refine br_t za (K0 fun ⟨k', a', b', g, _, w, _⟩ => ?_)
    obtain ⟨rfl, rfl⟩ := un g
    exact absurd (za.symm.trans w) (by decide)
  · refine br_f (by rw [za]; decide) ⟨pk_in t 96 (by omega), vq, pk_in b 96 (by omega), ?_⟩
    rcases hse b gb.2.2.1 with zb | zb
    · refine br_t zb (K0 fun ⟨k', a', b', g, _, _, w⟩ => ?_)
      obtain ⟨rfl, rfl⟩ := un g
      exact absurd (zb.symm.trans w) (by decide)
    · exact br_f (by rw [zb]; decide) (K1 ⟨k, a, b, G, hk, za, zb⟩)
end
end
section
section
variable {ml fl cnt pc ifd wt rc gw ec tp : Int32} {vl : Int64} {rm ls sp md hld pk : Int32} {kd ka kb op up bd pn sk f1 f2 lk sh cl wa wb se rg hm : Nat → Int32} {ra ef vi la sn : Nat → Int64} {qn qr qe : Nat → Int32} {qf qs : Nat → Int64} {al enn : Nat → Int32} {env : Nat → Int64} {enx frn fre frs frm : Nat → Int32} {frf : Nat → Int64}
theorem xc_75 {post : Int32 → SX → Prop} {N x2 l0 : Nat} {r : Nat → Nat} {se0 : Nat → Int32} {J : Int32 → Int32 → (Nat → Int32) → (Nat → Int32) → (Nat → Int32) → (Nat → Int32) → (Nat → Int32) → (Nat → Int32) → (Nat → Int32) → (Nat → Int32) → (Nat → Int32) → (Nat → Int32) → (Nat → Int32) → (Nat → Int32) → (Nat → Int32) → (Nat → Int32) → (Nat → Int32) → (Nat → Int32) → (Nat → Int32) → (Nat → Int32) → (Nat → Int64) → (Nat → Int64) → (Nat → Int64) → (Nat → Int64) → (Nat → Int64) → (Nat → Int32) → (Nat → Int32) → (Nat → Int32) → (Nat → Int64) → (Nat → Int64) → (Nat → Int32) → (Nat → Int32) → (Nat → Int64) → (Nat → Int32) → (Nat → Int32) → (Nat → Int32) → (Nat → Int32) → (Nat → Int32) → (Nat → Int64) → Prop}
    (TT : tm_T N kd ka kb up op)
    (hsk : ∀ n s k p q, n < N → fo_n kd op n s k p q → sk s = nI k ∧ f1 s = nI p ∧ f2 s = nI q) (C : ty_C N kd ka kb up op sh r) (hcl : ∀ s, s < 3 * N → cl s = nI (r s))
    (K : ∀ (se : Nat → Int32) (l : Nat), ac_I N kd op sh r se → l = cn (fun t => se t = 0) (3 * N) → ((se = se0 ∧ ac_C N kd op sh r se0) ∨ (l < l0 ∧ ¬ ac_C N kd op sh r se0)) → J (nI l) (nI (x2 + 1)) kd ka kb op up bd pn sk f1 f2 lk sh cl wa wb se rg hm ra ef vi la sn qn qr qe qf qs al enn env enx frn fre frs frm frf) :
    ∀ (d s l : Nat) (se : Nat → Int32), ac_I N kd op sh r se → l = cn (fun t => se t = 0) (3 * N) →
      ((se = se0 ∧ ∀ t, t < s → se0 t = 0 → ¬ ac_P N kd op sh r se0 t) ∧ l ≤ l0 ∨ (l < l0 ∧ ¬ ac_C N kd op sh r se0)) → s ≤ 3 * N → 3 * N + 1 ≤ d + s →
      wX_acyclic_75 post J (nI x2) ml fl (nI N) pc ifd wt rc gw ec tp vl rm ls sp md hld pk d (nI l) (nI s) kd ka kb op up bd pn sk f1 f2 lk sh cl wa wb se rg hm ra ef vi la sn qn qr qe qf qs al enn env enx frn fre frs frm frf := by
  have hN := TT.1
  intro d
  induction d with
  | zero => intro s l se I hl h hs hd; omega
  | succ d ih =>
    intro s l se I hl h hs hd
    refine pk_le (3 * N) s (fun z => nm_r (e' := nI (x2 + 1)) (nI_1 x2) ?_) (fun z => ⟨pk_in s 96 (by omega), ?_⟩) (pk_mul 3 N)
    · have e : s = 3 * N := by omega
      subst e
      refine K se l I hl ?_
      rcases h with h | h
      · exact Or.inl ⟨h.1.1, h.1.2⟩
      · exact Or.inr h
    · have c : (nI s).toNatClampNeg = s := nI_clamp (by omega)
      rw [c]
      have h01 : ∀ t, t < 3 * N → se t = 0 ∨ se t = 1 := fun t ht => (I t ht).imp And.left And.left
      rcases I s z with ⟨i0, ir, iB⟩ | ⟨i1, iF⟩
      · refine br_t i0 (xc_ps TT hsk C hcl h01 rfl iB (fun P => br_f (by decide) ⟨pk_in s 96 (by omega), nm_r (e' := upd se s 1) rfl ?_⟩) (fun P => br_t rfl (nm_r (e' := nI (s + 1)) (nI_1 s) ?_)))
        · have lpos : 0 < l := by rw [hl]; exact ct_pos (P := fun t => se t = 0) i0 z
          have hl' : l - 1 = cn (fun t => upd se s 1 t = 0) (3 * N) := by
            have a := ct_del (P := fun t => se t = 0) i0 z
            have b : cn (fun k => se k = 0 ∧ k ≠ s) (3 * N) = cn (fun t => upd se s 1 t = 0) (3 * N) := by
              refine cn_eq fun t ht => ⟨fun w => by rw [pk_un w.2]; exact w.1, fun w => ?_⟩
              rcases Classical.em (t = s) with y | y
              · subst y
                rw [pk_us] at w
                exact absurd w (by decide)
              · rw [pk_un y] at w
                exact ⟨w, y⟩
            omega
          refine nm_r (e' := nI (l - 1)) (by obtain ⟨l', rfl⟩ : ∃ l', l = l' + 1 := ⟨l - 1, by omega⟩; exact pk_m1 l') (nm_r (e' := nI (s + 1)) (nI_1 s) ?_)
          refine ih (s + 1) (l - 1) _ (fun t ht => ?_) hl' (Or.inr ?_) (by omega) (by omega)
          · rcases Classical.em (t = s) with y | y
            · subst y
              refine Or.inr ⟨pk_us, fun _ => ?_⟩
              obtain ⟨k, a, b, G, hk, sa, sb⟩ := P
              have gb := tg_b TT C G
              have fa : ∀ u, u < 3 * N → r u = u → se u = 1 → fn_F N kd op sh r u := fun u hu ru su => by
                rcases I u hu with ⟨w, -⟩ | ⟨-, w⟩
                · exact absurd (w.symm.trans su) (by decide)
                · exact w ru
              exact (fn_c t z ir).2 k a b G hk (fa a gb.2.1 gb.2.2.2.1 sa) (fa b gb.2.2.1 gb.2.2.2.2.1 sb)
            · rw [pk_un y]
              exact I t ht
          · rcases h with h | h
            · refine ⟨by omega, fun cc => ?_⟩
              obtain ⟨⟨rfl, -⟩, -⟩ := h
              exact cc s z i0 P
            · exact ⟨by omega, h.2⟩
        · refine ih (s + 1) l se I hl ?_ (by omega) (by omega)
          rcases h with h | h
          · refine Or.inl ⟨⟨h.1.1, fun t ht e => ?_⟩, h.2⟩
            rcases Classical.em (t = s) with y | y
            · subst y
              rw [← h.1.1]
              exact P
            · exact h.1.2 t (by omega) e
          · exact Or.inr h
      · refine br_f (by rw [i1]; decide) (nm_r (e' := nI (s + 1)) (nI_1 s) ?_)
        refine ih (s + 1) l se I hl ?_ (by omega) (by omega)
        rcases h with h | h
        · refine Or.inl ⟨⟨h.1.1, fun t ht e => ?_⟩, h.2⟩
          rcases Classical.em (t = s) with y | y
          · subst y
            rw [← h.1.1] at e
            exact absurd (e.symm.trans i1) (by decide)
          · exact h.1.2 t (by omega) e
        · exact Or.inr h
theorem xc_63 {post : Int32 → SX → Prop} {N : Nat} {r : Nat → Nat}
    (TT : tm_T N kd ka kb up op)
    (hsk : ∀ n s k p q, n < N → fo_n kd op n s k p q → sk s = nI k ∧ f1 s = nI p ∧ f2 s = nI q) (C : ty_C N kd ka kb up op sh r) (hcl : ∀ s, s < 3 * N → cl s = nI (r s))
    (K1 : ∀ se', (∀ s, s < 3 * N → r s = s → fn_F N kd op sh r s) → post 1 (ml, fl, nI N, pc, ifd, wt, rc, gw, ec, tp, vl, rm, ls, sp, md, hld, pk, kd, ka, kb, op, up, bd, pn, sk, f1, f2, lk, sh, cl, wa, wb, se', rg, hm, ra, ef, vi, la, sn, qn, qr, qe, qf, qs, al, enn, env, enx, frn, fre, frs, frm, frf))
    (K0 : ∀ se', (∃ s, s < 3 * N ∧ r s = s ∧ ¬ fn_F N kd op sh r s) → post 0 (ml, fl, nI N, pc, ifd, wt, rc, gw, ec, tp, vl, rm, ls, sp, md, hld, pk, kd, ka, kb, op, up, bd, pn, sk, f1, f2, lk, sh, cl, wa, wb, se', rg, hm, ra, ef, vi, la, sn, qn, qr, qe, qf, qs, al, enn, env, enx, frn, fre, frs, frm, frf)) :
    ∀ (d i l : Nat) (se : Nat → Int32), ac_I N kd op sh r se → l = cn (fun t => se t = 0) (3 * N) → (ac_C N kd op sh r se ∨ l + i ≤ 96) → i ≤ 96 → 97 ≤ d + i →
      wX_acyclic_63 post ml fl (nI N) pc ifd wt rc gw ec tp vl rm ls sp md hld pk d (nI l) (nI i) kd ka kb op up bd pn sk f1 f2 lk sh cl wa wb se rg hm ra ef vi la sn qn qr qe qf qs al enn env enx frn fre frs frm frf := by
  have hN := TT.1
  have fin0 : ∀ (se : Nat → Int32), ac_I N kd op sh r se → 0 = cn (fun t => se t = 0) (3 * N) → post 1 (ml, fl, nI N, pc, ifd, wt, rc, gw, ec, tp, vl, rm, ls, sp, md, hld, pk, kd, ka, kb, op, up, bd, pn, sk, f1, f2, lk, sh, cl, wa, wb, se, rg, hm, ra, ef, vi, la, sn, qn, qr, qe, qf, qs, al, enn, env, enx, frn, fre, frs, frm, frf) := by
    intro se I hl
    refine K1 se fun s hs hr => ?_
    rcases I s hs with ⟨w, -⟩ | ⟨-, w⟩
    · have := ct_pos (P := fun t => se t = 0) w hs
      omega
    · exact w hr
  have fin1 : ∀ (se : Nat → Int32) (l : Nat), ac_I N kd op sh r se → l = cn (fun t => se t = 0) (3 * N) → 0 < l → ac_C N kd op sh r se → post 0 (ml, fl, nI N, pc, ifd, wt, rc, gw, ec, tp, vl, rm, ls, sp, md, hld, pk, kd, ka, kb, op, up, bd, pn, sk, f1, f2, lk, sh, cl, wa, wb, se, rg, hm, ra, ef, vi, la, sn, qn, qr, qe, qf, qs, al, enn, env, enx, frn, fre, frs, frm, frf) := by
    intro se l I hl h0 cc
    obtain ⟨s, hs, e⟩ := ct_ex (P := fun t => se t = 0) (N := 3 * N) (by omega)
    have e0 : se s = 0 := e
    rcases I s hs with ⟨-, ir, -⟩ | ⟨w, -⟩
    · refine K0 se ⟨s, hs, ir, fun F => ?_⟩
      have := F (fun u => se u = 1) (fun u hu ru => ⟨fun nb => ?_, fun k a b G hk ha hb => ?_⟩)
      · exact absurd (e0.symm.trans this) (by decide)
      · rcases I u hu with ⟨-, -, w⟩ | ⟨w, -⟩
        · exact absurd w nb
        · exact w
      · rcases I u hu with ⟨w, -⟩ | ⟨w, -⟩
        · exact absurd ⟨k, a, b, G, hk, ha, hb⟩ (cc u hu w)
        · exact w
    · exact absurd (e0.symm.trans w) (by decide)
  intro d
  induction d with
  | zero => intro i l se I hl h hi hd; omega
  | succ d ih =>
    intro i l se I hl h hi hd
    have ln : l ≤ 3 * N := by rw [hl]; exact cn_le _ _
    refine pk_le 96 i (fun z => ?_) (fun z => ?_)
    · unfold wX_acyclic_124
      refine pk_eq l 0 (fun e => ?_) (fun e => ?_)
      · subst e
        exact fin0 se I hl
      · rcases h with h | h
        · exact fin1 se l I hl (by omega) h
        · omega
    · refine pk_le l 0 (fun e => ?_) (fun e => ?_)
      · have e' : l = 0 := by omega
        subst e'
        unfold wX_acyclic_124
        exact br_t rfl (fin0 se I hl)
      · refine ⟨3 * N + 1, xc_75 (se0 := se) (l0 := l) TT hsk C hcl (fun se' l' I' hl' h' => ?_) (3 * N + 1) 0 l se I hl (Or.inl ⟨⟨rfl, fun t ht => absurd ht (by omega)⟩, by omega⟩) (by omega) (by omega)⟩
        refine ih (i + 1) l' se' I' hl' ?_ (by omega) (by omega)
        rcases h' with ⟨rfl, cc⟩ | ⟨lt, ncc⟩
        · exact Or.inl cc
        · rcases h with h | h
          · exact absurd h ncc
          · exact Or.inr (by omega)
theorem xc_4 {post : Int32 → SX → Prop} {N : Nat} {r : Nat → Nat}
    (TT : tm_T N kd ka kb up op)
    (hsk : ∀ n s k p q, n < N → fo_n kd op n s k p q → sk s = nI k ∧ f1 s = nI p ∧ f2 s = nI q) (C : ty_C N kd ka kb up op sh r) (hcl : ∀ s, s < 3 * N → cl s = nI (r s))
    (K1 : ∀ se', (∀ s, s < 3 * N → r s = s → fn_F N kd op sh r s) → post 1 (ml, fl, nI N, pc, ifd, wt, rc, gw, ec, tp, vl, rm, ls, sp, md, hld, pk, kd, ka, kb, op, up, bd, pn, sk, f1, f2, lk, sh, cl, wa, wb, se', rg, hm, ra, ef, vi, la, sn, qn, qr, qe, qf, qs, al, enn, env, enx, frn, fre, frs, frm, frf))
    (K0 : ∀ se', (∃ s, s < 3 * N ∧ r s = s ∧ ¬ fn_F N kd op sh r s) → post 0 (ml, fl, nI N, pc, ifd, wt, rc, gw, ec, tp, vl, rm, ls, sp, md, hld, pk, kd, ka, kb, op, up, bd, pn, sk, f1, f2, lk, sh, cl, wa, wb, se', rg, hm, ra, ef, vi, la, sn, qn, qr, qe, qf, qs, al, enn, env, enx, frn, fre, frs, frm, frf)) :
    ∀ (d s l : Nat) (se : Nat → Int32), (∀ t, t < s → (se t = 0 ∧ r t = t ∧ tg_B N kd op sh r t) ∨ (se t = 1 ∧ (r t = t → fn_F N kd op sh r t))) → l = cn (fun t => se t = 0) s → s ≤ 3 * N → 3 * N + 1 ≤ d + s →
      wX_acyclic_4 post ml fl (nI N) pc ifd wt rc gw ec tp vl rm ls sp md hld pk d (nI l) (nI s) kd ka kb op up bd pn sk f1 f2 lk sh cl wa wb se rg hm ra ef vi la sn qn qr qe qf qs al enn env enx frn fre frs frm frf := by
  have hN := TT.1
  intro d
  induction d with
  | zero => intro s l se I hl hs hd; omega
  | succ d ih =>
    intro s l se I hl hs hd
    refine pk_le (3 * N) s (fun z => ?_) (fun z => ⟨pk_in s 96 (by omega), ?_⟩) (pk_mul 3 N)
    · have e : s = 3 * N := by omega
      subst e
      have ln : l ≤ 3 * N := by rw [hl]; exact cn_le _ _
      exact ⟨97, xc_63 TT hsk C hcl K1 K0 97 0 l se I hl (Or.inr (by omega)) (by omega) (by omega)⟩
    · have c : (nI s).toNatClampNeg = s := nI_clamp (by omega)
      rw [c, hcl s z]
      have rs := C.1 s z
      have one : (r s = s → fn_F N kd op sh r s) → wX_acyclic_37 post (wX_acyclic_4 post ml fl (nI N) pc ifd wt rc gw ec tp vl rm ls sp md hld pk d) (nI l) (nI s) (nI s) ml fl (nI N) pc ifd wt rc gw ec tp vl rm ls sp md hld pk kd ka kb op up bd pn sk f1 f2 lk sh cl wa wb se rg hm ra ef vi la sn qn qr qe qf qs al enn env enx frn fre frs frm frf := by
        intro hf
        unfold wX_acyclic_37 wX_acyclic_42
        refine ⟨pk_in s 96 (by omega), nm_r (e' := upd se s 1) (by rw [c]; rfl) ⟨pk_in s 96 (by omega), ?_⟩⟩
        rw [c, show upd se s 1 s = 1 from pk_us]
        refine br_f (by decide) (nm_r (e' := nI (s + 1)) (nI_1 s) ?_)
        refine ih (s + 1) l _ (fun t ht => ?_) ?_ (by omega) (by omega)
        · rcases Classical.em (t = s) with y | y
          · subst y
            exact Or.inr ⟨pk_us, hf⟩
          · rw [pk_un y]
            exact I t (by omega)
        · show l = cn (fun t => upd se s 1 t = 0) s + b01 (upd se s 1 s = 0)
          rw [b01_f (by rw [pk_us]; decide), hl]
          exact cn_eq fun t ht => by rw [pk_un (by omega)]
      rcases Classical.em (r s = s) with hr | hr
      · refine br_t (congrArg nI hr) (xc_box TT hsk C z hr rfl (fun B => br_f (by decide) ?_) (fun B => br_t rfl (one fun _ => (fn_c s z hr).1 B)))
        unfold wX_acyclic_42
        refine ⟨pk_in s 96 (by omega), nm_r (e' := upd se s 0) (by rw [c]; rfl) ⟨pk_in s 96 (by omega), ?_⟩⟩
        rw [c, show upd se s 0 s = 0 from pk_us]
        refine br_t rfl (nm_r (e' := nI (l + 1)) (nI_1 l) (nm_r (e' := nI (s + 1)) (nI_1 s) ?_))
        refine ih (s + 1) (l + 1) _ (fun t ht => ?_) ?_ (by omega) (by omega)
        · rcases Classical.em (t = s) with y | y
          · subst y
            exact Or.inl ⟨pk_us, hr, B⟩
          · rw [pk_un y]
            exact I t (by omega)
        · show l + 1 = cn (fun t => upd se s 0 t = 0) s + b01 (upd se s 0 s = 0)
          rw [b01_t pk_us, hl]
          exact congrArg (· + 1) (cn_eq fun t ht => by rw [pk_un (by omega)])
      · exact br_f (fun e => hr ((nI_eq (by omega) (by omega)).mp e)) (one fun e => absurd e hr)
theorem xc_all {post : Int32 → SX → Prop} {N : Nat} {r : Nat → Nat}
    (TT : tm_T N kd ka kb up op)
    (hsk : ∀ n s k p q, n < N → fo_n kd op n s k p q → sk s = nI k ∧ f1 s = nI p ∧ f2 s = nI q) (C : ty_C N kd ka kb up op sh r) (hcl : ∀ s, s < 3 * N → cl s = nI (r s))
    (K1 : ∀ se', (∀ s, s < 3 * N → r s = s → fn_F N kd op sh r s) → post 1 (ml, fl, nI N, pc, ifd, wt, rc, gw, ec, tp, vl, rm, ls, sp, md, hld, pk, kd, ka, kb, op, up, bd, pn, sk, f1, f2, lk, sh, cl, wa, wb, se', rg, hm, ra, ef, vi, la, sn, qn, qr, qe, qf, qs, al, enn, env, enx, frn, fre, frs, frm, frf))
    (K0 : ∀ se', (∃ s, s < 3 * N ∧ r s = s ∧ ¬ fn_F N kd op sh r s) → post 0 (ml, fl, nI N, pc, ifd, wt, rc, gw, ec, tp, vl, rm, ls, sp, md, hld, pk, kd, ka, kb, op, up, bd, pn, sk, f1, f2, lk, sh, cl, wa, wb, se', rg, hm, ra, ef, vi, la, sn, qn, qr, qe, qf, qs, al, enn, env, enx, frn, fre, frs, frm, frf)) : wpX_acyclic post (ml, fl, nI N, pc, ifd, wt, rc, gw, ec, tp, vl, rm, ls, sp, md, hld, pk, kd, ka, kb, op, up, bd, pn, sk, f1, f2, lk, sh, cl, wa, wb, se, rg, hm, ra, ef, vi, la, sn, qn, qr, qe, qf, qs, al, enn, env, enx, frn, fre, frs, frm, frf) :=
  ⟨3 * N + 1, xc_4 TT hsk C hcl K1 K0 (3 * N + 1) 0 0 se (fun t ht => absurd ht (by omega)) rfl (by omega) (by omega)⟩
end
end
section
/-- the stack of pending nodes -/
def pd_P (pn : Nat → Int32) (j : Nat) : Nat := (pn j).toNatClampNeg
def pd_I (N : Nat) (up pn : Nat → Int32) (c : Nat) : Prop :=
  (∀ j, j < c → pn j = nI (pd_P pn j) ∧ pd_P pn j < N ∧ up (pd_P pn j) = -1) ∧ (∀ i j, i < j → j < c → pd_P pn i < pd_P pn j) ∧ (∀ m, m < N → up m = -1 → ∃ j, j < c ∧ m = pd_P pn j)
def yo_o (kd op : Nat → Int32) (n i : Nat) : Nat := if i < tm_ar (kd n) then tm_c op n i else n
section
variable {ml fl cnt ls sp md pk fnd ifd : Int32} {kd ka kb up ow o1 o2 yc ck p1 p2 yh fi fa ynd clr mrk vla evl ndd icl ecl mkr cvl al cis : Nat → Int32} {nf : Nat}
variable {op : Nat → Int32}
theorem yo_5 {post : Int32 → Prop} {N n i : Nat} (TT : tm_T N kd ka kb up op) (hn : n < N) (hi : i < 3) (K : post (nI (yo_o kd op n i))) :
    ∀ (d m j : Nat), j ≤ i → j ≤ tm_ar (kd n) → (∀ j', j' < j → tm_c op n j' < m) → (∀ j', j ≤ j' → j' < tm_ar (kd n) → m ≤ tm_c op n j') → m ≤ n → n + 1 ≤ d + m → wY_operand_5 post (nI n) ml fl cnt ls sp md pk fnd ifd kd ka kb up ow o1 o2 yc ck p1 p2 yh fi fa ynd clr mrk vla evl ndd icl ecl mkr cvl al cis nf d (nI (i - j)) (nI m) := by
  have hN := TT.1
  obtain ⟨o1, o2, o3, -⟩ := TT.2.2.2.1
  intro d
  induction d with
  | zero => intro m j _ _ _ _ h1 h2; omega
  | succ d ih =>
    intro m j hji hja hlo hhi hm hd
    refine pk_le n m (fun z => ?_) (fun z => ⟨pk_in m 32 (by omega), ?_⟩)
    · have e : yo_o kd op n i = n := by
        unfold yo_o
        rw [if_neg]
        intro w
        have a := hhi i hji w
        have b := (o1 n i hn w).2.1
        omega
      rw [e] at K
      exact K
    · have c : (nI m).toNatClampNeg = m := nI_clamp (by omega)
      rw [c]
      rcases Classical.em (up m = nI n) with hu | hu
      · obtain ⟨j', hj', e⟩ := o3 n m hn (by omega) hu
        have ej : j' = j := by
          rcases Nat.lt_trichotomy j' j with w | w | w
          · have := hlo j' w
            omega
          · exact w
          · have a := hhi j (Nat.le_refl _) (by omega)
            have b := o2 n j j' hn w hj'
            omega
        subst ej
        refine br_t hu (nm_e ?_)
        refine pk_eq (i - j') 0 (fun e0 => ?_) (fun e0 => nm_r (e' := nI (m + 1)) (nI_1 m) ?_)
        · have e1 : j' = i := by omega
          subst e1
          have e2 : yo_o kd op n j' = m := by
            unfold yo_o
            rw [if_pos hj', e]
          rw [e2] at K
          exact K
        · have e3 : nI (i - j') + (-1) = nI (i - (j' + 1)) := by
            obtain ⟨q, hq⟩ : ∃ q, i - j' = q + 1 := ⟨i - j' - 1, by omega⟩
            rw [hq, pk_m1]
            exact congrArg nI (by omega)
          rw [e3]
          refine ih (m + 1) (j' + 1) (by omega) (by omega) (fun k hk => ?_) (fun k hk hk2 => ?_) (by omega) (by omega)
          · rcases Classical.em (k = j') with w | w
            · subst w; omega
            · have := hlo k (by omega)
              omega
          · have := o2 n j' k hn (by omega) hk2
            omega
      · refine br_f hu (nm_r (e' := nI (m + 1)) (nI_1 m) ?_)
        refine ih (m + 1) j hji hja (fun k hk => by have := hlo k hk; omega) (fun k hk hk2 => ?_) (by omega) (by omega)
        have a := hhi k hk hk2
        rcases Nat.lt_or_ge m (tm_c op n k) with w | w
        · omega
        · have e : m = tm_c op n k := by omega
          rw [e] at hu
          exact absurd (o1 n k hn hk2).2.2 hu
theorem yo_op {post : Int32 → Prop} {N n i : Nat} {v w : Int32} (TT : tm_T N kd ka kb up op) (hn : n < N) (hi : i < 3) (ev : v = nI n) (ew : w = nI i) (K : post (nI (yo_o kd op n i))) : wpY_operand post (ml, fl, cnt, ls, sp, md, pk, fnd, ifd, kd, ka, kb, up, ow, o1, o2, yc, ck, p1, p2, yh, fi, fa, ynd, clr, mrk, vla, evl, ndd, icl, ecl, mkr, cvl, al, cis, nf) v w := by
  subst ev ew
  exact ⟨n + 1, yo_5 TT hn hi K (n + 1) 0 0 (by omega) (by omega) (fun _ h => absurd h (by omega)) (fun _ _ _ => by omega) (by omega) (by omega)⟩
theorem yw_34 {post : Int32 → Prop} {x2 x3 : Int32} (K1 : x3 = x2 → post 1) (K0 : ¬ x3 = x2 → post 0) : wY_within_34 post x2 x3 ml fl cnt ls sp md pk fnd ifd kd ka kb up ow o1 o2 yc ck p1 p2 yh fi fa ynd clr mrk vla evl ndd icl ecl mkr cvl al cis nf := br_c K1 K0
theorem yw_5 {post : Int32 → Prop} {N m n : Nat} (TT : tm_T N kd ka kb up op) (hn : n < N) (K1 : re_R up m n → post 1) (K0 : ¬ re_R up m n → post 0) :
    ∀ (d i : Nat) (p : Int32), ((p = -1 ∧ ¬ re_R up m n) ∨ ∃ q, p = nI q ∧ i ≤ q ∧ q < N ∧ (re_R up m n ↔ re_R up q n)) → i ≤ 32 → 33 ≤ d + i → wY_within_5 post (nI n) ml fl cnt ls sp md pk fnd ifd kd ka kb up ow o1 o2 yc ck p1 p2 yh fi fa ynd clr mrk vla evl ndd icl ecl mkr cvl al cis nf d p (nI i) := by
  have hN := TT.1
  intro d
  induction d with
  | zero => intro i p _ h1 h2; omega
  | succ d ih =>
    intro i p I h1 h2
    rcases I with ⟨rfl, hno⟩ | ⟨q, rfl, hiq, hq, hr⟩
    · have k : wY_within_34 post (nI n) (-1) ml fl cnt ls sp md pk fnd ifd kd ka kb up ow o1 o2 yc ck p1 p2 yh fi fa ynd clr mrk vla evl ndd icl ecl mkr cvl al cis nf := yw_34 (fun e => absurd e (m1_n (by omega))) (fun _ => K0 hno)
      exact br_c (fun _ => k) (fun _ => br_t (by decide) k)
    · refine br_f (nI_ge (b := 32) (by omega) (by omega)) (br_f (nI_pos (by omega)) ?_)
      refine pk_eq q n (fun e => ?_) (fun e => ⟨pk_in q 32 (by omega), nm_r (e' := up q) (by rw [nI_clamp (by omega)]) (nm_r (e' := nI (i + 1)) (nI_1 i) ?_)⟩)
      · subst e
        exact yw_34 (fun _ => K1 (hr.mpr re_rf)) (fun z => absurd rfl z)
      · refine ih (i + 1) (up q) ?_ (by omega) (by omega)
        rcases TT.2.2.1 q hq with z | ⟨p, e1, e2, e3⟩
        · exact Or.inl ⟨z, fun w => e (re_no z (hr.mp w))⟩
        · exact Or.inr ⟨p, e3, by omega, e2, ⟨fun w => re_up (by omega) e3 (hr.mp w) e, fun w => hr.mpr (re_st (by omega) e3 w)⟩⟩
theorem yw_in {post : Int32 → Prop} {N m n : Nat} {v w : Int32} (TT : tm_T N kd ka kb up op) (hm : m < N) (hn : n < N) (ev : v = nI m) (ew : w = nI n) (K1 : re_R up m n → post 1) (K0 : ¬ re_R up m n → post 0) : wpY_within post (ml, fl, cnt, ls, sp, md, pk, fnd, ifd, kd, ka, kb, up, ow, o1, o2, yc, ck, p1, p2, yh, fi, fa, ynd, clr, mrk, vla, evl, ndd, icl, ecl, mkr, cvl, al, cis, nf) v w := by
  subst ev ew
  exact ⟨33, yw_5 TT hn K1 K0 33 0 (nI m) (Or.inr ⟨m, rfl, by omega, hm, Iff.rfl⟩) (by omega) (by omega)⟩
theorem yb_4 {post : Int32 → Prop} {N v : Nat} (TT : tm_T N kd ka kb up op) (hv : v < N)
    (K : ∀ b, ((b = -1 ∧ ∀ f, ¬ bn_B kd ka kb up v (ka v) f) ∨ ∃ f, bn_B kd ka kb up v (ka v) f ∧ b = nI f) → post b) :
    ∀ (d f : Nat), v < f → (∀ g, g < f → re_R up v g → g ≠ v → ¬ bn_M kd ka kb (ka v) g) → f ≤ N → N + 1 ≤ d + f → wY_binder_4 post (nI v) ml fl (nI N) ls sp md pk fnd ifd kd ka kb up ow o1 o2 yc ck p1 p2 yh fi fa ynd clr mrk vla evl ndd icl ecl mkr cvl al cis nf d (nI f) := by
  have hN := TT.1
  intro d
  induction d with
  | zero => intro f _ _ h1 h2; omega
  | succ d ih =>
    intro f hvf hno hf hd
    refine pk_le N f (fun z => ?_) (fun z => ⟨pk_in f 32 (by omega), ?_⟩)
    · exact K (-1) (Or.inl ⟨rfl, fun g hg => hno g (by have := bn_gt hN TT.2.2.1 hv hg; omega) hg.1 hg.2.1 hg.2.2.1⟩)
    · have cf : (nI f).toNatClampNeg = f := nI_clamp (by omega)
      have cv : (nI v).toNatClampNeg = v := nI_clamp (by omega)
      have vf : vp_in (nI f) 32 := pk_in f 32 (by omega)
      have vv : vp_in (nI v) 32 := pk_in v 32 (by omega)
      rw [cf, cv]
      have nxt : (re_R up v f → ¬ bn_M kd ka kb (ka v) f) → wY_binder_4 post (nI v) ml fl (nI N) ls sp md pk fnd ifd kd ka kb up ow o1 o2 yc ck p1 p2 yh fi fa ynd clr mrk vla evl ndd icl ecl mkr cvl al cis nf d (nI (f + 1)) := by
        intro h
        refine ih (f + 1) (by omega) (fun g hg hr hne => ?_) (by omega) (by omega)
        rcases Classical.em (g = f) with w | w
        · subst w; exact h hr
        · exact hno g (by omega) hr hne
      have fin : bn_M kd ka kb (ka v) f → wY_binder_52 post (wY_binder_4 post (nI v) ml fl (nI N) ls sp md pk fnd ifd kd ka kb up ow o1 o2 yc ck p1 p2 yh fi fa ynd clr mrk vla evl ndd icl ecl mkr cvl al cis nf d) (nI v) (nI f) ml fl (nI N) ls sp md pk fnd ifd kd ka kb up ow o1 o2 yc ck p1 p2 yh fi fa ynd clr mrk vla evl ndd icl ecl mkr cvl al cis nf := by
        intro hm
        unfold wY_binder_52
        refine yw_in TT hv z rfl rfl (fun hr => br_f (by decide) (K (nI f) (Or.inr ⟨f, ⟨hr, by omega, hm, fun g a b c => ?_⟩, rfl⟩))) (fun hr => br_t rfl (nm_r (e' := nI (f + 1)) (nI_1 f) (nxt fun w => absurd w hr)))
        rcases Nat.lt_or_ge g f with w | w
        · exact absurd c (hno g w a b)
        · exact w
      rcases Classical.em (kd f = 2) with k2 | k2
      · refine br_t k2 ⟨vf, vv, ?_⟩
        rcases Classical.em (ka f = ka v) with a | a
        · exact br_t a (fin ⟨k2, Or.inl a⟩)
        · refine br_f a ⟨vf, vv, ?_⟩
          rcases Classical.em (kb f = ka v) with b | b
          · exact br_t b (fin ⟨k2, Or.inr b⟩)
          · exact br_f b (nm_r (e' := nI (f + 1)) (nI_1 f) (nxt fun _ w => w.2.elim a b))
      · exact br_f k2 (nm_r (e' := nI (f + 1)) (nI_1 f) (nxt fun _ w => k2 w.1))
theorem yb_of {post : Int32 → Prop} {N v : Nat} {x : Int32} (TT : tm_T N kd ka kb up op) (hv : v < N) (ex : x = nI v)
    (K : ∀ b, ((b = -1 ∧ ∀ f, ¬ bn_B kd ka kb up v (ka v) f) ∨ ∃ f, bn_B kd ka kb up v (ka v) f ∧ b = nI f) → post b) : wpY_binder post (ml, fl, nI N, ls, sp, md, pk, fnd, ifd, kd, ka, kb, up, ow, o1, o2, yc, ck, p1, p2, yh, fi, fa, ynd, clr, mrk, vla, evl, ndd, icl, ecl, mkr, cvl, al, cis, nf) x := by
  subst ex
  have hN := TT.1
  exact nm_r (e' := nI (v + 1)) (nI_1 v) ⟨N + 1, yb_4 TT hv K (N + 1) (v + 1) (by omega) (fun g hg hr hne => by have := re_lt hN TT.2.2.1 hv hr; omega) (by omega) (by omega)⟩
theorem ya_ar {post : Int32 → Prop} {k : Int32} (hk : tm_K k) (K : post (nI (tm_ar k))) : wpY_arity post (ml, fl, cnt, ls, sp, md, pk, fnd, ifd, kd, ka, kb, up, ow, o1, o2, yc, ck, p1, p2, yh, fi, fa, ynd, clr, mrk, vla, evl, ndd, icl, ecl, mkr, cvl, al, cis, nf) k := by
  rcases hk with rfl | rfl | rfl | rfl | rfl | rfl | rfl | rfl | rfl
  · exact br_f (by decide) K
  · exact br_f (by decide) K
  · exact br_t (by decide) (br_t rfl K)
  · exact br_t (by decide) (br_f (by decide) (br_f (by decide) (br_f (by decide) (br_f (by decide) K))))
  · exact br_t (by decide) (br_f (by decide) (br_f (by decide) (br_f (by decide) (br_f (by decide) K))))
  · exact br_t (by decide) (br_f (by decide) (br_t rfl K))
  · exact br_t (by decide) (br_f (by decide) (br_f (by decide) (br_t rfl K)))
  · exact br_t (by decide) (br_f (by decide) (br_f (by decide) (br_f (by decide) (br_t rfl K))))
  · exact br_t (by decide) (br_f (by decide) (br_f (by decide) (br_f (by decide) (br_f (by decide) K))))
theorem yp_4 {post : Int32 → Prop} {N c : Nat} {pn : Nat → Int32} (hN : N ≤ 32) (U : tm_up N up) (P : pd_I N up pn c) (K : post (nI c)) :
    ∀ (d m j : Nat), j ≤ c → (∀ i, i < j → pd_P pn i < m) → (∀ i, j ≤ i → i < c → m ≤ pd_P pn i) → m ≤ N → N + 1 ≤ d + m → wY_pending_4 post ml fl (nI N) ls sp md pk fnd ifd kd ka kb up ow o1 o2 yc ck p1 p2 yh fi fa ynd clr mrk vla evl ndd icl ecl mkr cvl al cis nf d (nI j) (nI m) := by
  intro d
  induction d with
  | zero => intro m j _ _ _ h1 h2; omega
  | succ d ih =>
    intro m j hj hlo hhi hm hd
    refine pk_le N m (fun z => ?_) (fun z => ⟨pk_in m 32 (by omega), ?_⟩)
    · have e : j = c := by
        rcases Nat.lt_or_ge j c with w | w
        · have a := hhi j (Nat.le_refl _) w
          have b := (P.1 j w).2.1
          omega
        · omega
      subst e
      exact K
    · have cm : (nI m).toNatClampNeg = m := nI_clamp (by omega)
      rw [cm]
      rcases U m z with e | ⟨p, e1, e2, e3⟩
      · obtain ⟨j', hj', e'⟩ := P.2.2 m z e
        have ej : j' = j := by
          rcases Nat.lt_trichotomy j' j with w | w | w
          · have := hlo j' w
            omega
          · exact w
          · have a := hhi j (Nat.le_refl _) (by omega)
            have b := P.2.1 j j' w hj'
            omega
        subst ej
        refine br_f (by rw [e]; decide) (nm_r (e' := nI (j' + 1)) (nI_1 j') (nm_r (e' := nI (m + 1)) (nI_1 m) ?_))
        refine ih (m + 1) (j' + 1) (by omega) (fun k hk => ?_) (fun k hk hk2 => ?_) (by omega) (by omega)
        · rcases Classical.em (k = j') with w | w
          · subst w; omega
          · have := hlo k (by omega)
            omega
        · have := P.2.1 j' k (by omega) hk2
          omega
      · refine br_t (by rw [e3]; exact nI_pos' (by omega)) (nm_r (e' := nI (m + 1)) (nI_1 m) ?_)
        refine ih (m + 1) j hj (fun k hk => by have := hlo k hk; omega) (fun k hk hk2 => ?_) (by omega) (by omega)
        have a := hhi k hk hk2
        rcases Nat.lt_or_ge m (pd_P pn k) with w | w
        · omega
        · have e : m = pd_P pn k := by omega
          have b := (P.1 k hk2).2.2
          rw [← e] at b
          exact absurd (b.symm.trans e3) (m1_n (by omega))
theorem yp_pe {post : Int32 → Prop} {N c : Nat} {pn : Nat → Int32} (hN : N ≤ 32) (U : tm_up N up) (P : pd_I N up pn c) (K : post (nI c)) : wpY_pending post (ml, fl, nI N, ls, sp, md, pk, fnd, ifd, kd, ka, kb, up, ow, o1, o2, yc, ck, p1, p2, yh, fi, fa, ynd, clr, mrk, vla, evl, ndd, icl, ecl, mkr, cvl, al, cis, nf) :=
  ⟨N + 1, yp_4 hN U P K (N + 1) 0 0 (by omega) (fun _ h => absurd h (by omega)) (fun _ _ _ => by omega) (by omega) (by omega)⟩
end
end
section
/-- the reference's number of a slot -/
def ys_s (s : Nat) : Nat := 32 * (s % 3) + s / 3
theorem ys_0 (n : Nat) : ys_s (3 * n) = n := by unfold ys_s; omega
theorem ys_1 (n : Nat) : ys_s (3 * n + 1) = 32 + n := by unfold ys_s; omega
theorem ys_2 (n : Nat) : ys_s (3 * n + 2) = 64 + n := by unfold ys_s; omega
theorem ys_lt {s : Nat} (h : s < 96) : ys_s s < 96 := by unfold ys_s; omega
theorem ys_in {s t : Nat} (h : s < 96) (h2 : t < 96) (e : ys_s s = ys_s t) : s = t := by unfold ys_s at e; omega
theorem ys_ex {u : Nat} (h : u < 96) : ∃ s, s < 96 ∧ ys_s s = u := ⟨3 * (u % 32) + u / 32, by omega, by unfold ys_s; omega⟩
/-- the reference's classes: c is the label -/
def ym_L (c : Nat → Nat) (yc : Nat → Int32) : Prop := ∀ s, s < 96 → c s < 96 ∧ yc s = nI (c s) ∧ c (c s) = c s
def ym_S (N : Nat) (kd ka kb up op : Nat → Int32) (c : Nat → Nat) : Prop := ∀ s t, s < 96 → t < 96 → c (ys_s s) = c (ys_s t) → le_R N kd ka kb up op s t
theorem ym_sm {N : Nat} {kd ka kb up op : Nat → Int32} {c : Nat → Nat} {a b : Nat} (S : ym_S N kd ka kb up op c) (ha : a < 96) (hb : b < 96) (hle : le_R N kd ka kb up op a b) : ym_S N kd ka kb up op (um_r c (c (ys_s a)) (c (ys_s b))) := by
  intro s t hs ht h
  have L := le_c (N := N) (kd := kd) (ka := ka) (kb := kb) (up := up) (op := op)
  have key : ∀ u, u < 96 → (c (ys_s u) = c (ys_s b) ∨ c (ys_s u) = c (ys_s a) → le_R N kd ka kb up op u a) := by
    intro u hu z
    rcases z with z | z
    · exact L.2.2.1 u b a (S u b hu hb z) (L.2.1 _ _ hle)
    · exact S u a hu ha z
  unfold um_r at h
  rcases Classical.em (c (ys_s s) = c (ys_s b)) with z | z
  · rw [if_pos z] at h
    rcases Classical.em (c (ys_s t) = c (ys_s b)) with w | w
    · exact L.2.2.1 s a t (key s hs (Or.inl z)) (L.2.1 _ _ (key t ht (Or.inl w)))
    · rw [if_neg w] at h
      exact L.2.2.1 s a t (key s hs (Or.inl z)) (L.2.1 _ _ (key t ht (Or.inr h.symm)))
  · rw [if_neg z] at h
    rcases Classical.em (c (ys_s t) = c (ys_s b)) with w | w
    · rw [if_pos w] at h
      exact L.2.2.1 s a t (key s hs (Or.inr h)) (L.2.1 _ _ (key t ht (Or.inl w)))
    · rw [if_neg w] at h
      exact S s t hs ht h
noncomputable def ym_N (c : Nat → Nat) : Nat := cn (fun s => c s = s) 96
/-- one merge: coarser, x and y together, sound if they were asked; and b tells whether it was a new one -/
def ym_P (N : Nat) (kd ka kb up op : Nat → Int32) (c : Nat → Nat) (a b : Nat) (yc' : Nat → Int32) (c' : Nat → Nat) (v : Int32) : Prop :=
  ym_L c' yc' ∧ (∀ s t, c s = c t → c' s = c' t) ∧ c' (ys_s a) = c' (ys_s b) ∧ (ym_S N kd ka kb up op c → le_R N kd ka kb up op a b → ym_S N kd ka kb up op c') ∧ ((v = 0 ∧ c' = c) ∨ (v = 1 ∧ ym_N c' < ym_N c))
section
variable {ml fl cnt ls sp md pk fnd ifd : Int32} {kd ka kb up ow o1 o2 yc ck p1 p2 yh fi fa ynd clr mrk vla evl ndd icl ecl mkr cvl al cis : Nat → Int32} {nf : Nat}
variable {op : Nat → Int32}
theorem ym_18 {post : Int32 → SY → Prop} {c : Nat → Nat} {x y : Nat} (hx : x < 96) (hy : y < 96)
    (K : ∀ yc', (∀ s, s < 96 → yc' s = nI (um_r c x y s)) → post (if y = x then 0 else 1) (ml, fl, cnt, ls, sp, md, pk, fnd, ifd, kd, ka, kb, up, ow, o1, o2, yc', ck, p1, p2, yh, fi, fa, ynd, clr, mrk, vla, evl, ndd, icl, ecl, mkr, cvl, al, cis, nf)) :
    ∀ (d s : Nat) (yc : Nat → Int32), (∀ t, t < 96 → c t < 96 ∧ yc t = if t < s then nI (um_r c x y t) else nI (c t)) → s ≤ 96 → 97 ≤ d + s → wY_merge_18 post (nI x) (nI y) ml fl cnt ls sp md pk fnd ifd nf d (nI s) kd ka kb up ow o1 o2 yc ck p1 p2 yh fi fa ynd clr mrk vla evl ndd icl ecl mkr cvl al cis := by
  intro d
  induction d with
  | zero => intro s yc h hs hd; omega
  | succ d ih =>
    intro s yc h hs hd
    refine pk_le 96 s (fun z => ?_) (fun z => ⟨pk_in s 96 (by omega), ?_⟩)
    · have K' := K yc (fun t ht => by have := (h t ht).2; rw [if_pos (by omega)] at this; exact this)
      refine pk_eq y x (fun e => ?_) (fun e => ?_)
      · rw [if_pos e] at K'; exact K'
      · rw [if_neg e] at K'; exact K'
    · have cs : (nI s).toNatClampNeg = s := nI_clamp (by omega)
      have hcs := h s z
      have e : yc s = nI (c s) := by have := hcs.2; rw [if_neg (by omega)] at this; exact this
      rw [cs, e]
      refine pk_eq (c s) y (fun e2 => ⟨pk_in s 96 (by omega), nm_r (e' := upd yc s (nI x)) rfl (nm_r (e' := nI (s + 1)) (nI_1 s) ?_)⟩) (fun e2 => nm_r (e' := nI (s + 1)) (nI_1 s) ?_) rfl rfl (by omega) (by omega)
      · refine ih (s + 1) _ (fun t ht => ⟨(h t ht).1, ?_⟩) (by omega) (by omega)
        rcases Classical.em (t = s) with w | w
        · subst w
          rw [pk_us, if_pos (by omega)]
          unfold um_r
          rw [if_pos e2]
        · rw [pk_un w, (h t ht).2]
          rcases Nat.lt_or_ge t s with q | q
          · rw [if_pos q, if_pos (by omega)]
          · rw [if_neg (by omega), if_neg (by omega)]
      · refine ih (s + 1) _ (fun t ht => ⟨(h t ht).1, ?_⟩) (by omega) (by omega)
        rcases Classical.em (t = s) with w | w
        · subst w
          rw [if_pos (by omega), e]
          unfold um_r
          rw [if_neg e2]
        · rw [(h t ht).2]
          rcases Nat.lt_or_ge t s with q | q
          · rw [if_pos q, if_pos (by omega)]
          · rw [if_neg (by omega), if_neg (by omega)]
theorem ym_mg {post : Int32 → SY → Prop} {N : Nat} {c : Nat → Nat} {a b : Nat} {va vb : Int32} (L : ym_L c yc) (ha : a < 96) (hb : b < 96) (ea : va = nI (ys_s a)) (eb : vb = nI (ys_s b))
    (K : ∀ yc' c' v, ym_P N kd ka kb up op c a b yc' c' v → post v (ml, fl, cnt, ls, sp, md, pk, fnd, ifd, kd, ka, kb, up, ow, o1, o2, yc', ck, p1, p2, yh, fi, fa, ynd, clr, mrk, vla, evl, ndd, icl, ecl, mkr, cvl, al, cis, nf)) : wpY_merge post (ml, fl, cnt, ls, sp, md, pk, fnd, ifd, kd, ka, kb, up, ow, o1, o2, yc, ck, p1, p2, yh, fi, fa, ynd, clr, mrk, vla, evl, ndd, icl, ecl, mkr, cvl, al, cis, nf) va vb := by
  subst ea eb
  have ya := ys_lt ha
  have yb := ys_lt hb
  have La := L _ ya
  have Lb := L _ yb
  have ca : (nI (ys_s a)).toNatClampNeg = ys_s a := nI_clamp (by omega)
  have cb : (nI (ys_s b)).toNatClampNeg = ys_s b := nI_clamp (by omega)
  refine ⟨pk_in _ 96 ya, nm_r (e' := nI (c (ys_s a))) (by rw [ca]; exact La.2.1) ⟨pk_in _ 96 yb, nm_r (e' := nI (c (ys_s b))) (by rw [cb]; exact Lb.2.1) ⟨97, ym_18 La.1 Lb.1 (fun yc' h => ?_) 97 0 yc (fun t ht => ⟨(L t ht).1, by rw [if_neg (by omega)]; exact (L t ht).2.1⟩) (by omega) (by omega)⟩⟩⟩
  refine K yc' (um_r c (c (ys_s a)) (c (ys_s b))) _ ⟨fun s hs => ?_, fun s t e => um_rm e, ?_, fun S hle => ym_sm S ha hb hle, ?_⟩
  · have Ls := L s hs
    refine ⟨?_, h s hs, ?_⟩
    · unfold um_r
      split
      · exact La.1
      · exact Ls.1
    · unfold um_r
      rcases Classical.em (c s = c (ys_s b)) with z | z
      · rw [if_pos z, La.2.2]
        split
        · rfl
        · rfl
      · rw [if_neg z, Ls.2.2, if_neg z]
  · unfold um_r
    rw [if_pos rfl]
    split
    · rfl
    · rfl
  · rcases Classical.em (c (ys_s b) = c (ys_s a)) with z | z
    · rw [if_pos z]
      refine Or.inl ⟨rfl, ?_⟩
      funext s
      unfold um_r
      split
      · rename_i w
        rw [w, z]
      · rfl
    · rw [if_neg z]
      refine Or.inr ⟨rfl, ?_⟩
      refine cn_lt (P := fun s => um_r c (c (ys_s a)) (c (ys_s b)) s = s) (Q := fun s => c s = s) (a := c (ys_s b)) (fun w => ?_) Lb.2.2 (fun s hs w => ?_) Lb.1
      · unfold um_r at w
        rw [if_pos Lb.2.2] at w
        exact z w.symm
      · have w' : um_r c (c (ys_s a)) (c (ys_s b)) s = s := w
        show c s = s
        unfold um_r at w'
        split at w'
        · rename_i q
          rw [← w', La.2.2]
        · exact w'
end
end
section
/-- the reference's table of forms, the nodes below n done -/
def yf_I (kd op : Nat → Int32) (n : Nat) (ow o1 o2 : Nat → Int32) : Prop :=
  (∀ m s k p q, m < n → fo_n kd op m s k p q → ow (ys_s s) = nI k ∧ (2 ≤ k → o1 (ys_s s) = nI (ys_s p) ∧ o2 (ys_s s) = nI (ys_s q))) ∧
  (∀ u, u < 96 → ow u = 0 ∨ ∃ m s k p q, m < n ∧ fo_n kd op m s k p q ∧ u = ys_s s) ∧
  (∀ u, u < 96 → ∃ x y, x < 96 ∧ y < 96 ∧ o1 u = nI x ∧ o2 u = nI y)
theorem yf_no {kd op : Nat → Int32} {n : Nat} {ow o1 o2 : Nat → Int32} (I : yf_I kd op n ow o1 o2) (hk : kd n = 1) : yf_I kd op (n + 1) ow o1 o2 := by
  refine ⟨fun m s k p q hm f => ?_, fun u hu => ?_, I.2.2⟩
  · rcases Classical.em (m = n) with w | w
    · subst w
      have f' : fo_g (kd m) m (tm_c op m 0) (tm_c op m 1) = some (s, k, p, q) := f
      rw [fo_1 hk] at f'
      exact absurd f' (by simp)
    · exact I.1 m s k p q (by omega) f
  · rcases I.2.1 u hu with z | ⟨m, s, k, p, q, h1, h2⟩
    · exact Or.inl z
    · exact Or.inr ⟨m, s, k, p, q, by omega, h2⟩
theorem yf_st {N : Nat} {kd ka kb up op : Nat → Int32} {n s k p q : Nat} {ow o1 o2 o1' o2' : Nat → Int32} (TT : tm_T N kd ka kb up op) (hn : n < N) (I : yf_I kd op n ow o1 o2) (f : fo_n kd op n s k p q)
    (h1 : ∀ u, u ≠ ys_s s → o1' u = o1 u ∧ o2' u = o2 u) (h2 : 2 ≤ k → o1' (ys_s s) = nI (ys_s p) ∧ o2' (ys_s s) = nI (ys_s q)) (h3 : ∃ x y, x < 96 ∧ y < 96 ∧ o1' (ys_s s) = nI x ∧ o2' (ys_s s) = nI y) : yf_I kd op (n + 1) (upd ow (ys_s s) (nI k)) o1' o2' := by
  have hN := TT.1
  have bs := fo_b TT hn f
  refine ⟨fun m s' k' p' q' hm f' => ?_, fun u hu => ?_, fun u hu => ?_⟩
  · rcases Classical.em (m = n) with w | w
    · subst w
      obtain ⟨rfl, rfl, rfl, rfl⟩ := fo_u f f'
      exact ⟨pk_us, h2⟩
    · have b' := fo_b TT (n := m) (by omega) f'
      have ne : ys_s s' ≠ ys_s s := fun e => by
        have := ys_in (by omega) (by omega) e
        omega
      have a := I.1 m s' k' p' q' (by omega) f'
      rw [pk_un ne, (h1 _ ne).1, (h1 _ ne).2]
      exact a
  · rcases Classical.em (u = ys_s s) with w | w
    · exact Or.inr ⟨n, s, k, p, q, by omega, f, w⟩
    · rw [pk_un w]
      rcases I.2.1 u hu with z | ⟨m, s, k, p, q, h1, h2⟩
      · exact Or.inl z
      · exact Or.inr ⟨m, s, k, p, q, by omega, h2⟩
  · rcases Classical.em (u = ys_s s) with w | w
    · rw [w]
      exact h3
    · obtain ⟨x, y, a, b, c, d⟩ := I.2.2 u hu
      exact ⟨x, y, a, b, by rw [(h1 u w).1]; exact c, by rw [(h1 u w).2]; exact d⟩
theorem yf_s2 {N : Nat} {kd ka kb up op : Nat → Int32} {n s k p q u x y : Nat} {ow o1 o2 : Nat → Int32} (TT : tm_T N kd ka kb up op) (hn : n < N) (I : yf_I kd op n ow o1 o2) (f : fo_n kd op n s k p q) (eu : ys_s s = u) (ex : ys_s p = x) (ey : ys_s q = y) : yf_I kd op (n + 1) (upd ow u (nI k)) (upd o1 u (nI x)) (upd o2 u (nI y)) := by
  subst eu ex ey
  have hN := TT.1
  have bs := fo_b TT hn f
  exact yf_st TT hn I f (fun u h => ⟨pk_un h, pk_un h⟩) (fun _ => ⟨pk_us, pk_us⟩) ⟨ys_s p, ys_s q, ys_lt (by omega), ys_lt (by omega), pk_us, pk_us⟩
theorem yf_s1 {N : Nat} {kd ka kb up op : Nat → Int32} {n s p q u : Nat} {ow o1 o2 : Nat → Int32} (TT : tm_T N kd ka kb up op) (hn : n < N) (I : yf_I kd op n ow o1 o2) (f : fo_n kd op n s 1 p q) (eu : ys_s s = u) : yf_I kd op (n + 1) (upd ow u 1) o1 o2 := by
  subst eu
  have hN := TT.1
  have bs := fo_b TT hn f
  exact yf_st TT hn I f (fun u h => ⟨rfl, rfl⟩) (fun h => absurd h (by decide)) (I.2.2 _ (ys_lt (by omega)))
theorem yo_1 {kd op : Nat → Int32} {n i : Nat} (h : i < tm_ar (kd n)) : yo_o kd op n i = tm_c op n i := if_pos h
section
variable {ml fl cnt ls sp md pk fnd ifd : Int32} {kd ka kb up ow o1 o2 yc ck p1 p2 yh fi fa ynd clr mrk vla evl ndd icl ecl mkr cvl al cis : Nat → Int32} {nf : Nat}
variable {op : Nat → Int32}
theorem yg_gv {post : SY → Prop} {u k x y : Nat} {v0 v1 v2 v3 : Int32} (hu : u < 96) (e0 : v0 = nI u) (e1 : v1 = nI k) (e2 : v2 = nI x) (e3 : v3 = nI y)
    (K : post (ml, fl, cnt, ls, sp, md, pk, fnd, ifd, kd, ka, kb, up, upd ow u (nI k), upd o1 u (nI x), upd o2 u (nI y), yc, ck, p1, p2, yh, fi, fa, ynd, clr, mrk, vla, evl, ndd, icl, ecl, mkr, cvl, al, cis, nf)) : wpY_give post (ml, fl, cnt, ls, sp, md, pk, fnd, ifd, kd, ka, kb, up, ow, o1, o2, yc, ck, p1, p2, yh, fi, fa, ynd, clr, mrk, vla, evl, ndd, icl, ecl, mkr, cvl, al, cis, nf) v0 v1 v2 v3 := by
  subst e0 e1 e2 e3
  have c : (nI u).toNatClampNeg = u := nI_clamp (by omega)
  have v : vp_in (nI u) 96 := vp_in_nI hu (by omega)
  exact ⟨v, nm_r (e' := upd ow u (nI k)) (by rw [c]) ⟨v, nm_r (e' := upd o1 u (nI x)) (by rw [c]) ⟨v, nm_r (e' := upd o2 u (nI y)) (by rw [c]) K⟩⟩⟩
theorem ye_frm {post : SY → Prop} {J : Int32 → Int32 → Int32 → Int32 → Int32 → Int32 → Int32 → Int32 → Int32 → Int32 → (Nat → Int32) → (Nat → Int32) → (Nat → Int32) → (Nat → Int32) → (Nat → Int32) → (Nat → Int32) → (Nat → Int32) → (Nat → Int32) → (Nat → Int32) → (Nat → Int32) → (Nat → Int32) → (Nat → Int32) → (Nat → Int32) → (Nat → Int32) → (Nat → Int32) → (Nat → Int32) → (Nat → Int32) → (Nat → Int32) → (Nat → Int32) → (Nat → Int32) → (Nat → Int32) → (Nat → Int32) → (Nat → Int32) → (Nat → Int32) → (Nat → Int32) → (Nat → Int32) → Nat → Prop} {N n : Nat} {k x7 : Int32} (TT : tm_T N kd ka kb up op) (hn : n < N) (hk : kd n = k) (hK : tm_K k) (I : yf_I kd op n ow o1 o2)
    (K : ∀ ow' o1' o2', yf_I kd op (n + 1) ow' o1' o2' → wY_equate_183 post J (nI n) k (nI (32 + n)) (nI (yo_o kd op n 0)) (nI (yo_o kd op n 1)) x7 ml fl cnt ls sp md pk fnd ifd kd ka kb up ow' o1' o2' yc ck p1 p2 yh fi fa ynd clr mrk vla evl ndd icl ecl mkr cvl al cis nf) :
    ((k = 0 → (wY_equate_91 post J (nI n) k (nI (32 + n)) (nI (64 + n)) (nI (yo_o kd op n 0)) (nI (yo_o kd op n 1)) x7 ml fl cnt ls sp md pk fnd ifd kd ka kb up ow o1 o2 yc ck p1 p2 yh fi fa ynd clr mrk vla evl ndd icl ecl mkr cvl al cis nf)) ∧ (¬ k = 0 → (((k = 8 → (wY_equate_91 post J (nI n) k (nI (32 + n)) (nI (64 + n)) (nI (yo_o kd op n 0)) (nI (yo_o kd op n 1)) x7 ml fl cnt ls sp md pk fnd ifd kd ka kb up ow o1 o2 yc ck p1 p2 yh fi fa ynd clr mrk vla evl ndd icl ecl mkr cvl al cis nf)) ∧ (¬ k = 8 → (wY_equate_98 post J (nI n) k (nI (32 + n)) (nI (64 + n)) (nI (yo_o kd op n 0)) (nI (yo_o kd op n 1)) x7 ml fl cnt ls sp md pk fnd ifd kd ka kb up ow o1 o2 yc ck p1 p2 yh fi fa ynd clr mrk vla evl ndd icl ecl mkr cvl al cis nf)))))) := by
  have hN := TT.1
  have cn : (nI n).toNatClampNeg = n := nI_clamp (by omega)
  have cu : (nI (32 + n)).toNatClampNeg = 32 + n := nI_clamp (by omega)
  rcases hK with rfl | rfl | rfl | rfl | rfl | rfl | rfl | rfl | rfl
  · exact br_t rfl ⟨pk_in n 96 (by omega), nm_r (e' := upd ow n 1) (by rw [cn]) (br_f (by decide) (br_f (by decide) (br_f (by decide) (br_f (by decide) (br_f (by decide) (br_f (by decide) (K _ _ _ (yf_s1 TT hn I (fo_0 hk) (ys_0 n)))))))))⟩
  · exact br_f (by decide) (br_f (by decide) (br_f (by decide) (br_f (by decide) (br_f (by decide) (br_f (by decide) (br_f (by decide) (br_f (by decide) (K _ _ _ (yf_no I hk)))))))))
  · refine br_f (by decide) (br_f (by decide) (br_t rfl (yg_gv (u := n) (k := 3) (by omega) rfl rfl rfl rfl (br_f (by decide) (br_f (by decide) (br_f (by decide) (br_f (by decide) (br_f (by decide) (K _ _ _ (yf_s2 TT hn I (fo_2 hk) (ys_0 n) (ys_1 n) ?_))))))))))
    rw [ys_0, yo_1 (by rw [ar_2 hk]; omega)]
  · refine br_f (by decide) (br_f (by decide) (br_f (by decide) (br_t rfl (yg_gv (u := 32 + n) (k := 3) (by omega) rfl rfl rfl rfl (br_f (by decide) (br_f (by decide) (br_f (by decide) (br_f (by decide) (K _ _ _ (yf_s2 TT hn I (fo_3 hk) (ys_1 n) ?_ (ys_0 n)))))))))))
    rw [ys_0, yo_1 (by rw [ar_3 hk]; omega)]
  · refine br_f (by decide) (br_f (by decide) (br_f (by decide) (br_f (by decide) (br_t rfl (yg_gv (u := n) (k := 2) (by omega) rfl rfl rfl rfl (br_f (by decide) (br_f (by decide) (br_f (by decide) (K _ _ _ (yf_s2 TT hn I (fo_4 hk) (ys_0 n) ?_ ?_))))))))))
    · rw [ys_0, yo_1 (by rw [ar_4 hk]; omega)]
    · rw [ys_0, yo_1 (by rw [ar_4 hk]; omega)]
  · exact br_f (by decide) (br_f (by decide) (br_f (by decide) (br_f (by decide) (br_f (by decide) (br_t rfl (yg_gv (u := 32 + n) (k := 2) (by omega) rfl rfl rfl rfl (br_f (by decide) (br_f (by decide) (K _ _ _ (yf_s2 TT hn I (fo_5 hk) (ys_1 n) (ys_0 n) (ys_2 n)))))))))))
  · exact br_f (by decide) (br_f (by decide) (br_f (by decide) (br_f (by decide) (br_f (by decide) (br_f (by decide) (br_t rfl (yg_gv (u := 32 + n) (k := 2) (by omega) rfl rfl rfl rfl (br_f (by decide) (K _ _ _ (yf_s2 TT hn I (fo_6 hk) (ys_1 n) (ys_2 n) (ys_0 n)))))))))))
  · exact br_f (by decide) (br_f (by decide) (br_f (by decide) (br_f (by decide) (br_f (by decide) (br_f (by decide) (br_f (by decide) (br_t rfl ⟨pk_in (32 + n) 96 (by omega), nm_r (e' := upd ow (32 + n) 1) (by rw [cu]) (K _ _ _ (yf_s1 TT hn I (fo_7 hk) (ys_1 n)))⟩)))))))
  · exact br_f (by decide) (br_t rfl ⟨pk_in n 96 (by omega), nm_r (e' := upd ow n 1) (by rw [cn]) (br_f (by decide) (br_f (by decide) (br_f (by decide) (br_f (by decide) (br_f (by decide) (br_f (by decide) (K _ _ _ (yf_s1 TT hn I (fo_8 hk) (ys_0 n)))))))))⟩)
end
end
section
section
variable {ml fl cnt ls sp md pk fnd ifd : Int32} {kd ka kb up ow o1 o2 yc ck p1 p2 yh fi fa ynd clr mrk vla evl ndd icl ecl mkr cvl al cis : Nat → Int32} {nf : Nat}
variable {op : Nat → Int32}
theorem ye_308 {post : SY → Prop} {J : Int32 → Int32 → Int32 → Int32 → Int32 → Int32 → Int32 → Int32 → Int32 → Int32 → (Nat → Int32) → (Nat → Int32) → (Nat → Int32) → (Nat → Int32) → (Nat → Int32) → (Nat → Int32) → (Nat → Int32) → (Nat → Int32) → (Nat → Int32) → (Nat → Int32) → (Nat → Int32) → (Nat → Int32) → (Nat → Int32) → (Nat → Int32) → (Nat → Int32) → (Nat → Int32) → (Nat → Int32) → (Nat → Int32) → (Nat → Int32) → (Nat → Int32) → (Nat → Int32) → (Nat → Int32) → (Nat → Int32) → (Nat → Int32) → (Nat → Int32) → (Nat → Int32) → Nat → Prop} {n : Nat} {k x8 : Int32} (hk : ¬ k = 1) (K : J (nI (n + 1)) ml fl cnt ls sp md pk fnd ifd kd ka kb up ow o1 o2 yc ck p1 p2 yh fi fa ynd clr mrk vla evl ndd icl ecl mkr cvl al cis nf) : wY_equate_308 post J (nI n) k x8 ml fl cnt ls sp md pk fnd ifd kd ka kb up ow o1 o2 yc ck p1 p2 yh fi fa ynd clr mrk vla evl ndd icl ecl mkr cvl al cis nf :=
  br_f hk (nm_r (e' := nI (n + 1)) (nI_1 n) K)
theorem ye_261 {post : SY → Prop} {J : Int32 → Int32 → Int32 → Int32 → Int32 → Int32 → Int32 → Int32 → Int32 → Int32 → (Nat → Int32) → (Nat → Int32) → (Nat → Int32) → (Nat → Int32) → (Nat → Int32) → (Nat → Int32) → (Nat → Int32) → (Nat → Int32) → (Nat → Int32) → (Nat → Int32) → (Nat → Int32) → (Nat → Int32) → (Nat → Int32) → (Nat → Int32) → (Nat → Int32) → (Nat → Int32) → (Nat → Int32) → (Nat → Int32) → (Nat → Int32) → (Nat → Int32) → (Nat → Int32) → (Nat → Int32) → (Nat → Int32) → (Nat → Int32) → (Nat → Int32) → (Nat → Int32) → Nat → Prop} {N n : Nat} {k : Int32} {c : Nat → Nat} (TT : tm_T N kd ka kb up op) (hn : n < N) (hk : kd n = k) (L : ym_L c yc) (S : ym_S N kd ka kb up op c)
    (hbd : kd n = 1 → ∃ f, bn_B kd ka kb up n (ka n) f)
    (K : ∀ yc' c', ym_L c' yc' → (∀ s t, c s = c t → c' s = c' t) → ym_S N kd ka kb up op c' → (kd n = 1 → ∀ s t, be_E kd ka kb up op n s t → c' (ys_s s) = c' (ys_s t)) → J (nI (n + 1)) ml fl (nI N) ls sp md pk fnd ifd kd ka kb up ow o1 o2 yc' ck p1 p2 yh fi fa ynd clr mrk vla evl ndd icl ecl mkr cvl al cis nf) :
    wY_equate_261 post J (nI n) k ml fl (nI N) ls sp md pk fnd ifd kd ka kb up ow o1 o2 yc ck p1 p2 yh fi fa ynd clr mrk vla evl ndd icl ecl mkr cvl al cis nf := by
  have hN := TT.1
  have cn : (nI n).toNatClampNeg = n := nI_clamp (by omega)
  unfold wY_equate_261
  refine yb_of TT hn rfl (fun b hb => ?_)
  rcases Classical.em (k = 1) with h1 | h1
  · subst h1
    refine br_t rfl ?_
    rcases hb with ⟨-, hno⟩ | ⟨f, hf, rfl⟩
    · obtain ⟨f, hf⟩ := hbd hk
      exact absurd hf (hno f)
    · have hfN := bn_gt hN TT.2.2.1 hn hf
      have cf : (nI f).toNatClampNeg = f := nI_clamp (by omega)
      refine br_f (nI_pos (by omega)) ⟨pk_in f 32 (by omega), pk_in n 32 (by omega), ?_⟩
      rw [cf, cn]
      rcases Classical.em (kb f = ka n) with z | z
      · have be : be_E kd ka kb up op n (3 * n) (3 * f + 1) := Or.inl ⟨hk, rfl, f, hf, by rw [if_pos z]⟩
        refine br_t z (ym_mg (N := N) (op := op) (a := 3 * n) (b := 3 * f + 1) L (by omega) (by omega) (by rw [ys_0]) (by rw [ys_1]; exact nI_add 32 f) (fun yc' c' v P => nm_r (e' := nI (n + 1)) (nI_1 n) (K yc' c' P.1 P.2.1 (P.2.2.2.1 S (le_c.2.2.2.1 n _ _ hn be)) (fun _ s t h => ?_))))
        obtain ⟨rfl, rfl⟩ := be_1 hk hf h
        rw [if_pos z]
        exact P.2.2.1
      · have be : be_E kd ka kb up op n (3 * n) (3 * f) := Or.inl ⟨hk, rfl, f, hf, by rw [if_neg z]⟩
        refine br_f z (br_t rfl (br_f (nI_pos (by omega)) (ym_mg (N := N) (op := op) (a := 3 * n) (b := 3 * f) L (by omega) (by omega) (by rw [ys_0]) (by rw [ys_0]) (fun yc' c' v P => nm_r (e' := nI (n + 1)) (nI_1 n) (K yc' c' P.1 P.2.1 (P.2.2.2.1 S (le_c.2.2.2.1 n _ _ hn be)) (fun _ s t h => ?_))))))
        obtain ⟨rfl, rfl⟩ := be_1 hk hf h
        rw [if_neg z]
        exact P.2.2.1
  · exact br_f h1 (ye_308 h1 (K yc c L (fun _ _ e => e) S (fun e => absurd (hk.symm.trans e) h1)))
theorem ye_183 {post : SY → Prop} {J : Int32 → Int32 → Int32 → Int32 → Int32 → Int32 → Int32 → Int32 → Int32 → Int32 → (Nat → Int32) → (Nat → Int32) → (Nat → Int32) → (Nat → Int32) → (Nat → Int32) → (Nat → Int32) → (Nat → Int32) → (Nat → Int32) → (Nat → Int32) → (Nat → Int32) → (Nat → Int32) → (Nat → Int32) → (Nat → Int32) → (Nat → Int32) → (Nat → Int32) → (Nat → Int32) → (Nat → Int32) → (Nat → Int32) → (Nat → Int32) → (Nat → Int32) → (Nat → Int32) → (Nat → Int32) → (Nat → Int32) → (Nat → Int32) → (Nat → Int32) → (Nat → Int32) → Nat → Prop} {N n : Nat} {k : Int32} {c : Nat → Nat} (TT : tm_T N kd ka kb up op) (hn : n < N) (hk : kd n = k) (hK : tm_K k) (L : ym_L c yc) (S : ym_S N kd ka kb up op c)
    (hbd : kd n = 1 → ∃ f, bn_B kd ka kb up n (ka n) f)
    (K : ∀ yc' c', ym_L c' yc' → (∀ s t, c s = c t → c' s = c' t) → ym_S N kd ka kb up op c' → (∀ s t, be_E kd ka kb up op n s t → c' (ys_s s) = c' (ys_s t)) → J (nI (n + 1)) ml fl (nI N) ls sp md pk fnd ifd kd ka kb up ow o1 o2 yc' ck p1 p2 yh fi fa ynd clr mrk vla evl ndd icl ecl mkr cvl al cis nf) :
    wY_equate_183 post J (nI n) k (nI (32 + n)) (nI (yo_o kd op n 0)) (nI (yo_o kd op n 1)) (nI (yo_o kd op n 2)) ml fl (nI N) ls sp md pk fnd ifd kd ka kb up ow o1 o2 yc ck p1 p2 yh fi fa ynd clr mrk vla evl ndd icl ecl mkr cvl al cis nf := by
  have hN := TT.1
  have c0 := tm_o TT hn (i := 0) (by omega)
  have c1 := tm_o TT hn (i := 1) (by omega)
  have c2 := tm_o TT hn (i := 2) (by omega)
  have LC := le_c (N := N) (kd := kd) (ka := ka) (kb := kb) (up := up) (op := op)
  have none : ∀ (h : kd n = 0 ∨ kd n = 2 ∨ kd n = 4), ¬ kd n = 1 → wY_equate_261 post J (nI n) k ml fl (nI N) ls sp md pk fnd ifd kd ka kb up ow o1 o2 yc ck p1 p2 yh fi fa ynd clr mrk vla evl ndd icl ecl mkr cvl al cis nf := fun h h1 =>
    ye_261 TT hn hk L S hbd (fun yc' c' L' M' S' _ => K yc' c' L' M' S' (fun s t e => absurd e (be_no h)))
  have f35 : ∀ (h : kd n = 3 ∨ kd n = 5 ∨ kd n = 6), (∀ yc' c' v, ym_P N kd ka kb up op c (3 * tm_c op n 0) (3 * n + 1) yc' c' v → wY_equate_261 post J (nI n) k ml fl (nI N) ls sp md pk fnd ifd kd ka kb up ow o1 o2 yc' ck p1 p2 yh fi fa ynd clr mrk vla evl ndd icl ecl mkr cvl al cis nf) := by
    intro h yc' c' v P
    have be : be_E kd ka kb up op n (3 * tm_c op n 0) (3 * n + 1) := Or.inr (Or.inl ⟨by rcases h with a | a | a <;> simp [a], rfl, rfl⟩)
    refine ye_261 TT hn hk P.1 (P.2.2.2.1 S (LC.2.2.2.1 n _ _ hn be)) hbd (fun yc2 c2 L2 M2 S2 _ => K yc2 c2 L2 (fun s t e => M2 _ _ (P.2.1 s t e)) S2 (fun s t e => ?_))
    obtain ⟨rfl, rfl⟩ := be_3 h e
    exact M2 _ _ P.2.2.1
  have e1 : nI (32 + n) = nI (ys_s (3 * n + 1)) := by rw [ys_1]
  have e0 : nI n = nI (ys_s (3 * n)) := by rw [ys_0]
  rcases hK with rfl | rfl | rfl | rfl | rfl | rfl | rfl | rfl | rfl
  · exact br_f (by decide) (br_f (by decide) (br_f (by decide) (br_f (by decide) (br_f (by decide) (br_f (by decide) (br_f (by decide) (br_f (by decide) (none (Or.inl hk) (by rw [hk]; decide)))))))))
  · exact br_f (by decide) (br_f (by decide) (br_f (by decide) (br_f (by decide) (br_f (by decide) (br_f (by decide) (br_f (by decide) (br_f (by decide) (ye_261 TT hn hk L S hbd (fun yc' c' L' M' S' h => K yc' c' L' M' S' (h hk))))))))))
  · exact br_f (by decide) (br_f (by decide) (br_f (by decide) (br_f (by decide) (br_f (by decide) (br_f (by decide) (br_f (by decide) (br_f (by decide) (none (Or.inr (Or.inl hk)) (by rw [hk]; decide)))))))))
  · refine br_t rfl (ym_mg (N := N) (op := op) (a := 3 * tm_c op n 0) (b := 3 * n + 1) L (by omega) (by omega) ?_ e1 (fun yc' c' v P => br_f (by decide) (br_f (by decide) (br_f (by decide) (br_f (by decide) (f35 (Or.inl hk) yc' c' v P))))))
    rw [ys_0, yo_1 (by rw [ar_3 hk]; omega)]
  · exact br_f (by decide) (br_f (by decide) (br_f (by decide) (br_f (by decide) (br_f (by decide) (br_f (by decide) (br_f (by decide) (br_f (by decide) (none (Or.inr (Or.inr hk)) (by rw [hk]; decide)))))))))
  · refine br_f (by decide) (br_t rfl (ym_mg (N := N) (op := op) (a := 3 * tm_c op n 0) (b := 3 * n + 1) L (by omega) (by omega) ?_ e1 (fun yc' c' v P => br_f (by decide) (br_f (by decide) (br_f (by decide) (br_f (by decide) (f35 (Or.inr (Or.inl hk)) yc' c' v P)))))))
    rw [ys_0, yo_1 (by rw [ar_5 hk]; omega)]
  · refine br_f (by decide) (br_f (by decide) (br_t rfl (ym_mg (N := N) (op := op) (a := 3 * tm_c op n 0) (b := 3 * n + 1) L (by omega) (by omega) ?_ e1 (fun yc' c' v P => br_f (by decide) (br_f (by decide) (br_f (by decide) (br_f (by decide) (f35 (Or.inr (Or.inr hk)) yc' c' v P))))))))
    rw [ys_0, yo_1 (by rw [ar_6 hk]; omega)]
  · have b0 : be_E kd ka kb up op n (3 * tm_c op n 0) (3 * n + 1) := Or.inr (Or.inl ⟨Or.inr (Or.inr (Or.inr hk)), rfl, rfl⟩)
    have b1 : be_E kd ka kb up op n (3 * tm_c op n 1) (3 * n) := Or.inr (Or.inr (Or.inr (Or.inl ⟨Or.inr hk, rfl, rfl⟩)))
    have b2 : be_E kd ka kb up op n (3 * tm_c op n 2) (3 * n) := Or.inr (Or.inr (Or.inr (Or.inr ⟨hk, rfl, rfl⟩)))
    have y0 : nI (yo_o kd op n 0) = nI (ys_s (3 * tm_c op n 0)) := by rw [ys_0, yo_1 (by rw [ar_7 hk]; omega)]
    have y1 : nI (yo_o kd op n 1) = nI (ys_s (3 * tm_c op n 1)) := by rw [ys_0, yo_1 (by rw [ar_7 hk]; omega)]
    have y2 : nI (yo_o kd op n 2) = nI (ys_s (3 * tm_c op n 2)) := by rw [ys_0, yo_1 (by rw [ar_7 hk]; omega)]
    refine br_f (by decide) (br_f (by decide) (br_f (by decide) (br_t rfl (ym_mg (N := N) (op := op) (a := 3 * tm_c op n 0) (b := 3 * n + 1) L (by omega) (by omega) y0 e1 (fun ya ca va P => br_f (by decide) (br_f (by decide) (br_t rfl ?_)))))))
    refine ym_mg (N := N) (op := op) (a := 3 * tm_c op n 1) (b := 3 * n) P.1 (by omega) (by omega) y1 e0 (fun yb cb vb Q => br_t rfl ?_)
    refine ym_mg (N := N) (op := op) (a := 3 * tm_c op n 2) (b := 3 * n) Q.1 (by omega) (by omega) y2 e0 (fun yd cd vd R => ?_)
    refine ye_261 TT hn hk R.1 (R.2.2.2.1 (Q.2.2.2.1 (P.2.2.2.1 S (LC.2.2.2.1 n _ _ hn b0)) (LC.2.2.2.1 n _ _ hn b1)) (LC.2.2.2.1 n _ _ hn b2)) hbd (fun yc2 c2 L2 M2 S2 _ => K yc2 c2 L2 (fun s t e => M2 _ _ (R.2.1 _ _ (Q.2.1 _ _ (P.2.1 s t e)))) S2 (fun s t e => ?_))
    rcases be_7 hk e with ⟨rfl, rfl⟩ | ⟨rfl, rfl⟩ | ⟨rfl, rfl⟩
    · exact M2 _ _ (R.2.1 _ _ (Q.2.1 _ _ P.2.2.1))
    · exact M2 _ _ (R.2.1 _ _ Q.2.2.1)
    · exact M2 _ _ R.2.2.1
  · have b0 : be_E kd ka kb up op n (3 * tm_c op n 0) (3 * n) := Or.inr (Or.inr (Or.inl ⟨hk, rfl, rfl⟩))
    have b1 : be_E kd ka kb up op n (3 * tm_c op n 1) (3 * n) := Or.inr (Or.inr (Or.inr (Or.inl ⟨Or.inl hk, rfl, rfl⟩)))
    have y0 : nI (yo_o kd op n 0) = nI (ys_s (3 * tm_c op n 0)) := by rw [ys_0, yo_1 (by rw [ar_8 hk]; omega)]
    have y1 : nI (yo_o kd op n 1) = nI (ys_s (3 * tm_c op n 1)) := by rw [ys_0, yo_1 (by rw [ar_8 hk]; omega)]
    refine br_f (by decide) (br_f (by decide) (br_f (by decide) (br_f (by decide) (br_t rfl (ym_mg (N := N) (op := op) (a := 3 * tm_c op n 0) (b := 3 * n) L (by omega) (by omega) y0 e0 (fun ya ca va P => br_t rfl ?_))))))
    refine ym_mg (N := N) (op := op) (a := 3 * tm_c op n 1) (b := 3 * n) P.1 (by omega) (by omega) y1 e0 (fun yb cb vb Q => br_f (by decide) ?_)
    refine ye_261 TT hn hk Q.1 (Q.2.2.2.1 (P.2.2.2.1 S (LC.2.2.2.1 n _ _ hn b0)) (LC.2.2.2.1 n _ _ hn b1)) hbd (fun yc2 c2 L2 M2 S2 _ => K yc2 c2 L2 (fun s t e => M2 _ _ (Q.2.1 _ _ (P.2.1 s t e))) S2 (fun s t e => ?_))
    rcases be_8 hk e with ⟨rfl, rfl⟩ | ⟨rfl, rfl⟩
    · exact M2 _ _ (Q.2.1 _ _ P.2.2.1)
    · exact M2 _ _ Q.2.2.1
end
end
section
def yr_I (N : Nat) (kd ka kb up op : Nat → Int32) (c0 : Nat → Nat) (yc : Nat → Int32) (c : Nat → Nat) (v : Int32) : Prop :=
  ym_L c yc ∧ ym_S N kd ka kb up op c ∧ (∀ s t, c0 s = c0 t → c s = c t) ∧ ((v = 0 ∧ c = c0) ∨ (v = 1 ∧ ym_N c < ym_N c0))
def yr_P (c : Nat → Nat) (ow o1 o2 : Nat → Int32) (s t : Nat) : Prop := c s = c t → ow s = ow t → ¬ ow s < 2 → c (o1 s).toNatClampNeg = c (o1 t).toNatClampNeg ∧ c (o2 s).toNatClampNeg = c (o2 t).toNatClampNeg
theorem yr_0 {N : Nat} {kd ka kb up op : Nat → Int32} {c0 c c' : Nat → Nat} {yc yc' : Nat → Int32} {v w : Int32} {a b : Nat} (I : yr_I N kd ka kb up op c0 yc c v) (P : ym_P N kd ka kb up op c a b yc' c' w) (h : c' = c) : yr_I N kd ka kb up op c0 yc' c' v := by
  subst h
  exact ⟨P.1, I.2.1, I.2.2.1, I.2.2.2⟩
theorem yr_1 {N : Nat} {kd ka kb up op : Nat → Int32} {c0 c c' : Nat → Nat} {yc yc' : Nat → Int32} {v w : Int32} {a b : Nat} (I : yr_I N kd ka kb up op c0 yc c v) (P : ym_P N kd ka kb up op c a b yc' c' w) (hle : le_R N kd ka kb up op a b) (h : ym_N c' < ym_N c) : yr_I N kd ka kb up op c0 yc' c' 1 := by
  refine ⟨P.1, P.2.2.2.1 I.2.1 hle, fun s t e => P.2.1 _ _ (I.2.2.1 s t e), Or.inr ⟨rfl, ?_⟩⟩
  rcases I.2.2.2 with ⟨-, e⟩ | ⟨-, e⟩
  · rw [← e]; exact h
  · omega
def yt_C (N : Nat) (kd ka kb up op ow o1 o2 yc : Nat → Int32) (c : Nat → Nat) : Prop :=
  ym_L c yc ∧ ym_S N kd ka kb up op c ∧ (∀ n s t, n < N → be_E kd ka kb up op n s t → c (ys_s s) = c (ys_s t)) ∧ yf_I kd op N ow o1 o2 ∧
  (∀ n m s k p q s' p' q', n < N → m < N → fo_n kd op n s k p q → fo_n kd op m s' k p' q' → 2 ≤ k → c (ys_s s) = c (ys_s s') → c (ys_s p) = c (ys_s p') ∧ c (ys_s q) = c (ys_s q'))
section
variable {ml fl cnt ls sp md pk fnd ifd : Int32} {kd ka kb up ow o1 o2 yc ck p1 p2 yh fi fa ynd clr mrk vla evl ndd icl ecl mkr cvl al cis : Nat → Int32} {nf : Nat}
variable {op : Nat → Int32}
theorem yr_429 {post : SY → Prop} {J1 J2 J3 : Int32 → Int32 → Int32 → Int32 → Int32 → Int32 → Int32 → Int32 → Int32 → Int32 → Int32 → (Nat → Int32) → (Nat → Int32) → (Nat → Int32) → (Nat → Int32) → (Nat → Int32) → (Nat → Int32) → (Nat → Int32) → (Nat → Int32) → (Nat → Int32) → (Nat → Int32) → (Nat → Int32) → (Nat → Int32) → (Nat → Int32) → (Nat → Int32) → (Nat → Int32) → (Nat → Int32) → (Nat → Int32) → (Nat → Int32) → (Nat → Int32) → (Nat → Int32) → (Nat → Int32) → (Nat → Int32) → (Nat → Int32) → (Nat → Int32) → (Nat → Int32) → (Nat → Int32) → Nat → Prop} {N s t q q' : Nat} {c0 c : Nat → Nat} {v x2 : Int32} (hs : s < 96) (ht : t < 96) (hq : q < 96) (hq' : q' < 96) (I : yr_I N kd ka kb up op c0 yc c v) (e : o2 s = nI (ys_s q)) (e' : o2 t = nI (ys_s q')) (hle : le_R N kd ka kb up op q q')
    (K : ∀ yc' c' v', yr_I N kd ka kb up op c0 yc' c' v' → (v' = 0 → v = 0 ∧ c (ys_s q) = c (ys_s q')) → J3 v' (nI (t + 1)) ml fl cnt ls sp md pk fnd ifd kd ka kb up ow o1 o2 yc' ck p1 p2 yh fi fa ynd clr mrk vla evl ndd icl ecl mkr cvl al cis nf) :
    wY_equate_429 post J1 J2 J3 v x2 (nI s) (nI t) ml fl cnt ls sp md pk fnd ifd kd ka kb up ow o1 o2 yc ck p1 p2 yh fi fa ynd clr mrk vla evl ndd icl ecl mkr cvl al cis nf := by
  have cs : (nI s).toNatClampNeg = s := nI_clamp (by omega)
  have ct : (nI t).toNatClampNeg = t := nI_clamp (by omega)
  unfold wY_equate_429
  rw [cs, ct]
  refine ⟨pk_in s 96 hs, pk_in t 96 ht, ym_mg (N := N) (op := op) (a := q) (b := q') I.1 hq hq' e e' (fun yc' c' w P => ?_)⟩
  rcases id P.2.2.2.2 with ⟨rfl, h⟩ | ⟨rfl, h⟩
  · refine br_t rfl (nm_r (e' := nI (t + 1)) (nI_1 t) (K yc' c' v (yr_0 I P h) (fun z => ⟨z, ?_⟩)))
    rw [← h]
    exact P.2.2.1
  · exact br_f (by decide) (nm_r (e' := nI (t + 1)) (nI_1 t) (K yc' c' 1 (yr_1 I P hle h) (fun z => absurd z (by decide))))
theorem yr_359 {post : SY → Prop} {J1 J2 : Int32 → Int32 → Int32 → Int32 → Int32 → Int32 → Int32 → Int32 → Int32 → Int32 → Int32 → (Nat → Int32) → (Nat → Int32) → (Nat → Int32) → (Nat → Int32) → (Nat → Int32) → (Nat → Int32) → (Nat → Int32) → (Nat → Int32) → (Nat → Int32) → (Nat → Int32) → (Nat → Int32) → (Nat → Int32) → (Nat → Int32) → (Nat → Int32) → (Nat → Int32) → (Nat → Int32) → (Nat → Int32) → (Nat → Int32) → (Nat → Int32) → (Nat → Int32) → (Nat → Int32) → (Nat → Int32) → (Nat → Int32) → (Nat → Int32) → (Nat → Int32) → (Nat → Int32) → Nat → Prop} {N s : Nat} {c0 : Nat → Nat} {x2 : Int32} {Q : Prop} (TT : tm_T N kd ka kb up op) (hs : s < 96) (F : yf_I kd op N ow o1 o2)
    (K : ∀ yc' c' v', yr_I N kd ka kb up op c0 yc' c' v' → (v' = 0 → Q ∧ ∀ t, t < s → yr_P c0 ow o1 o2 s t) → J2 v' (nI (s + 1)) ml fl cnt ls sp md pk fnd ifd kd ka kb up ow o1 o2 yc' ck p1 p2 yh fi fa ynd clr mrk vla evl ndd icl ecl mkr cvl al cis nf) :
    ∀ (d t : Nat) (v : Int32) (yc : Nat → Int32) (c : Nat → Nat), yr_I N kd ka kb up op c0 yc c v → (v = 0 → Q ∧ ∀ t', t' < t → yr_P c0 ow o1 o2 s t') → t ≤ s → s + 1 ≤ d + t →
      wY_equate_359 post J1 J2 x2 (nI s) d v (nI t) ml fl cnt ls sp md pk fnd ifd kd ka kb up ow o1 o2 yc ck p1 p2 yh fi fa ynd clr mrk vla evl ndd icl ecl mkr cvl al cis nf := by
  have hN := TT.1
  have cs : (nI s).toNatClampNeg = s := nI_clamp (by omega)
  have vs : vp_in (nI s) 96 := pk_in s 96 hs
  intro d
  induction d with
  | zero => intro t v yc c I h ht hd; omega
  | succ d ih =>
    intro t v yc c I h ht hd
    refine pk_le s t (fun z => nm_r (e' := nI (s + 1)) (nI_1 s) ?_) (fun z => ⟨vs, pk_in t 96 (by omega), ?_⟩)
    · have e : t = s := by omega
      subst e
      exact K yc c v I h
    · have ct : (nI t).toNatClampNeg = t := nI_clamp (by omega)
      have vt : vp_in (nI t) 96 := pk_in t 96 (by omega)
      have Ls := I.1 s hs
      have Lt := I.1 t (by omega)
      have nxt : (v = 0 → yr_P c0 ow o1 o2 s t) → wY_equate_359 post J1 J2 x2 (nI s) d v (nI (t + 1)) ml fl cnt ls sp md pk fnd ifd kd ka kb up ow o1 o2 yc ck p1 p2 yh fi fa ynd clr mrk vla evl ndd icl ecl mkr cvl al cis nf := by
        intro hp
        refine ih (t + 1) v yc c I (fun zz => ⟨(h zz).1, fun t' ht' => ?_⟩) (by omega) (by omega)
        rcases Classical.em (t' = t) with w | w
        · subst w; exact hp zz
        · exact (h zz).2 t' (by omega)
      rw [cs, ct, Ls.2.1, Lt.2.1]
      refine pk_eq (c s) (c t) (fun ec => ⟨vs, vt, ?_⟩) (fun ec => nm_r (e' := nI (t + 1)) (nI_1 t) (nxt fun z => ?_)) rfl rfl (by omega) (by omega)
      · rcases Classical.em (ow s = ow t) with eo | eo
        · refine br_t eo ⟨vs, ?_⟩
          rcases Classical.em (ow s < 2) with el | el
          · exact br_t el (nm_r (e' := nI (t + 1)) (nI_1 t) (nxt fun _ _ _ w => absurd el w))
          · refine br_f el ⟨vs, vt, ?_⟩
            obtain ⟨m, a, k, p, q, hm, f, es⟩ : ∃ m s' k p q, m < N ∧ fo_n kd op m s' k p q ∧ s = ys_s s' := by
              rcases F.2.1 s hs with w | w
              · exact absurd (by rw [w]; decide) el
              · exact w
            obtain ⟨m', b, k', p', q', hm', f', et⟩ : ∃ m s' k p q, m < N ∧ fo_n kd op m s' k p q ∧ t = ys_s s' := by
              rcases F.2.1 t (by omega) with w | w
              · exact absurd (by rw [eo, w]; decide) el
              · exact w
            have ba := fo_b TT hm f
            have bb := fo_b TT hm' f'
            have Fs := F.1 m a k p q hm f
            have Ft := F.1 m' b k' p' q' hm' f'
            rw [← es] at Fs
            rw [← et] at Ft
            have hk2 : 2 ≤ k := by
              rcases Nat.lt_or_ge k 2 with w | w
              · exact absurd (by rw [Fs.1]; exact nI_lt (b := 2) w (by omega)) el
              · exact w
            have ek : k = k' := (nI_eq (by omega) (by omega)).mp (Fs.1.symm.trans (eo.trans Ft.1))
            subst ek
            have hle : le_R N kd ka kb up op a b := I.2.1 a b (by omega) (by omega) (by rw [← es, ← et]; exact ec)
            have cg := le_c.2.2.2.2 m m' a k p q b p' q' hm hm' f f' hk2 hle
            obtain ⟨e1, e2⟩ := Fs.2 hk2
            obtain ⟨e3, e4⟩ := Ft.2 hk2
            have yp := ys_lt (s := p) (by omega)
            have yp' := ys_lt (s := p') (by omega)
            have yq := ys_lt (s := q) (by omega)
            have yq' := ys_lt (s := q') (by omega)
            refine ym_mg (N := N) (op := op) (a := p) (b := p') I.1 (by omega) (by omega) e1 e3 (fun yc' c' w P => ?_)
            rcases id P.2.2.2.2 with ⟨rfl, hc⟩ | ⟨rfl, hc⟩
            · refine br_t rfl (yr_429 hs (by omega) (by omega) (by omega) (yr_0 I P hc) e2 e4 cg.2 (fun yc2 c2 v2 I2 h2 => ?_))
              refine ih (t + 1) v2 yc2 c2 I2 (fun zz => ⟨(h (h2 zz).1).1, fun t' ht' => ?_⟩) (by omega) (by omega)
              have hv := (h2 zz).1
              rcases Classical.em (t' = t) with y | y
              · subst y
                intro _ _ _
                rw [e1, e2, e3, e4, nI_clamp (by omega), nI_clamp (by omega), nI_clamp (by omega), nI_clamp (by omega)]
                rcases I.2.2.2 with ⟨-, g⟩ | ⟨g, -⟩
                · rw [← g]
                  have a1 := P.2.2.1
                  have a2 := (h2 zz).2
                  rw [hc] at a1 a2
                  exact ⟨a1, a2⟩
                · exact absurd (hv.symm.trans g) (by decide)
              · exact (h hv).2 t' (by omega)
            · refine br_f (by decide) (yr_429 hs (by omega) (by omega) (by omega) (yr_1 I P cg.1 hc) e2 e4 cg.2 (fun yc2 c2 v2 I2 h2 => ?_))
              refine ih (t + 1) v2 yc2 c2 I2 (fun z => absurd (h2 z).1 (by decide)) (by omega) (by omega)
        · exact br_f eo (nm_r (e' := nI (t + 1)) (nI_1 t) (nxt fun _ _ w => absurd w eo))
      · intro ec0
        exact absurd (I.2.2.1 _ _ ec0) ec
theorem yr_350 {post : SY → Prop} {J1 : Int32 → Int32 → Int32 → Int32 → Int32 → Int32 → Int32 → Int32 → Int32 → Int32 → Int32 → (Nat → Int32) → (Nat → Int32) → (Nat → Int32) → (Nat → Int32) → (Nat → Int32) → (Nat → Int32) → (Nat → Int32) → (Nat → Int32) → (Nat → Int32) → (Nat → Int32) → (Nat → Int32) → (Nat → Int32) → (Nat → Int32) → (Nat → Int32) → (Nat → Int32) → (Nat → Int32) → (Nat → Int32) → (Nat → Int32) → (Nat → Int32) → (Nat → Int32) → (Nat → Int32) → (Nat → Int32) → (Nat → Int32) → (Nat → Int32) → (Nat → Int32) → (Nat → Int32) → Nat → Prop} {N i : Nat} {c0 : Nat → Nat} (TT : tm_T N kd ka kb up op) (F : yf_I kd op N ow o1 o2)
    (K : ∀ yc' c' v', yr_I N kd ka kb up op c0 yc' c' v' → (v' = 0 → ∀ s t, s < 96 → t < s → yr_P c0 ow o1 o2 s t) → J1 v' (nI (i + 1)) ml fl cnt ls sp md pk fnd ifd kd ka kb up ow o1 o2 yc' ck p1 p2 yh fi fa ynd clr mrk vla evl ndd icl ecl mkr cvl al cis nf) :
    ∀ (d s : Nat) (v : Int32) (yc : Nat → Int32) (c : Nat → Nat), yr_I N kd ka kb up op c0 yc c v → (v = 0 → ∀ s' t, s' < s → t < s' → yr_P c0 ow o1 o2 s' t) → s ≤ 96 → 97 ≤ d + s →
      wY_equate_350 post J1 (nI i) d v (nI s) ml fl cnt ls sp md pk fnd ifd kd ka kb up ow o1 o2 yc ck p1 p2 yh fi fa ynd clr mrk vla evl ndd icl ecl mkr cvl al cis nf := by
  intro d
  induction d with
  | zero => intro s v yc c I h hs hd; omega
  | succ d ih =>
    intro s v yc c I h hs hd
    refine pk_le 96 s (fun z => nm_r (e' := nI (i + 1)) (nI_1 i) ?_) (fun z => ⟨s + 1, ?_⟩)
    · have e : s = 96 := by omega
      subst e
      exact K yc c v I h
    · refine yr_359 (Q := ∀ s' t, s' < s → t < s' → yr_P c0 ow o1 o2 s' t) TT z F (fun yc' c' v' I' h' => ?_) (s + 1) 0 v yc c I (fun w => ⟨h w, fun t' ht => absurd ht (by omega)⟩) (by omega) (by omega)
      refine ih (s + 1) v' yc' c' I' (fun w s' t hs' ht => ?_) (by omega) (by omega)
      rcases Classical.em (s' = s) with y | y
      · subst y; exact (h' w).2 t ht
      · exact (h' w).1 s' t (by omega) ht
theorem yr_336 {post : SY → Prop} {N : Nat} (TT : tm_T N kd ka kb up op) (F : yf_I kd op N ow o1 o2)
    (K : ∀ yc' c', yt_C N kd ka kb up op ow o1 o2 yc' c' → post (ml, fl, cnt, ls, sp, md, pk, fnd, ifd, kd, ka, kb, up, ow, o1, o2, yc', ck, p1, p2, yh, fi, fa, ynd, clr, mrk, vla, evl, ndd, icl, ecl, mkr, cvl, al, cis, nf)) :
    ∀ (d i : Nat) (v : Int32) (yc : Nat → Int32) (c : Nat → Nat), ym_L c yc → ym_S N kd ka kb up op c → (∀ n s t, n < N → be_E kd ka kb up op n s t → c (ys_s s) = c (ys_s t)) →
      ((v = 1 ∧ i + ym_N c ≤ 96) ∨ (v = 0 ∧ ∀ s t, s < 96 → t < s → yr_P c ow o1 o2 s t)) → i ≤ 96 → 97 ≤ d + i → wY_equate_336 post d v (nI i) ml fl cnt ls sp md pk fnd ifd kd ka kb up ow o1 o2 yc ck p1 p2 yh fi fa ynd clr mrk vla evl ndd icl ecl mkr cvl al cis nf := by
  have hN := TT.1
  intro d
  induction d with
  | zero => intro i v yc c L S B h hi hd; omega
  | succ d ih =>
    intro i v yc c L S B h hi hd
    have fin : (∀ s t, s < 96 → t < s → yr_P c ow o1 o2 s t) → post (ml, fl, cnt, ls, sp, md, pk, fnd, ifd, kd, ka, kb, up, ow, o1, o2, yc, ck, p1, p2, yh, fi, fa, ynd, clr, mrk, vla, evl, ndd, icl, ecl, mkr, cvl, al, cis, nf) := by
      intro hp
      refine K yc c ⟨L, S, B, F, fun n m s k p q s' p' q' hn hm f f' hk e => ?_⟩
      have b1 := fo_b TT hn f
      have b2 := fo_b TT hm f'
      have F1 := F.1 n s k p q hn f
      have F2 := F.1 m s' k p' q' hm f'
      have y1 := ys_lt (s := s) (by omega)
      have y2 := ys_lt (s := s') (by omega)
      have yp := ys_lt (s := p) (by omega)
      have yp' := ys_lt (s := p') (by omega)
      have yq := ys_lt (s := q) (by omega)
      have yq' := ys_lt (s := q') (by omega)
      have nl : ¬ nI k < 2 := nI_nlt (b := 2) hk (by omega)
      have get : ∀ {x y x' y'}, o1 (ys_s s) = nI x → o2 (ys_s s) = nI y → o1 (ys_s s') = nI x' → o2 (ys_s s') = nI y' → x < 96 → y < 96 → x' < 96 → y' < 96 → c x = c x' ∧ c y = c y' := by
        intro x y x' y' a1 a2 a3 a4 l1 l2 l3 l4
        rcases Nat.lt_trichotomy (ys_s s') (ys_s s) with w | w | w
        · have := hp _ _ y1 w e (F1.1.trans F2.1.symm) (by rw [F1.1]; exact nl)
          rw [a1, a2, a3, a4, nI_clamp (by omega), nI_clamp (by omega), nI_clamp (by omega), nI_clamp (by omega)] at this
          exact this
        · rw [w] at a3 a4
          have e1 : x = x' := (nI_eq (by omega) (by omega)).mp (a1.symm.trans a3)
          have e2 : y = y' := (nI_eq (by omega) (by omega)).mp (a2.symm.trans a4)
          rw [e1, e2]
          exact ⟨rfl, rfl⟩
        · have := hp _ _ y2 w e.symm (F2.1.trans F1.1.symm) (by rw [F2.1]; exact nl)
          rw [a1, a2, a3, a4, nI_clamp (by omega), nI_clamp (by omega), nI_clamp (by omega), nI_clamp (by omega)] at this
          exact ⟨this.1.symm, this.2.symm⟩
      exact get (F1.2 hk).1 (F1.2 hk).2 (F2.2 hk).1 (F2.2 hk).2 yp yq yp' yq'
    have pos : 0 < ym_N c := ct_pos (P := fun s => c s = s) (L 0 (by omega)).2.2 (L 0 (by omega)).1
    refine pk_le 96 i (fun z => ?_) (fun z => ?_)
    · rcases h with ⟨-, h⟩ | ⟨-, h⟩
      · omega
      · exact fin h
    · rcases h with ⟨rfl, h⟩ | ⟨rfl, h⟩
      · refine br_f (by decide) ⟨97, yr_350 (c0 := c) TT F (fun yc' c' v' I' h' => ?_) 97 0 0 yc c ⟨L, S, fun _ _ e => e, Or.inl ⟨rfl, rfl⟩⟩ (fun _ s' t hs => absurd hs (by omega)) (by omega) (by omega)⟩
        refine ih (i + 1) v' yc' c' I'.1 I'.2.1 (fun n s t hn be => I'.2.2.1 _ _ (B n s t hn be)) ?_ (by omega) (by omega)
        rcases I'.2.2.2 with ⟨e, ec⟩ | ⟨e, ec⟩
        · subst ec
          exact Or.inr ⟨e, h' e⟩
        · exact Or.inl ⟨e, by omega⟩
      · exact br_t rfl (fin h)
theorem ye_31 {post : SY → Prop} {N : Nat} (TT : tm_T N kd ka kb up op) (hbd : ∀ n, n < N → kd n = 1 → ∃ f, bn_B kd ka kb up n (ka n) f)
    (K : ∀ ow' o1' o2' yc' c', yt_C N kd ka kb up op ow' o1' o2' yc' c' → post (ml, fl, nI N, ls, sp, md, pk, fnd, ifd, kd, ka, kb, up, ow', o1', o2', yc', ck, p1, p2, yh, fi, fa, ynd, clr, mrk, vla, evl, ndd, icl, ecl, mkr, cvl, al, cis, nf)) :
    ∀ (d n : Nat) (ow o1 o2 yc : Nat → Int32) (c : Nat → Nat), yf_I kd op n ow o1 o2 → ym_L c yc → ym_S N kd ka kb up op c → (∀ m s t, m < n → be_E kd ka kb up op m s t → c (ys_s s) = c (ys_s t)) → n ≤ N → N + 1 ≤ d + n →
      wY_equate_31 post d (nI n) ml fl (nI N) ls sp md pk fnd ifd kd ka kb up ow o1 o2 yc ck p1 p2 yh fi fa ynd clr mrk vla evl ndd icl ecl mkr cvl al cis nf := by
  have hN := TT.1
  intro d
  induction d with
  | zero => intro n ow o1 o2 yc c F L S B hn hd; omega
  | succ d ih =>
    intro n ow o1 o2 yc c F L S B hn hd
    refine pk_le N n (fun z => ?_) (fun z => ⟨pk_in n 32 (by omega), nm_r (e' := kd n) (by rw [nI_clamp (by omega)]) (nm_r (e' := nI (32 + n)) (nI_add 32 n) (nm_r (e' := nI (64 + n)) (nI_add 64 n) ?_))⟩)
    · have e : n = N := by omega
      subst e
      refine ⟨97, yr_336 TT F (fun yc' c' C => K ow o1 o2 yc' c' C) 97 0 1 yc c L S B (Or.inl ⟨rfl, ?_⟩) (by omega) (by omega)⟩
      have := cn_le (fun s => c s = s) 96
      unfold ym_N
      omega
    · refine yo_op (i := 0) TT z (by decide) rfl rfl (yo_op (i := 1) TT z (by decide) rfl rfl (yo_op (i := 2) TT z (by decide) rfl rfl ?_))
      refine ye_frm TT z rfl (TT.2.1 n z) F (fun ow' o1' o2' F' => ?_)
      refine ye_183 TT z rfl (TT.2.1 n z) L S (hbd n z) (fun yc' c' L' M' S' B' => ?_)
      refine ih (n + 1) ow' o1' o2' yc' c' F' L' S' (fun m s t hm be => ?_) (by omega) (by omega)
      rcases Classical.em (m = n) with w | w
      · subst w; exact B' s t be
      · exact M' _ _ (B m s t (by omega) be)
theorem ye_2 {post : SY → Prop} {N : Nat} (TT : tm_T N kd ka kb up op) (hbd : ∀ n, n < N → kd n = 1 → ∃ f, bn_B kd ka kb up n (ka n) f)
    (K : ∀ ow' o1' o2' yc' c', yt_C N kd ka kb up op ow' o1' o2' yc' c' → post (ml, fl, nI N, ls, sp, md, pk, fnd, ifd, kd, ka, kb, up, ow', o1', o2', yc', ck, p1, p2, yh, fi, fa, ynd, clr, mrk, vla, evl, ndd, icl, ecl, mkr, cvl, al, cis, nf)) :
    ∀ (d s : Nat) (ow o1 o2 yc : Nat → Int32), (∀ t, t < s → ow t = 0 ∧ o1 t = nI t ∧ o2 t = nI t ∧ yc t = nI t) → s ≤ 96 → 97 ≤ d + s →
      wY_equate_2 post d (nI s) ml fl (nI N) ls sp md pk fnd ifd kd ka kb up ow o1 o2 yc ck p1 p2 yh fi fa ynd clr mrk vla evl ndd icl ecl mkr cvl al cis nf := by
  have hN := TT.1
  intro d
  induction d with
  | zero => intro s ow o1 o2 yc h hs hd; omega
  | succ d ih =>
    intro s ow o1 o2 yc h hs hd
    refine pk_le 96 s (fun z => ?_) (fun z => ?_)
    · have e : s = 96 := by omega
      subst e
      refine ⟨N + 1, ye_31 TT hbd K (N + 1) 0 ow o1 o2 yc (fun t => t) ⟨fun m s k p q hm => absurd hm (by omega), fun u hu => Or.inl (h u hu).1, fun u hu => ⟨u, u, hu, hu, (h u hu).2.1, (h u hu).2.2.1⟩⟩ (fun t ht => ⟨ht, (h t ht).2.2.2, rfl⟩) (fun a b ha hb e => ?_) (fun m s t hm => absurd hm (by omega)) (by omega) (by omega)⟩
      have := ys_in ha hb e
      subst this
      exact le_c.1 _
    · refine yg_gv (u := s) (k := 0) (x := s) (y := s) z rfl rfl rfl rfl ⟨pk_in s 96 z, nm_r (e' := upd yc s (nI s)) (by rw [nI_clamp (by omega)]) (nm_r (e' := nI (s + 1)) (nI_1 s) ?_)⟩
      refine ih (s + 1) _ _ _ _ (fun t ht => ?_) (by omega) (by omega)
      rcases Classical.em (t = s) with w | w
      · subst w
        exact ⟨pk_us, pk_us, pk_us, pk_us⟩
      · rw [pk_un w, pk_un w, pk_un w, pk_un w]
        exact h t (by omega)
theorem ye_all {post : SY → Prop} {N : Nat} (TT : tm_T N kd ka kb up op) (hbd : ∀ n, n < N → kd n = 1 → ∃ f, bn_B kd ka kb up n (ka n) f)
    (K : ∀ ow' o1' o2' yc' c', yt_C N kd ka kb up op ow' o1' o2' yc' c' → post (ml, fl, nI N, ls, sp, md, pk, fnd, ifd, kd, ka, kb, up, ow', o1', o2', yc', ck, p1, p2, yh, fi, fa, ynd, clr, mrk, vla, evl, ndd, icl, ecl, mkr, cvl, al, cis, nf)) : wpY_equate post (ml, fl, nI N, ls, sp, md, pk, fnd, ifd, kd, ka, kb, up, ow, o1, o2, yc, ck, p1, p2, yh, fi, fa, ynd, clr, mrk, vla, evl, ndd, icl, ecl, mkr, cvl, al, cis, nf) :=
  ⟨97, ye_2 TT hbd K 97 0 ow o1 o2 yc (fun t ht => absurd ht (by omega)) (by omega) (by omega)⟩
end
end
section
/-! the component's classes (r) and the reference's (c) are the same -/
section
variable {N : Nat} {kd ka kb up op sh ow o1 o2 yc : Nat → Int32} {r c : Nat → Nat}
theorem ty_cg (TT : tm_T N kd ka kb up op) (C : ty_C N kd ka kb up op sh r) {n m s k p q s' k' p' q' : Nat} (hn : n < N) (hm : m < N) (f : fo_n kd op n s k p q) (f' : fo_n kd op m s' k' p' q') (e : r s = r s') : k = k' ∧ (2 ≤ k → r p = r p' ∧ r q = r q') := by
  have hN := TT.1
  obtain ⟨m1, t1, p1, q1, h1, g1, e1, -, c1⟩ := C.2.2.2.1 n s k p q hn f
  obtain ⟨m2, t2, p2, q2, h2, g2, e2, -, c2⟩ := C.2.2.2.1 m s' k' p' q' hm f'
  have b1 := fo_b TT h1 g1
  have b2 := fo_b TT h2 g2
  rw [← e] at e2
  have et : t1 = t2 := (nI_eq (by omega) (by omega)).mp (e1.symm.trans e2)
  subst et
  obtain ⟨-, rfl, rfl, rfl⟩ := fo_us TT h1 h2 g1 g2
  exact ⟨rfl, fun w => ⟨(c1 w).1.trans (c2 w).1.symm, (c1 w).2.trans (c2 w).2.symm⟩⟩
theorem ty_le (TT : tm_T N kd ka kb up op) (C : ty_C N kd ka kb up op sh r) {s t : Nat} (hs : s < 3 * N) (ht : t < 3 * N) : r s = r t ↔ le_R N kd ka kb up op s t := by
  refine ⟨C.2.1 s t hs ht, fun h => ?_⟩
  have := h (fun a b => a = b ∨ (a < 3 * N ∧ b < 3 * N ∧ r a = r b)) ⟨fun _ => Or.inl rfl, fun a b z => ?_, fun a b d z w => ?_, fun n a b hn z => ?_, fun n m a k p q a' p' q' hn hm f f' hk z => ?_⟩
  · rcases this with rfl | w
    · rfl
    · exact w.2.2
  · rcases z with rfl | z
    · exact Or.inl rfl
    · exact Or.inr ⟨z.2.1, z.1, z.2.2.symm⟩
  · rcases z with rfl | z
    · exact w
    · rcases w with rfl | w
      · exact Or.inr z
      · exact Or.inr ⟨z.1, w.2.1, z.2.2.trans w.2.2⟩
  · have b1 := be_b TT hn z
    exact Or.inr ⟨b1.1, b1.2, C.2.2.1 n a b hn z⟩
  · have b1 := fo_b TT hn f
    have b2 := fo_b TT hm f'
    have e : r a = r a' := by
      rcases z with rfl | z
      · rfl
      · exact z.2.2
    have g := (ty_cg TT C hn hm f f' e).2 hk
    exact ⟨Or.inr ⟨by omega, by omega, g.1⟩, Or.inr ⟨by omega, by omega, g.2⟩⟩
theorem yt_le (TT : tm_T N kd ka kb up op) (Y : yt_C N kd ka kb up op ow o1 o2 yc c) {s t : Nat} (hs : s < 96) (ht : t < 96) : c (ys_s s) = c (ys_s t) ↔ le_R N kd ka kb up op s t := by
  have hN := TT.1
  refine ⟨Y.2.1 s t hs ht, fun h => ?_⟩
  have := h (fun a b => c (ys_s a) = c (ys_s b)) ⟨fun _ => rfl, fun a b z => z.symm, fun a b d z w => z.trans w, fun n a b hn z => Y.2.2.1 n a b hn z, fun n m a k p q a' p' q' hn hm f f' hk z => Y.2.2.2.2 n m a k p q a' p' q' hn hm f f' hk z⟩
  exact this
theorem xy_eq (TT : tm_T N kd ka kb up op) (C : ty_C N kd ka kb up op sh r) (Y : yt_C N kd ka kb up op ow o1 o2 yc c) {s t : Nat} (hs : s < 3 * N) (ht : t < 3 * N) : r s = r t ↔ c (ys_s s) = c (ys_s t) := by
  have hN := TT.1
  rw [ty_le TT C hs ht, yt_le TT Y (by omega) (by omega)]
theorem ty_nX (TT : tm_T N kd ka kb up op) (C : ty_C N kd ka kb up op sh r) : ¬ le_X N kd ka kb up op := by
  have hN := TT.1
  intro ⟨n, m, s, k, p, q, s', k', p', q', hn, hm, f, f', hle, hk⟩
  have b1 := fo_b TT hn f
  have b2 := fo_b TT hm f'
  exact hk (ty_cg TT C hn hm f f' ((ty_le TT C (by omega) (by omega)).mpr hle)).1
end
section
variable {ml fl cnt ls sp md pk fnd ifd : Int32} {kd ka kb up ow o1 o2 yc ck p1 p2 yh fi fa ynd clr mrk vla evl ndd icl ecl mkr cvl al cis : Nat → Int32} {nf : Nat}
variable {op : Nat → Int32}
theorem yi_62 {post : Int32 → SY → Prop} {J : Int32 → Prop} {N s : Nat} {c : Nat → Nat} (TT : tm_T N kd ka kb up op) (Y : yt_C N kd ka kb up op ow o1 o2 yc c) (hs : s < 96)
    (K3 : le_X N kd ka kb up op → post 3 (ml, fl, cnt, ls, sp, md, pk, fnd, ifd, kd, ka, kb, up, ow, o1, o2, yc, ck, p1, p2, yh, fi, fa, ynd, clr, mrk, vla, evl, ndd, icl, ecl, mkr, cvl, al, cis, nf)) (K : (∀ t, t < 96 → c s = c t → ow s = 0 ∨ ow t = 0 ∨ ow s = ow t) → J (nI (s + 1))) :
    ∀ (d t : Nat), (∀ t', t' < t → c s = c t' → ow s = 0 ∨ ow t' = 0 ∨ ow s = ow t') → t ≤ 96 → 97 ≤ d + t → wY_infer_62 post J (nI s) ml fl cnt ls sp md pk fnd ifd kd ka kb up ow o1 o2 yc ck p1 p2 yh fi fa ynd clr mrk vla evl ndd icl ecl mkr cvl al cis nf d (nI t) := by
  have hN := TT.1
  intro d
  induction d with
  | zero => intro t h ht hd; omega
  | succ d ih =>
    intro t h ht hd
    have vs : vp_in (nI s) 96 := pk_in s 96 hs
    refine pk_le 96 t (fun z => nm_r (e' := nI (s + 1)) (nI_1 s) ?_) (fun z => ⟨vs, pk_in t 96 z, ?_⟩)
    · have e : t = 96 := by omega
      subst e
      exact K h
    · have cs : (nI s).toNatClampNeg = s := nI_clamp (by omega)
      have ct : (nI t).toNatClampNeg = t := nI_clamp (by omega)
      have vt : vp_in (nI t) 96 := pk_in t 96 z
      have Ls := Y.1 s hs
      have Lt := Y.1 t z
      have nxt : (c s = c t → ow s = 0 ∨ ow t = 0 ∨ ow s = ow t) → wY_infer_62 post J (nI s) ml fl cnt ls sp md pk fnd ifd kd ka kb up ow o1 o2 yc ck p1 p2 yh fi fa ynd clr mrk vla evl ndd icl ecl mkr cvl al cis nf d (nI (t + 1)) := by
        intro g
        refine ih (t + 1) (fun t' ht' => ?_) (by omega) (by omega)
        rcases Classical.em (t' = t) with w | w
        · subst w; exact g
        · exact h t' (by omega)
      rw [cs, ct, Ls.2.1, Lt.2.1]
      refine pk_eq (c s) (c t) (fun ec => ⟨vs, vt, ?_⟩) (fun ec => nm_r (e' := nI (t + 1)) (nI_1 t) (nxt fun e => absurd e ec)) rfl rfl (by omega) (by omega)
      rcases Classical.em (ow s = ow t) with a | a
      · exact br_t a (nm_r (e' := nI (t + 1)) (nI_1 t) (nxt fun _ => Or.inr (Or.inr a)))
      · refine br_f a ⟨vs, ?_⟩
        rcases Classical.em (ow s = 0) with a1 | a1
        · exact br_t a1 (nm_r (e' := nI (t + 1)) (nI_1 t) (nxt fun _ => Or.inl a1))
        · refine br_f a1 ⟨vt, ?_⟩
          rcases Classical.em (ow t = 0) with a2 | a2
          · exact br_t a2 (nm_r (e' := nI (t + 1)) (nI_1 t) (nxt fun _ => Or.inr (Or.inl a2)))
          · refine br_f a2 (K3 ?_)
            obtain ⟨m, u, k, p, q, hm, f, es⟩ := (Y.2.2.2.1.2.1 s hs).resolve_left a1
            obtain ⟨m', u', k', p', q', hm', f', et⟩ := (Y.2.2.2.1.2.1 t z).resolve_left a2
            have b1 := fo_b TT hm f
            have b2 := fo_b TT hm' f'
            refine ⟨m, m', u, k, p, q, u', k', p', q', hm, hm', f, f', Y.2.1 u u' (by omega) (by omega) (by rw [← es, ← et]; exact ec), fun e => a ?_⟩
            rw [es, et, (Y.2.2.2.1.1 _ _ _ _ _ hm f).1, (Y.2.2.2.1.1 _ _ _ _ _ hm' f').1, e]
theorem yi_54 {post : Int32 → SY → Prop} {N : Nat} {c : Nat → Nat} (TT : tm_T N kd ka kb up op) (Y : yt_C N kd ka kb up op ow o1 o2 yc c)
    (K3 : le_X N kd ka kb up op → post 3 (ml, fl, cnt, ls, sp, md, pk, fnd, ifd, kd, ka, kb, up, ow, o1, o2, yc, ck, p1, p2, yh, fi, fa, ynd, clr, mrk, vla, evl, ndd, icl, ecl, mkr, cvl, al, cis, nf)) (K : ¬ le_X N kd ka kb up op → ∃ n132 : Nat, wY_infer_132 post ml fl cnt ls sp md pk fnd ifd nf n132 0 kd ka kb up ow o1 o2 yc ck p1 p2 yh fi fa ynd clr mrk vla evl ndd icl ecl mkr cvl al cis) :
    ∀ (d s : Nat), (∀ s' t, s' < s → t < 96 → c s' = c t → ow s' = 0 ∨ ow t = 0 ∨ ow s' = ow t) → s ≤ 96 → 97 ≤ d + s → wY_infer_54 post ml fl cnt ls sp md pk fnd ifd kd ka kb up ow o1 o2 yc ck p1 p2 yh fi fa ynd clr mrk vla evl ndd icl ecl mkr cvl al cis nf d (nI s) := by
  have hN := TT.1
  intro d
  induction d with
  | zero => intro s h hs hd; omega
  | succ d ih =>
    intro s h hs hd
    refine pk_le 96 s (fun z => ?_) (fun z => ⟨97, ?_⟩)
    · have e : s = 96 := by omega
      subst e
      refine K fun ⟨n, m, s, k, p, q, s', k', p', q', hn, hm, f, f', hle, hk⟩ => ?_
      have b1 := fo_b TT hn f
      have b2 := fo_b TT hm f'
      have F1 := (Y.2.2.2.1.1 _ _ _ _ _ hn f).1
      have F2 := (Y.2.2.2.1.1 _ _ _ _ _ hm f').1
      have ec := (yt_le TT Y (s := s) (t := s') (by omega) (by omega)).mpr hle
      rcases h _ _ (ys_lt (s := s) (by omega)) (ys_lt (s := s') (by omega)) ec with w | w | w
      · rw [F1] at w
        have := (nI_eq (b := 0) (by omega) (by omega)).mp w
        omega
      · rw [F2] at w
        have := (nI_eq (b := 0) (by omega) (by omega)).mp w
        omega
      · rw [F1, F2] at w
        exact hk ((nI_eq (by omega) (by omega)).mp w)
    · refine yi_62 TT Y z K3 (fun g => ?_) 97 0 (fun t' ht => absurd ht (by omega)) (by omega) (by omega)
      refine ih (s + 1) (fun s' t hs' ht => ?_) (by omega) (by omega)
      rcases Classical.em (s' = s) with w | w
      · subst w; exact g t ht
      · exact h s' t (by omega) ht
end
end
section
/-- the reference's table of classes, the slots below s done -/
def yk_I (N : Nat) (kd op : Nat → Int32) (c : Nat → Nat) (s : Nat) (ck p1 p2 : Nat → Int32) : Prop :=
  (∀ m t k p q, m < N → fo_n kd op m t k p q → ys_s t < s → ck (c (ys_s t)) = nI k ∧ (2 ≤ k → p1 (c (ys_s t)) = nI (c (ys_s p)) ∧ p2 (c (ys_s t)) = nI (c (ys_s q)))) ∧
  (∀ u, u < 96 → ck u = 0 ∨ ∃ m t k p q, m < N ∧ fo_n kd op m t k p q ∧ c (ys_s t) = u)
section
variable {ml fl cnt ls sp md pk fnd ifd : Int32} {kd ka kb up ow o1 o2 yc ck p1 p2 yh fi fa ynd clr mrk vla evl ndd icl ecl mkr cvl al cis : Nat → Int32} {nf : Nat}
variable {op : Nat → Int32}
theorem yk_160 {post : Int32 → SY → Prop} {N : Nat} {c : Nat → Nat} (TT : tm_T N kd ka kb up op) (Y : yt_C N kd ka kb up op ow o1 o2 yc c) (hX : ¬ le_X N kd ka kb up op)
    (K : ∀ ck' p1' p2', yk_I N kd op c 96 ck' p1' p2' → ∃ n246 : Nat, wY_infer_246 post ml fl cnt ls sp md pk fnd ifd nf n246 1 0 kd ka kb up ow o1 o2 yc ck' p1' p2' yh fi fa ynd clr mrk vla evl ndd icl ecl mkr cvl al cis) :
    ∀ (d s : Nat) (ck p1 p2 : Nat → Int32), yk_I N kd op c s ck p1 p2 → s ≤ 96 → 97 ≤ d + s → wY_infer_160 post ml fl cnt ls sp md pk fnd ifd nf d (nI s) kd ka kb up ow o1 o2 yc ck p1 p2 yh fi fa ynd clr mrk vla evl ndd icl ecl mkr cvl al cis := by
  have hN := TT.1
  intro d
  induction d with
  | zero => intro s ck p1 p2 I hs hd; omega
  | succ d ih =>
    intro s ck p1 p2 I hs hd
    refine pk_le 96 s (fun z => ?_) (fun z => ⟨pk_in s 96 z, ?_⟩)
    · have e : s = 96 := by omega
      subst e
      exact K ck p1 p2 I
    · have cs : (nI s).toNatClampNeg = s := nI_clamp (by omega)
      have vs : vp_in (nI s) 96 := pk_in s 96 z
      rw [cs]
      rcases Classical.em (ow s = 0) with a | a
      · refine br_t a (nm_r (e' := nI (s + 1)) (nI_1 s) ?_)
        refine ih (s + 1) ck p1 p2 ⟨fun m t k p q hm f ht => ?_, I.2⟩ (by omega) (by omega)
        rcases Classical.em (ys_s t = s) with w | w
        · have b := fo_b TT hm f
          have := (Y.2.2.2.1.1 m t k p q hm f).1
          rw [w, a] at this
          have := (nI_eq (a := 0) (b := k) (by omega) (by omega)).mp this
          omega
        · exact I.1 m t k p q hm f (by omega)
      · have Ls := Y.1 s z
        obtain ⟨x, y, hx, hy, ex, ey⟩ := Y.2.2.2.1.2.2 s z
        have Lx := Y.1 x hx
        have Ly := Y.1 y hy
        have vc : vp_in (yc s) 96 := pk_in (c s) 96 Ls.1 Ls.2.1
        have cc : (yc s).toNatClampNeg = c s := by rw [Ls.2.1]; exact nI_clamp (by omega)
        have c1 : yc (o1 s).toNatClampNeg = nI (c x) := by rw [ex, nI_clamp (by omega)]; exact Lx.2.1
        have c2 : yc (o2 s).toNatClampNeg = nI (c y) := by rw [ey, nI_clamp (by omega)]; exact Ly.2.1
        refine br_f a ⟨vs, vs, vc, nm_r (e' := upd ck (c s) (ow s)) (by rw [cc]) ⟨vs, vs, pk_in x 96 hx ex, vc, nm_r (e' := upd p1 (c s) (nI (c x))) (by rw [cc, c1]) ⟨vs, vs, pk_in y 96 hy ey, vc, nm_r (e' := upd p2 (c s) (nI (c y))) (by rw [cc, c2]) (nm_r (e' := nI (s + 1)) (nI_1 s) ?_)⟩⟩⟩
        obtain ⟨m, t, k, p, q, hm, f, es⟩ := (Y.2.2.2.1.2.1 s z).resolve_left a
        have b := fo_b TT hm f
        have Ft := Y.2.2.2.1.1 m t k p q hm f
        rw [← es] at Ft
        refine ih (s + 1) _ _ _ ⟨fun m' t' k' p' q' hm' f' ht' => ?_, fun u hu => ?_⟩ (by omega) (by omega)
        · have b' := fo_b TT hm' f'
          rcases Classical.em (c (ys_s t') = c s) with w | w
          · have ec : c (ys_s t) = c (ys_s t') := by rw [← es]; exact w.symm
            have hle := Y.2.1 t t' (by omega) (by omega) ec
            have ek : k = k' := by
              rcases Classical.em (k = k') with g | g
              · exact g
              · exact absurd ⟨m, m', t, k, p, q, t', k', p', q', hm, hm', f, f', hle, g⟩ hX
            subst ek
            rw [w, pk_us, pk_us, pk_us]
            refine ⟨Ft.1, fun h2 => ?_⟩
            have cg := Y.2.2.2.2 m m' t k p q t' p' q' hm hm' f f' h2 ec
            have e1 : x = ys_s p := (nI_eq (by omega) (by have := ys_lt (s := p) (by omega); omega)).mp (ex.symm.trans (Ft.2 h2).1)
            have e2 : y = ys_s q := (nI_eq (by omega) (by have := ys_lt (s := q) (by omega); omega)).mp (ey.symm.trans (Ft.2 h2).2)
            rw [e1, e2, cg.1, cg.2]
            exact ⟨rfl, rfl⟩
          · rw [pk_un w, pk_un w, pk_un w]
            refine I.1 m' t' k' p' q' hm' f' ?_
            rcases Classical.em (ys_s t' = s) with g | g
            · rw [g] at w
              exact absurd rfl w
            · omega
        · rcases Classical.em (u = c s) with w | w
          · exact Or.inr ⟨m, t, k, p, q, hm, f, by rw [← es]; exact w.symm⟩
          · rw [pk_un w]
            exact I.2 u hu
theorem yk_132 {post : Int32 → SY → Prop} {N : Nat} {c : Nat → Nat} (TT : tm_T N kd ka kb up op) (Y : yt_C N kd ka kb up op ow o1 o2 yc c) (hX : ¬ le_X N kd ka kb up op)
    (K : ∀ ck' p1' p2' fi', yk_I N kd op c 96 ck' p1' p2' → (∀ u, u < 96 → fi' u = 0) → ∃ n246 : Nat, wY_infer_246 post ml fl cnt ls sp md pk fnd ifd nf n246 1 0 kd ka kb up ow o1 o2 yc ck' p1' p2' yh fi' fa ynd clr mrk vla evl ndd icl ecl mkr cvl al cis) :
    ∀ (d s : Nat) (ck fi : Nat → Int32), (∀ u, u < s → ck u = 0 ∧ fi u = 0) → s ≤ 96 → 97 ≤ d + s → wY_infer_132 post ml fl cnt ls sp md pk fnd ifd nf d (nI s) kd ka kb up ow o1 o2 yc ck p1 p2 yh fi fa ynd clr mrk vla evl ndd icl ecl mkr cvl al cis := by
  have hN := TT.1
  intro d
  induction d with
  | zero => intro s ck fi I hs hd; omega
  | succ d ih =>
    intro s ck fi I hs hd
    refine pk_le 96 s (fun z => ?_) (fun z => ?_)
    · have e : s = 96 := by omega
      subst e
      exact ⟨97, yk_160 TT Y hX (fun ck' p1' p2' I' => K ck' p1' p2' fi I' (fun u hu => (I u hu).2)) 97 0 ck p1 p2 ⟨fun m t k p q hm f ht => absurd ht (by omega), fun u hu => Or.inl (I u hu).1⟩ (by omega) (by omega)⟩
    · have cs : (nI s).toNatClampNeg = s := nI_clamp (by omega)
      refine ⟨pk_in s 96 z, nm_r (e' := upd ck s 0) (by rw [cs]) ⟨pk_in s 96 z, nm_r (e' := upd fi s 0) (by rw [cs]; rfl) (nm_r (e' := nI (s + 1)) (nI_1 s) ?_)⟩⟩
      refine ih (s + 1) _ _ (fun u hu => ?_) (by omega) (by omega)
      rcases Classical.em (u = s) with w | w
      · subst w; exact ⟨pk_us, pk_us⟩
      · rw [pk_un w, pk_un w]; exact I u (by omega)
end
/-! what the reference's classes say of the component's roots -/
section
variable {N : Nat} {kd ka kb up op sh ow o1 o2 yc ck p1 p2 : Nat → Int32} {r c : Nat → Nat}
/-- a root's kind and parts, as the reference has them -/
theorem yk_G (TT : tm_T N kd ka kb up op) (C : ty_C N kd ka kb up op sh r) (Y : yt_C N kd ka kb up op ow o1 o2 yc c) (I : yk_I N kd op c 96 ck p1 p2) {s k a b : Nat} (G : tg_G N kd op sh r s k a b) :
    ck (c (ys_s s)) = nI k ∧ (2 ≤ k → p1 (c (ys_s s)) = nI (c (ys_s a)) ∧ p2 (c (ys_s s)) = nI (c (ys_s b))) := by
  have hN := TT.1
  have gb := tg_b TT C G
  obtain ⟨m, t, p, q, h1, h2, h3, h4, rfl, rfl⟩ := G
  have bt := fo_b TT h1 h2
  have a := I.1 m t k p q h1 h2 (ys_lt (by omega))
  have e : c (ys_s t) = c (ys_s s) := (xy_eq TT C Y (by omega) (by omega)).mp (by rw [h4]; exact gb.2.2.2.2.2.1.symm)
  rw [e] at a
  refine ⟨a.1, fun w => ?_⟩
  have ep : c (ys_s p) = c (ys_s (r p)) := (xy_eq TT C Y (by omega) (by omega)).mp gb.2.2.2.1.symm
  have eq : c (ys_s q) = c (ys_s (r q)) := (xy_eq TT C Y (by omega) (by omega)).mp gb.2.2.2.2.1.symm
  rw [← ep, ← eq]
  exact a.2 w
/-- a class that the reference holds for a form belongs to a root with that form -/
theorem yk_R (TT : tm_T N kd ka kb up op) (C : ty_C N kd ka kb up op sh r) (Y : yt_C N kd ka kb up op ow o1 o2 yc c) (I : yk_I N kd op c 96 ck p1 p2) {u : Nat} (hu : u < 96) (h : ck u ≠ 0) : ∃ s k a b, tg_G N kd op sh r s k a b ∧ c (ys_s s) = u := by
  have hN := TT.1
  obtain ⟨m, t, k, p, q, h1, h2, h3⟩ := (I.2 u hu).resolve_left h
  have bt := fo_b TT h1 h2
  have ct := C.1 t (by omega)
  rcases C.2.2.2.2 (r t) ct.1 ct.2 with w | ⟨m', t', k', p', q', g1, g2, g3, g4⟩
  · obtain ⟨m', t', p', q', g1, g2, g3, -, -⟩ := C.2.2.2.1 m t k p q h1 h2
    rw [w] at g3
    have := fo_b TT g1 g2
    exact absurd g3 (m1_n (by omega))
  · refine ⟨r t, k', r p', r q', ⟨m', t', p', q', g1, g2, g3, g4, rfl, rfl⟩, ?_⟩
    rw [← h3]
    exact (xy_eq TT C Y (by omega) (by omega)).mp ct.2
end
end
section
def yn_I (N : Nat) (kd op sh : Nat → Int32) (r c : Nat → Nat) (fi : Nat → Int32) : Prop := ∀ u, u < 96 → (fi u = 0 ∨ fi u = 1) ∧ (fi u = 1 → ∀ s, s < 3 * N → r s = s → c (ys_s s) = u → fn_F N kd op sh r s)
def yn_B (ck p1 p2 fi : Nat → Int32) (u : Nat) : Prop := ¬ ck u < 2 ∧ ¬ (fi (p1 u).toNatClampNeg = 1 ∧ fi (p2 u).toNatClampNeg = 1)
noncomputable def yn_N (fi : Nat → Int32) : Nat := cn (fun u => fi u = 1) 96
section
variable {N : Nat} {kd ka kb up op sh ow o1 o2 yc ck p1 p2 : Nat → Int32} {r c : Nat → Nat}
/-- the parts of a class that is a pair or a function -/
theorem yk_B (TT : tm_T N kd ka kb up op) (C : ty_C N kd ka kb up op sh r) (Y : yt_C N kd ka kb up op ow o1 o2 yc c) (I : yk_I N kd op c 96 ck p1 p2) {u : Nat} (hu : u < 96) (h : ¬ ck u < 2) :
    ∃ s k a b, tg_G N kd op sh r s k a b ∧ 2 ≤ k ∧ c (ys_s s) = u ∧ ck u = nI k ∧ p1 u = nI (c (ys_s a)) ∧ p2 u = nI (c (ys_s b)) := by
  obtain ⟨s, k, a, b, G, e⟩ := yk_R TT C Y I hu (fun z => h (by rw [z]; decide))
  have gb := tg_b TT C G
  have g := yk_G TT C Y I G
  rw [e] at g
  have hk : 2 ≤ k := by
    rcases Nat.lt_or_ge k 2 with w | w
    · exact absurd (by rw [g.1]; exact nI_lt (b := 2) w (by omega)) h
    · exact w
  exact ⟨s, k, a, b, G, hk, e, g.1, (g.2 hk).1, (g.2 hk).2⟩
/-- a closed table of finite classes holds every finite root -/
theorem yn_cl (TT : tm_T N kd ka kb up op) (C : ty_C N kd ka kb up op sh r) (Y : yt_C N kd ka kb up op ow o1 o2 yc c) (I : yk_I N kd op c 96 ck p1 p2) {fi : Nat → Int32} (h01 : ∀ u, u < 96 → fi u = 0 ∨ fi u = 1)
    (cl : ∀ u, u < 96 → fi u = 0 → yn_B ck p1 p2 fi u) {s : Nat} (hf : fn_F N kd op sh r s) : fi (c (ys_s s)) = 1 := by
  have hN := TT.1
  refine hf (fun s => fi (c (ys_s s)) = 1) (fun s hs hr => ⟨fun nb => ?_, fun k a b G hk ha hb => ?_⟩)
  · have hu := (Y.1 _ (ys_lt (s := s) (by omega))).1
    rcases h01 _ hu with w | w
    · obtain ⟨s', k, a, b, G, hk, e, -⟩ := yk_B TT C Y I hu (cl _ hu w).1
      have gb := tg_b TT C G
      have := (xy_eq TT C Y gb.1 hs).mpr e
      rw [hr, gb.2.2.2.2.2.1] at this
      subst this
      exact absurd ⟨k, a, b, G, hk⟩ nb
    · exact w
  · have hu := (Y.1 _ (ys_lt (s := s) (by omega))).1
    have gb := tg_b TT C G
    have la := (Y.1 _ (ys_lt (s := a) (by omega))).1
    have lb := (Y.1 _ (ys_lt (s := b) (by omega))).1
    rcases h01 _ hu with w | w
    · have g := (yk_G TT C Y I G).2 hk
      have z := (cl _ hu w).2
      rw [g.1, g.2, nI_clamp (by omega), nI_clamp (by omega)] at z
      exact absurd ⟨ha, hb⟩ z
    · exact w
end
section
variable {ml fl cnt ls sp md pk fnd ifd : Int32} {kd ka kb up ow o1 o2 yc ck p1 p2 yh fi fa ynd clr mrk vla evl ndd icl ecl mkr cvl al cis : Nat → Int32} {nf : Nat}
variable {op sh : Nat → Int32}
theorem yn_261 {post : Int32 → SY → Prop} {J : Int32 → Int32 → (Nat → Int32) → (Nat → Int32) → (Nat → Int32) → (Nat → Int32) → (Nat → Int32) → (Nat → Int32) → (Nat → Int32) → (Nat → Int32) → (Nat → Int32) → (Nat → Int32) → (Nat → Int32) → (Nat → Int32) → (Nat → Int32) → (Nat → Int32) → (Nat → Int32) → (Nat → Int32) → (Nat → Int32) → (Nat → Int32) → (Nat → Int32) → (Nat → Int32) → (Nat → Int32) → (Nat → Int32) → (Nat → Int32) → (Nat → Int32) → (Nat → Int32) → (Nat → Int32) → Prop} {N i : Nat} {r c : Nat → Nat} {fi0 : Nat → Int32} (TT : tm_T N kd ka kb up op) (C : ty_C N kd ka kb up op sh r) (Y : yt_C N kd ka kb up op ow o1 o2 yc c) (I : yk_I N kd op c 96 ck p1 p2)
    (K : ∀ v fi', yn_I N kd op sh r c fi' → ((v = 0 ∧ ∀ u, u < 96 → fi' u = 0 → yn_B ck p1 p2 fi' u) ∨ (v = 1 ∧ yn_N fi0 < yn_N fi')) → J v (nI (i + 1)) kd ka kb up ow o1 o2 yc ck p1 p2 yh fi' fa ynd clr mrk vla evl ndd icl ecl mkr cvl al cis) :
    ∀ (d u : Nat) (v : Int32) (fi : Nat → Int32), yn_I N kd op sh r c fi → ((v = 0 ∧ fi = fi0 ∧ ∀ u', u' < u → fi0 u' = 0 → yn_B ck p1 p2 fi0 u') ∨ (v = 1 ∧ yn_N fi0 < yn_N fi)) → u ≤ 96 → 97 ≤ d + u →
      wY_infer_261 post J (nI i) ml fl cnt ls sp md pk fnd ifd nf d v (nI u) kd ka kb up ow o1 o2 yc ck p1 p2 yh fi fa ynd clr mrk vla evl ndd icl ecl mkr cvl al cis := by
  have hN := TT.1
  intro d
  induction d with
  | zero => intro u v fi F h hu hd; omega
  | succ d ih =>
    intro u v fi F h hu hd
    refine pk_le 96 u (fun z => nm_r (e' := nI (i + 1)) (nI_1 i) ?_) (fun z => ⟨pk_in u 96 z, ?_⟩)
    · have e : u = 96 := by omega
      subst e
      refine K v fi F ?_
      rcases h with ⟨a, b, g⟩ | g
      · rw [b]
        exact Or.inl ⟨a, g⟩
      · exact Or.inr g
    · have cu : (nI u).toNatClampNeg = u := nI_clamp (by omega)
      have vu : vp_in (nI u) 96 := pk_in u 96 z
      rw [cu]
      have nxt : (fi u = 0 → yn_B ck p1 p2 fi u) → wY_infer_261 post J (nI i) ml fl cnt ls sp md pk fnd ifd nf d v (nI (u + 1)) kd ka kb up ow o1 o2 yc ck p1 p2 yh fi fa ynd clr mrk vla evl ndd icl ecl mkr cvl al cis := by
        intro hb
        refine ih (u + 1) v fi F ?_ (by omega) (by omega)
        rcases h with ⟨a, b, g⟩ | g
        · refine Or.inl ⟨a, b, fun u' hu' e => ?_⟩
          rcases Classical.em (u' = u) with w | w
          · subst w
            rw [← b] at e ⊢
            exact hb e
          · exact g u' (by omega) e
        · exact Or.inr g
      rcases (F u z).1 with f0 | f1
      · have fin : ∀ J2, (∀ s, s < 3 * N → r s = s → c (ys_s s) = u → fn_F N kd op sh r s) → wY_infer_319 post J2 (wY_infer_261 post J (nI i) ml fl cnt ls sp md pk fnd ifd nf d) (nI i) (nI u) ml fl cnt ls sp md pk fnd ifd kd ka kb up ow o1 o2 yc ck p1 p2 yh fi fa ynd clr mrk vla evl ndd icl ecl mkr cvl al cis nf := by
          intro J2 hs
          unfold wY_infer_319
          refine ⟨vu, nm_r (e' := upd fi u 1) (by rw [cu]; rfl) (nm_r (e' := nI (u + 1)) (nI_1 u) ?_)⟩
          have lt : yn_N fi < yn_N (upd fi u 1) := by
            refine cn_lt (P := fun k => fi k = 1) (Q := fun k => upd fi u 1 k = 1) (a := u) (fun w => ?_) pk_us (fun k hk w => ?_) z
            · have w' : fi u = 1 := w
              exact absurd (f0.symm.trans w') (by decide)
            · have w' : fi k = 1 := w
              rcases Classical.em (k = u) with y | y
              · subst y
                exact pk_us
              · show upd fi u 1 k = 1
                rw [pk_un y]
                exact w'
          refine ih (u + 1) 1 (upd fi u 1) (fun u' hu' => ?_) (Or.inr ⟨rfl, ?_⟩) (by omega) (by omega)
          · rcases Classical.em (u' = u) with w | w
            · subst w
              exact ⟨Or.inr pk_us, fun _ => hs⟩
            · rw [pk_un w]
              exact F u' hu'
          · rcases h with ⟨-, b, -⟩ | g
            · rw [← b]; exact lt
            · omega
        refine br_t f0 ⟨vu, ?_⟩
        rcases Classical.em (ck u < 2) with k2 | k2
        · refine br_t k2 (fin _ fun s hs hr e => (fn_c s hs hr).1 fun ⟨k, a, b, G, hk⟩ => ?_)
          have g := (yk_G TT C Y I G).1
          have gb := tg_b TT C G
          rw [e] at g
          rw [g] at k2
          exact nI_nlt (b := 2) hk (by omega) k2
        · obtain ⟨s, k, a, b, G, hk, es, -, e1, e2⟩ := yk_B TT C Y I z k2
          have gb := tg_b TT C G
          have la := (Y.1 _ (ys_lt (s := a) (by omega))).1
          have lb := (Y.1 _ (ys_lt (s := b) (by omega))).1
          refine br_f k2 ⟨vu, pk_in _ 96 la e1, ?_⟩
          have q1 : (p1 u).toNatClampNeg = c (ys_s a) := by rw [e1]; exact nI_clamp (by omega)
          have q2 : (p2 u).toNatClampNeg = c (ys_s b) := by rw [e2]; exact nI_clamp (by omega)
          rcases (F _ la).1 with a0 | a1
          · refine br_t (by rw [q1]; exact a0) (nm_r (e' := nI (u + 1)) (nI_1 u) (nxt fun _ => ⟨k2, fun w => ?_⟩))
            rw [q1] at w
            exact absurd (a0.symm.trans w.1) (by decide)
          · refine br_f (by rw [q1, a1]; decide) ⟨vu, pk_in _ 96 lb e2, ?_⟩
            rcases (F _ lb).1 with b0 | b1
            · refine br_t (by rw [q2]; exact b0) (nm_r (e' := nI (u + 1)) (nI_1 u) (nxt fun _ => ⟨k2, fun w => ?_⟩))
              rw [q2] at w
              exact absurd (b0.symm.trans w.2) (by decide)
            · refine br_f (by rw [q2, b1]; decide) (fin _ fun s' hs' hr' e' => ?_)
              have ee := (xy_eq TT C Y gb.1 hs').mpr (es.trans e'.symm)
              rw [hr', gb.2.2.2.2.2.1] at ee
              subst ee
              exact (fn_c s hs' hr').2 k a b G hk ((F _ la).2 a1 a gb.2.1 gb.2.2.2.1 rfl) ((F _ lb).2 b1 b gb.2.2.1 gb.2.2.2.2.1 rfl)
      · refine br_f (by rw [f1]; decide) (nm_r (e' := nI (u + 1)) (nI_1 u) (nxt fun w => ?_))
        exact absurd (w.symm.trans f1) (by decide)
theorem yn_343 {post : Int32 → SY → Prop} {N : Nat} {r c : Nat → Nat} (TT : tm_T N kd ka kb up op) (C : ty_C N kd ka kb up op sh r) (Y : yt_C N kd ka kb up op ow o1 o2 yc c) (I : yk_I N kd op c 96 ck p1 p2)
    (F : yn_I N kd op sh r c fi) (cc : ∀ u, u < 96 → fi u = 0 → yn_B ck p1 p2 fi u)
    (K4 : (∃ s, s < 3 * N ∧ r s = s ∧ ¬ fn_F N kd op sh r s) → post 4 (ml, fl, cnt, ls, sp, md, pk, fnd, ifd, kd, ka, kb, up, ow, o1, o2, yc, ck, p1, p2, yh, fi, fa, ynd, clr, mrk, vla, evl, ndd, icl, ecl, mkr, cvl, al, cis, nf))
    (K : (∀ s, s < 3 * N → r s = s → fn_F N kd op sh r s) → ∀ d, wY_infer_343 post ml fl cnt ls sp md pk fnd ifd kd ka kb up ow o1 o2 yc ck p1 p2 yh fi fa ynd clr mrk vla evl ndd icl ecl mkr cvl al cis nf (d + 1) (nI 96)) :
    ∀ (d u : Nat), (∀ u', u' < u → fi u' = 1) → u ≤ 96 → 97 ≤ d + u → wY_infer_343 post ml fl cnt ls sp md pk fnd ifd kd ka kb up ow o1 o2 yc ck p1 p2 yh fi fa ynd clr mrk vla evl ndd icl ecl mkr cvl al cis nf d (nI u) := by
  have hN := TT.1
  intro d
  induction d with
  | zero => intro u h hu hd; omega
  | succ d ih =>
    intro u h hu hd
    rcases Classical.em (u = 96) with e | e
    · subst e
      exact K (fun s hs hr => (F _ (Y.1 _ (ys_lt (s := s) (by omega))).1).2 (h _ (Y.1 _ (ys_lt (s := s) (by omega))).1) s hs hr rfl) d
    refine pk_le 96 u (fun z => absurd z (by omega)) (fun z => ⟨pk_in u 96 z, ?_⟩)
    · have cu : (nI u).toNatClampNeg = u := nI_clamp (by omega)
      rw [cu]
      rcases (F u z).1 with f0 | f1
      · refine br_t f0 (K4 ?_)
        obtain ⟨s, k, a, b, G, hk, es, -⟩ := yk_B TT C Y I z (cc u z f0).1
        have gb := tg_b TT C G
        refine ⟨s, gb.1, gb.2.2.2.2.2.1, fun hf => ?_⟩
        have := yn_cl TT C Y I (fun u hu => (F u hu).1) cc hf
        rw [es] at this
        exact absurd (f0.symm.trans this) (by decide)
      · refine br_f (by rw [f1]; decide) (nm_r (e' := nI (u + 1)) (nI_1 u) ?_)
        refine ih (u + 1) (fun u' hu' => ?_) (by omega) (by omega)
        rcases Classical.em (u' = u) with w | w
        · subst w; exact f1
        · exact h u' (by omega)
theorem yn_246 {post : Int32 → SY → Prop} {N : Nat} {r c : Nat → Nat} (TT : tm_T N kd ka kb up op) (C : ty_C N kd ka kb up op sh r) (Y : yt_C N kd ka kb up op ow o1 o2 yc c) (I : yk_I N kd op c 96 ck p1 p2)
    (K4 : ∀ fi', (∃ s, s < 3 * N ∧ r s = s ∧ ¬ fn_F N kd op sh r s) → post 4 (ml, fl, cnt, ls, sp, md, pk, fnd, ifd, kd, ka, kb, up, ow, o1, o2, yc, ck, p1, p2, yh, fi', fa, ynd, clr, mrk, vla, evl, ndd, icl, ecl, mkr, cvl, al, cis, nf))
    (K : ∀ fi', (∀ s, s < 3 * N → r s = s → fn_F N kd op sh r s) → ∀ d, wY_infer_343 post ml fl cnt ls sp md pk fnd ifd kd ka kb up ow o1 o2 yc ck p1 p2 yh fi' fa ynd clr mrk vla evl ndd icl ecl mkr cvl al cis nf (d + 1) (nI 96)) :
    ∀ (d i : Nat) (v : Int32) (fi : Nat → Int32), yn_I N kd op sh r c fi → ((v = 0 ∧ ∀ u, u < 96 → fi u = 0 → yn_B ck p1 p2 fi u) ∨ (v = 1 ∧ i ≤ yn_N fi)) → i ≤ 96 → 97 ≤ d + i →
      wY_infer_246 post ml fl cnt ls sp md pk fnd ifd nf d v (nI i) kd ka kb up ow o1 o2 yc ck p1 p2 yh fi fa ynd clr mrk vla evl ndd icl ecl mkr cvl al cis := by
  intro d
  induction d with
  | zero => intro i v fi F h hi hd; omega
  | succ d ih =>
    intro i v fi F h hi hd
    have fin : (∀ u, u < 96 → fi u = 0 → yn_B ck p1 p2 fi u) → ∃ n343 : Nat, wY_infer_343 post ml fl cnt ls sp md pk fnd ifd kd ka kb up ow o1 o2 yc ck p1 p2 yh fi fa ynd clr mrk vla evl ndd icl ecl mkr cvl al cis nf n343 0 :=
      fun cc => ⟨97, yn_343 TT C Y I F cc (K4 fi) (K fi) 97 0 (fun u hu => absurd hu (by omega)) (by omega) (by omega)⟩
    refine pk_le 96 i (fun z => fin ?_) (fun z => ?_)
    · rcases h with ⟨-, h⟩ | ⟨-, h⟩
      · exact h
      · intro u hu e
        have a := ct_one (P := fun u => fi u = 1) hu (fun w => absurd (e.symm.trans w) (by decide))
        have b : yn_N fi = cn (fun u => fi u = 1) 96 := rfl
        omega
    · rcases h with ⟨rfl, h⟩ | ⟨rfl, h⟩
      · exact br_t rfl (fin h)
      · refine br_f (by decide) ⟨97, yn_261 (fi0 := fi) TT C Y I (fun v' fi' F' h' => ?_) 97 0 0 fi F (Or.inl ⟨rfl, rfl, fun u' hu => absurd hu (by omega)⟩) (by omega) (by omega)⟩
        refine ih (i + 1) v' fi' F' ?_ (by omega) (by omega)
        rcases h' with g | ⟨g, g2⟩
        · exact Or.inl g
        · exact Or.inr ⟨g, by omega⟩
end
end
section
/-! the least facts: 0 raw, 1 vis (of a node), 2 lat, 3 seen (of a root), each about a boxed root -/
section
variable {N : Nat} {kd ka kb up op sh : Nat → Int32} {r : Nat → Nat}
def ef_R (N : Nat) (kd ka kb up op sh : Nat → Int32) (r : Nat → Nat) (F : Nat → Nat → Nat → Prop) (w x ρ : Nat) : Prop :=
  (w = 3 ∧ ∃ k a b, tg_G N kd op sh r x k a b ∧ 2 ≤ k ∧ (x = ρ ∨ F 3 a ρ ∨ F 3 b ρ ∨ (k = 3 ∧ F 2 x ρ))) ∨
  (w = 2 ∧ ∃ m p, m < N ∧ p < N ∧ up m = nI p ∧ kd p = 2 ∧ r (3 * p) = x ∧ F 0 m ρ ∧ F 1 m ρ) ∨
  (w = 1 ∧ x < N ∧ (F 3 (r (3 * x)) ρ ∨ ∃ v f, v < N ∧ kd v = 1 ∧ re_R up v x ∧ bn_B kd ka kb up v (ka v) f ∧ x < f ∧ F 3 (r (3 * v)) ρ)) ∨
  (w = 0 ∧ x < N ∧ ((kd x ≠ 2 ∧ ∃ m, m < N ∧ up m = nI x ∧ F 0 m ρ ∧ F 1 m ρ) ∨ ((kd x = 2 ∨ kd x = 4) ∧ r (3 * x) = ρ) ∨
    ((kd x = 5 ∨ kd x = 6 ∨ kd x = 3) ∧ r (3 * tm_c op x 0) = ρ) ∨ (kd x = 3 ∧ F 2 (r (3 * tm_c op x 0)) ρ)))
theorem ef_mono {F F' : Nat → Nat → Nat → Prop} {w x ρ : Nat} (h : ∀ w x, F w x ρ → F' w x ρ) (R : ef_R N kd ka kb up op sh r F w x ρ) : ef_R N kd ka kb up op sh r F' w x ρ := by
  rcases R with ⟨e, k, a, b, G, hk, R⟩ | ⟨e, m, p, h1, h2, h3, h4, h5, R1, R2⟩ | ⟨e, hx, R⟩ | ⟨e, hx, R⟩
  · refine Or.inl ⟨e, k, a, b, G, hk, ?_⟩
    rcases R with R | R | R | ⟨R, R2⟩
    · exact Or.inl R
    · exact Or.inr (Or.inl (h _ _ R))
    · exact Or.inr (Or.inr (Or.inl (h _ _ R)))
    · exact Or.inr (Or.inr (Or.inr ⟨R, h _ _ R2⟩))
  · exact Or.inr (Or.inl ⟨e, m, p, h1, h2, h3, h4, h5, h _ _ R1, h _ _ R2⟩)
  · refine Or.inr (Or.inr (Or.inl ⟨e, hx, ?_⟩))
    rcases R with R | ⟨v, f, h1, h2, h3, h4, h5, R⟩
    · exact Or.inl (h _ _ R)
    · exact Or.inr ⟨v, f, h1, h2, h3, h4, h5, h _ _ R⟩
  · refine Or.inr (Or.inr (Or.inr ⟨e, hx, ?_⟩))
    rcases R with ⟨h1, m, h2, h3, R1, R2⟩ | R | R | ⟨h1, R⟩
    · exact Or.inl ⟨h1, m, h2, h3, h _ _ R1, h _ _ R2⟩
    · exact Or.inr (Or.inl R)
    · exact Or.inr (Or.inr (Or.inl R))
    · exact Or.inr (Or.inr (Or.inr ⟨h1, h _ _ R⟩))
def ef_C (N : Nat) (kd ka kb up op sh : Nat → Int32) (r : Nat → Nat) (F : Nat → Nat → Nat → Prop) : Prop := ∀ w x ρ, tg_B N kd op sh r ρ → ef_R N kd ka kb up op sh r F w x ρ → F w x ρ
def ef_E (N : Nat) (kd ka kb up op sh : Nat → Int32) (r : Nat → Nat) (w x ρ : Nat) : Prop := ∀ F, ef_C N kd ka kb up op sh r F → F w x ρ
theorem ef_c : ef_C N kd ka kb up op sh r (ef_E N kd ka kb up op sh r) := fun w x ρ hb R F c => c w x ρ hb (ef_mono (fun _ _ h => h F c) R)
/-- every fact comes by a rule -/
theorem ef_inv {w x ρ : Nat} (h : ef_E N kd ka kb up op sh r w x ρ) : tg_B N kd op sh r ρ ∧ ef_R N kd ka kb up op sh r (ef_E N kd ka kb up op sh r) w x ρ := by
  have := h (fun w x ρ => ef_E N kd ka kb up op sh r w x ρ ∧ tg_B N kd op sh r ρ ∧ ef_R N kd ka kb up op sh r (ef_E N kd ka kb up op sh r) w x ρ) (fun w x ρ hb R => ?_)
  · exact this.2
  · have R' := ef_mono (fun _ _ z => z.1) R
    exact ⟨ef_c w x ρ hb R', hb, R'⟩
/-- a latent fact stands at a function's class -/
theorem ef_lf (TT : tm_T N kd ka kb up op) (C : ty_C N kd ka kb up op sh r) {x ρ k a b : Nat} (h : ef_E N kd ka kb up op sh r 2 x ρ) (G : tg_G N kd op sh r x k a b) : k = 3 := by
  rcases (ef_inv h).2 with ⟨e, -⟩ | ⟨-, m, p, h1, h2, h3, h4, h5, -⟩ | ⟨e, -⟩ | ⟨e, -⟩
  · omega
  · obtain ⟨m', t, p', q', g1, g2, g3, g4, -, -⟩ := G
    exact (ty_cg TT C g1 h2 g2 (fo_2 h4) (by rw [g4, h5])).1
  · omega
  · omega
end
end
section
def ix_f (w x u : Nat) : Nat := (w * 96 + x) * 96 + u
theorem ix_lt {w x u : Nat} (hw : w < 4) (hx : x < 96) (hu : u < 96) : ix_f w x u < 36864 := by unfold ix_f; omega
theorem ix_in {w x u w' x' u' : Nat} (hx : x < 96) (hu : u < 96) (hx' : x' < 96) (hu' : u' < 96) (e : ix_f w x u = ix_f w' x' u') : w = w' ∧ x = x' ∧ u = u' := by unfold ix_f at e; omega
theorem ix_ex {i : Nat} (h : i < 36864) : ∃ w x u, w < 4 ∧ x < 96 ∧ u < 96 ∧ i = ix_f w x u := ⟨i / 9216, i / 96 % 96, i % 96, by omega, by omega, by omega, by unfold ix_f; omega⟩
/-- what the reference's rule asks, by its own labels -/
def ry_R (N : Nat) (kd ka kb up op ck p1 p2 : Nat → Int32) (c : Nat → Nat) (fa : Nat → Int32) (w x u : Nat) : Prop :=
  (w = 3 ∧ ¬ ck x < 2 ∧ (x = u ∨ fa (ix_f 3 (p1 x).toNatClampNeg u) = 1 ∨ fa (ix_f 3 (p2 x).toNatClampNeg u) = 1 ∨ (ck x = 3 ∧ fa (ix_f 2 x u) = 1))) ∨
  (w = 2 ∧ ∃ m p, m < N ∧ p < N ∧ up m = nI p ∧ kd p = 2 ∧ c p = x ∧ fa (ix_f 0 m u) = 1 ∧ fa (ix_f 1 m u) = 1) ∨
  (w = 1 ∧ x < N ∧ (fa (ix_f 3 (c x) u) = 1 ∨ ∃ v f, v < N ∧ kd v = 1 ∧ re_R up v x ∧ bn_B kd ka kb up v (ka v) f ∧ ¬ re_R up f x ∧ fa (ix_f 3 (c v) u) = 1)) ∨
  (w = 0 ∧ x < N ∧ ((kd x ≠ 2 ∧ ∃ m, m < N ∧ up m = nI x ∧ fa (ix_f 0 m u) = 1 ∧ fa (ix_f 1 m u) = 1) ∨ ((kd x = 2 ∨ kd x = 4) ∧ c x = u) ∨
    ((kd x = 5 ∨ kd x = 6 ∨ kd x = 3) ∧ c (tm_c op x 0) = u) ∨ (kd x = 3 ∧ fa (ix_f 2 (c (tm_c op x 0)) u) = 1)))
section
variable {ml fl cnt ls sp md pk fnd ifd : Int32} {kd ka kb up ow o1 o2 yc ck p1 p2 yh fi fa ynd clr mrk vla evl ndd icl ecl mkr cvl al cis : Nat → Int32} {nf : Nat}
variable {op : Nat → Int32}
theorem yh_has {post : Int32 → Prop} {w x u : Nat} {v0 v1 v2 : Int32} (h01 : ∀ i, i < 36864 → fa i = 0 ∨ fa i = 1) (hw : w < 4) (hx : x < 96) (hu : u < 96) (e0 : v0 = nI w) (e1 : v1 = nI x) (e2 : v2 = nI u)
    (K1 : fa (ix_f w x u) = 1 → post 1) (K0 : fa (ix_f w x u) = 0 → post 0) : wpY_has post (ml, fl, cnt, ls, sp, md, pk, fnd, ifd, kd, ka, kb, up, ow, o1, o2, yc, ck, p1, p2, yh, fi, fa, ynd, clr, mrk, vla, evl, ndd, icl, ecl, mkr, cvl, al, cis, 36864) v0 v1 v2 := by
  subst e0 e1 e2
  have hl := ix_lt hw hx hu
  have e : (((nI w * 96) + nI x) * 96) + nI u = nI (ix_f w x u) := by
    rw [show nI w * 96 = nI (w * 96) from pk_mul w 96, nI_add, show nI (w * 96 + x) * 96 = nI ((w * 96 + x) * 96) from pk_mul _ 96, nI_add]
    rfl
  have c : ((((nI w * 96) + nI x) * 96) + nI u).toNatClampNeg = ix_f w x u := by rw [e]; exact nI_clamp (by omega)
  unfold wpY_has
  dsimp only
  rw [c]
  refine ⟨pk_in _ 36864 hl e, ?_⟩
  rcases h01 _ hl with h | h
  · rw [h]; exact ⟨narrow_b0, K0 h⟩
  · rw [h]; exact ⟨narrow_b1, K1 h⟩
theorem yl_87 {post : Int32 → Prop} {N x u : Nat} {c : Nat → Nat} (TT : tm_T N kd ka kb up op) (L : ym_L c yc) (h01 : ∀ i, i < 36864 → fa i = 0 ∨ fa i = 1) (hx : x < 96) (hu : u < 96)
    (K1 : (∃ m p, m < N ∧ p < N ∧ up m = nI p ∧ kd p = 2 ∧ c p = x ∧ fa (ix_f 0 m u) = 1 ∧ fa (ix_f 1 m u) = 1) → post 1)
    (K0 : (¬ ∃ m p, m < N ∧ p < N ∧ up m = nI p ∧ kd p = 2 ∧ c p = x ∧ fa (ix_f 0 m u) = 1 ∧ fa (ix_f 1 m u) = 1) → post 0) :
    ∀ (d m : Nat) (v : Int32), ((v = 0 ∧ ∀ m' p, m' < m → p < N → up m' = nI p → kd p = 2 → c p = x → fa (ix_f 0 m' u) = 1 → fa (ix_f 1 m' u) = 1 → False) ∨ (v = 1 ∧ ∃ m p, m < N ∧ p < N ∧ up m = nI p ∧ kd p = 2 ∧ c p = x ∧ fa (ix_f 0 m u) = 1 ∧ fa (ix_f 1 m u) = 1)) → m ≤ N → N + 1 ≤ d + m →
      wY_rule_87 post (nI x) (nI u) ml fl (nI N) ls sp md pk fnd ifd kd ka kb up ow o1 o2 yc ck p1 p2 yh fi fa ynd clr mrk vla evl ndd icl ecl mkr cvl al cis 36864 d v (nI m) := by
  have hN := TT.1
  intro d
  induction d with
  | zero => intro m v h hm hd; omega
  | succ d ih =>
    intro m v h hm hd
    refine pk_le N m (fun z => ?_) (fun z => ⟨pk_in m 32 (by omega), ?_⟩)
    · have e : m = N := by omega
      subst e
      rcases h with ⟨rfl, h⟩ | ⟨rfl, h⟩
      · exact ⟨narrow_b0, K0 fun ⟨m', p, a1, a2, a3, a4, a5, a6, a7⟩ => h m' p a1 a2 a3 a4 a5 a6 a7⟩
      · exact ⟨narrow_b1, K1 h⟩
    · have cm : (nI m).toNatClampNeg = m := nI_clamp (by omega)
      rw [cm]
      have nxt : (∀ p, p < N → up m = nI p → kd p = 2 → c p = x → fa (ix_f 0 m u) = 1 → fa (ix_f 1 m u) = 1 → False) → wY_rule_87 post (nI x) (nI u) ml fl (nI N) ls sp md pk fnd ifd kd ka kb up ow o1 o2 yc ck p1 p2 yh fi fa ynd clr mrk vla evl ndd icl ecl mkr cvl al cis 36864 d v (nI (m + 1)) := by
        intro g
        refine ih (m + 1) v ?_ (by omega) (by omega)
        rcases h with ⟨a, h⟩ | h
        · refine Or.inl ⟨a, fun m' p hm' => ?_⟩
          rcases Classical.em (m' = m) with w | w
          · subst w; exact g p
          · exact h m' p (by omega)
        · exact Or.inr h
      rcases TT.2.2.1 m z with e | ⟨p, e1, e2, e3⟩
      · refine br_t (by rw [e]; decide) (nm_r (e' := nI (m + 1)) (nI_1 m) (nxt fun p hp e' => ?_))
        exact absurd (e.symm.trans e') (m1_n (by omega))
      · have cp : (nI p).toNatClampNeg = p := nI_clamp (by omega)
        have uq : ∀ p', p' < N → up m = nI p' → p' = p := fun p' hp' e' => (nI_eq (by omega) (by omega)).mp (e'.symm.trans e3)
        refine br_f (by rw [e3]; exact nI_pos (by omega)) ⟨pk_in m 32 (by omega), ?_⟩
        rw [e3, cp]
        refine ⟨pk_in p 32 (by omega), ?_⟩
        rcases Classical.em (kd p = 2) with k2 | k2
        · refine br_t k2 ⟨pk_in m 32 (by omega), pk_in p 96 (by omega), ?_⟩
          have Lp := L p (by omega)
          rw [Lp.2.1]
          refine pk_eq (c p) x (fun ec => ?_) (fun ec => nm_r (e' := nI (m + 1)) (nI_1 m) (nxt fun p' hp' e' _ e'' => ?_)) rfl rfl (by omega) (by omega)
          · refine yh_has h01 (w := 0) (x := m) (u := u) (by omega) (by omega) hu rfl rfl rfl (fun f0 => br_f (by decide) ?_) (fun f0 => br_t rfl (nm_r (e' := nI (m + 1)) (nI_1 m) (nxt fun _ _ _ _ _ e' => absurd (f0.symm.trans e') (by decide))))
            refine yh_has h01 (w := 1) (x := m) (u := u) (by omega) (by omega) hu rfl rfl rfl (fun f1 => br_f (by decide) (nm_r (e' := nI (m + 1)) (nI_1 m) ?_)) (fun f1 => br_t rfl (nm_r (e' := nI (m + 1)) (nI_1 m) (nxt fun _ _ _ _ _ _ e' => absurd (f1.symm.trans e') (by decide))))
            exact ih (m + 1) 1 (Or.inr ⟨rfl, m, p, z, e2, e3, k2, ec, f0, f1⟩) (by omega) (by omega)
          · have := uq p' hp' e'
            subst this
            exact absurd e'' ec
        · refine br_f k2 (nm_r (e' := nI (m + 1)) (nI_1 m) (nxt fun p' hp' e' k' => ?_))
          have := uq p' hp' e'
          subst this
          exact absurd k' k2
theorem yl_190 {post : Int32 → Prop} {N x u : Nat} {c : Nat → Nat} (TT : tm_T N kd ka kb up op) (L : ym_L c yc) (h01 : ∀ i, i < 36864 → fa i = 0 ∨ fa i = 1) (hbd : ∀ n, n < N → kd n = 1 → ∃ f, bn_B kd ka kb up n (ka n) f) (hx : x < N) (hu : u < 96)
    (K1 : (fa (ix_f 3 (c x) u) = 1 ∨ ∃ v f, v < N ∧ kd v = 1 ∧ re_R up v x ∧ bn_B kd ka kb up v (ka v) f ∧ ¬ re_R up f x ∧ fa (ix_f 3 (c v) u) = 1) → post 1)
    (K0 : ¬ (fa (ix_f 3 (c x) u) = 1 ∨ ∃ v f, v < N ∧ kd v = 1 ∧ re_R up v x ∧ bn_B kd ka kb up v (ka v) f ∧ ¬ re_R up f x ∧ fa (ix_f 3 (c v) u) = 1) → post 0) :
    ∀ (d m : Nat) (v : Int32), ((v = 0 ∧ ∀ m' f, m' < m → kd m' = 1 → re_R up m' x → bn_B kd ka kb up m' (ka m') f → ¬ re_R up f x → fa (ix_f 3 (c m') u) = 1 → False) ∨ (v = 1 ∧ ∃ v f, v < N ∧ kd v = 1 ∧ re_R up v x ∧ bn_B kd ka kb up v (ka v) f ∧ ¬ re_R up f x ∧ fa (ix_f 3 (c v) u) = 1)) → m ≤ N → N + 1 ≤ d + m →
      wY_rule_190 post (nI x) (nI u) ml fl (nI N) ls sp md pk fnd ifd kd ka kb up ow o1 o2 yc ck p1 p2 yh fi fa ynd clr mrk vla evl ndd icl ecl mkr cvl al cis 36864 d v (nI m) := by
  have hN := TT.1
  have Lx := L x (by omega)
  have cx : (nI x).toNatClampNeg = x := nI_clamp (by omega)
  intro d
  induction d with
  | zero => intro m v h hm hd; omega
  | succ d ih =>
    intro m v h hm hd
    refine pk_le N m (fun z => ?_) (fun z => ⟨pk_in m 32 (by omega), ?_⟩)
    · have e : m = N := by omega
      subst e
      rcases h with ⟨rfl, h⟩ | ⟨rfl, h⟩
      · refine br_t rfl ⟨pk_in x 96 (by omega), ?_⟩
        rw [cx, Lx.2.1]
        refine yh_has h01 (w := 3) (x := c x) (u := u) (by omega) Lx.1 hu rfl rfl rfl (fun f => br_f (by decide) (K1 (Or.inl f))) (fun f => br_t rfl (K0 fun g => ?_))
        rcases g with g | ⟨v, f', a1, a2, a3, a4, a5, a6⟩
        · exact absurd (f.symm.trans g) (by decide)
        · exact h v f' a1 a2 a3 a4 a5 a6
      · exact br_f (by decide) (K1 (Or.inr h))
    · have cm : (nI m).toNatClampNeg = m := nI_clamp (by omega)
      rw [cm]
      have nxt : (∀ f, kd m = 1 → re_R up m x → bn_B kd ka kb up m (ka m) f → ¬ re_R up f x → fa (ix_f 3 (c m) u) = 1 → False) → wY_rule_190 post (nI x) (nI u) ml fl (nI N) ls sp md pk fnd ifd kd ka kb up ow o1 o2 yc ck p1 p2 yh fi fa ynd clr mrk vla evl ndd icl ecl mkr cvl al cis 36864 d v (nI (m + 1)) := by
        intro g
        refine ih (m + 1) v ?_ (by omega) (by omega)
        rcases h with ⟨a, h⟩ | h
        · refine Or.inl ⟨a, fun m' f hm' => ?_⟩
          rcases Classical.em (m' = m) with w | w
          · subst w; exact g f
          · exact h m' f (by omega)
        · exact Or.inr h
      rcases Classical.em (kd m = 1) with k1 | k1
      · have Lm := L m (by omega)
        refine br_t k1 (yw_in TT z hx rfl rfl (fun hr => br_f (by decide) ⟨pk_in m 96 (by omega), ?_⟩) (fun hr => br_t rfl (nm_r (e' := nI (m + 1)) (nI_1 m) (nxt fun _ _ e' => absurd e' hr))))
        rw [Lm.2.1]
        refine yh_has h01 (w := 3) (x := c m) (u := u) (by omega) Lm.1 hu rfl rfl rfl (fun f3 => br_f (by decide) ?_) (fun f3 => br_t rfl (nm_r (e' := nI (m + 1)) (nI_1 m) (nxt fun _ _ _ _ _ e' => absurd (f3.symm.trans e') (by decide))))
        refine yb_of TT z rfl (fun b hb => ?_)
        rcases hb with ⟨-, hno⟩ | ⟨f, hf, rfl⟩
        · obtain ⟨f, hf⟩ := hbd m z k1
          exact absurd hf (hno f)
        · have hfN := bn_gt hN TT.2.2.1 z hf
          refine yw_in TT hfN.2 hx rfl rfl (fun hr2 => br_f (by decide) (nm_r (e' := nI (m + 1)) (nI_1 m) (nxt fun f' _ _ hf' e' _ => ?_))) (fun hr2 => br_t rfl (nm_r (e' := nI (m + 1)) (nI_1 m) ?_))
          · have := bn_u hf hf'
            subst this
            exact e' hr2
          · exact ih (m + 1) 1 (Or.inr ⟨rfl, m, f, z, k1, hr, hf, hr2, f3⟩) (by omega) (by omega)
      · exact br_f k1 (nm_r (e' := nI (m + 1)) (nI_1 m) (nxt fun _ e' => absurd e' k1))
end
end
section
section
variable {ml fl cnt ls sp md pk fnd ifd : Int32} {kd ka kb up ow o1 o2 yc ck p1 p2 yh fi fa ynd clr mrk vla evl ndd icl ecl mkr cvl al cis : Nat → Int32} {nf : Nat}
variable {op : Nat → Int32}
/-- the rule for raw without the operands' own facts -/
def yl_Q (kd op : Nat → Int32) (c : Nat → Nat) (fa : Nat → Int32) (x u : Nat) : Prop :=
  ((kd x = 2 ∨ kd x = 4) ∧ c x = u) ∨ ((kd x = 5 ∨ kd x = 6 ∨ kd x = 3) ∧ c (tm_c op x 0) = u) ∨ (kd x = 3 ∧ fa (ix_f 2 (c (tm_c op x 0)) u) = 1)
theorem yl_419 {post : Int32 → Prop} {N x u : Nat} {c : Nat → Nat} {k : Int32} (TT : tm_T N kd ka kb up op) (L : ym_L c yc) (h01 : ∀ i, i < 36864 → fa i = 0 ∨ fa i = 1) (hx : x < N) (hu : u < 96) (hk : kd x = k)
    (K1 : yl_Q kd op c fa x u → post 1) (K0 : ¬ yl_Q kd op c fa x u → post 0) (h2 : ¬ ((k = 2 ∨ k = 4) ∧ c x = u)) (h5 : ¬ ((k = 5 ∨ k = 6 ∨ k = 3) ∧ c (tm_c op x 0) = u)) :
    wY_rule_419 post (nI u) k (nI (yo_o kd op x 0)) ml fl cnt ls sp md pk fnd ifd kd ka kb up ow o1 o2 yc ck p1 p2 yh fi fa ynd clr mrk vla evl ndd icl ecl mkr cvl al cis 36864 := by
  have hN := TT.1
  subst hk
  have c0 := tm_o TT hx (i := 0) (by omega)
  have Lc := L (tm_c op x 0) (by omega)
  rcases Classical.em (kd x = 3) with k3 | k3
  · refine br_t k3 ?_
    rw [yo_1 (by rw [ar_3 k3]; omega), nI_clamp (n := tm_c op x 0) (by omega), Lc.2.1]
    refine ⟨pk_in (tm_c op x 0) 96 (by omega), yh_has h01 (w := 2) (by omega) Lc.1 hu rfl rfl rfl (fun f => br_f (by decide) (K1 (Or.inr (Or.inr ⟨k3, f⟩)))) (fun f => br_t rfl (K0 fun q => ?_))⟩
    rcases q with q | q | ⟨-, q⟩
    · exact h2 q
    · exact h5 q
    · exact absurd (f.symm.trans q) (by decide)
  · refine br_f k3 (K0 fun q => ?_)
    rcases q with q | q | ⟨q, -⟩
    · exact h2 q
    · exact h5 q
    · exact k3 q
theorem yl_389 {post : Int32 → Prop} {N x u : Nat} {c : Nat → Nat} {k : Int32} (TT : tm_T N kd ka kb up op) (L : ym_L c yc) (h01 : ∀ i, i < 36864 → fa i = 0 ∨ fa i = 1) (hx : x < N) (hu : u < 96) (hk : kd x = k)
    (K1 : yl_Q kd op c fa x u → post 1) (K0 : ¬ yl_Q kd op c fa x u → post 0) (h2 : ¬ ((k = 2 ∨ k = 4) ∧ c x = u)) :
    wY_rule_389 post (nI u) k (nI (yo_o kd op x 0)) ml fl cnt ls sp md pk fnd ifd kd ka kb up ow o1 o2 yc ck p1 p2 yh fi fa ynd clr mrk vla evl ndd icl ecl mkr cvl al cis 36864 := by
  have hN := TT.1
  have c0 := tm_o TT hx (i := 0) (by omega)
  have Lc := L (tm_c op x 0) (by omega)
  have one : (k = 5 ∨ k = 6 ∨ k = 3) → wY_rule_408 post (nI u) k (nI (yo_o kd op x 0)) ml fl cnt ls sp md pk fnd ifd kd ka kb up ow o1 o2 yc ck p1 p2 yh fi fa ynd clr mrk vla evl ndd icl ecl mkr cvl al cis 36864 := by
    intro h
    have ha : 0 < tm_ar (kd x) := by
      rw [hk]
      rcases h with h | h | h
      · rw [ar_5 h]; omega
      · rw [ar_6 h]; omega
      · rw [ar_3 h]; omega
    have L419 : ¬ ((k = 5 ∨ k = 6 ∨ k = 3) ∧ c (tm_c op x 0) = u) → wY_rule_419 post (nI u) k (nI (yo_o kd op x 0)) ml fl cnt ls sp md pk fnd ifd kd ka kb up ow o1 o2 yc ck p1 p2 yh fi fa ynd clr mrk vla evl ndd icl ecl mkr cvl al cis 36864 := yl_419 TT L h01 hx hu hk K1 K0 h2
    unfold wY_rule_408
    rw [yo_1 ha] at L419 ⊢
    rw [nI_clamp (n := tm_c op x 0) (by omega), Lc.2.1]
    refine ⟨pk_in (tm_c op x 0) 96 (by omega), pk_eq (c (tm_c op x 0)) u (fun e => K1 (Or.inr (Or.inl ⟨by rw [hk]; exact h, e⟩))) (fun e => L419 (fun q => e q.2)) rfl rfl (by omega) (by omega)⟩
  rcases Classical.em (k = 5) with a | a
  · exact br_t a (one (Or.inl a))
  · refine br_f a ?_
    rcases Classical.em (k = 6) with b | b
    · exact br_t b (one (Or.inr (Or.inl b)))
    · refine br_f b ?_
      rcases Classical.em (k = 3) with d | d
      · exact br_t d (one (Or.inr (Or.inr d)))
      · refine br_f d (yl_419 TT L h01 hx hu hk K1 K0 h2 fun q => ?_)
        rcases q.1 with q | q | q
        · exact a q
        · exact b q
        · exact d q
theorem yl_308 {post : Int32 → Prop} {N x u : Nat} {c : Nat → Nat} {k : Int32} (TT : tm_T N kd ka kb up op) (L : ym_L c yc) (h01 : ∀ i, i < 36864 → fa i = 0 ∨ fa i = 1) (hx : x < N) (hu : u < 96) (hk : kd x = k)
    (K1 : ((kd x ≠ 2 ∧ ∃ m, m < N ∧ up m = nI x ∧ fa (ix_f 0 m u) = 1 ∧ fa (ix_f 1 m u) = 1) ∨ yl_Q kd op c fa x u) → post 1)
    (K0 : ¬ ((kd x ≠ 2 ∧ ∃ m, m < N ∧ up m = nI x ∧ fa (ix_f 0 m u) = 1 ∧ fa (ix_f 1 m u) = 1) ∨ yl_Q kd op c fa x u) → post 0) :
    ∀ (d m : Nat) (v : Int32), ((v = 0 ∧ (kd x ≠ 2 → ∀ m', m' < m → up m' = nI x → fa (ix_f 0 m' u) = 1 → fa (ix_f 1 m' u) = 1 → False)) ∨ (v = 1 ∧ kd x ≠ 2 ∧ ∃ m, m < N ∧ up m = nI x ∧ fa (ix_f 0 m u) = 1 ∧ fa (ix_f 1 m u) = 1)) → m ≤ x → x + 1 ≤ d + m →
      wY_rule_308 post (nI x) (nI u) k (nI (yo_o kd op x 0)) ml fl cnt ls sp md pk fnd ifd kd ka kb up ow o1 o2 yc ck p1 p2 yh fi fa ynd clr mrk vla evl ndd icl ecl mkr cvl al cis 36864 d v (nI m) := by
  have hN := TT.1
  have Lx := L x (by omega)
  intro d
  induction d with
  | zero => intro m v h hm hd; omega
  | succ d ih =>
    intro m v h hm hd
    refine pk_le x m (fun z => ?_) (fun z => ⟨pk_in m 32 (by omega), ?_⟩)
    · have e : m = x := by omega
      subst e
      rcases h with ⟨rfl, h⟩ | ⟨rfl, h⟩
      · have k0 : ¬ yl_Q kd op c fa m u → post 0 := fun q => K0 fun g => by
          rcases g with ⟨n2, m', a1, a2, a3, a4⟩ | g
          · exact h n2 m' (tm_pl TT.2.2.1 hN a1 (by omega) a2).1 a2 a3 a4
          · exact q g
        have k1 : yl_Q kd op c fa m u → post 1 := fun q => K1 (Or.inr q)
        have s379 : (k = 2 ∨ k = 4) → wY_rule_379 post (nI m) (nI u) k (nI (yo_o kd op m 0)) ml fl cnt ls sp md pk fnd ifd kd ka kb up ow o1 o2 yc ck p1 p2 yh fi fa ynd clr mrk vla evl ndd icl ecl mkr cvl al cis 36864 := by
          intro hh
          unfold wY_rule_379
          rw [nI_clamp (n := m) (by omega), Lx.2.1]
          exact ⟨pk_in m 96 (by omega), pk_eq (c m) u (fun e => k1 (Or.inl ⟨by rw [hk]; exact hh, e⟩)) (fun e => yl_389 TT L h01 hx hu hk k1 k0 (fun q => e q.2)) rfl rfl (by omega) (by omega)⟩
        refine br_t rfl ?_
        rcases Classical.em (k = 2) with a | a
        · exact br_t a (s379 (Or.inl a))
        · refine br_f a ?_
          rcases Classical.em (k = 4) with b | b
          · exact br_t b (s379 (Or.inr b))
          · exact br_f b (yl_389 TT L h01 hx hu hk k1 k0 (fun q => q.1.elim a b))
      · exact br_f (by decide) (K1 (Or.inl h))
    · have cm : (nI m).toNatClampNeg = m := nI_clamp (by omega)
      rw [cm]
      have nxt : (kd x ≠ 2 → up m = nI x → fa (ix_f 0 m u) = 1 → fa (ix_f 1 m u) = 1 → False) → wY_rule_308 post (nI x) (nI u) k (nI (yo_o kd op x 0)) ml fl cnt ls sp md pk fnd ifd kd ka kb up ow o1 o2 yc ck p1 p2 yh fi fa ynd clr mrk vla evl ndd icl ecl mkr cvl al cis 36864 d v (nI (m + 1)) := by
        intro g
        refine ih (m + 1) v ?_ (by omega) (by omega)
        rcases h with ⟨a, h⟩ | h
        · refine Or.inl ⟨a, fun n2 m' hm' => ?_⟩
          rcases Classical.em (m' = m) with w | w
          · subst w; exact g n2
          · exact h n2 m' (by omega)
        · exact Or.inr h
      rcases Classical.em (up m = nI x) with hup | hup
      · refine br_t hup ?_
        rcases Classical.em (k = 2) with a | a
        · exact br_t a (nm_r (e' := nI (m + 1)) (nI_1 m) (nxt fun n2 => absurd (hk.trans a) n2))
        · refine br_f a (yh_has h01 (w := 0) (x := m) (u := u) (by omega) (by omega) hu rfl rfl rfl (fun f0 => br_f (by decide) ?_) (fun f0 => br_t rfl (nm_r (e' := nI (m + 1)) (nI_1 m) (nxt fun _ _ e' => absurd (f0.symm.trans e') (by decide)))))
          refine yh_has h01 (w := 1) (x := m) (u := u) (by omega) (by omega) hu rfl rfl rfl (fun f1 => br_f (by decide) (nm_r (e' := nI (m + 1)) (nI_1 m) ?_)) (fun f1 => br_t rfl (nm_r (e' := nI (m + 1)) (nI_1 m) (nxt fun _ _ _ e' => absurd (f1.symm.trans e') (by decide))))
          exact ih (m + 1) 1 (Or.inr ⟨rfl, fun e => a (hk.symm.trans e), m, by omega, hup, f0, f1⟩) (by omega) (by omega)
      · exact br_f hup (nm_r (e' := nI (m + 1)) (nI_1 m) (nxt fun _ e' => absurd e' hup))
theorem yl_rule {post : Int32 → Prop} {N w x u : Nat} {c : Nat → Nat} {v0 v1 v2 : Int32} (TT : tm_T N kd ka kb up op) (L : ym_L c yc) (h01 : ∀ i, i < 36864 → fa i = 0 ∨ fa i = 1) (hbd : ∀ n, n < N → kd n = 1 → ∃ f, bn_B kd ka kb up n (ka n) f)
    (hpt : ∀ x, x < 96 → ¬ ck x < 2 → ∃ a b, a < 96 ∧ b < 96 ∧ p1 x = nI a ∧ p2 x = nI b)
    (hw : w < 4) (hx : x < 96) (hu : u < 96) (e0 : v0 = nI w) (e1 : v1 = nI x) (e2 : v2 = nI u)
    (K1 : ry_R N kd ka kb up op ck p1 p2 c fa w x u → post 1) (K0 : ¬ ry_R N kd ka kb up op ck p1 p2 c fa w x u → post 0) : wpY_rule post (ml, fl, nI N, ls, sp, md, pk, fnd, ifd, kd, ka, kb, up, ow, o1, o2, yc, ck, p1, p2, yh, fi, fa, ynd, clr, mrk, vla, evl, ndd, icl, ecl, mkr, cvl, al, cis, 36864) v0 v1 v2 := by
  subst e0 e1 e2
  have hN := TT.1
  have cx : (nI x).toNatClampNeg = x := nI_clamp (by omega)
  have vx : vp_in (nI x) 96 := pk_in x 96 hx
  unfold wpY_rule
  dsimp only
  rw [cx]
  refine pk_eq w 3 (fun z => ⟨vx, ?_⟩) (fun z => ?_)
  · subst z
    rcases Classical.em (ck x < 2) with k2 | k2
    · refine br_t k2 (K0 fun R => ?_)
      rcases R with ⟨-, R, -⟩ | ⟨R, -⟩ | ⟨R, -⟩ | ⟨R, -⟩
      · exact R k2
      · omega
      · omega
      · omega
    · refine br_f k2 ?_
      obtain ⟨a, b, ha, hb, ea, eb⟩ := hpt x hx k2
      have ca : (p1 x).toNatClampNeg = a := by rw [ea]; exact nI_clamp (by omega)
      have cb : (p2 x).toNatClampNeg = b := by rw [eb]; exact nI_clamp (by omega)
      refine pk_eq x u (fun e => K1 (Or.inl ⟨rfl, k2, Or.inl e⟩)) (fun e => ⟨vx, ?_⟩)
      rw [ea, eb]
      refine yh_has h01 (w := 3) (x := a) (u := u) (by omega) ha hu rfl rfl rfl (fun f => br_f (by decide) (K1 (Or.inl ⟨rfl, k2, Or.inr (Or.inl (by rw [ca]; exact f))⟩))) (fun f => br_t rfl ⟨vx, ?_⟩)
      refine yh_has h01 (w := 3) (x := b) (u := u) (by omega) hb hu rfl rfl rfl (fun g => br_f (by decide) (K1 (Or.inl ⟨rfl, k2, Or.inr (Or.inr (Or.inl (by rw [cb]; exact g)))⟩))) (fun g => br_t rfl ⟨vx, ?_⟩)
      have no : ∀ (h : ¬ (ck x = 3 ∧ fa (ix_f 2 x u) = 1)), ¬ ry_R N kd ka kb up op ck p1 p2 c fa 3 x u := by
        intro h R
        rcases R with ⟨-, -, R⟩ | ⟨R, -⟩ | ⟨R, -⟩ | ⟨R, -⟩
        · rw [ca, cb] at R
          rcases R with R | R | R | R
          · exact e R
          · exact absurd (f.symm.trans R) (by decide)
          · exact absurd (g.symm.trans R) (by decide)
          · exact h R
        · omega
        · omega
        · omega
      rcases Classical.em (ck x = 3) with k3 | k3
      · refine br_t k3 (yh_has h01 (w := 2) (x := x) (u := u) (by omega) hx hu rfl rfl rfl (fun l => br_f (by decide) (K1 (Or.inl ⟨rfl, k2, Or.inr (Or.inr (Or.inr ⟨k3, l⟩))⟩))) (fun l => br_t rfl (K0 (no fun q => absurd (l.symm.trans q.2) (by decide)))))
      · exact br_f k3 (K0 (no fun q => k3 q.1))
  · refine pk_eq w 2 (fun z2 => ?_) (fun z2 => ?_)
    · subst z2
      refine ⟨N + 1, yl_87 TT L h01 hx hu (fun h => K1 (Or.inr (Or.inl ⟨rfl, h⟩))) (fun h => K0 fun R => ?_) (N + 1) 0 0 (Or.inl ⟨rfl, fun m' p hm => absurd hm (by omega)⟩) (by omega) (by omega)⟩
      rcases R with ⟨R, -⟩ | ⟨-, R⟩ | ⟨R, -⟩ | ⟨R, -⟩
      · omega
      · exact h R
      · omega
      · omega
    · refine pk_lt x N (fun hxN => ?_) (fun hxN => K0 fun R => ?_)
      · refine pk_eq w 1 (fun z1 => ?_) (fun z1 => ⟨pk_in x 32 (by omega), nm_e ?_⟩)
        · subst z1
          refine ⟨N + 1, yl_190 TT L h01 hbd hxN hu (fun h => K1 (Or.inr (Or.inr (Or.inl ⟨rfl, hxN, h⟩)))) (fun h => K0 fun R => ?_) (N + 1) 0 0 (Or.inl ⟨rfl, fun m' f hm => absurd hm (by omega)⟩) (by omega) (by omega)⟩
          rcases R with ⟨R, -⟩ | ⟨R, -⟩ | ⟨-, -, R⟩ | ⟨R, -⟩
          · omega
          · omega
          · exact h R
          · omega
        · have e : w = 0 := by omega
          subst e
          refine yo_op (i := 0) TT hxN (by decide) rfl rfl ⟨x + 1, yl_308 TT L h01 hxN hu rfl (fun h => K1 (Or.inr (Or.inr (Or.inr ⟨rfl, hxN, h⟩)))) (fun h => K0 fun R => ?_) (x + 1) 0 0 (Or.inl ⟨rfl, fun _ m' hm => absurd hm (by omega)⟩) (by omega) (by omega)⟩
          rcases R with ⟨R, -⟩ | ⟨R, -⟩ | ⟨R, -⟩ | ⟨-, -, R⟩
          · omega
          · omega
          · omega
          · exact h R
      · rcases R with ⟨R, -⟩ | ⟨R, -⟩ | ⟨-, R, -⟩ | ⟨-, R, -⟩
        · omega
        · omega
        · omega
        · omega
end
end
section
section
variable {N : Nat} {kd ka kb up op sh ow o1 o2 yc ck p1 p2 fa : Nat → Int32} {r c : Nat → Nat}
def yx_X (N : Nat) (r c : Nat → Nat) (w x x' : Nat) : Prop := (w < 2 ∧ x' = x) ∨ (2 ≤ w ∧ x' < 3 * N ∧ r x' = x' ∧ c (ys_s x') = x)
def ys_F (N : Nat) (kd ka kb up op sh : Nat → Int32) (r c : Nat → Nat) (fa : Nat → Int32) : Prop :=
  ∀ w x u, w < 4 → x < 96 → u < 96 → fa (ix_f w x u) = 1 → ∃ ρ x', tg_B N kd op sh r ρ ∧ c (ys_s ρ) = u ∧ yx_X N r c w x x' ∧ ef_E N kd ka kb up op sh r w x' ρ
theorem xy_rt (TT : tm_T N kd ka kb up op) (C : ty_C N kd ka kb up op sh r) (Y : yt_C N kd ka kb up op ow o1 o2 yc c) {s t : Nat} (hs : s < 3 * N) (ht : t < 3 * N) (es : r s = s) (et : r t = t) (e : c (ys_s s) = c (ys_s t)) : s = t := by
  have := (xy_eq TT C Y hs ht).mpr e
  rw [es, et] at this
  exact this
theorem xy_r (TT : tm_T N kd ka kb up op) (C : ty_C N kd ka kb up op sh r) (Y : yt_C N kd ka kb up op ow o1 o2 yc c) {s : Nat} (hs : s < 3 * N) : c (ys_s (r s)) = c (ys_s s) :=
  (xy_eq TT C Y (C.1 s hs).1 hs).mp (C.1 s hs).2
theorem tg_Bb (TT : tm_T N kd ka kb up op) (C : ty_C N kd ka kb up op sh r) {s : Nat} (B : tg_B N kd op sh r s) : s < 3 * N ∧ r s = s := by
  obtain ⟨k, a, b, G, -⟩ := B
  have gb := tg_b TT C G
  exact ⟨gb.1, gb.2.2.2.2.2.1⟩
/-- the rule keeps what is sound -/
theorem yz_s (TT : tm_T N kd ka kb up op) (C : ty_C N kd ka kb up op sh r) (Y : yt_C N kd ka kb up op ow o1 o2 yc c) (I : yk_I N kd op c 96 ck p1 p2) (S : ys_F N kd ka kb up op sh r c fa) {w x u : Nat} (hw : w < 4) (hx : x < 96) (hu : u < 96) (hk : ¬ ck u < 2)
    (R : ry_R N kd ka kb up op ck p1 p2 c fa w x u) : ∃ ρ x', tg_B N kd op sh r ρ ∧ c (ys_s ρ) = u ∧ yx_X N r c w x x' ∧ ef_E N kd ka kb up op sh r w x' ρ := by
  have hN := TT.1
  obtain ⟨ρ, kρ, aρ, bρ, Gρ, hkρ, eρ, -, -, -⟩ := yk_B TT C Y I hu hk
  have B : tg_B N kd op sh r ρ := ⟨kρ, aρ, bρ, Gρ, hkρ⟩
  have hρ := tg_Bb TT C B
  -- a fact of a class that is known by a slot
  have get2 : ∀ {w t}, w < 4 → 2 ≤ w → t < 3 * N → fa (ix_f w (c (ys_s t)) u) = 1 → ef_E N kd ka kb up op sh r w (r t) ρ := by
    intro w t h1 h2 h3 h4
    obtain ⟨ρ', x', B', e1, e2, e3⟩ := S w _ u h1 (Y.1 _ (ys_lt (by omega))).1 hu h4
    have hρ' := tg_Bb TT C B'
    have := xy_rt TT C Y hρ'.1 hρ.1 hρ'.2 hρ.2 (e1.trans eρ.symm)
    subst this
    rcases e2 with ⟨e2, -⟩ | ⟨-, q1, q2, q3⟩
    · omega
    · have := xy_rt TT C Y q1 (C.1 t h3).1 q2 (C.1 t h3).2 (q3.trans (xy_r TT C Y h3).symm)
      subst this
      exact e3
  have get0 : ∀ {w x}, w < 2 → x < 96 → fa (ix_f w x u) = 1 → ef_E N kd ka kb up op sh r w x ρ := by
    intro w x h1 h2 h4
    obtain ⟨ρ', x', B', e1, e2, e3⟩ := S w x u (by omega) h2 hu h4
    have hρ' := tg_Bb TT C B'
    have := xy_rt TT C Y hρ'.1 hρ.1 hρ'.2 hρ.2 (e1.trans eρ.symm)
    subst this
    rcases e2 with ⟨-, rfl⟩ | ⟨e2, -⟩
    · exact e3
    · omega
  have y0 : ∀ n, c n = c (ys_s (3 * n)) := fun n => by rw [ys_0]
  rcases R with ⟨rfl, k2, R⟩ | ⟨rfl, m, p, h1, h2, h3, h4, h5, R1, R2⟩ | ⟨rfl, hxN, R⟩ | ⟨rfl, hxN, R⟩
  · obtain ⟨σ, k, a, b, G, hk2, eσ, ek, e1, e2⟩ := yk_B TT C Y I hx k2
    have gb := tg_b TT C G
    refine ⟨ρ, σ, B, eρ, Or.inr ⟨by omega, gb.1, gb.2.2.2.2.2.1, eσ⟩, ef_c 3 σ ρ B (Or.inl ⟨rfl, k, a, b, G, hk2, ?_⟩)⟩
    have la := (Y.1 _ (ys_lt (s := a) (by omega))).1
    have lb := (Y.1 _ (ys_lt (s := b) (by omega))).1
    rw [e1, e2, nI_clamp (by omega), nI_clamp (by omega)] at R
    rcases R with R | R | R | ⟨R, R2⟩
    · subst R
      exact Or.inl (xy_rt TT C Y gb.1 hρ.1 gb.2.2.2.2.2.1 hρ.2 (eσ.trans eρ.symm))
    · have := get2 (by omega) (by omega) gb.2.1 R
      rw [gb.2.2.2.1] at this
      exact Or.inr (Or.inl this)
    · have := get2 (by omega) (by omega) gb.2.2.1 R
      rw [gb.2.2.2.2.1] at this
      exact Or.inr (Or.inr (Or.inl this))
    · rw [← eσ] at R2
      have := get2 (by omega) (by omega) gb.1 R2
      rw [gb.2.2.2.2.2.1] at this
      exact Or.inr (Or.inr (Or.inr ⟨(nI_eq (b := 3) (by omega) (by omega)).mp (ek.symm.trans R), this⟩))
  · refine ⟨ρ, r (3 * p), B, eρ, Or.inr ⟨by omega, (C.1 _ (by omega)).1, (C.1 _ (by omega)).2, ?_⟩, ef_c 2 _ ρ B (Or.inr (Or.inl ⟨rfl, m, p, h1, h2, h3, h4, rfl, get0 (by omega) (by omega) R1, get0 (by omega) (by omega) R2⟩))⟩
    rw [xy_r TT C Y (by omega), ys_0]
    exact h5
  · refine ⟨ρ, x, B, eρ, Or.inl ⟨by omega, rfl⟩, ef_c 1 x ρ B (Or.inr (Or.inr (Or.inl ⟨rfl, hxN, ?_⟩)))⟩
    rcases R with R | ⟨v, f, h1, h2, h3, h4, h5, R⟩
    · rw [y0] at R
      exact Or.inl (get2 (by omega) (by omega) (by omega) R)
    · rw [y0] at R
      exact Or.inr ⟨v, f, h1, h2, h3, h4, (re_bl hN TT.2.2.1 h1 h3 h4.1).mp h5, get2 (by omega) (by omega) (by omega) R⟩
  · have c0 := tm_o TT hxN (i := 0) (by omega)
    refine ⟨ρ, x, B, eρ, Or.inl ⟨by omega, rfl⟩, ef_c 0 x ρ B (Or.inr (Or.inr (Or.inr ⟨rfl, hxN, ?_⟩)))⟩
    rcases R with ⟨n2, m, h1, h2, R1, R2⟩ | ⟨h1, R⟩ | ⟨h1, R⟩ | ⟨h1, R⟩
    · exact Or.inl ⟨n2, m, h1, h2, get0 (by omega) (by omega) R1, get0 (by omega) (by omega) R2⟩
    · refine Or.inr (Or.inl ⟨h1, xy_rt TT C Y (C.1 _ (by omega)).1 hρ.1 (C.1 _ (by omega)).2 hρ.2 ?_⟩)
      rw [xy_r TT C Y (by omega), ys_0, R, eρ]
    · refine Or.inr (Or.inr (Or.inl ⟨h1, xy_rt TT C Y (C.1 _ (by omega)).1 hρ.1 (C.1 _ (by omega)).2 hρ.2 ?_⟩))
      rw [xy_r TT C Y (by omega), ys_0, R, eρ]
    · rw [y0] at R
      exact Or.inr (Or.inr (Or.inr ⟨h1, get2 (by omega) (by omega) (by omega) R⟩))
def yx_p (c : Nat → Nat) (w x : Nat) : Nat := if w < 2 then x else c (ys_s x)
/-- closed facts hold all -/
theorem yz_c (TT : tm_T N kd ka kb up op) (C : ty_C N kd ka kb up op sh r) (Y : yt_C N kd ka kb up op ow o1 o2 yc c) (I : yk_I N kd op c 96 ck p1 p2) (h01 : ∀ i, i < 36864 → fa i = 0 ∨ fa i = 1)
    (V : ∀ w x u, w < 4 → x < 96 → u < 96 → ¬ ck u < 2 → fa (ix_f w x u) = 0 → ¬ ry_R N kd ka kb up op ck p1 p2 c fa w x u) {w x ρ : Nat} (h : ef_E N kd ka kb up op sh r w x ρ) : fa (ix_f w (yx_p c w x) (c (ys_s ρ))) = 1 := by
  have hN := TT.1
  refine h (fun w x ρ => fa (ix_f w (yx_p c w x) (c (ys_s ρ))) = 1) (fun w x ρ B R => ?_)
  have hρ := tg_Bb TT C B
  have hu := (Y.1 _ (ys_lt (s := ρ) (by omega))).1
  have hk : ¬ ck (c (ys_s ρ)) < 2 := by
    obtain ⟨k, a, b, G, hk⟩ := B
    have gb := tg_b TT C G
    rw [(yk_G TT C Y I G).1]
    exact nI_nlt (b := 2) hk (by omega)
  have done : ∀ {w x}, w < 4 → x < 96 → ry_R N kd ka kb up op ck p1 p2 c fa w x (c (ys_s ρ)) → fa (ix_f w x (c (ys_s ρ))) = 1 := by
    intro w x a b R
    rcases h01 _ (ix_lt a b hu) with z | z
    · exact absurd R (V _ _ _ a b hu hk z)
    · exact z
  have y0 : ∀ n, c (ys_s (3 * n)) = c n := fun n => by rw [ys_0]
  rcases R with ⟨rfl, k, a, b, G, k2, R⟩ | ⟨rfl, m, p, h1, h2, h3, h4, h5, R1, R2⟩ | ⟨rfl, hxN, R⟩ | ⟨rfl, hxN, R⟩
  · have gb := tg_b TT C G
    have g := yk_G TT C Y I G
    have la := (Y.1 _ (ys_lt (s := a) (by omega))).1
    have lb := (Y.1 _ (ys_lt (s := b) (by omega))).1
    have lx := (Y.1 _ (ys_lt (s := x) (by omega))).1
    show fa (ix_f 3 (c (ys_s x)) (c (ys_s ρ))) = 1
    refine done (by omega) lx (Or.inl ⟨rfl, by rw [g.1]; exact nI_nlt (b := 2) k2 (by omega), ?_⟩)
    rw [(g.2 k2).1, (g.2 k2).2, nI_clamp (by omega), nI_clamp (by omega)]
    rcases R with R | R | R | ⟨R, R2⟩
    · rw [R]; exact Or.inl rfl
    · exact Or.inr (Or.inl R)
    · exact Or.inr (Or.inr (Or.inl R))
    · exact Or.inr (Or.inr (Or.inr ⟨by rw [g.1, R]; rfl, R2⟩))
  · have lp := (Y.1 p (by omega)).1
    subst h5
    show fa (ix_f 2 (c (ys_s (r (3 * p)))) (c (ys_s ρ))) = 1
    rw [xy_r TT C Y (by omega), y0]
    exact done (by omega) lp (Or.inr (Or.inl ⟨rfl, m, p, h1, h2, h3, h4, rfl, R1, R2⟩))
  · show fa (ix_f 1 x (c (ys_s ρ))) = 1
    refine done (by omega) (by omega) (Or.inr (Or.inr (Or.inl ⟨rfl, hxN, ?_⟩)))
    rcases R with R | ⟨v, f, h1, h2, h3, h4, h5, R⟩
    · have R' : fa (ix_f 3 (c (ys_s (r (3 * x)))) (c (ys_s ρ))) = 1 := R
      rw [xy_r TT C Y (by omega), y0] at R'
      exact Or.inl R'
    · have R' : fa (ix_f 3 (c (ys_s (r (3 * v)))) (c (ys_s ρ))) = 1 := R
      rw [xy_r TT C Y (by omega), y0] at R'
      exact Or.inr ⟨v, f, h1, h2, h3, h4, (re_bl hN TT.2.2.1 h1 h3 h4.1).mpr h5, R'⟩
  · have c0 := tm_o TT hxN (i := 0) (by omega)
    show fa (ix_f 0 x (c (ys_s ρ))) = 1
    refine done (by omega) (by omega) (Or.inr (Or.inr (Or.inr ⟨rfl, hxN, ?_⟩)))
    rcases R with ⟨n2, m, h1, h2, R1, R2⟩ | ⟨h1, R⟩ | ⟨h1, R⟩ | ⟨h1, R⟩
    · exact Or.inl ⟨n2, m, h1, h2, R1, R2⟩
    · refine Or.inr (Or.inl ⟨h1, ?_⟩)
      rw [← R, xy_r TT C Y (by omega), ys_0]
    · refine Or.inr (Or.inr (Or.inl ⟨h1, ?_⟩))
      rw [← R, xy_r TT C Y (by omega), ys_0]
    · have R' : fa (ix_f 2 (c (ys_s (r (3 * tm_c op x 0)))) (c (ys_s ρ))) = 1 := R
      rw [xy_r TT C Y (by omega), y0] at R'
      exact Or.inr (Or.inr (Or.inr ⟨h1, R'⟩))
end
end
section
noncomputable def yz_N (fa : Nat → Int32) : Nat := cn (fun i => fa i = 1) 36864
/-- the rule does not fire before place i -/
def yz_V (N : Nat) (kd ka kb up op ck p1 p2 : Nat → Int32) (c : Nat → Nat) (fa : Nat → Int32) (i : Nat) : Prop :=
  ∀ w x u, w < 4 → x < 96 → u < 96 → ix_f w x u < i → ¬ ck u < 2 → fa (ix_f w x u) = 0 → ¬ ry_R N kd ka kb up op ck p1 p2 c fa w x u
def yz_I (N : Nat) (kd ka kb up op sh ck p1 p2 : Nat → Int32) (r c : Nat → Nat) (fa0 fa : Nat → Int32) (v : Int32) (i : Nat) : Prop :=
  (∀ j, j < 36864 → fa j = 0 ∨ fa j = 1) ∧ ys_F N kd ka kb up op sh r c fa ∧ ((v = 0 ∧ fa = fa0 ∧ yz_V N kd ka kb up op ck p1 p2 c fa0 i) ∨ (v = 1 ∧ yz_N fa0 < yz_N fa))
section
variable {ml fl cnt ls sp md pk fnd ifd : Int32} {kd ka kb up ow o1 o2 yc ck p1 p2 yh fi fa ynd clr mrk vla evl ndd icl ecl mkr cvl al cis : Nat → Int32} {nf : Nat}
variable {op sh : Nat → Int32}
theorem yz_57 {post : SY → Prop} {J1 J2 J3 : Int32 → Int32 → (Nat → Int32) → (Nat → Int32) → (Nat → Int32) → (Nat → Int32) → (Nat → Int32) → (Nat → Int32) → (Nat → Int32) → (Nat → Int32) → (Nat → Int32) → (Nat → Int32) → (Nat → Int32) → (Nat → Int32) → (Nat → Int32) → (Nat → Int32) → (Nat → Int32) → (Nat → Int32) → (Nat → Int32) → (Nat → Int32) → (Nat → Int32) → (Nat → Int32) → (Nat → Int32) → (Nat → Int32) → (Nat → Int32) → (Nat → Int32) → (Nat → Int32) → (Nat → Int32) → Prop} {N w x : Nat} {r c : Nat → Nat} {fa0 : Nat → Int32} {x2 : Int32} (TT : tm_T N kd ka kb up op) (C : ty_C N kd ka kb up op sh r) (Y : yt_C N kd ka kb up op ow o1 o2 yc c) (I : yk_I N kd op c 96 ck p1 p2)
    (hbd : ∀ n, n < N → kd n = 1 → ∃ f, bn_B kd ka kb up n (ka n) f) (hw : w < 4) (hx : x < 96)
    (K : ∀ v fa', yz_I N kd ka kb up op sh ck p1 p2 r c fa0 fa' v (ix_f w x 96) → J3 v (nI (x + 1)) kd ka kb up ow o1 o2 yc ck p1 p2 yh fi fa' ynd clr mrk vla evl ndd icl ecl mkr cvl al cis) :
    ∀ (d u : Nat) (v : Int32) (fa : Nat → Int32), yz_I N kd ka kb up op sh ck p1 p2 r c fa0 fa v (ix_f w x u) → u ≤ 96 → 97 ≤ d + u →
      wY_effects_57 post J1 J2 J3 x2 (nI w) (nI x) ml fl (nI N) ls sp md pk fnd ifd 36864 d v (nI u) kd ka kb up ow o1 o2 yc ck p1 p2 yh fi fa ynd clr mrk vla evl ndd icl ecl mkr cvl al cis := by
  have hN := TT.1
  intro d
  induction d with
  | zero => intro u v fa Z hu hd; omega
  | succ d ih =>
    intro u v fa Z hu hd
    refine pk_le 96 u (fun z => nm_r (e' := nI (x + 1)) (nI_1 x) ?_) (fun z => ?_)
    · have e : u = 96 := by omega
      subst e
      exact K v fa Z
    · have hl := ix_lt hw hx z
      have e : (((nI w * 96) + nI x) * 96) + nI u = nI (ix_f w x u) := by
        rw [show nI w * 96 = nI (w * 96) from pk_mul w 96, nI_add, show nI (w * 96 + x) * 96 = nI ((w * 96 + x) * 96) from pk_mul _ 96, nI_add]
        rfl
      have cu : (nI u).toNatClampNeg = u := nI_clamp (by omega)
      have ci : (nI (ix_f w x u)).toNatClampNeg = ix_f w x u := nI_clamp (by omega)
      refine nm_r e ⟨pk_in u 96 z, ?_⟩
      rw [cu, ci]
      have nxt : (¬ ck u < 2 → fa (ix_f w x u) = 0 → ¬ ry_R N kd ka kb up op ck p1 p2 c fa w x u) → wY_effects_57 post J1 J2 J3 x2 (nI w) (nI x) ml fl (nI N) ls sp md pk fnd ifd 36864 d v (nI (u + 1)) kd ka kb up ow o1 o2 yc ck p1 p2 yh fi fa ynd clr mrk vla evl ndd icl ecl mkr cvl al cis := by
        intro g
        refine ih (u + 1) v fa ⟨Z.1, Z.2.1, ?_⟩ (by omega) (by omega)
        rcases Z.2.2 with ⟨a, b, V⟩ | h
        · refine Or.inl ⟨a, b, fun w' x' u' q1 q2 q3 q4 q5 q6 => ?_⟩
          rcases Classical.em (ix_f w' x' u' = ix_f w x u) with y | y
          · obtain ⟨rfl, rfl, rfl⟩ := ix_in q2 q3 hx z y
            rw [← b] at q6 ⊢
            exact g q5 q6
          · refine V w' x' u' q1 q2 q3 ?_ q5 q6
            unfold ix_f at *
            omega
        · exact Or.inr h
      rcases Classical.em (ck u < 2) with k2 | k2
      · exact br_t k2 (nm_r (e' := nI (u + 1)) (nI_1 u) (nxt fun q => absurd k2 q))
      · refine br_f k2 ⟨pk_in _ 36864 hl, ?_⟩
        rcases Z.1 _ hl with f0 | f1
        · refine br_t f0 (yl_rule TT Y.1 Z.1 hbd (fun y hy hk => ?_) hw hx z rfl rfl rfl (fun R => br_f (by decide) ⟨pk_in _ 36864 hl, nm_r (e' := upd fa (ix_f w x u) 1) rfl (nm_r (e' := nI (u + 1)) (nI_1 u) ?_)⟩) (fun R => br_t rfl (nm_r (e' := nI (u + 1)) (nI_1 u) (nxt fun _ _ => R))))
          · obtain ⟨s, k, a, b, G, -, -, -, e1, e2⟩ := yk_B TT C Y I hy hk
            have gb := tg_b TT C G
            exact ⟨_, _, (Y.1 _ (ys_lt (s := a) (by omega))).1, (Y.1 _ (ys_lt (s := b) (by omega))).1, e1, e2⟩
          · have lt : yz_N fa < yz_N (upd fa (ix_f w x u) 1) := by
              refine cn_lt (P := fun i => fa i = 1) (Q := fun i => upd fa (ix_f w x u) 1 i = 1) (a := ix_f w x u) (fun q => absurd (f0.symm.trans q) (by decide)) pk_us (fun k hk q => ?_) hl
              rcases Classical.em (k = ix_f w x u) with y | y
              · subst y; exact pk_us
              · show upd fa (ix_f w x u) 1 k = 1
                rw [pk_un y]
                exact q
            refine ih (u + 1) 1 _ ⟨fun j hj => ?_, fun w' x' u' q1 q2 q3 q4 => ?_, Or.inr ⟨rfl, ?_⟩⟩ (by omega) (by omega)
            · rcases Classical.em (j = ix_f w x u) with y | y
              · subst y; exact Or.inr pk_us
              · rw [pk_un y]; exact Z.1 j hj
            · rcases Classical.em (ix_f w' x' u' = ix_f w x u) with y | y
              · obtain ⟨rfl, rfl, rfl⟩ := ix_in q2 q3 hx z y
                exact yz_s TT C Y I Z.2.1 hw hx z k2 R
              · rw [pk_un y] at q4
                exact Z.2.1 w' x' u' q1 q2 q3 q4
            · rcases Z.2.2 with ⟨-, b, -⟩ | ⟨-, h⟩
              · rw [← b]; exact lt
              · omega
        · exact br_f (by rw [f1]; decide) (nm_r (e' := nI (u + 1)) (nI_1 u) (nxt fun _ q => absurd (q.symm.trans f1) (by decide)))
theorem yz_47 {post : SY → Prop} {J1 J2 : Int32 → Int32 → (Nat → Int32) → (Nat → Int32) → (Nat → Int32) → (Nat → Int32) → (Nat → Int32) → (Nat → Int32) → (Nat → Int32) → (Nat → Int32) → (Nat → Int32) → (Nat → Int32) → (Nat → Int32) → (Nat → Int32) → (Nat → Int32) → (Nat → Int32) → (Nat → Int32) → (Nat → Int32) → (Nat → Int32) → (Nat → Int32) → (Nat → Int32) → (Nat → Int32) → (Nat → Int32) → (Nat → Int32) → (Nat → Int32) → (Nat → Int32) → (Nat → Int32) → (Nat → Int32) → Prop} {N w : Nat} {r c : Nat → Nat} {fa0 : Nat → Int32} {x2 : Int32} (TT : tm_T N kd ka kb up op) (C : ty_C N kd ka kb up op sh r) (Y : yt_C N kd ka kb up op ow o1 o2 yc c) (I : yk_I N kd op c 96 ck p1 p2)
    (hbd : ∀ n, n < N → kd n = 1 → ∃ f, bn_B kd ka kb up n (ka n) f) (hw : w < 4)
    (K : ∀ v fa', yz_I N kd ka kb up op sh ck p1 p2 r c fa0 fa' v (ix_f w 96 0) → J2 v (nI (w + 1)) kd ka kb up ow o1 o2 yc ck p1 p2 yh fi fa' ynd clr mrk vla evl ndd icl ecl mkr cvl al cis) :
    ∀ (d x : Nat) (v : Int32) (fa : Nat → Int32), yz_I N kd ka kb up op sh ck p1 p2 r c fa0 fa v (ix_f w x 0) → x ≤ 96 → 97 ≤ d + x →
      wY_effects_47 post J1 J2 x2 (nI w) ml fl (nI N) ls sp md pk fnd ifd 36864 d v (nI x) kd ka kb up ow o1 o2 yc ck p1 p2 yh fi fa ynd clr mrk vla evl ndd icl ecl mkr cvl al cis := by
  intro d
  induction d with
  | zero => intro x v fa Z hx hd; omega
  | succ d ih =>
    intro x v fa Z hx hd
    refine pk_le 96 x (fun z => nm_r (e' := nI (w + 1)) (nI_1 w) ?_) (fun z => ⟨97, ?_⟩)
    · have e : x = 96 := by omega
      subst e
      exact K v fa Z
    · refine yz_57 TT C Y I hbd hw z (fun v' fa' Z' => ?_) 97 0 v fa Z (by omega) (by omega)
      refine ih (x + 1) v' fa' ?_ (by omega) (by omega)
      have e : ix_f w (x + 1) 0 = ix_f w x 96 := by unfold ix_f; omega
      rw [e]
      exact Z'
theorem yz_39 {post : SY → Prop} {J1 : Int32 → Int32 → (Nat → Int32) → (Nat → Int32) → (Nat → Int32) → (Nat → Int32) → (Nat → Int32) → (Nat → Int32) → (Nat → Int32) → (Nat → Int32) → (Nat → Int32) → (Nat → Int32) → (Nat → Int32) → (Nat → Int32) → (Nat → Int32) → (Nat → Int32) → (Nat → Int32) → (Nat → Int32) → (Nat → Int32) → (Nat → Int32) → (Nat → Int32) → (Nat → Int32) → (Nat → Int32) → (Nat → Int32) → (Nat → Int32) → (Nat → Int32) → (Nat → Int32) → (Nat → Int32) → Prop} {N i : Nat} {r c : Nat → Nat} {fa0 : Nat → Int32} (TT : tm_T N kd ka kb up op) (C : ty_C N kd ka kb up op sh r) (Y : yt_C N kd ka kb up op ow o1 o2 yc c) (I : yk_I N kd op c 96 ck p1 p2)
    (hbd : ∀ n, n < N → kd n = 1 → ∃ f, bn_B kd ka kb up n (ka n) f)
    (K : ∀ v fa', yz_I N kd ka kb up op sh ck p1 p2 r c fa0 fa' v 36864 → J1 v (nI (i + 1)) kd ka kb up ow o1 o2 yc ck p1 p2 yh fi fa' ynd clr mrk vla evl ndd icl ecl mkr cvl al cis) :
    ∀ (d w : Nat) (v : Int32) (fa : Nat → Int32), yz_I N kd ka kb up op sh ck p1 p2 r c fa0 fa v (ix_f w 0 0) → w ≤ 4 → 5 ≤ d + w →
      wY_effects_39 post J1 (nI i) ml fl (nI N) ls sp md pk fnd ifd 36864 d v (nI w) kd ka kb up ow o1 o2 yc ck p1 p2 yh fi fa ynd clr mrk vla evl ndd icl ecl mkr cvl al cis := by
  intro d
  induction d with
  | zero => intro w v fa Z hw hd; omega
  | succ d ih =>
    intro w v fa Z hw hd
    refine pk_lt 3 w (fun z => nm_r (e' := nI (i + 1)) (nI_1 i) ?_) (fun z => ⟨97, ?_⟩)
    · have e : w = 4 := by omega
      subst e
      exact K v fa Z
    · refine yz_47 TT C Y I hbd (by omega) (fun v' fa' Z' => ?_) 97 0 v fa Z (by omega) (by omega)
      refine ih (w + 1) v' fa' ?_ (by omega) (by omega)
      have e : ix_f (w + 1) 0 0 = ix_f w 96 0 := by unfold ix_f; omega
      rw [e]
      exact Z'
theorem yz_25 {post : SY → Prop} {N : Nat} {r c : Nat → Nat} (TT : tm_T N kd ka kb up op) (C : ty_C N kd ka kb up op sh r) (Y : yt_C N kd ka kb up op ow o1 o2 yc c) (I : yk_I N kd op c 96 ck p1 p2)
    (hbd : ∀ n, n < N → kd n = 1 → ∃ f, bn_B kd ka kb up n (ka n) f)
    (K : ∀ fa', (∀ j, j < 36864 → fa' j = 0 ∨ fa' j = 1) → ys_F N kd ka kb up op sh r c fa' → (∀ w x ρ, ef_E N kd ka kb up op sh r w x ρ → fa' (ix_f w (yx_p c w x) (c (ys_s ρ))) = 1) → post (ml, fl, nI N, ls, sp, md, pk, fnd, ifd, kd, ka, kb, up, ow, o1, o2, yc, ck, p1, p2, yh, fi, fa', ynd, clr, mrk, vla, evl, ndd, icl, ecl, mkr, cvl, al, cis, 36864)) :
    ∀ (d i : Nat) (v : Int32) (fa : Nat → Int32), (∀ j, j < 36864 → fa j = 0 ∨ fa j = 1) → ys_F N kd ka kb up op sh r c fa → ((v = 0 ∧ yz_V N kd ka kb up op ck p1 p2 c fa 36864) ∨ (v = 1 ∧ i ≤ yz_N fa)) → i ≤ 36865 → 36866 ≤ d + i →
      wY_effects_25 post ml fl (nI N) ls sp md pk fnd ifd 36864 d v (nI i) kd ka kb up ow o1 o2 yc ck p1 p2 yh fi fa ynd clr mrk vla evl ndd icl ecl mkr cvl al cis := by
  intro d
  induction d with
  | zero => intro i v fa h01 S h hi hd; omega
  | succ d ih =>
    intro i v fa h01 S h hi hd
    have bnd : yz_N fa ≤ 36864 := cn_le _ _
    have fin : yz_V N kd ka kb up op ck p1 p2 c fa 36864 → post (ml, fl, nI N, ls, sp, md, pk, fnd, ifd, kd, ka, kb, up, ow, o1, o2, yc, ck, p1, p2, yh, fi, fa, ynd, clr, mrk, vla, evl, ndd, icl, ecl, mkr, cvl, al, cis, 36864) := fun V =>
      K fa h01 S (fun w x ρ e => yz_c TT C Y I h01 (fun w x u a b c hk f => V w x u a b c (ix_lt a b c) hk f) e)
    refine pk_le 36865 i (fun z => ?_) (fun z => ?_)
    · rcases h with ⟨-, h⟩ | ⟨-, h⟩
      · exact fin h
      · omega
    · rcases h with ⟨rfl, h⟩ | ⟨rfl, h⟩
      · exact br_t rfl (fin h)
      · refine br_f (by decide) ⟨5, yz_39 (fa0 := fa) TT C Y I hbd (fun v' fa' Z' => ?_) 5 0 0 fa ⟨h01, S, Or.inl ⟨rfl, rfl, fun w x u _ _ _ q => absurd q (by unfold ix_f; omega)⟩⟩ (by omega) (by omega)⟩
        refine ih (i + 1) v' fa' Z'.1 Z'.2.1 ?_ (by omega) (by omega)
        rcases Z'.2.2 with ⟨a, b, V⟩ | ⟨a, b⟩
        · rw [b]
          exact Or.inl ⟨a, V⟩
        · exact Or.inr ⟨a, by omega⟩
theorem yz_2 {post : SY → Prop} {N : Nat} {r c : Nat → Nat} (TT : tm_T N kd ka kb up op) (C : ty_C N kd ka kb up op sh r) (Y : yt_C N kd ka kb up op ow o1 o2 yc c) (I : yk_I N kd op c 96 ck p1 p2)
    (hbd : ∀ n, n < N → kd n = 1 → ∃ f, bn_B kd ka kb up n (ka n) f)
    (K : ∀ fa', (∀ j, j < 36864 → fa' j = 0 ∨ fa' j = 1) → ys_F N kd ka kb up op sh r c fa' → (∀ w x ρ, ef_E N kd ka kb up op sh r w x ρ → fa' (ix_f w (yx_p c w x) (c (ys_s ρ))) = 1) → post (ml, fl, nI N, ls, sp, md, pk, fnd, ifd, kd, ka, kb, up, ow, o1, o2, yc, ck, p1, p2, yh, fi, fa', ynd, clr, mrk, vla, evl, ndd, icl, ecl, mkr, cvl, al, cis, 36864)) :
    ∀ (d i : Nat) (fa : Nat → Int32), (∀ j, j < i → fa j = 0) → i ≤ 36864 → 36865 ≤ d + i →
      wY_effects_2 post ml fl (nI N) ls sp md pk fnd ifd 36864 d (nI i) kd ka kb up ow o1 o2 yc ck p1 p2 yh fi fa ynd clr mrk vla evl ndd icl ecl mkr cvl al cis := by
  intro d
  induction d with
  | zero => intro i fa h hi hd; omega
  | succ d ih =>
    intro i fa h hi hd
    refine pk_le 36864 i (fun z => ?_) (fun z => ⟨pk_in i 36864 z, nm_r (e' := upd fa i 0) (by rw [nI_clamp (by omega)]; rfl) (nm_r (e' := nI (i + 1)) (nI_1 i) ?_)⟩)
    · have e : i = 36864 := by omega
      subst e
      refine ⟨36866, yz_25 TT C Y I hbd K 36866 0 1 fa (fun j hj => Or.inl (h j hj)) (fun w x u a b c e => ?_) (Or.inr ⟨rfl, by omega⟩) (by omega) (by omega)⟩
      rw [h _ (ix_lt a b c)] at e
      exact absurd e (by decide)
    · refine ih (i + 1) _ (fun j hj => ?_) (by omega) (by omega)
      rcases Classical.em (j = i) with w | w
      · subst w; exact pk_us
      · rw [pk_un w]; exact h j (by omega)
theorem yz_all {post : SY → Prop} {N : Nat} {r c : Nat → Nat} (TT : tm_T N kd ka kb up op) (C : ty_C N kd ka kb up op sh r) (Y : yt_C N kd ka kb up op ow o1 o2 yc c) (I : yk_I N kd op c 96 ck p1 p2)
    (hbd : ∀ n, n < N → kd n = 1 → ∃ f, bn_B kd ka kb up n (ka n) f)
    (K : ∀ fa', (∀ j, j < 36864 → fa' j = 0 ∨ fa' j = 1) → ys_F N kd ka kb up op sh r c fa' → (∀ w x ρ, ef_E N kd ka kb up op sh r w x ρ → fa' (ix_f w (yx_p c w x) (c (ys_s ρ))) = 1) → post (ml, fl, nI N, ls, sp, md, pk, fnd, ifd, kd, ka, kb, up, ow, o1, o2, yc, ck, p1, p2, yh, fi, fa', ynd, clr, mrk, vla, evl, ndd, icl, ecl, mkr, cvl, al, cis, 36864)) :
    wpY_effects post (ml, fl, nI N, ls, sp, md, pk, fnd, ifd, kd, ka, kb, up, ow, o1, o2, yc, ck, p1, p2, yh, fi, fa, ynd, clr, mrk, vla, evl, ndd, icl, ecl, mkr, cvl, al, cis, 36864) :=
  ⟨36865, yz_2 TT C Y I hbd K 36865 0 fa (fun j hj => absurd hj (by omega)) (by omega) (by omega)⟩
end
end
section
/-- v is the least n below N with H, or -1; of the n from m on -/
def hm_S (m N : Nat) (H : Nat → Prop) (v : Int32) : Prop := (v = -1 ∧ ∀ n, m ≤ n → n < N → ¬ H n) ∨ ∃ n, m ≤ n ∧ n < N ∧ v = nI n ∧ H n ∧ ∀ n', m ≤ n' → n' < n → ¬ H n'
theorem hm_u {m N : Nat} {H H' : Nat → Prop} {v v' : Int32} (e : ∀ n, n < N → (H n ↔ H' n)) (h : hm_S m N H v) (h' : hm_S m N H' v') : v = v' := by
  rcases h with ⟨rfl, h⟩ | ⟨n, a, b, rfl, h1, h2⟩
  · rcases h' with ⟨rfl, -⟩ | ⟨n', a', b', rfl, h1', h2'⟩
    · rfl
    · exact absurd ((e n' b').mpr h1') (h n' a' b')
  · rcases h' with ⟨rfl, h'⟩ | ⟨n', a', b', rfl, h1', h2'⟩
    · exact absurd ((e n b).mp h1) (h' n a b)
    · rcases Nat.lt_trichotomy n n' with w | w | w
      · exact absurd ((e n b).mp h1) (h2' n a w)
      · rw [w]
      · exact absurd ((e n' b').mpr h1') (h2 n' a' w)
theorem hm_y {m N : Nat} {H : Nat → Prop} {v : Int32} (h : hm_S (m + 1) N H v) (hm : m < N) (hh : H m) : hm_S m N H (nI m) := Or.inr ⟨m, Nat.le_refl _, hm, rfl, hh, fun n' a b => absurd b (by omega)⟩
theorem hm_n {m N : Nat} {H : Nat → Prop} {v : Int32} (h : hm_S (m + 1) N H v) (hh : ¬ H m) : hm_S m N H v := by
  rcases h with ⟨e, h⟩ | ⟨n, a, b, e, h1, h2⟩
  · refine Or.inl ⟨e, fun n a b => ?_⟩
    rcases Classical.em (n = m) with w | w
    · subst w; exact hh
    · exact h n (by omega) b
  · refine Or.inr ⟨n, by omega, b, e, h1, fun n' a' b' => ?_⟩
    rcases Classical.em (n' = m) with w | w
    · subst w; exact hh
    · exact h2 n' (by omega) b'
/-- the number of the node below m, as the loops count down -/
def dn_I (m : Nat) : Int32 := nI m + (-1)
theorem dn_0 : dn_I 0 = -1 := by decide
theorem dn_s (m : Nat) : dn_I (m + 1) = nI m := pk_m1 m
theorem dn_t (m : Nat) : nI m + (-1) = dn_I m := rfl
theorem dn_c {N : Nat} : nI N - 1 = dn_I N := by
  unfold dn_I
  rw [Int32.sub_eq_add_neg]
section
variable {ml fl cnt ls sp md pk fnd ifd : Int32} {kd ka kb up ow o1 o2 yc ck p1 p2 yh fi fa ynd clr mrk vla evl ndd icl ecl mkr cvl al cis : Nat → Int32} {nf : Nat}
theorem yh_393 {post : Int32 → SY → Prop} {J : Int32 → (Nat → Int32) → (Nat → Int32) → (Nat → Int32) → (Nat → Int32) → (Nat → Int32) → (Nat → Int32) → (Nat → Int32) → (Nat → Int32) → (Nat → Int32) → (Nat → Int32) → (Nat → Int32) → (Nat → Int32) → (Nat → Int32) → (Nat → Int32) → (Nat → Int32) → (Nat → Int32) → (Nat → Int32) → (Nat → Int32) → (Nat → Int32) → (Nat → Int32) → (Nat → Int32) → (Nat → Int32) → (Nat → Int32) → (Nat → Int32) → (Nat → Int32) → (Nat → Int32) → Prop} {N u : Nat} (hN : N ≤ 32) (h01 : ∀ i, i < 36864 → fa i = 0 ∨ fa i = 1) (hu : u < 96)
    (K : ∀ yh', hm_S 0 N (fun n => fa (ix_f 0 n u) = 1 ∧ fa (ix_f 1 n u) = 0) (yh' u) → (∀ u', u' ≠ u → yh' u' = yh u') → J (nI (u + 1)) kd ka kb up ow o1 o2 yc ck p1 p2 yh' fi fa ynd clr mrk vla evl ndd icl ecl mkr cvl al cis) :
    ∀ (d m : Nat) (yh2 : Nat → Int32), hm_S m N (fun n => fa (ix_f 0 n u) = 1 ∧ fa (ix_f 1 n u) = 0) (yh2 u) → (∀ u', u' ≠ u → yh2 u' = yh u') → m ≤ N → m < d → wY_infer_393 post J (nI u) ml fl (nI N) ls sp md pk fnd ifd 36864 d (dn_I m) kd ka kb up ow o1 o2 yc ck p1 p2 yh2 fi fa ynd clr mrk vla evl ndd icl ecl mkr cvl al cis := by
  intro d
  induction d with
  | zero => intro m yh2 h1 h2 hm hd; omega
  | succ d ih =>
    intro m yh2 h1 h2 hm hd
    rcases m with _ | m
    · rw [dn_0]
      exact br_t (by decide) (nm_r (e' := nI (u + 1)) (nI_1 u) (K yh2 h1 h2))
    · rw [dn_s]
      refine br_f (nI_pos (by omega)) ?_
      refine yh_has h01 (w := 0) (x := m) (u := u) (by omega) (by omega) hu rfl rfl rfl (fun f0 => br_f (by decide) ?_) (fun f0 => br_t rfl (nm_r (e' := dn_I m) rfl (ih m yh2 (hm_n h1 fun q => absurd (f0.symm.trans q.1) (by decide)) h2 (by omega) (by omega))))
      refine yh_has h01 (w := 1) (x := m) (u := u) (by omega) (by omega) hu rfl rfl rfl (fun f1 => br_f (by decide) (nm_r (e' := dn_I m) rfl (ih m yh2 (hm_n h1 fun q => absurd (f1.symm.trans q.2) (by decide)) h2 (by omega) (by omega)))) (fun f1 => br_t rfl ⟨pk_in u 96 hu, nm_r (e' := upd yh2 u (nI m)) (by rw [nI_clamp (by omega)]) (nm_r (e' := dn_I m) rfl ?_)⟩)
      refine ih m _ ?_ (fun u' hu' => by rw [pk_un hu']; exact h2 u' hu') (by omega) (by omega)
      rw [pk_us]
      exact hm_y h1 (by omega) ⟨f0, f1⟩
theorem yh_372 {post : Int32 → SY → Prop} {N : Nat} (hN : N ≤ 32) (h01 : ∀ i, i < 36864 → fa i = 0 ∨ fa i = 1)
    (K : ∀ yh', (∀ u, u < 96 → hm_S 0 N (fun n => fa (ix_f 0 n u) = 1 ∧ fa (ix_f 1 n u) = 0) (yh' u)) → post 0 (ml, fl, nI N, -1, sp, md, pk, fnd, 1, kd, ka, kb, up, ow, o1, o2, yc, ck, p1, p2, yh', fi, fa, ynd, clr, mrk, vla, evl, ndd, icl, ecl, mkr, cvl, al, cis, 36864)) :
    ∀ (d u : Nat) (yh : Nat → Int32), (∀ u', u' < u → hm_S 0 N (fun n => fa (ix_f 0 n u') = 1 ∧ fa (ix_f 1 n u') = 0) (yh u')) → u ≤ 96 → 97 ≤ d + u → wY_infer_372 post ml fl (nI N) ls sp md pk fnd ifd 36864 d (nI u) kd ka kb up ow o1 o2 yc ck p1 p2 yh fi fa ynd clr mrk vla evl ndd icl ecl mkr cvl al cis := by
  intro d
  induction d with
  | zero => intro u yh h hu hd; omega
  | succ d ih =>
    intro u yh h hu hd
    refine pk_le 96 u (fun z => ?_) (fun z => ⟨pk_in u 96 z, nm_r (e' := upd yh u (-1)) (by rw [nI_clamp (by omega)]) (nm_r (e' := dn_I N) dn_c ⟨N + 1, ?_⟩)⟩)
    · have e : u = 96 := by omega
      subst e
      exact K yh h
    · refine yh_393 hN h01 z (fun yh' h1 h2 => ?_) (N + 1) N (upd yh u (-1)) (Or.inl ⟨pk_us, fun n a b => absurd b (by omega)⟩) (fun u' _ => rfl) (by omega) (by omega)
      refine ih (u + 1) yh' (fun u' hu' => ?_) (by omega) (by omega)
      rcases Classical.em (u' = u) with w | w
      · subst w; exact h1
      · rw [h2 u' w, pk_un w]; exact h u' (by omega)
end
/-- all that the reference knows when infer succeeded -/
def yi_K (N : Nat) (kd ka kb up op sh ow o1 o2 yc ck p1 p2 yh fa : Nat → Int32) (r c : Nat → Nat) : Prop :=
  yt_C N kd ka kb up op ow o1 o2 yc c ∧ yk_I N kd op c 96 ck p1 p2 ∧ (∀ j, j < 36864 → fa j = 0 ∨ fa j = 1) ∧ ys_F N kd ka kb up op sh r c fa ∧ (∀ w x ρ, ef_E N kd ka kb up op sh r w x ρ → fa (ix_f w (yx_p c w x) (c (ys_s ρ))) = 1) ∧
  (∀ u, u < 96 → hm_S 0 N (fun n => fa (ix_f 0 n u) = 1 ∧ fa (ix_f 1 n u) = 0) (yh u))
section
variable {ml fl cnt ls sp md pk fnd ifd : Int32} {kd ka kb up ow o1 o2 yc ck p1 p2 yh fi fa ynd clr mrk vla evl ndd icl ecl mkr cvl al cis : Nat → Int32} {nf : Nat}
variable {op sh pn : Nat → Int32}
theorem yi_14 {post : Int32 → SY → Prop} {N : Nat} (TT : tm_T N kd ka kb up op)
    (K2 : (∃ v, v < N ∧ kd v = 1 ∧ ∀ f, ¬ bn_B kd ka kb up v (ka v) f) → post 2 (ml, fl, nI N, ls, sp, md, pk, fnd, ifd, kd, ka, kb, up, ow, o1, o2, yc, ck, p1, p2, yh, fi, fa, ynd, clr, mrk, vla, evl, ndd, icl, ecl, mkr, cvl, al, cis, nf))
    (K : (∀ n, n < N → kd n = 1 → ∃ f, bn_B kd ka kb up n (ka n) f) → ∀ d, wY_infer_14 post ml fl (nI N) ls sp md pk fnd ifd kd ka kb up ow o1 o2 yc ck p1 p2 yh fi fa ynd clr mrk vla evl ndd icl ecl mkr cvl al cis nf (d + 1) (nI N)) :
    ∀ (d n : Nat), (∀ m, m < n → kd m = 1 → ∃ f, bn_B kd ka kb up m (ka m) f) → n ≤ N → N + 1 ≤ d + n → wY_infer_14 post ml fl (nI N) ls sp md pk fnd ifd kd ka kb up ow o1 o2 yc ck p1 p2 yh fi fa ynd clr mrk vla evl ndd icl ecl mkr cvl al cis nf d (nI n) := by
  have hN := TT.1
  intro d
  induction d with
  | zero => intro n h hn hd; omega
  | succ d ih =>
    intro n h hn hd
    rcases Classical.em (n = N) with e | e
    · subst e
      exact K h d
    refine pk_le N n (fun z => absurd z (by omega)) (fun z => ⟨pk_in n 32 (by omega), ?_⟩)
    rw [nI_clamp (n := n) (by omega)]
    rcases Classical.em (kd n = 1) with k1 | k1
    · refine br_t k1 (yb_of TT z rfl (fun b hb => ?_))
      rcases hb with ⟨rfl, hno⟩ | ⟨f, hf, rfl⟩
      · exact br_f (by decide) (K2 ⟨n, z, k1, hno⟩)
      · have hfN := bn_gt hN TT.2.2.1 z hf
        refine br_t (nI_pos' (by omega)) (nm_r (e' := nI (n + 1)) (nI_1 n) (ih (n + 1) (fun m hm k => ?_) (by omega) (by omega)))
        rcases Classical.em (m = n) with w | w
        · subst w; exact ⟨f, hf⟩
        · exact h m (by omega) k
    · refine br_f k1 (nm_r (e' := nI (n + 1)) (nI_1 n) (ih (n + 1) (fun m hm k => ?_) (by omega) (by omega)))
      rcases Classical.em (m = n) with w | w
      · subst w; exact absurd k k1
      · exact h m (by omega) k
/-- an unbound variable -/
theorem yi_u {post : Int32 → SY → Prop} {N : Nat} (TT : tm_T N kd ka kb up op) (P : pd_I N up pn 1) (hub : ∃ v, v < N ∧ kd v = 1 ∧ ∀ f, ¬ bn_B kd ka kb up v (ka v) f) (K2 : post 2 (ml, fl, nI N, ls, sp, md, pk, fnd, ifd, kd, ka, kb, up, ow, o1, o2, yc, ck, p1, p2, yh, fi, fa, ynd, clr, mrk, vla, evl, ndd, icl, ecl, mkr, cvl, al, cis, nf)) : wpY_infer post (ml, fl, nI N, ls, sp, md, pk, fnd, ifd, kd, ka, kb, up, ow, o1, o2, yc, ck, p1, p2, yh, fi, fa, ynd, clr, mrk, vla, evl, ndd, icl, ecl, mkr, cvl, al, cis, nf) := by
  refine yp_pe TT.1 TT.2.2.1 P (br_t rfl ⟨N + 1, yi_14 TT (fun _ => K2) (fun hb => ?_) (N + 1) 0 (fun m hm => absurd hm (by omega)) (by omega) (by omega)⟩)
  obtain ⟨v, h1, h2, h3⟩ := hub
  obtain ⟨f, hf⟩ := hb v h1 h2
  exact absurd hf (h3 f)
/-- a clash -/
theorem yi_x {post : Int32 → SY → Prop} {N : Nat} (TT : tm_T N kd ka kb up op) (P : pd_I N up pn 1) (hbd : ∀ n, n < N → kd n = 1 → ∃ f, bn_B kd ka kb up n (ka n) f) (hX : le_X N kd ka kb up op)
    (K3 : ∀ ow' o1' o2' yc', post 3 (ml, fl, nI N, ls, sp, md, pk, fnd, ifd, kd, ka, kb, up, ow', o1', o2', yc', ck, p1, p2, yh, fi, fa, ynd, clr, mrk, vla, evl, ndd, icl, ecl, mkr, cvl, al, cis, nf)) : wpY_infer post (ml, fl, nI N, ls, sp, md, pk, fnd, ifd, kd, ka, kb, up, ow, o1, o2, yc, ck, p1, p2, yh, fi, fa, ynd, clr, mrk, vla, evl, ndd, icl, ecl, mkr, cvl, al, cis, nf) := by
  refine yp_pe TT.1 TT.2.2.1 P (br_t rfl ⟨N + 1, yi_14 TT (fun h => ?_) (fun hb d => br_t (nI_le (Nat.le_refl _) (by have := TT.1; omega)) ?_) (N + 1) 0 (fun m hm => absurd hm (by omega)) (by omega) (by omega)⟩)
  · obtain ⟨v, h1, h2, h3⟩ := h
    obtain ⟨f, hf⟩ := hbd v h1 h2
    exact absurd hf (h3 f)
  · refine ye_all TT hbd (fun ow' o1' o2' yc' c Y => ⟨97, ?_⟩)
    exact yi_54 TT Y (fun _ => K3 ow' o1' o2' yc') (fun h => absurd hX h) 97 0 (fun s' t hs => absurd hs (by omega)) (by omega) (by omega)
/-- no clash: a loop, or all is known -/
theorem yi_m {post : Int32 → SY → Prop} {N : Nat} {r : Nat → Nat} (TT : tm_T N kd ka kb up op) (P : pd_I N up pn 1) (hbd : ∀ n, n < N → kd n = 1 → ∃ f, bn_B kd ka kb up n (ka n) f) (C : ty_C N kd ka kb up op sh r)
    (K4 : (∃ s, s < 3 * N ∧ r s = s ∧ ¬ fn_F N kd op sh r s) → ∀ ow' o1' o2' yc' ck' p1' p2' fi', post 4 (ml, fl, nI N, ls, sp, md, pk, fnd, ifd, kd, ka, kb, up, ow', o1', o2', yc', ck', p1', p2', yh, fi', fa, ynd, clr, mrk, vla, evl, ndd, icl, ecl, mkr, cvl, al, cis, 36864))
    (K0 : (∀ s, s < 3 * N → r s = s → fn_F N kd op sh r s) → ∀ ow' o1' o2' yc' ck' p1' p2' fi' fa' yh' c, yi_K N kd ka kb up op sh ow' o1' o2' yc' ck' p1' p2' yh' fa' r c → post 0 (ml, fl, nI N, -1, sp, md, pk, fnd, 1, kd, ka, kb, up, ow', o1', o2', yc', ck', p1', p2', yh', fi', fa', ynd, clr, mrk, vla, evl, ndd, icl, ecl, mkr, cvl, al, cis, 36864)) :
    wpY_infer post (ml, fl, nI N, ls, sp, md, pk, fnd, ifd, kd, ka, kb, up, ow, o1, o2, yc, ck, p1, p2, yh, fi, fa, ynd, clr, mrk, vla, evl, ndd, icl, ecl, mkr, cvl, al, cis, 36864) := by
  have hN := TT.1
  refine yp_pe TT.1 TT.2.2.1 P (br_t rfl ⟨N + 1, yi_14 TT (fun h => ?_) (fun hb d => br_t (nI_le (Nat.le_refl _) (by have := TT.1; omega)) ?_) (N + 1) 0 (fun m hm => absurd hm (by omega)) (by omega) (by omega)⟩)
  · obtain ⟨v, h1, h2, h3⟩ := h
    obtain ⟨f, hf⟩ := hbd v h1 h2
    exact absurd hf (h3 f)
  · refine ye_all TT hbd (fun ow' o1' o2' yc' c Y => ⟨97, ?_⟩)
    refine yi_54 TT Y (fun h => absurd h (ty_nX TT C)) (fun hX => ⟨97, ?_⟩) 97 0 (fun s' t hs => absurd hs (by omega)) (by omega) (by omega)
    refine yk_132 TT Y hX (fun ck' p1' p2' fi' I hfi => ⟨97, ?_⟩) 97 0 ck fi (fun u hu => absurd hu (by omega)) (by omega) (by omega)
    refine yn_246 TT C Y I (fun fi2 h => K4 h ow' o1' o2' yc' ck' p1' p2' fi2) (fun fi2 hf d => br_t (by decide) ?_) 97 0 1 fi' (fun u hu => ⟨Or.inl (hfi u hu), fun e => absurd ((hfi u hu).symm.trans e) (by decide)⟩) (Or.inr ⟨rfl, by omega⟩) (by omega) (by omega)
    refine yz_all TT C Y I hb (fun fa' h01 S E => ⟨97, ?_⟩)
    exact yh_372 hN h01 (fun yh' h => K0 hf ow' o1' o2' yc' ck' p1' p2' fi2 fa' yh' c ⟨Y, I, h01, S, E, h⟩) 97 0 yh (fun u hu => absurd hu (by omega)) (by omega) (by omega)
end
end
section
/-! rows on bits, shifts and unsigned numbers, to paste: each family out of a closed proof of our own, whole with what it rests on; each by itself clean at Lean in its own claim (generation 39, form 5). Take a family whole -/
/-! ===== Int32 by its bits: bt x i ===== -/
def bt (x : Int32) (i : Nat) : Bool := x.toBitVec.getLsbD i
theorem b_ext {x y : Int32} (h : ∀ i, i < 32 → bt x i = bt y i) : x = y := Int32.toBitVec_inj.mp (BitVec.eq_of_getLsbD_eq (fun i hi => h i hi))
theorem b_or (x y : Int32) (i : Nat) : bt (x ||| y) i = (bt x i || bt y i) := by unfold bt; rw [Int32.toBitVec_or, BitVec.getLsbD_or]
theorem b_and (x y : Int32) (i : Nat) : bt (x &&& y) i = (bt x i && bt y i) := by unfold bt; rw [Int32.toBitVec_and, BitVec.getLsbD_and]
theorem b_xor (x y : Int32) (i : Nat) : bt (x ^^^ y) i = (bt x i ^^ bt y i) := by unfold bt; rw [Int32.toBitVec_xor, BitVec.getLsbD_xor]
theorem b_big {x : Int32} {i : Nat} (h : 32 ≤ i) : bt x i = false := BitVec.getLsbD_of_ge _ _ h
theorem b_255 (i : Nat) : bt 255 i = decide (i < 8) := by
  rcases Nat.lt_or_ge i 32 with h | h
  · exact (by decide +kernel : ∀ i, i < 32 → bt 255 i = decide (i < 8)) i h
  · rw [b_big h, decide_eq_false (by omega)]
theorem b_65535 (i : Nat) : bt 65535 i = decide (i < 16) := by
  rcases Nat.lt_or_ge i 32 with h | h
  · exact (by decide +kernel : ∀ i, i < 32 → bt 65535 i = decide (i < 16)) i h
  · rw [b_big h, decide_eq_false (by omega)]
theorem b_m1 : ∀ i, i < 32 → bt (-1) i = true := by decide +kernel
theorem b_0 (i : Nat) : bt 0 i = false := BitVec.getLsbD_zero
theorem s_l : ∀ n, n < 32 → ((nI n &&& 31).toBitVec.smod 32).toNat = n := by decide +kernel
theorem s_u : ∀ n, n < 32 → (((nI n).toUInt32 &&& Int32.toUInt32 31).toBitVec % 32).toNat = n := by decide +kernel
theorem b_shl (n : Nat) (hn : n < 32) (x : Int32) {i : Nat} (hi : i < 32) : bt (x <<< (nI n &&& 31)) i = (decide (n ≤ i) && bt x (i - n)) := by
  unfold bt
  rw [Int32.toBitVec_shiftLeft]
  show (x.toBitVec <<< ((nI n &&& 31).toBitVec.smod 32).toNat).getLsbD i = _
  rw [s_l n hn, BitVec.getLsbD_shiftLeft]
  rcases Nat.lt_or_ge i n with h | h
  · simp [h, Nat.not_le.mpr h]
  · simp [hi, h, Nat.not_lt.mpr h]
theorem b_ushr (n : Nat) (hn : n < 32) (x : Int32) (i : Nat) : bt ((x.toUInt32 >>> ((nI n).toUInt32 &&& Int32.toUInt32 31)).toInt32) i = bt x (n + i) := by
  show (x.toUInt32 >>> ((nI n).toUInt32 &&& Int32.toUInt32 31)).toBitVec.getLsbD i = x.toUInt32.toBitVec.getLsbD (n + i)
  rw [UInt32.toBitVec_shiftRight]
  show (x.toUInt32.toBitVec >>> (((nI n).toUInt32 &&& Int32.toUInt32 31).toBitVec % 32).toNat).getLsbD i = _
  rw [s_u n hn, BitVec.getLsbD_ushiftRight]
theorem b_sshr (n : Nat) (hn : n < 32) (x : Int32) {i : Nat} (hi : i < 32) : bt (x >>> (nI n &&& 31)) i = if n + i < 32 then bt x (n + i) else bt x 31 := by
  unfold bt
  rw [Int32.toBitVec_shiftRight]
  show (x.toBitVec.sshiftRight ((nI n &&& 31).toBitVec.smod 32).toNat).getLsbD i = _
  rw [s_l n hn, BitVec.getLsbD_sshiftRight, BitVec.msb_eq_getLsbD_last]
  simp [hi]
theorem b_shl8 (x : Int32) {i : Nat} (hi : i < 32) : bt (x <<< ((8 : Int32) &&& 31)) i = (decide (8 ≤ i) && bt x (i - 8)) := b_shl 8 (by omega) x hi
theorem b_shl16 (x : Int32) {i : Nat} (hi : i < 32) : bt (x <<< ((16 : Int32) &&& 31)) i = (decide (16 ≤ i) && bt x (i - 16)) := b_shl 16 (by omega) x hi
theorem b_shl24 (x : Int32) {i : Nat} (hi : i < 32) : bt (x <<< ((24 : Int32) &&& 31)) i = (decide (24 ≤ i) && bt x (i - 24)) := b_shl 24 (by omega) x hi
theorem b_sshr8 (x : Int32) {i : Nat} (hi : i < 32) : bt (x >>> ((8 : Int32) &&& 31)) i = if 8 + i < 32 then bt x (8 + i) else bt x 31 := b_sshr 8 (by omega) x hi
/-! ===== nI under and, xor, >>>, one bit, 65535 ===== -/
theorem nx_and (a b : Nat) : nI a &&& nI b = nI (a &&& b) := by
  apply Int32.toBitVec_inj.1
  show BitVec.ofNat 32 a &&& BitVec.ofNat 32 b = BitVec.ofNat 32 (a &&& b)
  apply BitVec.eq_of_getLsbD_eq
  intro i hi
  simp [hi]
theorem nx_xor (a b : Nat) : nI a ^^^ nI b = nI (a ^^^ b) := by
  apply Int32.toBitVec_inj.1
  show BitVec.ofNat 32 a ^^^ BitVec.ofNat 32 b = BitVec.ofNat 32 (a ^^^ b)
  apply BitVec.eq_of_getLsbD_eq
  intro i hi
  simp [hi]
theorem nx_cnt : ∀ j : Fin 32, (UInt32.ofNat j.val &&& Int32.toUInt32 31).toNat % 32 = j.val := by decide +kernel
theorem nx_ush {k j : Nat} (hk : k < 65536) (hj : j < 32) : ((nI k).toUInt32 >>> ((nI j).toUInt32 &&& Int32.toUInt32 31)).toInt32 = nI (k >>> j) := by
  have hs : k >>> j ≤ k := by
    rw [Nat.shiftRight_eq_div_pow]
    exact Nat.div_le_self _ _
  have e2 : UInt32.ofNat k >>> (UInt32.ofNat j &&& Int32.toUInt32 31) = UInt32.ofNat (k >>> j) := by
    apply UInt32.toNat_inj.1
    have h1 : (UInt32.ofNat k).toNat = k := Nat.mod_eq_of_lt (by omega)
    have h2 : (UInt32.ofNat (k >>> j)).toNat = k >>> j := Nat.mod_eq_of_lt (by omega)
    rw [UInt32.toNat_shiftRight, nx_cnt ⟨j, hj⟩, h1, h2]
  show (UInt32.ofNat k >>> (UInt32.ofNat j &&& Int32.toUInt32 31)).toInt32 = _
  rw [e2]
  rfl
theorem nx_bit {k j : Nat} (hk : k < 65536) (hj : j < 16) : (((nI k).toUInt32 >>> ((nI j).toUInt32 &&& Int32.toUInt32 31)).toInt32 &&& 1) = 0 ↔ k.testBit j = false := by
  rw [nx_ush hk (by omega)]
  show nI (k >>> j) &&& nI 1 = 0 ↔ _
  rw [nx_and, Nat.and_one_is_mod, ← nI_0, nI_eq (by omega) (by omega), Nat.testBit_eq_decide_div_mod_eq, Nat.shiftRight_eq_div_pow, decide_eq_false_iff_not]
  generalize k / 2 ^ j = z
  omega
theorem nx_mod (k : Nat) : nI k &&& 65535 = nI (k % 65536) := by
  show nI k &&& nI 65535 = _
  rw [nx_and, show (65535 : Nat) = 2 ^ 16 - 1 from rfl, Nat.and_two_pow_sub_one_eq_mod]
theorem nx_m16 {k : Nat} (h : k < 65536) : nI k &&& 65535 = nI k := by rw [nx_mod, Nat.mod_eq_of_lt h]
theorem nx_mask (x : Int32) : ∃ k, k < 65536 ∧ x &&& 65535 = nI k := by
  have e : x = nI x.toBitVec.toNat := by
    apply Int32.toBitVec_inj.1
    show x.toBitVec = BitVec.ofNat 32 x.toBitVec.toNat
    simp
  refine ⟨x.toBitVec.toNat % 65536, Nat.mod_lt _ (by omega), ?_⟩
  rw [← nx_mod, ← e]
/-! ===== Int32 as a set of bits: test, set ===== -/
def nf_M (m : Int32) : Nat := 4294967296 - m.toBitVec.toNat
theorem nf_sh : ∀ l, l < 32 → ((1 : Int32) <<< (nI l &&& 31)).toBitVec = BitVec.twoPow 32 l := by decide +kernel
theorem nf_sl : ∀ l, l < 32 → (((nI l).toUInt32 &&& Int32.toUInt32 31).toBitVec % 32).toNat = l := by decide +kernel
theorem nf_tp : ∀ l, l < 32 → BitVec.twoPow 32 l ≠ 0#32 := by decide +kernel
theorem nf_bit (m : Int32) (l : Nat) (hl : l < 32) : ((m.toUInt32 >>> ((nI l).toUInt32 &&& Int32.toUInt32 31)).toInt32 &&& 1) = 0 ↔ (m &&& ((1 : Int32) <<< (nI l &&& 31))) = 0 := by
  have e : ((m.toUInt32 >>> ((nI l).toUInt32 &&& Int32.toUInt32 31)).toInt32).toBitVec = m.toBitVec >>> l := by
    show m.toBitVec >>> (((nI l).toUInt32 &&& Int32.toUInt32 31).toBitVec % 32) = m.toBitVec >>> l
    rw [BitVec.ushiftRight_eq', nf_sl l hl]
  rw [← Int32.toBitVec_inj, ← Int32.toBitVec_inj, Int32.toBitVec_and, Int32.toBitVec_and, nf_sh l hl, e, BitVec.and_twoPow]
  show (m.toBitVec >>> l &&& 1#32) = 0#32 ↔ _ = 0#32
  rw [BitVec.and_one_eq_setWidth_ofBool_getLsbD, BitVec.getLsbD_ushiftRight, Nat.add_zero]
  cases hb : m.toBitVec.getLsbD l
  · exact ⟨fun _ => by simp, fun _ => by decide⟩
  · exact ⟨fun z => absurd z (by decide), fun z => absurd ((if_pos rfl).symm.trans z) (nf_tp l hl)⟩
theorem nf_gr (m k : Int32) (h : m &&& k = 0) (hk : k ≠ 0) : nf_M (m ||| k) < nf_M m := by
  have hm := m.toBitVec.isLt
  have hm' := (m ||| k).toBitVec.isLt
  have h1 : m.toBitVec.toNat ≤ (m ||| k).toBitVec.toNat := by
    rw [Int32.toBitVec_or, BitVec.toNat_or]
    exact Nat.left_le_or
  have h2 : m.toBitVec.toNat ≠ (m ||| k).toBitVec.toNat := by
    intro e
    have e2 : m = m ||| k := Int32.toBitVec_inj.mp (BitVec.eq_of_toNat_eq e)
    apply hk
    apply Int32.toBitVec_inj.mp
    show k.toBitVec = 0#32
    apply BitVec.eq_of_getLsbD_eq
    intro i hi
    have a : m.toBitVec.getLsbD i = (m.toBitVec.getLsbD i || k.toBitVec.getLsbD i) := by rw [← BitVec.getLsbD_or, ← Int32.toBitVec_or, ← e2]
    have b : (m.toBitVec.getLsbD i && k.toBitVec.getLsbD i) = false := by
      rw [← BitVec.getLsbD_and, ← Int32.toBitVec_and, h]
      exact BitVec.getLsbD_zero
    rw [BitVec.getLsbD_zero]
    revert a b
    cases m.toBitVec.getLsbD i <;> cases k.toBitVec.getLsbD i <;> simp
  unfold nf_M
  omega
/-! ===== a byte read unsigned ===== -/
theorem bp_b (x : Int32) : x.toInt8.toInt32 &&& 255 = x &&& 255 := by
  apply Int32.toBitVec_inj.mp
  rw [Int32.toBitVec_and, Int32.toBitVec_and, Int8.toBitVec_toInt32, Int32.toBitVec_toInt8]
  apply BitVec.eq_of_getLsbD_eq
  intro i hi
  rw [BitVec.getLsbD_and, BitVec.getLsbD_and]
  have hm : ∀ i < 32, 8 ≤ i → (255 : Int32).toBitVec.getLsbD i = false := by decide
  rcases Nat.lt_or_ge i 8 with z | z
  · rw [BitVec.getLsbD_signExtend, BitVec.getLsbD_signExtend, if_pos z, if_pos hi]
    simp only [z, hi, decide_true, Bool.true_and]
  · rw [hm i hi z]; simp
/-! ===== the char cast and 65535 ===== -/
theorem em_w (v : Int32) : ∃ w : Nat, w < 65536 ∧ (v.toUInt32 % 65536).toInt32 = nI w ∧ v &&& 65535 = nI w := by
  have hr := lw_u16_r v
  have h0 : (0 : Int32).toInt = 0 := by decide
  obtain ⟨w, h1, h2⟩ := nI_of (x := lw_u16 v) (by rw [Int32.lt_iff_toInt_lt]; omega)
  have h3 : (v.toUInt32 % 65536).toInt32 = nI w := h2
  rw [h2, nI_toInt h1] at hr
  exact ⟨w, by omega, h3, by rw [← lg_i2c_mask, ← lg_i2c_nf, h3]⟩
/-! ===== Int64 as a set of bits: test, set, clear ===== -/
theorem ts_nf {x : Bool} (h : ¬ x = false) : x = true := by cases x <;> first | rfl | exact absurd rfl h
theorem ts_nt {x : Bool} (h : ¬ x = true) : x = false := by cases x <;> first | rfl | exact absurd rfl h
theorem ts_bit {w : Int64} {s : UInt64} {j : Nat} (hj : j < 64) (hs : s.toNat = j) : ((w.toUInt64 >>> s).toInt64 &&& 1) = 0 ↔ w.toBitVec.getLsbD j = false := by
  have e : (w.toUInt64 >>> s).toInt64.toBitVec = w.toBitVec >>> j := by
    apply BitVec.eq_of_toNat_eq
    show (w.toUInt64 >>> s).toNat = _
    rw [UInt64.toNat_shiftRight, hs, Nat.mod_eq_of_lt hj, BitVec.toNat_ushiftRight]
    rfl
  rw [← Int64.toBitVec_inj, Int64.toBitVec_and, e]
  show w.toBitVec >>> j &&& 1#64 = 0#64 ↔ _
  constructor
  · intro h
    have t := congrArg (fun x => x.getLsbD 0) h
    simpa using t
  · intro h
    apply BitVec.eq_of_getLsbD_eq
    intro i hi
    cases i with
    | zero => simp [h]
    | succ i => simp
theorem ts_or {w m : Int64} {j : Nat} (hj : j < 64) (hm : m.toBitVec = BitVec.twoPow 64 j) : (w ||| m) = w ↔ w.toBitVec.getLsbD j = true := by
  rw [← Int64.toBitVec_inj, Int64.toBitVec_or, hm]
  constructor
  · intro h
    have t := congrArg (fun x => x.getLsbD j) h
    simp only [BitVec.getLsbD_or, BitVec.getLsbD_twoPow] at t
    simpa [hj] using t.symm
  · intro h
    apply BitVec.eq_of_getLsbD_eq
    intro i hi
    rw [BitVec.getLsbD_or, BitVec.getLsbD_twoPow]
    by_cases e : j = i
    · subst e; rw [h, Bool.true_or]
    · simp [e]
theorem ts_and {w m : Int64} {j : Nat} (hj : j < 64) (hm : m.toBitVec = BitVec.twoPow 64 j) : (w &&& (m ^^^ (-1))) = w ↔ w.toBitVec.getLsbD j = false := by
  have ha : (-1 : Int64).toBitVec = BitVec.allOnes 64 := by decide
  rw [← Int64.toBitVec_inj, Int64.toBitVec_and, Int64.toBitVec_xor, hm, ha]
  constructor
  · intro h
    have t := congrArg (fun x => x.getLsbD j) h
    simp only [BitVec.getLsbD_and, BitVec.getLsbD_xor, BitVec.getLsbD_twoPow, BitVec.getLsbD_allOnes] at t
    simpa [hj] using t.symm
  · intro h
    apply BitVec.eq_of_getLsbD_eq
    intro i hi
    rw [BitVec.getLsbD_and, BitVec.getLsbD_xor, BitVec.getLsbD_twoPow, BitVec.getLsbD_allOnes]
    by_cases e : j = i
    · subst e; rw [h, Bool.false_and]
    · simp [e, hi]
/-! ===== lN n to 2^64: shifts, and, or, masks, one bit ===== -/
theorem wb_tb (n : Nat) : (lN n).toBitVec = BitVec.ofNat 64 n := rfl
theorem wb_inj {a b : Int64} (h : a.toBitVec = b.toBitVec) : a = b := Int64.toBitVec_inj.mp h
theorem wb_tn {n : Nat} (h : n < 2 ^ 64) : (lN n).toBitVec.toNat = n := by rw [wb_tb, BitVec.toNat_ofNat, Nat.mod_eq_of_lt h]
theorem wb_of (x : Int64) : ∃ n, n < 2 ^ 64 ∧ x = lN n := ⟨x.toBitVec.toNat, x.toBitVec.isLt, wb_inj (by rw [wb_tb]; simp)⟩
theorem wb_of32 (x : Int32) : ∃ n, n < 2 ^ 32 ∧ x = nI n := ⟨x.toBitVec.toNat, x.toBitVec.isLt, Int32.toBitVec_inj.mp (by show _ = BitVec.ofNat 32 _; simp)⟩
theorem wb_c : ∀ k, k < 64 → ((nI k).toInt64 &&& 63) = lN k := by decide +kernel
theorem wb_cu : ∀ k, k < 64 → ((nI k).toInt64.toUInt64 &&& Int64.toUInt64 63) = UInt64.ofNat k := by decide +kernel
theorem wb_sm : ∀ k, k < 64 → (BitVec.ofNat 64 k).smod 64 = BitVec.ofNat 64 k := by decide +kernel
theorem wb_pw {a b : Nat} (h : a ≤ b) : 2 ^ b = 2 ^ a * 2 ^ (b - a) := by rw [← Nat.pow_add]; congr 1; omega
theorem wb_lt2 {a b : Nat} (h : a < b) : 2 ^ a < 2 ^ b := Nat.pow_lt_pow_right (by decide) h
theorem wb_mod (n : Nat) : lN n = lN (n % 2 ^ 64) := wb_inj (by rw [wb_tb, wb_tb]; apply BitVec.eq_of_toNat_eq; rw [BitVec.toNat_ofNat, BitVec.toNat_ofNat, Nat.mod_mod])
theorem wb_shr {n k : Nat} (hn : n < 2 ^ 64) (hk : k < 64) : ((lN n).toUInt64 >>> ((nI k).toInt64.toUInt64 &&& Int64.toUInt64 63)).toInt64 = lN (n / 2 ^ k) := by
  rw [wb_cu k hk]
  apply wb_inj
  apply BitVec.eq_of_toNat_eq
  show ((lN n).toUInt64 >>> UInt64.ofNat k).toNat = (BitVec.ofNat 64 _).toNat
  have h1 : (UInt64.ofNat k).toNat = k := by
    show (BitVec.ofNat 64 k).toNat = k
    rw [BitVec.toNat_ofNat, Nat.mod_eq_of_lt (by omega)]
  have h2 : (lN n).toUInt64.toNat = n := wb_tn hn
  rw [UInt64.toNat_shiftRight, h1, h2, Nat.mod_eq_of_lt hk, Nat.shiftRight_eq_div_pow, BitVec.toNat_ofNat, Nat.mod_eq_of_lt (Nat.lt_of_le_of_lt (Nat.div_le_self _ _) hn)]
theorem wb_shl (n : Nat) {k : Nat} (hk : k < 64) : lN n <<< ((nI k).toInt64 &&& 63) = lN (n * 2 ^ k) := by
  rw [wb_c k hk]
  apply wb_inj
  rw [Int64.toBitVec_shiftLeft, wb_tb, wb_tb, wb_tb, wb_sm k hk]
  apply BitVec.eq_of_toNat_eq
  rw [BitVec.shiftLeft_eq', BitVec.toNat_shiftLeft, BitVec.toNat_ofNat, BitVec.toNat_ofNat, BitVec.toNat_ofNat, Nat.mod_eq_of_lt (show k < 2 ^ 64 by omega), Nat.shiftLeft_eq, Nat.mul_mod, Nat.mod_mod, ← Nat.mul_mod]
theorem wb_and {a b : Nat} (ha : a < 2 ^ 64) (hb : b < 2 ^ 64) : lN a &&& lN b = lN (a &&& b) := by
  apply wb_inj
  rw [Int64.toBitVec_and, wb_tb, wb_tb, wb_tb]
  apply BitVec.eq_of_toNat_eq
  rw [BitVec.toNat_and, BitVec.toNat_ofNat, BitVec.toNat_ofNat, BitVec.toNat_ofNat, Nat.mod_eq_of_lt ha, Nat.mod_eq_of_lt hb, Nat.mod_eq_of_lt (Nat.and_lt_two_pow _ hb)]
theorem wb_or {a b : Nat} (ha : a < 2 ^ 64) (hb : b < 2 ^ 64) : lN a ||| lN b = lN (a ||| b) := by
  apply wb_inj
  rw [Int64.toBitVec_or, wb_tb, wb_tb, wb_tb]
  apply BitVec.eq_of_toNat_eq
  rw [BitVec.toNat_or, BitVec.toNat_ofNat, BitVec.toNat_ofNat, BitVec.toNat_ofNat, Nat.mod_eq_of_lt ha, Nat.mod_eq_of_lt hb, Nat.mod_eq_of_lt (Nat.or_lt_two_pow ha hb)]
theorem wb_mask {n k : Nat} (hn : n < 2 ^ 64) (hk : k < 64) : lN n &&& lN (2 ^ k - 1) = lN (n % 2 ^ k) := by
  rw [wb_and hn (by have := wb_lt2 hk; omega), Nat.and_two_pow_sub_one_eq_mod]
theorem wb_a1 {n : Nat} (hn : n < 2 ^ 64) : lN n &&& 1 = lN (n % 2) := wb_mask (k := 1) hn (by decide)
theorem wb_bit {n k : Nat} (hn : n < 2 ^ 64) (hk : k < 64) : ((lN n).toUInt64 >>> ((nI k).toInt64.toUInt64 &&& Int64.toUInt64 63)).toInt64 &&& 1 = lN (n / 2 ^ k % 2) := by
  rw [wb_shr hn hk, wb_a1 (Nat.lt_of_le_of_lt (Nat.div_le_self _ _) hn)]
theorem wb_xor {q k : Nat} (hk : k < 63) (h : 2 ^ k ≤ q) (h2 : q < 2 ^ (k + 1)) : lN q ^^^ lN (2 ^ k) = lN (q - 2 ^ k) := by
  obtain ⟨r, rfl⟩ : ∃ r, q = 2 ^ k + r := ⟨q - 2 ^ k, by omega⟩
  have hr : r < 2 ^ k := by rw [Nat.pow_succ] at h2; omega
  have hx : (2 ^ k + r) ^^^ 2 ^ k = r := by
    apply Nat.eq_of_testBit_eq
    intro i
    rw [Nat.testBit_xor, Nat.testBit_two_pow]
    rcases Nat.lt_trichotomy i k with h | h | h
    · rw [Nat.testBit_two_pow_add_gt h]
      simp [show ¬ k = i by omega]
    · subst h
      rw [Nat.testBit_two_pow_add_eq]
      simp
    · have a1 : 2 ^ (k + 1) ≤ 2 ^ i := Nat.pow_le_pow_right (by decide) h
      rw [Nat.testBit_lt_two_pow (show 2 ^ k + r < 2 ^ i by omega), Nat.testBit_lt_two_pow (show r < 2 ^ i by omega)]
      simp [show ¬ k = i by omega]
  have b1 := wb_lt2 (show k + 1 < 64 by omega)
  have b2 := wb_lt2 (show k < 64 by omega)
  apply wb_inj
  rw [Int64.toBitVec_xor, wb_tb, wb_tb, wb_tb]
  apply BitVec.eq_of_toNat_eq
  rw [BitVec.toNat_xor, BitVec.toNat_ofNat, BitVec.toNat_ofNat, BitVec.toNat_ofNat, Nat.mod_eq_of_lt (by omega : 2 ^ k + r < 2 ^ 64), Nat.mod_eq_of_lt b2, hx, Nat.add_sub_cancel_left, Nat.mod_eq_of_lt (by omega)]
/-! ===== lN: masks, 'or' of parts that don't overlap is a sum ===== -/
theorem u_tn {n : Nat} (h : n < 2 ^ 64) : (UInt64.ofNat n).toNat = n := Nat.mod_eq_of_lt h
theorem g_and {a b c : Nat} (ha : a < 2 ^ 64) (hb : b < 2 ^ 64) (hc : a &&& b = c) : lN a &&& lN b = lN c := by
  subst hc
  have h : UInt64.ofNat a &&& UInt64.ofNat b = UInt64.ofNat (a &&& b) := UInt64.toNat_inj.mp (by rw [UInt64.toNat_and, u_tn ha, u_tn hb, u_tn (Nat.and_lt_two_pow a hb)])
  have h2 := congrArg UInt64.toInt64 h
  exact h2
theorem g_and1 {a : Nat} (ha : a < 2 ^ 64) : lN a &&& 1 = lN (a % 2) := g_and (b := 1) ha (by decide) (Nat.and_two_pow_sub_one_eq_mod a 1)
theorem g_mask {a s p : Nat} (hp : 2 ^ s = p) (hs : s < 64) (ha : a < 2 ^ 64) : lN a &&& lN (p - 1) = lN (a % p) := by
  subst hp
  have := Nat.pow_lt_pow_right (show 1 < 2 by decide) hs
  exact g_and ha (by omega) (Nat.and_two_pow_sub_one_eq_mod a s)
theorem g_or {k p a b : Nat} (hp : 2 ^ k = p) (ha : a < p) (h : b * p + a < 2 ^ 64) : lN (b * p) ||| lN a = lN (b * p + a) := by
  subst hp
  have h1 : b * 2 ^ k ||| a = b * 2 ^ k + a := by rw [← Nat.shiftLeft_eq, Nat.shiftLeft_add_eq_or_of_lt ha]
  have h3 : UInt64.ofNat (b * 2 ^ k) ||| UInt64.ofNat a = UInt64.ofNat (b * 2 ^ k + a) := UInt64.toNat_inj.mp (by rw [UInt64.toNat_or, u_tn (by omega), u_tn (by omega), u_tn h, h1])
  have h2 := congrArg UInt64.toInt64 h3
  exact h2
theorem g_or' {k p a b : Nat} (hp : 2 ^ k = p) (ha : a < p) (h : a + b * p < 2 ^ 64) : lN a ||| lN (b * p) = lN (a + b * p) := by
  rw [Int64.or_comm, g_or hp ha (by omega), Nat.add_comm]
theorem g_ushr {a k p : Nat} {y : UInt64} (hy : y = UInt64.ofNat k) (hk : k < 64) (hp : 2 ^ k = p) (ha : a < 2 ^ 64) : ((lN a).toUInt64 >>> y).toInt64 = lN (a / p) := by
  subst hy hp
  have h : UInt64.ofNat a >>> UInt64.ofNat k = UInt64.ofNat (a / 2 ^ k) := UInt64.toNat_inj.mp (by rw [UInt64.toNat_shiftRight, u_tn ha, u_tn (by omega), u_tn (Nat.lt_of_le_of_lt (Nat.div_le_self _ _) ha), Nat.mod_eq_of_lt hk, Nat.shiftRight_eq_div_pow])
  have h2 := congrArg UInt64.toInt64 h
  exact h2
theorem g_shl {a k p : Nat} {y : Int64} (hy : y.toBitVec.smod 64 = BitVec.ofNat 64 k) (hk : k < 64) (hp : 2 ^ k = p) (ha : a < 2 ^ 64) : lN a <<< y = lN (a * p) := by
  subst hp
  apply Int64.toBitVec_inj.mp
  rw [Int64.toBitVec_shiftLeft, hy]
  apply BitVec.eq_of_toNat_eq
  have hb : (lN a).toBitVec.toNat = a := Nat.mod_eq_of_lt ha
  have hk' : (BitVec.ofNat 64 k).toNat = k := Nat.mod_eq_of_lt (by omega)
  have h : ((lN a).toBitVec <<< BitVec.ofNat 64 k).toNat = (a * 2 ^ k) % 2 ^ 64 := by simp only [BitVec.shiftLeft_eq', BitVec.toNat_shiftLeft, hb, hk', Nat.shiftLeft_eq]
  exact h
/-! ===== lN to 2^62 under >> and >>> ===== -/
theorem pf_lI {a : Nat} (h : a < 2 ^ 63) : (lN a).toInt = (a : Int) := lg_ofNat_toInt h
theorem pf_shr {a d : Nat} {D : Int64} (hD : (D.toBitVec.smod 64).toNat = d) (h : a < 2 ^ 62) : lN a >>> D = lN (a / 2 ^ d) := by
  have hd : a / 2 ^ d ≤ a := Nat.div_le_self _ _
  apply Int64.toInt_inj.mp
  have e : (lN a >>> D).toInt = (lN a).toInt >>> d := by
    rw [← hD]
    exact BitVec.toInt_sshiftRight ..
  rw [e, Int.shiftRight_eq_div_pow, pf_lI (by omega), pf_lI (by omega)]
  rfl
theorem pf_ushr {a d : Nat} {D : UInt64} (hD : D.toNat % 64 = d) (h : a < 2 ^ 62) : ((lN a).toUInt64 >>> D).toInt64 = lN (a / 2 ^ d) := by
  have hd : a / 2 ^ d ≤ a := Nat.div_le_self _ _
  have e : (lN a).toUInt64 >>> D = UInt64.ofNat (a / 2 ^ d) := UInt64.toNat_inj.mp (by
    rw [UInt64.toNat_shiftRight, hD, Nat.shiftRight_eq_div_pow, UInt64.toNat_ofNat']
    show (UInt64.ofNat a).toNat / 2 ^ d = _
    rw [UInt64.toNat_ofNat', Nat.mod_eq_of_lt (by omega), Nat.mod_eq_of_lt (by omega)])
  rw [e]
  rfl
theorem pf_andw (x : Int64) : ∃ m, m < 2 ^ 32 ∧ x &&& 4294967295 = lN m := ⟨x.toBitVec.toNat % 2 ^ 32, Nat.mod_lt _ (by decide), Int64.toBitVec_inj.mp (BitVec.eq_of_toNat_eq (by
  show (x.toBitVec &&& 4294967295#64).toNat = (BitVec.ofNat 64 (x.toBitVec.toNat % 2 ^ 32)).toNat
  rw [BitVec.toNat_and, show (4294967295#64).toNat = 2 ^ 32 - 1 from by decide, Nat.and_two_pow_sub_one_eq_mod, BitVec.toNat_ofNat]
  omega))⟩
/-! ===== Int64 as an unsigned number: uN x ===== -/
def uN (x : Int64) : Nat := x.toUInt64.toNat
theorem uN_lt (x : Int64) : uN x < 18446744073709551616 := x.toUInt64.toNat_lt
theorem uN_inj {x y : Int64} (h : uN x = uN y) : x = y := congrArg UInt64.toInt64 (UInt64.toNat_inj.mp h)
theorem uN_add (x y : Int64) : uN (x + y) = (uN x + uN y) % 18446744073709551616 := by
  show (x.toUInt64 + y.toUInt64).toNat = _
  exact UInt64.toNat_add _ _
theorem uN_mul (x y : Int64) : uN (x * y) = (uN x * uN y) % 18446744073709551616 := by
  show (x.toUInt64 * y.toUInt64).toNat = _
  exact UInt64.toNat_mul _ _
theorem uN_shl (x : Int64) : uN (x <<< ((1 : Int32).toInt64 &&& 63)) = (2 * uN x) % 18446744073709551616 := by
  have h : (((1 : Int32).toInt64 &&& 63).toBitVec.smod 64).toNat = 1 := by decide
  show (x.toBitVec <<< (((1 : Int32).toInt64 &&& 63).toBitVec.smod 64).toNat).toNat = _
  rw [h, BitVec.toNat_shiftLeft, Nat.shiftLeft_eq, Nat.mul_comm]
  rfl
theorem uN_shr (x : Int64) (s : UInt64) : uN (x.toUInt64 >>> s).toInt64 = uN x / 2 ^ (s.toNat % 64) := by
  show (x.toUInt64 >>> s).toNat = _
  rw [UInt64.toNat_shiftRight, Nat.shiftRight_eq_div_pow]
  rfl
theorem uN_s32 (x : Int64) : uN (x.toUInt64 >>> ((32 : Int32).toInt64.toUInt64 &&& Int64.toUInt64 63)).toInt64 = uN x / 4294967296 := by
  have h : ((32 : Int32).toInt64.toUInt64 &&& Int64.toUInt64 63).toNat % 64 = 32 := by decide
  rw [uN_shr, h]
theorem uN_s63 (x : Int64) : uN (x.toUInt64 >>> ((63 : Int32).toInt64.toUInt64 &&& Int64.toUInt64 63)).toInt64 = uN x / 9223372036854775808 := by
  have h : ((63 : Int32).toInt64.toUInt64 &&& Int64.toUInt64 63).toNat % 64 = 63 := by decide
  rw [uN_shr, h]
theorem uN_lo (x : Int64) : uN (x &&& 4294967295) = uN x % 4294967296 := by
  show (x.toUInt64 &&& Int64.toUInt64 4294967295).toNat = _
  rw [UInt64.toNat_and]
  exact Nat.and_two_pow_sub_one_eq_mod _ 32
theorem uN_bit (x : Int64) : (x &&& 1) = 0 ↔ uN x % 2 = 0 := by
  have h : uN (x &&& 1) = uN x % 2 := by
    show (x.toUInt64 &&& Int64.toUInt64 1).toNat = _
    rw [UInt64.toNat_and]
    exact Nat.and_two_pow_sub_one_eq_mod _ 1
  rw [← h]
  exact ⟨fun z => by rw [z]; rfl, fun z => uN_inj (z.trans rfl)⟩
theorem uN_or {x y : Int64} (hy : uN y < 2) : uN ((x <<< ((1 : Int32).toInt64 &&& 63)) ||| y) = (2 * uN x) % 18446744073709551616 + uN y := by
  have h1 : uN ((x <<< ((1 : Int32).toInt64 &&& 63)) ||| y) = uN (x <<< ((1 : Int32).toInt64 &&& 63)) ||| uN y := UInt64.toNat_or _ _
  have h2 : (2 * uN x) % 18446744073709551616 = 2 ^ 1 * (uN x % 9223372036854775808) := by omega
  rw [h1, uN_shl, h2]
  exact (Nat.two_pow_add_eq_or_of_lt (i := 1) hy _).symm
theorem nat_xor {a : Nat} (h : a < 18446744073709551616) : a ^^^ 2 ^ 63 = (a + 9223372036854775808) % 18446744073709551616 := by
  have h1 : (a ^^^ 2 ^ 63) % 2 ^ 63 = a % 2 ^ 63 := by rw [Nat.xor_mod_two_pow, Nat.mod_self, Nat.xor_zero]
  have h2 : (a ^^^ 2 ^ 63) / 2 ^ 63 = (a / 2 ^ 63) ^^^ 1 := by rw [Nat.xor_div_two_pow, Nat.div_self (Nat.two_pow_pos 63)]
  have h3 : a / 2 ^ 63 = 0 ∨ a / 2 ^ 63 = 1 := by omega
  generalize a ^^^ 2 ^ 63 = t at h1 h2
  rcases h3 with h3 | h3
  · rw [h3] at h2
    have h2 : t / 2 ^ 63 = 1 := h2
    omega
  · rw [h3] at h2
    have h2 : t / 2 ^ 63 = 0 := h2
    omega
theorem uN_xor (x : Int64) : uN (x ^^^ (-9223372036854775808)) = (uN x + 9223372036854775808) % 18446744073709551616 := by
  rw [← nat_xor (uN_lt x)]
  exact UInt64.toNat_xor _ _
theorem uN_int (x : Int64) : x.toInt = if 2 * uN x < 18446744073709551616 then (uN x : Int) else (uN x : Int) - 18446744073709551616 := BitVec.toInt_eq_toNat_cond _
theorem uN_le (x y : Int64) : (x ^^^ (-9223372036854775808)) ≤ (y ^^^ (-9223372036854775808)) ↔ uN x ≤ uN y := by
  have hx := uN_lt x
  have hy := uN_lt y
  rw [Int64.le_iff_toInt_le, uN_int, uN_int, uN_xor, uN_xor]
  omega
theorem uN_sk (x : Int64) {k : Nat} (hk : k < 64) : uN (x.toUInt64 >>> ((nI k).toInt64.toUInt64 &&& Int64.toUInt64 63)).toInt64 = uN x / 2 ^ k := by
  have h : ((nI k).toInt64.toUInt64 &&& Int64.toUInt64 63).toNat % 64 = k := by
    rw [nI_l (by omega), UInt64.toNat_and]
    have e : (lN k).toUInt64.toNat = k % 2 ^ 64 := rfl
    have e2 : (Int64.toUInt64 63).toNat = 2 ^ 6 - 1 := by decide
    rw [e, e2, Nat.and_two_pow_sub_one_eq_mod]
    omega
  rw [uN_shr, h]
/-! ===== unsigned comparison by xor with the least ===== -/
theorem lN_bv (n : Nat) : (lN n).toBitVec = BitVec.ofNat 64 n := rfl
theorem lN_nat {n : Nat} (h : n < 2 ^ 64) : (lN n).toBitVec.toNat = n := by rw [lN_bv, BitVec.toNat_ofNat]; exact Nat.mod_eq_of_lt h
theorem lN_xor (a b : Nat) : lN a ^^^ lN b = lN (a ^^^ b) := by
  apply Int64.toBitVec_inj.mp; rw [Int64.toBitVec_xor, lN_bv, lN_bv, lN_bv]; apply BitVec.eq_of_getLsbD_eq; intro i hi; simp [BitVec.getLsbD_ofNat, Nat.testBit_xor, hi]
theorem lN_ti {m : Nat} (h : m < 2 ^ 64) : (lN m).toInt = if m < 2 ^ 63 then (m : Int) else (m : Int) - 2 ^ 64 := by
  have c := BitVec.toInt_eq_toNat_cond (lN m).toBitVec
  rw [lN_nat h] at c
  show (lN m).toBitVec.toInt = _
  rw [c]
  split <;> split <;> omega
theorem xor63 {x : Nat} (h : x < 2 ^ 63) : x ^^^ 2 ^ 63 = 2 ^ 63 + x := by
  apply Nat.eq_of_testBit_eq
  intro i
  rw [Nat.testBit_xor, Nat.testBit_two_pow]
  rcases Nat.lt_trichotomy i 63 with z | z | z
  · rw [Nat.testBit_two_pow_add_gt z, decide_eq_false (by omega)]; simp
  · subst z; rw [Nat.testBit_two_pow_add_eq]; simp
  · have hp : 2 ^ 64 ≤ 2 ^ i := Nat.pow_le_pow_right (by decide) z
    rw [Nat.testBit_lt_two_pow (show x < 2 ^ i by omega), Nat.testBit_lt_two_pow (show 2 ^ 63 + x < 2 ^ i by omega), decide_eq_false (by omega)]; rfl
theorem xorS {a : Nat} (h : a < 2 ^ 64) : (lN a ^^^ (-9223372036854775808)).toInt = (a : Int) - 2 ^ 63 := by
  rw [show (-9223372036854775808 : Int64) = lN (2 ^ 63) from by decide +kernel, lN_xor]
  rcases Nat.lt_or_ge a (2 ^ 63) with z | z
  · rw [xor63 z, lN_ti (by omega), if_neg (by omega)]; omega
  · obtain ⟨x, rfl⟩ : ∃ x, a = 2 ^ 63 + x := ⟨a - 2 ^ 63, by omega⟩
    rw [← xor63 (by omega), Nat.xor_assoc, Nat.xor_self, Nat.xor_zero, lN_ti (by omega), if_pos (by omega), xor63 (by omega)]; omega
theorem ultL {a b : Nat} (ha : a < 2 ^ 64) (hb : b < 2 ^ 64) : ((lN b ^^^ (-9223372036854775808)) ≤ (lN a ^^^ (-9223372036854775808))) ↔ b ≤ a := by
  rw [Int64.le_iff_toInt_le, xorS ha, xorS hb]; omega
/-! ===== Int64 masks of n low bits ===== -/
theorem cr_bits (W U M : BitVec 64) : ((W &&& U) &&& (U &&& (M ^^^ BitVec.allOnes 64))) = 0#64 ↔ (W &&& U) &&& M = W &&& U := by
  constructor
  · intro h
    apply BitVec.eq_of_getLsbD_eq
    intro i hi
    have e := congrArg (fun x => BitVec.getLsbD x i) h
    simp only [BitVec.getLsbD_and, BitVec.getLsbD_xor, BitVec.getLsbD_allOnes, BitVec.getLsbD_zero, hi, decide_true] at e ⊢
    revert e
    cases W.getLsbD i <;> cases U.getLsbD i <;> cases M.getLsbD i <;> decide
  · intro h
    apply BitVec.eq_of_getLsbD_eq
    intro i hi
    have e := congrArg (fun x => BitVec.getLsbD x i) h
    simp only [BitVec.getLsbD_and, BitVec.getLsbD_xor, BitVec.getLsbD_allOnes, BitVec.getLsbD_zero, hi, decide_true] at e ⊢
    revert e
    cases W.getLsbD i <;> cases U.getLsbD i <;> cases M.getLsbD i <;> decide
theorem cr_mask (w U m : Int64) (n : Nat) (hm : m.toBitVec.toNat = 2 ^ n - 1) : ((w &&& U) &&& (U &&& (m ^^^ (-1)))) = 0 ↔ (w &&& U).toBitVec.toNat < 2 ^ n := by
  have e0 : (-1 : Int64).toBitVec = BitVec.allOnes 64 := by decide
  have z0 : (0 : Int64).toBitVec = 0#64 := by decide
  rw [← Int64.toBitVec_inj, z0, Int64.toBitVec_and, Int64.toBitVec_and, Int64.toBitVec_and, Int64.toBitVec_xor, e0, cr_bits]
  generalize w.toBitVec &&& U.toBitVec = T
  rw [← BitVec.toNat_inj, BitVec.toNat_and, hm, Nat.and_two_pow_sub_one_eq_mod]
  constructor
  · intro h
    have t := Nat.mod_lt T.toNat (Nat.two_pow_pos n)
    rw [h] at t
    exact t
  · exact Nat.mod_eq_of_lt
theorem cr_shr (t : Int64) (x : UInt64) (n : Nat) (hx : x.toNat % 64 = n) : (t.toUInt64 >>> x).toInt64 = 0 ↔ t.toBitVec.toNat < 2 ^ n := by
  rw [← Int64.toBitVec_inj, ← BitVec.toNat_inj]
  show (t.toUInt64 >>> x).toNat = 0 ↔ t.toUInt64.toNat < 2 ^ n
  rw [UInt64.toNat_shiftRight, hx, Nat.shiftRight_eq_div_pow]
  constructor
  · intro h
    have d : t.toUInt64.toNat / 2 ^ n < 1 := by
      rw [h]
      decide
    have e := (Nat.div_lt_iff_lt_mul (Nat.two_pow_pos n)).mp d
    rw [Nat.one_mul] at e
    exact e
  · exact Nat.div_eq_of_lt
theorem cr_amt (s : Int64) : ∃ n, n < 64 ∧ s &&& 63 = lN n ∧ (s.toUInt64 &&& Int64.toUInt64 63).toNat % 64 = n := by
  have e : (s.toUInt64 &&& Int64.toUInt64 63).toNat = s.toUInt64.toNat % 2 ^ 6 := by
    rw [UInt64.toNat_and, show (Int64.toUInt64 63).toNat = 2 ^ 6 - 1 from by decide, Nat.and_two_pow_sub_one_eq_mod]
  refine ⟨s.toUInt64.toNat % 2 ^ 6, by omega, ?_, by omega⟩
  rw [← Int64.toBitVec_inj, ← BitVec.toNat_inj]
  show (s.toUInt64 &&& Int64.toUInt64 63).toNat = (BitVec.ofNat 64 (s.toUInt64.toNat % 2 ^ 6)).toNat
  rw [e, BitVec.toNat_ofNat]
  omega
end
section
/-! bits of a long -/
def tb (w : Int64) (j : Nat) : Bool := w.toBitVec.getLsbD j
theorem tb_or (a b : Int64) (j : Nat) : tb (a ||| b) j = (tb a j || tb b j) := by unfold tb; rw [Int64.toBitVec_or, BitVec.getLsbD_or]
theorem tb_and (a b : Int64) (j : Nat) : tb (a &&& b) j = (tb a j && tb b j) := by unfold tb; rw [Int64.toBitVec_and, BitVec.getLsbD_and]
theorem tb_0 (j : Nat) : tb 0 j = false := by unfold tb; rw [show (0 : Int64).toBitVec = 0#64 from rfl]; exact BitVec.getLsbD_zero
theorem tb_big {w : Int64} {j : Nat} (h : 64 ≤ j) : tb w j = false := BitVec.getLsbD_of_ge _ _ h
theorem tb_ext {a b : Int64} (h : ∀ j, tb a j = tb b j) : a = b := by
  apply Int64.toBitVec_inj.mp
  apply BitVec.eq_of_getLsbD_eq
  intro i _
  exact h i
theorem tb_bit {k : Nat} (hk : k < 64) (j : Nat) : tb ((1 : Int64) <<< ((nI k).toInt64 &&& 63)) j = decide (j = k) := by
  have e : (1 : Int64) <<< ((nI k).toInt64 &&& 63) = lN (1 * 2 ^ k) := wb_shl 1 hk
  rw [e, Nat.one_mul]
  unfold tb
  rw [wb_tb]
  rcases Nat.lt_or_ge j 64 with h | h
  · rw [BitVec.getLsbD_ofNat, Nat.testBit_two_pow]
    simp [h]
    omega
  · rw [BitVec.getLsbD_of_ge _ _ h]
    have : j ≠ k := by omega
    simp [this]
theorem tb_test {w : Int64} {k : Nat} (hk : k < 64) : ((w >>> ((nI k).toInt64 &&& 63)) &&& 1) = 0 ↔ tb w k = false := by
  have hs : ((nI k).toInt64 &&& 63).toBitVec.smod 64 = BitVec.ofNat 64 k := by
    rw [wb_c k hk, wb_tb]
    exact wb_sm k hk
  have key : tb ((w >>> ((nI k).toInt64 &&& 63)) &&& 1) 0 = tb w k := by
    rw [tb_and]
    have h1 : tb 1 0 = true := by decide
    rw [h1, Bool.and_true]
    unfold tb
    show (w.toBitVec.sshiftRight (((nI k).toInt64 &&& 63).toBitVec.smod 64).toNat).getLsbD 0 = _
    rw [hs, BitVec.getLsbD_sshiftRight, BitVec.toNat_ofNat, Nat.mod_eq_of_lt (by omega)]
    simp [hk]
  constructor
  · intro h
    rw [h] at key
    rw [← key]
    exact tb_0 0
  · intro h
    apply tb_ext
    intro j
    rw [tb_0]
    rcases j with _ | j
    · rw [key, h]
    · rw [tb_and]
      have h1 : tb 1 (j + 1) = false := by
        unfold tb
        rw [show (1 : Int64).toBitVec = BitVec.ofNat 64 1 from rfl, BitVec.getLsbD_ofNat, show Nat.testBit 1 (j + 1) = false from by rw [Nat.testBit_succ]; simp, Bool.and_false]
      rw [h1, Bool.and_false]
theorem tb_not {b : Int64} {j : Nat} (h : j < 64) : tb (b ^^^ (-1)) j = !tb b j := by
  unfold tb
  rw [Int64.toBitVec_xor, BitVec.getLsbD_xor, show (-1 : Int64).toBitVec = BitVec.allOnes 64 from by decide, BitVec.getLsbD_allOnes, decide_eq_true h, Bool.xor_true]
end
section
section
variable {N : Nat} {kd ka kb up op sh : Nat → Int32} {r : Nat → Nat}
/-- the region number of a root -/
noncomputable def rg_J (N : Nat) (kd op sh : Nat → Int32) (r : Nat → Nat) (s : Nat) : Nat := cn (fun t => tg_B N kd op sh r t) s
theorem rg_le (TT : tm_T N kd ka kb up op) (C : ty_C N kd ka kb up op sh r) : rg_J N kd op sh r (3 * N) ≤ N := by
  have hN := TT.1
  refine ct_inj (fun s => (sh s).toNatClampNeg / 3) N _ (fun s hs B => ?_) (fun s t hs ht Bs Bt e => ?_)
  · obtain ⟨k, a, b, ⟨m, t, p, q, h1, h2, h3, -⟩, -⟩ := B
    have bt := fo_b TT h1 h2
    show (sh s).toNatClampNeg / 3 < N
    rw [h3, nI_clamp (by omega)]
    omega
  · obtain ⟨k, a, b, ⟨m, t1, p, q, h1, h2, h3, h4, -⟩, -⟩ := Bs
    obtain ⟨k', a', b', ⟨m', t2, p', q', g1, g2, g3, g4, -⟩, -⟩ := Bt
    have b1 := fo_b TT h1 h2
    have b2 := fo_b TT g1 g2
    have e' : (sh s).toNatClampNeg / 3 = (sh t).toNatClampNeg / 3 := e
    rw [h3, g3, nI_clamp (by omega), nI_clamp (by omega)] at e'
    have em : m = m' := by omega
    subst em
    have := (fo_u h2 g2).1
    rw [← h4, ← g4, this]
theorem rg_mono {s t : Nat} (h : s ≤ t) : rg_J N kd op sh r s ≤ rg_J N kd op sh r t := by
  induction t with
  | zero =>
    have : s = 0 := by omega
    subst this
    exact Nat.le_refl _
  | succ t ih =>
    rcases Nat.lt_or_ge s (t + 1) with w | w
    · have a := ih (by omega)
      have : rg_J N kd op sh r (t + 1) = rg_J N kd op sh r t + b01 (tg_B N kd op sh r t) := rfl
      omega
    · have : s = t + 1 := by omega
      subst this
      exact Nat.le_refl _
theorem rg_s {s : Nat} (B : tg_B N kd op sh r s) : rg_J N kd op sh r (s + 1) = rg_J N kd op sh r s + 1 := by
  show cn _ s + b01 (tg_B N kd op sh r s) = _
  rw [b01_t B]
  rfl
theorem rg_n {s : Nat} (B : ¬ tg_B N kd op sh r s) : rg_J N kd op sh r (s + 1) = rg_J N kd op sh r s := by
  show cn _ s + b01 (tg_B N kd op sh r s) = _
  rw [b01_f B]
  rfl
theorem rg_lt (TT : tm_T N kd ka kb up op) (C : ty_C N kd ka kb up op sh r) {s : Nat} (B : tg_B N kd op sh r s) : rg_J N kd op sh r s < rg_J N kd op sh r (3 * N) ∧ rg_J N kd op sh r s < 32 := by
  have hs := tg_Bb TT C B
  have a := rg_s B
  have b := rg_mono (N := N) (kd := kd) (op := op) (sh := sh) (r := r) (s := s + 1) (t := 3 * N) (by omega)
  have c := rg_le TT C
  have := TT.1
  omega
theorem rg_in {s t : Nat} (Bs : tg_B N kd op sh r s) (Bt : tg_B N kd op sh r t) (e : rg_J N kd op sh r s = rg_J N kd op sh r t) : s = t := by
  have a := rg_s Bs
  have b := rg_s Bt
  rcases Nat.lt_trichotomy s t with w | w | w
  · have := rg_mono (N := N) (kd := kd) (op := op) (sh := sh) (r := r) (s := s + 1) (t := t) (by omega)
    omega
  · exact w
  · have := rg_mono (N := N) (kd := kd) (op := op) (sh := sh) (r := r) (s := t + 1) (t := s) (by omega)
    omega
/-- what the region table holds -/
def rg_T (N : Nat) (kd op sh : Nat → Int32) (r : Nat → Nat) (rg : Nat → Int32) : Prop := ∀ s, s < 3 * N → (tg_B N kd op sh r s → rg s = nI (rg_J N kd op sh r s)) ∧ (¬ tg_B N kd op sh r s → rg s = -1)
end
section
variable {ml fl cnt pc ifd wt rc gw ec tp : Int32} {vl : Int64} {rm ls sp md hld pk : Int32} {kd ka kb op up bd pn sk f1 f2 lk sh cl wa wb se rg hm : Nat → Int32} {ra ef vi la sn : Nat → Int64} {qn qr qe : Nat → Int32} {qf qs : Nat → Int64} {al enn : Nat → Int32} {env : Nat → Int64} {enx frn fre frs frm : Nat → Int32} {frf : Nat → Int64}
theorem xr_78 {post : SX → Prop} {N : Nat} (hN : N ≤ 32)
    (K : ∀ ra' ef' vi', (∀ n, n < N → ra' n = 0 ∧ ef' n = 0 ∧ vi' n = 0) → post (ml, fl, nI N, pc, ifd, wt, rc, gw, ec, tp, vl, rm, ls, sp, md, hld, pk, kd, ka, kb, op, up, bd, pn, sk, f1, f2, lk, sh, cl, wa, wb, se, rg, hm, ra', ef', vi', la, sn, qn, qr, qe, qf, qs, al, enn, env, enx, frn, fre, frs, frm, frf)) :
    ∀ (d n : Nat) (ra ef vi : Nat → Int64), (∀ m, m < n → ra m = 0 ∧ ef m = 0 ∧ vi m = 0) → n ≤ N → N + 1 ≤ d + n → wX_numberRegions_78 post ml fl (nI N) pc ifd wt rc gw ec tp vl rm ls sp md hld pk d (nI n) kd ka kb op up bd pn sk f1 f2 lk sh cl wa wb se rg hm ra ef vi la sn qn qr qe qf qs al enn env enx frn fre frs frm frf := by
  intro d
  induction d with
  | zero => intro n ra ef vi h hn hd; omega
  | succ d ih =>
    intro n ra ef vi h hn hd
    refine pk_le N n (fun z => ?_) (fun z => ?_)
    · have e : n = N := by omega
      subst e
      exact K ra ef vi h
    · have c : (nI n).toNatClampNeg = n := nI_clamp (by omega)
      have v : vp_in (nI n) 32 := pk_in n 32 (by omega)
      refine ⟨v, nm_r (e' := vp_updL ra n 0) (by rw [c]) ⟨v, nm_r (e' := vp_updL ef n 0) (by rw [c]) ⟨v, nm_r (e' := vp_updL vi n 0) (by rw [c]) (nm_r (e' := nI (n + 1)) (nI_1 n) ?_)⟩⟩⟩
      refine ih (n + 1) _ _ _ (fun m hm => ?_) (by omega) (by omega)
      rcases Classical.em (m = n) with w | w
      · subst w; exact ⟨pk_uLs, pk_uLs, pk_uLs⟩
      · rw [pk_uLn w, pk_uLn w, pk_uLn w]; exact h m (by omega)
theorem xr_7 {post : SX → Prop} {N : Nat} {r : Nat → Nat} (TT : tm_T N kd ka kb up op)
    (hsk : ∀ n s k p q, n < N → fo_n kd op n s k p q → sk s = nI k ∧ f1 s = nI p ∧ f2 s = nI q) (C : ty_C N kd ka kb up op sh r) (hcl : ∀ s, s < 3 * N → cl s = nI (r s))
    (K : ∀ rg' ra' ef' vi' la' sn', rg_T N kd op sh r rg' → (∀ n, n < N → ra' n = 0 ∧ ef' n = 0 ∧ vi' n = 0) → (∀ s, s < 3 * N → la' s = 0 ∧ sn' s = 0) → post (ml, fl, nI N, pc, ifd, wt, nI (rg_J N kd op sh r (3 * N)), gw, ec, tp, vl, rm, ls, sp, md, hld, pk, kd, ka, kb, op, up, bd, pn, sk, f1, f2, lk, sh, cl, wa, wb, se, rg', hm, ra', ef', vi', la', sn', qn, qr, qe, qf, qs, al, enn, env, enx, frn, fre, frs, frm, frf)) :
    ∀ (d s : Nat) (rg : Nat → Int32) (la sn : Nat → Int64), (∀ t, t < s → ((tg_B N kd op sh r t → rg t = nI (rg_J N kd op sh r t)) ∧ (¬ tg_B N kd op sh r t → rg t = -1)) ∧ la t = 0 ∧ sn t = 0) → s ≤ 3 * N → 3 * N + 1 ≤ d + s →
      wX_numberRegions_7 post ml fl (nI N) pc ifd wt gw ec tp vl rm ls sp md hld pk d (nI s) (nI (rg_J N kd op sh r s)) kd ka kb op up bd pn sk f1 f2 lk sh cl wa wb se rg hm ra ef vi la sn qn qr qe qf qs al enn env enx frn fre frs frm frf := by
  have hN := TT.1
  intro d
  induction d with
  | zero => intro s rg la sn h hs hd; omega
  | succ d ih =>
    intro s rg la sn h hs hd
    refine pk_le (3 * N) s (fun z => ?_) (fun z => ⟨pk_in s 96 (by omega), ?_⟩) (pk_mul 3 N)
    · have e : s = 3 * N := by omega
      subst e
      exact ⟨N + 1, xr_78 hN (fun ra' ef' vi' h0 => K rg ra' ef' vi' la sn (fun t ht => (h t ht).1) h0 (fun t ht => (h t ht).2)) (N + 1) 0 ra ef vi (fun m hm => absurd hm (by omega)) (by omega) (by omega)⟩
    · have c : (nI s).toNatClampNeg = s := nI_clamp (by omega)
      have v : vp_in (nI s) 96 := pk_in s 96 (by omega)
      rw [c, hcl s z]
      have rs := C.1 s z
      have stp : ∀ (x j : Int32) (J : Nat), j = nI J → ((tg_B N kd op sh r s → x = nI (rg_J N kd op sh r s)) ∧ (¬ tg_B N kd op sh r s → x = -1)) → J = rg_J N kd op sh r (s + 1) →
          wX_numberRegions_55 post (wX_numberRegions_7 post ml fl (nI N) pc ifd wt gw ec tp vl rm ls sp md hld pk d) (nI s) x (nI s) ml fl (nI N) pc ifd wt j gw ec tp vl rm ls sp md hld pk kd ka kb op up bd pn sk f1 f2 lk sh cl wa wb se rg hm ra ef vi la sn qn qr qe qf qs al enn env enx frn fre frs frm frf := by
        intro x j J ej hx eJ
        subst ej eJ
        refine ⟨v, nm_r (e' := upd rg s x) (by rw [c]) ⟨v, nm_r (e' := vp_updL la s 0) (by rw [c]) ⟨v, nm_r (e' := vp_updL sn s 0) (by rw [c]) (nm_r (e' := nI (s + 1)) (nI_1 s) ?_)⟩⟩⟩
        refine ih (s + 1) _ _ _ (fun t ht => ?_) (by omega) (by omega)
        rcases Classical.em (t = s) with w | w
        · subst w
          rw [pk_us, pk_uLs, pk_uLs]
          exact ⟨hx, rfl, rfl⟩
        · rw [pk_un w, pk_uLn w, pk_uLn w]
          exact h t (by omega)
      rcases Classical.em (r s = s) with hr | hr
      · refine br_t (congrArg nI hr) (xc_box TT hsk C z hr rfl (fun B => br_f (by decide) (nm_r (e' := nI (rg_J N kd op sh r s + 1)) (nI_1 _) (stp _ _ _ rfl ⟨fun _ => rfl, fun w => absurd B w⟩ (rg_s B).symm))) (fun B => br_t rfl (stp _ _ _ rfl ⟨fun w => absurd w B, fun _ => rfl⟩ (rg_n B).symm)))
      · have B : ¬ tg_B N kd op sh r s := fun w => hr (tg_Bb TT C w).2
        exact br_f (fun e => hr ((nI_eq (by omega) (by omega)).mp e)) (stp _ _ _ rfl ⟨fun w => absurd w B, fun _ => rfl⟩ (rg_n B).symm)
theorem xr_all {post : SX → Prop} {N : Nat} {r : Nat → Nat} (TT : tm_T N kd ka kb up op)
    (hsk : ∀ n s k p q, n < N → fo_n kd op n s k p q → sk s = nI k ∧ f1 s = nI p ∧ f2 s = nI q) (C : ty_C N kd ka kb up op sh r) (hcl : ∀ s, s < 3 * N → cl s = nI (r s))
    (K : ∀ rg' ra' ef' vi' la' sn', rg_T N kd op sh r rg' → (∀ n, n < N → ra' n = 0 ∧ ef' n = 0 ∧ vi' n = 0) → (∀ s, s < 3 * N → la' s = 0 ∧ sn' s = 0) → post (ml, fl, nI N, pc, ifd, wt, nI (rg_J N kd op sh r (3 * N)), gw, ec, tp, vl, rm, ls, sp, md, hld, pk, kd, ka, kb, op, up, bd, pn, sk, f1, f2, lk, sh, cl, wa, wb, se, rg', hm, ra', ef', vi', la', sn', qn, qr, qe, qf, qs, al, enn, env, enx, frn, fre, frs, frm, frf)) :
    wpX_numberRegions post (ml, fl, nI N, pc, ifd, wt, rc, gw, ec, tp, vl, rm, ls, sp, md, hld, pk, kd, ka, kb, op, up, bd, pn, sk, f1, f2, lk, sh, cl, wa, wb, se, rg, hm, ra, ef, vi, la, sn, qn, qr, qe, qf, qs, al, enn, env, enx, frn, fre, frs, frm, frf) :=
  ⟨3 * N + 1, xr_7 TT hsk C hcl K (3 * N + 1) 0 rg la sn (fun t ht => absurd ht (by omega)) (by omega) (by omega)⟩
end
end
section
section
variable {N : Nat} {kd ka kb up op sh : Nat → Int32} {r : Nat → Nat}
theorem bx_f (TT : tm_T N kd ka kb up op) (C : ty_C N kd ka kb up op sh r) {n s k p q : Nat} (hn : n < N) (f : fo_n kd op n s k p q) (hk : 2 ≤ k) : tg_B N kd op sh r (r s) := by
  obtain ⟨m, t, p', q', h1, h2, h3, h4, -⟩ := C.2.2.2.1 n s k p q hn f
  exact ⟨k, r p', r q', ⟨m, t, p', q', h1, h2, h3, h4, rfl, rfl⟩, hk⟩
theorem bx_2 (TT : tm_T N kd ka kb up op) (C : ty_C N kd ka kb up op sh r) {n : Nat} (hn : n < N) (hk : kd n = 2 ∨ kd n = 4) : tg_B N kd op sh r (r (3 * n)) := by
  rcases hk with h | h
  · exact bx_f TT C hn (fo_2 h) (by omega)
  · exact bx_f TT C hn (fo_4 h) (by omega)
theorem bx_5 (TT : tm_T N kd ka kb up op) (C : ty_C N kd ka kb up op sh r) {n : Nat} (hn : n < N) (hk : kd n = 5 ∨ kd n = 6 ∨ kd n = 3) : tg_B N kd op sh r (r (3 * tm_c op n 0)) := by
  have be : be_E kd ka kb up op n (3 * tm_c op n 0) (3 * n + 1) := Or.inr (Or.inl ⟨by rcases hk with a | a | a <;> simp [a], rfl, rfl⟩)
  rw [C.2.2.1 n _ _ hn be]
  rcases hk with h | h | h
  · exact bx_f TT C hn (fo_5 h) (by omega)
  · exact bx_f TT C hn (fo_6 h) (by omega)
  · exact bx_f TT C hn (fo_3 h) (by omega)
/-- every bit of w stands for a region of A -/
def xw_W (N : Nat) (kd op sh : Nat → Int32) (r : Nat → Nat) (w : Int64) (A : Nat → Prop) : Prop := ∀ j, tb w j = true → ∃ ρ, tg_B N kd op sh r ρ ∧ rg_J N kd op sh r ρ = j ∧ A ρ
theorem xw_0 {A : Nat → Prop} : xw_W N kd op sh r 0 A := fun j h => by rw [tb_0] at h; exact absurd h (by decide)
theorem xw_or {a b : Int64} {A : Nat → Prop} (h : xw_W N kd op sh r a A) (h2 : xw_W N kd op sh r b A) : xw_W N kd op sh r (a ||| b) A := fun j z => by
  rw [tb_or, Bool.or_eq_true] at z
  exact z.elim (h j) (h2 j)
theorem xw_m {a : Int64} {A B : Nat → Prop} (h : xw_W N kd op sh r a A) (i : ∀ ρ, tg_B N kd op sh r ρ → A ρ → B ρ) : xw_W N kd op sh r a B := fun j z => by
  obtain ⟨ρ, h1, h2, h3⟩ := h j z
  exact ⟨ρ, h1, h2, i ρ h1 h3⟩
/-- what rawOf reckons from the sets as they are -/
def xe_O (N : Nat) (kd up op sh : Nat → Int32) (r : Nat → Nat) (ef la : Nat → Int64) (n j : Nat) : Prop :=
  (kd n = 2 ∧ j = rg_J N kd op sh r (r (3 * n))) ∨ (kd n ≠ 2 ∧ ((∃ m, m < N ∧ up m = nI n ∧ tb (ef m) j = true) ∨ (kd n = 4 ∧ j = rg_J N kd op sh r (r (3 * n))) ∨
    ((kd n = 5 ∨ kd n = 6 ∨ kd n = 3) ∧ j = rg_J N kd op sh r (r (3 * tm_c op n 0))) ∨ (kd n = 3 ∧ tb (la (r (3 * tm_c op n 0))) j = true)))
theorem xe_Om (TT : tm_T N kd ka kb up op) (C : ty_C N kd ka kb up op sh r) {ef la ef' la' : Nat → Int64} {n j : Nat} (hn : n < N) (h1 : ∀ m, m < N → tb (ef m) j = true → tb (ef' m) j = true) (h2 : ∀ s, s < 3 * N → tb (la s) j = true → tb (la' s) j = true) (h : xe_O N kd up op sh r ef la n j) : xe_O N kd up op sh r ef' la' n j := by
  have c0 := tm_o TT hn (i := 0) (by omega)
  rcases h with h | ⟨n2, ⟨m, a, b, d⟩ | h | h | ⟨a, b⟩⟩
  · exact Or.inl h
  · exact Or.inr ⟨n2, Or.inl ⟨m, a, b, h1 m a d⟩⟩
  · exact Or.inr ⟨n2, Or.inr (Or.inl h)⟩
  · exact Or.inr ⟨n2, Or.inr (Or.inr (Or.inl h))⟩
  · exact Or.inr ⟨n2, Or.inr (Or.inr (Or.inr ⟨a, h2 _ (C.1 _ (by omega)).1 b⟩))⟩
def xe_S (N : Nat) (kd ka kb up op sh : Nat → Int32) (r : Nat → Nat) (ra ef vi la sn : Nat → Int64) : Prop :=
  (∀ n, n < N → xw_W N kd op sh r (ra n) (ef_E N kd ka kb up op sh r 0 n) ∧ xw_W N kd op sh r (ef n) (fun ρ => ef_E N kd ka kb up op sh r 0 n ρ ∧ ef_E N kd ka kb up op sh r 1 n ρ) ∧ xw_W N kd op sh r (vi n) (ef_E N kd ka kb up op sh r 1 n)) ∧
  (∀ s, s < 3 * N → r s = s → xw_W N kd op sh r (sn s) (ef_E N kd ka kb up op sh r 3 s) ∧ xw_W N kd op sh r (la s) (ef_E N kd ka kb up op sh r 2 s)) ∧
  (∀ n, n < N → (∀ j, tb (ra n) j = true → xe_O N kd up op sh r ef la n j) ∧ (∀ j, tb (ef n) j = true → tb (ra n) j = true ∧ tb (vi n) j = true))
def xe_M (N : Nat) (ra0 ef0 vi0 la0 sn0 ra ef vi la sn : Nat → Int64) : Prop :=
  (∀ n, n < N → ∀ j, (tb (ra0 n) j = true → tb (ra n) j = true) ∧ (tb (ef0 n) j = true → tb (ef n) j = true) ∧ (tb (vi0 n) j = true → tb (vi n) j = true)) ∧
  (∀ s, s < 3 * N → ∀ j, (tb (la0 s) j = true → tb (la s) j = true) ∧ (tb (sn0 s) j = true → tb (sn s) j = true))
def xe_X (N : Nat) (kd op sh : Nat → Int32) (r : Nat → Nat) (ra0 ef0 vi0 la0 sn0 ra ef vi la sn : Nat → Int64) : Prop :=
  (∃ n j, n < N ∧ ((tb (ra n) j = true ∧ ¬ tb (ra0 n) j = true) ∨ (tb (ef n) j = true ∧ ¬ tb (ef0 n) j = true) ∨ (tb (vi n) j = true ∧ ¬ tb (vi0 n) j = true))) ∨
  (∃ s j, tg_B N kd op sh r s ∧ ((tb (sn s) j = true ∧ ¬ tb (sn0 s) j = true) ∨ (tb (la s) j = true ∧ ¬ tb (la0 s) j = true)))
def xe_I (N : Nat) (kd ka kb up op sh : Nat → Int32) (r : Nat → Nat) (ra0 ef0 vi0 la0 sn0 ra ef vi la sn : Nat → Int64) (g : Int32) : Prop :=
  xe_S N kd ka kb up op sh r ra ef vi la sn ∧ xe_M N ra0 ef0 vi0 la0 sn0 ra ef vi la sn ∧ ((g = 0 ∧ ra = ra0 ∧ ef = ef0 ∧ vi = vi0 ∧ la = la0 ∧ sn = sn0) ∨ (g = 1 ∧ xe_X N kd op sh r ra0 ef0 vi0 la0 sn0 ra ef vi la sn))
theorem xe_Xm {ra0 ef0 vi0 la0 sn0 ra ef vi la sn ra' ef' vi' la' sn' : Nat → Int64} (TT : tm_T N kd ka kb up op) (C : ty_C N kd ka kb up op sh r) (M : xe_M N ra ef vi la sn ra' ef' vi' la' sn') (X : xe_X N kd op sh r ra0 ef0 vi0 la0 sn0 ra ef vi la sn) : xe_X N kd op sh r ra0 ef0 vi0 la0 sn0 ra' ef' vi' la' sn' := by
  rcases X with ⟨n, j, hn, h⟩ | ⟨s, j, B, h⟩
  · refine Or.inl ⟨n, j, hn, ?_⟩
    have m := M.1 n hn j
    rcases h with h | h | h
    · exact Or.inl ⟨m.1 h.1, h.2⟩
    · exact Or.inr (Or.inl ⟨m.2.1 h.1, h.2⟩)
    · exact Or.inr (Or.inr ⟨m.2.2 h.1, h.2⟩)
  · refine Or.inr ⟨s, j, B, ?_⟩
    have m := M.2 s (tg_Bb TT C B).1 j
    rcases h with h | h
    · exact Or.inl ⟨m.2 h.1, h.2⟩
    · exact Or.inr ⟨m.1 h.1, h.2⟩
theorem xe_Mt {ra0 ef0 vi0 la0 sn0 ra ef vi la sn ra' ef' vi' la' sn' : Nat → Int64} (M : xe_M N ra0 ef0 vi0 la0 sn0 ra ef vi la sn) (M' : xe_M N ra ef vi la sn ra' ef' vi' la' sn') : xe_M N ra0 ef0 vi0 la0 sn0 ra' ef' vi' la' sn' :=
  ⟨fun n hn j => ⟨fun z => (M'.1 n hn j).1 ((M.1 n hn j).1 z), fun z => (M'.1 n hn j).2.1 ((M.1 n hn j).2.1 z), fun z => (M'.1 n hn j).2.2 ((M.1 n hn j).2.2 z)⟩,
   fun s hs j => ⟨fun z => (M'.2 s hs j).1 ((M.2 s hs j).1 z), fun z => (M'.2 s hs j).2 ((M.2 s hs j).2 z)⟩⟩
theorem xe_Mr {ra ef vi la sn : Nat → Int64} : xe_M N ra ef vi la sn ra ef vi la sn := ⟨fun _ _ _ => ⟨id, id, id⟩, fun _ _ _ => ⟨id, id⟩⟩
/-- a change that only adds bits, and adds one -/
theorem xe_up {ra0 ef0 vi0 la0 sn0 ra ef vi la sn ra' ef' vi' la' sn' : Nat → Int64} {g : Int32} (TT : tm_T N kd ka kb up op) (C : ty_C N kd ka kb up op sh r) (I : xe_I N kd ka kb up op sh r ra0 ef0 vi0 la0 sn0 ra ef vi la sn g)
    (S : xe_S N kd ka kb up op sh r ra' ef' vi' la' sn') (M : xe_M N ra ef vi la sn ra' ef' vi' la' sn') (X : xe_X N kd op sh r ra ef vi la sn ra' ef' vi' la' sn') : xe_I N kd ka kb up op sh r ra0 ef0 vi0 la0 sn0 ra' ef' vi' la' sn' 1 := by
  refine ⟨S, xe_Mt I.2.1 M, Or.inr ⟨rfl, ?_⟩⟩
  rcases I.2.2 with ⟨-, e1, e2, e3, e4, e5⟩ | ⟨-, X0⟩
  · subst e1 e2 e3 e4 e5
    exact X
  · exact xe_Xm TT C M X0
theorem xe_up1 {ra0 ef0 vi0 la0 sn0 ra ef vi la sn ra' ef' vi' la' sn' : Nat → Int64} (TT : tm_T N kd ka kb up op) (C : ty_C N kd ka kb up op sh r) (I : xe_I N kd ka kb up op sh r ra0 ef0 vi0 la0 sn0 ra ef vi la sn 1)
    (S : xe_S N kd ka kb up op sh r ra' ef' vi' la' sn') (M : xe_M N ra ef vi la sn ra' ef' vi' la' sn') : xe_I N kd ka kb up op sh r ra0 ef0 vi0 la0 sn0 ra' ef' vi' la' sn' 1 := by
  refine ⟨S, xe_Mt I.2.1 M, Or.inr ⟨rfl, ?_⟩⟩
  rcases I.2.2 with ⟨e, -⟩ | ⟨-, X0⟩
  · exact absurd e (by decide)
  · exact xe_Xm TT C M X0
theorem tb_ne {a b : Int64} (hm : ∀ j, tb a j = true → tb b j = true) (h : b ≠ a) : ∃ j, tb b j = true ∧ ¬ tb a j = true := by
  rcases Classical.em (∃ j, tb b j = true ∧ ¬ tb a j = true) with z | z
  · exact z
  · refine absurd (tb_ext fun j => ?_) h
    rcases hb : tb b j with _ | _
    · rcases ha : tb a j with _ | _
      · rfl
      · have := hm j ha
        rw [hb] at this
        exact absurd this (by decide)
    · rcases ha : tb a j with _ | _
      · exact absurd ⟨j, hb, by rw [ha]; decide⟩ z
      · rfl
theorem updL_s (f : Nat → Int64) (k : Nat) : vp_updL f k (f k) = f := by
  funext j
  unfold vp_updL
  split
  · rename_i h; rw [h]
  · rfl
/-- seen grows at the boxed root s -/
theorem xe_sn {ra0 ef0 vi0 la0 sn0 ra ef vi la sn : Nat → Int64} {g : Int32} {s : Nat} {w : Int64} (TT : tm_T N kd ka kb up op) (C : ty_C N kd ka kb up op sh r) (I : xe_I N kd ka kb up op sh r ra0 ef0 vi0 la0 sn0 ra ef vi la sn g) (B : tg_B N kd op sh r s)
    (hm : ∀ j, tb (sn s) j = true → tb w j = true) (hw : xw_W N kd op sh r w (ef_E N kd ka kb up op sh r 3 s)) (hne : w ≠ sn s) : xe_I N kd ka kb up op sh r ra0 ef0 vi0 la0 sn0 ra ef vi la (vp_updL sn s w) 1 := by
  obtain ⟨j, h1, h2⟩ := tb_ne hm hne
  refine xe_up TT C I ⟨I.1.1, fun t ht hr => ?_, I.1.2.2⟩ ⟨fun _ _ _ => ⟨id, id, id⟩, fun t ht i => ⟨id, fun z => ?_⟩⟩ (Or.inr ⟨s, j, B, Or.inl ⟨by rw [pk_uLs]; exact h1, h2⟩⟩)
  · rcases Classical.em (t = s) with y | y
    · subst y
      rw [pk_uLs]
      exact ⟨hw, (I.1.2.1 t ht hr).2⟩
    · rw [pk_uLn y]
      exact I.1.2.1 t ht hr
  · rcases Classical.em (t = s) with y | y
    · subst y
      rw [pk_uLs]
      exact hm i z
    · rw [pk_uLn y]
      exact z
/-- vis grows at the node n -/
theorem xe_vi {ra0 ef0 vi0 la0 sn0 ra ef vi la sn : Nat → Int64} {g : Int32} {n : Nat} {w : Int64} (TT : tm_T N kd ka kb up op) (C : ty_C N kd ka kb up op sh r) (I : xe_I N kd ka kb up op sh r ra0 ef0 vi0 la0 sn0 ra ef vi la sn g) (hn : n < N)
    (hm : ∀ j, tb (vi n) j = true → tb w j = true) (hw : xw_W N kd op sh r w (ef_E N kd ka kb up op sh r 1 n)) (hne : w ≠ vi n) : xe_I N kd ka kb up op sh r ra0 ef0 vi0 la0 sn0 ra ef (vp_updL vi n w) la sn 1 := by
  obtain ⟨j, h1, h2⟩ := tb_ne hm hne
  have mo : ∀ m i, tb (vi m) i = true → tb (vp_updL vi n w m) i = true := fun m i z => by
    rcases Classical.em (m = n) with y | y
    · subst y
      rw [pk_uLs]
      exact hm i z
    · rw [pk_uLn y]
      exact z
  refine xe_up TT C I ⟨fun m hmN => ?_, I.1.2.1, fun m hmN => ⟨(I.1.2.2 m hmN).1, fun i z => ⟨((I.1.2.2 m hmN).2 i z).1, mo m i ((I.1.2.2 m hmN).2 i z).2⟩⟩⟩ ⟨fun m _ i => ⟨id, id, mo m i⟩, fun _ _ _ => ⟨id, id⟩⟩ (Or.inl ⟨n, j, hn, Or.inr (Or.inr ⟨by rw [pk_uLs]; exact h1, h2⟩)⟩)
  refine ⟨(I.1.1 m hmN).1, (I.1.1 m hmN).2.1, ?_⟩
  rcases Classical.em (m = n) with y | y
  · subst y
    rw [pk_uLs]
    exact hw
  · rw [pk_uLn y]
    exact (I.1.1 m hmN).2.2
/-- what rawOf reckons is sound -/
theorem xe_Os {ra ef vi la sn : Nat → Int64} (TT : tm_T N kd ka kb up op) (C : ty_C N kd ka kb up op sh r) (S : xe_S N kd ka kb up op sh r ra ef vi la sn) {n : Nat} {w : Int64} (hn : n < N) (hw : ∀ j, tb w j = true ↔ xe_O N kd up op sh r ef la n j) : xw_W N kd op sh r w (ef_E N kd ka kb up op sh r 0 n) := by
  intro j z
  have c0 := tm_o TT hn (i := 0) (by omega)
  rcases (hw j).mp z with ⟨k2, e⟩ | ⟨n2, ⟨m, h1, h2, h3⟩ | ⟨k, e⟩ | ⟨k, e⟩ | ⟨k, e⟩⟩
  · have B := bx_2 TT C hn (Or.inl k2)
    exact ⟨_, B, e.symm, ef_c 0 n _ B (Or.inr (Or.inr (Or.inr ⟨rfl, hn, Or.inr (Or.inl ⟨Or.inl k2, rfl⟩)⟩)))⟩
  · obtain ⟨ρ, B, e, q⟩ := (S.1 m h1).2.1 j h3
    exact ⟨ρ, B, e, ef_c 0 n ρ B (Or.inr (Or.inr (Or.inr ⟨rfl, hn, Or.inl ⟨n2, m, h1, h2, q.1, q.2⟩⟩)))⟩
  · have B := bx_2 TT C hn (Or.inr k)
    exact ⟨_, B, e.symm, ef_c 0 n _ B (Or.inr (Or.inr (Or.inr ⟨rfl, hn, Or.inr (Or.inl ⟨Or.inr k, rfl⟩)⟩)))⟩
  · have B := bx_5 TT C hn k
    exact ⟨_, B, e.symm, ef_c 0 n _ B (Or.inr (Or.inr (Or.inr ⟨rfl, hn, Or.inr (Or.inr (Or.inl ⟨k, rfl⟩))⟩)))⟩
  · have rc := C.1 (3 * tm_c op n 0) (by omega)
    obtain ⟨ρ, B, e', q⟩ := (S.2.1 _ rc.1 rc.2).2 j e
    exact ⟨ρ, B, e', ef_c 0 n ρ B (Or.inr (Or.inr (Or.inr ⟨rfl, hn, Or.inr (Or.inr (Or.inr ⟨k, q⟩))⟩)))⟩
/-- raw and eff of n are reckoned anew: sound, no bit lost -/
theorem xe_re {ra ef vi la sn : Nat → Int64} (TT : tm_T N kd ka kb up op) (C : ty_C N kd ka kb up op sh r) (S : xe_S N kd ka kb up op sh r ra ef vi la sn) {n : Nat} {w : Int64} (hn : n < N) (hw : ∀ j, tb w j = true ↔ xe_O N kd up op sh r ef la n j) :
    xe_S N kd ka kb up op sh r (vp_updL ra n w) (vp_updL ef n (w &&& vi n)) vi la sn ∧ xe_M N ra ef vi la sn (vp_updL ra n w) (vp_updL ef n (w &&& vi n)) vi la sn := by
  have hr : ∀ j, tb (ra n) j = true → tb w j = true := fun j z => (hw j).mpr ((S.2.2 n hn).1 j z)
  have he : ∀ j, tb (ef n) j = true → tb (w &&& vi n) j = true := fun j z => by
    have a := (S.2.2 n hn).2 j z
    rw [tb_and, hr j a.1, a.2]
    rfl
  have M : xe_M N ra ef vi la sn (vp_updL ra n w) (vp_updL ef n (w &&& vi n)) vi la sn := by
    refine ⟨fun m _ j => ⟨fun z => ?_, fun z => ?_, id⟩, fun _ _ _ => ⟨id, id⟩⟩
    · rcases Classical.em (m = n) with y | y
      · subst y; rw [pk_uLs]; exact hr j z
      · rw [pk_uLn y]; exact z
    · rcases Classical.em (m = n) with y | y
      · subst y; rw [pk_uLs]; exact he j z
      · rw [pk_uLn y]; exact z
  refine ⟨⟨fun m hm => ?_, S.2.1, fun m hm => ⟨fun j z => ?_, fun j z => ?_⟩⟩, M⟩
  · rcases Classical.em (m = n) with y | y
    · subst y
      rw [pk_uLs, pk_uLs]
      have W := xe_Os TT C S hm hw
      refine ⟨W, fun j z => ?_, (S.1 m hm).2.2⟩
      rw [tb_and, Bool.and_eq_true] at z
      obtain ⟨ρ, B, e, q⟩ := W j z.1
      obtain ⟨ρ', B', e', q'⟩ := (S.1 m hm).2.2 j z.2
      have := rg_in B B' (e.trans e'.symm)
      subst this
      exact ⟨ρ, B, e, q, q'⟩
    · rw [pk_uLn y, pk_uLn y]
      exact S.1 m hm
  · refine xe_Om TT C hm (fun i hi => (M.1 i hi j).2.1) (fun _ _ => id) ?_
    rcases Classical.em (m = n) with y | y
    · subst y
      rw [pk_uLs] at z
      exact (hw j).mp z
    · rw [pk_uLn y] at z
      exact (S.2.2 m hm).1 j z
  · rcases Classical.em (m = n) with y | y
    · subst y
      rw [pk_uLs] at z ⊢
      rw [tb_and, Bool.and_eq_true] at z
      exact z
    · rw [pk_uLn y] at z ⊢
      exact (S.2.2 m hm).2 j z
/-- the latent set of a function's class takes its body's -/
theorem xe_la {ra ef vi la sn : Nat → Int64} (TT : tm_T N kd ka kb up op) (C : ty_C N kd ka kb up op sh r) (S : xe_S N kd ka kb up op sh r ra ef vi la sn) {n : Nat} (hn : n < N) (hk : kd n = 2) :
    xe_S N kd ka kb up op sh r ra ef vi (vp_updL la (r (3 * n)) (la (r (3 * n)) ||| ef (tm_c op n 0))) sn ∧ xe_M N ra ef vi la sn ra ef vi (vp_updL la (r (3 * n)) (la (r (3 * n)) ||| ef (tm_c op n 0))) sn := by
  have c0 := TT.2.2.2.1.1 n 0 hn (by rw [ar_2 hk]; omega)
  have rn := C.1 (3 * n) (by omega)
  have M : xe_M N ra ef vi la sn ra ef vi (vp_updL la (r (3 * n)) (la (r (3 * n)) ||| ef (tm_c op n 0))) sn := by
    refine ⟨fun _ _ _ => ⟨id, id, id⟩, fun s _ j => ⟨fun z => ?_, id⟩⟩
    rcases Classical.em (s = r (3 * n)) with y | y
    · subst y; rw [pk_uLs, tb_or, z]; rfl
    · rw [pk_uLn y]; exact z
  refine ⟨⟨S.1, fun s hs hr => ⟨(S.2.1 s hs hr).1, ?_⟩, fun m hm => ⟨fun j z => xe_Om TT C hm (fun _ _ => id) (fun s hs => (M.2 s hs j).1) ((S.2.2 m hm).1 j z), (S.2.2 m hm).2⟩⟩, M⟩
  rcases Classical.em (s = r (3 * n)) with y | y
  · subst y
    rw [pk_uLs]
    refine xw_or (S.2.1 _ hs hr).2 (xw_m (S.1 (tm_c op n 0) (by omega)).2.1 (fun ρ B q => ?_))
    exact ef_c 2 _ ρ B (Or.inr (Or.inl ⟨rfl, tm_c op n 0, n, by omega, hn, c0.2.2, hk, rfl, q.1, q.2⟩))
  · rw [pk_uLn y]
    exact (S.2.1 s hs hr).2
end
end
section
def xc_S (N : Nat) (kd op sh : Nat → Int32) (r : Nat → Nat) (sn la : Nat → Int64) (s : Nat) : Prop := ∀ k a b, tg_G N kd op sh r s k a b → 2 ≤ k → tb (sn s) (rg_J N kd op sh r s) = true ∧ ∀ j, (tb (sn a) j = true → tb (sn s) j = true) ∧ (tb (sn b) j = true → tb (sn s) j = true) ∧ (tb (la s) j = true → tb (sn s) j = true)
def xc_V (kd ka kb up : Nat → Int32) (r : Nat → Nat) (sn vi : Nat → Int64) (n : Nat) : Prop := (∀ j, tb (sn (r (3 * n))) j = true → tb (vi n) j = true) ∧ (kd n = 1 → ∀ f, bn_B kd ka kb up n (ka n) f → ∀ x, re_R up n x → x < f → ∀ j, tb (sn (r (3 * n))) j = true → tb (vi x) j = true)
section
variable {ml fl cnt pc ifd wt rc gw ec tp : Int32} {vl : Int64} {rm ls sp md hld pk : Int32} {kd ka kb op up bd pn sk f1 f2 lk sh cl wa wb se rg hm : Nat → Int32} {ra ef vi la sn : Nat → Int64} {qn qr qe : Nat → Int32} {qf qs : Nat → Int64} {al enn : Nat → Int32} {env : Nat → Int64} {enx frn fre frs frm : Nat → Int32} {frf : Nat → Int64}
variable {ra0 ef0 vi0 la0 sn0 : Nat → Int64}
theorem xg_sn {post : SX → Prop} {N s : Nat} {r : Nat → Nat} {v : Int32} (TT : tm_T N kd ka kb up op)
    (hsk : ∀ n s k p q, n < N → fo_n kd op n s k p q → sk s = nI k ∧ f1 s = nI p ∧ f2 s = nI q) (C : ty_C N kd ka kb up op sh r) (hcl : ∀ s, s < 3 * N → cl s = nI (r s)) (RT : rg_T N kd op sh r rg)
    (hs : s < 3 * N) (ev : v = nI s) (I : xe_I N kd ka kb up op sh r ra0 ef0 vi0 la0 sn0 ra ef vi la sn gw)
    (K : ∀ gw' sn', xe_I N kd ka kb up op sh r ra0 ef0 vi0 la0 sn0 ra ef vi la sn' gw' → (gw' = 0 → gw = 0 ∧ xc_S N kd op sh r sn' la s) → post (ml, fl, cnt, pc, ifd, wt, rc, gw', ec, tp, vl, rm, ls, sp, md, hld, pk, kd, ka, kb, op, up, bd, pn, sk, f1, f2, lk, sh, cl, wa, wb, se, rg, hm, ra, ef, vi, la, sn', qn, qr, qe, qf, qs, al, enn, env, enx, frn, fre, frs, frm, frf)) : wpX_growSeen post (ml, fl, cnt, pc, ifd, wt, rc, gw, ec, tp, vl, rm, ls, sp, md, hld, pk, kd, ka, kb, op, up, bd, pn, sk, f1, f2, lk, sh, cl, wa, wb, se, rg, hm, ra, ef, vi, la, sn, qn, qr, qe, qf, qs, al, enn, env, enx, frn, fre, frs, frm, frf) v := by
  subst ev
  have hN := TT.1
  have c : (nI s).toNatClampNeg = s := nI_clamp (by omega)
  have vs : vp_in (nI s) 96 := pk_in s 96 (by omega)
  unfold wpX_growSeen
  dsimp only
  rw [c]
  rcases Classical.em (tg_B N kd op sh r s) with B | B
  · obtain ⟨k, a, b, G, hk⟩ := id B
    have gb := tg_b TT C G
    have J32 := rg_lt TT C B
    obtain ⟨m, t, p, q, h1, h2, h3, h4, ea, eb⟩ := id G
    have bt := fo_b TT h1 h2
    have ct : (nI t).toNatClampNeg = t := nI_clamp (by omega)
    have sp := hsk _ _ _ _ _ h1 h2
    have cp : cl (f1 (nI t).toNatClampNeg).toNatClampNeg = nI a := by
      rw [ct, sp.2.1, nI_clamp (by omega), hcl p (by omega), ea]
    have cq : cl (f2 (nI t).toNatClampNeg).toNatClampNeg = nI b := by
      rw [ct, sp.2.2, nI_clamp (by omega), hcl q (by omega), eb]
    have vp : vp_in (f1 (nI t).toNatClampNeg) 96 := pk_in p 96 (by omega) (by rw [ct]; exact sp.2.1)
    have vq : vp_in (f2 (nI t).toNatClampNeg) 96 := pk_in q 96 (by omega) (by rw [ct]; exact sp.2.2)
    have vt : vp_in (nI t) 96 := pk_in t 96 (by omega)
    refine ⟨vs, nm_r (e' := nI (rg_J N kd op sh r s)) ((RT s hs).1 B) (br_t (nI_pos' (by omega)) ⟨vs, nm_r (e' := nI t) h3 ⟨vt, vp, pk_in a 96 (by omega) cp, vt, vq, pk_in b 96 (by omega) cq, vs, vs, nm_r (e' := (((((1 : Int64) <<< ((nI (rg_J N kd op sh r s)).toInt64 &&& 63)) ||| sn a) ||| sn b) ||| la s) ||| sn s) ?_ ⟨vs, ?_⟩⟩⟩)⟩
    · rw [cp, cq, nI_clamp (n := a) (by omega), nI_clamp (n := b) (by omega)]
    · generalize hw : (((((1 : Int64) <<< ((nI (rg_J N kd op sh r s)).toInt64 &&& 63)) ||| sn a) ||| sn b) ||| la s) ||| sn s = w
      have wb : ∀ j, tb w j = true ↔ (j = rg_J N kd op sh r s ∨ tb (sn a) j = true ∨ tb (sn b) j = true ∨ tb (la s) j = true ∨ tb (sn s) j = true) := by
        intro j
        rw [← hw, tb_or, tb_or, tb_or, tb_or, tb_bit (by omega)]
        simp [or_assoc]
      have W : xw_W N kd op sh r w (ef_E N kd ka kb up op sh r 3 s) := by
        intro j z
        rcases (wb j).mp z with e | e | e | e | e
        · exact ⟨s, B, e.symm, ef_c 3 s s B (Or.inl ⟨rfl, k, a, b, G, hk, Or.inl rfl⟩)⟩
        · obtain ⟨ρ, Bρ, e1, e2⟩ := (I.1.2.1 a gb.2.1 gb.2.2.2.1).1 j e
          exact ⟨ρ, Bρ, e1, ef_c 3 s ρ Bρ (Or.inl ⟨rfl, k, a, b, G, hk, Or.inr (Or.inl e2)⟩)⟩
        · obtain ⟨ρ, Bρ, e1, e2⟩ := (I.1.2.1 b gb.2.2.1 gb.2.2.2.2.1).1 j e
          exact ⟨ρ, Bρ, e1, ef_c 3 s ρ Bρ (Or.inl ⟨rfl, k, a, b, G, hk, Or.inr (Or.inr (Or.inl e2))⟩)⟩
        · obtain ⟨ρ, Bρ, e1, e2⟩ := (I.1.2.1 s hs gb.2.2.2.2.2.1).2 j e
          exact ⟨ρ, Bρ, e1, ef_c 3 s ρ Bρ (Or.inl ⟨rfl, k, a, b, G, hk, Or.inr (Or.inr (Or.inr ⟨ef_lf TT C e2 G, e2⟩))⟩)⟩
        · exact (I.1.2.1 s hs gb.2.2.2.2.2.1).1 j e
      rcases Classical.em (w = sn s) with e | e
      · refine br_t e ⟨vs, nm_r (e' := sn) (by rw [e]; exact updL_s sn s) (K gw sn I (fun z => ⟨z, fun k' a' b' G' _ => ?_⟩))⟩
        obtain ⟨-, rfl, rfl⟩ := tg_u TT G G'
        rw [← e]
        exact ⟨(wb _).mpr (Or.inl rfl), fun j => ⟨fun q => (wb j).mpr (Or.inr (Or.inl q)), fun q => (wb j).mpr (Or.inr (Or.inr (Or.inl q))), fun q => (wb j).mpr (Or.inr (Or.inr (Or.inr (Or.inl q))))⟩⟩
      · exact br_f e ⟨vs, nm_r (e' := vp_updL sn s w) rfl (K 1 _ (xe_sn TT C I B (fun j q => (wb j).mpr (Or.inr (Or.inr (Or.inr (Or.inr q))))) W e) (fun z => absurd z (by decide)))⟩
  · refine ⟨vs, nm_r (e' := -1) ((RT s hs).2 B) (br_f (by decide) (K gw sn I (fun z => ⟨z, fun k a b G hk => absurd ⟨k, a, b, G, hk⟩ B⟩)))⟩
theorem xg_wd {post : SX → Prop} {N n : Nat} {r : Nat → Nat} {v : Int32} {w : Int64} (TT : tm_T N kd ka kb up op) (C : ty_C N kd ka kb up op sh r)
    (hn : n < N) (ev : v = nI n) (I : xe_I N kd ka kb up op sh r ra0 ef0 vi0 la0 sn0 ra ef vi la sn gw) (W : xw_W N kd op sh r w (ef_E N kd ka kb up op sh r 1 n))
    (K : ∀ gw' vi', xe_I N kd ka kb up op sh r ra0 ef0 vi0 la0 sn0 ra ef vi' la sn gw' → (gw' = 0 → gw = 0) → (∀ j, tb w j = true → tb (vi' n) j = true) → (∀ m j, tb (vi m) j = true → tb (vi' m) j = true) → post (ml, fl, cnt, pc, ifd, wt, rc, gw', ec, tp, vl, rm, ls, sp, md, hld, pk, kd, ka, kb, op, up, bd, pn, sk, f1, f2, lk, sh, cl, wa, wb, se, rg, hm, ra, ef, vi', la, sn, qn, qr, qe, qf, qs, al, enn, env, enx, frn, fre, frs, frm, frf)) : wpX_widenVis post (ml, fl, cnt, pc, ifd, wt, rc, gw, ec, tp, vl, rm, ls, sp, md, hld, pk, kd, ka, kb, op, up, bd, pn, sk, f1, f2, lk, sh, cl, wa, wb, se, rg, hm, ra, ef, vi, la, sn, qn, qr, qe, qf, qs, al, enn, env, enx, frn, fre, frs, frm, frf) v w := by
  subst ev
  have hN := TT.1
  have c : (nI n).toNatClampNeg = n := nI_clamp (by omega)
  have vn : vp_in (nI n) 32 := pk_in n 32 (by omega)
  unfold wpX_widenVis
  dsimp only
  rw [c]
  have wb : ∀ j, tb (vi n ||| w) j = true ↔ (tb (vi n) j = true ∨ tb w j = true) := fun j => by rw [tb_or, Bool.or_eq_true]
  refine ⟨vn, nm_e ⟨vn, ?_⟩⟩
  rcases Classical.em (vi n ||| w = vi n) with e | e
  · refine br_t e ⟨vn, nm_r (e' := vi) (by rw [e]; exact updL_s vi n) (K gw vi I id (fun j z => ?_) (fun _ _ z => z))⟩
    rw [← e]
    exact (wb j).mpr (Or.inr z)
  · refine br_f e ⟨vn, nm_e (K 1 _ (xe_vi TT C I hn (fun j z => (wb j).mpr (Or.inl z)) (xw_or (I.1.1 n hn).2.2 W) e) (fun z => absurd z (by decide)) (fun j z => by rw [pk_uLs]; exact (wb j).mpr (Or.inr z)) (fun m j z => ?_))⟩
    rcases Classical.em (m = n) with y | y
    · subst y; rw [pk_uLs]; exact (wb j).mpr (Or.inl z)
    · rw [pk_uLn y]; exact z
theorem xg_42 {post : SX → Prop} {N n f : Nat} {r : Nat → Nat} {w : Int64} {gw0 : Int32} (TT : tm_T N kd ka kb up op) (C : ty_C N kd ka kb up op sh r)
    (hn : n < N) (k1 : kd n = 1) (hf : bn_B kd ka kb up n (ka n) f) (eb : bd n = nI f) (W : xw_W N kd op sh r w (ef_E N kd ka kb up op sh r 3 (r (3 * n))))
    (K : ∀ gw' vi', xe_I N kd ka kb up op sh r ra0 ef0 vi0 la0 sn0 ra ef vi' la sn gw' → (gw' = 0 → gw0 = 0) → (∀ x, re_R up n x → x < f → ∀ j, tb w j = true → tb (vi' x) j = true) → post (ml, fl, cnt, pc, ifd, wt, rc, gw', ec, tp, vl, rm, ls, sp, md, hld, pk, kd, ka, kb, op, up, bd, pn, sk, f1, f2, lk, sh, cl, wa, wb, se, rg, hm, ra, ef, vi', la, sn, qn, qr, qe, qf, qs, al, enn, env, enx, frn, fre, frs, frm, frf)) :
    ∀ (d i q : Nat) (gw : Int32) (vi : Nat → Int64), xe_I N kd ka kb up op sh r ra0 ef0 vi0 la0 sn0 ra ef vi la sn gw → (gw = 0 → gw0 = 0) → re_R up n q → re_R up q f → i < q → (∀ x, re_R up n x → x < q → ∀ j, tb w j = true → tb (vi x) j = true) → 33 ≤ d + i →
      wX_growVis_42 post (nI n) w d (nI q) (nI i) ml fl cnt pc ifd wt rc gw ec tp vl rm ls sp md hld pk kd ka kb op up bd pn sk f1 f2 lk sh cl wa wb se rg hm ra ef vi la sn qn qr qe qf qs al enn env enx frn fre frs frm frf := by
  have hN := TT.1
  intro d
  induction d with
  | zero =>
    intro i q gw vi I hg h1 h2 h3 h4 hd
    have := re_lt hN TT.2.2.1 hn h1
    omega
  | succ d ih =>
    intro i q gw vi I hg h1 h2 h3 h4 hd
    have hq := re_lt hN TT.2.2.1 hn h1
    have hfN := re_lt hN TT.2.2.1 hq.1 h2
    refine br_f (nI_ge (b := 32) (by omega) (by omega)) (br_f (nI_pos (by omega)) ⟨pk_in n 32 (by omega), ?_⟩)
    rw [nI_clamp (n := n) (by omega), eb]
    refine pk_eq q f (fun e => ?_) (fun e => ?_)
    · subst e
      exact K gw vi I hg h4
    · refine xg_wd TT C hq.1 rfl I (xw_m W (fun ρ B q' => ef_c 1 q ρ B (Or.inr (Or.inr (Or.inl ⟨rfl, hq.1, Or.inr ⟨n, f, hn, k1, h1, hf, by omega, q'⟩⟩))))) (fun gw' vi' I' g' a1 a2 => ?_)
      rcases re_cs h2 with e' | ⟨p, hp, ep, hr⟩
      · exact absurd e' e
      · refine ⟨pk_in q 32 (by omega), nm_r (e' := nI p) (by rw [nI_clamp (by omega)]; exact ep) (nm_r (e' := nI (i + 1)) (nI_1 i) ?_)⟩
        have hpq := tm_pl TT.2.2.1 hN hq.1 hp ep
        refine ih (i + 1) p gw' vi' I' (fun z => hg (g' z)) (re_tr h1 (re_st hp ep re_rf)) hr (by omega) (fun x hx hxp j z => ?_) (by omega)
        rcases re_li hx h1 with b | b
        · rcases Classical.em (x = q) with y | y
          · subst y; exact a1 j z
          · have xl := re_lt hN TT.2.2.1 (re_lt hN TT.2.2.1 hn hx).1 b
            exact a2 x j (h4 x hx (by omega) j z)
        · rcases Classical.em (x = q) with y | y
          · subst y; exact a1 j z
          · have b2 := re_up hp ep b (fun y' => y y'.symm)
            have := re_lt hN TT.2.2.1 hpq.2 b2
            omega
theorem xg_vi {post : SX → Prop} {N n : Nat} {r : Nat → Nat} {v : Int32} (TT : tm_T N kd ka kb up op) (C : ty_C N kd ka kb up op sh r) (hcl : ∀ s, s < 3 * N → cl s = nI (r s))
    (hbd : ∀ n, n < N → kd n = 1 → ∃ f, bn_B kd ka kb up n (ka n) f ∧ bd n = nI f)
    (hn : n < N) (ev : v = nI n) (I : xe_I N kd ka kb up op sh r ra0 ef0 vi0 la0 sn0 ra ef vi la sn gw)
    (K : ∀ gw' vi', xe_I N kd ka kb up op sh r ra0 ef0 vi0 la0 sn0 ra ef vi' la sn gw' → (gw' = 0 → gw = 0) → xc_V kd ka kb up r sn vi' n → post (ml, fl, cnt, pc, ifd, wt, rc, gw', ec, tp, vl, rm, ls, sp, md, hld, pk, kd, ka, kb, op, up, bd, pn, sk, f1, f2, lk, sh, cl, wa, wb, se, rg, hm, ra, ef, vi', la, sn, qn, qr, qe, qf, qs, al, enn, env, enx, frn, fre, frs, frm, frf)) : wpX_growVis post (ml, fl, cnt, pc, ifd, wt, rc, gw, ec, tp, vl, rm, ls, sp, md, hld, pk, kd, ka, kb, op, up, bd, pn, sk, f1, f2, lk, sh, cl, wa, wb, se, rg, hm, ra, ef, vi, la, sn, qn, qr, qe, qf, qs, al, enn, env, enx, frn, fre, frs, frm, frf) v := by
  subst ev
  have hN := TT.1
  have rn := C.1 (3 * n) (by omega)
  have e3 : (3 : Int32) * nI n = nI (3 * n) := pk_mul 3 n
  have c3 : cl (nI (3 * n)).toNatClampNeg = nI (r (3 * n)) := by rw [nI_clamp (by omega)]; exact hcl _ (by omega)
  unfold wpX_growVis
  dsimp only
  rw [e3, c3, nI_clamp (n := r (3 * n)) (by omega)]
  have W3 := (I.1.2.1 _ rn.1 rn.2).1
  refine ⟨pk_in (3 * n) 96 (by omega), pk_in (r (3 * n)) 96 (by omega), nm_r (e' := sn (r (3 * n))) rfl ?_⟩
  refine xg_wd TT C hn rfl I (xw_m W3 (fun ρ B q => ef_c 1 n ρ B (Or.inr (Or.inr (Or.inl ⟨rfl, hn, Or.inl q⟩))))) (fun gw1 vi1 I1 g1 a1 a2 => ⟨pk_in n 32 (by omega), ?_⟩)
  dsimp only
  rw [nI_clamp (n := n) (by omega)]
  rcases Classical.em (kd n = 1) with k1 | k1
  · obtain ⟨f, hf, eb⟩ := hbd n hn k1
    have hfN := bn_gt hN TT.2.2.1 hn hf
    rcases re_cs hf.1 with e | ⟨p, hp, ep, hr⟩
    · exact absurd e.symm hf.2.1
    · have hpn := tm_pl TT.2.2.1 hN hn hp ep
      refine br_t k1 ⟨pk_in n 32 (by omega), nm_r (e' := nI p) ep ⟨33, ?_⟩⟩
      refine xg_42 (gw0 := gw1) TT C hn k1 hf eb W3 (fun gw2 vi2 I2 g2 h2 => K gw2 vi2 I2 (fun z => g1 (g2 z)) ⟨fun j z => ?_, fun _ f' hf' x hx hxf j z => ?_⟩) 33 0 p gw1 vi1 I1 id (re_st hp ep re_rf) hr (by omega) (fun x hx hxp j z => ?_) (by omega)
      · exact h2 n re_rf (by omega) j z
      · have := bn_u hf hf'
        subst this
        exact h2 x hx hxf j z
      · rcases Classical.em (x = n) with y | y
        · subst y; exact a1 j z
        · have b2 := re_up hp ep hx (fun y' => y y'.symm)
          have := re_lt hN TT.2.2.1 hpn.2 b2
          omega
  · exact br_f k1 (K gw1 vi1 I1 g1 ⟨a1, fun k => absurd k k1⟩)
end
end
section
/-- what one node's growth asks of the sets -/
def xc_E (N : Nat) (kd up op sh : Nat → Int32) (r : Nat → Nat) (ra ef vi la : Nat → Int64) (n : Nat) : Prop :=
  (∀ j, xe_O N kd up op sh r ef la n j → tb (ra n) j = true) ∧ (∀ j, tb (ra n) j = true → tb (vi n) j = true → tb (ef n) j = true) ∧ (kd n = 2 → ∀ j, tb (ef (tm_c op n 0)) j = true → tb (la (r (3 * n))) j = true)
section
variable {ml fl cnt pc ifd wt rc gw ec tp : Int32} {vl : Int64} {rm ls sp md hld pk : Int32} {kd ka kb op up bd pn sk f1 f2 lk sh cl wa wb se rg hm : Nat → Int32} {ra ef vi la sn : Nat → Int64} {qn qr qe : Nat → Int32} {qf qs : Nat → Int64} {al enn : Nat → Int32} {env : Nat → Int64} {enx frn fre frs frm : Nat → Int32} {frf : Nat → Int64}
variable {ra0 ef0 vi0 la0 sn0 : Nat → Int64}
theorem xa_ar {post : Int32 → Prop} {k : Int32} (hk : tm_K k) (K : post (nI (tm_ar k))) : wpX_arity post (ml, fl, cnt, pc, ifd, wt, rc, gw, ec, tp, vl, rm, ls, sp, md, hld, pk, kd, ka, kb, op, up, bd, pn, sk, f1, f2, lk, sh, cl, wa, wb, se, rg, hm, ra, ef, vi, la, sn, qn, qr, qe, qf, qs, al, enn, env, enx, frn, fre, frs, frm, frf) k := by
  rcases hk with rfl | rfl | rfl | rfl | rfl | rfl | rfl | rfl | rfl
  · exact br_t rfl K
  · exact br_f (by decide) (br_t rfl K)
  · exact br_f (by decide) (br_f (by decide) (br_f (by decide) (br_f (by decide) (br_f (by decide) (br_f (by decide) K)))))
  · exact br_f (by decide) (br_f (by decide) (br_f (by decide) (br_t rfl K)))
  · exact br_f (by decide) (br_f (by decide) (br_f (by decide) (br_f (by decide) (br_t rfl K))))
  · exact br_f (by decide) (br_f (by decide) (br_f (by decide) (br_f (by decide) (br_f (by decide) (br_f (by decide) K)))))
  · exact br_f (by decide) (br_f (by decide) (br_f (by decide) (br_f (by decide) (br_f (by decide) (br_f (by decide) K)))))
  · exact br_f (by decide) (br_f (by decide) (br_t rfl K))
  · exact br_f (by decide) (br_f (by decide) (br_f (by decide) (br_f (by decide) (br_f (by decide) (br_t rfl K)))))
theorem xg_rb {post : Int64 → Prop} {N n : Nat} {r : Nat → Nat} {v : Int32} (TT : tm_T N kd ka kb up op) (C : ty_C N kd ka kb up op sh r) (hcl : ∀ s, s < 3 * N → cl s = nI (r s)) (RT : rg_T N kd op sh r rg)
    (hn : n < N) (ev : v = nI n) (B : tg_B N kd op sh r (r (3 * n))) (K : ∀ w, (∀ j, tb w j = true ↔ j = rg_J N kd op sh r (r (3 * n))) → post w) : wpX_regionBit post (ml, fl, cnt, pc, ifd, wt, rc, gw, ec, tp, vl, rm, ls, sp, md, hld, pk, kd, ka, kb, op, up, bd, pn, sk, f1, f2, lk, sh, cl, wa, wb, se, rg, hm, ra, ef, vi, la, sn, qn, qr, qe, qf, qs, al, enn, env, enx, frn, fre, frs, frm, frf) v := by
  subst ev
  have hN := TT.1
  have rn := C.1 (3 * n) (by omega)
  have J := rg_lt TT C B
  have e3 : (3 : Int32) * nI n = nI (3 * n) := pk_mul 3 n
  have c3 : cl (nI (3 * n)).toNatClampNeg = nI (r (3 * n)) := by rw [nI_clamp (by omega)]; exact hcl _ (by omega)
  unfold wpX_regionBit
  dsimp only
  rw [e3, c3, nI_clamp (n := r (3 * n)) (by omega)]
  exact ⟨pk_in (3 * n) 96 (by omega), pk_in (r (3 * n)) 96 (by omega), nm_r (e' := nI (rg_J N kd op sh r (r (3 * n)))) ((RT _ rn.1).1 B) (br_t (nI_pos' (by omega)) (K _ (fun j => by rw [tb_bit (by omega)]; simp)))⟩
theorem xg_110 {post : Int64 → Prop} {N n : Nat} {r : Nat → Nat} {k : Int32} {w : Int64} (TT : tm_T N kd ka kb up op) (C : ty_C N kd ka kb up op sh r) (hcl : ∀ s, s < 3 * N → cl s = nI (r s))
    (hn : n < N) (K : ∀ w', (∀ j, tb w' j = true ↔ (tb w j = true ∨ (k = 3 ∧ tb (la (r (3 * tm_c op n 0))) j = true))) → post w') : wX_rawOf_110 post k w (nI (tm_c op n 0)) ml fl cnt pc ifd wt rc gw ec tp vl rm ls sp md hld pk kd ka kb op up bd pn sk f1 f2 lk sh cl wa wb se rg hm ra ef vi la sn qn qr qe qf qs al enn env enx frn fre frs frm frf := by
  have hN := TT.1
  have c0 := tm_o TT hn (i := 0) (by omega)
  have rn := C.1 (3 * tm_c op n 0) (by omega)
  have e3 : (3 : Int32) * nI (tm_c op n 0) = nI (3 * tm_c op n 0) := pk_mul 3 _
  have c3 : cl (nI (3 * tm_c op n 0)).toNatClampNeg = nI (r (3 * tm_c op n 0)) := by rw [nI_clamp (by omega)]; exact hcl _ (by omega)
  unfold wX_rawOf_110
  rw [e3, c3, nI_clamp (n := r (3 * tm_c op n 0)) (by omega)]
  rcases Classical.em (k = 3) with k3 | k3
  · exact br_t k3 ⟨pk_in (3 * tm_c op n 0) 96 (by omega), pk_in (r (3 * tm_c op n 0)) 96 (by omega), nm_e (K _ (fun j => by rw [tb_or, Bool.or_eq_true]; exact or_congr Iff.rfl ⟨fun z => ⟨k3, z⟩, fun z => z.2⟩))⟩
  · exact br_f k3 (K w (fun j => ⟨Or.inl, fun z => z.elim id (fun q => absurd q.1 k3)⟩))
theorem xg_85 {post : Int64 → Prop} {N n : Nat} {r : Nat → Nat} {k : Int32} {w : Int64} (TT : tm_T N kd ka kb up op) (C : ty_C N kd ka kb up op sh r) (hcl : ∀ s, s < 3 * N → cl s = nI (r s)) (RT : rg_T N kd op sh r rg)
    (hn : n < N) (hk : kd n = k) (K : ∀ w', (∀ j, tb w' j = true ↔ (tb w j = true ∨ ((k = 5 ∨ k = 6 ∨ k = 3) ∧ j = rg_J N kd op sh r (r (3 * tm_c op n 0))) ∨ (k = 3 ∧ tb (la (r (3 * tm_c op n 0))) j = true))) → post w') : wX_rawOf_85 post k w (nI (tm_c op n 0)) ml fl cnt pc ifd wt rc gw ec tp vl rm ls sp md hld pk kd ka kb op up bd pn sk f1 f2 lk sh cl wa wb se rg hm ra ef vi la sn qn qr qe qf qs al enn env enx frn fre frs frm frf := by
  have hN := TT.1
  have c0 := tm_o TT hn (i := 0) (by omega)
  have one : (k = 5 ∨ k = 6 ∨ k = 3) → wX_rawOf_101 post k w (nI (tm_c op n 0)) ml fl cnt pc ifd wt rc gw ec tp vl rm ls sp md hld pk kd ka kb op up bd pn sk f1 f2 lk sh cl wa wb se rg hm ra ef vi la sn qn qr qe qf qs al enn env enx frn fre frs frm frf := by
    intro h
    have B := bx_5 TT C hn (by rw [hk]; exact h)
    unfold wX_rawOf_101
    refine xg_rb TT C hcl RT (by omega) rfl B (fun b hb => nm_e (xg_110 TT C hcl hn (fun w' hw' => K w' (fun j => ?_))))
    rw [hw' j, tb_or, Bool.or_eq_true, hb j]
    constructor
    · rintro ((z | z) | z)
      · exact Or.inl z
      · exact Or.inr (Or.inl ⟨h, z⟩)
      · exact Or.inr (Or.inr z)
    · rintro (z | z | z)
      · exact Or.inl (Or.inl z)
      · exact Or.inl (Or.inr z.2)
      · exact Or.inr z
  rcases Classical.em (k = 5) with a | a
  · exact br_t a (one (Or.inl a))
  · refine br_f a ?_
    rcases Classical.em (k = 6) with b | b
    · exact br_t b (one (Or.inr (Or.inl b)))
    · refine br_f b ?_
      rcases Classical.em (k = 3) with d | d
      · exact br_t d (one (Or.inr (Or.inr d)))
      · refine br_f d (xg_110 TT C hcl hn (fun w' hw' => K w' (fun j => ?_)))
        rw [hw' j]
        constructor
        · rintro (z | z)
          · exact Or.inl z
          · exact Or.inr (Or.inr z)
        · rintro (z | ⟨z | z | z, -⟩ | z)
          · exact Or.inl z
          · exact absurd z a
          · exact absurd z b
          · exact absurd z d
          · exact Or.inr z
theorem xg_30 {post : Int64 → Prop} {N n : Nat} {r : Nat → Nat} {k : Int32} (TT : tm_T N kd ka kb up op) (C : ty_C N kd ka kb up op sh r) (hcl : ∀ s, s < 3 * N → cl s = nI (r s)) (RT : rg_T N kd op sh r rg)
    (hn : n < N) (hk : kd n = k) (h2 : k ≠ 2) (K : ∀ w', (∀ j, tb w' j = true ↔ xe_O N kd up op sh r ef la n j) → post w') :
    ∀ (d i : Nat) (w : Int64), (∀ j, tb w j = true ↔ ∃ i', i' < i ∧ tb (ef (tm_c op n i')) j = true) → i ≤ tm_ar k → tm_ar k + 1 ≤ d + i → wX_rawOf_30 post (nI n) k (nI (tm_ar k)) ml fl cnt pc ifd wt rc gw ec tp vl rm ls sp md hld pk kd ka kb op up bd pn sk f1 f2 lk sh cl wa wb se rg hm ra ef vi la sn qn qr qe qf qs al enn env enx frn fre frs frm frf d w (nI i) := by
  have hN := TT.1
  have c0 := tm_o TT hn (i := 0) (by omega)
  have ha := ar_le k
  intro d
  induction d with
  | zero => intro i w h hi hd; omega
  | succ d ih =>
    intro i w h hi hd
    have e3 : (3 : Int32) * nI n = nI (3 * n) := pk_mul 3 n
    refine pk_le (tm_ar k) i (fun z => ?_) (fun z => ?_)
    · have e : i = tm_ar k := by omega
      subst e
      rw [e3, nI_clamp (n := 3 * n) (by omega), show op (3 * n) = nI (tm_c op n 0) from c0.1]
      have ch : ∀ j, tb w j = true ↔ ∃ m, m < N ∧ up m = nI n ∧ tb (ef m) j = true := by
        intro j
        rw [h j]
        constructor
        · intro ⟨i', q1, q2⟩
          have o := TT.2.2.2.1.1 n i' hn (by rw [hk]; exact q1)
          exact ⟨_, by omega, o.2.2, q2⟩
        · intro ⟨m, q1, q2, q3⟩
          obtain ⟨i', q4, q5⟩ := TT.2.2.2.1.2.2.1 n m hn q1 q2
          rw [hk] at q4
          rw [q5] at q3
          exact ⟨i', q4, q3⟩
      have n2 : kd n ≠ 2 := by rw [hk]; exact h2
      refine ⟨pk_in (3 * n) 96 (by omega), nm_r (e' := nI (tm_c op n 0)) rfl ?_⟩
      rcases Classical.em (k = 4) with k4 | k4
      · refine br_t k4 (xg_rb TT C hcl RT hn rfl (bx_2 TT C hn (Or.inr (hk.trans k4))) (fun b hb => nm_e (xg_85 TT C hcl RT hn hk (fun w' hw' => K w' (fun j => ?_)))))
        rw [hw' j, tb_or, Bool.or_eq_true, hb j, ch j]
        unfold xe_O
        rw [hk]
        constructor
        · rintro ((z | z) | z | z)
          · exact Or.inr ⟨h2, Or.inl z⟩
          · exact Or.inr ⟨h2, Or.inr (Or.inl ⟨k4, z⟩)⟩
          · exact Or.inr ⟨h2, Or.inr (Or.inr (Or.inl z))⟩
          · exact Or.inr ⟨h2, Or.inr (Or.inr (Or.inr z))⟩
        · rintro (⟨z, -⟩ | ⟨-, z | z | z | z⟩)
          · exact absurd z h2
          · exact Or.inl (Or.inl z)
          · exact Or.inl (Or.inr z.2)
          · exact Or.inr (Or.inl z)
          · exact Or.inr (Or.inr z)
      · refine br_f k4 (xg_85 TT C hcl RT hn hk (fun w' hw' => K w' (fun j => ?_)))
        rw [hw' j, ch j]
        unfold xe_O
        rw [hk]
        constructor
        · rintro (z | z | z)
          · exact Or.inr ⟨h2, Or.inl z⟩
          · exact Or.inr ⟨h2, Or.inr (Or.inr (Or.inl z))⟩
          · exact Or.inr ⟨h2, Or.inr (Or.inr (Or.inr z))⟩
        · rintro (⟨z, -⟩ | ⟨-, z | z | z | z⟩)
          · exact absurd z h2
          · exact Or.inl z
          · exact absurd z.1 k4
          · exact Or.inr (Or.inl z)
          · exact Or.inr (Or.inr z)
    · have ci := tm_o TT hn (i := i) (by omega)
      have e4 : (3 : Int32) * nI n + nI i = nI (3 * n + i) := by rw [e3, nI_add]
      rw [e4, nI_clamp (n := 3 * n + i) (by omega), ci.1, nI_clamp (n := tm_c op n i) (by omega)]
      refine ⟨pk_in (3 * n + i) 96 (by omega), pk_in (tm_c op n i) 32 (by omega), nm_e (nm_r (e' := nI (i + 1)) (nI_1 i) ?_)⟩
      refine ih (i + 1) _ (fun j => ?_) (by omega) (by omega)
      rw [tb_or, Bool.or_eq_true, h j]
      constructor
      · rintro (⟨i', q1, q2⟩ | q)
        · exact ⟨i', by omega, q2⟩
        · exact ⟨i, by omega, q⟩
      · intro ⟨i', q1, q2⟩
        rcases Classical.em (i' = i) with y | y
        · subst y; exact Or.inr q2
        · exact Or.inl ⟨i', by omega, q2⟩
theorem xg_ro {post : Int64 → Prop} {N n : Nat} {r : Nat → Nat} {v : Int32} (TT : tm_T N kd ka kb up op) (C : ty_C N kd ka kb up op sh r) (hcl : ∀ s, s < 3 * N → cl s = nI (r s)) (RT : rg_T N kd op sh r rg)
    (hn : n < N) (ev : v = nI n) (K : ∀ w', (∀ j, tb w' j = true ↔ xe_O N kd up op sh r ef la n j) → post w') : wpX_rawOf post (ml, fl, cnt, pc, ifd, wt, rc, gw, ec, tp, vl, rm, ls, sp, md, hld, pk, kd, ka, kb, op, up, bd, pn, sk, f1, f2, lk, sh, cl, wa, wb, se, rg, hm, ra, ef, vi, la, sn, qn, qr, qe, qf, qs, al, enn, env, enx, frn, fre, frs, frm, frf) v := by
  subst ev
  have hN := TT.1
  unfold wpX_rawOf
  dsimp only
  refine ⟨pk_in n 32 (by omega), nm_r (e' := kd n) (by rw [nI_clamp (by omega)]) ?_⟩
  rcases Classical.em (kd n = 2) with k2 | k2
  · refine br_t k2 (xg_rb TT C hcl RT hn rfl (bx_2 TT C hn (Or.inl k2)) (fun b hb => K b (fun j => ?_)))
    rw [hb j]
    exact ⟨fun z => Or.inl ⟨k2, z⟩, fun z => z.elim And.right (fun q => absurd k2 q.1)⟩
  · refine br_f k2 (xa_ar (TT.2.1 n hn) ⟨tm_ar (kd n) + 1, xg_30 TT C hcl RT hn rfl k2 K _ 0 0 (fun j => ?_) (by omega) (by omega)⟩)
    rw [tb_0]
    exact ⟨fun z => absurd z (by decide), fun ⟨i', z, _⟩ => absurd z (by omega)⟩
theorem xg_44 {post : SX → Prop} {N n : Nat} {r : Nat → Nat} {w : Int64} (TT : tm_T N kd ka kb up op) (C : ty_C N kd ka kb up op sh r) (hcl : ∀ s, s < 3 * N → cl s = nI (r s))
    (hn : n < N) (I : xe_I N kd ka kb up op sh r ra0 ef0 vi0 la0 sn0 (vp_updL ra n w) (vp_updL ef n (w &&& vi n)) vi la sn gw)
    (h : gw = 0 → (∀ j, xe_O N kd up op sh r (vp_updL ef n (w &&& vi n)) la n j → tb (vp_updL ra n w n) j = true) ∧ (∀ j, tb (vp_updL ra n w n) j = true → tb (vi n) j = true → tb (vp_updL ef n (w &&& vi n) n) j = true))
    (K : ∀ gw' ra' ef' la', xe_I N kd ka kb up op sh r ra0 ef0 vi0 la0 sn0 ra' ef' vi la' sn gw' → (gw' = 0 → gw = 0 ∧ xc_E N kd up op sh r ra' ef' vi la' n) → post (ml, fl, cnt, pc, ifd, wt, rc, gw', ec, tp, vl, rm, ls, sp, md, hld, pk, kd, ka, kb, op, up, bd, pn, sk, f1, f2, lk, sh, cl, wa, wb, se, rg, hm, ra', ef', vi, la', sn, qn, qr, qe, qf, qs, al, enn, env, enx, frn, fre, frs, frm, frf)) :
    wX_growEffects_44 post (nI n) w (w &&& vi n) ml fl cnt pc ifd wt rc gw ec tp vl rm ls sp md hld pk kd ka kb op up bd pn sk f1 f2 lk sh cl wa wb se rg hm ra ef vi la sn qn qr qe qf qs al enn env enx frn fre frs frm frf := by
  have hN := TT.1
  have c : (nI n).toNatClampNeg = n := nI_clamp (by omega)
  have vn : vp_in (nI n) 32 := pk_in n 32 (by omega)
  have rn := C.1 (3 * n) (by omega)
  have c0 := tm_o TT hn (i := 0) (by omega)
  have e3 : (3 : Int32) * nI n = nI (3 * n) := pk_mul 3 n
  unfold wX_growEffects_44
  rw [c, e3, nI_clamp (n := 3 * n) (by omega), hcl (3 * n) (by omega), show op (3 * n) = nI (tm_c op n 0) from c0.1, nI_clamp (n := tm_c op n 0) (by omega)]
  refine ⟨vn, nm_e ⟨vn, nm_e ⟨vn, ?_⟩⟩⟩
  rcases Classical.em (kd n = 2) with k2 | k2
  · have B := bx_2 TT C hn (Or.inl k2)
    have cr : (nI (r (3 * n))).toNatClampNeg = r (3 * n) := nI_clamp (by omega)
    have L := xe_la TT C I.1 hn k2
    refine br_t k2 ⟨pk_in (3 * n) 96 (by omega), nm_e ⟨pk_in (r (3 * n)) 96 (by omega), pk_in (3 * n) 96 (by omega), pk_in (tm_c op n 0) 32 (by omega), nm_e ⟨pk_in (r (3 * n)) 96 (by omega), ?_⟩⟩⟩
    rw [cr]
    rcases Classical.em (la (r (3 * n)) ||| vp_updL ef n (w &&& vi n) (tm_c op n 0) = la (r (3 * n))) with e | e
    · refine br_t e ⟨pk_in (r (3 * n)) 96 (by omega), nm_r (e' := la) (by rw [e]; exact updL_s la _) (K gw _ _ la I (fun z => ⟨z, (h z).1, (h z).2, fun _ j q => ?_⟩))⟩
      rw [← e, tb_or, q, Bool.or_true]
    · refine br_f e ⟨pk_in (r (3 * n)) 96 (by omega), nm_e (K 1 _ _ _ (xe_up TT C I L.1 L.2 (Or.inr ?_)) (fun z => absurd z (by decide)))⟩
      obtain ⟨j, q1, q2⟩ := tb_ne (fun j (q : tb (la (r (3 * n))) j = true) => show tb (la (r (3 * n)) ||| vp_updL ef n (w &&& vi n) (tm_c op n 0)) j = true by rw [tb_or, q]; rfl) e
      exact ⟨r (3 * n), j, B, Or.inr ⟨by rw [pk_uLs]; exact q1, q2⟩⟩
  · exact br_f k2 (K gw _ _ la I (fun z => ⟨z, (h z).1, (h z).2, fun k => absurd k k2⟩))
theorem xg_ef {post : SX → Prop} {N n : Nat} {r : Nat → Nat} {v : Int32} (TT : tm_T N kd ka kb up op) (C : ty_C N kd ka kb up op sh r) (hcl : ∀ s, s < 3 * N → cl s = nI (r s)) (RT : rg_T N kd op sh r rg)
    (hn : n < N) (ev : v = nI n) (I : xe_I N kd ka kb up op sh r ra0 ef0 vi0 la0 sn0 ra ef vi la sn gw)
    (K : ∀ gw' ra' ef' la', xe_I N kd ka kb up op sh r ra0 ef0 vi0 la0 sn0 ra' ef' vi la' sn gw' → (gw' = 0 → gw = 0 ∧ xc_E N kd up op sh r ra' ef' vi la' n) → post (ml, fl, cnt, pc, ifd, wt, rc, gw', ec, tp, vl, rm, ls, sp, md, hld, pk, kd, ka, kb, op, up, bd, pn, sk, f1, f2, lk, sh, cl, wa, wb, se, rg, hm, ra', ef', vi, la', sn, qn, qr, qe, qf, qs, al, enn, env, enx, frn, fre, frs, frm, frf)) : wpX_growEffects post (ml, fl, cnt, pc, ifd, wt, rc, gw, ec, tp, vl, rm, ls, sp, md, hld, pk, kd, ka, kb, op, up, bd, pn, sk, f1, f2, lk, sh, cl, wa, wb, se, rg, hm, ra, ef, vi, la, sn, qn, qr, qe, qf, qs, al, enn, env, enx, frn, fre, frs, frm, frf) v := by
  subst ev
  have hN := TT.1
  have c : (nI n).toNatClampNeg = n := nI_clamp (by omega)
  have vn : vp_in (nI n) 32 := pk_in n 32 (by omega)
  unfold wpX_growEffects
  dsimp only
  refine xg_ro TT C hcl RT hn rfl (fun w hw => ?_)
  rw [c]
  have SM := xe_re TT C I.1 hn hw
  have grow : ¬ (w = ra n ∧ w &&& vi n = ef n) → wX_growEffects_39 post (nI n) w (w &&& vi n) ml fl cnt pc ifd wt rc gw ec tp vl rm ls sp md hld pk kd ka kb op up bd pn sk f1 f2 lk sh cl wa wb se rg hm ra ef vi la sn qn qr qe qf qs al enn env enx frn fre frs frm frf := by
    intro hne
    unfold wX_growEffects_39
    refine xg_44 TT C hcl hn (gw := 1) (xe_up TT C I SM.1 SM.2 (Or.inl ?_)) (fun z => absurd z (by decide)) (fun gw' ra' ef' la' I' h' => K gw' ra' ef' la' I' (fun z => absurd (h' z).1 (by decide)))
    rcases Classical.em (w = ra n) with e | e
    · have e2 : w &&& vi n ≠ ef n := fun q => hne ⟨e, q⟩
      obtain ⟨j, q1, q2⟩ := tb_ne (a := ef n) (b := w &&& vi n) (fun j q => by have := (SM.2.1 n hn j).2.1 q; rw [pk_uLs] at this; exact this) e2
      exact ⟨n, j, hn, Or.inr (Or.inl ⟨by rw [pk_uLs]; exact q1, q2⟩)⟩
    · obtain ⟨j, q1, q2⟩ := tb_ne (a := ra n) (b := w) (fun j q => by have := (SM.2.1 n hn j).1 q; rw [pk_uLs] at this; exact this) e
      exact ⟨n, j, hn, Or.inl ⟨by rw [pk_uLs]; exact q1, q2⟩⟩
  refine ⟨vn, nm_e ⟨vn, ?_⟩⟩
  rcases Classical.em (w = ra n) with e | e
  · refine br_t e ⟨vn, ?_⟩
    rcases Classical.em (w &&& vi n = ef n) with e2 | e2
    · refine br_t e2 ?_
      have u1 : vp_updL ra n w = ra := by rw [e]; exact updL_s ra n
      have u2 : vp_updL ef n (w &&& vi n) = ef := by rw [e2]; exact updL_s ef n
      refine xg_44 TT C hcl hn (by rw [u1, u2]; exact I) (fun _ => ?_) K
      rw [u1, u2]
      refine ⟨fun j q => ?_, fun j q1 q2 => ?_⟩
      · rw [← e]; exact (hw j).mpr q
      · rw [← e2, tb_and, q2, e, q1]; rfl
    · exact br_f e2 (grow fun q => e2 q.2)
  · exact br_f e (grow fun q => e q.1)
end
end
section
section
variable {N : Nat} {kd ka kb up op sh : Nat → Int32} {r : Nat → Nat} {ra ef vi la sn ra' ef' vi' la' sn' : Nat → Int64}
def xe_B (N : Nat) (kd op sh : Nat → Int32) (r : Nat → Nat) (ra ef vi la sn : Nat → Int64) (i : Nat) : Prop :=
  (i / 32 < N ∧ tb (ra (i / 32)) (i % 32) = true) ∨ (32 ≤ i / 32 ∧ i / 32 - 32 < N ∧ tb (ef (i / 32 - 32)) (i % 32) = true) ∨ (64 ≤ i / 32 ∧ i / 32 - 64 < N ∧ tb (vi (i / 32 - 64)) (i % 32) = true) ∨
  (96 ≤ i / 32 ∧ i / 32 < 128 ∧ ∃ s, tg_B N kd op sh r s ∧ rg_J N kd op sh r s = i / 32 - 96 ∧ tb (sn s) (i % 32) = true) ∨ (128 ≤ i / 32 ∧ ∃ s, tg_B N kd op sh r s ∧ rg_J N kd op sh r s = i / 32 - 128 ∧ tb (la s) (i % 32) = true)
noncomputable def xe_N (N : Nat) (kd op sh : Nat → Int32) (r : Nat → Nat) (ra ef vi la sn : Nat → Int64) : Nat := cn (xe_B N kd op sh r ra ef vi la sn) 5120
theorem xe_lt (TT : tm_T N kd ka kb up op) (C : ty_C N kd ka kb up op sh r) (S : xe_S N kd ka kb up op sh r ra' ef' vi' la' sn') (M : xe_M N ra ef vi la sn ra' ef' vi' la' sn') (X : xe_X N kd op sh r ra ef vi la sn ra' ef' vi' la' sn') : xe_N N kd op sh r ra ef vi la sn < xe_N N kd op sh r ra' ef' vi' la' sn' := by
  have hN := TT.1
  have mono : ∀ i, i < 5120 → xe_B N kd op sh r ra ef vi la sn i → xe_B N kd op sh r ra' ef' vi' la' sn' i := by
    intro i _ h
    rcases h with ⟨a, b⟩ | ⟨a, b, c⟩ | ⟨a, b, c⟩ | ⟨a, b, s, B, c, d⟩ | ⟨a, s, B, c, d⟩
    · exact Or.inl ⟨a, (M.1 _ a _).1 b⟩
    · exact Or.inr (Or.inl ⟨a, b, (M.1 _ b _).2.1 c⟩)
    · exact Or.inr (Or.inr (Or.inl ⟨a, b, (M.1 _ b _).2.2 c⟩))
    · exact Or.inr (Or.inr (Or.inr (Or.inl ⟨a, b, s, B, c, (M.2 s (tg_Bb TT C B).1 _).2 d⟩)))
    · exact Or.inr (Or.inr (Or.inr (Or.inr ⟨a, s, B, c, (M.2 s (tg_Bb TT C B).1 _).1 d⟩)))
  have lt : ∀ {w : Int64} {A : Nat → Prop} {j : Nat}, xw_W N kd op sh r w A → tb w j = true → j < 32 := by
    intro w A j W h
    obtain ⟨ρ, B, e, -⟩ := W j h
    have := (rg_lt TT C B).2
    omega
  have fin : ∀ q j, j < 32 → q < 160 → ¬ xe_B N kd op sh r ra ef vi la sn (q * 32 + j) → xe_B N kd op sh r ra' ef' vi' la' sn' (q * 32 + j) → xe_N N kd op sh r ra ef vi la sn < xe_N N kd op sh r ra' ef' vi' la' sn' := by
    intro q j hj hq h1 h2
    exact cn_lt h1 h2 mono (by omega)
  have d1 : ∀ q j, j < 32 → (q * 32 + j) / 32 = q := fun q j h => by omega
  have d2 : ∀ q j, j < 32 → (q * 32 + j) % 32 = j := fun q j h => by omega
  rcases X with ⟨n, j, hn, ⟨h1, h2⟩ | ⟨h1, h2⟩ | ⟨h1, h2⟩⟩ | ⟨s, j, B, ⟨h1, h2⟩ | ⟨h1, h2⟩⟩
  · have hj := lt (S.1 n hn).1 h1
    refine fin n j hj (by omega) (fun z => ?_) ?_
    · unfold xe_B at z
      rw [d1 _ _ hj, d2 _ _ hj] at z
      rcases z with ⟨-, z⟩ | ⟨z, -⟩ | ⟨z, -⟩ | ⟨z, -⟩ | ⟨z, -⟩
      · exact h2 z
      all_goals omega
    · unfold xe_B
      rw [d1 _ _ hj, d2 _ _ hj]
      exact Or.inl ⟨hn, h1⟩
  · have hj := lt (S.1 n hn).2.1 h1
    refine fin (32 + n) j hj (by omega) (fun z => ?_) ?_
    · unfold xe_B at z
      rw [d1 _ _ hj, d2 _ _ hj] at z
      rcases z with ⟨z, -⟩ | ⟨-, -, z⟩ | ⟨z, -⟩ | ⟨z, -⟩ | ⟨z, -⟩
      · omega
      · rw [Nat.add_sub_cancel_left] at z
        exact h2 z
      all_goals omega
    · unfold xe_B
      rw [d1 _ _ hj, d2 _ _ hj]
      refine Or.inr (Or.inl ⟨by omega, by omega, ?_⟩)
      rw [Nat.add_sub_cancel_left]
      exact h1
  · have hj := lt (S.1 n hn).2.2 h1
    refine fin (64 + n) j hj (by omega) (fun z => ?_) ?_
    · unfold xe_B at z
      rw [d1 _ _ hj, d2 _ _ hj] at z
      rcases z with ⟨z, -⟩ | ⟨-, z, -⟩ | ⟨-, -, z⟩ | ⟨z, -⟩ | ⟨z, -⟩
      · omega
      · omega
      · rw [Nat.add_sub_cancel_left] at z
        exact h2 z
      all_goals omega
    · unfold xe_B
      rw [d1 _ _ hj, d2 _ _ hj]
      refine Or.inr (Or.inr (Or.inl ⟨by omega, by omega, ?_⟩))
      rw [Nat.add_sub_cancel_left]
      exact h1
  · have hs := tg_Bb TT C B
    have J := (rg_lt TT C B).2
    have hj := lt (S.2.1 s hs.1 hs.2).1 h1
    refine fin (96 + rg_J N kd op sh r s) j hj (by omega) (fun z => ?_) ?_
    · unfold xe_B at z
      rw [d1 _ _ hj, d2 _ _ hj] at z
      rcases z with ⟨z, -⟩ | ⟨-, z, -⟩ | ⟨-, z, -⟩ | ⟨-, -, s', B', e, z⟩ | ⟨z, -⟩
      · omega
      · omega
      · omega
      · have := rg_in B' B (by omega)
        subst this
        exact h2 z
      · omega
    · unfold xe_B
      rw [d1 _ _ hj, d2 _ _ hj]
      exact Or.inr (Or.inr (Or.inr (Or.inl ⟨by omega, by omega, s, B, by omega, h1⟩)))
  · have hs := tg_Bb TT C B
    have J := (rg_lt TT C B).2
    have hj := lt (S.2.1 s hs.1 hs.2).2 h1
    refine fin (128 + rg_J N kd op sh r s) j hj (by omega) (fun z => ?_) ?_
    · unfold xe_B at z
      rw [d1 _ _ hj, d2 _ _ hj] at z
      rcases z with ⟨z, -⟩ | ⟨-, z, -⟩ | ⟨-, z, -⟩ | ⟨-, z, -⟩ | ⟨-, s', B', e, z⟩
      · omega
      · omega
      · omega
      · omega
      · have := rg_in B' B (by omega)
        subst this
        exact h2 z
    · unfold xe_B
      rw [d1 _ _ hj, d2 _ _ hj]
      exact Or.inr (Or.inr (Or.inr (Or.inr ⟨by omega, s, B, by omega, h1⟩)))
/-- nothing more is asked -/
def xe_K (N : Nat) (kd ka kb up op sh : Nat → Int32) (r : Nat → Nat) (ra ef vi la sn : Nat → Int64) : Prop :=
  (∀ s, s < 3 * N → xc_S N kd op sh r sn la s) ∧ (∀ n, n < N → xc_V kd ka kb up r sn vi n) ∧ (∀ n, n < N → xc_E N kd up op sh r ra ef vi la n)
def xe_T (N : Nat) (kd op sh : Nat → Int32) (r : Nat → Nat) (ra vi la sn : Nat → Int64) (w x ρ : Nat) : Prop :=
  (w = 0 ∧ x < N ∧ tb (ra x) (rg_J N kd op sh r ρ) = true) ∨ (w = 1 ∧ x < N ∧ tb (vi x) (rg_J N kd op sh r ρ) = true) ∨ (w = 2 ∧ tb (la x) (rg_J N kd op sh r ρ) = true) ∨ (w = 3 ∧ tb (sn x) (rg_J N kd op sh r ρ) = true)
theorem xe_full (TT : tm_T N kd ka kb up op) (C : ty_C N kd ka kb up op sh r) (K : xe_K N kd ka kb up op sh r ra ef vi la sn) {w x ρ : Nat} (h : ef_E N kd ka kb up op sh r w x ρ) : xe_T N kd op sh r ra vi la sn w x ρ := by
  have hN := TT.1
  refine h (xe_T N kd op sh r ra vi la sn) (fun w x ρ B R => ?_)
  have t0 : ∀ {x}, xe_T N kd op sh r ra vi la sn 0 x ρ → tb (ra x) (rg_J N kd op sh r ρ) = true := fun z => by
    rcases z with ⟨-, -, z⟩ | ⟨z, -⟩ | ⟨z, -⟩ | ⟨z, -⟩
    · exact z
    all_goals omega
  have t1 : ∀ {x}, xe_T N kd op sh r ra vi la sn 1 x ρ → tb (vi x) (rg_J N kd op sh r ρ) = true := fun z => by
    rcases z with ⟨z, -⟩ | ⟨-, -, z⟩ | ⟨z, -⟩ | ⟨z, -⟩
    · omega
    · exact z
    all_goals omega
  have t2 : ∀ {x}, xe_T N kd op sh r ra vi la sn 2 x ρ → tb (la x) (rg_J N kd op sh r ρ) = true := fun z => by
    rcases z with ⟨z, -⟩ | ⟨z, -⟩ | ⟨-, z⟩ | ⟨z, -⟩
    · omega
    · omega
    · exact z
    · omega
  have t3 : ∀ {x}, xe_T N kd op sh r ra vi la sn 3 x ρ → tb (sn x) (rg_J N kd op sh r ρ) = true := fun z => by
    rcases z with ⟨z, -⟩ | ⟨z, -⟩ | ⟨z, -⟩ | ⟨-, z⟩
    · omega
    · omega
    · omega
    · exact z
  rcases R with ⟨rfl, k, a, b, G, hk, R⟩ | ⟨rfl, m, p, h1, h2, h3, h4, h5, R1, R2⟩ | ⟨rfl, hx, R⟩ | ⟨rfl, hx, R⟩
  · refine Or.inr (Or.inr (Or.inr ⟨rfl, ?_⟩))
    have gb := tg_b TT C G
    have S := K.1 x gb.1 k a b G hk
    rcases R with R | R | R | ⟨-, R⟩
    · subst R; exact S.1
    · exact (S.2 _).1 (t3 R)
    · exact (S.2 _).2.1 (t3 R)
    · exact (S.2 _).2.2 (t2 R)
  · refine Or.inr (Or.inr (Or.inl ⟨rfl, ?_⟩))
    have e := (K.2.2 m h1).2.1 _ (t0 R1) (t1 R2)
    obtain ⟨i, hi, ei⟩ := TT.2.2.2.1.2.2.1 p m h2 h1 h3
    rw [ar_2 h4] at hi
    have : i = 0 := by omega
    subst this
    rw [← h5]
    rw [ei] at e
    exact (K.2.2 p h2).2.2 h4 _ e
  · refine Or.inr (Or.inl ⟨rfl, hx, ?_⟩)
    rcases R with R | ⟨v, f, h1, h2, h3, h4, h5, R⟩
    · exact (K.2.1 x hx).1 _ (t3 R)
    · exact (K.2.1 v h1).2 h2 f h4 x h3 h5 _ (t3 R)
  · refine Or.inl ⟨rfl, hx, (K.2.2 x hx).1 _ ?_⟩
    rcases R with ⟨n2, m, h1, h2, R1, R2⟩ | ⟨k | k, R⟩ | ⟨k, R⟩ | ⟨k, R⟩
    · exact Or.inr ⟨n2, Or.inl ⟨m, h1, h2, (K.2.2 m h1).2.1 _ (t0 R1) (t1 R2)⟩⟩
    · exact Or.inl ⟨k, by rw [R]⟩
    · exact Or.inr ⟨fun z => absurd (k.symm.trans z) (by decide), Or.inr (Or.inl ⟨k, by rw [R]⟩)⟩
    · refine Or.inr ⟨fun z => ?_, Or.inr (Or.inr (Or.inl ⟨k, by rw [R]⟩))⟩
      rcases k with k | k | k <;> exact absurd (k.symm.trans z) (by decide)
    · exact Or.inr ⟨fun z => absurd (k.symm.trans z) (by decide), Or.inr (Or.inr (Or.inr ⟨k, t2 R⟩))⟩
end
section
variable {ml fl cnt pc ifd wt rc gw ec tp : Int32} {vl : Int64} {rm ls sp md hld pk : Int32} {kd ka kb op up bd pn sk f1 f2 lk sh cl wa wb se rg hm : Nat → Int32} {ra ef vi la sn : Nat → Int64} {qn qr qe : Nat → Int32} {qf qs : Nat → Int64} {al enn : Nat → Int32} {env : Nat → Int64} {enx frn fre frs frm : Nat → Int32} {frf : Nat → Int64}
variable {ra0 ef0 vi0 la0 sn0 : Nat → Int64}
theorem xh_72 {post : SX → Prop} {J : Int32 → Int32 → Int32 → Int32 → Int32 → Int32 → Int32 → Int32 → Int32 → Int32 → Int32 → Int64 → Int32 → Int32 → Int32 → Int32 → Int32 → Int32 → (Nat → Int32) → (Nat → Int32) → (Nat → Int32) → (Nat → Int32) → (Nat → Int32) → (Nat → Int32) → (Nat → Int32) → (Nat → Int32) → (Nat → Int32) → (Nat → Int32) → (Nat → Int32) → (Nat → Int32) → (Nat → Int32) → (Nat → Int32) → (Nat → Int32) → (Nat → Int32) → (Nat → Int32) → (Nat → Int32) → (Nat → Int64) → (Nat → Int64) → (Nat → Int64) → (Nat → Int64) → (Nat → Int64) → (Nat → Int32) → (Nat → Int32) → (Nat → Int32) → (Nat → Int64) → (Nat → Int64) → (Nat → Int32) → (Nat → Int32) → (Nat → Int64) → (Nat → Int32) → (Nat → Int32) → (Nat → Int32) → (Nat → Int32) → (Nat → Int32) → (Nat → Int64) → Prop} {N i : Nat} {r : Nat → Nat} {Q : Prop} (TT : tm_T N kd ka kb up op) (C : ty_C N kd ka kb up op sh r) (hcl : ∀ s, s < 3 * N → cl s = nI (r s)) (RT : rg_T N kd op sh r rg)
    (K : ∀ gw' ra' ef' vi' la' sn', xe_I N kd ka kb up op sh r ra0 ef0 vi0 la0 sn0 ra' ef' vi' la' sn' gw' → (gw' = 0 → Q ∧ ∀ n, n < N → xc_E N kd up op sh r ra0 ef0 vi0 la0 n) → J (nI (i + 1)) ml fl (nI N) pc ifd wt rc gw' ec tp vl rm ls sp md hld pk kd ka kb op up bd pn sk f1 f2 lk sh cl wa wb se rg hm ra' ef' vi' la' sn' qn qr qe qf qs al enn env enx frn fre frs frm frf) :
    ∀ (d n : Nat) (gw : Int32) (ra ef vi la sn : Nat → Int64), xe_I N kd ka kb up op sh r ra0 ef0 vi0 la0 sn0 ra ef vi la sn gw → (gw = 0 → Q ∧ ∀ m, m < n → xc_E N kd up op sh r ra0 ef0 vi0 la0 m) → n ≤ N → N + 1 ≤ d + n →
      wX_solveEffects_72 post J (nI i) d (nI n) ml fl (nI N) pc ifd wt rc gw ec tp vl rm ls sp md hld pk kd ka kb op up bd pn sk f1 f2 lk sh cl wa wb se rg hm ra ef vi la sn qn qr qe qf qs al enn env enx frn fre frs frm frf := by
  have hN := TT.1
  intro d
  induction d with
  | zero => intro n gw ra ef vi la sn I h hn hd; omega
  | succ d ih =>
    intro n gw ra ef vi la sn I h hn hd
    refine pk_le N n (fun z => nm_r (e' := nI (i + 1)) (nI_1 i) ?_) (fun z => ?_)
    · have e : n = N := by omega
      subst e
      exact K gw ra ef vi la sn I h
    · refine xg_ef TT C hcl RT z rfl I (fun gw' ra' ef' la' I' h' => nm_r (e' := nI (n + 1)) (nI_1 n) ?_)
      refine ih (n + 1) gw' ra' ef' vi la' sn I' (fun g => ⟨(h (h' g).1).1, fun m hm => ?_⟩) (by omega) (by omega)
      rcases Classical.em (m = n) with w | w
      · subst w
        have q := (h' g).2
        rcases I'.2.2 with ⟨-, e1, e2, e3, e4, e5⟩ | ⟨e, -⟩
        · rw [e1, e2, e3, e4] at q
          exact q
        · exact absurd (g.symm.trans e) (by decide)
      · exact (h (h' g).1).2 m (by omega)
theorem xh_51 {post : SX → Prop} {J : Int32 → Int32 → Int32 → Int32 → Int32 → Int32 → Int32 → Int32 → Int32 → Int32 → Int32 → Int64 → Int32 → Int32 → Int32 → Int32 → Int32 → Int32 → (Nat → Int32) → (Nat → Int32) → (Nat → Int32) → (Nat → Int32) → (Nat → Int32) → (Nat → Int32) → (Nat → Int32) → (Nat → Int32) → (Nat → Int32) → (Nat → Int32) → (Nat → Int32) → (Nat → Int32) → (Nat → Int32) → (Nat → Int32) → (Nat → Int32) → (Nat → Int32) → (Nat → Int32) → (Nat → Int32) → (Nat → Int64) → (Nat → Int64) → (Nat → Int64) → (Nat → Int64) → (Nat → Int64) → (Nat → Int32) → (Nat → Int32) → (Nat → Int32) → (Nat → Int64) → (Nat → Int64) → (Nat → Int32) → (Nat → Int32) → (Nat → Int64) → (Nat → Int32) → (Nat → Int32) → (Nat → Int32) → (Nat → Int32) → (Nat → Int32) → (Nat → Int64) → Prop} {N i : Nat} {r : Nat → Nat} {Q : Prop} (TT : tm_T N kd ka kb up op) (C : ty_C N kd ka kb up op sh r) (hcl : ∀ s, s < 3 * N → cl s = nI (r s)) (RT : rg_T N kd op sh r rg)
    (hbd : ∀ n, n < N → kd n = 1 → ∃ f, bn_B kd ka kb up n (ka n) f ∧ bd n = nI f)
    (K : ∀ gw' ra' ef' vi' la' sn', xe_I N kd ka kb up op sh r ra0 ef0 vi0 la0 sn0 ra' ef' vi' la' sn' gw' → (gw' = 0 → (Q ∧ ∀ n, n < N → xc_V kd ka kb up r sn0 vi0 n) ∧ ∀ n, n < N → xc_E N kd up op sh r ra0 ef0 vi0 la0 n) → J (nI (i + 1)) ml fl (nI N) pc ifd wt rc gw' ec tp vl rm ls sp md hld pk kd ka kb op up bd pn sk f1 f2 lk sh cl wa wb se rg hm ra' ef' vi' la' sn' qn qr qe qf qs al enn env enx frn fre frs frm frf) :
    ∀ (d n : Nat) (gw : Int32) (ra ef vi la sn : Nat → Int64), xe_I N kd ka kb up op sh r ra0 ef0 vi0 la0 sn0 ra ef vi la sn gw → (gw = 0 → Q ∧ ∀ m, m < n → xc_V kd ka kb up r sn0 vi0 m) → n ≤ N → N + 1 ≤ d + n →
      wX_solveEffects_51 post J (nI i) d (nI n) ml fl (nI N) pc ifd wt rc gw ec tp vl rm ls sp md hld pk kd ka kb op up bd pn sk f1 f2 lk sh cl wa wb se rg hm ra ef vi la sn qn qr qe qf qs al enn env enx frn fre frs frm frf := by
  have hN := TT.1
  intro d
  induction d with
  | zero => intro n gw ra ef vi la sn I h hn hd; omega
  | succ d ih =>
    intro n gw ra ef vi la sn I h hn hd
    refine pk_le N n (fun z => ?_) (fun z => ?_)
    · have e : n = N := by omega
      subst e
      exact ⟨n + 1, xh_72 (Q := Q ∧ ∀ m, m < n → xc_V kd ka kb up r sn0 vi0 m) TT C hcl RT K (n + 1) 0 gw ra ef vi la sn I (fun g => ⟨h g, fun m hm => absurd hm (by omega)⟩) (by omega) (by omega)⟩
    · refine xg_vi TT C hcl hbd z rfl I (fun gw' vi' I' g' V => nm_r (e' := nI (n + 1)) (nI_1 n) ?_)
      refine ih (n + 1) gw' ra ef vi' la sn I' (fun g => ⟨(h (g' g)).1, fun m hm => ?_⟩) (by omega) (by omega)
      rcases Classical.em (m = n) with w | w
      · subst w
        rcases I'.2.2 with ⟨-, e1, e2, e3, e4, e5⟩ | ⟨e, -⟩
        · rw [e3, e5] at V
          exact V
        · exact absurd (g.symm.trans e) (by decide)
      · exact (h (g' g)).2 m (by omega)
theorem xh_28 {post : SX → Prop} {J : Int32 → Int32 → Int32 → Int32 → Int32 → Int32 → Int32 → Int32 → Int32 → Int32 → Int32 → Int64 → Int32 → Int32 → Int32 → Int32 → Int32 → Int32 → (Nat → Int32) → (Nat → Int32) → (Nat → Int32) → (Nat → Int32) → (Nat → Int32) → (Nat → Int32) → (Nat → Int32) → (Nat → Int32) → (Nat → Int32) → (Nat → Int32) → (Nat → Int32) → (Nat → Int32) → (Nat → Int32) → (Nat → Int32) → (Nat → Int32) → (Nat → Int32) → (Nat → Int32) → (Nat → Int32) → (Nat → Int64) → (Nat → Int64) → (Nat → Int64) → (Nat → Int64) → (Nat → Int64) → (Nat → Int32) → (Nat → Int32) → (Nat → Int32) → (Nat → Int64) → (Nat → Int64) → (Nat → Int32) → (Nat → Int32) → (Nat → Int64) → (Nat → Int32) → (Nat → Int32) → (Nat → Int32) → (Nat → Int32) → (Nat → Int32) → (Nat → Int64) → Prop} {N i : Nat} {r : Nat → Nat} (TT : tm_T N kd ka kb up op) (hsk : ∀ n s k p q, n < N → fo_n kd op n s k p q → sk s = nI k ∧ f1 s = nI p ∧ f2 s = nI q) (C : ty_C N kd ka kb up op sh r) (hcl : ∀ s, s < 3 * N → cl s = nI (r s)) (RT : rg_T N kd op sh r rg)
    (hbd : ∀ n, n < N → kd n = 1 → ∃ f, bn_B kd ka kb up n (ka n) f ∧ bd n = nI f)
    (K : ∀ gw' ra' ef' vi' la' sn', xe_I N kd ka kb up op sh r ra0 ef0 vi0 la0 sn0 ra' ef' vi' la' sn' gw' → (gw' = 0 → xe_K N kd ka kb up op sh r ra0 ef0 vi0 la0 sn0) → J (nI (i + 1)) ml fl (nI N) pc ifd wt rc gw' ec tp vl rm ls sp md hld pk kd ka kb op up bd pn sk f1 f2 lk sh cl wa wb se rg hm ra' ef' vi' la' sn' qn qr qe qf qs al enn env enx frn fre frs frm frf) :
    ∀ (d s : Nat) (gw : Int32) (ra ef vi la sn : Nat → Int64), xe_I N kd ka kb up op sh r ra0 ef0 vi0 la0 sn0 ra ef vi la sn gw → (gw = 0 → ∀ t, t < s → xc_S N kd op sh r sn0 la0 t) → s ≤ 3 * N → 3 * N + 1 ≤ d + s →
      wX_solveEffects_28 post J (nI i) d (nI s) ml fl (nI N) pc ifd wt rc gw ec tp vl rm ls sp md hld pk kd ka kb op up bd pn sk f1 f2 lk sh cl wa wb se rg hm ra ef vi la sn qn qr qe qf qs al enn env enx frn fre frs frm frf := by
  have hN := TT.1
  intro d
  induction d with
  | zero => intro s gw ra ef vi la sn I h hn hd; omega
  | succ d ih =>
    intro s gw ra ef vi la sn I h hs hd
    refine pk_le (3 * N) s (fun z => ?_) (fun z => ?_) (pk_mul 3 N)
    · have e : s = 3 * N := by omega
      subst e
      exact ⟨N + 1, xh_51 (Q := ∀ t, t < 3 * N → xc_S N kd op sh r sn0 la0 t) TT C hcl RT hbd (fun gw' ra' ef' vi' la' sn' I' h' => K gw' ra' ef' vi' la' sn' I' (fun g => ⟨(h' g).1.1, (h' g).1.2, (h' g).2⟩)) (N + 1) 0 gw ra ef vi la sn I (fun g => ⟨h g, fun m hm => absurd hm (by omega)⟩) (by omega) (by omega)⟩
    · refine xg_sn TT hsk C hcl RT z rfl I (fun gw' sn' I' h' => nm_r (e' := nI (s + 1)) (nI_1 s) ?_)
      refine ih (s + 1) gw' ra ef vi la sn' I' (fun g t ht => ?_) (by omega) (by omega)
      rcases Classical.em (t = s) with w | w
      · subst w
        have q := (h' g).2
        rcases I'.2.2 with ⟨-, e1, e2, e3, e4, e5⟩ | ⟨e, -⟩
        · rw [e4, e5] at q
          exact q
        · exact absurd (g.symm.trans e) (by decide)
      · exact h (h' g).1 t (by omega)
theorem xh_7 {post : SX → Prop} {N : Nat} {r : Nat → Nat} (TT : tm_T N kd ka kb up op) (hsk : ∀ n s k p q, n < N → fo_n kd op n s k p q → sk s = nI k ∧ f1 s = nI p ∧ f2 s = nI q) (C : ty_C N kd ka kb up op sh r) (hcl : ∀ s, s < 3 * N → cl s = nI (r s)) (RT : rg_T N kd op sh r rg)
    (hbd : ∀ n, n < N → kd n = 1 → ∃ f, bn_B kd ka kb up n (ka n) f ∧ bd n = nI f)
    (K : ∀ gw' ra' ef' vi' la' sn', xe_S N kd ka kb up op sh r ra' ef' vi' la' sn' → xe_K N kd ka kb up op sh r ra' ef' vi' la' sn' → post (ml, fl, nI N, pc, ifd, wt, rc, gw', ec, tp, vl, rm, ls, sp, md, hld, pk, kd, ka, kb, op, up, bd, pn, sk, f1, f2, lk, sh, cl, wa, wb, se, rg, hm, ra', ef', vi', la', sn', qn, qr, qe, qf, qs, al, enn, env, enx, frn, fre, frs, frm, frf)) :
    ∀ (d i : Nat) (gw : Int32) (ra ef vi la sn : Nat → Int64), xe_S N kd ka kb up op sh r ra ef vi la sn → ((gw = 0 ∧ xe_K N kd ka kb up op sh r ra ef vi la sn) ∨ (gw = 1 ∧ i ≤ xe_N N kd op sh r ra ef vi la sn)) → i ≤ 8192 → 8193 ≤ d + i →
      wX_solveEffects_7 post d (nI i) ml fl (nI N) pc ifd wt rc gw ec tp vl rm ls sp md hld pk kd ka kb op up bd pn sk f1 f2 lk sh cl wa wb se rg hm ra ef vi la sn qn qr qe qf qs al enn env enx frn fre frs frm frf := by
  intro d
  induction d with
  | zero => intro i gw ra ef vi la sn S h hi hd; omega
  | succ d ih =>
    intro i gw ra ef vi la sn S h hi hd
    have bnd : xe_N N kd op sh r ra ef vi la sn ≤ 5120 := cn_le _ _
    refine pk_le 8192 i (fun z => ?_) (fun z => ?_)
    · rcases h with ⟨-, h⟩ | ⟨-, h⟩
      · exact K gw ra ef vi la sn S h
      · omega
    · rcases h with ⟨rfl, h⟩ | ⟨rfl, h⟩
      · exact br_t rfl (K 0 ra ef vi la sn S h)
      · refine br_f (by decide) ⟨3 * N + 1, xh_28 (ra0 := ra) (ef0 := ef) (vi0 := vi) (la0 := la) (sn0 := sn) TT hsk C hcl RT hbd (fun gw' ra' ef' vi' la' sn' I' h' => ?_) (3 * N + 1) 0 0 ra ef vi la sn ⟨S, xe_Mr, Or.inl ⟨rfl, rfl, rfl, rfl, rfl, rfl⟩⟩ (fun _ t ht => absurd ht (by omega)) (by omega) (by omega)⟩
        refine ih (i + 1) gw' ra' ef' vi' la' sn' I'.1 ?_ (by omega) (by omega)
        rcases I'.2.2 with ⟨g, e1, e2, e3, e4, e5⟩ | ⟨g, X⟩
        · subst e1 e2 e3 e4 e5
          exact Or.inl ⟨g, h' g⟩
        · have := xe_lt TT C I'.1 I'.2.1 X
          exact Or.inr ⟨g, by omega⟩
theorem xh_all {post : SX → Prop} {N : Nat} {r : Nat → Nat} (TT : tm_T N kd ka kb up op) (hsk : ∀ n s k p q, n < N → fo_n kd op n s k p q → sk s = nI k ∧ f1 s = nI p ∧ f2 s = nI q) (C : ty_C N kd ka kb up op sh r) (hcl : ∀ s, s < 3 * N → cl s = nI (r s)) (RT : rg_T N kd op sh r rg)
    (hbd : ∀ n, n < N → kd n = 1 → ∃ f, bn_B kd ka kb up n (ka n) f ∧ bd n = nI f) (Z1 : ∀ n, n < N → ra n = 0 ∧ ef n = 0 ∧ vi n = 0) (Z2 : ∀ s, s < 3 * N → la s = 0 ∧ sn s = 0)
    (K : ∀ gw' ra' ef' vi' la' sn', xe_S N kd ka kb up op sh r ra' ef' vi' la' sn' → xe_K N kd ka kb up op sh r ra' ef' vi' la' sn' → post (ml, fl, nI N, pc, ifd, wt, rc, gw', ec, tp, vl, rm, ls, sp, md, hld, pk, kd, ka, kb, op, up, bd, pn, sk, f1, f2, lk, sh, cl, wa, wb, se, rg, hm, ra', ef', vi', la', sn', qn, qr, qe, qf, qs, al, enn, env, enx, frn, fre, frs, frm, frf)) :
    wpX_solveEffects post (ml, fl, nI N, pc, ifd, wt, rc, gw, ec, tp, vl, rm, ls, sp, md, hld, pk, kd, ka, kb, op, up, bd, pn, sk, f1, f2, lk, sh, cl, wa, wb, se, rg, hm, ra, ef, vi, la, sn, qn, qr, qe, qf, qs, al, enn, env, enx, frn, fre, frs, frm, frf) := by
  refine ⟨8193, xh_7 TT hsk C hcl RT hbd K 8193 0 1 ra ef vi la sn ⟨fun n hn => ?_, fun s hs _ => ?_, fun n hn => ⟨fun j q => ?_, fun j q => ?_⟩⟩ (Or.inr ⟨rfl, by omega⟩) (by omega) (by omega)⟩
  · rw [(Z1 n hn).1, (Z1 n hn).2.1, (Z1 n hn).2.2]
    exact ⟨xw_0, xw_0, xw_0⟩
  · rw [(Z2 s hs).1, (Z2 s hs).2]
    exact ⟨xw_0, xw_0⟩
  · rw [(Z1 n hn).1, tb_0] at q
    exact absurd q (by decide)
  · rw [(Z1 n hn).2.1, tb_0] at q
    exact absurd q (by decide)
theorem xh_24 {post : SX → Prop} {J : Int32 → (Nat → Int32) → (Nat → Int32) → (Nat → Int32) → (Nat → Int32) → (Nat → Int32) → (Nat → Int32) → (Nat → Int32) → (Nat → Int32) → (Nat → Int32) → (Nat → Int32) → (Nat → Int32) → (Nat → Int32) → (Nat → Int32) → (Nat → Int32) → (Nat → Int32) → (Nat → Int32) → (Nat → Int32) → (Nat → Int32) → (Nat → Int64) → (Nat → Int64) → (Nat → Int64) → (Nat → Int64) → (Nat → Int64) → (Nat → Int32) → (Nat → Int32) → (Nat → Int32) → (Nat → Int64) → (Nat → Int64) → (Nat → Int32) → (Nat → Int32) → (Nat → Int64) → (Nat → Int32) → (Nat → Int32) → (Nat → Int32) → (Nat → Int32) → (Nat → Int32) → (Nat → Int64) → Prop} {N u : Nat} (hN : N ≤ 32) (hu : u < 32)
    (K : ∀ hm', hm_S 0 N (fun n => tb (ra n) u = true ∧ tb (vi n) u = false) (hm' u) → (∀ u', u' ≠ u → hm' u' = hm u') → J (nI (u + 1)) kd ka kb op up bd pn sk f1 f2 lk sh cl wa wb se rg hm' ra ef vi la sn qn qr qe qf qs al enn env enx frn fre frs frm frf) :
    ∀ (d m : Nat) (hm2 : Nat → Int32), hm_S m N (fun n => tb (ra n) u = true ∧ tb (vi n) u = false) (hm2 u) → (∀ u', u' ≠ u → hm2 u' = hm u') → m ≤ N → m < d → wX_findHomes_24 post J (nI u) ml fl (nI N) pc ifd wt rc gw ec tp vl rm ls sp md hld pk d (dn_I m) kd ka kb op up bd pn sk f1 f2 lk sh cl wa wb se rg hm2 ra ef vi la sn qn qr qe qf qs al enn env enx frn fre frs frm frf := by
  intro d
  induction d with
  | zero => intro m hm2 h1 h2 hm hd; omega
  | succ d ih =>
    intro m hm2 h1 h2 hm hd
    rcases m with _ | m
    · rw [dn_0]
      exact br_t (by decide) (nm_r (e' := nI (u + 1)) (nI_1 u) (K hm2 h1 h2))
    · rw [dn_s]
      have v : vp_in (nI m) 32 := pk_in m 32 (by omega)
      refine br_f (nI_pos (by omega)) ⟨v, v, ?_⟩
      rw [nI_clamp (n := m) (by omega)]
      have key : ((((ra m) &&& ((vi m) ^^^ (-1))) >>> ((nI u).toInt64 &&& 63)) &&& 1) = 0 ↔ ¬ (tb (ra m) u = true ∧ tb (vi m) u = false) := by
        rw [tb_test (by omega), tb_and, tb_not (by omega)]
        cases tb (ra m) u <;> cases tb (vi m) u <;> simp
      rcases Classical.em (tb (ra m) u = true ∧ tb (vi m) u = false) with H | H
      · refine br_f (fun z => key.mp z H) ⟨pk_in u 32 hu, nm_r (e' := upd hm2 u (nI m)) (by rw [nI_clamp (by omega)]) (nm_r (e' := dn_I m) rfl ?_)⟩
        refine ih m _ ?_ (fun u' hu' => by rw [pk_un hu']; exact h2 u' hu') (by omega) (by omega)
        rw [pk_us]
        exact hm_y h1 (by omega) H
      · exact br_t (key.mpr H) (nm_r (e' := dn_I m) rfl (ih m hm2 (hm_n h1 H) h2 (by omega) (by omega)))
theorem xh_2 {post : SX → Prop} {N R : Nat} (hN : N ≤ 32) (hR : R ≤ 32)
    (K : ∀ hm', (∀ u, u < R → hm_S 0 N (fun n => tb (ra n) u = true ∧ tb (vi n) u = false) (hm' u)) → post (ml, fl, nI N, pc, ifd, wt, nI R, gw, ec, tp, vl, rm, ls, sp, md, hld, pk, kd, ka, kb, op, up, bd, pn, sk, f1, f2, lk, sh, cl, wa, wb, se, rg, hm', ra, ef, vi, la, sn, qn, qr, qe, qf, qs, al, enn, env, enx, frn, fre, frs, frm, frf)) :
    ∀ (d u : Nat) (hm : Nat → Int32), (∀ u', u' < u → hm_S 0 N (fun n => tb (ra n) u' = true ∧ tb (vi n) u' = false) (hm u')) → u ≤ R → R + 1 ≤ d + u → wX_findHomes_2 post ml fl (nI N) pc ifd wt (nI R) gw ec tp vl rm ls sp md hld pk d (nI u) kd ka kb op up bd pn sk f1 f2 lk sh cl wa wb se rg hm ra ef vi la sn qn qr qe qf qs al enn env enx frn fre frs frm frf := by
  intro d
  induction d with
  | zero => intro u hm h hu hd; omega
  | succ d ih =>
    intro u hm h hu hd
    refine pk_le R u (fun z => ?_) (fun z => ⟨pk_in u 32 (by omega), nm_r (e' := upd hm u (-1)) (by rw [nI_clamp (by omega)]) (nm_r (e' := dn_I N) dn_c ⟨N + 1, ?_⟩)⟩)
    · have e : u = R := by omega
      subst e
      exact K hm h
    · refine xh_24 hN (by omega) (fun hm' h1 h2 => ?_) (N + 1) N (upd hm u (-1)) (Or.inl ⟨pk_us, fun n a b => absurd b (by omega)⟩) (fun u' _ => rfl) (by omega) (by omega)
      refine ih (u + 1) hm' (fun u' hu' => ?_) (by omega) (by omega)
      rcases Classical.em (u' = u) with w | w
      · subst w; exact h1
      · rw [h2 u' w, pk_un w]; exact h u' (by omega)
end
end
section
section
variable {N : Nat} {kd ka kb up op sh sh' : Nat → Int32} {r r' : Nat → Nat}
/-- finiteness does not hang on how the roots were chosen -/
theorem fn_tr (TT : tm_T N kd ka kb up op) (C : ty_C N kd ka kb up op sh r) (C' : ty_C N kd ka kb up op sh' r') (h : ∀ s, s < 3 * N → r s = s → fn_F N kd op sh r s) {s' : Nat} (hs' : s' < 3 * N) (hr' : r' s' = s') : fn_F N kd op sh' r' s' := by
  have hN := TT.1
  have same : ∀ {s t}, s < 3 * N → t < 3 * N → (r s = r t ↔ r' s = r' t) := fun a b => (ty_le TT C a b).trans (ty_le TT C' a b).symm
  have key := h (r s') (C.1 s' hs').1 (C.1 s' hs').2
  refine key (fun x => ∀ s, s < 3 * N → r' s = s → r s = x → fn_F N kd op sh' r' s) (fun x hx hrx => ⟨fun nb s hs hrs e => ?_, fun k a b G hk ha hb s hs hrs e => ?_⟩) s' hs' hr' rfl
  · refine (fn_c s hs hrs).1 fun ⟨k, a, b, ⟨m, t, p, q, h1, h2, h3, h4, _, _⟩, hk⟩ => ?_
    have bt := fo_b TT h1 h2
    have B := bx_f TT C h1 h2 hk
    rw [(same (by omega) hs).mpr (by rw [h4, hrs]), e] at B
    exact nb B
  · obtain ⟨m, t, p, q, h1, h2, h3, h4, ea, eb⟩ := G
    have bt := fo_b TT h1 h2
    obtain ⟨m', t', p', q', g1, g2, g3, g4, g5⟩ := C'.2.2.2.1 m t k p q h1 h2
    have bt' := fo_b TT g1 g2
    have et : r' t = s := by
      have := (same (by omega) hs).mp (h4.trans e.symm)
      rw [hrs] at this
      exact this
    rw [et] at g3 g4
    have G' : tg_G N kd op sh' r' s k (r' p') (r' q') := ⟨m', t', p', q', g1, g2, g3, g4, rfl, rfl⟩
    have cp := C'.1 p' (by omega)
    have cq := C'.1 q' (by omega)
    refine (fn_c s hs hrs).2 k _ _ G' hk (ha _ cp.1 cp.2 ?_) (hb _ cq.1 cq.2 ?_)
    · rw [ea]
      exact (same cp.1 (by omega)).mpr (by rw [cp.2]; exact (g5 hk).1.symm)
    · rw [eb]
      exact (same cq.1 (by omega)).mpr (by rw [cq.2]; exact (g5 hk).2.symm)
end
/-- all that the component knows when infer succeeded -/
def xi_K (N : Nat) (kd ka kb up op sk f1 f2 sh cl rg hm : Nat → Int32) (ra ef vi la sn : Nat → Int64) (r : Nat → Nat) : Prop :=
  ty_C N kd ka kb up op sh r ∧ (∀ n s k p q, n < N → fo_n kd op n s k p q → sk s = nI k ∧ f1 s = nI p ∧ f2 s = nI q) ∧ (∀ s, s < 3 * N → cl s = nI (r s)) ∧ rg_T N kd op sh r rg ∧
  xe_S N kd ka kb up op sh r ra ef vi la sn ∧ xe_K N kd ka kb up op sh r ra ef vi la sn ∧ (∀ u, u < rg_J N kd op sh r (3 * N) → hm_S 0 N (fun n => tb (ra n) u = true ∧ tb (vi n) u = false) (hm u))
section
variable {ml fl cnt pc ifd wt rc gw ec tp : Int32} {vl : Int64} {rm ls sp md hld pk : Int32} {kd ka kb op up bd pn sk f1 f2 lk sh cl wa wb se rg hm : Nat → Int32} {ra ef vi la sn : Nat → Int64} {qn qr qe : Nat → Int32} {qf qs : Nat → Int64} {al enn : Nat → Int32} {env : Nat → Int64} {enx frn fre frs frm : Nat → Int32} {frf : Nat → Int64}
theorem xi_all {post : Int32 → SX → Prop} {N c : Nat} (TT : tm_T N kd ka kb up op) (hc : c < 2 ^ 31)
    (K1 : c ≠ 1 → post 1 (ml, fl, nI N, nI c, ifd, wt, rc, gw, ec, tp, vl, rm, ls, sp, md, hld, pk, kd, ka, kb, op, up, bd, pn, sk, f1, f2, lk, sh, cl, wa, wb, se, rg, hm, ra, ef, vi, la, sn, qn, qr, qe, qf, qs, al, enn, env, enx, frn, fre, frs, frm, frf))
    (K2 : c = 1 → (∃ v, v < N ∧ kd v = 1 ∧ ∀ f, ¬ bn_B kd ka kb up v (ka v) f) → ∀ bd', post 2 (ml, fl, nI N, nI c, ifd, wt, rc, gw, ec, tp, vl, rm, ls, sp, md, hld, pk, kd, ka, kb, op, up, bd', pn, sk, f1, f2, lk, sh, cl, wa, wb, se, rg, hm, ra, ef, vi, la, sn, qn, qr, qe, qf, qs, al, enn, env, enx, frn, fre, frs, frm, frf))
    (K3 : c = 1 → (∀ n, n < N → kd n = 1 → ∃ f, bn_B kd ka kb up n (ka n) f) → le_X N kd ka kb up op → ∀ bd' sk' f1' f2' lk' sh' wa' wb' wt', post 3 (ml, fl, nI N, nI c, ifd, wt', rc, gw, ec, tp, vl, rm, ls, sp, md, hld, pk, kd, ka, kb, op, up, bd', pn, sk', f1', f2', lk', sh', cl, wa', wb', se, rg, hm, ra, ef, vi, la, sn, qn, qr, qe, qf, qs, al, enn, env, enx, frn, fre, frs, frm, frf))
    (K4 : c = 1 → (∀ n, n < N → kd n = 1 → ∃ f, bn_B kd ka kb up n (ka n) f) → ∀ sh' r, ty_C N kd ka kb up op sh' r → (∃ s, s < 3 * N ∧ r s = s ∧ ¬ fn_F N kd op sh' r s) → ∀ bd' sk' f1' f2' lk' wa' wb' wt' cl' se', post 4 (ml, fl, nI N, nI c, ifd, wt', rc, gw, ec, tp, vl, rm, ls, sp, md, hld, pk, kd, ka, kb, op, up, bd', pn, sk', f1', f2', lk', sh', cl', wa', wb', se', rg, hm, ra, ef, vi, la, sn, qn, qr, qe, qf, qs, al, enn, env, enx, frn, fre, frs, frm, frf))
    (K0 : c = 1 → (∀ n, n < N → kd n = 1 → ∃ f, bn_B kd ka kb up n (ka n) f) → ∀ sk' f1' f2' sh' cl' rg' hm' ra' ef' vi' la' sn' r, xi_K N kd ka kb up op sk' f1' f2' sh' cl' rg' hm' ra' ef' vi' la' sn' r → (∀ s, s < 3 * N → r s = s → fn_F N kd op sh' r s) → ∀ bd' lk' wa' wb' wt' se' rc' gw', post 0 (ml, fl, nI N, nI c, 1, wt', rc', gw', ec, tp, vl, rm, -1, sp, md, hld, pk, kd, ka, kb, op, up, bd', pn, sk', f1', f2', lk', sh', cl', wa', wb', se', rg', hm', ra', ef', vi', la', sn', qn, qr, qe, qf, qs, al, enn, env, enx, frn, fre, frs, frm, frf)) :
    wpX_infer post (ml, fl, nI N, nI c, ifd, wt, rc, gw, ec, tp, vl, rm, ls, sp, md, hld, pk, kd, ka, kb, op, up, bd, pn, sk, f1, f2, lk, sh, cl, wa, wb, se, rg, hm, ra, ef, vi, la, sn, qn, qr, qe, qf, qs, al, enn, env, enx, frn, fre, frs, frm, frf) := by
  have hN := TT.1
  refine pk_eq c 1 (fun e1 => ?_) (fun e1 => K1 e1)
  refine xb_all TT (fun bd' h => br_t rfl (K2 e1 h bd')) (fun bd' hbd => br_f (by decide) ?_)
  have hb : ∀ n, n < N → kd n = 1 → ∃ f, bn_B kd ka kb up n (ka n) f := fun n a b => (hbd n a b).elim fun f h => ⟨f, h.1⟩
  refine xl_all TT (fun sk' f1' f2' sh1 lk1 r0 k0 Q hsk => ?_)
  refine xn_all TT hsk hbd Q (fun lk' sh' wa' wb' wt' X => br_t rfl (K3 e1 hb X bd' sk' f1' f2' lk' sh' wa' wb' wt')) (fun lk' sh' wa' wb' wt' cl' r C hcl => br_f (by decide) ?_)
  refine xc_all TT hsk C hcl (fun se' hf => br_f (by decide) ?_) (fun se' hf => br_t rfl (K4 e1 hb sh' r C hf bd' sk' f1' f2' lk' wa' wb' wt' cl' se'))
  refine xr_all TT hsk C hcl (fun rg' ra1 ef1 vi1 la1 sn1 RT Z1 Z2 => ?_)
  refine xh_all TT hsk C hcl RT hbd Z1 Z2 (fun gw' ra' ef' vi' la' sn' S E => ?_)
  have rl := rg_le TT C
  refine ⟨rg_J N kd op sh' r (3 * N) + 1, xh_2 hN (by omega) (fun hm' H => ?_) _ 0 hm (fun u hu => absurd hu (by omega)) (by omega) (by omega)⟩
  exact K0 e1 hb sk' f1' f2' sh' cl' rg' hm' ra' ef' vi' la' sn' r ⟨C, hsk, hcl, RT, S, E, H⟩ hf bd' lk' wa' wb' wt' se' _ gw'
end
end
section
/-! the relation -/
def rl_N (N c L F : Nat) (ml fl cnt pc : Int32) (kd ka kb up op pn : Nat → Int32) : Prop :=
  cnt = nI N ∧ pc = nI c ∧ ml = nI L ∧ fl = nI F ∧ 8 ≤ L ∧ L ≤ 32 ∧ N ≤ L ∧ 16 ≤ F ∧ F ≤ 240 ∧ c ≤ N ∧ tm_T N kd ka kb up op ∧ pd_I N up pn c
/-- inferred: the two sides know the same -/
def in_G (N : Nat) (kd ka kb up op sk sh cl rg hm : Nat → Int32) (ra la : Nat → Int64) (ow o1 o2 yc ck p1 p2 yh fa : Nat → Int32) (r c : Nat → Nat) : Prop :=
  ty_C N kd ka kb up op sh r ∧ (∀ n s k p q, n < N → fo_n kd op n s k p q → sk s = nI k) ∧ (∀ s, s < 3 * N → cl s = nI (r s)) ∧ rg_T N kd op sh r rg ∧
  yt_C N kd ka kb up op ow o1 o2 yc c ∧ yk_I N kd op c 96 ck p1 p2 ∧ (∀ j, j < 36864 → fa j = 0 ∨ fa j = 1) ∧
  (∀ n ρ, n < N → tg_B N kd op sh r ρ → (tb (ra n) (rg_J N kd op sh r ρ) = true ↔ fa (ix_f 0 n (c (ys_s ρ))) = 1)) ∧
  (∀ σ ρ, σ < 3 * N → r σ = σ → tg_B N kd op sh r ρ → (tb (la σ) (rg_J N kd op sh r ρ) = true ↔ fa (ix_f 2 (c (ys_s σ)) (c (ys_s ρ))) = 1)) ∧
  (∀ ρ, tg_B N kd op sh r ρ → hm (rg_J N kd op sh r ρ) = yh (c (ys_s ρ))) ∧
  (∀ n, n < N → kd n = 1 → ∃ f, bn_B kd ka kb up n (ka n) f) ∧ (∀ s, s < 3 * N → r s = s → fn_F N kd op sh r s)
def in_F (N : Nat) (kd ka kb up op sk sh cl rg hm : Nat → Int32) (ra la : Nat → Int64) (ow o1 o2 yc ck p1 p2 yh fa : Nat → Int32) : Prop := ∃ r c, in_G N kd ka kb up op sk sh cl rg hm ra la ow o1 o2 yc ck p1 p2 yh fa r c
theorem in_mk {N : Nat} {kd ka kb up op sk f1 f2 sh cl rg hm ow o1 o2 yc ck p1 p2 yh fa : Nat → Int32} {ra ef vi la sn : Nat → Int64} {r c : Nat → Nat} (TT : tm_T N kd ka kb up op) (X : xi_K N kd ka kb up op sk f1 f2 sh cl rg hm ra ef vi la sn r) (Y : yi_K N kd ka kb up op sh ow o1 o2 yc ck p1 p2 yh fa r c)
    (hbd : ∀ n, n < N → kd n = 1 → ∃ f, bn_B kd ka kb up n (ka n) f) (hf : ∀ s, s < 3 * N → r s = s → fn_F N kd op sh r s) : in_G N kd ka kb up op sk sh cl rg hm ra la ow o1 o2 yc ck p1 p2 yh fa r c := by
  have hN := TT.1
  obtain ⟨C, hsk, hcl, RT, S, E, H⟩ := X
  obtain ⟨YC, YK, h01, YS, YE, YH⟩ := Y
  have fromY : ∀ {w x ρ}, w < 4 → x < 96 → tg_B N kd op sh r ρ → fa (ix_f w x (c (ys_s ρ))) = 1 → ∃ x', yx_X N r c w x x' ∧ ef_E N kd ka kb up op sh r w x' ρ := by
    intro w x ρ hw hx B h
    have hρ := tg_Bb TT C B
    obtain ⟨ρ', x', B', e1, e2, e3⟩ := YS w x _ hw hx (YC.1 _ (ys_lt (by omega))).1 h
    have hρ' := tg_Bb TT C B'
    have := xy_rt TT C YC hρ'.1 hρ.1 hρ'.2 hρ.2 e1
    subst this
    exact ⟨x', e2, e3⟩
  have fromX : ∀ {w : Int64} {A : Nat → Prop} {ρ}, tg_B N kd op sh r ρ → xw_W N kd op sh r w A → tb w (rg_J N kd op sh r ρ) = true → A ρ := by
    intro w A ρ B W h
    obtain ⟨ρ', B', e, q⟩ := W _ h
    have := rg_in B' B e
    subst this
    exact q
  have raw : ∀ n ρ, n < N → tg_B N kd op sh r ρ → (tb (ra n) (rg_J N kd op sh r ρ) = true ↔ fa (ix_f 0 n (c (ys_s ρ))) = 1) := by
    intro n ρ hn B
    refine ⟨fun h => YE 0 n ρ (fromX B (S.1 n hn).1 h), fun h => ?_⟩
    obtain ⟨x', e, q⟩ := fromY (by omega) (by omega) B h
    rcases e with ⟨-, rfl⟩ | ⟨e, -⟩
    · rcases xe_full TT C E q with ⟨-, -, z⟩ | ⟨z, -⟩ | ⟨z, -⟩ | ⟨z, -⟩
      · exact z
      all_goals omega
    · omega
  have vis : ∀ n ρ, n < N → tg_B N kd op sh r ρ → (tb (vi n) (rg_J N kd op sh r ρ) = true ↔ fa (ix_f 1 n (c (ys_s ρ))) = 1) := by
    intro n ρ hn B
    refine ⟨fun h => YE 1 n ρ (fromX B (S.1 n hn).2.2 h), fun h => ?_⟩
    obtain ⟨x', e, q⟩ := fromY (by omega) (by omega) B h
    rcases e with ⟨-, rfl⟩ | ⟨e, -⟩
    · rcases xe_full TT C E q with ⟨z, -⟩ | ⟨-, -, z⟩ | ⟨z, -⟩ | ⟨z, -⟩
      · omega
      · exact z
      all_goals omega
    · omega
  refine ⟨C, fun n s k p q hn f => (hsk n s k p q hn f).1, hcl, RT, YC, YK, h01, raw, fun σ ρ hσ rσ B => ⟨fun h => YE 2 σ ρ (fromX B (S.2.1 σ hσ rσ).2 h), fun h => ?_⟩, fun ρ B => ?_, hbd, hf⟩
  · obtain ⟨x', e, q⟩ := fromY (by omega) (YC.1 _ (ys_lt (by omega))).1 B h
    rcases e with ⟨e, -⟩ | ⟨-, e1, e2, e3⟩
    · omega
    · have := xy_rt TT C YC e1 hσ e2 rσ e3
      subst this
      rcases xe_full TT C E q with ⟨z, -⟩ | ⟨z, -⟩ | ⟨-, z⟩ | ⟨z, -⟩
      · omega
      · omega
      · exact z
      · omega
  · have hρ := tg_Bb TT C B
    have hu := (YC.1 _ (ys_lt (s := ρ) (by omega))).1
    refine hm_u (fun n hn => ?_) (H _ (rg_lt TT C B).1) (YH _ hu)
    rw [raw n ρ hn B]
    refine and_congr Iff.rfl ?_
    have v := vis n ρ hn B
    have i1 := ix_lt (w := 1) (x := n) (u := c (ys_s ρ)) (by omega) (by omega) hu
    rcases h01 _ i1 with z | z
    · constructor
      · intro _; exact z
      · intro _
        rcases hb : tb (vi n) (rg_J N kd op sh r ρ) with _ | _
        · rfl
        · exact absurd (z.symm.trans (v.mp hb)) (by decide)
    · constructor
      · intro q
        rw [v.mpr z] at q
        exact absurd q (by decide)
      · intro q
        exact absurd (q.symm.trans z) (by decide)
/-- a value, as the component writes it -/
def en_c (v b : Int32) : Int64 := if b = 0 then v.toInt64 &&& 4294967295 else 4294967296 + v.toInt64
def va_V (M : Nat) (v b : Int32) : Prop := b = 0 ∨ (b = 1 ∧ ∃ c, c < M ∧ v = nI c)
def ce_C (N M : Nat) (kd qn mkr cvl cis : Nat → Int32) (qf qs : Nat → Int64) : Prop := ∀ c, c < M → ∃ m, m < N ∧ (kd m = 2 ∨ kd m = 4) ∧ qn c = nI m ∧ mkr c = nI m ∧
  (kd m = 4 → qf c = en_c (cvl (c * 8)) (cis (c * 8)) ∧ qs c = en_c (cvl (c * 8 + 1)) (cis (c * 8 + 1)) ∧ va_V M (cvl (c * 8)) (cis (c * 8)) ∧ va_V M (cvl (c * 8 + 1)) (cis (c * 8 + 1)))
/-- a run has ended -/
def rn_F (N M : Nat) (ls md hld : Int32) (vl : Int64) (kd al qn mkr cvl cis vla icl : Nat → Int32) (qf qs : Nat → Int64) : Prop :=
  md = nI M ∧ M ≤ 240 ∧ (∀ c, c < M → al c = 0 ∨ al c = 1) ∧ hld = nI (cn (fun c => al c = 1) M) ∧ (ls = 0 → ce_C N M kd qn mkr cvl cis qf qs ∧ va_V M (vla 0) (icl 0) ∧ vl = en_c (vla 0) (icl 0))
def rl_F (ml fl cnt pc ifd ls md hld : Int32) (vl : Int64) (kd ka kb op up pn sk sh cl rg hm : Nat → Int32) (ra la : Nat → Int64) (qn : Nat → Int32) (qf qs : Nat → Int64) (al ow o1 o2 yc ck p1 p2 yh fa vla icl mkr cvl cis : Nat → Int32) : Prop :=
  ∃ N c L F, rl_N N c L F ml fl cnt pc kd ka kb up op pn ∧ (ifd = 0 ∨ (ifd = 1 ∧ c = 1 ∧ in_F N kd ka kb up op sk sh cl rg hm ra la ow o1 o2 yc ck p1 p2 yh fa)) ∧
    (ls = -1 ∨ (ifd = 1 ∧ (ls = 0 ∨ ls = 1 ∨ ls = 2) ∧ ∃ M, rn_F N M ls md hld vl kd al qn mkr cvl cis vla icl qf qs))
end
section
/-- the relation at the head of a turn -/
def i_Rel (_ : Nat) (u : SX) (v : SY) : Prop := ∃ (ml : Int32) (fl : Int32) (cnt : Int32) (pc : Int32) (ifd : Int32) (wt : Int32) (rc : Int32) (gw : Int32) (ec : Int32) (tp : Int32) (vl : Int64) (rm : Int32) (ls : Int32) (sp : Int32) (md : Int32) (hld : Int32) (pk : Int32) (kd : Nat → Int32) (ka : Nat → Int32) (kb : Nat → Int32) (op : Nat → Int32) (up : Nat → Int32) (bd : Nat → Int32) (pn : Nat → Int32) (sk : Nat → Int32) (f1 : Nat → Int32) (f2 : Nat → Int32) (lk : Nat → Int32) (sh : Nat → Int32) (cl : Nat → Int32) (wa : Nat → Int32) (wb : Nat → Int32) (se : Nat → Int32) (rg : Nat → Int32) (hm : Nat → Int32) (ra : Nat → Int64) (ef : Nat → Int64) (vi : Nat → Int64) (la : Nat → Int64) (sn : Nat → Int64) (qn : Nat → Int32) (qr : Nat → Int32) (qe : Nat → Int32) (qf : Nat → Int64) (qs : Nat → Int64) (al : Nat → Int32) (enn : Nat → Int32) (env : Nat → Int64) (enx : Nat → Int32) (frn : Nat → Int32) (fre : Nat → Int32) (frs : Nat → Int32) (frm : Nat → Int32) (frf : Nat → Int64) (fnd : Int32) (ow : Nat → Int32) (o1 : Nat → Int32) (o2 : Nat → Int32) (yc : Nat → Int32) (ck : Nat → Int32) (p1 : Nat → Int32) (p2 : Nat → Int32) (yh : Nat → Int32) (fi : Nat → Int32) (fa : Nat → Int32) (ynd : Nat → Int32) (clr : Nat → Int32) (mrk : Nat → Int32) (vla : Nat → Int32) (evl : Nat → Int32) (ndd : Nat → Int32) (icl : Nat → Int32) (ecl : Nat → Int32) (mkr : Nat → Int32) (cvl : Nat → Int32) (cis : Nat → Int32), rl_F ml fl cnt pc ifd ls md hld vl kd ka kb op up pn sk sh cl rg hm ra la qn qf qs al ow o1 o2 yc ck p1 p2 yh fa vla icl mkr cvl cis ∧ u = (ml, fl, cnt, pc, ifd, wt, rc, gw, ec, tp, vl, rm, ls, sp, md, hld, pk, kd, ka, kb, op, up, bd, pn, sk, f1, f2, lk, sh, cl, wa, wb, se, rg, hm, ra, ef, vi, la, sn, qn, qr, qe, qf, qs, al, enn, env, enx, frn, fre, frs, frm, frf) ∧ v = (ml, fl, cnt, ls, sp, md, pk, fnd, ifd, kd, ka, kb, up, ow, o1, o2, yc, ck, p1, p2, yh, fi, fa, ynd, clr, mrk, vla, evl, ndd, icl, ecl, mkr, cvl, al, cis, 36864)
theorem i_up {k : Nat} {u : SX} {v : SY} (h : i_Rel k u v) : i_Rel (k + 4) u v := h
section
variable {ml fl cnt pc ifd wt rc gw ec tp : Int32} {vl : Int64} {rm ls sp md hld pk : Int32} {kd ka kb op up bd pn sk f1 f2 lk sh cl wa wb se rg hm : Nat → Int32} {ra ef vi la sn : Nat → Int64} {qn qr qe : Nat → Int32} {qf qs : Nat → Int64} {al enn : Nat → Int32} {env : Nat → Int64} {enx frn fre frs frm : Nat → Int32} {frf : Nat → Int64} {fnd : Int32} {ow o1 o2 yc ck p1 p2 yh fi fa ynd clr mrk vla evl ndd icl ecl mkr cvl cis : Nat → Int32} {nf : Nat}
theorem zz_in {k : Nat} (h : rl_F ml fl cnt pc ifd ls md hld vl kd ka kb op up pn sk sh cl rg hm ra la qn qf qs al ow o1 o2 yc ck p1 p2 yh fa vla icl mkr cvl cis) : i_Rel k (ml, fl, cnt, pc, ifd, wt, rc, gw, ec, tp, vl, rm, ls, sp, md, hld, pk, kd, ka, kb, op, up, bd, pn, sk, f1, f2, lk, sh, cl, wa, wb, se, rg, hm, ra, ef, vi, la, sn, qn, qr, qe, qf, qs, al, enn, env, enx, frn, fre, frs, frm, frf) (ml, fl, cnt, ls, sp, md, pk, fnd, ifd, kd, ka, kb, up, ow, o1, o2, yc, ck, p1, p2, yh, fi, fa, ynd, clr, mrk, vla, evl, ndd, icl, ecl, mkr, cvl, al, cis, 36864) := ⟨ml, fl, cnt, pc, ifd, wt, rc, gw, ec, tp, vl, rm, ls, sp, md, hld, pk, kd, ka, kb, op, up, bd, pn, sk, f1, f2, lk, sh, cl, wa, wb, se, rg, hm, ra, ef, vi, la, sn, qn, qr, qe, qf, qs, al, enn, env, enx, frn, fre, frs, frm, frf, fnd, ow, o1, o2, yc, ck, p1, p2, yh, fi, fa, ynd, clr, mrk, vla, evl, ndd, icl, ecl, mkr, cvl, cis, h, rfl, rfl⟩
end
theorem zz_el {P : SX → SY → Prop} {k : Nat} {u : SX} {v : SY} (h : ∀ (ml : Int32) (fl : Int32) (cnt : Int32) (pc : Int32) (ifd : Int32) (wt : Int32) (rc : Int32) (gw : Int32) (ec : Int32) (tp : Int32) (vl : Int64) (rm : Int32) (ls : Int32) (sp : Int32) (md : Int32) (hld : Int32) (pk : Int32) (kd : Nat → Int32) (ka : Nat → Int32) (kb : Nat → Int32) (op : Nat → Int32) (up : Nat → Int32) (bd : Nat → Int32) (pn : Nat → Int32) (sk : Nat → Int32) (f1 : Nat → Int32) (f2 : Nat → Int32) (lk : Nat → Int32) (sh : Nat → Int32) (cl : Nat → Int32) (wa : Nat → Int32) (wb : Nat → Int32) (se : Nat → Int32) (rg : Nat → Int32) (hm : Nat → Int32) (ra : Nat → Int64) (ef : Nat → Int64) (vi : Nat → Int64) (la : Nat → Int64) (sn : Nat → Int64) (qn : Nat → Int32) (qr : Nat → Int32) (qe : Nat → Int32) (qf : Nat → Int64) (qs : Nat → Int64) (al : Nat → Int32) (enn : Nat → Int32) (env : Nat → Int64) (enx : Nat → Int32) (frn : Nat → Int32) (fre : Nat → Int32) (frs : Nat → Int32) (frm : Nat → Int32) (frf : Nat → Int64) (fnd : Int32) (ow : Nat → Int32) (o1 : Nat → Int32) (o2 : Nat → Int32) (yc : Nat → Int32) (ck : Nat → Int32) (p1 : Nat → Int32) (p2 : Nat → Int32) (yh : Nat → Int32) (fi : Nat → Int32) (fa : Nat → Int32) (ynd : Nat → Int32) (clr : Nat → Int32) (mrk : Nat → Int32) (vla : Nat → Int32) (evl : Nat → Int32) (ndd : Nat → Int32) (icl : Nat → Int32) (ecl : Nat → Int32) (mkr : Nat → Int32) (cvl : Nat → Int32) (cis : Nat → Int32), rl_F ml fl cnt pc ifd ls md hld vl kd ka kb op up pn sk sh cl rg hm ra la qn qf qs al ow o1 o2 yc ck p1 p2 yh fa vla icl mkr cvl cis → P (ml, fl, cnt, pc, ifd, wt, rc, gw, ec, tp, vl, rm, ls, sp, md, hld, pk, kd, ka, kb, op, up, bd, pn, sk, f1, f2, lk, sh, cl, wa, wb, se, rg, hm, ra, ef, vi, la, sn, qn, qr, qe, qf, qs, al, enn, env, enx, frn, fre, frs, frm, frf) (ml, fl, cnt, ls, sp, md, pk, fnd, ifd, kd, ka, kb, up, ow, o1, o2, yc, ck, p1, p2, yh, fi, fa, ynd, clr, mrk, vla, evl, ndd, icl, ecl, mkr, cvl, al, cis, 36864)) (I : i_Rel k u v) : P u v :=
  Exists.elim I fun ml h0 => Exists.elim h0 fun fl h1 => Exists.elim h1 fun cnt h2 => Exists.elim h2 fun pc h3 => Exists.elim h3 fun ifd h4 => Exists.elim h4 fun wt h5 => Exists.elim h5 fun rc h6 => Exists.elim h6 fun gw h7 => Exists.elim h7 fun ec h8 => Exists.elim h8 fun tp h9 => Exists.elim h9 fun vl h10 => Exists.elim h10 fun rm h11 => Exists.elim h11 fun ls h12 => Exists.elim h12 fun sp h13 => Exists.elim h13 fun md h14 => Exists.elim h14 fun hld h15 => Exists.elim h15 fun pk h16 => Exists.elim h16 fun kd h17 => Exists.elim h17 fun ka h18 => Exists.elim h18 fun kb h19 => Exists.elim h19 fun op h20 => Exists.elim h20 fun up h21 => Exists.elim h21 fun bd h22 => Exists.elim h22 fun pn h23 => Exists.elim h23 fun sk h24 => Exists.elim h24 fun f1 h25 => Exists.elim h25 fun f2 h26 => Exists.elim h26 fun lk h27 => Exists.elim h27 fun sh h28 => Exists.elim h28 fun cl h29 => Exists.elim h29 fun wa h30 => Exists.elim h30 fun wb h31 => Exists.elim h31 fun se h32 => Exists.elim h32 fun rg h33 => Exists.elim h33 fun hm h34 => Exists.elim h34 fun ra h35 => Exists.elim h35 fun ef h36 => Exists.elim h36 fun vi h37 => Exists.elim h37 fun la h38 => Exists.elim h38 fun sn h39 => Exists.elim h39 fun qn h40 => Exists.elim h40 fun qr h41 => Exists.elim h41 fun qe h42 => Exists.elim h42 fun qf h43 => Exists.elim h43 fun qs h44 => Exists.elim h44 fun al h45 => Exists.elim h45 fun enn h46 => Exists.elim h46 fun env h47 => Exists.elim h47 fun enx h48 => Exists.elim h48 fun frn h49 => Exists.elim h49 fun fre h50 => Exists.elim h50 fun frs h51 => Exists.elim h51 fun frm h52 => Exists.elim h52 fun frf h53 => Exists.elim h53 fun fnd h54 => Exists.elim h54 fun ow h55 => Exists.elim h55 fun o1 h56 => Exists.elim h56 fun o2 h57 => Exists.elim h57 fun yc h58 => Exists.elim h58 fun ck h59 => Exists.elim h59 fun p1 h60 => Exists.elim h60 fun p2 h61 => Exists.elim h61 fun yh h62 => Exists.elim h62 fun fi h63 => Exists.elim h63 fun fa h64 => Exists.elim h64 fun ynd h65 => Exists.elim h65 fun clr h66 => Exists.elim h66 fun mrk h67 => Exists.elim h67 fun vla h68 => Exists.elim h68 fun evl h69 => Exists.elim h69 fun ndd h70 => Exists.elim h70 fun icl h71 => Exists.elim h71 fun ecl h72 => Exists.elim h72 fun mkr h73 => Exists.elim h73 fun cvl h74 => Exists.elim h74 fun cis h75 => by rw [h75.2.1, h75.2.2]; exact h ml fl cnt pc ifd wt rc gw ec tp vl rm ls sp md hld pk kd ka kb op up bd pn sk f1 f2 lk sh cl wa wb se rg hm ra ef vi la sn qn qr qe qf qs al enn env enx frn fre frs frm frf fnd ow o1 o2 yc ck p1 p2 yh fi fa ynd clr mrk vla evl ndd icl ecl mkr cvl cis h75.1
end
section
section
variable {ml fl cnt pc ifd wt rc gw ec tp : Int32} {vl : Int64} {rm ls sp md hld pk : Int32} {kd ka kb op up bd pn sk f1 f2 lk sh cl wa wb se rg hm : Nat → Int32} {ra ef vi la sn : Nat → Int64} {qn qr qe : Nat → Int32} {qf qs : Nat → Int64} {al enn : Nat → Int32} {env : Nat → Int64} {enx frn fre frs frm : Nat → Int32} {frf : Nat → Int64} {fnd : Int32} {ow o1 o2 yc ck p1 p2 yh fi fa ynd clr mrk vla evl ndd icl ecl mkr cvl cis : Nat → Int32} {nf : Nat}
theorem rl_0 {N c L F : Nat} (RN : rl_N N c L F ml fl cnt pc kd ka kb up op pn) : rl_F ml fl cnt pc 0 (-1) md hld vl kd ka kb op up pn sk sh cl rg hm ra la qn qf qs al ow o1 o2 yc ck p1 p2 yh fa vla icl mkr cvl cis :=
  ⟨N, c, L, F, RN, Or.inl rfl, Or.inl rfl⟩
end
theorem i_vc_infer {k : Nat} {u : SX} {v : SY} (I : i_Rel k u v) (hk : k + 4 ≤ 2050) : wpX_infer (fun r u' => wpY_infer (fun r' v' => r' = r ∧ i_Rel (k + 4) u' v') v) u := by
  refine zz_el (P := fun u v => wpX_infer (fun r u' => wpY_infer (fun r' v' => r' = r ∧ i_Rel (k + 4) u' v') v) u) ?_ I
  intro ml fl cnt pc ifd wt rc gw ec tp vl rm ls sp md hld pk kd ka kb op up bd pn sk f1 f2 lk sh cl wa wb se rg hm ra ef vi la sn qn qr qe qf qs al enn env enx frn fre frs frm frf fnd ow o1 o2 yc ck p1 p2 yh fi fa ynd clr mrk vla evl ndd icl ecl mkr cvl cis hF
  obtain ⟨N, c, L, F, RN, RI, RR⟩ := hF
  have RN0 := RN
  obtain ⟨e1, e2, e3, e4, hL1, hL2, hL3, hF1, hF2, hc, TT, PD⟩ := RN
  subst e1 e2
  have hN := TT.1
  refine xi_all TT (by omega) (fun h1 => ?_) (fun h1 hub bd' => ?_) (fun h1 hb hX bd' sk' f1' f2' lk' sh' wa' wb' wt' => ?_) (fun h1 hb sh' r C hf bd' sk' f1' f2' lk' wa' wb' wt' cl' se' => ?_) (fun h1 hb sk' f1' f2' sh' cl' rg' hm' ra' ef' vi' la' sn' r X hf bd' lk' wa' wb' wt' se' rc' gw' => ?_)
  · have i0 : ifd = 0 := RI.resolve_right fun z => h1 z.2.1
    have l0 : ls = -1 := RR.resolve_right fun z => absurd (i0.symm.trans z.1) (by decide)
    subst i0 l0
    exact yp_pe hN TT.2.2.1 PD (br_f (fun e => h1 ((nI_eq (b := 1) (by omega) (by omega)).mp e)) ⟨rfl, zz_in (rl_0 RN0)⟩)
  · have i0 : ifd = 0 := RI.resolve_right fun z => by
      obtain ⟨-, -, r, c', G⟩ := z
      obtain ⟨v, h2, h3, h4⟩ := hub
      obtain ⟨f, hf⟩ := G.2.2.2.2.2.2.2.2.2.2.1 v h2 h3
      exact h4 f hf
    have l0 : ls = -1 := RR.resolve_right fun z => absurd (i0.symm.trans z.1) (by decide)
    subst i0 l0 h1
    exact yi_u TT PD hub ⟨rfl, zz_in (rl_0 RN0)⟩
  · have i0 : ifd = 0 := RI.resolve_right fun z => by
      obtain ⟨-, -, r, c', G⟩ := z
      exact ty_nX TT G.1 hX
    have l0 : ls = -1 := RR.resolve_right fun z => absurd (i0.symm.trans z.1) (by decide)
    subst i0 l0 h1
    exact yi_x TT PD hb hX (fun ow' o1' o2' yc' => ⟨rfl, zz_in (rl_0 RN0)⟩)
  · have i0 : ifd = 0 := RI.resolve_right fun z => by
      obtain ⟨-, -, r', c', G⟩ := z
      obtain ⟨s, hs, hr, hnf⟩ := hf
      exact hnf (fn_tr TT G.1 C G.2.2.2.2.2.2.2.2.2.2.2 hs hr)
    have l0 : ls = -1 := RR.resolve_right fun z => absurd (i0.symm.trans z.1) (by decide)
    subst i0 l0 h1
    refine yi_m TT PD hb C (fun _ ow' o1' o2' yc' ck' p1' p2' fi' => ⟨rfl, zz_in (rl_0 RN0)⟩) (fun h => ?_)
    obtain ⟨s, hs, hr, hnf⟩ := hf
    exact absurd (h s hs hr) hnf
  · subst h1
    refine yi_m TT PD hb X.1 (fun h => ?_) (fun _ ow' o1' o2' yc' ck' p1' p2' fi' fa' yh' c' Y => ⟨rfl, zz_in ⟨N, 1, L, F, RN0, Or.inr ⟨rfl, rfl, r, c', in_mk TT X Y hb hf⟩, Or.inl rfl⟩⟩)
    obtain ⟨s, hs, hr, hnf⟩ := h
    exact absurd (hf s hs hr) hnf
end
section
section
variable {ml fl cnt pc ifd wt rc gw ec tp : Int32} {vl : Int64} {rm ls sp md hld pk : Int32} {kd ka kb op up bd pn sk f1 f2 lk sh cl wa wb se rg hm : Nat → Int32} {ra ef vi la sn : Nat → Int64} {qn qr qe : Nat → Int32} {qf qs : Nat → Int64} {al enn : Nat → Int32} {env : Nat → Int64} {enx frn fre frs frm : Nat → Int32} {frf : Nat → Int64}
theorem xk_in {post : Int32 → Prop} {N n : Nat} {v : Int32} (hN : N ≤ 32) (hn : n < N) (ev : v = nI n) (K : post 1) : wpX_isNode post (ml, fl, nI N, pc, ifd, wt, rc, gw, ec, tp, vl, rm, ls, sp, md, hld, pk, kd, ka, kb, op, up, bd, pn, sk, f1, f2, lk, sh, cl, wa, wb, se, rg, hm, ra, ef, vi, la, sn, qn, qr, qe, qf, qs, al, enn, env, enx, frn, fre, frs, frm, frf) v := by
  subst ev
  exact br_f (nI_pos (by omega)) (br_f (nI_ge hn (by omega)) K)
theorem xk_out {post : Int32 → Prop} {N : Nat} {v : Int32} (h : v < 0 ∨ nI N ≤ v) (K : post 0) : wpX_isNode post (ml, fl, nI N, pc, ifd, wt, rc, gw, ec, tp, vl, rm, ls, sp, md, hld, pk, kd, ka, kb, op, up, bd, pn, sk, f1, f2, lk, sh, cl, wa, wb, se, rg, hm, ra, ef, vi, la, sn, qn, qr, qe, qf, qs, al, enn, env, enx, frn, fre, frs, frm, frf) v :=
  br_c (fun _ => K) (fun z => br_t (h.resolve_left z) K)
theorem xk_k1 {post : Int32 → Prop} {N n : Nat} {v : Int32} (hN : N ≤ 32) (hn : n < N) (ev : v = nI n) (K : post 1) : wpX_known post (ml, fl, nI N, pc, 1, wt, rc, gw, ec, tp, vl, rm, ls, sp, md, hld, pk, kd, ka, kb, op, up, bd, pn, sk, f1, f2, lk, sh, cl, wa, wb, se, rg, hm, ra, ef, vi, la, sn, qn, qr, qe, qf, qs, al, enn, env, enx, frn, fre, frs, frm, frf) v :=
  br_f (by decide) (xk_in hN hn ev (br_f (by decide) K))
theorem xk_k0 {post : Int32 → Prop} {N : Nat} {v : Int32} (h : v < 0 ∨ nI N ≤ v) (K : post 0) : wpX_known post (ml, fl, nI N, pc, 1, wt, rc, gw, ec, tp, vl, rm, ls, sp, md, hld, pk, kd, ka, kb, op, up, bd, pn, sk, f1, f2, lk, sh, cl, wa, wb, se, rg, hm, ra, ef, vi, la, sn, qn, qr, qe, qf, qs, al, enn, env, enx, frn, fre, frs, frm, frf) v :=
  br_f (by decide) (xk_out h (br_t rfl K))
theorem xk_kn {post : Int32 → Prop} {v : Int32} (K : post 0) : wpX_known post (ml, fl, cnt, pc, 0, wt, rc, gw, ec, tp, vl, rm, ls, sp, md, hld, pk, kd, ka, kb, op, up, bd, pn, sk, f1, f2, lk, sh, cl, wa, wb, se, rg, hm, ra, ef, vi, la, sn, qn, qr, qe, qf, qs, al, enn, env, enx, frn, fre, frs, frm, frf) v := br_t rfl K
theorem xk_r0 {post : Int32 → Prop} {N : Nat} {v : Int32} (h : v < 0 ∨ nI N ≤ v) (K : post (-1)) : wpX_regionOf post (ml, fl, nI N, pc, 1, wt, rc, gw, ec, tp, vl, rm, ls, sp, md, hld, pk, kd, ka, kb, op, up, bd, pn, sk, f1, f2, lk, sh, cl, wa, wb, se, rg, hm, ra, ef, vi, la, sn, qn, qr, qe, qf, qs, al, enn, env, enx, frn, fre, frs, frm, frf) v := by
  unfold wpX_regionOf
  dsimp only
  exact xk_k0 h (br_t rfl K)
theorem xk_rn {post : Int32 → Prop} {v : Int32} (K : post (-1)) : wpX_regionOf post (ml, fl, cnt, pc, 0, wt, rc, gw, ec, tp, vl, rm, ls, sp, md, hld, pk, kd, ka, kb, op, up, bd, pn, sk, f1, f2, lk, sh, cl, wa, wb, se, rg, hm, ra, ef, vi, la, sn, qn, qr, qe, qf, qs, al, enn, env, enx, frn, fre, frs, frm, frf) v := by
  unfold wpX_regionOf
  dsimp only
  exact xk_kn (br_t rfl K)
theorem xk_r {post : Int32 → Prop} {N n : Nat} {r : Nat → Nat} {v : Int32} (TT : tm_T N kd ka kb up op) (C : ty_C N kd ka kb up op sh r) (hcl : ∀ s, s < 3 * N → cl s = nI (r s)) (RT : rg_T N kd op sh r rg) (hn : n < N) (ev : v = nI n)
    (K1 : tg_B N kd op sh r (r (3 * n)) → post (nI (rg_J N kd op sh r (r (3 * n))))) (K0 : ¬ tg_B N kd op sh r (r (3 * n)) → post (-1)) : wpX_regionOf post (ml, fl, nI N, pc, 1, wt, rc, gw, ec, tp, vl, rm, ls, sp, md, hld, pk, kd, ka, kb, op, up, bd, pn, sk, f1, f2, lk, sh, cl, wa, wb, se, rg, hm, ra, ef, vi, la, sn, qn, qr, qe, qf, qs, al, enn, env, enx, frn, fre, frs, frm, frf) v := by
  subst ev
  have hN := TT.1
  have rn := C.1 (3 * n) (by omega)
  have e3 : (3 : Int32) * nI n = nI (3 * n) := pk_mul 3 n
  have c3 : cl (nI (3 * n)).toNatClampNeg = nI (r (3 * n)) := by rw [nI_clamp (by omega)]; exact hcl _ (by omega)
  unfold wpX_regionOf
  dsimp only
  refine xk_k1 hN hn rfl (br_f (by decide) ?_)
  rw [e3, c3, nI_clamp (n := r (3 * n)) (by omega)]
  refine ⟨pk_in (3 * n) 96 (by omega), pk_in (r (3 * n)) 96 (by omega), ?_⟩
  rcases Classical.em (tg_B N kd op sh r (r (3 * n))) with B | B
  · rw [(RT _ rn.1).1 B]; exact K1 B
  · rw [(RT _ rn.1).2 B]; exact K0 B
theorem xk_t {post : Int32 → Prop} {N n : Nat} {r : Nat → Nat} {v : Int32} (TT : tm_T N kd ka kb up op) (C : ty_C N kd ka kb up op sh r) (hsk : ∀ n s k p q, n < N → fo_n kd op n s k p q → sk s = nI k) (hcl : ∀ s, s < 3 * N → cl s = nI (r s)) (hn : n < N) (ev : v = nI n)
    (K1 : ∀ k a b, tg_G N kd op sh r (r (3 * n)) k a b → post (nI k)) (K0 : sh (r (3 * n)) = -1 → post 0) : wpX_typeOf post (ml, fl, nI N, pc, 1, wt, rc, gw, ec, tp, vl, rm, ls, sp, md, hld, pk, kd, ka, kb, op, up, bd, pn, sk, f1, f2, lk, sh, cl, wa, wb, se, rg, hm, ra, ef, vi, la, sn, qn, qr, qe, qf, qs, al, enn, env, enx, frn, fre, frs, frm, frf) v := by
  subst ev
  have hN := TT.1
  have rn := C.1 (3 * n) (by omega)
  have e3 : (3 : Int32) * nI n = nI (3 * n) := pk_mul 3 n
  have c3 : cl (nI (3 * n)).toNatClampNeg = nI (r (3 * n)) := by rw [nI_clamp (by omega)]; exact hcl _ (by omega)
  unfold wpX_typeOf
  dsimp only
  refine xk_k1 hN hn rfl (br_f (by decide) ?_)
  rw [e3, c3, nI_clamp (n := r (3 * n)) (by omega)]
  refine ⟨pk_in (3 * n) 96 (by omega), pk_in (r (3 * n)) 96 (by omega), nm_e ?_⟩
  rcases C.2.2.2.2 _ rn.1 rn.2 with z | ⟨m, t, k, p, q, h1, h2, h3, h4⟩
  · exact br_f (by rw [z]; decide) (K0 z)
  · have bt := fo_b TT h1 h2
    refine br_t (by rw [h3]; exact nI_pos' (by omega)) ⟨pk_in t 96 (by omega) h3, ?_⟩
    rw [h3, nI_clamp (n := t) (by omega), hsk _ _ _ _ _ h1 h2]
    exact K1 k _ _ ⟨m, t, p, q, h1, h2, h3, h4, rfl, rfl⟩
theorem xk_t0 {post : Int32 → Prop} {N : Nat} {v : Int32} (h : v < 0 ∨ nI N ≤ v) (K : post (-1)) : wpX_typeOf post (ml, fl, nI N, pc, 1, wt, rc, gw, ec, tp, vl, rm, ls, sp, md, hld, pk, kd, ka, kb, op, up, bd, pn, sk, f1, f2, lk, sh, cl, wa, wb, se, rg, hm, ra, ef, vi, la, sn, qn, qr, qe, qf, qs, al, enn, env, enx, frn, fre, frs, frm, frf) v := by
  unfold wpX_typeOf
  dsimp only
  exact xk_k0 h (br_t rfl K)
theorem xk_tn {post : Int32 → Prop} {v : Int32} (K : post (-1)) : wpX_typeOf post (ml, fl, cnt, pc, 0, wt, rc, gw, ec, tp, vl, rm, ls, sp, md, hld, pk, kd, ka, kb, op, up, bd, pn, sk, f1, f2, lk, sh, cl, wa, wb, se, rg, hm, ra, ef, vi, la, sn, qn, qr, qe, qf, qs, al, enn, env, enx, frn, fre, frs, frm, frf) v := by
  unfold wpX_typeOf
  dsimp only
  exact xk_kn (br_t rfl K)
end
section
variable {ml fl cnt ls sp md pk fnd ifd : Int32} {kd ka kb up ow o1 o2 yc ck p1 p2 yh fi fa ynd clr mrk vla evl ndd icl ecl mkr cvl al cis : Nat → Int32} {nf : Nat}
theorem yk_tn {post : Int32 → Prop} {v : Int32} (K : post (-1)) : wpY_typeOf post (ml, fl, cnt, ls, sp, md, pk, fnd, 0, kd, ka, kb, up, ow, o1, o2, yc, ck, p1, p2, yh, fi, fa, ynd, clr, mrk, vla, evl, ndd, icl, ecl, mkr, cvl, al, cis, nf) v := br_t rfl K
theorem yk_t0 {post : Int32 → Prop} {N : Nat} {v : Int32} (hN : N ≤ 32) (h : v < 0 ∨ nI N ≤ v) (K : post (-1)) : wpY_typeOf post (ml, fl, nI N, ls, sp, md, pk, fnd, 1, kd, ka, kb, up, ow, o1, o2, yc, ck, p1, p2, yh, fi, fa, ynd, clr, mrk, vla, evl, ndd, icl, ecl, mkr, cvl, al, cis, nf) v :=
  br_f (by decide) (br_c (fun _ => K) (fun z => br_f (fun w => absurd (h.resolve_left z) (Int32.not_le.mpr w)) K))
theorem yk_t {post : Int32 → Prop} {N n : Nat} {c : Nat → Nat} {v : Int32} (hN : N ≤ 32) (L : ym_L c yc) (hn : n < N) (ev : v = nI n) (K : post (ck (c n))) : wpY_typeOf post (ml, fl, nI N, ls, sp, md, pk, fnd, 1, kd, ka, kb, up, ow, o1, o2, yc, ck, p1, p2, yh, fi, fa, ynd, clr, mrk, vla, evl, ndd, icl, ecl, mkr, cvl, al, cis, nf) v := by
  subst ev
  have Ln := L n (by omega)
  refine br_f (by decide) (br_f (nI_pos (by omega)) (br_t (nI_lt hn (by omega)) ?_))
  rw [nI_clamp (n := n) (by omega), Ln.2.1, nI_clamp (n := c n) (by omega)]
  exact ⟨pk_in n 96 (by omega), pk_in (c n) 96 (by omega), K⟩
theorem yk_rn {post : Int32 → Prop} {v : Int32} (K : post (-1)) : wpY_region post (ml, fl, cnt, ls, sp, md, pk, fnd, 0, kd, ka, kb, up, ow, o1, o2, yc, ck, p1, p2, yh, fi, fa, ynd, clr, mrk, vla, evl, ndd, icl, ecl, mkr, cvl, al, cis, nf) v := by
  unfold wpY_region
  dsimp only
  exact yk_tn (br_t (by decide) K)
theorem yk_r0 {post : Int32 → Prop} {N : Nat} {v : Int32} (hN : N ≤ 32) (h : v < 0 ∨ nI N ≤ v) (K : post (-1)) : wpY_region post (ml, fl, nI N, ls, sp, md, pk, fnd, 1, kd, ka, kb, up, ow, o1, o2, yc, ck, p1, p2, yh, fi, fa, ynd, clr, mrk, vla, evl, ndd, icl, ecl, mkr, cvl, al, cis, nf) v := by
  unfold wpY_region
  dsimp only
  exact yk_t0 hN h (br_t (by decide) K)
theorem yk_r {post : Int32 → Prop} {N n : Nat} {c : Nat → Nat} {v : Int32} (hN : N ≤ 32) (L : ym_L c yc) (hn : n < N) (ev : v = nI n) (K1 : ¬ ck (c n) < 2 → post (nI (c n))) (K0 : ck (c n) < 2 → post (-1)) : wpY_region post (ml, fl, nI N, ls, sp, md, pk, fnd, 1, kd, ka, kb, up, ow, o1, o2, yc, ck, p1, p2, yh, fi, fa, ynd, clr, mrk, vla, evl, ndd, icl, ecl, mkr, cvl, al, cis, nf) v := by
  have Ln := L n (by omega)
  unfold wpY_region
  dsimp only
  refine yk_t hN L hn ev (br_c K0 (fun z => ?_))
  subst ev
  rw [nI_clamp (n := n) (by omega), Ln.2.1]
  exact ⟨pk_in n 96 (by omega), K1 z⟩
end
section
variable {N : Nat} {kd ka kb up op sk sh cl rg hm ow o1 o2 yc ck p1 p2 yh fa : Nat → Int32} {ra la : Nat → Int64} {r c : Nat → Nat}
/-- a root is boxed if and only if the reference's class is -/
theorem in_B (TT : tm_T N kd ka kb up op) (C : ty_C N kd ka kb up op sh r) (Y : yt_C N kd ka kb up op ow o1 o2 yc c) (I : yk_I N kd op c 96 ck p1 p2) {n : Nat} (hn : n < N) : tg_B N kd op sh r (r (3 * n)) ↔ ¬ ck (c n) < 2 := by
  have hN := TT.1
  have rn := C.1 (3 * n) (by omega)
  have e : c n = c (ys_s (r (3 * n))) := by rw [xy_r TT C Y (by omega), ys_0]
  have hu := (Y.1 n (by omega)).1
  constructor
  · intro ⟨k, a, b, G, hk⟩
    have gb := tg_b TT C G
    rw [e, (yk_G TT C Y I G).1]
    exact nI_nlt (b := 2) hk (by omega)
  · intro h
    obtain ⟨s, k, a, b, G, hk, es, -⟩ := yk_B TT C Y I hu h
    have gb := tg_b TT C G
    have := xy_rt TT C Y gb.1 rn.1 gb.2.2.2.2.2.1 rn.2 (es.trans e)
    subst this
    exact ⟨k, a, b, G, hk⟩
theorem in_T (TT : tm_T N kd ka kb up op) (C : ty_C N kd ka kb up op sh r) (Y : yt_C N kd ka kb up op ow o1 o2 yc c) (I : yk_I N kd op c 96 ck p1 p2) {n : Nat} (hn : n < N) : (∀ k a b, tg_G N kd op sh r (r (3 * n)) k a b → ck (c n) = nI k) ∧ (sh (r (3 * n)) = -1 → ck (c n) = 0) := by
  have hN := TT.1
  have rn := C.1 (3 * n) (by omega)
  have e : c n = c (ys_s (r (3 * n))) := by rw [xy_r TT C Y (by omega), ys_0]
  refine ⟨fun k a b G => by rw [e]; exact (yk_G TT C Y I G).1, fun z => ?_⟩
  rcases I.2 (c n) (Y.1 n (by omega)).1 with w | ⟨m, t, k, p, q, h1, h2, h3⟩
  · exact w
  · have bt := fo_b TT h1 h2
    have et := (xy_eq TT C Y (by omega) rn.1).mpr (h3.trans e)
    rw [rn.2] at et
    obtain ⟨m', t', p', q', g1, g2, g3, -⟩ := C.2.2.2.1 m t k p q h1 h2
    have bt' := fo_b TT g1 g2
    rw [et, z] at g3
    exact absurd g3 (m1_n (by omega))
end
end
section
theorem i_vc_typeOf {k : Nat} {u : SX} {v : SY} (I : i_Rel k u v) (hk : k + 4 ≤ 2050) (v1 : Int32) : wpX_typeOf (fun r => wpY_typeOf (fun r' => r' = r ∧ i_Rel (k + 4) u v) v v1) u v1 := by
  refine zz_el (P := fun u v => wpX_typeOf (fun r => wpY_typeOf (fun r' => r' = r ∧ i_Rel (k + 4) u v) v v1) u v1) ?_ I
  intro ml fl cnt pc ifd wt rc gw ec tp vl rm ls sp md hld pk kd ka kb op up bd pn sk f1 f2 lk sh cl wa wb se rg hm ra ef vi la sn qn qr qe qf qs al enn env enx frn fre frs frm frf fnd ow o1 o2 yc ck p1 p2 yh fi fa ynd clr mrk vla evl ndd icl ecl mkr cvl cis hF
  have Z : i_Rel (k + 4) (ml, fl, cnt, pc, ifd, wt, rc, gw, ec, tp, vl, rm, ls, sp, md, hld, pk, kd, ka, kb, op, up, bd, pn, sk, f1, f2, lk, sh, cl, wa, wb, se, rg, hm, ra, ef, vi, la, sn, qn, qr, qe, qf, qs, al, enn, env, enx, frn, fre, frs, frm, frf) (ml, fl, cnt, ls, sp, md, pk, fnd, ifd, kd, ka, kb, up, ow, o1, o2, yc, ck, p1, p2, yh, fi, fa, ynd, clr, mrk, vla, evl, ndd, icl, ecl, mkr, cvl, al, cis, 36864) := zz_in hF
  obtain ⟨N, c0, L, F, RN, RI, RR⟩ := hF
  obtain ⟨e1, e2, e3, e4, hL1, hL2, hL3, hF1, hF2, hc, TT, PD⟩ := RN
  subst e1 e2
  have hN := TT.1
  rcases RI with rfl | ⟨rfl, rfl, r, c, G⟩
  · exact xk_tn (yk_tn ⟨rfl, Z⟩)
  · obtain ⟨C, hsk, hcl, RT, Y, YK, -⟩ := G
    rcases pk_ix v1 (n := N) (by omega) with z | z | ⟨n, hn, rfl⟩
    · exact xk_t0 (Or.inl z) (yk_t0 hN (Or.inl z) ⟨rfl, Z⟩)
    · exact xk_t0 (Or.inr z) (yk_t0 hN (Or.inr z) ⟨rfl, Z⟩)
    · exact xk_t TT C hsk hcl hn rfl (fun k a b G => yk_t hN Y.1 hn rfl ⟨(in_T TT C Y YK hn).1 k a b G, Z⟩) (fun z => yk_t hN Y.1 hn rfl ⟨(in_T TT C Y YK hn).2 z, Z⟩)
theorem i_vc_same {k : Nat} {u : SX} {v : SY} (I : i_Rel k u v) (hk : k + 4 ≤ 2050) (v1 : Int32) (v2 : Int32) : wpX_same (fun r => wpY_same (fun r' => r' = r ∧ i_Rel (k + 4) u v) v v1 v2) u v1 v2 := by
  refine zz_el (P := fun u v => wpX_same (fun r => wpY_same (fun r' => r' = r ∧ i_Rel (k + 4) u v) v v1 v2) u v1 v2) ?_ I
  intro ml fl cnt pc ifd wt rc gw ec tp vl rm ls sp md hld pk kd ka kb op up bd pn sk f1 f2 lk sh cl wa wb se rg hm ra ef vi la sn qn qr qe qf qs al enn env enx frn fre frs frm frf fnd ow o1 o2 yc ck p1 p2 yh fi fa ynd clr mrk vla evl ndd icl ecl mkr cvl cis hF
  have Z : i_Rel (k + 4) (ml, fl, cnt, pc, ifd, wt, rc, gw, ec, tp, vl, rm, ls, sp, md, hld, pk, kd, ka, kb, op, up, bd, pn, sk, f1, f2, lk, sh, cl, wa, wb, se, rg, hm, ra, ef, vi, la, sn, qn, qr, qe, qf, qs, al, enn, env, enx, frn, fre, frs, frm, frf) (ml, fl, cnt, ls, sp, md, pk, fnd, ifd, kd, ka, kb, up, ow, o1, o2, yc, ck, p1, p2, yh, fi, fa, ynd, clr, mrk, vla, evl, ndd, icl, ecl, mkr, cvl, al, cis, 36864) := zz_in hF
  obtain ⟨N, c0, L, F, RN, RI, RR⟩ := hF
  obtain ⟨e1, e2, e3, e4, hL1, hL2, hL3, hF1, hF2, hc, TT, PD⟩ := RN
  subst e1 e2
  have hN := TT.1
  unfold wpX_same
  dsimp only
  rcases RI with rfl | ⟨rfl, rfl, r, c, G⟩
  · exact xk_kn (br_t rfl (br_t rfl ⟨rfl, Z⟩))
  · obtain ⟨C, hsk, hcl, RT, Y, YK, -⟩ := G
    rcases pk_ix v1 (n := N) (by omega) with z | z | ⟨n, hn, rfl⟩
    · exact xk_k0 (Or.inl z) (br_t rfl (br_f (by decide) (br_t z ⟨rfl, Z⟩)))
    · exact xk_k0 (Or.inr z) (br_t rfl (br_f (by decide) (br_c (fun _ => ⟨rfl, Z⟩) (fun _ => br_t z ⟨rfl, Z⟩))))
    · refine xk_k1 hN hn rfl (br_f (by decide) ?_)
      rcases pk_ix v2 (n := N) (by omega) with z | z | ⟨m, hmN, rfl⟩
      · exact xk_k0 (Or.inl z) (br_t rfl (br_f (by decide) (br_f (nI_pos (by omega)) (br_f (nI_ge hn (by omega)) (br_t z ⟨rfl, Z⟩)))))
      · exact xk_k0 (Or.inr z) (br_t rfl (br_f (by decide) (br_f (nI_pos (by omega)) (br_f (nI_ge hn (by omega)) (br_c (fun _ => ⟨rfl, Z⟩) (fun _ => br_t z ⟨rfl, Z⟩))))))
      · refine xk_k1 hN hmN rfl (br_f (by decide) ?_)
        have rn := C.1 (3 * n) (by omega)
        have rm' := C.1 (3 * m) (by omega)
        have Ln := Y.1 n (by omega)
        have Lm := Y.1 m (by omega)
        rw [show (3 : Int32) * nI n = nI (3 * n) from pk_mul 3 n, show (3 : Int32) * nI m = nI (3 * m) from pk_mul 3 m, nI_clamp (n := 3 * n) (by omega), nI_clamp (n := 3 * m) (by omega), hcl (3 * n) (by omega), hcl (3 * m) (by omega)]
        have key : r (3 * n) = r (3 * m) ↔ c n = c m := by
          rw [xy_eq TT C Y (by omega) (by omega), ys_0, ys_0]
        have fin : ∀ b : Int32, (c n = c m → b = 1) → (c n ≠ c m → b = 0) → wpY_same (fun r' => r' = b ∧ i_Rel (k + 4) (ml, fl, nI N, nI 1, 1, wt, rc, gw, ec, tp, vl, rm, ls, sp, md, hld, pk, kd, ka, kb, op, up, bd, pn, sk, f1, f2, lk, sh, cl, wa, wb, se, rg, hm, ra, ef, vi, la, sn, qn, qr, qe, qf, qs, al, enn, env, enx, frn, fre, frs, frm, frf) (ml, fl, nI N, ls, sp, md, pk, fnd, 1, kd, ka, kb, up, ow, o1, o2, yc, ck, p1, p2, yh, fi, fa, ynd, clr, mrk, vla, evl, ndd, icl, ecl, mkr, cvl, al, cis, 36864)) (ml, fl, nI N, ls, sp, md, pk, fnd, 1, kd, ka, kb, up, ow, o1, o2, yc, ck, p1, p2, yh, fi, fa, ynd, clr, mrk, vla, evl, ndd, icl, ecl, mkr, cvl, al, cis, 36864) (nI n) (nI m) := by
          intro b h1 h0
          refine br_f (by decide) (br_f (nI_pos (by omega)) (br_f (nI_ge hn (by omega)) (br_f (nI_pos (by omega)) (br_f (nI_ge hmN (by omega)) ⟨pk_in n 96 (by omega), pk_in m 96 (by omega), ?_⟩))))
          rw [nI_clamp (n := n) (by omega), nI_clamp (n := m) (by omega), Ln.2.1, Lm.2.1]
          exact pk_eq (c n) (c m) (fun e => ⟨(h1 e).symm, Z⟩) (fun e => ⟨(h0 e).symm, Z⟩) rfl rfl (by omega) (by omega)
        exact ⟨pk_in (3 * n) 96 (by omega), pk_in (3 * m) 96 (by omega), pk_eq (r (3 * n)) (r (3 * m)) (fun e => fin 1 (fun _ => rfl) (fun z => absurd (key.mp e) z)) (fun e => fin 0 (fun z => absurd (key.mpr z) e) (fun _ => rfl)) rfl rfl (by omega) (by omega)⟩
theorem i_vc_touches {k : Nat} {u : SX} {v : SY} (I : i_Rel k u v) (hk : k + 4 ≤ 2050) (v1 : Int32) (v2 : Int32) : wpX_touches (fun r => wpY_touches (fun r' => r' = r ∧ i_Rel (k + 4) u v) v v1 v2) u v1 v2 := by
  refine zz_el (P := fun u v => wpX_touches (fun r => wpY_touches (fun r' => r' = r ∧ i_Rel (k + 4) u v) v v1 v2) u v1 v2) ?_ I
  intro ml fl cnt pc ifd wt rc gw ec tp vl rm ls sp md hld pk kd ka kb op up bd pn sk f1 f2 lk sh cl wa wb se rg hm ra ef vi la sn qn qr qe qf qs al enn env enx frn fre frs frm frf fnd ow o1 o2 yc ck p1 p2 yh fi fa ynd clr mrk vla evl ndd icl ecl mkr cvl cis hF
  have Z : i_Rel (k + 4) (ml, fl, cnt, pc, ifd, wt, rc, gw, ec, tp, vl, rm, ls, sp, md, hld, pk, kd, ka, kb, op, up, bd, pn, sk, f1, f2, lk, sh, cl, wa, wb, se, rg, hm, ra, ef, vi, la, sn, qn, qr, qe, qf, qs, al, enn, env, enx, frn, fre, frs, frm, frf) (ml, fl, cnt, ls, sp, md, pk, fnd, ifd, kd, ka, kb, up, ow, o1, o2, yc, ck, p1, p2, yh, fi, fa, ynd, clr, mrk, vla, evl, ndd, icl, ecl, mkr, cvl, al, cis, 36864) := zz_in hF
  obtain ⟨N, c0, L, F, RN, RI, RR⟩ := hF
  obtain ⟨e1, e2, e3, e4, hL1, hL2, hL3, hF1, hF2, hc, TT, PD⟩ := RN
  subst e1 e2
  have hN := TT.1
  unfold wpX_touches wpY_touches
  dsimp only
  rcases RI with rfl | ⟨rfl, rfl, r, c, G⟩
  · exact xk_rn (xk_kn (br_t rfl (yk_rn (br_t (by decide) ⟨rfl, Z⟩))))
  · obtain ⟨C, hsk, hcl, RT, Y, YK, h01, hra, -⟩ := G
    rcases pk_ix v1 (n := N) (by omega) with z1 | z1 | ⟨n, hn, rfl⟩
    · rcases pk_ix v2 (n := N) (by omega) with z | z | ⟨m, hm, rfl⟩
      · exact xk_r0 (Or.inl z) (xk_k0 (Or.inl z1) (br_t rfl (yk_r0 hN (Or.inl z) (br_t (by decide) ⟨rfl, Z⟩))))
      · exact xk_r0 (Or.inr z) (xk_k0 (Or.inl z1) (br_t rfl (yk_r0 hN (Or.inr z) (br_t (by decide) ⟨rfl, Z⟩))))
      · have Lm := Y.1 m (by omega)
        exact xk_r TT C hcl RT hm rfl
          (fun _ => xk_k0 (Or.inl z1) (br_t rfl (yk_r hN Y.1 hm rfl (fun _ => br_f (nI_pos (by omega)) (br_t z1 ⟨rfl, Z⟩)) (fun _ => br_t (by decide) ⟨rfl, Z⟩))))
          (fun _ => xk_k0 (Or.inl z1) (br_t rfl (yk_r hN Y.1 hm rfl (fun _ => br_f (nI_pos (by omega)) (br_t z1 ⟨rfl, Z⟩)) (fun _ => br_t (by decide) ⟨rfl, Z⟩))))
    · rcases pk_ix v2 (n := N) (by omega) with z | z | ⟨m, hm, rfl⟩
      · exact xk_r0 (Or.inl z) (xk_k0 (Or.inr z1) (br_t rfl (yk_r0 hN (Or.inl z) (br_t (by decide) ⟨rfl, Z⟩))))
      · exact xk_r0 (Or.inr z) (xk_k0 (Or.inr z1) (br_t rfl (yk_r0 hN (Or.inr z) (br_t (by decide) ⟨rfl, Z⟩))))
      · have Lm := Y.1 m (by omega)
        exact xk_r TT C hcl RT hm rfl
          (fun _ => xk_k0 (Or.inr z1) (br_t rfl (yk_r hN Y.1 hm rfl (fun _ => br_f (nI_pos (by omega)) (br_c (fun _ => ⟨rfl, Z⟩) (fun _ => br_t z1 ⟨rfl, Z⟩))) (fun _ => br_t (by decide) ⟨rfl, Z⟩))))
          (fun _ => xk_k0 (Or.inr z1) (br_t rfl (yk_r hN Y.1 hm rfl (fun _ => br_f (nI_pos (by omega)) (br_c (fun _ => ⟨rfl, Z⟩) (fun _ => br_t z1 ⟨rfl, Z⟩))) (fun _ => br_t (by decide) ⟨rfl, Z⟩))))
    · rcases pk_ix v2 (n := N) (by omega) with z | z | ⟨m, hm, rfl⟩
      · exact xk_r0 (Or.inl z) (xk_k1 hN hn rfl (br_f (by decide) (br_t (by decide) (yk_r0 hN (Or.inl z) (br_t (by decide) ⟨rfl, Z⟩)))))
      · exact xk_r0 (Or.inr z) (xk_k1 hN hn rfl (br_f (by decide) (br_t (by decide) (yk_r0 hN (Or.inr z) (br_t (by decide) ⟨rfl, Z⟩)))))
      · have Lm := Y.1 m (by omega)
        have iB := in_B TT C Y YK hm
        have em : c m = c (ys_s (r (3 * m))) := by rw [xy_r TT C Y (by omega), ys_0]
        refine xk_r TT C hcl RT hm rfl (fun B => ?_) (fun B => xk_k1 hN hn rfl (br_f (by decide) (br_t (by decide) (yk_r hN Y.1 hm rfl (fun w => absurd (iB.mpr w) B) (fun _ => br_t (by decide) ⟨rfl, Z⟩)))))
        have J := rg_lt TT C B
        refine xk_k1 hN hn rfl (br_f (by decide) (br_f (nI_pos (by omega)) ⟨pk_in n 32 (by omega), ?_⟩))
        rw [nI_clamp (n := n) (by omega)]
        have h := hra n _ hn B
        rw [← em] at h
        rcases hb : tb (ra n) (rg_J N kd op sh r (r (3 * m))) with _ | _
        · refine br_t ((tb_test (by omega)).mpr hb) (yk_r hN Y.1 hm rfl (fun w => br_f (nI_pos (by omega)) (br_f (nI_pos (by omega)) (br_f (nI_ge hn (by omega)) (yh_has h01 (w := 0) (x := n) (u := c m) (by omega) (by omega) Lm.1 rfl rfl rfl (fun f => ?_) (fun f => br_t rfl ⟨rfl, Z⟩))))) (fun w => absurd w (iB.mp B)))
          rw [h.mpr f] at hb
          exact absurd hb (by decide)
        · refine br_f (fun w => ?_) (yk_r hN Y.1 hm rfl (fun w => br_f (nI_pos (by omega)) (br_f (nI_pos (by omega)) (br_f (nI_ge hn (by omega)) (yh_has h01 (w := 0) (x := n) (u := c m) (by omega) (by omega) Lm.1 rfl rfl rfl (fun f => br_f (by decide) ⟨rfl, Z⟩) (fun f => ?_))))) (fun w => absurd w (iB.mp B)))
          · rw [(tb_test (by omega)).mp w] at hb
            exact absurd hb (by decide)
          · exact absurd (f.symm.trans (h.mp hb)) (by decide)
end
section
section
variable {ml fl cnt ls sp md pk fnd ifd : Int32} {kd ka kb up ow o1 o2 yc ck p1 p2 yh fi fa ynd clr mrk vla evl ndd icl ecl mkr cvl al cis : Nat → Int32} {nf : Nat}
theorem yd_4 {post : Int32 → Prop} {M : Nat} (hM : M ≤ 240) (h01 : ∀ c, c < M → al c = 0 ∨ al c = 1) (K : post (nI (cn (fun c => al c = 1) M))) :
    ∀ (d c : Nat), c ≤ M → M + 1 ≤ d + c → wY_held_4 post ml fl cnt ls sp (nI M) pk fnd ifd kd ka kb up ow o1 o2 yc ck p1 p2 yh fi fa ynd clr mrk vla evl ndd icl ecl mkr cvl al cis nf d (nI (cn (fun c => al c = 1) c)) (nI c) := by
  intro d
  induction d with
  | zero => intro c hc hd; omega
  | succ d ih =>
    intro c hc hd
    refine pk_le M c (fun z => ?_) (fun z => ⟨pk_in c 240 (by omega), ?_⟩)
    · have e : c = M := by omega
      subst e
      exact K
    · rw [nI_clamp (n := c) (by omega)]
      rcases h01 c z with a | a
      · refine br_t a (nm_r (e' := nI (c + 1)) (nI_1 c) ?_)
        have e : cn (fun c => al c = 1) (c + 1) = cn (fun c => al c = 1) c := by
          show cn (fun c => al c = 1) c + b01 (al c = 1) = _
          rw [b01_f (by rw [a]; decide)]
          rfl
        rw [← e]
        exact ih (c + 1) (by omega) (by omega)
      · have e : cn (fun c => al c = 1) (c + 1) = cn (fun c => al c = 1) c + 1 := by
          show cn (fun c => al c = 1) c + b01 (al c = 1) = _
          rw [b01_t a]
        refine br_f (by rw [a]; decide) (nm_r (e' := nI (cn (fun c => al c = 1) (c + 1))) (by rw [e]; exact nI_1 _) (nm_r (e' := nI (c + 1)) (nI_1 c) ?_))
        exact ih (c + 1) (by omega) (by omega)
theorem yd_h {post : Int32 → Prop} {M : Nat} (hM : M ≤ 240) (h01 : ∀ c, c < M → al c = 0 ∨ al c = 1) (K : post (nI (cn (fun c => al c = 1) M))) : wpY_held post (ml, fl, cnt, ls, sp, nI M, pk, fnd, ifd, kd, ka, kb, up, ow, o1, o2, yc, ck, p1, p2, yh, fi, fa, ynd, clr, mrk, vla, evl, ndd, icl, ecl, mkr, cvl, al, cis, nf) :=
  ⟨M + 1, yd_4 hM h01 K (M + 1) 0 (by omega) (by omega)⟩
end
theorem i_vc_report {k : Nat} {u : SX} {v : SY} (I : i_Rel k u v) (hk : k + 4 ≤ 2050) (v1 : Int32) : wpX_report (fun r => wpY_report (fun r' => r' = r ∧ i_Rel (k + 4) u v) v v1) u v1 := by
  refine zz_el (P := fun u v => wpX_report (fun r => wpY_report (fun r' => r' = r ∧ i_Rel (k + 4) u v) v v1) u v1) ?_ I
  intro ml fl cnt pc ifd wt rc gw ec tp vl rm ls sp md hld pk kd ka kb op up bd pn sk f1 f2 lk sh cl wa wb se rg hm ra ef vi la sn qn qr qe qf qs al enn env enx frn fre frs frm frf fnd ow o1 o2 yc ck p1 p2 yh fi fa ynd clr mrk vla evl ndd icl ecl mkr cvl cis hF
  have Z : i_Rel (k + 4) (ml, fl, cnt, pc, ifd, wt, rc, gw, ec, tp, vl, rm, ls, sp, md, hld, pk, kd, ka, kb, op, up, bd, pn, sk, f1, f2, lk, sh, cl, wa, wb, se, rg, hm, ra, ef, vi, la, sn, qn, qr, qe, qf, qs, al, enn, env, enx, frn, fre, frs, frm, frf) (ml, fl, cnt, ls, sp, md, pk, fnd, ifd, kd, ka, kb, up, ow, o1, o2, yc, ck, p1, p2, yh, fi, fa, ynd, clr, mrk, vla, evl, ndd, icl, ecl, mkr, cvl, al, cis, 36864) := zz_in hF
  obtain ⟨N, c0, L, F, RN, RI, RR⟩ := hF
  rcases RR with rfl | ⟨-, hls, M, e, hM, h01, eh, -⟩
  · exact br_t rfl (br_t rfl ⟨rfl, Z⟩)
  · have nls : ¬ ls = -1 := by
      intro z
      rw [z] at hls
      revert hls
      decide
    refine br_f nls ?_
    rcases pk_ix v1 (n := 5) (by omega) with z | z | ⟨n, hn, rfl⟩
    · exact br_t z (br_f nls (br_t z ⟨rfl, Z⟩))
    · have z4 : (4 : Int32) < v1 := Int32.lt_of_lt_of_le (by decide) z
      have z0 : ¬ v1 < 0 := fun w => absurd (Int32.lt_trans z4 w) (by decide)
      exact br_f z0 (br_t z4 (br_f nls (br_f z0 (br_f (Int32.not_le.mpr z4) ⟨rfl, Z⟩))))
    · subst e eh
      have : n = 0 ∨ n = 1 ∨ n = 2 ∨ n = 3 ∨ n = 4 := by omega
      rcases this with rfl | rfl | rfl | rfl | rfl
      · exact br_f (by decide) (br_f (by decide) (br_t rfl (br_f nls (br_f (by decide) (br_t (by decide) (br_t rfl ⟨rfl, Z⟩))))))
      · exact br_f (by decide) (br_f (by decide) (br_f (by decide) (br_t rfl (br_f nls (br_f (by decide) (br_t (by decide) (br_f (by decide) (br_t rfl ⟨rfl, Z⟩))))))))
      · exact br_f (by decide) (br_f (by decide) (br_f (by decide) (br_f (by decide) (br_t rfl (br_f nls (br_f (by decide) (br_t (by decide) (br_f (by decide) (br_f (by decide) (br_t rfl ⟨rfl, Z⟩))))))))))
      · exact br_f (by decide) (br_f (by decide) (br_f (by decide) (br_f (by decide) (br_f (by decide) (br_t rfl (br_f nls (br_f (by decide) (br_t (by decide) (br_f (by decide) (br_f (by decide) (br_f (by decide) (br_t rfl (yd_h hM h01 ⟨rfl, Z⟩)))))))))))))
      · exact br_f (by decide) (br_f (by decide) (br_f (by decide) (br_f (by decide) (br_f (by decide) (br_f (by decide) (br_t rfl (br_f nls (br_f (by decide) (br_t (by decide) (br_f (by decide) (br_f (by decide) (br_f (by decide) (br_f (by decide) ⟨rfl, Z⟩)))))))))))))
theorem i_vc_home {k : Nat} {u : SX} {v : SY} (I : i_Rel k u v) (hk : k + 4 ≤ 2050) (v1 : Int32) : wpX_home (fun r => wpY_home (fun r' => r' = r ∧ i_Rel (k + 4) u v) v v1) u v1 := by
  refine zz_el (P := fun u v => wpX_home (fun r => wpY_home (fun r' => r' = r ∧ i_Rel (k + 4) u v) v v1) u v1) ?_ I
  intro ml fl cnt pc ifd wt rc gw ec tp vl rm ls sp md hld pk kd ka kb op up bd pn sk f1 f2 lk sh cl wa wb se rg hm ra ef vi la sn qn qr qe qf qs al enn env enx frn fre frs frm frf fnd ow o1 o2 yc ck p1 p2 yh fi fa ynd clr mrk vla evl ndd icl ecl mkr cvl cis hF
  have Z : i_Rel (k + 4) (ml, fl, cnt, pc, ifd, wt, rc, gw, ec, tp, vl, rm, ls, sp, md, hld, pk, kd, ka, kb, op, up, bd, pn, sk, f1, f2, lk, sh, cl, wa, wb, se, rg, hm, ra, ef, vi, la, sn, qn, qr, qe, qf, qs, al, enn, env, enx, frn, fre, frs, frm, frf) (ml, fl, cnt, ls, sp, md, pk, fnd, ifd, kd, ka, kb, up, ow, o1, o2, yc, ck, p1, p2, yh, fi, fa, ynd, clr, mrk, vla, evl, ndd, icl, ecl, mkr, cvl, al, cis, 36864) := zz_in hF
  obtain ⟨N, c0, L, F, RN, RI, RR⟩ := hF
  obtain ⟨e1, e2, e3, e4, hL1, hL2, hL3, hF1, hF2, hc, TT, PD⟩ := RN
  subst e1 e2
  have hN := TT.1
  unfold wpX_home wpY_home
  dsimp only
  rcases RI with rfl | ⟨rfl, rfl, r, c, G⟩
  · exact xk_rn (br_f (by decide) (yk_rn (br_f (by decide) ⟨rfl, Z⟩)))
  · obtain ⟨C, hsk, hcl, RT, Y, YK, h01, hra, hla, hhm, -⟩ := G
    rcases pk_ix v1 (n := N) (by omega) with z | z | ⟨m, hmN, rfl⟩
    · exact xk_r0 (Or.inl z) (br_f (by decide) (yk_r0 hN (Or.inl z) (br_f (by decide) ⟨rfl, Z⟩)))
    · exact xk_r0 (Or.inr z) (br_f (by decide) (yk_r0 hN (Or.inr z) (br_f (by decide) ⟨rfl, Z⟩)))
    · have Lm := Y.1 m (by omega)
      have iB := in_B TT C Y YK hmN
      have em : c m = c (ys_s (r (3 * m))) := by rw [xy_r TT C Y (by omega), ys_0]
      refine xk_r TT C hcl RT hmN rfl (fun B => ?_) (fun B => br_f (by decide) (yk_r hN Y.1 hmN rfl (fun w => absurd (iB.mpr w) B) (fun _ => br_f (by decide) ⟨rfl, Z⟩)))
      have J := rg_lt TT C B
      refine br_t (nI_pos' (by omega)) ⟨pk_in _ 32 J.2, yk_r hN Y.1 hmN rfl (fun w => br_t (nI_pos' (by omega)) ⟨pk_in _ 96 Lm.1, ?_, Z⟩) (fun w => absurd w (iB.mp B))⟩
      rw [nI_clamp (n := c m) (by omega), nI_clamp (by omega), hhm _ B, em]
theorem i_vc_place {k : Nat} {u : SX} {v : SY} (I : i_Rel k u v) (hk : k + 4 ≤ 2050) (v1 : Int32) (v2 : Int32) : wpX_place (fun r u' => wpY_place (fun r' v' => r' = r ∧ i_Rel (k + 4) u' v') v v1 v2) u v1 v2 := by
  refine zz_el (P := fun u v => wpX_place (fun r u' => wpY_place (fun r' v' => r' = r ∧ i_Rel (k + 4) u' v') v v1 v2) u v1 v2) ?_ I
  intro ml fl cnt pc ifd wt rc gw ec tp vl rm ls sp md hld pk kd ka kb op up bd pn sk f1 f2 lk sh cl wa wb se rg hm ra ef vi la sn qn qr qe qf qs al enn env enx frn fre frs frm frf fnd ow o1 o2 yc ck p1 p2 yh fi fa ynd clr mrk vla evl ndd icl ecl mkr cvl cis hF
  have Z : i_Rel (k + 4) (ml, fl, cnt, pc, ifd, wt, rc, gw, ec, tp, vl, rm, ls, sp, md, hld, pk, kd, ka, kb, op, up, bd, pn, sk, f1, f2, lk, sh, cl, wa, wb, se, rg, hm, ra, ef, vi, la, sn, qn, qr, qe, qf, qs, al, enn, env, enx, frn, fre, frs, frm, frf) (ml, fl, cnt, ls, sp, md, pk, fnd, ifd, kd, ka, kb, up, ow, o1, o2, yc, ck, p1, p2, yh, fi, fa, ynd, clr, mrk, vla, evl, ndd, icl, ecl, mkr, cvl, al, cis, 36864) := zz_in hF
  obtain ⟨N, c0, L, F, RN, RI, RR⟩ := hF
  have RN0 := RN
  obtain ⟨e1, e2, e3, e4, hL1, hL2, hL3, hF1, hF2, hc, TT, PD⟩ := RN
  subst e1 e2
  have hN := TT.1
  unfold wpX_place
  dsimp only
  rcases RI with rfl | ⟨rfl, rfl, r, c, G⟩
  · refine xk_rn (br_t (by decide) ?_)
    unfold wpY_place
    dsimp only
    exact yk_rn (br_t (by decide) ⟨rfl, Z⟩)
  · have G0 := G
    obtain ⟨C, hsk, hcl, RT, Y, YK, h01, hra, hla, hhm, -⟩ := G
    rcases pk_ix v1 (n := N) (by omega) with z | z | ⟨m, hmN, rfl⟩
    · refine xk_r0 (Or.inl z) (br_t (by decide) ?_)
      unfold wpY_place
      dsimp only
      exact yk_r0 hN (Or.inl z) (br_t (by decide) ⟨rfl, Z⟩)
    · refine xk_r0 (Or.inr z) (br_t (by decide) ?_)
      unfold wpY_place
      dsimp only
      exact yk_r0 hN (Or.inr z) (br_t (by decide) ⟨rfl, Z⟩)
    · have Lm := Y.1 m (by omega)
      have iB := in_B TT C Y YK hmN
      have em : c m = c (ys_s (r (3 * m))) := by rw [xy_r TT C Y (by omega), ys_0]
      refine xk_r TT C hcl RT hmN rfl (fun B => ?_) (fun B => br_t (by decide) ?_)
      · have J := rg_lt TT C B
        have rm' := tg_Bb TT C B
        refine br_f (nI_pos (by omega)) ?_
        rcases Classical.em (v2 < -1) with a | a
        · refine br_t a ?_
          unfold wpY_place
          dsimp only
          exact yk_r hN Y.1 hmN rfl (fun w => br_f (nI_pos (by omega)) (br_t a ⟨rfl, Z⟩)) (fun w => absurd w (iB.mp B))
        · refine br_f a ?_
          rcases Classical.em (v2 < nI N) with b | b
          · refine br_t b ⟨pk_in _ 32 J.2, nm_r (e' := upd hm (rg_J N kd op sh r (r (3 * m))) v2) (by rw [nI_clamp (by omega)]) ?_⟩
            unfold wpY_place
            dsimp only
            refine yk_r hN Y.1 hmN rfl (fun w => br_f (nI_pos (by omega)) (br_f a (br_t b ⟨pk_in _ 96 Lm.1, nm_r (e' := upd yh (c m) v2) (by rw [nI_clamp (by omega)]) ⟨rfl, ?_⟩⟩))) (fun w => absurd w (iB.mp B))
            refine zz_in ⟨N, 1, L, F, RN0, Or.inr ⟨rfl, rfl, r, c, ?_⟩, RR⟩
            obtain ⟨g1, g2, g3, g4, g5, g6, g7, g8, g9, g10, g11⟩ := G0
            refine ⟨g1, g2, g3, g4, g5, g6, g7, g8, g9, fun ρ Bρ => ?_, g11⟩
            have hρ := tg_Bb TT C Bρ
            rcases Classical.em (ρ = r (3 * m)) with y | y
            · subst y
              rw [pk_us, ← em, pk_us]
            · rw [pk_un (fun e => y (rg_in Bρ B e)), pk_un (fun e => y (xy_rt TT C Y hρ.1 rm'.1 hρ.2 rm'.2 (e.trans em)))]
              exact g10 ρ Bρ
          · refine br_f b ?_
            unfold wpY_place
            dsimp only
            exact yk_r hN Y.1 hmN rfl (fun w => br_f (nI_pos (by omega)) (br_f a (br_f b ⟨rfl, Z⟩))) (fun w => absurd w (iB.mp B))
      · unfold wpY_place
        dsimp only
        exact yk_r hN Y.1 hmN rfl (fun w => absurd (iB.mpr w) B) (fun _ => br_t (by decide) ⟨rfl, Z⟩)
end
section
theorem i_vc_latent {k : Nat} {u : SX} {v : SY} (I : i_Rel k u v) (hk : k + 4 ≤ 2050) (v1 : Int32) (v2 : Int32) : wpX_latent (fun r => wpY_latent (fun r' => r' = r ∧ i_Rel (k + 4) u v) v v1 v2) u v1 v2 := by
  refine zz_el (P := fun u v => wpX_latent (fun r => wpY_latent (fun r' => r' = r ∧ i_Rel (k + 4) u v) v v1 v2) u v1 v2) ?_ I
  intro ml fl cnt pc ifd wt rc gw ec tp vl rm ls sp md hld pk kd ka kb op up bd pn sk f1 f2 lk sh cl wa wb se rg hm ra ef vi la sn qn qr qe qf qs al enn env enx frn fre frs frm frf fnd ow o1 o2 yc ck p1 p2 yh fi fa ynd clr mrk vla evl ndd icl ecl mkr cvl cis hF
  have Z : i_Rel (k + 4) (ml, fl, cnt, pc, ifd, wt, rc, gw, ec, tp, vl, rm, ls, sp, md, hld, pk, kd, ka, kb, op, up, bd, pn, sk, f1, f2, lk, sh, cl, wa, wb, se, rg, hm, ra, ef, vi, la, sn, qn, qr, qe, qf, qs, al, enn, env, enx, frn, fre, frs, frm, frf) (ml, fl, cnt, ls, sp, md, pk, fnd, ifd, kd, ka, kb, up, ow, o1, o2, yc, ck, p1, p2, yh, fi, fa, ynd, clr, mrk, vla, evl, ndd, icl, ecl, mkr, cvl, al, cis, 36864) := zz_in hF
  obtain ⟨N, c0, L, F, RN, RI, RR⟩ := hF
  obtain ⟨e1, e2, e3, e4, hL1, hL2, hL3, hF1, hF2, hc, TT, PD⟩ := RN
  subst e1 e2
  have hN := TT.1
  unfold wpX_latent wpY_latent
  dsimp only
  rcases RI with rfl | ⟨rfl, rfl, r, c, G⟩
  · exact xk_rn (xk_tn (br_f (by decide) (yk_rn (yk_tn (br_t (by decide) ⟨rfl, Z⟩)))))
  · obtain ⟨C, hsk, hcl, RT, Y, YK, h01, hra, hla, -⟩ := G
    -- the region of v2: -1 on both sides, or a boxed root
    rcases Classical.em (∃ m, m < N ∧ v2 = nI m ∧ tg_B N kd op sh r (r (3 * m))) with ⟨m, hmN, rfl, B⟩ | nb
    · have Lm := Y.1 m (by omega)
      have iB := in_B TT C Y YK hmN
      have em : c m = c (ys_s (r (3 * m))) := by rw [xy_r TT C Y (by omega), ys_0]
      have J := rg_lt TT C B
      refine xk_r TT C hcl RT hmN rfl (fun _ => ?_) (fun w => absurd B w)
      rcases pk_ix v1 (n := N) (by omega) with z | z | ⟨n, hn, rfl⟩
      · exact xk_t0 (Or.inl z) (br_f (by decide) (yk_r hN Y.1 hmN rfl (fun _ => yk_t0 hN (Or.inl z) (br_f (nI_pos (by omega)) (br_f (by decide) ⟨rfl, Z⟩))) (fun w => absurd w (iB.mp B))))
      · exact xk_t0 (Or.inr z) (br_f (by decide) (yk_r hN Y.1 hmN rfl (fun _ => yk_t0 hN (Or.inr z) (br_f (nI_pos (by omega)) (br_f (by decide) ⟨rfl, Z⟩))) (fun w => absurd w (iB.mp B))))
      · have Ln := Y.1 n (by omega)
        have rn := C.1 (3 * n) (by omega)
        have en : c n = c (ys_s (r (3 * n))) := by rw [xy_r TT C Y (by omega), ys_0]
        have iT := in_T TT C Y YK hn
        refine xk_t TT C hsk hcl hn rfl (fun k' a b G => ?_) (fun z => ?_)
        · have gb := tg_b TT C G
          have ek := iT.1 k' a b G
          rcases Classical.em (k' = 3) with k3 | k3
          · subst k3
            refine br_t rfl (br_f (nI_pos (by omega)) ?_)
            rw [show (3 : Int32) * nI n = nI (3 * n) from pk_mul 3 n, nI_clamp (n := 3 * n) (by omega), hcl (3 * n) (by omega), nI_clamp (n := r (3 * n)) (by omega)]
            refine ⟨pk_in (3 * n) 96 (by omega), pk_in (r (3 * n)) 96 (by omega), ?_⟩
            have h := hla _ _ rn.1 rn.2 B
            rw [← em, ← en] at h
            rcases hb : tb (la (r (3 * n))) (rg_J N kd op sh r (r (3 * m))) with _ | _
            · refine br_t ((tb_test (by omega)).mpr hb) (yk_r hN Y.1 hmN rfl (fun w => yk_t hN Y.1 hn rfl (br_f (nI_pos (by omega)) (br_t ek ⟨pk_in n 96 (by omega), ?_⟩))) (fun w => absurd w (iB.mp B)))
              rw [nI_clamp (n := n) (by omega)]
              refine yh_has h01 (w := 2) (x := c n) (u := c m) (by omega) Ln.1 Lm.1 rfl Ln.2.1 rfl (fun f => ?_) (fun f => br_t rfl ⟨rfl, Z⟩)
              rw [h.mpr f] at hb
              exact absurd hb (by decide)
            · refine br_f (fun w => ?_) (yk_r hN Y.1 hmN rfl (fun w => yk_t hN Y.1 hn rfl (br_f (nI_pos (by omega)) (br_t ek ⟨pk_in n 96 (by omega), ?_⟩))) (fun w => absurd w (iB.mp B)))
              · rw [(tb_test (by omega)).mp w] at hb
                exact absurd hb (by decide)
              · rw [nI_clamp (n := n) (by omega)]
                refine yh_has h01 (w := 2) (x := c n) (u := c m) (by omega) Ln.1 Lm.1 rfl Ln.2.1 rfl (fun f => br_f (by decide) ⟨rfl, Z⟩) (fun f => ?_)
                exact absurd (f.symm.trans (h.mp hb)) (by decide)
          · have n3 : ¬ nI k' = 3 := fun e => k3 ((nI_eq (b := 3) (by omega) (by omega)).mp e)
            exact br_f n3 (yk_r hN Y.1 hmN rfl (fun w => yk_t hN Y.1 hn rfl (br_f (nI_pos (by omega)) (br_f (by rw [ek]; exact n3) ⟨rfl, Z⟩))) (fun w => absurd w (iB.mp B)))
        · have ek := iT.2 z
          exact br_f (by decide) (yk_r hN Y.1 hmN rfl (fun w => yk_t hN Y.1 hn rfl (br_f (nI_pos (by omega)) (br_f (by rw [ek]; decide) ⟨rfl, Z⟩))) (fun w => absurd w (iB.mp B)))
    · -- no region
      have xr : ∀ {post : Int32 → Prop}, post (-1) → wpX_regionOf post (ml, fl, nI N, nI 1, 1, wt, rc, gw, ec, tp, vl, rm, ls, sp, md, hld, pk, kd, ka, kb, op, up, bd, pn, sk, f1, f2, lk, sh, cl, wa, wb, se, rg, hm, ra, ef, vi, la, sn, qn, qr, qe, qf, qs, al, enn, env, enx, frn, fre, frs, frm, frf) v2 := by
        intro post K
        rcases pk_ix v2 (n := N) (by omega) with z | z | ⟨m, hmN, rfl⟩
        · exact xk_r0 (Or.inl z) K
        · exact xk_r0 (Or.inr z) K
        · exact xk_r TT C hcl RT hmN rfl (fun B => absurd ⟨m, hmN, rfl, B⟩ nb) (fun _ => K)
      have yr : ∀ {post : Int32 → Prop}, post (-1) → wpY_region post (ml, fl, nI N, ls, sp, md, pk, fnd, 1, kd, ka, kb, up, ow, o1, o2, yc, ck, p1, p2, yh, fi, fa, ynd, clr, mrk, vla, evl, ndd, icl, ecl, mkr, cvl, al, cis, 36864) v2 := by
        intro post K
        rcases pk_ix v2 (n := N) (by omega) with z | z | ⟨m, hmN, rfl⟩
        · exact yk_r0 hN (Or.inl z) K
        · exact yk_r0 hN (Or.inr z) K
        · exact yk_r hN Y.1 hmN rfl (fun w => absurd ⟨m, hmN, rfl, (in_B TT C Y YK hmN).mpr w⟩ nb) (fun _ => K)
      have yt : ∀ {post : Int32 → Prop}, (∀ t, post t) → wpY_typeOf post (ml, fl, nI N, ls, sp, md, pk, fnd, 1, kd, ka, kb, up, ow, o1, o2, yc, ck, p1, p2, yh, fi, fa, ynd, clr, mrk, vla, evl, ndd, icl, ecl, mkr, cvl, al, cis, 36864) v1 := by
        intro post K
        rcases pk_ix v1 (n := N) (by omega) with z | z | ⟨m, hmN, rfl⟩
        · exact yk_t0 hN (Or.inl z) (K _)
        · exact yk_t0 hN (Or.inr z) (K _)
        · exact yk_t hN Y.1 hmN rfl (K _)
      have xt : ∀ {post : Int32 → Prop}, (∀ t, post t) → wpX_typeOf post (ml, fl, nI N, nI 1, 1, wt, rc, gw, ec, tp, vl, rm, ls, sp, md, hld, pk, kd, ka, kb, op, up, bd, pn, sk, f1, f2, lk, sh, cl, wa, wb, se, rg, hm, ra, ef, vi, la, sn, qn, qr, qe, qf, qs, al, enn, env, enx, frn, fre, frs, frm, frf) v1 := by
        intro post K
        rcases pk_ix v1 (n := N) (by omega) with z | z | ⟨m, hmN, rfl⟩
        · exact xk_t0 (Or.inl z) (K _)
        · exact xk_t0 (Or.inr z) (K _)
        · exact xk_t TT C hsk hcl hmN rfl (fun _ _ _ _ => K _) (fun _ => K _)
      refine xr (xt fun t => ?_)
      exact br_c (fun _ => br_t (by decide) (yr (yt fun t' => br_t (by decide) ⟨rfl, Z⟩))) (fun _ => yr (yt fun t' => br_t (by decide) ⟨rfl, Z⟩))
theorem i_vc_nodeAt {k : Nat} {u : SX} {v : SY} (I : i_Rel k u v) (hk : k + 4 ≤ 2050) (v1 : Int32) (v2 : Int32) : wpX_nodeAt (fun r => wpY_nodeAt (fun r' => r' = r ∧ i_Rel (k + 4) u v) v v1 v2) u v1 v2 := by
  refine zz_el (P := fun u v => wpX_nodeAt (fun r => wpY_nodeAt (fun r' => r' = r ∧ i_Rel (k + 4) u v) v v1 v2) u v1 v2) ?_ I
  intro ml fl cnt pc ifd wt rc gw ec tp vl rm ls sp md hld pk kd ka kb op up bd pn sk f1 f2 lk sh cl wa wb se rg hm ra ef vi la sn qn qr qe qf qs al enn env enx frn fre frs frm frf fnd ow o1 o2 yc ck p1 p2 yh fi fa ynd clr mrk vla evl ndd icl ecl mkr cvl cis hF
  have Z : i_Rel (k + 4) (ml, fl, cnt, pc, ifd, wt, rc, gw, ec, tp, vl, rm, ls, sp, md, hld, pk, kd, ka, kb, op, up, bd, pn, sk, f1, f2, lk, sh, cl, wa, wb, se, rg, hm, ra, ef, vi, la, sn, qn, qr, qe, qf, qs, al, enn, env, enx, frn, fre, frs, frm, frf) (ml, fl, cnt, ls, sp, md, pk, fnd, ifd, kd, ka, kb, up, ow, o1, o2, yc, ck, p1, p2, yh, fi, fa, ynd, clr, mrk, vla, evl, ndd, icl, ecl, mkr, cvl, al, cis, 36864) := zz_in hF
  obtain ⟨N, c0, L, F, RN, RI, RR⟩ := hF
  obtain ⟨e1, e2, e3, e4, hL1, hL2, hL3, hF1, hF2, hc, TT, PD⟩ := RN
  subst e1 e2
  have hN := TT.1
  unfold wpX_nodeAt
  dsimp only
  rcases pk_ix v1 (n := N) (by omega) with z | z | ⟨n, hn, rfl⟩
  · exact xk_out (Or.inl z) (br_t rfl (br_t z ⟨rfl, Z⟩))
  · exact xk_out (Or.inr z) (br_t rfl (br_c (fun _ => ⟨rfl, Z⟩) (fun _ => br_t z ⟨rfl, Z⟩)))
  · refine xk_in hN hn rfl (br_f (by decide) ?_)
    have vn : vp_in (nI n) 32 := pk_in n 32 (by omega)
    have yo : ∀ {post : Int32 → Prop}, ((v2 < 0 → post (-1)) ∧ (¬ v2 < 0 → (((v2 ≤ 2 → (((v2 = 0 → (vp_in (nI n) 32 ∧ (post (kd (nI n).toNatClampNeg)))) ∧ (¬ v2 = 0 → (((v2 = 1 → (vp_in (nI n) 32 ∧ (post (ka (nI n).toNatClampNeg)))) ∧ (¬ v2 = 1 → (vp_in (nI n) 32 ∧ (post (kb (nI n).toNatClampNeg)))))))))) ∧ (¬ v2 ≤ 2 → (post (-1))))))) → wpY_nodeAt post (ml, fl, nI N, ls, sp, md, pk, fnd, ifd, kd, ka, kb, up, ow, o1, o2, yc, ck, p1, p2, yh, fi, fa, ynd, clr, mrk, vla, evl, ndd, icl, ecl, mkr, cvl, al, cis, 36864) (nI n) v2 := by
      intro post h
      exact br_f (nI_pos (by omega)) (br_f (nI_ge hn (by omega)) h)
    rcases Classical.em (v2 < 0) with a | a
    · exact br_t a (yo (br_t a ⟨rfl, Z⟩))
    · refine br_f a ?_
      rcases Classical.em (v2 ≤ 2) with b | b
      · refine br_t b ?_
        rcases Classical.em (v2 = 0) with d | d
        · exact br_t d ⟨vn, yo (br_f a (br_t b (br_t d ⟨vn, rfl, Z⟩)))⟩
        · refine br_f d ?_
          rcases Classical.em (v2 = 1) with e | e
          · exact br_t e ⟨vn, yo (br_f a (br_t b (br_f d (br_t e ⟨vn, rfl, Z⟩))))⟩
          · exact br_f e ⟨vn, yo (br_f a (br_t b (br_f d (br_f e ⟨vn, rfl, Z⟩))))⟩
      · exact br_f b (yo (br_f a (br_f b ⟨rfl, Z⟩)))
theorem i_vc_pending {k : Nat} {u : SX} {v : SY} (I : i_Rel k u v) (hk : k + 4 ≤ 2050) : wpX_pending (fun r => wpY_pending (fun r' => r' = r ∧ i_Rel (k + 4) u v) v) u := by
  refine zz_el (P := fun u v => wpX_pending (fun r => wpY_pending (fun r' => r' = r ∧ i_Rel (k + 4) u v) v) u) ?_ I
  intro ml fl cnt pc ifd wt rc gw ec tp vl rm ls sp md hld pk kd ka kb op up bd pn sk f1 f2 lk sh cl wa wb se rg hm ra ef vi la sn qn qr qe qf qs al enn env enx frn fre frs frm frf fnd ow o1 o2 yc ck p1 p2 yh fi fa ynd clr mrk vla evl ndd icl ecl mkr cvl cis hF
  have Z : i_Rel (k + 4) (ml, fl, cnt, pc, ifd, wt, rc, gw, ec, tp, vl, rm, ls, sp, md, hld, pk, kd, ka, kb, op, up, bd, pn, sk, f1, f2, lk, sh, cl, wa, wb, se, rg, hm, ra, ef, vi, la, sn, qn, qr, qe, qf, qs, al, enn, env, enx, frn, fre, frs, frm, frf) (ml, fl, cnt, ls, sp, md, pk, fnd, ifd, kd, ka, kb, up, ow, o1, o2, yc, ck, p1, p2, yh, fi, fa, ynd, clr, mrk, vla, evl, ndd, icl, ecl, mkr, cvl, al, cis, 36864) := zz_in hF
  obtain ⟨N, c0, L, F, RN, RI, RR⟩ := hF
  obtain ⟨e1, e2, e3, e4, hL1, hL2, hL3, hF1, hF2, hc, TT, PD⟩ := RN
  subst e1 e2
  exact yp_pe TT.1 TT.2.2.1 PD ⟨rfl, Z⟩
theorem tm_0 {kd ka kb up op : Nat → Int32} : tm_T 0 kd ka kb up op :=
  ⟨by omega, fun n h => absurd h (by omega), fun n h => absurd h (by omega), ⟨fun n i h => absurd h (by omega), fun n i j h => absurd h (by omega), fun n m h => absurd h (by omega), fun n i h => absurd h (by omega)⟩, fun n h => absurd h (by omega)⟩
theorem pd_0 {up pn : Nat → Int32} : pd_I 0 up pn 0 := ⟨fun j h => absurd h (by omega), fun i j _ h => absurd h (by omega), fun m h => absurd h (by omega)⟩
theorem i_vc_clear {k : Nat} {u : SX} {v : SY} (I : i_Rel k u v) (hk : k + 4 ≤ 2050) : wpX_clear (fun u' => wpY_clear (fun v' => i_Rel (k + 4) u' v') v) u := by
  refine zz_el (P := fun u v => wpX_clear (fun u' => wpY_clear (fun v' => i_Rel (k + 4) u' v') v) u) ?_ I
  intro ml fl cnt pc ifd wt rc gw ec tp vl rm ls sp md hld pk kd ka kb op up bd pn sk f1 f2 lk sh cl wa wb se rg hm ra ef vi la sn qn qr qe qf qs al enn env enx frn fre frs frm frf fnd ow o1 o2 yc ck p1 p2 yh fi fa ynd clr mrk vla evl ndd icl ecl mkr cvl cis hF
  obtain ⟨N, c0, L, F, RN, RI, RR⟩ := hF
  obtain ⟨e1, e2, e3, e4, hL1, hL2, hL3, hF1, hF2, hc, TT, PD⟩ := RN
  exact zz_in (k := k + 4) (rl_0 (N := 0) (c := 0) ⟨rfl, rfl, e3, e4, hL1, hL2, by omega, hF1, hF2, by omega, tm_0, pd_0⟩)
theorem i_0 {L F : Nat} (h1 : 8 ≤ L) (h2 : L ≤ 32) (h3 : 16 ≤ F) (h4 : F ≤ 240) : i_Rel 2 (nI L, nI F, 0, 0, 0, 0, 0, 0, 0, 0, 0, 0, (-1), 0, 0, 0, 0, (fun _ => 0), (fun _ => 0), (fun _ => 0), (fun _ => 0), (fun _ => 0), (fun _ => 0), (fun _ => 0), (fun _ => 0), (fun _ => 0), (fun _ => 0), (fun _ => 0), (fun _ => 0), (fun _ => 0), (fun _ => 0), (fun _ => 0), (fun _ => 0), (fun _ => 0), (fun _ => 0), (fun _ => 0), (fun _ => 0), (fun _ => 0), (fun _ => 0), (fun _ => 0), (fun _ => 0), (fun _ => 0), (fun _ => 0), (fun _ => 0), (fun _ => 0), (fun _ => 0), (fun _ => 0), (fun _ => 0), (fun _ => 0), (fun _ => 0), (fun _ => 0), (fun _ => 0), (fun _ => 0), (fun _ => 0))
    (nI L, nI F, 0, (-1), 0, 0, 0, 0, 0, (fun _ => 0), (fun _ => 0), (fun _ => 0), (fun _ => 0), (fun _ => 0), (fun _ => 0), (fun _ => 0), (fun _ => 0), (fun _ => 0), (fun _ => 0), (fun _ => 0), (fun _ => 0), (fun _ => 0), (fun _ => 0), (fun _ => 0), (fun _ => 0), (fun _ => 0), (fun _ => 0), (fun _ => 0), (fun _ => 0), (fun _ => 0), (fun _ => 0), (fun _ => 0), (fun _ => 0), (fun _ => 0), (fun _ => 0), 36864) :=
  zz_in (rl_0 (N := 0) (c := 0) ⟨rfl, rfl, rfl, rfl, h1, h2, by omega, h3, h4, by omega, tm_0, pd_0⟩)
/-- both constructors clamp alike -/
theorem i_cl {lo hi : Nat} (x : Int32) (hl : lo ≤ hi) (hh : hi < 2 ^ 31) : (∃ L, lo ≤ L ∧ L ≤ hi ∧ nI lo ≤ x ∧ x ≤ nI hi ∧ x = nI L) ∨ (nI lo ≤ x ∧ ¬ x ≤ nI hi) ∨ (¬ nI lo ≤ x) := by
  rcases Classical.em (nI lo ≤ x) with a | a
  · rcases Classical.em (x ≤ nI hi) with b | b
    · have n0 : ¬ x < 0 := fun z => absurd (Int32.lt_of_le_of_lt a z) (nI_pos (by omega))
      obtain ⟨j, hj, rfl⟩ := nI_of n0
      rw [nI_leI (by omega) hj] at a
      rw [nI_leI hj (by omega)] at b
      exact Or.inl ⟨j, a, b, nI_le a hj, nI_le b (by omega), rfl⟩
    · exact Or.inr (Or.inl ⟨a, b⟩)
  · exact Or.inr (Or.inr a)
theorem i_vc0 (k0 : Int32) (k1 : Int32) : wpX_init (fun u => wpY_init (fun v => i_Rel 2 u v) k0 k1) k0 k1 := by
  have fin : ∀ (L F : Nat) (x y : Int32), ((x = nI L ∧ 8 ≤ k0 ∧ k0 ≤ 32 ∧ k0 = nI L) ∨ (x = nI L ∧ L = 32 ∧ 8 ≤ k0 ∧ ¬ k0 ≤ 32) ∨ (x = nI L ∧ L = 8 ∧ ¬ 8 ≤ k0)) → ((y = nI F ∧ 16 ≤ k1 ∧ k1 ≤ 240 ∧ k1 = nI F) ∨ (y = nI F ∧ F = 240 ∧ 16 ≤ k1 ∧ ¬ k1 ≤ 240) ∨ (y = nI F ∧ F = 16 ∧ ¬ 16 ≤ k1)) → 8 ≤ L → L ≤ 32 → 16 ≤ F → F ≤ 240 →
      wpY_init (fun v => i_Rel 2 (x, y, 0, 0, 0, 0, 0, 0, 0, 0, 0, 0, (-1), 0, 0, 0, 0, (fun _ => 0), (fun _ => 0), (fun _ => 0), (fun _ => 0), (fun _ => 0), (fun _ => 0), (fun _ => 0), (fun _ => 0), (fun _ => 0), (fun _ => 0), (fun _ => 0), (fun _ => 0), (fun _ => 0), (fun _ => 0), (fun _ => 0), (fun _ => 0), (fun _ => 0), (fun _ => 0), (fun _ => 0), (fun _ => 0), (fun _ => 0), (fun _ => 0), (fun _ => 0), (fun _ => 0), (fun _ => 0), (fun _ => 0), (fun _ => 0), (fun _ => 0), (fun _ => 0), (fun _ => 0), (fun _ => 0), (fun _ => 0), (fun _ => 0), (fun _ => 0), (fun _ => 0), (fun _ => 0), (fun _ => 0)) v) k0 k1 := by
    intro L F x y hx hy h1 h2 h3 h4
    refine ⟨by decide, nm_r (e' := 36864) (by decide) ⟨by omega, ?_⟩⟩
    have R := i_0 h1 h2 h3 h4
    have g : ∀ {z : Int32}, z = nI L → x = nI L → wY_init_253 (fun v => i_Rel 2 (x, y, 0, 0, 0, 0, 0, 0, 0, 0, 0, 0, (-1), 0, 0, 0, 0, (fun _ => 0), (fun _ => 0), (fun _ => 0), (fun _ => 0), (fun _ => 0), (fun _ => 0), (fun _ => 0), (fun _ => 0), (fun _ => 0), (fun _ => 0), (fun _ => 0), (fun _ => 0), (fun _ => 0), (fun _ => 0), (fun _ => 0), (fun _ => 0), (fun _ => 0), (fun _ => 0), (fun _ => 0), (fun _ => 0), (fun _ => 0), (fun _ => 0), (fun _ => 0), (fun _ => 0), (fun _ => 0), (fun _ => 0), (fun _ => 0), (fun _ => 0), (fun _ => 0), (fun _ => 0), (fun _ => 0), (fun _ => 0), (fun _ => 0), (fun _ => 0), (fun _ => 0), (fun _ => 0), (fun _ => 0)) v) k1 z 0 0 0 (-1) 0 0 0 0 0 (fun _ => 0) (fun _ => 0) (fun _ => 0) (fun _ => 0) (fun _ => 0) (fun _ => 0) (fun _ => 0) (fun _ => 0) (fun _ => 0) (fun _ => 0) (fun _ => 0) (fun _ => 0) (fun _ => 0) (fun _ => 0) (fun _ => 0) (fun _ => 0) (fun _ => 0) (fun _ => 0) (fun _ => 0) (fun _ => 0) (fun _ => 0) (fun _ => 0) (fun _ => 0) (fun _ => 0) (fun _ => 0) (fun _ => 0) 36864 := by
      intro z ez ex
      subst ez ex
      rcases hy with ⟨rfl, a, b, e⟩ | ⟨rfl, rfl, a, b⟩ | ⟨rfl, rfl, a⟩
      · refine br_t a (br_t b ?_)
        rw [e]
        exact R
      · exact br_t a (br_f b R)
      · exact br_f a R
    rcases hx with ⟨ex, a, b, e⟩ | ⟨ex, rfl, a, b⟩ | ⟨ex, rfl, a⟩
    · exact br_t a (br_t b (g e ex))
    · exact br_t a (br_f b (g rfl ex))
    · exact br_f a (g rfl ex)
  have xc : ∀ {post : Int32 → Prop} {w : SX} {x a b : Int32}, (a ≤ x → x ≤ b → post x) → (a ≤ x → ¬ x ≤ b → post b) → (¬ a ≤ x → post a) → wpX_clamp post w x a b := fun h1 h2 h3 => br_c (fun a => br_c (fun b => h1 a b) (fun b => h2 a b)) (fun a => h3 a)
  have two : ∀ (L : Nat) (x : Int32), ((x = nI L ∧ 8 ≤ k0 ∧ k0 ≤ 32 ∧ k0 = nI L) ∨ (x = nI L ∧ L = 32 ∧ 8 ≤ k0 ∧ ¬ k0 ≤ 32) ∨ (x = nI L ∧ L = 8 ∧ ¬ 8 ≤ k0)) → 8 ≤ L → L ≤ 32 → ∀ {w : SX}, wpX_clamp (fun r_56 => wpY_init (fun v => i_Rel 2 (x, r_56, 0, 0, 0, 0, 0, 0, 0, 0, 0, 0, (-1), 0, 0, 0, 0, (fun _ => 0), (fun _ => 0), (fun _ => 0), (fun _ => 0), (fun _ => 0), (fun _ => 0), (fun _ => 0), (fun _ => 0), (fun _ => 0), (fun _ => 0), (fun _ => 0), (fun _ => 0), (fun _ => 0), (fun _ => 0), (fun _ => 0), (fun _ => 0), (fun _ => 0), (fun _ => 0), (fun _ => 0), (fun _ => 0), (fun _ => 0), (fun _ => 0), (fun _ => 0), (fun _ => 0), (fun _ => 0), (fun _ => 0), (fun _ => 0), (fun _ => 0), (fun _ => 0), (fun _ => 0), (fun _ => 0), (fun _ => 0), (fun _ => 0), (fun _ => 0), (fun _ => 0), (fun _ => 0), (fun _ => 0)) v) k0 k1) w k1 16 240 := by
    intro L x hx h1 h2 w
    rcases i_cl (lo := 16) (hi := 240) k1 (by omega) (by omega) with ⟨F, f1, f2, f3, f4, f5⟩ | ⟨f1, f2⟩ | f1
    · exact xc (fun a b => fin L F x k1 hx (Or.inl ⟨f5, a, b, f5⟩) h1 h2 f1 f2) (fun a b => absurd f4 b) (fun a => absurd f3 a)
    · exact xc (fun a b => absurd b f2) (fun a b => fin L 240 x 240 hx (Or.inr (Or.inl ⟨rfl, rfl, a, b⟩)) h1 h2 (by omega) (by omega)) (fun a => absurd f1 a)
    · exact xc (fun a b => absurd a f1) (fun a b => absurd a f1) (fun a => fin L 16 x 16 hx (Or.inr (Or.inr ⟨rfl, rfl, a⟩)) h1 h2 (by omega) (by omega))
  unfold wpX_init
  rcases i_cl (lo := 8) (hi := 32) k0 (by omega) (by omega) with ⟨L, f1, f2, f3, f4, f5⟩ | ⟨f1, f2⟩ | f1
  · exact xc (fun a b => two L k0 (Or.inl ⟨f5, a, b, f5⟩) f1 f2) (fun a b => absurd f4 b) (fun a => absurd f3 a)
  · exact xc (fun a b => absurd b f2) (fun a b => two 32 32 (Or.inr (Or.inl ⟨rfl, rfl, a, b⟩)) (by omega) (by omega)) (fun a => absurd f1 a)
  · exact xc (fun a b => absurd a f1) (fun a b => absurd a f1) (fun a => two 8 8 (Or.inr (Or.inr ⟨rfl, rfl, a⟩)) (by omega) (by omega))
end
section
/-- the new parents when node N takes the last a pending nodes -/
def ad_U (N c a : Nat) (up pn up' : Nat → Int32) : Prop := (∀ j, c - a ≤ j → j < c → up' (pd_P pn j) = nI N) ∧ up' N = -1 ∧ (∀ m, m ≠ N → (∀ j, c - a ≤ j → j < c → m ≠ pd_P pn j) → up' m = up m)
theorem ad_u {N c a : Nat} {up pn up1 up2 : Nat → Int32} (h1 : ad_U N c a up pn up1) (h2 : ad_U N c a up pn up2) : up1 = up2 := by
  funext m
  rcases Classical.em (m = N) with e | e
  · rw [e, h1.2.1, h2.2.1]
  · rcases Classical.em (∃ j, c - a ≤ j ∧ j < c ∧ m = pd_P pn j) with ⟨j, q1, q2, q3⟩ | q
    · rw [q3, h1.1 j q1 q2, h2.1 j q1 q2]
    · have q' : ∀ j, c - a ≤ j → j < c → m ≠ pd_P pn j := fun j q1 q2 q3 => q ⟨j, q1, q2, q3⟩
      rw [h1.2.2 m e q', h2.2.2 m e q']
def ad_O (N c a : Nat) (op pn op' : Nat → Int32) : Prop := (∀ i, i < a → op' (3 * N + i) = pn (c - a + i)) ∧ (∀ i, a ≤ i → i < 3 → op' (3 * N + i) = 0) ∧ (∀ j, j < 3 * N → op' j = op j)
def ad_g (k a b : Int32) : Prop := tm_K k ∧ (k = 1 ∨ k = 2 → ∃ x, x < 8 ∧ a = nI x) ∧ (k = 2 → ∃ x, x < 8 ∧ b = nI x)
theorem ad_T {N c : Nat} {kd ka kb up op pn up' op' : Nat → Int32} {k a b x y : Int32} (TT : tm_T N kd ka kb up op) (PD : pd_I N up pn c) (hN1 : N + 1 ≤ 32) (g : ad_g k a b) (hc : tm_ar k ≤ c) (hx : k = 1 ∨ k = 2 → x = a) (hy : k = 2 → y = b)
    (U : ad_U N c (tm_ar k) up pn up') (O : ad_O N c (tm_ar k) op pn op') :
    tm_T (N + 1) (upd kd N k) (upd ka N x) (upd kb N y) up' op' ∧ pd_I (N + 1) up' (upd pn (c - tm_ar k) (nI N)) (c - tm_ar k + 1) := by
  have a3 := ar_le k
  have inc := PD.2.1
  have opN : ∀ i, i < tm_ar k → op' (3 * N + i) = nI (pd_P pn (c - tm_ar k + i)) ∧ tm_c op' N i = pd_P pn (c - tm_ar k + i) ∧ pd_P pn (c - tm_ar k + i) < N := by
    intro i hi
    have p := PD.1 (c - tm_ar k + i) (by omega)
    have e := (O.1 i hi).trans p.1
    refine ⟨e, ?_, p.2.1⟩
    unfold tm_c
    rw [e, nI_clamp (by omega)]
  have opn : ∀ n i, n < N → i < 3 → op' (3 * n + i) = op (3 * n + i) := fun n i hn hi => O.2.2 _ (by omega)
  have tcn : ∀ n i, n < N → i < 3 → tm_c op' n i = tm_c op n i := fun n i hn hi => by unfold tm_c; rw [opn n i hn hi]
  have kn : ∀ n, n < N → upd kd N k n = kd n := fun n hn => pk_un (by omega)
  have notP : ∀ {m n}, m < N → n < 2 ^ 31 → up m = nI n → ∀ j, c - tm_ar k ≤ j → j < c → m ≠ pd_P pn j := by
    intro m n hm hn e j q1 q2 q3
    have := (PD.1 j q2).2.2
    rw [← q3, e] at this
    exact m1_n hn this.symm
  refine ⟨⟨hN1, fun n hn => ?_, fun m hm => ?_, ⟨fun n i hn hi => ?_, fun n i j hn hij hj => ?_, fun n m hn hm e => ?_, fun n i hn hi hi3 => ?_⟩, fun n hn => ?_⟩, fun j hj => ?_, fun i j hij hj => ?_, fun m hm e => ?_⟩
  · rcases Classical.em (n = N) with e | e
    · subst e; rw [pk_us]; exact g.1
    · rw [pk_un e]; exact TT.2.1 n (by omega)
  · rcases Classical.em (m = N) with e | e
    · rw [e]; exact Or.inl U.2.1
    · rcases Classical.em (∃ j, c - tm_ar k ≤ j ∧ j < c ∧ m = pd_P pn j) with ⟨j, q1, q2, q3⟩ | q
      · rw [q3]
        exact Or.inr ⟨N, (PD.1 j q2).2.1, by omega, U.1 j q1 q2⟩
      · rw [U.2.2 m e fun j q1 q2 q3 => q ⟨j, q1, q2, q3⟩]
        rcases TT.2.2.1 m (by omega) with w | ⟨p, w1, w2, w3⟩
        · exact Or.inl w
        · exact Or.inr ⟨p, w1, by omega, w3⟩
  · rcases Classical.em (n = N) with e | e
    · subst e
      rw [pk_us] at hi
      have o := opN i hi
      rw [o.2.1]
      exact ⟨o.1, o.2.2, U.1 _ (by omega) (by omega)⟩
    · have hn' : n < N := by omega
      rw [kn n hn'] at hi
      have h3 := ar_le (kd n)
      have o := TT.2.2.2.1.1 n i hn' hi
      rw [tcn n i hn' (by omega), opn n i hn' (by omega)]
      refine ⟨o.1, o.2.1, ?_⟩
      rw [U.2.2 _ (by omega) (notP (by omega) (by omega) o.2.2)]
      exact o.2.2
  · rcases Classical.em (n = N) with e | e
    · subst e
      rw [pk_us] at hj
      rw [(opN i (by omega)).2.1, (opN j hj).2.1]
      exact inc _ _ (by omega) (by omega)
    · have hn' : n < N := by omega
      rw [kn n hn'] at hj
      have h3 := ar_le (kd n)
      rw [tcn n i hn' (by omega), tcn n j hn' (by omega)]
      exact TT.2.2.2.1.2.1 n i j hn' hij hj
  · have mN : m ≠ N := fun z => by
      rw [z, U.2.1] at e
      exact m1_n (by omega) e
    rcases Classical.em (∃ j, c - tm_ar k ≤ j ∧ j < c ∧ m = pd_P pn j) with ⟨j, q1, q2, q3⟩ | q
    · rw [q3, U.1 j q1 q2] at e
      have en : N = n := (nI_eq (by omega) (by omega)).mp e
      subst en
      rw [pk_us]
      refine ⟨j - (c - tm_ar k), by omega, ?_⟩
      rw [(opN _ (by omega)).2.1, q3]
      exact congrArg (pd_P pn) (by omega)
    · rw [U.2.2 m mN fun j q1 q2 q3 => q ⟨j, q1, q2, q3⟩] at e
      have pl := tm_pl TT.2.2.1 TT.1 (c := m) (n := n) (by omega) (by omega) e
      obtain ⟨i, q1, q2⟩ := TT.2.2.2.1.2.2.1 n m pl.2 (by omega) e
      have h3 := ar_le (kd n)
      rw [kn n pl.2]
      exact ⟨i, q1, by rw [tcn n i pl.2 (by omega)]; exact q2⟩
  · rcases Classical.em (n = N) with e | e
    · subst e
      rw [pk_us] at hi
      exact O.2.1 i hi hi3
    · have hn' : n < N := by omega
      rw [kn n hn'] at hi
      rw [opn n i hn' hi3]
      exact TT.2.2.2.1.2.2.2 n i hn' hi hi3
  · rcases Classical.em (n = N) with e | e
    · subst e
      rw [pk_us, pk_us, pk_us]
      exact ⟨fun h => by rw [hx h]; exact g.2.1 h, fun h => by rw [hy h]; exact g.2.2 h⟩
    · rw [pk_un e, pk_un e, pk_un e]
      exact TT.2.2.2.2 n (by omega)
  · rcases Classical.em (j = c - tm_ar k) with e | e
    · have pj : pd_P (upd pn (c - tm_ar k) (nI N)) j = N := by
        unfold pd_P
        rw [e, pk_us, nI_clamp (by omega)]
      rw [pj, e, pk_us]
      exact ⟨rfl, by omega, U.2.1⟩
    · have pj : pd_P (upd pn (c - tm_ar k) (nI N)) j = pd_P pn j := by
        unfold pd_P
        rw [pk_un e]
      have p := PD.1 j (by omega)
      rw [pj, pk_un e]
      refine ⟨p.1, by omega, ?_⟩
      rw [U.2.2 _ (by omega) fun j' q1 q2 q3 => ?_]
      · exact p.2.2
      · have := inc j j' (by omega) q2
        omega
  · have pi : pd_P (upd pn (c - tm_ar k) (nI N)) i = pd_P pn i := by
      unfold pd_P
      rw [pk_un (by omega)]
    have p := PD.1 i (by omega)
    rw [pi]
    rcases Classical.em (j = c - tm_ar k) with e | e
    · have pj : pd_P (upd pn (c - tm_ar k) (nI N)) j = N := by
        unfold pd_P
        rw [e, pk_us, nI_clamp (by omega)]
      rw [pj]
      exact p.2.1
    · have pj : pd_P (upd pn (c - tm_ar k) (nI N)) j = pd_P pn j := by
        unfold pd_P
        rw [pk_un e]
      rw [pj]
      exact inc i j hij (by omega)
  · rcases Classical.em (m = N) with z | z
    · refine ⟨c - tm_ar k, by omega, ?_⟩
      unfold pd_P
      rw [pk_us, nI_clamp (by omega), z]
    · have q : ∀ j, c - tm_ar k ≤ j → j < c → m ≠ pd_P pn j := fun j q1 q2 q3 => by
        rw [q3, U.1 j q1 q2] at e
        exact m1_n (by omega) e.symm
      rw [U.2.2 m z q] at e
      obtain ⟨j, q1, q2⟩ := PD.2.2 m (by omega) e
      have : j < c - tm_ar k := by
        rcases Nat.lt_or_ge j (c - tm_ar k) with w | w
        · exact w
        · exact absurd q2 (q j w q1)
      refine ⟨j, by omega, ?_⟩
      unfold pd_P at q2 ⊢
      rw [pk_un (by omega)]
      exact q2
section
variable {ml fl cnt pc ifd wt rc gw ec tp : Int32} {vl : Int64} {rm ls sp md hld pk : Int32} {kd ka kb op up bd pn sk f1 f2 lk sh cl wa wb se rg hm : Nat → Int32} {ra ef vi la sn : Nat → Int64} {qn qr qe : Nat → Int32} {qf qs : Nat → Int64} {al enn : Nat → Int32} {env : Nat → Int64} {enx frn fre frs frm : Nat → Int32} {frf : Nat → Int64}
theorem xa_160 {post : Int32 → SX → Prop} {N c a : Nat} {op0 up0 : Nat → Int32} (hN1 : N + 1 ≤ 32) (hc : c ≤ N) (ha : a ≤ c) (ha3 : a ≤ 3) (hP : ∀ j, j < c → pn j = nI (pd_P pn j) ∧ pd_P pn j < N)
    (K : ∀ op' up', ad_O N c a op0 pn op' → ad_U N c a up0 pn up' → post (nI N) (ml, fl, cnt, nI (c - a + 1), 0, wt, rc, gw, ec, tp, vl, rm, -1, sp, md, hld, pk, kd, ka, kb, op', up', bd, upd pn (c - a) (nI N), sk, f1, f2, lk, sh, cl, wa, wb, se, rg, hm, ra, ef, vi, la, sn, qn, qr, qe, qf, qs, al, enn, env, enx, frn, fre, frs, frm, frf)) :
    ∀ (d i : Nat) (op up : Nat → Int32), (∀ i', i' < i → i' < a → op (3 * N + i') = pn (c - a + i')) → (∀ i', i' < i → a ≤ i' → op (3 * N + i') = 0) → (∀ j, j < 3 * N → op j = op0 j) →
      (∀ j, c - a ≤ j → j < c - a + i → j < c → up (pd_P pn j) = nI N) → up N = -1 → (∀ m, m ≠ N → (∀ j, c - a ≤ j → j < c → m ≠ pd_P pn j) → up m = up0 m) → i ≤ 3 → 4 ≤ d + i →
      wX_add_160 post (nI a) (nI N) ml fl cnt (nI (c - a)) ifd wt rc gw ec tp vl rm ls sp md hld pk d (nI i) kd ka kb op up bd pn sk f1 f2 lk sh cl wa wb se rg hm ra ef vi la sn qn qr qe qf qs al enn env enx frn fre frs frm frf := by
  intro d
  induction d with
  | zero => intro i op up h1 h2 h3 h4 h5 h6 hi hd; omega
  | succ d ih =>
    intro i op up h1 h2 h3 h4 h5 h6 hi hd
    have e3 : (3 : Int32) * nI N + nI i = nI (3 * N + i) := by rw [show (3 : Int32) * nI N = nI (3 * N) from pk_mul 3 N, nI_add]
    refine pk_le 3 i (fun z => ?_) (fun z => ?_)
    · have e : i = 3 := by omega
      subst e
      refine nm_r (e' := nI (c - a + 1)) (nI_1 _) ⟨pk_in (c - a) 32 (by omega), nm_r (e' := upd pn (c - a) (nI N)) (by rw [nI_clamp (by omega)]) (K op up ⟨fun i' q => h1 i' (by omega) q, fun i' q1 q2 => h2 i' q2 q1, h3⟩ ⟨fun j q1 q2 => h4 j q1 (by omega) q2, h5, h6⟩)⟩
    · rw [e3, nI_clamp (n := 3 * N + i) (by omega)]
      refine ⟨pk_in (3 * N + i) 96 (by omega), nm_e ?_⟩
      refine pk_le a i (fun w => nm_r (e' := nI (i + 1)) (nI_1 i) ?_) (fun w => ?_)
      · refine ih (i + 1) _ up (fun i' q1 q2 => ?_) (fun i' q1 q2 => ?_) (fun j hj => ?_) (fun j q1 q2 q3 => h4 j q1 (by omega) q3) h5 h6 (by omega) (by omega)
        · rw [pk_un (by omega)]; exact h1 i' (by omega) q2
        · rcases Classical.em (i' = i) with y | y
          · subst y; exact pk_us
          · rw [pk_un (by omega)]; exact h2 i' (by omega) q2
        · rw [pk_un (by omega)]; exact h3 j hj
      · have p := hP (c - a + i) (by omega)
        rw [show nI (c - a) + nI i = nI (c - a + i) from nI_add _ _, nI_clamp (n := c - a + i) (by omega)]
        refine ⟨pk_in (c - a + i) 32 (by omega), nm_r (e' := nI (pd_P pn (c - a + i))) p.1 ⟨pk_in (3 * N + i) 96 (by omega), nm_e ⟨pk_in (pd_P pn (c - a + i)) 32 (by omega), nm_r (e' := upd up (pd_P pn (c - a + i)) (nI N)) (by rw [nI_clamp (by omega)]) (nm_r (e' := nI (i + 1)) (nI_1 i) ?_)⟩⟩⟩
        refine ih (i + 1) _ _ (fun i' q1 q2 => ?_) (fun i' q1 q2 => ?_) (fun j hj => ?_) (fun j q1 q2 q3 => ?_) ?_ (fun m q1 q2 => ?_) (by omega) (by omega)
        · rcases Classical.em (i' = i) with y | y
          · subst y
            rw [pk_us]
            exact p.1.symm
          · rw [pk_un (by omega), pk_un (by omega)]; exact h1 i' (by omega) q2
        · rw [pk_un (by omega), pk_un (by omega)]
          exact h2 i' (by omega) q2
        · rw [pk_un (by omega), pk_un (by omega)]; exact h3 j hj
        · rcases Classical.em (pd_P pn j = pd_P pn (c - a + i)) with y | y
          · rw [y]; exact pk_us
          · rw [pk_un y]
            refine h4 j q1 ?_ q3
            rcases Classical.em (j = c - a + i) with y2 | y2
            · rw [y2] at y; exact absurd rfl y
            · omega
        · rw [pk_un (by omega)]; exact h5
        · rw [pk_un (q2 _ (by omega) (by omega))]
          exact h6 m q1 q2
end
end
section
/-- a name or not, as both sides test it -/
theorem nm_t (a : Int32) : (a < 0 ∧ ¬ ∃ x, x < 8 ∧ a = nI x) ∨ (¬ a < 0 ∧ 7 < a ∧ ¬ a ≤ 7 ∧ ¬ ∃ x, x < 8 ∧ a = nI x) ∨ (¬ a < 0 ∧ ¬ 7 < a ∧ a ≤ 7 ∧ ∃ x, x < 8 ∧ a = nI x) := by
  rcases pk_ix a (n := 8) (by omega) with z | z | ⟨x, hx, rfl⟩
  · refine Or.inl ⟨z, fun ⟨x, hx, e⟩ => ?_⟩
    rw [e] at z
    exact nI_pos (by omega) z
  · have z7 : (7 : Int32) < a := Int32.lt_of_lt_of_le (by decide) z
    have z0 : ¬ a < 0 := fun w => absurd (Int32.lt_trans z7 w) (by decide)
    refine Or.inr (Or.inl ⟨z0, z7, Int32.not_le.mpr z7, fun ⟨x, hx, e⟩ => ?_⟩)
    rw [e] at z
    exact nI_ge hx (by omega) z
  · exact Or.inr (Or.inr ⟨nI_pos (by omega), nI_nlt (a := 7) (by omega) (by omega), nI_le (b := 7) (by omega) (by omega), x, hx, rfl⟩)
section
variable {ml fl cnt pc ifd wt rc gw ec tp : Int32} {vl : Int64} {rm ls sp md hld pk : Int32} {kd ka kb op up bd pn sk f1 f2 lk sh cl wa wb se rg hm : Nat → Int32} {ra ef vi la sn : Nat → Int64} {qn qr qe : Nat → Int32} {qf qs : Nat → Int64} {al enn : Nat → Int32} {env : Nat → Int64} {enx frn fre frs frm : Nat → Int32} {frf : Nat → Int64}
theorem xa_nm {post : Int32 → Prop} {a : Int32} (K1 : (∃ x, x < 8 ∧ a = nI x) → post 1) (K0 : (¬ ∃ x, x < 8 ∧ a = nI x) → post 0) : wpX_isName post (ml, fl, cnt, pc, ifd, wt, rc, gw, ec, tp, vl, rm, ls, sp, md, hld, pk, kd, ka, kb, op, up, bd, pn, sk, f1, f2, lk, sh, cl, wa, wb, se, rg, hm, ra, ef, vi, la, sn, qn, qr, qe, qf, qs, al, enn, env, enx, frn, fre, frs, frm, frf) a := by
  rcases nm_t a with ⟨h1, h2⟩ | ⟨h1, h2, h3, h4⟩ | ⟨h1, h2, h3, h4⟩
  · exact br_t h1 (K0 h2)
  · exact br_f h1 (br_t h2 (K0 h4))
  · exact br_f h1 (br_f h2 (K1 h4))
theorem xa_pre {post : Int32 → SX → Prop} {k a b : Int32} (Kb : ¬ ad_g k a b → post (-2) (ml, fl, cnt, pc, ifd, wt, rc, gw, ec, tp, vl, rm, ls, sp, md, hld, pk, kd, ka, kb, op, up, bd, pn, sk, f1, f2, lk, sh, cl, wa, wb, se, rg, hm, ra, ef, vi, la, sn, qn, qr, qe, qf, qs, al, enn, env, enx, frn, fre, frs, frm, frf)) (Kg : ad_g k a b → wX_add_50 post k a b ml fl cnt pc ifd wt rc gw ec tp vl rm ls sp md hld pk kd ka kb op up bd pn sk f1 f2 lk sh cl wa wb se rg hm ra ef vi la sn qn qr qe qf qs al enn env enx frn fre frs frm frf) : wpX_add post (ml, fl, cnt, pc, ifd, wt, rc, gw, ec, tp, vl, rm, ls, sp, md, hld, pk, kd, ka, kb, op, up, bd, pn, sk, f1, f2, lk, sh, cl, wa, wb, se, rg, hm, ra, ef, vi, la, sn, qn, qr, qe, qf, qs, al, enn, env, enx, frn, fre, frs, frm, frf) k a b := by
  rcases pk_ix k (n := 9) (by omega) with z | z | ⟨j, hj, rfl⟩
  · refine br_t z (Kb fun g => ?_)
    rcases g.1 with e | e | e | e | e | e | e | e | e <;> (subst e; exact absurd z (by decide))
  · have z8 : ¬ k ≤ 8 := fun w => absurd (Int32.le_trans z w) (by decide)
    have z0 : ¬ k < 0 := fun w => absurd (Int32.lt_of_le_of_lt z w) (by decide)
    refine br_f z0 (br_f z8 (Kb fun g => ?_))
    rcases g.1 with e | e | e | e | e | e | e | e | e <;> (subst e; exact absurd z (by decide))
  · have hK : tm_K (nI j) := by
      have : j = 0 ∨ j = 1 ∨ j = 2 ∨ j = 3 ∨ j = 4 ∨ j = 5 ∨ j = 6 ∨ j = 7 ∨ j = 8 := by omega
      rcases this with rfl | rfl | rfl | rfl | rfl | rfl | rfl | rfl | rfl
      · exact Or.inl rfl
      · exact Or.inr (Or.inl rfl)
      · exact Or.inr (Or.inr (Or.inl rfl))
      · exact Or.inr (Or.inr (Or.inr (Or.inl rfl)))
      · exact Or.inr (Or.inr (Or.inr (Or.inr (Or.inl rfl))))
      · exact Or.inr (Or.inr (Or.inr (Or.inr (Or.inr (Or.inl rfl)))))
      · exact Or.inr (Or.inr (Or.inr (Or.inr (Or.inr (Or.inr (Or.inl rfl))))))
      · exact Or.inr (Or.inr (Or.inr (Or.inr (Or.inr (Or.inr (Or.inr (Or.inl rfl)))))))
      · exact Or.inr (Or.inr (Or.inr (Or.inr (Or.inr (Or.inr (Or.inr (Or.inr rfl)))))))
    refine br_f (nI_pos (by omega)) (br_t (nI_le (b := 8) (by omega) (by omega)) ?_)
    have s34 : (nI j = 1 ∨ nI j = 2 → ∃ x, x < 8 ∧ a = nI x) → wX_add_34 post (nI j) a b ml fl cnt pc ifd wt rc gw ec tp vl rm ls sp md hld pk kd ka kb op up bd pn sk f1 f2 lk sh cl wa wb se rg hm ra ef vi la sn qn qr qe qf qs al enn env enx frn fre frs frm frf := by
      intro ga
      unfold wX_add_34
      rcases Classical.em (nI j = 2) with e | e
      · exact br_t e (xa_nm (fun gb => br_f (by decide) (Kg ⟨hK, ga, fun _ => gb⟩)) (fun gb => br_t rfl (Kb fun g => gb (g.2.2 e))))
      · exact br_f e (Kg ⟨hK, ga, fun w => absurd w e⟩)
    have s23 : (nI j = 1 ∨ nI j = 2) → wX_add_23 post (nI j) a b ml fl cnt pc ifd wt rc gw ec tp vl rm ls sp md hld pk kd ka kb op up bd pn sk f1 f2 lk sh cl wa wb se rg hm ra ef vi la sn qn qr qe qf qs al enn env enx frn fre frs frm frf := by
      intro h
      unfold wX_add_23
      exact xa_nm (fun ga => br_f (by decide) (s34 fun _ => ga)) (fun ga => br_t rfl (Kb fun g => ga (g.2.1 h)))
    rcases Classical.em (nI j = 1) with e | e
    · exact br_t e (s23 (Or.inl e))
    · refine br_f e ?_
      rcases Classical.em (nI j = 2) with e2 | e2
      · exact br_t e2 (s23 (Or.inr e2))
      · exact br_f e2 (s34 fun w => (w.elim e e2).elim)
/-- the component takes the node -/
theorem xa_50 {post : Int32 → SX → Prop} {N c L : Nat} {k a b : Int32} (TT : tm_T N kd ka kb up op) (PD : pd_I N up pn c) (hc : c ≤ N) (hL : L ≤ 32) (hNL : N ≤ L) (g : ad_g k a b)
    (K3 : ¬ N < L → post (-3) (nI L, fl, nI N, nI c, ifd, wt, rc, gw, ec, tp, vl, rm, ls, sp, md, hld, pk, kd, ka, kb, op, up, bd, pn, sk, f1, f2, lk, sh, cl, wa, wb, se, rg, hm, ra, ef, vi, la, sn, qn, qr, qe, qf, qs, al, enn, env, enx, frn, fre, frs, frm, frf)) (K4 : N < L → ¬ tm_ar k ≤ c → post (-4) (nI L, fl, nI N, nI c, ifd, wt, rc, gw, ec, tp, vl, rm, ls, sp, md, hld, pk, kd, ka, kb, op, up, bd, pn, sk, f1, f2, lk, sh, cl, wa, wb, se, rg, hm, ra, ef, vi, la, sn, qn, qr, qe, qf, qs, al, enn, env, enx, frn, fre, frs, frm, frf))
    (K : N < L → tm_ar k ≤ c → ∀ x y op' up', (k = 1 ∨ k = 2 → x = a) → (k = 2 → y = b) → (2 < k → x = 0) → (¬ 2 < k → x = a) → (k ≠ 2 → y = 0) → ad_O N c (tm_ar k) op pn op' → ad_U N c (tm_ar k) up pn up' →
      post (nI N) (nI L, fl, nI (N + 1), nI (c - tm_ar k + 1), 0, wt, rc, gw, ec, tp, vl, rm, -1, sp, md, hld, pk, upd kd N k, upd ka N x, upd kb N y, op', up', bd, upd pn (c - tm_ar k) (nI N), sk, f1, f2, lk, sh, cl, wa, wb, se, rg, hm, ra, ef, vi, la, sn, qn, qr, qe, qf, qs, al, enn, env, enx, frn, fre, frs, frm, frf)) :
    wX_add_50 post k a b (nI L) fl (nI N) (nI c) ifd wt rc gw ec tp vl rm ls sp md hld pk kd ka kb op up bd pn sk f1 f2 lk sh cl wa wb se rg hm ra ef vi la sn qn qr qe qf qs al enn env enx frn fre frs frm frf := by
  have a3 := ar_le k
  refine pk_lt N L (fun z => ?_) (fun z => K3 (by omega))
  refine xa_ar g.1 ?_
  refine pk_le (tm_ar k) c (fun w => nm_r (e' := nI (N + 1)) (nI_1 N) ⟨pk_in N 32 (by omega), nm_r (e' := upd kd N k) (by rw [nI_clamp (by omega)]) ?_⟩) (fun w => K4 z (by omega))
  have s137 : ∀ x y, (k = 1 ∨ k = 2 → x = a) → (k = 2 → y = b) → (2 < k → x = 0) → (¬ 2 < k → x = a) → (k ≠ 2 → y = 0) → wX_add_137 post (nI (tm_ar k)) (nI N) y (nI N) (nI L) fl (nI (N + 1)) (nI c) ifd wt rc gw ec tp vl rm ls sp md hld pk (upd kd N k) (upd ka N x) kb op up bd pn sk f1 f2 lk sh cl wa wb se rg hm ra ef vi la sn qn qr qe qf qs al enn env enx frn fre frs frm frf := by
    intro x y h1 h2 h3 h4 h5
    unfold wX_add_137
    refine ⟨pk_in N 32 (by omega), nm_r (e' := upd kb N y) (by rw [nI_clamp (by omega)]) ⟨pk_in N 32 (by omega), nm_r (e' := upd up N (-1)) (by rw [nI_clamp (by omega)]) (nm_r (e' := nI (c - tm_ar k)) (pk_sub w) ⟨4, ?_⟩)⟩⟩
    refine xa_160 (op0 := op) (up0 := up) (by omega) hc w a3 (fun j hj => ⟨(PD.1 j hj).1, (PD.1 j hj).2.1⟩) (fun op' up' O U => K z w x y op' up' h1 h2 h3 h4 h5 O U) 4 0 op _ (fun i' q => absurd q (by omega)) (fun i' q => absurd q (by omega)) (fun j _ => rfl) (fun j q1 q2 => absurd q2 (by omega)) pk_us (fun m q1 q2 => pk_un q1) (by omega) (by omega)
  have s120 : ∀ x, (k = 1 ∨ k = 2 → x = a) → (2 < k → x = 0) → (¬ 2 < k → x = a) → wX_add_120 post k b (nI (tm_ar k)) (nI N) x (nI N) (nI L) fl (nI (N + 1)) (nI c) ifd wt rc gw ec tp vl rm ls sp md hld pk (upd kd N k) ka kb op up bd pn sk f1 f2 lk sh cl wa wb se rg hm ra ef vi la sn qn qr qe qf qs al enn env enx frn fre frs frm frf := by
    intro x h1 h3 h4
    unfold wX_add_120
    refine ⟨pk_in N 32 (by omega), nm_r (e' := upd ka N x) (by rw [nI_clamp (by omega)]) ?_⟩
    rcases Classical.em (k = 2) with e | e
    · exact br_t e (s137 x b h1 (fun _ => rfl) h3 h4 (fun q => absurd e q))
    · exact br_f e (s137 x 0 h1 (fun q => absurd q e) h3 h4 (fun _ => rfl))
  rcases Classical.em (2 < k) with e | e
  · exact br_t e (s120 0 (fun q => by rcases q with rfl | rfl <;> exact absurd e (by decide)) (fun _ => rfl) (fun q => absurd e q))
  · exact br_f e (s120 a (fun _ => rfl) (fun q => absurd q e) (fun _ => rfl))
end
section
variable {ml fl cnt ls sp md pk fnd ifd : Int32} {kd ka kb up ow o1 o2 yc ck p1 p2 yh fi fa ynd clr mrk vla evl ndd icl ecl mkr cvl al cis : Nat → Int32} {nf : Nat}
theorem ya_pre {post : Int32 → SY → Prop} {k a b : Int32} (Kb : ¬ ad_g k a b → post (-2) (ml, fl, cnt, ls, sp, md, pk, fnd, ifd, kd, ka, kb, up, ow, o1, o2, yc, ck, p1, p2, yh, fi, fa, ynd, clr, mrk, vla, evl, ndd, icl, ecl, mkr, cvl, al, cis, nf)) (Kg : ad_g k a b → wY_add_72 post k a b ml fl cnt ls sp md pk fnd ifd kd ka kb up ow o1 o2 yc ck p1 p2 yh fi fa ynd clr mrk vla evl ndd icl ecl mkr cvl al cis nf) : wpY_add post (ml, fl, cnt, ls, sp, md, pk, fnd, ifd, kd, ka, kb, up, ow, o1, o2, yc, ck, p1, p2, yh, fi, fa, ynd, clr, mrk, vla, evl, ndd, icl, ecl, mkr, cvl, al, cis, nf) k a b := by
  have hK : ∀ {j}, j < 9 → tm_K (nI j) := by
    intro j hj
    have : j = 0 ∨ j = 1 ∨ j = 2 ∨ j = 3 ∨ j = 4 ∨ j = 5 ∨ j = 6 ∨ j = 7 ∨ j = 8 := by omega
    rcases this with rfl | rfl | rfl | rfl | rfl | rfl | rfl | rfl | rfl
    · exact Or.inl rfl
    · exact Or.inr (Or.inl rfl)
    · exact Or.inr (Or.inr (Or.inl rfl))
    · exact Or.inr (Or.inr (Or.inr (Or.inl rfl)))
    · exact Or.inr (Or.inr (Or.inr (Or.inr (Or.inl rfl))))
    · exact Or.inr (Or.inr (Or.inr (Or.inr (Or.inr (Or.inl rfl)))))
    · exact Or.inr (Or.inr (Or.inr (Or.inr (Or.inr (Or.inr (Or.inl rfl))))))
    · exact Or.inr (Or.inr (Or.inr (Or.inr (Or.inr (Or.inr (Or.inr (Or.inl rfl)))))))
    · exact Or.inr (Or.inr (Or.inr (Or.inr (Or.inr (Or.inr (Or.inr (Or.inr rfl)))))))
  have s32 : ∀ x4 x5 : Int32, ((x4 = 0 ∧ ∃ x, x < 8 ∧ a = nI x) ∨ (x4 = 1 ∧ ¬ ∃ x, x < 8 ∧ a = nI x)) → ((x5 = 0 ∧ ∃ x, x < 8 ∧ b = nI x) ∨ (x5 = 1 ∧ ¬ ∃ x, x < 8 ∧ b = nI x)) → wY_add_32 post k a b x4 x5 ml fl cnt ls sp md pk fnd ifd kd ka kb up ow o1 o2 yc ck p1 p2 yh fi fa ynd clr mrk vla evl ndd icl ecl mkr cvl al cis nf := by
    intro x4 x5 h4 h5
    unfold wY_add_32
    rcases pk_ix k (n := 9) (by omega) with z | z | ⟨j, hj, rfl⟩
    · refine br_t z (Kb fun g => ?_)
      rcases g.1 with e | e | e | e | e | e | e | e | e <;> (subst e; exact absurd z (by decide))
    · have z8 : (8 : Int32) < k := Int32.lt_of_lt_of_le (by decide) z
      have z0 : ¬ k < 0 := fun w => absurd (Int32.lt_of_le_of_lt z w) (by decide)
      refine br_f z0 (br_t z8 (Kb fun g => ?_))
      rcases g.1 with e | e | e | e | e | e | e | e | e <;> (subst e; exact absurd z (by decide))
    · have s54 : (nI j = 1 → ∃ x, x < 8 ∧ a = nI x) → wY_add_54 post (nI j) a b x4 x5 ml fl cnt ls sp md pk fnd ifd kd ka kb up ow o1 o2 yc ck p1 p2 yh fi fa ynd clr mrk vla evl ndd icl ecl mkr cvl al cis nf := by
        intro ga
        unfold wY_add_54
        rcases Classical.em (nI j = 2) with e | e
        · refine br_t e ?_
          rcases h4 with ⟨rfl, h4⟩ | ⟨rfl, h4⟩
          · refine br_t rfl ?_
            rcases h5 with ⟨rfl, h5⟩ | ⟨rfl, h5⟩
            · exact br_t rfl (Kg ⟨hK hj, fun _ => h4, fun _ => h5⟩)
            · exact br_f (by decide) (Kb fun g => h5 (g.2.2 e))
          · exact br_f (by decide) (Kb fun g => h4 (g.2.1 (Or.inr e)))
        · exact br_f e (Kg ⟨hK hj, fun w => w.elim ga fun q => absurd q e, fun w => absurd w e⟩)
      refine br_f (nI_pos (by omega)) (br_f (nI_nlt (a := 8) (by omega) (by omega)) ?_)
      rcases Classical.em (nI j = 1) with e | e
      · refine br_t e ?_
        rcases h4 with ⟨rfl, h4⟩ | ⟨rfl, h4⟩
        · exact br_t rfl (s54 fun _ => h4)
        · exact br_f (by decide) (Kb fun g => h4 (g.2.1 (Or.inl e)))
      · exact br_f e (s54 fun w => absurd w e)
  have s15 : ∀ x4 : Int32, ((x4 = 0 ∧ ∃ x, x < 8 ∧ a = nI x) ∨ (x4 = 1 ∧ ¬ ∃ x, x < 8 ∧ a = nI x)) → wY_add_15 post k a b x4 ml fl cnt ls sp md pk fnd ifd kd ka kb up ow o1 o2 yc ck p1 p2 yh fi fa ynd clr mrk vla evl ndd icl ecl mkr cvl al cis nf := by
    intro x4 h4
    unfold wY_add_15 wY_add_27
    rcases nm_t b with ⟨h1, h2⟩ | ⟨h1, h2, h3, h5⟩ | ⟨h1, h2, h3, h5⟩
    · exact br_t h1 (s32 x4 1 h4 (Or.inr ⟨rfl, h2⟩))
    · exact br_f h1 (br_f h3 (s32 x4 1 h4 (Or.inr ⟨rfl, h5⟩)))
    · exact br_f h1 (br_t h3 (s32 x4 0 h4 (Or.inl ⟨rfl, h5⟩)))
  have s10 : (¬ ∃ x, x < 8 ∧ a = nI x) → wY_add_10 post k a b ml fl cnt ls sp md pk fnd ifd kd ka kb up ow o1 o2 yc ck p1 p2 yh fi fa ynd clr mrk vla evl ndd icl ecl mkr cvl al cis nf := fun h => s15 1 (Or.inr ⟨rfl, h⟩)
  rcases nm_t a with ⟨h1, h2⟩ | ⟨h1, h2, h3, h4⟩ | ⟨h1, h2, h3, h4⟩
  · exact br_t h1 (s10 h2)
  · exact br_f h1 (br_f h3 (s10 h4))
  · exact br_f h1 (br_t h3 (s15 0 (Or.inl ⟨rfl, h4⟩)))
theorem ya_117 {post : Int32 → SY → Prop} {N c a0 : Nat} {pn up0 : Nat → Int32} {k a b : Int32} (hN1 : N + 1 ≤ 32) (hU : tm_up N up0) (PD : pd_I N up0 pn c) (hc : c ≤ N) (ha : a0 ≤ c)
    (K : ∀ x y up', (2 < k → x = 0) → (¬ 2 < k → x = a) → (k = 2 → y = b) → (k ≠ 2 → y = 0) → ad_U N c a0 up0 pn up' → post (nI N) (ml, fl, nI (N + 1), -1, sp, md, pk, fnd, 0, upd kd N k, upd ka N x, upd kb N y, up', ow, o1, o2, yc, ck, p1, p2, yh, fi, fa, ynd, clr, mrk, vla, evl, ndd, icl, ecl, mkr, cvl, al, cis, nf)) :
    ∀ (d m j : Nat) (up : Nat → Int32), j ≤ c → c - a0 ≤ j → (j = c - a0 ∨ ∀ i, i < j → pd_P pn i < m) → (∀ i, j ≤ i → i < c → m ≤ pd_P pn i) → (∀ i, j ≤ i → i < c → up (pd_P pn i) = nI N) → (∀ m, (∀ i, j ≤ i → i < c → m ≠ pd_P pn i) → up m = up0 m) → m ≤ N → m < d →
      wY_add_117 post k a b ml fl (nI N) ls sp md pk fnd ifd nf d (nI (j - (c - a0))) (dn_I m) kd ka kb up ow o1 o2 yc ck p1 p2 yh fi fa ynd clr mrk vla evl ndd icl ecl mkr cvl al cis := by
  intro d
  induction d with
  | zero => intro m j up h1 h2 h3 h4 h5 h6 hm hd; omega
  | succ d ih =>
    intro m j up h1 h2 h3 h4 h5 h6 hm hd
    rcases m with _ | m
    · rw [dn_0]
      have ej : j = c - a0 := by
        rcases h3 with h3 | h3
        · exact h3
        rcases Nat.lt_or_ge (c - a0) j with w | w
        · have := h3 (c - a0) w
          omega
        · omega
      refine br_t (by decide) ⟨pk_in N 32 (by omega), nm_r (e' := upd kd N k) (by rw [nI_clamp (by omega)]) ?_⟩
      have s204 : ∀ x y, (2 < k → x = 0) → (¬ 2 < k → x = a) → (k = 2 → y = b) → (k ≠ 2 → y = 0) → wY_add_204 post y (nI N) ml fl (nI N) ls sp md pk fnd ifd (upd kd N k) (upd ka N x) kb up ow o1 o2 yc ck p1 p2 yh fi fa ynd clr mrk vla evl ndd icl ecl mkr cvl al cis nf := by
        intro x y q1 q2 q3 q4
        unfold wY_add_204
        refine ⟨pk_in N 32 (by omega), nm_r (e' := upd kb N y) (by rw [nI_clamp (by omega)]) ⟨pk_in N 32 (by omega), nm_r (e' := upd up N (-1)) (by rw [nI_clamp (by omega)]) (nm_r (e' := nI (N + 1)) (nI_1 N) ?_)⟩⟩
        have e : nI (N + 1) - 1 = nI N := nI_pred N
        rw [e]
        refine K x y _ q1 q2 q3 q4 ⟨fun i p1 p2 => ?_, pk_us, fun m p1 p2 => ?_⟩
        · have := (PD.1 i p2).2.1
          rw [pk_un (by omega)]
          exact h5 i (by omega) p2
        · rw [pk_un p1]
          exact h6 m fun i p3 p4 => p2 i (by omega) p4
      have s185 : ∀ x, (2 < k → x = 0) → (¬ 2 < k → x = a) → wY_add_185 post k b x (nI N) ml fl (nI N) ls sp md pk fnd ifd (upd kd N k) ka kb up ow o1 o2 yc ck p1 p2 yh fi fa ynd clr mrk vla evl ndd icl ecl mkr cvl al cis nf := by
        intro x q1 q2
        unfold wY_add_185
        refine ⟨pk_in N 32 (by omega), nm_r (e' := upd ka N x) (by rw [nI_clamp (by omega)]) ?_⟩
        rcases Classical.em (k = 2) with e | e
        · exact br_t e (s204 x b q1 q2 (fun _ => rfl) (fun q => absurd e q))
        · exact br_f e (s204 x 0 q1 q2 (fun q => absurd q e) (fun _ => rfl))
      rcases Classical.em (2 < k) with e | e
      · exact br_t e (s185 0 (fun _ => rfl) (fun q => absurd e q))
      · exact br_f e (s185 a (fun q => absurd q e) (fun _ => rfl))
    · rw [dn_s]
      refine br_f (nI_pos (by omega)) ⟨pk_in m 32 (by omega), ?_⟩
      rw [nI_clamp (n := m) (by omega)]
      have nP : ∀ i, j ≤ i → i < c → m ≠ pd_P pn i := fun i q1 q2 q3 => by have := h4 i q1 q2; omega
      rw [h6 m nP]
      rcases hU m (by omega) with e | ⟨p, e1, e2, e3⟩
      · refine br_f (by rw [e]; decide) ?_
        refine pk_le (j - (c - a0)) 0 (fun w => nm_r (e' := dn_I m) rfl ?_) (fun w => ?_)
        · exact ih m j up h1 h2 (Or.inl (by omega)) (fun i q1 q2 => by have := h4 i q1 q2; omega) h5 h6 (by omega) (by omega)
        · have h3 := h3.resolve_left (by omega)
          obtain ⟨i, hi, ei⟩ := PD.2.2 m (by omega) e
          have hij : i < j := by
            rcases Nat.lt_or_ge i j with w | w
            · exact w
            · have := h4 i w hi
              omega
          have hlast : i + 1 = j := by
            rcases Nat.lt_or_ge (i + 1) j with w | w
            · have q1 := h3 (i + 1) w
              have q2 := PD.2.1 i (i + 1) (by omega) (by omega)
              omega
            · omega
          refine ⟨pk_in m 32 (by omega), nm_r (e' := upd up m (nI N)) rfl (nm_r (e' := nI (j - 1 - (c - a0))) ?_ (nm_r (e' := dn_I m) rfl ?_))⟩
          · obtain ⟨q, hq⟩ : ∃ q, j - (c - a0) = q + 1 := ⟨j - (c - a0) - 1, by omega⟩
            rw [hq, pk_m1]
            exact congrArg nI (by omega)
          · refine ih m (j - 1) _ (by omega) (by omega) (Or.inr fun i' q => ?_) (fun i' q1 q2 => ?_) (fun i' q1 q2 => ?_) (fun m' q => ?_) (by omega) (by omega)
            · have := PD.2.1 i' i (by omega) hi
              omega
            · rcases Classical.em (i' = i) with y | y
              · subst y; omega
              · have := h4 i' (by omega) q2
                omega
            · rcases Classical.em (pd_P pn i' = m) with y | y
              · rw [y]; exact pk_us
              · rw [pk_un y]
                refine h5 i' ?_ q2
                rcases Classical.em (i' = i) with y2 | y2
                · rw [y2] at y; exact absurd ei.symm y
                · omega
            · rw [pk_un (by rw [ei]; exact q i (by omega) hi)]
              exact h6 m' fun i' p1 p2 => q i' (by omega) p2
      · refine br_t (by rw [e3]; exact nI_pos' (by omega)) (nm_r (e' := dn_I m) rfl ?_)
        refine ih m j up h1 h2 (h3.imp_right fun h3 i q => ?_) (fun i q1 q2 => by have := h4 i q1 q2; omega) h5 h6 (by omega) (by omega)
        have q1 := h3 i q
        rcases Classical.em (pd_P pn i = m) with y | y
        · have q2 := (PD.1 i (by omega)).2.2
          rw [y, e3] at q2
          exact absurd q2.symm (m1_n (by omega))
        · omega
theorem ya_72 {post : Int32 → SY → Prop} {N c L : Nat} {pn op : Nat → Int32} {k a b : Int32} (TT : tm_T N kd ka kb up op) (PD : pd_I N up pn c) (hc : c ≤ N) (hL : L ≤ 32) (hNL : N ≤ L) (g : ad_g k a b)
    (K3 : ¬ N < L → post (-3) (nI L, fl, nI N, ls, sp, md, pk, fnd, ifd, kd, ka, kb, up, ow, o1, o2, yc, ck, p1, p2, yh, fi, fa, ynd, clr, mrk, vla, evl, ndd, icl, ecl, mkr, cvl, al, cis, nf)) (K4 : N < L → ¬ tm_ar k ≤ c → post (-4) (nI L, fl, nI N, ls, sp, md, pk, fnd, ifd, kd, ka, kb, up, ow, o1, o2, yc, ck, p1, p2, yh, fi, fa, ynd, clr, mrk, vla, evl, ndd, icl, ecl, mkr, cvl, al, cis, nf))
    (K : N < L → tm_ar k ≤ c → ∀ x y up', (2 < k → x = 0) → (¬ 2 < k → x = a) → (k = 2 → y = b) → (k ≠ 2 → y = 0) → ad_U N c (tm_ar k) up pn up' → post (nI N) (nI L, fl, nI (N + 1), -1, sp, md, pk, fnd, 0, upd kd N k, upd ka N x, upd kb N y, up', ow, o1, o2, yc, ck, p1, p2, yh, fi, fa, ynd, clr, mrk, vla, evl, ndd, icl, ecl, mkr, cvl, al, cis, nf)) :
    wY_add_72 post k a b (nI L) fl (nI N) ls sp md pk fnd ifd kd ka kb up ow o1 o2 yc ck p1 p2 yh fi fa ynd clr mrk vla evl ndd icl ecl mkr cvl al cis nf := by
  have a3 := ar_le k
  refine pk_lt N L (fun z => ?_) (fun z => K3 (by omega))
  refine ya_ar g.1 (yp_pe TT.1 TT.2.2.1 PD ?_)
  refine pk_le (tm_ar k) c (fun w => nm_r (e' := dn_I N) dn_c ⟨N + 1, ?_⟩) (fun w => K4 z (by omega))
  have e : nI (tm_ar k) = nI (c - (c - tm_ar k)) := congrArg nI (by omega)
  rw [e]
  exact ya_117 (by omega) TT.2.2.1 PD hc w (fun x y up' q1 q2 q3 q4 U => K z w x y up' q1 q2 q3 q4 U) (N + 1) N c up (by omega) (by omega) (Or.inr fun i q => (PD.1 i q).2.1) (fun i q1 q2 => absurd q1 (by omega)) (fun i q1 q2 => absurd q1 (by omega)) (fun m _ => rfl) (by omega) (by omega)
end
theorem i_vc_add {k : Nat} {u : SX} {v : SY} (I : i_Rel k u v) (hk : k + 4 ≤ 2050) (v1 : Int32) (v2 : Int32) (v3 : Int32) : wpX_add (fun r u' => wpY_add (fun r' v' => r' = r ∧ i_Rel (k + 4) u' v') v v1 v2 v3) u v1 v2 v3 := by
  refine zz_el (P := fun u v => wpX_add (fun r u' => wpY_add (fun r' v' => r' = r ∧ i_Rel (k + 4) u' v') v v1 v2 v3) u v1 v2 v3) ?_ I
  intro ml fl cnt pc ifd wt rc gw ec tp vl rm ls sp md hld pk kd ka kb op up bd pn sk f1 f2 lk sh cl wa wb se rg hm ra ef vi la sn qn qr qe qf qs al enn env enx frn fre frs frm frf fnd ow o1 o2 yc ck p1 p2 yh fi fa ynd clr mrk vla evl ndd icl ecl mkr cvl cis hF
  have Z : i_Rel (k + 4) (ml, fl, cnt, pc, ifd, wt, rc, gw, ec, tp, vl, rm, ls, sp, md, hld, pk, kd, ka, kb, op, up, bd, pn, sk, f1, f2, lk, sh, cl, wa, wb, se, rg, hm, ra, ef, vi, la, sn, qn, qr, qe, qf, qs, al, enn, env, enx, frn, fre, frs, frm, frf) (ml, fl, cnt, ls, sp, md, pk, fnd, ifd, kd, ka, kb, up, ow, o1, o2, yc, ck, p1, p2, yh, fi, fa, ynd, clr, mrk, vla, evl, ndd, icl, ecl, mkr, cvl, al, cis, 36864) := zz_in hF
  obtain ⟨N, c, L, F, RN, RI, RR⟩ := hF
  obtain ⟨e1, e2, e3, e4, hL1, hL2, hL3, hF1, hF2, hc, TT, PD⟩ := RN
  subst e1 e2 e3
  have a3 := ar_le v1
  refine xa_pre (fun b => ya_pre (fun _ => ⟨rfl, Z⟩) (fun g => absurd g b)) (fun g => ?_)
  refine xa_50 TT PD hc hL2 hL3 g (fun h => ya_pre (fun b => absurd g b) (fun _ => ya_72 TT PD hc hL2 hL3 g (fun _ => ⟨rfl, Z⟩) (fun q => absurd q h) (fun q => absurd q h)))
    (fun h h2 => ya_pre (fun b => absurd g b) (fun _ => ya_72 TT PD hc hL2 hL3 g (fun q => absurd h q) (fun _ _ => ⟨rfl, Z⟩) (fun _ q => absurd q h2)))
    (fun h h2 x y op' up' q1 q2 q3 q4 q5 O U => ya_pre (fun b => absurd g b) (fun _ => ya_72 TT PD hc hL2 hL3 g (fun q => absurd h q) (fun _ q => absurd h2 q) (fun _ _ x' y' up2 w1 w2 w3 w4 U2 => ?_)))
  have ex : x' = x := by
    rcases Classical.em (2 < v1) with e | e
    · rw [w1 e, q3 e]
    · rw [w2 e, q4 e]
  have ey : y' = y := by
    rcases Classical.em (v1 = 2) with e | e
    · rw [w3 e, q2 e]
    · rw [w4 e, q5 e]
  have eu := ad_u U2 U
  subst ex ey eu
  have T := ad_T TT PD (by omega) g h2 q1 q2 U O
  exact ⟨rfl, zz_in (rl_0 (N := N + 1) (c := c - tm_ar v1 + 1) ⟨rfl, rfl, rfl, e4, hL1, hL2, by omega, hF1, hF2, by omega, T.1, T.2⟩)⟩
end
section
/-! values as the component writes them -/
theorem ev_0 (v : Int32) : en_c v 0 = lN v.toBitVec.toNat := by
  unfold en_c
  rw [if_pos rfl]
  apply Int64.toBitVec_inj.mp
  rw [Int64.toBitVec_and, wb_tb]
  apply BitVec.eq_of_getLsbD_eq
  intro i hi
  have e1 : v.toInt64.toBitVec = v.toBitVec.signExtend 64 := rfl
  have e2 : (4294967295 : Int64).toBitVec.getLsbD i = decide (i < 32) := by
    rw [show (4294967295 : Int64).toBitVec = BitVec.ofNat 64 (2 ^ 32 - 1) from rfl, BitVec.getLsbD_ofNat, Nat.testBit_two_pow_sub_one]
    simp [hi]
  rw [BitVec.getLsbD_and, e1, e2, BitVec.getLsbD_signExtend, BitVec.getLsbD_ofNat]
  rcases Nat.lt_or_ge i 32 with h | h
  · simp [h, hi, BitVec.getLsbD]
  · have : v.toBitVec.toNat.testBit i = false := Nat.testBit_lt_two_pow (Nat.lt_of_lt_of_le v.toBitVec.isLt (Nat.pow_le_pow_right (by decide) h))
    simp [this, show ¬ i < 32 by omega]
theorem ev_0l (v : Int32) : v.toBitVec.toNat < 4294967296 := v.toBitVec.isLt
theorem ev_0i (v : Int32) : (en_c v 0).toInt32 = v := by
  rw [ev_0, lN_i]
  apply Int32.toBitVec_inj.mp
  apply BitVec.eq_of_toNat_eq
  exact Nat.mod_eq_of_lt v.toBitVec.isLt
theorem ev_1 {c : Nat} (h : c < 2 ^ 31) : en_c (nI c) 1 = lN (4294967296 + c) := by
  unfold en_c
  rw [if_neg (by decide), nI_l h, ← lN_add]
  rfl
theorem ev_inj {v w : Int32} (h : en_c v 0 = en_c w 0) : v = w := by
  rw [← ev_0i v, ← ev_0i w, h]
section
variable {ml fl cnt pc ifd wt rc gw ec tp : Int32} {vl : Int64} {rm ls sp md hld pk : Int32} {kd ka kb op up bd pn sk f1 f2 lk sh cl wa wb se rg hm : Nat → Int32} {ra ef vi la sn : Nat → Int64} {qn qr qe : Nat → Int32} {qf qs : Nat → Int64} {al enn : Nat → Int32} {env : Nat → Int64} {enx frn fre frs frm : Nat → Int32} {frf : Nat → Int64}
theorem xv_c0 {post : Int32 → Prop} {v : Int32} {w : Int64} (e : w = en_c v 0) (K : post (-1)) : wpX_cellIndex post (ml, fl, cnt, pc, ifd, wt, rc, gw, ec, tp, vl, rm, ls, sp, md, hld, pk, kd, ka, kb, op, up, bd, pn, sk, f1, f2, lk, sh, cl, wa, wb, se, rg, hm, ra, ef, vi, la, sn, qn, qr, qe, qf, qs, al, enn, env, enx, frn, fre, frs, frm, frf) w := by
  subst e
  have h := ev_0l v
  rw [ev_0]
  exact br_t ((pk_lLT (b := 4294967296) (by omega) (by omega)).mpr h) K
theorem xv_c1 {post : Int32 → Prop} {c : Nat} {w : Int64} (hc : c < 240) (e : w = en_c (nI c) 1) (K : post (nI c)) : wpX_cellIndex post (ml, fl, cnt, pc, ifd, wt, rc, gw, ec, tp, vl, rm, ls, sp, md, hld, pk, kd, ka, kb, op, up, bd, pn, sk, f1, f2, lk, sh, cl, wa, wb, se, rg, hm, ra, ef, vi, la, sn, qn, qr, qe, qf, qs, al, enn, env, enx, frn, fre, frs, frm, frf) w := by
  subst e
  rw [ev_1 (by omega)]
  refine br_f (fun z => absurd ((pk_lLT (b := 4294967296) (by omega) (by omega)).mp z) (by omega)) ?_
  have e2 : lN (4294967296 + c) - 4294967296 = lN c := by
    have := lN_sub (a := 4294967296 + c) (b := 4294967296) (by omega)
    rw [show 4294967296 + c - 4294967296 = c by omega] at this
    exact this
  rw [e2, lN_i]
  exact K
/-- what a walk along a path ends in -/
def kw_F (M : Nat) (kd al mkr : Nat → Int32) (w : Int64) (t x : Int32) : Prop :=
  (t = -1 ∧ w = -1) ∨ (t = 4 ∧ ∃ c, c < M ∧ w = en_c (nI c) 1 ∧ al c = 0) ∨ (t = 1 ∧ w = en_c x 0) ∨ ((t = 2 ∨ t = 3) ∧ ∃ c m, c < M ∧ w = en_c (nI c) 1 ∧ al c = 1 ∧ mkr c = nI m ∧ m < 32 ∧ (t = 2 ↔ kd m = 4) ∧ x = nI m)
theorem xv_k {post : Int32 → Prop} {M : Nat} {mkr : Nat → Int32} {w : Int64} {t x : Int32} (hM : M ≤ 240) (hq : ∀ c, c < M → qn c = mkr c) (h : kw_F M kd al mkr w t x) (K : post t) : wpX_kindOf post (ml, fl, cnt, pc, ifd, wt, rc, gw, ec, tp, vl, rm, ls, sp, md, hld, pk, kd, ka, kb, op, up, bd, pn, sk, f1, f2, lk, sh, cl, wa, wb, se, rg, hm, ra, ef, vi, la, sn, qn, qr, qe, qf, qs, al, enn, env, enx, frn, fre, frs, frm, frf) w := by
  unfold wpX_kindOf
  dsimp only
  rcases h with ⟨rfl, rfl⟩ | ⟨rfl, c, hc, e, ha⟩ | ⟨rfl, e⟩ | ⟨ht, c, m, hc, e, ha, hm, hm32, hk, -⟩
  · exact br_f (by decide) K
  · refine br_t (by rw [e, ev_1 (by omega)]; exact (pk_lLE (a := 0) (by omega) (by omega)).mpr (by omega)) (xv_c1 (c := c) (by omega) e (br_t (nI_pos' (by omega)) ⟨pk_in c 240 (by omega), ?_⟩))
    rw [nI_clamp (n := c) (by omega)]
    exact br_t ha K
  · exact br_t (by rw [e, ev_0]; have := ev_0l x; exact (pk_lLE (a := 0) (by omega) (by omega)).mpr (by omega)) (xv_c0 e (br_f (by decide) K))
  · refine br_t (by rw [e, ev_1 (by omega)]; exact (pk_lLE (a := 0) (by omega) (by omega)).mpr (by omega)) (xv_c1 (c := c) (by omega) e (br_t (nI_pos' (by omega)) ⟨pk_in c 240 (by omega), ?_⟩))
    rw [nI_clamp (n := c) (by omega), hq c hc, hm, nI_clamp (n := m) (by omega)]
    refine br_f (by rw [ha]; decide) ⟨pk_in c 240 (by omega), pk_in m 32 hm32, ?_⟩
    rcases ht with rfl | rfl
    · exact br_t (hk.mp rfl) K
    · exact br_f (fun z => absurd (hk.mpr z) (by decide)) K
end
theorem bt_p {p i : Nat} (hp : p < 2 ^ 31) (hi : i < 31) : (nI p >>> (nI i &&& 31)) &&& 1 = nI (p / 2 ^ i % 2) := by
  rw [pk_shrN hp (nI i &&& 31) i (s_l i (by omega))]
  have h : p / 2 ^ i ≤ p := Nat.div_le_self _ _
  exact pk_andN (n := p / 2 ^ i) (by omega) 1 (by decide)
theorem hb_ex : ∀ (n p : Nat), 0 < p → p < 2 ^ (n + 1) → ∃ h, h ≤ n ∧ 2 ^ h ≤ p ∧ p < 2 ^ (h + 1)
  | 0, p, h0, h1 => ⟨0, by omega, by omega, h1⟩
  | n + 1, p, h0, h1 => by
    rcases Nat.lt_or_ge p (2 ^ (n + 1)) with w | w
    · obtain ⟨h, a, b, c⟩ := hb_ex n p h0 w
      exact ⟨h, by omega, b, c⟩
    · exact ⟨n + 1, by omega, w, h1⟩
theorem hb_1 {p h : Nat} (a : 2 ^ h ≤ p) (b : p < 2 ^ (h + 1)) : p / 2 ^ h % 2 = 1 := by
  have : p / 2 ^ h = 1 := by
    apply Nat.div_eq_of_lt_le
    · omega
    · rw [Nat.pow_succ] at b; omega
  rw [this]
theorem hb_0 {p h i : Nat} (b : p < 2 ^ (h + 1)) (hi : h < i) : p / 2 ^ i % 2 = 0 := by
  have : p < 2 ^ i := Nat.lt_of_lt_of_le b (Nat.pow_le_pow_right (by decide) hi)
  rw [Nat.div_eq_of_lt this]
end
section
section
variable {ml fl cnt pc ifd wt rc gw ec tp : Int32} {vl : Int64} {rm ls sp md hld pk : Int32} {kd ka kb op up bd pn sk f1 f2 lk sh cl wa wb se rg hm : Nat → Int32} {ra ef vi la sn : Nat → Int64} {qn qr qe : Nat → Int32} {qf qs : Nat → Int64} {al enn : Nat → Int32} {env : Nat → Int64} {enx frn fre frs frm : Nat → Int32} {frf : Nat → Int64} {fnd : Int32} {ow o1 o2 yc ck p1 p2 yh fi fa ynd clr mrk vla evl ndd icl ecl mkr cvl cis : Nat → Int32} {nf : Nat}
/-- both walk down m digits of the path, to one end -/
theorem kw_w {N M p : Nat} (hN : N ≤ 32) (hM : M ≤ 240) (hp : p < 2 ^ 31) (h01 : ∀ c, c < M → al c = 0 ∨ al c = 1) (CE : ce_C N M kd qn mkr cvl cis qf qs) :
    ∀ (m : Nat) (v b : Int32), m ≤ 30 → va_V M v b → ∃ w t x, kw_F M kd al mkr w t x ∧ (∀ (post : Int64 → Prop) (d : Nat), post w → m < d → wX_valueAt_52 post (nI p) ml fl cnt pc ifd wt rc gw ec tp vl rm ls sp md hld pk kd ka kb op up bd pn sk f1 f2 lk sh cl wa wb se rg hm ra ef vi la sn qn qr qe qf qs al enn env enx frn fre frs frm frf d (en_c v b) (dn_I m)) ∧
      (∀ (post : Int32 → SY → Prop) (d : Nat), (∀ f, (t = 1 ∨ t = 3 → f = x) → post t (ml, fl, cnt, ls, sp, md, pk, f, ifd, kd, ka, kb, up, ow, o1, o2, yc, ck, p1, p2, yh, fi, fa, ynd, clr, mrk, vla, evl, ndd, icl, ecl, mkr, cvl, al, cis, nf)) → m < d → wY_kindAt_35 post (nI p) ml fl cnt ls sp md pk fnd ifd kd ka kb up ow o1 o2 yc ck p1 p2 yh fi fa ynd clr mrk vla evl ndd icl ecl mkr cvl al cis nf d v b 1 (dn_I m)) := by
  have hq : ∀ c, c < M → qn c = mkr c := fun c hc => by obtain ⟨m, -, -, e1, e2, -⟩ := CE c hc; rw [e1, e2]
  intro m
  induction m with
  | zero =>
    intro v b _ hv
    rcases hv with rfl | ⟨rfl, c, hc, rfl⟩
    · refine ⟨en_c v 0, 1, v, Or.inr (Or.inr (Or.inl ⟨rfl, rfl⟩)), fun post d K hd => ?_, fun post d K hd => ?_⟩
      · obtain ⟨d, rfl⟩ : ∃ e, d = e + 1 := ⟨d - 1, by omega⟩
        rw [dn_0]
        exact br_t (by decide) K
      · obtain ⟨d, rfl⟩ : ∃ e, d = e + 1 := ⟨d - 1, by omega⟩
        rw [dn_0]
        exact br_t (by decide) (br_t rfl (br_t rfl (K v fun _ => rfl)))
    · obtain ⟨m, hmN, hkd, e1, e2, -⟩ := CE c hc
      have xend : ∀ (post : Int64 → Prop) (d : Nat), post (en_c (nI c) 1) → 0 < d → wX_valueAt_52 post (nI p) ml fl cnt pc ifd wt rc gw ec tp vl rm ls sp md hld pk kd ka kb op up bd pn sk f1 f2 lk sh cl wa wb se rg hm ra ef vi la sn qn qr qe qf qs al enn env enx frn fre frs frm frf d (en_c (nI c) 1) (dn_I 0) := by
        intro post d K hd
        obtain ⟨d, rfl⟩ : ∃ e, d = e + 1 := ⟨d - 1, by omega⟩
        rw [dn_0]
        exact br_t (by decide) K
      have yend : ∀ (t : Int32), ((t = 4 ∧ al c = 0) ∨ (t = 2 ∧ al c = 1 ∧ kd m = 4) ∨ (t = 3 ∧ al c = 1 ∧ ¬ kd m = 4)) → ∀ (post : Int32 → SY → Prop) (d : Nat), post t (ml, fl, cnt, ls, sp, md, pk, nI m, ifd, kd, ka, kb, up, ow, o1, o2, yc, ck, p1, p2, yh, fi, fa, ynd, clr, mrk, vla, evl, ndd, icl, ecl, mkr, cvl, al, cis, nf) → 0 < d → wY_kindAt_35 post (nI p) ml fl cnt ls sp md pk fnd ifd kd ka kb up ow o1 o2 yc ck p1 p2 yh fi fa ynd clr mrk vla evl ndd icl ecl mkr cvl al cis nf d (nI c) 1 1 (dn_I 0) := by
        intro t ht post d K hd
        obtain ⟨d, rfl⟩ : ∃ e, d = e + 1 := ⟨d - 1, by omega⟩
        rw [dn_0]
        refine br_t (by decide) (br_f (by decide) ⟨pk_in c 240 (by omega), ?_⟩)
        rw [nI_clamp (n := c) (by omega), e2]
        refine br_f (by decide) ⟨pk_in c 240 (by omega), ?_⟩
        rw [nI_clamp (n := c) (by omega), e2, nI_clamp (n := m) (by omega)]
        rcases ht with ⟨rfl, h⟩ | ⟨rfl, h, h2⟩ | ⟨rfl, h, h2⟩
        · exact br_t h K
        · exact br_f (by rw [h]; decide) ⟨pk_in c 240 (by omega), pk_in m 32 (by omega), br_t h2 K⟩
        · exact br_f (by rw [h]; decide) ⟨pk_in c 240 (by omega), pk_in m 32 (by omega), br_f h2 K⟩
      rcases h01 c hc with a | a
      · exact ⟨_, 4, 0, Or.inr (Or.inl ⟨rfl, c, hc, rfl, a⟩), xend, fun post d K hd => yend 4 (Or.inl ⟨rfl, a⟩) post d (K _ fun z => absurd z (by decide)) hd⟩
      · rcases Classical.em (kd m = 4) with k4 | k4
        · exact ⟨_, 2, nI m, Or.inr (Or.inr (Or.inr ⟨Or.inl rfl, c, m, hc, rfl, a, e2, by omega, ⟨fun _ => k4, fun _ => rfl⟩, rfl⟩)), xend, fun post d K hd => yend 2 (Or.inr (Or.inl ⟨rfl, a, k4⟩)) post d (K _ fun _ => rfl) hd⟩
        · exact ⟨_, 3, nI m, Or.inr (Or.inr (Or.inr ⟨Or.inr rfl, c, m, hc, rfl, a, e2, by omega, ⟨fun z => absurd z (by decide), fun z => absurd z k4⟩, rfl⟩)), xend, fun post d K hd => yend 3 (Or.inr (Or.inr ⟨rfl, a, k4⟩)) post d (K _ fun _ => rfl) hd⟩
  | succ m ih =>
    intro v b hm30 hv
    rcases hv with rfl | ⟨rfl, c, hc, rfl⟩
    · refine ⟨-1, -1, 0, Or.inl ⟨rfl, rfl⟩, fun post d K hd => ?_, fun post d K hd => ?_⟩
      · obtain ⟨d, rfl⟩ : ∃ e, d = e + 1 := ⟨d - 1, by omega⟩
        rw [dn_s]
        exact br_f (nI_pos (by omega)) (xv_k hM hq (Or.inr (Or.inr (Or.inl ⟨rfl, rfl⟩))) (br_f (by decide) (br_f (by decide) K)))
      · obtain ⟨d, rfl⟩ : ∃ e, d = e + 1 := ⟨d - 1, by omega⟩
        rw [dn_s]
        exact br_f (nI_pos (by omega)) (nm_e (br_f (by decide) (br_t rfl (br_t rfl (K fnd fun z => absurd z (by decide))))))
    · obtain ⟨n, hn, hkd, e1, e2, e4⟩ := CE c hc
      have wn : (nI c).toNatClampNeg = c := nI_clamp (by omega)
      rcases h01 c hc with a | a
      · refine ⟨en_c (nI c) 1, 4, 0, Or.inr (Or.inl ⟨rfl, c, hc, rfl, a⟩), fun post d K hd => ?_, fun post d K hd => ?_⟩
        · obtain ⟨d, rfl⟩ : ∃ e, d = e + 1 := ⟨d - 1, by omega⟩
          rw [dn_s]
          exact br_f (nI_pos (by omega)) (xv_k (x := 0) hM hq (Or.inr (Or.inl ⟨rfl, c, hc, rfl, a⟩)) (br_t rfl K))
        · obtain ⟨d, rfl⟩ : ∃ e, d = e + 1 := ⟨d - 1, by omega⟩
          rw [dn_s]
          refine br_f (nI_pos (by omega)) (nm_e (br_f (by decide) (br_f (by decide) ⟨pk_in c 240 (by omega), ?_⟩)))
          rw [wn]
          exact br_t a (K fnd fun z => absurd z (by decide))
      · rcases Classical.em (kd n = 4) with k4 | k4
        · obtain ⟨f1e, f2e, V1, V2⟩ := e4 k4
          have dig := bt_p hp (i := m) (by omega)
          have hd2 : p / 2 ^ m % 2 = 0 ∨ p / 2 ^ m % 2 = 1 := by omega
          have yst : ∀ (q : Nat), q < 2 → p / 2 ^ m % 2 = q → ∀ (post : Int32 → SY → Prop) (d : Nat), wY_kindAt_35 post (nI p) ml fl cnt ls sp md pk fnd ifd kd ka kb up ow o1 o2 yc ck p1 p2 yh fi fa ynd clr mrk vla evl ndd icl ecl mkr cvl al cis nf d (cvl (c * 8 + q)) (cis (c * 8 + q)) 1 (dn_I m) → wY_kindAt_35 post (nI p) ml fl cnt ls sp md pk fnd ifd kd ka kb up ow o1 o2 yc ck p1 p2 yh fi fa ynd clr mrk vla evl ndd icl ecl mkr cvl al cis nf (d + 1) (nI c) 1 1 (dn_I (m + 1)) := by
            intro q hq2 hdq post d K
            rw [dn_s]
            refine br_f (nI_pos (by omega)) (nm_r (e' := nI q) (by rw [dig, hdq]) (br_f (by decide) (br_f (by decide) ⟨pk_in c 240 (by omega), ?_⟩)))
            rw [wn]
            refine br_f (by rw [a]; decide) (br_f (by decide) ⟨pk_in c 240 (by omega), ?_⟩)
            rw [wn, e2, nI_clamp (n := n) (by omega)]
            have ei : nI c * 8 + nI q = nI (c * 8 + q) := by rw [show nI c * 8 = nI (c * 8) from pk_mul c 8, nI_add]
            rw [ei, nI_clamp (n := c * 8 + q) (by omega)]
            refine ⟨pk_in n 32 (by omega), br_t k4 ⟨pk_in (c * 8 + q) 1920 (by omega), nm_e ⟨pk_in (c * 8 + q) 1920 (by omega), nm_e ?_⟩⟩⟩
            exact br_c (fun _ => nm_r (e' := dn_I m) rfl K) (fun _ => nm_r (e' := dn_I m) rfl K)
          have xk2 : kw_F M kd al mkr (en_c (nI c) 1) 2 (nI n) := Or.inr (Or.inr (Or.inr ⟨Or.inl rfl, c, n, hc, rfl, a, e2, by omega, ⟨fun _ => k4, fun _ => rfl⟩, rfl⟩))
          rcases hd2 with d0 | d1
          · obtain ⟨w, t, x, G, hX, hY⟩ := ih (cvl (c * 8)) (cis (c * 8)) (by omega) V1
            refine ⟨w, t, x, G, fun post d K hd => ?_, fun post d K hd => ?_⟩
            · obtain ⟨d, rfl⟩ : ∃ e, d = e + 1 := ⟨d - 1, by omega⟩
              rw [dn_s]
              refine br_f (nI_pos (by omega)) (xv_k hM hq xk2 (br_f (by decide) (br_t rfl (xv_c1 (c := c) (by omega) rfl ?_))))
              rw [wn, f1e]
              exact br_t (by rw [dig, d0]; rfl) ⟨pk_in c 240 (by omega), nm_e (nm_r (e' := dn_I m) rfl (hX post d K (by omega)))⟩
            · obtain ⟨d, rfl⟩ : ∃ e, d = e + 1 := ⟨d - 1, by omega⟩
              exact yst 0 (by omega) d0 post d (hY post d K (by omega))
          · obtain ⟨w, t, x, G, hX, hY⟩ := ih (cvl (c * 8 + 1)) (cis (c * 8 + 1)) (by omega) V2
            refine ⟨w, t, x, G, fun post d K hd => ?_, fun post d K hd => ?_⟩
            · obtain ⟨d, rfl⟩ : ∃ e, d = e + 1 := ⟨d - 1, by omega⟩
              rw [dn_s]
              refine br_f (nI_pos (by omega)) (xv_k hM hq xk2 (br_f (by decide) (br_t rfl (xv_c1 (c := c) (by omega) rfl ?_))))
              rw [wn, f2e]
              exact br_f (by rw [dig, d1]; decide) ⟨pk_in c 240 (by omega), nm_e (nm_r (e' := dn_I m) rfl (hX post d K (by omega)))⟩
            · obtain ⟨d, rfl⟩ : ∃ e, d = e + 1 := ⟨d - 1, by omega⟩
              exact yst 1 (by omega) d1 post d (hY post d K (by omega))
        · refine ⟨-1, -1, 0, Or.inl ⟨rfl, rfl⟩, fun post d K hd => ?_, fun post d K hd => ?_⟩
          · obtain ⟨d, rfl⟩ : ∃ e, d = e + 1 := ⟨d - 1, by omega⟩
            rw [dn_s]
            exact br_f (nI_pos (by omega)) (xv_k hM hq (Or.inr (Or.inr (Or.inr ⟨Or.inr rfl, c, n, hc, rfl, a, e2, by omega, ⟨fun z => absurd z (by decide), fun z => absurd z k4⟩, rfl⟩))) (br_f (by decide) (br_f (by decide) K)))
          · obtain ⟨d, rfl⟩ : ∃ e, d = e + 1 := ⟨d - 1, by omega⟩
            rw [dn_s]
            refine br_f (nI_pos (by omega)) (nm_e (br_f (by decide) (br_f (by decide) ⟨pk_in c 240 (by omega), ?_⟩)))
            rw [wn]
            refine br_f (by rw [a]; decide) (br_f (by decide) ⟨pk_in c 240 (by omega), ?_⟩)
            rw [wn, e2, nI_clamp (n := n) (by omega)]
            exact ⟨pk_in n 32 (by omega), br_f k4 (K fnd fun z => absurd z (by decide))⟩
theorem kw_x20 {p h : Nat} (hp : p < 2 ^ 31) (hh : h ≤ 30) (hb : 2 ^ h ≤ p) (hb2 : p < 2 ^ (h + 1)) {post : Int64 → Prop} (K : ∃ d, wX_valueAt_52 post (nI p) ml fl cnt pc ifd wt rc gw ec tp vl rm ls sp md hld pk kd ka kb op up bd pn sk f1 f2 lk sh cl wa wb se rg hm ra ef vi la sn qn qr qe qf qs al enn env enx frn fre frs frm frf d vl (dn_I h)) :
    ∀ (d i : Nat) (x : Int32), (i ≤ h ∨ x = nI h) → i ≤ 31 → 32 ≤ d + i → wX_valueAt_20 post (nI p) ml fl cnt pc ifd wt rc gw ec tp vl rm ls sp md hld pk kd ka kb op up bd pn sk f1 f2 lk sh cl wa wb se rg hm ra ef vi la sn qn qr qe qf qs al enn env enx frn fre frs frm frf d x (nI i) := by
  intro d
  induction d with
  | zero => intro i x h1 hi hd; omega
  | succ d ih =>
    intro i x h1 hi hd
    refine pk_le 31 i (fun z => ?_) (fun z => ?_)
    · have e := h1.resolve_left (by omega)
      subst e
      exact nm_r (e' := dn_I h) dn_c K
    · rw [bt_p hp z]
      rcases Nat.lt_trichotomy i h with w | w | w
      · exact br_c (fun _ => nm_r (e' := nI (i + 1)) (nI_1 i) (ih (i + 1) x (Or.inl (by omega)) (by omega) (by omega))) (fun _ => nm_r (e' := nI (i + 1)) (nI_1 i) (ih (i + 1) (nI i) (Or.inl (by omega)) (by omega) (by omega)))
      · subst w
        rw [hb_1 hb hb2]
        exact br_f (by decide) (nm_r (e' := nI (i + 1)) (nI_1 i) (ih (i + 1) (nI i) (Or.inr rfl) (by omega) (by omega)))
      · rw [hb_0 hb2 w]
        exact br_t rfl (nm_r (e' := nI (i + 1)) (nI_1 i) (ih (i + 1) x (Or.inr (h1.resolve_left (by omega))) (by omega) (by omega)))
theorem kw_y35 {p h : Nat} (hp : p < 2 ^ 31) (hh : h ≤ 30) (hb : 2 ^ h ≤ p) (hb2 : p < 2 ^ (h + 1)) {post : Int32 → SY → Prop} {v b : Int32} (K : ∀ d, h < d → wY_kindAt_35 post (nI p) ml fl cnt ls sp md pk fnd ifd kd ka kb up ow o1 o2 yc ck p1 p2 yh fi fa ynd clr mrk vla evl ndd icl ecl mkr cvl al cis nf d v b 1 (dn_I h)) :
    ∀ (d m : Nat), h < m → m ≤ 31 → m < d → wY_kindAt_35 post (nI p) ml fl cnt ls sp md pk fnd ifd kd ka kb up ow o1 o2 yc ck p1 p2 yh fi fa ynd clr mrk vla evl ndd icl ecl mkr cvl al cis nf d v b 0 (dn_I m) := by
  intro d
  induction d with
  | zero => intro m h1 h2 h3; omega
  | succ d ih =>
    intro m h1 h2 h3
    obtain ⟨m, rfl⟩ : ∃ e, m = e + 1 := ⟨m - 1, by omega⟩
    rw [dn_s]
    refine br_f (nI_pos (by omega)) (nm_r (bt_p hp (by omega)) (br_t rfl ?_))
    rcases Classical.em (m = h) with w | w
    · subst w
      rw [hb_1 hb hb2]
      exact br_t rfl (nm_r (e' := dn_I m) rfl (K d (by omega)))
    · rw [hb_0 hb2 (by omega)]
      exact br_f (by decide) (nm_r (e' := dn_I m) rfl (ih m (by omega) (by omega) (by omega)))
/-- both look along a path: nothing, or one end -/
theorem kw_all {N M : Nat} {v1 : Int32} (hN : N ≤ 32) (hM : M ≤ 240) (h01 : ∀ c, c < M → al c = 0 ∨ al c = 1) (hls : ls = -1 ∨ ls = 0 ∨ ls = 1 ∨ ls = 2) (CE : ls = 0 → ce_C N M kd qn mkr cvl cis qf qs ∧ va_V M (vla 0) (icl 0) ∧ vl = en_c (vla 0) (icl 0)) :
    ∃ w t x, kw_F M kd al mkr w t x ∧ (ls = 0 ∨ t = -1) ∧ (∀ (post : Int64 → Prop), post w → wpX_valueAt post (ml, fl, cnt, pc, ifd, wt, rc, gw, ec, tp, vl, rm, ls, sp, md, hld, pk, kd, ka, kb, op, up, bd, pn, sk, f1, f2, lk, sh, cl, wa, wb, se, rg, hm, ra, ef, vi, la, sn, qn, qr, qe, qf, qs, al, enn, env, enx, frn, fre, frs, frm, frf) v1) ∧ (∀ (post : Int32 → SY → Prop), (∀ f, (t = 1 ∨ t = 3 → f = x) → post t (ml, fl, cnt, ls, sp, md, pk, f, ifd, kd, ka, kb, up, ow, o1, o2, yc, ck, p1, p2, yh, fi, fa, ynd, clr, mrk, vla, evl, ndd, icl, ecl, mkr, cvl, al, cis, nf)) → wpY_kindAt post (ml, fl, cnt, ls, sp, md, pk, fnd, ifd, kd, ka, kb, up, ow, o1, o2, yc, ck, p1, p2, yh, fi, fa, ynd, clr, mrk, vla, evl, ndd, icl, ecl, mkr, cvl, al, cis, nf) v1) := by
  rcases Classical.em (v1 < 1) with h1 | h1
  · exact ⟨-1, -1, 0, Or.inl ⟨rfl, rfl⟩, Or.inr rfl, fun post K => br_t h1 K, fun post K => br_t h1 (K fnd fun z => absurd z (by decide))⟩
  · rcases Classical.em (ls = 0) with h0 | h0
    · subst h0
      obtain ⟨CE2, V, ev⟩ := CE rfl
      subst ev
      have n0 : ¬ v1 < 0 := fun z => h1 (Int32.lt_trans z (by decide))
      obtain ⟨p, hp, rfl⟩ := nI_of n0
      have hp0 : 0 < p := by
        rcases Nat.eq_zero_or_pos p with w | w
        · subst w
          exact absurd (by decide) h1
        · exact w
      obtain ⟨h, hh, hb, hb2⟩ := hb_ex 30 p hp0 hp
      obtain ⟨w, t, x, G, hX, hY⟩ := kw_w (ml := ml) (fl := fl) (cnt := cnt) (pc := pc) (ifd := ifd) (wt := wt) (rc := rc) (gw := gw) (ec := ec) (tp := tp) (vl := en_c (vla 0) (icl 0)) (rm := rm) (ls := 0) (sp := sp) (md := md) (hld := hld) (pk := pk) (ka := ka) (kb := kb) (op := op) (up := up) (bd := bd) (pn := pn) (sk := sk) (f1 := f1) (f2 := f2) (lk := lk) (sh := sh) (cl := cl) (wa := wa) (wb := wb) (se := se) (rg := rg) (hm := hm) (ra := ra) (ef := ef) (vi := vi) (la := la) (sn := sn) (qr := qr) (qe := qe) (enn := enn) (env := env) (enx := enx) (frn := frn) (fre := fre) (frs := frs) (frm := frm) (frf := frf) (fnd := fnd) (ow := ow) (o1 := o1) (o2 := o2) (yc := yc) (ck := ck) (p1 := p1) (p2 := p2) (yh := yh) (fi := fi) (fa := fa) (ynd := ynd) (clr := clr) (mrk := mrk) (vla := vla) (evl := evl) (ndd := ndd) (icl := icl) (ecl := ecl) (nf := nf) hN hM hp h01 CE2 h (vla 0) (icl 0) hh V
      refine ⟨w, t, x, G, Or.inl rfl, fun post K => br_f h1 (br_t rfl ⟨32, ?_⟩), fun post K => br_f h1 (br_t rfl (nm_e (nm_e ⟨32, ?_⟩)))⟩
      · exact kw_x20 hp hh hb hb2 ⟨h + 1, hX post (h + 1) K (by omega)⟩ 32 1 0 ((Nat.eq_zero_or_pos h).elim (fun q => Or.inr (by rw [q]; rfl)) (fun q => Or.inl q)) (by omega) (by omega)
      · exact kw_y35 hp hh hb hb2 (fun d hd => hY post d K hd) 32 31 (by omega) (by omega) (by omega)
    · exact ⟨-1, -1, 0, Or.inl ⟨rfl, rfl⟩, Or.inr rfl, fun post K => br_f h1 (br_f h0 K), fun post K => br_f h1 (br_f h0 (K fnd fun z => absurd z (by decide)))⟩
end
end
section
/-- what the relation says of the last run, whether there was one or not -/
theorem rn_ls {N : Nat} {ls ifd md hld : Int32} {vl : Int64} {kd al qn mkr cvl cis vla icl : Nat → Int32} {qf qs : Nat → Int64} (RR : ls = -1 ∨ (ifd = 1 ∧ (ls = 0 ∨ ls = 1 ∨ ls = 2) ∧ ∃ M, rn_F N M ls md hld vl kd al qn mkr cvl cis vla icl qf qs)) :
    ∃ M, M ≤ 240 ∧ (∀ c, c < M → al c = 0 ∨ al c = 1) ∧ (ls = -1 ∨ ls = 0 ∨ ls = 1 ∨ ls = 2) ∧ (ls = 0 → ce_C N M kd qn mkr cvl cis qf qs ∧ va_V M (vla 0) (icl 0) ∧ vl = en_c (vla 0) (icl 0)) := by
  rcases RR with rfl | ⟨-, h, M, -, h1, h2, -, h3⟩
  · exact ⟨0, by omega, fun c h => absurd h (by omega), Or.inl rfl, fun z => absurd z (by decide)⟩
  · exact ⟨M, h1, h2, Or.inr h, h3⟩
theorem i_vc_kindAt {k : Nat} {u : SX} {v : SY} (I : i_Rel k u v) (hk : k + 4 ≤ 2050) (v1 : Int32) : wpX_kindAt (fun r => wpY_kindAt (fun r' v' => r' = r ∧ i_Rel (k + 4) u v') v v1) u v1 := by
  refine zz_el (P := fun u v => wpX_kindAt (fun r => wpY_kindAt (fun r' v' => r' = r ∧ i_Rel (k + 4) u v') v v1) u v1) ?_ I
  intro ml fl cnt pc ifd wt rc gw ec tp vl rm ls sp md hld pk kd ka kb op up bd pn sk f1 f2 lk sh cl wa wb se rg hm ra ef vi la sn qn qr qe qf qs al enn env enx frn fre frs frm frf fnd ow o1 o2 yc ck p1 p2 yh fi fa ynd clr mrk vla evl ndd icl ecl mkr cvl cis hF
  have Z : ∀ f, i_Rel (k + 4) (ml, fl, cnt, pc, ifd, wt, rc, gw, ec, tp, vl, rm, ls, sp, md, hld, pk, kd, ka, kb, op, up, bd, pn, sk, f1, f2, lk, sh, cl, wa, wb, se, rg, hm, ra, ef, vi, la, sn, qn, qr, qe, qf, qs, al, enn, env, enx, frn, fre, frs, frm, frf) (ml, fl, cnt, ls, sp, md, pk, f, ifd, kd, ka, kb, up, ow, o1, o2, yc, ck, p1, p2, yh, fi, fa, ynd, clr, mrk, vla, evl, ndd, icl, ecl, mkr, cvl, al, cis, 36864) := fun f => zz_in hF
  obtain ⟨N, c, L, F, RN, RI, RR⟩ := hF
  have hN : N ≤ 32 := RN.2.2.2.2.2.2.2.2.2.2.1.1
  obtain ⟨M, hM, h01, hls, CE⟩ := rn_ls RR
  obtain ⟨w, t, x, G, h0, hX, hY⟩ := kw_all (v1 := v1) (ml := ml) (fl := fl) (cnt := cnt) (pc := pc) (ifd := ifd) (wt := wt) (rc := rc) (gw := gw) (ec := ec) (tp := tp) (rm := rm) (sp := sp) (md := md) (hld := hld) (pk := pk) (ka := ka) (kb := kb) (op := op) (up := up) (bd := bd) (pn := pn) (sk := sk) (f1 := f1) (f2 := f2) (lk := lk) (sh := sh) (cl := cl) (wa := wa) (wb := wb) (se := se) (rg := rg) (hm := hm) (ra := ra) (ef := ef) (vi := vi) (la := la) (sn := sn) (qr := qr) (qe := qe) (enn := enn) (env := env) (enx := enx) (frn := frn) (fre := fre) (frs := frs) (frm := frm) (frf := frf) (fnd := fnd) (ow := ow) (o1 := o1) (o2 := o2) (yc := yc) (ck := ck) (p1 := p1) (p2 := p2) (yh := yh) (fi := fi) (fa := fa) (ynd := ynd) (clr := clr) (mrk := mrk) (evl := evl) (ndd := ndd) (ecl := ecl) (nf := 36864) hN hM h01 hls CE
  have hq : ls = 0 → ∀ c, c < M → qn c = mkr c := fun e c hc => by obtain ⟨m, -, -, e1, e2, -⟩ := (CE e).1 c hc; rw [e1, e2]
  unfold wpX_kindAt
  dsimp only
  refine hX _ ?_
  have fin : wpY_kindAt (fun r' v' => r' = t ∧ i_Rel (k + 4) (ml, fl, cnt, pc, ifd, wt, rc, gw, ec, tp, vl, rm, ls, sp, md, hld, pk, kd, ka, kb, op, up, bd, pn, sk, f1, f2, lk, sh, cl, wa, wb, se, rg, hm, ra, ef, vi, la, sn, qn, qr, qe, qf, qs, al, enn, env, enx, frn, fre, frs, frm, frf) v') (ml, fl, cnt, ls, sp, md, pk, fnd, ifd, kd, ka, kb, up, ow, o1, o2, yc, ck, p1, p2, yh, fi, fa, ynd, clr, mrk, vla, evl, ndd, icl, ecl, mkr, cvl, al, cis, 36864) v1 := hY _ (fun f _ => ⟨rfl, Z f⟩)
  rcases h0 with h0 | h0
  · exact xv_k hM (hq h0) G fin
  · subst h0
    have hw : w = -1 := by
      rcases G with ⟨-, e⟩ | ⟨e, -⟩ | ⟨e, -⟩ | ⟨e | e, -⟩
      · exact e
      all_goals exact absurd e (by decide)
    subst hw
    exact br_f (by decide) fin
theorem i_vc_intAt {k : Nat} {u : SX} {v : SY} (I : i_Rel k u v) (hk : k + 4 ≤ 2050) (v1 : Int32) : wpX_intAt (fun r => wpY_intAt (fun r' v' => r' = r ∧ i_Rel (k + 4) u v') v v1) u v1 := by
  refine zz_el (P := fun u v => wpX_intAt (fun r => wpY_intAt (fun r' v' => r' = r ∧ i_Rel (k + 4) u v') v v1) u v1) ?_ I
  intro ml fl cnt pc ifd wt rc gw ec tp vl rm ls sp md hld pk kd ka kb op up bd pn sk f1 f2 lk sh cl wa wb se rg hm ra ef vi la sn qn qr qe qf qs al enn env enx frn fre frs frm frf fnd ow o1 o2 yc ck p1 p2 yh fi fa ynd clr mrk vla evl ndd icl ecl mkr cvl cis hF
  have Z : ∀ f, i_Rel (k + 4) (ml, fl, cnt, pc, ifd, wt, rc, gw, ec, tp, vl, rm, ls, sp, md, hld, pk, kd, ka, kb, op, up, bd, pn, sk, f1, f2, lk, sh, cl, wa, wb, se, rg, hm, ra, ef, vi, la, sn, qn, qr, qe, qf, qs, al, enn, env, enx, frn, fre, frs, frm, frf) (ml, fl, cnt, ls, sp, md, pk, f, ifd, kd, ka, kb, up, ow, o1, o2, yc, ck, p1, p2, yh, fi, fa, ynd, clr, mrk, vla, evl, ndd, icl, ecl, mkr, cvl, al, cis, 36864) := fun f => zz_in hF
  obtain ⟨N, c, L, F, RN, RI, RR⟩ := hF
  have hN : N ≤ 32 := RN.2.2.2.2.2.2.2.2.2.2.1.1
  obtain ⟨M, hM, h01, hls, CE⟩ := rn_ls RR
  obtain ⟨w, t, x, G, h0, hX, hY⟩ := kw_all (v1 := v1) (ml := ml) (fl := fl) (cnt := cnt) (pc := pc) (ifd := ifd) (wt := wt) (rc := rc) (gw := gw) (ec := ec) (tp := tp) (rm := rm) (sp := sp) (md := md) (hld := hld) (pk := pk) (ka := ka) (kb := kb) (op := op) (up := up) (bd := bd) (pn := pn) (sk := sk) (f1 := f1) (f2 := f2) (lk := lk) (sh := sh) (cl := cl) (wa := wa) (wb := wb) (se := se) (rg := rg) (hm := hm) (ra := ra) (ef := ef) (vi := vi) (la := la) (sn := sn) (qr := qr) (qe := qe) (enn := enn) (env := env) (enx := enx) (frn := frn) (fre := fre) (frs := frs) (frm := frm) (frf := frf) (fnd := fnd) (ow := ow) (o1 := o1) (o2 := o2) (yc := yc) (ck := ck) (p1 := p1) (p2 := p2) (yh := yh) (fi := fi) (fa := fa) (ynd := ynd) (clr := clr) (mrk := mrk) (evl := evl) (ndd := ndd) (ecl := ecl) (nf := 36864) hN hM h01 hls CE
  have hq : ls = 0 → ∀ c, c < M → qn c = mkr c := fun e c hc => by obtain ⟨m, -, -, e1, e2, -⟩ := (CE e).1 c hc; rw [e1, e2]
  unfold wpX_intAt
  dsimp only
  refine hX _ ?_
  have fin : ∀ r : Int32, (t = 1 ∨ t = 3 → x = r) → (¬ t = 1 → ¬ t = 3 → r = 0) → wpY_intAt (fun r' v' => r' = r ∧ i_Rel (k + 4) (ml, fl, cnt, pc, ifd, wt, rc, gw, ec, tp, vl, rm, ls, sp, md, hld, pk, kd, ka, kb, op, up, bd, pn, sk, f1, f2, lk, sh, cl, wa, wb, se, rg, hm, ra, ef, vi, la, sn, qn, qr, qe, qf, qs, al, enn, env, enx, frn, fre, frs, frm, frf) v') (ml, fl, cnt, ls, sp, md, pk, fnd, ifd, kd, ka, kb, up, ow, o1, o2, yc, ck, p1, p2, yh, fi, fa, ynd, clr, mrk, vla, evl, ndd, icl, ecl, mkr, cvl, al, cis, 36864) v1 := by
    intro r h1 h2
    unfold wpY_intAt
    dsimp only
    refine hY _ (fun f hf => ?_)
    dsimp only
    rcases Classical.em (t = 1) with a | a
    · exact br_t a ⟨(hf (Or.inl a)).trans (h1 (Or.inl a)), Z f⟩
    · refine br_f a ?_
      rcases Classical.em (t = 3) with b | b
      · exact br_t b ⟨(hf (Or.inr b)).trans (h1 (Or.inr b)), Z f⟩
      · exact br_f b ⟨(h2 a b).symm, Z f⟩
  rcases h0 with h0 | h0
  · refine xv_k hM (hq h0) G ?_
    rcases id G with ⟨rfl, e⟩ | ⟨rfl, e⟩ | ⟨rfl, e⟩ | ⟨ht, c, m, hc, e, ha, hm', hm32, hk, ex⟩
    · exact br_f (by decide) (br_f (by decide) (fin 0 (fun z => absurd z (by decide)) (fun _ _ => rfl)))
    · exact br_f (by decide) (br_f (by decide) (fin 0 (fun z => absurd z (by decide)) (fun _ _ => rfl)))
    · refine br_t rfl (fin _ (fun _ => ?_) (fun z => absurd rfl z))
      rw [e, ev_0i]
    · rcases ht with rfl | rfl
      · exact br_f (by decide) (br_f (by decide) (fin 0 (fun z => absurd z (by decide)) (fun _ _ => rfl)))
      · refine br_f (by decide) (br_t rfl (xv_c1 (c := c) (by omega) e ⟨pk_in c 240 (by omega), ?_⟩))
        rw [nI_clamp (n := c) (by omega), hq h0 c hc, hm']
        exact fin _ (fun _ => ex) (fun _ z => absurd rfl z)
  · subst h0
    have hw : w = -1 := by
      rcases G with ⟨-, e⟩ | ⟨e, -⟩ | ⟨e, -⟩ | ⟨e | e, -⟩
      · exact e
      all_goals exact absurd e (by decide)
    subst hw
    exact br_f (by decide) (br_f (by decide) (br_f (by decide) (fin 0 (fun z => absurd z (by decide)) (fun _ _ => rfl))))
end
section
/-- al' is al but for the cells of P, which are dead -/
def kl_S (P : Nat → Prop) (al al' : Nat → Int32) : Prop := ∀ c, (P c → al' c = 0) ∧ (¬ P c → al' c = al c)
theorem kl_u {P Q : Nat → Prop} {al a1 a2 : Nat → Int32} (h1 : kl_S P al a1) (h2 : kl_S Q al a2) (e : ∀ c, P c ↔ Q c) : a1 = a2 := by
  funext c
  rcases Classical.em (P c) with p | p
  · rw [(h1 c).1 p, (h2 c).1 ((e c).mp p)]
  · rw [(h1 c).2 p, (h2 c).2 (fun q => p ((e c).mpr q))]
theorem kl_n {P : Nat → Prop} {al : Nat → Int32} (h : ∀ c, ¬ P c) : kl_S P al al := fun c => ⟨fun p => absurd p (h c), fun _ => rfl⟩
noncomputable def kl_f (P : Nat → Prop) (al : Nat → Int32) : Nat → Int32 := fun c => @ite Int32 (P c) (Classical.propDecidable _) 0 (al c)
theorem kl_i (P : Nat → Prop) (al : Nat → Int32) : kl_S P al (kl_f P al) := fun c => ⟨fun p => by unfold kl_f; rw [if_pos p], fun p => by unfold kl_f; rw [if_neg p]⟩
theorem kl_fu {P Q : Nat → Prop} {al a : Nat → Int32} (h : kl_S Q al a) (e : ∀ c, P c ↔ Q c) : a = kl_f P al := (kl_u (kl_i P al) h e).symm
theorem kl_01 {P : Nat → Prop} {al a : Nat → Int32} {M : Nat} (h : kl_S P al a) (h01 : ∀ c, c < M → al c = 0 ∨ al c = 1) : ∀ c, c < M → a c = 0 ∨ a c = 1 := fun c hc => by
  rcases Classical.em (P c) with p | p
  · exact Or.inl ((h c).1 p)
  · rw [(h c).2 p]; exact h01 c hc
/-- environments: G is what a place of the chain gives for a name -/
def ev_G (G : Nat → Nat → Int64) (e : Int32) (x : Nat) : Int64 := if e = -1 then 0 else G e.toNatClampNeg x
def ev_E (E : Nat) (enn : Nat → Int32) (env : Nat → Int64) (enx : Nat → Int32) (G : Nat → Nat → Int64) : Prop := ∀ i, i < E → ∃ y, y < 8 ∧ enn i = nI y ∧ (enx i = -1 ∨ ∃ i', i' < i ∧ enx i = nI i') ∧ ∀ x, x < 8 → G i x = if x = y then env i else ev_G G (enx i) x
theorem ev_m (G : Nat → Nat → Int64) (x : Nat) : ev_G G (-1) x = 0 := if_pos rfl
theorem ev_n (G : Nat → Nat → Int64) {i : Nat} (h : i < 2 ^ 31) (x : Nat) : ev_G G (nI i) x = G i x := by
  unfold ev_G
  rw [if_neg (fun z => m1_n h z.symm), nI_clamp h]
section
variable {ml fl cnt pc ifd wt rc gw ec tp : Int32} {vl : Int64} {rm ls sp md hld pk : Int32} {kd ka kb op up bd pn sk f1 f2 lk sh cl wa wb se rg hm : Nat → Int32} {ra ef vi la sn : Nat → Int64} {qn qr qe : Nat → Int32} {qf qs : Nat → Int64} {al enn : Nat → Int32} {env : Nat → Int64} {enx frn fre frs frm : Nat → Int32} {frf : Nat → Int64}
theorem xr_be {post : SX → Prop} {B F t : Nat} {p0 p1 : Int32} (hB : B < 2 ^ 31) (hF : F < 2 ^ 31) (ht : B < F → t < 240)
    (K1 : B < F → post (ml, nI F, cnt, pc, ifd, wt, rc, gw, ec, nI (t + 1), vl, rm, ls, nI (B + 1), md, hld, pk, kd, ka, kb, op, up, bd, pn, sk, f1, f2, lk, sh, cl, wa, wb, se, rg, hm, ra, ef, vi, la, sn, qn, qr, qe, qf, qs, al, enn, env, enx, upd frn t p0, upd fre t p1, upd frs t 0, upd frm t md, frf))
    (K0 : ¬ B < F → post (ml, nI F, cnt, pc, ifd, wt, rc, gw, ec, nI t, vl, rm, 1, nI B, md, hld, pk, kd, ka, kb, op, up, bd, pn, sk, f1, f2, lk, sh, cl, wa, wb, se, rg, hm, ra, ef, vi, la, sn, qn, qr, qe, qf, qs, al, enn, env, enx, frn, fre, frs, frm, frf)) : wpX_begin post (ml, nI F, cnt, pc, ifd, wt, rc, gw, ec, nI t, vl, rm, ls, nI B, md, hld, pk, kd, ka, kb, op, up, bd, pn, sk, f1, f2, lk, sh, cl, wa, wb, se, rg, hm, ra, ef, vi, la, sn, qn, qr, qe, qf, qs, al, enn, env, enx, frn, fre, frs, frm, frf) p0 p1 := by
  refine pk_lt B F (fun z => ?_) (fun z => K0 (by omega))
  have c : (nI t).toNatClampNeg = t := nI_clamp (by have := ht z; omega)
  have v : vp_in (nI t) 240 := pk_in t 240 (ht z)
  exact nm_r (e' := nI (B + 1)) (nI_1 B) ⟨v, nm_r (e' := upd frn t p0) (by rw [c]) ⟨v, nm_r (e' := upd fre t p1) (by rw [c]) ⟨v, nm_r (e' := upd frs t 0) (by rw [c]) ⟨v, nm_r (e' := upd frm t md) (by rw [c]) (nm_r (e' := nI (t + 1)) (nI_1 t) (K1 z))⟩⟩⟩⟩
theorem xr_lk {post : Int64 → Prop} {E x : Nat} {G : Nat → Nat → Int64} (hE : E ≤ 480) (EV : ev_E E enn env enx G) (hx : x < 8) :
    ∀ (d i : Nat) (e : Int32), (e = -1 ∨ ∃ j, j < E ∧ e = nI j ∧ i + j < 480) → i ≤ 480 → 481 ≤ d + i → post (ev_G G e x) → wX_lookup_5 post (nI x) ml fl cnt pc ifd wt rc gw ec tp vl rm ls sp md hld pk kd ka kb op up bd pn sk f1 f2 lk sh cl wa wb se rg hm ra ef vi la sn qn qr qe qf qs al enn env enx frn fre frs frm frf d e (nI i) := by
  intro d
  induction d with
  | zero => intro i e h hi hd; omega
  | succ d ih =>
    intro i e h hi hd K
    rcases h with rfl | ⟨j, hj, rfl, hij⟩
    · rw [ev_m] at K
      exact br_c (fun _ => K) (fun _ => br_t (by decide) K)
    · obtain ⟨y, hy, e1, e2, e3⟩ := EV j hj
      rw [ev_n G (by omega), e3 x hx] at K
      refine br_f (nI_ge (b := 480) (by omega) (by omega)) (br_f (nI_pos (by omega)) ⟨pk_in j 480 (by omega), ?_⟩)
      rw [nI_clamp (n := j) (by omega), e1]
      refine pk_eq y x (fun z => ⟨pk_in j 480 (by omega), ?_⟩) (fun z => ⟨pk_in j 480 (by omega), nm_e (nm_r (e' := nI (i + 1)) (nI_1 i) ?_)⟩)
      · rw [if_pos z.symm] at K
        exact K
      · rw [if_neg (fun q => z q.symm)] at K
        refine ih (i + 1) (enx j) ?_ (by omega) (by omega) K
        rcases e2 with e2 | ⟨i', hi', e2⟩
        · exact Or.inl e2
        · exact Or.inr ⟨i', by omega, e2, by omega⟩
theorem xr_lo {post : Int64 → Prop} {E x : Nat} {G : Nat → Nat → Int64} {e v : Int32} (hE : E ≤ 480) (EV : ev_E E enn env enx G) (hx : x < 8) (ev : v = nI x) (he : e = -1 ∨ ∃ j, j < E ∧ e = nI j) (K : post (ev_G G e x)) : wpX_lookup post (ml, fl, cnt, pc, ifd, wt, rc, gw, ec, tp, vl, rm, ls, sp, md, hld, pk, kd, ka, kb, op, up, bd, pn, sk, f1, f2, lk, sh, cl, wa, wb, se, rg, hm, ra, ef, vi, la, sn, qn, qr, qe, qf, qs, al, enn, env, enx, frn, fre, frs, frm, frf) v e := by
  subst ev
  refine ⟨481, xr_lk hE EV hx 481 0 e ?_ (by omega) (by omega) K⟩
  rcases he with he | ⟨j, hj, he⟩
  · exact Or.inl he
  · exact Or.inr ⟨j, hj, he, by omega⟩
theorem xr_to {post : Int32 → SX → Prop} {M : Nat} {v b : Int32} {w : Int64} (hM : M ≤ 240) (h01 : ∀ c, c < M → al c = 0 ∨ al c = 1) (V : va_V M v b) (e : w = en_c v b)
    (K0 : (b = 0 ∨ ∃ c, c < M ∧ b = 1 ∧ v = nI c ∧ al c = 0) → post (-1) (ml, fl, cnt, pc, ifd, wt, rc, gw, ec, tp, vl, rm, 2, sp, md, hld, pk, kd, ka, kb, op, up, bd, pn, sk, f1, f2, lk, sh, cl, wa, wb, se, rg, hm, ra, ef, vi, la, sn, qn, qr, qe, qf, qs, al, enn, env, enx, frn, fre, frs, frm, frf)) (K1 : ∀ c, c < M → b = 1 → v = nI c → al c = 1 → post (nI c) (ml, fl, cnt, pc, ifd, wt, rc, gw, ec, tp, vl, rm, ls, sp, md, hld, pk, kd, ka, kb, op, up, bd, pn, sk, f1, f2, lk, sh, cl, wa, wb, se, rg, hm, ra, ef, vi, la, sn, qn, qr, qe, qf, qs, al, enn, env, enx, frn, fre, frs, frm, frf)) : wpX_touch post (ml, fl, cnt, pc, ifd, wt, rc, gw, ec, tp, vl, rm, ls, sp, md, hld, pk, kd, ka, kb, op, up, bd, pn, sk, f1, f2, lk, sh, cl, wa, wb, se, rg, hm, ra, ef, vi, la, sn, qn, qr, qe, qf, qs, al, enn, env, enx, frn, fre, frs, frm, frf) w := by
  unfold wpX_touch
  dsimp only
  subst e
  rcases V with rfl | ⟨rfl, c, hc, rfl⟩
  · exact xv_c0 rfl (br_t (by decide) (K0 (Or.inl rfl)))
  · refine xv_c1 (c := c) (by omega) rfl (br_f (nI_pos (by omega)) ⟨pk_in c 240 (by omega), ?_⟩)
    rw [nI_clamp (n := c) (by omega)]
    rcases h01 c hc with a | a
    · exact br_t a (K0 (Or.inr ⟨c, hc, rfl, rfl, a⟩))
    · exact br_f (by rw [a]; decide) (K1 c hc rfl rfl a)
theorem xr_mc {post : Int64 → SX → Prop} {N M H n : Nat} {r : Nat → Nat} {p0 : Int32} {p1 p2 : Int64} {p3 : Int32} (TT : tm_T N kd ka kb up op) (C : ty_C N kd ka kb up op sh r) (hcl : ∀ s, s < 3 * N → cl s = nI (r s)) (RT : rg_T N kd op sh r rg) (hn : n < N) (B : tg_B N kd op sh r (r (3 * n))) (hM : M < 240) (e0 : p0 = nI n)
    (K : ∀ pk', (nI (H + 1) ≤ pk → pk' = pk) → (¬ nI (H + 1) ≤ pk → pk' = nI (H + 1)) → post (en_c (nI M) 1) (ml, fl, cnt, pc, ifd, wt, rc, gw, ec, tp, vl, rm, ls, sp, nI (M + 1), nI (H + 1), pk', kd, ka, kb, op, up, bd, pn, sk, f1, f2, lk, sh, cl, wa, wb, se, rg, hm, ra, ef, vi, la, sn, upd qn M (nI n), upd qr M (nI (rg_J N kd op sh r (r (3 * n)))), upd qe M p3, vp_updL qf M p1, vp_updL qs M p2, upd al M 1, enn, env, enx, frn, fre, frs, frm, frf)) :
    wpX_makeCell post (ml, fl, cnt, pc, ifd, wt, rc, gw, ec, tp, vl, rm, ls, sp, nI M, nI H, pk, kd, ka, kb, op, up, bd, pn, sk, f1, f2, lk, sh, cl, wa, wb, se, rg, hm, ra, ef, vi, la, sn, qn, qr, qe, qf, qs, al, enn, env, enx, frn, fre, frs, frm, frf) p0 p1 p2 p3 := by
  subst e0
  have hN := TT.1
  have rn := C.1 (3 * n) (by omega)
  have c : (nI M).toNatClampNeg = M := nI_clamp (by omega)
  have v : vp_in (nI M) 240 := pk_in M 240 hM
  have e3 : (3 : Int32) * nI n = nI (3 * n) := pk_mul 3 n
  have c3 : cl (nI (3 * n)).toNatClampNeg = nI (r (3 * n)) := by rw [nI_clamp (by omega)]; exact hcl _ (by omega)
  have ew : (4294967296 : Int64) + (nI M).toInt64 = en_c (nI M) 1 := by
    unfold en_c
    rw [if_neg (by decide)]
  unfold wpX_makeCell
  dsimp only
  rw [e3, c3, nI_clamp (n := r (3 * n)) (by omega), (RT _ rn.1).1 B, c, ew]
  refine nm_r (e' := nI (M + 1)) (nI_1 M) ⟨v, nm_e ⟨pk_in (3 * n) 96 (by omega), pk_in (r (3 * n)) 96 (by omega), v, nm_e ⟨v, nm_e ⟨v, nm_e ⟨v, nm_e ⟨v, nm_r (e' := upd al M 1) rfl (nm_r (e' := nI (H + 1)) (nI_1 H) ?_)⟩⟩⟩⟩⟩⟩
  exact br_c (fun z => K pk (fun _ => rfl) (fun w => absurd z w)) (fun z => K _ (fun w => absurd w z) (fun _ => rfl))
theorem xr_bi {post : Int32 → SX → Prop} {E : Nat} {p0 p1 : Int32} {p2 : Int64} (hE : E < 480) (K : post (nI E) (ml, fl, cnt, pc, ifd, wt, rc, gw, nI (E + 1), tp, vl, rm, ls, sp, md, hld, pk, kd, ka, kb, op, up, bd, pn, sk, f1, f2, lk, sh, cl, wa, wb, se, rg, hm, ra, ef, vi, la, sn, qn, qr, qe, qf, qs, al, upd enn E p1, vp_updL env E p2, upd enx E p0, frn, fre, frs, frm, frf)) : wpX_bind post (ml, fl, cnt, pc, ifd, wt, rc, gw, nI E, tp, vl, rm, ls, sp, md, hld, pk, kd, ka, kb, op, up, bd, pn, sk, f1, f2, lk, sh, cl, wa, wb, se, rg, hm, ra, ef, vi, la, sn, qn, qr, qe, qf, qs, al, enn, env, enx, frn, fre, frs, frm, frf) p0 p1 p2 := by
  have c : (nI E).toNatClampNeg = E := nI_clamp (by omega)
  have v : vp_in (nI E) 480 := pk_in E 480 hE
  exact ⟨v, nm_r (e' := upd enn E p1) (by rw [c]) ⟨v, nm_r (e' := vp_updL env E p2) (by rw [c]) ⟨v, nm_r (e' := upd enx E p0) (by rw [c]) (nm_r (e' := nI (E + 1)) (nI_1 E) K)⟩⟩⟩
theorem xr_91 {post : SX → Prop} {t : Nat} (ht : t < 240) (K : ∀ ls', (t = 0 → ls' = 0) → (t ≠ 0 → ls' = ls) → post (ml, fl, cnt, pc, ifd, wt, rc, gw, ec, nI t, vl, rm, ls', sp, md, hld, pk, kd, ka, kb, op, up, bd, pn, sk, f1, f2, lk, sh, cl, wa, wb, se, rg, hm, ra, ef, vi, la, sn, qn, qr, qe, qf, qs, al, enn, env, enx, frn, fre, frs, frm, frf)) : wX_finish_91 post ml fl cnt pc ifd wt rc gw ec (nI t) vl rm ls sp md hld pk kd ka kb op up bd pn sk f1 f2 lk sh cl wa wb se rg hm ra ef vi la sn qn qr qe qf qs al enn env enx frn fre frs frm frf :=
  pk_eq t 0 (fun e => K 0 (fun _ => rfl) (fun z => absurd e z)) (fun e => K ls (fun z => absurd z e) (fun _ => rfl))
theorem xr_28 {post : SX → Prop} {N M t mk : Nat} {al0 : Nat → Int32} (hM : M ≤ 240) (ht : t < 240) (hq : ∀ c, c < M → ∃ j, j < 32 ∧ qr c = nI j) (h01 : ∀ c, c < M → al0 c = 0 ∨ al0 c = 1)
    (K : ∀ al' ls', (t = 0 → ls' = 0) → (t ≠ 0 → ls' = ls) → kl_S (fun c => mk ≤ c ∧ c < M ∧ hm (qr c).toNatClampNeg = frn t) al0 al' → post (ml, fl, cnt, pc, ifd, wt, rc, gw, ec, nI t, vl, rm, ls', sp, nI M, nI (cn (fun c => al' c = 1) M), pk, kd, ka, kb, op, up, bd, pn, sk, f1, f2, lk, sh, cl, wa, wb, se, rg, hm, ra, ef, vi, la, sn, qn, qr, qe, qf, qs, al', enn, env, enx, frn, fre, frs, frm, frf)) :
    ∀ (d c : Nat) (al : Nat → Int32), (∀ i, i < M → al i = 0 ∨ al i = 1) → kl_S (fun i => mk ≤ i ∧ i < c ∧ i < M ∧ hm (qr i).toNatClampNeg = frn t) al0 al → mk ≤ c → c ≤ M → M + 1 ≤ d + c →
      wX_finish_28 post ml fl cnt pc ifd wt rc gw ec (nI t) vl rm ls sp (nI M) pk d (nI c) (nI (cn (fun i => al i = 1) M)) kd ka kb op up bd pn sk f1 f2 lk sh cl wa wb se rg hm ra ef vi la sn qn qr qe qf qs al enn env enx frn fre frs frm frf := by
  intro d
  induction d with
  | zero => intro c al h1 h2 h3 h4 hd; omega
  | succ d ih =>
    intro c al h1 h2 h3 h4 hd
    refine pk_le M c (fun z => ?_) (fun z => ⟨pk_in c 240 (by omega), ?_⟩)
    · have e : c = M := by omega
      subst e
      refine xr_91 ht (fun ls' a b => K al ls' a b (fun i => ⟨fun p => (h2 i).1 ⟨p.1, p.2.1, p.2.1, p.2.2⟩, fun p => (h2 i).2 fun q => p ⟨q.1, q.2.1, q.2.2.2⟩⟩))
    · have cc : (nI c).toNatClampNeg = c := nI_clamp (by omega)
      obtain ⟨j, hj, ej⟩ := hq c z
      rw [cc]
      have nxt : (al c = 0 ∨ ¬ hm (qr c).toNatClampNeg = frn t) → wX_finish_28 post ml fl cnt pc ifd wt rc gw ec (nI t) vl rm ls sp (nI M) pk d (nI (c + 1)) (nI (cn (fun i => al i = 1) M)) kd ka kb op up bd pn sk f1 f2 lk sh cl wa wb se rg hm ra ef vi la sn qn qr qe qf qs al enn env enx frn fre frs frm frf := by
        intro g
        refine ih (c + 1) al h1 (fun i => ⟨fun p => ?_, fun p => (h2 i).2 fun q => p ⟨q.1, by omega, q.2.2⟩⟩) (by omega) (by omega) (by omega)
        rcases Classical.em (i = c) with y | y
        · subst y
          rcases g with g | g
          · exact g
          · exact absurd p.2.2.2 g
        · exact (h2 i).1 ⟨p.1, by omega, p.2.2⟩
      rcases h1 c z with a | a
      · exact br_t a (nm_r (e' := nI (c + 1)) (nI_1 c) (nxt (Or.inl a)))
      · refine br_f (by rw [a]; decide) ⟨pk_in c 240 (by omega), pk_in j 32 hj ej, pk_in t 240 ht, ?_⟩
        rw [nI_clamp (n := t) (by omega)]
        rcases Classical.em (hm (qr c).toNatClampNeg = frn t) with g | g
        · have hl : cn (fun i => al i = 1) M = cn (fun i => upd al c 0 i = 1) M + 1 := by
            rw [ct_del (P := fun i => al i = 1) a z]
            refine congrArg (· + 1) (cn_eq fun i hi => ⟨fun w => by rw [pk_un w.2]; exact w.1, fun w => ?_⟩)
            rcases Classical.em (i = c) with y | y
            · subst y
              rw [pk_us] at w
              exact absurd w (by decide)
            · rw [pk_un y] at w
              exact ⟨w, y⟩
          refine br_t g ⟨pk_in c 240 (by omega), nm_r (e' := upd al c 0) rfl (nm_r (e' := nI (cn (fun i => upd al c 0 i = 1) M)) (by rw [hl]; exact nI_pred _) (nm_r (e' := nI (c + 1)) (nI_1 c) ?_))⟩
          refine ih (c + 1) (upd al c 0) (fun i hi => ?_) (fun i => ⟨fun p => ?_, fun p => ?_⟩) (by omega) (by omega) (by omega)
          · rcases Classical.em (i = c) with y | y
            · subst y; exact Or.inl pk_us
            · rw [pk_un y]; exact h1 i hi
          · rcases Classical.em (i = c) with y | y
            · subst y; exact pk_us
            · rw [pk_un y]
              exact (h2 i).1 ⟨p.1, by omega, p.2.2⟩
          · rcases Classical.em (i = c) with y | y
            · subst y
              exact absurd ⟨h3, by omega, z, g⟩ p
            · rw [pk_un y]
              exact (h2 i).2 fun q => p ⟨q.1, by omega, q.2.2⟩
        · exact br_f g (nm_r (e' := nI (c + 1)) (nI_1 c) (nxt (Or.inr g)))
/-- finish: the frame goes, in the mode of regions its cells with it -/
theorem xr_fi {post : SX → Prop} {M t mk : Nat} (hM : M ≤ 240) (ht : t < 240) (hmk : mk ≤ M) (hq : ∀ c, c < M → ∃ j, j < 32 ∧ qr c = nI j) (h01 : ∀ c, c < M → al c = 0 ∨ al c = 1) (em : frm t = nI mk)
    (K : ∀ al' ls', (t = 0 → ls' = 0) → (t ≠ 0 → ls' = ls) → kl_S (fun c => rm = 1 ∧ mk ≤ c ∧ c < M ∧ hm (qr c).toNatClampNeg = frn t) al al' → post (ml, fl, cnt, pc, ifd, wt, rc, gw, ec, nI t, vl, rm, ls', sp, nI M, nI (cn (fun c => al' c = 1) M), pk, kd, ka, kb, op, up, bd, pn, sk, f1, f2, lk, sh, cl, wa, wb, se, rg, hm, ra, ef, vi, la, sn, qn, qr, qe, qf, qs, al', enn, env, enx, frn, fre, frs, frm, frf)) :
    wpX_finish post (ml, fl, cnt, pc, ifd, wt, rc, gw, ec, nI (t + 1), vl, rm, ls, sp, nI M, nI (cn (fun c => al c = 1) M), pk, kd, ka, kb, op, up, bd, pn, sk, f1, f2, lk, sh, cl, wa, wb, se, rg, hm, ra, ef, vi, la, sn, qn, qr, qe, qf, qs, al, enn, env, enx, frn, fre, frs, frm, frf) := by
  refine nm_r (e' := nI t) (nI_pred t) ?_
  rcases Classical.em (rm = 1) with z | z
  · refine br_t z ⟨pk_in t 240 ht, nm_r (e' := nI mk) (by rw [nI_clamp (by omega)]; exact em) ⟨M + 1, xr_28 (N := 0) hM ht hq h01 (fun al' ls' a b k => K al' ls' a b (fun i => ⟨fun p => (k i).1 p.2, fun p => (k i).2 fun q => p ⟨z, q⟩⟩)) (M + 1) mk al h01 (kl_n fun i p => absurd p.2.1 (by omega)) (by omega) hmk (by omega)⟩⟩
  · exact br_f z (xr_91 ht (fun ls' a b => K al ls' a b (kl_n fun i p => z p.1)))
end
end
section
/-- the evaluations that e has called below i: how many, the first, the last -/
def sc_F (clr : Nat → Int32) (e : Nat) : Nat → Nat × Nat × Nat
  | 0 => (0, e, e)
  | i + 1 => if e < i ∧ clr i = nI e then ((sc_F clr e i).1 + 1, if (sc_F clr e i).1 = 0 then i else (sc_F clr e i).2.1, i) else sc_F clr e i
theorem sc_0 {clr : Nat → Int32} {e : Nat} : ∀ i, i ≤ e + 1 → sc_F clr e i = (0, e, e)
  | 0, _ => rfl
  | i + 1, h => by
    show (if e < i ∧ clr i = nI e then _ else sc_F clr e i) = _
    rw [if_neg (by omega), sc_0 i (by omega)]
theorem sc_c {clr clr' : Nat → Int32} {e : Nat} : ∀ i, (∀ j, j < i → clr' j = clr j) → sc_F clr' e i = sc_F clr e i
  | 0, _ => rfl
  | i + 1, h => by
    show (if e < i ∧ clr' i = nI e then ((sc_F clr' e i).1 + 1, if (sc_F clr' e i).1 = 0 then i else (sc_F clr' e i).2.1, i) else sc_F clr' e i) = (if e < i ∧ clr i = nI e then ((sc_F clr e i).1 + 1, if (sc_F clr e i).1 = 0 then i else (sc_F clr e i).2.1, i) else sc_F clr e i)
    rw [sc_c i (fun j hj => h j (by omega)), h i (by omega)]
theorem sc_b {clr : Nat → Int32} {e : Nat} : ∀ i, (sc_F clr e i).1 ≤ i ∧ ((sc_F clr e i).2.1 < i ∨ (sc_F clr e i).2.1 = e) ∧ ((sc_F clr e i).2.2 < i ∨ (sc_F clr e i).2.2 = e)
  | 0 => ⟨Nat.le_refl _, Or.inr rfl, Or.inr rfl⟩
  | i + 1 => by
    have h := sc_b (clr := clr) (e := e) i
    show (if e < i ∧ clr i = nI e then ((sc_F clr e i).1 + 1, if (sc_F clr e i).1 = 0 then i else (sc_F clr e i).2.1, i) else sc_F clr e i).1 ≤ i + 1 ∧ ((if e < i ∧ clr i = nI e then ((sc_F clr e i).1 + 1, if (sc_F clr e i).1 = 0 then i else (sc_F clr e i).2.1, i) else sc_F clr e i).2.1 < i + 1 ∨ (if e < i ∧ clr i = nI e then ((sc_F clr e i).1 + 1, if (sc_F clr e i).1 = 0 then i else (sc_F clr e i).2.1, i) else sc_F clr e i).2.1 = e) ∧ ((if e < i ∧ clr i = nI e then ((sc_F clr e i).1 + 1, if (sc_F clr e i).1 = 0 then i else (sc_F clr e i).2.1, i) else sc_F clr e i).2.2 < i + 1 ∨ (if e < i ∧ clr i = nI e then ((sc_F clr e i).1 + 1, if (sc_F clr e i).1 = 0 then i else (sc_F clr e i).2.1, i) else sc_F clr e i).2.2 = e)
    rcases Classical.em (e < i ∧ clr i = nI e) with z | z
    · rw [if_pos z]
      refine ⟨by have := h.1; exact Nat.succ_le_succ this, ?_, Or.inl (Nat.lt_succ_self _)⟩
      show (if (sc_F clr e i).1 = 0 then i else (sc_F clr e i).2.1) < i + 1 ∨ (if (sc_F clr e i).1 = 0 then i else (sc_F clr e i).2.1) = e
      split
      · exact Or.inl (Nat.lt_succ_self _)
      · exact h.2.1.imp (fun q => by omega) id
    · rw [if_neg z]
      exact ⟨by omega, h.2.1.imp (fun q => by omega) id, h.2.2.imp (fun q => by omega) id⟩
section
variable {ml fl cnt ls sp md pk fnd ifd : Int32} {kd ka kb up ow o1 o2 yc ck p1 p2 yh fi fa ynd clr mrk vla evl ndd icl ecl mkr cvl al cis : Nat → Int32} {nf : Nat}
variable {op : Nat → Int32}
theorem yv_35 {post : SY → Prop} {B e : Nat} {x2 k x7 : Int32} (hB : B ≤ 240) (he : e < B)
    (K : wY_advance_85 post (nI e) x2 k (nI (sc_F clr e B).1) (nI (sc_F clr e B).2.1) (nI (sc_F clr e B).2.2) (if k = 2 then 0 else x7) ml fl cnt ls (nI B) md pk fnd ifd kd ka kb up ow o1 o2 yc ck p1 p2 yh fi fa ynd clr mrk vla evl ndd icl ecl mkr cvl al cis nf) :
    ∀ (d i : Nat), e < i → i ≤ B → B + 1 ≤ d + i → wY_advance_35 post (nI e) x2 k x7 ml fl cnt ls (nI B) md pk fnd ifd kd ka kb up ow o1 o2 yc ck p1 p2 yh fi fa ynd clr mrk vla evl ndd icl ecl mkr cvl al cis nf d (nI (sc_F clr e i).1) (nI (sc_F clr e i).2.1) (nI (sc_F clr e i).2.2) (nI i) := by
  intro d
  induction d with
  | zero => intro i h1 h2 hd; omega
  | succ d ih =>
    intro i h1 h2 hd
    refine pk_le B i (fun z => ?_) (fun z => ⟨pk_in i 240 (by omega), ?_⟩)
    · have e' : i = B := by omega
      subst e'
      rcases Classical.em (k = 2) with q | q
      · rw [if_pos q] at K
        exact br_t q K
      · rw [if_neg q] at K
        exact br_f q K
    · rw [nI_clamp (n := i) (by omega)]
      have I := ih (i + 1) (by omega) (by omega) (by omega)
      have bb := (sc_b (clr := clr) (e := e) i).1
      have eq : sc_F clr e (i + 1) = if e < i ∧ clr i = nI e then ((sc_F clr e i).1 + 1, if (sc_F clr e i).1 = 0 then i else (sc_F clr e i).2.1, i) else sc_F clr e i := rfl
      rcases Classical.em (clr i = nI e) with q | q
      · rw [eq, if_pos ⟨h1, q⟩] at I
        refine br_t q (pk_eq (sc_F clr e i).1 0 (fun w => nm_r (e' := nI ((sc_F clr e i).1 + 1)) (nI_1 _) (nm_r (e' := nI (i + 1)) (nI_1 i) ?_)) (fun w => nm_r (e' := nI ((sc_F clr e i).1 + 1)) (nI_1 _) (nm_r (e' := nI (i + 1)) (nI_1 i) ?_)) rfl rfl (by omega) (by omega))
        · have I2 := I
          rw [show (((sc_F clr e i).1 + 1, if (sc_F clr e i).1 = 0 then i else (sc_F clr e i).2.1, i) : Nat × Nat × Nat).2.1 = i from if_pos w] at I2
          exact I2
        · have I2 := I
          rw [show (((sc_F clr e i).1 + 1, if (sc_F clr e i).1 = 0 then i else (sc_F clr e i).2.1, i) : Nat × Nat × Nat).2.1 = (sc_F clr e i).2.1 from if_neg w] at I2
          exact I2
      · rw [eq, if_neg (fun w => q w.2)] at I
        exact br_f q (nm_r (e' := nI (i + 1)) (nI_1 i) I)
theorem yv_ad {post : SY → Prop} {N B e n : Nat} {v : Int32} (TT : tm_T N kd ka kb up op) (hB : B ≤ 240) (he : e < B) (hn : n < N) (en : ynd e = nI n) (ev : v = nI e)
    (K : wY_advance_85 post (nI e) (nI n) (kd n) (nI (sc_F clr e B).1) (nI (sc_F clr e B).2.1) (nI (sc_F clr e B).2.2) (if kd n = 2 then 0 else nI (tm_ar (kd n))) ml fl cnt ls (nI B) md pk fnd ifd kd ka kb up ow o1 o2 yc ck p1 p2 yh fi fa ynd clr mrk vla evl ndd icl ecl mkr cvl al cis nf) : wpY_advance post (ml, fl, cnt, ls, nI B, md, pk, fnd, ifd, kd, ka, kb, up, ow, o1, o2, yc, ck, p1, p2, yh, fi, fa, ynd, clr, mrk, vla, evl, ndd, icl, ecl, mkr, cvl, al, cis, nf) v := by
  subst ev
  have hN := TT.1
  unfold wpY_advance
  dsimp only
  rw [nI_clamp (n := e) (by omega), en]
  refine ⟨pk_in e 240 (by omega), nm_e ⟨pk_in n 32 (by omega), nm_r (e' := kd n) (by rw [nI_clamp (by omega)]) (ya_ar (TT.2.1 n hn) (nm_r (e' := nI (e + 1)) (nI_1 e) ⟨B + 1, ?_⟩))⟩⟩
  have := yv_35 (x2 := nI n) (k := kd n) (x7 := nI (tm_ar (kd n))) hB he K (B + 1) (e + 1) (by omega) (by omega) (by omega)
  rw [sc_0 (e + 1) (by omega)] at this
  exact this
/-- what the reference's run does behind a step of e -/
def yv_B (post : Int32 → SY → Prop) (J : Int32 → Int32 → Int32 → Int32 → Int32 → Int32 → Int32 → Int32 → Int32 → Int32 → (Nat → Int32) → (Nat → Int32) → (Nat → Int32) → (Nat → Int32) → (Nat → Int32) → (Nat → Int32) → (Nat → Int32) → (Nat → Int32) → (Nat → Int32) → (Nat → Int32) → (Nat → Int32) → (Nat → Int32) → (Nat → Int32) → (Nat → Int32) → (Nat → Int32) → (Nat → Int32) → (Nat → Int32) → (Nat → Int32) → (Nat → Int32) → (Nat → Int32) → (Nat → Int32) → (Nat → Int32) → (Nat → Int32) → (Nat → Int32) → (Nat → Int32) → (Nat → Int32) → Nat → Prop) (x1 x2 x3 : Int32) (ml fl cnt ls sp md pk fnd ifd : Int32) (kd ka kb up ow o1 o2 yc ck p1 p2 yh fi fa ynd clr mrk vla evl ndd icl ecl mkr cvl al cis : Nat → Int32) (nf : Nat) : Prop :=
  ((x1 = 1 → (vp_in x3 240 ∧ ((((ndd x3.toNatClampNeg) = 0 → (wY_run_175 post J x1 x2 ml fl cnt ls sp md pk fnd ifd kd ka kb up ow o1 o2 yc ck p1 p2 yh fi fa ynd clr mrk vla evl ndd icl ecl mkr cvl al cis nf)) ∧ (¬ (ndd x3.toNatClampNeg) = 0 → (vp_in x3 240 ∧ (∀ x4_88 : Int32, x4_88 = mrk x3.toNatClampNeg → (∃ n126 : Nat, wY_run_126 post J x1 x2 x3 ml fl cnt ls sp md pk fnd ifd nf n126 x4_88 kd ka kb up ow o1 o2 yc ck p1 p2 yh fi fa ynd clr mrk vla evl ndd icl ecl mkr cvl al cis)))))))) ∧ (¬ x1 = 1 → (wY_run_175 post J x1 x2 ml fl cnt ls sp md pk fnd ifd kd ka kb up ow o1 o2 yc ck p1 p2 yh fi fa ynd clr mrk vla evl ndd icl ecl mkr cvl al cis nf)))
theorem yv_go {post : Int32 → SY → Prop} {J : Int32 → Int32 → Int32 → Int32 → Int32 → Int32 → Int32 → Int32 → Int32 → Int32 → (Nat → Int32) → (Nat → Int32) → (Nat → Int32) → (Nat → Int32) → (Nat → Int32) → (Nat → Int32) → (Nat → Int32) → (Nat → Int32) → (Nat → Int32) → (Nat → Int32) → (Nat → Int32) → (Nat → Int32) → (Nat → Int32) → (Nat → Int32) → (Nat → Int32) → (Nat → Int32) → (Nat → Int32) → (Nat → Int32) → (Nat → Int32) → (Nat → Int32) → (Nat → Int32) → (Nat → Int32) → (Nat → Int32) → (Nat → Int32) → (Nat → Int32) → (Nat → Int32) → Nat → Prop} {x1 : Int32} {σ e : Nat} (he : e < 240) (h1 : ndd e = 0) (h0 : ndd 0 = 0) (K : J (nI (σ + 1)) ml fl cnt ls sp md pk fnd ifd kd ka kb up ow o1 o2 yc ck p1 p2 yh fi fa ynd clr mrk vla evl ndd icl ecl mkr cvl al cis nf) : yv_B post J x1 (nI σ) (nI e) ml fl cnt ls sp md pk fnd ifd kd ka kb up ow o1 o2 yc ck p1 p2 yh fi fa ynd clr mrk vla evl ndd icl ecl mkr cvl al cis nf := by
  have k : wY_run_175 post J x1 (nI σ) ml fl cnt ls sp md pk fnd ifd kd ka kb up ow o1 o2 yc ck p1 p2 yh fi fa ynd clr mrk vla evl ndd icl ecl mkr cvl al cis nf := br_t h0 (nm_r (e' := nI (σ + 1)) (nI_1 σ) K)
  exact br_c (fun _ => ⟨pk_in e 240 he, br_t (by rw [nI_clamp (by omega)]; exact h1) k⟩) (fun _ => k)
theorem yv_126 {post : Int32 → SY → Prop} {J : Int32 → Int32 → Int32 → Int32 → Int32 → Int32 → Int32 → Int32 → Int32 → Int32 → (Nat → Int32) → (Nat → Int32) → (Nat → Int32) → (Nat → Int32) → (Nat → Int32) → (Nat → Int32) → (Nat → Int32) → (Nat → Int32) → (Nat → Int32) → (Nat → Int32) → (Nat → Int32) → (Nat → Int32) → (Nat → Int32) → (Nat → Int32) → (Nat → Int32) → (Nat → Int32) → (Nat → Int32) → (Nat → Int32) → (Nat → Int32) → (Nat → Int32) → (Nat → Int32) → (Nat → Int32) → (Nat → Int32) → (Nat → Int32) → (Nat → Int32) → (Nat → Int32) → Nat → Prop} {x1 : Int32} {M mk e σ : Nat} {c : Nat → Nat} {al0 : Nat → Int32} (hM : M ≤ 240) (he : e < 240) (hmk : ∀ i, i < M → ∃ m, m < 32 ∧ mkr i = nI m) (L : ym_L c yc)
    (K : ∀ al', kl_S (fun i => mk ≤ i ∧ i < M ∧ yh (yc (mkr i).toNatClampNeg).toNatClampNeg = ynd e) al0 al' → wY_run_175 post J x1 (nI σ) ml fl cnt ls sp (nI M) pk fnd ifd kd ka kb up ow o1 o2 yc ck p1 p2 yh fi fa ynd clr mrk vla evl ndd icl ecl mkr cvl al' cis nf) :
    ∀ (d i : Nat) (al : Nat → Int32), kl_S (fun j => mk ≤ j ∧ j < i ∧ j < M ∧ yh (yc (mkr j).toNatClampNeg).toNatClampNeg = ynd e) al0 al → mk ≤ i → i ≤ M → M + 1 ≤ d + i →
      wY_run_126 post J x1 (nI σ) (nI e) ml fl cnt ls sp (nI M) pk fnd ifd nf d (nI i) kd ka kb up ow o1 o2 yc ck p1 p2 yh fi fa ynd clr mrk vla evl ndd icl ecl mkr cvl al cis := by
  intro d
  induction d with
  | zero => intro i al h1 h2 h3 hd; omega
  | succ d ih =>
    intro i al h1 h2 h3 hd
    refine pk_le M i (fun z => ?_) (fun z => ?_)
    · have e : i = M := by omega
      subst e
      exact K al (fun j => ⟨fun p => (h1 j).1 ⟨p.1, p.2.1, p.2.1, p.2.2⟩, fun p => (h1 j).2 fun q => p ⟨q.1, q.2.1, q.2.2.2⟩⟩)
    · obtain ⟨m, hm, em⟩ := hmk i z
      have Lm := L m (by omega)
      have c1 : (mkr i).toNatClampNeg = m := by rw [em]; exact nI_clamp (by omega)
      rw [nI_clamp (n := i) (by omega), nI_clamp (n := e) (by omega)]
      refine ⟨pk_in i 240 (by omega), pk_in m 96 (by omega) em, pk_in (c m) 96 Lm.1 (by rw [c1]; exact Lm.2.1), pk_in e 240 he, ?_⟩
      rcases Classical.em (yh (yc (mkr i).toNatClampNeg).toNatClampNeg = ynd e) with g | g
      · refine br_t g ⟨pk_in i 240 (by omega), nm_r (e' := upd al i 0) rfl (nm_r (e' := nI (i + 1)) (nI_1 i) ?_)⟩
        refine ih (i + 1) (upd al i 0) (fun j => ⟨fun p => ?_, fun p => ?_⟩) (by omega) (by omega) (by omega)
        · rcases Classical.em (j = i) with y | y
          · subst y; exact pk_us
          · rw [pk_un y]
            exact (h1 j).1 ⟨p.1, by omega, p.2.2⟩
        · rcases Classical.em (j = i) with y | y
          · subst y
            exact absurd ⟨h2, by omega, z, g⟩ p
          · rw [pk_un y]
            exact (h1 j).2 fun q => p ⟨q.1, by omega, q.2.2⟩
      · refine br_f g (nm_r (e' := nI (i + 1)) (nI_1 i) ?_)
        refine ih (i + 1) al (fun j => ⟨fun p => ?_, fun p => (h1 j).2 fun q => p ⟨q.1, by omega, q.2.2⟩⟩) (by omega) (by omega) (by omega)
        rcases Classical.em (j = i) with y | y
        · subst y
          exact absurd p.2.2.2 g
        · exact (h1 j).1 ⟨p.1, by omega, p.2.2⟩
theorem yv_en {post : Int32 → SY → Prop} {J : Int32 → Int32 → Int32 → Int32 → Int32 → Int32 → Int32 → Int32 → Int32 → Int32 → (Nat → Int32) → (Nat → Int32) → (Nat → Int32) → (Nat → Int32) → (Nat → Int32) → (Nat → Int32) → (Nat → Int32) → (Nat → Int32) → (Nat → Int32) → (Nat → Int32) → (Nat → Int32) → (Nat → Int32) → (Nat → Int32) → (Nat → Int32) → (Nat → Int32) → (Nat → Int32) → (Nat → Int32) → (Nat → Int32) → (Nat → Int32) → (Nat → Int32) → (Nat → Int32) → (Nat → Int32) → (Nat → Int32) → (Nat → Int32) → (Nat → Int32) → (Nat → Int32) → Nat → Prop} {x1 : Int32} {M mk e σ : Nat} {c : Nat → Nat} (hM : M ≤ 240) (he : e < 240) (hmk : ∀ i, i < M → ∃ m, m < 32 ∧ mkr i = nI m) (L : ym_L c yc) (h1 : ndd e = 1) (hmM : mk ≤ M) (em : mrk e = nI mk) (h0 : e = 0 ∨ ndd 0 = 0)
    (K : ∀ al' ls', kl_S (fun i => x1 = 1 ∧ mk ≤ i ∧ i < M ∧ yh (yc (mkr i).toNatClampNeg).toNatClampNeg = ynd e) al al' → (e = 0 → ls' = 0) → (e ≠ 0 → ls' = ls) → J (nI (σ + 1)) ml fl cnt ls' sp (nI M) pk fnd ifd kd ka kb up ow o1 o2 yc ck p1 p2 yh fi fa ynd clr mrk vla evl ndd icl ecl mkr cvl al' cis nf) : yv_B post J x1 (nI σ) (nI e) ml fl cnt ls sp (nI M) pk fnd ifd kd ka kb up ow o1 o2 yc ck p1 p2 yh fi fa ynd clr mrk vla evl ndd icl ecl mkr cvl al cis nf := by
  have k : ∀ al', kl_S (fun i => x1 = 1 ∧ mk ≤ i ∧ i < M ∧ yh (yc (mkr i).toNatClampNeg).toNatClampNeg = ynd e) al al' → wY_run_175 post J x1 (nI σ) ml fl cnt ls sp (nI M) pk fnd ifd kd ka kb up ow o1 o2 yc ck p1 p2 yh fi fa ynd clr mrk vla evl ndd icl ecl mkr cvl al' cis nf := by
    intro al' k
    rcases Classical.em (e = 0) with q | q
    · subst q
      exact br_f (by rw [h1]; decide) (nm_r (e' := nI (σ + 1)) (nI_1 σ) (K al' 0 k (fun _ => rfl) (fun z => absurd rfl z)))
    · exact br_t (h0.resolve_left q) (nm_r (e' := nI (σ + 1)) (nI_1 σ) (K al' ls k (fun z => absurd z q) (fun _ => rfl)))
  rcases Classical.em (x1 = 1) with z | z
  · refine br_t z ⟨pk_in e 240 he, ?_⟩
    rw [nI_clamp (n := e) (by omega)]
    refine br_f (by rw [h1]; decide) ⟨pk_in e 240 he, nm_r (e' := nI mk) em ⟨M + 1, yv_126 hM he hmk L (fun al' kk => k al' (fun i => ⟨fun p => (kk i).1 p.2, fun p => (kk i).2 fun q => p ⟨z, q⟩⟩)) (M + 1) mk al (kl_n fun i p => absurd p.2.1 (by omega)) (by omega) hmM (by omega)⟩⟩
  · exact br_f z (k al (kl_n fun i p => z p.1))
theorem yv_71 {post : Int32 → SY → Prop} {J : Int32 → Int32 → Int32 → Int32 → Int32 → Int32 → Int32 → Int32 → Int32 → Int32 → (Nat → Int32) → (Nat → Int32) → (Nat → Int32) → (Nat → Int32) → (Nat → Int32) → (Nat → Int32) → (Nat → Int32) → (Nat → Int32) → (Nat → Int32) → (Nat → Int32) → (Nat → Int32) → (Nat → Int32) → (Nat → Int32) → (Nat → Int32) → (Nat → Int32) → (Nat → Int32) → (Nat → Int32) → (Nat → Int32) → (Nat → Int32) → (Nat → Int32) → (Nat → Int32) → (Nat → Int32) → (Nat → Int32) → (Nat → Int32) → (Nat → Int32) → (Nat → Int32) → Nat → Prop} {x1 x2 : Int32} {B e : Nat} (hB : B ≤ 240) (he : e < B) (h0 : ndd e = 0) (h1 : ∀ i, e < i → i < B → ndd i = 1)
    (K : wpY_advance (fun u => match u with | (ml', fl', cnt', ls', sp', md', pk', fnd', ifd', kd', ka', kb', up', ow', o1', o2', yc', ck', p1', p2', yh', fi', fa', ynd', clr', mrk', vla', evl', ndd', icl', ecl', mkr', cvl', al', cis', nf') => yv_B post J x1 x2 (nI e) ml' fl' cnt' ls' sp' md' pk' fnd' ifd' kd' ka' kb' up' ow' o1' o2' yc' ck' p1' p2' yh' fi' fa' ynd' clr' mrk' vla' evl' ndd' icl' ecl' mkr' cvl' al' cis' nf') (ml, fl, cnt, ls, nI B, md, pk, fnd, ifd, kd, ka, kb, up, ow, o1, o2, yc, ck, p1, p2, yh, fi, fa, ynd, clr, mrk, vla, evl, ndd, icl, ecl, mkr, cvl, al, cis, nf) (nI e)) :
    ∀ (d i x : Nat), (i ≤ e ∨ x = e) → i ≤ B → B + 1 ≤ d + i → wY_run_71 post J x1 x2 ml fl cnt ls (nI B) md pk fnd ifd kd ka kb up ow o1 o2 yc ck p1 p2 yh fi fa ynd clr mrk vla evl ndd icl ecl mkr cvl al cis nf d (nI x) (nI i) := by
  intro d
  induction d with
  | zero => intro i x h2 h3 hd; omega
  | succ d ih =>
    intro i x h2 h3 hd
    refine pk_le B i (fun z => ?_) (fun z => ⟨pk_in i 240 (by omega), ?_⟩)
    · have e' := h2.resolve_left (by omega)
      subst e'
      exact K
    · rw [nI_clamp (n := i) (by omega)]
      rcases Nat.lt_trichotomy i e with w | w | w
      · exact br_c (fun _ => nm_r (e' := nI (i + 1)) (nI_1 i) (ih (i + 1) i (Or.inl (by omega)) (by omega) (by omega))) (fun _ => nm_r (e' := nI (i + 1)) (nI_1 i) (ih (i + 1) x (Or.inl (by omega)) (by omega) (by omega)))
      · subst w
        exact br_t h0 (nm_r (e' := nI (i + 1)) (nI_1 i) (ih (i + 1) i (Or.inr rfl) (by omega) (by omega)))
      · exact br_f (by rw [h1 i w z]; decide) (nm_r (e' := nI (i + 1)) (nI_1 i) (ih (i + 1) x (Or.inr (h2.resolve_left (by omega))) (by omega) (by omega)))
end
end
section
section
variable {ml fl cnt ls sp md pk fnd ifd : Int32} {kd ka kb up ow o1 o2 yc ck p1 p2 yh fi fa ynd clr mrk vla evl ndd icl ecl mkr cvl al cis : Nat → Int32} {nf : Nat}
variable {op : Nat → Int32}
/-- the row of B is written with g1, g2; the rows below stay -/
def rw_S (B : Nat) (evl ecl : Nat → Int32) (g1 g2 : Nat → Int32) (evl' ecl' : Nat → Int32) : Prop := (∀ i, i < 8 → evl' (B * 8 + i) = g1 i ∧ ecl' (B * 8 + i) = g2 i) ∧ (∀ j, j < B * 8 ∨ B * 8 + 8 ≤ j → evl' j = evl j ∧ ecl' j = ecl j)
def rw_f (B : Nat) (f g : Nat → Int32) : Nat → Int32 := fun j => if B * 8 ≤ j ∧ j < B * 8 + 8 then g (j - B * 8) else f j
theorem rw_u {B : Nat} {evl ecl g1 g2 evl' ecl' : Nat → Int32} (h : rw_S B evl ecl g1 g2 evl' ecl') : evl' = rw_f B evl g1 ∧ ecl' = rw_f B ecl g2 := by
  constructor
  · funext j
    unfold rw_f
    rcases Classical.em (B * 8 ≤ j ∧ j < B * 8 + 8) with z | z
    · rw [if_pos z]
      have := (h.1 (j - B * 8) (by omega)).1
      rw [show B * 8 + (j - B * 8) = j by omega] at this
      exact this
    · rw [if_neg z]
      exact (h.2 j (by omega)).1
  · funext j
    unfold rw_f
    rcases Classical.em (B * 8 ≤ j ∧ j < B * 8 + 8) with z | z
    · rw [if_pos z]
      have := (h.1 (j - B * 8) (by omega)).2
      rw [show B * 8 + (j - B * 8) = j by omega] at this
      exact this
    · rw [if_neg z]
      exact (h.2 j (by omega)).2
theorem rw_i {B : Nat} {evl ecl g1 g2 : Nat → Int32} : rw_S B evl ecl g1 g2 (rw_f B evl g1) (rw_f B ecl g2) := by
  refine ⟨fun i hi => ?_, fun j hj => ?_⟩
  · unfold rw_f
    rw [if_pos (by omega), if_pos (by omega), show B * 8 + i - B * 8 = i by omega]
    exact ⟨rfl, rfl⟩
  · unfold rw_f
    rw [if_neg (by omega), if_neg (by omega)]
    exact ⟨rfl, rfl⟩
theorem yb_62 {post : SY → Prop} {B : Nat} {by' : Int32} {g1 g2 : Nat → Int32} (hB : B < 240) (hby : (by' = -1 ∧ (∀ i, i < 8 → g1 i = 0 ∧ g2 i = 0)) ∨ ∃ e, e < B ∧ by' = nI e ∧ ∀ i, i < 8 → g1 i = evl (e * 8 + i) ∧ g2 i = ecl (e * 8 + i) ∧ (ecl (e * 8 + i) = 0 ∨ ecl (e * 8 + i) = 1))
    (K : ∀ evl' ecl', rw_S B evl ecl g1 g2 evl' ecl' → post (ml, fl, cnt, ls, nI (B + 1), md, pk, fnd, ifd, kd, ka, kb, up, ow, o1, o2, yc, ck, p1, p2, yh, fi, fa, ynd, clr, mrk, vla, evl', ndd, icl, ecl', mkr, cvl, al, cis, nf)) :
    ∀ (d i : Nat) (evl2 ecl2 : Nat → Int32), (∀ j, j < i → evl2 (B * 8 + j) = g1 j ∧ ecl2 (B * 8 + j) = g2 j) → (∀ j, j < B * 8 ∨ B * 8 + 8 ≤ j → evl2 j = evl j ∧ ecl2 j = ecl j) → i ≤ 8 → 9 ≤ d + i →
      wY_begin_62 post by' ml fl cnt ls (nI B) md pk fnd ifd nf d (nI i) kd ka kb up ow o1 o2 yc ck p1 p2 yh fi fa ynd clr mrk vla evl2 ndd icl ecl2 mkr cvl al cis := by
  intro d
  induction d with
  | zero => intro i e1 e2 h1 h2 hi hd; omega
  | succ d ih =>
    intro i e1 e2 h1 h2 hi hd
    refine pk_le 8 i (fun z => nm_r (e' := nI (B + 1)) (nI_1 B) ?_) (fun z => ?_)
    · have e : i = 8 := by omega
      subst e
      exact K e1 e2 ⟨h1, h2⟩
    · have eb : nI B * 8 + nI i = nI (B * 8 + i) := by rw [show nI B * 8 = nI (B * 8) from pk_mul B 8, nI_add]
      have vb : vp_in (nI (B * 8 + i)) 1920 := pk_in (B * 8 + i) 1920 (by omega)
      have cb : (nI (B * 8 + i)).toNatClampNeg = B * 8 + i := nI_clamp (by omega)
      have nxt : ∀ a b : Int32, a = g1 i → b = g2 i → wY_begin_62 post by' ml fl cnt ls (nI B) md pk fnd ifd nf d (nI (i + 1)) kd ka kb up ow o1 o2 yc ck p1 p2 yh fi fa ynd clr mrk vla (upd e1 (B * 8 + i) a) ndd icl (upd e2 (B * 8 + i) b) mkr cvl al cis := by
        intro a b ea eb2
        refine ih (i + 1) _ _ (fun j hj => ?_) (fun j hj => ?_) (by omega) (by omega)
        · rcases Classical.em (j = i) with y | y
          · subst y
            rw [pk_us, pk_us]
            exact ⟨ea, eb2⟩
          · rw [pk_un (by omega), pk_un (by omega)]
            exact h1 j (by omega)
        · rw [pk_un (by omega), pk_un (by omega)]
          exact h2 j hj
      rcases hby with ⟨rfl, hg⟩ | ⟨e, he, rfl, hg⟩
      · refine br_f (by decide) ?_
        rw [eb]
        refine ⟨vb, nm_r (e' := upd e1 (B * 8 + i) 0) (by rw [cb]) (br_t (by decide) ?_)⟩
        rw [eb, cb]
        exact ⟨vb, nm_r (e' := upd e2 (B * 8 + i) 0) rfl (nm_r (e' := nI (i + 1)) (nI_1 i) (nxt 0 0 (hg i z).1.symm (hg i z).2.symm))⟩
      · have ee : nI e * 8 + nI i = nI (e * 8 + i) := by rw [show nI e * 8 = nI (e * 8) from pk_mul e 8, nI_add]
        have ve : vp_in (nI (e * 8 + i)) 1920 := pk_in (e * 8 + i) 1920 (by omega)
        have ce : (nI (e * 8 + i)).toNatClampNeg = e * 8 + i := nI_clamp (by omega)
        have h2e := h2 (e * 8 + i) (by omega)
        obtain ⟨g1e, g2e, g01⟩ := hg i z
        refine br_t (nI_pos' (by omega)) ?_
        rw [ee, eb, ce, h2e.1]
        refine ⟨ve, vb, nm_r (e' := upd e1 (B * 8 + i) (g1 i)) (by rw [cb, g1e]) (br_f (nI_pos (by omega)) ?_)⟩
        rw [ee, ce, eb, cb, h2e.2]
        refine ⟨ve, ?_⟩
        rcases g01 with q | q
        · exact br_t q ⟨vb, nm_r (e' := upd e2 (B * 8 + i) 0) rfl (nm_r (e' := nI (i + 1)) (nI_1 i) (nxt _ 0 rfl (by rw [g2e, q])))⟩
        · exact br_f (by rw [q]; decide) ⟨vb, nm_r (e' := upd e2 (B * 8 + i) 1) rfl (nm_r (e' := nI (i + 1)) (nI_1 i) (nxt _ 1 rfl (by rw [g2e, q])))⟩
theorem yb_be {post : SY → Prop} {B F : Nat} {p0 by' : Int32} {g1 g2 : Nat → Int32} (hB : B ≤ F) (hF : F ≤ 240) (hby : (by' = -1 ∧ (∀ i, i < 8 → g1 i = 0 ∧ g2 i = 0)) ∨ ∃ e, e < B ∧ by' = nI e ∧ ∀ i, i < 8 → g1 i = evl (e * 8 + i) ∧ g2 i = ecl (e * 8 + i) ∧ (ecl (e * 8 + i) = 0 ∨ ecl (e * 8 + i) = 1))
    (K1 : B < F → ∀ evl' ecl', rw_S B evl ecl g1 g2 evl' ecl' → post (ml, nI F, cnt, ls, nI (B + 1), md, pk, fnd, ifd, kd, ka, kb, up, ow, o1, o2, yc, ck, p1, p2, yh, fi, fa, upd ynd B p0, upd clr B by', upd mrk B md, vla, evl', upd ndd B 0, icl, ecl', mkr, cvl, al, cis, nf))
    (K0 : ¬ B < F → post (ml, nI F, cnt, 1, nI B, md, pk, fnd, ifd, kd, ka, kb, up, ow, o1, o2, yc, ck, p1, p2, yh, fi, fa, ynd, clr, mrk, vla, evl, ndd, icl, ecl, mkr, cvl, al, cis, nf)) : wpY_begin post (ml, nI F, cnt, ls, nI B, md, pk, fnd, ifd, kd, ka, kb, up, ow, o1, o2, yc, ck, p1, p2, yh, fi, fa, ynd, clr, mrk, vla, evl, ndd, icl, ecl, mkr, cvl, al, cis, nf) p0 by' := by
  refine pk_lt B F (fun z => ?_) (fun z => K0 (by omega))
  have c : (nI B).toNatClampNeg = B := nI_clamp (by omega)
  have v : vp_in (nI B) 240 := pk_in B 240 (by omega)
  refine ⟨v, nm_r (e' := upd ynd B p0) (by rw [c]) ⟨v, nm_r (e' := upd clr B by') (by rw [c]) ⟨v, nm_r (e' := upd mrk B md) (by rw [c]) ⟨v, nm_r (e' := upd ndd B 0) (by rw [c]; rfl) ⟨9, ?_⟩⟩⟩⟩⟩
  exact yb_62 (by omega) hby (fun evl' ecl' R => K1 z evl' ecl' R) 9 0 evl ecl (fun j hj => absurd hj (by omega)) (fun j _ => ⟨rfl, rfl⟩) (by omega) (by omega)
theorem nar_b {b : Int32} (h : b = 0 ∨ b = 1) : vp_nar .boolean b = b := by
  rcases h with rfl | rfl
  · rfl
  · rfl
/-- the row of a body: the parameter hides the self name -/
def cr_g (a b : Int32) (x y : Int32) (g : Nat → Int32) (i : Nat) : Int32 := if nI i = b then y else if nI i = a then x else g i
theorem yc_42 {post : SY → Prop} {B f x c m : Nat} {k : Int32} (hB : B < 240) (hf : f < 240) (hx : x < 240) (hc : c < 240) (hm : m < 32) (eL : ls = -1)
    (hfx : (icl f = 0 ∨ icl f = 1) ∧ (icl x = 0 ∨ icl x = 1) ∧ ∀ i, i < 8 → cis (c * 8 + i) = 0 ∨ cis (c * 8 + i) = 1)
    (K : ∀ evl' ecl', rw_S B evl ecl (cr_g (ka m) (kb m) (vla f) (vla x) (fun i => cvl (c * 8 + i))) (cr_g (ka m) (kb m) (icl f) (icl x) (fun i => cis (c * 8 + i))) evl' ecl' → post (ml, fl, cnt, ls, sp, md, pk, fnd, ifd, kd, ka, kb, up, ow, o1, o2, yc, ck, p1, p2, yh, fi, fa, ynd, clr, mrk, vla, evl', ndd, icl, ecl', mkr, cvl, al, cis, nf)) :
    ∀ (d i : Nat) (evl2 ecl2 : Nat → Int32), (∀ j, j < i → evl2 (B * 8 + j) = cr_g (ka m) (kb m) (vla f) (vla x) (fun i => cvl (c * 8 + i)) j ∧ ecl2 (B * 8 + j) = cr_g (ka m) (kb m) (icl f) (icl x) (fun i => cis (c * 8 + i)) j) → (∀ j, j < B * 8 ∨ B * 8 + 8 ≤ j → evl2 j = evl j ∧ ecl2 j = ecl j) → i ≤ 8 → 9 ≤ d + i →
      wY_call_42 post (nI f) (nI x) (nI c) (nI m) (nI B) ml fl cnt ls sp md pk fnd ifd nf d (nI i) kd ka kb up ow o1 o2 yc ck p1 p2 yh fi fa ynd clr mrk vla evl2 ndd icl ecl2 mkr cvl al cis := by
  intro d
  induction d with
  | zero => intro i e1 e2 h1 h2 hi hd; omega
  | succ d ih =>
    intro i e1 e2 h1 h2 hi hd
    refine pk_le 8 i (fun z => ?_) (fun z => br_t eL ⟨pk_in m 32 hm, ?_⟩)
    · have e : i = 8 := by omega
      subst e
      exact K e1 e2 ⟨h1, h2⟩
    · have eb : nI B * 8 + nI i = nI (B * 8 + i) := by rw [show nI B * 8 = nI (B * 8) from pk_mul B 8, nI_add]
      have ec : nI c * 8 + nI i = nI (c * 8 + i) := by rw [show nI c * 8 = nI (c * 8) from pk_mul c 8, nI_add]
      have vb : vp_in (nI (B * 8 + i)) 1920 := pk_in (B * 8 + i) 1920 (by omega)
      have vc : vp_in (nI (c * 8 + i)) 1920 := pk_in (c * 8 + i) 1920 (by omega)
      have cb : (nI (B * 8 + i)).toNatClampNeg = B * 8 + i := nI_clamp (by omega)
      have cc : (nI (c * 8 + i)).toNatClampNeg = c * 8 + i := nI_clamp (by omega)
      have cf : (nI f).toNatClampNeg = f := nI_clamp (by omega)
      have cx : (nI x).toNatClampNeg = x := nI_clamp (by omega)
      have cm : (nI m).toNatClampNeg = m := nI_clamp (by omega)
      have nxt : ∀ a b : Int32, a = cr_g (ka m) (kb m) (vla f) (vla x) (fun i => cvl (c * 8 + i)) i → b = cr_g (ka m) (kb m) (icl f) (icl x) (fun i => cis (c * 8 + i)) i → wY_call_42 post (nI f) (nI x) (nI c) (nI m) (nI B) ml fl cnt ls sp md pk fnd ifd nf d (nI (i + 1)) kd ka kb up ow o1 o2 yc ck p1 p2 yh fi fa ynd clr mrk vla (upd e1 (B * 8 + i) a) ndd icl (upd e2 (B * 8 + i) b) mkr cvl al cis := by
        intro a b ea eb2
        refine ih (i + 1) _ _ (fun j hj => ?_) (fun j hj => ?_) (by omega) (by omega)
        · rcases Classical.em (j = i) with y | y
          · subst y
            rw [pk_us, pk_us]
            exact ⟨ea, eb2⟩
          · rw [pk_un (by omega), pk_un (by omega)]
            exact h1 j (by omega)
        · rw [pk_un (by omega), pk_un (by omega)]
          exact h2 j hj
      rw [cm]
      rcases Classical.em (nI i = kb m) with q | q
      · have s74 : ∀ z, wY_call_93 post (wY_call_42 post (nI f) (nI x) (nI c) (nI m) (nI B) ml fl cnt ls sp md pk fnd ifd nf d) (nI f) (nI x) (nI c) (nI m) (nI B) (nI i) 1 z ml fl cnt ls sp md pk fnd ifd kd ka kb up ow o1 o2 yc ck p1 p2 yh fi fa ynd clr mrk vla e1 ndd icl e2 mkr cvl al cis nf := by
          intro z'
          refine br_f (by decide) ⟨pk_in x 240 hx, ?_⟩
          rw [eb, cx]
          refine ⟨vb, nm_r (e' := upd e1 (B * 8 + i) (vla x)) (by rw [cb]) (br_f (by decide) ⟨pk_in x 240 hx, ?_⟩)⟩
          rw [eb, cb, cx, nar_b hfx.2.1]
          exact ⟨vb, nm_e (nm_r (e' := nI (i + 1)) (nI_1 i) (nxt _ _ (by unfold cr_g; rw [if_pos q]) (by unfold cr_g; rw [if_pos q])))⟩
        refine br_t q ⟨pk_in m 32 hm, ?_⟩
        exact br_c (fun _ => s74 1) (fun _ => s74 0)
      · refine br_f q ⟨pk_in m 32 hm, ?_⟩
        rw [cm]
        rcases Classical.em (nI i = ka m) with w | w
        · refine br_t w (br_t rfl (br_f (by decide) ⟨pk_in f 240 hf, ?_⟩))
          rw [eb, cf]
          refine ⟨vb, nm_r (e' := upd e1 (B * 8 + i) (vla f)) (by rw [cb]) (br_t rfl (br_f (by decide) ⟨pk_in f 240 hf, ?_⟩))⟩
          rw [eb, cb, cf, nar_b hfx.1]
          exact ⟨vb, nm_e (nm_r (e' := nI (i + 1)) (nI_1 i) (nxt _ _ (by unfold cr_g; rw [if_neg q, if_pos w]) (by unfold cr_g; rw [if_neg q, if_pos w])))⟩
        · refine br_f w (br_t rfl (br_t rfl ?_))
          rw [ec, cc, eb]
          refine ⟨vc, vb, nm_r (e' := upd e1 (B * 8 + i) (cvl (c * 8 + i))) (by rw [cb]) (br_t rfl (br_t rfl ?_))⟩
          rw [ec, cc, eb, cb, nar_b (hfx.2.2 i z)]
          exact ⟨vc, vb, nm_e (nm_r (e' := nI (i + 1)) (nI_1 i) (nxt _ _ (by unfold cr_g; rw [if_neg q, if_neg w]) (by unfold cr_g; rw [if_neg q, if_neg w])))⟩
theorem yc_ca {post : SY → Prop} {N B F e f x c m : Nat} (TT : tm_T N kd ka kb up op) (hB : B ≤ F) (hF : F ≤ 240) (he : e < B) (hf : f < 240) (hx : x < 240) (hc : c < 240) (hm : m < N) (k2 : kd m = 2) (eL : ls = -1) (ef : vla f = nI c) (em : mkr c = nI m) (h01 : ∀ i, i < 8 → ecl (e * 8 + i) = 0 ∨ ecl (e * 8 + i) = 1)
    (hfx : (icl f = 0 ∨ icl f = 1) ∧ (icl x = 0 ∨ icl x = 1) ∧ ∀ i, i < 8 → cis (c * 8 + i) = 0 ∨ cis (c * 8 + i) = 1)
    (K1 : B < F → ∀ evl' ecl', rw_S B evl ecl (cr_g (ka m) (kb m) (vla f) (vla x) (fun i => cvl (c * 8 + i))) (cr_g (ka m) (kb m) (icl f) (icl x) (fun i => cis (c * 8 + i))) evl' ecl' → post (ml, nI F, cnt, ls, nI (B + 1), md, pk, fnd, ifd, kd, ka, kb, up, ow, o1, o2, yc, ck, p1, p2, yh, fi, fa, upd ynd B (nI (tm_c op m 0)), upd clr B (nI e), upd mrk B md, vla, evl', upd ndd B 0, icl, ecl', mkr, cvl, al, cis, nf))
    (K0 : ¬ B < F → post (ml, nI F, cnt, 1, nI B, md, pk, fnd, ifd, kd, ka, kb, up, ow, o1, o2, yc, ck, p1, p2, yh, fi, fa, ynd, clr, mrk, vla, evl, ndd, icl, ecl, mkr, cvl, al, cis, nf)) : wpY_call post (ml, nI F, cnt, ls, nI B, md, pk, fnd, ifd, kd, ka, kb, up, ow, o1, o2, yc, ck, p1, p2, yh, fi, fa, ynd, clr, mrk, vla, evl, ndd, icl, ecl, mkr, cvl, al, cis, nf) (nI e) (nI f) (nI x) := by
  have hN := TT.1
  unfold wpY_call
  dsimp only
  rw [nI_clamp (n := f) (by omega), ef]
  refine ⟨pk_in f 240 hf, nm_e ⟨pk_in c 240 hc, nm_r (e' := nI m) (by rw [nI_clamp (by omega)]; exact em) ?_⟩⟩
  refine yo_op (i := 0) TT hm (by decide) rfl rfl ?_
  rw [yo_1 (by rw [ar_2 k2]; omega)]
  refine yb_be (g1 := fun i => evl (e * 8 + i)) (g2 := fun i => ecl (e * 8 + i)) hB hF (Or.inr ⟨e, he, rfl, fun i hi => ⟨rfl, rfl, h01 i hi⟩⟩) (fun z evl' ecl' R => ⟨9, ?_⟩) (fun z => ⟨9, ?_⟩)
  · exact yc_42 (k := 0) (by omega) hf hx hc (by omega) eL hfx (fun evl2 ecl2 R2 => K1 z evl2 ecl2 ⟨R2.1, fun j hj => ⟨(R2.2 j hj).1.trans (R.2 j hj).1, (R2.2 j hj).2.trans (R.2 j hj).2⟩⟩) 9 0 evl' ecl' (fun j hj => absurd hj (by omega)) (fun j _ => ⟨rfl, rfl⟩) (by omega) (by omega)
  · exact br_f (by decide) (br_f (show ¬ (1 : Int32) = -1 by decide) (K0 z))
/-- the loop that fills a new cell -/
theorem yk_446 {post : SY → Prop} {M e fi0 la0 : Nat} {x2 k : Int32} {g1 g2 : Nat → Int32} (hM : M < 240) (he : e < 240) (hfi : fi0 < 240) (hla : la0 < 240) (h01 : ∀ c, c < M → al c = 0 ∨ al c = 1)
    (hg : (k = 4 ∧ (∀ i, i < 8 → g1 i = vla (if i = 0 then fi0 else la0) ∧ g2 i = icl (if i = 0 then fi0 else la0) ∧ (g2 i = 0 ∨ g2 i = 1))) ∨ (k ≠ 4 ∧ ∀ i, i < 8 → g1 i = evl (e * 8 + i) ∧ g2 i = ecl (e * 8 + i) ∧ (g2 i = 0 ∨ g2 i = 1)))
    (K : ∀ cvl' cis' pk', rw_S M cvl cis g1 g2 cvl' cis' → (nI (cn (fun c => al c = 1) M + 1) ≤ pk → pk' = pk) → (¬ nI (cn (fun c => al c = 1) M + 1) ≤ pk → pk' = nI (cn (fun c => al c = 1) M + 1)) → post (ml, fl, cnt, ls, sp, nI (M + 1), pk', fnd, ifd, kd, ka, kb, up, ow, o1, o2, yc, ck, p1, p2, yh, fi, fa, ynd, clr, mrk, upd vla e (nI M), evl, ndd, upd icl e 1, ecl, upd mkr M x2, cvl', upd al M 1, cis', nf)) :
    ∀ (d i : Nat) (cvl2 cis2 : Nat → Int32), (∀ j, j < i → cvl2 (M * 8 + j) = g1 j ∧ cis2 (M * 8 + j) = g2 j) → (∀ j, j < M * 8 ∨ M * 8 + 8 ≤ j → cvl2 j = cvl j ∧ cis2 j = cis j) → i ≤ 8 → 9 ≤ d + i →
      wY_advance_446 post (nI e) x2 k (nI fi0) (nI la0) ml fl cnt ls sp (nI M) pk fnd ifd nf d (nI i) kd ka kb up ow o1 o2 yc ck p1 p2 yh fi fa ynd clr mrk vla evl ndd icl ecl mkr cvl2 al cis2 := by
  intro d
  induction d with
  | zero => intro i e1 e2 h1 h2 hi hd; omega
  | succ d ih =>
    intro i e1 e2 h1 h2 hi hd
    have cM : (nI M).toNatClampNeg = M := nI_clamp (by omega)
    have ce : (nI e).toNatClampNeg = e := nI_clamp (by omega)
    refine pk_le 8 i (fun z => ?_) (fun z => ?_)
    · have e' : i = 8 := by omega
      subst e'
      have hl : cn (fun c => upd al M 1 c = 1) (M + 1) = cn (fun c => al c = 1) M + 1 := by
        show cn (fun c => upd al M 1 c = 1) M + b01 (upd al M 1 M = 1) = _
        rw [b01_t pk_us]
        exact congrArg (· + 1) (cn_eq fun c hc => by rw [pk_un (by omega)])
      refine ⟨pk_in e 240 he, nm_r (e' := upd vla e (nI M)) (by rw [ce]) ⟨pk_in e 240 he, nm_r (e' := upd icl e 1) (by rw [ce]; rfl) ⟨pk_in M 240 hM, nm_r (e' := upd mkr M x2) (by rw [cM]) ⟨pk_in M 240 hM, nm_r (e' := upd al M 1) (by rw [cM]; rfl) (nm_r (e' := nI (M + 1)) (nI_1 M) ?_)⟩⟩⟩⟩
      refine yd_h (M := M + 1) (by omega) (fun c hc => ?_) ?_
      · rcases Classical.em (c = M) with y | y
        · subst y; exact Or.inr pk_us
        · rw [pk_un y]; exact h01 c (by omega)
      · rw [hl]
        exact br_c (fun z => K e1 e2 pk ⟨h1, h2⟩ (fun _ => rfl) (fun w => absurd z w)) (fun z => K e1 e2 _ ⟨h1, h2⟩ (fun w => absurd w z) (fun _ => rfl))
    · have eM : nI M * 8 + nI i = nI (M * 8 + i) := by rw [show nI M * 8 = nI (M * 8) from pk_mul M 8, nI_add]
      have ee : nI e * 8 + nI i = nI (e * 8 + i) := by rw [show nI e * 8 = nI (e * 8) from pk_mul e 8, nI_add]
      have vM : vp_in (nI (M * 8 + i)) 1920 := pk_in (M * 8 + i) 1920 (by omega)
      have ve : vp_in (nI (e * 8 + i)) 1920 := pk_in (e * 8 + i) 1920 (by omega)
      have cMi : (nI (M * 8 + i)).toNatClampNeg = M * 8 + i := nI_clamp (by omega)
      have cei : (nI (e * 8 + i)).toNatClampNeg = e * 8 + i := nI_clamp (by omega)
      have nxt : wY_advance_446 post (nI e) x2 k (nI fi0) (nI la0) ml fl cnt ls sp (nI M) pk fnd ifd nf d (nI (i + 1)) kd ka kb up ow o1 o2 yc ck p1 p2 yh fi fa ynd clr mrk vla evl ndd icl ecl mkr (upd e1 (M * 8 + i) (g1 i)) al (upd e2 (M * 8 + i) (g2 i)) := by
        refine ih (i + 1) _ _ (fun j hj => ?_) (fun j hj => ?_) (by omega) (by omega)
        · rcases Classical.em (j = i) with y | y
          · subst y
            rw [pk_us, pk_us]
            exact ⟨rfl, rfl⟩
          · rw [pk_un (by omega), pk_un (by omega)]
            exact h1 j (by omega)
        · rw [pk_un (by omega), pk_un (by omega)]
          exact h2 j hj
      have s465 : ∀ z0, (k = 4 → ∃ q, q < 240 ∧ z0 = nI q ∧ g1 i = vla q ∧ g2 i = icl q ∧ (g2 i = 0 ∨ g2 i = 1)) → wY_advance_465 post (wY_advance_446 post (nI e) x2 k (nI fi0) (nI la0) ml fl cnt ls sp (nI M) pk fnd ifd nf d) (nI e) x2 k (nI fi0) (nI la0) (nI i) z0 ml fl cnt ls sp (nI M) pk fnd ifd kd ka kb up ow o1 o2 yc ck p1 p2 yh fi fa ynd clr mrk vla evl ndd icl ecl mkr e1 al e2 nf := by
        intro z0 hz
        unfold wY_advance_465 wY_advance_508
        rw [eM, ee, cMi, cei]
        rcases hg with ⟨k4, -⟩ | ⟨k4, hg⟩
        · obtain ⟨q, hq, rfl, q1, q2, q3⟩ := hz k4
          rw [nI_clamp (n := q) (by omega), ← q1, ← q2, nar_b q3]
          exact br_t k4 ⟨pk_in q 240 hq, vM, nm_e (br_t k4 ⟨pk_in q 240 hq, vM, nm_e (nm_r (e' := nI (i + 1)) (nI_1 i) nxt)⟩)⟩
        · obtain ⟨q1, q2, q3⟩ := hg i z
          rw [← q1, ← q2, nar_b q3]
          exact br_f k4 ⟨ve, vM, nm_e (br_f k4 ⟨ve, vM, nm_e (nm_r (e' := nI (i + 1)) (nI_1 i) nxt)⟩)⟩
      rcases Classical.em (i = 0) with y | y
      · subst y
        refine br_t rfl (s465 _ fun k4 => ?_)
        rcases hg with ⟨-, hg⟩ | ⟨k4', -⟩
        · have := hg 0 (by omega)
          rw [if_pos rfl] at this
          exact ⟨fi0, hfi, rfl, this⟩
        · exact absurd k4 k4'
      · refine br_f (fun w => y ((nI_eq (b := 0) (by omega) (by omega)).mp w)) (s465 _ fun k4 => ?_)
        rcases hg with ⟨-, hg⟩ | ⟨k4', -⟩
        · have := hg i z
          rw [if_neg y] at this
          exact ⟨la0, hla, rfl, this⟩
        · exact absurd k4 k4'
end
end
section
/-! the run: what the two machines have in common at the head of a step -/
section
variable {N M M' E E' : Nat} {kd ka kb up op sh mkr mkr' g1 g2 : Nat → Int32} {r : Nat → Nat} {G G' : Nat → Nat → Int64}
/-- the value (v, b) has the type of slot s -/
def ty_V (N M : Nat) (kd op : Nat → Int32) (r : Nat → Nat) (mkr : Nat → Int32) (v b : Int32) (s : Nat) : Prop :=
  (b = 0 ∧ ∃ n t p q, n < N ∧ fo_n kd op n t 1 p q ∧ r t = r s) ∨ (b = 1 ∧ ∃ c m, c < M ∧ v = nI c ∧ mkr c = nI m ∧ m < N ∧ r (3 * m) = r s)
theorem ty_m {v b : Int32} {s : Nat} (h : ty_V N M kd op r mkr v b s) (hM : M ≤ M') (hm : ∀ c, c < M → mkr' c = mkr c) : ty_V N M' kd op r mkr' v b s := by
  rcases h with h | ⟨h1, c, m, h2, h3, h4, h5⟩
  · exact Or.inl h
  · exact Or.inr ⟨h1, c, m, by omega, h3, by rw [hm c h2]; exact h4, h5⟩
theorem ty_s {v b : Int32} {s s' : Nat} (h : ty_V N M kd op r mkr v b s) (e : r s = r s') : ty_V N M kd op r mkr v b s' := by
  rcases h with ⟨h1, n, t, p, q, h2, h3, h4⟩ | ⟨h1, c, m, h2, h3, h4, h5, h6⟩
  · exact Or.inl ⟨h1, n, t, p, q, h2, h3, h4.trans e⟩
  · exact Or.inr ⟨h1, c, m, h2, h3, h4, h5, h6.trans e⟩
theorem ty_va {v b : Int32} {s : Nat} (h : ty_V N M kd op r mkr v b s) : va_V M v b := by
  rcases h with ⟨h1, -⟩ | ⟨h1, c, m, h2, h3, -⟩
  · exact Or.inl h1
  · exact Or.inr ⟨h1, c, h2, h3⟩
theorem ty_01 {v b : Int32} {s : Nat} (h : ty_V N M kd op r mkr v b s) : b = 0 ∨ b = 1 := h.imp And.left And.left
/-- a cell's maker, seen from a slot with a form of kind 2 or 3 -/
theorem ty_cell (TT : tm_T N kd ka kb up op) (C : ty_C N kd ka kb up op sh r) {v : Int32} {s : Nat} (h : ty_V N M kd op r mkr v 1 s) {n' t k p q : Nat} (hn : n' < N) (f : fo_n kd op n' t k p q) (e : r t = r s) {c m : Nat} (hc : c < 2 ^ 31) (hM : M ≤ 240) (ev : v = nI c) (em : mkr c = nI m) (hm : m < N) (hk : kd m = 2 ∨ kd m = 4) :
    (k = 3 ↔ kd m = 2) ∧ (k = 2 ↔ kd m = 4) ∧ r (3 * m) = r s ∧ c < M := by
  have hN := TT.1
  rcases h with ⟨h1, -⟩ | ⟨-, c', m', h2, h3, h4, h5, h6⟩
  · exact absurd h1 (by decide)
  · have ec : c = c' := (nI_eq hc (by omega)).mp (ev.symm.trans h3)
    subst ec
    have e2 : m = m' := (nI_eq (by omega) (by omega)).mp (em.symm.trans h4)
    subst e2
    refine ⟨?_, ?_, h6, h2⟩
    · rcases hk with a | a
      · have := (ty_cg TT C hn hm f (fo_2 a) (e.trans h6.symm)).1
        exact ⟨fun _ => a, fun _ => this⟩
      · have := (ty_cg TT C hn hm f (fo_4 a) (e.trans h6.symm)).1
        exact ⟨fun z => by omega, fun z => absurd (z.symm.trans a) (by decide)⟩
    · rcases hk with a | a
      · have := (ty_cg TT C hn hm f (fo_2 a) (e.trans h6.symm)).1
        exact ⟨fun z => by omega, fun z => absurd (a.symm.trans z) (by decide)⟩
      · have := (ty_cg TT C hn hm f (fo_4 a) (e.trans h6.symm)).1
        exact ⟨fun _ => a, fun _ => this⟩
/-- an environment has, for every name, the type of its binder -/
def we_T (N M : Nat) (kd ka kb up op : Nat → Int32) (r : Nat → Nat) (mkr : Nat → Int32) (g1 g2 : Nat → Int32) (n : Nat) : Prop := ∀ x f, x < 8 → bn_B kd ka kb up n (nI x) f → ty_V N M kd op r mkr (g1 x) (g2 x) (if kb f = nI x then 3 * f + 1 else 3 * f)
theorem we_m {n : Nat} (h : we_T N M kd ka kb up op r mkr g1 g2 n) (hM : M ≤ M') (hm : ∀ c, c < M → mkr' c = mkr c) : we_T N M' kd ka kb up op r mkr' g1 g2 n := fun x f hx hf => ty_m (h x f hx hf) hM hm
theorem we_g {n : Nat} {g1' g2' : Nat → Int32} (h : we_T N M kd ka kb up op r mkr g1 g2 n) (e : ∀ x, x < 8 → g1' x = g1 x ∧ g2' x = g2 x) : we_T N M kd ka kb up op r mkr g1' g2' n := fun x f hx hf => by rw [(e x hx).1, (e x hx).2]; exact h x f hx hf
/-- an operand of a node that is no function -/
theorem we_d (TT : tm_T N kd ka kb up op) {n c : Nat} (h : we_T N M kd ka kb up op r mkr g1 g2 n) (hn : n < N) (hc : c < N) (e : up c = nI n) (hk : kd n ≠ 2) : we_T N M kd ka kb up op r mkr g1 g2 c := fun x f hx hf => h x f hx (bn_dn TT.1 TT.2.2.1 hc (by have := TT.1; omega) e (fun z => hk z.1) hf)
/-- the body of a function, with its two names bound -/
theorem we_b (TT : tm_T N kd ka kb up op) {m c : Nat} {x y : Int32} {x' y' : Int32} (h : we_T N M kd ka kb up op r mkr g1 g2 m) (hm : m < N) (hc : c < N) (e : up c = nI m) (hk : kd m = 2) (hx : ty_V N M kd op r mkr x x' (3 * m)) (hy : ty_V N M kd op r mkr y y' (3 * m + 1)) :
    we_T N M kd ka kb up op r mkr (cr_g (ka m) (kb m) x y g1) (cr_g (ka m) (kb m) x' y' g2) c := by
  have hN := TT.1
  intro z f hz hf
  unfold cr_g
  rcases Classical.em (bn_M kd ka kb (nI z) m) with b | b
  · have ef := bn_me TT.1 TT.2.2.1 hc (by omega) e b hf
    subst ef
    rcases Classical.em (nI z = kb f) with q | q
    · rw [if_pos q, if_pos q, if_pos q.symm]
      exact hy
    · have qa : nI z = ka f := (b.2.resolve_right fun w => q w.symm).symm
      rw [if_neg q, if_neg q, if_pos qa, if_pos qa, if_neg (fun w => q w.symm)]
      exact hx
  · have nb : ¬ nI z = kb m := fun q => b ⟨hk, Or.inr q.symm⟩
    have na : ¬ nI z = ka m := fun q => b ⟨hk, Or.inl q.symm⟩
    rw [if_neg nb, if_neg nb, if_neg na, if_neg na]
    exact h z f hz (bn_dn TT.1 TT.2.2.1 hc (by omega) e b hf)
/-- the component's chain e gives what the reference's row (g1, g2) holds -/
def ev_R (E : Nat) (G : Nat → Nat → Int64) (e : Int32) (g1 g2 : Nat → Int32) : Prop := (e = -1 ∨ ∃ i, i < E ∧ e = nI i) ∧ ∀ x, x < 8 → ev_G G e x = en_c (g1 x) (g2 x) ∧ (g2 x = 0 ∨ g2 x = 1)
theorem ev_m2 {e : Int32} (h : ev_R E G e g1 g2) (hE : E ≤ E') (hE4 : E' ≤ 480) (hG : ∀ i x, i < E → G' i x = G i x) : ev_R E' G' e g1 g2 := by
  refine ⟨h.1.imp id fun ⟨i, a, b⟩ => ⟨i, by omega, b⟩, fun x hx => ?_⟩
  rw [← (h.2 x hx).1]
  refine ⟨?_, (h.2 x hx).2⟩
  rcases h.1 with rfl | ⟨i, a, rfl⟩
  · rw [ev_m, ev_m]
  · rw [ev_n G' (by omega), ev_n G (by omega), hG i x a]
theorem ev_g {e : Int32} {g1' g2' : Nat → Int32} (h : ev_R E G e g1 g2) (q : ∀ x, x < 8 → g1' x = g1 x ∧ g2' x = g2 x) : ev_R E G e g1' g2' := ⟨h.1, fun x hx => by rw [(q x hx).1, (q x hx).2]; exact h.2 x hx⟩
/-- the two names of a body are bound on top of a closure's chain -/
def gx_1 (G : Nat → Nat → Int64) (e : Int32) (a : Nat) (X : Int64) (z : Nat) : Int64 := if z = a then X else ev_G G e z
def gx_N (G : Nat → Nat → Int64) (E : Nat) (e : Int32) (a b : Nat) (X Y : Int64) (i z : Nat) : Int64 := if i = E then gx_1 G e a X z else if i = E + 1 then (if z = b then Y else gx_1 G e a X z) else G i z
theorem gx_E {e : Int32} {a b z : Nat} {X Y : Int64} : gx_N G E e a b X Y E z = gx_1 G e a X z := if_pos rfl
theorem gx_F {e : Int32} {a b z : Nat} {X Y : Int64} : gx_N G E e a b X Y (E + 1) z = if z = b then Y else gx_1 G e a X z := by
  unfold gx_N
  rw [if_neg (by omega), if_pos rfl]
theorem gx_o {e : Int32} {a b z i : Nat} {X Y : Int64} (h : i < E) : gx_N G E e a b X Y i z = G i z := by
  unfold gx_N
  rw [if_neg (by omega), if_neg (by omega)]
theorem ev_b {enn enx : Nat → Int32} {env : Nat → Int64} {e : Int32} {a b : Nat} {x x' y y' : Int32} (hE : E + 2 ≤ 480) (V : ev_E E enn env enx G) (h : ev_R E G e g1 g2) (ha : a < 8) (hb : b < 8) (hx : x' = 0 ∨ x' = 1) (hy : y' = 0 ∨ y' = 1) :
    ∃ G', (∀ i x, i < E → G' i x = G i x) ∧ ev_E (E + 2) (upd (upd enn E (nI a)) (E + 1) (nI b)) (vp_updL (vp_updL env E (en_c x x')) (E + 1) (en_c y y')) (upd (upd enx E e) (E + 1) (nI E)) G' ∧ ev_R (E + 2) G' (nI (E + 1)) (cr_g (nI a) (nI b) x y g1) (cr_g (nI a) (nI b) x' y' g2) := by
  refine ⟨gx_N G E e a b (en_c x x') (en_c y y'), fun i z hi => gx_o hi, fun i hi => ?_, Or.inr ⟨E + 1, by omega, rfl⟩, fun z hz => ?_⟩
  · have old : ∀ q z, (q = -1 ∨ ∃ i', i' < E ∧ q = nI i') → ev_G (gx_N G E e a b (en_c x x') (en_c y y')) q z = ev_G G q z := by
      intro q z hq
      rcases hq with rfl | ⟨i', hi', rfl⟩
      · rw [ev_m, ev_m]
      · rw [ev_n _ (by omega), ev_n _ (by omega), gx_o hi']
    rcases Classical.em (i = E + 1) with w | w
    · subst w
      refine ⟨b, hb, pk_us, Or.inr ⟨E, by omega, pk_us⟩, fun z hz => ?_⟩
      rw [pk_uLs, pk_us, gx_F, ev_n _ (by omega), gx_E]
    · rw [pk_un w, pk_uLn w, pk_un w]
      rcases Classical.em (i = E) with w2 | w2
      · subst w2
        refine ⟨a, ha, pk_us, by rw [pk_us]; exact h.1, fun z hz => ?_⟩
        rw [pk_uLs, pk_us, gx_E, old e z h.1]
        rfl
      · obtain ⟨yy, q1, q2, q3, q4⟩ := V i (by omega)
        rw [pk_un w2, pk_uLn w2, pk_un w2]
        refine ⟨yy, q1, q2, q3, fun z hz => ?_⟩
        rw [gx_o (by omega), q4 z hz, old (enx i) z (q3.imp id fun ⟨i', q5, q6⟩ => ⟨i', by omega, q6⟩)]
  · rw [ev_n _ (by omega), gx_F]
    unfold gx_1 cr_g
    rcases Classical.em (z = b) with w | w
    · subst w
      rw [if_pos rfl, if_pos rfl, if_pos rfl]
      exact ⟨rfl, hy⟩
    · have nb : ¬ nI z = nI b := fun q => w ((nI_eq (by omega) (by omega)).mp q)
      rw [if_neg w, if_neg nb, if_neg nb]
      rcases Classical.em (z = a) with w2 | w2
      · subst w2
        rw [if_pos rfl, if_pos rfl, if_pos rfl]
        exact ⟨rfl, hx⟩
      · have na : ¬ nI z = nI a := fun q => w2 ((nI_eq (by omega) (by omega)).mp q)
        rw [if_neg w2, if_neg na, if_neg na]
        exact h.2 z hz
end
/-- the cells of both sides -/
def ce_R (N M E : Nat) (kd ka kb up op sh : Nat → Int32) (r : Nat → Nat) (G : Nat → Nat → Int64) (qn qr qe : Nat → Int32) (qf qs : Nat → Int64) (mkr cvl cis : Nat → Int32) : Prop := ∀ c, c < M → ∃ m, m < N ∧ (kd m = 2 ∨ kd m = 4) ∧ qn c = nI m ∧ mkr c = nI m ∧ qr c = nI (rg_J N kd op sh r (r (3 * m))) ∧
  (kd m = 4 → qf c = en_c (cvl (c * 8)) (cis (c * 8)) ∧ qs c = en_c (cvl (c * 8 + 1)) (cis (c * 8 + 1)) ∧ ty_V N M kd op r mkr (cvl (c * 8)) (cis (c * 8)) (3 * tm_c op m 0) ∧ ty_V N M kd op r mkr (cvl (c * 8 + 1)) (cis (c * 8 + 1)) (3 * tm_c op m 1)) ∧
  (kd m = 2 → ev_R E G (qe c) (fun x => cvl (c * 8 + x)) (fun x => cis (c * 8 + x)) ∧ we_T N M kd ka kb up op r mkr (fun x => cvl (c * 8 + x)) (fun x => cis (c * 8 + x)) m)
theorem ce_ce {N M E : Nat} {kd ka kb up op sh : Nat → Int32} {r : Nat → Nat} {G : Nat → Nat → Int64} {qn qr qe : Nat → Int32} {qf qs : Nat → Int64} {mkr cvl cis : Nat → Int32} (h : ce_R N M E kd ka kb up op sh r G qn qr qe qf qs mkr cvl cis) : ce_C N M kd qn mkr cvl cis qf qs := by
  intro c hc
  obtain ⟨m, h1, h2, h3, h4, -, h5, -⟩ := h c hc
  exact ⟨m, h1, h2, h3, h4, fun k4 => ⟨(h5 k4).1, (h5 k4).2.1, ty_va (h5 k4).2.2.1, ty_va (h5 k4).2.2.2⟩⟩
theorem ce_E {N M E E' : Nat} {kd ka kb up op sh : Nat → Int32} {r : Nat → Nat} {G G' : Nat → Nat → Int64} {qn qr qe : Nat → Int32} {qf qs : Nat → Int64} {mkr cvl cis : Nat → Int32} (h : ce_R N M E kd ka kb up op sh r G qn qr qe qf qs mkr cvl cis) (hE : E ≤ E') (hE4 : E' ≤ 480) (hG : ∀ i x, i < E → G' i x = G i x) : ce_R N M E' kd ka kb up op sh r G' qn qr qe qf qs mkr cvl cis := by
  intro c hc
  obtain ⟨m, h1, h2, h3, h4, h5, h6, h7⟩ := h c hc
  exact ⟨m, h1, h2, h3, h4, h5, h6, fun k2 => ⟨ev_m2 (h7 k2).1 hE hE4 hG, (h7 k2).2⟩⟩
end
section
/-- one frame j, whose evaluation is e: node n, st operands begun, the first and the last of them -/
def fr_A (N M E B : Nat) (kd ka kb up op : Nat → Int32) (r : Nat → Nat) (G : Nat → Nat → Int64) (mkr frn fre frs frm ynd clr mrk evl ecl : Nat → Int32) (e j n st fi la : Nat) : Prop :=
  n < N ∧ frn j = nI n ∧ ynd e = nI n ∧ frs j = nI st ∧ (∃ k, k ≤ M ∧ frm j = nI k ∧ mrk e = nI k) ∧
  ev_R E G (fre j) (fun x => evl (e * 8 + x)) (fun x => ecl (e * 8 + x)) ∧ we_T N M kd ka kb up op r mkr (fun x => evl (e * 8 + x)) (fun x => ecl (e * 8 + x)) n ∧ sc_F clr e B = (st, fi, la) ∧ e < B ∧ fi < B ∧ la < B
/-- how far a node of that kind may be, and which nodes its operands are -/
def fr_C (N : Nat) (kd op : Nat → Int32) (r : Nat → Nat) (ynd : Nat → Int32) (n st fi la : Nat) : Prop :=
  (kd n = 0 ∨ kd n = 1 ∨ kd n = 2 → st = 0) ∧ (kd n = 5 ∨ kd n = 6 → st ≤ 1) ∧ (kd n = 4 ∨ kd n = 7 ∨ kd n = 8 → st ≤ 2) ∧ st ≤ 3 ∧
  (1 ≤ st → ynd fi = nI (tm_c op n 0)) ∧ (st = 1 → fi = la) ∧ (st = 2 → kd n ≠ 7 → ynd la = nI (tm_c op n 1)) ∧
  ((kd n = 7 ∧ st = 2) ∨ st = 3 → ∃ n', n' < N ∧ ynd la = nI n' ∧ r (3 * n') = r (3 * n))
def fr_V (kd ndd vla icl : Nat → Int32) (frf : Nat → Int64) (j n st fi : Nat) : Prop := 2 ≤ st → kd n ≠ 7 → ndd fi = 1 ∧ frf j = en_c (vla fi) (icl fi)
def vl_R (N M B : Nat) (kd op : Nat → Int32) (r : Nat → Nat) (mkr ynd ndd vla icl : Nat → Int32) : Prop := ∀ i, i < B → (ndd i = 0 ∨ ndd i = 1) ∧ (ndd i = 1 → ∃ n, n < N ∧ ynd i = nI n ∧ ty_V N M kd op r mkr (vla i) (icl i) (3 * n))
/-- the stack: frames 0 .. T -/
def st_R (T B : Nat) (ndd : Nat → Int32) (e st la : Nat → Nat) : Prop :=
  (∀ i j, i < j → j ≤ T → e i < e j) ∧ e 0 = 0 ∧ (∀ j, j < T → la j = e (j + 1) ∧ 1 ≤ st j) ∧ (∀ i, i < B → (ndd i = 0 ↔ ∃ j, j ≤ T ∧ i = e j))
def rs_G (N F : Nat) (kd ka kb up op sh : Nat → Int32) (r : Nat → Nat) (T B M E : Nat) (G : Nat → Nat → Int64) (e n st fi la : Nat → Nat) (vl : Int64) (qn qr qe : Nat → Int32) (qf qs : Nat → Int64) (al enn : Nat → Int32) (env : Nat → Int64) (enx frn fre frs frm : Nat → Int32) (frf : Nat → Int64) (ynd clr mrk vla evl ndd icl ecl mkr cvl cis : Nat → Int32) : Prop :=
  (B ≤ F ∧ M + T + 1 ≤ B ∧ E + 2 ≤ 2 * B) ∧ (∀ c, c < M → al c = 0 ∨ al c = 1) ∧ ev_E E enn env enx G ∧ ce_R N M E kd ka kb up op sh r G qn qr qe qf qs mkr cvl cis ∧ vl_R N M B kd op r mkr ynd ndd vla icl ∧
  (∀ j, j ≤ T → fr_A N M E B kd ka kb up op r G mkr frn fre frs frm ynd clr mrk evl ecl (e j) j (n j) (st j) (fi j) (la j) ∧ fr_C N kd op r ynd (n j) (st j) (fi j) (la j) ∧ fr_V kd ndd vla icl frf j (n j) (st j) (fi j)) ∧ st_R T B ndd e st la ∧
  (1 ≤ st T → ndd (la T) = 1 ∧ vl = en_c (vla (la T)) (icl (la T)))
section
variable {N F : Nat} {kd ka kb up op sh : Nat → Int32} {r : Nat → Nat} {T B M E : Nat} {G : Nat → Nat → Int64} {e n st fi la : Nat → Nat} {vl : Int64} {qn qr qe : Nat → Int32} {qf qs : Nat → Int64} {al enn : Nat → Int32} {env : Nat → Int64} {enx frn fre frs frm : Nat → Int32} {frf : Nat → Int64} {ynd clr mrk vla evl ndd icl ecl mkr cvl cis : Nat → Int32}
def un_f (f : Nat → Nat) (k x : Nat) : Nat → Nat := fun j => if j = k then x else f j
theorem un_s {f : Nat → Nat} {k x : Nat} : un_f f k x k = x := if_pos rfl
theorem un_n {f : Nat → Nat} {k x j : Nat} (h : j ≠ k) : un_f f k x j = f j := if_neg h
theorem rs_el (S : rs_G N F kd ka kb up op sh r T B M E G e n st fi la vl qn qr qe qf qs al enn env enx frn fre frs frm frf ynd clr mrk vla evl ndd icl ecl mkr cvl cis) {i j : Nat} (hi : i ≤ T) (hj : j ≤ T) (h : e i = e j) : i = j := by
  have s := S.2.2.2.2.2.2.1.1
  rcases Nat.lt_trichotomy i j with w | w | w
  · have := s i j w hj; omega
  · exact w
  · have := s j i w hi; omega
/-- a new evaluation begins: the operand c of the top frame's node, or a body -/
theorem rs_push {E' : Nat} {G' : Nat → Nat → Int64} {enn' enx' : Nat → Int32} {env' : Nat → Int64} {frf' : Nat → Int64} {c : Nat} {ev : Int32} {g1 g2 evl' ecl' : Nat → Int32}
    (hF : F ≤ 240) (S : rs_G N F kd ka kb up op sh r T B M E G e n st fi la vl qn qr qe qf qs al enn env enx frn fre frs frm frf ynd clr mrk vla evl ndd icl ecl mkr cvl cis)
    (hB : B < F) (hE : E ≤ E') (hE2 : E' ≤ E + 2) (hG : ∀ i x, i < E → G' i x = G i x) (V : ev_E E' enn' env' enx' G') (hc : c < N) (R : ev_R E' G' ev g1 g2) (W : we_T N M kd ka kb up op r mkr g1 g2 c) (rw_ : rw_S B evl ecl g1 g2 evl' ecl')
    (hk : (kd (n T) = 0 ∨ kd (n T) = 1 ∨ kd (n T) = 2 → False) ∧ (kd (n T) = 5 ∨ kd (n T) = 6 → st T = 0) ∧ (kd (n T) = 4 ∨ kd (n T) = 7 ∨ kd (n T) = 8 → st T ≤ 1) ∧ st T ≤ 2)
    (c0 : st T = 0 → c = tm_c op (n T) 0) (c1 : st T = 1 → kd (n T) ≠ 7 → c = tm_c op (n T) 1) (c2 : (kd (n T) = 7 ∧ st T = 1) ∨ st T = 2 → r (3 * c) = r (3 * n T))
    (hf : ∀ j, j < T → frf' j = frf j) (hfT : 1 ≤ st T → kd (n T) ≠ 7 → ndd (fi T) = 1 ∧ frf' T = en_c (vla (fi T)) (icl (fi T))) :
    rs_G N F kd ka kb up op sh r (T + 1) (B + 1) M E' G' (un_f e (T + 1) B) (un_f n (T + 1) c) (un_f (un_f st T (st T + 1)) (T + 1) 0) (un_f (un_f fi T (if st T = 0 then B else fi T)) (T + 1) B) (un_f (un_f la T B) (T + 1) B) vl qn qr qe qf qs al enn' env' enx'
      (upd frn (T + 1) (nI c)) (upd fre (T + 1) ev) (upd (upd frs T (nI (st T + 1))) (T + 1) 0) (upd frm (T + 1) (nI M)) frf' (upd ynd B (nI c)) (upd clr B (nI (e T))) (upd mrk B (nI M)) vla evl' (upd ndd B 0) icl ecl' mkr cvl cis := by
  obtain ⟨⟨b1, b2, b3⟩, h01, EV, CE, VL, FR, ST, TV⟩ := S
  have eB : ∀ j, j ≤ T → e j < B := fun j hj => (FR j hj).1.2.2.2.2.2.2.2.2.1
  have clr' : ∀ i, i < B → upd clr B (nI (e T)) i = clr i := fun i hi => pk_un (by omega)
  have row : ∀ i, i < B → ∀ x, x < 8 → evl' (i * 8 + x) = evl (i * 8 + x) ∧ ecl' (i * 8 + x) = ecl (i * 8 + x) := fun i hi x hx => rw_.2 _ (by omega)
  have scB : ∀ j, j ≤ T → sc_F (upd clr B (nI (e T))) (e j) (B + 1) = if j = T then ((sc_F clr (e T) B).1 + 1, if (sc_F clr (e T) B).1 = 0 then B else (sc_F clr (e T) B).2.1, B) else sc_F clr (e j) B := by
    intro j hj
    show (if e j < B ∧ upd clr B (nI (e T)) B = nI (e j) then ((sc_F (upd clr B (nI (e T))) (e j) B).1 + 1, if (sc_F (upd clr B (nI (e T))) (e j) B).1 = 0 then B else (sc_F (upd clr B (nI (e T))) (e j) B).2.1, B) else sc_F (upd clr B (nI (e T))) (e j) B) = _
    rw [sc_c B clr', pk_us]
    rcases Classical.em (j = T) with w | w
    · subst w
      rw [if_pos ⟨eB j hj, rfl⟩, if_pos rfl]
    · rw [if_neg, if_neg w]
      intro z
      have a1 := eB j hj
      have a2 := eB T (Nat.le_refl _)
      have q : e T = e j := (nI_eq (by omega) (by omega)).mp z.2
      have := ST.1 j T (by omega) (Nat.le_refl _)
      omega
  refine ⟨⟨by omega, by omega, by omega⟩, h01, V, ce_E CE hE (by omega) hG, fun i hi => ?_, fun j hj => ?_, ⟨fun i j hij hj => ?_, ?_, fun j hj => ?_, fun i hi => ?_⟩, fun q => ?_⟩
  · rcases Classical.em (i = B) with w | w
    · subst w
      rw [pk_us]
      exact ⟨Or.inl rfl, fun z => absurd z (by decide)⟩
    · rw [pk_un w, pk_un w]
      exact VL i (by omega)
  · rcases Classical.em (j = T + 1) with w | w
    · subst w
      rw [un_s, un_s, un_s, un_s, un_s]
      refine ⟨⟨hc, pk_us, pk_us, pk_us, ⟨M, Nat.le_refl _, pk_us, pk_us⟩, ?_, ?_, sc_0 _ (Nat.le_refl _), by omega, by omega, by omega⟩, ⟨fun _ => rfl, fun _ => by omega, fun _ => by omega, by omega, fun z => absurd z (by omega), fun z => absurd z (by omega), fun z => absurd z (by omega), fun z => by omega⟩, fun z => absurd z (by omega)⟩
      · rw [pk_us]
        exact ev_g R (fun x hx => rw_.1 x hx)
      · exact we_g W (fun x hx => rw_.1 x hx)
    · have hj' : j ≤ T := by omega
      have ej := eB j hj'
      obtain ⟨⟨f1, f2, f3, f4, ⟨k, f5, f6, f7⟩, f8, f9, f10, f11, f12, f13⟩, ⟨g1', g2', g3, g4, g5, g6, g7, g8⟩, fv⟩ := FR j hj'
      have rowj : ∀ x, x < 8 → evl' (e j * 8 + x) = evl (e j * 8 + x) ∧ ecl' (e j * 8 + x) = ecl (e j * 8 + x) := row (e j) ej
      have evj : ev_R E' G' (upd fre (T + 1) ev j) (fun x => evl' (e j * 8 + x)) (fun x => ecl' (e j * 8 + x)) := by
        rw [pk_un w]
        exact ev_g (ev_m2 f8 hE (by omega) hG) rowj
      have wej : we_T N M kd ka kb up op r mkr (fun x => evl' (e j * 8 + x)) (fun x => ecl' (e j * 8 + x)) (n j) := we_g f9 rowj
      rw [un_n w, un_n w, un_n w, un_n w, un_n w]
      rcases Classical.em (j = T) with y | y
      · subst y
        rw [un_s, un_s, un_s]
        have sc := scB j (Nat.le_refl _)
        rw [if_pos rfl, f10] at sc
        refine ⟨⟨f1, by rw [pk_un w]; exact f2, by rw [pk_un (by omega)]; exact f3, by rw [pk_un w, pk_us], ⟨k, f5, by rw [pk_un w]; exact f6, by rw [pk_un (by omega)]; exact f7⟩, evj, wej, sc, by omega, by split <;> omega, by omega⟩, ⟨fun z => absurd z hk.1, fun z => by have := hk.2.1 z; omega, fun z => by have := hk.2.2.1 z; omega, by have := hk.2.2.2; omega, fun _ => ?_, fun z => ?_, fun z q => ?_, fun z => ?_⟩, fun z q => ?_⟩
        · rcases Classical.em (st j = 0) with u | u
          · rw [if_pos u, pk_us, c0 u]
          · rw [if_neg u, pk_un (by omega)]
            exact g5 (by omega)
        · rw [if_pos (by omega)]
        · rw [pk_us, c1 (by omega) q]
        · refine ⟨c, hc, pk_us, c2 ?_⟩
          rcases z with z | z
          · exact Or.inl ⟨z.1, by omega⟩
          · exact Or.inr (by omega)
        · have u : st j ≠ 0 := by omega
          rw [if_neg u, pk_un (by omega)]
          exact hfT (by omega) q
      · rw [un_n y, un_n y, un_n y]
        have sc := scB j hj'
        rw [if_neg y, f10] at sc
        refine ⟨⟨f1, by rw [pk_un w]; exact f2, by rw [pk_un (by omega)]; exact f3, by rw [pk_un w, pk_un y]; exact f4, ⟨k, f5, by rw [pk_un w]; exact f6, by rw [pk_un (by omega)]; exact f7⟩, evj, wej, sc, by omega, by omega, by omega⟩, ⟨g1', g2', g3, g4, fun z => by rw [pk_un (by omega)]; exact g5 z, g6, fun z q => by rw [pk_un (by omega)]; exact g7 z q, fun z => ?_⟩, fun z q => ?_⟩
        · obtain ⟨n', q1, q2, q3⟩ := g8 z
          exact ⟨n', q1, by rw [pk_un (by omega)]; exact q2, q3⟩
        · have := fv z q
          rw [pk_un (by omega), hf j (by omega)]
          exact this
  · rw [un_n (f := e) (by omega : i ≠ T + 1)]
    rcases Classical.em (j = T + 1) with w | w
    · subst w
      rw [un_s]
      exact eB i (by omega)
    · rw [un_n w]
      exact ST.1 i j hij (by omega)
  · rw [un_n (by omega)]
    exact ST.2.1
  · have a1 : un_f (un_f la T B) (T + 1) B j = un_f la T B j := un_n (by omega)
    have a2 : un_f (un_f st T (st T + 1)) (T + 1) 0 j = un_f st T (st T + 1) j := un_n (by omega)
    rw [a1, a2]
    rcases Classical.em (j = T) with w | w
    · subst w
      rw [un_s, un_s, un_s]
      exact ⟨rfl, by omega⟩
    · have a3 : un_f e (T + 1) B (j + 1) = e (j + 1) := un_n (by omega)
      rw [un_n w, un_n w, a3]
      exact ST.2.2.1 j (by omega)
  · rcases Classical.em (i = B) with w | w
    · subst w
      rw [pk_us]
      exact ⟨fun _ => ⟨T + 1, Nat.le_refl _, by rw [un_s]⟩, fun _ => rfl⟩
    · rw [pk_un w, ST.2.2.2 i (by omega)]
      constructor
      · intro ⟨j, q1, q2⟩
        exact ⟨j, by omega, by rw [un_n (by omega)]; exact q2⟩
      · intro ⟨j, q1, q2⟩
        rcases Classical.em (j = T + 1) with y | y
        · subst y
          rw [un_s] at q2
          exact absurd q2 w
        · rw [un_n y] at q2
          exact ⟨j, by omega, q2⟩
  · rw [un_s] at q
    omega
/-- the top frame ends with the value (v, b), and there is one below it -/
theorem rs_pop {M' : Nat} {qn' qr' qe' : Nat → Int32} {qf' qs' : Nat → Int64} {al' mkr' cvl' cis' : Nat → Int32} {frs' : Nat → Int32} {v b : Int32}
    (S : rs_G N F kd ka kb up op sh r (T + 1) B M E G e n st fi la vl qn qr qe qf qs al enn env enx frn fre frs frm frf ynd clr mrk vla evl ndd icl ecl mkr cvl cis)
    (hM : M ≤ M') (hM1 : M' ≤ M + 1) (hm : ∀ c, c < M → mkr' c = mkr c) (h01 : ∀ c, c < M' → al' c = 0 ∨ al' c = 1) (CE : ce_R N M' E kd ka kb up op sh r G qn' qr' qe' qf' qs' mkr' cvl' cis') (hs : ∀ j, j ≤ T → frs' j = frs j)
    (tv : ty_V N M' kd op r mkr' v b (3 * n (T + 1))) :
    rs_G N F kd ka kb up op sh r T B M' E G e n st fi la (en_c v b) qn' qr' qe' qf' qs' al' enn env enx frn fre frs' frm frf ynd clr mrk (upd vla (e (T + 1)) v) evl (upd ndd (e (T + 1)) 1) (upd icl (e (T + 1)) b) ecl mkr' cvl' cis' := by
  obtain ⟨⟨b1, b2, b3⟩, h01', EV, CE', VL, FR, ST, TV⟩ := S
  have top := (FR (T + 1) (Nat.le_refl _)).1
  have ne : ∀ i, ndd i = 1 → i < B → i ≠ e (T + 1) := fun i h hi z => by
    have := (ST.2.2.2 i hi).mpr ⟨T + 1, Nat.le_refl _, z⟩
    exact absurd (h.symm.trans this) (by decide)
  refine ⟨⟨b1, by omega, b3⟩, h01, EV, CE, fun i hi => ?_, fun j hj => ?_, ⟨fun i j hij hj => ST.1 i j hij (by omega), ST.2.1, fun j hj => ST.2.2.1 j (by omega), fun i hi => ?_⟩, fun q => ?_⟩
  · rcases Classical.em (i = e (T + 1)) with w | w
    · subst w
      rw [pk_us, pk_us, pk_us]
      exact ⟨Or.inr rfl, fun _ => ⟨n (T + 1), top.1, top.2.2.1, tv⟩⟩
    · rw [pk_un w, pk_un w, pk_un w]
      refine ⟨(VL i hi).1, fun z => ?_⟩
      obtain ⟨n', q1, q2, q3⟩ := (VL i hi).2 z
      exact ⟨n', q1, q2, ty_m q3 hM hm⟩
  · obtain ⟨⟨f1, f2, f3, f4, ⟨k, f5, f6, f7⟩, f8, f9, f10, f11, f12, f13⟩, fc, fv⟩ := FR j (by omega)
    refine ⟨⟨f1, f2, f3, by rw [hs j hj]; exact f4, ⟨k, by omega, f6, f7⟩, f8, we_m f9 hM hm, f10, f11, f12, f13⟩, fc, fun z q => ?_⟩
    have := fv z q
    rw [pk_un (ne _ this.1 f12), pk_un (ne _ this.1 f12), pk_un (ne _ this.1 f12)]
    exact this
  · rcases Classical.em (i = e (T + 1)) with w | w
    · subst w
      rw [pk_us]
      refine ⟨fun z => absurd z (by decide), fun ⟨j, q1, q2⟩ => ?_⟩
      have := ST.1 j (T + 1) (by omega) (Nat.le_refl _)
      omega
    · rw [pk_un w, ST.2.2.2 i hi]
      constructor
      · intro ⟨j, q1, q2⟩
        refine ⟨j, ?_, q2⟩
        rcases Classical.em (j = T + 1) with y | y
        · subst y; exact absurd q2 w
        · omega
      · intro ⟨j, q1, q2⟩
        exact ⟨j, by omega, q2⟩
  · rw [(ST.2.2.1 T (by omega)).1, pk_us, pk_us, pk_us]
    exact ⟨rfl, rfl⟩
end
end
section
/-- at the head of step σ: running, or ended -/
def rz_F (σ N F : Nat) (kd ka kb up op sh : Nat → Int32) (r : Nat → Nat) (ec : Int32) (tp : Int32) (vl : Int64) (ls : Int32) (sp : Int32) (md : Int32) (hld : Int32) (pk : Int32) (qn : Nat → Int32) (qr : Nat → Int32) (qe : Nat → Int32) (qf : Nat → Int64) (qs : Nat → Int64) (al : Nat → Int32) (enn : Nat → Int32) (env : Nat → Int64) (enx : Nat → Int32) (frn : Nat → Int32) (fre : Nat → Int32) (frs : Nat → Int32) (frm : Nat → Int32) (frf : Nat → Int64) (ynd : Nat → Int32) (clr : Nat → Int32) (mrk : Nat → Int32) (vla : Nat → Int32) (evl : Nat → Int32) (ndd : Nat → Int32) (icl : Nat → Int32) (ecl : Nat → Int32) (mkr : Nat → Int32) (cvl : Nat → Int32) (cis : Nat → Int32) : Prop :=
  (ls = -1 ∧ ∃ T B M E G e n st fj lj, tp = nI (T + 1) ∧ sp = nI B ∧ md = nI M ∧ ec = nI E ∧ hld = nI (cn (fun c => al c = 1) M) ∧ σ + T + 2 = 2 * B ∧ rs_G N F kd ka kb up op sh r T B M E G e n st fj lj vl qn qr qe qf qs al enn env enx frn fre frs frm frf ynd clr mrk vla evl ndd icl ecl mkr cvl cis) ∨
  ((ls = 0 ∨ ls = 1 ∨ ls = 2) ∧ ∃ M, rn_F N M ls md hld vl kd al qn mkr cvl cis vla icl qf qs)
def rz_R (ml : Int32) (cnt : Int32) (pc : Int32) (ifd : Int32) (wt : Int32) (rc : Int32) (gw : Int32) (rm : Int32) (kd : Nat → Int32) (ka : Nat → Int32) (kb : Nat → Int32) (op : Nat → Int32) (up : Nat → Int32) (bd : Nat → Int32) (pn : Nat → Int32) (sk : Nat → Int32) (f1 : Nat → Int32) (f2 : Nat → Int32) (lk : Nat → Int32) (sh : Nat → Int32) (cl : Nat → Int32) (wa : Nat → Int32) (wb : Nat → Int32) (se : Nat → Int32) (rg : Nat → Int32) (hm : Nat → Int32) (ra : Nat → Int64) (ef : Nat → Int64) (vi : Nat → Int64) (la : Nat → Int64) (sn : Nat → Int64) (fnd : Int32) (ow : Nat → Int32) (o1 : Nat → Int32) (o2 : Nat → Int32) (yc : Nat → Int32) (ck : Nat → Int32) (p1 : Nat → Int32) (p2 : Nat → Int32) (yh : Nat → Int32) (fi : Nat → Int32) (fa : Nat → Int32) (nf : Nat) (σ N F : Nat) (r : Nat → Nat) (u : SX) (v : SY) : Prop := ∃ (ec : Int32) (tp : Int32) (vl : Int64) (ls : Int32) (sp : Int32) (md : Int32) (hld : Int32) (pk : Int32) (qn : Nat → Int32) (qr : Nat → Int32) (qe : Nat → Int32) (qf : Nat → Int64) (qs : Nat → Int64) (al : Nat → Int32) (enn : Nat → Int32) (env : Nat → Int64) (enx : Nat → Int32) (frn : Nat → Int32) (fre : Nat → Int32) (frs : Nat → Int32) (frm : Nat → Int32) (frf : Nat → Int64) (ynd : Nat → Int32) (clr : Nat → Int32) (mrk : Nat → Int32) (vla : Nat → Int32) (evl : Nat → Int32) (ndd : Nat → Int32) (icl : Nat → Int32) (ecl : Nat → Int32) (mkr : Nat → Int32) (cvl : Nat → Int32) (cis : Nat → Int32), rz_F σ N F kd ka kb up op sh r ec tp vl ls sp md hld pk qn qr qe qf qs al enn env enx frn fre frs frm frf ynd clr mrk vla evl ndd icl ecl mkr cvl cis ∧ u = (ml, nI F, cnt, pc, ifd, wt, rc, gw, ec, tp, vl, rm, ls, sp, md, hld, pk, kd, ka, kb, op, up, bd, pn, sk, f1, f2, lk, sh, cl, wa, wb, se, rg, hm, ra, ef, vi, la, sn, qn, qr, qe, qf, qs, al, enn, env, enx, frn, fre, frs, frm, frf) ∧ v = (ml, nI F, cnt, ls, sp, md, pk, fnd, ifd, kd, ka, kb, up, ow, o1, o2, yc, ck, p1, p2, yh, fi, fa, ynd, clr, mrk, vla, evl, ndd, icl, ecl, mkr, cvl, al, cis, nf)
section
variable {ml fl cnt pc ifd wt rc gw ec tp : Int32} {vl : Int64} {rm ls sp md hld pk : Int32} {kd ka kb op up bd pn sk f1 f2 lk sh cl wa wb se rg hm : Nat → Int32} {ra ef vi la sn : Nat → Int64} {qn qr qe : Nat → Int32} {qf qs : Nat → Int64} {al enn : Nat → Int32} {env : Nat → Int64} {enx frn fre frs frm : Nat → Int32} {frf : Nat → Int64} {fnd : Int32} {ow o1 o2 yc ck p1 p2 yh fi fa ynd clr mrk vla evl ndd icl ecl mkr cvl cis : Nat → Int32} {nf : Nat}
theorem rz_in {σ N F : Nat} {r : Nat → Nat} (h : rz_F σ N F kd ka kb up op sh r ec tp vl ls sp md hld pk qn qr qe qf qs al enn env enx frn fre frs frm frf ynd clr mrk vla evl ndd icl ecl mkr cvl cis) : rz_R ml cnt pc ifd wt rc gw rm kd ka kb op up bd pn sk f1 f2 lk sh cl wa wb se rg hm ra ef vi la sn fnd ow o1 o2 yc ck p1 p2 yh fi fa nf σ N F r (ml, nI F, cnt, pc, ifd, wt, rc, gw, ec, tp, vl, rm, ls, sp, md, hld, pk, kd, ka, kb, op, up, bd, pn, sk, f1, f2, lk, sh, cl, wa, wb, se, rg, hm, ra, ef, vi, la, sn, qn, qr, qe, qf, qs, al, enn, env, enx, frn, fre, frs, frm, frf) (ml, nI F, cnt, ls, sp, md, pk, fnd, ifd, kd, ka, kb, up, ow, o1, o2, yc, ck, p1, p2, yh, fi, fa, ynd, clr, mrk, vla, evl, ndd, icl, ecl, mkr, cvl, al, cis, nf) := ⟨ec, tp, vl, ls, sp, md, hld, pk, qn, qr, qe, qf, qs, al, enn, env, enx, frn, fre, frs, frm, frf, ynd, clr, mrk, vla, evl, ndd, icl, ecl, mkr, cvl, cis, h, rfl, rfl⟩
end
theorem rz_el (ml : Int32) (cnt : Int32) (pc : Int32) (ifd : Int32) (wt : Int32) (rc : Int32) (gw : Int32) (rm : Int32) (kd : Nat → Int32) (ka : Nat → Int32) (kb : Nat → Int32) (op : Nat → Int32) (up : Nat → Int32) (bd : Nat → Int32) (pn : Nat → Int32) (sk : Nat → Int32) (f1 : Nat → Int32) (f2 : Nat → Int32) (lk : Nat → Int32) (sh : Nat → Int32) (cl : Nat → Int32) (wa : Nat → Int32) (wb : Nat → Int32) (se : Nat → Int32) (rg : Nat → Int32) (hm : Nat → Int32) (ra : Nat → Int64) (ef : Nat → Int64) (vi : Nat → Int64) (la : Nat → Int64) (sn : Nat → Int64) (fnd : Int32) (ow : Nat → Int32) (o1 : Nat → Int32) (o2 : Nat → Int32) (yc : Nat → Int32) (ck : Nat → Int32) (p1 : Nat → Int32) (p2 : Nat → Int32) (yh : Nat → Int32) (fi : Nat → Int32) (fa : Nat → Int32) (nf : Nat) {σ N F : Nat} {r : Nat → Nat} {P : SX → SY → Prop} {u : SX} {v : SY} (h : ∀ (ec : Int32) (tp : Int32) (vl : Int64) (ls : Int32) (sp : Int32) (md : Int32) (hld : Int32) (pk : Int32) (qn : Nat → Int32) (qr : Nat → Int32) (qe : Nat → Int32) (qf : Nat → Int64) (qs : Nat → Int64) (al : Nat → Int32) (enn : Nat → Int32) (env : Nat → Int64) (enx : Nat → Int32) (frn : Nat → Int32) (fre : Nat → Int32) (frs : Nat → Int32) (frm : Nat → Int32) (frf : Nat → Int64) (ynd : Nat → Int32) (clr : Nat → Int32) (mrk : Nat → Int32) (vla : Nat → Int32) (evl : Nat → Int32) (ndd : Nat → Int32) (icl : Nat → Int32) (ecl : Nat → Int32) (mkr : Nat → Int32) (cvl : Nat → Int32) (cis : Nat → Int32), rz_F σ N F kd ka kb up op sh r ec tp vl ls sp md hld pk qn qr qe qf qs al enn env enx frn fre frs frm frf ynd clr mrk vla evl ndd icl ecl mkr cvl cis → P (ml, nI F, cnt, pc, ifd, wt, rc, gw, ec, tp, vl, rm, ls, sp, md, hld, pk, kd, ka, kb, op, up, bd, pn, sk, f1, f2, lk, sh, cl, wa, wb, se, rg, hm, ra, ef, vi, la, sn, qn, qr, qe, qf, qs, al, enn, env, enx, frn, fre, frs, frm, frf) (ml, nI F, cnt, ls, sp, md, pk, fnd, ifd, kd, ka, kb, up, ow, o1, o2, yc, ck, p1, p2, yh, fi, fa, ynd, clr, mrk, vla, evl, ndd, icl, ecl, mkr, cvl, al, cis, nf)) (I : rz_R ml cnt pc ifd wt rc gw rm kd ka kb op up bd pn sk f1 f2 lk sh cl wa wb se rg hm ra ef vi la sn fnd ow o1 o2 yc ck p1 p2 yh fi fa nf σ N F r u v) : P u v :=
  Exists.elim I fun ec h0 => Exists.elim h0 fun tp h1 => Exists.elim h1 fun vl h2 => Exists.elim h2 fun ls h3 => Exists.elim h3 fun sp h4 => Exists.elim h4 fun md h5 => Exists.elim h5 fun hld h6 => Exists.elim h6 fun pk h7 => Exists.elim h7 fun qn h8 => Exists.elim h8 fun qr h9 => Exists.elim h9 fun qe h10 => Exists.elim h10 fun qf h11 => Exists.elim h11 fun qs h12 => Exists.elim h12 fun al h13 => Exists.elim h13 fun enn h14 => Exists.elim h14 fun env h15 => Exists.elim h15 fun enx h16 => Exists.elim h16 fun frn h17 => Exists.elim h17 fun fre h18 => Exists.elim h18 fun frs h19 => Exists.elim h19 fun frm h20 => Exists.elim h20 fun frf h21 => Exists.elim h21 fun ynd h22 => Exists.elim h22 fun clr h23 => Exists.elim h23 fun mrk h24 => Exists.elim h24 fun vla h25 => Exists.elim h25 fun evl h26 => Exists.elim h26 fun ndd h27 => Exists.elim h27 fun icl h28 => Exists.elim h28 fun ecl h29 => Exists.elim h29 fun mkr h30 => Exists.elim h30 fun cvl h31 => Exists.elim h31 fun cis h32 => by rw [h32.2.1, h32.2.2]; exact h ec tp vl ls sp md hld pk qn qr qe qf qs al enn env enx frn fre frs frm frf ynd clr mrk vla evl ndd icl ecl mkr cvl cis h32.1
def yj_J (J : Int32 → Int32 → Int32 → Int32 → Int32 → Int32 → Int32 → Int32 → Int32 → Int32 → (Nat → Int32) → (Nat → Int32) → (Nat → Int32) → (Nat → Int32) → (Nat → Int32) → (Nat → Int32) → (Nat → Int32) → (Nat → Int32) → (Nat → Int32) → (Nat → Int32) → (Nat → Int32) → (Nat → Int32) → (Nat → Int32) → (Nat → Int32) → (Nat → Int32) → (Nat → Int32) → (Nat → Int32) → (Nat → Int32) → (Nat → Int32) → (Nat → Int32) → (Nat → Int32) → (Nat → Int32) → (Nat → Int32) → (Nat → Int32) → (Nat → Int32) → (Nat → Int32) → Nat → Prop) (x : Int32) (v : SY) : Prop := match v with
  | (ml, fl, cnt, ls, sp, md, pk, fnd, ifd, kd, ka, kb, up, ow, o1, o2, yc, ck, p1, p2, yh, fi, fa, ynd, clr, mrk, vla, evl, ndd, icl, ecl, mkr, cvl, al, cis, nf) => J x ml fl cnt ls sp md pk fnd ifd kd ka kb up ow o1 o2 yc ck p1 p2 yh fi fa ynd clr mrk vla evl ndd icl ecl mkr cvl al cis nf
/-- what the run rests on -/
def sf_S (N F : Nat) (kd ka kb up op sk sh cl rg hm : Nat → Int32) (ow o1 o2 yc yh : Nat → Int32) (r c : Nat → Nat) : Prop :=
  tm_T N kd ka kb up op ∧ ty_C N kd ka kb up op sh r ∧ (∀ s, s < 3 * N → cl s = nI (r s)) ∧ rg_T N kd op sh r rg ∧ yt_C N kd ka kb up op ow o1 o2 yc c ∧ (∀ ρ, tg_B N kd op sh r ρ → hm (rg_J N kd op sh r ρ) = yh (c (ys_s ρ))) ∧ (∀ n, n < N → kd n = 1 → ∃ f, bn_B kd ka kb up n (ka n) f) ∧ F ≤ 240
section
variable {ml fl cnt pc ifd wt rc gw ec tp : Int32} {vl : Int64} {rm ls sp md hld pk : Int32} {kd ka kb op up bd pn sk f1 f2 lk sh cl wa wb se rg hm : Nat → Int32} {ra ef vi la sn : Nat → Int64} {qn qr qe : Nat → Int32} {qf qs : Nat → Int64} {al enn : Nat → Int32} {env : Nat → Int64} {enx frn fre frs frm : Nat → Int32} {frf : Nat → Int64} {fnd : Int32} {ow o1 o2 yc ck p1 p2 yh fi fa ynd clr mrk vla evl ndd icl ecl mkr cvl cis : Nat → Int32} {nf : Nat}
/-- the top frame ends on both sides with the value (v, b) -/
theorem rs_fin {N F σ T B M E M' : Nat} {r c : Nat → Nat} {G : Nat → Nat → Int64} {e n st fj lj : Nat → Nat} {qn' qr' qe' : Nat → Int32} {qf' qs' : Nat → Int64} {al1 mkr' cvl' cis' frs' : Nat → Int32} {v b pk' : Int32}
    (SF : sf_S N F kd ka kb up op sk sh cl rg hm ow o1 o2 yc yh r c) (S : rs_G N F kd ka kb up op sh r T B M E G e n st fj lj vl qn qr qe qf qs al enn env enx frn fre frs frm frf ynd clr mrk vla evl ndd icl ecl mkr cvl cis) (hσ : σ + T + 2 = 2 * B)
    (hM : M ≤ M') (hM1 : M' ≤ M + 1) (hm' : ∀ c, c < M → mkr' c = mkr c) (h01 : ∀ c, c < M' → al1 c = 0 ∨ al1 c = 1) (CE : ce_R N M' E kd ka kb up op sh r G qn' qr' qe' qf' qs' mkr' cvl' cis') (hs : ∀ j, j < T → frs' j = frs j)
    (tv : ty_V N M' kd op r mkr' v b (3 * n T)) :
    ∃ u' v', rz_R ml cnt pc ifd wt rc gw rm kd ka kb op up bd pn sk f1 f2 lk sh cl wa wb se rg hm ra ef vi la sn fnd ow o1 o2 yc ck p1 p2 yh fi fa nf (σ + 1) N F r u' v' ∧ (∀ post : SX → Prop, post u' → wpX_finish post (ml, nI F, cnt, pc, ifd, wt, rc, gw, nI E, nI (T + 1), en_c v b, rm, -1, nI B, nI M', nI (cn (fun c => al1 c = 1) M'), pk', kd, ka, kb, op, up, bd, pn, sk, f1, f2, lk, sh, cl, wa, wb, se, rg, hm, ra, ef, vi, la, sn, qn', qr', qe', qf', qs', al1, enn, env, enx, frn, fre, frs', frm, frf)) ∧
      (∀ (post : Int32 → SY → Prop) (J : Int32 → Int32 → Int32 → Int32 → Int32 → Int32 → Int32 → Int32 → Int32 → Int32 → (Nat → Int32) → (Nat → Int32) → (Nat → Int32) → (Nat → Int32) → (Nat → Int32) → (Nat → Int32) → (Nat → Int32) → (Nat → Int32) → (Nat → Int32) → (Nat → Int32) → (Nat → Int32) → (Nat → Int32) → (Nat → Int32) → (Nat → Int32) → (Nat → Int32) → (Nat → Int32) → (Nat → Int32) → (Nat → Int32) → (Nat → Int32) → (Nat → Int32) → (Nat → Int32) → (Nat → Int32) → (Nat → Int32) → (Nat → Int32) → (Nat → Int32) → (Nat → Int32) → Nat → Prop), yj_J J (nI (σ + 1)) v' → yv_B post J rm (nI σ) (nI (e T)) ml (nI F) cnt (-1) (nI B) (nI M') pk' fnd ifd kd ka kb up ow o1 o2 yc ck p1 p2 yh fi fa ynd clr mrk (upd vla (e T) v) evl (upd ndd (e T) 1) (upd icl (e T) b) ecl mkr' cvl' al1 cis' nf) := by
  obtain ⟨TT, C, hcl, RT, Y, hhm, hbd, hF⟩ := SF
  have hN := TT.1
  have b1 := S.1
  obtain ⟨t1, t2, t3, t4, ⟨mk, t5, t6, t7⟩, -, -, -, t11, -⟩ := (S.2.2.2.2.2.1 T (Nat.le_refl _)).1
  have hq : ∀ i, i < M' → ∃ j, j < 32 ∧ qr' i = nI j := fun i hi => by
    obtain ⟨m, q1, q2, -, -, q5, -⟩ := CE i hi
    exact ⟨_, (rg_lt TT C (bx_2 TT C q1 q2)).2, q5⟩
  have hmk : ∀ i, i < M' → ∃ m, m < 32 ∧ mkr' i = nI m := fun i hi => by
    obtain ⟨m, q1, -, -, q4, -⟩ := CE i hi
    exact ⟨m, by omega, q4⟩
  have PQ : ∀ i, (rm = 1 ∧ mk ≤ i ∧ i < M' ∧ hm (qr' i).toNatClampNeg = frn T) ↔ (rm = 1 ∧ mk ≤ i ∧ i < M' ∧ yh (yc (mkr' i).toNatClampNeg).toNatClampNeg = ynd (e T)) := by
    intro i
    refine and_congr Iff.rfl (and_congr Iff.rfl ⟨fun q => ⟨q.1, ?_⟩, fun q => ⟨q.1, ?_⟩⟩)
    all_goals
      obtain ⟨m, q1, q2, -, q4, q5, -⟩ := CE i q.1
      have Bm := bx_2 TT C q1 q2
      have J := rg_lt TT C Bm
      have Lm := Y.1 m (by omega)
      have e1 : hm (qr' i).toNatClampNeg = yh (yc (mkr' i).toNatClampNeg).toNatClampNeg := by
        rw [q5, nI_clamp (by omega), q4, nI_clamp (n := m) (by omega), Lm.2.1, nI_clamp (n := c m) (by omega), hhm _ Bm, xy_r TT C Y (by omega), ys_0]
    · rw [← e1, t3, ← t2]; exact q.2
    · rw [e1, t2, ← t3]; exact q.2
  have k01 := kl_01 (kl_i (fun i => rm = 1 ∧ mk ≤ i ∧ i < M' ∧ hm (qr' i).toNatClampNeg = frn T) al1) h01
  rcases T with _ | T
  · have e0 := S.2.2.2.2.2.2.1.2.1
    refine ⟨(ml, nI F, cnt, pc, ifd, wt, rc, gw, nI E, nI 0, en_c v b, rm, 0, nI B, nI M', nI (cn (fun c => kl_f (fun i => rm = 1 ∧ mk ≤ i ∧ i < M' ∧ hm (qr' i).toNatClampNeg = frn 0) al1 c = 1) M'), pk', kd, ka, kb, op, up, bd, pn, sk, f1, f2, lk, sh, cl, wa, wb, se, rg, hm, ra, ef, vi, la, sn, qn', qr', qe', qf', qs', kl_f (fun i => rm = 1 ∧ mk ≤ i ∧ i < M' ∧ hm (qr' i).toNatClampNeg = frn 0) al1, enn, env, enx, frn, fre, frs', frm, frf),
      (ml, nI F, cnt, 0, nI B, nI M', pk', fnd, ifd, kd, ka, kb, up, ow, o1, o2, yc, ck, p1, p2, yh, fi, fa, ynd, clr, mrk, upd vla (e 0) v, evl, upd ndd (e 0) 1, upd icl (e 0) b, ecl, mkr', cvl', kl_f (fun i => rm = 1 ∧ mk ≤ i ∧ i < M' ∧ hm (qr' i).toNatClampNeg = frn 0) al1, cis', nf), rz_in (Or.inr ⟨Or.inl rfl, M', rfl, by omega, k01, rfl, fun _ => ⟨ce_ce CE, ?_, ?_⟩⟩), fun post K => ?_, fun post J K => ?_⟩
    · rw [e0, pk_us, pk_us]
      exact ty_va tv
    · rw [e0, pk_us, pk_us]
    · refine xr_fi (by omega) (by omega) (by omega) hq h01 t6 (fun al' ls' g1 g2 k => ?_)
      have ea := kl_fu (P := fun i => rm = 1 ∧ mk ≤ i ∧ i < M' ∧ hm (qr' i).toNatClampNeg = frn 0) k (fun i => Iff.rfl)
      have el := g1 rfl
      subst ea el
      exact K
    · refine yv_en (mk := mk) (by omega) (by omega) hmk Y.1 pk_us (by omega) t7 (Or.inl e0) (fun al' ls' k g1 g2 => ?_)
      have ea := kl_fu (P := fun i => rm = 1 ∧ mk ≤ i ∧ i < M' ∧ hm (qr' i).toNatClampNeg = frn 0) k PQ
      have el := g1 e0
      subst ea el
      exact K
  · have P := rs_pop (al' := kl_f (fun i => rm = 1 ∧ mk ≤ i ∧ i < M' ∧ hm (qr' i).toNatClampNeg = frn (T + 1)) al1) (frs' := frs') S hM hM1 hm' k01 CE (fun j hj => hs j (by omega)) tv
    have sr := S.2.2.2.2.2.2.1
    have eT := sr.1 0 (T + 1) (by omega) (Nat.le_refl _)
    have n0 : ndd 0 = 0 := (sr.2.2.2 0 (by omega)).mpr ⟨0, by omega, sr.2.1.symm⟩
    refine ⟨(ml, nI F, cnt, pc, ifd, wt, rc, gw, nI E, nI (T + 1), en_c v b, rm, -1, nI B, nI M', nI (cn (fun c => kl_f (fun i => rm = 1 ∧ mk ≤ i ∧ i < M' ∧ hm (qr' i).toNatClampNeg = frn (T + 1)) al1 c = 1) M'), pk', kd, ka, kb, op, up, bd, pn, sk, f1, f2, lk, sh, cl, wa, wb, se, rg, hm, ra, ef, vi, la, sn, qn', qr', qe', qf', qs', kl_f (fun i => rm = 1 ∧ mk ≤ i ∧ i < M' ∧ hm (qr' i).toNatClampNeg = frn (T + 1)) al1, enn, env, enx, frn, fre, frs', frm, frf),
      (ml, nI F, cnt, -1, nI B, nI M', pk', fnd, ifd, kd, ka, kb, up, ow, o1, o2, yc, ck, p1, p2, yh, fi, fa, ynd, clr, mrk, upd vla (e (T + 1)) v, evl, upd ndd (e (T + 1)) 1, upd icl (e (T + 1)) b, ecl, mkr', cvl', kl_f (fun i => rm = 1 ∧ mk ≤ i ∧ i < M' ∧ hm (qr' i).toNatClampNeg = frn (T + 1)) al1, cis', nf), rz_in (Or.inl ⟨rfl, T, B, M', E, G, e, n, st, fj, lj, rfl, rfl, rfl, rfl, rfl, by omega, P⟩), fun post K => ?_, fun post J K => ?_⟩
    · refine xr_fi (by omega) (by omega) (by omega) hq h01 t6 (fun al' ls' g1 g2 k => ?_)
      have ea := kl_fu (P := fun i => rm = 1 ∧ mk ≤ i ∧ i < M' ∧ hm (qr' i).toNatClampNeg = frn (T + 1)) k (fun i => Iff.rfl)
      have el := g2 (by omega)
      subst ea el
      exact K
    · refine yv_en (mk := mk) (by omega) (by omega) hmk Y.1 pk_us (by omega) t7 (Or.inr (by rw [pk_un (by omega)]; exact n0)) (fun al' ls' k g1 g2 => ?_)
      have ea := kl_fu (P := fun i => rm = 1 ∧ mk ≤ i ∧ i < M' ∧ hm (qr' i).toNatClampNeg = frn (T + 1)) k PQ
      have el := g2 (by omega)
      subst ea el
      exact K
end
end
section
section
variable {ml fl cnt pc ifd wt rc gw ec tp : Int32} {vl : Int64} {rm ls sp md hld pk : Int32} {kd ka kb op up bd pn sk f1 f2 lk sh cl wa wb se rg hm : Nat → Int32} {ra ef vi la sn : Nat → Int64} {qn qr qe : Nat → Int32} {qf qs : Nat → Int64} {al enn : Nat → Int32} {env : Nat → Int64} {enx frn fre frs frm : Nat → Int32} {frf : Nat → Int64} {fnd : Int32} {ow o1 o2 yc ck p1 p2 yh fi fa ynd clr mrk vla evl ndd icl ecl mkr cvl cis : Nat → Int32} {nf : Nat}
theorem rs_act {N F T B M E : Nat} {r : Nat → Nat} {G : Nat → Nat → Int64} {e n st fj lj : Nat → Nat} (S : rs_G N F kd ka kb up op sh r T B M E G e n st fj lj vl qn qr qe qf qs al enn env enx frn fre frs frm frf ynd clr mrk vla evl ndd icl ecl mkr cvl cis) : ndd (e T) = 0 ∧ ndd 0 = 0 ∧ e T < B ∧ (∀ i, e T < i → i < B → ndd i = 1) := by
  have sr := S.2.2.2.2.2.2.1
  have eB := (S.2.2.2.2.2.1 T (Nat.le_refl _)).1.2.2.2.2.2.2.2.2.1
  refine ⟨(sr.2.2.2 _ eB).mpr ⟨T, Nat.le_refl _, rfl⟩, (sr.2.2.2 0 (by omega)).mpr ⟨0, by omega, sr.2.1.symm⟩, eB, fun i h1 h2 => ?_⟩
  rcases (S.2.2.2.2.1 i h2).1 with z | z
  · obtain ⟨j, q1, q2⟩ := (sr.2.2.2 i h2).mp z
    rcases Classical.em (j = T) with w | w
    · subst w; omega
    · have := sr.1 j T (by omega) (Nat.le_refl _)
      omega
  · exact z
/-- an operand of the top frame's node begins on both sides -/
theorem rs_beg {N F σ T B M E c0 : Nat} {r c : Nat → Nat} {G : Nat → Nat → Int64} {e n st fj lj : Nat → Nat} {frf' : Nat → Int64}
    (SF : sf_S N F kd ka kb up op sk sh cl rg hm ow o1 o2 yc yh r c) (S : rs_G N F kd ka kb up op sh r T B M E G e n st fj lj vl qn qr qe qf qs al enn env enx frn fre frs frm frf ynd clr mrk vla evl ndd icl ecl mkr cvl cis) (hσ : σ + T + 2 = 2 * B)
    (hc : c0 < N) (hup : up c0 = nI (n T)) (hk2 : kd (n T) ≠ 2)
    (hk : (kd (n T) = 0 ∨ kd (n T) = 1 ∨ kd (n T) = 2 → False) ∧ (kd (n T) = 5 ∨ kd (n T) = 6 → st T = 0) ∧ (kd (n T) = 4 ∨ kd (n T) = 7 ∨ kd (n T) = 8 → st T ≤ 1) ∧ st T ≤ 2)
    (g0 : st T = 0 → c0 = tm_c op (n T) 0) (g1 : st T = 1 → kd (n T) ≠ 7 → c0 = tm_c op (n T) 1) (g2 : (kd (n T) = 7 ∧ st T = 1) ∨ st T = 2 → r (3 * c0) = r (3 * n T))
    (hf : ∀ j, j < T → frf' j = frf j) (hfT : 1 ≤ st T → kd (n T) ≠ 7 → ndd (fj T) = 1 ∧ frf' T = en_c (vla (fj T)) (icl (fj T))) :
    ∃ u' v', rz_R ml cnt pc ifd wt rc gw rm kd ka kb op up bd pn sk f1 f2 lk sh cl wa wb se rg hm ra ef vi la sn fnd ow o1 o2 yc ck p1 p2 yh fi fa nf (σ + 1) N F r u' v' ∧ (∀ post : SX → Prop, post u' → wpX_begin post (ml, nI F, cnt, pc, ifd, wt, rc, gw, nI E, nI (T + 1), vl, rm, -1, nI B, nI M, nI (cn (fun c => al c = 1) M), pk, kd, ka, kb, op, up, bd, pn, sk, f1, f2, lk, sh, cl, wa, wb, se, rg, hm, ra, ef, vi, la, sn, qn, qr, qe, qf, qs, al, enn, env, enx, frn, fre, upd frs T (nI (st T + 1)), frm, frf') (nI c0) (fre T)) ∧
      (∀ (post : Int32 → SY → Prop) (J : Int32 → Int32 → Int32 → Int32 → Int32 → Int32 → Int32 → Int32 → Int32 → Int32 → (Nat → Int32) → (Nat → Int32) → (Nat → Int32) → (Nat → Int32) → (Nat → Int32) → (Nat → Int32) → (Nat → Int32) → (Nat → Int32) → (Nat → Int32) → (Nat → Int32) → (Nat → Int32) → (Nat → Int32) → (Nat → Int32) → (Nat → Int32) → (Nat → Int32) → (Nat → Int32) → (Nat → Int32) → (Nat → Int32) → (Nat → Int32) → (Nat → Int32) → (Nat → Int32) → (Nat → Int32) → (Nat → Int32) → (Nat → Int32) → (Nat → Int32) → (Nat → Int32) → Nat → Prop), yj_J J (nI (σ + 1)) v' → wpY_begin (fun u => match u with | (ml', fl', cnt', ls', sp', md', pk', fnd', ifd', kd', ka', kb', up', ow', o1', o2', yc', ck', p1', p2', yh', fi', fa', ynd', clr', mrk', vla', evl', ndd', icl', ecl', mkr', cvl', al', cis', nf') => yv_B post J rm (nI σ) (nI (e T)) ml' fl' cnt' ls' sp' md' pk' fnd' ifd' kd' ka' kb' up' ow' o1' o2' yc' ck' p1' p2' yh' fi' fa' ynd' clr' mrk' vla' evl' ndd' icl' ecl' mkr' cvl' al' cis' nf') (ml, nI F, cnt, -1, nI B, nI M, pk, fnd, ifd, kd, ka, kb, up, ow, o1, o2, yc, ck, p1, p2, yh, fi, fa, ynd, clr, mrk, vla, evl, ndd, icl, ecl, mkr, cvl, al, cis, nf) (nI c0) (nI (e T))) := by
  obtain ⟨TT, C, hcl, RT, Y, hhm, hbd, hF⟩ := SF
  have hN := TT.1
  have b1 := S.1
  obtain ⟨a1, a2, a3, a4⟩ := rs_act S
  obtain ⟨t1, t2, t3, t4, -, t8, t9, -⟩ := (S.2.2.2.2.2.1 T (Nat.le_refl _)).1
  have hby : ((nI (e T) = -1 ∧ (∀ i, i < 8 → (fun x => evl (e T * 8 + x)) i = 0 ∧ (fun x => ecl (e T * 8 + x)) i = 0)) ∨ ∃ e', e' < B ∧ nI (e T) = nI e' ∧ ∀ i, i < 8 → (fun x => evl (e T * 8 + x)) i = evl (e' * 8 + i) ∧ (fun x => ecl (e T * 8 + x)) i = ecl (e' * 8 + i) ∧ (ecl (e' * 8 + i) = 0 ∨ ecl (e' * 8 + i) = 1)) := Or.inr ⟨e T, a3, rfl, fun i hi => ⟨rfl, rfl, (t8.2 i hi).2⟩⟩
  rcases Nat.lt_or_ge B F with hB | hB
  · have P := rs_push (c := c0) (ev := fre T) (frf' := frf') hF S hB (Nat.le_refl E) (by omega) (fun _ _ _ => rfl) S.2.2.1 hc t8 (we_d TT t9 t1 hc hup hk2) rw_i hk g0 g1 g2 hf hfT
    refine ⟨(ml, nI F, cnt, pc, ifd, wt, rc, gw, nI E, nI (T + 1 + 1), vl, rm, -1, nI (B + 1), nI M, nI (cn (fun c => al c = 1) M), pk, kd, ka, kb, op, up, bd, pn, sk, f1, f2, lk, sh, cl, wa, wb, se, rg, hm, ra, ef, vi, la, sn, qn, qr, qe, qf, qs, al, enn, env, enx, upd frn (T + 1) (nI c0), upd fre (T + 1) (fre T), upd (upd frs T (nI (st T + 1))) (T + 1) 0, upd frm (T + 1) (nI M), frf'),
      (ml, nI F, cnt, -1, nI (B + 1), nI M, pk, fnd, ifd, kd, ka, kb, up, ow, o1, o2, yc, ck, p1, p2, yh, fi, fa, upd ynd B (nI c0), upd clr B (nI (e T)), upd mrk B (nI M), vla, rw_f B evl (fun x => evl (e T * 8 + x)), upd ndd B 0, icl, rw_f B ecl (fun x => ecl (e T * 8 + x)), mkr, cvl, al, cis, nf), rz_in (Or.inl ⟨rfl, T + 1, B + 1, M, E, G, _, _, _, _, _, rfl, rfl, rfl, rfl, rfl, by omega, P⟩), fun post K => ?_, fun post J K => ?_⟩
    · exact xr_be (by omega) (by omega) (fun _ => by omega) (fun _ => K) (fun z => absurd hB z)
    · refine yb_be (by omega) hF hby (fun _ evl' ecl' R => ?_) (fun z => absurd hB z)
      obtain ⟨q1, q2⟩ := rw_u R
      subst q1 q2
      exact yv_go (by omega) (by rw [pk_un (by omega)]; exact a1) (by rw [pk_un (by omega)]; exact a2) K
  · refine ⟨(ml, nI F, cnt, pc, ifd, wt, rc, gw, nI E, nI (T + 1), vl, rm, 1, nI B, nI M, nI (cn (fun c => al c = 1) M), pk, kd, ka, kb, op, up, bd, pn, sk, f1, f2, lk, sh, cl, wa, wb, se, rg, hm, ra, ef, vi, la, sn, qn, qr, qe, qf, qs, al, enn, env, enx, frn, fre, upd frs T (nI (st T + 1)), frm, frf'), (ml, nI F, cnt, 1, nI B, nI M, pk, fnd, ifd, kd, ka, kb, up, ow, o1, o2, yc, ck, p1, p2, yh, fi, fa, ynd, clr, mrk, vla, evl, ndd, icl, ecl, mkr, cvl, al, cis, nf), rz_in (Or.inr ⟨Or.inr (Or.inl rfl), M, rfl, by omega, S.2.1, rfl, fun z => absurd z (by decide)⟩), fun post K => ?_, fun post J K => ?_⟩
    · exact xr_be (by omega) (by omega) (fun z => absurd z (by omega)) (fun z => absurd z (by omega)) (fun _ => K)
    · exact yb_be (by omega) hF hby (fun z => absurd z (by omega)) (fun _ => yv_go (by omega) a1 a2 K)
/-- a body begins on both sides, on top of its closure's environment -/
theorem rs_call {N F σ T B M E d0 m : Nat} {r c : Nat → Nat} {G : Nat → Nat → Int64} {e n st fj lj : Nat → Nat}
    (SF : sf_S N F kd ka kb up op sk sh cl rg hm ow o1 o2 yc yh r c) (S : rs_G N F kd ka kb up op sh r T B M E G e n st fj lj vl qn qr qe qf qs al enn env enx frn fre frs frm frf ynd clr mrk vla evl ndd icl ecl mkr cvl cis) (hσ : σ + T + 2 = 2 * B) (k3 : kd (n T) = 3) (hst : st T = 2)
    (hd : d0 < M) (hm' : m < N) (km : kd m = 2) (eq2 : mkr d0 = nI m) (evr : ev_R E G (qe d0) (fun x => cvl (d0 * 8 + x)) (fun x => cis (d0 * 8 + x))) (wet : we_T N M kd ka kb up op r mkr (fun x => cvl (d0 * 8 + x)) (fun x => cis (d0 * 8 + x)) m)
    (evf : vla (fj T) = nI d0) (tx : ty_V N M kd op r mkr (vla (fj T)) (icl (fj T)) (3 * m)) (ty : ty_V N M kd op r mkr (vla (lj T)) (icl (lj T)) (3 * m + 1)) (rr : r (3 * tm_c op m 0) = r (3 * n T)) :
    ∃ u' v', rz_R ml cnt pc ifd wt rc gw rm kd ka kb op up bd pn sk f1 f2 lk sh cl wa wb se rg hm ra ef vi la sn fnd ow o1 o2 yc ck p1 p2 yh fi fa nf (σ + 1) N F r u' v' ∧ (∀ post : SX → Prop, post u' → wpX_bind (fun r_63 u => match u with | (ml', fl', cnt', pc', ifd', wt', rc', gw', ec', tp', vl', rm', ls', sp', md', hld', pk', kd', ka', kb', op', up', bd', pn', sk', f1', f2', lk', sh', cl', wa', wb', se', rg', hm', ra', ef', vi', la', sn', qn', qr', qe', qf', qs', al', enn', env', enx', frn', fre', frs', frm', frf') => (vp_in (nI m) 32 ∧ (wpX_bind (fun r_119 u => match u with | (ml'', fl'', cnt'', pc'', ifd'', wt'', rc'', gw'', ec'', tp'', vl'', rm'', ls'', sp'', md'', hld'', pk'', kd'', ka'', kb'', op'', up'', bd'', pn'', sk'', f1'', f2'', lk'', sh'', cl'', wa'', wb'', se'', rg'', hm'', ra'', ef'', vi'', la'', sn'', qn'', qr'', qe'', qf'', qs'', al'', enn'', env'', enx'', frn'', fre'', frs'', frm'', frf'') => (vp_in (3 * (nI m)) 96 ∧ (wpX_begin (fun u => match u with | (ml''', fl''', cnt''', pc''', ifd''', wt''', rc''', gw''', ec''', tp''', vl''', rm''', ls''', sp''', md''', hld''', pk''', kd''', ka''', kb''', op''', up''', bd''', pn''', sk''', f1''', f2''', lk''', sh''', cl''', wa''', wb''', se''', rg''', hm''', ra''', ef''', vi''', la''', sn''', qn''', qr''', qe''', qf''', qs''', al''', enn''', env''', enx''', frn''', fre''', frs''', frm''', frf''') => (post (ml''', fl''', cnt''', pc''', ifd''', wt''', rc''', gw''', ec''', tp''', vl''', rm''', ls''', sp''', md''', hld''', pk''', kd''', ka''', kb''', op''', up''', bd''', pn''', sk''', f1''', f2''', lk''', sh''', cl''', wa''', wb''', se''', rg''', hm''', ra''', ef''', vi''', la''', sn''', qn''', qr''', qe''', qf''', qs''', al''', enn''', env''', enx''', frn''', fre''', frs''', frm''', frf'''))) (ml'', fl'', cnt'', pc'', ifd'', wt'', rc'', gw'', ec'', tp'', vl'', rm'', ls'', sp'', md'', hld'', pk'', kd'', ka'', kb'', op'', up'', bd'', pn'', sk'', f1'', f2'', lk'', sh'', cl'', wa'', wb'', se'', rg'', hm'', ra'', ef'', vi'', la'', sn'', qn'', qr'', qe'', qf'', qs'', al'', enn'', env'', enx'', frn'', fre'', frs'', frm'', frf'') (op'' (3 * (nI m)).toNatClampNeg) r_119))) (ml', fl', cnt', pc', ifd', wt', rc', gw', ec', tp', vl', rm', ls', sp', md', hld', pk', kd', ka', kb', op', up', bd', pn', sk', f1', f2', lk', sh', cl', wa', wb', se', rg', hm', ra', ef', vi', la', sn', qn', qr', qe', qf', qs', al', enn', env', enx', frn', fre', frs', frm', frf') r_63 (kb' (nI m).toNatClampNeg) vl'))) (ml, nI F, cnt, pc, ifd, wt, rc, gw, nI E, nI (T + 1), vl, rm, -1, nI B, nI M, nI (cn (fun c => al c = 1) M), pk, kd, ka, kb, op, up, bd, pn, sk, f1, f2, lk, sh, cl, wa, wb, se, rg, hm, ra, ef, vi, la, sn, qn, qr, qe, qf, qs, al, enn, env, enx, frn, fre, upd frs T (nI (st T + 1)), frm, frf) (qe d0) (ka m) (en_c (vla (fj T)) (icl (fj T)))) ∧
      (∀ (post : Int32 → SY → Prop) (J : Int32 → Int32 → Int32 → Int32 → Int32 → Int32 → Int32 → Int32 → Int32 → Int32 → (Nat → Int32) → (Nat → Int32) → (Nat → Int32) → (Nat → Int32) → (Nat → Int32) → (Nat → Int32) → (Nat → Int32) → (Nat → Int32) → (Nat → Int32) → (Nat → Int32) → (Nat → Int32) → (Nat → Int32) → (Nat → Int32) → (Nat → Int32) → (Nat → Int32) → (Nat → Int32) → (Nat → Int32) → (Nat → Int32) → (Nat → Int32) → (Nat → Int32) → (Nat → Int32) → (Nat → Int32) → (Nat → Int32) → (Nat → Int32) → (Nat → Int32) → (Nat → Int32) → Nat → Prop), yj_J J (nI (σ + 1)) v' → wpY_call (fun u => match u with | (ml', fl', cnt', ls', sp', md', pk', fnd', ifd', kd', ka', kb', up', ow', o1', o2', yc', ck', p1', p2', yh', fi', fa', ynd', clr', mrk', vla', evl', ndd', icl', ecl', mkr', cvl', al', cis', nf') => yv_B post J rm (nI σ) (nI (e T)) ml' fl' cnt' ls' sp' md' pk' fnd' ifd' kd' ka' kb' up' ow' o1' o2' yc' ck' p1' p2' yh' fi' fa' ynd' clr' mrk' vla' evl' ndd' icl' ecl' mkr' cvl' al' cis' nf') (ml, nI F, cnt, -1, nI B, nI M, pk, fnd, ifd, kd, ka, kb, up, ow, o1, o2, yc, ck, p1, p2, yh, fi, fa, ynd, clr, mrk, vla, evl, ndd, icl, ecl, mkr, cvl, al, cis, nf) (nI (e T)) (nI (fj T)) (nI (lj T))) := by
  obtain ⟨TT, C, hcl, RT, Y, hhm, hbd, hF⟩ := SF
  have hN := TT.1
  have b1 := S.1
  obtain ⟨a1, a2, a3, a4⟩ := rs_act S
  obtain ⟨⟨t1, t2, t3, t4, -, t8, t9, -, t11, t12, t13⟩, tc, tv⟩ := S.2.2.2.2.2.1 T (Nat.le_refl _)
  obtain ⟨la1, lv⟩ := S.2.2.2.2.2.2.2 (by omega)
  have fv := tv (by omega) (by rw [k3]; decide)
  have c0 := TT.2.2.2.1.1 m 0 hm' (by rw [ar_2 km]; omega)
  obtain ⟨A, hA, eA⟩ := (TT.2.2.2.2 m hm').1 (Or.inr km)
  obtain ⟨B', hB', eB'⟩ := (TT.2.2.2.2 m hm').2 km
  have hfx : (icl (fj T) = 0 ∨ icl (fj T) = 1) ∧ (icl (lj T) = 0 ∨ icl (lj T) = 1) ∧ ∀ i, i < 8 → cis (d0 * 8 + i) = 0 ∨ cis (d0 * 8 + i) = 1 := ⟨ty_01 tx, ty_01 ty, fun i hi => (evr.2 i hi).2⟩
  obtain ⟨G', hG', V', R'⟩ := ev_b (x := vla (fj T)) (x' := icl (fj T)) (y := vla (lj T)) (y' := icl (lj T)) (by omega) S.2.2.1 evr hA hB' (ty_01 tx) (ty_01 ty)
  rw [← lv] at V'
  have W' := we_b TT wet hm' (c := tm_c op m 0) (by omega) c0.2.2 km tx ty
  rw [eA, eB'] at W'
  have e3 : (3 : Int32) * nI m = nI (3 * m) := pk_mul 3 m
  have opm : op (3 * nI m).toNatClampNeg = nI (tm_c op m 0) := by rw [e3, nI_clamp (by omega)]; exact c0.1
  have h01 : ∀ i, i < 8 → ecl (e T * 8 + i) = 0 ∨ ecl (e T * 8 + i) = 1 := fun i hi => (t8.2 i hi).2
  have n7 : kd (n T) ≠ 7 := by rw [k3]; decide
  have xall : ∀ (post : SX → Prop), (B < F → post (ml, nI F, cnt, pc, ifd, wt, rc, gw, nI (E + 2), nI (T + 1 + 1), vl, rm, -1, nI (B + 1), nI M, nI (cn (fun c => al c = 1) M), pk, kd, ka, kb, op, up, bd, pn, sk, f1, f2, lk, sh, cl, wa, wb, se, rg, hm, ra, ef, vi, la, sn, qn, qr, qe, qf, qs, al, upd (upd enn E (nI A)) (E + 1) (nI B'), vp_updL (vp_updL env E (en_c (vla (fj T)) (icl (fj T)))) (E + 1) vl, upd (upd enx E (qe d0)) (E + 1) (nI E), upd frn (T + 1) (nI (tm_c op m 0)), upd fre (T + 1) (nI (E + 1)), upd (upd frs T (nI (st T + 1))) (T + 1) 0, upd frm (T + 1) (nI M), frf)) → (¬ B < F → post (ml, nI F, cnt, pc, ifd, wt, rc, gw, nI (E + 2), nI (T + 1), vl, rm, 1, nI B, nI M, nI (cn (fun c => al c = 1) M), pk, kd, ka, kb, op, up, bd, pn, sk, f1, f2, lk, sh, cl, wa, wb, se, rg, hm, ra, ef, vi, la, sn, qn, qr, qe, qf, qs, al, upd (upd enn E (nI A)) (E + 1) (nI B'), vp_updL (vp_updL env E (en_c (vla (fj T)) (icl (fj T)))) (E + 1) vl, upd (upd enx E (qe d0)) (E + 1) (nI E), frn, fre, upd frs T (nI (st T + 1)), frm, frf)) →
      wpX_bind (fun r_63 u => match u with | (ml', fl', cnt', pc', ifd', wt', rc', gw', ec', tp', vl', rm', ls', sp', md', hld', pk', kd', ka', kb', op', up', bd', pn', sk', f1', f2', lk', sh', cl', wa', wb', se', rg', hm', ra', ef', vi', la', sn', qn', qr', qe', qf', qs', al', enn', env', enx', frn', fre', frs', frm', frf') => (vp_in (nI m) 32 ∧ (wpX_bind (fun r_119 u => match u with | (ml'', fl'', cnt'', pc'', ifd'', wt'', rc'', gw'', ec'', tp'', vl'', rm'', ls'', sp'', md'', hld'', pk'', kd'', ka'', kb'', op'', up'', bd'', pn'', sk'', f1'', f2'', lk'', sh'', cl'', wa'', wb'', se'', rg'', hm'', ra'', ef'', vi'', la'', sn'', qn'', qr'', qe'', qf'', qs'', al'', enn'', env'', enx'', frn'', fre'', frs'', frm'', frf'') => (vp_in (3 * (nI m)) 96 ∧ (wpX_begin (fun u => match u with | (ml''', fl''', cnt''', pc''', ifd''', wt''', rc''', gw''', ec''', tp''', vl''', rm''', ls''', sp''', md''', hld''', pk''', kd''', ka''', kb''', op''', up''', bd''', pn''', sk''', f1''', f2''', lk''', sh''', cl''', wa''', wb''', se''', rg''', hm''', ra''', ef''', vi''', la''', sn''', qn''', qr''', qe''', qf''', qs''', al''', enn''', env''', enx''', frn''', fre''', frs''', frm''', frf''') => (post (ml''', fl''', cnt''', pc''', ifd''', wt''', rc''', gw''', ec''', tp''', vl''', rm''', ls''', sp''', md''', hld''', pk''', kd''', ka''', kb''', op''', up''', bd''', pn''', sk''', f1''', f2''', lk''', sh''', cl''', wa''', wb''', se''', rg''', hm''', ra''', ef''', vi''', la''', sn''', qn''', qr''', qe''', qf''', qs''', al''', enn''', env''', enx''', frn''', fre''', frs''', frm''', frf'''))) (ml'', fl'', cnt'', pc'', ifd'', wt'', rc'', gw'', ec'', tp'', vl'', rm'', ls'', sp'', md'', hld'', pk'', kd'', ka'', kb'', op'', up'', bd'', pn'', sk'', f1'', f2'', lk'', sh'', cl'', wa'', wb'', se'', rg'', hm'', ra'', ef'', vi'', la'', sn'', qn'', qr'', qe'', qf'', qs'', al'', enn'', env'', enx'', frn'', fre'', frs'', frm'', frf'') (op'' (3 * (nI m)).toNatClampNeg) r_119))) (ml', fl', cnt', pc', ifd', wt', rc', gw', ec', tp', vl', rm', ls', sp', md', hld', pk', kd', ka', kb', op', up', bd', pn', sk', f1', f2', lk', sh', cl', wa', wb', se', rg', hm', ra', ef', vi', la', sn', qn', qr', qe', qf', qs', al', enn', env', enx', frn', fre', frs', frm', frf') r_63 (kb' (nI m).toNatClampNeg) vl'))) (ml, nI F, cnt, pc, ifd, wt, rc, gw, nI E, nI (T + 1), vl, rm, -1, nI B, nI M, nI (cn (fun c => al c = 1) M), pk, kd, ka, kb, op, up, bd, pn, sk, f1, f2, lk, sh, cl, wa, wb, se, rg, hm, ra, ef, vi, la, sn, qn, qr, qe, qf, qs, al, enn, env, enx, frn, fre, upd frs T (nI (st T + 1)), frm, frf) (qe d0) (ka m) (en_c (vla (fj T)) (icl (fj T))) := by
    intro post K1 K0
    rw [eA]
    refine xr_bi (by omega) ⟨pk_in m 32 (by omega), ?_⟩
    show wpX_bind _ _ _ (kb (nI m).toNatClampNeg) vl
    rw [nI_clamp (n := m) (by omega), eB']
    refine xr_bi (by omega) ⟨pk_in (3 * m) 96 (by omega) e3, ?_⟩
    show wpX_begin _ _ (op (3 * nI m).toNatClampNeg) _
    rw [opm]
    exact xr_be (by omega) (by omega) (fun z => by omega) K1 K0
  rcases Nat.lt_or_ge B F with hB | hB
  · have P := rs_push (c := tm_c op m 0) (ev := nI (E + 1)) (frf' := frf) hF S hB (by omega : E ≤ E + 2) (by omega) hG' V' (by omega) R' W' rw_i ⟨by rw [k3]; decide, fun z => absurd z (by rw [k3]; decide), fun z => absurd z (by rw [k3]; decide), by omega⟩ (fun z => absurd z (by omega)) (fun z => absurd z (by omega)) (fun _ => rr) (fun _ _ => rfl) (fun _ _ => fv)
    refine ⟨(ml, nI F, cnt, pc, ifd, wt, rc, gw, nI (E + 2), nI (T + 1 + 1), vl, rm, -1, nI (B + 1), nI M, nI (cn (fun c => al c = 1) M), pk, kd, ka, kb, op, up, bd, pn, sk, f1, f2, lk, sh, cl, wa, wb, se, rg, hm, ra, ef, vi, la, sn, qn, qr, qe, qf, qs, al, upd (upd enn E (nI A)) (E + 1) (nI B'), vp_updL (vp_updL env E (en_c (vla (fj T)) (icl (fj T)))) (E + 1) vl, upd (upd enx E (qe d0)) (E + 1) (nI E), upd frn (T + 1) (nI (tm_c op m 0)), upd fre (T + 1) (nI (E + 1)), upd (upd frs T (nI (st T + 1))) (T + 1) 0, upd frm (T + 1) (nI M), frf), (ml, nI F, cnt, -1, nI (B + 1), nI M, pk, fnd, ifd, kd, ka, kb, up, ow, o1, o2, yc, ck, p1, p2, yh, fi, fa, upd ynd B (nI (tm_c op m 0)), upd clr B (nI (e T)), upd mrk B (nI M), vla, rw_f B evl (cr_g (nI A) (nI B') (vla (fj T)) (vla (lj T)) (fun x => cvl (d0 * 8 + x))), upd ndd B 0, icl, rw_f B ecl (cr_g (nI A) (nI B') (icl (fj T)) (icl (lj T)) (fun x => cis (d0 * 8 + x))), mkr, cvl, al, cis, nf), rz_in (Or.inl ⟨rfl, T + 1, B + 1, M, E + 2, G', _, _, _, _, _, rfl, rfl, rfl, rfl, rfl, by omega, P⟩), fun post K => xall post (fun _ => K) (fun z => absurd hB z), fun post J K => ?_⟩
    refine yc_ca TT (by omega) hF a3 (by omega) (by omega) (by omega) hm' km rfl evf eq2 h01 hfx (fun _ evl' ecl' R => ?_) (fun z => absurd hB z)
    rw [eA, eB'] at R
    obtain ⟨q1, q2⟩ := rw_u R
    subst q1 q2
    exact yv_go (by omega) (by rw [pk_un (by omega)]; exact a1) (by rw [pk_un (by omega)]; exact a2) K
  · refine ⟨(ml, nI F, cnt, pc, ifd, wt, rc, gw, nI (E + 2), nI (T + 1), vl, rm, 1, nI B, nI M, nI (cn (fun c => al c = 1) M), pk, kd, ka, kb, op, up, bd, pn, sk, f1, f2, lk, sh, cl, wa, wb, se, rg, hm, ra, ef, vi, la, sn, qn, qr, qe, qf, qs, al, upd (upd enn E (nI A)) (E + 1) (nI B'), vp_updL (vp_updL env E (en_c (vla (fj T)) (icl (fj T)))) (E + 1) vl, upd (upd enx E (qe d0)) (E + 1) (nI E), frn, fre, upd frs T (nI (st T + 1)), frm, frf), (ml, nI F, cnt, 1, nI B, nI M, pk, fnd, ifd, kd, ka, kb, up, ow, o1, o2, yc, ck, p1, p2, yh, fi, fa, ynd, clr, mrk, vla, evl, ndd, icl, ecl, mkr, cvl, al, cis, nf), rz_in (Or.inr ⟨Or.inr (Or.inl rfl), M, rfl, by omega, S.2.1, rfl, fun z => absurd z (by decide)⟩), fun post K => xall post (fun z => absurd z (by omega)) (fun _ => K), fun post J K => ?_⟩
    exact yc_ca TT (by omega) hF a3 (by omega) (by omega) (by omega) hm' km rfl evf eq2 h01 hfx (fun z => absurd z (by omega)) (fun _ => yv_go (by omega) a1 a2 K)
end
end
section
/-- the component's step behind its opening -/
def xs_B (post : SX → Prop) (T n st k : Int32) (ml fl cnt pc ifd wt rc gw ec tp : Int32) (vl : Int64) (rm ls sp md hld pk : Int32) (kd ka kb op up bd pn sk f1 f2 lk sh cl wa wb se rg hm : Nat → Int32) (ra ef vi la sn : Nat → Int64) (qn qr qe : Nat → Int32) (qf qs : Nat → Int64) (al enn : Nat → Int32) (env : Nat → Int64) (enx frn fre frs frm : Nat → Int32) (frf : Nat → Int64) : Prop :=
  ((2 < k → (((st = 0 → (vp_in (3 * n) 96 ∧ (vp_in T 240 ∧ (wpX_begin (fun u => match u with | (ml', fl', cnt', pc', ifd', wt', rc', gw', ec', tp', vl', rm', ls', sp', md', hld', pk', kd', ka', kb', op', up', bd', pn', sk', f1', f2', lk', sh', cl', wa', wb', se', rg', hm', ra', ef', vi', la', sn', qn', qr', qe', qf', qs', al', enn', env', enx', frn', fre', frs', frm', frf') => (post (ml', fl', cnt', pc', ifd', wt', rc', gw', ec', tp', vl', rm', ls', sp', md', hld', pk', kd', ka', kb', op', up', bd', pn', sk', f1', f2', lk', sh', cl', wa', wb', se', rg', hm', ra', ef', vi', la', sn', qn', qr', qe', qf', qs', al', enn', env', enx', frn', fre', frs', frm', frf'))) (ml, fl, cnt, pc, ifd, wt, rc, gw, ec, tp, vl, rm, ls, sp, md, hld, pk, kd, ka, kb, op, up, bd, pn, sk, f1, f2, lk, sh, cl, wa, wb, se, rg, hm, ra, ef, vi, la, sn, qn, qr, qe, qf, qs, al, enn, env, enx, frn, fre, frs, frm, frf) (op (3 * n).toNatClampNeg) (fre T.toNatClampNeg))))) ∧ (¬ st = 0 → (((st = 1 → (wpX_afterFirst (fun u => match u with | (ml', fl', cnt', pc', ifd', wt', rc', gw', ec', tp', vl', rm', ls', sp', md', hld', pk', kd', ka', kb', op', up', bd', pn', sk', f1', f2', lk', sh', cl', wa', wb', se', rg', hm', ra', ef', vi', la', sn', qn', qr', qe', qf', qs', al', enn', env', enx', frn', fre', frs', frm', frf') => (post (ml', fl', cnt', pc', ifd', wt', rc', gw', ec', tp', vl', rm', ls', sp', md', hld', pk', kd', ka', kb', op', up', bd', pn', sk', f1', f2', lk', sh', cl', wa', wb', se', rg', hm', ra', ef', vi', la', sn', qn', qr', qe', qf', qs', al', enn', env', enx', frn', fre', frs', frm', frf'))) (ml, fl, cnt, pc, ifd, wt, rc, gw, ec, tp, vl, rm, ls, sp, md, hld, pk, kd, ka, kb, op, up, bd, pn, sk, f1, f2, lk, sh, cl, wa, wb, se, rg, hm, ra, ef, vi, la, sn, qn, qr, qe, qf, qs, al, enn, env, enx, frn, fre, frs, frm, frf) T n)) ∧ (¬ st = 1 → (((st = 2 → (wpX_afterSecond (fun u => match u with | (ml', fl', cnt', pc', ifd', wt', rc', gw', ec', tp', vl', rm', ls', sp', md', hld', pk', kd', ka', kb', op', up', bd', pn', sk', f1', f2', lk', sh', cl', wa', wb', se', rg', hm', ra', ef', vi', la', sn', qn', qr', qe', qf', qs', al', enn', env', enx', frn', fre', frs', frm', frf') => (post (ml', fl', cnt', pc', ifd', wt', rc', gw', ec', tp', vl', rm', ls', sp', md', hld', pk', kd', ka', kb', op', up', bd', pn', sk', f1', f2', lk', sh', cl', wa', wb', se', rg', hm', ra', ef', vi', la', sn', qn', qr', qe', qf', qs', al', enn', env', enx', frn', fre', frs', frm', frf'))) (ml, fl, cnt, pc, ifd, wt, rc, gw, ec, tp, vl, rm, ls, sp, md, hld, pk, kd, ka, kb, op, up, bd, pn, sk, f1, f2, lk, sh, cl, wa, wb, se, rg, hm, ra, ef, vi, la, sn, qn, qr, qe, qf, qs, al, enn, env, enx, frn, fre, frs, frm, frf) T n)) ∧ (¬ st = 2 → (wpX_finish (fun u => match u with | (ml', fl', cnt', pc', ifd', wt', rc', gw', ec', tp', vl', rm', ls', sp', md', hld', pk', kd', ka', kb', op', up', bd', pn', sk', f1', f2', lk', sh', cl', wa', wb', se', rg', hm', ra', ef', vi', la', sn', qn', qr', qe', qf', qs', al', enn', env', enx', frn', fre', frs', frm', frf') => (post (ml', fl', cnt', pc', ifd', wt', rc', gw', ec', tp', vl', rm', ls', sp', md', hld', pk', kd', ka', kb', op', up', bd', pn', sk', f1', f2', lk', sh', cl', wa', wb', se', rg', hm', ra', ef', vi', la', sn', qn', qr', qe', qf', qs', al', enn', env', enx', frn', fre', frs', frm', frf'))) (ml, fl, cnt, pc, ifd, wt, rc, gw, ec, tp, vl, rm, ls, sp, md, hld, pk, kd, ka, kb, op, up, bd, pn, sk, f1, f2, lk, sh, cl, wa, wb, se, rg, hm, ra, ef, vi, la, sn, qn, qr, qe, qf, qs, al, enn, env, enx, frn, fre, frs, frm, frf)))))))))))) ∧ (¬ 2 < k → (wpX_evaluateLeaf (fun u => match u with | (ml', fl', cnt', pc', ifd', wt', rc', gw', ec', tp', vl', rm', ls', sp', md', hld', pk', kd', ka', kb', op', up', bd', pn', sk', f1', f2', lk', sh', cl', wa', wb', se', rg', hm', ra', ef', vi', la', sn', qn', qr', qe', qf', qs', al', enn', env', enx', frn', fre', frs', frm', frf') => (post (ml', fl', cnt', pc', ifd', wt', rc', gw', ec', tp', vl', rm', ls', sp', md', hld', pk', kd', ka', kb', op', up', bd', pn', sk', f1', f2', lk', sh', cl', wa', wb', se', rg', hm', ra', ef', vi', la', sn', qn', qr', qe', qf', qs', al', enn', env', enx', frn', fre', frs', frm', frf'))) (ml, fl, cnt, pc, ifd, wt, rc, gw, ec, tp, vl, rm, ls, sp, md, hld, pk, kd, ka, kb, op, up, bd, pn, sk, f1, f2, lk, sh, cl, wa, wb, se, rg, hm, ra, ef, vi, la, sn, qn, qr, qe, qf, qs, al, enn, env, enx, frn, fre, frs, frm, frf) T n)))
theorem up_up {f : Nat → Int32} {k : Nat} {a b : Int32} : upd (upd f k a) k b = upd f k b := by
  funext j
  unfold upd
  split <;> rfl
theorem ev_z {v : Int32} : en_c v 0 = 0 ↔ v = 0 := by
  have z : en_c 0 0 = 0 := by decide
  constructor
  · intro h
    exact ev_inj (h.trans z.symm)
  · intro h
    rw [h, z]
theorem ev_sub (a b : Int32) : (en_c a 0 - en_c b 0) &&& 4294967295 = en_c (a - b) 0 := by
  apply Int64.toBitVec_inj.mp
  apply BitVec.eq_of_toNat_eq
  rw [ev_0 a, ev_0 b, ev_0 (a - b), Int64.toBitVec_and, Int64.toBitVec_sub, BitVec.toNat_and, show (4294967295 : Int64).toBitVec.toNat = 2 ^ 32 - 1 from rfl, Nat.and_two_pow_sub_one_eq_mod, BitVec.toNat_sub, wb_tn (by have := ev_0l a; omega), wb_tn (by have := ev_0l b; omega), wb_tn (by have := ev_0l (a - b); omega), Int32.toBitVec_sub, BitVec.toNat_sub]
  have := ev_0l a
  have := ev_0l b
  omega
section
variable {ml fl cnt pc ifd wt rc gw ec tp : Int32} {vl : Int64} {rm ls sp md hld pk : Int32} {kd ka kb op up bd pn sk f1 f2 lk sh cl wa wb se rg hm : Nat → Int32} {ra ef vi la sn : Nat → Int64} {qn qr qe : Nat → Int32} {qf qs : Nat → Int64} {al enn : Nat → Int32} {env : Nat → Int64} {enx frn fre frs frm : Nat → Int32} {frf : Nat → Int64}
theorem xs_pre {post : SX → Prop} {T n st : Nat} (hT : T < 240) (hn : n < 32) (h1 : frn T = nI n) (h2 : frs T = nI st) (K : xs_B post (nI T) (nI n) (nI st) (kd n) ml fl cnt pc ifd wt rc gw ec (nI (T + 1)) vl rm ls sp md hld pk kd ka kb op up bd pn sk f1 f2 lk sh cl wa wb se rg hm ra ef vi la sn qn qr qe qf qs al enn env enx frn fre (upd frs T (nI (st + 1))) frm frf) : wpX_advance post (ml, fl, cnt, pc, ifd, wt, rc, gw, ec, nI (T + 1), vl, rm, ls, sp, md, hld, pk, kd, ka, kb, op, up, bd, pn, sk, f1, f2, lk, sh, cl, wa, wb, se, rg, hm, ra, ef, vi, la, sn, qn, qr, qe, qf, qs, al, enn, env, enx, frn, fre, frs, frm, frf) := by
  have c : (nI T).toNatClampNeg = T := nI_clamp (by omega)
  have v : vp_in (nI T) 240 := pk_in T 240 hT
  refine nm_r (e' := nI T) (nI_pred T) (br_t (nI_pos' (by omega)) ⟨v, nm_r (e' := nI n) (by rw [c]; exact h1) ⟨v, v, nm_r (e' := upd frs T (nI (st + 1))) (by rw [c, h2, nI_1]) (nm_r (e' := nI st) (by rw [c]; exact h2) ⟨pk_in n 32 hn, ?_⟩)⟩⟩)
  rw [nI_clamp (n := n) (by omega)]
  exact K
end
section
variable {ml fl cnt pc ifd wt rc gw ec tp : Int32} {vl : Int64} {rm ls sp md hld pk : Int32} {kd ka kb op up bd pn sk f1 f2 lk sh cl wa wb se rg hm : Nat → Int32} {ra ef vi la sn : Nat → Int64} {qn qr qe : Nat → Int32} {qf qs : Nat → Int64} {al enn : Nat → Int32} {env : Nat → Int64} {enx frn fre frs frm : Nat → Int32} {frf : Nat → Int64} {fnd : Int32} {ow o1 o2 yc ck p1 p2 yh fi fa ynd clr mrk vla evl ndd icl ecl mkr cvl cis : Nat → Int32} {nf : Nat}
theorem ys_pre {post : SY → Prop} {N B e n st fj lj : Nat} {v : Int32} (TT : tm_T N kd ka kb up op) (hB : B ≤ 240) (he : e < B) (hn : n < N) (en : ynd e = nI n) (ev : v = nI e) (hs : sc_F clr e B = (st, fj, lj))
    (K : wY_advance_85 post (nI e) (nI n) (kd n) (nI st) (nI fj) (nI lj) (if kd n = 2 then 0 else nI (tm_ar (kd n))) ml fl cnt ls (nI B) md pk fnd ifd kd ka kb up ow o1 o2 yc ck p1 p2 yh fi fa ynd clr mrk vla evl ndd icl ecl mkr cvl al cis nf) : wpY_advance post (ml, fl, cnt, ls, nI B, md, pk, fnd, ifd, kd, ka, kb, up, ow, o1, o2, yc, ck, p1, p2, yh, fi, fa, ynd, clr, mrk, vla, evl, ndd, icl, ecl, mkr, cvl, al, cis, nf) v := by
  refine yv_ad TT hB he hn en ev ?_
  rw [hs]
  exact K
/-- begin the operand i -/
theorem ys_131 {post : SY → Prop} {N n i e : Nat} {z0 z1 : Int32} (TT : tm_T N kd ka kb up op) (hn : n < N) (hi : i < tm_ar (kd n)) (e1 : z1 = nI n) (e0 : z0 = nI i) (K : wpY_begin post (ml, fl, cnt, ls, sp, md, pk, fnd, ifd, kd, ka, kb, up, ow, o1, o2, yc, ck, p1, p2, yh, fi, fa, ynd, clr, mrk, vla, evl, ndd, icl, ecl, mkr, cvl, al, cis, nf) (nI (tm_c op n i)) (nI e)) : wY_advance_131 post (nI e) z0 z1 ml fl cnt ls sp md pk fnd ifd kd ka kb up ow o1 o2 yc ck p1 p2 yh fi fa ynd clr mrk vla evl ndd icl ecl mkr cvl al cis nf := by
  have h3 := ar_le (kd n)
  unfold wY_advance_131
  refine yo_op (i := i) TT hn (by omega) e1 e0 ?_
  rw [yo_1 hi]
  exact K
end
end
section
section
variable {ml fl cnt pc ifd wt rc gw ec tp : Int32} {vl : Int64} {rm ls sp md hld pk : Int32} {kd ka kb op up bd pn sk f1 f2 lk sh cl wa wb se rg hm : Nat → Int32} {ra ef vi la sn : Nat → Int64} {qn qr qe : Nat → Int32} {qf qs : Nat → Int64} {al enn : Nat → Int32} {env : Nat → Int64} {enx frn fre frs frm : Nat → Int32} {frf : Nat → Int64} {fnd : Int32} {ow o1 o2 yc ck p1 p2 yh fi fa ynd clr mrk vla evl ndd icl ecl mkr cvl cis : Nat → Int32} {nf : Nat}
/-- the first operand -/
theorem st_b0 {N F σ T B M E : Nat} {r c : Nat → Nat} {G : Nat → Nat → Int64} {e n st fj lj : Nat → Nat} (SF : sf_S N F kd ka kb up op sk sh cl rg hm ow o1 o2 yc yh r c) (S : rs_G N F kd ka kb up op sh r T B M E G e n st fj lj vl qn qr qe qf qs al enn env enx frn fre frs frm frf ynd clr mrk vla evl ndd icl ecl mkr cvl cis) (hσ : σ + T + 2 = 2 * B) (k2 : 2 < kd (n T)) (h0 : st T = 0) : ∃ u' v', rz_R ml cnt pc ifd wt rc gw rm kd ka kb op up bd pn sk f1 f2 lk sh cl wa wb se rg hm ra ef vi la sn fnd ow o1 o2 yc ck p1 p2 yh fi fa nf (σ + 1) N F r u' v' ∧ (∀ post : SX → Prop, post u' → xs_B post (nI T) (nI (n T)) (nI (st T)) (kd (n T)) ml (nI F) cnt pc ifd wt rc gw (nI E) (nI (T + 1)) vl rm (-1) (nI B) (nI M) (nI (cn (fun c => al c = 1) M)) pk kd ka kb op up bd pn sk f1 f2 lk sh cl wa wb se rg hm ra ef vi la sn qn qr qe qf qs al enn env enx frn fre (upd frs T (nI (st T + 1))) frm frf) ∧ (∀ (post : Int32 → SY → Prop) (J : Int32 → Int32 → Int32 → Int32 → Int32 → Int32 → Int32 → Int32 → Int32 → Int32 → (Nat → Int32) → (Nat → Int32) → (Nat → Int32) → (Nat → Int32) → (Nat → Int32) → (Nat → Int32) → (Nat → Int32) → (Nat → Int32) → (Nat → Int32) → (Nat → Int32) → (Nat → Int32) → (Nat → Int32) → (Nat → Int32) → (Nat → Int32) → (Nat → Int32) → (Nat → Int32) → (Nat → Int32) → (Nat → Int32) → (Nat → Int32) → (Nat → Int32) → (Nat → Int32) → (Nat → Int32) → (Nat → Int32) → (Nat → Int32) → (Nat → Int32) → (Nat → Int32) → Nat → Prop), yj_J J (nI (σ + 1)) v' → wY_advance_85 (fun u => match u with | (ml', fl', cnt', ls', sp', md', pk', fnd', ifd', kd', ka', kb', up', ow', o1', o2', yc', ck', p1', p2', yh', fi', fa', ynd', clr', mrk', vla', evl', ndd', icl', ecl', mkr', cvl', al', cis', nf') => yv_B post J rm (nI σ) (nI (e T)) ml' fl' cnt' ls' sp' md' pk' fnd' ifd' kd' ka' kb' up' ow' o1' o2' yc' ck' p1' p2' yh' fi' fa' ynd' clr' mrk' vla' evl' ndd' icl' ecl' mkr' cvl' al' cis' nf') (nI (e T)) (nI (n T)) (kd (n T)) (nI (st T)) (nI (fj T)) (nI (lj T)) (if kd (n T) = 2 then 0 else nI (tm_ar (kd (n T)))) ml (nI F) cnt (-1) (nI B) (nI M) pk fnd ifd kd ka kb up ow o1 o2 yc ck p1 p2 yh fi fa ynd clr mrk vla evl ndd icl ecl mkr cvl al cis nf) := by
  have TT := SF.1
  have hF := SF.2.2.2.2.2.2.2
  have hN := TT.1
  have b1 := S.1
  obtain ⟨⟨t1, t2, t3, t4, -, t8, t9, t10, t11, t12, t13⟩, tc, tv⟩ := S.2.2.2.2.2.1 T (Nat.le_refl _)
  have ha : 0 < tm_ar (kd (n T)) := by
    rcases TT.2.1 (n T) t1 with h | h | h | h | h | h | h | h | h
    · rw [h] at k2; exact absurd k2 (by decide)
    · rw [h] at k2; exact absurd k2 (by decide)
    · rw [h] at k2; exact absurd k2 (by decide)
    · rw [ar_3 h]; omega
    · rw [ar_4 h]; omega
    · rw [ar_5 h]; omega
    · rw [ar_6 h]; omega
    · rw [ar_7 h]; omega
    · rw [ar_8 h]; omega
  have o := TT.2.2.2.1.1 (n T) 0 t1 ha
  have n2 : kd (n T) ≠ 2 := fun z => by rw [z] at k2; exact absurd k2 (by decide)
  obtain ⟨u', v', R, hX, hY⟩ := rs_beg (frf' := frf) SF S hσ (by omega) o.2.2 n2 ⟨fun z => by rcases z with z | z | z <;> (rw [z] at k2; exact absurd k2 (by decide)), fun _ => h0, fun _ => by omega, by omega⟩ (fun _ => rfl) (fun z => absurd z (by omega)) (fun z => by omega) (fun _ _ => rfl) (fun z => absurd z (by omega))
  refine ⟨u', v', R, fun post K => ?_, fun post J K => ?_⟩
  · have e3 : (3 : Int32) * nI (n T) = nI (3 * n T) := pk_mul 3 _
    have opm : op (3 * nI (n T)).toNatClampNeg = nI (tm_c op (n T) 0) := by rw [e3, nI_clamp (by omega)]; exact o.1
    refine br_t k2 ?_
    rw [opm, nI_clamp (n := T) (by omega)]
    exact br_t (by rw [h0]; rfl) ⟨pk_in (3 * n T) 96 (by omega) e3, pk_in T 240 (by omega), hX _ K⟩
  · rw [if_neg n2, h0]
    have fin : wY_advance_131 (fun u => match u with | (ml', fl', cnt', ls', sp', md', pk', fnd', ifd', kd', ka', kb', up', ow', o1', o2', yc', ck', p1', p2', yh', fi', fa', ynd', clr', mrk', vla', evl', ndd', icl', ecl', mkr', cvl', al', cis', nf') => yv_B post J rm (nI σ) (nI (e T)) ml' fl' cnt' ls' sp' md' pk' fnd' ifd' kd' ka' kb' up' ow' o1' o2' yc' ck' p1' p2' yh' fi' fa' ynd' clr' mrk' vla' evl' ndd' icl' ecl' mkr' cvl' al' cis' nf') (nI (e T)) (nI 0) (nI (n T)) ml (nI F) cnt (-1) (nI B) (nI M) pk fnd ifd kd ka kb up ow o1 o2 yc ck p1 p2 yh fi fa ynd clr mrk vla evl ndd icl ecl mkr cvl al cis nf := ys_131 TT t1 ha rfl rfl (hY post J K)
    rcases Classical.em (kd (n T) = 7) with k7 | k7
    · exact br_t k7 (br_f (by decide) (br_t k7 (br_f (by decide) fin)))
    · have h3 := ar_le (kd (n T))
      exact br_f k7 (br_f (nI_ge ha (by omega)) (br_f k7 fin))
/-- the second operand of an application, a pair, a difference -/
theorem st_b1 {N F σ T B M E : Nat} {r c : Nat → Nat} {G : Nat → Nat → Int64} {e n st fj lj : Nat → Nat} (SF : sf_S N F kd ka kb up op sk sh cl rg hm ow o1 o2 yc yh r c) (S : rs_G N F kd ka kb up op sh r T B M E G e n st fj lj vl qn qr qe qf qs al enn env enx frn fre frs frm frf ynd clr mrk vla evl ndd icl ecl mkr cvl cis) (hσ : σ + T + 2 = 2 * B) (k : kd (n T) = 3 ∨ kd (n T) = 4 ∨ kd (n T) = 8) (h1 : st T = 1) : ∃ u' v', rz_R ml cnt pc ifd wt rc gw rm kd ka kb op up bd pn sk f1 f2 lk sh cl wa wb se rg hm ra ef vi la sn fnd ow o1 o2 yc ck p1 p2 yh fi fa nf (σ + 1) N F r u' v' ∧ (∀ post : SX → Prop, post u' → xs_B post (nI T) (nI (n T)) (nI (st T)) (kd (n T)) ml (nI F) cnt pc ifd wt rc gw (nI E) (nI (T + 1)) vl rm (-1) (nI B) (nI M) (nI (cn (fun c => al c = 1) M)) pk kd ka kb op up bd pn sk f1 f2 lk sh cl wa wb se rg hm ra ef vi la sn qn qr qe qf qs al enn env enx frn fre (upd frs T (nI (st T + 1))) frm frf) ∧ (∀ (post : Int32 → SY → Prop) (J : Int32 → Int32 → Int32 → Int32 → Int32 → Int32 → Int32 → Int32 → Int32 → Int32 → (Nat → Int32) → (Nat → Int32) → (Nat → Int32) → (Nat → Int32) → (Nat → Int32) → (Nat → Int32) → (Nat → Int32) → (Nat → Int32) → (Nat → Int32) → (Nat → Int32) → (Nat → Int32) → (Nat → Int32) → (Nat → Int32) → (Nat → Int32) → (Nat → Int32) → (Nat → Int32) → (Nat → Int32) → (Nat → Int32) → (Nat → Int32) → (Nat → Int32) → (Nat → Int32) → (Nat → Int32) → (Nat → Int32) → (Nat → Int32) → (Nat → Int32) → (Nat → Int32) → Nat → Prop), yj_J J (nI (σ + 1)) v' → wY_advance_85 (fun u => match u with | (ml', fl', cnt', ls', sp', md', pk', fnd', ifd', kd', ka', kb', up', ow', o1', o2', yc', ck', p1', p2', yh', fi', fa', ynd', clr', mrk', vla', evl', ndd', icl', ecl', mkr', cvl', al', cis', nf') => yv_B post J rm (nI σ) (nI (e T)) ml' fl' cnt' ls' sp' md' pk' fnd' ifd' kd' ka' kb' up' ow' o1' o2' yc' ck' p1' p2' yh' fi' fa' ynd' clr' mrk' vla' evl' ndd' icl' ecl' mkr' cvl' al' cis' nf') (nI (e T)) (nI (n T)) (kd (n T)) (nI (st T)) (nI (fj T)) (nI (lj T)) (if kd (n T) = 2 then 0 else nI (tm_ar (kd (n T)))) ml (nI F) cnt (-1) (nI B) (nI M) pk fnd ifd kd ka kb up ow o1 o2 yc ck p1 p2 yh fi fa ynd clr mrk vla evl ndd icl ecl mkr cvl al cis nf) := by
  have TT := SF.1
  have hF := SF.2.2.2.2.2.2.2
  have hN := TT.1
  have b1 := S.1
  obtain ⟨⟨t1, t2, t3, t4, -, t8, t9, t10, t11, t12, t13⟩, tc, tv⟩ := S.2.2.2.2.2.1 T (Nat.le_refl _)
  obtain ⟨la1, lv⟩ := S.2.2.2.2.2.2.2 (by omega)
  have ha : tm_ar (kd (n T)) = 2 := by
    rcases k with h | h | h
    · rw [ar_3 h]
    · rw [ar_4 h]
    · rw [ar_8 h]
  have o := TT.2.2.2.1.1 (n T) 1 t1 (by omega)
  have nk : kd (n T) ≠ 2 ∧ kd (n T) ≠ 5 ∧ kd (n T) ≠ 6 ∧ kd (n T) ≠ 7 ∧ 2 < kd (n T) := by rcases k with h | h | h <;> (rw [h]; decide)
  have fl' : fj T = lj T := tc.2.2.2.2.2.1 h1
  obtain ⟨u', v', R, hX, hY⟩ := rs_beg (frf' := vp_updL frf T vl) SF S hσ (by omega) o.2.2 nk.1 ⟨fun z => by rcases k with h | h | h <;> (rw [h] at z; exact absurd z (by decide)), fun z => absurd z (fun w => w.elim nk.2.1 nk.2.2.1), fun _ => by omega, by omega⟩ (fun z => absurd z (by omega)) (fun _ _ => rfl) (fun z => z.elim (fun q => absurd q.1 nk.2.2.2.1) (fun q => by omega)) (fun j hj => pk_uLn (by omega)) (fun _ _ => by rw [pk_uLs, fl']; exact ⟨la1, lv⟩)
  refine ⟨u', v', R, fun post K => ?_, fun post J K => ?_⟩
  · have e3 : (3 : Int32) * nI (n T) + 1 = nI (3 * n T + 1) := by rw [show (3 : Int32) * nI (n T) = nI (3 * n T) from pk_mul 3 _, nI_1]
    have opm : op ((3 : Int32) * nI (n T) + 1).toNatClampNeg = nI (tm_c op (n T) 1) := by rw [e3, nI_clamp (by omega)]; exact o.1
    refine br_t nk.2.2.2.2 (br_f (by rw [h1]; decide) (br_t (by rw [h1]; rfl) ⟨pk_in (n T) 32 (by omega), nm_r (e' := kd (n T)) (by rw [nI_clamp (by omega)]) (br_f nk.2.1 (br_f nk.2.2.1 (br_f nk.2.2.2.1 ⟨pk_in T 240 (by omega), nm_r (e' := vp_updL frf T vl) (by rw [nI_clamp (by omega)]) ⟨pk_in (3 * n T + 1) 96 (by omega) e3, pk_in T 240 (by omega), ?_⟩⟩)))⟩))
    rw [opm, nI_clamp (n := T) (by omega)]
    exact hX _ K
  · rw [if_neg nk.1, h1, ha]
    have fin : wY_advance_131 (fun u => match u with | (ml', fl', cnt', ls', sp', md', pk', fnd', ifd', kd', ka', kb', up', ow', o1', o2', yc', ck', p1', p2', yh', fi', fa', ynd', clr', mrk', vla', evl', ndd', icl', ecl', mkr', cvl', al', cis', nf') => yv_B post J rm (nI σ) (nI (e T)) ml' fl' cnt' ls' sp' md' pk' fnd' ifd' kd' ka' kb' up' ow' o1' o2' yc' ck' p1' p2' yh' fi' fa' ynd' clr' mrk' vla' evl' ndd' icl' ecl' mkr' cvl' al' cis' nf') (nI (e T)) (nI 1) (nI (n T)) ml (nI F) cnt (-1) (nI B) (nI M) pk fnd ifd kd ka kb up ow o1 o2 yc ck p1 p2 yh fi fa ynd clr mrk vla evl ndd icl ecl mkr cvl al cis nf := ys_131 TT t1 (by omega) rfl rfl (hY post J K)
    exact br_f nk.2.2.2.1 (br_f (by decide) (br_f nk.2.2.2.1 fin))
/-- a branch of an if -/
theorem st_if {N F σ T B M E : Nat} {r c : Nat → Nat} {G : Nat → Nat → Int64} {e n st fj lj : Nat → Nat} (SF : sf_S N F kd ka kb up op sk sh cl rg hm ow o1 o2 yc yh r c) (S : rs_G N F kd ka kb up op sh r T B M E G e n st fj lj vl qn qr qe qf qs al enn env enx frn fre frs frm frf ynd clr mrk vla evl ndd icl ecl mkr cvl cis) (hσ : σ + T + 2 = 2 * B) (k7 : kd (n T) = 7) (h1 : st T = 1) : ∃ u' v', rz_R ml cnt pc ifd wt rc gw rm kd ka kb op up bd pn sk f1 f2 lk sh cl wa wb se rg hm ra ef vi la sn fnd ow o1 o2 yc ck p1 p2 yh fi fa nf (σ + 1) N F r u' v' ∧ (∀ post : SX → Prop, post u' → xs_B post (nI T) (nI (n T)) (nI (st T)) (kd (n T)) ml (nI F) cnt pc ifd wt rc gw (nI E) (nI (T + 1)) vl rm (-1) (nI B) (nI M) (nI (cn (fun c => al c = 1) M)) pk kd ka kb op up bd pn sk f1 f2 lk sh cl wa wb se rg hm ra ef vi la sn qn qr qe qf qs al enn env enx frn fre (upd frs T (nI (st T + 1))) frm frf) ∧ (∀ (post : Int32 → SY → Prop) (J : Int32 → Int32 → Int32 → Int32 → Int32 → Int32 → Int32 → Int32 → Int32 → Int32 → (Nat → Int32) → (Nat → Int32) → (Nat → Int32) → (Nat → Int32) → (Nat → Int32) → (Nat → Int32) → (Nat → Int32) → (Nat → Int32) → (Nat → Int32) → (Nat → Int32) → (Nat → Int32) → (Nat → Int32) → (Nat → Int32) → (Nat → Int32) → (Nat → Int32) → (Nat → Int32) → (Nat → Int32) → (Nat → Int32) → (Nat → Int32) → (Nat → Int32) → (Nat → Int32) → (Nat → Int32) → (Nat → Int32) → (Nat → Int32) → (Nat → Int32) → (Nat → Int32) → Nat → Prop), yj_J J (nI (σ + 1)) v' → wY_advance_85 (fun u => match u with | (ml', fl', cnt', ls', sp', md', pk', fnd', ifd', kd', ka', kb', up', ow', o1', o2', yc', ck', p1', p2', yh', fi', fa', ynd', clr', mrk', vla', evl', ndd', icl', ecl', mkr', cvl', al', cis', nf') => yv_B post J rm (nI σ) (nI (e T)) ml' fl' cnt' ls' sp' md' pk' fnd' ifd' kd' ka' kb' up' ow' o1' o2' yc' ck' p1' p2' yh' fi' fa' ynd' clr' mrk' vla' evl' ndd' icl' ecl' mkr' cvl' al' cis' nf') (nI (e T)) (nI (n T)) (kd (n T)) (nI (st T)) (nI (fj T)) (nI (lj T)) (if kd (n T) = 2 then 0 else nI (tm_ar (kd (n T)))) ml (nI F) cnt (-1) (nI B) (nI M) pk fnd ifd kd ka kb up ow o1 o2 yc ck p1 p2 yh fi fa ynd clr mrk vla evl ndd icl ecl mkr cvl al cis nf) := by
  have TT := SF.1
  have hF := SF.2.2.2.2.2.2.2
  have C := SF.2.1
  have hN := TT.1
  have b1 := S.1
  obtain ⟨⟨t1, t2, t3, t4, -, t8, t9, t10, t11, t12, t13⟩, tc, tv⟩ := S.2.2.2.2.2.1 T (Nat.le_refl _)
  obtain ⟨la1, lv⟩ := S.2.2.2.2.2.2.2 (by omega)
  have fl' : fj T = lj T := tc.2.2.2.2.2.1 h1
  -- the condition is an int
  obtain ⟨n', q1, q2, q3⟩ := (S.2.2.2.2.1 (lj T) t13).2 la1
  have en : n' = tm_c op (n T) 0 := by
    have o0 := TT.2.2.2.1.1 (n T) 0 t1 (by rw [ar_7 k7]; omega)
    have := tc.2.2.2.2.1 (by omega)
    rw [fl', q2] at this
    exact (nI_eq (by omega) (by omega)).mp this
  subst en
  have be : be_E kd ka kb up op (n T) (3 * tm_c op (n T) 0) (3 * n T + 1) := Or.inr (Or.inl ⟨Or.inr (Or.inr (Or.inr k7)), rfl, rfl⟩)
  have tq := ty_s q3 (C.2.2.1 _ _ _ t1 be)
  have b0 : icl (lj T) = 0 := by
    rcases id tq with ⟨z, -⟩ | ⟨z, c', m', z1, z2, z3, z4, z5⟩
    · exact z
    · obtain ⟨m2, w1, w2, -, w4, -⟩ := S.2.2.2.1 c' z1
      have em : m' = m2 := (nI_eq (by omega) (by omega)).mp (z3.symm.trans w4)
      subst em
      rcases w2 with w2 | w2
      · have := (ty_cg TT C t1 z4 (fo_7 k7) (fo_2 w2) z5.symm).1
        omega
      · have := (ty_cg TT C t1 z4 (fo_7 k7) (fo_4 w2) z5.symm).1
        omega
  rw [b0] at lv
  have z0 : vl = 0 ↔ vla (lj T) = 0 := by rw [lv]; exact ev_z
  have go : ∀ i, (i = 1 ∨ i = 2) → ∃ u' v', rz_R ml cnt pc ifd wt rc gw rm kd ka kb op up bd pn sk f1 f2 lk sh cl wa wb se rg hm ra ef vi la sn fnd ow o1 o2 yc ck p1 p2 yh fi fa nf (σ + 1) N F r u' v' ∧ (∀ post : SX → Prop, post u' → wpX_begin post (ml, nI F, cnt, pc, ifd, wt, rc, gw, nI E, nI (T + 1), vl, rm, -1, nI B, nI M, nI (cn (fun c => al c = 1) M), pk, kd, ka, kb, op, up, bd, pn, sk, f1, f2, lk, sh, cl, wa, wb, se, rg, hm, ra, ef, vi, la, sn, qn, qr, qe, qf, qs, al, enn, env, enx, frn, fre, upd frs T (nI (st T + 1)), frm, frf) (nI (tm_c op (n T) i)) (fre T)) ∧ (∀ (post : Int32 → SY → Prop) (J : Int32 → Int32 → Int32 → Int32 → Int32 → Int32 → Int32 → Int32 → Int32 → Int32 → (Nat → Int32) → (Nat → Int32) → (Nat → Int32) → (Nat → Int32) → (Nat → Int32) → (Nat → Int32) → (Nat → Int32) → (Nat → Int32) → (Nat → Int32) → (Nat → Int32) → (Nat → Int32) → (Nat → Int32) → (Nat → Int32) → (Nat → Int32) → (Nat → Int32) → (Nat → Int32) → (Nat → Int32) → (Nat → Int32) → (Nat → Int32) → (Nat → Int32) → (Nat → Int32) → (Nat → Int32) → (Nat → Int32) → (Nat → Int32) → (Nat → Int32) → (Nat → Int32) → Nat → Prop), yj_J J (nI (σ + 1)) v' → wpY_begin (fun u => match u with | (ml', fl', cnt', ls', sp', md', pk', fnd', ifd', kd', ka', kb', up', ow', o1', o2', yc', ck', p1', p2', yh', fi', fa', ynd', clr', mrk', vla', evl', ndd', icl', ecl', mkr', cvl', al', cis', nf') => yv_B post J rm (nI σ) (nI (e T)) ml' fl' cnt' ls' sp' md' pk' fnd' ifd' kd' ka' kb' up' ow' o1' o2' yc' ck' p1' p2' yh' fi' fa' ynd' clr' mrk' vla' evl' ndd' icl' ecl' mkr' cvl' al' cis' nf') (ml, nI F, cnt, -1, nI B, nI M, pk, fnd, ifd, kd, ka, kb, up, ow, o1, o2, yc, ck, p1, p2, yh, fi, fa, ynd, clr, mrk, vla, evl, ndd, icl, ecl, mkr, cvl, al, cis, nf) (nI (tm_c op (n T) i)) (nI (e T))) := by
    intro i hi
    have o := TT.2.2.2.1.1 (n T) i t1 (by rw [ar_7 k7]; omega)
    refine rs_beg (frf' := frf) SF S hσ (by omega) o.2.2 (by rw [k7]; decide) ⟨fun z => by rw [k7] at z; exact absurd z (by decide), fun z => by rw [k7] at z; exact absurd z (by decide), fun _ => by omega, by omega⟩ (fun z => absurd z (by omega)) (fun _ z => absurd k7 z) (fun _ => ?_) (fun _ _ => rfl) (fun _ z => absurd k7 z)
    rcases hi with rfl | rfl
    · exact C.2.2.1 _ _ _ t1 (Or.inr (Or.inr (Or.inr (Or.inl ⟨Or.inr k7, rfl, rfl⟩))))
    · exact C.2.2.1 _ _ _ t1 (Or.inr (Or.inr (Or.inr (Or.inr ⟨k7, rfl, rfl⟩))))
  have xgo : ∀ (i : Nat) (post : SX → Prop), i < 3 → wpX_begin post (ml, nI F, cnt, pc, ifd, wt, rc, gw, nI E, nI (T + 1), vl, rm, -1, nI B, nI M, nI (cn (fun c => al c = 1) M), pk, kd, ka, kb, op, up, bd, pn, sk, f1, f2, lk, sh, cl, wa, wb, se, rg, hm, ra, ef, vi, la, sn, qn, qr, qe, qf, qs, al, enn, env, enx, frn, fre, upd frs T (nI (st T + 1)), frm, frf) (nI (tm_c op (n T) i)) (fre T) → wX_afterFirst_95 post (nI T) (nI i) (3 * nI (n T)) ml (nI F) cnt pc ifd wt rc gw (nI E) (nI (T + 1)) vl rm (-1) (nI B) (nI M) (nI (cn (fun c => al c = 1) M)) pk kd ka kb op up bd pn sk f1 f2 lk sh cl wa wb se rg hm ra ef vi la sn qn qr qe qf qs al enn env enx frn fre (upd frs T (nI (st T + 1))) frm frf := by
    intro i post hi K
    have o := tm_o TT t1 (i := i) hi
    have e3 : (3 : Int32) * nI (n T) + nI i = nI (3 * n T + i) := by rw [show (3 : Int32) * nI (n T) = nI (3 * n T) from pk_mul 3 _, nI_add]
    unfold wX_afterFirst_95
    rw [e3, nI_clamp (n := 3 * n T + i) (by omega), o.1, nI_clamp (n := T) (by omega)]
    exact ⟨pk_in (3 * n T + i) 96 (by omega), pk_in T 240 (by omega), K⟩
  have nk : 2 < kd (n T) ∧ ¬ kd (n T) = 5 ∧ ¬ kd (n T) = 6 := by rw [k7]; decide
  have xw : ∀ (post : SX → Prop) (i : Nat), i < 3 → (vl = 0 → i = 2) → (¬ vl = 0 → i = 1) → wpX_begin post (ml, nI F, cnt, pc, ifd, wt, rc, gw, nI E, nI (T + 1), vl, rm, -1, nI B, nI M, nI (cn (fun c => al c = 1) M), pk, kd, ka, kb, op, up, bd, pn, sk, f1, f2, lk, sh, cl, wa, wb, se, rg, hm, ra, ef, vi, la, sn, qn, qr, qe, qf, qs, al, enn, env, enx, frn, fre, upd frs T (nI (st T + 1)), frm, frf) (nI (tm_c op (n T) i)) (fre T) → xs_B post (nI T) (nI (n T)) (nI (st T)) (kd (n T)) ml (nI F) cnt pc ifd wt rc gw (nI E) (nI (T + 1)) vl rm (-1) (nI B) (nI M) (nI (cn (fun c => al c = 1) M)) pk kd ka kb op up bd pn sk f1 f2 lk sh cl wa wb se rg hm ra ef vi la sn qn qr qe qf qs al enn env enx frn fre (upd frs T (nI (st T + 1))) frm frf := by
    intro post i hi i2 i1 K
    refine br_t nk.1 (br_f (by rw [h1]; decide) (br_t (by rw [h1]; rfl) ⟨pk_in (n T) 32 (by omega), nm_r (e' := kd (n T)) (by rw [nI_clamp (by omega)]) (br_f nk.2.1 (br_f nk.2.2 (br_t k7 ?_)))⟩))
    rcases Classical.em (vl = 0) with q | q
    · have e2 := i2 q
      subst e2
      exact br_t q (xgo 2 _ (by omega) K)
    · have e1 := i1 q
      subst e1
      exact br_f q (xgo 1 _ (by omega) K)
  have n2 : kd (n T) ≠ 2 := by rw [k7]; decide
  rcases Classical.em (vl = 0) with q | q
  · obtain ⟨u', v', R, hX, hY⟩ := go 2 (Or.inr rfl)
    refine ⟨u', v', R, fun post K => xw post 2 (by omega) (fun _ => rfl) (fun z => absurd q z) (hX _ K), fun post J K => ?_⟩
    rw [if_neg n2, h1, fl']
    refine br_t k7 (br_f (by decide) (br_t k7 (br_t rfl ⟨pk_in (lj T) 240 (by omega), ?_⟩)))
    rw [nI_clamp (n := lj T) (by omega)]
    exact br_t (z0.mp q) (ys_131 (i := 2) TT t1 (by rw [ar_7 k7]; omega) rfl rfl (hY post J K))
  · obtain ⟨u', v', R, hX, hY⟩ := go 1 (Or.inl rfl)
    refine ⟨u', v', R, fun post K => xw post 1 (by omega) (fun z => absurd z q) (fun _ => rfl) (hX _ K), fun post J K => ?_⟩
    rw [if_neg n2, h1, fl']
    refine br_t k7 (br_f (by decide) (br_t k7 (br_t rfl ⟨pk_in (lj T) 240 (by omega), ?_⟩)))
    rw [nI_clamp (n := lj T) (by omega)]
    exact br_f (fun w => q (z0.mpr w)) (ys_131 (i := 1) TT t1 (by rw [ar_7 k7]; omega) rfl rfl (hY post J K))
end
end
section
section
variable {ml fl cnt pc ifd wt rc gw ec tp : Int32} {vl : Int64} {rm ls sp md hld pk : Int32} {kd ka kb op up bd pn sk f1 f2 lk sh cl wa wb se rg hm : Nat → Int32} {ra ef vi la sn : Nat → Int64} {qn qr qe : Nat → Int32} {qf qs : Nat → Int64} {al enn : Nat → Int32} {env : Nat → Int64} {enx frn fre frs frm : Nat → Int32} {frf : Nat → Int64} {fnd : Int32} {ow o1 o2 yc ck p1 p2 yh fi fa ynd clr mrk vla evl ndd icl ecl mkr cvl cis : Nat → Int32} {nf : Nat}
/-- the reference's step, when the evaluation ends without a look into a cell -/
theorem ys_85 {post : SY → Prop} {e n st fj lj : Nat} {k x7 : Int32} (hf : fj < 240) (hn : n < 32) (h5 : k ≠ 5) (h6 : k ≠ 6) (h7 : k = 7 → 2 ≤ st) (hx : k ≠ 7 → x7 ≤ nI st) (h3 : k = 3 → st ≠ 2) (hs : st ≤ 3)
    (K1 : k = 1 → wY_advance_264 post (nI e) (nI n) k (nI fj) (nI lj) (nI e * 8 + ka n) ml fl cnt ls sp md pk fnd ifd kd ka kb up ow o1 o2 yc ck p1 p2 yh fi fa ynd clr mrk vla evl ndd icl ecl mkr cvl al cis nf) (K0 : k ≠ 1 → ∀ z, wY_advance_264 post (nI e) (nI n) k (nI fj) (nI lj) z ml fl cnt ls sp md pk fnd ifd kd ka kb up ow o1 o2 yc ck p1 p2 yh fi fa ynd clr mrk vla evl ndd icl ecl mkr cvl al cis nf) :
    wY_advance_85 post (nI e) (nI n) k (nI st) (nI fj) (nI lj) x7 ml fl cnt ls sp md pk fnd ifd kd ka kb up ow o1 o2 yc ck p1 p2 yh fi fa ynd clr mrk vla evl ndd icl ecl mkr cvl al cis nf := by
  have s209 : wY_advance_209 post (nI e) (nI n) k (nI fj) (nI lj) 0 ml fl cnt ls sp md pk fnd ifd kd ka kb up ow o1 o2 yc ck p1 p2 yh fi fa ynd clr mrk vla evl ndd icl ecl mkr cvl al cis nf := by
    refine br_t rfl ?_
    rcases Classical.em (k = 1) with a | a
    · refine br_t a ⟨pk_in n 32 hn, ?_⟩
      rw [nI_clamp (n := n) (by omega)]
      exact K1 a
    · exact br_f a ⟨pk_in fj 240 hf, br_f h5 (K0 a _)⟩
  have s160 : wY_advance_160 post (nI e) (nI n) k (nI fj) (nI lj) 0 ml fl cnt ls sp md pk fnd ifd kd ka kb up ow o1 o2 yc ck p1 p2 yh fi fa ynd clr mrk vla evl ndd icl ecl mkr cvl al cis nf := br_t rfl (br_f h5 (br_f h6 s209))
  have s94 : ∀ y, y ≤ nI st → wY_advance_94 post (nI e) (nI n) k (nI st) (nI fj) (nI lj) y ml fl cnt ls sp md pk fnd ifd kd ka kb up ow o1 o2 yc ck p1 p2 yh fi fa ynd clr mrk vla evl ndd icl ecl mkr cvl al cis nf := by
    intro y hy
    refine br_t hy ?_
    rcases Classical.em (k = 3) with a | a
    · exact br_t a (br_f (fun w => h3 a ((nI_eq (b := 2) (by omega) (by omega)).mp w)) s160)
    · exact br_f a s160
  rcases Classical.em (k = 7) with a | a
  · exact br_t a (s94 2 (nI_le (a := 2) (h7 a) (by omega)))
  · exact br_f a (s94 x7 (hx a))
theorem ys_264 {post : SY → Prop} {e n fj lj : Nat} {k z v b : Int32} (he : e < 240) (hn : n < 32) (hfj : fj < 240) (hlj : lj < 240)
    (hv : (k = 0 ∧ v = ka n ∧ b = 0) ∨ (k = 8 ∧ v = vla fj - vla lj ∧ b = 0) ∨ (k = 1 ∧ ∃ q, q < 1920 ∧ z = nI q ∧ v = evl q ∧ b = ecl q ∧ (b = 0 ∨ b = 1)) ∨ ((k = 5 ∨ k = 6) ∧ ∃ q, q < 1920 ∧ z = nI q ∧ v = cvl q ∧ b = cis q ∧ (b = 0 ∨ b = 1)) ∨ ((k = 7 ∨ k = 3) ∧ lj ≠ e ∧ v = vla lj ∧ b = icl lj ∧ (b = 0 ∨ b = 1)))
    (K : post (ml, fl, cnt, ls, sp, md, pk, fnd, ifd, kd, ka, kb, up, ow, o1, o2, yc, ck, p1, p2, yh, fi, fa, ynd, clr, mrk, upd vla e v, evl, upd ndd e 1, upd icl e b, ecl, mkr, cvl, al, cis, nf)) : wY_advance_264 post (nI e) (nI n) k (nI fj) (nI lj) z ml fl cnt ls sp md pk fnd ifd kd ka kb up ow o1 o2 yc ck p1 p2 yh fi fa ynd clr mrk vla evl ndd icl ecl mkr cvl al cis nf := by
  have ce : (nI e).toNatClampNeg = e := nI_clamp (by omega)
  have ve : vp_in (nI e) 240 := pk_in e 240 he
  unfold wY_advance_264
  rw [ce]
  refine ⟨ve, nm_r (e' := upd ndd e 1) rfl ⟨ve, nm_r (e' := upd icl e 0) rfl ?_⟩⟩
  rcases hv with ⟨rfl, rfl, rfl⟩ | ⟨rfl, rfl, rfl⟩ | ⟨rfl, q, hq, rfl, rfl, rfl, h01⟩ | ⟨hk, q, hq, rfl, rfl, rfl, h01⟩ | ⟨hk, hne, rfl, rfl, h01⟩
  · exact br_t rfl ⟨pk_in n 32 hn, ve, nm_r (e' := upd vla e (ka n)) (by rw [nI_clamp (by omega)]) K⟩
  · exact br_f (by decide) (br_t rfl ⟨pk_in fj 240 hfj, pk_in lj 240 hlj, ve, nm_r (e' := upd vla e (vla fj - vla lj)) (by rw [nI_clamp (by omega), nI_clamp (by omega)]) K⟩)
  · have cq : (nI q).toNatClampNeg = q := nI_clamp (by omega)
    exact br_f (by decide) (br_f (by decide) (br_t rfl ⟨pk_in q 1920 hq, ve, nm_r (e' := upd vla e (evl q)) (by rw [cq]) ⟨pk_in q 1920 hq, ve, nm_r (e' := upd icl e (ecl q)) (by rw [cq, nar_b h01, up_up]) K⟩⟩))
  · have cq : (nI q).toNatClampNeg = q := nI_clamp (by omega)
    have s374 : wY_advance_374 post (nI e) (nI q) ml fl cnt ls sp md pk fnd ifd kd ka kb up ow o1 o2 yc ck p1 p2 yh fi fa ynd clr mrk vla evl (upd ndd e 1) (upd icl e 0) ecl mkr cvl al cis nf := by
      unfold wY_advance_374
      rw [ce, cq]
      exact ⟨pk_in q 1920 hq, ve, nm_e ⟨pk_in q 1920 hq, ve, nm_r (e' := upd icl e (cis q)) (by rw [nar_b h01, up_up]) K⟩⟩
    rcases hk with rfl | rfl
    · exact br_f (by decide) (br_f (by decide) (br_f (by decide) (br_t rfl s374)))
    · exact br_f (by decide) (br_f (by decide) (br_f (by decide) (br_f (by decide) (br_t rfl s374))))
  · have cl' : (nI lj).toNatClampNeg = lj := nI_clamp (by omega)
    have s414 : wY_advance_414 post (nI e) (nI lj) ml fl cnt ls sp md pk fnd ifd kd ka kb up ow o1 o2 yc ck p1 p2 yh fi fa ynd clr mrk vla evl (upd ndd e 1) (upd icl e 0) ecl mkr cvl al cis nf := by
      unfold wY_advance_414
      rw [ce, cl', show upd icl e 0 lj = icl lj from pk_un hne]
      exact ⟨pk_in lj 240 hlj, ve, nm_e ⟨pk_in lj 240 hlj, ve, nm_r (e' := upd icl e (icl lj)) (by rw [nar_b h01, up_up]) K⟩⟩
    rcases hk with rfl | rfl
    · exact br_f (by decide) (br_f (by decide) (br_f (by decide) (br_f (by decide) (br_f (by decide) (br_t rfl s414)))))
    · exact br_f (by decide) (br_f (by decide) (br_f (by decide) (br_f (by decide) (br_f (by decide) (br_f (by decide) (br_t rfl s414))))))
/-- an end without a new cell -/
theorem rs_f0 {N F σ T B M E : Nat} {r c : Nat → Nat} {G : Nat → Nat → Int64} {e n st fj lj : Nat → Nat} (SF : sf_S N F kd ka kb up op sk sh cl rg hm ow o1 o2 yc yh r c) (S : rs_G N F kd ka kb up op sh r T B M E G e n st fj lj vl qn qr qe qf qs al enn env enx frn fre frs frm frf ynd clr mrk vla evl ndd icl ecl mkr cvl cis) (hσ : σ + T + 2 = 2 * B) {v b : Int32} (tv : ty_V N M kd op r mkr v b (3 * n T)) :
    ∃ u' v', rz_R ml cnt pc ifd wt rc gw rm kd ka kb op up bd pn sk f1 f2 lk sh cl wa wb se rg hm ra ef vi la sn fnd ow o1 o2 yc ck p1 p2 yh fi fa nf (σ + 1) N F r u' v' ∧ (∀ post : SX → Prop, post u' → wpX_finish post (ml, nI F, cnt, pc, ifd, wt, rc, gw, nI E, nI (T + 1), en_c v b, rm, -1, nI B, nI M, nI (cn (fun c => al c = 1) M), pk, kd, ka, kb, op, up, bd, pn, sk, f1, f2, lk, sh, cl, wa, wb, se, rg, hm, ra, ef, vi, la, sn, qn, qr, qe, qf, qs, al, enn, env, enx, frn, fre, upd frs T (nI (st T + 1)), frm, frf)) ∧
      (∀ (post : Int32 → SY → Prop) (J : Int32 → Int32 → Int32 → Int32 → Int32 → Int32 → Int32 → Int32 → Int32 → Int32 → (Nat → Int32) → (Nat → Int32) → (Nat → Int32) → (Nat → Int32) → (Nat → Int32) → (Nat → Int32) → (Nat → Int32) → (Nat → Int32) → (Nat → Int32) → (Nat → Int32) → (Nat → Int32) → (Nat → Int32) → (Nat → Int32) → (Nat → Int32) → (Nat → Int32) → (Nat → Int32) → (Nat → Int32) → (Nat → Int32) → (Nat → Int32) → (Nat → Int32) → (Nat → Int32) → (Nat → Int32) → (Nat → Int32) → (Nat → Int32) → (Nat → Int32) → (Nat → Int32) → Nat → Prop), yj_J J (nI (σ + 1)) v' → yv_B post J rm (nI σ) (nI (e T)) ml (nI F) cnt (-1) (nI B) (nI M) pk fnd ifd kd ka kb up ow o1 o2 yc ck p1 p2 yh fi fa ynd clr mrk (upd vla (e T) v) evl (upd ndd (e T) 1) (upd icl (e T) b) ecl mkr cvl al cis nf) :=
  rs_fin (M' := M) (qn' := qn) (qr' := qr) (qe' := qe) (qf' := qf) (qs' := qs) (al1 := al) (mkr' := mkr) (cvl' := cvl) (cis' := cis) (frs' := upd frs T (nI (st T + 1))) (pk' := pk) SF S hσ (Nat.le_refl _) (by omega) (fun _ _ => rfl) S.2.1 S.2.2.2.1 (fun j hj => pk_un (by omega)) tv
theorem st_num {N F σ T B M E : Nat} {r c : Nat → Nat} {G : Nat → Nat → Int64} {e n st fj lj : Nat → Nat} (SF : sf_S N F kd ka kb up op sk sh cl rg hm ow o1 o2 yc yh r c) (S : rs_G N F kd ka kb up op sh r T B M E G e n st fj lj vl qn qr qe qf qs al enn env enx frn fre frs frm frf ynd clr mrk vla evl ndd icl ecl mkr cvl cis) (hσ : σ + T + 2 = 2 * B) (k0 : kd (n T) = 0) : ∃ u' v', rz_R ml cnt pc ifd wt rc gw rm kd ka kb op up bd pn sk f1 f2 lk sh cl wa wb se rg hm ra ef vi la sn fnd ow o1 o2 yc ck p1 p2 yh fi fa nf (σ + 1) N F r u' v' ∧ (∀ post : SX → Prop, post u' → xs_B post (nI T) (nI (n T)) (nI (st T)) (kd (n T)) ml (nI F) cnt pc ifd wt rc gw (nI E) (nI (T + 1)) vl rm (-1) (nI B) (nI M) (nI (cn (fun c => al c = 1) M)) pk kd ka kb op up bd pn sk f1 f2 lk sh cl wa wb se rg hm ra ef vi la sn qn qr qe qf qs al enn env enx frn fre (upd frs T (nI (st T + 1))) frm frf) ∧ (∀ (post : Int32 → SY → Prop) (J : Int32 → Int32 → Int32 → Int32 → Int32 → Int32 → Int32 → Int32 → Int32 → Int32 → (Nat → Int32) → (Nat → Int32) → (Nat → Int32) → (Nat → Int32) → (Nat → Int32) → (Nat → Int32) → (Nat → Int32) → (Nat → Int32) → (Nat → Int32) → (Nat → Int32) → (Nat → Int32) → (Nat → Int32) → (Nat → Int32) → (Nat → Int32) → (Nat → Int32) → (Nat → Int32) → (Nat → Int32) → (Nat → Int32) → (Nat → Int32) → (Nat → Int32) → (Nat → Int32) → (Nat → Int32) → (Nat → Int32) → (Nat → Int32) → (Nat → Int32) → (Nat → Int32) → Nat → Prop), yj_J J (nI (σ + 1)) v' → wY_advance_85 (fun u => match u with | (ml', fl', cnt', ls', sp', md', pk', fnd', ifd', kd', ka', kb', up', ow', o1', o2', yc', ck', p1', p2', yh', fi', fa', ynd', clr', mrk', vla', evl', ndd', icl', ecl', mkr', cvl', al', cis', nf') => yv_B post J rm (nI σ) (nI (e T)) ml' fl' cnt' ls' sp' md' pk' fnd' ifd' kd' ka' kb' up' ow' o1' o2' yc' ck' p1' p2' yh' fi' fa' ynd' clr' mrk' vla' evl' ndd' icl' ecl' mkr' cvl' al' cis' nf') (nI (e T)) (nI (n T)) (kd (n T)) (nI (st T)) (nI (fj T)) (nI (lj T)) (if kd (n T) = 2 then 0 else nI (tm_ar (kd (n T)))) ml (nI F) cnt (-1) (nI B) (nI M) pk fnd ifd kd ka kb up ow o1 o2 yc ck p1 p2 yh fi fa ynd clr mrk vla evl ndd icl ecl mkr cvl al cis nf) := by
  have TT := SF.1
  have hF := SF.2.2.2.2.2.2.2
  have hN := TT.1
  have b1 := S.1
  obtain ⟨⟨t1, t2, t3, t4, -, t8, t9, t10, t11, t12, t13⟩, tc, tv⟩ := S.2.2.2.2.2.1 T (Nat.le_refl _)
  have hst : st T = 0 := tc.1 (Or.inl k0)
  obtain ⟨u', v', R, hX, hY⟩ := rs_f0 (v := ka (n T)) (b := 0) SF S hσ (Or.inl ⟨rfl, n T, 3 * n T, 3 * n T, 3 * n T, t1, fo_0 k0, rfl⟩)
  refine ⟨u', v', R, fun post K => ?_, fun post J K => ?_⟩
  · refine br_f (by rw [k0]; decide) ⟨pk_in (n T) 32 (by omega), ?_⟩
    rw [nI_clamp (n := n T) (by omega)]
    exact br_t k0 ⟨pk_in (n T) 32 (by omega), nm_r (e' := en_c (ka (n T)) 0) rfl (hX _ K)⟩
  · rw [k0, hst]
    exact ys_85 (by omega) (by omega) (by decide) (by decide) (fun z => absurd z (by decide)) (fun _ => by decide) (fun z => absurd z (by decide)) (by omega) (fun z => absurd z (by decide)) (fun _ z => ys_264 (by omega) (by omega) (by omega) (by omega) (Or.inl ⟨rfl, rfl, rfl⟩) (hY post J K))
theorem st_var {N F σ T B M E : Nat} {r c : Nat → Nat} {G : Nat → Nat → Int64} {e n st fj lj : Nat → Nat} (SF : sf_S N F kd ka kb up op sk sh cl rg hm ow o1 o2 yc yh r c) (S : rs_G N F kd ka kb up op sh r T B M E G e n st fj lj vl qn qr qe qf qs al enn env enx frn fre frs frm frf ynd clr mrk vla evl ndd icl ecl mkr cvl cis) (hσ : σ + T + 2 = 2 * B) (k1 : kd (n T) = 1) : ∃ u' v', rz_R ml cnt pc ifd wt rc gw rm kd ka kb op up bd pn sk f1 f2 lk sh cl wa wb se rg hm ra ef vi la sn fnd ow o1 o2 yc ck p1 p2 yh fi fa nf (σ + 1) N F r u' v' ∧ (∀ post : SX → Prop, post u' → xs_B post (nI T) (nI (n T)) (nI (st T)) (kd (n T)) ml (nI F) cnt pc ifd wt rc gw (nI E) (nI (T + 1)) vl rm (-1) (nI B) (nI M) (nI (cn (fun c => al c = 1) M)) pk kd ka kb op up bd pn sk f1 f2 lk sh cl wa wb se rg hm ra ef vi la sn qn qr qe qf qs al enn env enx frn fre (upd frs T (nI (st T + 1))) frm frf) ∧ (∀ (post : Int32 → SY → Prop) (J : Int32 → Int32 → Int32 → Int32 → Int32 → Int32 → Int32 → Int32 → Int32 → Int32 → (Nat → Int32) → (Nat → Int32) → (Nat → Int32) → (Nat → Int32) → (Nat → Int32) → (Nat → Int32) → (Nat → Int32) → (Nat → Int32) → (Nat → Int32) → (Nat → Int32) → (Nat → Int32) → (Nat → Int32) → (Nat → Int32) → (Nat → Int32) → (Nat → Int32) → (Nat → Int32) → (Nat → Int32) → (Nat → Int32) → (Nat → Int32) → (Nat → Int32) → (Nat → Int32) → (Nat → Int32) → (Nat → Int32) → (Nat → Int32) → (Nat → Int32) → (Nat → Int32) → Nat → Prop), yj_J J (nI (σ + 1)) v' → wY_advance_85 (fun u => match u with | (ml', fl', cnt', ls', sp', md', pk', fnd', ifd', kd', ka', kb', up', ow', o1', o2', yc', ck', p1', p2', yh', fi', fa', ynd', clr', mrk', vla', evl', ndd', icl', ecl', mkr', cvl', al', cis', nf') => yv_B post J rm (nI σ) (nI (e T)) ml' fl' cnt' ls' sp' md' pk' fnd' ifd' kd' ka' kb' up' ow' o1' o2' yc' ck' p1' p2' yh' fi' fa' ynd' clr' mrk' vla' evl' ndd' icl' ecl' mkr' cvl' al' cis' nf') (nI (e T)) (nI (n T)) (kd (n T)) (nI (st T)) (nI (fj T)) (nI (lj T)) (if kd (n T) = 2 then 0 else nI (tm_ar (kd (n T)))) ml (nI F) cnt (-1) (nI B) (nI M) pk fnd ifd kd ka kb up ow o1 o2 yc ck p1 p2 yh fi fa ynd clr mrk vla evl ndd icl ecl mkr cvl al cis nf) := by
  have TT := SF.1
  have C := SF.2.1
  have hbd := SF.2.2.2.2.2.2.1
  have hF := SF.2.2.2.2.2.2.2
  have hN := TT.1
  have b1 := S.1
  obtain ⟨⟨t1, t2, t3, t4, -, t8, t9, t10, t11, t12, t13⟩, tc, tv⟩ := S.2.2.2.2.2.1 T (Nat.le_refl _)
  have hst : st T = 0 := tc.1 (Or.inr (Or.inl k1))
  obtain ⟨x, hx, ex⟩ := (TT.2.2.2.2 (n T) t1).1 (Or.inl k1)
  obtain ⟨f, hf⟩ := hbd (n T) t1 k1
  have tvx := t9 x f hx (by rw [← ex]; exact hf)
  have be : be_E kd ka kb up op (n T) (3 * n T) (if kb f = ka (n T) then 3 * f + 1 else 3 * f) := Or.inl ⟨k1, rfl, f, hf, rfl⟩
  rw [ex] at be
  have ee := t8.2 x hx
  obtain ⟨u', v', R, hX, hY⟩ := rs_f0 (v := evl (e T * 8 + x)) (b := ecl (e T * 8 + x)) SF S hσ (ty_s tvx (C.2.2.1 _ _ _ t1 be).symm)
  refine ⟨u', v', R, fun post K => ?_, fun post J K => ?_⟩
  · refine br_f (by rw [k1]; decide) ⟨pk_in (n T) 32 (by omega), ?_⟩
    rw [nI_clamp (n := n T) (by omega), nI_clamp (n := T) (by omega)]
    refine br_f (by rw [k1]; decide) ⟨pk_in (n T) 32 (by omega), br_t k1 ⟨pk_in (n T) 32 (by omega), pk_in T 240 (by omega), xr_lo (x := x) (by omega) S.2.2.1 hx ex t8.1 ?_⟩⟩
    rw [ee.1]
    exact hX _ K
  · rw [k1, hst]
    refine ys_85 (by omega) (by omega) (by decide) (by decide) (fun z => absurd z (by decide)) (fun _ => by decide) (fun z => absurd z (by decide)) (by omega) (fun _ => ?_) (fun z => absurd rfl z)
    have ei : nI (e T) * 8 + ka (n T) = nI (e T * 8 + x) := by rw [ex, show nI (e T) * 8 = nI (e T * 8) from pk_mul _ 8, nI_add]
    exact ys_264 (by omega) (by omega) (by omega) (by omega) (Or.inr (Or.inr (Or.inl ⟨rfl, e T * 8 + x, by omega, ei, rfl, rfl, ee.2⟩))) (hY post J K)
/-- an application or an if ends with its last operand's value -/
theorem st_last {N F σ T B M E : Nat} {r c : Nat → Nat} {G : Nat → Nat → Int64} {e n st fj lj : Nat → Nat} (SF : sf_S N F kd ka kb up op sk sh cl rg hm ow o1 o2 yc yh r c) (S : rs_G N F kd ka kb up op sh r T B M E G e n st fj lj vl qn qr qe qf qs al enn env enx frn fre frs frm frf ynd clr mrk vla evl ndd icl ecl mkr cvl cis) (hσ : σ + T + 2 = 2 * B) (k : (kd (n T) = 7 ∧ st T = 2) ∨ (kd (n T) = 3 ∧ st T = 3)) : ∃ u' v', rz_R ml cnt pc ifd wt rc gw rm kd ka kb op up bd pn sk f1 f2 lk sh cl wa wb se rg hm ra ef vi la sn fnd ow o1 o2 yc ck p1 p2 yh fi fa nf (σ + 1) N F r u' v' ∧ (∀ post : SX → Prop, post u' → xs_B post (nI T) (nI (n T)) (nI (st T)) (kd (n T)) ml (nI F) cnt pc ifd wt rc gw (nI E) (nI (T + 1)) vl rm (-1) (nI B) (nI M) (nI (cn (fun c => al c = 1) M)) pk kd ka kb op up bd pn sk f1 f2 lk sh cl wa wb se rg hm ra ef vi la sn qn qr qe qf qs al enn env enx frn fre (upd frs T (nI (st T + 1))) frm frf) ∧ (∀ (post : Int32 → SY → Prop) (J : Int32 → Int32 → Int32 → Int32 → Int32 → Int32 → Int32 → Int32 → Int32 → Int32 → (Nat → Int32) → (Nat → Int32) → (Nat → Int32) → (Nat → Int32) → (Nat → Int32) → (Nat → Int32) → (Nat → Int32) → (Nat → Int32) → (Nat → Int32) → (Nat → Int32) → (Nat → Int32) → (Nat → Int32) → (Nat → Int32) → (Nat → Int32) → (Nat → Int32) → (Nat → Int32) → (Nat → Int32) → (Nat → Int32) → (Nat → Int32) → (Nat → Int32) → (Nat → Int32) → (Nat → Int32) → (Nat → Int32) → (Nat → Int32) → (Nat → Int32) → (Nat → Int32) → Nat → Prop), yj_J J (nI (σ + 1)) v' → wY_advance_85 (fun u => match u with | (ml', fl', cnt', ls', sp', md', pk', fnd', ifd', kd', ka', kb', up', ow', o1', o2', yc', ck', p1', p2', yh', fi', fa', ynd', clr', mrk', vla', evl', ndd', icl', ecl', mkr', cvl', al', cis', nf') => yv_B post J rm (nI σ) (nI (e T)) ml' fl' cnt' ls' sp' md' pk' fnd' ifd' kd' ka' kb' up' ow' o1' o2' yc' ck' p1' p2' yh' fi' fa' ynd' clr' mrk' vla' evl' ndd' icl' ecl' mkr' cvl' al' cis' nf') (nI (e T)) (nI (n T)) (kd (n T)) (nI (st T)) (nI (fj T)) (nI (lj T)) (if kd (n T) = 2 then 0 else nI (tm_ar (kd (n T)))) ml (nI F) cnt (-1) (nI B) (nI M) pk fnd ifd kd ka kb up ow o1 o2 yc ck p1 p2 yh fi fa ynd clr mrk vla evl ndd icl ecl mkr cvl al cis nf) := by
  have TT := SF.1
  have C := SF.2.1
  have hF := SF.2.2.2.2.2.2.2
  have hN := TT.1
  have b1 := S.1
  obtain ⟨⟨t1, t2, t3, t4, -, t8, t9, t10, t11, t12, t13⟩, tc, tv⟩ := S.2.2.2.2.2.1 T (Nat.le_refl _)
  obtain ⟨la1, lv⟩ := S.2.2.2.2.2.2.2 (by omega)
  obtain ⟨a1, a2, a3, a4⟩ := rs_act S
  obtain ⟨n', q1, q2, q3⟩ := (S.2.2.2.2.1 (lj T) t13).2 la1
  obtain ⟨n2, w1, w2, w3⟩ := tc.2.2.2.2.2.2.2 (k.imp id And.right)
  have en : n' = n2 := (nI_eq (by omega) (by omega)).mp (q2.symm.trans w2)
  subst en
  have lne : lj T ≠ e T := fun z => by rw [z] at la1; exact absurd (a1.symm.trans la1) (by decide)
  obtain ⟨u', v', R, hX, hY⟩ := rs_f0 (v := vla (lj T)) (b := icl (lj T)) SF S hσ (ty_s q3 w3)
  rw [← lv] at hX
  refine ⟨u', v', R, fun post K => ?_, fun post J K => ?_⟩
  · rcases k with ⟨k7, hs⟩ | ⟨k3, hs⟩
    · refine br_t (by rw [k7]; decide) (br_f (by rw [hs]; decide) (br_f (by rw [hs]; decide) (br_t (by rw [hs]; rfl) ⟨pk_in (n T) 32 (by omega), nm_r (e' := 7) (by rw [nI_clamp (by omega)]; exact k7) (br_f (by decide) (br_f (by decide) (br_f (by decide) (hX _ K))))⟩)))
    · exact br_t (by rw [k3]; decide) (br_f (by rw [hs]; decide) (br_f (by rw [hs]; decide) (br_f (by rw [hs]; decide) (hX _ K))))
  · rcases k with ⟨k7, hs⟩ | ⟨k3, hs⟩
    · rw [k7, hs]
      exact ys_85 (by omega) (by omega) (by decide) (by decide) (fun _ => by omega) (fun z => absurd rfl z) (fun z => absurd z (by decide)) (by omega) (fun z => absurd z (by decide)) (fun _ z => ys_264 (by omega) (by omega) (by omega) (by omega) (Or.inr (Or.inr (Or.inr (Or.inr ⟨Or.inl rfl, lne, rfl, rfl, ty_01 q3⟩)))) (hY post J K))
    · rw [k3, hs]
      exact ys_85 (by omega) (by omega) (by decide) (by decide) (fun z => absurd z (by decide)) (fun _ => by decide) (fun _ => by omega) (by omega) (fun z => absurd z (by decide)) (fun _ z => ys_264 (by omega) (by omega) (by omega) (by omega) (Or.inr (Or.inr (Or.inr (Or.inr ⟨Or.inr rfl, lne, rfl, rfl, ty_01 q3⟩)))) (hY post J K))
theorem st_sub {N F σ T B M E : Nat} {r c : Nat → Nat} {G : Nat → Nat → Int64} {e n st fj lj : Nat → Nat} (SF : sf_S N F kd ka kb up op sk sh cl rg hm ow o1 o2 yc yh r c) (S : rs_G N F kd ka kb up op sh r T B M E G e n st fj lj vl qn qr qe qf qs al enn env enx frn fre frs frm frf ynd clr mrk vla evl ndd icl ecl mkr cvl cis) (hσ : σ + T + 2 = 2 * B) (k8 : kd (n T) = 8) (hs : st T = 2) : ∃ u' v', rz_R ml cnt pc ifd wt rc gw rm kd ka kb op up bd pn sk f1 f2 lk sh cl wa wb se rg hm ra ef vi la sn fnd ow o1 o2 yc ck p1 p2 yh fi fa nf (σ + 1) N F r u' v' ∧ (∀ post : SX → Prop, post u' → xs_B post (nI T) (nI (n T)) (nI (st T)) (kd (n T)) ml (nI F) cnt pc ifd wt rc gw (nI E) (nI (T + 1)) vl rm (-1) (nI B) (nI M) (nI (cn (fun c => al c = 1) M)) pk kd ka kb op up bd pn sk f1 f2 lk sh cl wa wb se rg hm ra ef vi la sn qn qr qe qf qs al enn env enx frn fre (upd frs T (nI (st T + 1))) frm frf) ∧ (∀ (post : Int32 → SY → Prop) (J : Int32 → Int32 → Int32 → Int32 → Int32 → Int32 → Int32 → Int32 → Int32 → Int32 → (Nat → Int32) → (Nat → Int32) → (Nat → Int32) → (Nat → Int32) → (Nat → Int32) → (Nat → Int32) → (Nat → Int32) → (Nat → Int32) → (Nat → Int32) → (Nat → Int32) → (Nat → Int32) → (Nat → Int32) → (Nat → Int32) → (Nat → Int32) → (Nat → Int32) → (Nat → Int32) → (Nat → Int32) → (Nat → Int32) → (Nat → Int32) → (Nat → Int32) → (Nat → Int32) → (Nat → Int32) → (Nat → Int32) → (Nat → Int32) → (Nat → Int32) → (Nat → Int32) → Nat → Prop), yj_J J (nI (σ + 1)) v' → wY_advance_85 (fun u => match u with | (ml', fl', cnt', ls', sp', md', pk', fnd', ifd', kd', ka', kb', up', ow', o1', o2', yc', ck', p1', p2', yh', fi', fa', ynd', clr', mrk', vla', evl', ndd', icl', ecl', mkr', cvl', al', cis', nf') => yv_B post J rm (nI σ) (nI (e T)) ml' fl' cnt' ls' sp' md' pk' fnd' ifd' kd' ka' kb' up' ow' o1' o2' yc' ck' p1' p2' yh' fi' fa' ynd' clr' mrk' vla' evl' ndd' icl' ecl' mkr' cvl' al' cis' nf') (nI (e T)) (nI (n T)) (kd (n T)) (nI (st T)) (nI (fj T)) (nI (lj T)) (if kd (n T) = 2 then 0 else nI (tm_ar (kd (n T)))) ml (nI F) cnt (-1) (nI B) (nI M) pk fnd ifd kd ka kb up ow o1 o2 yc ck p1 p2 yh fi fa ynd clr mrk vla evl ndd icl ecl mkr cvl al cis nf) := by
  have TT := SF.1
  have C := SF.2.1
  have hF := SF.2.2.2.2.2.2.2
  have hN := TT.1
  have b1 := S.1
  obtain ⟨⟨t1, t2, t3, t4, -, t8, t9, t10, t11, t12, t13⟩, tc, tv⟩ := S.2.2.2.2.2.1 T (Nat.le_refl _)
  obtain ⟨la1, lv⟩ := S.2.2.2.2.2.2.2 (by omega)
  have fv := tv (by omega) (by rw [k8]; decide)
  -- both operands are ints
  have int : ∀ i s, i < B → ndd i = 1 → s < 2 → ynd i = nI (tm_c op (n T) s) → icl i = 0 := by
    intro i s hi hd hs2 hy
    obtain ⟨n', q1, q2, q3⟩ := (S.2.2.2.2.1 i hi).2 hd
    have o := TT.2.2.2.1.1 (n T) s t1 (by rw [ar_8 k8]; omega)
    have en : n' = tm_c op (n T) s := (nI_eq (by omega) (by omega)).mp (q2.symm.trans hy)
    subst en
    have be : r (3 * tm_c op (n T) s) = r (3 * n T) := by
      have : s = 0 ∨ s = 1 := by omega
      rcases this with rfl | rfl
      · exact C.2.2.1 _ _ _ t1 (Or.inr (Or.inr (Or.inl ⟨k8, rfl, rfl⟩)))
      · exact C.2.2.1 _ _ _ t1 (Or.inr (Or.inr (Or.inr (Or.inl ⟨Or.inl k8, rfl, rfl⟩))))
    rcases ty_s q3 be with ⟨z, -⟩ | ⟨z, c', m', z1, z2, z3, z4, z5⟩
    · exact z
    · obtain ⟨m2, w1, w2, -, w4, -⟩ := S.2.2.2.1 c' z1
      have em : m' = m2 := (nI_eq (by omega) (by omega)).mp (z3.symm.trans w4)
      subst em
      rcases w2 with w2 | w2
      · have := (ty_cg TT C t1 z4 (fo_8 k8) (fo_2 w2) z5.symm).1
        omega
      · have := (ty_cg TT C t1 z4 (fo_8 k8) (fo_4 w2) z5.symm).1
        omega
  have i1 := int (fj T) 0 t12 fv.1 (by omega) (tc.2.2.2.2.1 (by omega))
  have i2 := int (lj T) 1 t13 la1 (by omega) (tc.2.2.2.2.2.2.1 hs (by rw [k8]; decide))
  obtain ⟨u', v', R, hX, hY⟩ := rs_f0 (v := vla (fj T) - vla (lj T)) (b := 0) SF S hσ (Or.inl ⟨rfl, n T, 3 * n T, 3 * n T, 3 * n T, t1, fo_8 k8, rfl⟩)
  refine ⟨u', v', R, fun post K => ?_, fun post J K => ?_⟩
  · refine br_t (by rw [k8]; decide) (br_f (by rw [hs]; decide) (br_f (by rw [hs]; decide) (br_t (by rw [hs]; rfl) ⟨pk_in (n T) 32 (by omega), nm_r (e' := 8) (by rw [nI_clamp (by omega)]; exact k8) (br_f (by decide) (br_f (by decide) (br_t rfl ⟨pk_in T 240 (by omega), nm_r (e' := en_c (vla (fj T) - vla (lj T)) 0) ?_ (hX _ K)⟩)))⟩)))
    rw [nI_clamp (n := T) (by omega), fv.2, lv, i1, i2]
    exact ev_sub _ _
  · rw [k8, hs]
    exact ys_85 (by omega) (by omega) (by decide) (by decide) (fun z => absurd z (by decide)) (fun _ => by decide) (fun z => absurd z (by decide)) (by omega) (fun z => absurd z (by decide)) (fun _ z => ys_264 (by omega) (by omega) (by omega) (by omega) (Or.inr (Or.inl ⟨rfl, rfl, rfl⟩)) (hY post J K))
end
end
section
section
variable {ml fl cnt pc ifd wt rc gw ec tp : Int32} {vl : Int64} {rm ls sp md hld pk : Int32} {kd ka kb op up bd pn sk f1 f2 lk sh cl wa wb se rg hm : Nat → Int32} {ra ef vi la sn : Nat → Int64} {qn qr qe : Nat → Int32} {qf qs : Nat → Int64} {al enn : Nat → Int32} {env : Nat → Int64} {enx frn fre frs frm : Nat → Int32} {frf : Nat → Int64} {fnd : Int32} {ow o1 o2 yc ck p1 p2 yh fi fa ynd clr mrk vla evl ndd icl ecl mkr cvl cis : Nat → Int32} {nf : Nat}
/-- a look into a cell that is not there: both stop -/
theorem rs_dead {N F σ T B M E : Nat} {r c : Nat → Nat} {G : Nat → Nat → Int64} {e n st fj lj : Nat → Nat} (SF : sf_S N F kd ka kb up op sk sh cl rg hm ow o1 o2 yc yh r c) (S : rs_G N F kd ka kb up op sh r T B M E G e n st fj lj vl qn qr qe qf qs al enn env enx frn fre frs frm frf ynd clr mrk vla evl ndd icl ecl mkr cvl cis) (hσ : σ + T + 2 = 2 * B) : ∃ u' v', rz_R ml cnt pc ifd wt rc gw rm kd ka kb op up bd pn sk f1 f2 lk sh cl wa wb se rg hm ra ef vi la sn fnd ow o1 o2 yc ck p1 p2 yh fi fa nf (σ + 1) N F r u' v' ∧ u' = (ml, nI F, cnt, pc, ifd, wt, rc, gw, nI E, nI (T + 1), vl, rm, 2, nI B, nI M, nI (cn (fun c => al c = 1) M), pk, kd, ka, kb, op, up, bd, pn, sk, f1, f2, lk, sh, cl, wa, wb, se, rg, hm, ra, ef, vi, la, sn, qn, qr, qe, qf, qs, al, enn, env, enx, frn, fre, upd frs T (nI (st T + 1)), frm, frf) ∧ v' = (ml, nI F, cnt, 2, nI B, nI M, pk, fnd, ifd, kd, ka, kb, up, ow, o1, o2, yc, ck, p1, p2, yh, fi, fa, ynd, clr, mrk, vla, evl, ndd, icl, ecl, mkr, cvl, al, cis, nf) := by
  have b1 := S.1
  have hF := SF.2.2.2.2.2.2.2
  exact ⟨_, _, rz_in (Or.inr ⟨Or.inr (Or.inr rfl), M, rfl, by omega, S.2.1, rfl, fun z => absurd z (by decide)⟩), rfl, rfl⟩
/-- the reference's look into a cell -/
theorem ys_178 {post : SY → Prop} {M e n fj lj : Nat} {k x8 : Int32} (hM : M ≤ 240) (hf : fj < 240) (h01 : ∀ c, c < M → al c = 0 ∨ al c = 1) (V : va_V M (vla fj) (icl fj))
    (K0 : (icl fj = 0 ∨ ∃ c, c < M ∧ icl fj = 1 ∧ vla fj = nI c ∧ al c = 0) → post (ml, fl, cnt, 2, sp, md, pk, fnd, ifd, kd, ka, kb, up, ow, o1, o2, yc, ck, p1, p2, yh, fi, fa, ynd, clr, mrk, vla, evl, ndd, icl, ecl, mkr, cvl, al, cis, nf)) (K1 : ∀ c, c < M → icl fj = 1 → vla fj = nI c → al c = 1 → wY_advance_209 post (nI e) (nI n) k (nI fj) (nI lj) x8 ml fl cnt ls sp md pk fnd ifd kd ka kb up ow o1 o2 yc ck p1 p2 yh fi fa ynd clr mrk vla evl ndd icl ecl mkr cvl al cis nf) :
    wY_advance_178 post (nI e) (nI n) k (nI fj) (nI lj) x8 ml fl cnt ls sp md pk fnd ifd kd ka kb up ow o1 o2 yc ck p1 p2 yh fi fa ynd clr mrk vla evl ndd icl ecl mkr cvl al cis nf := by
  have cf : (nI fj).toNatClampNeg = fj := nI_clamp (by omega)
  unfold wY_advance_178
  rw [cf]
  refine ⟨pk_in fj 240 hf, ?_⟩
  rcases V with b0 | ⟨b1, c, hc, ev⟩
  · exact br_t b0 (K0 (Or.inl b0))
  · refine br_f (by rw [b1]; decide) ⟨pk_in fj 240 hf, pk_in c 240 (by omega) ev, ?_⟩
    rw [ev, nI_clamp (n := c) (by omega)]
    rcases h01 c hc with a | a
    · exact br_t a (K0 (Or.inr ⟨c, hc, b1, ev, a⟩))
    · exact br_f (by rw [a]; decide) (K1 c hc b1 ev a)
/-- a part of a pair -/
theorem st_part {N F σ T B M E : Nat} {r c : Nat → Nat} {G : Nat → Nat → Int64} {e n st fj lj : Nat → Nat} (SF : sf_S N F kd ka kb up op sk sh cl rg hm ow o1 o2 yc yh r c) (S : rs_G N F kd ka kb up op sh r T B M E G e n st fj lj vl qn qr qe qf qs al enn env enx frn fre frs frm frf ynd clr mrk vla evl ndd icl ecl mkr cvl cis) (hσ : σ + T + 2 = 2 * B) (k : kd (n T) = 5 ∨ kd (n T) = 6) (h1 : st T = 1) : ∃ u' v', rz_R ml cnt pc ifd wt rc gw rm kd ka kb op up bd pn sk f1 f2 lk sh cl wa wb se rg hm ra ef vi la sn fnd ow o1 o2 yc ck p1 p2 yh fi fa nf (σ + 1) N F r u' v' ∧ (∀ post : SX → Prop, post u' → xs_B post (nI T) (nI (n T)) (nI (st T)) (kd (n T)) ml (nI F) cnt pc ifd wt rc gw (nI E) (nI (T + 1)) vl rm (-1) (nI B) (nI M) (nI (cn (fun c => al c = 1) M)) pk kd ka kb op up bd pn sk f1 f2 lk sh cl wa wb se rg hm ra ef vi la sn qn qr qe qf qs al enn env enx frn fre (upd frs T (nI (st T + 1))) frm frf) ∧ (∀ (post : Int32 → SY → Prop) (J : Int32 → Int32 → Int32 → Int32 → Int32 → Int32 → Int32 → Int32 → Int32 → Int32 → (Nat → Int32) → (Nat → Int32) → (Nat → Int32) → (Nat → Int32) → (Nat → Int32) → (Nat → Int32) → (Nat → Int32) → (Nat → Int32) → (Nat → Int32) → (Nat → Int32) → (Nat → Int32) → (Nat → Int32) → (Nat → Int32) → (Nat → Int32) → (Nat → Int32) → (Nat → Int32) → (Nat → Int32) → (Nat → Int32) → (Nat → Int32) → (Nat → Int32) → (Nat → Int32) → (Nat → Int32) → (Nat → Int32) → (Nat → Int32) → (Nat → Int32) → (Nat → Int32) → Nat → Prop), yj_J J (nI (σ + 1)) v' → wY_advance_85 (fun u => match u with | (ml', fl', cnt', ls', sp', md', pk', fnd', ifd', kd', ka', kb', up', ow', o1', o2', yc', ck', p1', p2', yh', fi', fa', ynd', clr', mrk', vla', evl', ndd', icl', ecl', mkr', cvl', al', cis', nf') => yv_B post J rm (nI σ) (nI (e T)) ml' fl' cnt' ls' sp' md' pk' fnd' ifd' kd' ka' kb' up' ow' o1' o2' yc' ck' p1' p2' yh' fi' fa' ynd' clr' mrk' vla' evl' ndd' icl' ecl' mkr' cvl' al' cis' nf') (nI (e T)) (nI (n T)) (kd (n T)) (nI (st T)) (nI (fj T)) (nI (lj T)) (if kd (n T) = 2 then 0 else nI (tm_ar (kd (n T)))) ml (nI F) cnt (-1) (nI B) (nI M) pk fnd ifd kd ka kb up ow o1 o2 yc ck p1 p2 yh fi fa ynd clr mrk vla evl ndd icl ecl mkr cvl al cis nf) := by
  have TT := SF.1
  have C := SF.2.1
  have hF := SF.2.2.2.2.2.2.2
  have hN := TT.1
  have b1 := S.1
  obtain ⟨⟨t1, t2, t3, t4, -, t8, t9, t10, t11, t12, t13⟩, tc, tv⟩ := S.2.2.2.2.2.1 T (Nat.le_refl _)
  obtain ⟨la1, lv⟩ := S.2.2.2.2.2.2.2 (by omega)
  obtain ⟨a1, a2, a3, a4⟩ := rs_act S
  have fl' : fj T = lj T := tc.2.2.2.2.2.1 h1
  obtain ⟨n', q1, q2, q3⟩ := (S.2.2.2.2.1 (lj T) t13).2 la1
  have ha : tm_ar (kd (n T)) = 1 := by
    rcases k with h | h
    · rw [ar_5 h]
    · rw [ar_6 h]
  have o := TT.2.2.2.1.1 (n T) 0 t1 (by omega)
  have en : n' = tm_c op (n T) 0 := by
    have := tc.2.2.2.2.1 (by omega)
    rw [fl', q2] at this
    exact (nI_eq (by omega) (by omega)).mp this
  subst en
  have be : be_E kd ka kb up op (n T) (3 * tm_c op (n T) 0) (3 * n T + 1) := Or.inr (Or.inl ⟨by rcases k with h | h <;> simp [h], rfl, rfl⟩)
  have req := C.2.2.1 _ _ _ t1 be
  have nk : 2 < kd (n T) ∧ kd (n T) ≠ 7 ∧ kd (n T) ≠ 2 ∧ kd (n T) ≠ 3 ∧ kd (n T) ≠ 1 := by rcases k with h | h <;> (rw [h]; decide)
  have V := ty_va q3
  have xw : ∀ post : SX → Prop, wX_afterFirst_18 post (kd (n T)) ml (nI F) cnt pc ifd wt rc gw (nI E) (nI (T + 1)) vl rm (-1) (nI B) (nI M) (nI (cn (fun c => al c = 1) M)) pk kd ka kb op up bd pn sk f1 f2 lk sh cl wa wb se rg hm ra ef vi la sn qn qr qe qf qs al enn env enx frn fre (upd frs T (nI (st T + 1))) frm frf → xs_B post (nI T) (nI (n T)) (nI (st T)) (kd (n T)) ml (nI F) cnt pc ifd wt rc gw (nI E) (nI (T + 1)) vl rm (-1) (nI B) (nI M) (nI (cn (fun c => al c = 1) M)) pk kd ka kb op up bd pn sk f1 f2 lk sh cl wa wb se rg hm ra ef vi la sn qn qr qe qf qs al enn env enx frn fre (upd frs T (nI (st T + 1))) frm frf := by
    intro post K
    refine br_t nk.1 (br_f (by rw [h1]; decide) (br_t (by rw [h1]; rfl) ⟨pk_in (n T) 32 (by omega), nm_r (e' := kd (n T)) (by rw [nI_clamp (by omega)]) ?_⟩))
    rcases k with h | h
    · exact br_t h K
    · exact br_f (by rw [h]; decide) (br_t h K)
  have yw : ∀ post : SY → Prop, wY_advance_178 post (nI (e T)) (nI (n T)) (kd (n T)) (nI (fj T)) (nI (lj T)) 0 ml (nI F) cnt (-1) (nI B) (nI M) pk fnd ifd kd ka kb up ow o1 o2 yc ck p1 p2 yh fi fa ynd clr mrk vla evl ndd icl ecl mkr cvl al cis nf → wY_advance_85 post (nI (e T)) (nI (n T)) (kd (n T)) (nI (st T)) (nI (fj T)) (nI (lj T)) (if kd (n T) = 2 then 0 else nI (tm_ar (kd (n T)))) ml (nI F) cnt (-1) (nI B) (nI M) pk fnd ifd kd ka kb up ow o1 o2 yc ck p1 p2 yh fi fa ynd clr mrk vla evl ndd icl ecl mkr cvl al cis nf := by
    intro post K
    rw [if_neg nk.2.2.1, h1, ha]
    refine br_f nk.2.1 (br_t (by decide) (br_f nk.2.2.2.1 (br_t rfl ?_)))
    rcases k with h | h
    · exact br_t h K
    · exact br_f (by rw [h]; decide) (br_t h K)
  rcases Classical.em (∃ d, d < M ∧ icl (lj T) = 1 ∧ vla (lj T) = nI d ∧ al d = 1) with ⟨d, hd, i1, ed, ad⟩ | nd
  · obtain ⟨m, w1, w2, w3, w4, w5, w6, w7⟩ := S.2.2.2.1 d hd
    have q3' := q3
    rw [i1] at q3'
    have k4 : kd m = 4 := by
      rcases k with h | h
      · exact ((ty_cell TT C q3' t1 (fo_5 h) req.symm (by omega) (by omega) ed w4 w1 w2).2.1).mp rfl
      · exact ((ty_cell TT C q3' t1 (fo_6 h) req.symm (by omega) (by omega) ed w4 w1 w2).2.1).mp rfl
    obtain ⟨p1', p2', p3', p4'⟩ := w6 k4
    have rm3 : r (3 * m) = r (3 * n T + 1) := by
      rcases id q3' with ⟨z, -⟩ | ⟨-, c', m', z1, z2, z3, z4, z5⟩
      · exact absurd z (by decide)
      · have ec : d = c' := (nI_eq (by omega) (by omega)).mp (ed.symm.trans z2)
        subst ec
        have em : m = m' := (nI_eq (by omega) (by omega)).mp (w4.symm.trans z3)
        subst em
        exact z5.trans req
    have cases : ∃ q v b, q < 2 ∧ (kd (n T) = 5 → q = 0) ∧ (kd (n T) ≠ 5 → q = 1) ∧ v = cvl (d * 8 + q) ∧ b = cis (d * 8 + q) ∧ ty_V N M kd op r mkr v b (3 * n T) ∧ (q = 0 → qf d = en_c v b) ∧ (q = 1 → qs d = en_c v b) := by
      rcases k with h | h
      · have cg := (ty_cg TT C w1 t1 (fo_4 k4) (fo_5 h) rm3).2 (by omega)
        exact ⟨0, _, _, by omega, fun _ => rfl, fun z => absurd h z, rfl, rfl, ty_s p3' cg.1, fun _ => p1', fun z => absurd z (by omega)⟩
      · have cg := (ty_cg TT C w1 t1 (fo_4 k4) (fo_6 h) rm3).2 (by omega)
        exact ⟨1, _, _, by omega, fun z => absurd (h.symm.trans z) (by decide), fun _ => rfl, rfl, rfl, ty_s p4' cg.2, fun z => absurd z (by omega), fun _ => p2'⟩
    obtain ⟨q, v, b, hq, g5, g6, ev, eb, tvv, x0, x1⟩ := cases
    obtain ⟨u', v', R, hX, hY⟩ := rs_f0 (v := v) (b := b) SF S hσ tvv
    refine ⟨u', v', R, fun post K => xw post ?_, fun post J K => yw _ ?_⟩
    · unfold wX_afterFirst_18
      refine xr_to (M := M) (by omega) S.2.1 V lv (fun z => ?_) (fun c' hc' z1 z2 z3 => ?_)
      · rcases z with z | ⟨c', hc', z1, z2, z3⟩
        · exact absurd (z.symm.trans i1) (by decide)
        · have ec : d = c' := (nI_eq (by omega) (by omega)).mp (ed.symm.trans z2)
          subst ec
          exact absurd (z3.symm.trans ad) (by decide)
      · have ec : d = c' := (nI_eq (by omega) (by omega)).mp (ed.symm.trans z2)
        subst ec
        refine br_t (nI_pos' (by omega)) ?_
        rcases Classical.em (kd (n T) = 5) with h | h
        · refine br_t h ⟨pk_in d 240 (by omega), ?_⟩
          show wX_afterFirst_57 _ (qf (nI d).toNatClampNeg) ml (nI F) cnt pc ifd wt rc gw (nI E) (nI (T + 1)) vl rm (-1) (nI B) (nI M) (nI (cn (fun c => al c = 1) M)) pk kd ka kb op up bd pn sk f1 f2 lk sh cl wa wb se rg hm ra ef vi la sn qn qr qe qf qs al enn env enx frn fre (upd frs T (nI (st T + 1))) frm frf
          rw [nI_clamp (n := d) (by omega), x0 (g5 h)]
          exact hX _ K
        · refine br_f h ⟨pk_in d 240 (by omega), ?_⟩
          show wX_afterFirst_57 _ (qs (nI d).toNatClampNeg) ml (nI F) cnt pc ifd wt rc gw (nI E) (nI (T + 1)) vl rm (-1) (nI B) (nI M) (nI (cn (fun c => al c = 1) M)) pk kd ka kb op up bd pn sk f1 f2 lk sh cl wa wb se rg hm ra ef vi la sn qn qr qe qf qs al enn env enx frn fre (upd frs T (nI (st T + 1))) frm frf
          rw [nI_clamp (n := d) (by omega), x1 (g6 h)]
          exact hX _ K
    · refine ys_178 (M := M) (by omega) (by omega) S.2.1 (by rw [fl']; exact V) (fun z => ?_) (fun c' hc' z1 z2 z3 => ?_)
      · rw [fl'] at z
        rcases z with z | ⟨c', hc', z1, z2, z3⟩
        · exact absurd (z.symm.trans i1) (by decide)
        · have ec : d = c' := (nI_eq (by omega) (by omega)).mp (ed.symm.trans z2)
          subst ec
          exact absurd (z3.symm.trans ad) (by decide)
      · refine br_t rfl (br_f nk.2.2.2.2 ⟨pk_in (fj T) 240 (by omega), ?_⟩)
        rw [nI_clamp (n := fj T) (by omega), fl', ed]
        have e8 : nI d * 8 = nI (d * 8) := pk_mul d 8
        have fin : ∀ z, z = nI (d * 8 + q) → wY_advance_264 (fun u => match u with | (ml', fl', cnt', ls', sp', md', pk', fnd', ifd', kd', ka', kb', up', ow', o1', o2', yc', ck', p1', p2', yh', fi', fa', ynd', clr', mrk', vla', evl', ndd', icl', ecl', mkr', cvl', al', cis', nf') => yv_B post J rm (nI σ) (nI (e T)) ml' fl' cnt' ls' sp' md' pk' fnd' ifd' kd' ka' kb' up' ow' o1' o2' yc' ck' p1' p2' yh' fi' fa' ynd' clr' mrk' vla' evl' ndd' icl' ecl' mkr' cvl' al' cis' nf') (nI (e T)) (nI (n T)) (kd (n T)) (nI (lj T)) (nI (lj T)) z ml (nI F) cnt (-1) (nI B) (nI M) pk fnd ifd kd ka kb up ow o1 o2 yc ck p1 p2 yh fi fa ynd clr mrk vla evl ndd icl ecl mkr cvl al cis nf := by
          intro z ez
          exact ys_264 (by omega) (by omega) (by omega) (by omega) (Or.inr (Or.inr (Or.inr (Or.inl ⟨k, d * 8 + q, by omega, ez, ev, eb, ty_01 tvv⟩)))) (hY post J K)
        rcases Classical.em (kd (n T) = 5) with h | h
        · exact br_t h (fin _ (by rw [e8, g5 h]; exact nI_add _ 0))
        · exact br_f h (fin _ (by rw [e8, g6 h]; exact nI_add _ 1))
  · obtain ⟨u', v', R, eu, ev⟩ := rs_dead SF S hσ
    refine ⟨u', v', R, fun post K => xw post ?_, fun post J K => yw _ ?_⟩
    · unfold wX_afterFirst_18
      refine xr_to (M := M) (by omega) S.2.1 V lv (fun z => br_f (by decide) (by rw [eu] at K; exact K)) (fun c' hc' z1 z2 z3 => absurd ⟨c', hc', z1, z2, z3⟩ nd)
    · refine ys_178 (M := M) (by omega) (by omega) S.2.1 (by rw [fl']; exact V) (fun z => yv_go (by omega) a1 a2 (by rw [ev] at K; exact K)) (fun c' hc' z1 z2 z3 => ?_)
      rw [fl'] at z1 z2
      exact absurd ⟨c', hc', z1, z2, z3⟩ nd
/-- a function is applied -/
theorem st_app {N F σ T B M E : Nat} {r c : Nat → Nat} {G : Nat → Nat → Int64} {e n st fj lj : Nat → Nat} (SF : sf_S N F kd ka kb up op sk sh cl rg hm ow o1 o2 yc yh r c) (S : rs_G N F kd ka kb up op sh r T B M E G e n st fj lj vl qn qr qe qf qs al enn env enx frn fre frs frm frf ynd clr mrk vla evl ndd icl ecl mkr cvl cis) (hσ : σ + T + 2 = 2 * B) (k3 : kd (n T) = 3) (h2 : st T = 2) : ∃ u' v', rz_R ml cnt pc ifd wt rc gw rm kd ka kb op up bd pn sk f1 f2 lk sh cl wa wb se rg hm ra ef vi la sn fnd ow o1 o2 yc ck p1 p2 yh fi fa nf (σ + 1) N F r u' v' ∧ (∀ post : SX → Prop, post u' → xs_B post (nI T) (nI (n T)) (nI (st T)) (kd (n T)) ml (nI F) cnt pc ifd wt rc gw (nI E) (nI (T + 1)) vl rm (-1) (nI B) (nI M) (nI (cn (fun c => al c = 1) M)) pk kd ka kb op up bd pn sk f1 f2 lk sh cl wa wb se rg hm ra ef vi la sn qn qr qe qf qs al enn env enx frn fre (upd frs T (nI (st T + 1))) frm frf) ∧ (∀ (post : Int32 → SY → Prop) (J : Int32 → Int32 → Int32 → Int32 → Int32 → Int32 → Int32 → Int32 → Int32 → Int32 → (Nat → Int32) → (Nat → Int32) → (Nat → Int32) → (Nat → Int32) → (Nat → Int32) → (Nat → Int32) → (Nat → Int32) → (Nat → Int32) → (Nat → Int32) → (Nat → Int32) → (Nat → Int32) → (Nat → Int32) → (Nat → Int32) → (Nat → Int32) → (Nat → Int32) → (Nat → Int32) → (Nat → Int32) → (Nat → Int32) → (Nat → Int32) → (Nat → Int32) → (Nat → Int32) → (Nat → Int32) → (Nat → Int32) → (Nat → Int32) → (Nat → Int32) → (Nat → Int32) → Nat → Prop), yj_J J (nI (σ + 1)) v' → wY_advance_85 (fun u => match u with | (ml', fl', cnt', ls', sp', md', pk', fnd', ifd', kd', ka', kb', up', ow', o1', o2', yc', ck', p1', p2', yh', fi', fa', ynd', clr', mrk', vla', evl', ndd', icl', ecl', mkr', cvl', al', cis', nf') => yv_B post J rm (nI σ) (nI (e T)) ml' fl' cnt' ls' sp' md' pk' fnd' ifd' kd' ka' kb' up' ow' o1' o2' yc' ck' p1' p2' yh' fi' fa' ynd' clr' mrk' vla' evl' ndd' icl' ecl' mkr' cvl' al' cis' nf') (nI (e T)) (nI (n T)) (kd (n T)) (nI (st T)) (nI (fj T)) (nI (lj T)) (if kd (n T) = 2 then 0 else nI (tm_ar (kd (n T)))) ml (nI F) cnt (-1) (nI B) (nI M) pk fnd ifd kd ka kb up ow o1 o2 yc ck p1 p2 yh fi fa ynd clr mrk vla evl ndd icl ecl mkr cvl al cis nf) := by
  have TT := SF.1
  have C := SF.2.1
  have hF := SF.2.2.2.2.2.2.2
  have hN := TT.1
  have b1 := S.1
  obtain ⟨⟨t1, t2, t3, t4, -, t8, t9, t10, t11, t12, t13⟩, tc, tv⟩ := S.2.2.2.2.2.1 T (Nat.le_refl _)
  obtain ⟨la1, lv⟩ := S.2.2.2.2.2.2.2 (by omega)
  obtain ⟨a1, a2, a3, a4⟩ := rs_act S
  have fv := tv (by omega) (by rw [k3]; decide)
  have o0 := TT.2.2.2.1.1 (n T) 0 t1 (by rw [ar_3 k3]; omega)
  have o1' := TT.2.2.2.1.1 (n T) 1 t1 (by rw [ar_3 k3]; omega)
  obtain ⟨nf', q1, q2, q3⟩ := (S.2.2.2.2.1 (fj T) t12).2 fv.1
  have ef' : nf' = tm_c op (n T) 0 := (nI_eq (by omega) (by omega)).mp (q2.symm.trans (tc.2.2.2.2.1 (by omega)))
  subst ef'
  obtain ⟨nl, l1, l2, l3⟩ := (S.2.2.2.2.1 (lj T) t13).2 la1
  have el' : nl = tm_c op (n T) 1 := (nI_eq (by omega) (by omega)).mp (l2.symm.trans (tc.2.2.2.2.2.2.1 h2 (by rw [k3]; decide)))
  subst el'
  have be : be_E kd ka kb up op (n T) (3 * tm_c op (n T) 0) (3 * n T + 1) := Or.inr (Or.inl ⟨Or.inl k3, rfl, rfl⟩)
  have req := C.2.2.1 _ _ _ t1 be
  have V := ty_va q3
  have xw : ∀ post : SX → Prop, wpX_enterBody post (ml, nI F, cnt, pc, ifd, wt, rc, gw, nI E, nI (T + 1), vl, rm, -1, nI B, nI M, nI (cn (fun c => al c = 1) M), pk, kd, ka, kb, op, up, bd, pn, sk, f1, f2, lk, sh, cl, wa, wb, se, rg, hm, ra, ef, vi, la, sn, qn, qr, qe, qf, qs, al, enn, env, enx, frn, fre, upd frs T (nI (st T + 1)), frm, frf) (nI T) → xs_B post (nI T) (nI (n T)) (nI (st T)) (kd (n T)) ml (nI F) cnt pc ifd wt rc gw (nI E) (nI (T + 1)) vl rm (-1) (nI B) (nI M) (nI (cn (fun c => al c = 1) M)) pk kd ka kb op up bd pn sk f1 f2 lk sh cl wa wb se rg hm ra ef vi la sn qn qr qe qf qs al enn env enx frn fre (upd frs T (nI (st T + 1))) frm frf := by
    intro post K
    exact br_t (by rw [k3]; decide) (br_f (by rw [h2]; decide) (br_f (by rw [h2]; decide) (br_t (by rw [h2]; rfl) ⟨pk_in (n T) 32 (by omega), nm_r (e' := 3) (by rw [nI_clamp (by omega)]; exact k3) (br_t rfl K)⟩)))
  have yw : ∀ post : SY → Prop, wY_advance_178 post (nI (e T)) (nI (n T)) 3 (nI (fj T)) (nI (lj T)) 1 ml (nI F) cnt (-1) (nI B) (nI M) pk fnd ifd kd ka kb up ow o1 o2 yc ck p1 p2 yh fi fa ynd clr mrk vla evl ndd icl ecl mkr cvl al cis nf → wY_advance_85 post (nI (e T)) (nI (n T)) (kd (n T)) (nI (st T)) (nI (fj T)) (nI (lj T)) (if kd (n T) = 2 then 0 else nI (tm_ar (kd (n T)))) ml (nI F) cnt (-1) (nI B) (nI M) pk fnd ifd kd ka kb up ow o1 o2 yc ck p1 p2 yh fi fa ynd clr mrk vla evl ndd icl ecl mkr cvl al cis nf := by
    intro post K
    rw [k3, h2]
    exact br_f (by decide) (br_t (by decide) (br_t rfl (br_t rfl (br_f (by decide) K))))
  rcases Classical.em (∃ d, d < M ∧ icl (fj T) = 1 ∧ vla (fj T) = nI d ∧ al d = 1) with ⟨d, hd, i1, ed, ad⟩ | nd
  · obtain ⟨m, w1, w2, w3, w4, w5, w6, w7⟩ := S.2.2.2.1 d hd
    have q3' := q3
    rw [i1] at q3'
    have ty := ty_cell TT C q3' t1 (fo_3 k3) req.symm (by omega) (by omega) ed w4 w1 w2
    have k2 : kd m = 2 := ty.1.mp rfl
    have rm3 : r (3 * m) = r (3 * n T + 1) := ty.2.2.1.trans req
    have cg := (ty_cg TT C w1 t1 (fo_2 k2) (fo_3 k3) rm3).2 (by omega)
    obtain ⟨evr, wet⟩ := w7 k2
    obtain ⟨u', v', R, hX, hY⟩ := rs_call SF S hσ k3 h2 hd w1 k2 w4 evr wet ed (ty_s q3 ty.2.2.1.symm) (ty_s l3 cg.1.symm) cg.2
    refine ⟨u', v', R, fun post K => xw post ?_, fun post J K => yw _ ?_⟩
    · unfold wpX_enterBody
      refine ⟨pk_in T 240 (by omega), ?_⟩
      rw [nI_clamp (n := T) (by omega)]
      refine xr_to (M := M) (by omega) S.2.1 V fv.2 (fun z => ?_) (fun c' hc' z1 z2 z3 => ?_)
      · rcases z with z | ⟨c', hc', z1, z2, z3⟩
        · exact absurd (z.symm.trans i1) (by decide)
        · have ec : d = c' := (nI_eq (by omega) (by omega)).mp (ed.symm.trans z2)
          subst ec
          exact absurd (z3.symm.trans ad) (by decide)
      · have ec : d = c' := (nI_eq (by omega) (by omega)).mp (ed.symm.trans z2)
        subst ec
        have cd : (nI d).toNatClampNeg = d := nI_clamp (by omega)
        refine br_t (nI_pos' (by omega)) ⟨pk_in d 240 (by omega), nm_r (e' := nI m) (by rw [cd]; exact w3) ⟨pk_in d 240 (by omega), pk_in m 32 (by omega), pk_in T 240 (by omega), ?_⟩⟩
        have H := hX post K
        have e1 : qe (nI d).toNatClampNeg = qe d := by rw [cd]
        have e2 : ka (nI m).toNatClampNeg = ka m := by rw [nI_clamp (by omega)]
        have e3 : frf T = en_c (vla (fj T)) (icl (fj T)) := fv.2
        rw [← e1, ← e2, ← e3] at H
        exact H
    · refine ys_178 (M := M) (by omega) (by omega) S.2.1 V (fun z => ?_) (fun c' hc' z1 z2 z3 => br_f (by decide) (hY post J K))
      rcases z with z | ⟨c', hc', z1, z2, z3⟩
      · exact absurd (z.symm.trans i1) (by decide)
      · have ec : d = c' := (nI_eq (by omega) (by omega)).mp (ed.symm.trans z2)
        subst ec
        exact absurd (z3.symm.trans ad) (by decide)
  · obtain ⟨u', v', R, eu, ev⟩ := rs_dead SF S hσ
    refine ⟨u', v', R, fun post K => xw post ?_, fun post J K => yw _ ?_⟩
    · unfold wpX_enterBody
      refine ⟨pk_in T 240 (by omega), ?_⟩
      rw [nI_clamp (n := T) (by omega)]
      exact xr_to (M := M) (by omega) S.2.1 V fv.2 (fun z => br_f (by decide) (by rw [eu] at K; exact K)) (fun c' hc' z1 z2 z3 => absurd ⟨c', hc', z1, z2, z3⟩ nd)
    · exact ys_178 (M := M) (by omega) (by omega) S.2.1 V (fun z => yv_go (by omega) a1 a2 (by rw [ev] at K; exact K)) (fun c' hc' z1 z2 z3 => absurd ⟨c', hc', z1, z2, z3⟩ nd)
end
end
section
theorem ce_new {N M E n : Nat} {kd ka kb up op sh : Nat → Int32} {r : Nat → Nat} {G : Nat → Nat → Int64} {qn qr qe : Nat → Int32} {qf qs : Nat → Int64} {mkr cvl cis g1 g2 : Nat → Int32} {p1 p2 : Int64} {p3 : Int32} (h : ce_R N M E kd ka kb up op sh r G qn qr qe qf qs mkr cvl cis) (hn : n < N) (hk : kd n = 2 ∨ kd n = 4)
    (h4 : kd n = 4 → p1 = en_c (g1 0) (g2 0) ∧ p2 = en_c (g1 1) (g2 1) ∧ ty_V N M kd op r mkr (g1 0) (g2 0) (3 * tm_c op n 0) ∧ ty_V N M kd op r mkr (g1 1) (g2 1) (3 * tm_c op n 1)) (h2 : kd n = 2 → ev_R E G p3 g1 g2 ∧ we_T N M kd ka kb up op r mkr g1 g2 n) :
    ce_R N (M + 1) E kd ka kb up op sh r G (upd qn M (nI n)) (upd qr M (nI (rg_J N kd op sh r (r (3 * n))))) (upd qe M p3) (vp_updL qf M p1) (vp_updL qs M p2) (upd mkr M (nI n)) (rw_f M cvl g1) (rw_f M cis g2) := by
  have mm : ∀ c, c < M → upd mkr M (nI n) c = mkr c := fun c hc => pk_un (by omega)
  have rS := rw_i (B := M) (evl := cvl) (ecl := cis) (g1 := g1) (g2 := g2)
  intro c hc
  rcases Classical.em (c = M) with w | w
  · subst w
    have row : ∀ x, x < 8 → rw_f c cvl g1 (c * 8 + x) = g1 x ∧ rw_f c cis g2 (c * 8 + x) = g2 x := fun x hx => rS.1 x hx
    refine ⟨n, hn, hk, pk_us, pk_us, pk_us, fun k4 => ?_, fun k2 => ?_⟩
    · obtain ⟨a1, a2, a3, a4⟩ := h4 k4
      have r0 := row 0 (by omega)
      have r1 := row 1 (by omega)
      rw [Nat.add_zero] at r0
      rw [pk_uLs, pk_uLs, r0.1, r0.2, r1.1, r1.2]
      exact ⟨a1, a2, ty_m a3 (by omega) mm, ty_m a4 (by omega) mm⟩
    · obtain ⟨a1, a2⟩ := h2 k2
      rw [pk_us]
      exact ⟨ev_g a1 row, we_g (we_m a2 (by omega) mm) row⟩
  · obtain ⟨m, a1, a2, a3, a4, a5, a6, a7⟩ := h c (by omega)
    have row : ∀ x, x < 8 → rw_f M cvl g1 (c * 8 + x) = cvl (c * 8 + x) ∧ rw_f M cis g2 (c * 8 + x) = cis (c * 8 + x) := fun x hx => rS.2 _ (by omega)
    rw [pk_un w, pk_un w, pk_un w, pk_un w, pk_uLn w, pk_uLn w]
    refine ⟨m, a1, a2, a3, a4, a5, fun k4 => ?_, fun k2 => ?_⟩
    · obtain ⟨b1, b2, b3, b4⟩ := a6 k4
      have r0 := row 0 (by omega)
      have r1 := row 1 (by omega)
      rw [Nat.add_zero] at r0
      rw [r0.1, r0.2, r1.1, r1.2]
      exact ⟨b1, b2, ty_m b3 (by omega) mm, ty_m b4 (by omega) mm⟩
    · obtain ⟨b1, b2⟩ := a7 k2
      exact ⟨ev_g b1 row, we_g (we_m b2 (by omega) mm) row⟩
section
variable {ml fl cnt pc ifd wt rc gw ec tp : Int32} {vl : Int64} {rm ls sp md hld pk : Int32} {kd ka kb op up bd pn sk f1 f2 lk sh cl wa wb se rg hm : Nat → Int32} {ra ef vi la sn : Nat → Int64} {qn qr qe : Nat → Int32} {qf qs : Nat → Int64} {al enn : Nat → Int32} {env : Nat → Int64} {enx frn fre frs frm : Nat → Int32} {frf : Nat → Int64} {fnd : Int32} {ow o1 o2 yc ck p1 p2 yh fi fa ynd clr mrk vla evl ndd icl ecl mkr cvl cis : Nat → Int32} {nf : Nat}
theorem ys_mk {post : SY → Prop} {M e n fj lj : Nat} {k z : Int32} {g1 g2 : Nat → Int32} (hk : k = 2 ∨ k = 4) (hM : M < 240) (he : e < 240) (hfi : fj < 240) (hla : lj < 240) (h01 : ∀ c, c < M → al c = 0 ∨ al c = 1)
    (hg : (k = 4 ∧ fj ≠ e ∧ lj ≠ e ∧ (∀ i, i < 8 → g1 i = vla (if i = 0 then fj else lj) ∧ g2 i = icl (if i = 0 then fj else lj) ∧ (g2 i = 0 ∨ g2 i = 1))) ∨ (k ≠ 4 ∧ ∀ i, i < 8 → g1 i = evl (e * 8 + i) ∧ g2 i = ecl (e * 8 + i) ∧ (g2 i = 0 ∨ g2 i = 1)))
    (K : ∀ pk', (nI (cn (fun c => al c = 1) M + 1) ≤ pk → pk' = pk) → (¬ nI (cn (fun c => al c = 1) M + 1) ≤ pk → pk' = nI (cn (fun c => al c = 1) M + 1)) → post (ml, fl, cnt, ls, sp, nI (M + 1), pk', fnd, ifd, kd, ka, kb, up, ow, o1, o2, yc, ck, p1, p2, yh, fi, fa, ynd, clr, mrk, upd vla e (nI M), evl, upd ndd e 1, upd icl e 1, ecl, upd mkr M (nI n), rw_f M cvl g1, upd al M 1, rw_f M cis g2, nf)) :
    wY_advance_264 post (nI e) (nI n) k (nI fj) (nI lj) z ml fl cnt ls sp (nI M) pk fnd ifd kd ka kb up ow o1 o2 yc ck p1 p2 yh fi fa ynd clr mrk vla evl ndd icl ecl mkr cvl al cis nf := by
  have ce : (nI e).toNatClampNeg = e := nI_clamp (by omega)
  have ve : vp_in (nI e) 240 := pk_in e 240 he
  unfold wY_advance_264
  rw [ce]
  refine ⟨ve, nm_r (e' := upd ndd e 1) rfl ⟨ve, nm_r (e' := upd icl e 0) rfl ?_⟩⟩
  have s446 : ∃ n446 : Nat, wY_advance_446 post (nI e) (nI n) k (nI fj) (nI lj) ml fl cnt ls sp (nI M) pk fnd ifd nf n446 0 kd ka kb up ow o1 o2 yc ck p1 p2 yh fi fa ynd clr mrk vla evl (upd ndd e 1) (upd icl e 0) ecl mkr cvl al cis := by
    refine ⟨9, yk_446 (g1 := g1) (g2 := g2) hM he hfi hla h01 ?_ (fun cvl' cis' pk' R a b => ?_) 9 0 cvl cis (fun j hj => absurd hj (by omega)) (fun j _ => ⟨rfl, rfl⟩) (by omega) (by omega)⟩
    · rcases hg with ⟨k4, n1, n2, hg⟩ | hg
      · refine Or.inl ⟨k4, fun i hi => ?_⟩
        have := hg i hi
        rw [show upd icl e 0 (if i = 0 then fj else lj) = icl (if i = 0 then fj else lj) from pk_un (by split; exact n1; exact n2)]
        exact this
      · exact Or.inr hg
    · obtain ⟨q1, q2⟩ := rw_u R
      subst q1 q2
      rw [up_up]
      exact K pk' a b
  rcases hk with rfl | rfl
  · exact br_f (by decide) (br_f (by decide) (br_f (by decide) (br_f (by decide) (br_f (by decide) (br_f (by decide) (br_f (by decide) s446))))))
  · exact br_f (by decide) (br_f (by decide) (br_f (by decide) (br_f (by decide) (br_f (by decide) (br_f (by decide) (br_f (by decide) s446))))))
theorem hl_new {M : Nat} : cn (fun c => upd al M 1 c = 1) (M + 1) = cn (fun c => al c = 1) M + 1 := by
  show cn (fun c => upd al M 1 c = 1) M + b01 (upd al M 1 M = 1) = _
  rw [b01_t pk_us]
  exact congrArg (· + 1) (cn_eq fun c hc => by rw [pk_un (by omega)])
/-- an end with a new cell of the node itself -/
theorem rs_f1 {N F σ T B M E : Nat} {r c : Nat → Nat} {G : Nat → Nat → Int64} {e n st fj lj : Nat → Nat} (SF : sf_S N F kd ka kb up op sk sh cl rg hm ow o1 o2 yc yh r c) (S : rs_G N F kd ka kb up op sh r T B M E G e n st fj lj vl qn qr qe qf qs al enn env enx frn fre frs frm frf ynd clr mrk vla evl ndd icl ecl mkr cvl cis) (hσ : σ + T + 2 = 2 * B) {g1 g2 : Nat → Int32} {w1 w2 : Int64} {w3 pk' : Int32} (hk : kd (n T) = 2 ∨ kd (n T) = 4)
    (h4 : kd (n T) = 4 → w1 = en_c (g1 0) (g2 0) ∧ w2 = en_c (g1 1) (g2 1) ∧ ty_V N M kd op r mkr (g1 0) (g2 0) (3 * tm_c op (n T) 0) ∧ ty_V N M kd op r mkr (g1 1) (g2 1) (3 * tm_c op (n T) 1)) (h2 : kd (n T) = 2 → ev_R E G w3 g1 g2 ∧ we_T N M kd ka kb up op r mkr g1 g2 (n T)) :
    ∃ u' v', rz_R ml cnt pc ifd wt rc gw rm kd ka kb op up bd pn sk f1 f2 lk sh cl wa wb se rg hm ra ef vi la sn fnd ow o1 o2 yc ck p1 p2 yh fi fa nf (σ + 1) N F r u' v' ∧ (∀ post : SX → Prop, post u' → wpX_finish post (ml, nI F, cnt, pc, ifd, wt, rc, gw, nI E, nI (T + 1), en_c (nI M) 1, rm, -1, nI B, nI (M + 1), nI (cn (fun c => al c = 1) M + 1), pk', kd, ka, kb, op, up, bd, pn, sk, f1, f2, lk, sh, cl, wa, wb, se, rg, hm, ra, ef, vi, la, sn, upd qn M (nI (n T)), upd qr M (nI (rg_J N kd op sh r (r (3 * n T)))), upd qe M w3, vp_updL qf M w1, vp_updL qs M w2, upd al M 1, enn, env, enx, frn, fre, upd frs T (nI (st T + 1)), frm, frf)) ∧
      (∀ (post : Int32 → SY → Prop) (J : Int32 → Int32 → Int32 → Int32 → Int32 → Int32 → Int32 → Int32 → Int32 → Int32 → (Nat → Int32) → (Nat → Int32) → (Nat → Int32) → (Nat → Int32) → (Nat → Int32) → (Nat → Int32) → (Nat → Int32) → (Nat → Int32) → (Nat → Int32) → (Nat → Int32) → (Nat → Int32) → (Nat → Int32) → (Nat → Int32) → (Nat → Int32) → (Nat → Int32) → (Nat → Int32) → (Nat → Int32) → (Nat → Int32) → (Nat → Int32) → (Nat → Int32) → (Nat → Int32) → (Nat → Int32) → (Nat → Int32) → (Nat → Int32) → (Nat → Int32) → (Nat → Int32) → Nat → Prop), yj_J J (nI (σ + 1)) v' → yv_B post J rm (nI σ) (nI (e T)) ml (nI F) cnt (-1) (nI B) (nI (M + 1)) pk' fnd ifd kd ka kb up ow o1 o2 yc ck p1 p2 yh fi fa ynd clr mrk (upd vla (e T) (nI M)) evl (upd ndd (e T) 1) (upd icl (e T) 1) ecl (upd mkr M (nI (n T))) (rw_f M cvl g1) (upd al M 1) (rw_f M cis g2) nf) := by
  have t1 := (S.2.2.2.2.2.1 T (Nat.le_refl _)).1.1
  rw [← hl_new (al := al) (M := M)]
  refine rs_fin (M' := M + 1) (qn' := upd qn M (nI (n T))) (qr' := upd qr M (nI (rg_J N kd op sh r (r (3 * n T))))) (qe' := upd qe M w3) (qf' := vp_updL qf M w1) (qs' := vp_updL qs M w2) (al1 := upd al M 1) (mkr' := upd mkr M (nI (n T))) (cvl' := rw_f M cvl g1) (cis' := rw_f M cis g2) (frs' := upd frs T (nI (st T + 1))) (pk' := pk') (v := nI M) (b := 1) SF S hσ (by omega) (Nat.le_refl _) (fun c hc => pk_un (by omega)) (fun c hc => ?_) (ce_new S.2.2.2.1 t1 hk h4 h2) (fun j hj => pk_un (by omega)) (Or.inr ⟨rfl, M, n T, by omega, rfl, pk_us, t1, rfl⟩)
  rcases Classical.em (c = M) with y | y
  · subst y; exact Or.inr pk_us
  · rw [pk_un y]; exact S.2.1 c (by omega)
end
end
section
def pk_M (h pk : Int32) : Int32 := if h ≤ pk then pk else h
theorem pk_u {h pk p : Int32} (h1 : h ≤ pk → p = pk) (h2 : ¬ h ≤ pk → p = h) : p = pk_M h pk := by
  unfold pk_M
  split
  · rename_i z; exact h1 z
  · rename_i z; exact h2 z
section
variable {ml fl cnt pc ifd wt rc gw ec tp : Int32} {vl : Int64} {rm ls sp md hld pk : Int32} {kd ka kb op up bd pn sk f1 f2 lk sh cl wa wb se rg hm : Nat → Int32} {ra ef vi la sn : Nat → Int64} {qn qr qe : Nat → Int32} {qf qs : Nat → Int64} {al enn : Nat → Int32} {env : Nat → Int64} {enx frn fre frs frm : Nat → Int32} {frf : Nat → Int64} {fnd : Int32} {ow o1 o2 yc ck p1 p2 yh fi fa ynd clr mrk vla evl ndd icl ecl mkr cvl cis : Nat → Int32} {nf : Nat}
theorem st_fun {N F σ T B M E : Nat} {r c : Nat → Nat} {G : Nat → Nat → Int64} {e n st fj lj : Nat → Nat} (SF : sf_S N F kd ka kb up op sk sh cl rg hm ow o1 o2 yc yh r c) (S : rs_G N F kd ka kb up op sh r T B M E G e n st fj lj vl qn qr qe qf qs al enn env enx frn fre frs frm frf ynd clr mrk vla evl ndd icl ecl mkr cvl cis) (hσ : σ + T + 2 = 2 * B) (k2 : kd (n T) = 2) : ∃ u' v', rz_R ml cnt pc ifd wt rc gw rm kd ka kb op up bd pn sk f1 f2 lk sh cl wa wb se rg hm ra ef vi la sn fnd ow o1 o2 yc ck p1 p2 yh fi fa nf (σ + 1) N F r u' v' ∧ (∀ post : SX → Prop, post u' → xs_B post (nI T) (nI (n T)) (nI (st T)) (kd (n T)) ml (nI F) cnt pc ifd wt rc gw (nI E) (nI (T + 1)) vl rm (-1) (nI B) (nI M) (nI (cn (fun c => al c = 1) M)) pk kd ka kb op up bd pn sk f1 f2 lk sh cl wa wb se rg hm ra ef vi la sn qn qr qe qf qs al enn env enx frn fre (upd frs T (nI (st T + 1))) frm frf) ∧ (∀ (post : Int32 → SY → Prop) (J : Int32 → Int32 → Int32 → Int32 → Int32 → Int32 → Int32 → Int32 → Int32 → Int32 → (Nat → Int32) → (Nat → Int32) → (Nat → Int32) → (Nat → Int32) → (Nat → Int32) → (Nat → Int32) → (Nat → Int32) → (Nat → Int32) → (Nat → Int32) → (Nat → Int32) → (Nat → Int32) → (Nat → Int32) → (Nat → Int32) → (Nat → Int32) → (Nat → Int32) → (Nat → Int32) → (Nat → Int32) → (Nat → Int32) → (Nat → Int32) → (Nat → Int32) → (Nat → Int32) → (Nat → Int32) → (Nat → Int32) → (Nat → Int32) → (Nat → Int32) → (Nat → Int32) → Nat → Prop), yj_J J (nI (σ + 1)) v' → wY_advance_85 (fun u => match u with | (ml', fl', cnt', ls', sp', md', pk', fnd', ifd', kd', ka', kb', up', ow', o1', o2', yc', ck', p1', p2', yh', fi', fa', ynd', clr', mrk', vla', evl', ndd', icl', ecl', mkr', cvl', al', cis', nf') => yv_B post J rm (nI σ) (nI (e T)) ml' fl' cnt' ls' sp' md' pk' fnd' ifd' kd' ka' kb' up' ow' o1' o2' yc' ck' p1' p2' yh' fi' fa' ynd' clr' mrk' vla' evl' ndd' icl' ecl' mkr' cvl' al' cis' nf') (nI (e T)) (nI (n T)) (kd (n T)) (nI (st T)) (nI (fj T)) (nI (lj T)) (if kd (n T) = 2 then 0 else nI (tm_ar (kd (n T)))) ml (nI F) cnt (-1) (nI B) (nI M) pk fnd ifd kd ka kb up ow o1 o2 yc ck p1 p2 yh fi fa ynd clr mrk vla evl ndd icl ecl mkr cvl al cis nf) := by
  have TT := SF.1
  have C := SF.2.1
  have hcl := SF.2.2.1
  have RT := SF.2.2.2.1
  have hF := SF.2.2.2.2.2.2.2
  have hN := TT.1
  have b1 := S.1
  obtain ⟨⟨t1, t2, t3, t4, -, t8, t9, t10, t11, t12, t13⟩, tc, tv⟩ := S.2.2.2.2.2.1 T (Nat.le_refl _)
  have hst : st T = 0 := tc.1 (Or.inr (Or.inr k2))
  obtain ⟨u', v', R, hX, hY⟩ := rs_f1 (g1 := fun x => evl (e T * 8 + x)) (g2 := fun x => ecl (e T * 8 + x)) (w1 := 0) (w2 := 0) (w3 := fre T) (pk' := pk_M (nI (cn (fun c => al c = 1) M + 1)) pk) SF S hσ (Or.inl k2) (fun z => absurd (k2.symm.trans z) (by decide)) (fun _ => ⟨t8, t9⟩)
  refine ⟨u', v', R, fun post K => ?_, fun post J K => ?_⟩
  · refine br_f (by rw [k2]; decide) ⟨pk_in (n T) 32 (by omega), ?_⟩
    rw [nI_clamp (n := n T) (by omega), nI_clamp (n := T) (by omega)]
    refine br_f (by rw [k2]; decide) ⟨pk_in (n T) 32 (by omega), br_f (by rw [k2]; decide) ⟨pk_in T 240 (by omega), xr_mc TT C hcl RT t1 (bx_2 TT C t1 (Or.inl k2)) (by omega) rfl (fun pk' a b => ?_)⟩⟩
    have ep := pk_u a b
    subst ep
    exact hX _ K
  · rw [k2, hst]
    refine ys_85 (by omega) (by omega) (by decide) (by decide) (fun z => absurd z (by decide)) (fun _ => by decide) (fun z => absurd z (by decide)) (by omega) (fun z => absurd z (by decide)) (fun _ z => ?_)
    refine ys_mk (g1 := fun x => evl (e T * 8 + x)) (g2 := fun x => ecl (e T * 8 + x)) (Or.inl rfl) (by omega) (by omega) (by omega) (by omega) S.2.1 (Or.inr ⟨by decide, fun i hi => ⟨rfl, rfl, (t8.2 i hi).2⟩⟩) (fun pk' a b => ?_)
    have ep := pk_u a b
    subst ep
    exact hY post J K
theorem st_pair {N F σ T B M E : Nat} {r c : Nat → Nat} {G : Nat → Nat → Int64} {e n st fj lj : Nat → Nat} (SF : sf_S N F kd ka kb up op sk sh cl rg hm ow o1 o2 yc yh r c) (S : rs_G N F kd ka kb up op sh r T B M E G e n st fj lj vl qn qr qe qf qs al enn env enx frn fre frs frm frf ynd clr mrk vla evl ndd icl ecl mkr cvl cis) (hσ : σ + T + 2 = 2 * B) (k4 : kd (n T) = 4) (hs : st T = 2) : ∃ u' v', rz_R ml cnt pc ifd wt rc gw rm kd ka kb op up bd pn sk f1 f2 lk sh cl wa wb se rg hm ra ef vi la sn fnd ow o1 o2 yc ck p1 p2 yh fi fa nf (σ + 1) N F r u' v' ∧ (∀ post : SX → Prop, post u' → xs_B post (nI T) (nI (n T)) (nI (st T)) (kd (n T)) ml (nI F) cnt pc ifd wt rc gw (nI E) (nI (T + 1)) vl rm (-1) (nI B) (nI M) (nI (cn (fun c => al c = 1) M)) pk kd ka kb op up bd pn sk f1 f2 lk sh cl wa wb se rg hm ra ef vi la sn qn qr qe qf qs al enn env enx frn fre (upd frs T (nI (st T + 1))) frm frf) ∧ (∀ (post : Int32 → SY → Prop) (J : Int32 → Int32 → Int32 → Int32 → Int32 → Int32 → Int32 → Int32 → Int32 → Int32 → (Nat → Int32) → (Nat → Int32) → (Nat → Int32) → (Nat → Int32) → (Nat → Int32) → (Nat → Int32) → (Nat → Int32) → (Nat → Int32) → (Nat → Int32) → (Nat → Int32) → (Nat → Int32) → (Nat → Int32) → (Nat → Int32) → (Nat → Int32) → (Nat → Int32) → (Nat → Int32) → (Nat → Int32) → (Nat → Int32) → (Nat → Int32) → (Nat → Int32) → (Nat → Int32) → (Nat → Int32) → (Nat → Int32) → (Nat → Int32) → (Nat → Int32) → (Nat → Int32) → Nat → Prop), yj_J J (nI (σ + 1)) v' → wY_advance_85 (fun u => match u with | (ml', fl', cnt', ls', sp', md', pk', fnd', ifd', kd', ka', kb', up', ow', o1', o2', yc', ck', p1', p2', yh', fi', fa', ynd', clr', mrk', vla', evl', ndd', icl', ecl', mkr', cvl', al', cis', nf') => yv_B post J rm (nI σ) (nI (e T)) ml' fl' cnt' ls' sp' md' pk' fnd' ifd' kd' ka' kb' up' ow' o1' o2' yc' ck' p1' p2' yh' fi' fa' ynd' clr' mrk' vla' evl' ndd' icl' ecl' mkr' cvl' al' cis' nf') (nI (e T)) (nI (n T)) (kd (n T)) (nI (st T)) (nI (fj T)) (nI (lj T)) (if kd (n T) = 2 then 0 else nI (tm_ar (kd (n T)))) ml (nI F) cnt (-1) (nI B) (nI M) pk fnd ifd kd ka kb up ow o1 o2 yc ck p1 p2 yh fi fa ynd clr mrk vla evl ndd icl ecl mkr cvl al cis nf) := by
  have TT := SF.1
  have C := SF.2.1
  have hcl := SF.2.2.1
  have RT := SF.2.2.2.1
  have hF := SF.2.2.2.2.2.2.2
  have hN := TT.1
  have b1 := S.1
  obtain ⟨⟨t1, t2, t3, t4, -, t8, t9, t10, t11, t12, t13⟩, tc, tv⟩ := S.2.2.2.2.2.1 T (Nat.le_refl _)
  obtain ⟨la1, lv⟩ := S.2.2.2.2.2.2.2 (by omega)
  obtain ⟨a1, a2, a3, a4⟩ := rs_act S
  have fv := tv (by omega) (by rw [k4]; decide)
  have o0 := TT.2.2.2.1.1 (n T) 0 t1 (by rw [ar_4 k4]; omega)
  have o1' := TT.2.2.2.1.1 (n T) 1 t1 (by rw [ar_4 k4]; omega)
  obtain ⟨nf', q1, q2, q3⟩ := (S.2.2.2.2.1 (fj T) t12).2 fv.1
  have ef' : nf' = tm_c op (n T) 0 := (nI_eq (by omega) (by omega)).mp (q2.symm.trans (tc.2.2.2.2.1 (by omega)))
  subst ef'
  obtain ⟨nl, l1, l2, l3⟩ := (S.2.2.2.2.1 (lj T) t13).2 la1
  have el' : nl = tm_c op (n T) 1 := (nI_eq (by omega) (by omega)).mp (l2.symm.trans (tc.2.2.2.2.2.2.1 hs (by rw [k4]; decide)))
  subst el'
  have fne : fj T ≠ e T := fun z => by have := fv.1; rw [z] at this; exact absurd (a1.symm.trans this) (by decide)
  have lne : lj T ≠ e T := fun z => by rw [z] at la1; exact absurd (a1.symm.trans la1) (by decide)
  obtain ⟨u', v', R, hX, hY⟩ := rs_f1 (g1 := fun x => vla (if x = 0 then fj T else lj T)) (g2 := fun x => icl (if x = 0 then fj T else lj T)) (w1 := frf T) (w2 := vl) (w3 := -1) (pk' := pk_M (nI (cn (fun c => al c = 1) M + 1)) pk) SF S hσ (Or.inr k4) (fun _ => ⟨fv.2, lv, q3, l3⟩) (fun z => absurd (k4.symm.trans z) (by decide))
  refine ⟨u', v', R, fun post K => ?_, fun post J K => ?_⟩
  · refine br_t (by rw [k4]; decide) (br_f (by rw [hs]; decide) (br_f (by rw [hs]; decide) (br_t (by rw [hs]; rfl) ⟨pk_in (n T) 32 (by omega), nm_r (e' := 4) (by rw [nI_clamp (by omega)]; exact k4) (br_f (by decide) (br_t rfl ⟨pk_in T 240 (by omega), ?_⟩))⟩)))
    rw [nI_clamp (n := T) (by omega)]
    refine xr_mc TT C hcl RT t1 (bx_2 TT C t1 (Or.inr k4)) (by omega) rfl (fun pk' a b => br_f (by decide) ?_)
    have ep := pk_u a b
    subst ep
    exact hX _ K
  · rw [k4, hs]
    refine ys_85 (by omega) (by omega) (by decide) (by decide) (fun z => absurd z (by decide)) (fun _ => by decide) (fun z => absurd z (by decide)) (by omega) (fun z => absurd z (by decide)) (fun _ z => ?_)
    refine ys_mk (g1 := fun x => vla (if x = 0 then fj T else lj T)) (g2 := fun x => icl (if x = 0 then fj T else lj T)) (Or.inr rfl) (by omega) (by omega) (by omega) (by omega) S.2.1 (Or.inl ⟨rfl, fne, lne, fun i hi => ⟨rfl, rfl, ?_⟩⟩) (fun pk' a b => ?_)
    · show icl (if i = 0 then fj T else lj T) = 0 ∨ icl (if i = 0 then fj T else lj T) = 1
      split
      · exact ty_01 q3
      · exact ty_01 l3
    · have ep := pk_u a b
      subst ep
      exact hY post J K
/-- one step of both machines -/
theorem rs_step {N F σ T B M E : Nat} {r c : Nat → Nat} {G : Nat → Nat → Int64} {e n st fj lj : Nat → Nat} (SF : sf_S N F kd ka kb up op sk sh cl rg hm ow o1 o2 yc yh r c) (S : rs_G N F kd ka kb up op sh r T B M E G e n st fj lj vl qn qr qe qf qs al enn env enx frn fre frs frm frf ynd clr mrk vla evl ndd icl ecl mkr cvl cis) (hσ : σ + T + 2 = 2 * B) : ∃ u' v', rz_R ml cnt pc ifd wt rc gw rm kd ka kb op up bd pn sk f1 f2 lk sh cl wa wb se rg hm ra ef vi la sn fnd ow o1 o2 yc ck p1 p2 yh fi fa nf (σ + 1) N F r u' v' ∧ (∀ post : SX → Prop, post u' → wpX_advance post (ml, nI F, cnt, pc, ifd, wt, rc, gw, nI E, nI (T + 1), vl, rm, -1, nI B, nI M, nI (cn (fun c => al c = 1) M), pk, kd, ka, kb, op, up, bd, pn, sk, f1, f2, lk, sh, cl, wa, wb, se, rg, hm, ra, ef, vi, la, sn, qn, qr, qe, qf, qs, al, enn, env, enx, frn, fre, frs, frm, frf)) ∧ (∀ (post : Int32 → SY → Prop) (J : Int32 → Int32 → Int32 → Int32 → Int32 → Int32 → Int32 → Int32 → Int32 → Int32 → (Nat → Int32) → (Nat → Int32) → (Nat → Int32) → (Nat → Int32) → (Nat → Int32) → (Nat → Int32) → (Nat → Int32) → (Nat → Int32) → (Nat → Int32) → (Nat → Int32) → (Nat → Int32) → (Nat → Int32) → (Nat → Int32) → (Nat → Int32) → (Nat → Int32) → (Nat → Int32) → (Nat → Int32) → (Nat → Int32) → (Nat → Int32) → (Nat → Int32) → (Nat → Int32) → (Nat → Int32) → (Nat → Int32) → (Nat → Int32) → (Nat → Int32) → (Nat → Int32) → Nat → Prop), yj_J J (nI (σ + 1)) v' → ∃ n71 : Nat, wY_run_71 post J rm (nI σ) ml (nI F) cnt (-1) (nI B) (nI M) pk fnd ifd kd ka kb up ow o1 o2 yc ck p1 p2 yh fi fa ynd clr mrk vla evl ndd icl ecl mkr cvl al cis nf n71 0 0) := by
  have TT := SF.1
  have hF := SF.2.2.2.2.2.2.2
  have hN := TT.1
  have b1 := S.1
  obtain ⟨⟨t1, t2, t3, t4, -, t8, t9, t10, t11, t12, t13⟩, tc, tv⟩ := S.2.2.2.2.2.1 T (Nat.le_refl _)
  obtain ⟨a1, a2, a3, a4⟩ := rs_act S
  have out : ∃ u' v', rz_R ml cnt pc ifd wt rc gw rm kd ka kb op up bd pn sk f1 f2 lk sh cl wa wb se rg hm ra ef vi la sn fnd ow o1 o2 yc ck p1 p2 yh fi fa nf (σ + 1) N F r u' v' ∧ (∀ post : SX → Prop, post u' → xs_B post (nI T) (nI (n T)) (nI (st T)) (kd (n T)) ml (nI F) cnt pc ifd wt rc gw (nI E) (nI (T + 1)) vl rm (-1) (nI B) (nI M) (nI (cn (fun c => al c = 1) M)) pk kd ka kb op up bd pn sk f1 f2 lk sh cl wa wb se rg hm ra ef vi la sn qn qr qe qf qs al enn env enx frn fre (upd frs T (nI (st T + 1))) frm frf) ∧ (∀ (post : Int32 → SY → Prop) (J : Int32 → Int32 → Int32 → Int32 → Int32 → Int32 → Int32 → Int32 → Int32 → Int32 → (Nat → Int32) → (Nat → Int32) → (Nat → Int32) → (Nat → Int32) → (Nat → Int32) → (Nat → Int32) → (Nat → Int32) → (Nat → Int32) → (Nat → Int32) → (Nat → Int32) → (Nat → Int32) → (Nat → Int32) → (Nat → Int32) → (Nat → Int32) → (Nat → Int32) → (Nat → Int32) → (Nat → Int32) → (Nat → Int32) → (Nat → Int32) → (Nat → Int32) → (Nat → Int32) → (Nat → Int32) → (Nat → Int32) → (Nat → Int32) → (Nat → Int32) → (Nat → Int32) → Nat → Prop), yj_J J (nI (σ + 1)) v' → wY_advance_85 (fun u => match u with | (ml', fl', cnt', ls', sp', md', pk', fnd', ifd', kd', ka', kb', up', ow', o1', o2', yc', ck', p1', p2', yh', fi', fa', ynd', clr', mrk', vla', evl', ndd', icl', ecl', mkr', cvl', al', cis', nf') => yv_B post J rm (nI σ) (nI (e T)) ml' fl' cnt' ls' sp' md' pk' fnd' ifd' kd' ka' kb' up' ow' o1' o2' yc' ck' p1' p2' yh' fi' fa' ynd' clr' mrk' vla' evl' ndd' icl' ecl' mkr' cvl' al' cis' nf') (nI (e T)) (nI (n T)) (kd (n T)) (nI (st T)) (nI (fj T)) (nI (lj T)) (if kd (n T) = 2 then 0 else nI (tm_ar (kd (n T)))) ml (nI F) cnt (-1) (nI B) (nI M) pk fnd ifd kd ka kb up ow o1 o2 yc ck p1 p2 yh fi fa ynd clr mrk vla evl ndd icl ecl mkr cvl al cis nf) := by
    have s3 := tc.2.2.2.1
    rcases TT.2.1 (n T) t1 with h | h | h | h | h | h | h | h | h
    · exact st_num SF S hσ h
    · exact st_var SF S hσ h
    · exact st_fun SF S hσ h
    · have : st T = 0 ∨ st T = 1 ∨ st T = 2 ∨ st T = 3 := by omega
      rcases this with s | s | s | s
      · exact st_b0 SF S hσ (by rw [h]; decide) s
      · exact st_b1 SF S hσ (Or.inl h) s
      · exact st_app SF S hσ h s
      · exact st_last SF S hσ (Or.inr ⟨h, s⟩)
    · have s2 := tc.2.2.1 (Or.inl h)
      have : st T = 0 ∨ st T = 1 ∨ st T = 2 := by omega
      rcases this with s | s | s
      · exact st_b0 SF S hσ (by rw [h]; decide) s
      · exact st_b1 SF S hσ (Or.inr (Or.inl h)) s
      · exact st_pair SF S hσ h s
    · have s1 := tc.2.1 (Or.inl h)
      have : st T = 0 ∨ st T = 1 := by omega
      rcases this with s | s
      · exact st_b0 SF S hσ (by rw [h]; decide) s
      · exact st_part SF S hσ (Or.inl h) s
    · have s1 := tc.2.1 (Or.inr h)
      have : st T = 0 ∨ st T = 1 := by omega
      rcases this with s | s
      · exact st_b0 SF S hσ (by rw [h]; decide) s
      · exact st_part SF S hσ (Or.inr h) s
    · have s2 := tc.2.2.1 (Or.inr (Or.inl h))
      have : st T = 0 ∨ st T = 1 ∨ st T = 2 := by omega
      rcases this with s | s | s
      · exact st_b0 SF S hσ (by rw [h]; decide) s
      · exact st_if SF S hσ h s
      · exact st_last SF S hσ (Or.inl ⟨h, s⟩)
    · have s2 := tc.2.2.1 (Or.inr (Or.inr h))
      have : st T = 0 ∨ st T = 1 ∨ st T = 2 := by omega
      rcases this with s | s | s
      · exact st_b0 SF S hσ (by rw [h]; decide) s
      · exact st_b1 SF S hσ (Or.inr (Or.inr h)) s
      · exact st_sub SF S hσ h s
  obtain ⟨u', v', R, hX, hY⟩ := out
  refine ⟨u', v', R, fun post K => xs_pre (by omega) (by omega) t2 t4 (hX post K), fun post J K => ⟨B + 1, ?_⟩⟩
  exact yv_71 (by omega) a3 a1 a4 (ys_pre TT (by omega) a3 t1 t3 rfl t10 (hY post J K)) (B + 1) 0 0 ((Nat.eq_zero_or_pos (e T)).elim (fun z => Or.inr z.symm) (fun z => Or.inl (by omega))) (by omega) (by omega)
end
end
section
def xq_N (post : Int32 → SX → Prop) (d σ : Nat) (u : SX) : Prop := match u with
  | (ml, fl, cnt, pc, ifd, wt, rc, gw, ec, tp, vl, rm, ls, sp, md, hld, pk, kd, ka, kb, op, up, bd, pn, sk, f1, f2, lk, sh, cl, wa, wb, se, rg, hm, ra, ef, vi, la, sn, qn, qr, qe, qf, qs, al, enn, env, enx, frn, fre, frs, frm, frf) => ∀ x : Int32, x = nI σ + 1 → wX_run_76 post d x ml fl cnt pc ifd wt rc gw ec tp vl rm ls sp md hld pk kd ka kb op up bd pn sk f1 f2 lk sh cl wa wb se rg hm ra ef vi la sn qn qr qe qf qs al enn env enx frn fre frs frm frf
section
variable {ml fl cnt pc ifd wt rc gw ec tp : Int32} {vl : Int64} {rm ls sp md hld pk : Int32} {kd ka kb op up bd pn sk f1 f2 lk sh cl wa wb se rg hm : Nat → Int32} {ra ef vi la sn : Nat → Int64} {qn qr qe : Nat → Int32} {qf qs : Nat → Int64} {al enn : Nat → Int32} {env : Nat → Int64} {enx frn fre frs frm : Nat → Int32} {frf : Nat → Int64} {fnd : Int32} {ow o1 o2 yc ck p1 p2 yh fi fa ynd clr mrk vla evl ndd icl ecl mkr cvl cis : Nat → Int32} {nf : Nat}
/-- both loops run to one end -/
theorem rs_lock {N F k : Nat} {r c : Nat → Nat} (SF : sf_S N F kd ka kb up op sk sh cl rg hm ow o1 o2 yc yh r c)
    (KE : ∀ (M : Nat) (ls md hld : Int32) (vl : Int64) (al qn mkr cvl cis vla icl : Nat → Int32) (qf qs : Nat → Int64), (ls = 0 ∨ ls = 1 ∨ ls = 2) → rn_F N M ls md hld vl kd al qn mkr cvl cis vla icl qf qs → rl_F ml (nI F) cnt pc ifd ls md hld vl kd ka kb op up pn sk sh cl rg hm ra la qn qf qs al ow o1 o2 yc ck p1 p2 yh fa vla icl mkr cvl cis) :
    ∀ (μ σ : Nat) (ec : Int32) (tp : Int32) (vl : Int64) (ls : Int32) (sp : Int32) (md : Int32) (hld : Int32) (pk : Int32) (qn : Nat → Int32) (qr : Nat → Int32) (qe : Nat → Int32) (qf : Nat → Int64) (qs : Nat → Int64) (al : Nat → Int32) (enn : Nat → Int32) (env : Nat → Int64) (enx : Nat → Int32) (frn : Nat → Int32) (fre : Nat → Int32) (frs : Nat → Int32) (frm : Nat → Int32) (frf : Nat → Int64) (ynd : Nat → Int32) (clr : Nat → Int32) (mrk : Nat → Int32) (vla : Nat → Int32) (evl : Nat → Int32) (ndd : Nat → Int32) (icl : Nat → Int32) (ecl : Nat → Int32) (mkr : Nat → Int32) (cvl : Nat → Int32) (cis : Nat → Int32), rz_F σ N F kd ka kb up op sh r ec tp vl ls sp md hld pk qn qr qe qf qs al enn env enx frn fre frs frm frf ynd clr mrk vla evl ndd icl ecl mkr cvl cis → 482 ≤ μ + σ → σ ≤ 481 →
      ∃ ls2 u2 v2, (nf = 36864 → i_Rel k u2 v2) ∧ (∀ (post : Int32 → SX → Prop) (d : Nat), 1025 ≤ d + σ → post ls2 u2 → wX_run_76 post d (nI σ) ml (nI F) cnt pc ifd wt rc gw ec tp vl rm ls sp md hld pk kd ka kb op up bd pn sk f1 f2 lk sh cl wa wb se rg hm ra ef vi la sn qn qr qe qf qs al enn env enx frn fre frs frm frf) ∧ (∀ (post : Int32 → SY → Prop) (d : Nat), 513 ≤ d + σ → post ls2 v2 → wY_run_51 post rm d (nI σ) ml (nI F) cnt ls sp md pk fnd ifd kd ka kb up ow o1 o2 yc ck p1 p2 yh fi fa ynd clr mrk vla evl ndd icl ecl mkr cvl al cis nf) := by
  have hF := SF.2.2.2.2.2.2.2
  intro μ
  induction μ with
  | zero =>
    intro σ ec tp vl ls sp md hld pk qn qr qe qf qs al enn env enx frn fre frs frm frf ynd clr mrk vla evl ndd icl ecl mkr cvl cis h h1 h2
    omega
  | succ μ ih =>
    intro σ ec tp vl ls sp md hld pk qn qr qe qf qs al enn env enx frn fre frs frm frf ynd clr mrk vla evl ndd icl ecl mkr cvl cis h h1 h2
    rcases h with ⟨rfl, T, B, M, E, G, e, n, st, fj, lj, rfl, rfl, rfl, rfl, rfl, hσ, S⟩ | ⟨hls, M, R⟩
    · have b1 := S.1
      obtain ⟨u', v', RZ, hX, hY⟩ := rs_step SF S hσ
      have step : ∃ ls2 u2 v2, (nf = 36864 → i_Rel k u2 v2) ∧ (∀ (post : Int32 → SX → Prop) (d : Nat), 1025 ≤ d + (σ + 1) → post ls2 u2 → xq_N post d σ u') ∧ (∀ (post : Int32 → SY → Prop) (d : Nat), 513 ≤ d + (σ + 1) → post ls2 v2 → yj_J (wY_run_51 post rm d) (nI (σ + 1)) v') := by
        refine rz_el ml cnt pc ifd wt rc gw rm kd ka kb op up bd pn sk f1 f2 lk sh cl wa wb se rg hm ra ef vi la sn fnd ow o1 o2 yc ck p1 p2 yh fi fa nf (P := fun u' v' => ∃ ls2 u2 v2, (nf = 36864 → i_Rel k u2 v2) ∧ (∀ (post : Int32 → SX → Prop) (d : Nat), 1025 ≤ d + (σ + 1) → post ls2 u2 → xq_N post d σ u') ∧ (∀ (post : Int32 → SY → Prop) (d : Nat), 513 ≤ d + (σ + 1) → post ls2 v2 → yj_J (wY_run_51 post rm d) (nI (σ + 1)) v')) ?_ RZ
        intro ec' tp' vl' ls' sp' md' hld' pk' qn' qr' qe' qf' qs' al' enn' env' enx' frn' fre' frs' frm' frf' ynd' clr' mrk' vla' evl' ndd' icl' ecl' mkr' cvl' cis' H
        obtain ⟨ls2, u2, v2, g1, g2, g3⟩ := ih (σ + 1) ec' tp' vl' ls' sp' md' hld' pk' qn' qr' qe' qf' qs' al' enn' env' enx' frn' fre' frs' frm' frf' ynd' clr' mrk' vla' evl' ndd' icl' ecl' mkr' cvl' cis' H (by omega) (by omega)
        exact ⟨ls2, u2, v2, g1, fun post d hd K => nm_r (e' := nI (σ + 1)) (nI_1 σ) (g2 post d hd K), fun post d hd K => g3 post d hd K⟩
      obtain ⟨ls2, u2, v2, g1, g2, g3⟩ := step
      refine ⟨ls2, u2, v2, g1, fun post d hd K => ?_, fun post d hd K => ?_⟩
      · obtain ⟨d, rfl⟩ : ∃ q, d = q + 1 := ⟨d - 1, by omega⟩
        exact br_f (nI_ge (b := 1024) (by omega) (by omega)) (br_t rfl (hX (xq_N post d σ) (g2 post d (by omega) K)))
      · obtain ⟨d, rfl⟩ : ∃ q, d = q + 1 := ⟨d - 1, by omega⟩
        exact br_f (nI_ge (b := 512) (by omega) (by omega)) (br_t rfl (hY post (wY_run_51 post rm d) (g3 post d (by omega) K)))
    · have nls : ¬ ls = -1 := by
        intro z
        rw [z] at hls
        revert hls
        decide
      refine ⟨ls, (ml, nI F, cnt, pc, ifd, wt, rc, gw, ec, tp, vl, rm, ls, sp, md, hld, pk, kd, ka, kb, op, up, bd, pn, sk, f1, f2, lk, sh, cl, wa, wb, se, rg, hm, ra, ef, vi, la, sn, qn, qr, qe, qf, qs, al, enn, env, enx, frn, fre, frs, frm, frf), (ml, nI F, cnt, ls, sp, md, pk, fnd, ifd, kd, ka, kb, up, ow, o1, o2, yc, ck, p1, p2, yh, fi, fa, ynd, clr, mrk, vla, evl, ndd, icl, ecl, mkr, cvl, al, cis, nf), fun enf => ?_, fun post d hd K => ?_, fun post d hd K => ?_⟩
      · rw [enf]
        exact zz_in (KE M ls md hld vl al qn mkr cvl cis vla icl qf qs hls R)
      · obtain ⟨d, rfl⟩ : ∃ q, d = q + 1 := ⟨d - 1, by omega⟩
        exact br_c (fun _ => K) (fun _ => br_f nls K)
      · obtain ⟨d, rfl⟩ : ∃ q, d = q + 1 := ⟨d - 1, by omega⟩
        exact br_c (fun _ => K) (fun _ => br_f nls K)
/-- the first evaluation: the whole term -/
theorem rs_0 {N F : Nat} {r : Nat → Nat} (TT : tm_T N kd ka kb up op) (h0 : 0 < N) (hF : 16 ≤ F) : rs_G N F kd ka kb up op sh r 0 1 0 0 (fun _ _ => 0) (fun _ => 0) (fun _ => N - 1) (fun _ => 0) (fun _ => 0) (fun _ => 0) vl qn qr qe qf qs al enn env enx (upd frn 0 (nI (N - 1))) (upd fre 0 (-1)) (upd frs 0 0) (upd frm 0 0) frf
    (upd ynd 0 (nI (N - 1))) (upd clr 0 (-1)) (upd mrk 0 0) vla (rw_f 0 evl (fun _ => 0)) (upd ndd 0 0) icl (rw_f 0 ecl (fun _ => 0)) mkr cvl cis := by
  have hN := TT.1
  have row : ∀ x, x < 8 → rw_f 0 evl (fun _ => 0) (0 * 8 + x) = 0 ∧ rw_f 0 ecl (fun _ => 0) (0 * 8 + x) = 0 := fun x hx => (rw_i (B := 0) (evl := evl) (ecl := ecl) (g1 := fun _ => 0) (g2 := fun _ => 0)).1 x hx
  have root : up (N - 1) = -1 := by
    rcases TT.2.2.1 (N - 1) (by omega) with h | ⟨p, h1, h2, -⟩
    · exact h
    · omega
  refine ⟨⟨by omega, by omega, by omega⟩, fun c hc => absurd hc (by omega), fun i hi => absurd hi (by omega), fun c hc => absurd hc (by omega), fun i hi => ?_, fun j hj => ?_, ⟨fun i j hij hj => absurd hij (by omega), rfl, fun j hj => absurd hj (by omega), fun i hi => ?_⟩, fun q => absurd q (show ¬ (1 ≤ 0) by omega)⟩
  · have : i = 0 := by omega
    subst this
    rw [pk_us]
    exact ⟨Or.inl rfl, fun z => absurd z (by decide)⟩
  · have : j = 0 := by omega
    subst this
    show fr_A N 0 0 1 kd ka kb up op r (fun _ _ => 0) mkr (upd frn 0 (nI (N - 1))) (upd fre 0 (-1)) (upd frs 0 0) (upd frm 0 0) (upd ynd 0 (nI (N - 1))) (upd clr 0 (-1)) (upd mrk 0 0) (rw_f 0 evl (fun _ => 0)) (rw_f 0 ecl (fun _ => 0)) 0 0 (N - 1) 0 0 0 ∧ fr_C N kd op r (upd ynd 0 (nI (N - 1))) (N - 1) 0 0 0 ∧ fr_V kd (upd ndd 0 0) vla icl frf 0 (N - 1) 0 0
    refine ⟨⟨by omega, pk_us, pk_us, pk_us, ⟨0, Nat.le_refl _, pk_us, pk_us⟩, ?_, ?_, sc_0 1 (by omega), by omega, by omega, by omega⟩, ⟨fun _ => rfl, fun _ => by omega, fun _ => by omega, by omega, fun z => absurd z (by omega), fun z => absurd z (by omega), fun z => absurd z (by omega), fun z => by omega⟩, fun z => absurd z (by omega)⟩
    · rw [pk_us]
      refine ⟨Or.inl rfl, fun x hx => ?_⟩
      rw [ev_m]
      show 0 = en_c (rw_f 0 evl (fun _ => 0) (0 * 8 + x)) (rw_f 0 ecl (fun _ => 0) (0 * 8 + x)) ∧ (rw_f 0 ecl (fun _ => 0) (0 * 8 + x) = 0 ∨ rw_f 0 ecl (fun _ => 0) (0 * 8 + x) = 1)
      rw [(row x hx).1, (row x hx).2]
      exact ⟨by decide, Or.inl rfl⟩
    · intro x f hx hf
      exact absurd (re_no root hf.1).symm hf.2.1
  · have : i = 0 := by omega
    subst this
    rw [pk_us]
    exact ⟨fun _ => ⟨0, Nat.le_refl _, rfl⟩, fun _ => rfl⟩
end
end
section
theorem i_vc_run {k : Nat} {u : SX} {v : SY} (I : i_Rel k u v) (hk : k + 4 ≤ 2050) (v1 : Int32) : wpX_run (fun r u' => wpY_run (fun r' v' => r' = r ∧ i_Rel (k + 4) u' v') v v1) u v1 := by
  refine zz_el (P := fun u v => wpX_run (fun r u' => wpY_run (fun r' v' => r' = r ∧ i_Rel (k + 4) u' v') v v1) u v1) ?_ I
  intro ml fl cnt pc ifd wt rc gw ec tp vl rm ls sp md hld pk kd ka kb op up bd pn sk f1 f2 lk sh cl wa wb se rg hm ra ef vi la sn qn qr qe qf qs al enn env enx frn fre frs frm frf fnd ow o1 o2 yc ck p1 p2 yh fi fa ynd clr mrk vla evl ndd icl ecl mkr cvl cis hF
  have Z : i_Rel (k + 4) (ml, fl, cnt, pc, ifd, wt, rc, gw, ec, tp, vl, rm, ls, sp, md, hld, pk, kd, ka, kb, op, up, bd, pn, sk, f1, f2, lk, sh, cl, wa, wb, se, rg, hm, ra, ef, vi, la, sn, qn, qr, qe, qf, qs, al, enn, env, enx, frn, fre, frs, frm, frf) (ml, fl, cnt, ls, sp, md, pk, fnd, ifd, kd, ka, kb, up, ow, o1, o2, yc, ck, p1, p2, yh, fi, fa, ynd, clr, mrk, vla, evl, ndd, icl, ecl, mkr, cvl, al, cis, 36864) := zz_in hF
  obtain ⟨N, c0, L, F, RN, RI, RR⟩ := hF
  have RN0 := RN
  obtain ⟨e1, e2, e3, e4, hL1, hL2, hL3, hF1, hF2, hc, TT, PD⟩ := RN
  subst e1 e2 e4
  have hN := TT.1
  rcases RI with rfl | ⟨rfl, rfl, r, c, G⟩
  · exact br_t rfl (br_t rfl ⟨rfl, Z⟩)
  · refine br_f (by decide) ?_
    rcases Classical.em (v1 < 0) with a | a
    · exact br_t a (br_f (by decide) (br_t a ⟨rfl, Z⟩))
    · refine br_f a ?_
      rcases Classical.em (v1 ≤ 1) with b | b
      · refine br_t b ?_
        have G0 := G
        obtain ⟨C, hsk, hcl, RT, Y, YK, h01, hra, hla, hhm, hbd, hfn⟩ := G
        have SF : sf_S N F kd ka kb up op sk sh cl rg hm ow o1 o2 yc yh r c := ⟨TT, C, hcl, RT, Y, hhm, hbd, hF2⟩
        have h0 : 0 < N := by omega
        have root : up (N - 1) = -1 := by
          rcases TT.2.2.1 (N - 1) (by omega) with h | ⟨p, h1, h2, -⟩
          · exact h
          · omega
        have pn0 : pn 0 = nI (N - 1) := by
          obtain ⟨j, hj, ej⟩ := PD.2.2 (N - 1) (by omega) root
          have : j = 0 := by omega
          subst this
          rw [ej]
          exact (PD.1 0 (by omega)).1
        have cn1 : nI N - 1 = nI (N - 1) := by
          obtain ⟨q, rfl⟩ : ∃ q, N = q + 1 := ⟨N - 1, by omega⟩
          exact nI_pred q
        obtain ⟨ls2, u2, v2, g1, g2, g3⟩ := rs_lock (k := k + 4) (ml := ml) (cnt := nI N) (pc := nI 1) (ifd := 1) (wt := wt) (rc := rc) (gw := gw) (rm := v1) (bd := bd) (pn := pn) (f1 := f1) (f2 := f2) (lk := lk) (wa := wa) (wb := wb) (se := se) (ra := ra) (ef := ef) (vi := vi) (la := la) (sn := sn) (fnd := fnd) (ck := ck) (p1 := p1) (p2 := p2) (fi := fi) (fa := fa) (nf := 36864) SF
          (fun M ls md hld vl al qn mkr cvl cis vla icl qf qs q1 q2 => ⟨N, 1, L, F, RN0, Or.inr ⟨rfl, rfl, r, c, G0⟩, Or.inr ⟨rfl, q1, M, q2⟩⟩)
          482 0 0 (nI 1) 0 (-1) (nI 1) 0 0 0 qn qr qe qf qs al enn env enx (upd frn 0 (nI (N - 1))) (upd fre 0 (-1)) (upd frs 0 0) (upd frm 0 0) frf (upd ynd 0 (nI (N - 1))) (upd clr 0 (-1)) (upd mrk 0 0) vla (rw_f 0 evl (fun _ => 0)) (upd ndd 0 0) icl (rw_f 0 ecl (fun _ => 0)) mkr cvl cis
          (Or.inl ⟨rfl, 0, 1, 0, 0, _, _, _, _, _, _, rfl, rfl, rfl, rfl, rfl, by omega, rs_0 TT h0 hF1⟩) (by omega) (by omega)
        have yy : wpY_run (fun r' v' => r' = ls2 ∧ i_Rel (k + 4) u2 v') (ml, nI F, nI N, ls, sp, md, pk, fnd, 1, kd, ka, kb, up, ow, o1, o2, yc, ck, p1, p2, yh, fi, fa, ynd, clr, mrk, vla, evl, ndd, icl, ecl, mkr, cvl, al, cis, 36864) v1 := by
          refine br_f (by decide) (br_f a (br_t b ?_))
          rw [cn1]
          refine yb_be (B := 0) (g1 := fun _ => 0) (g2 := fun _ => 0) (by omega) hF2 (Or.inl ⟨rfl, fun i _ => ⟨rfl, rfl⟩⟩) (fun _ evl' ecl' R => ?_) (fun z => absurd z (by omega))
          obtain ⟨q1, q2⟩ := rw_u R
          subst q1 q2
          exact ⟨513, g3 _ 513 (by omega) ⟨rfl, g1 rfl⟩⟩
        rw [pn0]
        exact xr_be (B := 0) (t := 0) (by omega) (by omega) (fun _ => by omega) (fun _ => ⟨1025, g2 _ 1025 (by omega) yy⟩) (fun z => absurd z (by omega))
      · exact br_f b (br_f (by decide) (br_f a (br_f b ⟨rfl, Z⟩)))
end
