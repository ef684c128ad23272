section
/-! pure rows to paste: stores, nI and lN arithmetic, masks, shifts, narrowing, branches by naturals (pk_le, pk_lt, pk_eq), loops (lp1 .. lp16: the measure of the state; rp1 ..: recursion), negatives. Take what you need -/
theorem pk_us {f : Nat → Int32} {k : Nat} {x : Int32} : upd f k x k = x := if_pos rfl
theorem pk_un {f : Nat → Int32} {k j : Nat} {x : Int32} (h : j ≠ k) : upd f k x j = f j := if_neg h
theorem pk_uLs {f : Nat → Int64} {k : Nat} {x : Int64} : vp_updL f k x k = x := if_pos rfl
theorem pk_uLn {f : Nat → Int64} {k j : Nat} {x : Int64} (h : j ≠ k) : vp_updL f k x j = f j := if_neg h
theorem pk_sub {a b : Nat} (h : b ≤ a) : nI a - nI b = nI (a - b) := by
  obtain ⟨c, rfl⟩ : ∃ c, a = c + b := ⟨a - b, by omega⟩
  rw [← nI_add, Int32.add_sub_cancel, Nat.add_sub_cancel]
theorem pk_m1 (n : Nat) : nI (n + 1) + (-1) = nI n := by
  rw [← nI_1, Int32.add_assoc, show (1 : Int32) + (-1) = 0 from rfl, Int32.add_zero]
theorem pk_mul (a b : Nat) : nI a * nI b = nI (a * b) := (Int32.ofNat_mul a b).symm
theorem pk_div {a d : Nat} (ha : a < 2 ^ 31) (h0 : 0 < d) (hd : d < 2 ^ 31) : nI a / nI d = nI (a / d) := by
  apply Int32.toInt_inj.mp
  rw [lg_idiv_nonneg (by rw [nI_toInt ha]; omega) (by rw [nI_toInt hd]; omega), nI_toInt ha, nI_toInt hd, nI_toInt (Nat.lt_of_le_of_lt (Nat.div_le_self a d) ha)]
  first | rfl | exact (Int.natCast_ediv _ _).symm
theorem pk_rem {a d : Nat} (ha : a < 2 ^ 31) (h0 : 0 < d) (hd : d < 2 ^ 31) : nI a - nI a / nI d * nI d = nI (a % d) := by
  rw [pk_div ha h0 hd, pk_mul, pk_sub (Nat.div_mul_le_self a d)]
  exact congrArg nI (by have := Nat.div_add_mod' a d; omega)
theorem pk_sub_toInt {a b : Nat} (ha : a < 2 ^ 30) (hb : b < 2 ^ 30) : (nI a - nI b).toInt = (a : Int) - b := by
  rw [Int32.toInt_sub, nI_toInt (by omega), nI_toInt (by omega)]
  exact Int.bmod_eq_of_le (by omega) (by omega)
theorem pk_sneg {a b : Nat} (hb : b < 2 ^ 30) (h : a < b) : nI a - nI b < 0 := by
  rw [Int32.lt_iff_toInt_lt, pk_sub_toInt (by omega) hb, show (0 : Int32).toInt = 0 from by decide]
  omega
theorem pk_ix (x : Int32) {n : Nat} (hn : n < 2 ^ 31) : x < 0 ∨ nI n ≤ x ∨ ∃ j : Nat, j < n ∧ x = nI j := by
  by_cases h : x < 0
  · exact Or.inl h
  · obtain ⟨j, hj, rfl⟩ := nI_of h
    by_cases h2 : j < n
    · exact Or.inr (Or.inr ⟨j, h2, rfl⟩)
    · exact Or.inr (Or.inl (nI_le (by omega) hj))
theorem pk_le {x y : Int32} {A B : Prop} (a b : Nat) (f : a ≤ b → A) (g : b < a → B) (hx : x = nI a := by rfl) (hy : y = nI b := by rfl) (ha : a < 2 ^ 31 := by omega) (hb : b < 2 ^ 31 := by omega) : (x ≤ y → A) ∧ (¬ x ≤ y → B) := by
  subst hx hy
  rw [nI_leI ha hb]
  exact ⟨f, fun z => g (by omega)⟩
theorem pk_lt {x y : Int32} {A B : Prop} (a b : Nat) (f : a < b → A) (g : b ≤ a → B) (hx : x = nI a := by rfl) (hy : y = nI b := by rfl) (ha : a < 2 ^ 31 := by omega) (hb : b < 2 ^ 31 := by omega) : (x < y → A) ∧ (¬ x < y → B) := by
  subst hx hy
  rw [nI_ltI ha hb]
  exact ⟨f, fun z => g (by omega)⟩
theorem pk_eq {x y : Int32} {A B : Prop} (a b : Nat) (f : a = b → A) (g : a ≠ b → B) (hx : x = nI a := by rfl) (hy : y = nI b := by rfl) (ha : a < 2 ^ 31 := by omega) (hb : b < 2 ^ 31 := by omega) : (x = y → A) ∧ (¬ x = y → B) := by
  subst hx hy
  rw [nI_eq ha hb]
  exact ⟨f, g⟩
theorem pk_in {x : Int32} (n N : Nat) (h : n < N) (hx : x = nI n := by rfl) (hN : N < 2 ^ 31 := by omega) : vp_in x N := by
  subst hx
  exact vp_in_nI h hN
theorem pk_cl {x : Int32} (n : Nat) (hx : x = nI n := by rfl) (h : n < 2 ^ 31 := by omega) : x.toNatClampNeg = n := by
  subst hx
  exact nI_clamp h
theorem pk_tn {n : Nat} (h : n < 2 ^ 32) : (nI n).toBitVec.toNat = n := Nat.mod_eq_of_lt h
theorem pk_and (x : Int32) {m : Int32} (k : Nat) (hm : m.toBitVec.toNat = 2 ^ k - 1) : x &&& m = nI (x.toBitVec.toNat % 2 ^ k) := by
  apply Int32.toBitVec_inj.mp
  apply BitVec.eq_of_toNat_eq
  rw [Int32.toBitVec_and, BitVec.toNat_and, hm, Nat.and_two_pow_sub_one_eq_mod]
  show _ = (BitVec.ofNat 32 _).toNat
  rw [BitVec.toNat_ofNat]
  exact (Nat.mod_eq_of_lt (Nat.lt_of_le_of_lt (Nat.mod_le _ _) x.toBitVec.isLt)).symm
theorem pk_andN {n : Nat} (h : n < 2 ^ 32) {m : Int32} (k : Nat) (hm : m.toBitVec.toNat = 2 ^ k - 1) : nI n &&& m = nI (n % 2 ^ k) := by
  rw [pk_and _ k hm, pk_tn h]
theorem pk_andE (x : Int32) {m : Int32} (k : Nat) (hm : m.toBitVec.toNat = 2 ^ k - 1) : ∃ j : Nat, j < 2 ^ k ∧ x &&& m = nI j := ⟨_, Nat.mod_lt _ (Nat.two_pow_pos k), pk_and x k hm⟩
theorem pk_andIn (x : Int32) {m : Int32} (k : Nat) (hm : m.toBitVec.toNat = 2 ^ k - 1) (hk : k ≤ 30) : vp_in (x &&& m) (2 ^ k) := by
  obtain ⟨j, hj, e⟩ := pk_andE x k hm
  rw [e]
  exact vp_in_nI hj (Nat.lt_of_le_of_lt (Nat.pow_le_pow_right (by decide) hk) (by decide))
theorem pk_shl (a s : Int32) (k : Nat) (hs : (s.toBitVec.smod 32).toNat = k) : (a <<< s).toBitVec.toNat = a.toBitVec.toNat * 2 ^ k % 2 ^ 32 := by
  show (a.toBitVec <<< (s.toBitVec.smod 32).toNat).toNat = _
  rw [hs, BitVec.toNat_shiftLeft, Nat.shiftLeft_eq]
theorem pk_shlN {n : Nat} (s : Int32) (k : Nat) (hs : (s.toBitVec.smod 32).toNat = k) (h : n * 2 ^ k < 2 ^ 32) : nI n <<< s = nI (n * 2 ^ k) := by
  apply Int32.toBitVec_inj.mp
  apply BitVec.eq_of_toNat_eq
  have hn : n < 2 ^ 32 := Nat.lt_of_le_of_lt (Nat.le_mul_of_pos_right n (Nat.two_pow_pos k)) h
  rw [pk_shl _ _ k hs, pk_tn hn, pk_tn h, Nat.mod_eq_of_lt h]
theorem pk_shr (a s : Int32) (k : Nat) (hs : (s.toBitVec.smod 32).toNat = k) : (a >>> s).toInt = a.toInt >>> k := by
  show (a.toBitVec.sshiftRight (s.toBitVec.smod 32).toNat).toInt = _
  rw [hs, BitVec.toInt_sshiftRight]
  rfl
theorem pk_shrN {n : Nat} (h : n < 2 ^ 31) (s : Int32) (k : Nat) (hs : (s.toBitVec.smod 32).toNat = k) : nI n >>> s = nI (n / 2 ^ k) := by
  apply Int32.toInt_inj.mp
  have h2 : n / 2 ^ k ≤ n := Nat.div_le_self _ _
  rw [pk_shr _ _ k hs, nI_toInt h, nI_toInt (by omega), Int.shiftRight_eq_div_pow]
  rfl
theorem pk_ushr (x s : Int32) (k : Nat) (hs : ((s.toUInt32 &&& Int32.toUInt32 31).toBitVec % 32).toNat = k) : (x.toUInt32 >>> (s.toUInt32 &&& Int32.toUInt32 31)).toInt32.toBitVec.toNat = x.toBitVec.toNat / 2 ^ k := by
  have e : (x.toUInt32 >>> (s.toUInt32 &&& Int32.toUInt32 31)).toInt32.toBitVec = x.toBitVec >>> k := by
    rw [← hs]
    exact UInt32.toBitVec_shiftRight _ _
  rw [e, BitVec.toNat_ushiftRight, Nat.shiftRight_eq_div_pow]
theorem pk_ushrN {n : Nat} (hn : n < 2 ^ 32) (s : Int32) (k : Nat) (hs : ((s.toUInt32 &&& Int32.toUInt32 31).toBitVec % 32).toNat = k) : ((nI n).toUInt32 >>> (s.toUInt32 &&& Int32.toUInt32 31)).toInt32 = nI (n / 2 ^ k) := by
  apply Int32.toBitVec_inj.mp
  apply BitVec.eq_of_toNat_eq
  rw [pk_ushr _ s k hs, pk_tn hn, pk_tn (Nat.lt_of_le_of_lt (Nat.div_le_self _ _) hn)]
theorem pk_nb (z : Int32) : narrow .byte (.int z.toInt8.toInt32) = .int z.toInt8.toInt32 := congrArg Value.int (by simp)
theorem pk_ns (z : Int32) : narrow .short (.int z.toInt16.toInt32) = .int z.toInt16.toInt32 := congrArg Value.int (by simp)
theorem pk_fb (r : Int32) : fits .byte (.int r.toInt8.toInt32) = true := by
  have ⟨a, b⟩ := lg_i2b_range r
  have h1 : (-128 : Int32).toInt = -128 := by decide
  have h2 : (127 : Int32).toInt = 127 := by decide
  simp only [fits, Bool.and_eq_true, decide_eq_true_eq, Int32.le_iff_toInt_le, h1, h2]
  omega
theorem pk_fs (r : Int32) : fits .short (.int r.toInt16.toInt32) = true := by
  have ⟨a, b⟩ := lg_i2s_range r
  have h1 : (-32768 : Int32).toInt = -32768 := by decide
  have h2 : (32767 : Int32).toInt = 32767 := by decide
  simp only [fits, Bool.and_eq_true, decide_eq_true_eq, Int32.le_iff_toInt_le, h1, h2]
  omega
theorem pk_charN {q : Nat} (hq : q < 65536) : narrow .char (.int (nI q)) = .int (nI q) ∧ fits .char (.int (nI q)) = true := by
  constructor
  · have e : (nI q).toUInt32.toUInt16.toUInt32.toInt32 = nI q := by
      apply Int32.toBitVec_inj.mp
      apply BitVec.eq_of_toNat_eq
      show (nI q).toUInt32.toUInt16.toUInt32.toNat = q % 2 ^ 32
      rw [UInt16.toNat_toUInt32, UInt32.toNat_toUInt16, show (nI q).toUInt32.toNat = q % 2 ^ 32 from rfl]
      omega
    exact congrArg Value.int e
  · have a : (0 : Int32) ≤ nI q := nI_pos' (by omega)
    have b : nI q ≤ 65535 := nI_le (b := 65535) (by omega) (by decide)
    show (decide ((0 : Int32) ≤ nI q) && decide (nI q ≤ 65535)) = true
    rw [decide_eq_true a, decide_eq_true b]
    rfl
theorem pk_char (x : Int32) : (x.toUInt32 % 65536).toInt32 = nI (x.toBitVec.toNat % 65536) := by
  apply Int32.toBitVec_inj.mp
  apply BitVec.eq_of_toNat_eq
  rw [pk_tn (by omega)]
  show (x.toUInt32 % 65536).toNat = _
  rw [UInt32.toNat_mod]
  rfl
theorem pk_nc (x : Int32) : narrow .char (.int (x.toUInt32 % 65536).toInt32) = .int (x.toUInt32 % 65536).toInt32 := by
  rw [pk_char]
  exact (pk_charN (Nat.mod_lt _ (by decide))).1
theorem pk_fc (x : Int32) : fits .char (.int (x.toUInt32 % 65536).toInt32) = true := by
  rw [pk_char]
  exact (pk_charN (Nat.mod_lt _ (by decide))).2
theorem pk_vb (z : Int32) : vp_nar .byte z.toInt8.toInt32 = z.toInt8.toInt32 := by rw [vp_nar_byte]; simp
theorem pk_vs (z : Int32) : vp_nar .short z.toInt16.toInt32 = z.toInt16.toInt32 := by rw [vp_nar_short]; simp
theorem pk_vc (z : Int32) : vp_nar .char (z.toUInt32 % 65536).toInt32 = (z.toUInt32 % 65536).toInt32 := Value.int.inj (pk_nc z)
theorem pk_lT {n : Nat} (h : n < 2 ^ 63) : (lN n).toInt = (n : Int) := lg_ofNat_toInt h
theorem pk_lLT {a b : Nat} (ha : a < 2 ^ 63) (hb : b < 2 ^ 63) : lN a < lN b ↔ a < b := by
  rw [Int64.lt_iff_toInt_lt, pk_lT ha, pk_lT hb]; omega
theorem pk_lLE {a b : Nat} (ha : a < 2 ^ 63) (hb : b < 2 ^ 63) : lN a ≤ lN b ↔ a ≤ b := by
  rw [Int64.le_iff_toInt_le, pk_lT ha, pk_lT hb]; omega
theorem pk_lEQ {a b : Nat} (ha : a < 2 ^ 63) (hb : b < 2 ^ 63) : lN a = lN b ↔ a = b := by
  rw [← Int64.toInt_inj, pk_lT ha, pk_lT hb]; omega
theorem pk_lOf {x : Int64} (h : ¬ x < 0) : ∃ k : Nat, k < 2 ^ 63 ∧ x = lN k := by
  rw [Int64.lt_iff_toInt_lt] at h
  have h0 : (0 : Int64).toInt = 0 := by decide
  have hx := Int64.toInt_lt x
  refine ⟨x.toInt.toNat, by omega, Int64.toInt_inj.mp ?_⟩
  rw [pk_lT (by omega)]
  omega
theorem pk_lDiv {a b : Nat} (ha : a < 2 ^ 63) (h0 : 0 < b) (hb : b < 2 ^ 63) : lN a / lN b = lN (a / b) := by
  apply Int64.toInt_inj.mp
  rw [lg_ldiv_nonneg (by rw [pk_lT ha]; omega) (by rw [pk_lT hb]; omega), pk_lT ha, pk_lT hb, pk_lT (Nat.lt_of_le_of_lt (Nat.div_le_self a b) ha)]
  rfl
theorem pk_lRem {a b : Nat} (ha : a < 2 ^ 63) (h0 : 0 < b) (hb : b < 2 ^ 63) : lN a - lN a / lN b * lN b = lN (a % b) := by
  rw [pk_lDiv ha h0 hb, lN_mul, lN_sub (Nat.div_mul_le_self a b)]
  exact congrArg lN (by have := Nat.div_add_mod' a b; omega)
theorem pk_loop {σ : Type} (W : Nat → Nat → σ → Prop) (I : Nat → σ → Prop) (e i0 : Nat) (s : σ) (hi : i0 ≤ e) (h0 : I i0 s) (hx : ∀ n s, I e s → W (n + 1) e s)
    (hs : ∀ n i s, i < e → I i s → (∀ s', I (i + 1) s' → W n (i + 1) s') → W (n + 1) i s) : ∃ n, W n i0 s :=
  ⟨e + 1, loop_i W I e hx hs (e + 1) i0 s hi (by omega) h0⟩
theorem pk_loopD {σ : Type} (W : Nat → Nat → σ → Prop) (I : Nat → σ → Prop) (hx : ∀ n s, I 0 s → W (n + 1) 0 s)
    (hs : ∀ n i s, I (i + 1) s → (∀ s', I i s' → W n i s') → W (n + 1) (i + 1) s) : ∀ (e : Nat) (s : σ), I e s → W (e + 1) e s := by
  intro e
  induction e with
  | zero => exact fun s h => hx 0 s h
  | succ e ih => exact fun s h => hs (e + 1) e s h (fun s' h' => ih s' h')
theorem lp1 {A1 : Type} (W : Nat → A1 → Prop) (I : A1 → Prop) (μ : A1 → Nat) (hs : ∀ (n : Nat) (a1 : A1), I a1 → (∀ (b1 : A1), I b1 → μ b1 < μ a1 → W n b1) → W (n + 1) a1) (a1 : A1) (h : I a1) : ∃ n, W n a1 :=
  loop_m (σ := A1) (fun n s => W n s) (fun s => I s) (fun s => μ s) (fun n s hI hk => hs n s hI (fun b1 h9 hm => hk b1 h9 hm)) a1 h
theorem lp2 {A1 A2 : Type} (W : Nat → A1 → A2 → Prop) (I : A1 → A2 → Prop) (μ : A1 → A2 → Nat) (hs : ∀ (n : Nat) (a1 : A1) (a2 : A2), I a1 a2 → (∀ (b1 : A1) (b2 : A2), I b1 b2 → μ b1 b2 < μ a1 a2 → W n b1 b2) → W (n + 1) a1 a2) (a1 : A1) (a2 : A2) (h : I a1 a2) : ∃ n, W n a1 a2 :=
  loop_m (σ := A1 × A2) (fun n s => W n s.1 s.2) (fun s => I s.1 s.2) (fun s => μ s.1 s.2) (fun n s hI hk => hs n s.1 s.2 hI (fun b1 b2 h9 hm => hk (b1, b2) h9 hm)) (a1, a2) h
theorem lp3 {A1 A2 A3 : Type} (W : Nat → A1 → A2 → A3 → Prop) (I : A1 → A2 → A3 → Prop) (μ : A1 → A2 → A3 → Nat) (hs : ∀ (n : Nat) (a1 : A1) (a2 : A2) (a3 : A3), I a1 a2 a3 → (∀ (b1 : A1) (b2 : A2) (b3 : A3), I b1 b2 b3 → μ b1 b2 b3 < μ a1 a2 a3 → W n b1 b2 b3) → W (n + 1) a1 a2 a3) (a1 : A1) (a2 : A2) (a3 : A3) (h : I a1 a2 a3) : ∃ n, W n a1 a2 a3 :=
  loop_m (σ := A1 × A2 × A3) (fun n s => W n s.1 s.2.1 s.2.2) (fun s => I s.1 s.2.1 s.2.2) (fun s => μ s.1 s.2.1 s.2.2) (fun n s hI hk => hs n s.1 s.2.1 s.2.2 hI (fun b1 b2 b3 h9 hm => hk (b1, b2, b3) h9 hm)) (a1, a2, a3) h
theorem lp4 {A1 A2 A3 A4 : Type} (W : Nat → A1 → A2 → A3 → A4 → Prop) (I : A1 → A2 → A3 → A4 → Prop) (μ : A1 → A2 → A3 → A4 → Nat) (hs : ∀ (n : Nat) (a1 : A1) (a2 : A2) (a3 : A3) (a4 : A4), I a1 a2 a3 a4 → (∀ (b1 : A1) (b2 : A2) (b3 : A3) (b4 : A4), I b1 b2 b3 b4 → μ b1 b2 b3 b4 < μ a1 a2 a3 a4 → W n b1 b2 b3 b4) → W (n + 1) a1 a2 a3 a4) (a1 : A1) (a2 : A2) (a3 : A3) (a4 : A4) (h : I a1 a2 a3 a4) : ∃ n, W n a1 a2 a3 a4 :=
  loop_m (σ := A1 × A2 × A3 × A4) (fun n s => W n s.1 s.2.1 s.2.2.1 s.2.2.2) (fun s => I s.1 s.2.1 s.2.2.1 s.2.2.2) (fun s => μ s.1 s.2.1 s.2.2.1 s.2.2.2) (fun n s hI hk => hs n s.1 s.2.1 s.2.2.1 s.2.2.2 hI (fun b1 b2 b3 b4 h9 hm => hk (b1, b2, b3, b4) h9 hm)) (a1, a2, a3, a4) h
theorem lp5 {A1 A2 A3 A4 A5 : Type} (W : Nat → A1 → A2 → A3 → A4 → A5 → Prop) (I : A1 → A2 → A3 → A4 → A5 → Prop) (μ : A1 → A2 → A3 → A4 → A5 → Nat) (hs : ∀ (n : Nat) (a1 : A1) (a2 : A2) (a3 : A3) (a4 : A4) (a5 : A5), I a1 a2 a3 a4 a5 → (∀ (b1 : A1) (b2 : A2) (b3 : A3) (b4 : A4) (b5 : A5), I b1 b2 b3 b4 b5 → μ b1 b2 b3 b4 b5 < μ a1 a2 a3 a4 a5 → W n b1 b2 b3 b4 b5) → W (n + 1) a1 a2 a3 a4 a5) (a1 : A1) (a2 : A2) (a3 : A3) (a4 : A4) (a5 : A5) (h : I a1 a2 a3 a4 a5) : ∃ n, W n a1 a2 a3 a4 a5 :=
  loop_m (σ := A1 × A2 × A3 × A4 × A5) (fun n s => W n s.1 s.2.1 s.2.2.1 s.2.2.2.1 s.2.2.2.2) (fun s => I s.1 s.2.1 s.2.2.1 s.2.2.2.1 s.2.2.2.2) (fun s => μ s.1 s.2.1 s.2.2.1 s.2.2.2.1 s.2.2.2.2) (fun n s hI hk => hs n s.1 s.2.1 s.2.2.1 s.2.2.2.1 s.2.2.2.2 hI (fun b1 b2 b3 b4 b5 h9 hm => hk (b1, b2, b3, b4, b5) h9 hm)) (a1, a2, a3, a4, a5) h
theorem lp6 {A1 A2 A3 A4 A5 A6 : Type} (W : Nat → A1 → A2 → A3 → A4 → A5 → A6 → Prop) (I : A1 → A2 → A3 → A4 → A5 → A6 → Prop) (μ : A1 → A2 → A3 → A4 → A5 → A6 → Nat) (hs : ∀ (n : Nat) (a1 : A1) (a2 : A2) (a3 : A3) (a4 : A4) (a5 : A5) (a6 : A6), I a1 a2 a3 a4 a5 a6 → (∀ (b1 : A1) (b2 : A2) (b3 : A3) (b4 : A4) (b5 : A5) (b6 : A6), I b1 b2 b3 b4 b5 b6 → μ b1 b2 b3 b4 b5 b6 < μ a1 a2 a3 a4 a5 a6 → W n b1 b2 b3 b4 b5 b6) → W (n + 1) a1 a2 a3 a4 a5 a6) (a1 : A1) (a2 : A2) (a3 : A3) (a4 : A4) (a5 : A5) (a6 : A6) (h : I a1 a2 a3 a4 a5 a6) : ∃ n, W n a1 a2 a3 a4 a5 a6 :=
  loop_m (σ := A1 × A2 × A3 × A4 × A5 × A6) (fun n s => W n s.1 s.2.1 s.2.2.1 s.2.2.2.1 s.2.2.2.2.1 s.2.2.2.2.2) (fun s => I s.1 s.2.1 s.2.2.1 s.2.2.2.1 s.2.2.2.2.1 s.2.2.2.2.2) (fun s => μ s.1 s.2.1 s.2.2.1 s.2.2.2.1 s.2.2.2.2.1 s.2.2.2.2.2) (fun n s hI hk => hs n s.1 s.2.1 s.2.2.1 s.2.2.2.1 s.2.2.2.2.1 s.2.2.2.2.2 hI (fun b1 b2 b3 b4 b5 b6 h9 hm => hk (b1, b2, b3, b4, b5, b6) h9 hm)) (a1, a2, a3, a4, a5, a6) h
theorem lp7 {A1 A2 A3 A4 A5 A6 A7 : Type} (W : Nat → A1 → A2 → A3 → A4 → A5 → A6 → A7 → Prop) (I : A1 → A2 → A3 → A4 → A5 → A6 → A7 → Prop) (μ : A1 → A2 → A3 → A4 → A5 → A6 → A7 → Nat) (hs : ∀ (n : Nat) (a1 : A1) (a2 : A2) (a3 : A3) (a4 : A4) (a5 : A5) (a6 : A6) (a7 : A7), I a1 a2 a3 a4 a5 a6 a7 → (∀ (b1 : A1) (b2 : A2) (b3 : A3) (b4 : A4) (b5 : A5) (b6 : A6) (b7 : A7), I b1 b2 b3 b4 b5 b6 b7 → μ b1 b2 b3 b4 b5 b6 b7 < μ a1 a2 a3 a4 a5 a6 a7 → W n b1 b2 b3 b4 b5 b6 b7) → W (n + 1) a1 a2 a3 a4 a5 a6 a7) (a1 : A1) (a2 : A2) (a3 : A3) (a4 : A4) (a5 : A5) (a6 : A6) (a7 : A7) (h : I a1 a2 a3 a4 a5 a6 a7) : ∃ n, W n a1 a2 a3 a4 a5 a6 a7 :=
  loop_m (σ := A1 × A2 × A3 × A4 × A5 × A6 × A7) (fun n s => W n s.1 s.2.1 s.2.2.1 s.2.2.2.1 s.2.2.2.2.1 s.2.2.2.2.2.1 s.2.2.2.2.2.2) (fun s => I s.1 s.2.1 s.2.2.1 s.2.2.2.1 s.2.2.2.2.1 s.2.2.2.2.2.1 s.2.2.2.2.2.2) (fun s => μ s.1 s.2.1 s.2.2.1 s.2.2.2.1 s.2.2.2.2.1 s.2.2.2.2.2.1 s.2.2.2.2.2.2) (fun n s hI hk => hs n s.1 s.2.1 s.2.2.1 s.2.2.2.1 s.2.2.2.2.1 s.2.2.2.2.2.1 s.2.2.2.2.2.2 hI (fun b1 b2 b3 b4 b5 b6 b7 h9 hm => hk (b1, b2, b3, b4, b5, b6, b7) h9 hm)) (a1, a2, a3, a4, a5, a6, a7) h
theorem lp8 {A1 A2 A3 A4 A5 A6 A7 A8 : Type} (W : Nat → A1 → A2 → A3 → A4 → A5 → A6 → A7 → A8 → Prop) (I : A1 → A2 → A3 → A4 → A5 → A6 → A7 → A8 → Prop) (μ : A1 → A2 → A3 → A4 → A5 → A6 → A7 → A8 → Nat) (hs : ∀ (n : Nat) (a1 : A1) (a2 : A2) (a3 : A3) (a4 : A4) (a5 : A5) (a6 : A6) (a7 : A7) (a8 : A8), I a1 a2 a3 a4 a5 a6 a7 a8 → (∀ (b1 : A1) (b2 : A2) (b3 : A3) (b4 : A4) (b5 : A5) (b6 : A6) (b7 : A7) (b8 : A8), I b1 b2 b3 b4 b5 b6 b7 b8 → μ b1 b2 b3 b4 b5 b6 b7 b8 < μ a1 a2 a3 a4 a5 a6 a7 a8 → W n b1 b2 b3 b4 b5 b6 b7 b8) → W (n + 1) a1 a2 a3 a4 a5 a6 a7 a8) (a1 : A1) (a2 : A2) (a3 : A3) (a4 : A4) (a5 : A5) (a6 : A6) (a7 : A7) (a8 : A8) (h : I a1 a2 a3 a4 a5 a6 a7 a8) : ∃ n, W n a1 a2 a3 a4 a5 a6 a7 a8 :=
  loop_m (σ := A1 × A2 × A3 × A4 × A5 × A6 × A7 × A8) (fun n s => W n s.1 s.2.1 s.2.2.1 s.2.2.2.1 s.2.2.2.2.1 s.2.2.2.2.2.1 s.2.2.2.2.2.2.1 s.2.2.2.2.2.2.2) (fun s => I s.1 s.2.1 s.2.2.1 s.2.2.2.1 s.2.2.2.2.1 s.2.2.2.2.2.1 s.2.2.2.2.2.2.1 s.2.2.2.2.2.2.2) (fun s => μ s.1 s.2.1 s.2.2.1 s.2.2.2.1 s.2.2.2.2.1 s.2.2.2.2.2.1 s.2.2.2.2.2.2.1 s.2.2.2.2.2.2.2) (fun n s hI hk => hs n s.1 s.2.1 s.2.2.1 s.2.2.2.1 s.2.2.2.2.1 s.2.2.2.2.2.1 s.2.2.2.2.2.2.1 s.2.2.2.2.2.2.2 hI (fun b1 b2 b3 b4 b5 b6 b7 b8 h9 hm => hk (b1, b2, b3, b4, b5, b6, b7, b8) h9 hm)) (a1, a2, a3, a4, a5, a6, a7, a8) h
theorem lp9 {A1 A2 A3 A4 A5 A6 A7 A8 A9 : Type} (W : Nat → A1 → A2 → A3 → A4 → A5 → A6 → A7 → A8 → A9 → Prop) (I : A1 → A2 → A3 → A4 → A5 → A6 → A7 → A8 → A9 → Prop) (μ : A1 → A2 → A3 → A4 → A5 → A6 → A7 → A8 → A9 → Nat) (hs : ∀ (n : Nat) (a1 : A1) (a2 : A2) (a3 : A3) (a4 : A4) (a5 : A5) (a6 : A6) (a7 : A7) (a8 : A8) (a9 : A9), I a1 a2 a3 a4 a5 a6 a7 a8 a9 → (∀ (b1 : A1) (b2 : A2) (b3 : A3) (b4 : A4) (b5 : A5) (b6 : A6) (b7 : A7) (b8 : A8) (b9 : A9), I b1 b2 b3 b4 b5 b6 b7 b8 b9 → μ b1 b2 b3 b4 b5 b6 b7 b8 b9 < μ a1 a2 a3 a4 a5 a6 a7 a8 a9 → W n b1 b2 b3 b4 b5 b6 b7 b8 b9) → W (n + 1) a1 a2 a3 a4 a5 a6 a7 a8 a9) (a1 : A1) (a2 : A2) (a3 : A3) (a4 : A4) (a5 : A5) (a6 : A6) (a7 : A7) (a8 : A8) (a9 : A9) (h : I a1 a2 a3 a4 a5 a6 a7 a8 a9) : ∃ n, W n a1 a2 a3 a4 a5 a6 a7 a8 a9 :=
  loop_m (σ := A1 × A2 × A3 × A4 × A5 × A6 × A7 × A8 × A9) (fun n s => W n s.1 s.2.1 s.2.2.1 s.2.2.2.1 s.2.2.2.2.1 s.2.2.2.2.2.1 s.2.2.2.2.2.2.1 s.2.2.2.2.2.2.2.1 s.2.2.2.2.2.2.2.2) (fun s => I s.1 s.2.1 s.2.2.1 s.2.2.2.1 s.2.2.2.2.1 s.2.2.2.2.2.1 s.2.2.2.2.2.2.1 s.2.2.2.2.2.2.2.1 s.2.2.2.2.2.2.2.2) (fun s => μ s.1 s.2.1 s.2.2.1 s.2.2.2.1 s.2.2.2.2.1 s.2.2.2.2.2.1 s.2.2.2.2.2.2.1 s.2.2.2.2.2.2.2.1 s.2.2.2.2.2.2.2.2) (fun n s hI hk => hs n s.1 s.2.1 s.2.2.1 s.2.2.2.1 s.2.2.2.2.1 s.2.2.2.2.2.1 s.2.2.2.2.2.2.1 s.2.2.2.2.2.2.2.1 s.2.2.2.2.2.2.2.2 hI (fun b1 b2 b3 b4 b5 b6 b7 b8 b9 h9 hm => hk (b1, b2, b3, b4, b5, b6, b7, b8, b9) h9 hm)) (a1, a2, a3, a4, a5, a6, a7, a8, a9) h
theorem lp10 {A1 A2 A3 A4 A5 A6 A7 A8 A9 A10 : Type} (W : Nat → A1 → A2 → A3 → A4 → A5 → A6 → A7 → A8 → A9 → A10 → Prop) (I : A1 → A2 → A3 → A4 → A5 → A6 → A7 → A8 → A9 → A10 → Prop) (μ : A1 → A2 → A3 → A4 → A5 → A6 → A7 → A8 → A9 → A10 → Nat) (hs : ∀ (n : Nat) (a1 : A1) (a2 : A2) (a3 : A3) (a4 : A4) (a5 : A5) (a6 : A6) (a7 : A7) (a8 : A8) (a9 : A9) (a10 : A10), I a1 a2 a3 a4 a5 a6 a7 a8 a9 a10 → (∀ (b1 : A1) (b2 : A2) (b3 : A3) (b4 : A4) (b5 : A5) (b6 : A6) (b7 : A7) (b8 : A8) (b9 : A9) (b10 : A10), I b1 b2 b3 b4 b5 b6 b7 b8 b9 b10 → μ b1 b2 b3 b4 b5 b6 b7 b8 b9 b10 < μ a1 a2 a3 a4 a5 a6 a7 a8 a9 a10 → W n b1 b2 b3 b4 b5 b6 b7 b8 b9 b10) → W (n + 1) a1 a2 a3 a4 a5 a6 a7 a8 a9 a10) (a1 : A1) (a2 : A2) (a3 : A3) (a4 : A4) (a5 : A5) (a6 : A6) (a7 : A7) (a8 : A8) (a9 : A9) (a10 : A10) (h : I a1 a2 a3 a4 a5 a6 a7 a8 a9 a10) : ∃ n, W n a1 a2 a3 a4 a5 a6 a7 a8 a9 a10 :=
  loop_m (σ := A1 × A2 × A3 × A4 × A5 × A6 × A7 × A8 × A9 × A10) (fun n s => W n s.1 s.2.1 s.2.2.1 s.2.2.2.1 s.2.2.2.2.1 s.2.2.2.2.2.1 s.2.2.2.2.2.2.1 s.2.2.2.2.2.2.2.1 s.2.2.2.2.2.2.2.2.1 s.2.2.2.2.2.2.2.2.2) (fun s => I s.1 s.2.1 s.2.2.1 s.2.2.2.1 s.2.2.2.2.1 s.2.2.2.2.2.1 s.2.2.2.2.2.2.1 s.2.2.2.2.2.2.2.1 s.2.2.2.2.2.2.2.2.1 s.2.2.2.2.2.2.2.2.2) (fun s => μ s.1 s.2.1 s.2.2.1 s.2.2.2.1 s.2.2.2.2.1 s.2.2.2.2.2.1 s.2.2.2.2.2.2.1 s.2.2.2.2.2.2.2.1 s.2.2.2.2.2.2.2.2.1 s.2.2.2.2.2.2.2.2.2) (fun n s hI hk => hs n s.1 s.2.1 s.2.2.1 s.2.2.2.1 s.2.2.2.2.1 s.2.2.2.2.2.1 s.2.2.2.2.2.2.1 s.2.2.2.2.2.2.2.1 s.2.2.2.2.2.2.2.2.1 s.2.2.2.2.2.2.2.2.2 hI (fun b1 b2 b3 b4 b5 b6 b7 b8 b9 b10 h9 hm => hk (b1, b2, b3, b4, b5, b6, b7, b8, b9, b10) h9 hm)) (a1, a2, a3, a4, a5, a6, a7, a8, a9, a10) h
theorem lp11 {A1 A2 A3 A4 A5 A6 A7 A8 A9 A10 A11 : Type} (W : Nat → A1 → A2 → A3 → A4 → A5 → A6 → A7 → A8 → A9 → A10 → A11 → Prop) (I : A1 → A2 → A3 → A4 → A5 → A6 → A7 → A8 → A9 → A10 → A11 → Prop) (μ : A1 → A2 → A3 → A4 → A5 → A6 → A7 → A8 → A9 → A10 → A11 → Nat) (hs : ∀ (n : Nat) (a1 : A1) (a2 : A2) (a3 : A3) (a4 : A4) (a5 : A5) (a6 : A6) (a7 : A7) (a8 : A8) (a9 : A9) (a10 : A10) (a11 : A11), I a1 a2 a3 a4 a5 a6 a7 a8 a9 a10 a11 → (∀ (b1 : A1) (b2 : A2) (b3 : A3) (b4 : A4) (b5 : A5) (b6 : A6) (b7 : A7) (b8 : A8) (b9 : A9) (b10 : A10) (b11 : A11), I b1 b2 b3 b4 b5 b6 b7 b8 b9 b10 b11 → μ b1 b2 b3 b4 b5 b6 b7 b8 b9 b10 b11 < μ a1 a2 a3 a4 a5 a6 a7 a8 a9 a10 a11 → W n b1 b2 b3 b4 b5 b6 b7 b8 b9 b10 b11) → W (n + 1) a1 a2 a3 a4 a5 a6 a7 a8 a9 a10 a11) (a1 : A1) (a2 : A2) (a3 : A3) (a4 : A4) (a5 : A5) (a6 : A6) (a7 : A7) (a8 : A8) (a9 : A9) (a10 : A10) (a11 : A11) (h : I a1 a2 a3 a4 a5 a6 a7 a8 a9 a10 a11) : ∃ n, W n a1 a2 a3 a4 a5 a6 a7 a8 a9 a10 a11 :=
  loop_m (σ := A1 × A2 × A3 × A4 × A5 × A6 × A7 × A8 × A9 × A10 × A11) (fun n s => W n s.1 s.2.1 s.2.2.1 s.2.2.2.1 s.2.2.2.2.1 s.2.2.2.2.2.1 s.2.2.2.2.2.2.1 s.2.2.2.2.2.2.2.1 s.2.2.2.2.2.2.2.2.1 s.2.2.2.2.2.2.2.2.2.1 s.2.2.2.2.2.2.2.2.2.2) (fun s => I s.1 s.2.1 s.2.2.1 s.2.2.2.1 s.2.2.2.2.1 s.2.2.2.2.2.1 s.2.2.2.2.2.2.1 s.2.2.2.2.2.2.2.1 s.2.2.2.2.2.2.2.2.1 s.2.2.2.2.2.2.2.2.2.1 s.2.2.2.2.2.2.2.2.2.2) (fun s => μ s.1 s.2.1 s.2.2.1 s.2.2.2.1 s.2.2.2.2.1 s.2.2.2.2.2.1 s.2.2.2.2.2.2.1 s.2.2.2.2.2.2.2.1 s.2.2.2.2.2.2.2.2.1 s.2.2.2.2.2.2.2.2.2.1 s.2.2.2.2.2.2.2.2.2.2) (fun n s hI hk => hs n s.1 s.2.1 s.2.2.1 s.2.2.2.1 s.2.2.2.2.1 s.2.2.2.2.2.1 s.2.2.2.2.2.2.1 s.2.2.2.2.2.2.2.1 s.2.2.2.2.2.2.2.2.1 s.2.2.2.2.2.2.2.2.2.1 s.2.2.2.2.2.2.2.2.2.2 hI (fun b1 b2 b3 b4 b5 b6 b7 b8 b9 b10 b11 h9 hm => hk (b1, b2, b3, b4, b5, b6, b7, b8, b9, b10, b11) h9 hm)) (a1, a2, a3, a4, a5, a6, a7, a8, a9, a10, a11) h
theorem lp12 {A1 A2 A3 A4 A5 A6 A7 A8 A9 A10 A11 A12 : Type} (W : Nat → A1 → A2 → A3 → A4 → A5 → A6 → A7 → A8 → A9 → A10 → A11 → A12 → Prop) (I : A1 → A2 → A3 → A4 → A5 → A6 → A7 → A8 → A9 → A10 → A11 → A12 → Prop) (μ : A1 → A2 → A3 → A4 → A5 → A6 → A7 → A8 → A9 → A10 → A11 → A12 → Nat) (hs : ∀ (n : Nat) (a1 : A1) (a2 : A2) (a3 : A3) (a4 : A4) (a5 : A5) (a6 : A6) (a7 : A7) (a8 : A8) (a9 : A9) (a10 : A10) (a11 : A11) (a12 : A12), I a1 a2 a3 a4 a5 a6 a7 a8 a9 a10 a11 a12 → (∀ (b1 : A1) (b2 : A2) (b3 : A3) (b4 : A4) (b5 : A5) (b6 : A6) (b7 : A7) (b8 : A8) (b9 : A9) (b10 : A10) (b11 : A11) (b12 : A12), I b1 b2 b3 b4 b5 b6 b7 b8 b9 b10 b11 b12 → μ b1 b2 b3 b4 b5 b6 b7 b8 b9 b10 b11 b12 < μ a1 a2 a3 a4 a5 a6 a7 a8 a9 a10 a11 a12 → W n b1 b2 b3 b4 b5 b6 b7 b8 b9 b10 b11 b12) → W (n + 1) a1 a2 a3 a4 a5 a6 a7 a8 a9 a10 a11 a12) (a1 : A1) (a2 : A2) (a3 : A3) (a4 : A4) (a5 : A5) (a6 : A6) (a7 : A7) (a8 : A8) (a9 : A9) (a10 : A10) (a11 : A11) (a12 : A12) (h : I a1 a2 a3 a4 a5 a6 a7 a8 a9 a10 a11 a12) : ∃ n, W n a1 a2 a3 a4 a5 a6 a7 a8 a9 a10 a11 a12 :=
  loop_m (σ := A1 × A2 × A3 × A4 × A5 × A6 × A7 × A8 × A9 × A10 × A11 × A12) (fun n s => W n s.1 s.2.1 s.2.2.1 s.2.2.2.1 s.2.2.2.2.1 s.2.2.2.2.2.1 s.2.2.2.2.2.2.1 s.2.2.2.2.2.2.2.1 s.2.2.2.2.2.2.2.2.1 s.2.2.2.2.2.2.2.2.2.1 s.2.2.2.2.2.2.2.2.2.2.1 s.2.2.2.2.2.2.2.2.2.2.2) (fun s => I s.1 s.2.1 s.2.2.1 s.2.2.2.1 s.2.2.2.2.1 s.2.2.2.2.2.1 s.2.2.2.2.2.2.1 s.2.2.2.2.2.2.2.1 s.2.2.2.2.2.2.2.2.1 s.2.2.2.2.2.2.2.2.2.1 s.2.2.2.2.2.2.2.2.2.2.1 s.2.2.2.2.2.2.2.2.2.2.2) (fun s => μ s.1 s.2.1 s.2.2.1 s.2.2.2.1 s.2.2.2.2.1 s.2.2.2.2.2.1 s.2.2.2.2.2.2.1 s.2.2.2.2.2.2.2.1 s.2.2.2.2.2.2.2.2.1 s.2.2.2.2.2.2.2.2.2.1 s.2.2.2.2.2.2.2.2.2.2.1 s.2.2.2.2.2.2.2.2.2.2.2) (fun n s hI hk => hs n s.1 s.2.1 s.2.2.1 s.2.2.2.1 s.2.2.2.2.1 s.2.2.2.2.2.1 s.2.2.2.2.2.2.1 s.2.2.2.2.2.2.2.1 s.2.2.2.2.2.2.2.2.1 s.2.2.2.2.2.2.2.2.2.1 s.2.2.2.2.2.2.2.2.2.2.1 s.2.2.2.2.2.2.2.2.2.2.2 hI (fun b1 b2 b3 b4 b5 b6 b7 b8 b9 b10 b11 b12 h9 hm => hk (b1, b2, b3, b4, b5, b6, b7, b8, b9, b10, b11, b12) h9 hm)) (a1, a2, a3, a4, a5, a6, a7, a8, a9, a10, a11, a12) h
theorem lp13 {A1 A2 A3 A4 A5 A6 A7 A8 A9 A10 A11 A12 A13 : Type} (W : Nat → A1 → A2 → A3 → A4 → A5 → A6 → A7 → A8 → A9 → A10 → A11 → A12 → A13 → Prop) (I : A1 → A2 → A3 → A4 → A5 → A6 → A7 → A8 → A9 → A10 → A11 → A12 → A13 → Prop) (μ : A1 → A2 → A3 → A4 → A5 → A6 → A7 → A8 → A9 → A10 → A11 → A12 → A13 → Nat) (hs : ∀ (n : Nat) (a1 : A1) (a2 : A2) (a3 : A3) (a4 : A4) (a5 : A5) (a6 : A6) (a7 : A7) (a8 : A8) (a9 : A9) (a10 : A10) (a11 : A11) (a12 : A12) (a13 : A13), I a1 a2 a3 a4 a5 a6 a7 a8 a9 a10 a11 a12 a13 → (∀ (b1 : A1) (b2 : A2) (b3 : A3) (b4 : A4) (b5 : A5) (b6 : A6) (b7 : A7) (b8 : A8) (b9 : A9) (b10 : A10) (b11 : A11) (b12 : A12) (b13 : A13), I b1 b2 b3 b4 b5 b6 b7 b8 b9 b10 b11 b12 b13 → μ b1 b2 b3 b4 b5 b6 b7 b8 b9 b10 b11 b12 b13 < μ a1 a2 a3 a4 a5 a6 a7 a8 a9 a10 a11 a12 a13 → W n b1 b2 b3 b4 b5 b6 b7 b8 b9 b10 b11 b12 b13) → W (n + 1) a1 a2 a3 a4 a5 a6 a7 a8 a9 a10 a11 a12 a13) (a1 : A1) (a2 : A2) (a3 : A3) (a4 : A4) (a5 : A5) (a6 : A6) (a7 : A7) (a8 : A8) (a9 : A9) (a10 : A10) (a11 : A11) (a12 : A12) (a13 : A13) (h : I a1 a2 a3 a4 a5 a6 a7 a8 a9 a10 a11 a12 a13) : ∃ n, W n a1 a2 a3 a4 a5 a6 a7 a8 a9 a10 a11 a12 a13 :=
  loop_m (σ := A1 × A2 × A3 × A4 × A5 × A6 × A7 × A8 × A9 × A10 × A11 × A12 × A13) (fun n s => W n s.1 s.2.1 s.2.2.1 s.2.2.2.1 s.2.2.2.2.1 s.2.2.2.2.2.1 s.2.2.2.2.2.2.1 s.2.2.2.2.2.2.2.1 s.2.2.2.2.2.2.2.2.1 s.2.2.2.2.2.2.2.2.2.1 s.2.2.2.2.2.2.2.2.2.2.1 s.2.2.2.2.2.2.2.2.2.2.2.1 s.2.2.2.2.2.2.2.2.2.2.2.2) (fun s => I s.1 s.2.1 s.2.2.1 s.2.2.2.1 s.2.2.2.2.1 s.2.2.2.2.2.1 s.2.2.2.2.2.2.1 s.2.2.2.2.2.2.2.1 s.2.2.2.2.2.2.2.2.1 s.2.2.2.2.2.2.2.2.2.1 s.2.2.2.2.2.2.2.2.2.2.1 s.2.2.2.2.2.2.2.2.2.2.2.1 s.2.2.2.2.2.2.2.2.2.2.2.2) (fun s => μ s.1 s.2.1 s.2.2.1 s.2.2.2.1 s.2.2.2.2.1 s.2.2.2.2.2.1 s.2.2.2.2.2.2.1 s.2.2.2.2.2.2.2.1 s.2.2.2.2.2.2.2.2.1 s.2.2.2.2.2.2.2.2.2.1 s.2.2.2.2.2.2.2.2.2.2.1 s.2.2.2.2.2.2.2.2.2.2.2.1 s.2.2.2.2.2.2.2.2.2.2.2.2) (fun n s hI hk => hs n s.1 s.2.1 s.2.2.1 s.2.2.2.1 s.2.2.2.2.1 s.2.2.2.2.2.1 s.2.2.2.2.2.2.1 s.2.2.2.2.2.2.2.1 s.2.2.2.2.2.2.2.2.1 s.2.2.2.2.2.2.2.2.2.1 s.2.2.2.2.2.2.2.2.2.2.1 s.2.2.2.2.2.2.2.2.2.2.2.1 s.2.2.2.2.2.2.2.2.2.2.2.2 hI (fun b1 b2 b3 b4 b5 b6 b7 b8 b9 b10 b11 b12 b13 h9 hm => hk (b1, b2, b3, b4, b5, b6, b7, b8, b9, b10, b11, b12, b13) h9 hm)) (a1, a2, a3, a4, a5, a6, a7, a8, a9, a10, a11, a12, a13) h
theorem lp14 {A1 A2 A3 A4 A5 A6 A7 A8 A9 A10 A11 A12 A13 A14 : Type} (W : Nat → A1 → A2 → A3 → A4 → A5 → A6 → A7 → A8 → A9 → A10 → A11 → A12 → A13 → A14 → Prop) (I : A1 → A2 → A3 → A4 → A5 → A6 → A7 → A8 → A9 → A10 → A11 → A12 → A13 → A14 → Prop) (μ : A1 → A2 → A3 → A4 → A5 → A6 → A7 → A8 → A9 → A10 → A11 → A12 → A13 → A14 → Nat) (hs : ∀ (n : Nat) (a1 : A1) (a2 : A2) (a3 : A3) (a4 : A4) (a5 : A5) (a6 : A6) (a7 : A7) (a8 : A8) (a9 : A9) (a10 : A10) (a11 : A11) (a12 : A12) (a13 : A13) (a14 : A14), I a1 a2 a3 a4 a5 a6 a7 a8 a9 a10 a11 a12 a13 a14 → (∀ (b1 : A1) (b2 : A2) (b3 : A3) (b4 : A4) (b5 : A5) (b6 : A6) (b7 : A7) (b8 : A8) (b9 : A9) (b10 : A10) (b11 : A11) (b12 : A12) (b13 : A13) (b14 : A14), I b1 b2 b3 b4 b5 b6 b7 b8 b9 b10 b11 b12 b13 b14 → μ b1 b2 b3 b4 b5 b6 b7 b8 b9 b10 b11 b12 b13 b14 < μ a1 a2 a3 a4 a5 a6 a7 a8 a9 a10 a11 a12 a13 a14 → W n b1 b2 b3 b4 b5 b6 b7 b8 b9 b10 b11 b12 b13 b14) → W (n + 1) a1 a2 a3 a4 a5 a6 a7 a8 a9 a10 a11 a12 a13 a14) (a1 : A1) (a2 : A2) (a3 : A3) (a4 : A4) (a5 : A5) (a6 : A6) (a7 : A7) (a8 : A8) (a9 : A9) (a10 : A10) (a11 : A11) (a12 : A12) (a13 : A13) (a14 : A14) (h : I a1 a2 a3 a4 a5 a6 a7 a8 a9 a10 a11 a12 a13 a14) : ∃ n, W n a1 a2 a3 a4 a5 a6 a7 a8 a9 a10 a11 a12 a13 a14 :=
  loop_m (σ := A1 × A2 × A3 × A4 × A5 × A6 × A7 × A8 × A9 × A10 × A11 × A12 × A13 × A14) (fun n s => W n s.1 s.2.1 s.2.2.1 s.2.2.2.1 s.2.2.2.2.1 s.2.2.2.2.2.1 s.2.2.2.2.2.2.1 s.2.2.2.2.2.2.2.1 s.2.2.2.2.2.2.2.2.1 s.2.2.2.2.2.2.2.2.2.1 s.2.2.2.2.2.2.2.2.2.2.1 s.2.2.2.2.2.2.2.2.2.2.2.1 s.2.2.2.2.2.2.2.2.2.2.2.2.1 s.2.2.2.2.2.2.2.2.2.2.2.2.2) (fun s => I s.1 s.2.1 s.2.2.1 s.2.2.2.1 s.2.2.2.2.1 s.2.2.2.2.2.1 s.2.2.2.2.2.2.1 s.2.2.2.2.2.2.2.1 s.2.2.2.2.2.2.2.2.1 s.2.2.2.2.2.2.2.2.2.1 s.2.2.2.2.2.2.2.2.2.2.1 s.2.2.2.2.2.2.2.2.2.2.2.1 s.2.2.2.2.2.2.2.2.2.2.2.2.1 s.2.2.2.2.2.2.2.2.2.2.2.2.2) (fun s => μ s.1 s.2.1 s.2.2.1 s.2.2.2.1 s.2.2.2.2.1 s.2.2.2.2.2.1 s.2.2.2.2.2.2.1 s.2.2.2.2.2.2.2.1 s.2.2.2.2.2.2.2.2.1 s.2.2.2.2.2.2.2.2.2.1 s.2.2.2.2.2.2.2.2.2.2.1 s.2.2.2.2.2.2.2.2.2.2.2.1 s.2.2.2.2.2.2.2.2.2.2.2.2.1 s.2.2.2.2.2.2.2.2.2.2.2.2.2) (fun n s hI hk => hs n s.1 s.2.1 s.2.2.1 s.2.2.2.1 s.2.2.2.2.1 s.2.2.2.2.2.1 s.2.2.2.2.2.2.1 s.2.2.2.2.2.2.2.1 s.2.2.2.2.2.2.2.2.1 s.2.2.2.2.2.2.2.2.2.1 s.2.2.2.2.2.2.2.2.2.2.1 s.2.2.2.2.2.2.2.2.2.2.2.1 s.2.2.2.2.2.2.2.2.2.2.2.2.1 s.2.2.2.2.2.2.2.2.2.2.2.2.2 hI (fun b1 b2 b3 b4 b5 b6 b7 b8 b9 b10 b11 b12 b13 b14 h9 hm => hk (b1, b2, b3, b4, b5, b6, b7, b8, b9, b10, b11, b12, b13, b14) h9 hm)) (a1, a2, a3, a4, a5, a6, a7, a8, a9, a10, a11, a12, a13, a14) h
theorem lp15 {A1 A2 A3 A4 A5 A6 A7 A8 A9 A10 A11 A12 A13 A14 A15 : Type} (W : Nat → A1 → A2 → A3 → A4 → A5 → A6 → A7 → A8 → A9 → A10 → A11 → A12 → A13 → A14 → A15 → Prop) (I : A1 → A2 → A3 → A4 → A5 → A6 → A7 → A8 → A9 → A10 → A11 → A12 → A13 → A14 → A15 → Prop) (μ : A1 → A2 → A3 → A4 → A5 → A6 → A7 → A8 → A9 → A10 → A11 → A12 → A13 → A14 → A15 → Nat) (hs : ∀ (n : Nat) (a1 : A1) (a2 : A2) (a3 : A3) (a4 : A4) (a5 : A5) (a6 : A6) (a7 : A7) (a8 : A8) (a9 : A9) (a10 : A10) (a11 : A11) (a12 : A12) (a13 : A13) (a14 : A14) (a15 : A15), I a1 a2 a3 a4 a5 a6 a7 a8 a9 a10 a11 a12 a13 a14 a15 → (∀ (b1 : A1) (b2 : A2) (b3 : A3) (b4 : A4) (b5 : A5) (b6 : A6) (b7 : A7) (b8 : A8) (b9 : A9) (b10 : A10) (b11 : A11) (b12 : A12) (b13 : A13) (b14 : A14) (b15 : A15), I b1 b2 b3 b4 b5 b6 b7 b8 b9 b10 b11 b12 b13 b14 b15 → μ b1 b2 b3 b4 b5 b6 b7 b8 b9 b10 b11 b12 b13 b14 b15 < μ a1 a2 a3 a4 a5 a6 a7 a8 a9 a10 a11 a12 a13 a14 a15 → W n b1 b2 b3 b4 b5 b6 b7 b8 b9 b10 b11 b12 b13 b14 b15) → W (n + 1) a1 a2 a3 a4 a5 a6 a7 a8 a9 a10 a11 a12 a13 a14 a15) (a1 : A1) (a2 : A2) (a3 : A3) (a4 : A4) (a5 : A5) (a6 : A6) (a7 : A7) (a8 : A8) (a9 : A9) (a10 : A10) (a11 : A11) (a12 : A12) (a13 : A13) (a14 : A14) (a15 : A15) (h : I a1 a2 a3 a4 a5 a6 a7 a8 a9 a10 a11 a12 a13 a14 a15) : ∃ n, W n a1 a2 a3 a4 a5 a6 a7 a8 a9 a10 a11 a12 a13 a14 a15 :=
  loop_m (σ := A1 × A2 × A3 × A4 × A5 × A6 × A7 × A8 × A9 × A10 × A11 × A12 × A13 × A14 × A15) (fun n s => W n s.1 s.2.1 s.2.2.1 s.2.2.2.1 s.2.2.2.2.1 s.2.2.2.2.2.1 s.2.2.2.2.2.2.1 s.2.2.2.2.2.2.2.1 s.2.2.2.2.2.2.2.2.1 s.2.2.2.2.2.2.2.2.2.1 s.2.2.2.2.2.2.2.2.2.2.1 s.2.2.2.2.2.2.2.2.2.2.2.1 s.2.2.2.2.2.2.2.2.2.2.2.2.1 s.2.2.2.2.2.2.2.2.2.2.2.2.2.1 s.2.2.2.2.2.2.2.2.2.2.2.2.2.2) (fun s => I s.1 s.2.1 s.2.2.1 s.2.2.2.1 s.2.2.2.2.1 s.2.2.2.2.2.1 s.2.2.2.2.2.2.1 s.2.2.2.2.2.2.2.1 s.2.2.2.2.2.2.2.2.1 s.2.2.2.2.2.2.2.2.2.1 s.2.2.2.2.2.2.2.2.2.2.1 s.2.2.2.2.2.2.2.2.2.2.2.1 s.2.2.2.2.2.2.2.2.2.2.2.2.1 s.2.2.2.2.2.2.2.2.2.2.2.2.2.1 s.2.2.2.2.2.2.2.2.2.2.2.2.2.2) (fun s => μ s.1 s.2.1 s.2.2.1 s.2.2.2.1 s.2.2.2.2.1 s.2.2.2.2.2.1 s.2.2.2.2.2.2.1 s.2.2.2.2.2.2.2.1 s.2.2.2.2.2.2.2.2.1 s.2.2.2.2.2.2.2.2.2.1 s.2.2.2.2.2.2.2.2.2.2.1 s.2.2.2.2.2.2.2.2.2.2.2.1 s.2.2.2.2.2.2.2.2.2.2.2.2.1 s.2.2.2.2.2.2.2.2.2.2.2.2.2.1 s.2.2.2.2.2.2.2.2.2.2.2.2.2.2) (fun n s hI hk => hs n s.1 s.2.1 s.2.2.1 s.2.2.2.1 s.2.2.2.2.1 s.2.2.2.2.2.1 s.2.2.2.2.2.2.1 s.2.2.2.2.2.2.2.1 s.2.2.2.2.2.2.2.2.1 s.2.2.2.2.2.2.2.2.2.1 s.2.2.2.2.2.2.2.2.2.2.1 s.2.2.2.2.2.2.2.2.2.2.2.1 s.2.2.2.2.2.2.2.2.2.2.2.2.1 s.2.2.2.2.2.2.2.2.2.2.2.2.2.1 s.2.2.2.2.2.2.2.2.2.2.2.2.2.2 hI (fun b1 b2 b3 b4 b5 b6 b7 b8 b9 b10 b11 b12 b13 b14 b15 h9 hm => hk (b1, b2, b3, b4, b5, b6, b7, b8, b9, b10, b11, b12, b13, b14, b15) h9 hm)) (a1, a2, a3, a4, a5, a6, a7, a8, a9, a10, a11, a12, a13, a14, a15) h
theorem lp16 {A1 A2 A3 A4 A5 A6 A7 A8 A9 A10 A11 A12 A13 A14 A15 A16 : Type} (W : Nat → A1 → A2 → A3 → A4 → A5 → A6 → A7 → A8 → A9 → A10 → A11 → A12 → A13 → A14 → A15 → A16 → Prop) (I : A1 → A2 → A3 → A4 → A5 → A6 → A7 → A8 → A9 → A10 → A11 → A12 → A13 → A14 → A15 → A16 → Prop) (μ : A1 → A2 → A3 → A4 → A5 → A6 → A7 → A8 → A9 → A10 → A11 → A12 → A13 → A14 → A15 → A16 → Nat) (hs : ∀ (n : Nat) (a1 : A1) (a2 : A2) (a3 : A3) (a4 : A4) (a5 : A5) (a6 : A6) (a7 : A7) (a8 : A8) (a9 : A9) (a10 : A10) (a11 : A11) (a12 : A12) (a13 : A13) (a14 : A14) (a15 : A15) (a16 : A16), I a1 a2 a3 a4 a5 a6 a7 a8 a9 a10 a11 a12 a13 a14 a15 a16 → (∀ (b1 : A1) (b2 : A2) (b3 : A3) (b4 : A4) (b5 : A5) (b6 : A6) (b7 : A7) (b8 : A8) (b9 : A9) (b10 : A10) (b11 : A11) (b12 : A12) (b13 : A13) (b14 : A14) (b15 : A15) (b16 : A16), I b1 b2 b3 b4 b5 b6 b7 b8 b9 b10 b11 b12 b13 b14 b15 b16 → μ b1 b2 b3 b4 b5 b6 b7 b8 b9 b10 b11 b12 b13 b14 b15 b16 < μ a1 a2 a3 a4 a5 a6 a7 a8 a9 a10 a11 a12 a13 a14 a15 a16 → W n b1 b2 b3 b4 b5 b6 b7 b8 b9 b10 b11 b12 b13 b14 b15 b16) → W (n + 1) a1 a2 a3 a4 a5 a6 a7 a8 a9 a10 a11 a12 a13 a14 a15 a16) (a1 : A1) (a2 : A2) (a3 : A3) (a4 : A4) (a5 : A5) (a6 : A6) (a7 : A7) (a8 : A8) (a9 : A9) (a10 : A10) (a11 : A11) (a12 : A12) (a13 : A13) (a14 : A14) (a15 : A15) (a16 : A16) (h : I a1 a2 a3 a4 a5 a6 a7 a8 a9 a10 a11 a12 a13 a14 a15 a16) : ∃ n, W n a1 a2 a3 a4 a5 a6 a7 a8 a9 a10 a11 a12 a13 a14 a15 a16 :=
  loop_m (σ := A1 × A2 × A3 × A4 × A5 × A6 × A7 × A8 × A9 × A10 × A11 × A12 × A13 × A14 × A15 × A16) (fun n s => W n s.1 s.2.1 s.2.2.1 s.2.2.2.1 s.2.2.2.2.1 s.2.2.2.2.2.1 s.2.2.2.2.2.2.1 s.2.2.2.2.2.2.2.1 s.2.2.2.2.2.2.2.2.1 s.2.2.2.2.2.2.2.2.2.1 s.2.2.2.2.2.2.2.2.2.2.1 s.2.2.2.2.2.2.2.2.2.2.2.1 s.2.2.2.2.2.2.2.2.2.2.2.2.1 s.2.2.2.2.2.2.2.2.2.2.2.2.2.1 s.2.2.2.2.2.2.2.2.2.2.2.2.2.2.1 s.2.2.2.2.2.2.2.2.2.2.2.2.2.2.2) (fun s => I s.1 s.2.1 s.2.2.1 s.2.2.2.1 s.2.2.2.2.1 s.2.2.2.2.2.1 s.2.2.2.2.2.2.1 s.2.2.2.2.2.2.2.1 s.2.2.2.2.2.2.2.2.1 s.2.2.2.2.2.2.2.2.2.1 s.2.2.2.2.2.2.2.2.2.2.1 s.2.2.2.2.2.2.2.2.2.2.2.1 s.2.2.2.2.2.2.2.2.2.2.2.2.1 s.2.2.2.2.2.2.2.2.2.2.2.2.2.1 s.2.2.2.2.2.2.2.2.2.2.2.2.2.2.1 s.2.2.2.2.2.2.2.2.2.2.2.2.2.2.2) (fun s => μ s.1 s.2.1 s.2.2.1 s.2.2.2.1 s.2.2.2.2.1 s.2.2.2.2.2.1 s.2.2.2.2.2.2.1 s.2.2.2.2.2.2.2.1 s.2.2.2.2.2.2.2.2.1 s.2.2.2.2.2.2.2.2.2.1 s.2.2.2.2.2.2.2.2.2.2.1 s.2.2.2.2.2.2.2.2.2.2.2.1 s.2.2.2.2.2.2.2.2.2.2.2.2.1 s.2.2.2.2.2.2.2.2.2.2.2.2.2.1 s.2.2.2.2.2.2.2.2.2.2.2.2.2.2.1 s.2.2.2.2.2.2.2.2.2.2.2.2.2.2.2) (fun n s hI hk => hs n s.1 s.2.1 s.2.2.1 s.2.2.2.1 s.2.2.2.2.1 s.2.2.2.2.2.1 s.2.2.2.2.2.2.1 s.2.2.2.2.2.2.2.1 s.2.2.2.2.2.2.2.2.1 s.2.2.2.2.2.2.2.2.2.1 s.2.2.2.2.2.2.2.2.2.2.1 s.2.2.2.2.2.2.2.2.2.2.2.1 s.2.2.2.2.2.2.2.2.2.2.2.2.1 s.2.2.2.2.2.2.2.2.2.2.2.2.2.1 s.2.2.2.2.2.2.2.2.2.2.2.2.2.2.1 s.2.2.2.2.2.2.2.2.2.2.2.2.2.2.2 hI (fun b1 b2 b3 b4 b5 b6 b7 b8 b9 b10 b11 b12 b13 b14 b15 b16 h9 hm => hk (b1, b2, b3, b4, b5, b6, b7, b8, b9, b10, b11, b12, b13, b14, b15, b16) h9 hm)) (a1, a2, a3, a4, a5, a6, a7, a8, a9, a10, a11, a12, a13, a14, a15, a16) h
theorem pk_least (P : Nat → Prop) (h : ∃ k, P k) : ∃ k, P k ∧ ∀ j, j < k → ¬ P j := by
  obtain ⟨k, hk⟩ := h
  induction k using Nat.strongRecOn with
  | ind k ih =>
    by_cases e : ∃ j, j < k ∧ P j
    · obtain ⟨j, hj, pj⟩ := e
      exact ih j hj pj
    · exact ⟨k, hk, fun j hj pj => e ⟨j, hj, pj⟩⟩
theorem rp1 {ρ A1 : Type} (W : Nat → (ρ → Prop) → A1 → Prop) (ok : A1 → Prop) (μ : A1 → Nat) (val : A1 → ρ)
    (hs : ∀ (d : Nat) (post : ρ → Prop) (a1 : A1), ok a1 → post (val a1) → (∀ (post' : ρ → Prop) (b1 : A1), ok b1 → μ b1 < μ a1 → post' (val b1) → W d post' b1) → W (d + 1) post a1) :
    ∀ (d : Nat) (post : ρ → Prop) (a1 : A1), ok a1 → μ a1 < d → post (val a1) → W d post a1 := by
  intro d
  induction d with
  | zero => intro post a1 _ h; omega
  | succ d ih =>
    intro post a1 ho hm hp
    exact hs d post a1 ho hp (fun post' b1 ho' hm' hp' => ih post' b1 ho' (by omega) hp')
theorem rp2 {ρ A1 A2 : Type} (W : Nat → (ρ → Prop) → A1 → A2 → Prop) (ok : A1 → A2 → Prop) (μ : A1 → A2 → Nat) (val : A1 → A2 → ρ)
    (hs : ∀ (d : Nat) (post : ρ → Prop) (a1 : A1) (a2 : A2), ok a1 a2 → post (val a1 a2) → (∀ (post' : ρ → Prop) (b1 : A1) (b2 : A2), ok b1 b2 → μ b1 b2 < μ a1 a2 → post' (val b1 b2) → W d post' b1 b2) → W (d + 1) post a1 a2) :
    ∀ (d : Nat) (post : ρ → Prop) (a1 : A1) (a2 : A2), ok a1 a2 → μ a1 a2 < d → post (val a1 a2) → W d post a1 a2 := by
  intro d
  induction d with
  | zero => intro post a1 a2 _ h; omega
  | succ d ih =>
    intro post a1 a2 ho hm hp
    exact hs d post a1 a2 ho hp (fun post' b1 b2 ho' hm' hp' => ih post' b1 b2 ho' (by omega) hp')
theorem rp3 {ρ A1 A2 A3 : Type} (W : Nat → (ρ → Prop) → A1 → A2 → A3 → Prop) (ok : A1 → A2 → A3 → Prop) (μ : A1 → A2 → A3 → Nat) (val : A1 → A2 → A3 → ρ)
    (hs : ∀ (d : Nat) (post : ρ → Prop) (a1 : A1) (a2 : A2) (a3 : A3), ok a1 a2 a3 → post (val a1 a2 a3) → (∀ (post' : ρ → Prop) (b1 : A1) (b2 : A2) (b3 : A3), ok b1 b2 b3 → μ b1 b2 b3 < μ a1 a2 a3 → post' (val b1 b2 b3) → W d post' b1 b2 b3) → W (d + 1) post a1 a2 a3) :
    ∀ (d : Nat) (post : ρ → Prop) (a1 : A1) (a2 : A2) (a3 : A3), ok a1 a2 a3 → μ a1 a2 a3 < d → post (val a1 a2 a3) → W d post a1 a2 a3 := by
  intro d
  induction d with
  | zero => intro post a1 a2 a3 _ h; omega
  | succ d ih =>
    intro post a1 a2 a3 ho hm hp
    exact hs d post a1 a2 a3 ho hp (fun post' b1 b2 b3 ho' hm' hp' => ih post' b1 b2 b3 ho' (by omega) hp')
theorem rp4 {ρ A1 A2 A3 A4 : Type} (W : Nat → (ρ → Prop) → A1 → A2 → A3 → A4 → Prop) (ok : A1 → A2 → A3 → A4 → Prop) (μ : A1 → A2 → A3 → A4 → Nat) (val : A1 → A2 → A3 → A4 → ρ)
    (hs : ∀ (d : Nat) (post : ρ → Prop) (a1 : A1) (a2 : A2) (a3 : A3) (a4 : A4), ok a1 a2 a3 a4 → post (val a1 a2 a3 a4) → (∀ (post' : ρ → Prop) (b1 : A1) (b2 : A2) (b3 : A3) (b4 : A4), ok b1 b2 b3 b4 → μ b1 b2 b3 b4 < μ a1 a2 a3 a4 → post' (val b1 b2 b3 b4) → W d post' b1 b2 b3 b4) → W (d + 1) post a1 a2 a3 a4) :
    ∀ (d : Nat) (post : ρ → Prop) (a1 : A1) (a2 : A2) (a3 : A3) (a4 : A4), ok a1 a2 a3 a4 → μ a1 a2 a3 a4 < d → post (val a1 a2 a3 a4) → W d post a1 a2 a3 a4 := by
  intro d
  induction d with
  | zero => intro post a1 a2 a3 a4 _ h; omega
  | succ d ih =>
    intro post a1 a2 a3 a4 ho hm hp
    exact hs d post a1 a2 a3 a4 ho hp (fun post' b1 b2 b3 b4 ho' hm' hp' => ih post' b1 b2 b3 b4 ho' (by omega) hp')
theorem rp5 {ρ A1 A2 A3 A4 A5 : Type} (W : Nat → (ρ → Prop) → A1 → A2 → A3 → A4 → A5 → Prop) (ok : A1 → A2 → A3 → A4 → A5 → Prop) (μ : A1 → A2 → A3 → A4 → A5 → Nat) (val : A1 → A2 → A3 → A4 → A5 → ρ)
    (hs : ∀ (d : Nat) (post : ρ → Prop) (a1 : A1) (a2 : A2) (a3 : A3) (a4 : A4) (a5 : A5), ok a1 a2 a3 a4 a5 → post (val a1 a2 a3 a4 a5) → (∀ (post' : ρ → Prop) (b1 : A1) (b2 : A2) (b3 : A3) (b4 : A4) (b5 : A5), ok b1 b2 b3 b4 b5 → μ b1 b2 b3 b4 b5 < μ a1 a2 a3 a4 a5 → post' (val b1 b2 b3 b4 b5) → W d post' b1 b2 b3 b4 b5) → W (d + 1) post a1 a2 a3 a4 a5) :
    ∀ (d : Nat) (post : ρ → Prop) (a1 : A1) (a2 : A2) (a3 : A3) (a4 : A4) (a5 : A5), ok a1 a2 a3 a4 a5 → μ a1 a2 a3 a4 a5 < d → post (val a1 a2 a3 a4 a5) → W d post a1 a2 a3 a4 a5 := by
  intro d
  induction d with
  | zero => intro post a1 a2 a3 a4 a5 _ h; omega
  | succ d ih =>
    intro post a1 a2 a3 a4 a5 ho hm hp
    exact hs d post a1 a2 a3 a4 a5 ho hp (fun post' b1 b2 b3 b4 b5 ho' hm' hp' => ih post' b1 b2 b3 b4 b5 ho' (by omega) hp')
theorem rp6 {ρ A1 A2 A3 A4 A5 A6 : Type} (W : Nat → (ρ → Prop) → A1 → A2 → A3 → A4 → A5 → A6 → Prop) (ok : A1 → A2 → A3 → A4 → A5 → A6 → Prop) (μ : A1 → A2 → A3 → A4 → A5 → A6 → Nat) (val : A1 → A2 → A3 → A4 → A5 → A6 → ρ)
    (hs : ∀ (d : Nat) (post : ρ → Prop) (a1 : A1) (a2 : A2) (a3 : A3) (a4 : A4) (a5 : A5) (a6 : A6), ok a1 a2 a3 a4 a5 a6 → post (val a1 a2 a3 a4 a5 a6) → (∀ (post' : ρ → Prop) (b1 : A1) (b2 : A2) (b3 : A3) (b4 : A4) (b5 : A5) (b6 : A6), ok b1 b2 b3 b4 b5 b6 → μ b1 b2 b3 b4 b5 b6 < μ a1 a2 a3 a4 a5 a6 → post' (val b1 b2 b3 b4 b5 b6) → W d post' b1 b2 b3 b4 b5 b6) → W (d + 1) post a1 a2 a3 a4 a5 a6) :
    ∀ (d : Nat) (post : ρ → Prop) (a1 : A1) (a2 : A2) (a3 : A3) (a4 : A4) (a5 : A5) (a6 : A6), ok a1 a2 a3 a4 a5 a6 → μ a1 a2 a3 a4 a5 a6 < d → post (val a1 a2 a3 a4 a5 a6) → W d post a1 a2 a3 a4 a5 a6 := by
  intro d
  induction d with
  | zero => intro post a1 a2 a3 a4 a5 a6 _ h; omega
  | succ d ih =>
    intro post a1 a2 a3 a4 a5 a6 ho hm hp
    exact hs d post a1 a2 a3 a4 a5 a6 ho hp (fun post' b1 b2 b3 b4 b5 b6 ho' hm' hp' => ih post' b1 b2 b3 b4 b5 b6 ho' (by omega) hp')
theorem rec_p {σ ρ : Type} (W : Nat → (ρ → Prop) → σ → Prop) (ok : σ → Prop) (μ : σ → Nat) (val : σ → ρ)
    (hs : ∀ d s post, ok s → post (val s) → (∀ s' post', ok s' → μ s' < μ s → post' (val s') → W d post' s') → W (d + 1) post s) :
    ∀ d s post, ok s → μ s < d → post (val s) → W d post s := by
  intro d
  induction d with
  | zero => intro s post _ h; omega
  | succ d ih =>
    intro s post ho hm hp
    exact hs d s post ho hp (fun s' post' ho' hm' hp' => ih s' post' ho' (by omega) hp')
theorem rec_q {σ ρ : Type} (W : Nat → (ρ → Prop) → σ → Prop) (ok : σ → Prop) (μ : σ → Nat) (Q : σ → ρ → Prop)
    (hs : ∀ d s post, ok s → (∀ r, Q s r → post r) → (∀ s' post', ok s' → μ s' < μ s → (∀ r, Q s' r → post' r) → W d post' s') → W (d + 1) post s) :
    ∀ d s post, ok s → μ s < d → (∀ r, Q s r → post r) → W d post s := by
  intro d
  induction d with
  | zero => intro s post _ h; omega
  | succ d ih =>
    intro s post ho hm hp
    exact hs d s post ho hp (fun s' post' ho' hm' hp' => ih s' post' ho' (by omega) hp')
def bx_sum (f : Nat → Int32) : Nat → Int32
  | 0 => 0
  | n + 1 => bx_sum f n + f n
theorem ek_u {A : Prop} {B : Nat → Prop} {k N : Nat} (hk : k < N) (h : B k) : (some k = none → A) ∧ (∀ y : Nat, some k = some y → (y < N ∧ B y)) :=
  ⟨fun z => absurd z (Option.some_ne_none k), fun _ e => (by cases e; exact ⟨hk, h⟩)⟩
theorem ek_nu {A : Prop} {B : Nat → Prop} (h : A) : ((none : Option Nat) = none → A) ∧ (∀ y : Nat, (none : Option Nat) = some y → B y) :=
  ⟨fun _ => h, fun _ e => (by cases e)⟩
theorem ek_if {c d A B : Prop} (e : c ↔ d) (f : d → A) (g : ¬ d → B) : (c → A) ∧ (¬ c → B) :=
  ⟨fun z => f (e.mp z), fun z => g (fun y => z (e.mpr y))⟩
theorem ek_v {α : Sort _} {P : α → Prop} {a b : α} (e : a = b) (h : P b) : P a := e ▸ h
theorem co_some {x : Option Nat} {A : Prop} {B : Nat → Prop} (i : Nat) (h : B i) (hx : x = some i := by rfl) : (x = none → A) ∧ (∀ y : Nat, x = some y → B y) := by
  subst hx
  exact ⟨fun e => (nomatch e), fun y e => Option.some.inj e ▸ h⟩
theorem co_none {x : Option Nat} {A : Prop} {B : Nat → Prop} (h : A) (hx : x = none := by rfl) : (x = none → A) ∧ (∀ y : Nat, x = some y → B y) := by
  subst hx
  exact ⟨fun _ => h, fun y e => (nomatch e)⟩
theorem co_any {x : Option Nat} {A : Prop} {B : Nat → Prop} (hn : x = none → A) (hs : ∀ i : Nat, x = some i → B i) : (x = none → A) ∧ (∀ y : Nat, x = some y → B y) := ⟨hn, hs⟩
theorem co_2 {P : Nat → Prop} (h0 : P 0) (h1 : P 1) {i : Nat} (hi : i < 2) : P i :=
  match i, hi with
  | 0, _ => h0
  | 1, _ => h1
theorem co_3 {P : Nat → Prop} (h0 : P 0) (h1 : P 1) (h2 : P 2) {i : Nat} (hi : i < 3) : P i :=
  match i, hi with
  | 0, _ => h0
  | 1, _ => h1
  | 2, _ => h2
theorem co_4 {P : Nat → Prop} (h0 : P 0) (h1 : P 1) (h2 : P 2) (h3 : P 3) {i : Nat} (hi : i < 4) : P i :=
  match i, hi with
  | 0, _ => h0
  | 1, _ => h1
  | 2, _ => h2
  | 3, _ => h3
theorem co_dec {N : Nat} {P : Nat → Prop} [DecidablePred P] (h : (List.range N).all (fun i => decide (P i)) = true) {i : Nat} (hi : i < N) : P i := by
  have := List.all_eq_true.mp h i (List.mem_range.mpr hi)
  exact of_decide_eq_true this
theorem co_tab {α : Type} {l : List α} {d : α} {P : α → Prop} (h : ∀ a, a ∈ l → P a) {i : Nat} (hi : i < l.length) : P (l.getD i d) := by
  rw [List.getD_eq_getElem?_getD, List.getElem?_eq_getElem hi]
  exact h _ (List.getElem_mem hi)
theorem pk_mu {x : Int32} {L : Nat} (h0 : ¬ x < 0) (h : ¬ nI L ≤ x) (hL : L < 2 ^ 31) : ∃ j : Nat, j < L ∧ x = nI j ∧ x + 1 = nI (j + 1) ∧ x.toNatClampNeg = j ∧ L - (x + 1).toNatClampNeg < L - x.toNatClampNeg := by
  obtain ⟨j, hj, rfl⟩ := nI_of h0
  have hl : j < L := Nat.not_le.mp fun q => h (nI_le q hj)
  refine ⟨j, hl, rfl, nI_1 j, nI_clamp hj, ?_⟩
  rw [nI_1, nI_clamp (by omega), nI_clamp hj]
  omega
theorem op_s {α : Type} {r : Option α} {A : Prop} {B : α → Prop} {y : α} (h : r = some y) (b : B y) : (r = none → A) ∧ ∀ z, r = some z → B z :=
  ⟨fun e => (by rw [h] at e; cases e), fun z e => (by rw [h] at e; cases e; exact b)⟩
def l_holds {α : Type} (a : Nat → Option Nat) (LP : List Nat) (p : Nat → α) (c : Nat) (b : Nat → α) : Prop :=
  ∀ j, j < c → ∃ y, a j = some y ∧ y ∈ LP ∧ p y = b j
theorem l_holds_0 {α : Type} {a : Nat → Option Nat} {LP : List Nat} {p b : Nat → α} : l_holds a LP p 0 b := fun j h => absurd h (Nat.not_lt_zero j)
theorem l_in_new (LP : List Nat) (q : Nat) : q ∈ LP ++ [q] := List.mem_append.mpr (Or.inr (List.mem_singleton.mpr rfl))
def l_sum (b : Nat → Int32) : Nat → Int32
  | 0 => 0
  | k + 1 => l_sum b k + b k
theorem sb_shr0 (x : Int32) : x >>> ((0 : Int32) &&& 31) = x := by
  rw [show ((0 : Int32) &&& 31) = 0 by decide]
  simp
theorem sb_shl0 (x : Int32) : x <<< ((0 : Int32) &&& 31) = x := by
  rw [show ((0 : Int32) &&& 31) = 0 by decide]
  simp
theorem sb_cl0 : (0 : Int32).toNatClampNeg = 0 := by decide
theorem sb_m1 {p : Nat} (h : 0 < p) : nI p + (-1) = nI (p - 1) := by
  obtain ⟨q, rfl⟩ : ∃ q, p = q + 1 := ⟨p - 1, by omega⟩
  exact pk_m1 q
def sb_b (c : Nat) : Int32 := (nI c).toInt8.toInt32
theorem sb_byte : ∀ c, c < 256 → sb_b c &&& 255 = nI c ∧ ((nI c).toUInt32 % 65536).toInt32 = nI c ∧ nI c ≤ 255 := by decide +kernel
def sb_Fit (a : Nat → Int32) : Prop := ∀ j, fits .byte (.int (a j)) = true
def sb_Lat (t : Nat → Nat) (n : Nat) (a : Nat → Int32) : Prop := ∀ j, j < n → t j < 256 ∧ a j = sb_b (t j)
theorem sb_fitB (c : Nat) : fits .byte (.int (sb_b c)) = true := pk_fb _
theorem sb_fit0 : sb_Fit (fun _ => 0) := fun _ => by
  show fits .byte (.int 0) = true
  decide
theorem sb_fitU {a : Nat → Int32} {k : Nat} {x : Int32} (h : sb_Fit a) (hx : fits .byte (.int x) = true) : sb_Fit (upd a k x) := by
  intro j
  by_cases e : j = k
  · subst e
    rw [pk_us]
    exact hx
  · rw [pk_un e]
    exact h j
def sb_cat (t : Nat → Nat) (n : Nat) (s : Nat → Nat) : Nat → Nat := fun j => if j < n then t j else s (j - n)
theorem sb_cat_lo {t s : Nat → Nat} {n j : Nat} (h : j < n) : sb_cat t n s j = t j := if_pos h
theorem sb_cat_hi {t s : Nat → Nat} {n j : Nat} : sb_cat t n s (n + j) = s j := by
  show (if n + j < n then t (n + j) else s (n + j - n)) = s j
  rw [if_neg (by omega), Nat.add_sub_cancel_left]
theorem sb_latPut {t s : Nat → Nat} {n w : Nat} {a a' : Nat → Int32} (h : sb_Lat t n a) (hk : ∀ j, j < n → a' j = a j) (hs : ∀ i, i < w → s i < 256 ∧ a' (n + i) = sb_b (s i)) : sb_Lat (sb_cat t n s) (n + w) a' := by
  intro j hj
  by_cases e : j < n
  · rw [sb_cat_lo e, hk j e]
    exact h j e
  · obtain ⟨i, rfl⟩ : ∃ i, j = n + i := ⟨j - n, by omega⟩
    rw [sb_cat_hi]
    exact hs i (by omega)
theorem sb_latKeep {t : Nat → Nat} {n : Nat} {a a' : Nat → Int32} (h : sb_Lat t n a) (hk : ∀ j, j < n → a' j = a j) : sb_Lat t n a' := fun j hj => by
  rw [hk j hj]
  exact h j hj
def sb_cap (q m : Nat) : Nat := if q ≤ m then m else if 2 * m + 2 < q then q else 2 * m + 2
def sb_Room (q m mc ms : Nat) : Prop := q ≤ m ∨ (1 ≤ mc ∧ sb_cap q m ≤ ms ∧ sb_cap q m ≤ 65536)
theorem sb_cap_ge (q m : Nat) : q ≤ sb_cap q m := by
  unfold sb_cap
  split
  · omega
  · split <;> omega
theorem sb_cap_gem (q m : Nat) : m ≤ sb_cap q m := by
  unfold sb_cap
  split
  · omega
  · split <;> omega
theorem sb_cap_le {q m mc ms : Nat} (hm : m ≤ 65536) (hr : sb_Room q m mc ms) : sb_cap q m ≤ 65536 := by
  rcases hr with h | h
  · rw [sb_cap, if_pos h]
    exact hm
  · exact h.2.2
theorem sb_at {P : Int32 → Prop} {x y : Int32} (e : x = y) (h : P y) : P x := e ▸ h
def sb_dg (w : Nat) : Nat := if w < 10 then 1 else if w < 100 then 2 else if w < 1000 then 3 else if w < 10000 then 4 else if w < 100000 then 5 else if w < 1000000 then 6 else if w < 10000000 then 7 else if w < 100000000 then 8 else if w < 1000000000 then 9 else 10
def sb_dec (v : Nat) : Nat → Nat := fun i => 48 + v / 10 ^ (sb_dg v - 1 - i) % 10
theorem sb_dg_in (w : Nat) : 1 ≤ sb_dg w ∧ sb_dg w ≤ 10 := by
  unfold sb_dg
  constructor <;> (repeat' split) <;> omega
theorem sb_dg100 {w : Nat} (h : 100 ≤ w) (hw : w < 2 ^ 31) : sb_dg w = sb_dg (w / 100) + 2 := by
  rw [sb_dg, sb_dg, if_neg (show ¬ w < 10 by omega), if_neg (show ¬ w < 100 by omega)]
  by_cases h3 : w < 1000
  · rw [if_pos h3, if_pos (show w / 100 < 10 by omega)]
  rw [if_neg h3, if_neg (show ¬ w / 100 < 10 by omega)]
  by_cases h4 : w < 10000
  · rw [if_pos h4, if_pos (show w / 100 < 100 by omega)]
  rw [if_neg h4, if_neg (show ¬ w / 100 < 100 by omega)]
  by_cases h5 : w < 100000
  · rw [if_pos h5, if_pos (show w / 100 < 1000 by omega)]
  rw [if_neg h5, if_neg (show ¬ w / 100 < 1000 by omega)]
  by_cases h6 : w < 1000000
  · rw [if_pos h6, if_pos (show w / 100 < 10000 by omega)]
  rw [if_neg h6, if_neg (show ¬ w / 100 < 10000 by omega)]
  by_cases h7 : w < 10000000
  · rw [if_pos h7, if_pos (show w / 100 < 100000 by omega)]
  rw [if_neg h7, if_neg (show ¬ w / 100 < 100000 by omega)]
  by_cases h8 : w < 100000000
  · rw [if_pos h8, if_pos (show w / 100 < 1000000 by omega)]
  rw [if_neg h8, if_neg (show ¬ w / 100 < 1000000 by omega)]
  by_cases h9 : w < 1000000000
  · rw [if_pos h9, if_pos (show w / 100 < 10000000 by omega)]
  rw [if_neg h9, if_neg (show ¬ w / 100 < 10000000 by omega)]
  rw [if_pos (show w / 100 < 100000000 by omega)]
theorem sb_negT {w : Nat} (h : w < 2 ^ 31) : (-nI w).toInt = -(w : Int) := by
  rw [Int32.toInt_neg, nI_toInt h]
  exact Int.bmod_eq_of_le (by omega) (by omega)
theorem sb_nle {a b : Nat} (ha : a < 2 ^ 31) (hb : b < 2 ^ 31) : -nI a ≤ -nI b ↔ b ≤ a := by
  rw [Int32.le_iff_toInt_le, sb_negT ha, sb_negT hb]
  omega
theorem sb_nlt {a b : Nat} (ha : a < 2 ^ 31) (hb : b < 2 ^ 31) : -nI a < -nI b ↔ b < a := by
  rw [Int32.lt_iff_toInt_lt, sb_negT ha, sb_negT hb]
  omega
theorem sb_cmp {A B : Prop} {x : Int32} (v c : Nat) (f : c ≤ v → A) (g : v < c → B) (hv : v < 2 ^ 31) (hx : x = -nI c := by rfl) (hc : c < 2 ^ 31 := by omega) : (-nI v ≤ x → A) ∧ (¬ -nI v ≤ x → B) := by
  subst hx
  rw [sb_nle hv hc]
  exact ⟨f, fun z => g (by omega)⟩
theorem sb_ndiv {w : Nat} (hw : w < 2 ^ 31) : (-nI w) / 100 = -nI (w / 100) := by
  apply Int32.toInt_inj.mp
  have h100 : (100 : Int32).toInt = 100 := by decide
  rw [Int32.toInt_div, sb_negT hw, h100, sb_negT (by omega), Int.neg_tdiv, Int.tdiv_eq_ediv_of_nonneg (by omega), Int.bmod_eq_of_le (by omega) (by omega)]
  omega
theorem sb_nrem {w : Nat} (hw : w < 2 ^ 31) : (-nI (w / 100)) * 100 - (-nI w) = nI (w % 100) := by
  have h := pk_rem (a := w) (d := 100) hw (by decide) (by decide)
  rw [pk_div hw (by decide) (by decide)] at h
  rw [← h]
  show (-nI (w / 100)) * nI 100 - (-nI w) = nI w - nI (w / 100) * nI 100
  rw [Int32.neg_mul, Int32.sub_neg, Int32.add_comm, ← Int32.sub_eq_add_neg]
end
section
/-! sums -/
def sh_sm : Nat → (Nat → Nat) → Nat
  | 0, _ => 0
  | n + 1, f => sh_sm n f + f n
theorem sh_sm_congr {f k : Nat → Nat} : ∀ n, (∀ j, j < n → f j = k j) → sh_sm n f = sh_sm n k := by
  intro n
  induction n with
  | zero => intro _; rfl
  | succ n ih =>
    intro h
    show sh_sm n f + f n = sh_sm n k + k n
    rw [ih (fun j hj => h j (by omega)), h n (by omega)]
theorem sh_sm_add (f k : Nat → Nat) : ∀ n, sh_sm n (fun j => f j + k j) = sh_sm n f + sh_sm n k := by
  intro n
  induction n with
  | zero => rfl
  | succ n ih =>
    show sh_sm n (fun j => f j + k j) + (f n + k n) = (sh_sm n f + f n) + (sh_sm n k + k n)
    rw [ih]; omega
theorem sh_sm_mul (c : Nat) (f : Nat → Nat) : ∀ n, sh_sm n (fun j => c * f j) = c * sh_sm n f := by
  intro n
  induction n with
  | zero => rfl
  | succ n ih =>
    show sh_sm n (fun j => c * f j) + c * f n = c * (sh_sm n f + f n)
    rw [ih, Nat.mul_add]
theorem sh_sm_mulr (c : Nat) (f : Nat → Nat) : ∀ n, sh_sm n (fun j => f j * c) = sh_sm n f * c := by
  intro n
  induction n with
  | zero => exact (Nat.zero_mul c).symm
  | succ n ih =>
    show sh_sm n (fun j => f j * c) + f n * c = (sh_sm n f + f n) * c
    rw [ih, Nat.add_mul]
theorem sh_sm_0 : ∀ n, sh_sm n (fun _ => 0) = 0 := by
  intro n
  induction n with
  | zero => rfl
  | succ n ih => show sh_sm n (fun _ => 0) + 0 = 0; rw [ih]
theorem sh_sm_swap (F : Nat → Nat → Nat) (m : Nat) : ∀ n, sh_sm n (fun j => sh_sm m (fun h => F j h)) = sh_sm m (fun h => sh_sm n (fun j => F j h)) := by
  intro n
  induction n with
  | zero => exact (sh_sm_0 m).symm
  | succ n ih =>
    show sh_sm n (fun j => sh_sm m (fun h => F j h)) + sh_sm m (fun h => F n h) = sh_sm m (fun h => sh_sm n (fun j => F j h) + F n h)
    rw [ih, sh_sm_add (fun h => sh_sm n (fun j => F j h)) (fun h => F n h) m]
theorem sh_sm_ext {f : Nat → Nat} {n : Nat} : ∀ m, n ≤ m → (∀ j, n ≤ j → j < m → f j = 0) → sh_sm m f = sh_sm n f := by
  intro m
  induction m with
  | zero => intro h _; have : n = 0 := by omega
            rw [this]
  | succ m ih =>
    intro h hz
    by_cases e : n = m + 1
    · rw [e]
    · show sh_sm m f + f m = sh_sm n f
      rw [ih (by omega) (fun j h1 h2 => hz j h1 (by omega)), hz m (by omega) (by omega)]; rfl
theorem sh_sm_le {f : Nat → Nat} : ∀ n j, j < n → f j ≤ sh_sm n f := by
  intro n
  induction n with
  | zero => intro j h; omega
  | succ n ih =>
    intro j h
    show f j ≤ sh_sm n f + f n
    by_cases e : j = n
    · rw [e]; omega
    · have := ih j (by omega); omega
theorem sh_sm_mono {f : Nat → Nat} : ∀ n m, n ≤ m → sh_sm n f ≤ sh_sm m f := by
  intro n m
  induction m with
  | zero => intro h; have : n = 0 := by omega
            rw [this]; exact Nat.le_refl _
  | succ m ih =>
    intro h
    by_cases e : n = m + 1
    · rw [e]; exact Nat.le_refl _
    · have := ih (by omega)
      show sh_sm n f ≤ sh_sm m f + f m
      omega
theorem sh_sm_zero {f : Nat → Nat} : ∀ n, (sh_sm n f = 0 ↔ ∀ j, j < n → f j = 0) := by
  intro n
  induction n with
  | zero => exact ⟨fun _ j h => by omega, fun _ => rfl⟩
  | succ n ih =>
    show sh_sm n f + f n = 0 ↔ _
    constructor
    · intro h j hj
      by_cases e : j = n
      · rw [e]; omega
      · exact (ih.mp (by omega)) j (by omega)
    · intro h
      have h1 := ih.mpr (fun j hj => h j (by omega))
      have h2 := h n (by omega)
      omega
theorem sh_sm_3 (f : Nat → Nat) : sh_sm 3 f = f 0 + f 1 + f 2 := by
  show 0 + f 0 + f 1 + f 2 = _
  omega
/-! maxima -/
def sh_mx : Nat → (Nat → Nat) → Nat
  | 0, _ => 0
  | n + 1, f => if sh_mx n f ≤ f n then f n else sh_mx n f
theorem sh_mx_le {f : Nat → Nat} {b : Nat} : ∀ n, (sh_mx n f ≤ b ↔ ∀ j, j < n → f j ≤ b) := by
  intro n
  induction n with
  | zero => exact ⟨fun _ j h => by omega, fun _ => Nat.zero_le _⟩
  | succ n ih =>
    show (if sh_mx n f ≤ f n then f n else sh_mx n f) ≤ b ↔ _
    constructor
    · intro h j hj
      by_cases e : j = n
      · rw [e]; split at h <;> omega
      · exact (ih.mp (by split at h <;> omega)) j (by omega)
    · intro h
      have h1 := ih.mpr (fun j hj => h j (by omega))
      have h2 := h n (by omega)
      split <;> omega
theorem sh_mx_congr {f k : Nat → Nat} : ∀ n, (∀ j, j < n → f j = k j) → sh_mx n f = sh_mx n k := by
  intro n
  induction n with
  | zero => intro _; rfl
  | succ n ih =>
    intro h
    show (if sh_mx n f ≤ f n then f n else sh_mx n f) = (if sh_mx n k ≤ k n then k n else sh_mx n k)
    rw [ih (fun j hj => h j (by omega)), h n (by omega)]
theorem sh_mx_s (f : Nat → Nat) (n : Nat) : sh_mx (n + 1) f = if sh_mx n f ≤ f n then f n else sh_mx n f := rfl
theorem sh_eqle {a b : Nat} (h : ∀ n, a ≤ n ↔ b ≤ n) : a = b := Nat.le_antisymm ((h b).mpr (Nat.le_refl _)) ((h a).mp (Nat.le_refl _))
def sh_max (a b : Nat) : Nat := if a ≤ b then b else a
theorem sh_max_le {a b n : Nat} : sh_max a b ≤ n ↔ a ≤ n ∧ b ≤ n := by
  unfold sh_max; split <;> omega
/-- placed below: a is 0 for nowhere, else the depth and one -/
def sh_pl (a b : Nat) : Nat := if a = 0 then 0 else a - 1 + b
def sh_pq (a b : Nat) : Nat := if b = 0 then 0 else sh_pl a b
theorem sh_pl_le {a b n : Nat} : sh_pl a b ≤ n ↔ (a = 0 ∨ a - 1 + b ≤ n) := by
  unfold sh_pl; split <;> omega
theorem sh_pl_mx {f : Nat → Nat} {z n : Nat} : ∀ m, (sh_pl (sh_mx m f) z ≤ n ↔ ∀ j, j < m → sh_pl (f j) z ≤ n) := by
  intro m
  induction m with
  | zero => exact ⟨fun _ j h => by omega, fun _ => by show sh_pl 0 z ≤ n; unfold sh_pl; rw [if_pos rfl]; omega⟩
  | succ m ih =>
    have key : sh_pl (sh_mx (m + 1) f) z ≤ n ↔ sh_pl (sh_mx m f) z ≤ n ∧ sh_pl (f m) z ≤ n := by
      rw [sh_mx_s, sh_pl_le, sh_pl_le, sh_pl_le]
      split <;> omega
    rw [key, ih]
    constructor
    · rintro ⟨h1, h2⟩ j hj
      by_cases e : j = m
      · rw [e]; exact h2
      · exact h1 j (by omega)
    · intro h
      exact ⟨fun j hj => h j (by omega), h m (by omega)⟩
theorem sh_sm_f1 {f : Nat → Nat} : sh_sm 1 f = f 0 := by show 0 + f 0 = f 0; omega
theorem sh_sm_f2 {f : Nat → Nat} : sh_sm 2 f = f 0 + f 1 := by show 0 + f 0 + f 1 = _; omega
/-! the program: tokens, ends, holes, lengths, numbers; tokens, uses, depth; copies, kinds, places -/
abbrev sh_G : Type := (Nat → Nat) × (Nat → Nat) × (Nat → Nat) × (Nat → Nat) × (Nat → Int32) × (Nat → Nat) × (Nat → Nat) × (Nat → Nat) × (Nat → Nat → Nat) × (Nat → Nat → Nat) × (Nat → Nat → Nat)
def sh_tk (g : sh_G) : Nat → Nat := g.1
def sh_en (g : sh_G) : Nat → Nat := g.2.1
def sh_ho (g : sh_G) : Nat → Nat := g.2.2.1
def sh_ln (g : sh_G) : Nat → Nat := g.2.2.2.1
def sh_nm (g : sh_G) : Nat → Int32 := g.2.2.2.2.1
def sh_T (g : sh_G) : Nat → Nat := g.2.2.2.2.2.1
def sh_R (g : sh_G) : Nat → Nat := g.2.2.2.2.2.2.1
def sh_D (g : sh_G) : Nat → Nat := g.2.2.2.2.2.2.2.1
def sh_C (g : sh_G) : Nat → Nat → Nat := g.2.2.2.2.2.2.2.2.1
def sh_K (g : sh_G) : Nat → Nat → Nat := g.2.2.2.2.2.2.2.2.2.1
def sh_L (g : sh_G) : Nat → Nat → Nat := g.2.2.2.2.2.2.2.2.2.2
def sh_ar (ho : Nat → Nat) (k : Nat) : Nat :=
  if 16 ≤ k then ho (k - 16) else if k < 2 then 0 else if 8 < k then 0 else if k = 6 then 3 else if k = 8 then 1 else 2
def sh_ch (en : Nat → Nat) (i : Nat) : Nat → Nat
  | 0 => i
  | t + 1 => en (sh_ch en i t)
/-- operands of a node, how many -/
def sh_op (g : sh_G) (i j : Nat) : Nat := sh_ch (sh_en g) (i + 1) j
def sh_an (g : sh_G) (i : Nat) : Nat := sh_ar (sh_ho g) (sh_tk g i)
def sh_rt (g : sh_G) (i : Nat) : Nat := 12 * (sh_tk g i - 16)
theorem sh_op_0 (g : sh_G) (i : Nat) : sh_op g i 0 = i + 1 := rfl
theorem sh_op_s (g : sh_G) (i j : Nat) : sh_op g i (j + 1) = sh_en g (sh_op g i j) := rfl
/-- contexts: the USEs that were gone into, the innermost first: the node, the number -/
def sh_zv (g : sh_G) (M : Nat → Nat) : List (Nat × Nat) → Nat → Nat
  | [], _ => 0
  | (i, _) :: r, h => M (sh_op g i h) + sh_sm 3 (fun h' => sh_C g (sh_op g i h) h' * sh_zv g M r h')
def sh_ev (g : sh_G) (M : Nat → Nat) (i : Nat) (r : List (Nat × Nat)) : Nat := M i + sh_sm 3 (fun h => sh_C g i h * sh_zv g M r h)
theorem sh_zv_c (g : sh_G) (M : Nat → Nat) (i u : Nat) (r : List (Nat × Nat)) (h : Nat) : sh_zv g M ((i, u) :: r) h = sh_ev g M (sh_op g i h) r := rfl
theorem sh_zv_n (g : sh_G) (M : Nat → Nat) (h : Nat) : sh_zv g M [] h = 0 := rfl
theorem sh_ev_n (g : sh_G) (M : Nat → Nat) (i : Nat) : sh_ev g M i [] = M i := by
  unfold sh_ev
  rw [sh_sm_3, sh_zv_n, sh_zv_n, sh_zv_n]; omega
def sh_LM (g : sh_G) (bs be : Nat) (M : Nat → Nat) (i : Nat) : Prop :=
  (sh_tk g i < 16 → M i = bs + sh_sm (sh_an g i) (fun j => M (sh_op g i j))) ∧
  (16 ≤ sh_tk g i → M i = be + M (sh_rt g i) + sh_sm (sh_an g i) (fun j => sh_C g (sh_rt g i) j * M (sh_op g i j)))
def sh_LC (g : sh_G) (i : Nat) : Prop := ∀ h, h < 3 →
  (sh_tk g i < 16 → sh_C g i h = (if sh_tk g i = 9 ∧ sh_nm g i = nI h then 1 else 0) + sh_sm (sh_an g i) (fun j => sh_C g (sh_op g i j) h)) ∧
  (16 ≤ sh_tk g i → sh_C g i h = sh_sm (sh_an g i) (fun j => sh_C g (sh_rt g i) j * sh_C g (sh_op g i j) h))
section LIN
variable {g : sh_G} {M : Nat → Nat} {bs be i : Nat}
theorem sh_ev_p (h : sh_LM g bs be M i) (hc : sh_LC g i) (hk : sh_tk g i < 16) (h9 : sh_tk g i ≠ 9) (r : List (Nat × Nat)) :
    sh_ev g M i r = bs + sh_sm (sh_an g i) (fun j => sh_ev g M (sh_op g i j) r) := by
  have e : sh_sm 3 (fun h => sh_C g i h * sh_zv g M r h) = sh_sm (sh_an g i) (fun j => sh_sm 3 (fun h => sh_C g (sh_op g i j) h * sh_zv g M r h)) := by
    rw [sh_sm_swap (fun j h => sh_C g (sh_op g i j) h * sh_zv g M r h) 3]
    refine sh_sm_congr 3 (fun x hx => ?_)
    rw [(hc x hx).1 hk, if_neg (fun z => h9 z.1), Nat.zero_add, sh_sm_mulr]
  show M i + sh_sm 3 (fun h => sh_C g i h * sh_zv g M r h) = _
  rw [e, h.1 hk, Nat.add_assoc, ← sh_sm_add]
  rfl
theorem sh_ev_u (h : sh_LM g bs be M i) (hc : sh_LC g i) (hk : 16 ≤ sh_tk g i) (ha : sh_an g i ≤ 3)
    (hz : ∀ j, sh_an g i ≤ j → j < 3 → sh_C g (sh_rt g i) j = 0) (u : Nat) (r : List (Nat × Nat)) :
    sh_ev g M i r = be + sh_ev g M (sh_rt g i) ((i, u) :: r) := by
  have e : sh_sm 3 (fun h => sh_C g i h * sh_zv g M r h) = sh_sm (sh_an g i) (fun j => sh_C g (sh_rt g i) j * sh_sm 3 (fun h => sh_C g (sh_op g i j) h * sh_zv g M r h)) := by
    have e1 : sh_sm (sh_an g i) (fun j => sh_C g (sh_rt g i) j * sh_sm 3 (fun h => sh_C g (sh_op g i j) h * sh_zv g M r h)) = sh_sm (sh_an g i) (fun j => sh_sm 3 (fun h => sh_C g (sh_rt g i) j * (sh_C g (sh_op g i j) h * sh_zv g M r h))) :=
      sh_sm_congr _ (fun j _ => (sh_sm_mul _ _ 3).symm)
    rw [e1, sh_sm_swap (fun j h => sh_C g (sh_rt g i) j * (sh_C g (sh_op g i j) h * sh_zv g M r h)) 3]
    refine sh_sm_congr 3 (fun x hx => ?_)
    rw [(hc x hx).2 hk, ← sh_sm_mulr]
    exact sh_sm_congr _ (fun j _ => Nat.mul_assoc _ _ _)
  have e2 : sh_ev g M (sh_rt g i) ((i, u) :: r) = M (sh_rt g i) + sh_sm (sh_an g i) (fun j => sh_C g (sh_rt g i) j * sh_ev g M (sh_op g i j) r) := by
    show M (sh_rt g i) + sh_sm 3 (fun h => sh_C g (sh_rt g i) h * sh_ev g M (sh_op g i h) r) = _
    rw [sh_sm_ext (n := sh_an g i) 3 ha (fun j h1 h2 => by rw [hz j h1 h2, Nat.zero_mul])]
  have e3 : sh_sm (sh_an g i) (fun j => sh_C g (sh_rt g i) j * sh_ev g M (sh_op g i j) r) = sh_sm (sh_an g i) (fun j => sh_C g (sh_rt g i) j * M (sh_op g i j)) + sh_sm (sh_an g i) (fun j => sh_C g (sh_rt g i) j * sh_sm 3 (fun h => sh_C g (sh_op g i j) h * sh_zv g M r h)) := by
    rw [← sh_sm_add]
    exact sh_sm_congr _ (fun j _ => Nat.mul_add _ _ _)
  rw [e2, e3, ← e]
  show M i + sh_sm 3 (fun h => sh_C g i h * sh_zv g M r h) = _
  rw [h.2 hk]; omega
theorem sh_pick {f z : Nat → Nat} {v : Nat} (hv : v < 3) (h : ∀ h, h < 3 → f h = if v = h then 1 else 0) : sh_sm 3 (fun h => f h * z h) = z v := by
  rw [sh_sm_3, h 0 (by omega), h 1 (by omega), h 2 (by omega)]
  rcases (by omega : v = 0 ∨ v = 1 ∨ v = 2) with rfl | rfl | rfl
  · simp
  · simp
  · simp
theorem sh_C_h (hc : sh_LC g i) (hk : sh_tk g i = 9) {v : Nat} (hv : v < 3) (hn : sh_nm g i = nI v) : ∀ h, h < 3 → sh_C g i h = if v = h then 1 else 0 := by
  intro x hx
  have ha : sh_an g i = 0 := by unfold sh_an; rw [hk]; rfl
  rw [(hc x hx).1 (by omega), ha, hk, hn]
  by_cases e : v = x
  · rw [if_pos ⟨rfl, by rw [e]⟩, if_pos e]; rfl
  · rw [if_neg (fun z => e ((nI_eq (by omega) (by omega)).mp z.2)), if_neg e]; rfl
theorem sh_ev_h (h : sh_LM g 0 be M i) (hc : sh_LC g i) (hk : sh_tk g i = 9) {v : Nat} (hv : v < 3) (hn : sh_nm g i = nI v) (i' u : Nat) (r : List (Nat × Nat)) :
    sh_ev g M i ((i', u) :: r) = sh_ev g M (sh_op g i' v) r := by
  have ha : sh_an g i = 0 := by unfold sh_an; rw [hk]; rfl
  have e0 : M i = 0 := by rw [h.1 (by omega), ha]; rfl
  show M i + sh_sm 3 (fun h => sh_C g i h * sh_ev g M (sh_op g i' h) r) = _
  rw [e0, sh_pick (z := fun h => sh_ev g M (sh_op g i' h) r) hv (sh_C_h hc hk hv hn), Nat.zero_add]
end LIN
end
section
/-! depth -/
def sh_zd (g : sh_G) : List (Nat × Nat) → Nat → Nat
  | [], _ => 0
  | (i, _) :: r, h => sh_max (sh_D g (sh_op g i h)) (sh_mx 3 (fun h' => sh_pl (sh_L g (sh_op g i h) h') (sh_zd g r h')))
def sh_ed (g : sh_G) (i : Nat) (r : List (Nat × Nat)) : Nat := sh_max (sh_D g i) (sh_mx 3 (fun h => sh_pl (sh_L g i h) (sh_zd g r h)))
theorem sh_zd_c (g : sh_G) (i u : Nat) (r : List (Nat × Nat)) (h : Nat) : sh_zd g ((i, u) :: r) h = sh_ed g (sh_op g i h) r := rfl
def sh_DQ (g : sh_G) (i : Nat) : Prop :=
  (sh_tk g i < 16 → sh_D g i = sh_max (if sh_tk g i = 9 then 0 else 1) (sh_mx (sh_an g i) (fun j => sh_D g (sh_op g i j) + 1))) ∧
  (16 ≤ sh_tk g i → sh_D g i = sh_max (sh_D g (sh_rt g i)) (sh_mx (sh_an g i) (fun j => sh_pl (sh_L g (sh_rt g i) j) (sh_D g (sh_op g i j))))) ∧
  (∀ h, h < 3 → (sh_tk g i < 16 → sh_L g i h = sh_max (if sh_tk g i = 9 ∧ sh_nm g i = nI h then 1 else 0) (sh_mx (sh_an g i) (fun j => if sh_L g (sh_op g i j) h = 0 then 0 else sh_L g (sh_op g i j) h + 1))) ∧
    (16 ≤ sh_tk g i → sh_L g i h = sh_mx (sh_an g i) (fun j => sh_pq (sh_L g (sh_rt g i) j) (sh_L g (sh_op g i j) h))))
/-- what the numbers of depth keep to -/
def sh_DB (g : sh_G) (i : Nat) : Prop := sh_D g i ≤ sh_T g i ∧ ∀ h, h < 3 → (sh_L g i h = 0 ↔ sh_C g i h = 0) ∧ sh_L g i h ≤ sh_T g i + 1
section DEP
variable {g : sh_G} {i : Nat}
theorem sh_ed_le {n : Nat} {r : List (Nat × Nat)} : sh_ed g i r ≤ n ↔ sh_D g i ≤ n ∧ ∀ h, h < 3 → sh_pl (sh_L g i h) (sh_zd g r h) ≤ n := by
  unfold sh_ed
  rw [sh_max_le, sh_mx_le]
theorem sh_ed_p (h : sh_DQ g i) (hk : sh_tk g i < 16) (h9 : sh_tk g i ≠ 9) (r : List (Nat × Nat)) :
    sh_ed g i r = sh_max 1 (sh_mx (sh_an g i) (fun j => sh_ed g (sh_op g i j) r + 1)) := by
  refine sh_eqle (fun n => ?_)
  rw [sh_ed_le, h.1 hk, if_neg h9, sh_max_le, sh_max_le, sh_mx_le, sh_mx_le]
  have key : ∀ x, x < 3 → (sh_pl (sh_L g i x) (sh_zd g r x) ≤ n ↔ ∀ j, j < sh_an g i → (sh_L g (sh_op g i j) x = 0 ∨ sh_L g (sh_op g i j) x + sh_zd g r x ≤ n)) := by
    intro x hx
    have e : sh_L g i x = sh_mx (sh_an g i) (fun j => if sh_L g (sh_op g i j) x = 0 then 0 else sh_L g (sh_op g i j) x + 1) := by
      rw [(h.2.2 x hx).1 hk, if_neg (fun z => h9 z.1)]
      refine sh_eqle (fun m => ?_)
      rw [sh_max_le]; omega
    rw [e, sh_pl_mx]
    refine ⟨fun q j hj => ?_, fun q j hj => ?_⟩
    · have := sh_pl_le.mp (q j hj)
      split at this <;> omega
    · refine sh_pl_le.mpr ?_
      have := q j hj
      split <;> omega
  constructor
  · rintro ⟨⟨h1, h2⟩, h3⟩
    refine ⟨h1, fun j hj => ?_⟩
    have : sh_ed g (sh_op g i j) r ≤ n - 1 := by
      refine sh_ed_le.mpr ⟨by have := h2 j hj; omega, fun x hx => sh_pl_le.mpr ?_⟩
      have := ((key x hx).mp (h3 x hx)) j hj
      omega
    omega
  · rintro ⟨h1, h2⟩
    refine ⟨⟨h1, fun j hj => ?_⟩, fun x hx => (key x hx).mpr (fun j hj => ?_)⟩
    · have q : sh_ed g (sh_op g i j) r ≤ n - 1 := by have := h2 j hj; omega
      have := (sh_ed_le.mp q).1
      omega
    · have q : sh_ed g (sh_op g i j) r ≤ n - 1 := by have := h2 j hj; omega
      have := sh_pl_le.mp ((sh_ed_le.mp q).2 x hx)
      omega
theorem sh_ed_u (h : sh_DQ g i) (hk : 16 ≤ sh_tk g i) (ha : sh_an g i ≤ 3)
    (hz : ∀ j, sh_an g i ≤ j → j < 3 → sh_L g (sh_rt g i) j = 0) (u : Nat) (r : List (Nat × Nat)) :
    sh_ed g i r = sh_ed g (sh_rt g i) ((i, u) :: r) := by
  refine sh_eqle (fun n => ?_)
  rw [sh_ed_le, sh_ed_le, h.2.1 hk, sh_max_le, sh_mx_le]
  have key : ∀ x, x < 3 → (sh_pl (sh_L g i x) (sh_zd g r x) ≤ n ↔ ∀ j, j < sh_an g i → (sh_L g (sh_rt g i) j = 0 ∨ sh_L g (sh_op g i j) x = 0 ∨ sh_L g (sh_rt g i) j - 1 + (sh_L g (sh_op g i j) x - 1 + sh_zd g r x) ≤ n)) := by
    intro x hx
    rw [(h.2.2 x hx).2 hk, sh_pl_mx]
    refine ⟨fun q j hj => ?_, fun q j hj => ?_⟩
    · have := sh_pl_le.mp (q j hj)
      unfold sh_pq sh_pl at this
      split at this
      · omega
      · split at this <;> omega
    · refine sh_pl_le.mpr ?_
      have := q j hj
      unfold sh_pq sh_pl
      split
      · omega
      · split <;> omega
  constructor
  · rintro ⟨⟨h1, h2⟩, h3⟩
    refine ⟨h1, fun j hj => sh_pl_le.mpr ?_⟩
    by_cases e : j < sh_an g i
    · by_cases e0 : sh_L g (sh_rt g i) j = 0
      · exact Or.inl e0
      · refine Or.inr ?_
        rw [sh_zd_c]
        have : sh_ed g (sh_op g i j) r ≤ n - (sh_L g (sh_rt g i) j - 1) := by
          have d := sh_pl_le.mp (h2 j e)
          refine sh_ed_le.mpr ⟨by omega, fun x hx => sh_pl_le.mpr ?_⟩
          have := ((key x hx).mp (h3 x hx)) j e
          omega
        have d := sh_pl_le.mp (h2 j e)
        omega
    · exact Or.inl (hz j (by omega) hj)
  · rintro ⟨h1, h2⟩
    have h2' : ∀ j, j < sh_an g i → sh_L g (sh_rt g i) j = 0 ∨ sh_L g (sh_rt g i) j - 1 + sh_ed g (sh_op g i j) r ≤ n := fun j hj => sh_pl_le.mp (h2 j (by omega))
    refine ⟨⟨h1, fun j hj => sh_pl_le.mpr ?_⟩, fun x hx => (key x hx).mpr (fun j hj => ?_)⟩
    · rcases h2' j hj with q | q
      · exact Or.inl q
      · have q2 := (sh_ed_le.mp (Nat.le_refl (sh_ed g (sh_op g i j) r))).1
        right; omega
    · rcases h2' j hj with q | q
      · exact Or.inl q
      · have q2 := sh_pl_le.mp ((sh_ed_le.mp (Nat.le_refl (sh_ed g (sh_op g i j) r))).2 x hx)
        right; omega
theorem sh_ed_h (h : sh_DQ g i) (hk : sh_tk g i = 9) {v : Nat} (hv : v < 3) (hn : sh_nm g i = nI v) (i' u : Nat) (r : List (Nat × Nat)) :
    sh_ed g i ((i', u) :: r) = sh_ed g (sh_op g i' v) r := by
  have ha : sh_an g i = 0 := by unfold sh_an; rw [hk]; rfl
  have e0 : sh_D g i = 0 := by rw [h.1 (by omega), ha, hk]; rfl
  have e1 : ∀ x, x < 3 → sh_L g i x = if v = x then 1 else 0 := by
    intro x hx
    rw [(h.2.2 x hx).1 (by omega), ha, hk, hn]
    by_cases e : v = x
    · rw [if_pos ⟨rfl, by rw [e]⟩, if_pos e]; rfl
    · rw [if_neg (fun z => e ((nI_eq (by omega) (by omega)).mp z.2)), if_neg e]; rfl
  refine sh_eqle (fun n => ?_)
  rw [sh_ed_le, e0]
  constructor
  · rintro ⟨_, h2⟩
    have := sh_pl_le.mp (h2 v hv)
    rw [e1 v hv, if_pos rfl, sh_zd_c] at this
    omega
  · intro q
    refine ⟨Nat.zero_le _, fun x hx => sh_pl_le.mpr ?_⟩
    rw [e1 x hx]
    by_cases e : v = x
    · rw [if_pos e, ← e, sh_zd_c]; right; omega
    · rw [if_neg e]; exact Or.inl rfl
end DEP
/-! rows -/
def sh_xb (r : Nat) : Nat := if r < 6 then 12 * r else 72 + 24 * (r - 6)
def sh_IR (g : sh_G) (r i : Nat) : Prop := sh_xb r ≤ i ∧ i < sh_xb r + sh_ln g r
def sh_hb (g : sh_G) (r : Nat) : Nat := if r < 6 then sh_ho g r else 0
def sh_ub (cc r : Nat) : Nat := if r < 6 then r else cc
def sh_St (g : sh_G) (cc r i : Nat) : Prop :=
  sh_tk g i < 22 ∧ (sh_tk g i ≤ 10 ∨ 16 ≤ sh_tk g i) ∧ (16 ≤ sh_tk g i → sh_tk g i - 16 < sh_ub cc r) ∧
  (sh_tk g i = 9 → ∃ v, v < sh_hb g r ∧ sh_nm g i = nI v) ∧ (sh_tk g i = 10 → r < 6) ∧
  (sh_tk g i = 1 ∨ sh_tk g i = 7 → (∃ v, v < 10 ∧ sh_nm g i = nI v) ∨ (r < 6 ∧ (sh_nm g i = -1 ∨ sh_nm g i = -2))) ∧
  (2 ≤ sh_tk g i → sh_tk g i ≠ 7 → sh_tk g i ≠ 9 → sh_tk g i < 16 → sh_nm g i = 0) ∧
  (∀ j, j < sh_an g i → i < sh_op g i j ∧ sh_op g i j < sh_xb r + sh_ln g r) ∧
  sh_en g i = sh_op g i (sh_an g i) ∧ i < sh_en g i ∧ sh_en g i ≤ sh_xb r + sh_ln g r
def sh_LQ (g : sh_G) (i : Nat) : Prop :=
  sh_LM g (if sh_tk g i = 9 then 0 else 1) 0 (sh_T g) i ∧ sh_LM g 0 1 (sh_R g) i ∧
  (∀ q, q < 9 → sh_LM g (if sh_tk g i = q ∨ sh_tk g i = 10 ∧ q = 0 then 1 else 0) 0 (fun j => sh_K g j q) i) ∧ sh_LC g i
def sh_Nd (g : sh_G) (cc r i : Nat) : Prop := sh_St g cc r i ∧ sh_LQ g i ∧ sh_DQ g i ∧ sh_DB g i ∧ ∀ h, h < 3 → sh_hb g r ≤ h → sh_C g i h = 0
def sh_Pg (g : sh_G) (cc hi : Nat) : Prop :=
  cc ≤ hi ∧ hi ≤ 6 ∧ (∀ c, c < 6 → sh_ho g c ≤ 3) ∧ (∀ c, c < hi → 1 ≤ sh_ln g c ∧ sh_ln g c ≤ 12) ∧ (∀ s, s < 4 → sh_ln g (6 + s) ≤ 24) ∧
  (∀ r, (r < hi ∨ 6 ≤ r ∧ r < 10) → ∀ i, sh_IR g r i → sh_Nd g cc r i)
/-- a node in its context: in a row that stands, and what it copies is copied -/
def sh_Gd (g : sh_G) (cc hi s : Nat) : Nat → List (Nat × Nat) → Prop
  | i, [] => sh_IR g (6 + s) i
  | i, (i', _) :: r => 16 ≤ sh_tk g i' ∧ sh_tk g i' - 16 < hi ∧ sh_IR g (sh_tk g i' - 16) i ∧ (∀ h, h < 3 → 1 ≤ sh_C g i h → 1 ≤ sh_C g (sh_rt g i') h) ∧ sh_Gd g cc hi s i' r
/-- the row that a node in its context lies in -/
def sh_rw (g : sh_G) (s : Nat) : List (Nat × Nat) → Nat
  | [] => 6 + s
  | (i', _) :: _ => sh_tk g i' - 16
def sh_eT (g : sh_G) (i : Nat) (r : List (Nat × Nat)) : Nat := sh_ev g (sh_T g) i r
def sh_eR (g : sh_G) (i : Nat) (r : List (Nat × Nat)) : Nat := sh_ev g (sh_R g) i r
def sh_eK (g : sh_G) (q i : Nat) (r : List (Nat × Nat)) : Nat := sh_ev g (fun j => sh_K g j q) i r
def sh_ms (g : sh_G) (i : Nat) (r : List (Nat × Nat)) : Nat := sh_eT g i r + 2 * sh_eR g i r + r.length
section PRG
variable {g : sh_G} {cc hi s : Nat}
theorem sh_Gd_r (P : sh_Pg g cc hi) (hs : s < 4) {i : Nat} {r : List (Nat × Nat)} (h : sh_Gd g cc hi s i r) :
    (sh_rw g s r < hi ∨ 6 ≤ sh_rw g s r ∧ sh_rw g s r < 10) ∧ sh_IR g (sh_rw g s r) i := by
  cases r with
  | nil => exact ⟨Or.inr ⟨Nat.le_add_right 6 s, by show 6 + s < 10; omega⟩, h⟩
  | cons a r => exact ⟨Or.inl h.2.1, h.2.2.1⟩
theorem sh_Gd_n (P : sh_Pg g cc hi) (hs : s < 4) {i : Nat} {r : List (Nat × Nat)} (h : sh_Gd g cc hi s i r) : sh_Nd g cc (sh_rw g s r) i :=
  P.2.2.2.2.2 _ (sh_Gd_r P hs h).1 i (sh_Gd_r P hs h).2
theorem sh_an3 (P : sh_Pg g cc hi) {i : Nat} (h : sh_tk g i < 22) : sh_an g i ≤ 3 := by
  unfold sh_an sh_ar
  split
  · exact P.2.2.1 _ (by omega)
  · repeat (first | omega | split)
theorem sh_an_u {i : Nat} (h : 16 ≤ sh_tk g i) : sh_an g i = sh_ho g (sh_tk g i - 16) := by
  unfold sh_an sh_ar
  rw [if_pos h]
theorem sh_rt_IR (P : sh_Pg g cc hi) {c : Nat} (h : c < hi) : sh_IR g c (12 * c) := by
  have h6 := P.2.1
  have := P.2.2.2.1 c h
  unfold sh_IR sh_xb
  rw [if_pos (by omega)]; omega
theorem sh_Gd_ub (P : sh_Pg g cc hi) (hs : s < 4) {i : Nat} {r : List (Nat × Nat)} (h : sh_Gd g cc hi s i r) (hk : 16 ≤ sh_tk g i) : sh_tk g i - 16 < hi := by
  have q := (sh_Gd_n P hs h).1.2.2.1 hk
  have hc := P.1
  unfold sh_ub at q
  rcases (sh_Gd_r P hs h).1 with z | z
  · split at q <;> omega
  · rw [if_neg (by omega)] at q; omega
theorem sh_Cz (P : sh_Pg g cc hi) {c : Nat} (h : c < hi) : ∀ j, sh_ho g c ≤ j → j < 3 → sh_C g (12 * c) j = 0 := by
  intro j h1 h2
  have h6 := P.2.1
  have q := (P.2.2.2.2.2 c (Or.inl h) _ (sh_rt_IR P h)).2.2.2.2 j h2
  unfold sh_hb at q
  rw [if_pos (by omega)] at q
  exact q h1
theorem sh_Lz (P : sh_Pg g cc hi) {c : Nat} (h : c < hi) : ∀ j, sh_ho g c ≤ j → j < 3 → sh_L g (12 * c) j = 0 := by
  intro j h1 h2
  exact (((P.2.2.2.2.2 c (Or.inl h) _ (sh_rt_IR P h)).2.2.2.1.2 j h2).1).mpr (sh_Cz P h j h1 h2)
/-- into a USE -/
theorem sh_gu (P : sh_Pg g cc hi) (hs : s < 4) {i : Nat} {r : List (Nat × Nat)} (h : sh_Gd g cc hi s i r) (hk : 16 ≤ sh_tk g i) (u : Nat) :
    sh_Gd g cc hi s (sh_rt g i) ((i, u) :: r) ∧ sh_eT g i r = sh_eT g (sh_rt g i) ((i, u) :: r) ∧ sh_eR g i r = 1 + sh_eR g (sh_rt g i) ((i, u) :: r) ∧
    (∀ q, q < 9 → sh_eK g q i r = sh_eK g q (sh_rt g i) ((i, u) :: r)) ∧ sh_ed g i r = sh_ed g (sh_rt g i) ((i, u) :: r) := by
  have N := sh_Gd_n P hs h
  have hu := sh_Gd_ub P hs h hk
  have ha := sh_an3 P N.1.1
  have hz : ∀ j, sh_an g i ≤ j → j < 3 → sh_C g (sh_rt g i) j = 0 := by rw [sh_an_u hk]; exact sh_Cz P hu
  have hl : ∀ j, sh_an g i ≤ j → j < 3 → sh_L g (sh_rt g i) j = 0 := by rw [sh_an_u hk]; exact sh_Lz P hu
  refine ⟨⟨hk, hu, sh_rt_IR P hu, fun _ _ z => z, h⟩, ?_, ?_, ?_, ?_⟩
  · have := sh_ev_u N.2.1.1 N.2.1.2.2.2 hk ha hz u r
    rw [Nat.zero_add] at this; exact this
  · exact sh_ev_u N.2.1.2.1 N.2.1.2.2.2 hk ha hz u r
  · intro q hq
    have := sh_ev_u (N.2.1.2.2.1 q hq) N.2.1.2.2.2 hk ha hz u r
    rw [Nat.zero_add] at this; exact this
  · exact sh_ed_u N.2.2.1 hk ha hl u r
/-- from a HOLE to the operand -/
theorem sh_gh (P : sh_Pg g cc hi) (hs : s < 4) {i : Nat} {r : List (Nat × Nat)} (h : sh_Gd g cc hi s i r) (hk : sh_tk g i = 9) :
    ∃ i' u' r' v, r = (i', u') :: r' ∧ v < 3 ∧ v < sh_an g i' ∧ sh_nm g i = nI v ∧ 16 ≤ sh_tk g i' ∧ 1 ≤ sh_C g (sh_rt g i') v ∧ sh_Gd g cc hi s i' r' ∧
      sh_Gd g cc hi s (sh_op g i' v) r' ∧ sh_eT g i r = sh_eT g (sh_op g i' v) r' ∧ sh_eR g i r = sh_eR g (sh_op g i' v) r' ∧
      (∀ q, q < 9 → sh_eK g q i r = sh_eK g q (sh_op g i' v) r') ∧ sh_ed g i r = sh_ed g (sh_op g i' v) r' := by
  have N := sh_Gd_n P hs h
  obtain ⟨v, hv, hn⟩ := N.1.2.2.2.1 hk
  cases r with
  | nil =>
    exfalso
    unfold sh_hb at hv
    rw [if_neg (by show ¬ 6 + s < 6; omega)] at hv
    omega
  | cons a r =>
    obtain ⟨i', u'⟩ := a
    obtain ⟨h1, h2, h3, h4, h5⟩ := h
    have h6 := P.2.1
    have hv' : v < sh_an g i' := by
      rw [sh_an_u h1]
      unfold sh_hb at hv
      have e : sh_rw g s ((i', u') :: r) = sh_tk g i' - 16 := rfl
      rw [e, if_pos (by omega)] at hv
      exact hv
    have N' := sh_Gd_n P hs h5
    have hv3 : v < 3 := by have := sh_an3 P N'.1.1; omega
    have hC := sh_C_h N.2.1.2.2.2 hk hv3 hn
    have c1 : 1 ≤ sh_C g (sh_rt g i') v := h4 v hv3 (by rw [hC v hv3, if_pos rfl]; omega)
    have hop := N'.1.2.2.2.2.2.2.2.1 v hv'
    have ir' := (sh_Gd_r P hs h5)
    have cc' : ∀ h, h < 3 → 1 ≤ sh_C g (sh_op g i' v) h → 1 ≤ sh_C g i' h := by
      intro x hx q
      rw [(N'.2.1.2.2.2 x hx).2 h1]
      have := sh_sm_le (f := fun j => sh_C g (sh_rt g i') j * sh_C g (sh_op g i' j) x) (sh_an g i') v hv'
      have q2 : 1 * 1 ≤ sh_C g (sh_rt g i') v * sh_C g (sh_op g i' v) x := Nat.mul_le_mul c1 q
      omega
    have G' : sh_Gd g cc hi s (sh_op g i' v) r := by
      cases r with
      | nil => exact ⟨Nat.le_trans h5.1 (by omega), hop.2⟩
      | cons b r => exact ⟨h5.1, h5.2.1, ⟨Nat.le_trans h5.2.2.1.1 (by omega), hop.2⟩, fun x hx q => h5.2.2.2.1 x hx (cc' x hx q), h5.2.2.2.2⟩
    have bs0 := N.2.1.1
    rw [if_pos hk] at bs0
    refine ⟨i', u', r, v, rfl, hv3, hv', hn, h1, c1, h5, G', ?_, ?_, ?_, ?_⟩
    · exact sh_ev_h bs0 N.2.1.2.2.2 hk hv3 hn i' u' r
    · exact sh_ev_h N.2.1.2.1 N.2.1.2.2.2 hk hv3 hn i' u' r
    · intro q hq
      have b := N.2.1.2.2.1 q hq
      rw [if_neg (by omega)] at b
      exact sh_ev_h b N.2.1.2.2.2 hk hv3 hn i' u' r
    · exact sh_ed_h N.2.2.1 hk hv3 hn i' u' r
/-- a plain token -/
theorem sh_gp (P : sh_Pg g cc hi) (hs : s < 4) {i : Nat} {r : List (Nat × Nat)} (h : sh_Gd g cc hi s i r) (hk : sh_tk g i < 16) (h9 : sh_tk g i ≠ 9) :
    (∀ j, j < sh_an g i → sh_Gd g cc hi s (sh_op g i j) r) ∧ sh_eT g i r = 1 + sh_sm (sh_an g i) (fun j => sh_eT g (sh_op g i j) r) ∧
    sh_eR g i r = sh_sm (sh_an g i) (fun j => sh_eR g (sh_op g i j) r) ∧
    (∀ q, q < 9 → sh_eK g q i r = (if sh_tk g i = q ∨ sh_tk g i = 10 ∧ q = 0 then 1 else 0) + sh_sm (sh_an g i) (fun j => sh_eK g q (sh_op g i j) r)) ∧
    sh_ed g i r = sh_max 1 (sh_mx (sh_an g i) (fun j => sh_ed g (sh_op g i j) r + 1)) := by
  have N := sh_Gd_n P hs h
  refine ⟨fun j hj => ?_, ?_, ?_, ?_, sh_ed_p N.2.2.1 hk h9 r⟩
  · have hop := N.1.2.2.2.2.2.2.2.1 j hj
    cases r with
    | nil => exact ⟨Nat.le_trans h.1 (by omega), hop.2⟩
    | cons b r =>
      refine ⟨h.1, h.2.1, ⟨Nat.le_trans h.2.2.1.1 (by omega), hop.2⟩, fun x hx q => h.2.2.2.1 x hx ?_, h.2.2.2.2⟩
      rw [(N.2.1.2.2.2 x hx).1 hk]
      have := sh_sm_le (f := fun j => sh_C g (sh_op g i j) x) (sh_an g i) j hj
      omega
  · have b := N.2.1.1
    rw [if_neg h9] at b
    exact sh_ev_p b N.2.1.2.2.2 hk h9 r
  · have b := sh_ev_p N.2.1.2.1 N.2.1.2.2.2 hk h9 r
    rw [Nat.zero_add] at b; exact b
  · intro q hq
    exact sh_ev_p (N.2.1.2.2.1 q hq) N.2.1.2.2.2 hk h9 r
/-- the measure -/
theorem sh_ms_u (P : sh_Pg g cc hi) (hs : s < 4) {i : Nat} {r : List (Nat × Nat)} (h : sh_Gd g cc hi s i r) (hk : 16 ≤ sh_tk g i) (u : Nat) :
    sh_ms g (sh_rt g i) ((i, u) :: r) < sh_ms g i r := by
  have q := sh_gu P hs h hk u
  unfold sh_ms
  rw [List.length_cons]
  omega
theorem sh_ms_p (P : sh_Pg g cc hi) (hs : s < 4) {i : Nat} {r : List (Nat × Nat)} (h : sh_Gd g cc hi s i r) (hk : sh_tk g i < 16) (h9 : sh_tk g i ≠ 9) {j : Nat} (hj : j < sh_an g i) :
    sh_eT g (sh_op g i j) r < sh_eT g i r ∧ sh_eR g (sh_op g i j) r ≤ sh_eR g i r ∧ sh_ms g (sh_op g i j) r < sh_ms g i r := by
  have q := sh_gp P hs h hk h9
  have a := sh_sm_le (f := fun j => sh_eT g (sh_op g i j) r) (sh_an g i) j hj
  have b := sh_sm_le (f := fun j => sh_eR g (sh_op g i j) r) (sh_an g i) j hj
  unfold sh_ms
  omega
theorem sh_pos (P : sh_Pg g cc hi) (hs : s < 4) : ∀ n i (r : List (Nat × Nat)), sh_ms g i r < n → sh_Gd g cc hi s i r → 1 ≤ sh_eT g i r := by
  intro n
  induction n with
  | zero => intro i r h; omega
  | succ n ih =>
    intro i r h G
    have N := sh_Gd_n P hs G
    by_cases hk : 16 ≤ sh_tk g i
    · have q := sh_gu P hs G hk 0
      have m := sh_ms_u P hs G hk 0
      rw [q.2.1]
      exact ih _ _ (by omega) q.1
    · by_cases h9 : sh_tk g i = 9
      · obtain ⟨i', u', r', v, rfl, hv3, hv', hn, h1, c1, h5, G', eT, eR, _, _⟩ := sh_gh P hs G h9
        rw [eT]
        refine ih _ _ ?_ G'
        unfold sh_ms at h ⊢
        rw [List.length_cons] at h
        omega
      · have q := sh_gp P hs G (by omega) h9
        omega
end PRG
end
section
/-! what a token of an expansion holds -/
def sh_kd (g : sh_G) (i : Nat) : Nat := if sh_tk g i = 10 then 0 else sh_tk g i
def sh_vl (g : sh_G) (i : Nat) : List (Nat × Nat) → Int32
  | [] => sh_nm g i
  | (i', u) :: _ => if sh_tk g i = 10 then sh_nm g i' else if sh_nm g i < 0 ∧ (sh_tk g i = 1 ∨ sh_tk g i = 7) then (99 + 2 * nI u) - sh_nm g i else sh_nm g i
def sh_og (s : Nat) : Nat → List (Nat × Nat) → Nat
  | i, [] => i - (72 + 24 * s)
  | _, (i', _) :: r => sh_og s i' r
def sh_ya (i : Nat) : Nat := if i < 72 then 24 * (i / 12) + i % 12 else i + 72
abbrev sh_I : Type := Nat × List (Nat × Nat) × Nat × Nat × Nat
/-- what follows from an item: F is what holds of a plain one -/
def sh_Sc (g : sh_G) (S F : Nat → List (Nat × Nat) → Nat → Nat → Nat → Prop) (i : Nat) (r : List (Nat × Nat)) (p u a : Nat) : Prop :=
  (16 ≤ sh_tk g i → S (sh_rt g i) ((i, u) :: r) p (u + 1) a) ∧
  (sh_tk g i = 9 → ∀ i' u' r' v, r = (i', u') :: r' → sh_nm g i = nI v → v < 3 → S (sh_op g i' v) r' p u a) ∧
  (sh_tk g i < 16 → sh_tk g i ≠ 9 → F i r p u a ∧ ∀ j, j < sh_an g i → S (sh_op g i j) r (p + 1 + sh_sm j (fun k => sh_eT g (sh_op g i k) r)) (u + sh_sm j (fun k => sh_eR g (sh_op g i k) r)) (p + 1))
/-- an item in its place -/
def sh_Ok (g : sh_G) (cc hi s N U i : Nat) (r : List (Nat × Nat)) (p u a : Nat) : Prop :=
  sh_Gd g cc hi s i r ∧ p + sh_eT g i r ≤ N ∧ u + sh_eR g i r ≤ U ∧ (a = 0 ∧ p = 0 ∨ 1 ≤ a ∧ a ≤ p)
def sh_Cl (g : sh_G) (cc hi s N U : Nat) (F S : Nat → List (Nat × Nat) → Nat → Nat → Nat → Prop) : Prop :=
  ∀ i r p u a, S i r p u a → sh_Ok g cc hi s N U i r p u a ∧ sh_Sc g S F i r p u a
section SET
variable {g : sh_G} {cc hi s N U : Nat} {F S : Nat → List (Nat × Nat) → Nat → Nat → Nat → Prop}
theorem sh_ind (P : sh_Pg g cc hi) (hs : s < 4) (H : sh_Cl g cc hi s N U F S) (Q : Nat → List (Nat × Nat) → Nat → Nat → Nat → Prop)
    (hU : ∀ i r p u a, S i r p u a → 16 ≤ sh_tk g i → Q (sh_rt g i) ((i, u) :: r) p (u + 1) a → Q i r p u a)
    (hH : ∀ i i' u' r' v p u a, S i ((i', u') :: r') p u a → sh_tk g i = 9 → sh_nm g i = nI v → v < 3 → v < sh_an g i' → sh_Gd g cc hi s i' r' → 16 ≤ sh_tk g i' → 1 ≤ sh_C g (sh_rt g i') v → S (sh_op g i' v) r' p u a → Q (sh_op g i' v) r' p u a → Q i ((i', u') :: r') p u a)
    (hP : ∀ i r p u a, S i r p u a → sh_tk g i < 16 → sh_tk g i ≠ 9 → (∀ j, j < sh_an g i → Q (sh_op g i j) r (p + 1 + sh_sm j (fun k => sh_eT g (sh_op g i k) r)) (u + sh_sm j (fun k => sh_eR g (sh_op g i k) r)) (p + 1)) → Q i r p u a) :
    ∀ i r p u a, S i r p u a → Q i r p u a := by
  have main : ∀ n i r p u a, sh_ms g i r < n → S i r p u a → Q i r p u a := by
    intro n
    induction n with
    | zero => intro i r p u a h; omega
    | succ n ih =>
      intro i r p u a h hS
      obtain ⟨⟨G, _, _, _⟩, q1, q2, q3⟩ := H i r p u a hS
      by_cases hk : 16 ≤ sh_tk g i
      · have m := sh_ms_u P hs G hk u
        exact hU i r p u a hS hk (ih _ _ _ _ _ (by omega) (q1 hk))
      · by_cases h9 : sh_tk g i = 9
        · obtain ⟨i', u', r', v, rfl, hv3, hv', hn, h1, c1, h5, G', eT, eR, _, _⟩ := sh_gh P hs G h9
          have hS' := q2 h9 i' u' r' v rfl hn hv3
          refine hH i i' u' r' v p u a hS h9 hn hv3 hv' h5 h1 c1 hS' (ih _ _ _ _ _ ?_ hS')
          unfold sh_ms at h ⊢
          rw [List.length_cons] at h
          omega
        · refine hP i r p u a hS (by omega) h9 (fun j hj => ?_)
          have m := sh_ms_p P hs G (by omega) h9 hj
          exact ih _ _ _ _ _ (by omega) ((q3 (by omega) h9).2 j hj)
  intro i r p u a hS
  exact main (sh_ms g i r + 1) i r p u a (by omega) hS
/-- an item settles: a plain one with the same token -/
theorem sh_settles (P : sh_Pg g cc hi) (hs : s < 4) (H : sh_Cl g cc hi s N U F S) : ∀ i r p u a, S i r p u a →
    ∃ i' r' u', S i' r' p u' a ∧ sh_tk g i' < 16 ∧ sh_tk g i' ≠ 9 ∧ sh_eT g i r = sh_eT g i' r' ∧ u ≤ u' := by
  refine sh_ind P hs H (fun i r p u a => ∃ i' r' u', S i' r' p u' a ∧ sh_tk g i' < 16 ∧ sh_tk g i' ≠ 9 ∧ sh_eT g i r = sh_eT g i' r' ∧ u ≤ u') ?_ ?_ ?_
  · rintro i r p u a hS hk ⟨i', r', u', h1, h2, h3, h4, h5⟩
    have q := sh_gu P hs (H i r p u a hS).1.1 hk u
    exact ⟨i', r', u', h1, h2, h3, by rw [q.2.1]; exact h4, by omega⟩
  · rintro i i' u' r' v p u a hS hk hn hv hv' G5 h16 c1 hS' ⟨i2, r2, u2, h1, h2, h3, h4, h5⟩
    obtain ⟨i3, u3, r3, v3, e, hv3, hv3', hn3, h13, c13, h53, G', eT, eR, _, _⟩ := sh_gh P hs (H i _ p u a hS).1.1 hk
    cases e
    have : v = v3 := (nI_eq (by omega) (by omega)).mp (hn.symm.trans hn3)
    subst this
    exact ⟨i2, r2, u2, h1, h2, h3, eT.trans h4, h5⟩
  · intro i r p u a hS hk h9 _
    exact ⟨i, r, u, hS, hk, h9, rfl, Nat.le_refl _⟩
end SET
end
section
/-! numbers that both sides need -/
def sh_sat (n : Nat) : Nat := if n ≤ 2001 then n else 2001
theorem sh_sat_le (n : Nat) : sh_sat n ≤ 2001 := by unfold sh_sat; split <;> omega
theorem sh_sat_id {n : Nat} (h : n ≤ 2001) : sh_sat n = n := if_pos h
theorem sh_sat_big {n : Nat} (h : 2001 ≤ n) : sh_sat n = 2001 := by unfold sh_sat; split <;> omega
theorem sh_sat_gt (n : Nat) : 2000 < sh_sat n ↔ 2000 < n := by unfold sh_sat; split <;> omega
theorem sh_sat_ad (a m : Nat) : sh_sat (sh_sat a + m) = sh_sat (a + m) := by unfold sh_sat; repeat (first | omega | split)
theorem sh_sat_am (a t b : Nat) : sh_sat (sh_sat a + sh_sat t * sh_sat b) = sh_sat (a + t * b) := by
  rw [sh_sat_ad]
  by_cases hb : b = 0
  · subst hb; rw [show sh_sat 0 = 0 from rfl, Nat.mul_zero, Nat.mul_zero]
  by_cases ht : t = 0
  · subst ht; rw [show sh_sat 0 = 0 from rfl, Nat.zero_mul, Nat.zero_mul]
  by_cases h2 : t ≤ 2001 ∧ b ≤ 2001
  · rw [sh_sat_id h2.1, sh_sat_id h2.2]
  · have q1 : 1 ≤ sh_sat t := by unfold sh_sat; split <;> omega
    have q2 : 1 ≤ sh_sat b := by unfold sh_sat; split <;> omega
    have p1 : sh_sat t * 1 ≤ sh_sat t * sh_sat b := Nat.mul_le_mul (Nat.le_refl _) q2
    have p2 : 1 * sh_sat b ≤ sh_sat t * sh_sat b := Nat.mul_le_mul q1 (Nat.le_refl _)
    have p3 : t * 1 ≤ t * b := Nat.mul_le_mul (Nat.le_refl _) (by omega)
    have p4 : 1 * b ≤ t * b := Nat.mul_le_mul (by omega) (Nat.le_refl _)
    have p5 : 2001 ≤ sh_sat t ∨ 2001 ≤ sh_sat b := by
      by_cases e : t ≤ 2001
      · right; unfold sh_sat; split <;> omega
      · left; unfold sh_sat; split <;> omega
    rw [sh_sat_big (n := a + sh_sat t * sh_sat b) (by omega), sh_sat_big (n := a + t * b) (by omega)]
theorem sh_n16 {n : Nat} (h : n < 32768) : vp_nar .short (nI n).toInt16.toInt32 = nI n := by
  have e : (nI n).toInt16.toInt32 = nI n := lg_i2s_small (by rw [nI_toInt (by omega)]; omega) (by rw [nI_toInt (by omega)]; omega)
  rw [vp_nar_short, e, e]
theorem sh_n16' {n : Nat} (h : n < 32768) : vp_nar .short (nI n) = nI n := by
  rw [vp_nar_short]
  exact lg_i2s_small (by rw [nI_toInt (by omega)]; omega) (by rw [nI_toInt (by omega)]; omega)
theorem sh_n8 {n : Nat} (h : n < 128) : vp_nar .byte (nI n).toInt8.toInt32 = nI n := by
  have e : (nI n).toInt8.toInt32 = nI n := lg_i2b_small (by rw [nI_toInt (by omega)]; omega) (by rw [nI_toInt (by omega)]; omega)
  rw [vp_nar_byte, e, e]
theorem sh_n8' {n : Nat} (h : n < 128) : vp_nar .byte (nI n) = nI n := by
  rw [vp_nar_byte]
  exact lg_i2b_small (by rw [nI_toInt (by omega)]; omega) (by rw [nI_toInt (by omega)]; omega)
theorem sh_n16m : vp_nar .short (-1 : Int32).toInt16.toInt32 = -1 := by rw [vp_nar_short]; decide
theorem sh_n16m' : vp_nar .short (-1 : Int32) = -1 := by rw [vp_nar_short]; decide
theorem sh_b255 {n : Nat} (h : n < 256) : (vp_nar .byte (nI n).toInt8.toInt32) &&& 255 = nI n := by
  rw [pk_vb]
  exact (sb_byte n h).1
/-! blocks of an array -/
def sh_blk (c : Nat → Int32) (b n : Nat) (f : Nat → Int32) : Nat → Int32 := fun j => if b ≤ j ∧ j < b + n then f (j - b) else c j
theorem sh_blk_0 (c : Nat → Int32) (b : Nat) (f : Nat → Int32) : sh_blk c b 0 f = c := by
  funext j
  exact if_neg (by omega)
theorem sh_blk_s (c : Nat → Int32) (b n : Nat) (f : Nat → Int32) : upd (sh_blk c b n f) (b + n) (f n) = sh_blk c b (n + 1) f := by
  funext j
  unfold upd sh_blk
  by_cases e : j = b + n
  · rw [if_pos e, if_pos (by omega), e, Nat.add_sub_cancel_left]
  · rw [if_neg e]
    by_cases e2 : b ≤ j ∧ j < b + n
    · rw [if_pos e2, if_pos (by omega)]
    · rw [if_neg e2, if_neg (by omega)]
theorem sh_blk_i {c : Nat → Int32} {b n k : Nat} {f : Nat → Int32} (h : k < n) : sh_blk c b n f (b + k) = f k := by
  unfold sh_blk
  rw [if_pos (by omega), Nat.add_sub_cancel_left]
theorem sh_blk_o {c : Nat → Int32} {b n j : Nat} {f : Nat → Int32} (h : j < b ∨ b + n ≤ j) : sh_blk c b n f j = c j := if_neg (by omega)
theorem sh_blk_c {c : Nat → Int32} {b n : Nat} {f k : Nat → Int32} (h : ∀ j, j < n → f j = k j) : sh_blk c b n f = sh_blk c b n k := by
  funext j
  unfold sh_blk
  by_cases e : b ≤ j ∧ j < b + n
  · rw [if_pos e, if_pos e]; exact h _ (by omega)
  · rw [if_neg e, if_neg e]
theorem sh_blk_b (c : Nat → Int32) (b n : Nat) (f k : Nat → Int32) : sh_blk (sh_blk c b n f) b n k = sh_blk c b n k := by
  funext j
  unfold sh_blk
  by_cases e : b ≤ j ∧ j < b + n
  · rw [if_pos e, if_pos e]
  · rw [if_neg e, if_neg e, if_neg e]
theorem sh_upd_u (c : Nat → Int32) (k : Nat) (x y : Int32) : upd (upd c k x) k y = upd c k y := by
  funext j
  unfold upd
  by_cases e : j = k
  · rw [if_pos e, if_pos e]
  · rw [if_neg e, if_neg e, if_neg e]
theorem sh_upd_id (c : Nat → Int32) (k : Nat) : upd c k (c k) = c := by
  funext j
  unfold upd
  by_cases e : j = k
  · rw [if_pos e, e]
  · rw [if_neg e]
theorem sh_ix {w i h : Nat} : nI w * nI i + nI h = nI (w * i + h) := by rw [pk_mul, nI_add]
theorem sh_cl {n : Nat} (h : n < 2 ^ 31) {x : Int32} (e : x = nI n) : x.toNatClampNeg = n := by rw [e]; exact nI_clamp h
theorem sh_ar_0 {ho : Nat → Nat} {k : Nat} (h : k < 2) : sh_ar ho k = 0 := by unfold sh_ar; rw [if_neg (by omega), if_pos h]
theorem sh_ar_9 {ho : Nat → Nat} {k : Nat} (h : 8 < k) (h2 : k < 16) : sh_ar ho k = 0 := by unfold sh_ar; rw [if_neg (by omega), if_neg (by omega), if_pos h]
theorem sh_ar_6 {ho : Nat → Nat} {k : Nat} (h : k = 6) : sh_ar ho k = 3 := by subst h; rfl
theorem sh_ar_8 {ho : Nat → Nat} {k : Nat} (h : k = 8) : sh_ar ho k = 1 := by subst h; rfl
theorem sh_ar_2 {ho : Nat → Nat} {k : Nat} (h : 2 ≤ k) (h2 : k ≤ 8) (h6 : k ≠ 6) (h8 : k ≠ 8) : sh_ar ho k = 2 := by
  unfold sh_ar; rw [if_neg (by omega), if_neg (by omega), if_neg (by omega), if_neg h6, if_neg h8]
theorem sh_ar_u {ho : Nat → Nat} {k : Nat} (h : 16 ≤ k) : sh_ar ho k = ho (k - 16) := by unfold sh_ar; rw [if_pos h]
/-! X: the small methods -/
section XB
variable {xf_concepts xf_drafted xf_place xf_frames xf_node xf_frame xf_above xf_depth xf_top xf_lets xf_says xf_result : Int32} {xa_tok xa_end xa_num xa_length xa_holes xa_draft xa_draftNum xa_copies xa_tokens xa_replaced xa_deep xa_lies xa_ofKind xa_caller xa_number xa_size0 xa_size1 xa_size2 xa_uses0 xa_uses1 xa_uses2 xa_useAt xa_begun xa_workNode xa_stage xa_workFrame xa_values xa_bound xa_boundTo xa_output xa_given : Nat → Int32}
theorem xs_among {post : Int32 → Prop} {v w : Int32} (n : Nat) (hn : n < 2 ^ 31) (hw : w = nI n) (h0 : v < 0 ∨ nI n ≤ v → post 0) (h1 : ∀ j, j < n → v = nI j → post 1) : wpX_among post v w := by
  subst hw
  rcases pk_ix v hn with h | h | ⟨j, hj, rfl⟩
  · exact br_t h (h0 (Or.inl h))
  · by_cases z : v < 0
    · exact br_t z (h0 (Or.inl z))
    · exact br_f z (br_t h (h0 (Or.inr h)))
  · exact br_f (nI_pos (by omega)) (br_f (nI_ge hj hn) (h1 j hj rfl))
def xs_lst (x : Int32) : Int32 := if x ≤ 2001 then x else 2001
theorem xs_least {post : Int32 → Prop} {x : Int32} (h : post (xs_lst x)) : wpX_least post x := by
  unfold xs_lst at h
  by_cases e : x ≤ 2001
  · rw [if_pos e] at h; exact br_t e h
  · rw [if_neg e] at h; exact br_f e h
theorem xs_lst_nI {a : Nat} (h : a < 2 ^ 31) : xs_lst (nI a) = nI (sh_sat a) := by
  unfold xs_lst sh_sat
  by_cases e : a ≤ 2001
  · have q : nI a ≤ (2001 : Int32) := (nI_le e (by omega) : nI a ≤ nI 2001)
    rw [if_pos e, if_pos q]
  · have q : ¬ nI a ≤ (2001 : Int32) := (nI_ge (by omega) h : ¬ nI a ≤ nI 2001)
    rw [if_neg e, if_neg q]; rfl
/-- the sum that add stores -/
theorem xs_lst_am {a t b : Nat} {x y z : Int32} (hx : x = nI (sh_sat a)) (hy : y = nI (sh_sat t)) (hz : z = nI (sh_sat b)) :
    vp_nar .short (xs_lst (x + y * z)).toInt16.toInt32 = nI (sh_sat (a + t * b)) := by
  subst hx hy hz
  have h1 := sh_sat_le a
  have h2 := sh_sat_le t
  have h3 := sh_sat_le b
  have h4 : sh_sat t * sh_sat b ≤ 2001 * 2001 := Nat.mul_le_mul h2 h3
  rw [pk_mul, nI_add, xs_lst_nI (by omega), sh_sat_am]
  exact sh_n16 (by have := sh_sat_le (a + t * b); omega)
theorem xs_operands {post : Int32 → Prop} {ho : Nat → Nat} {k : Nat} (hk : k < 22) (hh : 16 ≤ k → xa_holes (k - 16) = nI (ho (k - 16))) (K : post (nI (sh_ar ho k))) :
    wpX_operands post (xf_concepts, xf_drafted, xf_place, xf_frames, xf_node, xf_frame, xf_above, xf_depth, xf_top, xf_lets, xf_says, xf_result, xa_tok, xa_end, xa_num, xa_length, xa_holes, xa_draft, xa_draftNum, xa_copies, xa_tokens, xa_replaced, xa_deep, xa_lies, xa_ofKind, xa_caller, xa_number, xa_size0, xa_size1, xa_size2, xa_uses0, xa_uses1, xa_uses2, xa_useAt, xa_begun, xa_workNode, xa_stage, xa_workFrame, xa_values, xa_bound, xa_boundTo, xa_output, xa_given) (nI k) := by
  refine pk_lt k 16 (fun h => pk_lt k 2 (fun h2 => ?_) (fun h2 => pk_le k 8 (fun h8 => pk_eq k 6 (fun h6 => ?_) (fun h6 => pk_eq k 8 (fun e8 => ?_) (fun e8 => ?_))) (fun h8 => ?_))) (fun h => ?_)
  · rw [sh_ar_0 h2] at K; exact K
  · rw [sh_ar_6 h6] at K; exact K
  · rw [sh_ar_8 e8] at K; exact K
  · rw [sh_ar_2 h2 h8 h6 e8] at K; exact K
  · rw [sh_ar_9 h8 h] at K; exact K
  · have e : nI k - 16 = nI (k - 16) := pk_sub (b := 16) h
    rw [sh_ar_u h, ← hh h] at K
    rw [e, nI_clamp (by omega)]
    exact ⟨vp_in_nI (by omega) (by omega), K⟩
theorem xs_operand_7 {post : Int32 → Prop} {g : sh_G} {i j : Nat} (hj : j ≤ 3) (H : ∀ t, t < j → sh_op g i t < 168 ∧ xa_end (sh_op g i t) &&& 255 = nI (sh_op g i (t + 1))) (K : post (nI (sh_op g i j))) :
    ∀ d t, t + d = j → wX_operand_7 post (nI j) xf_concepts xf_drafted xf_place xf_frames xf_node xf_frame xf_above xf_depth xf_top xf_lets xf_says xf_result xa_tok xa_end xa_num xa_length xa_holes xa_draft xa_draftNum xa_copies xa_tokens xa_replaced xa_deep xa_lies xa_ofKind xa_caller xa_number xa_size0 xa_size1 xa_size2 xa_uses0 xa_uses1 xa_uses2 xa_useAt xa_begun xa_workNode xa_stage xa_workFrame xa_values xa_bound xa_boundTo xa_output xa_given (d + 1) (nI (sh_op g i t)) (nI t) := by
  intro d
  induction d with
  | zero => intro t ht; have e : t = j := by omega
            subst e
            exact br_t (nI_le (Nat.le_refl _) (by omega)) K
  | succ d ih =>
    intro t ht
    have q := H t (by omega)
    refine br_f (nI_ge (by omega) (by omega)) ⟨vp_in_nI q.1 (by omega), nm_r (e' := nI (sh_op g i (t + 1))) ?_ (nm_r (nI_1 t) (ih (t + 1) (by omega)))⟩
    rw [nI_clamp (by omega)]; exact q.2
theorem xs_operand {post : Int32 → Prop} {g : sh_G} {i j : Nat} (hj : j ≤ 3) (H : ∀ t, t < j → sh_op g i t < 168 ∧ xa_end (sh_op g i t) &&& 255 = nI (sh_op g i (t + 1))) (K : post (nI (sh_op g i j))) :
    wpX_operand post (xf_concepts, xf_drafted, xf_place, xf_frames, xf_node, xf_frame, xf_above, xf_depth, xf_top, xf_lets, xf_says, xf_result, xa_tok, xa_end, xa_num, xa_length, xa_holes, xa_draft, xa_draftNum, xa_copies, xa_tokens, xa_replaced, xa_deep, xa_lies, xa_ofKind, xa_caller, xa_number, xa_size0, xa_size1, xa_size2, xa_uses0, xa_uses1, xa_uses2, xa_useAt, xa_begun, xa_workNode, xa_stage, xa_workFrame, xa_values, xa_bound, xa_boundTo, xa_output, xa_given) (nI i) (nI j) := by
  refine nm_r (nI_1 i) ⟨j + 1, ?_⟩
  exact xs_operand_7 (g := g) (i := i) hj H K j 0 (by omega)
end XB
end
section
/-! X: add, measure, measureUse -/
theorem sh_blk_k {c : Nat → Int32} {b n : Nat} {f : Nat → Int32} (h : f n = c (b + n)) : sh_blk c b (n + 1) f = sh_blk c b n f := by
  rw [← sh_blk_s, h]
  have e : c (b + n) = sh_blk c b n f (b + n) := (sh_blk_o (by omega)).symm
  rw [e]; exact sh_upd_id _ _
def xs_A (w : Nat) (c : Nat → Int32) (i e : Nat) (t : Int32) : Nat → Int32 := sh_blk c (w * i) w (fun q => vp_nar .short (xs_lst (c (w * i + q) + t * c (w * e + q))).toInt16.toInt32)
def xs_A1 (c : Nat → Int32) (i e : Nat) (t : Int32) : Nat → Int32 := upd c i (vp_nar .short (xs_lst (c i + t * c e)).toInt16.toInt32)
theorem xs_A_n {w : Nat} {c : Nat → Int32} {i e τ : Nat} {t : Int32} {A B : Nat → Nat} (hne : e ≠ i) (ht : t = nI (sh_sat τ)) (hB : ∀ q, q < w → c (w * e + q) = nI (sh_sat (B q))) :
    xs_A w (sh_blk c (w * i) w (fun q => nI (sh_sat (A q)))) i e t = sh_blk c (w * i) w (fun q => nI (sh_sat (A q + τ * B q))) := by
  unfold xs_A
  rw [sh_blk_b]
  refine sh_blk_c (fun q hq => ?_)
  have o : w * e + q < w * i ∨ w * i + w ≤ w * e + q := by
    rcases Nat.lt_or_gt_of_ne hne with h | h
    · left
      have := Nat.mul_le_mul (Nat.le_refl w) (show e + 1 ≤ i from h)
      rw [Nat.mul_add] at this; omega
    · right
      have := Nat.mul_le_mul (Nat.le_refl w) (show i + 1 ≤ e from h)
      rw [Nat.mul_add] at this; omega
  rw [sh_blk_i hq, sh_blk_o o]
  exact xs_lst_am rfl ht (hB q hq)
theorem xs_A1_n {c : Nat → Int32} {i e τ a b : Nat} {t : Int32} (hne : e ≠ i) (ht : t = nI (sh_sat τ)) (hB : c e = nI (sh_sat b)) :
    xs_A1 (upd c i (nI (sh_sat a))) i e t = upd c i (nI (sh_sat (a + τ * b))) := by
  unfold xs_A1
  rw [sh_upd_u, pk_us, pk_un hne, xs_lst_am rfl ht hB]
section XA
variable {xf_concepts xf_drafted xf_place xf_frames xf_node xf_frame xf_above xf_depth xf_top xf_lets xf_says xf_result : Int32} {xa_tok xa_end xa_num xa_length xa_holes xa_draft xa_draftNum xa_copies xa_tokens xa_replaced xa_deep xa_lies xa_ofKind xa_caller xa_number xa_size0 xa_size1 xa_size2 xa_uses0 xa_uses1 xa_uses2 xa_useAt xa_begun xa_workNode xa_stage xa_workFrame xa_values xa_bound xa_boundTo xa_output xa_given : Nat → Int32}
theorem xs_add9 {post : SX → Prop} {i e : Nat} {t : Int32} (hi : i < 168) (he : e < 168) (hne : e ≠ i)
    (K : post (xf_concepts, xf_drafted, xf_place, xf_frames, xf_node, xf_frame, xf_above, xf_depth, xf_top, xf_lets, xf_says, xf_result, xa_tok, xa_end, xa_num, xa_length, xa_holes, xa_draft, xa_draftNum, xa_copies, xa_tokens, xa_replaced, xa_deep, xa_lies, xs_A 9 xa_ofKind i e t, xa_caller, xa_number, xa_size0, xa_size1, xa_size2, xa_uses0, xa_uses1, xa_uses2, xa_useAt, xa_begun, xa_workNode, xa_stage, xa_workFrame, xa_values, xa_bound, xa_boundTo, xa_output, xa_given)) : ∀ d q, q + d = 9 →
    wX_add_108 post (nI i) (nI e) t xf_concepts xf_drafted xf_place xf_frames xf_node xf_frame xf_above xf_depth xf_top xf_lets xf_says xf_result (d + 1) (nI q) xa_tok xa_end xa_num xa_length xa_holes xa_draft xa_draftNum xa_copies xa_tokens xa_replaced xa_deep xa_lies (sh_blk xa_ofKind (9 * i) q (fun q => vp_nar .short (xs_lst (xa_ofKind (9 * i + q) + t * xa_ofKind (9 * e + q))).toInt16.toInt32)) xa_caller xa_number xa_size0 xa_size1 xa_size2 xa_uses0 xa_uses1 xa_uses2 xa_useAt xa_begun xa_workNode xa_stage xa_workFrame xa_values xa_bound xa_boundTo xa_output xa_given := by
  intro d
  induction d with
  | zero => intro q hq; have e0 : q = 9 := by omega
            subst e0
            exact br_t (nI_le (Nat.le_refl _) (by omega)) K
  | succ d ih =>
    intro q hq
    have e1 : (9 : Int32) * nI i + nI q = nI (9 * i + q) := sh_ix (w := 9)
    have e2 : (9 : Int32) * nI e + nI q = nI (9 * e + q) := sh_ix (w := 9)
    have i1 : vp_in ((9 : Int32) * nI i + nI q) 1512 := by rw [e1]; exact vp_in_nI (by omega) (by omega)
    have i2 : vp_in ((9 : Int32) * nI e + nI q) 1512 := by rw [e2]; exact vp_in_nI (by omega) (by omega)
    refine br_f (show ¬ nI 9 ≤ nI q from nI_ge (by omega) (by omega)) ⟨i1, i2, xs_least ⟨i1, nm_r ?_ (nm_r (nI_1 q) (ih (q + 1) (by omega)))⟩⟩
    rw [e1, e2, nI_clamp (by omega), nI_clamp (by omega), sh_blk_o (j := 9 * i + q) (by omega), sh_blk_o (j := 9 * e + q) (by omega)]
    exact sh_blk_s _ _ _ _
theorem xs_add3 {post : SX → Prop} {i e : Nat} {t : Int32} (hi : i < 168) (he : e < 168) (hne : e ≠ i)
    (K : post (xf_concepts, xf_drafted, xf_place, xf_frames, xf_node, xf_frame, xf_above, xf_depth, xf_top, xf_lets, xf_says, xf_result, xa_tok, xa_end, xa_num, xa_length, xa_holes, xa_draft, xa_draftNum, xs_A 3 xa_copies i e t, xs_A1 xa_tokens i e t, xs_A1 xa_replaced i e t, xa_deep, xa_lies, xs_A 9 xa_ofKind i e t, xa_caller, xa_number, xa_size0, xa_size1, xa_size2, xa_uses0, xa_uses1, xa_uses2, xa_useAt, xa_begun, xa_workNode, xa_stage, xa_workFrame, xa_values, xa_bound, xa_boundTo, xa_output, xa_given)) : ∀ d q, q + d = 3 →
    wX_add_3 post (nI i) (nI e) t xf_concepts xf_drafted xf_place xf_frames xf_node xf_frame xf_above xf_depth xf_top xf_lets xf_says xf_result (d + 1) (nI q) xa_tok xa_end xa_num xa_length xa_holes xa_draft xa_draftNum (sh_blk xa_copies (3 * i) q (fun q => vp_nar .short (xs_lst (xa_copies (3 * i + q) + t * xa_copies (3 * e + q))).toInt16.toInt32)) xa_tokens xa_replaced xa_deep xa_lies xa_ofKind xa_caller xa_number xa_size0 xa_size1 xa_size2 xa_uses0 xa_uses1 xa_uses2 xa_useAt xa_begun xa_workNode xa_stage xa_workFrame xa_values xa_bound xa_boundTo xa_output xa_given := by
  intro d
  induction d with
  | zero =>
    intro q hq; have e0 : q = 3 := by omega
    subst e0
    have i1 : vp_in (nI i) 168 := vp_in_nI hi (by omega)
    have i2 : vp_in (nI e) 168 := vp_in_nI he (by omega)
    refine br_t (nI_le (Nat.le_refl _) (by omega)) ⟨i1, i2, xs_least ⟨i1, nm_r (e' := xs_A1 xa_tokens i e t) ?_ ⟨i1, i2, xs_least ⟨i1, nm_r (e' := xs_A1 xa_replaced i e t) ?_ ⟨10, ?_⟩⟩⟩⟩⟩
    · rw [nI_clamp (by omega), nI_clamp (by omega)]; rfl
    · rw [nI_clamp (by omega), nI_clamp (by omega)]; rfl
    · have := xs_add9 (post := post) (xa_copies := xs_A 3 xa_copies i e t) (xa_tokens := xs_A1 xa_tokens i e t) (xa_replaced := xs_A1 xa_replaced i e t) hi he hne K 9 0 rfl
      rw [sh_blk_0] at this
      exact this
  | succ d ih =>
    intro q hq
    have e1 : (3 : Int32) * nI i + nI q = nI (3 * i + q) := sh_ix (w := 3)
    have e2 : (3 : Int32) * nI e + nI q = nI (3 * e + q) := sh_ix (w := 3)
    have i1 : vp_in ((3 : Int32) * nI i + nI q) 504 := by rw [e1]; exact vp_in_nI (by omega) (by omega)
    have i2 : vp_in ((3 : Int32) * nI e + nI q) 504 := by rw [e2]; exact vp_in_nI (by omega) (by omega)
    refine br_f (show ¬ nI 3 ≤ nI q from nI_ge (by omega) (by omega)) ⟨i1, i2, xs_least ⟨i1, nm_r ?_ (nm_r (nI_1 q) (ih (q + 1) (by omega)))⟩⟩
    rw [e1, e2, nI_clamp (by omega), nI_clamp (by omega), sh_blk_o (j := 3 * i + q) (by omega), sh_blk_o (j := 3 * e + q) (by omega)]
    exact sh_blk_s _ _ _ _
theorem xs_add {post : SX → Prop} {i e : Nat} {t : Int32} (hi : i < 168) (he : e < 168) (hne : e ≠ i)
    (K : post (xf_concepts, xf_drafted, xf_place, xf_frames, xf_node, xf_frame, xf_above, xf_depth, xf_top, xf_lets, xf_says, xf_result, xa_tok, xa_end, xa_num, xa_length, xa_holes, xa_draft, xa_draftNum, xs_A 3 xa_copies i e t, xs_A1 xa_tokens i e t, xs_A1 xa_replaced i e t, xa_deep, xa_lies, xs_A 9 xa_ofKind i e t, xa_caller, xa_number, xa_size0, xa_size1, xa_size2, xa_uses0, xa_uses1, xa_uses2, xa_useAt, xa_begun, xa_workNode, xa_stage, xa_workFrame, xa_values, xa_bound, xa_boundTo, xa_output, xa_given)) :
    wpX_add post (xf_concepts, xf_drafted, xf_place, xf_frames, xf_node, xf_frame, xf_above, xf_depth, xf_top, xf_lets, xf_says, xf_result, xa_tok, xa_end, xa_num, xa_length, xa_holes, xa_draft, xa_draftNum, xa_copies, xa_tokens, xa_replaced, xa_deep, xa_lies, xa_ofKind, xa_caller, xa_number, xa_size0, xa_size1, xa_size2, xa_uses0, xa_uses1, xa_uses2, xa_useAt, xa_begun, xa_workNode, xa_stage, xa_workFrame, xa_values, xa_bound, xa_boundTo, xa_output, xa_given) (nI i) (nI e) t := by
  refine ⟨4, ?_⟩
  have := xs_add3 (post := post) hi he hne K 3 0 rfl
  rw [sh_blk_0] at this
  exact this
end XA
end
section
/-! X: measure -/
def xs_XN (g : sh_G) (cp tn rp dp ls ok : Nat → Int32) (i : Nat) : Prop :=
  tn i = nI (sh_sat (sh_T g i)) ∧ rp i = nI (sh_sat (sh_R g i)) ∧ (∀ h, h < 3 → cp (3 * i + h) = nI (sh_sat (sh_C g i h))) ∧
  (∀ q, q < 9 → ok (9 * i + q) = nI (sh_sat (sh_K g i q))) ∧ (sh_T g i ≤ 2000 → dp i = nI (sh_D g i) ∧ ∀ h, h < 3 → ls (3 * i + h) = nI (sh_L g i h) - 1)
def xs_dp (x de : Int32) : Int32 := if de + 1 ≤ x then x else vp_nar .short (de + 1).toInt16.toInt32
def xs_lp (l le : Int32) : Int32 := if le < l then l else if 0 ≤ le then vp_nar .short (le + 1).toInt16.toInt32 else vp_nar .short (-1 : Int32).toInt16.toInt32
theorem sh_m1a (n : Nat) : nI (n + 1) - 1 = nI n := nI_pred n
theorem sh_m1b : nI 0 - 1 = -1 := by decide
theorem sh_m1lt {a b : Nat} (ha : a < 2 ^ 30) (hb : b < 2 ^ 30) : nI a - 1 < nI b - 1 ↔ a < b := by
  have q := pk_sub_toInt (a := a) (b := 1) ha (by omega)
  have q2 := pk_sub_toInt (a := b) (b := 1) hb (by omega)
  rw [Int32.lt_iff_toInt_lt]
  have q' : (nI a - 1).toInt = (a : Int) - 1 := q
  have q2' : (nI b - 1).toInt = (b : Int) - 1 := q2
  omega
theorem sh_m1le {a b : Nat} (ha : a < 2 ^ 30) (hb : b < 2 ^ 30) : nI a - 1 ≤ nI b - 1 ↔ a ≤ b := by
  have q := pk_sub_toInt (a := a) (b := 1) ha (by omega)
  have q2 := pk_sub_toInt (a := b) (b := 1) hb (by omega)
  rw [Int32.le_iff_toInt_le]
  have q' : (nI a - 1).toInt = (a : Int) - 1 := q
  have q2' : (nI b - 1).toInt = (b : Int) - 1 := q2
  omega
theorem sh_m1n {a : Nat} (ha : a < 2 ^ 30) : nI a - 1 < 0 ↔ a = 0 := by
  have q := sh_m1lt (a := a) (b := 1) ha (by omega)
  have e : nI 1 - 1 = 0 := by decide
  rw [e] at q
  rw [q]; omega
theorem xs_dp_n {a b : Nat} (ha : a < 30000) (hb : b < 30000) : xs_dp (nI a) (nI b) = nI (sh_max a (b + 1)) := by
  unfold xs_dp sh_max
  rw [nI_1]
  by_cases h : b + 1 ≤ a
  · rw [if_pos (nI_le h (by omega))]
    split
    · have : a = b + 1 := by omega
      rw [this]
    · rfl
  · rw [if_neg (nI_ge (by omega) (by omega)), if_pos (by omega), sh_n16 (by omega)]
theorem xs_lp_n {a b : Nat} (ha : a < 30000) (hb : b < 30000) : xs_lp (nI a - 1) (nI b - 1) = nI (sh_max a (if b = 0 then 0 else b + 1)) - 1 := by
  unfold xs_lp sh_max
  by_cases h : b < a
  · rw [if_pos ((sh_m1lt (by omega) (by omega)).mpr h)]
    by_cases e : b = 0
    · rw [if_pos e]; split
      · have : a = 0 := by omega
        omega
      · rfl
    · rw [if_neg e]; split
      · have : a = b + 1 := by omega
        rw [this]
      · rfl
  · rw [if_neg (fun z => h ((sh_m1lt (by omega) (by omega)).mp z))]
    by_cases e : b = 0
    · have : a = 0 := by omega
      subst e this
      rw [if_neg (by decide), if_pos rfl, sh_n16m]; decide
    · have : ¬ (nI b - 1 < 0) := fun z => e ((sh_m1n (by omega)).mp z)
      rw [if_pos (Int32.not_lt.mp this), if_neg e, if_pos (by omega)]
      obtain ⟨c, rfl⟩ : ∃ c, b = c + 1 := ⟨b - 1, by omega⟩
      rw [sh_m1a, nI_1, sh_n16 (by omega), sh_m1a]
section XM
variable {xf_concepts xf_drafted xf_place xf_frames xf_node xf_frame xf_above xf_depth xf_top xf_lets xf_says xf_result : Int32} {xa_tok xa_end xa_num xa_length xa_holes xa_draft xa_draftNum xa_copies xa_tokens xa_replaced xa_deep xa_lies xa_ofKind xa_caller xa_number xa_size0 xa_size1 xa_size2 xa_uses0 xa_uses1 xa_uses2 xa_useAt xa_begun xa_workNode xa_stage xa_workFrame xa_values xa_bound xa_boundTo xa_output xa_given : Nat → Int32}
theorem xs_m236 {post : SX → Prop} {J : (Int32 → Int32 → Int32 → Int32 → Int32 → Int32 → Int32 → Int32 → Int32 → Int32 → Int32 → Int32 → Int32 → Int32 → (Nat → Int32) → (Nat → Int32) → (Nat → Int32) → (Nat → Int32) → (Nat → Int32) → (Nat → Int32) → (Nat → Int32) → (Nat → Int32) → (Nat → Int32) → (Nat → Int32) → (Nat → Int32) → (Nat → Int32) → (Nat → Int32) → (Nat → Int32) → (Nat → Int32) → (Nat → Int32) → (Nat → Int32) → (Nat → Int32) → (Nat → Int32) → (Nat → Int32) → (Nat → Int32) → (Nat → Int32) → (Nat → Int32) → (Nat → Int32) → (Nat → Int32) → (Nat → Int32) → (Nat → Int32) → (Nat → Int32) → (Nat → Int32) → (Nat → Int32) → (Nat → Int32) → Prop)} {i e e' x4 : Nat} (hi : i < 168) (he : e < 168) (hne : e ≠ i) (hx : 0 < x4) (hx2 : x4 < 100) (hen : xa_end e &&& 255 = nI e')
    (K : J (nI e') (nI (x4 - 1)) xf_concepts xf_drafted xf_place xf_frames xf_node xf_frame xf_above xf_depth xf_top xf_lets xf_says xf_result xa_tok xa_end xa_num xa_length xa_holes xa_draft xa_draftNum xa_copies xa_tokens xa_replaced xa_deep (sh_blk xa_lies (3 * i) 3 (fun h => xs_lp (xa_lies (3 * i + h)) (xa_lies (3 * e + h)))) xa_ofKind xa_caller xa_number xa_size0 xa_size1 xa_size2 xa_uses0 xa_uses1 xa_uses2 xa_useAt xa_begun xa_workNode xa_stage xa_workFrame xa_values xa_bound xa_boundTo xa_output xa_given) : ∀ d q, q + d = 3 →
    wX_measure_236 post J (nI i) (nI e) (nI x4) xf_concepts xf_drafted xf_place xf_frames xf_node xf_frame xf_above xf_depth xf_top xf_lets xf_says xf_result (d + 1) (nI q) xa_tok xa_end xa_num xa_length xa_holes xa_draft xa_draftNum xa_copies xa_tokens xa_replaced xa_deep (sh_blk xa_lies (3 * i) q (fun h => xs_lp (xa_lies (3 * i + h)) (xa_lies (3 * e + h)))) xa_ofKind xa_caller xa_number xa_size0 xa_size1 xa_size2 xa_uses0 xa_uses1 xa_uses2 xa_useAt xa_begun xa_workNode xa_stage xa_workFrame xa_values xa_bound xa_boundTo xa_output xa_given := by
  intro d
  induction d with
  | zero =>
    intro q hq; have e0 : q = 3 := by omega
    subst e0
    refine br_t (nI_le (Nat.le_refl _) (by omega)) ⟨vp_in_nI he (by omega), nm_r (e' := nI e') ?_ (nm_r (sb_m1 hx) K)⟩
    rw [nI_clamp (by omega)]; exact hen
  | succ d ih =>
    intro q hq
    have e1 : (3 : Int32) * nI i + nI q = nI (3 * i + q) := sh_ix (w := 3)
    have e2 : (3 : Int32) * nI e + nI q = nI (3 * e + q) := sh_ix (w := 3)
    have i1 : vp_in ((3 : Int32) * nI i + nI q) 504 := by rw [e1]; exact vp_in_nI (by omega) (by omega)
    have i2 : vp_in ((3 : Int32) * nI e + nI q) 504 := by rw [e2]; exact vp_in_nI (by omega) (by omega)
    have c1 : sh_blk xa_lies (3 * i) q (fun h => xs_lp (xa_lies (3 * i + h)) (xa_lies (3 * e + h))) ((3 : Int32) * nI i + nI q).toNatClampNeg = xa_lies (3 * i + q) := by
      rw [e1, nI_clamp (by omega)]; exact sh_blk_o (by omega)
    have c2 : sh_blk xa_lies (3 * i) q (fun h => xs_lp (xa_lies (3 * i + h)) (xa_lies (3 * e + h))) ((3 : Int32) * nI e + nI q).toNatClampNeg = xa_lies (3 * e + q) := by
      rw [e2, nI_clamp (by omega)]; exact sh_blk_o (by omega)
    have nx := ih (q + 1) (by omega)
    refine br_f (show ¬ nI 3 ≤ nI q from nI_ge (by omega) (by omega)) ⟨i2, i1, ?_⟩
    rw [c1, c2]
    by_cases h1 : xa_lies (3 * e + q) < xa_lies (3 * i + q)
    · refine br_t h1 (nm_r (nI_1 q) ?_)
      rw [sh_blk_k (by unfold xs_lp; rw [if_pos h1])] at nx
      exact nx
    · refine br_f h1 ⟨i2, ?_⟩
      by_cases h2 : 0 ≤ xa_lies (3 * e + q)
      · refine br_t h2 ⟨i2, i1, nm_r ?_ (nm_r (nI_1 q) nx)⟩
        rw [e1, nI_clamp (by omega), ← sh_blk_s]
        congr 1
        show _ = xs_lp _ _
        unfold xs_lp
        rw [if_neg h1, if_pos h2]
      · refine br_f h2 ⟨i1, nm_r ?_ (nm_r (nI_1 q) nx)⟩
        rw [e1, nI_clamp (by omega), ← sh_blk_s]
        congr 1
        show _ = xs_lp _ _
        unfold xs_lp
        rw [if_neg h1, if_neg h2]
/-- one operand more -/
theorem xs_m189s {post : SX → Prop} {n i e e' x4 : Nat} (hi : i < 168) (he : e < 168) (hne : e ≠ i) (hx : 0 < x4) (hx2 : x4 < 100) (hen : xa_end e &&& 255 = nI e')
    (K : wX_measure_189 post (nI i) n (nI e') (nI (x4 - 1)) xf_concepts xf_drafted xf_place xf_frames xf_node xf_frame xf_above xf_depth xf_top xf_lets xf_says xf_result xa_tok xa_end xa_num xa_length xa_holes xa_draft xa_draftNum (xs_A 3 xa_copies i e 1) (xs_A1 xa_tokens i e 1) (xs_A1 xa_replaced i e 1) (upd xa_deep i (xs_dp (xa_deep i) (xa_deep e))) (sh_blk xa_lies (3 * i) 3 (fun h => xs_lp (xa_lies (3 * i + h)) (xa_lies (3 * e + h)))) (xs_A 9 xa_ofKind i e 1) xa_caller xa_number xa_size0 xa_size1 xa_size2 xa_uses0 xa_uses1 xa_uses2 xa_useAt xa_begun xa_workNode xa_stage xa_workFrame xa_values xa_bound xa_boundTo xa_output xa_given) :
    wX_measure_189 post (nI i) (n + 1) (nI e) (nI x4) xf_concepts xf_drafted xf_place xf_frames xf_node xf_frame xf_above xf_depth xf_top xf_lets xf_says xf_result xa_tok xa_end xa_num xa_length xa_holes xa_draft xa_draftNum xa_copies xa_tokens xa_replaced xa_deep xa_lies xa_ofKind xa_caller xa_number xa_size0 xa_size1 xa_size2 xa_uses0 xa_uses1 xa_uses2 xa_useAt xa_begun xa_workNode xa_stage xa_workFrame xa_values xa_bound xa_boundTo xa_output xa_given := by
  refine br_f (show ¬ nI x4 ≤ nI 0 from nI_ge hx (by omega)) (xs_add hi he hne ⟨vp_in_nI he (by omega), vp_in_nI hi (by omega), ?_⟩)
  rw [nI_clamp (by omega), nI_clamp (by omega)]
  by_cases h : xa_deep e + 1 ≤ xa_deep i
  · refine br_t h ⟨4, ?_⟩
    have L := xs_m236 (post := post) (J := wX_measure_189 post (nI i) n) (xa_copies := xs_A 3 xa_copies i e 1) (xa_tokens := xs_A1 xa_tokens i e 1) (xa_replaced := xs_A1 xa_replaced i e 1) (xa_ofKind := xs_A 9 xa_ofKind i e 1) hi he hne hx hx2 hen
      (by unfold xs_dp at K; rw [if_pos h, sh_upd_id] at K; exact K) 3 0 rfl
    rw [sh_blk_0] at L
    exact L
  · refine br_f h ⟨vp_in_nI he (by omega), vp_in_nI hi (by omega), nm_r (e' := upd xa_deep i (vp_nar .short (xa_deep e + 1).toInt16.toInt32)) rfl ⟨4, ?_⟩⟩
    have L := xs_m236 (post := post) (J := wX_measure_189 post (nI i) n) (xa_copies := xs_A 3 xa_copies i e 1) (xa_tokens := xs_A1 xa_tokens i e 1) (xa_replaced := xs_A1 xa_replaced i e 1) (xa_ofKind := xs_A 9 xa_ofKind i e 1) (xa_deep := upd xa_deep i (vp_nar .short (xa_deep e + 1).toInt16.toInt32)) hi he hne hx hx2 hen
      (by unfold xs_dp at K; rw [if_neg h] at K; exact K) 3 0 rfl
    rw [sh_blk_0] at L
    exact L
end XM
end
section
/-! X: measure, by numbers -/
theorem sh_max_mx (a j : Nat) (f : Nat → Nat) : sh_max (sh_max a (sh_mx j f)) (f j) = sh_max a (sh_mx (j + 1) f) := by
  simp only [sh_mx_s, sh_max]
  repeat (first | omega | split)
theorem sh_max_0 (a : Nat) : sh_max a (sh_mx 0 (fun _ => 0)) = a := by
  unfold sh_max; split
  · have : a ≤ 0 := by assumption
    show 0 = a; omega
  · rfl
def sh_cb (g : sh_G) (i h : Nat) : Nat := if sh_tk g i = 9 ∧ sh_nm g i = nI h then 1 else 0
def sh_kb (g : sh_G) (i q : Nat) : Nat := if sh_tk g i = q ∨ sh_tk g i = 10 ∧ q = 0 then 1 else 0
def sh_tb (g : sh_G) (i : Nat) : Nat := if sh_tk g i = 9 then 0 else 1
theorem sh_cb_le (g : sh_G) (i h : Nat) : sh_cb g i h ≤ 1 := by unfold sh_cb; split <;> omega
theorem sh_kb_le (g : sh_G) (i h : Nat) : sh_kb g i h ≤ 1 := by unfold sh_kb; split <;> omega
theorem sh_tb_le (g : sh_G) (i : Nat) : sh_tb g i ≤ 1 := by unfold sh_tb; split <;> omega
/-- what is known of a node's operands when it is measured -/
def xs_HE (g : sh_G) (en cp tn rp dp ls ok : Nat → Int32) (i : Nat) : Prop :=
  ∀ j, j < sh_an g i → i < sh_op g i j ∧ sh_op g i j < 168 ∧ en (sh_op g i j) &&& 255 = nI (sh_op g i (j + 1)) ∧ xs_XN g cp tn rp dp ls ok (sh_op g i j) ∧ sh_DB g (sh_op g i j)
section XM2
variable {xf_concepts xf_drafted xf_place xf_frames xf_node xf_frame xf_above xf_depth xf_top xf_lets xf_says xf_result : Int32} {xa_tok xa_end xa_num xa_length xa_holes xa_draft xa_draftNum xa_copies xa_tokens xa_replaced xa_deep xa_lies xa_ofKind xa_caller xa_number xa_size0 xa_size1 xa_size2 xa_uses0 xa_uses1 xa_uses2 xa_useAt xa_begun xa_workNode xa_stage xa_workFrame xa_values xa_bound xa_boundTo xa_output xa_given : Nat → Int32}
theorem xs_m189 {post : SX → Prop} {g : sh_G} {i : Nat} (hi : i < 168) (hn : sh_an g i ≤ 3) (hk : sh_tk g i < 16)
    (HE : xs_HE g xa_end xa_copies xa_tokens xa_replaced xa_deep xa_lies xa_ofKind i) (LQ : sh_LQ g i) (DQ : sh_DQ g i)
    (K : ∀ x l, (sh_T g i ≤ 2000 → x = nI (sh_D g i) ∧ ∀ h, h < 3 → l h = nI (sh_L g i h) - 1) → post (xf_concepts, xf_drafted, xf_place, xf_frames, xf_node, xf_frame, xf_above, xf_depth, xf_top, xf_lets, xf_says, xf_result, xa_tok, xa_end, xa_num, xa_length, xa_holes, xa_draft, xa_draftNum, sh_blk xa_copies (3 * i) 3 (fun h => nI (sh_sat (sh_C g i h))), upd xa_tokens i (nI (sh_sat (sh_T g i))), upd xa_replaced i (nI (sh_sat (sh_R g i))), upd xa_deep i x, sh_blk xa_lies (3 * i) 3 l, sh_blk xa_ofKind (9 * i) 9 (fun q => nI (sh_sat (sh_K g i q))), xa_caller, xa_number, xa_size0, xa_size1, xa_size2, xa_uses0, xa_uses1, xa_uses2, xa_useAt, xa_begun, xa_workNode, xa_stage, xa_workFrame, xa_values, xa_bound, xa_boundTo, xa_output, xa_given)) :
    ∀ d j, j + d = sh_an g i → ∀ x l, (sh_T g i ≤ 2000 → x = nI (sh_max (sh_tb g i) (sh_mx j (fun j => sh_D g (sh_op g i j) + 1))) ∧ ∀ h, h < 3 → l h = nI (sh_max (sh_cb g i h) (sh_mx j (fun j => if sh_L g (sh_op g i j) h = 0 then 0 else sh_L g (sh_op g i j) h + 1))) - 1) →
    wX_measure_189 post (nI i) (d + 1) (nI (sh_op g i j)) (nI (sh_an g i - j)) xf_concepts xf_drafted xf_place xf_frames xf_node xf_frame xf_above xf_depth xf_top xf_lets xf_says xf_result xa_tok xa_end xa_num xa_length xa_holes xa_draft xa_draftNum (sh_blk xa_copies (3 * i) 3 (fun h => nI (sh_sat (sh_cb g i h + sh_sm j (fun j => sh_C g (sh_op g i j) h))))) (upd xa_tokens i (nI (sh_sat (sh_tb g i + sh_sm j (fun j => sh_T g (sh_op g i j)))))) (upd xa_replaced i (nI (sh_sat (0 + sh_sm j (fun j => sh_R g (sh_op g i j)))))) (upd xa_deep i x) (sh_blk xa_lies (3 * i) 3 l) (sh_blk xa_ofKind (9 * i) 9 (fun q => nI (sh_sat (sh_kb g i q + sh_sm j (fun j => sh_K g (sh_op g i j) q))))) xa_caller xa_number xa_size0 xa_size1 xa_size2 xa_uses0 xa_uses1 xa_uses2 xa_useAt xa_begun xa_workNode xa_stage xa_workFrame xa_values xa_bound xa_boundTo xa_output xa_given := by
  intro d
  induction d with
  | zero =>
    intro j hj x l hc
    have ej : j = sh_an g i := by omega
    subst ej
    refine br_t (by rw [Nat.sub_self]; decide) ?_
    have E1 : sh_blk xa_copies (3 * i) 3 (fun h => nI (sh_sat (sh_cb g i h + sh_sm (sh_an g i) (fun j => sh_C g (sh_op g i j) h)))) = sh_blk xa_copies (3 * i) 3 (fun h => nI (sh_sat (sh_C g i h))) :=
      sh_blk_c (fun h hh => by rw [(LQ.2.2.2 h hh).1 hk]; rfl)
    have E2 : sh_blk xa_ofKind (9 * i) 9 (fun q => nI (sh_sat (sh_kb g i q + sh_sm (sh_an g i) (fun j => sh_K g (sh_op g i j) q)))) = sh_blk xa_ofKind (9 * i) 9 (fun q => nI (sh_sat (sh_K g i q))) :=
      sh_blk_c (fun q hq => congrArg (fun n => nI (sh_sat n)) ((LQ.2.2.1 q hq).1 hk).symm)
    have E3 : sh_tb g i + sh_sm (sh_an g i) (fun j => sh_T g (sh_op g i j)) = sh_T g i := (LQ.1.1 hk).symm
    have E4 : 0 + sh_sm (sh_an g i) (fun j => sh_R g (sh_op g i j)) = sh_R g i := (LQ.2.1.1 hk).symm
    rw [E1, E2, E3, E4]
    refine K x l (fun hT => ?_)
    have q := hc hT
    refine ⟨by rw [q.1, DQ.1 hk]; rfl, fun h hh => ?_⟩
    rw [q.2 h hh, (DQ.2.2 h hh).1 hk]; rfl
  | succ d ih =>
    intro j hj x l hc
    have hja : j < sh_an g i := by omega
    obtain ⟨h1, h2, h3, hx, hd⟩ := HE j hja
    have hne : sh_op g i j ≠ i := by omega
    have E1 : xs_A 3 (sh_blk xa_copies (3 * i) 3 (fun h => nI (sh_sat (sh_cb g i h + sh_sm j (fun j => sh_C g (sh_op g i j) h))))) i (sh_op g i j) 1 = sh_blk xa_copies (3 * i) 3 (fun h => nI (sh_sat (sh_cb g i h + sh_sm (j + 1) (fun j => sh_C g (sh_op g i j) h)))) :=
      (xs_A_n (τ := 1) (B := fun h => sh_C g (sh_op g i j) h) hne rfl hx.2.2.1).trans (sh_blk_c (fun h hh => by rw [Nat.one_mul, Nat.add_assoc]; rfl))
    have E2 : xs_A 9 (sh_blk xa_ofKind (9 * i) 9 (fun q => nI (sh_sat (sh_kb g i q + sh_sm j (fun j => sh_K g (sh_op g i j) q))))) i (sh_op g i j) 1 = sh_blk xa_ofKind (9 * i) 9 (fun q => nI (sh_sat (sh_kb g i q + sh_sm (j + 1) (fun j => sh_K g (sh_op g i j) q)))) :=
      (xs_A_n (τ := 1) (B := fun h => sh_K g (sh_op g i j) h) hne rfl hx.2.2.2.1).trans (sh_blk_c (fun h hh => by rw [Nat.one_mul, Nat.add_assoc]; rfl))
    have E3 : xs_A1 (upd xa_tokens i (nI (sh_sat (sh_tb g i + sh_sm j (fun j => sh_T g (sh_op g i j)))))) i (sh_op g i j) 1 = upd xa_tokens i (nI (sh_sat (sh_tb g i + sh_sm (j + 1) (fun j => sh_T g (sh_op g i j))))) := by
      refine (xs_A1_n (τ := 1) (t := 1) hne rfl hx.1).trans ?_
      rw [Nat.one_mul, Nat.add_assoc]; rfl
    have E4 : xs_A1 (upd xa_replaced i (nI (sh_sat (0 + sh_sm j (fun j => sh_R g (sh_op g i j)))))) i (sh_op g i j) 1 = upd xa_replaced i (nI (sh_sat (0 + sh_sm (j + 1) (fun j => sh_R g (sh_op g i j))))) := by
      refine (xs_A1_n (τ := 1) (t := 1) hne rfl hx.2.1).trans ?_
      rw [Nat.one_mul, Nat.add_assoc]; rfl
    have E5 : upd (upd xa_deep i x) i (xs_dp (upd xa_deep i x i) (upd xa_deep i x (sh_op g i j))) = upd xa_deep i (xs_dp x (xa_deep (sh_op g i j))) := by
      rw [sh_upd_u, pk_us, pk_un hne]
    have E6 : sh_blk (sh_blk xa_lies (3 * i) 3 l) (3 * i) 3 (fun h => xs_lp (sh_blk xa_lies (3 * i) 3 l (3 * i + h)) (sh_blk xa_lies (3 * i) 3 l (3 * sh_op g i j + h))) = sh_blk xa_lies (3 * i) 3 (fun h => xs_lp (l h) (xa_lies (3 * sh_op g i j + h))) := by
      rw [sh_blk_b]
      exact sh_blk_c (fun h hh => by rw [sh_blk_i hh, sh_blk_o (by omega)])
    refine xs_m189s (e' := sh_op g i (j + 1)) hi h2 hne (by omega) (by omega) h3 ?_
    rw [E1, E2, E3, E4, E5, E6, show sh_an g i - j - 1 = sh_an g i - (j + 1) by omega]
    refine ih (j + 1) (by omega) _ _ (fun hT => ?_)
    have q := hc hT
    have Te : sh_T g (sh_op g i j) + 1 ≤ sh_T g i + (1 - sh_tb g i) := by
      have := sh_sm_le (f := fun j => sh_T g (sh_op g i j)) (sh_an g i) j hja
      have e := LQ.1.1 hk
      have e' : sh_T g i = sh_tb g i + sh_sm (sh_an g i) (fun j => sh_T g (sh_op g i j)) := e
      have := sh_tb_le g i
      omega
    have Tall : ∀ k, k < sh_an g i → sh_T g (sh_op g i k) ≤ sh_T g i := by
      intro k hk2
      have := sh_sm_le (f := fun j => sh_T g (sh_op g i j)) (sh_an g i) k hk2
      have e := LQ.1.1 hk
      omega
    have de := hx.2.2.2.2 (by have := Tall j hja; omega)
    have bD : ∀ m, m ≤ sh_an g i → sh_max (sh_tb g i) (sh_mx m (fun j => sh_D g (sh_op g i j) + 1)) ≤ 2001 := by
      intro m hm
      rw [sh_max_le, sh_mx_le]
      refine ⟨by have := sh_tb_le g i; omega, fun k hk2 => ?_⟩
      have := (HE k (by omega)).2.2.2.2.1
      have := Tall k (by omega)
      omega
    have bL : ∀ m, m ≤ sh_an g i → ∀ h, h < 3 → sh_max (sh_cb g i h) (sh_mx m (fun j => if sh_L g (sh_op g i j) h = 0 then 0 else sh_L g (sh_op g i j) h + 1)) ≤ 2002 := by
      intro m hm h hh
      rw [sh_max_le, sh_mx_le]
      refine ⟨by have := sh_cb_le g i h; omega, fun k hk2 => ?_⟩
      have := ((HE k (by omega)).2.2.2.2.2 h hh).2
      have := Tall k (by omega)
      split <;> omega
    refine ⟨?_, fun h hh => ?_⟩
    · rw [q.1, de.1, xs_dp_n (by have := bD j (by omega); omega) (by have := (HE j hja).2.2.2.2.1; have := Tall j hja; omega), sh_max_mx _ j (fun j => sh_D g (sh_op g i j) + 1)]
    · show xs_lp (l h) (xa_lies (3 * sh_op g i j + h)) = _
      rw [q.2 h hh, de.2 h hh, xs_lp_n (by have := bL j (by omega) h hh; omega) (by have := ((HE j hja).2.2.2.2.2 h hh).2; have := Tall j hja; omega), sh_max_mx _ j (fun j => if sh_L g (sh_op g i j) h = 0 then 0 else sh_L g (sh_op g i j) h + 1)]
end XM2
end
section
section XM3
variable {xf_concepts xf_drafted xf_place xf_frames xf_node xf_frame xf_above xf_depth xf_top xf_lets xf_says xf_result : Int32} {xa_tok xa_end xa_num xa_length xa_holes xa_draft xa_draftNum xa_copies xa_tokens xa_replaced xa_deep xa_lies xa_ofKind xa_caller xa_number xa_size0 xa_size1 xa_size2 xa_uses0 xa_uses1 xa_uses2 xa_useAt xa_begun xa_workNode xa_stage xa_workFrame xa_values xa_bound xa_boundTo xa_output xa_given : Nat → Int32}
theorem xs_nar1 : vp_nar .short (1 : Int32).toInt16.toInt32 = nI 1 := sh_n16 (n := 1) (by omega)
theorem xs_nar0 : vp_nar .short (0 : Int32).toInt16.toInt32 = nI 0 := sh_n16 (n := 0) (by omega)
theorem xs_nar0' : vp_nar .short (0 : Int32) = nI 0 := sh_n16' (n := 0) (by omega)
theorem xs_m52 {post : SX → Prop} {J : (Int32 → (Nat → Int32) → (Nat → Int32) → (Nat → Int32) → (Nat → Int32) → (Nat → Int32) → (Nat → Int32) → (Nat → Int32) → (Nat → Int32) → (Nat → Int32) → (Nat → Int32) → (Nat → Int32) → (Nat → Int32) → (Nat → Int32) → (Nat → Int32) → (Nat → Int32) → (Nat → Int32) → (Nat → Int32) → (Nat → Int32) → (Nat → Int32) → (Nat → Int32) → (Nat → Int32) → (Nat → Int32) → (Nat → Int32) → (Nat → Int32) → (Nat → Int32) → (Nat → Int32) → (Nat → Int32) → (Nat → Int32) → (Nat → Int32) → (Nat → Int32) → (Nat → Int32) → Prop)} {g : sh_G} {i q z : Nat} {x3 : Int32} (hi : i < 168) (hq : q < 3) (hk : sh_tk g i < 22) (hz : z = sh_cb g i q) (hn : xa_num i = sh_nm g i)
    (K : J (nI (q + 1)) xa_tok xa_end xa_num xa_length xa_holes xa_draft xa_draftNum (upd xa_copies (3 * i + q) (nI (sh_cb g i q))) xa_tokens xa_replaced xa_deep (upd xa_lies (3 * i + q) (nI (sh_cb g i q) - 1)) xa_ofKind xa_caller xa_number xa_size0 xa_size1 xa_size2 xa_uses0 xa_uses1 xa_uses2 xa_useAt xa_begun xa_workNode xa_stage xa_workFrame xa_values xa_bound xa_boundTo xa_output xa_given) :
    wX_measure_52 post J (nI i) (nI (sh_tk g i)) x3 (nI q) (nI z) ((3 : Int32) * nI i + nI q) xf_concepts xf_drafted xf_place xf_frames xf_node xf_frame xf_above xf_depth xf_top xf_lets xf_says xf_result xa_tok xa_end xa_num xa_length xa_holes xa_draft xa_draftNum xa_copies xa_tokens xa_replaced xa_deep xa_lies xa_ofKind xa_caller xa_number xa_size0 xa_size1 xa_size2 xa_uses0 xa_uses1 xa_uses2 xa_useAt xa_begun xa_workNode xa_stage xa_workFrame xa_values xa_bound xa_boundTo xa_output xa_given := by
  have e1 : (3 : Int32) * nI i + nI q = nI (3 * i + q) := sh_ix (w := 3)
  have hz1 : z ≤ 1 := by rw [hz]; exact sh_cb_le _ _ _
  have i1 : vp_in ((3 : Int32) * nI i + nI q) 504 := by rw [e1]; exact vp_in_nI (by omega) (by omega)
  refine ⟨i1, nm_r (e' := upd xa_copies (3 * i + q) (nI (sh_cb g i q))) (by rw [e1, nI_clamp (by omega), sh_n16 (by omega), hz]) ?_⟩
  have e2 : ∀ x, upd xa_lies ((3 : Int32) * nI i + nI q).toNatClampNeg x = upd xa_lies (3 * i + q) x := fun x => by rw [e1, nI_clamp (by omega)]
  refine pk_eq (sh_tk g i) 9 (fun h9 => ⟨vp_in_nI hi (by omega), ?_⟩) (fun h9 => ⟨i1, ?_⟩)
  · rw [nI_clamp (by omega), hn]
    refine br_c (fun h => ⟨i1, nm_r (e' := upd xa_lies (3 * i + q) (nI (sh_cb g i q) - 1)) ?_ (nm_r (nI_1 q) K)⟩) (fun h => ⟨i1, nm_r (e' := upd xa_lies (3 * i + q) (nI (sh_cb g i q) - 1)) ?_ (nm_r (nI_1 q) K)⟩)
    · have : sh_cb g i q = 1 := if_pos ⟨h9, h⟩
      rw [e2, this, xs_nar0]; congr 1
    · have : sh_cb g i q = 0 := if_neg (fun z => h z.2)
      rw [e2, this, sh_n16m]; congr 1
  · have : sh_cb g i q = 0 := if_neg (fun z => h9 z.1)
    refine nm_r (e' := upd xa_lies (3 * i + q) (nI (sh_cb g i q) - 1)) ?_ (nm_r (nI_1 q) K)
    rw [e2, this, sh_n16m]; congr 1
theorem xs_m14 {post : SX → Prop} {g : sh_G} {i : Nat} {x3 : Int32} (hi : i < 168) (hk : sh_tk g i < 22) (hn : xa_num i = sh_nm g i)
    (K : wX_measure_110 post (nI i) (nI (sh_tk g i)) x3 (nI (sh_tb g i)) (nI i) xf_concepts xf_drafted xf_place xf_frames xf_node xf_frame xf_above xf_depth xf_top xf_lets xf_says xf_result xa_tok xa_end xa_num xa_length xa_holes xa_draft xa_draftNum (sh_blk xa_copies (3 * i) 3 (fun h => nI (sh_cb g i h))) xa_tokens xa_replaced xa_deep (sh_blk xa_lies (3 * i) 3 (fun h => nI (sh_cb g i h) - 1)) xa_ofKind xa_caller xa_number xa_size0 xa_size1 xa_size2 xa_uses0 xa_uses1 xa_uses2 xa_useAt xa_begun xa_workNode xa_stage xa_workFrame xa_values xa_bound xa_boundTo xa_output xa_given) :
    ∀ d q, q + d = 3 → wX_measure_14 post (nI i) (nI (sh_tk g i)) x3 xf_concepts xf_drafted xf_place xf_frames xf_node xf_frame xf_above xf_depth xf_top xf_lets xf_says xf_result (d + 1) (nI q) xa_tok xa_end xa_num xa_length xa_holes xa_draft xa_draftNum (sh_blk xa_copies (3 * i) q (fun h => nI (sh_cb g i h))) xa_tokens xa_replaced xa_deep (sh_blk xa_lies (3 * i) q (fun h => nI (sh_cb g i h) - 1)) xa_ofKind xa_caller xa_number xa_size0 xa_size1 xa_size2 xa_uses0 xa_uses1 xa_uses2 xa_useAt xa_begun xa_workNode xa_stage xa_workFrame xa_values xa_bound xa_boundTo xa_output xa_given := by
  intro d
  induction d with
  | zero =>
    intro q hq; have e0 : q = 3 := by omega
    subst e0
    refine br_t (nI_le (Nat.le_refl _) (by omega)) (pk_eq (sh_tk g i) 9 (fun h9 => ?_) (fun h9 => ?_))
    · unfold sh_tb at K; rw [if_pos h9] at K; exact K
    · unfold sh_tb at K; rw [if_neg h9] at K; exact K
  | succ d ih =>
    intro q hq
    have nx := ih (q + 1) (by omega)
    rw [← sh_blk_s xa_copies, ← sh_blk_s xa_lies] at nx
    refine br_f (show ¬ nI 3 ≤ nI q from nI_ge (by omega) (by omega)) (pk_eq (sh_tk g i) 9 (fun h9 => ⟨vp_in_nI hi (by omega), ?_⟩) (fun h9 => ?_))
    · rw [nI_clamp (by omega), hn]
      refine br_c (fun h => ?_) (fun h => ?_)
      · exact xs_m52 (z := 1) hi (by omega) hk (if_pos ⟨h9, h⟩).symm hn nx
      · exact xs_m52 (z := 0) hi (by omega) hk (if_neg (fun z => h z.2)).symm hn nx
    · exact xs_m52 (z := 0) hi (by omega) hk (if_neg (fun z => h9 z.1)).symm hn nx
theorem xs_m134 {post : SX → Prop} {g : sh_G} {i : Nat} {x3 : Int32} (hi : i < 168) (hk : sh_tk g i < 16) (N : Nat)
    (K : wX_measure_189 post (nI i) N x3 (nI (sh_an g i)) xf_concepts xf_drafted xf_place xf_frames xf_node xf_frame xf_above xf_depth xf_top xf_lets xf_says xf_result xa_tok xa_end xa_num xa_length xa_holes xa_draft xa_draftNum xa_copies xa_tokens xa_replaced xa_deep xa_lies (sh_blk xa_ofKind (9 * i) 9 (fun q => nI (sh_kb g i q))) xa_caller xa_number xa_size0 xa_size1 xa_size2 xa_uses0 xa_uses1 xa_uses2 xa_useAt xa_begun xa_workNode xa_stage xa_workFrame xa_values xa_bound xa_boundTo xa_output xa_given) :
    ∀ d q, q + d = 9 → wX_measure_134 post (nI i) (nI (sh_tk g i)) x3 xf_concepts xf_drafted xf_place xf_frames xf_node xf_frame xf_above xf_depth xf_top xf_lets xf_says xf_result (d + 1) (nI q) xa_tok xa_end xa_num xa_length xa_holes xa_draft xa_draftNum xa_copies xa_tokens xa_replaced xa_deep xa_lies (sh_blk xa_ofKind (9 * i) q (fun q => nI (sh_kb g i q))) xa_caller xa_number xa_size0 xa_size1 xa_size2 xa_uses0 xa_uses1 xa_uses2 xa_useAt xa_begun xa_workNode xa_stage xa_workFrame xa_values xa_bound xa_boundTo xa_output xa_given := by
  intro d
  induction d with
  | zero =>
    intro q hq; have e0 : q = 9 := by omega
    subst e0
    exact br_t (nI_le (Nat.le_refl _) (by omega)) (xs_operands (ho := sh_ho g) (by omega) (fun z => absurd hk (by omega)) ⟨N, K⟩)
  | succ d ih =>
    intro q hq
    have nx := ih (q + 1) (by omega)
    rw [← sh_blk_s xa_ofKind] at nx
    have e1 : (9 : Int32) * nI i + nI q = nI (9 * i + q) := sh_ix (w := 9)
    have i1 : vp_in ((9 : Int32) * nI i + nI q) 1512 := by rw [e1]; exact vp_in_nI (by omega) (by omega)
    have e2 : ∀ (c : Nat → Int32) x, upd c ((9 : Int32) * nI i + nI q).toNatClampNeg x = upd c (9 * i + q) x := fun c x => by rw [e1, nI_clamp (by omega)]
    refine br_f (show ¬ nI 9 ≤ nI q from nI_ge (by omega) (by omega)) (pk_eq (sh_tk g i) q (fun h9 => ⟨i1, nm_r ?_ (nm_r (nI_1 q) nx)⟩) (fun h9 => pk_eq (sh_tk g i) 10 (fun h10 => pk_eq q 0 (fun h0 => ⟨i1, nm_r ?_ (nm_r (nI_1 q) nx)⟩) (fun h0 => ⟨i1, nm_r ?_ (nm_r (nI_1 q) nx)⟩)) (fun h10 => ⟨i1, nm_r ?_ (nm_r (nI_1 q) nx)⟩)))
    · rw [e2, xs_nar1, show sh_kb g i q = 1 from if_pos (Or.inl h9)]
    · rw [e2, xs_nar1, show sh_kb g i q = 1 from if_pos (Or.inr ⟨h10, h0⟩)]
    · rw [e2, xs_nar0, show sh_kb g i q = 0 from if_neg (by omega)]
    · rw [e2, xs_nar0, show sh_kb g i q = 0 from if_neg (by omega)]
theorem xs_measure {post : SX → Prop} {g : sh_G} {i : Nat} (hi : i < 168) (hn : sh_an g i ≤ 3) (hk : sh_tk g i < 16) (ht : xa_tok i = nI (sh_tk g i)) (hm : xa_num i = sh_nm g i)
    (HE : xs_HE g xa_end xa_copies xa_tokens xa_replaced xa_deep xa_lies xa_ofKind i) (LQ : sh_LQ g i) (DQ : sh_DQ g i)
    (K : ∀ x l, (sh_T g i ≤ 2000 → x = nI (sh_D g i) ∧ ∀ h, h < 3 → l h = nI (sh_L g i h) - 1) → post (xf_concepts, xf_drafted, xf_place, xf_frames, xf_node, xf_frame, xf_above, xf_depth, xf_top, xf_lets, xf_says, xf_result, xa_tok, xa_end, xa_num, xa_length, xa_holes, xa_draft, xa_draftNum, sh_blk xa_copies (3 * i) 3 (fun h => nI (sh_sat (sh_C g i h))), upd xa_tokens i (nI (sh_sat (sh_T g i))), upd xa_replaced i (nI (sh_sat (sh_R g i))), upd xa_deep i x, sh_blk xa_lies (3 * i) 3 l, sh_blk xa_ofKind (9 * i) 9 (fun q => nI (sh_sat (sh_K g i q))), xa_caller, xa_number, xa_size0, xa_size1, xa_size2, xa_uses0, xa_uses1, xa_uses2, xa_useAt, xa_begun, xa_workNode, xa_stage, xa_workFrame, xa_values, xa_bound, xa_boundTo, xa_output, xa_given)) :
    wpX_measure post (xf_concepts, xf_drafted, xf_place, xf_frames, xf_node, xf_frame, xf_above, xf_depth, xf_top, xf_lets, xf_says, xf_result, xa_tok, xa_end, xa_num, xa_length, xa_holes, xa_draft, xa_draftNum, xa_copies, xa_tokens, xa_replaced, xa_deep, xa_lies, xa_ofKind, xa_caller, xa_number, xa_size0, xa_size1, xa_size2, xa_uses0, xa_uses1, xa_uses2, xa_useAt, xa_begun, xa_workNode, xa_stage, xa_workFrame, xa_values, xa_bound, xa_boundTo, xa_output, xa_given) (nI i) := by
  have hin : vp_in (nI i) 168 := vp_in_nI hi (by omega)
  have L := xs_m189 (post := post) hi hn hk HE LQ DQ K (sh_an g i) 0 (Nat.zero_add _) (nI (sh_tb g i)) (fun h => nI (sh_cb g i h) - 1) (fun _ => ⟨by rw [show sh_max (sh_tb g i) (sh_mx 0 (fun j => sh_D g (sh_op g i j) + 1)) = sh_tb g i from sh_max_0 _], fun h _ => by rw [show sh_max (sh_cb g i h) (sh_mx 0 (fun j => if sh_L g (sh_op g i j) h = 0 then 0 else sh_L g (sh_op g i j) h + 1)) = sh_cb g i h from sh_max_0 _]⟩)
  have E1 : (fun h => nI (sh_sat (sh_cb g i h + sh_sm 0 (fun j => sh_C g (sh_op g i j) h)))) = fun h => nI (sh_cb g i h) := by
    funext h
    rw [show sh_cb g i h + sh_sm 0 (fun j => sh_C g (sh_op g i j) h) = sh_cb g i h from rfl, sh_sat_id (by have := sh_cb_le g i h; omega)]
  have E2 : (fun q => nI (sh_sat (sh_kb g i q + sh_sm 0 (fun j => sh_K g (sh_op g i j) q)))) = fun q => nI (sh_kb g i q) := by
    funext h
    rw [show sh_kb g i h + sh_sm 0 (fun j => sh_K g (sh_op g i j) h) = sh_kb g i h from rfl, sh_sat_id (by have := sh_kb_le g i h; omega)]
  have E3 : nI (sh_sat (sh_tb g i + sh_sm 0 (fun j => sh_T g (sh_op g i j)))) = nI (sh_tb g i) := by
    rw [show sh_tb g i + sh_sm 0 (fun j => sh_T g (sh_op g i j)) = sh_tb g i from rfl, sh_sat_id (by have := sh_tb_le g i; omega)]
  have E4 : nI (sh_sat (0 + sh_sm 0 (fun j => sh_R g (sh_op g i j)))) = nI 0 := rfl
  rw [E1, E2, E3, E4] at L
  have K110 : wX_measure_110 post (nI i) (nI (sh_tk g i)) (nI (i + 1)) (nI (sh_tb g i)) (nI i) xf_concepts xf_drafted xf_place xf_frames xf_node xf_frame xf_above xf_depth xf_top xf_lets xf_says xf_result xa_tok xa_end xa_num xa_length xa_holes xa_draft xa_draftNum (sh_blk xa_copies (3 * i) 3 (fun h => nI (sh_cb g i h))) xa_tokens xa_replaced xa_deep (sh_blk xa_lies (3 * i) 3 (fun h => nI (sh_cb g i h) - 1)) xa_ofKind xa_caller xa_number xa_size0 xa_size1 xa_size2 xa_uses0 xa_uses1 xa_uses2 xa_useAt xa_begun xa_workNode xa_stage xa_workFrame xa_values xa_bound xa_boundTo xa_output xa_given := by
    refine ⟨hin, nm_r (e' := upd xa_tokens i (nI (sh_tb g i))) (by rw [nI_clamp (by omega), sh_n16 (by have := sh_tb_le g i; omega)]) ⟨hin, nm_r (e' := upd xa_replaced i (nI 0)) (by rw [nI_clamp (by omega), xs_nar0']) ⟨hin, hin, nm_r (e' := upd xa_deep i (nI (sh_tb g i))) (by rw [nI_clamp (by omega), pk_us, sh_n16' (by have := sh_tb_le g i; omega)]) ⟨10, ?_⟩⟩⟩⟩
    have M := xs_m134 (post := post) (g := g) (x3 := nI (i + 1)) hi hk _ L 9 0 rfl
    rw [sh_blk_0] at M
    exact M
  refine ⟨hin, nm_r (e' := nI (sh_tk g i)) (by rw [nI_clamp (by omega)]; exact ht) (nm_r (nI_1 i) ⟨4, ?_⟩)⟩
  have M := xs_m14 (post := post) (g := g) (x3 := nI (i + 1)) hi (by omega) hm K110 3 0 rfl
  rw [sh_blk_0, sh_blk_0] at M
  exact M
end XM3
end
section
/-! X: measureUse -/
def xs_dq (x de dn : Int32) : Int32 := if dn < 0 then x else if de + dn ≤ x then x else vp_nar .short (xs_lst (de + dn)).toInt16.toInt32
def xs_lq (l le dn : Int32) : Int32 := if dn < 0 then l else if le < 0 then l else if le + dn ≤ l then l else vp_nar .short (xs_lst (le + dn)).toInt16.toInt32
theorem xs_dq_n {a b c : Nat} (ha : a ≤ 2001) (hb : b + c ≤ 2002) : xs_dq (nI a) (nI b) (nI c - 1) = nI (sh_max a (sh_pl c b)) := by
  unfold xs_dq sh_max sh_pl
  by_cases hc : c = 0
  · subst hc
    rw [if_pos (by decide), if_pos rfl]
    split
    · have : a = 0 := by omega
      rw [this]
    · rfl
  · obtain ⟨m, rfl⟩ : ∃ m, c = m + 1 := ⟨c - 1, by omega⟩
    rw [if_neg (fun z => hc ((sh_m1n (by omega)).mp z)), sh_m1a, nI_add, if_neg hc]
    have e : m + 1 - 1 + b = b + m := by omega
    rw [e]
    by_cases h : b + m ≤ a
    · rw [if_pos (nI_le h (by omega))]
      split
      · have : a = b + m := by omega
        rw [this]
      · rfl
    · rw [if_neg (nI_ge (by omega) (by omega)), if_pos (by omega), xs_lst_nI (by omega), sh_sat_id (by omega), sh_n16 (by omega)]
theorem xs_lq_n {a b c : Nat} (ha : a ≤ 2002) (hb : b + c ≤ 2003) : xs_lq (nI a - 1) (nI b - 1) (nI c - 1) = nI (sh_max a (sh_pq c b)) - 1 := by
  unfold xs_lq sh_max sh_pq sh_pl
  by_cases hc : c = 0
  · subst hc
    rw [if_pos (by decide)]
    have e : (if b = 0 then 0 else if (0 : Nat) = 0 then 0 else 0 - 1 + b) = 0 := by split <;> simp
    rw [e]
    split
    · have : a = 0 := by omega
      rw [this]
    · rfl
  · rw [if_neg (fun z => hc ((sh_m1n (by omega)).mp z))]
    by_cases h0 : b = 0
    · subst h0
      rw [if_pos (by decide), if_pos rfl]
      split
      · have : a = 0 := by omega
        rw [this]
      · rfl
    · rw [if_neg (fun z => h0 ((sh_m1n (by omega)).mp z)), if_neg h0, if_neg hc]
      obtain ⟨m, rfl⟩ : ∃ m, c = m + 1 := ⟨c - 1, by omega⟩
      obtain ⟨k, rfl⟩ : ∃ k, b = k + 1 := ⟨b - 1, by omega⟩
      rw [sh_m1a, sh_m1a, nI_add, show m + 1 - 1 + (k + 1) = k + m + 1 by omega]
      by_cases h : k + m + 1 ≤ a
      · have q : nI (k + m) ≤ nI a - 1 := by
          obtain ⟨y, rfl⟩ : ∃ y, a = y + 1 := ⟨a - 1, by omega⟩
          rw [sh_m1a]; exact nI_le (by omega) (by omega)
        rw [if_pos q]
        split
        · have : a = k + m + 1 := by omega
          rw [this]
        · rfl
      · have q : ¬ nI (k + m) ≤ nI a - 1 := by
          intro z
          have z2 := z
          rw [← sh_m1a (k + m), sh_m1le (by omega) (by omega)] at z2
          omega
        rw [if_neg q, if_pos (by omega), xs_lst_nI (by omega), sh_sat_id (by omega), sh_n16 (by omega), sh_m1a]
section XU
variable {xf_concepts xf_drafted xf_place xf_frames xf_node xf_frame xf_above xf_depth xf_top xf_lets xf_says xf_result : Int32} {xa_tok xa_end xa_num xa_length xa_holes xa_draft xa_draftNum xa_copies xa_tokens xa_replaced xa_deep xa_lies xa_ofKind xa_caller xa_number xa_size0 xa_size1 xa_size2 xa_uses0 xa_uses1 xa_uses2 xa_useAt xa_begun xa_workNode xa_stage xa_workFrame xa_values xa_bound xa_boundTo xa_output xa_given : Nat → Int32}
theorem xs_u231 {post : SX → Prop} {J : (Int32 → Int32 → Int32 → Int32 → Int32 → Int32 → Int32 → Int32 → Int32 → Int32 → Int32 → Int32 → Int32 → Int32 → (Nat → Int32) → (Nat → Int32) → (Nat → Int32) → (Nat → Int32) → (Nat → Int32) → (Nat → Int32) → (Nat → Int32) → (Nat → Int32) → (Nat → Int32) → (Nat → Int32) → (Nat → Int32) → (Nat → Int32) → (Nat → Int32) → (Nat → Int32) → (Nat → Int32) → (Nat → Int32) → (Nat → Int32) → (Nat → Int32) → (Nat → Int32) → (Nat → Int32) → (Nat → Int32) → (Nat → Int32) → (Nat → Int32) → (Nat → Int32) → (Nat → Int32) → (Nat → Int32) → (Nat → Int32) → (Nat → Int32) → (Nat → Int32) → (Nat → Int32) → (Nat → Int32) → Prop)} {i e e' j : Nat} {x2 dn : Int32} (hi : i < 168) (he : e < 168) (hne : e ≠ i) (hen : xa_end e &&& 255 = nI e')
    (K : J (nI e') (nI (j + 1)) xf_concepts xf_drafted xf_place xf_frames xf_node xf_frame xf_above xf_depth xf_top xf_lets xf_says xf_result xa_tok xa_end xa_num xa_length xa_holes xa_draft xa_draftNum xa_copies xa_tokens xa_replaced xa_deep (sh_blk xa_lies (3 * i) 3 (fun h => xs_lq (xa_lies (3 * i + h)) (xa_lies (3 * e + h)) dn)) xa_ofKind xa_caller xa_number xa_size0 xa_size1 xa_size2 xa_uses0 xa_uses1 xa_uses2 xa_useAt xa_begun xa_workNode xa_stage xa_workFrame xa_values xa_bound xa_boundTo xa_output xa_given) : ∀ d q, q + d = 3 →
    wX_measureUse_231 post J (nI i) x2 (nI e) (nI j) dn xf_concepts xf_drafted xf_place xf_frames xf_node xf_frame xf_above xf_depth xf_top xf_lets xf_says xf_result (d + 1) (nI q) xa_tok xa_end xa_num xa_length xa_holes xa_draft xa_draftNum xa_copies xa_tokens xa_replaced xa_deep (sh_blk xa_lies (3 * i) q (fun h => xs_lq (xa_lies (3 * i + h)) (xa_lies (3 * e + h)) dn)) xa_ofKind xa_caller xa_number xa_size0 xa_size1 xa_size2 xa_uses0 xa_uses1 xa_uses2 xa_useAt xa_begun xa_workNode xa_stage xa_workFrame xa_values xa_bound xa_boundTo xa_output xa_given := by
  intro d
  induction d with
  | zero =>
    intro q hq; have e0 : q = 3 := by omega
    subst e0
    refine br_t (nI_le (Nat.le_refl _) (by omega)) ⟨vp_in_nI he (by omega), nm_r (e' := nI e') ?_ (nm_r (nI_1 j) K)⟩
    rw [nI_clamp (by omega)]; exact hen
  | succ d ih =>
    intro q hq
    have e1 : (3 : Int32) * nI i + nI q = nI (3 * i + q) := sh_ix (w := 3)
    have e2 : (3 : Int32) * nI e + nI q = nI (3 * e + q) := sh_ix (w := 3)
    have i1 : vp_in ((3 : Int32) * nI i + nI q) 504 := by rw [e1]; exact vp_in_nI (by omega) (by omega)
    have i2 : vp_in ((3 : Int32) * nI e + nI q) 504 := by rw [e2]; exact vp_in_nI (by omega) (by omega)
    have c1 : sh_blk xa_lies (3 * i) q (fun h => xs_lq (xa_lies (3 * i + h)) (xa_lies (3 * e + h)) dn) ((3 : Int32) * nI i + nI q).toNatClampNeg = xa_lies (3 * i + q) := by
      rw [e1, nI_clamp (by omega)]; exact sh_blk_o (by omega)
    have c2 : sh_blk xa_lies (3 * i) q (fun h => xs_lq (xa_lies (3 * i + h)) (xa_lies (3 * e + h)) dn) ((3 : Int32) * nI e + nI q).toNatClampNeg = xa_lies (3 * e + q) := by
      rw [e2, nI_clamp (by omega)]; exact sh_blk_o (by omega)
    have nx := ih (q + 1) (by omega)
    refine br_f (show ¬ nI 3 ≤ nI q from nI_ge (by omega) (by omega)) ?_
    by_cases h0 : dn < 0
    · refine br_t h0 (nm_r (nI_1 q) ?_)
      rw [sh_blk_k (by unfold xs_lq; rw [if_pos h0])] at nx
      exact nx
    · refine br_f h0 ⟨i2, ?_⟩
      rw [c1, c2]
      by_cases h1 : xa_lies (3 * e + q) < 0
      · refine br_t h1 (nm_r (nI_1 q) ?_)
        rw [sh_blk_k (by unfold xs_lq; rw [if_neg h0, if_pos h1])] at nx
        exact nx
      · refine br_f h1 ⟨i2, i1, ?_⟩
        by_cases h2 : xa_lies (3 * e + q) + dn ≤ xa_lies (3 * i + q)
        · refine br_t h2 (nm_r (nI_1 q) ?_)
          rw [sh_blk_k (by unfold xs_lq; rw [if_neg h0, if_neg h1, if_pos h2])] at nx
          exact nx
        · refine br_f h2 ⟨i2, xs_least ⟨i1, nm_r ?_ (nm_r (nI_1 q) nx)⟩⟩
          rw [e1, nI_clamp (by omega), ← sh_blk_s]
          congr 1
          show _ = xs_lq _ _ _
          unfold xs_lq
          rw [if_neg h0, if_neg h1, if_neg h2]
theorem xs_u141s {post : SX → Prop} {ho : Nat → Nat} {n i e e' j rt k : Nat} (hi : i < 168) (he : e < 168) (hne : e ≠ i) (hrt : rt < 72) (hj : j < 3) (hen : xa_end e &&& 255 = nI e')
    (hk : k < 22) (hk16 : 16 ≤ k) (ht : xa_tok i = nI k) (hh : xa_holes (k - 16) = nI (ho (k - 16))) (hjn : j < sh_ar ho k) (hn3 : sh_ar ho k ≤ 3)
    (K : wX_measureUse_141 post (nI i) (nI rt) n (nI e') (nI (j + 1)) xf_concepts xf_drafted xf_place xf_frames xf_node xf_frame xf_above xf_depth xf_top xf_lets xf_says xf_result xa_tok xa_end xa_num xa_length xa_holes xa_draft xa_draftNum (xs_A 3 xa_copies i e (xa_copies (3 * rt + j))) (xs_A1 xa_tokens i e (xa_copies (3 * rt + j))) (xs_A1 xa_replaced i e (xa_copies (3 * rt + j))) (upd xa_deep i (xs_dq (xa_deep i) (xa_deep e) (xa_lies (3 * rt + j)))) (sh_blk xa_lies (3 * i) 3 (fun h => xs_lq (xa_lies (3 * i + h)) (xa_lies (3 * e + h)) (xa_lies (3 * rt + j)))) (xs_A 9 xa_ofKind i e (xa_copies (3 * rt + j))) xa_caller xa_number xa_size0 xa_size1 xa_size2 xa_uses0 xa_uses1 xa_uses2 xa_useAt xa_begun xa_workNode xa_stage xa_workFrame xa_values xa_bound xa_boundTo xa_output xa_given) :
    wX_measureUse_141 post (nI i) (nI rt) (n + 1) (nI e) (nI j) xf_concepts xf_drafted xf_place xf_frames xf_node xf_frame xf_above xf_depth xf_top xf_lets xf_says xf_result xa_tok xa_end xa_num xa_length xa_holes xa_draft xa_draftNum xa_copies xa_tokens xa_replaced xa_deep xa_lies xa_ofKind xa_caller xa_number xa_size0 xa_size1 xa_size2 xa_uses0 xa_uses1 xa_uses2 xa_useAt xa_begun xa_workNode xa_stage xa_workFrame xa_values xa_bound xa_boundTo xa_output xa_given := by
  have e1 : (3 : Int32) * nI rt + nI j = nI (3 * rt + j) := sh_ix (w := 3)
  have i1 : vp_in ((3 : Int32) * nI rt + nI j) 504 := by rw [e1]; exact vp_in_nI (by omega) (by omega)
  refine ⟨vp_in_nI hi (by omega), ?_⟩
  rw [nI_clamp (n := i) (by omega), ht, e1, nI_clamp (n := 3 * rt + j) (by omega)]
  rw [e1] at i1
  refine xs_operands (ho := ho) hk (fun _ => hh) (br_f (nI_ge hjn (by omega)) ⟨i1, nm_e ⟨i1, xs_add hi he hne ?_⟩⟩)
  by_cases h0 : xa_lies (3 * rt + j) < 0
  · refine br_t h0 ⟨4, ?_⟩
    have L := xs_u231 (post := post) (x2 := nI rt) (J := wX_measureUse_141 post (nI i) (nI rt) n) (xa_copies := xs_A 3 xa_copies i e (xa_copies (3 * rt + j))) (xa_tokens := xs_A1 xa_tokens i e (xa_copies (3 * rt + j))) (xa_replaced := xs_A1 xa_replaced i e (xa_copies (3 * rt + j))) (xa_ofKind := xs_A 9 xa_ofKind i e (xa_copies (3 * rt + j))) hi he hne hen
      (by unfold xs_dq at K; rw [if_pos h0, sh_upd_id] at K; exact K) 3 0 rfl
    rw [sh_blk_0] at L
    exact L
  · refine br_f h0 ⟨vp_in_nI he (by omega), vp_in_nI hi (by omega), ?_⟩
    rw [nI_clamp (n := e) (by omega)]
    by_cases h : xa_deep e + xa_lies (3 * rt + j) ≤ xa_deep i
    · refine br_t h ⟨4, ?_⟩
      have L := xs_u231 (post := post) (x2 := nI rt) (J := wX_measureUse_141 post (nI i) (nI rt) n) (xa_copies := xs_A 3 xa_copies i e (xa_copies (3 * rt + j))) (xa_tokens := xs_A1 xa_tokens i e (xa_copies (3 * rt + j))) (xa_replaced := xs_A1 xa_replaced i e (xa_copies (3 * rt + j))) (xa_ofKind := xs_A 9 xa_ofKind i e (xa_copies (3 * rt + j))) hi he hne hen
        (by unfold xs_dq at K; rw [if_neg h0, if_pos h, sh_upd_id] at K; exact K) 3 0 rfl
      rw [sh_blk_0] at L
      exact L
    · refine br_f h ⟨vp_in_nI he (by omega), xs_least ⟨vp_in_nI hi (by omega), nm_r (e' := upd xa_deep i (vp_nar .short (xs_lst (xa_deep e + xa_lies (3 * rt + j))).toInt16.toInt32)) rfl ⟨4, ?_⟩⟩⟩
      have L := xs_u231 (post := post) (x2 := nI rt) (J := wX_measureUse_141 post (nI i) (nI rt) n) (xa_copies := xs_A 3 xa_copies i e (xa_copies (3 * rt + j))) (xa_tokens := xs_A1 xa_tokens i e (xa_copies (3 * rt + j))) (xa_replaced := xs_A1 xa_replaced i e (xa_copies (3 * rt + j))) (xa_ofKind := xs_A 9 xa_ofKind i e (xa_copies (3 * rt + j))) (xa_deep := upd xa_deep i (vp_nar .short (xs_lst (xa_deep e + xa_lies (3 * rt + j))).toInt16.toInt32)) hi he hne hen
        (by unfold xs_dq at K; rw [if_neg h0, if_neg h] at K; exact K) 3 0 rfl
      rw [sh_blk_0] at L
      exact L
end XU
end
section
theorem xs_dq_0 (x de : Int32) : xs_dq x de (nI 0 - 1) = x := by unfold xs_dq; rw [if_pos (by decide)]
theorem xs_lq_0 (x de : Int32) : xs_lq x de (nI 0 - 1) = x := by unfold xs_lq; rw [if_pos (by decide)]
theorem sh_max_z (a : Nat) : sh_max a 0 = a := by unfold sh_max; split <;> omega
theorem sh_mx_max (j : Nat) (f : Nat → Nat) : sh_max (sh_mx j f) (f j) = sh_mx (j + 1) f := rfl
section XU2
variable {xf_concepts xf_drafted xf_place xf_frames xf_node xf_frame xf_above xf_depth xf_top xf_lets xf_says xf_result : Int32} {xa_tok xa_end xa_num xa_length xa_holes xa_draft xa_draftNum xa_copies xa_tokens xa_replaced xa_deep xa_lies xa_ofKind xa_caller xa_number xa_size0 xa_size1 xa_size2 xa_uses0 xa_uses1 xa_uses2 xa_useAt xa_begun xa_workNode xa_stage xa_workFrame xa_values xa_bound xa_boundTo xa_output xa_given : Nat → Int32}
theorem xs_u141 {post : SX → Prop} {g : sh_G} {i rt : Nat} (hi : i < 168) (hn : sh_an g i ≤ 3) (hk : 16 ≤ sh_tk g i) (hk22 : sh_tk g i < 22) (ert : rt = sh_rt g i) (hrt : rt < 72) (hri : rt ≠ i)
    (ht : xa_tok i = nI (sh_tk g i)) (hh : xa_holes (sh_tk g i - 16) = nI (sh_ho g (sh_tk g i - 16)))
    (HE : xs_HE g xa_end xa_copies xa_tokens xa_replaced xa_deep xa_lies xa_ofKind i) (HR : xs_XN g xa_copies xa_tokens xa_replaced xa_deep xa_lies xa_ofKind rt) (DR : sh_DB g rt) (LQ : sh_LQ g i) (DQ : sh_DQ g i)
    (K : ∀ x l, (sh_T g i ≤ 2000 → x = nI (sh_D g i) ∧ ∀ h, h < 3 → l h = nI (sh_L g i h) - 1) → post (xf_concepts, xf_drafted, xf_place, xf_frames, xf_node, xf_frame, xf_above, xf_depth, xf_top, xf_lets, xf_says, xf_result, xa_tok, xa_end, xa_num, xa_length, xa_holes, xa_draft, xa_draftNum, sh_blk xa_copies (3 * i) 3 (fun h => nI (sh_sat (sh_C g i h))), upd xa_tokens i (nI (sh_sat (sh_T g i))), upd xa_replaced i (nI (sh_sat (sh_R g i))), upd xa_deep i x, sh_blk xa_lies (3 * i) 3 l, sh_blk xa_ofKind (9 * i) 9 (fun q => nI (sh_sat (sh_K g i q))), xa_caller, xa_number, xa_size0, xa_size1, xa_size2, xa_uses0, xa_uses1, xa_uses2, xa_useAt, xa_begun, xa_workNode, xa_stage, xa_workFrame, xa_values, xa_bound, xa_boundTo, xa_output, xa_given)) :
    ∀ d j, j + d = sh_an g i → ∀ x l, (sh_T g i ≤ 2000 → x = nI (sh_max (sh_D g rt) (sh_mx j (fun j => sh_pl (sh_L g rt j) (sh_D g (sh_op g i j))))) ∧ ∀ h, h < 3 → l h = nI (sh_mx j (fun j => sh_pq (sh_L g rt j) (sh_L g (sh_op g i j) h))) - 1) →
    wX_measureUse_141 post (nI i) (nI rt) (d + 1) (nI (sh_op g i j)) (nI j) xf_concepts xf_drafted xf_place xf_frames xf_node xf_frame xf_above xf_depth xf_top xf_lets xf_says xf_result xa_tok xa_end xa_num xa_length xa_holes xa_draft xa_draftNum (sh_blk xa_copies (3 * i) 3 (fun h => nI (sh_sat (sh_sm j (fun j => sh_C g rt j * sh_C g (sh_op g i j) h))))) (upd xa_tokens i (nI (sh_sat (0 + sh_T g rt + sh_sm j (fun j => sh_C g rt j * sh_T g (sh_op g i j)))))) (upd xa_replaced i (nI (sh_sat (1 + sh_R g rt + sh_sm j (fun j => sh_C g rt j * sh_R g (sh_op g i j)))))) (upd xa_deep i x) (sh_blk xa_lies (3 * i) 3 l) (sh_blk xa_ofKind (9 * i) 9 (fun q => nI (sh_sat (0 + sh_K g rt q + sh_sm j (fun j => sh_C g rt j * sh_K g (sh_op g i j) q))))) xa_caller xa_number xa_size0 xa_size1 xa_size2 xa_uses0 xa_uses1 xa_uses2 xa_useAt xa_begun xa_workNode xa_stage xa_workFrame xa_values xa_bound xa_boundTo xa_output xa_given := by
  have eT : sh_T g i = 0 + sh_T g rt + sh_sm (sh_an g i) (fun j => sh_C g rt j * sh_T g (sh_op g i j)) := by subst ert; exact LQ.1.2 hk
  have TC : ∀ k, k < sh_an g i → 1 ≤ sh_C g rt k → sh_T g rt + sh_T g (sh_op g i k) ≤ sh_T g i := by
    intro k hk2 hc
    have a := sh_sm_le (f := fun j => sh_C g rt j * sh_T g (sh_op g i j)) (sh_an g i) k hk2
    have b : 1 * sh_T g (sh_op g i k) ≤ sh_C g rt k * sh_T g (sh_op g i k) := Nat.mul_le_mul hc (Nat.le_refl _)
    omega
  intro d
  induction d with
  | zero =>
    intro j hj x l hc
    have ej : j = sh_an g i := by omega
    subst ej
    refine ⟨vp_in_nI hi (by omega), ?_⟩
    rw [nI_clamp (n := i) (by omega), ht]
    refine xs_operands (ho := sh_ho g) hk22 (fun _ => hh) (br_t (nI_le (Nat.le_refl _) (by have := hn; unfold sh_an at *; omega)) ?_)
    have E1 : sh_blk xa_copies (3 * i) 3 (fun h => nI (sh_sat (sh_sm (sh_an g i) (fun j => sh_C g rt j * sh_C g (sh_op g i j) h)))) = sh_blk xa_copies (3 * i) 3 (fun h => nI (sh_sat (sh_C g i h))) :=
      sh_blk_c (fun h hh => by rw [(LQ.2.2.2 h hh).2 hk, ert])
    have E2 : sh_blk xa_ofKind (9 * i) 9 (fun q => nI (sh_sat (0 + sh_K g rt q + sh_sm (sh_an g i) (fun j => sh_C g rt j * sh_K g (sh_op g i j) q)))) = sh_blk xa_ofKind (9 * i) 9 (fun q => nI (sh_sat (sh_K g i q))) :=
      sh_blk_c (fun q hq => congrArg (fun n => nI (sh_sat n)) (by subst ert; exact ((LQ.2.2.1 q hq).2 hk).symm))
    have E4 : 1 + sh_R g rt + sh_sm (sh_an g i) (fun j => sh_C g rt j * sh_R g (sh_op g i j)) = sh_R g i := by subst ert; exact (LQ.2.1.2 hk).symm
    rw [E1, E2, ← eT, E4]
    refine K x l (fun hT => ?_)
    have q := hc hT
    refine ⟨by rw [q.1, DQ.2.1 hk, ert], fun h hh => ?_⟩
    rw [q.2 h hh, (DQ.2.2 h hh).2 hk, ert]
  | succ d ih =>
    intro j hj x l hc
    have hja : j < sh_an g i := by omega
    obtain ⟨h1, h2, h3, hx, hd⟩ := HE j hja
    have hne : sh_op g i j ≠ i := by omega
    have C0 : sh_blk xa_copies (3 * i) 3 (fun h => nI (sh_sat (sh_sm j (fun j => sh_C g rt j * sh_C g (sh_op g i j) h)))) (3 * rt + j) = nI (sh_sat (sh_C g rt j)) := by
      rw [sh_blk_o (by omega)]; exact HR.2.2.1 j (by omega)
    have L0 : sh_blk xa_lies (3 * i) 3 l (3 * rt + j) = xa_lies (3 * rt + j) := sh_blk_o (by omega)
    have E1 : xs_A 3 (sh_blk xa_copies (3 * i) 3 (fun h => nI (sh_sat (sh_sm j (fun j => sh_C g rt j * sh_C g (sh_op g i j) h))))) i (sh_op g i j) (nI (sh_sat (sh_C g rt j))) = sh_blk xa_copies (3 * i) 3 (fun h => nI (sh_sat (sh_sm (j + 1) (fun j => sh_C g rt j * sh_C g (sh_op g i j) h)))) :=
      xs_A_n (τ := sh_C g rt j) (B := fun h => sh_C g (sh_op g i j) h) hne rfl hx.2.2.1
    have E2 : xs_A 9 (sh_blk xa_ofKind (9 * i) 9 (fun q => nI (sh_sat (0 + sh_K g rt q + sh_sm j (fun j => sh_C g rt j * sh_K g (sh_op g i j) q))))) i (sh_op g i j) (nI (sh_sat (sh_C g rt j))) = sh_blk xa_ofKind (9 * i) 9 (fun q => nI (sh_sat (0 + sh_K g rt q + sh_sm (j + 1) (fun j => sh_C g rt j * sh_K g (sh_op g i j) q)))) :=
      (xs_A_n (τ := sh_C g rt j) (B := fun h => sh_K g (sh_op g i j) h) hne rfl hx.2.2.2.1).trans (sh_blk_c (fun h hh => by rw [Nat.add_assoc (0 + sh_K g rt h)]; rfl))
    have E3 : xs_A1 (upd xa_tokens i (nI (sh_sat (0 + sh_T g rt + sh_sm j (fun j => sh_C g rt j * sh_T g (sh_op g i j)))))) i (sh_op g i j) (nI (sh_sat (sh_C g rt j))) = upd xa_tokens i (nI (sh_sat (0 + sh_T g rt + sh_sm (j + 1) (fun j => sh_C g rt j * sh_T g (sh_op g i j))))) := by
      refine (xs_A1_n (τ := sh_C g rt j) hne rfl hx.1).trans ?_
      rw [Nat.add_assoc (0 + sh_T g rt)]; rfl
    have E4 : xs_A1 (upd xa_replaced i (nI (sh_sat (1 + sh_R g rt + sh_sm j (fun j => sh_C g rt j * sh_R g (sh_op g i j)))))) i (sh_op g i j) (nI (sh_sat (sh_C g rt j))) = upd xa_replaced i (nI (sh_sat (1 + sh_R g rt + sh_sm (j + 1) (fun j => sh_C g rt j * sh_R g (sh_op g i j))))) := by
      refine (xs_A1_n (τ := sh_C g rt j) hne rfl hx.2.1).trans ?_
      rw [Nat.add_assoc (1 + sh_R g rt)]; rfl
    have E5 : upd (upd xa_deep i x) i (xs_dq (upd xa_deep i x i) (upd xa_deep i x (sh_op g i j)) (xa_lies (3 * rt + j))) = upd xa_deep i (xs_dq x (xa_deep (sh_op g i j)) (xa_lies (3 * rt + j))) := by
      rw [sh_upd_u, pk_us, pk_un hne]
    have E6 : sh_blk (sh_blk xa_lies (3 * i) 3 l) (3 * i) 3 (fun h => xs_lq (sh_blk xa_lies (3 * i) 3 l (3 * i + h)) (sh_blk xa_lies (3 * i) 3 l (3 * sh_op g i j + h)) (xa_lies (3 * rt + j))) = sh_blk xa_lies (3 * i) 3 (fun h => xs_lq (l h) (xa_lies (3 * sh_op g i j + h)) (xa_lies (3 * rt + j))) := by
      rw [sh_blk_b]
      exact sh_blk_c (fun h hh => by rw [sh_blk_i hh, sh_blk_o (by omega)])
    refine xs_u141s (ho := sh_ho g) (e' := sh_op g i (j + 1)) (k := sh_tk g i) hi h2 hne hrt (by omega) h3 hk22 hk ht hh hja hn ?_
    rw [C0, L0, E1, E2, E3, E4, E5, E6]
    refine ih (j + 1) (by omega) _ _ (fun hT => ?_)
    have q := hc hT
    have dr := HR.2.2.2.2 (by omega)
    have lrt := dr.2 j (by omega)
    rw [lrt]
    by_cases z : sh_L g rt j = 0
    · rw [z]
      refine ⟨?_, fun h hh => ?_⟩
      · rw [xs_dq_0, q.1, ← sh_max_mx _ j (fun j => sh_pl (sh_L g rt j) (sh_D g (sh_op g i j))), show sh_pl (sh_L g rt j) (sh_D g (sh_op g i j)) = 0 from if_pos z, sh_max_z]
      · show xs_lq (l h) _ _ = _
        rw [xs_lq_0, q.2 h hh, ← sh_mx_max j (fun j => sh_pq (sh_L g rt j) (sh_L g (sh_op g i j) h)), show sh_pq (sh_L g rt j) (sh_L g (sh_op g i j) h) = 0 by unfold sh_pq sh_pl; rw [z]; split <;> rfl, sh_max_z]
    · have bnd : ∀ k, k < sh_an g i → sh_L g rt k ≠ 0 → sh_T g rt + sh_T g (sh_op g i k) ≤ sh_T g i := by
        intro k hk2 hz
        refine TC k hk2 ?_
        have := (DR.2 k (by omega)).1
        have : sh_C g rt k ≠ 0 := fun z => hz (this.mpr z)
        omega
      have bT := bnd j hja z
      have de := hx.2.2.2.2 (by omega)
      have bL := (DR.2 j (by omega)).2
      have bD : sh_max (sh_D g rt) (sh_mx j (fun j => sh_pl (sh_L g rt j) (sh_D g (sh_op g i j)))) ≤ 2001 := by
        rw [sh_max_le, sh_mx_le]
        refine ⟨by have := DR.1; omega, fun k hk2 => sh_pl_le.mpr ?_⟩
        by_cases z2 : sh_L g rt k = 0
        · exact Or.inl z2
        · have := bnd k (by omega) z2
          have := (DR.2 k (by omega)).2
          have := (HE k (by omega)).2.2.2.2.1
          right; omega
      refine ⟨?_, fun h hh => ?_⟩
      · rw [q.1, de.1, xs_dq_n bD (by have := hd.1; omega), sh_max_mx _ j (fun j => sh_pl (sh_L g rt j) (sh_D g (sh_op g i j)))]
      · show xs_lq (l h) (xa_lies (3 * sh_op g i j + h)) _ = _
        have bQ : sh_mx j (fun j => sh_pq (sh_L g rt j) (sh_L g (sh_op g i j) h)) ≤ 2002 := by
          rw [sh_mx_le]
          intro k hk2
          unfold sh_pq sh_pl
          by_cases z2 : sh_L g rt k = 0
          · rw [if_pos z2]; split <;> omega
          · have := bnd k (by omega) z2
            have := (DR.2 k (by omega)).2
            have := ((HE k (by omega)).2.2.2.2.2 h hh).2
            rw [if_neg z2]; split <;> omega
        rw [q.2 h hh, de.2 h hh, xs_lq_n bQ (by have := (hd.2 h hh).2; omega)]; rfl
end XU2
end
section
/-! X: measureUse whole, take -/
section XT
variable {xf_concepts xf_drafted xf_place xf_frames xf_node xf_frame xf_above xf_depth xf_top xf_lets xf_says xf_result : Int32} {xa_tok xa_end xa_num xa_length xa_holes xa_draft xa_draftNum xa_copies xa_tokens xa_replaced xa_deep xa_lies xa_ofKind xa_caller xa_number xa_size0 xa_size1 xa_size2 xa_uses0 xa_uses1 xa_uses2 xa_useAt xa_begun xa_workNode xa_stage xa_workFrame xa_values xa_bound xa_boundTo xa_output xa_given : Nat → Int32}
theorem xs_u20 {post : SX → Prop} {i : Nat} {x2 x3 : Int32} (hi : i < 168)
    (K : wX_measureUse_20 post (nI i) x2 x3 xf_concepts xf_drafted xf_place xf_frames xf_node xf_frame xf_above xf_depth xf_top xf_lets xf_says xf_result 1 (nI 3) xa_tok xa_end xa_num xa_length xa_holes xa_draft xa_draftNum (sh_blk xa_copies (3 * i) 3 (fun _ => nI 0)) xa_tokens xa_replaced xa_deep (sh_blk xa_lies (3 * i) 3 (fun _ => nI 0 - 1)) xa_ofKind xa_caller xa_number xa_size0 xa_size1 xa_size2 xa_uses0 xa_uses1 xa_uses2 xa_useAt xa_begun xa_workNode xa_stage xa_workFrame xa_values xa_bound xa_boundTo xa_output xa_given) :
    ∀ d q, q + d = 3 → wX_measureUse_20 post (nI i) x2 x3 xf_concepts xf_drafted xf_place xf_frames xf_node xf_frame xf_above xf_depth xf_top xf_lets xf_says xf_result (d + 1) (nI q) xa_tok xa_end xa_num xa_length xa_holes xa_draft xa_draftNum (sh_blk xa_copies (3 * i) q (fun _ => nI 0)) xa_tokens xa_replaced xa_deep (sh_blk xa_lies (3 * i) q (fun _ => nI 0 - 1)) xa_ofKind xa_caller xa_number xa_size0 xa_size1 xa_size2 xa_uses0 xa_uses1 xa_uses2 xa_useAt xa_begun xa_workNode xa_stage xa_workFrame xa_values xa_bound xa_boundTo xa_output xa_given := by
  intro d
  induction d with
  | zero =>
    intro q hq; have e0 : q = 3 := by omega
    subst e0
    exact K
  | succ d ih =>
    intro q hq
    have e1 : (3 : Int32) * nI i + nI q = nI (3 * i + q) := sh_ix (w := 3)
    have i1 : vp_in ((3 : Int32) * nI i + nI q) 504 := by rw [e1]; exact vp_in_nI (by omega) (by omega)
    have nx := ih (q + 1) (by omega)
    rw [← sh_blk_s xa_copies, ← sh_blk_s xa_lies] at nx
    refine br_f (show ¬ nI 3 ≤ nI q from nI_ge (by omega) (by omega)) ⟨i1, nm_r ?_ ⟨i1, nm_r ?_ (nm_r (nI_1 q) nx)⟩⟩
    · rw [e1, nI_clamp (by omega), xs_nar0']
    · rw [e1, nI_clamp (by omega), sh_n16m']; congr 1
theorem xs_u101 {post : SX → Prop} {i rt : Nat} {x3 : Int32} {f : Nat → Int32} (hi : i < 168) (hrt : rt < 168) (hne : rt ≠ i) (hf : ∀ q, q < 9 → vp_nar .short (xa_ofKind (9 * rt + q)) = f q) (N : Nat)
    (K : wX_measureUse_141 post (nI i) (nI rt) N x3 0 xf_concepts xf_drafted xf_place xf_frames xf_node xf_frame xf_above xf_depth xf_top xf_lets xf_says xf_result xa_tok xa_end xa_num xa_length xa_holes xa_draft xa_draftNum xa_copies xa_tokens xa_replaced xa_deep xa_lies (sh_blk xa_ofKind (9 * i) 9 f) xa_caller xa_number xa_size0 xa_size1 xa_size2 xa_uses0 xa_uses1 xa_uses2 xa_useAt xa_begun xa_workNode xa_stage xa_workFrame xa_values xa_bound xa_boundTo xa_output xa_given) :
    ∀ d q, q + d = 9 → wX_measureUse_101 post (nI i) (nI rt) x3 xf_concepts xf_drafted xf_place xf_frames xf_node xf_frame xf_above xf_depth xf_top xf_lets xf_says xf_result (d + 1) (nI q) xa_tok xa_end xa_num xa_length xa_holes xa_draft xa_draftNum xa_copies xa_tokens xa_replaced xa_deep xa_lies (sh_blk xa_ofKind (9 * i) q f) xa_caller xa_number xa_size0 xa_size1 xa_size2 xa_uses0 xa_uses1 xa_uses2 xa_useAt xa_begun xa_workNode xa_stage xa_workFrame xa_values xa_bound xa_boundTo xa_output xa_given := by
  intro d
  induction d with
  | zero =>
    intro q hq; have e0 : q = 9 := by omega
    subst e0
    exact br_t (nI_le (Nat.le_refl _) (by omega)) ⟨N, K⟩
  | succ d ih =>
    intro q hq
    have nx := ih (q + 1) (by omega)
    rw [← sh_blk_s xa_ofKind] at nx
    have e1 : (9 : Int32) * nI i + nI q = nI (9 * i + q) := sh_ix (w := 9)
    have e2 : (9 : Int32) * nI rt + nI q = nI (9 * rt + q) := sh_ix (w := 9)
    have i1 : vp_in ((9 : Int32) * nI i + nI q) 1512 := by rw [e1]; exact vp_in_nI (by omega) (by omega)
    have i2 : vp_in ((9 : Int32) * nI rt + nI q) 1512 := by rw [e2]; exact vp_in_nI (by omega) (by omega)
    refine br_f (show ¬ nI 9 ≤ nI q from nI_ge (by omega) (by omega)) ⟨i2, i1, nm_r ?_ (nm_r (nI_1 q) nx)⟩
    rw [e1, e2, nI_clamp (by omega), nI_clamp (by omega), sh_blk_o (j := 9 * rt + q) (by omega), hf q (by omega)]
theorem xs_measureUse {post : SX → Prop} {g : sh_G} {i : Nat} (hi : i < 168) (hn : sh_an g i ≤ 3) (hk : 16 ≤ sh_tk g i) (hk22 : sh_tk g i < 22) (hri : sh_rt g i ≠ i)
    (ht : xa_tok i = nI (sh_tk g i)) (hh : xa_holes (sh_tk g i - 16) = nI (sh_ho g (sh_tk g i - 16)))
    (HE : xs_HE g xa_end xa_copies xa_tokens xa_replaced xa_deep xa_lies xa_ofKind i) (HR : xs_XN g xa_copies xa_tokens xa_replaced xa_deep xa_lies xa_ofKind (sh_rt g i)) (DR : sh_DB g (sh_rt g i)) (LQ : sh_LQ g i) (DQ : sh_DQ g i)
    (K : ∀ x l, (sh_T g i ≤ 2000 → x = nI (sh_D g i) ∧ ∀ h, h < 3 → l h = nI (sh_L g i h) - 1) → post (xf_concepts, xf_drafted, xf_place, xf_frames, xf_node, xf_frame, xf_above, xf_depth, xf_top, xf_lets, xf_says, xf_result, xa_tok, xa_end, xa_num, xa_length, xa_holes, xa_draft, xa_draftNum, sh_blk xa_copies (3 * i) 3 (fun h => nI (sh_sat (sh_C g i h))), upd xa_tokens i (nI (sh_sat (sh_T g i))), upd xa_replaced i (nI (sh_sat (sh_R g i))), upd xa_deep i x, sh_blk xa_lies (3 * i) 3 l, sh_blk xa_ofKind (9 * i) 9 (fun q => nI (sh_sat (sh_K g i q))), xa_caller, xa_number, xa_size0, xa_size1, xa_size2, xa_uses0, xa_uses1, xa_uses2, xa_useAt, xa_begun, xa_workNode, xa_stage, xa_workFrame, xa_values, xa_bound, xa_boundTo, xa_output, xa_given)) :
    wpX_measureUse post (xf_concepts, xf_drafted, xf_place, xf_frames, xf_node, xf_frame, xf_above, xf_depth, xf_top, xf_lets, xf_says, xf_result, xa_tok, xa_end, xa_num, xa_length, xa_holes, xa_draft, xa_draftNum, xa_copies, xa_tokens, xa_replaced, xa_deep, xa_lies, xa_ofKind, xa_caller, xa_number, xa_size0, xa_size1, xa_size2, xa_uses0, xa_uses1, xa_uses2, xa_useAt, xa_begun, xa_workNode, xa_stage, xa_workFrame, xa_values, xa_bound, xa_boundTo, xa_output, xa_given) (nI i) := by
  have hrt : sh_rt g i < 72 := by unfold sh_rt; omega
  have hin : vp_in (nI i) 168 := vp_in_nI hi (by omega)
  have hir : vp_in (nI (sh_rt g i)) 168 := vp_in_nI (by omega) (by omega)
  have eT : sh_T g i = 0 + sh_T g (sh_rt g i) + sh_sm (sh_an g i) (fun j => sh_C g (sh_rt g i) j * sh_T g (sh_op g i j)) := LQ.1.2 hk
  have L := xs_u141 (post := post) hi hn hk hk22 rfl hrt hri ht hh HE HR DR LQ DQ K (sh_an g i) 0 (Nat.zero_add _) (vp_nar .short (xa_deep (sh_rt g i))) (fun _ => nI 0 - 1) (fun hT => by
    have q := HR.2.2.2.2 (by omega)
    refine ⟨?_, fun h _ => rfl⟩
    rw [q.1, sh_n16' (by have := DR.1; omega)]
    exact congrArg nI (sh_max_0 _).symm)
  have E1 : (fun h => nI (sh_sat (sh_sm 0 (fun j => sh_C g (sh_rt g i) j * sh_C g (sh_op g i j) h)))) = fun _ => nI 0 := rfl
  have E2 : (fun q => nI (sh_sat (0 + sh_K g (sh_rt g i) q + sh_sm 0 (fun j => sh_C g (sh_rt g i) j * sh_K g (sh_op g i j) q)))) = fun q => nI (sh_sat (sh_K g (sh_rt g i) q)) := by
    funext h
    rw [show 0 + sh_K g (sh_rt g i) h + sh_sm 0 (fun j => sh_C g (sh_rt g i) j * sh_K g (sh_op g i j) h) = 0 + sh_K g (sh_rt g i) h from rfl, Nat.zero_add]
  have E3 : nI (sh_sat (0 + sh_T g (sh_rt g i) + sh_sm 0 (fun j => sh_C g (sh_rt g i) j * sh_T g (sh_op g i j)))) = nI (sh_sat (sh_T g (sh_rt g i))) := by
    rw [show 0 + sh_T g (sh_rt g i) + sh_sm 0 (fun j => sh_C g (sh_rt g i) j * sh_T g (sh_op g i j)) = 0 + sh_T g (sh_rt g i) from rfl, Nat.zero_add]
  have E4 : nI (sh_sat (1 + sh_R g (sh_rt g i) + sh_sm 0 (fun j => sh_C g (sh_rt g i) j * sh_R g (sh_op g i j)))) = nI (sh_sat (sh_R g (sh_rt g i) + 1)) := by
    rw [show 1 + sh_R g (sh_rt g i) + sh_sm 0 (fun j => sh_C g (sh_rt g i) j * sh_R g (sh_op g i j)) = 1 + sh_R g (sh_rt g i) from rfl, Nat.add_comm]
  rw [E1, E2, E3, E4] at L
  have K20 : wX_measureUse_20 post (nI i) (nI (sh_rt g i)) (nI (i + 1)) xf_concepts xf_drafted xf_place xf_frames xf_node xf_frame xf_above xf_depth xf_top xf_lets xf_says xf_result 1 (nI 3) xa_tok xa_end xa_num xa_length xa_holes xa_draft xa_draftNum (sh_blk xa_copies (3 * i) 3 (fun _ => nI 0)) xa_tokens xa_replaced xa_deep (sh_blk xa_lies (3 * i) 3 (fun _ => nI 0 - 1)) xa_ofKind xa_caller xa_number xa_size0 xa_size1 xa_size2 xa_uses0 xa_uses1 xa_uses2 xa_useAt xa_begun xa_workNode xa_stage xa_workFrame xa_values xa_bound xa_boundTo xa_output xa_given := by
    refine br_t (nI_le (Nat.le_refl _) (by omega)) ⟨hir, hin, nm_r (e' := upd xa_tokens i (nI (sh_sat (sh_T g (sh_rt g i))))) ?_ ⟨hir, xs_least ⟨hin, nm_r (e' := upd xa_replaced i (nI (sh_sat (sh_R g (sh_rt g i) + 1)))) ?_ ⟨hir, hin, nm_r (e' := upd xa_deep i (vp_nar .short (xa_deep (sh_rt g i)))) ?_ ⟨10, ?_⟩⟩⟩⟩⟩
    · rw [nI_clamp (by omega), nI_clamp (by omega), HR.1, sh_n16' (by have := sh_sat_le (sh_T g (sh_rt g i)); omega)]
    · have b := sh_sat_le (sh_R g (sh_rt g i))
      rw [nI_clamp (by omega), nI_clamp (by omega), HR.2.1, nI_1, xs_lst_nI (by omega), sh_sat_ad, sh_n16 (by have := sh_sat_le (sh_R g (sh_rt g i) + 1); omega)]
    · rw [nI_clamp (by omega), nI_clamp (by omega)]
    · have M := xs_u101 (post := post) (x3 := nI (i + 1)) (f := fun q => nI (sh_sat (sh_K g (sh_rt g i) q))) hi (by omega) hri (fun q hq => by rw [HR.2.2.2.1 q hq, sh_n16' (by have := sh_sat_le (sh_K g (sh_rt g i) q); omega)]) _ L 9 0 rfl
      rw [sh_blk_0] at M
      exact M
  refine ⟨hin, nm_r (e' := nI (sh_rt g i)) ?_ (nm_r (nI_1 i) ⟨4, ?_⟩)⟩
  · rw [nI_clamp (by omega), ht]
    have e : nI (sh_tk g i) - 16 = nI (sh_tk g i - 16) := pk_sub (b := 16) hk
    rw [e]
    exact pk_mul 12 _
  · have M := xs_u20 (post := post) hi K20 3 0 rfl
    rw [sh_blk_0, sh_blk_0] at M
    exact M
end XT
end
section
/-! X: take -/
theorem sh_am1 (x : Int32) : x + (-1) = x - 1 := (Int32.sub_eq_add_neg x 1).symm
theorem sh_pm1 {b : Nat} (h : b < 2 ^ 30) : nI b - 1 < nI b := by
  have q : (nI b - 1).toInt = (b : Int) - 1 := pk_sub_toInt (a := b) (b := 1) h (by omega)
  rw [Int32.lt_iff_toInt_lt, nI_toInt (by omega)]; omega
/-- a node of a row that is taken: what its measuring needs -/
def xs_NT (g : sh_G) (tok num holes : Nat → Int32) (Kn : Nat → Prop) (b n i : Nat) : Prop :=
  sh_tk g i < 22 ∧ (16 ≤ sh_tk g i → Kn (sh_rt g i) ∧ holes (sh_tk g i - 16) = nI (sh_ho g (sh_tk g i - 16))) ∧ (∀ j, j < sh_an g i → i < sh_op g i j ∧ sh_op g i j < b + n) ∧
  sh_en g i = sh_op g i (sh_an g i) ∧ sh_en g i < 256 ∧ sh_an g i ≤ 3 ∧ sh_LQ g i ∧ sh_DQ g i ∧ sh_DB g i ∧ tok i = nI (sh_tk g i) ∧ num i = sh_nm g i
section XK
variable {xf_concepts xf_drafted xf_place xf_frames xf_node xf_frame xf_above xf_depth xf_top xf_lets xf_says xf_result : Int32} {xa_tok xa_end xa_num xa_length xa_holes xa_draft xa_draftNum xa_copies xa_tokens xa_replaced xa_deep xa_lies xa_ofKind xa_caller xa_number xa_size0 xa_size1 xa_size2 xa_uses0 xa_uses1 xa_uses2 xa_useAt xa_begun xa_workNode xa_stage xa_workFrame xa_values xa_bound xa_boundTo xa_output xa_given : Nat → Int32}
theorem xs_t79 {post : SX → Prop} {J : (Int32 → Int32 → Int32 → Int32 → Int32 → Int32 → Int32 → Int32 → Int32 → Int32 → Int32 → Int32 → Int32 → (Nat → Int32) → (Nat → Int32) → (Nat → Int32) → (Nat → Int32) → (Nat → Int32) → (Nat → Int32) → (Nat → Int32) → (Nat → Int32) → (Nat → Int32) → (Nat → Int32) → (Nat → Int32) → (Nat → Int32) → (Nat → Int32) → (Nat → Int32) → (Nat → Int32) → (Nat → Int32) → (Nat → Int32) → (Nat → Int32) → (Nat → Int32) → (Nat → Int32) → (Nat → Int32) → (Nat → Int32) → (Nat → Int32) → (Nat → Int32) → (Nat → Int32) → (Nat → Int32) → (Nat → Int32) → (Nat → Int32) → (Nat → Int32) → (Nat → Int32) → (Nat → Int32) → Prop)} {g : sh_G} {i : Nat} {x1 : Int32} (hi : i < 168) (hn : sh_an g i ≤ 3) (hk22 : sh_tk g i < 22)
    (hU : 16 ≤ sh_tk g i → sh_rt g i ≠ i ∧ xa_holes (sh_tk g i - 16) = nI (sh_ho g (sh_tk g i - 16)) ∧ xs_XN g xa_copies xa_tokens xa_replaced xa_deep xa_lies xa_ofKind (sh_rt g i) ∧ sh_DB g (sh_rt g i))
    (ht : xa_tok i = nI (sh_tk g i)) (hm : xa_num i = sh_nm g i) (hen : sh_en g i = sh_op g i (sh_an g i))
    (HE : xs_HE g xa_end xa_copies xa_tokens xa_replaced xa_deep xa_lies xa_ofKind i) (LQ : sh_LQ g i) (DQ : sh_DQ g i)
    (K : ∀ x l, (sh_T g i ≤ 2000 → x = nI (sh_D g i) ∧ ∀ h, h < 3 → l h = nI (sh_L g i h) - 1) → J (nI i - 1) xf_concepts xf_drafted xf_place xf_frames xf_node xf_frame xf_above xf_depth xf_top xf_lets xf_says xf_result xa_tok (upd xa_end i (vp_nar .byte (nI (sh_en g i)).toInt8.toInt32)) xa_num xa_length xa_holes xa_draft xa_draftNum (sh_blk xa_copies (3 * i) 3 (fun h => nI (sh_sat (sh_C g i h)))) (upd xa_tokens i (nI (sh_sat (sh_T g i)))) (upd xa_replaced i (nI (sh_sat (sh_R g i)))) (upd xa_deep i x) (sh_blk xa_lies (3 * i) 3 l) (sh_blk xa_ofKind (9 * i) 9 (fun q => nI (sh_sat (sh_K g i q)))) xa_caller xa_number xa_size0 xa_size1 xa_size2 xa_uses0 xa_uses1 xa_uses2 xa_useAt xa_begun xa_workNode xa_stage xa_workFrame xa_values xa_bound xa_boundTo xa_output xa_given) :
    ∀ d j, j + d = sh_an g i → wX_take_79 post J x1 (nI i) xf_concepts xf_drafted xf_place xf_frames xf_node xf_frame xf_above xf_depth xf_top xf_lets xf_says xf_result xa_tok xa_end xa_num xa_length xa_holes xa_draft xa_draftNum xa_copies xa_tokens xa_replaced xa_deep xa_lies xa_ofKind xa_caller xa_number xa_size0 xa_size1 xa_size2 xa_uses0 xa_uses1 xa_uses2 xa_useAt xa_begun xa_workNode xa_stage xa_workFrame xa_values xa_bound xa_boundTo xa_output xa_given (d + 1) (nI (sh_op g i j)) (nI (sh_an g i - j)) := by
  have hin : vp_in (nI i) 168 := vp_in_nI hi (by omega)
  intro d
  induction d with
  | zero =>
    intro j hj
    have ej : j = sh_an g i := by omega
    subst ej
    refine br_t (by rw [Nat.sub_self]; decide) ⟨hin, nm_r (e' := upd xa_end i (vp_nar .byte (nI (sh_en g i)).toInt8.toInt32)) ?_ ⟨hin, ?_⟩⟩
    · rw [nI_clamp (by omega), hen]
    · rw [nI_clamp (n := i) (by omega), ht]
      have HE' : xs_HE g (upd xa_end i (vp_nar .byte (nI (sh_en g i)).toInt8.toInt32)) xa_copies xa_tokens xa_replaced xa_deep xa_lies xa_ofKind i := by
        intro j hj
        have q := HE j hj
        refine ⟨q.1, q.2.1, ?_, q.2.2.2⟩
        rw [pk_un (by omega)]; exact q.2.2.1
      refine pk_lt (sh_tk g i) 16 (fun h => ?_) (fun h => ?_)
      · refine xs_measure hi hn h ht hm HE' LQ DQ (fun x l c => ?_)
        exact nm_r (sh_am1 (nI i)) (K x l c)
      · have u := hU h
        refine xs_measureUse hi hn h hk22 u.1 ht u.2.1 HE' u.2.2.1 u.2.2.2 LQ DQ (fun x l c => ?_)
        exact nm_r (sh_am1 (nI i)) (K x l c)
  | succ d ih =>
    intro j hj
    have hja : j < sh_an g i := by omega
    obtain ⟨h1, h2, h3, hx, hd⟩ := HE j hja
    refine br_f (show ¬ nI (sh_an g i - j) ≤ nI 0 from nI_ge (by omega) (by omega)) ⟨vp_in_nI h2 (by omega), nm_r (e' := nI (sh_op g i (j + 1))) ?_ (nm_r (e' := nI (sh_an g i - (j + 1))) ?_ (ih (j + 1) (by omega)))⟩
    · rw [nI_clamp (by omega)]; exact h3
    · rw [sb_m1 (by omega)]; congr 1
theorem xs_XN_o {g : sh_G} {cp tn rp dp ls ok : Nat → Int32} {i j : Nat} {f l k : Nat → Int32} {x y z : Int32} (hne : j ≠ i) (h : xs_XN g cp tn rp dp ls ok j) :
    xs_XN g (sh_blk cp (3 * i) 3 f) (upd tn i x) (upd rp i y) (upd dp i z) (sh_blk ls (3 * i) 3 l) (sh_blk ok (9 * i) 9 k) j := by
  obtain ⟨h1, h2, h3, h4, h5⟩ := h
  refine ⟨by rw [pk_un hne]; exact h1, by rw [pk_un hne]; exact h2, fun q hq => ?_, fun q hq => ?_, fun hT => ⟨?_, fun q hq => ?_⟩⟩
  · rw [sh_blk_o (by omega)]; exact h3 q hq
  · rw [sh_blk_o (by omega)]; exact h4 q hq
  · rw [pk_un hne]; exact (h5 hT).1
  · rw [sh_blk_o (by omega)]; exact (h5 hT).2 q hq
theorem xs_XN_i {g : sh_G} {cp tn rp dp ls ok : Nat → Int32} {i : Nat} {l : Nat → Int32} {x : Int32} (h : sh_T g i ≤ 2000 → x = nI (sh_D g i) ∧ ∀ h, h < 3 → l h = nI (sh_L g i h) - 1) :
    xs_XN g (sh_blk cp (3 * i) 3 (fun h => nI (sh_sat (sh_C g i h)))) (upd tn i (nI (sh_sat (sh_T g i)))) (upd rp i (nI (sh_sat (sh_R g i)))) (upd dp i x) (sh_blk ls (3 * i) 3 l) (sh_blk ok (9 * i) 9 (fun q => nI (sh_sat (sh_K g i q)))) i := by
  refine ⟨pk_us, pk_us, fun q hq => sh_blk_i hq, fun q hq => sh_blk_i hq, fun hT => ⟨?_, fun q hq => ?_⟩⟩
  · rw [pk_us]; exact (h hT).1
  · rw [sh_blk_i hq]; exact (h hT).2 q hq
theorem xs_t57 {post : SX → Prop} {g : sh_G} {b n : Nat} {Kn : Nat → Prop} (hb : b + n ≤ 168) (hK : ∀ j, Kn j → j < 168 ∧ ¬ (b ≤ j ∧ j < b + n) ∧ sh_DB g j)
    (HN : ∀ i, b ≤ i → i < b + n → xs_NT g xa_tok xa_num xa_holes Kn b n i)
    (K : ∀ en cp tn rp dp ls ok, (∀ j, (b ≤ j ∧ j < b + n) ∨ Kn j → xs_XN g cp tn rp dp ls ok j ∧ en j &&& 255 = nI (sh_en g j)) → post (xf_concepts, xf_drafted, xf_place, xf_frames, xf_node, xf_frame, xf_above, xf_depth, xf_top, xf_lets, xf_says, xf_result, xa_tok, en, xa_num, xa_length, xa_holes, xa_draft, xa_draftNum, cp, tn, rp, dp, ls, ok, xa_caller, xa_number, xa_size0, xa_size1, xa_size2, xa_uses0, xa_uses1, xa_uses2, xa_useAt, xa_begun, xa_workNode, xa_stage, xa_workFrame, xa_values, xa_bound, xa_boundTo, xa_output, xa_given)) :
    ∀ t, t ≤ n → ∀ en cp tn rp dp ls ok, (∀ j, (b + t ≤ j ∧ j < b + n) ∨ Kn j → xs_XN g cp tn rp dp ls ok j ∧ en j &&& 255 = nI (sh_en g j)) →
    wX_take_57 post (nI b) (t + 1) (nI (b + t) - 1) xf_concepts xf_drafted xf_place xf_frames xf_node xf_frame xf_above xf_depth xf_top xf_lets xf_says xf_result xa_tok en xa_num xa_length xa_holes xa_draft xa_draftNum cp tn rp dp ls ok xa_caller xa_number xa_size0 xa_size1 xa_size2 xa_uses0 xa_uses1 xa_uses2 xa_useAt xa_begun xa_workNode xa_stage xa_workFrame xa_values xa_bound xa_boundTo xa_output xa_given := by
  intro t
  induction t with
  | zero =>
    intro _ en cp tn rp dp ls ok H
    exact br_t (sh_pm1 (by omega)) (K en cp tn rp dp ls ok H)
  | succ t ih =>
    intro htn en cp tn rp dp ls ok H
    have e0 : nI (b + (t + 1)) - 1 = nI (b + t) := sh_m1a (b + t)
    rw [e0]
    obtain ⟨n1, n2, n3, n4, n5, n6, n7, n8, n9, n10, n11⟩ := HN (b + t) (by omega) (by omega)
    refine br_f (nI_nlt (by omega) (by omega)) (nm_r (nI_1 (b + t)) ⟨vp_in_nI (by omega) (by omega), ?_⟩)
    rw [nI_clamp (n := b + t) (by omega), n10]
    refine xs_operands (ho := sh_ho g) n1 (fun h => (n2 h).2) ⟨sh_an g (b + t) + 1, ?_⟩
    have HE : xs_HE g en cp tn rp dp ls ok (b + t) := by
      intro j hj
      have q := n3 j hj
      have h := H (sh_op g (b + t) j) (Or.inl ⟨by omega, q.2⟩)
      exact ⟨q.1, by omega, h.2, h.1, (HN _ (by omega) q.2).2.2.2.2.2.2.2.2.1⟩
    refine xs_t79 (g := g) (i := b + t) (by omega) n6 n1 (fun h => ?_) n10 n11 n4 HE n7 n8 (fun x l c => ?_) (sh_an g (b + t)) 0 (Nat.zero_add _)
    · have k := hK _ (n2 h).1
      exact ⟨fun e => k.2.1 ⟨by omega, by omega⟩, (n2 h).2, (H _ (Or.inr (n2 h).1)).1, k.2.2⟩
    · refine ih (by omega) _ _ _ _ _ _ _ (fun j hj => ?_)
      by_cases e : j = b + t
      · subst e
        exact ⟨xs_XN_i c, by rw [pk_us]; exact sh_b255 n5⟩
      · have h := H j (by
          rcases hj with q | q
          · exact Or.inl ⟨by omega, q.2⟩
          · exact Or.inr q)
        exact ⟨xs_XN_o e h.1, by rw [pk_un e]; exact h.2⟩
theorem xs_t7 {post : SX → Prop} {b n N : Nat} {dk : Nat → Nat} (hb : b + n ≤ 168) (hn : n ≤ 24) (hd : ∀ i, i < n → xa_draft i = nI (dk i) ∧ dk i < 128)
    (K : wX_take_57 post (nI b) N (nI (b + n) - 1) xf_concepts 0 xf_place xf_frames xf_node xf_frame xf_above xf_depth xf_top xf_lets xf_says xf_result (sh_blk xa_tok b n (fun i => nI (dk i))) xa_end (sh_blk xa_num b n xa_draftNum) xa_length xa_holes xa_draft xa_draftNum xa_copies xa_tokens xa_replaced xa_deep xa_lies xa_ofKind xa_caller xa_number xa_size0 xa_size1 xa_size2 xa_uses0 xa_uses1 xa_uses2 xa_useAt xa_begun xa_workNode xa_stage xa_workFrame xa_values xa_bound xa_boundTo xa_output xa_given) :
    ∀ d q, q + d = n → wX_take_7 post (nI b) (nI n) xf_concepts xf_drafted xf_place xf_frames xf_node xf_frame xf_above xf_depth xf_top xf_lets xf_says xf_result (d + 1) (nI q) (sh_blk xa_tok b q (fun i => nI (dk i))) xa_end (sh_blk xa_num b q xa_draftNum) xa_length xa_holes xa_draft xa_draftNum xa_copies xa_tokens xa_replaced xa_deep xa_lies xa_ofKind xa_caller xa_number xa_size0 xa_size1 xa_size2 xa_uses0 xa_uses1 xa_uses2 xa_useAt xa_begun xa_workNode xa_stage xa_workFrame xa_values xa_bound xa_boundTo xa_output xa_given := by
  intro d
  induction d with
  | zero =>
    intro q hq; have e0 : q = n := by omega
    subst e0
    refine br_t (nI_le (Nat.le_refl _) (by omega)) (nm_r (e' := nI (b + q) - 1) (by rw [nI_add]) ⟨N, K⟩)
  | succ d ih =>
    intro q hq
    have nx := ih (q + 1) (by omega)
    rw [← sh_blk_s xa_tok, ← sh_blk_s xa_num] at nx
    have i1 : vp_in (nI q) 24 := vp_in_nI (by omega) (by omega)
    have e1 := nI_add b q
    have i2 : vp_in (nI b + nI q) 168 := by rw [e1]; exact vp_in_nI (by omega) (by omega)
    refine br_f (nI_ge (by omega) (by omega)) ⟨i1, i2, nm_r ?_ ⟨i1, i2, nm_r ?_ (nm_r (nI_1 q) nx)⟩⟩
    · rw [e1, nI_clamp (by omega), nI_clamp (by omega), (hd q (by omega)).1, sh_n8' (hd q (by omega)).2]
    · rw [e1, nI_clamp (by omega), nI_clamp (by omega)]
theorem xs_take {post : SX → Prop} {g : sh_G} {b n : Nat} {Kn : Nat → Prop} {dk : Nat → Nat} (hb : b + n ≤ 168) (hn : n ≤ 24) (hd : ∀ i, i < n → xa_draft i = nI (dk i) ∧ dk i < 128)
    (hdr : xf_drafted = nI n) (hK : ∀ j, Kn j → j < 168 ∧ ¬ (b ≤ j ∧ j < b + n) ∧ sh_DB g j)
    (HN : ∀ i, b ≤ i → i < b + n → xs_NT g (sh_blk xa_tok b n (fun i => nI (dk i))) (sh_blk xa_num b n xa_draftNum) xa_holes Kn b n i)
    (H : ∀ j, Kn j → xs_XN g xa_copies xa_tokens xa_replaced xa_deep xa_lies xa_ofKind j ∧ xa_end j &&& 255 = nI (sh_en g j))
    (K : ∀ en cp tn rp dp ls ok, (∀ j, (b ≤ j ∧ j < b + n) ∨ Kn j → xs_XN g cp tn rp dp ls ok j ∧ en j &&& 255 = nI (sh_en g j)) → post (xf_concepts, 0, xf_place, xf_frames, xf_node, xf_frame, xf_above, xf_depth, xf_top, xf_lets, xf_says, xf_result, sh_blk xa_tok b n (fun i => nI (dk i)), en, sh_blk xa_num b n xa_draftNum, xa_length, xa_holes, xa_draft, xa_draftNum, cp, tn, rp, dp, ls, ok, xa_caller, xa_number, xa_size0, xa_size1, xa_size2, xa_uses0, xa_uses1, xa_uses2, xa_useAt, xa_begun, xa_workNode, xa_stage, xa_workFrame, xa_values, xa_bound, xa_boundTo, xa_output, xa_given)) :
    wpX_take post (xf_concepts, xf_drafted, xf_place, xf_frames, xf_node, xf_frame, xf_above, xf_depth, xf_top, xf_lets, xf_says, xf_result, xa_tok, xa_end, xa_num, xa_length, xa_holes, xa_draft, xa_draftNum, xa_copies, xa_tokens, xa_replaced, xa_deep, xa_lies, xa_ofKind, xa_caller, xa_number, xa_size0, xa_size1, xa_size2, xa_uses0, xa_uses1, xa_uses2, xa_useAt, xa_begun, xa_workNode, xa_stage, xa_workFrame, xa_values, xa_bound, xa_boundTo, xa_output, xa_given) (nI b) := by
  subst hdr
  refine ⟨n + 1, ?_⟩
  have L := xs_t57 (post := post) (xf_drafted := 0) hb hK HN K n (Nat.le_refl _) xa_end xa_copies xa_tokens xa_replaced xa_deep xa_lies xa_ofKind (fun j hj => by
    rcases hj with q | q
    · omega
    · exact H j q)
  have M := xs_t7 (post := post) (xf_drafted := nI n) (dk := dk) hb hn hd L n 0 (Nat.zero_add _)
  rw [sh_blk_0, sh_blk_0] at M
  exact M
end XK
end
section
/-! the draft: misfit and check, in step -/
/-- a draft of d tokens: kinds, numbers as X and as Y hold them -/
def sh_Dr (dk : Nat → Nat) (dn dv : Nat → Int32) (d : Nat) : Prop := ∀ i, i < d →
  dk i < 22 ∧ (dk i ≤ 10 ∨ 16 ≤ dk i) ∧ (dk i < 2 ∨ dk i = 7 ∨ dk i = 9 ∨ 16 ≤ dk i → dn i = dv i) ∧ (2 ≤ dk i → dk i ≠ 7 → dk i ≠ 9 → dk i < 16 → dn i = 0) ∧
  (dk i = 1 ∨ dk i = 7 → (∃ v, v < 10 ∧ dn i = nI v) ∨ dn i = -1 ∨ dn i = -2) ∧ (dk i = 9 → ∃ v, v < 3 ∧ dn i = nI v)
/-- a token has its place -/
def sh_Ft (cc : Nat) (hv : Int32) (k : Nat) (v : Int32) (i : Nat) : Prop :=
  (16 ≤ k → k - 16 < cc) ∧ (hv < 0 → k ≠ 9 ∧ k ≠ 10 ∧ (k = 1 ∨ k = 7 → ¬ v < 0)) ∧ (¬ hv < 0 → (k = 9 → ¬ hv ≤ v) ∧ i ≠ 12)
theorem sh_mis {m a : Nat} (h : 1 ≤ m) : nI m + (nI a - 1) = nI (m + a - 1) := by
  obtain ⟨q, rfl⟩ : ∃ q, m = q + 1 := ⟨m - 1, by omega⟩
  have k : ∀ x y : Int32, (x + 1) + (y - 1) = x + y := by intro x y; grind
  rw [show q + 1 + a - 1 = q + a by omega, ← nI_add q a, ← nI_1 q]
  exact k _ _
section DXm
variable {xf_concepts xf_drafted xf_place xf_frames xf_node xf_frame xf_above xf_depth xf_top xf_lets xf_says xf_result : Int32} {xa_tok xa_end xa_num xa_length xa_holes xa_draft xa_draftNum xa_copies xa_tokens xa_replaced xa_deep xa_lies xa_ofKind xa_caller xa_number xa_size0 xa_size1 xa_size2 xa_uses0 xa_uses1 xa_uses2 xa_useAt xa_begun xa_workNode xa_stage xa_workFrame xa_values xa_bound xa_boundTo xa_output xa_given : Nat → Int32}
theorem xs_mf65 {post : Int32 → Prop} {J : (Int32 → Int32 → Prop)} {ho : Nat → Nat} {hv v z : Int32} {m i k cc : Nat} (hm : m < 1000) (hi : i < 1000) (hk : k < 22) (hcc : xf_concepts = nI cc) (hc6 : cc ≤ 6)
    (hh : ∀ c, c < cc → xa_holes c = nI (ho c)) (hz : (z = 0 ∧ ¬ (k = 9 ∨ k = 10 ∨ (k = 1 ∨ k = 7) ∧ v < 0)) ∨ (z = 1 ∧ (k = 9 ∨ k = 10 ∨ (k = 1 ∨ k = 7) ∧ v < 0)))
    (hR : m = 0 ∨ ¬ sh_Ft cc hv k v i → post (nI i)) (hG : 1 ≤ m → sh_Ft cc hv k v i → J (nI (m + sh_ar ho k - 1)) (nI (i + 1))) :
    wX_misfit_65 post J hv (nI m) (nI i) (nI k) v z xf_concepts xf_drafted xf_place xf_frames xf_node xf_frame xf_above xf_depth xf_top xf_lets xf_says xf_result xa_tok xa_end xa_num xa_length xa_holes xa_draft xa_draftNum xa_copies xa_tokens xa_replaced xa_deep xa_lies xa_ofKind xa_caller xa_number xa_size0 xa_size1 xa_size2 xa_uses0 xa_uses1 xa_uses2 xa_useAt xa_begun xa_workNode xa_stage xa_workFrame xa_values xa_bound xa_boundTo xa_output xa_given := by
  subst hcc
  have k124 : 1 ≤ m → sh_Ft cc hv k v i → wX_misfit_124 post J hv (nI m) (nI i) (nI k) (nI cc) xf_drafted xf_place xf_frames xf_node xf_frame xf_above xf_depth xf_top xf_lets xf_says xf_result xa_tok xa_end xa_num xa_length xa_holes xa_draft xa_draftNum xa_copies xa_tokens xa_replaced xa_deep xa_lies xa_ofKind xa_caller xa_number xa_size0 xa_size1 xa_size2 xa_uses0 xa_uses1 xa_uses2 xa_useAt xa_begun xa_workNode xa_stage xa_workFrame xa_values xa_bound xa_boundTo xa_output xa_given := by
    intro h1 hf
    exact xs_operands (ho := ho) hk (fun h => hh _ (hf.1 h)) (nm_r (sh_mis h1) (nm_r (nI_1 i) (hG h1 hf)))
  have k112 : 1 ≤ m → (16 ≤ k → k - 16 < cc) → (hv < 0 → k ≠ 9 ∧ k ≠ 10 ∧ (k = 1 ∨ k = 7 → ¬ v < 0)) → (¬ hv < 0 → k = 9 → ¬ hv ≤ v) → wX_misfit_112 post J hv (nI m) (nI i) (nI k) (nI cc) xf_drafted xf_place xf_frames xf_node xf_frame xf_above xf_depth xf_top xf_lets xf_says xf_result xa_tok xa_end xa_num xa_length xa_holes xa_draft xa_draftNum xa_copies xa_tokens xa_replaced xa_deep xa_lies xa_ofKind xa_caller xa_number xa_size0 xa_size1 xa_size2 xa_uses0 xa_uses1 xa_uses2 xa_useAt xa_begun xa_workNode xa_stage xa_workFrame xa_values xa_bound xa_boundTo xa_output xa_given := by
    intro h1 a b c
    refine br_c (fun h => k124 h1 ⟨a, b, fun z => absurd h z⟩) (fun h => pk_eq i 12 (fun e => hR (Or.inr (fun f => (f.2.2 h).2 e))) (fun e => k124 h1 ⟨a, fun z => absurd z h, fun _ => ⟨c h, e⟩⟩))
  have k93 : 1 ≤ m → (hv < 0 → k ≠ 9 ∧ k ≠ 10 ∧ (k = 1 ∨ k = 7 → ¬ v < 0)) → (¬ hv < 0 → k = 9 → ¬ hv ≤ v) → wX_misfit_93 post J hv (nI m) (nI i) (nI k) (nI cc) xf_drafted xf_place xf_frames xf_node xf_frame xf_above xf_depth xf_top xf_lets xf_says xf_result xa_tok xa_end xa_num xa_length xa_holes xa_draft xa_draftNum xa_copies xa_tokens xa_replaced xa_deep xa_lies xa_ofKind xa_caller xa_number xa_size0 xa_size1 xa_size2 xa_uses0 xa_uses1 xa_uses2 xa_useAt xa_begun xa_workNode xa_stage xa_workFrame xa_values xa_bound xa_boundTo xa_output xa_given := by
    intro h1 b c
    refine pk_lt k 16 (fun h => k112 h1 (fun z => absurd h (by omega)) b c) (fun h => pk_le cc (k - 16) (fun q => hR (Or.inr (fun f => absurd (f.1 h) (by omega)))) (fun q => k112 h1 (fun _ => q) b c) rfl (pk_sub (b := 16) h))
  have k80 : 1 ≤ m → (hv < 0 → k ≠ 9 ∧ k ≠ 10 ∧ (k = 1 ∨ k = 7 → ¬ v < 0)) → wX_misfit_80 post J hv (nI m) (nI i) (nI k) v (nI cc) xf_drafted xf_place xf_frames xf_node xf_frame xf_above xf_depth xf_top xf_lets xf_says xf_result xa_tok xa_end xa_num xa_length xa_holes xa_draft xa_draftNum xa_copies xa_tokens xa_replaced xa_deep xa_lies xa_ofKind xa_caller xa_number xa_size0 xa_size1 xa_size2 xa_uses0 xa_uses1 xa_uses2 xa_useAt xa_begun xa_workNode xa_stage xa_workFrame xa_values xa_bound xa_boundTo xa_output xa_given := by
    intro h1 b
    refine pk_eq k 9 (fun h9 => br_c (fun q => hR (Or.inr (fun f => ?_))) (fun q => k93 h1 b (fun _ _ => q))) (fun h9 => k93 h1 b (fun _ z => absurd z h9))
    by_cases e : hv < 0
    · exact (f.2.1 e).1 h9
    · exact (f.2.2 e).1 h9 q
  refine pk_eq m 0 (fun e => hR (Or.inl e)) (fun e => ?_)
  rcases hz with ⟨hz, q⟩ | ⟨hz, q⟩
  · refine br_t hz (k80 (by omega) (fun _ => ⟨fun z => q (Or.inl z), fun z => q (Or.inr (Or.inl z)), fun z w => q (Or.inr (Or.inr ⟨z, w⟩))⟩))
  · refine br_f (by rw [hz]; decide) (br_c (fun h => hR (Or.inr (fun f => ?_))) (fun h => k80 (by omega) (fun z => absurd z h)))
    have b := f.2.1 h
    rcases q with q | q | q
    · exact b.1 q
    · exact b.2.1 q
    · exact b.2.2 q.1 q.2
theorem xs_mf4 {post : Int32 → Prop} {ho : Nat → Nat} {hv v : Int32} {n m i k cc d : Nat} (hm : m < 1000) (hid : i < d) (hd : d ≤ 24) (hdr : xf_drafted = nI d) (hk : k < 22) (hcc : xf_concepts = nI cc) (hc6 : cc ≤ 6)
    (hh : ∀ c, c < cc → xa_holes c = nI (ho c)) (hdk : xa_draft i = nI k) (hdn : xa_draftNum i = v)
    (hR : m = 0 ∨ ¬ sh_Ft cc hv k v i → post (nI i)) (hG : 1 ≤ m → sh_Ft cc hv k v i → wX_misfit_4 post hv xf_concepts xf_drafted xf_place xf_frames xf_node xf_frame xf_above xf_depth xf_top xf_lets xf_says xf_result xa_tok xa_end xa_num xa_length xa_holes xa_draft xa_draftNum xa_copies xa_tokens xa_replaced xa_deep xa_lies xa_ofKind xa_caller xa_number xa_size0 xa_size1 xa_size2 xa_uses0 xa_uses1 xa_uses2 xa_useAt xa_begun xa_workNode xa_stage xa_workFrame xa_values xa_bound xa_boundTo xa_output xa_given n (nI (m + sh_ar ho k - 1)) (nI (i + 1))) :
    wX_misfit_4 post hv xf_concepts xf_drafted xf_place xf_frames xf_node xf_frame xf_above xf_depth xf_top xf_lets xf_says xf_result xa_tok xa_end xa_num xa_length xa_holes xa_draft xa_draftNum xa_copies xa_tokens xa_replaced xa_deep xa_lies xa_ofKind xa_caller xa_number xa_size0 xa_size1 xa_size2 xa_uses0 xa_uses1 xa_uses2 xa_useAt xa_begun xa_workNode xa_stage xa_workFrame xa_values xa_bound xa_boundTo xa_output xa_given (n + 1) (nI m) (nI i) := by
  subst hdr
  have i1 : vp_in (nI i) 24 := vp_in_nI (by omega) (by omega)
  have c1 : xa_draft (nI i).toNatClampNeg = nI k := by rw [nI_clamp (by omega)]; exact hdk
  have c2 : xa_draftNum (nI i).toNatClampNeg = v := by rw [nI_clamp (by omega)]; exact hdn
  have G : ∀ z : Int32, (z = 0 ∧ ¬ (k = 9 ∨ k = 10 ∨ (k = 1 ∨ k = 7) ∧ v < 0)) ∨ (z = 1 ∧ (k = 9 ∨ k = 10 ∨ (k = 1 ∨ k = 7) ∧ v < 0)) → wX_misfit_65 post (wX_misfit_4 post hv xf_concepts (nI d) xf_place xf_frames xf_node xf_frame xf_above xf_depth xf_top xf_lets xf_says xf_result xa_tok xa_end xa_num xa_length xa_holes xa_draft xa_draftNum xa_copies xa_tokens xa_replaced xa_deep xa_lies xa_ofKind xa_caller xa_number xa_size0 xa_size1 xa_size2 xa_uses0 xa_uses1 xa_uses2 xa_useAt xa_begun xa_workNode xa_stage xa_workFrame xa_values xa_bound xa_boundTo xa_output xa_given n) hv (nI m) (nI i) (nI k) v z xf_concepts (nI d) xf_place xf_frames xf_node xf_frame xf_above xf_depth xf_top xf_lets xf_says xf_result xa_tok xa_end xa_num xa_length xa_holes xa_draft xa_draftNum xa_copies xa_tokens xa_replaced xa_deep xa_lies xa_ofKind xa_caller xa_number xa_size0 xa_size1 xa_size2 xa_uses0 xa_uses1 xa_uses2 xa_useAt xa_begun xa_workNode xa_stage xa_workFrame xa_values xa_bound xa_boundTo xa_output xa_given :=
    fun z hz => xs_mf65 hm (by omega) hk hcc hc6 hh hz hR hG
  have A := G 1
  have B := G 0
  refine br_f (nI_ge hid (by omega)) ⟨i1, nm_r c1 ⟨i1, nm_r c2 (pk_eq k 9 (fun h => A (Or.inr ⟨rfl, Or.inl h⟩)) (fun h9 => pk_eq k 10 (fun h => A (Or.inr ⟨rfl, Or.inr (Or.inl h)⟩)) (fun h10 => ?_)))⟩⟩
  have k55 : k = 1 ∨ k = 7 → wX_misfit_55 post (wX_misfit_4 post hv xf_concepts (nI d) xf_place xf_frames xf_node xf_frame xf_above xf_depth xf_top xf_lets xf_says xf_result xa_tok xa_end xa_num xa_length xa_holes xa_draft xa_draftNum xa_copies xa_tokens xa_replaced xa_deep xa_lies xa_ofKind xa_caller xa_number xa_size0 xa_size1 xa_size2 xa_uses0 xa_uses1 xa_uses2 xa_useAt xa_begun xa_workNode xa_stage xa_workFrame xa_values xa_bound xa_boundTo xa_output xa_given n) hv (nI m) (nI i) (nI k) v xf_concepts (nI d) xf_place xf_frames xf_node xf_frame xf_above xf_depth xf_top xf_lets xf_says xf_result xa_tok xa_end xa_num xa_length xa_holes xa_draft xa_draftNum xa_copies xa_tokens xa_replaced xa_deep xa_lies xa_ofKind xa_caller xa_number xa_size0 xa_size1 xa_size2 xa_uses0 xa_uses1 xa_uses2 xa_useAt xa_begun xa_workNode xa_stage xa_workFrame xa_values xa_bound xa_boundTo xa_output xa_given := by
    intro h
    refine br_c (fun q => B (Or.inl ⟨rfl, ?_⟩)) (fun q => A (Or.inr ⟨rfl, Or.inr (Or.inr ⟨h, Int32.not_le.mp q⟩)⟩))
    rintro (z | z | z)
    · exact h9 z
    · exact h10 z
    · exact absurd z.2 (Int32.not_lt.mpr q)
  refine pk_eq k 1 (fun h => k55 (Or.inl h)) (fun h1 => pk_eq k 7 (fun h => k55 (Or.inr h)) (fun h7 => B (Or.inl ⟨rfl, ?_⟩)))
  rintro (z | z | z)
  · exact h9 z
  · exact h10 z
  · omega
end DXm
section DYm
variable {yf_concepts yf_place yf_size yf_uses yf_of yf_result yf_says : Int32} {yb_kind yb_behind yb_length yb_holes yb_value yb_kinds yb_origin yb_values yb_parent yb_span yb_todo yb_within yb_under yb_stands yb_outer yb_from yb_left yb_variable yb_saved yb_worth yb_said yb_work yb_phase : Nat → Int32}
theorem ys_operands {post : Int32 → Prop} {ho : Nat → Nat} {k : Nat} (hk : k < 22) (hh : 16 ≤ k → yb_holes (k - 16) = nI (ho (k - 16))) (K : post (nI (sh_ar ho k))) :
    wpY_operands post (yf_concepts, yf_place, yf_size, yf_uses, yf_of, yf_result, yf_says, yb_kind, yb_behind, yb_length, yb_holes, yb_value, yb_kinds, yb_origin, yb_values, yb_parent, yb_span, yb_todo, yb_within, yb_under, yb_stands, yb_outer, yb_from, yb_left, yb_variable, yb_saved, yb_worth, yb_said, yb_work, yb_phase) (nI k) := by
  have k37 : k ≤ 1 ∨ 7 ≤ k → k < 16 → k ≠ 6 → wY_operands_37 post (nI k) yf_concepts yf_place yf_size yf_uses yf_of yf_result yf_says yb_kind yb_behind yb_length yb_holes yb_value yb_kinds yb_origin yb_values yb_parent yb_span yb_todo yb_within yb_under yb_stands yb_outer yb_from yb_left yb_variable yb_saved yb_worth yb_said yb_work yb_phase := by
    intro h h16 h6
    refine pk_eq k 7 (fun h7 => ?_) (fun h7 => pk_eq k 8 (fun h8 => ?_) (fun h8 => ?_))
    · rw [sh_ar_2 (by omega) (by omega) (by omega) (by omega)] at K; exact K
    · rw [sh_ar_8 h8] at K; exact K
    · rcases h with h | h
      · rw [sh_ar_0 (by omega)] at K; exact K
      · rw [sh_ar_9 (by omega) h16] at K; exact K
  refine pk_lt k 16 (fun h => pk_eq k 6 (fun h6 => ?_) (fun h6 => pk_le k 1 (fun h1 => k37 (Or.inl h1) h h6) (fun h1 => pk_lt k 7 (fun h7 => ?_) (fun h7 => k37 (Or.inr h7) h h6)))) (fun h => ?_)
  · rw [sh_ar_6 h6] at K; exact K
  · rw [sh_ar_2 (by omega) (by omega) h6 (by omega)] at K; exact K
  · have e : nI k - 16 = nI (k - 16) := pk_sub (b := 16) h
    rw [sh_ar_u h, ← hh h] at K
    rw [e, nI_clamp (by omega)]
    exact ⟨vp_in_nI (by omega) (by omega), K⟩
theorem ys_fits {post : Int32 → Prop} {hv v : Int32} {i k cc : Nat} (hi : i < 24) (hi12 : hv < 0 ∨ i ≤ 12) (hk : k < 22) (hk2 : k ≤ 10 ∨ 16 ≤ k) (hcc : yf_concepts = nI cc) (hc6 : cc ≤ 6)
    (hkd : yb_kind (240 + i) = nI k) (hvl : k = 1 ∨ k = 7 ∨ k = 9 → yb_value (240 + i) = v) (hP : sh_Ft cc hv k v i → post 1) (hN : ¬ sh_Ft cc hv k v i → post 0) :
    wpY_fits post (yf_concepts, yf_place, yf_size, yf_uses, yf_of, yf_result, yf_says, yb_kind, yb_behind, yb_length, yb_holes, yb_value, yb_kinds, yb_origin, yb_values, yb_parent, yb_span, yb_todo, yb_within, yb_under, yb_stands, yb_outer, yb_from, yb_left, yb_variable, yb_saved, yb_worth, yb_said, yb_work, yb_phase) (nI i) hv := by
  subst hcc
  have e1 : (240 : Int32) + nI i = nI (240 + i) := nI_add 240 i
  have i1 : vp_in ((240 : Int32) + nI i) 264 := by rw [e1]; exact vp_in_nI (by omega) (by omega)
  have c1 : yb_kind ((240 : Int32) + nI i).toNatClampNeg = nI k := by rw [e1, nI_clamp (by omega)]; exact hkd
  refine ⟨i1, nm_r c1 ⟨i1, nm_r (e' := yb_value (240 + i)) (by rw [e1, nI_clamp (by omega)]) ?_⟩⟩
  refine pk_lt k 16 (fun h => br_c (fun hs => pk_le 9 k (fun q => hN (fun f => ?_)) (fun q => ?_)) (fun hs => pk_le 12 i (fun q => hN (fun f => (f.2.2 hs).2 (by rcases hi12 with z | z; exact absurd z hs; omega))) (fun q => pk_eq k 9 (fun h9 => ?_) (fun h9 => hP ⟨fun z => absurd h (by omega), fun z => absurd z hs, fun _ => ⟨fun z => absurd z h9, by omega⟩⟩)))) (fun h => ?_)
  · have b := f.2.1 hs
    omega
  · have k101 : k = 1 ∨ k = 7 → wY_fits_101 post (yb_value (240 + i)) (nI cc) yf_place yf_size yf_uses yf_of yf_result yf_says yb_kind yb_behind yb_length yb_holes yb_value yb_kinds yb_origin yb_values yb_parent yb_span yb_todo yb_within yb_under yb_stands yb_outer yb_from yb_left yb_variable yb_saved yb_worth yb_said yb_work yb_phase := by
      intro z
      rw [hvl (by omega)]
      exact br_c (fun w => hN (fun f => (f.2.1 hs).2.2 z w)) (fun w => hP ⟨fun z => absurd h (by omega), fun _ => ⟨by omega, by omega, fun _ => w⟩, fun z => absurd hs z⟩)
    refine pk_eq k 1 (fun z => k101 (Or.inl z)) (fun h1 => pk_eq k 7 (fun z => k101 (Or.inr z)) (fun h7 => hP ⟨fun z => absurd h (by omega), fun _ => ⟨by omega, by omega, fun z => by omega⟩, fun z => absurd hs z⟩))
  · rw [hvl (by omega)]
    exact br_c (fun w => hN (fun f => (f.2.2 hs).1 h9 w)) (fun w => hP ⟨fun z => absurd h (by omega), fun z => absurd z hs, fun _ => ⟨fun _ => w, by omega⟩⟩)
  · refine pk_le cc (k - 16) (fun q => hN (fun f => absurd (f.1 h) (by omega))) (fun q => br_c (fun hs => hP ⟨fun _ => q, fun _ => ⟨by omega, by omega, fun z => by omega⟩, fun z => absurd hs z⟩) (fun hs => pk_le 12 i (fun w => hN (fun f => (f.2.2 hs).2 (by rcases hi12 with z | z; exact absurd z hs; omega))) (fun w => hP ⟨fun _ => q, fun z => absurd z hs, fun _ => ⟨fun z => by omega, by omega⟩⟩))) rfl (pk_sub (b := 16) h)
theorem ys_ck4 {post : Int32 → Prop} {ho : Nat → Nat} {hv v : Int32} {n m i k cc d : Nat} (hm : m < 1000) (hid : i < d) (hd : d ≤ 24) (hi12 : hv < 0 ∨ i ≤ 12) (hdr : yb_length 10 = nI d) (hk : k < 22) (hk2 : k ≤ 10 ∨ 16 ≤ k) (hcc : yf_concepts = nI cc) (hc6 : cc ≤ 6)
    (hh : ∀ c, c < cc → yb_holes c = nI (ho c)) (hkd : yb_kind (240 + i) = nI k) (hvl : k = 1 ∨ k = 7 ∨ k = 9 → yb_value (240 + i) = v)
    (hR : m = 0 ∨ ¬ sh_Ft cc hv k v i → post (nI i)) (hG : 1 ≤ m → sh_Ft cc hv k v i → wY_check_4 post hv yf_concepts yf_place yf_size yf_uses yf_of yf_result yf_says yb_kind yb_behind yb_length yb_holes yb_value yb_kinds yb_origin yb_values yb_parent yb_span yb_todo yb_within yb_under yb_stands yb_outer yb_from yb_left yb_variable yb_saved yb_worth yb_said yb_work yb_phase n (nI (m + sh_ar ho k - 1)) (nI (i + 1))) :
    wY_check_4 post hv yf_concepts yf_place yf_size yf_uses yf_of yf_result yf_says yb_kind yb_behind yb_length yb_holes yb_value yb_kinds yb_origin yb_values yb_parent yb_span yb_todo yb_within yb_under yb_stands yb_outer yb_from yb_left yb_variable yb_saved yb_worth yb_said yb_work yb_phase (n + 1) (nI m) (nI i) := by
  have e1 : (240 : Int32) + nI i = nI (240 + i) := nI_add 240 i
  have i1 : vp_in ((240 : Int32) + nI i) 264 := by rw [e1]; exact vp_in_nI (by omega) (by omega)
  have c1 : yb_kind ((240 : Int32) + nI i).toNatClampNeg = nI k := by rw [e1, nI_clamp (by omega)]; exact hkd
  refine br_f (by rw [hdr]; exact nI_ge hid (by omega)) (pk_eq m 0 (fun e => hR (Or.inl e)) (fun e => ys_fits (by omega) hi12 hk hk2 hcc hc6 hkd hvl (fun f => br_f (by decide) ⟨i1, ?_⟩) (fun f => br_t rfl (hR (Or.inr f)))))
  rw [c1]
  exact ys_operands (ho := ho) hk (fun h => hh _ (f.1 h)) (nm_r (sh_mis (by omega)) (nm_r (nI_1 i) (hG (by omega) f)))
end DYm
end
section
/-- how many are missing ahead of each token of a whole expression -/
def sh_Ms (ho dk : Nat → Nat) (dn : Nat → Int32) (cc : Nat) (hv : Int32) (d i : Nat) (ms : Nat → Nat) : Prop :=
  ms d = 0 ∧ ∀ k, i ≤ k → k < d → 1 ≤ ms k ∧ ms (k + 1) + 1 = ms k + sh_ar ho (dk k) ∧ sh_Ft cc hv (dk k) (dn k) k
section MC
variable {xf_concepts xf_drafted xf_place xf_frames xf_node xf_frame xf_above xf_depth xf_top xf_lets xf_says xf_result : Int32} {xa_tok xa_end xa_num xa_length xa_holes xa_draft xa_draftNum xa_copies xa_tokens xa_replaced xa_deep xa_lies xa_ofKind xa_caller xa_number xa_size0 xa_size1 xa_size2 xa_uses0 xa_uses1 xa_uses2 xa_useAt xa_begun xa_workNode xa_stage xa_workFrame xa_values xa_bound xa_boundTo xa_output xa_given : Nat → Int32} {yf_concepts yf_place yf_size yf_uses yf_of yf_result yf_says : Int32} {yb_kind yb_behind yb_length yb_holes yb_value yb_kinds yb_origin yb_values yb_parent yb_span yb_todo yb_within yb_under yb_stands yb_outer yb_from yb_left yb_variable yb_saved yb_worth yb_said yb_work yb_phase : Nat → Int32}
theorem sh_mc1 {ho dk : Nat → Nat} {dn dv : Nat → Int32} {hv : Int32} {d cc : Nat} (hd : d ≤ 24) (D : sh_Dr dk dn dv d) (hho : ∀ c, c < 6 → ho c ≤ 3)
    (hc6 : cc ≤ 6) (hxd : xf_drafted = nI d) (hyd : yb_length 10 = nI d) (hxc : xf_concepts = nI cc) (hyc : yf_concepts = nI cc) (hxh : ∀ c, c < cc → xa_holes c = nI (ho c)) (hyh : ∀ c, c < cc → yb_holes c = nI (ho c))
    (hX : ∀ i, i < d → xa_draft i = nI (dk i) ∧ xa_draftNum i = dn i) (hY : ∀ i, i < d → yb_kind (240 + i) = nI (dk i) ∧ yb_value (240 + i) = dv i) :
    ∀ t i m, i + t = d → (hv < 0 ∨ i ≤ 12) → m ≤ 1 + 2 * i → ∃ r : Int32, (∀ post : Int32 → Prop, post r → wX_misfit_4 post hv xf_concepts xf_drafted xf_place xf_frames xf_node xf_frame xf_above xf_depth xf_top xf_lets xf_says xf_result xa_tok xa_end xa_num xa_length xa_holes xa_draft xa_draftNum xa_copies xa_tokens xa_replaced xa_deep xa_lies xa_ofKind xa_caller xa_number xa_size0 xa_size1 xa_size2 xa_uses0 xa_uses1 xa_uses2 xa_useAt xa_begun xa_workNode xa_stage xa_workFrame xa_values xa_bound xa_boundTo xa_output xa_given (t + 1) (nI m) (nI i)) ∧
      (∀ post : Int32 → Prop, post r → wY_check_4 post hv yf_concepts yf_place yf_size yf_uses yf_of yf_result yf_says yb_kind yb_behind yb_length yb_holes yb_value yb_kinds yb_origin yb_values yb_parent yb_span yb_todo yb_within yb_under yb_stands yb_outer yb_from yb_left yb_variable yb_saved yb_worth yb_said yb_work yb_phase (t + 1) (nI m) (nI i)) ∧ (r < 0 → r = -1 ∧ ∃ ms, ms i = m ∧ sh_Ms ho dk dn cc hv d i ms) := by
  intro t
  induction t with
  | zero =>
    intro i m hit _ hm
    have e : i = d := by omega
    subst e
    subst hxd
    by_cases h0 : m = 0
    · subst h0
      refine ⟨-1, fun post hp => br_t (nI_le (Nat.le_refl _) (by omega)) (br_t (by decide) hp), fun post hp => br_t (by rw [hyd]; exact nI_le (Nat.le_refl _) (by omega)) (br_t (by decide) hp), fun _ => ⟨rfl, fun _ => 0, rfl, rfl, fun k h1 h2 => by omega⟩⟩
    · have q : ¬ nI m ≤ 0 := nI_nle (by omega) (by omega)
      refine ⟨nI i, fun post hp => br_t (nI_le (Nat.le_refl _) (by omega)) (br_f q hp), fun post hp => br_t (by rw [hyd]; exact nI_le (Nat.le_refl _) (by omega)) (br_f q (by rw [hyd]; exact hp)), fun h => absurd h (nI_pos (by omega))⟩
  | succ t ih =>
    intro i m hit h12 hm
    have hid : i < d := by omega
    obtain ⟨d1, d2, d3, d4, d5, d6⟩ := D i hid
    by_cases hR : m = 0 ∨ ¬ sh_Ft cc hv (dk i) (dn i) i
    · refine ⟨nI i, fun post hp => ?_, fun post hp => ?_, fun h => absurd h (nI_pos (by omega))⟩
      · exact xs_mf4 (ho := ho) (by omega) hid hd hxd d1 hxc hc6 hxh (hX i hid).1 (hX i hid).2 (fun _ => hp) (fun a b => absurd hR (fun z => z.elim (fun z => by omega) (fun z => z b)))
      · exact ys_ck4 (ho := ho) (by omega) hid hd h12 hyd d1 d2 hyc hc6 hyh (hY i hid).1 (fun z => ((hY i hid).2.trans (d3 (by omega)).symm)) (fun _ => hp) (fun a b => absurd hR (fun z => z.elim (fun z => by omega) (fun z => z b)))
    · have h1 : 1 ≤ m := by
        have : ¬ m = 0 := fun z => hR (Or.inl z)
        omega
      have f : sh_Ft cc hv (dk i) (dn i) i := Classical.byContradiction (fun z => hR (Or.inr z))
      have ar3 : sh_ar ho (dk i) ≤ 3 := by
        unfold sh_ar
        split
        · exact hho _ (by omega)
        · repeat (first | omega | split)
      obtain ⟨r, rX, rY, rN⟩ := ih (i + 1) (m + sh_ar ho (dk i) - 1) (by omega) (by
        by_cases e : hv < 0
        · exact Or.inl e
        · have := (f.2.2 e).2
          rcases h12 with z | z
          · exact absurd z e
          · right; omega) (by omega)
      refine ⟨r, fun post hp => ?_, fun post hp => ?_, fun h => ?_⟩
      · exact xs_mf4 (ho := ho) (by omega) hid hd hxd d1 hxc hc6 hxh (hX i hid).1 (hX i hid).2 (fun z => absurd z hR) (fun _ _ => rX post hp)
      · exact ys_ck4 (ho := ho) (by omega) hid hd h12 hyd d1 d2 hyc hc6 hyh (hY i hid).1 (fun z => ((hY i hid).2.trans (d3 (by omega)).symm)) (fun z => absurd z hR) (fun _ _ => rY post hp)
      · obtain ⟨e, ms, m1, m2, m3⟩ := rN h
        refine ⟨e, fun k => if k = i then m else ms k, if_pos rfl, ?_, fun k k1 k2 => ?_⟩
        · dsimp only
          rw [if_neg (by omega)]; exact m2
        · dsimp only
          by_cases e : k = i
          · subst e
            rw [if_pos rfl, if_neg (by omega), m1]
            exact ⟨h1, by omega, f⟩
          · rw [if_neg e, if_neg (by omega)]
            exact m3 k (by omega) k2
theorem sh_mc {ho dk : Nat → Nat} {dn dv : Nat → Int32} {hv : Int32} {d cc : Nat} (hd : d ≤ 24) (D : sh_Dr dk dn dv d) (hho : ∀ c, c < 6 → ho c ≤ 3)
    (hc6 : cc ≤ 6) (hxd : xf_drafted = nI d) (hyd : yb_length 10 = nI d) (hxc : xf_concepts = nI cc) (hyc : yf_concepts = nI cc) (hxh : ∀ c, c < cc → xa_holes c = nI (ho c)) (hyh : ∀ c, c < cc → yb_holes c = nI (ho c))
    (hX : ∀ i, i < d → xa_draft i = nI (dk i) ∧ xa_draftNum i = dn i) (hY : ∀ i, i < d → yb_kind (240 + i) = nI (dk i) ∧ yb_value (240 + i) = dv i) :
    ∃ r : Int32, (∀ post : Int32 → Prop, post r → wpX_misfit post (xf_concepts, xf_drafted, xf_place, xf_frames, xf_node, xf_frame, xf_above, xf_depth, xf_top, xf_lets, xf_says, xf_result, xa_tok, xa_end, xa_num, xa_length, xa_holes, xa_draft, xa_draftNum, xa_copies, xa_tokens, xa_replaced, xa_deep, xa_lies, xa_ofKind, xa_caller, xa_number, xa_size0, xa_size1, xa_size2, xa_uses0, xa_uses1, xa_uses2, xa_useAt, xa_begun, xa_workNode, xa_stage, xa_workFrame, xa_values, xa_bound, xa_boundTo, xa_output, xa_given) hv) ∧
      (∀ post : Int32 → Prop, post r → wpY_check post (yf_concepts, yf_place, yf_size, yf_uses, yf_of, yf_result, yf_says, yb_kind, yb_behind, yb_length, yb_holes, yb_value, yb_kinds, yb_origin, yb_values, yb_parent, yb_span, yb_todo, yb_within, yb_under, yb_stands, yb_outer, yb_from, yb_left, yb_variable, yb_saved, yb_worth, yb_said, yb_work, yb_phase) hv) ∧ (r < 0 → r = -1 ∧ (¬ hv < 0 → d ≤ 12) ∧ ∃ ms, ms 0 = 1 ∧ sh_Ms ho dk dn cc hv d 0 ms) := by
  obtain ⟨r, h1, h2, h3⟩ := sh_mc1 (xf_concepts := xf_concepts) (xf_drafted := xf_drafted) (xf_place := xf_place) (xf_frames := xf_frames) (xf_node := xf_node) (xf_frame := xf_frame) (xf_above := xf_above) (xf_depth := xf_depth) (xf_top := xf_top) (xf_lets := xf_lets) (xf_says := xf_says) (xf_result := xf_result) (xa_tok := xa_tok) (xa_end := xa_end) (xa_num := xa_num) (xa_length := xa_length) (xa_holes := xa_holes) (xa_draft := xa_draft) (xa_draftNum := xa_draftNum) (xa_copies := xa_copies) (xa_tokens := xa_tokens) (xa_replaced := xa_replaced) (xa_deep := xa_deep) (xa_lies := xa_lies) (xa_ofKind := xa_ofKind) (xa_caller := xa_caller) (xa_number := xa_number) (xa_size0 := xa_size0) (xa_size1 := xa_size1) (xa_size2 := xa_size2) (xa_uses0 := xa_uses0) (xa_uses1 := xa_uses1) (xa_uses2 := xa_uses2) (xa_useAt := xa_useAt) (xa_begun := xa_begun) (xa_workNode := xa_workNode) (xa_stage := xa_stage) (xa_workFrame := xa_workFrame) (xa_values := xa_values) (xa_bound := xa_bound) (xa_boundTo := xa_boundTo) (xa_output := xa_output) (xa_given := xa_given) (yf_concepts := yf_concepts) (yf_place := yf_place) (yf_size := yf_size) (yf_uses := yf_uses) (yf_of := yf_of) (yf_result := yf_result) (yf_says := yf_says) (yb_kind := yb_kind) (yb_behind := yb_behind) (yb_length := yb_length) (yb_holes := yb_holes) (yb_value := yb_value) (yb_kinds := yb_kinds) (yb_origin := yb_origin) (yb_values := yb_values) (yb_parent := yb_parent) (yb_span := yb_span) (yb_todo := yb_todo) (yb_within := yb_within) (yb_under := yb_under) (yb_stands := yb_stands) (yb_outer := yb_outer) (yb_from := yb_from) (yb_left := yb_left) (yb_variable := yb_variable) (yb_saved := yb_saved) (yb_worth := yb_worth) (yb_said := yb_said) (yb_work := yb_work) (yb_phase := yb_phase) (hv := hv) hd D hho hc6 hxd hyd hxc hyc hxh hyh hX hY d 0 1 (by omega) (Or.inr (by omega)) (by omega)
  refine ⟨r, fun post hp => ⟨d + 1, h1 post hp⟩, fun post hp => ⟨d + 1, h2 post hp⟩, fun h => ?_⟩
  obtain ⟨e, ms, m0, m1⟩ := h3 h
  refine ⟨e, fun hh => ?_, ms, m0, m1⟩
  by_cases q : d ≤ 12
  · exact q
  · exact absurd rfl ((m1.2 12 (by omega) (by omega)).2.2.2.2 hh).2
end MC
end
section
/-! frames: what a node's equations speak of -/
def sh_Ag (g g' : sh_G) (A : Nat → Prop) : Prop := ∀ j, A j → sh_tk g' j = sh_tk g j ∧ sh_en g' j = sh_en g j ∧ sh_nm g' j = sh_nm g j ∧ sh_T g' j = sh_T g j ∧ sh_R g' j = sh_R g j ∧ sh_D g' j = sh_D g j ∧ sh_C g' j = sh_C g j ∧ sh_K g' j = sh_K g j ∧ sh_L g' j = sh_L g j
section FRM
variable {g g' : sh_G} {A : Nat → Prop} {i : Nat}
theorem sh_fr_op {n : Nat} (H : sh_Ag g g' A) (hop : ∀ t, t < n → A (sh_op g i t)) : ∀ t, t ≤ n → sh_op g' i t = sh_op g i t := by
  intro t
  induction t with
  | zero => intro _; rfl
  | succ t ih =>
    intro ht
    rw [sh_op_s, sh_op_s, ih (by omega), (H _ (hop t (by omega))).2.1]
theorem sh_fr_an (H : sh_Ag g g' A) (hi : A i) (hho : 16 ≤ sh_tk g i → sh_ho g' (sh_tk g i - 16) = sh_ho g (sh_tk g i - 16)) : sh_an g' i = sh_an g i := by
  unfold sh_an
  rw [(H i hi).1]
  unfold sh_ar
  by_cases h : 16 ≤ sh_tk g i
  · rw [if_pos h, if_pos h, hho h]
  · rw [if_neg h, if_neg h]
theorem sh_fr_LM {bs be : Nat} {M M' : Nat → Nat} (H : sh_Ag g g' A) (hi : A i) (hho : 16 ≤ sh_tk g i → sh_ho g' (sh_tk g i - 16) = sh_ho g (sh_tk g i - 16)) (hop : ∀ t, t < sh_an g i → A (sh_op g i t)) (hrt : 16 ≤ sh_tk g i → A (sh_rt g i))
    (hM : ∀ j, A j → M' j = M j) (h : sh_LM g bs be M i) : sh_LM g' bs be M' i := by
  have ea := sh_fr_an H hi hho
  have et := (H i hi).1
  have er : sh_rt g' i = sh_rt g i := by unfold sh_rt; rw [et]
  have eo := sh_fr_op H hop
  refine ⟨fun hk => ?_, fun hk => ?_⟩
  · rw [et] at hk
    rw [hM i hi, h.1 hk, ea]
    congr 1
    exact sh_sm_congr _ (fun j hj => by rw [eo j (by omega), hM _ (hop j hj)])
  · rw [et] at hk
    rw [hM i hi, h.2 hk, ea, er, hM _ (hrt hk)]
    congr 1
    exact sh_sm_congr _ (fun j hj => by rw [eo j (by omega), hM _ (hop j hj), (H _ (hrt hk)).2.2.2.2.2.2.1])
theorem sh_fr_LQ (H : sh_Ag g g' A) (hi : A i) (hho : 16 ≤ sh_tk g i → sh_ho g' (sh_tk g i - 16) = sh_ho g (sh_tk g i - 16)) (hop : ∀ t, t < sh_an g i → A (sh_op g i t)) (hrt : 16 ≤ sh_tk g i → A (sh_rt g i))
    (h : sh_LQ g i) : sh_LQ g' i := by
  have ea := sh_fr_an H hi hho
  have et := (H i hi).1
  have er : sh_rt g' i = sh_rt g i := by unfold sh_rt; rw [et]
  have eo := sh_fr_op H hop
  refine ⟨?_, ?_, fun q hq => ?_, fun x hx => ⟨fun hk => ?_, fun hk => ?_⟩⟩
  · rw [et]; exact sh_fr_LM H hi hho hop hrt (fun j hj => (H j hj).2.2.2.1) h.1
  · exact sh_fr_LM H hi hho hop hrt (fun j hj => (H j hj).2.2.2.2.1) h.2.1
  · rw [et]; exact sh_fr_LM H hi hho hop hrt (fun j hj => by rw [(H j hj).2.2.2.2.2.2.2.1]) (h.2.2.1 q hq)
  · rw [et] at hk
    rw [(H i hi).2.2.2.2.2.2.1, (h.2.2.2 x hx).1 hk, ea, et, (H i hi).2.2.1]
    congr 1
    exact sh_sm_congr _ (fun j hj => by rw [eo j (by omega), (H _ (hop j hj)).2.2.2.2.2.2.1])
  · rw [et] at hk
    rw [(H i hi).2.2.2.2.2.2.1, (h.2.2.2 x hx).2 hk, ea, er]
    exact sh_sm_congr _ (fun j hj => by rw [eo j (by omega), (H _ (hop j hj)).2.2.2.2.2.2.1, (H _ (hrt hk)).2.2.2.2.2.2.1])
theorem sh_fr_DQ (H : sh_Ag g g' A) (hi : A i) (hho : 16 ≤ sh_tk g i → sh_ho g' (sh_tk g i - 16) = sh_ho g (sh_tk g i - 16)) (hop : ∀ t, t < sh_an g i → A (sh_op g i t)) (hrt : 16 ≤ sh_tk g i → A (sh_rt g i))
    (h : sh_DQ g i) : sh_DQ g' i := by
  have ea := sh_fr_an H hi hho
  have et := (H i hi).1
  have er : sh_rt g' i = sh_rt g i := by unfold sh_rt; rw [et]
  have eo := sh_fr_op H hop
  have eD : ∀ j, A j → sh_D g' j = sh_D g j := fun j hj => (H j hj).2.2.2.2.2.1
  have eL : ∀ j, A j → sh_L g' j = sh_L g j := fun j hj => (H j hj).2.2.2.2.2.2.2.2
  refine ⟨fun hk => ?_, fun hk => ?_, fun x hx => ⟨fun hk => ?_, fun hk => ?_⟩⟩
  · rw [et] at hk
    rw [eD i hi, h.1 hk, ea, et]
    congr 1
    exact sh_mx_congr _ (fun j hj => by rw [eo j (by omega), eD _ (hop j hj)])
  · rw [et] at hk
    rw [eD i hi, h.2.1 hk, ea, er, eD _ (hrt hk)]
    congr 1
    exact sh_mx_congr _ (fun j hj => by rw [eo j (by omega), eD _ (hop j hj), eL _ (hrt hk)])
  · rw [et] at hk
    rw [eL i hi, (h.2.2 x hx).1 hk, ea, et, (H i hi).2.2.1]
    congr 1
    exact sh_mx_congr _ (fun j hj => by rw [eo j (by omega), eL _ (hop j hj)])
  · rw [et] at hk
    rw [eL i hi, (h.2.2 x hx).2 hk, ea, er]
    exact sh_mx_congr _ (fun j hj => by rw [eo j (by omega), eL _ (hop j hj), eL _ (hrt hk)])
theorem sh_fr_DB (H : sh_Ag g g' A) (hi : A i) (h : sh_DB g i) : sh_DB g' i := by
  obtain ⟨h1, h2⟩ := h
  have q := H i hi
  refine ⟨by rw [q.2.2.2.2.2.1, q.2.2.2.1]; exact h1, fun x hx => ?_⟩
  rw [q.2.2.2.2.2.2.2.2, q.2.2.2.2.2.2.1, q.2.2.2.1]
  exact h2 x hx
end FRM
theorem sh_an9 {g : sh_G} {i : Nat} (h : sh_tk g i = 9) : sh_an g i = 0 := by unfold sh_an; rw [h]; rfl
theorem sh_DB_of {g : sh_G} {i : Nat} (LQ : sh_LQ g i) (DQ : sh_DQ g i) (ha : sh_an g i ≤ 3) (hop : ∀ j, j < sh_an g i → sh_DB g (sh_op g i j)) (hrt : 16 ≤ sh_tk g i → sh_DB g (sh_rt g i)) : sh_DB g i := by
  by_cases hk : 16 ≤ sh_tk g i
  · have DR := hrt hk
    have eT := LQ.1.2 hk
    have TC : ∀ k, k < sh_an g i → 1 ≤ sh_C g (sh_rt g i) k → sh_T g (sh_rt g i) + sh_T g (sh_op g i k) ≤ sh_T g i := by
      intro k hk2 hc
      have a := sh_sm_le (f := fun j => sh_C g (sh_rt g i) j * sh_T g (sh_op g i j)) (sh_an g i) k hk2
      have b : 1 * sh_T g (sh_op g i k) ≤ sh_C g (sh_rt g i) k * sh_T g (sh_op g i k) := Nat.mul_le_mul hc (Nat.le_refl _)
      omega
    have LC : ∀ k, k < sh_an g i → sh_L g (sh_rt g i) k ≠ 0 → 1 ≤ sh_C g (sh_rt g i) k := by
      intro k hk2 hz
      have := (DR.2 k (by omega)).1
      have : sh_C g (sh_rt g i) k ≠ 0 := fun z => hz (this.mpr z)
      omega
    refine ⟨?_, fun x hx => ⟨?_, ?_⟩⟩
    · rw [DQ.2.1 hk, sh_max_le, sh_mx_le]
      refine ⟨by have := DR.1; omega, fun j hj => sh_pl_le.mpr ?_⟩
      by_cases z : sh_L g (sh_rt g i) j = 0
      · exact Or.inl z
      · have := TC j hj (LC j hj z)
        have := (DR.2 j (by omega)).2
        have := (hop j hj).1
        right; omega
    · rw [(DQ.2.2 x hx).2 hk, (LQ.2.2.2 x hx).2 hk, sh_sm_zero]
      have e : sh_mx (sh_an g i) (fun j => sh_pq (sh_L g (sh_rt g i) j) (sh_L g (sh_op g i j) x)) = 0 ↔ sh_mx (sh_an g i) (fun j => sh_pq (sh_L g (sh_rt g i) j) (sh_L g (sh_op g i j) x)) ≤ 0 := by omega
      rw [e, sh_mx_le]
      have key : ∀ j, j < sh_an g i → (sh_pq (sh_L g (sh_rt g i) j) (sh_L g (sh_op g i j) x) ≤ 0 ↔ sh_C g (sh_rt g i) j * sh_C g (sh_op g i j) x = 0) := by
        intro j hj
        have a := (DR.2 j (by omega)).1
        have b := ((hop j hj).2 x hx).1
        rw [Nat.mul_eq_zero, ← a, ← b]
        unfold sh_pq sh_pl
        split
        · simp_all
        · split
          · simp_all
          · omega
      exact ⟨fun h j hj => (key j hj).mp (h j hj), fun h j hj => (key j hj).mpr (h j hj)⟩
    · rw [(DQ.2.2 x hx).2 hk, sh_mx_le]
      intro j hj
      unfold sh_pq sh_pl
      by_cases z : sh_L g (sh_rt g i) j = 0
      · rw [if_pos z]; split <;> omega
      · have := TC j hj (LC j hj z)
        have := (DR.2 j (by omega)).2
        have := ((hop j hj).2 x hx).2
        rw [if_neg z]; split <;> omega
  · have hk : sh_tk g i < 16 := by omega
    have eT := LQ.1.1 hk
    have TT : ∀ j, j < sh_an g i → sh_T g (sh_op g i j) + 1 ≤ sh_T g i := by
      intro j hj
      have a := sh_sm_le (f := fun j => sh_T g (sh_op g i j)) (sh_an g i) j hj
      by_cases h9 : sh_tk g i = 9
      · rw [sh_an9 h9] at hj; omega
      · rw [if_neg h9] at eT; omega
    refine ⟨?_, fun x hx => ⟨?_, ?_⟩⟩
    · rw [DQ.1 hk, sh_max_le, sh_mx_le]
      refine ⟨by omega, fun j hj => ?_⟩
      have := TT j hj
      have := (hop j hj).1
      omega
    · rw [(DQ.2.2 x hx).1 hk, (LQ.2.2.2 x hx).1 hk]
      have e : ∀ a b : Nat, sh_max a b = 0 ↔ a ≤ 0 ∧ b ≤ 0 := fun a b => by rw [← sh_max_le]; omega
      rw [e, sh_mx_le]
      have e2 : ∀ a b : Nat, a + b = 0 ↔ a ≤ 0 ∧ b = 0 := fun a b => by omega
      rw [e2, sh_sm_zero]
      have key : ∀ j, j < sh_an g i → ((if sh_L g (sh_op g i j) x = 0 then 0 else sh_L g (sh_op g i j) x + 1) ≤ 0 ↔ sh_C g (sh_op g i j) x = 0) := by
        intro j hj
        rw [← ((hop j hj).2 x hx).1]
        split <;> omega
      exact ⟨fun h => ⟨h.1, fun j hj => (key j hj).mp (h.2 j hj)⟩, fun h => ⟨h.1, fun j hj => (key j hj).mpr (h.2 j hj)⟩⟩
    · rw [(DQ.2.2 x hx).1 hk, sh_max_le, sh_mx_le]
      refine ⟨by split <;> omega, fun j hj => ?_⟩
      have := TT j hj
      have := ((hop j hj).2 x hx).2
      split <;> omega
/-- one node measured -/
def sh_set (g : sh_G) (i e t r d : Nat) (c k l : Nat → Nat) : sh_G :=
  (sh_tk g, fun j => if j = i then e else sh_en g j, sh_ho g, sh_ln g, sh_nm g, fun j => if j = i then t else sh_T g j, fun j => if j = i then r else sh_R g j, fun j => if j = i then d else sh_D g j,
   fun j => if j = i then c else sh_C g j, fun j => if j = i then k else sh_K g j, fun j => if j = i then l else sh_L g j)
theorem sh_set_Ag (g : sh_G) (i e t r d : Nat) (c k l : Nat → Nat) : sh_Ag g (sh_set g i e t r d c k l) (fun j => j ≠ i) :=
  fun _ hj => ⟨rfl, if_neg hj, rfl, if_neg hj, if_neg hj, if_neg hj, if_neg hj, if_neg hj, if_neg hj⟩
theorem sh_set_ex (g : sh_G) (i : Nat) (hop : ∀ j, j < sh_an g i → sh_op g i j ≠ i) (hrt : 16 ≤ sh_tk g i → sh_rt g i ≠ i) :
    ∃ g' : sh_G, sh_tk g' = sh_tk g ∧ sh_ho g' = sh_ho g ∧ sh_ln g' = sh_ln g ∧ sh_nm g' = sh_nm g ∧ sh_Ag g g' (fun j => j ≠ i) ∧ sh_en g' i = sh_op g i (sh_an g i) ∧ sh_LQ g' i ∧ sh_DQ g' i := by
  have main : ∀ (e t r d : Nat) (c k l : Nat → Nat), e = sh_op g i (sh_an g i) →
      t = (if sh_tk g i < 16 then (if sh_tk g i = 9 then 0 else 1) + sh_sm (sh_an g i) (fun j => sh_T g (sh_op g i j)) else 0 + sh_T g (sh_rt g i) + sh_sm (sh_an g i) (fun j => sh_C g (sh_rt g i) j * sh_T g (sh_op g i j))) →
      r = (if sh_tk g i < 16 then 0 + sh_sm (sh_an g i) (fun j => sh_R g (sh_op g i j)) else 1 + sh_R g (sh_rt g i) + sh_sm (sh_an g i) (fun j => sh_C g (sh_rt g i) j * sh_R g (sh_op g i j))) →
      d = (if sh_tk g i < 16 then sh_max (if sh_tk g i = 9 then 0 else 1) (sh_mx (sh_an g i) (fun j => sh_D g (sh_op g i j) + 1)) else sh_max (sh_D g (sh_rt g i)) (sh_mx (sh_an g i) (fun j => sh_pl (sh_L g (sh_rt g i) j) (sh_D g (sh_op g i j))))) →
      c = (fun h => if sh_tk g i < 16 then (if sh_tk g i = 9 ∧ sh_nm g i = nI h then 1 else 0) + sh_sm (sh_an g i) (fun j => sh_C g (sh_op g i j) h) else sh_sm (sh_an g i) (fun j => sh_C g (sh_rt g i) j * sh_C g (sh_op g i j) h)) →
      k = (fun q => if sh_tk g i < 16 then (if sh_tk g i = q ∨ sh_tk g i = 10 ∧ q = 0 then 1 else 0) + sh_sm (sh_an g i) (fun j => sh_K g (sh_op g i j) q) else 0 + sh_K g (sh_rt g i) q + sh_sm (sh_an g i) (fun j => sh_C g (sh_rt g i) j * sh_K g (sh_op g i j) q)) →
      l = (fun h => if sh_tk g i < 16 then sh_max (if sh_tk g i = 9 ∧ sh_nm g i = nI h then 1 else 0) (sh_mx (sh_an g i) (fun j => if sh_L g (sh_op g i j) h = 0 then 0 else sh_L g (sh_op g i j) h + 1)) else sh_mx (sh_an g i) (fun j => sh_pq (sh_L g (sh_rt g i) j) (sh_L g (sh_op g i j) h))) →
      sh_en (sh_set g i e t r d c k l) i = sh_op g i (sh_an g i) ∧ sh_LQ (sh_set g i e t r d c k l) i ∧ sh_DQ (sh_set g i e t r d c k l) i := by
    intro e t r d c k l he ht hr hd hc hk hl
    have H := sh_set_Ag g i e t r d c k l
    have sT : sh_T (sh_set g i e t r d c k l) i = t := if_pos rfl
    have sR : sh_R (sh_set g i e t r d c k l) i = r := if_pos rfl
    have sD : sh_D (sh_set g i e t r d c k l) i = d := if_pos rfl
    have sC : sh_C (sh_set g i e t r d c k l) i = c := if_pos rfl
    have sK : sh_K (sh_set g i e t r d c k l) i = k := if_pos rfl
    have sL : sh_L (sh_set g i e t r d c k l) i = l := if_pos rfl
    have sE : sh_en (sh_set g i e t r d c k l) i = e := if_pos rfl
    have s1 : sh_tk (sh_set g i e t r d c k l) = sh_tk g := rfl
    have s2 : sh_ho (sh_set g i e t r d c k l) = sh_ho g := rfl
    have s3 : sh_nm (sh_set g i e t r d c k l) = sh_nm g := rfl
    generalize sh_set g i e t r d c k l = g' at H sT sR sD sC sK sL sE s1 s2 s3
    have ea : sh_an g' i = sh_an g i := by unfold sh_an; rw [s1, s2]
    have er : sh_rt g' i = sh_rt g i := by unfold sh_rt; rw [s1]
    have eo := sh_fr_op (i := i) H hop
    have LM : ∀ (bs be m : Nat) (M M' : Nat → Nat), (∀ j, j ≠ i → M' j = M j) → M' i = m → m = (if sh_tk g i < 16 then bs + sh_sm (sh_an g i) (fun j => M (sh_op g i j)) else be + M (sh_rt g i) + sh_sm (sh_an g i) (fun j => sh_C g (sh_rt g i) j * M (sh_op g i j))) → sh_LM g' bs be M' i := by
      intro bs be m M M' hM h1 h2
      refine ⟨fun hk => ?_, fun hk => ?_⟩
      · rw [s1] at hk
        rw [h1, h2, if_pos hk, ea]
        congr 1
        exact sh_sm_congr _ (fun j hj => by rw [eo j (by omega), hM _ (hop j hj)])
      · rw [s1] at hk
        rw [h1, h2, if_neg (by omega), ea, er, hM _ (hrt hk)]
        congr 1
        exact sh_sm_congr _ (fun j hj => by rw [eo j (by omega), hM _ (hop j hj), (H _ (hrt hk)).2.2.2.2.2.2.1])
    refine ⟨by rw [sE, he], ⟨?_, ?_, fun q hq => ?_, fun x hx => ⟨fun hk => ?_, fun hk => ?_⟩⟩, ⟨fun hk => ?_, fun hk => ?_, fun x hx => ⟨fun hk => ?_, fun hk => ?_⟩⟩⟩
    · rw [s1]; exact LM _ _ _ (sh_T g) _ (fun j hj => (H j hj).2.2.2.1) sT ht
    · exact LM _ _ _ (sh_R g) _ (fun j hj => (H j hj).2.2.2.2.1) sR hr
    · rw [s1]; exact LM _ _ _ (fun j => sh_K g j q) _ (fun j hj => by rw [(H j hj).2.2.2.2.2.2.2.1]) (by rw [sK]) (by rw [hk])
    · rw [s1] at hk
      rw [sC, hc, ea, s1, s3]
      dsimp only
      rw [if_pos hk]
      congr 1
      exact sh_sm_congr _ (fun j hj => by rw [eo j (by omega), (H _ (hop j hj)).2.2.2.2.2.2.1])
    · rw [s1] at hk
      rw [sC, hc, ea, er]
      dsimp only
      rw [if_neg (by omega)]
      exact sh_sm_congr _ (fun j hj => by rw [eo j (by omega), (H _ (hop j hj)).2.2.2.2.2.2.1, (H _ (hrt hk)).2.2.2.2.2.2.1])
    · rw [s1] at hk
      rw [sD, hd, ea, s1, if_pos hk]
      congr 1
      exact sh_mx_congr _ (fun j hj => by rw [eo j (by omega), (H _ (hop j hj)).2.2.2.2.2.1])
    · rw [s1] at hk
      rw [sD, hd, ea, er, if_neg (by omega), (H _ (hrt hk)).2.2.2.2.2.1]
      congr 1
      exact sh_mx_congr _ (fun j hj => by rw [eo j (by omega), (H _ (hop j hj)).2.2.2.2.2.1, (H _ (hrt hk)).2.2.2.2.2.2.2.2])
    · rw [s1] at hk
      rw [sL, hl, ea, s1, s3]
      dsimp only
      rw [if_pos hk]
      congr 1
      exact sh_mx_congr _ (fun j hj => by rw [eo j (by omega), (H _ (hop j hj)).2.2.2.2.2.2.2.2])
    · rw [s1] at hk
      rw [sL, hl, ea, er]
      dsimp only
      rw [if_neg (by omega)]
      exact sh_mx_congr _ (fun j hj => by rw [eo j (by omega), (H _ (hop j hj)).2.2.2.2.2.2.2.2, (H _ (hrt hk)).2.2.2.2.2.2.2.2])
  have q := main _ _ _ _ _ _ _ rfl rfl rfl rfl rfl rfl rfl
  exact Exists.intro (sh_set g i _ _ _ _ _ _ _) ⟨rfl, rfl, rfl, rfl, sh_set_Ag g i _ _ _ _ _ _ _, q⟩
end
section
/-! a row is built from its end on -/
theorem sh_ch_add (en : Nat → Nat) (i a : Nat) : ∀ m, sh_ch en (sh_ch en i a) m = sh_ch en i (a + m) := by
  intro m
  induction m with
  | zero => rfl
  | succ m ih => show en (sh_ch en (sh_ch en i a) m) = en (sh_ch en i (a + m)); rw [ih]
theorem sh_ch_congr {en en' : Nat → Nat} {i : Nat} {A : Nat → Prop} (H : ∀ j, A j → en' j = en j) : ∀ m, (∀ t, t < m → A (sh_ch en i t)) → sh_ch en' i m = sh_ch en i m := by
  intro m
  induction m with
  | zero => intro _; rfl
  | succ m ih =>
    intro h
    show en' (sh_ch en' i m) = en (sh_ch en i m)
    rw [ih (fun t ht => h t (by omega)), H _ (h m (by omega))]
/-- the chain of the expressions from a place to the row's end -/
def sh_Suf (g : sh_G) (b n k m0 : Nat) : Prop := (∀ m, m < m0 → b + k ≤ sh_ch (sh_en g) (b + k) m ∧ sh_ch (sh_en g) (b + k) m < b + n) ∧ sh_ch (sh_en g) (b + k) m0 = b + n
def sh_Bd (g : sh_G) (b n i : Nat) : Prop :=
  (∀ j, j < sh_an g i → i < sh_op g i j ∧ sh_op g i j < b + n) ∧ sh_en g i = sh_op g i (sh_an g i) ∧ i < sh_en g i ∧ sh_en g i ≤ b + n ∧ sh_LQ g i ∧ sh_DQ g i ∧ sh_DB g i
theorem sh_build {g0 : sh_G} {b n : Nat} {ms : Nat → Nat} (m0 : ms n = 0) (hms : ∀ k, k < n → 1 ≤ ms k ∧ ms (k + 1) + 1 = ms k + sh_an g0 (b + k)) (han : ∀ k, k < n → sh_an g0 (b + k) ≤ 3)
    (hrt : ∀ k, k < n → 16 ≤ sh_tk g0 (b + k) → ¬ (b ≤ sh_rt g0 (b + k) ∧ sh_rt g0 (b + k) < b + n) ∧ sh_DB g0 (sh_rt g0 (b + k))) :
    ∀ t, t ≤ n → ∃ g : sh_G, sh_tk g = sh_tk g0 ∧ sh_ho g = sh_ho g0 ∧ sh_ln g = sh_ln g0 ∧ sh_nm g = sh_nm g0 ∧ sh_Ag g0 g (fun j => ¬ (b ≤ j ∧ j < b + n)) ∧
      (∀ k, n ≤ k + t → k ≤ n → sh_Suf g b n k (ms k)) ∧ (∀ k, n ≤ k + t → k < n → sh_Bd g b n (b + k)) := by
  intro t
  induction t with
  | zero =>
    intro _
    refine ⟨g0, rfl, rfl, rfl, rfl, fun j _ => ⟨rfl, rfl, rfl, rfl, rfl, rfl, rfl, rfl, rfl⟩, fun k h1 h2 => ?_, fun k h1 h2 => by omega⟩
    have e : k = n := by omega
    subst e
    rw [m0]
    exact ⟨fun m hm => by omega, rfl⟩
  | succ t ih =>
    intro ht
    obtain ⟨g, gt, gh, gl, gn, gA, gS, gB⟩ := ih (by omega)
    obtain ⟨k, hk⟩ : ∃ k, k + (t + 1) = n := ⟨n - (t + 1), by omega⟩
    have hkn : k < n := by omega
    have ea : ∀ j, sh_an g j = sh_an g0 j := fun j => by unfold sh_an; rw [gt, gh]
    have er : ∀ j, sh_rt g j = sh_rt g0 j := fun j => by unfold sh_rt; rw [gt]
    have hm := hms k hkn
    have S1 := gS (k + 1) (by omega) (by omega)
    have eop : ∀ j, sh_op g (b + k) j = sh_ch (sh_en g) (b + (k + 1)) j := fun j => rfl
    have hop : ∀ j, j < sh_an g (b + k) → b + k < sh_op g (b + k) j ∧ sh_op g (b + k) j < b + n := by
      intro j hj
      rw [ea] at hj
      have := S1.1 j (by omega)
      rw [eop]; omega
    have hend : b + k < sh_op g (b + k) (sh_an g (b + k)) ∧ sh_op g (b + k) (sh_an g (b + k)) ≤ b + n := by
      rw [ea, eop]
      by_cases e : sh_an g0 (b + k) < ms (k + 1)
      · have := S1.1 _ e
        omega
      · have e2 : sh_an g0 (b + k) = ms (k + 1) := by omega
        rw [e2, S1.2]; omega
    have hrt' : 16 ≤ sh_tk g (b + k) → sh_rt g (b + k) ≠ b + k := by
      intro h e
      rw [gt] at h
      rw [er] at e
      exact (hrt k hkn h).1 (by omega)
    obtain ⟨g', t1, t2, t3, t4, H, hE, hL, hD⟩ := sh_set_ex g (b + k) (fun j hj => by have := hop j hj; omega) hrt'
    have ea' : ∀ j, sh_an g' j = sh_an g j := fun j => by unfold sh_an; rw [t1, t2]
    have er' : ∀ j, sh_rt g' j = sh_rt g j := fun j => by unfold sh_rt; rw [t1]
    have eo' := sh_fr_op (i := b + k) H (fun j (hj : j < sh_an g (b + k)) => by have := hop j hj; omega)
    have keep : ∀ q, k < q → q < n → sh_Bd g' b n (b + q) := by
      intro q h1 h2
      obtain ⟨B1, B2, B3, B4, B5, B6, B7⟩ := gB q (by omega) h2
      have hi : b + q ≠ b + k := by omega
      have ho : ∀ j, j < sh_an g (b + q) → sh_op g (b + q) j ≠ b + k := fun j hj => by have := B1 j hj; omega
      have eo := sh_fr_op (i := b + q) H ho
      have hr : 16 ≤ sh_tk g (b + q) → sh_rt g (b + q) ≠ b + k := by
        intro h e
        rw [gt] at h
        rw [er] at e
        exact (hrt q h2 h).1 (by omega)
      have hh : 16 ≤ sh_tk g (b + q) → sh_ho g' (sh_tk g (b + q) - 16) = sh_ho g (sh_tk g (b + q) - 16) := fun _ => by rw [t2]
      refine ⟨fun j hj => ?_, ?_, ?_, ?_, sh_fr_LQ H hi hh ho hr B5, sh_fr_DQ H hi hh ho hr B6, sh_fr_DB H hi B7⟩
      · rw [ea'] at hj
        rw [eo j (by omega)]; exact B1 j hj
      · rw [ea', eo _ (Nat.le_refl _), (H _ hi).2.1]; exact B2
      · rw [(H _ hi).2.1]; exact B3
      · rw [(H _ hi).2.1]; exact B4
    have new : sh_Bd g' b n (b + k) := by
      refine ⟨fun j hj => ?_, ?_, ?_, ?_, hL, hD, ?_⟩
      · rw [ea'] at hj
        rw [eo' j (by omega)]; exact hop j hj
      · rw [ea', eo' _ (Nat.le_refl _)]; exact hE
      · rw [hE]; exact hend.1
      · rw [hE]; exact hend.2
      · refine sh_DB_of hL hD (by rw [ea', ea]; exact han k hkn) (fun j hj => ?_) (fun h => ?_)
        · rw [ea'] at hj
          rw [eo' j (by omega)]
          have q := hop j hj
          obtain ⟨x, hx⟩ : ∃ x, sh_op g (b + k) j = b + x := ⟨sh_op g (b + k) j - b, by omega⟩
          rw [hx]
          exact (keep x (by omega) (by omega)).2.2.2.2.2.2
        · rw [t1, gt] at h
          have q := hrt k hkn h
          rw [er', er]
          refine sh_fr_DB H (fun e => q.1 (by omega)) (sh_fr_DB gA (i := sh_rt g0 (b + k)) q.1 q.2)
    have cong : ∀ q, k < q → q ≤ n → ∀ m, m ≤ ms q → sh_ch (sh_en g') (b + q) m = sh_ch (sh_en g) (b + q) m := by
      intro q h1 h2 m hm'
      refine sh_ch_congr (A := fun j => j ≠ b + k) (fun j hj => (H j hj).2.1) m (fun x hx => ?_)
      have := (gS q (by omega) h2).1 x (by omega)
      omega
    have keepS : ∀ q, k < q → q ≤ n → sh_Suf g' b n q (ms q) := by
      intro q h1 h2
      refine ⟨fun m hm' => ?_, ?_⟩
      · rw [cong q h1 h2 m (by omega)]
        exact (gS q (by omega) h2).1 m hm'
      · rw [cong q h1 h2 _ (Nat.le_refl _)]
        exact (gS q (by omega) h2).2
    refine ⟨g', t1.trans gt, t2.trans gh, t3.trans gl, t4.trans gn, fun j hj => ?_, fun q h1 h2 => ?_, fun q h1 h2 => ?_⟩
    · have a := gA j hj
      have c := H j (fun e => hj (by omega))
      exact ⟨c.1.trans a.1, c.2.1.trans a.2.1, c.2.2.1.trans a.2.2.1, c.2.2.2.1.trans a.2.2.2.1, c.2.2.2.2.1.trans a.2.2.2.2.1, c.2.2.2.2.2.1.trans a.2.2.2.2.2.1, c.2.2.2.2.2.2.1.trans a.2.2.2.2.2.2.1, c.2.2.2.2.2.2.2.1.trans a.2.2.2.2.2.2.2.1, c.2.2.2.2.2.2.2.2.trans a.2.2.2.2.2.2.2.2⟩
    · by_cases e : q = k
      · subst e
        have step : ∀ m, sh_ch (sh_en g') (b + q) (1 + m) = sh_ch (sh_en g') (b + (q + 1)) (sh_an g0 (b + q) + m) := by
          intro m
          rw [← sh_ch_add, ← sh_ch_add]
          congr 1
          show sh_en g' (b + q) = _
          rw [hE, eop, ea, cong (q + 1) (by omega) (by omega) _ (by omega)]
        have S2 := keepS (q + 1) (by omega) (by omega)
        refine ⟨fun m hm' => ?_, ?_⟩
        · cases m with
          | zero => exact ⟨Nat.le_refl _, by show b + q < b + n; omega⟩
          | succ m =>
            rw [Nat.add_comm m 1, step m]
            have := S2.1 (sh_an g0 (b + q) + m) (by omega)
            omega
        · obtain ⟨m, hm'⟩ : ∃ m, ms q = 1 + m := ⟨ms q - 1, by omega⟩
          rw [hm', step m, show sh_an g0 (b + q) + m = ms (q + 1) by omega]
          exact S2.2
      · exact keepS q (by omega) h2
    · by_cases e : q = k
      · subst e; exact new
      · exact keep q (by omega) h2
/-- what the holes of a row's template bound -/
theorem sh_Cz_of {g : sh_G} {b n hb : Nat} (B : ∀ k, k < n → sh_Bd g b n (b + k)) (hh : hb ≤ 3) (h9 : ∀ k, k < n → sh_tk g (b + k) = 9 → ∃ v, v < hb ∧ sh_nm g (b + k) = nI v) :
    ∀ t k, k + t = n → ∀ q, k ≤ q → q < n → ∀ h, h < 3 → hb ≤ h → sh_C g (b + q) h = 0 := by
  intro t
  induction t with
  | zero => intro k hk q h1 h2; omega
  | succ t ih =>
    intro k hk q h1 h2 x hx hbx
    by_cases e : q = k
    · subst e
      obtain ⟨B1, B2, B3, B4, B5, B6, B7⟩ := B q h2
      have sub : ∀ j, j < sh_an g (b + q) → sh_C g (sh_op g (b + q) j) x = 0 := by
        intro j hj
        have w := B1 j hj
        obtain ⟨y, hy⟩ : ∃ y, sh_op g (b + q) j = b + y := ⟨sh_op g (b + q) j - b, by omega⟩
        rw [hy]
        exact ih (q + 1) (by omega) y (by omega) (by omega) x hx hbx
      by_cases hk : sh_tk g (b + q) < 16
      · rw [(B5.2.2.2 x hx).1 hk]
        have e0 : (if sh_tk g (b + q) = 9 ∧ sh_nm g (b + q) = nI x then 1 else 0) = 0 := by
          refine if_neg (fun z => ?_)
          obtain ⟨v, hv, hn⟩ := h9 q h2 z.1
          have := (nI_eq (a := v) (b := x) (by omega) (by omega)).mp (hn.symm.trans z.2)
          omega
        rw [e0, (sh_sm_zero _).mpr sub]
      · rw [(B5.2.2.2 x hx).2 (by omega), sh_sm_zero]
        intro j hj
        rw [sub j hj, Nat.mul_zero]
    · exact ih (k + 1) (by omega) q (by omega) h2 x hx hbx
end
section
/-! Y: store -/
section YST
variable {yf_concepts yf_place yf_size yf_uses yf_of yf_result yf_says : Int32} {yb_kind yb_behind yb_length yb_holes yb_value yb_kinds yb_origin yb_values yb_parent yb_span yb_todo yb_within yb_under yb_stands yb_outer yb_from yb_left yb_variable yb_saved yb_worth yb_said yb_work yb_phase : Nat → Int32}
theorem ys_s90 {post : SY → Prop} {J : (Int32 → (Nat → Int32) → (Nat → Int32) → (Nat → Int32) → (Nat → Int32) → (Nat → Int32) → (Nat → Int32) → (Nat → Int32) → (Nat → Int32) → (Nat → Int32) → (Nat → Int32) → (Nat → Int32) → (Nat → Int32) → (Nat → Int32) → (Nat → Int32) → (Nat → Int32) → (Nat → Int32) → (Nat → Int32) → (Nat → Int32) → (Nat → Int32) → (Nat → Int32) → (Nat → Int32) → (Nat → Int32) → (Nat → Int32) → Prop)} {g : sh_G} {b n r k : Nat} (hr : r < 10) (hn : n ≤ 24) (hk : k < n) (ha : sh_an g (b + k) ≤ 3)
    (hop : ∀ j, j < sh_an g (b + k) → b + k < sh_op g (b + k) j ∧ sh_op g (b + k) j < b + n) (hen : sh_en g (b + k) = sh_op g (b + k) (sh_an g (b + k))) (hen2 : b + k < sh_en g (b + k) ∧ sh_en g (b + k) ≤ b + n)
    (hB : ∀ q, k < q → q < n → yb_behind (24 * r + q) = nI (sh_en g (b + q) - b))
    (K : J (nI k - 1) yb_kind (upd yb_behind (24 * r + k) (nI (sh_en g (b + k) - b))) yb_length yb_holes yb_value yb_kinds yb_origin yb_values yb_parent yb_span yb_todo yb_within yb_under yb_stands yb_outer yb_from yb_left yb_variable yb_saved yb_worth yb_said yb_work yb_phase) :
    ∀ d j, j + d = sh_an g (b + k) → wY_store_90 post J (nI r) (nI k) (nI (sh_an g (b + k))) yf_concepts yf_place yf_size yf_uses yf_of yf_result yf_says yb_kind yb_behind yb_length yb_holes yb_value yb_kinds yb_origin yb_values yb_parent yb_span yb_todo yb_within yb_under yb_stands yb_outer yb_from yb_left yb_variable yb_saved yb_worth yb_said yb_work yb_phase (d + 1) (nI (sh_op g (b + k) j - b)) (nI j) := by
  have e1 : (24 : Int32) * nI r + nI k = nI (24 * r + k) := sh_ix (w := 24)
  intro d
  induction d with
  | zero =>
    intro j hj
    have e : j = sh_an g (b + k) := by omega
    rw [e]
    refine br_t (nI_le (Nat.le_refl _) (by omega)) ⟨by rw [e1]; exact vp_in_nI (by omega) (by omega), nm_r (e' := upd yb_behind (24 * r + k) (nI (sh_en g (b + k) - b))) ?_ (nm_r (sh_am1 (nI k)) K)⟩
    rw [e1, nI_clamp (by omega), ← hen, sh_n8 (by omega)]
  | succ d ih =>
    intro j hj
    have hja : j < sh_an g (b + k) := by omega
    have q := hop j hja
    have e2 : (24 : Int32) * nI r + nI (sh_op g (b + k) j - b) = nI (24 * r + (sh_op g (b + k) j - b)) := sh_ix (w := 24)
    refine br_f (nI_ge hja (by omega)) ⟨by rw [e2]; exact vp_in_nI (by omega) (by omega), nm_r (e' := nI (sh_op g (b + k) (j + 1) - b)) ?_ (nm_r (nI_1 j) (ih (j + 1) (by omega)))⟩
    rw [e2, nI_clamp (by omega), hB _ (by omega) (by omega), show b + (sh_op g (b + k) j - b) = sh_op g (b + k) j by omega]
    rfl
theorem ys_s20 {post : SY → Prop} {g : sh_G} {b n r : Nat} {dk : Nat → Nat} {dv : Nat → Int32} (hr : r < 10) (hn : n ≤ 24) (hdk : ∀ k, k < n → dk k < 22 ∧ sh_tk g (b + k) = dk k ∧ sh_an g (b + k) ≤ 3)
    (hh : ∀ k, k < n → 16 ≤ dk k → yb_holes (dk k - 16) = nI (sh_ho g (dk k - 16)))
    (hN : ∀ k, k < n → (∀ j, j < sh_an g (b + k) → b + k < sh_op g (b + k) j ∧ sh_op g (b + k) j < b + n) ∧ sh_en g (b + k) = sh_op g (b + k) (sh_an g (b + k)) ∧ b + k < sh_en g (b + k) ∧ sh_en g (b + k) ≤ b + n)
    (hD : ∀ k, k < n → yb_kind (240 + k) = nI (dk k) ∧ yb_value (240 + k) = dv k)
    (K : ∀ ak av ab, (∀ k, k < n → ak (24 * r + k) = nI (dk k) ∧ av (24 * r + k) = dv k ∧ ab (24 * r + k) = nI (sh_en g (b + k) - b)) → (∀ j, ¬ (24 * r ≤ j ∧ j < 24 * r + n) → ak j = yb_kind j ∧ av j = yb_value j ∧ ab j = yb_behind j) →
      post (yf_concepts, yf_place, yf_size, yf_uses, -1, yf_result, yf_says, ak, ab, upd yb_length 10 (nI 0), yb_holes, av, yb_kinds, yb_origin, yb_values, yb_parent, yb_span, yb_todo, yb_within, yb_under, yb_stands, yb_outer, yb_from, yb_left, yb_variable, yb_saved, yb_worth, yb_said, yb_work, yb_phase)) :
    ∀ t, t ≤ n → ∀ ak av ab, (∀ k, t ≤ k → k < n → ak (24 * r + k) = nI (dk k) ∧ av (24 * r + k) = dv k ∧ ab (24 * r + k) = nI (sh_en g (b + k) - b)) → (∀ j, ¬ (24 * r ≤ j ∧ j < 24 * r + n) → ak j = yb_kind j ∧ av j = yb_value j ∧ ab j = yb_behind j) →
    wY_store_20 post (nI r) yf_concepts yf_place yf_size yf_uses yf_of yf_result yf_says (t + 1) (nI t - 1) ak ab yb_length yb_holes av yb_kinds yb_origin yb_values yb_parent yb_span yb_todo yb_within yb_under yb_stands yb_outer yb_from yb_left yb_variable yb_saved yb_worth yb_said yb_work yb_phase := by
  intro t
  induction t with
  | zero =>
    intro _ ak av ab H1 H2
    refine br_t (by decide) (nm_r (e' := upd yb_length 10 (nI 0)) (by rw [show vp_nar .byte (0 : Int32) = nI 0 from sh_n8' (n := 0) (by omega)]) (K ak av ab (fun k hk => H1 k (by omega) hk) H2))
  | succ t ih =>
    intro ht ak av ab H1 H2
    rw [sh_m1a t]
    have e1 : (24 : Int32) * nI r + nI t = nI (24 * r + t) := sh_ix (w := 24)
    have e2 : (240 : Int32) + nI t = nI (240 + t) := nI_add 240 t
    have i1 : vp_in ((24 : Int32) * nI r + nI t) 264 := by rw [e1]; exact vp_in_nI (by omega) (by omega)
    have i2 : vp_in ((240 : Int32) + nI t) 264 := by rw [e2]; exact vp_in_nI (by omega) (by omega)
    have hd := hD t (by omega)
    have hk := hdk t (by omega)
    have hn' := hN t (by omega)
    have o := H2 (240 + t) (by omega)
    refine br_f (nI_pos (by omega)) ⟨i2, i1, nm_r (e' := upd ak (24 * r + t) (nI (dk t))) ?_ ⟨i2, i1, nm_r (e' := upd av (24 * r + t) (dv t)) ?_ (nm_r (nI_1 t) ⟨i2, ?_⟩)⟩⟩
    · rw [e1, e2, nI_clamp (by omega), nI_clamp (by omega), o.1, hd.1, sh_n8' (by omega)]
    · rw [e1, e2, nI_clamp (by omega), nI_clamp (by omega), o.2.1, hd.2]
    · have c : upd ak (24 * r + t) (nI (dk t)) ((240 : Int32) + nI t).toNatClampNeg = nI (dk t) := by
        rw [e2, nI_clamp (by omega), pk_un (by omega), o.1, hd.1]
      rw [c]
      refine ys_operands (ho := sh_ho g) hk.1 (hh t (by omega)) ⟨sh_an g (b + t) + 1, ?_⟩
      have ea : sh_ar (sh_ho g) (dk t) = sh_an g (b + t) := by unfold sh_an; rw [hk.2.1]
      rw [ea]
      have e3 : nI (t + 1) = nI (sh_op g (b + t) 0 - b) := congrArg nI (by rw [sh_op_0]; omega)
      rw [e3]
      refine ys_s90 (g := g) (b := b) hr hn (by omega) hk.2.2 hn'.1 hn'.2.1 hn'.2.2 (fun q h1 h2 => (H1 q (by omega) h2).2.2) ?_ (sh_an g (b + t)) 0 (Nat.zero_add _)
      refine ih (by omega) _ _ _ (fun k h1 h2 => ?_) (fun j hj => ?_)
      · by_cases e : k = t
        · subst e
          exact ⟨pk_us, pk_us, pk_us⟩
        · rw [pk_un (by omega), pk_un (by omega), pk_un (by omega)]
          exact H1 k (by omega) h2
      · rw [pk_un (by omega), pk_un (by omega), pk_un (by omega)]
        exact H2 j hj
theorem ys_store {post : SY → Prop} {g : sh_G} {b n r : Nat} {dk : Nat → Nat} {dv : Nat → Int32} (hr : r < 10) (hn : n ≤ 24) (hl : yb_length 10 = nI n) (hdk : ∀ k, k < n → dk k < 22 ∧ sh_tk g (b + k) = dk k ∧ sh_an g (b + k) ≤ 3)
    (hh : ∀ k, k < n → 16 ≤ dk k → yb_holes (dk k - 16) = nI (sh_ho g (dk k - 16)))
    (hN : ∀ k, k < n → (∀ j, j < sh_an g (b + k) → b + k < sh_op g (b + k) j ∧ sh_op g (b + k) j < b + n) ∧ sh_en g (b + k) = sh_op g (b + k) (sh_an g (b + k)) ∧ b + k < sh_en g (b + k) ∧ sh_en g (b + k) ≤ b + n)
    (hD : ∀ k, k < n → yb_kind (240 + k) = nI (dk k) ∧ yb_value (240 + k) = dv k)
    (K : ∀ ak av ab, (∀ k, k < n → ak (24 * r + k) = nI (dk k) ∧ av (24 * r + k) = dv k ∧ ab (24 * r + k) = nI (sh_en g (b + k) - b)) → (∀ j, ¬ (24 * r ≤ j ∧ j < 24 * r + n) → ak j = yb_kind j ∧ av j = yb_value j ∧ ab j = yb_behind j) →
      post (yf_concepts, yf_place, yf_size, yf_uses, -1, yf_result, yf_says, ak, ab, upd (upd yb_length r (nI n)) 10 (nI 0), yb_holes, av, yb_kinds, yb_origin, yb_values, yb_parent, yb_span, yb_todo, yb_within, yb_under, yb_stands, yb_outer, yb_from, yb_left, yb_variable, yb_saved, yb_worth, yb_said, yb_work, yb_phase)) :
    wpY_store post (yf_concepts, yf_place, yf_size, yf_uses, yf_of, yf_result, yf_says, yb_kind, yb_behind, yb_length, yb_holes, yb_value, yb_kinds, yb_origin, yb_values, yb_parent, yb_span, yb_todo, yb_within, yb_under, yb_stands, yb_outer, yb_from, yb_left, yb_variable, yb_saved, yb_worth, yb_said, yb_work, yb_phase) (nI r) := by
  refine nm_r hl ⟨vp_in_nI (by omega) (by omega), nm_r (e' := upd yb_length r (nI n)) ?_ (nm_e ⟨n + 1, ?_⟩)⟩
  · rw [nI_clamp (by omega), sh_n8 (by omega)]
  · exact ys_s20 (g := g) (b := b) hr hn hdk hh hN hD K n (Nat.le_refl _) yb_kind yb_value yb_behind (fun k h1 h2 => by omega) (fun j _ => ⟨rfl, rfl, rfl⟩)
end YST
end
section
/-! blocks of an expansion: spans, kinds, levels -/
theorem sh_sm_app (f : Nat → Nat) (a : Nat) : ∀ b, sh_sm (a + b) f = sh_sm a f + sh_sm b (fun j => f (a + j)) := by
  intro b
  induction b with
  | zero => rfl
  | succ b ih => show sh_sm (a + b) f + f (a + b) = sh_sm a f + (sh_sm b (fun j => f (a + j)) + f (a + b)); omega
section BLK
variable {g : sh_G} {cc hi s N U : Nat} {F S : Nat → List (Nat × Nat) → Nat → Nat → Nat → Prop}
/-- kinds -/
theorem sh_kinds (P : sh_Pg g cc hi) (hs : s < 4) (H : sh_Cl g cc hi s N U F S) {kds : Nat → Int32} (hF : ∀ i r p u a, F i r p u a → kds p = nI (sh_kd g i)) {q : Nat} (hq : q < 9) :
    ∀ i r p u a, S i r p u a → sh_sm (sh_eT g i r) (fun j => if kds (p + j) = nI q then 1 else 0) = sh_eK g q i r := by
  refine sh_ind P hs H _ ?_ ?_ ?_
  · intro i r p u a hS hk e
    have w := sh_gu P hs (H i r p u a hS).1.1 hk u
    rw [w.2.1, w.2.2.2.1 q hq]; exact e
  · intro i i' u' r' v p u a hS hk hn hv hv' G5 h16 c1 hS' e
    obtain ⟨i3, u3, r3, v3, e3, hv3, hv3', hn3, h13, c13, h53, G', eT, eR, eK, _⟩ := sh_gh P hs (H i _ p u a hS).1.1 hk
    cases e3
    have : v = v3 := (nI_eq (by omega) (by omega)).mp (hn.symm.trans hn3)
    subst this
    rw [eT, eK q hq]; exact e
  · intro i r p u a hS hk h9 e
    have G := (H i r p u a hS).1.1
    have w := sh_gp P hs G hk h9
    have f := ((H i r p u a hS).2.2.2 hk h9).1
    have N' := sh_Gd_n P hs G
    have in1 : ∀ m, m ≤ sh_an g i → sh_sm (1 + sh_sm m (fun j => sh_eT g (sh_op g i j) r)) (fun j => if kds (p + j) = nI q then 1 else 0) = (if kds p = nI q then 1 else 0) + sh_sm m (fun j => sh_eK g q (sh_op g i j) r) := by
      intro m
      induction m with
      | zero => intro _; show 0 + (if kds (p + 0) = nI q then 1 else 0) = (if kds p = nI q then 1 else 0) + 0; rw [Nat.add_zero, Nat.zero_add, Nat.add_zero]
      | succ m ih =>
        intro hm
        have c := e m (by omega)
        show sh_sm (1 + (sh_sm m (fun j => sh_eT g (sh_op g i j) r) + sh_eT g (sh_op g i m) r)) _ = _ + (sh_sm m (fun j => sh_eK g q (sh_op g i j) r) + sh_eK g q (sh_op g i m) r)
        rw [← Nat.add_assoc, sh_sm_app, ih (by omega), ← c, Nat.add_assoc]
        congr 2
        refine sh_sm_congr _ (fun j _ => ?_)
        rw [show p + (1 + sh_sm m (fun j => sh_eT g (sh_op g i j) r) + j) = p + 1 + sh_sm m (fun k => sh_eT g (sh_op g i k) r) + j by omega]
    rw [w.2.1, w.2.2.2.1 q hq, in1 _ (Nat.le_refl _), hF _ _ _ _ _ f]
    congr 1
    have kb : sh_kd g i < 22 := by unfold sh_kd; split <;> have := N'.1.1 <;> omega
    have iff1 : nI (sh_kd g i) = nI q ↔ (sh_tk g i = q ∨ sh_tk g i = 10 ∧ q = 0) := by
      rw [nI_eq (by omega) (by omega)]
      unfold sh_kd
      by_cases h10 : sh_tk g i = 10
      · rw [if_pos h10]; omega
      · rw [if_neg h10]; omega
    by_cases e0 : nI (sh_kd g i) = nI q
    · rw [if_pos e0, if_pos (iff1.mp e0)]
    · rw [if_neg e0, if_neg (fun z => e0 (iff1.mpr z))]
/-- levels: of a token one more than of the one above -/
theorem sh_lv_ex (par : Nat → Nat) : ∀ n, (∀ k, 0 < k → k < n → par k < k) → ∃ lv : Nat → Nat, ∀ k, k < n → lv k = if k = 0 then 1 else lv (par k) + 1 := by
  intro n
  induction n with
  | zero => intro _; exact ⟨fun _ => 0, fun k h => by omega⟩
  | succ n ih =>
    intro hp
    obtain ⟨lv, h⟩ := ih (fun k h1 h2 => hp k h1 (by omega))
    refine ⟨fun k => if k = n then (if k = 0 then 1 else lv (par k) + 1) else lv k, fun k hk => ?_⟩
    dsimp only
    by_cases e : k = n
    · rw [if_pos e]
      by_cases e0 : k = 0
      · rw [if_pos e0, if_pos e0]
      · have := hp k (by omega) hk
        rw [if_neg e0, if_neg e0, if_neg (by omega)]
    · rw [if_neg e, h k (by omega)]
      by_cases e0 : k = 0
      · rw [if_pos e0, if_pos e0]
      · have := hp k (by omega) hk
        rw [if_neg e0, if_neg e0, if_neg (by omega)]
def sh_la (lv : Nat → Nat) (a : Nat) : Nat := if a = 0 then 0 else lv (a - 1)
theorem sh_levels (P : sh_Pg g cc hi) (hs : s < 4) (H : sh_Cl g cc hi s N U F S) {lv : Nat → Nat} (hF : ∀ i r p u a, F i r p u a → S i r p u a → lv p = sh_la lv a + 1) :
    ∀ i r p u a, S i r p u a → ∀ n, (∀ k, p ≤ k → k < p + sh_eT g i r → lv k ≤ n) ↔ sh_la lv a + sh_ed g i r ≤ n := by
  refine sh_ind P hs H (fun i r p u a => ∀ n, (∀ k, p ≤ k → k < p + sh_eT g i r → lv k ≤ n) ↔ sh_la lv a + sh_ed g i r ≤ n) ?_ ?_ ?_
  · intro i r p u a hS hk e
    have w := sh_gu P hs (H i r p u a hS).1.1 hk u
    rw [w.2.1, w.2.2.2.2]; exact e
  · intro i i' u' r' v p u a hS hk hn hv hv' G5 h16 c1 hS' e
    obtain ⟨i3, u3, r3, v3, e3, hv3, hv3', hn3, h13, c13, h53, G', eT, eR, eK, eD⟩ := sh_gh P hs (H i _ p u a hS).1.1 hk
    cases e3
    have : v = v3 := (nI_eq (by omega) (by omega)).mp (hn.symm.trans hn3)
    subst this
    rw [eT, eD]; exact e
  · intro i r p u a hS hk h9 e n
    have G := (H i r p u a hS).1.1
    have w := sh_gp P hs G hk h9
    have f := hF _ _ _ _ _ ((H i r p u a hS).2.2.2 hk h9).1 hS
    have in1 : ∀ m, m ≤ sh_an g i → ((∀ k, p ≤ k → k < p + (1 + sh_sm m (fun j => sh_eT g (sh_op g i j) r)) → lv k ≤ n) ↔ sh_la lv a + 1 ≤ n ∧ ∀ j, j < m → sh_la lv a + (sh_ed g (sh_op g i j) r + 1) ≤ n) := by
      intro m
      induction m with
      | zero =>
        intro _
        constructor
        · intro h
          have := h p (Nat.le_refl _) (by show p < p + (1 + 0); omega)
          exact ⟨by omega, fun j hj => by omega⟩
        · rintro ⟨h1, _⟩ k k1 k2
          have k3 : k < p + (1 + 0) := k2
          have : k = p := by omega
          rw [this]; omega
      | succ m ih =>
        intro hm
        have c := e m (by omega) n
        have e1 : sh_sm (m + 1) (fun j => sh_eT g (sh_op g i j) r) = sh_sm m (fun j => sh_eT g (sh_op g i j) r) + sh_eT g (sh_op g i m) r := rfl
        have la : sh_la lv (p + 1) = lv p := if_neg (by omega)
        rw [la, f] at c
        constructor
        · intro h
          have a1 := (ih (by omega)).mp (fun k k1 k2 => h k k1 (by omega))
          have a2 := c.mp (fun k k1 k2 => h k (by omega) (by omega))
          refine ⟨a1.1, fun j hj => ?_⟩
          by_cases ej : j = m
          · rw [ej]; omega
          · exact a1.2 j (by omega)
        · rintro ⟨h1, h2⟩ k k1 k2
          by_cases ek : k < p + (1 + sh_sm m (fun j => sh_eT g (sh_op g i j) r))
          · exact ((ih (by omega)).mpr ⟨h1, fun j hj => h2 j (by omega)⟩) k k1 ek
          · exact (c.mpr (by have := h2 m (by omega); omega)) k (by omega) (by omega)
    rw [w.2.1, w.2.2.2.2, in1 _ (Nat.le_refl _)]
    have key : sh_la lv a + sh_max 1 (sh_mx (sh_an g i) (fun j => sh_ed g (sh_op g i j) r + 1)) ≤ n ↔ sh_la lv a ≤ n ∧ sh_max 1 (sh_mx (sh_an g i) (fun j => sh_ed g (sh_op g i j) r + 1)) ≤ n - sh_la lv a := by omega
    rw [key, sh_max_le, sh_mx_le]
    constructor
    · rintro ⟨h1, h2⟩
      exact ⟨by omega, by omega, fun j hj => by have := h2 j hj; omega⟩
    · rintro ⟨h1, h2, h3⟩
      exact ⟨by omega, fun j hj => by have := h3 j hj; omega⟩
end BLK
end
section
/-! Y: measure gives the spans -/
section YSP
variable {yf_concepts yf_place yf_size yf_uses yf_of yf_result yf_says : Int32} {yb_kind yb_behind yb_length yb_holes yb_value yb_kinds yb_origin yb_values yb_parent yb_span yb_todo yb_within yb_under yb_stands yb_outer yb_from yb_left yb_variable yb_saved yb_worth yb_said yb_work yb_phase : Nat → Int32} {g : sh_G} {cc hi s N U : Nat} {F S : Nat → List (Nat × Nat) → Nat → Nat → Nat → Prop}
theorem ys_m30 {post : SY → Prop} {k q a b n : Nat} (hk : 0 < k) (hk2 : k ≤ 2000) (hq : q ≤ 2000) (hp : yb_parent k = nI q) (hb : yb_span q = nI a) (hc : yb_span k = nI b) (hab : a + b < 30000)
    (K : wY_measure_30 post yf_concepts yf_place yf_size yf_uses yf_of yf_result yf_says n (nI (k - 1)) yb_kind yb_behind yb_length yb_holes yb_value yb_kinds yb_origin yb_values yb_parent (upd yb_span q (nI (a + b))) yb_todo yb_within yb_under yb_stands yb_outer yb_from yb_left yb_variable yb_saved yb_worth yb_said yb_work yb_phase) :
    wY_measure_30 post yf_concepts yf_place yf_size yf_uses yf_of yf_result yf_says (n + 1) (nI k) yb_kind yb_behind yb_length yb_holes yb_value yb_kinds yb_origin yb_values yb_parent yb_span yb_todo yb_within yb_under yb_stands yb_outer yb_from yb_left yb_variable yb_saved yb_worth yb_said yb_work yb_phase := by
  have i1 : vp_in (nI k) 2001 := vp_in_nI (by omega) (by omega)
  have c1 : yb_parent (nI k).toNatClampNeg = nI q := by rw [nI_clamp (by omega)]; exact hp
  have i2 : vp_in (yb_parent (nI k).toNatClampNeg) 2001 := by rw [c1]; exact vp_in_nI (by omega) (by omega)
  refine br_f (nI_nle hk (by omega)) ⟨i1, i2, i1, i2, nm_r ?_ (nm_r (sb_m1 hk) K)⟩
  rw [c1, nI_clamp (by omega), nI_clamp (by omega), hb, hc, nI_add, sh_n16 (by omega)]
theorem ys_spans {post : SY → Prop} {SP : Nat → Nat} (P : sh_Pg g cc hi) (hs : s < 4) (H : sh_Cl g cc hi s N U F S) (hN : N ≤ 2000) (hF : ∀ i r p u a, F i r p u a → yb_parent p = nI a - 1 ∧ SP p = sh_eT g i r) :
    ∀ i r p u a, S i r p u a → ∀ sp : Nat → Int32, (∀ k, p ≤ k → k < p + sh_eT g i r → sp k = nI 1) → ∃ sp' : Nat → Int32, (∀ k, p ≤ k → k < p + sh_eT g i r → sp' k = nI (SP k)) ∧ (∀ k, ¬ (p ≤ k ∧ k < p + sh_eT g i r) → sp' k = sp k) ∧
      ∀ n, wY_measure_30 post yf_concepts yf_place yf_size yf_uses yf_of yf_result yf_says n (nI p) yb_kind yb_behind yb_length yb_holes yb_value yb_kinds yb_origin yb_values yb_parent sp' yb_todo yb_within yb_under yb_stands yb_outer yb_from yb_left yb_variable yb_saved yb_worth yb_said yb_work yb_phase → wY_measure_30 post yf_concepts yf_place yf_size yf_uses yf_of yf_result yf_says (n + (sh_eT g i r - 1)) (nI (p + sh_eT g i r - 1)) yb_kind yb_behind yb_length yb_holes yb_value yb_kinds yb_origin yb_values yb_parent sp yb_todo yb_within yb_under yb_stands yb_outer yb_from yb_left yb_variable yb_saved yb_worth yb_said yb_work yb_phase := by
  refine sh_ind P hs H (fun i r p u a => ∀ sp : Nat → Int32, (∀ k, p ≤ k → k < p + sh_eT g i r → sp k = nI 1) → ∃ sp' : Nat → Int32, (∀ k, p ≤ k → k < p + sh_eT g i r → sp' k = nI (SP k)) ∧ (∀ k, ¬ (p ≤ k ∧ k < p + sh_eT g i r) → sp' k = sp k) ∧
      ∀ n, wY_measure_30 post yf_concepts yf_place yf_size yf_uses yf_of yf_result yf_says n (nI p) yb_kind yb_behind yb_length yb_holes yb_value yb_kinds yb_origin yb_values yb_parent sp' yb_todo yb_within yb_under yb_stands yb_outer yb_from yb_left yb_variable yb_saved yb_worth yb_said yb_work yb_phase → wY_measure_30 post yf_concepts yf_place yf_size yf_uses yf_of yf_result yf_says (n + (sh_eT g i r - 1)) (nI (p + sh_eT g i r - 1)) yb_kind yb_behind yb_length yb_holes yb_value yb_kinds yb_origin yb_values yb_parent sp yb_todo yb_within yb_under yb_stands yb_outer yb_from yb_left yb_variable yb_saved yb_worth yb_said yb_work yb_phase) ?_ ?_ ?_
  · intro i r p u a hS hk e
    have w := sh_gu P hs (H i r p u a hS).1.1 hk u
    rw [w.2.1]; exact e
  · intro i i' u' r' v p u a hS hk hn hv hv' G5 h16 c1 hS' e
    obtain ⟨i3, u3, r3, v3, e3, hv3, hv3', hn3, h13, c13, h53, G', eT, eR, eK, eD⟩ := sh_gh P hs (H i _ p u a hS).1.1 hk
    cases e3
    have : v = v3 := (nI_eq (by omega) (by omega)).mp (hn.symm.trans hn3)
    subst this
    rw [eT]; exact e
  · intro i r p u a hS hk h9 e sp h1
    have OK := (H i r p u a hS).1
    have w := sh_gp P hs OK.1 hk h9
    have f := hF _ _ _ _ _ ((H i r p u a hS).2.2.2 hk h9).1
    have kids := ((H i r p u a hS).2.2.2 hk h9).2
    have hT : p + sh_eT g i r ≤ N := OK.2.1
    have eT := w.2.1
    -- the children from the last one on
    have in1 : ∀ d m, m + d = sh_an g i → ∃ sp' : Nat → Int32, (∀ k, p + 1 + sh_sm m (fun k => sh_eT g (sh_op g i k) r) ≤ k → k < p + sh_eT g i r → sp' k = nI (SP k)) ∧ sp' p = nI (sh_eT g i r - sh_sm m (fun k => sh_eT g (sh_op g i k) r)) ∧
        (∀ k, k ≠ p → ¬ (p + 1 + sh_sm m (fun k => sh_eT g (sh_op g i k) r) ≤ k ∧ k < p + sh_eT g i r) → sp' k = sp k) ∧
        ∀ n, wY_measure_30 post yf_concepts yf_place yf_size yf_uses yf_of yf_result yf_says n (nI (p + sh_sm m (fun k => sh_eT g (sh_op g i k) r))) yb_kind yb_behind yb_length yb_holes yb_value yb_kinds yb_origin yb_values yb_parent sp' yb_todo yb_within yb_under yb_stands yb_outer yb_from yb_left yb_variable yb_saved yb_worth yb_said yb_work yb_phase → wY_measure_30 post yf_concepts yf_place yf_size yf_uses yf_of yf_result yf_says (n + (sh_eT g i r - 1 - sh_sm m (fun k => sh_eT g (sh_op g i k) r))) (nI (p + sh_eT g i r - 1)) yb_kind yb_behind yb_length yb_holes yb_value yb_kinds yb_origin yb_values yb_parent sp yb_todo yb_within yb_under yb_stands yb_outer yb_from yb_left yb_variable yb_saved yb_worth yb_said yb_work yb_phase := by
      intro d
      induction d with
      | zero =>
        intro m hm
        have em : m = sh_an g i := by omega
        subst em
        refine ⟨sp, fun k k1 k2 => by omega, ?_, fun k _ _ => rfl, fun n hn => ?_⟩
        · rw [h1 p (Nat.le_refl _) (by omega)]
          exact congrArg nI (by omega)
        · rw [show p + sh_eT g i r - 1 = p + sh_sm (sh_an g i) (fun k => sh_eT g (sh_op g i k) r) by omega, show sh_eT g i r - 1 - sh_sm (sh_an g i) (fun k => sh_eT g (sh_op g i k) r) = 0 by omega]
          exact hn
      | succ d ih =>
        intro m hm
        obtain ⟨s1, a1, a2, a3, a4⟩ := ih (m + 1) (by omega)
        have hma : m < sh_an g i := by omega
        have e1 : sh_sm (m + 1) (fun k => sh_eT g (sh_op g i k) r) = sh_sm m (fun k => sh_eT g (sh_op g i k) r) + sh_eT g (sh_op g i m) r := rfl
        have mono := sh_sm_mono (f := fun k => sh_eT g (sh_op g i k) r) (m + 1) (sh_an g i) (by omega)
        rw [e1] at a1 a2 a3 a4 mono
        generalize hA : sh_sm m (fun k => sh_eT g (sh_op g i k) r) = A at *
        have kid := kids m hma
        rw [hA] at kid
        have pos := sh_pos P hs _ _ _ (Nat.lt_succ_self _) (w.1 m hma)
        obtain ⟨s2, b1, b2, b3⟩ := e m hma s1 (fun k k1 k2 => by
          rw [hA] at k1 k2
          rw [a3 k (by omega) (by omega)]
          exact h1 k (by omega) (by omega))
        rw [hA] at b1 b2 b3
        obtain ⟨i2, r2, u2, z1, z2, z3, z4, z5⟩ := sh_settles P hs H _ _ _ _ _ kid
        have f2 := hF _ _ _ _ _ ((H _ _ _ _ _ z1).2.2.2 z2 z3).1
        rw [sh_m1a p, ← z4] at f2
        generalize hB : sh_eT g (sh_op g i m) r = B at *
        have c1 : s2 p = nI (sh_eT g i r - (A + B)) := by rw [b2 p (by omega)]; exact a2
        have c2 : s2 (p + 1 + A) = nI B := by rw [b1 _ (Nat.le_refl _) (by omega), f2.2]
        refine ⟨upd s2 p (nI (sh_eT g i r - (A + B) + B)), fun k k1 k2 => ?_, ?_, fun k k1 k2 => ?_, fun n hn => ?_⟩
        · rw [pk_un (by omega)]
          by_cases q : k < p + 1 + A + B
          · exact b1 k k1 q
          · rw [b2 k (by omega)]
            exact a1 k (by omega) k2
        · rw [pk_us]; exact congrArg nI (by omega)
        · rw [pk_un k1, b2 k (by omega)]
          exact a3 k k1 (by omega)
        · have st := ys_m30 (post := post) (yb_span := s2) (k := p + 1 + A) (q := p) (n := n) (by omega) (by omega) (by omega) f2.1 c1 c2 (by omega) (by rw [show p + 1 + A - 1 = p + A by omega]; exact hn)
          have st2 := b3 (n + 1) st
          rw [show p + 1 + A + B - 1 = p + (A + B) by omega] at st2
          have st3 := a4 _ st2
          rw [show n + 1 + (B - 1) + (sh_eT g i r - 1 - (A + B)) = n + (sh_eT g i r - 1 - A) by omega] at st3
          exact st3
    obtain ⟨s1, a1, a2, a3, a4⟩ := in1 (sh_an g i) 0 (Nat.zero_add _)
    have e0 : sh_sm 0 (fun k => sh_eT g (sh_op g i k) r) = 0 := rfl
    rw [e0] at a1 a2 a3 a4
    refine ⟨s1, fun k k1 k2 => ?_, fun k k1 => a3 k (by omega) (by omega), fun n hn => a4 n hn⟩
    by_cases ek : k = p
    · rw [ek, a2, f.2]; rfl
    · exact a1 k (by omega) k2
theorem ys_m2 {post : SY → Prop} {M : Nat} (hN : N ≤ 2000) (hz : yf_size = nI N) (K : wY_measure_30 post yf_concepts yf_place yf_size yf_uses yf_of yf_result yf_says M (nI N - 1) yb_kind yb_behind yb_length yb_holes yb_value yb_kinds yb_origin yb_values yb_parent (sh_blk yb_span 0 N (fun _ => nI 1)) yb_todo yb_within yb_under yb_stands yb_outer yb_from yb_left yb_variable yb_saved yb_worth yb_said yb_work yb_phase) :
    ∀ d q, q + d = N → wY_measure_2 post yf_concepts yf_place yf_size yf_uses yf_of yf_result yf_says (d + 1) (nI q) yb_kind yb_behind yb_length yb_holes yb_value yb_kinds yb_origin yb_values yb_parent (sh_blk yb_span 0 q (fun _ => nI 1)) yb_todo yb_within yb_under yb_stands yb_outer yb_from yb_left yb_variable yb_saved yb_worth yb_said yb_work yb_phase := by
  subst hz
  intro d
  induction d with
  | zero =>
    intro q hq; have e0 : q = N := by omega
    subst e0
    exact br_t (nI_le (Nat.le_refl _) (by omega)) (nm_e ⟨M, K⟩)
  | succ d ih =>
    intro q hq
    have nx := ih (q + 1) (by omega)
    rw [← sh_blk_s yb_span] at nx
    refine br_f (nI_ge (by omega) (by omega)) ⟨vp_in_nI (by omega) (by omega), nm_r ?_ (nm_r (nI_1 q) nx)⟩
    rw [nI_clamp (by omega), Nat.zero_add, show vp_nar .short (1 : Int32) = nI 1 from sh_n16' (n := 1) (by omega)]
theorem ys_measure {post : SY → Prop} {SP : Nat → Nat} {i : Nat} (P : sh_Pg g cc hi) (hs : s < 4) (H : sh_Cl g cc hi s N U F S) (hN : N ≤ 2000) (hF : ∀ i r p u a, F i r p u a → yb_parent p = nI a - 1 ∧ SP p = sh_eT g i r)
    (hS : S i [] 0 0 0) (hT : sh_eT g i [] = N) (hz : yf_size = nI N) (K : ∀ sp : Nat → Int32, (∀ k, k < N → sp k = nI (SP k)) → post (yf_concepts, yf_place, yf_size, yf_uses, yf_of, yf_result, yf_says, yb_kind, yb_behind, yb_length, yb_holes, yb_value, yb_kinds, yb_origin, yb_values, yb_parent, sp, yb_todo, yb_within, yb_under, yb_stands, yb_outer, yb_from, yb_left, yb_variable, yb_saved, yb_worth, yb_said, yb_work, yb_phase)) : wpY_measure post (yf_concepts, yf_place, yf_size, yf_uses, yf_of, yf_result, yf_says, yb_kind, yb_behind, yb_length, yb_holes, yb_value, yb_kinds, yb_origin, yb_values, yb_parent, yb_span, yb_todo, yb_within, yb_under, yb_stands, yb_outer, yb_from, yb_left, yb_variable, yb_saved, yb_worth, yb_said, yb_work, yb_phase) := by
  have pos := sh_pos P hs _ _ _ (Nat.lt_succ_self _) (H _ _ _ _ _ hS).1.1
  obtain ⟨sp, a1, a2, a3⟩ := ys_spans (post := post) (yf_concepts := yf_concepts) (yf_place := yf_place) (yf_size := yf_size) (yf_uses := yf_uses) (yf_of := yf_of) (yf_result := yf_result) (yf_says := yf_says) (yb_kind := yb_kind) (yb_behind := yb_behind) (yb_length := yb_length) (yb_holes := yb_holes) (yb_value := yb_value) (yb_kinds := yb_kinds) (yb_origin := yb_origin) (yb_values := yb_values) (yb_parent := yb_parent) (yb_todo := yb_todo) (yb_within := yb_within) (yb_under := yb_under) (yb_stands := yb_stands) (yb_outer := yb_outer) (yb_from := yb_from) (yb_left := yb_left) (yb_variable := yb_variable) (yb_saved := yb_saved) (yb_worth := yb_worth) (yb_said := yb_said) (yb_work := yb_work) (yb_phase := yb_phase) P hs H hN hF i [] 0 0 0 hS (sh_blk yb_span 0 N (fun _ => nI 1)) (fun k k1 k2 => by
    have := sh_blk_i (c := yb_span) (b := 0) (n := N) (k := k) (f := fun _ => nI 1) (by omega)
    rw [Nat.zero_add] at this; exact this)
  rw [hT] at a1 a3 pos
  have L := a3 1 (br_t (by decide) (K sp (fun k hk => a1 k (by omega) (by omega))))
  have e : nI N - 1 = nI (0 + N - 1) := by
    obtain ⟨m, rfl⟩ : ∃ m, N = m + 1 := ⟨N - 1, by omega⟩
    rw [sh_m1a]; exact congrArg nI (by omega)
  rw [← e] at L
  have M := ys_m2 (post := post) hN hz L N 0 (Nat.zero_add _)
  rw [sh_blk_0] at M
  exact ⟨N + 1, M⟩
theorem ys_measure0 {post : SY → Prop} (hz : yf_size = 0) (K : post (yf_concepts, yf_place, yf_size, yf_uses, yf_of, yf_result, yf_says, yb_kind, yb_behind, yb_length, yb_holes, yb_value, yb_kinds, yb_origin, yb_values, yb_parent, yb_span, yb_todo, yb_within, yb_under, yb_stands, yb_outer, yb_from, yb_left, yb_variable, yb_saved, yb_worth, yb_said, yb_work, yb_phase)) : wpY_measure post (yf_concepts, yf_place, yf_size, yf_uses, yf_of, yf_result, yf_says, yb_kind, yb_behind, yb_length, yb_holes, yb_value, yb_kinds, yb_origin, yb_values, yb_parent, yb_span, yb_todo, yb_within, yb_under, yb_stands, yb_outer, yb_from, yb_left, yb_variable, yb_saved, yb_worth, yb_said, yb_work, yb_phase) := by
  subst hz
  exact ⟨1, br_t (by decide) (nm_e ⟨1, br_t (by decide) K⟩)⟩
end YSP
end
section
/-! Y: the expansion: addresses, contexts, the stack -/
def sh_yd (r i : Nat) : Nat := 24 * r + (i - sh_xb r)
def ys_YN (g : sh_G) (kind value behind : Nat → Int32) (r i : Nat) : Prop :=
  kind (sh_yd r i) = nI (sh_tk g i) ∧ behind (sh_yd r i) = nI (sh_en g i - sh_xb r) ∧ (sh_tk g i < 2 ∨ sh_tk g i = 7 ∨ sh_tk g i = 9 ∨ 16 ≤ sh_tk g i → value (sh_yd r i) = sh_nm g i)
def ys_YP (g : sh_G) (hi : Nat) (kind value behind : Nat → Int32) : Prop := ∀ r, (r < hi ∨ 6 ≤ r ∧ r < 10) → ∀ i, sh_IR g r i → ys_YN g kind value behind r i
def ys_YC (g : sh_G) (s : Nat) (st ou fr : Nat → Int32) (us : Nat) : List (Nat × Nat) → Int32 → Prop
  | [], w => w = -1
  | (i, u) :: r, w => w = nI u ∧ u < us ∧ st u = nI (sh_yd (sh_rw g s r) i) ∧ fr u = nI (sh_og s i r) ∧ ys_YC g s st ou fr us r (ou u)
def ys_Sk (g : sh_G) (s : Nat) (td wi un st ou fr : Nat → Int32) (us : Nat) : List sh_I → Prop
  | [] => True
  | (i, r, _, _, a) :: L => td L.length = nI (sh_yd (sh_rw g s r) i) ∧ ys_YC g s st ou fr us r (wi L.length) ∧ un L.length = nI a - 1 ∧ ys_Sk g s td wi un st ou fr us L
def sh_Ck (g : sh_G) : List sh_I → Nat → Nat → Nat → Nat → Prop
  | [], p, u, N, U => p = N ∧ u = U
  | (i, r, p', u', _) :: L, p, u, N, U => p' = p ∧ u' = u ∧ sh_Ck g L (p + sh_eT g i r) (u + sh_eR g i r) N U
def sh_wt (g : sh_G) : List sh_I → Nat
  | [] => 0
  | (i, r, _) :: L => 4 ^ sh_ms g i r + sh_wt g L
def sh_kids (g : sh_G) (i : Nat) (r : List (Nat × Nat)) (p u : Nat) : Nat → Nat → List sh_I
  | 0, _ => []
  | d + 1, j => (sh_op g i j, r, p + 1 + sh_sm j (fun k => sh_eT g (sh_op g i k) r), u + sh_sm j (fun k => sh_eR g (sh_op g i k) r), p + 1) :: sh_kids g i r p u d (j + 1)
def sh_Sv (g : sh_G) (cc hi s N U : Nat) (L : List sh_I) (S F : Nat → List (Nat × Nat) → Nat → Nat → Nat → Prop) : Prop :=
  ∀ i r p u a, S i r p u a → sh_Ok g cc hi s N U i r p u a ∧ ((i, r, p, u, a) ∈ L ∨ sh_Sc g S F i r p u a)
def sh_Fl (g : sh_G) (s : Nat) (kds vls ogn prt : Nat → Int32) (Z : Nat → Nat × List (Nat × Nat)) (p0 : Nat) (i : Nat) (r : List (Nat × Nat)) (p _u a : Nat) : Prop :=
  p < p0 ∧ kds p = nI (sh_kd g i) ∧ vls p = sh_vl g i r ∧ ogn p = nI (sh_og s i r) ∧ prt p = nI a - 1 ∧ Z p = (i, r)
def sh_Ff (g : sh_G) (s : Nat) (kds vls ogn prt sp : Nat → Int32) (i : Nat) (r : List (Nat × Nat)) (p _u a : Nat) : Prop :=
  kds p = nI (sh_kd g i) ∧ vls p = sh_vl g i r ∧ ogn p = nI (sh_og s i r) ∧ prt p = nI a - 1 ∧ sp p = nI (sh_eT g i r)
def sh_Sh (w : Int32) : Prop := vp_nar .short w.toInt16.toInt32 = w
theorem sh_Sh_m : sh_Sh (-1) := sh_n16m
theorem sh_Sh_n {n : Nat} (h : n < 32768) : sh_Sh (nI n) := sh_n16 h
theorem sh_Sh_a {a : Nat} (h : a < 32768) : sh_Sh (nI a - 1) := by
  cases a with
  | zero => rw [sh_m1b]; exact sh_Sh_m
  | succ a => rw [sh_m1a]; exact sh_Sh_n (by omega)
section YTL
variable {g : sh_G} {cc hi s N U : Nat} {F F' S : Nat → List (Nat × Nat) → Nat → Nat → Nat → Prop} {td wi un st ou fr td' wi' un' st' ou' fr' : Nat → Int32} {us us' : Nat}
theorem ys_YC_Sh (hu : us ≤ 30000) {r : List (Nat × Nat)} {w : Int32} (h : ys_YC g s st ou fr us r w) : sh_Sh w := by
  cases r with
  | nil => rw [show w = -1 from h]; exact sh_Sh_m
  | cons a r => rw [h.1]; exact sh_Sh_n (by have := h.2.1; omega)
theorem ys_YC_up (hu : us ≤ us') (hA : ∀ k, k < us → st' k = st k ∧ ou' k = ou k ∧ fr' k = fr k) : ∀ (r : List (Nat × Nat)) (w : Int32), ys_YC g s st ou fr us r w → ys_YC g s st' ou' fr' us' r w := by
  intro r
  induction r with
  | nil => intro w h; exact h
  | cons a r ih =>
    intro w h
    obtain ⟨h1, h2, h3, h4, h5⟩ := h
    have q := hA a.2 h2
    exact ⟨h1, Nat.lt_of_lt_of_le h2 hu, by rw [q.1]; exact h3, by rw [q.2.2]; exact h4, by rw [q.2.1]; exact ih _ h5⟩
theorem ys_Sk_up (hu : us ≤ us') (hA : ∀ k, k < us → st' k = st k ∧ ou' k = ou k ∧ fr' k = fr k) : ∀ L : List sh_I, (∀ k, k < L.length → td' k = td k ∧ wi' k = wi k ∧ un' k = un k) → ys_Sk g s td wi un st ou fr us L → ys_Sk g s td' wi' un' st' ou' fr' us' L := by
  intro L
  induction L with
  | nil => intro _ _; trivial
  | cons x L ih =>
    intro hL h
    obtain ⟨i, r, p, u, a⟩ := x
    obtain ⟨h1, h2, h3, h4⟩ := h
    have q := hL L.length (by rw [List.length_cons]; omega)
    exact ⟨by rw [q.1]; exact h1, by rw [q.2.1]; exact ys_YC_up hu hA _ _ h2, by rw [q.2.2]; exact h3, ih (fun k hk => hL k (by rw [List.length_cons]; omega)) h4⟩
theorem sh_kids_len (i : Nat) (r : List (Nat × Nat)) (p u : Nat) : ∀ d j, (sh_kids g i r p u d j).length = d := by
  intro d
  induction d with
  | zero => intro j; rfl
  | succ d ih => intro j; show (sh_kids g i r p u d (j + 1)).length + 1 = d + 1; rw [ih]
theorem sh_kids_Ck {i : Nat} {r : List (Nat × Nat)} {p u n : Nat} {L : List sh_I} (h : sh_Ck g L (p + 1 + sh_sm n (fun k => sh_eT g (sh_op g i k) r)) (u + sh_sm n (fun k => sh_eR g (sh_op g i k) r)) N U) :
    ∀ d j, j + d = n → sh_Ck g (sh_kids g i r p u d j ++ L) (p + 1 + sh_sm j (fun k => sh_eT g (sh_op g i k) r)) (u + sh_sm j (fun k => sh_eR g (sh_op g i k) r)) N U := by
  intro d
  induction d with
  | zero => intro j hj; have e : j = n := by omega
            subst e; exact h
  | succ d ih =>
    intro j hj
    refine ⟨rfl, rfl, ?_⟩
    have q := ih (j + 1) (by omega)
    have e1 : sh_sm (j + 1) (fun k => sh_eT g (sh_op g i k) r) = sh_sm j (fun k => sh_eT g (sh_op g i k) r) + sh_eT g (sh_op g i j) r := rfl
    have e2 : sh_sm (j + 1) (fun k => sh_eR g (sh_op g i k) r) = sh_sm j (fun k => sh_eR g (sh_op g i k) r) + sh_eR g (sh_op g i j) r := rfl
    rw [e1, e2, ← Nat.add_assoc, ← Nat.add_assoc] at q
    exact q
theorem sh_kids_mem {i : Nat} {r : List (Nat × Nat)} {p u : Nat} : ∀ d j k, j ≤ k → k < j + d → (sh_op g i k, r, p + 1 + sh_sm k (fun k => sh_eT g (sh_op g i k) r), u + sh_sm k (fun k => sh_eR g (sh_op g i k) r), p + 1) ∈ sh_kids g i r p u d j := by
  intro d
  induction d with
  | zero => intro j k h1 h2; omega
  | succ d ih =>
    intro j k h1 h2
    by_cases e : k = j
    · subst e; exact List.mem_cons_self
    · exact List.mem_cons_of_mem _ (ih (j + 1) k (by omega) (by omega))
theorem sh_kids_mem' {i : Nat} {r : List (Nat × Nat)} {p u : Nat} {x : sh_I} : ∀ d j, x ∈ sh_kids g i r p u d j → ∃ k, j ≤ k ∧ k < j + d ∧ x = (sh_op g i k, r, p + 1 + sh_sm k (fun k => sh_eT g (sh_op g i k) r), u + sh_sm k (fun k => sh_eR g (sh_op g i k) r), p + 1) := by
  intro d
  induction d with
  | zero => intro j h; cases h
  | succ d ih =>
    intro j h
    rcases List.mem_cons.mp h with e | e
    · exact ⟨j, by omega, by omega, e⟩
    · obtain ⟨k, k1, k2, k3⟩ := ih (j + 1) e
      exact ⟨k, by omega, by omega, k3⟩
theorem sh_Sc_mono {S' : Nat → List (Nat × Nat) → Nat → Nat → Nat → Prop} (hS : ∀ i r p u a, S i r p u a → S' i r p u a) (hF : ∀ i r p u a, F i r p u a → F' i r p u a) {i : Nat} {r : List (Nat × Nat)} {p u a : Nat} (h : sh_Sc g S F i r p u a) : sh_Sc g S' F' i r p u a :=
  ⟨fun h1 => hS _ _ _ _ _ (h.1 h1), fun h1 i' u' r' v e1 e2 e3 => hS _ _ _ _ _ (h.2.1 h1 i' u' r' v e1 e2 e3), fun h1 h2 => ⟨hF _ _ _ _ _ (h.2.2 h1 h2).1, fun j hj => hS _ _ _ _ _ ((h.2.2 h1 h2).2 j hj)⟩⟩
/-- the set grows by what follows from the item that is taken off the stack -/
theorem sh_Sv_step {x new : List sh_I} {L : List sh_I} {i : Nat} {r : List (Nat × Nat)} {p u a : Nat} (h : sh_Sv g cc hi s N U ((i, r, p, u, a) :: L) S F) (hF : ∀ i r p u a, F i r p u a → F' i r p u a)
    (hN : ∀ i r p u a, (i, r, p, u, a) ∈ new → sh_Ok g cc hi s N U i r p u a)
    (hx : sh_Sc g (fun i r p u a => S i r p u a ∨ (i, r, p, u, a) ∈ new) F' i r p u a) :
    sh_Sv g cc hi s N U (new ++ L) (fun i r p u a => S i r p u a ∨ (i, r, p, u, a) ∈ new) F' := by
  intro i2 r2 p2 u2 a2 h2
  rcases h2 with h2 | h2
  · have q := h _ _ _ _ _ h2
    refine ⟨q.1, ?_⟩
    rcases q.2 with q2 | q2
    · rcases List.mem_cons.mp q2 with e | e
      · cases e
        exact Or.inr hx
      · exact Or.inl (List.mem_append_right _ e)
    · exact Or.inr (sh_Sc_mono (fun _ _ _ _ _ z => Or.inl z) hF q2)
  · exact ⟨hN _ _ _ _ _ h2, Or.inl (List.mem_append_left _ h2)⟩
theorem sh_wt_pos (L : List sh_I) (x : sh_I) : 1 ≤ sh_wt g (x :: L) := by
  obtain ⟨i, r, p⟩ := x
  have : 0 < 4 ^ sh_ms g i r := Nat.pow_pos (by omega)
  show 1 ≤ 4 ^ sh_ms g i r + sh_wt g L
  omega
theorem sh_wt_app : ∀ (A B : List sh_I), sh_wt g (A ++ B) = sh_wt g A + sh_wt g B := by
  intro A B
  induction A with
  | nil => show sh_wt g B = 0 + sh_wt g B; omega
  | cons x A ih =>
    obtain ⟨i, r, p⟩ := x
    show 4 ^ sh_ms g i r + sh_wt g (A ++ B) = 4 ^ sh_ms g i r + sh_wt g A + sh_wt g B
    omega
theorem sh_wt_kids {i : Nat} {r : List (Nat × Nat)} {p u m : Nat} : ∀ d j, (∀ k, j ≤ k → k < j + d → sh_ms g (sh_op g i k) r < m) → 4 * sh_wt g (sh_kids g i r p u d j) ≤ d * 4 ^ m := by
  intro d
  induction d with
  | zero => intro j _; show 4 * 0 ≤ 0 * 4 ^ m; omega
  | succ d ih =>
    intro j h
    have a := ih (j + 1) (fun k k1 k2 => h k (by omega) (by omega))
    have b := h j (by omega) (by omega)
    show 4 * (4 ^ sh_ms g (sh_op g i j) r + sh_wt g (sh_kids g i r p u d (j + 1))) ≤ (d + 1) * 4 ^ m
    have c : 4 * 4 ^ sh_ms g (sh_op g i j) r ≤ 4 ^ m := by
      have := Nat.pow_le_pow_right (n := 4) (by omega) (show sh_ms g (sh_op g i j) r + 1 ≤ m from b)
      rw [Nat.pow_succ] at this
      omega
    rw [Nat.add_mul]
    omega
end YTL
end
section
/-! Y: later, operand, a plain token -/
section YW
variable {yf_concepts yf_place yf_size yf_uses yf_of yf_result yf_says : Int32} {yb_kind yb_behind yb_length yb_holes yb_value yb_kinds yb_origin yb_values yb_parent yb_span yb_todo yb_within yb_under yb_stands yb_outer yb_from yb_left yb_variable yb_saved yb_worth yb_said yb_work yb_phase : Nat → Int32} {g : sh_G}
theorem ys_later {post : Int32 → SY → Prop} {t A : Nat} {w b : Int32} (ht : t < 4100) (hA : A < 32768) (hw : sh_Sh w) (hb : sh_Sh b)
    (K : post (nI (t + 1)) (yf_concepts, yf_place, yf_size, yf_uses, yf_of, yf_result, yf_says, yb_kind, yb_behind, yb_length, yb_holes, yb_value, yb_kinds, yb_origin, yb_values, yb_parent, yb_span, upd yb_todo t (nI A), upd yb_within t w, upd yb_under t b, yb_stands, yb_outer, yb_from, yb_left, yb_variable, yb_saved, yb_worth, yb_said, yb_work, yb_phase)) : wpY_later post (yf_concepts, yf_place, yf_size, yf_uses, yf_of, yf_result, yf_says, yb_kind, yb_behind, yb_length, yb_holes, yb_value, yb_kinds, yb_origin, yb_values, yb_parent, yb_span, yb_todo, yb_within, yb_under, yb_stands, yb_outer, yb_from, yb_left, yb_variable, yb_saved, yb_worth, yb_said, yb_work, yb_phase) (nI t) (nI A) w b := by
  have i1 : vp_in (nI t) 4100 := vp_in_nI ht (by omega)
  refine ⟨i1, nm_r (e' := upd yb_todo t (nI A)) (by rw [nI_clamp (by omega), sh_n16 hA]) ⟨i1, nm_r (e' := upd yb_within t w) (by rw [nI_clamp (by omega), hw]) ⟨i1, nm_r (e' := upd yb_under t b) (by rw [nI_clamp (by omega), hb]) ?_⟩⟩⟩
  rw [nI_1]; exact K
theorem ys_operand {post : Int32 → Prop} {r i j : Nat} (hr : r < 10) (hi : sh_xb r ≤ i) (hi2 : i < sh_xb r + 24) (hj : j ≤ 3)
    (H : ∀ t, t < j → sh_xb r ≤ sh_op g i t ∧ sh_op g i t < sh_xb r + 24 ∧ yb_behind (sh_yd r (sh_op g i t)) = nI (sh_op g i (t + 1) - sh_xb r))
    (K : post (nI (sh_yd r (sh_op g i j)))) : wpY_operand post (yf_concepts, yf_place, yf_size, yf_uses, yf_of, yf_result, yf_says, yb_kind, yb_behind, yb_length, yb_holes, yb_value, yb_kinds, yb_origin, yb_values, yb_parent, yb_span, yb_todo, yb_within, yb_under, yb_stands, yb_outer, yb_from, yb_left, yb_variable, yb_saved, yb_worth, yb_said, yb_work, yb_phase) (nI (sh_yd r i)) (nI j) := by
  have e24 : nI (sh_yd r i) / 24 * 24 = nI (24 * r) := by
    have a : nI (sh_yd r i) / nI 24 = nI (sh_yd r i / 24) := pk_div (by unfold sh_yd; omega) (by omega) (by omega)
    have b : nI (sh_yd r i / 24) * nI 24 = nI (sh_yd r i / 24 * 24) := pk_mul _ _
    have c : sh_yd r i / 24 * 24 = 24 * r := by unfold sh_yd; omega
    rw [c] at b
    show nI (sh_yd r i) / nI 24 * nI 24 = _
    rw [a, b]
  have main : ∀ d t, t + d = j → wY_operand_16 post (nI j) (nI (24 * r)) yf_concepts yf_place yf_size yf_uses yf_of yf_result yf_says yb_kind yb_behind yb_length yb_holes yb_value yb_kinds yb_origin yb_values yb_parent yb_span yb_todo yb_within yb_under yb_stands yb_outer yb_from yb_left yb_variable yb_saved yb_worth yb_said yb_work yb_phase (d + 1) (nI (sh_yd r (sh_op g i t))) (nI t) := by
    intro d
    induction d with
    | zero => intro t ht; have e : t = j := by omega
              subst e
              exact br_t (nI_le (Nat.le_refl _) (by omega)) K
    | succ d ih =>
      intro t ht
      have q := H t (by omega)
      refine br_f (nI_ge (by omega) (by omega)) ⟨vp_in_nI (by unfold sh_yd; omega) (by omega), nm_r (e' := nI (sh_yd r (sh_op g i (t + 1)))) ?_ (nm_r (nI_1 t) (ih (t + 1) (by omega)))⟩
      rw [nI_clamp (by unfold sh_yd; omega), q.2.2, nI_add]
      rfl
  refine ⟨by decide, nm_r e24 (nm_r (e' := nI (sh_yd r (sh_op g i 0))) ?_ ⟨j + 1, main j 0 (by omega)⟩)⟩
  rw [nI_1]
  refine congrArg nI ?_
  rw [sh_op_0]
  unfold sh_yd
  omega
/-- the operands are put on the stack, the last one first -/
theorem ys_e499 {post : Int32 → SY → Prop} {J : (Int32 → Int32 → Int32 → Int32 → Int32 → Int32 → Int32 → Int32 → (Nat → Int32) → (Nat → Int32) → (Nat → Int32) → (Nat → Int32) → (Nat → Int32) → (Nat → Int32) → (Nat → Int32) → (Nat → Int32) → (Nat → Int32) → (Nat → Int32) → (Nat → Int32) → (Nat → Int32) → (Nat → Int32) → (Nat → Int32) → (Nat → Int32) → (Nat → Int32) → (Nat → Int32) → (Nat → Int32) → (Nat → Int32) → (Nat → Int32) → (Nat → Int32) → (Nat → Int32) → (Nat → Int32) → Prop)} {r i an p t : Nat} {w : Int32} (hr : r < 10) (hi : sh_xb r ≤ i) (hi2 : i < sh_xb r + 24) (han : an ≤ 3) (hw : sh_Sh w) (hp : p < 3000) (ht : t + an ≤ 4100)
    (H : ∀ q, q < an → sh_xb r ≤ sh_op g i q ∧ sh_op g i q < sh_xb r + 24 ∧ yb_behind (sh_yd r (sh_op g i q)) = nI (sh_op g i (q + 1) - sh_xb r))
    (K : ∀ td wi un, (∀ j, j < an → td (t + (an - 1 - j)) = nI (sh_yd r (sh_op g i j)) ∧ wi (t + (an - 1 - j)) = w ∧ un (t + (an - 1 - j)) = nI p) → (∀ k, k < t → td k = yb_todo k ∧ wi k = yb_within k ∧ un k = yb_under k) → J (nI (t + an)) yf_concepts yf_place yf_size yf_uses yf_of yf_result yf_says yb_kind yb_behind yb_length yb_holes yb_value yb_kinds yb_origin yb_values yb_parent yb_span td wi un yb_stands yb_outer yb_from yb_left yb_variable yb_saved yb_worth yb_said yb_work yb_phase) :
    ∀ d, d ≤ an → ∀ td wi un, (∀ j, d ≤ j → j < an → td (t + (an - 1 - j)) = nI (sh_yd r (sh_op g i j)) ∧ wi (t + (an - 1 - j)) = w ∧ un (t + (an - 1 - j)) = nI p) → (∀ k, k < t → td k = yb_todo k ∧ wi k = yb_within k ∧ un k = yb_under k) →
    wY_expanded_499 post J (nI (sh_yd r i)) w (nI p) (d + 1) (nI (t + (an - d))) (nI d - 1) yf_concepts yf_place yf_size yf_uses yf_of yf_result yf_says yb_kind yb_behind yb_length yb_holes yb_value yb_kinds yb_origin yb_values yb_parent yb_span td wi un yb_stands yb_outer yb_from yb_left yb_variable yb_saved yb_worth yb_said yb_work yb_phase := by
  intro d
  induction d with
  | zero =>
    intro _ td wi un H1 H2
    exact br_t (by decide) (K td wi un (fun j hj => H1 j (by omega) hj) H2)
  | succ d ih =>
    intro hd td wi un H1 H2
    rw [sh_m1a d]
    refine br_f (nI_pos (by omega)) (ys_operand (g := g) hr hi hi2 (by omega) (fun q hq => H q (by omega)) (ys_later (by omega) (by unfold sh_yd; have := (H d (by omega)).2.1; omega) hw (sh_Sh_n (by omega)) ?_))
    refine nm_r (sh_am1 (nI d)) ?_
    rw [show t + (an - (d + 1)) + 1 = t + (an - d) by omega]
    refine ih (by omega) _ _ _ (fun j h1 h2 => ?_) (fun k hk => ?_)
    · by_cases e : j = d
      · subst e
        rw [show t + (an - (j + 1)) = t + (an - 1 - j) by omega]
        exact ⟨pk_us, pk_us, pk_us⟩
      · rw [pk_un (by omega), pk_un (by omega), pk_un (by omega)]
        exact H1 j (by omega) h2
    · rw [pk_un (by omega), pk_un (by omega), pk_un (by omega)]
      exact H2 k hk
/-- a plain token is written -/
theorem ys_e354 {post : Int32 → SY → Prop} {J : (Int32 → Int32 → Int32 → Int32 → Int32 → Int32 → Int32 → Int32 → (Nat → Int32) → (Nat → Int32) → (Nat → Int32) → (Nat → Int32) → (Nat → Int32) → (Nat → Int32) → (Nat → Int32) → (Nat → Int32) → (Nat → Int32) → (Nat → Int32) → (Nat → Int32) → (Nat → Int32) → (Nat → Int32) → (Nat → Int32) → (Nat → Int32) → (Nat → Int32) → (Nat → Int32) → (Nat → Int32) → (Nat → Int32) → (Nat → Int32) → (Nat → Int32) → (Nat → Int32) → (Nat → Int32) → Prop)} {s r i p t k us a : Nat} {c : List (Nat × Nat)} {w : Int32} (hr : r < 10) (er : r = sh_rw g s c) (hi : sh_xb r ≤ i) (hi2 : i < sh_xb r + 24) (han : sh_an g i ≤ 3) (hp : p < 2000) (ht : t + sh_an g i ≤ 4100) (hus : us ≤ 2000) (ha : a < 30000)
    (ek : k = sh_tk g i) (hk : k ≤ 10) (h9 : k ≠ 9) (hC : ys_YC g s yb_stands yb_outer yb_from us c w) (hog : sh_og s i c < 128)
    (hst : ∀ i' u' c', c = (i', u') :: c' → sh_yd (sh_rw g s c') i' < 264 ∧ yb_value (sh_yd (sh_rw g s c') i') = sh_nm g i')
    (h10 : k = 10 → c ≠ []) (hneg : k = 1 ∨ k = 7 → c = [] → ¬ sh_nm g i < 0) (hos : s < 4) (hzero : 2 ≤ k → k ≠ 7 → k ≠ 9 → sh_nm g i = 0)
    (hV : k < 2 ∨ k = 7 → yb_value (sh_yd r i) = sh_nm g i)
    (H : ∀ q, q < sh_an g i → sh_xb r ≤ sh_op g i q ∧ sh_op g i q < sh_xb r + 24 ∧ yb_behind (sh_yd r (sh_op g i q)) = nI (sh_op g i (q + 1) - sh_xb r))
    (K : ∀ td wi un, (∀ j, j < sh_an g i → td (t + (sh_an g i - 1 - j)) = nI (sh_yd r (sh_op g i j)) ∧ wi (t + (sh_an g i - 1 - j)) = w ∧ un (t + (sh_an g i - 1 - j)) = nI p) → (∀ k, k < t → td k = yb_todo k ∧ wi k = yb_within k ∧ un k = yb_under k) →
      J (nI (t + sh_an g i)) yf_concepts yf_place yf_size yf_uses yf_of yf_result yf_says yb_kind yb_behind yb_length yb_holes yb_value (upd yb_kinds p (nI (sh_kd g i))) (upd yb_origin p (nI (sh_og s i c))) (upd yb_values p (sh_vl g i c)) (upd yb_parent p (nI a - 1)) yb_span td wi un yb_stands yb_outer yb_from yb_left yb_variable yb_saved yb_worth yb_said yb_work yb_phase) :
    wY_expanded_354 post J (nI t) (nI (sh_yd r i)) w (nI a - 1) (nI k) (nI p) (nI (sh_kd g i)) (nI p) yf_concepts yf_place yf_size yf_uses yf_of yf_result yf_says yb_kind yb_behind yb_length yb_holes yb_value yb_kinds yb_origin yb_values yb_parent yb_span yb_todo yb_within yb_under yb_stands yb_outer yb_from yb_left yb_variable yb_saved yb_worth yb_said yb_work yb_phase := by
  have hkd : sh_kd g i < 22 := by unfold sh_kd; split <;> omega
  have ip : vp_in (nI p) 2001 := vp_in_nI (by omega) (by omega)
  have hyd : sh_yd r i < 264 := by unfold sh_yd; omega
  have e10 : sh_kd g i = if k = 10 then 0 else k := by unfold sh_kd; rw [← ek]
  have hwS : sh_Sh w := ys_YC_Sh (by omega) hC
  -- origin, parent, operands
  have k474 : ∀ kds vls, (J' : kds = upd yb_kinds p (nI (sh_kd g i))) → vls = upd yb_values p (sh_vl g i c) → wY_expanded_474 post J (nI t) (nI (sh_yd r i)) w (nI a - 1) (nI k) (nI p) (nI (sh_og s i c)) (nI p) yf_concepts yf_place yf_size yf_uses yf_of yf_result yf_says yb_kind yb_behind yb_length yb_holes yb_value kds yb_origin vls yb_parent yb_span yb_todo yb_within yb_under yb_stands yb_outer yb_from yb_left yb_variable yb_saved yb_worth yb_said yb_work yb_phase := by
    intro kds vls h1 h2
    subst h1 h2
    refine ⟨ip, nm_r (e' := upd yb_origin p (nI (sh_og s i c))) (by rw [nI_clamp (by omega), sh_n8' hog]) ⟨ip, nm_r (e' := upd yb_parent p (nI a - 1)) (by rw [nI_clamp (by omega), sh_Sh_a (by omega)]) ?_⟩⟩
    refine ys_operands (ho := sh_ho g) (by omega) (fun z => by omega) (nm_e ⟨sh_an g i + 1, ?_⟩)
    have ea : sh_ar (sh_ho g) k = sh_an g i := by unfold sh_an; rw [← ek]
    rw [ea]
    have M := ys_e499 (g := g) (post := post) (J := J) (yb_kinds := upd yb_kinds p (nI (sh_kd g i))) (yb_values := upd yb_values p (sh_vl g i c)) (yb_origin := upd yb_origin p (nI (sh_og s i c))) (yb_parent := upd yb_parent p (nI a - 1)) hr hi hi2 han hwS (by omega) ht H K (sh_an g i) (Nat.le_refl _) yb_todo yb_within yb_under (fun j h1 h2 => by omega) (fun k _ => ⟨rfl, rfl, rfl⟩)
    rw [Nat.sub_self] at M
    exact M
  -- the value
  have k447 : ∀ kds, kds = upd yb_kinds p (nI (sh_kd g i)) → wY_expanded_447 post J (nI t) (nI (sh_yd r i)) w (nI a - 1) (nI k) (nI p) (sh_vl g i c) (nI p) yf_concepts yf_place yf_size yf_uses yf_of yf_result yf_says yb_kind yb_behind yb_length yb_holes yb_value kds yb_origin yb_values yb_parent yb_span yb_todo yb_within yb_under yb_stands yb_outer yb_from yb_left yb_variable yb_saved yb_worth yb_said yb_work yb_phase := by
    intro kds h1
    refine ⟨ip, nm_r (e' := upd yb_values p (sh_vl g i c)) (by rw [nI_clamp (by omega)]) ?_⟩
    cases c with
    | nil =>
      have hw : w = -1 := hC
      subst hw
      refine br_f (by decide) ⟨by decide, ?_⟩
      have e : ((nI (sh_yd r i)) - (nI (sh_yd r i)) / 24 * 24).toInt8.toInt32 = nI (sh_og s i []) := by
        have q : nI (sh_yd r i) - nI (sh_yd r i) / nI 24 * nI 24 = nI (sh_yd r i % 24) := pk_rem (by omega) (by omega) (by omega)
        have q2 : sh_yd r i % 24 = sh_og s i [] := by
          show sh_yd r i % 24 = i - (72 + 24 * s)
          have er' : r = 6 + s := er
          subst er'
          unfold sh_yd sh_xb
          rw [if_neg (by omega)]
          unfold sh_xb at hi hi2
          rw [if_neg (by omega)] at hi hi2
          omega
        rw [q2] at q
        show (nI (sh_yd r i) - nI (sh_yd r i) / nI 24 * nI 24).toInt8.toInt32 = _
        rw [q]
        exact lg_i2b_small (by rw [nI_toInt (by omega)]; omega) (by rw [nI_toInt (by omega)]; omega)
      rw [e]
      exact k474 _ _ h1 rfl
    | cons x c =>
      obtain ⟨i', u'⟩ := x
      obtain ⟨h2, h3, h4, h5, h6⟩ := hC
      subst h2
      refine br_t (nI_pos' (by omega)) ⟨vp_in_nI (by omega) (by omega), ?_⟩
      rw [nI_clamp (by omega), h5]
      exact k474 _ _ h1 rfl
  refine ⟨ip, nm_r (e' := upd yb_kinds p (nI (sh_kd g i))) (by rw [nI_clamp (by omega), sh_n8 (by omega)]) ⟨vp_in_nI hyd (by omega), nm_r (e' := yb_value (sh_yd r i)) (by rw [nI_clamp (by omega)]) ?_⟩⟩
  have k441 : k < 2 ∨ k = 7 → ¬ (sh_nm g i < 0 ∧ (k = 1 ∨ k = 7)) → wY_expanded_441 post J (nI t) (nI (sh_yd r i)) w (nI a - 1) (nI k) (nI p) (yb_value (sh_yd r i)) (nI p) yf_concepts yf_place yf_size yf_uses yf_of yf_result yf_says yb_kind yb_behind yb_length yb_holes yb_value (upd yb_kinds p (nI (sh_kd g i))) yb_origin yb_values yb_parent yb_span yb_todo yb_within yb_under yb_stands yb_outer yb_from yb_left yb_variable yb_saved yb_worth yb_said yb_work yb_phase := by
    intro h hn
    have e : yb_value (sh_yd r i) = sh_vl g i c := by
      rw [hV h]
      cases c with
      | nil => rfl
      | cons x c =>
        show _ = if sh_tk g i = 10 then _ else if _ then _ else _
        rw [← ek, if_neg (by omega), if_neg hn]
    rw [e]
    exact k447 _ rfl
  have k423 : k ≠ 10 → ¬ (sh_nm g i < 0 ∧ (k = 1 ∨ k = 7)) → wY_expanded_423 post J (nI t) (nI (sh_yd r i)) w (nI a - 1) (nI k) (nI p) (yb_value (sh_yd r i)) (nI p) yf_concepts yf_place yf_size yf_uses yf_of yf_result yf_says yb_kind yb_behind yb_length yb_holes yb_value (upd yb_kinds p (nI (sh_kd g i))) yb_origin yb_values yb_parent yb_span yb_todo yb_within yb_under yb_stands yb_outer yb_from yb_left yb_variable yb_saved yb_worth yb_said yb_work yb_phase := by
    intro h hn
    refine pk_eq k 0 (fun z => k441 (by omega) hn) (fun z0 => pk_eq k 1 (fun z => k441 (by omega) hn) (fun z1 => pk_eq k 7 (fun z => k441 (by omega) hn) (fun z7 => ?_)))
    have e : sh_vl g i c = 0 := by
      have e0 := hzero (by omega) z7 h9
      cases c with
      | nil => exact e0
      | cons x c =>
        show (if sh_tk g i = 10 then _ else if _ then _ else _) = _
        rw [← ek, if_neg h, if_neg hn, e0]
    have M := k447 _ rfl
    rw [e] at M
    exact M
  have k405 : k = 1 ∨ k = 7 → wY_expanded_405 post J (nI t) (nI (sh_yd r i)) w (nI a - 1) (nI k) (nI p) (yb_value (sh_yd r i)) (nI p) yf_concepts yf_place yf_size yf_uses yf_of yf_result yf_says yb_kind yb_behind yb_length yb_holes yb_value (upd yb_kinds p (nI (sh_kd g i))) yb_origin yb_values yb_parent yb_span yb_todo yb_within yb_under yb_stands yb_outer yb_from yb_left yb_variable yb_saved yb_worth yb_said yb_work yb_phase := by
    intro h
    have hv := hV (by omega)
    refine br_c (fun z => k423 (by omega) (fun y => ?_)) (fun z => ?_)
    · rw [hv] at z
      exact absurd y.1 (Int32.not_lt.mpr z)
    · rw [hv] at z
      have z' : sh_nm g i < 0 := Int32.not_le.mp z
      cases c with
      | nil => exact absurd z' (hneg h rfl)
      | cons x c =>
        obtain ⟨i', u'⟩ := x
        have hw : w = nI u' := hC.1
        have e : (99 + 2 * w) - yb_value (sh_yd r i) = sh_vl g i ((i', u') :: c) := by
          rw [hv, hw]
          show _ = if sh_tk g i = 10 then _ else if _ then _ else _
          rw [← ek, if_neg (by omega), if_pos ⟨z', h⟩]
        rw [e]
        exact k447 _ rfl
  refine pk_eq k 10 (fun z => ?_) (fun z10 => pk_eq k 1 (fun z => k405 (Or.inl z)) (fun z1 => pk_eq k 7 (fun z => k405 (Or.inr z)) (fun z7 => k423 z10 (fun y => by omega))))
  cases c with
  | nil => exact absurd rfl (h10 z)
  | cons x c =>
    obtain ⟨i', u'⟩ := x
    have q := hst i' u' c rfl
    obtain ⟨h2, h3, h4, h5, h6⟩ := hC
    have hw : w = nI u' := h2
    refine ⟨by rw [hw]; exact vp_in_nI (by omega) (by omega), ?_⟩
    have c1 : yb_stands w.toNatClampNeg = nI (sh_yd (sh_rw g s c) i') := by rw [hw, nI_clamp (by omega)]; exact h4
    rw [c1, nI_clamp (by omega), q.2]
    refine ⟨vp_in_nI q.1 (by omega), ?_⟩
    have e : sh_nm g i' = sh_vl g i ((i', u') :: c) := by
      show _ = if sh_tk g i = 10 then _ else if _ then _ else _
      rw [← ek, if_pos z]
    rw [e]
    exact k447 _ rfl
end YW
end
section
/-! Y: the expansion's loop -/
theorem sh_pow_lt {a b : Nat} (h : a < b) : 4 ^ a < 4 ^ b := Nat.pow_lt_pow_right (by omega) h
section YX
variable {yf_concepts yf_place yf_size yf_uses yf_of yf_result yf_says : Int32} {yb_kind yb_behind yb_length yb_holes yb_value yb_kinds yb_origin yb_values yb_parent yb_span yb_todo yb_within yb_under yb_stands yb_outer yb_from yb_left yb_variable yb_saved yb_worth yb_said yb_work yb_phase : Nat → Int32} {g : sh_G} {cc hi s N U i0 : Nat}
theorem ys_e534L {post : Int32 → SY → Prop} {z v : Nat} (hz : z ≤ 2001) (hv : v ≤ 2001) (hzv : 2000 < z ∨ 2000 < v) (e1 : yf_size = nI z) (e2 : yf_uses = nI v) (K : post 0 (yf_concepts, yf_place, yf_size, yf_uses, yf_of, yf_result, yf_says, yb_kind, yb_behind, yb_length, yb_holes, yb_value, yb_kinds, yb_origin, yb_values, yb_parent, yb_span, yb_todo, yb_within, yb_under, yb_stands, yb_outer, yb_from, yb_left, yb_variable, yb_saved, yb_worth, yb_said, yb_work, yb_phase)) : wY_expanded_534 post yf_concepts yf_place yf_size yf_uses yf_of yf_result yf_says yb_kind yb_behind yb_length yb_holes yb_value yb_kinds yb_origin yb_values yb_parent yb_span yb_todo yb_within yb_under yb_stands yb_outer yb_from yb_left yb_variable yb_saved yb_worth yb_said yb_work yb_phase := by
  have k : wY_expanded_558 post yf_concepts yf_place yf_size yf_uses yf_of yf_result yf_says yb_kind yb_behind yb_length yb_holes yb_value yb_kinds yb_origin yb_values yb_parent yb_span yb_todo yb_within yb_under yb_stands yb_outer yb_from yb_left yb_variable yb_saved yb_worth yb_said yb_work yb_phase := br_t rfl ⟨narrow_b0, K⟩
  refine pk_lt 2000 z (fun _ => k) (fun h => pk_lt 2000 v (fun _ => k) (fun h2 => by omega) rfl e2) rfl e1
/-- an end because of a size -/
theorem ys_e80L {post : Int32 → SY → Prop} {n z v : Nat} {x2 : Int32} (hz : z ≤ 2001) (hv : v ≤ 2001) (hzv : 2000 < z ∨ 2000 < v) (e1 : yf_size = nI z) (e2 : yf_uses = nI v) (K : post 0 (yf_concepts, yf_place, yf_size, yf_uses, yf_of, yf_result, yf_says, yb_kind, yb_behind, yb_length, yb_holes, yb_value, yb_kinds, yb_origin, yb_values, yb_parent, yb_span, yb_todo, yb_within, yb_under, yb_stands, yb_outer, yb_from, yb_left, yb_variable, yb_saved, yb_worth, yb_said, yb_work, yb_phase)) : wY_expanded_80 post (n + 1) x2 yf_concepts yf_place yf_size yf_uses yf_of yf_result yf_says yb_kind yb_behind yb_length yb_holes yb_value yb_kinds yb_origin yb_values yb_parent yb_span yb_todo yb_within yb_under yb_stands yb_outer yb_from yb_left yb_variable yb_saved yb_worth yb_said yb_work yb_phase := by
  have k := ys_e534L (post := post) hz hv hzv e1 e2 K
  exact br_c (fun _ => k) (fun _ => pk_lt 2000 z (fun _ => k) (fun h => pk_lt 2000 v (fun _ => k) (fun h2 => by omega) rfl e2) rfl e1)
theorem ys_row {P : sh_Pg g cc hi} (hs : s < 4) {i : Nat} {c : List (Nat × Nat)} (G : sh_Gd g cc hi s i c) : sh_rw g s c < 10 ∧ sh_xb (sh_rw g s c) ≤ i ∧ i < sh_xb (sh_rw g s c) + 24 ∧ sh_xb (sh_rw g s c) + sh_ln g (sh_rw g s c) ≤ sh_xb (sh_rw g s c) + 24 := by
  have q := sh_Gd_r P hs G
  have h6 := P.2.1
  rcases q.1 with h | h
  · have := P.2.2.2.1 _ h
    have := q.2.1
    have := q.2.2
    omega
  · have := P.2.2.2.2.1 (sh_rw g s c - 6) (by omega)
    rw [show 6 + (sh_rw g s c - 6) = sh_rw g s c by omega] at this
    have := q.2.1
    have := q.2.2
    omega
theorem ys_ops (P : sh_Pg g cc hi) (YP : ys_YP g hi yb_kind yb_value yb_behind) (hs : s < 4) {i : Nat} {c : List (Nat × Nat)} (G : sh_Gd g cc hi s i c) :
    ∀ q, q < sh_an g i → sh_xb (sh_rw g s c) ≤ sh_op g i q ∧ sh_op g i q < sh_xb (sh_rw g s c) + 24 ∧ yb_behind (sh_yd (sh_rw g s c) (sh_op g i q)) = nI (sh_op g i (q + 1) - sh_xb (sh_rw g s c)) := by
  intro q hq
  have w := sh_Gd_r P hs G
  have n := (sh_Gd_n P hs G).1.2.2.2.2.2.2.2.1 q hq
  have r := ys_row (P := P) hs G
  have y := YP _ w.1 (sh_op g i q) ⟨by have := w.2.1; omega, n.2⟩
  exact ⟨by omega, by omega, y.2.1⟩
theorem sh_og_lt (P : sh_Pg g cc hi) (hs : s < 4) : ∀ (c : List (Nat × Nat)) (i : Nat), sh_Gd g cc hi s i c → sh_og s i c < 24 := by
  intro c
  induction c with
  | nil =>
    intro i h
    have r := ys_row (P := P) hs h
    show i - (72 + 24 * s) < 24
    have e : sh_rw g s [] = 6 + s := rfl
    rw [e] at r
    unfold sh_xb at r
    rw [if_neg (by omega)] at r
    omega
  | cons x c ih =>
    intro i h
    exact ih x.1 h.2.2.2.2
theorem ys_e80 {post : Int32 → SY → Prop} (P : sh_Pg g cc hi) (YP : ys_YP g hi yb_kind yb_value yb_behind) (hs : s < 4)
    (KL : 2000 < N ∨ 2000 < U → ∀ z v kds ogn vls prt td wi un st ou fr, 2000 < z ∨ 2000 < v → z ≤ 2001 → v ≤ 2001 →
      post 0 (yf_concepts, yf_place, nI z, nI v, yf_of, yf_result, yf_says, yb_kind, yb_behind, yb_length, yb_holes, yb_value, kds, ogn, vls, prt, yb_span, td, wi, un, st, ou, fr, yb_left, yb_variable, yb_saved, yb_worth, yb_said, yb_work, yb_phase))
    (hT : sh_eT g i0 [] = N)
    (KF : N ≤ 2000 → U ≤ 2000 → ∀ kds ogn vls prt sp td wi un st ou fr, (∃ S, sh_Cl g cc hi s N U (sh_Ff g s kds vls ogn prt sp) S ∧ S i0 [] 0 0 0) →
      post 1 (yf_concepts, yf_place, nI N, nI U, yf_of, yf_result, yf_says, yb_kind, yb_behind, yb_length, yb_holes, yb_value, kds, ogn, vls, prt, sp, td, wi, un, st, ou, fr, yb_left, yb_variable, yb_saved, yb_worth, yb_said, yb_work, yb_phase)) :
    ∀ f (L : List sh_I) S Z p u kds ogn vls prt td wi un st ou fr, p ≤ 2000 → u ≤ 2000 → L.length ≤ 1 + 2 * p → sh_wt g L < f → ys_Sk g s td wi un st ou fr u L → sh_Ck g L p u N U → sh_Sv g cc hi s N U L S (sh_Fl g s kds vls ogn prt Z p) → (∀ i r p u a, (i, r, p, u, a) ∈ L → S i r p u a) → S i0 [] 0 0 0 →
    wY_expanded_80 post f (nI L.length) yf_concepts yf_place (nI p) (nI u) yf_of yf_result yf_says yb_kind yb_behind yb_length yb_holes yb_value kds ogn vls prt yb_span td wi un st ou fr yb_left yb_variable yb_saved yb_worth yb_said yb_work yb_phase := by
  intro f
  induction f with
  | zero => intro L S Z p u kds ogn vls prt td wi un st ou fr _ _ _ h; omega
  | succ f ih =>
    intro L S Z p u kds ogn vls prt td wi un st ou fr hp hu hlen hwt hSk hCk hSv hLS hroot
    cases L with
    | nil =>
      obtain ⟨e1, e2⟩ := hCk
      subst e1 e2
      refine br_t (by decide) (pk_lt 2000 p (fun h => by omega) (fun _ => pk_lt 2000 u (fun h => by omega) (fun _ => br_f (by decide) ?_)))
      have H : sh_Cl g cc hi s p u (sh_Fl g s kds vls ogn prt Z p) S := fun i r p2 u2 a hS => by
        have q := hSv i r p2 u2 a hS
        exact ⟨q.1, q.2.resolve_left (fun z => by cases z)⟩
      refine ys_measure (SP := fun k => sh_eT g (Z k).1 (Z k).2) (i := i0) P hs H hp (fun i r p2 u2 a hF => ⟨hF.2.2.2.2.1, by show sh_eT g (Z p2).1 (Z p2).2 = _; rw [hF.2.2.2.2.2]⟩) hroot hT rfl (fun sp hsp => ?_)
      refine ⟨narrow_b1, KF hp hu kds ogn vls prt sp td wi un st ou fr ⟨S, fun i r p2 u2 a hS => ?_, hroot⟩⟩
      have q := H i r p2 u2 a hS
      refine ⟨q.1, q.2.1, q.2.2.1, fun h1 h2 => ⟨?_, (q.2.2.2 h1 h2).2⟩⟩
      have w := (q.2.2.2 h1 h2).1
      refine ⟨w.2.1, w.2.2.1, w.2.2.2.1, w.2.2.2.2.1, ?_⟩
      rw [hsp p2 w.1]
      show nI (sh_eT g (Z p2).1 (Z p2).2) = _
      rw [w.2.2.2.2.2]
    | cons x L =>
      obtain ⟨i, c, p', u', a⟩ := x
      obtain ⟨e1, e2, hCk⟩ := hCk
      subst e1 e2
      obtain ⟨k1, k2, k3, hSk⟩ := hSk
      have hxS := hLS i c p' u' a List.mem_cons_self
      have OK := (hSv _ _ _ _ _ hxS).1
      have G := OK.1
      have Nn := sh_Gd_n P hs G
      have Rw := ys_row (P := P) hs G
      have Yn := YP _ (sh_Gd_r P hs G).1 i (sh_Gd_r P hs G).2
      have hyd : sh_yd (sh_rw g s c) i < 264 := by unfold sh_yd; omega
      have pos := sh_pos P hs _ _ _ (Nat.lt_succ_self _) G
      have hlen' : L.length + 1 ≤ 1 + 2 * p' := by rw [List.length_cons] at hlen; exact hlen
      have hf : 1 ≤ f := by have := sh_wt_pos (g := g) L (i, c, p', u', a); omega
      have hshx : sh_wt g ((i, c, p', u', a) :: L) = 4 ^ sh_ms g i c + sh_wt g L := rfl
      have il : vp_in (nI L.length) 4100 := vp_in_nI (by omega) (by omega)
      have ew : nI (L.length + 1) + (-1) = nI L.length := pk_m1 _
      have hw : sh_Sh (wi L.length) := ys_YC_Sh (by omega) k2
      have ha : a ≤ 2000 := by rcases OK.2.2.2 with z | z <;> omega
      refine br_f (show ¬ nI (L.length + 1) ≤ 0 from nI_nle (by omega) (by omega)) (pk_lt 2000 p' (fun h => by omega) (fun _ => pk_lt 2000 u' (fun h => by omega) (fun _ => nm_r ew ⟨il, nm_r (e' := nI (sh_yd (sh_rw g s c) i)) (by rw [nI_clamp (by omega)]; exact k1) ⟨il, nm_r (e' := wi L.length) (by rw [nI_clamp (by omega)]) ⟨il, nm_r (e' := nI a - 1) (by rw [nI_clamp (by omega)]; exact k3) ⟨vp_in_nI hyd (by omega), nm_r (e' := nI (sh_tk g i)) (by rw [nI_clamp (by omega)]; exact Yn.1) (pk_lt (sh_tk g i) 16 (fun h16 => pk_eq (sh_tk g i) 9 (fun h9 => ?_) (fun h9 => ?_)) (fun h16 => ?_) rfl rfl (by have := Nn.1.1; omega))⟩⟩⟩⟩)))
      · -- a HOLE
        obtain ⟨i', c', r', v, rfl, hv3, hv', hn, hk1, c1, h5, G', eT, eR, _, _⟩ := sh_gh P hs G h9
        obtain ⟨w1, w2, w3, w4, w5⟩ := k2
        have Rw' := ys_row (P := P) hs h5
        have Rw2 := ys_row (P := P) hs G'
        have hin : vp_in (wi L.length) 2001 := by rw [w1]; exact vp_in_nI (by omega) (by omega)
        have ev : yb_value (nI (sh_yd (sh_rw g s ((i', c') :: r')) i)).toNatClampNeg = nI v := by rw [nI_clamp (by omega), Yn.2.2 (by omega)]; exact hn
        have es : st (wi L.length).toNatClampNeg = nI (sh_yd (sh_rw g s r') i') := by rw [w1, nI_clamp (by omega)]; exact w3
        have eo : ou (wi L.length).toNatClampNeg = ou c' := by rw [w1, nI_clamp (by omega)]
        refine ⟨hin, vp_in_nI hyd (by omega), ?_⟩
        rw [ev, es, eo]
        refine ys_operand (g := g) Rw'.1 Rw'.2.1 Rw'.2.2.1 (by omega) (fun q hq => ys_ops P YP hs h5 q (by omega)) ⟨hin, ys_later (by omega) (by unfold sh_yd; omega) (ys_YC_Sh (by omega) w5) (sh_Sh_a (by omega)) ?_⟩
        have hms : sh_ms g (sh_op g i' v) r' < sh_ms g i ((i', c') :: r') := by
          unfold sh_ms
          rw [eT, eR, List.length_cons]; omega
        refine ih ((sh_op g i' v, r', p', u', a) :: L) (fun j r p u b => S j r p u b ∨ (j, r, p, u, b) ∈ [(sh_op g i' v, r', p', u', a)]) Z p' u' kds ogn vls prt _ _ _ st ou fr hp hu hlen ?_ ?_ ?_ ?_ ?_ (Or.inl hroot)
        · have : sh_wt g ((sh_op g i' v, r', p', u', a) :: L) = 4 ^ sh_ms g (sh_op g i' v) r' + sh_wt g L := rfl
          have := sh_pow_lt hms
          omega
        · refine ⟨pk_us, by rw [pk_us]; exact w5, pk_us, ys_Sk_up (Nat.le_refl _) (fun _ _ => ⟨rfl, rfl, rfl⟩) L (fun k hk => ⟨pk_un (by omega), pk_un (by omega), pk_un (by omega)⟩) hSk⟩
        · refine ⟨rfl, rfl, ?_⟩
          rw [← eT, ← eR]; exact hCk
        · refine sh_Sv_step (x := []) (new := [(sh_op g i' v, r', p', u', a)]) hSv (fun _ _ _ _ _ z => z) (fun j r p u b h => ?_) ⟨fun z => by omega, fun _ j' d' s' v' q1 q2 q3 => ?_, fun _ z => absurd h9 z⟩
          · cases List.mem_singleton.mp h
            exact ⟨G', by rw [← eT]; exact OK.2.1, by rw [← eR]; exact OK.2.2.1, OK.2.2.2⟩
          · cases q1
            have : v' = v := (nI_eq (by omega) (by omega)).mp (q2.symm.trans hn)
            subst this
            exact Or.inr (List.mem_singleton.mpr rfl)
        · intro j r p u b h
          rcases List.mem_cons.mp h with e | e
          · exact Or.inr (List.mem_singleton.mpr e)
          · exact Or.inl (hLS _ _ _ _ _ (List.mem_cons_of_mem _ e))
      · -- a plain token
        refine pk_eq p' 2000 (fun e => ?_) (fun e => ?_)
        · obtain ⟨f', rfl⟩ : ∃ f', f = f' + 1 := ⟨f - 1, by omega⟩
          refine nm_r (nI_1 p') (ys_e80L (z := p' + 1) (v := u') (by omega) (by omega) (by omega) rfl rfl (KL (Or.inl (by have := OK.2.1; omega)) _ _ _ _ _ _ _ _ _ _ _ _ (by omega) (by omega) (by omega)))
        · have w := sh_gp P hs G h16 h9
          have han := sh_an3 P Nn.1.1
          have e354 := ys_e354 (post := post) (J := wY_expanded_80 post f) (s := s) (r := sh_rw g s c) (i := i) (p := p') (t := L.length) (k := sh_tk g i) (us := u') (a := a) (c := c) (w := wi L.length) (g := g)
            (yf_concepts := yf_concepts) (yf_place := yf_place) (yf_of := yf_of) (yf_result := yf_result) (yf_says := yf_says) (yb_kind := yb_kind) (yb_behind := yb_behind) (yb_length := yb_length) (yb_holes := yb_holes) (yb_value := yb_value) (yb_span := yb_span) (yb_left := yb_left) (yb_variable := yb_variable) (yb_saved := yb_saved) (yb_worth := yb_worth) (yb_said := yb_said) (yb_work := yb_work) (yb_phase := yb_phase)
            (yf_size := nI (p' + 1)) (yf_uses := nI u') (yb_kinds := kds) (yb_origin := ogn) (yb_values := vls) (yb_parent := prt) (yb_todo := td) (yb_within := wi) (yb_under := un) (yb_stands := st) (yb_outer := ou) (yb_from := fr)
            Rw.1 rfl Rw.2.1 Rw.2.2.1 han (by omega) (by omega) hu (by omega) rfl (by have := Nn.1.2.1; omega) h9 k2 (by have := sh_og_lt P hs c i G; omega) ?_ ?_ ?_ hs (fun a1 a2 a3 => Nn.1.2.2.2.2.2.2.1 a1 a2 a3 h16) (fun z => Yn.2.2 (by omega)) (ys_ops P YP hs G) ?_
          · refine nm_r (nI_1 p') (pk_eq (sh_tk g i) 10 (fun z => ?_) (fun z => ?_))
            · rw [show sh_kd g i = 0 from if_pos z] at e354
              exact e354
            · rw [show sh_kd g i = sh_tk g i from if_neg z] at e354
              exact e354
          · intro i' d' c' ec
            subst ec
            have G5 := G.2.2.2.2
            have R5 := ys_row (P := P) hs G5
            have Y5 := YP _ (sh_Gd_r P hs G5).1 i' (sh_Gd_r P hs G5).2
            exact ⟨by unfold sh_yd; omega, Y5.2.2 (by have := G.1; omega)⟩
          · intro z ec
            subst ec
            have := Nn.1.2.2.2.2.1 z
            have e : sh_rw g s [] = 6 + s := rfl
            omega
          · intro z ec
            subst ec
            have e : sh_rw g s [] = 6 + s := rfl
            rcases Nn.1.2.2.2.2.2.1 z with ⟨v, hv, hn⟩ | ⟨q, _⟩
            · rw [hn]; exact nI_pos (by omega)
            · omega
          · intro td' wi' un' H1 H2
            have hl2 : (sh_kids g i c p' u' (sh_an g i) 0 ++ L).length = L.length + sh_an g i := by rw [List.length_append, sh_kids_len]; omega
            rw [← hl2]
            refine ih (sh_kids g i c p' u' (sh_an g i) 0 ++ L) (fun j r p u a => S j r p u a ∨ (j, r, p, u, a) ∈ sh_kids g i c p' u' (sh_an g i) 0) (fun k => if k = p' then (i, c) else Z k) (p' + 1) u' _ _ _ _ td' wi' un' st ou fr (by omega) hu (by omega) ?_ ?_ ?_ ?_ ?_ (Or.inl hroot)
            · rw [sh_wt_app]
              have q := sh_wt_kids (g := g) (i := i) (r := c) (p := p') (u := u') (m := sh_ms g i c) (sh_an g i) 0 (fun k _ k2 => (sh_ms_p P hs G h16 h9 (by omega)).2.2)
              have q2 : sh_an g i * 4 ^ sh_ms g i c ≤ 3 * 4 ^ sh_ms g i c := Nat.mul_le_mul han (Nat.le_refl _)
              have q3 : 0 < 4 ^ sh_ms g i c := Nat.pow_pos (by omega)
              omega
            · have base : ys_Sk g s td' wi' un' st ou fr u' L := ys_Sk_up (Nat.le_refl _) (fun _ _ => ⟨rfl, rfl, rfl⟩) L H2 hSk
              have kk : ∀ d j, j + d = sh_an g i → ys_Sk g s td' wi' un' st ou fr u' (sh_kids g i c p' u' d j ++ L) := by
                intro d
                induction d with
                | zero => intro j _; exact base
                | succ d ihd =>
                  intro j hj
                  have ll0 : (sh_kids g i c p' u' d (j + 1) ++ L).length = L.length + (sh_an g i - 1 - j) := by rw [List.length_append, sh_kids_len]; omega
                  have ll : ((sh_kids g i c p' u' d (j + 1)).append L).length = L.length + (sh_an g i - 1 - j) := ll0
                  have q := H1 j (by omega)
                  refine ⟨by rw [ll]; exact q.1, by rw [ll, q.2.1]; exact k2, by rw [ll, q.2.2, sh_m1a], ihd (j + 1) (by omega)⟩
              exact kk _ 0 (Nat.zero_add _)
            · have q := sh_kids_Ck (g := g) (N := N) (U := U) (i := i) (r := c) (p := p') (u := u') (n := sh_an g i) (L := L) (by
                rw [Nat.add_assoc, ← w.2.1, ← w.2.2.1]; exact hCk) (sh_an g i) 0 (Nat.zero_add _)
              exact q
            · refine sh_Sv_step (x := []) hSv (fun j r q u b z => ?_) (fun j r q u b h => ?_) ⟨fun z => by omega, fun z => absurd z h9, fun _ _ => ⟨?_, fun j hj => Or.inr (sh_kids_mem _ 0 j (Nat.zero_le _) (by omega))⟩⟩
              · obtain ⟨z1, z2, z3, z4, z5, z6⟩ := z
                exact ⟨by omega, by rw [pk_un (by omega)]; exact z2, by rw [pk_un (by omega)]; exact z3, by rw [pk_un (by omega)]; exact z4, by rw [pk_un (by omega)]; exact z5, by show (if q = p' then (i, c) else Z q) = _; rw [if_neg (by omega)]; exact z6⟩
              · obtain ⟨k, _, q2, q3⟩ := sh_kids_mem' _ _ h
                cases q3
                have b1 := sh_sm_mono (f := fun k => sh_eT g (sh_op g i k) c) (k + 1) (sh_an g i) (by omega)
                have b2 := sh_sm_mono (f := fun k => sh_eR g (sh_op g i k) c) (k + 1) (sh_an g i) (by omega)
                have d1 : sh_sm (k + 1) (fun k => sh_eT g (sh_op g i k) c) = sh_sm k (fun k => sh_eT g (sh_op g i k) c) + sh_eT g (sh_op g i k) c := rfl
                have d2 : sh_sm (k + 1) (fun k => sh_eR g (sh_op g i k) c) = sh_sm k (fun k => sh_eR g (sh_op g i k) c) + sh_eR g (sh_op g i k) c := rfl
                have o1 := OK.2.1
                have o2 := OK.2.2.1
                have w1 := w.2.1
                have w2 := w.2.2.1
                exact ⟨w.1 k (by omega), by omega, by omega, Or.inr ⟨by omega, by omega⟩⟩
              · exact ⟨by omega, pk_us, pk_us, pk_us, pk_us, if_pos rfl⟩
            · intro j r q u b h
              rcases List.mem_append.mp h with e | e
              · exact Or.inr e
              · exact Or.inl (hLS _ _ _ _ _ (List.mem_cons_of_mem _ e))
      · -- a USE
        have w := sh_gu P hs G h16 u'
        refine pk_eq u' 2000 (fun e => ?_) (fun e => ?_)
        · obtain ⟨f', rfl⟩ : ∃ f', f = f' + 1 := ⟨f - 1, by omega⟩
          refine nm_r (nI_1 u') (ys_e80L (z := p') (v := u' + 1) (by omega) (by omega) (by omega) rfl rfl (KL (Or.inr (by have := OK.2.2.1; omega)) _ _ _ _ _ _ _ _ _ _ _ _ (by omega) (by omega) (by omega)))
        · have iu : vp_in (nI u') 2001 := vp_in_nI (by omega) (by omega)
          have hu16 : sh_tk g i - 16 < 6 := by have := Nn.1.1; omega
          have eyd : (24 : Int32) * (nI (sh_tk g i) - 16) = nI (sh_yd (sh_rw g s ((i, u') :: c)) (sh_rt g i)) := by
            have e3 : nI (sh_tk g i) - 16 = nI (sh_tk g i - 16) := pk_sub (b := 16) h16
            rw [e3]
            refine (pk_mul 24 _).trans (congrArg nI ?_)
            show 24 * (sh_tk g i - 16) = 24 * (sh_tk g i - 16) + (12 * (sh_tk g i - 16) - sh_xb (sh_tk g i - 16))
            unfold sh_xb
            rw [if_pos hu16]; omega
          have k219 : ∀ z0 : Int32, z0 = nI (sh_og s i c) → wY_expanded_219 post (wY_expanded_80 post f) (nI L.length) (nI a - 1) (nI (sh_tk g i)) z0 (nI u') yf_concepts yf_place (nI p') (nI u') yf_of yf_result yf_says yb_kind yb_behind yb_length yb_holes yb_value kds ogn vls prt yb_span td wi un (upd st u' (nI (sh_yd (sh_rw g s c) i))) (upd ou u' (wi L.length)) fr yb_left yb_variable yb_saved yb_worth yb_said yb_work yb_phase := by
            intro z0 ez
            subst ez
            have og := sh_og_lt P hs c i G
            refine ⟨iu, nm_r (e' := upd fr u' (nI (sh_og s i c))) (by rw [nI_clamp (by omega), sh_n8' (by omega)]) ?_⟩
            rw [eyd]
            refine ys_later (by omega) (by rw [show sh_yd (sh_rw g s ((i, u') :: c)) (sh_rt g i) = 24 * (sh_tk g i - 16) + (12 * (sh_tk g i - 16) - sh_xb (sh_tk g i - 16)) from rfl]; omega) (sh_Sh_n (by omega)) (sh_Sh_a (by omega)) (nm_r (nI_1 u') ?_)
            refine ih ((sh_rt g i, (i, u') :: c, p', u' + 1, a) :: L) (fun j r p u b => S j r p u b ∨ (j, r, p, u, b) ∈ [(sh_rt g i, (i, u') :: c, p', u' + 1, a)]) Z p' (u' + 1) kds ogn vls prt _ _ _ _ _ _ hp (by omega) hlen ?_ ?_ ?_ ?_ ?_ (Or.inl hroot)
            · have e1 : sh_wt g ((sh_rt g i, (i, u') :: c, p', u' + 1, a) :: L) = 4 ^ sh_ms g (sh_rt g i) ((i, u') :: c) + sh_wt g L := rfl
              have := sh_pow_lt (sh_ms_u P hs G h16 u')
              omega
            · have up : ∀ k, k < u' → upd st u' (nI (sh_yd (sh_rw g s c) i)) k = st k ∧ upd ou u' (wi L.length) k = ou k ∧ upd fr u' (nI (sh_og s i c)) k = fr k := fun k hk => ⟨pk_un (by omega), pk_un (by omega), pk_un (by omega)⟩
              refine ⟨pk_us, ?_, pk_us, ys_Sk_up (by omega) up L (fun k hk => ⟨pk_un (by omega), pk_un (by omega), pk_un (by omega)⟩) hSk⟩
              rw [pk_us]
              exact ⟨rfl, by omega, pk_us, pk_us, by rw [pk_us]; exact ys_YC_up (by omega) up _ _ k2⟩
            · refine ⟨rfl, rfl, ?_⟩
              rw [← w.2.1, show u' + 1 + sh_eR g (sh_rt g i) ((i, u') :: c) = u' + sh_eR g i c by have := w.2.2.1; omega]; exact hCk
            · refine sh_Sv_step (x := []) (new := [(sh_rt g i, (i, u') :: c, p', u' + 1, a)]) hSv (fun _ _ _ _ _ z => z) (fun j r p u b h => ?_) ⟨fun _ => Or.inr (List.mem_singleton.mpr rfl), fun z => by omega, fun z => by omega⟩
              cases List.mem_singleton.mp h
              exact ⟨w.1, by rw [← w.2.1]; exact OK.2.1, by have := w.2.2.1; have := OK.2.2.1; omega, OK.2.2.2⟩
            · intro j r p u b h
              rcases List.mem_cons.mp h with e | e
              · exact Or.inr (List.mem_singleton.mpr e)
              · exact Or.inl (hLS _ _ _ _ _ (List.mem_cons_of_mem _ e))
          refine ⟨iu, nm_r (e' := upd st u' (nI (sh_yd (sh_rw g s c) i))) (by rw [nI_clamp (by omega), sh_n16 (by omega)]) ⟨iu, nm_r (e' := upd ou u' (wi L.length)) (by rw [nI_clamp (by omega), hw]) ?_⟩⟩
          cases c with
          | nil =>
            have hw1 : wi L.length = -1 := k2
            refine br_f (by rw [hw1]; decide) ⟨by decide, k219 _ ?_⟩
            have q : nI (sh_yd (6 + s) i) - nI (sh_yd (6 + s) i) / nI 24 * nI 24 = nI (sh_yd (6 + s) i % 24) := pk_rem (by have : sh_yd (6 + s) i < 264 := hyd; omega) (by omega) (by omega)
            have q2 : sh_yd (6 + s) i % 24 = sh_og s i [] := by
              show sh_yd (6 + s) i % 24 = i - (72 + 24 * s)
              have R1 : sh_xb (6 + s) ≤ i ∧ i < sh_xb (6 + s) + 24 := ⟨Rw.2.1, Rw.2.2.1⟩
              unfold sh_yd
              unfold sh_xb at R1 ⊢
              rw [if_neg (by omega)] at R1 ⊢
              omega
            rw [q2] at q
            have og := sh_og_lt P hs [] i G
            show (nI (sh_yd (6 + s) i) - nI (sh_yd (6 + s) i) / nI 24 * nI 24).toInt8.toInt32 = _
            rw [q]
            exact lg_i2b_small (by rw [nI_toInt (by omega)]; omega) (by rw [nI_toInt (by omega)]; omega)
          | cons x c =>
            obtain ⟨i', d'⟩ := x
            obtain ⟨w1, w2, w3, w4, w5⟩ := k2
            refine br_t (by rw [w1]; exact nI_pos' (by omega)) ⟨by rw [w1]; exact vp_in_nI (by omega) (by omega), k219 _ ?_⟩
            rw [w1, nI_clamp (by omega)]
            exact w4
end YX
end
section
/-! Y: expanded, asked -/
def sh_ro (s : Nat) : Nat := 72 + 24 * s
/-- what Y's expansion of a source holds; the flag: whether it fits -/
def sh_Ex (g : sh_G) (cc hi s : Nat) (sz us : Int32) (kds ogn vls prt sp : Nat → Int32) (r : Int32) : Prop :=
  (sh_ln g (6 + s) = 0 ∧ sz = 0 ∧ us = 0 ∧ r = 1) ∨
  (1 ≤ sh_ln g (6 + s) ∧ (2000 < sh_T g (sh_ro s) ∨ 2000 < sh_R g (sh_ro s)) ∧ r = 0 ∧ ∃ z v : Nat, sz = nI z ∧ us = nI v ∧ (2000 < z ∨ 2000 < v) ∧ z ≤ 2001 ∧ v ≤ 2001) ∨
  (1 ≤ sh_ln g (6 + s) ∧ sh_T g (sh_ro s) ≤ 2000 ∧ sh_R g (sh_ro s) ≤ 2000 ∧ r = 1 ∧ sz = nI (sh_T g (sh_ro s)) ∧ us = nI (sh_R g (sh_ro s)) ∧
    ∃ S, sh_Cl g cc hi s (sh_T g (sh_ro s)) (sh_R g (sh_ro s)) (sh_Ff g s kds vls ogn prt sp) S ∧ S (sh_ro s) [] 0 0 0)
def sh_Ca (g : sh_G) (cc hi : Nat) (of sz us : Int32) (kds ogn vls prt sp : Nat → Int32) : Prop :=
  of = -1 ∨ ∃ s r, s < 4 ∧ of = nI s ∧ sh_Ex g cc hi s sz us kds ogn vls prt sp r
section YE
variable {yf_concepts yf_place yf_size yf_uses yf_of yf_result yf_says : Int32} {yb_kind yb_behind yb_length yb_holes yb_value yb_kinds yb_origin yb_values yb_parent yb_span yb_todo yb_within yb_under yb_stands yb_outer yb_from yb_left yb_variable yb_saved yb_worth yb_said yb_work yb_phase : Nat → Int32} {g : sh_G} {cc hi s : Nat}
theorem sh_ro_IR (P : sh_Pg g cc hi) (hs : s < 4) (h : 1 ≤ sh_ln g (6 + s)) : sh_Gd g cc hi s (sh_ro s) [] := by
  show sh_IR g (6 + s) (sh_ro s)
  unfold sh_IR sh_xb sh_ro
  rw [if_neg (by omega)]
  omega
theorem ys_expanded {post : Int32 → SY → Prop} (P : sh_Pg g cc hi) (YP : ys_YP g hi yb_kind yb_value yb_behind) (hs : s < 4) (hl : yb_length (6 + s) = nI (sh_ln g (6 + s)))
    (Ca : sh_Ca g cc hi yf_of yf_size yf_uses yb_kinds yb_origin yb_values yb_parent yb_span)
    (K : ∀ r z v kds ogn vls prt sp td wi un st ou fr, sh_Ex g cc hi s z v kds ogn vls prt sp r →
      post r (yf_concepts, yf_place, z, v, nI s, yf_result, yf_says, yb_kind, yb_behind, yb_length, yb_holes, yb_value, kds, ogn, vls, prt, sp, td, wi, un, st, ou, fr, yb_left, yb_variable, yb_saved, yb_worth, yb_said, yb_work, yb_phase)) :
    wpY_expanded post (yf_concepts, yf_place, yf_size, yf_uses, yf_of, yf_result, yf_says, yb_kind, yb_behind, yb_length, yb_holes, yb_value, yb_kinds, yb_origin, yb_values, yb_parent, yb_span, yb_todo, yb_within, yb_under, yb_stands, yb_outer, yb_from, yb_left, yb_variable, yb_saved, yb_worth, yb_said, yb_work, yb_phase) (nI s) := by
  have h24 : sh_ln g (6 + s) ≤ 24 := P.2.2.2.2.1 s hs
  have e6 : (6 : Int32) + nI s = nI (6 + s) := nI_add 6 s
  have i6 : vp_in ((6 : Int32) + nI s) 11 := by rw [e6]; exact vp_in_nI (by omega) (by omega)
  have c6 : yb_length ((6 : Int32) + nI s).toNatClampNeg = nI (sh_ln g (6 + s)) := by rw [e6, nI_clamp (by omega)]; exact hl
  by_cases eo : yf_of = nI s
  · refine br_t eo ?_
    rcases Ca with h | ⟨s', r, hs', e', E⟩
    · exfalso
      rw [eo] at h
      have : ¬ nI s < 0 := nI_pos (by omega)
      rw [h] at this
      exact this (by decide)
    · have : s' = s := (nI_eq (by omega) (by omega)).mp (e'.symm.trans eo)
      subst this
      have fin := K r yf_size yf_uses yb_kinds yb_origin yb_values yb_parent yb_span yb_todo yb_within yb_under yb_stands yb_outer yb_from E
      rw [← eo] at fin
      rcases E with ⟨_, e1, e2, e3⟩ | ⟨_, _, e3, z, v, e1, e2, h3, h4, h5⟩ | ⟨_, h1, h2, e3, e1, e2, _⟩
      · subst e3
        exact br_f (by rw [e1]; decide) (br_f (by rw [e2]; decide) fin)
      · subst e3
        exact pk_lt 2000 z (fun _ => fin) (fun _ => pk_lt 2000 v (fun _ => fin) (fun _ => by omega) rfl e2) rfl e1
      · subst e3
        exact pk_lt 2000 (sh_T g (sh_ro s')) (fun _ => by omega) (fun _ => pk_lt 2000 (sh_R g (sh_ro s')) (fun _ => by omega) (fun _ => fin) rfl e2) rfl e1
  · refine br_f eo ⟨i6, ?_⟩
    rw [c6]
    refine pk_eq (sh_ln g (6 + s)) 0 (fun h0 => ⟨1, br_t (by decide) (br_f (by decide) (br_f (by decide) (br_f (by decide) (ys_measure0 rfl ⟨narrow_b1, ?_⟩))))⟩) (fun h0 => ?_)
    · exact K 1 0 0 yb_kinds yb_origin yb_values yb_parent yb_span yb_todo yb_within yb_under yb_stands yb_outer yb_from (Or.inl ⟨h0, rfl, rfl, rfl⟩)
    · have G := sh_ro_IR P hs (by omega)
      have eyd : (24 : Int32) * (6 + nI s) = nI (sh_yd (6 + s) (sh_ro s)) := by
        rw [e6]
        refine (pk_mul 24 (6 + s)).trans (congrArg nI ?_)
        unfold sh_yd sh_xb sh_ro
        rw [if_neg (by omega)]; omega
      rw [eyd]
      refine ys_later (t := 0) (by omega) (by unfold sh_yd sh_xb sh_ro; rw [if_neg (by omega)]; omega) sh_Sh_m sh_Sh_m ?_
      refine ⟨sh_wt g [(sh_ro s, [], 0, 0, 0)] + 1, ?_⟩
      have eT : sh_eT g (sh_ro s) [] = sh_T g (sh_ro s) := sh_ev_n g _ _
      have eR : sh_eR g (sh_ro s) [] = sh_R g (sh_ro s) := sh_ev_n g _ _
      refine ys_e80 (g := g) (cc := cc) (hi := hi) (s := s) (N := sh_T g (sh_ro s)) (U := sh_R g (sh_ro s)) (i0 := sh_ro s) P YP hs (fun hL z v kds ogn vls prt td wi un st ou fr h1 h2 h3 => ?_) eT (fun hN hU kds ogn vls prt sp td wi un st ou fr hS => ?_)
        _ [(sh_ro s, [], 0, 0, 0)] (fun i r p u a => (i, r, p, u, a) = (sh_ro s, [], 0, 0, 0)) (fun _ => (0, [])) 0 0 yb_kinds yb_origin yb_values yb_parent _ _ _ yb_stands yb_outer yb_from (by omega) (by omega) (by show 1 ≤ 1 + 2 * 0; omega) (Nat.lt_succ_self _) ?_ ?_ ?_ ?_ rfl
      · exact K 0 (nI z) (nI v) kds ogn vls prt yb_span td wi un st ou fr (Or.inr (Or.inl ⟨by omega, hL, rfl, z, v, rfl, rfl, h1, h2, h3⟩))
      · exact K 1 (nI (sh_T g (sh_ro s))) (nI (sh_R g (sh_ro s))) kds ogn vls prt sp td wi un st ou fr (Or.inr (Or.inr ⟨by omega, hN, hU, rfl, rfl, rfl, hS⟩))
      · exact ⟨pk_us, pk_us, by show upd yb_under 0 (-1) 0 = nI 0 - 1; rw [pk_us]; decide, trivial⟩
      · refine ⟨rfl, rfl, ?_⟩
        show 0 + _ = _ ∧ 0 + _ = _
        rw [eT, eR]; omega
      · intro i r p u a h
        cases h
        exact ⟨⟨G, by rw [eT]; omega, by rw [eR]; omega, Or.inl ⟨rfl, rfl⟩⟩, Or.inl (List.mem_singleton.mpr rfl)⟩
      · intro i r p u a h
        exact List.mem_singleton.mp h
/-- asked where the expansion stands already -/
theorem ys_asked {post : Int32 → SY → Prop} {r x : Int32} (P : sh_Pg g cc hi) (hs : s < 4) (hl : yb_length (6 + s) = nI (sh_ln g (6 + s))) (eo : yf_of = nI s)
    (E : sh_Ex g cc hi s yf_size yf_uses yb_kinds yb_origin yb_values yb_parent yb_span r)
    (K0 : sh_ln g (6 + s) = 0 → post 0 (yf_concepts, yf_place, yf_size, yf_uses, yf_of, yf_result, yf_says, yb_kind, yb_behind, yb_length, yb_holes, yb_value, yb_kinds, yb_origin, yb_values, yb_parent, yb_span, yb_todo, yb_within, yb_under, yb_stands, yb_outer, yb_from, yb_left, yb_variable, yb_saved, yb_worth, yb_said, yb_work, yb_phase)) (K1 : 1 ≤ sh_ln g (6 + s) → r = 0 → post (-2) (yf_concepts, yf_place, yf_size, yf_uses, yf_of, yf_result, yf_says, yb_kind, yb_behind, yb_length, yb_holes, yb_value, yb_kinds, yb_origin, yb_values, yb_parent, yb_span, yb_todo, yb_within, yb_under, yb_stands, yb_outer, yb_from, yb_left, yb_variable, yb_saved, yb_worth, yb_said, yb_work, yb_phase)) (K2 : 1 ≤ sh_ln g (6 + s) → r = 1 → post x (yf_concepts, yf_place, yf_size, yf_uses, yf_of, yf_result, yf_says, yb_kind, yb_behind, yb_length, yb_holes, yb_value, yb_kinds, yb_origin, yb_values, yb_parent, yb_span, yb_todo, yb_within, yb_under, yb_stands, yb_outer, yb_from, yb_left, yb_variable, yb_saved, yb_worth, yb_said, yb_work, yb_phase)) : wpY_asked post (yf_concepts, yf_place, yf_size, yf_uses, yf_of, yf_result, yf_says, yb_kind, yb_behind, yb_length, yb_holes, yb_value, yb_kinds, yb_origin, yb_values, yb_parent, yb_span, yb_todo, yb_within, yb_under, yb_stands, yb_outer, yb_from, yb_left, yb_variable, yb_saved, yb_worth, yb_said, yb_work, yb_phase) (nI s) x := by
  have h24 : sh_ln g (6 + s) ≤ 24 := P.2.2.2.2.1 s hs
  have e6 : (6 : Int32) + nI s = nI (6 + s) := nI_add 6 s
  have i6 : vp_in ((6 : Int32) + nI s) 11 := by rw [e6]; exact vp_in_nI (by omega) (by omega)
  have c6 : yb_length ((6 : Int32) + nI s).toNatClampNeg = nI (sh_ln g (6 + s)) := by rw [e6, nI_clamp (by omega)]; exact hl
  have fin : ∀ r', r' = r → vp_in ((6 : Int32) + nI s) 11 ∧ ((yb_length ((6 : Int32) + nI s).toNatClampNeg = 0 → post 0 (yf_concepts, yf_place, yf_size, yf_uses, yf_of, yf_result, yf_says, yb_kind, yb_behind, yb_length, yb_holes, yb_value, yb_kinds, yb_origin, yb_values, yb_parent, yb_span, yb_todo, yb_within, yb_under, yb_stands, yb_outer, yb_from, yb_left, yb_variable, yb_saved, yb_worth, yb_said, yb_work, yb_phase)) ∧ (¬ yb_length ((6 : Int32) + nI s).toNatClampNeg = 0 → (r' = 0 → post (-2) (yf_concepts, yf_place, yf_size, yf_uses, yf_of, yf_result, yf_says, yb_kind, yb_behind, yb_length, yb_holes, yb_value, yb_kinds, yb_origin, yb_values, yb_parent, yb_span, yb_todo, yb_within, yb_under, yb_stands, yb_outer, yb_from, yb_left, yb_variable, yb_saved, yb_worth, yb_said, yb_work, yb_phase)) ∧ (¬ r' = 0 → post x (yf_concepts, yf_place, yf_size, yf_uses, yf_of, yf_result, yf_says, yb_kind, yb_behind, yb_length, yb_holes, yb_value, yb_kinds, yb_origin, yb_values, yb_parent, yb_span, yb_todo, yb_within, yb_under, yb_stands, yb_outer, yb_from, yb_left, yb_variable, yb_saved, yb_worth, yb_said, yb_work, yb_phase)))) := by
    intro r' er
    subst er
    refine ⟨i6, ?_⟩
    rw [c6]
    refine pk_eq (sh_ln g (6 + s)) 0 (fun h => K0 h) (fun h => br_c (fun q => K1 (by omega) q) (fun q => K2 (by omega) ?_))
    rcases E with E | E | E
    · exact E.2.2.2
    · exact absurd E.2.2.1 q
    · exact E.2.2.2.1
  refine br_t eo ?_
  rcases E with ⟨_, e1, e2, e3⟩ | ⟨_, _, e3, z, v, e1, e2, h3, h4, h5⟩ | ⟨_, h1, h2, e3, e1, e2, _⟩
  · exact br_f (by rw [e1]; decide) (br_f (by rw [e2]; decide) (fin 1 e3.symm))
  · exact pk_lt 2000 z (fun _ => fin 0 e3.symm) (fun _ => pk_lt 2000 v (fun _ => fin 0 e3.symm) (fun _ => by omega) rfl e2) rfl e1
  · exact pk_lt 2000 (sh_T g (sh_ro s)) (fun _ => by omega) (fun _ => pk_lt 2000 (sh_R g (sh_ro s)) (fun _ => by omega) (fun _ => fin 1 e3.symm) rfl e2) rfl e1
end YE
end
section
/-! X: frames -/
abbrev xs_FR : Type := (Nat → Int32) × (Nat → Int32) × (Nat → Int32) × (Nat → Int32) × (Nat → Int32) × (Nat → Int32) × (Nat → Int32) × (Nat → Int32) × (Nat → Int32) × (Nat → Int32)
def xs_XP (g : sh_G) (hi : Nat) (tok end' num cp tn rp dp ls ok : Nat → Int32) : Prop := ∀ r, (r < hi ∨ 6 ≤ r ∧ r < 10) → ∀ i, sh_IR g r i → tok i = nI (sh_tk g i) ∧ end' i &&& 255 = nI (sh_en g i) ∧ num i = sh_nm g i ∧ xs_XN g cp tn rp dp ls ok i
/-- the USEs that X has gone into: fr = caller number size0 size1 size2 uses0 uses1 uses2 useAt begun; φ: their numbers -/
def xs_XC (g : sh_G) (s : Nat) (φ : Nat → Nat) (fr : xs_FR) (F : Nat) : List (Nat × Nat) → Int32 → Prop
  | [], f => f = -1
  | (i, u) :: r, f => ∃ q : Nat, f = nI q ∧ q < F ∧ φ q = u ∧ fr.2.2.2.2.2.2.2.2.1 q = sb_b i ∧ fr.2.2.2.2.2.2.2.2.2 q = sb_b (sh_ro s + sh_og s i r) ∧
      (1 ≤ sh_C g (sh_rt g i) 0 → fr.2.2.1 q = nI (sh_eT g (sh_op g i 0) r) ∧ fr.2.2.2.2.2.1 q = nI (sh_eR g (sh_op g i 0) r)) ∧
      (1 ≤ sh_C g (sh_rt g i) 1 → fr.2.2.2.1 q = nI (sh_eT g (sh_op g i 1) r) ∧ fr.2.2.2.2.2.2.1 q = nI (sh_eR g (sh_op g i 1) r)) ∧
      (1 ≤ sh_C g (sh_rt g i) 2 → fr.2.2.2.2.1 q = nI (sh_eT g (sh_op g i 2) r) ∧ fr.2.2.2.2.2.2.2.1 q = nI (sh_eR g (sh_op g i 2) r)) ∧
      xs_XC g s φ fr F r (fr.1 q)
def xs_Fs (fr fr' : xs_FR) (F : Nat) : Prop := ∀ q, q < F → fr'.1 q = fr.1 q ∧ fr'.2.1 q = fr.2.1 q ∧ fr'.2.2.1 q = fr.2.2.1 q ∧ fr'.2.2.2.1 q = fr.2.2.2.1 q ∧ fr'.2.2.2.2.1 q = fr.2.2.2.2.1 q ∧ fr'.2.2.2.2.2.1 q = fr.2.2.2.2.2.1 q ∧ fr'.2.2.2.2.2.2.1 q = fr.2.2.2.2.2.2.1 q ∧ fr'.2.2.2.2.2.2.2.1 q = fr.2.2.2.2.2.2.2.1 q ∧ fr'.2.2.2.2.2.2.2.2.1 q = fr.2.2.2.2.2.2.2.2.1 q ∧ fr'.2.2.2.2.2.2.2.2.2 q = fr.2.2.2.2.2.2.2.2.2 q
theorem xs_Fs_r (fr : xs_FR) (F : Nat) : xs_Fs fr fr F := fun _ _ => ⟨rfl, rfl, rfl, rfl, rfl, rfl, rfl, rfl, rfl, rfl⟩
theorem xs_Fs_t {a b c : xs_FR} {F F' : Nat} (h : F ≤ F') (h1 : xs_Fs a b F) (h2 : xs_Fs b c F') : xs_Fs a c F := by
  intro q hq
  have x := h1 q hq
  have y := h2 q (by omega)
  exact ⟨y.1.trans x.1, y.2.1.trans x.2.1, y.2.2.1.trans x.2.2.1, y.2.2.2.1.trans x.2.2.2.1, y.2.2.2.2.1.trans x.2.2.2.2.1, y.2.2.2.2.2.1.trans x.2.2.2.2.2.1, y.2.2.2.2.2.2.1.trans x.2.2.2.2.2.2.1, y.2.2.2.2.2.2.2.1.trans x.2.2.2.2.2.2.2.1, y.2.2.2.2.2.2.2.2.1.trans x.2.2.2.2.2.2.2.2.1, y.2.2.2.2.2.2.2.2.2.trans x.2.2.2.2.2.2.2.2.2⟩
theorem xs_XC_up {g : sh_G} {s : Nat} {φ φ' : Nat → Nat} {fr fr' : xs_FR} {F F' : Nat} (hF : F ≤ F') (hA : xs_Fs fr fr' F) (hφ : ∀ q, q < F → φ' q = φ q) : ∀ (r : List (Nat × Nat)) (f : Int32), xs_XC g s φ fr F r f → xs_XC g s φ' fr' F' r f := by
  intro r
  induction r with
  | nil => intro f h; exact h
  | cons a r ih =>
    intro f h
    obtain ⟨q, h1, h2, h3, h4, h5, h6, h7, h8, h9⟩ := h
    obtain ⟨y1, y2, y3, y4, y5, y6, y7, y8, y9, y10⟩ := hA q h2
    refine ⟨q, h1, Nat.lt_of_lt_of_le h2 hF, by rw [hφ q h2]; exact h3, by rw [y9]; exact h4, by rw [y10]; exact h5, ?_, ?_, ?_, by rw [y1]; exact ih _ h9⟩
    · rw [y3, y6]; exact h6
    · rw [y4, y7]; exact h7
    · rw [y5, y8]; exact h8
theorem xs_XC_f {g : sh_G} {s : Nat} {φ : Nat → Nat} {fr : xs_FR} {F : Nat} {r : List (Nat × Nat)} {f : Int32} (h : xs_XC g s φ fr F r f) : f = -1 ∨ ∃ q, q < F ∧ f = nI q := by
  cases r with
  | nil => exact Or.inl h
  | cons a r => obtain ⟨q, h1, h2, _⟩ := h; exact Or.inr ⟨q, h2, h1⟩
theorem xs_f_Sh {f : Int32} {F : Nat} (hF : F ≤ 30000) (h : f = -1 ∨ ∃ q, q < F ∧ f = nI q) : sh_Sh f := by
  rcases h with h | ⟨q, h1, h2⟩
  · rw [h]; exact sh_Sh_m
  · rw [h2]; exact sh_Sh_n (by omega)
/-- what sizeIn, usesIn reckon -/
def xs_sv (tn cp s0 s1 s2 : Nat → Int32) (i : Nat) (f : Int32) : Int32 := if 0 ≤ f then tn i + cp (3 * i) * s0 f.toNatClampNeg + cp (3 * i + 1) * s1 f.toNatClampNeg + cp (3 * i + 2) * s2 f.toNatClampNeg else tn i
theorem xs_sv_c {tn cp s0 s1 s2 t0 t1 t2 : Nat → Int32} {i F : Nat} {f : Int32} (hF : F ≤ 30000) (h : f = -1 ∨ ∃ q, q < F ∧ f = nI q) (h0 : ∀ q, q < F → t0 q = s0 q) (h1 : ∀ q, q < F → t1 q = s1 q) (h2 : ∀ q, q < F → t2 q = s2 q) :
    xs_sv tn cp t0 t1 t2 i f = xs_sv tn cp s0 s1 s2 i f := by
  unfold xs_sv
  rcases h with h | ⟨q, hq, h⟩
  · rw [h, if_neg (by decide), if_neg (by decide)]
  · rw [h, nI_clamp (by omega), h0 q hq, h1 q hq, h2 q hq]
section XE
variable {xf_concepts xf_drafted xf_place xf_frames xf_node xf_frame xf_above xf_depth xf_top xf_lets xf_says xf_result : Int32} {xa_tok xa_end xa_num xa_length xa_holes xa_draft xa_draftNum xa_copies xa_tokens xa_replaced xa_deep xa_lies xa_ofKind xa_caller xa_number xa_size0 xa_size1 xa_size2 xa_uses0 xa_uses1 xa_uses2 xa_useAt xa_begun xa_workNode xa_stage xa_workFrame xa_values xa_bound xa_boundTo xa_output xa_given : Nat → Int32}
theorem xs_sizeIn {post : Int32 → Prop} {i F : Nat} {f : Int32} (hi : i < 168) (hF : F ≤ 2000) (hf : f = -1 ∨ ∃ q, q < F ∧ f = nI q) (K : post (xs_sv xa_tokens xa_copies xa_size0 xa_size1 xa_size2 i f)) : wpX_sizeIn post (xf_concepts, xf_drafted, xf_place, xf_frames, xf_node, xf_frame, xf_above, xf_depth, xf_top, xf_lets, xf_says, xf_result, xa_tok, xa_end, xa_num, xa_length, xa_holes, xa_draft, xa_draftNum, xa_copies, xa_tokens, xa_replaced, xa_deep, xa_lies, xa_ofKind, xa_caller, xa_number, xa_size0, xa_size1, xa_size2, xa_uses0, xa_uses1, xa_uses2, xa_useAt, xa_begun, xa_workNode, xa_stage, xa_workFrame, xa_values, xa_bound, xa_boundTo, xa_output, xa_given) (nI i) f := by
  have i1 : vp_in (nI i) 168 := vp_in_nI hi (by omega)
  have e0 : (3 : Int32) * nI i = nI (3 * i) := pk_mul 3 i
  have e1 : (3 : Int32) * nI i + 1 = nI (3 * i + 1) := by rw [e0]; exact nI_1 _
  have e2 : (3 : Int32) * nI i + 2 = nI (3 * i + 2) := by rw [e0]; exact nI_add _ 2
  unfold xs_sv at K
  rcases hf with h | ⟨q, hq, h⟩
  · subst h
    rw [if_neg (by decide)] at K
    refine br_f (by decide) ⟨i1, ?_⟩
    rw [nI_clamp (by omega)]; exact K
  · subst h
    rw [if_pos (nI_pos' (by omega))] at K
    have iq : vp_in (nI q) 2000 := vp_in_nI (by omega) (by omega)
    refine br_t (nI_pos' (by omega)) ⟨i1, by rw [e0]; exact vp_in_nI (by omega) (by omega), iq, by rw [e1]; exact vp_in_nI (by omega) (by omega), iq, by rw [e2]; exact vp_in_nI (by omega) (by omega), iq, ?_⟩
    rw [e1, e2, e0, nI_clamp (n := i) (by omega), nI_clamp (n := 3 * i) (by omega), nI_clamp (n := 3 * i + 1) (by omega), nI_clamp (n := 3 * i + 2) (by omega)]
    exact K
theorem xs_usesIn {post : Int32 → Prop} {i F : Nat} {f : Int32} (hi : i < 168) (hF : F ≤ 2000) (hf : f = -1 ∨ ∃ q, q < F ∧ f = nI q) (K : post (xs_sv xa_replaced xa_copies xa_uses0 xa_uses1 xa_uses2 i f)) : wpX_usesIn post (xf_concepts, xf_drafted, xf_place, xf_frames, xf_node, xf_frame, xf_above, xf_depth, xf_top, xf_lets, xf_says, xf_result, xa_tok, xa_end, xa_num, xa_length, xa_holes, xa_draft, xa_draftNum, xa_copies, xa_tokens, xa_replaced, xa_deep, xa_lies, xa_ofKind, xa_caller, xa_number, xa_size0, xa_size1, xa_size2, xa_uses0, xa_uses1, xa_uses2, xa_useAt, xa_begun, xa_workNode, xa_stage, xa_workFrame, xa_values, xa_bound, xa_boundTo, xa_output, xa_given) (nI i) f := by
  have i1 : vp_in (nI i) 168 := vp_in_nI hi (by omega)
  have e0 : (3 : Int32) * nI i = nI (3 * i) := pk_mul 3 i
  have e1 : (3 : Int32) * nI i + 1 = nI (3 * i + 1) := by rw [e0]; exact nI_1 _
  have e2 : (3 : Int32) * nI i + 2 = nI (3 * i + 2) := by rw [e0]; exact nI_add _ 2
  unfold xs_sv at K
  rcases hf with h | ⟨q, hq, h⟩
  · subst h
    rw [if_neg (by decide)] at K
    refine br_f (by decide) ⟨i1, ?_⟩
    rw [nI_clamp (by omega)]; exact K
  · subst h
    rw [if_pos (nI_pos' (by omega))] at K
    have iq : vp_in (nI q) 2000 := vp_in_nI (by omega) (by omega)
    refine br_t (nI_pos' (by omega)) ⟨i1, by rw [e0]; exact vp_in_nI (by omega) (by omega), iq, by rw [e1]; exact vp_in_nI (by omega) (by omega), iq, by rw [e2]; exact vp_in_nI (by omega) (by omega), iq, ?_⟩
    rw [e1, e2, e0, nI_clamp (n := i) (by omega), nI_clamp (n := 3 * i) (by omega), nI_clamp (n := 3 * i + 1) (by omega), nI_clamp (n := 3 * i + 2) (by omega)]
    exact K
end XE
end
section
/-! X: enter -/
def xs_nr (x : Int32) : Int32 := vp_nar .short x.toInt16.toInt32
def xs_vv (an j : Nat) (x : Int32) : Int32 := if j < an then xs_nr x else xs_nr 0
theorem xs_vv_c {an j : Nat} {a b : Int32} (h : j < an → a = b) : xs_vv an j a = xs_vv an j b := by
  unfold xs_vv
  by_cases e : j < an
  · rw [if_pos e, if_pos e, h e]
  · rw [if_neg e, if_neg e]
section XEN
variable {xf_concepts xf_drafted xf_place xf_frames xf_node xf_frame xf_above xf_depth xf_top xf_lets xf_says xf_result : Int32} {xa_tok xa_end xa_num xa_length xa_holes xa_draft xa_draftNum xa_copies xa_tokens xa_replaced xa_deep xa_lies xa_ofKind xa_caller xa_number xa_size0 xa_size1 xa_size2 xa_uses0 xa_uses1 xa_uses2 xa_useAt xa_begun xa_workNode xa_stage xa_workFrame xa_values xa_bound xa_boundTo xa_output xa_given : Nat → Int32}
theorem xs_en215 {post : Int32 → SX → Prop} {F e an : Nat} {f : Int32} (hF : F < 2000) (he : 2 < an → e < 168) (han : an ≤ 3) (hf : f = -1 ∨ ∃ q, q < F ∧ f = nI q)
    (K : post (nI F) (xf_concepts, xf_drafted, xf_place, xf_frames, xf_node, xf_frame, xf_above, xf_depth, xf_top, xf_lets, xf_says, xf_result, xa_tok, xa_end, xa_num, xa_length, xa_holes, xa_draft, xa_draftNum, xa_copies, xa_tokens, xa_replaced, xa_deep, xa_lies, xa_ofKind, xa_caller, xa_number, xa_size0, xa_size1, upd xa_size2 F (xs_vv an 2 (xs_sv xa_tokens xa_copies xa_size0 xa_size1 xa_size2 e f)), xa_uses0, xa_uses1, upd xa_uses2 F (xs_vv an 2 (xs_sv xa_replaced xa_copies xa_uses0 xa_uses1 xa_uses2 e f)), xa_useAt, xa_begun, xa_workNode, xa_stage, xa_workFrame, xa_values, xa_bound, xa_boundTo, xa_output, xa_given)) :
    wX_enter_215 post f (nI F) (nI an) (nI e) xf_concepts xf_drafted xf_place xf_frames xf_node xf_frame xf_above xf_depth xf_top xf_lets xf_says xf_result xa_tok xa_end xa_num xa_length xa_holes xa_draft xa_draftNum xa_copies xa_tokens xa_replaced xa_deep xa_lies xa_ofKind xa_caller xa_number xa_size0 xa_size1 xa_size2 xa_uses0 xa_uses1 xa_uses2 xa_useAt xa_begun xa_workNode xa_stage xa_workFrame xa_values xa_bound xa_boundTo xa_output xa_given := by
  have iF : vp_in (nI F) 2000 := vp_in_nI hF (by omega)
  unfold xs_vv at K
  refine pk_le an 2 (fun h => ?_) (fun h => ?_)
  · rw [if_neg (by omega), if_neg (by omega)] at K
    refine ⟨iF, nm_r (e' := upd xa_size2 F (xs_nr 0)) (by rw [nI_clamp (by omega)]; rfl) (pk_le an 2 (fun _ => ⟨iF, nm_r (e' := upd xa_uses2 F (xs_nr 0)) (by rw [nI_clamp (by omega)]; rfl) K⟩) (fun h2 => by omega))⟩
  · rw [if_pos h, if_pos h] at K
    refine xs_sizeIn (he h) (by omega) hf ⟨iF, nm_r (e' := upd xa_size2 F (xs_nr (xs_sv xa_tokens xa_copies xa_size0 xa_size1 xa_size2 e f))) (by rw [nI_clamp (by omega)]; rfl) (pk_le an 2 (fun h2 => by omega) (fun _ => ?_))⟩
    refine xs_usesIn (he h) (show F ≤ 2000 by omega) hf ⟨iF, nm_r (e' := upd xa_uses2 F (xs_nr (xs_sv xa_replaced xa_copies xa_uses0 xa_uses1 xa_uses2 e f))) (by rw [nI_clamp (by omega)]; rfl) K⟩
theorem xs_en146 {post : Int32 → SX → Prop} {F e e' an : Nat} {f : Int32} (hF : F < 2000) (he : 1 < an → e < 168) (he' : 2 < an → e' < 168 ∧ xa_end e &&& 255 = nI e') (han : an ≤ 3) (hf : f = -1 ∨ ∃ q, q < F ∧ f = nI q)
    (K : post (nI F) (xf_concepts, xf_drafted, xf_place, xf_frames, xf_node, xf_frame, xf_above, xf_depth, xf_top, xf_lets, xf_says, xf_result, xa_tok, xa_end, xa_num, xa_length, xa_holes, xa_draft, xa_draftNum, xa_copies, xa_tokens, xa_replaced, xa_deep, xa_lies, xa_ofKind, xa_caller, xa_number, xa_size0, upd xa_size1 F (xs_vv an 1 (xs_sv xa_tokens xa_copies xa_size0 xa_size1 xa_size2 e f)), upd xa_size2 F (xs_vv an 2 (xs_sv xa_tokens xa_copies xa_size0 xa_size1 xa_size2 e' f)), xa_uses0, upd xa_uses1 F (xs_vv an 1 (xs_sv xa_replaced xa_copies xa_uses0 xa_uses1 xa_uses2 e f)), upd xa_uses2 F (xs_vv an 2 (xs_sv xa_replaced xa_copies xa_uses0 xa_uses1 xa_uses2 e' f)), xa_useAt, xa_begun, xa_workNode, xa_stage, xa_workFrame, xa_values, xa_bound, xa_boundTo, xa_output, xa_given)) :
    wX_enter_146 post f (nI F) (nI an) (nI e) xf_concepts xf_drafted xf_place xf_frames xf_node xf_frame xf_above xf_depth xf_top xf_lets xf_says xf_result xa_tok xa_end xa_num xa_length xa_holes xa_draft xa_draftNum xa_copies xa_tokens xa_replaced xa_deep xa_lies xa_ofKind xa_caller xa_number xa_size0 xa_size1 xa_size2 xa_uses0 xa_uses1 xa_uses2 xa_useAt xa_begun xa_workNode xa_stage xa_workFrame xa_values xa_bound xa_boundTo xa_output xa_given := by
  have iF : vp_in (nI F) 2000 := vp_in_nI hF (by omega)
  have fin : ∀ v1 w1, v1 = xs_vv an 1 (xs_sv xa_tokens xa_copies xa_size0 xa_size1 xa_size2 e f) → w1 = xs_vv an 1 (xs_sv xa_replaced xa_copies xa_uses0 xa_uses1 xa_uses2 e f) → ∀ x, (2 < an → x = e') → wX_enter_215 post f (nI F) (nI an) (nI x) xf_concepts xf_drafted xf_place xf_frames xf_node xf_frame xf_above xf_depth xf_top xf_lets xf_says xf_result xa_tok xa_end xa_num xa_length xa_holes xa_draft xa_draftNum xa_copies xa_tokens xa_replaced xa_deep xa_lies xa_ofKind xa_caller xa_number xa_size0 (upd xa_size1 F v1) xa_size2 xa_uses0 (upd xa_uses1 F w1) xa_uses2 xa_useAt xa_begun xa_workNode xa_stage xa_workFrame xa_values xa_bound xa_boundTo xa_output xa_given := by
    intro v1 w1 h1 h2 x hx
    refine xs_en215 hF (fun h => by rw [hx h]; exact (he' h).1) han hf ?_
    rw [xs_sv_c (F := F) (s1 := xa_size1) (by omega) hf (fun _ _ => rfl) (fun k hk => pk_un (by omega)) (fun _ _ => rfl), xs_sv_c (F := F) (s1 := xa_uses1) (by omega) hf (fun _ _ => rfl) (fun k hk => pk_un (by omega)) (fun _ _ => rfl)]
    have E1 : xs_vv an 2 (xs_sv xa_tokens xa_copies xa_size0 xa_size1 xa_size2 x f) = xs_vv an 2 (xs_sv xa_tokens xa_copies xa_size0 xa_size1 xa_size2 e' f) := xs_vv_c (fun h => by rw [hx h])
    have E2 : xs_vv an 2 (xs_sv xa_replaced xa_copies xa_uses0 xa_uses1 xa_uses2 x f) = xs_vv an 2 (xs_sv xa_replaced xa_copies xa_uses0 xa_uses1 xa_uses2 e' f) := xs_vv_c (fun h => by rw [hx h])
    rw [E1, E2, h1, h2]
    exact K
  have k194 : ∀ v1, v1 = xs_vv an 1 (xs_sv xa_tokens xa_copies xa_size0 xa_size1 xa_size2 e f) → ∀ z0, xs_nr z0 = xs_vv an 1 (xs_sv xa_replaced xa_copies xa_uses0 xa_uses1 xa_uses2 e f) → wX_enter_194 post f (nI F) (nI an) (nI e) z0 (nI F) xf_concepts xf_drafted xf_place xf_frames xf_node xf_frame xf_above xf_depth xf_top xf_lets xf_says xf_result xa_tok xa_end xa_num xa_length xa_holes xa_draft xa_draftNum xa_copies xa_tokens xa_replaced xa_deep xa_lies xa_ofKind xa_caller xa_number xa_size0 (upd xa_size1 F v1) xa_size2 xa_uses0 xa_uses1 xa_uses2 xa_useAt xa_begun xa_workNode xa_stage xa_workFrame xa_values xa_bound xa_boundTo xa_output xa_given := by
    intro v1 h1 z0 hz
    refine ⟨iF, nm_r (e' := upd xa_uses1 F (xs_nr z0)) (by rw [nI_clamp (by omega)]; rfl) (pk_le an 2 (fun h => ?_) (fun h => ⟨vp_in_nI (he (by omega)) (by omega), nm_r (e' := nI e') ?_ ?_⟩))⟩
    · exact fin v1 _ h1 hz e (fun h2 => by omega)
    · rw [nI_clamp (by have := he (by omega); omega)]; exact (he' h).2
    · exact fin v1 _ h1 hz e' (fun _ => rfl)
  refine pk_le an 1 (fun h => ?_) (fun h => ?_)
  · refine ⟨iF, nm_r (e' := upd xa_size1 F (xs_nr 0)) (by rw [nI_clamp (by omega)]; rfl) (pk_le an 1 (fun _ => ?_) (fun h2 => by omega))⟩
    exact k194 _ (if_neg (by omega)).symm 0 (if_neg (by omega)).symm
  · refine xs_sizeIn (he h) (by omega) hf ⟨iF, nm_r (e' := upd xa_size1 F (xs_nr (xs_sv xa_tokens xa_copies xa_size0 xa_size1 xa_size2 e f))) (by rw [nI_clamp (by omega)]; rfl) (pk_le an 1 (fun h2 => by omega) (fun _ => ?_))⟩
    exact xs_usesIn (he h) (show F ≤ 2000 by omega) hf (k194 _ (if_pos h).symm _ (if_pos h).symm)
theorem xs_en78 {post : Int32 → SX → Prop} {F e e' e2 an : Nat} {f z0 : Int32} (hF : F < 2000) (he : 0 < an → e < 168) (he' : 1 < an → e' < 168 ∧ xa_end e &&& 255 = nI e') (he2 : 2 < an → e2 < 168 ∧ xa_end e' &&& 255 = nI e2) (han : an ≤ 3) (hf : f = -1 ∨ ∃ q, q < F ∧ f = nI q)
    (K : post (nI F) (xf_concepts, xf_drafted, xf_place, xf_frames, xf_node, xf_frame, xf_above, xf_depth, xf_top, xf_lets, xf_says, xf_result, xa_tok, xa_end, xa_num, xa_length, xa_holes, xa_draft, xa_draftNum, xa_copies, xa_tokens, xa_replaced, xa_deep, xa_lies, xa_ofKind, xa_caller, xa_number, upd xa_size0 F (xs_vv an 0 (xs_sv xa_tokens xa_copies xa_size0 xa_size1 xa_size2 e f)), upd xa_size1 F (xs_vv an 1 (xs_sv xa_tokens xa_copies xa_size0 xa_size1 xa_size2 e' f)), upd xa_size2 F (xs_vv an 2 (xs_sv xa_tokens xa_copies xa_size0 xa_size1 xa_size2 e2 f)), upd xa_uses0 F (xs_vv an 0 (xs_sv xa_replaced xa_copies xa_uses0 xa_uses1 xa_uses2 e f)), upd xa_uses1 F (xs_vv an 1 (xs_sv xa_replaced xa_copies xa_uses0 xa_uses1 xa_uses2 e' f)), upd xa_uses2 F (xs_vv an 2 (xs_sv xa_replaced xa_copies xa_uses0 xa_uses1 xa_uses2 e2 f)), xa_useAt, upd xa_begun F (vp_nar .byte z0), xa_workNode, xa_stage, xa_workFrame, xa_values, xa_bound, xa_boundTo, xa_output, xa_given)) :
    wX_enter_78 post f (nI F) (nI an) (nI e) z0 (nI F) xf_concepts xf_drafted xf_place xf_frames xf_node xf_frame xf_above xf_depth xf_top xf_lets xf_says xf_result xa_tok xa_end xa_num xa_length xa_holes xa_draft xa_draftNum xa_copies xa_tokens xa_replaced xa_deep xa_lies xa_ofKind xa_caller xa_number xa_size0 xa_size1 xa_size2 xa_uses0 xa_uses1 xa_uses2 xa_useAt xa_begun xa_workNode xa_stage xa_workFrame xa_values xa_bound xa_boundTo xa_output xa_given := by
  have iF : vp_in (nI F) 2000 := vp_in_nI hF (by omega)
  have fin : ∀ v0 w0, v0 = xs_vv an 0 (xs_sv xa_tokens xa_copies xa_size0 xa_size1 xa_size2 e f) → w0 = xs_vv an 0 (xs_sv xa_replaced xa_copies xa_uses0 xa_uses1 xa_uses2 e f) → ∀ x, (1 < an → x = e') → wX_enter_146 post f (nI F) (nI an) (nI x) xf_concepts xf_drafted xf_place xf_frames xf_node xf_frame xf_above xf_depth xf_top xf_lets xf_says xf_result xa_tok xa_end xa_num xa_length xa_holes xa_draft xa_draftNum xa_copies xa_tokens xa_replaced xa_deep xa_lies xa_ofKind xa_caller xa_number (upd xa_size0 F v0) xa_size1 xa_size2 (upd xa_uses0 F w0) xa_uses1 xa_uses2 xa_useAt (upd xa_begun F (vp_nar .byte z0)) xa_workNode xa_stage xa_workFrame xa_values xa_bound xa_boundTo xa_output xa_given := by
    intro v0 w0 h1 h2 x hx
    refine xs_en146 (e' := e2) hF (fun h => by rw [hx h]; exact (he' h).1) (fun h => by rw [hx (by omega)]; exact he2 h) han hf ?_
    rw [xs_sv_c (i := x) (F := F) (s0 := xa_size0) (by omega) hf (fun k hk => pk_un (by omega)) (fun _ _ => rfl) (fun _ _ => rfl), xs_sv_c (i := x) (F := F) (s0 := xa_uses0) (by omega) hf (fun k hk => pk_un (by omega)) (fun _ _ => rfl) (fun _ _ => rfl)]
    rw [xs_sv_c (i := e2) (F := F) (s0 := xa_size0) (by omega) hf (fun k hk => pk_un (by omega)) (fun _ _ => rfl) (fun _ _ => rfl), xs_sv_c (i := e2) (F := F) (s0 := xa_uses0) (by omega) hf (fun k hk => pk_un (by omega)) (fun _ _ => rfl) (fun _ _ => rfl)]
    have E1 : xs_vv an 1 (xs_sv xa_tokens xa_copies xa_size0 xa_size1 xa_size2 x f) = xs_vv an 1 (xs_sv xa_tokens xa_copies xa_size0 xa_size1 xa_size2 e' f) := xs_vv_c (fun h => by rw [hx h])
    have E2 : xs_vv an 1 (xs_sv xa_replaced xa_copies xa_uses0 xa_uses1 xa_uses2 x f) = xs_vv an 1 (xs_sv xa_replaced xa_copies xa_uses0 xa_uses1 xa_uses2 e' f) := xs_vv_c (fun h => by rw [hx h])
    rw [E1, E2, h1, h2]
    exact K
  have k125 : ∀ v0, v0 = xs_vv an 0 (xs_sv xa_tokens xa_copies xa_size0 xa_size1 xa_size2 e f) → ∀ z, xs_nr z = xs_vv an 0 (xs_sv xa_replaced xa_copies xa_uses0 xa_uses1 xa_uses2 e f) → wX_enter_125 post f (nI F) (nI an) (nI e) z (nI F) xf_concepts xf_drafted xf_place xf_frames xf_node xf_frame xf_above xf_depth xf_top xf_lets xf_says xf_result xa_tok xa_end xa_num xa_length xa_holes xa_draft xa_draftNum xa_copies xa_tokens xa_replaced xa_deep xa_lies xa_ofKind xa_caller xa_number (upd xa_size0 F v0) xa_size1 xa_size2 xa_uses0 xa_uses1 xa_uses2 xa_useAt (upd xa_begun F (vp_nar .byte z0)) xa_workNode xa_stage xa_workFrame xa_values xa_bound xa_boundTo xa_output xa_given := by
    intro v0 h0 z hz
    refine ⟨iF, nm_r (e' := upd xa_uses0 F (xs_nr z)) (by rw [nI_clamp (by omega)]; rfl) (pk_le an 1 (fun h => ?_) (fun h => ⟨vp_in_nI (he (by omega)) (by omega), nm_r (e' := nI e') ?_ ?_⟩))⟩
    · exact fin v0 _ h0 hz e (fun h2 => by omega)
    · rw [nI_clamp (by have := he (by omega); omega)]; exact (he' h).2
    · exact fin v0 _ h0 hz e' (fun _ => rfl)
  refine ⟨iF, nm_r (e' := upd xa_begun F (vp_nar .byte z0)) (by rw [nI_clamp (by omega)]) (pk_le an 0 (fun h => ?_) (fun h => ?_))⟩
  · refine ⟨iF, nm_r (e' := upd xa_size0 F (xs_nr 0)) (by rw [nI_clamp (by omega)]; rfl) (pk_le an 0 (fun _ => ?_) (fun h2 => by omega))⟩
    exact k125 _ (if_neg (by omega)).symm 0 (if_neg (by omega)).symm
  · refine xs_sizeIn (he h) (by omega) hf ⟨iF, nm_r (e' := upd xa_size0 F (xs_nr (xs_sv xa_tokens xa_copies xa_size0 xa_size1 xa_size2 e f))) (by rw [nI_clamp (by omega)]; rfl) (pk_le an 0 (fun h2 => by omega) (fun _ => ?_))⟩
    exact xs_usesIn (he h) (show F ≤ 2000 by omega) hf (k125 _ (if_pos h).symm _ (if_pos h).symm)
theorem xs_enter {post : Int32 → SX → Prop} {g : sh_G} {F i : Nat} {f ser : Int32} (hF : F < 2000) (hi : i < 168) (hf : f = -1 ∨ ∃ q, q < F ∧ f = nI q) (hfr : xf_frames = nI F) (ht : xa_tok i = nI (sh_tk g i)) (hk : sh_tk g i < 22)
    (hh : 16 ≤ sh_tk g i → xa_holes (sh_tk g i - 16) = nI (sh_ho g (sh_tk g i - 16))) (han : sh_an g i ≤ 3) (H : ∀ t, t < sh_an g i → sh_op g i t < 168 ∧ xa_end (sh_op g i t) &&& 255 = nI (sh_op g i (t + 1)))
    (K : post (nI F) (xf_concepts, xf_drafted, xf_place, nI (F + 1), xf_node, xf_frame, xf_above, xf_depth, xf_top, xf_lets, xf_says, xf_result, xa_tok, xa_end, xa_num, xa_length, xa_holes, xa_draft, xa_draftNum, xa_copies, xa_tokens, xa_replaced, xa_deep, xa_lies, xa_ofKind, upd xa_caller F f, upd xa_number F (xs_nr ser), upd xa_size0 F (xs_vv (sh_an g i) 0 (xs_sv xa_tokens xa_copies xa_size0 xa_size1 xa_size2 (sh_op g i 0) f)), upd xa_size1 F (xs_vv (sh_an g i) 1 (xs_sv xa_tokens xa_copies xa_size0 xa_size1 xa_size2 (sh_op g i 1) f)), upd xa_size2 F (xs_vv (sh_an g i) 2 (xs_sv xa_tokens xa_copies xa_size0 xa_size1 xa_size2 (sh_op g i 2) f)), upd xa_uses0 F (xs_vv (sh_an g i) 0 (xs_sv xa_replaced xa_copies xa_uses0 xa_uses1 xa_uses2 (sh_op g i 0) f)), upd xa_uses1 F (xs_vv (sh_an g i) 1 (xs_sv xa_replaced xa_copies xa_uses0 xa_uses1 xa_uses2 (sh_op g i 1) f)), upd xa_uses2 F (xs_vv (sh_an g i) 2 (xs_sv xa_replaced xa_copies xa_uses0 xa_uses1 xa_uses2 (sh_op g i 2) f)), upd xa_useAt F (sb_b i), upd xa_begun F (vp_nar .byte (if 0 ≤ f then xa_begun f.toNatClampNeg else sb_b i)), xa_workNode, xa_stage, xa_workFrame, xa_values, xa_bound, xa_boundTo, xa_output, xa_given)) :
    wpX_enter post (xf_concepts, xf_drafted, xf_place, xf_frames, xf_node, xf_frame, xf_above, xf_depth, xf_top, xf_lets, xf_says, xf_result, xa_tok, xa_end, xa_num, xa_length, xa_holes, xa_draft, xa_draftNum, xa_copies, xa_tokens, xa_replaced, xa_deep, xa_lies, xa_ofKind, xa_caller, xa_number, xa_size0, xa_size1, xa_size2, xa_uses0, xa_uses1, xa_uses2, xa_useAt, xa_begun, xa_workNode, xa_stage, xa_workFrame, xa_values, xa_bound, xa_boundTo, xa_output, xa_given) (nI i) f ser := by
  subst hfr
  have iF : vp_in (nI F) 2000 := vp_in_nI hF (by omega)
  have c1 : xa_tok (nI i).toNatClampNeg = nI (sh_tk g i) := by rw [nI_clamp (by omega)]; exact ht
  have hS := xs_f_Sh (F := F) (by omega) hf
  refine nm_r (nI_1 F) ⟨vp_in_nI hi (by omega), ?_⟩
  rw [c1]
  refine xs_operands (ho := sh_ho g) hk hh (nm_r (nI_1 i) ⟨iF, nm_r (e' := upd xa_caller F f) (by rw [nI_clamp (by omega), hS]) ⟨iF, nm_r (e' := upd xa_useAt F (sb_b i)) (by rw [nI_clamp (by omega), pk_vb]; rfl) ⟨iF, nm_r (e' := upd xa_number F (xs_nr ser)) (by rw [nI_clamp (by omega)]; rfl) ?_⟩⟩⟩)
  have h0 : 0 < sh_an g i → i + 1 < 168 := fun h => (H 0 h).1
  have h1 : 1 < sh_an g i → sh_op g i 1 < 168 ∧ xa_end (i + 1) &&& 255 = nI (sh_op g i 1) := fun h => ⟨(H 1 h).1, (H 0 (by omega)).2⟩
  have h2 : 2 < sh_an g i → sh_op g i 2 < 168 ∧ xa_end (sh_op g i 1) &&& 255 = nI (sh_op g i 2) := fun h => ⟨(H 2 h).1, (H 1 (by omega)).2⟩
  refine br_c (fun h => ⟨?_, ?_⟩) (fun h => ?_)
  · rcases hf with q | ⟨q, hq, e⟩
    · rw [q] at h; exact absurd h (by decide)
    · rw [e]; exact vp_in_nI (by omega) (by omega)
  · rw [if_pos h] at K
    exact xs_en78 (an := sh_an g i) hF h0 h1 h2 han hf K
  · rw [if_neg h] at K
    exact xs_en78 (an := sh_an g i) hF h0 h1 h2 han hf K
end XEN
end
section
/-! X: the sizes are right where they are needed; settle -/
section GOP
variable {g : sh_G} {cc hi s : Nat}
theorem sh_gop (P : sh_Pg g cc hi) (hs : s < 4) {i h : Nat} {r : List (Nat × Nat)} (G : sh_Gd g cc hi s i r) (hk : 16 ≤ sh_tk g i) (hh : h < 3) (hc : 1 ≤ sh_C g (sh_rt g i) h) :
    h < sh_an g i ∧ sh_Gd g cc hi s (sh_op g i h) r ∧ 1 ≤ sh_eT g (sh_op g i h) r ∧ sh_eT g (sh_op g i h) r ≤ sh_eT g i r ∧ sh_eR g (sh_op g i h) r + 1 ≤ sh_eR g i r := by
  have N' := sh_Gd_n P hs G
  have hu := sh_Gd_ub P hs G hk
  have ha : h < sh_an g i := by
    rw [sh_an_u hk]
    by_cases q : h < sh_ho g (sh_tk g i - 16)
    · exact q
    · have := sh_Cz P hu h (by omega) hh
      unfold sh_rt at hc
      omega
  have hop := N'.1.2.2.2.2.2.2.2.1 h ha
  have cc' : ∀ x, x < 3 → 1 ≤ sh_C g (sh_op g i h) x → 1 ≤ sh_C g i x := by
    intro x hx q
    rw [(N'.2.1.2.2.2 x hx).2 hk]
    have := sh_sm_le (f := fun j => sh_C g (sh_rt g i) j * sh_C g (sh_op g i j) x) (sh_an g i) h ha
    have q2 : 1 * 1 ≤ sh_C g (sh_rt g i) h * sh_C g (sh_op g i h) x := Nat.mul_le_mul hc q
    omega
  have G' : sh_Gd g cc hi s (sh_op g i h) r := by
    cases r with
    | nil => exact ⟨Nat.le_trans G.1 (by omega), hop.2⟩
    | cons b r => exact ⟨G.1, G.2.1, ⟨Nat.le_trans G.2.2.1.1 (by omega), hop.2⟩, fun x hx q => G.2.2.2.1 x hx (cc' x hx q), G.2.2.2.2⟩
  have w := sh_gu P hs G hk 0
  have t1 : ∀ M, sh_ev g M (sh_op g i h) r ≤ sh_ev g M (sh_rt g i) ((i, 0) :: r) := by
    intro M
    show _ ≤ M (sh_rt g i) + sh_sm 3 (fun h => sh_C g (sh_rt g i) h * sh_ev g M (sh_op g i h) r)
    have a := sh_sm_le (f := fun h => sh_C g (sh_rt g i) h * sh_ev g M (sh_op g i h) r) 3 h hh
    have b : 1 * sh_ev g M (sh_op g i h) r ≤ sh_C g (sh_rt g i) h * sh_ev g M (sh_op g i h) r := Nat.mul_le_mul hc (Nat.le_refl _)
    omega
  refine ⟨ha, G', sh_pos P hs _ _ _ (Nat.lt_succ_self _) G', ?_, ?_⟩
  · rw [w.2.1]; exact t1 _
  · have := t1 (sh_R g)
    have := w.2.2.1
    unfold sh_eR at *
    omega
theorem xs_sv_M {tn cp s0 s1 s2 : Nat → Int32} {M z : Nat → Nat} {i q E : Nat} (hM : tn i = nI (sh_sat (M i))) (hC : ∀ h, h < 3 → cp (3 * i + h) = nI (sh_sat (sh_C g i h))) (hE : E = M i + sh_sm 3 (fun h => sh_C g i h * z h)) (hE2 : E ≤ 2000)
    (h0 : 1 ≤ sh_C g i 0 → sh_C g i 0 ≤ 2000 ∧ s0 q = nI (z 0)) (h1 : 1 ≤ sh_C g i 1 → sh_C g i 1 ≤ 2000 ∧ s1 q = nI (z 1)) (h2 : 1 ≤ sh_C g i 2 → sh_C g i 2 ≤ 2000 ∧ s2 q = nI (z 2)) :
    tn i + cp (3 * i) * s0 q + cp (3 * i + 1) * s1 q + cp (3 * i + 2) * s2 q = nI E := by
  have tm : ∀ (h : Nat) (x y : Int32), x = nI (sh_sat (sh_C g i h)) → (1 ≤ sh_C g i h → sh_C g i h ≤ 2000 ∧ y = nI (z h)) → x * y = nI (sh_C g i h * z h) := by
    intro h x y hx hy
    subst hx
    by_cases e : sh_C g i h = 0
    · rw [e, Nat.zero_mul]
      show (0 : Int32) * y = 0
      exact Int32.zero_mul
    · have q := hy (by omega)
      rw [q.2, sh_sat_id (by omega), pk_mul]
  have a0 := tm 0 (cp (3 * i)) (s0 q) (hC 0 (by omega)) h0
  have a1 := tm 1 (cp (3 * i + 1)) (s1 q) (hC 1 (by omega)) h1
  have a2 := tm 2 (cp (3 * i + 2)) (s2 q) (hC 2 (by omega)) h2
  rw [sh_sm_3] at hE
  rw [a0, a1, a2, hM, sh_sat_id (by omega), nI_add, nI_add, nI_add]
  exact congrArg nI (by omega)
theorem xs_sv_x (P : sh_Pg g cc hi) (hs : s < 4) {cp tn rp dp ls ok : Nat → Int32} {φ : Nat → Nat} {fr : xs_FR} {F i : Nat} {r : List (Nat × Nat)} {f : Int32} (hF : F ≤ 30000) (G : sh_Gd g cc hi s i r) (X : xs_XN g cp tn rp dp ls ok i) (C : xs_XC g s φ fr F r f) (hT : sh_eT g i r ≤ 2000) :
    xs_sv tn cp fr.2.2.1 fr.2.2.2.1 fr.2.2.2.2.1 i f = nI (sh_eT g i r) ∧ (sh_eR g i r ≤ 2000 → xs_sv rp cp fr.2.2.2.2.2.1 fr.2.2.2.2.2.2.1 fr.2.2.2.2.2.2.2.1 i f = nI (sh_eR g i r)) := by
  cases r with
  | nil =>
    have hf : f = -1 := C
    unfold xs_sv
    rw [hf, if_neg (by decide), if_neg (by decide)]
    have e1 : sh_eT g i [] = sh_T g i := sh_ev_n g _ _
    have e2 : sh_eR g i [] = sh_R g i := sh_ev_n g _ _
    rw [e1] at hT
    rw [e1, e2, X.1, X.2.1, sh_sat_id (by omega)]
    exact ⟨rfl, fun h => by rw [sh_sat_id (by omega)]⟩
  | cons a r =>
    obtain ⟨i', u'⟩ := a
    obtain ⟨q, h1, h2, h3, h4, h5, h6, h7, h8, h9⟩ := C
    obtain ⟨g1, g2, g3, g4, g5⟩ := G
    have key : ∀ h, h < 3 → 1 ≤ sh_C g i h → sh_C g i h ≤ 2000 := by
      intro h hh hc
      have w := sh_gop P hs g5 g1 hh (g4 h hh hc)
      have a := sh_sm_le (f := fun h => sh_C g i h * sh_eT g (sh_op g i' h) r) 3 h hh
      have b : sh_C g i h * 1 ≤ sh_C g i h * sh_eT g (sh_op g i' h) r := Nat.mul_le_mul (Nat.le_refl _) w.2.2.1
      have e : sh_eT g i ((i', u') :: r) = sh_T g i + sh_sm 3 (fun h => sh_C g i h * sh_eT g (sh_op g i' h) r) := rfl
      omega
    unfold xs_sv
    rw [h1, if_pos (nI_pos' (by omega)), if_pos (nI_pos' (by omega)), nI_clamp (by omega)]
    refine ⟨xs_sv_M (g := g) (M := sh_T g) (z := fun h => sh_eT g (sh_op g i' h) r) X.1 X.2.2.1 rfl hT (fun h => ⟨key 0 (by omega) h, (h6 (g4 0 (by omega) h)).1⟩) (fun h => ⟨key 1 (by omega) h, (h7 (g4 1 (by omega) h)).1⟩) (fun h => ⟨key 2 (by omega) h, (h8 (g4 2 (by omega) h)).1⟩), fun hR => ?_⟩
    exact xs_sv_M (g := g) (M := sh_R g) (z := fun h => sh_eR g (sh_op g i' h) r) X.2.1 X.2.2.1 rfl hR (fun h => ⟨key 0 (by omega) h, (h6 (g4 0 (by omega) h)).2⟩) (fun h => ⟨key 1 (by omega) h, (h7 (g4 1 (by omega) h)).2⟩) (fun h => ⟨key 2 (by omega) h, (h8 (g4 2 (by omega) h)).2⟩)
end GOP
section XSE
variable {xf_concepts xf_drafted xf_place xf_frames xf_node xf_frame xf_above xf_depth xf_top xf_lets xf_says xf_result : Int32} {xa_tok xa_end xa_num xa_length xa_holes xa_draft xa_draftNum xa_copies xa_tokens xa_replaced xa_deep xa_lies xa_ofKind xa_caller xa_number xa_size0 xa_size1 xa_size2 xa_uses0 xa_uses1 xa_uses2 xa_useAt xa_begun xa_workNode xa_stage xa_workFrame xa_values xa_bound xa_boundTo xa_output xa_given : Nat → Int32} {g : sh_G} {cc hi s N U : Nat} {Fc S : Nat → List (Nat × Nat) → Nat → Nat → Nat → Prop}
theorem xs_addr (P : sh_Pg g cc hi) (hs : s < 4) {i : Nat} {c : List (Nat × Nat)} (G : sh_Gd g cc hi s i c) : i < 168 ∧ sh_xb (sh_rw g s c) + sh_ln g (sh_rw g s c) ≤ 168 := by
  have q := sh_Gd_r P hs G
  have h6 := P.2.1
  rcases q.1 with h | h
  · have a := P.2.2.2.1 _ h
    have b := q.2.2
    unfold sh_xb at b ⊢
    rw [if_pos (by omega)] at b ⊢
    omega
  · have a := P.2.2.2.2.1 (sh_rw g s c - 6) (by omega)
    rw [show 6 + (sh_rw g s c - 6) = sh_rw g s c by omega] at a
    have b := q.2.2
    unfold sh_xb at b ⊢
    rw [if_neg (by omega)] at b ⊢
    omega
theorem xs_ops (P : sh_Pg g cc hi) (XP : xs_XP g hi xa_tok xa_end xa_num xa_copies xa_tokens xa_replaced xa_deep xa_lies xa_ofKind) (hs : s < 4) {i : Nat} {c : List (Nat × Nat)} (G : sh_Gd g cc hi s i c) :
    ∀ t, t < sh_an g i → sh_op g i t < 168 ∧ xa_end (sh_op g i t) &&& 255 = nI (sh_op g i (t + 1)) ∧ xs_XN g xa_copies xa_tokens xa_replaced xa_deep xa_lies xa_ofKind (sh_op g i t) := by
  intro t ht
  have q := sh_Gd_r P hs G
  have n := (sh_Gd_n P hs G).1.2.2.2.2.2.2.2.1 t ht
  have a := xs_addr P hs G
  have x := XP _ q.1 (sh_op g i t) ⟨by have := q.2.1; omega, n.2⟩
  exact ⟨by omega, x.2.1, x.2.2.2⟩
theorem xs_og (hs : s < 4) (P : sh_Pg g cc hi) : ∀ (c : List (Nat × Nat)) (i : Nat), sh_Gd g cc hi s i c → sh_ro s + sh_og s i c < 168 ∧ (c = [] → sh_ro s + sh_og s i c = i) := by
  intro c
  induction c with
  | nil =>
    intro i h
    have a := xs_addr P hs h
    have b : sh_xb (6 + s) ≤ i := h.1
    unfold sh_xb at b
    rw [if_neg (by omega)] at b
    have e : sh_ro s + sh_og s i [] = i := by
      show 72 + 24 * s + (i - (72 + 24 * s)) = i
      omega
    exact ⟨by omega, fun _ => e⟩
  | cons x c ih =>
    intro i h
    exact ⟨(ih x.1 h.2.2.2.2).1, fun z => by cases z⟩
/-- settle: from an item to the plain token -/
theorem xs_settle2 (P : sh_Pg g cc hi) (hs : s < 4) (hU : U ≤ 2000) (hN : N ≤ 2000) (H : sh_Cl g cc hi s N U Fc S) (XP : xs_XP g hi xa_tok xa_end xa_num xa_copies xa_tokens xa_replaced xa_deep xa_lies xa_ofKind) (hh : ∀ c, c < hi → xa_holes c = nI (sh_ho g c)) :
    ∀ i r p u a, S i r p u a → ∀ F φ f ser fr, F ≤ u → ser ≤ u → xs_XC g s φ fr F r f → ∃ n i' r' u' φ' f' fr', S i' r' p u' a ∧ sh_tk g i' < 16 ∧ sh_tk g i' ≠ 9 ∧ sh_eT g i' r' = sh_eT g i r ∧ u ≤ u' ∧ u' + sh_eR g i' r' = u + sh_eR g i r ∧
      xs_XC g s φ' fr' (F + (u' - u)) r' f' ∧ xs_Fs fr fr' F ∧ (∀ q, q < F → φ' q = φ q) ∧ (∀ j, j < u' - u → φ' (F + j) = u + j ∧ fr'.2.1 (F + j) = nI (ser + j)) ∧
      ∀ post : SX → Prop, post (xf_concepts, xf_drafted, xf_place, nI (F + (u' - u)), nI i', f', xf_above, xf_depth, xf_top, xf_lets, xf_says, xf_result, xa_tok, xa_end, xa_num, xa_length, xa_holes, xa_draft, xa_draftNum, xa_copies, xa_tokens, xa_replaced, xa_deep, xa_lies, xa_ofKind, fr'.1, fr'.2.1, fr'.2.2.1, fr'.2.2.2.1, fr'.2.2.2.2.1, fr'.2.2.2.2.2.1, fr'.2.2.2.2.2.2.1, fr'.2.2.2.2.2.2.2.1, fr'.2.2.2.2.2.2.2.2.1, fr'.2.2.2.2.2.2.2.2.2, xa_workNode, xa_stage, xa_workFrame, xa_values, xa_bound, xa_boundTo, xa_output, xa_given) → wX_settle_2 post n (nI ser) xf_concepts xf_drafted xf_place (nI F) (nI i) f xf_above xf_depth xf_top xf_lets xf_says xf_result xa_tok xa_end xa_num xa_length xa_holes xa_draft xa_draftNum xa_copies xa_tokens xa_replaced xa_deep xa_lies xa_ofKind fr.1 fr.2.1 fr.2.2.1 fr.2.2.2.1 fr.2.2.2.2.1 fr.2.2.2.2.2.1 fr.2.2.2.2.2.2.1 fr.2.2.2.2.2.2.2.1 fr.2.2.2.2.2.2.2.2.1 fr.2.2.2.2.2.2.2.2.2 xa_workNode xa_stage xa_workFrame xa_values xa_bound xa_boundTo xa_output xa_given := by
  refine sh_ind P hs H (fun i r p u a => ∀ F φ f ser fr, F ≤ u → ser ≤ u → xs_XC g s φ fr F r f → ∃ n i' r' u' φ' f' fr', S i' r' p u' a ∧ sh_tk g i' < 16 ∧ sh_tk g i' ≠ 9 ∧ sh_eT g i' r' = sh_eT g i r ∧ u ≤ u' ∧ u' + sh_eR g i' r' = u + sh_eR g i r ∧
      xs_XC g s φ' fr' (F + (u' - u)) r' f' ∧ xs_Fs fr fr' F ∧ (∀ q, q < F → φ' q = φ q) ∧ (∀ j, j < u' - u → φ' (F + j) = u + j ∧ fr'.2.1 (F + j) = nI (ser + j)) ∧
      ∀ post : SX → Prop, post (xf_concepts, xf_drafted, xf_place, nI (F + (u' - u)), nI i', f', xf_above, xf_depth, xf_top, xf_lets, xf_says, xf_result, xa_tok, xa_end, xa_num, xa_length, xa_holes, xa_draft, xa_draftNum, xa_copies, xa_tokens, xa_replaced, xa_deep, xa_lies, xa_ofKind, fr'.1, fr'.2.1, fr'.2.2.1, fr'.2.2.2.1, fr'.2.2.2.2.1, fr'.2.2.2.2.2.1, fr'.2.2.2.2.2.2.1, fr'.2.2.2.2.2.2.2.1, fr'.2.2.2.2.2.2.2.2.1, fr'.2.2.2.2.2.2.2.2.2, xa_workNode, xa_stage, xa_workFrame, xa_values, xa_bound, xa_boundTo, xa_output, xa_given) → wX_settle_2 post n (nI ser) xf_concepts xf_drafted xf_place (nI F) (nI i) f xf_above xf_depth xf_top xf_lets xf_says xf_result xa_tok xa_end xa_num xa_length xa_holes xa_draft xa_draftNum xa_copies xa_tokens xa_replaced xa_deep xa_lies xa_ofKind fr.1 fr.2.1 fr.2.2.1 fr.2.2.2.1 fr.2.2.2.2.1 fr.2.2.2.2.2.1 fr.2.2.2.2.2.2.1 fr.2.2.2.2.2.2.2.1 fr.2.2.2.2.2.2.2.2.1 fr.2.2.2.2.2.2.2.2.2 xa_workNode xa_stage xa_workFrame xa_values xa_bound xa_boundTo xa_output xa_given) ?_ ?_ ?_
  · -- a USE
    intro i r p u a hS hk IH F φ f ser fr hFu hser C
    have OK := (H i r p u a hS).1
    have G := OK.1
    have N' := sh_Gd_n P hs G
    have w := sh_gu P hs G hk u
    have ad := xs_addr P hs G
    have x := XP _ (sh_Gd_r P hs G).1 i (sh_Gd_r P hs G).2
    have hub := sh_Gd_ub P hs G hk
    have b1 := OK.2.1
    have b2 := OK.2.2.1
    have w3 := w.2.2.1
    have hF : F < 2000 := by omega
    have hf := xs_XC_f C
    have an3 := sh_an3 P N'.1.1
    have ops := xs_ops P XP hs G
    have og := xs_og hs P r i G
    have hw := (H i r p u a hS).2.1 hk
    obtain ⟨fr1, efr⟩ : ∃ fr1 : xs_FR, fr1 = (upd fr.1 F f, upd fr.2.1 F (xs_nr (nI ser)), upd fr.2.2.1 F (xs_vv (sh_an g i) 0 (xs_sv xa_tokens xa_copies fr.2.2.1 fr.2.2.2.1 fr.2.2.2.2.1 (sh_op g i 0) f)), upd fr.2.2.2.1 F (xs_vv (sh_an g i) 1 (xs_sv xa_tokens xa_copies fr.2.2.1 fr.2.2.2.1 fr.2.2.2.2.1 (sh_op g i 1) f)), upd fr.2.2.2.2.1 F (xs_vv (sh_an g i) 2 (xs_sv xa_tokens xa_copies fr.2.2.1 fr.2.2.2.1 fr.2.2.2.2.1 (sh_op g i 2) f)),
      upd fr.2.2.2.2.2.1 F (xs_vv (sh_an g i) 0 (xs_sv xa_replaced xa_copies fr.2.2.2.2.2.1 fr.2.2.2.2.2.2.1 fr.2.2.2.2.2.2.2.1 (sh_op g i 0) f)), upd fr.2.2.2.2.2.2.1 F (xs_vv (sh_an g i) 1 (xs_sv xa_replaced xa_copies fr.2.2.2.2.2.1 fr.2.2.2.2.2.2.1 fr.2.2.2.2.2.2.2.1 (sh_op g i 1) f)), upd fr.2.2.2.2.2.2.2.1 F (xs_vv (sh_an g i) 2 (xs_sv xa_replaced xa_copies fr.2.2.2.2.2.1 fr.2.2.2.2.2.2.1 fr.2.2.2.2.2.2.2.1 (sh_op g i 2) f)),
      upd fr.2.2.2.2.2.2.2.2.1 F (sb_b i), upd fr.2.2.2.2.2.2.2.2.2 F (vp_nar .byte (if 0 ≤ f then fr.2.2.2.2.2.2.2.2.2 f.toNatClampNeg else sb_b i))) := ⟨_, rfl⟩
    have hFs : xs_Fs fr fr1 F := by
      subst efr
      intro q hq
      exact ⟨pk_un (by omega), pk_un (by omega), pk_un (by omega), pk_un (by omega), pk_un (by omega), pk_un (by omega), pk_un (by omega), pk_un (by omega), pk_un (by omega), pk_un (by omega)⟩
    have sz : ∀ h, h < 3 → 1 ≤ sh_C g (sh_rt g i) h → xs_vv (sh_an g i) h (xs_sv xa_tokens xa_copies fr.2.2.1 fr.2.2.2.1 fr.2.2.2.2.1 (sh_op g i h) f) = nI (sh_eT g (sh_op g i h) r) ∧ xs_vv (sh_an g i) h (xs_sv xa_replaced xa_copies fr.2.2.2.2.2.1 fr.2.2.2.2.2.2.1 fr.2.2.2.2.2.2.2.1 (sh_op g i h) f) = nI (sh_eR g (sh_op g i h) r) := by
      intro h hh3 hc
      obtain ⟨o1, o2, o3, o4, o5⟩ := sh_gop P hs G hk hh3 hc
      have e := xs_sv_x P hs (F := F) (by omega) o2 (ops h o1).2.2 C (by omega)
      unfold xs_vv
      rw [if_pos o1, if_pos o1, e.1, e.2 (by omega)]
      exact ⟨sh_n16 (by omega), sh_n16 (by omega)⟩
    have hC1 : xs_XC g s (fun q => if q = F then u else φ q) fr1 (F + 1) ((i, u) :: r) (nI F) := by
      refine ⟨F, rfl, by omega, if_pos rfl, ?_, ?_, fun hc => ?_, fun hc => ?_, fun hc => ?_, ?_⟩
      · subst efr; exact pk_us
      · subst efr
        refine pk_us.trans ?_
        cases r with
        | nil =>
          have e : f = -1 := C
          rw [e, if_neg (by decide), og.2 rfl]
          exact pk_vb _
        | cons x r =>
          obtain ⟨q, h1, h2, h3, h4, h5, _⟩ := C
          rw [h1, if_pos (nI_pos' (by omega)), nI_clamp (by omega), h5]
          exact pk_vb _
      · subst efr; exact ⟨pk_us.trans (sz 0 (by omega) hc).1, pk_us.trans (sz 0 (by omega) hc).2⟩
      · subst efr; exact ⟨pk_us.trans (sz 1 (by omega) hc).1, pk_us.trans (sz 1 (by omega) hc).2⟩
      · subst efr; exact ⟨pk_us.trans (sz 2 (by omega) hc).1, pk_us.trans (sz 2 (by omega) hc).2⟩
      · have e : fr1.1 F = f := by subst efr; exact pk_us
        rw [e]
        exact xs_XC_up (by omega) hFs (fun q hq => if_neg (by omega)) _ _ C
    obtain ⟨n, i', r', u', φ', f', fr', z1, z2, z3, z4, z5, z6, z7, z8, z9, z10, z11⟩ := IH (F + 1) _ _ (ser + 1) fr1 (by omega) (by omega) hC1
    have ed : F + (u' - u) = F + 1 + (u' - (u + 1)) := by omega
    refine ⟨n + 1, i', r', u', φ', f', fr', z1, z2, z3, z4.trans w.2.1.symm, by omega, by omega, by rw [ed]; exact z7, xs_Fs_t (by omega) hFs z8, fun q hq => ?_, fun j hj => ?_, fun post hpost => ?_⟩
    · rw [z9 q (by omega)]; exact if_neg (by omega)
    · cases j with
      | zero =>
        refine ⟨?_, ?_⟩
        · rw [Nat.add_zero, z9 F (by omega)]; exact if_pos rfl
        · rw [Nat.add_zero, (z8 F (by omega)).2.1]
          subst efr
          exact pk_us.trans (sh_n16 (by omega))
      | succ j =>
        have q := z10 j (by omega)
        rw [show F + (j + 1) = F + 1 + j by omega, show u + (j + 1) = u + 1 + j by omega, show ser + (j + 1) = ser + 1 + j by omega]
        exact q
    · have c1 : xa_tok (nI i).toNatClampNeg = nI (sh_tk g i) := by rw [nI_clamp (by omega)]; exact x.1
      have ii : vp_in (nI i) 168 := vp_in_nI ad.1 (by omega)
      rw [ed] at hpost
      refine ⟨ii, br_t (by rw [c1]; exact nI_le (a := 16) hk (by have := N'.1.1; omega)) ⟨ii, br_f (by rw [c1]; exact nI_nlt (b := 16) hk (by have := N'.1.1; omega)) ?_⟩⟩
      refine xs_enter (g := g) hF ad.1 hf rfl x.1 N'.1.1 (fun _ => hh _ hub) an3 (fun t ht => ⟨(ops t ht).1, (ops t ht).2.1⟩) (nm_r (nI_1 ser) ⟨ii, nm_r (e' := nI (sh_rt g i)) ?_ ?_⟩)
      · rw [c1]
        have e : nI (sh_tk g i) - 16 = nI (sh_tk g i - 16) := pk_sub (b := 16) hk
        rw [e]
        exact pk_mul 12 _
      · have M := z11 post hpost
        subst efr
        exact M
  · -- a HOLE
    intro i i' u' r' v p u a hS hk hn hv hv' G5 h16 c1 hS' IH F φ f ser fr hFu hser C
    have OK := (H i _ p u a hS).1
    have G := OK.1
    obtain ⟨i3, u3, r3, v3, e3, hv3, hv3', hn3, h13, c13, h53, G', eT, eR, _, _⟩ := sh_gh P hs G hk
    cases e3
    have : v = v3 := (nI_eq (by omega) (by omega)).mp (hn.symm.trans hn3)
    subst this
    have ad := xs_addr P hs G
    have ad5 := xs_addr P hs G5
    have x := XP _ (sh_Gd_r P hs G).1 i (sh_Gd_r P hs G).2
    have ops := xs_ops P XP hs G5
    obtain ⟨q, h1, h2, h3, h4, h5, h6, h7, h8, h9⟩ := C
    have b2 := OK.2.2.1
    obtain ⟨n, j', s', w', φ', f', fr', z1, z2, z3, z4, z5, z6, z7, z8, z9, z10, z11⟩ := IH F φ _ ser fr hFu hser h9
    refine ⟨n + 1, j', s', w', φ', f', fr', z1, z2, z3, z4.trans eT.symm, z5, by omega, z7, z8, z9, z10, fun post hpost => ?_⟩
    have c1 : xa_tok (nI i).toNatClampNeg = nI 9 := by rw [nI_clamp (by omega), ← hk]; exact x.1
    have ii : vp_in (nI i) 168 := vp_in_nI ad.1 (by omega)
    have iq : vp_in f 2000 := by rw [h1]; exact vp_in_nI (by omega) (by omega)
    have cn : xa_num (nI i).toNatClampNeg = nI v := by rw [nI_clamp (by omega), x.2.2.1]; exact hn
    refine ⟨ii, br_f (by rw [c1]; decide) ⟨ii, br_t (by rw [c1]; decide) ⟨ii, br_t (by rw [c1]; decide) ⟨iq, nm_r (e' := nI i') ?_ ⟨ii, ?_⟩⟩⟩⟩⟩
    · rw [h1, nI_clamp (by omega), h4]
      exact (sb_byte i' (by omega)).1
    · rw [cn]
      refine xs_operand (g := g) (by omega) (fun t ht => ⟨(ops t (by omega)).1, (ops t (by omega)).2.1⟩) ⟨iq, nm_r (e' := fr.1 q) (by rw [h1, nI_clamp (by omega)]) (z11 post hpost)⟩
  · -- a plain token
    intro i r p u a hS hk h9 _ F φ f ser fr hFu hser C
    have OK := (H i _ p u a hS).1
    have G := OK.1
    have ad := xs_addr P hs G
    have x := XP _ (sh_Gd_r P hs G).1 i (sh_Gd_r P hs G).2
    have c1 : xa_tok (nI i).toNatClampNeg = nI (sh_tk g i) := by rw [nI_clamp (by omega)]; exact x.1
    have ii : vp_in (nI i) 168 := vp_in_nI ad.1 (by omega)
    refine ⟨1, i, r, u, φ, f, fr, hS, hk, h9, rfl, Nat.le_refl _, rfl, by rw [Nat.sub_self]; exact C, xs_Fs_r _ _, fun _ _ => rfl, fun j hj => by omega, fun post hpost => ?_⟩
    rw [Nat.sub_self] at hpost
    refine ⟨ii, br_f (by rw [c1]; exact nI_ge (b := 16) hk (by omega)) ⟨ii, br_f (by rw [c1]; intro z; exact h9 ((nI_eq (b := 9) (by omega) (by omega)).mp z)) hpost⟩⟩
end XSE
end
section
/-! X: find -/
section XFI
variable {xf_concepts xf_drafted xf_place xf_frames xf_node xf_frame xf_above xf_depth xf_top xf_lets xf_says xf_result : Int32} {xa_tok xa_end xa_num xa_length xa_holes xa_draft xa_draftNum xa_copies xa_tokens xa_replaced xa_deep xa_lies xa_ofKind xa_caller xa_number xa_size0 xa_size1 xa_size2 xa_uses0 xa_uses1 xa_uses2 xa_useAt xa_begun xa_workNode xa_stage xa_workFrame xa_values xa_bound xa_boundTo xa_output xa_given : Nat → Int32} {g : sh_G} {cc hi s N U : Nat} {Fc S : Nat → List (Nat × Nat) → Nat → Nat → Nat → Prop}
/-- past whole operands to the one that holds the token -/
theorem xs_f145 {post : Int32 → SX → Prop} {J : (Int32 → Int32 → Int32 → Int32 → Int32 → Int32 → Int32 → Int32 → Int32 → Int32 → Int32 → Int32 → Int32 → Int32 → Int32 → (Nat → Int32) → (Nat → Int32) → (Nat → Int32) → (Nat → Int32) → (Nat → Int32) → (Nat → Int32) → (Nat → Int32) → (Nat → Int32) → (Nat → Int32) → (Nat → Int32) → (Nat → Int32) → (Nat → Int32) → (Nat → Int32) → (Nat → Int32) → (Nat → Int32) → (Nat → Int32) → (Nat → Int32) → (Nat → Int32) → (Nat → Int32) → (Nat → Int32) → (Nat → Int32) → (Nat → Int32) → (Nat → Int32) → (Nat → Int32) → (Nat → Int32) → (Nat → Int32) → (Nat → Int32) → (Nat → Int32) → (Nat → Int32) → (Nat → Int32) → (Nat → Int32) → Prop)} {i p u lf F : Nat} {r : List (Nat × Nat)} {f : Int32} {φ : Nat → Nat} {fr : xs_FR} (P : sh_Pg g cc hi) (hs : s < 4) (XP : xs_XP g hi xa_tok xa_end xa_num xa_copies xa_tokens xa_replaced xa_deep xa_lies xa_ofKind)
    (G : sh_Gd g cc hi s i r) (hk : sh_tk g i < 16) (h9 : sh_tk g i ≠ 9) (hF : F ≤ 2000) (C : xs_XC g s φ fr F r f) (hT : p + sh_eT g i r ≤ 2000) (hR : u + sh_eR g i r ≤ 2000) (hl : lf + 1 < sh_eT g i r) (ef : xf_frame = f)
    {j0 : Nat} (hj0 : j0 < sh_an g i) (hj1 : sh_sm j0 (fun k => sh_eT g (sh_op g i k) r) ≤ lf) (hj2 : lf < sh_sm (j0 + 1) (fun k => sh_eT g (sh_op g i k) r))
    (K : J (nI (lf - sh_sm j0 (fun k => sh_eT g (sh_op g i k) r))) (nI (u + sh_sm j0 (fun k => sh_eR g (sh_op g i k) r))) (nI (p + 1 + sh_sm j0 (fun k => sh_eT g (sh_op g i k) r))) xf_concepts xf_drafted xf_place xf_frames (nI (sh_op g i j0)) xf_frame xf_above xf_depth xf_top xf_lets xf_says xf_result xa_tok xa_end xa_num xa_length xa_holes xa_draft xa_draftNum xa_copies xa_tokens xa_replaced xa_deep xa_lies xa_ofKind fr.1 fr.2.1 fr.2.2.1 fr.2.2.2.1 fr.2.2.2.2.1 fr.2.2.2.2.2.1 fr.2.2.2.2.2.2.1 fr.2.2.2.2.2.2.2.1 fr.2.2.2.2.2.2.2.2.1 fr.2.2.2.2.2.2.2.2.2 xa_workNode xa_stage xa_workFrame xa_values xa_bound xa_boundTo xa_output xa_given) :
    ∀ d j, j + d = j0 → wX_find_145 post J xf_concepts xf_drafted xf_place xf_frames xf_node xf_frame xf_above xf_depth xf_top xf_lets xf_says xf_result xa_tok xa_end xa_num xa_length xa_holes xa_draft xa_draftNum xa_copies xa_tokens xa_replaced xa_deep xa_lies xa_ofKind fr.1 fr.2.1 fr.2.2.1 fr.2.2.2.1 fr.2.2.2.2.1 fr.2.2.2.2.2.1 fr.2.2.2.2.2.2.1 fr.2.2.2.2.2.2.2.1 fr.2.2.2.2.2.2.2.2.1 fr.2.2.2.2.2.2.2.2.2 xa_workNode xa_stage xa_workFrame xa_values xa_bound xa_boundTo xa_output xa_given (d + 1) (nI (lf - sh_sm j (fun k => sh_eT g (sh_op g i k) r))) (nI (u + sh_sm j (fun k => sh_eR g (sh_op g i k) r))) (nI (p + 1 + sh_sm j (fun k => sh_eT g (sh_op g i k) r))) (nI (sh_op g i j)) (nI (sh_eT g (sh_op g i j) r)) := by
  subst ef
  have w := sh_gp P hs G hk h9
  have ops := xs_ops P XP hs G
  have hf := xs_XC_f C
  have mT : ∀ m, m ≤ sh_an g i → sh_sm m (fun k => sh_eT g (sh_op g i k) r) + 1 ≤ sh_eT g i r := by
    intro m hm
    have := sh_sm_mono (f := fun k => sh_eT g (sh_op g i k) r) m (sh_an g i) hm
    have := w.2.1
    omega
  have mR : ∀ m, m ≤ sh_an g i → sh_sm m (fun k => sh_eR g (sh_op g i k) r) ≤ sh_eR g i r := by
    intro m hm
    have := sh_sm_mono (f := fun k => sh_eR g (sh_op g i k) r) m (sh_an g i) hm
    have := w.2.2.1
    omega
  intro d
  induction d with
  | zero =>
    intro j hj
    have e : j = j0 := by omega
    subst e
    have e1 : sh_sm (j + 1) (fun k => sh_eT g (sh_op g i k) r) = sh_sm j (fun k => sh_eT g (sh_op g i k) r) + sh_eT g (sh_op g i j) r := rfl
    have q := sh_ms_p P hs G hk h9 hj0
    exact br_t (nI_lt (by omega) (by omega)) K
  | succ d ih =>
    intro j hj
    have hja : j < sh_an g i := by omega
    have e1 : sh_sm (j + 1) (fun k => sh_eT g (sh_op g i k) r) = sh_sm j (fun k => sh_eT g (sh_op g i k) r) + sh_eT g (sh_op g i j) r := rfl
    have e2 : sh_sm (j + 1) (fun k => sh_eR g (sh_op g i k) r) = sh_sm j (fun k => sh_eR g (sh_op g i k) r) + sh_eR g (sh_op g i j) r := rfl
    have mo := sh_sm_mono (f := fun k => sh_eT g (sh_op g i k) r) (j + 1) j0 (by omega)
    have q := sh_ms_p P hs G hk h9 hja
    have q2 := sh_ms_p P hs G hk h9 (show j + 1 < sh_an g i by omega)
    have o := ops j hja
    have o2 := ops (j + 1) (by omega)
    have x1 := xs_sv_x P hs (by omega) (w.1 j hja) o.2.2 C (by omega)
    have x2 := xs_sv_x P hs (by omega) (w.1 (j + 1) (by omega)) o2.2.2 C (by omega)
    have a1 := mT (j + 1) (by omega)
    have a2 := mR (j + 1) (by omega)
    refine br_f (nI_nlt (by omega) (by omega)) (nm_r (pk_sub (by omega)) (nm_r (nI_add _ _) (xs_usesIn o.1 hF hf ?_)))
    rw [x1.2 (by omega)]
    refine nm_r (nI_add _ _) ⟨vp_in_nI o.1 (by omega), nm_r (e' := nI (sh_op g i (j + 1))) (by rw [nI_clamp (by omega)]; exact o.2.1) (xs_sizeIn o2.1 hF hf ?_)⟩
    rw [x2.1]
    have M := ih (j + 1) (by omega)
    rw [e1, e2, ← Nat.add_assoc, ← Nat.add_assoc, ← Nat.sub_sub] at M
    exact M
theorem sh_child {n lf : Nat} {f : Nat → Nat} (h : lf < sh_sm n f) : ∃ j, j < n ∧ sh_sm j f ≤ lf ∧ lf < sh_sm (j + 1) f := by
  induction n with
  | zero => exact absurd h (Nat.not_lt_zero _)
  | succ n ih =>
    by_cases q : lf < sh_sm n f
    · obtain ⟨j, h1, h2, h3⟩ := ih q
      exact ⟨j, by omega, h2, h3⟩
    · exact ⟨n, by omega, by omega, h⟩
theorem xs_f58 {post : Int32 → SX → Prop} {k : Nat} (P : sh_Pg g cc hi) (hs : s < 4) (hU : U ≤ 2000) (hN : N ≤ 2000) (H : sh_Cl g cc hi s N U Fc S) (XP : xs_XP g hi xa_tok xa_end xa_num xa_copies xa_tokens xa_replaced xa_deep xa_lies xa_ofKind) (hh : ∀ c, c < hi → xa_holes c = nI (sh_ho g c))
    (K : ∀ i r u a F φ f fr, S i r k u a → sh_tk g i < 16 → sh_tk g i ≠ 9 → F ≤ 2000 → xs_XC g s φ fr F r f → (∀ q, q < F → fr.2.1 q = nI (φ q) ∧ φ q < u) → post 1 (xf_concepts, xf_drafted, xf_place, nI F, nI i, f, nI a - 1, xf_depth, xf_top, xf_lets, xf_says, xf_result, xa_tok, xa_end, xa_num, xa_length, xa_holes, xa_draft, xa_draftNum, xa_copies, xa_tokens, xa_replaced, xa_deep, xa_lies, xa_ofKind, fr.1, fr.2.1, fr.2.2.1, fr.2.2.2.1, fr.2.2.2.2.1, fr.2.2.2.2.2.1, fr.2.2.2.2.2.2.1, fr.2.2.2.2.2.2.2.1, fr.2.2.2.2.2.2.2.2.1, fr.2.2.2.2.2.2.2.2.2, xa_workNode, xa_stage, xa_workFrame, xa_values, xa_bound, xa_boundTo, xa_output, xa_given)) :
    ∀ m i r p u a, S i r p u a → sh_eT g i r < m → ∀ lf, lf < sh_eT g i r → p + lf = k → ∀ F φ f fr, F ≤ u → xs_XC g s φ fr F r f → (∀ q, q < F → fr.2.1 q = nI (φ q) ∧ φ q < u) →
    ∃ n, wX_find_58 post n (nI lf) (nI u) (nI p) xf_concepts xf_drafted xf_place (nI F) (nI i) f (nI a - 1) xf_depth xf_top xf_lets xf_says xf_result xa_tok xa_end xa_num xa_length xa_holes xa_draft xa_draftNum xa_copies xa_tokens xa_replaced xa_deep xa_lies xa_ofKind fr.1 fr.2.1 fr.2.2.1 fr.2.2.2.1 fr.2.2.2.2.1 fr.2.2.2.2.2.1 fr.2.2.2.2.2.2.1 fr.2.2.2.2.2.2.2.1 fr.2.2.2.2.2.2.2.2.1 fr.2.2.2.2.2.2.2.2.2 xa_workNode xa_stage xa_workFrame xa_values xa_bound xa_boundTo xa_output xa_given := by
  intro m
  induction m with
  | zero => intro i r p u a _ h; omega
  | succ m ih =>
    intro i r p u a hS hm lf hlf hk F φ f fr hFu C hnum
    have OK0 := (H i r p u a hS).1
    obtain ⟨n2, i', r', u', φ', f', fr', z1, z2, z3, z4, z5, z6, z7, z8, z9, z10, z11⟩ := xs_settle2 (xf_concepts := xf_concepts) (xf_drafted := xf_drafted) (xf_place := xf_place) (xf_depth := xf_depth) (xf_top := xf_top) (xf_lets := xf_lets) (xf_says := xf_says) (xf_result := xf_result) (xa_tok := xa_tok) (xa_end := xa_end) (xa_num := xa_num) (xa_length := xa_length) (xa_holes := xa_holes) (xa_draft := xa_draft) (xa_draftNum := xa_draftNum) (xa_copies := xa_copies) (xa_tokens := xa_tokens) (xa_replaced := xa_replaced) (xa_deep := xa_deep) (xa_lies := xa_lies) (xa_ofKind := xa_ofKind) (xa_workNode := xa_workNode) (xa_stage := xa_stage) (xa_workFrame := xa_workFrame) (xa_values := xa_values) (xa_bound := xa_bound) (xa_boundTo := xa_boundTo) (xa_output := xa_output) (xa_given := xa_given) (xf_above := nI a - 1) P hs hU hN H XP hh i r p u a hS F φ f u fr hFu (Nat.le_refl _) C
    have OK := (H _ _ _ _ _ z1).1
    have G := OK.1
    have b1 := OK.2.1
    have b2 := OK.2.2.1
    have hF' : F + (u' - u) ≤ u' := by omega
    have hnum' : ∀ q, q < F + (u' - u) → fr'.2.1 q = nI (φ' q) ∧ φ' q < u' := by
      intro q hq
      by_cases e : q < F
      · have a1 := hnum q e
        rw [(z8 q e).2.1, z9 q e]
        exact ⟨a1.1, by omega⟩
      · obtain ⟨j, rfl⟩ : ∃ j, q = F + j := ⟨q - F, by omega⟩
        have a1 := z10 j (by omega)
        exact ⟨by rw [a1.2, a1.1], by rw [a1.1]; omega⟩
    -- what follows the settling, for any count that it goes on with
    have fin : ∃ n, wX_find_105 post (wX_find_58 post n) (nI lf) (nI p) (nI u') xf_concepts xf_drafted xf_place (nI (F + (u' - u))) (nI i') f' (nI a - 1) xf_depth xf_top xf_lets xf_says xf_result xa_tok xa_end xa_num xa_length xa_holes xa_draft xa_draftNum xa_copies xa_tokens xa_replaced xa_deep xa_lies xa_ofKind fr'.1 fr'.2.1 fr'.2.2.1 fr'.2.2.2.1 fr'.2.2.2.2.1 fr'.2.2.2.2.2.1 fr'.2.2.2.2.2.2.1 fr'.2.2.2.2.2.2.2.1 fr'.2.2.2.2.2.2.2.2.1 fr'.2.2.2.2.2.2.2.2.2 xa_workNode xa_stage xa_workFrame xa_values xa_bound xa_boundTo xa_output xa_given := by
      by_cases e0 : lf = 0
      · subst e0
        have ek : p = k := by omega
        subst ek
        exact ⟨0, br_t rfl (K i' r' u' a _ φ' f' fr' z1 z2 z3 (by omega) z7 hnum')⟩
      · have w := sh_gp P hs G z2 z3
        have e2 := w.2.1
        obtain ⟨j0, j1, j2, j3⟩ := sh_child (n := sh_an g i') (lf := lf - 1) (f := fun k => sh_eT g (sh_op g i' k) r') (by omega)
        have kid := ((H _ _ _ _ _ z1).2.2.2 z2 z3).2 j0 j1
        have q := sh_ms_p P hs G z2 z3 j1
        have e3 : sh_sm (j0 + 1) (fun k => sh_eT g (sh_op g i' k) r') = sh_sm j0 (fun k => sh_eT g (sh_op g i' k) r') + sh_eT g (sh_op g i' j0) r' := rfl
        obtain ⟨n, hn⟩ := ih _ _ _ _ _ kid (by omega) (lf - 1 - sh_sm j0 (fun k => sh_eT g (sh_op g i' k) r')) (by omega) (by omega) (F + (u' - u)) φ' f' fr' (by omega) z7 (fun q hq => ⟨(hnum' q hq).1, by have := (hnum' q hq).2; omega⟩)
        refine ⟨n, br_f (nI_ne0 (by omega) (by omega)) (nm_r (e' := nI (lf - 1)) (sb_m1 (by omega)) (nm_r (nI_1 p) (nm_r (nI_1 i') ?_)))⟩
        have o := xs_ops P XP hs G 0 (by omega)
        have x1 := xs_sv_x P hs (by omega) (w.1 0 (by omega)) o.2.2 z7 (by have := sh_ms_p P hs G z2 z3 (show 0 < sh_an g i' by omega); omega)
        refine xs_sizeIn (i := i' + 1) o.1 (by omega) (xs_XC_f z7) ⟨j0 + 1, ?_⟩
        have x1' := x1.1
        rw [sh_op_0] at x1'
        rw [x1']
        rw [sh_m1a p] at hn
        exact xs_f145 (g := g) (p := p) (u := u') (lf := lf - 1) P hs XP G z2 z3 (by omega) z7 (by omega) (by omega) (by omega) rfl j1 j2 j3 hn j0 0 (Nat.zero_add _)
    obtain ⟨n, fin⟩ := fin
    refine ⟨n + 1, n2, z11 _ ?_⟩
    by_cases e : F + (u' - u) = 0
    · have eu : u' = u := by omega
      subst eu
      refine br_t (by rw [e]; decide) ?_
      exact fin
    · have ei : nI (F + (u' - u)) - 1 = nI (F + (u' - u) - 1) := by
        obtain ⟨y, hy⟩ : ∃ y, F + (u' - u) = y + 1 := ⟨F + (u' - u) - 1, by omega⟩
        rw [hy]; exact sh_m1a y
      have ix : vp_in (nI (F + (u' - u)) - 1) 2000 := by rw [ei]; exact vp_in_nI (by omega) (by omega)
      have nb := hnum' (F + (u' - u) - 1) (by omega)
      have cn : fr'.2.1 (nI (F + (u' - u)) - 1).toNatClampNeg = nI (φ' (F + (u' - u) - 1)) := by rw [ei, nI_clamp (by omega)]; exact nb.1
      refine br_f (nI_nle (by omega) (by omega)) ⟨ix, ?_⟩
      rw [cn]
      by_cases eu : u' = u
      · subst eu
        exact br_t (nI_lt nb.2 (by omega)) fin
      · have a1 := z10 (u' - u - 1) (by omega)
        have e5 : F + (u' - u) - 1 = F + (u' - u - 1) := by omega
        have e6 : φ' (F + (u' - u) - 1) = u' - 1 := by rw [e5, a1.1]; omega
        rw [e6]
        refine br_f (nI_nlt (by omega) (by omega)) ⟨ix, ?_⟩
        rw [show nI (u' - 1) + 1 = nI u' by rw [nI_1]; exact congrArg nI (by omega)]
        exact fin
end XFI
end
section
/-! X: other, find whole -/
section XO
variable {xf_concepts xf_drafted xf_place xf_frames xf_node xf_frame xf_above xf_depth xf_top xf_lets xf_says xf_result : Int32} {xa_tok xa_end xa_num xa_length xa_holes xa_draft xa_draftNum xa_copies xa_tokens xa_replaced xa_deep xa_lies xa_ofKind xa_caller xa_number xa_size0 xa_size1 xa_size2 xa_uses0 xa_uses1 xa_uses2 xa_useAt xa_begun xa_workNode xa_stage xa_workFrame xa_values xa_bound xa_boundTo xa_output xa_given : Nat → Int32} {g : sh_G} {cc hi : Nat}
theorem xs_ro_x (P : sh_Pg g cc hi) (XP : xs_XP g hi xa_tok xa_end xa_num xa_copies xa_tokens xa_replaced xa_deep xa_lies xa_ofKind) {s : Nat} (hs : s < 4) (h : 1 ≤ sh_ln g (6 + s)) :
    xs_XN g xa_copies xa_tokens xa_replaced xa_deep xa_lies xa_ofKind (sh_ro s) :=
  (XP (6 + s) (Or.inr ⟨by omega, by omega⟩) (sh_ro s) (sh_ro_IR P hs h)).2.2.2
theorem xs_other {post : Int32 → Prop} {p0 : Int32} (P : sh_Pg g cc hi) (XP : xs_XP g hi xa_tok xa_end xa_num xa_copies xa_tokens xa_replaced xa_deep xa_lies xa_ofKind) (hl : ∀ r, r < 10 → xa_length r = nI (sh_ln g r))
    (hB : p0 < 0 ∨ nI 4 ≤ p0 → post (-3)) (h0 : ∀ s, s < 4 → p0 = nI s → sh_ln g (6 + s) = 0 → post 0)
    (hL : ∀ s, s < 4 → p0 = nI s → 1 ≤ sh_ln g (6 + s) → 2000 < sh_T g (sh_ro s) ∨ 2000 < sh_R g (sh_ro s) → post (-2))
    (h1 : ∀ s, s < 4 → p0 = nI s → 1 ≤ sh_ln g (6 + s) → sh_T g (sh_ro s) ≤ 2000 → sh_R g (sh_ro s) ≤ 2000 → post 1) : wpX_other post (xf_concepts, xf_drafted, xf_place, xf_frames, xf_node, xf_frame, xf_above, xf_depth, xf_top, xf_lets, xf_says, xf_result, xa_tok, xa_end, xa_num, xa_length, xa_holes, xa_draft, xa_draftNum, xa_copies, xa_tokens, xa_replaced, xa_deep, xa_lies, xa_ofKind, xa_caller, xa_number, xa_size0, xa_size1, xa_size2, xa_uses0, xa_uses1, xa_uses2, xa_useAt, xa_begun, xa_workNode, xa_stage, xa_workFrame, xa_values, xa_bound, xa_boundTo, xa_output, xa_given) p0 := by
  unfold wpX_other
  refine xs_among (v := p0) 4 (by omega) rfl (fun h => br_t rfl (hB h)) (fun s hs e => br_f (by decide) ?_)
  subst e
  have h24 : sh_ln g (6 + s) ≤ 24 := P.2.2.2.2.1 s hs
  have e6 : (6 : Int32) + nI s = nI (6 + s) := nI_add 6 s
  have c6 : xa_length ((6 : Int32) + nI s).toNatClampNeg = nI (sh_ln g (6 + s)) := by rw [e6, nI_clamp (by omega)]; exact hl _ (by omega)
  refine ⟨by rw [e6]; exact vp_in_nI (by omega) (by omega), ?_⟩
  rw [c6]
  refine pk_eq (sh_ln g (6 + s)) 0 (fun z => h0 s hs rfl z) (fun z => ?_)
  have X := xs_ro_x P XP hs (by omega)
  have er : (72 : Int32) + 24 * nI s = nI (sh_ro s) := by
    have a : (24 : Int32) * nI s = nI (24 * s) := pk_mul 24 s
    rw [a]; exact nI_add 72 _
  have hro : sh_ro s < 168 := by unfold sh_ro; omega
  have ir : vp_in ((72 : Int32) + 24 * nI s) 168 := by rw [er]; exact vp_in_nI hro (by omega)
  have ct : xa_tokens ((72 : Int32) + 24 * nI s).toNatClampNeg = nI (sh_sat (sh_T g (sh_ro s))) := by rw [er, nI_clamp (by omega)]; exact X.1
  have cr : xa_replaced ((72 : Int32) + 24 * nI s).toNatClampNeg = nI (sh_sat (sh_R g (sh_ro s))) := by rw [er, nI_clamp (by omega)]; exact X.2.1
  have bt := sh_sat_le (sh_T g (sh_ro s))
  have br := sh_sat_le (sh_R g (sh_ro s))
  refine ⟨ir, ?_⟩
  rw [ct]
  refine pk_lt 2000 (sh_sat (sh_T g (sh_ro s))) (fun q => br_f (by decide) (hL s hs rfl (by omega) (Or.inl ((sh_sat_gt _).mp q)))) (fun q => ⟨ir, ?_⟩)
  have q' : ¬ 2000 < sh_T g (sh_ro s) := fun z => by have := (sh_sat_gt _).mpr z; omega
  rw [cr]
  refine pk_le (sh_sat (sh_R g (sh_ro s))) 2000 (fun w => br_t rfl (h1 s hs rfl (by omega) (by omega) ?_)) (fun w => br_f (by decide) (hL s hs rfl (by omega) (Or.inr ((sh_sat_gt _).mp w))))
  by_cases y : 2000 < sh_R g (sh_ro s)
  · have := (sh_sat_gt _).mpr y
    omega
  · omega
/-- find: none, or the token at its place -/
theorem xs_find {post : Int32 → SX → Prop} {p0 p1 : Int32} (P : sh_Pg g cc hi) (XP : xs_XP g hi xa_tok xa_end xa_num xa_copies xa_tokens xa_replaced xa_deep xa_lies xa_ofKind) (hl : ∀ r, r < 10 → xa_length r = nI (sh_ln g r)) (hh : ∀ c, c < hi → xa_holes c = nI (sh_ho g c))
    (hN : (∀ s k, s < 4 → p0 = nI s → 1 ≤ sh_ln g (6 + s) → sh_T g (sh_ro s) ≤ 2000 → sh_R g (sh_ro s) ≤ 2000 → k < sh_T g (sh_ro s) → p1 = nI k → False) → post 0 (xf_concepts, xf_drafted, xf_place, xf_frames, xf_node, xf_frame, xf_above, xf_depth, xf_top, xf_lets, xf_says, xf_result, xa_tok, xa_end, xa_num, xa_length, xa_holes, xa_draft, xa_draftNum, xa_copies, xa_tokens, xa_replaced, xa_deep, xa_lies, xa_ofKind, xa_caller, xa_number, xa_size0, xa_size1, xa_size2, xa_uses0, xa_uses1, xa_uses2, xa_useAt, xa_begun, xa_workNode, xa_stage, xa_workFrame, xa_values, xa_bound, xa_boundTo, xa_output, xa_given))
    (hF : ∀ s k, s < 4 → p0 = nI s → 1 ≤ sh_ln g (6 + s) → sh_T g (sh_ro s) ≤ 2000 → sh_R g (sh_ro s) ≤ 2000 → k < sh_T g (sh_ro s) → p1 = nI k →
      ∃ Fc S, sh_Cl g cc hi s (sh_T g (sh_ro s)) (sh_R g (sh_ro s)) Fc S ∧ S (sh_ro s) [] 0 0 0 ∧ ∀ i r u a F φ f fr, S i r k u a → sh_tk g i < 16 → sh_tk g i ≠ 9 → F ≤ 2000 → xs_XC g s φ fr F r f → (∀ q, q < F → fr.2.1 q = nI (φ q) ∧ φ q < u) → post 1 (xf_concepts, xf_drafted, xf_place, nI F, nI i, f, nI a - 1, xf_depth, xf_top, xf_lets, xf_says, xf_result, xa_tok, xa_end, xa_num, xa_length, xa_holes, xa_draft, xa_draftNum, xa_copies, xa_tokens, xa_replaced, xa_deep, xa_lies, xa_ofKind, fr.1, fr.2.1, fr.2.2.1, fr.2.2.2.1, fr.2.2.2.2.1, fr.2.2.2.2.2.1, fr.2.2.2.2.2.2.1, fr.2.2.2.2.2.2.2.1, fr.2.2.2.2.2.2.2.2.1, fr.2.2.2.2.2.2.2.2.2, xa_workNode, xa_stage, xa_workFrame, xa_values, xa_bound, xa_boundTo, xa_output, xa_given)) :
    wpX_find post (xf_concepts, xf_drafted, xf_place, xf_frames, xf_node, xf_frame, xf_above, xf_depth, xf_top, xf_lets, xf_says, xf_result, xa_tok, xa_end, xa_num, xa_length, xa_holes, xa_draft, xa_draftNum, xa_copies, xa_tokens, xa_replaced, xa_deep, xa_lies, xa_ofKind, xa_caller, xa_number, xa_size0, xa_size1, xa_size2, xa_uses0, xa_uses1, xa_uses2, xa_useAt, xa_begun, xa_workNode, xa_stage, xa_workFrame, xa_values, xa_bound, xa_boundTo, xa_output, xa_given) p0 p1 := by
  have rofs : ∀ s, s < 4 → (72 : Int32) + 24 * nI s = nI (sh_ro s) := by
    intro s hs
    have a : (24 : Int32) * nI s = nI (24 * s) := pk_mul 24 s
    rw [a]; exact nI_add 72 _
  unfold wpX_find
  refine xs_other (g := g) P XP hl (fun h => br_f (by decide) (hN (fun s k hs e _ _ _ _ _ => ?_))) (fun s hs e h0 => br_f (by decide) (hN (fun s' k hs' e' h1 _ _ _ _ => ?_))) (fun s hs e h1 h2 => br_f (by decide) (hN (fun s' k hs' e' _ h3 h4 _ _ => ?_))) (fun s hs e h1 hT hR => br_t rfl ?_)
  · rcases h with h | h
    · rw [e] at h; exact nI_pos (by omega) h
    · rw [e] at h; exact nI_ge hs (by omega) h
  · have : s' = s := (nI_eq (by omega) (by omega)).mp (e'.symm.trans e)
    subst this; omega
  · have : s' = s := (nI_eq (by omega) (by omega)).mp (e'.symm.trans e)
    subst this; omega
  · subst e
    have X := xs_ro_x P XP hs h1
    have hro : sh_ro s < 168 := by unfold sh_ro; omega
    have er := rofs s hs
    have ct : xa_tokens ((72 : Int32) + 24 * nI s).toNatClampNeg = nI (sh_T g (sh_ro s)) := by rw [er, nI_clamp (by omega), X.1, sh_sat_id (by omega)]
    refine ⟨by rw [er]; exact vp_in_nI hro (by omega), ?_⟩
    rw [ct]
    refine xs_among (v := p1) (sh_T g (sh_ro s)) (by omega) rfl (fun h => br_t rfl (hN (fun s' k hs' e' _ _ _ h5 h6 => ?_))) (fun k hk ek => br_f (by decide) ?_)
    · have : s' = s := (nI_eq (by omega) (by omega)).mp e'.symm
      subst this
      rcases h with h | h
      · rw [h6] at h; exact nI_pos (by omega) h
      · rw [h6] at h; exact nI_ge h5 (by omega) h
    · subst ek
      obtain ⟨Fc, S, Cl, hS, K⟩ := hF s k hs rfl h1 hT hR hk rfl
      obtain ⟨n, M⟩ := xs_f58 (xf_concepts := xf_concepts) (xf_drafted := xf_drafted) (xf_place := xf_place) (xf_depth := xf_depth) (xf_top := xf_top) (xf_lets := xf_lets) (xf_says := xf_says) (xf_result := xf_result) (xa_tok := xa_tok) (xa_end := xa_end) (xa_num := xa_num) (xa_length := xa_length) (xa_holes := xa_holes) (xa_draft := xa_draft) (xa_draftNum := xa_draftNum) (xa_copies := xa_copies) (xa_tokens := xa_tokens) (xa_replaced := xa_replaced) (xa_deep := xa_deep) (xa_lies := xa_lies) (xa_ofKind := xa_ofKind) (xa_workNode := xa_workNode) (xa_stage := xa_stage) (xa_workFrame := xa_workFrame) (xa_values := xa_values) (xa_bound := xa_bound) (xa_boundTo := xa_boundTo) (xa_output := xa_output) (xa_given := xa_given) (post := post) (k := k) P hs hR hT Cl XP hh K _ (sh_ro s) [] 0 0 0 hS (Nat.lt_succ_self _) k (by rw [show sh_eT g (sh_ro s) [] = sh_T g (sh_ro s) from sh_ev_n g _ _]; exact hk) (by omega) 0 (fun _ => 0) (-1) (xa_caller, xa_number, xa_size0, xa_size1, xa_size2, xa_uses0, xa_uses1, xa_uses2, xa_useAt, xa_begun) (by omega) rfl (fun q hq => by omega)
      refine ⟨n, ?_⟩
      rw [er]
      rw [sh_m1b] at M
      exact M
end XO
end
section
/-! the relation -/
def sh_R0 (cnc drf plc sys res : Int32) (tok end' num len hol drk drn cp tn rp dp ls ok outp : Nat → Int32) (yc yp ysz yus yof yres ysys : Int32) (yki ybe yle yho yva ykd yog yvl ypa ysp ysd : Nat → Int32) : Prop :=
  ∃ (g : sh_G) (cc hi d : Nat) (dk : Nat → Nat) (dv : Nat → Int32) (sy : Nat),
    sh_Pg g cc hi ∧ (cnc = nI cc ∧ yc = nI cc ∧ yp = plc ∧ drf = nI d ∧ yle 10 = nI d ∧ d ≤ 24) ∧
    (∀ r, r < 10 → len r = nI (sh_ln g r) ∧ yle r = nI (sh_ln g r)) ∧ (∀ c, c < 6 → hol c = nI (sh_ho g c) ∧ yho c = nI (sh_ho g c)) ∧
    (sh_Dr dk drn dv d ∧ (∀ i, i < d → drk i = nI (dk i)) ∧ ∀ i, i < d → yki (240 + i) = nI (dk i) ∧ yva (240 + i) = dv i) ∧
    xs_XP g hi tok end' num cp tn rp dp ls ok ∧ ys_YP g hi yki yva ybe ∧ sh_Ca g cc hi yof ysz yus ykd yog yvl ypa ysp ∧
    (yres = res ∧ sys = nI sy ∧ ysys = nI sy ∧ sy ≤ 2000 ∧ ∀ k, k < 20 → k < sy → ysd k = outp k)
def i_Rel (_ : Nat) (u : SX) (v : SY) : Prop := match u with
  | (xf_concepts, xf_drafted, xf_place, xf_frames, xf_node, xf_frame, xf_above, xf_depth, xf_top, xf_lets, xf_says, xf_result, xa_tok, xa_end, xa_num, xa_length, xa_holes, xa_draft, xa_draftNum, xa_copies, xa_tokens, xa_replaced, xa_deep, xa_lies, xa_ofKind, xa_caller, xa_number, xa_size0, xa_size1, xa_size2, xa_uses0, xa_uses1, xa_uses2, xa_useAt, xa_begun, xa_workNode, xa_stage, xa_workFrame, xa_values, xa_bound, xa_boundTo, xa_output, xa_given) => match v with
    | (yf_concepts, yf_place, yf_size, yf_uses, yf_of, yf_result, yf_says, yb_kind, yb_behind, yb_length, yb_holes, yb_value, yb_kinds, yb_origin, yb_values, yb_parent, yb_span, yb_todo, yb_within, yb_under, yb_stands, yb_outer, yb_from, yb_left, yb_variable, yb_saved, yb_worth, yb_said, yb_work, yb_phase) => sh_R0 xf_concepts xf_drafted xf_place xf_says xf_result xa_tok xa_end xa_num xa_length xa_holes xa_draft xa_draftNum xa_copies xa_tokens xa_replaced xa_deep xa_lies xa_ofKind xa_output yf_concepts yf_place yf_size yf_uses yf_of yf_result yf_says yb_kind yb_behind yb_length yb_holes yb_value yb_kinds yb_origin yb_values yb_parent yb_span yb_said
theorem i_up {k : Nat} {u : SX} {v : SY} (h : i_Rel k u v) : i_Rel (k + 5) u v := h
theorem zz_el {k : Nat} {u : SX} {v : SY} {P : SX → SY → Prop}
    (h : ∀ (xf_concepts xf_drafted xf_place xf_frames xf_node xf_frame xf_above xf_depth xf_top xf_lets xf_says xf_result : Int32) (xa_tok xa_end xa_num xa_length xa_holes xa_draft xa_draftNum xa_copies xa_tokens xa_replaced xa_deep xa_lies xa_ofKind xa_caller xa_number xa_size0 xa_size1 xa_size2 xa_uses0 xa_uses1 xa_uses2 xa_useAt xa_begun xa_workNode xa_stage xa_workFrame xa_values xa_bound xa_boundTo xa_output xa_given : Nat → Int32) (yf_concepts yf_place yf_size yf_uses yf_of yf_result yf_says : Int32) (yb_kind yb_behind yb_length yb_holes yb_value yb_kinds yb_origin yb_values yb_parent yb_span yb_todo yb_within yb_under yb_stands yb_outer yb_from yb_left yb_variable yb_saved yb_worth yb_said yb_work yb_phase : Nat → Int32), sh_R0 xf_concepts xf_drafted xf_place xf_says xf_result xa_tok xa_end xa_num xa_length xa_holes xa_draft xa_draftNum xa_copies xa_tokens xa_replaced xa_deep xa_lies xa_ofKind xa_output yf_concepts yf_place yf_size yf_uses yf_of yf_result yf_says yb_kind yb_behind yb_length yb_holes yb_value yb_kinds yb_origin yb_values yb_parent yb_span yb_said → P (xf_concepts, xf_drafted, xf_place, xf_frames, xf_node, xf_frame, xf_above, xf_depth, xf_top, xf_lets, xf_says, xf_result, xa_tok, xa_end, xa_num, xa_length, xa_holes, xa_draft, xa_draftNum, xa_copies, xa_tokens, xa_replaced, xa_deep, xa_lies, xa_ofKind, xa_caller, xa_number, xa_size0, xa_size1, xa_size2, xa_uses0, xa_uses1, xa_uses2, xa_useAt, xa_begun, xa_workNode, xa_stage, xa_workFrame, xa_values, xa_bound, xa_boundTo, xa_output, xa_given) (yf_concepts, yf_place, yf_size, yf_uses, yf_of, yf_result, yf_says, yb_kind, yb_behind, yb_length, yb_holes, yb_value, yb_kinds, yb_origin, yb_values, yb_parent, yb_span, yb_todo, yb_within, yb_under, yb_stands, yb_outer, yb_from, yb_left, yb_variable, yb_saved, yb_worth, yb_said, yb_work, yb_phase))
    (I : i_Rel k u v) : P u v := by
  obtain ⟨xf_concepts, xf_drafted, xf_place, xf_frames, xf_node, xf_frame, xf_above, xf_depth, xf_top, xf_lets, xf_says, xf_result, xa_tok, xa_end, xa_num, xa_length, xa_holes, xa_draft, xa_draftNum, xa_copies, xa_tokens, xa_replaced, xa_deep, xa_lies, xa_ofKind, xa_caller, xa_number, xa_size0, xa_size1, xa_size2, xa_uses0, xa_uses1, xa_uses2, xa_useAt, xa_begun, xa_workNode, xa_stage, xa_workFrame, xa_values, xa_bound, xa_boundTo, xa_output, xa_given⟩ := u
  obtain ⟨yf_concepts, yf_place, yf_size, yf_uses, yf_of, yf_result, yf_says, yb_kind, yb_behind, yb_length, yb_holes, yb_value, yb_kinds, yb_origin, yb_values, yb_parent, yb_span, yb_todo, yb_within, yb_under, yb_stands, yb_outer, yb_from, yb_left, yb_variable, yb_saved, yb_worth, yb_said, yb_work, yb_phase⟩ := v
  exact h _ _ _ _ _ _ _ _ _ _ _ _ _ _ _ _ _ _ _ _ _ _ _ _ _ _ _ _ _ _ _ _ _ _ _ _ _ _ _ _ _ _ _ _ _ _ _ _ _ _ _ _ _ _ _ _ _ _ _ _ _ _ _ _ _ _ _ _ _ _ _ _ _ I
theorem i_vc0 : wpX_init (fun u => wpY_init (fun v => i_Rel 0 u v)) := by
  refine ⟨(fun _ => 0, fun _ => 0, fun _ => 0, fun _ => 0, fun _ => 0, fun _ => 0, fun _ => 0, fun _ => 0, fun _ _ => 0, fun _ _ => 0, fun _ _ => 0), 0, 0, 0, fun _ => 0, fun _ => 0, 0, ⟨by omega, by omega, fun c _ => Nat.zero_le _, fun c h => by omega, fun s _ => Nat.zero_le _, fun r _ i h => ?_⟩, ⟨rfl, rfl, rfl, rfl, rfl, by omega⟩, fun r _ => ⟨rfl, rfl⟩, fun c _ => ⟨rfl, rfl⟩, ⟨fun i h => by omega, fun i h => by omega, fun i h => by omega⟩, fun r _ i h => ?_, fun r _ i h => ?_, Or.inl rfl, ⟨rfl, rfl, rfl, by omega, fun k _ h => by omega⟩⟩
  all_goals
    exfalso
    have h1 := h.1
    have h2 : i < sh_xb r + 0 := h.2
    omega
theorem i_vc_place {k : Nat} {u : SX} {v : SY} (I : i_Rel k u v) (hk : k + 5 ≤ 2560) : wpX_place (fun r => wpY_place (fun r' => r' = r ∧ i_Rel (k + 5) u v) v) u := by
  refine zz_el (P := fun u v => wpX_place (fun r => wpY_place (fun r' => r' = r ∧ i_Rel (k + 5) u v) v) u) ?_ I
  intro xf_concepts xf_drafted xf_place xf_frames xf_node xf_frame xf_above xf_depth xf_top xf_lets xf_says xf_result xa_tok xa_end xa_num xa_length xa_holes xa_draft xa_draftNum xa_copies xa_tokens xa_replaced xa_deep xa_lies xa_ofKind xa_caller xa_number xa_size0 xa_size1 xa_size2 xa_uses0 xa_uses1 xa_uses2 xa_useAt xa_begun xa_workNode xa_stage xa_workFrame xa_values xa_bound xa_boundTo xa_output xa_given yf_concepts yf_place yf_size yf_uses yf_of yf_result yf_says yb_kind yb_behind yb_length yb_holes yb_value yb_kinds yb_origin yb_values yb_parent yb_span yb_todo yb_within yb_under yb_stands yb_outer yb_from yb_left yb_variable yb_saved yb_worth yb_said yb_work yb_phase R
  have R' := R
  obtain ⟨g, cc, hi, d, dk, dv, sy, P, ⟨c1, c2, c3, c4, c5, c6⟩, hl, hh, hd, XP, YP, Ca, hr⟩ := R'
  exact ⟨c3, R⟩
theorem i_vc_result {k : Nat} {u : SX} {v : SY} (I : i_Rel k u v) (hk : k + 5 ≤ 2560) : wpX_result (fun r => wpY_result (fun r' => r' = r ∧ i_Rel (k + 5) u v) v) u := by
  refine zz_el (P := fun u v => wpX_result (fun r => wpY_result (fun r' => r' = r ∧ i_Rel (k + 5) u v) v) u) ?_ I
  intro xf_concepts xf_drafted xf_place xf_frames xf_node xf_frame xf_above xf_depth xf_top xf_lets xf_says xf_result xa_tok xa_end xa_num xa_length xa_holes xa_draft xa_draftNum xa_copies xa_tokens xa_replaced xa_deep xa_lies xa_ofKind xa_caller xa_number xa_size0 xa_size1 xa_size2 xa_uses0 xa_uses1 xa_uses2 xa_useAt xa_begun xa_workNode xa_stage xa_workFrame xa_values xa_bound xa_boundTo xa_output xa_given yf_concepts yf_place yf_size yf_uses yf_of yf_result yf_says yb_kind yb_behind yb_length yb_holes yb_value yb_kinds yb_origin yb_values yb_parent yb_span yb_todo yb_within yb_under yb_stands yb_outer yb_from yb_left yb_variable yb_saved yb_worth yb_said yb_work yb_phase R
  have R' := R
  obtain ⟨g, cc, hi, d, dk, dv, sy, P, ⟨c1, c2, c3, c4, c5, c6⟩, hl, hh, hd, XP, YP, Ca, hr⟩ := R'
  exact ⟨hr.1, R⟩
theorem i_vc_says {k : Nat} {u : SX} {v : SY} (I : i_Rel k u v) (hk : k + 5 ≤ 2560) : wpX_says (fun r => wpY_says (fun r' => r' = r ∧ i_Rel (k + 5) u v) v) u := by
  refine zz_el (P := fun u v => wpX_says (fun r => wpY_says (fun r' => r' = r ∧ i_Rel (k + 5) u v) v) u) ?_ I
  intro xf_concepts xf_drafted xf_place xf_frames xf_node xf_frame xf_above xf_depth xf_top xf_lets xf_says xf_result xa_tok xa_end xa_num xa_length xa_holes xa_draft xa_draftNum xa_copies xa_tokens xa_replaced xa_deep xa_lies xa_ofKind xa_caller xa_number xa_size0 xa_size1 xa_size2 xa_uses0 xa_uses1 xa_uses2 xa_useAt xa_begun xa_workNode xa_stage xa_workFrame xa_values xa_bound xa_boundTo xa_output xa_given yf_concepts yf_place yf_size yf_uses yf_of yf_result yf_says yb_kind yb_behind yb_length yb_holes yb_value yb_kinds yb_origin yb_values yb_parent yb_span yb_todo yb_within yb_under yb_stands yb_outer yb_from yb_left yb_variable yb_saved yb_worth yb_said yb_work yb_phase R
  have R' := R
  obtain ⟨g, cc, hi, d, dk, dv, sy, P, ⟨c1, c2, c3, c4, c5, c6⟩, hl, hh, hd, XP, YP, Ca, hr⟩ := R'
  exact ⟨hr.2.2.1.trans hr.2.1.symm, R⟩
theorem ys_out {post : Int32 → Prop} {v w : Int32} (n : Nat) (hn : n < 2 ^ 31) (hw : w = nI n) (h1 : v < 0 ∨ nI n ≤ v → post 1) (h0 : ∀ j, j < n → v = nI j → post 0) : wpY_out post v w := by
  subst hw
  rcases pk_ix v hn with h | h | ⟨j, hj, rfl⟩
  · exact br_t h (h1 (Or.inl h))
  · by_cases z : v < 0
    · exact br_t z (h1 (Or.inl z))
    · exact br_f z (br_f (fun q => absurd h (Int32.not_le.mpr q)) (h1 (Or.inr h)))
  · exact br_f (nI_pos (by omega)) (br_t (nI_lt hj hn) (h0 j hj rfl))
theorem i_vc_said {k : Nat} {u : SX} {v : SY} (I : i_Rel k u v) (hk : k + 5 ≤ 2560) (v1 : Int32) : wpX_said (fun r => wpY_said (fun r' => r' = r ∧ i_Rel (k + 5) u v) v v1) u v1 := by
  refine zz_el (P := fun u v => wpX_said (fun r => wpY_said (fun r' => r' = r ∧ i_Rel (k + 5) u v) v v1) u v1) ?_ I
  intro xf_concepts xf_drafted xf_place xf_frames xf_node xf_frame xf_above xf_depth xf_top xf_lets xf_says xf_result xa_tok xa_end xa_num xa_length xa_holes xa_draft xa_draftNum xa_copies xa_tokens xa_replaced xa_deep xa_lies xa_ofKind xa_caller xa_number xa_size0 xa_size1 xa_size2 xa_uses0 xa_uses1 xa_uses2 xa_useAt xa_begun xa_workNode xa_stage xa_workFrame xa_values xa_bound xa_boundTo xa_output xa_given yf_concepts yf_place yf_size yf_uses yf_of yf_result yf_says yb_kind yb_behind yb_length yb_holes yb_value yb_kinds yb_origin yb_values yb_parent yb_span yb_todo yb_within yb_under yb_stands yb_outer yb_from yb_left yb_variable yb_saved yb_worth yb_said yb_work yb_phase R
  have R' := R
  obtain ⟨g, cc, hi, d, dk, dv, sy, P, ⟨c1, c2, c3, c4, c5, c6⟩, hl, hh, hd, XP, YP, Ca, ⟨r1, r2, r3, r4, r5⟩⟩ := R'
  subst r2 r3
  unfold wpX_said
  refine xs_among (v := v1) 20 (by omega) rfl (fun h => br_t rfl ?_) (fun j hj e => br_f (by decide) ?_)
  · unfold wpY_said
    refine ys_out (v := v1) 20 (by omega) rfl (fun _ => br_f (by decide) ⟨rfl, R⟩) (fun j hj e => ?_)
    exfalso
    rcases h with h | h
    · rw [e] at h; exact nI_pos (by omega) h
    · rw [e] at h; exact nI_ge hj (by omega) h
  · subst e
    have Y : ∀ x : Int32, (sy ≤ j → x = 0) → (j < sy → x = xa_output j) → wpY_said (fun r' => r' = x ∧ i_Rel (k + 5) (xf_concepts, xf_drafted, xf_place, xf_frames, xf_node, xf_frame, xf_above, xf_depth, xf_top, xf_lets, nI sy, xf_result, xa_tok, xa_end, xa_num, xa_length, xa_holes, xa_draft, xa_draftNum, xa_copies, xa_tokens, xa_replaced, xa_deep, xa_lies, xa_ofKind, xa_caller, xa_number, xa_size0, xa_size1, xa_size2, xa_uses0, xa_uses1, xa_uses2, xa_useAt, xa_begun, xa_workNode, xa_stage, xa_workFrame, xa_values, xa_bound, xa_boundTo, xa_output, xa_given) (yf_concepts, yf_place, yf_size, yf_uses, yf_of, yf_result, nI sy, yb_kind, yb_behind, yb_length, yb_holes, yb_value, yb_kinds, yb_origin, yb_values, yb_parent, yb_span, yb_todo, yb_within, yb_under, yb_stands, yb_outer, yb_from, yb_left, yb_variable, yb_saved, yb_worth, yb_said, yb_work, yb_phase)) (yf_concepts, yf_place, yf_size, yf_uses, yf_of, yf_result, nI sy, yb_kind, yb_behind, yb_length, yb_holes, yb_value, yb_kinds, yb_origin, yb_values, yb_parent, yb_span, yb_todo, yb_within, yb_under, yb_stands, yb_outer, yb_from, yb_left, yb_variable, yb_saved, yb_worth, yb_said, yb_work, yb_phase) (nI j) := by
      intro x h1 h2
      unfold wpY_said
      refine ys_out (v := nI j) 20 (by omega) rfl (fun h => ?_) (fun j' hj' e => br_t rfl (pk_lt j sy (fun q => ⟨vp_in_nI hj (by omega), ?_, R⟩) (fun q => ⟨(h1 q).symm, R⟩)))
      · exfalso
        rcases h with h | h
        · exact nI_pos (by omega) h
        · exact nI_ge hj (by omega) h
      · rw [nI_clamp (by omega), h2 q]
        exact r5 j hj q
    refine pk_le sy j (fun q => Y 0 (fun _ => rfl) (fun z => by omega)) (fun q => ⟨vp_in_nI hj (by omega), Y _ (fun z => by omega) (fun _ => by rw [nI_clamp (by omega)])⟩)
end
section
/-! token -/
def sh_TO (k : Nat) (v : Int32) : Prop := (k ≤ 10 ∨ 16 ≤ k) ∧ (k = 1 ∨ k = 7 → ¬ v ≤ -3 ∧ ¬ 10 ≤ v) ∧ (k = 9 → ∃ j, j < 3 ∧ v = nI j)
def sh_nz (k : Nat) (v : Int32) : Int32 := if k < 2 ∨ k = 7 ∨ k = 9 ∨ 16 ≤ k then v else 0
section XTK
variable {xf_concepts xf_drafted xf_place xf_frames xf_node xf_frame xf_above xf_depth xf_top xf_lets xf_says xf_result : Int32} {xa_tok xa_end xa_num xa_length xa_holes xa_draft xa_draftNum xa_copies xa_tokens xa_replaced xa_deep xa_lies xa_ofKind xa_caller xa_number xa_size0 xa_size1 xa_size2 xa_uses0 xa_uses1 xa_uses2 xa_useAt xa_begun xa_workNode xa_stage xa_workFrame xa_values xa_bound xa_boundTo xa_output xa_given : Nat → Int32}
theorem xs_token {post : Int32 → SX → Prop} {d : Nat} {v1 v2 : Int32} (hd : d ≤ 24) (ed : xf_drafted = nI d)
    (hB : (∀ k, k < 22 → v1 = nI k → ¬ sh_TO k v2) → post (-3) (xf_concepts, xf_drafted, xf_place, xf_frames, xf_node, xf_frame, xf_above, xf_depth, xf_top, xf_lets, xf_says, xf_result, xa_tok, xa_end, xa_num, xa_length, xa_holes, xa_draft, xa_draftNum, xa_copies, xa_tokens, xa_replaced, xa_deep, xa_lies, xa_ofKind, xa_caller, xa_number, xa_size0, xa_size1, xa_size2, xa_uses0, xa_uses1, xa_uses2, xa_useAt, xa_begun, xa_workNode, xa_stage, xa_workFrame, xa_values, xa_bound, xa_boundTo, xa_output, xa_given)) (hFu : ∀ k, k < 22 → v1 = nI k → sh_TO k v2 → d = 24 → post (-4) (xf_concepts, xf_drafted, xf_place, xf_frames, xf_node, xf_frame, xf_above, xf_depth, xf_top, xf_lets, xf_says, xf_result, xa_tok, xa_end, xa_num, xa_length, xa_holes, xa_draft, xa_draftNum, xa_copies, xa_tokens, xa_replaced, xa_deep, xa_lies, xa_ofKind, xa_caller, xa_number, xa_size0, xa_size1, xa_size2, xa_uses0, xa_uses1, xa_uses2, xa_useAt, xa_begun, xa_workNode, xa_stage, xa_workFrame, xa_values, xa_bound, xa_boundTo, xa_output, xa_given))
    (hG : ∀ k, k < 22 → v1 = nI k → sh_TO k v2 → d < 24 → post (nI (d + 1)) (xf_concepts, nI (d + 1), xf_place, xf_frames, xf_node, xf_frame, xf_above, xf_depth, xf_top, xf_lets, xf_says, xf_result, xa_tok, xa_end, xa_num, xa_length, xa_holes, upd xa_draft d (nI k), upd xa_draftNum d (sh_nz k v2), xa_copies, xa_tokens, xa_replaced, xa_deep, xa_lies, xa_ofKind, xa_caller, xa_number, xa_size0, xa_size1, xa_size2, xa_uses0, xa_uses1, xa_uses2, xa_useAt, xa_begun, xa_workNode, xa_stage, xa_workFrame, xa_values, xa_bound, xa_boundTo, xa_output, xa_given)) :
    wpX_token post (xf_concepts, xf_drafted, xf_place, xf_frames, xf_node, xf_frame, xf_above, xf_depth, xf_top, xf_lets, xf_says, xf_result, xa_tok, xa_end, xa_num, xa_length, xa_holes, xa_draft, xa_draftNum, xa_copies, xa_tokens, xa_replaced, xa_deep, xa_lies, xa_ofKind, xa_caller, xa_number, xa_size0, xa_size1, xa_size2, xa_uses0, xa_uses1, xa_uses2, xa_useAt, xa_begun, xa_workNode, xa_stage, xa_workFrame, xa_values, xa_bound, xa_boundTo, xa_output, xa_given) v1 v2 := by
  subst ed
  have k68B : (∀ k, k < 22 → v1 = nI k → ¬ sh_TO k v2) → ∀ x3 : Int32, x3 = 0 → wX_token_68 post v1 v2 x3 xf_concepts (nI d) xf_place xf_frames xf_node xf_frame xf_above xf_depth xf_top xf_lets xf_says xf_result xa_tok xa_end xa_num xa_length xa_holes xa_draft xa_draftNum xa_copies xa_tokens xa_replaced xa_deep xa_lies xa_ofKind xa_caller xa_number xa_size0 xa_size1 xa_size2 xa_uses0 xa_uses1 xa_uses2 xa_useAt xa_begun xa_workNode xa_stage xa_workFrame xa_values xa_bound xa_boundTo xa_output xa_given := fun h x3 e => br_t e (hB h)
  have k68G : ∀ k, k < 22 → v1 = nI k → sh_TO k v2 → ∀ x3 : Int32, x3 = 1 → wX_token_68 post v1 v2 x3 xf_concepts (nI d) xf_place xf_frames xf_node xf_frame xf_above xf_depth xf_top xf_lets xf_says xf_result xa_tok xa_end xa_num xa_length xa_holes xa_draft xa_draftNum xa_copies xa_tokens xa_replaced xa_deep xa_lies xa_ofKind xa_caller xa_number xa_size0 xa_size1 xa_size2 xa_uses0 xa_uses1 xa_uses2 xa_useAt xa_begun xa_workNode xa_stage xa_workFrame xa_values xa_bound xa_boundTo xa_output xa_given := by
    intro k hk e ok x3 e3
    subst e
    refine br_f (by rw [e3]; decide) (pk_eq d 24 (fun h => hFu k hk rfl ok h) (fun h => ?_))
    have hd' : d < 24 := by omega
    have G := hG k hk rfl ok hd'
    have id : vp_in (nI d) 24 := vp_in_nI hd' (by omega)
    have u1 : ∀ x, upd xa_draftNum (nI d).toNatClampNeg x = upd xa_draftNum d x := fun x => by rw [nI_clamp (by omega)]
    have k131 : (k ≤ 7 ∨ k = 9 ∨ 16 ≤ k) → wX_token_131 post (nI k) v2 (nI d) xf_concepts (nI (d + 1)) xf_place xf_frames xf_node xf_frame xf_above xf_depth xf_top xf_lets xf_says xf_result xa_tok xa_end xa_num xa_length xa_holes (upd xa_draft d (nI k)) xa_draftNum xa_copies xa_tokens xa_replaced xa_deep xa_lies xa_ofKind xa_caller xa_number xa_size0 xa_size1 xa_size2 xa_uses0 xa_uses1 xa_uses2 xa_useAt xa_begun xa_workNode xa_stage xa_workFrame xa_values xa_bound xa_boundTo xa_output xa_given := by
      intro hk7
      unfold sh_nz at G
      refine pk_lt k 2 (fun q => ⟨id, nm_r (u1 _) ?_⟩) (fun q => pk_lt 6 k (fun w => ⟨id, nm_r (u1 _) ?_⟩) (fun w => ⟨id, nm_r (u1 _) ?_⟩))
      · rw [if_pos (by omega)] at G; exact G
      · rw [if_pos (by omega)] at G; exact G
      · rw [if_neg (by omega)] at G; exact G
    refine ⟨id, nm_r (e' := upd xa_draft d (nI k)) (by rw [nI_clamp (by omega), sh_n8 (by omega)]) (nm_r (nI_1 d) (pk_le k 7 (fun q => k131 (Or.inl q)) (fun q => pk_eq k 9 (fun w => k131 (Or.inr (Or.inl w))) (fun w => pk_lt k 16 (fun z => ⟨id, nm_r (u1 _) ?_⟩) (fun z => k131 (Or.inr (Or.inr z)))))))⟩
    unfold sh_nz at G
    rw [if_neg (by omega)] at G; exact G
  have inj : ∀ {k k' : Nat}, k < 22 → k' < 22 → nI k = nI k' → k = k' := fun h h' e => (nI_eq (by omega) (by omega)).mp e
  -- a kind that is none
  have bad : (∀ k, k < 22 → v1 = nI k → ¬ (k ≤ 10 ∨ 16 ≤ k)) → wX_token_25 post v1 v2 xf_concepts (nI d) xf_place xf_frames xf_node xf_frame xf_above xf_depth xf_top xf_lets xf_says xf_result xa_tok xa_end xa_num xa_length xa_holes xa_draft xa_draftNum xa_copies xa_tokens xa_replaced xa_deep xa_lies xa_ofKind xa_caller xa_number xa_size0 xa_size1 xa_size2 xa_uses0 xa_uses1 xa_uses2 xa_useAt xa_begun xa_workNode xa_stage xa_workFrame xa_values xa_bound xa_boundTo xa_output xa_given := by
    intro h
    have n : ∀ k, k < 11 → ¬ v1 = nI k := fun k hk e => h k (by omega) e (by omega)
    exact br_f (n 1 (by omega)) (br_f (n 7 (by omega)) (br_f (n 9 (by omega)) (k68B (fun k hk e t => h k hk e t.1) 0 rfl)))
  have good : ∀ k, k < 22 → v1 = nI k → (k ≤ 10 ∨ 16 ≤ k) → wX_token_21 post v1 v2 xf_concepts (nI d) xf_place xf_frames xf_node xf_frame xf_above xf_depth xf_top xf_lets xf_says xf_result xa_tok xa_end xa_num xa_length xa_holes xa_draft xa_draftNum xa_copies xa_tokens xa_replaced xa_deep xa_lies xa_ofKind xa_caller xa_number xa_size0 xa_size1 xa_size2 xa_uses0 xa_uses1 xa_uses2 xa_useAt xa_begun xa_workNode xa_stage xa_workFrame xa_values xa_bound xa_boundTo xa_output xa_given := by
    intro k hk e h
    subst e
    have k38 : k = 1 ∨ k = 7 → wX_token_38 post (nI k) v2 xf_concepts (nI d) xf_place xf_frames xf_node xf_frame xf_above xf_depth xf_top xf_lets xf_says xf_result xa_tok xa_end xa_num xa_length xa_holes xa_draft xa_draftNum xa_copies xa_tokens xa_replaced xa_deep xa_lies xa_ofKind xa_caller xa_number xa_size0 xa_size1 xa_size2 xa_uses0 xa_uses1 xa_uses2 xa_useAt xa_begun xa_workNode xa_stage xa_workFrame xa_values xa_bound xa_boundTo xa_output xa_given := by
      intro hkv
      have n9 : ¬ nI k = 9 := fun z => by have := inj (k' := 9) hk (by omega) z; omega
      have bd : (v2 ≤ -3 ∨ 10 ≤ v2) → wX_token_54 post (nI k) v2 xf_concepts (nI d) xf_place xf_frames xf_node xf_frame xf_above xf_depth xf_top xf_lets xf_says xf_result xa_tok xa_end xa_num xa_length xa_holes xa_draft xa_draftNum xa_copies xa_tokens xa_replaced xa_deep xa_lies xa_ofKind xa_caller xa_number xa_size0 xa_size1 xa_size2 xa_uses0 xa_uses1 xa_uses2 xa_useAt xa_begun xa_workNode xa_stage xa_workFrame xa_values xa_bound xa_boundTo xa_output xa_given := by
        intro q
        refine br_f n9 (k68B (fun k' hk' e' t => ?_) 0 rfl)
        have := inj hk hk' e'
        subst this
        rcases q with q | q
        · exact (t.2.1 hkv).1 q
        · exact (t.2.1 hkv).2 q
      refine br_c (fun q => bd (Or.inl q)) (fun q => br_c (fun w => bd (Or.inr w)) (fun w => ?_))
      exact br_f n9 (k68G k hk rfl ⟨h, fun _ => ⟨q, w⟩, fun z => by omega⟩ 1 rfl)
    refine pk_eq k 1 (fun q => k38 (Or.inl q)) (fun h1 => pk_eq k 7 (fun q => k38 (Or.inr q)) (fun h7 => pk_eq k 9 (fun q => ?_) (fun h9 => ?_)))
    · refine xs_among (v := v2) 3 (by omega) rfl (fun w => k68B (fun k' hk' e' t => ?_) 0 rfl) (fun j hj w => k68G k hk rfl ⟨h, fun z => by omega, fun _ => ⟨j, hj, w⟩⟩ 1 rfl)
      have := inj hk hk' e'
      subst this
      obtain ⟨j, hj, ej⟩ := t.2.2 q
      rcases w with w | w
      · rw [ej] at w; exact nI_pos (by omega) w
      · rw [ej] at w; exact nI_ge hj (by omega) w
    · exact k68G k hk rfl ⟨h, fun z => by omega, fun z => absurd z h9⟩ 1 rfl
  unfold wpX_token
  refine xs_among (v := v1) 11 (by omega) rfl (fun h => br_t rfl (br_c (fun q => bad (fun k hk e w => ?_)) (fun q => br_c (fun w => bad (fun k hk e z => ?_)) (fun w => ?_)))) (fun k hk e => br_f (by decide) (good k (by omega) e (by omega)))
  · rw [e] at h q
    have q' : k < 16 := (nI_ltI (b := 16) (by omega) (by omega)).mp q
    rcases h with h | h
    · exact nI_pos (by omega) h
    · have := (nI_leI (a := 11) (b := k) (by omega) (by omega)).mp h
      omega
  · rw [e] at w
    have := (nI_leI (a := 22) (b := k) (by omega) (by omega)).mp w
    omega
  · obtain ⟨k, hk, e⟩ := nI_of (x := v1) (fun z => q (Int32.lt_of_lt_of_le z (by decide)))
    have a1 : 16 ≤ k := by
      rw [e] at q
      have : ¬ k < 16 := fun z => q ((nI_ltI (b := 16) hk (by omega)).mpr z)
      omega
    have a2 : k < 22 := by
      rw [e] at w
      have : ¬ 22 ≤ k := fun z => w ((nI_leI (a := 22) (by omega) hk).mpr z)
      omega
    exact good k a2 e (Or.inr a1)
end XTK
theorem sh_lt2 (v : Int32) : v < -2 ↔ v ≤ -3 := by
  rw [Int32.lt_iff_toInt_lt, Int32.le_iff_toInt_le, show (-2 : Int32).toInt = -2 by decide, show (-3 : Int32).toInt = -3 by decide]; omega
theorem sh_lt9 (v : Int32) : 9 < v ↔ 10 ≤ v := by
  rw [Int32.lt_iff_toInt_lt, Int32.le_iff_toInt_le, show (9 : Int32).toInt = 9 by decide, show (10 : Int32).toInt = 10 by decide]; omega
section YTK
variable {yf_concepts yf_place yf_size yf_uses yf_of yf_result yf_says : Int32} {yb_kind yb_behind yb_length yb_holes yb_value yb_kinds yb_origin yb_values yb_parent yb_span yb_todo yb_within yb_under yb_stands yb_outer yb_from yb_left yb_variable yb_saved yb_worth yb_said yb_work yb_phase : Nat → Int32}
theorem ys_token {post : Int32 → SY → Prop} {d : Nat} {v1 v2 : Int32} (hd : d ≤ 24) (ed : yb_length 10 = nI d)
    (hB : (∀ k, k < 22 → v1 = nI k → ¬ sh_TO k v2) → post (-3) (yf_concepts, yf_place, yf_size, yf_uses, yf_of, yf_result, yf_says, yb_kind, yb_behind, yb_length, yb_holes, yb_value, yb_kinds, yb_origin, yb_values, yb_parent, yb_span, yb_todo, yb_within, yb_under, yb_stands, yb_outer, yb_from, yb_left, yb_variable, yb_saved, yb_worth, yb_said, yb_work, yb_phase)) (hFu : ∀ k, k < 22 → v1 = nI k → sh_TO k v2 → d = 24 → post (-4) (yf_concepts, yf_place, yf_size, yf_uses, yf_of, yf_result, yf_says, yb_kind, yb_behind, yb_length, yb_holes, yb_value, yb_kinds, yb_origin, yb_values, yb_parent, yb_span, yb_todo, yb_within, yb_under, yb_stands, yb_outer, yb_from, yb_left, yb_variable, yb_saved, yb_worth, yb_said, yb_work, yb_phase))
    (hG : ∀ k, k < 22 → v1 = nI k → sh_TO k v2 → d < 24 → post (nI (d + 1)) (yf_concepts, yf_place, yf_size, yf_uses, yf_of, yf_result, yf_says, upd yb_kind (240 + d) (nI k), yb_behind, upd yb_length 10 (nI (d + 1)), yb_holes, upd yb_value (240 + d) v2, yb_kinds, yb_origin, yb_values, yb_parent, yb_span, yb_todo, yb_within, yb_under, yb_stands, yb_outer, yb_from, yb_left, yb_variable, yb_saved, yb_worth, yb_said, yb_work, yb_phase)) :
    wpY_token post (yf_concepts, yf_place, yf_size, yf_uses, yf_of, yf_result, yf_says, yb_kind, yb_behind, yb_length, yb_holes, yb_value, yb_kinds, yb_origin, yb_values, yb_parent, yb_span, yb_todo, yb_within, yb_under, yb_stands, yb_outer, yb_from, yb_left, yb_variable, yb_saved, yb_worth, yb_said, yb_work, yb_phase) v1 v2 := by
  have inj : ∀ {k k' : Nat}, k < 22 → k' < 22 → nI k = nI k' → k = k' := fun h h' e => (nI_eq (by omega) (by omega)).mp e
  have k64 : ∀ k, k < 22 → v1 = nI k → sh_TO k v2 → wY_token_64 post v1 v2 yf_concepts yf_place yf_size yf_uses yf_of yf_result yf_says yb_kind yb_behind yb_length yb_holes yb_value yb_kinds yb_origin yb_values yb_parent yb_span yb_todo yb_within yb_under yb_stands yb_outer yb_from yb_left yb_variable yb_saved yb_worth yb_said yb_work yb_phase := by
    intro k hk e ok
    have e2 : (240 : Int32) + yb_length 10 = nI (240 + d) := by rw [ed]; exact nI_add 240 d
    have c1 : ((240 : Int32) + yb_length 10).toNatClampNeg = 240 + d := by rw [e2]; exact nI_clamp (by omega)
    refine br_c (fun h => ?_) (fun h => ?_)
    · rw [ed] at h
      exact hFu k hk e ok ((nI_eq (b := 24) (by omega) (by omega)).mp h)
    · have hd' : d < 24 := by
        rw [ed] at h
        have : d ≠ 24 := fun z => h (by rw [z]; rfl)
        omega
      have i2 : vp_in ((240 : Int32) + yb_length 10) 264 := by rw [e2]; exact vp_in_nI (by omega) (by omega)
      subst e
      refine ⟨i2, nm_r (e' := upd yb_kind (240 + d) (nI k)) (by rw [c1, sh_n8 (by omega)]) (nm_r (e' := upd yb_length 10 (nI (d + 1))) (by rw [ed, nI_1, sh_n8 (by omega)]) ⟨i2, nm_r (e' := upd yb_value (240 + d) v2) (by rw [c1]) ?_⟩)⟩
      rw [show upd yb_length 10 (nI (d + 1)) 10 = nI (d + 1) from pk_us]
      exact hG k hk rfl ok hd'
  have k47 : ∀ k, k < 22 → v1 = nI k → (k ≤ 10 ∨ 16 ≤ k) → (k = 1 ∨ k = 7 → ¬ v2 ≤ -3 ∧ ¬ 10 ≤ v2) → wY_token_47 post v1 v2 yf_concepts yf_place yf_size yf_uses yf_of yf_result yf_says yb_kind yb_behind yb_length yb_holes yb_value yb_kinds yb_origin yb_values yb_parent yb_span yb_todo yb_within yb_under yb_stands yb_outer yb_from yb_left yb_variable yb_saved yb_worth yb_said yb_work yb_phase := by
    intro k hk e h h17
    refine br_c (fun q => ?_) (fun q => k64 k hk e ⟨h, h17, fun z => absurd (by rw [e, z]; rfl) q⟩)
    have k9 : k = 9 := inj (k' := 9) hk (by omega) (e.symm.trans q)
    refine ys_out (v := v2) 3 (by omega) rfl (fun w => br_f (by decide) (hB (fun k' hk' e' t => ?_))) (fun j hj w => br_t rfl (k64 k hk e ⟨h, h17, fun _ => ⟨j, hj, w⟩⟩))
    have := inj hk hk' (e.symm.trans e')
    subst this
    obtain ⟨j, hj, ej⟩ := t.2.2 k9
    rcases w with w | w
    · rw [ej] at w; exact nI_pos (by omega) w
    · rw [ej] at w; exact nI_ge hj (by omega) w
  have k24 : ∀ k, k < 22 → v1 = nI k → (k ≤ 10 ∨ 16 ≤ k) → wY_token_24 post v1 v2 yf_concepts yf_place yf_size yf_uses yf_of yf_result yf_says yb_kind yb_behind yb_length yb_holes yb_value yb_kinds yb_origin yb_values yb_parent yb_span yb_todo yb_within yb_under yb_stands yb_outer yb_from yb_left yb_variable yb_saved yb_worth yb_said yb_work yb_phase := by
    intro k hk e h
    have k35 : k = 1 ∨ k = 7 → wY_token_35 post v1 v2 yf_concepts yf_place yf_size yf_uses yf_of yf_result yf_says yb_kind yb_behind yb_length yb_holes yb_value yb_kinds yb_origin yb_values yb_parent yb_span yb_todo yb_within yb_under yb_stands yb_outer yb_from yb_left yb_variable yb_saved yb_worth yb_said yb_work yb_phase := by
      intro hkv
      refine br_c (fun q => hB (fun k' hk' e' t => ?_)) (fun q => br_c (fun w => hB (fun k' hk' e' t => ?_)) (fun w => k47 k hk e h (fun _ => ⟨fun z => q ((sh_lt2 v2).mpr z), fun z => w ((sh_lt9 v2).mpr z)⟩)))
      · have := inj hk hk' (e.symm.trans e')
        subst this
        exact (t.2.1 hkv).1 ((sh_lt2 v2).mp q)
      · have := inj hk hk' (e.symm.trans e')
        subst this
        exact (t.2.1 hkv).2 ((sh_lt9 v2).mp w)
    subst e
    refine pk_eq k 1 (fun q => k35 (Or.inl q)) (fun h1 => pk_eq k 7 (fun q => k35 (Or.inr q)) (fun h7 => k47 k hk rfl h (fun z => by omega)))
  unfold wpY_token
  refine ys_out (v := v1) 22 (by omega) rfl (fun h => br_f (by decide) (hB (fun k hk e t => ?_))) (fun k hk e => br_t rfl ?_)
  · rcases h with h | h
    · rw [e] at h; exact nI_pos (by omega) h
    · rw [e] at h; exact nI_ge hk (by omega) h
  · have e0 := e
    subst e
    refine pk_le k 10 (fun q => k24 k hk rfl (Or.inl q)) (fun q => pk_le 16 k (fun w => k24 k hk rfl (Or.inr w)) (fun w => hB (fun k' hk' e' t => ?_)))
    have := inj hk hk' e'
    subst this
    have := t.1
    omega
end YTK
theorem sh_vr {v : Int32} (h1 : ¬ v ≤ -3) (h2 : ¬ 10 ≤ v) : (∃ j, j < 10 ∧ v = nI j) ∨ v = -1 ∨ v = -2 := by
  by_cases h0 : v < 0
  · right
    have a : ¬ v.toInt ≤ (-3 : Int32).toInt := fun z => h1 (Int32.le_iff_toInt_le.mpr z)
    have b : v.toInt < (0 : Int32).toInt := Int32.lt_iff_toInt_lt.mp h0
    rw [show (-3 : Int32).toInt = -3 by decide] at a
    rw [show (0 : Int32).toInt = 0 by decide] at b
    by_cases c : v.toInt = -1
    · left; exact Int32.toInt_inj.mp (c.trans (by decide))
    · right; exact Int32.toInt_inj.mp ((show v.toInt = -2 by omega).trans (by decide))
  · left
    obtain ⟨j, hj, e⟩ := nI_of h0
    refine ⟨j, ?_, e⟩
    rw [e] at h2
    have : ¬ 10 ≤ j := fun z => h2 ((nI_leI (a := 10) (by omega) hj).mpr z)
    omega
theorem i_vc_token {k : Nat} {u : SX} {v : SY} (I : i_Rel k u v) (hk : k + 5 ≤ 2560) (v1 : Int32) (v2 : Int32) : wpX_token (fun r u' => wpY_token (fun r' v' => r' = r ∧ i_Rel (k + 5) u' v') v v1 v2) u v1 v2 := by
  refine zz_el (P := fun u v => wpX_token (fun r u' => wpY_token (fun r' v' => r' = r ∧ i_Rel (k + 5) u' v') v v1 v2) u v1 v2) ?_ I
  intro xf_concepts xf_drafted xf_place xf_frames xf_node xf_frame xf_above xf_depth xf_top xf_lets xf_says xf_result xa_tok xa_end xa_num xa_length xa_holes xa_draft xa_draftNum xa_copies xa_tokens xa_replaced xa_deep xa_lies xa_ofKind xa_caller xa_number xa_size0 xa_size1 xa_size2 xa_uses0 xa_uses1 xa_uses2 xa_useAt xa_begun xa_workNode xa_stage xa_workFrame xa_values xa_bound xa_boundTo xa_output xa_given yf_concepts yf_place yf_size yf_uses yf_of yf_result yf_says yb_kind yb_behind yb_length yb_holes yb_value yb_kinds yb_origin yb_values yb_parent yb_span yb_todo yb_within yb_under yb_stands yb_outer yb_from yb_left yb_variable yb_saved yb_worth yb_said yb_work yb_phase R
  have R' := R
  obtain ⟨g, cc, hi, d, dk, dv, sy, P, ⟨c1, c2, c3, c4, c5, c6⟩, hl, hh, ⟨d1, d2, d3⟩, XP, YP, Ca, hr⟩ := R'
  have inj : ∀ {k k' : Nat}, k < 22 → k' < 22 → nI k = nI k' → k = k' := fun h h' e => (nI_eq (by omega) (by omega)).mp e
  refine xs_token c6 c4 (fun hb => ?_) (fun q hq e t h24 => ?_) (fun q hq e t h24 => ?_)
  · exact ys_token c6 c5 (fun _ => ⟨rfl, R⟩) (fun q hq e t _ => absurd t (hb q hq e)) (fun q hq e t _ => absurd t (hb q hq e))
  · exact ys_token c6 c5 (fun h => absurd t (h q hq e)) (fun _ _ _ _ _ => ⟨rfl, R⟩) (fun _ _ _ _ z => by omega)
  · refine ys_token c6 c5 (fun h => absurd t (h q hq e)) (fun _ _ _ _ z => by omega) (fun q' hq' e' t' _ => ⟨rfl, ?_⟩)
    have := inj hq hq' (e.symm.trans e')
    subst this
    refine ⟨g, cc, hi, d + 1, fun i => if i = d then q else dk i, fun i => if i = d then v2 else dv i, sy, P, ⟨c1, c2, c3, rfl, pk_us, by omega⟩, fun r hr => ⟨(hl r hr).1, by rw [pk_un (by omega)]; exact (hl r hr).2⟩, hh, ⟨fun i hi' => ?_, fun i hi' => ?_, fun i hi' => ?_⟩, XP, fun r hr' i hi' => ?_, Ca, hr⟩
    · dsimp only
      by_cases ei : i = d
      · subst ei
        rw [if_pos rfl, if_pos rfl, pk_us]
        unfold sh_nz
        refine ⟨hq, t.1, fun z => if_pos z, fun a1 a2 a3 a4 => if_neg (by omega), fun z => ?_, fun z => ?_⟩
        · rw [if_pos (by omega)]
          exact sh_vr (t.2.1 z).1 (t.2.1 z).2
        · rw [if_pos (by omega)]
          exact t.2.2 z
      · rw [if_neg ei, if_neg ei, pk_un ei]
        exact d1 i (by omega)
    · dsimp only
      by_cases ei : i = d
      · subst ei; rw [if_pos rfl, pk_us]
      · rw [if_neg ei, pk_un ei]; exact d2 i (by omega)
    · dsimp only
      by_cases ei : i = d
      · subst ei; rw [if_pos rfl, if_pos rfl, pk_us, pk_us]; exact ⟨rfl, rfl⟩
      · rw [if_neg ei, if_neg ei, pk_un (by omega), pk_un (by omega)]; exact d3 i (by omega)
    · have y := YP r hr' i hi'
      have hb : sh_yd r i < 240 := by
        have h6 := P.2.1
        unfold sh_IR at hi'
        unfold sh_yd
        rcases hr' with z | z
        · have := P.2.2.2.1 r z; omega
        · have := P.2.2.2.2.1 (r - 6) (by omega)
          rw [show 6 + (r - 6) = r by omega] at this
          omega
      refine ⟨by rw [pk_un (by omega)]; exact y.1, y.2.1, fun z => by rw [pk_un (by omega)]; exact y.2.2 z⟩
end
section
/-! size, uses, kinds, depth -/
section XO4
variable {xf_concepts xf_drafted xf_place xf_frames xf_node xf_frame xf_above xf_depth xf_top xf_lets xf_says xf_result : Int32} {xa_tok xa_end xa_num xa_length xa_holes xa_draft xa_draftNum xa_copies xa_tokens xa_replaced xa_deep xa_lies xa_ofKind xa_caller xa_number xa_size0 xa_size1 xa_size2 xa_uses0 xa_uses1 xa_uses2 xa_useAt xa_begun xa_workNode xa_stage xa_workFrame xa_values xa_bound xa_boundTo xa_output xa_given : Nat → Int32} {g : sh_G} {cc hi s : Nat}
theorem xs_oB {post : Int32 → Prop} {p0 : Int32} (h : p0 < 0 ∨ nI 4 ≤ p0) (K : post (-3)) : wpX_other post (xf_concepts, xf_drafted, xf_place, xf_frames, xf_node, xf_frame, xf_above, xf_depth, xf_top, xf_lets, xf_says, xf_result, xa_tok, xa_end, xa_num, xa_length, xa_holes, xa_draft, xa_draftNum, xa_copies, xa_tokens, xa_replaced, xa_deep, xa_lies, xa_ofKind, xa_caller, xa_number, xa_size0, xa_size1, xa_size2, xa_uses0, xa_uses1, xa_uses2, xa_useAt, xa_begun, xa_workNode, xa_stage, xa_workFrame, xa_values, xa_bound, xa_boundTo, xa_output, xa_given) p0 := by
  unfold wpX_other
  refine xs_among (v := p0) 4 (by omega) rfl (fun _ => br_t rfl K) (fun j hj e => ?_)
  exfalso
  rcases h with h | h
  · rw [e] at h; exact nI_pos (by omega) h
  · rw [e] at h; exact nI_ge hj (by omega) h
theorem xs_o (P : sh_Pg g cc hi) (XP : xs_XP g hi xa_tok xa_end xa_num xa_copies xa_tokens xa_replaced xa_deep xa_lies xa_ofKind) (hl : ∀ r, r < 10 → xa_length r = nI (sh_ln g r)) (hs : s < 4) {post : Int32 → Prop}
    (h0 : sh_ln g (6 + s) = 0 → post 0) (hL : 1 ≤ sh_ln g (6 + s) → 2000 < sh_T g (sh_ro s) ∨ 2000 < sh_R g (sh_ro s) → post (-2)) (h1 : 1 ≤ sh_ln g (6 + s) → sh_T g (sh_ro s) ≤ 2000 → sh_R g (sh_ro s) ≤ 2000 → post 1) : wpX_other post (xf_concepts, xf_drafted, xf_place, xf_frames, xf_node, xf_frame, xf_above, xf_depth, xf_top, xf_lets, xf_says, xf_result, xa_tok, xa_end, xa_num, xa_length, xa_holes, xa_draft, xa_draftNum, xa_copies, xa_tokens, xa_replaced, xa_deep, xa_lies, xa_ofKind, xa_caller, xa_number, xa_size0, xa_size1, xa_size2, xa_uses0, xa_uses1, xa_uses2, xa_useAt, xa_begun, xa_workNode, xa_stage, xa_workFrame, xa_values, xa_bound, xa_boundTo, xa_output, xa_given) (nI s) := by
  have inj : ∀ s', s' < 4 → nI s = nI s' → s' = s := fun s' h e => ((nI_eq (by omega) (by omega)).mp e).symm
  refine xs_other (g := g) P XP hl (fun h => ?_) (fun s' hs' e => by have := inj s' hs' e; subst this; exact h0) (fun s' hs' e => by have := inj s' hs' e; subst this; exact hL) (fun s' hs' e => by have := inj s' hs' e; subst this; exact h1)
  exfalso
  rcases h with h | h
  · exact nI_pos (by omega) h
  · exact nI_ge hs (by omega) h
theorem xs_rofs (hs : s < 4) : (72 : Int32) + 24 * nI s = nI (sh_ro s) := by
  have a : (24 : Int32) * nI s = nI (24 * s) := pk_mul 24 s
  rw [a]; exact nI_add 72 _
end XO4
section YO4
variable {yf_concepts yf_place yf_size yf_uses yf_of yf_result yf_says : Int32} {yb_kind yb_behind yb_length yb_holes yb_value yb_kinds yb_origin yb_values yb_parent yb_span yb_todo yb_within yb_under yb_stands yb_outer yb_from yb_left yb_variable yb_saved yb_worth yb_said yb_work yb_phase : Nat → Int32} {g : sh_G} {cc hi s : Nat}
theorem ys_oB {post : Int32 → Prop} {p0 : Int32} (h : p0 < 0 ∨ nI 4 ≤ p0) (K : post 1) : wpY_out post p0 4 := by
  refine ys_out (v := p0) 4 (by omega) rfl (fun _ => K) (fun j hj e => ?_)
  exfalso
  rcases h with h | h
  · rw [e] at h; exact nI_pos (by omega) h
  · rw [e] at h; exact nI_ge hj (by omega) h
theorem ys_oG {post : Int32 → Prop} {n : Nat} {w : Int32} (hs : s < n) (hn : n < 2 ^ 31) (hw : w = nI n) (K : post 0) : wpY_out post (nI s) w := by
  refine ys_out (v := nI s) n hn hw (fun h => ?_) (fun j hj e => K)
  exfalso
  rcases h with h | h
  · exact nI_pos (by omega) h
  · exact nI_ge hs hn h
theorem ys_size {post : Int32 → SY → Prop} (P : sh_Pg g cc hi) (YP : ys_YP g hi yb_kind yb_value yb_behind) (hs : s < 4) (hl : yb_length (6 + s) = nI (sh_ln g (6 + s)))
    (Ca : sh_Ca g cc hi yf_of yf_size yf_uses yb_kinds yb_origin yb_values yb_parent yb_span)
    (K : ∀ x r z v kds ogn vls prt sp td wi un st ou fr, sh_Ex g cc hi s z v kds ogn vls prt sp r → (sh_ln g (6 + s) = 0 → x = 0) → (1 ≤ sh_ln g (6 + s) → r = 0 → x = -2) → (1 ≤ sh_ln g (6 + s) → r = 1 → x = z) →
      post x (yf_concepts, yf_place, z, v, nI s, yf_result, yf_says, yb_kind, yb_behind, yb_length, yb_holes, yb_value, kds, ogn, vls, prt, sp, td, wi, un, st, ou, fr, yb_left, yb_variable, yb_saved, yb_worth, yb_said, yb_work, yb_phase)) :
    wpY_size post (yf_concepts, yf_place, yf_size, yf_uses, yf_of, yf_result, yf_says, yb_kind, yb_behind, yb_length, yb_holes, yb_value, yb_kinds, yb_origin, yb_values, yb_parent, yb_span, yb_todo, yb_within, yb_under, yb_stands, yb_outer, yb_from, yb_left, yb_variable, yb_saved, yb_worth, yb_said, yb_work, yb_phase) (nI s) := by
  unfold wpY_size
  refine ys_oG hs (by omega) rfl (br_t rfl (ys_expanded (g := g) P YP hs hl Ca (fun r z v kds ogn vls prt sp td wi un st ou fr E => ?_)))
  refine ys_asked (g := g) (cc := cc) (hi := hi) (r := r) P hs hl rfl E (fun h => ?_) (fun h q => ?_) (fun h q => ?_)
  · exact K 0 r z v kds ogn vls prt sp td wi un st ou fr E (fun _ => rfl) (fun z => by omega) (fun z => by omega)
  · exact K (-2) r z v kds ogn vls prt sp td wi un st ou fr E (fun _ => by omega) (fun _ _ => rfl) (fun _ w => by rw [q] at w; exact absurd w (by decide))
  · exact K z r z v kds ogn vls prt sp td wi un st ou fr E (fun _ => by omega) (fun _ w => by rw [q] at w; exact absurd w (by decide)) (fun _ _ => rfl)
theorem ys_uses {post : Int32 → SY → Prop} (P : sh_Pg g cc hi) (YP : ys_YP g hi yb_kind yb_value yb_behind) (hs : s < 4) (hl : yb_length (6 + s) = nI (sh_ln g (6 + s)))
    (Ca : sh_Ca g cc hi yf_of yf_size yf_uses yb_kinds yb_origin yb_values yb_parent yb_span)
    (K : ∀ x r z v kds ogn vls prt sp td wi un st ou fr, sh_Ex g cc hi s z v kds ogn vls prt sp r → (sh_ln g (6 + s) = 0 → x = 0) → (1 ≤ sh_ln g (6 + s) → r = 0 → x = -2) → (1 ≤ sh_ln g (6 + s) → r = 1 → x = v) →
      post x (yf_concepts, yf_place, z, v, nI s, yf_result, yf_says, yb_kind, yb_behind, yb_length, yb_holes, yb_value, kds, ogn, vls, prt, sp, td, wi, un, st, ou, fr, yb_left, yb_variable, yb_saved, yb_worth, yb_said, yb_work, yb_phase)) :
    wpY_uses post (yf_concepts, yf_place, yf_size, yf_uses, yf_of, yf_result, yf_says, yb_kind, yb_behind, yb_length, yb_holes, yb_value, yb_kinds, yb_origin, yb_values, yb_parent, yb_span, yb_todo, yb_within, yb_under, yb_stands, yb_outer, yb_from, yb_left, yb_variable, yb_saved, yb_worth, yb_said, yb_work, yb_phase) (nI s) := by
  unfold wpY_uses
  refine ys_oG hs (by omega) rfl (br_t rfl (ys_expanded (g := g) P YP hs hl Ca (fun r z v kds ogn vls prt sp td wi un st ou fr E => ?_)))
  refine ys_asked (g := g) (cc := cc) (hi := hi) (r := r) P hs hl rfl E (fun h => ?_) (fun h q => ?_) (fun h q => ?_)
  · exact K 0 r z v kds ogn vls prt sp td wi un st ou fr E (fun _ => rfl) (fun z => by omega) (fun z => by omega)
  · exact K (-2) r z v kds ogn vls prt sp td wi un st ou fr E (fun _ => by omega) (fun _ _ => rfl) (fun _ w => by rw [q] at w; exact absurd w (by decide))
  · exact K v r z v kds ogn vls prt sp td wi un st ou fr E (fun _ => by omega) (fun _ w => by rw [q] at w; exact absurd w (by decide)) (fun _ _ => rfl)
end YO4
/-- what is of an expansion that fits, that is large, that is empty -/
theorem sh_Ex_0 {g : sh_G} {cc hi s : Nat} {sz us r : Int32} {kds ogn vls prt sp : Nat → Int32} (h : sh_Ex g cc hi s sz us kds ogn vls prt sp r) (h0 : sh_ln g (6 + s) = 0) : r = 1 ∧ sz = 0 ∧ us = 0 := by
  rcases h with h | h | h
  · exact ⟨h.2.2.2, h.2.1, h.2.2.1⟩
  · have := h.1; omega
  · have := h.1; omega
theorem sh_Ex_L {g : sh_G} {cc hi s : Nat} {sz us r : Int32} {kds ogn vls prt sp : Nat → Int32} (h : sh_Ex g cc hi s sz us kds ogn vls prt sp r) (h0 : 1 ≤ sh_ln g (6 + s)) (hL : 2000 < sh_T g (sh_ro s) ∨ 2000 < sh_R g (sh_ro s)) : r = 0 := by
  rcases h with h | h | h
  · have := h.1; omega
  · exact h.2.2.1
  · have := h.2.1; have := h.2.2.1; omega
theorem sh_Ex_1 {g : sh_G} {cc hi s : Nat} {sz us r : Int32} {kds ogn vls prt sp : Nat → Int32} (h : sh_Ex g cc hi s sz us kds ogn vls prt sp r) (h0 : 1 ≤ sh_ln g (6 + s)) (hT : sh_T g (sh_ro s) ≤ 2000) (hR : sh_R g (sh_ro s) ≤ 2000) :
    r = 1 ∧ sz = nI (sh_T g (sh_ro s)) ∧ us = nI (sh_R g (sh_ro s)) ∧ ∃ S, sh_Cl g cc hi s (sh_T g (sh_ro s)) (sh_R g (sh_ro s)) (sh_Ff g s kds vls ogn prt sp) S ∧ S (sh_ro s) [] 0 0 0 := by
  rcases h with h | h | h
  · have := h.1; omega
  · have := h.2.1; omega
  · exact h.2.2.2
theorem i_vc_size {k : Nat} {u : SX} {v : SY} (I : i_Rel k u v) (hk : k + 5 ≤ 2560) (v1 : Int32) : wpX_size (fun r => wpY_size (fun r' v' => r' = r ∧ i_Rel (k + 5) u v') v v1) u v1 := by
  refine zz_el (P := fun u v => wpX_size (fun r => wpY_size (fun r' v' => r' = r ∧ i_Rel (k + 5) u v') v v1) u v1) ?_ I
  intro xf_concepts xf_drafted xf_place xf_frames xf_node xf_frame xf_above xf_depth xf_top xf_lets xf_says xf_result xa_tok xa_end xa_num xa_length xa_holes xa_draft xa_draftNum xa_copies xa_tokens xa_replaced xa_deep xa_lies xa_ofKind xa_caller xa_number xa_size0 xa_size1 xa_size2 xa_uses0 xa_uses1 xa_uses2 xa_useAt xa_begun xa_workNode xa_stage xa_workFrame xa_values xa_bound xa_boundTo xa_output xa_given yf_concepts yf_place yf_size yf_uses yf_of yf_result yf_says yb_kind yb_behind yb_length yb_holes yb_value yb_kinds yb_origin yb_values yb_parent yb_span yb_todo yb_within yb_under yb_stands yb_outer yb_from yb_left yb_variable yb_saved yb_worth yb_said yb_work yb_phase R
  have R' := R
  obtain ⟨g, cc, hi, d, dk, dv, sy, P, hc, hl, hh, hd, XP, YP, Ca, hr⟩ := R'
  have hlx : ∀ r, r < 10 → xa_length r = nI (sh_ln g r) := fun r h => (hl r h).1
  unfold wpX_size
  rcases pk_ix v1 (n := 4) (by omega) with h | h | ⟨s, hs, rfl⟩
  · refine xs_oB (Or.inl h) (br_f (by decide) ?_)
    unfold wpY_size
    exact ys_oB (Or.inl h) (br_f (by decide) ⟨rfl, R⟩)
  · refine xs_oB (Or.inr h) (br_f (by decide) ?_)
    unfold wpY_size
    exact ys_oB (Or.inr h) (br_f (by decide) ⟨rfl, R⟩)
  · have hly := (hl (6 + s) (by omega)).2
    refine xs_o (g := g) P XP hlx hs (fun h0 => br_f (by decide) (ys_size (g := g) P YP hs hly Ca (fun x r z v kds ogn vls prt sp td wi un st ou fr E e0 e1 e2 => ⟨e0 h0, ⟨g, cc, hi, d, dk, dv, sy, P, hc, hl, hh, hd, XP, YP, Or.inr ⟨s, r, hs, rfl, E⟩, hr⟩⟩)))
      (fun h1 hL => br_f (by decide) (ys_size (g := g) P YP hs hly Ca (fun x r z v kds ogn vls prt sp td wi un st ou fr E e0 e1 e2 => ⟨e1 h1 (sh_Ex_L E h1 hL), ⟨g, cc, hi, d, dk, dv, sy, P, hc, hl, hh, hd, XP, YP, Or.inr ⟨s, r, hs, rfl, E⟩, hr⟩⟩)))
      (fun h1 hT hR => br_t (by decide) ?_)
    have hro : sh_ro s < 168 := by unfold sh_ro; omega
    have er := xs_rofs hs
    have X := xs_ro_x P XP hs h1
    refine ⟨by rw [er]; exact vp_in_nI hro (by omega), ?_⟩
    rw [er, nI_clamp (by omega), X.1, sh_sat_id (by omega)]
    refine ys_size (g := g) P YP hs hly Ca (fun x r z v kds ogn vls prt sp td wi un st ou fr E e0 e1 e2 => ⟨?_, ⟨g, cc, hi, d, dk, dv, sy, P, hc, hl, hh, hd, XP, YP, Or.inr ⟨s, r, hs, rfl, E⟩, hr⟩⟩)
    have q := sh_Ex_1 E h1 hT hR
    rw [e2 h1 q.1]; exact q.2.1
theorem i_vc_uses {k : Nat} {u : SX} {v : SY} (I : i_Rel k u v) (hk : k + 5 ≤ 2560) (v1 : Int32) : wpX_uses (fun r => wpY_uses (fun r' v' => r' = r ∧ i_Rel (k + 5) u v') v v1) u v1 := by
  refine zz_el (P := fun u v => wpX_uses (fun r => wpY_uses (fun r' v' => r' = r ∧ i_Rel (k + 5) u v') v v1) u v1) ?_ I
  intro xf_concepts xf_drafted xf_place xf_frames xf_node xf_frame xf_above xf_depth xf_top xf_lets xf_says xf_result xa_tok xa_end xa_num xa_length xa_holes xa_draft xa_draftNum xa_copies xa_tokens xa_replaced xa_deep xa_lies xa_ofKind xa_caller xa_number xa_size0 xa_size1 xa_size2 xa_uses0 xa_uses1 xa_uses2 xa_useAt xa_begun xa_workNode xa_stage xa_workFrame xa_values xa_bound xa_boundTo xa_output xa_given yf_concepts yf_place yf_size yf_uses yf_of yf_result yf_says yb_kind yb_behind yb_length yb_holes yb_value yb_kinds yb_origin yb_values yb_parent yb_span yb_todo yb_within yb_under yb_stands yb_outer yb_from yb_left yb_variable yb_saved yb_worth yb_said yb_work yb_phase R
  have R' := R
  obtain ⟨g, cc, hi, d, dk, dv, sy, P, hc, hl, hh, hd, XP, YP, Ca, hr⟩ := R'
  have hlx : ∀ r, r < 10 → xa_length r = nI (sh_ln g r) := fun r h => (hl r h).1
  unfold wpX_uses
  rcases pk_ix v1 (n := 4) (by omega) with h | h | ⟨s, hs, rfl⟩
  · refine xs_oB (Or.inl h) (br_f (by decide) ?_)
    unfold wpY_uses
    exact ys_oB (Or.inl h) (br_f (by decide) ⟨rfl, R⟩)
  · refine xs_oB (Or.inr h) (br_f (by decide) ?_)
    unfold wpY_uses
    exact ys_oB (Or.inr h) (br_f (by decide) ⟨rfl, R⟩)
  · have hly := (hl (6 + s) (by omega)).2
    refine xs_o (g := g) P XP hlx hs (fun h0 => br_f (by decide) (ys_uses (g := g) P YP hs hly Ca (fun x r z v kds ogn vls prt sp td wi un st ou fr E e0 e1 e2 => ⟨e0 h0, ⟨g, cc, hi, d, dk, dv, sy, P, hc, hl, hh, hd, XP, YP, Or.inr ⟨s, r, hs, rfl, E⟩, hr⟩⟩)))
      (fun h1 hL => br_f (by decide) (ys_uses (g := g) P YP hs hly Ca (fun x r z v kds ogn vls prt sp td wi un st ou fr E e0 e1 e2 => ⟨e1 h1 (sh_Ex_L E h1 hL), ⟨g, cc, hi, d, dk, dv, sy, P, hc, hl, hh, hd, XP, YP, Or.inr ⟨s, r, hs, rfl, E⟩, hr⟩⟩)))
      (fun h1 hT hR => br_t (by decide) ?_)
    have hro : sh_ro s < 168 := by unfold sh_ro; omega
    have er := xs_rofs hs
    have X := xs_ro_x P XP hs h1
    refine ⟨by rw [er]; exact vp_in_nI hro (by omega), ?_⟩
    rw [er, nI_clamp (by omega), X.2.1, sh_sat_id (by omega)]
    refine ys_uses (g := g) P YP hs hly Ca (fun x r z v kds ogn vls prt sp td wi un st ou fr E e0 e1 e2 => ⟨?_, ⟨g, cc, hi, d, dk, dv, sy, P, hc, hl, hh, hd, XP, YP, Or.inr ⟨s, r, hs, rfl, E⟩, hr⟩⟩)
    have q := sh_Ex_1 E h1 hT hR
    rw [e2 h1 q.1]; exact q.2.2.1
end
section
/-! kinds, depth -/
section COV
variable {g : sh_G} {cc hi s N U : Nat} {F S : Nat → List (Nat × Nat) → Nat → Nat → Nat → Prop}
theorem sh_cover (P : sh_Pg g cc hi) (hs : s < 4) (H : sh_Cl g cc hi s N U F S) : ∀ i r p u a, S i r p u a → ∀ k, p ≤ k → k < p + sh_eT g i r → ∃ i' r' u' a', S i' r' k u' a' ∧ sh_tk g i' < 16 ∧ sh_tk g i' ≠ 9 := by
  refine sh_ind P hs H (fun i r p u a => ∀ k, p ≤ k → k < p + sh_eT g i r → ∃ i' r' u' a', S i' r' k u' a' ∧ sh_tk g i' < 16 ∧ sh_tk g i' ≠ 9) ?_ ?_ ?_
  · intro i r p u a hS hk e
    have w := sh_gu P hs (H i r p u a hS).1.1 hk u
    rw [w.2.1]; exact e
  · intro i i' u' r' v p u a hS hk hn hv hv' G5 h16 c1 hS' e
    obtain ⟨i3, u3, r3, v3, e3, hv3, hv3', hn3, h13, c13, h53, G', eT, eR, eK, _⟩ := sh_gh P hs (H i _ p u a hS).1.1 hk
    cases e3
    have : v = v3 := (nI_eq (by omega) (by omega)).mp (hn.symm.trans hn3)
    subst this
    rw [eT]; exact e
  · intro i r p u a hS hk h9 e k k1 k2
    by_cases ek : k = p
    · subst ek; exact ⟨i, r, u, a, hS, hk, h9⟩
    · have w := sh_gp P hs (H i r p u a hS).1.1 hk h9
      obtain ⟨j, j1, j2, j3⟩ := sh_child (n := sh_an g i) (lf := k - p - 1) (f := fun k => sh_eT g (sh_op g i k) r) (by have := w.2.1; omega)
      have e3 : sh_sm (j + 1) (fun k => sh_eT g (sh_op g i k) r) = sh_sm j (fun k => sh_eT g (sh_op g i k) r) + sh_eT g (sh_op g i j) r := rfl
      exact e j j1 k (by omega) (by omega)
/-- parents and levels of an expansion that fits -/
theorem sh_depths (P : sh_Pg g cc hi) (hs : s < 4) {kds vls ogn prt sp : Nat → Int32} (H : sh_Cl g cc hi s N U (sh_Ff g s kds vls ogn prt sp) S) (hN : N ≤ 2000) {i : Nat} (hS : S i [] 0 0 0) (hT : sh_eT g i [] = N) :
    ∃ lv : Nat → Nat, lv 0 = 1 ∧ (∀ k, 0 < k → k < N → ∃ q, q < k ∧ prt k = nI q ∧ lv k = lv q + 1) ∧ sh_mx N lv = sh_ed g i [] := by
  have par : ∀ k, 0 < k → k < N → ∃ q, q < k ∧ prt k = nI q := by
    intro k k1 k2
    obtain ⟨i', r', u', a', h1, h2, h3⟩ := sh_cover P hs H _ _ _ _ _ hS k (Nat.zero_le _) (by omega)
    have OK := (H _ _ _ _ _ h1).1
    have f := ((H _ _ _ _ _ h1).2.2.2 h2 h3).1
    rcases OK.2.2.2 with z | z
    · omega
    · obtain ⟨q, rfl⟩ : ∃ q, a' = q + 1 := ⟨a' - 1, by omega⟩
      exact ⟨q, by omega, by rw [f.2.2.2.1, sh_m1a]⟩
  obtain ⟨lv, hlv⟩ := sh_lv_ex (fun k => (prt k).toNatClampNeg) N (fun k k1 k2 => by
    obtain ⟨q, q1, q2⟩ := par k k1 k2
    show (prt k).toNatClampNeg < k
    rw [q2, nI_clamp (by omega)]; exact q1)
  have pos := sh_pos P hs _ _ _ (Nat.lt_succ_self _) (H _ _ _ _ _ hS).1.1
  have lvk : ∀ k, 0 < k → k < N → ∃ q, q < k ∧ prt k = nI q ∧ lv k = lv q + 1 := by
    intro k k1 k2
    obtain ⟨q, q1, q2⟩ := par k k1 k2
    refine ⟨q, q1, q2, ?_⟩
    rw [hlv k k2, if_neg (by omega), q2, nI_clamp (by omega)]
  have lv0 : lv 0 = 1 := by rw [hlv 0 (by omega), if_pos rfl]
  refine ⟨lv, lv0, lvk, ?_⟩
  have L := sh_levels P hs H (lv := lv) (fun i r p u a f hx => by
    have OK := (H _ _ _ _ _ hx).1
    have ps := sh_pos P hs _ _ _ (Nat.lt_succ_self _) OK.1
    rcases OK.2.2.2 with z | z
    · rw [z.1, z.2, lv0]; rfl
    · obtain ⟨q, rfl⟩ : ∃ q, a = q + 1 := ⟨a - 1, by omega⟩
      obtain ⟨q', q1, q2, q3⟩ := lvk p (by omega) (by have := OK.2.1; omega)
      have e : nI q' = nI q := q2.symm.trans (by rw [f.2.2.2.1, sh_m1a])
      have : q' = q := (nI_eq (by have := OK.2.1; omega) (by have := OK.2.1; omega)).mp e
      rw [q3, this]
      show _ = (if q + 1 = 0 then 0 else lv (q + 1 - 1)) + 1
      rw [if_neg (by omega)]; rfl) i [] 0 0 0 hS
  refine sh_eqle (fun n => ?_)
  rw [sh_mx_le]
  have e := L n
  rw [hT] at e
  have la : sh_la lv 0 = 0 := rfl
  rw [la] at e
  simp only [Nat.zero_add] at e
  rw [← e]
  exact ⟨fun h k _ k2 => h k (by omega), fun h k k2 => h k (Nat.zero_le _) (by omega)⟩
theorem sh_ed_ro (P : sh_Pg g cc hi) (hs : s < 4) (h1 : 1 ≤ sh_ln g (6 + s)) : sh_ed g (sh_ro s) [] = sh_D g (sh_ro s) := by
  have N' := sh_Gd_n P hs (sh_ro_IR P hs h1)
  have hz : ∀ h, h < 3 → sh_L g (sh_ro s) h = 0 := by
    intro h hh
    refine ((N'.2.2.2.1.2 h hh).1).mpr (N'.2.2.2.2 h hh ?_)
    unfold sh_hb
    rw [if_neg (by show ¬ 6 + s < 6; omega)]
    omega
  refine sh_eqle (fun n => ?_)
  rw [sh_ed_le]
  exact ⟨fun h => h.1, fun h => ⟨h, fun x hx => sh_pl_le.mpr (Or.inl (hz x hx))⟩⟩
end COV
section YKD
variable {yf_concepts yf_place yf_size yf_uses yf_of yf_result yf_says : Int32} {yb_kind yb_behind yb_length yb_holes yb_value yb_kinds yb_origin yb_values yb_parent yb_span yb_todo yb_within yb_under yb_stands yb_outer yb_from yb_left yb_variable yb_saved yb_worth yb_said yb_work yb_phase : Nat → Int32} {g : sh_G} {cc hi s : Nat}
theorem ys_k32 {post : Int32 → SY → Prop} {N q : Nat} {x1 : Int32} (hN : N ≤ 2000) (hz : yf_size = nI N) (K : wY_kinds_65 post x1 (nI (sh_sm N (fun j => if yb_kinds j = nI q then 1 else 0))) yf_concepts yf_place yf_size yf_uses yf_of yf_result yf_says yb_kind yb_behind yb_length yb_holes yb_value yb_kinds yb_origin yb_values yb_parent yb_span yb_todo yb_within yb_under yb_stands yb_outer yb_from yb_left yb_variable yb_saved yb_worth yb_said yb_work yb_phase) :
    ∀ d j, j + d = N → wY_kinds_32 post x1 (nI q) 1 yf_concepts yf_place yf_size yf_uses yf_of yf_result yf_says yb_kind yb_behind yb_length yb_holes yb_value yb_kinds yb_origin yb_values yb_parent yb_span yb_todo yb_within yb_under yb_stands yb_outer yb_from yb_left yb_variable yb_saved yb_worth yb_said yb_work yb_phase (d + 1) (nI (sh_sm j (fun j => if yb_kinds j = nI q then 1 else 0))) (nI j) := by
  subst hz
  intro d
  induction d with
  | zero =>
    intro j hj; have e : j = N := by omega
    subst e
    exact br_t (nI_le (Nat.le_refl _) (by omega)) K
  | succ d ih =>
    intro j hj
    have nx := ih (j + 1) (by omega)
    have e1 : sh_sm (j + 1) (fun j => if yb_kinds j = nI q then 1 else 0) = sh_sm j (fun j => if yb_kinds j = nI q then 1 else 0) + (if yb_kinds j = nI q then 1 else 0) := rfl
    rw [e1] at nx
    refine br_f (nI_ge (by omega) (by omega)) (br_f (by decide) ⟨vp_in_nI (by omega) (by omega), ?_⟩)
    rw [nI_clamp (by omega)]
    refine br_c (fun h => nm_r (nI_1 _) (nm_r (nI_1 j) ?_)) (fun h => nm_r (nI_1 j) ?_)
    · rw [if_pos h] at nx; exact nx
    · rw [if_neg h] at nx; exact nx
theorem ys_d22 {post : Int32 → SY → Prop} {N : Nat} {lv : Nat → Nat} {x1 : Int32} (hN : N ≤ 2000) (hz : yf_size = nI N) (h0 : lv 0 = 1) (hlv : ∀ k, 0 < k → k < N → ∃ q, q < k ∧ yb_parent k = nI q ∧ lv k = lv q + 1) (hb : ∀ k, k < N → lv k ≤ k + 1)
    (K : ∀ sv, wY_depth_90 post x1 (nI (sh_mx N lv)) yf_concepts yf_place yf_size yf_uses yf_of yf_result yf_says yb_kind yb_behind yb_length yb_holes yb_value yb_kinds yb_origin yb_values yb_parent yb_span yb_todo yb_within yb_under yb_stands yb_outer yb_from yb_left yb_variable sv yb_worth yb_said yb_work yb_phase) :
    ∀ d j, j + d = N → ∀ sv, (∀ k, k < j → sv k = nI (lv k)) → wY_depth_22 post x1 1 yf_concepts yf_place yf_size yf_uses yf_of yf_result yf_says (d + 1) (nI (sh_mx j lv)) (nI j) yb_kind yb_behind yb_length yb_holes yb_value yb_kinds yb_origin yb_values yb_parent yb_span yb_todo yb_within yb_under yb_stands yb_outer yb_from yb_left yb_variable sv yb_worth yb_said yb_work yb_phase := by
  subst hz
  intro d
  induction d with
  | zero =>
    intro j hj sv _; have e : j = N := by omega
    subst e
    exact br_t (nI_le (Nat.le_refl _) (by omega)) (K sv)
  | succ d ih =>
    intro j hj sv hsv
    have nx := ih (j + 1) (by omega) (upd sv j (nI (lv j))) (fun k hk => by
      by_cases e : k = j
      · subst e; exact pk_us
      · rw [pk_un e]; exact hsv k (by omega))
    have hmx : sh_mx j lv ≤ 2001 := (sh_mx_le j).mpr (fun k hk => by have := hb k (by omega); omega)
    have hlj := hb j (by omega)
    have ij : vp_in (nI j) 2001 := vp_in_nI (by omega) (by omega)
    have k64 : ∀ z0, z0 = nI (lv j) → wY_depth_64 post (wY_depth_22 post x1 1 yf_concepts yf_place (nI N) yf_uses yf_of yf_result yf_says (d + 1)) x1 1 (nI (sh_mx j lv)) (nI j) z0 (nI j) yf_concepts yf_place (nI N) yf_uses yf_of yf_result yf_says yb_kind yb_behind yb_length yb_holes yb_value yb_kinds yb_origin yb_values yb_parent yb_span yb_todo yb_within yb_under yb_stands yb_outer yb_from yb_left yb_variable sv yb_worth yb_said yb_work yb_phase := by
      intro z0 ez
      subst ez
      refine ⟨ij, nm_r (e' := upd sv j (nI (lv j))) (by rw [nI_clamp (by omega)]) ⟨ij, ?_⟩⟩
      have c : upd sv j (nI (lv j)) (nI j).toNatClampNeg = nI (lv j) := by rw [nI_clamp (by omega)]; exact pk_us
      rw [c]
      rw [sh_mx_s] at nx
      refine pk_le (lv j) (sh_mx j lv) (fun h => nm_r (nI_1 j) ?_) (fun h => ⟨ij, nm_e (nm_r (nI_1 j) ?_)⟩)
      · by_cases e : sh_mx j lv ≤ lv j
        · rw [if_pos e, show lv j = sh_mx j lv by omega] at nx
          rw [show lv j = sh_mx j lv by omega]
          exact nx
        · rw [if_neg e] at nx; exact nx
      · rw [if_pos (by omega)] at nx; exact nx
    refine br_f (nI_ge (by omega) (by omega)) (br_f (by decide) (pk_eq j 0 (fun h => ?_) (fun h => ⟨ij, ?_⟩)))
    · exact k64 1 (by rw [h, h0]; rfl)
    · obtain ⟨q, q1, q2, q3⟩ := hlv j (by omega) (by omega)
      have c : yb_parent (nI j).toNatClampNeg = nI q := by rw [nI_clamp (by omega)]; exact q2
      rw [c]
      refine ⟨vp_in_nI (by omega) (by omega), k64 _ ?_⟩
      rw [nI_clamp (by omega), hsv q q1, nI_1, q3]
end YKD
theorem i_vc_kinds {k : Nat} {u : SX} {v : SY} (I : i_Rel k u v) (hk : k + 5 ≤ 2560) (v1 : Int32) (v2 : Int32) : wpX_kinds (fun r => wpY_kinds (fun r' v' => r' = r ∧ i_Rel (k + 5) u v') v v1 v2) u v1 v2 := by
  refine zz_el (P := fun u v => wpX_kinds (fun r => wpY_kinds (fun r' v' => r' = r ∧ i_Rel (k + 5) u v') v v1 v2) u v1 v2) ?_ I
  intro xf_concepts xf_drafted xf_place xf_frames xf_node xf_frame xf_above xf_depth xf_top xf_lets xf_says xf_result xa_tok xa_end xa_num xa_length xa_holes xa_draft xa_draftNum xa_copies xa_tokens xa_replaced xa_deep xa_lies xa_ofKind xa_caller xa_number xa_size0 xa_size1 xa_size2 xa_uses0 xa_uses1 xa_uses2 xa_useAt xa_begun xa_workNode xa_stage xa_workFrame xa_values xa_bound xa_boundTo xa_output xa_given yf_concepts yf_place yf_size yf_uses yf_of yf_result yf_says yb_kind yb_behind yb_length yb_holes yb_value yb_kinds yb_origin yb_values yb_parent yb_span yb_todo yb_within yb_under yb_stands yb_outer yb_from yb_left yb_variable yb_saved yb_worth yb_said yb_work yb_phase R
  have R' := R
  obtain ⟨g, cc, hi, d, dk, dv, sy, P, hc, hl, hh, hd, XP, YP, Ca, hr⟩ := R'
  have hlx : ∀ r, r < 10 → xa_length r = nI (sh_ln g r) := fun r h => (hl r h).1
  unfold wpX_kinds
  -- no source
  have bad : v1 < 0 ∨ nI 4 ≤ v1 → wpY_kinds (fun r' v' => r' = -3 ∧ i_Rel (k + 5) (xf_concepts, xf_drafted, xf_place, xf_frames, xf_node, xf_frame, xf_above, xf_depth, xf_top, xf_lets, xf_says, xf_result, xa_tok, xa_end, xa_num, xa_length, xa_holes, xa_draft, xa_draftNum, xa_copies, xa_tokens, xa_replaced, xa_deep, xa_lies, xa_ofKind, xa_caller, xa_number, xa_size0, xa_size1, xa_size2, xa_uses0, xa_uses1, xa_uses2, xa_useAt, xa_begun, xa_workNode, xa_stage, xa_workFrame, xa_values, xa_bound, xa_boundTo, xa_output, xa_given) v') (yf_concepts, yf_place, yf_size, yf_uses, yf_of, yf_result, yf_says, yb_kind, yb_behind, yb_length, yb_holes, yb_value, yb_kinds, yb_origin, yb_values, yb_parent, yb_span, yb_todo, yb_within, yb_under, yb_stands, yb_outer, yb_from, yb_left, yb_variable, yb_saved, yb_worth, yb_said, yb_work, yb_phase) v1 v2 := by
    intro h
    unfold wpY_kinds
    exact ys_oB h (br_f (by decide) ⟨rfl, R⟩)
  have bad1 : ∀ r1 : Int32, r1 = -3 → (v1 < 0 ∨ nI 4 ≤ v1) → wpX_among (fun r_45 => (r_45 = 0 → wpY_kinds (fun r' v' => r' = -3 ∧ i_Rel (k + 5) (xf_concepts, xf_drafted, xf_place, xf_frames, xf_node, xf_frame, xf_above, xf_depth, xf_top, xf_lets, xf_says, xf_result, xa_tok, xa_end, xa_num, xa_length, xa_holes, xa_draft, xa_draftNum, xa_copies, xa_tokens, xa_replaced, xa_deep, xa_lies, xa_ofKind, xa_caller, xa_number, xa_size0, xa_size1, xa_size2, xa_uses0, xa_uses1, xa_uses2, xa_useAt, xa_begun, xa_workNode, xa_stage, xa_workFrame, xa_values, xa_bound, xa_boundTo, xa_output, xa_given) v') (yf_concepts, yf_place, yf_size, yf_uses, yf_of, yf_result, yf_says, yb_kind, yb_behind, yb_length, yb_holes, yb_value, yb_kinds, yb_origin, yb_values, yb_parent, yb_span, yb_todo, yb_within, yb_under, yb_stands, yb_outer, yb_from, yb_left, yb_variable, yb_saved, yb_worth, yb_said, yb_work, yb_phase) v1 v2) ∧ (¬ r_45 = 0 → ((1 ≤ r1 → wpX_rootOf (fun r_48 => vp_in (9 * r_48 + v2) 1512 ∧ wpY_kinds (fun r' v' => r' = xa_ofKind (9 * r_48 + v2).toNatClampNeg ∧ i_Rel (k + 5) (xf_concepts, xf_drafted, xf_place, xf_frames, xf_node, xf_frame, xf_above, xf_depth, xf_top, xf_lets, xf_says, xf_result, xa_tok, xa_end, xa_num, xa_length, xa_holes, xa_draft, xa_draftNum, xa_copies, xa_tokens, xa_replaced, xa_deep, xa_lies, xa_ofKind, xa_caller, xa_number, xa_size0, xa_size1, xa_size2, xa_uses0, xa_uses1, xa_uses2, xa_useAt, xa_begun, xa_workNode, xa_stage, xa_workFrame, xa_values, xa_bound, xa_boundTo, xa_output, xa_given) v') (yf_concepts, yf_place, yf_size, yf_uses, yf_of, yf_result, yf_says, yb_kind, yb_behind, yb_length, yb_holes, yb_value, yb_kinds, yb_origin, yb_values, yb_parent, yb_span, yb_todo, yb_within, yb_under, yb_stands, yb_outer, yb_from, yb_left, yb_variable, yb_saved, yb_worth, yb_said, yb_work, yb_phase) v1 v2) v1) ∧ (¬ 1 ≤ r1 → wpY_kinds (fun r' v' => r' = r1 ∧ i_Rel (k + 5) (xf_concepts, xf_drafted, xf_place, xf_frames, xf_node, xf_frame, xf_above, xf_depth, xf_top, xf_lets, xf_says, xf_result, xa_tok, xa_end, xa_num, xa_length, xa_holes, xa_draft, xa_draftNum, xa_copies, xa_tokens, xa_replaced, xa_deep, xa_lies, xa_ofKind, xa_caller, xa_number, xa_size0, xa_size1, xa_size2, xa_uses0, xa_uses1, xa_uses2, xa_useAt, xa_begun, xa_workNode, xa_stage, xa_workFrame, xa_values, xa_bound, xa_boundTo, xa_output, xa_given) v') (yf_concepts, yf_place, yf_size, yf_uses, yf_of, yf_result, yf_says, yb_kind, yb_behind, yb_length, yb_holes, yb_value, yb_kinds, yb_origin, yb_values, yb_parent, yb_span, yb_todo, yb_within, yb_under, yb_stands, yb_outer, yb_from, yb_left, yb_variable, yb_saved, yb_worth, yb_said, yb_work, yb_phase) v1 v2)))) v2 9 := by
    intro r1 e h
    subst e
    exact xs_among (v := v2) 9 (by omega) rfl (fun _ => br_t rfl (bad h)) (fun _ _ _ => br_f (by decide) (br_f (by decide) (bad h)))
  rcases pk_ix v1 (n := 4) (by omega) with h | h | ⟨s, hs, rfl⟩
  · exact xs_oB (Or.inl h) (bad1 _ rfl (Or.inl h))
  · exact xs_oB (Or.inr h) (bad1 _ rfl (Or.inr h))
  · have hly := (hl (6 + s) (by omega)).2
    -- no kind
    have badk : v2 < 0 ∨ nI 9 ≤ v2 → wpY_kinds (fun r' v' => r' = -3 ∧ i_Rel (k + 5) (xf_concepts, xf_drafted, xf_place, xf_frames, xf_node, xf_frame, xf_above, xf_depth, xf_top, xf_lets, xf_says, xf_result, xa_tok, xa_end, xa_num, xa_length, xa_holes, xa_draft, xa_draftNum, xa_copies, xa_tokens, xa_replaced, xa_deep, xa_lies, xa_ofKind, xa_caller, xa_number, xa_size0, xa_size1, xa_size2, xa_uses0, xa_uses1, xa_uses2, xa_useAt, xa_begun, xa_workNode, xa_stage, xa_workFrame, xa_values, xa_bound, xa_boundTo, xa_output, xa_given) v') (yf_concepts, yf_place, yf_size, yf_uses, yf_of, yf_result, yf_says, yb_kind, yb_behind, yb_length, yb_holes, yb_value, yb_kinds, yb_origin, yb_values, yb_parent, yb_span, yb_todo, yb_within, yb_under, yb_stands, yb_outer, yb_from, yb_left, yb_variable, yb_saved, yb_worth, yb_said, yb_work, yb_phase) (nI s) v2 := by
      intro h
      unfold wpY_kinds
      refine ys_oG hs (by omega) rfl (br_t rfl (ys_out (v := v2) 9 (by omega) rfl (fun _ => br_f (by decide) ⟨rfl, R⟩) (fun j hj e => ?_)))
      exfalso
      rcases h with h | h
      · rw [e] at h; exact nI_pos (by omega) h
      · rw [e] at h; exact nI_ge hj (by omega) h
    have Y : ∀ (x : Int32) (q : Nat), q < 9 → (sh_ln g (6 + s) = 0 → x = 0) → (1 ≤ sh_ln g (6 + s) → 2000 < sh_T g (sh_ro s) ∨ 2000 < sh_R g (sh_ro s) → x = -2) → (1 ≤ sh_ln g (6 + s) → sh_T g (sh_ro s) ≤ 2000 → sh_R g (sh_ro s) ≤ 2000 → x = nI (sh_sat (sh_K g (sh_ro s) q))) →
        wpY_kinds (fun r' v' => r' = x ∧ i_Rel (k + 5) (xf_concepts, xf_drafted, xf_place, xf_frames, xf_node, xf_frame, xf_above, xf_depth, xf_top, xf_lets, xf_says, xf_result, xa_tok, xa_end, xa_num, xa_length, xa_holes, xa_draft, xa_draftNum, xa_copies, xa_tokens, xa_replaced, xa_deep, xa_lies, xa_ofKind, xa_caller, xa_number, xa_size0, xa_size1, xa_size2, xa_uses0, xa_uses1, xa_uses2, xa_useAt, xa_begun, xa_workNode, xa_stage, xa_workFrame, xa_values, xa_bound, xa_boundTo, xa_output, xa_given) v') (yf_concepts, yf_place, yf_size, yf_uses, yf_of, yf_result, yf_says, yb_kind, yb_behind, yb_length, yb_holes, yb_value, yb_kinds, yb_origin, yb_values, yb_parent, yb_span, yb_todo, yb_within, yb_under, yb_stands, yb_outer, yb_from, yb_left, yb_variable, yb_saved, yb_worth, yb_said, yb_work, yb_phase) (nI s) (nI q) := by
      intro x q hq x0 xL x1
      unfold wpY_kinds
      refine ys_oG hs (by omega) rfl (br_t rfl (ys_oG hq (by omega) rfl (br_t rfl (ys_expanded (g := g) P YP hs hly Ca (fun r z v kds ogn vls prt sp td wi un st ou fr E => ?_)))))
      have RR : sh_R0 xf_concepts xf_drafted xf_place xf_says xf_result xa_tok xa_end xa_num xa_length xa_holes xa_draft xa_draftNum xa_copies xa_tokens xa_replaced xa_deep xa_lies xa_ofKind xa_output yf_concepts yf_place z v (nI s) yf_result yf_says yb_kind yb_behind yb_length yb_holes yb_value kds ogn vls prt sp yb_said := ⟨g, cc, hi, d, dk, dv, sy, P, hc, hl, hh, hd, XP, YP, Or.inr ⟨s, r, hs, rfl, E⟩, hr⟩
      have E' := E
      rcases E' with ⟨a1, a2, a3, a4⟩ | ⟨a1, a2, a3, z', v', a4, a5, a6, a7, a8⟩ | ⟨a1, a2, a3, a4, a5, a6, S, Cl, hS⟩
      · subst a2
        refine ⟨1, br_t (by decide) (ys_asked (g := g) (cc := cc) (hi := hi) (r := r) P hs hly rfl E (fun _ => ⟨(x0 a1).symm, RR⟩) (fun w => by omega) (fun w => by omega))⟩
      · have fin := ys_asked (g := g) (cc := cc) (hi := hi) (r := r) (x := 0) (post := fun r' v' => r' = x ∧ i_Rel (k + 5) (xf_concepts, xf_drafted, xf_place, xf_frames, xf_node, xf_frame, xf_above, xf_depth, xf_top, xf_lets, xf_says, xf_result, xa_tok, xa_end, xa_num, xa_length, xa_holes, xa_draft, xa_draftNum, xa_copies, xa_tokens, xa_replaced, xa_deep, xa_lies, xa_ofKind, xa_caller, xa_number, xa_size0, xa_size1, xa_size2, xa_uses0, xa_uses1, xa_uses2, xa_useAt, xa_begun, xa_workNode, xa_stage, xa_workFrame, xa_values, xa_bound, xa_boundTo, xa_output, xa_given) v') (yf_concepts := yf_concepts) (yf_place := yf_place) (yf_result := yf_result) (yf_says := yf_says) (yb_kind := yb_kind) (yb_behind := yb_behind) (yb_length := yb_length) (yb_holes := yb_holes) (yb_value := yb_value) (yb_left := yb_left) (yb_variable := yb_variable) (yb_saved := yb_saved) (yb_worth := yb_worth) (yb_said := yb_said) (yb_work := yb_work) (yb_phase := yb_phase) (yf_size := z) (yf_uses := v) (yf_of := nI s) (yb_kinds := kds) (yb_origin := ogn) (yb_values := vls) (yb_parent := prt) (yb_span := sp) (yb_todo := td) (yb_within := wi) (yb_under := un) (yb_stands := st) (yb_outer := ou) (yb_from := fr) P hs hly rfl E (fun w => by omega) (fun w _ => ⟨(xL w a2).symm, RR⟩) (fun w q => by rw [a3] at q; exact absurd q (by decide))
        refine ⟨1, br_c (fun _ => fin) (fun _ => br_t a3 fin)⟩
      · subst a4
        have eT : sh_eT g (sh_ro s) [] = sh_T g (sh_ro s) := sh_ev_n g _ _
        have cnt := sh_kinds P hs Cl (kds := kds) (fun i r p u a f => f.1) hq _ _ _ _ _ hS
        rw [eT, show sh_eK g q (sh_ro s) [] = sh_K g (sh_ro s) q from sh_ev_n g _ _] at cnt
        have cnt' : sh_sm (sh_T g (sh_ro s)) (fun j => if kds j = nI q then 1 else 0) = sh_K g (sh_ro s) q := by
          rw [← cnt]
          exact sh_sm_congr _ (fun j _ => by rw [Nat.zero_add])
        refine ⟨sh_T g (sh_ro s) + 1, ys_k32 (N := sh_T g (sh_ro s)) (q := q) a2 a5 ?_ _ 0 (Nat.zero_add _)⟩
        refine ys_asked (g := g) (cc := cc) (hi := hi) (r := 1) P hs hly rfl E (fun w => by omega) (fun w q => absurd q (by decide)) (fun w _ => ⟨?_, RR⟩)
        have bd : ∀ n (f : Nat → Nat), (∀ j, f j ≤ 1) → sh_sm n f ≤ n := by
          intro n f hf
          induction n with
          | zero => exact Nat.le_refl 0
          | succ n ih => show sh_sm n f + f n ≤ n + 1; have := hf n; omega
        have b := bd (sh_T g (sh_ro s)) (fun j => if kds j = nI q then 1 else 0) (fun j => by split <;> omega)
        rw [cnt', x1 a1 a2 a3, sh_sat_id (by omega)]
    have two : ∀ r1 : Int32, (sh_ln g (6 + s) = 0 → r1 = 0) → (1 ≤ sh_ln g (6 + s) → 2000 < sh_T g (sh_ro s) ∨ 2000 < sh_R g (sh_ro s) → r1 = -2) → (1 ≤ sh_ln g (6 + s) → sh_T g (sh_ro s) ≤ 2000 → sh_R g (sh_ro s) ≤ 2000 → r1 = 1) →
        wpX_among (fun r_45 => (r_45 = 0 → wpY_kinds (fun r' v' => r' = -3 ∧ i_Rel (k + 5) (xf_concepts, xf_drafted, xf_place, xf_frames, xf_node, xf_frame, xf_above, xf_depth, xf_top, xf_lets, xf_says, xf_result, xa_tok, xa_end, xa_num, xa_length, xa_holes, xa_draft, xa_draftNum, xa_copies, xa_tokens, xa_replaced, xa_deep, xa_lies, xa_ofKind, xa_caller, xa_number, xa_size0, xa_size1, xa_size2, xa_uses0, xa_uses1, xa_uses2, xa_useAt, xa_begun, xa_workNode, xa_stage, xa_workFrame, xa_values, xa_bound, xa_boundTo, xa_output, xa_given) v') (yf_concepts, yf_place, yf_size, yf_uses, yf_of, yf_result, yf_says, yb_kind, yb_behind, yb_length, yb_holes, yb_value, yb_kinds, yb_origin, yb_values, yb_parent, yb_span, yb_todo, yb_within, yb_under, yb_stands, yb_outer, yb_from, yb_left, yb_variable, yb_saved, yb_worth, yb_said, yb_work, yb_phase) (nI s) v2) ∧ (¬ r_45 = 0 → ((1 ≤ r1 → wpX_rootOf (fun r_48 => vp_in (9 * r_48 + v2) 1512 ∧ wpY_kinds (fun r' v' => r' = xa_ofKind (9 * r_48 + v2).toNatClampNeg ∧ i_Rel (k + 5) (xf_concepts, xf_drafted, xf_place, xf_frames, xf_node, xf_frame, xf_above, xf_depth, xf_top, xf_lets, xf_says, xf_result, xa_tok, xa_end, xa_num, xa_length, xa_holes, xa_draft, xa_draftNum, xa_copies, xa_tokens, xa_replaced, xa_deep, xa_lies, xa_ofKind, xa_caller, xa_number, xa_size0, xa_size1, xa_size2, xa_uses0, xa_uses1, xa_uses2, xa_useAt, xa_begun, xa_workNode, xa_stage, xa_workFrame, xa_values, xa_bound, xa_boundTo, xa_output, xa_given) v') (yf_concepts, yf_place, yf_size, yf_uses, yf_of, yf_result, yf_says, yb_kind, yb_behind, yb_length, yb_holes, yb_value, yb_kinds, yb_origin, yb_values, yb_parent, yb_span, yb_todo, yb_within, yb_under, yb_stands, yb_outer, yb_from, yb_left, yb_variable, yb_saved, yb_worth, yb_said, yb_work, yb_phase) (nI s) v2) (nI s)) ∧ (¬ 1 ≤ r1 → wpY_kinds (fun r' v' => r' = r1 ∧ i_Rel (k + 5) (xf_concepts, xf_drafted, xf_place, xf_frames, xf_node, xf_frame, xf_above, xf_depth, xf_top, xf_lets, xf_says, xf_result, xa_tok, xa_end, xa_num, xa_length, xa_holes, xa_draft, xa_draftNum, xa_copies, xa_tokens, xa_replaced, xa_deep, xa_lies, xa_ofKind, xa_caller, xa_number, xa_size0, xa_size1, xa_size2, xa_uses0, xa_uses1, xa_uses2, xa_useAt, xa_begun, xa_workNode, xa_stage, xa_workFrame, xa_values, xa_bound, xa_boundTo, xa_output, xa_given) v') (yf_concepts, yf_place, yf_size, yf_uses, yf_of, yf_result, yf_says, yb_kind, yb_behind, yb_length, yb_holes, yb_value, yb_kinds, yb_origin, yb_values, yb_parent, yb_span, yb_todo, yb_within, yb_under, yb_stands, yb_outer, yb_from, yb_left, yb_variable, yb_saved, yb_worth, yb_said, yb_work, yb_phase) (nI s) v2)))) v2 9 := by
      intro r1 q0 qL q1
      refine xs_among (v := v2) 9 (by omega) rfl (fun h => br_t rfl (badk h)) (fun q hq e => br_f (by decide) ?_)
      subst e
      by_cases h0 : sh_ln g (6 + s) = 0
      · have e := q0 h0
        subst e
        exact br_f (by decide) (Y 0 q hq (fun _ => rfl) (fun w => by omega) (fun w => by omega))
      · by_cases hL : 2000 < sh_T g (sh_ro s) ∨ 2000 < sh_R g (sh_ro s)
        · have e := qL (by omega) hL
          subst e
          exact br_f (by decide) (Y (-2) q hq (fun w => by omega) (fun _ _ => rfl) (fun w a b => by omega))
        · have e := q1 (by omega) (by omega) (by omega)
          subst e
          have hro : sh_ro s < 168 := by unfold sh_ro; omega
          have er := xs_rofs hs
          have X := xs_ro_x P XP hs (by omega)
          have e9 : (9 : Int32) * (72 + 24 * nI s) + nI q = nI (9 * sh_ro s + q) := by rw [er]; exact sh_ix (w := 9)
          refine br_t (by decide) ⟨by rw [e9]; exact vp_in_nI (by omega) (by omega), ?_⟩
          rw [e9, nI_clamp (by omega), X.2.2.2.1 q hq]
          exact Y _ q hq (fun w => by omega) (fun w a => absurd a hL) (fun w a b => rfl)
    exact xs_o (g := g) P XP hlx hs (fun h0 => two 0 (fun _ => rfl) (fun w => by omega) (fun w => by omega)) (fun h1 hL => two (-2) (fun w => by omega) (fun _ _ => rfl) (fun _ a b => by omega)) (fun h1 hT hR => two 1 (fun w => by omega) (fun _ a => by omega) (fun _ _ _ => rfl))
theorem i_vc_depth {k : Nat} {u : SX} {v : SY} (I : i_Rel k u v) (hk : k + 5 ≤ 2560) (v1 : Int32) : wpX_depth (fun r => wpY_depth (fun r' v' => r' = r ∧ i_Rel (k + 5) u v') v v1) u v1 := by
  refine zz_el (P := fun u v => wpX_depth (fun r => wpY_depth (fun r' v' => r' = r ∧ i_Rel (k + 5) u v') v v1) u v1) ?_ I
  intro xf_concepts xf_drafted xf_place xf_frames xf_node xf_frame xf_above xf_depth xf_top xf_lets xf_says xf_result xa_tok xa_end xa_num xa_length xa_holes xa_draft xa_draftNum xa_copies xa_tokens xa_replaced xa_deep xa_lies xa_ofKind xa_caller xa_number xa_size0 xa_size1 xa_size2 xa_uses0 xa_uses1 xa_uses2 xa_useAt xa_begun xa_workNode xa_stage xa_workFrame xa_values xa_bound xa_boundTo xa_output xa_given yf_concepts yf_place yf_size yf_uses yf_of yf_result yf_says yb_kind yb_behind yb_length yb_holes yb_value yb_kinds yb_origin yb_values yb_parent yb_span yb_todo yb_within yb_under yb_stands yb_outer yb_from yb_left yb_variable yb_saved yb_worth yb_said yb_work yb_phase R
  have R' := R
  obtain ⟨g, cc, hi, d, dk, dv, sy, P, hc, hl, hh, hd, XP, YP, Ca, hr⟩ := R'
  have hlx : ∀ r, r < 10 → xa_length r = nI (sh_ln g r) := fun r h => (hl r h).1
  unfold wpX_depth
  rcases pk_ix v1 (n := 4) (by omega) with h | h | ⟨s, hs, rfl⟩
  · refine xs_oB (Or.inl h) (br_f (by decide) ?_)
    unfold wpY_depth
    exact ys_oB (Or.inl h) (br_f (by decide) ⟨rfl, R⟩)
  · refine xs_oB (Or.inr h) (br_f (by decide) ?_)
    unfold wpY_depth
    exact ys_oB (Or.inr h) (br_f (by decide) ⟨rfl, R⟩)
  · have hly := (hl (6 + s) (by omega)).2
    have Y : ∀ (x : Int32), (sh_ln g (6 + s) = 0 → x = 0) → (1 ≤ sh_ln g (6 + s) → 2000 < sh_T g (sh_ro s) ∨ 2000 < sh_R g (sh_ro s) → x = -2) → (1 ≤ sh_ln g (6 + s) → sh_T g (sh_ro s) ≤ 2000 → sh_R g (sh_ro s) ≤ 2000 → x = nI (sh_D g (sh_ro s))) →
        wpY_depth (fun r' v' => r' = x ∧ i_Rel (k + 5) (xf_concepts, xf_drafted, xf_place, xf_frames, xf_node, xf_frame, xf_above, xf_depth, xf_top, xf_lets, xf_says, xf_result, xa_tok, xa_end, xa_num, xa_length, xa_holes, xa_draft, xa_draftNum, xa_copies, xa_tokens, xa_replaced, xa_deep, xa_lies, xa_ofKind, xa_caller, xa_number, xa_size0, xa_size1, xa_size2, xa_uses0, xa_uses1, xa_uses2, xa_useAt, xa_begun, xa_workNode, xa_stage, xa_workFrame, xa_values, xa_bound, xa_boundTo, xa_output, xa_given) v') (yf_concepts, yf_place, yf_size, yf_uses, yf_of, yf_result, yf_says, yb_kind, yb_behind, yb_length, yb_holes, yb_value, yb_kinds, yb_origin, yb_values, yb_parent, yb_span, yb_todo, yb_within, yb_under, yb_stands, yb_outer, yb_from, yb_left, yb_variable, yb_saved, yb_worth, yb_said, yb_work, yb_phase) (nI s) := by
      intro x x0 xL x1
      unfold wpY_depth
      refine ys_oG hs (by omega) rfl (br_t rfl (ys_expanded (g := g) P YP hs hly Ca (fun r z v kds ogn vls prt sp td wi un st ou fr E => ?_)))
      have RR : sh_R0 xf_concepts xf_drafted xf_place xf_says xf_result xa_tok xa_end xa_num xa_length xa_holes xa_draft xa_draftNum xa_copies xa_tokens xa_replaced xa_deep xa_lies xa_ofKind xa_output yf_concepts yf_place z v (nI s) yf_result yf_says yb_kind yb_behind yb_length yb_holes yb_value kds ogn vls prt sp yb_said := ⟨g, cc, hi, d, dk, dv, sy, P, hc, hl, hh, hd, XP, YP, Or.inr ⟨s, r, hs, rfl, E⟩, hr⟩
      have E' := E
      rcases E' with ⟨a1, a2, a3, a4⟩ | ⟨a1, a2, a3, z', v', a4, a5, a6, a7, a8⟩ | ⟨a1, a2, a3, a4, a5, a6, S, Cl, hS⟩
      · subst a2
        refine ⟨1, br_t (by decide) (ys_asked (g := g) (cc := cc) (hi := hi) (r := r) P hs hly rfl E (fun _ => ⟨(x0 a1).symm, RR⟩) (fun w => by omega) (fun w => by omega))⟩
      · have fin := ys_asked (g := g) (cc := cc) (hi := hi) (r := r) (x := 0) (post := fun r' v' => r' = x ∧ i_Rel (k + 5) (xf_concepts, xf_drafted, xf_place, xf_frames, xf_node, xf_frame, xf_above, xf_depth, xf_top, xf_lets, xf_says, xf_result, xa_tok, xa_end, xa_num, xa_length, xa_holes, xa_draft, xa_draftNum, xa_copies, xa_tokens, xa_replaced, xa_deep, xa_lies, xa_ofKind, xa_caller, xa_number, xa_size0, xa_size1, xa_size2, xa_uses0, xa_uses1, xa_uses2, xa_useAt, xa_begun, xa_workNode, xa_stage, xa_workFrame, xa_values, xa_bound, xa_boundTo, xa_output, xa_given) v') (yf_concepts := yf_concepts) (yf_place := yf_place) (yf_result := yf_result) (yf_says := yf_says) (yb_kind := yb_kind) (yb_behind := yb_behind) (yb_length := yb_length) (yb_holes := yb_holes) (yb_value := yb_value) (yb_left := yb_left) (yb_variable := yb_variable) (yb_saved := yb_saved) (yb_worth := yb_worth) (yb_said := yb_said) (yb_work := yb_work) (yb_phase := yb_phase) (yf_size := z) (yf_uses := v) (yf_of := nI s) (yb_kinds := kds) (yb_origin := ogn) (yb_values := vls) (yb_parent := prt) (yb_span := sp) (yb_todo := td) (yb_within := wi) (yb_under := un) (yb_stands := st) (yb_outer := ou) (yb_from := fr) P hs hly rfl E (fun w => by omega) (fun w _ => ⟨(xL w a2).symm, RR⟩) (fun w q => by rw [a3] at q; exact absurd q (by decide))
        refine ⟨1, br_c (fun _ => fin) (fun _ => br_t a3 fin)⟩
      · subst a4
        have eT : sh_eT g (sh_ro s) [] = sh_T g (sh_ro s) := sh_ev_n g _ _
        obtain ⟨lv, l0, l1, l2⟩ := sh_depths P hs Cl a2 hS eT
        have hb : ∀ n k, k < n → k < sh_T g (sh_ro s) → lv k ≤ k + 1 := by
          intro n
          induction n with
          | zero => intro k h; omega
          | succ n ih =>
            intro k h1 h2
            by_cases e : k = 0
            · subst e; rw [l0]; omega
            · obtain ⟨q, q1, q2, q3⟩ := l1 k (by omega) h2
              have := ih q (by omega) (by omega)
              omega
        rw [sh_ed_ro P hs a1] at l2
        have M := ys_d22 (post := fun r' v' => r' = x ∧ i_Rel (k + 5) (xf_concepts, xf_drafted, xf_place, xf_frames, xf_node, xf_frame, xf_above, xf_depth, xf_top, xf_lets, xf_says, xf_result, xa_tok, xa_end, xa_num, xa_length, xa_holes, xa_draft, xa_draftNum, xa_copies, xa_tokens, xa_replaced, xa_deep, xa_lies, xa_ofKind, xa_caller, xa_number, xa_size0, xa_size1, xa_size2, xa_uses0, xa_uses1, xa_uses2, xa_useAt, xa_begun, xa_workNode, xa_stage, xa_workFrame, xa_values, xa_bound, xa_boundTo, xa_output, xa_given) v') (x1 := nI s) (N := sh_T g (sh_ro s)) (lv := lv) (yf_concepts := yf_concepts) (yf_place := yf_place) (yf_result := yf_result) (yf_says := yf_says) (yb_kind := yb_kind) (yb_behind := yb_behind) (yb_length := yb_length) (yb_holes := yb_holes) (yb_value := yb_value) (yb_left := yb_left) (yb_variable := yb_variable) (yb_worth := yb_worth) (yb_said := yb_said) (yb_work := yb_work) (yb_phase := yb_phase) (yf_size := z) (yf_uses := v) (yf_of := nI s) (yb_kinds := kds) (yb_origin := ogn) (yb_values := vls) (yb_parent := prt) (yb_span := sp) (yb_todo := td) (yb_within := wi) (yb_under := un) (yb_stands := st) (yb_outer := ou) (yb_from := fr) a2 a5 l0 l1 (fun k hk => hb _ k (Nat.lt_succ_self k) hk) (fun sv => ?_) (sh_T g (sh_ro s)) 0 (Nat.zero_add _) yb_saved (fun k hk => by omega)
        · exact ⟨sh_T g (sh_ro s) + 1, M⟩
        · refine ys_asked (g := g) (cc := cc) (hi := hi) (r := 1) P hs hly rfl E (fun w => by omega) (fun w q => absurd q (by decide)) (fun w _ => ⟨?_, RR⟩)
          rw [l2, x1 a1 a2 a3]
    refine xs_o (g := g) P XP hlx hs (fun h0 => br_f (by decide) (Y 0 (fun _ => rfl) (fun w => by omega) (fun w => by omega))) (fun h1 hL => br_f (by decide) (Y (-2) (fun w => by omega) (fun _ _ => rfl) (fun _ a b => by omega))) (fun h1 hT hR => br_t (by decide) ?_)
    have hro : sh_ro s < 168 := by unfold sh_ro; omega
    have er := xs_rofs hs
    have X := xs_ro_x P XP hs h1
    refine ⟨by rw [er]; exact vp_in_nI hro (by omega), ?_⟩
    rw [er, nI_clamp (by omega), (X.2.2.2.2 hT).1]
    exact Y _ (fun w => by omega) (fun _ a => by omega) (fun _ _ _ => rfl)
end
section
/-! the least closed set: what X finds, Y holds -/
def sh_Rc (g : sh_G) (i0 : Nat) (i : Nat) (r : List (Nat × Nat)) (p u a : Nat) : Prop :=
  ∀ S : Nat → List (Nat × Nat) → Nat → Nat → Nat → Prop, (∀ i r p u a, S i r p u a → sh_Sc g S (fun _ _ _ _ _ => True) i r p u a) → S i0 [] 0 0 0 → S i r p u a
section RC
variable {g : sh_G} {cc hi s N U i0 : Nat}
theorem sh_Rc_0 : sh_Rc g i0 i0 [] 0 0 0 := fun _ _ h => h
theorem sh_Rc_sub {F S : Nat → List (Nat × Nat) → Nat → Nat → Nat → Prop} (H : sh_Cl g cc hi s N U F S) (h0 : S i0 [] 0 0 0) {i : Nat} {r : List (Nat × Nat)} {p u a : Nat} (h : sh_Rc g i0 i r p u a) : S i r p u a :=
  h S (fun i r p u a hS => sh_Sc_mono (fun _ _ _ _ _ z => z) (fun _ _ _ _ _ _ => trivial) (H i r p u a hS).2) h0
theorem sh_Ok_step (P : sh_Pg g cc hi) (hs : s < 4) (i : Nat) (r : List (Nat × Nat)) (p u a : Nat) (OK : sh_Ok g cc hi s N U i r p u a) : sh_Sc g (sh_Ok g cc hi s N U) (fun _ _ _ _ _ => True) i r p u a := by
  have G := OK.1
  refine ⟨fun hk => ?_, fun h9 i' u' r' v e1 e2 e3 => ?_, fun hk h9 => ⟨trivial, fun j hj => ?_⟩⟩
  · have w := sh_gu P hs G hk u
    exact ⟨w.1, by rw [← w.2.1]; exact OK.2.1, by have := w.2.2.1; have := OK.2.2.1; omega, OK.2.2.2⟩
  · obtain ⟨i3, u3, r3, v3, e4, hv3, hv3', hn3, h13, c13, h53, G', eT, eR, _, _⟩ := sh_gh P hs G h9
    rw [e1] at e4
    cases e4
    have : v = v3 := (nI_eq (by omega) (by omega)).mp (e2.symm.trans hn3)
    subst this
    exact ⟨G', by rw [← eT]; exact OK.2.1, by rw [← eR]; exact OK.2.2.1, OK.2.2.2⟩
  · have w := sh_gp P hs G hk h9
    have b1 := sh_sm_mono (f := fun k => sh_eT g (sh_op g i k) r) (j + 1) (sh_an g i) (by omega)
    have b2 := sh_sm_mono (f := fun k => sh_eR g (sh_op g i k) r) (j + 1) (sh_an g i) (by omega)
    have d1 : sh_sm (j + 1) (fun k => sh_eT g (sh_op g i k) r) = sh_sm j (fun k => sh_eT g (sh_op g i k) r) + sh_eT g (sh_op g i j) r := rfl
    have d2 : sh_sm (j + 1) (fun k => sh_eR g (sh_op g i k) r) = sh_sm j (fun k => sh_eR g (sh_op g i k) r) + sh_eR g (sh_op g i j) r := rfl
    have o1 := OK.2.1
    have o2 := OK.2.2.1
    have w1 := w.2.1
    have w2 := w.2.2.1
    exact ⟨w.1 j hj, by omega, by omega, Or.inr ⟨by omega, by omega⟩⟩
theorem sh_Rc_Cl (P : sh_Pg g cc hi) (hs : s < 4) (h1 : 1 ≤ sh_ln g (6 + s)) : sh_Cl g cc hi s (sh_T g (sh_ro s)) (sh_R g (sh_ro s)) (fun _ _ _ _ _ => True) (sh_Rc g (sh_ro s)) := by
  intro i r p u a h
  refine ⟨h _ (sh_Ok_step P hs) ?_, fun hk S hS h0 => ?_, fun h9 i' u' r' v e1 e2 e3 S hS h0 => ?_, fun hk h9 => ⟨trivial, fun j hj S hS h0 => ?_⟩⟩
  · exact ⟨sh_ro_IR P hs h1, by rw [show sh_eT g (sh_ro s) [] = sh_T g (sh_ro s) from sh_ev_n g _ _]; omega, by rw [show sh_eR g (sh_ro s) [] = sh_R g (sh_ro s) from sh_ev_n g _ _]; omega, Or.inl ⟨rfl, rfl⟩⟩
  · exact (hS _ _ _ _ _ (h S hS h0)).1 hk
  · exact (hS _ _ _ _ _ (h S hS h0)).2.1 h9 i' u' r' v e1 e2 e3
  · exact ((hS _ _ _ _ _ (h S hS h0)).2.2 hk h9).2 j hj
end RC
section YHAS
variable {yf_concepts yf_place yf_size yf_uses yf_of yf_result yf_says : Int32} {yb_kind yb_behind yb_length yb_holes yb_value yb_kinds yb_origin yb_values yb_parent yb_span yb_todo yb_within yb_under yb_stands yb_outer yb_from yb_left yb_variable yb_saved yb_worth yb_said yb_work yb_phase : Nat → Int32} {g : sh_G} {cc hi : Nat}
/-- Y: a token of an expansion, or none -/
theorem ys_has {post : Int32 → SY → Prop} {p0 p1 : Int32} (P : sh_Pg g cc hi) (YP : ys_YP g hi yb_kind yb_value yb_behind) (hl : ∀ r, r < 10 → yb_length r = nI (sh_ln g r))
    (Ca : sh_Ca g cc hi yf_of yf_size yf_uses yb_kinds yb_origin yb_values yb_parent yb_span)
    (hN0 : p0 < 0 ∨ nI 4 ≤ p0 → post 0 (yf_concepts, yf_place, yf_size, yf_uses, yf_of, yf_result, yf_says, yb_kind, yb_behind, yb_length, yb_holes, yb_value, yb_kinds, yb_origin, yb_values, yb_parent, yb_span, yb_todo, yb_within, yb_under, yb_stands, yb_outer, yb_from, yb_left, yb_variable, yb_saved, yb_worth, yb_said, yb_work, yb_phase))
    (hN : ∀ s, s < 4 → p0 = nI s → (∀ k, 1 ≤ sh_ln g (6 + s) → sh_T g (sh_ro s) ≤ 2000 → sh_R g (sh_ro s) ≤ 2000 → k < sh_T g (sh_ro s) → p1 = nI k → False) →
      ∀ r z v kds ogn vls prt sp td wi un st ou fr, sh_Ex g cc hi s z v kds ogn vls prt sp r → post 0 (yf_concepts, yf_place, z, v, nI s, yf_result, yf_says, yb_kind, yb_behind, yb_length, yb_holes, yb_value, kds, ogn, vls, prt, sp, td, wi, un, st, ou, fr, yb_left, yb_variable, yb_saved, yb_worth, yb_said, yb_work, yb_phase))
    (hF : ∀ s k, s < 4 → p0 = nI s → 1 ≤ sh_ln g (6 + s) → sh_T g (sh_ro s) ≤ 2000 → sh_R g (sh_ro s) ≤ 2000 → k < sh_T g (sh_ro s) → p1 = nI k →
      ∀ r z v kds ogn vls prt sp td wi un st ou fr, sh_Ex g cc hi s z v kds ogn vls prt sp r → post 1 (yf_concepts, yf_place, z, v, nI s, yf_result, yf_says, yb_kind, yb_behind, yb_length, yb_holes, yb_value, kds, ogn, vls, prt, sp, td, wi, un, st, ou, fr, yb_left, yb_variable, yb_saved, yb_worth, yb_said, yb_work, yb_phase)) :
    wpY_has post (yf_concepts, yf_place, yf_size, yf_uses, yf_of, yf_result, yf_says, yb_kind, yb_behind, yb_length, yb_holes, yb_value, yb_kinds, yb_origin, yb_values, yb_parent, yb_span, yb_todo, yb_within, yb_under, yb_stands, yb_outer, yb_from, yb_left, yb_variable, yb_saved, yb_worth, yb_said, yb_work, yb_phase) p0 p1 := by
  unfold wpY_has
  rcases pk_ix p0 (n := 4) (by omega) with h | h | ⟨s, hs, rfl⟩
  · exact ys_oB (Or.inl h) (br_f (by decide) (hN0 (Or.inl h)))
  · exact ys_oB (Or.inr h) (br_f (by decide) (hN0 (Or.inr h)))
  · refine ys_oG hs (by omega) rfl (br_t rfl (ys_expanded (g := g) P YP hs (hl _ (by omega)) Ca (fun r z v kds ogn vls prt sp td wi un st ou fr E => ?_)))
    by_cases h0 : sh_ln g (6 + s) = 0
    · have q := sh_Ex_0 E h0
      have fin := hN s hs rfl (fun k w _ _ _ _ => by omega) r z v kds ogn vls prt sp td wi un st ou fr E
      refine br_f (by rw [q.1]; decide) ?_
      refine ys_out (v := p1) 0 (by omega) (by rw [q.2.1]; rfl) (fun _ => br_f (by decide) fin) (fun j hj _ => by omega)
    · by_cases hL : 2000 < sh_T g (sh_ro s) ∨ 2000 < sh_R g (sh_ro s)
      · exact br_t (sh_Ex_L E (by omega) hL) (hN s hs rfl (fun k w a b _ _ => by omega) r z v kds ogn vls prt sp td wi un st ou fr E)
      · have q := sh_Ex_1 E (by omega) (by omega) (by omega)
        refine br_f (by rw [q.1]; decide) ?_
        refine ys_out (v := p1) (sh_T g (sh_ro s)) (by omega) q.2.1 (fun w => br_f (by decide) (hN s hs rfl (fun k _ _ _ a b => ?_) r z v kds ogn vls prt sp td wi un st ou fr E)) (fun k hk e => br_t rfl (hF s k hs rfl (by omega) (by omega) (by omega) hk e r z v kds ogn vls prt sp td wi un st ou fr E))
        rcases w with w | w
        · rw [b] at w; exact nI_pos (by omega) w
        · rw [b] at w; exact nI_ge a (by omega) w
end YHAS
theorem sh_q4 {s : Nat} {p0 : Int32} (hs : s < 4) (e : p0 = nI s) (h : p0 < 0 ∨ nI 4 ≤ p0) : False := by
  rcases h with h | h
  · rw [e] at h; exact nI_pos (by omega) h
  · rw [e] at h; exact nI_ge hs (by omega) h
theorem sh_qs {s s' : Nat} {p0 : Int32} (hs : s < 4) (hs' : s' < 4) (e : p0 = nI s) (e' : p0 = nI s') : s' = s := ((nI_eq (by omega) (by omega)).mp (e.symm.trans e')).symm
theorem sh_qk {k k' n : Nat} {p0 : Int32} (hn : n ≤ 2000) (h : k < n) (h' : k' < n) (e : p0 = nI k) (e' : p0 = nI k') : k' = k := ((nI_eq (by omega) (by omega)).mp (e.symm.trans e')).symm
theorem i_vc_parent {k : Nat} {u : SX} {v : SY} (I : i_Rel k u v) (hk : k + 5 ≤ 2560) (v1 : Int32) (v2 : Int32) : wpX_parent (fun r u' => wpY_parent (fun r' v' => r' = r ∧ i_Rel (k + 5) u' v') v v1 v2) u v1 v2 := by
  refine zz_el (P := fun u v => wpX_parent (fun r u' => wpY_parent (fun r' v' => r' = r ∧ i_Rel (k + 5) u' v') v v1 v2) u v1 v2) ?_ I
  intro xf_concepts xf_drafted xf_place xf_frames xf_node xf_frame xf_above xf_depth xf_top xf_lets xf_says xf_result xa_tok xa_end xa_num xa_length xa_holes xa_draft xa_draftNum xa_copies xa_tokens xa_replaced xa_deep xa_lies xa_ofKind xa_caller xa_number xa_size0 xa_size1 xa_size2 xa_uses0 xa_uses1 xa_uses2 xa_useAt xa_begun xa_workNode xa_stage xa_workFrame xa_values xa_bound xa_boundTo xa_output xa_given yf_concepts yf_place yf_size yf_uses yf_of yf_result yf_says yb_kind yb_behind yb_length yb_holes yb_value yb_kinds yb_origin yb_values yb_parent yb_span yb_todo yb_within yb_under yb_stands yb_outer yb_from yb_left yb_variable yb_saved yb_worth yb_said yb_work yb_phase R
  have R' := R
  obtain ⟨g, cc, hi, d, dk, dv, sy, P, hc, hl, hh, hd, XP, YP, Ca, hr⟩ := R'
  unfold wpX_parent
  refine xs_find (g := g) (cc := cc) (hi := hi) P XP (fun r h => (hl r h).1) (fun c h => (hh c (by have := P.2.1; omega)).1) (fun hn => br_t rfl ?_) (fun s k' hs e h1 hT hR hk' ek => ⟨_, sh_Rc g (sh_ro s), sh_Rc_Cl P hs h1, sh_Rc_0, fun i r u a F φ f fr hS t1 t2 hF hC hnu => br_f (by decide) ?_⟩)
  · unfold wpY_parent
    refine ys_has (g := g) P YP (fun r h => (hl r h).2) Ca (fun _ => br_t rfl ⟨rfl, R⟩) (fun s hs e _ r z v kds ogn vls prt sp td wi un st ou fr E => br_t rfl ⟨rfl, ⟨g, cc, hi, d, dk, dv, sy, P, hc, hl, hh, hd, XP, YP, Or.inr ⟨s, r, hs, rfl, E⟩, hr⟩⟩) (fun s k' hs e h1 h2 h3 h4 h5 => absurd (hn s k' hs e h1 h2 h3 h4 h5) id)
  · unfold wpY_parent
    refine ys_has (g := g) P YP (fun r h => (hl r h).2) Ca (fun h => absurd (sh_q4 hs e h) id) (fun s' hs' e' hno => ?_) (fun s' k2 hs' e' _ _ _ hk2 ek2 r z v kds ogn vls prt sp td wi un st ou fr' E => br_f (by decide) ?_)
    · have := sh_qs hs hs' e e'
      subst this
      exact absurd (hno k' h1 hT hR hk' ek) id
    · have := sh_qs hs hs' e e'
      subst this
      have := sh_qk hT hk' hk2 ek ek2
      subst this
      obtain ⟨_, _, _, S, Cl, hS0⟩ := sh_Ex_1 E h1 hT hR
      have f := ((Cl _ _ _ _ _ (sh_Rc_sub Cl hS0 hS)).2.2.2 t1 t2).1
      refine ⟨by rw [ek]; exact vp_in_nI (by omega) (by omega), ?_, ⟨g, cc, hi, d, dk, dv, sy, P, hc, hl, hh, hd, XP, YP, Or.inr ⟨s', r, hs, rfl, E⟩, hr⟩⟩
      rw [ek, nI_clamp (by omega)]
      exact f.2.2.2.1
theorem i_vc_span {k : Nat} {u : SX} {v : SY} (I : i_Rel k u v) (hk : k + 5 ≤ 2560) (v1 : Int32) (v2 : Int32) : wpX_span (fun r u' => wpY_span (fun r' v' => r' = r ∧ i_Rel (k + 5) u' v') v v1 v2) u v1 v2 := by
  refine zz_el (P := fun u v => wpX_span (fun r u' => wpY_span (fun r' v' => r' = r ∧ i_Rel (k + 5) u' v') v v1 v2) u v1 v2) ?_ I
  intro xf_concepts xf_drafted xf_place xf_frames xf_node xf_frame xf_above xf_depth xf_top xf_lets xf_says xf_result xa_tok xa_end xa_num xa_length xa_holes xa_draft xa_draftNum xa_copies xa_tokens xa_replaced xa_deep xa_lies xa_ofKind xa_caller xa_number xa_size0 xa_size1 xa_size2 xa_uses0 xa_uses1 xa_uses2 xa_useAt xa_begun xa_workNode xa_stage xa_workFrame xa_values xa_bound xa_boundTo xa_output xa_given yf_concepts yf_place yf_size yf_uses yf_of yf_result yf_says yb_kind yb_behind yb_length yb_holes yb_value yb_kinds yb_origin yb_values yb_parent yb_span yb_todo yb_within yb_under yb_stands yb_outer yb_from yb_left yb_variable yb_saved yb_worth yb_said yb_work yb_phase R
  have R' := R
  obtain ⟨g, cc, hi, d, dk, dv, sy, P, hc, hl, hh, hd, XP, YP, Ca, hr⟩ := R'
  unfold wpX_span
  refine xs_find (g := g) (cc := cc) (hi := hi) P XP (fun r h => (hl r h).1) (fun c h => (hh c (by have := P.2.1; omega)).1) (fun hn => br_t rfl ?_) (fun s k' hs e h1 hT hR hk' ek => ⟨_, sh_Rc g (sh_ro s), sh_Rc_Cl P hs h1, sh_Rc_0, fun i r u a F φ f fr hS t1 t2 hF hC hnu => br_f (by decide) ?_⟩)
  · unfold wpY_span
    refine ys_has (g := g) P YP (fun r h => (hl r h).2) Ca (fun _ => br_t rfl ⟨rfl, R⟩) (fun s hs e _ r z v kds ogn vls prt sp td wi un st ou fr E => br_t rfl ⟨rfl, ⟨g, cc, hi, d, dk, dv, sy, P, hc, hl, hh, hd, XP, YP, Or.inr ⟨s, r, hs, rfl, E⟩, hr⟩⟩) (fun s k' hs e h1 h2 h3 h4 h5 => absurd (hn s k' hs e h1 h2 h3 h4 h5) id)
  · have OK := (sh_Rc_Cl P hs h1 _ _ _ _ _ hS).1
    have ad := xs_addr P hs OK.1
    have x := XP _ (sh_Gd_r P hs OK.1).1 i (sh_Gd_r P hs OK.1).2
    have b1 := OK.2.1
    have sv := xs_sv_x P hs (by omega) OK.1 x.2.2.2 hC (by omega)
    refine xs_sizeIn ad.1 hF (xs_XC_f hC) ?_
    rw [sv.1]
    unfold wpY_span
    refine ys_has (g := g) P YP (fun r h => (hl r h).2) Ca (fun h => absurd (sh_q4 hs e h) id) (fun s' hs' e' hno => ?_) (fun s' k2 hs' e' _ _ _ hk2 ek2 r z v kds ogn vls prt sp td wi un st ou fr' E => br_f (by decide) ?_)
    · have := sh_qs hs hs' e e'
      subst this
      exact absurd (hno k' h1 hT hR hk' ek) id
    · have := sh_qs hs hs' e e'
      subst this
      have := sh_qk hT hk' hk2 ek ek2
      subst this
      obtain ⟨_, _, _, S, Cl, hS0⟩ := sh_Ex_1 E h1 hT hR
      have f := ((Cl _ _ _ _ _ (sh_Rc_sub Cl hS0 hS)).2.2.2 t1 t2).1
      refine ⟨by rw [ek]; exact vp_in_nI (by omega) (by omega), ?_, ⟨g, cc, hi, d, dk, dv, sy, P, hc, hl, hh, hd, XP, YP, Or.inr ⟨s', r, hs, rfl, E⟩, hr⟩⟩
      rw [ek, nI_clamp (by omega)]
      exact f.2.2.2.2
theorem i_vc_origin {k : Nat} {u : SX} {v : SY} (I : i_Rel k u v) (hk : k + 5 ≤ 2560) (v1 : Int32) (v2 : Int32) : wpX_origin (fun r u' => wpY_origin (fun r' v' => r' = r ∧ i_Rel (k + 5) u' v') v v1 v2) u v1 v2 := by
  refine zz_el (P := fun u v => wpX_origin (fun r u' => wpY_origin (fun r' v' => r' = r ∧ i_Rel (k + 5) u' v') v v1 v2) u v1 v2) ?_ I
  intro xf_concepts xf_drafted xf_place xf_frames xf_node xf_frame xf_above xf_depth xf_top xf_lets xf_says xf_result xa_tok xa_end xa_num xa_length xa_holes xa_draft xa_draftNum xa_copies xa_tokens xa_replaced xa_deep xa_lies xa_ofKind xa_caller xa_number xa_size0 xa_size1 xa_size2 xa_uses0 xa_uses1 xa_uses2 xa_useAt xa_begun xa_workNode xa_stage xa_workFrame xa_values xa_bound xa_boundTo xa_output xa_given yf_concepts yf_place yf_size yf_uses yf_of yf_result yf_says yb_kind yb_behind yb_length yb_holes yb_value yb_kinds yb_origin yb_values yb_parent yb_span yb_todo yb_within yb_under yb_stands yb_outer yb_from yb_left yb_variable yb_saved yb_worth yb_said yb_work yb_phase R
  have R' := R
  obtain ⟨g, cc, hi, d, dk, dv, sy, P, hc, hl, hh, hd, XP, YP, Ca, hr⟩ := R'
  unfold wpX_origin
  refine xs_find (g := g) (cc := cc) (hi := hi) P XP (fun r h => (hl r h).1) (fun c h => (hh c (by have := P.2.1; omega)).1) (fun hn => br_t rfl ?_) (fun s k' hs e h1 hT hR hk' ek => ⟨_, sh_Rc g (sh_ro s), sh_Rc_Cl P hs h1, sh_Rc_0, fun i r u a F φ f fr hS t1 t2 hF hC hnu => br_f (by decide) ?_⟩)
  · unfold wpY_origin
    refine ys_has (g := g) P YP (fun r h => (hl r h).2) Ca (fun _ => br_t rfl ⟨rfl, R⟩) (fun s hs e _ r z v kds ogn vls prt sp td wi un st ou fr E => br_t rfl ⟨rfl, ⟨g, cc, hi, d, dk, dv, sy, P, hc, hl, hh, hd, XP, YP, Or.inr ⟨s, r, hs, rfl, E⟩, hr⟩⟩) (fun s k' hs e h1 h2 h3 h4 h5 => absurd (hn s k' hs e h1 h2 h3 h4 h5) id)
  · have OK := (sh_Rc_Cl P hs h1 _ _ _ _ _ hS).1
    have og := xs_og hs P r i OK.1
    have og2 := sh_og_lt P hs r i OK.1
    have er := xs_rofs hs
    have fin : ∀ z0 : Int32, z0 = nI (sh_ro s + sh_og s i r) → wX_origin_39 (fun r' u' => wpY_origin (fun r'' v' => r'' = r' ∧ i_Rel (k + 5) u' v') (yf_concepts, yf_place, yf_size, yf_uses, yf_of, yf_result, yf_says, yb_kind, yb_behind, yb_length, yb_holes, yb_value, yb_kinds, yb_origin, yb_values, yb_parent, yb_span, yb_todo, yb_within, yb_under, yb_stands, yb_outer, yb_from, yb_left, yb_variable, yb_saved, yb_worth, yb_said, yb_work, yb_phase) v1 v2) v1 z0 xf_concepts xf_drafted xf_place (nI F) (nI i) f (nI a - 1) xf_depth xf_top xf_lets xf_says xf_result xa_tok xa_end xa_num xa_length xa_holes xa_draft xa_draftNum xa_copies xa_tokens xa_replaced xa_deep xa_lies xa_ofKind fr.1 fr.2.1 fr.2.2.1 fr.2.2.2.1 fr.2.2.2.2.1 fr.2.2.2.2.2.1 fr.2.2.2.2.2.2.1 fr.2.2.2.2.2.2.2.1 fr.2.2.2.2.2.2.2.2.1 fr.2.2.2.2.2.2.2.2.2 xa_workNode xa_stage xa_workFrame xa_values xa_bound xa_boundTo xa_output xa_given := by
      intro z0 ez
      subst ez
      have ex : nI (sh_ro s + sh_og s i r) - (72 + 24 * v1) = nI (sh_og s i r) := by
        rw [e, er, pk_sub (by omega)]; exact congrArg nI (by omega)
      show wpY_origin (fun r'' v' => r'' = nI (sh_ro s + sh_og s i r) - (72 + 24 * v1) ∧ i_Rel (k + 5) (xf_concepts, xf_drafted, xf_place, nI F, nI i, f, nI a - 1, xf_depth, xf_top, xf_lets, xf_says, xf_result, xa_tok, xa_end, xa_num, xa_length, xa_holes, xa_draft, xa_draftNum, xa_copies, xa_tokens, xa_replaced, xa_deep, xa_lies, xa_ofKind, fr.1, fr.2.1, fr.2.2.1, fr.2.2.2.1, fr.2.2.2.2.1, fr.2.2.2.2.2.1, fr.2.2.2.2.2.2.1, fr.2.2.2.2.2.2.2.1, fr.2.2.2.2.2.2.2.2.1, fr.2.2.2.2.2.2.2.2.2, xa_workNode, xa_stage, xa_workFrame, xa_values, xa_bound, xa_boundTo, xa_output, xa_given) v') (yf_concepts, yf_place, yf_size, yf_uses, yf_of, yf_result, yf_says, yb_kind, yb_behind, yb_length, yb_holes, yb_value, yb_kinds, yb_origin, yb_values, yb_parent, yb_span, yb_todo, yb_within, yb_under, yb_stands, yb_outer, yb_from, yb_left, yb_variable, yb_saved, yb_worth, yb_said, yb_work, yb_phase) v1 v2
      rw [ex]
      unfold wpY_origin
      refine ys_has (g := g) P YP (fun r h => (hl r h).2) Ca (fun h => absurd (sh_q4 hs e h) id) (fun s' hs' e' hno => ?_) (fun s' k2 hs' e' _ _ _ hk2 ek2 r z v kds ogn vls prt sp td wi un st ou fr' E => br_f (by decide) ?_)
      · have := sh_qs hs hs' e e'
        subst this
        exact absurd (hno k' h1 hT hR hk' ek) id
      · have := sh_qs hs hs' e e'
        subst this
        have := sh_qk hT hk' hk2 ek ek2
        subst this
        obtain ⟨_, _, _, S, Cl, hS0⟩ := sh_Ex_1 E h1 hT hR
        have f := ((Cl _ _ _ _ _ (sh_Rc_sub Cl hS0 hS)).2.2.2 t1 t2).1
        refine ⟨by rw [ek]; exact vp_in_nI (by omega) (by omega), ?_, ⟨g, cc, hi, d, dk, dv, sy, P, hc, hl, hh, hd, XP, YP, Or.inr ⟨s', r, hs, rfl, E⟩, hr⟩⟩
        rw [ek, nI_clamp (by omega)]
        exact f.2.2.1
    cases r with
    | nil =>
      have hf : f = -1 := hC
      refine br_f (by rw [hf]; decide) (fin _ ?_)
      rw [og.2 rfl]
    | cons x r =>
      obtain ⟨q, q1, q2, q3, q4, q5, q6⟩ := hC
      refine br_t (by rw [q1]; exact nI_pos' (by omega)) ⟨by rw [q1]; exact vp_in_nI (by omega) (by omega), fin _ ?_⟩
      rw [q1, nI_clamp (by omega), q5]
      exact (sb_byte _ (by have := og.1; have e2 : sh_og s i (x :: r) = sh_og s x.1 r := rfl; rw [e2] at this; omega)).1
end
section
theorem sh_l0 {v : Nat} (h : v < 2 ^ 31) : (0 : Int64) ≤ lN v := by
  have := (lN_le (a := 0) (b := v) (by omega) h).mpr (Nat.zero_le _)
  exact this
theorem sh_neg {w u : Nat} {x : Int32} (hu : u ≤ 2000) (hx : x = -1 ∧ w = 100 + 2 * u ∨ x = -2 ∧ w = 101 + 2 * u) : (99 + 2 * nI u) - x = nI w ∧ ((99 + 2 * nI u).toInt64) - x.toInt64 = lN w := by
  have e1 : (99 : Int32) + 2 * nI u = nI (99 + 2 * u) := by
    have a : (2 : Int32) * nI u = nI (2 * u) := pk_mul 2 u
    rw [a]; exact nI_add 99 _
  have k1 : ∀ y : Int32, y - (-1) = y + 1 := by intro y; grind
  have k2 : ∀ y : Int32, y - (-2) = y + 2 := by intro y; grind
  have l1 : ∀ y : Int64, y - (-1) = y + 1 := by intro y; grind
  have l2 : ∀ y : Int64, y - (-2) = y + 2 := by intro y; grind
  rcases hx with ⟨h1, h2⟩ | ⟨h1, h2⟩
  · subst h1 h2
    refine ⟨?_, ?_⟩
    · rw [e1, k1, nI_1]; exact congrArg nI (by omega)
    · rw [e1, nI_l (by omega), show (-1 : Int32).toInt64 = -1 by decide, l1, lN_1]; exact congrArg lN (by omega)
  · subst h1 h2
    refine ⟨?_, ?_⟩
    · rw [e1, k2]
      have : nI (99 + 2 * u) + nI 2 = nI (99 + 2 * u + 2) := nI_add _ 2
      refine Eq.trans this (congrArg nI (by omega))
    · rw [e1, nI_l (by omega), show (-2 : Int32).toInt64 = -2 by decide, l2]
      have : lN (99 + 2 * u) + lN 2 = lN (99 + 2 * u + 2) := lN_add _ 2
      exact Eq.trans this (congrArg lN (by omega))
theorem i_vc_at {k : Nat} {u : SX} {v : SY} (I : i_Rel k u v) (hk : k + 5 ≤ 2560) (v1 : Int32) (v2 : Int32) : wpX_at (fun r u' => wpY_at (fun r' v' => r' = r ∧ i_Rel (k + 5) u' v') v v1 v2) u v1 v2 := by
  refine zz_el (P := fun u v => wpX_at (fun r u' => wpY_at (fun r' v' => r' = r ∧ i_Rel (k + 5) u' v') v v1 v2) u v1 v2) ?_ I
  intro xf_concepts xf_drafted xf_place xf_frames xf_node xf_frame xf_above xf_depth xf_top xf_lets xf_says xf_result xa_tok xa_end xa_num xa_length xa_holes xa_draft xa_draftNum xa_copies xa_tokens xa_replaced xa_deep xa_lies xa_ofKind xa_caller xa_number xa_size0 xa_size1 xa_size2 xa_uses0 xa_uses1 xa_uses2 xa_useAt xa_begun xa_workNode xa_stage xa_workFrame xa_values xa_bound xa_boundTo xa_output xa_given yf_concepts yf_place yf_size yf_uses yf_of yf_result yf_says yb_kind yb_behind yb_length yb_holes yb_value yb_kinds yb_origin yb_values yb_parent yb_span yb_todo yb_within yb_under yb_stands yb_outer yb_from yb_left yb_variable yb_saved yb_worth yb_said yb_work yb_phase R
  have R' := R
  obtain ⟨g, cc, hi, d, dk, dv, sy, P, hc, hl, hh, hd, XP, YP, Ca, hr⟩ := R'
  unfold wpX_at
  refine xs_find (g := g) (cc := cc) (hi := hi) P XP (fun r h => (hl r h).1) (fun c h => (hh c (by have := P.2.1; omega)).1) (fun hn => br_t rfl ?_) (fun s k' hs e h1 hT hR hk' ek => ⟨_, sh_Rc g (sh_ro s), sh_Rc_Cl P hs h1, sh_Rc_0, fun i r u a F φ f fr hS t1 t2 hF hC hnu => br_f (by decide) ?_⟩)
  · unfold wpY_at
    refine ys_has (g := g) P YP (fun r h => (hl r h).2) Ca (fun _ => br_t rfl ⟨rfl, R⟩) (fun s hs e _ r z v kds ogn vls prt sp td wi un st ou fr E => br_t rfl ⟨rfl, ⟨g, cc, hi, d, dk, dv, sy, P, hc, hl, hh, hd, XP, YP, Or.inr ⟨s, r, hs, rfl, E⟩, hr⟩⟩) (fun s k' hs e h1 h2 h3 h4 h5 => absurd (hn s k' hs e h1 h2 h3 h4 h5) id)
  · have OK := (sh_Rc_Cl P hs h1 _ _ _ _ _ hS).1
    have G := OK.1
    have N' := sh_Gd_n P hs G
    have ad := xs_addr P hs G
    have x := XP _ (sh_Gd_r P hs G).1 i (sh_Gd_r P hs G).2
    have hkd : sh_kd g i < 22 := by unfold sh_kd; split <;> have := N'.1.1 <;> omega
    -- Y's answer
    have Y : ∀ w : Int64, w = 32 * (sh_vl g i r).toInt64 + lN (sh_kd g i) → wpY_at (fun r' v' => r' = w ∧ i_Rel (k + 5) (xf_concepts, xf_drafted, xf_place, nI F, nI i, f, nI a - 1, xf_depth, xf_top, xf_lets, xf_says, xf_result, xa_tok, xa_end, xa_num, xa_length, xa_holes, xa_draft, xa_draftNum, xa_copies, xa_tokens, xa_replaced, xa_deep, xa_lies, xa_ofKind, fr.1, fr.2.1, fr.2.2.1, fr.2.2.2.1, fr.2.2.2.2.1, fr.2.2.2.2.2.1, fr.2.2.2.2.2.2.1, fr.2.2.2.2.2.2.2.1, fr.2.2.2.2.2.2.2.2.1, fr.2.2.2.2.2.2.2.2.2, xa_workNode, xa_stage, xa_workFrame, xa_values, xa_bound, xa_boundTo, xa_output, xa_given) v') (yf_concepts, yf_place, yf_size, yf_uses, yf_of, yf_result, yf_says, yb_kind, yb_behind, yb_length, yb_holes, yb_value, yb_kinds, yb_origin, yb_values, yb_parent, yb_span, yb_todo, yb_within, yb_under, yb_stands, yb_outer, yb_from, yb_left, yb_variable, yb_saved, yb_worth, yb_said, yb_work, yb_phase) v1 v2 := by
      intro w ew
      unfold wpY_at
      refine ys_has (g := g) P YP (fun r h => (hl r h).2) Ca (fun h => absurd (sh_q4 hs e h) id) (fun s' hs' e' hno => ?_) (fun s' k2 hs' e' _ _ _ hk2 ek2 r z v kds ogn vls prt sp td wi un st ou fr' E => br_f (by decide) ?_)
      · have := sh_qs hs hs' e e'
        subst this
        exact absurd (hno k' h1 hT hR hk' ek) id
      · have := sh_qs hs hs' e e'
        subst this
        have := sh_qk hT hk' hk2 ek ek2
        subst this
        obtain ⟨_, _, _, S, Cl, hS0⟩ := sh_Ex_1 E h1 hT hR
        have f := ((Cl _ _ _ _ _ (sh_Rc_sub Cl hS0 hS)).2.2.2 t1 t2).1
        have iv : vp_in v2 2001 := by rw [ek]; exact vp_in_nI (by omega) (by omega)
        refine ⟨iv, iv, ?_, ⟨g, cc, hi, d, dk, dv, sy, P, hc, hl, hh, hd, XP, YP, Or.inr ⟨s', r, hs, rfl, E⟩, hr⟩⟩
        rw [ek, nI_clamp (by omega), f.1, f.2.1, nI_l (by omega)]
        exact ew.symm
    have ii : vp_in (nI i) 168 := vp_in_nI ad.1 (by omega)
    refine ⟨ii, nm_r (e' := nI (sh_tk g i)) (by rw [nI_clamp (by omega)]; exact x.1) ⟨ii, nm_r (e' := (sh_nm g i).toInt64) (by rw [nI_clamp (by omega), x.2.2.1]) (pk_eq (sh_tk g i) 10 (fun h10 => ?_) (fun h10 => ?_))⟩⟩
    · -- OWN
      have hr6 := N'.1.2.2.2.2.1 h10
      cases r with
      | nil => exfalso; have e0 : sh_rw g s [] = 6 + s := rfl; omega
      | cons y r =>
        obtain ⟨i', u'⟩ := y
        obtain ⟨q, q1, q2, q3, q4, q5, q6⟩ := hC
        have G5 := G.2.2.2.2
        have ad5 := xs_addr P hs G5
        have x5 := XP _ (sh_Gd_r P hs G5).1 i' (sh_Gd_r P hs G5).2
        have eu : fr.2.2.2.2.2.2.2.2.1 f.toNatClampNeg &&& 255 = nI i' := by
          rw [q1, nI_clamp (by omega), q4]
          exact (sb_byte i' (by omega)).1
        refine ⟨by rw [q1]; exact vp_in_nI (by omega) (by omega), by rw [eu]; exact vp_in_nI ad5.1 (by omega), ?_⟩
        rw [eu, nI_clamp (by omega), x5.2.2.1]
        refine Y _ ?_
        have ev : sh_vl g i ((i', u') :: r) = sh_nm g i' := if_pos h10
        have ek0 : sh_kd g i = 0 := if_pos h10
        have z0 : ∀ y : Int64, y = y + lN 0 := by intro y; exact (Int64.add_zero y).symm
        rw [ev, ek0]
        exact z0 _
    · have ekd : sh_kd g i = sh_tk g i := if_neg h10
      have plain : (∀ i' u' r', r = (i', u') :: r' → ¬ (sh_nm g i < 0 ∧ (sh_tk g i = 1 ∨ sh_tk g i = 7))) → wpY_at (fun r' v' => r' = 32 * (sh_nm g i).toInt64 + (nI (sh_tk g i)).toInt64 ∧ i_Rel (k + 5) (xf_concepts, xf_drafted, xf_place, nI F, nI i, f, nI a - 1, xf_depth, xf_top, xf_lets, xf_says, xf_result, xa_tok, xa_end, xa_num, xa_length, xa_holes, xa_draft, xa_draftNum, xa_copies, xa_tokens, xa_replaced, xa_deep, xa_lies, xa_ofKind, fr.1, fr.2.1, fr.2.2.1, fr.2.2.2.1, fr.2.2.2.2.1, fr.2.2.2.2.2.1, fr.2.2.2.2.2.2.1, fr.2.2.2.2.2.2.2.1, fr.2.2.2.2.2.2.2.2.1, fr.2.2.2.2.2.2.2.2.2, xa_workNode, xa_stage, xa_workFrame, xa_values, xa_bound, xa_boundTo, xa_output, xa_given) v') (yf_concepts, yf_place, yf_size, yf_uses, yf_of, yf_result, yf_says, yb_kind, yb_behind, yb_length, yb_holes, yb_value, yb_kinds, yb_origin, yb_values, yb_parent, yb_span, yb_todo, yb_within, yb_under, yb_stands, yb_outer, yb_from, yb_left, yb_variable, yb_saved, yb_worth, yb_said, yb_work, yb_phase) v1 v2 := by
        intro hn
        refine Y _ ?_
        rw [nI_l (by omega), ekd]
        have ev : sh_vl g i r = sh_nm g i := by
          cases r with
          | nil => rfl
          | cons y r =>
            show (if sh_tk g i = 10 then _ else if _ then _ else _) = _
            rw [if_neg h10, if_neg (hn _ _ _ rfl)]
        rw [ev]
      have k76 : sh_tk g i = 1 ∨ sh_tk g i = 7 → wX_at_76 (fun r' u' => wpY_at (fun r'' v' => r'' = r' ∧ i_Rel (k + 5) u' v') (yf_concepts, yf_place, yf_size, yf_uses, yf_of, yf_result, yf_says, yb_kind, yb_behind, yb_length, yb_holes, yb_value, yb_kinds, yb_origin, yb_values, yb_parent, yb_span, yb_todo, yb_within, yb_under, yb_stands, yb_outer, yb_from, yb_left, yb_variable, yb_saved, yb_worth, yb_said, yb_work, yb_phase) v1 v2) (nI (sh_tk g i)) (sh_nm g i).toInt64 xf_concepts xf_drafted xf_place (nI F) (nI i) f (nI a - 1) xf_depth xf_top xf_lets xf_says xf_result xa_tok xa_end xa_num xa_length xa_holes xa_draft xa_draftNum xa_copies xa_tokens xa_replaced xa_deep xa_lies xa_ofKind fr.1 fr.2.1 fr.2.2.1 fr.2.2.2.1 fr.2.2.2.2.1 fr.2.2.2.2.2.1 fr.2.2.2.2.2.2.1 fr.2.2.2.2.2.2.2.1 fr.2.2.2.2.2.2.2.2.1 fr.2.2.2.2.2.2.2.2.2 xa_workNode xa_stage xa_workFrame xa_values xa_bound xa_boundTo xa_output xa_given := by
        intro hv
        rcases N'.1.2.2.2.2.2.1 hv with ⟨v, hv10, hn⟩ | ⟨hr6, hn⟩
        · refine br_t (by rw [hn, nI_l (by omega)]; exact sh_l0 (by omega)) (plain (fun _ _ _ _ z => ?_))
          rw [hn] at z
          exact nI_pos (by omega) z.1
        · cases r with
          | nil => exfalso; have e0 : sh_rw g s [] = 6 + s := rfl; omega
          | cons y r =>
            obtain ⟨i', u'⟩ := y
            obtain ⟨q, q1, q2, q3, q4, q5, q6⟩ := hC
            have hu' : u' ≤ 2000 := by
              have := (hnu q q2).2
              have := OK.2.2.1
              omega
            obtain ⟨w, hw⟩ : ∃ w, sh_nm g i = -1 ∧ w = 100 + 2 * u' ∨ sh_nm g i = -2 ∧ w = 101 + 2 * u' := by
              rcases hn with hn | hn
              · exact ⟨_, Or.inl ⟨hn, rfl⟩⟩
              · exact ⟨_, Or.inr ⟨hn, rfl⟩⟩
            have ng := sh_neg hu' hw
            have neg : sh_nm g i < 0 := by rcases hn with hn | hn <;> (rw [hn]; decide)
            have c1 : fr.2.1 f.toNatClampNeg = nI u' := by rw [q1, nI_clamp (by omega), (hnu q q2).1, q3]
            refine br_f (by rcases hn with hn | hn <;> (rw [hn]; decide)) ⟨by rw [q1]; exact vp_in_nI (by omega) (by omega), nm_r (e' := lN w) (by rw [c1]; exact ng.2) (Y _ ?_)⟩
            have hw31 : w < 2 ^ 31 := by rcases hw with hw | hw <;> omega
            have ev : sh_vl g i ((i', u') :: r) = nI w := by
              show (if sh_tk g i = 10 then _ else if _ then _ else _) = _
              rw [if_neg h10, if_pos ⟨neg, hv⟩]
              exact ng.1
            rw [ev, nI_l hw31, nI_l (by omega), ekd]
      refine pk_eq (sh_tk g i) 1 (fun h => k76 (Or.inl h)) (fun g1 => pk_eq (sh_tk g i) 7 (fun h => k76 (Or.inr h)) (fun g7 => plain (fun _ _ _ _ z => by omega)))
end
section
/-! a draft becomes a row: the program behind it -/
def sh_g0 (g : sh_G) (b n row : Nat) (dk : Nat → Nat) (dn : Nat → Int32) (ho' : Nat → Nat) : sh_G :=
  (fun j => if b ≤ j ∧ j < b + n then dk (j - b) else sh_tk g j, sh_en g, ho', fun r => if r = row then n else sh_ln g r, fun j => if b ≤ j ∧ j < b + n then dn (j - b) else sh_nm g j, sh_T g, sh_R g, sh_D g, sh_C g, sh_K g, sh_L g)
theorem sh_xb_dis {r row x y : Nat} (hr : r < 10) (hw : row < 10) (hne : r ≠ row) (hx : x ≤ if r < 6 then 12 else 24) (hy : y ≤ if row < 6 then 12 else 24) : sh_xb r + x ≤ sh_xb row ∨ sh_xb row + y ≤ sh_xb r := by
  unfold sh_xb
  repeat (first | omega | split at * )
theorem sh_newrow {g : sh_G} {cc hi cc' hi' row b n : Nat} {dk ho' ms : Nat → Nat} {dn : Nat → Int32} (P : sh_Pg g cc hi) (hcc' : cc' ≤ hi') (hi6 : hi' ≤ 6) (hrow : row < hi' ∨ 6 ≤ row ∧ row < 10) (hb : b = sh_xb row)
    (hn : n ≤ if row < 6 then 12 else 24) (hn1 : row < 6 → 1 ≤ n) (hho : ∀ c, c < 6 → ho' c ≤ 3)
    (Hoth : ∀ r, (r < hi' ∨ 6 ≤ r ∧ r < 10) → r ≠ row → (r < hi ∨ 6 ≤ r ∧ r < 10) ∧ sh_ub cc r ≤ sh_ub cc' r ∧ (r < 6 → ho' r = sh_ho g r) ∧ ∀ c, c < sh_ub cc r → c ≠ row ∧ c < 6 ∧ ho' c = sh_ho g c)
    (Hnew : ∀ k, k < n → dk k < 22 ∧ (dk k ≤ 10 ∨ 16 ≤ dk k) ∧ (16 ≤ dk k → dk k - 16 < sh_ub cc' row ∧ dk k - 16 ≠ row ∧ dk k - 16 < hi ∧ ho' (dk k - 16) = sh_ho g (dk k - 16)) ∧
      (dk k = 9 → ∃ v, v < (if row < 6 then ho' row else 0) ∧ dn k = nI v) ∧ (dk k = 10 → row < 6) ∧ (dk k = 1 ∨ dk k = 7 → (∃ v, v < 10 ∧ dn k = nI v) ∨ (row < 6 ∧ (dn k = -1 ∨ dn k = -2))) ∧ (2 ≤ dk k → dk k ≠ 7 → dk k ≠ 9 → dk k < 16 → dn k = 0))
    (m0 : ms n = 0) (hms : ∀ k, k < n → 1 ≤ ms k ∧ ms (k + 1) + 1 = ms k + sh_ar (sh_ho g) (dk k)) :
    ∃ g' : sh_G, sh_Pg g' cc' hi' ∧ (∀ k, k < n → sh_tk g' (b + k) = dk k ∧ sh_nm g' (b + k) = dn k) ∧ sh_ho g' = ho' ∧ (∀ r, sh_ln g' r = if r = row then n else sh_ln g r) ∧ sh_Ag g g' (fun j => ¬ (b ≤ j ∧ j < b + n)) ∧ (∀ k, k < n → sh_Bd g' b n (b + k)) := by
  have hw10 : row < 10 := by omega
  have G0 : ∀ j, b ≤ j → j < b + n → sh_tk (sh_g0 g b n row dk dn ho') j = dk (j - b) ∧ sh_nm (sh_g0 g b n row dk dn ho') j = dn (j - b) := fun j h1 h2 => ⟨if_pos ⟨h1, h2⟩, if_pos ⟨h1, h2⟩⟩
  have A0 : sh_Ag g (sh_g0 g b n row dk dn ho') (fun j => ¬ (b ≤ j ∧ j < b + n)) := fun j hj => ⟨if_neg hj, rfl, if_neg hj, rfl, rfl, rfl, rfl, rfl, rfl⟩
  have tk0 : ∀ k, k < n → sh_tk (sh_g0 g b n row dk dn ho') (b + k) = dk k := fun k hk => by rw [(G0 (b + k) (by omega) (by omega)).1, Nat.add_sub_cancel_left]
  have nm0 : ∀ k, k < n → sh_nm (sh_g0 g b n row dk dn ho') (b + k) = dn k := fun k hk => by rw [(G0 (b + k) (by omega) (by omega)).2, Nat.add_sub_cancel_left]
  have an0 : ∀ k, k < n → sh_an (sh_g0 g b n row dk dn ho') (b + k) = sh_ar (sh_ho g) (dk k) := by
    intro k hk
    show sh_ar ho' (sh_tk (sh_g0 g b n row dk dn ho') (b + k)) = _
    rw [tk0 k hk]
    unfold sh_ar
    by_cases h : 16 ≤ dk k
    · rw [if_pos h, if_pos h, ((Hnew k hk).2.2.1 h).2.2.2]
    · rw [if_neg h, if_neg h]
  have rt0 : ∀ k, k < n → sh_rt (sh_g0 g b n row dk dn ho') (b + k) = 12 * (dk k - 16) := fun k hk => by unfold sh_rt; rw [tk0 k hk]
  have an3 : ∀ k, k < n → sh_an (sh_g0 g b n row dk dn ho') (b + k) ≤ 3 := by
    intro k hk
    rw [an0 k hk]
    unfold sh_ar
    split
    · exact P.2.2.1 _ (by have := (Hnew k hk).1; omega)
    · repeat (first | omega | split)
  have rtout : ∀ c, c < 6 → c ≠ row → ¬ (b ≤ 12 * c ∧ 12 * c < b + n) := by
    intro c hc hne
    have d := sh_xb_dis (r := c) (row := row) (x := 12) (y := n) (by omega) hw10 hne (by rw [if_pos hc]; omega) hn
    have e : sh_xb c = 12 * c := by unfold sh_xb; rw [if_pos hc]
    omega
  obtain ⟨g', t1, t2, t3, t4, gA, gS, gB⟩ := sh_build (g0 := sh_g0 g b n row dk dn ho') (b := b) (n := n) (ms := ms) m0 (fun k hk => by rw [an0 k hk]; exact hms k hk) an3 (fun k hk h => by
    rw [tk0 k hk] at h
    have q := (Hnew k hk).2.2.1 h
    rw [rt0 k hk]
    refine ⟨rtout _ (by have := (Hnew k hk).1; omega) q.2.1, ?_⟩
    have D := (P.2.2.2.2.2 _ (Or.inl q.2.2.1) _ (sh_rt_IR P q.2.2.1)).2.2.2.1
    exact D) n (Nat.le_refl _)
  have Bd : ∀ k, k < n → sh_Bd g' b n (b + k) := fun k hk => gB k (by omega) hk
  have tkn : ∀ k, k < n → sh_tk g' (b + k) = dk k := fun k hk => by rw [t1]; exact tk0 k hk
  have nmn : ∀ k, k < n → sh_nm g' (b + k) = dn k := fun k hk => by rw [t4]; exact nm0 k hk
  have hho' : sh_ho g' = ho' := t2
  have hln : ∀ r, sh_ln g' r = if r = row then n else sh_ln g r := fun r => by rw [t3]; rfl
  have Ag : sh_Ag g g' (fun j => ¬ (b ≤ j ∧ j < b + n)) := by
    intro j hj
    have a := A0 j hj
    have c := gA j hj
    exact ⟨c.1.trans a.1, c.2.1.trans a.2.1, c.2.2.1.trans a.2.2.1, c.2.2.2.1.trans a.2.2.2.1, c.2.2.2.2.1.trans a.2.2.2.2.1, c.2.2.2.2.2.1.trans a.2.2.2.2.2.1, c.2.2.2.2.2.2.1.trans a.2.2.2.2.2.2.1, c.2.2.2.2.2.2.2.1.trans a.2.2.2.2.2.2.2.1, c.2.2.2.2.2.2.2.2.trans a.2.2.2.2.2.2.2.2⟩
  have hbr : sh_hb g' row = if row < 6 then ho' row else 0 := by unfold sh_hb; rw [hho']
  have hb3 : sh_hb g' row ≤ 3 := by
    rw [hbr]
    split
    · exact hho _ (by omega)
    · omega
  have Cz := sh_Cz_of (g := g') (b := b) (n := n) (hb := sh_hb g' row) Bd hb3 (fun k hk h => by
    rw [tkn k hk] at h
    rw [nmn k hk, hbr]
    exact (Hnew k hk).2.2.2.1 h) n 0 (Nat.zero_add _)
  refine ⟨g', ⟨hcc', hi6, fun c hc => by rw [hho']; exact hho c hc, fun c hc => ?_, fun s hs => ?_, fun r hr i hi => ?_⟩, fun k hk => ⟨tkn k hk, nmn k hk⟩, hho', hln, Ag, Bd⟩
  · rw [hln]
    by_cases e : c = row
    · rw [if_pos e]
      have := hn1 (by omega)
      rw [if_pos (by omega)] at hn
      omega
    · rw [if_neg e]
      have q := (Hoth c (Or.inl hc) e).1
      exact P.2.2.2.1 c (by omega)
  · rw [hln]
    by_cases e : 6 + s = row
    · rw [if_pos e]
      rw [if_neg (by omega)] at hn
      omega
    · rw [if_neg e]; exact P.2.2.2.2.1 s hs
  · by_cases e : r = row
    · subst e
      have i1 : b ≤ i := by have := hi.1; omega
      have i2 : i < b + n := by have := hi.2; rw [hln, if_pos rfl] at this; omega
      obtain ⟨k, rfl⟩ : ∃ k, i = b + k := ⟨i - b, by omega⟩
      have hk : k < n := by omega
      obtain ⟨B1, B2, B3, B4, B5, B6, B7⟩ := Bd k hk
      obtain ⟨N1, N2, N3, N4, N5, N6, N7⟩ := Hnew k hk
      have er : sh_xb r + sh_ln g' r = b + n := by rw [hln, if_pos rfl, hb]
      refine ⟨⟨by rw [tkn k hk]; exact N1, by rw [tkn k hk]; exact N2, by rw [tkn k hk]; exact fun h => (N3 h).1, by rw [tkn k hk, nmn k hk, hbr]; exact N4, by rw [tkn k hk]; exact N5, by rw [tkn k hk, nmn k hk]; exact N6, by rw [tkn k hk, nmn k hk]; exact N7, fun j hj => by rw [er]; exact B1 j hj, B2, B3, by rw [er]; exact B4⟩, B5, B6, B7, fun h h3 hbh => Cz k (Nat.zero_le _) hk h h3 hbh⟩
    · have q := Hoth r hr e
      have hlr : sh_ln g' r = sh_ln g r := by rw [hln, if_neg e]
      have hi' : sh_IR g r i := ⟨hi.1, by have := hi.2; rw [hlr] at this; exact this⟩
      have hr10 : r < 10 := by omega
      have lr : sh_ln g r ≤ if r < 6 then 12 else 24 := by
        split
        · exact (P.2.2.2.1 r (by omega)).2
        · have := P.2.2.2.2.1 (r - 6) (by omega)
          rw [show 6 + (r - 6) = r by omega] at this
          exact this
      have dis := sh_xb_dis (r := r) (row := row) (x := sh_ln g r) (y := n) hr10 hw10 e lr hn
      have out : ∀ j, sh_xb r ≤ j → j < sh_xb r + sh_ln g r → ¬ (b ≤ j ∧ j < b + n) := fun j h1 h2 => by omega
      have Ai := out i hi'.1 hi'.2
      have N8' := (P.2.2.2.2.2 r q.1 i hi').1.2.2.2.2.2.2.2.1
      have hop : ∀ t, t < sh_an g i → ¬ (b ≤ sh_op g i t ∧ sh_op g i t < b + n) := fun t ht => out _ (Nat.le_trans hi'.1 (Nat.le_of_lt (N8' t ht).1)) (N8' t ht).2
      obtain ⟨⟨N1, N2, N3, N4, N5, N6, N7, N8, N9, N10, N11⟩, M1, M2, M3, M4⟩ := P.2.2.2.2.2 r q.1 i hi'
      have hrt : 16 ≤ sh_tk g i → ¬ (b ≤ sh_rt g i ∧ sh_rt g i < b + n) := fun h => rtout _ (q.2.2.2 _ (N3 h)).2.1 (q.2.2.2 _ (N3 h)).1
      have hh : 16 ≤ sh_tk g i → sh_ho g' (sh_tk g i - 16) = sh_ho g (sh_tk g i - 16) := fun h => by rw [hho']; exact (q.2.2.2 _ (N3 h)).2.2
      have ea := sh_fr_an Ag Ai hh
      have eo := sh_fr_op (i := i) Ag hop
      have a := Ag i Ai
      have hbe : sh_hb g' r = sh_hb g r := by
        unfold sh_hb
        by_cases h6 : r < 6
        · rw [if_pos h6, if_pos h6, hho']; exact q.2.2.1 h6
        · rw [if_neg h6, if_neg h6]
      refine ⟨⟨by rw [a.1]; exact N1, by rw [a.1]; exact N2, by rw [a.1]; exact fun h => Nat.lt_of_lt_of_le (N3 h) q.2.1, by rw [a.1, a.2.2.1, hbe]; exact N4, by rw [a.1]; exact N5, by rw [a.1, a.2.2.1]; exact N6, by rw [a.1, a.2.2.1]; exact N7, fun j hj => ?_, ?_, by rw [a.2.1]; exact N10, by rw [a.2.1, hlr]; exact N11⟩,
        sh_fr_LQ Ag Ai hh hop hrt M1, sh_fr_DQ Ag Ai hh hop hrt M2, sh_fr_DB Ag Ai M3, fun h h3 hbh => ?_⟩
      · rw [ea] at hj
        rw [eo j (Nat.le_of_lt hj), hlr]
        exact N8 j hj
      · rw [a.2.1, ea, eo _ (Nat.le_refl _)]; exact N9
      · rw [a.2.2.2.2.2.2.1]
        rw [hbe] at hbh
        exact M4 h h3 hbh
end
section
/-! define, source -/
/-- what a new row has brought -/
def sh_NR (g g' : sh_G) (cc' hi' hi row b n : Nat) (dk : Nat → Nat) (dn : Nat → Int32) : Prop :=
  sh_Pg g' cc' hi' ∧ (∀ k, k < n → sh_tk g' (b + k) = dk k ∧ sh_nm g' (b + k) = dn k) ∧ (∀ r, sh_ln g' r = if r = row then n else sh_ln g r) ∧ sh_Ag g g' (fun j => ¬ (b ≤ j ∧ j < b + n)) ∧ (∀ k, k < n → sh_Bd g' b n (b + k)) ∧
  row < 10 ∧ b = sh_xb row ∧ (n ≤ if row < 6 then 12 else 24) ∧ (row < hi' ∨ 6 ≤ row ∧ row < 10) ∧ (∀ r, (r < hi' ∨ 6 ≤ r ∧ r < 10) → r ≠ row → (r < hi ∨ 6 ≤ r ∧ r < 10))
theorem xs_XN_ag {g g' : sh_G} {A : Nat → Prop} {cp tn rp dp ls ok : Nat → Int32} {j : Nat} (H : sh_Ag g g' A) (hj : A j) (h : xs_XN g cp tn rp dp ls ok j) : xs_XN g' cp tn rp dp ls ok j := by
  obtain ⟨_, _, _, a4, a5, a6, a7, a8, a9⟩ := H j hj
  obtain ⟨h1, h2, h3, h4, h5⟩ := h
  refine ⟨by rw [a4]; exact h1, by rw [a5]; exact h2, by rw [a7]; exact h3, by rw [a8]; exact h4, ?_⟩
  rw [a4, a6, a9]; exact h5
section NRW
variable {g g' : sh_G} {cc' hi' hi row b n : Nat} {dk : Nat → Nat} {dn : Nat → Int32}
theorem sh_NR_len (NR : sh_NR g g' cc' hi' hi row b n dk dn) {r : Nat} (hr : r < hi' ∨ 6 ≤ r ∧ r < 10) : sh_ln g' r ≤ if r < 6 then 12 else 24 := by
  have P := NR.1
  have := P.2.1
  split
  · exact (P.2.2.2.1 r (by omega)).2
  · have := P.2.2.2.2.1 (r - 6) (by omega)
    rw [show 6 + (r - 6) = r by omega] at this
    exact this
theorem sh_NR_out (NR : sh_NR g g' cc' hi' hi row b n dk dn) {r i : Nat} (hr : r < hi' ∨ 6 ≤ r ∧ r < 10) (hne : r ≠ row) (h : sh_IR g' r i) : ¬ (b ≤ i ∧ i < b + n) ∧ sh_IR g r i ∧ i < 168 ∧ (i - sh_xb r < 24) := by
  have P := NR.1
  have l := sh_NR_len NR hr
  have h6 := P.2.1
  obtain ⟨_, _, n3, _, _, n6, n7, n8, n9, _⟩ := NR
  have dis := sh_xb_dis (r := r) (row := row) (x := sh_ln g' r) (y := n) (by omega) n6 hne l n8
  have e := n3 r
  rw [if_neg hne] at e
  have h1 := h.1
  have h2 := h.2
  refine ⟨by omega, ⟨h1, by rw [← e]; exact h2⟩, ?_, ?_⟩
  · unfold sh_xb at h2
    split at h2
    · rw [if_pos (by assumption)] at l; omega
    · rw [if_neg (by assumption)] at l; omega
  · split at l <;> omega
end NRW
section XSR
variable {xf_concepts xf_drafted xf_place xf_frames xf_node xf_frame xf_above xf_depth xf_top xf_lets xf_says xf_result : Int32} {xa_tok xa_end xa_num xa_length xa_holes xa_draft xa_draftNum xa_copies xa_tokens xa_replaced xa_deep xa_lies xa_ofKind xa_caller xa_number xa_size0 xa_size1 xa_size2 xa_uses0 xa_uses1 xa_uses2 xa_useAt xa_begun xa_workNode xa_stage xa_workFrame xa_values xa_bound xa_boundTo xa_output xa_given : Nat → Int32} {g g' : sh_G} {cc' hi' hi row b n : Nat} {dk : Nat → Nat} {dn : Nat → Int32}
theorem xs_store_row {post : SX → Prop} (NR : sh_NR g g' cc' hi' hi row b n dk dn) (XP : xs_XP g hi xa_tok xa_end xa_num xa_copies xa_tokens xa_replaced xa_deep xa_lies xa_ofKind) (ed : xf_drafted = nI n) (hd : ∀ i, i < n → xa_draft i = nI (dk i) ∧ dk i < 22) (hdn : ∀ i, i < n → xa_draftNum i = dn i)
    (hh : ∀ c, c < hi' → xa_holes c = nI (sh_ho g' c)) (hu : ∀ k, k < n → 16 ≤ dk k → dk k - 16 < hi' ∧ dk k - 16 ≠ row)
    (K : ∀ tok en num cp tn rp dp ls ok, xs_XP g' hi' tok en num cp tn rp dp ls ok → post (xf_concepts, 0, xf_place, xf_frames, xf_node, xf_frame, xf_above, xf_depth, xf_top, xf_lets, xf_says, xf_result, tok, en, num, xa_length, xa_holes, xa_draft, xa_draftNum, cp, tn, rp, dp, ls, ok, xa_caller, xa_number, xa_size0, xa_size1, xa_size2, xa_uses0, xa_uses1, xa_uses2, xa_useAt, xa_begun, xa_workNode, xa_stage, xa_workFrame, xa_values, xa_bound, xa_boundTo, xa_output, xa_given)) :
    wpX_take post (xf_concepts, xf_drafted, xf_place, xf_frames, xf_node, xf_frame, xf_above, xf_depth, xf_top, xf_lets, xf_says, xf_result, xa_tok, xa_end, xa_num, xa_length, xa_holes, xa_draft, xa_draftNum, xa_copies, xa_tokens, xa_replaced, xa_deep, xa_lies, xa_ofKind, xa_caller, xa_number, xa_size0, xa_size1, xa_size2, xa_uses0, xa_uses1, xa_uses2, xa_useAt, xa_begun, xa_workNode, xa_stage, xa_workFrame, xa_values, xa_bound, xa_boundTo, xa_output, xa_given) (nI b) := by
  have P := NR.1
  have NR' := NR
  obtain ⟨_, n2, n3, n4, n5, n6, n7, n8, n9, n10⟩ := NR'
  have h6 := P.2.1
  have hbn : b + n ≤ 168 ∧ n ≤ 24 := by
    rw [n7]
    unfold sh_xb
    split at n8
    · rw [if_pos (by assumption)]; omega
    · rw [if_neg (by assumption)]; omega
  have lrow : sh_ln g' row = n := by rw [n3, if_pos rfl]
  refine xs_take (g := g') (b := b) (n := n) (Kn := fun j => ∃ r, (r < hi' ∨ 6 ≤ r ∧ r < 10) ∧ r ≠ row ∧ sh_IR g' r j) (dk := dk) hbn.1 hbn.2 (fun i h => ⟨(hd i h).1, by have := (hd i h).2; omega⟩) ed (fun j hj => ?_) (fun i h1 h2 => ?_) (fun j hj => ?_) (fun en cp tn rp dp ls ok H => K _ _ _ _ _ _ _ _ _ (fun r hr i hi => ?_))
  · obtain ⟨r, hr, hne, hi⟩ := hj
    have o := sh_NR_out NR hr hne hi
    exact ⟨o.2.2.1, o.1, (P.2.2.2.2.2 r hr j hi).2.2.2.1⟩
  · obtain ⟨k, rfl⟩ : ∃ k, i = b + k := ⟨i - b, by omega⟩
    have hk : k < n := by omega
    obtain ⟨B1, B2, B3, B4, B5, B6, B7⟩ := n5 k hk
    have t := n2 k hk
    have tk22 := (hd k hk).2
    refine ⟨by rw [t.1]; exact tk22, fun h => ?_, B1, B2, by omega, sh_an3 P (by rw [t.1]; exact tk22), B5, B6, B7, ?_, ?_⟩
    · rw [t.1] at h
      have q := hu k hk h
      refine ⟨⟨dk k - 16, Or.inl q.1, q.2, ?_⟩, ?_⟩
      · have := sh_rt_IR P q.1
        unfold sh_rt
        rw [t.1]; exact this
      · rw [t.1]; exact hh _ q.1
    · rw [t.1]; exact sh_blk_i hk
    · rw [t.2, ← hdn k hk]; exact sh_blk_i hk
  · obtain ⟨r, hr, hne, hi⟩ := hj
    have o := sh_NR_out NR hr hne hi
    have x := XP r (n10 r hr hne) j o.2.1
    exact ⟨xs_XN_ag n4 o.1 x.2.2.2, by rw [(n4 j o.1).2.1]; exact x.2.1⟩
  · by_cases e : r = row
    · subst e
      have i1 : b ≤ i := by have := hi.1; omega
      have i2 : i < b + n := by have := hi.2; rw [lrow] at this; omega
      obtain ⟨k, rfl⟩ : ∃ k, i = b + k := ⟨i - b, by omega⟩
      have hk : k < n := by omega
      have q := H (b + k) (Or.inl ⟨i1, i2⟩)
      have t := n2 k hk
      exact ⟨by rw [t.1]; exact sh_blk_i hk, q.2, by rw [t.2, ← hdn k hk]; exact sh_blk_i hk, q.1⟩
    · have o := sh_NR_out NR hr e hi
      have x := XP r (n10 r hr e) i o.2.1
      have q := H i (Or.inr ⟨r, hr, e, hi⟩)
      have a := n4 i o.1
      exact ⟨by rw [a.1, sh_blk_o (by omega)]; exact x.1, q.2, by rw [a.2.2.1, sh_blk_o (by omega)]; exact x.2.2.1, q.1⟩
end XSR
section YSR
variable {yf_concepts yf_place yf_size yf_uses yf_of yf_result yf_says : Int32} {yb_kind yb_behind yb_length yb_holes yb_value yb_kinds yb_origin yb_values yb_parent yb_span yb_todo yb_within yb_under yb_stands yb_outer yb_from yb_left yb_variable yb_saved yb_worth yb_said yb_work yb_phase : Nat → Int32} {g g' : sh_G} {cc' hi' hi row b n : Nat} {dk : Nat → Nat} {dn dv : Nat → Int32}
theorem ys_store_row {post : SY → Prop} (NR : sh_NR g g' cc' hi' hi row b n dk dn) (YP : ys_YP g hi yb_kind yb_value yb_behind) (el : yb_length 10 = nI n) (D : sh_Dr dk dn dv n) (hd : ∀ k, k < n → yb_kind (240 + k) = nI (dk k) ∧ yb_value (240 + k) = dv k)
    (hh : ∀ k, k < n → 16 ≤ dk k → yb_holes (dk k - 16) = nI (sh_ho g' (dk k - 16)))
    (K : ∀ ak av ab, ys_YP g' hi' ak av ab → post (yf_concepts, yf_place, yf_size, yf_uses, -1, yf_result, yf_says, ak, ab, upd (upd yb_length row (nI n)) 10 (nI 0), yb_holes, av, yb_kinds, yb_origin, yb_values, yb_parent, yb_span, yb_todo, yb_within, yb_under, yb_stands, yb_outer, yb_from, yb_left, yb_variable, yb_saved, yb_worth, yb_said, yb_work, yb_phase)) :
    wpY_store post (yf_concepts, yf_place, yf_size, yf_uses, yf_of, yf_result, yf_says, yb_kind, yb_behind, yb_length, yb_holes, yb_value, yb_kinds, yb_origin, yb_values, yb_parent, yb_span, yb_todo, yb_within, yb_under, yb_stands, yb_outer, yb_from, yb_left, yb_variable, yb_saved, yb_worth, yb_said, yb_work, yb_phase) (nI row) := by
  have P := NR.1
  have NR' := NR
  obtain ⟨_, n2, n3, n4, n5, n6, n7, n8, n9, n10⟩ := NR'
  have h6 := P.2.1
  have h24 : n ≤ 24 := by split at n8 <;> omega
  have lrow : sh_ln g' row = n := by rw [n3, if_pos rfl]
  refine ys_store (g := g') (b := b) (n := n) (dk := dk) (dv := dv) n6 h24 el (fun k hk => ⟨(D k hk).1, (n2 k hk).1, sh_an3 P (by rw [(n2 k hk).1]; exact (D k hk).1)⟩) hh (fun k hk => ?_) hd (fun ak av ab H1 H2 => K ak av ab (fun r hr i hi => ?_))
  · obtain ⟨B1, B2, B3, B4, _⟩ := n5 k hk
    exact ⟨B1, B2, B3, B4⟩
  · by_cases e : r = row
    · subst e
      have i1 : b ≤ i := by have := hi.1; omega
      have i2 : i < b + n := by have := hi.2; rw [lrow] at this; omega
      obtain ⟨k, rfl⟩ : ∃ k, i = b + k := ⟨i - b, by omega⟩
      have hk : k < n := by omega
      have q := H1 k hk
      have t := n2 k hk
      have ey : sh_yd r (b + k) = 24 * r + k := by unfold sh_yd; omega
      refine ⟨by rw [ey, t.1]; exact q.1, by rw [ey, ← n7]; exact q.2.2, fun z => ?_⟩
      rw [t.1] at z
      rw [ey, q.2.1, t.2]
      exact ((D k hk).2.2.1 z).symm
    · have o := sh_NR_out NR hr e hi
      have y := YP r (n10 r hr e) i o.2.1
      have a := n4 i o.1
      have q := H2 (sh_yd r i) (by unfold sh_yd; omega)
      refine ⟨by rw [q.1, a.1]; exact y.1, by rw [q.2.2, a.2.1]; exact y.2.1, fun z => ?_⟩
      rw [a.1] at z
      rw [q.2.1, a.2.2.1]; exact y.2.2 z
end YSR
end
section
theorem sh_n8v {h : Nat} (hh : h < 128) {x : Int32} (e : x = nI h) : vp_nar .byte x.toInt8.toInt32 = nI h := by rw [e]; exact sh_n8 hh
theorem sh_lt0 {r : Int32} (h : r = -1) : r < 0 := by rw [h]; decide
theorem i_vc_define {k : Nat} {u : SX} {v : SY} (I : i_Rel k u v) (hk : k + 5 ≤ 2560) (v1 : Int32) : wpX_define (fun r u' => wpY_define (fun r' v' => r' = r ∧ i_Rel (k + 5) u' v') v v1) u v1 := by
  refine zz_el (P := fun u v => wpX_define (fun r u' => wpY_define (fun r' v' => r' = r ∧ i_Rel (k + 5) u' v') v v1) u v1) ?_ I
  intro xf_concepts xf_drafted xf_place xf_frames xf_node xf_frame xf_above xf_depth xf_top xf_lets xf_says xf_result xa_tok xa_end xa_num xa_length xa_holes xa_draft xa_draftNum xa_copies xa_tokens xa_replaced xa_deep xa_lies xa_ofKind xa_caller xa_number xa_size0 xa_size1 xa_size2 xa_uses0 xa_uses1 xa_uses2 xa_useAt xa_begun xa_workNode xa_stage xa_workFrame xa_values xa_bound xa_boundTo xa_output xa_given yf_concepts yf_place yf_size yf_uses yf_of yf_result yf_says yb_kind yb_behind yb_length yb_holes yb_value yb_kinds yb_origin yb_values yb_parent yb_span yb_todo yb_within yb_under yb_stands yb_outer yb_from yb_left yb_variable yb_saved yb_worth yb_said yb_work yb_phase R
  have R' := R
  obtain ⟨g, cc, hi, d, dk, dv, sy, P, ⟨c1, c2, c3, c4, c5, c6⟩, hl, hh, ⟨d1, d2, d3⟩, XP, YP, Ca, hr⟩ := R'
  have hcc : cc ≤ 6 := by have := P.1; have := P.2.1; omega
  unfold wpX_define
  refine xs_among (v := v1) 4 (by omega) rfl (fun hb => br_t rfl ?_) (fun h hh4 eh => br_f (by decide) ?_)
  · unfold wpY_define
    exact ys_oB hb (br_f (by decide) ⟨rfl, R⟩)
  · subst eh
    refine pk_eq cc 6 (fun e6 => ?_) (fun e6 => ?_) c1
    · unfold wpY_define
      exact ys_oG hh4 (by omega) rfl (br_t rfl (br_t (by rw [c2, e6]; rfl) ⟨rfl, R⟩))
    · obtain ⟨r, hX, hY, hm⟩ := sh_mc (xf_concepts := xf_concepts) (xf_drafted := xf_drafted) (xf_place := xf_place) (xf_frames := xf_frames) (xf_node := xf_node) (xf_frame := xf_frame) (xf_above := xf_above) (xf_depth := xf_depth) (xf_top := xf_top) (xf_lets := xf_lets) (xf_says := xf_says) (xf_result := xf_result) (xa_tok := xa_tok) (xa_end := xa_end) (xa_num := xa_num) (xa_length := xa_length) (xa_holes := xa_holes) (xa_draft := xa_draft) (xa_draftNum := xa_draftNum) (xa_copies := xa_copies) (xa_tokens := xa_tokens) (xa_replaced := xa_replaced) (xa_deep := xa_deep) (xa_lies := xa_lies) (xa_ofKind := xa_ofKind) (xa_caller := xa_caller) (xa_number := xa_number) (xa_size0 := xa_size0) (xa_size1 := xa_size1) (xa_size2 := xa_size2) (xa_uses0 := xa_uses0) (xa_uses1 := xa_uses1) (xa_uses2 := xa_uses2) (xa_useAt := xa_useAt) (xa_begun := xa_begun) (xa_workNode := xa_workNode) (xa_stage := xa_stage) (xa_workFrame := xa_workFrame) (xa_values := xa_values) (xa_bound := xa_bound) (xa_boundTo := xa_boundTo) (xa_output := xa_output) (xa_given := xa_given) (yf_concepts := yf_concepts) (yf_place := yf_place) (yf_size := yf_size) (yf_uses := yf_uses) (yf_of := yf_of) (yf_result := yf_result) (yf_says := yf_says) (yb_kind := yb_kind) (yb_behind := yb_behind) (yb_length := yb_length) (yb_holes := yb_holes) (yb_value := yb_value) (yb_kinds := yb_kinds) (yb_origin := yb_origin) (yb_values := yb_values) (yb_parent := yb_parent) (yb_span := yb_span) (yb_todo := yb_todo) (yb_within := yb_within) (yb_under := yb_under) (yb_stands := yb_stands) (yb_outer := yb_outer) (yb_from := yb_from) (yb_left := yb_left) (yb_variable := yb_variable) (yb_saved := yb_saved) (yb_worth := yb_worth) (yb_said := yb_said) (yb_work := yb_work) (yb_phase := yb_phase) (ho := sh_ho g) (dk := dk) (dn := xa_draftNum) (dv := dv) (hv := nI h) (d := d) (cc := cc) c6 d1 P.2.2.1 hcc c4 c5 c1 c2 (fun c hc => (hh c (by omega)).1) (fun c hc => (hh c (by omega)).2) (fun i hi' => ⟨d2 i hi', rfl⟩) d3
      have Ypre : ∀ (Q : Int32 → SY → Prop), wpY_check (fun r_4 => (r_4 < 0 → wpY_store (fun u => match u with | (yf_concepts, yf_place, yf_size, yf_uses, yf_of, yf_result, yf_says, yb_kind, yb_behind, yb_length, yb_holes, yb_value, yb_kinds, yb_origin, yb_values, yb_parent, yb_span, yb_todo, yb_within, yb_under, yb_stands, yb_outer, yb_from, yb_left, yb_variable, yb_saved, yb_worth, yb_said, yb_work, yb_phase) => vp_in yf_concepts 6 ∧ ∀ hs, hs = upd yb_holes yf_concepts.toNatClampNeg (vp_nar .byte (nI h).toInt8.toInt32) → ∀ cn, cn = yf_concepts + 1 → Q yf_concepts (cn, yf_place, yf_size, yf_uses, yf_of, yf_result, yf_says, yb_kind, yb_behind, yb_length, hs, yb_value, yb_kinds, yb_origin, yb_values, yb_parent, yb_span, yb_todo, yb_within, yb_under, yb_stands, yb_outer, yb_from, yb_left, yb_variable, yb_saved, yb_worth, yb_said, yb_work, yb_phase)) (yf_concepts, r_4, yf_size, yf_uses, yf_of, yf_result, yf_says, yb_kind, yb_behind, yb_length, yb_holes, yb_value, yb_kinds, yb_origin, yb_values, yb_parent, yb_span, yb_todo, yb_within, yb_under, yb_stands, yb_outer, yb_from, yb_left, yb_variable, yb_saved, yb_worth, yb_said, yb_work, yb_phase) yf_concepts) ∧ (¬ r_4 < 0 → ∀ le, le = upd yb_length 10 (vp_nar .byte 0) → Q (-1) (yf_concepts, r_4, yf_size, yf_uses, yf_of, yf_result, yf_says, yb_kind, yb_behind, le, yb_holes, yb_value, yb_kinds, yb_origin, yb_values, yb_parent, yb_span, yb_todo, yb_within, yb_under, yb_stands, yb_outer, yb_from, yb_left, yb_variable, yb_saved, yb_worth, yb_said, yb_work, yb_phase))) (yf_concepts, yf_place, yf_size, yf_uses, yf_of, yf_result, yf_says, yb_kind, yb_behind, yb_length, yb_holes, yb_value, yb_kinds, yb_origin, yb_values, yb_parent, yb_span, yb_todo, yb_within, yb_under, yb_stands, yb_outer, yb_from, yb_left, yb_variable, yb_saved, yb_worth, yb_said, yb_work, yb_phase) (nI h) → wpY_define Q (yf_concepts, yf_place, yf_size, yf_uses, yf_of, yf_result, yf_says, yb_kind, yb_behind, yb_length, yb_holes, yb_value, yb_kinds, yb_origin, yb_values, yb_parent, yb_span, yb_todo, yb_within, yb_under, yb_stands, yb_outer, yb_from, yb_left, yb_variable, yb_saved, yb_worth, yb_said, yb_work, yb_phase) (nI h) := by
        intro Q hq
        unfold wpY_define
        exact ys_oG hh4 (by omega) rfl (br_t rfl (br_f (by rw [c2]; intro z; exact e6 ((nI_eq (b := 6) (by omega) (by omega)).mp z)) hq))
      by_cases hneg : r < 0
      · obtain ⟨er, h12, ms, m0, m1⟩ := hm hneg
        have h12' := h12 (nI_pos (by omega))
        have hd1 : 1 ≤ d := by
          by_cases z : d = 0
          · subst z; have := m1.1; omega
          · omega
        have cc6 : cc < 6 := by omega
        obtain ⟨g', P', t1, t2, t3, t4, t5⟩ := sh_newrow (g := g) (cc := cc) (hi := hi) (cc' := cc + 1) (hi' := cc + 1) (row := cc) (b := sh_xb cc) (n := d) (dk := dk) (ho' := fun c => if c = cc then h else sh_ho g c) (ms := ms) (dn := xa_draftNum) P (Nat.le_refl _) (by omega) (Or.inl (by omega)) rfl (by rw [if_pos (by omega)]; exact h12') (fun _ => hd1)
          (fun c hc => by split; omega; exact P.2.2.1 c hc)
          (fun r hr hne => ⟨by have := P.1; omega, by unfold sh_ub; split <;> omega, fun _ => if_neg hne, fun c hc => by
            have q : c < cc := by
              unfold sh_ub at hc
              split at hc <;> omega
            exact ⟨by omega, by omega, if_neg (by omega)⟩⟩)
          (fun q hq => by
            have f := (m1.2 q (Nat.zero_le _) hq).2.2
            refine ⟨(d1 q hq).1, (d1 q hq).2.1, fun z => ?_, fun z => ?_, fun _ => cc6, fun z => ?_, (d1 q hq).2.2.2.1⟩
            · have a := f.1 z
              refine ⟨?_, Nat.ne_of_lt a, Nat.lt_of_lt_of_le a P.1, if_neg (Nat.ne_of_lt a)⟩
              unfold sh_ub; rw [if_pos cc6]; exact a
            · obtain ⟨v, hv, ev⟩ := (d1 q hq).2.2.2.2.2 z
              refine ⟨v, ?_, ev⟩
              rw [if_pos cc6, if_pos rfl]
              have a := (f.2.2 (nI_pos (by omega))).1 z
              rw [ev] at a
              have a' : ¬ h ≤ v := fun y => a (nI_le y (by omega))
              omega
            · rcases (d1 q hq).2.2.2.2.1 z with y | y
              · exact Or.inl y
              · exact Or.inr ⟨cc6, y⟩)
          m1.1 (fun q hq => ⟨(m1.2 q (Nat.zero_le _) hq).1, (m1.2 q (Nat.zero_le _) hq).2.1⟩)
        have NR : sh_NR g g' (cc + 1) (cc + 1) hi cc (sh_xb cc) d dk xa_draftNum := ⟨P', t1, t3, t4, t5, by omega, rfl, by rw [if_pos (by omega)]; exact h12', Or.inl (by omega), fun r hr hne => by have := P.1; omega⟩
        have ho : ∀ c, sh_ho g' c = if c = cc then h else sh_ho g c := fun c => by rw [t2]
        have uses : ∀ q, q < d → 16 ≤ dk q → dk q - 16 < cc := fun q hq z => (m1.2 q (Nat.zero_le _) hq).2.2.1 z
        have exb : (12 : Int32) * nI cc = nI (sh_xb cc) := by
          refine (pk_mul 12 cc).trans (congrArg nI ?_)
          unfold sh_xb; rw [if_pos (by omega)]
        subst c1
        refine hX _ (br_t hneg ⟨vp_in_nI (by omega) (by omega), nm_r (e' := upd xa_holes cc (nI h)) (by rw [nI_clamp (by omega), sh_n8 (by omega)]) ⟨vp_in_nI (by omega) (by omega), nm_r (e' := upd xa_length cc (nI d)) (by rw [nI_clamp (by omega), sh_n8v (by omega) c4]) ?_⟩⟩)
        rw [exb]
        refine xs_store_row (g := g) (g' := g') (cc' := cc + 1) (hi' := cc + 1) (hi := hi) (row := cc) (n := d) (dk := dk) (dn := xa_draftNum) NR XP c4 (fun i hi' => ⟨d2 i hi', (d1 i hi').1⟩) (fun _ _ => rfl) (fun c hc => ?_) (fun q hq z => by have := uses q hq z; omega) (fun tok en num cp tn rp dp ls ok XP' => nm_r (nI_1 cc) ?_)
        · rw [ho]
          by_cases e : c = cc
          · rw [if_pos e, e, pk_us]
          · rw [if_neg e, pk_un e]; exact (hh c (by omega)).1
        · refine Ypre _ (hY _ (br_t hneg ?_))
          subst c2
          refine ys_store_row (g := g) (g' := g') (cc' := cc + 1) (hi' := cc + 1) (hi := hi) (row := cc) (n := d) (dk := dk) (dn := xa_draftNum) (dv := dv) NR YP c5 d1 d3 (fun q hq z => ?_) (fun ak av ab YP' => ⟨vp_in_nI (by omega) (by omega), nm_r (e' := upd yb_holes cc (nI h)) (by rw [nI_clamp (by omega), sh_n8 (by omega)]) (nm_r (nI_1 cc) ⟨rfl, ?_⟩)⟩)
          · have := uses q hq z
            rw [ho, if_neg (by omega)]; exact (hh _ (by omega)).2
          · refine ⟨g', cc + 1, cc + 1, 0, dk, dv, sy, P', ⟨rfl, rfl, rfl, rfl, pk_us, by omega⟩, fun r hr => ?_, fun c hc => ?_, ⟨fun i z => by omega, fun i z => by omega, fun i z => by omega⟩, XP', YP', Or.inl rfl, hr⟩
            · rw [t3]
              by_cases e : r = cc
              · rw [if_pos e, e, pk_us, pk_un (by omega), pk_us]; exact ⟨rfl, rfl⟩
              · rw [if_neg e, pk_un e, pk_un (by omega), pk_un e]; exact hl r hr
            · rw [ho]
              by_cases e : c = cc
              · rw [if_pos e, e, pk_us, pk_us]; exact ⟨rfl, rfl⟩
              · rw [if_neg e, pk_un e, pk_un e]; exact hh c hc
      · refine hX _ (br_f hneg (Ypre _ (hY _ (br_f hneg (nm_r (e' := upd yb_length 10 (nI 0)) (by rw [show vp_nar .byte (0 : Int32) = nI 0 from sh_n8' (n := 0) (by omega)]) ⟨rfl, ?_⟩)))))
        exact ⟨g, cc, hi, 0, dk, dv, sy, P, ⟨c1, c2, rfl, rfl, pk_us, by omega⟩, fun r hr => ⟨(hl r hr).1, by rw [pk_un (by omega)]; exact (hl r hr).2⟩, hh, ⟨fun i z => by omega, fun i z => by omega, fun i z => by omega⟩, XP, YP, Ca, hr⟩
end
section
theorem i_vc_source {k : Nat} {u : SX} {v : SY} (I : i_Rel k u v) (hk : k + 5 ≤ 2560) (v1 : Int32) : wpX_source (fun r u' => wpY_source (fun r' v' => r' = r ∧ i_Rel (k + 5) u' v') v v1) u v1 := by
  refine zz_el (P := fun u v => wpX_source (fun r u' => wpY_source (fun r' v' => r' = r ∧ i_Rel (k + 5) u' v') v v1) u v1) ?_ I
  intro xf_concepts xf_drafted xf_place xf_frames xf_node xf_frame xf_above xf_depth xf_top xf_lets xf_says xf_result xa_tok xa_end xa_num xa_length xa_holes xa_draft xa_draftNum xa_copies xa_tokens xa_replaced xa_deep xa_lies xa_ofKind xa_caller xa_number xa_size0 xa_size1 xa_size2 xa_uses0 xa_uses1 xa_uses2 xa_useAt xa_begun xa_workNode xa_stage xa_workFrame xa_values xa_bound xa_boundTo xa_output xa_given yf_concepts yf_place yf_size yf_uses yf_of yf_result yf_says yb_kind yb_behind yb_length yb_holes yb_value yb_kinds yb_origin yb_values yb_parent yb_span yb_todo yb_within yb_under yb_stands yb_outer yb_from yb_left yb_variable yb_saved yb_worth yb_said yb_work yb_phase R
  have R' := R
  obtain ⟨g, cc, hi, d, dk, dv, sy, P, ⟨c1, c2, c3, c4, c5, c6⟩, hl, hh, ⟨d1, d2, d3⟩, XP, YP, Ca, hr⟩ := R'
  have hcc : cc ≤ 6 := by have := P.1; have := P.2.1; omega
  have hi6 := P.2.1
  unfold wpX_source
  refine xs_among (v := v1) 4 (by omega) rfl (fun hb => br_t rfl ?_) (fun s hs es => br_f (by decide) ?_)
  · unfold wpY_source
    exact ys_oB hb (br_f (by decide) ⟨rfl, R⟩)
  · subst es
    have e6 : (6 : Int32) + nI s = nI (6 + s) := nI_add 6 s
    -- a whole expression, or nothing, is stored
    have store : ∀ ms : Nat → Nat, sh_Ms (sh_ho g) dk xa_draftNum cc (-1) d 0 ms → ∀ r : Int32, r = -1 → ∀ (Yk : ∀ Q : Int32 → SY → Prop, wY_source_31 Q (nI s) r yf_concepts yf_place yf_size yf_uses yf_of yf_result yf_says yb_kind yb_behind yb_length yb_holes yb_value yb_kinds yb_origin yb_values yb_parent yb_span yb_todo yb_within yb_under yb_stands yb_outer yb_from yb_left yb_variable yb_saved yb_worth yb_said yb_work yb_phase → wpY_source Q (yf_concepts, yf_place, yf_size, yf_uses, yf_of, yf_result, yf_says, yb_kind, yb_behind, yb_length, yb_holes, yb_value, yb_kinds, yb_origin, yb_values, yb_parent, yb_span, yb_todo, yb_within, yb_under, yb_stands, yb_outer, yb_from, yb_left, yb_variable, yb_saved, yb_worth, yb_said, yb_work, yb_phase) (nI s)), wX_source_28 (fun r u' => wpY_source (fun r' v' => r' = r ∧ i_Rel (k + 5) u' v') (yf_concepts, yf_place, yf_size, yf_uses, yf_of, yf_result, yf_says, yb_kind, yb_behind, yb_length, yb_holes, yb_value, yb_kinds, yb_origin, yb_values, yb_parent, yb_span, yb_todo, yb_within, yb_under, yb_stands, yb_outer, yb_from, yb_left, yb_variable, yb_saved, yb_worth, yb_said, yb_work, yb_phase) (nI s)) (nI s) r xf_concepts xf_drafted xf_place xf_frames xf_node xf_frame xf_above xf_depth xf_top xf_lets xf_says xf_result xa_tok xa_end xa_num xa_length xa_holes xa_draft xa_draftNum xa_copies xa_tokens xa_replaced xa_deep xa_lies xa_ofKind xa_caller xa_number xa_size0 xa_size1 xa_size2 xa_uses0 xa_uses1 xa_uses2 xa_useAt xa_begun xa_workNode xa_stage xa_workFrame xa_values xa_bound xa_boundTo xa_output xa_given := by
      intro ms m1 r er Yk
      subst er
      obtain ⟨g', P', t1, t2, t3, t4, t5⟩ := sh_newrow (g := g) (cc := cc) (hi := hi) (cc' := cc) (hi' := hi) (row := 6 + s) (b := sh_xb (6 + s)) (n := d) (dk := dk) (ho' := sh_ho g) (ms := ms) (dn := xa_draftNum) P P.1 hi6 (Or.inr ⟨by omega, by omega⟩) rfl (by rw [if_neg (by omega)]; exact c6) (fun z => by omega) P.2.2.1
        (fun r hr hne => ⟨hr, Nat.le_refl _, fun _ => rfl, fun c hc => by
          have q : c < 6 := by
            unfold sh_ub at hc
            split at hc <;> omega
          exact ⟨by omega, q, rfl⟩⟩)
        (fun q hq => by
          have f := (m1.2 q (Nat.zero_le _) hq).2.2
          have f2 := f.2.1 (by decide)
          have n6 : ¬ 6 + s < 6 := by omega
          refine ⟨(d1 q hq).1, (d1 q hq).2.1, fun z => ?_, fun z => absurd z f2.1, fun z => absurd z f2.2.1, fun z => ?_, (d1 q hq).2.2.2.1⟩
          · have a := f.1 z
            refine ⟨?_, fun y => n6 (y ▸ Nat.lt_of_lt_of_le a hcc), Nat.lt_of_lt_of_le a P.1, rfl⟩
            unfold sh_ub; rw [if_neg n6]; exact a
          · rcases (d1 q hq).2.2.2.2.1 z with y | y
            · exact Or.inl y
            · have nn := f2.2.2 z
              rcases y with y | y
              · rw [y] at nn; exact absurd (by decide) nn
              · rw [y] at nn; exact absurd (by decide) nn)
        m1.1 (fun q hq => ⟨(m1.2 q (Nat.zero_le _) hq).1, (m1.2 q (Nat.zero_le _) hq).2.1⟩)
      have NR : sh_NR g g' cc hi hi (6 + s) (sh_xb (6 + s)) d dk xa_draftNum := ⟨P', t1, t3, t4, t5, by omega, rfl, by rw [if_neg (by omega)]; exact c6, Or.inr ⟨by omega, by omega⟩, fun r hr hne => hr⟩
      have uses : ∀ q, q < d → 16 ≤ dk q → dk q - 16 < cc := fun q hq z => (m1.2 q (Nat.zero_le _) hq).2.2.1 z
      have exb : (72 : Int32) + 24 * nI s = nI (sh_xb (6 + s)) := by
        rw [xs_rofs hs]
        refine congrArg nI ?_
        unfold sh_xb sh_ro; rw [if_neg (by omega)]; omega
      refine br_t (by decide) ⟨by rw [e6]; exact vp_in_nI (by omega) (by omega), nm_r (e' := upd xa_length (6 + s) (nI d)) (by rw [e6, nI_clamp (by omega), sh_n8v (by omega) c4]) ?_⟩
      rw [exb]
      refine xs_store_row (g := g) (g' := g') (cc' := cc) (hi' := hi) (hi := hi) (row := 6 + s) (n := d) (dk := dk) (dn := xa_draftNum) NR XP c4 (fun i hi' => ⟨d2 i hi', (d1 i hi').1⟩) (fun _ _ => rfl) (fun c hc => ?_) (fun q hq z => by have := uses q hq z; have := P.1; omega) (fun tok en num cp tn rp dp ls ok XP' => ?_)
      · rw [t2]; exact (hh c (by omega)).1
      · refine Yk _ (br_t (by decide) ?_)
        rw [e6]
        refine ys_store_row (g := g) (g' := g') (cc' := cc) (hi' := hi) (hi := hi) (row := 6 + s) (n := d) (dk := dk) (dn := xa_draftNum) (dv := dv) NR YP c5 d1 d3 (fun q hq z => ?_) (fun ak av ab YP' => ⟨rfl, ?_⟩)
        · have := uses q hq z
          rw [t2]; exact (hh _ (by omega)).2
        · refine ⟨g', cc, hi, 0, dk, dv, sy, P', ⟨c1, c2, rfl, rfl, pk_us, by omega⟩, fun r hr => ?_, fun c hc => ?_, ⟨fun i z => by omega, fun i z => by omega, fun i z => by omega⟩, XP', YP', Or.inl rfl, hr⟩
          · rw [t3]
            by_cases e : r = 6 + s
            · rw [if_pos e, e, pk_us, pk_un (by omega), pk_us]; exact ⟨rfl, rfl⟩
            · rw [if_neg e, pk_un e, pk_un (by omega), pk_un e]; exact hl r hr
          · rw [t2]; exact hh c hc
    refine pk_eq d 0 (fun e0 => ?_) (fun e0 => ?_) c4
    · refine store (fun _ => 0) ⟨rfl, fun q _ hq => by omega⟩ (-1) rfl (fun Q hq => ?_)
      unfold wpY_source
      exact ys_oG hs (by omega) rfl (br_t rfl (br_t (by rw [c5, e0]; rfl) hq))
    · obtain ⟨r, hX, hY, hm⟩ := sh_mc (xf_concepts := xf_concepts) (xf_drafted := xf_drafted) (xf_place := xf_place) (xf_frames := xf_frames) (xf_node := xf_node) (xf_frame := xf_frame) (xf_above := xf_above) (xf_depth := xf_depth) (xf_top := xf_top) (xf_lets := xf_lets) (xf_says := xf_says) (xf_result := xf_result) (xa_tok := xa_tok) (xa_end := xa_end) (xa_num := xa_num) (xa_length := xa_length) (xa_holes := xa_holes) (xa_draft := xa_draft) (xa_draftNum := xa_draftNum) (xa_copies := xa_copies) (xa_tokens := xa_tokens) (xa_replaced := xa_replaced) (xa_deep := xa_deep) (xa_lies := xa_lies) (xa_ofKind := xa_ofKind) (xa_caller := xa_caller) (xa_number := xa_number) (xa_size0 := xa_size0) (xa_size1 := xa_size1) (xa_size2 := xa_size2) (xa_uses0 := xa_uses0) (xa_uses1 := xa_uses1) (xa_uses2 := xa_uses2) (xa_useAt := xa_useAt) (xa_begun := xa_begun) (xa_workNode := xa_workNode) (xa_stage := xa_stage) (xa_workFrame := xa_workFrame) (xa_values := xa_values) (xa_bound := xa_bound) (xa_boundTo := xa_boundTo) (xa_output := xa_output) (xa_given := xa_given) (yf_concepts := yf_concepts) (yf_place := yf_place) (yf_size := yf_size) (yf_uses := yf_uses) (yf_of := yf_of) (yf_result := yf_result) (yf_says := yf_says) (yb_kind := yb_kind) (yb_behind := yb_behind) (yb_length := yb_length) (yb_holes := yb_holes) (yb_value := yb_value) (yb_kinds := yb_kinds) (yb_origin := yb_origin) (yb_values := yb_values) (yb_parent := yb_parent) (yb_span := yb_span) (yb_todo := yb_todo) (yb_within := yb_within) (yb_under := yb_under) (yb_stands := yb_stands) (yb_outer := yb_outer) (yb_from := yb_from) (yb_left := yb_left) (yb_variable := yb_variable) (yb_saved := yb_saved) (yb_worth := yb_worth) (yb_said := yb_said) (yb_work := yb_work) (yb_phase := yb_phase) (ho := sh_ho g) (dk := dk) (dn := xa_draftNum) (dv := dv) (hv := -1) (d := d) (cc := cc) c6 d1 P.2.2.1 hcc c4 c5 c1 c2 (fun c hc => (hh c (by omega)).1) (fun c hc => (hh c (by omega)).2) (fun i hi' => ⟨d2 i hi', rfl⟩) d3
      have Yk : ∀ Q : Int32 → SY → Prop, wY_source_31 Q (nI s) r yf_concepts yf_place yf_size yf_uses yf_of yf_result yf_says yb_kind yb_behind yb_length yb_holes yb_value yb_kinds yb_origin yb_values yb_parent yb_span yb_todo yb_within yb_under yb_stands yb_outer yb_from yb_left yb_variable yb_saved yb_worth yb_said yb_work yb_phase → wpY_source Q (yf_concepts, yf_place, yf_size, yf_uses, yf_of, yf_result, yf_says, yb_kind, yb_behind, yb_length, yb_holes, yb_value, yb_kinds, yb_origin, yb_values, yb_parent, yb_span, yb_todo, yb_within, yb_under, yb_stands, yb_outer, yb_from, yb_left, yb_variable, yb_saved, yb_worth, yb_said, yb_work, yb_phase) (nI s) := by
        intro Q hq
        unfold wpY_source
        exact ys_oG hs (by omega) rfl (br_t rfl (br_f (by rw [c5]; exact nI_ne0 (by omega) (by omega)) (hY _ hq)))
      refine hX _ ?_
      by_cases hneg : r < 0
      · obtain ⟨er, _, ms, m0, m1⟩ := hm hneg
        exact store ms m1 r er Yk
      · refine br_f hneg (Yk _ (br_f hneg (nm_r (e' := upd yb_length 10 (nI 0)) (by rw [show vp_nar .byte (0 : Int32) = nI 0 from sh_n8' (n := 0) (by omega)]) ⟨rfl, ?_⟩)))
        exact ⟨g, cc, hi, 0, dk, dv, sy, P, ⟨c1, c2, rfl, rfl, pk_us, by omega⟩, fun r hr => ⟨(hl r hr).1, by rw [pk_un (by omega)]; exact (hl r hr).2⟩, hh, ⟨fun i z => by omega, fun i z => by omega, fun i z => by omega⟩, XP, YP, Ca, hr⟩
/-! forget -/
/-- a source uses a concept -/
def sh_Us (g : sh_G) (cc s : Nat) : Prop := ∃ j, j < sh_ln g (6 + s) ∧ sh_tk g (sh_ro s + j) = 16 + cc - 1
section FGX
variable {xf_concepts xf_drafted xf_place xf_frames xf_node xf_frame xf_above xf_depth xf_top xf_lets xf_says xf_result : Int32} {xa_tok xa_end xa_num xa_length xa_holes xa_draft xa_draftNum xa_copies xa_tokens xa_replaced xa_deep xa_lies xa_ofKind xa_caller xa_number xa_size0 xa_size1 xa_size2 xa_uses0 xa_uses1 xa_uses2 xa_useAt xa_begun xa_workNode xa_stage xa_workFrame xa_values xa_bound xa_boundTo xa_output xa_given : Nat → Int32} {g : sh_G} {cc hi : Nat}
theorem xs_fg27 {post : Int32 → SX → Prop} {J : (Int32 → Prop)} {s : Nat} (hs : s < 4) (hl24 : sh_ln g (6 + s) ≤ 24) (hc1 : 1 ≤ cc) (hc6 : cc ≤ 6) (hcc : xf_concepts = nI cc) (hl : xa_length (6 + s) = nI (sh_ln g (6 + s))) (ht : ∀ j, j < sh_ln g (6 + s) → xa_tok (sh_ro s + j) = nI (sh_tk g (sh_ro s + j)) ∧ sh_tk g (sh_ro s + j) < 22)
    (hU : sh_Us g cc s → post (-3) (xf_concepts, xf_drafted, xf_place, xf_frames, xf_node, xf_frame, xf_above, xf_depth, xf_top, xf_lets, xf_says, xf_result, xa_tok, xa_end, xa_num, xa_length, xa_holes, xa_draft, xa_draftNum, xa_copies, xa_tokens, xa_replaced, xa_deep, xa_lies, xa_ofKind, xa_caller, xa_number, xa_size0, xa_size1, xa_size2, xa_uses0, xa_uses1, xa_uses2, xa_useAt, xa_begun, xa_workNode, xa_stage, xa_workFrame, xa_values, xa_bound, xa_boundTo, xa_output, xa_given)) (hN : ¬ sh_Us g cc s → J (nI (s + 1))) :
    ∀ d j, j + d = sh_ln g (6 + s) → (∀ q, q < j → sh_tk g (sh_ro s + q) ≠ 16 + cc - 1) → wX_forget_27 post J (nI s) (nI (sh_ro s)) xf_concepts xf_drafted xf_place xf_frames xf_node xf_frame xf_above xf_depth xf_top xf_lets xf_says xf_result xa_tok xa_end xa_num xa_length xa_holes xa_draft xa_draftNum xa_copies xa_tokens xa_replaced xa_deep xa_lies xa_ofKind xa_caller xa_number xa_size0 xa_size1 xa_size2 xa_uses0 xa_uses1 xa_uses2 xa_useAt xa_begun xa_workNode xa_stage xa_workFrame xa_values xa_bound xa_boundTo xa_output xa_given (d + 1) (nI (sh_ro s + j)) := by
  subst hcc
  have e6 : (6 : Int32) + nI s = nI (6 + s) := nI_add 6 s
  have hro : sh_ro s ≤ 144 := by unfold sh_ro; omega
  have c6 : xa_length ((6 : Int32) + nI s).toNatClampNeg = nI (sh_ln g (6 + s)) := by rw [e6, nI_clamp (by omega)]; exact hl
  have i6 : vp_in ((6 : Int32) + nI s) 10 := by rw [e6]; exact vp_in_nI (by omega) (by omega)
  have e16 : (16 : Int32) + nI cc - 1 = nI (16 + cc - 1) := by
    have a : (16 : Int32) + nI cc = nI (16 + cc) := nI_add 16 cc
    rw [a]; exact pk_sub (b := 1) (by omega)
  intro d
  induction d with
  | zero =>
    intro j hj hq
    refine ⟨i6, ?_⟩
    rw [c6, nI_add]
    refine br_t (nI_le (by omega) (by omega)) (nm_r (nI_1 s) (hN ?_))
    rintro ⟨q, h1, h2⟩
    exact hq q (by omega) h2
  | succ d ih =>
    intro j hj hq
    refine ⟨i6, ?_⟩
    rw [c6, nI_add]
    refine br_f (nI_ge (by omega) (by omega)) ⟨vp_in_nI (by omega) (by omega), ?_⟩
    have t := ht j (by omega)
    rw [nI_clamp (by omega), t.1, e16]
    refine pk_eq (sh_tk g (sh_ro s + j)) (16 + cc - 1) (fun h => hU ⟨j, by omega, h⟩) (fun h => nm_r (nI_1 _) (ih (j + 1) (by omega) (fun q hq' => ?_)))
    by_cases e : q = j
    · rw [e]; exact h
    · exact hq q (by omega)
theorem xs_fg12 {post : Int32 → SX → Prop} (P : sh_Pg g cc hi) (XP : xs_XP g hi xa_tok xa_end xa_num xa_copies xa_tokens xa_replaced xa_deep xa_lies xa_ofKind) (hc1 : 1 ≤ cc) (hcc : xf_concepts = nI cc) (hl : ∀ r, r < 10 → xa_length r = nI (sh_ln g r))
    (hU : (∃ s, s < 4 ∧ sh_Us g cc s) → post (-3) (xf_concepts, xf_drafted, xf_place, xf_frames, xf_node, xf_frame, xf_above, xf_depth, xf_top, xf_lets, xf_says, xf_result, xa_tok, xa_end, xa_num, xa_length, xa_holes, xa_draft, xa_draftNum, xa_copies, xa_tokens, xa_replaced, xa_deep, xa_lies, xa_ofKind, xa_caller, xa_number, xa_size0, xa_size1, xa_size2, xa_uses0, xa_uses1, xa_uses2, xa_useAt, xa_begun, xa_workNode, xa_stage, xa_workFrame, xa_values, xa_bound, xa_boundTo, xa_output, xa_given)) (hN : (∀ s, s < 4 → ¬ sh_Us g cc s) → post (nI (cc - 1)) (nI (cc - 1), xf_drafted, xf_place, xf_frames, xf_node, xf_frame, xf_above, xf_depth, xf_top, xf_lets, xf_says, xf_result, xa_tok, xa_end, xa_num, xa_length, xa_holes, xa_draft, xa_draftNum, xa_copies, xa_tokens, xa_replaced, xa_deep, xa_lies, xa_ofKind, xa_caller, xa_number, xa_size0, xa_size1, xa_size2, xa_uses0, xa_uses1, xa_uses2, xa_useAt, xa_begun, xa_workNode, xa_stage, xa_workFrame, xa_values, xa_bound, xa_boundTo, xa_output, xa_given)) :
    ∀ d s, s + d = 4 → (∀ q, q < s → ¬ sh_Us g cc q) → wX_forget_12 post xf_concepts xf_drafted xf_place xf_frames xf_node xf_frame xf_above xf_depth xf_top xf_lets xf_says xf_result xa_tok xa_end xa_num xa_length xa_holes xa_draft xa_draftNum xa_copies xa_tokens xa_replaced xa_deep xa_lies xa_ofKind xa_caller xa_number xa_size0 xa_size1 xa_size2 xa_uses0 xa_uses1 xa_uses2 xa_useAt xa_begun xa_workNode xa_stage xa_workFrame xa_values xa_bound xa_boundTo xa_output xa_given (d + 1) (nI s) := by
  have hc6 : cc ≤ 6 := by have := P.1; have := P.2.1; omega
  intro d
  induction d with
  | zero =>
    intro s hs hq
    have e : nI cc - 1 = nI (cc - 1) := pk_sub (b := 1) hc1
    subst hcc
    refine br_t (nI_le (a := 4) (by omega) (by omega)) (nm_r e ?_)
    rw [e]
    exact hN (fun q h => hq q (by omega))
  | succ d ih =>
    intro s hs hq
    refine br_f (nI_ge (b := 4) (by omega) (by omega)) (nm_r (xs_rofs (by omega)) ⟨sh_ln g (6 + s) + 1, ?_⟩)
    refine xs_fg27 (g := g) (cc := cc) (by omega) (P.2.2.2.2.1 s (by omega)) hc1 hc6 hcc (hl _ (by omega)) (fun j hj => ?_) (fun h => hU ⟨s, by omega, h⟩) (fun h => ih (s + 1) (by omega) (fun q hq' => ?_)) _ 0 (Nat.zero_add _) (fun q hq' => by omega)
    · have IR : sh_IR g (6 + s) (sh_ro s + j) := by
        unfold sh_IR sh_xb sh_ro
        rw [if_neg (by omega)]; omega
      exact ⟨(XP (6 + s) (Or.inr ⟨by omega, by omega⟩) _ IR).1, (P.2.2.2.2.2 (6 + s) (Or.inr ⟨by omega, by omega⟩) _ IR).1.1⟩
    · by_cases e : q = s
      · rw [e]; exact h
      · exact hq q (by omega)
end FGX
section FGY
variable {yf_concepts yf_place yf_size yf_uses yf_of yf_result yf_says : Int32} {yb_kind yb_behind yb_length yb_holes yb_value yb_kinds yb_origin yb_values yb_parent yb_span yb_todo yb_within yb_under yb_stands yb_outer yb_from yb_left yb_variable yb_saved yb_worth yb_said yb_work yb_phase : Nat → Int32} {g : sh_G} {cc hi : Nat}
theorem ys_fg24 {post : Int32 → SY → Prop} {J : (Int32 → Prop)} {s : Nat} (hs : s < 4) (hl24 : sh_ln g (6 + s) ≤ 24) (hc1 : 1 ≤ cc) (hc6 : cc ≤ 6) (hcc : yf_concepts = nI cc) (hl : yb_length (6 + s) = nI (sh_ln g (6 + s))) (ht : ∀ j, j < sh_ln g (6 + s) → yb_kind (24 * (6 + s) + j) = nI (sh_tk g (sh_ro s + j)) ∧ sh_tk g (sh_ro s + j) < 22)
    (hU : sh_Us g cc s → post (-3) (yf_concepts, yf_place, yf_size, yf_uses, yf_of, yf_result, yf_says, yb_kind, yb_behind, yb_length, yb_holes, yb_value, yb_kinds, yb_origin, yb_values, yb_parent, yb_span, yb_todo, yb_within, yb_under, yb_stands, yb_outer, yb_from, yb_left, yb_variable, yb_saved, yb_worth, yb_said, yb_work, yb_phase)) (hN : ¬ sh_Us g cc s → J (nI (6 + s + 1))) :
    ∀ d j, j + d = sh_ln g (6 + s) → (∀ q, q < j → sh_tk g (sh_ro s + q) ≠ 16 + cc - 1) → wY_forget_24 post J (nI (6 + s)) yf_concepts yf_place yf_size yf_uses yf_of yf_result yf_says yb_kind yb_behind yb_length yb_holes yb_value yb_kinds yb_origin yb_values yb_parent yb_span yb_todo yb_within yb_under yb_stands yb_outer yb_from yb_left yb_variable yb_saved yb_worth yb_said yb_work yb_phase (d + 1) (nI (24 * (6 + s) + j)) := by
  subst hcc
  have c6 : yb_length (nI (6 + s)).toNatClampNeg = nI (sh_ln g (6 + s)) := by rw [nI_clamp (by omega)]; exact hl
  have i6 : vp_in (nI (6 + s)) 11 := vp_in_nI (by omega) (by omega)
  have e24 : (24 : Int32) * nI (6 + s) = nI (24 * (6 + s)) := pk_mul 24 _
  have e16 : (16 : Int32) + nI cc - 1 = nI (16 + cc - 1) := by
    have a : (16 : Int32) + nI cc = nI (16 + cc) := nI_add 16 cc
    rw [a]; exact pk_sub (b := 1) (by omega)
  intro d
  induction d with
  | zero =>
    intro j hj hq
    refine ⟨i6, ?_⟩
    rw [c6, e24, nI_add]
    refine br_t (nI_le (by omega) (by omega)) (nm_r (nI_1 _) (hN ?_))
    rintro ⟨q, h1, h2⟩
    exact hq q (by omega) h2
  | succ d ih =>
    intro j hj hq
    refine ⟨i6, ?_⟩
    rw [c6, e24, nI_add]
    refine br_f (nI_ge (by omega) (by omega)) ⟨vp_in_nI (by omega) (by omega), ?_⟩
    have t := ht j (by omega)
    rw [nI_clamp (by omega), t.1, e16]
    refine pk_eq (sh_tk g (sh_ro s + j)) (16 + cc - 1) (fun h => hU ⟨j, by omega, h⟩) (fun h => nm_r (nI_1 _) (ih (j + 1) (by omega) (fun q hq' => ?_)))
    by_cases e : q = j
    · rw [e]; exact h
    · exact hq q (by omega)
theorem ys_fg13 {post : Int32 → SY → Prop} (P : sh_Pg g cc hi) (YP : ys_YP g hi yb_kind yb_value yb_behind) (hc1 : 1 ≤ cc) (hcc : yf_concepts = nI cc) (hl : ∀ r, r < 10 → yb_length r = nI (sh_ln g r))
    (hU : (∃ s, s < 4 ∧ sh_Us g cc s) → post (-3) (yf_concepts, yf_place, yf_size, yf_uses, yf_of, yf_result, yf_says, yb_kind, yb_behind, yb_length, yb_holes, yb_value, yb_kinds, yb_origin, yb_values, yb_parent, yb_span, yb_todo, yb_within, yb_under, yb_stands, yb_outer, yb_from, yb_left, yb_variable, yb_saved, yb_worth, yb_said, yb_work, yb_phase)) (hN : (∀ s, s < 4 → ¬ sh_Us g cc s) → post (nI (cc - 1)) (nI (cc - 1), yf_place, yf_size, yf_uses, yf_of, yf_result, yf_says, yb_kind, yb_behind, yb_length, yb_holes, yb_value, yb_kinds, yb_origin, yb_values, yb_parent, yb_span, yb_todo, yb_within, yb_under, yb_stands, yb_outer, yb_from, yb_left, yb_variable, yb_saved, yb_worth, yb_said, yb_work, yb_phase)) :
    ∀ d s, s + d = 4 → (∀ q, q < s → ¬ sh_Us g cc q) → wY_forget_13 post yf_concepts yf_place yf_size yf_uses yf_of yf_result yf_says yb_kind yb_behind yb_length yb_holes yb_value yb_kinds yb_origin yb_values yb_parent yb_span yb_todo yb_within yb_under yb_stands yb_outer yb_from yb_left yb_variable yb_saved yb_worth yb_said yb_work yb_phase (d + 1) (nI (6 + s)) := by
  have hc6 : cc ≤ 6 := by have := P.1; have := P.2.1; omega
  intro d
  induction d with
  | zero =>
    intro s hs hq
    have e : nI cc - 1 = nI (cc - 1) := pk_sub (b := 1) hc1
    subst hcc
    refine br_t (nI_le (a := 10) (by omega) (by omega)) (nm_r e ?_)
    rw [e]
    exact hN (fun q h => hq q (by omega))
  | succ d ih =>
    intro s hs hq
    refine br_f (nI_ge (b := 10) (by omega) (by omega)) (nm_r (pk_mul 24 (6 + s)) ⟨sh_ln g (6 + s) + 1, ?_⟩)
    refine ys_fg24 (g := g) (cc := cc) (by omega) (P.2.2.2.2.1 s (by omega)) hc1 hc6 hcc (hl _ (by omega)) (fun j hj => ?_) (fun h => hU ⟨s, by omega, h⟩) (fun h => ih (s + 1) (by omega) (fun q hq' => ?_)) _ 0 (Nat.zero_add _) (fun q hq' => by omega)
    · have IR : sh_IR g (6 + s) (sh_ro s + j) := by
        unfold sh_IR sh_xb sh_ro
        rw [if_neg (by omega)]; omega
      have ey : sh_yd (6 + s) (sh_ro s + j) = 24 * (6 + s) + j := by
        unfold sh_yd sh_xb sh_ro
        rw [if_neg (by omega)]; omega
      have y := (YP (6 + s) (Or.inr ⟨by omega, by omega⟩) _ IR).1
      rw [ey] at y
      exact ⟨y, (P.2.2.2.2.2 (6 + s) (Or.inr ⟨by omega, by omega⟩) _ IR).1.1⟩
    · by_cases e : q = s
      · rw [e]; exact h
      · exact hq q (by omega)
end FGY
theorem sh_Gd_cc {g : sh_G} {cc cc' hi s : Nat} : ∀ (r : List (Nat × Nat)) (i : Nat), sh_Gd g cc hi s i r → sh_Gd g cc' hi s i r := by
  intro r
  induction r with
  | nil => intro i h; exact h
  | cons x r ih => intro i h; exact ⟨h.1, h.2.1, h.2.2.1, h.2.2.2.1, ih _ h.2.2.2.2⟩
theorem sh_Ca_cc {g : sh_G} {cc cc' hi : Nat} {of sz us : Int32} {kds ogn vls prt sp : Nat → Int32} (h : sh_Ca g cc hi of sz us kds ogn vls prt sp) : sh_Ca g cc' hi of sz us kds ogn vls prt sp := by
  rcases h with h | ⟨s, r, hs, e, E⟩
  · exact Or.inl h
  · refine Or.inr ⟨s, r, hs, e, ?_⟩
    rcases E with E | E | ⟨a1, a2, a3, a4, a5, a6, S, Cl, h0⟩
    · exact Or.inl E
    · exact Or.inr (Or.inl E)
    · exact Or.inr (Or.inr ⟨a1, a2, a3, a4, a5, a6, S, fun i r p u a hS => ⟨⟨sh_Gd_cc _ _ (Cl i r p u a hS).1.1, (Cl i r p u a hS).1.2⟩, (Cl i r p u a hS).2⟩, h0⟩)
theorem i_vc_forget {k : Nat} {u : SX} {v : SY} (I : i_Rel k u v) (hk : k + 5 ≤ 2560) : wpX_forget (fun r u' => wpY_forget (fun r' v' => r' = r ∧ i_Rel (k + 5) u' v') v) u := by
  refine zz_el (P := fun u v => wpX_forget (fun r u' => wpY_forget (fun r' v' => r' = r ∧ i_Rel (k + 5) u' v') v) u) ?_ I
  intro xf_concepts xf_drafted xf_place xf_frames xf_node xf_frame xf_above xf_depth xf_top xf_lets xf_says xf_result xa_tok xa_end xa_num xa_length xa_holes xa_draft xa_draftNum xa_copies xa_tokens xa_replaced xa_deep xa_lies xa_ofKind xa_caller xa_number xa_size0 xa_size1 xa_size2 xa_uses0 xa_uses1 xa_uses2 xa_useAt xa_begun xa_workNode xa_stage xa_workFrame xa_values xa_bound xa_boundTo xa_output xa_given yf_concepts yf_place yf_size yf_uses yf_of yf_result yf_says yb_kind yb_behind yb_length yb_holes yb_value yb_kinds yb_origin yb_values yb_parent yb_span yb_todo yb_within yb_under yb_stands yb_outer yb_from yb_left yb_variable yb_saved yb_worth yb_said yb_work yb_phase R
  have R' := R
  obtain ⟨g, cc, hi, d, dk, dv, sy, P, ⟨c1, c2, c3, c4, c5, c6⟩, hl, hh, hd, XP, YP, Ca, hr⟩ := R'
  have hcc : cc ≤ 6 := by have := P.1; have := P.2.1; omega
  unfold wpX_forget
  refine pk_eq cc 0 (fun e => ?_) (fun e => ⟨5, xs_fg12 (g := g) P XP (by omega) c1 (fun r h => (hl r h).1) (fun hU => ?_) (fun hN => ?_) 4 0 rfl (fun q hq => by omega)⟩) c1
  · unfold wpY_forget
    exact br_t (by rw [c2, e]; rfl) ⟨rfl, R⟩
  · unfold wpY_forget
    refine br_f (by rw [c2]; exact nI_ne0 (by omega) (by omega)) ⟨5, ys_fg13 (g := g) P YP (by omega) c2 (fun r h => (hl r h).2) (fun _ => ⟨rfl, R⟩) (fun hN => ?_) 4 0 rfl (fun q hq => by omega)⟩
    obtain ⟨s, hs, h⟩ := hU
    exact absurd h (hN s hs)
  · unfold wpY_forget
    refine br_f (by rw [c2]; exact nI_ne0 (by omega) (by omega)) ⟨5, ys_fg13 (g := g) P YP (by omega) c2 (fun r h => (hl r h).2) (fun hU => ?_) (fun _ => ⟨rfl, ?_⟩) 4 0 rfl (fun q hq => by omega)⟩
    · obtain ⟨s, hs, h⟩ := hU
      exact absurd h (hN s hs)
    · refine ⟨g, cc - 1, hi, d, dk, dv, sy, ⟨by have := P.1; omega, P.2.1, P.2.2.1, P.2.2.2.1, P.2.2.2.2.1, fun r hr i hi' => ?_⟩, ⟨rfl, rfl, c3, c4, c5, c6⟩, hl, hh, hd, XP, YP, sh_Ca_cc Ca, hr⟩
      have N := P.2.2.2.2.2 r hr i hi'
      refine ⟨⟨N.1.1, N.1.2.1, fun h16 => ?_, N.1.2.2.2⟩, N.2⟩
      have q := N.1.2.2.1 h16
      unfold sh_ub at q ⊢
      by_cases h6 : r < 6
      · rw [if_pos h6] at q ⊢; exact q
      · rw [if_neg h6] at q ⊢
        have hr10 : 6 ≤ r ∧ r < 10 := by have := P.2.1; clear N; omega
        have ne : sh_tk g i ≠ 16 + cc - 1 := by
          intro z
          refine hN (r - 6) (by omega) ⟨i - sh_ro (r - 6), ?_, ?_⟩
          · rw [show 6 + (r - 6) = r by omega]
            have h1 := hi'.1
            have h2 := hi'.2
            unfold sh_xb at h1 h2
            rw [if_neg h6] at h1 h2
            unfold sh_ro
            clear N; omega
          · have h1 := hi'.1
            unfold sh_xb at h1
            rw [if_neg h6] at h1
            rw [show sh_ro (r - 6) + (i - sh_ro (r - 6)) = i by unfold sh_ro; clear N; omega]
            exact z
        clear N
        omega
end
section
/-! a run: variables -/
def xs_lk (bd bt gv : Nat → Int32) : Nat → Int32 → Int32
  | 0, x => if 3 ≤ x then 0 else gv x.toNatClampNeg
  | l + 1, x => if bd l = x then bt l else xs_lk bd bt gv l x
/-- X's name and Y's of one variable -/
def xs_Nm (F : Nat) (φ : Nat → Nat) (mx my : Nat) : Prop := (mx < 10 ∧ my = mx) ∨ ∃ q b, q < F ∧ b < 2 ∧ mx = 100 + 2 * q + b ∧ my = 100 + 2 * φ q + b
def xs_En (ε : Nat → Int32) (F : Nat) (φ : Nat → Nat) (l : Nat) (bd bt gv : Nat → Int32) (u : Nat) : Prop :=
  (∀ v, v < 10 → xs_lk bd bt gv l (nI v) = ε v) ∧ (∀ q b, q < F → b < 2 → xs_lk bd bt gv l (nI (100 + 2 * q + b)) = ε (100 + 2 * φ q + b)) ∧ (∀ j, j < l → ∃ m, m < 100 + 2 * F ∧ bd j = nI m) ∧
  (∀ m, 100 + 2 * u ≤ m → ε m = 0) ∧ (∀ q, q < F → φ q < u) ∧ (∀ q q', q < F → q' < F → φ q = φ q' → q = q')
section ENV
variable {ε bd bt gv bd' bt' : Nat → Int32} {F l u : Nat} {φ φ' : Nat → Nat}
theorem xs_lk_c : ∀ l, (∀ j, j < l → bd' j = bd j ∧ bt' j = bt j) → ∀ x, xs_lk bd' bt' gv l x = xs_lk bd bt gv l x := by
  intro l
  induction l with
  | zero => intro _ x; rfl
  | succ l ih =>
    intro h x
    show (if bd' l = x then bt' l else xs_lk bd' bt' gv l x) = (if bd l = x then bt l else xs_lk bd bt gv l x)
    rw [(h l (by omega)).1, (h l (by omega)).2, ih (fun j hj => h j (by omega))]
theorem xs_lk_0 {m : Nat} (hm : 3 ≤ m) (hm2 : m < 2 ^ 31) : ∀ l, (∀ j, j < l → bd j ≠ nI m) → xs_lk bd bt gv l (nI m) = 0 := by
  intro l
  induction l with
  | zero => intro _; exact if_pos (nI_le (a := 3) hm hm2)
  | succ l ih =>
    intro h
    show (if bd l = nI m then bt l else xs_lk bd bt gv l (nI m)) = 0
    rw [if_neg (h l (by omega))]
    exact ih (fun j hj => h j (by omega))
theorem xs_En_c (h : xs_En ε F φ l bd bt gv u) (hb : ∀ j, j < l → bd' j = bd j ∧ bt' j = bt j) : xs_En ε F φ l bd' bt' gv u := by
  obtain ⟨h1, h2, h3, h4⟩ := h
  refine ⟨fun v hv => by rw [xs_lk_c l hb]; exact h1 v hv, fun q b hq hb2 => by rw [xs_lk_c l hb]; exact h2 q b hq hb2, fun j hj => ?_, h4⟩
  rw [(hb j hj).1]; exact h3 j hj
/-- one USE more -/
theorem xs_En_u (hF : F < 2000) (h : xs_En ε F φ l bd bt gv u) : xs_En ε (F + 1) (fun q => if q = F then u else φ q) l bd bt gv (u + 1) := by
  obtain ⟨h1, h2, h3, h4, h5, h6⟩ := h
  refine ⟨h1, fun q b hq hb => ?_, fun j hj => ?_, fun m hm => h4 m (by omega), fun q hq => ?_, fun q q' hq hq' e => ?_⟩
  · dsimp only
    by_cases e : q = F
    · subst e
      rw [if_pos rfl, h4 _ (by omega)]
      refine xs_lk_0 (by omega) (by omega) l (fun j hj => ?_)
      obtain ⟨m, hm, em⟩ := h3 j hj
      rw [em]
      intro z
      have := (nI_eq (by omega) (by omega)).mp z
      omega
    · rw [if_neg e]; exact h2 q b (by omega) hb
  · obtain ⟨m, hm, em⟩ := h3 j hj
    exact ⟨m, by omega, em⟩
  · dsimp only
    by_cases e : q = F
    · rw [if_pos e]; omega
    · rw [if_neg e]; have := h5 q (by omega); omega
  · dsimp only at e
    by_cases e1 : q = F
    · by_cases e2 : q' = F
      · omega
      · rw [if_pos e1, if_neg e2] at e
        have := h5 q' (by omega)
        omega
    · by_cases e2 : q' = F
      · rw [if_neg e1, if_pos e2] at e
        have := h5 q (by omega)
        omega
      · rw [if_neg e1, if_neg e2] at e
        exact h6 q q' (by omega) (by omega) e
theorem xs_Nm_lt {mx my : Nat} (h : xs_En ε F φ l bd bt gv u) (hn : xs_Nm F φ mx my) : mx < 100 + 2 * F ∧ my < 100 + 2 * u := by
  rcases hn with ⟨a, b⟩ | ⟨q, b, a1, a2, a3, a4⟩
  · omega
  · have := h.2.2.2.2.1 q a1
    omega
theorem xs_En_lk {mx my : Nat} (h : xs_En ε F φ l bd bt gv u) (hn : xs_Nm F φ mx my) : xs_lk bd bt gv l (nI mx) = ε my := by
  rcases hn with ⟨a, b⟩ | ⟨q, b, a1, a2, a3, a4⟩
  · rw [b]; exact h.1 mx a
  · rw [a3, a4]; exact h.2.1 q b a1 a2
/-- a LET -/
theorem xs_En_l {mx my : Nat} {val : Int32} (hF : F ≤ 2000) (h : xs_En ε F φ l bd bt gv u) (hn : xs_Nm F φ mx my) : xs_En (upd ε my val) F φ (l + 1) (upd bd l (nI mx)) (upd bt l val) gv u := by
  have lt := xs_Nm_lt h hn
  have step : ∀ x, xs_lk (upd bd l (nI mx)) (upd bt l val) gv (l + 1) x = if nI mx = x then val else xs_lk bd bt gv l x := by
    intro x
    show (if upd bd l (nI mx) l = x then upd bt l val l else xs_lk (upd bd l (nI mx)) (upd bt l val) gv l x) = _
    rw [pk_us, pk_us, xs_lk_c l (fun j hj => ⟨pk_un (by omega), pk_un (by omega)⟩)]
  obtain ⟨h1, h2, h3, h4, h5, h6⟩ := h
  refine ⟨fun v hv => ?_, fun q b hq hb => ?_, fun j hj => ?_, fun m hm => ?_, h5, h6⟩
  · rw [step]
    by_cases e : v = my
    · have em : mx = v := by
        rcases hn with ⟨a, b⟩ | ⟨q, b, a1, a2, a3, a4⟩ <;> omega
      rw [if_pos (by rw [em]), ← e, pk_us]
    · have em : mx ≠ v := by
        rcases hn with ⟨a, b⟩ | ⟨q, b, a1, a2, a3, a4⟩ <;> omega
      rw [if_neg (fun z => em ((nI_eq (by omega) (by omega)).mp z)), pk_un e]
      exact h1 v hv
  · rw [step]
    by_cases e : 100 + 2 * φ q + b = my
    · have em : mx = 100 + 2 * q + b := by
        rcases hn with ⟨a, b'⟩ | ⟨q', b', a1, a2, a3, a4⟩
        · omega
        · have : q = q' := h6 q q' hq a1 (by omega)
          subst this
          omega
      rw [if_pos (by rw [em]), ← e, pk_us]
    · have em : mx ≠ 100 + 2 * q + b := by
        intro z
        rcases hn with ⟨a, b'⟩ | ⟨q', b', a1, a2, a3, a4⟩
        · omega
        · have : q = q' := by omega
          subst this
          omega
      rw [if_neg (fun z => em ((nI_eq (by omega) (by omega)).mp z)), pk_un e]
      exact h2 q b hq hb
  · by_cases e : j = l
    · subst e
      exact ⟨mx, lt.1, pk_us⟩
    · rw [pk_un e]; exact h3 j (by omega)
  · rw [pk_un (by omega)]; exact h4 m hm
end ENV
abbrev xs_SC : Type := (Nat → Int32) × (Nat → Int32) × (Nat → Int32) × (Nat → Int32) × (Nat → Int32) × (Nat → Int32) × (Nat → Int32)
/-- what a part of a run leaves as it was -/
def xs_Sa (sc sc' : xs_SC) (d t l : Nat) : Prop :=
  (∀ k, k < d → sc'.1 k = sc.1 k ∧ sc'.2.1 k = sc.2.1 k ∧ sc'.2.2.1 k = sc.2.2.1 k) ∧ (∀ k, k < t → sc'.2.2.2.1 k = sc.2.2.2.1 k) ∧ (∀ k, k < l → sc'.2.2.2.2.1 k = sc.2.2.2.2.1 k ∧ sc'.2.2.2.2.2.1 k = sc.2.2.2.2.2.1 k)
theorem xs_Sa_t {a b c : xs_SC} {d t l d' t' l' : Nat} (hd : d ≤ d') (ht : t ≤ t') (hl : l ≤ l') (h1 : xs_Sa a b d t l) (h2 : xs_Sa b c d' t' l') : xs_Sa a c d t l := by
  refine ⟨fun k hk => ?_, fun k hk => ?_, fun k hk => ?_⟩
  · have x := h1.1 k hk
    have y := h2.1 k (by omega)
    exact ⟨y.1.trans x.1, y.2.1.trans x.2.1, y.2.2.trans x.2.2⟩
  · exact (h2.2.1 k (by omega)).trans (h1.2.1 k hk)
  · have x := h1.2.2 k hk
    have y := h2.2.2 k (by omega)
    exact ⟨y.1.trans x.1, y.2.trans x.2⟩
section XRN
variable {xf_concepts xf_drafted xf_place xf_frames xf_node xf_frame xf_above xf_depth xf_top xf_lets xf_says xf_result : Int32} {xa_tok xa_end xa_num xa_length xa_holes xa_draft xa_draftNum xa_copies xa_tokens xa_replaced xa_deep xa_lies xa_ofKind xa_caller xa_number xa_size0 xa_size1 xa_size2 xa_uses0 xa_uses1 xa_uses2 xa_useAt xa_begun xa_workNode xa_stage xa_workFrame xa_values xa_bound xa_boundTo xa_output xa_given : Nat → Int32}
def xs_W (post : Int32 → SX → Prop) (n : Nat) (u : SX) : Prop := match u with
  | (xf_concepts, xf_drafted, xf_place, xf_frames, xf_node, xf_frame, xf_above, xf_depth, xf_top, xf_lets, xf_says, xf_result, xa_tok, xa_end, xa_num, xa_length, xa_holes, xa_draft, xa_draftNum, xa_copies, xa_tokens, xa_replaced, xa_deep, xa_lies, xa_ofKind, xa_caller, xa_number, xa_size0, xa_size1, xa_size2, xa_uses0, xa_uses1, xa_uses2, xa_useAt, xa_begun, xa_workNode, xa_stage, xa_workFrame, xa_values, xa_bound, xa_boundTo, xa_output, xa_given) => wX_run_93 post n xf_concepts xf_drafted xf_place xf_frames xf_node xf_frame xf_above xf_depth xf_top xf_lets xf_says xf_result xa_tok xa_end xa_num xa_length xa_holes xa_draft xa_draftNum xa_copies xa_tokens xa_replaced xa_deep xa_lies xa_ofKind xa_caller xa_number xa_size0 xa_size1 xa_size2 xa_uses0 xa_uses1 xa_uses2 xa_useAt xa_begun xa_workNode xa_stage xa_workFrame xa_values xa_bound xa_boundTo xa_output xa_given
def xs_PB (post : SX → Prop) (u : SX) : Prop := match u with
  | (xf_concepts, xf_drafted, xf_place, xf_frames, xf_node, xf_frame, xf_above, xf_depth, xf_top, xf_lets, xf_says, xf_result, xa_tok, xa_end, xa_num, xa_length, xa_holes, xa_draft, xa_draftNum, xa_copies, xa_tokens, xa_replaced, xa_deep, xa_lies, xa_ofKind, xa_caller, xa_number, xa_size0, xa_size1, xa_size2, xa_uses0, xa_uses1, xa_uses2, xa_useAt, xa_begun, xa_workNode, xa_stage, xa_workFrame, xa_values, xa_bound, xa_boundTo, xa_output, xa_given) => vp_in xf_depth 2000 ∧ ∀ wn : Nat → Int32, wn = upd xa_workNode xf_depth.toNatClampNeg (vp_nar .byte xf_node.toInt8.toInt32) → (vp_in xf_depth 2000 ∧ ∀ wf : Nat → Int32, wf = upd xa_workFrame xf_depth.toNatClampNeg (vp_nar .short xf_frame.toInt16.toInt32) → ∀ dp : Int32, dp = xf_depth + 1 → (vp_in xf_depth 2000 ∧ ∀ sg : Nat → Int32, sg = upd xa_stage xf_depth.toNatClampNeg (vp_nar .byte 0) → post (xf_concepts, xf_drafted, xf_place, xf_frames, xf_node, xf_frame, xf_above, dp, xf_top, xf_lets, xf_says, xf_result, xa_tok, xa_end, xa_num, xa_length, xa_holes, xa_draft, xa_draftNum, xa_copies, xa_tokens, xa_replaced, xa_deep, xa_lies, xa_ofKind, xa_caller, xa_number, xa_size0, xa_size1, xa_size2, xa_uses0, xa_uses1, xa_uses2, xa_useAt, xa_begun, wn, sg, wf, xa_values, xa_bound, xa_boundTo, xa_output, xa_given)))
theorem xs_begin {post : SX → Prop} {p0 p1 : Int32} (h : ∃ m, wX_settle_2 (xs_PB post) m 0 xf_concepts xf_drafted xf_place xf_frames p0 p1 xf_above xf_depth xf_top xf_lets xf_says xf_result xa_tok xa_end xa_num xa_length xa_holes xa_draft xa_draftNum xa_copies xa_tokens xa_replaced xa_deep xa_lies xa_ofKind xa_caller xa_number xa_size0 xa_size1 xa_size2 xa_uses0 xa_uses1 xa_uses2 xa_useAt xa_begun xa_workNode xa_stage xa_workFrame xa_values xa_bound xa_boundTo xa_output xa_given) : wpX_begin post (xf_concepts, xf_drafted, xf_place, xf_frames, xf_node, xf_frame, xf_above, xf_depth, xf_top, xf_lets, xf_says, xf_result, xa_tok, xa_end, xa_num, xa_length, xa_holes, xa_draft, xa_draftNum, xa_copies, xa_tokens, xa_replaced, xa_deep, xa_lies, xa_ofKind, xa_caller, xa_number, xa_size0, xa_size1, xa_size2, xa_uses0, xa_uses1, xa_uses2, xa_useAt, xa_begun, xa_workNode, xa_stage, xa_workFrame, xa_values, xa_bound, xa_boundTo, xa_output, xa_given) p0 p1 := h
end XRN
end
section
/-! X: single steps of a run -/
section XST
variable {xf_concepts xf_drafted xf_place xf_frames xf_node xf_frame xf_above xf_depth xf_top xf_lets xf_says xf_result : Int32} {xa_tok xa_end xa_num xa_length xa_holes xa_draft xa_draftNum xa_copies xa_tokens xa_replaced xa_deep xa_lies xa_ofKind xa_caller xa_number xa_size0 xa_size1 xa_size2 xa_uses0 xa_uses1 xa_uses2 xa_useAt xa_begun xa_workNode xa_stage xa_workFrame xa_values xa_bound xa_boundTo xa_output xa_given : Nat → Int32} {g : sh_G} {cc hi s N U : Nat}
theorem xs_stU (P : sh_Pg g cc hi) (hs : s < 4) (hU : U ≤ 2000) (hN : N ≤ 2000) (XP : xs_XP g hi xa_tok xa_end xa_num xa_copies xa_tokens xa_replaced xa_deep xa_lies xa_ofKind) (hh : ∀ c, c < hi → xa_holes c = nI (sh_ho g c))
    {i : Nat} {r : List (Nat × Nat)} {p u a F ser : Nat} {φ : Nat → Nat} {f : Int32} {fr : xs_FR} (OK : sh_Ok g cc hi s N U i r p u a) (hk : 16 ≤ sh_tk g i) (hFu : F ≤ u) (C : xs_XC g s φ fr F r f) :
    ∃ fr1 : xs_FR, xs_XC g s (fun q => if q = F then u else φ q) fr1 (F + 1) ((i, u) :: r) (nI F) ∧ xs_Fs fr fr1 F ∧
      ∀ (post : SX → Prop) m, wX_settle_2 post m (nI (ser + 1)) xf_concepts xf_drafted xf_place (nI (F + 1)) (nI (sh_rt g i)) (nI F) xf_above xf_depth xf_top xf_lets xf_says xf_result xa_tok xa_end xa_num xa_length xa_holes xa_draft xa_draftNum xa_copies xa_tokens xa_replaced xa_deep xa_lies xa_ofKind fr1.1 fr1.2.1 fr1.2.2.1 fr1.2.2.2.1 fr1.2.2.2.2.1 fr1.2.2.2.2.2.1 fr1.2.2.2.2.2.2.1 fr1.2.2.2.2.2.2.2.1 fr1.2.2.2.2.2.2.2.2.1 fr1.2.2.2.2.2.2.2.2.2 xa_workNode xa_stage xa_workFrame xa_values xa_bound xa_boundTo xa_output xa_given → wX_settle_2 post (m + 1) (nI ser) xf_concepts xf_drafted xf_place (nI F) (nI i) f xf_above xf_depth xf_top xf_lets xf_says xf_result xa_tok xa_end xa_num xa_length xa_holes xa_draft xa_draftNum xa_copies xa_tokens xa_replaced xa_deep xa_lies xa_ofKind fr.1 fr.2.1 fr.2.2.1 fr.2.2.2.1 fr.2.2.2.2.1 fr.2.2.2.2.2.1 fr.2.2.2.2.2.2.1 fr.2.2.2.2.2.2.2.1 fr.2.2.2.2.2.2.2.2.1 fr.2.2.2.2.2.2.2.2.2 xa_workNode xa_stage xa_workFrame xa_values xa_bound xa_boundTo xa_output xa_given := by
  have G := OK.1
  have N' := sh_Gd_n P hs G
  have w := sh_gu P hs G hk u
  have ad := xs_addr P hs G
  have x := XP _ (sh_Gd_r P hs G).1 i (sh_Gd_r P hs G).2
  have hub := sh_Gd_ub P hs G hk
  have b1 := OK.2.1
  have b2 := OK.2.2.1
  have w3 := w.2.2.1
  have hF : F < 2000 := by omega
  have hf := xs_XC_f C
  have an3 := sh_an3 P N'.1.1
  have ops := xs_ops P XP hs G
  have og := xs_og hs P r i G
  obtain ⟨fr1, efr⟩ : ∃ fr1 : xs_FR, fr1 = (upd fr.1 F f, upd fr.2.1 F (xs_nr (nI ser)), upd fr.2.2.1 F (xs_vv (sh_an g i) 0 (xs_sv xa_tokens xa_copies fr.2.2.1 fr.2.2.2.1 fr.2.2.2.2.1 (sh_op g i 0) f)), upd fr.2.2.2.1 F (xs_vv (sh_an g i) 1 (xs_sv xa_tokens xa_copies fr.2.2.1 fr.2.2.2.1 fr.2.2.2.2.1 (sh_op g i 1) f)), upd fr.2.2.2.2.1 F (xs_vv (sh_an g i) 2 (xs_sv xa_tokens xa_copies fr.2.2.1 fr.2.2.2.1 fr.2.2.2.2.1 (sh_op g i 2) f)),
      upd fr.2.2.2.2.2.1 F (xs_vv (sh_an g i) 0 (xs_sv xa_replaced xa_copies fr.2.2.2.2.2.1 fr.2.2.2.2.2.2.1 fr.2.2.2.2.2.2.2.1 (sh_op g i 0) f)), upd fr.2.2.2.2.2.2.1 F (xs_vv (sh_an g i) 1 (xs_sv xa_replaced xa_copies fr.2.2.2.2.2.1 fr.2.2.2.2.2.2.1 fr.2.2.2.2.2.2.2.1 (sh_op g i 1) f)), upd fr.2.2.2.2.2.2.2.1 F (xs_vv (sh_an g i) 2 (xs_sv xa_replaced xa_copies fr.2.2.2.2.2.1 fr.2.2.2.2.2.2.1 fr.2.2.2.2.2.2.2.1 (sh_op g i 2) f)),
      upd fr.2.2.2.2.2.2.2.2.1 F (sb_b i), upd fr.2.2.2.2.2.2.2.2.2 F (vp_nar .byte (if 0 ≤ f then fr.2.2.2.2.2.2.2.2.2 f.toNatClampNeg else sb_b i))) := ⟨_, rfl⟩
  have hFs : xs_Fs fr fr1 F := by
    subst efr
    intro q hq
    exact ⟨pk_un (by omega), pk_un (by omega), pk_un (by omega), pk_un (by omega), pk_un (by omega), pk_un (by omega), pk_un (by omega), pk_un (by omega), pk_un (by omega), pk_un (by omega)⟩
  have sz : ∀ h, h < 3 → 1 ≤ sh_C g (sh_rt g i) h → xs_vv (sh_an g i) h (xs_sv xa_tokens xa_copies fr.2.2.1 fr.2.2.2.1 fr.2.2.2.2.1 (sh_op g i h) f) = nI (sh_eT g (sh_op g i h) r) ∧ xs_vv (sh_an g i) h (xs_sv xa_replaced xa_copies fr.2.2.2.2.2.1 fr.2.2.2.2.2.2.1 fr.2.2.2.2.2.2.2.1 (sh_op g i h) f) = nI (sh_eR g (sh_op g i h) r) := by
    intro h hh3 hc
    obtain ⟨o1, o2, o3, o4, o5⟩ := sh_gop P hs G hk hh3 hc
    have e := xs_sv_x P hs (F := F) (by omega) o2 (ops h o1).2.2 C (by omega)
    unfold xs_vv
    rw [if_pos o1, if_pos o1, e.1, e.2 (by omega)]
    exact ⟨sh_n16 (by omega), sh_n16 (by omega)⟩
  refine ⟨fr1, ⟨F, rfl, by omega, if_pos rfl, ?_, ?_, fun hc => ?_, fun hc => ?_, fun hc => ?_, ?_⟩, hFs, fun post m M => ?_⟩
  · subst efr; exact pk_us
  · subst efr
    refine pk_us.trans ?_
    cases r with
    | nil =>
      have e : f = -1 := C
      rw [e, if_neg (by decide), og.2 rfl]
      exact pk_vb _
    | cons x r =>
      obtain ⟨q, h1, h2, h3, h4, h5, _⟩ := C
      rw [h1, if_pos (nI_pos' (by omega)), nI_clamp (by omega), h5]
      exact pk_vb _
  · subst efr; exact ⟨pk_us.trans (sz 0 (by omega) hc).1, pk_us.trans (sz 0 (by omega) hc).2⟩
  · subst efr; exact ⟨pk_us.trans (sz 1 (by omega) hc).1, pk_us.trans (sz 1 (by omega) hc).2⟩
  · subst efr; exact ⟨pk_us.trans (sz 2 (by omega) hc).1, pk_us.trans (sz 2 (by omega) hc).2⟩
  · have e : fr1.1 F = f := by subst efr; exact pk_us
    rw [e]
    exact xs_XC_up (by omega) hFs (fun q hq => if_neg (by omega)) _ _ C
  · have c1 : xa_tok (nI i).toNatClampNeg = nI (sh_tk g i) := by rw [nI_clamp (by omega)]; exact x.1
    have ii : vp_in (nI i) 168 := vp_in_nI ad.1 (by omega)
    refine ⟨ii, br_t (by rw [c1]; exact nI_le (a := 16) hk (by have := N'.1.1; omega)) ⟨ii, br_f (by rw [c1]; exact nI_nlt (b := 16) hk (by have := N'.1.1; omega)) ?_⟩⟩
    refine xs_enter (g := g) hF ad.1 hf rfl x.1 N'.1.1 (fun _ => hh _ hub) an3 (fun t ht => ⟨(ops t ht).1, (ops t ht).2.1⟩) (nm_r (nI_1 ser) ⟨ii, nm_r (e' := nI (sh_rt g i)) ?_ ?_⟩)
    · rw [c1]
      have e : nI (sh_tk g i) - 16 = nI (sh_tk g i - 16) := pk_sub (b := 16) hk
      rw [e]
      exact pk_mul 12 _
    · subst efr
      exact M
theorem xs_stH (P : sh_Pg g cc hi) (hs : s < 4) (XP : xs_XP g hi xa_tok xa_end xa_num xa_copies xa_tokens xa_replaced xa_deep xa_lies xa_ofKind)
    {i i' u' v F : Nat} {r' : List (Nat × Nat)} {φ : Nat → Nat} {f ser : Int32} {fr : xs_FR} (G : sh_Gd g cc hi s i ((i', u') :: r')) (G5 : sh_Gd g cc hi s i' r') (hk : sh_tk g i = 9) (hn : sh_nm g i = nI v) (hv : v < 3) (hv' : v < sh_an g i') (hF : F ≤ 2000) (C : xs_XC g s φ fr F ((i', u') :: r') f) :
    ∃ f', xs_XC g s φ fr F r' f' ∧ ∀ (post : SX → Prop) m, wX_settle_2 post m ser xf_concepts xf_drafted xf_place (nI F) (nI (sh_op g i' v)) f' xf_above xf_depth xf_top xf_lets xf_says xf_result xa_tok xa_end xa_num xa_length xa_holes xa_draft xa_draftNum xa_copies xa_tokens xa_replaced xa_deep xa_lies xa_ofKind fr.1 fr.2.1 fr.2.2.1 fr.2.2.2.1 fr.2.2.2.2.1 fr.2.2.2.2.2.1 fr.2.2.2.2.2.2.1 fr.2.2.2.2.2.2.2.1 fr.2.2.2.2.2.2.2.2.1 fr.2.2.2.2.2.2.2.2.2 xa_workNode xa_stage xa_workFrame xa_values xa_bound xa_boundTo xa_output xa_given → wX_settle_2 post (m + 1) ser xf_concepts xf_drafted xf_place (nI F) (nI i) f xf_above xf_depth xf_top xf_lets xf_says xf_result xa_tok xa_end xa_num xa_length xa_holes xa_draft xa_draftNum xa_copies xa_tokens xa_replaced xa_deep xa_lies xa_ofKind fr.1 fr.2.1 fr.2.2.1 fr.2.2.2.1 fr.2.2.2.2.1 fr.2.2.2.2.2.1 fr.2.2.2.2.2.2.1 fr.2.2.2.2.2.2.2.1 fr.2.2.2.2.2.2.2.2.1 fr.2.2.2.2.2.2.2.2.2 xa_workNode xa_stage xa_workFrame xa_values xa_bound xa_boundTo xa_output xa_given := by
  have ad := xs_addr P hs G
  have ad5 := xs_addr P hs G5
  have x := XP _ (sh_Gd_r P hs G).1 i (sh_Gd_r P hs G).2
  have ops := xs_ops P XP hs G5
  obtain ⟨q, h1, h2, h3, h4, h5, h6, h7, h8, h9⟩ := C
  refine ⟨fr.1 q, h9, fun post m M => ?_⟩
  have c1 : xa_tok (nI i).toNatClampNeg = nI 9 := by rw [nI_clamp (by omega), ← hk]; exact x.1
  have ii : vp_in (nI i) 168 := vp_in_nI ad.1 (by omega)
  have iq : vp_in f 2000 := by rw [h1]; exact vp_in_nI (by omega) (by omega)
  have cn : xa_num (nI i).toNatClampNeg = nI v := by rw [nI_clamp (by omega), x.2.2.1]; exact hn
  refine ⟨ii, br_f (by rw [c1]; decide) ⟨ii, br_t (by rw [c1]; decide) ⟨ii, br_t (by rw [c1]; decide) ⟨iq, nm_r (e' := nI i') ?_ ⟨ii, ?_⟩⟩⟩⟩⟩
  · rw [h1, nI_clamp (by omega), h4]
    exact (sb_byte i' (by omega)).1
  · rw [cn]
    exact xs_operand (g := g) (by omega) (fun t ht => ⟨(ops t (by omega)).1, (ops t (by omega)).2.1⟩) ⟨iq, nm_r (e' := fr.1 q) (by rw [h1, nI_clamp (by omega)]) M⟩
theorem xs_stP (P : sh_Pg g cc hi) (hs : s < 4) (XP : xs_XP g hi xa_tok xa_end xa_num xa_copies xa_tokens xa_replaced xa_deep xa_lies xa_ofKind) {i d : Nat} {r : List (Nat × Nat)} {ser : Int32} (G : sh_Gd g cc hi s i r) (hk : sh_tk g i < 16) (h9 : sh_tk g i ≠ 9) (hd : d < 2000) (ed : xf_depth = nI d) (en : xf_node = nI i) (hf : sh_Sh xf_frame) {post : SX → Prop}
    (K : post (xf_concepts, xf_drafted, xf_place, xf_frames, xf_node, xf_frame, xf_above, nI (d + 1), xf_top, xf_lets, xf_says, xf_result, xa_tok, xa_end, xa_num, xa_length, xa_holes, xa_draft, xa_draftNum, xa_copies, xa_tokens, xa_replaced, xa_deep, xa_lies, xa_ofKind, xa_caller, xa_number, xa_size0, xa_size1, xa_size2, xa_uses0, xa_uses1, xa_uses2, xa_useAt, xa_begun, upd xa_workNode d (sb_b i), upd xa_stage d (nI 0), upd xa_workFrame d xf_frame, xa_values, xa_bound, xa_boundTo, xa_output, xa_given)) : wX_settle_2 (xs_PB post) 1 ser xf_concepts xf_drafted xf_place xf_frames xf_node xf_frame xf_above xf_depth xf_top xf_lets xf_says xf_result xa_tok xa_end xa_num xa_length xa_holes xa_draft xa_draftNum xa_copies xa_tokens xa_replaced xa_deep xa_lies xa_ofKind xa_caller xa_number xa_size0 xa_size1 xa_size2 xa_uses0 xa_uses1 xa_uses2 xa_useAt xa_begun xa_workNode xa_stage xa_workFrame xa_values xa_bound xa_boundTo xa_output xa_given := by
  subst ed en
  have ad := xs_addr P hs G
  have x := XP _ (sh_Gd_r P hs G).1 i (sh_Gd_r P hs G).2
  have c1 : xa_tok (nI i).toNatClampNeg = nI (sh_tk g i) := by rw [nI_clamp (by omega)]; exact x.1
  have ii : vp_in (nI i) 168 := vp_in_nI ad.1 (by omega)
  have id : vp_in (nI d) 2000 := vp_in_nI hd (by omega)
  refine ⟨ii, br_f (by rw [c1]; exact nI_ge (b := 16) hk (by omega)) ⟨ii, br_f (by rw [c1]; intro z; exact h9 ((nI_eq (b := 9) (by omega) (by omega)).mp z)) ?_⟩⟩
  refine ⟨id, nm_r (e' := upd xa_workNode d (sb_b i)) (by rw [nI_clamp (by omega), pk_vb]; rfl) ⟨id, nm_r (e' := upd xa_workFrame d xf_frame) (by rw [nI_clamp (by omega), hf]) (nm_r (nI_1 d) ⟨id, nm_r (e' := upd xa_stage d (nI 0)) (by rw [nI_clamp (by omega), show vp_nar .byte (0 : Int32) = nI 0 from sh_n8' (n := 0) (by omega)]) K⟩)⟩⟩
theorem xs_variable (P : sh_Pg g cc hi) (hs : s < 4) (XP : xs_XP g hi xa_tok xa_end xa_num xa_copies xa_tokens xa_replaced xa_deep xa_lies xa_ofKind) {i F : Nat} {r : List (Nat × Nat)} {φ : Nat → Nat} {f : Int32} {fr : xs_FR} (G : sh_Gd g cc hi s i r) (hk : sh_tk g i = 1 ∨ sh_tk g i = 7) (hF : F ≤ 2000) (hφ : ∀ q, q < F → φ q ≤ 2000) (C : xs_XC g s φ fr F r f) :
    ∃ mx my, xs_Nm F φ mx my ∧ sh_vl g i r = nI my ∧ ∀ post : Int32 → Prop, post (nI mx) → wpX_variable post (xf_concepts, xf_drafted, xf_place, xf_frames, xf_node, xf_frame, xf_above, xf_depth, xf_top, xf_lets, xf_says, xf_result, xa_tok, xa_end, xa_num, xa_length, xa_holes, xa_draft, xa_draftNum, xa_copies, xa_tokens, xa_replaced, xa_deep, xa_lies, xa_ofKind, xa_caller, xa_number, xa_size0, xa_size1, xa_size2, xa_uses0, xa_uses1, xa_uses2, xa_useAt, xa_begun, xa_workNode, xa_stage, xa_workFrame, xa_values, xa_bound, xa_boundTo, xa_output, xa_given) (nI i) f := by
  have N' := sh_Gd_n P hs G
  have ad := xs_addr P hs G
  have x := XP _ (sh_Gd_r P hs G).1 i (sh_Gd_r P hs G).2
  have ii : vp_in (nI i) 168 := vp_in_nI ad.1 (by omega)
  have cn : xa_num (nI i).toNatClampNeg = sh_nm g i := by rw [nI_clamp (by omega)]; exact x.2.2.1
  rcases N'.1.2.2.2.2.2.1 hk with ⟨v, hv, hn⟩ | ⟨hr6, hn⟩
  · refine ⟨v, v, Or.inl ⟨hv, rfl⟩, ?_, fun post h => ⟨ii, ?_⟩⟩
    · cases r with
      | nil => exact hn
      | cons y r =>
        show (if sh_tk g i = 10 then _ else if _ then _ else _) = _
        have n10 : sh_tk g i ≠ 10 := by rcases hk with z | z <;> rw [z] <;> decide
        rw [if_neg n10, if_neg (fun z => by rw [hn] at z; exact nI_pos (by omega) z.1)]
        exact hn
    · rw [cn, hn]
      exact br_t (nI_pos' (by omega)) ⟨ii, h⟩
  · cases r with
    | nil => exfalso; have e0 : sh_rw g s [] = 6 + s := rfl; rw [e0] at hr6; omega
    | cons y r =>
      obtain ⟨i', u'⟩ := y
      obtain ⟨q, h1, h2, h3, h4⟩ := C
      have neg : sh_nm g i < 0 := by rcases hn with hn | hn <;> (rw [hn]; decide)
      have n10 : sh_tk g i ≠ 10 := by rcases hk with z | z <;> rw [z] <;> decide
      obtain ⟨b, hb, ex, ey⟩ : ∃ b, b < 2 ∧ (99 + 2 * nI q) - sh_nm g i = nI (100 + 2 * q + b) ∧ (99 + 2 * nI u') - sh_nm g i = nI (100 + 2 * u' + b) := by
        have hu : u' ≤ 2000 := by rw [← h3]; exact hφ q h2
        rcases hn with hn | hn
        · exact ⟨0, by omega, (sh_neg (w := 100 + 2 * q) (by omega) (Or.inl ⟨hn, rfl⟩)).1, (sh_neg (w := 100 + 2 * u') hu (Or.inl ⟨hn, rfl⟩)).1⟩
        · refine ⟨1, by omega, ?_, ?_⟩
          · rw [(sh_neg (w := 101 + 2 * q) (by omega) (Or.inr ⟨hn, rfl⟩)).1]; exact congrArg nI (by omega)
          · rw [(sh_neg (w := 101 + 2 * u') hu (Or.inr ⟨hn, rfl⟩)).1]; exact congrArg nI (by omega)
      refine ⟨100 + 2 * q + b, 100 + 2 * u' + b, Or.inr ⟨q, b, h2, hb, rfl, by rw [h3]⟩, ?_, fun post h => ⟨ii, ?_⟩⟩
      · show (if sh_tk g i = 10 then _ else if _ then _ else _) = _
        rw [if_neg n10, if_pos ⟨neg, hk⟩]
        exact ey
      · rw [cn]
        refine br_f (fun z => absurd neg (Int32.not_lt.mpr z)) ⟨ii, ?_⟩
        rw [h1, ex]; exact h
theorem xs_worth {post : Int32 → Prop} {l m : Nat} (hl : l ≤ 2000) (el : xf_lets = nI l) (K : post (xs_lk xa_bound xa_boundTo xa_given l (nI m))) (hm : m < 2 ^ 31) : wpX_worth post (xf_concepts, xf_drafted, xf_place, xf_frames, xf_node, xf_frame, xf_above, xf_depth, xf_top, xf_lets, xf_says, xf_result, xa_tok, xa_end, xa_num, xa_length, xa_holes, xa_draft, xa_draftNum, xa_copies, xa_tokens, xa_replaced, xa_deep, xa_lies, xa_ofKind, xa_caller, xa_number, xa_size0, xa_size1, xa_size2, xa_uses0, xa_uses1, xa_uses2, xa_useAt, xa_begun, xa_workNode, xa_stage, xa_workFrame, xa_values, xa_bound, xa_boundTo, xa_output, xa_given) (nI m) := by
  have main : ∀ l, l ≤ 2000 → post (xs_lk xa_bound xa_boundTo xa_given l (nI m)) → wX_worth_7 post (nI m) xf_concepts xf_drafted xf_place xf_frames xf_node xf_frame xf_above xf_depth xf_top xf_lets xf_says xf_result xa_tok xa_end xa_num xa_length xa_holes xa_draft xa_draftNum xa_copies xa_tokens xa_replaced xa_deep xa_lies xa_ofKind xa_caller xa_number xa_size0 xa_size1 xa_size2 xa_uses0 xa_uses1 xa_uses2 xa_useAt xa_begun xa_workNode xa_stage xa_workFrame xa_values xa_bound xa_boundTo xa_output xa_given (l + 1) (nI l - 1) := by
    intro l
    induction l with
    | zero =>
      intro _ h
      refine br_t (by decide) (br_c (fun q => ?_) (fun q => ?_))
      · have e : xs_lk xa_bound xa_boundTo xa_given 0 (nI m) = 0 := if_pos q
        rw [e] at h; exact h
      · have e : xs_lk xa_bound xa_boundTo xa_given 0 (nI m) = xa_given (nI m).toNatClampNeg := if_neg q
        rw [e] at h
        have hm3 : m < 3 := by
          have : ¬ 3 ≤ m := fun z => q (nI_le (a := 3) z hm)
          omega
        exact ⟨vp_in_nI hm3 (by omega), h⟩
    | succ l ih =>
      intro hl h
      rw [sh_m1a l]
      refine br_f (nI_pos (by omega)) ⟨vp_in_nI (by omega) (by omega), ?_⟩
      rw [nI_clamp (by omega)]
      have e : xs_lk xa_bound xa_boundTo xa_given (l + 1) (nI m) = if xa_bound l = nI m then xa_boundTo l else xs_lk xa_bound xa_boundTo xa_given l (nI m) := rfl
      rw [e] at h
      refine br_c (fun q => ⟨vp_in_nI (by omega) (by omega), ?_⟩) (fun q => ?_)
      · rw [if_pos q] at h; exact h
      · rw [if_neg q] at h
        exact nm_r (sh_am1 (nI l)) (ih (by omega) h)
  subst el
  exact nm_e ⟨l + 1, main l hl K⟩
end XST
end
section
/-! X: go -/
section XGO
variable {xf_concepts xf_drafted xf_place xf_frames xf_node xf_frame xf_above xf_depth xf_top xf_lets xf_says xf_result : Int32} {xa_tok xa_end xa_num xa_length xa_holes xa_draft xa_draftNum xa_copies xa_tokens xa_replaced xa_deep xa_lies xa_ofKind xa_caller xa_number xa_size0 xa_size1 xa_size2 xa_uses0 xa_uses1 xa_uses2 xa_useAt xa_begun xa_workNode xa_stage xa_workFrame xa_values xa_bound xa_boundTo xa_output xa_given : Nat → Int32} {g : sh_G} {cc hi s : Nat}
/-- what is known of the topmost token at work -/
def xs_Tp (g : sh_G) (wn sg wf tok en holes : Nat → Int32) (hi d i j : Nat) (f : Int32) : Prop :=
  wn d = sb_b i ∧ wf d = f ∧ sg d = nI j ∧ d < 2000 ∧ i < 168 ∧ j ≤ 3 ∧ tok i = nI (sh_tk g i) ∧ sh_tk g i < 16 ∧ sh_tk g i ≠ 9 ∧ sh_an g i ≤ 3 ∧ (∀ t, t < sh_an g i → sh_op g i t < 168 ∧ en (sh_op g i t) &&& 255 = nI (sh_op g i (t + 1)))
theorem xs_go0 {post : Int32 → SX → Prop} {n d i j : Nat} {f : Int32} (T : xs_Tp g xa_workNode xa_stage xa_workFrame xa_tok xa_end xa_holes hi d i j f) (ed : xf_depth = nI (d + 1)) (hnl : ¬ (sh_tk g i = 7 ∧ j = 1))
    (K : wX_go_100 (xs_W post n) (nI d) (nI i) f (nI (sh_tk g i)) (nI j) xf_concepts xf_drafted xf_place xf_frames xf_node xf_frame xf_above xf_depth xf_top xf_lets xf_says xf_result xa_tok xa_end xa_num xa_length xa_holes xa_draft xa_draftNum xa_copies xa_tokens xa_replaced xa_deep xa_lies xa_ofKind xa_caller xa_number xa_size0 xa_size1 xa_size2 xa_uses0 xa_uses1 xa_uses2 xa_useAt xa_begun xa_workNode (upd xa_stage d (nI (j + 1))) xa_workFrame xa_values xa_bound xa_boundTo xa_output xa_given) : wX_run_93 post (n + 1) xf_concepts xf_drafted xf_place xf_frames xf_node xf_frame xf_above xf_depth xf_top xf_lets xf_says xf_result xa_tok xa_end xa_num xa_length xa_holes xa_draft xa_draftNum xa_copies xa_tokens xa_replaced xa_deep xa_lies xa_ofKind xa_caller xa_number xa_size0 xa_size1 xa_size2 xa_uses0 xa_uses1 xa_uses2 xa_useAt xa_begun xa_workNode xa_stage xa_workFrame xa_values xa_bound xa_boundTo xa_output xa_given := by
  subst ed
  obtain ⟨t1, t2, t3, t4, t5, t6, t7, t8, t9, t10, t11⟩ := T
  have id : vp_in (nI d) 2000 := vp_in_nI t4 (by omega)
  have e1 : nI (d + 1) - 1 = nI d := sh_m1a d
  refine br_f (nI_nle (by omega) (by omega)) ?_
  rw [e1]
  refine ⟨id, nm_r (e' := nI i) (by rw [nI_clamp (by omega), t1]; exact (sb_byte i (by omega)).1) ⟨id, nm_r (e' := f) (by rw [nI_clamp (by omega)]; exact t2) ⟨vp_in_nI t5 (by omega), nm_r (e' := nI (sh_tk g i)) (by rw [nI_clamp (by omega)]; exact t7) ⟨id, id, nm_r (e' := upd xa_stage d (nI (j + 1))) (by rw [nI_clamp (by omega), t3, nI_1, sh_n8 (by omega)]) (nm_r (e' := nI j) (by rw [nI_clamp (by omega)]; exact t3) ?_)⟩⟩⟩⟩
  refine pk_eq (sh_tk g i) 7 (fun h7 => pk_eq j 1 (fun hj => absurd ⟨h7, hj⟩ hnl) (fun hj => K)) (fun h7 => K)
theorem xs_goL {post : Int32 → SX → Prop} {n d i t l mx : Nat} {f : Int32} (T : xs_Tp g xa_workNode xa_stage xa_workFrame xa_tok xa_end xa_holes hi d i 1 f) (ed : xf_depth = nI (d + 1)) (et : xf_top = nI (t + 1)) (el : xf_lets = nI l) (ht : t < 2000) (hl : l < 2000) (h7 : sh_tk g i = 7)
    (hv : ∀ (P : Int32 → Prop), P (nI mx) → wpX_variable P (xf_concepts, xf_drafted, xf_place, xf_frames, xf_node, xf_frame, xf_above, xf_depth, xf_top, xf_lets, xf_says, xf_result, xa_tok, xa_end, xa_num, xa_length, xa_holes, xa_draft, xa_draftNum, xa_copies, xa_tokens, xa_replaced, xa_deep, xa_lies, xa_ofKind, xa_caller, xa_number, xa_size0, xa_size1, xa_size2, xa_uses0, xa_uses1, xa_uses2, xa_useAt, xa_begun, xa_workNode, upd xa_stage d (nI 2), xa_workFrame, xa_values, xa_bound, xa_boundTo, xa_output, xa_given) (nI i) f)
    (K : wX_go_100 (xs_W post n) (nI d) (nI i) f (nI (sh_tk g i)) (nI 1) xf_concepts xf_drafted xf_place xf_frames xf_node xf_frame xf_above xf_depth (nI t) (nI (l + 1)) xf_says xf_result xa_tok xa_end xa_num xa_length xa_holes xa_draft xa_draftNum xa_copies xa_tokens xa_replaced xa_deep xa_lies xa_ofKind xa_caller xa_number xa_size0 xa_size1 xa_size2 xa_uses0 xa_uses1 xa_uses2 xa_useAt xa_begun xa_workNode (upd xa_stage d (nI 2)) xa_workFrame xa_values (upd xa_bound l (nI mx)) (upd xa_boundTo l (xa_values t)) xa_output xa_given) : wX_run_93 post (n + 1) xf_concepts xf_drafted xf_place xf_frames xf_node xf_frame xf_above xf_depth xf_top xf_lets xf_says xf_result xa_tok xa_end xa_num xa_length xa_holes xa_draft xa_draftNum xa_copies xa_tokens xa_replaced xa_deep xa_lies xa_ofKind xa_caller xa_number xa_size0 xa_size1 xa_size2 xa_uses0 xa_uses1 xa_uses2 xa_useAt xa_begun xa_workNode xa_stage xa_workFrame xa_values xa_bound xa_boundTo xa_output xa_given := by
  subst ed et el
  obtain ⟨t1, t2, t3, t4, t5, t6, t7, t8, t9, t10, t11⟩ := T
  have id : vp_in (nI d) 2000 := vp_in_nI t4 (by omega)
  have e1 : nI (d + 1) - 1 = nI d := sh_m1a d
  have e2 : nI (t + 1) - 1 = nI t := sh_m1a t
  refine br_f (nI_nle (by omega) (by omega)) ?_
  rw [e1]
  refine ⟨id, nm_r (e' := nI i) (by rw [nI_clamp (by omega), t1]; exact (sb_byte i (by omega)).1) ⟨id, nm_r (e' := f) (by rw [nI_clamp (by omega)]; exact t2) ⟨vp_in_nI t5 (by omega), nm_r (e' := nI (sh_tk g i)) (by rw [nI_clamp (by omega)]; exact t7) ⟨id, id, nm_r (e' := upd xa_stage d (nI 2)) (by rw [nI_clamp (by omega), t3, nI_1, sh_n8 (by omega)]) (nm_r (e' := nI 1) (by rw [nI_clamp (by omega)]; exact t3) ?_)⟩⟩⟩⟩
  refine br_t (by rw [h7]; rfl) (br_t rfl ?_)
  refine hv _ ⟨vp_in_nI hl (by omega), nm_r (e' := upd xa_bound l (nI mx)) (by rw [nI_clamp (by omega)]) (nm_r (nI_1 l) (nm_r e2 ⟨by rw [e2]; exact vp_in_nI (by omega) (by omega), vp_in_nI hl (by omega), nm_r (e' := upd xa_boundTo l (xa_values t)) (by rw [e2, nI_clamp (by omega), nI_clamp (by omega)]) K⟩))⟩
/-- the next operand comes to work -/
theorem xs_go1 {post : Int32 → SX → Prop} {n d i j : Nat} {f : Int32} (hk : sh_tk g i < 16) (ha : sh_an g i ≤ 3) (hop : ∀ t, t < sh_an g i → sh_op g i t < 168 ∧ xa_end (sh_op g i t) &&& 255 = nI (sh_op g i (t + 1))) (hj : j < sh_an g i) (hni : ¬ (sh_tk g i = 6 ∧ j = 1))
    (K : ∃ m, wX_settle_2 (xs_PB (xs_W post n)) m 0 xf_concepts xf_drafted xf_place xf_frames (nI (sh_op g i j)) f xf_above xf_depth xf_top xf_lets xf_says xf_result xa_tok xa_end xa_num xa_length xa_holes xa_draft xa_draftNum xa_copies xa_tokens xa_replaced xa_deep xa_lies xa_ofKind xa_caller xa_number xa_size0 xa_size1 xa_size2 xa_uses0 xa_uses1 xa_uses2 xa_useAt xa_begun xa_workNode xa_stage xa_workFrame xa_values xa_bound xa_boundTo xa_output xa_given) : wX_go_100 (xs_W post n) (nI d) (nI i) f (nI (sh_tk g i)) (nI j) xf_concepts xf_drafted xf_place xf_frames xf_node xf_frame xf_above xf_depth xf_top xf_lets xf_says xf_result xa_tok xa_end xa_num xa_length xa_holes xa_draft xa_draftNum xa_copies xa_tokens xa_replaced xa_deep xa_lies xa_ofKind xa_caller xa_number xa_size0 xa_size1 xa_size2 xa_uses0 xa_uses1 xa_uses2 xa_useAt xa_begun xa_workNode xa_stage xa_workFrame xa_values xa_bound xa_boundTo xa_output xa_given := by
  have k164 : wX_go_164 (xs_W post n) (nI i) f (nI (sh_tk g i)) (nI j) xf_concepts xf_drafted xf_place xf_frames xf_node xf_frame xf_above xf_depth xf_top xf_lets xf_says xf_result xa_tok xa_end xa_num xa_length xa_holes xa_draft xa_draftNum xa_copies xa_tokens xa_replaced xa_deep xa_lies xa_ofKind xa_caller xa_number xa_size0 xa_size1 xa_size2 xa_uses0 xa_uses1 xa_uses2 xa_useAt xa_begun xa_workNode xa_stage xa_workFrame xa_values xa_bound xa_boundTo xa_output xa_given :=
    xs_operands (ho := sh_ho g) (by omega) (fun z => by omega) (br_f (nI_ge (show j < sh_ar (sh_ho g) (sh_tk g i) from hj) (by have : sh_ar (sh_ho g) (sh_tk g i) ≤ 3 := ha; omega)) (xs_operand (g := g) (by omega) (fun t ht => hop t (by omega)) (xs_begin K)))
  exact pk_eq (sh_tk g i) 6 (fun h6 => pk_eq j 1 (fun h1 => absurd ⟨h6, h1⟩ hni) (fun _ => k164)) (fun _ => k164)
/-- an IF chooses -/
theorem xs_goI {post : Int32 → SX → Prop} {n d i t : Nat} {f : Int32} (h6 : sh_tk g i = 6) (hd : d < 2000) (hop : ∀ t, t < sh_an g i → sh_op g i t < 168 ∧ xa_end (sh_op g i t) &&& 255 = nI (sh_op g i (t + 1))) (et : xf_top = nI (t + 1)) (ht : t < 2000)
    (K : ∃ m, wX_settle_2 (xs_PB (xs_W post n)) m 0 xf_concepts xf_drafted xf_place xf_frames (nI (sh_op g i (if xa_values t = 0 then 2 else 1))) f xf_above xf_depth (nI t) xf_lets xf_says xf_result xa_tok xa_end xa_num xa_length xa_holes xa_draft xa_draftNum xa_copies xa_tokens xa_replaced xa_deep xa_lies xa_ofKind xa_caller xa_number xa_size0 xa_size1 xa_size2 xa_uses0 xa_uses1 xa_uses2 xa_useAt xa_begun xa_workNode (upd xa_stage d (nI 3)) xa_workFrame xa_values xa_bound xa_boundTo xa_output xa_given) : wX_go_100 (xs_W post n) (nI d) (nI i) f (nI (sh_tk g i)) (nI 1) xf_concepts xf_drafted xf_place xf_frames xf_node xf_frame xf_above xf_depth xf_top xf_lets xf_says xf_result xa_tok xa_end xa_num xa_length xa_holes xa_draft xa_draftNum xa_copies xa_tokens xa_replaced xa_deep xa_lies xa_ofKind xa_caller xa_number xa_size0 xa_size1 xa_size2 xa_uses0 xa_uses1 xa_uses2 xa_useAt xa_begun xa_workNode xa_stage xa_workFrame xa_values xa_bound xa_boundTo xa_output xa_given := by
  subst et
  have e2 : nI (t + 1) - 1 = nI t := sh_m1a t
  have a3 : sh_an g i = 3 := by unfold sh_an; exact sh_ar_6 h6
  refine br_t (by rw [h6]; rfl) (br_t rfl (nm_r e2 ⟨vp_in_nI hd (by omega), nm_r (e' := upd xa_stage d (nI 3)) (by rw [nI_clamp (by omega), show vp_nar .byte (3 : Int32) = nI 3 from sh_n8' (n := 3) (by omega)]) ⟨vp_in_nI (by omega) (by omega), ?_⟩⟩))
  rw [nI_clamp (by omega)]
  refine br_c (fun h => ?_) (fun h => ?_)
  · rw [if_pos h] at K
    exact xs_operand (g := g) (j := 2) (by omega) (fun t ht => hop t (by omega)) (xs_begin K)
  · rw [if_neg h] at K
    exact xs_operand (g := g) (j := 1) (by omega) (fun t ht => hop t (by omega)) (xs_begin K)
/-- a token is done -/
theorem xs_go2 {post : Int32 → SX → Prop} {n d i j : Nat} {f : Int32} (hk : sh_tk g i < 16) (ha : sh_an g i ≤ 3) (hj : sh_an g i ≤ j) (hj3 : j ≤ 3) (hni : ¬ (sh_tk g i = 6 ∧ j = 1)) (ed : xf_depth = nI (d + 1))
    (K : wpX_finish (xs_W post n) (xf_concepts, xf_drafted, xf_place, xf_frames, xf_node, xf_frame, xf_above, nI d, xf_top, xf_lets, xf_says, xf_result, xa_tok, xa_end, xa_num, xa_length, xa_holes, xa_draft, xa_draftNum, xa_copies, xa_tokens, xa_replaced, xa_deep, xa_lies, xa_ofKind, xa_caller, xa_number, xa_size0, xa_size1, xa_size2, xa_uses0, xa_uses1, xa_uses2, xa_useAt, xa_begun, xa_workNode, xa_stage, xa_workFrame, xa_values, xa_bound, xa_boundTo, xa_output, xa_given) (nI i) f (nI (sh_tk g i))) : wX_go_100 (xs_W post n) (nI d) (nI i) f (nI (sh_tk g i)) (nI j) xf_concepts xf_drafted xf_place xf_frames xf_node xf_frame xf_above xf_depth xf_top xf_lets xf_says xf_result xa_tok xa_end xa_num xa_length xa_holes xa_draft xa_draftNum xa_copies xa_tokens xa_replaced xa_deep xa_lies xa_ofKind xa_caller xa_number xa_size0 xa_size1 xa_size2 xa_uses0 xa_uses1 xa_uses2 xa_useAt xa_begun xa_workNode xa_stage xa_workFrame xa_values xa_bound xa_boundTo xa_output xa_given := by
  subst ed
  have k164 : wX_go_164 (xs_W post n) (nI i) f (nI (sh_tk g i)) (nI j) xf_concepts xf_drafted xf_place xf_frames xf_node xf_frame xf_above (nI (d + 1)) xf_top xf_lets xf_says xf_result xa_tok xa_end xa_num xa_length xa_holes xa_draft xa_draftNum xa_copies xa_tokens xa_replaced xa_deep xa_lies xa_ofKind xa_caller xa_number xa_size0 xa_size1 xa_size2 xa_uses0 xa_uses1 xa_uses2 xa_useAt xa_begun xa_workNode xa_stage xa_workFrame xa_values xa_bound xa_boundTo xa_output xa_given :=
    xs_operands (ho := sh_ho g) (by omega) (fun z => by omega) (br_t (nI_le (show sh_ar (sh_ho g) (sh_tk g i) ≤ j from hj) (by omega)) (nm_r (sh_m1a d) K))
  exact pk_eq (sh_tk g i) 6 (fun h6 => pk_eq j 1 (fun h1 => absurd ⟨h6, h1⟩ hni) (fun _ => k164)) (fun _ => k164)
end XGO
end
section
/-! X: what a run makes of an expression -/
def sh_opv (k : Nat) (x y : Int32) : Int32 := if k = 2 then x + y else if k = 3 then x - y else if k = 4 then x * y else if y ≤ x then 0 else 1
def sh_out (y : Nat) (o : Nat → Int32) (x : Int32) : Nat → Int32 := if y < 20 then upd o y x else o
section XFN
variable {xf_concepts xf_drafted xf_place xf_frames xf_node xf_frame xf_above xf_depth xf_top xf_lets xf_says xf_result : Int32} {xa_tok xa_end xa_num xa_length xa_holes xa_draft xa_draftNum xa_copies xa_tokens xa_replaced xa_deep xa_lies xa_ofKind xa_caller xa_number xa_size0 xa_size1 xa_size2 xa_uses0 xa_uses1 xa_uses2 xa_useAt xa_begun xa_workNode xa_stage xa_workFrame xa_values xa_bound xa_boundTo xa_output xa_given : Nat → Int32}
theorem xs_fin0 {post : SX → Prop} {i t : Nat} {f w : Int32} (hi : i < 168) (ht : t < 2001) (et : xf_top = nI t) (hn : xa_num i = w) (K : post (xf_concepts, xf_drafted, xf_place, xf_frames, xf_node, xf_frame, xf_above, xf_depth, nI (t + 1), xf_lets, xf_says, xf_result, xa_tok, xa_end, xa_num, xa_length, xa_holes, xa_draft, xa_draftNum, xa_copies, xa_tokens, xa_replaced, xa_deep, xa_lies, xa_ofKind, xa_caller, xa_number, xa_size0, xa_size1, xa_size2, xa_uses0, xa_uses1, xa_uses2, xa_useAt, xa_begun, xa_workNode, xa_stage, xa_workFrame, upd xa_values t w, xa_bound, xa_boundTo, xa_output, xa_given)) : wpX_finish post (xf_concepts, xf_drafted, xf_place, xf_frames, xf_node, xf_frame, xf_above, xf_depth, xf_top, xf_lets, xf_says, xf_result, xa_tok, xa_end, xa_num, xa_length, xa_holes, xa_draft, xa_draftNum, xa_copies, xa_tokens, xa_replaced, xa_deep, xa_lies, xa_ofKind, xa_caller, xa_number, xa_size0, xa_size1, xa_size2, xa_uses0, xa_uses1, xa_uses2, xa_useAt, xa_begun, xa_workNode, xa_stage, xa_workFrame, xa_values, xa_bound, xa_boundTo, xa_output, xa_given) (nI i) f (nI 0) := by
  subst et
  refine br_f (by decide) (br_f (by decide) (br_t rfl (nm_r (nI_1 t) ⟨vp_in_nI hi (by omega), vp_in_nI ht (by omega), nm_r (e' := upd xa_values t w) (by rw [nI_clamp (by omega), nI_clamp (by omega), hn]) K⟩)))
theorem xs_fin1 {post : SX → Prop} {i t l mx : Nat} {f : Int32} (ht : t < 2001) (hl : l ≤ 2000) (hm : mx < 2 ^ 31) (et : xf_top = nI t) (el : xf_lets = nI l) (hv : ∀ (P : Int32 → Prop), P (nI mx) → wpX_variable P (xf_concepts, xf_drafted, xf_place, xf_frames, xf_node, xf_frame, xf_above, xf_depth, xf_top, xf_lets, xf_says, xf_result, xa_tok, xa_end, xa_num, xa_length, xa_holes, xa_draft, xa_draftNum, xa_copies, xa_tokens, xa_replaced, xa_deep, xa_lies, xa_ofKind, xa_caller, xa_number, xa_size0, xa_size1, xa_size2, xa_uses0, xa_uses1, xa_uses2, xa_useAt, xa_begun, xa_workNode, xa_stage, xa_workFrame, xa_values, xa_bound, xa_boundTo, xa_output, xa_given) (nI i) f)
    (K : post (xf_concepts, xf_drafted, xf_place, xf_frames, xf_node, xf_frame, xf_above, xf_depth, nI (t + 1), xf_lets, xf_says, xf_result, xa_tok, xa_end, xa_num, xa_length, xa_holes, xa_draft, xa_draftNum, xa_copies, xa_tokens, xa_replaced, xa_deep, xa_lies, xa_ofKind, xa_caller, xa_number, xa_size0, xa_size1, xa_size2, xa_uses0, xa_uses1, xa_uses2, xa_useAt, xa_begun, xa_workNode, xa_stage, xa_workFrame, upd xa_values t (xs_lk xa_bound xa_boundTo xa_given l (nI mx)), xa_bound, xa_boundTo, xa_output, xa_given)) : wpX_finish post (xf_concepts, xf_drafted, xf_place, xf_frames, xf_node, xf_frame, xf_above, xf_depth, xf_top, xf_lets, xf_says, xf_result, xa_tok, xa_end, xa_num, xa_length, xa_holes, xa_draft, xa_draftNum, xa_copies, xa_tokens, xa_replaced, xa_deep, xa_lies, xa_ofKind, xa_caller, xa_number, xa_size0, xa_size1, xa_size2, xa_uses0, xa_uses1, xa_uses2, xa_useAt, xa_begun, xa_workNode, xa_stage, xa_workFrame, xa_values, xa_bound, xa_boundTo, xa_output, xa_given) (nI i) f (nI 1) := by
  subst et
  refine br_f (by decide) (br_f (by decide) (br_f (by decide) (br_t rfl (hv _ (nm_r (nI_1 t) (xs_worth (l := l) hl el ⟨vp_in_nI ht (by omega), nm_r (e' := upd xa_values t (xs_lk xa_bound xa_boundTo xa_given l (nI mx))) (by rw [nI_clamp (by omega)]) K⟩ hm))))))
theorem xs_fin10 {post : SX → Prop} {i i' q t : Nat} {f w : Int32} (ht : t < 2001) (et : xf_top = nI t) (ef : f = nI q) (hq : q < 2000) (hu : xa_useAt q = sb_b i') (hi : i' < 168) (hn : xa_num i' = w) (K : post (xf_concepts, xf_drafted, xf_place, xf_frames, xf_node, xf_frame, xf_above, xf_depth, nI (t + 1), xf_lets, xf_says, xf_result, xa_tok, xa_end, xa_num, xa_length, xa_holes, xa_draft, xa_draftNum, xa_copies, xa_tokens, xa_replaced, xa_deep, xa_lies, xa_ofKind, xa_caller, xa_number, xa_size0, xa_size1, xa_size2, xa_uses0, xa_uses1, xa_uses2, xa_useAt, xa_begun, xa_workNode, xa_stage, xa_workFrame, upd xa_values t w, xa_bound, xa_boundTo, xa_output, xa_given)) : wpX_finish post (xf_concepts, xf_drafted, xf_place, xf_frames, xf_node, xf_frame, xf_above, xf_depth, xf_top, xf_lets, xf_says, xf_result, xa_tok, xa_end, xa_num, xa_length, xa_holes, xa_draft, xa_draftNum, xa_copies, xa_tokens, xa_replaced, xa_deep, xa_lies, xa_ofKind, xa_caller, xa_number, xa_size0, xa_size1, xa_size2, xa_uses0, xa_uses1, xa_uses2, xa_useAt, xa_begun, xa_workNode, xa_stage, xa_workFrame, xa_values, xa_bound, xa_boundTo, xa_output, xa_given) (nI i) f (nI 10) := by
  subst et ef
  have e : xa_useAt (nI q).toNatClampNeg &&& 255 = nI i' := by rw [nI_clamp (by omega), hu]; exact (sb_byte i' (by omega)).1
  refine br_f (by decide) (br_f (by decide) (br_f (by decide) (br_f (by decide) (br_f (by decide) (br_f (by decide) (br_f (by decide) (br_f (by decide) (br_f (by decide) (br_f (by decide) (br_f (by decide) (br_f (by decide) (br_t rfl (nm_r (nI_1 t) ⟨vp_in_nI hq (by omega), by rw [e]; exact vp_in_nI hi (by omega), vp_in_nI ht (by omega), nm_r (e' := upd xa_values t w) (by rw [e, nI_clamp (by omega), nI_clamp (by omega), hn]) K⟩)))))))))))))
theorem xs_fin6 {post : SX → Prop} {i : Nat} {f : Int32} (K : post (xf_concepts, xf_drafted, xf_place, xf_frames, xf_node, xf_frame, xf_above, xf_depth, xf_top, xf_lets, xf_says, xf_result, xa_tok, xa_end, xa_num, xa_length, xa_holes, xa_draft, xa_draftNum, xa_copies, xa_tokens, xa_replaced, xa_deep, xa_lies, xa_ofKind, xa_caller, xa_number, xa_size0, xa_size1, xa_size2, xa_uses0, xa_uses1, xa_uses2, xa_useAt, xa_begun, xa_workNode, xa_stage, xa_workFrame, xa_values, xa_bound, xa_boundTo, xa_output, xa_given)) : wpX_finish post (xf_concepts, xf_drafted, xf_place, xf_frames, xf_node, xf_frame, xf_above, xf_depth, xf_top, xf_lets, xf_says, xf_result, xa_tok, xa_end, xa_num, xa_length, xa_holes, xa_draft, xa_draftNum, xa_copies, xa_tokens, xa_replaced, xa_deep, xa_lies, xa_ofKind, xa_caller, xa_number, xa_size0, xa_size1, xa_size2, xa_uses0, xa_uses1, xa_uses2, xa_useAt, xa_begun, xa_workNode, xa_stage, xa_workFrame, xa_values, xa_bound, xa_boundTo, xa_output, xa_given) (nI i) f (nI 6) :=
  br_f (by decide) (br_f (by decide) (br_f (by decide) (br_f (by decide) (br_f (by decide) (br_f (by decide) (br_f (by decide) (br_f (by decide) (br_t rfl K))))))))
theorem xs_fin7 {post : SX → Prop} {i l : Nat} {f : Int32} (el : xf_lets = nI (l + 1)) (K : post (xf_concepts, xf_drafted, xf_place, xf_frames, xf_node, xf_frame, xf_above, xf_depth, xf_top, nI l, xf_says, xf_result, xa_tok, xa_end, xa_num, xa_length, xa_holes, xa_draft, xa_draftNum, xa_copies, xa_tokens, xa_replaced, xa_deep, xa_lies, xa_ofKind, xa_caller, xa_number, xa_size0, xa_size1, xa_size2, xa_uses0, xa_uses1, xa_uses2, xa_useAt, xa_begun, xa_workNode, xa_stage, xa_workFrame, xa_values, xa_bound, xa_boundTo, xa_output, xa_given)) : wpX_finish post (xf_concepts, xf_drafted, xf_place, xf_frames, xf_node, xf_frame, xf_above, xf_depth, xf_top, xf_lets, xf_says, xf_result, xa_tok, xa_end, xa_num, xa_length, xa_holes, xa_draft, xa_draftNum, xa_copies, xa_tokens, xa_replaced, xa_deep, xa_lies, xa_ofKind, xa_caller, xa_number, xa_size0, xa_size1, xa_size2, xa_uses0, xa_uses1, xa_uses2, xa_useAt, xa_begun, xa_workNode, xa_stage, xa_workFrame, xa_values, xa_bound, xa_boundTo, xa_output, xa_given) (nI i) f (nI 7) := by
  subst el
  exact br_f (by decide) (br_f (by decide) (br_f (by decide) (br_f (by decide) (br_f (by decide) (br_f (by decide) (br_f (by decide) (br_f (by decide) (br_f (by decide) (br_t rfl (nm_r (sh_m1a l) K))))))))))
theorem xs_fin8 {post : SX → Prop} {i t y : Nat} {f : Int32} (ht : t < 2000) (et : xf_top = nI (t + 1)) (ey : xf_says = nI y) (hy : y < 2 ^ 30) (K : post (xf_concepts, xf_drafted, xf_place, xf_frames, xf_node, xf_frame, xf_above, xf_depth, xf_top, xf_lets, nI (y + 1), xf_result, xa_tok, xa_end, xa_num, xa_length, xa_holes, xa_draft, xa_draftNum, xa_copies, xa_tokens, xa_replaced, xa_deep, xa_lies, xa_ofKind, xa_caller, xa_number, xa_size0, xa_size1, xa_size2, xa_uses0, xa_uses1, xa_uses2, xa_useAt, xa_begun, xa_workNode, xa_stage, xa_workFrame, xa_values, xa_bound, xa_boundTo, sh_out y xa_output (xa_values t), xa_given)) : wpX_finish post (xf_concepts, xf_drafted, xf_place, xf_frames, xf_node, xf_frame, xf_above, xf_depth, xf_top, xf_lets, xf_says, xf_result, xa_tok, xa_end, xa_num, xa_length, xa_holes, xa_draft, xa_draftNum, xa_copies, xa_tokens, xa_replaced, xa_deep, xa_lies, xa_ofKind, xa_caller, xa_number, xa_size0, xa_size1, xa_size2, xa_uses0, xa_uses1, xa_uses2, xa_useAt, xa_begun, xa_workNode, xa_stage, xa_workFrame, xa_values, xa_bound, xa_boundTo, xa_output, xa_given) (nI i) f (nI 8) := by
  subst et ey
  have e2 : nI (t + 1) - 1 = nI t := sh_m1a t
  refine br_f (by decide) (br_f (by decide) (br_f (by decide) (br_f (by decide) (br_f (by decide) (br_f (by decide) (br_f (by decide) (br_f (by decide) (br_f (by decide) (br_f (by decide) (br_t rfl (pk_le 20 y (fun h => nm_r (nI_1 y) ?_) (fun h => ⟨by rw [e2]; exact vp_in_nI (by omega) (by omega), vp_in_nI h (by omega), nm_r (e' := upd xa_output y (xa_values t)) (by rw [e2, nI_clamp (by omega), nI_clamp (by omega)]) (nm_r (nI_1 y) ?_)⟩))))))))))))
  · unfold sh_out at K; rw [if_neg (by omega)] at K; exact K
  · unfold sh_out at K; rw [if_pos h] at K; exact K
theorem xs_fin2 {post : SX → Prop} {i t k : Nat} {f : Int32} (ht : t < 1999) (et : xf_top = nI (t + 2)) (hk : 2 ≤ k) (hk5 : k ≤ 5) (K : post (xf_concepts, xf_drafted, xf_place, xf_frames, xf_node, xf_frame, xf_above, xf_depth, nI (t + 1), xf_lets, xf_says, xf_result, xa_tok, xa_end, xa_num, xa_length, xa_holes, xa_draft, xa_draftNum, xa_copies, xa_tokens, xa_replaced, xa_deep, xa_lies, xa_ofKind, xa_caller, xa_number, xa_size0, xa_size1, xa_size2, xa_uses0, xa_uses1, xa_uses2, xa_useAt, xa_begun, xa_workNode, xa_stage, xa_workFrame, upd xa_values t (sh_opv k (xa_values t) (xa_values (t + 1))), xa_bound, xa_boundTo, xa_output, xa_given)) : wpX_finish post (xf_concepts, xf_drafted, xf_place, xf_frames, xf_node, xf_frame, xf_above, xf_depth, xf_top, xf_lets, xf_says, xf_result, xa_tok, xa_end, xa_num, xa_length, xa_holes, xa_draft, xa_draftNum, xa_copies, xa_tokens, xa_replaced, xa_deep, xa_lies, xa_ofKind, xa_caller, xa_number, xa_size0, xa_size1, xa_size2, xa_uses0, xa_uses1, xa_uses2, xa_useAt, xa_begun, xa_workNode, xa_stage, xa_workFrame, xa_values, xa_bound, xa_boundTo, xa_output, xa_given) (nI i) f (nI k) := by
  subst et
  have e1 : nI (t + 2) - 1 = nI (t + 1) := sh_m1a (t + 1)
  have e2 : nI (t + 1) - 1 = nI t := sh_m1a t
  have i1 : vp_in (nI (t + 1) - 1) 2001 := by rw [e2]; exact vp_in_nI (by omega) (by omega)
  have ev : ∀ x, upd xa_values (nI (t + 1) - 1).toNatClampNeg x = upd xa_values t x := fun x => by rw [e2, nI_clamp (by omega)]
  have k210 : wX_finish_210 post (nI k) xf_concepts xf_drafted xf_place xf_frames xf_node xf_frame xf_above xf_depth (nI (t + 2)) xf_lets xf_says xf_result xa_tok xa_end xa_num xa_length xa_holes xa_draft xa_draftNum xa_copies xa_tokens xa_replaced xa_deep xa_lies xa_ofKind xa_caller xa_number xa_size0 xa_size1 xa_size2 xa_uses0 xa_uses1 xa_uses2 xa_useAt xa_begun xa_workNode xa_stage xa_workFrame xa_values xa_bound xa_boundTo xa_output xa_given := by
    refine nm_r e1 ⟨i1, nm_r (e' := xa_values t) (by rw [e2, nI_clamp (by omega)]) ⟨vp_in_nI (by omega) (by omega), nm_r (e' := xa_values (t + 1)) (by rw [nI_clamp (by omega)]) (pk_eq k 2 (fun h => ⟨i1, nm_r (ev _) ?_⟩) (fun h2 => pk_eq k 3 (fun h => ⟨i1, nm_r (ev _) ?_⟩) (fun h3 => pk_eq k 4 (fun h => ⟨i1, nm_r (ev _) ?_⟩) (fun h4 => br_c (fun h => ⟨i1, nm_r (ev _) ?_⟩) (fun h => ⟨i1, nm_r (ev _) ?_⟩)))))⟩⟩
    · unfold sh_opv at K; rw [if_pos h] at K; exact K
    · unfold sh_opv at K; rw [if_neg h2, if_pos h] at K; exact K
    · unfold sh_opv at K; rw [if_neg h2, if_neg h3, if_pos h] at K; exact K
    · unfold sh_opv at K; rw [if_neg h2, if_neg h3, if_neg h4, if_pos h] at K; exact K
    · unfold sh_opv at K; rw [if_neg h2, if_neg h3, if_neg h4, if_neg h] at K; exact K
  rcases (by omega : k = 2 ∨ k = 3 ∨ k = 4 ∨ k = 5) with rfl | rfl | rfl | rfl
  · exact br_f (by decide) (br_f (by decide) (br_f (by decide) (br_f (by decide) (br_t rfl k210))))
  · exact br_f (by decide) (br_f (by decide) (br_f (by decide) (br_f (by decide) (br_f (by decide) (br_t rfl k210)))))
  · exact br_f (by decide) (br_f (by decide) (br_f (by decide) (br_f (by decide) (br_f (by decide) (br_f (by decide) (br_t rfl k210))))))
  · exact br_f (by decide) (br_f (by decide) (br_f (by decide) (br_f (by decide) (br_f (by decide) (br_f (by decide) (br_f (by decide) (br_t rfl k210)))))))
end XFN
/-- from an expression's beginning to its value: what X does -/
def xs_XE (xf_concepts xf_drafted xf_place xf_above xf_result : Int32) (xa_tok xa_end xa_num xa_length xa_holes xa_draft xa_draftNum xa_copies xa_tokens xa_replaced xa_deep xa_lies xa_ofKind xa_given : Nat → Int32) (g : sh_G) (s : Nat) (i : Nat) (r : List (Nat × Nat)) (p u : Nat) (ε : Nat → Int32) (y : Nat) (o : Nat → Int32) (rv : Int32) (y' : Nat) (o' : Nat → Int32) : Prop :=
  ∀ (F : Nat) (φ : Nat → Nat) (f : Int32) (fr : xs_FR) (d t l ser : Nat) (sc : xs_SC), F ≤ u → xs_XC g s φ fr F r f → xs_En ε F φ l sc.2.2.2.2.1 sc.2.2.2.2.2.1 xa_given u → d ≤ p → t ≤ p → l ≤ p → (∀ k, k < 20 → k < y → sc.2.2.2.2.2.2 k = o k) →
  ∃ (F' : Nat) (φ' : Nat → Nat) (fr' : xs_FR) (nd f' : Int32) (sc' : xs_SC) (M : Nat), F ≤ F' ∧ F' ≤ u + sh_eR g i r ∧ xs_Fs fr fr' F ∧ (∀ q, q < F → φ' q = φ q) ∧ xs_En ε F' φ' l sc'.2.2.2.2.1 sc'.2.2.2.2.2.1 xa_given (u + sh_eR g i r) ∧ xs_Sa sc sc' d t l ∧ sc'.2.2.2.1 t = rv ∧ (∀ k, k < 20 → k < y' → sc'.2.2.2.2.2.2 k = o' k) ∧
    ∀ (n : Nat) (post : Int32 → SX → Prop) (Q : SX → Prop), wX_run_93 post n xf_concepts xf_drafted xf_place (nI F') nd f' xf_above (nI d) (nI (t + 1)) (nI l) (nI y') xf_result xa_tok xa_end xa_num xa_length xa_holes xa_draft xa_draftNum xa_copies xa_tokens xa_replaced xa_deep xa_lies xa_ofKind fr'.1 fr'.2.1 fr'.2.2.1 fr'.2.2.2.1 fr'.2.2.2.2.1 fr'.2.2.2.2.2.1 fr'.2.2.2.2.2.2.1 fr'.2.2.2.2.2.2.2.1 fr'.2.2.2.2.2.2.2.2.1 fr'.2.2.2.2.2.2.2.2.2 sc'.1 sc'.2.1 sc'.2.2.1 sc'.2.2.2.1 sc'.2.2.2.2.1 sc'.2.2.2.2.2.1 sc'.2.2.2.2.2.2 xa_given → (∀ v, xs_W post (n + M) v → Q v) →
      ∃ m, wX_settle_2 (xs_PB Q) m (nI ser) xf_concepts xf_drafted xf_place (nI F) (nI i) f xf_above (nI d) (nI t) (nI l) (nI y) xf_result xa_tok xa_end xa_num xa_length xa_holes xa_draft xa_draftNum xa_copies xa_tokens xa_replaced xa_deep xa_lies xa_ofKind fr.1 fr.2.1 fr.2.2.1 fr.2.2.2.1 fr.2.2.2.2.1 fr.2.2.2.2.2.1 fr.2.2.2.2.2.2.1 fr.2.2.2.2.2.2.2.1 fr.2.2.2.2.2.2.2.2.1 fr.2.2.2.2.2.2.2.2.2 sc.1 sc.2.1 sc.2.2.1 sc.2.2.2.1 sc.2.2.2.2.1 sc.2.2.2.2.2.1 sc.2.2.2.2.2.2 xa_given
section XEV
variable {xf_concepts xf_drafted xf_place xf_frames xf_node xf_frame xf_above xf_depth xf_top xf_lets xf_says xf_result : Int32} {xa_tok xa_end xa_num xa_length xa_holes xa_draft xa_draftNum xa_copies xa_tokens xa_replaced xa_deep xa_lies xa_ofKind xa_caller xa_number xa_size0 xa_size1 xa_size2 xa_uses0 xa_uses1 xa_uses2 xa_useAt xa_begun xa_workNode xa_stage xa_workFrame xa_values xa_bound xa_boundTo xa_output xa_given : Nat → Int32} {g : sh_G} {cc hi s N U : Nat}
theorem xs_XE_U (P : sh_Pg g cc hi) (hs : s < 4) (hU : U ≤ 2000) (hN : N ≤ 2000) (XP : xs_XP g hi xa_tok xa_end xa_num xa_copies xa_tokens xa_replaced xa_deep xa_lies xa_ofKind) (hh : ∀ c, c < hi → xa_holes c = nI (sh_ho g c))
    {i : Nat} {r : List (Nat × Nat)} {p u a : Nat} (OK : sh_Ok g cc hi s N U i r p u a) (hk : 16 ≤ sh_tk g i) {ε o o' : Nat → Int32} {y y' : Nat} {rv : Int32} (h : xs_XE xf_concepts xf_drafted xf_place xf_above xf_result xa_tok xa_end xa_num xa_length xa_holes xa_draft xa_draftNum xa_copies xa_tokens xa_replaced xa_deep xa_lies xa_ofKind xa_given g s (sh_rt g i) ((i, u) :: r) p (u + 1) ε y o rv y' o') : xs_XE xf_concepts xf_drafted xf_place xf_above xf_result xa_tok xa_end xa_num xa_length xa_holes xa_draft xa_draftNum xa_copies xa_tokens xa_replaced xa_deep xa_lies xa_ofKind xa_given g s i r p u ε y o rv y' o' := by
  intro F φ f fr d t l ser sc hF C E hd ht hl ho
  have w := (sh_gu P hs OK.1 hk u).2.2.1
  have b := OK.2.2.1
  obtain ⟨fr1, C1, Fs1, st⟩ := xs_stU (xf_concepts := xf_concepts) (xf_drafted := xf_drafted) (xf_place := xf_place) (xf_above := xf_above) (xf_result := xf_result) (xa_tok := xa_tok) (xa_end := xa_end) (xa_num := xa_num) (xa_length := xa_length) (xa_holes := xa_holes) (xa_draft := xa_draft) (xa_draftNum := xa_draftNum) (xa_copies := xa_copies) (xa_tokens := xa_tokens) (xa_replaced := xa_replaced) (xa_deep := xa_deep) (xa_lies := xa_lies) (xa_ofKind := xa_ofKind) (xa_given := xa_given) (xf_depth := nI d) (xf_top := nI t) (xf_lets := nI l) (xf_says := nI y) (xa_workNode := sc.1) (xa_stage := sc.2.1) (xa_workFrame := sc.2.2.1) (xa_values := sc.2.2.2.1) (xa_bound := sc.2.2.2.2.1) (xa_boundTo := sc.2.2.2.2.2.1) (xa_output := sc.2.2.2.2.2.2) (ser := ser) P hs hU hN XP hh OK hk hF C
  obtain ⟨F', φ', fr', nd, f', sc', M, a1, a2, a3, a4, a5, a6, a7, a8, a9⟩ := h (F + 1) _ _ fr1 d t l (ser + 1) sc (by omega) C1 (xs_En_u (by omega) E) hd ht hl ho
  have eu : u + 1 + sh_eR g (sh_rt g i) ((i, u) :: r) = u + sh_eR g i r := by omega
  rw [eu] at a2 a5
  refine ⟨F', φ', fr', nd, f', sc', M, by omega, a2, xs_Fs_t (by omega) Fs1 a3, fun q hq => ?_, a5, a6, a7, a8, fun n post Q hw hQ => ?_⟩
  · rw [a4 q (by omega)]; exact if_neg (by omega)
  · obtain ⟨m, hm⟩ := a9 n post Q hw hQ
    exact ⟨m + 1, st _ m hm⟩
theorem xs_XE_H (P : sh_Pg g cc hi) (hs : s < 4) (hU : U ≤ 2000) (XP : xs_XP g hi xa_tok xa_end xa_num xa_copies xa_tokens xa_replaced xa_deep xa_lies xa_ofKind)
    {i i' u' v : Nat} {r' : List (Nat × Nat)} {p u a : Nat} (OK : sh_Ok g cc hi s N U i ((i', u') :: r') p u a) (G5 : sh_Gd g cc hi s i' r') (hk : sh_tk g i = 9) (hn : sh_nm g i = nI v) (hv : v < 3) (hv' : v < sh_an g i') (eR : sh_eR g i ((i', u') :: r') = sh_eR g (sh_op g i' v) r') {ε o o' : Nat → Int32} {y y' : Nat} {rv : Int32}
    (h : xs_XE xf_concepts xf_drafted xf_place xf_above xf_result xa_tok xa_end xa_num xa_length xa_holes xa_draft xa_draftNum xa_copies xa_tokens xa_replaced xa_deep xa_lies xa_ofKind xa_given g s (sh_op g i' v) r' p u ε y o rv y' o') : xs_XE xf_concepts xf_drafted xf_place xf_above xf_result xa_tok xa_end xa_num xa_length xa_holes xa_draft xa_draftNum xa_copies xa_tokens xa_replaced xa_deep xa_lies xa_ofKind xa_given g s i ((i', u') :: r') p u ε y o rv y' o' := by
  intro F φ f fr d t l ser sc hF C E hd ht hl ho
  have b := OK.2.2.1
  obtain ⟨f1, C1, st⟩ := xs_stH (xf_concepts := xf_concepts) (xf_drafted := xf_drafted) (xf_place := xf_place) (xf_above := xf_above) (xf_result := xf_result) (xa_tok := xa_tok) (xa_end := xa_end) (xa_num := xa_num) (xa_length := xa_length) (xa_holes := xa_holes) (xa_draft := xa_draft) (xa_draftNum := xa_draftNum) (xa_copies := xa_copies) (xa_tokens := xa_tokens) (xa_replaced := xa_replaced) (xa_deep := xa_deep) (xa_lies := xa_lies) (xa_ofKind := xa_ofKind) (xa_given := xa_given) (xf_depth := nI d) (xf_top := nI t) (xf_lets := nI l) (xf_says := nI y) (xa_workNode := sc.1) (xa_stage := sc.2.1) (xa_workFrame := sc.2.2.1) (xa_values := sc.2.2.2.1) (xa_bound := sc.2.2.2.2.1) (xa_boundTo := sc.2.2.2.2.2.1) (xa_output := sc.2.2.2.2.2.2) (ser := nI ser) P hs XP OK.1 G5 hk hn hv hv' (by omega) C
  obtain ⟨F', φ', fr', nd, f', sc', M, a1, a2, a3, a4, a5, a6, a7, a8, a9⟩ := h F φ f1 fr d t l ser sc hF C1 E hd ht hl ho
  rw [← eR] at a2 a5
  refine ⟨F', φ', fr', nd, f', sc', M, a1, a2, a3, a4, a5, a6, a7, a8, fun n post Q hw hQ => ?_⟩
  obtain ⟨m, hm⟩ := a9 n post Q hw hQ
  exact ⟨m + 1, st _ m hm⟩
/-- the topmost token, as it stands -/
theorem xs_Tp_of (P : sh_Pg g cc hi) (hs : s < 4) (XP : xs_XP g hi xa_tok xa_end xa_num xa_copies xa_tokens xa_replaced xa_deep xa_lies xa_ofKind) {i : Nat} {r : List (Nat × Nat)} (G : sh_Gd g cc hi s i r) (hk : sh_tk g i < 16) (h9 : sh_tk g i ≠ 9) {wn sg wf : Nat → Int32} {d j : Nat} {f : Int32} (h1 : wn d = sb_b i) (h2 : wf d = f) (h3 : sg d = nI j) (hd : d < 2000) (hj : j ≤ 3) :
    xs_Tp g wn sg wf xa_tok xa_end xa_holes hi d i j f := by
  have ad := xs_addr P hs G
  have x := XP _ (sh_Gd_r P hs G).1 i (sh_Gd_r P hs G).2
  have N' := sh_Gd_n P hs G
  exact ⟨h1, h2, h3, hd, ad.1, hj, x.1, hk, h9, sh_an3 P N'.1.1, fun t ht => ⟨(xs_ops P XP hs G t ht).1, (xs_ops P XP hs G t ht).2.1⟩⟩
/-- a leaf -/
theorem xs_XE_0 (P : sh_Pg g cc hi) (hs : s < 4) (hU : U ≤ 2000) (hN : N ≤ 2000) (XP : xs_XP g hi xa_tok xa_end xa_num xa_copies xa_tokens xa_replaced xa_deep xa_lies xa_ofKind)
    {i : Nat} {r : List (Nat × Nat)} {p u a : Nat} (OK : sh_Ok g cc hi s N U i r p u a) (hk : sh_tk g i = 0 ∨ sh_tk g i = 1 ∨ sh_tk g i = 10) {ε o : Nat → Int32} {y : Nat} {rv : Int32} (hrv : (sh_tk g i = 1 → ∀ my, my < 5000 → sh_vl g i r = nI my → rv = ε my) ∧ (sh_tk g i ≠ 1 → rv = sh_vl g i r)) : xs_XE xf_concepts xf_drafted xf_place xf_above xf_result xa_tok xa_end xa_num xa_length xa_holes xa_draft xa_draftNum xa_copies xa_tokens xa_replaced xa_deep xa_lies xa_ofKind xa_given g s i r p u ε y o rv y o := by
  intro F φ f fr d t l ser sc hF C E hd ht hl ho
  have G := OK.1
  have h16 : sh_tk g i < 16 := by omega
  have h9 : sh_tk g i ≠ 9 := by omega
  have b1 := OK.2.1
  have b2 := OK.2.2.1
  have pos := sh_pos P hs _ _ _ (Nat.lt_succ_self _) G
  have ad := xs_addr P hs G
  have x := XP _ (sh_Gd_r P hs G).1 i (sh_Gd_r P hs G).2
  have N' := sh_Gd_n P hs G
  have a0 : sh_an g i = 0 := by unfold sh_an; rcases hk with z | z | z <;> rw [z] <;> rfl
  have w := sh_gp P hs G h16 h9
  have eR0 : sh_eR g i r = 0 := by rw [w.2.2.1, a0]; rfl
  refine ⟨F, φ, fr, nI i, f, (upd sc.1 d (sb_b i), upd (upd sc.2.1 d (nI 0)) d (nI 1), upd sc.2.2.1 d f, upd sc.2.2.2.1 t rv, sc.2.2.2.2.1, sc.2.2.2.2.2.1, sc.2.2.2.2.2.2), 1, Nat.le_refl _, by omega, xs_Fs_r _ _, fun _ _ => rfl, by rw [eR0]; exact E, ⟨fun k hk => ⟨pk_un (by omega), by show upd (upd sc.2.1 d (nI 0)) d (nI 1) k = _; rw [pk_un (by omega), pk_un (by omega)], pk_un (by omega)⟩, fun k hk => pk_un (by omega), fun k hk => ⟨rfl, rfl⟩⟩, pk_us, ho, fun n post Q hw hQ => ⟨1, ?_⟩⟩
  refine xs_stP (g := g) (d := d) P hs XP G h16 h9 (by omega) rfl rfl (xs_f_Sh (F := F) (by omega) (xs_XC_f C)) (hQ _ ?_)
  refine xs_go0 (g := g) (hi := hi) (d := d) (i := i) (j := 0) (f := f) (xs_Tp_of P hs XP G h16 h9 pk_us pk_us pk_us (by omega) (by omega)) rfl (by omega) ?_
  refine xs_go2 (g := g) h16 (by omega) (by omega) (by omega) (by omega) rfl ?_
  rcases hk with z | z | z
  · rw [z]
    have e : rv = sh_nm g i := by
      rw [hrv.2 (by omega)]
      cases r with
      | nil => rfl
      | cons c r =>
        show (if sh_tk g i = 10 then _ else if _ then _ else _) = _
        rw [if_neg (by omega), if_neg (by omega)]
    exact xs_fin0 ad.1 (by omega) rfl (x.2.2.1.trans e.symm) hw
  · rw [z]
    obtain ⟨mx, my, nm1, nm2, nm3⟩ := xs_variable (f := f) (xf_concepts := xf_concepts) (xf_drafted := xf_drafted) (xf_place := xf_place) (xf_above := xf_above) (xf_result := xf_result) (xa_tok := xa_tok) (xa_end := xa_end) (xa_num := xa_num) (xa_length := xa_length) (xa_holes := xa_holes) (xa_draft := xa_draft) (xa_draftNum := xa_draftNum) (xa_copies := xa_copies) (xa_tokens := xa_tokens) (xa_replaced := xa_replaced) (xa_deep := xa_deep) (xa_lies := xa_lies) (xa_ofKind := xa_ofKind) (xa_given := xa_given) (xf_node := nI i) (xf_frame := f) (xf_frames := nI F) (xf_depth := nI d) (xf_top := nI t) (xf_lets := nI l) (xf_says := nI y) (xa_caller := fr.1) (xa_number := fr.2.1) (xa_size0 := fr.2.2.1) (xa_size1 := fr.2.2.2.1) (xa_size2 := fr.2.2.2.2.1) (xa_uses0 := fr.2.2.2.2.2.1) (xa_uses1 := fr.2.2.2.2.2.2.1) (xa_uses2 := fr.2.2.2.2.2.2.2.1) (xa_useAt := fr.2.2.2.2.2.2.2.2.1) (xa_begun := fr.2.2.2.2.2.2.2.2.2) (xa_workNode := upd sc.1 d (sb_b i)) (xa_stage := upd (upd sc.2.1 d (nI 0)) d (nI 1)) (xa_workFrame := upd sc.2.2.1 d f) (xa_values := sc.2.2.2.1) (xa_bound := sc.2.2.2.2.1) (xa_boundTo := sc.2.2.2.2.2.1) (xa_output := sc.2.2.2.2.2.2) P hs XP G (Or.inl z) (show F ≤ 2000 by omega) (fun q hq => by have := E.2.2.2.2.1 q hq; omega) C
    have lt := xs_Nm_lt E nm1
    refine xs_fin1 (mx := mx) (l := l) (by omega) (by omega) (by omega) rfl rfl nm3 ?_
    have e : xs_lk sc.2.2.2.2.1 sc.2.2.2.2.2.1 xa_given l (nI mx) = rv := by rw [xs_En_lk E nm1, hrv.1 z my (by omega) nm2]
    rw [e]
    exact hw
  · rw [z]
    have hr6 := N'.1.2.2.2.2.1 z
    cases r with
    | nil => exfalso; have e0 : sh_rw g s [] = 6 + s := rfl; rw [e0] at hr6; omega
    | cons c r =>
      obtain ⟨i', u'⟩ := c
      obtain ⟨q, q1, q2, q3, q4, q5⟩ := C
      have G5 := G.2.2.2.2
      have ad5 := xs_addr P hs G5
      have x5 := XP _ (sh_Gd_r P hs G5).1 i' (sh_Gd_r P hs G5).2
      have e : rv = sh_nm g i' := by
        rw [hrv.2 (by omega)]
        exact if_pos z
      exact xs_fin10 (i' := i') (q := q) (by omega) rfl q1 (by omega) q4 ad5.1 (x5.2.2.1.trans e.symm) hw
end XEV
end
section
/-! X: what a run makes of an expression: with operands -/
section EN2
variable {ε bd bt gv : Nat → Int32} {F l u u' : Nat} {φ : Nat → Nat}
theorem xs_En_m (hu : u ≤ u') (h : xs_En ε F φ l bd bt gv u) : xs_En ε F φ l bd bt gv u' :=
  ⟨h.1, h.2.1, h.2.2.1, fun m hm => h.2.2.2.1 m (by omega), fun q hq => Nat.lt_of_lt_of_le (h.2.2.2.2.1 q hq) hu, h.2.2.2.2.2⟩
/-- behind a LET -/
theorem xs_En_x {mx my : Nat} {val : Int32} (hF : F ≤ 2000) (h : xs_En (upd ε my val) F φ (l + 1) bd bt gv u) (hb : bd l = nI mx) (hn : xs_Nm F φ mx my) (hv : xs_lk bd bt gv l (nI mx) = ε my) : xs_En ε F φ l bd bt gv u := by
  have lt := xs_Nm_lt h hn
  have step : ∀ x, xs_lk bd bt gv (l + 1) x = if nI mx = x then bt l else xs_lk bd bt gv l x := by
    intro x
    show (if bd l = x then bt l else xs_lk bd bt gv l x) = _
    rw [hb]
  obtain ⟨h1, h2, h3, h4, h5, h6⟩ := h
  refine ⟨fun v hv' => ?_, fun q b hq hb' => ?_, fun j hj => h3 j (by omega), fun m hm => ?_, h5, h6⟩
  · by_cases e : v = my
    · have em : mx = v := by
        rcases hn with ⟨a, b⟩ | ⟨q, b, a1, a2, a3, a4⟩ <;> omega
      rw [← em, hv, ← e, em]
    · have em : mx ≠ v := by
        rcases hn with ⟨a, b⟩ | ⟨q, b, a1, a2, a3, a4⟩ <;> omega
      have q := h1 v hv'
      rw [step, if_neg (fun z => em ((nI_eq (by omega) (by omega)).mp z)), pk_un e] at q
      exact q
  · by_cases e : 100 + 2 * φ q + b = my
    · have em : mx = 100 + 2 * q + b := by
        rcases hn with ⟨a, b'⟩ | ⟨q', b', a1, a2, a3, a4⟩
        · omega
        · have : q = q' := h6 q q' hq a1 (by omega)
          subst this
          omega
      rw [← em, hv, ← e]
    · have em : mx ≠ 100 + 2 * q + b := by
        intro z
        rcases hn with ⟨a, b'⟩ | ⟨q', b', a1, a2, a3, a4⟩
        · omega
        · have : q = q' := by omega
          subst this
          omega
      have w := h2 q b hq hb'
      rw [step, if_neg (fun z => em ((nI_eq (by omega) (by omega)).mp z)), pk_un e] at w
      exact w
  · have q := h4 m hm
    rw [pk_un (by omega)] at q
    exact q
theorem xs_Nm_up {F' mx my : Nat} {φ' : Nat → Nat} (hF : F ≤ F') (hφ : ∀ q, q < F → φ' q = φ q) (h : xs_Nm F φ mx my) : xs_Nm F' φ' mx my := by
  rcases h with h | ⟨q, b, a1, a2, a3, a4⟩
  · exact Or.inl h
  · exact Or.inr ⟨q, b, by omega, a2, a3, by rw [hφ q a1]; exact a4⟩
end EN2
section XE2
variable {xf_concepts xf_drafted xf_place xf_frames xf_node xf_frame xf_above xf_depth xf_top xf_lets xf_says xf_result : Int32} {xa_tok xa_end xa_num xa_length xa_holes xa_draft xa_draftNum xa_copies xa_tokens xa_replaced xa_deep xa_lies xa_ofKind xa_caller xa_number xa_size0 xa_size1 xa_size2 xa_uses0 xa_uses1 xa_uses2 xa_useAt xa_begun xa_workNode xa_stage xa_workFrame xa_values xa_bound xa_boundTo xa_output xa_given : Nat → Int32} {g : sh_G} {cc hi s N U : Nat}
/-- an operand of the topmost token -/
theorem xs_sub (P : sh_Pg g cc hi) (hs : s < 4) (XP : xs_XP g hi xa_tok xa_end xa_num xa_copies xa_tokens xa_replaced xa_deep xa_lies xa_ofKind)
    {i : Nat} {r : List (Nat × Nat)} (G : sh_Gd g cc hi s i r) (hk : sh_tk g i < 16) (h9 : sh_tk g i ≠ 9) {j pc uc : Nat} (hj : j < sh_an g i) (hs7 : ¬ (sh_tk g i = 7 ∧ j = 1)) (hs6 : ¬ (sh_tk g i = 6 ∧ j = 1)) {ε o o' : Nat → Int32} {y y' : Nat} {rv : Int32}
    (XE : xs_XE xf_concepts xf_drafted xf_place xf_above xf_result xa_tok xa_end xa_num xa_length xa_holes xa_draft xa_draftNum xa_copies xa_tokens xa_replaced xa_deep xa_lies xa_ofKind xa_given g s (sh_op g i j) r pc uc ε y o rv y' o') {F : Nat} {φ : Nat → Nat} {f : Int32} {fr : xs_FR} {d t l : Nat} {sc : xs_SC} (hF : F ≤ uc) (C : xs_XC g s φ fr F r f) (E : xs_En ε F φ l sc.2.2.2.2.1 sc.2.2.2.2.2.1 xa_given uc) (hd : d + 1 ≤ pc) (hd2 : d < 2000) (ht : t ≤ pc) (hl : l ≤ pc) (ho : ∀ k, k < 20 → k < y → sc.2.2.2.2.2.2 k = o k)
    (t1 : sc.1 d = sb_b i) (t2 : sc.2.2.1 d = f) (t3 : sc.2.1 d = nI j) :
    ∃ (F' : Nat) (φ' : Nat → Nat) (fr' : xs_FR) (nd f' : Int32) (sc' : xs_SC) (M : Nat), F ≤ F' ∧ F' ≤ uc + sh_eR g (sh_op g i j) r ∧ xs_Fs fr fr' F ∧ (∀ q, q < F → φ' q = φ q) ∧ xs_En ε F' φ' l sc'.2.2.2.2.1 sc'.2.2.2.2.2.1 xa_given (uc + sh_eR g (sh_op g i j) r) ∧ xs_Sa sc sc' d t l ∧ sc'.2.2.2.1 t = rv ∧ (∀ k, k < 20 → k < y' → sc'.2.2.2.2.2.2 k = o' k) ∧
      (sc'.1 d = sb_b i ∧ sc'.2.2.1 d = f ∧ sc'.2.1 d = nI (j + 1)) ∧
      ∀ (n : Nat) (post : Int32 → SX → Prop) (n0 f0 : Int32), wX_run_93 post n xf_concepts xf_drafted xf_place (nI F') nd f' xf_above (nI (d + 1)) (nI (t + 1)) (nI l) (nI y') xf_result xa_tok xa_end xa_num xa_length xa_holes xa_draft xa_draftNum xa_copies xa_tokens xa_replaced xa_deep xa_lies xa_ofKind fr'.1 fr'.2.1 fr'.2.2.1 fr'.2.2.2.1 fr'.2.2.2.2.1 fr'.2.2.2.2.2.1 fr'.2.2.2.2.2.2.1 fr'.2.2.2.2.2.2.2.1 fr'.2.2.2.2.2.2.2.2.1 fr'.2.2.2.2.2.2.2.2.2 sc'.1 sc'.2.1 sc'.2.2.1 sc'.2.2.2.1 sc'.2.2.2.2.1 sc'.2.2.2.2.2.1 sc'.2.2.2.2.2.2 xa_given →
        wX_run_93 post (n + M + 1) xf_concepts xf_drafted xf_place (nI F) n0 f0 xf_above (nI (d + 1)) (nI t) (nI l) (nI y) xf_result xa_tok xa_end xa_num xa_length xa_holes xa_draft xa_draftNum xa_copies xa_tokens xa_replaced xa_deep xa_lies xa_ofKind fr.1 fr.2.1 fr.2.2.1 fr.2.2.2.1 fr.2.2.2.2.1 fr.2.2.2.2.2.1 fr.2.2.2.2.2.2.1 fr.2.2.2.2.2.2.2.1 fr.2.2.2.2.2.2.2.2.1 fr.2.2.2.2.2.2.2.2.2 sc.1 sc.2.1 sc.2.2.1 sc.2.2.2.1 sc.2.2.2.2.1 sc.2.2.2.2.2.1 sc.2.2.2.2.2.2 xa_given := by
  have an3 := sh_an3 P (sh_Gd_n P hs G).1.1
  have ops := xs_ops P XP hs G
  obtain ⟨F', φ', fr', nd, f', sc', M, a1, a2, a3, a4, a5, a6, a7, a8, a9⟩ := XE F φ f fr (d + 1) t l 0 (sc.1, upd sc.2.1 d (nI (j + 1)), sc.2.2.1, sc.2.2.2.1, sc.2.2.2.2.1, sc.2.2.2.2.2.1, sc.2.2.2.2.2.2) hF C E hd ht hl ho
  have q := a6.1 d (by omega)
  refine ⟨F', φ', fr', nd, f', sc', M, a1, a2, a3, a4, a5, ⟨fun k hk => ?_, a6.2.1, a6.2.2⟩, a7, a8, ⟨q.1.trans t1, q.2.2.trans t2, q.2.1.trans pk_us⟩, fun n post n0 f0 hw => ?_⟩
  · have w := a6.1 k (by omega)
    exact ⟨w.1, w.2.1.trans (pk_un (by omega)), w.2.2⟩
  · exact xs_go0 (g := g) (hi := hi) (d := d) (i := i) (j := j) (f := f) (xs_Tp_of P hs XP G hk h9 t1 t2 t3 hd2 (by omega)) rfl hs7 (xs_go1 (g := g) hk an3 (fun t ht => ⟨(ops t ht).1, (ops t ht).2.1⟩) hj hs6 (a9 n post _ hw (fun _ z => z)))
/-- SAY -/
theorem xs_XE_8 (P : sh_Pg g cc hi) (hs : s < 4) (hU : U ≤ 2000) (hN : N ≤ 2000) (XP : xs_XP g hi xa_tok xa_end xa_num xa_copies xa_tokens xa_replaced xa_deep xa_lies xa_ofKind)
    {i : Nat} {r : List (Nat × Nat)} {p u a : Nat} (OK : sh_Ok g cc hi s N U i r p u a) (hk : sh_tk g i = 8) {ε o o0 : Nat → Int32} {y y0 : Nat} {r0 : Int32} (hy0 : y0 < 2 ^ 30) (X0 : xs_XE xf_concepts xf_drafted xf_place xf_above xf_result xa_tok xa_end xa_num xa_length xa_holes xa_draft xa_draftNum xa_copies xa_tokens xa_replaced xa_deep xa_lies xa_ofKind xa_given g s (sh_op g i 0) r (p + 1) u ε y o r0 y0 o0) : xs_XE xf_concepts xf_drafted xf_place xf_above xf_result xa_tok xa_end xa_num xa_length xa_holes xa_draft xa_draftNum xa_copies xa_tokens xa_replaced xa_deep xa_lies xa_ofKind xa_given g s i r p u ε y o r0 (y0 + 1) (sh_out y0 o0 r0) := by
  intro F φ f fr d t l ser sc hF C E hd ht hl ho
  have G := OK.1
  have h16 : sh_tk g i < 16 := by omega
  have h9 : sh_tk g i ≠ 9 := by omega
  have b1 := OK.2.1
  have b2 := OK.2.2.1
  have w := sh_gp P hs G h16 h9
  have an1 : sh_an g i = 1 := by unfold sh_an; exact sh_ar_8 hk
  have wT := w.2.1
  have wR := w.2.2.1
  rw [an1, sh_sm_f1] at wT wR
  have pos := sh_pos P hs _ _ _ (Nat.lt_succ_self _) (w.1 0 (by omega))
  obtain ⟨F1, φ1, fr1, n1, f1, sc1, M1, a1, a2, a3, a4, a5, a6, a7, a8, a9, a10⟩ := xs_sub (xf_concepts := xf_concepts) (xf_drafted := xf_drafted) (xf_place := xf_place) (xf_above := xf_above) (xf_result := xf_result) (xa_tok := xa_tok) (xa_end := xa_end) (xa_num := xa_num) (xa_length := xa_length) (xa_holes := xa_holes) (xa_draft := xa_draft) (xa_draftNum := xa_draftNum) (xa_copies := xa_copies) (xa_tokens := xa_tokens) (xa_replaced := xa_replaced) (xa_deep := xa_deep) (xa_lies := xa_lies) (xa_ofKind := xa_ofKind) (xa_given := xa_given) P hs XP G h16 h9 (show 0 < sh_an g i by omega) (by omega) (by omega) X0 (F := F) (φ := φ) (f := f) (fr := fr) (d := d) (t := t) (l := l) (sc := (upd sc.1 d (sb_b i), upd sc.2.1 d (nI 0), upd sc.2.2.1 d f, sc.2.2.2.1, sc.2.2.2.2.1, sc.2.2.2.2.2.1, sc.2.2.2.2.2.2)) hF C E (by omega) (by omega) (by omega) (by omega) ho pk_us pk_us pk_us
  have Sa0 : xs_Sa sc (upd sc.1 d (sb_b i), upd sc.2.1 d (nI 0), upd sc.2.2.1 d f, sc.2.2.2.1, sc.2.2.2.2.1, sc.2.2.2.2.2.1, sc.2.2.2.2.2.2) d t l := ⟨fun k hk => ⟨pk_un (by omega), pk_un (by omega), pk_un (by omega)⟩, fun k hk => rfl, fun k hk => ⟨rfl, rfl⟩⟩
  refine ⟨F1, φ1, fr1, n1, f1, (sc1.1, upd sc1.2.1 d (nI 2), sc1.2.2.1, sc1.2.2.2.1, sc1.2.2.2.2.1, sc1.2.2.2.2.2.1, sh_out y0 sc1.2.2.2.2.2.2 r0), M1 + 2, a1, by omega, a3, a4, by rw [wR]; exact a5, ?_, a7, fun k k1 k2 => ?_, fun n post Q hw hQ => ⟨1, ?_⟩⟩
  · refine xs_Sa_t (Nat.le_refl _) (Nat.le_refl _) (Nat.le_refl _) (xs_Sa_t (Nat.le_refl _) (Nat.le_refl _) (Nat.le_refl _) Sa0 a6) ⟨fun k hk => ⟨rfl, pk_un (by omega), rfl⟩, fun k hk => rfl, fun k hk => ⟨rfl, rfl⟩⟩
  · show sh_out y0 sc1.2.2.2.2.2.2 r0 k = sh_out y0 o0 r0 k
    unfold sh_out
    by_cases e : y0 < 20
    · rw [if_pos e, if_pos e]
      by_cases ek : k = y0
      · rw [ek, pk_us, pk_us]
      · rw [pk_un ek, pk_un ek]; exact a8 k k1 (by omega)
    · rw [if_neg e, if_neg e]; exact a8 k k1 (by omega)
  · refine xs_stP (g := g) (d := d) P hs XP G h16 h9 (by omega) rfl rfl (xs_f_Sh (F := F) (by omega) (xs_XC_f C)) (hQ _ ?_)
    rw [show n + (M1 + 2) = n + 1 + M1 + 1 by omega]
    refine a10 (n + 1) post _ _ ?_
    refine xs_go0 (g := g) (hi := hi) (d := d) (i := i) (j := 1) (f := f) (xs_Tp_of P hs XP G h16 h9 a9.1 a9.2.1 a9.2.2 (by omega) (by omega)) rfl (by omega) ?_
    refine xs_go2 (g := g) h16 (by omega) (by omega) (by omega) (by omega) rfl ?_
    rw [hk]
    refine xs_fin8 (t := t) (y := y0) (by omega) rfl rfl hy0 ?_
    rw [a7]
    exact hw
/-- two operands and a sum, a difference, a product, a comparison -/
theorem xs_XE_2 (P : sh_Pg g cc hi) (hs : s < 4) (hU : U ≤ 2000) (hN : N ≤ 2000) (XP : xs_XP g hi xa_tok xa_end xa_num xa_copies xa_tokens xa_replaced xa_deep xa_lies xa_ofKind)
    {i : Nat} {r : List (Nat × Nat)} {p u a : Nat} (OK : sh_Ok g cc hi s N U i r p u a) (hk2 : 2 ≤ sh_tk g i) (hk5 : sh_tk g i ≤ 5) {ε o o0 o1 : Nat → Int32} {y y0 y1 : Nat} {r0 r1 : Int32}
    (X0 : xs_XE xf_concepts xf_drafted xf_place xf_above xf_result xa_tok xa_end xa_num xa_length xa_holes xa_draft xa_draftNum xa_copies xa_tokens xa_replaced xa_deep xa_lies xa_ofKind xa_given g s (sh_op g i 0) r (p + 1) u ε y o r0 y0 o0) (X1 : xs_XE xf_concepts xf_drafted xf_place xf_above xf_result xa_tok xa_end xa_num xa_length xa_holes xa_draft xa_draftNum xa_copies xa_tokens xa_replaced xa_deep xa_lies xa_ofKind xa_given g s (sh_op g i 1) r (p + 1 + sh_eT g (sh_op g i 0) r) (u + sh_eR g (sh_op g i 0) r) ε y0 o0 r1 y1 o1) :
    xs_XE xf_concepts xf_drafted xf_place xf_above xf_result xa_tok xa_end xa_num xa_length xa_holes xa_draft xa_draftNum xa_copies xa_tokens xa_replaced xa_deep xa_lies xa_ofKind xa_given g s i r p u ε y o (sh_opv (sh_tk g i) r0 r1) y1 o1 := by
  intro F φ f fr d t l ser sc hF C E hd ht hl ho
  have G := OK.1
  have h16 : sh_tk g i < 16 := by omega
  have h9 : sh_tk g i ≠ 9 := by omega
  have b1 := OK.2.1
  have b2 := OK.2.2.1
  have w := sh_gp P hs G h16 h9
  have an2 : sh_an g i = 2 := by unfold sh_an; exact sh_ar_2 (by omega) (by omega) (by omega) (by omega)
  have wT := w.2.1
  have wR := w.2.2.1
  rw [an2, sh_sm_f2] at wT wR
  have pos := sh_pos P hs _ _ _ (Nat.lt_succ_self _) (w.1 0 (by omega))
  have pos1 := sh_pos P hs _ _ _ (Nat.lt_succ_self _) (w.1 1 (by omega))
  obtain ⟨F1, φ1, fr1, n1, f1, sc1, M1, a1, a2, a3, a4, a5, a6, a7, a8, a9, a10⟩ := xs_sub (xf_concepts := xf_concepts) (xf_drafted := xf_drafted) (xf_place := xf_place) (xf_above := xf_above) (xf_result := xf_result) (xa_tok := xa_tok) (xa_end := xa_end) (xa_num := xa_num) (xa_length := xa_length) (xa_holes := xa_holes) (xa_draft := xa_draft) (xa_draftNum := xa_draftNum) (xa_copies := xa_copies) (xa_tokens := xa_tokens) (xa_replaced := xa_replaced) (xa_deep := xa_deep) (xa_lies := xa_lies) (xa_ofKind := xa_ofKind) (xa_given := xa_given) P hs XP G h16 h9 (show 0 < sh_an g i by omega) (by omega) (by omega) X0 (F := F) (φ := φ) (f := f) (fr := fr) (d := d) (t := t) (l := l) (sc := (upd sc.1 d (sb_b i), upd sc.2.1 d (nI 0), upd sc.2.2.1 d f, sc.2.2.2.1, sc.2.2.2.2.1, sc.2.2.2.2.2.1, sc.2.2.2.2.2.2)) hF C E (by omega) (by omega) (by omega) (by omega) ho pk_us pk_us pk_us
  have Sa0 : xs_Sa sc (upd sc.1 d (sb_b i), upd sc.2.1 d (nI 0), upd sc.2.2.1 d f, sc.2.2.2.1, sc.2.2.2.2.1, sc.2.2.2.2.2.1, sc.2.2.2.2.2.2) d t l := ⟨fun k hk => ⟨pk_un (by omega), pk_un (by omega), pk_un (by omega)⟩, fun k hk => rfl, fun k hk => ⟨rfl, rfl⟩⟩
  obtain ⟨F2, φ2, fr2, n2, f2, sc2, M2, c1, c2, c3, c4, c5, c6, c7, c8, c9, c10⟩ := xs_sub (xf_concepts := xf_concepts) (xf_drafted := xf_drafted) (xf_place := xf_place) (xf_above := xf_above) (xf_result := xf_result) (xa_tok := xa_tok) (xa_end := xa_end) (xa_num := xa_num) (xa_length := xa_length) (xa_holes := xa_holes) (xa_draft := xa_draft) (xa_draftNum := xa_draftNum) (xa_copies := xa_copies) (xa_tokens := xa_tokens) (xa_replaced := xa_replaced) (xa_deep := xa_deep) (xa_lies := xa_lies) (xa_ofKind := xa_ofKind) (xa_given := xa_given) P hs XP G h16 h9 (show 1 < sh_an g i by omega) (by omega) (by omega) X1 (F := F1) (φ := φ1) (f := f) (fr := fr1) (d := d) (t := t + 1) (l := l) (sc := sc1) a2 (xs_XC_up a1 a3 a4 _ _ C) a5 (by omega) (by omega) (by omega) (by omega) a8 a9.1 a9.2.1 a9.2.2
  refine ⟨F2, φ2, fr2, n2, f2, (sc2.1, upd sc2.2.1 d (nI 3), sc2.2.2.1, upd sc2.2.2.2.1 t (sh_opv (sh_tk g i) r0 r1), sc2.2.2.2.2.1, sc2.2.2.2.2.2.1, sc2.2.2.2.2.2.2), M1 + M2 + 3, by omega, by omega, xs_Fs_t a1 a3 c3, fun q hq => (c4 q (by omega)).trans (a4 q hq), by rw [wR, ← Nat.add_assoc]; exact c5, ?_, pk_us, c8, fun n post Q hw hQ => ⟨1, ?_⟩⟩
  · refine xs_Sa_t (Nat.le_refl _) (Nat.le_refl _) (Nat.le_refl _) (xs_Sa_t (Nat.le_refl _) (by omega) (Nat.le_refl _) (xs_Sa_t (Nat.le_refl _) (Nat.le_refl _) (Nat.le_refl _) Sa0 a6) c6) ⟨fun k hk => ⟨rfl, pk_un (by omega), rfl⟩, fun k hk => pk_un (by omega), fun k hk => ⟨rfl, rfl⟩⟩
  · refine xs_stP (g := g) (d := d) P hs XP G h16 h9 (by omega) rfl rfl (xs_f_Sh (F := F) (by omega) (xs_XC_f C)) (hQ _ ?_)
    rw [show n + (M1 + M2 + 3) = n + 1 + M2 + 1 + M1 + 1 by omega]
    refine a10 _ post _ _ (c10 _ post _ _ ?_)
    refine xs_go0 (g := g) (hi := hi) (d := d) (i := i) (j := 2) (f := f) (xs_Tp_of P hs XP G h16 h9 c9.1 c9.2.1 c9.2.2 (by omega) (by omega)) rfl (by omega) ?_
    refine xs_go2 (g := g) h16 (by omega) (by omega) (by omega) (by omega) rfl ?_
    refine xs_fin2 (t := t) (by omega) rfl hk2 hk5 ?_
    rw [c7, c6.2.1 t (by omega), a7]
    exact hw
end XE2
end
section
/-! X: LET, IF -/
section XE3
variable {xf_concepts xf_drafted xf_place xf_frames xf_node xf_frame xf_above xf_depth xf_top xf_lets xf_says xf_result : Int32} {xa_tok xa_end xa_num xa_length xa_holes xa_draft xa_draftNum xa_copies xa_tokens xa_replaced xa_deep xa_lies xa_ofKind xa_caller xa_number xa_size0 xa_size1 xa_size2 xa_uses0 xa_uses1 xa_uses2 xa_useAt xa_begun xa_workNode xa_stage xa_workFrame xa_values xa_bound xa_boundTo xa_output xa_given : Nat → Int32} {g : sh_G} {cc hi s N U : Nat}
theorem xs_XE_7 (P : sh_Pg g cc hi) (hs : s < 4) (hU : U ≤ 2000) (hN : N ≤ 2000) (XP : xs_XP g hi xa_tok xa_end xa_num xa_copies xa_tokens xa_replaced xa_deep xa_lies xa_ofKind)
    {i : Nat} {r : List (Nat × Nat)} {p u a : Nat} (OK : sh_Ok g cc hi s N U i r p u a) (hk : sh_tk g i = 7) {ε o o0 o1 : Nat → Int32} {y y0 y1 : Nat} {r0 r1 : Int32} {my : Nat} (hmy : sh_vl g i r = nI my) (hmy2 : my < 5000)
    (X0 : xs_XE xf_concepts xf_drafted xf_place xf_above xf_result xa_tok xa_end xa_num xa_length xa_holes xa_draft xa_draftNum xa_copies xa_tokens xa_replaced xa_deep xa_lies xa_ofKind xa_given g s (sh_op g i 0) r (p + 1) u ε y o r0 y0 o0) (X1 : xs_XE xf_concepts xf_drafted xf_place xf_above xf_result xa_tok xa_end xa_num xa_length xa_holes xa_draft xa_draftNum xa_copies xa_tokens xa_replaced xa_deep xa_lies xa_ofKind xa_given g s (sh_op g i 1) r (p + 1 + sh_eT g (sh_op g i 0) r) (u + sh_eR g (sh_op g i 0) r) (upd ε my r0) y0 o0 r1 y1 o1) :
    xs_XE xf_concepts xf_drafted xf_place xf_above xf_result xa_tok xa_end xa_num xa_length xa_holes xa_draft xa_draftNum xa_copies xa_tokens xa_replaced xa_deep xa_lies xa_ofKind xa_given g s i r p u ε y o r1 y1 o1 := by
  intro F φ f fr d t l ser sc hF C E hd ht hl ho
  have G := OK.1
  have h16 : sh_tk g i < 16 := by omega
  have h9 : sh_tk g i ≠ 9 := by omega
  have b1 := OK.2.1
  have b2 := OK.2.2.1
  have w := sh_gp P hs G h16 h9
  have an2 : sh_an g i = 2 := by unfold sh_an; exact sh_ar_2 (by omega) (by omega) (by omega) (by omega)
  have wT := w.2.1
  have wR := w.2.2.1
  rw [an2, sh_sm_f2] at wT wR
  have pos := sh_pos P hs _ _ _ (Nat.lt_succ_self _) (w.1 0 (by omega))
  have pos1 := sh_pos P hs _ _ _ (Nat.lt_succ_self _) (w.1 1 (by omega))
  have ops := xs_ops P XP hs G
  obtain ⟨F1, φ1, fr1, n1, f1, sc1, M1, a1, a2, a3, a4, a5, a6, a7, a8, a9, a10⟩ := xs_sub (xf_concepts := xf_concepts) (xf_drafted := xf_drafted) (xf_place := xf_place) (xf_above := xf_above) (xf_result := xf_result) (xa_tok := xa_tok) (xa_end := xa_end) (xa_num := xa_num) (xa_length := xa_length) (xa_holes := xa_holes) (xa_draft := xa_draft) (xa_draftNum := xa_draftNum) (xa_copies := xa_copies) (xa_tokens := xa_tokens) (xa_replaced := xa_replaced) (xa_deep := xa_deep) (xa_lies := xa_lies) (xa_ofKind := xa_ofKind) (xa_given := xa_given) P hs XP G h16 h9 (show 0 < sh_an g i by omega) (by omega) (by omega) X0 (F := F) (φ := φ) (f := f) (fr := fr) (d := d) (t := t) (l := l) (sc := (upd sc.1 d (sb_b i), upd sc.2.1 d (nI 0), upd sc.2.2.1 d f, sc.2.2.2.1, sc.2.2.2.2.1, sc.2.2.2.2.2.1, sc.2.2.2.2.2.2)) hF C E (by omega) (by omega) (by omega) (by omega) ho pk_us pk_us pk_us
  have Sa0 : xs_Sa sc (upd sc.1 d (sb_b i), upd sc.2.1 d (nI 0), upd sc.2.2.1 d f, sc.2.2.2.1, sc.2.2.2.2.1, sc.2.2.2.2.2.1, sc.2.2.2.2.2.2) d t l := ⟨fun k hk => ⟨pk_un (by omega), pk_un (by omega), pk_un (by omega)⟩, fun k hk => rfl, fun k hk => ⟨rfl, rfl⟩⟩
  have C1 := xs_XC_up a1 a3 a4 _ _ C
  obtain ⟨mx, my', nm1, nm2, nm3⟩ := xs_variable (f := f) (xf_concepts := xf_concepts) (xf_drafted := xf_drafted) (xf_place := xf_place) (xf_above := xf_above) (xf_result := xf_result) (xa_tok := xa_tok) (xa_end := xa_end) (xa_num := xa_num) (xa_length := xa_length) (xa_holes := xa_holes) (xa_draft := xa_draft) (xa_draftNum := xa_draftNum) (xa_copies := xa_copies) (xa_tokens := xa_tokens) (xa_replaced := xa_replaced) (xa_deep := xa_deep) (xa_lies := xa_lies) (xa_ofKind := xa_ofKind) (xa_given := xa_given) (xf_node := n1) (xf_frame := f1) (xf_frames := nI F1) (xf_depth := nI (d + 1)) (xf_top := nI (t + 1)) (xf_lets := nI l) (xf_says := nI y0) (xa_caller := fr1.1) (xa_number := fr1.2.1) (xa_size0 := fr1.2.2.1) (xa_size1 := fr1.2.2.2.1) (xa_size2 := fr1.2.2.2.2.1) (xa_uses0 := fr1.2.2.2.2.2.1) (xa_uses1 := fr1.2.2.2.2.2.2.1) (xa_uses2 := fr1.2.2.2.2.2.2.2.1) (xa_useAt := fr1.2.2.2.2.2.2.2.2.1) (xa_begun := fr1.2.2.2.2.2.2.2.2.2) (xa_workNode := sc1.1) (xa_stage := upd sc1.2.1 d (nI 2)) (xa_workFrame := sc1.2.2.1) (xa_values := sc1.2.2.2.1) (xa_bound := sc1.2.2.2.2.1) (xa_boundTo := sc1.2.2.2.2.2.1) (xa_output := sc1.2.2.2.2.2.2) P hs XP G (Or.inr hk) (show F1 ≤ 2000 by omega) (fun q hq => by have := a5.2.2.2.2.1 q hq; omega) C1
  have lt1 := xs_Nm_lt a5 nm1
  have emy : my' = my := (nI_eq (by omega) (by omega)).mp (nm2.symm.trans hmy)
  subst emy
  have E1 := xs_En_l (val := r0) (show F1 ≤ 2000 by omega) a5 nm1
  obtain ⟨F2, φ2, fr2, n2, f2, sc2, M2, c1, c2, c3, c4, c5, c6, c7, c8, c9⟩ := X1 F1 φ1 f fr1 (d + 1) t (l + 1) 0 (sc1.1, upd sc1.2.1 d (nI 2), sc1.2.2.1, sc1.2.2.2.1, upd sc1.2.2.2.2.1 l (nI mx), upd sc1.2.2.2.2.2.1 l r0, sc1.2.2.2.2.2.2) a2 C1 E1 (by omega) (by omega) (by omega) a8
  have q := c6.1 d (by omega)
  have q1 : sc2.1 d = sb_b i := q.1.trans a9.1
  have q2 : sc2.2.2.1 d = f := q.2.2.trans a9.2.1
  have q3 : sc2.2.1 d = nI 2 := q.2.1.trans pk_us
  have ql := c6.2.2 l (by omega)
  have nm1' := xs_Nm_up c1 c4 nm1
  have same : ∀ j, j < l → sc2.2.2.2.2.1 j = sc1.2.2.2.2.1 j ∧ sc2.2.2.2.2.2.1 j = sc1.2.2.2.2.2.1 j := by
    intro j hj
    have z := c6.2.2 j (by omega)
    exact ⟨z.1.trans (pk_un (by omega)), z.2.trans (pk_un (by omega))⟩
  have E2 : xs_En ε F2 φ2 l sc2.2.2.2.2.1 sc2.2.2.2.2.2.1 xa_given (u + sh_eR g (sh_op g i 0) r + sh_eR g (sh_op g i 1) r) := by
    refine xs_En_x (mx := mx) (show F2 ≤ 2000 by omega) c5 (ql.1.trans pk_us) nm1' ?_
    rw [xs_lk_c l same]
    exact xs_En_lk a5 nm1
  refine ⟨F2, φ2, fr2, n2, f2, (sc2.1, upd sc2.2.1 d (nI 3), sc2.2.2.1, sc2.2.2.2.1, sc2.2.2.2.2.1, sc2.2.2.2.2.2.1, sc2.2.2.2.2.2.2), M1 + M2 + 3, by omega, by omega, xs_Fs_t a1 a3 c3, fun q hq => (c4 q (by omega)).trans (a4 q hq), by rw [wR, ← Nat.add_assoc]; exact E2, ?_, c7, c8, fun n post Q hw hQ => ⟨1, ?_⟩⟩
  · refine xs_Sa_t (Nat.le_refl _) (Nat.le_refl _) (Nat.le_refl _) (xs_Sa_t (Nat.le_refl _) (Nat.le_refl _) (Nat.le_refl _) Sa0 a6) ⟨fun k hk => ?_, fun k hk => c6.2.1 k (by omega), same⟩
    have z := c6.1 k (by omega)
    exact ⟨z.1, (pk_un (by omega)).trans (z.2.1.trans (pk_un (by omega))), z.2.2⟩
  · refine xs_stP (g := g) (d := d) P hs XP G h16 h9 (by omega) rfl rfl (xs_f_Sh (F := F) (by omega) (xs_XC_f C)) (hQ _ ?_)
    rw [show n + (M1 + M2 + 3) = n + 1 + M2 + 1 + M1 + 1 by omega]
    refine a10 _ post _ _ ?_
    refine xs_goL (g := g) (hi := hi) (d := d) (i := i) (t := t) (l := l) (mx := mx) (f := f) (xs_Tp_of P hs XP G h16 h9 a9.1 a9.2.1 a9.2.2 (by omega) (by omega)) rfl rfl rfl (by omega) (by omega) hk nm3 ?_
    rw [a7]
    refine xs_go1 (g := g) h16 (by omega) (fun t ht => ⟨(ops t ht).1, (ops t ht).2.1⟩) (show 1 < sh_an g i by omega) (by omega) (c9 (n + 1) post _ ?_ (fun _ z => z))
    refine xs_go0 (g := g) (hi := hi) (d := d) (i := i) (j := 2) (f := f) (xs_Tp_of P hs XP G h16 h9 q1 q2 q3 (by omega) (by omega)) rfl (by omega) ?_
    refine xs_go2 (g := g) h16 (by omega) (by omega) (by omega) (by omega) rfl ?_
    rw [hk]
    exact xs_fin7 (l := l) rfl hw
theorem xs_XE_6 (P : sh_Pg g cc hi) (hs : s < 4) (hU : U ≤ 2000) (hN : N ≤ 2000) (XP : xs_XP g hi xa_tok xa_end xa_num xa_copies xa_tokens xa_replaced xa_deep xa_lies xa_ofKind)
    {i : Nat} {r : List (Nat × Nat)} {p u a : Nat} (OK : sh_Ok g cc hi s N U i r p u a) (hk : sh_tk g i = 6) {ε o o0 o1 : Nat → Int32} {y y0 y1 : Nat} {r0 r1 : Int32} {j pj uj : Nat} (ej : j = if r0 = 0 then 2 else 1)
    (epj : pj = p + 1 + sh_sm j (fun k => sh_eT g (sh_op g i k) r)) (euj : uj = u + sh_sm j (fun k => sh_eR g (sh_op g i k) r))
    (X0 : xs_XE xf_concepts xf_drafted xf_place xf_above xf_result xa_tok xa_end xa_num xa_length xa_holes xa_draft xa_draftNum xa_copies xa_tokens xa_replaced xa_deep xa_lies xa_ofKind xa_given g s (sh_op g i 0) r (p + 1) u ε y o r0 y0 o0) (X1 : xs_XE xf_concepts xf_drafted xf_place xf_above xf_result xa_tok xa_end xa_num xa_length xa_holes xa_draft xa_draftNum xa_copies xa_tokens xa_replaced xa_deep xa_lies xa_ofKind xa_given g s (sh_op g i j) r pj uj ε y0 o0 r1 y1 o1) :
    xs_XE xf_concepts xf_drafted xf_place xf_above xf_result xa_tok xa_end xa_num xa_length xa_holes xa_draft xa_draftNum xa_copies xa_tokens xa_replaced xa_deep xa_lies xa_ofKind xa_given g s i r p u ε y o r1 y1 o1 := by
  intro F φ f fr d t l ser sc hF C E hd ht hl ho
  have G := OK.1
  have h16 : sh_tk g i < 16 := by omega
  have h9 : sh_tk g i ≠ 9 := by omega
  have b1 := OK.2.1
  have b2 := OK.2.2.1
  have w := sh_gp P hs G h16 h9
  have an3 : sh_an g i = 3 := by unfold sh_an; exact sh_ar_6 hk
  have wT := w.2.1
  have wR := w.2.2.1
  rw [an3] at wT wR
  have hj12 : j = 1 ∨ j = 2 := by rw [ej]; split <;> omega
  have mT1 := sh_sm_mono (f := fun k => sh_eT g (sh_op g i k) r) 1 j (by omega)
  have mR1 := sh_sm_mono (f := fun k => sh_eR g (sh_op g i k) r) 1 j (by omega)
  have mT2 := sh_sm_mono (f := fun k => sh_eT g (sh_op g i k) r) (j + 1) 3 (by omega)
  have mR2 := sh_sm_mono (f := fun k => sh_eR g (sh_op g i k) r) (j + 1) 3 (by omega)
  have sT : sh_sm (j + 1) (fun k => sh_eT g (sh_op g i k) r) = sh_sm j (fun k => sh_eT g (sh_op g i k) r) + sh_eT g (sh_op g i j) r := rfl
  have sR : sh_sm (j + 1) (fun k => sh_eR g (sh_op g i k) r) = sh_sm j (fun k => sh_eR g (sh_op g i k) r) + sh_eR g (sh_op g i j) r := rfl
  rw [sh_sm_f1] at mT1 mR1
  have pos := sh_pos P hs _ _ _ (Nat.lt_succ_self _) (w.1 0 (by omega))
  have pos1 := sh_pos P hs _ _ _ (Nat.lt_succ_self _) (w.1 j (by omega))
  have ops := xs_ops P XP hs G
  obtain ⟨F1, φ1, fr1, n1, f1, sc1, M1, a1, a2, a3, a4, a5, a6, a7, a8, a9, a10⟩ := xs_sub (xf_concepts := xf_concepts) (xf_drafted := xf_drafted) (xf_place := xf_place) (xf_above := xf_above) (xf_result := xf_result) (xa_tok := xa_tok) (xa_end := xa_end) (xa_num := xa_num) (xa_length := xa_length) (xa_holes := xa_holes) (xa_draft := xa_draft) (xa_draftNum := xa_draftNum) (xa_copies := xa_copies) (xa_tokens := xa_tokens) (xa_replaced := xa_replaced) (xa_deep := xa_deep) (xa_lies := xa_lies) (xa_ofKind := xa_ofKind) (xa_given := xa_given) P hs XP G h16 h9 (show 0 < sh_an g i by omega) (by omega) (by omega) X0 (F := F) (φ := φ) (f := f) (fr := fr) (d := d) (t := t) (l := l) (sc := (upd sc.1 d (sb_b i), upd sc.2.1 d (nI 0), upd sc.2.2.1 d f, sc.2.2.2.1, sc.2.2.2.2.1, sc.2.2.2.2.2.1, sc.2.2.2.2.2.2)) hF C E (by omega) (by omega) (by omega) (by omega) ho pk_us pk_us pk_us
  have Sa0 : xs_Sa sc (upd sc.1 d (sb_b i), upd sc.2.1 d (nI 0), upd sc.2.2.1 d f, sc.2.2.2.1, sc.2.2.2.2.1, sc.2.2.2.2.2.1, sc.2.2.2.2.2.2) d t l := ⟨fun k hk => ⟨pk_un (by omega), pk_un (by omega), pk_un (by omega)⟩, fun k hk => rfl, fun k hk => ⟨rfl, rfl⟩⟩
  have C1 := xs_XC_up a1 a3 a4 _ _ C
  obtain ⟨F2, φ2, fr2, n2, f2, sc2, M2, c1, c2, c3, c4, c5, c6, c7, c8, c9⟩ := X1 F1 φ1 f fr1 (d + 1) t l 0 (sc1.1, upd (upd sc1.2.1 d (nI 2)) d (nI 3), sc1.2.2.1, sc1.2.2.2.1, sc1.2.2.2.2.1, sc1.2.2.2.2.2.1, sc1.2.2.2.2.2.2) (by omega) C1 (xs_En_m (by omega) a5) (by omega) (by omega) (by omega) a8
  have q := c6.1 d (by omega)
  have q1 : sc2.1 d = sb_b i := q.1.trans a9.1
  have q2 : sc2.2.2.1 d = f := q.2.2.trans a9.2.1
  have q3 : sc2.2.1 d = nI 3 := q.2.1.trans pk_us
  refine ⟨F2, φ2, fr2, n2, f2, (sc2.1, upd sc2.2.1 d (nI 4), sc2.2.2.1, sc2.2.2.2.1, sc2.2.2.2.2.1, sc2.2.2.2.2.2.1, sc2.2.2.2.2.2.2), M1 + M2 + 3, by omega, by omega, xs_Fs_t a1 a3 c3, fun q hq => (c4 q (by omega)).trans (a4 q hq), xs_En_m (by omega) c5, ?_, c7, c8, fun n post Q hw hQ => ⟨1, ?_⟩⟩
  · refine xs_Sa_t (Nat.le_refl _) (Nat.le_refl _) (Nat.le_refl _) (xs_Sa_t (Nat.le_refl _) (Nat.le_refl _) (Nat.le_refl _) Sa0 a6) ⟨fun k hk => ?_, fun k hk => c6.2.1 k (by omega), fun k hk => c6.2.2 k (by omega)⟩
    have z := c6.1 k (by omega)
    exact ⟨z.1, (pk_un (by omega)).trans (z.2.1.trans ((pk_un (by omega)).trans (pk_un (by omega)))), z.2.2⟩
  · refine xs_stP (g := g) (d := d) P hs XP G h16 h9 (by omega) rfl rfl (xs_f_Sh (F := F) (by omega) (xs_XC_f C)) (hQ _ ?_)
    rw [show n + (M1 + M2 + 3) = n + 1 + M2 + 1 + M1 + 1 by omega]
    refine a10 _ post _ _ ?_
    refine xs_go0 (g := g) (hi := hi) (d := d) (i := i) (j := 1) (f := f) (xs_Tp_of P hs XP G h16 h9 a9.1 a9.2.1 a9.2.2 (by omega) (by omega)) rfl (by omega) ?_
    refine xs_goI (g := g) (t := t) hk (by omega) (fun t ht => ⟨(ops t ht).1, (ops t ht).2.1⟩) rfl (by omega) ?_
    rw [a7, ← ej]
    refine c9 (n + 1) post _ ?_ (fun _ z => z)
    refine xs_go0 (g := g) (hi := hi) (d := d) (i := i) (j := 3) (f := f) (xs_Tp_of P hs XP G h16 h9 q1 q2 q3 (by omega) (by omega)) rfl (by omega) ?_
    refine xs_go2 (g := g) h16 (by omega) (by omega) (by omega) (by omega) rfl ?_
    rw [hk]
    exact xs_fin6 hw
end XE3
end
section
/-! Y: what a run makes of an expression -/
section YR1
variable {yf_concepts yf_place yf_size yf_uses yf_of yf_result yf_says : Int32} {yb_kind yb_behind yb_length yb_holes yb_value yb_kinds yb_origin yb_values yb_parent yb_span yb_todo yb_within yb_under yb_stands yb_outer yb_from yb_left yb_variable yb_saved yb_worth yb_said yb_work yb_phase : Nat → Int32}
/-- one step: an operand is worked out next -/
theorem ys_rP {post : Int32 → SY → Prop} {n d h q j c h2 k : Nat} {va sv : Nat → Int32} (hd : d < 2050) (hc : c < 32768) (hq : q ≤ 2000) (hj : j ≤ 3) (w1 : yb_work d = nI q) (w2 : yb_phase d = nI j) (hkd : yb_kinds q = nI k) (hk : k < 100)
    (hn : ∀ P : Int32 → SY → Prop, P (nI c) (yf_concepts, yf_place, yf_size, yf_uses, yf_of, yf_result, yf_says, yb_kind, yb_behind, yb_length, yb_holes, yb_value, yb_kinds, yb_origin, yb_values, yb_parent, yb_span, yb_todo, yb_within, yb_under, yb_stands, yb_outer, yb_from, yb_left, va, sv, yb_worth, yb_said, yb_work, upd yb_phase d (nI (j + 1))) → wpY_next P (yf_concepts, yf_place, yf_size, yf_uses, yf_of, yf_result, yf_says, yb_kind, yb_behind, yb_length, yb_holes, yb_value, yb_kinds, yb_origin, yb_values, yb_parent, yb_span, yb_todo, yb_within, yb_under, yb_stands, yb_outer, yb_from, yb_left, yb_variable, yb_saved, yb_worth, yb_said, yb_work, upd yb_phase d (nI (j + 1))) (nI q) (nI j) (nI h))
    (eh : (k = 6 ∧ j = 1 ∧ h = h2 + 1) ∨ (¬ (k = 6 ∧ j = 1) ∧ h2 = h))
    (K : wY_run_123 post n (nI (d + 2)) (nI h2) yf_concepts yf_place yf_size yf_uses yf_of yf_result yf_says yb_kind yb_behind yb_length yb_holes yb_value yb_kinds yb_origin yb_values yb_parent yb_span yb_todo yb_within yb_under yb_stands yb_outer yb_from yb_left va sv yb_worth yb_said (upd yb_work (d + 1) (nI c)) (upd (upd yb_phase d (nI (j + 1))) (d + 1) (nI 0))) :
    wY_run_123 post (n + 1) (nI (d + 1)) (nI h) yf_concepts yf_place yf_size yf_uses yf_of yf_result yf_says yb_kind yb_behind yb_length yb_holes yb_value yb_kinds yb_origin yb_values yb_parent yb_span yb_todo yb_within yb_under yb_stands yb_outer yb_from yb_left yb_variable yb_saved yb_worth yb_said yb_work yb_phase := by
  have e1 : nI (d + 1) - 1 = nI d := sh_m1a d
  have id : vp_in (nI (d + 1) - 1) 2100 := by rw [e1]; exact vp_in_nI (by omega) (by omega)
  have id1 : vp_in (nI (d + 1)) 2100 := vp_in_nI (by omega) (by omega)
  refine br_f (nI_nle (by omega) (by omega)) ⟨id, nm_r (e' := nI q) (by rw [e1, nI_clamp (by omega)]; exact w1) ⟨id, id, nm_r (e' := upd yb_phase d (nI (j + 1))) (by rw [e1, nI_clamp (by omega), w2, nI_1, sh_n8 (by omega)]) (nm_r (e' := nI j) (by rw [e1, nI_clamp (by omega)]; exact w2) (hn _ (br_f (nI_pos (by omega)) ⟨id1, nm_r (e' := upd yb_work (d + 1) (nI c)) (by rw [nI_clamp (by omega), sh_n16 hc]) (nm_r (nI_1 (d + 1)) ⟨id1, nm_r (e' := upd (upd yb_phase d (nI (j + 1))) (d + 1) (nI 0)) (by rw [nI_clamp (by omega), show vp_nar .byte (0 : Int32) = nI 0 from sh_n8' (n := 0) (by omega)]) ⟨vp_in_nI (by omega) (by omega), ?_⟩⟩)⟩)))⟩⟩
  rw [nI_clamp (by omega), hkd]
  rcases eh with ⟨a1, a2, a3⟩ | ⟨a1, a2⟩
  · subst a3
    exact br_t (by rw [a1]; rfl) (br_t (by rw [a2]; rfl) (nm_r (pk_m1 h2) K))
  · subst a2
    refine pk_eq k 6 (fun z => pk_eq j 1 (fun z2 => absurd ⟨z, z2⟩ a1) (fun _ => K)) (fun _ => K)
/-- one step: a token is worked out -/
theorem ys_rD {post : Int32 → SY → Prop} {n d h q j : Nat} (hd : d < 2050) (hq : q ≤ 2000) (hj : j ≤ 3) (w1 : yb_work d = nI q) (w2 : yb_phase d = nI j)
    (hn : ∀ P : Int32 → SY → Prop, P (-1) (yf_concepts, yf_place, yf_size, yf_uses, yf_of, yf_result, yf_says, yb_kind, yb_behind, yb_length, yb_holes, yb_value, yb_kinds, yb_origin, yb_values, yb_parent, yb_span, yb_todo, yb_within, yb_under, yb_stands, yb_outer, yb_from, yb_left, yb_variable, yb_saved, yb_worth, yb_said, yb_work, upd yb_phase d (nI (j + 1))) → wpY_next P (yf_concepts, yf_place, yf_size, yf_uses, yf_of, yf_result, yf_says, yb_kind, yb_behind, yb_length, yb_holes, yb_value, yb_kinds, yb_origin, yb_values, yb_parent, yb_span, yb_todo, yb_within, yb_under, yb_stands, yb_outer, yb_from, yb_left, yb_variable, yb_saved, yb_worth, yb_said, yb_work, upd yb_phase d (nI (j + 1))) (nI q) (nI j) (nI h))
    {h2 : Nat} {ys2 : Int32} {va wo sa : Nat → Int32}
    (hdone : ∀ P : Int32 → SY → Prop, P (nI h2) (yf_concepts, yf_place, yf_size, yf_uses, yf_of, yf_result, ys2, yb_kind, yb_behind, yb_length, yb_holes, yb_value, yb_kinds, yb_origin, yb_values, yb_parent, yb_span, yb_todo, yb_within, yb_under, yb_stands, yb_outer, yb_from, yb_left, va, yb_saved, wo, sa, yb_work, upd yb_phase d (nI (j + 1))) → wpY_done P (yf_concepts, yf_place, yf_size, yf_uses, yf_of, yf_result, yf_says, yb_kind, yb_behind, yb_length, yb_holes, yb_value, yb_kinds, yb_origin, yb_values, yb_parent, yb_span, yb_todo, yb_within, yb_under, yb_stands, yb_outer, yb_from, yb_left, yb_variable, yb_saved, yb_worth, yb_said, yb_work, upd yb_phase d (nI (j + 1))) (nI q) (nI h))
    (K : wY_run_123 post n (nI d) (nI h2) yf_concepts yf_place yf_size yf_uses yf_of yf_result ys2 yb_kind yb_behind yb_length yb_holes yb_value yb_kinds yb_origin yb_values yb_parent yb_span yb_todo yb_within yb_under yb_stands yb_outer yb_from yb_left va yb_saved wo sa yb_work (upd yb_phase d (nI (j + 1)))) :
    wY_run_123 post (n + 1) (nI (d + 1)) (nI h) yf_concepts yf_place yf_size yf_uses yf_of yf_result yf_says yb_kind yb_behind yb_length yb_holes yb_value yb_kinds yb_origin yb_values yb_parent yb_span yb_todo yb_within yb_under yb_stands yb_outer yb_from yb_left yb_variable yb_saved yb_worth yb_said yb_work yb_phase := by
  have e1 : nI (d + 1) - 1 = nI d := sh_m1a d
  have id : vp_in (nI (d + 1) - 1) 2100 := by rw [e1]; exact vp_in_nI (by omega) (by omega)
  refine br_f (nI_nle (by omega) (by omega)) ⟨id, nm_r (e' := nI q) (by rw [e1, nI_clamp (by omega)]; exact w1) ⟨id, id, nm_r (e' := upd yb_phase d (nI (j + 1))) (by rw [e1, nI_clamp (by omega), w2, nI_1, sh_n8 (by omega)]) (nm_r (e' := nI j) (by rw [e1, nI_clamp (by omega)]; exact w2) (hn _ (br_t (by decide) (hdone _ (nm_r (pk_m1 d) K)))))⟩⟩
/-! next -/
theorem ys_nx0 {P : Int32 → SY → Prop} {q k : Nat} {x y : Int32} (hq : q ≤ 2000) (hkd : yb_kinds q = nI k) (hk : k = 0 ∨ k = 1) (K : P (-1) (yf_concepts, yf_place, yf_size, yf_uses, yf_of, yf_result, yf_says, yb_kind, yb_behind, yb_length, yb_holes, yb_value, yb_kinds, yb_origin, yb_values, yb_parent, yb_span, yb_todo, yb_within, yb_under, yb_stands, yb_outer, yb_from, yb_left, yb_variable, yb_saved, yb_worth, yb_said, yb_work, yb_phase)) : wpY_next P (yf_concepts, yf_place, yf_size, yf_uses, yf_of, yf_result, yf_says, yb_kind, yb_behind, yb_length, yb_holes, yb_value, yb_kinds, yb_origin, yb_values, yb_parent, yb_span, yb_todo, yb_within, yb_under, yb_stands, yb_outer, yb_from, yb_left, yb_variable, yb_saved, yb_worth, yb_said, yb_work, yb_phase) (nI q) x y := by
  refine nm_r (nI_1 q) ⟨vp_in_nI (by omega) (by omega), nm_r (e' := nI k) (by rw [nI_clamp (by omega)]; exact hkd) ?_⟩
  rcases hk with rfl | rfl
  · exact br_f (by decide) (br_f (by decide) (br_t rfl K))
  · exact br_f (by decide) (br_f (by decide) (br_f (by decide) (br_t rfl K)))
theorem ys_nx2 {P : Int32 → SY → Prop} {q k j : Nat} {y : Int32} (hq : q ≤ 2000) (hkd : yb_kinds q = nI k) (hk : 2 ≤ k) (hk5 : k ≤ 5) (K : wY_next_196 P (nI j) (nI (q + 1)) yf_concepts yf_place yf_size yf_uses yf_of yf_result yf_says yb_kind yb_behind yb_length yb_holes yb_value yb_kinds yb_origin yb_values yb_parent yb_span yb_todo yb_within yb_under yb_stands yb_outer yb_from yb_left yb_variable yb_saved yb_worth yb_said yb_work yb_phase) : wpY_next P (yf_concepts, yf_place, yf_size, yf_uses, yf_of, yf_result, yf_says, yb_kind, yb_behind, yb_length, yb_holes, yb_value, yb_kinds, yb_origin, yb_values, yb_parent, yb_span, yb_todo, yb_within, yb_under, yb_stands, yb_outer, yb_from, yb_left, yb_variable, yb_saved, yb_worth, yb_said, yb_work, yb_phase) (nI q) (nI j) y := by
  refine nm_r (nI_1 q) ⟨vp_in_nI (by omega) (by omega), nm_r (e' := nI k) (by rw [nI_clamp (by omega)]; exact hkd) ?_⟩
  rcases (by omega : k = 2 ∨ k = 3 ∨ k = 4 ∨ k = 5) with rfl | rfl | rfl | rfl
  · exact br_f (by decide) (br_f (by decide) (br_f (by decide) (br_f (by decide) (br_t rfl K))))
  · exact br_f (by decide) (br_f (by decide) (br_f (by decide) (br_f (by decide) (br_f (by decide) (br_t rfl K)))))
  · exact br_f (by decide) (br_f (by decide) (br_f (by decide) (br_f (by decide) (br_f (by decide) (br_f (by decide) (br_t rfl K))))))
  · exact br_f (by decide) (br_f (by decide) (br_f (by decide) (br_f (by decide) (br_f (by decide) (br_f (by decide) (br_f (by decide) (br_t rfl K)))))))
theorem ys_196_0 {P : Int32 → SY → Prop} {x : Int32} (K : P x (yf_concepts, yf_place, yf_size, yf_uses, yf_of, yf_result, yf_says, yb_kind, yb_behind, yb_length, yb_holes, yb_value, yb_kinds, yb_origin, yb_values, yb_parent, yb_span, yb_todo, yb_within, yb_under, yb_stands, yb_outer, yb_from, yb_left, yb_variable, yb_saved, yb_worth, yb_said, yb_work, yb_phase)) : wY_next_196 P (nI 0) x yf_concepts yf_place yf_size yf_uses yf_of yf_result yf_says yb_kind yb_behind yb_length yb_holes yb_value yb_kinds yb_origin yb_values yb_parent yb_span yb_todo yb_within yb_under yb_stands yb_outer yb_from yb_left yb_variable yb_saved yb_worth yb_said yb_work yb_phase := br_t rfl K
theorem ys_196_1 {P : Int32 → SY → Prop} {c b : Nat} (hc : c ≤ 2000) (hs : yb_span c = nI b) (K : P (nI (c + b)) (yf_concepts, yf_place, yf_size, yf_uses, yf_of, yf_result, yf_says, yb_kind, yb_behind, yb_length, yb_holes, yb_value, yb_kinds, yb_origin, yb_values, yb_parent, yb_span, yb_todo, yb_within, yb_under, yb_stands, yb_outer, yb_from, yb_left, yb_variable, yb_saved, yb_worth, yb_said, yb_work, yb_phase)) : wY_next_196 P (nI 1) (nI c) yf_concepts yf_place yf_size yf_uses yf_of yf_result yf_says yb_kind yb_behind yb_length yb_holes yb_value yb_kinds yb_origin yb_values yb_parent yb_span yb_todo yb_within yb_under yb_stands yb_outer yb_from yb_left yb_variable yb_saved yb_worth yb_said yb_work yb_phase := by
  refine br_f (by decide) (br_t rfl ⟨vp_in_nI (by omega) (by omega), ?_⟩)
  rw [nI_clamp (by omega), hs, nI_add]; exact K
theorem ys_196_2 {P : Int32 → SY → Prop} {x : Int32} (K : P (-1) (yf_concepts, yf_place, yf_size, yf_uses, yf_of, yf_result, yf_says, yb_kind, yb_behind, yb_length, yb_holes, yb_value, yb_kinds, yb_origin, yb_values, yb_parent, yb_span, yb_todo, yb_within, yb_under, yb_stands, yb_outer, yb_from, yb_left, yb_variable, yb_saved, yb_worth, yb_said, yb_work, yb_phase)) : wY_next_196 P (nI 2) x yf_concepts yf_place yf_size yf_uses yf_of yf_result yf_says yb_kind yb_behind yb_length yb_holes yb_value yb_kinds yb_origin yb_values yb_parent yb_span yb_todo yb_within yb_under yb_stands yb_outer yb_from yb_left yb_variable yb_saved yb_worth yb_said yb_work yb_phase := br_f (by decide) (br_f (by decide) K)
theorem ys_nx8 {P : Int32 → SY → Prop} {q j : Nat} {y : Int32} (hq : q ≤ 2000) (hkd : yb_kinds q = nI 8) (hj : j ≤ 3) (K0 : j = 0 → P (nI (q + 1)) (yf_concepts, yf_place, yf_size, yf_uses, yf_of, yf_result, yf_says, yb_kind, yb_behind, yb_length, yb_holes, yb_value, yb_kinds, yb_origin, yb_values, yb_parent, yb_span, yb_todo, yb_within, yb_under, yb_stands, yb_outer, yb_from, yb_left, yb_variable, yb_saved, yb_worth, yb_said, yb_work, yb_phase)) (K1 : j ≠ 0 → P (-1) (yf_concepts, yf_place, yf_size, yf_uses, yf_of, yf_result, yf_says, yb_kind, yb_behind, yb_length, yb_holes, yb_value, yb_kinds, yb_origin, yb_values, yb_parent, yb_span, yb_todo, yb_within, yb_under, yb_stands, yb_outer, yb_from, yb_left, yb_variable, yb_saved, yb_worth, yb_said, yb_work, yb_phase)) : wpY_next P (yf_concepts, yf_place, yf_size, yf_uses, yf_of, yf_result, yf_says, yb_kind, yb_behind, yb_length, yb_holes, yb_value, yb_kinds, yb_origin, yb_values, yb_parent, yb_span, yb_todo, yb_within, yb_under, yb_stands, yb_outer, yb_from, yb_left, yb_variable, yb_saved, yb_worth, yb_said, yb_work, yb_phase) (nI q) (nI j) y := by
  refine nm_r (nI_1 q) ⟨vp_in_nI (by omega) (by omega), nm_r (e' := nI 8) (by rw [nI_clamp (by omega)]; exact hkd) ?_⟩
  refine br_f (by decide) (br_f (by decide) (br_f (by decide) (br_f (by decide) (br_f (by decide) (br_f (by decide) (br_f (by decide) (br_f (by decide) (br_f (by decide) (br_f (by decide) (br_t rfl (pk_eq j 0 K0 K1)))))))))))
theorem ys_nx6 {P : Int32 → SY → Prop} {q j : Nat} {y : Int32} (hq : q ≤ 2000) (hkd : yb_kinds q = nI 6) (hj : j ≤ 3) (K0 : j = 0 → P (nI (q + 1)) (yf_concepts, yf_place, yf_size, yf_uses, yf_of, yf_result, yf_says, yb_kind, yb_behind, yb_length, yb_holes, yb_value, yb_kinds, yb_origin, yb_values, yb_parent, yb_span, yb_todo, yb_within, yb_under, yb_stands, yb_outer, yb_from, yb_left, yb_variable, yb_saved, yb_worth, yb_said, yb_work, yb_phase)) (K2 : 2 ≤ j → P (-1) (yf_concepts, yf_place, yf_size, yf_uses, yf_of, yf_result, yf_says, yb_kind, yb_behind, yb_length, yb_holes, yb_value, yb_kinds, yb_origin, yb_values, yb_parent, yb_span, yb_todo, yb_within, yb_under, yb_stands, yb_outer, yb_from, yb_left, yb_variable, yb_saved, yb_worth, yb_said, yb_work, yb_phase))
    (K1 : j = 1 → ∃ h b0 b1, y = nI (h + 1) ∧ h < 2050 ∧ q + 1 ≤ 2000 ∧ yb_span (q + 1) = nI b0 ∧ (yb_worth h = 0 → q + 1 + b0 ≤ 2000 ∧ yb_span (q + 1 + b0) = nI b1 ∧ P (nI (q + 1 + b0 + b1)) (yf_concepts, yf_place, yf_size, yf_uses, yf_of, yf_result, yf_says, yb_kind, yb_behind, yb_length, yb_holes, yb_value, yb_kinds, yb_origin, yb_values, yb_parent, yb_span, yb_todo, yb_within, yb_under, yb_stands, yb_outer, yb_from, yb_left, yb_variable, yb_saved, yb_worth, yb_said, yb_work, yb_phase)) ∧ (yb_worth h ≠ 0 → P (nI (q + 1 + b0)) (yf_concepts, yf_place, yf_size, yf_uses, yf_of, yf_result, yf_says, yb_kind, yb_behind, yb_length, yb_holes, yb_value, yb_kinds, yb_origin, yb_values, yb_parent, yb_span, yb_todo, yb_within, yb_under, yb_stands, yb_outer, yb_from, yb_left, yb_variable, yb_saved, yb_worth, yb_said, yb_work, yb_phase))) : wpY_next P (yf_concepts, yf_place, yf_size, yf_uses, yf_of, yf_result, yf_says, yb_kind, yb_behind, yb_length, yb_holes, yb_value, yb_kinds, yb_origin, yb_values, yb_parent, yb_span, yb_todo, yb_within, yb_under, yb_stands, yb_outer, yb_from, yb_left, yb_variable, yb_saved, yb_worth, yb_said, yb_work, yb_phase) (nI q) (nI j) y := by
  refine nm_r (nI_1 q) ⟨vp_in_nI (by omega) (by omega), nm_r (e' := nI 6) (by rw [nI_clamp (by omega)]; exact hkd) ?_⟩
  refine br_f (by decide) (br_f (by decide) (br_f (by decide) (br_f (by decide) (br_f (by decide) (br_f (by decide) (br_f (by decide) (br_f (by decide) (br_t rfl (pk_le j 1 (fun hj1 => pk_eq j 0 K0 (fun h0 => ?_)) (fun hj1 => K2 (by omega)))))))))))
  obtain ⟨h, b0, b1, e1, h1, h2, h3, h4, h5⟩ := K1 (by omega)
  subst e1
  have e2 : nI (h + 1) - 1 = nI h := sh_m1a h
  refine ⟨vp_in_nI (by omega) (by omega), nm_r (e' := nI (q + 1 + b0)) (by rw [nI_clamp (by omega), h3, nI_add]) ⟨by rw [e2]; exact vp_in_nI (by omega) (by omega), ?_⟩⟩
  rw [e2, nI_clamp (by omega)]
  refine br_c (fun z => ?_) (fun z => h5 z)
  obtain ⟨a1, a2, a3⟩ := h4 z
  refine ⟨vp_in_nI (by omega) (by omega), ?_⟩
  rw [nI_clamp (by omega), a2, nI_add]; exact a3
theorem ys_nx7 {P : Int32 → SY → Prop} {q j : Nat} {y : Int32} (hq : q ≤ 2000) (hkd : yb_kinds q = nI 7) (hj : j ≤ 2) (K0 : j = 0 → P (nI (q + 1)) (yf_concepts, yf_place, yf_size, yf_uses, yf_of, yf_result, yf_says, yb_kind, yb_behind, yb_length, yb_holes, yb_value, yb_kinds, yb_origin, yb_values, yb_parent, yb_span, yb_todo, yb_within, yb_under, yb_stands, yb_outer, yb_from, yb_left, yb_variable, yb_saved, yb_worth, yb_said, yb_work, yb_phase)) (K2 : j = 2 → P (-1) (yf_concepts, yf_place, yf_size, yf_uses, yf_of, yf_result, yf_says, yb_kind, yb_behind, yb_length, yb_holes, yb_value, yb_kinds, yb_origin, yb_values, yb_parent, yb_span, yb_todo, yb_within, yb_under, yb_stands, yb_outer, yb_from, yb_left, yb_variable, yb_saved, yb_worth, yb_said, yb_work, yb_phase))
    (K1 : j = 1 → ∃ h b0 my, y = nI (h + 1) ∧ h < 2050 ∧ q + 1 ≤ 2000 ∧ yb_span (q + 1) = nI b0 ∧ yb_values q = nI my ∧ my < 4110 ∧ P (nI (q + 1 + b0)) (yf_concepts, yf_place, yf_size, yf_uses, yf_of, yf_result, yf_says, yb_kind, yb_behind, yb_length, yb_holes, yb_value, yb_kinds, yb_origin, yb_values, yb_parent, yb_span, yb_todo, yb_within, yb_under, yb_stands, yb_outer, yb_from, yb_left, upd yb_variable my (yb_worth h), upd yb_saved q (yb_variable my), yb_worth, yb_said, yb_work, yb_phase)) : wpY_next P (yf_concepts, yf_place, yf_size, yf_uses, yf_of, yf_result, yf_says, yb_kind, yb_behind, yb_length, yb_holes, yb_value, yb_kinds, yb_origin, yb_values, yb_parent, yb_span, yb_todo, yb_within, yb_under, yb_stands, yb_outer, yb_from, yb_left, yb_variable, yb_saved, yb_worth, yb_said, yb_work, yb_phase) (nI q) (nI j) y := by
  have iq : vp_in (nI q) 2001 := vp_in_nI (by omega) (by omega)
  refine nm_r (nI_1 q) ⟨iq, nm_r (e' := nI 7) (by rw [nI_clamp (by omega)]; exact hkd) ?_⟩
  refine br_f (by decide) (br_f (by decide) (br_f (by decide) (br_f (by decide) (br_f (by decide) (br_f (by decide) (br_f (by decide) (br_f (by decide) (br_f (by decide) (br_t rfl (pk_eq j 1 (fun hj1 => ?_) (fun hj1 => ?_)))))))))))
  · subst hj1
    obtain ⟨h, b0, my, e1, h1, h2, h3, h4, h5, h6⟩ := K1 rfl
    subst e1
    have e2 : nI (h + 1) - 1 = nI h := sh_m1a h
    have ev : yb_values (nI q).toNatClampNeg = nI my := by rw [nI_clamp (by omega)]; exact h4
    have im : vp_in (yb_values (nI q).toNatClampNeg) 4110 := by rw [ev]; exact vp_in_nI (by omega) (by omega)
    refine ⟨iq, im, iq, nm_r (e' := upd yb_saved q (yb_variable my)) (by rw [ev, nI_clamp (by omega), nI_clamp (by omega)]) ⟨iq, by rw [e2]; exact vp_in_nI (by omega) (by omega), im, nm_r (e' := upd yb_variable my (yb_worth h)) (by rw [ev, e2, nI_clamp (by omega), nI_clamp (by omega)]) ?_⟩⟩
    refine br_f (by decide) (br_t rfl ⟨vp_in_nI (by omega) (by omega), ?_⟩)
    rw [nI_clamp (by omega), h3, nI_add]; exact h6
  · refine pk_eq j 0 K0 (fun h0 => br_f (fun z => hj1 ((nI_eq (b := 1) (by omega) (by omega)).mp z)) (K2 (by omega)))
/-! done -/
theorem ys_dn {P : Int32 → SY → Prop} {q h : Nat} (hh : h ≤ 2050) (K : ∀ x y : Int32, (∀ t, h = t + 2 → x = yb_worth t) → (∀ t, h = t + 1 → y = yb_worth t) → wY_done_34 P (nI q) (nI h) x y yf_concepts yf_place yf_size yf_uses yf_of yf_result yf_says yb_kind yb_behind yb_length yb_holes yb_value yb_kinds yb_origin yb_values yb_parent yb_span yb_todo yb_within yb_under yb_stands yb_outer yb_from yb_left yb_variable yb_saved yb_worth yb_said yb_work yb_phase) : wpY_done P (yf_concepts, yf_place, yf_size, yf_uses, yf_of, yf_result, yf_says, yb_kind, yb_behind, yb_length, yb_holes, yb_value, yb_kinds, yb_origin, yb_values, yb_parent, yb_span, yb_todo, yb_within, yb_under, yb_stands, yb_outer, yb_from, yb_left, yb_variable, yb_saved, yb_worth, yb_said, yb_work, yb_phase) (nI q) (nI h) := by
  have k17 : ∀ x : Int32, (∀ t, h = t + 2 → x = yb_worth t) → wY_done_17 P (nI q) (nI h) x yf_concepts yf_place yf_size yf_uses yf_of yf_result yf_says yb_kind yb_behind yb_length yb_holes yb_value yb_kinds yb_origin yb_values yb_parent yb_span yb_todo yb_within yb_under yb_stands yb_outer yb_from yb_left yb_variable yb_saved yb_worth yb_said yb_work yb_phase := by
    intro x hx
    refine pk_le h 0 (fun z => K x 0 hx (fun t ht => by omega)) (fun z => ?_)
    obtain ⟨t, rfl⟩ : ∃ t, h = t + 1 := ⟨h - 1, by omega⟩
    have e2 : nI (t + 1) - 1 = nI t := sh_m1a t
    refine ⟨by rw [e2]; exact vp_in_nI (by omega) (by omega), ?_⟩
    refine K x _ hx (fun t' ht' => ?_)
    rw [e2, nI_clamp (by omega), show t' = t by omega]
  refine pk_le h 1 (fun z => k17 0 (fun t ht => by omega)) (fun z => ?_)
  obtain ⟨t, rfl⟩ : ∃ t, h = t + 2 := ⟨h - 2, by omega⟩
  have e2 : nI (t + 2) - 2 = nI t := pk_sub (a := t + 2) (b := 2) (by omega)
  refine ⟨by rw [e2]; exact vp_in_nI (by omega) (by omega), k17 _ (fun t' ht' => ?_)⟩
  rw [e2, nI_clamp (by omega), show t' = t by omega]
theorem ys_dn0 {P : Int32 → SY → Prop} {q h : Nat} (hq : q ≤ 2000) (hh : h ≤ 2050) (hkd : yb_kinds q = nI 0) (K : P (nI (h + 1)) (yf_concepts, yf_place, yf_size, yf_uses, yf_of, yf_result, yf_says, yb_kind, yb_behind, yb_length, yb_holes, yb_value, yb_kinds, yb_origin, yb_values, yb_parent, yb_span, yb_todo, yb_within, yb_under, yb_stands, yb_outer, yb_from, yb_left, yb_variable, yb_saved, upd yb_worth h (yb_values q), yb_said, yb_work, yb_phase)) : wpY_done P (yf_concepts, yf_place, yf_size, yf_uses, yf_of, yf_result, yf_says, yb_kind, yb_behind, yb_length, yb_holes, yb_value, yb_kinds, yb_origin, yb_values, yb_parent, yb_span, yb_todo, yb_within, yb_under, yb_stands, yb_outer, yb_from, yb_left, yb_variable, yb_saved, yb_worth, yb_said, yb_work, yb_phase) (nI q) (nI h) := by
  have iq : vp_in (nI q) 2001 := vp_in_nI (by omega) (by omega)
  refine ys_dn hh (fun x y _ _ => ⟨iq, nm_r (e' := nI 0) (by rw [nI_clamp (by omega)]; exact hkd) (br_f (by decide) (br_f (by decide) (br_t rfl ⟨iq, vp_in_nI (by omega) (by omega), nm_r (e' := upd yb_worth h (yb_values q)) (by rw [nI_clamp (by omega), nI_clamp (by omega)]) ?_⟩)))⟩)
  rw [nI_1]; exact K
theorem ys_dn1 {P : Int32 → SY → Prop} {q h my : Nat} (hq : q ≤ 2000) (hh : h ≤ 2050) (hkd : yb_kinds q = nI 1) (hv : yb_values q = nI my) (hmy : my < 4110) (K : P (nI (h + 1)) (yf_concepts, yf_place, yf_size, yf_uses, yf_of, yf_result, yf_says, yb_kind, yb_behind, yb_length, yb_holes, yb_value, yb_kinds, yb_origin, yb_values, yb_parent, yb_span, yb_todo, yb_within, yb_under, yb_stands, yb_outer, yb_from, yb_left, yb_variable, yb_saved, upd yb_worth h (yb_variable my), yb_said, yb_work, yb_phase)) : wpY_done P (yf_concepts, yf_place, yf_size, yf_uses, yf_of, yf_result, yf_says, yb_kind, yb_behind, yb_length, yb_holes, yb_value, yb_kinds, yb_origin, yb_values, yb_parent, yb_span, yb_todo, yb_within, yb_under, yb_stands, yb_outer, yb_from, yb_left, yb_variable, yb_saved, yb_worth, yb_said, yb_work, yb_phase) (nI q) (nI h) := by
  have iq : vp_in (nI q) 2001 := vp_in_nI (by omega) (by omega)
  have ev : yb_values (nI q).toNatClampNeg = nI my := by rw [nI_clamp (by omega)]; exact hv
  refine ys_dn hh (fun x y _ _ => ⟨iq, nm_r (e' := nI 1) (by rw [nI_clamp (by omega)]; exact hkd) (br_f (by decide) (br_f (by decide) (br_f (by decide) (br_t rfl ⟨iq, by rw [ev]; exact vp_in_nI (by omega) (by omega), vp_in_nI (by omega) (by omega), nm_r (e' := upd yb_worth h (yb_variable my)) (by rw [ev, nI_clamp (by omega), nI_clamp (by omega)]) ?_⟩))))⟩)
  rw [nI_1]; exact K
theorem ys_dn6 {P : Int32 → SY → Prop} {q h : Nat} (hq : q ≤ 2000) (hh : h ≤ 2050) (hkd : yb_kinds q = nI 6) (K : P (nI h) (yf_concepts, yf_place, yf_size, yf_uses, yf_of, yf_result, yf_says, yb_kind, yb_behind, yb_length, yb_holes, yb_value, yb_kinds, yb_origin, yb_values, yb_parent, yb_span, yb_todo, yb_within, yb_under, yb_stands, yb_outer, yb_from, yb_left, yb_variable, yb_saved, yb_worth, yb_said, yb_work, yb_phase)) : wpY_done P (yf_concepts, yf_place, yf_size, yf_uses, yf_of, yf_result, yf_says, yb_kind, yb_behind, yb_length, yb_holes, yb_value, yb_kinds, yb_origin, yb_values, yb_parent, yb_span, yb_todo, yb_within, yb_under, yb_stands, yb_outer, yb_from, yb_left, yb_variable, yb_saved, yb_worth, yb_said, yb_work, yb_phase) (nI q) (nI h) := by
  have iq : vp_in (nI q) 2001 := vp_in_nI (by omega) (by omega)
  exact ys_dn hh (fun x y _ _ => ⟨iq, nm_r (e' := nI 6) (by rw [nI_clamp (by omega)]; exact hkd) (br_f (by decide) (br_f (by decide) (br_f (by decide) (br_f (by decide) (br_f (by decide) (br_f (by decide) (br_f (by decide) (br_f (by decide) (br_t rfl K)))))))))⟩)
theorem ys_dn8 {P : Int32 → SY → Prop} {q h y : Nat} (hq : q ≤ 2000) (hh : h < 2050) (hkd : yb_kinds q = nI 8) (ey : yf_says = nI y) (hy : y < 2 ^ 30) (K : P (nI (h + 1)) (yf_concepts, yf_place, yf_size, yf_uses, yf_of, yf_result, nI (y + 1), yb_kind, yb_behind, yb_length, yb_holes, yb_value, yb_kinds, yb_origin, yb_values, yb_parent, yb_span, yb_todo, yb_within, yb_under, yb_stands, yb_outer, yb_from, yb_left, yb_variable, yb_saved, yb_worth, sh_out y yb_said (yb_worth h), yb_work, yb_phase)) : wpY_done P (yf_concepts, yf_place, yf_size, yf_uses, yf_of, yf_result, yf_says, yb_kind, yb_behind, yb_length, yb_holes, yb_value, yb_kinds, yb_origin, yb_values, yb_parent, yb_span, yb_todo, yb_within, yb_under, yb_stands, yb_outer, yb_from, yb_left, yb_variable, yb_saved, yb_worth, yb_said, yb_work, yb_phase) (nI q) (nI (h + 1)) := by
  subst ey
  have iq : vp_in (nI q) 2001 := vp_in_nI (by omega) (by omega)
  refine ys_dn (by omega) (fun x z _ hz => ⟨iq, nm_r (e' := nI 8) (by rw [nI_clamp (by omega)]; exact hkd) (br_f (by decide) (br_f (by decide) (br_f (by decide) (br_f (by decide) (br_f (by decide) (br_f (by decide) (br_f (by decide) (br_f (by decide) (br_f (by decide) (br_f (by decide) (br_t rfl (pk_le 20 y (fun w => nm_r (nI_1 y) ?_) (fun w => ⟨vp_in_nI w (by omega), nm_r (e' := upd yb_said y (yb_worth h)) (by rw [nI_clamp (by omega), hz h rfl]) (nm_r (nI_1 y) ?_)⟩)))))))))))))⟩)
  · unfold sh_out at K; rw [if_neg (by omega)] at K; exact K
  · unfold sh_out at K; rw [if_pos w] at K; exact K
theorem ys_dn7 {P : Int32 → SY → Prop} {q h my : Nat} (hq : q ≤ 2000) (hh : h < 2040) (hkd : yb_kinds q = nI 7) (hv : yb_values q = nI my) (hmy : my < 4110) (K : P (nI (h + 1)) (yf_concepts, yf_place, yf_size, yf_uses, yf_of, yf_result, yf_says, yb_kind, yb_behind, yb_length, yb_holes, yb_value, yb_kinds, yb_origin, yb_values, yb_parent, yb_span, yb_todo, yb_within, yb_under, yb_stands, yb_outer, yb_from, yb_left, upd yb_variable my (yb_saved q), yb_saved, upd yb_worth h (yb_worth (h + 1)), yb_said, yb_work, yb_phase)) : wpY_done P (yf_concepts, yf_place, yf_size, yf_uses, yf_of, yf_result, yf_says, yb_kind, yb_behind, yb_length, yb_holes, yb_value, yb_kinds, yb_origin, yb_values, yb_parent, yb_span, yb_todo, yb_within, yb_under, yb_stands, yb_outer, yb_from, yb_left, yb_variable, yb_saved, yb_worth, yb_said, yb_work, yb_phase) (nI q) (nI (h + 2)) := by
  have iq : vp_in (nI q) 2001 := vp_in_nI (by omega) (by omega)
  have ev : yb_values (nI q).toNatClampNeg = nI my := by rw [nI_clamp (by omega)]; exact hv
  have e2 : nI (h + 2) - 2 = nI h := pk_sub (a := h + 2) (b := 2) (by omega)
  have e1 : nI (h + 2) - 1 = nI (h + 1) := sh_m1a (h + 1)
  refine ys_dn (by omega) (fun x z _ hz => ⟨iq, nm_r (e' := nI 7) (by rw [nI_clamp (by omega)]; exact hkd) (br_f (by decide) (br_f (by decide) (br_f (by decide) (br_f (by decide) (br_f (by decide) (br_f (by decide) (br_f (by decide) (br_f (by decide) (br_f (by decide) (br_t rfl ⟨iq, iq, by rw [ev]; exact vp_in_nI (by omega) (by omega), nm_r (e' := upd yb_variable my (yb_saved q)) (by rw [ev, nI_clamp (by omega), nI_clamp (by omega)]) ⟨by rw [e2]; exact vp_in_nI (by omega) (by omega), nm_r (e' := upd yb_worth h (yb_worth (h + 1))) (by rw [e2, nI_clamp (by omega), hz (h + 1) rfl]) ?_⟩⟩))))))))))⟩)
  rw [e1]; exact K
theorem ys_dn2 {P : Int32 → SY → Prop} {q h k : Nat} (hq : q ≤ 2000) (hh : h < 2040) (hkd : yb_kinds q = nI k) (hk : 2 ≤ k) (hk5 : k ≤ 5) (K : P (nI (h + 1)) (yf_concepts, yf_place, yf_size, yf_uses, yf_of, yf_result, yf_says, yb_kind, yb_behind, yb_length, yb_holes, yb_value, yb_kinds, yb_origin, yb_values, yb_parent, yb_span, yb_todo, yb_within, yb_under, yb_stands, yb_outer, yb_from, yb_left, yb_variable, yb_saved, upd yb_worth h (sh_opv k (yb_worth h) (yb_worth (h + 1))), yb_said, yb_work, yb_phase)) : wpY_done P (yf_concepts, yf_place, yf_size, yf_uses, yf_of, yf_result, yf_says, yb_kind, yb_behind, yb_length, yb_holes, yb_value, yb_kinds, yb_origin, yb_values, yb_parent, yb_span, yb_todo, yb_within, yb_under, yb_stands, yb_outer, yb_from, yb_left, yb_variable, yb_saved, yb_worth, yb_said, yb_work, yb_phase) (nI q) (nI (h + 2)) := by
  have iq : vp_in (nI q) 2001 := vp_in_nI (by omega) (by omega)
  have e2 : nI (h + 2) - 2 = nI h := pk_sub (a := h + 2) (b := 2) (by omega)
  have e1 : nI (h + 2) - 1 = nI (h + 1) := sh_m1a (h + 1)
  refine ys_dn (by omega) (fun x z hx hz => ?_)
  have ex := hx h rfl
  have ez := hz (h + 1) rfl
  subst ex ez
  have k194 : wY_done_194 P (nI q) (nI (h + 2)) (yb_worth h) (yb_worth (h + 1)) yf_concepts yf_place yf_size yf_uses yf_of yf_result yf_says yb_kind yb_behind yb_length yb_holes yb_value yb_kinds yb_origin yb_values yb_parent yb_span yb_todo yb_within yb_under yb_stands yb_outer yb_from yb_left yb_variable yb_saved yb_worth yb_said yb_work yb_phase := by
    refine ⟨iq, ?_⟩
    rw [nI_clamp (n := q) (by omega), hkd]
    have fin : ∀ w, w = sh_opv k (yb_worth h) (yb_worth (h + 1)) → vp_in (nI (h + 2) - 2) 2100 ∧ ∀ a, a = upd yb_worth (nI (h + 2) - 2).toNatClampNeg w → P (nI (h + 2) - 1) (yf_concepts, yf_place, yf_size, yf_uses, yf_of, yf_result, yf_says, yb_kind, yb_behind, yb_length, yb_holes, yb_value, yb_kinds, yb_origin, yb_values, yb_parent, yb_span, yb_todo, yb_within, yb_under, yb_stands, yb_outer, yb_from, yb_left, yb_variable, yb_saved, a, yb_said, yb_work, yb_phase) := by
      intro w ew
      refine ⟨by rw [e2]; exact vp_in_nI (by omega) (by omega), nm_r (e' := upd yb_worth h (sh_opv k (yb_worth h) (yb_worth (h + 1)))) (by rw [e2, nI_clamp (by omega), ew]) ?_⟩
      rw [e1]; exact K
    refine pk_eq k 2 (fun z => fin _ ?_) (fun z2 => pk_eq k 3 (fun z => fin _ ?_) (fun z3 => pk_eq k 4 (fun z => fin _ ?_) (fun z4 => br_c (fun z => fin _ ?_) (fun z => fin _ ?_))))
    · unfold sh_opv; rw [if_pos z]
    · unfold sh_opv; rw [if_neg z2, if_pos z]
    · unfold sh_opv; rw [if_neg z2, if_neg z3, if_pos z]
    · unfold sh_opv; rw [if_neg z2, if_neg z3, if_neg z4, if_pos z]
    · unfold sh_opv; rw [if_neg z2, if_neg z3, if_neg z4, if_neg z]
  refine ⟨iq, nm_r (e' := nI k) (by rw [nI_clamp (by omega)]; exact hkd) ?_⟩
  rcases (by omega : k = 2 ∨ k = 3 ∨ k = 4 ∨ k = 5) with rfl | rfl | rfl | rfl
  · exact br_f (by decide) (br_f (by decide) (br_f (by decide) (br_f (by decide) (br_t rfl k194))))
  · exact br_f (by decide) (br_f (by decide) (br_f (by decide) (br_f (by decide) (br_f (by decide) (br_t rfl k194)))))
  · exact br_f (by decide) (br_f (by decide) (br_f (by decide) (br_f (by decide) (br_f (by decide) (br_f (by decide) (br_t rfl k194))))))
  · exact br_f (by decide) (br_f (by decide) (br_f (by decide) (br_f (by decide) (br_f (by decide) (br_f (by decide) (br_f (by decide) (br_t rfl k194)))))))
end YR1
end
section
/-- from a token's beginning to its value: what Y does -/
def ys_YE (yf_concepts yf_place yf_size yf_uses yf_of yf_result : Int32) (yb_kind yb_behind yb_length yb_holes yb_value yb_kinds yb_origin yb_values yb_parent yb_span yb_todo yb_within yb_under yb_stands yb_outer yb_from yb_left : Nat → Int32) (p : Nat) (ε : Nat → Int32) (y : Nat) (o : Nat → Int32) (rv : Int32) (y' : Nat) (o' : Nat → Int32) : Prop :=
  ∀ (d h : Nat) (va sv wo sa wk ph : Nat → Int32), d ≤ p → h ≤ p → (∀ m, m < 4110 → va m = ε m) → wk d = nI p → ph d = nI 0 → (∀ k, k < 20 → k < y → sa k = o k) →
  ∃ (va' sv' wo' sa' wk' ph' : Nat → Int32) (M : Nat), (∀ m, m < 4110 → va' m = ε m) ∧ (∀ k, k < p → sv' k = sv k) ∧ wo' h = rv ∧ (∀ k, k < h → wo' k = wo k) ∧ (∀ k, k < d → wk' k = wk k ∧ ph' k = ph k) ∧ (∀ k, k < 20 → k < y' → sa' k = o' k) ∧
    ∀ (n : Nat) (post : Int32 → SY → Prop), wY_run_123 post n (nI d) (nI (h + 1)) yf_concepts yf_place yf_size yf_uses yf_of yf_result (nI y') yb_kind yb_behind yb_length yb_holes yb_value yb_kinds yb_origin yb_values yb_parent yb_span yb_todo yb_within yb_under yb_stands yb_outer yb_from yb_left va' sv' wo' sa' wk' ph' →
      wY_run_123 post (n + M) (nI (d + 1)) (nI h) yf_concepts yf_place yf_size yf_uses yf_of yf_result (nI y) yb_kind yb_behind yb_length yb_holes yb_value yb_kinds yb_origin yb_values yb_parent yb_span yb_todo yb_within yb_under yb_stands yb_outer yb_from yb_left va sv wo sa wk ph
section YR2
variable {yf_concepts yf_place yf_size yf_uses yf_of yf_result yf_says : Int32} {yb_kind yb_behind yb_length yb_holes yb_value yb_kinds yb_origin yb_values yb_parent yb_span yb_todo yb_within yb_under yb_stands yb_outer yb_from yb_left yb_variable yb_saved yb_worth yb_said yb_work yb_phase : Nat → Int32}
theorem ys_YE_0 {p y : Nat} {ε o : Nat → Int32} {rv : Int32} (hp : p ≤ 2000) (h : (yb_kinds p = nI 0 ∧ rv = yb_values p) ∨ (yb_kinds p = nI 1 ∧ ∃ my, yb_values p = nI my ∧ my < 4110 ∧ rv = ε my)) : ys_YE yf_concepts yf_place yf_size yf_uses yf_of yf_result yb_kind yb_behind yb_length yb_holes yb_value yb_kinds yb_origin yb_values yb_parent yb_span yb_todo yb_within yb_under yb_stands yb_outer yb_from yb_left p ε y o rv y o := by
  intro d h' va sv wo sa wk ph hd hh hva w1 w2 ho
  refine ⟨va, sv, upd wo h' rv, sa, wk, upd ph d (nI 1), 1, hva, fun _ _ => rfl, pk_us, fun k hk => pk_un (by omega), fun k hk => ⟨rfl, pk_un (by omega)⟩, ho, fun n post hw => ?_⟩
  rcases h with ⟨hk, e⟩ | ⟨hk, my, e1, e2, e3⟩
  · subst e
    exact ys_rD (q := p) (j := 0) (by omega) hp (by omega) w1 w2 (fun P hP => ys_nx0 hp hk (Or.inl rfl) hP) (fun P hP => ys_dn0 hp (by omega) hk hP) hw
  · subst e3
    rw [← hva my e2] at hw
    exact ys_rD (q := p) (j := 0) (by omega) hp (by omega) w1 w2 (fun P hP => ys_nx0 hp hk (Or.inr rfl) hP) (fun P hP => ys_dn1 hp (by omega) hk e1 e2 hP) hw
theorem ys_YE_8 {p y y0 : Nat} {ε o o0 : Nat → Int32} {r0 : Int32} (hp : p + 1 ≤ 2000) (hk : yb_kinds p = nI 8) (hy0 : y0 < 2 ^ 30) (Y0 : ys_YE yf_concepts yf_place yf_size yf_uses yf_of yf_result yb_kind yb_behind yb_length yb_holes yb_value yb_kinds yb_origin yb_values yb_parent yb_span yb_todo yb_within yb_under yb_stands yb_outer yb_from yb_left (p + 1) ε y o r0 y0 o0) : ys_YE yf_concepts yf_place yf_size yf_uses yf_of yf_result yb_kind yb_behind yb_length yb_holes yb_value yb_kinds yb_origin yb_values yb_parent yb_span yb_todo yb_within yb_under yb_stands yb_outer yb_from yb_left p ε y o r0 (y0 + 1) (sh_out y0 o0 r0) := by
  intro d h va sv wo sa wk ph hd hh hva w1 w2 ho
  obtain ⟨va1, sv1, wo1, sa1, wk1, ph1, M1, a1, a2, a3, a4, a5, a6, a7⟩ := Y0 (d + 1) h va sv wo sa (upd wk (d + 1) (nI (p + 1))) (upd (upd ph d (nI 1)) (d + 1) (nI 0)) (by omega) (by omega) hva pk_us pk_us ho
  have q := a5 d (by omega)
  have q1 : wk1 d = nI p := q.1.trans ((pk_un (by omega)).trans w1)
  have q2 : ph1 d = nI 1 := q.2.trans ((pk_un (by omega)).trans pk_us)
  refine ⟨va1, sv1, wo1, sh_out y0 sa1 r0, wk1, upd ph1 d (nI 2), M1 + 2, a1, fun k hk => a2 k (by omega), a3, a4, fun k hk => ?_, fun k k1 k2 => ?_, fun n post hw => ?_⟩
  · have z := a5 k (by omega)
    exact ⟨z.1.trans (pk_un (by omega)), (pk_un (by omega)).trans (z.2.trans ((pk_un (by omega)).trans (pk_un (by omega))))⟩
  · unfold sh_out
    by_cases e : y0 < 20
    · rw [if_pos e, if_pos e]
      by_cases ek : k = y0
      · rw [ek, pk_us, pk_us]
      · rw [pk_un ek, pk_un ek]; exact a6 k k1 (by omega)
    · rw [if_neg e, if_neg e]; exact a6 k k1 (by omega)
  · rw [show n + (M1 + 2) = n + 1 + M1 + 1 by omega]
    refine ys_rP (q := p) (j := 0) (c := p + 1) (h2 := h) (k := 8) (va := va) (sv := sv) (by omega) (by omega) (by omega) (by omega) w1 w2 hk (by omega) (fun P hP => ys_nx8 (by omega) hk (by omega) (fun _ => hP) (fun z => absurd rfl z)) (Or.inr ⟨by omega, rfl⟩) (a7 (n + 1) post ?_)
    rw [← a3] at hw
    exact ys_rD (q := p) (j := 1) (h2 := h + 1) (by omega) (by omega) (by omega) q1 q2 (fun P hP => ys_nx8 (by omega) hk (by omega) (fun z => by omega) (fun _ => hP)) (fun P hP => ys_dn8 (y := y0) (by omega) (by omega) hk rfl hy0 hP) hw
theorem ys_YE_2 {p y y0 y1 T0 k : Nat} {ε o o0 o1 : Nat → Int32} {r0 r1 : Int32} (hp : p + 1 + T0 ≤ 2000) (hT0 : 1 ≤ T0) (hk : yb_kinds p = nI k) (hk2 : 2 ≤ k) (hk5 : k ≤ 5) (hs : yb_span (p + 1) = nI T0) (Y0 : ys_YE yf_concepts yf_place yf_size yf_uses yf_of yf_result yb_kind yb_behind yb_length yb_holes yb_value yb_kinds yb_origin yb_values yb_parent yb_span yb_todo yb_within yb_under yb_stands yb_outer yb_from yb_left (p + 1) ε y o r0 y0 o0) (Y1 : ys_YE yf_concepts yf_place yf_size yf_uses yf_of yf_result yb_kind yb_behind yb_length yb_holes yb_value yb_kinds yb_origin yb_values yb_parent yb_span yb_todo yb_within yb_under yb_stands yb_outer yb_from yb_left (p + 1 + T0) ε y0 o0 r1 y1 o1) : ys_YE yf_concepts yf_place yf_size yf_uses yf_of yf_result yb_kind yb_behind yb_length yb_holes yb_value yb_kinds yb_origin yb_values yb_parent yb_span yb_todo yb_within yb_under yb_stands yb_outer yb_from yb_left p ε y o (sh_opv k r0 r1) y1 o1 := by
  intro d h va sv wo sa wk ph hd hh hva w1 w2 ho
  obtain ⟨va1, sv1, wo1, sa1, wk1, ph1, M1, a1, a2, a3, a4, a5, a6, a7⟩ := Y0 (d + 1) h va sv wo sa (upd wk (d + 1) (nI (p + 1))) (upd (upd ph d (nI 1)) (d + 1) (nI 0)) (by omega) (by omega) hva pk_us pk_us ho
  have q := a5 d (by omega)
  have q1 : wk1 d = nI p := q.1.trans ((pk_un (by omega)).trans w1)
  have q2 : ph1 d = nI 1 := q.2.trans ((pk_un (by omega)).trans pk_us)
  obtain ⟨va2, sv2, wo2, sa2, wk2, ph2, M2, c1, c2, c3, c4, c5, c6, c7⟩ := Y1 (d + 1) (h + 1) va1 sv1 wo1 sa1 (upd wk1 (d + 1) (nI (p + 1 + T0))) (upd (upd ph1 d (nI 2)) (d + 1) (nI 0)) (by omega) (by omega) a1 pk_us pk_us a6
  have q' := c5 d (by omega)
  have q1' : wk2 d = nI p := q'.1.trans ((pk_un (by omega)).trans q1)
  have q2' : ph2 d = nI 2 := q'.2.trans ((pk_un (by omega)).trans pk_us)
  refine ⟨va2, sv2, upd wo2 h (sh_opv k r0 r1), sa2, wk2, upd ph2 d (nI 3), M1 + M2 + 3, c1, fun k hk => (c2 k (by omega)).trans (a2 k (by omega)), pk_us, fun k hk => (pk_un (by omega)).trans ((c4 k (by omega)).trans (a4 k hk)), fun k hk => ?_, c6, fun n post hw => ?_⟩
  · have z := a5 k (by omega)
    have z' := c5 k (by omega)
    exact ⟨z'.1.trans ((pk_un (by omega)).trans (z.1.trans (pk_un (by omega)))), (pk_un (by omega)).trans (z'.2.trans ((pk_un (by omega)).trans ((pk_un (by omega)).trans (z.2.trans ((pk_un (by omega)).trans (pk_un (by omega)))))))⟩
  · rw [show n + (M1 + M2 + 3) = n + 1 + M2 + 1 + M1 + 1 by omega]
    refine ys_rP (q := p) (j := 0) (c := p + 1) (h2 := h) (k := k) (va := va) (sv := sv) (by omega) (by omega) (by omega) (by omega) w1 w2 hk (by omega) (fun P hP => ys_nx2 (by omega) hk hk2 hk5 (ys_196_0 hP)) (Or.inr ⟨by omega, rfl⟩) (a7 (n + 1 + M2 + 1) post ?_)
    refine ys_rP (q := p) (j := 1) (c := p + 1 + T0) (h2 := h + 1) (k := k) (va := va1) (sv := sv1) (by omega) (by omega) (by omega) (by omega) q1 q2 hk (by omega) (fun P hP => ys_nx2 (by omega) hk hk2 hk5 (ys_196_1 (by omega) hs hP)) (Or.inr ⟨by omega, rfl⟩) (c7 (n + 1) post ?_)
    rw [← c3, ← a3, ← c4 h (by omega)] at hw
    exact ys_rD (q := p) (j := 2) (h2 := h + 1) (by omega) (by omega) (by omega) q1' q2' (fun P hP => ys_nx2 (by omega) hk hk2 hk5 (ys_196_2 hP)) (fun P hP => ys_dn2 (by omega) (by omega) hk hk2 hk5 hP) hw
theorem ys_YE_7 {p y y0 y1 T0 my : Nat} {ε o o0 o1 : Nat → Int32} {r0 r1 : Int32} (hp : p + 1 + T0 ≤ 2000) (hT0 : 1 ≤ T0) (hk : yb_kinds p = nI 7) (hv : yb_values p = nI my) (hmy : my < 4110) (hs : yb_span (p + 1) = nI T0) (Y0 : ys_YE yf_concepts yf_place yf_size yf_uses yf_of yf_result yb_kind yb_behind yb_length yb_holes yb_value yb_kinds yb_origin yb_values yb_parent yb_span yb_todo yb_within yb_under yb_stands yb_outer yb_from yb_left (p + 1) ε y o r0 y0 o0) (Y1 : ys_YE yf_concepts yf_place yf_size yf_uses yf_of yf_result yb_kind yb_behind yb_length yb_holes yb_value yb_kinds yb_origin yb_values yb_parent yb_span yb_todo yb_within yb_under yb_stands yb_outer yb_from yb_left (p + 1 + T0) (upd ε my r0) y0 o0 r1 y1 o1) : ys_YE yf_concepts yf_place yf_size yf_uses yf_of yf_result yb_kind yb_behind yb_length yb_holes yb_value yb_kinds yb_origin yb_values yb_parent yb_span yb_todo yb_within yb_under yb_stands yb_outer yb_from yb_left p ε y o r1 y1 o1 := by
  intro d h va sv wo sa wk ph hd hh hva w1 w2 ho
  obtain ⟨va1, sv1, wo1, sa1, wk1, ph1, M1, a1, a2, a3, a4, a5, a6, a7⟩ := Y0 (d + 1) h va sv wo sa (upd wk (d + 1) (nI (p + 1))) (upd (upd ph d (nI 1)) (d + 1) (nI 0)) (by omega) (by omega) hva pk_us pk_us ho
  have q := a5 d (by omega)
  have q1 : wk1 d = nI p := q.1.trans ((pk_un (by omega)).trans w1)
  have q2 : ph1 d = nI 1 := q.2.trans ((pk_un (by omega)).trans pk_us)
  obtain ⟨va2, sv2, wo2, sa2, wk2, ph2, M2, c1, c2, c3, c4, c5, c6, c7⟩ := Y1 (d + 1) (h + 1) (upd va1 my r0) (upd sv1 p (va1 my)) wo1 sa1 (upd wk1 (d + 1) (nI (p + 1 + T0))) (upd (upd ph1 d (nI 2)) (d + 1) (nI 0)) (by omega) (by omega) (fun m hm => by
    by_cases e : m = my
    · rw [e, pk_us, pk_us]
    · rw [pk_un e, pk_un e]; exact a1 m hm) pk_us pk_us a6
  have q' := c5 d (by omega)
  have q1' : wk2 d = nI p := q'.1.trans ((pk_un (by omega)).trans q1)
  have q2' : ph2 d = nI 2 := q'.2.trans ((pk_un (by omega)).trans pk_us)
  have qs : sv2 p = ε my := (c2 p (by omega)).trans (pk_us.trans (a1 my hmy))
  refine ⟨upd va2 my (sv2 p), sv2, upd wo2 h (wo2 (h + 1)), sa2, wk2, upd ph2 d (nI 3), M1 + M2 + 3, fun m hm => ?_, fun k hk => (c2 k (by omega)).trans ((pk_un (by omega)).trans (a2 k (by omega))), pk_us.trans c3, fun k hk => (pk_un (by omega)).trans ((c4 k (by omega)).trans (a4 k hk)), fun k hk => ?_, c6, fun n post hw => ?_⟩
  · by_cases e : m = my
    · rw [e, pk_us]; exact qs
    · rw [pk_un e, c1 m hm, pk_un e]
  · have z := a5 k (by omega)
    have z' := c5 k (by omega)
    exact ⟨z'.1.trans ((pk_un (by omega)).trans (z.1.trans (pk_un (by omega)))), (pk_un (by omega)).trans (z'.2.trans ((pk_un (by omega)).trans ((pk_un (by omega)).trans (z.2.trans ((pk_un (by omega)).trans (pk_un (by omega)))))))⟩
  · rw [show n + (M1 + M2 + 3) = n + 1 + M2 + 1 + M1 + 1 by omega]
    refine ys_rP (q := p) (j := 0) (c := p + 1) (h2 := h) (k := 7) (va := va) (sv := sv) (by omega) (by omega) (by omega) (by omega) w1 w2 hk (by omega) (fun P hP => ys_nx7 (by omega) hk (by omega) (fun _ => hP) (fun z => by omega) (fun z => by omega)) (Or.inr ⟨by omega, rfl⟩) (a7 (n + 1 + M2 + 1) post ?_)
    refine ys_rP (q := p) (j := 1) (c := p + 1 + T0) (h2 := h + 1) (k := 7) (va := upd va1 my r0) (sv := upd sv1 p (va1 my)) (by omega) (by omega) (by omega) (by omega) q1 q2 hk (by omega) (fun P hP => ys_nx7 (by omega) hk (by omega) (fun z => by omega) (fun z => by omega) (fun _ => ⟨h, T0, my, rfl, by omega, by omega, hs, hv, hmy, by rw [a3]; exact hP⟩)) (Or.inr ⟨by omega, rfl⟩) (c7 (n + 1) post ?_)
    exact ys_rD (q := p) (j := 2) (h2 := h + 1) (by omega) (by omega) (by omega) q1' q2' (fun P hP => ys_nx7 (by omega) hk (by omega) (fun z => by omega) (fun _ => hP) (fun z => by omega)) (fun P hP => ys_dn7 (by omega) (by omega) hk hv hmy hP) hw
theorem ys_YE_6 {p y y0 y1 T0 T1 c : Nat} {ε o o0 o1 : Nat → Int32} {r0 r1 : Int32} (hp : p + 1 + T0 + T1 ≤ 2000) (hT0 : 1 ≤ T0) (hk : yb_kinds p = nI 6) (hs : yb_span (p + 1) = nI T0) (hs1 : yb_span (p + 1 + T0) = nI T1) (ec : c = if r0 = 0 then p + 1 + T0 + T1 else p + 1 + T0) (Y0 : ys_YE yf_concepts yf_place yf_size yf_uses yf_of yf_result yb_kind yb_behind yb_length yb_holes yb_value yb_kinds yb_origin yb_values yb_parent yb_span yb_todo yb_within yb_under yb_stands yb_outer yb_from yb_left (p + 1) ε y o r0 y0 o0) (Y1 : ys_YE yf_concepts yf_place yf_size yf_uses yf_of yf_result yb_kind yb_behind yb_length yb_holes yb_value yb_kinds yb_origin yb_values yb_parent yb_span yb_todo yb_within yb_under yb_stands yb_outer yb_from yb_left c ε y0 o0 r1 y1 o1) : ys_YE yf_concepts yf_place yf_size yf_uses yf_of yf_result yb_kind yb_behind yb_length yb_holes yb_value yb_kinds yb_origin yb_values yb_parent yb_span yb_todo yb_within yb_under yb_stands yb_outer yb_from yb_left p ε y o r1 y1 o1 := by
  intro d h va sv wo sa wk ph hd hh hva w1 w2 ho
  have hc : p + 1 + T0 ≤ c ∧ c ≤ 2000 := by rw [ec]; split <;> omega
  obtain ⟨va1, sv1, wo1, sa1, wk1, ph1, M1, a1, a2, a3, a4, a5, a6, a7⟩ := Y0 (d + 1) h va sv wo sa (upd wk (d + 1) (nI (p + 1))) (upd (upd ph d (nI 1)) (d + 1) (nI 0)) (by omega) (by omega) hva pk_us pk_us ho
  have q := a5 d (by omega)
  have q1 : wk1 d = nI p := q.1.trans ((pk_un (by omega)).trans w1)
  have q2 : ph1 d = nI 1 := q.2.trans ((pk_un (by omega)).trans pk_us)
  obtain ⟨va2, sv2, wo2, sa2, wk2, ph2, M2, c1, c2, c3, c4, c5, c6, c7⟩ := Y1 (d + 1) h va1 sv1 wo1 sa1 (upd wk1 (d + 1) (nI c)) (upd (upd ph1 d (nI 2)) (d + 1) (nI 0)) (by omega) (by omega) a1 pk_us pk_us a6
  have q' := c5 d (by omega)
  have q1' : wk2 d = nI p := q'.1.trans ((pk_un (by omega)).trans q1)
  have q2' : ph2 d = nI 2 := q'.2.trans ((pk_un (by omega)).trans pk_us)
  refine ⟨va2, sv2, wo2, sa2, wk2, upd ph2 d (nI 3), M1 + M2 + 3, c1, fun k hk => (c2 k (by omega)).trans (a2 k (by omega)), c3, fun k hk => (c4 k (by omega)).trans (a4 k hk), fun k hk => ?_, c6, fun n post hw => ?_⟩
  · have z := a5 k (by omega)
    have z' := c5 k (by omega)
    exact ⟨z'.1.trans ((pk_un (by omega)).trans (z.1.trans (pk_un (by omega)))), (pk_un (by omega)).trans (z'.2.trans ((pk_un (by omega)).trans ((pk_un (by omega)).trans (z.2.trans ((pk_un (by omega)).trans (pk_un (by omega)))))))⟩
  · rw [show n + (M1 + M2 + 3) = n + 1 + M2 + 1 + M1 + 1 by omega]
    refine ys_rP (q := p) (j := 0) (c := p + 1) (h2 := h) (k := 6) (va := va) (sv := sv) (by omega) (by omega) (by omega) (by omega) w1 w2 hk (by omega) (fun P hP => ys_nx6 (by omega) hk (by omega) (fun _ => hP) (fun z => by omega) (fun z => by omega)) (Or.inr ⟨by omega, rfl⟩) (a7 (n + 1 + M2 + 1) post ?_)
    refine ys_rP (q := p) (j := 1) (c := c) (h := h + 1) (h2 := h) (k := 6) (va := va1) (sv := sv1) (by omega) (by omega) (by omega) (by omega) q1 q2 hk (by omega) (fun P hP => ys_nx6 (by omega) hk (by omega) (fun z => by omega) (fun z => by omega) (fun _ => ⟨h, T0, T1, rfl, by omega, by omega, hs, fun z => ⟨by omega, hs1, ?_⟩, fun z => ?_⟩)) (Or.inl ⟨rfl, rfl, rfl⟩) (c7 (n + 1) post ?_)
    · rw [a3] at z
      rw [if_pos z] at ec
      rw [← ec]; exact hP
    · rw [a3] at z
      rw [if_neg z] at ec
      rw [← ec]; exact hP
    · exact ys_rD (q := p) (j := 2) (h2 := h + 1) (by omega) (by omega) (by omega) q1' q2' (fun P hP => ys_nx6 (by omega) hk (by omega) (fun z => by omega) (fun _ => hP) (fun z => by omega)) (fun P hP => ys_dn6 (by omega) (by omega) hk hP) hw
end YR2
end
section
/-! both runs make the same of an expression -/
section EVQ
variable {g : sh_G} {cc hi s N U : Nat}
theorem sh_Rc_num {i0 : Nat} {i : Nat} {r : List (Nat × Nat)} {p u a : Nat} (h : sh_Rc g i0 i r p u a) : ∀ e, e ∈ r → e.2 < u := by
  refine h (fun i r p u a => ∀ e, e ∈ r → e.2 < u) (fun i r p u a hS => ⟨fun _ e he => ?_, fun _ i' u' r' v e1 _ _ e he => ?_, fun _ _ => ⟨trivial, fun j _ e he => ?_⟩⟩) (fun e he => by cases he)
  · rcases List.mem_cons.mp he with z | z
    · rw [z]; exact Nat.lt_succ_self u
    · have := hS e z; omega
  · rw [e1] at hS
    exact hS e (List.mem_cons_of_mem _ he)
  · have := hS e he; omega
theorem sh_my (P : sh_Pg g cc hi) (hs : s < 4) {i : Nat} {r : List (Nat × Nat)} {u : Nat} (G : sh_Gd g cc hi s i r) (hk : sh_tk g i = 1 ∨ sh_tk g i = 7) (hnum : ∀ e, e ∈ r → e.2 < u) (hu : u ≤ 2000) : ∃ my, my < 4110 ∧ sh_vl g i r = nI my := by
  have N' := sh_Gd_n P hs G
  have n10 : sh_tk g i ≠ 10 := by rcases hk with z | z <;> rw [z] <;> decide
  rcases N'.1.2.2.2.2.2.1 hk with ⟨v, hv, hn⟩ | ⟨hr6, hn⟩
  · refine ⟨v, by omega, ?_⟩
    cases r with
    | nil => exact hn
    | cons y r =>
      show (if sh_tk g i = 10 then _ else if _ then _ else _) = _
      rw [if_neg n10, if_neg (fun z => by rw [hn] at z; exact nI_pos (by omega) z.1)]
      exact hn
  · cases r with
    | nil => exfalso; have e0 : sh_rw g s [] = 6 + s := rfl; rw [e0] at hr6; omega
    | cons y r =>
      obtain ⟨i', u'⟩ := y
      have hu' : u' < u := hnum (i', u') List.mem_cons_self
      have neg : sh_nm g i < 0 := by rcases hn with hn | hn <;> (rw [hn]; decide)
      have ev : sh_vl g i ((i', u') :: r) = (99 + 2 * nI u') - sh_nm g i := by
        show (if sh_tk g i = 10 then _ else if _ then _ else _) = _
        rw [if_neg n10, if_pos ⟨neg, hk⟩]
      rcases hn with hn | hn
      · exact ⟨100 + 2 * u', by omega, ev.trans (sh_neg (by omega) (Or.inl ⟨hn, rfl⟩)).1⟩
      · exact ⟨101 + 2 * u', by omega, ev.trans (sh_neg (by omega) (Or.inr ⟨hn, rfl⟩)).1⟩
theorem sh_sp (P : sh_Pg g cc hi) (hs : s < 4) {kds vls ogn prt sp : Nat → Int32} {S : Nat → List (Nat × Nat) → Nat → Nat → Nat → Prop} (H : sh_Cl g cc hi s N U (sh_Ff g s kds vls ogn prt sp) S) {i : Nat} {r : List (Nat × Nat)} {p u a : Nat} (h : S i r p u a) : sp p = nI (sh_eT g i r) := by
  obtain ⟨i', r', u', z1, z2, z3, z4, z5⟩ := sh_settles P hs H _ _ _ _ _ h
  rw [z4]
  exact ((H _ _ _ _ _ z1).2.2.2 z2 z3).1.2.2.2.2
end EVQ
section EVX
variable {xf_concepts xf_drafted xf_place xf_frames xf_node xf_frame xf_above xf_depth xf_top xf_lets xf_says xf_result : Int32} {xa_tok xa_end xa_num xa_length xa_holes xa_draft xa_draftNum xa_copies xa_tokens xa_replaced xa_deep xa_lies xa_ofKind xa_caller xa_number xa_size0 xa_size1 xa_size2 xa_uses0 xa_uses1 xa_uses2 xa_useAt xa_begun xa_workNode xa_stage xa_workFrame xa_values xa_bound xa_boundTo xa_output xa_given : Nat → Int32} {g : sh_G} {cc hi s : Nat}
theorem sh_eval (P : sh_Pg g cc hi) (hs : s < 4) (h1 : 1 ≤ sh_ln g (6 + s)) (hT : sh_T g (sh_ro s) ≤ 2000) (hR : sh_R g (sh_ro s) ≤ 2000) (XP : xs_XP g hi xa_tok xa_end xa_num xa_copies xa_tokens xa_replaced xa_deep xa_lies xa_ofKind) (hh : ∀ c, c < hi → xa_holes c = nI (sh_ho g c)) :
    ∀ i r p u a, sh_Rc g (sh_ro s) i r p u a → ∀ (ε : Nat → Int32) (y : Nat) (o : Nat → Int32), y ≤ p → ∃ (rv : Int32) (y' : Nat) (o' : Nat → Int32), y' ≤ y + sh_eT g i r ∧ xs_XE xf_concepts xf_drafted xf_place xf_above xf_result xa_tok xa_end xa_num xa_length xa_holes xa_draft xa_draftNum xa_copies xa_tokens xa_replaced xa_deep xa_lies xa_ofKind xa_given g s i r p u ε y o rv y' o' ∧
      ∀ (yf_concepts yf_place yf_size yf_uses yf_of yf_result : Int32) (yb_kind yb_behind yb_length yb_holes yb_value yb_kinds yb_origin yb_values yb_parent yb_span yb_todo yb_within yb_under yb_stands yb_outer yb_from yb_left : Nat → Int32) S, sh_Cl g cc hi s (sh_T g (sh_ro s)) (sh_R g (sh_ro s)) (sh_Ff g s yb_kinds yb_values yb_origin yb_parent yb_span) S → S (sh_ro s) [] 0 0 0 → ys_YE yf_concepts yf_place yf_size yf_uses yf_of yf_result yb_kind yb_behind yb_length yb_holes yb_value yb_kinds yb_origin yb_values yb_parent yb_span yb_todo yb_within yb_under yb_stands yb_outer yb_from yb_left p ε y o rv y' o' := by
  have H := sh_Rc_Cl P hs h1
  refine sh_ind P hs H (fun i r p u a => ∀ (ε : Nat → Int32) (y : Nat) (o : Nat → Int32), y ≤ p → ∃ (rv : Int32) (y' : Nat) (o' : Nat → Int32), y' ≤ y + sh_eT g i r ∧ xs_XE xf_concepts xf_drafted xf_place xf_above xf_result xa_tok xa_end xa_num xa_length xa_holes xa_draft xa_draftNum xa_copies xa_tokens xa_replaced xa_deep xa_lies xa_ofKind xa_given g s i r p u ε y o rv y' o' ∧
      ∀ (yf_concepts yf_place yf_size yf_uses yf_of yf_result : Int32) (yb_kind yb_behind yb_length yb_holes yb_value yb_kinds yb_origin yb_values yb_parent yb_span yb_todo yb_within yb_under yb_stands yb_outer yb_from yb_left : Nat → Int32) S, sh_Cl g cc hi s (sh_T g (sh_ro s)) (sh_R g (sh_ro s)) (sh_Ff g s yb_kinds yb_values yb_origin yb_parent yb_span) S → S (sh_ro s) [] 0 0 0 → ys_YE yf_concepts yf_place yf_size yf_uses yf_of yf_result yb_kind yb_behind yb_length yb_holes yb_value yb_kinds yb_origin yb_values yb_parent yb_span yb_todo yb_within yb_under yb_stands yb_outer yb_from yb_left p ε y o rv y' o') ?_ ?_ ?_
  · intro i r p u a hS hk IH ε y o hy
    have OK := (H _ _ _ _ _ hS).1
    obtain ⟨rv, y', o', b1, b2, b3⟩ := IH ε y o hy
    refine ⟨rv, y', o', by rw [(sh_gu P hs OK.1 hk u).2.1]; exact b1, xs_XE_U P hs hR hT XP hh OK hk b2, b3⟩
  · intro i i' u' r' v p u a hS hk hn hv hv' G5 h16 c1 hS' IH ε y o hy
    have OK := (H _ _ _ _ _ hS).1
    obtain ⟨i3, u3, r3, v3, e3, hv3, hv3', hn3, h13, c13, h53, G', eT, eR, _, _⟩ := sh_gh P hs OK.1 hk
    cases e3
    have : v = v3 := (nI_eq (by omega) (by omega)).mp (hn.symm.trans hn3)
    subst this
    obtain ⟨rv, y', o', b1, b2, b3⟩ := IH ε y o hy
    exact ⟨rv, y', o', by rw [eT]; exact b1, xs_XE_H P hs hR XP OK G5 hk hn hv hv' eR b2, b3⟩
  · intro i r p u a hS hk h9 IH ε y o hy
    have OK := (H _ _ _ _ _ hS).1
    have G := OK.1
    have N' := sh_Gd_n P hs G
    have w := sh_gp P hs G hk h9
    have c1 := OK.2.1
    have c2 := OK.2.2.1
    have kids := ((H _ _ _ _ _ hS).2.2.2 hk h9).2
    have pk := fun j (hj : j < sh_an g i) => sh_pos P hs _ _ _ (Nat.lt_succ_self _) (w.1 j hj)
    have h10 : sh_tk g i ≤ 10 := by have := N'.1.2.1; omega
    have wT := w.2.1
    by_cases leaf : sh_tk g i = 0 ∨ sh_tk g i = 1 ∨ sh_tk g i = 10
    · by_cases hv : sh_tk g i = 1
      · obtain ⟨my, m1, m2⟩ := sh_my P hs G (Or.inl hv) (sh_Rc_num hS) (by omega)
        refine ⟨ε my, y, o, by omega, xs_XE_0 P hs hR hT XP OK leaf ⟨fun _ my' h5 em => ?_, fun z => absurd hv z⟩, ?_⟩
        · have : my' = my := (nI_eq (by omega) (by omega)).mp (em.symm.trans m2)
          rw [this]
        · intro yf_concepts yf_place yf_size yf_uses yf_of yf_result yb_kind yb_behind yb_length yb_holes yb_value yb_kinds yb_origin yb_values yb_parent yb_span yb_todo yb_within yb_under yb_stands yb_outer yb_from yb_left S Cl h0
          have f := ((Cl _ _ _ _ _ (sh_Rc_sub Cl h0 hS)).2.2.2 hk h9).1
          refine ys_YE_0 (by omega) (Or.inr ⟨?_, my, ?_, m1, rfl⟩)
          · rw [f.1, show sh_kd g i = 1 by unfold sh_kd; rw [if_neg (by omega), hv]]
          · rw [f.2.1]; exact m2
      · refine ⟨sh_vl g i r, y, o, by omega, xs_XE_0 P hs hR hT XP OK leaf ⟨fun z => absurd z hv, fun _ => rfl⟩, ?_⟩
        intro yf_concepts yf_place yf_size yf_uses yf_of yf_result yb_kind yb_behind yb_length yb_holes yb_value yb_kinds yb_origin yb_values yb_parent yb_span yb_todo yb_within yb_under yb_stands yb_outer yb_from yb_left S Cl h0
        have f := ((Cl _ _ _ _ _ (sh_Rc_sub Cl h0 hS)).2.2.2 hk h9).1
        refine ys_YE_0 (by omega) (Or.inl ⟨?_, f.2.1.symm⟩)
        rw [f.1, show sh_kd g i = 0 by unfold sh_kd; split <;> omega]
    · have ekd : sh_kd g i = sh_tk g i := by unfold sh_kd; rw [if_neg (by omega)]
      by_cases k8 : sh_tk g i = 8
      · have an1 : sh_an g i = 1 := by unfold sh_an; exact sh_ar_8 k8
        rw [an1, sh_sm_f1] at wT
        obtain ⟨r0, y0, o0, b1, b2, b3⟩ := IH 0 (by omega) ε y o (by omega)
        refine ⟨r0, y0 + 1, sh_out y0 o0 r0, by omega, xs_XE_8 P hs hR hT XP OK k8 (by omega) b2, ?_⟩
        intro yf_concepts yf_place yf_size yf_uses yf_of yf_result yb_kind yb_behind yb_length yb_holes yb_value yb_kinds yb_origin yb_values yb_parent yb_span yb_todo yb_within yb_under yb_stands yb_outer yb_from yb_left S Cl h0
        have f := ((Cl _ _ _ _ _ (sh_Rc_sub Cl h0 hS)).2.2.2 hk h9).1
        have := pk 0 (by omega)
        exact ys_YE_8 (by omega) (by rw [f.1, ekd, k8]) (by omega) (b3 yf_concepts yf_place yf_size yf_uses yf_of yf_result yb_kind yb_behind yb_length yb_holes yb_value yb_kinds yb_origin yb_values yb_parent yb_span yb_todo yb_within yb_under yb_stands yb_outer yb_from yb_left S Cl h0)
      · by_cases k6 : sh_tk g i = 6
        · have an3 : sh_an g i = 3 := by unfold sh_an; exact sh_ar_6 k6
          rw [an3, sh_sm_3] at wT
          have p0 := pk 0 (by omega)
          have p1 := pk 1 (by omega)
          have p2 := pk 2 (by omega)
          obtain ⟨r0, y0, o0, b1, b2, b3⟩ := IH 0 (by omega) ε y o (by omega)
          obtain ⟨j, ej⟩ : ∃ j, j = if r0 = 0 then 2 else 1 := ⟨_, rfl⟩
          have hj : j = 1 ∨ j = 2 := by rw [ej]; split <;> omega
          have s1 : sh_sm 1 (fun k => sh_eT g (sh_op g i k) r) = sh_eT g (sh_op g i 0) r := sh_sm_f1
          have s2 : sh_sm 2 (fun k => sh_eT g (sh_op g i k) r) = sh_eT g (sh_op g i 0) r + sh_eT g (sh_op g i 1) r := sh_sm_f2
          obtain ⟨r1, y1, o1, d1, d2, d3⟩ := IH j (by omega) ε y0 o0 (by rcases hj with rfl | rfl <;> omega)
          refine ⟨r1, y1, o1, by rcases hj with rfl | rfl <;> omega, xs_XE_6 P hs hR hT XP OK k6 ej rfl rfl b2 d2, ?_⟩
          intro yf_concepts yf_place yf_size yf_uses yf_of yf_result yb_kind yb_behind yb_length yb_holes yb_value yb_kinds yb_origin yb_values yb_parent yb_span yb_todo yb_within yb_under yb_stands yb_outer yb_from yb_left S Cl h0
          have f := ((Cl _ _ _ _ _ (sh_Rc_sub Cl h0 hS)).2.2.2 hk h9).1
          have sp0 := sh_sp P hs Cl (sh_Rc_sub Cl h0 (kids 0 (by omega)))
          have sp1 := sh_sp P hs Cl (sh_Rc_sub Cl h0 (kids 1 (by omega)))
          rw [s1] at sp1
          refine ys_YE_6 (T0 := sh_eT g (sh_op g i 0) r) (T1 := sh_eT g (sh_op g i 1) r) (c := p + 1 + sh_sm j (fun k => sh_eT g (sh_op g i k) r)) (by omega) p0 (by rw [f.1, ekd, k6]) sp0 sp1 ?_ (b3 yf_concepts yf_place yf_size yf_uses yf_of yf_result yb_kind yb_behind yb_length yb_holes yb_value yb_kinds yb_origin yb_values yb_parent yb_span yb_todo yb_within yb_under yb_stands yb_outer yb_from yb_left S Cl h0) (d3 yf_concepts yf_place yf_size yf_uses yf_of yf_result yb_kind yb_behind yb_length yb_holes yb_value yb_kinds yb_origin yb_values yb_parent yb_span yb_todo yb_within yb_under yb_stands yb_outer yb_from yb_left S Cl h0)
          rw [ej]
          by_cases z : r0 = 0
          · rw [if_pos z, if_pos z, s2]; omega
          · rw [if_neg z, if_neg z, s1]
        · have an2 : sh_an g i = 2 := by unfold sh_an; exact sh_ar_2 (by omega) (by omega) (by omega) (by omega)
          rw [an2, sh_sm_f2] at wT
          have p0 := pk 0 (by omega)
          have p1 := pk 1 (by omega)
          have s1 : sh_sm 1 (fun k => sh_eT g (sh_op g i k) r) = sh_eT g (sh_op g i 0) r := sh_sm_f1
          have s1R : sh_sm 1 (fun k => sh_eR g (sh_op g i k) r) = sh_eR g (sh_op g i 0) r := sh_sm_f1
          obtain ⟨r0, y0, o0, b1, b2, b3⟩ := IH 0 (by omega) ε y o (by omega)
          by_cases k7 : sh_tk g i = 7
          · obtain ⟨my, m1, m2⟩ := sh_my P hs G (Or.inr k7) (sh_Rc_num hS) (by omega)
            obtain ⟨r1, y1, o1, d1, d2, d3⟩ := IH 1 (by omega) (upd ε my r0) y0 o0 (by omega)
            rw [s1] at d2 d3
            rw [s1R] at d2
            refine ⟨r1, y1, o1, by omega, xs_XE_7 P hs hR hT XP OK k7 m2 (by omega) b2 d2, ?_⟩
            intro yf_concepts yf_place yf_size yf_uses yf_of yf_result yb_kind yb_behind yb_length yb_holes yb_value yb_kinds yb_origin yb_values yb_parent yb_span yb_todo yb_within yb_under yb_stands yb_outer yb_from yb_left S Cl h0
            have f := ((Cl _ _ _ _ _ (sh_Rc_sub Cl h0 hS)).2.2.2 hk h9).1
            have sp0 := sh_sp P hs Cl (sh_Rc_sub Cl h0 (kids 0 (by omega)))
            exact ys_YE_7 (T0 := sh_eT g (sh_op g i 0) r) (my := my) (by omega) p0 (by rw [f.1, ekd, k7]) (by rw [f.2.1]; exact m2) m1 sp0 (b3 yf_concepts yf_place yf_size yf_uses yf_of yf_result yb_kind yb_behind yb_length yb_holes yb_value yb_kinds yb_origin yb_values yb_parent yb_span yb_todo yb_within yb_under yb_stands yb_outer yb_from yb_left S Cl h0) (d3 yf_concepts yf_place yf_size yf_uses yf_of yf_result yb_kind yb_behind yb_length yb_holes yb_value yb_kinds yb_origin yb_values yb_parent yb_span yb_todo yb_within yb_under yb_stands yb_outer yb_from yb_left S Cl h0)
          · obtain ⟨r1, y1, o1, d1, d2, d3⟩ := IH 1 (by omega) ε y0 o0 (by omega)
            rw [s1] at d2 d3
            rw [s1R] at d2
            refine ⟨sh_opv (sh_tk g i) r0 r1, y1, o1, by omega, xs_XE_2 P hs hR hT XP OK (by omega) (by omega) b2 d2, ?_⟩
            intro yf_concepts yf_place yf_size yf_uses yf_of yf_result yb_kind yb_behind yb_length yb_holes yb_value yb_kinds yb_origin yb_values yb_parent yb_span yb_todo yb_within yb_under yb_stands yb_outer yb_from yb_left S Cl h0
            have f := ((Cl _ _ _ _ _ (sh_Rc_sub Cl h0 hS)).2.2.2 hk h9).1
            have sp0 := sh_sp P hs Cl (sh_Rc_sub Cl h0 (kids 0 (by omega)))
            exact ys_YE_2 (T0 := sh_eT g (sh_op g i 0) r) (k := sh_tk g i) (by omega) p0 (by rw [f.1, ekd]) (by omega) (by omega) sp0 (b3 yf_concepts yf_place yf_size yf_uses yf_of yf_result yb_kind yb_behind yb_length yb_holes yb_value yb_kinds yb_origin yb_values yb_parent yb_span yb_todo yb_within yb_under yb_stands yb_outer yb_from yb_left S Cl h0) (d3 yf_concepts yf_place yf_size yf_uses yf_of yf_result yb_kind yb_behind yb_length yb_holes yb_value yb_kinds yb_origin yb_values yb_parent yb_span yb_todo yb_within yb_under yb_stands yb_outer yb_from yb_left S Cl h0)
end EVX
end
section
/-! run -/
def sh_e0 (a b c : Int32) : Nat → Int32 := fun m => if m = 0 then a else if m = 1 then b else if m = 2 then c else 0
section YRN
variable {yf_concepts yf_place yf_size yf_uses yf_of yf_result yf_says : Int32} {yb_kind yb_behind yb_length yb_holes yb_value yb_kinds yb_origin yb_values yb_parent yb_span yb_todo yb_within yb_under yb_stands yb_outer yb_from yb_left yb_variable yb_saved yb_worth yb_said yb_work yb_phase : Nat → Int32}
theorem ys_r51 {post : Int32 → SY → Prop} {a b c : Int32} {M : Nat} (K : wY_run_123 post M (nI 1) (nI 0) yf_concepts yf_place yf_size yf_uses yf_of yf_result yf_says yb_kind yb_behind yb_length yb_holes yb_value yb_kinds yb_origin yb_values yb_parent yb_span yb_todo yb_within yb_under yb_stands yb_outer yb_from yb_left (sh_blk yb_variable 0 4110 (sh_e0 a b c)) yb_saved yb_worth yb_said (upd yb_work 0 (nI 0)) (upd yb_phase 0 (nI 0))) :
    ∀ d q, q + d = 4110 → wY_run_51 post a b c yf_concepts yf_place yf_size yf_uses yf_of yf_result yf_says (d + 1) (nI q) yb_kind yb_behind yb_length yb_holes yb_value yb_kinds yb_origin yb_values yb_parent yb_span yb_todo yb_within yb_under yb_stands yb_outer yb_from yb_left (sh_blk yb_variable 0 q (sh_e0 a b c)) yb_saved yb_worth yb_said yb_work yb_phase := by
  intro d
  induction d with
  | zero =>
    intro q hq; have e0 : q = 4110 := by omega
    subst e0
    refine br_t (nI_le (Nat.le_refl _) (by omega)) (nm_r (e' := upd yb_work 0 (nI 0)) (by rw [show vp_nar .short (0 : Int32) = nI 0 from sh_n16' (n := 0) (by omega)]) (nm_r (e' := upd yb_phase 0 (nI 0)) (by rw [show vp_nar .byte (0 : Int32) = nI 0 from sh_n8' (n := 0) (by omega)]) ⟨M, K⟩))
  | succ d ih =>
    intro q hq
    have nx := ih (q + 1) (by omega)
    rw [← sh_blk_s yb_variable, Nat.zero_add] at nx
    have iq : vp_in (nI q) 4110 := vp_in_nI (by omega) (by omega)
    have u1 : ∀ x, upd (sh_blk yb_variable 0 q (sh_e0 a b c)) (nI q).toNatClampNeg x = upd (sh_blk yb_variable 0 q (sh_e0 a b c)) q x := fun x => by rw [nI_clamp (by omega)]
    refine br_f (nI_ge (b := 4110) (by omega) (by omega)) (pk_eq q 0 (fun h => ⟨iq, nm_r (u1 _) (nm_r (nI_1 q) ?_)⟩) (fun h0 => pk_eq q 1 (fun h => ⟨iq, nm_r (u1 _) (nm_r (nI_1 q) ?_)⟩) (fun h1 => pk_eq q 2 (fun h => ⟨iq, nm_r (u1 _) (nm_r (nI_1 q) ?_)⟩) (fun h2 => ⟨iq, nm_r (u1 _) (nm_r (nI_1 q) ?_)⟩))))
    · rw [show sh_e0 a b c q = a from if_pos h] at nx; exact nx
    · rw [show sh_e0 a b c q = b by unfold sh_e0; rw [if_neg h0, if_pos h]] at nx; exact nx
    · rw [show sh_e0 a b c q = c by unfold sh_e0; rw [if_neg h0, if_neg h1, if_pos h]] at nx; exact nx
    · rw [show sh_e0 a b c q = 0 by unfold sh_e0; rw [if_neg h0, if_neg h1, if_neg h2]] at nx; exact nx
end YRN
theorem xs_En_0 {a b c : Int32} {bd bt gv : Nat → Int32} {φ : Nat → Nat} (h0 : gv 0 = a) (h1 : gv 1 = b) (h2 : gv 2 = c) : xs_En (sh_e0 a b c) 0 φ 0 bd bt gv 0 := by
  refine ⟨fun v hv => ?_, fun q b hq => by omega, fun j hj => by omega, fun m hm => ?_, fun q hq => by omega, fun q q' hq => by omega⟩
  · show (if 3 ≤ nI v then 0 else gv (nI v).toNatClampNeg) = sh_e0 a b c v
    unfold sh_e0
    by_cases h3 : 3 ≤ v
    · have q : (3 : Int32) ≤ nI v := nI_le (a := 3) h3 (by omega)
      rw [if_pos q, if_neg (by omega), if_neg (by omega), if_neg (by omega)]
    · have q : ¬ (3 : Int32) ≤ nI v := nI_ge (b := 3) (a := v) (by omega) (by omega)
      rw [if_neg q, nI_clamp (by omega)]
      rcases (by omega : v = 0 ∨ v = 1 ∨ v = 2) with rfl | rfl | rfl
      · rw [if_pos rfl]; exact h0
      · rw [if_neg (by omega), if_pos rfl]; exact h1
      · rw [if_neg (by omega), if_neg (by omega), if_pos rfl]; exact h2
  · unfold sh_e0
    rw [if_neg (by omega), if_neg (by omega), if_neg (by omega)]
theorem i_vc_run {k : Nat} {u : SX} {v : SY} (I : i_Rel k u v) (hk : k + 5 ≤ 2560) (v1 : Int32) (v2 : Int32) (v3 : Int32) (v4 : Int32) : wpX_run (fun r u' => wpY_run (fun r' v' => r' = r ∧ i_Rel (k + 5) u' v') v v1 v2 v3 v4) u v1 v2 v3 v4 := by
  refine zz_el (P := fun u v => wpX_run (fun r u' => wpY_run (fun r' v' => r' = r ∧ i_Rel (k + 5) u' v') v v1 v2 v3 v4) u v1 v2 v3 v4) ?_ I
  intro xf_concepts xf_drafted xf_place xf_frames xf_node xf_frame xf_above xf_depth xf_top xf_lets xf_says xf_result xa_tok xa_end xa_num xa_length xa_holes xa_draft xa_draftNum xa_copies xa_tokens xa_replaced xa_deep xa_lies xa_ofKind xa_caller xa_number xa_size0 xa_size1 xa_size2 xa_uses0 xa_uses1 xa_uses2 xa_useAt xa_begun xa_workNode xa_stage xa_workFrame xa_values xa_bound xa_boundTo xa_output xa_given yf_concepts yf_place yf_size yf_uses yf_of yf_result yf_says yb_kind yb_behind yb_length yb_holes yb_value yb_kinds yb_origin yb_values yb_parent yb_span yb_todo yb_within yb_under yb_stands yb_outer yb_from yb_left yb_variable yb_saved yb_worth yb_said yb_work yb_phase R
  have R' := R
  obtain ⟨g, cc, hi, d, dk, dv, sy, P, hc, hl, hh, hd, XP, YP, Ca, hr⟩ := R'
  have hlx : ∀ r, r < 10 → xa_length r = nI (sh_ln g r) := fun r h => (hl r h).1
  unfold wpX_run
  rcases pk_ix v1 (n := 4) (by omega) with h | h | ⟨s, hs, rfl⟩
  · refine xs_oB (Or.inl h) (br_t rfl ?_)
    unfold wpY_run
    exact ys_oB (Or.inl h) (br_f (by decide) ⟨rfl, R⟩)
  · refine xs_oB (Or.inr h) (br_t rfl ?_)
    unfold wpY_run
    exact ys_oB (Or.inr h) (br_f (by decide) ⟨rfl, R⟩)
  · have hly := (hl (6 + s) (by omega)).2
    have h24 : sh_ln g (6 + s) ≤ 24 := P.2.2.2.2.1 s hs
    have e6 : (6 : Int32) + nI s = nI (6 + s) := nI_add 6 s
    have i6 : vp_in ((6 : Int32) + nI s) 11 := by rw [e6]; exact vp_in_nI (by omega) (by omega)
    have c6 : yb_length ((6 : Int32) + nI s).toNatClampNeg = nI (sh_ln g (6 + s)) := by rw [e6, nI_clamp (by omega)]; exact hly
    refine xs_o (g := g) P XP hlx hs (fun h0 => br_f (by decide) (br_t rfl ?_)) (fun h1 hL => br_f (by decide) (br_f (by decide) (br_t rfl ?_))) (fun h1 hT hR => br_f (by decide) (br_f (by decide) (br_f (by decide) ?_)))
    · unfold wpY_run
      refine ys_oG hs (by omega) rfl (br_t rfl ⟨i6, br_t ?_ ⟨rfl, R⟩⟩)
      rw [c6, h0]; rfl
    · unfold wpY_run
      refine ys_oG hs (by omega) rfl (br_t rfl ⟨i6, br_f ?_ (ys_expanded (g := g) P YP hs hly Ca (fun r z v kds ogn vls prt sp td wi un st ou fr E => br_t (sh_Ex_L E h1 hL) ⟨rfl, ?_⟩))⟩)
      · rw [c6]; exact nI_ne0 (by omega) (by omega)
      · exact ⟨g, cc, hi, d, dk, dv, 0, P, hc, hl, hh, hd, XP, YP, Or.inr ⟨s, r, hs, rfl, E⟩, rfl, rfl, rfl, by omega, fun k _ z => by omega⟩
    · refine nm_e (nm_e (nm_e ?_))
      have er := xs_rofs hs
      obtain ⟨rv, y', o', b1, b2, b3⟩ := sh_eval (xf_concepts := xf_concepts) (xf_drafted := xf_drafted) (xf_place := xf_place) (xf_above := xf_above) (xf_result := 0) (xa_tok := xa_tok) (xa_end := xa_end) (xa_num := xa_num) (xa_length := xa_length) (xa_holes := xa_holes) (xa_draft := xa_draft) (xa_draftNum := xa_draftNum) (xa_copies := xa_copies) (xa_tokens := xa_tokens) (xa_replaced := xa_replaced) (xa_deep := xa_deep) (xa_lies := xa_lies) (xa_ofKind := xa_ofKind) (xa_given := upd (upd (upd xa_given 0 v2) 1 v3) 2 v4) P hs h1 hT hR XP (fun c hc' => (hh c (by have := P.2.1; omega)).1) (sh_ro s) [] 0 0 0 sh_Rc_0 (sh_e0 v2 v3 v4) 0 (fun _ => 0) (Nat.le_refl _)
      rw [show sh_eT g (sh_ro s) [] = sh_T g (sh_ro s) from sh_ev_n g _ _] at b1
      obtain ⟨F', φ', fr', nd, f', sc', M, a1, a2, a3, a4, a5, a6, a7, a8, a9⟩ := b2 0 (fun _ => 0) (-1) (xa_caller, xa_number, xa_size0, xa_size1, xa_size2, xa_uses0, xa_uses1, xa_uses2, xa_useAt, xa_begun) 0 0 0 0 (xa_workNode, xa_stage, xa_workFrame, xa_values, xa_bound, xa_boundTo, xa_output) (Nat.le_refl _) rfl (xs_En_0 (by rw [pk_un (by omega), pk_un (by omega), pk_us]) (by rw [pk_un (by omega), pk_us]) pk_us) (Nat.le_refl _) (Nat.le_refl _) (Nat.le_refl _) (fun k _ z => by omega)
      have fin : wX_run_93 (fun r u' => wpY_run (fun r' v' => r' = r ∧ i_Rel (k + 5) u' v') (yf_concepts, yf_place, yf_size, yf_uses, yf_of, yf_result, yf_says, yb_kind, yb_behind, yb_length, yb_holes, yb_value, yb_kinds, yb_origin, yb_values, yb_parent, yb_span, yb_todo, yb_within, yb_under, yb_stands, yb_outer, yb_from, yb_left, yb_variable, yb_saved, yb_worth, yb_said, yb_work, yb_phase) (nI s) v2 v3 v4) 1 xf_concepts xf_drafted xf_place (nI F') nd f' xf_above (nI 0) (nI 1) (nI 0) (nI y') 0 xa_tok xa_end xa_num xa_length xa_holes xa_draft xa_draftNum xa_copies xa_tokens xa_replaced xa_deep xa_lies xa_ofKind fr'.1 fr'.2.1 fr'.2.2.1 fr'.2.2.2.1 fr'.2.2.2.2.1 fr'.2.2.2.2.2.1 fr'.2.2.2.2.2.2.1 fr'.2.2.2.2.2.2.2.1 fr'.2.2.2.2.2.2.2.2.1 fr'.2.2.2.2.2.2.2.2.2 sc'.1 sc'.2.1 sc'.2.2.1 sc'.2.2.2.1 sc'.2.2.2.2.1 sc'.2.2.2.2.2.1 sc'.2.2.2.2.2.2 (upd (upd (upd xa_given 0 v2) 1 v3) 2 v4) := by
        refine br_t (by decide) (nm_r a7 ?_)
        unfold wpY_run
        refine ys_oG hs (by omega) rfl (br_t rfl ⟨i6, br_f (by rw [c6]; exact nI_ne0 (by omega) (by omega)) (ys_expanded (g := g) P YP hs hly Ca (fun r z v kds ogn vls prt sp td wi un st ou fr E => ?_))⟩)
        obtain ⟨q1, q2, q3, S, Cl, hS⟩ := sh_Ex_1 E h1 hT hR
        refine br_f (by rw [q1]; decide) ⟨4111, ?_⟩
        have YE := b3 yf_concepts yf_place z v (nI s) 0 yb_kind yb_behind yb_length yb_holes yb_value kds ogn vls prt sp td wi un st ou fr yb_left S Cl hS
        obtain ⟨va', sv', wo', sa', wk', ph', M2, d1, d2, d3, d4, d5, d6, d7⟩ := YE 0 0 (sh_blk yb_variable 0 4110 (sh_e0 v2 v3 v4)) yb_saved yb_worth yb_said (upd yb_work 0 (nI 0)) (upd yb_phase 0 (nI 0)) (Nat.le_refl _) (Nat.le_refl _) (fun m hm => by
          have := sh_blk_i (c := yb_variable) (b := 0) (n := 4110) (k := m) (f := sh_e0 v2 v3 v4) hm
          rw [Nat.zero_add] at this; exact this) pk_us pk_us (fun k _ z => by omega)
        have Yf := d7 1 (fun r' v' => r' = 0 ∧ i_Rel (k + 5) (xf_concepts, xf_drafted, xf_place, nI F', nd, f', xf_above, nI 0, nI 1, nI 0, nI y', rv, xa_tok, xa_end, xa_num, xa_length, xa_holes, xa_draft, xa_draftNum, xa_copies, xa_tokens, xa_replaced, xa_deep, xa_lies, xa_ofKind, fr'.1, fr'.2.1, fr'.2.2.1, fr'.2.2.2.1, fr'.2.2.2.2.1, fr'.2.2.2.2.2.1, fr'.2.2.2.2.2.2.1, fr'.2.2.2.2.2.2.2.1, fr'.2.2.2.2.2.2.2.2.1, fr'.2.2.2.2.2.2.2.2.2, sc'.1, sc'.2.1, sc'.2.2.1, sc'.2.2.2.1, sc'.2.2.2.2.1, sc'.2.2.2.2.2.1, sc'.2.2.2.2.2.2, upd (upd (upd xa_given 0 v2) 1 v3) 2 v4) v') (br_t (by decide) (nm_r d3 ⟨rfl, ⟨g, cc, hi, d, dk, dv, y', P, hc, hl, hh, hd, XP, YP, Or.inr ⟨s, r, hs, rfl, E⟩, rfl, rfl, rfl, by omega, fun k k1 k2 => (d6 k k1 k2).trans (a8 k k1 k2).symm⟩⟩))
        have M3 := ys_r51 (a := v2) (b := v3) (c := v4) Yf 4110 0 (by omega)
        rw [sh_blk_0] at M3
        exact M3
      unfold wpX_rootOf
      rw [er]
      exact xs_begin (a9 1 _ _ fin (fun w hw => by
        obtain ⟨xf_concepts, xf_drafted, xf_place, xf_frames, xf_node, xf_frame, xf_above, xf_depth, xf_top, xf_lets, xf_says, xf_result, xa_tok, xa_end, xa_num, xa_length, xa_holes, xa_draft, xa_draftNum, xa_copies, xa_tokens, xa_replaced, xa_deep, xa_lies, xa_ofKind, xa_caller, xa_number, xa_size0, xa_size1, xa_size2, xa_uses0, xa_uses1, xa_uses2, xa_useAt, xa_begun, xa_workNode, xa_stage, xa_workFrame, xa_values, xa_bound, xa_boundTo, xa_output, xa_given⟩ := w
        exact ⟨1 + M, hw⟩))
end
