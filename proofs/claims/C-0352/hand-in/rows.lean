section
theorem pk_us {f : Nat → Int32} {k : Nat} {x : Int32} : upd f k x k = x := if_pos rfl
theorem pk_un {f : Nat → Int32} {k j : Nat} {x : Int32} (h : j ≠ k) : upd f k x j = f j := if_neg h
theorem pk_sub {a b : Nat} (h : b ≤ a) : nI a - nI b = nI (a - b) := by
  obtain ⟨c, rfl⟩ : ∃ c, a = c + b := ⟨a - b, by omega⟩
  rw [← nI_add, Int32.add_sub_cancel, Nat.add_sub_cancel]
theorem pk_m1 (n : Nat) : nI (n + 1) + (-1) = nI n := by
  rw [← nI_1, Int32.add_assoc, show (1 : Int32) + (-1) = 0 from rfl, Int32.add_zero]
theorem pk_mul (a b : Nat) : nI a * nI b = nI (a * b) := (Int32.ofNat_mul a b).symm
theorem pk_div {a d : Nat} (ha : a < 2 ^ 31) (h0 : 0 < d) (hd : d < 2 ^ 31) : nI a / nI d = nI (a / d) := by
  apply Int32.toInt_inj.mp
  rw [lg_idiv_nonneg (by rw [nI_toInt ha]; omega) (by rw [nI_toInt hd]; omega), nI_toInt ha, nI_toInt hd, nI_toInt (Nat.lt_of_le_of_lt (Nat.div_le_self a d) ha)]
  first | rfl | exact (Int.natCast_ediv _ _).symm
theorem pk_rem {a d : Nat} (ha : a < 2 ^ 31) (h0 : 0 < d) (hd : d < 2 ^ 31) : nI a - nI a / nI d * nI d = nI (a % d) := by
  rw [pk_div ha h0 hd, pk_mul, pk_sub (Nat.div_mul_le_self a d)]
  exact congrArg nI (by have := Nat.div_add_mod' a d; omega)
theorem pk_sub_toInt {a b : Nat} (ha : a < 2 ^ 30) (hb : b < 2 ^ 30) : (nI a - nI b).toInt = (a : Int) - b := by
  rw [Int32.toInt_sub, nI_toInt (by omega), nI_toInt (by omega)]
  exact Int.bmod_eq_of_le (by omega) (by omega)
theorem pk_sneg {a b : Nat} (hb : b < 2 ^ 30) (h : a < b) : nI a - nI b < 0 := by
  rw [Int32.lt_iff_toInt_lt, pk_sub_toInt (by omega) hb, show (0 : Int32).toInt = 0 from by decide]
  omega
theorem pk_ix (x : Int32) {n : Nat} (hn : n < 2 ^ 31) : x < 0 ∨ nI n ≤ x ∨ ∃ j : Nat, j < n ∧ x = nI j := by
  by_cases h : x < 0
  · exact Or.inl h
  · obtain ⟨j, hj, rfl⟩ := nI_of h
    by_cases h2 : j < n
    · exact Or.inr (Or.inr ⟨j, h2, rfl⟩)
    · exact Or.inr (Or.inl (nI_le (by omega) hj))
theorem pk_le {x y : Int32} {A B : Prop} (a b : Nat) (f : a ≤ b → A) (g : b < a → B) (hx : x = nI a := by rfl) (hy : y = nI b := by rfl) (ha : a < 2 ^ 31 := by omega) (hb : b < 2 ^ 31 := by omega) : (x ≤ y → A) ∧ (¬ x ≤ y → B) := by
  subst hx hy
  rw [nI_leI ha hb]
  exact ⟨f, fun z => g (by omega)⟩
theorem pk_lt {x y : Int32} {A B : Prop} (a b : Nat) (f : a < b → A) (g : b ≤ a → B) (hx : x = nI a := by rfl) (hy : y = nI b := by rfl) (ha : a < 2 ^ 31 := by omega) (hb : b < 2 ^ 31 := by omega) : (x < y → A) ∧ (¬ x < y → B) := by
  subst hx hy
  rw [nI_ltI ha hb]
  exact ⟨f, fun z => g (by omega)⟩
theorem pk_eq {x y : Int32} {A B : Prop} (a b : Nat) (f : a = b → A) (g : a ≠ b → B) (hx : x = nI a := by rfl) (hy : y = nI b := by rfl) (ha : a < 2 ^ 31 := by omega) (hb : b < 2 ^ 31 := by omega) : (x = y → A) ∧ (¬ x = y → B) := by
  subst hx hy
  rw [nI_eq ha hb]
  exact ⟨f, g⟩
theorem pk_in {x : Int32} (n N : Nat) (h : n < N) (hx : x = nI n := by rfl) (hN : N < 2 ^ 31 := by omega) : vp_in x N := by
  subst hx
  exact vp_in_nI h hN
theorem pk_cl {x : Int32} (n : Nat) (hx : x = nI n := by rfl) (h : n < 2 ^ 31 := by omega) : x.toNatClampNeg = n := by
  subst hx
  exact nI_clamp h
theorem pk_tn {n : Nat} (h : n < 2 ^ 32) : (nI n).toBitVec.toNat = n := Nat.mod_eq_of_lt h
theorem pk_and (x : Int32) {m : Int32} (k : Nat) (hm : m.toBitVec.toNat = 2 ^ k - 1) : x &&& m = nI (x.toBitVec.toNat % 2 ^ k) := by
  apply Int32.toBitVec_inj.mp
  apply BitVec.eq_of_toNat_eq
  rw [Int32.toBitVec_and, BitVec.toNat_and, hm, Nat.and_two_pow_sub_one_eq_mod]
  show _ = (BitVec.ofNat 32 _).toNat
  rw [BitVec.toNat_ofNat]
  exact (Nat.mod_eq_of_lt (Nat.lt_of_le_of_lt (Nat.mod_le _ _) x.toBitVec.isLt)).symm
theorem pk_andN {n : Nat} (h : n < 2 ^ 32) {m : Int32} (k : Nat) (hm : m.toBitVec.toNat = 2 ^ k - 1) : nI n &&& m = nI (n % 2 ^ k) := by
  rw [pk_and _ k hm, pk_tn h]
theorem pk_andE (x : Int32) {m : Int32} (k : Nat) (hm : m.toBitVec.toNat = 2 ^ k - 1) : ∃ j : Nat, j < 2 ^ k ∧ x &&& m = nI j := ⟨_, Nat.mod_lt _ (Nat.two_pow_pos k), pk_and x k hm⟩
theorem pk_andIn (x : Int32) {m : Int32} (k : Nat) (hm : m.toBitVec.toNat = 2 ^ k - 1) (hk : k ≤ 30) : vp_in (x &&& m) (2 ^ k) := by
  obtain ⟨j, hj, e⟩ := pk_andE x k hm
  rw [e]
  exact vp_in_nI hj (Nat.lt_of_le_of_lt (Nat.pow_le_pow_right (by decide) hk) (by decide))
theorem pk_shl (a s : Int32) (k : Nat) (hs : (s.toBitVec.smod 32).toNat = k) : (a <<< s).toBitVec.toNat = a.toBitVec.toNat * 2 ^ k % 2 ^ 32 := by
  show (a.toBitVec <<< (s.toBitVec.smod 32).toNat).toNat = _
  rw [hs, BitVec.toNat_shiftLeft, Nat.shiftLeft_eq]
theorem pk_shlN {n : Nat} (s : Int32) (k : Nat) (hs : (s.toBitVec.smod 32).toNat = k) (h : n * 2 ^ k < 2 ^ 32) : nI n <<< s = nI (n * 2 ^ k) := by
  apply Int32.toBitVec_inj.mp
  apply BitVec.eq_of_toNat_eq
  have hn : n < 2 ^ 32 := Nat.lt_of_le_of_lt (Nat.le_mul_of_pos_right n (Nat.two_pow_pos k)) h
  rw [pk_shl _ _ k hs, pk_tn hn, pk_tn h, Nat.mod_eq_of_lt h]
theorem pk_shr (a s : Int32) (k : Nat) (hs : (s.toBitVec.smod 32).toNat = k) : (a >>> s).toInt = a.toInt >>> k := by
  show (a.toBitVec.sshiftRight (s.toBitVec.smod 32).toNat).toInt = _
  rw [hs, BitVec.toInt_sshiftRight]
  rfl
theorem pk_shrN {n : Nat} (h : n < 2 ^ 31) (s : Int32) (k : Nat) (hs : (s.toBitVec.smod 32).toNat = k) : nI n >>> s = nI (n / 2 ^ k) := by
  apply Int32.toInt_inj.mp
  have h2 : n / 2 ^ k ≤ n := Nat.div_le_self _ _
  rw [pk_shr _ _ k hs, nI_toInt h, nI_toInt (by omega), Int.shiftRight_eq_div_pow]
  rfl
theorem pk_vb (z : Int32) : vp_nar .byte z.toInt8.toInt32 = z.toInt8.toInt32 := by rw [vp_nar_byte]; simp
theorem pk_vs (z : Int32) : vp_nar .short z.toInt16.toInt32 = z.toInt16.toInt32 := by rw [vp_nar_short]; simp
theorem pk_loop {σ : Type} (W : Nat → Nat → σ → Prop) (I : Nat → σ → Prop) (e i0 : Nat) (s : σ) (hi : i0 ≤ e) (h0 : I i0 s) (hx : ∀ n s, I e s → W (n + 1) e s)
    (hs : ∀ n i s, i < e → I i s → (∀ s', I (i + 1) s' → W n (i + 1) s') → W (n + 1) i s) : ∃ n, W n i0 s :=
  ⟨e + 1, loop_i W I e hx hs (e + 1) i0 s hi (by omega) h0⟩
theorem pk_loopD {σ : Type} (W : Nat → Nat → σ → Prop) (I : Nat → σ → Prop) (hx : ∀ n s, I 0 s → W (n + 1) 0 s)
    (hs : ∀ n i s, I (i + 1) s → (∀ s', I i s' → W n i s') → W (n + 1) (i + 1) s) : ∀ (e : Nat) (s : σ), I e s → W (e + 1) e s := by
  intro e
  induction e with
  | zero => exact fun s h => hx 0 s h
  | succ e ih => exact fun s h => hs (e + 1) e s h (fun s' h' => ih s' h')
theorem lp1 {A1 : Type} (W : Nat → A1 → Prop) (I : A1 → Prop) (μ : A1 → Nat) (hs : ∀ (n : Nat) (a1 : A1), I a1 → (∀ (b1 : A1), I b1 → μ b1 < μ a1 → W n b1) → W (n + 1) a1) (a1 : A1) (h : I a1) : ∃ n, W n a1 :=
  loop_m (σ := A1) (fun n s => W n s) (fun s => I s) (fun s => μ s) (fun n s hI hk => hs n s hI (fun b1 h9 hm => hk b1 h9 hm)) a1 h
theorem lp2 {A1 A2 : Type} (W : Nat → A1 → A2 → Prop) (I : A1 → A2 → Prop) (μ : A1 → A2 → Nat) (hs : ∀ (n : Nat) (a1 : A1) (a2 : A2), I a1 a2 → (∀ (b1 : A1) (b2 : A2), I b1 b2 → μ b1 b2 < μ a1 a2 → W n b1 b2) → W (n + 1) a1 a2) (a1 : A1) (a2 : A2) (h : I a1 a2) : ∃ n, W n a1 a2 :=
  loop_m (σ := A1 × A2) (fun n s => W n s.1 s.2) (fun s => I s.1 s.2) (fun s => μ s.1 s.2) (fun n s hI hk => hs n s.1 s.2 hI (fun b1 b2 h9 hm => hk (b1, b2) h9 hm)) (a1, a2) h
theorem lp3 {A1 A2 A3 : Type} (W : Nat → A1 → A2 → A3 → Prop) (I : A1 → A2 → A3 → Prop) (μ : A1 → A2 → A3 → Nat) (hs : ∀ (n : Nat) (a1 : A1) (a2 : A2) (a3 : A3), I a1 a2 a3 → (∀ (b1 : A1) (b2 : A2) (b3 : A3), I b1 b2 b3 → μ b1 b2 b3 < μ a1 a2 a3 → W n b1 b2 b3) → W (n + 1) a1 a2 a3) (a1 : A1) (a2 : A2) (a3 : A3) (h : I a1 a2 a3) : ∃ n, W n a1 a2 a3 :=
  loop_m (σ := A1 × A2 × A3) (fun n s => W n s.1 s.2.1 s.2.2) (fun s => I s.1 s.2.1 s.2.2) (fun s => μ s.1 s.2.1 s.2.2) (fun n s hI hk => hs n s.1 s.2.1 s.2.2 hI (fun b1 b2 b3 h9 hm => hk (b1, b2, b3) h9 hm)) (a1, a2, a3) h
theorem lp4 {A1 A2 A3 A4 : Type} (W : Nat → A1 → A2 → A3 → A4 → Prop) (I : A1 → A2 → A3 → A4 → Prop) (μ : A1 → A2 → A3 → A4 → Nat) (hs : ∀ (n : Nat) (a1 : A1) (a2 : A2) (a3 : A3) (a4 : A4), I a1 a2 a3 a4 → (∀ (b1 : A1) (b2 : A2) (b3 : A3) (b4 : A4), I b1 b2 b3 b4 → μ b1 b2 b3 b4 < μ a1 a2 a3 a4 → W n b1 b2 b3 b4) → W (n + 1) a1 a2 a3 a4) (a1 : A1) (a2 : A2) (a3 : A3) (a4 : A4) (h : I a1 a2 a3 a4) : ∃ n, W n a1 a2 a3 a4 :=
  loop_m (σ := A1 × A2 × A3 × A4) (fun n s => W n s.1 s.2.1 s.2.2.1 s.2.2.2) (fun s => I s.1 s.2.1 s.2.2.1 s.2.2.2) (fun s => μ s.1 s.2.1 s.2.2.1 s.2.2.2) (fun n s hI hk => hs n s.1 s.2.1 s.2.2.1 s.2.2.2 hI (fun b1 b2 b3 b4 h9 hm => hk (b1, b2, b3, b4) h9 hm)) (a1, a2, a3, a4) h
theorem pk_least (P : Nat → Prop) (h : ∃ k, P k) : ∃ k, P k ∧ ∀ j, j < k → ¬ P j := by
  obtain ⟨k, hk⟩ := h
  induction k using Nat.strongRecOn with
  | ind k ih =>
    by_cases e : ∃ j, j < k ∧ P j
    · obtain ⟨j, hj, pj⟩ := e
      exact ih j hj pj
    · exact ⟨k, hk, fun j hj pj => e ⟨j, hj, pj⟩⟩
theorem sb_m1 {p : Nat} (h : 0 < p) : nI p + (-1) = nI (p - 1) := by
  obtain ⟨q, rfl⟩ : ∃ q, p = q + 1 := ⟨p - 1, by omega⟩
  exact pk_m1 q
theorem sb_negT {w : Nat} (h : w < 2 ^ 31) : (-nI w).toInt = -(w : Int) := by
  rw [Int32.toInt_neg, nI_toInt h]
  exact Int.bmod_eq_of_le (by omega) (by omega)
def bt (x : Int32) (i : Nat) : Bool := x.toBitVec.getLsbD i
theorem b_ext {x y : Int32} (h : ∀ i, i < 32 → bt x i = bt y i) : x = y := Int32.toBitVec_inj.mp (BitVec.eq_of_getLsbD_eq (fun i hi => h i hi))
theorem b_or (x y : Int32) (i : Nat) : bt (x ||| y) i = (bt x i || bt y i) := by unfold bt; rw [Int32.toBitVec_or, BitVec.getLsbD_or]
theorem b_and (x y : Int32) (i : Nat) : bt (x &&& y) i = (bt x i && bt y i) := by unfold bt; rw [Int32.toBitVec_and, BitVec.getLsbD_and]
theorem b_xor (x y : Int32) (i : Nat) : bt (x ^^^ y) i = (bt x i ^^ bt y i) := by unfold bt; rw [Int32.toBitVec_xor, BitVec.getLsbD_xor]
theorem b_big {x : Int32} {i : Nat} (h : 32 ≤ i) : bt x i = false := BitVec.getLsbD_of_ge _ _ h
theorem b_m1 : ∀ i, i < 32 → bt (-1) i = true := by decide +kernel
theorem b_0 (i : Nat) : bt 0 i = false := BitVec.getLsbD_zero
theorem s_l : ∀ n, n < 32 → ((nI n &&& 31).toBitVec.smod 32).toNat = n := by decide +kernel
theorem b_shl (n : Nat) (hn : n < 32) (x : Int32) {i : Nat} (hi : i < 32) : bt (x <<< (nI n &&& 31)) i = (decide (n ≤ i) && bt x (i - n)) := by
  unfold bt
  rw [Int32.toBitVec_shiftLeft]
  show (x.toBitVec <<< ((nI n &&& 31).toBitVec.smod 32).toNat).getLsbD i = _
  rw [s_l n hn, BitVec.getLsbD_shiftLeft]
  rcases Nat.lt_or_ge i n with h | h
  · simp [h, Nat.not_le.mpr h]
  · simp [hi, h, Nat.not_lt.mpr h]
theorem b_sshr (n : Nat) (hn : n < 32) (x : Int32) {i : Nat} (hi : i < 32) : bt (x >>> (nI n &&& 31)) i = if n + i < 32 then bt x (n + i) else bt x 31 := by
  unfold bt
  rw [Int32.toBitVec_shiftRight]
  show (x.toBitVec.sshiftRight ((nI n &&& 31).toBitVec.smod 32).toNat).getLsbD i = _
  rw [s_l n hn, BitVec.getLsbD_sshiftRight, BitVec.msb_eq_getLsbD_last]
  simp [hi]
theorem nx_and (a b : Nat) : nI a &&& nI b = nI (a &&& b) := by
  apply Int32.toBitVec_inj.1
  show BitVec.ofNat 32 a &&& BitVec.ofNat 32 b = BitVec.ofNat 32 (a &&& b)
  apply BitVec.eq_of_getLsbD_eq
  intro i hi
  simp [hi]
theorem nx_xor (a b : Nat) : nI a ^^^ nI b = nI (a ^^^ b) := by
  apply Int32.toBitVec_inj.1
  show BitVec.ofNat 32 a ^^^ BitVec.ofNat 32 b = BitVec.ofNat 32 (a ^^^ b)
  apply BitVec.eq_of_getLsbD_eq
  intro i hi
  simp [hi]
end
section
/-! ===== base: naturals as ints, sets as bits, sums ===== -/
theorem gb_m1 : (-1 : Int32) = nI 4294967295 := by decide
theorem gb_or (a b : Nat) : nI a ||| nI b = nI (a ||| b) := by
  apply Int32.toBitVec_inj.1
  show BitVec.ofNat 32 a ||| BitVec.ofNat 32 b = BitVec.ofNat 32 (a ||| b)
  apply BitVec.eq_of_getLsbD_eq
  intro i hi
  simp [hi]
/-- a without b -/
def gb_dif (a b : Nat) : Nat := a &&& (b ^^^ 4294967295)
theorem gb_difI (a b : Nat) : nI a &&& (nI b ^^^ (-1)) = nI (gb_dif a b) := by
  rw [gb_m1, nx_xor, nx_and]
  rfl
theorem gb_shl {v : Nat} (hv : v < 31) : (1 : Int32) <<< (nI v &&& 31) = nI (2 ^ v) := by
  have h := pk_shlN (n := 1) (nI v &&& 31) v (s_l v (by omega)) (by rw [Nat.one_mul]; exact Nat.pow_lt_pow_right (by decide) (by omega))
  rw [Nat.one_mul] at h
  exact h
theorem gb_insI {s v : Nat} (hv : v < 31) : nI s ||| ((1 : Int32) <<< (nI v &&& 31)) = nI (s ||| 2 ^ v) := by
  rw [gb_shl hv, gb_or]
theorem gb_delI {s v : Nat} (hv : v < 31) : nI s &&& (((1 : Int32) <<< (nI v &&& 31)) ^^^ (-1)) = nI (gb_dif s (2 ^ v)) := by
  rw [gb_shl hv, gb_difI]
theorem gb_tb32 (i : Nat) : (4294967295 : Nat).testBit i = decide (i < 32) := by
  have h := Nat.testBit_two_pow_sub_one 32 i
  exact h
theorem gb_difT (a b : Nat) {i : Nat} (hi : i < 32) : (gb_dif a b).testBit i = (a.testBit i && !b.testBit i) := by
  unfold gb_dif
  rw [Nat.testBit_and, Nat.testBit_xor, gb_tb32, decide_eq_true hi, Bool.xor_true]
theorem gb_difLe (a b : Nat) : gb_dif a b ≤ a := Nat.and_le_left
theorem gb_big {a i : Nat} (ha : a < 128) (hi : 7 ≤ i) : a.testBit i = false :=
  Nat.testBit_lt_two_pow (Nat.lt_of_lt_of_le ha (Nat.pow_le_pow_right (n := 2) (by decide) hi))
theorem gb_ext {a b : Nat} (ha : a < 128) (hb : b < 128) (h : ∀ i, i < 7 → a.testBit i = b.testBit i) : a = b := by
  apply Nat.eq_of_testBit_eq
  intro i
  rcases Nat.lt_or_ge i 7 with hi | hi
  · exact h i hi
  · rw [gb_big ha hi, gb_big hb hi]
theorem gb_pow {v : Nat} (hv : v < 7) : 2 ^ v < 128 := Nat.pow_lt_pow_right (n := 7) (by decide) hv
theorem gb_insLt {s v : Nat} (hs : s < 128) (hv : v < 7) : s ||| 2 ^ v < 128 := Nat.or_lt_two_pow (n := 7) hs (gb_pow hv)
theorem gb_orLt {s t : Nat} (hs : s < 128) (ht : t < 128) : s ||| t < 128 := Nat.or_lt_two_pow (n := 7) hs ht
theorem gb_andLt {s t : Nat} (hs : s < 128) : s &&& t < 128 := Nat.lt_of_le_of_lt Nat.and_le_left hs
theorem gb_difLt {s t : Nat} (hs : s < 128) : gb_dif s t < 128 := Nat.lt_of_le_of_lt Nat.and_le_left hs
theorem gb_insT (s v i : Nat) : (s ||| 2 ^ v).testBit i = (s.testBit i || decide (v = i)) := by
  rw [Nat.testBit_or, Nat.testBit_two_pow]
theorem gb_delT (s v : Nat) {i : Nat} (hi : i < 32) : (gb_dif s (2 ^ v)).testBit i = (s.testBit i && !decide (v = i)) := by
  rw [gb_difT _ _ hi, Nat.testBit_two_pow]
theorem gb_delLt {s v : Nat} (hv : v < 7) (h : s.testBit v = true) : gb_dif s (2 ^ v) < s := by
  rcases Nat.lt_or_eq_of_le (gb_difLe s (2 ^ v)) with z | z
  · exact z
  · have e := gb_delT s v (i := v) (by omega)
    rw [z, h] at e
    simp at e
theorem gb_insDel {s v : Nat} (hs : s < 128) (hv : v < 7) (h : s.testBit v = true) : gb_dif s (2 ^ v) ||| 2 ^ v = s := by
  apply gb_ext (gb_insLt (gb_difLt hs) hv) hs
  intro i hi
  rw [gb_insT, gb_delT s v (by omega)]
  by_cases e : v = i
  · subst e
    simp [h]
  · simp [e]
theorem gb_delIns {s v : Nat} (hs : s < 128) (hv : v < 7) (h : s.testBit v = false) : gb_dif (s ||| 2 ^ v) (2 ^ v) = s := by
  apply gb_ext (gb_difLt (gb_insLt hs hv)) hs
  intro i hi
  rw [gb_delT _ v (by omega), gb_insT]
  by_cases e : v = i
  · subst e
    simp [h]
  · simp [e]
theorem gb_insGt {s v : Nat} (h : s.testBit v = false) : s < s ||| 2 ^ v := by
  rcases Nat.lt_or_eq_of_le (Nat.left_le_or (n := s) (m := 2 ^ v)) with z | z
  · exact z
  · have e := gb_insT s v v
    rw [← z, h] at e
    simp at e
/-! one bit of an int -/
theorem gb_bit {s v : Nat} (hs : s < 2 ^ 31) (hv : v < 32) : (nI s >>> (nI v &&& 31)) &&& 1 = nI (s / 2 ^ v % 2) := by
  rw [pk_shrN hs _ v (s_l v hv)]
  show nI _ &&& nI 1 = _
  rw [nx_and, Nat.and_one_is_mod]
theorem gb_bt (s v : Nat) : s.testBit v = decide (s / 2 ^ v % 2 = 1) := Nat.testBit_eq_decide_div_mod_eq
theorem gb_b1 {s v : Nat} (h : s.testBit v = true) : s / 2 ^ v % 2 = 1 := by
  rw [gb_bt] at h
  exact of_decide_eq_true h
theorem gb_b0 {s v : Nat} (h : s.testBit v = false) : s / 2 ^ v % 2 = 0 := by
  rw [gb_bt] at h
  have := of_decide_eq_false h
  omega
theorem gb_bt1 {s v : Nat} (hs : s < 2 ^ 31) (hv : v < 32) (h : s.testBit v = true) : (nI s >>> (nI v &&& 31)) &&& 1 = 1 := by
  rw [gb_bit hs hv, gb_b1 h]; rfl
theorem gb_bt0 {s v : Nat} (hs : s < 2 ^ 31) (hv : v < 32) (h : s.testBit v = false) : (nI s >>> (nI v &&& 31)) &&& 1 = 0 := by
  rw [gb_bit hs hv, gb_b0 h]; rfl
/-- a test of one bit against 1 -/
theorem gb_q1 {A B : Prop} {x y : Int32} (s v : Nat) (f : s.testBit v = true → A) (g : s.testBit v = false → B) (hx : x = nI s := by rfl) (hy : y = nI v := by rfl) (hs : s < 2 ^ 31 := by omega) (hv : v < 32 := by omega) :
    (((x >>> (y &&& 31)) &&& 1) = 1 → A) ∧ (¬ ((x >>> (y &&& 31)) &&& 1) = 1 → B) := by
  subst hx hy
  cases h : s.testBit v
  · exact br_f (by rw [gb_bt0 hs hv h]; decide) (g h)
  · exact br_t (gb_bt1 hs hv h) (f h)
/-- a test of one bit against 0 -/
theorem gb_q0 {A B : Prop} {x y : Int32} (s v : Nat) (f : s.testBit v = false → A) (g : s.testBit v = true → B) (hx : x = nI s := by rfl) (hy : y = nI v := by rfl) (hs : s < 2 ^ 31 := by omega) (hv : v < 32 := by omega) :
    (((x >>> (y &&& 31)) &&& 1) = 0 → A) ∧ (¬ ((x >>> (y &&& 31)) &&& 1) = 0 → B) := by
  subst hx hy
  cases h : s.testBit v
  · exact br_t (gb_bt0 hs hv h) (f h)
  · exact br_f (by rw [gb_bt1 hs hv h]; decide) (g h)
/-- reading an array at a natural -/
theorem gb_rd {a : Nat → Int32} {k : Nat} {x y : Int32} (h : a k = y) (hx : x = nI k := by rfl) (hk : k < 2 ^ 31 := by omega) : a x.toNatClampNeg = y := by
  subst hx
  rw [nI_clamp hk]
  exact h
theorem gb_ud {a : Nat → Int32} {k : Nat} {x y : Int32} (hx : x = nI k := by rfl) (hk : k < 2 ^ 31 := by omega) : upd a x.toNatClampNeg y = upd a k y := by
  subst hx
  rw [nI_clamp hk]
theorem gb_ix (a b : Nat) : ((7 : Int32) * nI a) + nI b = nI (7 * a + b) := by
  show nI 7 * nI a + nI b = _
  rw [pk_mul, nI_add]
theorem gb_ix4 (a b : Nat) : ((4 : Int32) * nI a) + nI b = nI (4 * a + b) := by
  show nI 4 * nI a + nI b = _
  rw [pk_mul, nI_add]
theorem gb_d7 {a : Nat} (ha : a < 2 ^ 31) : nI a / 7 = nI (a / 7) := pk_div (d := 7) ha (by decide) (by decide)
theorem gb_r7 {a : Nat} (ha : a < 2 ^ 31) : nI a - nI a / 7 * 7 = nI (a % 7) := pk_rem (d := 7) ha (by decide) (by decide)
theorem gb_n7 : ¬ (7 : Int32) = 0 := by decide
theorem gb_n2 : ¬ (2 : Int32) = 0 := by decide
/-- the head of a counted loop -/
theorem gb_hd {i : Nat} (N : Nat) {M : Int32} {A B : Prop} (h : i < N) (b : B) (hM : M = nI N := by rfl) (hN : N < 2 ^ 31 := by omega) : (M ≤ nI i → A) ∧ (¬ M ≤ nI i → B) := by
  subst hM
  exact br_f (nI_ge h hN) b
theorem gb_ex (N : Nat) {M : Int32} {A B : Prop} (a : A) (hM : M = nI N := by rfl) (hN : N < 2 ^ 31 := by omega) : (M ≤ nI N → A) ∧ (¬ M ≤ nI N → B) := by
  subst hM
  exact br_t (nI_le (Nat.le_refl N) hN) a
theorem gb_hl {i : Nat} (N : Nat) {M : Int32} {A B : Prop} (h : i ≤ N) (b : B) (hM : M = nI N := by rfl) (hN : N < 2 ^ 31 := by omega) : (M < nI i → A) ∧ (¬ M < nI i → B) := by
  subst hM
  exact br_f (nI_nlt h hN) b
theorem gb_el (N : Nat) {M : Int32} {A B : Prop} (a : A) (hM : M = nI N := by rfl) (hN : N + 1 < 2 ^ 31 := by omega) : (M < nI (N + 1) → A) ∧ (¬ M < nI (N + 1) → B) := by
  subst hM
  exact br_t (nI_lt (Nat.lt_succ_self N) hN) a
/-- i + 1 gets a name -/
theorem gb_s {i : Nat} {P : Int32 → Prop} (h : P (nI (i + 1))) : ∀ x, x = nI i + 1 → P x := nm_r (nI_1 i) h
/-! sums -/
def gb_sum (f : Nat → Nat) : Nat → Nat
  | 0 => 0
  | n + 1 => gb_sum f n + f n
theorem gb_sumC {f g : Nat → Nat} {n : Nat} (h : ∀ i, i < n → f i = g i) : gb_sum f n = gb_sum g n := by
  induction n with
  | zero => rfl
  | succ n ih =>
    unfold gb_sum
    rw [ih (fun i hi => h i (by omega)), h n (by omega)]
theorem gb_sumA (f g : Nat → Nat) (n : Nat) : gb_sum (fun i => f i + g i) n = gb_sum f n + gb_sum g n := by
  induction n with
  | zero => rfl
  | succ n ih => simp only [gb_sum, ih]; omega
theorem gb_sum0 {f : Nat → Nat} {n : Nat} (h : ∀ i, i < n → f i = 0) : gb_sum f n = 0 := by
  induction n with
  | zero => rfl
  | succ n ih => unfold gb_sum; rw [ih (fun i hi => h i (by omega)), h n (by omega)]
theorem gb_sumLe {f g : Nat → Nat} {n : Nat} (h : ∀ i, i < n → f i ≤ g i) : gb_sum f n ≤ gb_sum g n := by
  induction n with
  | zero => exact Nat.le_refl _
  | succ n ih =>
    unfold gb_sum
    have a := ih (fun i hi => h i (by omega))
    have b := h n (by omega)
    omega
theorem gb_sumB {f : Nat → Nat} {n c : Nat} (h : ∀ i, i < n → f i ≤ c) : gb_sum f n ≤ n * c := by
  induction n with
  | zero => exact Nat.zero_le _
  | succ n ih =>
    unfold gb_sum
    have a := ih (fun i hi => h i (by omega))
    have b := h n (by omega)
    rw [Nat.succ_mul]
    omega
theorem gb_sumS (f : Nat → Nat → Nat) (m n : Nat) : gb_sum (fun i => gb_sum (fun j => f i j) n) m = gb_sum (fun j => gb_sum (fun i => f i j) m) n := by
  induction m with
  | zero => exact (gb_sum0 (fun _ _ => rfl)).symm
  | succ m ih =>
    have e : gb_sum (fun j => gb_sum (fun i => f i j) (m + 1)) n = gb_sum (fun j => gb_sum (fun i => f i j) m + f m j) n := rfl
    rw [e, gb_sumA, ← ih]
    rfl
theorem gb_sumP {f : Nat → Nat} {n i : Nat} (hi : i < n) : f i ≤ gb_sum f n := by
  induction n with
  | zero => omega
  | succ n ih =>
    unfold gb_sum
    rcases Nat.lt_or_ge i n with h | h
    · have := ih h; omega
    · have e : i = n := by omega
      subst e; omega
theorem gb_sum49 (f : Nat → Nat) : gb_sum f 49 = gb_sum (fun a => gb_sum (fun b => f (7 * a + b)) 7) 7 := by
  simp only [gb_sum, Nat.reduceMul, Nat.reduceAdd, Nat.zero_add, Nat.add_zero]
  omega
/-! the number of a set's vertices, its lowest vertex -/
def gb_pc (s : Nat) : Nat := gb_sum (fun v => s / 2 ^ v % 2) 7
theorem gb_pcStep : ∀ s, s < 128 → s ≠ 0 → s &&& (s - 1) < s ∧ gb_pc (s &&& (s - 1)) + 1 = gb_pc s := by decide +kernel
theorem gb_pcLe : ∀ s, s < 128 → gb_pc s ≤ 7 := by decide +kernel
theorem gb_pcIns : ∀ s, s < 128 → ∀ v, v < 7 → s.testBit v = false → gb_pc (s ||| 2 ^ v) = gb_pc s + 1 := by decide +kernel
theorem gb_pcDel : ∀ s, s < 128 → ∀ v, v < 7 → s.testBit v = true → gb_pc (gb_dif s (2 ^ v)) + 1 = gb_pc s := by decide +kernel
theorem gb_pc7 : ∀ s, s < 128 → gb_pc s = 7 → s = 127 := by decide +kernel
theorem gb_pc0 : ∀ s, s < 128 → gb_pc s = 0 → s = 0 := by decide +kernel
def gb_lo (s : Nat) : Nat := if s.testBit 0 then 0 else if s.testBit 1 then 1 else if s.testBit 2 then 2 else if s.testBit 3 then 3 else if s.testBit 4 then 4 else if s.testBit 5 then 5 else 6
theorem gb_loS : ∀ s, s < 128 → 0 < s → gb_lo s < 7 ∧ s.testBit (gb_lo s) = true ∧ ∀ u, u < gb_lo s → s.testBit u = false := by decide +kernel
theorem gb_lowI : ∀ s, s < 128 → 0 < s → nI s &&& (-nI s) = nI (2 ^ gb_lo s) := by decide +kernel
/-- a whole number as an int -/
def gb_i (z : Int) : Int32 := Int32.ofInt z
theorem gb_iN (n : Nat) : nI n = gb_i n := (Int32.ofInt_eq_ofNat (n := n)).symm
theorem gb_iA (a b : Int) : gb_i a + gb_i b = gb_i (a + b) := (Int32.ofInt_add a b).symm
theorem gb_iS (a b : Int) : gb_i a - gb_i b = gb_i (a - b) := (Int32.ofInt_sub a b).symm
theorem gb_iM (a b : Int) : gb_i a * gb_i b = gb_i (a * b) := (Int32.ofInt_mul a b).symm
theorem gb_iG (a : Int) : -gb_i a = gb_i (-a) := (Int32.ofInt_neg a).symm
theorem gb_iT {a : Int} (h : -2147483648 ≤ a) (h2 : a < 2147483648) : (gb_i a).toInt = a := Int32.toInt_ofInt_of_le (by omega) (by omega)
theorem gb_iLe {a b : Int} (h : -2147483648 ≤ a) (h2 : a < 2147483648) (k : -2147483648 ≤ b) (k2 : b < 2147483648) : gb_i a ≤ gb_i b ↔ a ≤ b := by
  rw [Int32.le_iff_toInt_le, gb_iT h h2, gb_iT k k2]
theorem gb_iLt {a b : Int} (h : -2147483648 ≤ a) (h2 : a < 2147483648) (k : -2147483648 ≤ b) (k2 : b < 2147483648) : gb_i a < gb_i b ↔ a < b := by
  rw [Int32.lt_iff_toInt_lt, gb_iT h h2, gb_iT k k2]
theorem gb_iEq {a b : Int} (h : -2147483648 ≤ a) (h2 : a < 2147483648) (k : -2147483648 ≤ b) (k2 : b < 2147483648) : gb_i a = gb_i b ↔ a = b := by
  rw [← Int32.toInt_inj, gb_iT h h2, gb_iT k k2]
/-- x ≤ y of whole numbers -/
theorem gb_pLe {x y : Int32} {A B : Prop} (a b : Int) (f : a ≤ b → A) (g : b < a → B) (hx : x = gb_i a := by rfl) (hy : y = gb_i b := by rfl) (h : -2147483648 ≤ a ∧ a < 2147483648 := by omega) (k : -2147483648 ≤ b ∧ b < 2147483648 := by omega) : (x ≤ y → A) ∧ (¬ x ≤ y → B) := by
  subst hx hy
  rw [gb_iLe h.1 h.2 k.1 k.2]
  exact ⟨f, fun z => g (by omega)⟩
theorem gb_pLt {x y : Int32} {A B : Prop} (a b : Int) (f : a < b → A) (g : b ≤ a → B) (hx : x = gb_i a := by rfl) (hy : y = gb_i b := by rfl) (h : -2147483648 ≤ a ∧ a < 2147483648 := by omega) (k : -2147483648 ≤ b ∧ b < 2147483648 := by omega) : (x < y → A) ∧ (¬ x < y → B) := by
  subst hx hy
  rw [gb_iLt h.1 h.2 k.1 k.2]
  exact ⟨f, fun z => g (by omega)⟩
theorem gb_pEq {x y : Int32} {A B : Prop} (a b : Int) (f : a = b → A) (g : a ≠ b → B) (hx : x = gb_i a := by rfl) (hy : y = gb_i b := by rfl) (h : -2147483648 ≤ a ∧ a < 2147483648 := by omega) (k : -2147483648 ≤ b ∧ b < 2147483648 := by omega) : (x = y → A) ∧ (¬ x = y → B) := by
  subst hx hy
  rw [gb_iEq h.1 h.2 k.1 k.2]
  exact ⟨f, g⟩
/-- a graph: weights, neighbours as sets -/
def gb_G (W B : Nat → Nat) : Prop := (∀ a b, a < 7 → b < 7 → W (7 * a + b) = W (7 * b + a)) ∧ (∀ a, a < 7 → W (7 * a + a) = 0) ∧ (∀ i, i < 49 → W i ≤ 9) ∧ (∀ v, v < 7 → B v < 128) ∧ (∀ v u, v < 7 → u < 7 → (B v).testBit u = decide (0 < W (7 * v + u)))
theorem gb_Gsym {W B : Nat → Nat} (h : gb_G W B) {a b : Nat} (ha : a < 7) (hb : b < 7) : (B a).testBit b = (B b).testBit a := by
  rw [h.2.2.2.2 a b ha hb, h.2.2.2.2 b a hb ha, h.1 a b ha hb]
theorem gb_Gself {W B : Nat → Nat} (h : gb_G W B) {a : Nat} (ha : a < 7) : (B a).testBit a = false := by
  rw [h.2.2.2.2 a a ha ha, h.2.1 a ha]; rfl
def gb_vx (x : Int32) : Prop := ∃ a, a < 7 ∧ x = nI a
theorem gb_vxN {x : Int32} (h : ¬ gb_vx x) : x < 0 ∨ (¬ x < 0 ∧ (7 : Int32) ≤ x) := by
  rcases pk_ix x (n := 7) (by decide) with z | z | ⟨j, hj, e⟩
  · exact Or.inl z
  · refine Or.inr ⟨?_, z⟩
    intro hn
    have h0 : (0 : Int32).toInt = 0 := by decide
    have h7 : (nI 7).toInt = 7 := by decide
    rw [Int32.lt_iff_toInt_lt, h0] at hn
    rw [Int32.le_iff_toInt_le, h7] at z
    omega
  · exact absurd ⟨j, hj, e⟩ h
theorem gb_rdn {a : Nat → Int32} {k : Nat} {y : Int32} (h : a k = y) (hk : k < 2 ^ 31 := by omega) : a (nI k).toNatClampNeg = y := by
  rw [nI_clamp hk]
  exact h
theorem gb_udn {a : Nat → Int32} {k : Nat} {y : Int32} (hk : k < 2 ^ 31 := by omega) : upd a (nI k).toNatClampNeg y = upd a k y := by
  rw [nI_clamp hk]
/-- an array filled in order -/
theorem gb_fill {a f : Nat → Int32} {s : Nat} {r : Int32} (h : ∀ i, i < s → a i = f i) (hr : r = f s) : ∀ i, i < s + 1 → upd a s r i = f i := by
  intro i hi
  by_cases e : i = s
  · subst e
    rw [pk_us, hr]
  · rw [pk_un e]
    exact h i (by omega)
/-! sums over lists -/
def gb_ls {α : Type} (f : α → Nat) : List α → Nat
  | [] => 0
  | a :: l => f a + gb_ls f l
theorem gb_lsA {α : Type} (f : α → Nat) (l k : List α) : gb_ls f (l ++ k) = gb_ls f l + gb_ls f k := by
  induction l with
  | nil => simp [gb_ls]
  | cons a l ih => simp only [List.cons_append, gb_ls, ih]; omega
theorem gb_lsC {α : Type} {f g : α → Nat} {l : List α} (h : ∀ a, a ∈ l → f a = g a) : gb_ls f l = gb_ls g l := by
  induction l with
  | nil => rfl
  | cons a l ih =>
    simp only [gb_ls]
    rw [h a (by simp), ih (fun b hb => h b (by simp [hb]))]
theorem gb_lsF {α β : Type} (p : β → Bool) (g : α → List β) (l : List α) : (l.flatMap g).countP p = gb_ls (fun a => (g a).countP p) l := by
  induction l with
  | nil => rfl
  | cons a l ih => rw [List.flatMap_cons, List.countP_append, ih]; rfl
theorem gb_lsR (f : Nat → Nat) (n : Nat) : gb_ls f (List.range n) = gb_sum f n := by
  induction n with
  | zero => rfl
  | succ n ih => rw [List.range_succ, gb_lsA, ih]; simp [gb_ls, gb_sum]
theorem gb_cntR (p : Nat → Bool) (n : Nat) : (List.range (n + 1)).countP p = (List.range n).countP p + (if p n = true then 1 else 0) := by
  rw [List.range_succ, List.countP_append, List.countP_singleton]
/-! a set by its members -/
def gb_mk (f : Nat → Bool) : Nat → Nat
  | 0 => 0
  | n + 1 => if f n = true then gb_mk f n ||| 2 ^ n else gb_mk f n
theorem gb_mkT (f : Nat → Bool) (n i : Nat) : (gb_mk f n).testBit i = (decide (i < n) && f i) := by
  induction n with
  | zero => simp [gb_mk]
  | succ n ih =>
    unfold gb_mk
    by_cases h : f n = true
    · rw [if_pos h, gb_insT, ih]
      by_cases e : n = i
      · subst e; simp [h]
      · have : decide (i < n + 1) = decide (i < n) := by
          apply decide_eq_decide.mpr; omega
        simp [e, this]
    · rw [if_neg h, ih]
      by_cases e : n = i
      · subst e; simp [h]
      · have : decide (i < n + 1) = decide (i < n) := by
          apply decide_eq_decide.mpr; omega
        rw [this]
theorem gb_mkLt (f : Nat → Bool) {n : Nat} (h : n ≤ 7) : gb_mk f n < 128 := by
  apply Nat.lt_pow_two_of_testBit (n := 7)
  intro i hi
  rw [gb_mkT, decide_eq_false (by omega)]
  rfl
end
section
/-! ===== the small methods of both ===== -/
section
variable {p0 : Int32} {xw xn xt xs xe xd xp xc : Nat → Int32} {r0 : Int32} {yw yo yl yp yq yc yf yv ye : Nat → Int32}
theorem gx_iv0 {post : Int32 → Prop} {u : SX} {x : Int32} (h : ¬ gb_vx x) (hp : post 0) : wpX_isVertex post u x := by
  obtain ⟨p0, xw, xn, xt, xs, xe, xd, xp, xc⟩ := u
  rcases gb_vxN h with z | ⟨z, z7⟩
  · exact br_t z hp
  · exact br_f z (br_t z7 hp)
theorem gx_iv1 {post : Int32 → Prop} {u : SX} {a : Nat} (h : a < 7) (hp : post 1) : wpX_isVertex post u (nI a) := by
  obtain ⟨p0, xw, xn, xt, xs, xe, xd, xp, xc⟩ := u
  exact br_f (nI_pos (by omega)) (gb_hd 7 h hp)
theorem gy_iv0 {post : Int32 → Prop} {u : SY} {x : Int32} (h : ¬ gb_vx x) (hp : post 0) : wpY_isVertex post u x := by
  obtain ⟨r0, yw, yo, yl, yp, yq, yc, yf, yv, ye⟩ := u
  rcases gb_vxN h with z | ⟨z, z7⟩
  · exact br_t z hp
  · refine br_f z (br_t ?_ hp)
    have h6 : (6 : Int32).toInt = 6 := by decide
    have h7 : (7 : Int32).toInt = 7 := by decide
    rw [Int32.lt_iff_toInt_lt, h6]
    rw [Int32.le_iff_toInt_le, h7] at z7
    omega
theorem gy_iv1 {post : Int32 → Prop} {u : SY} {a : Nat} (h : a < 7) (hp : post 1) : wpY_isVertex post u (nI a) := by
  obtain ⟨r0, yw, yo, yl, yp, yq, yc, yf, yv, ye⟩ := u
  exact br_f (nI_pos (by omega)) (gb_hl 6 (by omega) hp)
theorem gx_inP {post : Int32 → Prop} {u : SX} {x y : Int32} (s v : Nat) (f : s.testBit v = false → post 0) (g : s.testBit v = true → post 1) (hx : x = nI s := by rfl) (hy : y = nI v := by rfl) (hs : s < 2 ^ 31 := by omega) (hv : v < 32 := by omega) : wpX_isIn post u x y := by
  obtain ⟨p0, xw, xn, xt, xs, xe, xd, xp, xc⟩ := u
  exact gb_q0 s v f g hx hy hs hv
/-- a branch on isIn -/
theorem gx_in {A B : Prop} {u : SX} {x y : Int32} (s v : Nat) (f : s.testBit v = false → A) (g : s.testBit v = true → B) (hx : x = nI s := by rfl) (hy : y = nI v := by rfl) (hs : s < 2 ^ 31 := by omega) (hv : v < 32 := by omega) : wpX_isIn (fun r => ((r = 0 → A) ∧ (¬ r = 0 → B))) u x y :=
  gx_inP s v (fun h => br_t rfl (f h)) (fun h => br_f (by decide) (g h)) hx hy hs hv
theorem gx_ones {post : Int32 → Prop} : ∀ (s n a : Nat), s < 128 → s < n → post (nI (a + gb_pc s)) → wX_onesIn_4 post p0 xw xn xt xs xe xd xp xc n (nI a) (nI s) := by
  intro s
  induction s using Nat.strongRecOn with
  | ind s ih =>
    intro n a hs hn hp
    obtain ⟨n, rfl⟩ : ∃ m, n = m + 1 := ⟨n - 1, by omega⟩
    by_cases z : s = 0
    · subst z
      exact br_t rfl hp
    · obtain ⟨h1, h2⟩ := gb_pcStep s hs z
      refine br_f (nI_ne0 (by omega) (by omega)) ?_
      refine nm_r (e' := nI (s &&& (s - 1))) ?_ (gb_s ?_)
      · obtain ⟨t, rfl⟩ : ∃ t, s = t + 1 := ⟨s - 1, by omega⟩
        rw [nI_pred, nx_and, Nat.add_sub_cancel]
      · refine ih _ h1 n (a + 1) (by omega) (by omega) ?_
        have e : a + 1 + gb_pc (s &&& (s - 1)) = a + gb_pc s := by omega
        rw [e]
        exact hp
theorem gx_onesIn {post : Int32 → Prop} {x : Int32} (s : Nat) (hs : s < 128) (hp : post (nI (gb_pc s))) (hx : x = nI s := by rfl) : wpX_onesIn post (p0, xw, xn, xt, xs, xe, xd, xp, xc) x := by
  subst hx
  refine ⟨s + 1, gx_ones s (s + 1) 0 hs (by omega) ?_⟩
  rw [Nat.zero_add]
  exact hp
theorem gx_low {post : Int32 → Prop} {s : Nat} (hs : s < 128) (h0 : 0 < s) (hp : post (nI (gb_lo s))) : ∀ (d v n : Nat), v + d = gb_lo s → d < n → wX_lowestIn_2 post (nI s) p0 xw xn xt xs xe xd xp xc n (nI v) := by
  obtain ⟨h7, ht, hf⟩ := gb_loS s hs h0
  intro d
  induction d with
  | zero =>
    intro v n hv hn
    obtain ⟨n, rfl⟩ : ∃ m, n = m + 1 := ⟨n - 1, by omega⟩
    have e : v = gb_lo s := by omega
    subst e
    exact gx_in (u := (p0, xw, xn, xt, xs, xe, xd, xp, xc)) s (gb_lo s) (fun h => by rw [ht] at h; cases h) (fun _ => hp)
  | succ d ih =>
    intro v n hv hn
    obtain ⟨n, rfl⟩ : ∃ m, n = m + 1 := ⟨n - 1, by omega⟩
    exact gx_in (u := (p0, xw, xn, xt, xs, xe, xd, xp, xc)) s v (fun _ => gb_s (ih (v + 1) n (by omega) (by omega))) (fun h => by rw [hf v (by omega)] at h; cases h)
theorem gx_lowestIn {post : Int32 → Prop} {x : Int32} (s : Nat) (hs : s < 128) (h0 : 0 < s) (hp : post (nI (gb_lo s))) (hx : x = nI s := by rfl) : wpX_lowestIn post (p0, xw, xn, xt, xs, xe, xd, xp, xc) x := by
  subst hx
  exact ⟨gb_lo s + 1, gx_low hs h0 hp (gb_lo s) 0 _ (by omega) (by omega)⟩
theorem gy_are {post : Int32 → Prop} {W : Nat → Nat} (hw : ∀ i, i < 49 → yw i = nI (W i)) (hW : ∀ i, i < 49 → W i ≤ 9) {x y : Int32} (a b : Nat) (ha : a < 7) (hb : b < 7) (f : W (7 * a + b) = 0 → post 0) (g : 0 < W (7 * a + b) → post 1) (hx : x = nI a := by rfl) (hy : y = nI b := by rfl) : wpY_are post (r0, yw, yo, yl, yp, yq, yc, yf, yv, ye) x y := by
  subst hx hy
  have h9 := hW (7 * a + b) (by omega)
  refine ⟨pk_in (7 * a + b) 49 (by omega) (gb_ix a b), ?_⟩
  exact pk_le (W (7 * a + b)) 0 (fun h => f (by omega)) g (gb_rd (hw _ (by omega)) (gb_ix a b)) rfl (by omega)
theorem gy_size {post : Int32 → Prop} {x : Int32} (s : Nat) (hs : s < 128) (hp : post (nI (gb_pc s))) (hx : x = nI s := by rfl) : wpY_size post (r0, yw, yo, yl, yp, yq, yc, yf, yv, ye) x := by
  subst hx
  refine pk_loop (fun n i (a : Nat) => wY_size_4 post (nI s) r0 yw yo yl yp yq yc yf yv ye n (nI a) (nI i)) (fun i a => a = gb_sum (fun v => s / 2 ^ v % 2) i) 7 0 0 (by omega) rfl ?_ ?_
  · intro n a ha
    subst ha
    exact gb_ex 7 hp
  · intro n i a hi ha K
    refine gb_hd 7 hi (nm_r (e' := nI (a + s / 2 ^ i % 2)) ?_ (gb_s (K _ ?_)))
    · rw [gb_bit (by omega) (by omega), nI_add]
    · subst ha
      rfl
end
end
section
/-! ===== what the relation speaks of: the partitions into sets without neighbours, the orders ===== -/
def gp_free (B : Nat → Nat) (s : Nat) : Bool := decide (∀ v : Nat, v < 7 → s.testBit v = true → Nat.land (B v) s = 0)
theorem gp_freeI {B : Nat → Nat} {s : Nat} : gp_free B s = true ↔ ∀ v, v < 7 → s.testBit v = true → B v &&& s = 0 := decide_eq_true_iff
/-- the subsets of r, from p down -/
def gp_sub (r : Nat) : Nat → Nat → List Nat
  | 0, _ => []
  | f + 1, p => p :: (if p = 0 then [] else gp_sub r f ((p - 1) &&& r))
/-- all partitions of s into j sets, the set of the lowest vertex first -/
def gp_bl : Nat → Nat → List (List Nat)
  | 0, s => if s = 0 then [[]] else []
  | j + 1, s => if s = 0 then [] else (gp_sub (s ^^^ 2 ^ gb_lo s) 128 (s ^^^ 2 ^ gb_lo s)).flatMap (fun p => (gp_bl j (gb_dif (s ^^^ 2 ^ gb_lo s) p)).map (fun l => (p ||| 2 ^ gb_lo s) :: l))
/-- how many of them have free sets alone -/
def gp_t (B : Nat → Nat) (j s : Nat) : Nat := (gp_bl j s).countP (fun l => l.all (gp_free B))
/-- the vertex with k others of t above it, among those below v -/
def go_nx (t : Nat) : Nat → Nat → Nat
  | 0, _ => 0
  | v + 1, k => if t.testBit v = true then (if k = 0 then v else go_nx t v (k - 1)) else go_nx t v k
def go_run : Nat → Nat → Nat → Nat → Nat
  | 0, _, _, p => p
  | k + 1, r, t, p => go_run k (r / (k + 1)) (gb_dif t (2 ^ go_nx t 7 (r % (k + 1)))) (p ||| (go_nx t 7 (r % (k + 1)) * 2 ^ (3 * (6 - k))))
/-- the order of a code, three bits a vertex -/
def go_pk (c : Nat) : Nat := go_run 7 c 127 0
/-- the k-th vertex of a packed order -/
def go_q (p k : Nat) : Nat := p / 2 ^ (3 * k) % 8
def i_Rel (_ : Nat) (u : SX) (v : SY) : Prop := match u, v with
  | (p0, xw, xn, xt, xs, xe, xd, xp, xc), (r0, yw, yo, yl, yp, yq, yc, yf, yv, ye) => ∃ W B : Nat → Nat, gb_G W B ∧ (∀ i, i < 49 → xw i = nI (W i)) ∧ (∀ i, i < 49 → yw i = nI (W i)) ∧ (∀ i, i < 7 → xn i = nI (B i)) ∧ (p0 = 0 ∨ (p0 = 1 ∧ ∀ j, j < 8 → xp j = nI (gp_t B j 127))) ∧ (r0 = 0 ∨ (r0 = 1 ∧ ∀ c, c < 5040 → yo c = nI (go_pk c)))
theorem i_up {k : Nat} {u : SX} {v : SY} (h : i_Rel k u v) : i_Rel (k + 4) u v := h
theorem i_vc0 : wpX_init (fun u => wpY_init (fun v => i_Rel 0 u v)) := by
  refine ⟨fun _ => 0, fun _ => 0, ⟨fun _ _ _ _ => rfl, fun _ _ => rfl, fun _ _ => Nat.zero_le _, fun _ _ => Nat.zero_lt_succ 127, ?_⟩, fun _ _ => rfl, fun _ _ => rfl, fun _ _ => rfl, Or.inl rfl, Or.inl rfl⟩
  intro v u _ _
  simp
end
section
/-! ===== edge ===== -/
section
variable {p0 : Int32} {xw xn xt xs xe xd xp xc : Nat → Int32} {r0 : Int32} {yw yo yl yp yq yc yf yv ye : Nat → Int32}
theorem ge_byte : ∀ w, w < 10 → vp_nar .byte (nI w).toInt8.toInt32 = nI w := by
  intro w hw
  rw [pk_vb]
  exact (by decide +kernel : ∀ w, w < 10 → (nI w).toInt8.toInt32 = nI w) w hw
theorem ge_short : ∀ w, w < 128 → vp_nar .short (nI w).toInt16.toInt32 = nI w := by
  intro w hw
  rw [pk_vs]
  exact (by decide +kernel : ∀ w, w < 128 → (nI w).toInt16.toInt32 = nI w) w hw
/-- the weights with one edge set -/
def ge_W (W : Nat → Nat) (a b w : Nat) : Nat → Nat := fun i => if i = 7 * b + a then w else if i = 7 * a + b then w else W i
def ge_m (w m b : Nat) : Nat := if 0 < w then m ||| 2 ^ b else gb_dif m (2 ^ b)
def ge_B (B : Nat → Nat) (a b w : Nat) : Nat → Nat := fun v => if v = b then ge_m w (B b) a else if v = a then ge_m w (B a) b else B v
theorem ge_mLt {w m b : Nat} (hm : m < 128) (hb : b < 7) : ge_m w m b < 128 := by
  unfold ge_m
  by_cases h : 0 < w
  · rw [if_pos h]; exact gb_insLt hm hb
  · rw [if_neg h]; exact gb_difLt hm
theorem ge_mT {w m b i : Nat} (hi : i < 7) : (ge_m w m b).testBit i = if i = b then decide (0 < w) else m.testBit i := by
  unfold ge_m
  by_cases h : 0 < w
  · rw [if_pos h, gb_insT]
    by_cases e : i = b
    · subst e; simp [h]
    · rw [if_neg e]
      have : ¬ b = i := fun z => e z.symm
      simp [this]
  · rw [if_neg h, gb_delT _ _ (by omega)]
    by_cases e : i = b
    · subst e; simp [h]
    · rw [if_neg e]
      have : ¬ b = i := fun z => e z.symm
      simp [this]
theorem ge_ix {a b c d : Nat} (ha : a < 7) (hb : b < 7) (hc : c < 7) (hd : d < 7) : 7 * a + b = 7 * c + d ↔ (a = c ∧ b = d) := by omega
theorem ge_G {W B : Nat → Nat} (G : gb_G W B) {a b w : Nat} (ha : a < 7) (hb : b < 7) (hab : a ≠ b) (hw : w ≤ 9) : gb_G (ge_W W a b w) (ge_B B a b w) := by
  obtain ⟨g1, g2, g3, g4, g5⟩ := G
  refine ⟨?_, ?_, ?_, ?_, ?_⟩
  · intro c d hc hd
    unfold ge_W
    simp only [ge_ix hc hd hb ha, ge_ix hc hd ha hb, ge_ix hd hc hb ha, ge_ix hd hc ha hb]
    rw [g1 c d hc hd]
    by_cases h1 : c = b ∧ d = a
    · rw [if_pos h1]
      by_cases h2 : d = b ∧ c = a
      · rw [if_pos h2]
      · rw [if_neg h2, if_pos ⟨h1.2, h1.1⟩]
    · rw [if_neg h1]
      by_cases h2 : c = a ∧ d = b
      · rw [if_pos h2, if_pos ⟨h2.2, h2.1⟩]
      · rw [if_neg h2, if_neg (fun z => h2 ⟨z.2, z.1⟩), if_neg (fun z => h1 ⟨z.2, z.1⟩)]
  · intro c hc
    unfold ge_W
    rw [if_neg (by omega), if_neg (by omega)]
    exact g2 c hc
  · intro i hi
    unfold ge_W
    by_cases h1 : i = 7 * b + a
    · rw [if_pos h1]; exact hw
    · rw [if_neg h1]
      by_cases h2 : i = 7 * a + b
      · rw [if_pos h2]; exact hw
      · rw [if_neg h2]; exact g3 i hi
  · intro v hv
    unfold ge_B
    by_cases h1 : v = b
    · rw [if_pos h1]; exact ge_mLt (g4 b hb) ha
    · rw [if_neg h1]
      by_cases h2 : v = a
      · rw [if_pos h2]; exact ge_mLt (g4 a ha) hb
      · rw [if_neg h2]; exact g4 v hv
  · intro v u hv hu
    unfold ge_B ge_W
    simp only [ge_ix hv hu hb ha, ge_ix hv hu ha hb]
    by_cases h1 : v = b
    · rw [if_pos h1, ge_mT hu]
      by_cases h2 : u = a
      · rw [if_pos h2, if_pos ⟨h1, h2⟩]
      · rw [if_neg h2, if_neg (fun z => h2 z.2), if_neg (fun z => hab (z.1.symm.trans h1)), h1]
        exact g5 b u hb hu
    · have n1 : ¬ (v = b ∧ u = a) := fun z => h1 z.1
      rw [if_neg h1, if_neg n1]
      by_cases h3 : v = a
      · rw [if_pos h3, ge_mT hu]
        by_cases h2 : u = b
        · rw [if_pos h2, if_pos ⟨h3, h2⟩]
        · rw [if_neg h2, if_neg (fun z => h2 z.2), h3]
          exact g5 a u ha hu
      · have n3 : ¬ (v = a ∧ u = b) := fun z => h3 z.1
        rw [if_neg h3, if_neg n3]
        exact g5 v u hv hu
theorem ge_w2 {f : Nat → Int32} {W : Nat → Nat} {a b w : Nat} (h : ∀ i, i < 49 → f i = nI (W i)) : ∀ i, i < 49 → upd (upd f (7 * a + b) (nI w)) (7 * b + a) (nI w) i = nI (ge_W W a b w i) := by
  intro i hi
  unfold ge_W
  by_cases h1 : i = 7 * b + a
  · rw [if_pos h1, h1, pk_us]
  · rw [if_neg h1, pk_un h1]
    by_cases h2 : i = 7 * a + b
    · rw [if_pos h2, h2, pk_us]
    · rw [if_neg h2, pk_un h2]
      exact h i hi
theorem ge_n2 {f : Nat → Int32} {B : Nat → Nat} {a b w : Nat} (h : ∀ i, i < 7 → f i = nI (B i)) : ∀ i, i < 7 → upd (upd f a (nI (ge_m w (B a) b))) b (nI (ge_m w (B b) a)) i = nI (ge_B B a b w i) := by
  intro i hi
  unfold ge_B
  by_cases h1 : i = b
  · rw [if_pos h1, h1, pk_us]
  · rw [if_neg h1, pk_un h1]
    by_cases h2 : i = a
    · rw [if_pos h2, h2, pk_us]
    · rw [if_neg h2, pk_un h2]
      exact h i hi
/-- the second half: the neighbours -/
theorem ge_x93 {post : Int32 → SX → Prop} {B : Nat → Nat} {a b w : Nat} (ha : a < 7) (hb : b < 7) (hab : a ≠ b) (hw : w ≤ 9) (hB : ∀ v, v < 7 → B v < 128) (hn : ∀ i, i < 7 → xn i = nI (B i)) {z0 : Int32} (hz : z0 = nI (ge_m w (B a) b))
    (K : post 1 (0, xw, (upd (upd xn a (nI (ge_m w (B a) b))) b (nI (ge_m w (B b) a))), xt, xs, xe, xd, xp, xc)) : wX_edge_93 post (nI a) (nI b) (nI w) z0 (nI a) p0 xw xn xt xs xe xd xp xc := by
  subst hz
  refine ⟨vp_in_nI ha (by decide), nm_r (e' := upd xn a (nI (ge_m w (B a) b))) ?_ ?_⟩
  · rw [ge_short _ (ge_mLt (hB a ha) hb), nI_clamp (by omega)]
  · have hr : upd xn a (nI (ge_m w (B a) b)) (nI b).toNatClampNeg = nI (B b) := by
      rw [nI_clamp (by omega), pk_un (fun z => hab z.symm)]
      exact hn b hb
    refine pk_le w 0 (fun h => ⟨vp_in_nI hb (by decide), vp_in_nI hb (by decide), nm_r ?_ K⟩) (fun h => ⟨vp_in_nI hb (by decide), vp_in_nI hb (by decide), nm_r ?_ K⟩)
    · rw [hr, gb_delI (by omega), ge_short _ (gb_difLt (hB b hb)), nI_clamp (by omega)]
      simp only [ge_m, if_neg (show ¬ 0 < w by omega)]
    · rw [hr, gb_insI (by omega), ge_short _ (gb_insLt (hB b hb) ha), nI_clamp (by omega)]
      simp only [ge_m, if_pos h]
theorem i_vc_edge {k : Nat} {u : SX} {v : SY} (I : i_Rel k u v) (hk : k + 4 ≤ 2048) (v1 : Int32) (v2 : Int32) (v3 : Int32) : wpX_edge (fun r u' => wpY_edge (fun r' v' => r' = r ∧ i_Rel (k + 4) u' v') v v1 v2 v3) u v1 v2 v3 := by
  obtain ⟨p0, xw, xn, xt, xs, xe, xd, xp, xc⟩ := u
  obtain ⟨r0, yw, yo, yl, yp, yq, yc, yf, yv, ye⟩ := v
  unfold wpX_edge wpY_edge
  dsimp only
  by_cases h1 : gb_vx v1
  · obtain ⟨a, ha, rfl⟩ := h1
    by_cases h2 : gb_vx v2
    · obtain ⟨b, hb, rfl⟩ := h2
      by_cases hab : a = b
      · subst hab
        exact gx_iv1 ha (br_f (by decide) (gx_iv1 ha (br_f (by decide) (br_t rfl (gy_iv1 ha (br_f (by decide) (gy_iv1 ha (br_f (by decide) (br_t rfl ⟨rfl, I⟩)))))))))
      · have hne : ¬ nI a = nI b := fun z => hab ((nI_eq (by omega) (by omega)).mp z)
        by_cases h0 : v3 < 0
        · exact gx_iv1 ha (br_f (by decide) (gx_iv1 hb (br_f (by decide) (br_f hne (br_t h0 (gy_iv1 ha (br_f (by decide) (gy_iv1 hb (br_f (by decide) (br_f hne (br_t h0 ⟨rfl, I⟩)))))))))))
        · by_cases h9 : v3 ≤ 9
          · obtain ⟨w, hw, rfl⟩ := nI_of2 (n := 9) (by decide) h0 h9
            obtain ⟨W, B, G, hx, hy, hn, hp, ho⟩ := I
            refine gx_iv1 ha (br_f (by decide) (gx_iv1 hb (br_f (by decide) (br_f hne (br_f h0 (br_t h9 ?_))))))
            refine ⟨pk_in (7 * a + b) 49 (by omega) (gb_ix a b), nm_r (e' := upd xw (7 * a + b) (nI w)) ?_ ?_⟩
            · rw [ge_byte w (by omega), gb_ix, nI_clamp (by omega)]
            refine ⟨pk_in (7 * b + a) 49 (by omega) (gb_ix b a), nm_r (e' := upd (upd xw (7 * a + b) (nI w)) (7 * b + a) (nI w)) ?_ ?_⟩
            · rw [ge_byte w (by omega), gb_ix, nI_clamp (by omega)]
            have K : wpY_edge (fun r' v' => r' = 1 ∧ i_Rel (k + 4) (0, (upd (upd xw (7 * a + b) (nI w)) (7 * b + a) (nI w)), (upd (upd xn a (nI (ge_m w (B a) b))) b (nI (ge_m w (B b) a))), xt, xs, xe, xd, xp, xc) v') (r0, yw, yo, yl, yp, yq, yc, yf, yv, ye) (nI a) (nI b) (nI w) := by
              unfold wpY_edge
              dsimp only
              refine gy_iv1 ha (br_f (by decide) (gy_iv1 hb (br_f (by decide) (br_f hne (br_f h0 (br_t h9 ?_))))))
              refine ⟨pk_in (7 * a + b) 49 (by omega) (gb_ix a b), nm_r (e' := upd yw (7 * a + b) (nI w)) (gb_ud (gb_ix a b)) ?_⟩
              refine ⟨pk_in (7 * b + a) 49 (by omega) (gb_ix b a), nm_r (e' := upd (upd yw (7 * a + b) (nI w)) (7 * b + a) (nI w)) (gb_ud (gb_ix b a)) ?_⟩
              exact ⟨rfl, ge_W W a b w, ge_B B a b w, ge_G G ha hb hab hw, ge_w2 hx, ge_w2 hy, ge_n2 hn, Or.inl rfl, ho⟩
            have hr : xn (nI a).toNatClampNeg = nI (B a) := gb_rdn (hn a ha)
            refine pk_le w 0 (fun h => ⟨vp_in_nI ha (by decide), ge_x93 ha hb hab hw G.2.2.2.1 hn ?_ K⟩) (fun h => ⟨vp_in_nI ha (by decide), ge_x93 ha hb hab hw G.2.2.2.1 hn ?_ K⟩)
            · rw [hr, gb_delI (by omega)]
              unfold ge_m
              rw [if_neg (by omega)]
            · rw [hr, gb_insI (by omega)]
              unfold ge_m
              rw [if_pos h]
          · exact gx_iv1 ha (br_f (by decide) (gx_iv1 hb (br_f (by decide) (br_f hne (br_f h0 (br_f h9 (gy_iv1 ha (br_f (by decide) (gy_iv1 hb (br_f (by decide) (br_f hne (br_f h0 (br_f h9 ⟨rfl, I⟩)))))))))))))
    · exact gx_iv1 ha (br_f (by decide) (gx_iv0 h2 (br_t rfl (gy_iv1 ha (br_f (by decide) (gy_iv0 h2 (br_t rfl ⟨rfl, I⟩)))))))
  · exact gx_iv0 h1 (br_t rfl (gy_iv0 h1 (br_t rfl ⟨rfl, I⟩)))
end
end
section
/-! ===== X: the partitions into free sets ===== -/
section
variable {p0 : Int32} {xw xn xt xs xe xd xp xc : Nat → Int32}
theorem gx_isFree {post : Int32 → Prop} {x : Int32} {B : Nat → Nat} (hB : ∀ v, v < 7 → B v < 128) (hn : ∀ i, i < 7 → xn i = nI (B i)) (s : Nat) (hs : s < 128) (f : gp_free B s = false → post 0) (g : gp_free B s = true → post 1) (hx : x = nI s := by rfl) : wpX_isFree post (p0, xw, xn, xt, xs, xe, xd, xp, xc) x := by
  subst hx
  refine pk_loop (fun n i (_ : Unit) => wX_isFree_2 post (nI s) p0 xw xn xt xs xe xd xp xc n (nI i)) (fun i _ => ∀ v, v < i → s.testBit v = true → B v &&& s = 0) 7 0 () (by omega) (fun v hv => by omega) ?_ ?_
  · intro n _ h
    exact gb_ex 7 (g (gp_freeI.mpr h))
  · intro n i _ hi h K
    refine gb_hd 7 hi (gx_in s i (fun z => gb_s (K () ?_)) (fun z => ⟨vp_in_nI hi (by decide), pk_eq (B i &&& s) 0 (fun e => gb_s (K () ?_)) (fun e => f ?_) ?_ rfl ?_⟩))
    · intro v hv ht
      by_cases e : v = i
      · subst e; rw [z] at ht; cases ht
      · exact h v (by omega) ht
    · intro v hv ht
      by_cases e2 : v = i
      · subst e2; exact e
      · exact h v (by omega) ht
    · rw [← Bool.not_eq_true]
      intro hf
      exact e (gp_freeI.mp hf i hi z)
    · rw [gb_rdn (hn i hi), nx_and]
    · have := gb_andLt (t := s) (hB i hi); omega
/-- what one part adds -/
def gp_F (B T : Nat → Nat) (low rest p : Nat) : Nat := if gp_free B (p ||| low) = true then T (gb_dif rest p) else 0
theorem gx_split {post : Int32 → Prop} {B T : Nat → Nat} (hB : ∀ v, v < 7 → B v < 128) (hn : ∀ i, i < 7 → xn i = nI (B i)) (ht : ∀ s, s < 128 → xt s = nI (T s)) {low rest : Nat} (hl : low < 128) (hr : rest < 128) : ∀ f p a n, p < 128 → p < f → p + 2 ≤ n → post (nI (a + gb_ls (gp_F B T low rest) (gp_sub rest f p))) → wX_splitCount_18 post (nI low) (nI rest) p0 xw xn xt xs xe xd xp xc n (nI a) (nI p) 1 := by
  intro f
  induction f with
  | zero => intro p a n _ h; omega
  | succ f ih =>
    intro p a n hp hf hn2 H
    obtain ⟨n, rfl⟩ : ∃ m, n = m + 1 := ⟨n - 1, by omega⟩
    unfold gp_sub at H
    -- behind the sum: the next part
    have next : ∀ a', a' = a + gp_F B T low rest p → wX_splitCount_50 post (wX_splitCount_18 post (nI low) (nI rest) p0 xw xn xt xs xe xd xp xc n) (nI low) (nI rest) (nI a') (nI p) p0 xw xn xt xs xe xd xp xc := by
      intro a' ea
      unfold wX_splitCount_50
      refine pk_eq p 0 (fun e => ?_) (fun e => ?_)
      · subst e
        unfold wX_splitCount_60
        refine nm_e ?_
        obtain ⟨n, rfl⟩ : ∃ m, n = m + 1 := ⟨n - 1, by omega⟩
        refine br_t rfl ?_
        rw [ea]
        simpa [gb_ls] using H
      · unfold wX_splitCount_60
        refine nm_r (e' := nI ((p - 1) &&& rest)) ?_ ?_
        · obtain ⟨q, rfl⟩ : ∃ q, p = q + 1 := ⟨p - 1, by omega⟩
          rw [nI_pred, nx_and, Nat.add_sub_cancel]
        · have hle : (p - 1) &&& rest ≤ p - 1 := Nat.and_le_left
          refine ih _ _ _ (by omega) (by omega) (by omega) ?_
          rw [if_neg e] at H
          rw [ea, Nat.add_assoc]
          exact H
    refine br_f (by decide) (gx_isFree hB hn (p ||| low) (gb_orLt hp hl) (fun z => br_t rfl (next a ?_)) (fun z => br_f (by decide) ⟨pk_in (gb_dif rest p) 128 (gb_difLt hr) (gb_difI rest p), nm_r (e' := nI (a + T (gb_dif rest p))) ?_ (next _ ?_)⟩) (gb_or p low))
    · unfold gp_F
      rw [z]
      rfl
    · have hd := gb_difLt (t := p) hr
      rw [gb_rd (ht _ hd) (gb_difI rest p), nI_add]
    · unfold gp_F
      rw [if_pos z]
theorem gx_splitCount {post : Int32 → Prop} {B T : Nat → Nat} (hB : ∀ v, v < 7 → B v < 128) (hn : ∀ i, i < 7 → xn i = nI (B i)) (ht : ∀ s, s < 128 → xt s = nI (T s)) {s : Nat} (hs : s < 128) (h0 : 0 < s) (hp : post (nI (gb_ls (gp_F B T (2 ^ gb_lo s) (s ^^^ 2 ^ gb_lo s)) (gp_sub (s ^^^ 2 ^ gb_lo s) 128 (s ^^^ 2 ^ gb_lo s))))) : wpX_splitCount post (p0, xw, xn, xt, xs, xe, xd, xp, xc) (nI s) := by
  obtain ⟨h7, _, _⟩ := gb_loS s hs h0
  have hr : s ^^^ 2 ^ gb_lo s < 128 := Nat.xor_lt_two_pow (n := 7) hs (gb_pow h7)
  refine nm_r (gb_lowI s hs h0) (nm_r (nx_xor s (2 ^ gb_lo s)) ⟨130, ?_⟩)
  refine gx_split hB hn ht (gb_pow h7) hr 128 _ 0 130 hr hr (by omega) ?_
  rw [Nat.zero_add]
  exact hp
theorem gp_t0 (B : Nat → Nat) (s : Nat) : gp_t B 0 s = if s = 0 then 1 else 0 := by
  unfold gp_t gp_bl
  by_cases h : s = 0
  · rw [if_pos h, if_pos h]; rfl
  · rw [if_neg h, if_neg h]; rfl
theorem gp_tz (B : Nat → Nat) (j : Nat) : gp_t B (j + 1) 0 = 0 := by
  unfold gp_t gp_bl
  rw [if_pos rfl]
  rfl
theorem gp_ts (B : Nat → Nat) (j s : Nat) (h : 0 < s) : gp_t B (j + 1) s = gb_ls (gp_F B (gp_t B j) (2 ^ gb_lo s) (s ^^^ 2 ^ gb_lo s)) (gp_sub (s ^^^ 2 ^ gb_lo s) 128 (s ^^^ 2 ^ gb_lo s)) := by
  have e : gp_t B (j + 1) s = ((gp_sub (s ^^^ 2 ^ gb_lo s) 128 (s ^^^ 2 ^ gb_lo s)).flatMap (fun p => (gp_bl j (gb_dif (s ^^^ 2 ^ gb_lo s) p)).map (fun l => (p ||| 2 ^ gb_lo s) :: l))).countP (fun l => l.all (gp_free B)) := by
    show (gp_bl (j + 1) s).countP _ = _
    rw [gp_bl, if_neg (by omega)]
  rw [e, gb_lsF]
  apply gb_lsC
  intro p _
  rw [List.countP_map]
  unfold gp_F gp_t
  by_cases h : gp_free B (p ||| 2 ^ gb_lo s) = true
  · rw [if_pos h]
    apply List.countP_congr
    intro l _
    simp [h]
  · rw [if_neg h]
    apply List.countP_eq_zero.mpr
    intro l _
    simp [h]
theorem gx_fp93 {post : SX → Prop} {J : Int32 → (Nat → Int32) → (Nat → Int32) → (Nat → Int32) → (Nat → Int32) → (Nat → Int32) → (Nat → Int32) → (Nat → Int32) → (Nat → Int32) → Prop} {j : Nat} (hj : j < 8)
    (K : ∀ t, (∀ i, i < 128 → t i = xs i) → J (nI (j + 1)) xw xn t xs xe xd (upd xp j (t 127)) xc) : ∃ n, wX_findPartitions_93 post J (nI j) p0 n 0 xw xn xt xs xe xd xp xc := by
  refine pk_loop (fun n i (t : Nat → Int32) => wX_findPartitions_93 post J (nI j) p0 n (nI i) xw xn t xs xe xd xp xc) (fun i t => ∀ k, k < i → t k = xs k) 128 0 xt (by omega) (fun v hv => by omega) ?_ ?_
  · intro n t h
    exact gb_ex 128 ⟨vp_in_nI hj (by decide), nm_r gb_udn (gb_s (K t h))⟩
  · intro n i t hi h K2
    exact gb_hd 128 hi ⟨vp_in_nI hi (by decide), vp_in_nI hi (by decide), nm_r gb_udn (gb_s (K2 _ (gb_fill h (gb_rdn rfl))))⟩
theorem gx_fp67 {post : SX → Prop} {J : Int32 → (Nat → Int32) → (Nat → Int32) → (Nat → Int32) → (Nat → Int32) → (Nat → Int32) → (Nat → Int32) → (Nat → Int32) → (Nat → Int32) → Prop} {B : Nat → Nat} (hB : ∀ v, v < 7 → B v < 128) (hn : ∀ i, i < 7 → xn i = nI (B i)) {j : Nat} (hj : j + 1 < 8) (ht : ∀ s, s < 128 → xt s = nI (gp_t B j s)) (h0 : xs 0 = 0)
    (K : ∀ t ns, (∀ i, i < 128 → t i = nI (gp_t B (j + 1) i)) → J (nI (j + 1 + 1)) xw xn t ns xe xd (upd xp (j + 1) (nI (gp_t B (j + 1) 127))) xc) : ∃ n, wX_findPartitions_67 post J (nI (j + 1)) p0 n 1 xw xn xt xs xe xd xp xc := by
  refine pk_loop (fun n i (ns : Nat → Int32) => wX_findPartitions_67 post J (nI (j + 1)) p0 n (nI i) xw xn xt ns xe xd xp xc) (fun i ns => 1 ≤ i ∧ ∀ k, k < i → ns k = nI (gp_t B (j + 1) k)) 128 1 xs (by omega) ?_ ?_ ?_
  · refine ⟨Nat.le_refl 1, ?_⟩
    intro k hk
    have e : k = 0 := by omega
    subst e
    rw [h0, gp_tz]
    rfl
  · rintro n ns ⟨_, h⟩
    refine gb_ex 128 (gx_fp93 hj ?_)
    intro t ht2
    have e : t 127 = nI (gp_t B (j + 1) 127) := (ht2 127 (by omega)).trans (h 127 (by omega))
    rw [e]
    exact K t ns (fun i hi => (ht2 i hi).trans (h i hi))
  · rintro n i ns hi ⟨h1, h⟩ K2
    refine gb_hd 128 hi (gx_splitCount hB hn ht hi (by omega) ⟨vp_in_nI hi (by decide), nm_r gb_udn (gb_s (K2 _ ⟨by omega, gb_fill h ?_⟩))⟩)
    rw [gp_ts B j i (by omega)]
theorem gx_fp52 {post : SX → Prop} {B : Nat → Nat} (hB : ∀ v, v < 7 → B v < 128) (hn : ∀ i, i < 7 → xn i = nI (B i)) (ht : ∀ s, s < 128 → xt s = nI (gp_t B 0 s)) (hp : xp 0 = nI (gp_t B 0 127))
    (K : ∀ t ns p, (∀ j, j < 8 → p j = nI (gp_t B j 127)) → post (p0, xw, xn, t, ns, xe, xd, p, xc)) : ∃ n, wX_findPartitions_52 post p0 n 1 xw xn xt xs xe xd xp xc := by
  refine pk_loop (fun n i (s : (Nat → Int32) × (Nat → Int32) × (Nat → Int32)) => wX_findPartitions_52 post p0 n (nI i) xw xn s.1 s.2.1 xe xd s.2.2 xc) (fun i s => ∃ j, i = j + 1 ∧ (∀ k, k < 128 → s.1 k = nI (gp_t B j k)) ∧ (∀ k, k < i → s.2.2 k = nI (gp_t B k 127))) 8 1 (xt, xs, xp) (by omega) ?_ ?_ ?_
  · refine ⟨0, rfl, ht, ?_⟩
    intro k hk
    have e : k = 0 := by omega
    subst e
    exact hp
  · rintro n ⟨t, ns, p⟩ ⟨j, _, _, h⟩
    exact gb_el 7 (K t ns p h)
  · rintro n i ⟨t, ns, p⟩ hi ⟨j, rfl, h1, h2⟩ K2
    refine gb_hl 7 (by omega) (nm_e (gx_fp67 hB hn (by omega) h1 rfl ?_))
    intro t' ns' h3
    exact K2 (t', ns', _) ⟨j + 1, rfl, h3, gb_fill (f := fun k => nI (gp_t B k 127)) h2 rfl⟩
theorem gx_findPartitions {post : SX → Prop} {B : Nat → Nat} (hB : ∀ v, v < 7 → B v < 128) (hn : ∀ i, i < 7 → xn i = nI (B i)) (hp : p0 = 0 ∨ (p0 = 1 ∧ ∀ j, j < 8 → xp j = nI (gp_t B j 127)))
    (K : ∀ t ns p, (∀ j, j < 8 → p j = nI (gp_t B j 127)) → post (1, xw, xn, t, ns, xe, xd, p, xc)) : wpX_findPartitions post (p0, xw, xn, xt, xs, xe, xd, xp, xc) := by
  rcases hp with rfl | ⟨rfl, hp⟩
  · refine br_t rfl ?_
    refine pk_loop (fun n i (t : Nat → Int32) => wX_findPartitions_15 post 1 n (nI i) xw xn t xs xe xd xp xc) (fun i t => ∀ k, k < i → t k = nI (gp_t B 0 k)) 128 0 xt (by omega) (fun v hv => by omega) ?_ ?_
    · intro n t h
      refine gb_ex 128 (nm_e (gx_fp52 hB hn h ?_ K))
      rw [pk_us, gp_t0]
      rfl
    · intro n i t hi h K2
      refine gb_hd 128 hi (pk_eq i 0 (fun e => ⟨vp_in_nI hi (by decide), nm_r gb_udn (gb_s (K2 _ (gb_fill h ?_)))⟩) (fun e => ⟨vp_in_nI hi (by decide), nm_r gb_udn (gb_s (K2 _ (gb_fill h ?_)))⟩))
      · rw [gp_t0, if_pos e]; rfl
      · rw [gp_t0, if_neg e]; rfl
  · exact br_f (by decide) (K xt xs xp hp)
end
end
section
/-! ===== Y: the partitions by codes ===== -/
def gq_rs (c : Nat) : Nat → Nat
  | 0 => c
  | v + 1 => gq_rs c v / (v + 1)
def gq_pt (c v : Nat) : Nat := gq_rs c v % (v + 1)
def gq_up (k m : Nat) : Nat := if k = m then m + 1 else m
def gq_mo (c : Nat) : Nat → Nat
  | 0 => 0
  | v + 1 => gq_up (gq_pt c v) (gq_mo c v)
/-- vertex v may stand in its part -/
def gq_at (W : Nat → Nat) (c v : Nat) : Prop := gq_pt c v ≤ gq_mo c v ∧ ∀ u, u < v → gq_pt c u = gq_pt c v → W (7 * u + v) = 0
def gq_all (W : Nat → Nat) (c : Nat) : Bool := decide (∀ v : Nat, v < 7 → (gq_pt c v ≤ gq_mo c v ∧ ∀ u : Nat, u < v → gq_pt c u = gq_pt c v → W (7 * u + v) = 0))
theorem gq_allI {W : Nat → Nat} {c : Nat} : gq_all W c = true ↔ ∀ v, v < 7 → gq_at W c v := decide_eq_true_iff
def gq_val (W : Nat → Nat) (c : Nat) : Nat := if gq_all W c = true then gq_mo c 7 else 0
theorem gq_rsLe (c v : Nat) : gq_rs c v ≤ c := by
  induction v with
  | zero => exact Nat.le_refl _
  | succ v ih => exact Nat.le_trans (Nat.div_le_self _ _) ih
theorem gq_moLe (c v : Nat) : gq_mo c v ≤ v := by
  induction v with
  | zero => exact Nat.le_refl _
  | succ v ih =>
    unfold gq_mo gq_up
    by_cases h : gq_pt c v = gq_mo c v
    · rw [if_pos h]; omega
    · rw [if_neg h]; omega
section
variable {r0 : Int32} {yw yo yl yp yq yc yf yv ye : Nat → Int32}
theorem gy_pt64 {post : Int32 → SY → Prop} {J : Int32 → Int32 → Int32 → (Nat → Int32) → (Nat → Int32) → (Nat → Int32) → (Nat → Int32) → (Nat → Int32) → (Nat → Int32) → (Nat → Int32) → (Nat → Int32) → (Nat → Int32) → Prop} {W : Nat → Nat} (hw : ∀ i, i < 49 → yw i = nI (W i)) (hW : ∀ i, i < 49 → W i ≤ 9) {c v : Nat} (hv : v < 7) (hp : ∀ u, u < v + 1 → yp u = nI (gq_pt c u)) (x2 x3 : Int32)
    (f : (∀ u, u < v → gq_pt c u = gq_pt c v → W (7 * u + v) = 0) → J x2 x3 (nI (v + 1)) yw yo yl yp yq yc yf yv ye) (g : ¬ (∀ u, u < v → gq_pt c u = gq_pt c v → W (7 * u + v) = 0) → post 0 (r0, yw, yo, yl, yp, yq, yc, yf, yv, ye)) : ∃ n, wY_partition_64 post J x2 x3 (nI v) r0 yw yo yl yp yq yc yf yv ye n 0 := by
  have hc : ∀ u, gq_pt c u < u + 1 := fun u => Nat.mod_lt _ (by omega)
  refine pk_loop (fun n i (_ : Unit) => wY_partition_64 post J x2 x3 (nI v) r0 yw yo yl yp yq yc yf yv ye n (nI i)) (fun i _ => ∀ u, u < i → gq_pt c u = gq_pt c v → W (7 * u + v) = 0) v 0 () (by omega) (fun v hv => by omega) ?_ ?_
  · intro n _ h
    exact gb_ex v (gb_s (f h))
  · intro n i _ hi h K
    have h1 := hc i
    have h2 := hc v
    refine gb_hd v hi ⟨vp_in_nI (by omega) (by decide), vp_in_nI hv (by decide), ?_⟩
    refine pk_eq (gq_pt c i) (gq_pt c v) (fun e => ?_) (fun e => gb_s (K () ?_)) (gb_rdn (hp i (by omega))) (gb_rdn (hp v (by omega)))
    · refine gy_are hw hW i v (by omega) hv (fun z => br_t rfl (gb_s (K () ?_))) (fun z => br_f (by decide) (g ?_))
      · intro u hu e2
        by_cases e3 : u = i
        · subst e3; exact z
        · exact h u (by omega) e2
      · intro hh
        have := hh i hi e
        omega
    · intro u hu e2
      by_cases e3 : u = i
      · subst e3; exact absurd e2 e
      · exact h u (by omega) e2
theorem gy_partition {post : Int32 → SY → Prop} {W : Nat → Nat} (hw : ∀ i, i < 49 → yw i = nI (W i)) (hW : ∀ i, i < 49 → W i ≤ 9) {c : Nat} (hc : c < 5040) (K : ∀ p, post (nI (gq_val W c)) (r0, yw, yo, yl, p, yq, yc, yf, yv, ye)) : wpY_partition post (r0, yw, yo, yl, yp, yq, yc, yf, yv, ye) (nI c) := by
  have hbad : ∀ v, v < 7 → ¬ gq_at W c v → gq_val W c = 0 := by
    intro v hv h
    unfold gq_val
    rw [if_neg (fun z => h (gq_allI.mp z v hv))]
  refine pk_loop (fun n i (s : (Nat → Int32) × Nat × Nat) => wY_partition_7 post r0 n (nI s.2.1) (nI s.2.2) (nI i) yw yo yl s.1 yq yc yf yv ye) (fun i s => (∀ u, u < i → s.1 u = nI (gq_pt c u)) ∧ s.2.1 = gq_rs c i ∧ s.2.2 = gq_mo c i ∧ ∀ u, u < i → gq_at W c u) 7 0 (yp, c, 0) (by omega) ⟨fun u hu => by omega, rfl, rfl, fun u hu => by omega⟩ ?_ ?_
  · rintro n ⟨p, r, m⟩ ⟨h1, h2, h3, h4⟩
    refine gb_ex 7 ?_
    have e : gq_val W c = m := by
      unfold gq_val
      rw [if_pos (gq_allI.mpr h4)]
      exact h3.symm
    have k := K p
    rw [e] at k
    exact k
  · rintro n i ⟨p, r, m⟩ hi ⟨h1, h2, h3, h4⟩ K2
    dsimp only at h1 h2 h3
    subst h2 h3
    have hr := gq_rsLe c i
    have hm := gq_moLe c i
    have hd : nI i + 1 = nI (i + 1) := nI_1 i
    have hnz : ¬ nI i + 1 = 0 := by rw [hd]; exact nI_ne0 (by omega) (by omega)
    have hpt : gq_pt c i < i + 1 := Nat.mod_lt _ (by omega)
    have hf : ∀ u, u < i + 1 → upd p i (nI (gq_pt c i)) u = nI (gq_pt c u) := gb_fill (f := fun u => nI (gq_pt c u)) h1 rfl
    refine gb_hd 7 hi ⟨hnz, vp_in_nI hi (by decide), nm_r (e' := upd p i (nI (gq_pt c i))) ?_ ⟨hnz, nm_r (e' := nI (gq_rs c (i + 1))) ?_ ⟨vp_in_nI hi (by decide), ?_⟩⟩⟩
    · dsimp only
      rw [hd, pk_rem (by omega) (by omega) (by omega), nI_clamp (by omega)]
      rfl
    · dsimp only
      rw [hd, pk_div (by omega) (by omega) (by omega)]
      rfl
    · refine pk_le (gq_pt c i) (gq_mo c i) (fun hle => ⟨vp_in_nI hi (by decide), ?_⟩) (fun hgt => ?_) (gb_rdn (hf i (by omega))) rfl
      · have fin : ∀ m', m' = gq_mo c (i + 1) → ∃ n64, wY_partition_64 post (wY_partition_7 post r0 n) (nI (gq_rs c (i + 1))) (nI m') (nI i) r0 yw yo yl (upd p i (nI (gq_pt c i))) yq yc yf yv ye n64 0 := by
          intro m' em
          refine gy_pt64 hw hW hi hf _ _ (fun z => K2 (_, _, _) ⟨hf, rfl, em, ?_⟩) (fun z => ?_)
          · intro u hu
            by_cases e3 : u = i
            · subst e3; exact ⟨hle, z⟩
            · exact h4 u (by omega)
          · have k := K (upd p i (nI (gq_pt c i)))
            rw [hbad i hi (fun y => z y.2)] at k
            exact k
        refine pk_eq (gq_pt c i) (gq_mo c i) (fun e => gb_s (fin _ ?_)) (fun e => fin _ ?_) (gb_rdn (hf i (by omega))) rfl
        · show _ = gq_up _ _
          unfold gq_up
          rw [if_pos e]
        · show _ = gq_up _ _
          unfold gq_up
          rw [if_neg e]
      · have k := K (upd p i (nI (gq_pt c i)))
        rw [hbad i hi (fun y => by have := y.1; omega)] at k
        exact k
/-- how many codes below i give j parts -/
def gq_cnt (W : Nat → Nat) (i j : Nat) : Nat := (List.range i).countP (fun c => gq_val W c == j)
theorem gq_cntS (W : Nat → Nat) (i j : Nat) : gq_cnt W (i + 1) j = gq_cnt W i j + (if gq_val W i = j then 1 else 0) := by
  unfold gq_cnt
  rw [gb_cntR]
  simp only [beq_iff_eq]
theorem gy_fp23 {post : SY → Prop} {W : Nat → Nat} (hw : ∀ i, i < 49 → yw i = nI (W i)) (hW : ∀ i, i < 49 → W i ≤ 9) (h0 : ∀ j, j < 8 → yq j = 0)
    (K : ∀ p q, (∀ j, 0 < j → j < 8 → q j = nI (gq_cnt W 5040 j)) → post (r0, yw, yo, yl, p, q, yc, yf, yv, ye)) : ∃ n, wY_findParts_23 post n 0 r0 yw yo yl yp yq yc yf yv ye := by
  refine pk_loop (fun n i (s : (Nat → Int32) × (Nat → Int32)) => wY_findParts_23 post n (nI i) r0 yw yo yl s.1 s.2 yc yf yv ye) (fun i s => ∀ j, 0 < j → j < 8 → s.2 j = nI (gq_cnt W i j)) 5040 0 (yp, yq) (by omega) (fun j _ h => h0 j h) ?_ ?_
  · rintro n ⟨p, q⟩ h
    exact gb_ex 5040 (K p q h)
  · rintro n i ⟨p, q⟩ hi h K2
    refine gb_hd 5040 hi (gy_partition hw hW hi (fun p' => ?_))
    have hv : gq_val W i ≤ 7 := by
      unfold gq_val
      by_cases z : gq_all W i = true
      · rw [if_pos z]; exact gq_moLe i 7
      · rw [if_neg z]; omega
    refine pk_le (gq_val W i) 0 (fun z => gb_s (K2 (p', q) ?_)) (fun z => ⟨vp_in_nI (by omega) (by decide), vp_in_nI (by omega) (by decide), nm_r (e' := upd q (gq_val W i) (nI (gq_cnt W i (gq_val W i) + 1))) ?_ (gb_s (K2 (p', upd q (gq_val W i) (nI (gq_cnt W i (gq_val W i) + 1))) ?_))⟩)
    · intro j hj0 hj
      rw [gq_cntS, if_neg (by omega)]
      exact h j hj0 hj
    · have := h (gq_val W i) (by omega) (by omega)
      dsimp only at this ⊢
      rw [nI_clamp (by omega), this, nI_1]
    · intro j hj0 hj
      rw [gq_cntS]
      dsimp only
      by_cases e : j = gq_val W i
      · rw [e, pk_us, if_pos rfl]
      · rw [pk_un e, if_neg (fun z => e z.symm)]
        exact h j hj0 hj
theorem gy_findParts {post : SY → Prop} {W : Nat → Nat} (hw : ∀ i, i < 49 → yw i = nI (W i)) (hW : ∀ i, i < 49 → W i ≤ 9)
    (K : ∀ p q, (∀ j, 0 < j → j < 8 → q j = nI (gq_cnt W 5040 j)) → post (r0, yw, yo, yl, p, q, yc, yf, yv, ye)) : wpY_findParts post (r0, yw, yo, yl, yp, yq, yc, yf, yv, ye) := by
  refine pk_loop (fun n i (q : Nat → Int32) => wY_findParts_2 post r0 n (nI i) yw yo yl yp q yc yf yv ye) (fun i q => ∀ k, k < i → q k = 0) 8 0 yq (by omega) (fun v hv => by omega) ?_ ?_
  · intro n q h
    exact gb_ex 8 (gy_fp23 hw hW h K)
  · intro n i q hi h K2
    exact gb_hd 8 hi ⟨vp_in_nI hi (by decide), nm_r gb_udn (gb_s (K2 _ (gb_fill (f := fun _ => 0) h rfl)))⟩
end
end
section
/-! ===== closed: the codes' partitions are X's ===== -/
def gq_ok (c : Nat) : Bool := decide (∀ v : Nat, v < 7 → gq_pt c v ≤ gq_mo c v)
def gq_mask (c k : Nat) : Nat := gb_mk (fun v => gq_pt c v == k) 7
def gq_bk (c : Nat) : List Nat := (List.range (gq_mo c 7)).map (gq_mask c)
def gq_list (j : Nat) : List (List Nat) := ((List.range 5040).filter (fun c => gq_ok c && gq_mo c 7 == j)).map gq_bk
theorem gq_perm1 : (gq_list 1).isPerm (gp_bl 1 127) = true := by decide +kernel
theorem gq_perm2 : (gq_list 2).isPerm (gp_bl 2 127) = true := by decide +kernel
theorem gq_perm3 : (gq_list 3).isPerm (gp_bl 3 127) = true := by decide +kernel
theorem gq_perm4 : (gq_list 4).isPerm (gp_bl 4 127) = true := by decide +kernel
theorem gq_perm5 : (gq_list 5).isPerm (gp_bl 5 127) = true := by decide +kernel
theorem gq_perm6 : (gq_list 6).isPerm (gp_bl 6 127) = true := by decide +kernel
theorem gq_perm7 : (gq_list 7).isPerm (gp_bl 7 127) = true := by decide +kernel
end
section
/-! ===== the two counts of partitions are the same ===== -/
theorem gq_maskT (c k v : Nat) : (gq_mask c k).testBit v = (decide (v < 7) && (gq_pt c v == k)) := gb_mkT _ _ _
theorem gq_moMono (c v d : Nat) : gq_mo c v ≤ gq_mo c (v + d) := by
  induction d with
  | zero => exact Nat.le_refl _
  | succ d ih =>
    refine Nat.le_trans ih ?_
    show gq_mo c (v + d) ≤ gq_up (gq_pt c (v + d)) (gq_mo c (v + d))
    unfold gq_up
    by_cases h : gq_pt c (v + d) = gq_mo c (v + d)
    · rw [if_pos h]; omega
    · rw [if_neg h]; omega
theorem gq_ptLt {c v : Nat} (hv : v < 7) (h : gq_pt c v ≤ gq_mo c v) : gq_pt c v < gq_mo c 7 := by
  have h1 : gq_pt c v < gq_mo c (v + 1) := by
    show _ < gq_up _ _
    unfold gq_up
    by_cases h2 : gq_pt c v = gq_mo c v
    · rw [if_pos h2]; omega
    · rw [if_neg h2]; omega
  have h3 := gq_moMono c (v + 1) (6 - v)
  rw [show v + 1 + (6 - v) = 7 by omega] at h3
  omega
theorem gq_allBk {W B : Nat → Nat} (G : gb_G W B) (c : Nat) : gq_all W c = (gq_ok c && (gq_bk c).all (gp_free B)) := by
  have hz : ∀ v u, v < 7 → u < 7 → ((B v).testBit u = false ↔ W (7 * v + u) = 0) := by
    intro v u hv hu
    rw [G.2.2.2.2 v u hv hu, decide_eq_false_iff_not]
    omega
  rw [Bool.eq_iff_iff, Bool.and_eq_true, List.all_eq_true, gq_allI]
  unfold gq_ok
  rw [decide_eq_true_iff]
  constructor
  · intro h
    refine ⟨fun v hv => (h v hv).1, ?_⟩
    intro m hm
    unfold gq_bk at hm
    rw [List.mem_map] at hm
    obtain ⟨k, _, rfl⟩ := hm
    rw [gp_freeI]
    intro v hv ht
    rw [gq_maskT] at ht
    simp [hv] at ht
    apply Nat.eq_of_testBit_eq
    intro u
    rw [Nat.testBit_and, gq_maskT, Nat.zero_testBit]
    by_cases hu : u < 7
    · by_cases e : gq_pt c u = k
      · have : (B v).testBit u = false := by
          rw [hz v u hv hu]
          rcases Nat.lt_trichotomy u v with hlt | heq | hgt
          · rw [G.1 v u hv hu]
            exact (h v hv).2 u hlt (by omega)
          · subst heq; exact G.2.1 u hu
          · exact (h u hu).2 v hgt (by omega)
        rw [this]; rfl
      · simp [e]
    · simp [hu]
  · rintro ⟨h1, h2⟩ v hv
    refine ⟨h1 v hv, ?_⟩
    intro u hu e
    have hk := gq_ptLt hv (h1 v hv)
    have hf := h2 (gq_mask c (gq_pt c v)) (by unfold gq_bk; exact List.mem_map.mpr ⟨_, List.mem_range.mpr hk, rfl⟩)
    rw [gp_freeI] at hf
    have h3 := hf v hv (by rw [gq_maskT]; simp [hv])
    have h4 : (B v &&& gq_mask c (gq_pt c v)).testBit u = false := by rw [h3]; exact Nat.zero_testBit u
    rw [Nat.testBit_and, gq_maskT] at h4
    simp [show u < 7 by omega, e] at h4
    rw [G.1 u v (by omega) hv]
    exact (hz v u hv (by omega)).mp h4
theorem gq_perm {j : Nat} (h0 : 0 < j) (h : j < 8) : (gq_list j).Perm (gp_bl j 127) := by
  apply List.isPerm_iff.mp
  have : j = 1 ∨ j = 2 ∨ j = 3 ∨ j = 4 ∨ j = 5 ∨ j = 6 ∨ j = 7 := by omega
  rcases this with rfl | rfl | rfl | rfl | rfl | rfl | rfl
  · exact gq_perm1
  · exact gq_perm2
  · exact gq_perm3
  · exact gq_perm4
  · exact gq_perm5
  · exact gq_perm6
  · exact gq_perm7
theorem gq_eq {W B : Nat → Nat} (G : gb_G W B) {j : Nat} (h0 : 0 < j) (h : j < 8) : gq_cnt W 5040 j = gp_t B j 127 := by
  unfold gp_t
  rw [← (gq_perm h0 h).countP_eq]
  unfold gq_list gq_cnt
  rw [List.countP_map, List.countP_filter]
  apply List.countP_congr
  intro c _
  rw [beq_iff_eq]
  unfold gq_val
  rw [gq_allBk G]
  simp only [Function.comp, Bool.and_eq_true, beq_iff_eq]
  by_cases h1 : gq_ok c = true <;> by_cases h2 : (gq_bk c).all (gp_free B) = true
  · simp [h1, h2]
  · simp [h1, h2]; omega
  · simp [h1, h2]; omega
  · simp [h1, h2]; omega
theorem gq_cntLe (W : Nat → Nat) (n j : Nat) : gq_cnt W n j ≤ n := by
  have := List.countP_le_length (p := fun c => gq_val W c == j) (l := List.range n)
  rw [List.length_range] at this
  exact this
theorem gp_tLe {W B : Nat → Nat} (G : gb_G W B) {j : Nat} (h0 : 0 < j) (h : j < 8) : gp_t B j 127 ≤ 5040 := by
  rw [← gq_eq G h0 h]
  exact gq_cntLe W 5040 j
theorem gp_bl7 : gp_bl 7 127 = [[1, 2, 4, 8, 16, 32, 64]] := by decide +kernel
theorem gp_free1 {W B : Nat → Nat} (G : gb_G W B) {a : Nat} (ha : a < 7) : gp_free B (2 ^ a) = true := by
  rw [gp_freeI]
  intro v hv ht
  rw [Nat.testBit_two_pow] at ht
  have e : a = v := of_decide_eq_true ht
  subst e
  apply Nat.eq_of_testBit_eq
  intro u
  rw [Nat.testBit_and, Nat.testBit_two_pow, Nat.zero_testBit]
  by_cases e : a = u
  · subst e; rw [gb_Gself G ha]; rfl
  · simp [e]
theorem gp_t7 {W B : Nat → Nat} (G : gb_G W B) : gp_t B 7 127 = 1 := by
  unfold gp_t
  rw [gp_bl7]
  have h := fun a (ha : a < 7) => gp_free1 G ha
  have h0 : gp_free B 1 = true := h 0 (by omega)
  have h1 : gp_free B 2 = true := h 1 (by omega)
  have h2 : gp_free B 4 = true := h 2 (by omega)
  have h3 : gp_free B 8 = true := h 3 (by omega)
  have h4 : gp_free B 16 = true := h 4 (by omega)
  have h5 : gp_free B 32 = true := h 5 (by omega)
  have h6 : gp_free B 64 = true := h 6 (by omega)
  simp [h0, h1, h2, h3, h4, h5, h6]
end
section
/-! ===== colours, chromatic, coefficient ===== -/
def gc_f (k : Int32) : Nat → Int32
  | 0 => 1
  | j + 1 => gc_f k j * ((k - nI (j + 1)) + 1)
def gc_s (P : Nat → Int32) (k : Int32) : Nat → Int32
  | 0 => 0
  | j + 1 => gc_s P k j + P (j + 1) * gc_f k (j + 1)
/-- falling products multiplied out -/
def gc_p : Nat → Nat → Int32
  | 0, i => if i = 0 then 1 else 0
  | j + 1, 0 => 0 - nI j * gc_p j 0
  | j + 1, i + 1 => gc_p j i - nI j * gc_p j (i + 1)
def gc_c (P : Nat → Int32) (i : Nat) : Nat → Int32
  | 0 => 0
  | j + 1 => gc_c P i j + P (j + 1) * gc_p (j + 1) i
section
variable {p0 : Int32} {xw xn xt xs xe xd xp xc : Nat → Int32} {r0 : Int32} {yw yo yl yp yq yc yf yv ye : Nat → Int32}
theorem gx_col {post : Int32 → SX → Prop} {k : Int32} {P : Nat → Int32} (h : ∀ j, 0 < j → j < 8 → xp j = P j) (hp : post (gc_s P k 7) (p0, xw, xn, xt, xs, xe, xd, xp, xc)) : ∃ n, wX_colours_23 post k p0 xw xn xt xs xe xd xp xc n 0 1 1 := by
  refine pk_loop (fun n i (s : Int32 × Int32) => wX_colours_23 post k p0 xw xn xt xs xe xd xp xc n s.1 s.2 (nI i)) (fun i s => ∃ j, i = j + 1 ∧ s = (gc_s P k j, gc_f k j)) 8 1 (0, 1) (by omega) ⟨0, rfl, rfl⟩ ?_ ?_
  · rintro n s ⟨j, hj, rfl⟩
    have e : j = 7 := by omega
    subst e
    exact gb_el 7 hp
  · rintro n i s hi ⟨j, rfl, rfl⟩ K
    refine gb_hl 7 (by omega) (nm_r (e' := gc_f k (j + 1)) rfl ⟨vp_in_nI hi (by decide), nm_r (e' := gc_s P k (j + 1)) ?_ (gb_s (K (gc_s P k (j + 1), gc_f k (j + 1)) ⟨j + 1, rfl, rfl⟩))⟩)
    rw [gb_rdn (h (j + 1) (by omega) hi)]
    rfl
theorem gy_col {post : Int32 → SY → Prop} {k : Int32} {P : Nat → Int32} (h : ∀ j, 0 < j → j < 8 → yq j = P j) (hp : post (gc_s P k 7) (r0, yw, yo, yl, yp, yq, yc, yf, yv, ye)) : ∃ n, wY_colours_23 post k r0 yw yo yl yp yq yc yf yv ye n 0 1 1 := by
  refine pk_loop (fun n i (s : Int32 × Int32) => wY_colours_23 post k r0 yw yo yl yp yq yc yf yv ye n s.1 s.2 (nI i)) (fun i s => ∃ j, i = j + 1 ∧ s = (gc_s P k j, gc_f k j)) 8 1 (0, 1) (by omega) ⟨0, rfl, rfl⟩ ?_ ?_
  · rintro n s ⟨j, hj, rfl⟩
    have e : j = 7 := by omega
    subst e
    exact gb_el 7 hp
  · rintro n i s hi ⟨j, rfl, rfl⟩ K
    refine gb_hl 7 (by omega) (nm_r (e' := gc_f k (j + 1)) rfl ⟨vp_in_nI hi (by decide), nm_r (e' := gc_s P k (j + 1)) ?_ (gb_s (K (gc_s P k (j + 1), gc_f k (j + 1)) ⟨j + 1, rfl, rfl⟩))⟩)
    rw [gb_rdn (h (j + 1) (by omega) hi)]
    rfl
theorem i_vc_colours {k : Nat} {u : SX} {v : SY} (I : i_Rel k u v) (hk : k + 4 ≤ 2048) (v1 : Int32) : wpX_colours (fun r u' => wpY_colours (fun r' v' => r' = r ∧ i_Rel (k + 4) u' v') v v1) u v1 := by
  obtain ⟨p0, xw, xn, xt, xs, xe, xd, xp, xc⟩ := u
  obtain ⟨r0, yw, yo, yl, yp, yq, yc, yf, yv, ye⟩ := v
  by_cases h0 : v1 < 0
  · exact br_t h0 (br_t h0 ⟨rfl, I⟩)
  · by_cases h9 : v1 ≤ 9
    · obtain ⟨W, B, G, hx, hy, hn, hp, ho⟩ := I
      unfold wpX_colours wpY_colours
      dsimp only
      refine br_f h0 (br_t h9 (gx_findPartitions G.2.2.2.1 hn hp ?_))
      intro t ns p hp'
      dsimp only
      refine gx_col (P := fun j => nI (gp_t B j 127)) (fun j _ hj => hp' j hj) ?_
      refine br_f h0 (br_t h9 (gy_findParts hy G.2.2.1 ?_))
      intro p2 q hq
      dsimp only
      refine gy_col (P := fun j => nI (gp_t B j 127)) (fun j hj0 hj => ?_) ?_
      · rw [hq j hj0 hj, gq_eq G hj0 hj]
      · exact ⟨rfl, W, B, G, hx, hy, hn, Or.inr ⟨rfl, hp'⟩, ho⟩
    · exact br_f h0 (br_f h9 (br_f h0 (br_f h9 ⟨rfl, I⟩)))
theorem gx_chr {post : Int32 → SX → Prop} {T : Nat → Nat} {m : Nat} (hm : m < 8) (h : ∀ j, 0 < j → j < 8 → xp j = nI (T j)) (hb : ∀ j, 0 < j → j < 8 → T j < 2 ^ 31) (hz : T m ≠ 0) (hl : ∀ j, 0 < j → j < m → T j = 0) (hp : post (nI m) (p0, xw, xn, xt, xs, xe, xd, xp, xc)) : ∀ d j n, 0 < j → j + d = m → d < n → wX_chromatic_6 post p0 xw xn xt xs xe xd xp xc n (nI j) := by
  intro d
  induction d with
  | zero =>
    intro j n h0 hj hn
    obtain ⟨n, rfl⟩ : ∃ q, n = q + 1 := ⟨n - 1, by omega⟩
    have e : j = m := by omega
    subst e
    exact ⟨vp_in_nI hm (by decide), pk_eq (T j) 0 (fun z => absurd z hz) (fun _ => hp) (gb_rdn (h j h0 hm)) rfl (hb j h0 hm)⟩
  | succ d ih =>
    intro j n h0 hj hn
    obtain ⟨n, rfl⟩ : ∃ q, n = q + 1 := ⟨n - 1, by omega⟩
    exact ⟨vp_in_nI (by omega) (by decide), pk_eq (T j) 0 (fun _ => gb_s (ih (j + 1) n (by omega) (by omega) (by omega))) (fun z => absurd (hl j h0 (by omega)) z) (gb_rdn (h j h0 (by omega))) rfl (hb j h0 (by omega))⟩
theorem gy_chr {post : Int32 → SY → Prop} {T : Nat → Nat} {m : Nat} (hm : m < 8) (h : ∀ j, 0 < j → j < 8 → yq j = nI (T j)) (hb : ∀ j, 0 < j → j < 8 → T j < 2 ^ 31) (hz : T m ≠ 0) (hl : ∀ j, 0 < j → j < m → T j = 0) (hp : post (nI m) (r0, yw, yo, yl, yp, yq, yc, yf, yv, ye)) : ∀ d j n, 0 < j → j + d = m → d < n → wY_chromatic_6 post r0 yw yo yl yp yq yc yf yv ye n (nI j) := by
  intro d
  induction d with
  | zero =>
    intro j n h0 hj hn
    obtain ⟨n, rfl⟩ : ∃ q, n = q + 1 := ⟨n - 1, by omega⟩
    have e : j = m := by omega
    subst e
    exact gb_hd 8 hm ⟨vp_in_nI hm (by decide), pk_le (T j) 0 (fun z => absurd (Nat.le_zero.mp z) hz) (fun _ => hp) (gb_rdn (h j h0 hm)) rfl (hb j h0 hm)⟩
  | succ d ih =>
    intro j n h0 hj hn
    obtain ⟨n, rfl⟩ : ∃ q, n = q + 1 := ⟨n - 1, by omega⟩
    exact gb_hd 8 (by omega) ⟨vp_in_nI (by omega) (by decide), pk_le (T j) 0 (fun _ => gb_s (ih (j + 1) n (by omega) (by omega) (by omega))) (fun z => by have := hl j h0 (by omega); omega) (gb_rdn (h j h0 (by omega))) rfl (hb j h0 (by omega))⟩
theorem i_vc_chromatic {k : Nat} {u : SX} {v : SY} (I : i_Rel k u v) (hk : k + 4 ≤ 2048) : wpX_chromatic (fun r u' => wpY_chromatic (fun r' v' => r' = r ∧ i_Rel (k + 4) u' v') v) u := by
  obtain ⟨p0, xw, xn, xt, xs, xe, xd, xp, xc⟩ := u
  obtain ⟨r0, yw, yo, yl, yp, yq, yc, yf, yv, ye⟩ := v
  obtain ⟨W, B, G, hx, hy, hn, hp, ho⟩ := I
  obtain ⟨m, ⟨hm0, hm, hz⟩, hl⟩ := pk_least (fun m => 0 < m ∧ m < 8 ∧ gp_t B m 127 ≠ 0) ⟨7, by omega, by omega, by rw [gp_t7 G]; decide⟩
  have hl2 : ∀ j, 0 < j → j < m → gp_t B j 127 = 0 := by
    intro j hj0 hj
    apply Classical.byContradiction
    intro z
    exact hl j hj ⟨hj0, by omega, z⟩
  have hb : ∀ j, 0 < j → j < 8 → gp_t B j 127 < 2 ^ 31 := fun j h0 h => Nat.lt_of_le_of_lt (gp_tLe G h0 h) (by decide)
  unfold wpX_chromatic wpY_chromatic
  dsimp only
  refine gx_findPartitions G.2.2.2.1 hn hp ?_
  intro t ns p hp'
  dsimp only
  refine ⟨8, gx_chr (T := fun j => gp_t B j 127) hm (fun j _ hj => hp' j hj) hb hz hl2 ?_ (m - 1) 1 8 (by omega) (by omega) (by omega)⟩
  refine gy_findParts hy G.2.2.1 ?_
  intro p2 q hq
  dsimp only
  refine ⟨8, gy_chr (T := fun j => gp_t B j 127) hm (fun j hj0 hj => ?_) hb hz hl2 ?_ (m - 1) 1 8 (by omega) (by omega) (by omega)⟩
  · rw [hq j hj0 hj, gq_eq G hj0 hj]
  · exact ⟨rfl, W, B, G, hx, hy, hn, Or.inr ⟨rfl, hp'⟩, ho⟩
/-- one more factor: from above down, i + 1 places already done -/
theorem gx_cf59 {post : Int32 → SX → Prop} {J : Int32 → Int32 → (Nat → Int32) → (Nat → Int32) → (Nat → Int32) → (Nat → Int32) → (Nat → Int32) → (Nat → Int32) → (Nat → Int32) → (Nat → Int32) → Prop} {P : Nat → Int32} {i j : Nat} {x2 : Int32} (hi : i < 8) (hj : j + 1 < 8) (hP : xp (j + 1) = P (j + 1)) (hc : ∀ a, a < 8 → xc a = gc_p j a)
    (K : ∀ c, (∀ a, a < 8 → c a = gc_p (j + 1) a) → J (x2 + P (j + 1) * gc_p (j + 1) i) (nI (j + 2)) xw xn xt xs xe xd xp c) : ∃ n, wX_coefficient_59 post J (nI i) x2 (nI (j + 1)) p0 n 7 xw xn xt xs xe xd xp xc := by
  have hj1 : nI (j + 1) - 1 = nI j := nI_pred j
  have H : ∀ d (c : Nat → Int32), d ≤ 8 → (∀ a, a < d → c a = gc_p j a) → (∀ a, d ≤ a → a < 8 → c a = gc_p (j + 1) a) → ∀ n, d < n → wX_coefficient_59 post J (nI i) x2 (nI (j + 1)) p0 n (nI d + (-1)) xw xn xt xs xe xd xp c := by
    intro d
    induction d with
    | zero =>
      intro c _ _ h2 n hn
      obtain ⟨n, rfl⟩ : ∃ q, n = q + 1 := ⟨n - 1, by omega⟩
      refine br_t (by decide) ⟨vp_in_nI hj (by decide), vp_in_nI (by omega) (by decide), nm_r ?_ (gb_s (K c (fun a ha => h2 a (Nat.zero_le _) ha)))⟩
      rw [gb_rdn hP, gb_rdn (h2 i (Nat.zero_le _) hi)]
    | succ d ih =>
      intro c hd h1 h2 n hn
      obtain ⟨n, rfl⟩ : ∃ q, n = q + 1 := ⟨n - 1, by omega⟩
      rw [pk_m1]
      have step : ∀ z0, z0 - nI j * gc_p j d = gc_p (j + 1) d → wX_coefficient_88 post J (wX_coefficient_59 post J (nI i) x2 (nI (j + 1)) p0 n) (nI i) x2 (nI (j + 1)) (nI d) z0 (nI d) p0 xw xn xt xs xe xd xp c := by
        intro z0 hz
        refine ⟨vp_in_nI (by omega) (by decide), vp_in_nI (by omega) (by decide), nm_r (e' := upd c d (gc_p (j + 1) d)) ?_ (nm_e (ih _ (by omega) ?_ ?_ n (by omega)))⟩
        · rw [gb_rdn (h1 d (by omega)), hj1, hz, nI_clamp (by omega)]
        · intro a ha
          rw [pk_un (by omega)]
          exact h1 a (by omega)
        · intro a ha ha8
          by_cases e : a = d
          · rw [e, pk_us]
          · rw [pk_un e]
            exact h2 a (by omega) ha8
      refine br_f (nI_pos (by omega)) (pk_le d 0 (fun e => step 0 ?_) (fun e => ⟨pk_in (d - 1) 512 (by omega) (pk_sub (b := 1) (by omega)), step _ ?_⟩))
      · have e0 : d = 0 := by omega
        subst e0
        rfl
      · obtain ⟨e2, rfl⟩ : ∃ q, d = q + 1 := ⟨d - 1, by omega⟩
        rw [nI_pred, gb_rdn (h1 e2 (by omega))]
        rfl
  exact ⟨9, H 8 xc (by omega) hc (fun a h1 h2 => by omega) 9 (by omega)⟩
theorem gx_cf49 {post : Int32 → SX → Prop} {P : Nat → Int32} {i : Nat} (hi : i < 8) (hP : ∀ j, 0 < j → j < 8 → xp j = P j) (hc : ∀ a, a < 8 → xc a = gc_p 0 a) (K : ∀ c, post (gc_c P i 7) (p0, xw, xn, xt, xs, xe, xd, xp, c)) : ∃ n, wX_coefficient_49 post (nI i) p0 n 0 1 xw xn xt xs xe xd xp xc := by
  refine pk_loop (fun n k (s : Int32 × (Nat → Int32)) => wX_coefficient_49 post (nI i) p0 n s.1 (nI k) xw xn xt xs xe xd xp s.2) (fun k s => ∃ j, k = j + 1 ∧ s.1 = gc_c P i j ∧ ∀ a, a < 8 → s.2 a = gc_p j a) 8 1 (0, xc) (by omega) ⟨0, rfl, rfl, hc⟩ ?_ ?_
  · rintro n ⟨x, c⟩ ⟨j, hj, rfl, _⟩
    have e : j = 7 := by omega
    subst e
    exact gb_el 7 (K c)
  · rintro n k ⟨x, c⟩ hk ⟨j, rfl, rfl, h⟩ K2
    refine gb_hl 7 (by omega) (gx_cf59 hi hk (hP (j + 1) (by omega) hk) h ?_)
    intro c' hc'
    exact K2 (_, c') ⟨j + 1, rfl, rfl, hc'⟩
theorem gx_cf18 {post : Int32 → SX → Prop} {P : Nat → Int32} {i : Nat} (hi : i < 8) (hP : ∀ j, 0 < j → j < 8 → xp j = P j) (K : ∀ c, post (gc_c P i 7) (p0, xw, xn, xt, xs, xe, xd, xp, c)) : ∃ n, wX_coefficient_18 post (nI i) p0 n 0 xw xn xt xs xe xd xp xc := by
  refine pk_loop (fun n k (c : Nat → Int32) => wX_coefficient_18 post (nI i) p0 n (nI k) xw xn xt xs xe xd xp c) (fun k c => ∀ a, a < k → c a = gc_p 0 a) 8 0 xc (by omega) (fun a ha => by omega) ?_ ?_
  · intro n c h
    exact gb_el 7 (gx_cf49 hi hP h K)
  · intro n k c hk h K2
    refine gb_hl 7 (by omega) (pk_eq k 0 (fun e => ⟨vp_in_nI (by omega) (by decide), nm_r gb_udn (gb_s (K2 _ (gb_fill h ?_)))⟩) (fun e => ⟨vp_in_nI (by omega) (by decide), nm_r gb_udn (gb_s (K2 _ (gb_fill h ?_)))⟩))
    · show _ = if k = 0 then (1 : Int32) else 0
      rw [if_pos e]
    · show _ = if k = 0 then (1 : Int32) else 0
      rw [if_neg e]
/-! Y -/
theorem gy_extend {post : SY → Prop} {j : Nat} (hf : ∀ a, a < 9 → yf a = gc_p j a) (K : ∀ f, (∀ a, a < 9 → f a = gc_p (j + 1) a) → post (r0, yw, yo, yl, yp, yq, yc, f, yv, ye)) : wpY_extend post (r0, yw, yo, yl, yp, yq, yc, yf, yv, ye) (nI j) := by
  have H : ∀ d (f : Nat → Int32), d ≤ 8 → (∀ a, a ≤ d → f a = gc_p j a) → (∀ a, d < a → a < 9 → f a = gc_p (j + 1) a) → ∀ n, d < n → wY_extend_3 post (nI j) r0 n (nI d) yw yo yl yp yq yc f yv ye := by
    intro d
    induction d with
    | zero =>
      intro f _ h1 h2 n hn
      obtain ⟨n, rfl⟩ : ∃ q, n = q + 1 := ⟨n - 1, by omega⟩
      refine br_t (by decide) (nm_e (K _ ?_))
      intro a ha
      by_cases e : a = 0
      · rw [e, pk_us, h1 0 (by omega)]
        show -nI j * gc_p j 0 = 0 - nI j * gc_p j 0
        grind
      · rw [pk_un e]
        exact h2 a (by omega) ha
    | succ d ih =>
      intro f hd h1 h2 n hn
      obtain ⟨n, rfl⟩ : ∃ q, n = q + 1 := ⟨n - 1, by omega⟩
      refine br_f (nI_nle (by omega) (by omega)) ⟨pk_in d 9 (by omega) (nI_pred d), vp_in_nI (by omega) (by decide), vp_in_nI (by omega) (by decide), nm_r (e' := upd f (d + 1) (gc_p (j + 1) (d + 1))) ?_ (nm_r (pk_m1 d) (ih _ (by omega) ?_ ?_ n (by omega)))⟩
      · rw [nI_pred, gb_rdn (h1 d (by omega)), gb_rdn (h1 (d + 1) (by omega)), nI_clamp (by omega)]
        rfl
      · intro a ha
        rw [pk_un (by omega)]
        exact h1 a (by omega)
      · intro a ha ha8
        by_cases e : a = d + 1
        · rw [e, pk_us]
        · rw [pk_un e]
          exact h2 a (by omega) ha8
  exact ⟨9, H 8 yf (by omega) (fun a ha => hf a (by omega)) (fun a h1 h2 => by omega) 9 (by omega)⟩
theorem gy_cf83 {post : Int32 → SY → Prop} {J : Int32 → Int32 → (Nat → Int32) → (Nat → Int32) → (Nat → Int32) → (Nat → Int32) → (Nat → Int32) → (Nat → Int32) → (Nat → Int32) → (Nat → Int32) → (Nat → Int32) → Prop} {P : Nat → Int32} {j : Nat} {x1 : Int32} (hj : j + 1 < 8) (hP : yq (j + 1) = P (j + 1)) (hf : ∀ a, a < 9 → yf a = gc_p (j + 1) a) (hc : ∀ a, a < 8 → yc a = gc_c P a j)
    (K : ∀ c, (∀ a, a < 8 → c a = gc_c P a (j + 1)) → J (nI (j + 2)) r0 yw yo yl yp yq c yf yv ye) : ∃ n, wY_coefficient_83 post J x1 (nI (j + 1)) r0 n 0 yw yo yl yp yq yc yf yv ye := by
  refine pk_loop (fun n i (c : Nat → Int32) => wY_coefficient_83 post J x1 (nI (j + 1)) r0 n (nI i) yw yo yl yp yq c yf yv ye) (fun i c => (∀ a, a < i → c a = gc_c P a (j + 1)) ∧ ∀ a, i ≤ a → a < 8 → c a = gc_c P a j) 8 0 yc (by omega) ⟨fun a ha => by omega, fun a _ h => hc a h⟩ ?_ ?_
  · rintro n c ⟨h, _⟩
    exact gb_ex 8 (gb_s (K c h))
  · rintro n i c hi ⟨h1, h2⟩ K2
    refine gb_hd 8 hi ⟨vp_in_nI hi (by decide), vp_in_nI hj (by decide), vp_in_nI (by omega) (by decide), vp_in_nI hi (by decide), nm_r (e' := upd c i (gc_c P i (j + 1))) ?_ (gb_s (K2 _ ⟨gb_fill (f := fun a => gc_c P a (j + 1)) h1 rfl, ?_⟩))⟩
    · rw [gb_rdn (h2 i (by omega) hi), gb_rdn hP, gb_rdn (hf i (by omega)), nI_clamp (by omega)]
      rfl
    · intro a ha ha8
      rw [pk_un (by omega)]
      exact h2 a (by omega) ha8
theorem gy_cf68 {post : Int32 → SY → Prop} {P : Nat → Int32} {i : Nat} (hi : i < 8) (hP : ∀ j, 0 < j → j < 8 → yq j = P j) (hf : ∀ a, a < 9 → yf a = gc_p 0 a) (hc : ∀ a, a < 8 → yc a = gc_c P a 0) (K : ∀ c f, post (gc_c P i 7) (r0, yw, yo, yl, yp, yq, c, f, yv, ye)) : ∃ n, wY_coefficient_68 post (nI i) n 1 r0 yw yo yl yp yq yc yf yv ye := by
  refine pk_loop (fun n k (s : (Nat → Int32) × (Nat → Int32)) => wY_coefficient_68 post (nI i) n (nI k) r0 yw yo yl yp yq s.1 s.2 yv ye) (fun k s => ∃ j, k = j + 1 ∧ (∀ a, a < 9 → s.2 a = gc_p j a) ∧ ∀ a, a < 8 → s.1 a = gc_c P a j) 8 1 (yc, yf) (by omega) ⟨0, rfl, hf, hc⟩ ?_ ?_
  · rintro n ⟨c, f⟩ ⟨j, hj, _, h⟩
    have e : j = 7 := by omega
    subst e
    refine gb_el 7 ⟨vp_in_nI hi (by decide), ?_⟩
    dsimp only at h ⊢
    rw [gb_rdn (h i hi)]
    exact K c f
  · rintro n k ⟨c, f⟩ hk ⟨j, rfl, h1, h2⟩ K2
    refine gb_hl 7 (by omega) ?_
    dsimp only
    rw [nI_pred]
    refine gy_extend h1 ?_
    intro f' hf'
    dsimp only
    refine gy_cf83 hk (hP (j + 1) (by omega) hk) hf' h2 ?_
    intro c' hc'
    exact K2 (c', f') ⟨j + 1, rfl, hf', hc'⟩
theorem gy_cf18 {post : Int32 → SY → Prop} {P : Nat → Int32} {i : Nat} (hi : i < 8) (hP : ∀ j, 0 < j → j < 8 → yq j = P j) (K : ∀ c f, post (gc_c P i 7) (r0, yw, yo, yl, yp, yq, c, f, yv, ye)) : ∃ n, wY_coefficient_18 post (nI i) r0 n 0 yw yo yl yp yq yc yf yv ye := by
  refine pk_loop (fun n k (f : Nat → Int32) => wY_coefficient_18 post (nI i) r0 n (nI k) yw yo yl yp yq yc f yv ye) (fun k f => ∀ a, a < k → f a = gc_p 0 a) 9 0 yf (by omega) (fun a ha => by omega) ?_ ?_
  · intro n f h
    refine gb_ex 9 ?_
    refine pk_loop (fun n k (c : Nat → Int32) => wY_coefficient_47 post (nI i) r0 n (nI k) yw yo yl yp yq c f yv ye) (fun k c => ∀ a, a < k → c a = 0) 8 0 yc (by omega) (fun a ha => by omega) ?_ ?_
    · intro n c hc
      exact gb_ex 8 (gy_cf68 hi hP h hc K)
    · intro n k c hk hc K2
      exact gb_hd 8 hk ⟨vp_in_nI hk (by decide), nm_r gb_udn (gb_s (K2 _ (gb_fill (f := fun _ => 0) hc rfl)))⟩
  · intro n k f hk h K2
    refine gb_hd 9 hk (pk_eq k 0 (fun e => ⟨vp_in_nI (by omega) (by decide), nm_r gb_udn (gb_s (K2 _ (gb_fill h ?_)))⟩) (fun e => ⟨vp_in_nI (by omega) (by decide), nm_r gb_udn (gb_s (K2 _ (gb_fill h ?_)))⟩))
    · show _ = if k = 0 then (1 : Int32) else 0
      rw [if_pos e]
    · show _ = if k = 0 then (1 : Int32) else 0
      rw [if_neg e]
theorem i_vc_coefficient {k : Nat} {u : SX} {v : SY} (I : i_Rel k u v) (hk : k + 4 ≤ 2048) (v1 : Int32) : wpX_coefficient (fun r u' => wpY_coefficient (fun r' v' => r' = r ∧ i_Rel (k + 4) u' v') v v1) u v1 := by
  obtain ⟨p0, xw, xn, xt, xs, xe, xd, xp, xc⟩ := u
  obtain ⟨r0, yw, yo, yl, yp, yq, yc, yf, yv, ye⟩ := v
  by_cases h0 : v1 < 0
  · exact br_t h0 (br_t h0 ⟨rfl, I⟩)
  · by_cases h7 : v1 ≤ 7
    · obtain ⟨W, B, G, hx, hy, hn, hp, ho⟩ := I
      obtain ⟨i, hi, rfl⟩ := nI_of2 (n := 7) (by decide) h0 h7
      unfold wpX_coefficient wpY_coefficient
      dsimp only
      refine br_f h0 (br_t h7 (gx_findPartitions G.2.2.2.1 hn hp ?_))
      intro t ns p hp'
      dsimp only
      refine gx_cf18 (P := fun j => nI (gp_t B j 127)) (by omega) (fun j _ hj => hp' j hj) ?_
      intro c
      refine br_f h0 (br_t h7 (gy_findParts hy G.2.2.1 ?_))
      intro p2 q hq
      dsimp only
      refine gy_cf18 (P := fun j => nI (gp_t B j 127)) (by omega) (fun j hj0 hj => ?_) ?_
      · rw [hq j hj0 hj, gq_eq G hj0 hj]
      · intro c' f'
        exact ⟨rfl, W, B, G, hx, hy, hn, Or.inr ⟨rfl, hp'⟩, ho⟩
    · exact br_f h0 (br_f h7 (br_f h0 (br_f h7 ⟨rfl, I⟩)))
end
end
section
/-! ===== closed: the 5040 codes give all orders ===== -/
def go_ms (q : Nat → Nat) : Nat → Nat
  | 0 => 0
  | k + 1 => go_ms q k ||| 2 ^ q k
def go_ok (p : Nat) : Bool := Nat.blt p 2097152 && (Nat.blt (go_q p 0) 7 && (Nat.blt (go_q p 1) 7 && (Nat.blt (go_q p 2) 7 && (Nat.blt (go_q p 3) 7 && (Nat.blt (go_q p 4) 7 && (Nat.blt (go_q p 5) 7 && (Nat.blt (go_q p 6) 7 && Nat.beq (go_ms (go_q p) 7) 127)))))))
def go_rk (t v : Nat) : Nat := gb_pc (t / 2 ^ (v + 1))
def go_ck : Nat → Nat → Nat → Nat → Nat → Bool
  | 0, _, p, c, _ => Nat.blt c 5040 && Nat.beq (go_pk c) p
  | k + 1, t, p, c, m => (List.range 7).all (fun v => !(t.testBit v) || go_ck k (gb_dif t (2 ^ v)) (p + v * 2 ^ (3 * (6 - k))) (c + m * go_rk t v) (m * (k + 1)))
theorem go_okAll : (List.range 5040).all (fun c => go_ok (go_pk c)) = true := by decide +kernel
theorem go_ckAll : go_ck 7 127 0 0 1 = true := by decide +kernel
end
section
/-! ===== orders: their codes, Y's makeOrders and write ===== -/
theorem go_msC {q r : Nat → Nat} {k : Nat} (h : ∀ i, i < k → q i = r i) : go_ms q k = go_ms r k := by
  induction k with
  | zero => rfl
  | succ k ih => unfold go_ms; rw [ih (fun i hi => h i (by omega)), h k (by omega)]
theorem go_msLt {q : Nat → Nat} {k : Nat} (h : ∀ i, i < k → q i < 7) : go_ms q k < 128 := by
  induction k with
  | zero => exact Nat.zero_lt_succ 127
  | succ k ih => exact gb_insLt (ih (fun i hi => h i (by omega))) (h k (by omega))
theorem go_msPc {q : Nat → Nat} {k : Nat} (h : ∀ i, i < k → q i < 7) : gb_pc (go_ms q k) ≤ k := by
  induction k with
  | zero => exact (by decide : gb_pc 0 ≤ 0)
  | succ k ih =>
    have h1 := ih (fun i hi => h i (by omega))
    have h2 : go_ms q k < 128 := go_msLt (fun i hi => h i (by omega))
    have h3 := h k (by omega)
    show gb_pc (go_ms q k ||| 2 ^ q k) ≤ k + 1
    cases e : (go_ms q k).testBit (q k)
    · rw [gb_pcIns _ h2 _ h3 e]; omega
    · have e2 : go_ms q k ||| 2 ^ q k = go_ms q k := by
        apply gb_ext (gb_insLt h2 h3) h2
        intro i hi
        rw [gb_insT]
        by_cases z : q k = i
        · subst z; rw [e]; rfl
        · simp [z]
      rw [e2]; omega
/-- an order: seven vertices, all of them -/
def go_O (q : Nat → Nat) : Prop := (∀ k, k < 7 → q k < 7) ∧ go_ms q 7 = 127
theorem go_Opc {q : Nat → Nat} (h : go_O q) : ∀ d k, k + d = 7 → gb_pc (go_ms q k) = k := by
  intro d
  induction d with
  | zero =>
    intro k hk
    have e : k = 7 := by omega
    rw [e, h.2]; decide
  | succ d ih =>
    intro k hk
    have h1 := ih (k + 1) (by omega)
    have h2 := go_msPc (q := q) (k := k) (fun i hi => h.1 i (by omega))
    have h3 : go_ms q k < 128 := go_msLt (fun i hi => h.1 i (by omega))
    have h4 := h.1 k (by omega)
    rcases Nat.lt_or_ge (gb_pc (go_ms q k)) k with z | z
    · exfalso
      have e : go_ms q (k + 1) = go_ms q k ||| 2 ^ q k := rfl
      rw [e] at h1
      cases e2 : (go_ms q k).testBit (q k)
      · rw [gb_pcIns _ h3 _ h4 e2] at h1; omega
      · have e3 : go_ms q k ||| 2 ^ q k = go_ms q k := by
          apply gb_ext (gb_insLt h3 h4) h3
          intro i hi
          rw [gb_insT]
          by_cases z : q k = i
          · subst z; rw [e2]; rfl
          · simp [z]
        rw [e3] at h1; omega
    · omega
/-- the next vertex is new -/
theorem go_Onew {q : Nat → Nat} (h : go_O q) {k : Nat} (hk : k < 7) : (go_ms q k).testBit (q k) = false := by
  have h1 := go_Opc h (7 - k) k (by omega)
  have h2 := go_Opc h (6 - k) (k + 1) (by omega)
  have h3 : go_ms q k < 128 := go_msLt (fun i hi => h.1 i (by omega))
  cases e : (go_ms q k).testBit (q k)
  · rfl
  · exfalso
    have e3 : go_ms q k ||| 2 ^ q k = go_ms q k := by
      apply gb_ext (gb_insLt h3 (h.1 k hk)) h3
      intro i hi
      rw [gb_insT]
      by_cases z : q k = i
      · subst z; rw [e]; rfl
      · simp [z]
    have e4 : go_ms q (k + 1) = go_ms q k ||| 2 ^ q k := rfl
    rw [e4, e3] at h2
    omega
theorem go_pkO {c : Nat} (h : c < 5040) : go_pk c < 2097152 ∧ go_O (go_q (go_pk c)) := by
  have h1 := List.all_eq_true.mp go_okAll c (List.mem_range.mpr h)
  unfold go_ok at h1
  simp only [Bool.and_eq_true, Nat.blt_eq, Nat.beq_eq] at h1
  obtain ⟨a, b0, b1, b2, b3, b4, b5, b6, m⟩ := h1
  refine ⟨a, ?_, m⟩
  intro k hk
  have : k = 0 ∨ k = 1 ∨ k = 2 ∨ k = 3 ∨ k = 4 ∨ k = 5 ∨ k = 6 := by omega
  rcases this with rfl | rfl | rfl | rfl | rfl | rfl | rfl <;> assumption
/-- seven vertices packed -/
def go_pp (q : Nat → Nat) : Nat → Nat
  | 0 => 0
  | k + 1 => go_pp q k + q k * 2 ^ (3 * k)
theorem go_ppLt {q : Nat → Nat} {n : Nat} (h : ∀ i, i < n → q i < 8) : go_pp q n < 2 ^ (3 * n) := by
  induction n with
  | zero => exact Nat.zero_lt_one
  | succ n ih =>
    have h1 := ih (fun i hi => h i (by omega))
    have h2 : q n + 1 ≤ 8 := h n (by omega)
    have h3 : (q n + 1) * 2 ^ (3 * n) ≤ 8 * 2 ^ (3 * n) := Nat.mul_le_mul_right _ h2
    have e : 2 ^ (3 * (n + 1)) = 8 * 2 ^ (3 * n) := by
      rw [show 3 * (n + 1) = 3 + 3 * n by omega, Nat.pow_add]
    rw [e]
    unfold go_pp
    rw [Nat.add_mul, Nat.one_mul] at h3
    omega
theorem go_qlo {p x n k : Nat} (hk : k < n) : go_q (p + x * 2 ^ (3 * n)) k = go_q p k := by
  unfold go_q
  have e : x * 2 ^ (3 * n) = (x * 2 ^ (3 * (n - k - 1)) * 8) * 2 ^ (3 * k) := by
    rw [show 3 * n = 3 * (n - k - 1) + 3 + 3 * k by omega, Nat.pow_add, Nat.pow_add, Nat.mul_assoc, Nat.mul_assoc, Nat.mul_assoc]
  rw [e, Nat.add_mul_div_right _ _ (Nat.two_pow_pos _), Nat.add_mul_mod_self_right]
theorem go_qhi {p x n : Nat} (hp : p < 2 ^ (3 * n)) (hx : x < 8) : go_q (p + x * 2 ^ (3 * n)) n = x := by
  unfold go_q
  rw [Nat.add_mul_div_right _ _ (Nat.two_pow_pos _), Nat.div_eq_of_lt hp, Nat.zero_add, Nat.mod_eq_of_lt hx]
theorem go_qpp {q : Nat → Nat} {n : Nat} (h : ∀ i, i < n → q i < 8) : ∀ k, k < n → go_q (go_pp q n) k = q k := by
  induction n with
  | zero => intro k hk; omega
  | succ n ih =>
    intro k hk
    show go_q (go_pp q n + q n * 2 ^ (3 * n)) k = q k
    by_cases e : k = n
    · subst e
      exact go_qhi (go_ppLt (fun i hi => h i (by omega))) (h k (by omega))
    · rw [go_qlo (by omega)]
      exact ih (fun i hi => h i (by omega)) k (by omega)
theorem go_find {q : Nat → Nat} (h : go_O q) : ∃ c, c < 5040 ∧ ∀ k, k < 7 → go_q (go_pk c) k = q k := by
  have H : ∀ d j t p c m, j + d = 7 → p = go_pp q j → (∀ v, v < 7 → t.testBit v = !(go_ms q j).testBit v) → go_ck d t p c m = true → ∃ c, c < 5040 ∧ go_pk c = go_pp q 7 := by
    intro d
    induction d with
    | zero =>
      intro j t p c m hj hp ht hc
      have e : j = 7 := by omega
      subst e
      unfold go_ck at hc
      rw [Bool.and_eq_true, Nat.blt_eq, Nat.beq_eq] at hc
      exact ⟨c, hc.1, hc.2.trans hp⟩
    | succ d ih =>
      intro j t p c m hj hp ht hc
      unfold go_ck at hc
      have hq := h.1 j (by omega)
      have h1 := List.all_eq_true.mp hc (q j) (List.mem_range.mpr hq)
      rw [ht (q j) hq, go_Onew h (by omega)] at h1
      simp only [Bool.not_false, Bool.not_true, Bool.false_or] at h1
      refine ih (j + 1) _ _ _ _ (by omega) ?_ ?_ h1
      · rw [hp, show 6 - d = j by omega]
        rfl
      · intro v hv
        rw [gb_delT _ _ (by omega), ht v hv]
        show _ = !(go_ms q j ||| 2 ^ q j).testBit v
        rw [gb_insT, Bool.not_or]
  obtain ⟨c, hc, e⟩ := H 7 0 127 0 0 1 (by omega) rfl (by decide : ∀ v, v < 7 → Nat.testBit 127 v = !(Nat.testBit 0 v)) go_ckAll
  refine ⟨c, hc, ?_⟩
  intro k hk
  rw [e]
  exact go_qpp (fun i hi => Nat.lt_succ_of_lt (h.1 i hi)) k hk
section
variable {r0 : Int32} {yw yo yl yp yq yc yf yv ye : Nat → Int32}
theorem gy_pkB {post : Int32 → Prop} {J : Int32 → Int32 → Int32 → Int32 → Prop} {x2 x7 : Int32} {t p k : Nat} {x3' x4' : Int32} (ht : t < 128) (e3 : nI t &&& (((1 : Int32) <<< (x7 &&& 31)) ^^^ (-1)) = x3') (e4 : nI p ||| (x7 <<< ((3 * (7 - nI (k + 1))) &&& 31)) = x4') (K : J x2 x3' x4' (nI k)) :
    ∀ v m n, v ≤ 7 → v + m ≤ 8 → v < n → wY_pack_35 post J x2 (nI t) (nI p) (nI (k + 1)) r0 yw yo yl yp yq yc yf yv ye n (gb_i (-(m + 1 : Nat))) x7 (nI v + (-1)) := by
  intro v
  induction v with
  | zero =>
    intro m n _ _ hn
    obtain ⟨n, rfl⟩ : ∃ q, n = q + 1 := ⟨n - 1, by omega⟩
    exact br_t (by decide) (nm_r e3 (nm_r e4 (nm_r (pk_m1 k) K)))
  | succ v ih =>
    intro m n hv hvm hn
    obtain ⟨n, rfl⟩ : ∃ q, n = q + 1 := ⟨n - 1, by omega⟩
    rw [pk_m1]
    refine br_f (nI_pos (by omega)) (gb_q1 t v (fun z => ?_) (fun z => nm_e (ih m n (by omega) (by omega) (by omega))))
    refine br_f ?_ (nm_r (e' := gb_i (-((m + 1) + 1 : Nat))) ?_ (nm_e ?_))
    · intro h
      have h2 := congrArg Int32.toInt h
      rw [gb_iT (by omega) (by omega), show (0 : Int32).toInt = 0 from by decide] at h2
      omega
    · have e : (-1 : Int32) = gb_i (-1) := by decide
      rw [e, gb_iA]
      exact congrArg gb_i (by omega)
    · exact ih (m + 1) n (by omega) (by omega) (by omega)
theorem gy_pkA {post : Int32 → Prop} {J : Int32 → Int32 → Int32 → Int32 → Prop} {x2 : Int32} {t p k nx : Nat} (ht : t < 128) (hk : k < 7) (hnx : nx < 7) (K : J x2 (nI (gb_dif t (2 ^ nx))) (nI (p ||| nx * 2 ^ (3 * (6 - k)))) (nI k)) :
    ∀ v s n, v ≤ 7 → s < 7 → nx = go_nx t v s → v < n → wY_pack_35 post J x2 (nI t) (nI p) (nI (k + 1)) r0 yw yo yl yp yq yc yf yv ye n (nI s) 0 (nI v + (-1)) := by
  have e4 : nI p ||| (nI nx <<< ((3 * (7 - nI (k + 1))) &&& 31)) = nI (p ||| nx * 2 ^ (3 * (6 - k))) := by
    have h1 : (3 : Int32) * (7 - nI (k + 1)) = nI (3 * (6 - k)) := by
      have h2 : (7 : Int32) - nI (k + 1) = nI (7 - (k + 1)) := pk_sub (a := 7) (by omega)
      rw [h2]
      show nI 3 * _ = _
      rw [pk_mul]
      exact congrArg nI (by omega)
    have h3 : nx * 2 ^ (3 * (6 - k)) < 2 ^ 32 := by
      have h4 : 2 ^ (3 * (6 - k)) ≤ 2 ^ 18 := Nat.pow_le_pow_right (by decide) (by omega)
      have h5 : nx * 2 ^ (3 * (6 - k)) ≤ 7 * 2 ^ 18 := Nat.mul_le_mul (by omega) h4
      omega
    rw [h1, pk_shlN _ (3 * (6 - k)) (s_l _ (by omega)) h3, gb_or]
  have e3 : nI t &&& (((1 : Int32) <<< (nI nx &&& 31)) ^^^ (-1)) = nI (gb_dif t (2 ^ nx)) := gb_delI (by omega)
  intro v
  induction v with
  | zero =>
    intro s n _ _ e hn
    obtain ⟨n, rfl⟩ : ∃ q, n = q + 1 := ⟨n - 1, by omega⟩
    have e0 : nx = 0 := e
    subst e0
    exact br_t (by decide) (nm_r e3 (nm_r e4 (nm_r (pk_m1 k) K)))
  | succ v ih =>
    intro s n hv hs e hn
    obtain ⟨n, rfl⟩ : ∃ q, n = q + 1 := ⟨n - 1, by omega⟩
    rw [pk_m1]
    unfold go_nx at e
    refine br_f (nI_pos (by omega)) (gb_q1 t v (fun z => ?_) (fun z => nm_e (ih s n (by omega) hs ?_ (by omega))))
    · rw [if_pos z] at e
      refine pk_eq s 0 (fun z0 => ?_) (fun z0 => ?_)
      · rw [if_pos z0] at e
        subst e z0
        refine nm_r (e' := gb_i (-((0 + 1 : Nat)))) (by decide) (nm_e (gy_pkB ht e3 e4 K nx 0 n (by omega) (by omega) (by omega)))
      · rw [if_neg z0] at e
        refine nm_r (e' := nI (s - 1)) (sb_m1 (by omega)) (nm_e (ih (s - 1) n (by omega) (by omega) e (by omega)))
    · rw [if_neg (by rw [z]; decide)] at e
      exact e
theorem go_nxLt (t : Nat) : ∀ v s, v ≤ 7 → go_nx t v s < 7 := by
  intro v
  induction v with
  | zero => intro s _; exact Nat.zero_lt_succ 6
  | succ v ih =>
    intro s hv
    unfold go_nx
    by_cases h : t.testBit v = true
    · rw [if_pos h]
      by_cases h2 : s = 0
      · rw [if_pos h2]; omega
      · rw [if_neg h2]; exact ih _ (by omega)
    · rw [if_neg h]; exact ih _ (by omega)
theorem gy_pk12 {post : Int32 → Prop} : ∀ k r t p n, k ≤ 7 → r < 5040 → t < 128 → k < n → post (nI (go_run k r t p)) → wY_pack_12 post r0 yw yo yl yp yq yc yf yv ye n (nI r) (nI t) (nI p) (nI k) := by
  intro k
  induction k with
  | zero =>
    intro r t p n _ _ _ hn hp
    obtain ⟨n, rfl⟩ : ∃ q, n = q + 1 := ⟨n - 1, by omega⟩
    exact br_t (by decide) hp
  | succ k ih =>
    intro r t p n hk hr ht hn hp
    obtain ⟨n, rfl⟩ : ∃ q, n = q + 1 := ⟨n - 1, by omega⟩
    have hnz : ¬ nI (k + 1) = 0 := nI_ne0 (by omega) (by omega)
    have hd : r / (k + 1) ≤ r := Nat.div_le_self _ _
    have hm : r % (k + 1) < k + 1 := Nat.mod_lt _ (by omega)
    have hx := go_nxLt t 7 (r % (k + 1)) (by omega)
    refine br_f (nI_nle (by omega) (by omega)) ⟨hnz, nm_r (pk_rem (by omega) (by omega) (by omega)) ⟨hnz, nm_r (pk_div (by omega) (by omega) (by omega)) ⟨8, ?_⟩⟩⟩
    refine gy_pkA ht (by omega) hx (ih _ _ _ n (by omega) (by omega) (gb_difLt ht) (by omega) hp) 7 _ 8 (by omega) (by omega) rfl (by omega)
theorem gy_makeOrders {post : SY → Prop} (h : r0 = 0 ∨ (r0 = 1 ∧ ∀ c, c < 5040 → yo c = nI (go_pk c))) (K : ∀ o, (∀ c, c < 5040 → o c = nI (go_pk c)) → post (1, yw, o, yl, yp, yq, yc, yf, yv, ye)) : wpY_makeOrders post (r0, yw, yo, yl, yp, yq, yc, yf, yv, ye) := by
  rcases h with rfl | ⟨rfl, h⟩
  · refine br_t rfl ?_
    refine pk_loop (fun n i (o : Nat → Int32) => wY_makeOrders_15 post 1 n (nI i) yw o yl yp yq yc yf yv ye) (fun i o => ∀ k, k < i → o k = nI (go_pk k)) 5040 0 yo (by omega) (fun v hv => by omega) ?_ ?_
    · intro n o h
      exact gb_ex 5040 (K o h)
    · intro n i o hi h K2
      refine gb_hd 5040 hi ?_
      refine ⟨8, gy_pk12 7 i 127 0 8 (by omega) hi (by omega) (by omega) ?_⟩
      exact ⟨vp_in_nI hi (by decide), nm_r gb_udn (gb_s (K2 _ (gb_fill (f := fun k => nI (go_pk k)) h rfl)))⟩
  · exact br_f (by decide) (K yo h)
theorem go_qI {p k : Nat} (hp : p < 2 ^ 31) (hk : k < 7) : (nI p >>> (((3 : Int32) * nI k) &&& 31)) &&& 7 = nI (go_q p k) := by
  have e : (3 : Int32) * nI k = nI (3 * k) := pk_mul 3 k
  have h2 : p / 2 ^ (3 * k) ≤ p := Nat.div_le_self _ _
  rw [e, pk_shrN hp _ (3 * k) (s_l _ (by omega)), pk_andN (by omega) 3 (by decide)]
  rfl
theorem gy_write {post : SY → Prop} (ho : ∀ c, c < 5040 → yo c = nI (go_pk c)) {c : Nat} (hc : c < 5040) (K : ∀ l, (∀ k, k < 7 → l k = nI (go_q (go_pk c) k)) → post (r0, yw, yo, l, yp, yq, yc, yf, yv, ye)) : wpY_write post (r0, yw, yo, yl, yp, yq, yc, yf, yv, ye) (nI c) := by
  have hp := (go_pkO hc).1
  refine pk_loop (fun n i (l : Nat → Int32) => wY_write_2 post (nI c) r0 n (nI i) yw yo l yp yq yc yf yv ye) (fun i l => ∀ k, k < i → l k = nI (go_q (go_pk c) k)) 7 0 yl (by omega) (fun v hv => by omega) ?_ ?_
  · intro n l h
    exact gb_ex 7 (K l h)
  · intro n i l hi h K2
    refine gb_hd 7 hi ⟨vp_in_nI hc (by decide), vp_in_nI hi (by decide), nm_r gb_udn (gb_s (K2 _ (gb_fill h ?_)))⟩
    rw [gb_rdn (ho c hc), go_qI (by omega) hi]
end
end
section
/-! ===== tables over sets against orders ===== -/
def gd_c (F : Nat → Nat → Nat → Nat) (q : Nat → Nat) : Nat → Nat
  | 0 => 0
  | k + 1 => F (go_ms q (k + 1)) (q k) (gd_c F q k)
theorem gd_cC {F : Nat → Nat → Nat → Nat} {q r : Nat → Nat} {k : Nat} (h : ∀ i, i < k → q i = r i) : gd_c F q k = gd_c F r k := by
  induction k with
  | zero => rfl
  | succ k ih =>
    unfold gd_c
    rw [ih (fun i hi => h i (by omega)), go_msC (k := k + 1) h, h k (by omega)]
/-- the table's entry at s is the least that its vertices give -/
def gd_Sp (F : Nat → Nat → Nat → Nat) (T : Nat → Nat) (s : Nat) : Prop := (∀ v, v < 7 → s.testBit v = true → T s ≤ F s v (T (gb_dif s (2 ^ v)))) ∧ ∃ v, v < 7 ∧ s.testBit v = true ∧ T s = F s v (T (gb_dif s (2 ^ v)))
def gd_up (T : Nat → Nat) (i x : Nat) : Nat → Nat := fun k => if k = i then x else T k
theorem gd_upS {T : Nat → Nat} {i x : Nat} : gd_up T i x i = x := if_pos rfl
theorem gd_upN {T : Nat → Nat} {i x k : Nat} (h : k ≠ i) : gd_up T i x k = T k := if_neg h
theorem gd_put {F : Nat → Nat → Nat → Nat} {T : Nat → Nat} {i x : Nat} (h : ∀ s, 0 < s → s < i → gd_Sp F T s) (h1 : ∀ v, v < 7 → i.testBit v = true → x ≤ F i v (T (gb_dif i (2 ^ v)))) (h2 : ∃ v, v < 7 ∧ i.testBit v = true ∧ x = F i v (T (gb_dif i (2 ^ v)))) : ∀ s, 0 < s → s < i + 1 → gd_Sp F (gd_up T i x) s := by
  intro s h0 hs
  by_cases e : s = i
  · subst e
    refine ⟨?_, ?_⟩
    · intro v hv ht
      rw [gd_upS, gd_upN (Nat.ne_of_lt (gb_delLt hv ht))]
      exact h1 v hv ht
    · obtain ⟨v, hv, ht, e⟩ := h2
      refine ⟨v, hv, ht, ?_⟩
      rw [gd_upS, gd_upN (Nat.ne_of_lt (gb_delLt hv ht))]
      exact e
  · have hlt : s < i := by omega
    obtain ⟨g1, v, hv, ht, g2⟩ := h s h0 hlt
    have hne : ∀ v, gb_dif s (2 ^ v) ≠ i := fun v z => by have := gb_difLe s (2 ^ v); omega
    refine ⟨?_, v, hv, ht, ?_⟩
    · intro v hv ht
      rw [gd_upN e, gd_upN (hne v)]
      exact g1 v hv ht
    · rw [gd_upN e, gd_upN (hne v)]
      exact g2
theorem gd_le {F : Nat → Nat → Nat → Nat} {T : Nat → Nat} (mono : ∀ s v a b, a ≤ b → F s v a ≤ F s v b) (h0 : T 0 = 0) (hT : ∀ s, 0 < s → s < 128 → gd_Sp F T s) {q : Nat → Nat} (hq : go_O q) : ∀ k, k ≤ 7 → T (go_ms q k) ≤ gd_c F q k := by
  intro k
  induction k with
  | zero => intro _; exact Nat.le_of_eq h0
  | succ k ih =>
    intro hk
    have h3 : go_ms q k < 128 := go_msLt (fun i hi => hq.1 i (by omega))
    have hv := hq.1 k (by omega)
    have hnew := go_Onew hq (k := k) (by omega)
    have hlt : go_ms q (k + 1) < 128 := go_msLt (fun i hi => hq.1 i (by omega))
    have hpos : 0 < go_ms q (k + 1) := Nat.lt_of_le_of_lt (Nat.zero_le _) (gb_insGt hnew)
    have ht : (go_ms q (k + 1)).testBit (q k) = true := by
      show (go_ms q k ||| 2 ^ q k).testBit (q k) = true
      rw [gb_insT]; simp
    have h1 := (hT _ hpos hlt).1 (q k) hv ht
    have e : gb_dif (go_ms q (k + 1)) (2 ^ q k) = go_ms q k := gb_delIns h3 hv hnew
    rw [e] at h1
    exact Nat.le_trans h1 (mono _ _ _ _ (ih (by omega)))
theorem gd_ex {F : Nat → Nat → Nat → Nat} {T : Nat → Nat} (h0 : T 0 = 0) (hT : ∀ s, 0 < s → s < 128 → gd_Sp F T s) : ∀ m s, s < 128 → gb_pc s = m → ∃ q, (∀ k, k < m → q k < 7) ∧ go_ms q m = s ∧ gd_c F q m = T s := by
  intro m
  induction m with
  | zero =>
    intro s hs hm
    have e := gb_pc0 s hs hm
    subst e
    exact ⟨fun _ => 0, fun k hk => by omega, rfl, h0.symm⟩
  | succ m ih =>
    intro s hs hm
    have hpos : 0 < s := by
      rcases Nat.eq_zero_or_pos s with z | z
      · rw [z] at hm; exact absurd hm (by intro h; cases h)
      · exact z
    obtain ⟨_, v, hv, ht, e⟩ := hT s hpos hs
    obtain ⟨q, h1, h2, h3⟩ := ih (gb_dif s (2 ^ v)) (gb_difLt hs) (by have := gb_pcDel s hs v hv ht; omega)
    have hc : ∀ i, i < m → (fun k => if k = m then v else q k) i = q i := by
      intro i hi
      show (if i = m then v else q i) = q i
      rw [if_neg (by omega)]
    have hm1 : go_ms (fun k => if k = m then v else q k) (m + 1) = s := by
      show go_ms (fun k => if k = m then v else q k) m ||| 2 ^ (if m = m then v else q m) = s
      rw [go_msC hc, h2, if_pos rfl, gb_insDel hs hv ht]
    refine ⟨fun k => if k = m then v else q k, ?_, hm1, ?_⟩
    · intro k hk
      show (if k = m then v else q k) < 7
      by_cases z : k = m
      · rw [if_pos z]; exact hv
      · rw [if_neg z]; exact h1 k (by omega)
    · show F (go_ms (fun k => if k = m then v else q k) (m + 1)) (if m = m then v else q m) (gd_c F (fun k => if k = m then v else q k) m) = T s
      rw [hm1, gd_cC hc, h3, if_pos rfl]
      exact e.symm
/-- b is the least cost of the first i codes, or N0 -/
def gd_B (N0 : Nat) (cost : Nat → Nat) (i b : Nat) : Prop := b ≤ N0 ∧ (∀ c, c < i → b ≤ cost c) ∧ (b = N0 ∨ ∃ c, c < i ∧ b = cost c)
theorem gd_B0 (N0 : Nat) (cost : Nat → Nat) : gd_B N0 cost 0 N0 := ⟨Nat.le_refl _, fun c hc => by omega, Or.inl rfl⟩
theorem gd_B1 {N0 i b : Nat} {cost : Nat → Nat} (h : gd_B N0 cost i b) (hc : b ≤ cost i) : gd_B N0 cost (i + 1) b := by
  obtain ⟨h1, h2, h3⟩ := h
  refine ⟨h1, ?_, ?_⟩
  · intro c hc2
    by_cases e : c = i
    · subst e; exact hc
    · exact h2 c (by omega)
  · rcases h3 with z | ⟨c, hc2, e⟩
    · exact Or.inl z
    · exact Or.inr ⟨c, by omega, e⟩
theorem gd_B2 {N0 i b : Nat} {cost : Nat → Nat} (h : gd_B N0 cost i b) (hc : cost i < b) : gd_B N0 cost (i + 1) (cost i) := by
  obtain ⟨h1, h2, h3⟩ := h
  refine ⟨by omega, ?_, Or.inr ⟨i, by omega, rfl⟩⟩
  intro c hc2
  by_cases e : c = i
  · subst e; exact Nat.le_refl _
  · have := h2 c (by omega); omega
theorem gd_fin {F : Nat → Nat → Nat → Nat} {T : Nat → Nat} (mono : ∀ s v a b, a ≤ b → F s v a ≤ F s v b) (h0 : T 0 = 0) (hT : ∀ s, 0 < s → s < 128 → gd_Sp F T s) {N0 b : Nat} (hB : gd_B N0 (fun c => gd_c F (go_q (go_pk c)) 7) 5040 b) (hN : T 127 ≤ N0) : b = T 127 := by
  obtain ⟨h1, h2, h3⟩ := hB
  obtain ⟨q, g1, g2, g3⟩ := gd_ex h0 hT 7 127 (by omega) (by decide)
  obtain ⟨c, hc, e⟩ := go_find ⟨g1, g2⟩
  have a1 : b ≤ T 127 := by
    have := h2 c hc
    dsimp only at this
    rw [gd_cC (k := 7) e, g3] at this
    exact this
  rcases h3 with z | ⟨c2, hc2, e2⟩
  · omega
  · have o := (go_pkO hc2).2
    have := gd_le mono h0 hT o 7 (by omega)
    rw [o.2] at this
    dsimp only at e2
    omega
/-! sums over an order -/
theorem go_Oin {q : Nat → Nat} (h : go_O q) {i : Nat} (hi : i < 7) : ∀ k, k ≤ 7 → (go_ms q k).testBit (q i) = decide (i < k) := by
  intro k
  induction k with
  | zero => intro _; show Nat.testBit 0 _ = _; simp
  | succ k ih =>
    intro hk
    show (go_ms q k ||| 2 ^ q k).testBit (q i) = _
    rw [gb_insT, ih (by omega)]
    by_cases e : i = k
    · subst e; simp
    · have hne : ¬ q k = q i := by
        intro z
        rcases Nat.lt_or_ge i k with g | g
        · have h1 := go_Onew h (k := k) (by omega)
          rw [z, ih (by omega), decide_eq_true g] at h1
          cases h1
        · have h1 := go_Onew h (k := i) hi
          have h2 : ∀ d, (go_ms q (k + 1 + d)).testBit (q k) = true := by
            intro d
            induction d with
            | zero => show (go_ms q k ||| 2 ^ q k).testBit (q k) = true; rw [gb_insT]; simp
            | succ d ihd =>
              show (go_ms q (k + 1 + d) ||| 2 ^ _).testBit (q k) = true
              rw [gb_insT, ihd]; rfl
          have h3 := h2 (i - (k + 1))
          rw [show k + 1 + (i - (k + 1)) = i by omega, z, h1] at h3
          cases h3
      have : decide (i < k + 1) = decide (i < k) := by apply decide_eq_decide.mpr; omega
      simp [hne, this]
theorem go_sum {q : Nat → Nat} (h : go_O q) (f : Nat → Nat) : gb_sum (fun k => f (q k)) 7 = gb_sum f 7 := by
  have H : ∀ m, m ≤ 7 → gb_sum (fun k => f (q k)) m = gb_sum (fun a => if (go_ms q m).testBit a = true then f a else 0) 7 := by
    intro m
    induction m with
    | zero =>
      intro _
      refine (gb_sum0 (fun i _ => ?_)).symm
      show (if Nat.testBit 0 i = true then f i else 0) = 0
      simp
    | succ m ih =>
      intro hm
      have hnew := go_Onew h (k := m) (by omega)
      have hv := h.1 m (by omega)
      show gb_sum (fun k => f (q k)) m + f (q m) = _
      rw [ih (by omega)]
      have e1 : gb_sum (fun a => if a = q m then f a else 0) 7 = f (q m) := by
        have : ∀ n w, w < n → gb_sum (fun a => if a = w then f a else 0) n = f w := by
          intro n
          induction n with
          | zero => intro w hw; omega
          | succ n ihn =>
            intro w hw
            unfold gb_sum
            by_cases e : w = n
            · subst e
              rw [if_pos rfl, gb_sum0 (fun i hi => if_neg (by omega)), Nat.zero_add]
            · rw [ihn w (by omega), if_neg (fun z => e z.symm), Nat.add_zero]
        exact this 7 (q m) hv
      rw [← e1, ← gb_sumA]
      apply gb_sumC
      intro a ha
      show _ = if (go_ms q m ||| 2 ^ q m).testBit a = true then f a else 0
      rw [gb_insT]
      by_cases e : a = q m
      · subst e; simp [hnew]
      · have : ¬ q m = a := fun z => e z.symm
        simp [e, this]
  rw [H 7 (Nat.le_refl 7), h.2]
  apply gb_sumC
  intro a ha
  exact if_pos ((by decide : ∀ a, a < 7 → Nat.testBit 127 a = true) a ha)
/-! the edges that lead out of a set -/
def gs_e (W : Nat → Nat) (wt : Bool) (s a b : Nat) : Nat := if s.testBit a = true ∧ s.testBit b = false ∧ 0 < W (7 * a + b) then (if wt = true then W (7 * a + b) else 1) else 0
def gs_out (W : Nat → Nat) (wt : Bool) (s : Nat) : Nat := gb_sum (fun a => gb_sum (fun b => gs_e W wt s a b) 7) 7
theorem gs_eLe {W : Nat → Nat} (hW : ∀ i, i < 49 → W i ≤ 9) (wt : Bool) (s : Nat) {a b : Nat} (ha : a < 7) (hb : b < 7) : gs_e W wt s a b ≤ 9 := by
  have := hW (7 * a + b) (by omega)
  unfold gs_e
  by_cases h : s.testBit a = true ∧ s.testBit b = false ∧ 0 < W (7 * a + b)
  · rw [if_pos h]
    cases wt
    · rw [if_neg (by decide)]; omega
    · rw [if_pos rfl]; omega
  · rw [if_neg h]; omega
theorem gs_outLe {W : Nat → Nat} (hW : ∀ i, i < 49 → W i ≤ 9) (wt : Bool) (s : Nat) : gs_out W wt s ≤ 441 := by
  unfold gs_out
  exact gb_sumB (n := 7) (c := 63) (fun a ha => gb_sumB (n := 7) (c := 9) (fun b hb => gs_eLe hW wt s ha hb))
theorem gs_out49 (W : Nat → Nat) (wt : Bool) (s : Nat) : gb_sum (fun ab => gs_e W wt s (ab / 7) (ab % 7)) 49 = gs_out W wt s := by
  rw [gb_sum49]
  unfold gs_out
  apply gb_sumC
  intro a ha
  apply gb_sumC
  intro b hb
  show gs_e W wt s ((7 * a + b) / 7) ((7 * a + b) % 7) = _
  rw [show (7 * a + b) / 7 = a by omega, show (7 * a + b) % 7 = b by omega]
theorem gs_str (w : Nat → Nat → Nat) (hs : ∀ i j, i < 7 → j < 7 → w i j = w j i) : gb_sum (fun k => gb_sum (fun i => gb_sum (fun j => if i < k + 1 ∧ k + 1 ≤ j then w i j else 0) 7) 7) 7 = gb_sum (fun i => gb_sum (fun j => w i j * (i - j)) i) 7 := by
  have s1 : ∀ j i, j < i → i < 7 → w i j = w j i := fun j i h1 h2 => hs i j h2 (by omega)
  simp [gb_sum]
  simp only [s1 0 1 (by omega) (by omega), s1 0 2 (by omega) (by omega), s1 0 3 (by omega) (by omega), s1 0 4 (by omega) (by omega), s1 0 5 (by omega) (by omega), s1 0 6 (by omega) (by omega), s1 1 2 (by omega) (by omega), s1 1 3 (by omega) (by omega), s1 1 4 (by omega) (by omega), s1 1 5 (by omega) (by omega), s1 1 6 (by omega) (by omega), s1 2 3 (by omega) (by omega), s1 2 4 (by omega) (by omega), s1 2 5 (by omega) (by omega), s1 2 6 (by omega) (by omega), s1 3 4 (by omega) (by omega), s1 3 5 (by omega) (by omega), s1 3 6 (by omega) (by omega), s1 4 5 (by omega) (by omega), s1 4 6 (by omega) (by omega), s1 5 6 (by omega) (by omega)]
  omega
theorem gs_outO {W B : Nat → Nat} (G : gb_G W B) {q : Nat → Nat} (h : go_O q) {k : Nat} (hk : k < 7) : gs_out W true (go_ms q (k + 1)) = gb_sum (fun i => gb_sum (fun j => if i < k + 1 ∧ k + 1 ≤ j then W (7 * q i + q j) else 0) 7) 7 := by
  unfold gs_out
  rw [← go_sum h]
  apply gb_sumC
  intro i hi
  rw [← go_sum h]
  apply gb_sumC
  intro j hj
  show gs_e W true (go_ms q (k + 1)) (q i) (q j) = _
  unfold gs_e
  rw [go_Oin h hi (k + 1) (by omega), go_Oin h hj (k + 1) (by omega)]
  rw [if_pos rfl]
  by_cases h1 : i < k + 1 ∧ k + 1 ≤ j
  · rw [if_pos h1]
    by_cases h2 : 0 < W (7 * q i + q j)
    · rw [if_pos ⟨decide_eq_true h1.1, decide_eq_false (by omega), h2⟩]
    · rw [if_neg (fun z => h2 z.2.2)]; omega
  · rw [if_neg h1, if_neg]
    rintro ⟨z1, z2, _⟩
    exact h1 ⟨of_decide_eq_true z1, by have := of_decide_eq_false z2; omega⟩
theorem gs_layC {W : Nat → Nat} (q : Nat → Nat) (n : Nat) : gd_c (fun s _ t => t + gs_out W true s) q n = gb_sum (fun k => gs_out W true (go_ms q (k + 1))) n := by
  induction n with
  | zero => rfl
  | succ n ih => unfold gd_c gb_sum; rw [ih]
theorem gs_lay {W B : Nat → Nat} (G : gb_G W B) {q : Nat → Nat} (h : go_O q) : gd_c (fun s _ t => t + gs_out W true s) q 7 = gb_sum (fun i => gb_sum (fun j => W (7 * q i + q j) * (i - j)) i) 7 := by
  rw [gs_layC, ← gs_str (fun i j => W (7 * q i + q j)) (fun i j hi hj => G.1 _ _ (h.1 i hi) (h.1 j hj))]
  exact gb_sumC (fun k hk => gs_outO G h hk)
end
section
/-! ===== spread and layout ===== -/
section
variable {p0 : Int32} {xw xn xt xs xe xd xp xc : Nat → Int32} {r0 : Int32} {yw yo yl yp yq yc yf yv ye : Nat → Int32}
/-- the flag of a weighted count -/
def gs_fl (wt : Bool) : Int32 := if wt = true then 1 else 0
theorem gs_flN : ¬ gs_fl true = 0 := by decide
theorem gx_ac28 {post : Int32 → Prop} {J : Int32 → Int32 → Prop} {W B : Nat → Nat} (G : gb_G W B) (hx : ∀ i, i < 49 → xw i = nI (W i)) (hn : ∀ i, i < 7 → xn i = nI (B i)) (wt : Bool) {s v a : Nat} (hs : s < 128) (hv : v < 7) (ht : s.testBit v = true) (K : J (nI (a + gb_sum (gs_e W wt s v) 7)) (nI (v + 1))) : ∃ n, wX_across_28 post J (nI s) (gs_fl wt) (nI v) p0 xw xn xt xs xe xd xp xc n (nI a) 0 := by
  refine pk_loop (fun n i (b : Nat) => wX_across_28 post J (nI s) (gs_fl wt) (nI v) p0 xw xn xt xs xe xd xp xc n (nI b) (nI i)) (fun i b => b = a + gb_sum (gs_e W wt s v) i) 7 0 a (by omega) rfl ?_ ?_
  · intro n b hb
    subst hb
    exact gb_ex 7 (gb_s K)
  · intro n i b hi hb K2
    subst hb
    have hB := G.2.2.2.1 v hv
    have e0 : ∀ z : gs_e W wt s v i = 0, a + gb_sum (gs_e W wt s v) i = a + gb_sum (gs_e W wt s v) (i + 1) := fun z => by
      show _ = a + (gb_sum (gs_e W wt s v) i + gs_e W wt s v i); omega
    refine gb_hd 7 hi (gx_in s i (fun z => ⟨vp_in_nI hv (by decide), gx_in (B v) i (fun z2 => gb_s (K2 _ (e0 ?_))) (fun z2 => ?_) (gb_rdn (hn v hv)) rfl⟩) (fun z => gb_s (K2 _ (e0 ?_))))
    · unfold gs_e
      rw [G.2.2.2.2 v i hv hi] at z2
      have := of_decide_eq_false z2
      rw [if_neg (fun y => this y.2.2)]
    · rw [G.2.2.2.2 v i hv hi] at z2
      have z3 := of_decide_eq_true z2
      cases wt
      · refine br_t rfl (nm_r (nI_1 _) (gb_s (K2 _ ?_)))
        show _ = a + (gb_sum (gs_e W false s v) i + gs_e W false s v i)
        have : gs_e W false s v i = 1 := by
          unfold gs_e
          rw [if_pos ⟨ht, z, z3⟩]; rfl
        omega
      · refine br_f gs_flN ⟨pk_in (7 * v + i) 49 (by omega) (gb_ix v i), nm_r (e' := nI (a + gb_sum (gs_e W true s v) i + W (7 * v + i))) ?_ (gb_s (K2 _ ?_))⟩
        · rw [gb_rd (hx _ (by omega)) (gb_ix v i), nI_add]
        · show _ = a + (gb_sum (gs_e W true s v) i + gs_e W true s v i)
          have : gs_e W true s v i = W (7 * v + i) := by
            unfold gs_e
            rw [if_pos ⟨ht, z, z3⟩]; rfl
          omega
    · unfold gs_e
      rw [if_neg]
      rintro ⟨_, y, _⟩
      rw [z] at y; cases y
theorem gx_across {post : Int32 → Prop} {W B : Nat → Nat} (G : gb_G W B) (hx : ∀ i, i < 49 → xw i = nI (W i)) (hn : ∀ i, i < 7 → xn i = nI (B i)) (wt : Bool) {s : Nat} (hs : s < 128) (hp : post (nI (gs_out W wt s))) : wpX_across post (p0, xw, xn, xt, xs, xe, xd, xp, xc) (nI s) (gs_fl wt) := by
  refine pk_loop (fun n i (b : Nat) => wX_across_5 post (nI s) (gs_fl wt) p0 xw xn xt xs xe xd xp xc n (nI b) (nI i)) (fun i b => b = gb_sum (fun a => gb_sum (fun b => gs_e W wt s a b) 7) i) 7 0 0 (by omega) rfl ?_ ?_
  · intro n b hb
    subst hb
    exact gb_ex 7 hp
  · intro n i b hi hb K2
    subst hb
    refine gb_hd 7 hi (gx_in s i (fun z => gb_s (K2 _ ?_)) (fun z => gx_ac28 G hx hn wt hs hi z (K2 _ rfl)))
    show _ = gb_sum (fun a => gb_sum (fun b => gs_e W wt s a b) 7) i + gb_sum (fun b => gs_e W wt s i b) 7
    rw [gb_sum0 (n := 7), Nat.add_zero]
    intro b hb
    unfold gs_e
    rw [if_neg]
    rintro ⟨y, _, _⟩
    rw [z] at y; cases y
theorem gy_out {post : Int32 → Prop} {W B : Nat → Nat} (G : gb_G W B) (hy : ∀ i, i < 49 → yw i = nI (W i)) (wt : Bool) {s : Nat} (hs : s < 128) (hp : post (nI (gs_out W wt s))) : wpY_out post (r0, yw, yo, yl, yp, yq, yc, yf, yv, ye) (nI s) (gs_fl wt) := by
  refine pk_loop (fun n i (b : Nat) => wY_out_5 post (nI s) (gs_fl wt) r0 yw yo yl yp yq yc yf yv ye n (nI b) (nI i)) (fun i b => b = gb_sum (fun ab => gs_e W wt s (ab / 7) (ab % 7)) i) 49 0 0 (by omega) rfl ?_ ?_
  · intro n b hb
    subst hb
    rw [gs_out49]
    exact gb_ex 49 hp
  · intro n i b hi hb K2
    subst hb
    have h9 := G.2.2.1 i hi
    have ei : 7 * (i / 7) + i % 7 = i := by omega
    have e0 : ∀ z : gs_e W wt s (i / 7) (i % 7) = 0, gb_sum (fun ab => gs_e W wt s (ab / 7) (ab % 7)) i = gb_sum (fun ab => gs_e W wt s (ab / 7) (ab % 7)) (i + 1) := fun z => by
      show _ = gb_sum (fun ab => gs_e W wt s (ab / 7) (ab % 7)) i + gs_e W wt s (i / 7) (i % 7); omega
    refine gb_hd 49 hi ⟨gb_n7, gb_q1 s (i / 7) (fun z => ⟨gb_n7, gb_q0 s (i % 7) (fun z2 => ⟨vp_in_nI hi (by decide), pk_le (W i) 0 (fun z3 => gb_s (K2 _ (e0 ?_))) (fun z3 => ?_) (gb_rdn (hy i hi)) rfl⟩) (fun z2 => gb_s (K2 _ (e0 ?_))) rfl (gb_r7 (by omega))⟩) (fun z => gb_s (K2 _ (e0 ?_))) rfl (gb_d7 (by omega))⟩
    · unfold gs_e
      rw [ei, if_neg (fun y => by have := y.2.2; omega)]
    · cases wt
      · refine br_t rfl (nm_r (nI_1 _) (gb_s (K2 _ ?_)))
        show _ = gb_sum (fun ab => gs_e W false s (ab / 7) (ab % 7)) i + gs_e W false s (i / 7) (i % 7)
        have : gs_e W false s (i / 7) (i % 7) = 1 := by
          unfold gs_e
          rw [ei, if_pos ⟨z, z2, z3⟩]; rfl
        omega
      · refine br_f gs_flN ⟨vp_in_nI hi (by decide), nm_r (e' := nI (gb_sum (fun ab => gs_e W true s (ab / 7) (ab % 7)) i + W i)) ?_ (gb_s (K2 _ ?_))⟩
        · rw [gb_rdn (hy i hi), nI_add]
        · show _ = gb_sum (fun ab => gs_e W true s (ab / 7) (ab % 7)) i + gs_e W true s (i / 7) (i % 7)
          have : gs_e W true s (i / 7) (i % 7) = W i := by
            unfold gs_e
            rw [ei, if_pos ⟨z, z2, z3⟩]; rfl
          omega
    · unfold gs_e
      rw [if_neg]
      rintro ⟨_, y, _⟩
      rw [z2] at y; cases y
    · unfold gs_e
      rw [if_neg]
      rintro ⟨y, _, _⟩
      rw [z] at y; cases y
theorem gx_smallest {post : Int32 → Prop} {T : Nat → Nat} {s : Nat} (hs : s < 128) (ht : ∀ k, k < s → xt k = nI (T k)) (hb : ∀ k, k < s → T k ≤ 100000) (K : ∀ m, m ≤ 100000 → (∀ v, v < 7 → s.testBit v = true → m ≤ T (gb_dif s (2 ^ v))) → (m = 100000 ∨ ∃ v, v < 7 ∧ s.testBit v = true ∧ m = T (gb_dif s (2 ^ v))) → post (nI m)) : wpX_smallestBefore post (p0, xw, xn, xt, xs, xe, xd, xp, xc) (nI s) := by
  refine pk_loop (fun n i (m : Nat) => wX_smallestBefore_5 post (nI s) p0 xw xn xt xs xe xd xp xc n (nI m) (nI i)) (fun i m => m ≤ 100000 ∧ (∀ v, v < i → s.testBit v = true → m ≤ T (gb_dif s (2 ^ v))) ∧ (m = 100000 ∨ ∃ v, v < i ∧ s.testBit v = true ∧ m = T (gb_dif s (2 ^ v)))) 7 0 100000 (by omega) ⟨Nat.le_refl _, fun v hv => by omega, Or.inl rfl⟩ ?_ ?_
  · rintro n m ⟨h1, h2, h3⟩
    exact gb_ex 7 (K m h1 h2 h3)
  · rintro n i m hi ⟨h1, h2, h3⟩ K2
    have same : (s.testBit i = true → m ≤ T (gb_dif s (2 ^ i))) → m ≤ 100000 ∧ (∀ v, v < i + 1 → s.testBit v = true → m ≤ T (gb_dif s (2 ^ v))) ∧ (m = 100000 ∨ ∃ v, v < i + 1 ∧ s.testBit v = true ∧ m = T (gb_dif s (2 ^ v))) := by
      intro g
      refine ⟨h1, ?_, ?_⟩
      · intro v hv hb
        by_cases e : v = i
        · subst e; exact g hb
        · exact h2 v (by omega) hb
      · rcases h3 with z | ⟨v, hv, hb, e⟩
        · exact Or.inl z
        · exact Or.inr ⟨v, by omega, hb, e⟩
    refine gb_hd 7 hi (gx_in s i (fun z => gb_s (K2 m (same (fun y => by rw [z] at y; cases y)))) (fun z => ?_))
    have hlt := gb_delLt hi z
    have hT := hb _ hlt
    have er : xt (nI s &&& (((1 : Int32) <<< (nI i &&& 31)) ^^^ (-1))).toNatClampNeg = nI (T (gb_dif s (2 ^ i))) := gb_rd (ht _ hlt) (gb_delI (by omega))
    refine ⟨pk_in (gb_dif s (2 ^ i)) 128 (gb_difLt hs) (gb_delI (by omega)), pk_le m (T (gb_dif s (2 ^ i))) (fun z2 => gb_s (K2 m (same (fun _ => z2)))) (fun z2 => ⟨pk_in (gb_dif s (2 ^ i)) 128 (gb_difLt hs) (gb_delI (by omega)), nm_r er (gb_s (K2 _ ?_))⟩) rfl er⟩
    refine ⟨hT, ?_, Or.inr ⟨i, by omega, z, rfl⟩⟩
    intro v hv hb
    by_cases e : v = i
    · subst e; exact Nat.le_refl _
    · have := h2 v (by omega) hb; omega
theorem gs_outLeF (W : Nat → Nat) (s : Nat) : gs_out W false s ≤ 49 := by
  unfold gs_out
  refine gb_sumB (n := 7) (c := 7) (fun a ha => gb_sumB (n := 7) (c := 1) (fun b hb => ?_))
  unfold gs_e
  by_cases h : s.testBit a = true ∧ s.testBit b = false ∧ 0 < W (7 * a + b)
  · rw [if_pos h, if_neg (by decide)]; omega
  · rw [if_neg h]; omega
/-! spread -/
theorem gx_spread {post : Int32 → SX → Prop} {W B : Nat → Nat} (G : gb_G W B) (hx : ∀ i, i < 49 → xw i = nI (W i)) (hn : ∀ i, i < 7 → xn i = nI (B i))
    (K : ∀ t T, T 0 = 0 → (∀ s, 0 < s → s < 128 → gd_Sp (fun s _ t => max t (gs_out W false s)) T s) → T 127 ≤ 49 → post (nI (T 127)) (p0, xw, xn, t, xs, xe, xd, xp, xc)) : wpX_spread post (p0, xw, xn, xt, xs, xe, xd, xp, xc) := by
  refine nm_e ?_
  refine pk_loop (fun n i (t : Nat → Int32) => wX_spread_9 post p0 n (nI i) xw xn t xs xe xd xp xc) (fun i t => 1 ≤ i ∧ ∃ T : Nat → Nat, T 0 = 0 ∧ (∀ k, k < i → t k = nI (T k)) ∧ (∀ k, k < i → T k ≤ 49) ∧ ∀ s, 0 < s → s < i → gd_Sp (fun s _ t => max t (gs_out W false s)) T s) 128 1 (upd xt 0 0) (by omega) ?_ ?_ ?_
  · refine ⟨Nat.le_refl _, fun _ => 0, rfl, ?_, fun _ _ => Nat.zero_le _, fun s h1 h2 => by omega⟩
    intro k hk
    have e : k = 0 := by omega
    rw [e, pk_us]; rfl
  · rintro n t ⟨_, T, h0, h1, h2, h3⟩
    refine gb_ex 128 ?_
    rw [h1 127 (by omega)]
    exact K t T h0 h3 (h2 127 (by omega))
  · rintro n i t hi ⟨hi1, T, h0, h1, h2, h3⟩ K2
    refine gb_hd 128 hi (gx_smallest hi h1 (fun k hk => by have := h2 k hk; omega) ?_)
    intro m hm1 hm2 hm3
    obtain ⟨l1, l2, _⟩ := gb_loS i hi (by omega)
    have hm4 : ∃ v, v < 7 ∧ i.testBit v = true ∧ m = T (gb_dif i (2 ^ v)) := by
      rcases hm3 with z | z
      · have := hm2 _ l1 l2
        have := h2 _ (gb_delLt l1 l2)
        omega
      · exact z
    obtain ⟨v, hv, hvt, e⟩ := hm4
    have hm5 : m ≤ 49 := by rw [e]; exact h2 _ (gb_delLt hv hvt)
    have ha := gs_outLeF W i
    have fin : ∀ x, x = max m (gs_out W false i) → (1 ≤ i + 1 ∧ ∃ T' : Nat → Nat, T' 0 = 0 ∧ (∀ k, k < i + 1 → upd t i (nI x) k = nI (T' k)) ∧ (∀ k, k < i + 1 → T' k ≤ 49) ∧ ∀ s, 0 < s → s < i + 1 → gd_Sp (fun s _ t => max t (gs_out W false s)) T' s) := by
      intro x hxe
      refine ⟨by omega, gd_up T i x, ?_, ?_, ?_, gd_put h3 ?_ ⟨v, hv, hvt, by rw [← e]; exact hxe⟩⟩
      · rw [gd_upN (by omega)]; exact h0
      · intro k hk
        by_cases z : k = i
        · rw [z, pk_us, gd_upS]
        · rw [pk_un z, gd_upN z]; exact h1 k (by omega)
      · intro k hk
        by_cases z : k = i
        · rw [z, gd_upS]; omega
        · rw [gd_upN z]; exact h2 k (by omega)
      · intro v hv hvt
        have := hm2 v hv hvt
        omega
    refine gx_across G hx hn false hi ?_
    refine pk_le m (gs_out W false i) (fun z => ⟨vp_in_nI hi (by decide), nm_r gb_udn (gb_s (K2 _ (fin _ ?_)))⟩) (fun z => ⟨vp_in_nI hi (by decide), nm_r gb_udn (gb_s (K2 _ (fin _ ?_)))⟩)
    · omega
    · omega
theorem gy_findLeaving {post : SY → Prop} {W B : Nat → Nat} (G : gb_G W B) (hy : ∀ i, i < 49 → yw i = nI (W i)) (K : ∀ l, (∀ s, s < 128 → l s = nI (gs_out W false s)) → post (r0, yw, yo, yl, yp, yq, yc, yf, l, ye)) : wpY_findLeaving post (r0, yw, yo, yl, yp, yq, yc, yf, yv, ye) 0 := by
  refine pk_loop (fun n i (l : Nat → Int32) => wY_findLeaving_2 post 0 r0 n (nI i) yw yo yl yp yq yc yf l ye) (fun i l => ∀ s, s < i → l s = nI (gs_out W false s)) 128 0 yv (by omega) (fun v hv => by omega) ?_ ?_
  · intro n l h
    exact gb_ex 128 (K l h)
  · intro n i l hi h K2
    refine gb_hd 128 hi (gy_out G hy false hi ?_)
    exact ⟨vp_in_nI hi (by decide), nm_r gb_udn (gb_s (K2 _ (gb_fill (f := fun s => nI (gs_out W false s)) h rfl)))⟩
theorem gs_spB {L : Nat → Nat} (hL : ∀ s, L s ≤ 441) (q : Nat → Nat) (k : Nat) : gd_c (fun s _ t => max t (L s)) q k ≤ 441 := by
  induction k with
  | zero => exact Nat.zero_le _
  | succ k ih =>
    have := hL (go_ms q (k + 1))
    unfold gd_c
    omega
theorem gy_sp34 {post : Int32 → SY → Prop} {J : Int32 → Int32 → Int32 → (Nat → Int32) → (Nat → Int32) → (Nat → Int32) → (Nat → Int32) → (Nat → Int32) → (Nat → Int32) → (Nat → Int32) → (Nat → Int32) → (Nat → Int32) → Prop} {L : Nat → Nat} (hL : ∀ s, L s ≤ 441) (hv : ∀ s, s < 128 → yv s = nI (L s)) {q : Nat → Nat} (hq : go_O q) (hl : ∀ k, k < 7 → yl k = nI (q k)) {b c : Nat} (hb : b ≤ 100)
    (f : b ≤ gd_c (fun s _ t => max t (L s)) q 7 → J (nI b) (nI (c + 1)) r0 yw yo yl yp yq yc yf yv ye) (g : gd_c (fun s _ t => max t (L s)) q 7 < b → J (nI (gd_c (fun s _ t => max t (L s)) q 7)) (nI (c + 1)) r0 yw yo yl yp yq yc yf yv ye) : ∃ n, wY_spread_34 post J (nI b) (nI c) r0 yw yo yl yp yq yc yf yv ye n 0 0 0 := by
  refine pk_loop (fun n i (s : Nat × Nat) => wY_spread_34 post J (nI b) (nI c) r0 yw yo yl yp yq yc yf yv ye n (nI s.1) (nI s.2) (nI i)) (fun i s => s = (go_ms q i, gd_c (fun s _ t => max t (L s)) q i)) 7 0 (0, 0) (by omega) rfl ?_ ?_
  · rintro n s rfl
    have h1 := gs_spB hL q 7
    exact gb_ex 7 (pk_le b (gd_c (fun s _ t => max t (L s)) q 7) (fun z => gb_s (f z)) (fun z => gb_s (g z)))
  · rintro n i s hi rfl K2
    have h1 := gs_spB hL q i
    have hm : go_ms q (i + 1) < 128 := go_msLt (fun j hj => hq.1 j (by omega))
    have h2 := hL (go_ms q (i + 1))
    have hqi := hq.1 i hi
    refine gb_hd 7 hi ⟨vp_in_nI hi (by decide), nm_r (e' := nI (go_ms q (i + 1))) ?_ ⟨vp_in_nI hm (by decide), pk_le (L (go_ms q (i + 1))) (gd_c (fun s _ t => max t (L s)) q i) (fun z => gb_s (K2 (_, _) ?_)) (fun z => ⟨vp_in_nI hm (by decide), nm_r (gb_rdn (hv _ hm)) (gb_s (K2 (_, _) ?_))⟩) (gb_rdn (hv _ hm)) rfl⟩⟩
    · dsimp only
      rw [gb_rdn (hl i hi), gb_insI (by omega)]
      rfl
    · refine Prod.ext rfl ?_
      show _ = max (gd_c (fun s _ t => max t (L s)) q i) (L (go_ms q (i + 1)))
      dsimp only
      omega
    · refine Prod.ext rfl ?_
      show _ = max (gd_c (fun s _ t => max t (L s)) q i) (L (go_ms q (i + 1)))
      dsimp only
      omega
theorem gy_spread {post : Int32 → SY → Prop} {W B : Nat → Nat} (G : gb_G W B) (hy : ∀ i, i < 49 → yw i = nI (W i)) (ho : r0 = 0 ∨ (r0 = 1 ∧ ∀ c, c < 5040 → yo c = nI (go_pk c)))
    (K : ∀ o l lv b, (∀ c, c < 5040 → o c = nI (go_pk c)) → gd_B 100 (fun c => gd_c (fun s _ t => max t (gs_out W false s)) (go_q (go_pk c)) 7) 5040 b → post (nI b) (1, yw, o, l, yp, yq, yc, yf, lv, ye)) : wpY_spread post (r0, yw, yo, yl, yp, yq, yc, yf, yv, ye) := by
  unfold wpY_spread
  dsimp only
  refine gy_findLeaving G hy ?_
  intro lv hlv
  dsimp only
  refine gy_makeOrders ho ?_
  intro o ho'
  dsimp only
  refine pk_loop (fun n i (s : Nat × (Nat → Int32)) => wY_spread_14 post n (nI s.1) (nI i) 1 yw o s.2 yp yq yc yf lv ye) (fun i s => gd_B 100 (fun c => gd_c (fun s _ t => max t (gs_out W false s)) (go_q (go_pk c)) 7) i s.1) 5040 0 (100, yl) (by omega) (gd_B0 _ _) ?_ ?_
  · rintro n ⟨b, l⟩ h
    exact gb_ex 5040 (K o l lv b ho' h)
  · rintro n i ⟨b, l⟩ hi h K2
    refine gb_hd 5040 hi (gy_write ho' hi ?_)
    intro l' hl'
    dsimp only at h ⊢
    exact gy_sp34 (fun s => gs_outLe G.2.2.1 false s) hlv (go_pkO hi).2 hl' h.1 (fun z => K2 (b, l') (gd_B1 h z)) (fun z => K2 (_, l') (gd_B2 h z))
theorem i_vc_spread {k : Nat} {u : SX} {v : SY} (I : i_Rel k u v) (hk : k + 4 ≤ 2048) : wpX_spread (fun r u' => wpY_spread (fun r' v' => r' = r ∧ i_Rel (k + 4) u' v') v) u := by
  obtain ⟨p0, xw, xn, xt, xs, xe, xd, xp, xc⟩ := u
  obtain ⟨r0, yw, yo, yl, yp, yq, yc, yf, yv, ye⟩ := v
  obtain ⟨W, B, G, hx, hy, hn, hp, ho⟩ := I
  refine gx_spread G hx hn ?_
  intro t T h0 hT hb
  refine gy_spread G hy ho ?_
  intro o l lv b ho' hB
  have e := gd_fin (F := fun s _ t => max t (gs_out W false s)) (N0 := 100) (fun s v a b h => by omega) h0 hT hB (by omega)
  exact ⟨congrArg nI e, W, B, G, hx, hy, hn, hp, Or.inr ⟨rfl, ho'⟩⟩
/-! layout -/
theorem gs_layB {L : Nat → Nat} (hL : ∀ s, L s ≤ 441) (q : Nat → Nat) (k : Nat) : gd_c (fun s _ t => t + L s) q k ≤ 441 * k := by
  induction k with
  | zero => exact Nat.zero_le _
  | succ k ih =>
    have := hL (go_ms q (k + 1))
    unfold gd_c
    omega
theorem gx_layout {post : Int32 → SX → Prop} {W B : Nat → Nat} (G : gb_G W B) (hx : ∀ i, i < 49 → xw i = nI (W i)) (hn : ∀ i, i < 7 → xn i = nI (B i))
    (K : ∀ t T, T 0 = 0 → (∀ s, 0 < s → s < 128 → gd_Sp (fun s _ t => t + gs_out W true s) T s) → T 127 ≤ 3087 → post (nI (T 127)) (p0, xw, xn, t, xs, xe, xd, xp, xc)) : wpX_layout post (p0, xw, xn, xt, xs, xe, xd, xp, xc) := by
  refine nm_e ?_
  refine pk_loop (fun n i (t : Nat → Int32) => wX_layout_9 post p0 n (nI i) xw xn t xs xe xd xp xc) (fun i t => 1 ≤ i ∧ ∃ T : Nat → Nat, T 0 = 0 ∧ (∀ k, k < i → t k = nI (T k)) ∧ (∀ k, k < i → T k ≤ 441 * gb_pc k) ∧ ∀ s, 0 < s → s < i → gd_Sp (fun s _ t => t + gs_out W true s) T s) 128 1 (upd xt 0 0) (by omega) ?_ ?_ ?_
  · refine ⟨Nat.le_refl _, fun _ => 0, rfl, ?_, fun _ _ => Nat.zero_le _, fun s h1 h2 => by omega⟩
    intro k hk
    have e : k = 0 := by omega
    rw [e, pk_us]; rfl
  · rintro n t ⟨_, T, h0, h1, h2, h3⟩
    refine gb_ex 128 ?_
    rw [h1 127 (by omega)]
    exact K t T h0 h3 (h2 127 (by omega))
  · rintro n i t hi ⟨hi1, T, h0, h1, h2, h3⟩ K2
    have h2b : ∀ k, k < i → T k ≤ 3087 := fun k hk => by
      have a := h2 k hk
      have b := gb_pcLe k (by omega)
      omega
    refine gb_hd 128 hi (gx_smallest hi h1 (fun k hk => by have := h2b k hk; omega) ?_)
    intro m hm1 hm2 hm3
    obtain ⟨l1, l2, _⟩ := gb_loS i hi (by omega)
    have hm4 : ∃ v, v < 7 ∧ i.testBit v = true ∧ m = T (gb_dif i (2 ^ v)) := by
      rcases hm3 with z | z
      · have := hm2 _ l1 l2
        have := h2b _ (gb_delLt l1 l2)
        omega
      · exact z
    obtain ⟨v, hv, hvt, e⟩ := hm4
    have hm5 : m + 441 ≤ 441 * gb_pc i := by
      have a := h2 _ (gb_delLt hv hvt)
      have b := gb_pcDel i hi v hv hvt
      rw [← e] at a
      omega
    have ha := gs_outLe G.2.2.1 true i
    refine gx_across G hx hn true hi ?_
    refine ⟨vp_in_nI hi (by decide), nm_r (e' := upd t i (nI (m + gs_out W true i))) ?_ (gb_s (K2 _ ?_))⟩
    · rw [nI_add, nI_clamp (by omega)]
    refine ⟨by omega, gd_up T i (m + gs_out W true i), ?_, ?_, ?_, gd_put h3 ?_ ⟨v, hv, hvt, by rw [← e]⟩⟩
    · rw [gd_upN (by omega)]; exact h0
    · intro k hk
      by_cases z : k = i
      · rw [z, pk_us, gd_upS]
      · rw [pk_un z, gd_upN z]; exact h1 k (by omega)
    · intro k hk
      by_cases z : k = i
      · rw [z, gd_upS]; omega
      · rw [gd_upN z]; exact h2 k (by omega)
    · intro v hv hvt
      have := hm2 v hv hvt
      omega
theorem gy_str {post : Int32 → Prop} {W : Nat → Nat} (hy : ∀ i, i < 49 → yw i = nI (W i)) {q : Nat → Nat} (hq : ∀ k, k < 7 → q k < 7) (hl : ∀ k, k < 7 → yl k = nI (q k)) (hp : post (nI (gb_sum (fun i => gb_sum (fun j => W (7 * q i + q j) * (i - j)) i) 7))) : wpY_stretched post (r0, yw, yo, yl, yp, yq, yc, yf, yv, ye) := by
  refine pk_loop (fun n i (a : Nat) => wY_stretched_4 post r0 yw yo yl yp yq yc yf yv ye n (nI a) (nI i)) (fun i a => a = gb_sum (fun i => gb_sum (fun j => W (7 * q i + q j) * (i - j)) i) i) 7 0 0 (by omega) rfl ?_ ?_
  · rintro n a rfl
    exact gb_ex 7 hp
  · rintro n i a hi rfl K2
    refine gb_hd 7 hi ?_
    refine pk_loop (fun n j (a : Nat) => wY_stretched_12 post _ (nI i) r0 yw yo yl yp yq yc yf yv ye n (nI a) (nI j)) (fun j a => a = gb_sum (fun i => gb_sum (fun j => W (7 * q i + q j) * (i - j)) i) i + gb_sum (fun j => W (7 * q i + q j) * (i - j)) j) i 0 _ (by omega) rfl ?_ ?_
    · rintro n a rfl
      exact gb_ex i (gb_s (K2 _ rfl))
    · rintro n j a hj rfl K3
      have h1 := hq i hi
      have h2 := hq j (by omega)
      have e1 : (7 : Int32) * yl (nI i).toNatClampNeg + yl (nI j).toNatClampNeg = nI (7 * q i + q j) := by
        rw [gb_rdn (hl i hi), gb_rdn (hl j (by omega)), gb_ix]
      refine gb_hd i hj ⟨vp_in_nI hi (by decide), vp_in_nI (by omega) (by decide), pk_in (7 * q i + q j) 49 (by omega) e1, nm_r ?_ (gb_s (K3 _ rfl))⟩
      rw [gb_rd (hy _ (by omega)) e1, pk_sub (by omega), pk_mul, nI_add, Nat.add_assoc]
      rfl
theorem gy_layout {post : Int32 → SY → Prop} {W B : Nat → Nat} (G : gb_G W B) (hy : ∀ i, i < 49 → yw i = nI (W i)) (ho : r0 = 0 ∨ (r0 = 1 ∧ ∀ c, c < 5040 → yo c = nI (go_pk c)))
    (K : ∀ o l b, (∀ c, c < 5040 → o c = nI (go_pk c)) → gd_B 100000 (fun c => gd_c (fun s _ t => t + gs_out W true s) (go_q (go_pk c)) 7) 5040 b → post (nI b) (1, yw, o, l, yp, yq, yc, yf, yv, ye)) : wpY_layout post (r0, yw, yo, yl, yp, yq, yc, yf, yv, ye) := by
  unfold wpY_layout
  dsimp only
  refine gy_makeOrders ho ?_
  intro o ho'
  dsimp only
  refine pk_loop (fun n i (s : Nat × (Nat → Int32)) => wY_layout_9 post n (nI s.1) (nI i) 1 yw o s.2 yp yq yc yf yv ye) (fun i s => gd_B 100000 (fun c => gd_c (fun s _ t => t + gs_out W true s) (go_q (go_pk c)) 7) i s.1) 5040 0 (100000, yl) (by omega) (gd_B0 _ _) ?_ ?_
  · rintro n ⟨b, l⟩ h
    exact gb_ex 5040 (K o l b ho' h)
  · rintro n i ⟨b, l⟩ hi h K2
    refine gb_hd 5040 hi (gy_write ho' hi ?_)
    intro l' hl'
    dsimp only at h ⊢
    have o7 := (go_pkO hi).2
    refine gy_str hy o7.1 hl' ?_
    rw [← gs_lay G o7]
    have h1 := gs_layB (fun s => gs_outLe G.2.2.1 true s) (go_q (go_pk i)) 7
    have h2 := h.1
    exact pk_le b _ (fun z => gb_s (K2 (b, l') (gd_B1 h z))) (fun z => gb_s (K2 (_, l') (gd_B2 h z)))
theorem i_vc_layout {k : Nat} {u : SX} {v : SY} (I : i_Rel k u v) (hk : k + 4 ≤ 2048) : wpX_layout (fun r u' => wpY_layout (fun r' v' => r' = r ∧ i_Rel (k + 4) u' v') v) u := by
  obtain ⟨p0, xw, xn, xt, xs, xe, xd, xp, xc⟩ := u
  obtain ⟨r0, yw, yo, yl, yp, yq, yc, yf, yv, ye⟩ := v
  obtain ⟨W, B, G, hx, hy, hn, hp, ho⟩ := I
  refine gx_layout G hx hn ?_
  intro t T h0 hT hb
  refine gy_layout G hy ho ?_
  intro o l b ho' hB
  have e := gd_fin (F := fun s _ t => t + gs_out W true s) (N0 := 100000) (fun s v a b h => Nat.add_le_add_right h _) h0 hT hB (by omega)
  exact ⟨congrArg nI e, W, B, G, hx, hy, hn, hp, Or.inr ⟨rfl, ho'⟩⟩
end
end
section
/-! ===== width ===== -/
/-- r holds v, and the neighbours of v and of all its vertices in s -/
def gw_cl (B : Nat → Nat) (v s r : Nat) : Prop := r.testBit v = true ∧ ∀ u, u < 7 → r.testBit u = true → (u = v ∨ s.testBit u = true) → ∀ x, x < 7 → (B u).testBit x = true → r.testBit x = true
def gw_sub (a b : Nat) : Prop := ∀ x, x < 7 → a.testBit x = true → b.testBit x = true
/-- below all closed sets -/
def gw_min (B : Nat → Nat) (v s r : Nat) : Prop := ∀ r', gw_cl B v s r' → gw_sub r r'
def gw_R (B : Nat → Nat) (v s r : Nat) : Prop := r < 128 ∧ gw_cl B v s r ∧ gw_min B v s r
theorem gw_subA {a b : Nat} (ha : a < 128) (hb : b < 128) (h1 : gw_sub a b) (h2 : gw_sub b a) : a = b := by
  apply gb_ext ha hb
  intro i hi
  rw [Bool.eq_iff_iff]
  exact ⟨h1 i hi, h2 i hi⟩
theorem gw_uniq {B : Nat → Nat} {v s r r' : Nat} (h : gw_R B v s r) (h' : gw_R B v s r') : r = r' := gw_subA h.1 h'.1 (h.2.2 r' h'.2.1) (h'.2.2 r h.2.1)
noncomputable def gw_N (B : Nat → Nat) (v s : Nat) : Nat := by
  classical
  exact if h : ∃ r, gw_R B v s r then gb_pc (gb_dif (gb_dif h.choose s) (2 ^ v)) else 0
theorem gw_Nr {B : Nat → Nat} {v s r : Nat} (h : gw_R B v s r) : gb_pc (gb_dif (gb_dif r s) (2 ^ v)) = gw_N B v s := by
  have hE : ∃ r, gw_R B v s r := ⟨r, h⟩
  unfold gw_N
  rw [dif_pos hE, gw_uniq h hE.choose_spec]
theorem gw_pc6 : ∀ s, s < 128 → ∀ v, v < 7 → gb_pc (gb_dif s (2 ^ v)) ≤ 6 := by decide +kernel
theorem gw_pcS : ∀ s, s < 128 → ∀ t, t < 128 → s &&& t = s → s ≠ t → gb_pc s < gb_pc t := by decide +kernel
theorem gw_N6 (B : Nat → Nat) {v : Nat} (s : Nat) (hv : v < 7) : gw_N B v s ≤ 6 := by
  by_cases hE : ∃ r, gw_R B v s r
  · obtain ⟨r, h⟩ := hE
    rw [← gw_Nr h]
    exact gw_pc6 _ (gb_difLt h.1) v hv
  · unfold gw_N
    rw [dif_neg hE]
    exact Nat.zero_le _
theorem gw_pcLt {a b : Nat} (ha : a < 128) (hb : b < 128) (h : gw_sub a b) (hne : a ≠ b) : gb_pc a < gb_pc b := by
  apply gw_pcS a ha b hb _ hne
  apply gb_ext (gb_andLt ha) ha
  intro i hi
  rw [Nat.testBit_and]
  cases e : a.testBit i
  · rfl
  · rw [h i hi e]; rfl
/-- one step of the closure stays below every closed set -/
theorem gw_minIns {B : Nat → Nat} {v s r u : Nat} (h : gw_min B v s r) (hu : u < 7) (ht : r.testBit u = true) (hc : u = v ∨ s.testBit u = true) : gw_min B v s (r ||| B u) := by
  intro r' hr' x hx hxt
  rw [Nat.testBit_or, Bool.or_eq_true] at hxt
  rcases hxt with z | z
  · exact h r' hr' x hx z
  · exact hr'.2 u hu (h r' hr' u hu ht) hc x hx z
theorem gw_minIns1 {B : Nat → Nat} {v s r u x : Nat} (h : gw_min B v s r) (hu : u < 7) (hx : x < 7) (ht : r.testBit u = true) (hc : u = v ∨ s.testBit u = true) (hb : (B u).testBit x = true) : gw_min B v s (r ||| 2 ^ x) := by
  intro r' hr' y hy hyt
  rw [gb_insT, Bool.or_eq_true] at hyt
  rcases hyt with z | z
  · exact h r' hr' y hy z
  · have e := of_decide_eq_true z
    subst e
    exact hr'.2 u hu (h r' hr' u hu ht) hc x hx hb
/-- a pass from a to b -/
def gw_P (B : Nat → Nat) (v s a b : Nat) : Prop := gw_sub a b ∧ ∀ u, u < 7 → a.testBit u = true → (u = v ∨ s.testBit u = true) → ∀ x, x < 7 → (B u).testBit x = true → b.testBit x = true
theorem gw_min0 {B : Nat → Nat} {v s : Nat} : gw_min B v s (2 ^ v) := by
  intro r' hr' x hx h
  rw [Nat.testBit_two_pow] at h
  have e := of_decide_eq_true h
  subst e
  exact hr'.1
section
variable {p0 : Int32} {xw xn xt xs xe xd xp xc : Nat → Int32} {r0 : Int32} {yw yo yl yp yq yc yf yv ye : Nat → Int32}
theorem gx_sf19 {post : Int32 → Prop} {J : Int32 → Int32 → Prop} {B : Nat → Nat} (hB : ∀ v, v < 7 → B v < 128) (hn : ∀ i, i < 7 → xn i = nI (B i)) {v s r : Nat} (hv : v < 7) (hs : s < 128) (hr : r < 128) (hm : gw_min B v s r) (K : ∀ r', r' < 128 → gw_min B v s r' → gw_P B v s r r' → J (nI r') (nI r)) : ∃ n, wX_seenFrom_19 post J (nI v) (nI s) (nI r) p0 xw xn xt xs xe xd xp xc n (nI r) 0 := by
  refine pk_loop (fun n i (a : Nat) => wX_seenFrom_19 post J (nI v) (nI s) (nI r) p0 xw xn xt xs xe xd xp xc n (nI a) (nI i)) (fun i a => a < 128 ∧ gw_min B v s a ∧ gw_sub r a ∧ ∀ u, u < i → r.testBit u = true → (u = v ∨ s.testBit u = true) → ∀ x, x < 7 → (B u).testBit x = true → a.testBit x = true) 7 0 r (by omega) ⟨hr, hm, fun _ _ h => h, fun u hu => by omega⟩ ?_ ?_
  · rintro n a ⟨h1, h2, h3, h4⟩
    exact gb_ex 7 (K a h1 h2 ⟨h3, h4⟩)
  · rintro n i a hi ⟨h1, h2, h3, h4⟩ K2
    have skip : (r.testBit i = true → (i = v ∨ s.testBit i = true) → False) → wX_seenFrom_19 post J (nI v) (nI s) (nI r) p0 xw xn xt xs xe xd xp xc n (nI a) (nI (i + 1)) := by
      intro hno
      refine K2 a ⟨h1, h2, h3, ?_⟩
      intro u hu hru hc x hx hb
      by_cases e : u = i
      · subst e; exact absurd hc (hno hru)
      · exact h4 u (by omega) hru hc x hx hb
    have take : a.testBit i = true → (i = v ∨ s.testBit i = true) → wX_seenFrom_52 post J (wX_seenFrom_19 post J (nI v) (nI s) (nI r) p0 xw xn xt xs xe xd xp xc n) (nI v) (nI s) (nI a) (nI r) (nI i) p0 xw xn xt xs xe xd xp xc := by
      intro ha hc
      refine ⟨vp_in_nI hi (by decide), nm_r (e' := nI (a ||| B i)) ?_ (gb_s (K2 _ ⟨gb_orLt h1 (hB i hi), gw_minIns h2 hi ha hc, ?_, ?_⟩))⟩
      · rw [gb_rdn (hn i hi), gb_or]
      · intro x hx hrx
        rw [Nat.testBit_or, h3 x hx hrx]; rfl
      · intro u hu hru hc2 x hx hb
        rw [Nat.testBit_or]
        by_cases e : u = i
        · subst e; rw [hb]; simp
        · rw [h4 u (by omega) hru hc2 x hx hb]; rfl
    refine gb_hd 7 hi (gx_in a i (fun z => gb_s (skip (fun y => ?_))) (fun z => ?_))
    · have := h3 i hi y; rw [z] at this; cases this
    · refine pk_eq i v (fun e => take z (Or.inl e)) (fun e => gx_in s i (fun z2 => gb_s (skip (fun y c => ?_))) (fun z2 => take z (Or.inr z2)))
      rcases c with c | c
      · exact e c
      · rw [z2] at c; cases c
theorem gx_sf7 {post : Int32 → Prop} {B : Nat → Nat} (hB : ∀ v, v < 7 → B v < 128) (hn : ∀ i, i < 7 → xn i = nI (B i)) {v s : Nat} (hv : v < 7) (hs : s < 128) (hp : post (nI (gw_N B v s))) : ∀ m r b n, r < 128 → b < 128 → r.testBit v = true → gw_min B v s r → gw_P B v s b r → 2 * (128 - r) + (if r = b then 0 else 1) ≤ m → m < n → wX_seenFrom_7 post (nI v) (nI s) p0 xw xn xt xs xe xd xp xc n (nI r) (nI b) := by
  intro m
  induction m with
  | zero =>
    intro r b n hr hb hrv hm hP hmu hn
    have : 2 * (128 - r) ≤ 0 := by omega
    omega
  | succ m ih =>
    intro r b n hr hb hrv hm hP hmu hnn
    obtain ⟨n, rfl⟩ : ∃ q, n = q + 1 := ⟨n - 1, by omega⟩
    refine pk_eq r b (fun e => ?_) (fun e => ?_)
    · subst e
      have hR : gw_R B v s r := ⟨hr, ⟨hrv, hP.2⟩, hm⟩
      refine gx_onesIn (gb_dif (gb_dif r s) (2 ^ v)) (gb_difLt (gb_difLt hr)) ?_ ?_
      · rw [gw_Nr hR]; exact hp
      · rw [gb_difI, gb_delI (by omega)]
    · rw [if_neg e] at hmu
      refine gx_sf19 hB hn hv hs hr hm ?_
      intro r' h1 h2 h3
      refine ih r' r n h1 hr (h3.1 v hv hrv) h2 h3 ?_ (by omega)
      by_cases e2 : r' = r
      · rw [if_pos e2, e2]; omega
      · rw [if_neg e2]
        have : r < r' := by
          have hle : r ≤ r' := by
            have e3 : r = r &&& r' := by
              apply gb_ext hr (gb_andLt hr)
              intro i hi
              rw [Nat.testBit_and]
              cases e4 : r.testBit i
              · rfl
              · rw [h3.1 i hi e4]; rfl
            rw [e3]
            exact Nat.and_le_right
          omega
        omega
theorem gx_seenFrom {post : Int32 → Prop} {B : Nat → Nat} (hB : ∀ v, v < 7 → B v < 128) (hn : ∀ i, i < 7 → xn i = nI (B i)) {v s : Nat} (hv : v < 7) (hs : s < 128) (hp : post (nI (gw_N B v s))) : wpX_seenFrom post (p0, xw, xn, xt, xs, xe, xd, xp, xc) (nI v) (nI s) := by
  refine nm_r (gb_shl (by omega)) ⟨300, ?_⟩
  have h0 : gw_P B v s 0 (2 ^ v) := ⟨fun x _ h => Bool.noConfusion ((Nat.zero_testBit x).symm.trans h), fun u _ h => Bool.noConfusion ((Nat.zero_testBit u).symm.trans h)⟩
  refine gx_sf7 hB hn hv hs hp 299 (2 ^ v) 0 300 (gb_pow hv) (by omega) (by rw [Nat.testBit_two_pow]; simp) gw_min0 h0 ?_ (by omega)
  have := Nat.sub_le 128 (2 ^ v)
  by_cases e : 2 ^ v = 0
  · rw [if_pos e]; omega
  · rw [if_neg e]; omega
theorem gx_tryLast {post : SX → Prop} {B : Nat → Nat} (hB : ∀ v, v < 7 → B v < 128) (hn : ∀ i, i < 7 → xn i = nI (B i)) {T : Nat → Nat} {s v m : Nat} (hs : s < 128) (hv : v < 7) (ht : s.testBit v = true) (h1 : ∀ k, k < s → xt k = nI (T k)) (hb : ∀ k, k < s → T k ≤ 6) (h2 : xt s = nI m) (hm : m ≤ 7)
    (K : ∀ t, (∀ k, k < s → t k = nI (T k)) → t s = nI (min m (max (T (gb_dif s (2 ^ v))) (gw_N B v (gb_dif s (2 ^ v))))) → post (p0, xw, xn, t, xs, xe, xd, xp, xc)) : wpX_tryLast post (p0, xw, xn, xt, xs, xe, xd, xp, xc) (nI s) (nI v) := by
  have hlt := gb_delLt hv ht
  have hd : gb_dif s (2 ^ v) < 128 := gb_difLt hs
  have hT := hb _ hlt
  have hN := gw_N6 B (gb_dif s (2 ^ v)) hv
  have fin : ∀ c, c = max (T (gb_dif s (2 ^ v))) (gw_N B v (gb_dif s (2 ^ v))) → wX_tryLast_35 post (nI s) (nI c) p0 xw xn xt xs xe xd xp xc := by
    intro c hc
    refine ⟨vp_in_nI hs (by decide), pk_le m c (fun z => K xt h1 ?_) (fun z => ⟨vp_in_nI hs (by decide), nm_r gb_udn (K _ ?_ ?_)⟩) (gb_rdn h2) rfl⟩
    · rw [h2]; exact congrArg nI (by omega)
    · intro k hk
      rw [pk_un (by omega)]; exact h1 k hk
    · rw [pk_us]; exact congrArg nI (by omega)
  unfold wpX_tryLast
  dsimp only
  refine nm_r (gb_delI (by omega)) (gx_seenFrom hB hn hv hd ⟨vp_in_nI hd (by decide), pk_le (T (gb_dif s (2 ^ v))) (gw_N B v (gb_dif s (2 ^ v))) (fun z => fin _ ?_) (fun z => ⟨vp_in_nI hd (by decide), nm_r (gb_rdn (h1 _ hlt)) (fin _ ?_)⟩) (gb_rdn (h1 _ hlt)) rfl⟩)
  · omega
  · omega
/-- what the last vertex of a set costs -/
noncomputable def gw_F (B : Nat → Nat) (s v t : Nat) : Nat := max t (gw_N B v (gb_dif s (2 ^ v)))
theorem gx_wd26 {post : Int32 → SX → Prop} {J : Int32 → Int32 → (Nat → Int32) → (Nat → Int32) → (Nat → Int32) → (Nat → Int32) → (Nat → Int32) → (Nat → Int32) → (Nat → Int32) → (Nat → Int32) → Prop} {B : Nat → Nat} (hB : ∀ v, v < 7 → B v < 128) (hn : ∀ i, i < 7 → xn i = nI (B i)) {T : Nat → Nat} {s : Nat} (hs : s < 128) (h1 : ∀ k, k < s → xt k = nI (T k)) (hb : ∀ k, k < s → T k ≤ 6) (h2 : xt s = nI 7)
    (K : ∀ t m, m ≤ 7 → (∀ k, k < s → t k = nI (T k)) → t s = nI m → (∀ v, v < 7 → s.testBit v = true → m ≤ gw_F B s v (T (gb_dif s (2 ^ v)))) → (m = 7 ∨ ∃ v, v < 7 ∧ s.testBit v = true ∧ m = gw_F B s v (T (gb_dif s (2 ^ v)))) → J (nI (s + 1)) p0 xw xn t xs xe xd xp xc) : ∃ n, wX_width_26 post J (nI s) n 0 p0 xw xn xt xs xe xd xp xc := by
  refine pk_loop (fun n i (t : Nat → Int32) => wX_width_26 post J (nI s) n (nI i) p0 xw xn t xs xe xd xp xc) (fun i t => ∃ m, m ≤ 7 ∧ (∀ k, k < s → t k = nI (T k)) ∧ t s = nI m ∧ (∀ v, v < i → s.testBit v = true → m ≤ gw_F B s v (T (gb_dif s (2 ^ v)))) ∧ (m = 7 ∨ ∃ v, v < i ∧ s.testBit v = true ∧ m = gw_F B s v (T (gb_dif s (2 ^ v))))) 7 0 xt (by omega) ⟨7, Nat.le_refl _, h1, h2, fun v hv => by omega, Or.inl rfl⟩ ?_ ?_
  · rintro n t ⟨m, a1, a2, a3, a4, a5⟩
    exact gb_ex 7 (gb_s (K t m a1 a2 a3 a4 a5))
  · rintro n i t hi ⟨m, a1, a2, a3, a4, a5⟩ K2
    refine gb_hd 7 hi (gx_in s i (fun z => gb_s (K2 t ⟨m, a1, a2, a3, ?_, ?_⟩)) (fun z => gx_tryLast hB hn hs hi z a2 hb a3 a1 ?_))
    · intro v hv ht
      by_cases e : v = i
      · subst e; rw [z] at ht; cases ht
      · exact a4 v (by omega) ht
    · rcases a5 with y | ⟨v, hv, ht, e⟩
      · exact Or.inl y
      · exact Or.inr ⟨v, by omega, ht, e⟩
    · intro t' b1 b2
      dsimp only
      have e1 : gw_F B s i (T (gb_dif s (2 ^ i))) = max (T (gb_dif s (2 ^ i))) (gw_N B i (gb_dif s (2 ^ i))) := rfl
      rw [← e1] at b2
      refine gb_s (K2 t' ⟨_, ?_, b1, b2, ?_, ?_⟩)
      · omega
      · intro v hv ht
        by_cases e : v = i
        · subst e; omega
        · have := a4 v (by omega) ht; omega
      · rcases Nat.le_total m (gw_F B s i (T (gb_dif s (2 ^ i)))) with c | c
        · rw [Nat.min_eq_left c]
          rcases a5 with y | ⟨v, hv, ht, e⟩
          · exact Or.inl y
          · exact Or.inr ⟨v, by omega, ht, e⟩
        · rw [Nat.min_eq_right c]
          exact Or.inr ⟨i, by omega, z, rfl⟩
theorem gx_width {post : Int32 → SX → Prop} {B : Nat → Nat} (hB : ∀ v, v < 7 → B v < 128) (hn : ∀ i, i < 7 → xn i = nI (B i))
    (K : ∀ t T, T 0 = 0 → (∀ s, 0 < s → s < 128 → gd_Sp (gw_F B) T s) → T 127 ≤ 6 → post (nI (T 127)) (p0, xw, xn, t, xs, xe, xd, xp, xc)) : wpX_width post (p0, xw, xn, xt, xs, xe, xd, xp, xc) := by
  refine nm_e ?_
  refine pk_loop (fun n i (t : Nat → Int32) => wX_width_9 post n (nI i) p0 xw xn t xs xe xd xp xc) (fun i t => 1 ≤ i ∧ ∃ T : Nat → Nat, T 0 = 0 ∧ (∀ k, k < i → t k = nI (T k)) ∧ (∀ k, k < i → T k ≤ 6) ∧ ∀ s, 0 < s → s < i → gd_Sp (gw_F B) T s) 128 1 (upd xt 0 0) (by omega) ?_ ?_ ?_
  · refine ⟨Nat.le_refl _, fun _ => 0, rfl, ?_, fun _ _ => Nat.zero_le _, fun s h1 h2 => by omega⟩
    intro k hk
    have e : k = 0 := by omega
    rw [e, pk_us]; rfl
  · rintro n t ⟨_, T, h0, h1, h2, h3⟩
    refine gb_ex 128 ?_
    rw [h1 127 (by omega)]
    exact K t T h0 h3 (h2 127 (by omega))
  · rintro n i t hi ⟨hi1, T, h0, h1, h2, h3⟩ K2
    refine gb_hd 128 hi ⟨vp_in_nI hi (by decide), nm_r gb_udn (gx_wd26 (T := T) hB hn hi ?_ h2 pk_us ?_)⟩
    · intro k hk
      rw [pk_un (by omega)]; exact h1 k hk
    intro t' m hm1 hm2 hm3 hm4 hm5
    obtain ⟨l1, l2, _⟩ := gb_loS i hi (by omega)
    have hF : ∀ v, v < 7 → i.testBit v = true → gw_F B i v (T (gb_dif i (2 ^ v))) ≤ 6 := by
      intro v hv ht
      have a := h2 _ (gb_delLt hv ht)
      have b := gw_N6 B (gb_dif i (2 ^ v)) hv
      unfold gw_F
      omega
    have hm6 : m ≤ 6 := Nat.le_trans (hm4 _ l1 l2) (hF _ l1 l2)
    have hm7 : ∃ v, v < 7 ∧ i.testBit v = true ∧ m = gw_F B i v (T (gb_dif i (2 ^ v))) := by
      rcases hm5 with z | z
      · omega
      · exact z
    refine K2 t' ⟨by omega, gd_up T i m, ?_, ?_, ?_, gd_put h3 hm4 hm7⟩
    · rw [gd_upN (by omega)]; exact h0
    · intro k hk
      by_cases z : k = i
      · rw [z, gd_upS]; exact hm3
      · rw [gd_upN z]; exact hm2 k (by omega)
    · intro k hk
      by_cases z : k = i
      · rw [z, gd_upS]; exact hm6
      · rw [gd_upN z]; exact h2 k (by omega)
/-! Y -/
theorem gy_nb17 {post : Int32 → Prop} {J : Int32 → Int32 → Prop} {W B : Nat → Nat} (G : gb_G W B) (hy : ∀ i, i < 49 → yw i = nI (W i)) {v s r rd : Nat} (hv : v < 7) (hs : s < 128) (hr : r < 128) (hm : gw_min B v s r) (K : ∀ r', r' < 128 → gw_min B v s r' → gw_P B v s r r' → J (nI r') (nI (rd + 1))) : ∃ n, wY_neighbours_17 post J (nI v) (nI s) (nI rd) r0 yw yo yl yp yq yc yf yv ye n (nI r) 0 := by
  refine pk_loop (fun n i (a : Nat) => wY_neighbours_17 post J (nI v) (nI s) (nI rd) r0 yw yo yl yp yq yc yf yv ye n (nI a) (nI i)) (fun i a => a < 128 ∧ gw_min B v s a ∧ gw_sub r a ∧ ∀ u x, u < 7 → x < 7 → 7 * u + x < i → r.testBit u = true → (u = v ∨ s.testBit u = true) → (B u).testBit x = true → a.testBit x = true) 49 0 r (by omega) ⟨hr, hm, fun _ _ h => h, fun u x _ _ h => by omega⟩ ?_ ?_
  · rintro n a ⟨h1, h2, h3, h4⟩
    exact gb_ex 49 (gb_s (K a h1 h2 ⟨h3, fun u hu hru hc x hx hb => h4 u x hu hx (by omega) hru hc hb⟩))
  · rintro n i a hi ⟨h1, h2, h3, h4⟩ K2
    have hu : i / 7 < 7 := by omega
    have hx : i % 7 < 7 := by omega
    have ei : 7 * (i / 7) + i % 7 = i := by omega
    have h9 := G.2.2.1 i hi
    have skip : (r.testBit (i / 7) = true → (i / 7 = v ∨ s.testBit (i / 7) = true) → (B (i / 7)).testBit (i % 7) = true → False) → wY_neighbours_17 post J (nI v) (nI s) (nI rd) r0 yw yo yl yp yq yc yf yv ye n (nI a) (nI (i + 1)) := by
      intro hno
      refine K2 a ⟨h1, h2, h3, ?_⟩
      intro u x hu hx hlt hru hc hb
      by_cases e : 7 * u + x = i
      · have e1 : u = i / 7 := by omega
        have e2 : x = i % 7 := by omega
        subst e1 e2
        exact absurd hb (hno hru hc)
      · exact h4 u x hu hx (by omega) hru hc hb
    have take : a.testBit (i / 7) = true → (i / 7 = v ∨ s.testBit (i / 7) = true) → (B (i / 7)).testBit (i % 7) = true → wY_neighbours_69 post J (wY_neighbours_17 post J (nI v) (nI s) (nI rd) r0 yw yo yl yp yq yc yf yv ye n) (nI v) (nI s) (nI a) (nI rd) (nI i) r0 yw yo yl yp yq yc yf yv ye := by
      intro ha hc hb
      refine ⟨gb_n7, nm_r (e' := nI (a ||| 2 ^ (i % 7))) ?_ (gb_s (K2 _ ⟨gb_insLt h1 hx, gw_minIns1 h2 hu hx ha hc hb, ?_, ?_⟩))⟩
      · rw [gb_r7 (by omega), gb_insI (by omega)]
      · intro x hx hrx
        rw [Nat.testBit_or, h3 x hx hrx]; rfl
      · intro u x hu hx hlt hru hc2 hb2
        rw [gb_insT]
        by_cases e : 7 * u + x = i
        · have e2 : i % 7 = x := by omega
          simp [e2]
        · rw [h4 u x hu hx (by omega) hru hc2 hb2]; rfl
    refine gb_hd 49 hi ⟨vp_in_nI hi (by decide), pk_le (W i) 0 (fun z => gb_s (skip (fun _ _ hb => ?_))) (fun z => ⟨gb_n7, gb_q1 a (i / 7) (fun z2 => ⟨gb_n7, ?_⟩) (fun z2 => gb_s (skip (fun hr _ _ => ?_))) rfl (gb_d7 (by omega))⟩) (gb_rdn (hy i hi)) rfl⟩
    · rw [G.2.2.2.2 _ _ hu hx, ei] at hb
      have := of_decide_eq_true hb
      omega
    · have hb : (B (i / 7)).testBit (i % 7) = true := by
        rw [G.2.2.2.2 _ _ hu hx, ei]
        exact decide_eq_true z
      refine pk_eq (i / 7) v (fun e => take z2 (Or.inl e) hb) (fun e => ⟨gb_n7, gb_q1 s (i / 7) (fun z3 => take z2 (Or.inr z3) hb) (fun z3 => gb_s (skip (fun _ c _ => ?_))) rfl (gb_d7 (by omega))⟩) (gb_d7 (by omega)) rfl
      rcases c with c | c
      · exact e c
      · rw [z3] at c; cases c
    · have := h3 _ hu hr
      rw [z2] at this; cases this
theorem gy_neighbours {post : Int32 → Prop} {W B : Nat → Nat} (G : gb_G W B) (hy : ∀ i, i < 49 → yw i = nI (W i)) {v s : Nat} (hv : v < 7) (hs : s < 128) (K : ∀ m, m < 128 → gb_pc m = gw_N B v s → post (nI m)) : wpY_neighbours post (r0, yw, yo, yl, yp, yq, yc, yf, yv, ye) (nI v) (nI s) := by
  refine nm_r (gb_shl (by omega)) ?_
  refine pk_loop (fun n i (r : Nat) => wY_neighbours_7 post (nI v) (nI s) r0 yw yo yl yp yq yc yf yv ye n (nI r) (nI i)) (fun i r => r < 128 ∧ r.testBit v = true ∧ gw_min B v s r ∧ (gw_cl B v s r ∨ i + 1 ≤ gb_pc r)) 7 0 (2 ^ v) (by omega) ⟨gb_pow hv, by rw [Nat.testBit_two_pow]; simp, gw_min0, Or.inr ?_⟩ ?_ ?_
  · exact (by decide : ∀ v, v < 7 → 0 + 1 ≤ gb_pc (2 ^ v)) v hv
  · rintro n r ⟨h1, h2, h3, h4⟩
    have hR : gw_R B v s r := by
      refine ⟨h1, ?_, h3⟩
      rcases h4 with z | z
      · exact z
      · have := gb_pcLe r h1; omega
    refine gb_ex 7 ?_
    rw [gb_difI, gb_delI (by omega)]
    exact K _ (gb_difLt (gb_difLt h1)) (gw_Nr hR)
  · rintro n i r hi ⟨h1, h2, h3, h4⟩ K2
    refine gb_hd 7 hi (gy_nb17 G hy hv hs h1 h3 ?_)
    intro r' g1 g2 g3
    refine K2 r' ⟨g1, g3.1 v hv h2, g2, ?_⟩
    by_cases e : r' = r
    · rw [e] at g3 ⊢
      exact Or.inl ⟨h2, g3.2⟩
    · rcases h4 with z | z
      · exact absurd (gw_subA g1 h1 (g2 r z) g3.1) e
      · have := gw_pcLt h1 g1 g3.1 (fun y => e y.symm)
        exact Or.inr (by omega)
/-- what has been found is kept -/
def gw_L (B : Nat → Nat) (e : Nat → Int32) : Prop := ∀ s v, s < 128 → v < 7 → e (7 * s + v) = -1 ∨ e (7 * s + v) = nI (gw_N B v s)
theorem gw_cM (B : Nat → Nat) (q : Nat → Nat) (k d : Nat) : gd_c (gw_F B) q k ≤ gd_c (gw_F B) q (k + d) := by
  induction d with
  | zero => exact Nat.le_refl _
  | succ d ih =>
    refine Nat.le_trans ih ?_
    show gd_c (gw_F B) q (k + d) ≤ max (gd_c (gw_F B) q (k + d)) _
    omega
theorem gw_c6 (B : Nat → Nat) {q : Nat → Nat} (hq : ∀ k, k < 7 → q k < 7) : ∀ k, k ≤ 7 → gd_c (gw_F B) q k ≤ 6 := by
  intro k
  induction k with
  | zero => intro _; exact Nat.zero_le _
  | succ k ih =>
    intro hk
    have a := ih (by omega)
    have b := gw_N6 B (gb_dif (go_ms q (k + 1)) (2 ^ q k)) (hq k (by omega))
    show max _ _ ≤ 6
    omega
theorem gy_cost {post : Int32 → SY → Prop} {W B : Nat → Nat} (G : gb_G W B) (hy : ∀ i, i < 49 → yw i = nI (W i)) {q : Nat → Nat} (hq : go_O q) (hl : ∀ k, k < 7 → yl k = nI (q k)) {b : Nat} (hb : b ≤ 7) (hL : gw_L B ye)
    (K : ∀ e r, gw_L B e → r ≤ 6 → (r = gd_c (gw_F B) q 7 ∨ (b ≤ r ∧ b ≤ gd_c (gw_F B) q 7)) → post (nI r) (r0, yw, yo, yl, yp, yq, yc, yf, yv, e)) : wpY_cost post (r0, yw, yo, yl, yp, yq, yc, yf, yv, ye) (nI b) := by
  refine pk_loop (fun n i (s : Nat × Nat × (Nat → Int32)) => wY_cost_7 post (nI b) r0 n (nI s.1) (nI s.2.1) (nI i) yw yo yl yp yq yc yf yv s.2.2) (fun i s => s.1 = go_ms q i ∧ s.2.1 = gd_c (gw_F B) q i ∧ gw_L B s.2.2) 7 0 (0, 0, ye) (by omega) ⟨rfl, rfl, hL⟩ ?_ ?_
  · rintro n ⟨g, m, e⟩ ⟨h1, h2, h3⟩
    dsimp only at h1 h2 h3
    subst h1 h2
    exact gb_ex 7 (K e _ h3 (gw_c6 B hq.1 7 (by omega)) (Or.inl rfl))
  · rintro n i ⟨g, m, e⟩ hi ⟨h1, h2, h3⟩ K2
    dsimp only at h1 h2 h3
    subst h1 h2
    have hm := gw_c6 B hq.1 i (by omega)
    have hqi := hq.1 i hi
    have hg : go_ms q i < 128 := go_msLt (fun j hj => hq.1 j (by omega))
    have hdel : gb_dif (go_ms q (i + 1)) (2 ^ q i) = go_ms q i := gb_delIns hg hqi (go_Onew hq hi)
    have hix : ((7 : Int32) * nI (go_ms q i)) + nI (q i) = nI (7 * go_ms q i + q i) := gb_ix _ _
    have hlt : 7 * go_ms q i + q i < 896 := by omega
    have hN := gw_N6 B (go_ms q i) hqi
    -- when the entry is there
    have fin : ∀ e', gw_L B e' → e' (7 * go_ms q i + q i) = nI (gw_N B (q i) (go_ms q i)) → wY_cost_70 post (wY_cost_7 post (nI b) r0 n) (nI b) (nI (go_ms q i)) (nI (gd_c (gw_F B) q i)) (nI i) (nI (q i)) r0 yw yo yl yp yq yc yf yv e' := by
      intro e' he' her
      have last : ∀ m', m' = gd_c (gw_F B) q (i + 1) → wY_cost_99 post (wY_cost_7 post (nI b) r0 n) (nI b) (nI (go_ms q i)) (nI m') (nI i) (nI (q i)) r0 yw yo yl yp yq yc yf yv e' := by
        intro m' hm'
        subst hm'
        exact nm_r (e' := nI (go_ms q (i + 1))) (gb_insI (by omega)) (gb_s (K2 (_, _, e') ⟨rfl, rfl, he'⟩))
      have er : e' (((7 : Int32) * nI (go_ms q i)) + nI (q i)).toNatClampNeg = nI (gw_N B (q i) (go_ms q i)) := gb_rd her hix
      have ec : gd_c (gw_F B) q (i + 1) = max (gd_c (gw_F B) q i) (gw_N B (q i) (go_ms q i)) := by
        show max _ (gw_N B (q i) (gb_dif (go_ms q (i + 1)) (2 ^ q i))) = _
        rw [hdel]
      refine ⟨pk_in _ 896 hlt hix, pk_le (gw_N B (q i) (go_ms q i)) (gd_c (gw_F B) q i) (fun z => last _ ?_) (fun z => ⟨pk_in _ 896 hlt hix, nm_r er (last _ ?_)⟩) er rfl⟩
      · rw [ec]; omega
      · rw [ec]; omega
    refine gb_hd 7 hi (pk_le b (gd_c (gw_F B) q i) (fun z => K e _ h3 hm (Or.inr ⟨z, ?_⟩)) (fun z => ⟨vp_in_nI hi (by decide), nm_r (gb_rdn (hl i hi)) ⟨pk_in _ 896 hlt hix, ?_⟩⟩))
    · have := gw_cM B q i (7 - i)
      rw [show i + (7 - i) = 7 by omega] at this
      omega
    · rcases h3 (go_ms q i) (q i) hg hqi with y | y
      · refine br_f ?_ (gy_neighbours G hy hqi hg ?_)
        · dsimp only
          rw [gb_rd y hix]; decide
        · intro m hm128 hpc
          refine gy_size m hm128 ?_
          rw [hpc]
          refine ⟨pk_in _ 896 hlt hix, nm_r (gb_ud hix) (fin _ ?_ pk_us)⟩
          intro s v hs hv
          by_cases e5 : 7 * s + v = 7 * go_ms q i + q i
          · have e1 : s = go_ms q i := by omega
            have e2 : v = q i := by omega
            rw [e5, pk_us, e1, e2]
            exact Or.inr rfl
          · rw [pk_un e5]
            exact h3 s v hs hv
      · refine br_t ?_ (fin e h3 y)
        dsimp only
        rw [gb_rd y hix]
        exact nI_pos' (by omega)
theorem gy_width {post : Int32 → SY → Prop} {W B : Nat → Nat} (G : gb_G W B) (hy : ∀ i, i < 49 → yw i = nI (W i)) (ho : r0 = 0 ∨ (r0 = 1 ∧ ∀ c, c < 5040 → yo c = nI (go_pk c)))
    (K : ∀ o l e b, (∀ c, c < 5040 → o c = nI (go_pk c)) → gd_B 7 (fun c => gd_c (gw_F B) (go_q (go_pk c)) 7) 5040 b → post (nI b) (1, yw, o, l, yp, yq, yc, yf, yv, e)) : wpY_width post (r0, yw, yo, yl, yp, yq, yc, yf, yv, ye) := by
  refine pk_loop (fun n i (e : Nat → Int32) => wY_width_5 post 7 r0 n (nI i) yw yo yl yp yq yc yf yv e) (fun i e => ∀ k, k < i → e k = -1) 896 0 ye (by omega) (fun v hv => by omega) ?_ ?_
  · intro n e he
    refine gb_ex 896 (gy_makeOrders ho ?_)
    intro o ho'
    dsimp only
    refine pk_loop (fun n i (s : Nat × (Nat → Int32) × (Nat → Int32)) => wY_width_31 post n (nI s.1) (nI i) 1 yw o s.2.1 yp yq yc yf yv s.2.2) (fun i s => gd_B 7 (fun c => gd_c (gw_F B) (go_q (go_pk c)) 7) i s.1 ∧ gw_L B s.2.2) 5040 0 (7, yl, e) (by omega) ⟨gd_B0 _ _, fun s v hs hv => Or.inl (he _ (by omega))⟩ ?_ ?_
    · rintro n ⟨b, l, e⟩ ⟨h1, h2⟩
      exact gb_ex 5040 (K o l e b ho' h1)
    · rintro n i ⟨b, l, e⟩ hi ⟨h1, h2⟩ K2
      dsimp only at h1 h2
      refine gb_hd 5040 hi (gy_write ho' hi ?_)
      intro l' hl'
      dsimp only
      refine gy_cost G hy (go_pkO hi).2 hl' h1.1 h2 ?_
      intro e' r he' hr6 hr
      dsimp only
      have hb := h1.1
      refine pk_le b r (fun z => gb_s (K2 (b, l', e') ⟨gd_B1 h1 ?_, he'⟩)) (fun z => gb_s (K2 (r, l', e') ⟨?_, he'⟩))
      · rcases hr with y | y
        · dsimp only; omega
        · exact y.2
      · rcases hr with y | y
        · subst y; exact gd_B2 h1 z
        · omega
  · intro n i e hi h K2
    exact gb_hd 896 hi ⟨vp_in_nI hi (by decide), nm_r gb_udn (gb_s (K2 _ (gb_fill (f := fun _ => -1) h rfl)))⟩
theorem i_vc_width {k : Nat} {u : SX} {v : SY} (I : i_Rel k u v) (hk : k + 4 ≤ 2048) : wpX_width (fun r u' => wpY_width (fun r' v' => r' = r ∧ i_Rel (k + 4) u' v') v) u := by
  obtain ⟨p0, xw, xn, xt, xs, xe, xd, xp, xc⟩ := u
  obtain ⟨r0, yw, yo, yl, yp, yq, yc, yf, yv, ye⟩ := v
  obtain ⟨W, B, G, hx, hy, hn, hp, ho⟩ := I
  refine gx_width G.2.2.2.1 hn ?_
  intro t T h0 hT hb
  refine gy_width G hy ho ?_
  intro o l e b ho' hB
  have e := gd_fin (F := gw_F B) (N0 := 7) (fun s v a b h => by unfold gw_F; omega) h0 hT hB (by omega)
  exact ⟨congrArg nI e, W, B, G, hx, hy, hn, hp, Or.inr ⟨rfl, ho'⟩⟩
end
end
section
/-! ===== loose ===== -/
/-- X's table: 1 for a set whose vertices go one by one -/
def gl_T (B T : Nat → Nat) (n : Nat) : Prop := T 0 = 1 ∧ ∀ s, 0 < s → s < n → (T s ≤ 1 ∧ (T s = 1 ↔ ∃ v, v < 7 ∧ s.testBit v = true ∧ gb_pc (B v &&& s) < 2 ∧ T (gb_dif s (2 ^ v)) = 1))
/-- Y's set after k steps -/
def gl_l (B : Nat → Nat) (s : Nat) : Nat → Nat
  | 0 => s
  | k + 1 => if gb_pc (B (k % 7) &&& gl_l B s k) < 2 then gb_dif (gl_l B s k) (2 ^ (k % 7)) else gl_l B s k
theorem gl_lLt {B : Nat → Nat} {s : Nat} (hs : s < 128) (k : Nat) : gl_l B s k < 128 := by
  induction k with
  | zero => exact hs
  | succ k ih =>
    unfold gl_l
    by_cases h : gb_pc (B (k % 7) &&& gl_l B s k) < 2
    · rw [if_pos h]; exact gb_difLt ih
    · rw [if_neg h]; exact ih
theorem gl_lS (B : Nat → Nat) (s k : Nat) : gw_sub (gl_l B s (k + 1)) (gl_l B s k) := by
  intro x hx h
  unfold gl_l at h
  by_cases z : gb_pc (B (k % 7) &&& gl_l B s k) < 2
  · rw [if_pos z, gb_delT _ _ (by omega), Bool.and_eq_true] at h
    exact h.1
  · rw [if_neg z] at h; exact h
theorem gl_lSd (B : Nat → Nat) (s k d : Nat) : gw_sub (gl_l B s (k + d)) (gl_l B s k) := by
  induction d with
  | zero => intro x _ h; exact h
  | succ d ih => intro x hx h; exact ih x hx (gl_lS B s (k + d) x hx h)
theorem gl_pcMono : ∀ s, s < 128 → ∀ t, t < 128 → s &&& t = s → gb_pc s ≤ gb_pc t := by decide +kernel
theorem gl_pcSub {a b : Nat} (ha : a < 128) (hb : b < 128) (h : gw_sub a b) : gb_pc a ≤ gb_pc b := by
  apply gl_pcMono a ha b hb
  apply gb_ext (gb_andLt ha) ha
  intro i hi
  rw [Nat.testBit_and]
  cases e : a.testBit i
  · rfl
  · rw [h i hi e]; rfl
/-- every part of a set that goes has a vertex that may go -/
theorem gl_part {B T : Nat → Nat} (hB : ∀ v, v < 7 → B v < 128) (hT : gl_T B T 128) : ∀ s, s < 128 → T s = 1 → ∀ t, t < 128 → t ≠ 0 → gw_sub t s → ∃ v, v < 7 ∧ t.testBit v = true ∧ gb_pc (B v &&& t) < 2 := by
  intro s
  induction s using Nat.strongRecOn with
  | ind s ih =>
    intro hs h1 t ht h0 hsub
    by_cases hs0 : s = 0
    · exfalso
      obtain ⟨l1, l2, _⟩ := gb_loS t ht (by omega)
      have := hsub _ l1 l2
      rw [hs0, Nat.zero_testBit] at this
      cases this
    · obtain ⟨v, hv, hvt, hc, hd⟩ := (hT.2 s (by omega) hs).2.mp h1
      cases e : t.testBit v
      · refine ih _ (gb_delLt hv hvt) (gb_difLt hs) hd t ht h0 ?_
        intro x hx hxt
        rw [gb_delT _ _ (by omega), hsub x hx hxt]
        have : ¬ v = x := fun z => by subst z; rw [e] at hxt; cases hxt
        simp [this]
      · refine ⟨v, hv, e, ?_⟩
        have := gl_pcSub (gb_andLt (t := t) (hB v hv)) (gb_andLt (t := s) (hB v hv)) (fun x hx hxt => by
          rw [Nat.testBit_and, Bool.and_eq_true] at hxt ⊢
          exact ⟨hxt.1, hsub x hx hxt.2⟩)
        omega
theorem gl_iff {B T : Nat → Nat} (hB : ∀ v, v < 7 → B v < 128) (hT : gl_T B T 128) {s : Nat} (hs : s < 128) : gl_l B s 49 = 0 ↔ T s = 1 := by
  constructor
  · intro h
    have H : ∀ d k, k + d = 49 → T (gl_l B s k) = 1 := by
      intro d
      induction d with
      | zero =>
        intro k hk
        have e : k = 49 := by omega
        rw [e, h]; exact hT.1
      | succ d ih =>
        intro k hk
        have h1 := ih (k + 1) (by omega)
        have hlt := gl_lLt (B := B) hs k
        have hk7 : k % 7 < 7 := by omega
        unfold gl_l at h1
        by_cases z : gb_pc (B (k % 7) &&& gl_l B s k) < 2
        · rw [if_pos z] at h1
          cases e : (gl_l B s k).testBit (k % 7)
          · have e2 : gb_dif (gl_l B s k) (2 ^ (k % 7)) = gl_l B s k := by
              apply gb_ext (gb_difLt hlt) hlt
              intro i hi
              rw [gb_delT _ _ (by omega)]
              by_cases y : k % 7 = i
              · subst y; rw [e]; rfl
              · simp [y]
            rw [e2] at h1
            exact h1
          · have h0 : 0 < gl_l B s k := by
              rcases Nat.eq_zero_or_pos (gl_l B s k) with y | y
              · rw [y, Nat.zero_testBit] at e; cases e
              · exact y
            exact (hT.2 _ h0 hlt).2.mpr ⟨_, hk7, e, z, h1⟩
        · rw [if_neg z] at h1
          exact h1
    exact H 49 0 (by omega)
  · intro h1
    have H : ∀ r, r ≤ 7 → gb_pc (gl_l B s (7 * r)) ≤ 7 - r := by
      intro r
      induction r with
      | zero => intro _; exact gb_pcLe _ hs
      | succ r ih =>
        intro hr
        have h2 := ih (by omega)
        have a := gl_lLt (B := B) hs (7 * r)
        have b := gl_lLt (B := B) hs (7 * r + 7)
        have hsub := gl_lSd B s (7 * r) 7
        rw [show 7 * (r + 1) = 7 * r + 7 by omega]
        by_cases h0 : gl_l B s (7 * r) = 0
        · have := gl_pcSub b a hsub
          rw [h0] at this
          have z : gb_pc 0 = 0 := by decide
          omega
        · have hne : gl_l B s (7 * r + 7) ≠ gl_l B s (7 * r) := by
            intro e
            have hs0 : gw_sub (gl_l B s (7 * r)) s := by
              have := gl_lSd B s 0 (7 * r)
              rw [Nat.zero_add] at this
              exact this
            obtain ⟨v, hv, hvt, hc⟩ := gl_part hB hT s hs h1 _ a h0 hs0
            -- at step v nothing has gone
            have e1 : gl_l B s (7 * r + v) = gl_l B s (7 * r) := by
              refine gw_subA (gl_lLt hs _) a (gl_lSd B s (7 * r) v) ?_
              have := gl_lSd B s (7 * r + v) (7 - v)
              rw [show 7 * r + v + (7 - v) = 7 * r + 7 by omega, e] at this
              exact this
            have e2 : gl_l B s (7 * r + v + 1) = gb_dif (gl_l B s (7 * r)) (2 ^ v) := by
              show (if gb_pc (B ((7 * r + v) % 7) &&& gl_l B s (7 * r + v)) < 2 then gb_dif (gl_l B s (7 * r + v)) (2 ^ ((7 * r + v) % 7)) else gl_l B s (7 * r + v)) = _
              rw [show (7 * r + v) % 7 = v by omega, e1, if_pos hc]
            have e3 := gl_lSd B s (7 * r + v + 1) (6 - v) v hv
            rw [show 7 * r + v + 1 + (6 - v) = 7 * r + 7 by omega, e, e2, gb_delT _ _ (by omega)] at e3
            have := e3 hvt
            simp at this
          have := gw_pcLt b a hsub hne
          omega
    have h7 := H 7 (by omega)
    exact gb_pc0 _ (gl_lLt hs 49) (by
      have : gb_pc (gl_l B s 49) ≤ 0 := h7
      omega)
theorem gl_bit {x u : Nat} : x / 2 ^ u % 2 = if x.testBit u = true then 1 else 0 := by
  cases h : x.testBit u
  · rw [gb_b0 h]; rfl
  · rw [gb_b1 h]; rfl
section
variable {p0 : Int32} {xw xn xt xs xe xd xp xc : Nat → Int32} {r0 : Int32} {yw yo yl yp yq yc yf yv ye : Nat → Int32}
theorem gx_lo27 {post : Int32 → SX → Prop} {J : Int32 → Int32 → (Nat → Int32) → (Nat → Int32) → (Nat → Int32) → (Nat → Int32) → (Nat → Int32) → (Nat → Int32) → (Nat → Int32) → (Nat → Int32) → Prop} {B : Nat → Nat} (hB : ∀ v, v < 7 → B v < 128) (hn : ∀ i, i < 7 → xn i = nI (B i)) {T : Nat → Nat} {s m : Nat} (hs : s < 128) (hm : m ≤ 7) (h1 : ∀ k, k < s → xt k = nI (T k)) (hb : ∀ k, k < s → T k ≤ 1) (h2 : xt s = 0)
    (K : ∀ t b m', (∀ k, k < s → t k = nI (T k)) → t s = nI b → b ≤ 1 → (b = 1 ↔ ∃ v, v < 7 ∧ s.testBit v = true ∧ gb_pc (B v &&& s) < 2 ∧ T (gb_dif s (2 ^ v)) = 1) → m' = (if b = 1 then max m (gb_pc s) else m) → J (nI m') (nI (s + 1)) xw xn t xs xe xd xp xc) : ∃ n, wX_loose_27 post J (nI m) (nI s) p0 n 0 xw xn xt xs xe xd xp xc := by
  refine pk_loop (fun n i (t : Nat → Int32) => wX_loose_27 post J (nI m) (nI s) p0 n (nI i) xw xn t xs xe xd xp xc) (fun i t => (∀ k, k < s → t k = nI (T k)) ∧ ∃ b, t s = nI b ∧ b ≤ 1 ∧ (b = 1 ↔ ∃ v, v < i ∧ s.testBit v = true ∧ gb_pc (B v &&& s) < 2 ∧ T (gb_dif s (2 ^ v)) = 1)) 7 0 xt (by omega) ⟨h1, 0, h2, by omega, ⟨fun h => by omega, fun ⟨v, hv, _⟩ => by omega⟩⟩ ?_ ?_
  · rintro n t ⟨a1, b, a2, a3, a4⟩
    have hpc := gb_pcLe s hs
    refine gb_ex 7 (gx_onesIn s hs ⟨vp_in_nI hs (by decide), pk_eq b 1 (fun z => ?_) (fun z => gb_s (K t b m a1 a2 a3 a4 ?_)) (gb_rdn a2) rfl⟩)
    · refine pk_le (gb_pc s) m (fun y => gb_s (K t b m a1 a2 a3 a4 ?_)) (fun y => gb_s (K t b _ a1 a2 a3 a4 ?_))
      · rw [if_pos z]; omega
      · rw [if_pos z]; omega
    · rw [if_neg z]
  · rintro n i t hi ⟨a1, b, a2, a3, a4⟩ K2
    have skip : (s.testBit i = true → gb_pc (B i &&& s) < 2 → T (gb_dif s (2 ^ i)) = 1 → False) → wX_loose_27 post J (nI m) (nI s) p0 n (nI (i + 1)) xw xn t xs xe xd xp xc := by
      intro hno
      refine K2 t ⟨a1, b, a2, a3, ?_⟩
      rw [a4]
      constructor
      · rintro ⟨v, hv, c1, c2, c3⟩
        exact ⟨v, by omega, c1, c2, c3⟩
      · rintro ⟨v, hv, c1, c2, c3⟩
        by_cases e : v = i
        · subst e; exact absurd c3 (hno c1 c2)
        · exact ⟨v, by omega, c1, c2, c3⟩
    have hpc := gb_pcLe (B i &&& s) (gb_andLt (hB i hi))
    refine gb_hd 7 hi (gx_in s i (fun z => gb_s (skip (fun y _ _ => by rw [z] at y; cases y))) (fun z => ⟨vp_in_nI hi (by decide), gx_onesIn (B i &&& s) (gb_andLt (hB i hi)) ?_ (by rw [gb_rdn (hn i hi), nx_and])⟩))
    have hlt := gb_delLt hi z
    have hT := hb _ hlt
    have er : t (nI s &&& (((1 : Int32) <<< (nI i &&& 31)) ^^^ (-1))).toNatClampNeg = nI (T (gb_dif s (2 ^ i))) := gb_rd (a1 _ hlt) (gb_delI (by omega))
    refine pk_le 2 (gb_pc (B i &&& s)) (fun y => gb_s (skip (fun _ c _ => by omega))) (fun y => ⟨pk_in (gb_dif s (2 ^ i)) 128 (gb_difLt hs) (gb_delI (by omega)), pk_eq (T (gb_dif s (2 ^ i))) 1 (fun w => ⟨vp_in_nI hs (by decide), nm_r gb_udn (gb_s (K2 _ ⟨?_, 1, pk_us, by omega, ?_⟩))⟩) (fun w => gb_s (skip (fun _ _ c => w c))) er rfl⟩)
    · intro k hk
      rw [pk_un (by omega)]; exact a1 k hk
    · exact ⟨fun _ => ⟨i, by omega, z, y, w⟩, fun _ => rfl⟩
theorem gx_loose {post : Int32 → SX → Prop} {B : Nat → Nat} (hB : ∀ v, v < 7 → B v < 128) (hn : ∀ i, i < 7 → xn i = nI (B i))
    (K : ∀ t T m, gl_T B T 128 → m ≤ 7 → (∀ s, s < 128 → T s = 1 → gb_pc s ≤ m) → (∃ s, s < 128 ∧ T s = 1 ∧ gb_pc s = m) → post (nI (7 - m)) (p0, xw, xn, t, xs, xe, xd, xp, xc)) : wpX_loose post (p0, xw, xn, xt, xs, xe, xd, xp, xc) := by
  refine nm_e ?_
  refine pk_loop (fun n i (s : (Nat → Int32) × Nat) => wX_loose_11 post p0 n (nI s.2) (nI i) xw xn s.1 xs xe xd xp xc) (fun i s => 1 ≤ i ∧ s.2 ≤ 7 ∧ ∃ T : Nat → Nat, gl_T B T i ∧ (∀ k, k < i → s.1 k = nI (T k)) ∧ (∀ k, k < i → T k ≤ 1) ∧ (∀ k, k < i → T k = 1 → gb_pc k ≤ s.2) ∧ ∃ k, k < i ∧ T k = 1 ∧ gb_pc k = s.2) 128 1 (upd xt 0 1, 0) (by omega) ?_ ?_ ?_
  · refine ⟨Nat.le_refl _, by dsimp only; omega, fun _ => 1, ⟨rfl, fun s h1 h2 => by omega⟩, ?_, fun _ _ => Nat.le_refl _, ?_, ⟨0, by omega, rfl, (by decide : gb_pc 0 = 0)⟩⟩
    · intro k hk
      have e : k = 0 := by omega
      rw [e]
      show upd xt 0 1 0 = 1
      exact pk_us
    · intro k hk _
      have e : k = 0 := by omega
      rw [e]
      exact (by decide : gb_pc 0 ≤ 0)
  · rintro n ⟨t, m⟩ ⟨_, hm, T, h0, h1, h2, h3, h4⟩
    dsimp only at hm h3 h4
    refine gb_ex 128 ?_
    have e : (7 : Int32) - nI m = nI (7 - m) := pk_sub (a := 7) hm
    dsimp only
    rw [e]
    exact K t T m h0 hm h3 h4
  · rintro n i ⟨t, m⟩ hi ⟨hi1, hm, T, h0, h1, h2, h3, h4⟩ K2
    dsimp only at hm h1 h3 h4
    refine gb_hd 128 hi ⟨vp_in_nI hi (by decide), nm_r gb_udn (gx_lo27 (T := T) hB hn hi hm ?_ h2 pk_us ?_)⟩
    · intro k hk
      rw [pk_un (by omega)]; exact h1 k hk
    intro t' b m' c1 c2 c3 c4 c5
    have hpc := gb_pcLe i hi
    have hm' : m' ≤ 7 ∧ m ≤ m' ∧ (b = 1 → gb_pc i ≤ m') ∧ (m' = m ∨ (b = 1 ∧ m' = gb_pc i)) := by
      by_cases z : b = 1
      · rw [if_pos z] at c5
        refine ⟨by omega, by omega, fun _ => by omega, ?_⟩
        rcases Nat.le_total m (gb_pc i) with y | y
        · exact Or.inr ⟨z, by omega⟩
        · exact Or.inl (by omega)
      · rw [if_neg z] at c5
        exact ⟨by omega, by omega, fun y => absurd y z, Or.inl c5⟩
    refine K2 (t', m') ⟨by omega, hm'.1, gd_up T i b, ⟨?_, ?_⟩, ?_, ?_, ?_, ?_⟩
    · rw [gd_upN (by omega)]; exact h0.1
    · intro s hs0 hs
      by_cases e : s = i
      · subst e
        rw [gd_upS]
        refine ⟨c3, ?_⟩
        rw [c4]
        constructor
        · rintro ⟨v, hv, d1, d2, d3⟩
          exact ⟨v, hv, d1, d2, by rw [gd_upN (Nat.ne_of_lt (gb_delLt hv d1))]; exact d3⟩
        · rintro ⟨v, hv, d1, d2, d3⟩
          rw [gd_upN (Nat.ne_of_lt (gb_delLt hv d1))] at d3
          exact ⟨v, hv, d1, d2, d3⟩
      · rw [gd_upN e]
        have hne : ∀ v, gb_dif s (2 ^ v) ≠ i := fun v z => by have := gb_difLe s (2 ^ v); omega
        have := h0.2 s hs0 (by omega)
        refine ⟨this.1, ?_⟩
        rw [this.2]
        constructor
        · rintro ⟨v, hv, d1, d2, d3⟩
          exact ⟨v, hv, d1, d2, by rw [gd_upN (hne v)]; exact d3⟩
        · rintro ⟨v, hv, d1, d2, d3⟩
          rw [gd_upN (hne v)] at d3
          exact ⟨v, hv, d1, d2, d3⟩
    · intro k hk
      by_cases z : k = i
      · rw [z, gd_upS]; exact c2
      · rw [gd_upN z]; exact c1 k (by omega)
    · intro k hk
      by_cases z : k = i
      · rw [z, gd_upS]; exact c3
      · rw [gd_upN z]; exact h2 k (by omega)
    · intro k hk hk1
      dsimp only
      by_cases z : k = i
      · rw [z, gd_upS] at hk1
        rw [z]
        exact hm'.2.2.1 hk1
      · rw [gd_upN z] at hk1
        have := h3 k (by omega) hk1
        omega
    · dsimp only
      rcases hm'.2.2.2 with z | ⟨z1, z2⟩
      · obtain ⟨k, hk, d1, d2⟩ := h4
        exact ⟨k, by omega, by rw [gd_upN (by omega)]; exact d1, by omega⟩
      · exact ⟨i, by omega, by rw [gd_upS]; exact z1, z2.symm⟩
/-! Y -/
theorem gy_isLoose {post : Int32 → Prop} {W B : Nat → Nat} (G : gb_G W B) (hy : ∀ i, i < 49 → yw i = nI (W i)) {s : Nat} (hs : s < 128) (f : gl_l B s 49 = 0 → post 1) (g : gl_l B s 49 ≠ 0 → post 0) : wpY_isLoose post (r0, yw, yo, yl, yp, yq, yc, yf, yv, ye) (nI s) := by
  refine pk_loop (fun n i (l : Nat) => wY_isLoose_4 post r0 yw yo yl yp yq yc yf yv ye n (nI l) (nI i)) (fun i l => l = gl_l B s i) 49 0 s (by omega) rfl ?_ ?_
  · rintro n l rfl
    have := gl_lLt (B := B) hs 49
    exact gb_ex 49 (pk_eq (gl_l B s 49) 0 f g)
  · rintro n i l hi rfl K2
    have hl := gl_lLt (B := B) hs i
    have hv : i % 7 < 7 := by omega
    have hB := G.2.2.2.1 (i % 7) hv
    refine gb_hd 49 hi ⟨gb_n7, nm_r (gb_r7 (by omega)) ?_⟩
    refine pk_loop (fun n u (a : Nat) => wY_isLoose_22 post _ (nI (gl_l B s i)) (nI i) (nI (i % 7)) r0 yw yo yl yp yq yc yf yv ye n (nI a) (nI u)) (fun u a => a = gb_sum (fun u => (B (i % 7) &&& gl_l B s i) / 2 ^ u % 2) u) 7 0 0 (by omega) rfl ?_ ?_
    · rintro n a rfl
      have e : gb_sum (fun u => (B (i % 7) &&& gl_l B s i) / 2 ^ u % 2) 7 = gb_pc (B (i % 7) &&& gl_l B s i) := rfl
      have hpc := gb_pcLe (B (i % 7) &&& gl_l B s i) (gb_andLt hB)
      rw [e]
      refine gb_ex 7 (pk_le 2 (gb_pc (B (i % 7) &&& gl_l B s i)) (fun z => gb_s (K2 _ ?_)) (fun z => nm_r (gb_delI (by omega)) (gb_s (K2 _ ?_))))
      · show _ = if gb_pc (B (i % 7) &&& gl_l B s i) < 2 then _ else _
        rw [if_neg (by omega)]
      · show _ = if gb_pc (B (i % 7) &&& gl_l B s i) < 2 then _ else _
        rw [if_pos z]
    · rintro n u a hu rfl K3
      have hb : (B (i % 7)).testBit u = decide (0 < W (7 * u + i % 7)) := by
        rw [G.2.2.2.2 _ u hv hu, G.1 _ u hv hu]
      have step : ∀ c, c = (B (i % 7) &&& gl_l B s i) / 2 ^ u % 2 → gb_sum (fun u => (B (i % 7) &&& gl_l B s i) / 2 ^ u % 2) u + c = gb_sum (fun u => (B (i % 7) &&& gl_l B s i) / 2 ^ u % 2) (u + 1) := by
        intro c hc
        rw [hc]
        rfl
      refine gb_hd 7 hu (gb_q1 (gl_l B s i) u (fun z => gy_are hy G.2.2.1 u (i % 7) hu hv (fun y => br_t rfl (gb_s (K3 _ (step 0 ?_)))) (fun y => br_f (by decide) (nm_r (nI_1 _) (gb_s (K3 _ (step 1 ?_)))))) (fun z => gb_s (K3 _ (step 0 ?_))))
      · rw [gl_bit, Nat.testBit_and, hb, y]; rfl
      · rw [gl_bit, Nat.testBit_and, hb, z, decide_eq_true y]; rfl
      · rw [gl_bit, Nat.testBit_and, z]; simp
theorem gy_loose {post : Int32 → Prop} {W B T : Nat → Nat} (G : gb_G W B) (hy : ∀ i, i < 49 → yw i = nI (W i)) (hT : gl_T B T 128)
    (K : ∀ b, b ≤ 7 → (∀ s, s < 128 → T s = 1 → b ≤ 7 - gb_pc s) → (b = 7 ∨ ∃ s, s < 128 ∧ T s = 1 ∧ b = 7 - gb_pc s) → post (nI b)) : wpY_loose post (r0, yw, yo, yl, yp, yq, yc, yf, yv, ye) := by
  refine pk_loop (fun n i (b : Nat) => wY_loose_5 post r0 yw yo yl yp yq yc yf yv ye n (nI b) (nI i)) (fun i b => b ≤ 7 ∧ (∀ s, s < i → T s = 1 → b ≤ 7 - gb_pc s) ∧ (b = 7 ∨ ∃ s, s < i ∧ T s = 1 ∧ b = 7 - gb_pc s)) 128 0 7 (by omega) ⟨Nat.le_refl _, fun s hs => by omega, Or.inl rfl⟩ ?_ ?_
  · rintro n b ⟨h1, h2, h3⟩
    exact gb_ex 128 (K b h1 h2 h3)
  · rintro n i b hi ⟨h1, h2, h3⟩ K2
    have hpc := gb_pcLe i hi
    have same : (T i = 1 → b ≤ 7 - gb_pc i) → wY_loose_5 post r0 yw yo yl yp yq yc yf yv ye n (nI b) (nI (i + 1)) := by
      intro h
      refine K2 b ⟨h1, ?_, ?_⟩
      · intro s hs hs1
        by_cases e : s = i
        · subst e; exact h hs1
        · exact h2 s (by omega) hs1
      · rcases h3 with z | ⟨s, c1, c2, c3⟩
        · exact Or.inl z
        · exact Or.inr ⟨s, by omega, c2, c3⟩
    have e7 : (7 : Int32) - nI (gb_pc i) = nI (7 - gb_pc i) := pk_sub (a := 7) hpc
    refine gb_hd 128 hi (gy_size i hi (nm_r e7 (pk_le b (7 - gb_pc i) (fun z => gb_s (same (fun _ => z))) (fun z => gy_isLoose G hy hi (fun y => br_f (by decide) (gb_s (K2 _ ?_))) (fun y => br_t rfl (gb_s (same (fun h => absurd ((gl_iff G.2.2.2.1 hT hi).mpr h) y))))))))
    have hTi := (gl_iff G.2.2.2.1 hT hi).mp y
    refine ⟨by omega, ?_, Or.inr ⟨i, by omega, hTi, rfl⟩⟩
    intro s hs hs1
    by_cases e : s = i
    · subst e; omega
    · have := h2 s (by omega) hs1; omega
theorem i_vc_loose {k : Nat} {u : SX} {v : SY} (I : i_Rel k u v) (hk : k + 4 ≤ 2048) : wpX_loose (fun r u' => wpY_loose (fun r' => r' = r ∧ i_Rel (k + 4) u' v) v) u := by
  obtain ⟨p0, xw, xn, xt, xs, xe, xd, xp, xc⟩ := u
  obtain ⟨r0, yw, yo, yl, yp, yq, yc, yf, yv, ye⟩ := v
  obtain ⟨W, B, G, hx, hy, hn, hp, ho⟩ := I
  refine gx_loose G.2.2.2.1 hn ?_
  intro t T m hT hm h1 h2
  refine gy_loose G hy hT ?_
  intro b g1 g2 g3
  have e : b = 7 - m := by
    obtain ⟨s, c1, c2, c3⟩ := h2
    have := g2 s c1 c2
    rcases g3 with z | ⟨s', d1, d2, d3⟩
    · omega
    · have := h1 s' d1 d2; omega
  exact ⟨congrArg nI e, W, B, G, hx, hy, hn, hp, ho⟩
end
end
section
/-! ===== dominators: sums, closed facts ===== -/
def gb_isum (f : Nat → Int) : Nat → Int
  | 0 => 0
  | n + 1 => gb_isum f n + f n
theorem gb_isumC {f g : Nat → Int} {n : Nat} (h : ∀ i, i < n → f i = g i) : gb_isum f n = gb_isum g n := by
  induction n with
  | zero => rfl
  | succ n ih =>
    unfold gb_isum
    rw [ih (fun i hi => h i (by omega)), h n (by omega)]
theorem gb_isumA (f g : Nat → Int) (n : Nat) : gb_isum (fun i => f i + g i) n = gb_isum f n + gb_isum g n := by
  induction n with
  | zero => rfl
  | succ n ih => simp only [gb_isum, ih]; omega
theorem gb_isum0 {f : Nat → Int} {n : Nat} (h : ∀ i, i < n → f i = 0) : gb_isum f n = 0 := by
  induction n with
  | zero => rfl
  | succ n ih => unfold gb_isum; rw [ih (fun i hi => h i (by omega)), h n (by omega)]; rfl
theorem gb_isumS (f : Nat → Nat → Int) (m n : Nat) : gb_isum (fun i => gb_isum (fun j => f i j) n) m = gb_isum (fun j => gb_isum (fun i => f i j) m) n := by
  induction m with
  | zero => exact (gb_isum0 (fun _ _ => rfl)).symm
  | succ m ih =>
    have e : gb_isum (fun j => gb_isum (fun i => f i j) (m + 1)) n = gb_isum (fun j => gb_isum (fun i => f i j) m + f m j) n := rfl
    rw [e, gb_isumA, ← ih]
    rfl
theorem gb_isumM (c : Int) (f : Nat → Int) (n : Nat) : c * gb_isum f n = gb_isum (fun i => c * f i) n := by
  induction n with
  | zero => exact Int.mul_zero c
  | succ n ih => unfold gb_isum; rw [Int.mul_add, ih]
theorem gb_isumN (f : Nat → Nat) (n : Nat) : ((gb_sum f n : Nat) : Int) = gb_isum (fun i => (f i : Int)) n := by
  induction n with
  | zero => rfl
  | succ n ih => unfold gb_sum gb_isum; rw [← ih]; omega
/-- n over k, as X reckons it -/
def gk_ch (n : Nat) : Nat → Nat
  | 0 => 1
  | i + 1 => gk_ch n i * (n - i) / (i + 1)
theorem gk_chB : ∀ n, n < 8 → ∀ i, i < 8 → gk_ch n i * (n - i) < 100000 ∧ (n < i → gk_ch n i = 0) := by decide +kernel
def gk_s (s : Nat) : Int := if gb_pc s % 2 = 0 then 1 else -1
theorem gk_c1 : ∀ M, M < 128 → ∀ k, k < 8 → gk_ch (7 - gb_pc M) k = gb_sum (fun S => if gb_pc S = k ∧ S &&& M = 0 then 1 else 0) 128 := by decide +kernel
theorem gk_c2 : ∀ M, M < 128 → gb_isum (fun U => if U &&& M = 0 then gk_s U else 0) 128 = if M = 127 then 1 else 0 := by decide +kernel
end
section
/-! ===== dominators ===== -/
def gk_it (B : Nat → Nat) (s : Nat) : Nat → Nat
  | 0 => s
  | i + 1 => if s.testBit i = true then gk_it B s i ||| B i else gk_it B s i
/-- a set and its neighbours -/
def gk_nr (B : Nat → Nat) (s : Nat) : Nat := gk_it B s 7
theorem gk_itLt {B : Nat → Nat} (hB : ∀ v, v < 7 → B v < 128) {s : Nat} (hs : s < 128) : ∀ i, i ≤ 7 → gk_it B s i < 128 := by
  intro i
  induction i with
  | zero => intro _; exact hs
  | succ i ih =>
    intro hi
    unfold gk_it
    by_cases h : s.testBit i = true
    · rw [if_pos h]; exact gb_orLt (ih (by omega)) (hB i (by omega))
    · rw [if_neg h]; exact ih (by omega)
theorem gk_itT (B : Nat → Nat) (s x i : Nat) : (gk_it B s i).testBit x = true ↔ (s.testBit x = true ∨ ∃ v, v < i ∧ s.testBit v = true ∧ (B v).testBit x = true) := by
  induction i with
  | zero => exact ⟨Or.inl, fun h => h.elim id (fun ⟨v, hv, _⟩ => by omega)⟩
  | succ i ih =>
    unfold gk_it
    by_cases h : s.testBit i = true
    · rw [if_pos h, Nat.testBit_or, Bool.or_eq_true, ih]
      constructor
      · rintro ((a | ⟨v, hv, a, b⟩) | b)
        · exact Or.inl a
        · exact Or.inr ⟨v, by omega, a, b⟩
        · exact Or.inr ⟨i, by omega, h, b⟩
      · rintro (a | ⟨v, hv, a, b⟩)
        · exact Or.inl (Or.inl a)
        · by_cases e : v = i
          · subst e; exact Or.inr b
          · exact Or.inl (Or.inr ⟨v, by omega, a, b⟩)
    · rw [if_neg h, ih]
      constructor
      · rintro (a | ⟨v, hv, a, b⟩)
        · exact Or.inl a
        · exact Or.inr ⟨v, by omega, a, b⟩
      · rintro (a | ⟨v, hv, a, b⟩)
        · exact Or.inl a
        · by_cases e : v = i
          · subst e; exact absurd a h
          · exact Or.inr ⟨v, by omega, a, b⟩
theorem gk_and0 {a b : Nat} (ha : a < 128) : a &&& b = 0 ↔ ∀ x, x < 7 → a.testBit x = true → b.testBit x = true → False := by
  constructor
  · intro h x hx h1 h2
    have : (a &&& b).testBit x = true := by rw [Nat.testBit_and, h1, h2]; rfl
    rw [h, Nat.zero_testBit] at this
    cases this
  · intro h
    apply gb_ext (gb_andLt ha) (by omega)
    intro x hx
    rw [Nat.testBit_and, Nat.zero_testBit]
    cases h1 : a.testBit x
    · rfl
    · cases h2 : b.testBit x
      · rfl
      · exact absurd h2 (fun z => h x hx h1 z)
theorem gk_sym {W B : Nat → Nat} (G : gb_G W B) {S U : Nat} (hS : S < 128) (hU : U < 128) (h : S &&& gk_nr B U = 0) : U &&& gk_nr B S = 0 := by
  rw [gk_and0 hS] at h
  rw [gk_and0 hU]
  intro x hx h1 h2
  rcases (gk_itT B S x 7).mp h2 with a | ⟨v, hv, a, b⟩
  · exact h x hx a ((gk_itT B U x 7).mpr (Or.inl h1))
  · exact h v hv a ((gk_itT B U v 7).mpr (Or.inr ⟨x, hx, h1, by rw [gb_Gsym G hx hv]; exact b⟩))
def gk_n (B : Nat → Nat) (k : Nat) (S : Nat) : Nat := if gb_pc S = k ∧ gk_nr B S = 127 then 1 else 0
theorem gk_eq {W B : Nat → Nat} (G : gb_G W B) {k : Nat} (hk : k < 8) : gb_isum (fun U => gk_s U * (gk_ch (7 - gb_pc (gk_nr B U)) k : Int)) 128 = (gb_sum (gk_n B k) 128 : Nat) := by
  have hlt : ∀ U, U < 128 → gk_nr B U < 128 := fun U hU => gk_itLt G.2.2.2.1 hU 7 (by omega)
  have e1 : gb_isum (fun U => gk_s U * (gk_ch (7 - gb_pc (gk_nr B U)) k : Int)) 128 = gb_isum (fun U => gb_isum (fun S => gk_s U * ((if gb_pc S = k ∧ S &&& gk_nr B U = 0 then 1 else 0 : Nat) : Int)) 128) 128 := by
    apply gb_isumC
    intro U hU
    rw [gk_c1 _ (hlt U hU) k hk, gb_isumN, gb_isumM]
  rw [e1, gb_isumS, gb_isumN]
  apply gb_isumC
  intro S hS
  by_cases hp : gb_pc S = k
  · have e2 : gb_isum (fun U => gk_s U * ((if gb_pc S = k ∧ S &&& gk_nr B U = 0 then 1 else 0 : Nat) : Int)) 128 = gb_isum (fun U => if U &&& gk_nr B S = 0 then gk_s U else 0) 128 := by
      apply gb_isumC
      intro U hU
      by_cases h : S &&& gk_nr B U = 0
      · rw [if_pos ⟨hp, h⟩, if_pos (gk_sym G hS hU h)]
        exact Int.mul_one _
      · rw [if_neg (fun z => h z.2), if_neg (fun z => h (gk_sym G hU hS z))]
        exact Int.mul_zero _
    rw [e2, gk_c2 _ (hlt S hS)]
    unfold gk_n
    by_cases h : gk_nr B S = 127
    · rw [if_pos h, if_pos ⟨hp, h⟩]; rfl
    · rw [if_neg h, if_neg (fun z => h z.2)]; rfl
  · unfold gk_n
    rw [if_neg (fun z => hp z.1)]
    apply gb_isum0
    intro U _
    rw [if_neg (fun z => hp z.1)]
    exact Int.mul_zero _
section
variable {p0 : Int32} {xw xn xt xs xe xd xp xc : Nat → Int32} {r0 : Int32} {yw yo yl yp yq yc yf yv ye : Nat → Int32}
theorem gx_choose {post : Int32 → Prop} {n k : Nat} (hn : n < 8) (hk : k < 8) (hp : post (nI (gk_ch n k))) : wpX_choose post (p0, xw, xn, xt, xs, xe, xd, xp, xc) (nI n) (nI k) := by
  refine pk_loop (fun f i (r : Nat) => wX_choose_5 post (nI n) (nI k) p0 xw xn xt xs xe xd xp xc f (nI r) (nI i)) (fun i r => r = gk_ch n i) k 0 1 (by omega) rfl ?_ ?_
  · rintro f r rfl
    exact gb_ex k hp
  · rintro f i r hi rfl K2
    obtain ⟨b1, b2⟩ := gk_chB n hn i (by omega)
    refine gb_hd k hi ⟨by rw [nI_1]; exact nI_ne0 (by omega) (by omega), nm_r (e' := nI (gk_ch n (i + 1))) ?_ (gb_s (K2 _ rfl))⟩
    have e : nI (gk_ch n i) * (nI n - nI i) = nI (gk_ch n i * (n - i)) := by
      rcases Nat.lt_or_ge n i with z | z
      · rw [b2 z, Nat.zero_mul]
        exact Int32.zero_mul
      · rw [pk_sub z, pk_mul]
    rw [e, nI_1, pk_div (by omega) (by omega) (by omega)]
    rfl
theorem gx_dom {post : Int32 → Prop} {B : Nat → Nat} (hB : ∀ v, v < 7 → B v < 128) (hn : ∀ i, i < 7 → xn i = nI (B i)) {k : Nat} (hk : k < 8) (hp : post (gb_i (gb_isum (fun U => gk_s U * (gk_ch (7 - gb_pc (gk_nr B U)) k : Int)) 128))) : ∃ n, wX_dominators_16 post (nI k) p0 xw xn xt xs xe xd xp xc n 0 0 := by
  refine pk_loop (fun n i (a : Int) => wX_dominators_16 post (nI k) p0 xw xn xt xs xe xd xp xc n (gb_i a) (nI i)) (fun i a => a = gb_isum (fun U => gk_s U * (gk_ch (7 - gb_pc (gk_nr B U)) k : Int)) i) 128 0 0 (by omega) rfl ?_ ?_
  · rintro n a rfl
    exact gb_ex 128 hp
  · rintro n i a hi rfl K2
    refine gb_hd 128 hi ?_
    refine pk_loop (fun n v (r : Nat) => wX_dominators_29 post _ (nI k) (gb_i (gb_isum (fun U => gk_s U * (gk_ch (7 - gb_pc (gk_nr B U)) k : Int)) i)) (nI i) p0 xw xn xt xs xe xd xp xc n (nI r) (nI v)) (fun v r => r = gk_it B i v) 7 0 i (by omega) rfl ?_ ?_
    · rintro n r rfl
      have hr : gk_nr B i < 128 := gk_itLt hB hi 7 (by omega)
      have hpc := gb_pcLe _ hr
      have hpi := gb_pcLe i hi
      have e7 : (7 : Int32) - nI (gb_pc (gk_nr B i)) = nI (7 - gb_pc (gk_nr B i)) := pk_sub (a := 7) hpc
      have ea : nI (gb_pc i) &&& 1 = nI (gb_pc i % 2) := by
        show nI _ &&& nI 1 = _
        rw [nx_and, Nat.and_one_is_mod]
      refine gb_ex 7 (gx_onesIn (gk_nr B i) hr (nm_r e7 (gx_choose (by omega) hk (gx_onesIn i hi (pk_eq (gb_pc i % 2) 0 (fun z => nm_r (e' := gb_i (gb_isum (fun U => gk_s U * (gk_ch (7 - gb_pc (gk_nr B U)) k : Int)) (i + 1))) ?_ (gb_s (K2 _ rfl))) (fun z => nm_r (e' := gb_i (gb_isum (fun U => gk_s U * (gk_ch (7 - gb_pc (gk_nr B U)) k : Int)) (i + 1))) ?_ (gb_s (K2 _ rfl))) ea rfl)))))
      · rw [gb_iN, gb_iA]
        apply congrArg gb_i
        show _ = gb_isum _ i + gk_s i * _
        unfold gk_s
        rw [if_pos z, Int.one_mul]
      · rw [gb_iN, gb_iG, gb_iA]
        apply congrArg gb_i
        show _ = gb_isum _ i + gk_s i * _
        unfold gk_s
        rw [if_neg z, Int.neg_mul, Int.one_mul]
    · rintro n v r hv rfl K3
      refine gb_hd 7 hv (gx_in i v (fun z => gb_s (K3 _ ?_)) (fun z => ⟨vp_in_nI hv (by decide), nm_r (e' := nI (gk_it B i (v + 1))) ?_ (gb_s (K3 _ rfl))⟩))
      · show _ = if i.testBit v = true then _ else _
        rw [if_neg (by rw [z]; decide)]
      · rw [gb_rdn (hn v hv), gb_or]
        show _ = nI (if i.testBit v = true then _ else _)
        rw [if_pos z]
theorem gy_isDom {post : Int32 → Prop} {W B : Nat → Nat} (G : gb_G W B) (hy : ∀ i, i < 49 → yw i = nI (W i)) {s : Nat} (hs : s < 128) (f : gk_nr B s = 127 → post 1) (g : gk_nr B s ≠ 127 → post 0) : wpY_isDominating post (r0, yw, yo, yl, yp, yq, yc, yf, yv, ye) (nI s) := by
  refine pk_loop (fun n i (m : Nat) => wY_isDominating_4 post (nI s) r0 yw yo yl yp yq yc yf yv ye n (nI m) (nI i)) (fun i m => m < 128 ∧ ∀ x, x < 7 → (m.testBit x = true ↔ (s.testBit x = true ∨ ∃ v, v < 7 ∧ 7 * v + x < i ∧ s.testBit v = true ∧ (B v).testBit x = true))) 49 0 s (by omega) ⟨hs, fun x hx => ⟨Or.inl, fun h => h.elim id (fun ⟨v, _, h, _⟩ => by omega)⟩⟩ ?_ ?_
  · rintro n m ⟨h1, h2⟩
    have e : m = gk_nr B s := by
      apply gb_ext h1 (gk_itLt G.2.2.2.1 hs 7 (by omega))
      intro x hx
      rw [Bool.eq_iff_iff, h2 x hx, gk_itT]
      constructor
      · rintro (a | ⟨v, hv, _, a, b⟩)
        · exact Or.inl a
        · exact Or.inr ⟨v, hv, a, b⟩
      · rintro (a | ⟨v, hv, a, b⟩)
        · exact Or.inl a
        · exact Or.inr ⟨v, hv, by omega, a, b⟩
    subst e
    exact gb_ex 49 (pk_eq (gk_nr B s) 127 f g)
  · rintro n i m hi ⟨h1, h2⟩ K2
    have hu : i / 7 < 7 := by omega
    have hx7 : i % 7 < 7 := by omega
    have ei : 7 * (i / 7) + i % 7 = i := by omega
    have h9 := G.2.2.1 i hi
    have hbt := G.2.2.2.2 _ _ hu hx7
    rw [ei] at hbt
    have skip : (s.testBit (i / 7) = true → 0 < W i → False) → wY_isDominating_4 post (nI s) r0 yw yo yl yp yq yc yf yv ye n (nI m) (nI (i + 1)) := by
      intro hno
      refine K2 m ⟨h1, ?_⟩
      intro x hx
      rw [h2 x hx]
      constructor
      · rintro (a | ⟨v, hv, c, a, b⟩)
        · exact Or.inl a
        · exact Or.inr ⟨v, hv, by omega, a, b⟩
      · rintro (a | ⟨v, hv, c, a, b⟩)
        · exact Or.inl a
        · by_cases e : 7 * v + x = i
          · have e1 : v = i / 7 := by omega
            have e2 : x = i % 7 := by omega
            subst e1 e2
            rw [hbt] at b
            exact absurd (of_decide_eq_true b) (hno a)
          · exact Or.inr ⟨v, hv, by omega, a, b⟩
    refine gb_hd 49 hi ⟨gb_n7, gb_q1 s (i / 7) (fun z => ⟨vp_in_nI hi (by decide), pk_le (W i) 0 (fun y => gb_s (skip (fun _ c => by omega))) (fun y => ⟨gb_n7, nm_r (e' := nI (m ||| 2 ^ (i % 7))) ?_ (gb_s (K2 _ ⟨gb_insLt h1 hx7, ?_⟩))⟩) (gb_rdn (hy i hi)) rfl⟩) (fun z => gb_s (skip (fun c _ => by rw [z] at c; cases c))) rfl (gb_d7 (by omega))⟩
    · rw [gb_r7 (by omega), gb_insI (by omega)]
    · intro x hx
      rw [gb_insT, Bool.or_eq_true, h2 x hx]
      constructor
      · rintro ((a | ⟨v, hv, c, a, b⟩) | a)
        · exact Or.inl a
        · exact Or.inr ⟨v, hv, by omega, a, b⟩
        · have e := of_decide_eq_true a
          exact Or.inr ⟨i / 7, hu, by omega, z, by rw [← e, hbt]; exact decide_eq_true y⟩
      · rintro (a | ⟨v, hv, c, a, b⟩)
        · exact Or.inl (Or.inl a)
        · by_cases e : 7 * v + x = i
          · have e2 : i % 7 = x := by omega
            exact Or.inr (decide_eq_true e2)
          · exact Or.inl (Or.inr ⟨v, hv, by omega, a, b⟩)
theorem gy_dom {post : Int32 → Prop} {W B : Nat → Nat} (G : gb_G W B) (hy : ∀ i, i < 49 → yw i = nI (W i)) {k : Nat} (hk : k < 8) (hp : post (nI (gb_sum (gk_n B k) 128))) : ∃ n, wY_dominators_16 post (nI k) r0 yw yo yl yp yq yc yf yv ye n 0 0 := by
  refine pk_loop (fun n i (a : Nat) => wY_dominators_16 post (nI k) r0 yw yo yl yp yq yc yf yv ye n (nI a) (nI i)) (fun i a => a = gb_sum (gk_n B k) i) 128 0 0 (by omega) rfl ?_ ?_
  · rintro n a rfl
    exact gb_ex 128 hp
  · rintro n i a hi rfl K2
    have hpc := gb_pcLe i hi
    have e0 : gk_n B k i = 0 → wY_dominators_16 post (nI k) r0 yw yo yl yp yq yc yf yv ye n (nI (gb_sum (gk_n B k) i)) (nI (i + 1)) := by
      intro h
      refine K2 _ ?_
      show _ = gb_sum (gk_n B k) i + gk_n B k i
      omega
    refine gb_hd 128 hi (gy_size i hi (pk_eq (gb_pc i) k (fun z => gy_isDom G hy hi (fun y => br_f (by decide) (nm_r (nI_1 _) (gb_s (K2 _ ?_)))) (fun y => br_t rfl (gb_s (e0 ?_)))) (fun z => gb_s (e0 ?_))))
    · show _ = gb_sum (gk_n B k) i + gk_n B k i
      unfold gk_n
      rw [if_pos ⟨z, y⟩]
    · unfold gk_n
      rw [if_neg (fun c => y c.2)]
    · unfold gk_n
      rw [if_neg (fun c => z c.1)]
theorem i_vc_dominators {k : Nat} {u : SX} {v : SY} (I : i_Rel k u v) (hk : k + 4 ≤ 2048) (v1 : Int32) : wpX_dominators (fun r => wpY_dominators (fun r' => r' = r ∧ i_Rel (k + 4) u v) v v1) u v1 := by
  obtain ⟨p0, xw, xn, xt, xs, xe, xd, xp, xc⟩ := u
  obtain ⟨r0, yw, yo, yl, yp, yq, yc, yf, yv, ye⟩ := v
  by_cases h0 : v1 < 0
  · exact br_t h0 (br_t h0 ⟨rfl, I⟩)
  · by_cases h7 : v1 ≤ 7
    · have I' := I
      obtain ⟨W, B, G, hx, hy, hn, hp, ho⟩ := I'
      obtain ⟨j, hj, rfl⟩ := nI_of2 (n := 7) (by decide) h0 h7
      refine br_f h0 (br_t h7 (gx_dom G.2.2.2.1 hn (by omega) ?_))
      refine br_f h0 (br_t h7 (gy_dom G hy (by omega) ?_))
      refine ⟨?_, I⟩
      rw [gk_eq G (by omega), gb_iN]
    · exact br_f h0 (br_f h7 (br_f h0 (br_f h7 ⟨rfl, I⟩)))
end
end
section
/-! ===== matchings ===== -/
/-- X's matchings of s with j edges, each edge as 7 * v + u -/
def gm_ml : Nat → Nat → Nat → List (List Nat)
  | 0, _, j => if j = 0 then [[]] else []
  | f + 1, s, j => if s = 0 then (if j = 0 then [[]] else []) else
      gm_ml f (gb_dif s (2 ^ gb_lo s)) j ++ (if j = 0 then [] else (List.range 7).flatMap (fun u => if (gb_dif s (2 ^ gb_lo s)).testBit u = true then (gm_ml f (gb_dif (gb_dif s (2 ^ gb_lo s)) (2 ^ u)) (j - 1)).map (fun l => (7 * gb_lo s + u) :: l) else []))
def gm_cp (ab : Nat) : Nat := 2 ^ (ab / 7) ||| 2 ^ (ab % 7)
def gm_fr (a s : Nat) : List Nat := (List.range 49).filter (fun b => decide (a ≤ b) && (decide (b / 7 < b % 7) && (gm_cp b &&& s == 0)))
def gm_e1 : List (List Nat) := (gm_fr 0 0).map (fun a => [a])
def gm_e2 : List (List Nat) := (gm_fr 0 0).flatMap (fun a => (gm_fr (a + 1) (gm_cp a)).map (fun b => [a, b]))
def gm_e3 : List (List Nat) := (gm_fr 0 0).flatMap (fun a => (gm_fr (a + 1) (gm_cp a)).flatMap (fun b => (gm_fr (b + 1) (gm_cp a ||| gm_cp b)).map (fun c => [a, b, c])))
theorem gm_p1 : (gm_e1).isPerm (gm_ml 7 127 1) = true := by decide +kernel
theorem gm_p2 : (gm_e2).isPerm (gm_ml 7 127 2) = true := by decide +kernel
theorem gm_p3 : (gm_e3).isPerm (gm_ml 7 127 3) = true := by decide +kernel
theorem gm_p0 : gm_ml 7 127 0 = [[]] := by decide +kernel
theorem gm_fmC {f g : Nat → List (List Nat)} {l : List Nat} (h : ∀ u, u ∈ l → f u = g u) : l.flatMap f = l.flatMap g := by
  induction l with
  | nil => rfl
  | cons a l ih =>
    rw [List.flatMap_cons, List.flatMap_cons, h a (by simp), ih (fun u hu => h u (by simp [hu]))]
theorem gm_fuel : ∀ f s j g, s < 128 → gb_pc s ≤ f → gb_pc s ≤ g → gm_ml f s j = gm_ml g s j := by
  intro f
  induction f with
  | zero =>
    intro s j g hs hf hg
    have e := gb_pc0 s hs (by omega)
    subst e
    cases g with
    | zero => rfl
    | succ g => rw [gm_ml, gm_ml, if_pos rfl]
  | succ f ih =>
    intro s j g hs hf hg
    by_cases e : s = 0
    · subst e
      cases g with
      | zero => rw [gm_ml, gm_ml, if_pos rfl]
      | succ g => rw [gm_ml, gm_ml, if_pos rfl, if_pos rfl]
    · obtain ⟨l1, l2, _⟩ := gb_loS s hs (by omega)
      have hp := gb_pcDel s hs _ l1 l2
      have hd : gb_dif s (2 ^ gb_lo s) < 128 := gb_difLt hs
      cases g with
      | zero => omega
      | succ g =>
        rw [gm_ml, gm_ml, if_neg e, if_neg e, ih _ j g hd (by omega) (by omega)]
        have : ∀ u, u ∈ List.range 7 → (if (gb_dif s (2 ^ gb_lo s)).testBit u = true then (gm_ml f (gb_dif (gb_dif s (2 ^ gb_lo s)) (2 ^ u)) (j - 1)).map (fun l => (7 * gb_lo s + u) :: l) else []) = (if (gb_dif s (2 ^ gb_lo s)).testBit u = true then (gm_ml g (gb_dif (gb_dif s (2 ^ gb_lo s)) (2 ^ u)) (j - 1)).map (fun l => (7 * gb_lo s + u) :: l) else []) := by
          intro u hu
          have hu7 := List.mem_range.mp hu
          by_cases z : (gb_dif s (2 ^ gb_lo s)).testBit u = true
          · have hp2 := gb_pcDel _ hd u hu7 z
            rw [if_pos z, if_pos z, ih _ (j - 1) g (gb_difLt hd) (by omega) (by omega)]
          · rw [if_neg z, if_neg z]
        rw [gm_fmC this]
def gm_P (W : Nat → Nat) (l : List Nat) : Bool := l.all (fun e => decide (0 < W e))
def gm_T (W : Nat → Nat) (s j : Nat) : Nat := (gm_ml 7 s j).countP (gm_P W)
theorem gm_T0 (W : Nat → Nat) (j : Nat) : gm_T W 0 j = if j = 0 then 1 else 0 := by
  unfold gm_T
  rw [gm_ml, if_pos rfl]
  by_cases h : j = 0
  · rw [if_pos h, if_pos h]; rfl
  · rw [if_neg h, if_neg h]; rfl
theorem gm_Ts (W : Nat → Nat) {s : Nat} (hs : s < 128) (h0 : 0 < s) (j : Nat) : gm_T W s j = gm_T W (gb_dif s (2 ^ gb_lo s)) j + (if j = 0 then 0 else gb_sum (fun u => if (gb_dif s (2 ^ gb_lo s)).testBit u = true ∧ 0 < W (7 * gb_lo s + u) then gm_T W (gb_dif (gb_dif s (2 ^ gb_lo s)) (2 ^ u)) (j - 1) else 0) 7) := by
  obtain ⟨l1, l2, _⟩ := gb_loS s hs h0
  have hp := gb_pcDel s hs _ l1 l2
  have hp7 := gb_pcLe s hs
  have hd : gb_dif s (2 ^ gb_lo s) < 128 := gb_difLt hs
  unfold gm_T
  rw [gm_ml, if_neg (by omega), List.countP_append, gm_fuel 6 _ j 7 hd (by omega) (by omega)]
  apply congrArg
  by_cases hj : j = 0
  · rw [if_pos hj, if_pos hj]; rfl
  · rw [if_neg hj, if_neg hj, gb_lsF, gb_lsR]
    apply gb_sumC
    intro u hu
    by_cases z : (gb_dif s (2 ^ gb_lo s)).testBit u = true
    · have hp2 := gb_pcDel _ hd u hu z
      rw [if_pos z, List.countP_map, gm_fuel 6 _ (j - 1) 7 (gb_difLt hd) (by omega) (by omega)]
      by_cases y : 0 < W (7 * gb_lo s + u)
      · rw [if_pos ⟨z, y⟩]
        apply List.countP_congr
        intro l _
        simp [gm_P, y]
      · rw [if_neg (fun c => y c.2)]
        apply List.countP_eq_zero.mpr
        intro l _
        simp [gm_P, y]
    · rw [if_neg z, if_neg (fun c => z c.1)]; rfl
/-- Y's free: how many edges from a on that miss s -/
def gm_v (W : Nat → Nat) (a s : Nat) : Nat := (gm_fr a s).countP (fun b => decide (0 < W b))
/-- one edge of Y's loops -/
def gm_ok (W : Nat → Nat) (a s b : Nat) : Bool := decide (0 < W b) && (decide (a ≤ b) && (decide (b / 7 < b % 7) && (gm_cp b &&& s == 0)))
theorem gm_vR (W : Nat → Nat) (a s : Nat) : gm_v W a s = (List.range 49).countP (gm_ok W a s) := by
  unfold gm_v gm_fr
  rw [List.countP_filter]
  rfl
theorem gm_frS (f : Nat → Nat) (a s : Nat) : gb_ls f (gm_fr a s) = gb_sum (fun b => if decide (a ≤ b) && (decide (b / 7 < b % 7) && (gm_cp b &&& s == 0)) then f b else 0) 49 := by
  have : ∀ (p : Nat → Bool) n, gb_ls f ((List.range n).filter p) = gb_sum (fun b => if p b = true then f b else 0) n := by
    intro p n
    induction n with
    | zero => rfl
    | succ n ih =>
      rw [List.range_succ, List.filter_append, gb_lsA, ih]
      show _ = gb_sum (fun b => if p b = true then f b else 0) n + (if p n = true then f n else 0)
      by_cases h : p n = true
      · simp [h, gb_ls]
      · simp [h, gb_ls]
  exact this _ 49
theorem gm_eq0 (W : Nat → Nat) : gm_T W 127 0 = 1 := by
  unfold gm_T
  rw [gm_p0]; rfl
theorem gm_eq1 (W : Nat → Nat) : gm_T W 127 1 = gm_v W 0 0 := by
  unfold gm_T
  rw [← (List.isPerm_iff.mp gm_p1).countP_eq]
  unfold gm_e1 gm_v
  rw [List.countP_map]
  apply List.countP_congr
  intro a _
  simp [gm_P]
theorem gm_eq2 (W : Nat → Nat) : gm_T W 127 2 = gb_ls (fun a => if 0 < W a then gm_v W (a + 1) (gm_cp a) else 0) (gm_fr 0 0) := by
  unfold gm_T
  rw [← (List.isPerm_iff.mp gm_p2).countP_eq]
  unfold gm_e2
  rw [gb_lsF]
  apply gb_lsC
  intro a _
  rw [List.countP_map]
  unfold gm_v
  by_cases y : 0 < W a
  · rw [if_pos y]
    apply List.countP_congr
    intro b _
    simp [gm_P, y]
  · rw [if_neg y]
    apply List.countP_eq_zero.mpr
    intro l _
    simp [gm_P, y]
theorem gm_eq3 (W : Nat → Nat) : gm_T W 127 3 = gb_ls (fun a => if 0 < W a then gb_ls (fun b => if 0 < W b then gm_v W (b + 1) (gm_cp a ||| gm_cp b) else 0) (gm_fr (a + 1) (gm_cp a)) else 0) (gm_fr 0 0) := by
  unfold gm_T
  rw [← (List.isPerm_iff.mp gm_p3).countP_eq]
  unfold gm_e3
  rw [gb_lsF]
  apply gb_lsC
  intro a _
  rw [gb_lsF]
  by_cases y : 0 < W a
  · rw [if_pos y]
    apply gb_lsC
    intro b _
    rw [List.countP_map]
    unfold gm_v
    by_cases z : 0 < W b
    · rw [if_pos z]
      apply List.countP_congr
      intro c _
      simp [gm_P, y, z]
    · rw [if_neg z]
      apply List.countP_eq_zero.mpr
      intro l _
      simp [gm_P, z]
  · rw [if_neg y]
    have : ∀ (l : List Nat), gb_ls (fun b => ((gm_fr (b + 1) (gm_cp a ||| gm_cp b)).map (fun c => [a, b, c])).countP (gm_P W)) l = 0 := by
      intro l
      induction l with
      | nil => rfl
      | cons b l ih =>
        unfold gb_ls
        rw [ih, Nat.add_zero]
        apply List.countP_eq_zero.mpr
        intro l hl
        rw [List.mem_map] at hl
        obtain ⟨c, _, rfl⟩ := hl
        simp [gm_P, y]
    exact this _
end
section
/-! ===== matchings: the walks ===== -/
section
variable {p0 : Int32} {xw xn xt xs xe xd xp xc : Nat → Int32} {r0 : Int32} {yw yo yl yp yq yc yf yv ye : Nat → Int32}
theorem gx_mCount {post : Int32 → Prop} {W B : Nat → Nat} (G : gb_G W B) (hn : ∀ i, i < 7 → xn i = nI (B i)) {s j : Nat} (hs : s < 128) (h0 : 0 < s) (hj : j < 4) (hc : ∀ k, k < 4 * s → xc k = nI (gm_T W (k / 4) (k % 4))) (hp : post (nI (gm_T W s j))) : wpX_matchingCount post (p0, xw, xn, xt, xs, xe, xd, xp, xc) (nI s) (nI j) := by
  obtain ⟨l1, l2, _⟩ := gb_loS s hs h0
  have hlt := gb_delLt l1 l2
  have hd : gb_dif s (2 ^ gb_lo s) < 128 := gb_difLt hs
  have rd : ∀ t i, t < s → i < 4 → xc (4 * t + i) = nI (gm_T W t i) := by
    intro t i ht hi
    rw [hc _ (by omega), show (4 * t + i) / 4 = t by omega, show (4 * t + i) % 4 = i by omega]
  unfold wpX_matchingCount
  dsimp only
  refine gx_lowestIn s hs h0 (nm_r (gb_delI (by omega)) ⟨pk_in (4 * gb_dif s (2 ^ gb_lo s) + j) 512 (by omega) (gb_ix4 _ _), nm_r (gb_rd (rd _ j hlt hj) (gb_ix4 _ _)) ?_⟩)
  rw [gm_Ts W hs h0 j] at hp
  by_cases hj0 : j = 0
  · subst hj0
    rw [if_pos rfl, Nat.add_zero] at hp
    exact ⟨1, gb_hd (i := 0) 7 (by omega) (br_t (by decide) hp)⟩
  · rw [if_neg hj0] at hp
    refine pk_loop (fun n i (a : Nat) => wX_matchingCount_31 post (nI j) (nI (gb_lo s)) (nI (gb_dif s (2 ^ gb_lo s))) p0 xw xn xt xs xe xd xp xc n (nI a) (nI i)) (fun i a => a = gm_T W (gb_dif s (2 ^ gb_lo s)) j + gb_sum (fun u => if (gb_dif s (2 ^ gb_lo s)).testBit u = true ∧ 0 < W (7 * gb_lo s + u) then gm_T W (gb_dif (gb_dif s (2 ^ gb_lo s)) (2 ^ u)) (j - 1) else 0) i) 7 0 _ (by omega) rfl ?_ ?_
    · rintro n a rfl
      exact gb_ex 7 hp
    · rintro n i a hi rfl K2
      have hb : (B (gb_lo s) &&& gb_dif s (2 ^ gb_lo s)).testBit i = (decide (0 < W (7 * gb_lo s + i)) && (gb_dif s (2 ^ gb_lo s)).testBit i) := by
        rw [Nat.testBit_and, G.2.2.2.2 _ i l1 hi]
      have hand : B (gb_lo s) &&& gb_dif s (2 ^ gb_lo s) < 128 := gb_andLt (G.2.2.2.1 _ l1)
      have step : ∀ c, c = (if (gb_dif s (2 ^ gb_lo s)).testBit i = true ∧ 0 < W (7 * gb_lo s + i) then gm_T W (gb_dif (gb_dif s (2 ^ gb_lo s)) (2 ^ i)) (j - 1) else 0) → gm_T W (gb_dif s (2 ^ gb_lo s)) j + gb_sum (fun u => if (gb_dif s (2 ^ gb_lo s)).testBit u = true ∧ 0 < W (7 * gb_lo s + u) then gm_T W (gb_dif (gb_dif s (2 ^ gb_lo s)) (2 ^ u)) (j - 1) else 0) i + c = gm_T W (gb_dif s (2 ^ gb_lo s)) j + gb_sum (fun u => if (gb_dif s (2 ^ gb_lo s)).testBit u = true ∧ 0 < W (7 * gb_lo s + u) then gm_T W (gb_dif (gb_dif s (2 ^ gb_lo s)) (2 ^ u)) (j - 1) else 0) (i + 1) := by
        intro c hc
        rw [hc, Nat.add_assoc]
        rfl
      refine gb_hd 7 hi (br_f (nI_nle (by omega) (by omega)) ⟨vp_in_nI l1 (by decide), gx_in (B (gb_lo s) &&& gb_dif s (2 ^ gb_lo s)) i (fun z => gb_s (K2 _ (step 0 ?_))) (fun z => ?_) (by rw [gb_rdn (hn _ l1), nx_and]) rfl⟩)
      · rw [if_neg]
        rintro ⟨c1, c2⟩
        rw [hb, c1, decide_eq_true c2] at z
        cases z
      · rw [hb, Bool.and_eq_true] at z
        have z1 := of_decide_eq_true z.1
        have hlt2 := gb_delLt hi z.2
        obtain ⟨j', rfl⟩ : ∃ q, j = q + 1 := ⟨j - 1, by omega⟩
        have eix : ((4 : Int32) * (nI (gb_dif s (2 ^ gb_lo s)) &&& (((1 : Int32) <<< (nI i &&& 31)) ^^^ (-1))) + nI (j' + 1)) - 1 = nI (4 * gb_dif (gb_dif s (2 ^ gb_lo s)) (2 ^ i) + j') := by
          rw [gb_delI (by omega), gb_ix4]
          exact nI_pred _
        refine ⟨pk_in _ 512 (by omega) eix, nm_r (e' := nI (gm_T W (gb_dif s (2 ^ gb_lo s)) (j' + 1) + gb_sum (fun u => if (gb_dif s (2 ^ gb_lo s)).testBit u = true ∧ 0 < W (7 * gb_lo s + u) then gm_T W (gb_dif (gb_dif s (2 ^ gb_lo s)) (2 ^ u)) (j' + 1 - 1) else 0) i + gm_T W (gb_dif (gb_dif s (2 ^ gb_lo s)) (2 ^ i)) j')) ?_ (gb_s (K2 _ (step _ ?_)))⟩
        · rw [gb_rd (rd _ j' (by omega) (by omega)) eix, nI_add]
        · rw [if_pos ⟨z.2, z1⟩]; rfl
theorem gx_matchings {post : Int32 → SX → Prop} {W B : Nat → Nat} (G : gb_G W B) (hn : ∀ i, i < 7 → xn i = nI (B i)) {j : Nat} (hj : j < 4) (K : ∀ c, post (nI (gm_T W 127 j)) (p0, xw, xn, xt, xs, xe, xd, xp, c)) : ∃ n, wX_matchings_13 post (nI j) p0 n 0 xw xn xt xs xe xd xp xc := by
  refine pk_loop (fun n i (c : Nat → Int32) => wX_matchings_13 post (nI j) p0 n (nI i) xw xn xt xs xe xd xp c) (fun i c => ∀ k, k < 4 * i → c k = nI (gm_T W (k / 4) (k % 4))) 128 0 xc (by omega) (fun k hk => by omega) ?_ ?_
  · intro n c h
    have e : (508 : Int32) + nI j = nI (508 + j) := nI_add 508 j
    refine gb_ex 128 ⟨pk_in _ 512 (by omega) e, ?_⟩
    rw [gb_rd (h (508 + j) (by omega)) e, show (508 + j) / 4 = 127 by omega, show (508 + j) % 4 = j by omega]
    exact K c
  · intro n i c hi h K2
    refine gb_hd 128 hi ?_
    refine pk_loop (fun n a (c : Nat → Int32) => wX_matchings_22 post _ (nI j) (nI i) p0 n (nI a) xw xn xt xs xe xd xp c) (fun a c => ∀ k, k < 4 * i + a → c k = nI (gm_T W (k / 4) (k % 4))) 4 0 c (by omega) h ?_ ?_
    · intro n c' h'
      exact gb_ex 4 (gb_s (K2 c' (fun k hk => h' k (by omega))))
    · intro n a c' ha h' K3
      have put : ∀ x, x = nI (gm_T W i a) → ∀ k, k < 4 * i + (a + 1) → upd c' (4 * i + a) x k = nI (gm_T W (k / 4) (k % 4)) := by
        intro x hx
        refine gb_fill (f := fun k => nI (gm_T W (k / 4) (k % 4))) h' ?_
        show x = nI (gm_T W ((4 * i + a) / 4) ((4 * i + a) % 4))
        rw [hx, show (4 * i + a) / 4 = i by omega, show (4 * i + a) % 4 = a by omega]
      have hin : vp_in ((4 : Int32) * nI i + nI a) 512 := pk_in (4 * i + a) 512 (by omega) (gb_ix4 i a)
      have hud : ∀ x, upd c' ((4 : Int32) * nI i + nI a).toNatClampNeg x = upd c' (4 * i + a) x := fun x => gb_ud (gb_ix4 i a)
      refine gb_hd 4 ha (pk_eq i 0 (fun z => pk_eq a 0 (fun y => ⟨hin, nm_r (hud _) (gb_s (K3 _ (put _ ?_)))⟩) (fun y => ⟨hin, nm_r (hud _) (gb_s (K3 _ (put _ ?_)))⟩)) (fun z => gx_mCount G hn hi (by omega) ha (fun k hk => h' k (by omega)) ⟨hin, nm_r (hud _) (gb_s (K3 _ (put _ rfl)))⟩))
      · rw [z, gm_T0, if_pos y]; rfl
      · rw [z, gm_T0, if_neg y]; rfl
/-! Y -/
theorem gy_couple {post : Int32 → Prop} {W : Nat → Nat} (hy : ∀ i, i < 49 → yw i = nI (W i)) (hW : ∀ i, i < 49 → W i ≤ 9) {b : Nat} (hb : b < 49) (f : ¬ (b / 7 < b % 7 ∧ 0 < W b) → post 0) (g : b / 7 < b % 7 → 0 < W b → post (nI (gm_cp b))) : wpY_couple post (r0, yw, yo, yl, yp, yq, yc, yf, yv, ye) (nI b) := by
  have h9 := hW b hb
  refine ⟨gb_n7, gb_n7, pk_le (b % 7) (b / 7) (fun z => f (fun c => by omega)) (fun z => ⟨vp_in_nI hb (by decide), pk_le (W b) 0 (fun y => f (fun c => by omega)) (fun y => ⟨gb_n7, gb_n7, ?_⟩) (gb_rdn (hy b hb)) rfl⟩) (gb_r7 (by omega)) (gb_d7 (by omega))⟩
  rw [gb_r7 (by omega), gb_d7 (by omega), gb_shl (by omega), gb_shl (by omega), gb_or]
  exact g z y
theorem gm_cpLt {b : Nat} (hb : b < 49) : gm_cp b < 128 ∧ gm_cp b ≠ 0 := (by decide : ∀ b, b < 49 → gm_cp b < 128 ∧ gm_cp b ≠ 0) b hb
theorem gy_free {post : Int32 → Prop} {W : Nat → Nat} (hy : ∀ i, i < 49 → yw i = nI (W i)) (hW : ∀ i, i < 49 → W i ≤ 9) {x : Int32} {a s : Nat} (ha : a ≤ 49) (hs : s < 128) (hx : x + 1 = nI a) (hp : post (nI (gm_v W a s))) : wpY_free post (r0, yw, yo, yl, yp, yq, yc, yf, yv, ye) x (nI s) := by
  refine nm_r hx ?_
  rw [gm_vR] at hp
  refine pk_loop (fun n i (c : Nat) => wY_free_7 post (nI s) r0 yw yo yl yp yq yc yf yv ye n (nI c) (nI i)) (fun i c => a ≤ i ∧ c = (List.range i).countP (gm_ok W a s)) 49 a 0 ha ⟨Nat.le_refl _, ?_⟩ ?_ ?_
  · symm
    apply List.countP_eq_zero.mpr
    intro b hb
    have := List.mem_range.mp hb
    unfold gm_ok
    rw [decide_eq_false (show ¬ a ≤ b by omega)]
    simp
  · rintro n c ⟨_, rfl⟩
    exact gb_ex 49 hp
  · rintro n i c hi ⟨hai, rfl⟩ K2
    have e0 : gm_ok W a s i = false → wY_free_7 post (nI s) r0 yw yo yl yp yq yc yf yv ye n (nI ((List.range i).countP (gm_ok W a s))) (nI (i + 1)) := by
      intro h
      refine K2 _ ⟨by omega, ?_⟩
      rw [gb_cntR, h]; rfl
    obtain ⟨c1, c2⟩ := gm_cpLt hi
    refine gb_hd 49 hi (gy_couple hy hW hi (fun z => br_t rfl (gb_s (e0 ?_))) (fun z1 z2 => br_f (nI_ne0 (by omega) (by omega)) (gy_couple hy hW hi (fun z => absurd ⟨z1, z2⟩ z) (fun _ _ => pk_eq (gm_cp i &&& s) 0 (fun y => nm_r (nI_1 _) (gb_s (K2 _ ⟨by omega, ?_⟩))) (fun y => gb_s (e0 ?_)) (nx_and _ _) rfl ?_))))
    · unfold gm_ok
      by_cases h1 : i / 7 < i % 7
      · have h2 : ¬ 0 < W i := fun c => z ⟨h1, c⟩
        rw [decide_eq_false h2]; rfl
      · rw [decide_eq_false h1]; simp
    · have : gm_ok W a s i = true := by
        unfold gm_ok
        simp [z1, z2, hai, y]
      rw [gb_cntR, this]; rfl
    · unfold gm_ok
      simp [y]
    · have := gb_andLt (t := s) c1; omega
/-- the summands of Y's loops -/
def gm_s2 (W : Nat → Nat) (b : Nat) : Nat := if b / 7 < b % 7 ∧ 0 < W b then gm_v W (b + 1) (gm_cp b) else 0
def gm_s3i (W : Nat → Nat) (a b : Nat) : Nat := if a + 1 ≤ b ∧ b / 7 < b % 7 ∧ gm_cp b &&& gm_cp a = 0 ∧ 0 < W b then gm_v W (b + 1) (gm_cp a ||| gm_cp b) else 0
def gm_s3 (W : Nat → Nat) (a : Nat) : Nat := if a / 7 < a % 7 ∧ 0 < W a then gb_sum (gm_s3i W a) 49 else 0
theorem gm_2 (W : Nat → Nat) : gm_T W 127 2 = gb_sum (gm_s2 W) 49 := by
  rw [gm_eq2, gm_frS]
  apply gb_sumC
  intro b _
  unfold gm_s2
  by_cases h1 : b / 7 < b % 7 <;> by_cases h2 : 0 < W b <;> simp [h1, h2]
theorem gm_3 (W : Nat → Nat) : gm_T W 127 3 = gb_sum (gm_s3 W) 49 := by
  rw [gm_eq3, gm_frS]
  apply gb_sumC
  intro a _
  have : gb_ls (fun b => if 0 < W b then gm_v W (b + 1) (gm_cp a ||| gm_cp b) else 0) (gm_fr (a + 1) (gm_cp a)) = gb_sum (gm_s3i W a) 49 := by
    rw [gm_frS]
    apply gb_sumC
    intro b _
    unfold gm_s3i
    by_cases h1 : b / 7 < b % 7 <;> by_cases h2 : 0 < W b <;> by_cases h3 : a + 1 ≤ b <;> by_cases h4 : gm_cp b &&& gm_cp a = 0 <;> simp [h1, h2, h3, h4]
  rw [this]
  unfold gm_s3
  by_cases h1 : a / 7 < a % 7 <;> by_cases h2 : 0 < W a <;> simp [h1, h2]
/-- the inner loop does nothing -/
theorem gy_m71n {post : Int32 → Prop} {J : Int32 → Int32 → Prop} {x1 x2 x4 : Int32} {a : Nat} (ha : a < 49) (h : x4 = 0 ∨ ¬ x1 = 3) (K : J x2 (nI (a + 1))) : ∃ n, wY_matchings_71 post J x1 (nI a) x4 r0 yw yo yl yp yq yc yf yv ye n x2 (nI (a + 1)) := by
  refine ⟨1, ?_⟩
  by_cases h49 : a + 1 = 49
  · refine br_t ?_ (gb_s K)
    rw [h49]
    decide
  · refine gb_hd 49 (by omega) ?_
    by_cases h0 : x4 = 0
    · exact br_t h0 (gb_s K)
    · exact br_f h0 (br_f (h.resolve_left h0) (gb_s K))
theorem gy_m71 {post : Int32 → Prop} {J : Int32 → Int32 → Prop} {W : Nat → Nat} (hy : ∀ i, i < 49 → yw i = nI (W i)) (hW : ∀ i, i < 49 → W i ≤ 9) {a c : Nat} (ha : a < 49) (K : J (nI (c + gb_sum (gm_s3i W a) 49)) (nI (a + 1))) : ∃ n, wY_matchings_71 post J 3 (nI a) (nI (gm_cp a)) r0 yw yo yl yp yq yc yf yv ye n (nI c) (nI (a + 1)) := by
  obtain ⟨p1, p2⟩ := gm_cpLt ha
  refine pk_loop (fun n i (d : Nat) => wY_matchings_71 post J 3 (nI a) (nI (gm_cp a)) r0 yw yo yl yp yq yc yf yv ye n (nI d) (nI i)) (fun i d => a + 1 ≤ i ∧ d = c + gb_sum (gm_s3i W a) i) 49 (a + 1) c (by omega) ⟨Nat.le_refl _, ?_⟩ ?_ ?_
  · rw [gb_sum0, Nat.add_zero]
    intro b hb
    unfold gm_s3i
    rw [if_neg]
    rintro ⟨z, _⟩
    omega
  · rintro n d ⟨_, rfl⟩
    exact gb_ex 49 (gb_s K)
  · rintro n i d hi ⟨hai, rfl⟩ K2
    obtain ⟨c1, c2⟩ := gm_cpLt hi
    have hand := gb_andLt (t := gm_cp a) c1
    have step : ∀ e, e = gm_s3i W a i → c + gb_sum (gm_s3i W a) i + e = c + gb_sum (gm_s3i W a) (i + 1) := by
      intro e he
      rw [he, Nat.add_assoc]; rfl
    have e0 : gm_s3i W a i = 0 → wY_matchings_71 post J 3 (nI a) (nI (gm_cp a)) r0 yw yo yl yp yq yc yf yv ye n (nI (c + gb_sum (gm_s3i W a) i)) (nI (i + 1)) := by
      intro h
      exact K2 _ ⟨by omega, step 0 h.symm⟩
    refine gb_hd 49 hi (br_f (nI_ne0 (by omega) (by omega)) (br_t rfl (gy_couple hy hW hi (fun z => br_t rfl (gb_s (e0 ?_))) (fun z1 z2 => br_f (nI_ne0 (by omega) (by omega)) (pk_eq (gm_cp i &&& gm_cp a) 0 (fun y => ?_) (fun y => gb_s (e0 ?_)) (nx_and _ _) rfl)))))
    · unfold gm_s3i
      rw [if_neg]
      rintro ⟨_, h1, _, h2⟩
      exact z ⟨h1, h2⟩
    · rw [gb_or]
      refine gy_free hy hW (a := i + 1) (by omega) (gb_orLt p1 c1) (nI_1 i) (nm_r (nI_add _ _) (gb_s (K2 _ ⟨by omega, step _ ?_⟩)))
      unfold gm_s3i
      rw [if_pos ⟨hai, z1, y, z2⟩]
    · unfold gm_s3i
      rw [if_neg]
      rintro ⟨_, _, h1, _⟩
      exact y h1
theorem gy_m2 {post : Int32 → Prop} {W : Nat → Nat} (hy : ∀ i, i < 49 → yw i = nI (W i)) (hW : ∀ i, i < 49 → W i ≤ 9) (hp : post (nI (gb_sum (gm_s2 W) 49))) : ∃ n, wY_matchings_33 post 2 r0 yw yo yl yp yq yc yf yv ye n 0 0 := by
  refine pk_loop (fun n i (d : Nat) => wY_matchings_33 post 2 r0 yw yo yl yp yq yc yf yv ye n (nI d) (nI i)) (fun i d => d = gb_sum (gm_s2 W) i) 49 0 0 (by omega) rfl ?_ ?_
  · rintro n d rfl
    exact gb_ex 49 hp
  · rintro n i d hi rfl K2
    obtain ⟨c1, c2⟩ := gm_cpLt hi
    refine gb_hd 49 hi (gy_couple hy hW hi (fun z => br_t rfl (gb_s (gy_m71n hi (Or.inl rfl) (K2 _ ?_)))) (fun z1 z2 => br_f (nI_ne0 (by omega) (by omega)) (br_t rfl (gy_free hy hW (a := i + 1) (by omega) c1 (nI_1 i) (nm_r (nI_add _ _) (gb_s (gy_m71n hi (Or.inr (by decide)) (K2 _ ?_))))))))
    · show _ = gb_sum (gm_s2 W) i + gm_s2 W i
      unfold gm_s2
      rw [if_neg z]; rfl
    · show _ = gb_sum (gm_s2 W) i + gm_s2 W i
      unfold gm_s2
      rw [if_pos ⟨z1, z2⟩]
theorem gy_m3 {post : Int32 → Prop} {W : Nat → Nat} (hy : ∀ i, i < 49 → yw i = nI (W i)) (hW : ∀ i, i < 49 → W i ≤ 9) (hp : post (nI (gb_sum (gm_s3 W) 49))) : ∃ n, wY_matchings_33 post 3 r0 yw yo yl yp yq yc yf yv ye n 0 0 := by
  refine pk_loop (fun n i (d : Nat) => wY_matchings_33 post 3 r0 yw yo yl yp yq yc yf yv ye n (nI d) (nI i)) (fun i d => d = gb_sum (gm_s3 W) i) 49 0 0 (by omega) rfl ?_ ?_
  · rintro n d rfl
    exact gb_ex 49 hp
  · rintro n i d hi rfl K2
    obtain ⟨c1, c2⟩ := gm_cpLt hi
    refine gb_hd 49 hi (gy_couple hy hW hi (fun z => br_t rfl (gb_s (gy_m71n hi (Or.inl rfl) (K2 _ ?_)))) (fun z1 z2 => br_f (nI_ne0 (by omega) (by omega)) (br_f (by decide) (gb_s (gy_m71 hy hW hi (K2 _ ?_))))))
    · show _ = gb_sum (gm_s3 W) i + gm_s3 W i
      unfold gm_s3
      rw [if_neg z]; rfl
    · show _ = gb_sum (gm_s3 W) i + gm_s3 W i
      unfold gm_s3
      rw [if_pos ⟨z1, z2⟩]
theorem i_vc_matchings {k : Nat} {u : SX} {v : SY} (I : i_Rel k u v) (hk : k + 4 ≤ 2048) (v1 : Int32) : wpX_matchings (fun r u' => wpY_matchings (fun r' => r' = r ∧ i_Rel (k + 4) u' v) v v1) u v1 := by
  obtain ⟨p0, xw, xn, xt, xs, xe, xd, xp, xc⟩ := u
  obtain ⟨r0, yw, yo, yl, yp, yq, yc, yf, yv, ye⟩ := v
  by_cases h0 : v1 < 0
  · exact br_t h0 (br_t h0 ⟨rfl, I⟩)
  · by_cases h3 : v1 ≤ 3
    · obtain ⟨W, B, G, hx, hy, hn, hp, ho⟩ := I
      obtain ⟨j, hj, rfl⟩ := nI_of2 (n := 3) (by decide) h0 h3
      refine br_f h0 (br_t h3 (gx_matchings G hn (by omega) ?_))
      intro c
      refine br_f h0 (br_t h3 ?_)
      have hR : ∀ c, i_Rel (k + 4) (p0, xw, xn, xt, xs, xe, xd, xp, c) (r0, yw, yo, yl, yp, yq, yc, yf, yv, ye) := fun c => ⟨W, B, G, hx, hy, hn, hp, ho⟩
      have hc : j = 0 ∨ j = 1 ∨ j = 2 ∨ j = 3 := by omega
      rcases hc with rfl | rfl | rfl | rfl
      · refine br_t rfl ⟨?_, hR c⟩
        rw [gm_eq0]; rfl
      · refine br_f (by decide) (br_t rfl ?_)
        dsimp only
        refine gy_free (a := 0) (s := 0) hy G.2.2.1 (by omega) (by omega) (by decide) ⟨?_, hR c⟩
        rw [gm_eq1]
      · refine br_f (by decide) (br_f (by decide) (gy_m2 hy G.2.2.1 ⟨?_, hR c⟩))
        rw [gm_2]
      · refine br_f (by decide) (br_f (by decide) (gy_m3 hy G.2.2.1 ⟨?_, hR c⟩))
        rw [gm_3]
    · exact br_f h0 (br_f h3 (br_f h0 (br_f h3 ⟨rfl, I⟩)))
end
end
section
/-! ===== cut ===== -/
def gu_g (k : Nat) : Nat := k ^^^ (k / 2)
theorem gu_step : ∀ k, k < 127 → gu_g k ^^^ 2 ^ gb_lo (k + 1) = gu_g (k + 1) := by decide +kernel
theorem gu_lt : ∀ k, k < 128 → gu_g k < 128 := by decide +kernel
theorem gu_sur : ∀ s, s < 128 → ∃ k, k < 128 ∧ gu_g k = s := by decide +kernel
theorem gu_sumX (f : Nat → Nat) {v : Nat} : ∀ {n : Nat}, v < n → gb_sum f n = f v + gb_sum (fun a => if a = v then 0 else f a) n := by
  intro n
  induction n with
  | zero => intro h; omega
  | succ n ih =>
    intro h
    unfold gb_sum
    by_cases e : v = n
    · subst e
      rw [if_pos rfl, Nat.add_zero, Nat.add_comm]
      apply congrArg
      apply gb_sumC
      intro i hi
      rw [if_neg (by omega)]
    · rw [ih (by omega), if_neg (fun z => e z.symm), Nat.add_assoc]
theorem gu_xT (s v i : Nat) : (s ^^^ 2 ^ v).testBit i = (s.testBit i ^^ decide (v = i)) := by
  rw [Nat.testBit_xor, Nat.testBit_two_pow]
def gu_D (W : Nat → Nat) (v s : Nat) : Nat := gb_sum (fun a => if a = v then 0 else gb_sum (fun b => if b = v then 0 else gs_e W true s a b) 7) 7
def gu_E (W : Nat → Nat) (v s : Nat) : Nat := gb_sum (fun u => if u = v then 0 else (if s.testBit u = s.testBit v then 0 else W (7 * v + u))) 7
theorem gu_split {W B : Nat → Nat} (G : gb_G W B) {v : Nat} (hv : v < 7) (s : Nat) : gs_out W true s = gu_D W v s + gu_E W v s := by
  unfold gs_out
  rw [gu_sumX _ hv]
  have e1 : gb_sum (fun a => if a = v then 0 else gb_sum (fun b => gs_e W true s a b) 7) 7 = gb_sum (fun a => (if a = v then 0 else gb_sum (fun b => if b = v then 0 else gs_e W true s a b) 7) + (if a = v then 0 else gs_e W true s a v)) 7 := by
    apply gb_sumC
    intro a _
    by_cases h : a = v
    · rw [if_pos h, if_pos h, if_pos h]
    · rw [if_neg h, if_neg h, if_neg h, gu_sumX _ hv, Nat.add_comm]
  rw [e1, gb_sumA, gu_sumX (fun b => gs_e W true s v b) hv]
  have e2 : gs_e W true s v v = 0 := by
    unfold gs_e
    rw [if_neg]
    rintro ⟨h1, h2, _⟩
    rw [h1] at h2; cases h2
  have e3 : gu_E W v s = gb_sum (fun u => (if u = v then 0 else gs_e W true s v u) + (if u = v then 0 else gs_e W true s u v)) 7 := by
    apply gb_sumC
    intro u hu
    by_cases h : u = v
    · rw [if_pos h, if_pos h, if_pos h]
    · rw [if_neg h, if_neg h, if_neg h]
      unfold gs_e
      rw [G.1 u v hu hv]
      cases a : s.testBit u <;> cases b : s.testBit v <;> simp
      all_goals (intro z; omega)
  rw [e2, Nat.zero_add, e3, gb_sumA]
  unfold gu_D
  omega
theorem gu_Dx {W : Nat → Nat} {v : Nat} (s : Nat) : gu_D W v (s ^^^ 2 ^ v) = gu_D W v s := by
  apply gb_sumC
  intro a _
  by_cases h : a = v
  · rw [if_pos h, if_pos h]
  · rw [if_neg h, if_neg h]
    apply gb_sumC
    intro b _
    by_cases h2 : b = v
    · rw [if_pos h2, if_pos h2]
    · rw [if_neg h2, if_neg h2]
      unfold gs_e
      have h' : ¬ v = a := fun z => h z.symm
      have h2' : ¬ v = b := fun z => h2 z.symm
      rw [gu_xT, gu_xT, decide_eq_false h', decide_eq_false h2', Bool.xor_false, Bool.xor_false]
/-- what the change of v adds, by u -/
def gu_d (W : Nat → Nat) (v s u : Nat) : Int := if u = v then 0 else if s.testBit u = s.testBit v then -(W (7 * v + u) : Int) else (W (7 * v + u) : Int)
theorem gu_flip {W B : Nat → Nat} (G : gb_G W B) {v : Nat} (hv : v < 7) (s : Nat) : (gs_out W true s : Int) + gb_isum (gu_d W v (s ^^^ 2 ^ v)) 7 = (gs_out W true (s ^^^ 2 ^ v) : Int) := by
  rw [gu_split G hv s, gu_split G hv (s ^^^ 2 ^ v), gu_Dx]
  have e : (gu_E W v (s ^^^ 2 ^ v) : Int) = (gu_E W v s : Int) + gb_isum (gu_d W v (s ^^^ 2 ^ v)) 7 := by
    unfold gu_E
    rw [gb_isumN, gb_isumN, ← gb_isumA]
    apply gb_isumC
    intro u _
    unfold gu_d
    by_cases h : u = v
    · rw [if_pos h, if_pos h, if_pos h]; rfl
    · rw [if_neg h, if_neg h, if_neg h]
      have h' : ¬ v = u := fun z => h z.symm
      rw [gu_xT, gu_xT, decide_eq_false h', decide_eq_true rfl, Bool.xor_false, Bool.xor_true]
      cases a : s.testBit u <;> cases b : s.testBit v <;> simp <;> omega
  omega
section
variable {p0 : Int32} {xw xn xt xs xe xd xp xc : Nat → Int32} {r0 : Int32} {yw yo yl yp yq yc yf yv ye : Nat → Int32}
theorem gx_cut35 {post : Int32 → Prop} {J : Int32 → Int32 → Int32 → Int32 → Prop} {W B : Nat → Nat} (G : gb_G W B) (hx : ∀ i, i < 49 → xw i = nI (W i)) {s b k v : Nat} (hs : s < 128) (hv : v < 7) (hb : b ≤ 441)
    (K : ∀ b', b' = max b (gs_out W true (s ^^^ 2 ^ v)) → J (nI (s ^^^ 2 ^ v)) (nI (gs_out W true (s ^^^ 2 ^ v))) (nI b') (nI (k + 1))) : ∃ n, wX_cut_35 post J (nI (s ^^^ 2 ^ v)) (nI b) (nI k) (nI v) p0 xw xn xt xs xe xd xp xc n (nI (gs_out W true s)) 0 := by
  have hs' : s ^^^ 2 ^ v < 128 := Nat.xor_lt_two_pow (n := 7) hs (gb_pow hv)
  rw [gb_iN (gs_out W true s)]
  refine pk_loop (fun n i (a : Int) => wX_cut_35 post J (nI (s ^^^ 2 ^ v)) (nI b) (nI k) (nI v) p0 xw xn xt xs xe xd xp xc n (gb_i a) (nI i)) (fun i a => a = (gs_out W true s : Int) + gb_isum (gu_d W v (s ^^^ 2 ^ v)) i) 7 0 _ (by omega) (Int.add_zero _).symm ?_ ?_
  · rintro n a rfl
    have h1 := gs_outLe G.2.2.1 true (s ^^^ 2 ^ v)
    rw [gu_flip G hv s, ← gb_iN]
    refine gb_ex 7 (pk_le (gs_out W true (s ^^^ 2 ^ v)) b (fun z => gb_s (K _ ?_)) (fun z => gb_s (K _ ?_)))
    · omega
    · omega
  · rintro n i a hi rfl K2
    have hix : ((7 : Int32) * nI v) + nI i = nI (7 * v + i) := gb_ix v i
    have step : ∀ d, d = gu_d W v (s ^^^ 2 ^ v) i → (gs_out W true s : Int) + gb_isum (gu_d W v (s ^^^ 2 ^ v)) i + d = (gs_out W true s : Int) + gb_isum (gu_d W v (s ^^^ 2 ^ v)) (i + 1) := by
      intro d hd
      rw [hd, Int.add_assoc]; rfl
    have same : i ≠ v → (s ^^^ 2 ^ v).testBit i = (s ^^^ 2 ^ v).testBit v → vp_in (((7 : Int32) * nI v) + nI i) 49 ∧ ∀ x2, x2 = gb_i ((gs_out W true s : Int) + gb_isum (gu_d W v (s ^^^ 2 ^ v)) i) + (-(xw (((7 : Int32) * nI v) + nI i).toNatClampNeg)) → ∀ x6, x6 = nI i + 1 → wX_cut_35 post J (nI (s ^^^ 2 ^ v)) (nI b) (nI k) (nI v) p0 xw xn xt xs xe xd xp xc n x2 x6 := by
      intro hne he
      refine ⟨pk_in _ 49 (by omega) hix, nm_r (e' := gb_i ((gs_out W true s : Int) + gb_isum (gu_d W v (s ^^^ 2 ^ v)) (i + 1))) ?_ (gb_s (K2 _ rfl))⟩
      rw [gb_rd (hx _ (by omega)) hix, gb_iN, gb_iG, gb_iA, step]
      unfold gu_d
      rw [if_neg hne, if_pos he]
    have other : i ≠ v → (s ^^^ 2 ^ v).testBit i ≠ (s ^^^ 2 ^ v).testBit v → vp_in (((7 : Int32) * nI v) + nI i) 49 ∧ ∀ x2, x2 = gb_i ((gs_out W true s : Int) + gb_isum (gu_d W v (s ^^^ 2 ^ v)) i) + xw (((7 : Int32) * nI v) + nI i).toNatClampNeg → ∀ x6, x6 = nI i + 1 → wX_cut_35 post J (nI (s ^^^ 2 ^ v)) (nI b) (nI k) (nI v) p0 xw xn xt xs xe xd xp xc n x2 x6 := by
      intro hne he
      refine ⟨pk_in _ 49 (by omega) hix, nm_r (e' := gb_i ((gs_out W true s : Int) + gb_isum (gu_d W v (s ^^^ 2 ^ v)) (i + 1))) ?_ (gb_s (K2 _ rfl))⟩
      rw [gb_rd (hx _ (by omega)) hix, gb_iN, gb_iA, step]
      unfold gu_d
      rw [if_neg hne, if_neg he]
    refine gb_hd 7 hi (pk_eq i v (fun z => gb_s (K2 _ ?_)) (fun z => gx_inP (s ^^^ 2 ^ v) i (fun y => gx_inP (s ^^^ 2 ^ v) v (fun w => br_t rfl (same z (y.trans w.symm))) (fun w => br_f (by decide) (other z (by rw [y, w]; decide)))) (fun y => gx_inP (s ^^^ 2 ^ v) v (fun w => br_f (by decide) (other z (by rw [y, w]; decide))) (fun w => br_t rfl (same z (y.trans w.symm))))))
    have e0 : gu_d W v (s ^^^ 2 ^ v) i = 0 := by
      unfold gu_d
      rw [if_pos z]
    have := step 0 e0.symm
    omega
theorem gx_cut {post : Int32 → Prop} {W B : Nat → Nat} (G : gb_G W B) (hx : ∀ i, i < 49 → xw i = nI (W i)) (K : ∀ b, (∀ s, s < 128 → gs_out W true s ≤ b) → (∃ s, s < 128 ∧ b = gs_out W true s) → post (nI b)) : wpX_cut post (p0, xw, xn, xt, xs, xe, xd, xp, xc) := by
  have o0 : gs_out W true 0 = 0 := by
    apply gb_sum0
    intro a _
    apply gb_sum0
    intro b _
    unfold gs_e
    rw [if_neg]
    rintro ⟨h, _⟩
    rw [Nat.zero_testBit] at h; cases h
  have H : ∃ n, wX_cut_9 post p0 xw xn xt xs xe xd xp xc n (nI (gu_g (1 - 1))) (nI (gs_out W true (gu_g (1 - 1)))) (nI 0) (nI 1) := by
    refine pk_loop (fun n i (b : Nat) => wX_cut_9 post p0 xw xn xt xs xe xd xp xc n (nI (gu_g (i - 1))) (nI (gs_out W true (gu_g (i - 1)))) (nI b) (nI i)) (fun i b => 1 ≤ i ∧ b ≤ 441 ∧ (∀ k, k < i → gs_out W true (gu_g k) ≤ b) ∧ ∃ k, k < i ∧ b = gs_out W true (gu_g k)) 128 1 0 (by omega) ⟨Nat.le_refl _, by omega, ?_, ⟨0, by omega, o0.symm⟩⟩ ?_ ?_
    · intro k hk
      have e : k = 0 := by omega
      rw [e]
      exact Nat.le_of_eq o0
    · rintro n b ⟨_, h1, h2, k, hk, h3⟩
      refine gb_ex 128 (K b ?_ ⟨gu_g k, gu_lt k hk, h3⟩)
      intro s hs
      obtain ⟨k, hk, rfl⟩ := gu_sur s hs
      exact h2 k hk
    · rintro n i b hi ⟨hi1, h1, h2, h3⟩ K2
      obtain ⟨l1, l2, _⟩ := gb_loS i hi (by omega)
      have est : gu_g (i - 1) ^^^ 2 ^ gb_lo i = gu_g i := by
        have := gu_step (i - 1) (by omega)
        rw [show i - 1 + 1 = i by omega] at this
        exact this
      have exI : nI (gu_g (i - 1)) ^^^ ((1 : Int32) <<< (nI (gb_lo i) &&& 31)) = nI (gu_g (i - 1) ^^^ 2 ^ gb_lo i) := by
        rw [gb_shl (by omega), nx_xor]
      refine gb_hd 128 hi (gx_lowestIn i hi (by omega) (nm_r exI (gx_cut35 G hx (gu_lt _ (by omega)) l1 h1 ?_)))
      intro b' hb'
      rw [est] at hb' ⊢
      have h4 := gs_outLe G.2.2.1 true (gu_g i)
      refine K2 b' ⟨by omega, by omega, ?_, ?_⟩
      · intro k hk
        by_cases e : k = i
        · subst e; omega
        · have := h2 k (by omega); omega
      · rcases Nat.le_total b (gs_out W true (gu_g i)) with z | z
        · exact ⟨i, by omega, by omega⟩
        · obtain ⟨k, hk, e⟩ := h3
          exact ⟨k, by omega, by omega⟩
  rw [show gu_g (1 - 1) = 0 from by decide, o0] at H
  exact H
theorem gy_cut {post : Int32 → Prop} {W B : Nat → Nat} (G : gb_G W B) (hy : ∀ i, i < 49 → yw i = nI (W i)) (K : ∀ b, (∀ s, s < 128 → gs_out W true s ≤ b) → (b = 0 ∨ ∃ s, s < 128 ∧ b = gs_out W true s) → post (nI b)) : wpY_cut post (r0, yw, yo, yl, yp, yq, yc, yf, yv, ye) := by
  refine pk_loop (fun n i (b : Nat) => wY_cut_4 post r0 yw yo yl yp yq yc yf yv ye n (nI b) (nI i)) (fun i b => b ≤ 441 ∧ (∀ s, s < i → gs_out W true s ≤ b) ∧ (b = 0 ∨ ∃ s, s < i ∧ b = gs_out W true s)) 128 0 0 (by omega) ⟨by omega, fun s hs => by omega, Or.inl rfl⟩ ?_ ?_
  · rintro n b ⟨_, h1, h2⟩
    exact gb_ex 128 (K b h1 h2)
  · rintro n i b hi ⟨h0, h1, h2⟩ K2
    have h4 := gs_outLe G.2.2.1 true i
    refine gb_hd 128 hi (gy_out G hy true hi (pk_le (gs_out W true i) b (fun z => gb_s (K2 _ ⟨h0, ?_, ?_⟩)) (fun z => gb_s (K2 _ ⟨h4, ?_, Or.inr ⟨i, by omega, rfl⟩⟩))))
    · intro s hs
      by_cases e : s = i
      · subst e; exact z
      · exact h1 s (by omega)
    · rcases h2 with y | ⟨s, hs, e⟩
      · exact Or.inl y
      · exact Or.inr ⟨s, by omega, e⟩
    · intro s hs
      by_cases e : s = i
      · subst e; exact Nat.le_refl _
      · have := h1 s (by omega); omega
theorem i_vc_cut {k : Nat} {u : SX} {v : SY} (I : i_Rel k u v) (hk : k + 4 ≤ 2048) : wpX_cut (fun r => wpY_cut (fun r' => r' = r ∧ i_Rel (k + 4) u v) v) u := by
  obtain ⟨p0, xw, xn, xt, xs, xe, xd, xp, xc⟩ := u
  obtain ⟨r0, yw, yo, yl, yp, yq, yc, yf, yv, ye⟩ := v
  have I' := I
  obtain ⟨W, B, G, hx, hy, hn, hp, ho⟩ := I'
  refine gx_cut G hx ?_
  intro b h1 h2
  refine gy_cut G hy ?_
  intro c g1 g2
  have e : c = b := by
    obtain ⟨s, hs, e⟩ := h2
    have := g1 s hs
    rcases g2 with z | ⟨s', hs', e'⟩
    · omega
    · have := h1 s' hs'; omega
  exact ⟨congrArg nI e, I⟩
end
end
section
/-! ===== paths: X's findPaths ===== -/
/-- the weight of the first k edges of q -/
def gt_s (W : Nat → Nat) (q : Nat → Nat) : Nat → Nat
  | 0 => 0
  | k + 1 => gt_s W q k + W (7 * q k + q (k + 1))
/-- q is a path from a with e edges -/
def gt_P (W : Nat → Nat) (a : Nat) (q : Nat → Nat) (e : Nat) : Prop := q 0 = a ∧ (∀ k, k ≤ e → q k < 7) ∧ (∀ k, k < e → 0 < W (7 * q k + q (k + 1))) ∧ ∀ k, k ≤ e → (go_ms q k).testBit (q k) = false
/-- a weight with its sign -/
def gt_g (b : Bool) (w : Nat) : Int := if b = true then (w : Int) else -(w : Int)
def gt_x (b : Bool) : Int32 := if b = true then 1 else -1
theorem gt_gA (b : Bool) (v w : Nat) : gt_g b (v + w) = gt_g b v + gt_g b w := by
  unfold gt_g
  cases b
  · rw [if_neg (by decide), if_neg (by decide), if_neg (by decide)]; omega
  · rw [if_pos rfl, if_pos rfl, if_pos rfl]; omega
theorem gt_gB (b : Bool) (w : Nat) : -(w : Int) ≤ gt_g b w ∧ gt_g b w ≤ (w : Int) := by
  unfold gt_g
  cases b
  · rw [if_neg (by decide)]; omega
  · rw [if_pos rfl]; omega
theorem gt_xI (b : Bool) (w : Nat) : gt_x b * nI w = gb_i (gt_g b w) := by
  unfold gt_x gt_g
  cases b
  · rw [if_neg (by decide), if_neg (by decide), show (-1 : Int32) = gb_i (-1) from by decide, gb_iN, gb_iM]
    exact congrArg gb_i (by omega)
  · rw [if_pos rfl, if_pos rfl, show (1 : Int32) = gb_i 1 from by decide, gb_iN, gb_iM]
    exact congrArg gb_i (by omega)
theorem gt_sC {W : Nat → Nat} {q r : Nat → Nat} {k : Nat} (h : ∀ i, i ≤ k → q i = r i) : gt_s W q k = gt_s W r k := by
  induction k with
  | zero => rfl
  | succ k ih => unfold gt_s; rw [ih (fun i hi => h i (by omega)), h k (by omega), h (k + 1) (by omega)]
theorem gt_sB {W : Nat → Nat} (hW : ∀ i, i < 49 → W i ≤ 9) {q : Nat → Nat} {k : Nat} (h : ∀ i, i ≤ k → q i < 7) : gt_s W q k ≤ 9 * k := by
  induction k with
  | zero => exact Nat.le_refl _
  | succ k ih =>
    have a := ih (fun i hi => h i (by omega))
    have b := h k (by omega)
    have c := h (k + 1) (by omega)
    have d := hW (7 * q k + q (k + 1)) (by omega)
    unfold gt_s
    omega
theorem gt_pc {W : Nat → Nat} {a : Nat} {q : Nat → Nat} {e : Nat} (h : gt_P W a q e) : ∀ k, k ≤ e + 1 → gb_pc (go_ms q k) = k := by
  intro k
  induction k with
  | zero => intro _; exact (by decide : gb_pc 0 = 0)
  | succ k ih =>
    intro hk
    have h1 : go_ms q k < 128 := go_msLt (fun i hi => h.2.1 i (by omega))
    show gb_pc (go_ms q k ||| 2 ^ q k) = k + 1
    rw [gb_pcIns _ h1 _ (h.2.1 k (by omega)) (h.2.2.2 k (by omega)), ih (by omega)]
theorem gt_e6 {W : Nat → Nat} {a : Nat} {q : Nat → Nat} {e : Nat} (h : gt_P W a q e) : e ≤ 6 := by
  have h1 := gt_pc h (e + 1) (Nat.le_refl _)
  have h2 := gb_pcLe (go_ms q (e + 1)) (go_msLt (fun i hi => h.2.1 i (by omega)))
  omega
theorem gt_s54 {W : Nat → Nat} (hW : ∀ i, i < 49 → W i ≤ 9) {a : Nat} {q : Nat → Nat} {e : Nat} (h : gt_P W a q e) : gt_s W q e ≤ 54 := by
  have h1 := gt_sB hW h.2.1
  have h2 := gt_e6 h
  omega
/-- one vertex more -/
def gt_app (q : Nat → Nat) (e u : Nat) : Nat → Nat := fun k => if k = e + 1 then u else q k
theorem gt_appL {q : Nat → Nat} {e u k : Nat} (h : k ≤ e) : gt_app q e u k = q k := if_neg (by omega)
theorem gt_appH {q : Nat → Nat} {e u : Nat} : gt_app q e u (e + 1) = u := if_pos rfl
theorem gt_ext {W : Nat → Nat} {a : Nat} {q : Nat → Nat} {e u : Nat} (h : gt_P W a q e) (hu : u < 7) (hw : 0 < W (7 * q e + u)) (hn : (go_ms q (e + 1)).testBit u = false) : gt_P W a (gt_app q e u) (e + 1) ∧ go_ms (gt_app q e u) (e + 2) = go_ms q (e + 1) ||| 2 ^ u ∧ gt_s W (gt_app q e u) (e + 1) = gt_s W q e + W (7 * q e + u) := by
  have hm : ∀ k, k ≤ e + 1 → go_ms (gt_app q e u) k = go_ms q k := fun k hk => go_msC (fun i hi => gt_appL (by omega))
  refine ⟨⟨?_, ?_, ?_, ?_⟩, ?_, ?_⟩
  · rw [gt_appL (Nat.zero_le _)]; exact h.1
  · intro k hk
    by_cases z : k = e + 1
    · rw [z, gt_appH]; exact hu
    · rw [gt_appL (by omega)]; exact h.2.1 k (by omega)
  · intro k hk
    by_cases z : k = e
    · rw [z, gt_appH, gt_appL (Nat.le_refl _)]; exact hw
    · rw [gt_appL (by omega), gt_appL (by omega)]; exact h.2.2.1 k (by omega)
  · intro k hk
    rw [hm k hk]
    by_cases z : k = e + 1
    · rw [z, gt_appH]; exact hn
    · rw [gt_appL (by omega)]; exact h.2.2.2 k (by omega)
  · show go_ms (gt_app q e u) (e + 1) ||| 2 ^ gt_app q e u (e + 1) = _
    rw [hm (e + 1) (Nat.le_refl _), gt_appH]
  · show gt_s W (gt_app q e u) e + W (7 * gt_app q e u e + gt_app q e u (e + 1)) = _
    rw [gt_sC (fun i hi => gt_appL hi), gt_appL (Nat.le_refl _), gt_appH]
/-- what stands in the table is a path's weight -/
def gt_I (W : Nat → Nat) (a : Nat) (b : Bool) (E : Nat → Int) : Prop := ∀ S x, S < 128 → x < 7 → E (7 * S + x) ≤ 100000 ∧ (E (7 * S + x) < 100000 → ∃ q e, gt_P W a q e ∧ go_ms q (e + 1) = S ∧ q e = x ∧ E (7 * S + x) = gt_g b (gt_s W q e))
theorem gt_Ib {W : Nat → Nat} (hW : ∀ i, i < 49 → W i ≤ 9) {a : Nat} {b : Bool} {E : Nat → Int} (h : gt_I W a b E) {i : Nat} (hi : i < 896) : -54 ≤ E i ∧ E i ≤ 100000 := by
  have h1 := h (i / 7) (i % 7) (by omega) (by omega)
  rw [show 7 * (i / 7) + i % 7 = i by omega] at h1
  refine ⟨?_, h1.1⟩
  by_cases z : E i < 100000
  · obtain ⟨q, e, hp, _, _, he⟩ := h1.2 z
    have h2 := gt_s54 hW hp
    have h3 := gt_gB b (gt_s W q e)
    omega
  · omega
/-- the steps from the set S and its vertex y are in the table -/
def gt_C (W B : Nat → Nat) (b : Bool) (E : Nat → Int) (S y : Nat) : Prop := E (7 * S + y) < 100000 → ∀ x, x < 7 → (B y).testBit x = true → S.testBit x = false → E (7 * (S ||| 2 ^ x) + x) ≤ E (7 * S + y) + gt_g b (W (7 * y + x))
theorem gt_Ck {W B : Nat → Nat} {b : Bool} {E E' : Nat → Int} {S S' y : Nat} (hS : S < 128) (hy : y < 7) (hle : S ≤ S') (h : gt_C W B b E S y) (h1 : ∀ i, i < 896 → E' i ≤ E i) (h2 : ∀ i, i < 7 * S' + 7 → E' i = E i) : gt_C W B b E' S y := by
  intro h3 x hx hb hs
  have e := h2 (7 * S + y) (by omega)
  rw [e] at h3 ⊢
  have h4 := h h3 x hx hb hs
  have h5 := gb_insLt hS hx
  have h6 := h1 (7 * (S ||| 2 ^ x) + x) (by omega)
  omega
theorem gt_opt {W B : Nat → Nat} (G : gb_G W B) {a : Nat} {b : Bool} {E : Nat → Int} (h0 : E (7 * 2 ^ a + a) ≤ 0) (hC : ∀ S y, 0 < S → S < 128 → y < 7 → gt_C W B b E S y) : ∀ e q, gt_P W a q e → E (7 * go_ms q (e + 1) + q e) ≤ gt_g b (gt_s W q e) := by
  intro e
  induction e with
  | zero =>
    intro q h
    have e1 : go_ms q 1 = 2 ^ a := by
      show 0 ||| 2 ^ q 0 = 2 ^ a
      rw [h.1, Nat.zero_or]
    rw [e1, h.1]
    have : gt_g b (gt_s W q 0) = 0 := by cases b <;> rfl
    omega
  | succ e ih =>
    intro q h
    have hp : gt_P W a q e := ⟨h.1, fun k hk => h.2.1 k (by omega), fun k hk => h.2.2.1 k (by omega), fun k hk => h.2.2.2 k (by omega)⟩
    have h1 := ih q hp
    have h2 := gt_gB b (gt_s W q e)
    have h3 := gt_s54 G.2.2.1 hp
    have hS : go_ms q (e + 1) < 128 := go_msLt (fun i hi => h.2.1 i (by omega))
    have hq := h.2.1 e (by omega)
    have hq1 := h.2.1 (e + 1) (Nat.le_refl _)
    have hpos : 0 < go_ms q (e + 1) := by
      have := gt_pc hp (e + 1) (Nat.le_refl _)
      rcases Nat.eq_zero_or_pos (go_ms q (e + 1)) with z | z
      · rw [z] at this
        exact absurd this (by intro h; cases h)
      · exact z
    have h4 := hC (go_ms q (e + 1)) (q e) hpos hS hq (by omega) (q (e + 1)) hq1 (by rw [G.2.2.2.2 _ _ hq hq1]; exact decide_eq_true (h.2.2.1 e (by omega))) (h.2.2.2 (e + 1) (Nat.le_refl _))
    show E (7 * (go_ms q (e + 1) ||| 2 ^ q (e + 1)) + q (e + 1)) ≤ gt_g b (gt_s W q e + W (7 * q e + q (e + 1)))
    rw [gt_gA]
    omega
section
variable {p0 : Int32} {xw xn xt xs xe xd xp xc : Nat → Int32}
theorem gx_growPaths {post : SX → Prop} {W B : Nat → Nat} (G : gb_G W B) (hx : ∀ i, i < 49 → xw i = nI (W i)) (hn : ∀ i, i < 7 → xn i = nI (B i)) {a : Nat} {b : Bool} {E : Nat → Int} (he : ∀ i, i < 896 → xe i = gb_i (E i)) (I : gt_I W a b E) {S v : Nat} (hS : S < 128) (hv : v < 7) (hlt : E (7 * S + v) < 100000)
    (K : ∀ e' E', (∀ i, i < 896 → e' i = gb_i (E' i)) → gt_I W a b E' → (∀ i, i < 896 → E' i ≤ E i) → (∀ i, i < 7 * S + 7 → E' i = E i) → gt_C W B b E' S v → post (p0, xw, xn, xt, xs, e', xd, xp, xc)) : wpX_growPaths post (p0, xw, xn, xt, xs, xe, xd, xp, xc) (nI S) (nI v) (gt_x b) := by
  have hB := G.2.2.2.1 v hv
  obtain ⟨q, e, hq, hms, hqe, hE⟩ := (I S v hS hv).2 hlt
  refine pk_loop (fun n i (s : (Nat → Int32)) => wX_growPaths_3 post (nI S) (nI v) (gt_x b) p0 n (nI i) xw xn xt xs s xd xp xc) (fun i s => ∃ E', (∀ i, i < 896 → s i = gb_i (E' i)) ∧ gt_I W a b E' ∧ (∀ i, i < 896 → E' i ≤ E i) ∧ (∀ i, i < 7 * S + 7 → E' i = E i) ∧ ∀ x, x < i → (B v).testBit x = true → S.testBit x = false → E' (7 * (S ||| 2 ^ x) + x) ≤ E (7 * S + v) + gt_g b (W (7 * v + x))) 7 0 xe (by omega) ⟨E, he, I, fun i _ => Int.le_refl _, fun i _ => rfl, fun x hx => by omega⟩ ?_ ?_
  · rintro n s ⟨E', h1, h2, h3, h4, h5⟩
    refine gb_ex 7 (K s E' h1 h2 h3 h4 ?_)
    intro _ x hx hb hs
    rw [h4 (7 * S + v) (by omega)]
    exact h5 x hx hb hs
  · rintro n i s hi ⟨E', h1, h2, h3, h4, h5⟩ K2
    have hd : gb_dif (B v) S < 128 := gb_difLt hB
    have hbit : (gb_dif (B v) S).testBit i = ((B v).testBit i && !S.testBit i) := gb_difT _ _ (by omega)
    refine gb_hd 7 hi ⟨vp_in_nI hv (by decide), gx_in (gb_dif (B v) S) i (fun z => gb_s (K2 s ⟨E', h1, h2, h3, h4, ?_⟩)) (fun z => ?_) (by rw [gb_rdn (hn v hv), gb_difI]) rfl⟩
    · intro x hx hb hs
      by_cases y : x = i
      · subst y
        rw [hbit, hb, hs] at z
        cases z
      · exact h5 x (by omega) hb hs
    · rw [hbit, Bool.and_eq_true, Bool.not_eq_true'] at z
      obtain ⟨z1, z2⟩ := z
      have hSu := gb_insLt hS hi
      have hgt := gb_insGt z2
      have eat : ((7 : Int32) * (nI S ||| ((1 : Int32) <<< (nI i &&& 31)))) + nI i = nI (7 * (S ||| 2 ^ i) + i) := by
        rw [gb_insI (by omega), gb_ix]
      have hw := G.2.2.1 (7 * v + i) (by omega)
      have hgb := gt_gB b (W (7 * v + i))
      have hbd := gt_Ib G.2.2.1 I (i := 7 * S + v) (by omega)
      have hbd2 := gt_Ib G.2.2.1 h2 (i := 7 * (S ||| 2 ^ i) + i) (by omega)
      have ev : E' (7 * S + v) = E (7 * S + v) := h4 _ (by omega)
      have eth : s (((7 : Int32) * nI S) + nI v).toNatClampNeg + gt_x b * xw (((7 : Int32) * nI v) + nI i).toNatClampNeg = gb_i (E (7 * S + v) + gt_g b (W (7 * v + i))) := by
        rw [gb_rd (h1 (7 * S + v) (by omega)) (gb_ix S v), gb_rd (hx (7 * v + i) (by omega)) (gb_ix v i), gt_xI, gb_iA, ev]
      refine nm_r eat ⟨pk_in _ 896 (by omega) (gb_ix S v), pk_in _ 49 (by omega) (gb_ix v i), nm_r eth ⟨vp_in_nI (by omega) (by decide), ?_⟩⟩
      refine gb_pLe (E' (7 * (S ||| 2 ^ i) + i)) (E (7 * S + v) + gt_g b (W (7 * v + i))) (fun y => gb_s (K2 s ⟨E', h1, h2, h3, h4, ?_⟩)) (fun y => ⟨vp_in_nI (by omega) (by decide), nm_r gb_udn (gb_s (K2 _ ⟨fun j => if j = 7 * (S ||| 2 ^ i) + i then E (7 * S + v) + gt_g b (W (7 * v + i)) else E' j, ?_, ?_, ?_, ?_, ?_⟩))⟩) (gb_rdn (h1 _ (by omega))) rfl
      · intro x hx hb hs
        by_cases y2 : x = i
        · subst y2; exact y
        · exact h5 x (by omega) hb hs
      · intro j hj
        by_cases y2 : j = 7 * (S ||| 2 ^ i) + i
        · rw [y2, pk_us]
          show _ = gb_i (if _ then _ else _)
          rw [if_pos rfl]
        · rw [pk_un y2]
          show _ = gb_i (if _ then _ else _)
          rw [if_neg y2]
          exact h1 j hj
      · intro T x hT hx7
        by_cases y2 : 7 * T + x = 7 * (S ||| 2 ^ i) + i
        · have e1 : T = S ||| 2 ^ i := by omega
          have e2 : x = i := by omega
          subst e1 e2
          show (if _ then _ else _) ≤ _ ∧ ((if _ then _ else _) < _ → _)
          rw [if_pos rfl]
          refine ⟨by omega, fun _ => ?_⟩
          have hwp : 0 < W (7 * q e + x) := by
            rw [hqe]
            rw [G.2.2.2.2 v x hv hi] at z1
            exact of_decide_eq_true z1
          obtain ⟨x1, x2, x3⟩ := gt_ext hq hi hwp (by rw [hms]; exact z2)
          refine ⟨_, e + 1, x1, ?_, gt_appH, ?_⟩
          · rw [x2, hms]
          · dsimp only
            rw [if_pos rfl, x3, gt_gA, hE, hqe]
        · show (if _ then _ else _) ≤ _ ∧ ((if _ then _ else _) < _ → _)
          rw [if_neg y2]
          have := h2 T x hT hx7
          refine ⟨this.1, fun hl => ?_⟩
          obtain ⟨q', e', p1, p2, p3, p4⟩ := this.2 hl
          exact ⟨q', e', p1, p2, p3, by dsimp only; rw [if_neg y2]; exact p4⟩
      · intro j hj
        show (if _ then _ else _) ≤ _
        by_cases y2 : j = 7 * (S ||| 2 ^ i) + i
        · rw [if_pos y2, y2]
          have := h3 _ (show 7 * (S ||| 2 ^ i) + i < 896 by omega)
          omega
        · rw [if_neg y2]; exact h3 j hj
      · intro j hj
        show (if _ then _ else _) = _
        rw [if_neg (by omega)]
        exact h4 j hj
      · intro x hx hb hs
        show (if _ then _ else _) ≤ _
        by_cases y2 : x = i
        · subst y2
          rw [if_pos rfl]
          exact Int.le_refl _
        · have hSx := gb_insLt hS (show x < 7 by omega)
          rw [if_neg (by omega)]
          exact h5 x (by omega) hb hs
/-- what findPaths leaves -/
def gt_D (W B : Nat → Nat) (a : Nat) (b : Bool) (E : Nat → Int) : Prop := gt_I W a b E ∧ E (7 * 2 ^ a + a) ≤ 0 ∧ ∀ S y, 0 < S → S < 128 → y < 7 → gt_C W B b E S y
theorem gx_findPaths {post : SX → Prop} {W B : Nat → Nat} (G : gb_G W B) (hx : ∀ i, i < 49 → xw i = nI (W i)) (hn : ∀ i, i < 7 → xn i = nI (B i)) {a : Nat} (ha : a < 7) (b : Bool)
    (K : ∀ e E, (∀ i, i < 896 → e i = gb_i (E i)) → gt_D W B a b E → post (p0, xw, xn, xt, xs, e, xd, xp, xc)) : wpX_findPaths post (p0, xw, xn, xt, xs, xe, xd, xp, xc) (nI a) (gt_x b) := by
  have hpa := gb_pow ha
  have eix : ((7 : Int32) * ((1 : Int32) <<< (nI a &&& 31))) + nI a = nI (7 * 2 ^ a + a) := by
    rw [gb_shl (by omega), gb_ix]
  refine pk_loop (fun n i (e : Nat → Int32) => wX_findPaths_2 post (nI a) (gt_x b) p0 n (nI i) xw xn xt xs e xd xp xc) (fun i e => ∀ k, k < i → e k = gb_i 100000) 896 0 xe (by omega) (fun k hk => by omega) ?_ ?_
  · intro n e he
    refine gb_ex 896 ⟨pk_in _ 896 (by omega) eix, nm_r (gb_ud eix) ?_⟩
    refine pk_loop (fun n i (e : Nat → Int32) => wX_findPaths_39 post (gt_x b) n (nI i) p0 xw xn xt xs e xd xp xc) (fun i e => 1 ≤ i ∧ ∃ E, (∀ k, k < 896 → e k = gb_i (E k)) ∧ gt_I W a b E ∧ E (7 * 2 ^ a + a) ≤ 0 ∧ ∀ S y, 0 < S → S < i → y < 7 → gt_C W B b E S y) 128 1 _ (by omega) ⟨Nat.le_refl _, fun k => if k = 7 * 2 ^ a + a then 0 else 100000, ?_, ?_, ?_, fun S y h1 h2 => by omega⟩ ?_ ?_
    · intro k hk
      by_cases z : k = 7 * 2 ^ a + a
      · rw [z, pk_us]
        show _ = gb_i (if _ then _ else _)
        rw [if_pos rfl]; rfl
      · rw [pk_un z]
        show _ = gb_i (if _ then _ else _)
        rw [if_neg z]
        exact he k hk
    · intro S x hS hx7
      by_cases z : 7 * S + x = 7 * 2 ^ a + a
      · have e1 : S = 2 ^ a := by omega
        have e2 : x = a := by omega
        subst e1 e2
        show (if _ then _ else _) ≤ _ ∧ ((if _ then _ else _) < _ → _)
        rw [if_pos rfl]
        refine ⟨by omega, fun _ => ⟨fun _ => x, 0, ⟨rfl, fun _ _ => ha, fun k hk => by omega, ?_⟩, ?_, rfl, ?_⟩⟩
        · intro k hk
          have e0 : k = 0 := by omega
          rw [e0]
          exact Nat.zero_testBit x
        · show 0 ||| 2 ^ x = 2 ^ x
          exact Nat.zero_or _
        · dsimp only
          rw [if_pos rfl]
          cases b <;> rfl
      · show (if _ then _ else _) ≤ _ ∧ ((if _ then _ else _) < _ → _)
        rw [if_neg z]
        exact ⟨Int.le_refl _, fun h => absurd h (Int.lt_irrefl _)⟩
    · show (if _ then _ else _) ≤ _
      rw [if_pos rfl]
      exact Int.le_refl _
    · rintro n e ⟨_, E, h1, h2, h3, h4⟩
      exact gb_ex 128 (K e E h1 ⟨h2, h3, h4⟩)
    · rintro n i e hi ⟨hi1, E, h1, h2, h3, h4⟩ K2
      refine gb_hd 128 hi ?_
      refine pk_loop (fun n v (e : Nat → Int32) => wX_findPaths_49 post _ (gt_x b) (nI i) n (nI v) p0 xw xn xt xs e xd xp xc) (fun v e => ∃ E, (∀ k, k < 896 → e k = gb_i (E k)) ∧ gt_I W a b E ∧ E (7 * 2 ^ a + a) ≤ 0 ∧ (∀ S y, 0 < S → S < i → y < 7 → gt_C W B b E S y) ∧ ∀ y, y < v → gt_C W B b E i y) 7 0 e (by omega) ⟨E, h1, h2, h3, h4, fun y hy => by omega⟩ ?_ ?_
      · rintro n e ⟨E, h1, h2, h3, h4, h5⟩
        refine gb_ex 7 (gb_s (K2 e ⟨by omega, E, h1, h2, h3, ?_⟩))
        intro S y hS0 hS hy
        by_cases z : S = i
        · subst z; exact h5 y hy
        · exact h4 S y hS0 (by omega) hy
      · rintro n v e hv ⟨E, h1, h2, h3, h4, h5⟩ K3
        have hbd := gt_Ib G.2.2.1 h2 (i := 7 * i + v) (by omega)
        refine gb_hd 7 hv ⟨pk_in _ 896 (by omega) (gb_ix i v), ?_⟩
        refine gb_pLe 100000 (E (7 * i + v)) (fun z => gb_s (K3 e ⟨E, h1, h2, h3, h4, ?_⟩)) (fun z => ?_) (by decide) (gb_rd (h1 _ (by omega)) (gb_ix i v))
        · intro y hy
          by_cases y2 : y = v
          · subst y2
            intro hh
            omega
          · exact h5 y (by omega)
        · refine gx_growPaths G hx hn h1 h2 hi hv z ?_
          intro e' E' g1 g2 g3 g4 g5
          refine gb_s (K3 e' ⟨E', g1, g2, ?_, ?_, ?_⟩)
          · have := g3 (7 * 2 ^ a + a) (by omega)
            omega
          · intro S y hS0 hS hy
            exact gt_Ck (by omega) hy (by omega) (h4 S y hS0 hS hy) g3 g4
          · intro y hy
            by_cases y2 : y = v
            · subst y2; exact g5
            · exact gt_Ck hi (by omega) (Nat.le_refl _) (h5 y (by omega)) g3 g4
  · intro n i e hi h K2
    refine gb_hd 896 hi ⟨vp_in_nI hi (by decide), nm_r gb_udn (gb_s (K2 _ (gb_fill (f := fun _ => gb_i 100000) h ?_)))⟩
    decide
end
end
section
/-! ===== tour, trail, longest ===== -/
def gt_adj (W : Nat → Nat) (q : Nat → Nat) : Prop := ∀ k, k < 6 → 0 < W (7 * q k + q (k + 1))
theorem gt_OP {W : Nat → Nat} {q : Nat → Nat} (h : go_O q) {e : Nat} (he : e ≤ 6) (ha : ∀ k, k < e → 0 < W (7 * q k + q (k + 1))) : gt_P W (q 0) q e := ⟨rfl, fun k hk => h.1 k (by omega), ha, fun k hk => go_Onew h (by omega)⟩
/-- new vertices alone -/
def gt_N (q : Nat → Nat) (e : Nat) : Prop := (∀ k, k ≤ e → q k < 7) ∧ ∀ k, k ≤ e → (go_ms q k).testBit (q k) = false
theorem gt_Npc {q : Nat → Nat} {e : Nat} (h : gt_N q e) : ∀ k, k ≤ e + 1 → gb_pc (go_ms q k) = k := by
  intro k
  induction k with
  | zero => intro _; exact (by decide : gb_pc 0 = 0)
  | succ k ih =>
    intro hk
    have h1 : go_ms q k < 128 := go_msLt (fun i hi => h.1 i (by omega))
    show gb_pc (go_ms q k ||| 2 ^ q k) = k + 1
    rw [gb_pcIns _ h1 _ (h.1 k (by omega)) (h.2 k (by omega)), ih (by omega)]
theorem gt_out : ∀ s, s < 128 → s ≠ 127 → ∃ u, u < 7 ∧ s.testBit u = false := by decide +kernel
theorem gt_fill : ∀ d q e, e + d = 6 → gt_N q e → ∃ q', go_O q' ∧ ∀ k, k ≤ e → q' k = q k := by
  intro d
  induction d with
  | zero =>
    intro q e he h
    have e6 : e = 6 := by omega
    subst e6
    refine ⟨q, ⟨fun k hk => h.1 k (by omega), ?_⟩, fun k _ => rfl⟩
    exact gb_pc7 _ (go_msLt (fun i hi => h.1 i (by omega))) (gt_Npc h 7 (by omega))
  | succ d ih =>
    intro q e he h
    have hlt : go_ms q (e + 1) < 128 := go_msLt (fun i hi => h.1 i (by omega))
    have hne : go_ms q (e + 1) ≠ 127 := by
      intro z
      have h1 := gt_Npc h (e + 1) (by omega)
      rw [z] at h1
      have h2 : gb_pc 127 = 7 := by decide
      omega
    obtain ⟨u, hu, hut⟩ := gt_out _ hlt hne
    have hm : ∀ k, k ≤ e + 1 → go_ms (gt_app q e u) k = go_ms q k := fun k hk => go_msC (fun i hi => gt_appL (by omega))
    have hN : gt_N (gt_app q e u) (e + 1) := by
      refine ⟨?_, ?_⟩
      · intro k hk
        by_cases z : k = e + 1
        · rw [z, gt_appH]; exact hu
        · rw [gt_appL (by omega)]; exact h.1 k (by omega)
      · intro k hk
        rw [hm k hk]
        by_cases z : k = e + 1
        · rw [z, gt_appH]; exact hut
        · rw [gt_appL (by omega)]; exact h.2 k (by omega)
    obtain ⟨q', g1, g2⟩ := ih (gt_app q e u) (e + 1) (by omega) hN
    exact ⟨q', g1, fun k hk => by rw [g2 k (by omega), gt_appL hk]⟩
theorem gt_PO {W : Nat → Nat} {a : Nat} {q : Nat → Nat} {e : Nat} (h : gt_P W a q e) (hm : go_ms q (e + 1) = 127) : e = 6 ∧ go_O q ∧ gt_adj W q := by
  have h1 := gt_pc h (e + 1) (Nat.le_refl _)
  rw [hm] at h1
  have h2 : gb_pc 127 = 7 := by decide
  have e6 : e = 6 := by omega
  subst e6
  exact ⟨rfl, ⟨fun k hk => h.2.1 k (by omega), hm⟩, h.2.2.1⟩
/-- r is the least number with P, or -2 if there is none -/
def gt_Opt (P : Nat → Prop) (r : Int32) : Prop := (r = -2 ∧ ∀ w, ¬ P w) ∨ ∃ m, m < 1000 ∧ r = nI m ∧ P m ∧ ∀ w, P w → m ≤ w
theorem gt_OptU {P Q : Nat → Prop} {r r' : Int32} (h : gt_Opt P r) (h' : gt_Opt Q r') (e : ∀ w, P w ↔ Q w) : r' = r := by
  rcases h with ⟨a, b⟩ | ⟨m, a1, a2, a3, a4⟩
  · rcases h' with ⟨a', b'⟩ | ⟨m', b1, b2, b3, b4⟩
    · rw [a, a']
    · exact absurd ((e m').mpr b3) (b m')
  · rcases h' with ⟨a', b'⟩ | ⟨m', b1, b2, b3, b4⟩
    · exact absurd ((e m).mp a3) (b' m)
    · have h1 := a4 m' ((e m').mpr b3)
      have h2 := b4 m ((e m).mp a3)
      rw [a2, b2, show m' = m by omega]
theorem gt_OptC {P Q : Nat → Prop} {r : Int32} (h : gt_Opt P r) (e : ∀ w, P w ↔ Q w) : gt_Opt Q r := by
  have : P = Q := funext (fun w => propext (e w))
  rw [← this]; exact h
theorem gt_nI2 {m : Nat} (h : m < 1000) : ¬ nI m = -2 := by
  intro z
  have := congrArg Int32.toInt z
  rw [nI_toInt (by omega), show (-2 : Int32).toInt = -2 from by decide] at this
  omega
theorem gt_OptB {P : Nat → Prop} {r y : Int32} {w : Nat} (A : Int32 → Prop) (h : gt_Opt P r) (hw : w < 1000) (hy : y = nI w) (K : ∀ r', gt_Opt (fun z => P z ∨ z = w) r' → A r') : (r = -2 → A y) ∧ (¬ r = -2 → ((r ≤ y → A r) ∧ (¬ r ≤ y → A y))) := by
  subst hy
  rcases h with ⟨a, b⟩ | ⟨m, a1, a2, a3, a4⟩
  · refine br_t a (K _ (Or.inr ⟨w, hw, rfl, Or.inr rfl, ?_⟩))
    rintro z (y | y)
    · exact absurd y (b z)
    · omega
  · subst a2
    refine br_f (gt_nI2 a1) (pk_le m w (fun z => K _ (Or.inr ⟨m, a1, rfl, Or.inl a3, ?_⟩)) (fun z => K _ (Or.inr ⟨w, hw, rfl, Or.inr rfl, ?_⟩)))
    · rintro z (y | y)
      · exact a4 z y
      · omega
    · rintro z (y | y)
      · have := a4 z y; omega
      · omega
section
variable {p0 : Int32} {xw xn xt xs xe xd xp xc : Nat → Int32} {r0 : Int32} {yw yo yl yp yq yc yf yv ye : Nat → Int32}
/-! X -/
def gt_PT (W : Nat → Nat) (w : Nat) : Prop := ∃ q, go_O q ∧ q 0 = 0 ∧ gt_adj W q ∧ 0 < W (7 * q 6 + q 0) ∧ w = gt_s W q 6 + W (7 * q 6 + q 0)
theorem gx_tour {post : Int32 → SX → Prop} {W B : Nat → Nat} (G : gb_G W B) (hx : ∀ i, i < 49 → xw i = nI (W i)) (hn : ∀ i, i < 7 → xn i = nI (B i)) (K : ∀ e r, gt_Opt (gt_PT W) r → post r (p0, xw, xn, xt, xs, e, xd, xp, xc)) : wpX_tour post (p0, xw, xn, xt, xs, xe, xd, xp, xc) := by
  unfold wpX_tour
  dsimp only
  refine gx_findPaths (a := 0) G hx hn (by omega) true ?_
  intro e E he hD
  dsimp only
  obtain ⟨hI, h0, hC⟩ := hD
  have hopt := gt_opt G h0 hC
  have hB0 := G.2.2.2.1 0 (by omega)
  refine pk_loop (fun n i (b : Int) => wX_tour_11 post p0 xw xn xt xs e xd xp xc n (gb_i b) (nI i)) (fun i b => 1 ≤ i ∧ 0 ≤ b ∧ b ≤ 100000 ∧ (∀ v, 1 ≤ v → v < i → E (889 + v) < 100000 → 0 < W v → b ≤ E (889 + v) + W v) ∧ (b = 100000 ∨ ∃ v, 1 ≤ v ∧ v < i ∧ E (889 + v) < 100000 ∧ 0 < W v ∧ b = E (889 + v) + W v)) 7 1 100000 (by omega) ⟨Nat.le_refl _, by omega, Int.le_refl _, fun v h1 h2 => by omega, Or.inl rfl⟩ ?_ ?_
  · rintro n b ⟨_, hb0, hb1, hb2, hb3⟩
    refine gb_ex 7 (gb_pEq b 100000 (fun z => K e _ (Or.inl ⟨rfl, ?_⟩)) (fun z => K e _ (Or.inr ?_)) rfl (by decide))
    · rintro w ⟨q, hO, hq0, hadj, hcl, hw⟩
      have hp := gt_OP hO (e := 6) (by omega) hadj
      rw [hq0] at hp
      have h1 := hopt 6 q hp
      rw [hO.2] at h1
      have h2 := gt_s54 G.2.2.1 hp
      have h3 := gt_gB true (gt_s W q 6)
      have h4 := hO.1 6 (by omega)
      have hcl2 : 0 < W (q 6) := by
        rw [hq0, G.1 _ _ h4 (by omega)] at hcl
        rw [Nat.mul_zero, Nat.zero_add] at hcl
        exact hcl
      have h5 : 1 ≤ q 6 := by
        rcases Nat.eq_zero_or_pos (q 6) with y | y
        · rw [y, G.2.1 0 (by omega)] at hcl2; omega
        · exact y
      have h6 := hb2 (q 6) h5 h4 (by rw [show 889 + q 6 = 7 * 127 + q 6 by omega]; omega) hcl2
      have h7 := G.2.2.1 (q 6) (by omega)
      rw [show 889 + q 6 = 7 * 127 + q 6 by omega] at h6
      omega
    · rcases hb3 with y | ⟨v, v1, v2, v3, v4, v5⟩
      · exact absurd y z
      · rw [show 889 + v = 7 * 127 + v by omega] at v3 v5
        obtain ⟨q, e', p1, p2, p3, p4⟩ := (hI 127 v (by omega) v2).2 v3
        obtain ⟨e6, hO, hadj⟩ := gt_PO p1 p2
        subst e6
        have hs := gt_s54 G.2.2.1 p1
        have h7 := G.2.2.1 v (by omega)
        have p4' : E (7 * 127 + v) = (gt_s W q 6 : Int) := p4
        have hWv : W (7 * q 6 + q 0) = W v := by
          rw [p3, p1.1, G.1 v 0 v2 (by omega), Nat.mul_zero, Nat.zero_add]
        refine ⟨gt_s W q 6 + W v, by omega, ?_, ⟨q, hO, p1.1, hadj, by rw [hWv]; exact v4, by rw [hWv]⟩, ?_⟩
        · rw [gb_iN, v5, p4']
          exact congrArg gb_i (by omega)
        · rintro w ⟨q', hO', hq0', hadj', hcl', hw'⟩
          have hp := gt_OP hO' (e := 6) (by omega) hadj'
          rw [hq0'] at hp
          have h1 := hopt 6 q' hp
          rw [hO'.2] at h1
          have h2 := gt_s54 G.2.2.1 hp
          have h1' : E (7 * 127 + q' 6) ≤ (gt_s W q' 6 : Int) := h1
          have h4 := hO'.1 6 (by omega)
          have hW' : W (7 * q' 6 + q' 0) = W (q' 6) := by
            rw [hq0', G.1 _ 0 h4 (by omega), Nat.mul_zero, Nat.zero_add]
          rw [hW'] at hcl' hw'
          have h5 : 1 ≤ q' 6 := by
            rcases Nat.eq_zero_or_pos (q' 6) with y | y
            · rw [y, G.2.1 0 (by omega)] at hcl'; omega
            · exact y
          have h6 := hb2 (q' 6) h5 h4 (by rw [show 889 + q' 6 = 7 * 127 + q' 6 by omega]; omega) hcl'
          rw [show 889 + q' 6 = 7 * 127 + q' 6 by omega] at h6
          omega
  · rintro n i b hi ⟨hi1, hb0, hb1, hb2, hb3⟩ K2
    have eix : (889 : Int32) + nI i = nI (889 + i) := nI_add 889 i
    have hbd := gt_Ib G.2.2.1 hI (i := 889 + i) (by omega)
    have hE0 : 0 ≤ E (889 + i) := by
      by_cases z : E (889 + i) < 100000
      · have := (hI 127 i (by omega) hi).2
        rw [show 7 * 127 + i = 889 + i by omega] at this
        obtain ⟨q, e', _, _, _, p4⟩ := this z
        have p4' : E (889 + i) = (gt_s W q e' : Int) := p4
        omega
      · omega
    have hWi := G.2.2.1 i (by omega)
    have hbit : (B 0).testBit i = decide (0 < W i) := by
      rw [G.2.2.2.2 0 i (by omega) hi, Nat.mul_zero, Nat.zero_add]
    have same : (E (889 + i) < 100000 → 0 < W i → b ≤ E (889 + i) + W i) → wX_tour_11 post p0 xw xn xt xs e xd xp xc n (gb_i b) (nI (i + 1)) := by
      intro h
      refine K2 b ⟨by omega, hb0, hb1, ?_, ?_⟩
      · intro v v1 v2 v3 v4
        by_cases y : v = i
        · subst y; exact h v3 v4
        · exact hb2 v v1 (by omega) v3 v4
      · rcases hb3 with y | ⟨v, v1, v2, v3⟩
        · exact Or.inl y
        · exact Or.inr ⟨v, v1, by omega, v3⟩
    have esum : gb_i (E (889 + i)) + xw (nI i).toNatClampNeg = gb_i (E (889 + i) + (W i : Int)) := by
      rw [gb_rdn (hx i (by omega)), gb_iN, gb_iA]
    refine gb_hd 7 hi ⟨pk_in _ 896 (by omega) eix, nm_r (gb_rd (he _ (by omega)) eix) ?_⟩
    refine gb_pLe 100000 (E (889 + i)) (fun z => gb_s (same (fun y => by omega))) (fun z => gx_in (B 0) i (fun y => gb_s (same (fun _ w => ?_))) (fun y => ⟨vp_in_nI (by omega) (by decide), ?_⟩) (hn 0 (by omega)) rfl) (by decide) rfl
    · rw [hbit] at y
      exact absurd w (of_decide_eq_false y)
    · rw [hbit] at y
      have y1 := of_decide_eq_true y
      refine gb_pLe b (E (889 + i) + W i) (fun w => gb_s (same (fun _ _ => w))) (fun w => ⟨vp_in_nI (by omega) (by decide), nm_r esum (gb_s (K2 _ ⟨by omega, by omega, by omega, ?_, Or.inr ⟨i, hi1, by omega, z, y1, rfl⟩⟩))⟩) rfl esum
      intro v v1 v2 v3 v4
      by_cases y2 : v = i
      · subst y2; exact Int.le_refl _
      · have := hb2 v v1 (by omega) v3 v4; omega
def gt_PR (W : Nat → Nat) (a b w : Nat) : Prop := ∃ q, go_O q ∧ q 0 = a ∧ q 6 = b ∧ gt_adj W q ∧ w = gt_s W q 6
theorem gx_trail {post : Int32 → SX → Prop} {W B : Nat → Nat} (G : gb_G W B) (hx : ∀ i, i < 49 → xw i = nI (W i)) (hn : ∀ i, i < 7 → xn i = nI (B i)) {a b : Nat} (ha : a < 7) (hb : b < 7) (hab : a ≠ b) (K : ∀ e r, gt_Opt (gt_PR W a b) r → post r (p0, xw, xn, xt, xs, e, xd, xp, xc)) : wpX_trail post (p0, xw, xn, xt, xs, xe, xd, xp, xc) (nI a) (nI b) := by
  have hne : ¬ nI a = nI b := fun z => hab ((nI_eq (by omega) (by omega)).mp z)
  unfold wpX_trail
  dsimp only
  refine gx_iv1 ha (br_f (by decide) (gx_iv1 hb (br_f (by decide) (br_f hne ?_))))
  refine gx_findPaths G hx hn ha true ?_
  intro e E he hD
  dsimp only
  obtain ⟨hI, h0, hC⟩ := hD
  have hopt := gt_opt G h0 hC
  have eix : (889 : Int32) + nI b = nI (889 + b) := nI_add 889 b
  have hbd := gt_Ib G.2.2.1 hI (i := 889 + b) (by omega)
  have e7 : 889 + b = 7 * 127 + b := by omega
  have hle : ∀ w, gt_PR W a b w → E (889 + b) ≤ (w : Int) ∧ w ≤ 54 := by
    rintro w ⟨q, hO, hq0, hq6, hadj, hw⟩
    have hp := gt_OP hO (e := 6) (by omega) hadj
    rw [hq0] at hp
    have h1 := hopt 6 q hp
    rw [hO.2, hq6] at h1
    have h2 := gt_s54 G.2.2.1 hp
    have h1' : E (7 * 127 + b) ≤ (gt_s W q 6 : Int) := h1
    rw [e7]
    omega
  refine ⟨pk_in _ 896 (by omega) eix, nm_r (gb_rd (he _ (by omega)) eix) ?_⟩
  refine gb_pEq (E (889 + b)) 100000 (fun z => K e _ (Or.inl ⟨rfl, ?_⟩)) (fun z => K e _ (Or.inr ?_)) rfl (by decide)
  · intro w hw
    have := hle w hw
    omega
  · have h1 := (hI 127 b (by omega) hb).2
    rw [← e7] at h1
    obtain ⟨q, e', p1, p2, p3, p4⟩ := h1 (by omega)
    obtain ⟨e6, hO, hadj⟩ := gt_PO p1 p2
    subst e6
    have hs := gt_s54 G.2.2.1 p1
    have p4' : E (889 + b) = (gt_s W q 6 : Int) := p4
    refine ⟨gt_s W q 6, by omega, ?_, ⟨q, hO, p1.1, p3, hadj, rfl⟩, ?_⟩
    · rw [gb_iN, p4']
    · intro w hw
      have := hle w hw
      omega
theorem gx_longest {post : Int32 → SX → Prop} {W B : Nat → Nat} (G : gb_G W B) (hx : ∀ i, i < 49 → xw i = nI (W i)) (hn : ∀ i, i < 7 → xn i = nI (B i)) {a : Nat} (ha : a < 7) (K : ∀ e m, m ≤ 54 → (∀ q j, gt_P W a q j → gt_s W q j ≤ m) → (m = 0 ∨ ∃ q j, gt_P W a q j ∧ m = gt_s W q j) → post (nI m) (p0, xw, xn, xt, xs, e, xd, xp, xc)) :
    wpX_findPaths (fun u => match u with | (p0, xw, xn, xt, xs, xe, xd, xp, xc) => (∃ n20 : Nat, wX_longest_20 post p0 xw xn xt xs xe xd xp xc n20 0 0)) (p0, xw, xn, xt, xs, xe, xd, xp, xc) (nI a) (-1) := by
  refine gx_findPaths G hx hn ha false ?_
  intro e E he hD
  dsimp only
  obtain ⟨hI, h0, hC⟩ := hD
  have hopt := gt_opt G h0 hC
  refine pk_loop (fun n i (b : Int) => wX_longest_20 post p0 xw xn xt xs e xd xp xc n (gb_i b) (nI i)) (fun i b => -54 ≤ b ∧ b ≤ 0 ∧ (∀ k, k < i → b ≤ E k) ∧ (b = 0 ∨ ∃ k, k < i ∧ b = E k)) 896 0 0 (by omega) ⟨by omega, Int.le_refl _, fun k hk => by omega, Or.inl rfl⟩ ?_ ?_
  · rintro n b ⟨hb1, hb0, hb2, hb3⟩
    refine gb_ex 896 ?_
    have eb : -gb_i b = nI (-b).toNat := by
      rw [gb_iG, gb_iN]
      exact congrArg gb_i (by omega)
    rw [eb]
    refine K e _ (by omega) ?_ ?_
    · intro q j hp
      have h1 := hopt j q hp
      have hS : go_ms q (j + 1) < 128 := go_msLt (fun i hi => hp.2.1 i (by omega))
      have hq := hp.2.1 j (Nat.le_refl _)
      have h2 := hb2 (7 * go_ms q (j + 1) + q j) (by omega)
      have h3 : gt_g false (gt_s W q j) = -(gt_s W q j : Int) := rfl
      omega
    · rcases hb3 with z | ⟨k, hk, z⟩
      · exact Or.inl (by omega)
      · have h1 := hI (k / 7) (k % 7) (by omega) (by omega)
        rw [show 7 * (k / 7) + k % 7 = k by omega] at h1
        obtain ⟨q, j, p1, _, _, p4⟩ := h1.2 (by omega)
        have h3 : gt_g false (gt_s W q j) = -(gt_s W q j : Int) := rfl
        exact Or.inr ⟨q, j, p1, by omega⟩
  · rintro n i b hi ⟨hb1, hb0, hb2, hb3⟩ K2
    have hbd := gt_Ib G.2.2.1 hI hi
    refine gb_hd 896 hi ⟨vp_in_nI hi (by decide), gb_pLe b (E i) (fun z => gb_s (K2 b ⟨hb1, hb0, ?_, ?_⟩)) (fun z => ⟨vp_in_nI hi (by decide), nm_r (gb_rdn (he i hi)) (gb_s (K2 _ ⟨hbd.1, by omega, ?_, Or.inr ⟨i, by omega, rfl⟩⟩))⟩) rfl (gb_rdn (he i hi))⟩
    · intro k hk
      by_cases y : k = i
      · subst y; exact z
      · exact hb2 k (by omega)
    · rcases hb3 with y | ⟨k, hk, y⟩
      · exact Or.inl y
      · exact Or.inr ⟨k, by omega, y⟩
    · intro k hk
      by_cases y : k = i
      · subst y; exact Int.le_refl _
      · have := hb2 k (by omega); omega
end
end
section
/-! ===== tour, trail, longest: Y ===== -/
theorem go_q0 {p : Nat} (hp : p < 2097152) : nI p &&& 7 = nI (go_q p 0) := by
  rw [pk_andN (by omega) 3 (by decide)]
  unfold go_q
  rw [Nat.mul_zero, Nat.pow_zero, Nat.div_one]
theorem go_q6 {p : Nat} (hp : p < 2097152) : nI p >>> ((18 : Int32) &&& 31) = nI (go_q p 6) := by
  rw [pk_shrN (by omega) _ 18 (by decide)]
  unfold go_q
  apply congrArg
  have : p / 2 ^ 18 < 8 := by omega
  show p / 2 ^ 18 = p / 2 ^ 18 % 8
  omega
section
variable {p0 : Int32} {xw xn xt xs xe xd xp xc : Nat → Int32} {r0 : Int32} {yw yo yl yp yq yc yf yv ye : Nat → Int32}
theorem gy_along {post : Int32 → Prop} {W : Nat → Nat} (hy : ∀ i, i < 49 → yw i = nI (W i)) (hW : ∀ i, i < 49 → W i ≤ 9) {q : Nat → Nat} (hq : ∀ k, k < 7 → q k < 7) (hl : ∀ k, k < 7 → yl k = nI (q k)) (f : ¬ gt_adj W q → post (-1)) (g : gt_adj W q → post (nI (gt_s W q 6))) : wpY_along post (r0, yw, yo, yl, yp, yq, yc, yf, yv, ye) := by
  refine pk_loop (fun n i (a : Nat) => wY_along_4 post r0 yw yo yl yp yq yc yf yv ye n (nI a) (nI i)) (fun i a => ∃ j, i = j + 1 ∧ a = gt_s W q j ∧ ∀ k, k < j → 0 < W (7 * q k + q (k + 1))) 7 1 0 (by omega) ⟨0, rfl, rfl, fun k hk => by omega⟩ ?_ ?_
  · rintro n a ⟨j, hj, rfl, h⟩
    have e : j = 6 := by omega
    subst e
    exact gb_ex 7 (g h)
  · rintro n i a hi ⟨j, rfl, rfl, h⟩ K2
    have h1 := hq j (by omega)
    have h2 := hq (j + 1) hi
    have r1 : yl (nI (j + 1) - 1).toNatClampNeg = nI (q j) := gb_rd (hl j (by omega)) (nI_pred j)
    have r2 : yl (nI (j + 1)).toNatClampNeg = nI (q (j + 1)) := gb_rdn (hl (j + 1) hi)
    have e1 : (7 : Int32) * yl (nI (j + 1) - 1).toNatClampNeg + yl (nI (j + 1)).toNatClampNeg = nI (7 * q j + q (j + 1)) := by
      rw [r1, r2, gb_ix]
    refine gb_hd 7 hi ⟨pk_in j 7 (by omega) (nI_pred j), vp_in_nI hi (by decide), gy_are hy hW (q j) (q (j + 1)) h1 h2 (fun z => br_t rfl (f (fun c => ?_))) (fun z => br_f (by decide) ⟨pk_in j 7 (by omega) (nI_pred j), vp_in_nI hi (by decide), pk_in _ 49 (by omega) e1, nm_r (e' := nI (gt_s W q (j + 1))) ?_ (gb_s (K2 _ ⟨j + 1, rfl, rfl, ?_⟩))⟩) r1 r2⟩
    · have := c j (by omega); omega
    · rw [gb_rd (hy _ (by omega)) e1, nI_add]; rfl
    · intro k hk
      by_cases y : k = j
      · subst y; exact z
      · exact h k (by omega)
/-- as far as q is a path: j edges -/
def gt_far (W : Nat → Nat) (q : Nat → Nat) (j : Nat) : Prop := j ≤ 6 ∧ (∀ k, k < j → 0 < W (7 * q k + q (k + 1))) ∧ (j = 6 ∨ W (7 * q j + q (j + 1)) = 0)
theorem gt_farU {W : Nat → Nat} {q : Nat → Nat} {j j' : Nat} (h : gt_far W q j) (h' : gt_far W q j') : j ≤ j' := by
  rcases Nat.lt_or_ge j' j with z | z
  · have h1 := h.2.1 j' z
    rcases h'.2.2 with y | y
    · have := h.1; omega
    · omega
  · exact z
theorem gy_farthest {post : Int32 → Prop} {W : Nat → Nat} (hy : ∀ i, i < 49 → yw i = nI (W i)) (hW : ∀ i, i < 49 → W i ≤ 9) {q : Nat → Nat} (hq : ∀ k, k < 7 → q k < 7) (hl : ∀ k, k < 7 → yl k = nI (q k)) (K : ∀ j, gt_far W q j → post (nI (gt_s W q j))) : wpY_farthest post (r0, yw, yo, yl, yp, yq, yc, yf, yv, ye) := by
  refine pk_loop (fun n i (a : Nat) => wY_farthest_4 post r0 yw yo yl yp yq yc yf yv ye n (nI a) (nI i)) (fun i a => ∃ j, i = j + 1 ∧ a = gt_s W q j ∧ ∀ k, k < j → 0 < W (7 * q k + q (k + 1))) 7 1 0 (by omega) ⟨0, rfl, rfl, fun k hk => by omega⟩ ?_ ?_
  · rintro n a ⟨j, hj, rfl, h⟩
    have e : j = 6 := by omega
    subst e
    exact gb_ex 7 (K 6 ⟨Nat.le_refl _, h, Or.inl rfl⟩)
  · rintro n i a hi ⟨j, rfl, rfl, h⟩ K2
    have h1 := hq j (by omega)
    have h2 := hq (j + 1) hi
    have r1 : yl (nI (j + 1) - 1).toNatClampNeg = nI (q j) := gb_rd (hl j (by omega)) (nI_pred j)
    have r2 : yl (nI (j + 1)).toNatClampNeg = nI (q (j + 1)) := gb_rdn (hl (j + 1) hi)
    have e1 : (7 : Int32) * yl (nI (j + 1) - 1).toNatClampNeg + yl (nI (j + 1)).toNatClampNeg = nI (7 * q j + q (j + 1)) := by
      rw [r1, r2, gb_ix]
    refine gb_hd 7 hi ⟨pk_in j 7 (by omega) (nI_pred j), vp_in_nI hi (by decide), gy_are hy hW (q j) (q (j + 1)) h1 h2 (fun z => br_t rfl (K j ⟨by omega, h, Or.inr z⟩)) (fun z => br_f (by decide) ⟨pk_in j 7 (by omega) (nI_pred j), vp_in_nI hi (by decide), pk_in _ 49 (by omega) e1, nm_r (e' := nI (gt_s W q (j + 1))) ?_ (gb_s (K2 _ ⟨j + 1, rfl, rfl, ?_⟩))⟩) r1 r2⟩
    · rw [gb_rd (hy _ (by omega)) e1, nI_add]; rfl
    · intro k hk
      by_cases y : k = j
      · subst y; exact z
      · exact h k (by omega)
/-! goRound -/
def gt_adjB (W : Nat → Nat) (q : Nat → Nat) : Bool := decide (∀ k : Nat, k < 6 → 0 < W (7 * q k + q (k + 1)))
def gt_tc (W : Nat → Nat) (c : Nat) : Bool := decide (go_q (go_pk c) 0 = 0) && (gt_adjB W (go_q (go_pk c)) && decide (0 < W (7 * go_q (go_pk c) 6 + go_q (go_pk c) 0)))
def gt_tv (W : Nat → Nat) (c : Nat) : Nat := gt_s W (go_q (go_pk c)) 6 + W (7 * go_q (go_pk c) 6 + go_q (go_pk c) 0)
def gt_PY (W : Nat → Nat) (i w : Nat) : Prop := ∃ c, c < i ∧ gt_tc W c = true ∧ w = gt_tv W c
theorem gt_PY0 {W : Nat → Nat} {i : Nat} (h : gt_tc W i = false) (w : Nat) : gt_PY W i w ↔ gt_PY W (i + 1) w := by
  constructor
  · rintro ⟨c, h1, h2, h3⟩
    exact ⟨c, by omega, h2, h3⟩
  · rintro ⟨c, h1, h2, h3⟩
    by_cases e : c = i
    · subst e; rw [h] at h2; cases h2
    · exact ⟨c, by omega, h2, h3⟩
theorem gt_PY1 {W : Nat → Nat} {i : Nat} (h : gt_tc W i = true) (w : Nat) : (gt_PY W i w ∨ w = gt_tv W i) ↔ gt_PY W (i + 1) w := by
  constructor
  · rintro (⟨c, h1, h2, h3⟩ | z)
    · exact ⟨c, by omega, h2, h3⟩
    · exact ⟨i, by omega, h, z⟩
  · rintro ⟨c, h1, h2, h3⟩
    by_cases e : c = i
    · subst e; exact Or.inr h3
    · exact Or.inl ⟨c, by omega, h2, h3⟩
theorem gy_goRound {post : Int32 → SY → Prop} {W B : Nat → Nat} (G : gb_G W B) (hy : ∀ i, i < 49 → yw i = nI (W i)) (ho : r0 = 0 ∨ (r0 = 1 ∧ ∀ c, c < 5040 → yo c = nI (go_pk c))) (asked : Bool)
    (K : ∀ o l n r, (∀ c, c < 5040 → o c = nI (go_pk c)) → n = (List.range 5040).countP (gt_tc W) → gt_Opt (gt_PY W 5040) r → post (if asked = true then nI (n / 2) else r) (1, yw, o, l, yp, yq, yc, yf, yv, ye)) : wpY_goRound post (r0, yw, yo, yl, yp, yq, yc, yf, yv, ye) (gs_fl asked) := by
  unfold wpY_goRound
  dsimp only
  refine gy_makeOrders ho ?_
  intro o ho'
  dsimp only
  refine pk_loop (fun n i (s : Nat × Int32 × (Nat → Int32)) => wY_goRound_12 post (gs_fl asked) n (nI s.1) s.2.1 (nI i) 1 yw o s.2.2 yp yq yc yf yv ye) (fun i s => s.1 = (List.range i).countP (gt_tc W) ∧ gt_Opt (gt_PY W i) s.2.1) 5040 0 (0, -2, yl) (by omega) ⟨rfl, Or.inl ⟨rfl, fun w ⟨c, hc, _⟩ => by omega⟩⟩ ?_ ?_
  · rintro n ⟨m, r, l⟩ ⟨h1, h2⟩
    dsimp only at h1 h2
    have hm : m ≤ 5040 := by
      have := List.countP_le_length (p := gt_tc W) (l := List.range 5040)
      rw [List.length_range] at this
      omega
    refine gb_ex 5040 ?_
    have k := K o l m r ho' h1 h2
    cases asked
    · exact br_t rfl k
    · refine br_f gs_flN ⟨gb_n2, ?_⟩
      have e : nI m / 2 = nI (m / 2) := pk_div (d := 2) (by omega) (by decide) (by decide)
      dsimp only
      rw [e]
      exact k
  · rintro n i ⟨m, r, l⟩ hi ⟨h1, h2⟩ K2
    dsimp only at h1 h2
    have hp := go_pkO hi
    have hO := hp.2
    have skip : ∀ l', gt_tc W i = false → wY_goRound_12 post (gs_fl asked) n (nI m) r (nI (i + 1)) 1 yw o l' yp yq yc yf yv ye := by
      intro l' hf
      refine K2 (m, r, l') ⟨?_, gt_OptC h2 (gt_PY0 hf)⟩
      dsimp only
      rw [gb_cntR, hf, h1]
      rfl
    refine gb_hd 5040 hi ⟨vp_in_nI hi (by decide), pk_eq (go_q (go_pk i) 0) 0 (fun z => gy_write ho' hi ?_) (fun z => ?_) (by rw [gb_rdn (ho' i hi)]; exact go_q0 hp.1) rfl (by have := hO.1 0 (by omega); omega)⟩
    · intro l' hl'
      dsimp only
      refine gy_along hy G.2.2.1 hO.1 hl' (fun c => ?_) (fun c => ?_)
      · refine br_f (by decide) (br_t (by decide) (gb_s (skip l' ?_)))
        unfold gt_tc gt_adjB
        rw [decide_eq_false (show ¬ (∀ k : Nat, k < 6 → 0 < W (7 * go_q (go_pk i) k + go_q (go_pk i) (k + 1))) from c)]
        simp
      · have b1 := hO.1 6 (by omega)
        have b2 := hO.1 0 (by omega)
        have hs := gt_s54 G.2.2.1 (gt_OP hO (Nat.le_refl 6) c)
        have e1 : (7 : Int32) * l' 6 + l' 0 = nI (7 * go_q (go_pk i) 6 + go_q (go_pk i) 0) := by
          rw [hl' 6 (by omega), hl' 0 (by omega), gb_ix]
        have hw := G.2.2.1 (7 * go_q (go_pk i) 6 + go_q (go_pk i) 0) (by omega)
        have ew : yw ((7 : Int32) * l' 6 + l' 0).toNatClampNeg = nI (W (7 * go_q (go_pk i) 6 + go_q (go_pk i) 0)) := gb_rd (hy _ (by omega)) e1
        refine br_t (nI_pos' (by omega)) ⟨pk_in _ 49 (by omega) e1, br_f (nI_pos (by omega)) (pk_le (W (7 * go_q (go_pk i) 6 + go_q (go_pk i) 0)) 0 (fun y => gb_s (skip l' ?_)) (fun y => nm_r (nI_1 _) ?_) ew rfl)⟩
        · unfold gt_tc
          rw [decide_eq_false (show ¬ 0 < W (7 * go_q (go_pk i) 6 + go_q (go_pk i) 0) by omega)]
          simp
        · have ht : gt_tc W i = true := by
            unfold gt_tc gt_adjB
            rw [decide_eq_true z, decide_eq_true (show (∀ k : Nat, k < 6 → 0 < W (7 * go_q (go_pk i) k + go_q (go_pk i) (k + 1))) from c), decide_eq_true y]
            rfl
          have esum : nI (gt_s W (go_q (go_pk i)) 6) + yw ((7 : Int32) * l' 6 + l' 0).toNatClampNeg = nI (gt_tv W i) := by
            rw [ew, nI_add]; rfl
          have fin : ∀ r', gt_Opt (fun w => gt_PY W i w ∨ w = gt_tv W i) r' → ∀ x4, x4 = nI i + 1 → wY_goRound_12 post (gs_fl asked) n (nI (m + 1)) r' x4 1 yw o l' yp yq yc yf yv ye := by
            intro r' hr'
            refine gb_s (K2 (m + 1, r', l') ⟨?_, gt_OptC hr' (gt_PY1 ht)⟩)
            dsimp only
            rw [gb_cntR, ht, h1]
            rfl
          have hB := gt_OptB (A := fun r' => ∀ x4, x4 = nI i + 1 → wY_goRound_12 post (gs_fl asked) n (nI (m + 1)) r' x4 1 yw o l' yp yq yc yf yv ye) h2 (w := gt_tv W i) (by unfold gt_tv; omega) esum fin
          exact ⟨fun a => nm_e (hB.1 a), fun a => ⟨fun b => (hB.2 a).1 b, fun b => nm_e ((hB.2 a).2 b)⟩⟩
    · refine br_f (by decide) (br_t (by decide) (gb_s (skip l ?_)))
      unfold gt_tc
      rw [decide_eq_false z]
      rfl
theorem gt_PTY {W : Nat → Nat} (w : Nat) : gt_PT W w ↔ gt_PY W 5040 w := by
  constructor
  · rintro ⟨q, hO, h0, ha, hc, hw⟩
    obtain ⟨c, hc5, e⟩ := go_find hO
    have e0 := e 0 (by omega)
    have e6 := e 6 (by omega)
    refine ⟨c, hc5, ?_, ?_⟩
    · unfold gt_tc gt_adjB
      rw [Bool.and_eq_true, Bool.and_eq_true, decide_eq_true_iff, decide_eq_true_iff, decide_eq_true_iff, e0, e6]
      refine ⟨h0, ?_, hc⟩
      intro k hk
      rw [e k (by omega), e (k + 1) (by omega)]
      exact ha k hk
    · unfold gt_tv
      rw [e0, e6, gt_sC (r := q) (fun i hi => e i (by omega))]
      exact hw
  · rintro ⟨c, hc, h1, h2⟩
    unfold gt_tc gt_adjB at h1
    rw [Bool.and_eq_true, Bool.and_eq_true, decide_eq_true_iff, decide_eq_true_iff, decide_eq_true_iff] at h1
    exact ⟨go_q (go_pk c), (go_pkO hc).2, h1.1, h1.2.1, h1.2.2, h2⟩
theorem i_vc_tour {k : Nat} {u : SX} {v : SY} (I : i_Rel k u v) (hk : k + 4 ≤ 2048) : wpX_tour (fun r u' => wpY_tour (fun r' v' => r' = r ∧ i_Rel (k + 4) u' v') v) u := by
  obtain ⟨p0, xw, xn, xt, xs, xe, xd, xp, xc⟩ := u
  obtain ⟨r0, yw, yo, yl, yp, yq, yc, yf, yv, ye⟩ := v
  obtain ⟨W, B, G, hx, hy, hn, hp, ho⟩ := I
  refine gx_tour G hx hn ?_
  intro e r hr
  unfold wpY_tour
  dsimp only
  refine gy_goRound G hy ho false ?_
  intro o l n r' ho' _ hr'
  dsimp only
  exact ⟨gt_OptU hr hr' (fun w => gt_PTY w), W, B, G, hx, hy, hn, hp, Or.inr ⟨rfl, ho'⟩⟩
/-! trail -/
def gt_RY (W : Nat → Nat) (a b i w : Nat) : Prop := ∃ c, c < i ∧ go_q (go_pk c) 0 = a ∧ go_q (go_pk c) 6 = b ∧ gt_adj W (go_q (go_pk c)) ∧ w = gt_s W (go_q (go_pk c)) 6
theorem gy_trail {post : Int32 → SY → Prop} {W B : Nat → Nat} (G : gb_G W B) (hy : ∀ i, i < 49 → yw i = nI (W i)) {o : Nat → Int32} (ho' : ∀ c, c < 5040 → o c = nI (go_pk c)) {a b : Nat} (ha : a < 7) (hb : b < 7)
    (K : ∀ l r, gt_Opt (gt_RY W a b 5040) r → post r (1, yw, o, l, yp, yq, yc, yf, yv, ye)) : ∃ n, wY_trail_33 post (nI a) (nI b) n (-2) 0 1 yw o yl yp yq yc yf yv ye := by
  refine pk_loop (fun n i (s : Int32 × (Nat → Int32)) => wY_trail_33 post (nI a) (nI b) n s.1 (nI i) 1 yw o s.2 yp yq yc yf yv ye) (fun i s => gt_Opt (gt_RY W a b i) s.1) 5040 0 (-2, yl) (by omega) (Or.inl ⟨rfl, fun w ⟨c, hc, _⟩ => by omega⟩) ?_ ?_
  · rintro n ⟨r, l⟩ h
    exact gb_ex 5040 (K l r h)
  · rintro n i ⟨r, l⟩ hi h K2
    dsimp only at h
    have hp := go_pkO hi
    have hO := hp.2
    have skip : ∀ l', ¬ (go_q (go_pk i) 0 = a ∧ go_q (go_pk i) 6 = b ∧ gt_adj W (go_q (go_pk i))) → wY_trail_33 post (nI a) (nI b) n r (nI (i + 1)) 1 yw o l' yp yq yc yf yv ye := by
      intro l' hf
      refine K2 (r, l') (gt_OptC h (fun w => ⟨?_, ?_⟩))
      · rintro ⟨c, h1, h2⟩
        exact ⟨c, by omega, h2⟩
      · rintro ⟨c, h1, h2, h3, h4, h5⟩
        by_cases e : c = i
        · subst e; exact absurd ⟨h2, h3, h4⟩ hf
        · exact ⟨c, by omega, h2, h3, h4, h5⟩
    have b0 := hO.1 0 (by omega)
    have b6 := hO.1 6 (by omega)
    refine gb_hd 5040 hi ⟨vp_in_nI hi (by decide), pk_eq (go_q (go_pk i) 0) a (fun z => ⟨vp_in_nI hi (by decide), pk_eq (go_q (go_pk i) 6) b (fun y => gy_write ho' hi ?_) (fun y => br_t (by decide) (gb_s (skip l (fun c => y c.2.1)))) (by rw [gb_rdn (ho' i hi)]; exact go_q6 hp.1) rfl⟩) (fun z => br_t (by decide) (gb_s (skip l (fun c => z c.1)))) (by rw [gb_rdn (ho' i hi)]; exact go_q0 hp.1) rfl⟩
    intro l' hl'
    dsimp only
    refine gy_along hy G.2.2.1 hO.1 hl' (fun c => br_t (by decide) (gb_s (skip l' (fun d => c d.2.2)))) (fun c => ?_)
    have hs := gt_s54 G.2.2.1 (gt_OP hO (Nat.le_refl 6) c)
    refine br_f (nI_pos (by omega)) ?_
    refine gt_OptB (A := fun r' => ∀ x4, x4 = nI i + 1 → wY_trail_33 post (nI a) (nI b) n r' x4 1 yw o l' yp yq yc yf yv ye) h (w := gt_s W (go_q (go_pk i)) 6) (by omega) rfl ?_
    intro r' hr'
    refine gb_s (K2 (r', l') (gt_OptC hr' (fun w => ⟨?_, ?_⟩)))
    · rintro (⟨c', h1, h2⟩ | e)
      · exact ⟨c', by omega, h2⟩
      · exact ⟨i, by omega, z, y, c, e⟩
    · rintro ⟨c', h1, h2, h3, h4, h5⟩
      by_cases e : c' = i
      · subst e; exact Or.inr h5
      · exact Or.inl ⟨c', by omega, h2, h3, h4, h5⟩
theorem gt_PRY {W : Nat → Nat} {a b : Nat} (w : Nat) : gt_PR W a b w ↔ gt_RY W a b 5040 w := by
  constructor
  · rintro ⟨q, hO, h0, h6, ha, hw⟩
    obtain ⟨c, hc5, e⟩ := go_find hO
    refine ⟨c, hc5, by rw [e 0 (by omega)]; exact h0, by rw [e 6 (by omega)]; exact h6, ?_, ?_⟩
    · intro k hk
      rw [e k (by omega), e (k + 1) (by omega)]
      exact ha k hk
    · rw [gt_sC (r := q) (fun i hi => e i (by omega))]
      exact hw
  · rintro ⟨c, hc, h1, h2, h3, h4⟩
    exact ⟨go_q (go_pk c), (go_pkO hc).2, h1, h2, h3, h4⟩
theorem i_vc_trail {k : Nat} {u : SX} {v : SY} (I : i_Rel k u v) (hk : k + 4 ≤ 2048) (v1 : Int32) (v2 : Int32) : wpX_trail (fun r u' => wpY_trail (fun r' v' => r' = r ∧ i_Rel (k + 4) u' v') v v1 v2) u v1 v2 := by
  obtain ⟨p0, xw, xn, xt, xs, xe, xd, xp, xc⟩ := u
  obtain ⟨r0, yw, yo, yl, yp, yq, yc, yf, yv, ye⟩ := v
  by_cases h1 : gb_vx v1
  · obtain ⟨a, ha, rfl⟩ := h1
    by_cases h2 : gb_vx v2
    · obtain ⟨b, hb, rfl⟩ := h2
      by_cases hab : a = b
      · subst hab
        unfold wpX_trail wpY_trail
        dsimp only
        exact gx_iv1 ha (br_f (by decide) (gx_iv1 ha (br_f (by decide) (br_t rfl (gy_iv1 ha (br_f (by decide) (gy_iv1 ha (br_f (by decide) (br_t rfl ⟨rfl, I⟩)))))))))
      · have hne : ¬ nI a = nI b := fun z => hab ((nI_eq (by omega) (by omega)).mp z)
        obtain ⟨W, B, G, hx, hy, hn, hp, ho⟩ := I
        refine gx_trail G hx hn ha hb hab ?_
        intro e r hr
        unfold wpY_trail
        dsimp only
        refine gy_iv1 ha (br_f (by decide) (gy_iv1 hb (br_f (by decide) (br_f hne (gy_makeOrders ho ?_)))))
        intro o ho'
        dsimp only
        refine gy_trail G hy ho' ha hb ?_
        intro l r' hr'
        exact ⟨gt_OptU hr hr' (fun w => gt_PRY w), W, B, G, hx, hy, hn, hp, Or.inr ⟨rfl, ho'⟩⟩
    · unfold wpX_trail wpY_trail
      dsimp only
      exact gx_iv1 ha (br_f (by decide) (gx_iv0 h2 (br_t rfl (gy_iv1 ha (br_f (by decide) (gy_iv0 h2 (br_t rfl ⟨rfl, I⟩)))))))
  · unfold wpX_trail wpY_trail
    dsimp only
    exact gx_iv0 h1 (br_t rfl (gy_iv0 h1 (br_t rfl ⟨rfl, I⟩)))
/-! longest -/
theorem gy_longest {post : Int32 → SY → Prop} {W B : Nat → Nat} (G : gb_G W B) (hy : ∀ i, i < 49 → yw i = nI (W i)) {o : Nat → Int32} (ho' : ∀ c, c < 5040 → o c = nI (go_pk c)) {a : Nat} (ha : a < 7)
    (K : ∀ l m, (∀ c j, c < 5040 → go_q (go_pk c) 0 = a → gt_far W (go_q (go_pk c)) j → gt_s W (go_q (go_pk c)) j ≤ m) → (m = 0 ∨ ∃ c j, c < 5040 ∧ go_q (go_pk c) 0 = a ∧ gt_far W (go_q (go_pk c)) j ∧ m = gt_s W (go_q (go_pk c)) j) → post (nI m) (1, yw, o, l, yp, yq, yc, yf, yv, ye)) : ∃ n, wY_longest_18 post (nI a) n 0 0 1 yw o yl yp yq yc yf yv ye := by
  refine pk_loop (fun n i (s : Nat × (Nat → Int32)) => wY_longest_18 post (nI a) n (nI s.1) (nI i) 1 yw o s.2 yp yq yc yf yv ye) (fun i s => s.1 ≤ 54 ∧ (∀ c j, c < i → go_q (go_pk c) 0 = a → gt_far W (go_q (go_pk c)) j → gt_s W (go_q (go_pk c)) j ≤ s.1) ∧ (s.1 = 0 ∨ ∃ c j, c < i ∧ go_q (go_pk c) 0 = a ∧ gt_far W (go_q (go_pk c)) j ∧ s.1 = gt_s W (go_q (go_pk c)) j)) 5040 0 (0, yl) (by omega) ⟨Nat.zero_le _, fun c j hc => by omega, Or.inl rfl⟩ ?_ ?_
  · rintro n ⟨m, l⟩ ⟨h0, h1, h2⟩
    exact gb_ex 5040 (K l m h1 h2)
  · rintro n i ⟨m, l⟩ hi ⟨h0, h1, h2⟩ K2
    dsimp only at h0 h1 h2
    have hp := go_pkO hi
    have hO := hp.2
    have b0 := hO.1 0 (by omega)
    have same : ∀ l', (∀ j, go_q (go_pk i) 0 = a → gt_far W (go_q (go_pk i)) j → gt_s W (go_q (go_pk i)) j ≤ m) → wY_longest_18 post (nI a) n (nI m) (nI (i + 1)) 1 yw o l' yp yq yc yf yv ye := by
      intro l' hf
      refine K2 (m, l') ⟨h0, ?_, ?_⟩
      · intro c j hc hc0 hj
        by_cases e : c = i
        · subst e; exact hf j hc0 hj
        · exact h1 c j (by omega) hc0 hj
      · rcases h2 with z | ⟨c, j, hc, h⟩
        · exact Or.inl z
        · exact Or.inr ⟨c, j, by omega, h⟩
    refine gb_hd 5040 hi ⟨vp_in_nI hi (by decide), pk_eq (go_q (go_pk i) 0) a (fun z => gy_write ho' hi ?_) (fun z => gb_s (same l (fun j c _ => absurd c z))) (by rw [gb_rdn (ho' i hi)]; exact go_q0 hp.1) rfl⟩
    intro l' hl'
    dsimp only
    refine gy_farthest hy G.2.2.1 hO.1 hl' ?_
    intro j hj
    have hs := gt_s54 G.2.2.1 (gt_OP hO hj.1 hj.2.1)
    have uniq : ∀ j', gt_far W (go_q (go_pk i)) j' → j' = j := fun j' hj' => Nat.le_antisymm (gt_farU hj' hj) (gt_farU hj hj')
    refine pk_le (gt_s W (go_q (go_pk i)) j) m (fun y => gb_s (same l' (fun j' _ hj' => ?_))) (fun y => gb_s (K2 (_, l') ⟨hs, ?_, Or.inr ⟨i, j, by omega, z, hj, rfl⟩⟩))
    · rw [uniq j' hj']; exact y
    · intro c j' hc hc0 hj'
      dsimp only
      by_cases e : c = i
      · subst e
        rw [uniq j' hj']
        exact Nat.le_refl _
      · have := h1 c j' (by omega) hc0 hj'; omega
theorem gt_sM (W : Nat → Nat) (q : Nat → Nat) (k d : Nat) : gt_s W q k ≤ gt_s W q (k + d) := by
  induction d with
  | zero => exact Nat.le_refl _
  | succ d ih =>
    show _ ≤ gt_s W q (k + d) + _
    omega
theorem gt_farE (W : Nat → Nat) (q : Nat → Nat) {e : Nat} (he : e ≤ 6) (h : ∀ k, k < e → 0 < W (7 * q k + q (k + 1))) : ∃ j, e ≤ j ∧ gt_far W q j := by
  have H : ∀ d e, e + d = 6 → (∀ k, k < e → 0 < W (7 * q k + q (k + 1))) → ∃ j, e ≤ j ∧ gt_far W q j := by
    intro d
    induction d with
    | zero =>
      intro e he h
      have e6 : e = 6 := by omega
      subst e6
      exact ⟨6, Nat.le_refl _, Nat.le_refl _, h, Or.inl rfl⟩
    | succ d ih =>
      intro e he h
      rcases Nat.eq_zero_or_pos (W (7 * q e + q (e + 1))) with z | z
      · exact ⟨e, Nat.le_refl _, by omega, h, Or.inr z⟩
      · obtain ⟨j, h1, h2⟩ := ih (e + 1) (by omega) (fun k hk => by
          by_cases y : k = e
          · subst y; exact z
          · exact h k (by omega))
        exact ⟨j, by omega, h2⟩
  exact H (6 - e) e (by omega) h
theorem i_vc_longest {k : Nat} {u : SX} {v : SY} (I : i_Rel k u v) (hk : k + 4 ≤ 2048) (v1 : Int32) : wpX_longest (fun r u' => wpY_longest (fun r' v' => r' = r ∧ i_Rel (k + 4) u' v') v v1) u v1 := by
  obtain ⟨p0, xw, xn, xt, xs, xe, xd, xp, xc⟩ := u
  obtain ⟨r0, yw, yo, yl, yp, yq, yc, yf, yv, ye⟩ := v
  unfold wpX_longest wpY_longest
  dsimp only
  by_cases h1 : gb_vx v1
  · obtain ⟨a, ha, rfl⟩ := h1
    obtain ⟨W, B, G, hx, hy, hn, hp, ho⟩ := I
    refine gx_iv1 ha (br_f (by decide) (gx_longest G hx hn ha ?_))
    intro e m hm g1 g2
    refine gy_iv1 ha (br_f (by decide) (gy_makeOrders ho ?_))
    intro o ho'
    dsimp only
    refine gy_longest G hy ho' ha ?_
    intro l m' f1 f2
    have e1 : m' ≤ m := by
      rcases f2 with z | ⟨c, j, hc, hc0, hj, z⟩
      · omega
      · have hp := gt_OP (go_pkO hc).2 hj.1 hj.2.1
        rw [hc0] at hp
        have := g1 _ j hp
        omega
    have e2 : m ≤ m' := by
      rcases g2 with z | ⟨q, j, hp, z⟩
      · omega
      · have h6 := gt_e6 hp
        obtain ⟨q', hO, hq'⟩ := gt_fill (6 - j) q j (by omega) ⟨hp.2.1, hp.2.2.2⟩
        obtain ⟨c, hc, ec⟩ := go_find hO
        have ec2 : ∀ i, i ≤ j → go_q (go_pk c) i = q i := fun i hi => (ec i (by omega)).trans (hq' i hi)
        obtain ⟨j', hj1, hj2⟩ := gt_farE W (go_q (go_pk c)) h6 (fun k hk => by
          rw [ec2 k (by omega), ec2 (k + 1) (by omega)]
          exact hp.2.2.1 k hk)
        have h7 := f1 c j' hc (by rw [ec2 0 (by omega)]; exact hp.1) hj2
        have h8 := gt_sM W (go_q (go_pk c)) j (j' - j)
        rw [show j + (j' - j) = j' by omega, gt_sC ec2] at h8
        omega
    exact ⟨congrArg nI (by omega), W, B, G, hx, hy, hn, hp, Or.inr ⟨rfl, ho'⟩⟩
  · exact gx_iv0 h1 (br_t rfl (gy_iv0 h1 (br_t rfl ⟨rfl, I⟩)))
end
end
section
/-! ===== tours: all paths from 0, packed; closed ===== -/
def gn_L : Nat → Nat → Nat → List Nat
  | 0, S, x => if S = 1 ∧ x = 0 then [0] else []
  | m + 1, S, x => if S.testBit x = true ∧ x ≠ 0 then (List.range 7).flatMap (fun y => if (gb_dif S (2 ^ x)).testBit y = true then (gn_L m (gb_dif S (2 ^ x)) y).map (fun p => p + x * 2 ^ (3 * (m + 1))) else []) else []
def gn_all : List Nat := (List.range 6).flatMap (fun i => gn_L 6 127 (i + 1))
def gn_cod : List Nat := ((List.range 5040).filter (fun c => go_q (go_pk c) 0 == 0)).map go_pk
theorem gn_perm : gn_cod.isPerm gn_all = true := by decide +kernel
end
section
/-! ===== tours ===== -/
def gn_v (W : Nat → Nat) (m p : Nat) : Bool := decide (∀ k : Nat, k < m → 0 < W (7 * go_q p k + go_q p (k + 1)))
def gn_c (W : Nat → Nat) (m S x : Nat) : Nat := (gn_L m S x).countP (gn_v W m)
/-- how many paths from 0 have the vertices of S and end at x -/
def gn_N (W : Nat → Nat) (S x : Nat) : Nat := gn_c W (gb_pc S - 1) S x
theorem gn_mem : ∀ m S x p, x < 8 → p ∈ gn_L m S x → p < 2 ^ (3 * (m + 1)) ∧ go_q p m = x ∧ go_q p 0 = 0 := by
  intro m
  induction m with
  | zero =>
    intro S x p hx h
    unfold gn_L at h
    by_cases z : S = 1 ∧ x = 0
    · rw [if_pos z, List.mem_singleton] at h
      subst h
      rw [z.2]
      exact (by decide : 0 < 2 ^ (3 * (0 + 1)) ∧ go_q 0 0 = 0 ∧ go_q 0 0 = 0)
    · rw [if_neg z] at h
      cases h
  | succ m ih =>
    intro S x p hx h
    unfold gn_L at h
    by_cases z : S.testBit x = true ∧ x ≠ 0
    · rw [if_pos z, List.mem_flatMap] at h
      obtain ⟨y, hy, h⟩ := h
      have hy7 := List.mem_range.mp hy
      by_cases w : (gb_dif S (2 ^ x)).testBit y = true
      · rw [if_pos w, List.mem_map] at h
        obtain ⟨p', hp', rfl⟩ := h
        obtain ⟨i1, i2, i3⟩ := ih _ y p' (by omega) hp'
        refine ⟨?_, go_qhi i1 hx, ?_⟩
        · have h3 : (x + 1) * 2 ^ (3 * (m + 1)) ≤ 8 * 2 ^ (3 * (m + 1)) := Nat.mul_le_mul_right _ hx
          have e : 2 ^ (3 * (m + 1 + 1)) = 8 * 2 ^ (3 * (m + 1)) := by
            rw [show 3 * (m + 1 + 1) = 3 + 3 * (m + 1) by omega, Nat.pow_add]
          rw [e]
          rw [Nat.add_mul, Nat.one_mul] at h3
          omega
        · rw [go_qlo (by omega)]; exact i3
      · rw [if_neg w] at h
        cases h
    · rw [if_neg z] at h
      cases h
theorem gn_cs (W : Nat → Nat) (m S x : Nat) (hx : x < 7) : gn_c W (m + 1) S x = if S.testBit x = true ∧ x ≠ 0 then gb_sum (fun y => if (gb_dif S (2 ^ x)).testBit y = true ∧ 0 < W (7 * y + x) then gn_c W m (gb_dif S (2 ^ x)) y else 0) 7 else 0 := by
  have e0 : gn_c W (m + 1) S x = (if S.testBit x = true ∧ x ≠ 0 then (List.range 7).flatMap (fun y => if (gb_dif S (2 ^ x)).testBit y = true then (gn_L m (gb_dif S (2 ^ x)) y).map (fun p => p + x * 2 ^ (3 * (m + 1))) else []) else []).countP (gn_v W (m + 1)) := by
    unfold gn_c
    rw [gn_L]
  rw [e0]
  by_cases z : S.testBit x = true ∧ x ≠ 0
  · rw [if_pos z, if_pos z, gb_lsF, gb_lsR]
    apply gb_sumC
    intro y hy
    by_cases w : (gb_dif S (2 ^ x)).testBit y = true
    · rw [if_pos w, List.countP_map]
      have key : ∀ p, p ∈ gn_L m (gb_dif S (2 ^ x)) y → (gn_v W (m + 1) (p + x * 2 ^ (3 * (m + 1))) = true ↔ (gn_v W m p = true ∧ 0 < W (7 * y + x))) := by
        intro p hp
        obtain ⟨i1, i2, i3⟩ := gn_mem m _ y p (by omega) hp
        unfold gn_v
        rw [decide_eq_true_iff, decide_eq_true_iff]
        have lo : ∀ k, k ≤ m → go_q (p + x * 2 ^ (3 * (m + 1))) k = go_q p k := fun k hk => go_qlo (by omega)
        have hi : go_q (p + x * 2 ^ (3 * (m + 1))) (m + 1) = x := go_qhi i1 (by omega)
        constructor
        · intro h
          refine ⟨?_, ?_⟩
          · intro k hk
            have := h k (by omega)
            rw [lo k (by omega), lo (k + 1) (by omega)] at this
            exact this
          · have := h m (by omega)
            rw [lo m (Nat.le_refl _), hi, i2] at this
            exact this
        · rintro ⟨h1, h2⟩ k hk
          by_cases e : k = m
          · rw [e, lo m (Nat.le_refl _), hi, i2]
            exact h2
          · rw [lo k (by omega), lo (k + 1) (by omega)]
            exact h1 k (by omega)
      by_cases v : 0 < W (7 * y + x)
      · rw [if_pos ⟨w, v⟩]
        apply List.countP_congr
        intro p hp
        exact (key p hp).trans ⟨fun h => h.1, fun h => ⟨h, v⟩⟩
      · rw [if_neg (fun c => v c.2)]
        apply List.countP_eq_zero.mpr
        intro p hp h
        exact v ((key p hp).mp h).2
    · rw [if_neg w, if_neg (fun c => w c.1)]
      rfl
  · rw [if_neg z, if_neg z]
    rfl
theorem gn_c0 (W : Nat → Nat) (S x : Nat) : gn_c W 0 S x = if S = 1 ∧ x = 0 then 1 else 0 := by
  unfold gn_c
  rw [gn_L]
  by_cases z : S = 1 ∧ x = 0
  · rw [if_pos z, if_pos z]
    have : gn_v W 0 0 = true := by
      unfold gn_v
      rw [decide_eq_true_iff]
      intro k hk
      omega
    rw [List.countP_singleton, this]
    rfl
  · rw [if_neg z, if_neg z]; rfl
theorem gn_odd (W : Nat → Nat) : ∀ m S x, x < 7 → S.testBit 0 = false → gn_c W m S x = 0 := by
  intro m
  induction m with
  | zero =>
    intro S x hx h
    rw [gn_c0, if_neg]
    rintro ⟨z, _⟩
    rw [z] at h
    cases h
  | succ m ih =>
    intro S x hx h
    rw [gn_cs W m S x hx]
    by_cases z : S.testBit x = true ∧ x ≠ 0
    · rw [if_pos z]
      apply gb_sum0
      intro y hy
      have h2 : (gb_dif S (2 ^ x)).testBit 0 = false := by
        rw [gb_delT _ _ (by omega), h]; rfl
      rw [ih _ y hy h2]
      by_cases w : (gb_dif S (2 ^ x)).testBit y = true ∧ 0 < W (7 * y + x)
      · rw [if_pos w]
      · rw [if_neg w]
    · rw [if_neg z]
theorem gn_cB (W : Nat → Nat) : ∀ m S x, x < 7 → gn_c W m S x ≤ 7 ^ m := by
  intro m
  induction m with
  | zero =>
    intro S x _
    rw [gn_c0]
    by_cases z : S = 1 ∧ x = 0
    · rw [if_pos z]; exact Nat.le_refl _
    · rw [if_neg z]; exact Nat.zero_le _
  | succ m ih =>
    intro S x hx
    rw [gn_cs W m S x hx]
    by_cases z : S.testBit x = true ∧ x ≠ 0
    · rw [if_pos z]
      have := gb_sumB (n := 7) (c := 7 ^ m) (f := fun y => if (gb_dif S (2 ^ x)).testBit y = true ∧ 0 < W (7 * y + x) then gn_c W m (gb_dif S (2 ^ x)) y else 0) (fun y hy => by
        by_cases w : (gb_dif S (2 ^ x)).testBit y = true ∧ 0 < W (7 * y + x)
        · rw [if_pos w]; exact ih _ y hy
        · rw [if_neg w]; exact Nat.zero_le _)
      rw [Nat.pow_succ, Nat.mul_comm]
      exact this
    · rw [if_neg z]; exact Nat.zero_le _
theorem gn_NB (W : Nat → Nat) {S x : Nat} (hS : S < 128) (hx : x < 7) : gn_N W S x ≤ 117649 := by
  have h1 := gn_cB W (gb_pc S - 1) S x hx
  have h2 := gb_pcLe S hS
  have h3 : 7 ^ (gb_pc S - 1) ≤ 7 ^ 6 := Nat.pow_le_pow_right (by decide) (by omega)
  have h4 : (7 : Nat) ^ 6 = 117649 := by decide
  unfold gn_N
  omega
/-- a set of one vertex -/
theorem gn_one : ∀ S, S < 128 → ∀ x, x < 7 → S.testBit x = true → gb_pc S = 1 → S = 2 ^ x := by decide +kernel
theorem gn_pcPos {S x : Nat} (hS : S < 128) (hx : x < 7) (h : S.testBit x = true) : 1 ≤ gb_pc S := by
  have := gb_pcDel S hS x hx h
  omega
theorem gn_Nno (W : Nat → Nat) {S x : Nat} (hx : x < 7) (h : S.testBit x = false) : gn_N W S x = 0 := by
  unfold gn_N
  cases e : gb_pc S - 1 with
  | zero =>
    rw [gn_c0, if_neg]
    rintro ⟨z1, z2⟩
    rw [z1, z2] at h
    cases h
  | succ m =>
    rw [gn_cs W m S x hx, if_neg]
    rintro ⟨z, _⟩
    rw [h] at z
    cases z
theorem gn_Nst (W : Nat → Nat) {T x : Nat} (hT : T < 128) (hx : x < 7) (h0 : T.testBit 0 = true) (h : T.testBit x = false) : gn_N W (T ||| 2 ^ x) x = gb_sum (fun y => if 0 < W (7 * y + x) then gn_N W T y else 0) 7 := by
  have hp := gb_pcIns T hT x hx h
  have hq := gn_pcPos hT (by omega) h0
  have hx0 : x ≠ 0 := fun z => by rw [z, h0] at h; cases h
  unfold gn_N
  rw [hp, show gb_pc T + 1 - 1 = gb_pc T - 1 + 1 by omega, gn_cs W _ _ x hx, gb_delIns hT hx h, if_pos ⟨by rw [gb_insT]; simp, hx0⟩]
  apply gb_sumC
  intro y hy
  by_cases v : 0 < W (7 * y + x)
  · rw [if_pos v]
    cases w : T.testBit y
    · rw [if_neg (fun c => by have := c.1; cases this)]
      exact (gn_Nno W hy w).symm
    · rw [if_pos ⟨rfl, v⟩]
  · rw [if_neg v, if_neg (fun c => v c.2)]
/-- nothing comes from a set without 0 -/
theorem gn_Nev (W : Nat → Nat) {T x : Nat} (hT : T < 128) (hT0 : 0 < T) (hx : x < 7) (h0 : T.testBit 0 = false) (h : T.testBit x = false) : gn_N W (T ||| 2 ^ x) x = 0 := by
  by_cases hx0 : x = 0
  · subst hx0
    have hp := gb_pcIns T hT 0 hx h
    have hq : 1 ≤ gb_pc T := by
      obtain ⟨l1, l2, _⟩ := gb_loS T hT hT0
      exact gn_pcPos hT l1 l2
    unfold gn_N
    rw [hp, show gb_pc T + 1 - 1 = gb_pc T - 1 + 1 by omega, gn_cs W _ _ 0 hx, if_neg (fun c => c.2 rfl)]
  · apply gn_odd W _ _ x hx
    rw [gb_insT, h0, decide_eq_false hx0]
    rfl
/-- the table when the sets below T are done -/
def gn_F (W : Nat → Nat) (T S x : Nat) : Nat := if S.testBit x = true ∧ gb_dif S (2 ^ x) < T then gn_N W S x else 0
theorem gn_ins {S T x : Nat} (hS : S < 128) (hT : T < 128) (hx : x < 7) : (S.testBit x = true ∧ gb_dif S (2 ^ x) = T) ↔ (T.testBit x = false ∧ S = T ||| 2 ^ x) := by
  constructor
  · rintro ⟨h1, h2⟩
    refine ⟨?_, ?_⟩
    · rw [← h2, gb_delT _ _ (by omega)]; simp
    · rw [← h2, gb_insDel hS hx h1]
  · rintro ⟨h1, h2⟩
    refine ⟨?_, ?_⟩
    · rw [h2, gb_insT]; simp
    · rw [h2, gb_delIns hT hx h1]
section
variable {p0 : Int32} {xw xn xt xs xe xd xp xc : Nat → Int32} {r0 : Int32} {yw yo yl yp yq yc yf yv ye : Nat → Int32}
theorem gx_growCounts {post : SX → Prop} {W B : Nat → Nat} (G : gb_G W B) (hn : ∀ i, i < 7 → xn i = nI (B i)) {E : Nat → Nat} (he : ∀ i, i < 896 → xe i = nI (E i)) {T v : Nat} (hT : T < 128) (hv : v < 7)
    (K : ∀ (e' : Nat → Int32) (E' : Nat → Nat), (∀ i, i < 896 → e' i = nI (E' i)) → (∀ S x, S < 128 → x < 7 → E' (7 * S + x) = E (7 * S + x) + (if T.testBit x = false ∧ S = T ||| 2 ^ x ∧ 0 < W (7 * v + x) then E (7 * T + v) else 0)) → post (p0, xw, xn, xt, xs, e', xd, xp, xc)) : wpX_growCounts post (p0, xw, xn, xt, xs, xe, xd, xp, xc) (nI T) (nI v) := by
  have hB := G.2.2.2.1 v hv
  refine pk_loop (fun n i (s : (Nat → Int32)) => wX_growCounts_2 post (nI T) (nI v) p0 n (nI i) xw xn xt xs s xd xp xc) (fun i s => ∃ E' : Nat → Nat, (∀ i, i < 896 → s i = nI (E' i)) ∧ ∀ S x, S < 128 → x < 7 → E' (7 * S + x) = E (7 * S + x) + (if x < i ∧ T.testBit x = false ∧ S = T ||| 2 ^ x ∧ 0 < W (7 * v + x) then E (7 * T + v) else 0)) 7 0 xe (by omega) ⟨E, he, fun S x _ _ => by rw [if_neg (fun c => by omega)]; rfl⟩ ?_ ?_
  · rintro n s ⟨E', h1, h2⟩
    refine gb_ex 7 (K s E' h1 ?_)
    intro S x hS hx
    rw [h2 S x hS hx]
    by_cases c : T.testBit x = false ∧ S = T ||| 2 ^ x ∧ 0 < W (7 * v + x)
    · rw [if_pos c, if_pos ⟨hx, c⟩]
    · rw [if_neg c, if_neg (fun d => c d.2)]
  · rintro n i s hi ⟨E', h1, h2⟩ K2
    have hbit : (gb_dif (B v) T).testBit i = (decide (0 < W (7 * v + i)) && !T.testBit i) := by
      rw [gb_difT _ _ (by omega), G.2.2.2.2 v i hv hi]
    have hd : gb_dif (B v) T < 128 := gb_difLt hB
    refine gb_hd 7 hi ⟨vp_in_nI hv (by decide), gx_in (gb_dif (B v) T) i (fun z => gb_s (K2 s ⟨E', h1, ?_⟩)) (fun z => ?_) (by rw [gb_rdn (hn v hv), gb_difI]) rfl⟩
    · intro S x hS hx
      rw [h2 S x hS hx]
      by_cases c : x < i ∧ T.testBit x = false ∧ S = T ||| 2 ^ x ∧ 0 < W (7 * v + x)
      · rw [if_pos c, if_pos ⟨by omega, c.2⟩]
      · rw [if_neg c, if_neg]
        rintro ⟨d1, d2, d3, d4⟩
        by_cases e : x = i
        · subst e
          rw [hbit, d2, decide_eq_true d4] at z
          cases z
        · exact c ⟨by omega, d2, d3, d4⟩
    · rw [hbit, Bool.and_eq_true, Bool.not_eq_true'] at z
      have z1 := of_decide_eq_true z.1
      have z2 := z.2
      have hTu := gb_insLt hT hi
      have hgt := gb_insGt z2
      have eat : ((7 : Int32) * (nI T ||| ((1 : Int32) <<< (nI i &&& 31)))) + nI i = nI (7 * (T ||| 2 ^ i) + i) := by
        rw [gb_insI (by omega), gb_ix]
      have ev : E' (7 * T + v) = E (7 * T + v) := by
        rw [h2 T v hT hv, if_neg]
        · rfl
        · rintro ⟨_, d2, d3, _⟩
          have := gb_insGt d2
          omega
      refine ⟨pk_in _ 896 (by omega) eat, pk_in _ 896 (by omega) (gb_ix T v), pk_in _ 896 (by omega) eat, nm_r (e' := upd s (7 * (T ||| 2 ^ i) + i) (nI (E' (7 * (T ||| 2 ^ i) + i) + E (7 * T + v)))) ?_ (gb_s (K2 _ ⟨fun j => if j = 7 * (T ||| 2 ^ i) + i then E' (7 * (T ||| 2 ^ i) + i) + E (7 * T + v) else E' j, ?_, ?_⟩))⟩
      · rw [gb_rd (h1 _ (by omega)) eat, gb_rd (h1 (7 * T + v) (by omega)) (gb_ix T v), nI_add, ev]
        exact gb_ud eat
      · intro j hj
        by_cases y2 : j = 7 * (T ||| 2 ^ i) + i
        · rw [y2, pk_us]
          show _ = nI (if _ then _ else _)
          rw [if_pos rfl]
        · rw [pk_un y2]
          show _ = nI (if _ then _ else _)
          rw [if_neg y2]
          exact h1 j hj
      · intro S x hS hx
        dsimp only
        by_cases y2 : 7 * S + x = 7 * (T ||| 2 ^ i) + i
        · have e1 : S = T ||| 2 ^ i := by omega
          have e2 : x = i := by omega
          subst e1 e2
          rw [if_pos rfl, h2 _ x hS hx, if_neg (fun c => by omega), if_pos ⟨by omega, z2, rfl, z1⟩]
          omega
        · rw [if_neg y2, h2 S x hS hx]
          by_cases c : x < i ∧ T.testBit x = false ∧ S = T ||| 2 ^ x ∧ 0 < W (7 * v + x)
          · rw [if_pos c, if_pos ⟨by omega, c.2⟩]
          · rw [if_neg c, if_neg]
            rintro ⟨d1, d2, d3, d4⟩
            by_cases e : x = i
            · subst e
              exact y2 (by rw [d3])
            · exact c ⟨by omega, d2, d3, d4⟩
/-- the table in the midst of the set T: its vertices below v are done -/
def gn_H (W : Nat → Nat) (T v S x : Nat) : Nat := gn_F W T S x + (if T.testBit x = false ∧ S = T ||| 2 ^ x then gb_sum (fun y => if 0 < W (7 * y + x) then gn_N W T y else 0) v else 0)
theorem gx_to41 {post : Int32 → SX → Prop} {J : Int32 → Int32 → (Nat → Int32) → (Nat → Int32) → (Nat → Int32) → (Nat → Int32) → (Nat → Int32) → (Nat → Int32) → (Nat → Int32) → (Nat → Int32) → Prop} {W B : Nat → Nat} (G : gb_G W B) (hn : ∀ i, i < 7 → xn i = nI (B i)) {T : Nat} (hT : T + 1 < 128 + 1) (hodd : T.testBit 0 = true) {E : Nat → Nat} (he : ∀ i, i < 896 → xe i = nI (E i)) (hE : ∀ S x, S < 128 → x < 7 → E (7 * S + x) = gn_F W T S x)
    (K : ∀ (e' : Nat → Int32) (E' : Nat → Nat), (∀ i, i < 896 → e' i = nI (E' i)) → (∀ S x, S < 128 → x < 7 → E' (7 * S + x) = gn_F W (T + 1) S x) → J (nI (T + 2)) p0 xw xn xt xs e' xd xp xc) : ∃ n, wX_tours_41 post J (nI T) n 0 p0 xw xn xt xs xe xd xp xc := by
  have hT128 : T < 128 := by omega
  refine pk_loop (fun n v (e : Nat → Int32) => wX_tours_41 post J (nI T) n (nI v) p0 xw xn xt xs e xd xp xc) (fun v e => ∃ E' : Nat → Nat, (∀ i, i < 896 → e i = nI (E' i)) ∧ ∀ S x, S < 128 → x < 7 → E' (7 * S + x) = gn_H W T v S x) 7 0 xe (by omega) ⟨E, he, ?_⟩ ?_ ?_
  · intro S x hS hx
    rw [hE S x hS hx]
    unfold gn_H
    by_cases c : T.testBit x = false ∧ S = T ||| 2 ^ x
    · rw [if_pos c]; rfl
    · rw [if_neg c]; rfl
  · rintro n e ⟨E', h1, h2⟩
    have e2 : nI T + 2 = nI (T + 2) := nI_add T 2
    refine gb_ex 7 (nm_r e2 (K e E' h1 ?_))
    intro S x hS hx
    rw [h2 S x hS hx]
    unfold gn_H gn_F
    by_cases c : T.testBit x = false ∧ S = T ||| 2 ^ x
    · rw [if_pos c]
      have c2 := (gn_ins hS hT128 hx).mpr c
      rw [if_neg (fun d => by have := d.2; omega), if_pos ⟨c2.1, by omega⟩, Nat.zero_add, c.2]
      exact (gn_Nst W hT128 hx hodd c.1).symm
    · rw [if_neg c, Nat.add_zero]
      by_cases d : S.testBit x = true ∧ gb_dif S (2 ^ x) < T
      · rw [if_pos d, if_pos ⟨d.1, by omega⟩]
      · rw [if_neg d, if_neg]
        rintro ⟨d1, d2⟩
        by_cases d3 : gb_dif S (2 ^ x) = T
        · exact c ((gn_ins hS hT128 hx).mp ⟨d1, d3⟩)
        · exact d ⟨d1, by omega⟩
  · rintro n v e hv ⟨E', h1, h2⟩ K2
    have hEv : E' (7 * T + v) = gn_N W T v := by
      rw [h2 T v hT128 hv]
      unfold gn_H gn_F
      rw [if_neg (show ¬ (T.testBit v = false ∧ T = T ||| 2 ^ v) from fun c => by have := gb_insGt c.1; omega), Nat.add_zero]
      cases z : T.testBit v
      · rw [if_neg (fun c => by have := c.1; cases this)]
        exact (gn_Nno W hv z).symm
      · rw [if_pos ⟨rfl, gb_delLt hv z⟩]
    have hNB := gn_NB W hT128 hv
    have er : e (((7 : Int32) * nI T) + nI v).toNatClampNeg = nI (gn_N W T v) := by
      rw [← hEv]
      exact gb_rd (h1 _ (by omega)) (gb_ix T v)
    refine gb_hd 7 hv ⟨pk_in _ 896 (by omega) (gb_ix T v), pk_le (gn_N W T v) 0 (fun z => gb_s (K2 e ⟨E', h1, ?_⟩)) (fun z => gx_growCounts G hn h1 hT128 hv ?_) er rfl⟩
    · intro S x hS hx
      rw [h2 S x hS hx]
      unfold gn_H
      apply congrArg
      by_cases c : T.testBit x = false ∧ S = T ||| 2 ^ x
      · rw [if_pos c, if_pos c]
        show _ = gb_sum _ v + (if 0 < W (7 * v + x) then gn_N W T v else 0)
        have : (if 0 < W (7 * v + x) then gn_N W T v else 0) = 0 := by
          by_cases y : 0 < W (7 * v + x)
          · rw [if_pos y]; omega
          · rw [if_neg y]
        rw [this]
        rfl
      · rw [if_neg c, if_neg c]
    · intro e' E'' g1 g2
      dsimp only
      refine gb_s (K2 e' ⟨E'', g1, ?_⟩)
      intro S x hS hx
      rw [g2 S x hS hx, h2 S x hS hx, hEv]
      unfold gn_H
      by_cases c : T.testBit x = false ∧ S = T ||| 2 ^ x
      · rw [if_pos c, if_pos c]
        show _ = _ + (gb_sum _ v + (if 0 < W (7 * v + x) then gn_N W T v else 0))
        by_cases y : 0 < W (7 * v + x)
        · rw [if_pos y, if_pos ⟨c.1, c.2, y⟩, Nat.add_assoc]
        · rw [if_neg y, if_neg (fun d => y d.2.2), Nat.add_zero]
          rfl
      · rw [if_neg c, if_neg c, if_neg (fun d => c ⟨d.1, d.2.1⟩)]
def gn_sum (W : Nat → Nat) (i : Nat) : Nat := if 0 < W (i + 1) then gn_N W 127 (i + 1) else 0
theorem gx_tours {post : Int32 → SX → Prop} {W B : Nat → Nat} (G : gb_G W B) (hn : ∀ i, i < 7 → xn i = nI (B i)) (K : ∀ e, post (nI (gb_sum (gn_sum W) 6 / 2)) (p0, xw, xn, xt, xs, e, xd, xp, xc)) : wpX_tours post (p0, xw, xn, xt, xs, xe, xd, xp, xc) := by
  refine pk_loop (fun n i (e : Nat → Int32) => wX_tours_2 post p0 n (nI i) xw xn xt xs e xd xp xc) (fun i e => ∀ k, k < i → e k = 0) 896 0 xe (by omega) (fun k hk => by omega) ?_ ?_
  · intro n e he
    refine gb_ex 896 (nm_e ?_)
    have start : ∀ S x, S < 128 → x < 7 → (fun k => if k = 7 then 1 else 0) (7 * S + x) = gn_F W 1 S x := by
      intro S x hS hx
      dsimp only
      unfold gn_F
      by_cases c : S.testBit x = true ∧ gb_dif S (2 ^ x) < 1
      · rw [if_pos c]
        have hd : gb_dif S (2 ^ x) = 0 := by omega
        have hpc := gb_pcDel S hS x hx c.1
        rw [hd] at hpc
        have h0 : gb_pc 0 = 0 := by decide
        have hp1 : gb_pc S = 1 := by omega
        have hS2 := gn_one S hS x hx c.1 hp1
        unfold gn_N
        rw [hp1, gn_c0]
        by_cases d : S = 1 ∧ x = 0
        · rw [if_pos d, if_pos (by omega)]
        · rw [if_neg d, if_neg]
          intro z
          have e1 : S = 1 := by omega
          have e2 : x = 0 := by omega
          exact d ⟨e1, e2⟩
      · rw [if_neg c, if_neg]
        intro z
        have e1 : S = 1 := by omega
        have e2 : x = 0 := by omega
        subst e1 e2
        exact c (by decide)
    have H : ∃ n, wX_tours_32 post n (nI (2 * 0 + 1)) p0 xw xn xt xs (upd e 7 1) xd xp xc := by
      refine pk_loop (fun n i (e : Nat → Int32) => wX_tours_32 post n (nI (2 * i + 1)) p0 xw xn xt xs e xd xp xc) (fun i e => ∃ E : Nat → Nat, (∀ k, k < 896 → e k = nI (E k)) ∧ ∀ S x, S < 128 → x < 7 → E (7 * S + x) = gn_F W (2 * i + 1) S x) 64 0 _ (by omega) ⟨fun k => if k = 7 then 1 else 0, ?_, start⟩ ?_ ?_
      · intro k hk
        by_cases z : k = 7
        · rw [z, pk_us]
          rfl
        · rw [pk_un z, he k hk]
          show (0 : Int32) = nI (if k = 7 then 1 else 0)
          rw [if_neg z]
          rfl
      · rintro n e ⟨E, h1, h2⟩
        refine br_t (by decide) ?_
        have hE : ∀ v, v < 7 → E (889 + v) = gn_N W 127 v := by
          intro v hv
          rw [show 889 + v = 7 * 127 + v by omega, h2 127 v (by omega) hv]
          unfold gn_F
          have hb : Nat.testBit 127 v = true := (by decide : ∀ v, v < 7 → Nat.testBit 127 v = true) v hv
          have hd : gb_dif 127 (2 ^ v) ≤ 127 := gb_difLe _ _
          rw [if_pos ⟨hb, by omega⟩]
        refine pk_loop (fun n i (a : Nat) => wX_tours_83 post p0 xw xn xt xs e xd xp xc n (nI a) (nI i)) (fun i a => ∃ j, i = j + 1 ∧ a = gb_sum (gn_sum W) j) 7 1 0 (by omega) ⟨0, rfl, rfl⟩ ?_ ?_
        · rintro n a ⟨j, hj, rfl⟩
          have e6 : j = 6 := by omega
          subst e6
          refine gb_ex 7 ⟨gb_n2, ?_⟩
          have hb : gb_sum (gn_sum W) 6 ≤ 6 * 117649 := gb_sumB (fun i hi => by
            unfold gn_sum
            by_cases z : 0 < W (i + 1)
            · rw [if_pos z]; exact gn_NB W (by omega) (by omega)
            · rw [if_neg z]; exact Nat.zero_le _)
          have e2 : nI (gb_sum (gn_sum W) 6) / 2 = nI (gb_sum (gn_sum W) 6 / 2) := pk_div (d := 2) (by omega) (by decide) (by decide)
          rw [e2]
          exact K e
        · rintro n i a hi ⟨j, rfl, rfl⟩ K2
          have eix : (889 : Int32) + nI (j + 1) = nI (889 + (j + 1)) := nI_add 889 (j + 1)
          have hbit : (B 0).testBit (j + 1) = decide (0 < W (j + 1)) := by
            rw [G.2.2.2.2 0 (j + 1) (by omega) hi, Nat.mul_zero, Nat.zero_add]
          have hB0 := G.2.2.2.1 0 (by omega)
          refine gb_hd 7 hi (gx_in (B 0) (j + 1) (fun z => gb_s (K2 _ ⟨j + 1, rfl, ?_⟩)) (fun z => ⟨pk_in _ 896 (by omega) eix, nm_r (e' := nI (gb_sum (gn_sum W) (j + 1))) ?_ (gb_s (K2 _ ⟨j + 1, rfl, rfl⟩))⟩) (hn 0 (by omega)) rfl)
          · rw [hbit] at z
            show _ = gb_sum (gn_sum W) j + gn_sum W j
            unfold gn_sum
            rw [if_neg (of_decide_eq_false z)]
            rfl
          · rw [hbit] at z
            rw [gb_rd (h1 _ (by omega)) eix, hE (j + 1) hi, nI_add]
            apply congrArg
            show _ = gb_sum (gn_sum W) j + gn_sum W j
            apply congrArg
            unfold gn_sum
            rw [if_pos (of_decide_eq_true z)]
      · rintro n i e hi ⟨E, h1, h2⟩ K2
        have hodd : (2 * i + 1).testBit 0 = true := by
          rw [Nat.testBit_zero]
          exact decide_eq_true (by omega)
        refine gb_hd 128 (by omega) (gx_to41 G hn (by omega) hodd h1 h2 ?_)
        intro e' E' g1 g2
        refine K2 e' ⟨E', g1, ?_⟩
        intro S x hS hx
        rw [g2 S x hS hx]
        -- the even set in between gives nothing
        unfold gn_F
        by_cases d : S.testBit x = true ∧ gb_dif S (2 ^ x) < 2 * i + 1 + 1
        · rw [if_pos d, if_pos ⟨d.1, by omega⟩]
        · rw [if_neg d]
          by_cases d2 : S.testBit x = true ∧ gb_dif S (2 ^ x) < 2 * (i + 1) + 1
          · rw [if_pos d2]
            have hd : gb_dif S (2 ^ x) = 2 * i + 2 := by
              have : ¬ gb_dif S (2 ^ x) < 2 * i + 1 + 1 := fun c => d ⟨d2.1, c⟩
              omega
            have hT : 2 * i + 2 < 128 := by
              have := gb_difLt (t := 2 ^ x) hS
              omega
            obtain ⟨c1, c2⟩ := (gn_ins hS hT hx).mp ⟨d2.1, hd⟩
            rw [c2]
            refine (gn_Nev W hT (by omega) hx ?_ c1).symm
            rw [Nat.testBit_zero]
            exact decide_eq_false (by omega)
          · rw [if_neg d2]
    exact H
  · intro n i e hi h K2
    exact gb_hd 896 hi ⟨vp_in_nI hi (by decide), nm_r gb_udn (gb_s (K2 _ (gb_fill (f := fun _ => 0) h rfl)))⟩
/-! the two counts -/
def gn_P (W : Nat → Nat) (p : Nat) : Bool := gn_v W 6 p && decide (0 < W (7 * go_q p 6 + go_q p 0))
theorem gn_eq {W B : Nat → Nat} (G : gb_G W B) : (List.range 5040).countP (gt_tc W) = gb_sum (gn_sum W) 6 := by
  have e1 : (List.range 5040).countP (gt_tc W) = gn_cod.countP (gn_P W) := by
    unfold gn_cod
    rw [List.countP_map, List.countP_filter]
    apply List.countP_congr
    intro c _
    unfold gt_tc gn_P gn_v gt_adjB
    simp only [Function.comp, Bool.and_eq_true, decide_eq_true_iff, beq_iff_eq]
    exact ⟨fun h => ⟨h.2, h.1⟩, fun h => ⟨h.2, h.1⟩⟩
  rw [e1, (List.isPerm_iff.mp gn_perm).countP_eq]
  unfold gn_all
  rw [gb_lsF, gb_lsR]
  apply gb_sumC
  intro i hi
  unfold gn_sum gn_N gn_c
  have h7 : gb_pc 127 - 1 = 6 := by decide
  rw [h7]
  have key : ∀ p, p ∈ gn_L 6 127 (i + 1) → (gn_P W p = true ↔ (gn_v W 6 p = true ∧ 0 < W (i + 1))) := by
    intro p hp
    obtain ⟨_, i2, i3⟩ := gn_mem 6 127 (i + 1) p (by omega) hp
    unfold gn_P
    rw [Bool.and_eq_true, decide_eq_true_iff, i2, i3, G.1 (i + 1) 0 (by omega) (by omega), Nat.mul_zero, Nat.zero_add]
  by_cases z : 0 < W (i + 1)
  · rw [if_pos z]
    apply List.countP_congr
    intro p hp
    exact (key p hp).trans ⟨fun h => h.1, fun h => ⟨h, z⟩⟩
  · rw [if_neg z]
    apply List.countP_eq_zero.mpr
    intro p hp h
    exact z ((key p hp).mp h).2
theorem i_vc_tours {k : Nat} {u : SX} {v : SY} (I : i_Rel k u v) (hk : k + 4 ≤ 2048) : wpX_tours (fun r u' => wpY_tours (fun r' v' => r' = r ∧ i_Rel (k + 4) u' v') v) u := by
  obtain ⟨p0, xw, xn, xt, xs, xe, xd, xp, xc⟩ := u
  obtain ⟨r0, yw, yo, yl, yp, yq, yc, yf, yv, ye⟩ := v
  obtain ⟨W, B, G, hx, hy, hn, hp, ho⟩ := I
  refine gx_tours G hn ?_
  intro e
  unfold wpY_tours
  dsimp only
  refine gy_goRound G hy ho true ?_
  intro o l n r' ho' hc _
  dsimp only
  refine ⟨?_, W, B, G, hx, hy, hn, hp, Or.inr ⟨rfl, ho'⟩⟩
  rw [hc, gn_eq G]
  rfl
end
end
section
/-! ===== link: connected sets, the exchange of an edge ===== -/
/-- edges of the graph within s -/
def gv_E (W : Nat → Nat) (F : List (Nat × Nat)) (s : Nat) : Prop := ∀ e, e ∈ F → e.1 < 7 ∧ e.2 < 7 ∧ 0 < W (7 * e.1 + e.2) ∧ s.testBit e.1 = true ∧ s.testBit e.2 = true
def gv_w (W : Nat → Nat) (F : List (Nat × Nat)) : Nat := gb_ls (fun e => W (7 * e.1 + e.2)) F
/-- e leads across S -/
def gv_x (S : Nat → Prop) (e : Nat × Nat) : Prop := (S e.1 ∧ ¬ S e.2) ∨ (¬ S e.1 ∧ S e.2)
/-- the edges of F connect s -/
def gv_C (F : List (Nat × Nat)) (s : Nat) : Prop := ∀ S : Nat → Prop, (∃ x, x < 7 ∧ s.testBit x = true ∧ S x) → (∃ y, y < 7 ∧ s.testBit y = true ∧ ¬ S y) → ∃ e, e ∈ F ∧ gv_x S e
/-- they connect it once A is connected -/
def gv_CA (A : Nat) (F : List (Nat × Nat)) (s : Nat) : Prop := ∀ S : Nat → Prop, (∀ x, x < 7 → A.testBit x = true → S x) → (∃ y, y < 7 ∧ s.testBit y = true ∧ ¬ S y) → ∃ e, e ∈ F ∧ gv_x S e
theorem gv_CtoA {A s r : Nat} {F : List (Nat × Nat)} (h : gv_C F s) (hr : r < 7) (hA : A.testBit r = true) (hs : s.testBit r = true) : gv_CA A F s := fun S h1 h2 => h S ⟨r, hr, hs, h1 r hr hA⟩ h2
theorem gv_nx {S : Nat → Prop} {e : Nat × Nat} (h : ¬ gv_x S e) : S e.1 ↔ S e.2 := by
  constructor
  · intro h1
    apply Classical.byContradiction
    intro h2
    exact h (Or.inl ⟨h1, h2⟩)
  · intro h1
    apply Classical.byContradiction
    intro h2
    exact h (Or.inr ⟨h2, h1⟩)
theorem gv_exch {A s b : Nat} {F : List (Nat × Nat)} (h : gv_CA A F s) (hF : ∀ e, e ∈ F → e.1 < 7 ∧ e.2 < 7) (hb : b < 7) (hbs : s.testBit b = true) (hbA : A.testBit b = false) :
    ∃ F1 f F2, F = F1 ++ f :: F2 ∧ ((A.testBit f.1 = true ∧ A.testBit f.2 = false) ∨ (A.testBit f.1 = false ∧ A.testBit f.2 = true)) ∧ gv_CA (A ||| 2 ^ b) (F1 ++ F2) s := by
  -- what b reaches without A
  let Z : Nat → Prop := fun y => ∀ S : Nat → Prop, S b → (∀ e, e ∈ F → A.testBit e.1 = false → A.testBit e.2 = false → (S e.1 ↔ S e.2)) → S y
  have Zb : Z b := fun S h1 _ => h1
  have Zc : ∀ e, e ∈ F → A.testBit e.1 = false → A.testBit e.2 = false → (Z e.1 ↔ Z e.2) := by
    intro e he h1 h2
    constructor
    · intro hz S g1 g2
      exact (g2 e he h1 h2).mp (hz S g1 g2)
    · intro hz S g1 g2
      exact (g2 e he h1 h2).mpr (hz S g1 g2)
  have ZA : ∀ y, Z y → A.testBit y = false := fun y hz => hz (fun y => A.testBit y = false) hbA (fun e _ h1 h2 => ⟨fun _ => h2, fun _ => h1⟩)
  obtain ⟨f, hf, hx⟩ := h (fun y => ¬ Z y) (fun x _ hA hz => by rw [ZA x hz] at hA; cases hA) ⟨b, hb, hbs, fun z => z Zb⟩
  have key : ((A.testBit f.1 = true ∧ A.testBit f.2 = false) ∨ (A.testBit f.1 = false ∧ A.testBit f.2 = true)) ∧ ∀ S : Nat → Prop, (∀ x, x < 7 → A.testBit x = true → S x) → (∀ y, Z y → S y) → ¬ gv_x S f := by
    rcases hx with ⟨g1, g2⟩ | ⟨g1, g2⟩
    · have z2 : Z f.2 := Classical.byContradiction g2
      have a2 := ZA _ z2
      have a1 : A.testBit f.1 = true := by
        cases a1 : A.testBit f.1
        · exact absurd ((Zc f hf a1 a2).mpr z2) g1
        · rfl
      refine ⟨Or.inl ⟨a1, a2⟩, ?_⟩
      intro S hS hZ hc
      have s1 := hS _ (hF f hf).1 a1
      have s2 := hZ _ z2
      rcases hc with c | c
      · exact c.2 s2
      · exact c.1 s1
    · have z1 : Z f.1 := Classical.byContradiction g1
      have a1 := ZA _ z1
      have a2 : A.testBit f.2 = true := by
        cases a2 : A.testBit f.2
        · exact absurd ((Zc f hf a1 a2).mp z1) g2
        · rfl
      refine ⟨Or.inr ⟨a1, a2⟩, ?_⟩
      intro S hS hZ hc
      have s2 := hS _ (hF f hf).2 a2
      have s1 := hZ _ z1
      rcases hc with c | c
      · exact c.2 s2
      · exact c.1 s1
  obtain ⟨F1, F2, e⟩ := List.append_of_mem hf
  refine ⟨F1, f, F2, e, key.1, ?_⟩
  intro S hS hy
  apply Classical.byContradiction
  intro hno
  have hno2 : ∀ e', e' ∈ F1 ++ F2 → ¬ gv_x S e' := fun e' he' hc => hno ⟨e', he', hc⟩
  have hSA : ∀ x, x < 7 → A.testBit x = true → S x := fun x hx hA => hS x hx (by rw [gb_insT, hA]; rfl)
  have hSb : S b := hS b hb (by rw [gb_insT]; simp)
  have hmem : ∀ e', e' ∈ F → e' = f ∨ e' ∈ F1 ++ F2 := by
    intro e' he'
    rw [e, List.mem_append, List.mem_cons] at he'
    rcases he' with g | g | g
    · exact Or.inr (List.mem_append.mpr (Or.inl g))
    · exact Or.inl g
    · exact Or.inr (List.mem_append.mpr (Or.inr g))
  have hZS : ∀ y, Z y → S y := by
    intro y hz
    refine hz S hSb ?_
    intro e' he' h1 h2
    rcases hmem e' he' with g | g
    · subst g
      rcases key.1 with c | c
      · rw [h1] at c; cases c.1
      · rw [h2] at c; cases c.2
    · exact gv_nx (hno2 e' g)
  obtain ⟨e', he', hc⟩ := h S hSA hy
  rcases hmem e' he' with g | g
  · subst g
    exact key.2 S hSA hZS hc
  · exact hno2 e' g hc
theorem gv_wA (W : Nat → Nat) (F1 F2 : List (Nat × Nat)) : gv_w W (F1 ++ F2) = gv_w W F1 + gv_w W F2 := gb_lsA _ _ _
theorem gv_wC (W : Nat → Nat) (f : Nat × Nat) (F2 : List (Nat × Nat)) : gv_w W (f :: F2) = W (7 * f.1 + f.2) + gv_w W F2 := rfl
/-- some connected set with P and v has weight w at most -/
def gv_S (W : Nat → Nat) (P v w : Nat) : Prop := ∃ F s, s < 128 ∧ gv_E W F s ∧ gv_C F s ∧ (∀ x, x < 7 → P.testBit x = true → s.testBit x = true) ∧ s.testBit v = true ∧ gv_w W F ≤ w
theorem gv_join {W : Nat → Nat} {F1 F2 : List (Nat × Nat)} {s1 s2 u : Nat} (hu : u < 7) (h1 : gv_C F1 s1) (h2 : gv_C F2 s2) (u1 : s1.testBit u = true) (u2 : s2.testBit u = true) : gv_C (F1 ++ F2) (s1 ||| s2) := by
  rintro S ⟨x, hx, hxs, hxS⟩ ⟨y, hy, hys, hyS⟩
  rw [Nat.testBit_or, Bool.or_eq_true] at hxs hys
  -- u lies on one side
  by_cases hS : S u
  · rcases hys with g | g
    · obtain ⟨e, he, hc⟩ := h1 S ⟨u, hu, u1, hS⟩ ⟨y, hy, g, hyS⟩
      exact ⟨e, List.mem_append.mpr (Or.inl he), hc⟩
    · obtain ⟨e, he, hc⟩ := h2 S ⟨u, hu, u2, hS⟩ ⟨y, hy, g, hyS⟩
      exact ⟨e, List.mem_append.mpr (Or.inr he), hc⟩
  · rcases hxs with g | g
    · obtain ⟨e, he, hc⟩ := h1 S ⟨x, hx, g, hxS⟩ ⟨u, hu, u1, hS⟩
      exact ⟨e, List.mem_append.mpr (Or.inl he), hc⟩
    · obtain ⟨e, he, hc⟩ := h2 S ⟨x, hx, g, hxS⟩ ⟨u, hu, u2, hS⟩
      exact ⟨e, List.mem_append.mpr (Or.inr he), hc⟩
theorem gv_EA {W : Nat → Nat} {F1 F2 : List (Nat × Nat)} {s1 s2 : Nat} (h1 : gv_E W F1 s1) (h2 : gv_E W F2 s2) : gv_E W (F1 ++ F2) (s1 ||| s2) := by
  intro e he
  rcases List.mem_append.mp he with g | g
  · obtain ⟨a, b, c, d1, d2⟩ := h1 e g
    exact ⟨a, b, c, by rw [Nat.testBit_or, d1]; rfl, by rw [Nat.testBit_or, d2]; rfl⟩
  · obtain ⟨a, b, c, d1, d2⟩ := h2 e g
    exact ⟨a, b, c, by rw [Nat.testBit_or, d1]; simp, by rw [Nat.testBit_or, d2]; simp⟩
/-- two that meet at u -/
theorem gv_S2 {W : Nat → Nat} {P P1 P2 u v w1 w2 : Nat} (hu : u < 7) (h1 : gv_S W P1 u w1) (h2 : gv_S W P2 u w2) (hP : ∀ x, x < 7 → P.testBit x = true → P1.testBit x = true ∨ P2.testBit x = true) (hv : v = u ∨ (v < 7 ∧ P2.testBit v = true) ∨ (v < 7 ∧ P1.testBit v = true)) : gv_S W P v (w1 + w2) := by
  obtain ⟨F1, s1, a1, a2, a3, a4, a5, a6⟩ := h1
  obtain ⟨F2, s2, b1, b2, b3, b4, b5, b6⟩ := h2
  refine ⟨F1 ++ F2, s1 ||| s2, gb_orLt a1 b1, gv_EA a2 b2, gv_join (W := W) hu a3 b3 a5 b5, ?_, ?_, ?_⟩
  · intro x hx hxP
    rw [Nat.testBit_or, Bool.or_eq_true]
    rcases hP x hx hxP with g | g
    · exact Or.inl (a4 x hx g)
    · exact Or.inr (b4 x hx g)
  · rw [Nat.testBit_or, Bool.or_eq_true]
    rcases hv with rfl | ⟨g1, g2⟩ | ⟨g1, g2⟩
    · exact Or.inl a5
    · exact Or.inr (b4 v g1 g2)
    · exact Or.inl (a4 v g1 g2)
  · rw [gv_wA]; omega
theorem gv_Sle {W : Nat → Nat} {P v w w' : Nat} (h : gv_S W P v w) (hw : w ≤ w') : gv_S W P v w' := by
  obtain ⟨F, s, a1, a2, a3, a4, a5, a6⟩ := h
  exact ⟨F, s, a1, a2, a3, a4, a5, by omega⟩
/-- one vertex, one edge -/
theorem gv_S0 (W : Nat → Nat) {x : Nat} (hx : x < 7) : gv_S W (2 ^ x) x 0 := by
  refine ⟨[], 2 ^ x, gb_pow hx, (fun e he => by cases he), ?_, fun y _ h => h, (by rw [Nat.testBit_two_pow]; simp), Nat.le_refl _⟩
  rintro S ⟨a, _, ha, hS⟩ ⟨b, _, hb, hS2⟩
  rw [Nat.testBit_two_pow] at ha hb
  have e1 := of_decide_eq_true ha
  have e2 := of_decide_eq_true hb
  rw [← e1] at hS
  rw [← e2] at hS2
  exact absurd hS hS2
theorem gv_S1 {W : Nat → Nat} {x y : Nat} (hx : x < 7) (hy : y < 7) (hw : 0 < W (7 * x + y)) : gv_S W (2 ^ x) y (W (7 * x + y)) := by
  refine ⟨[(x, y)], 2 ^ x ||| 2 ^ y, gb_insLt (gb_pow hx) hy, ?_, ?_, ?_, ?_, ?_⟩
  · intro e he
    rw [List.mem_singleton] at he
    subst he
    exact ⟨hx, hy, hw, by rw [gb_insT, Nat.testBit_two_pow]; simp, by rw [gb_insT]; simp⟩
  · rintro S ⟨a, _, ha, hS⟩ ⟨b, _, hb, hS2⟩
    rw [gb_insT, Nat.testBit_two_pow, Bool.or_eq_true, decide_eq_true_iff, decide_eq_true_iff] at ha hb
    refine ⟨(x, y), List.mem_singleton.mpr rfl, ?_⟩
    rcases ha with rfl | rfl
    · rcases hb with rfl | rfl
      · exact absurd hS hS2
      · exact Or.inl ⟨hS, hS2⟩
    · rcases hb with rfl | rfl
      · exact Or.inr ⟨hS2, hS⟩
      · exact absurd hS hS2
  · intro z _ h
    rw [Nat.testBit_or, h]; rfl
  · rw [gb_insT]; simp
  · show W (7 * x + y) + 0 ≤ _
    omega
/-! ===== what X's table must hold: derivations ===== -/
def gv_R (d : Nat → Nat) (R : Nat → Nat → Nat → Prop) : Prop :=
  (∀ P t v, P < 128 → t < 7 → v < 7 → (∀ x, x < 7 → P.testBit x = decide (x = t)) → R P v (d (7 * t + v))) ∧
  (∀ P P1 P2 u v w1 w2, P < 128 → u < 7 → v < 7 → (∀ x, x < 7 → P.testBit x = (P1.testBit x || P2.testBit x)) → (∀ x, x < 7 → P1.testBit x = true → P2.testBit x = true → False) → R P1 u w1 → R P2 u w2 → R P v (w1 + w2 + d (7 * u + v)))
def gv_D (d : Nat → Nat) (P v w : Nat) : Prop := ∀ R, gv_R d R → R P v w
theorem gv_D1 {d : Nat → Nat} {P t v : Nat} (h1 : P < 128) (h2 : t < 7) (h3 : v < 7) (h4 : ∀ x, x < 7 → P.testBit x = decide (x = t)) : gv_D d P v (d (7 * t + v)) := fun _ hR => hR.1 P t v h1 h2 h3 h4
theorem gv_D2 {d : Nat → Nat} {P P1 P2 u v w1 w2 : Nat} (h1 : P < 128) (h2 : u < 7) (h3 : v < 7) (h4 : ∀ x, x < 7 → P.testBit x = (P1.testBit x || P2.testBit x)) (h5 : ∀ x, x < 7 → P1.testBit x = true → P2.testBit x = true → False) (a : gv_D d P1 u w1) (b : gv_D d P2 u w2) : gv_D d P v (w1 + w2 + d (7 * u + v)) := fun R hR => hR.2 P P1 P2 u v w1 w2 h1 h2 h3 h4 h5 (a R hR) (b R hR)
/-- distances: 0 to itself, the triangle -/
def gv_M (d : Nat → Nat) : Prop := (∀ x, x < 7 → d (7 * x + x) = 0) ∧ ∀ x y z, x < 7 → y < 7 → z < 7 → d (7 * x + z) ≤ d (7 * x + y) + d (7 * y + z)
theorem gv_Dv {d : Nat → Nat} (M : gv_M d) {P v w : Nat} (h : gv_D d P v w) {x : Nat} (hv : v < 7) (hx : x < 7) : ∃ w', w' ≤ w + d (7 * v + x) ∧ gv_D d P x w' := by
  have H := h (fun P v w => gv_D d P v w ∧ (v < 7 → ∃ w', w' ≤ w + d (7 * v + x) ∧ gv_D d P x w')) ⟨?_, ?_⟩
  · exact H.2 hv
  · intro P t v h1 h2 h3 h4
    refine ⟨gv_D1 h1 h2 h3 h4, fun _ => ⟨d (7 * t + x), M.2 t v x h2 h3 hx, gv_D1 h1 h2 hx h4⟩⟩
  · intro P P1 P2 u v w1 w2 h1 h2 h3 h4 h5 a b
    refine ⟨gv_D2 h1 h2 h3 h4 h5 a.1 b.1, fun _ => ⟨w1 + w2 + d (7 * u + x), ?_, gv_D2 h1 h2 hx h4 h5 a.1 b.1⟩⟩
    have := M.2 u v x h2 h3 hx
    omega
/-- x in place of y -/
theorem gv_Dsub {d : Nat → Nat} (M : gv_M d) {x y : Nat} (hx : x < 7) (hy : y < 7) {P v w : Nat} (h : gv_D d P v w) (hP : P < 128) (hyP : P.testBit y = true) (hxP : P.testBit x = false) : ∃ w', w' ≤ w + d (7 * x + y) ∧ gv_D d (gb_dif P (2 ^ y) ||| 2 ^ x) v w' := by
  have bit : ∀ Q i, i < 7 → (gb_dif Q (2 ^ y) ||| 2 ^ x).testBit i = ((Q.testBit i && !decide (y = i)) || decide (x = i)) := by
    intro Q i hi
    rw [gb_insT, gb_delT _ _ (by omega)]
  have H := h (fun P v w => gv_D d P v w ∧ (P.testBit y = true → P.testBit x = false → ∃ w', w' ≤ w + d (7 * x + y) ∧ gv_D d (gb_dif P (2 ^ y) ||| 2 ^ x) v w')) ⟨?_, ?_⟩
  · exact H.2 hyP hxP
  · intro P t v h1 h2 h3 h4
    refine ⟨gv_D1 h1 h2 h3 h4, fun hyt hxt => ?_⟩
    rw [h4 y hy] at hyt
    have e := of_decide_eq_true hyt
    subst e
    refine ⟨d (7 * x + v), by have := M.2 x y v hx hy h3; omega, gv_D1 (gb_insLt (gb_difLt h1) hx) hx h3 ?_⟩
    intro i hi
    rw [bit P i hi, h4 i hi]
    by_cases z : i = y
    · subst z
      by_cases z2 : x = i
      · subst z2; simp
      · have : ¬ i = x := fun c => z2 c.symm
        simp [z2, this]
    · by_cases z2 : x = i
      · subst z2; simp
      · have : ¬ i = x := fun c => z2 c.symm
        simp [z, z2, this]
  · intro P P1 P2 u v w1 w2 h1 h2 h3 h4 h5 a b
    refine ⟨gv_D2 h1 h2 h3 h4 h5 a.1 b.1, fun hyP hxP => ?_⟩
    rw [h4 x hx, Bool.or_eq_false_iff] at hxP
    rw [h4 y hy, Bool.or_eq_true] at hyP
    rcases hyP with g | g
    · obtain ⟨w', hw', hD⟩ := a.2 g hxP.1
      have g2 : P2.testBit y = false := by
        cases z : P2.testBit y
        · rfl
        · exact absurd z (fun c => h5 y hy g c)
      refine ⟨w' + w2 + d (7 * u + v), by omega, gv_D2 (gb_insLt (gb_difLt h1) hx) h2 h3 ?_ ?_ hD b.1⟩
      · intro i hi
        rw [bit P i hi, bit P1 i hi, h4 i hi]
        by_cases z : y = i
        · subst z
          rw [g2]
          cases P1.testBit y <;> simp
        · by_cases z2 : x = i
          · subst z2; simp
          · simp [z, z2]
      · intro i hi c1 c2
        rw [bit P1 i hi] at c1
        by_cases z2 : x = i
        · subst z2
          rw [hxP.2] at c2; cases c2
        · simp [z2] at c1
          exact h5 i hi c1.1 c2
    · obtain ⟨w', hw', hD⟩ := b.2 g hxP.2
      have g2 : P1.testBit y = false := by
        cases z : P1.testBit y
        · rfl
        · exact absurd g (fun c => h5 y hy z c)
      refine ⟨w1 + w' + d (7 * u + v), by omega, gv_D2 (gb_insLt (gb_difLt h1) hx) h2 h3 ?_ ?_ a.1 hD⟩
      · intro i hi
        rw [bit P i hi, bit P2 i hi, h4 i hi]
        by_cases z : y = i
        · subst z
          rw [g2]
          cases P2.testBit y <;> simp
        · by_cases z2 : x = i
          · subst z2; simp
          · simp [z, z2]
      · intro i hi c1 c2
        rw [bit P2 i hi] at c2
        by_cases z2 : x = i
        · subst z2
          rw [hxP.1] at c1; cases c1
        · simp [z2] at c2
          exact h5 i hi c1 c2.1
/-- x beside y -/
theorem gv_Dadd {d : Nat → Nat} (M : gv_M d) {x y : Nat} (hx : x < 7) (hy : y < 7) {P v w : Nat} (h : gv_D d P v w) (hyP : P.testBit y = true) (hxP : P.testBit x = false) : ∃ w', w' ≤ w + d (7 * x + y) ∧ gv_D d (P ||| 2 ^ x) v w' := by
  have H := h (fun P v w => gv_D d P v w ∧ (P.testBit y = true → P.testBit x = false → ∃ w', w' ≤ w + d (7 * x + y) ∧ gv_D d (P ||| 2 ^ x) v w')) ⟨?_, ?_⟩
  · exact H.2 hyP hxP
  · intro P t v h1 h2 h3 h4
    refine ⟨gv_D1 h1 h2 h3 h4, fun hyt hxt => ?_⟩
    have hyt2 := hyt
    rw [h4 y hy] at hyt
    have e := of_decide_eq_true hyt
    subst e
    have b : gv_D d (2 ^ x) y (d (7 * x + y)) := gv_D1 (gb_pow hx) hx hy (fun i hi => by
      rw [Nat.testBit_two_pow]
      apply decide_eq_decide.mpr
      exact ⟨fun c => c.symm, fun c => c.symm⟩)
    refine ⟨d (7 * y + y) + d (7 * x + y) + d (7 * y + v), ?_, gv_D2 (gb_insLt h1 hx) hy h3 ?_ ?_ (gv_D1 h1 hy hy h4) b⟩
    · rw [M.1 y hy]; omega
    · intro i hi
      rw [gb_insT, Nat.testBit_two_pow]
    · intro i hi c1 c2
      rw [Nat.testBit_two_pow] at c2
      have := of_decide_eq_true c2
      subst this
      rw [hxt] at c1; cases c1
  · intro P P1 P2 u v w1 w2 h1 h2 h3 h4 h5 a b
    refine ⟨gv_D2 h1 h2 h3 h4 h5 a.1 b.1, fun hyP hxP => ?_⟩
    rw [h4 x hx, Bool.or_eq_false_iff] at hxP
    rw [h4 y hy, Bool.or_eq_true] at hyP
    rcases hyP with g | g
    · obtain ⟨w', hw', hD⟩ := a.2 g hxP.1
      refine ⟨w' + w2 + d (7 * u + v), by omega, gv_D2 (gb_insLt h1 hx) h2 h3 ?_ ?_ hD b.1⟩
      · intro i hi
        rw [gb_insT, gb_insT, h4 i hi]
        cases P1.testBit i <;> cases P2.testBit i <;> simp
      · intro i hi c1 c2
        rw [gb_insT, Bool.or_eq_true] at c1
        rcases c1 with c | c
        · exact h5 i hi c c2
        · have := of_decide_eq_true c
          subst this
          rw [hxP.2] at c2; cases c2
    · obtain ⟨w', hw', hD⟩ := b.2 g hxP.2
      refine ⟨w1 + w' + d (7 * u + v), by omega, gv_D2 (gb_insLt h1 hx) h2 h3 ?_ ?_ a.1 hD⟩
      · intro i hi
        rw [gb_insT, gb_insT, h4 i hi]
        cases P1.testBit i <;> cases P2.testBit i <;> simp
      · intro i hi c1 c2
        rw [gb_insT, Bool.or_eq_true] at c2
        rcases c2 with c | c
        · exact h5 i hi c1 c
        · have := of_decide_eq_true c
          subst this
          rw [hxP.1] at c1; cases c1
/-- a tree on t of weight w bounds all that X's table holds for parts of t -/
def gv_Q (d : Nat → Nat) (t w : Nat) : Prop := (∀ x y, x < 7 → y < 7 → t.testBit x = true → t.testBit y = true → d (7 * x + y) ≤ w) ∧ ∀ P v, P < 128 → v < 7 → t.testBit v = true → (∃ x, x < 7 ∧ P.testBit x = true) → (∀ x, x < 7 → P.testBit x = true → t.testBit x = true) → ∃ w', w' ≤ w ∧ gv_D d P v w'
theorem gv_Q0 {d : Nat → Nat} (M : gv_M d) {r : Nat} (hr : r < 7) : gv_Q d (2 ^ r) 0 := by
  refine ⟨?_, ?_⟩
  · intro x y hx hy h1 h2
    rw [Nat.testBit_two_pow] at h1 h2
    have e1 := of_decide_eq_true h1
    have e2 := of_decide_eq_true h2
    subst e1 e2
    exact Nat.le_of_eq (M.1 r hr)
  · rintro P v hP hv h1 ⟨x, hx, hxP⟩ hsub
    rw [Nat.testBit_two_pow] at h1
    have e1 := of_decide_eq_true h1
    subst e1
    refine ⟨d (7 * r + r), Nat.le_of_eq (M.1 r hr), gv_D1 hP hr hr ?_⟩
    have hxr := hsub x hx hxP
    rw [Nat.testBit_two_pow] at hxr
    have e2 := of_decide_eq_true hxr
    subst e2
    intro i hi
    cases c : P.testBit i
    · have : ¬ i = r := fun z => by subst z; rw [hxP] at c; cases c
      exact (decide_eq_false this).symm
    · have := hsub i hi c
      rw [Nat.testBit_two_pow] at this
      exact (decide_eq_true (of_decide_eq_true this).symm).symm
theorem gv_Qs {d : Nat → Nat} (M : gv_M d) {t w x y e : Nat} (h : gv_Q d t w) (ht : t < 128) (hx : x < 7) (hy : y < 7) (hyt : t.testBit y = true) (hxt : t.testBit x = false) (e1 : d (7 * x + y) ≤ e) (e2 : d (7 * y + x) ≤ e) : gv_Q d (t ||| 2 ^ x) (w + e) := by
  obtain ⟨hd, hD⟩ := h
  refine ⟨?_, ?_⟩
  · intro a b ha hb h1 h2
    rw [gb_insT, Bool.or_eq_true] at h1 h2
    rcases h1 with g1 | g1
    · rcases h2 with g2 | g2
      · have := hd a b ha hb g1 g2; omega
      · have z := of_decide_eq_true g2
        subst z
        have := M.2 a y x ha hy hx
        have := hd a y ha hy g1 hyt
        omega
    · have z := of_decide_eq_true g1
      subst z
      rcases h2 with g2 | g2
      · have := M.2 x y b hx hy hb
        have := hd y b hy hb hyt g2
        omega
      · have z := of_decide_eq_true g2
        subst z
        have := M.1 x hx
        omega
  · intro P v hP hv hvt hne hsub
    -- P without x
    have hrest : ∀ i, i < 7 → P.testBit i = true → i ≠ x → t.testBit i = true := by
      intro i hi hiP hix
      have := hsub i hi hiP
      rw [gb_insT, Bool.or_eq_true] at this
      rcases this with g | g
      · exact g
      · exact absurd (of_decide_eq_true g).symm hix
    cases hxP : P.testBit x
    · have hsubt : ∀ i, i < 7 → P.testBit i = true → t.testBit i = true := fun i hi hiP => hrest i hi hiP (fun z => by subst z; rw [hxP] at hiP; cases hiP)
      rw [gb_insT, Bool.or_eq_true] at hvt
      rcases hvt with g | g
      · obtain ⟨w', h1, h2⟩ := hD P v hP hv g hne hsubt
        exact ⟨w', by omega, h2⟩
      · have z := of_decide_eq_true g
        subst z
        obtain ⟨w', h1, h2⟩ := hD P y hP hy hyt hne hsubt
        obtain ⟨w2, h3, h4⟩ := gv_Dv M h2 hy hx
        exact ⟨w2, by omega, h4⟩
    · -- the single set x
      have single : gv_D d (2 ^ x) v (d (7 * x + v)) := gv_D1 (gb_pow hx) hx hv (fun i hi => by
        rw [Nat.testBit_two_pow]
        apply decide_eq_decide.mpr
        exact ⟨fun c => c.symm, fun c => c.symm⟩)
      have dxv : d (7 * x + v) ≤ w + e := by
        rw [gb_insT, Bool.or_eq_true] at hvt
        rcases hvt with g | g
        · have := M.2 x y v hx hy hv
          have := hd y v hy hv hyt g
          omega
        · have z := of_decide_eq_true g
          subst z
          have := M.1 x hx
          omega
      have hP' : gb_dif P (2 ^ x) < 128 := gb_difLt hP
      have bit' : ∀ i, i < 7 → (gb_dif P (2 ^ x)).testBit i = (P.testBit i && !decide (x = i)) := fun i hi => gb_delT _ _ (by omega)
      by_cases hemp : ∃ i, i < 7 ∧ (gb_dif P (2 ^ x)).testBit i = true
      · have hsub' : ∀ i, i < 7 → (gb_dif P (2 ^ x)).testBit i = true → t.testBit i = true := by
          intro i hi hiP
          rw [bit' i hi, Bool.and_eq_true, Bool.not_eq_true', decide_eq_false_iff_not] at hiP
          exact hrest i hi hiP.1 (fun z => hiP.2 z.symm)
        have hx' : (gb_dif P (2 ^ x)).testBit x = false := by rw [bit' x hx]; simp
        have hins : gb_dif P (2 ^ x) ||| 2 ^ x = P := gb_insDel hP hx hxP
        rw [gb_insT, Bool.or_eq_true] at hvt
        rcases hvt with g | g
        · cases hy' : (gb_dif P (2 ^ x)).testBit y
          · -- y for x
            have hQ : gb_dif P (2 ^ x) ||| 2 ^ y < 128 := gb_insLt hP' hy
            obtain ⟨w', h1, h2⟩ := hD (gb_dif P (2 ^ x) ||| 2 ^ y) v hQ hv g ⟨y, hy, by rw [gb_insT]; simp⟩ (fun i hi hiP => by
              rw [gb_insT, Bool.or_eq_true] at hiP
              rcases hiP with c | c
              · exact hsub' i hi c
              · have z := of_decide_eq_true c
                subst z; exact hyt)
            have hxQ : (gb_dif P (2 ^ x) ||| 2 ^ y).testBit x = false := by
              rw [gb_insT, hx']
              have : ¬ y = x := fun z => by subst z; rw [hyt] at hxt; cases hxt
              simp [this]
            obtain ⟨w2, h3, h4⟩ := gv_Dsub M hx hy h2 hQ (by rw [gb_insT]; simp) hxQ
            rw [gb_delIns hP' hy hy', hins] at h4
            exact ⟨w2, by omega, h4⟩
          · obtain ⟨w', h1, h2⟩ := hD (gb_dif P (2 ^ x)) v hP' hv g hemp hsub'
            obtain ⟨w2, h3, h4⟩ := gv_Dadd M hx hy h2 hy' hx'
            rw [hins] at h4
            exact ⟨w2, by omega, h4⟩
        · have z := of_decide_eq_true g
          subst z
          obtain ⟨w', h1, h2⟩ := hD (gb_dif P (2 ^ x)) y hP' hy hyt hemp hsub'
          obtain ⟨w2, h3, h4⟩ := gv_Dv M h2 hy hx
          refine ⟨w2 + d (7 * x + x) + d (7 * x + x), ?_, gv_D2 hP hx hx ?_ ?_ h4 single⟩
          · rw [M.1 x hx]; omega
          · intro i hi
            rw [bit' i hi, Nat.testBit_two_pow]
            by_cases z : x = i
            · subst z; rw [hxP]; simp
            · simp [z]
          · intro i hi c1 c2
            rw [Nat.testBit_two_pow] at c2
            have z := of_decide_eq_true c2
            subst z
            rw [hx'] at c1; cases c1
      · refine ⟨d (7 * x + v), dxv, ?_⟩
        have : P = 2 ^ x := by
          apply gb_ext hP (gb_pow hx)
          intro i hi
          rw [Nat.testBit_two_pow]
          by_cases z : x = i
          · subst z; rw [hxP]; simp
          · rw [decide_eq_false z]
            cases c : P.testBit i
            · rfl
            · exact absurd ⟨i, hi, by rw [bit' i hi, c, decide_eq_false z]; rfl⟩ hemp
        rw [this]
        exact single
end
section
/-! ===== link: X ===== -/
theorem gv_Sw {W : Nat → Nat} {a b w : Nat} (ha : a < 7) (h : gv_S W (2 ^ a) b w) : gv_S W (2 ^ b) a w := by
  obtain ⟨F, s, a1, a2, a3, a4, a5, a6⟩ := h
  refine ⟨F, s, a1, a2, a3, ?_, a4 a ha (by rw [Nat.testBit_two_pow]; simp), a6⟩
  intro x _ hx
  rw [Nat.testBit_two_pow] at hx
  have e := of_decide_eq_true hx
  subst e
  exact a5
/-- from u to v -/
theorem gv_Smv {W : Nat → Nat} {P u v w1 w2 : Nat} (hu : u < 7) (hv : v < 7) (h1 : gv_S W P u w1) (h2 : gv_S W (2 ^ u) v w2) : gv_S W P v (w1 + w2) :=
  gv_S2 (P2 := 2 ^ v) hu h1 (gv_Sw hu h2) (fun _ _ h => Or.inl h) (Or.inr (Or.inl ⟨hv, by rw [Nat.testBit_two_pow]; simp⟩))
def gv_DI (W D : Nat → Nat) (c : Nat) : Prop := (∀ x, x < 7 → D (7 * x + x) = 0) ∧ (∀ i, i < 49 → D i ≤ 100000) ∧ (∀ x y, x < 7 → y < 7 → 0 < W (7 * x + y) → D (7 * x + y) ≤ W (7 * x + y)) ∧ (∀ e x y, e < c → e < 7 → x < 7 → y < 7 → D (7 * x + y) ≤ D (7 * x + e) + D (7 * e + y)) ∧ (∀ x y, x < 7 → y < 7 → D (7 * x + y) < 100000 → gv_S W (2 ^ x) y (D (7 * x + y)))
def gv_d0 (W : Nat → Nat) (i : Nat) : Nat := if i / 7 = i % 7 then 0 else if 0 < W i then W i else 100000
theorem gv_d0E (W : Nat → Nat) {x y : Nat} (hy : y < 7) : gv_d0 W (7 * x + y) = if x = y then 0 else if 0 < W (7 * x + y) then W (7 * x + y) else 100000 := by
  unfold gv_d0
  rw [show (7 * x + y) / 7 = x by omega, show (7 * x + y) % 7 = y by omega]
theorem gv_DI0 {W B : Nat → Nat} (G : gb_G W B) : gv_DI W (gv_d0 W) 0 := by
  refine ⟨?_, ?_, ?_, fun e x y h => by omega, ?_⟩
  · intro x hx
    rw [gv_d0E W hx, if_pos rfl]
  · intro i hi
    have := G.2.2.1 i hi
    unfold gv_d0
    by_cases h : i / 7 = i % 7
    · rw [if_pos h]; omega
    · rw [if_neg h]
      by_cases h2 : 0 < W i
      · rw [if_pos h2]; omega
      · rw [if_neg h2]; omega
  · intro x y hx hy hw
    rw [gv_d0E W hy]
    by_cases h : x = y
    · rw [if_pos h]; omega
    · rw [if_neg h, if_pos hw]; omega
  · intro x y hx hy
    rw [gv_d0E W hy]
    by_cases h : x = y
    · subst h
      rw [if_pos rfl]
      exact fun _ => gv_S0 W hx
    · rw [if_neg h]
      by_cases h2 : 0 < W (7 * x + y)
      · rw [if_pos h2]
        exact fun _ => gv_S1 hx hy h2
      · rw [if_neg h2]
        intro z
        omega
def gv_m (D : Nat → Nat) (c i : Nat) : Nat := min (D i) (D (7 * (i / 7) + c) + D (7 * c + i % 7))
theorem gv_mE (D : Nat → Nat) (c : Nat) {x y : Nat} (hy : y < 7) : gv_m D c (7 * x + y) = min (D (7 * x + y)) (D (7 * x + c) + D (7 * c + y)) := by
  unfold gv_m
  rw [show (7 * x + y) / 7 = x by omega, show (7 * x + y) % 7 = y by omega]
theorem gv_DIs {W D : Nat → Nat} {c : Nat} (hc : c < 7) (h : gv_DI W D c) : gv_DI W (gv_m D c) (c + 1) := by
  obtain ⟨h1, h2, h3, h4, h5⟩ := h
  have ec : ∀ x, x < 7 → gv_m D c (7 * x + c) = D (7 * x + c) := by
    intro x hx
    rw [gv_mE D c hc, h1 c hc]; omega
  have er : ∀ y, y < 7 → gv_m D c (7 * c + y) = D (7 * c + y) := by
    intro y hy
    rw [gv_mE D c hy, h1 c hc]; omega
  refine ⟨?_, ?_, ?_, ?_, ?_⟩
  · intro x hx
    rw [gv_mE D c hx, h1 x hx]; omega
  · intro i hi
    have := h2 i hi
    unfold gv_m
    omega
  · intro x y hx hy hw
    have := h3 x y hx hy hw
    rw [gv_mE D c hy]
    omega
  · intro e x y he he7 hx hy
    by_cases z : e = c
    · subst z
      rw [ec x hx, er y hy, gv_mE D e hy]
      omega
    · have a1 := h4 e x y (by omega) he7 hx hy
      have a2 := h4 e x c (by omega) he7 hx hc
      have a3 := h4 e c y (by omega) he7 hc hy
      rw [gv_mE D c hy, gv_mE D c he7, gv_mE D c hy]
      omega
  · intro x y hx hy hlt
    rw [gv_mE D c hy] at hlt ⊢
    rcases Nat.le_total (D (7 * x + y)) (D (7 * x + c) + D (7 * c + y)) with z | z
    · rw [Nat.min_eq_left z] at hlt ⊢
      exact h5 x y hx hy hlt
    · rw [Nat.min_eq_right z] at hlt ⊢
      exact gv_Smv hc hy (h5 x c hx hc (by omega)) (h5 c y hc hy (by omega))
theorem gv_DIM {W D : Nat → Nat} (h : gv_DI W D 7) : gv_M D := ⟨h.1, fun x y z hx hy hz => h.2.2.2.1 y x z hy hy hx hz⟩
/-- what the table holds for the part P -/
def gv_AP (W D A : Nat → Nat) (P : Nat) : Prop := (∀ v, v < 7 → A (7 * P + v) ≤ 100000) ∧ (∀ t v, t < 7 → v < 7 → P = 2 ^ t → A (7 * P + v) = D (7 * t + v)) ∧ (∀ P1 P2 u v, 0 < P1 → 0 < P2 → P1 < 128 → P2 < 128 → u < 7 → v < 7 → P1 &&& P2 = 0 → P = P1 ||| P2 → A (7 * P + v) ≤ A (7 * P1 + u) + A (7 * P2 + u) + D (7 * u + v)) ∧ (∀ v, v < 7 → A (7 * P + v) < 100000 → gv_S W P v (A (7 * P + v)))
theorem gv_nxt0 : ∀ p, p < 128 → ∀ o, o < 128 → (0 < o ∧ Nat.land o p = o) → ∀ q, q < o → Nat.land q p = q → q ≤ Nat.land (o - 1) p := by decide +kernel
theorem gv_nxt : ∀ p, p < 128 → ∀ o, o < 128 → 0 < o → o &&& p = o → ∀ q, q < o → q &&& p = q → q ≤ (o - 1) &&& p := fun p hp o ho h0 h1 q hq h2 => gv_nxt0 p hp o ho ⟨h0, h1⟩ q hq h2
theorem gv_cpl0 : ∀ p, p < 128 → ∀ o, o < p → (Nat.land o p = o ∧ 0 < o) → (0 < Nat.xor p o ∧ Nat.xor p o < p ∧ Nat.land (Nat.xor p o) p = Nat.xor p o) := by decide +kernel
theorem gv_cpl : ∀ p, p < 128 → ∀ o, o < 128 → o &&& p = o → 0 < o → o < p → 0 < p ^^^ o ∧ p ^^^ o < p ∧ (p ^^^ o) &&& p = p ^^^ o := fun p hp o _ h1 h2 h3 => gv_cpl0 p hp o h3 ⟨h1, h2⟩
theorem gv_sgl : ∀ i, i < 128 → 0 < i → i &&& (i - 1) = 0 → i = 2 ^ gb_lo i := by decide +kernel
theorem gv_sgl2 : ∀ t, t < 7 → 2 ^ t &&& (2 ^ t - 1) = 0 := by decide
section
variable {p0 : Int32} {xw xn xt xs xe xd xp xc : Nat → Int32}
theorem gx_shorten {post : SX → Prop} {M : Nat → Nat} (hd : ∀ i, i < 49 → xd i = nI (M i)) (hb : ∀ i, i < 49 → M i ≤ 100000) {a c : Nat} (ha : a < 7) (hc : c < 7) (h0 : M (7 * c + c) = 0)
    (K : ∀ (d' : Nat → Int32) (M' : Nat → Nat), (∀ i, i < 49 → d' i = nI (M' i)) → (∀ x y, x < 7 → y < 7 → M' (7 * x + y) = if x = a then min (M (7 * x + y)) (M (7 * x + c) + M (7 * c + y)) else M (7 * x + y)) → post (p0, xw, xn, xt, xs, xe, d', xp, xc)) : wpX_shortenOver post (p0, xw, xn, xt, xs, xe, xd, xp, xc) (nI a) (nI c) := by
  refine pk_loop (fun n j (d : Nat → Int32) => wX_shortenOver_2 post (nI a) (nI c) p0 n (nI j) xw xn xt xs xe d xp xc) (fun j d => ∃ M' : Nat → Nat, (∀ i, i < 49 → d i = nI (M' i)) ∧ ∀ x y, x < 7 → y < 7 → M' (7 * x + y) = if x = a ∧ y < j then min (M (7 * x + y)) (M (7 * x + c) + M (7 * c + y)) else M (7 * x + y)) 7 0 xd (by omega) ⟨M, hd, fun x y _ _ => by rw [if_neg (fun z => by omega)]⟩ ?_ ?_
  · rintro n d ⟨M', h1, h2⟩
    refine gb_ex 7 (K d M' h1 ?_)
    intro x y hx hy
    rw [h2 x y hx hy]
    by_cases z : x = a
    · rw [if_pos z, if_pos ⟨z, hy⟩]
    · rw [if_neg z, if_neg (fun c => z c.1)]
  · rintro n j d hj ⟨M', h1, h2⟩ K2
    have e1 : M' (7 * a + c) = M (7 * a + c) := by
      rw [h2 a c ha hc]
      by_cases z : a = a ∧ c < j
      · rw [if_pos z, h0]; omega
      · rw [if_neg z]
    have e2 : M' (7 * c + j) = M (7 * c + j) := by
      rw [h2 c j hc hj, if_neg (fun z => by omega)]
    have e3 : M' (7 * a + j) = M (7 * a + j) := by
      rw [h2 a j ha hj, if_neg (fun z => by omega)]
    have b1 := hb (7 * a + c) (by omega)
    have b2 := hb (7 * c + j) (by omega)
    have b3 := hb (7 * a + j) (by omega)
    have r1 : d (((7 : Int32) * nI a) + nI c).toNatClampNeg = nI (M (7 * a + c)) := by rw [← e1]; exact gb_rd (h1 _ (by omega)) (gb_ix a c)
    have r2 : d (((7 : Int32) * nI c) + nI j).toNatClampNeg = nI (M (7 * c + j)) := by rw [← e2]; exact gb_rd (h1 _ (by omega)) (gb_ix c j)
    have r3 : d (((7 : Int32) * nI a) + nI j).toNatClampNeg = nI (M (7 * a + j)) := by rw [← e3]; exact gb_rd (h1 _ (by omega)) (gb_ix a j)
    refine gb_hd 7 hj ⟨pk_in _ 49 (by omega) (gb_ix a c), pk_in _ 49 (by omega) (gb_ix c j), nm_r (e' := nI (M (7 * a + c) + M (7 * c + j))) (by rw [r1, r2, nI_add]) ⟨pk_in _ 49 (by omega) (gb_ix a j), pk_le (M (7 * a + j)) (M (7 * a + c) + M (7 * c + j)) (fun z => gb_s (K2 d ⟨M', h1, ?_⟩)) (fun z => ⟨pk_in _ 49 (by omega) (gb_ix a j), nm_r (gb_ud (gb_ix a j)) (gb_s (K2 _ ⟨gd_up M' (7 * a + j) (M (7 * a + c) + M (7 * c + j)), ?_, ?_⟩))⟩) r3 rfl⟩⟩
    · intro x y hx hy
      rw [h2 x y hx hy]
      by_cases y1 : x = a ∧ y < j
      · rw [if_pos y1, if_pos ⟨y1.1, by omega⟩]
      · rw [if_neg y1]
        by_cases y2 : x = a ∧ y < j + 1
        · have : y = j := by
            have : ¬ y < j := fun c => y1 ⟨y2.1, c⟩
            omega
          rw [if_pos y2, y2.1, this]; omega
        · rw [if_neg y2]
    · intro i hi
      by_cases y1 : i = 7 * a + j
      · rw [y1, pk_us, gd_upS]
      · rw [pk_un y1, gd_upN y1]; exact h1 i hi
    · intro x y hx hy
      by_cases y1 : 7 * x + y = 7 * a + j
      · have y2 : x = a := by omega
        have y3 : y = j := by omega
        rw [y1, gd_upS, if_pos ⟨y2, by omega⟩, y2, y3]
        omega
      · rw [gd_upN y1, h2 x y hx hy]
        by_cases y2 : x = a ∧ y < j
        · rw [if_pos y2, if_pos ⟨y2.1, by omega⟩]
        · rw [if_neg y2, if_neg]
          rintro ⟨z1, z2⟩
          apply y2
          refine ⟨z1, ?_⟩
          rcases Nat.lt_or_ge y j with g | g
          · exact g
          · exfalso; apply y1; rw [z1]; omega
theorem gx_fd80 {post : SX → Prop} {W D : Nat → Nat} (hd : ∀ i, i < 49 → xd i = nI (D i)) (hD : gv_DI W D 0)
    (K : ∀ (d' : Nat → Int32) (D' : Nat → Nat), (∀ i, i < 49 → d' i = nI (D' i)) → gv_DI W D' 7 → post (p0, xw, xn, xt, xs, xe, d', xp, xc)) : ∃ n, wX_findDistances_80 post n 0 p0 xw xn xt xs xe xd xp xc := by
  refine pk_loop (fun n c (d : Nat → Int32) => wX_findDistances_80 post n (nI c) p0 xw xn xt xs xe d xp xc) (fun c d => ∃ D' : Nat → Nat, (∀ i, i < 49 → d i = nI (D' i)) ∧ gv_DI W D' c) 7 0 xd (by omega) ⟨D, hd, hD⟩ ?_ ?_
  · rintro n d ⟨D', h1, h2⟩
    exact gb_ex 7 (K d D' h1 h2)
  · rintro n c d hc ⟨D', h1, h2⟩ K2
    refine gb_hd 7 hc ?_
    refine pk_loop (fun n a (d : Nat → Int32) => wX_findDistances_88 post _ (nI c) n (nI a) p0 xw xn xt xs xe d xp xc) (fun a d => ∃ M : Nat → Nat, (∀ i, i < 49 → d i = nI (M i)) ∧ ∀ x y, x < 7 → y < 7 → M (7 * x + y) = if x < a then gv_m D' c (7 * x + y) else D' (7 * x + y)) 7 0 d (by omega) ⟨D', h1, fun x y _ _ => by rw [if_neg (by omega)]⟩ ?_ ?_
    · rintro n d' ⟨M, g1, g2⟩
      refine gb_ex 7 (gb_s (K2 d' ⟨gv_m D' c, ?_, gv_DIs hc h2⟩))
      intro i hi
      rw [g1 i hi]
      have := g2 (i / 7) (i % 7) (by omega) (by omega)
      rw [show 7 * (i / 7) + i % 7 = i by omega, if_pos (by omega)] at this
      rw [this]
    · rintro n a d' ha ⟨M, g1, g2⟩ K3
      have hMb : ∀ i, i < 49 → M i ≤ 100000 := by
        intro i hi
        have := g2 (i / 7) (i % 7) (by omega) (by omega)
        rw [show 7 * (i / 7) + i % 7 = i by omega] at this
        rw [this]
        have b := h2.2.1 i hi
        by_cases z : i / 7 < a
        · rw [if_pos z]; unfold gv_m; omega
        · rw [if_neg z]; exact b
      have hcy : ∀ y, y < 7 → M (7 * c + y) = D' (7 * c + y) := by
        intro y hy
        rw [g2 c y hc hy]
        by_cases z : c < a
        · rw [if_pos z, gv_mE D' c hy, h2.1 c hc]; omega
        · rw [if_neg z]
      refine gb_hd 7 ha (gx_shorten g1 hMb ha hc (by rw [hcy c hc]; exact h2.1 c hc) ?_)
      intro d'' M' f1 f2
      refine gb_s (K3 d'' ⟨M', f1, ?_⟩)
      intro x y hx hy
      rw [f2 x y hx hy]
      by_cases z : x = a
      · subst z
        rw [if_pos rfl, if_pos (by omega), gv_mE D' c hy, hcy y hy, g2 x y hx hy, if_neg (by omega), g2 x c hx hc, if_neg (by omega)]
      · rw [if_neg z, g2 x y hx hy]
        by_cases z2 : x < a
        · rw [if_pos z2, if_pos (by omega)]
        · rw [if_neg z2, if_neg (by omega)]
theorem gx_findDistances {post : SX → Prop} {W B : Nat → Nat} (G : gb_G W B) (hx : ∀ i, i < 49 → xw i = nI (W i))
    (K : ∀ (d' : Nat → Int32) (D' : Nat → Nat), (∀ i, i < 49 → d' i = nI (D' i)) → gv_DI W D' 7 → post (p0, xw, xn, xt, xs, xe, d', xp, xc)) : wpX_findDistances post (p0, xw, xn, xt, xs, xe, xd, xp, xc) := by
  refine pk_loop (fun n a (d : Nat → Int32) => wX_findDistances_2 post p0 n (nI a) xw xn xt xs xe d xp xc) (fun a d => ∀ i, i < 7 * a → d i = nI (gv_d0 W i)) 7 0 xd (by omega) (fun i hi => by omega) ?_ ?_
  · intro n d h
    exact gb_ex 7 (gx_fd80 h (gv_DI0 G) K)
  · intro n a d ha h K2
    refine gb_hd 7 ha ?_
    refine pk_loop (fun n b (d : Nat → Int32) => wX_findDistances_10 post _ (nI a) p0 n (nI b) xw xn xt xs xe d xp xc) (fun b d => ∀ i, i < 7 * a + b → d i = nI (gv_d0 W i)) 7 0 d (by omega) h ?_ ?_
    · intro n d' h'
      exact gb_ex 7 (gb_s (K2 d' (fun i hi => h' i (by omega))))
    · intro n b d' hb h' K3
      have hin : vp_in (((7 : Int32) * nI a) + nI b) 49 := pk_in (7 * a + b) 49 (by omega) (gb_ix a b)
      have hud : ∀ x, upd d' (((7 : Int32) * nI a) + nI b).toNatClampNeg x = upd d' (7 * a + b) x := fun x => gb_ud (gb_ix a b)
      have hW9 := G.2.2.1 (7 * a + b) (by omega)
      have rw1 : xw (((7 : Int32) * nI a) + nI b).toNatClampNeg = nI (W (7 * a + b)) := gb_rd (hx _ (by omega)) (gb_ix a b)
      have put : ∀ x, x = nI (gv_d0 W (7 * a + b)) → ∀ i, i < 7 * a + (b + 1) → upd d' (7 * a + b) x i = nI (gv_d0 W i) := by
        intro x hxx
        exact gb_fill (f := fun i => nI (gv_d0 W i)) h' hxx
      refine gb_hd 7 hb (pk_eq a b (fun z => ⟨hin, nm_r (hud _) (gb_s (K3 _ (put _ ?_)))⟩) (fun z => ⟨hin, pk_le (W (7 * a + b)) 0 (fun y => ⟨hin, nm_r (hud _) (gb_s (K3 _ (put _ ?_)))⟩) (fun y => ⟨hin, hin, nm_r (hud _) (gb_s (K3 _ (put _ ?_)))⟩) rw1 rfl⟩))
      · rw [gv_d0E W hb, if_pos z]; rfl
      · rw [gv_d0E W hb, if_neg z, if_neg (by omega)]; rfl
      · rw [gv_d0E W hb, if_neg z, if_pos y]; exact rw1
theorem gx_startLink {post : SX → Prop} {D : Nat → Nat} (hd : ∀ i, i < 49 → xd i = nI (D i)) {P : Nat} (hP : P < 128) (h0 : 0 < P)
    (K : ∀ e' : Nat → Int32, (∀ v, v < 7 → e' (7 * P + v) = nI (D (7 * gb_lo P + v))) → (∀ i, i < 7 * P → e' i = xe i) → post (p0, xw, xn, xt, xs, e', xd, xp, xc)) : wpX_startLink post (p0, xw, xn, xt, xs, xe, xd, xp, xc) (nI P) := by
  obtain ⟨l1, _, _⟩ := gb_loS P hP h0
  unfold wpX_startLink
  dsimp only
  refine gx_lowestIn P hP h0 ?_
  refine pk_loop (fun n j (e : Nat → Int32) => wX_startLink_8 post (nI P) (nI (gb_lo P)) p0 n (nI j) xw xn xt xs e xd xp xc) (fun j e => (∀ v, v < j → e (7 * P + v) = nI (D (7 * gb_lo P + v))) ∧ ∀ i, i < 7 * P → e i = xe i) 7 0 xe (by omega) ⟨fun v hv => by omega, fun i _ => rfl⟩ ?_ ?_
  · rintro n e ⟨h1, h2⟩
    exact gb_ex 7 (K e h1 h2)
  · rintro n j e hj ⟨h1, h2⟩ K2
    have r1 : xd (((7 : Int32) * nI (gb_lo P)) + nI j).toNatClampNeg = nI (D (7 * gb_lo P + j)) := gb_rd (hd _ (by omega)) (gb_ix _ _)
    refine gb_hd 7 hj ⟨pk_in _ 49 (by omega) (gb_ix _ _), pk_in _ 896 (by omega) (gb_ix P j), nm_r (gb_ud (gb_ix P j)) (gb_s (K2 _ ⟨?_, ?_⟩))⟩
    · intro v hv
      by_cases z : v = j
      · rw [z, pk_us]; exact r1
      · rw [pk_un (by omega)]; exact h1 v (by omega)
    · intro i hi
      rw [pk_un (by omega)]; exact h2 i hi
/-- proper parts of P -/
def gv_pr (P o : Nat) : Prop := 0 < o ∧ o < P ∧ o &&& P = o
theorem gx_jl18 {post : SX → Prop} {J : Int32 → (Nat → Int32) → (Nat → Int32) → (Nat → Int32) → (Nat → Int32) → (Nat → Int32) → (Nat → Int32) → (Nat → Int32) → (Nat → Int32) → Prop} {A : Nat → Nat} {P v : Nat} (hP : P < 128) (hv : v < 7) (hA : ∀ o, gv_pr P o → xe (7 * o + v) = nI (A (7 * o + v)) ∧ A (7 * o + v) ≤ 100000)
    (K : ∀ b, b ≤ 100000 → (∀ o, gv_pr P o → b ≤ A (7 * o + v) + A (7 * (P ^^^ o) + v)) → (b = 100000 ∨ ∃ o, gv_pr P o ∧ b = A (7 * o + v) + A (7 * (P ^^^ o) + v)) → J (nI (v + 1)) xw xn (upd xt v (nI b)) xs xe xd xp xc) : ∀ o n b, o < P → o &&& P = o → o < n → b ≤ 100000 → (∀ o', gv_pr P o' → o < o' → b ≤ A (7 * o' + v) + A (7 * (P ^^^ o') + v)) → (b = 100000 ∨ ∃ o, gv_pr P o ∧ b = A (7 * o + v) + A (7 * (P ^^^ o) + v)) → wX_joinLinks_18 post J (nI P) (nI v) p0 xw xn xt xs xe xd xp xc n (nI b) (nI o) := by
  intro o
  induction o using Nat.strongRecOn with
  | ind o ih =>
    intro n b ho hos hn hb h1 h2
    obtain ⟨n, rfl⟩ : ∃ q, n = q + 1 := ⟨n - 1, by omega⟩
    by_cases z : o = 0
    · subst z
      refine br_t (by decide) ⟨vp_in_nI (by omega) (by decide), nm_r gb_udn (gb_s (K b hb (fun o' ho' => h1 o' ho' ho'.1) h2))⟩
    · have hpr : gv_pr P o := ⟨by omega, ho, hos⟩
      obtain ⟨c1, c2, c3⟩ := gv_cpl P hP o (by omega) hos (by omega) ho
      have hpr2 : gv_pr P (P ^^^ o) := ⟨c1, c2, c3⟩
      obtain ⟨a1, a2⟩ := hA o hpr
      obtain ⟨a3, a4⟩ := hA (P ^^^ o) hpr2
      have eix2 : ((7 : Int32) * (nI P ^^^ nI o)) + nI v = nI (7 * (P ^^^ o) + v) := by rw [nx_xor, gb_ix]
      have hnx : (o - 1) &&& P ≤ o - 1 := Nat.and_le_left
      have hnxs : ((o - 1) &&& P) &&& P = (o - 1) &&& P := by rw [Nat.and_assoc, Nat.and_self]
      have enx : (nI o - 1) &&& nI P = nI ((o - 1) &&& P) := by
        obtain ⟨q, rfl⟩ : ∃ q, o = q + 1 := ⟨o - 1, by omega⟩
        rw [nI_pred, nx_and, Nat.add_sub_cancel]
      have hcov : ∀ o', gv_pr P o' → (o - 1) &&& P < o' → ¬ o < o' → o' = o := by
        intro o' ho' hlt hnot
        rcases Nat.lt_or_ge o' o with g | g
        · have := gv_nxt P hP o (by omega) (by omega) hos o' g ho'.2.2
          omega
        · omega
      refine br_f (nI_nle (by omega) (by omega)) ⟨pk_in _ 896 (by omega) (gb_ix o v), pk_in _ 896 (by omega) eix2, nm_r (e' := nI (A (7 * o + v) + A (7 * (P ^^^ o) + v))) ?_ ?_⟩
      · rw [gb_rd a1 (gb_ix o v), gb_rd a3 eix2, nI_add]
      · refine pk_le b (A (7 * o + v) + A (7 * (P ^^^ o) + v)) (fun y => nm_r enx (ih _ (by omega) n b (by omega) hnxs (by omega) hb ?_ h2)) (fun y => nm_r enx (ih _ (by omega) n _ (by omega) hnxs (by omega) (by omega) ?_ (Or.inr ⟨o, hpr, rfl⟩)))
        · intro o' ho' hlt
          by_cases g : o < o'
          · exact h1 o' ho' g
          · rw [hcov o' ho' hlt g]; exact y
        · intro o' ho' hlt
          by_cases g : o < o'
          · have := h1 o' ho' g; omega
          · rw [hcov o' ho' hlt g]; exact Nat.le_refl _
theorem gx_joinLinks {post : SX → Prop} {A D : Nat → Nat} (hd : ∀ i, i < 49 → xd i = nI (D i)) (hD : ∀ i, i < 49 → D i ≤ 100000) {P : Nat} (hP : P < 128) (h0 : 0 < P) (hA : ∀ o v, gv_pr P o → v < 7 → xe (7 * o + v) = nI (A (7 * o + v)) ∧ A (7 * o + v) ≤ 100000)
    (K : ∀ (t' e' : Nat → Int32) (N : Nat → Nat), (∀ v, v < 7 → e' (7 * P + v) = nI (N v)) → (∀ i, i < 7 * P → e' i = xe i) → (∀ v, v < 7 → N v ≤ 100000 ∧ (∀ o u, gv_pr P o → u < 7 → N v ≤ A (7 * o + u) + A (7 * (P ^^^ o) + u) + D (7 * u + v)) ∧ (N v < 100000 → ∃ o u, gv_pr P o ∧ u < 7 ∧ N v = A (7 * o + u) + A (7 * (P ^^^ o) + u) + D (7 * u + v))) → post (p0, xw, xn, t', xs, e', xd, xp, xc)) : wpX_joinLinks post (p0, xw, xn, xt, xs, xe, xd, xp, xc) (nI P) := by
  refine pk_loop (fun n v (t : Nat → Int32) => wX_joinLinks_2 post (nI P) p0 n (nI v) xw xn t xs xe xd xp xc) (fun v t => ∃ T : Nat → Nat, ∀ u, u < v → t u = nI (T u) ∧ T u ≤ 100000 ∧ (∀ o, gv_pr P o → T u ≤ A (7 * o + u) + A (7 * (P ^^^ o) + u)) ∧ (T u = 100000 ∨ ∃ o, gv_pr P o ∧ T u = A (7 * o + u) + A (7 * (P ^^^ o) + u))) 7 0 xt (by omega) ⟨fun _ => 0, fun u hu => by omega⟩ ?_ ?_
  · rintro n t ⟨T, hT⟩
    refine gb_ex 7 ?_
    -- the second loop
    refine pk_loop (fun n v (e : Nat → Int32) => wX_joinLinks_87 post (nI P) p0 n (nI v) xw xn t xs e xd xp xc) (fun v e => (∀ i, i < 7 * P → e i = xe i) ∧ ∃ N : Nat → Nat, ∀ x, x < v → e (7 * P + x) = nI (N x) ∧ N x ≤ 100000 ∧ (∀ u, u < 7 → N x ≤ T u + D (7 * u + x)) ∧ (N x = 100000 ∨ ∃ u, u < 7 ∧ N x = T u + D (7 * u + x))) 7 0 xe (by omega) ⟨fun i _ => rfl, fun _ => 0, fun x hx => by omega⟩ ?_ ?_
    · rintro n e ⟨h1, N, h2⟩
      refine gb_ex 7 (K t e N (fun v hv => (h2 v hv).1) h1 ?_)
      intro v hv
      obtain ⟨_, g1, g2, g3⟩ := h2 v hv
      refine ⟨g1, ?_, ?_⟩
      · intro o u ho hu
        have a := g2 u hu
        have b := (hT u hu).2.2.1 o ho
        omega
      · intro hlt
        rcases g3 with z | ⟨u, hu, z⟩
        · omega
        · rcases (hT u hu).2.2.2 with y | ⟨o, ho, y⟩
          · omega
          · exact ⟨o, u, ho, hu, by omega⟩
    · rintro n v e hv ⟨h1, N, h2⟩ K2
      refine gb_hd 7 hv ?_
      refine pk_loop (fun n u (b : Nat) => wX_joinLinks_99 post _ (nI P) (nI v) p0 xw xn t xs e xd xp xc n (nI b) (nI u)) (fun u b => b ≤ 100000 ∧ (∀ x, x < u → b ≤ T x + D (7 * x + v)) ∧ (b = 100000 ∨ ∃ x, x < u ∧ b = T x + D (7 * x + v))) 7 0 100000 (by omega) ⟨Nat.le_refl _, fun x hx => by omega, Or.inl rfl⟩ ?_ ?_
      · rintro n b ⟨g1, g2, g3⟩
        refine gb_ex 7 ⟨pk_in _ 896 (by omega) (gb_ix P v), nm_r (gb_ud (gb_ix P v)) (gb_s (K2 _ ⟨?_, gd_up N v b, ?_⟩))⟩
        · intro i hi
          rw [pk_un (by omega)]; exact h1 i hi
        · intro x hx
          by_cases z : x = v
          · rw [z, pk_us, gd_upS]
            exact ⟨rfl, g1, g2, g3⟩
          · rw [pk_un (by omega), gd_upN z]
            exact h2 x (by omega)
      · rintro n u b hu ⟨g1, g2, g3⟩ K3
        obtain ⟨t1, t2, _, _⟩ := hT u hu
        have hDb := hD (7 * u + v) (by omega)
        have esum : t (nI u).toNatClampNeg + xd (((7 : Int32) * nI u) + nI v).toNatClampNeg = nI (T u + D (7 * u + v)) := by
          rw [gb_rdn t1, gb_rd (hd _ (by omega)) (gb_ix u v), nI_add]
        refine gb_hd 7 hu ⟨vp_in_nI (by omega) (by decide), pk_in _ 49 (by omega) (gb_ix u v), pk_le b (T u + D (7 * u + v)) (fun z => gb_s (K3 b ⟨g1, ?_, ?_⟩)) (fun z => ⟨vp_in_nI (by omega) (by decide), pk_in _ 49 (by omega) (gb_ix u v), nm_r esum (gb_s (K3 _ ⟨by omega, ?_, Or.inr ⟨u, by omega, rfl⟩⟩))⟩) rfl esum⟩
        · intro x hx
          by_cases y : x = u
          · subst y; exact z
          · exact g2 x (by omega)
        · rcases g3 with y | ⟨x, hx, y⟩
          · exact Or.inl y
          · exact Or.inr ⟨x, by omega, y⟩
        · intro x hx
          by_cases y : x = u
          · subst y; exact Nat.le_refl _
          · have := g2 x (by omega); omega
  · rintro n v t hv ⟨T, hT⟩ K2
    have hnx : (P - 1) &&& P ≤ P - 1 := Nat.and_le_left
    have hnxs : ((P - 1) &&& P) &&& P = (P - 1) &&& P := by rw [Nat.and_assoc, Nat.and_self]
    have enx : (nI P - 1) &&& nI P = nI ((P - 1) &&& P) := by
      obtain ⟨q, rfl⟩ : ∃ q, P = q + 1 := ⟨P - 1, by omega⟩
      rw [nI_pred, nx_and, Nat.add_sub_cancel]
    refine gb_hd 7 hv (nm_r enx ⟨130, gx_jl18 (A := A) hP hv (fun o ho => hA o v ho hv) ?_ _ 130 100000 (by omega) hnxs (by omega) (Nat.le_refl _) ?_ (Or.inl rfl)⟩)
    · intro b hb g1 g2
      refine K2 _ ⟨gd_up T v b, ?_⟩
      intro u hu
      by_cases z : u = v
      · rw [z, pk_us, gd_upS]
        exact ⟨rfl, hb, g1, g2⟩
      · rw [pk_un z, gd_upN z]
        exact hT u (by omega)
    · intro o' ho' hlt
      have := gv_nxt P hP P hP h0 (Nat.and_self P) o' ho'.2.1 ho'.2.2
      omega
theorem gv_APk {W D A A' : Nat → Nat} {P n : Nat} (h : gv_AP W D A P) (hP : P < n) (e : ∀ i, i < 7 * n → A' i = A i) : gv_AP W D A' P := by
  obtain ⟨h1, h2, h3, h4⟩ := h
  refine ⟨?_, ?_, ?_, ?_⟩
  · intro v hv
    rw [e _ (by omega)]; exact h1 v hv
  · intro t v ht hv hPt
    rw [e _ (by omega)]; exact h2 t v ht hv hPt
  · intro P1 P2 u v a1 a2 a3 a4 hu hv a5 a6
    have l1 : P1 ≤ P := by rw [a6]; exact Nat.left_le_or
    have l2 : P2 ≤ P := by rw [a6]; exact Nat.right_le_or
    rw [e _ (by omega), e _ (by omega), e _ (by omega)]
    exact h3 P1 P2 u v a1 a2 a3 a4 hu hv a5 a6
  · intro v hv
    rw [e _ (by omega)]; exact h4 v hv
/-- the table with the entries of the part P -/
def gv_up (A N : Nat → Nat) (P : Nat) : Nat → Nat := fun i => if i < 7 * P then A i else N (i - 7 * P)
theorem gv_upL {A N : Nat → Nat} {P i : Nat} (h : i < 7 * P) : gv_up A N P i = A i := if_pos h
theorem gv_upH {A N : Nat → Nat} {P v : Nat} : gv_up A N P (7 * P + v) = N v := by
  unfold gv_up
  rw [if_neg (by omega), show 7 * P + v - 7 * P = v by omega]
theorem gx_link28 {post : Int32 → SX → Prop} {W D : Nat → Nat} (hd : ∀ i, i < 49 → xd i = nI (D i)) (hD : gv_DI W D 7) {set : Nat} (hs : set < 128) (hs0 : 0 < set)
    (K : ∀ (t' e' : Nat → Int32) (A : Nat → Nat) (r : Int32), (∀ P, 0 < P → P ≤ set → P &&& set = P → gv_AP W D A P) → (r = if A (7 * set + gb_lo set) < 100000 then nI (A (7 * set + gb_lo set)) else -2) → post r (p0, xw, xn, t', xs, e', xd, xp, xc)) : ∃ n, wX_link_28 post (nI set) n 1 p0 xw xn xt xs xe xd xp xc := by
  obtain ⟨l1, _, _⟩ := gb_loS set hs hs0
  refine pk_loop (fun n i (s : (Nat → Int32) × (Nat → Int32)) => wX_link_28 post (nI set) n (nI i) p0 xw xn s.1 xs s.2 xd xp xc) (fun i s => 1 ≤ i ∧ ∃ A : Nat → Nat, (∀ P v, 0 < P → P < i → P &&& set = P → v < 7 → s.2 (7 * P + v) = nI (A (7 * P + v))) ∧ ∀ P, 0 < P → P < i → P &&& set = P → gv_AP W D A P) (set + 1) 1 (xt, xe) (by omega) ⟨Nat.le_refl _, fun _ => 0, fun P v h1 h2 => by omega, fun P h1 h2 => by omega⟩ ?_ ?_
  · rintro n ⟨t, e⟩ ⟨_, A, h1, h2⟩
    have hb := (h2 set hs0 (by omega) (Nat.and_self set)).1 _ l1
    refine gb_el set (gx_lowestIn set hs hs0 ⟨pk_in _ 896 (by omega) (gb_ix _ _), nm_r (gb_rd (h1 set _ hs0 (by omega) (Nat.and_self set) l1) (gb_ix _ _)) ?_⟩)
    refine pk_lt (A (7 * set + gb_lo set)) 100000 (fun z => K t e A _ (fun P a b c => h2 P a (by omega) c) ?_) (fun z => K t e A _ (fun P a b c => h2 P a (by omega) c) ?_)
    · rw [if_pos z]
    · rw [if_neg (by omega)]
  · rintro n i ⟨t, e⟩ hi ⟨hi1, A, h1, h2⟩ K2
    dsimp only at h1
    refine gb_hl set (by omega) (pk_eq (gb_dif i set) 0 (fun z => ?_) (fun z => gb_s (K2 (t, e) ⟨by omega, A, ?_, ?_⟩)) (gb_difI i set) rfl (by have := gb_difLe i set; omega))
    · -- i is a part of the set
      have hsub : i &&& set = i := by
        apply gb_ext (gb_andLt (by omega)) (by omega)
        intro x hx
        have : (gb_dif i set).testBit x = false := by rw [z]; exact Nat.zero_testBit x
        rw [gb_difT _ _ (by omega)] at this
        rw [Nat.testBit_and]
        cases c1 : i.testBit x
        · rfl
        · rw [c1] at this
          cases c2 : set.testBit x
          · rw [c2] at this; cases this
          · rfl
      -- the new entries keep the old
      have keep : ∀ (N : Nat → Nat) (t' e' : Nat → Int32), (∀ v, v < 7 → e' (7 * i + v) = nI (N v)) → (∀ j, j < 7 * i → e' j = e j) → gv_AP W D (gv_up A N i) i → wX_link_28 post (nI set) n (nI (i + 1)) p0 xw xn t' xs e' xd xp xc := by
        intro N t' e' g1 g2 g3
        refine K2 (t', e') ⟨by omega, gv_up A N i, ?_, ?_⟩
        · intro P v a1 a2 a3 hv
          by_cases c : P = i
          · subst c
            rw [gv_upH]; exact g1 v hv
          · rw [gv_upL (by omega)]
            show e' _ = _
            rw [g2 _ (by omega)]
            exact h1 P v a1 (by omega) a3 hv
        · intro P a1 a2 a3
          by_cases c : P = i
          · subst c; exact g3
          · exact gv_APk (h2 P a1 (by omega) a3) (show P < i by omega) (fun j hj => gv_upL hj)
      have hand : i &&& (i - 1) ≤ i := Nat.and_le_left
      have eand : nI i &&& (nI i - 1) = nI (i &&& (i - 1)) := by
        obtain ⟨q, rfl⟩ : ∃ q, i = q + 1 := ⟨i - 1, by omega⟩
        rw [nI_pred, nx_and, Nat.add_sub_cancel]
      refine pk_eq (i &&& (i - 1)) 0 (fun y => gx_startLink hd (by omega) (by omega) ?_) (fun y => gx_joinLinks (A := A) hd hD.2.1 (by omega) (by omega) ?_ ?_) eand rfl
      · intro e' g1 g2
        dsimp only
        have hi2 := gv_sgl i (by omega) (by omega) y
        obtain ⟨m1, _, _⟩ := gb_loS i (by omega) (by omega)
        refine gb_s (keep (fun v => D (7 * gb_lo i + v)) t e' g1 g2 ⟨?_, ?_, ?_, ?_⟩)
        · intro v hv
          rw [gv_upH]; exact hD.2.1 _ (by omega)
        · intro t' v ht' hv he
          rw [gv_upH]
          have : t' = gb_lo i := by
            have q : (2 ^ t').testBit t' = (2 ^ gb_lo i).testBit t' := by rw [← he, ← hi2]
            rw [Nat.testBit_two_pow, Nat.testBit_two_pow, decide_eq_true rfl] at q
            exact (of_decide_eq_true q.symm).symm
          rw [this]
        · intro P1 P2 u v a1 a2 a3 a4 hu hv a5 a6
          exfalso
          obtain ⟨b1, b2, _⟩ := gb_loS P1 a3 a1
          obtain ⟨b3, b4, _⟩ := gb_loS P2 a4 a2
          have c1 : (2 ^ gb_lo i).testBit (gb_lo P1) = true := by rw [← hi2, a6, Nat.testBit_or, b2]; rfl
          have c2 : (2 ^ gb_lo i).testBit (gb_lo P2) = true := by rw [← hi2, a6, Nat.testBit_or, b4]; simp
          rw [Nat.testBit_two_pow] at c1 c2
          have d1 := of_decide_eq_true c1
          have d2 := of_decide_eq_true c2
          have : (P1 &&& P2).testBit (gb_lo P1) = true := by
            rw [Nat.testBit_and, b2, show gb_lo P1 = gb_lo P2 by omega, b4]; rfl
          rw [a5, Nat.zero_testBit] at this
          cases this
        · intro v hv
          rw [gv_upH]
          intro hlt
          have := hD.2.2.2.2 (gb_lo i) v m1 hv hlt
          rw [← hi2] at this
          exact this
      · intro o v ho hv
        have ho2 : o &&& set = o := by
          have := ho.2.2
          rw [← this, Nat.and_assoc, hsub]
        exact ⟨h1 o v ho.1 ho.2.1 ho2 hv, (h2 o ho.1 ho.2.1 ho2).1 v hv⟩
      · intro t' e' N g1 g2 g3
        dsimp only
        have hup : ∀ o u, gv_pr i o → u < 7 → gv_up A N i (7 * o + u) = A (7 * o + u) := fun o u ho hu => gv_upL (by have := ho.2.1; omega)
        refine gb_s (keep N t' e' g1 g2 ⟨?_, ?_, ?_, ?_⟩)
        · intro v hv
          rw [gv_upH]; exact (g3 v hv).1
        · intro t2 v ht2 hv he
          exfalso
          apply y
          rw [he]
          exact gv_sgl2 t2 ht2
        · intro P1 P2 u v a1 a2 a3 a4 hu hv a5 a6
          have ex : i ^^^ P1 = P2 := by
            apply gb_ext (Nat.xor_lt_two_pow (n := 7) (by omega) a3) a4
            intro x hx
            have : (P1 &&& P2).testBit x = false := by rw [a5]; exact Nat.zero_testBit x
            rw [Nat.testBit_and] at this
            rw [Nat.testBit_xor, a6, Nat.testBit_or]
            cases c1 : P1.testBit x
            · cases c2 : P2.testBit x <;> rfl
            · cases c2 : P2.testBit x
              · rfl
              · rw [c1, c2] at this; cases this
          have hs1 : P1 &&& i = P1 := by
            rw [a6]
            apply gb_ext (gb_andLt a3) a3
            intro x hx
            rw [Nat.testBit_and, Nat.testBit_or]
            cases P1.testBit x <;> cases P2.testBit x <;> rfl
          have hne : P1 ≠ i := by
            intro c
            have : P2 = 0 := by rw [← ex, c, Nat.xor_self]
            omega
          have hle : P1 ≤ i := by rw [a6]; exact Nat.left_le_or
          have hpr : gv_pr i P1 := ⟨a1, by omega, hs1⟩
          obtain ⟨q1, q2, q3⟩ := gv_cpl i (by omega) P1 a3 hs1 a1 (by omega)
          have hpr2 : gv_pr i (i ^^^ P1) := ⟨q1, q2, q3⟩
          rw [← ex, gv_upH, hup P1 u hpr hu, hup (i ^^^ P1) u hpr2 hu]
          exact (g3 v hv).2.1 P1 u hpr hu
        · intro v hv
          rw [gv_upH]
          intro hlt
          obtain ⟨o, u, ho, hu, he⟩ := (g3 v hv).2.2 hlt
          obtain ⟨q1, q2, q3⟩ := gv_cpl i (by omega) o (by have := ho.2.1; omega) ho.2.2 ho.1 ho.2.1
          have ho2 : o &&& set = o := by
            have := ho.2.2
            rw [← this, Nat.and_assoc, hsub]
          have hc2 : (i ^^^ o) &&& set = i ^^^ o := by
            rw [← q3, Nat.and_assoc, hsub]
          have s1 := (h2 o ho.1 ho.2.1 ho2).2.2.2 u hu (by omega)
          have s2 := (h2 (i ^^^ o) q1 q2 hc2).2.2.2 u hu (by omega)
          have s3 : gv_S W i u (A (7 * o + u) + A (7 * (i ^^^ o) + u)) := by
            refine gv_S2 hu s1 s2 ?_ (Or.inl rfl)
            intro x hx hxi
            rw [Nat.testBit_xor, hxi]
            cases o.testBit x
            · exact Or.inr rfl
            · exact Or.inl rfl
          have s4 := hD.2.2.2.2 u v hu hv (by omega)
          rw [he]
          exact gv_Smv hu hv s3 s4
    · intro P v a1 a2 a3 hv
      by_cases c : P = i
      · subst c
        exfalso
        apply z
        apply gb_ext (gb_difLt (by omega)) (by omega)
        intro x hx
        rw [gb_difT _ _ (by omega), Nat.zero_testBit]
        have : (P &&& set).testBit x = P.testBit x := by rw [a3]
        rw [Nat.testBit_and] at this
        cases c1 : P.testBit x
        · rfl
        · rw [c1] at this
          cases c2 : set.testBit x
          · rw [c2] at this; cases this
          · rfl
      · exact h1 P v a1 (by omega) a3 hv
    · intro P a1 a2 a3
      by_cases c : P = i
      · subst c
        exfalso
        apply z
        apply gb_ext (gb_difLt (by omega)) (by omega)
        intro x hx
        rw [gb_difT _ _ (by omega), Nat.zero_testBit]
        have : (P &&& set).testBit x = P.testBit x := by rw [a3]
        rw [Nat.testBit_and] at this
        cases c1 : P.testBit x
        · rfl
        · rw [c1] at this
          cases c2 : set.testBit x
          · rw [c2] at this; cases this
          · rfl
      · exact h2 P a1 (by omega) a3
end
end
section
/-! ===== link: Y ===== -/
/-- an edge that leads from t to the rest of s -/
def gv_ft (W : Nat → Nat) (s t k : Nat) : Prop := t.testBit (k / 7) = true ∧ s.testBit (k % 7) = true ∧ t.testBit (k % 7) = false ∧ 0 < W k
theorem gv_cross {W B : Nat → Nat} (G : gb_G W B) {F : List (Nat × Nat)} {s t : Nat} {f : Nat × Nat} (hE : gv_E W F s) (hf : f ∈ F) (hc : (t.testBit f.1 = true ∧ t.testBit f.2 = false) ∨ (t.testBit f.1 = false ∧ t.testBit f.2 = true)) : ∃ k, k < 49 ∧ gv_ft W s t k ∧ W k = W (7 * f.1 + f.2) := by
  obtain ⟨a1, a2, a3, a4, a5⟩ := hE f hf
  rcases hc with ⟨c1, c2⟩ | ⟨c1, c2⟩
  · refine ⟨7 * f.1 + f.2, by omega, ?_, rfl⟩
    unfold gv_ft
    rw [show (7 * f.1 + f.2) / 7 = f.1 by omega, show (7 * f.1 + f.2) % 7 = f.2 by omega]
    exact ⟨c1, a5, c2, a3⟩
  · refine ⟨7 * f.2 + f.1, by omega, ?_, G.1 _ _ a2 a1⟩
    unfold gv_ft
    rw [show (7 * f.2 + f.1) / 7 = f.2 by omega, show (7 * f.2 + f.1) % 7 = f.1 by omega, G.1 _ _ a2 a1]
    exact ⟨c2, a4, c1, a3⟩
section
variable {p0 : Int32} {xw xn xt xs xe xd xp xc : Nat → Int32} {r0 : Int32} {yw yo yl yp yq yc yf yv ye : Nat → Int32}
theorem gy_tree29 {post : Int32 → Prop} {J : Int32 → Int32 → Int32 → Prop} {W B : Nat → Nat} (G : gb_G W B) (hy : ∀ i, i < 49 → yw i = nI (W i)) {s t sum st : Nat} (hs : s < 128) (ht : t < 128)
    (f : (∀ k, k < 49 → ¬ gv_ft W s t k) → post (-1)) (g : ∀ k, k < 49 → gv_ft W s t k → (∀ k', k' < 49 → gv_ft W s t k' → W k ≤ W k') → J (nI (t ||| 2 ^ (k % 7))) (nI (sum + W k)) (nI (st + 1))) : ∃ n, wY_tree_29 post J (nI s) (nI t) (nI sum) (nI st) r0 yw yo yl yp yq yc yf yv ye n 0 (-1) 0 := by
  refine pk_loop (fun n i (x : Int32 × Int32) => wY_tree_29 post J (nI s) (nI t) (nI sum) (nI st) r0 yw yo yl yp yq yc yf yv ye n x.1 x.2 (nI i)) (fun i x => (x.2 = -1 ∧ ∀ k, k < i → ¬ gv_ft W s t k) ∨ ∃ k, k < i ∧ gv_ft W s t k ∧ x = (nI (W k), nI (k % 7)) ∧ ∀ k', k' < i → gv_ft W s t k' → W k ≤ W k') 49 0 (0, -1) (by omega) (Or.inl ⟨rfl, fun k hk => by omega⟩) ?_ ?_
  · rintro n ⟨x5, x6⟩ h
    rcases h with ⟨h1, h2⟩ | ⟨k, hk, h1, h2, h3⟩
    · dsimp only at h1
      subst h1
      exact gb_ex 49 (br_f (by decide : ¬ (0 : Int32) ≤ -1) (f h2))
    · cases h2
      refine gb_ex 49 (br_t (nI_pos' (by omega)) (nm_r (nI_add _ _) (nm_r (gb_insI (by omega)) (gb_s (g k hk h1 h3)))))
  · rintro n i ⟨x5, x6⟩ hi h K2
    have h9 := G.2.2.1 i hi
    have hu : i / 7 < 7 := by omega
    have hv : i % 7 < 7 := by omega
    have skip : ¬ gv_ft W s t i → wY_tree_29 post J (nI s) (nI t) (nI sum) (nI st) r0 yw yo yl yp yq yc yf yv ye n x5 x6 (nI (i + 1)) := by
      intro hno
      refine K2 (x5, x6) ?_
      rcases h with ⟨h1, h2⟩ | ⟨k, hk, h1, h2, h3⟩
      · refine Or.inl ⟨h1, fun k hk => ?_⟩
        by_cases e : k = i
        · subst e; exact hno
        · exact h2 k (by omega)
      · refine Or.inr ⟨k, by omega, h1, h2, fun k' hk' hf => ?_⟩
        by_cases e : k' = i
        · subst e; exact absurd hf hno
        · exact h3 k' (by omega) hf
    have skip88 : ¬ gv_ft W s t i → wY_tree_88 post J (wY_tree_29 post J (nI s) (nI t) (nI sum) (nI st) r0 yw yo yl yp yq yc yf yv ye n) (nI s) (nI t) (nI sum) (nI st) x5 x6 (nI i) r0 yw yo yl yp yq yc yf yv ye := fun hno => br_t rfl (gb_s (skip hno))
    refine gb_hd 49 hi ⟨gb_n7, gb_q1 t (i / 7) (fun z1 => ⟨gb_n7, gb_q1 s (i % 7) (fun z2 => ⟨gb_n7, gb_q0 t (i % 7) (fun z3 => ⟨vp_in_nI hi (by decide), pk_le (W i) 0 (fun z4 => skip88 (fun c => by have := c.2.2.2; omega)) (fun z4 => ?_) (gb_rdn (hy i hi)) rfl⟩) (fun z3 => skip88 (fun c => by have := c.2.2.1; rw [z3] at this; cases this)) rfl (gb_r7 (by omega))⟩) (fun z2 => skip88 (fun c => by have := c.2.1; rw [z2] at this; cases this)) rfl (gb_r7 (by omega))⟩) (fun z1 => skip88 (fun c => by have := c.1; rw [z1] at this; cases this)) rfl (gb_d7 (by omega))⟩
    have hfit : gv_ft W s t i := ⟨z1, z2, z3, z4⟩
    have take : (∀ k', k' < i → gv_ft W s t k' → W i ≤ W k') → wY_tree_113 post J (wY_tree_29 post J (nI s) (nI t) (nI sum) (nI st) r0 yw yo yl yp yq yc yf yv ye n) (nI s) (nI t) (nI sum) (nI st) (nI i) r0 yw yo yl yp yq yc yf yv ye := by
      intro hmin
      refine ⟨vp_in_nI hi (by decide), nm_r (gb_rdn (hy i hi)) ⟨gb_n7, nm_r (gb_r7 (by omega)) (gb_s (K2 (nI (W i), nI (i % 7)) (Or.inr ⟨i, by omega, hfit, rfl, fun k' hk' hf => ?_⟩)))⟩⟩
      by_cases e : k' = i
      · subst e; exact Nat.le_refl _
      · exact hmin k' (by omega) hf
    refine br_f (by decide) ?_
    rcases h with ⟨h1, h2⟩ | ⟨k, hk, h1, h2, h3⟩
    · dsimp only at h1
      subst h1
      exact br_t (by decide : (-1 : Int32) < 0) (take (fun k' hk' hf => absurd hf (h2 k' hk')))
    · cases h2
      have h9k := G.2.2.1 k (by omega)
      refine br_f (nI_pos (by omega)) ⟨vp_in_nI hi (by decide), pk_le (W k) (W i) (fun y => gb_s (K2 (nI (W k), nI (k % 7)) (Or.inr ⟨k, by omega, h1, rfl, fun k' hk' hf => ?_⟩))) (fun y => take (fun k' hk' hf => by have := h3 k' hk' hf; omega)) rfl (gb_rdn (hy i hi))⟩
      by_cases e : k' = i
      · subst e; exact y
      · exact h3 k' (by omega) hf
theorem gy_tree {post : Int32 → Prop} {W B : Nat → Nat} (G : gb_G W B) (hy : ∀ i, i < 49 → yw i = nI (W i)) {Q : Nat → Nat → Prop} (hQz : Q 0 0) (hQ0 : ∀ r, r < 7 → Q (2 ^ r) 0) (hQs : ∀ t w x y, t < 128 → Q t w → x < 7 → y < 7 → t.testBit y = true → t.testBit x = false → 0 < W (7 * y + x) → Q (t ||| 2 ^ x) (w + W (7 * y + x))) {s : Nat} (hs : s < 128)
    (f : (∀ F, gv_E W F s → ¬ gv_C F s) → post (-1)) (g : ∀ w, w ≤ 63 → Q s w → (∀ F, gv_E W F s → gv_C F s → w ≤ gv_w W F) → post (nI w)) : wpY_tree post (r0, yw, yo, yl, yp, yq, yc, yf, yv, ye) (nI s) := by
  by_cases h0 : s = 0
  · subst h0
    refine nm_r (e' := 0) (by decide) ⟨1, ?_⟩
    unfold wY_tree_10
    refine gy_size 0 (by omega) (br_t (by decide) ?_)
    exact g 0 (by omega) hQz (fun F _ _ => Nat.zero_le _)
  · obtain ⟨l1, l2, _⟩ := gb_loS s hs (by omega)
    have hpcs := gb_pcLe s hs
    have hpc1 := gn_pcPos hs l1 l2
    refine nm_r (gb_lowI s hs (by omega)) ?_
    refine pk_loop (fun n i (x : Nat × Nat) => wY_tree_10 post (nI s) r0 yw yo yl yp yq yc yf yv ye n (nI x.1) (nI x.2) (nI i)) (fun i x => x.1 < 128 ∧ gw_sub x.1 s ∧ gb_pc x.1 = i ∧ x.2 ≤ 9 * i ∧ x.1.testBit (gb_lo s) = true ∧ Q x.1 x.2 ∧ ∀ F, gv_E W F s → gv_C F s → ∃ F', gv_E W F' s ∧ gv_CA x.1 F' s ∧ x.2 + gv_w W F' ≤ gv_w W F) (gb_pc s) 1 (2 ^ gb_lo s, 0) hpc1 ?_ ?_ ?_
    · have hbit : (2 ^ gb_lo s).testBit (gb_lo s) = true := by rw [Nat.testBit_two_pow]; simp
      refine ⟨gb_pow l1, ?_, (by decide : ∀ r, r < 7 → gb_pc (2 ^ r) = 1) _ l1, Nat.zero_le _, hbit, hQ0 _ l1, ?_⟩
      · intro x hx h
        rw [Nat.testBit_two_pow] at h
        have e := of_decide_eq_true h
        rw [← e]; exact l2
      · intro F hE hC
        refine ⟨F, hE, gv_CtoA hC l1 hbit l2, ?_⟩
        dsimp only
        omega
    · rintro n ⟨t, sum⟩ ⟨h1, h2, h3, h4, h5, h6, h7⟩
      dsimp only at h1 h2 h3 h4 h6 h7
      have et : t = s := by
        apply Classical.byContradiction
        intro z
        have := gw_pcLt h1 hs h2 z
        omega
      subst et
      show wY_tree_10 post (nI t) r0 yw yo yl yp yq yc yf yv ye (n + 1) (nI t) (nI sum) (nI (gb_pc t))
      unfold wY_tree_10
      refine gy_size t hs (gb_ex (gb_pc t) (g sum (by omega) h6 ?_))
      intro F hE hC
      obtain ⟨F', _, _, h8⟩ := h7 F hE hC
      omega
    · rintro n i ⟨t, sum⟩ hi ⟨h1, h2, h3, h4, h5, h6, h7⟩ K2
      dsimp only at h1 h2 h3 h4 h5 h6 h7
      show wY_tree_10 post (nI s) r0 yw yo yl yp yq yc yf yv ye (n + 1) (nI t) (nI sum) (nI i)
      unfold wY_tree_10
      refine gy_size s hs (gb_hd (gb_pc s) hi (gy_tree29 G hy hs h1 (fun hno => f ?_) (fun k hk hf hmin => K2 (t ||| 2 ^ (k % 7), sum + W k) ?_)))
      · intro F hE hC
        obtain ⟨F', g1, g2, _⟩ := h7 F hE hC
        have hy0 : ∃ y, y < 7 ∧ s.testBit y = true ∧ ¬ t.testBit y = true := by
          apply Classical.byContradiction
          intro z
          have hsub : gw_sub s t := by
            intro x hx hxs
            apply Classical.byContradiction
            intro c
            exact z ⟨x, hx, hxs, c⟩
          have := gl_pcSub hs h1 hsub
          omega
        obtain ⟨e, he, hc⟩ := g2 (fun x => t.testBit x = true) (fun x _ h => h) hy0
        have hc2 : (t.testBit e.1 = true ∧ t.testBit e.2 = false) ∨ (t.testBit e.1 = false ∧ t.testBit e.2 = true) := by
          rcases hc with ⟨c1, c2⟩ | ⟨c1, c2⟩
          · exact Or.inl ⟨c1, by simpa using c2⟩
          · exact Or.inr ⟨by simpa using c1, c2⟩
        obtain ⟨k, hk, hfk, _⟩ := gv_cross G g1 he hc2
        exact hno k hk hfk
      · obtain ⟨b1, b2, b3, b4⟩ := hf
        have hu : k / 7 < 7 := by omega
        have hv : k % 7 < 7 := by omega
        have ek : 7 * (k / 7) + k % 7 = k := by omega
        have h9 := G.2.2.1 k hk
        refine ⟨gb_insLt h1 hv, ?_, ?_, ?_, ?_, ?_, ?_⟩
        · intro x hx hxt
          dsimp only at hxt
          rw [gb_insT, Bool.or_eq_true] at hxt
          rcases hxt with c | c
          · exact h2 x hx c
          · have e := of_decide_eq_true c
            subst e; exact b2
        · dsimp only
          rw [gb_pcIns t h1 _ hv b3, h3]
        · dsimp only
          omega
        · dsimp only
          rw [gb_insT, h5]; rfl
        · have := hQs t sum (k % 7) (k / 7) h1 h6 hv hu b1 b3 (by rw [ek]; exact b4)
          rw [ek] at this
          exact this
        · intro F hE hC
          obtain ⟨F', g1, g2, g3⟩ := h7 F hE hC
          obtain ⟨F1, f', F2, e1, e2, e3⟩ := gv_exch g2 (fun e he => ⟨(g1 e he).1, (g1 e he).2.1⟩) hv b2 b3
          have hf' : f' ∈ F' := by rw [e1]; simp
          obtain ⟨k', hk', hfk', hw'⟩ := gv_cross G g1 hf' e2
          have hm := hmin k' hk' hfk'
          refine ⟨F1 ++ F2, ?_, e3, ?_⟩
          · intro e he
            apply g1 e
            rw [e1]
            rcases List.mem_append.mp he with c | c
            · exact List.mem_append.mpr (Or.inl c)
            · exact List.mem_append.mpr (Or.inr (List.mem_cons.mpr (Or.inr c)))
          · rw [e1, gv_wA, gv_wC] at g3
            rw [gv_wA]
            dsimp only
            omega
/-- the least tree over the sets below i that hold the given one -/
def gv_L (W : Nat → Nat) (Q : Nat → Nat → Prop) (set i : Nat) (r : Int32) : Prop := (r = -2 ∧ ∀ s, s < i → gw_sub set s → ∀ F, gv_E W F s → ¬ gv_C F s) ∨ ∃ m, m < 1000 ∧ r = nI m ∧ (∃ s, s < i ∧ gw_sub set s ∧ Q s m) ∧ ∀ s, s < i → gw_sub set s → ∀ F, gv_E W F s → gv_C F s → m ≤ gv_w W F
theorem gy_link {post : Int32 → Prop} {W B : Nat → Nat} (G : gb_G W B) (hy : ∀ i, i < 49 → yw i = nI (W i)) {Q : Nat → Nat → Prop} (hQz : Q 0 0) (hQ0 : ∀ r, r < 7 → Q (2 ^ r) 0) (hQs : ∀ t w x y, t < 128 → Q t w → x < 7 → y < 7 → t.testBit y = true → t.testBit x = false → 0 < W (7 * y + x) → Q (t ||| 2 ^ x) (w + W (7 * y + x))) {set : Nat} (hs : set < 128)
    (K : ∀ r, gv_L W Q set 128 r → post r) : ∃ n, wY_link_17 post (nI set) r0 yw yo yl yp yq yc yf yv ye n (-2) 0 := by
  refine pk_loop (fun n i (r : Int32) => wY_link_17 post (nI set) r0 yw yo yl yp yq yc yf yv ye n r (nI i)) (fun i r => gv_L W Q set i r) 128 0 (-2) (by omega) (Or.inl ⟨rfl, fun s hs => by omega⟩) ?_ ?_
  · intro n r h
    exact gb_ex 128 (K r h)
  · intro n i r hi h K2
    have hdl := gb_difLt (t := i) hs
    have skip : (gw_sub set i → ∀ F, gv_E W F i → ¬ gv_C F i) → wY_link_41 post (wY_link_17 post (nI set) r0 yw yo yl yp yq yc yf yv ye n) (nI set) r (nI i) (-1) r0 yw yo yl yp yq yc yf yv ye := by
      intro hno
      refine br_t (by decide) (gb_s (K2 r ?_))
      rcases h with ⟨h1, h2⟩ | ⟨m, h0, h1, ⟨s, a1, a2, a3⟩, h3⟩
      · refine Or.inl ⟨h1, fun s hs hsub => ?_⟩
        by_cases e : s = i
        · subst e; exact hno hsub
        · exact h2 s (by omega) hsub
      · refine Or.inr ⟨m, h0, h1, ⟨s, by omega, a2, a3⟩, fun s hs hsub F hE hC => ?_⟩
        by_cases e : s = i
        · subst e; exact absurd hC (hno hsub F hE)
        · exact h3 s (by omega) hsub F hE hC
    refine gb_hd 128 hi (pk_eq (gb_dif set i) 0 (fun z => gy_tree G hy hQz hQ0 hQs hi (fun c => skip (fun _ => c)) (fun w hw hQw hop => ?_)) (fun z => skip (fun hsub => ?_)) (gb_difI set i) rfl (by omega))
    · have hsub : gw_sub set i := by
        intro x hx hxs
        have : (gb_dif set i).testBit x = false := by rw [z]; exact Nat.zero_testBit x
        rw [gb_difT _ _ (by omega), hxs] at this
        simpa using this
      refine br_f (nI_pos (by omega)) ?_
      rcases h with ⟨h1, h2⟩ | ⟨m, h0, h1, ⟨s, a1, a2, a3⟩, h3⟩
      · refine br_t h1 (gb_s (K2 _ (Or.inr ⟨w, by omega, rfl, ⟨i, by omega, hsub, hQw⟩, fun s hs hsub2 F hE hC => ?_⟩)))
        by_cases e : s = i
        · subst e; exact hop F hE hC
        · exact absurd hC (h2 s (by omega) hsub2 F hE)
      · subst h1
        refine br_f (gt_nI2 h0) (pk_le m w (fun y => gb_s (K2 _ (Or.inr ⟨m, h0, rfl, ⟨s, by omega, a2, a3⟩, fun s hs hsub2 F hE hC => ?_⟩))) (fun y => gb_s (K2 _ (Or.inr ⟨w, by omega, rfl, ⟨i, by omega, hsub, hQw⟩, fun s hs hsub2 F hE hC => ?_⟩))))
        · by_cases e : s = i
          · subst e
            have := hop F hE hC; omega
          · exact h3 s (by omega) hsub2 F hE hC
        · by_cases e : s = i
          · subst e; exact hop F hE hC
          · have := h3 s (by omega) hsub2 F hE hC; omega
    · exfalso
      apply z
      apply gb_ext hdl (by omega)
      intro x hx
      rw [gb_difT _ _ (by omega), Nat.zero_testBit]
      cases c : set.testBit x
      · rfl
      · rw [hsub x hx c]; rfl
end
end
section
/-! ===== link ===== -/
theorem gv_ub {W D A : Nat → Nat} {set : Nat} (hs : set < 128) (hA : ∀ P, 0 < P → P ≤ set → P &&& set = P → gv_AP W D A P) {P v w : Nat} (h : gv_D D P v w) (hP : P &&& set = P) : A (7 * P + v) ≤ w := by
  have H := h (fun P v w => P < 128 ∧ 0 < P ∧ v < 7 ∧ (P &&& set = P → A (7 * P + v) ≤ w)) ⟨?_, ?_⟩
  · exact H.2.2.2 hP
  · intro P t v h1 h2 h3 h4
    have e : P = 2 ^ t := by
      apply gb_ext h1 (gb_pow h2)
      intro i hi
      rw [h4 i hi, Nat.testBit_two_pow]
      apply decide_eq_decide.mpr
      exact ⟨fun c => c.symm, fun c => c.symm⟩
    have hpos : 0 < P := by rw [e]; exact Nat.two_pow_pos t
    refine ⟨h1, hpos, h3, fun hsub => ?_⟩
    have hle : P ≤ set := by rw [← hsub]; exact Nat.and_le_right
    exact Nat.le_of_eq ((hA P hpos hle hsub).2.1 t v h2 h3 e)
  · rintro P P1 P2 u v w1 w2 h1 h2 h3 h4 h5 ⟨a1, a2, a3, a4⟩ ⟨b1, b2, b3, b4⟩
    have e : P = P1 ||| P2 := by
      apply gb_ext h1 (gb_orLt a1 b1)
      intro i hi
      rw [h4 i hi, Nat.testBit_or]
    have hdj : P1 &&& P2 = 0 := (gk_and0 a1).mpr h5
    have hpos : 0 < P := Nat.lt_of_lt_of_le a2 (by rw [e]; exact Nat.left_le_or)
    refine ⟨h1, hpos, h3, fun hsub => ?_⟩
    have hle : P ≤ set := by rw [← hsub]; exact Nat.and_le_right
    have hbit : ∀ i, i < 7 → P.testBit i = true → set.testBit i = true := by
      intro i hi hPi
      have : (P &&& set).testBit i = true := by rw [hsub]; exact hPi
      rw [Nat.testBit_and, Bool.and_eq_true] at this
      exact this.2
    have s1 : P1 &&& set = P1 := by
      apply gb_ext (gb_andLt a1) a1
      intro i hi
      rw [Nat.testBit_and]
      cases c : P1.testBit i
      · rfl
      · rw [hbit i hi (by rw [h4 i hi, c]; rfl)]; rfl
    have s2 : P2 &&& set = P2 := by
      apply gb_ext (gb_andLt b1) b1
      intro i hi
      rw [Nat.testBit_and]
      cases c : P2.testBit i
      · rfl
      · rw [hbit i hi (by rw [h4 i hi, c]; simp)]; rfl
    have c1 := a4 s1
    have c2 := b4 s2
    have c3 := (hA P hpos hle hsub).2.2.1 P1 P2 u v a2 b2 a1 b1 h2 h3 hdj e
    omega
theorem gv_fin {W B D A : Nat → Nat} (G : gb_G W B) (hD : gv_DI W D 7) {set : Nat} (hs : set < 128) (hs0 : 0 < set) (hA : ∀ P, 0 < P → P ≤ set → P &&& set = P → gv_AP W D A P) {r : Int32} (hL : gv_L W (gv_Q D) set 128 r) : r = if A (7 * set + gb_lo set) < 100000 then nI (A (7 * set + gb_lo set)) else -2 := by
  obtain ⟨l1, l2, _⟩ := gb_loS set hs hs0
  have hAP := hA set hs0 (Nat.le_refl _) (Nat.and_self set)
  by_cases hlt : A (7 * set + gb_lo set) < 100000
  · rw [if_pos hlt]
    obtain ⟨F, s, a1, a2, a3, a4, a5, a6⟩ := hAP.2.2.2 _ l1 hlt
    rcases hL with ⟨h1, h2⟩ | ⟨m, h0, h1, ⟨s', b1, b2, b3⟩, h3⟩
    · exact absurd a3 (h2 s a1 a4 F a2)
    · have c1 := h3 s a1 a4 F a2 a3
      obtain ⟨w', d1, d2⟩ := b3.2 set (gb_lo set) hs l1 (b2 _ l1 l2) ⟨_, l1, l2⟩ b2
      have c2 := gv_ub hs hA d2 (Nat.and_self set)
      rw [h1]
      exact congrArg nI (by omega)
  · rw [if_neg hlt]
    rcases hL with ⟨h1, h2⟩ | ⟨m, h0, h1, ⟨s', b1, b2, b3⟩, h3⟩
    · exact h1
    · exfalso
      obtain ⟨w', d1, d2⟩ := b3.2 set (gb_lo set) hs l1 (b2 _ l1 l2) ⟨_, l1, l2⟩ b2
      have c2 := gv_ub hs hA d2 (Nat.and_self set)
      omega
section
variable {p0 : Int32} {xw xn xt xs xe xd xp xc : Nat → Int32} {r0 : Int32} {yw yo yl yp yq yc yf yv ye : Nat → Int32}
theorem i_vc_link {k : Nat} {u : SX} {v : SY} (I : i_Rel k u v) (hk : k + 4 ≤ 2048) (v1 : Int32) : wpX_link (fun r u' => wpY_link (fun r' => r' = r ∧ i_Rel (k + 4) u' v) v v1) u v1 := by
  obtain ⟨p0, xw, xn, xt, xs, xe, xd, xp, xc⟩ := u
  obtain ⟨r0, yw, yo, yl, yp, yq, yc, yf, yv, ye⟩ := v
  by_cases h0 : v1 < 0
  · exact br_t h0 (br_t h0 ⟨rfl, I⟩)
  · by_cases h127 : v1 ≤ 127
    · obtain ⟨W, B, G, hx, hy, hn, hp, ho⟩ := I
      obtain ⟨set, hset, rfl⟩ := nI_of2 (n := 127) (by decide) h0 h127
      have hs : set < 128 := by omega
      unfold wpX_link wpY_link
      dsimp only
      refine br_f h0 (br_t h127 ?_)
      by_cases hz : set = 0
      · subst hz
        refine br_t (by decide) (br_f h0 (br_t h127 (gy_link (set := 0) G hy (Q := fun _ _ => True) trivial (fun _ _ => trivial) (fun _ _ _ _ _ _ _ _ _ _ _ => trivial) (by omega) ?_)))
        intro r hL
        refine ⟨?_, W, B, G, hx, hy, hn, hp, ho⟩
        have hC : gv_C [] 0 := by
          rintro S ⟨x, _, h, _⟩
          rw [Nat.zero_testBit] at h; cases h
        have hE : gv_E W [] 0 := fun e he => by cases he
        have hsub : gw_sub 0 0 := fun _ _ h => h
        rcases hL with ⟨_, h2⟩ | ⟨m, _, h1, _, h3⟩
        · exact absurd hC (h2 0 (by omega) hsub [] hE)
        · have := h3 0 (by omega) hsub [] hE hC
          have e : m = 0 := Nat.le_zero.mp this
          rw [h1, e]; rfl
      · have eand : nI set &&& (nI set - 1) = nI (set &&& (set - 1)) := by
          obtain ⟨q, rfl⟩ : ∃ q, set = q + 1 := ⟨set - 1, by omega⟩
          rw [nI_pred, nx_and, Nat.add_sub_cancel]
        have hand : set &&& (set - 1) ≤ set := Nat.and_le_left
        refine pk_eq (set &&& (set - 1)) 0 (fun z => ?_) (fun z => ?_) eand rfl
        · refine br_f h0 (br_t h127 (gy_link G hy (Q := fun _ _ => True) trivial (fun _ _ => trivial) (fun _ _ _ _ _ _ _ _ _ _ _ => trivial) hs ?_))
          intro r hL
          refine ⟨?_, W, B, G, hx, hy, hn, hp, ho⟩
          have hC : gv_C [] set := by
            rintro S ⟨x, hx7, h1, h2⟩ ⟨y, hy7, h3, h4⟩
            have e2 := gv_sgl set hs (by omega) z
            rw [e2, Nat.testBit_two_pow] at h1 h3
            have : x = y := (of_decide_eq_true h1).symm.trans (of_decide_eq_true h3)
            subst this
            exact absurd h2 h4
          have hE : gv_E W [] set := fun e he => by cases he
          have hsub : gw_sub set set := fun _ _ h => h
          rcases hL with ⟨_, h2⟩ | ⟨m, _, h1, _, h3⟩
          · exact absurd hC (h2 set hs hsub [] hE)
          · have := h3 set hs hsub [] hE hC
            have e : m = 0 := Nat.le_zero.mp this
            rw [h1, e]; rfl
        · refine gx_findDistances G hx ?_
          intro d' D hd hD
          refine gx_link28 hd hD hs (by omega) ?_
          intro t' e' A r hA hr
          have M := gv_DIM hD
          refine br_f h0 (br_t h127 (gy_link G hy (Q := gv_Q D) ?_ (fun r hr => gv_Q0 M hr) ?_ hs ?_))
          · refine ⟨?_, ?_⟩
            · intro x y _ _ h
              rw [Nat.zero_testBit] at h; cases h
            · intro P v _ _ h
              rw [Nat.zero_testBit] at h; cases h
          · intro t w x y ht hQ hx7 hy7 hyt hxt hw
            refine gv_Qs M hQ ht hx7 hy7 hyt hxt ?_ (hD.2.2.1 y x hy7 hx7 hw)
            rw [G.1 y x hy7 hx7] at hw ⊢
            exact hD.2.2.1 x y hx7 hy7 hw
          · intro r' hL
            refine ⟨?_, W, B, G, hx, hy, hn, hp, ho⟩
            rw [hr]
            exact gv_fin G hD hs (by omega) hA hL
    · exact br_f h0 (br_f h127 (br_f h0 (br_f h127 ⟨rfl, I⟩)))
end
end
