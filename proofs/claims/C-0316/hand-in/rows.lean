section
/-! rows of the kit that these parts take (kit/rows) -/
theorem pk_us {f : Nat → Int32} {k : Nat} {x : Int32} : upd f k x k = x := if_pos rfl
theorem pk_un {f : Nat → Int32} {k j : Nat} {x : Int32} (h : j ≠ k) : upd f k x j = f j := if_neg h
theorem pk_sub {a b : Nat} (h : b ≤ a) : nI a - nI b = nI (a - b) := by
  obtain ⟨c, rfl⟩ : ∃ c, a = c + b := ⟨a - b, by omega⟩
  rw [← nI_add, Int32.add_sub_cancel, Nat.add_sub_cancel]
theorem pk_m1 (n : Nat) : nI (n + 1) + (-1) = nI n := by
  rw [← nI_1, Int32.add_assoc, show (1 : Int32) + (-1) = 0 from rfl, Int32.add_zero]
theorem pk_mul (a b : Nat) : nI a * nI b = nI (a * b) := (Int32.ofNat_mul a b).symm
theorem pk_div {a d : Nat} (ha : a < 2 ^ 31) (h0 : 0 < d) (hd : d < 2 ^ 31) : nI a / nI d = nI (a / d) := by
  apply Int32.toInt_inj.mp
  rw [lg_idiv_nonneg (by rw [nI_toInt ha]; omega) (by rw [nI_toInt hd]; omega), nI_toInt ha, nI_toInt hd, nI_toInt (Nat.lt_of_le_of_lt (Nat.div_le_self a d) ha)]
  first | rfl | exact (Int.natCast_ediv _ _).symm
theorem pk_rem {a d : Nat} (ha : a < 2 ^ 31) (h0 : 0 < d) (hd : d < 2 ^ 31) : nI a - nI a / nI d * nI d = nI (a % d) := by
  rw [pk_div ha h0 hd, pk_mul, pk_sub (Nat.div_mul_le_self a d)]
  exact congrArg nI (by have := Nat.div_add_mod' a d; omega)
theorem pk_ix (x : Int32) {n : Nat} (hn : n < 2 ^ 31) : x < 0 ∨ nI n ≤ x ∨ ∃ j : Nat, j < n ∧ x = nI j := by
  by_cases h : x < 0
  · exact Or.inl h
  · obtain ⟨j, hj, rfl⟩ := nI_of h
    by_cases h2 : j < n
    · exact Or.inr (Or.inr ⟨j, h2, rfl⟩)
    · exact Or.inr (Or.inl (nI_le (by omega) hj))
theorem pk_le {x y : Int32} {A B : Prop} (a b : Nat) (f : a ≤ b → A) (g : b < a → B) (hx : x = nI a := by rfl) (hy : y = nI b := by rfl) (ha : a < 2 ^ 31 := by omega) (hb : b < 2 ^ 31 := by omega) : (x ≤ y → A) ∧ (¬ x ≤ y → B) := by
  subst hx hy
  rw [nI_leI ha hb]
  exact ⟨f, fun z => g (by omega)⟩
theorem pk_lt {x y : Int32} {A B : Prop} (a b : Nat) (f : a < b → A) (g : b ≤ a → B) (hx : x = nI a := by rfl) (hy : y = nI b := by rfl) (ha : a < 2 ^ 31 := by omega) (hb : b < 2 ^ 31 := by omega) : (x < y → A) ∧ (¬ x < y → B) := by
  subst hx hy
  rw [nI_ltI ha hb]
  exact ⟨f, fun z => g (by omega)⟩
theorem pk_eq {x y : Int32} {A B : Prop} (a b : Nat) (f : a = b → A) (g : a ≠ b → B) (hx : x = nI a := by rfl) (hy : y = nI b := by rfl) (ha : a < 2 ^ 31 := by omega) (hb : b < 2 ^ 31 := by omega) : (x = y → A) ∧ (¬ x = y → B) := by
  subst hx hy
  rw [nI_eq ha hb]
  exact ⟨f, g⟩
theorem pk_in {x : Int32} (n N : Nat) (h : n < N) (hx : x = nI n := by rfl) (hN : N < 2 ^ 31 := by omega) : vp_in x N := by
  subst hx
  exact vp_in_nI h hN
theorem pk_cl {x : Int32} (n : Nat) (hx : x = nI n := by rfl) (h : n < 2 ^ 31 := by omega) : x.toNatClampNeg = n := by
  subst hx
  exact nI_clamp h
theorem pk_tn {n : Nat} (h : n < 2 ^ 32) : (nI n).toBitVec.toNat = n := Nat.mod_eq_of_lt h
theorem pk_and (x : Int32) {m : Int32} (k : Nat) (hm : m.toBitVec.toNat = 2 ^ k - 1) : x &&& m = nI (x.toBitVec.toNat % 2 ^ k) := by
  apply Int32.toBitVec_inj.mp
  apply BitVec.eq_of_toNat_eq
  rw [Int32.toBitVec_and, BitVec.toNat_and, hm, Nat.and_two_pow_sub_one_eq_mod]
  show _ = (BitVec.ofNat 32 _).toNat
  rw [BitVec.toNat_ofNat]
  exact (Nat.mod_eq_of_lt (Nat.lt_of_le_of_lt (Nat.mod_le _ _) x.toBitVec.isLt)).symm
theorem pk_andE (x : Int32) {m : Int32} (k : Nat) (hm : m.toBitVec.toNat = 2 ^ k - 1) : ∃ j : Nat, j < 2 ^ k ∧ x &&& m = nI j := ⟨_, Nat.mod_lt _ (Nat.two_pow_pos k), pk_and x k hm⟩
theorem pk_shl (a s : Int32) (k : Nat) (hs : (s.toBitVec.smod 32).toNat = k) : (a <<< s).toBitVec.toNat = a.toBitVec.toNat * 2 ^ k % 2 ^ 32 := by
  show (a.toBitVec <<< (s.toBitVec.smod 32).toNat).toNat = _
  rw [hs, BitVec.toNat_shiftLeft, Nat.shiftLeft_eq]
theorem pk_shlN {n : Nat} (s : Int32) (k : Nat) (hs : (s.toBitVec.smod 32).toNat = k) (h : n * 2 ^ k < 2 ^ 32) : nI n <<< s = nI (n * 2 ^ k) := by
  apply Int32.toBitVec_inj.mp
  apply BitVec.eq_of_toNat_eq
  have hn : n < 2 ^ 32 := Nat.lt_of_le_of_lt (Nat.le_mul_of_pos_right n (Nat.two_pow_pos k)) h
  rw [pk_shl _ _ k hs, pk_tn hn, pk_tn h, Nat.mod_eq_of_lt h]
theorem pk_vb (z : Int32) : vp_nar .byte z.toInt8.toInt32 = z.toInt8.toInt32 := by rw [vp_nar_byte]; simp
theorem pk_vs (z : Int32) : vp_nar .short z.toInt16.toInt32 = z.toInt16.toInt32 := by rw [vp_nar_short]; simp
theorem pk_least (P : Nat → Prop) (h : ∃ k, P k) : ∃ k, P k ∧ ∀ j, j < k → ¬ P j := by
  obtain ⟨k, hk⟩ := h
  induction k using Nat.strongRecOn with
  | ind k ih =>
    by_cases e : ∃ j, j < k ∧ P j
    · obtain ⟨j, hj, pj⟩ := e
      exact ih j hj pj
    · exact ⟨k, hk, fun j hj pj => e ⟨j, hj, pj⟩⟩
theorem sb_m1 {p : Nat} (h : 0 < p) : nI p + (-1) = nI (p - 1) := by
  obtain ⟨q, rfl⟩ : ∃ q, p = q + 1 := ⟨p - 1, by omega⟩
  exact pk_m1 q
def bt (x : Int32) (i : Nat) : Bool := x.toBitVec.getLsbD i
theorem b_ext {x y : Int32} (h : ∀ i, i < 32 → bt x i = bt y i) : x = y := Int32.toBitVec_inj.mp (BitVec.eq_of_getLsbD_eq (fun i hi => h i hi))
theorem b_or (x y : Int32) (i : Nat) : bt (x ||| y) i = (bt x i || bt y i) := by unfold bt; rw [Int32.toBitVec_or, BitVec.getLsbD_or]
theorem b_and (x y : Int32) (i : Nat) : bt (x &&& y) i = (bt x i && bt y i) := by unfold bt; rw [Int32.toBitVec_and, BitVec.getLsbD_and]
theorem b_xor (x y : Int32) (i : Nat) : bt (x ^^^ y) i = (bt x i ^^ bt y i) := by unfold bt; rw [Int32.toBitVec_xor, BitVec.getLsbD_xor]
theorem b_big {x : Int32} {i : Nat} (h : 32 ≤ i) : bt x i = false := BitVec.getLsbD_of_ge _ _ h
theorem b_255 (i : Nat) : bt 255 i = decide (i < 8) := by
  rcases Nat.lt_or_ge i 32 with h | h
  · exact (by decide +kernel : ∀ i, i < 32 → bt 255 i = decide (i < 8)) i h
  · rw [b_big h, decide_eq_false (by omega)]
theorem b_65535 (i : Nat) : bt 65535 i = decide (i < 16) := by
  rcases Nat.lt_or_ge i 32 with h | h
  · exact (by decide +kernel : ∀ i, i < 32 → bt 65535 i = decide (i < 16)) i h
  · rw [b_big h, decide_eq_false (by omega)]
theorem b_m1 : ∀ i, i < 32 → bt (-1) i = true := by decide +kernel
theorem b_0 (i : Nat) : bt 0 i = false := BitVec.getLsbD_zero
theorem s_l : ∀ n, n < 32 → ((nI n &&& 31).toBitVec.smod 32).toNat = n := by decide +kernel
theorem s_u : ∀ n, n < 32 → (((nI n).toUInt32 &&& Int32.toUInt32 31).toBitVec % 32).toNat = n := by decide +kernel
theorem b_shl (n : Nat) (hn : n < 32) (x : Int32) {i : Nat} (hi : i < 32) : bt (x <<< (nI n &&& 31)) i = (decide (n ≤ i) && bt x (i - n)) := by
  unfold bt
  rw [Int32.toBitVec_shiftLeft]
  show (x.toBitVec <<< ((nI n &&& 31).toBitVec.smod 32).toNat).getLsbD i = _
  rw [s_l n hn, BitVec.getLsbD_shiftLeft]
  rcases Nat.lt_or_ge i n with h | h
  · simp [h, Nat.not_le.mpr h]
  · simp [hi, h, Nat.not_lt.mpr h]
theorem b_ushr (n : Nat) (hn : n < 32) (x : Int32) (i : Nat) : bt ((x.toUInt32 >>> ((nI n).toUInt32 &&& Int32.toUInt32 31)).toInt32) i = bt x (n + i) := by
  show (x.toUInt32 >>> ((nI n).toUInt32 &&& Int32.toUInt32 31)).toBitVec.getLsbD i = x.toUInt32.toBitVec.getLsbD (n + i)
  rw [UInt32.toBitVec_shiftRight]
  show (x.toUInt32.toBitVec >>> (((nI n).toUInt32 &&& Int32.toUInt32 31).toBitVec % 32).toNat).getLsbD i = _
  rw [s_u n hn, BitVec.getLsbD_ushiftRight]
theorem b_sshr (n : Nat) (hn : n < 32) (x : Int32) {i : Nat} (hi : i < 32) : bt (x >>> (nI n &&& 31)) i = if n + i < 32 then bt x (n + i) else bt x 31 := by
  unfold bt
  rw [Int32.toBitVec_shiftRight]
  show (x.toBitVec.sshiftRight ((nI n &&& 31).toBitVec.smod 32).toNat).getLsbD i = _
  rw [s_l n hn, BitVec.getLsbD_sshiftRight, BitVec.msb_eq_getLsbD_last]
  simp [hi]
theorem b_shl8 (x : Int32) {i : Nat} (hi : i < 32) : bt (x <<< ((8 : Int32) &&& 31)) i = (decide (8 ≤ i) && bt x (i - 8)) := b_shl 8 (by omega) x hi
theorem b_shl16 (x : Int32) {i : Nat} (hi : i < 32) : bt (x <<< ((16 : Int32) &&& 31)) i = (decide (16 ≤ i) && bt x (i - 16)) := b_shl 16 (by omega) x hi
theorem b_shl24 (x : Int32) {i : Nat} (hi : i < 32) : bt (x <<< ((24 : Int32) &&& 31)) i = (decide (24 ≤ i) && bt x (i - 24)) := b_shl 24 (by omega) x hi
theorem b_sshr8 (x : Int32) {i : Nat} (hi : i < 32) : bt (x >>> ((8 : Int32) &&& 31)) i = if 8 + i < 32 then bt x (8 + i) else bt x 31 := b_sshr 8 (by omega) x hi
theorem nx_and (a b : Nat) : nI a &&& nI b = nI (a &&& b) := by
  apply Int32.toBitVec_inj.1
  show BitVec.ofNat 32 a &&& BitVec.ofNat 32 b = BitVec.ofNat 32 (a &&& b)
  apply BitVec.eq_of_getLsbD_eq
  intro i hi
  simp [hi]
theorem nx_xor (a b : Nat) : nI a ^^^ nI b = nI (a ^^^ b) := by
  apply Int32.toBitVec_inj.1
  show BitVec.ofNat 32 a ^^^ BitVec.ofNat 32 b = BitVec.ofNat 32 (a ^^^ b)
  apply BitVec.eq_of_getLsbD_eq
  intro i hi
  simp [hi]
end
section
/-! the mathematics: clauses as digits, assignments as numbers, resolution is complete -/
/-- digit v of the clause number c: 0 absent, 1 wants true, 2 wants false -/
def rz_dg (c v : Nat) : Nat := c / 3 ^ v % 3
def rz_sat (n a : Nat) (f : Nat → Nat) : Prop := ∃ v, v < n ∧ ((f v = 1 ∧ a.testBit v = true) ∨ (f v = 2 ∧ a.testBit v = false))
def rz_sub (n : Nat) (f g : Nat → Nat) : Prop := ∀ v, v < n → f v = 0 ∨ f v = g v
theorem rz_dg_lt (c v : Nat) : rz_dg c v < 3 := Nat.mod_lt _ (by decide)
theorem rz_dg_3 (c v : Nat) : rz_dg c v = 0 ∨ rz_dg c v = 1 ∨ rz_dg c v = 2 := by
  have h := rz_dg_lt c v
  omega
theorem rz_sub_rfl (n : Nat) (f : Nat → Nat) : rz_sub n f f := fun _ _ => Or.inr rfl
theorem rz_sub_tr {n : Nat} {f g h : Nat → Nat} (a : rz_sub n f g) (b : rz_sub n g h) : rz_sub n f h := by
  intro v hv
  rcases a v hv with z | z
  · exact Or.inl z
  · rcases b v hv with y | y
    · exact Or.inl (z.trans y)
    · exact Or.inr (z.trans y)
theorem rz_sub_sat {n a : Nat} {f g : Nat → Nat} (h : rz_sub n f g) (s : rz_sat n a f) : rz_sat n a g := by
  obtain ⟨v, hv, s⟩ := s
  refine ⟨v, hv, ?_⟩
  rcases h v hv with z | z
  · rcases s with s | s <;> omega
  · rw [← z]; exact s
theorem rz_mod_succ (c k : Nat) : c % 3 ^ (k + 1) = c % 3 ^ k + 3 ^ k * rz_dg c k := Nat.mod_pow_succ
theorem rz_sub_mod {n c d : Nat} (h : rz_sub n (rz_dg d) (rz_dg c)) : ∀ k, k ≤ n → d % 3 ^ k ≤ c % 3 ^ k := by
  intro k
  induction k with
  | zero => intro _; simp [Nat.mod_one]
  | succ k ih =>
    intro hk
    rw [rz_mod_succ, rz_mod_succ]
    have i := ih (by omega)
    have m : 3 ^ k * rz_dg d k ≤ 3 ^ k * rz_dg c k := by
      apply Nat.mul_le_mul_left
      rcases h k (by omega) with z | z <;> omega
    omega
theorem rz_sub_le {n c d : Nat} (hd : d < 3 ^ n) (hc : c < 3 ^ n) (h : rz_sub n (rz_dg d) (rz_dg c)) : d ≤ c := by
  have t := rz_sub_mod h n (Nat.le_refl n)
  rw [Nat.mod_eq_of_lt hd, Nat.mod_eq_of_lt hc] at t
  exact t
theorem rz_sub_anti {n c d : Nat} (hd : d < 3 ^ n) (hc : c < 3 ^ n) (h : rz_sub n (rz_dg d) (rz_dg c)) (h' : rz_sub n (rz_dg c) (rz_dg d)) : d = c :=
  Nat.le_antisymm (rz_sub_le hd hc h) (rz_sub_le hc hd h')
/-- the number with given digits -/
def rz_num (f : Nat → Nat) : Nat → Nat
  | 0 => 0
  | k + 1 => rz_num f k + f k * 3 ^ k
theorem rz_num_lt {f : Nat → Nat} : ∀ k, (∀ v, v < k → f v < 3) → rz_num f k < 3 ^ k := by
  intro k
  induction k with
  | zero => intro _; exact Nat.one_pos
  | succ k ih =>
    intro h
    have i := ih (fun v hv => h v (by omega))
    have t := h k (by omega)
    show rz_num f k + f k * 3 ^ k < 3 ^ (k + 1)
    rw [Nat.pow_succ]
    have m : f k * 3 ^ k ≤ 2 * 3 ^ k := Nat.mul_le_mul_right _ (by omega)
    omega
theorem rz_num_dg {f : Nat → Nat} : ∀ k, (∀ v, v < k → f v < 3) → ∀ v, v < k → rz_dg (rz_num f k) v = f v := by
  intro k
  induction k with
  | zero => intro _ v hv; omega
  | succ k ih =>
    intro h v hv
    have i := ih (fun v hv => h v (by omega))
    have l := rz_num_lt (f := f) k (fun v hv => h v (by omega))
    have t := h v hv
    show (rz_num f k + f k * 3 ^ k) / 3 ^ v % 3 = f v
    rcases Nat.lt_or_ge v k with z | z
    · have e : f k * 3 ^ k = 3 ^ v * (f k * 3 ^ (k - v)) := by
        rw [Nat.mul_left_comm, ← Nat.pow_add]
        congr 2
        omega
      have e2 : f k * 3 ^ (k - v) = 3 * (f k * 3 ^ (k - v - 1)) := by
        rw [Nat.mul_left_comm, ← Nat.pow_succ']
        congr 2
        omega
      rw [e, Nat.add_mul_div_left _ _ (Nat.pow_pos (by decide)), e2, Nat.add_mul_mod_self_left]
      exact i v z
    · have e : v = k := by omega
      subst e
      rw [Nat.add_mul_div_right _ _ (Nat.pow_pos (by decide)), Nat.div_eq_of_lt l, Nat.zero_add]
      exact Nat.mod_eq_of_lt t
/-- an assignment with given bits -/
theorem rz_asg (f : Nat → Bool) : ∀ n, ∃ a, a < 2 ^ n ∧ ∀ v, v < n → a.testBit v = f v := by
  intro n
  induction n with
  | zero => exact ⟨0, by decide, fun v hv => by omega⟩
  | succ n ih =>
    obtain ⟨a, ha, hb⟩ := ih
    have hp : 2 ^ (n + 1) = 2 ^ n + 2 ^ n := by rw [Nat.pow_succ]; omega
    have hz : a.testBit n = false := Nat.testBit_lt_two_pow ha
    cases hf : f n with
    | false =>
      refine ⟨a, by omega, fun v hv => ?_⟩
      rcases Nat.lt_or_ge v n with z | z
      · exact hb v z
      · have e : v = n := by omega
        rw [e, hz, hf]
    | true =>
      refine ⟨2 ^ n + a, by omega, fun v hv => ?_⟩
      rcases Nat.lt_or_ge v n with z | z
      · rw [Nat.testBit_two_pow_add_gt z]; exact hb v z
      · have e : v = n := by omega
        rw [e, Nat.testBit_two_pow_add_eq, hz, hf]; rfl
/-- two clauses of K that clash at v alone have within their resolvent a clause of L -/
def rz_Clo (n : Nat) (K L : Nat → Prop) : Prop := ∀ d e v, v < n → K d → K e → rz_dg d v = 1 → rz_dg e v = 2 →
  (∀ w, w < n → w ≠ v → rz_dg d w = 0 ∨ rz_dg e w = 0 ∨ rz_dg d w = rz_dg e w) →
  ∃ g, L g ∧ ∀ w, w < n → rz_dg g w = 0 ∨ (w ≠ v ∧ (rz_dg g w = rz_dg d w ∨ rz_dg g w = rz_dg e w))
/-- resolution is complete: a clause that every model of K satisfies has a clause of K within it -/
theorem rz_comp {n : Nat} {K : Nat → Prop} (hC : rz_Clo n K K) : ∀ (k : Nat) (f : Nat → Nat), (∀ v, v < n → f v < 3) → (∀ v, v < n → k ≤ v → f v ≠ 0) →
    (∀ a, a < 2 ^ n → (∀ d, K d → rz_sat n a (rz_dg d)) → rz_sat n a f) → ∃ d, K d ∧ rz_sub n (rz_dg d) f := by
  intro k
  induction k with
  | zero =>
    intro f h3 h0 H
    obtain ⟨a, ha, hb⟩ := rz_asg (fun v => decide (f v = 2)) n
    apply Classical.byContradiction
    intro hno
    have hall : ∀ d, K d → rz_sat n a (rz_dg d) := by
      intro d hd
      apply Classical.byContradiction
      intro hs
      apply hno
      refine ⟨d, hd, fun v hv => ?_⟩
      have hbv := hb v hv
      have t3 := h3 v hv
      have t0 := h0 v hv (Nat.zero_le _)
      rcases rz_dg_3 d v with z | z | z
      · exact Or.inl z
      · by_cases y : f v = 2
        · exact absurd ⟨v, hv, Or.inl ⟨z, by rw [hbv]; exact decide_eq_true y⟩⟩ hs
        · exact Or.inr (by omega)
      · by_cases y : f v = 2
        · exact Or.inr (by omega)
        · exact absurd ⟨v, hv, Or.inr ⟨z, by rw [hbv]; exact decide_eq_false y⟩⟩ hs
    obtain ⟨v, hv, s⟩ := H a ha hall
    have hbv := hb v hv
    rcases s with ⟨s1, s2⟩ | ⟨s1, s2⟩
    · rw [hbv] at s2
      have := of_decide_eq_true s2
      omega
    · rw [hbv] at s2
      exact (of_decide_eq_false s2) s1
  | succ k ih =>
    intro f h3 h0 H
    by_cases hk : k < n ∧ f k = 0
    · obtain ⟨hk, fk⟩ := hk
      have ext : ∀ x, x < 3 → x ≠ 0 → ∃ d, K d ∧ rz_sub n (rz_dg d) (fun w => if w = k then x else f w) := by
        intro x hx hx0
        refine ih _ (fun v hv => ?_) (fun v hv hkv => ?_) (fun a ha hm => ?_)
        · show (if v = k then x else f v) < 3
          split
          · exact hx
          · exact h3 v hv
        · show (if v = k then x else f v) ≠ 0
          split
          · exact hx0
          · exact h0 v hv (by omega)
        · obtain ⟨v, hv, s⟩ := H a ha hm
          refine ⟨v, hv, ?_⟩
          have hvk : v ≠ k := by
            intro e
            rw [e, fk] at s
            omega
          show ((if v = k then x else f v) = 1 ∧ _) ∨ ((if v = k then x else f v) = 2 ∧ _)
          rw [if_neg hvk]
          exact s
      obtain ⟨d, hd, sd⟩ := ext 1 (by decide) (by decide)
      obtain ⟨e, he, se⟩ := ext 2 (by decide) (by decide)
      have sd' : ∀ w, w < n → w ≠ k → rz_dg d w = 0 ∨ rz_dg d w = f w := by
        intro w hw hwk
        have t := sd w hw
        dsimp only at t
        rw [if_neg hwk] at t
        exact t
      have se' : ∀ w, w < n → w ≠ k → rz_dg e w = 0 ∨ rz_dg e w = f w := by
        intro w hw hwk
        have t := se w hw
        dsimp only at t
        rw [if_neg hwk] at t
        exact t
      have dk := sd k hk
      dsimp only at dk
      rw [if_pos rfl] at dk
      have ek := se k hk
      dsimp only at ek
      rw [if_pos rfl] at ek
      rcases dk with dk | dk
      · refine ⟨d, hd, fun w hw => ?_⟩
        by_cases z : w = k
        · rw [z]; exact Or.inl dk
        · exact sd' w hw z
      · rcases ek with ek | ek
        · refine ⟨e, he, fun w hw => ?_⟩
          by_cases z : w = k
          · rw [z]; exact Or.inl ek
          · exact se' w hw z
        · obtain ⟨g, hg, sg⟩ := hC d e k hk hd he dk ek (fun w hw hwk => by
            have t1 := sd' w hw hwk
            have t2 := se' w hw hwk
            omega)
          refine ⟨g, hg, fun w hw => ?_⟩
          rcases sg w hw with z | ⟨z, y⟩
          · exact Or.inl z
          · have t1 := sd' w hw z
            have t2 := se' w hw z
            omega
    · refine ih f h3 (fun v hv hkv => ?_) H
      by_cases z : v = k
      · intro f0
        rw [z] at f0 hv
        exact hk ⟨hv, f0⟩
      · exact h0 v hv (by omega)
end
section
/-! counts -/
noncomputable def rz_b (p : Prop) : Nat := @ite _ p (Classical.propDecidable p) 1 0
theorem rz_b1 {p : Prop} (h : p) : rz_b p = 1 := if_pos h
theorem rz_b0 {p : Prop} (h : ¬ p) : rz_b p = 0 := if_neg h
noncomputable def rz_cp (p : Nat → Prop) : Nat → Nat
  | 0 => 0
  | k + 1 => rz_cp p k + rz_b (p k)
theorem rz_cp_s (p : Nat → Prop) (k : Nat) : rz_cp p (k + 1) = rz_cp p k + rz_b (p k) := rfl
theorem rz_b_mono {p q : Prop} (h : p → q) : rz_b p ≤ rz_b q := by
  by_cases z : p
  · rw [rz_b1 z, rz_b1 (h z)]; exact Nat.le_refl _
  · rw [rz_b0 z]; exact Nat.zero_le _
theorem rz_b_congr {p q : Prop} (h : p ↔ q) : rz_b p = rz_b q := Nat.le_antisymm (rz_b_mono h.mp) (rz_b_mono h.mpr)
theorem rz_cp_mono {p q : Nat → Prop} : ∀ k, (∀ c, c < k → p c → q c) → rz_cp p k ≤ rz_cp q k := by
  intro k
  induction k with
  | zero => intro _; exact Nat.le_refl _
  | succ k ih =>
    intro h
    have i := ih (fun c hc => h c (by omega))
    have j := rz_b_mono (h k (by omega))
    rw [rz_cp_s, rz_cp_s]
    omega
theorem rz_cp_congr {p q : Nat → Prop} {k : Nat} (h : ∀ c, c < k → (p c ↔ q c)) : rz_cp p k = rz_cp q k :=
  Nat.le_antisymm (rz_cp_mono k (fun c hc => (h c hc).mp)) (rz_cp_mono k (fun c hc => (h c hc).mpr))
theorem rz_cp_lt {p q : Nat → Prop} {i : Nat} (hq : q i) (hp : ¬ p i) : ∀ k, i < k → (∀ c, c < k → p c → q c) → rz_cp p k < rz_cp q k := by
  intro k
  induction k with
  | zero => intro hi; omega
  | succ k ih =>
    intro hi h
    rw [rz_cp_s, rz_cp_s]
    have j := rz_b_mono (h k (by omega))
    rcases Nat.lt_or_ge i k with z | z
    · have i := ih z (fun c hc => h c (by omega))
      omega
    · have e : i = k := by omega
      subst e
      have m := rz_cp_mono i (fun c hc => h c (by omega))
      rw [rz_b0 hp, rz_b1 hq]
      omega
theorem rz_cp_le (p : Nat → Prop) : ∀ k, rz_cp p k ≤ k := by
  intro k
  induction k with
  | zero => exact Nat.le_refl _
  | succ k ih =>
    rw [rz_cp_s]
    have j : rz_b (p k) ≤ rz_b True := rz_b_mono (fun _ => trivial)
    rw [rz_b1 trivial] at j
    omega
theorem rz_cp_z {p : Nat → Prop} : ∀ k, (∀ c, c < k → ¬ p c) → rz_cp p k = 0 := by
  intro k
  induction k with
  | zero => intro _; rfl
  | succ k ih => intro h; rw [rz_cp_s, ih (fun c hc => h c (by omega)), rz_b0 (h k (by omega))]
theorem rz_cp_pos {p : Nat → Prop} {i k : Nat} (hi : i < k) (h : p i) : 0 < rz_cp p k := by
  have t := rz_cp_lt (p := fun _ => False) (q := p) h (fun z => z) k hi (fun _ _ z => z.elim)
  omega
theorem rz_cp_or {p q : Nat → Prop} : ∀ k, (∀ c, c < k → p c → ¬ q c) → rz_cp (fun c => p c ∨ q c) k = rz_cp p k + rz_cp q k := by
  intro k
  induction k with
  | zero => intro _; rfl
  | succ k ih =>
    intro h
    have i := ih (fun c hc => h c (by omega))
    have j : rz_b (p k ∨ q k) = rz_b (p k) + rz_b (q k) := by
      by_cases z : p k
      · rw [rz_b1 z, rz_b1 (Or.inl z), rz_b0 (h k (by omega) z)]
      · by_cases y : q k
        · rw [rz_b0 z, rz_b1 y, rz_b1 (Or.inr y)]
        · rw [rz_b0 z, rz_b0 y, rz_b0 (fun x => x.elim z y)]
    rw [rz_cp_s, rz_cp_s, rz_cp_s, i]
    show _ + rz_b (p k ∨ q k) = _
    rw [j]
    omega
theorem rz_cp_one {i : Nat} : ∀ k, i < k → rz_cp (fun c => c = i) k = 1 := by
  intro k
  induction k with
  | zero => intro h; omega
  | succ k ih =>
    intro h
    rw [rz_cp_s]
    rcases Nat.lt_or_ge i k with z | z
    · rw [ih z, rz_b0 (by omega)]
    · have e : k = i := by omega
      rw [rz_b1 e, rz_cp_z k (fun c hc => by omega)]
theorem rz_cp_ins {p q : Nat → Prop} {i k : Nat} (hi : i < k) (hp : ¬ p i) (h : ∀ c, c < k → (q c ↔ p c ∨ c = i)) : rz_cp q k = rz_cp p k + 1 := by
  rw [rz_cp_congr h, rz_cp_or k (fun c _ hc e => hp (by rw [← e]; exact hc)), rz_cp_one k hi]
/-- a count over places is a count over values -/
theorem rz_cp_img {b : Nat → Nat} {q : Nat → Prop} {N : Nat} : ∀ s, (∀ i, i < s → b i < N) → (∀ i j, i < s → j < s → b i = b j → i = j) →
    rz_cp (fun i => q (b i)) s = rz_cp (fun c => (∃ i, i < s ∧ b i = c) ∧ q c) N := by
  intro s
  induction s with
  | zero => intro _ _; rw [rz_cp_z N (fun c _ h => by obtain ⟨⟨i, hi, _⟩, _⟩ := h; omega)]; rfl
  | succ s ih =>
    intro hb hj
    have i := ih (fun i hi => hb i (by omega)) (fun i j hi hj' => hj i j (by omega) (by omega))
    rw [rz_cp_s, i]
    have hn : ¬ ∃ i, i < s ∧ b i = b s := by
      rintro ⟨i, hi, e⟩
      have := hj i s (by omega) (by omega) e
      omega
    by_cases z : q (b s)
    · rw [rz_b1 z]
      refine (rz_cp_ins (hb s (by omega)) (fun h => hn h.1) (fun c _ => ⟨?_, ?_⟩)).symm
      · rintro ⟨⟨i, hi, e⟩, hq⟩
        by_cases y : i = s
        · right; rw [← e, y]
        · left; exact ⟨⟨i, by omega, e⟩, hq⟩
      · rintro (⟨⟨i, hi, e⟩, hq⟩ | e)
        · exact ⟨⟨i, by omega, e⟩, hq⟩
        · exact ⟨⟨s, by omega, e.symm⟩, by rw [e]; exact z⟩
    · rw [rz_b0 z, Nat.add_zero]
      apply rz_cp_congr
      intro c _
      constructor
      · rintro ⟨⟨i, hi, e⟩, hq⟩; exact ⟨⟨i, by omega, e⟩, hq⟩
      · rintro ⟨⟨i, hi, e⟩, hq⟩
        have y : i ≠ s := by
          intro y
          rw [y] at e
          rw [← e] at hq
          exact z hq
        exact ⟨⟨i, by omega, e⟩, hq⟩
end
section
/-! saturation: the invariant of taking a clause in -/
/-- some clause of K lies within f -/
def rz_Sb (n : Nat) (K : Nat → Prop) (f : Nat → Nat) : Prop := ∃ d, K d ∧ rz_sub n (rz_dg d) f
/-- K kept, W waiting, M the models of both -/
def rz_Inv (n : Nat) (M K W : Nat → Prop) : Prop :=
  (∀ c, K c → c < 3 ^ n) ∧ (∀ c, W c → c < 3 ^ n) ∧ (∀ a, a < 2 ^ n → (M a ↔ ∀ c, K c ∨ W c → rz_sat n a (rz_dg c))) ∧
  rz_Clo n K (fun c => K c ∨ W c) ∧ (∀ c d, K c → K d → rz_sub n (rz_dg c) (rz_dg d) → c = d)
def rz_Good (n : Nat) (M K : Nat → Prop) : Prop := rz_Inv n M K (fun _ => False)
theorem rz_inv_W {n : Nat} {M K W W' : Nat → Prop} (h : rz_Inv n M K W) (e : ∀ c, W c ↔ W' c) : rz_Inv n M K W' := by
  have : W = W' := funext (fun c => propext (e c))
  rw [← this]; exact h
theorem rz_inv_K {n : Nat} {M K K' W : Nat → Prop} (h : rz_Inv n M K W) (e : ∀ c, K c ↔ K' c) : rz_Inv n M K' W := by
  have : K = K' := funext (fun c => propext (e c))
  rw [← this]; exact h
theorem rz_inv_M {n : Nat} {M M' K W : Nat → Prop} (h : rz_Inv n M K W) (e : ∀ a, a < 2 ^ n → (M a ↔ M' a)) : rz_Inv n M' K W := by
  obtain ⟨h1, h2, h3, h4, h5⟩ := h
  exact ⟨h1, h2, fun a ha => (e a ha).symm.trans (h3 a ha), h4, h5⟩
theorem rz_good_0 (n : Nat) : rz_Good n (fun _ => True) (fun _ => False) :=
  ⟨fun _ h => h.elim, fun _ h => h.elim, fun _ _ => ⟨fun _ _ h => h.elim (fun z => z.elim) (fun z => z.elim), fun _ => trivial⟩, fun _ _ _ _ h => h.elim, fun _ _ h => h.elim⟩
theorem rz_start1 {n c : Nat} {M K : Nat → Prop} (G : rz_Good n M K) (s : rz_Sb n K (rz_dg c)) : rz_Inv n (fun a => M a ∧ rz_sat n a (rz_dg c)) K (fun _ => False) := by
  obtain ⟨h1, h2, h3, h4, h5⟩ := G
  refine ⟨h1, h2, fun a ha => ⟨fun h => (h3 a ha).mp h.1, fun h => ⟨(h3 a ha).mpr h, ?_⟩⟩, h4, h5⟩
  obtain ⟨d, hd, sd⟩ := s
  exact rz_sub_sat sd (h d (Or.inl hd))
theorem rz_start2 {n c : Nat} {M K : Nat → Prop} (G : rz_Good n M K) (hc : c < 3 ^ n) : rz_Inv n (fun a => M a ∧ rz_sat n a (rz_dg c)) K (fun x => x = c) := by
  obtain ⟨h1, h2, h3, h4, h5⟩ := G
  refine ⟨h1, fun x hx => by rw [hx]; exact hc, fun a ha => ⟨fun h x hx => ?_, fun h => ⟨(h3 a ha).mpr (fun x hx => ?_), h c (Or.inr rfl)⟩⟩, fun d e v hv hd he d1 e2 hw => ?_, h5⟩
  · rcases hx with hx | hx
    · exact (h3 a ha).mp h.1 x (Or.inl hx)
    · rw [hx]; exact h.2
  · rcases hx with hx | hx
    · exact h x (Or.inl hx)
    · exact hx.elim
  · obtain ⟨g, hg, sg⟩ := h4 d e v hv hd he d1 e2 hw
    exact ⟨g, Or.inl (hg.elim (fun z => z) (fun z => z.elim)), sg⟩
theorem rz_res_sub {n v d e g h : Nat} (s : rz_sub n (rz_dg h) (rz_dg g)) (r : ∀ w, w < n → rz_dg g w = 0 ∨ (w ≠ v ∧ (rz_dg g w = rz_dg d w ∨ rz_dg g w = rz_dg e w))) :
    ∀ w, w < n → rz_dg h w = 0 ∨ (w ≠ v ∧ (rz_dg h w = rz_dg d w ∨ rz_dg h w = rz_dg e w)) := by
  intro w hw
  rcases s w hw with z | z
  · exact Or.inl z
  · rw [z]; exact r w hw
theorem rz_popA {n g : Nat} {M K W : Nat → Prop} (I : rz_Inv n M K W) (s : rz_Sb n K (rz_dg g)) : rz_Inv n M K (fun c => W c ∧ c ≠ g) := by
  obtain ⟨h1, h2, h3, h4, h5⟩ := I
  obtain ⟨d, hd, sd⟩ := s
  refine ⟨h1, fun c hc => h2 c hc.1, fun a ha => ⟨fun h c hc => (h3 a ha).mp h c (hc.elim Or.inl (fun z => Or.inr z.1)), fun h => (h3 a ha).mpr (fun c hc => ?_)⟩, fun d' e v hv hd' he d1 e2 hw => ?_, h5⟩
  · rcases hc with hc | hc
    · exact h c (Or.inl hc)
    · by_cases z : c = g
      · rw [z]; exact rz_sub_sat sd (h d (Or.inl hd))
      · exact h c (Or.inr ⟨hc, z⟩)
  · obtain ⟨x, hx, sx⟩ := h4 d' e v hv hd' he d1 e2 hw
    rcases hx with hx | hx
    · exact ⟨x, Or.inl hx, sx⟩
    · by_cases z : x = g
      · exact ⟨d, Or.inl hd, rz_res_sub (by rw [z]; exact sd) sx⟩
      · exact ⟨x, Or.inr ⟨hx, z⟩, sx⟩
/-- g and c clash at v alone -/
def rz_clash (n g c v : Nat) : Prop := (rz_dg g v = 1 ∧ rz_dg c v = 2 ∨ rz_dg g v = 2 ∧ rz_dg c v = 1) ∧
  ∀ w, w < n → w ≠ v → rz_dg g w = 0 ∨ rz_dg c w = 0 ∨ rz_dg g w = rz_dg c w
theorem rz_popB {n g : Nat} {M K W K2 W' : Nat → Prop} (I : rz_Inv n M K W) (hg : W g) (s : ¬ rz_Sb n K (rz_dg g))
    (hK : ∀ c, K2 c ↔ c = g ∨ (K c ∧ ¬ rz_sub n (rz_dg g) (rz_dg c)))
    (w1 : ∀ x, W x → x ≠ g → W' x)
    (w2 : ∀ x, W' x → x < 3 ^ n ∧ ((W x ∧ x ≠ g) ∨ (∀ a, a < 2 ^ n → (∀ c, K2 c → rz_sat n a (rz_dg c)) → rz_sat n a (rz_dg x))))
    (w3 : ∀ c v, K2 c → v < n → rz_clash n g c v → ∃ r, (K2 r ∨ W' r) ∧ ∀ w, w < n → rz_dg r w = 0 ∨ (w ≠ v ∧ (rz_dg r w = rz_dg g w ∨ rz_dg r w = rz_dg c w))) :
    rz_Inv n M K2 W' := by
  obtain ⟨h1, h2, h3, h4, h5⟩ := I
  have g2 : K2 g := (hK g).mpr (Or.inl rfl)
  have sat2 : ∀ a, a < 2 ^ n → M a → ∀ c, K2 c → rz_sat n a (rz_dg c) := by
    intro a ha hm c hc
    rcases (hK c).mp hc with z | z
    · rw [z]; exact (h3 a ha).mp hm g (Or.inr hg)
    · exact (h3 a ha).mp hm c (Or.inl z.1)
  have repl : ∀ x, K x ∨ W x → ∃ y, (K2 y ∨ W' y) ∧ rz_sub n (rz_dg y) (rz_dg x) := by
    intro x hx
    by_cases z : x = g
    · exact ⟨g, Or.inl g2, by rw [z]; exact rz_sub_rfl _ _⟩
    · rcases hx with hx | hx
      · by_cases y : rz_sub n (rz_dg g) (rz_dg x)
        · exact ⟨g, Or.inl g2, y⟩
        · exact ⟨x, Or.inl ((hK x).mpr (Or.inr ⟨hx, y⟩)), rz_sub_rfl _ _⟩
      · exact ⟨x, Or.inr (w1 x hx z), rz_sub_rfl _ _⟩
  refine ⟨fun c hc => ?_, fun c hc => (w2 c hc).1, fun a ha => ⟨fun hm c hc => ?_, fun h => (h3 a ha).mpr (fun c hc => ?_)⟩, fun d e v hv hd he d1 e2 hw => ?_, fun c d hc hd sc => ?_⟩
  · rcases (hK c).mp hc with z | z
    · rw [z]; exact h2 g hg
    · exact h1 c z.1
  · rcases hc with hc | hc
    · exact sat2 a ha hm c hc
    · rcases (w2 c hc).2 with z | z
      · exact (h3 a ha).mp hm c (Or.inr z.1)
      · exact z a ha (sat2 a ha hm)
  · obtain ⟨y, hy, sy⟩ := repl c hc
    exact rz_sub_sat sy (h y hy)
  · by_cases dg : d = g
    · subst dg
      exact w3 e v he hv ⟨Or.inl ⟨d1, e2⟩, hw⟩
    · by_cases eg : e = g
      · subst eg
        obtain ⟨r, hr, sr⟩ := w3 d v hd hv ⟨Or.inr ⟨e2, d1⟩, fun w hw' hne => by have t := hw w hw' hne; omega⟩
        exact ⟨r, hr, fun w hw' => by have t := sr w hw'; omega⟩
      · have hd' : K d := by
          rcases (hK d).mp hd with z | z
          · exact absurd z dg
          · exact z.1
        have he' : K e := by
          rcases (hK e).mp he with z | z
          · exact absurd z eg
          · exact z.1
        obtain ⟨x, hx, sx⟩ := h4 d e v hv hd' he' d1 e2 hw
        obtain ⟨y, hy, sy⟩ := repl x hx
        exact ⟨y, hy, rz_res_sub sy sx⟩
  · rcases (hK c).mp hc with z | z
    · rcases (hK d).mp hd with y | y
      · rw [z, y]
      · rw [z] at sc
        exact absurd sc y.2
    · rcases (hK d).mp hd with y | y
      · rw [y] at sc
        exact absurd ⟨c, z.1, sc⟩ s
      · exact h5 c d z.1 y.1 sc
/-- what is still to be taken up, at most -/
noncomputable def rz_ms (n : Nat) (K W : Nat → Prop) : Nat := rz_cp (fun c => W c ∨ ¬ rz_Sb n K (rz_dg c)) (3 ^ n)
theorem rz_msA {n g : Nat} {K W : Nat → Prop} (hg : W g) (hn : g < 3 ^ n) (s : rz_Sb n K (rz_dg g)) : rz_ms n K (fun c => W c ∧ c ≠ g) < rz_ms n K W :=
  rz_cp_lt (i := g) (Or.inl hg) (fun h => h.elim (fun z => z.2 rfl) (fun z => z s)) _ hn (fun _ _ h => h.elim (fun z => Or.inl z.1) Or.inr)
theorem rz_msB {n g : Nat} {K W K2 W' : Nat → Prop} (hg : W g) (hn : g < 3 ^ n)
    (hK : ∀ c, K2 c ↔ c = g ∨ (K c ∧ ¬ rz_sub n (rz_dg g) (rz_dg c)))
    (w2 : ∀ x, W' x → (W x ∧ x ≠ g) ∨ ¬ rz_Sb n K2 (rz_dg x)) : rz_ms n K2 W' < rz_ms n K W := by
  have g2 : K2 g := (hK g).mpr (Or.inl rfl)
  have mono : ∀ f, rz_Sb n K f → rz_Sb n K2 f := by
    rintro f ⟨d, hd, sd⟩
    by_cases y : rz_sub n (rz_dg g) (rz_dg d)
    · exact ⟨g, g2, rz_sub_tr y sd⟩
    · exact ⟨d, (hK d).mpr (Or.inr ⟨hd, y⟩), sd⟩
  have sg : rz_Sb n K2 (rz_dg g) := ⟨g, g2, rz_sub_rfl _ _⟩
  refine rz_cp_lt (i := g) (Or.inl hg) (fun h => ?_) _ hn (fun c _ h => ?_)
  · rcases h with h | h
    · rcases w2 g h with z | z
      · exact z.2 rfl
      · exact z sg
    · exact h sg
  · rcases h with h | h
    · rcases w2 c h with z | z
      · exact Or.inl z.1
      · exact Or.inr (fun y => z (mono _ y))
    · exact Or.inr (fun y => h (mono _ y))
theorem rz_ms_le (n : Nat) (K W : Nat → Prop) : rz_ms n K W ≤ 3 ^ n := rz_cp_le _ _
theorem rz_ms_pos {n c : Nat} {K W : Nat → Prop} (hc : W c) (hn : c < 3 ^ n) : 0 < rz_ms n K W := rz_cp_pos hn (Or.inl hc)
/-! what a saturated set knows -/
theorem rz_good_imp {n : Nat} {M K : Nat → Prop} (G : rz_Good n M K) {f : Nat → Nat} (hf : ∀ v, v < n → f v < 3) : (∀ a, a < 2 ^ n → M a → rz_sat n a f) ↔ rz_Sb n K f := by
  obtain ⟨h1, h2, h3, h4, h5⟩ := G
  constructor
  · intro H
    refine rz_comp (K := K) (fun d e v hv hd he d1 e2 hw => ?_) n f hf (fun v hv hn => by omega) (fun a ha hm => H a ha ((h3 a ha).mpr (fun c hc => hc.elim (hm c) (fun z => z.elim))))
    obtain ⟨x, hx, sx⟩ := h4 d e v hv hd he d1 e2 hw
    exact ⟨x, hx.elim (fun z => z) (fun z => z.elim), sx⟩
  · rintro ⟨d, hd, sd⟩ a ha hm
    exact rz_sub_sat sd ((h3 a ha).mp hm d (Or.inl hd))
/-- M implies the clause f -/
def rz_imp (n : Nat) (M : Nat → Prop) (f : Nat → Nat) : Prop := ∀ a, a < 2 ^ n → M a → rz_sat n a f
/-- c is a prime implicate -/
def rz_prime (n : Nat) (M : Nat → Prop) (c : Nat) : Prop := rz_imp n M (rz_dg c) ∧ ∀ d, d < 3 ^ n → d ≠ c → rz_imp n M (rz_dg d) → ¬ rz_sub n (rz_dg d) (rz_dg c)
theorem rz_good_kept {n : Nat} {M K : Nat → Prop} (G : rz_Good n M K) {c : Nat} (hc : c < 3 ^ n) : K c ↔ rz_prime n M c := by
  have H : ∀ d, rz_imp n M (rz_dg d) ↔ rz_Sb n K (rz_dg d) := fun d => rz_good_imp G (fun v _ => rz_dg_lt d v)
  obtain ⟨h1, h2, h3, h4, h5⟩ := G
  constructor
  · intro hk
    refine ⟨(H c).mpr ⟨c, hk, rz_sub_rfl _ _⟩, fun d hd hne hi hs => ?_⟩
    obtain ⟨e, he, se⟩ := (H d).mp hi
    have ec := h5 e c he hk (rz_sub_tr se hs)
    rw [ec] at se
    exact hne (rz_sub_anti hd hc hs se)
  · rintro ⟨hi, hp⟩
    obtain ⟨d, hd, sd⟩ := (H c).mp hi
    by_cases z : d = c
    · rw [← z]; exact hd
    · exact absurd sd (hp d (h1 d hd) z ((H d).mpr ⟨d, hd, rz_sub_rfl _ _⟩))
/-- the clause that a partial assignment breaks -/
def rz_fv (kn va : Nat → Bool) (v : Nat) : Nat := if kn v = true then (if va v = true then 2 else 1) else 0
theorem rz_fv_lt (kn va : Nat → Bool) (v : Nat) : rz_fv kn va v < 3 := by
  unfold rz_fv
  split
  · split <;> decide
  · decide
def rz_agr (n : Nat) (kn va : Nat → Bool) (a : Nat) : Prop := ∀ v, v < n → kn v = true → a.testBit v = va v
theorem rz_fv_sat {n a : Nat} {kn va : Nat → Bool} : rz_sat n a (rz_fv kn va) ↔ ¬ rz_agr n kn va a := by
  constructor
  · rintro ⟨v, hv, s⟩ h
    have t := h v hv
    unfold rz_fv at s
    cases hk : kn v <;> cases hx : va v <;> simp [hk, hx] at s t <;> simp [t] at s
  · intro h
    apply Classical.byContradiction
    intro hs
    apply h
    intro v hv hk
    apply Classical.byContradiction
    intro hne
    apply hs
    refine ⟨v, hv, ?_⟩
    unfold rz_fv
    cases hx : va v <;> cases hy : a.testBit v <;> simp [hk, hx, hy] at hne ⊢
theorem rz_good_br {n : Nat} {M K : Nat → Prop} (G : rz_Good n M K) (kn va : Nat → Bool) : rz_Sb n K (rz_fv kn va) ↔ ¬ ∃ a, a < 2 ^ n ∧ M a ∧ rz_agr n kn va a := by
  rw [← rz_good_imp G (fun v _ => rz_fv_lt kn va v)]
  constructor
  · rintro h ⟨a, ha, hm, hg⟩
    exact rz_fv_sat.mp (h a ha hm) hg
  · intro h a ha hm
    exact rz_fv_sat.mpr (fun hg => h ⟨a, ha, hm, hg⟩)
end
section
/-! masks: what the tables hold, bit by bit -/
theorem rz_zero {x : Int32} : x = 0 ↔ ∀ i, i < 32 → bt x i = false :=
  ⟨fun h i _ => by rw [h]; exact b_0 i, fun h => b_ext (fun i hi => by rw [h i hi, b_0])⟩
theorem rz_not {x : Int32} {i : Nat} (hi : i < 32) : bt (x ^^^ (-1)) i = !bt x i := by
  rw [b_xor, b_m1 i hi]; cases bt x i <;> rfl
theorem rz_b_one : ∀ i, i < 32 → bt 1 i = decide (i = 0) := by decide +kernel
/-- a bit, shifted down and masked -/
theorem rz_shb (x : Int32) {v : Nat} (hv : v < 32) : (x >>> (nI v &&& 31)) &&& 1 = if bt x v = true then 1 else 0 := by
  apply b_ext
  intro i hi
  rw [b_and, b_sshr v hv x hi, rz_b_one i hi]
  by_cases z : i = 0
  · subst z
    rw [if_pos (by omega), Nat.add_zero]
    cases bt x v
    · simp [b_0]
    · simp [rz_b_one 0 (by omega)]
  · rw [decide_eq_false z, Bool.and_false]
    split
    · rw [rz_b_one i hi, decide_eq_false z]
    · rw [b_0]
theorem rz_shb0 {x : Int32} {v : Nat} (hv : v < 32) : (x >>> (nI v &&& 31)) &&& 1 = 0 ↔ bt x v = false := by
  rw [rz_shb x hv]
  cases bt x v
  · exact ⟨fun _ => rfl, fun _ => rfl⟩
  · exact ⟨fun h => absurd h (by decide), fun h => absurd h (by decide)⟩
theorem rz_shb1 {x : Int32} {v : Nat} (hv : v < 32) : (x >>> (nI v &&& 31)) &&& 1 = 1 ↔ bt x v = true := by
  rw [rz_shb x hv]
  cases bt x v
  · exact ⟨fun h => absurd h (by decide), fun h => absurd h (by decide)⟩
  · exact ⟨fun _ => rfl, fun _ => rfl⟩
/-- one bit -/
theorem rz_1shl {v i : Nat} (hv : v < 32) (hi : i < 32) : bt ((1 : Int32) <<< (nI v &&& 31)) i = decide (i = v) := by
  rw [b_shl v hv 1 hi]
  by_cases z : v ≤ i
  · rw [rz_b_one _ (by omega), decide_eq_true z, Bool.true_and]
    by_cases y : i = v
    · rw [decide_eq_true y, decide_eq_true (by omega)]
    · rw [decide_eq_false y, decide_eq_false (by omega)]
  · rw [decide_eq_false z, Bool.false_and, decide_eq_false (by omega)]
theorem rz_bt_nI {m i : Nat} (hi : i < 32) : bt (nI m) i = m.testBit i := by
  show (BitVec.ofNat 32 m).getLsbD i = m.testBit i
  rw [BitVec.getLsbD_ofNat, decide_eq_true hi, Bool.true_and]
/-- an int with no bit from k on is a small number -/
theorem rz_small {x : Int32} {k : Nat} (hk : k ≤ 30) (h : ∀ i, i < 32 → k ≤ i → bt x i = false) : ∃ m, m < 2 ^ k ∧ x = nI m := by
  have hp : 2 ^ k < 2 ^ 31 := Nat.pow_lt_pow_right (by decide) (by omega)
  have e : x = x &&& nI (2 ^ k - 1) := by
    apply b_ext
    intro i hi
    rw [b_and, rz_bt_nI hi, Nat.testBit_two_pow_sub_one]
    by_cases z : i < k
    · rw [decide_eq_true z, Bool.and_true]
    · rw [h i hi (by omega)]; rfl
  rw [e]
  exact pk_andE x k (by rw [pk_tn (by omega)])
theorem rz_one_c : ∀ m, m < 32 → nI m ≠ 0 → nI m &&& (nI m - 1) = 0 → m = 1 ∨ m = 2 ∨ m = 4 ∨ m = 8 ∨ m = 16 := by decide +kernel
theorem rz_one_b : ∀ v, v < 5 → ∀ i, i < 32 → bt (nI (2 ^ v)) i = decide (i = v) := by decide +kernel
theorem rz_one_d : ∀ v, v < 5 → nI (2 ^ v) ≠ 0 ∧ nI (2 ^ v) &&& (nI (2 ^ v) - 1) = 0 := by decide +kernel
theorem rz_one1 {x : Int32} (h : ∀ i, i < 32 → 5 ≤ i → bt x i = false) (h0 : ¬ x = 0) (h1 : x &&& (x - 1) = 0) : ∃ v, v < 5 ∧ ∀ i, i < 32 → bt x i = decide (i = v) := by
  obtain ⟨m, hm, rfl⟩ := rz_small (by decide) h
  rcases rz_one_c m hm h0 h1 with z | z | z | z | z <;> subst z
  · exact ⟨0, by decide, rz_one_b 0 (by decide)⟩
  · exact ⟨1, by decide, rz_one_b 1 (by decide)⟩
  · exact ⟨2, by decide, rz_one_b 2 (by decide)⟩
  · exact ⟨3, by decide, rz_one_b 3 (by decide)⟩
  · exact ⟨4, by decide, rz_one_b 4 (by decide)⟩
theorem rz_one2 {x : Int32} {v : Nat} (hv : v < 5) (h : ∀ i, i < 32 → bt x i = decide (i = v)) : ¬ x = 0 ∧ x &&& (x - 1) = 0 := by
  have e : x = nI (2 ^ v) := b_ext (fun i hi => by rw [h i hi, rz_one_b v hv i hi])
  rw [e]
  exact rz_one_d v hv
/-- the tables -/
def rz_Cfg (n N : Nat) (wt wf we : Nat → Int32) : Prop :=
  2 ≤ n ∧ n ≤ 5 ∧ N = 3 ^ n ∧ (∀ c, c < N → ∀ i, i < 32 → bt (wt c) i = decide (i < n ∧ rz_dg c i = 1)) ∧
  (∀ c, c < N → ∀ i, i < 32 → bt (wf c) i = decide (i < n ∧ rz_dg c i = 2)) ∧ (∀ v, v < n → we v = nI (3 ^ v))
theorem rz_3n {n : Nat} (h : n ≤ 5) : 3 ^ n ≤ 243 := Nat.pow_le_pow_right (n := 3) (by decide) h
theorem rz_2n {n : Nat} (h : n ≤ 5) : 2 ^ n ≤ 32 := Nat.pow_le_pow_right (n := 2) (by decide) h
theorem rz_cfg_N {n N : Nat} {wt wf we : Nat → Int32} (H : rz_Cfg n N wt wf we) : N ≤ 243 := by
  rw [H.2.2.1]; exact rz_3n H.2.1
theorem rz_wbits {n N c d : Nat} {wt wf we : Nat → Int32} (H : rz_Cfg n N wt wf we) (hd : d < N) (hc : c < N) :
    ((wt d &&& (wt c ^^^ (-1))) = 0 ∧ (wf d &&& (wf c ^^^ (-1))) = 0) ↔ rz_sub n (rz_dg d) (rz_dg c) := by
  obtain ⟨_, hn, _, ht, hf, _⟩ := H
  rw [rz_zero, rz_zero]
  constructor
  · rintro ⟨h1, h2⟩ v hv
    have a1 := h1 v (by omega)
    have a2 := h2 v (by omega)
    rw [b_and, rz_not (by omega), ht d hd v (by omega), ht c hc v (by omega)] at a1
    rw [b_and, rz_not (by omega), hf d hd v (by omega), hf c hc v (by omega)] at a2
    rcases rz_dg_3 d v with z | z | z
    · exact Or.inl z
    · right
      simp only [z, hv, true_and, and_true, decide_true, Bool.true_and, Bool.not_eq_false', decide_eq_true_eq] at a1
      omega
    · right
      simp only [z, hv, true_and, and_true, decide_true, Bool.true_and, Bool.not_eq_false', decide_eq_true_eq] at a2
      omega
  · intro h
    constructor
    · intro i hi
      rw [b_and, rz_not hi, ht d hd i hi, ht c hc i hi]
      by_cases z : i < n ∧ rz_dg d i = 1
      · have t := h i z.1
        rw [decide_eq_true z, decide_eq_true (show i < n ∧ rz_dg c i = 1 from ⟨z.1, by omega⟩)]; rfl
      · rw [decide_eq_false z]; rfl
    · intro i hi
      rw [b_and, rz_not hi, hf d hd i hi, hf c hc i hi]
      by_cases z : i < n ∧ rz_dg d i = 2
      · have t := h i z.1
        rw [decide_eq_true z, decide_eq_true (show i < n ∧ rz_dg c i = 2 from ⟨z.1, by omega⟩)]; rfl
      · rw [decide_eq_false z]; rfl
theorem rz_bbits {n N c : Nat} {wt wf we : Nat → Int32} (H : rz_Cfg n N wt wf we) (hc : c < N) (kn va : Int32) :
    (((wt c ||| wf c) &&& (kn ^^^ (-1))) = 0 ∧ ((wt c &&& va) ||| ((wf c &&& kn) &&& (va ^^^ (-1)))) = 0) ↔ rz_sub n (rz_dg c) (rz_fv (bt kn) (bt va)) := by
  obtain ⟨_, hn, _, ht, hf, _⟩ := H
  rw [rz_zero, rz_zero]
  constructor
  · rintro ⟨h1, h2⟩ v hv
    have a1 := h1 v (by omega)
    have a2 := h2 v (by omega)
    rw [b_and, b_or, rz_not (by omega), ht c hc v (by omega), hf c hc v (by omega)] at a1
    rw [b_or, b_and, b_and, b_and, rz_not (by omega), ht c hc v (by omega), hf c hc v (by omega)] at a2
    unfold rz_fv
    rcases rz_dg_3 c v with z | z | z
    · exact Or.inl z
    · right
      rw [z] at a1 a2 ⊢
      cases hk : bt kn v <;> cases hx : bt va v <;> simp [hk, hx, hv] at a1 a2 ⊢
    · right
      rw [z] at a1 a2 ⊢
      cases hk : bt kn v <;> cases hx : bt va v <;> simp [hk, hx, hv] at a1 a2 ⊢
  · intro h
    have key : ∀ i, i < n → (rz_dg c i = 0 ∨ (rz_dg c i = 1 ∧ bt kn i = true ∧ bt va i = false) ∨ (rz_dg c i = 2 ∧ bt kn i = true ∧ bt va i = true)) := by
      intro i hi
      have t := h i hi
      unfold rz_fv at t
      rcases rz_dg_3 c i with z | z | z
      · exact Or.inl z
      · rw [z] at t
        cases hk : bt kn i <;> cases hx : bt va i <;> simp [hk, hx, z] at t ⊢
      · rw [z] at t
        cases hk : bt kn i <;> cases hx : bt va i <;> simp [hk, hx, z] at t ⊢
    constructor
    · intro i hi
      rw [b_and, b_or, rz_not hi, ht c hc i hi, hf c hc i hi]
      by_cases z : i < n
      · rcases key i z with k | ⟨k, k2, k3⟩ | ⟨k, k2, k3⟩
        · simp [k]
        · simp [k, k2, k3]
        · simp [k, k2, k3]
      · simp [z]
    · intro i hi
      rw [b_or, b_and, b_and, b_and, rz_not hi, ht c hc i hi, hf c hc i hi]
      by_cases z : i < n
      · rcases key i z with k | ⟨k, k2, k3⟩ | ⟨k, k2, k3⟩
        · simp [k]
        · simp [k, k2, k3]
        · simp [k, k2, k3]
      · simp [z]
/-- the clash of two clauses, as a mask -/
def rz_cl (wt wf : Nat → Int32) (g c : Nat) : Int32 := (wt g &&& wf c) ||| (wf g &&& wt c)
theorem rz_cl_b {n N g c : Nat} {wt wf we : Nat → Int32} (H : rz_Cfg n N wt wf we) (hg : g < N) (hc : c < N) {i : Nat} (hi : i < 32) :
    bt (rz_cl wt wf g c) i = decide (i < n ∧ (rz_dg g i = 1 ∧ rz_dg c i = 2 ∨ rz_dg g i = 2 ∧ rz_dg c i = 1)) := by
  obtain ⟨_, hn, _, ht, hf, _⟩ := H
  unfold rz_cl
  rw [b_or, b_and, b_and, ht g hg i hi, hf g hg i hi, ht c hc i hi, hf c hc i hi]
  by_cases z : i < n
  · rcases rz_dg_3 g i with a | a | a <;> rcases rz_dg_3 c i with b | b | b <;> simp [z, a, b]
  · simp [z]
theorem rz_cl_1 {n N g c : Nat} {wt wf we : Nat → Int32} (H : rz_Cfg n N wt wf we) (hg : g < N) (hc : c < N)
    (h0 : ¬ rz_cl wt wf g c = 0) (h1 : rz_cl wt wf g c &&& (rz_cl wt wf g c - 1) = 0) :
    ∃ v, v < n ∧ rz_clash n g c v ∧ ∀ i, i < 32 → bt (rz_cl wt wf g c) i = decide (i = v) := by
  have hn := H.2.1
  obtain ⟨v, hv, hb⟩ := rz_one1 (fun i hi h5 => by rw [rz_cl_b H hg hc hi]; exact decide_eq_false (by omega)) h0 h1
  have t := hb v (by omega)
  rw [rz_cl_b H hg hc (by omega), decide_eq_true rfl] at t
  have t := of_decide_eq_true t
  refine ⟨v, t.1, ⟨t.2, fun w hw hne => ?_⟩, hb⟩
  have u := hb w (by omega)
  rw [rz_cl_b H hg hc (by omega), decide_eq_false hne] at u
  have u := of_decide_eq_false u
  have a := rz_dg_3 g w
  have b := rz_dg_3 c w
  omega
theorem rz_cl_2 {n N g c v : Nat} {wt wf we : Nat → Int32} (H : rz_Cfg n N wt wf we) (hg : g < N) (hc : c < N) (hv : v < n) (h : rz_clash n g c v) :
    ¬ rz_cl wt wf g c = 0 ∧ rz_cl wt wf g c &&& (rz_cl wt wf g c - 1) = 0 := by
  have hn := H.2.1
  refine rz_one2 (v := v) (by omega) (fun i hi => ?_)
  rw [rz_cl_b H hg hc hi]
  by_cases z : i = v
  · subst z
    rw [decide_eq_true rfl]
    exact decide_eq_true ⟨hv, h.1⟩
  · rw [decide_eq_false z]
    refine decide_eq_false (fun y => ?_)
    have t := h.2 i y.1 z
    omega
/-- the resolvent's digits -/
def rz_rf (g c v : Nat) (w : Nat) : Nat := if w = v then 0 else if rz_dg g w = 0 then rz_dg c w else rz_dg g w
theorem rz_rf_lt (g c v w : Nat) : rz_rf g c v w < 3 := by
  unfold rz_rf
  have a := rz_dg_lt g w
  have b := rz_dg_lt c w
  split
  · decide
  · split <;> assumption
theorem rz_rf_bits {n N g c v : Nat} {wt wf we : Nat → Int32} (H : rz_Cfg n N wt wf we) (hg : g < N) (hc : c < N) (hcl : rz_clash n g c v)
    (hb : ∀ i, i < 32 → bt (rz_cl wt wf g c) i = decide (i = v)) (w : Nat) (hw : w < n) :
    bt ((wt g ||| wt c) &&& (rz_cl wt wf g c ^^^ (-1))) w = decide (rz_rf g c v w = 1) ∧
    bt ((wf g ||| wf c) &&& (rz_cl wt wf g c ^^^ (-1))) w = decide (rz_rf g c v w = 2) := by
  obtain ⟨_, hn, _, ht, hf, _⟩ := H
  have hi : w < 32 := by omega
  rw [b_and, b_and, b_or, b_or, rz_not hi, hb w hi, ht g hg w hi, ht c hc w hi, hf g hg w hi, hf c hc w hi]
  unfold rz_rf
  by_cases z : w = v
  · simp [z]
  · have t := hcl.2 w hw z
    rcases rz_dg_3 g w with a | a | a <;> rcases rz_dg_3 c w with b | b | b <;> simp [z, hw, a, b] at t ⊢
theorem rz_rf_sat {n a g c v : Nat} (hcl : rz_clash n g c v) (sg : rz_sat n a (rz_dg g)) (sc : rz_sat n a (rz_dg c)) : rz_sat n a (rz_rf g c v) := by
  obtain ⟨x, hx, sg⟩ := sg
  obtain ⟨y, hy, sc⟩ := sc
  by_cases zx : x = v
  · by_cases zy : y = v
    · exfalso
      rw [zx] at sg
      rw [zy] at sc
      have t := hcl.1
      rcases sg with ⟨s1, s2⟩ | ⟨s1, s2⟩ <;> rcases sc with ⟨r1, r2⟩ | ⟨r1, r2⟩
      · omega
      · rw [s2] at r2; exact absurd r2 (by decide)
      · rw [s2] at r2; exact absurd r2 (by decide)
      · omega
    · refine ⟨y, hy, ?_⟩
      have t := hcl.2 y hy zy
      have e : rz_rf g c v y = rz_dg c y := by
        unfold rz_rf
        rw [if_neg zy]
        split
        · rfl
        · omega
      rw [e]
      exact sc
  · refine ⟨x, hx, ?_⟩
    have e : rz_rf g c v x = rz_dg g x := by
      unfold rz_rf
      rw [if_neg zx, if_neg (by omega)]
    rw [e]
    exact sg
theorem rz_sat_congr {n a : Nat} {f g : Nat → Nat} (h : ∀ v, v < n → f v = g v) (s : rz_sat n a f) : rz_sat n a g := by
  obtain ⟨v, hv, s⟩ := s
  exact ⟨v, hv, by rw [← h v hv]; exact s⟩
end
section
/-! the component's small walks -/
def rz_K (N : Nat) (ke : Nat → Int32) (c : Nat) : Prop := c < N ∧ ke c ≠ 0
theorem rz_nar0 : vp_nar .boolean 0 = 0 := rfl
theorem rz_nar1 : vp_nar .boolean 1 = 1 := rfl
section
variable {n N : Nat} {av bs sa wc : Int32} {wt wf we ba ke wa ov oc : Nat → Int32}
theorem rx_within {post : Int32 → Prop} {d c : Nat} (H : rz_Cfg n N wt wf we) (hd : d < N) (hc : c < N)
    (h1 : rz_sub n (rz_dg d) (rz_dg c) → post 1) (h0 : ¬ rz_sub n (rz_dg d) (rz_dg c) → post 0) : wpX_within post (nI n, nI N, av, bs, sa, wc, wt, wf, we, ba, ke, wa, ov, oc) (nI d) (nI c) := by
  have hN := rz_cfg_N H
  have i1 : vp_in (nI d) 243 := vp_in_nI (by omega) (by decide)
  have i2 : vp_in (nI c) 243 := vp_in_nI (by omega) (by decide)
  have ed : (nI d).toNatClampNeg = d := nI_clamp (by omega)
  have ec : (nI c).toNatClampNeg = c := nI_clamp (by omega)
  have key := rz_wbits H hd hc
  unfold wpX_within
  dsimp only
  rw [ed, ec]
  refine ⟨i1, i2, ?_⟩
  by_cases a : (wt d &&& (wt c ^^^ (-1))) = 0
  · refine br_t a ⟨i1, i2, ?_⟩
    by_cases b : (wf d &&& (wf c ^^^ (-1))) = 0
    · exact br_t b (h1 (key.mp ⟨a, b⟩))
    · exact br_f b (h0 (fun z => b (key.mpr z).2))
  · exact br_f a (h0 (fun z => a (key.mpr z).1))
theorem rx_lkw_l {post : Int32 → Prop} {c : Nat} (H : rz_Cfg n N wt wf we) (hc : c < N)
    (hf : ∀ d, rz_K N ke d → rz_sub n (rz_dg d) (rz_dg c) → (∀ j, j < d → ¬ (rz_K N ke j ∧ rz_sub n (rz_dg j) (rz_dg c))) → post (nI d))
    (hn : (∀ j, j < c + 1 → ¬ (rz_K N ke j ∧ rz_sub n (rz_dg j) (rz_dg c))) → post (-2)) :
    ∀ m i, i + m = c + 1 → (∀ j, j < i → ¬ (rz_K N ke j ∧ rz_sub n (rz_dg j) (rz_dg c))) → wX_lowestKeptWithin_2 post (nI c) (nI n) (nI N) av bs sa wc wt wf we ba ke wa ov oc (m + 1) (nI i) := by
  have hN := rz_cfg_N H
  intro m
  induction m with
  | zero =>
    intro i hi hp
    exact br_t (nI_lt (by omega) (by omega)) (hn (fun j hj => hp j (by omega)))
  | succ m ih =>
    intro i hi hp
    have ei : (nI i).toNatClampNeg = i := nI_clamp (by omega)
    have ii : vp_in (nI i) 243 := vp_in_nI (by omega) (by decide)
    have nx : (∀ j, j < i + 1 → ¬ (rz_K N ke j ∧ rz_sub n (rz_dg j) (rz_dg c))) → ∀ y, y = nI i + 1 → wX_lowestKeptWithin_2 post (nI c) (nI n) (nI N) av bs sa wc wt wf we ba ke wa ov oc (m + 1) y :=
      fun h y ey => by rw [ey, nI_1]; exact ih (i + 1) (by omega) h
    refine br_f (nI_nlt (by omega) (by omega)) ⟨ii, ?_⟩
    rw [ei]
    by_cases z : ke i = 0
    · exact br_t z (nx (lt_s hp (fun h => h.1.2 z)))
    · refine br_f z (rx_within H (by omega) hc (fun hs => br_f (by decide) (hf i ⟨by omega, z⟩ hs hp)) (fun hs => br_t rfl (nx (lt_s hp (fun h => hs h.2)))))
theorem rx_lkw {post : Int32 → Prop} {c : Nat} (H : rz_Cfg n N wt wf we) (hc : c < N)
    (hf : ∀ d, rz_K N ke d → rz_sub n (rz_dg d) (rz_dg c) → (∀ j, j < d → ¬ (rz_K N ke j ∧ rz_sub n (rz_dg j) (rz_dg c))) → post (nI d))
    (hn : ¬ rz_Sb n (rz_K N ke) (rz_dg c) → post (-2)) : wpX_lowestKeptWithin post (nI n, nI N, av, bs, sa, wc, wt, wf, we, ba, ke, wa, ov, oc) (nI c) := by
  unfold wpX_lowestKeptWithin
  dsimp only
  refine ⟨c + 2, rx_lkw_l H hc hf (fun h => hn ?_) (c + 1) 0 (by omega) (fun j hj => by omega)⟩
  rintro ⟨d, hd, sd⟩
  have hN := H.2.2.1
  have hl : d ≤ c := rz_sub_le (by rw [← hN]; exact hd.1) (by rw [← hN]; exact hc) sd
  exact h d (by omega) ⟨hd, sd⟩
theorem rx_enq {post : SX → Prop} {c : Nat} (H : rz_Cfg n N wt wf we) (hc : c < N)
    (hk : (wa c ≠ 0 ∨ rz_Sb n (rz_K N ke) (rz_dg c)) → post (nI n, nI N, av, bs, sa, wc, wt, wf, we, ba, ke, wa, ov, oc))
    (ha : wa c = 0 → ¬ rz_Sb n (rz_K N ke) (rz_dg c) → post (nI n, nI N, av, bs, sa, wc + 1, wt, wf, we, ba, ke, upd wa c 1, ov, oc)) : wpX_enqueue post (nI n, nI N, av, bs, sa, wc, wt, wf, we, ba, ke, wa, ov, oc) (nI c) := by
  have hN := rz_cfg_N H
  have ic : vp_in (nI c) 243 := vp_in_nI (by omega) (by decide)
  have ec : (nI c).toNatClampNeg = c := nI_clamp (by omega)
  unfold wpX_enqueue
  dsimp only
  rw [ec, rz_nar1]
  refine ⟨ic, ?_⟩
  by_cases z : wa c = 0
  · refine br_t z (rx_lkw H hc (fun d hd sd _ => br_f (nI_pos (by have := hd.1; omega)) (hk (Or.inr ⟨d, hd, sd⟩))) (fun hno => br_t (by decide) ⟨ic, nm_e (nm_e (ha z hno))⟩))
  · exact br_f z (hk (Or.inl z))
theorem rx_bits_l {post : Int32 → Prop} (x : Int32) (h : ∀ r : Int32, ¬ (6 : Int32) ≤ r → post r) :
    ∀ m i b, i + m = 5 → b ≤ i → wX_bitsIn_4 post x (nI n) (nI N) av bs sa wc wt wf we ba ke wa ov oc (m + 1) (nI b) (nI i) := by
  intro m
  induction m with
  | zero =>
    intro i b hi hb
    exact br_t (nI_le (a := 5) (by omega) (by omega)) (h (nI b) (nI_ge (b := 6) (by omega) (by decide)))
  | succ m ih =>
    intro i b hi hb
    obtain ⟨j, hj, ej⟩ := pk_andE (x >>> (nI i &&& 31)) (m := 1) 1 (by decide)
    exact br_f (nI_ge (b := 5) (by omega) (by decide)) (nm_r (e' := nI (b + j)) (by rw [ej, nI_add]) (nm_r (nI_1 i) (ih (i + 1) (b + j) (by omega) (by omega))))
theorem rx_bits {post : Int32 → Prop} (x : Int32) (h : ∀ r : Int32, ¬ (6 : Int32) ≤ r → post r) : wpX_bitsIn post (nI n, nI N, av, bs, sa, wc, wt, wf, we, ba, ke, wa, ov, oc) x := by
  unfold wpX_bitsIn
  dsimp only
  exact ⟨6, rx_bits_l x h 5 0 0 (by omega) (by omega)⟩
theorem rx_nw_l {post : Int32 → Prop} (hN : N ≤ 243) (hex : ∃ c, c < N ∧ wa c ≠ 0) (h : ∀ c, c < N → wa c ≠ 0 → post (nI c)) :
    ∀ m i (x1 x2 : Int32), i + m = N → ((x1 = -1 ∧ x2 = 6 ∧ ∀ j, j < i → wa j = 0) ∨ (∃ b, b < N ∧ wa b ≠ 0 ∧ x1 = nI b)) → wX_nextWaiting_7 post (nI n) (nI N) av bs sa wc wt wf we ba ke wa ov oc (m + 1) x1 x2 (nI i) := by
  intro m
  induction m with
  | zero =>
    intro i x1 x2 hi hp
    refine br_t (nI_le (by omega) (by omega)) ?_
    rcases hp with ⟨_, _, hz⟩ | ⟨b, hb, hw, e⟩
    · obtain ⟨c, hc, hw⟩ := hex
      exact absurd (hz c (by omega)) hw
    · rw [e]; exact h b hb hw
  | succ m ih =>
    intro i x1 x2 hi hp
    have ei : (nI i).toNatClampNeg = i := nI_clamp (by omega)
    have ii : vp_in (nI i) 243 := vp_in_nI (by omega) (by decide)
    have nx : ∀ z1 z2 : Int32, ((z1 = -1 ∧ z2 = 6 ∧ ∀ j, j < i + 1 → wa j = 0) ∨ (∃ b, b < N ∧ wa b ≠ 0 ∧ z1 = nI b)) → ∀ y, y = nI i + 1 → wX_nextWaiting_7 post (nI n) (nI N) av bs sa wc wt wf we ba ke wa ov oc (m + 1) z1 z2 y :=
      fun z1 z2 h y ey => by rw [ey, nI_1]; exact ih (i + 1) z1 z2 (by omega) h
    refine br_f (nI_ge (by omega) (by omega)) ⟨ii, ?_⟩
    rw [ei]
    by_cases z : wa i = 0
    · refine br_t z (nx x1 x2 ?_)
      rcases hp with ⟨h1, h2, h3⟩ | hb
      · exact Or.inl ⟨h1, h2, lt_s h3 z⟩
      · exact Or.inr hb
    · refine br_f z ⟨ii, ii, rx_bits _ (fun r hr => br_c (fun hle => nx x1 x2 ?_) (fun _ => nx (nI i) r (Or.inr ⟨i, by omega, z, rfl⟩)))⟩
      rcases hp with ⟨h1, h2, h3⟩ | hb
      · rw [h2] at hle; exact absurd hle hr
      · exact Or.inr hb
theorem rx_nw {post : Int32 → Prop} (hN : N ≤ 243) (hex : ∃ c, c < N ∧ wa c ≠ 0) (h : ∀ c, c < N → wa c ≠ 0 → post (nI c)) : wpX_nextWaiting post (nI n, nI N, av, bs, sa, wc, wt, wf, we, ba, ke, wa, ov, oc) := by
  unfold wpX_nextWaiting
  dsimp only
  exact ⟨N + 1, rx_nw_l hN hex h N 0 (-1) 6 (by omega) (Or.inl ⟨rfl, rfl, fun j hj => by omega⟩)⟩
theorem rx_drop_l {post : SX → Prop} {g : Nat} (H : rz_Cfg n N wt wf we) (hg : g < N)
    (h : ∀ ke', (∀ c, c < N → (ke' c ≠ 0 ↔ ke c ≠ 0 ∧ ¬ (g < c ∧ rz_sub n (rz_dg g) (rz_dg c)))) → post (nI n, nI N, av, bs, sa, wc, wt, wf, we, ba, ke', wa, ov, oc)) :
    ∀ m i (kk : Nat → Int32), i + m = N → g < i → (∀ c, c < N → (kk c ≠ 0 ↔ ke c ≠ 0 ∧ ¬ (g < c ∧ c < i ∧ rz_sub n (rz_dg g) (rz_dg c)))) →
      wX_dropWider_4 post (nI g) (nI n) (nI N) av bs sa wc (m + 1) (nI i) wt wf we ba kk wa ov oc := by
  have hN := rz_cfg_N H
  intro m
  induction m with
  | zero =>
    intro i kk hi hgi hp
    refine br_t (nI_le (by omega) (by omega)) (h kk (fun c hc => (hp c hc).trans ⟨fun z => ⟨z.1, fun y => z.2 ⟨y.1, by omega, y.2⟩⟩, fun z => ⟨z.1, fun y => z.2 ⟨y.1, y.2.2⟩⟩⟩))
  | succ m ih =>
    intro i kk hi hgi hp
    have ei : (nI i).toNatClampNeg = i := nI_clamp (by omega)
    have ii : vp_in (nI i) 243 := vp_in_nI (by omega) (by decide)
    have nx : ∀ k2 : Nat → Int32, (∀ c, c < N → (k2 c ≠ 0 ↔ ke c ≠ 0 ∧ ¬ (g < c ∧ c < i + 1 ∧ rz_sub n (rz_dg g) (rz_dg c)))) → ∀ y, y = nI i + 1 → wX_dropWider_4 post (nI g) (nI n) (nI N) av bs sa wc (m + 1) y wt wf we ba k2 wa ov oc :=
      fun k2 h y ey => by rw [ey, nI_1]; exact ih (i + 1) k2 (by omega) (by omega) h
    have old : ∀ c, c < N → c ≠ i → (kk c ≠ 0 ↔ ke c ≠ 0 ∧ ¬ (g < c ∧ c < i + 1 ∧ rz_sub n (rz_dg g) (rz_dg c))) := by
      intro c hc hne
      refine (hp c hc).trans ⟨fun z => ⟨z.1, fun y => z.2 ⟨y.1, by omega, y.2.2⟩⟩, fun z => ⟨z.1, fun y => z.2 ⟨y.1, by omega, y.2.2⟩⟩⟩
    refine br_f (nI_ge (by omega) (by omega)) ⟨ii, ?_⟩
    rw [ei, rz_nar0]
    by_cases z : kk i = 0
    · refine br_t z (nx kk (fun c hc => ?_))
      by_cases hci : c = i
      · subst hci
        refine ⟨fun y => absurd z y, fun y => absurd ((hp c hc).mpr ⟨y.1, fun w => by omega⟩) (fun w => w z)⟩
      · exact old c hc hci
    · refine br_f z (rx_within H hg (by omega) (fun hs => br_f (by decide) ⟨ii, nm_e (nx (upd kk i 0) (fun c hc => ?_))⟩) (fun hs => br_t rfl (nx kk (fun c hc => ?_))))
      · by_cases hci : c = i
        · subst hci
          rw [pk_us]
          exact ⟨fun y => absurd rfl y, fun y => absurd ⟨hgi, by omega, hs⟩ y.2⟩
        · rw [pk_un hci]; exact old c hc hci
      · by_cases hci : c = i
        · subst hci
          exact ⟨fun y => ⟨((hp c hc).mp y).1, fun w => hs w.2.2⟩, fun _ => z⟩
        · exact old c hc hci
theorem rx_drop {post : SX → Prop} {g : Nat} (H : rz_Cfg n N wt wf we) (hg : g < N)
    (h : ∀ ke', (∀ c, c < N → (ke' c ≠ 0 ↔ ke c ≠ 0 ∧ ¬ (g < c ∧ rz_sub n (rz_dg g) (rz_dg c)))) → post (nI n, nI N, av, bs, sa, wc, wt, wf, we, ba, ke', wa, ov, oc)) : wpX_dropWider post (nI n, nI N, av, bs, sa, wc, wt, wf, we, ba, ke, wa, ov, oc) (nI g) := by
  unfold wpX_dropWider
  dsimp only
  refine nm_r (nI_1 g) ⟨N - (g + 1) + 1, rx_drop_l H hg h (N - (g + 1)) (g + 1) ke (by omega) (by omega) (fun c hc => ⟨fun z => ⟨z, fun y => by omega⟩, fun z => z.1⟩)⟩
theorem rx_num_l {post : Int32 → Prop} {p q : Int32} {f : Nat → Nat} (H : rz_Cfg n N wt wf we) (hf : ∀ v, v < n → f v < 3)
    (hp : ∀ v, v < n → bt p v = decide (f v = 1)) (hq : ∀ v, v < n → bt q v = decide (f v = 2)) (h : post (nI (rz_num f n))) :
    ∀ m i, i + m = n → wX_numberOf_5 post p q (nI n) (nI N) av bs sa wc wt wf we ba ke wa ov oc (m + 1) (nI (rz_num f i)) (nI i) := by
  have hn := H.2.1
  intro m
  induction m with
  | zero =>
    intro i hi
    have e : i = n := by omega
    subst e
    exact br_t (nI_le (by omega) (by omega)) h
  | succ m ih =>
    intro i hi
    have ei : (nI i).toNatClampNeg = i := nI_clamp (by omega)
    have ii : vp_in (nI i) 5 := vp_in_nI (by omega) (by decide)
    have ew : we i = nI (3 ^ i) := H.2.2.2.2.2 i (by omega)
    have jn : ∀ t : Nat, t + (if f i = 2 then 2 * 3 ^ i else 0) = rz_num f (i + 1) → wX_numberOf_33 post (wX_numberOf_5 post p q (nI n) (nI N) av bs sa wc wt wf we ba ke wa ov oc (m + 1)) p q (nI t) (nI i) (nI n) (nI N) av bs sa wc wt wf we ba ke wa ov oc := by
      intro t ht
      unfold wX_numberOf_33
      rw [rz_shb0 (by omega), hq i (by omega), ei, ew]
      by_cases z : f i = 2
      · rw [if_pos z] at ht
        refine br_f (by rw [decide_eq_true z]; decide) ⟨ii, nm_r (e' := nI (rz_num f (i + 1))) ?_ (nm_r (nI_1 i) (ih (i + 1) (by omega)))⟩
        rw [← ht, show (2 : Int32) = nI 2 from rfl, pk_mul, nI_add]
      · rw [if_neg z, Nat.add_zero] at ht
        refine br_t (decide_eq_false z) (nm_r (nI_1 i) ?_)
        rw [ht]
        exact ih (i + 1) (by omega)
    refine br_f (nI_ge (by omega) (by omega)) ?_
    rw [rz_shb0 (by omega), hp i (by omega), ei, ew]
    have hs : rz_num f (i + 1) = rz_num f i + f i * 3 ^ i := rfl
    have h3 := hf i (by omega)
    by_cases z : f i = 1
    · refine br_f (by rw [decide_eq_true z]; decide) ⟨ii, nm_r (nI_add _ _) (jn _ ?_)⟩
      rw [hs, z, if_neg (by decide), Nat.one_mul, Nat.add_zero]
    · refine br_t (decide_eq_false z) (jn _ ?_)
      rw [hs]
      by_cases y : f i = 2
      · rw [if_pos y, y]
      · have y0 : f i = 0 := by omega
        rw [if_neg y, y0, Nat.zero_mul]
theorem rx_num {post : Int32 → Prop} {p q : Int32} {f : Nat → Nat} (H : rz_Cfg n N wt wf we) (hf : ∀ v, v < n → f v < 3)
    (hp : ∀ v, v < n → bt p v = decide (f v = 1)) (hq : ∀ v, v < n → bt q v = decide (f v = 2)) (h : post (nI (rz_num f n))) : wpX_numberOf post (nI n, nI N, av, bs, sa, wc, wt, wf, we, ba, ke, wa, ov, oc) p q := by
  unfold wpX_numberOf
  dsimp only
  exact ⟨n + 1, rx_num_l H hf hp hq h n 0 (by omega)⟩
end
end
section
/-! the component's saturation -/
/-- while g is resolved with the kept clauses below i: wa waited at first, wb now -/
def rz_RI (n N g : Nat) (ke wa : Nat → Int32) (i : Nat) (wb : Nat → Int32) : Prop :=
  (∀ x, wa x ≠ 0 → wb x ≠ 0) ∧
  (∀ x, x < N → wb x ≠ 0 → wa x ≠ 0 ∨ (rz_imp n (fun a => ∀ c, rz_K N ke c → rz_sat n a (rz_dg c)) (rz_dg x) ∧ ¬ rz_Sb n (rz_K N ke) (rz_dg x))) ∧
  (∀ c v, c < i → rz_K N ke c → v < n → rz_clash n g c v → ∃ r, (rz_Sb n (rz_K N ke) (rz_dg r) ∨ rz_K N wb r) ∧ ∀ w, w < n → rz_dg r w = rz_rf g c v w)
theorem rz_clash_u {n g c v w : Nat} (hv : v < n) (h : rz_clash n g c v) (h' : rz_clash n g c w) : v = w := by
  apply Classical.byContradiction
  intro hne
  have t := h'.2 v hv hne
  have u := h.1
  omega
theorem rz_RI_skip {n N g i : Nat} {ke wa wb : Nat → Int32} (I : rz_RI n N g ke wa i wb) (h : rz_K N ke i → ∀ v, v < n → ¬ rz_clash n g i v) : rz_RI n N g ke wa (i + 1) wb := by
  refine ⟨I.1, I.2.1, fun c v hc hk hv hcl => ?_⟩
  by_cases z : c = i
  · subst z
    exact absurd hcl (h hk v hv)
  · exact I.2.2 c v (by omega) hk hv hcl
theorem rz_RI_keep {n N g i v r : Nat} {ke wa wb : Nat → Int32} (I : rz_RI n N g ke wa i wb) (hv : v < n) (hcl : rz_clash n g i v)
    (hd : ∀ w, w < n → rz_dg r w = rz_rf g i v w) (h : rz_Sb n (rz_K N ke) (rz_dg r) ∨ rz_K N wb r) : rz_RI n N g ke wa (i + 1) wb := by
  refine ⟨I.1, I.2.1, fun c w hc hk hw hcl' => ?_⟩
  by_cases z : c = i
  · subst z
    have e := rz_clash_u hw hcl' hcl
    subst e
    exact ⟨r, h, hd⟩
  · exact I.2.2 c w (by omega) hk hw hcl'
theorem rz_RI_add {n N g i v r : Nat} {ke wa wb : Nat → Int32} (I : rz_RI n N g ke wa i wb) (hv : v < n) (hcl : rz_clash n g i v) (hg : rz_K N ke g) (hi : rz_K N ke i)
    (hr : r < N) (hd : ∀ w, w < n → rz_dg r w = rz_rf g i v w) (h : ¬ rz_Sb n (rz_K N ke) (rz_dg r)) : rz_RI n N g ke wa (i + 1) (upd wb r 1) := by
  have up : ∀ x, wb x ≠ 0 → upd wb r 1 x ≠ 0 := by
    intro x hx
    by_cases z : x = r
    · subst z; rw [pk_us]; decide
    · rw [pk_un z]; exact hx
  have I2 : rz_RI n N g ke wa i (upd wb r 1) := by
    refine ⟨fun x hx => up x (I.1 x hx), fun x hx hw => ?_, fun c w hc hk hw hcl' => ?_⟩
    · by_cases z : x = r
      · subst z
        right
        refine ⟨fun a ha hm => ?_, h⟩
        exact rz_sat_congr (fun w hw => (hd w hw).symm) (rz_rf_sat hcl (hm g hg) (hm i hi))
      · rw [pk_un z] at hw
        exact I.2.1 x hx hw
    · obtain ⟨r', h1, h2⟩ := I.2.2 c w hc hk hw hcl'
      exact ⟨r', h1.elim Or.inl (fun z => Or.inr ⟨z.1, up r' z.2⟩), h2⟩
  exact rz_RI_keep I2 hv hcl hd (Or.inr ⟨hr, by rw [pk_us]; decide⟩)
theorem rz_cw_add {N r : Nat} {wb : Nat → Int32} (hr : r < N) (h : wb r = 0) : nI (rz_cp (fun c => wb c ≠ 0) N) + 1 = nI (rz_cp (fun c => upd wb r 1 c ≠ 0) N) := by
  rw [nI_1]
  refine congrArg nI (rz_cp_ins hr (fun z => z h) (fun c _ => ?_)).symm
  by_cases z : c = r
  · subst z; rw [pk_us]; exact ⟨fun _ => Or.inr rfl, fun _ => by decide⟩
  · rw [pk_un z]; exact ⟨Or.inl, fun y => y.elim (fun w => w) (fun w => absurd w z)⟩
theorem rz_cw_sub {N r : Nat} {wb : Nat → Int32} (hr : r < N) (h : wb r ≠ 0) : nI (rz_cp (fun c => wb c ≠ 0) N) - 1 = nI (rz_cp (fun c => upd wb r 0 c ≠ 0) N) := by
  have e : rz_cp (fun c => wb c ≠ 0) N = rz_cp (fun c => upd wb r 0 c ≠ 0) N + 1 := by
    refine rz_cp_ins hr (fun z => ?_) (fun c _ => ?_)
    · rw [pk_us] at z; exact z rfl
    · by_cases z : c = r
      · subst z; exact ⟨fun _ => Or.inr rfl, fun _ => h⟩
      · rw [pk_un z]; exact ⟨Or.inl, fun y => y.elim (fun w => w) (fun w => absurd w z)⟩
  rw [e, nI_pred]
section
variable {n N : Nat} {av bs sa wc : Int32} {wt wf we ba ke wa ov oc : Nat → Int32}
theorem rx_res_l {post : SX → Prop} {g : Nat} (H : rz_Cfg n N wt wf we) (hg : rz_K N ke g)
    (h : ∀ wb : Nat → Int32, rz_RI n N g ke wa N wb → post (nI n, nI N, av, bs, sa, nI (rz_cp (fun c => wb c ≠ 0) N), wt, wf, we, ba, ke, wb, ov, oc)) :
    ∀ m i (wb : Nat → Int32), i + m = N → rz_RI n N g ke wa i wb → wX_resolveWithKept_2 post (nI g) (m + 1) (nI i) (nI n) (nI N) av bs sa (nI (rz_cp (fun c => wb c ≠ 0) N)) wt wf we ba ke wb ov oc := by
  have hN := rz_cfg_N H
  have hgN := hg.1
  intro m
  induction m with
  | zero =>
    intro i wb hi I
    have e : i = N := by omega
    subst e
    exact br_t (nI_le (by omega) (by omega)) (h wb I)
  | succ m ih =>
    intro i wb hi I
    have ei : (nI i).toNatClampNeg = i := nI_clamp (by omega)
    have eg : (nI g).toNatClampNeg = g := nI_clamp (by omega)
    have ii : vp_in (nI i) 243 := vp_in_nI (by omega) (by decide)
    have ig : vp_in (nI g) 243 := vp_in_nI (by omega) (by decide)
    have nx : ∀ wd : Nat → Int32, rz_RI n N g ke wa (i + 1) wd → ∀ y, y = nI i + 1 → wX_resolveWithKept_2 post (nI g) (m + 1) y (nI n) (nI N) av bs sa (nI (rz_cp (fun c => wd c ≠ 0) N)) wt wf we ba ke wd ov oc :=
      fun wd h y ey => by rw [ey, nI_1]; exact ih (i + 1) wd (by omega) h
    refine br_f (nI_ge (by omega) (by omega)) ⟨ii, ?_⟩
    rw [ei, eg]
    by_cases z : ke i = 0
    · exact br_t z (nx wb (rz_RI_skip I (fun hk => absurd z hk.2)))
    · have hk : rz_K N ke i := ⟨by omega, z⟩
      refine br_f z ⟨ig, ii, ig, ii, nm_r (e' := rz_cl wt wf g i) rfl ?_⟩
      by_cases c0 : rz_cl wt wf g i = 0
      · exact br_t c0 (nx wb (rz_RI_skip I (fun _ v hv hcl => (rz_cl_2 H hgN hk.1 hv hcl).1 c0)))
      · refine br_f c0 ?_
        by_cases c1 : rz_cl wt wf g i &&& (rz_cl wt wf g i - 1) = 0
        · obtain ⟨v, hv, hcl, hb⟩ := rz_cl_1 H hgN hk.1 c0 c1
          have hr : rz_num (rz_rf g i v) n < N := by rw [H.2.2.1]; exact rz_num_lt n (fun w _ => rz_rf_lt g i v w)
          have hd : ∀ w, w < n → rz_dg (rz_num (rz_rf g i v) n) w = rz_rf g i v w := rz_num_dg n (fun w _ => rz_rf_lt g i v w)
          refine br_t c1 ⟨ig, ii, nm_e ⟨ig, ii, nm_e (rx_num H (f := rz_rf g i v) (fun w _ => rz_rf_lt g i v w) (fun w hw => (rz_rf_bits H hgN hk.1 hcl hb w hw).1) (fun w hw => (rz_rf_bits H hgN hk.1 hcl hb w hw).2) ?_)⟩⟩
          refine rx_enq H hr (fun hw => nx wb (rz_RI_keep I hv hcl hd (hw.elim (fun y => Or.inr ⟨hr, y⟩) Or.inl))) (fun hw hs => ?_)
          rw [rz_cw_add hr hw]
          exact nx _ (rz_RI_add I hv hcl hg hk hr hd hs)
        · exact br_f c1 (nx wb (rz_RI_skip I (fun _ v hv hcl => c1 (rz_cl_2 H hgN hk.1 hv hcl).2)))
theorem rx_res {post : SX → Prop} {g : Nat} (H : rz_Cfg n N wt wf we) (hg : rz_K N ke g)
    (h : ∀ wb : Nat → Int32, rz_RI n N g ke wa N wb → post (nI n, nI N, av, bs, sa, nI (rz_cp (fun c => wb c ≠ 0) N), wt, wf, we, ba, ke, wb, ov, oc)) :
    wpX_resolveWithKept post (nI n, nI N, av, bs, sa, nI (rz_cp (fun c => wa c ≠ 0) N), wt, wf, we, ba, ke, wa, ov, oc) (nI g) := by
  unfold wpX_resolveWithKept
  dsimp only
  exact ⟨N + 1, rx_res_l H hg h N 0 wa (by omega) ⟨fun _ hx => hx, fun _ _ hx => Or.inl hx, fun _ _ hc => by omega⟩⟩
theorem rx_take_l {post : SX → Prop} {M : Nat → Prop} (H : rz_Cfg n N wt wf we)
    (h : ∀ ke' wa' : Nat → Int32, (∀ c, c < N → wa' c = 0) → rz_Good n M (rz_K N ke') → post (nI n, nI N, av, bs, sa, 0, wt, wf, we, ba, ke', wa', ov, oc)) :
    ∀ m i (ke wa : Nat → Int32), rz_Inv n M (rz_K N ke) (rz_K N wa) → rz_ms n (rz_K N ke) (rz_K N wa) ≤ m → i + m ≤ 243 →
      wX_takeIn_12 post (m + 1) (nI i) (nI n) (nI N) av bs sa (nI (rz_cp (fun c => wa c ≠ 0) N)) wt wf we ba ke wa ov oc := by
  have hN := rz_cfg_N H
  have hN3 := H.2.2.1
  intro m
  induction m with
  | zero =>
    intro i ke wa I hm hi
    have hz : ∀ c, c < N → wa c = 0 := by
      intro c hc
      apply Classical.byContradiction
      intro hw
      have t := rz_ms_pos (n := n) (c := c) (K := rz_K N ke) (W := rz_K N wa) ⟨hc, hw⟩ (by rw [← hN3]; exact hc)
      omega
    have e : rz_cp (fun c => wa c ≠ 0) N = 0 := rz_cp_z N (fun c hc z => z (hz c hc))
    rw [e]
    have P := h ke wa hz (rz_inv_W I (fun c => ⟨fun z => z.2 (hz c z.1), fun z => z.elim⟩))
    exact br_c (fun _ => P) (fun _ => br_t (by decide) P)
  | succ m ih =>
    intro i ke wa I hm hi
    by_cases hz : ∀ c, c < N → wa c = 0
    · have e : rz_cp (fun c => wa c ≠ 0) N = 0 := rz_cp_z N (fun c hc z => z (hz c hc))
      rw [e]
      have P := h ke wa hz (rz_inv_W I (fun c => ⟨fun z => z.2 (hz c z.1), fun z => z.elim⟩))
      exact br_c (fun _ => P) (fun _ => br_t (by decide) P)
    · have hex : ∃ c, c < N ∧ wa c ≠ 0 := by
        apply Classical.byContradiction
        intro hno
        exact hz (fun c hc => Classical.byContradiction (fun hw => hno ⟨c, hc, hw⟩))
      have hpos : 0 < rz_cp (fun c => wa c ≠ 0) N := by
        obtain ⟨c, hc, hw⟩ := hex
        exact rz_cp_pos hc hw
      have hcpl := rz_cp_le (fun c => wa c ≠ 0) N
      refine br_f (nI_ge (b := 243) (by omega) (by decide)) (br_f (nI_nle hpos (by omega)) (rx_nw hN hex (fun g hg hw => ?_)))
      have eg : (nI g).toNatClampNeg = g := nI_clamp (by omega)
      have ig : vp_in (nI g) 243 := vp_in_nI (by omega) (by decide)
      have hg3 : g < 3 ^ n := by rw [← hN3]; exact hg
      have hWg : ∀ x, rz_K N (upd wa g 0) x ↔ rz_K N wa x ∧ x ≠ g := by
        intro x
        by_cases z : x = g
        · subst z
          exact ⟨fun y => absurd pk_us y.2, fun y => absurd rfl y.2⟩
        · unfold rz_K
          rw [pk_un z]
          exact ⟨fun y => ⟨y, z⟩, fun y => y.1⟩
      have hWe : rz_K N (upd wa g 0) = fun x => rz_K N wa x ∧ x ≠ g := funext (fun x => propext (hWg x))
      rw [eg, rz_nar0]
      refine ⟨ig, nm_e (nm_r (rz_cw_sub hg hw) (rx_lkw H hg (fun d hd sd _ => ?_) (fun hno => ?_)))⟩
      · refine br_f (nI_pos (by have := hd.1; omega)) (nm_r (nI_1 i) (ih (i + 1) ke (upd wa g 0) ?_ ?_ (by omega)))
        · rw [hWe]; exact rz_popA I ⟨d, hd, sd⟩
        · have t := rz_msA (n := n) (K := rz_K N ke) (W := rz_K N wa) ⟨hg, hw⟩ hg3 ⟨d, hd, sd⟩
          rw [hWe]; omega
      · refine br_t (by decide) (rx_drop H hg (fun ke1 hk1 => ?_))
        have hK2 : ∀ c, rz_K N (upd ke1 g 1) c ↔ c = g ∨ (rz_K N ke c ∧ ¬ rz_sub n (rz_dg g) (rz_dg c)) := by
          intro c
          by_cases z : c = g
          · subst z
            exact ⟨fun _ => Or.inl rfl, fun _ => ⟨hg, by rw [pk_us]; decide⟩⟩
          · unfold rz_K
            rw [pk_un z]
            constructor
            · rintro ⟨hc, hk⟩
              have t := (hk1 c hc).mp hk
              refine Or.inr ⟨⟨hc, t.1⟩, fun s => t.2 ⟨?_, s⟩⟩
              have l := rz_sub_le hg3 (by rw [← hN3]; exact hc) s
              omega
            · rintro (y | ⟨⟨hc, hk⟩, y⟩)
              · exact absurd y z
              · exact ⟨hc, (hk1 c hc).mpr ⟨hk, fun s => y s.2⟩⟩
        rw [rz_nar1]
        refine ⟨ig, nm_e (rx_res H ((hK2 g).mpr (Or.inl rfl)) (fun wb R => ?_))⟩
        obtain ⟨r1, r2, r3⟩ := R
        have w2 : ∀ x, rz_K N wb x → (rz_K N wa x ∧ x ≠ g) ∨ (rz_imp n (fun a => ∀ c, rz_K N (upd ke1 g 1) c → rz_sat n a (rz_dg c)) (rz_dg x) ∧ ¬ rz_Sb n (rz_K N (upd ke1 g 1)) (rz_dg x)) := by
          intro x hx
          rcases r2 x hx.1 hx.2 with y | y
          · exact Or.inl ((hWg x).mp ⟨hx.1, y⟩)
          · exact Or.inr y
        refine nm_r (nI_1 i) (ih (i + 1) (upd ke1 g 1) wb (rz_popB I ⟨hg, hw⟩ hno hK2 (fun x hx hne => ?_) (fun x hx => ⟨?_, ?_⟩) (fun c v hc hv hcl => ?_)) ?_ (by omega))
        · exact ⟨hx.1, r1 x ((hWg x).mpr ⟨hx, hne⟩).2⟩
        · rw [← hN3]; exact hx.1
        · exact (w2 x hx).elim Or.inl (fun y => Or.inr y.1)
        · obtain ⟨r, hr, hd⟩ := r3 c v hc.1 hc hv hcl
          have hrf : ∀ w, w < n → rz_dg r w = 0 ∨ (w ≠ v ∧ (rz_dg r w = rz_dg g w ∨ rz_dg r w = rz_dg c w)) := by
            intro w hw'
            rw [hd w hw']
            unfold rz_rf
            by_cases y : w = v
            · rw [if_pos y]; exact Or.inl rfl
            · rw [if_neg y]
              right
              refine ⟨y, ?_⟩
              split
              · exact Or.inr rfl
              · exact Or.inl rfl
          rcases hr with ⟨e, he, se⟩ | hr
          · exact ⟨e, Or.inl he, rz_res_sub se hrf⟩
          · exact ⟨r, Or.inr hr, hrf⟩
        · have t := rz_msB (n := n) (K := rz_K N ke) (W := rz_K N wa) (K2 := rz_K N (upd ke1 g 1)) (W' := rz_K N wb) ⟨hg, hw⟩ hg3 hK2 (fun x hx => (w2 x hx).elim Or.inl (fun y => Or.inr y.2))
          omega
theorem rx_take {post : SX → Prop} {M : Nat → Prop} {c : Nat} (H : rz_Cfg n N wt wf we) (hc : c < N) (G : rz_Good n M (rz_K N ke)) (hw : ∀ x, x < N → wa x = 0)
    (h : ∀ ke' wa' : Nat → Int32, (∀ x, x < N → wa' x = 0) → rz_Good n (fun a => M a ∧ rz_sat n a (rz_dg c)) (rz_K N ke') → post (nI n, nI N, av, bs, sa, 0, wt, wf, we, ba, ke', wa', ov, oc)) :
    wpX_takeIn post (nI n, nI N, av, bs, sa, wc, wt, wf, we, ba, ke, wa, ov, oc) (nI c) := by
  have hN := rz_cfg_N H
  have hN3 := H.2.2.1
  have e0 : rz_cp (fun x => wa x ≠ 0) N = 0 := rz_cp_z N (fun x hx z => z (hw x hx))
  have hml : ∀ K W, rz_ms n K W ≤ 243 := fun K W => Nat.le_trans (rz_ms_le n K W) (rz_3n H.2.1)
  unfold wpX_takeIn
  dsimp only
  refine rx_enq H hc (fun hs => ?_) (fun hz hs => ?_)
  · have t := rx_take_l H h 243 0 ke wa (rz_inv_W (rz_start1 G (hs.elim (fun y => absurd (hw c hc) y) (fun y => y))) (fun x => ⟨fun y => y.elim, fun y => y.2 (hw x y.1)⟩)) (hml _ _) (by omega)
    rw [e0] at t
    exact ⟨244, t⟩
  · have t := rx_take_l H h 243 0 ke (upd wa c 1) (rz_inv_W (rz_start2 G (by rw [← hN3]; exact hc)) (fun x => ?_)) (hml _ _) (by omega)
    · rw [← rz_cw_add hc hz, e0] at t
      exact ⟨244, t⟩
    · by_cases y : x = c
      · subst y
        exact ⟨fun _ => ⟨hc, by rw [pk_us]; decide⟩, fun _ => rfl⟩
      · unfold rz_K
        rw [pk_un y]
        exact ⟨fun z => absurd z y, fun z => absurd (hw x z.1) z.2⟩
theorem rx_clear_l {post : SX → Prop} (hN : N ≤ 243) (h : ∀ ke' : Nat → Int32, (∀ c, c < N → ke' c = 0) → post (nI n, nI N, av, bs, sa, wc, wt, wf, we, ba, ke', wa, ov, oc)) :
    ∀ m i (kk : Nat → Int32), i + m = N → (∀ c, c < i → kk c = 0) → wX_clearKept_2 post (nI n) (nI N) av bs sa wc (m + 1) (nI i) wt wf we ba kk wa ov oc := by
  intro m
  induction m with
  | zero =>
    intro i kk hi hp
    exact br_t (nI_le (by omega) (by omega)) (h kk (fun c hc => hp c (by omega)))
  | succ m ih =>
    intro i kk hi hp
    have ei : (nI i).toNatClampNeg = i := nI_clamp (by omega)
    refine br_f (nI_ge (by omega) (by omega)) ⟨vp_in_nI (by omega) (by decide), ?_⟩
    rw [ei, rz_nar0]
    refine nm_e (nm_r (nI_1 i) (ih (i + 1) (upd kk i 0) (by omega) (lt_s (fun c hc => ?_) pk_us)))
    rw [pk_un (by omega)]; exact hp c hc
theorem rx_clear {post : SX → Prop} (hN : N ≤ 243) (h : ∀ ke' : Nat → Int32, (∀ c, c < N → ke' c = 0) → post (nI n, nI N, av, bs, sa, wc, wt, wf, we, ba, ke', wa, ov, oc)) : wpX_clearKept post (nI n, nI N, av, bs, sa, wc, wt, wf, we, ba, ke, wa, ov, oc) := by
  unfold wpX_clearKept
  dsimp only
  exact ⟨N + 1, rx_clear_l hN h N 0 ke (by omega) (fun _ hc => by omega)⟩
/-- the models of the first s clauses -/
def rz_MB (n : Nat) (xb : Nat → Nat) (s : Nat) (a : Nat) : Prop := ∀ j, j < s → rz_sat n a (rz_dg (xb j))
theorem rz_good_empty {ke : Nat → Int32} (h : ∀ c, c < N → ke c = 0) : rz_Good n (fun _ => True) (rz_K N ke) :=
  rz_inv_K (rz_good_0 n) (fun c => ⟨fun z => z.elim, fun z => z.2 (h c z.1)⟩)
theorem rx_sat_l {post : SX → Prop} {s : Nat} {xb : Nat → Nat} (H : rz_Cfg n N wt wf we) (hs : s ≤ 12) (hb : ∀ j, j < s → xb j < N ∧ ba j = nI (xb j))
    (h : ∀ (wc' : Int32) (ke' wa' : Nat → Int32), (∀ x, x < N → wa' x = 0) → rz_Good n (rz_MB n xb s) (rz_K N ke') → post (nI n, nI N, av, nI s, 1, wc', wt, wf, we, ba, ke', wa', ov, oc)) :
    ∀ m i (wc : Int32) (ke wa : Nat → Int32), i + m = s → (∀ x, x < N → wa x = 0) → rz_Good n (rz_MB n xb i) (rz_K N ke) → wX_saturate_14 post (m + 1) (nI i) (nI n) (nI N) av (nI s) sa wc wt wf we ba ke wa ov oc := by
  intro m
  induction m with
  | zero =>
    intro i wc ke wa hi hw G
    have e : i = s := by omega
    subst e
    exact br_t (nI_le (by omega) (by omega)) (h wc ke wa hw G)
  | succ m ih =>
    intro i wc ke wa hi hw G
    have ei : (nI i).toNatClampNeg = i := nI_clamp (by omega)
    refine br_f (nI_ge (by omega) (by omega)) ⟨vp_in_nI (by omega) (by decide), ?_⟩
    obtain ⟨hb1, hb2⟩ := hb i (by omega)
    rw [ei, hb2]
    refine rx_take H hb1 G hw (fun ke' wa' hw' G' => nm_r (nI_1 i) (ih (i + 1) 0 ke' wa' (by omega) hw' (rz_inv_M G' (fun a _ => ?_))))
    constructor
    · rintro ⟨h1, h2⟩
      exact lt_s h1 h2
    · intro h1
      exact ⟨fun j hj => h1 j (by omega), h1 i (by omega)⟩
theorem rx_sat {post : SX → Prop} {s : Nat} {xb : Nat → Nat} (H : rz_Cfg n N wt wf we) (hs : s ≤ 12) (hb : ∀ j, j < s → xb j < N ∧ ba j = nI (xb j))
    (hw : ∀ x, x < N → wa x = 0) (hG : sa ≠ 0 → rz_Good n (rz_MB n xb s) (rz_K N ke))
    (h : ∀ (sa' wc' : Int32) (ke' wa' : Nat → Int32), (∀ x, x < N → wa' x = 0) → rz_Good n (rz_MB n xb s) (rz_K N ke') → post (nI n, nI N, av, nI s, sa', wc', wt, wf, we, ba, ke', wa', ov, oc)) :
    wpX_saturate post (nI n, nI N, av, nI s, sa, wc, wt, wf, we, ba, ke, wa, ov, oc) := by
  unfold wpX_saturate
  dsimp only
  by_cases z : sa = 0
  · refine br_t z (rx_clear (rz_cfg_N H) (fun ke' hk => ⟨s + 1, ?_⟩))
    exact rx_sat_l H hs hb (h 1) s 0 wc ke' wa (by omega) hw (rz_inv_M (rz_good_empty hk) (fun a _ => ⟨fun _ j hj => by omega, fun _ => trivial⟩))
  · exact br_f z (h sa wc ke wa hw (hG z))
end
end
section
/-! the reference's small walks -/
theorem rz_1n : ∀ n, n < 6 → (1 : Int32) <<< (nI n &&& 31) = nI (2 ^ n) := by decide +kernel
theorem rz_div3 (c i : Nat) : c / 3 ^ i / 3 = c / 3 ^ (i + 1) := by rw [Nat.div_div_eq_div_mul, Nat.pow_succ]
theorem rz_q_lt {c i : Nat} (h : c < 243) : c / 3 ^ i < 2 ^ 31 := Nat.lt_of_le_of_lt (Nat.div_le_self _ _) (by omega)
theorem rz_ydiv {c i : Nat} (h : c < 243) : nI (c / 3 ^ i) / 3 = nI (c / 3 ^ (i + 1)) := by
  rw [← rz_div3]
  exact pk_div (d := 3) (rz_q_lt h) (by decide) (by decide)
theorem rz_yrem {c i : Nat} (h : c < 243) : nI (c / 3 ^ i) - nI (c / 3 ^ i) / 3 * 3 = nI (rz_dg c i) :=
  pk_rem (d := 3) (rz_q_lt h) (by decide) (by decide)
theorem rz_n3 : ¬ (3 : Int32) = 0 := by decide
/-- the models of the base but the place w -/
def rz_MW (n : Nat) (yb : Nat → Nat) (s : Nat) (w : Int32) (a : Nat) : Prop := ∀ j, j < s → nI j ≠ w → rz_sat n a (rz_dg (yb j))
theorem rz_MW_m1 {n s a : Nat} {yb : Nat → Nat} (hs : s ≤ 12) : rz_MW n yb s (-1) a ↔ rz_MB n yb s a := by
  constructor
  · intro h j hj
    refine h j hj (fun e => ?_)
    have t := nI_pos (n := j) (by omega)
    rw [e] at t
    exact t (by decide)
  · intro h j hj _
    exact h j hj
section
variable {n N s : Nat} {bb mo fo : Nat → Int32}
theorem ry_sat_l {post : Int32 → Prop} {a c : Nat} (hn : n ≤ 5) (hc : c < 243)
    (h1 : rz_sat n a (rz_dg c) → post 1) (h0 : ¬ rz_sat n a (rz_dg c) → post 0) :
    ∀ m i, i + m = n → (∀ v, v < i → ¬ ((rz_dg c v = 1 ∧ a.testBit v = true) ∨ (rz_dg c v = 2 ∧ a.testBit v = false))) → wY_satisfies_5 post (nI a) (nI n) (nI N) (nI s) bb mo fo (m + 1) (nI (c / 3 ^ i)) (nI i) := by
  intro m
  induction m with
  | zero =>
    intro i hi hp
    refine br_t (nI_le (by omega) (by omega)) (h0 ?_)
    rintro ⟨v, hv, l⟩
    exact hp v (by omega) l
  | succ m ih =>
    intro i hi hp
    have h3 := rz_dg_lt c i
    have nx : ¬ ((rz_dg c i = 1 ∧ a.testBit i = true) ∨ (rz_dg c i = 2 ∧ a.testBit i = false)) → ∀ y, y = nI i + 1 → wY_satisfies_5 post (nI a) (nI n) (nI N) (nI s) bb mo fo (m + 1) (nI (c / 3 ^ (i + 1))) y :=
      fun h y ey => by rw [ey, nI_1]; exact ih (i + 1) (by omega) (lt_s hp h)
    have jn : ¬ (rz_dg c i = 1 ∧ a.testBit i = true) → wY_satisfies_39 post (wY_satisfies_5 post (nI a) (nI n) (nI N) (nI s) bb mo fo (m + 1)) (nI a) (nI (c / 3 ^ (i + 1))) (nI i) (nI (rz_dg c i)) (nI n) (nI N) (nI s) bb mo fo := by
      intro h
      unfold wY_satisfies_39
      rw [rz_shb0 (by omega), rz_bt_nI (by omega)]
      refine pk_eq (rz_dg c i) 2 (fun e => ?_) (fun e => nx (fun z => z.elim h (fun y => e y.1)))
      by_cases z : a.testBit i = false
      · exact br_t z (h1 ⟨i, by omega, Or.inr ⟨e, z⟩⟩)
      · exact br_f z (nx (fun y => y.elim h (fun x => z x.2)))
    refine br_f (nI_ge (by omega) (by omega)) ⟨rz_n3, nm_r (rz_yrem hc) ⟨rz_n3, nm_r (rz_ydiv hc) ?_⟩⟩
    rw [rz_shb1 (by omega), rz_bt_nI (by omega)]
    refine pk_eq (rz_dg c i) 1 (fun e => ?_) (fun e => jn (fun z => e z.1))
    by_cases z : a.testBit i = true
    · exact br_t z (h1 ⟨i, by omega, Or.inl ⟨e, z⟩⟩)
    · exact br_f z (jn (fun y => z y.2))
theorem ry_sat {post : Int32 → Prop} {a c : Nat} (hn : n ≤ 5) (hc : c < 243)
    (h1 : rz_sat n a (rz_dg c) → post 1) (h0 : ¬ rz_sat n a (rz_dg c) → post 0) : wpY_satisfies post (nI n, nI N, nI s, bb, mo, fo) (nI a) (nI c) := by
  unfold wpY_satisfies
  dsimp only
  have t := ry_sat_l (N := N) (s := s) (bb := bb) (mo := mo) (fo := fo) hn hc h1 h0 n 0 (by omega) (fun v hv => by omega)
  rw [Nat.pow_zero, Nat.div_one] at t
  exact ⟨n + 1, t⟩
theorem ry_fm_i {post : SY → Prop} {J : Int32 → (Nat → Int32) → (Nat → Int32) → (Nat → Int32) → Prop} {yb : Nat → Nat} {a : Nat} (w : Int32) (hn : n ≤ 5) (hN : N ≤ 243) (hs : s ≤ 12) (ha : a < 2 ^ n)
    (hb : ∀ j, j < s → yb j < N ∧ bb j = nI (yb j))
    (hJ : ∀ mo' : Nat → Int32, (∀ x, x ≠ a → mo' x = mo x) → (mo' a ≠ 0 ↔ rz_MW n yb s w a) → J (nI (a + 1)) bb mo' fo) :
    ∀ m i (mi : Nat → Int32), i + m = s → (∀ x, x ≠ a → mi x = mo x) → (mi a ≠ 0 ↔ rz_MW n yb i w a) → wY_findModels_21 post J w (nI a) (nI n) (nI N) (nI s) (m + 1) (nI i) bb mi fo := by
  have h2 := rz_2n hn
  intro m
  induction m with
  | zero =>
    intro i mi hi hx hp
    have e : i = s := by omega
    subst e
    exact br_t (nI_le (by omega) (by omega)) (nm_r (nI_1 a) (hJ mi hx hp))
  | succ m ih =>
    intro i mi hi hx hp
    have ei : (nI i).toNatClampNeg = i := nI_clamp (by omega)
    have ea : (nI a).toNatClampNeg = a := nI_clamp (by omega)
    obtain ⟨hb1, hb2⟩ := hb i (by omega)
    have nx : ∀ mj : Nat → Int32, (∀ x, x ≠ a → mj x = mo x) → (mj a ≠ 0 ↔ rz_MW n yb (i + 1) w a) → ∀ y, y = nI i + 1 → wY_findModels_21 post J w (nI a) (nI n) (nI N) (nI s) (m + 1) y bb mj fo :=
      fun mj h h' y ey => by rw [ey, nI_1]; exact ih (i + 1) mj (by omega) h h'
    refine br_f (nI_ge (by omega) (by omega)) ?_
    by_cases z : nI i = w
    · refine br_t z (nx mi hx (hp.trans ⟨fun h => lt_s h (fun hne => absurd z hne), fun h j hj => h j (by omega)⟩))
    · refine br_f z ⟨vp_in_nI (by omega) (by decide), ?_⟩
      rw [ei, hb2, ea, rz_nar0]
      refine ry_sat hn (by omega) (fun hsat => br_f (by decide) (nx mi hx (hp.trans ⟨fun h => lt_s h (fun _ => hsat), fun h j hj => h j (by omega)⟩))) (fun hsat => br_t rfl ⟨vp_in_nI (by omega) (by decide), nm_e (nx (upd mi a 0) (fun x hxa => ?_) ?_)⟩)
      · rw [pk_un hxa]; exact hx x hxa
      · rw [pk_us]
        exact ⟨fun h => absurd rfl h, fun h => absurd (h i (by omega) z) hsat⟩
theorem ry_fm_l {post : SY → Prop} {yb : Nat → Nat} (w : Int32) (hn : n ≤ 5) (hN : N ≤ 243) (hs : s ≤ 12) (hb : ∀ j, j < s → yb j < N ∧ bb j = nI (yb j))
    (h : ∀ mo' : Nat → Int32, (∀ x, x < 2 ^ n → (mo' x ≠ 0 ↔ rz_MW n yb s w x)) → post (nI n, nI N, nI s, bb, mo', fo)) :
    ∀ m a (mo : Nat → Int32), a + m = 2 ^ n → (∀ x, x < a → (mo x ≠ 0 ↔ rz_MW n yb s w x)) → wY_findModels_2 post w (nI n) (nI N) (nI s) (m + 1) (nI a) bb mo fo := by
  have h2 := rz_2n hn
  have e2 := rz_1n n (by omega)
  intro m
  induction m with
  | zero =>
    intro a mo ha hp
    unfold wY_findModels_2
    rw [e2]
    exact br_t (nI_le (by omega) (by omega)) (h mo (fun x hx => hp x (by omega)))
  | succ m ih =>
    intro a mo ha hp
    have ea : (nI a).toNatClampNeg = a := nI_clamp (by omega)
    unfold wY_findModels_2
    rw [e2, ea, rz_nar1]
    refine br_f (nI_ge (by omega) (by omega)) ⟨vp_in_nI (by omega) (by decide), nm_e ⟨s + 1, ?_⟩⟩
    refine ry_fm_i (mo := upd mo a 1) w hn hN hs (by omega) hb (fun mo' hx hm => ih (a + 1) mo' (by omega) (lt_s (fun x hxa => ?_) hm)) s 0 (upd mo a 1) (by omega) (fun _ _ => rfl) ?_
    · rw [hx x (by omega), pk_un (by omega)]; exact hp x hxa
    · rw [pk_us]
      exact ⟨fun _ j hj => by omega, fun _ => by decide⟩
theorem ry_fm {post : SY → Prop} {yb : Nat → Nat} (w : Int32) (hn : n ≤ 5) (hN : N ≤ 243) (hs : s ≤ 12) (hb : ∀ j, j < s → yb j < N ∧ bb j = nI (yb j))
    (h : ∀ mo' : Nat → Int32, (∀ x, x < 2 ^ n → (mo' x ≠ 0 ↔ rz_MW n yb s w x)) → post (nI n, nI N, nI s, bb, mo', fo)) : wpY_findModels post (nI n, nI N, nI s, bb, mo, fo) w := by
  unfold wpY_findModels
  dsimp only
  exact ⟨2 ^ n + 1, ry_fm_l w hn hN hs hb h (2 ^ n) 0 mo (by omega) (fun x hx => by omega)⟩
theorem ry_fn_l {post : Int32 → Prop} {M : Nat → Prop} {c : Nat} (hn : n ≤ 5) (hc : c < 243) (hm : ∀ x, x < 2 ^ n → (mo x ≠ 0 ↔ M x))
    (h1 : rz_imp n M (rz_dg c) → post 1) (h0 : ¬ rz_imp n M (rz_dg c) → post 0) :
    ∀ m a, a + m = 2 ^ n → (∀ x, x < a → M x → rz_sat n x (rz_dg c)) → wY_followsNow_2 post (nI c) (nI n) (nI N) (nI s) bb mo fo (m + 1) (nI a) := by
  have h2 := rz_2n hn
  have e2 := rz_1n n (by omega)
  intro m
  induction m with
  | zero =>
    intro a ha hp
    unfold wY_followsNow_2
    rw [e2]
    exact br_t (nI_le (by omega) (by omega)) (h1 (fun x hx => hp x (by omega)))
  | succ m ih =>
    intro a ha hp
    have ea : (nI a).toNatClampNeg = a := nI_clamp (by omega)
    have nx : (M a → rz_sat n a (rz_dg c)) → ∀ y, y = nI a + 1 → wY_followsNow_2 post (nI c) (nI n) (nI N) (nI s) bb mo fo (m + 1) y :=
      fun h y ey => by rw [ey, nI_1]; exact ih (a + 1) (by omega) (lt_s hp h)
    unfold wY_followsNow_2
    rw [e2, ea]
    refine br_f (nI_ge (by omega) (by omega)) ⟨vp_in_nI (by omega) (by decide), ?_⟩
    by_cases z : mo a = 0
    · exact br_t z (nx (fun y => absurd z ((hm a (by omega)).mpr y)))
    · refine br_f z (ry_sat hn hc (fun hs => br_f (by decide) (nx (fun _ => hs))) (fun hs => br_t rfl (h0 (fun hi => hs (hi a (by omega) ((hm a (by omega)).mp z))))))
theorem ry_fn {post : Int32 → Prop} {M : Nat → Prop} {c : Nat} (hn : n ≤ 5) (hc : c < 243) (hm : ∀ x, x < 2 ^ n → (mo x ≠ 0 ↔ M x))
    (h1 : rz_imp n M (rz_dg c) → post 1) (h0 : ¬ rz_imp n M (rz_dg c) → post 0) : wpY_followsNow post (nI n, nI N, nI s, bb, mo, fo) (nI c) := by
  unfold wpY_followsNow
  dsimp only
  exact ⟨2 ^ n + 1, ry_fn_l hn hc hm h1 h0 (2 ^ n) 0 (by omega) (fun x hx => by omega)⟩
theorem ry_within_l {post : Int32 → Prop} {d c : Nat} (hn : n ≤ 5) (hd : d < 243) (hc : c < 243)
    (h1 : rz_sub n (rz_dg d) (rz_dg c) → post 1) (h0 : ¬ rz_sub n (rz_dg d) (rz_dg c) → post 0) :
    ∀ m i, i + m = n → (∀ v, v < i → rz_dg d v = 0 ∨ rz_dg d v = rz_dg c v) → wY_within_8 post (nI n) (nI N) (nI s) bb mo fo (m + 1) (nI (d / 3 ^ i)) (nI (c / 3 ^ i)) (nI i) := by
  intro m
  induction m with
  | zero =>
    intro i hi hp
    exact br_t (nI_le (by omega) (by omega)) (h1 (fun v hv => hp v (by omega)))
  | succ m ih =>
    intro i hi hp
    have h3 := rz_dg_lt d i
    have h4 := rz_dg_lt c i
    have jn : (rz_dg d i = 0 ∨ rz_dg d i = rz_dg c i) → wY_within_35 post (wY_within_8 post (nI n) (nI N) (nI s) bb mo fo (m + 1)) (nI (d / 3 ^ i)) (nI (c / 3 ^ i)) (nI i) (nI n) (nI N) (nI s) bb mo fo := by
      intro h
      unfold wY_within_35
      exact ⟨rz_n3, nm_r (rz_ydiv hd) ⟨rz_n3, nm_r (rz_ydiv hc) (nm_r (nI_1 i) (ih (i + 1) (by omega) (lt_s hp h)))⟩⟩
    refine br_f (nI_ge (by omega) (by omega)) ⟨rz_n3, ?_⟩
    rw [rz_yrem hd, rz_yrem hc]
    refine pk_eq (rz_dg d i) 0 (fun e => jn (Or.inl e)) (fun e => ⟨rz_n3, rz_n3, pk_eq (rz_dg d i) (rz_dg c i) (fun e' => jn (Or.inr e')) (fun e' => h0 (fun h => (h i (by omega)).elim e e'))⟩)
theorem ry_within {post : Int32 → Prop} {d c : Nat} (hn : n ≤ 5) (hd : d < 243) (hc : c < 243)
    (h1 : rz_sub n (rz_dg d) (rz_dg c) → post 1) (h0 : ¬ rz_sub n (rz_dg d) (rz_dg c) → post 0) : wpY_within post (nI n, nI N, nI s, bb, mo, fo) (nI d) (nI c) := by
  unfold wpY_within
  dsimp only
  have t := ry_within_l (N := N) (s := s) (bb := bb) (mo := mo) (fo := fo) hn hd hc h1 h0 n 0 (by omega) (fun v hv => by omega)
  rw [Nat.pow_zero, Nat.div_one, Nat.div_one] at t
  exact ⟨n + 1, t⟩
theorem ry_ff_l {post : SY → Prop} {M : Nat → Prop} (hn : n ≤ 5) (hN : N ≤ 243) (hm : ∀ x, x < 2 ^ n → (mo x ≠ 0 ↔ M x))
    (h : ∀ fo' : Nat → Int32, (∀ c, c < N → (fo' c ≠ 0 ↔ rz_imp n M (rz_dg c))) → post (nI n, nI N, nI s, bb, mo, fo')) :
    ∀ m c (fo : Nat → Int32), c + m = N → (∀ x, x < c → (fo x ≠ 0 ↔ rz_imp n M (rz_dg x))) → wY_findFollowing_7 post (nI n) (nI N) (nI s) (m + 1) (nI c) bb mo fo := by
  intro m
  induction m with
  | zero =>
    intro c fo hc hp
    exact br_t (nI_le (by omega) (by omega)) (h fo (fun x hx => hp x (by omega)))
  | succ m ih =>
    intro c fo hc hp
    have ec : (nI c).toNatClampNeg = c := nI_clamp (by omega)
    have ic : vp_in (nI c) 243 := vp_in_nI (by omega) (by decide)
    have up : ∀ r : Int32, (r ≠ 0 ↔ rz_imp n M (rz_dg c)) → ∀ x, x < c + 1 → (upd fo c r x ≠ 0 ↔ rz_imp n M (rz_dg x)) := by
      intro r hr
      refine lt_s (fun x hx => ?_) ?_
      · rw [pk_un (by omega)]; exact hp x hx
      · rw [pk_us]; exact hr
    refine br_f (nI_ge (by omega) (by omega)) (ry_fn hn (by omega) hm (fun hi => ⟨ic, ?_⟩) (fun hi => ⟨ic, ?_⟩))
    · rw [ec, rz_nar1]
      exact nm_e (nm_r (nI_1 c) (ih (c + 1) _ (by omega) (up 1 ⟨fun _ => hi, fun _ => by decide⟩)))
    · rw [ec, rz_nar0]
      exact nm_e (nm_r (nI_1 c) (ih (c + 1) _ (by omega) (up 0 ⟨fun z => absurd rfl z, fun z => absurd z hi⟩)))
theorem ry_ff {post : SY → Prop} {yb : Nat → Nat} (hn : n ≤ 5) (hN : N ≤ 243) (hs : s ≤ 12) (hb : ∀ j, j < s → yb j < N ∧ bb j = nI (yb j))
    (h : ∀ mo' fo' : Nat → Int32, (∀ x, x < 2 ^ n → (mo' x ≠ 0 ↔ rz_MB n yb s x)) → (∀ c, c < N → (fo' c ≠ 0 ↔ rz_imp n (rz_MB n yb s) (rz_dg c))) → post (nI n, nI N, nI s, bb, mo', fo')) :
    wpY_findFollowing post (nI n, nI N, nI s, bb, mo, fo) := by
  unfold wpY_findFollowing
  dsimp only
  refine ry_fm (-1) hn hN hs hb (fun mo' hm => ?_)
  have hm' : ∀ x, x < 2 ^ n → (mo' x ≠ 0 ↔ rz_MB n yb s x) := fun x hx => (hm x hx).trans (rz_MW_m1 hs)
  exact ⟨N + 1, ry_ff_l hn hN hm' (fun fo' hf => h mo' fo' hm' hf) N 0 fo (by omega) (fun x hx => by omega)⟩
theorem ry_prime_l {post : Int32 → Prop} {M : Nat → Prop} {c : Nat} (hn : n ≤ 5) (hN : N = 3 ^ n) (hc : c < N) (hf : ∀ c, c < N → (fo c ≠ 0 ↔ rz_imp n M (rz_dg c)))
    (hi : rz_imp n M (rz_dg c)) (h1 : rz_prime n M c → post 1) (h0 : ¬ rz_prime n M c → post 0) :
    ∀ m i, i + m = N → (∀ d, d < i → d ≠ c → rz_imp n M (rz_dg d) → ¬ rz_sub n (rz_dg d) (rz_dg c)) → wY_isPrime_13 post (nI c) (nI n) (nI N) (nI s) bb mo fo (m + 1) (nI i) := by
  have h3 : N ≤ 243 := by rw [hN]; exact rz_3n hn
  intro m
  induction m with
  | zero =>
    intro i hi' hp
    exact br_t (nI_le (by omega) (by omega)) (h1 ⟨hi, fun d hd => hp d (by omega)⟩)
  | succ m ih =>
    intro i hi' hp
    have ei : (nI i).toNatClampNeg = i := nI_clamp (by omega)
    have nx : (i ≠ c → rz_imp n M (rz_dg i) → ¬ rz_sub n (rz_dg i) (rz_dg c)) → ∀ y, y = nI i + 1 → wY_isPrime_13 post (nI c) (nI n) (nI N) (nI s) bb mo fo (m + 1) y :=
      fun h y ey => by rw [ey, nI_1]; exact ih (i + 1) (by omega) (lt_s hp h)
    refine br_f (nI_ge (by omega) (by omega)) ?_
    rw [ei]
    refine pk_eq i c (fun e => nx (fun ne => absurd e ne)) (fun ne => ⟨vp_in_nI (by omega) (by decide), ?_⟩)
    by_cases z : fo i = 0
    · exact br_t z (nx (fun _ y => absurd z ((hf i (by omega)).mpr y)))
    · exact br_f z (ry_within hn (by omega) (by omega) (fun hs => br_f (by decide) (h0 (fun hpr => hpr.2 i (by omega) ne ((hf i (by omega)).mp z) hs))) (fun hs => br_t rfl (nx (fun _ _ => hs))))
theorem ry_prime {post : Int32 → Prop} {M : Nat → Prop} {c : Nat} (hn : n ≤ 5) (hN : N = 3 ^ n) (hc : c < N) (hf : ∀ c, c < N → (fo c ≠ 0 ↔ rz_imp n M (rz_dg c)))
    (h1 : rz_prime n M c → post 1) (h0 : ¬ rz_prime n M c → post 0) : wpY_isPrime post (nI n, nI N, nI s, bb, mo, fo) (nI c) := by
  have h3 : N ≤ 243 := by rw [hN]; exact rz_3n hn
  have ec : (nI c).toNatClampNeg = c := nI_clamp (by omega)
  unfold wpY_isPrime
  dsimp only
  rw [ec]
  refine ⟨vp_in_nI (by omega) (by decide), ?_⟩
  by_cases z : fo c = 0
  · exact br_t z (h0 (fun hp => (hf c hc).mpr hp.1 z))
  · exact br_f z ⟨N + 1, ry_prime_l hn hN hc hf ((hf c hc).mp z) h1 h0 N 0 (by omega) (fun d hd => by omega)⟩
end
end
section
/-! the relation, and the constructors -/
/-- both bases hold the same clauses, each once -/
def rz_Base (N s : Nat) (xb yb : Nat → Nat) (ba bb : Nat → Int32) : Prop :=
  s ≤ 12 ∧ (∀ j, j < s → xb j < N ∧ ba j = nI (xb j)) ∧ (∀ j, j < s → yb j < N ∧ bb j = nI (yb j)) ∧
  (∀ i j, i < s → j < s → xb i = xb j → i = j) ∧ (∀ i j, i < s → j < s → yb i = yb j → i = j) ∧
  (∀ c, (∃ j, j < s ∧ xb j = c) ↔ (∃ j, j < s ∧ yb j = c))
/-- the relation: one number of variables, tables as they should be, one base, nothing waiting; if saturated, the kept clauses are the saturated set of the base -/
def i_Rel (k : Nat) (u : SX) (v : SY) : Prop :=
  ∃ (n N s : Nat) (sa wc : Int32) (wt wf we ba ke wa ov oc bb mo fo : Nat → Int32) (xb yb : Nat → Nat),
    u = (nI n, nI N, nI (2 ^ n - 1), nI s, sa, wc, wt, wf, we, ba, ke, wa, ov, oc) ∧ v = (nI n, nI N, nI s, bb, mo, fo) ∧ rz_Cfg n N wt wf we ∧ rz_Base N s xb yb ba bb ∧ (∀ x, x < N → wa x = 0) ∧ (sa ≠ 0 → rz_Good n (rz_MB n xb s) (rz_K N ke))
theorem i_up {k : Nat} {u : SX} {v : SY} (h : i_Rel k u v) : i_Rel (k + 3) u v := h
theorem rz_el {k : Nat} {u : SX} {v : SY} {P : SX → SY → Prop}
    (h : ∀ (n N s : Nat) (sa wc : Int32) (wt wf we ba ke wa ov oc bb mo fo : Nat → Int32) (xb yb : Nat → Nat),
      rz_Cfg n N wt wf we → rz_Base N s xb yb ba bb → (∀ x, x < N → wa x = 0) → (sa ≠ 0 → rz_Good n (rz_MB n xb s) (rz_K N ke)) → P (nI n, nI N, nI (2 ^ n - 1), nI s, sa, wc, wt, wf, we, ba, ke, wa, ov, oc) (nI n, nI N, nI s, bb, mo, fo))
    (I : i_Rel k u v) : P u v := by
  unfold i_Rel at I
  refine Exists.elim I fun n I => Exists.elim I fun N I => Exists.elim I fun s I => Exists.elim I fun sa I => Exists.elim I fun wc I => Exists.elim I fun wt I => Exists.elim I fun wf I => Exists.elim I fun we I => Exists.elim I fun ba I => Exists.elim I fun ke I => Exists.elim I fun wa I => Exists.elim I fun ov I => Exists.elim I fun oc I => Exists.elim I fun bb I => Exists.elim I fun mo I => Exists.elim I fun fo I => Exists.elim I fun xb I => Exists.elim I fun yb I => ?_
  rw [I.1, I.2.1]
  exact h n N s sa wc wt wf we ba ke wa ov oc bb mo fo xb yb I.2.2.1 I.2.2.2.1 I.2.2.2.2.1 I.2.2.2.2.2
theorem rz_in {k n N s : Nat} {sa wc : Int32} {wt wf we ba ke wa ov oc bb mo fo : Nat → Int32} {xb yb : Nat → Nat}
    (h1 : rz_Cfg n N wt wf we) (h2 : rz_Base N s xb yb ba bb) (h3 : ∀ x, x < N → wa x = 0) (h4 : sa ≠ 0 → rz_Good n (rz_MB n xb s) (rz_K N ke)) :
    i_Rel k (nI n, nI N, nI (2 ^ n - 1), nI s, sa, wc, wt, wf, we, ba, ke, wa, ov, oc) (nI n, nI N, nI s, bb, mo, fo) := by
  unfold i_Rel
  exact ⟨n, N, s, sa, wc, wt, wf, we, ba, ke, wa, ov, oc, bb, mo, fo, xb, yb, rfl, rfl, h1, h2, h3, h4⟩
theorem rz_mb_eq {n N s : Nat} {xb yb : Nat → Nat} {ba bb : Nat → Int32} (h : rz_Base N s xb yb ba bb) : rz_MB n xb s = rz_MB n yb s := by
  obtain ⟨_, _, _, _, _, h6⟩ := h
  funext a
  apply propext
  constructor
  · intro h j hj
    obtain ⟨i, hi, e⟩ := (h6 (yb j)).mpr ⟨j, hj, rfl⟩
    rw [← e]; exact h i hi
  · intro h j hj
    obtain ⟨i, hi, e⟩ := (h6 (xb j)).mp ⟨j, hj, rfl⟩
    rw [← e]; exact h i hi
theorem rz_i8 : ∀ m, m < 32 → (nI m).toInt8.toInt32 = nI m := by decide +kernel
theorem rz_nar8 {p : Int32} {n : Nat} {q : Nat → Prop} [DecidablePred q] (hn : n ≤ 5) (h : ∀ i, i < 32 → bt p i = decide (i < n ∧ q i)) : vp_nar .byte p.toInt8.toInt32 = p := by
  obtain ⟨m, hm, rfl⟩ := rz_small (k := 5) (by decide) (fun i hi h5 => by rw [h i hi]; exact decide_eq_false (fun z => by omega))
  rw [pk_vb]
  exact rz_i8 m hm
theorem rz_bt_add {p : Int32} {i : Nat} {q : Nat → Prop} [DecidablePred q] (hi : i < 32) (h : ∀ j, j < 32 → bt p j = decide (j < i ∧ q j)) (hq : q i) :
    ∀ j, j < 32 → bt (p ||| ((1 : Int32) <<< (nI i &&& 31))) j = decide (j < i + 1 ∧ q j) := by
  intro j hj
  rw [b_or, h j hj, rz_1shl hi hj]
  by_cases z : j = i
  · subst z
    rw [decide_eq_true rfl, Bool.or_true]
    exact (decide_eq_true ⟨by omega, hq⟩).symm
  · rw [decide_eq_false z, Bool.or_false]
    by_cases y : j < i ∧ q j
    · rw [decide_eq_true y, decide_eq_true ⟨by omega, y.2⟩]
    · rw [decide_eq_false y, decide_eq_false (fun w => y ⟨by omega, w.2⟩)]
theorem rz_bt_skip {p : Int32} {i : Nat} {q : Nat → Prop} [DecidablePred q] (h : ∀ j, j < 32 → bt p j = decide (j < i ∧ q j)) (hq : ¬ q i) :
    ∀ j, j < 32 → bt p j = decide (j < i + 1 ∧ q j) := by
  intro j hj
  rw [h j hj]
  by_cases y : j < i ∧ q j
  · rw [decide_eq_true y, decide_eq_true ⟨by omega, y.2⟩]
  · rw [decide_eq_false y, decide_eq_false (fun w => ?_)]
    by_cases z : j = i
    · subst z; exact hq w.2
    · exact y ⟨by omega, w.2⟩
section
variable {n N : Nat} {av bs sa wc : Int32} {wt wf we ba ke wa ov oc : Nat → Int32}
theorem rx_spell_l {post : SX → Prop} {c : Nat} (hn : n ≤ 5) (hc : c < 243)
    (h : ∀ p q : Int32, (∀ i, i < 32 → bt p i = decide (i < n ∧ rz_dg c i = 1)) → (∀ i, i < 32 → bt q i = decide (i < n ∧ rz_dg c i = 2)) → post (nI n, nI N, av, bs, sa, wc, upd wt c p, upd wf c q, we, ba, ke, wa, ov, oc)) :
    ∀ m i (p q : Int32), i + m = n → (∀ j, j < 32 → bt p j = decide (j < i ∧ rz_dg c j = 1)) → (∀ j, j < 32 → bt q j = decide (j < i ∧ rz_dg c j = 2)) →
      wX_spellOut_10 post (nI c) (nI n) (nI N) av bs sa wc wt wf we ba ke wa ov oc (m + 1) (nI (c / 3 ^ i)) p q (nI i) := by
  have ec : (nI c).toNatClampNeg = c := nI_clamp (by omega)
  have ic : vp_in (nI c) 243 := vp_in_nI (by omega) (by decide)
  intro m
  induction m with
  | zero =>
    intro i p q hi hp hq
    have e : i = n := by omega
    subst e
    refine br_t (nI_le (by omega) (by omega)) ?_
    rw [ec, rz_nar8 hn hp, rz_nar8 hn hq]
    exact ⟨ic, nm_e ⟨ic, nm_e (h p q hp hq)⟩⟩
  | succ m ih =>
    intro i p q hi hp hq
    have h3 := rz_dg_lt c i
    have jn : ∀ p' : Int32, (∀ j, j < 32 → bt p' j = decide (j < i + 1 ∧ rz_dg c j = 1)) → wX_spellOut_37 post (wX_spellOut_10 post (nI c) (nI n) (nI N) av bs sa wc wt wf we ba ke wa ov oc (m + 1)) (nI c) (nI (c / 3 ^ i)) p' q (nI i) (nI (rz_dg c i)) (nI n) (nI N) av bs sa wc wt wf we ba ke wa ov oc := by
      intro p' hp'
      unfold wX_spellOut_37
      refine pk_eq (rz_dg c i) 2 (fun e => nm_e ⟨rz_n3, nm_r (rz_ydiv hc) (nm_r (nI_1 i) (ih (i + 1) p' _ (by omega) hp' (rz_bt_add (by omega) hq e)))⟩) (fun e => ⟨rz_n3, nm_r (rz_ydiv hc) (nm_r (nI_1 i) (ih (i + 1) p' q (by omega) hp' (rz_bt_skip hq e)))⟩)
    refine br_f (nI_ge (by omega) (by omega)) ⟨rz_n3, nm_r (rz_yrem hc) ?_⟩
    refine pk_eq (rz_dg c i) 1 (fun e => nm_e (jn _ (rz_bt_add (by omega) hp e))) (fun e => jn p (rz_bt_skip hp e))
theorem rx_spell {post : SX → Prop} {c : Nat} (hn : n ≤ 5) (hc : c < 243)
    (h : ∀ p q : Int32, (∀ i, i < 32 → bt p i = decide (i < n ∧ rz_dg c i = 1)) → (∀ i, i < 32 → bt q i = decide (i < n ∧ rz_dg c i = 2)) → post (nI n, nI N, av, bs, sa, wc, upd wt c p, upd wf c q, we, ba, ke, wa, ov, oc)) :
    wpX_spellOut post (nI n, nI N, av, bs, sa, wc, wt, wf, we, ba, ke, wa, ov, oc) (nI c) := by
  unfold wpX_spellOut
  dsimp only
  have z : ∀ d, ∀ j, j < 32 → bt 0 j = decide (j < 0 ∧ rz_dg c j = d) := fun d j _ => by rw [b_0]; exact (decide_eq_false (fun z => by omega)).symm
  have t := rx_spell_l hn hc h n 0 0 0 (by omega) (z 1) (z 2)
  rw [Nat.pow_zero, Nat.div_one] at t
  exact ⟨n + 1, t⟩
theorem rx_i149 {post : SX → Prop} (hn2 : 2 ≤ n) (hn : n ≤ 5) (hN : N = 3 ^ n) (hwe : ∀ v, v < n → we v = nI (3 ^ v))
    (h : ∀ wt wf : Nat → Int32, rz_Cfg n N wt wf we → post (nI n, nI N, av, bs, 1, wc, wt, wf, we, ba, ke, wa, ov, oc)) :
    ∀ m c (wt wf : Nat → Int32), c + m = N → (∀ x, x < c → ∀ i, i < 32 → bt (wt x) i = decide (i < n ∧ rz_dg x i = 1)) → (∀ x, x < c → ∀ i, i < 32 → bt (wf x) i = decide (i < n ∧ rz_dg x i = 2)) →
      wX_init_149 post (m + 1) (nI c) (nI n) (nI N) av bs sa wc wt wf we ba ke wa ov oc := by
  have h3 : N ≤ 243 := by rw [hN]; exact rz_3n hn
  intro m
  induction m with
  | zero =>
    intro c wt wf hc ht hf
    have e : c = N := by omega
    subst e
    exact br_t (nI_le (by omega) (by omega)) (h wt wf ⟨hn2, hn, hN, ht, hf, hwe⟩)
  | succ m ih =>
    intro c wt wf hc ht hf
    refine br_f (nI_ge (by omega) (by omega)) (rx_spell hn (by omega) (fun p q hp hq => nm_r (nI_1 c) (ih (c + 1) (upd wt c p) (upd wf c q) (by omega) (lt_s (fun x hx => ?_) ?_) (lt_s (fun x hx => ?_) ?_))))
    · rw [pk_un (by omega)]; exact ht x hx
    · rw [pk_us]; exact hp
    · rw [pk_un (by omega)]; exact hf x hx
    · rw [pk_us]; exact hq
theorem rx_i113 {post : SX → Prop} (hn2 : 2 ≤ n) (hn : n ≤ 5)
    (h : ∀ wt wf we : Nat → Int32, rz_Cfg n (3 ^ n) wt wf we → post (nI n, nI (3 ^ n), av, bs, 1, wc, wt, wf, we, ba, ke, wa, ov, oc)) :
    ∀ m i (we : Nat → Int32), i + m = n → (∀ v, v < i → we v = nI (3 ^ v)) → wX_init_113 post (nI n) av bs sa wc (m + 1) (nI i) (nI (3 ^ i)) wt wf we ba ke wa ov oc := by
  intro m
  induction m with
  | zero =>
    intro i we hi hw
    have e : i = n := by omega
    subst e
    exact br_t (nI_le (by omega) (by omega)) ⟨3 ^ i + 1, rx_i149 hn2 hn rfl hw (fun wt wf => h wt wf we) (3 ^ i) 0 wt wf (by omega) (fun x hx => by omega) (fun x hx => by omega)⟩
  | succ m ih =>
    intro i we hi hw
    have ei : (nI i).toNatClampNeg = i := nI_clamp (by omega)
    refine br_f (nI_ge (by omega) (by omega)) ⟨vp_in_nI (by omega) (by decide), ?_⟩
    rw [ei]
    refine nm_e (nm_r (e' := nI (3 ^ (i + 1))) ?_ (nm_r (nI_1 i) (ih (i + 1) (upd we i (nI (3 ^ i))) (by omega) (lt_s (fun v hv => ?_) pk_us))))
    · rw [Nat.pow_succ, ← pk_mul]; rfl
    · rw [pk_un (by omega)]; exact hw v hv
end
theorem rx_i91 {post : SX → Prop} {n : Nat} (hn2 : 2 ≤ n) (hn : n ≤ 5) {wt wf we ba ke wa ov oc : Nat → Int32} {vn cc av bs sa wc : Int32}
    (h : ∀ wt wf we : Nat → Int32, rz_Cfg n (3 ^ n) wt wf we → post (nI n, nI (3 ^ n), nI (2 ^ n - 1), bs, 1, wc, wt, wf, we, ba, ke, wa, ov, oc)) : wX_init_91 post (nI n) vn cc av bs sa wc wt wf we ba ke wa ov oc := by
  unfold wX_init_91
  have hp : 0 < 2 ^ n := Nat.two_pow_pos n
  refine nm_r (e' := nI (2 ^ n - 1)) ?_ ⟨n + 1, rx_i113 hn2 hn h n 0 we (by omega) (fun v hv => by omega)⟩
  rw [rz_1n n (by omega)]
  exact pk_sub hp
theorem ry_i54 {post : SY → Prop} {n : Nat} (hn2 : 2 ≤ n) (hn : n ≤ 5) {bb mo fo : Nat → Int32} {fn fc fs : Int32}
    (h : post (nI n, nI (3 ^ n), fs, bb, mo, fo)) : wY_init_54 post (nI n) fn fc fs bb mo fo := by
  unfold wY_init_54
  refine pk_eq n 2 (fun e => by subst e; exact h) (fun e2 => pk_eq n 3 (fun e => by subst e; exact h) (fun e3 => pk_eq n 4 (fun e => by subst e; exact h) (fun e4 => ?_)))
  have e : n = 5 := by omega
  subst e
  exact h
theorem rz_i0 {n : Nat} (hn2 : 2 ≤ n) (hn : n ≤ 5) {P : SX → SY → Prop} (h : ∀ wt wf we : Nat → Int32, rz_Cfg n (3 ^ n) wt wf we → P (nI n, nI (3 ^ n), nI (2 ^ n - 1), 0, 1, 0, wt, wf, we, (fun _ => 0), (fun _ => 0), (fun _ => 0), (fun _ => 0), (fun _ => 0)) (nI n, nI (3 ^ n), 0, (fun _ => 0), (fun _ => 0), (fun _ => 0))) (x : Int32) (hx : x = nI n) :
    wX_init_91 (fun u => wY_init_54 (fun v => P u v) x 0 0 0 (fun _ => 0) (fun _ => 0) (fun _ => 0)) x 0 0 0 0 0 0 (fun _ => 0) (fun _ => 0) (fun _ => 0) (fun _ => 0) (fun _ => 0) (fun _ => 0) (fun _ => 0) (fun _ => 0) := by
  subst hx
  exact rx_i91 hn2 hn (fun wt wf we H => ry_i54 hn2 hn (h wt wf we H))
theorem rz_rel0 {n : Nat} {wt wf we : Nat → Int32} (H : rz_Cfg n (3 ^ n) wt wf we) : i_Rel 1 (nI n, nI (3 ^ n), nI (2 ^ n - 1), 0, 1, 0, wt, wf, we, (fun _ => 0), (fun _ => 0), (fun _ => 0), (fun _ => 0), (fun _ => 0)) (nI n, nI (3 ^ n), 0, (fun _ => 0), (fun _ => 0), (fun _ => 0)) :=
  rz_in (s := 0) (xb := fun _ => 0) (yb := fun _ => 0) H
    ⟨by omega, fun j hj => by omega, fun j hj => by omega, fun i j hi => by omega, fun i j hi => by omega, fun c => ⟨fun ⟨j, hj, _⟩ => by omega, fun ⟨j, hj, _⟩ => by omega⟩⟩
    (fun _ _ => rfl) (fun _ => rz_inv_M (rz_good_empty (fun _ _ => rfl)) (fun a _ => ⟨fun _ j hj => by omega, fun _ => trivial⟩))
theorem i_vc0 (k0 : Int32) : wpX_init (fun u => wpY_init (fun v => i_Rel 1 u v) k0) k0 := by
  unfold wpX_init wpY_init
  by_cases h2 : (2 : Int32) ≤ k0
  · by_cases h5 : k0 ≤ 5
    · simp only [h2, h5, true_implies, not_true_eq_false, false_implies, and_true]
      have h0 : ¬ k0 < 0 := Int32.not_lt.mpr (Int32.le_trans (by decide) h2)
      obtain ⟨n, hn, e⟩ := nI_of2 (M := 5) (n := 5) (by decide) h0 h5
      have hn2 : 2 ≤ n := by
        rw [e] at h2
        exact (nI_leI (a := 2) (by decide) (by omega)).mp h2
      exact rz_i0 hn2 hn (P := fun u v => i_Rel 1 u v) (fun wt wf we H => rz_rel0 H) k0 e
    · simp only [h2, h5, true_implies, not_true_eq_false, false_implies, and_true, not_false_eq_true, true_and]
      exact rz_i0 (n := 5) (by decide) (by decide) (P := fun u v => i_Rel 1 u v) (fun wt wf we H => rz_rel0 H) 5 rfl
  · simp only [h2, true_implies, not_true_eq_false, false_implies, and_true, not_false_eq_true, true_and]
    exact rz_i0 (n := 2) (by decide) (by decide) (P := fun u v => i_Rel 1 u v) (fun wt wf we H => rz_rel0 H) 2 rfl
end
section
/-! size, add, retract -/
theorem rz_i16 : ∀ m, m < 243 → (nI m).toInt16.toInt32 = nI m := by decide +kernel
theorem rz_nar16 {m : Nat} (h : m < 243) : vp_nar .short (nI m) = nI m := by
  rw [vp_nar_short]; exact rz_i16 m h
/-- a base with c behind it -/
def rz_put (xb : Nat → Nat) (s c : Nat) (j : Nat) : Nat := if j = s then c else xb j
theorem rz_put_s {xb : Nat → Nat} {s c : Nat} : rz_put xb s c s = c := if_pos rfl
theorem rz_put_n {xb : Nat → Nat} {s c j : Nat} (h : j ≠ s) : rz_put xb s c j = xb j := if_neg h
theorem rz_put_has {xb : Nat → Nat} {s c d : Nat} : (∃ j, j < s + 1 ∧ rz_put xb s c j = d) ↔ ((∃ j, j < s ∧ xb j = d) ∨ d = c) := by
  constructor
  · rintro ⟨j, hj, e⟩
    by_cases z : j = s
    · rw [z, rz_put_s] at e; exact Or.inr e.symm
    · rw [rz_put_n z] at e; exact Or.inl ⟨j, by omega, e⟩
  · rintro (⟨j, hj, e⟩ | e)
    · exact ⟨j, by omega, by rw [rz_put_n (by omega)]; exact e⟩
    · exact ⟨s, by omega, by rw [rz_put_s]; exact e.symm⟩
theorem rz_put_inj {xb : Nat → Nat} {s c : Nat} (h : ∀ i j, i < s → j < s → xb i = xb j → i = j) (hc : ∀ j, j < s → xb j ≠ c) :
    ∀ i j, i < s + 1 → j < s + 1 → rz_put xb s c i = rz_put xb s c j → i = j := by
  intro i j hi hj e
  by_cases z : i = s
  · by_cases y : j = s
    · omega
    · rw [z, rz_put_s, rz_put_n y] at e
      exact absurd e.symm (hc j (by omega))
  · by_cases y : j = s
    · rw [y, rz_put_s, rz_put_n z] at e
      exact absurd e (hc i (by omega))
    · rw [rz_put_n z, rz_put_n y] at e
      exact h i j (by omega) (by omega) e
theorem rz_put_val {N s c : Nat} {xb : Nat → Nat} {ba : Nat → Int32} (hc : c < N) (h : ∀ j, j < s → xb j < N ∧ ba j = nI (xb j)) :
    ∀ j, j < s + 1 → rz_put xb s c j < N ∧ upd ba s (nI c) j = nI (rz_put xb s c j) := by
  intro j hj
  by_cases z : j = s
  · rw [z, rz_put_s, pk_us]; exact ⟨hc, rfl⟩
  · rw [rz_put_n z, pk_un z]; exact h j (by omega)
theorem rz_base_add {N s c : Nat} {xb yb : Nat → Nat} {ba bb : Nat → Int32} (h : rz_Base N s xb yb ba bb) (hs : s < 12) (hc : c < N) (hx : ∀ j, j < s → xb j ≠ c) (hy : ∀ j, j < s → yb j ≠ c) :
    rz_Base N (s + 1) (rz_put xb s c) (rz_put yb s c) (upd ba s (nI c)) (upd bb s (nI c)) := by
  obtain ⟨h1, h2, h3, h4, h5, h6⟩ := h
  refine ⟨by omega, rz_put_val hc h2, rz_put_val hc h3, rz_put_inj h4 hx, rz_put_inj h5 hy, fun d => ?_⟩
  rw [rz_put_has, rz_put_has, h6 d]
theorem rz_put_mb {n s c a : Nat} {xb : Nat → Nat} : (rz_MB n xb s a ∧ rz_sat n a (rz_dg c)) ↔ rz_MB n (rz_put xb s c) (s + 1) a := by
  constructor
  · rintro ⟨h1, h2⟩
    refine lt_s (fun j hj => ?_) ?_
    · rw [rz_put_n (by omega)]; exact h1 j hj
    · rw [rz_put_s]; exact h2
  · intro h
    refine ⟨fun j hj => ?_, ?_⟩
    · have t := h j (by omega)
      rw [rz_put_n (by omega)] at t
      exact t
    · have t := h s (by omega)
      rw [rz_put_s] at t
      exact t
section
variable {n N s : Nat} {av bs sa wc : Int32} {wt wf we ba ke wa ov oc bb mo fo : Nat → Int32}
theorem rx_isc0 {post : Int32 → Prop} {p : Int32} (h : p < 0 ∨ nI N ≤ p) (hp : post 0) : wpX_isClause post (nI n, nI N, av, bs, sa, wc, wt, wf, we, ba, ke, wa, ov, oc) p := by
  unfold wpX_isClause
  dsimp only
  by_cases z : p < 0
  · exact br_t z hp
  · exact br_f z (br_t (h.elim (fun y => absurd y z) (fun y => y)) hp)
theorem rx_isc1 {post : Int32 → Prop} {c : Nat} (hN : N ≤ 243) (hc : c < N) (hp : post 1) : wpX_isClause post (nI n, nI N, av, bs, sa, wc, wt, wf, we, ba, ke, wa, ov, oc) (nI c) := by
  unfold wpX_isClause
  dsimp only
  exact br_f (nI_pos (by omega)) (br_f (nI_ge hc (by omega)) hp)
theorem ry_isc0 {post : Int32 → Prop} {p : Int32} (h : p < 0 ∨ nI N ≤ p) (hp : post 0) : wpY_isClause post (nI n, nI N, nI s, bb, mo, fo) p := by
  unfold wpY_isClause
  dsimp only
  by_cases z : p < 0
  · exact br_t z hp
  · exact br_f z (br_t (h.elim (fun y => absurd y z) (fun y => y)) hp)
theorem ry_isc1 {post : Int32 → Prop} {c : Nat} (hN : N ≤ 243) (hc : c < N) (hp : post 1) : wpY_isClause post (nI n, nI N, nI s, bb, mo, fo) (nI c) := by
  unfold wpY_isClause
  dsimp only
  exact br_f (nI_pos (by omega)) (br_f (nI_ge hc (by omega)) hp)
theorem rx_place_l {post : Int32 → Prop} {xb : Nat → Nat} {c : Nat} (hs : s ≤ 12) (hN : N ≤ 243) (hc : c < N) (hb : ∀ j, j < s → xb j < N ∧ ba j = nI (xb j))
    (hf : ∀ i, i < s → xb i = c → post (nI i)) (hn : (∀ i, i < s → xb i ≠ c) → post (-1)) :
    ∀ m i, i + m = s → (∀ j, j < i → xb j ≠ c) → wX_placeOf_2 post (nI c) (nI n) (nI N) av (nI s) sa wc wt wf we ba ke wa ov oc (m + 1) (nI i) := by
  intro m
  induction m with
  | zero =>
    intro i hi hp
    exact br_t (nI_le (by omega) (by omega)) (hn (fun j hj => hp j (by omega)))
  | succ m ih =>
    intro i hi hp
    have ei : (nI i).toNatClampNeg = i := nI_clamp (by omega)
    obtain ⟨hb1, hb2⟩ := hb i (by omega)
    refine br_f (nI_ge (by omega) (by omega)) ⟨vp_in_nI (by omega) (by decide), ?_⟩
    rw [ei, hb2]
    exact pk_eq (xb i) c (fun e => hf i (by omega) e) (fun e => nm_r (nI_1 i) (ih (i + 1) (by omega) (lt_s hp e)))
theorem rx_place {post : Int32 → Prop} {xb : Nat → Nat} {c : Nat} (hs : s ≤ 12) (hN : N ≤ 243) (hc : c < N) (hb : ∀ j, j < s → xb j < N ∧ ba j = nI (xb j))
    (hf : ∀ i, i < s → xb i = c → post (nI i)) (hn : (∀ i, i < s → xb i ≠ c) → post (-1)) : wpX_placeOf post (nI n, nI N, av, nI s, sa, wc, wt, wf, we, ba, ke, wa, ov, oc) (nI c) := by
  unfold wpX_placeOf
  dsimp only
  exact ⟨s + 1, rx_place_l hs hN hc hb hf hn s 0 (by omega) (fun j hj => by omega)⟩
theorem ry_place_l {post : Int32 → Prop} {yb : Nat → Nat} {c : Nat} (hs : s ≤ 12) (hN : N ≤ 243) (hc : c < N) (hb : ∀ j, j < s → yb j < N ∧ bb j = nI (yb j))
    (hf : ∀ i, i < s → yb i = c → post (nI i)) (hn : (∀ i, i < s → yb i ≠ c) → post (-1)) :
    ∀ m i, i + m = s → (∀ j, j < i → yb j ≠ c) → wY_placeOf_2 post (nI c) (nI n) (nI N) (nI s) bb mo fo (m + 1) (nI i) := by
  intro m
  induction m with
  | zero =>
    intro i hi hp
    exact br_t (nI_le (by omega) (by omega)) (hn (fun j hj => hp j (by omega)))
  | succ m ih =>
    intro i hi hp
    have ei : (nI i).toNatClampNeg = i := nI_clamp (by omega)
    obtain ⟨hb1, hb2⟩ := hb i (by omega)
    refine br_f (nI_ge (by omega) (by omega)) ⟨vp_in_nI (by omega) (by decide), ?_⟩
    rw [ei, hb2]
    exact pk_eq (yb i) c (fun e => hf i (by omega) e) (fun e => nm_r (nI_1 i) (ih (i + 1) (by omega) (lt_s hp e)))
theorem ry_place {post : Int32 → Prop} {yb : Nat → Nat} {c : Nat} (hs : s ≤ 12) (hN : N ≤ 243) (hc : c < N) (hb : ∀ j, j < s → yb j < N ∧ bb j = nI (yb j))
    (hf : ∀ i, i < s → yb i = c → post (nI i)) (hn : (∀ i, i < s → yb i ≠ c) → post (-1)) : wpY_placeOf post (nI n, nI N, nI s, bb, mo, fo) (nI c) := by
  unfold wpY_placeOf
  dsimp only
  exact ⟨s + 1, ry_place_l hs hN hc hb hf hn s 0 (by omega) (fun j hj => by omega)⟩
end
theorem i_vc_size {k : Nat} {u : SX} {v : SY} (I : i_Rel k u v) (hk : k + 3 ≤ 1537) : wpX_size (fun r => wpY_size (fun r' => r' = r ∧ i_Rel (k + 3) u v) v) u := by
  refine rz_el (P := fun u v => wpX_size (fun r => wpY_size (fun r' => r' = r ∧ i_Rel (k + 3) u v) v) u) ?_ I
  intro n N s sa wc wt wf we ba ke wa ov oc bb mo fo xb yb H B hw hG
  unfold wpX_size wpY_size
  dsimp only
  exact ⟨rfl, rz_in H B hw hG⟩
theorem i_vc_add {k : Nat} {u : SX} {v : SY} (I : i_Rel k u v) (hk : k + 3 ≤ 1537) (v1 : Int32) : wpX_add (fun r u' => wpY_add (fun r' v' => r' = r ∧ i_Rel (k + 3) u' v') v v1) u v1 := by
  refine rz_el (P := fun u v => wpX_add (fun r u' => wpY_add (fun r' v' => r' = r ∧ i_Rel (k + 3) u' v') v v1) u v1) ?_ I
  intro n N s sa wc wt wf we ba ke wa ov oc bb mo fo xb yb H B hw hG
  have hN := rz_cfg_N H
  have same := rz_in (k := k + 3) (wc := wc) (ov := ov) (oc := oc) (mo := mo) (fo := fo) H B hw hG
  have B0 := B
  obtain ⟨hs, hx, hy, ix, iy, hxy⟩ := B
  unfold wpX_add
  dsimp only
  rcases pk_ix v1 (n := N) (by omega) with h | h | ⟨c, hc, rfl⟩
  · refine rx_isc0 (Or.inl h) (br_t rfl ?_)
    unfold wpY_add
    dsimp only
    exact ry_isc0 (Or.inl h) (br_t rfl ⟨rfl, same⟩)
  · refine rx_isc0 (Or.inr h) (br_t rfl ?_)
    unfold wpY_add
    dsimp only
    exact ry_isc0 (Or.inr h) (br_t rfl ⟨rfl, same⟩)
  · refine rx_isc1 hN hc (br_f (by decide) (rx_place hs hN hc hx (fun i hi e => ?_) (fun hno => ?_)))
    · refine br_f (nI_pos (by omega)) ?_
      unfold wpY_add
      dsimp only
      refine ry_isc1 hN hc (br_f (by decide) (ry_place hs hN hc hy (fun j hj _ => br_f (nI_pos (by omega)) ⟨rfl, same⟩) (fun hno => ?_)))
      obtain ⟨j, hj, e'⟩ := (hxy c).mp ⟨i, hi, e⟩
      exact absurd e' (hno j hj)
    · refine br_t (by decide) ?_
      have hno' : ∀ j, j < s → yb j ≠ c := by
        intro j hj e
        obtain ⟨i, hi, e'⟩ := (hxy c).mpr ⟨j, hj, e⟩
        exact hno i hi e'
      have Y : ∀ (r : Int32) (u' : SX), (s = 12 → r = -3 ∧ i_Rel (k + 3) u' (nI n, nI N, nI s, bb, mo, fo)) → (s < 12 → r = 1 ∧ i_Rel (k + 3) u' (nI n, nI N, nI (s + 1), upd bb s (nI c), mo, fo)) →
          wpY_add (fun r' v' => r' = r ∧ i_Rel (k + 3) u' v') (nI n, nI N, nI s, bb, mo, fo) (nI c) := by
        intro r u' h12 hlt
        have es : (nI s).toNatClampNeg = s := nI_clamp (by omega)
        unfold wpY_add
        dsimp only
        refine ry_isc1 hN hc (br_f (by decide) (ry_place hs hN hc hy (fun j hj e => absurd e (hno' j hj)) (fun _ => br_t (by decide) ?_)))
        rw [es]
        exact pk_eq s 12 (fun e => ⟨(h12 e).1.symm, (h12 e).2⟩) (fun e => ⟨vp_in_nI (by omega) (by decide), nm_e (nm_r (nI_1 s) ⟨(hlt (by omega)).1.symm, (hlt (by omega)).2⟩)⟩)
      have es : (nI s).toNatClampNeg = s := nI_clamp (by omega)
      rw [es, pk_vs, rz_i16 c (by omega)]
      refine pk_lt s 12 (fun hlt => ⟨vp_in_nI (by omega) (by decide), nm_e (nm_r (nI_1 s) ?_)⟩) (fun hge => ?_)
      · have B' := rz_base_add B0 hlt hc hno hno'
        by_cases z : sa = 0
        · exact br_t z (Y _ _ (fun e => by omega) (fun _ => ⟨rfl, rz_in H B' hw (fun y => absurd z y)⟩))
        · refine br_f z (rx_take H hc (hG z) hw (fun ke' wa' hw' G' => ?_))
          exact Y _ _ (fun e => by omega) (fun _ => ⟨rfl, rz_in H B' hw' (fun _ => rz_inv_M G' (fun a _ => rz_put_mb))⟩)
      · exact Y _ _ (fun e => ⟨rfl, same⟩) (fun e => by omega)
end
section
/-! retract -/
def rz_del (xb : Nat → Nat) (i : Nat) (j : Nat) : Nat := if j < i then xb j else xb (j + 1)
def rz_swp (yb : Nat → Nat) (i t : Nat) (j : Nat) : Nat := if j = i then yb t else yb j
theorem rz_del_l {xb : Nat → Nat} {i j : Nat} (h : j < i) : rz_del xb i j = xb j := if_pos h
theorem rz_del_g {xb : Nat → Nat} {i j : Nat} (h : i ≤ j) : rz_del xb i j = xb (j + 1) := if_neg (by omega)
theorem rz_swp_i {yb : Nat → Nat} {i t : Nat} : rz_swp yb i t i = yb t := if_pos rfl
theorem rz_swp_n {yb : Nat → Nat} {i t j : Nat} (h : j ≠ i) : rz_swp yb i t j = yb j := if_neg h
theorem rz_del_has {xb : Nat → Nat} {i t d : Nat} (hi : i < t + 1) (inj : ∀ i j, i < t + 1 → j < t + 1 → xb i = xb j → i = j) :
    (∃ j, j < t ∧ rz_del xb i j = d) ↔ ((∃ j, j < t + 1 ∧ xb j = d) ∧ d ≠ xb i) := by
  constructor
  · rintro ⟨j, hj, e⟩
    by_cases z : j < i
    · rw [rz_del_l z] at e
      refine ⟨⟨j, by omega, e⟩, fun h => ?_⟩
      have := inj j i (by omega) hi (e.trans h)
      omega
    · rw [rz_del_g (by omega)] at e
      refine ⟨⟨j + 1, by omega, e⟩, fun h => ?_⟩
      have := inj (j + 1) i (by omega) hi (e.trans h)
      omega
  · rintro ⟨⟨j, hj, e⟩, hne⟩
    have hji : j ≠ i := fun z => hne (by rw [← e, z])
    by_cases z : j < i
    · exact ⟨j, by omega, by rw [rz_del_l z]; exact e⟩
    · refine ⟨j - 1, by omega, ?_⟩
      rw [rz_del_g (by omega), show j - 1 + 1 = j from by omega]
      exact e
theorem rz_swp_has {yb : Nat → Nat} {i t d : Nat} (hi : i < t + 1) (inj : ∀ i j, i < t + 1 → j < t + 1 → yb i = yb j → i = j) :
    (∃ j, j < t ∧ rz_swp yb i t j = d) ↔ ((∃ j, j < t + 1 ∧ yb j = d) ∧ d ≠ yb i) := by
  constructor
  · rintro ⟨j, hj, e⟩
    by_cases z : j = i
    · rw [z, rz_swp_i] at e
      refine ⟨⟨t, by omega, e⟩, fun h => ?_⟩
      have := inj t i (by omega) hi (e.trans h)
      omega
    · rw [rz_swp_n z] at e
      refine ⟨⟨j, by omega, e⟩, fun h => ?_⟩
      have := inj j i (by omega) hi (e.trans h)
      omega
  · rintro ⟨⟨j, hj, e⟩, hne⟩
    have hji : j ≠ i := fun z => hne (by rw [← e, z])
    by_cases z : j = t
    · exact ⟨i, by omega, by rw [rz_swp_i, ← z]; exact e⟩
    · exact ⟨j, by omega, by rw [rz_swp_n hji]; exact e⟩
theorem rz_del_inj {xb : Nat → Nat} {i t : Nat} (inj : ∀ i j, i < t + 1 → j < t + 1 → xb i = xb j → i = j) : ∀ a b, a < t → b < t → rz_del xb i a = rz_del xb i b → a = b := by
  intro a b ha hb e
  by_cases z : a < i
  · by_cases y : b < i
    · rw [rz_del_l z, rz_del_l y] at e
      exact inj a b (by omega) (by omega) e
    · rw [rz_del_l z, rz_del_g (by omega)] at e
      have := inj a (b + 1) (by omega) (by omega) e
      omega
  · by_cases y : b < i
    · rw [rz_del_g (by omega), rz_del_l y] at e
      have := inj (a + 1) b (by omega) (by omega) e
      omega
    · rw [rz_del_g (by omega), rz_del_g (by omega)] at e
      have := inj (a + 1) (b + 1) (by omega) (by omega) e
      omega
theorem rz_swp_inj {yb : Nat → Nat} {i t : Nat} (inj : ∀ i j, i < t + 1 → j < t + 1 → yb i = yb j → i = j) : ∀ a b, a < t → b < t → rz_swp yb i t a = rz_swp yb i t b → a = b := by
  intro a b ha hb e
  by_cases z : a = i
  · by_cases y : b = i
    · omega
    · rw [z, rz_swp_i, rz_swp_n y] at e
      have := inj t b (by omega) (by omega) e
      omega
  · by_cases y : b = i
    · rw [y, rz_swp_i, rz_swp_n z] at e
      have := inj a t (by omega) (by omega) e
      omega
    · rw [rz_swp_n z, rz_swp_n y] at e
      exact inj a b (by omega) (by omega) e
theorem rz_base_del {N t i j : Nat} {xb yb : Nat → Nat} {ba bb ba' : Nat → Int32} (h : rz_Base N (t + 1) xb yb ba bb) (hi : i < t + 1) (hj : j < t + 1) (e : xb i = yb j)
    (hb : ∀ a, a < t → ba' a = nI (rz_del xb i a)) : rz_Base N t (rz_del xb i) (rz_swp yb j t) ba' (upd bb j (nI (yb t))) := by
  obtain ⟨h1, h2, h3, h4, h5, h6⟩ := h
  refine ⟨by omega, fun a ha => ⟨?_, hb a ha⟩, fun a ha => ?_, rz_del_inj h4, rz_swp_inj h5, fun d => ?_⟩
  · by_cases z : a < i
    · rw [rz_del_l z]; exact (h2 a (by omega)).1
    · rw [rz_del_g (by omega)]; exact (h2 (a + 1) (by omega)).1
  · by_cases z : a = j
    · rw [z, rz_swp_i, pk_us]; exact ⟨(h3 t (by omega)).1, rfl⟩
    · rw [rz_swp_n z, pk_un z]; exact h3 a (by omega)
  · rw [rz_del_has hi h4, rz_swp_has hj h5, h6 d, e]
section
variable {n N : Nat} {av bs sa wc : Int32} {wt wf we ba ke wa ov oc bb mo fo : Nat → Int32}
theorem rx_ret_l {post : Int32 → SX → Prop} {t i : Nat} {xb : Nat → Nat} (ht : t < 12) (hN : N ≤ 243) (hb : ∀ j, j < t + 1 → xb j < N)
    (h : ∀ ba' : Nat → Int32, (∀ j, j < t → ba' j = nI (rz_del xb i j)) → post 1 (nI n, nI N, av, nI t, 0, wc, wt, wf, we, ba', ke, wa, ov, oc)) :
    ∀ m p (bx : Nat → Int32), p + m = t → i ≤ p → (∀ j, j < t + 1 → bx j = nI (if i ≤ j ∧ j < p then xb (j + 1) else xb j)) → wX_retract_34 post (nI n) (nI N) av (nI t) sa wc (m + 1) (nI p) wt wf we bx ke wa ov oc := by
  intro m
  induction m with
  | zero =>
    intro p bx hp hip hbx
    refine br_t (nI_le (by omega) (by omega)) (h bx (fun j hj => ?_))
    rw [hbx j (by omega)]
    by_cases z : j < i
    · rw [rz_del_l z, if_neg (by omega)]
    · rw [rz_del_g (by omega), if_pos (by omega)]
  | succ m ih =>
    intro p bx hp hip hbx
    have ep : (nI p).toNatClampNeg = p := nI_clamp (by omega)
    have ep1 : (nI (p + 1)).toNatClampNeg = p + 1 := nI_clamp (by omega)
    have e1 : bx (p + 1) = nI (xb (p + 1)) := by rw [hbx (p + 1) (by omega), if_neg (by omega)]
    refine br_f (nI_ge (by omega) (by omega)) ?_
    rw [nI_1 p, ep, ep1, e1, rz_nar16 (by have := hb (p + 1) (by omega); omega)]
    refine ⟨vp_in_nI (by omega) (by decide), vp_in_nI (by omega) (by decide), nm_e (nm_e (ih (p + 1) (upd bx p (nI (xb (p + 1)))) (by omega) (by omega) (fun j hj => ?_)))⟩
    by_cases z : j = p
    · subst z
      rw [pk_us, if_pos (by omega)]
    · rw [pk_un z, hbx j hj]
      by_cases y : i ≤ j ∧ j < p
      · rw [if_pos y, if_pos (by omega)]
      · rw [if_neg y, if_neg (by omega)]
end
theorem i_vc_retract {k : Nat} {u : SX} {v : SY} (I : i_Rel k u v) (hk : k + 3 ≤ 1537) (v1 : Int32) : wpX_retract (fun r u' => wpY_retract (fun r' v' => r' = r ∧ i_Rel (k + 3) u' v') v v1) u v1 := by
  refine rz_el (P := fun u v => wpX_retract (fun r u' => wpY_retract (fun r' v' => r' = r ∧ i_Rel (k + 3) u' v') v v1) u v1) ?_ I
  intro n N s sa wc wt wf we ba ke wa ov oc bb mo fo xb yb H B hw hG
  have hN := rz_cfg_N H
  have same := rz_in (k := k + 3) (wc := wc) (ov := ov) (oc := oc) (mo := mo) (fo := fo) H B hw hG
  have B0 := B
  obtain ⟨hs, hx, hy, ix, iy, hxy⟩ := B
  unfold wpX_retract
  dsimp only
  rcases pk_ix v1 (n := N) (by omega) with h | h | ⟨c, hc, rfl⟩
  · refine rx_isc0 (Or.inl h) (br_t rfl ?_)
    unfold wpY_retract
    dsimp only
    exact ry_isc0 (Or.inl h) (br_t rfl ⟨rfl, same⟩)
  · refine rx_isc0 (Or.inr h) (br_t rfl ?_)
    unfold wpY_retract
    dsimp only
    exact ry_isc0 (Or.inr h) (br_t rfl ⟨rfl, same⟩)
  · refine rx_isc1 hN hc (br_f (by decide) (rx_place hs hN hc hx (fun i hi e => ?_) (fun hno => ?_)))
    · obtain ⟨t, rfl⟩ : ∃ t, s = t + 1 := ⟨s - 1, by omega⟩
      refine br_t (nI_pos' (by omega)) (nm_r (nI_pred t) ⟨t - i + 1, ?_⟩)
      refine rx_ret_l (xb := xb) (i := i) (by omega) hN (fun j hj => (hx j hj).1) (fun ba' hb' => ?_) (t - i) i ba (by omega) (by omega) (fun j hj => ?_)
      · unfold wpY_retract
        dsimp only
        refine ry_isc1 hN hc (br_f (by decide) (ry_place hs hN hc hy (fun j hj e' => br_t (nI_pos' (by omega)) (nm_r (nI_pred t) ?_)) (fun hno => ?_)))
        · have et : (nI t).toNatClampNeg = t := nI_clamp (by omega)
          have ej : (nI j).toNatClampNeg = j := nI_clamp (by omega)
          rw [et, ej, (hy t (by omega)).2]
          exact ⟨vp_in_nI (by omega) (by decide), vp_in_nI (by omega) (by decide), nm_e ⟨rfl, rz_in H (rz_base_del B0 hi hj (e.trans e'.symm) hb') hw (fun y => absurd rfl y)⟩⟩
        · obtain ⟨j, hj, e'⟩ := (hxy c).mp ⟨i, hi, e⟩
          exact absurd e' (hno j hj)
      · rw [if_neg (by omega)]; exact (hx j hj).2
    · refine br_f (by decide) ?_
      unfold wpY_retract
      dsimp only
      refine ry_isc1 hN hc (br_f (by decide) (ry_place hs hN hc hy (fun j hj e => ?_) (fun _ => br_f (by decide) ⟨rfl, same⟩)))
      obtain ⟨i, hi, e'⟩ := (hxy c).mpr ⟨j, hj, e⟩
      exact absurd e' (hno i hi)
end
section
/-! implied, primes, prime, primeWithin -/
theorem rz_pk1 (k : Int32) (b : Nat) : k - nI b + (-1) = k - nI (b + 1) := by
  rw [← nI_1]; grind
theorem rz_pk0 {k : Int32} {b : Nat} : k - nI b = 0 ↔ nI b = k := by
  constructor
  · intro h; grind
  · intro h; rw [h]; exact Int32.sub_self _
section
variable {n N s : Nat} {av bs sa wc : Int32} {wt wf we ba ke wa ov oc bb mo fo : Nat → Int32}
theorem rx_primes_l {post : Int32 → SX → Prop} (hN : N ≤ 243) (h : post (nI (rz_cp (fun c => ke c ≠ 0) N)) (nI n, nI N, av, bs, sa, wc, wt, wf, we, ba, ke, wa, ov, oc)) :
    ∀ m i, i + m = N → wX_primes_8 post (nI n) (nI N) av bs sa wc wt wf we ba ke wa ov oc (m + 1) (nI (rz_cp (fun c => ke c ≠ 0) i)) (nI i) := by
  intro m
  induction m with
  | zero =>
    intro i hi
    have e : i = N := by omega
    subst e
    exact br_t (nI_le (by omega) (by omega)) h
  | succ m ih =>
    intro i hi
    have ei : (nI i).toNatClampNeg = i := nI_clamp (by omega)
    have t := ih (i + 1) (by omega)
    rw [rz_cp_s] at t
    refine br_f (nI_ge (by omega) (by omega)) ⟨vp_in_nI (by omega) (by decide), ?_⟩
    rw [ei]
    by_cases z : ke i = 0
    · rw [rz_b0 (fun y => y z), Nat.add_zero] at t
      exact br_t z (nm_r (nI_1 i) t)
    · rw [rz_b1 z] at t
      exact br_f z (nm_r (nI_1 _) (nm_r (nI_1 i) t))
theorem ry_primes_l {post : Int32 → SY → Prop} {M : Nat → Prop} (hn : n ≤ 5) (hN : N = 3 ^ n) (hf : ∀ c, c < N → (fo c ≠ 0 ↔ rz_imp n M (rz_dg c))) (h : post (nI (rz_cp (rz_prime n M) N)) (nI n, nI N, nI s, bb, mo, fo)) :
    ∀ m i, i + m = N → wY_primes_8 post (nI n) (nI N) (nI s) bb mo fo (m + 1) (nI (rz_cp (rz_prime n M) i)) (nI i) := by
  have h3 : N ≤ 243 := by rw [hN]; exact rz_3n hn
  intro m
  induction m with
  | zero =>
    intro i hi
    have e : i = N := by omega
    subst e
    exact br_t (nI_le (by omega) (by omega)) h
  | succ m ih =>
    intro i hi
    have t := ih (i + 1) (by omega)
    rw [rz_cp_s] at t
    refine br_f (nI_ge (by omega) (by omega)) (ry_prime hn hN (by omega) hf (fun hp => ?_) (fun hp => ?_))
    · rw [rz_b1 hp] at t
      exact br_f (by decide) (nm_r (nI_1 _) (nm_r (nI_1 i) t))
    · rw [rz_b0 hp, Nat.add_zero] at t
      exact br_t rfl (nm_r (nI_1 i) t)
theorem rx_prime_l {post : Int32 → SX → Prop} {k : Int32} (hN : N ≤ 243)
    (hf : ∀ c, c < N → ke c ≠ 0 ∧ nI (rz_cp (fun c => ke c ≠ 0) c) = k → (∀ j, j < c → ¬ (ke j ≠ 0 ∧ nI (rz_cp (fun c => ke c ≠ 0) j) = k)) → post (nI c) (nI n, nI N, av, bs, sa, wc, wt, wf, we, ba, ke, wa, ov, oc))
    (hn : (∀ c, c < N → ¬ (ke c ≠ 0 ∧ nI (rz_cp (fun c => ke c ≠ 0) c) = k)) → post (-2) (nI n, nI N, av, bs, sa, wc, wt, wf, we, ba, ke, wa, ov, oc)) :
    ∀ m i, i + m = N → (∀ j, j < i → ¬ (ke j ≠ 0 ∧ nI (rz_cp (fun c => ke c ≠ 0) j) = k)) → wX_prime_8 post (nI n) (nI N) av bs sa wc wt wf we ba ke wa ov oc (m + 1) (k - nI (rz_cp (fun c => ke c ≠ 0) i)) (nI i) := by
  intro m
  induction m with
  | zero =>
    intro i hi hp
    exact br_t (nI_le (by omega) (by omega)) (hn (fun c hc => hp c (by omega)))
  | succ m ih =>
    intro i hi hp
    have ei : (nI i).toNatClampNeg = i := nI_clamp (by omega)
    have t := ih (i + 1) (by omega)
    rw [rz_cp_s] at t
    refine br_f (nI_ge (by omega) (by omega)) ⟨vp_in_nI (by omega) (by decide), ?_⟩
    rw [ei]
    by_cases z : ke i = 0
    · rw [rz_b0 (fun y => y z), Nat.add_zero] at t
      exact br_t z (nm_r (nI_1 i) (t (lt_s hp (fun y => y.1 z))))
    · rw [rz_b1 z] at t
      refine br_f z ?_
      by_cases y : nI (rz_cp (fun c => ke c ≠ 0) i) = k
      · exact br_t (rz_pk0.mpr y) (hf i (by omega) ⟨z, y⟩ hp)
      · exact br_f (fun w => y (rz_pk0.mp w)) (nm_r (rz_pk1 k _) (nm_r (nI_1 i) (t (lt_s hp (fun w => y w.2)))))
theorem ry_prime_ll {post : Int32 → SY → Prop} {M : Nat → Prop} {k : Int32} (hn : n ≤ 5) (hN : N = 3 ^ n) (hfo : ∀ c, c < N → (fo c ≠ 0 ↔ rz_imp n M (rz_dg c)))
    (hf : ∀ c, c < N → rz_prime n M c ∧ nI (rz_cp (rz_prime n M) c) = k → (∀ j, j < c → ¬ (rz_prime n M j ∧ nI (rz_cp (rz_prime n M) j) = k)) → post (nI c) (nI n, nI N, nI s, bb, mo, fo))
    (hno : (∀ c, c < N → ¬ (rz_prime n M c ∧ nI (rz_cp (rz_prime n M) c) = k)) → post (-2) (nI n, nI N, nI s, bb, mo, fo)) :
    ∀ m i, i + m = N → (∀ j, j < i → ¬ (rz_prime n M j ∧ nI (rz_cp (rz_prime n M) j) = k)) → wY_prime_8 post k (nI n) (nI N) (nI s) bb mo fo (m + 1) (nI (rz_cp (rz_prime n M) i)) (nI i) := by
  have h3 : N ≤ 243 := by rw [hN]; exact rz_3n hn
  intro m
  induction m with
  | zero =>
    intro i hi hp
    exact br_t (nI_le (by omega) (by omega)) (hno (fun c hc => hp c (by omega)))
  | succ m ih =>
    intro i hi hp
    have t := ih (i + 1) (by omega)
    rw [rz_cp_s] at t
    refine br_f (nI_ge (by omega) (by omega)) (ry_prime hn hN (by omega) hfo (fun hpr => ?_) (fun hpr => ?_))
    · rw [rz_b1 hpr] at t
      refine br_f (by decide) ?_
      by_cases y : nI (rz_cp (rz_prime n M) i) = k
      · exact br_t y (hf i (by omega) ⟨hpr, y⟩ hp)
      · exact br_f y (nm_r (nI_1 _) (nm_r (nI_1 i) (t (lt_s hp (fun w => y w.2)))))
    · rw [rz_b0 hpr, Nat.add_zero] at t
      exact br_t rfl (nm_r (nI_1 i) (t (lt_s hp (fun w => hpr w.1))))
theorem ry_pw_l {post : Int32 → SY → Prop} {M : Nat → Prop} {c : Nat} (hn : n ≤ 5) (hN : N = 3 ^ n) (hc : c < N) (hfo : ∀ c, c < N → (fo c ≠ 0 ↔ rz_imp n M (rz_dg c)))
    (hf : ∀ d, d < N → rz_prime n M d ∧ rz_sub n (rz_dg d) (rz_dg c) → (∀ j, j < d → ¬ (rz_prime n M j ∧ rz_sub n (rz_dg j) (rz_dg c))) → post (nI d) (nI n, nI N, nI s, bb, mo, fo))
    (hno : (∀ d, d < N → ¬ (rz_prime n M d ∧ rz_sub n (rz_dg d) (rz_dg c))) → post (-2) (nI n, nI N, nI s, bb, mo, fo)) :
    ∀ m i, i + m = N → (∀ j, j < i → ¬ (rz_prime n M j ∧ rz_sub n (rz_dg j) (rz_dg c))) → wY_primeWithin_16 post (nI c) (nI n) (nI N) (nI s) bb mo fo (m + 1) (nI i) := by
  have h3 : N ≤ 243 := by rw [hN]; exact rz_3n hn
  intro m
  induction m with
  | zero =>
    intro i hi hp
    exact br_t (nI_le (by omega) (by omega)) (hno (fun c hc => hp c (by omega)))
  | succ m ih =>
    intro i hi hp
    have t := ih (i + 1) (by omega)
    refine br_f (nI_ge (by omega) (by omega)) (ry_within hn (by omega) (by omega) (fun hs => br_f (by decide) (ry_prime hn hN (by omega) hfo (fun hpr => ?_) (fun hpr => ?_))) (fun hs => ?_))
    · exact br_f (by decide) (hf i (by omega) ⟨hpr, hs⟩ hp)
    · exact br_t rfl (nm_r (nI_1 i) (t (lt_s hp (fun w => hpr w.1))))
    · exact br_t rfl (nm_r (nI_1 i) (t (lt_s hp (fun w => hs w.2))))
end
theorem i_vc_implied {k : Nat} {u : SX} {v : SY} (I : i_Rel k u v) (hk : k + 3 ≤ 1537) (v1 : Int32) : wpX_implied (fun r u' => wpY_implied (fun r' v' => r' = r ∧ i_Rel (k + 3) u' v') v v1) u v1 := by
  refine rz_el (P := fun u v => wpX_implied (fun r u' => wpY_implied (fun r' v' => r' = r ∧ i_Rel (k + 3) u' v') v v1) u v1) ?_ I
  intro n N s sa wc wt wf we ba ke wa ov oc bb mo fo xb yb H B hw hG
  have hN := rz_cfg_N H
  have same := rz_in (k := k + 3) (wc := wc) (ov := ov) (oc := oc) (mo := mo) (fo := fo) H B hw hG
  have B0 := B
  have em := rz_mb_eq (n := n) B
  obtain ⟨hs, hx, hy, ix, iy, hxy⟩ := B
  unfold wpX_implied
  dsimp only
  rcases pk_ix v1 (n := N) (by omega) with h | h | ⟨c, hc, rfl⟩
  · refine rx_isc0 (Or.inl h) (br_t rfl ?_)
    unfold wpY_implied
    dsimp only
    exact ry_isc0 (Or.inl h) (br_t rfl ⟨rfl, same⟩)
  · refine rx_isc0 (Or.inr h) (br_t rfl ?_)
    unfold wpY_implied
    dsimp only
    exact ry_isc0 (Or.inr h) (br_t rfl ⟨rfl, same⟩)
  · refine rx_isc1 hN hc (br_f (by decide) (rx_sat H hs hx hw hG (fun sa' wc' ke' wa' hw' G' => ?_)))
    have Y : ∀ (r : Int32), (rz_imp n (rz_MB n yb s) (rz_dg c) → r = 1) → (¬ rz_imp n (rz_MB n yb s) (rz_dg c) → r = 0) →
        wpY_implied (fun r' v' => r' = r ∧ i_Rel (k + 3) (nI n, nI N, nI (2 ^ n - 1), nI s, sa', wc', wt, wf, we, ba, ke', wa', ov, oc) v') (nI n, nI N, nI s, bb, mo, fo) (nI c) := by
      intro r h1 h0
      unfold wpY_implied
      dsimp only
      refine ry_isc1 hN hc (br_f (by decide) (ry_fm (-1) H.2.1 hN hs hy (fun mo' hm => ?_)))
      exact ry_fn H.2.1 (by omega) (fun x hx => (hm x hx).trans (rz_MW_m1 hs)) (fun hi => ⟨rfl, (h1 hi).symm, rz_in H B0 hw' (fun _ => G')⟩) (fun hi => ⟨rfl, (h0 hi).symm, rz_in H B0 hw' (fun _ => G')⟩)
    have key := rz_good_imp G' (f := rz_dg c) (fun v _ => rz_dg_lt c v)
    rw [em] at key
    exact rx_lkw H hc (fun d hd sd _ => br_f (nI_pos (by have := hd.1; omega)) (Y 1 (fun _ => rfl) (fun z => absurd (key.mpr ⟨d, hd, sd⟩) z))) (fun hno => br_t (by decide) (Y 0 (fun z => absurd (key.mp z) hno) (fun _ => rfl)))
theorem i_vc_primes {k : Nat} {u : SX} {v : SY} (I : i_Rel k u v) (hk : k + 3 ≤ 1537) : wpX_primes (fun r u' => wpY_primes (fun r' v' => r' = r ∧ i_Rel (k + 3) u' v') v) u := by
  refine rz_el (P := fun u v => wpX_primes (fun r u' => wpY_primes (fun r' v' => r' = r ∧ i_Rel (k + 3) u' v') v) u) ?_ I
  intro n N s sa wc wt wf we ba ke wa ov oc bb mo fo xb yb H B hw hG
  have hN := rz_cfg_N H
  have B0 := B
  have em := rz_mb_eq (n := n) B
  obtain ⟨hs, hx, hy, ix, iy, hxy⟩ := B
  unfold wpX_primes
  dsimp only
  refine rx_sat H hs hx hw hG (fun sa' wc' ke' wa' hw' G' => ⟨N + 1, rx_primes_l hN ?_ N 0 (by omega)⟩)
  unfold wpY_primes
  dsimp only
  refine ry_ff H.2.1 hN hs hy (fun mo' fo' hm hf => ⟨N + 1, ry_primes_l H.2.1 H.2.2.1 hf ⟨?_, rz_in H B0 hw' (fun _ => G')⟩ N 0 (by omega)⟩)
  refine congrArg nI (rz_cp_congr (fun c hc => ?_))
  have key := rz_good_kept G' (c := c) (by rw [← H.2.2.1]; exact hc)
  rw [em] at key
  exact key.symm.trans ⟨fun z => z.2, fun z => ⟨hc, z⟩⟩
theorem i_vc_prime {k : Nat} {u : SX} {v : SY} (I : i_Rel k u v) (hk : k + 3 ≤ 1537) (v1 : Int32) : wpX_prime (fun r u' => wpY_prime (fun r' v' => r' = r ∧ i_Rel (k + 3) u' v') v v1) u v1 := by
  refine rz_el (P := fun u v => wpX_prime (fun r u' => wpY_prime (fun r' v' => r' = r ∧ i_Rel (k + 3) u' v') v v1) u v1) ?_ I
  intro n N s sa wc wt wf we ba ke wa ov oc bb mo fo xb yb H B hw hG
  have hN := rz_cfg_N H
  have B0 := B
  have em := rz_mb_eq (n := n) B
  obtain ⟨hs, hx, hy, ix, iy, hxy⟩ := B
  unfold wpX_prime
  dsimp only
  refine rx_sat H hs hx hw hG (fun sa' wc' ke' wa' hw' G' => ⟨N + 1, ?_⟩)
  have key : ∀ c, c < N → (ke' c ≠ 0 ↔ rz_prime n (rz_MB n yb s) c) := by
    intro c hc
    have key := rz_good_kept G' (c := c) (by rw [← H.2.2.1]; exact hc)
    rw [em] at key
    exact ⟨fun z => key.mp ⟨hc, z⟩, fun z => (key.mpr z).2⟩
  have kq : ∀ c, c < N → ((ke' c ≠ 0 ∧ nI (rz_cp (fun c => ke' c ≠ 0) c) = v1) ↔ (rz_prime n (rz_MB n yb s) c ∧ nI (rz_cp (rz_prime n (rz_MB n yb s)) c) = v1)) := by
    intro c hc
    rw [key c hc, rz_cp_congr (fun x hx => key x (by omega))]
  have Y : ∀ (r : Int32), (∀ c, c < N → rz_prime n (rz_MB n yb s) c ∧ nI (rz_cp (rz_prime n (rz_MB n yb s)) c) = v1 → (∀ j, j < c → ¬ (rz_prime n (rz_MB n yb s) j ∧ nI (rz_cp (rz_prime n (rz_MB n yb s)) j) = v1)) → r = nI c) →
      ((∀ c, c < N → ¬ (rz_prime n (rz_MB n yb s) c ∧ nI (rz_cp (rz_prime n (rz_MB n yb s)) c) = v1)) → r = -2) →
      wpY_prime (fun r' v' => r' = r ∧ i_Rel (k + 3) (nI n, nI N, nI (2 ^ n - 1), nI s, sa', wc', wt, wf, we, ba, ke', wa', ov, oc) v') (nI n, nI N, nI s, bb, mo, fo) v1 := by
    intro r h1 h0
    unfold wpY_prime
    dsimp only
    refine ry_ff H.2.1 hN hs hy (fun mo' fo' hm hf => ⟨N + 1, ?_⟩)
    exact ry_prime_ll H.2.1 H.2.2.1 hf (fun c hc hq hl => ⟨(h1 c hc hq hl).symm, rz_in H B0 hw' (fun _ => G')⟩) (fun hno => ⟨(h0 hno).symm, rz_in H B0 hw' (fun _ => G')⟩) N 0 (by omega) (fun j hj => by omega)
  have t := rx_prime_l (post := fun r u' => wpY_prime (fun r' v' => r' = r ∧ i_Rel (k + 3) u' v') (nI n, nI N, nI s, bb, mo, fo) v1) (n := n) (av := nI (2 ^ n - 1)) (bs := nI s) (sa := sa') (wc := wc') (wt := wt) (wf := wf) (we := we) (ba := ba) (ke := ke') (wa := wa') (ov := ov) (oc := oc) (k := v1) hN
    (fun c hc hq hl => Y (nI c) (fun d hd hq' hl' => ?_) (fun hno => absurd ((kq c hc).mp hq) (hno c hc)))
    (fun hno => Y (-2) (fun d hd hq' _ => absurd ((kq d hd).mpr hq') (hno d hd)) (fun _ => rfl)) N 0 (by omega) (fun j hj => by omega)
  · have e : v1 - nI (rz_cp (fun c => ke' c ≠ 0) 0) = v1 := by
      show v1 - nI 0 = v1
      rw [nI_0]; exact Int32.sub_zero _
    rw [e] at t
    exact t
  · rcases Nat.lt_trichotomy c d with z | z | z
    · exact absurd ((kq c hc).mp hq) (hl' c z)
    · rw [z]
    · exact absurd ((kq d hd).mpr hq') (hl d z)
theorem i_vc_primeWithin {k : Nat} {u : SX} {v : SY} (I : i_Rel k u v) (hk : k + 3 ≤ 1537) (v1 : Int32) : wpX_primeWithin (fun r u' => wpY_primeWithin (fun r' v' => r' = r ∧ i_Rel (k + 3) u' v') v v1) u v1 := by
  refine rz_el (P := fun u v => wpX_primeWithin (fun r u' => wpY_primeWithin (fun r' v' => r' = r ∧ i_Rel (k + 3) u' v') v v1) u v1) ?_ I
  intro n N s sa wc wt wf we ba ke wa ov oc bb mo fo xb yb H B hw hG
  have hN := rz_cfg_N H
  have same := rz_in (k := k + 3) (wc := wc) (ov := ov) (oc := oc) (mo := mo) (fo := fo) H B hw hG
  have B0 := B
  have em := rz_mb_eq (n := n) B
  obtain ⟨hs, hx, hy, ix, iy, hxy⟩ := B
  unfold wpX_primeWithin
  dsimp only
  rcases pk_ix v1 (n := N) (by omega) with h | h | ⟨c, hc, rfl⟩
  · refine rx_isc0 (Or.inl h) (br_t rfl ?_)
    unfold wpY_primeWithin
    dsimp only
    exact ry_isc0 (Or.inl h) (br_t rfl ⟨rfl, same⟩)
  · refine rx_isc0 (Or.inr h) (br_t rfl ?_)
    unfold wpY_primeWithin
    dsimp only
    exact ry_isc0 (Or.inr h) (br_t rfl ⟨rfl, same⟩)
  · refine rx_isc1 hN hc (br_f (by decide) (rx_sat H hs hx hw hG (fun sa' wc' ke' wa' hw' G' => ?_)))
    have key : ∀ c, c < N → (rz_K N ke' c ↔ rz_prime n (rz_MB n yb s) c) := by
      intro c hc
      have key := rz_good_kept G' (c := c) (by rw [← H.2.2.1]; exact hc)
      rw [em] at key
      exact key
    have Y : ∀ (r : Int32), (∀ d, d < N → rz_prime n (rz_MB n yb s) d ∧ rz_sub n (rz_dg d) (rz_dg c) → (∀ j, j < d → ¬ (rz_prime n (rz_MB n yb s) j ∧ rz_sub n (rz_dg j) (rz_dg c))) → r = nI d) →
        ((∀ d, d < N → ¬ (rz_prime n (rz_MB n yb s) d ∧ rz_sub n (rz_dg d) (rz_dg c))) → r = -2) →
        wpY_primeWithin (fun r' v' => r' = r ∧ i_Rel (k + 3) (nI n, nI N, nI (2 ^ n - 1), nI s, sa', wc', wt, wf, we, ba, ke', wa', ov, oc) v') (nI n, nI N, nI s, bb, mo, fo) (nI c) := by
      intro r h1 h0
      unfold wpY_primeWithin
      dsimp only
      refine ry_isc1 hN hc (br_f (by decide) (ry_ff H.2.1 hN hs hy (fun mo' fo' hm hf => ⟨N + 1, ?_⟩)))
      exact ry_pw_l H.2.1 H.2.2.1 hc hf (fun c hc hq hl => ⟨(h1 c hc hq hl).symm, rz_in H B0 hw' (fun _ => G')⟩) (fun hno => ⟨(h0 hno).symm, rz_in H B0 hw' (fun _ => G')⟩) N 0 (by omega) (fun j hj => by omega)
    refine rx_lkw H hc (fun d hd sd hl => Y (nI d) (fun e he hq' hl' => ?_) (fun hno => absurd ⟨(key d hd.1).mp hd, sd⟩ (hno d hd.1))) (fun hno => Y (-2) (fun d hd hq' _ => absurd ⟨d, (key d hd).mpr hq'.1, hq'.2⟩ hno) (fun _ => rfl))
    rcases Nat.lt_trichotomy d e with z | z | z
    · exact absurd ⟨(key d hd.1).mp hd, sd⟩ (hl' d z)
    · rw [z]
    · exact absurd ⟨(key e he).mpr hq'.1, hq'.2⟩ (hl e z)
end
section
/-! breaks, models -/
def rz_sm (f : Nat → Nat) : Nat → Nat
  | 0 => 0
  | k + 1 => rz_sm f k + f k
theorem rz_sm_s (f : Nat → Nat) (k : Nat) : rz_sm f (k + 1) = rz_sm f k + f k := rfl
theorem rz_sm_congr {f g : Nat → Nat} : ∀ k, (∀ i, i < k → f i = g i) → rz_sm f k = rz_sm g k := by
  intro k
  induction k with
  | zero => intro _; rfl
  | succ k ih => intro h; rw [rz_sm_s, rz_sm_s, ih (fun i hi => h i (by omega)), h k (by omega)]
/-- nodes below a partial assignment of g variables -/
def rz_wt (n g : Nat) : Nat := 2 ^ (n - g + 1) - 1
theorem rz_wt_pos (n g : Nat) : 1 ≤ rz_wt n g := by
  unfold rz_wt
  have h := Nat.two_pow_pos (n - g)
  rw [Nat.pow_succ]
  omega
theorem rz_wt_s {n g : Nat} (h : g < n) : rz_wt n g = 2 * rz_wt n (g + 1) + 1 := by
  unfold rz_wt
  have e : n - g = n - (g + 1) + 1 := by omega
  have p := Nat.two_pow_pos (n - (g + 1))
  rw [e, Nat.pow_succ 2 (n - (g + 1) + 1), Nat.pow_succ 2 (n - (g + 1))]
  omega
/-- a starts like v, on g variables -/
def rz_pre (g v a : Nat) : Prop := ∀ i, i < g → a.testBit i = v.testBit i
noncomputable def rz_ct (n : Nat) (M : Nat → Prop) (v g : Nat) : Nat := rz_cp (fun a => M a ∧ rz_pre g v a) (2 ^ n)
theorem rz_pre_s {g v a : Nat} (hv : v < 2 ^ g) : rz_pre g v a ↔ rz_pre (g + 1) v a ∨ rz_pre (g + 1) (2 ^ g + v) a := by
  have z : v.testBit g = false := Nat.testBit_lt_two_pow hv
  have w1 : (2 ^ g + v).testBit g = true := by rw [Nat.testBit_two_pow_add_eq, z]; rfl
  have w2 : ∀ i, i < g → (2 ^ g + v).testBit i = v.testBit i := fun i hi => Nat.testBit_two_pow_add_gt hi v
  constructor
  · intro h
    cases hb : a.testBit g
    · left
      exact lt_s h (by rw [hb, z])
    · right
      exact lt_s (fun i hi => by rw [w2 i hi]; exact h i hi) (by rw [hb, w1])
  · rintro (h | h) i hi
    · exact h i (by omega)
    · rw [← w2 i hi]; exact h i (by omega)
theorem rz_ct_s {n g v : Nat} {M : Nat → Prop} (hv : v < 2 ^ g) : rz_ct n M v g = rz_ct n M v (g + 1) + rz_ct n M (2 ^ g + v) (g + 1) := by
  unfold rz_ct
  rw [← rz_cp_or]
  · apply rz_cp_congr
    intro a _
    rw [rz_pre_s hv]
    constructor
    · rintro ⟨h1, h2 | h2⟩
      · exact Or.inl ⟨h1, h2⟩
      · exact Or.inr ⟨h1, h2⟩
    · rintro (⟨h1, h2⟩ | ⟨h1, h2⟩)
      · exact ⟨h1, Or.inl h2⟩
      · exact ⟨h1, Or.inr h2⟩
  · rintro a _ ⟨_, h1⟩ ⟨_, h2⟩
    have a1 := h1 g (by omega)
    have a2 := h2 g (by omega)
    rw [Nat.testBit_lt_two_pow hv] at a1
    rw [Nat.testBit_two_pow_add_eq, Nat.testBit_lt_two_pow hv, a1] at a2
    exact absurd a2 (by decide)
theorem rz_pre_n {n v a : Nat} (hv : v < 2 ^ n) (ha : a < 2 ^ n) : rz_pre n v a ↔ a = v := by
  constructor
  · intro h
    apply Nat.eq_of_testBit_eq
    intro i
    by_cases z : i < n
    · exact h i z
    · have p : 2 ^ n ≤ 2 ^ i := Nat.pow_le_pow_right (by decide) (by omega)
      rw [Nat.testBit_lt_two_pow (by omega), Nat.testBit_lt_two_pow (by omega)]
  · intro e i _
    rw [e]
theorem rz_agr_pre {n g v a : Nat} (hn : n ≤ 5) (hg : g ≤ n) : rz_agr n (bt (nI (2 ^ g - 1))) (bt (nI v)) a ↔ rz_pre g v a := by
  constructor
  · intro h i hi
    have t := h i (by omega) (by rw [rz_bt_nI (by omega), Nat.testBit_two_pow_sub_one]; exact decide_eq_true hi)
    rw [rz_bt_nI (by omega)] at t
    exact t
  · intro h i hi hk
    rw [rz_bt_nI (by omega), Nat.testBit_two_pow_sub_one] at hk
    rw [rz_bt_nI (by omega)]
    exact h i (of_decide_eq_true hk)
theorem rz_or_bit {g v : Nat} (hg : g < 5) (hv : v < 2 ^ g) : nI v ||| ((1 : Int32) <<< (nI g &&& 31)) = nI (2 ^ g + v) := by
  apply b_ext
  intro i hi
  rw [b_or, rz_bt_nI hi, rz_1shl (by omega) hi, rz_bt_nI hi]
  rcases Nat.lt_trichotomy i g with z | z | z
  · rw [Nat.testBit_two_pow_add_gt z, decide_eq_false (by omega), Bool.or_false]
  · subst z
    rw [Nat.testBit_two_pow_add_eq, Nat.testBit_lt_two_pow hv, decide_eq_true rfl]; rfl
  · have p : 2 ^ (g + 1) ≤ 2 ^ i := Nat.pow_le_pow_right (by decide) z
    rw [Nat.pow_succ] at p
    rw [Nat.testBit_lt_two_pow (show v < 2 ^ i by omega), Nat.testBit_lt_two_pow (show 2 ^ g + v < 2 ^ i by omega), decide_eq_false (by omega)]; rfl
theorem rz_or_bit' {g v : Nat} (hg : g < 5) (hv : v < 2 ^ g) : nI v ||| nI (2 ^ g) = nI (2 ^ g + v) := by
  rw [← rz_or_bit hg hv, rz_1n g (by omega)]
section
variable {n N s : Nat} {av bs sa wc : Int32} {wt wf we ba ke wa ov oc bb mo fo : Nat → Int32}
theorem rx_breaks_l {post : Int32 → Prop} (H : rz_Cfg n N wt wf we) (kn vl : Int32)
    (h1 : rz_Sb n (rz_K N ke) (rz_fv (bt kn) (bt vl)) → post 1) (h0 : ¬ rz_Sb n (rz_K N ke) (rz_fv (bt kn) (bt vl)) → post 0) :
    ∀ m i, i + m = N → (∀ j, j < i → ¬ (rz_K N ke j ∧ rz_sub n (rz_dg j) (rz_fv (bt kn) (bt vl)))) → wX_breaks_2 post kn vl (nI n) (nI N) av bs sa wc wt wf we ba ke wa ov oc (m + 1) (nI i) := by
  have hN := rz_cfg_N H
  intro m
  induction m with
  | zero =>
    intro i hi hp
    refine br_t (nI_le (by omega) (by omega)) (h0 ?_)
    rintro ⟨d, hd, sd⟩
    exact hp d (by have := hd.1; omega) ⟨hd, sd⟩
  | succ m ih =>
    intro i hi hp
    have ei : (nI i).toNatClampNeg = i := nI_clamp (by omega)
    have ii : vp_in (nI i) 243 := vp_in_nI (by omega) (by decide)
    have nx : ¬ (rz_K N ke i ∧ rz_sub n (rz_dg i) (rz_fv (bt kn) (bt vl))) → ∀ y, y = nI i + 1 → wX_breaks_2 post kn vl (nI n) (nI N) av bs sa wc wt wf we ba ke wa ov oc (m + 1) y :=
      fun h y ey => by rw [ey, nI_1]; exact ih (i + 1) (by omega) (lt_s hp h)
    have key := rz_bbits H (c := i) (by omega) kn vl
    refine br_f (nI_ge (by omega) (by omega)) ⟨ii, ?_⟩
    rw [ei]
    by_cases z : ke i = 0
    · exact br_t z (nx (fun h => h.1.2 z))
    · refine br_f z ⟨ii, ii, nm_e ⟨ii, ii, nm_e ?_⟩⟩
      by_cases a : ((wt i ||| wf i) &&& (kn ^^^ (-1))) = 0
      · refine br_t a ?_
        by_cases b : ((wt i &&& vl) ||| ((wf i &&& kn) &&& (vl ^^^ (-1)))) = 0
        · exact br_t b (h1 ⟨i, ⟨by omega, z⟩, key.mp ⟨a, b⟩⟩)
        · exact br_f b (nx (fun h => b (key.mpr h.2).2))
      · exact br_f a (nx (fun h => a (key.mpr h.2).1))
theorem rx_breaks {post : Int32 → Prop} (H : rz_Cfg n N wt wf we) (kn vl : Int32)
    (h1 : rz_Sb n (rz_K N ke) (rz_fv (bt kn) (bt vl)) → post 1) (h0 : ¬ rz_Sb n (rz_K N ke) (rz_fv (bt kn) (bt vl)) → post 0) : wpX_breaks post (nI n, nI N, av, bs, sa, wc, wt, wf, we, ba, ke, wa, ov, oc) kn vl := by
  unfold wpX_breaks
  dsimp only
  exact ⟨N + 1, rx_breaks_l H kn vl h1 h0 N 0 (by omega) (fun j hj => by omega)⟩
/-- the stack: at place i the values vs i of the first cs i variables -/
def rz_Stk (n top : Nat) (vs cs : Nat → Nat) (ov oc : Nat → Int32) : Prop := ∀ i, i < top → i ≤ cs i ∧ cs i ≤ n ∧ vs i < 2 ^ cs i ∧ ov i = nI (vs i) ∧ oc i = nI (cs i)
theorem rz_stk_down {n t : Nat} {vs cs : Nat → Nat} {ov oc : Nat → Int32} (h : rz_Stk n (t + 1) vs cs ov oc) : rz_Stk n t vs cs ov oc := fun i hi => h i (by omega)
theorem rx_models_l {post : Int32 → SX → Prop} {M : Nat → Prop} {C : Nat} (H : rz_Cfg n N wt wf we) (G : rz_Good n M (rz_K N ke))
    (h : ∀ ov oc : Nat → Int32, post (nI C) (nI n, nI N, av, bs, sa, wc, wt, wf, we, ba, ke, wa, ov, oc)) :
    ∀ m tot top step (vs cs : Nat → Nat) (ov oc : Nat → Int32), tot + rz_sm (fun i => rz_ct n M (vs i) (cs i)) top = C → rz_sm (fun i => rz_wt n (cs i)) top ≤ m → step + m ≤ 63 → rz_Stk n top vs cs ov oc →
      wX_models_24 post (nI n) (nI N) av bs sa wc (m + 1) (nI tot) (nI top) (nI step) wt wf we ba ke wa ov oc := by
  have hn := H.2.1
  intro m
  induction m with
  | zero =>
    intro tot top step vs cs ov oc hC hm hs hst
    cases top with
    | zero =>
      have e : tot = C := hC
      subst e
      exact br_f (nI_ge (b := 64) (by omega) (by decide)) (br_t (by decide) (h ov oc))
    | succ t =>
      rw [rz_sm_s] at hm
      have p := rz_wt_pos n (cs t)
      omega
  | succ m ih =>
    intro tot top step vs cs ov oc hC hm hs hst
    cases top with
    | zero =>
      have e : tot = C := hC
      subst e
      exact br_f (nI_ge (b := 64) (by omega) (by decide)) (br_t (by decide) (h ov oc))
    | succ t =>
      obtain ⟨s1, s2, s3, s4, s5⟩ := hst t (by omega)
      have p := rz_wt_pos n (cs t)
      rw [rz_sm_s] at hC hm
      have et : (nI t).toNatClampNeg = t := nI_clamp (by omega)
      have it : vp_in (nI t) 8 := vp_in_nI (by omega) (by decide)
      have hp5 : 2 ^ cs t ≤ 32 := rz_2n (by omega)
      refine br_f (nI_ge (b := 64) (by omega) (by decide)) (br_f (nI_nle (by omega) (by omega)) (nm_r (pk_m1 t) ⟨it, ?_⟩))
      rw [et, s4, s5]
      refine nm_e ⟨it, nm_e ?_⟩
      rw [rz_1n (cs t) (by omega), show nI (2 ^ cs t) - 1 = nI (2 ^ cs t - 1) from pk_sub (Nat.two_pow_pos _)]
      have key := rz_good_br G (bt (nI (2 ^ cs t - 1))) (bt (nI (vs t)))
      refine rx_breaks H _ _ (fun hb => ?_) (fun hb => ?_)
      · have c0 : rz_ct n M (vs t) (cs t) = 0 := by
          apply rz_cp_z
          rintro a ha ⟨hm', hpre⟩
          exact key.mp hb ⟨a, ha, hm', (rz_agr_pre hn s2).mpr hpre⟩
        exact br_f (by decide) (nm_r (nI_1 step) (ih tot t (step + 1) vs cs ov oc (by omega) (by omega) (by omega) (rz_stk_down hst)))
      · refine br_t rfl (pk_eq (cs t) n (fun e => ?_) (fun e => ?_))
        · have c1 : rz_ct n M (vs t) (cs t) = 1 := by
            have hex : ∃ a, a < 2 ^ n ∧ M a ∧ rz_agr n (bt (nI (2 ^ cs t - 1))) (bt (nI (vs t))) a := Classical.byContradiction (fun z => hb (key.mpr z))
            obtain ⟨a, ha, hma, hga⟩ := hex
            have hpre := (rz_agr_pre hn s2).mp hga
            rw [e] at hpre s3
            have ea := (rz_pre_n s3 ha).mp hpre
            unfold rz_ct
            rw [e]
            rw [rz_cp_congr (q := fun x => x = vs t) (fun x hx => ?_), rz_cp_one _ s3]
            rw [rz_pre_n s3 hx]
            exact ⟨fun z => z.2, fun z => ⟨by rw [z, ← ea]; exact hma, z⟩⟩
          exact nm_r (nI_1 tot) (nm_r (nI_1 step) (ih (tot + 1) t (step + 1) vs cs ov oc (by omega) (by omega) (by omega) (rz_stk_down hst)))
        · have hlt : cs t < n := by omega
          have wv : 2 ^ cs t + vs t < 2 ^ (cs t + 1) := by rw [Nat.pow_succ]; omega
          have wn : 2 ^ (cs t + 1) ≤ 32 := rz_2n (by omega)
          have et1 : (nI (t + 1)).toNatClampNeg = t + 1 := nI_clamp (by omega)
          have it1 : vp_in (nI (t + 1)) 8 := vp_in_nI (by omega) (by decide)
          have e5 : cs t < 5 := by omega
          rw [nI_1 t, nI_1 (cs t), et1, rz_or_bit' e5 s3, pk_vb, pk_vb, pk_vb, rz_i8 (vs t) (by omega), rz_i8 (cs t + 1) (by omega), rz_i8 (2 ^ cs t + vs t) (by omega)]
          refine ⟨it, nm_e ⟨it, nm_e ⟨it1, nm_e ⟨it1, nm_e (nm_r (nI_add t 2) (nm_r (nI_1 step) ?_))⟩⟩⟩⟩
          have hcs := rz_ct_s (n := n) (M := M) s3
          have hws := rz_wt_s hlt
          refine ih tot (t + 2) (step + 1) (fun i => if i = t + 1 then 2 ^ cs t + vs t else vs i) (fun i => if i = t ∨ i = t + 1 then cs t + 1 else cs i) _ _ ?_ ?_ (by omega) ?_
          · rw [rz_sm_s, rz_sm_s]
            rw [rz_sm_congr (f := fun i => rz_ct n M (if i = t + 1 then 2 ^ cs t + vs t else vs i) (if i = t ∨ i = t + 1 then cs t + 1 else cs i)) (g := fun i => rz_ct n M (vs i) (cs i)) t (fun i hi => by (try dsimp only); rw [if_neg (by omega), if_neg (by omega)])]
            rw [if_neg (by omega), if_pos (Or.inl rfl), if_pos rfl, if_pos (Or.inr rfl)]
            omega
          · rw [rz_sm_s, rz_sm_s]
            rw [rz_sm_congr (f := fun i => rz_wt n (if i = t ∨ i = t + 1 then cs t + 1 else cs i)) (g := fun i => rz_wt n (cs i)) t (fun i hi => by (try dsimp only); rw [if_neg (by omega)])]
            rw [if_pos (Or.inl rfl), if_pos (Or.inr rfl)]
            omega
          · intro i hi
            dsimp only
            by_cases z1 : i = t + 1
            · subst z1
              rw [if_pos rfl, if_pos (Or.inr rfl), pk_us, pk_us]
              exact ⟨by omega, by omega, wv, rfl, rfl⟩
            · by_cases z2 : i = t
              · subst z2
                rw [if_neg z1, if_pos (Or.inl rfl), pk_un z1, pk_un z1, pk_us, pk_us]
                exact ⟨by omega, by omega, by rw [Nat.pow_succ]; omega, rfl, rfl⟩
              · rw [if_neg z1, if_neg (by omega), pk_un z1, pk_un z1, pk_un z2, pk_un z2]
                exact hst i (by omega)
theorem ry_models_l {post : Int32 → SY → Prop} (hn : n ≤ 5) (h : post (nI (rz_cp (fun a => mo a ≠ 0) (2 ^ n))) (nI n, nI N, nI s, bb, mo, fo)) :
    ∀ m i, i + m = 2 ^ n → wY_models_9 post (nI n) (nI N) (nI s) bb mo fo (m + 1) (nI (rz_cp (fun a => mo a ≠ 0) i)) (nI i) := by
  have h2 := rz_2n hn
  have e2 := rz_1n n (by omega)
  intro m
  induction m with
  | zero =>
    intro i hi
    have e : i = 2 ^ n := by omega
    unfold wY_models_9
    rw [e2]
    rw [e]
    exact br_t (nI_le (by omega) (by omega)) h
  | succ m ih =>
    intro i hi
    have ei : (nI i).toNatClampNeg = i := nI_clamp (by omega)
    have t := ih (i + 1) (by omega)
    rw [rz_cp_s] at t
    unfold wY_models_9
    rw [e2, ei]
    refine br_f (nI_ge (by omega) (by omega)) ⟨vp_in_nI (by omega) (by decide), ?_⟩
    by_cases z : mo i = 0
    · rw [rz_b0 (fun y => y z), Nat.add_zero] at t
      exact br_t z (nm_r (nI_1 i) t)
    · rw [rz_b1 z] at t
      exact br_f z (nm_r (nI_1 _) (nm_r (nI_1 i) t))
end
theorem i_vc_models {k : Nat} {u : SX} {v : SY} (I : i_Rel k u v) (hk : k + 3 ≤ 1537) : wpX_models (fun r u' => wpY_models (fun r' v' => r' = r ∧ i_Rel (k + 3) u' v') v) u := by
  refine rz_el (P := fun u v => wpX_models (fun r u' => wpY_models (fun r' v' => r' = r ∧ i_Rel (k + 3) u' v') v) u) ?_ I
  intro n N s sa wc wt wf we ba ke wa ov oc bb mo fo xb yb H B hw hG
  have hN := rz_cfg_N H
  have B0 := B
  have em := rz_mb_eq (n := n) B
  obtain ⟨hs, hx, hy, ix, iy, hxy⟩ := B
  unfold wpX_models
  dsimp only
  refine rx_sat H hs hx hw hG (fun sa' wc' ke' wa' hw' G' => ?_)
  have z0 : vp_nar .byte 0 = 0 := rfl
  have hwt : rz_wt n 0 ≤ 63 := by
    unfold rz_wt
    have p : 2 ^ (n - 0 + 1) ≤ 2 ^ 6 := Nat.pow_le_pow_right (by decide) (by have := H.2.1; omega)
    omega
  refine nm_e (nm_e ⟨64, ?_⟩)
  rw [z0]
  refine rx_models_l (C := rz_cp (rz_MB n xb s) (2 ^ n)) H G' (fun ov' oc' => ?_) 63 0 1 0 (fun _ => 0) (fun _ => 0) (upd ov 0 0) (upd oc 0 0) ?_ ?_ (by omega) ?_
  · unfold wpY_models
    dsimp only
    refine ry_fm (-1) H.2.1 hN hs hy (fun mo' hm => ⟨2 ^ n + 1, ry_models_l H.2.1 ⟨?_, rz_in H B0 hw' (fun _ => G')⟩ (2 ^ n) 0 (by omega)⟩)
    rw [em]
    exact congrArg nI (rz_cp_congr (fun x hx => (hm x hx).trans (rz_MW_m1 hs)))
  · show 0 + (0 + rz_ct n (rz_MB n xb s) 0 0) = _
    rw [Nat.zero_add, Nat.zero_add]
    exact rz_cp_congr (fun a _ => ⟨fun z => z.1, fun z => ⟨z, fun i hi => by omega⟩⟩)
  · show 0 + rz_wt n 0 ≤ 63
    omega
  · intro i hi
    have e : i = 0 := by omega
    subst e
    rw [pk_us, pk_us]
    exact ⟨Nat.zero_le _, Nat.zero_le _, (by decide : 0 < 2 ^ 0), rfl, rfl⟩
end
section
/-! leastModel -/
def rz_dn : Nat → Int32
  | 0 => -1
  | j + 1 => nI j
theorem rz_dn_s (j : Nat) : nI j + (-1) = rz_dn j := by
  cases j with
  | zero => rfl
  | succ j => exact pk_m1 j
/-- kn, md: what is known so far; j: all from j on is known -/
def rz_LI (n : Nat) (M Q : Nat → Prop) (j : Nat) (kn md : Int32) : Prop :=
  (∀ i, i < 32 → n ≤ i → bt kn i = false) ∧ (∀ i, j ≤ i → i < n → bt kn i = true) ∧ (∀ i, i < 32 → bt md i = true → bt kn i = true) ∧
  (∃ a, a < 2 ^ n ∧ M a ∧ rz_agr n (bt kn) (bt md) a) ∧
  (∀ a, a < 2 ^ n → M a → Q a → rz_agr n (bt kn) (bt md) a ∨ (∀ b, b < 2 ^ n → rz_agr n (bt kn) (bt md) b → b < a)) ∧
  (∀ a, rz_agr n (bt kn) (bt md) a → Q a)
theorem rz_big {n a i : Nat} (ha : a < 2 ^ n) (hi : n ≤ i) : a.testBit i = false :=
  Nat.testBit_lt_two_pow (Nat.lt_of_lt_of_le ha (Nat.pow_le_pow_right (by decide) hi))
theorem rz_lt_bit {a b : Nat} (j : Nat) (hb : b.testBit j = false) (ha : a.testBit j = true) (h : ∀ i, j < i → b.testBit i = a.testBit i) : b < a := by
  have e : b / 2 ^ (j + 1) = a / 2 ^ (j + 1) := by
    apply Nat.eq_of_testBit_eq
    intro i
    rw [Nat.testBit_div_two_pow, Nat.testBit_div_two_pow]
    exact h _ (by omega)
  have da := Nat.div_add_mod a (2 ^ (j + 1))
  have db := Nat.div_add_mod b (2 ^ (j + 1))
  rw [Nat.testBit_eq_decide_div_mod_eq] at ha hb
  have ha1 : a / 2 ^ j % 2 = 1 := of_decide_eq_true ha
  have hb1 : b / 2 ^ j % 2 = 0 := by
    have t := of_decide_eq_false hb
    omega
  rw [Nat.mod_pow_succ, ha1, Nat.mul_one] at da
  rw [Nat.mod_pow_succ, hb1, e, Nat.mul_zero] at db
  have l := Nat.mod_lt b (Nat.two_pow_pos j)
  generalize 2 ^ (j + 1) * (a / 2 ^ (j + 1)) = z at da db
  omega
theorem rz_LI_end {n : Nat} {M Q : Nat → Prop} {kn md : Int32} (hn : n ≤ 5) (I : rz_LI n M Q 0 kn md) : ∃ a, a < 2 ^ n ∧ md = nI a ∧ M a ∧ Q a ∧ ∀ b, b < 2 ^ n → M b → Q b → a ≤ b := by
  obtain ⟨h1, h2, h3, ⟨a, ha, hm, hg⟩, h5, h6⟩ := I
  have e : md = nI a := by
    apply b_ext
    intro i hi
    rw [rz_bt_nI hi]
    by_cases z : i < n
    · exact (hg i z (h2 i (by omega) z)).symm
    · rw [rz_big ha (by omega)]
      cases hb : bt md i
      · rfl
      · have t := h3 i hi hb
        rw [h1 i hi (by omega)] at t
        exact absurd t (by decide)
  refine ⟨a, ha, e, hm, h6 a hg, fun b hb hmb hqb => ?_⟩
  rcases h5 b hb hmb hqb with z | z
  · have eb : b = a := by
      apply Nat.eq_of_testBit_eq
      intro i
      by_cases y : i < n
      · rw [z i y (h2 i (by omega) y), hg i y (h2 i (by omega) y)]
      · rw [rz_big ha (by omega), rz_big hb (by omega)]
    omega
  · have := z a ha hg
    omega
theorem rz_LI_skip {n j : Nat} {M Q : Nat → Prop} {kn md : Int32} (I : rz_LI n M Q (j + 1) kn md) (hb : bt kn j = true) : rz_LI n M Q j kn md := by
  obtain ⟨h1, h2, h3, h4, h5, h6⟩ := I
  refine ⟨h1, fun i hi hn => ?_, h3, h4, h5, h6⟩
  by_cases z : i = j
  · rw [z]; exact hb
  · exact h2 i (by omega) hn
theorem rz_LI_agr {n j : Nat} {kn md : Int32} (hn : n ≤ 5) (hj : j < n) (a : Nat) (ha : rz_agr n (bt (kn ||| ((1 : Int32) <<< (nI j &&& 31)))) (bt md) a) : rz_agr n (bt kn) (bt md) a := by
  intro i hi hk
  refine ha i hi ?_
  rw [b_or, hk]; rfl
theorem rz_LI_zero {n j : Nat} {M Q : Nat → Prop} {kn md : Int32} (hn : n ≤ 5) (hj : j < n) (I : rz_LI n M Q (j + 1) kn md) (hb : bt kn j = false)
    (hex : ∃ a, a < 2 ^ n ∧ M a ∧ rz_agr n (bt (kn ||| ((1 : Int32) <<< (nI j &&& 31)))) (bt md) a) : rz_LI n M Q j (kn ||| ((1 : Int32) <<< (nI j &&& 31))) md := by
  obtain ⟨h1, h2, h3, h4, h5, h6⟩ := I
  have kb : ∀ i, i < 32 → bt (kn ||| ((1 : Int32) <<< (nI j &&& 31))) i = (bt kn i || decide (i = j)) := fun i hi => by rw [b_or, rz_1shl (by omega) hi]
  have mj : bt md j = false := by
    cases hb' : bt md j
    · rfl
    · have t := h3 j (by omega) hb'
      rw [hb] at t
      exact absurd t (by decide)
  refine ⟨fun i hi hni => ?_, fun i hi hin => ?_, fun i hi hm => ?_, hex, fun a ha hma hqa => ?_, fun a hg => h6 a (rz_LI_agr hn hj a hg)⟩
  · rw [kb i hi, h1 i hi hni, decide_eq_false (by omega)]; rfl
  · rw [kb i (by omega)]
    by_cases z : i = j
    · rw [decide_eq_true z, Bool.or_true]
    · rw [h2 i (by omega) hin]; rfl
  · rw [kb i hi, h3 i hi hm]; rfl
  · rcases h5 a ha hma hqa with z | z
    · cases haj : a.testBit j
      · left
        intro i hi hk
        by_cases y : i = j
        · rw [y, haj, mj]
        · rw [kb i (by omega), decide_eq_false y, Bool.or_false] at hk
          exact z i hi hk
      · right
        intro b hb' hg
        refine rz_lt_bit j ?_ haj (fun i hi => ?_)
        · rw [hg j hj (by rw [kb j (by omega), decide_eq_true rfl, Bool.or_true]), mj]
        · by_cases y : i < n
          · have hk := h2 i (by omega) y
            rw [z i y hk, hg i y (by rw [kb i (by omega), hk]; rfl)]
          · rw [rz_big ha (by omega), rz_big hb' (by omega)]
    · exact Or.inr (fun b hb' hg => z b hb' (rz_LI_agr hn hj b hg))
theorem rz_LI_one {n j : Nat} {M Q : Nat → Prop} {kn md : Int32} (hn : n ≤ 5) (hj : j < n) (I : rz_LI n M Q (j + 1) kn md) (hb : bt kn j = false)
    (hno : ¬ ∃ a, a < 2 ^ n ∧ M a ∧ rz_agr n (bt (kn ||| ((1 : Int32) <<< (nI j &&& 31)))) (bt md) a) :
    rz_LI n M Q j (kn ||| ((1 : Int32) <<< (nI j &&& 31))) (md ||| ((1 : Int32) <<< (nI j &&& 31))) := by
  obtain ⟨h1, h2, h3, h4, h5, h6⟩ := I
  have kb : ∀ i, i < 32 → bt (kn ||| ((1 : Int32) <<< (nI j &&& 31))) i = (bt kn i || decide (i = j)) := fun i hi => by rw [b_or, rz_1shl (by omega) hi]
  have mb : ∀ i, i < 32 → bt (md ||| ((1 : Int32) <<< (nI j &&& 31))) i = (bt md i || decide (i = j)) := fun i hi => by rw [b_or, rz_1shl (by omega) hi]
  have mj : bt md j = false := by
    cases hb' : bt md j
    · rfl
    · have t := h3 j (by omega) hb'
      rw [hb] at t
      exact absurd t (by decide)
  have up : ∀ a, a < 2 ^ n → M a → rz_agr n (bt kn) (bt md) a → rz_agr n (bt (kn ||| ((1 : Int32) <<< (nI j &&& 31)))) (bt (md ||| ((1 : Int32) <<< (nI j &&& 31)))) a := by
    intro a ha hma hg
    have haj : a.testBit j = true := by
      cases haj : a.testBit j
      · exfalso
        apply hno
        refine ⟨a, ha, hma, fun i hi hk => ?_⟩
        by_cases y : i = j
        · rw [y, haj, mj]
        · rw [kb i (by omega), decide_eq_false y, Bool.or_false] at hk
          exact hg i hi hk
      · rfl
    intro i hi hk
    rw [mb i (by omega)]
    by_cases y : i = j
    · rw [y, haj, decide_eq_true rfl, Bool.or_true]
    · rw [kb i (by omega), decide_eq_false y, Bool.or_false] at hk
      rw [decide_eq_false y, Bool.or_false]
      exact hg i hi hk
  have down : ∀ a, rz_agr n (bt (kn ||| ((1 : Int32) <<< (nI j &&& 31)))) (bt (md ||| ((1 : Int32) <<< (nI j &&& 31)))) a → rz_agr n (bt kn) (bt md) a := by
    intro a hg i hi hk
    have y : i ≠ j := by
      intro y
      rw [y, hb] at hk
      exact absurd hk (by decide)
    have t := hg i hi (by rw [kb i (by omega), hk]; rfl)
    rw [mb i (by omega), decide_eq_false y, Bool.or_false] at t
    exact t
  refine ⟨fun i hi hni => ?_, fun i hi hin => ?_, fun i hi hm => ?_, ?_, fun a ha hma hqa => ?_, fun a hg => h6 a (down a hg)⟩
  · rw [kb i hi, h1 i hi hni, decide_eq_false (by omega)]; rfl
  · rw [kb i (by omega)]
    by_cases z : i = j
    · rw [decide_eq_true z, Bool.or_true]
    · rw [h2 i (by omega) hin]; rfl
  · rw [kb i hi]
    by_cases z : i = j
    · rw [decide_eq_true z, Bool.or_true]
    · rw [mb i hi, decide_eq_false z, Bool.or_false] at hm
      rw [h3 i hi hm]; rfl
  · obtain ⟨a, ha, hma, hg⟩ := h4
    exact ⟨a, ha, hma, up a ha hma hg⟩
  · rcases h5 a ha hma hqa with z | z
    · exact Or.inl (up a ha hma z)
    · exact Or.inr (fun b hb' hg => z b hb' (down b hg))
theorem rz_maskb {n i : Nat} (hi : i < 32) (p : Int32) : bt (p &&& nI (2 ^ n - 1)) i = (bt p i && decide (i < n)) := by
  rw [b_and, rz_bt_nI hi, Nat.testBit_two_pow_sub_one]
theorem rz_ymask {n a : Nat} (hn : n ≤ 5) (p q : Int32) : (((nI a ^^^ q) &&& (p &&& nI (2 ^ n - 1))) = 0) ↔ rz_agr n (bt (p &&& nI (2 ^ n - 1))) (bt (q &&& (p &&& nI (2 ^ n - 1)))) a := by
  rw [rz_zero]
  constructor
  · intro h i hi hk
    have t := h i (by omega)
    rw [b_and, hk, b_xor, rz_bt_nI (by omega)] at t
    rw [b_and, hk]
    revert t
    cases a.testBit i <;> cases bt q i <;> decide
  · intro h i hi
    rw [b_and, b_xor, rz_bt_nI hi]
    cases hk : bt (p &&& nI (2 ^ n - 1)) i
    · rw [Bool.and_false]
    · have hin : i < n := by
        rw [rz_maskb hi] at hk
        cases hp : bt p i
        · rw [hp, Bool.false_and] at hk
          exact absurd hk (by decide)
        · rw [hp, Bool.true_and] at hk
          exact of_decide_eq_true hk
      have t := h i hin hk
      rw [b_and, hk] at t
      rw [t]
      cases bt q i <;> rfl
section
variable {n N s : Nat} {av bs sa wc : Int32} {wt wf we ba ke wa ov oc bb mo fo : Nat → Int32}
theorem rx_lm_l {post : Int32 → SX → Prop} {M Q : Nat → Prop} (H : rz_Cfg n N wt wf we) (G : rz_Good n M (rz_K N ke))
    (h : ∀ a, a < 2 ^ n → M a ∧ Q a → (∀ b, b < a → ¬ (M b ∧ Q b)) → post (nI a) (nI n, nI N, av, bs, sa, wc, wt, wf, we, ba, ke, wa, ov, oc)) :
    ∀ j (kn md : Int32), j ≤ n → rz_LI n M Q j kn md → wX_leastModel_37 post (nI n) (nI N) av bs sa wc wt wf we ba ke wa ov oc (j + 1) kn md (rz_dn j) := by
  have hn := H.2.1
  intro j
  induction j with
  | zero =>
    intro kn md hj I
    obtain ⟨a, ha, e, hm, hq, hl⟩ := rz_LI_end hn I
    rw [e]
    refine br_t (by decide) (h a ha ⟨hm, hq⟩ (fun b hb hb' => ?_))
    have := hl b (by omega) hb'.1 hb'.2
    omega
  | succ j ih =>
    intro kn md hj I
    show wX_leastModel_37 post (nI n) (nI N) av bs sa wc wt wf we ba ke wa ov oc (j + 1 + 1) kn md (nI j)
    refine br_f (nI_pos (by omega)) ?_
    rw [rz_shb0 (by omega)]
    cases hb : bt kn j with
    | true => exact br_f (by decide) (nm_r (rz_dn_s j) (ih kn md (by omega) (rz_LI_skip I hb)))
    | false =>
      refine br_t rfl (nm_e ?_)
      have key := rz_good_br G (bt (kn ||| ((1 : Int32) <<< (nI j &&& 31)))) (bt md)
      refine rx_breaks H _ _ (fun hs => ?_) (fun hs => ?_)
      · exact br_f (by decide) (nm_e (nm_r (rz_dn_s j) (ih _ _ (by omega) (rz_LI_one hn (by omega) I hb (key.mp hs)))))
      · exact br_t rfl (nm_r (rz_dn_s j) (ih _ _ (by omega) (rz_LI_zero hn (by omega) I hb (Classical.byContradiction (fun z => hs (key.mpr z))))))
theorem ry_lm_l {post : Int32 → SY → Prop} {M Q : Nat → Prop} {q mk : Int32} (hn : n ≤ 5) (hm : ∀ x, x < 2 ^ n → (mo x ≠ 0 ↔ M x)) (hq : ∀ a, (((nI a ^^^ q) &&& mk) = 0) ↔ Q a)
    (hf : ∀ a, a < 2 ^ n → M a ∧ Q a → (∀ b, b < a → ¬ (M b ∧ Q b)) → post (nI a) (nI n, nI N, nI s, bb, mo, fo)) (hno : (∀ a, a < 2 ^ n → ¬ (M a ∧ Q a)) → post (-2) (nI n, nI N, nI s, bb, mo, fo)) :
    ∀ m i, i + m = 2 ^ n → (∀ b, b < i → ¬ (M b ∧ Q b)) → wY_leastModel_19 post q mk (nI n) (nI N) (nI s) bb mo fo (m + 1) (nI i) := by
  have h2 := rz_2n hn
  have e2 := rz_1n n (by omega)
  intro m
  induction m with
  | zero =>
    intro i hi hp
    unfold wY_leastModel_19
    rw [e2]
    exact br_t (nI_le (by omega) (by omega)) (hno (fun a ha => hp a (by omega)))
  | succ m ih =>
    intro i hi hp
    have ei : (nI i).toNatClampNeg = i := nI_clamp (by omega)
    have nx : ¬ (M i ∧ Q i) → ∀ y, y = nI i + 1 → wY_leastModel_19 post q mk (nI n) (nI N) (nI s) bb mo fo (m + 1) y :=
      fun h y ey => by rw [ey, nI_1]; exact ih (i + 1) (by omega) (lt_s hp h)
    unfold wY_leastModel_19
    rw [e2, ei]
    refine br_f (nI_ge (by omega) (by omega)) ⟨vp_in_nI (by omega) (by decide), ?_⟩
    by_cases z : mo i = 0
    · exact br_t z (nx (fun y => (hm i (by omega)).mpr y.1 z))
    · refine br_f z ?_
      by_cases y : ((nI i ^^^ q) &&& mk) = 0
      · exact br_t y (hf i (by omega) ⟨(hm i (by omega)).mp z, (hq i).mp y⟩ hp)
      · exact br_f y (nx (fun w => y ((hq i).mpr w.2)))
end
theorem i_vc_leastModel {k : Nat} {u : SX} {v : SY} (I : i_Rel k u v) (hk : k + 3 ≤ 1537) (v1 : Int32) (v2 : Int32) : wpX_leastModel (fun r u' => wpY_leastModel (fun r' v' => r' = r ∧ i_Rel (k + 3) u' v') v v1 v2) u v1 v2 := by
  refine rz_el (P := fun u v => wpX_leastModel (fun r u' => wpY_leastModel (fun r' v' => r' = r ∧ i_Rel (k + 3) u' v') v v1 v2) u v1 v2) ?_ I
  intro n N s sa wc wt wf we ba ke wa ov oc bb mo fo xb yb H B hw hG
  have hN := rz_cfg_N H
  have hn := H.2.1
  have hn2 := H.1
  have B0 := B
  have em := rz_mb_eq (n := n) B
  obtain ⟨hs, hx, hy, ix, iy, hxy⟩ := B
  unfold wpX_leastModel
  dsimp only
  refine rx_sat H hs hx hw hG (fun sa' wc' ke' wa' hw' G' => ?_)
  rw [em] at G'
  have R : ∀ (mo' : Nat → Int32), i_Rel (k + 3) (nI n, nI N, nI (2 ^ n - 1), nI s, sa', wc', wt, wf, we, ba, ke', wa', ov, oc) (nI n, nI N, nI s, bb, mo', fo) := fun mo' => rz_in H B0 hw' (fun _ => by rw [em]; exact G')
  have Y : ∀ (r : Int32), (∀ a, a < 2 ^ n → rz_MB n yb s a ∧ rz_agr n (bt (v1 &&& nI (2 ^ n - 1))) (bt (v2 &&& (v1 &&& nI (2 ^ n - 1)))) a → (∀ b, b < a → ¬ (rz_MB n yb s b ∧ rz_agr n (bt (v1 &&& nI (2 ^ n - 1))) (bt (v2 &&& (v1 &&& nI (2 ^ n - 1)))) b)) → r = nI a) →
      ((∀ a, a < 2 ^ n → ¬ (rz_MB n yb s a ∧ rz_agr n (bt (v1 &&& nI (2 ^ n - 1))) (bt (v2 &&& (v1 &&& nI (2 ^ n - 1)))) a)) → r = -2) →
      wpY_leastModel (fun r' v' => r' = r ∧ i_Rel (k + 3) (nI n, nI N, nI (2 ^ n - 1), nI s, sa', wc', wt, wf, we, ba, ke', wa', ov, oc) v') (nI n, nI N, nI s, bb, mo, fo) v1 v2 := by
    intro r h1 h0
    unfold wpY_leastModel
    dsimp only
    refine ry_fm (-1) hn hN hs hy (fun mo' hm => nm_r (e' := v1 &&& nI (2 ^ n - 1)) ?_ ⟨2 ^ n + 1, ?_⟩)
    · rw [rz_1n n (by omega), show nI (2 ^ n) - 1 = nI (2 ^ n - 1) from pk_sub (Nat.two_pow_pos _)]
    · exact ry_lm_l hn (fun x hx => (hm x hx).trans (rz_MW_m1 hs)) (fun a => rz_ymask hn v1 v2) (fun a ha hq hl => ⟨(h1 a ha hq hl).symm, R mo'⟩) (fun hno => ⟨(h0 hno).symm, R mo'⟩) (2 ^ n) 0 (by omega) (fun b hb => by omega)
  refine nm_e (nm_e ?_)
  have key := rz_good_br G' (bt (v1 &&& nI (2 ^ n - 1))) (bt (v2 &&& (v1 &&& nI (2 ^ n - 1))))
  refine rx_breaks H _ _ (fun hb => ?_) (fun hb => ?_)
  · exact br_f (by decide) (Y (-2) (fun a ha hq _ => absurd ⟨a, ha, hq.1, hq.2⟩ (key.mp hb)) (fun _ => rfl))
  · have en : nI n - 1 = rz_dn n := by
      obtain ⟨t, rfl⟩ : ∃ t, n = t + 1 := ⟨n - 1, by omega⟩
      exact nI_pred t
    refine br_t rfl (nm_r en ⟨n + 1, ?_⟩)
    refine rx_lm_l (Q := fun a => rz_agr n (bt (v1 &&& nI (2 ^ n - 1))) (bt (v2 &&& (v1 &&& nI (2 ^ n - 1)))) a) H G' (fun a ha hq hl => Y (nI a) (fun b hb' hq' hl' => ?_) (fun hno => absurd hq (hno a ha))) n _ _ (by omega) ⟨fun i hi hni => ?_, fun i hi hin => by omega, fun i hi hm => ?_, Classical.byContradiction (fun z => hb (key.mpr z)), fun a _ _ hq => Or.inl hq, fun a hg => hg⟩
    · rcases Nat.lt_trichotomy a b with z | z | z
      · exact absurd hq (hl' a z)
      · rw [z]
      · exact absurd hq' (hl b z)
    · rw [rz_maskb hi, decide_eq_false (by omega), Bool.and_false]
    · rw [b_and] at hm
      cases hz : bt (v1 &&& nI (2 ^ n - 1)) i
      · rw [hz, Bool.and_false] at hm
        exact absurd hm (by decide)
      · rfl
end
section
/-! redundant -/
/-- the models of the first m clauses but the one at place i -/
def rz_MX (n : Nat) (xb : Nat → Nat) (i m a : Nat) : Prop := ∀ j, j < m → j ≠ i → rz_sat n a (rz_dg (xb j))
section
variable {n N s : Nat} {av bs sa wc : Int32} {wt wf we ba ke wa ov oc bb mo fo : Nat → Int32}
theorem rx_red_i {post : Int32 → SX → Prop} {J : Int32 → Int32 → Int32 → Int32 → Int32 → Int32 → Int32 → Int32 → (Nat → Int32) → (Nat → Int32) → (Nat → Int32) → (Nat → Int32) → (Nat → Int32) → (Nat → Int32) → (Nat → Int32) → (Nat → Int32) → Prop}
    {xb : Nat → Nat} {i : Nat} {x1 : Int32} (H : rz_Cfg n N wt wf we) (hs : s ≤ 12) (hb : ∀ j, j < s → xb j < N ∧ ba j = nI (xb j)) (hi : i < s)
    (h1 : ∀ (wc : Int32) (ke wa : Nat → Int32), (∀ x, x < N → wa x = 0) → rz_imp n (rz_MX n xb i s) (rz_dg (xb i)) → J (x1 + 1) (nI (i + 1)) (nI n) (nI N) av (nI s) sa wc wt wf we ba ke wa ov oc)
    (h0 : ∀ (wc : Int32) (ke wa : Nat → Int32), (∀ x, x < N → wa x = 0) → ¬ rz_imp n (rz_MX n xb i s) (rz_dg (xb i)) → J x1 (nI (i + 1)) (nI n) (nI N) av (nI s) sa wc wt wf we ba ke wa ov oc) :
    ∀ m p (wc : Int32) (ke wa : Nat → Int32), p + m = s → (∀ x, x < N → wa x = 0) → rz_Good n (rz_MX n xb i p) (rz_K N ke) → wX_redundant_18 post J x1 (nI i) (m + 1) (nI p) (nI n) (nI N) av (nI s) sa wc wt wf we ba ke wa ov oc := by
  have hN := rz_cfg_N H
  intro m
  induction m with
  | zero =>
    intro p wc ke wa hp hw G
    have e : p = s := by omega
    subst e
    have ei : (nI i).toNatClampNeg = i := nI_clamp (by omega)
    obtain ⟨hb1, hb2⟩ := hb i hi
    have key := rz_good_imp G (f := rz_dg (xb i)) (fun v _ => rz_dg_lt _ v)
    refine br_t (nI_le (by omega) (by omega)) ⟨vp_in_nI (by omega) (by decide), ?_⟩
    rw [ei, hb2]
    refine rx_lkw H hb1 (fun d hd sd _ => br_f (nI_pos (by have := hd.1; omega)) (nm_e (nm_r (nI_1 i) (h1 wc ke wa hw (key.mpr ⟨d, hd, sd⟩))))) (fun hno => br_t (by decide) (nm_r (nI_1 i) (h0 wc ke wa hw (fun z => hno (key.mp z)))))
  | succ m ih =>
    intro p wc ke wa hp hw G
    have ep : (nI p).toNatClampNeg = p := nI_clamp (by omega)
    obtain ⟨hb1, hb2⟩ := hb p (by omega)
    refine br_f (nI_ge (by omega) (by omega)) (pk_eq p i (fun e => ?_) (fun e => ⟨vp_in_nI (by omega) (by decide), ?_⟩))
    · refine nm_r (nI_1 p) (ih (p + 1) wc ke wa (by omega) hw (rz_inv_M G (fun a _ => ?_)))
      exact ⟨fun z => lt_s z (fun y => absurd e y), fun z j hj => z j (by omega)⟩
    · rw [ep, hb2]
      refine rx_take H hb1 G hw (fun ke' wa' hw' G' => nm_r (nI_1 p) (ih (p + 1) 0 ke' wa' (by omega) hw' (rz_inv_M G' (fun a _ => ?_))))
      exact ⟨fun z => lt_s z.1 (fun _ => z.2), fun z => ⟨fun j hj => z j (by omega), z p (by omega) e⟩⟩
theorem rx_red_l {post : Int32 → SX → Prop} {xb : Nat → Nat} (H : rz_Cfg n N wt wf we) (hs : s ≤ 12) (hb : ∀ j, j < s → xb j < N ∧ ba j = nI (xb j))
    (h : ∀ (wc : Int32) (ke wa : Nat → Int32), (∀ x, x < N → wa x = 0) → post (nI (rz_cp (fun i => rz_imp n (rz_MX n xb i s) (rz_dg (xb i))) s)) (nI n, nI N, av, nI s, 0, wc, wt, wf, we, ba, ke, wa, ov, oc)) :
    ∀ m i (wc : Int32) (ke wa : Nat → Int32), i + m = s → (∀ x, x < N → wa x = 0) → wX_redundant_4 post (m + 1) (nI (rz_cp (fun i => rz_imp n (rz_MX n xb i s) (rz_dg (xb i))) i)) (nI i) (nI n) (nI N) av (nI s) sa wc wt wf we ba ke wa ov oc := by
  have hN := rz_cfg_N H
  intro m
  induction m with
  | zero =>
    intro i wc ke wa hi hw
    have e : i = s := by omega
    subst e
    exact br_t (nI_le (by omega) (by omega)) (h wc ke wa hw)
  | succ m ih =>
    intro i wc ke wa hi hw
    have t := fun wc ke wa hw => ih (i + 1) wc ke wa (by omega) hw
    rw [rz_cp_s] at t
    refine br_f (nI_ge (by omega) (by omega)) (rx_clear hN (fun ke' hk => ⟨s + 1, ?_⟩))
    refine rx_red_i H hs hb (by omega) (fun wc ke wa hw hi' => ?_) (fun wc ke wa hw hi' => ?_) s 0 wc ke' wa (by omega) hw (rz_inv_M (rz_good_empty hk) (fun a _ => ⟨fun _ j hj => by omega, fun _ => trivial⟩))
    · rw [rz_b1 hi'] at t
      rw [nI_1]
      exact t wc ke wa hw
    · rw [rz_b0 hi', Nat.add_zero] at t
      exact t wc ke wa hw
theorem ry_red_l {post : Int32 → SY → Prop} {yb : Nat → Nat} (hn : n ≤ 5) (hN : N ≤ 243) (hs : s ≤ 12) (hb : ∀ j, j < s → yb j < N ∧ bb j = nI (yb j))
    (h : ∀ mo : Nat → Int32, post (nI (rz_cp (fun i => rz_imp n (rz_MW n yb s (nI i)) (rz_dg (yb i))) s)) (nI n, nI N, nI s, bb, mo, fo)) :
    ∀ m i (mo : Nat → Int32), i + m = s → wY_redundant_4 post (m + 1) (nI (rz_cp (fun i => rz_imp n (rz_MW n yb s (nI i)) (rz_dg (yb i))) i)) (nI i) (nI n) (nI N) (nI s) bb mo fo := by
  intro m
  induction m with
  | zero =>
    intro i mo hi
    have e : i = s := by omega
    subst e
    exact br_t (nI_le (by omega) (by omega)) (h mo)
  | succ m ih =>
    intro i mo hi
    have t := fun mo => ih (i + 1) mo (by omega)
    rw [rz_cp_s] at t
    have ei : (nI i).toNatClampNeg = i := nI_clamp (by omega)
    obtain ⟨hb1, hb2⟩ := hb i (by omega)
    refine br_f (nI_ge (by omega) (by omega)) (ry_fm (nI i) hn hN hs hb (fun mo' hm => ⟨vp_in_nI (by omega) (by decide), ?_⟩))
    rw [ei, hb2]
    refine ry_fn hn (by omega) hm (fun hi' => ?_) (fun hi' => ?_)
    · rw [rz_b1 hi'] at t
      exact br_f (by decide) (nm_r (nI_1 _) (nm_r (nI_1 i) (t mo')))
    · rw [rz_b0 hi', Nat.add_zero] at t
      exact br_t rfl (nm_r (nI_1 i) (t mo'))
end
/-- the models of the base without the clause c -/
def rz_MC (n : Nat) (S : Nat → Prop) (c a : Nat) : Prop := ∀ d, S d → d ≠ c → rz_sat n a (rz_dg d)
theorem rz_red_eq {n N s : Nat} {xb yb : Nat → Nat} {ba bb : Nat → Int32} (B : rz_Base N s xb yb ba bb) :
    rz_cp (fun i => rz_imp n (rz_MX n xb i s) (rz_dg (xb i))) s = rz_cp (fun i => rz_imp n (rz_MW n yb s (nI i)) (rz_dg (yb i))) s := by
  obtain ⟨hs, hx, hy, ix, iy, hxy⟩ := B
  have e1 : rz_cp (fun i => rz_imp n (rz_MX n xb i s) (rz_dg (xb i))) s = rz_cp (fun i => (fun c => rz_imp n (rz_MC n (fun d => ∃ j, j < s ∧ xb j = d) c) (rz_dg c)) (xb i)) s := by
    apply rz_cp_congr
    intro i hi
    have e : rz_MX n xb i s = rz_MC n (fun d => ∃ j, j < s ∧ xb j = d) (xb i) := by
      funext a
      apply propext
      constructor
      · rintro h d ⟨j, hj, rfl⟩ hne
        exact h j hj (fun z => hne (by rw [z]))
      · intro h j hj hne
        exact h (xb j) ⟨j, hj, rfl⟩ (fun z => hne (ix j i hj hi z))
    dsimp only
    rw [e]
  have e2 : rz_cp (fun i => rz_imp n (rz_MW n yb s (nI i)) (rz_dg (yb i))) s = rz_cp (fun i => (fun c => rz_imp n (rz_MC n (fun d => ∃ j, j < s ∧ xb j = d) c) (rz_dg c)) (yb i)) s := by
    apply rz_cp_congr
    intro i hi
    have e : rz_MW n yb s (nI i) = rz_MC n (fun d => ∃ j, j < s ∧ xb j = d) (yb i) := by
      funext a
      apply propext
      constructor
      · rintro h d hd hne
        obtain ⟨j, hj, rfl⟩ := (hxy d).mp hd
        refine h j hj (fun z => hne ?_)
        rw [(nI_eq (by omega) (by omega)).mp z]
      · intro h j hj hne
        exact h (yb j) ((hxy _).mpr ⟨j, hj, rfl⟩) (fun z => hne (by rw [iy j i hj hi z]))
    dsimp only
    rw [e]
  rw [e1, e2, rz_cp_img (q := fun c => rz_imp n (rz_MC n (fun d => ∃ j, j < s ∧ xb j = d) c) (rz_dg c)) s (fun i hi => (hx i hi).1) ix, rz_cp_img (q := fun c => rz_imp n (rz_MC n (fun d => ∃ j, j < s ∧ xb j = d) c) (rz_dg c)) s (fun i hi => (hy i hi).1) iy]
  apply rz_cp_congr
  intro c _
  rw [hxy c]
theorem i_vc_redundant {k : Nat} {u : SX} {v : SY} (I : i_Rel k u v) (hk : k + 3 ≤ 1537) : wpX_redundant (fun r u' => wpY_redundant (fun r' v' => r' = r ∧ i_Rel (k + 3) u' v') v) u := by
  refine rz_el (P := fun u v => wpX_redundant (fun r u' => wpY_redundant (fun r' v' => r' = r ∧ i_Rel (k + 3) u' v') v) u) ?_ I
  intro n N s sa wc wt wf we ba ke wa ov oc bb mo fo xb yb H B hw hG
  have hN := rz_cfg_N H
  have B0 := B
  have er := rz_red_eq (n := n) B
  obtain ⟨hs, hx, hy, ix, iy, hxy⟩ := B
  unfold wpX_redundant
  dsimp only
  refine ⟨s + 1, rx_red_l H hs hx (fun wc' ke' wa' hw' => ?_) s 0 wc ke wa (by omega) hw⟩
  unfold wpY_redundant
  dsimp only
  refine ⟨s + 1, ry_red_l H.2.1 hN hs hy (fun mo' => ⟨?_, rz_in H B0 hw' (fun z => absurd rfl z)⟩) s 0 mo (by omega)⟩
  rw [er]
end
