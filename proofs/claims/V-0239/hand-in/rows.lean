section
theorem pk_us {f : Nat → Int32} {k : Nat} {x : Int32} : upd f k x k = x := if_pos rfl
theorem pk_un {f : Nat → Int32} {k j : Nat} {x : Int32} (h : j ≠ k) : upd f k x j = f j := if_neg h
theorem pk_sub {a b : Nat} (h : b ≤ a) : nI a - nI b = nI (a - b) := by
  obtain ⟨c, rfl⟩ : ∃ c, a = c + b := ⟨a - b, by omega⟩
  rw [← nI_add, Int32.add_sub_cancel, Nat.add_sub_cancel]
theorem pk_m1 (n : Nat) : nI (n + 1) + (-1) = nI n := by
  rw [← nI_1, Int32.add_assoc, show (1 : Int32) + (-1) = 0 from rfl, Int32.add_zero]
theorem pk_mul (a b : Nat) : nI a * nI b = nI (a * b) := (Int32.ofNat_mul a b).symm
theorem pk_div {a d : Nat} (ha : a < 2 ^ 31) (h0 : 0 < d) (hd : d < 2 ^ 31) : nI a / nI d = nI (a / d) := by
  apply Int32.toInt_inj.mp
  rw [lg_idiv_nonneg (by rw [nI_toInt ha]; omega) (by rw [nI_toInt hd]; omega), nI_toInt ha, nI_toInt hd, nI_toInt (Nat.lt_of_le_of_lt (Nat.div_le_self a d) ha)]
  first | rfl | exact (Int.natCast_ediv _ _).symm
theorem pk_rem {a d : Nat} (ha : a < 2 ^ 31) (h0 : 0 < d) (hd : d < 2 ^ 31) : nI a - nI a / nI d * nI d = nI (a % d) := by
  rw [pk_div ha h0 hd, pk_mul, pk_sub (Nat.div_mul_le_self a d)]
  exact congrArg nI (by have := Nat.div_add_mod' a d; omega)
theorem pk_sub_toInt {a b : Nat} (ha : a < 2 ^ 30) (hb : b < 2 ^ 30) : (nI a - nI b).toInt = (a : Int) - b := by
  rw [Int32.toInt_sub, nI_toInt (by omega), nI_toInt (by omega)]
  exact Int.bmod_eq_of_le (by omega) (by omega)
theorem pk_sneg {a b : Nat} (hb : b < 2 ^ 30) (h : a < b) : nI a - nI b < 0 := by
  rw [Int32.lt_iff_toInt_lt, pk_sub_toInt (by omega) hb, show (0 : Int32).toInt = 0 from by decide]
  omega
theorem pk_ix (x : Int32) {n : Nat} (hn : n < 2 ^ 31) : x < 0 ∨ nI n ≤ x ∨ ∃ j : Nat, j < n ∧ x = nI j := by
  by_cases h : x < 0
  · exact Or.inl h
  · obtain ⟨j, hj, rfl⟩ := nI_of h
    by_cases h2 : j < n
    · exact Or.inr (Or.inr ⟨j, h2, rfl⟩)
    · exact Or.inr (Or.inl (nI_le (by omega) hj))
theorem pk_le {x y : Int32} {A B : Prop} (a b : Nat) (f : a ≤ b → A) (g : b < a → B) (hx : x = nI a := by rfl) (hy : y = nI b := by rfl) (ha : a < 2 ^ 31 := by omega) (hb : b < 2 ^ 31 := by omega) : (x ≤ y → A) ∧ (¬ x ≤ y → B) := by
  subst hx hy
  rw [nI_leI ha hb]
  exact ⟨f, fun z => g (by omega)⟩
theorem pk_lt {x y : Int32} {A B : Prop} (a b : Nat) (f : a < b → A) (g : b ≤ a → B) (hx : x = nI a := by rfl) (hy : y = nI b := by rfl) (ha : a < 2 ^ 31 := by omega) (hb : b < 2 ^ 31 := by omega) : (x < y → A) ∧ (¬ x < y → B) := by
  subst hx hy
  rw [nI_ltI ha hb]
  exact ⟨f, fun z => g (by omega)⟩
theorem pk_eq {x y : Int32} {A B : Prop} (a b : Nat) (f : a = b → A) (g : a ≠ b → B) (hx : x = nI a := by rfl) (hy : y = nI b := by rfl) (ha : a < 2 ^ 31 := by omega) (hb : b < 2 ^ 31 := by omega) : (x = y → A) ∧ (¬ x = y → B) := by
  subst hx hy
  rw [nI_eq ha hb]
  exact ⟨f, g⟩
theorem pk_in {x : Int32} (n N : Nat) (h : n < N) (hx : x = nI n := by rfl) (hN : N < 2 ^ 31 := by omega) : vp_in x N := by
  subst hx
  exact vp_in_nI h hN
theorem pk_cl {x : Int32} (n : Nat) (hx : x = nI n := by rfl) (h : n < 2 ^ 31 := by omega) : x.toNatClampNeg = n := by
  subst hx
  exact nI_clamp h
theorem pk_tn {n : Nat} (h : n < 2 ^ 32) : (nI n).toBitVec.toNat = n := Nat.mod_eq_of_lt h
theorem pk_and (x : Int32) {m : Int32} (k : Nat) (hm : m.toBitVec.toNat = 2 ^ k - 1) : x &&& m = nI (x.toBitVec.toNat % 2 ^ k) := by
  apply Int32.toBitVec_inj.mp
  apply BitVec.eq_of_toNat_eq
  rw [Int32.toBitVec_and, BitVec.toNat_and, hm, Nat.and_two_pow_sub_one_eq_mod]
  show _ = (BitVec.ofNat 32 _).toNat
  rw [BitVec.toNat_ofNat]
  exact (Nat.mod_eq_of_lt (Nat.lt_of_le_of_lt (Nat.mod_le _ _) x.toBitVec.isLt)).symm
theorem pk_andN {n : Nat} (h : n < 2 ^ 32) {m : Int32} (k : Nat) (hm : m.toBitVec.toNat = 2 ^ k - 1) : nI n &&& m = nI (n % 2 ^ k) := by
  rw [pk_and _ k hm, pk_tn h]
theorem pk_andE (x : Int32) {m : Int32} (k : Nat) (hm : m.toBitVec.toNat = 2 ^ k - 1) : ∃ j : Nat, j < 2 ^ k ∧ x &&& m = nI j := ⟨_, Nat.mod_lt _ (Nat.two_pow_pos k), pk_and x k hm⟩
theorem pk_andIn (x : Int32) {m : Int32} (k : Nat) (hm : m.toBitVec.toNat = 2 ^ k - 1) (hk : k ≤ 30) : vp_in (x &&& m) (2 ^ k) := by
  obtain ⟨j, hj, e⟩ := pk_andE x k hm
  rw [e]
  exact vp_in_nI hj (Nat.lt_of_le_of_lt (Nat.pow_le_pow_right (by decide) hk) (by decide))
theorem pk_shl (a s : Int32) (k : Nat) (hs : (s.toBitVec.smod 32).toNat = k) : (a <<< s).toBitVec.toNat = a.toBitVec.toNat * 2 ^ k % 2 ^ 32 := by
  show (a.toBitVec <<< (s.toBitVec.smod 32).toNat).toNat = _
  rw [hs, BitVec.toNat_shiftLeft, Nat.shiftLeft_eq]
theorem pk_shlN {n : Nat} (s : Int32) (k : Nat) (hs : (s.toBitVec.smod 32).toNat = k) (h : n * 2 ^ k < 2 ^ 32) : nI n <<< s = nI (n * 2 ^ k) := by
  apply Int32.toBitVec_inj.mp
  apply BitVec.eq_of_toNat_eq
  have hn : n < 2 ^ 32 := Nat.lt_of_le_of_lt (Nat.le_mul_of_pos_right n (Nat.two_pow_pos k)) h
  rw [pk_shl _ _ k hs, pk_tn hn, pk_tn h, Nat.mod_eq_of_lt h]
theorem pk_shr (a s : Int32) (k : Nat) (hs : (s.toBitVec.smod 32).toNat = k) : (a >>> s).toInt = a.toInt >>> k := by
  show (a.toBitVec.sshiftRight (s.toBitVec.smod 32).toNat).toInt = _
  rw [hs, BitVec.toInt_sshiftRight]
  rfl
theorem pk_shrN {n : Nat} (h : n < 2 ^ 31) (s : Int32) (k : Nat) (hs : (s.toBitVec.smod 32).toNat = k) : nI n >>> s = nI (n / 2 ^ k) := by
  apply Int32.toInt_inj.mp
  have h2 : n / 2 ^ k ≤ n := Nat.div_le_self _ _
  rw [pk_shr _ _ k hs, nI_toInt h, nI_toInt (by omega), Int.shiftRight_eq_div_pow]
  rfl
theorem pk_least (P : Nat → Prop) (h : ∃ k, P k) : ∃ k, P k ∧ ∀ j, j < k → ¬ P j := by
  obtain ⟨k, hk⟩ := h
  induction k using Nat.strongRecOn with
  | ind k ih =>
    by_cases e : ∃ j, j < k ∧ P j
    · obtain ⟨j, hj, pj⟩ := e
      exact ih j hj pj
    · exact ⟨k, hk, fun j hj pj => e ⟨j, hj, pj⟩⟩
def bt (x : Int32) (i : Nat) : Bool := x.toBitVec.getLsbD i
theorem b_ext {x y : Int32} (h : ∀ i, i < 32 → bt x i = bt y i) : x = y := Int32.toBitVec_inj.mp (BitVec.eq_of_getLsbD_eq (fun i hi => h i hi))
theorem b_or (x y : Int32) (i : Nat) : bt (x ||| y) i = (bt x i || bt y i) := by unfold bt; rw [Int32.toBitVec_or, BitVec.getLsbD_or]
theorem b_and (x y : Int32) (i : Nat) : bt (x &&& y) i = (bt x i && bt y i) := by unfold bt; rw [Int32.toBitVec_and, BitVec.getLsbD_and]
theorem b_xor (x y : Int32) (i : Nat) : bt (x ^^^ y) i = (bt x i ^^ bt y i) := by unfold bt; rw [Int32.toBitVec_xor, BitVec.getLsbD_xor]
theorem b_big {x : Int32} {i : Nat} (h : 32 ≤ i) : bt x i = false := BitVec.getLsbD_of_ge _ _ h
theorem b_m1 : ∀ i, i < 32 → bt (-1) i = true := by decide +kernel
theorem b_0 (i : Nat) : bt 0 i = false := BitVec.getLsbD_zero
theorem s_l : ∀ n, n < 32 → ((nI n &&& 31).toBitVec.smod 32).toNat = n := by decide +kernel
theorem b_shl (n : Nat) (hn : n < 32) (x : Int32) {i : Nat} (hi : i < 32) : bt (x <<< (nI n &&& 31)) i = (decide (n ≤ i) && bt x (i - n)) := by
  unfold bt
  rw [Int32.toBitVec_shiftLeft]
  show (x.toBitVec <<< ((nI n &&& 31).toBitVec.smod 32).toNat).getLsbD i = _
  rw [s_l n hn, BitVec.getLsbD_shiftLeft]
  rcases Nat.lt_or_ge i n with h | h
  · simp [h, Nat.not_le.mpr h]
  · simp [hi, h, Nat.not_lt.mpr h]
end
section
/-! own base: indices, counts by a predicate, selection, sequences of writes, lists -/
theorem zi_4 (n : Nat) : nI n * 4 = nI (n * 4) := pk_mul n 4
theorem zi_8 (n : Nat) : nI n * 8 = nI (n * 8) := pk_mul n 8
theorem zi_9 (n : Nat) : nI n * 9 = nI (n * 9) := pk_mul n 9
theorem zi_16 (n : Nat) : nI n * 16 = nI (n * 16) := pk_mul n 16
theorem zi_32 (n : Nat) : nI n * 32 = nI (n * 32) := pk_mul n 32
theorem zi_32l (n : Nat) : 32 * nI n = nI (32 * n) := pk_mul 32 n
theorem zi_2l (n : Nat) : 2 * nI n = nI (2 * n) := pk_mul 2 n
theorem zi_a32 (n : Nat) : nI n + 32 = nI (n + 32) := nI_add n 32
theorem zi_a0 (n : Nat) : nI n + 0 = nI n := nI_add n 0
theorem zi_a2 (n : Nat) : nI n + 2 = nI (n + 2) := nI_add n 2
theorem zi_a3 (n : Nat) : nI n + 3 = nI (n + 3) := nI_add n 3
theorem zi_a4 (n : Nat) : nI n + 4 = nI (n + 4) := nI_add n 4
theorem zi_a5 (n : Nat) : nI n + 5 = nI (n + 5) := nI_add n 5
theorem zi_a6 (n : Nat) : nI n + 6 = nI (n + 6) := nI_add n 6
theorem zi_a7 (n : Nat) : nI n + 7 = nI (n + 7) := nI_add n 7
theorem zi_a8 (n : Nat) : nI n + 8 = nI (n + 8) := nI_add n 8
theorem zi_shr {n : Nat} (h : n < 2 ^ 31) : nI n >>> ((5 : Int32) &&& 31) = nI (n / 32) := pk_shrN h _ 5 (by decide)
theorem zi_and {n : Nat} (h : n < 2 ^ 31) : nI n &&& 31 = nI (n % 32) := pk_andN (by omega) 5 (by decide)
theorem zi_div {n : Nat} (h : n < 2 ^ 31) : nI n / 32 = nI (n / 32) := pk_div h (by decide) (by decide : 32 < 2 ^ 31)
theorem zi_n1 {n : Nat} (h : n < 2 ^ 31) : ¬ nI n = -1 := by
  intro e
  have h0 := nI_toInt h
  rw [e] at h0
  have : (-1 : Int32).toInt = -1 := by decide
  omega
theorem zi_n16 {n : Nat} (h : n < 2 ^ 31) : ¬ nI n = -16 := by
  intro e
  have h0 := nI_toInt h
  rw [e] at h0
  have : (-16 : Int32).toInt = -16 := by decide
  omega
theorem zi_inj {a b : Nat} (ha : a < 2 ^ 31) (hb : b < 2 ^ 31) (h : nI a = nI b) : a = b := (nI_eq ha hb).mp h
theorem zi_32ne : ¬ (32 : Int32) = 0 := by decide
theorem zu_eq {f : Nat → Int32} {k j : Nat} {x : Int32} : upd f k x j = if j = k then x else f j := rfl

/-! selection by a predicate -/
noncomputable def zsl (Q : Nat → Prop) (g f : Nat → Int32) : Nat → Int32 := fun a => @ite _ (Q a) (Classical.propDecidable _) (g a) (f a)
theorem zsl_t {Q : Nat → Prop} {g f : Nat → Int32} {a : Nat} (h : Q a) : zsl Q g f a = g a := by unfold zsl; rw [if_pos h]
theorem zsl_f {Q : Nat → Prop} {g f : Nat → Int32} {a : Nat} (h : ¬ Q a) : zsl Q g f a = f a := by unfold zsl; rw [if_neg h]
theorem zsl_c {Q Q' : Nat → Prop} {g f : Nat → Int32} (h : ∀ a, Q a ↔ Q' a) : zsl Q g f = zsl Q' g f := by
  funext a
  by_cases q : Q a
  · rw [zsl_t q, zsl_t ((h a).mp q)]
  · rw [zsl_f q, zsl_f (fun z => q ((h a).mpr z))]
theorem zsl_0 {Q : Nat → Prop} {g f : Nat → Int32} : zsl (fun a => a < 0 ∧ Q a) g f = f := by
  funext a
  exact zsl_f (fun z => by omega)
theorem zsl_st {Q : Nat → Prop} {g f : Nat → Int32} {i : Nat} (h : Q i) : upd (zsl (fun a => a < i ∧ Q a) g f) i (g i) = zsl (fun a => a < i + 1 ∧ Q a) g f := by
  funext a
  by_cases e : a = i
  · subst e; rw [pk_us, zsl_t ⟨by omega, h⟩]
  · rw [pk_un e]
    by_cases q : a < i ∧ Q a
    · rw [zsl_t q, zsl_t ⟨by omega, q.2⟩]
    · rw [zsl_f q, zsl_f (fun z => q ⟨by omega, z.2⟩)]
theorem zsl_sf {Q : Nat → Prop} {g f : Nat → Int32} {i : Nat} (h : ¬ Q i) : zsl (fun a => a < i ∧ Q a) g f = zsl (fun a => a < i + 1 ∧ Q a) g f := by
  apply zsl_c
  intro a
  constructor
  · exact fun z => ⟨by omega, z.2⟩
  · intro z
    refine ⟨?_, z.2⟩
    have : a ≠ i := fun e => h (e ▸ z.2)
    omega
theorem zsl_i {Q : Nat → Prop} {g f : Nat → Int32} {i : Nat} : zsl (fun a => a < i ∧ Q a) g f i = f i := zsl_f (fun z => by omega)

/-! a sequence of writes -/
def zws (f : Nat → Int32) (ix : Nat → Nat) (v : Nat → Int32) : Nat → Nat → Int32
  | 0 => f
  | k + 1 => upd (zws f ix v k) (ix k) (v k)
theorem zws_m {f : Nat → Int32} {ix : Nat → Nat} {v : Nat → Int32} {a : Nat} : ∀ {k : Nat}, (∀ i, i < k → ix i ≠ a) → zws f ix v k a = f a
  | 0, _ => rfl
  | k + 1, h => by
    show upd (zws f ix v k) (ix k) (v k) a = f a
    rw [pk_un (fun e => h k (by omega) e.symm), zws_m (fun i hi => h i (by omega))]
theorem zws_h {f : Nat → Int32} {ix : Nat → Nat} {v : Nat → Int32} {i : Nat} : ∀ {k : Nat}, i < k → (∀ j, i < j → j < k → ix j ≠ ix i) → zws f ix v k (ix i) = v i
  | 0, h, _ => by omega
  | k + 1, h, hj => by
    show upd (zws f ix v k) (ix k) (v k) (ix i) = v i
    by_cases e : i = k
    · subst e; exact pk_us
    · rw [pk_un (fun z => hj k (by omega) (by omega) z.symm), zws_h (by omega) (fun j h1 h2 => hj j h1 (by omega))]
/-- a constant written at the places of a list: a selection -/
theorem zws_sl {f : Nat → Int32} {ix : Nat → Nat} {v : Int32} {Q : Nat → Prop} {k : Nat} (h : ∀ a, Q a ↔ ∃ i, i < k ∧ ix i = a) : zws f ix (fun _ => v) k = zsl Q (fun _ => v) f := by
  have key : ∀ k a, (∃ i, i < k ∧ ix i = a) → zws f ix (fun _ => v) k a = v := by
    intro k a
    induction k with
    | zero => intro ⟨i, hi, _⟩; omega
    | succ k ih =>
      intro ⟨i, hi, e⟩
      show upd (zws f ix (fun _ => v) k) (ix k) v a = v
      by_cases z : a = ix k
      · rw [z]; exact pk_us
      · rw [pk_un z]
        refine ih ⟨i, ?_, e⟩
        have : i ≠ k := fun y => z (by rw [← e, y])
        omega
  funext a
  by_cases q : Q a
  · rw [zsl_t q]; exact key k a ((h a).mp q)
  · rw [zsl_f q]; exact zws_m (fun i hi e => q ((h a).mpr ⟨i, hi, e⟩))

/-! counts -/
noncomputable def zb01 (P : Prop) : Nat := @ite Nat P (Classical.propDecidable P) 1 0
theorem zb_t {P : Prop} (h : P) : zb01 P = 1 := by unfold zb01; rw [if_pos h]
theorem zb_f {P : Prop} (h : ¬ P) : zb01 P = 0 := by unfold zb01; rw [if_neg h]
noncomputable def zcn (Q : Nat → Prop) : Nat → Nat
  | 0 => 0
  | k + 1 => zcn Q k + zb01 (Q k)
theorem zcn_st {Q : Nat → Prop} {k : Nat} (h : Q k) : zcn Q (k + 1) = zcn Q k + 1 := by show zcn Q k + zb01 (Q k) = _; rw [zb_t h]
theorem zcn_sf {Q : Nat → Prop} {k : Nat} (h : ¬ Q k) : zcn Q (k + 1) = zcn Q k := by show zcn Q k + zb01 (Q k) = _; rw [zb_f h]; rfl
theorem zcn_le (Q : Nat → Prop) : ∀ N, zcn Q N ≤ N
  | 0 => Nat.le_refl _
  | N + 1 => by
    have := zcn_le Q N
    by_cases h : Q N
    · rw [zcn_st h]; omega
    · rw [zcn_sf h]; omega
theorem zcn_eq {Q Q' : Nat → Prop} : ∀ {N : Nat}, (∀ a, a < N → (Q a ↔ Q' a)) → zcn Q N = zcn Q' N
  | 0, _ => rfl
  | N + 1, h => by
    have e := zcn_eq (Q := Q) (Q' := Q') (N := N) (fun a ha => h a (by omega))
    by_cases q : Q N
    · rw [zcn_st q, zcn_st ((h N (by omega)).mp q), e]
    · rw [zcn_sf q, zcn_sf (fun z => q ((h N (by omega)).mpr z)), e]
theorem zcn_z {Q : Nat → Prop} : ∀ {N : Nat}, (∀ a, a < N → ¬ Q a) → zcn Q N = 0
  | 0, _ => rfl
  | N + 1, h => by rw [zcn_sf (h N (by omega)), zcn_z (fun a ha => h a (by omega))]
theorem zcn_one {Q Q' : Nat → Prop} {x : Nat} (h0 : ¬ Q x) (h1 : Q' x) : ∀ {N : Nat}, x < N → (∀ a, a < N → a ≠ x → (Q' a ↔ Q a)) → zcn Q' N = zcn Q N + 1
  | 0, hx, _ => by omega
  | N + 1, hx, h => by
    by_cases e : x = N
    · subst e
      rw [zcn_st h1, zcn_sf h0, zcn_eq (Q := Q') (Q' := Q) (fun a ha => h a (by omega) (by omega))]
    · have i := zcn_one h0 h1 (N := N) (by omega) (fun a ha => h a (by omega))
      by_cases q : Q N
      · rw [zcn_st q, zcn_st ((h N (by omega) (by omega)).mpr q), i]
      · rw [zcn_sf q, zcn_sf (fun z => q ((h N (by omega) (by omega)).mp z)), i]
theorem zcn_or {Q A B : Nat → Prop} : ∀ {N : Nat}, (∀ a, a < N → (Q a ↔ (A a ∨ B a))) → (∀ a, a < N → A a → B a → False) → zcn Q N = zcn A N + zcn B N
  | 0, _, _ => rfl
  | N + 1, h, d => by
    have i := zcn_or (Q := Q) (A := A) (B := B) (N := N) (fun a ha => h a (by omega)) (fun a ha => d a (by omega))
    by_cases x : A N
    · have y : ¬ B N := fun y => d N (by omega) x y
      rw [zcn_st x, zcn_sf y, zcn_st ((h N (by omega)).mpr (Or.inl x)), i]; omega
    · by_cases y : B N
      · rw [zcn_sf x, zcn_st y, zcn_st ((h N (by omega)).mpr (Or.inr y)), i]; omega
      · rw [zcn_sf x, zcn_sf y, zcn_sf (fun z => ((h N (by omega)).mp z).elim x y), i]
theorem zcn_pos {Q : Nat → Prop} : ∀ {N : Nat}, 0 < zcn Q N → ∃ a, a < N ∧ Q a
  | 0, h => absurd h (Nat.lt_irrefl 0)
  | N + 1, h => by
    by_cases q : Q N
    · exact ⟨N, by omega, q⟩
    · rw [zcn_sf q] at h
      obtain ⟨a, ha, qa⟩ := zcn_pos h
      exact ⟨a, by omega, qa⟩
theorem zcn_gt {Q : Nat → Prop} {a : Nat} (q : Q a) : ∀ {N : Nat}, a < N → 0 < zcn Q N
  | 0, h => by omega
  | N + 1, h => by
    by_cases e : a = N
    · subst e; rw [zcn_st q]; omega
    · have := zcn_gt q (N := N) (by omega)
      by_cases z : Q N
      · rw [zcn_st z]; omega
      · rw [zcn_sf z]; omega
theorem zcn_app {Q : Nat → Prop} (m : Nat) : ∀ n, zcn Q (m + n) = zcn Q m + zcn (fun w => Q (m + w)) n
  | 0 => rfl
  | n + 1 => by
    have i := zcn_app (Q := Q) m n
    by_cases q : Q (m + n)
    · rw [← Nat.add_assoc, zcn_st q, zcn_st (Q := fun w => Q (m + w)) q, i]; omega
    · rw [← Nat.add_assoc, zcn_sf q, zcn_sf (Q := fun w => Q (m + w)) q, i]
theorem zcn_cut {Q : Nat → Prop} {m n : Nat} (h : m ≤ n) (hq : ∀ a, Q a → a < m) : zcn Q n = zcn Q m := by
  obtain ⟨d, rfl⟩ : ∃ d, n = m + d := ⟨n - m, by omega⟩
  rw [zcn_app, zcn_z (Q := fun w => Q (m + w)) (fun a _ q => by have := hq _ q; omega)]; omega
theorem zcn_T (T : Nat → Nat → Prop) (N : Nat) : ∀ n, (∀ i, i < n → ∃ a, a < N ∧ T a i) → (∀ a i j, i < n → j < n → T a i → T a j → i = j) → (∀ a b i, i < n → T a i → T b i → a = b) → zcn (fun a => ∃ i, i < n ∧ T a i) N = n
  | 0, _, _, _ => zcn_z (fun a _ ⟨i, hi, _⟩ => by omega)
  | n + 1, h1, h2, h3 => by
    have i := zcn_T T N n (fun i hi => h1 i (by omega)) (fun a i j hi hj => h2 a i j (by omega) (by omega)) (fun a b i hi => h3 a b i (by omega))
    obtain ⟨x, hx, tx⟩ := h1 n (by omega)
    rw [zcn_one (Q := fun a => ∃ i, i < n ∧ T a i) (Q' := fun a => ∃ i, i < n + 1 ∧ T a i) (x := x) (fun ⟨j, hj, tj⟩ => by have := h2 x j n (by omega) (by omega) tj tx; omega) ⟨n, by omega, tx⟩ hx (fun a _ na => ⟨fun ⟨j, hj, tj⟩ => ⟨j, by
      have : j ≠ n := fun e => na (h3 a x n (by omega) (e ▸ tj) tx)
      omega, tj⟩, fun ⟨j, hj, tj⟩ => ⟨j, by omega, tj⟩⟩), i]

/-! a list in an array: cells b .. b + n - 1 of arr hold exactly the addresses with Q, each at its position -/
def zLF (arr : Nat → Int32) (b n : Nat) (Q : Nat → Prop) (po : Nat → Int32) : Prop :=
  (∀ i, i < n → ∃ a, a < 256 ∧ arr (b + i) = nI a ∧ Q a ∧ po a = nI i) ∧ (∀ a, Q a → a < 256 ∧ ∃ i, i < n ∧ arr (b + i) = nI a ∧ po a = nI i)
theorem zLF_c {arr arr' : Nat → Int32} {b n : Nat} {Q Q' : Nat → Prop} {po po' : Nat → Int32} (h : zLF arr b n Q po) (hQ : ∀ a, Q' a ↔ Q a) (hp : ∀ a, Q a → po' a = po a) (ha : ∀ i, i < n → arr' (b + i) = arr (b + i)) : zLF arr' b n Q' po' := by
  refine ⟨fun i hi => ?_, fun a q => ?_⟩
  · obtain ⟨a, h1, h2, h3, h4⟩ := h.1 i hi
    exact ⟨a, h1, by rw [ha i hi, h2], (hQ a).mpr h3, by rw [hp a h3, h4]⟩
  · have q' := (hQ a).mp q
    obtain ⟨h0, i, h1, h2, h3⟩ := h.2 a q'
    exact ⟨h0, i, h1, by rw [ha i h1, h2], by rw [hp a q', h3]⟩
theorem zLF_u {arr : Nat → Int32} {b n : Nat} {Q : Nat → Prop} {po : Nat → Int32} (h : zLF arr b n Q po) (hn : n < 1000) {a i : Nat} (ha : a < 256) (hi : i < n) (e : arr (b + i) = nI a) : Q a ∧ po a = nI i := by
  obtain ⟨a', h1, h2, h3, h4⟩ := h.1 i hi
  have : a' = a := zi_inj (by omega) (by omega) (h2.symm.trans e)
  subst this
  exact ⟨h3, h4⟩
theorem zLF_p {arr : Nat → Int32} {b n : Nat} {Q : Nat → Prop} {po : Nat → Int32} (h : zLF arr b n Q po) (hn : n < 1000) {a i : Nat} (q : Q a) (hi : i < 1000) (e : po a = nI i) : i < n ∧ arr (b + i) = nI a := by
  obtain ⟨h0, j, h1, h2, h3⟩ := h.2 a q
  have : j = i := zi_inj (by omega) (by omega) (h3.symm.trans e)
  subst this
  exact ⟨h1, h2⟩
theorem zLF_cn {arr : Nat → Int32} {b n : Nat} {Q : Nat → Prop} {po : Nat → Int32} (h : zLF arr b n Q po) (hn : n < 1000) : zcn Q 256 = n := by
  rw [zcn_eq (Q := Q) (Q' := fun a => ∃ i, i < n ∧ (Q a ∧ po a = nI i)) (fun a _ => ⟨fun q => by
    obtain ⟨h0, j, h1, h2, h3⟩ := h.2 a q
    exact ⟨j, h1, q, h3⟩, fun ⟨i, _, q, _⟩ => q⟩)]
  refine zcn_T (fun a i => Q a ∧ po a = nI i) 256 n (fun i hi => ?_) (fun a i j hi hj t1 t2 => ?_) (fun a c i hi t1 t2 => ?_)
  · obtain ⟨a, h1, h2, h3, h4⟩ := h.1 i hi
    exact ⟨a, h1, h3, h4⟩
  · exact zi_inj (by omega) (by omega) (t1.2.symm.trans t2.2)
  · have e1 := (zLF_p h hn t1.1 (by omega) t1.2).2
    have e2 := (zLF_p h hn t2.1 (by omega) t2.2).2
    exact zi_inj (by have := (h.2 a t1.1).1; omega) (by have := (h.2 c t2.1).1; omega) (e1.symm.trans e2)
theorem zLF_0 {arr : Nat → Int32} {b : Nat} {Q : Nat → Prop} {po : Nat → Int32} (h : ∀ a, ¬ Q a) : zLF arr b 0 Q po := ⟨fun i hi => by omega, fun a q => absurd q (h a)⟩
end
section
/-! freeMap and freeInSlab as functions of placeOf -/
def zfb (pl : Nat → Int32) (p : Nat) : Nat → Int32
  | 0 => 0
  | k + 1 => if pl (32 * p + k) = 4 then zfb pl p k ||| ((1 : Int32) <<< (nI k &&& 31)) else zfb pl p k
def zFM (pl : Nat → Int32) (p : Nat) : Int32 := zfb pl p 32
noncomputable def zFI (pl : Nat → Int32) (p : Nat) : Int32 := nI (zcn (fun w => pl (32 * p + w) = 4) 32)
theorem zf_1b : ∀ j, j < 32 → bt 1 j = decide (j = 0) := by decide +kernel
theorem zf_one {k i : Nat} (hk : k < 32) (hi : i < 32) : bt ((1 : Int32) <<< (nI k &&& 31)) i = decide (i = k) := by
  rw [b_shl k hk 1 hi]
  by_cases h : k ≤ i
  · rw [zf_1b _ (by omega), decide_eq_true h, Bool.true_and]
    exact decide_eq_decide.mpr ⟨fun _ => by omega, fun _ => by omega⟩
  · rw [decide_eq_false h, Bool.false_and, decide_eq_false (by omega)]
theorem zfb_bt {pl : Nat → Int32} {p i : Nat} (hi : i < 32) : ∀ k, k ≤ 32 → bt (zfb pl p k) i = decide (i < k ∧ pl (32 * p + i) = 4)
  | 0, _ => by
    show bt 0 i = _
    rw [b_0, decide_eq_false (fun z => by omega)]
  | k + 1, hk => by
    have ih := zfb_bt (pl := pl) (p := p) hi k (by omega)
    show bt (if pl (32 * p + k) = 4 then zfb pl p k ||| ((1 : Int32) <<< (nI k &&& 31)) else zfb pl p k) i = _
    by_cases h : pl (32 * p + k) = 4
    · rw [if_pos h, b_or, ih, zf_one (by omega) hi]
      by_cases e : i = k
      · subst e; rw [decide_eq_true (p := i = i) rfl, Bool.or_true, decide_eq_true ⟨by omega, h⟩]
      · rw [decide_eq_false (p := i = k) e, Bool.or_false]
        exact decide_eq_decide.mpr ⟨fun z => ⟨by omega, z.2⟩, fun z => ⟨by omega, z.2⟩⟩
    · rw [if_neg h, ih]
      refine decide_eq_decide.mpr ⟨fun z => ⟨by omega, z.2⟩, fun z => ⟨?_, z.2⟩⟩
      have : i ≠ k := fun e => h (e ▸ z.2)
      omega
theorem zFM_bt {pl : Nat → Int32} {p i : Nat} (hi : i < 32) : bt (zFM pl p) i = decide (pl (32 * p + i) = 4) := by
  show bt (zfb pl p 32) i = _
  rw [zfb_bt hi 32 (by omega)]
  exact decide_eq_decide.mpr ⟨fun z => z.2, fun z => ⟨hi, z⟩⟩
theorem zFM_ext {pl pl' : Nat → Int32} {p : Nat} (h : ∀ w, w < 32 → (pl (32 * p + w) = 4 ↔ pl' (32 * p + w) = 4)) : zFM pl p = zFM pl' p :=
  b_ext (fun i hi => by rw [zFM_bt hi, zFM_bt hi]; exact decide_eq_decide.mpr (h i hi))
theorem zFI_ext {pl pl' : Nat → Int32} {p : Nat} (h : ∀ w, w < 32 → (pl (32 * p + w) = 4 ↔ pl' (32 * p + w) = 4)) : zFI pl p = zFI pl' p :=
  congrArg nI (zcn_eq h)
theorem zf_ne {x q w : Nat} (hw : w < 32) (h : ¬ q = x / 32) : 32 * q + w ≠ x := by omega
theorem zFM_set {pl : Nat → Int32} {x : Nat} : upd (zFM pl) (x / 32) (zFM pl (x / 32) ||| ((1 : Int32) <<< (nI (x % 32) &&& 31))) = zFM (upd pl x 4) := by
  funext q
  by_cases e : q = x / 32
  · subst e
    rw [pk_us]
    refine b_ext (fun i hi => ?_)
    rw [b_or, zFM_bt hi, zFM_bt hi, zf_one (by omega) hi]
    by_cases h : i = x % 32
    · have e2 : 32 * (x / 32) + i = x := by omega
      rw [e2, pk_us, decide_eq_true h, Bool.or_true]; rfl
    · rw [decide_eq_false h, Bool.or_false, pk_un (by omega)]
  · rw [pk_un e]
    exact zFM_ext (fun w hw => by rw [pk_un (zf_ne hw e)])
theorem zFM_clr {pl : Nat → Int32} {x : Nat} {v : Int32} (hv : ¬ v = 4) : upd (zFM pl) (x / 32) (zFM pl (x / 32) &&& (((1 : Int32) <<< (nI (x % 32) &&& 31)) ^^^ (-1))) = zFM (upd pl x v) := by
  funext q
  by_cases e : q = x / 32
  · subst e
    rw [pk_us]
    refine b_ext (fun i hi => ?_)
    rw [b_and, b_xor, b_m1 i hi, zFM_bt hi, zFM_bt hi, zf_one (by omega) hi]
    by_cases h : i = x % 32
    · have e2 : 32 * (x / 32) + i = x := by omega
      rw [e2, pk_us, decide_eq_true h, decide_eq_false hv]; simp
    · rw [decide_eq_false h, pk_un (by omega)]; simp
  · rw [pk_un e]
    exact zFM_ext (fun w hw => by rw [pk_un (zf_ne hw e)])
theorem zFM_z {pl pl' : Nat → Int32} {p : Nat} (h0 : ∀ w, w < 32 → ¬ pl' (32 * p + w) = 4) (h1 : ∀ a, ¬ a / 32 = p → pl' a = pl a) : upd (zFM pl) p 0 = zFM pl' := by
  funext q
  by_cases e : q = p
  · subst e
    rw [pk_us]
    refine b_ext (fun i hi => ?_)
    rw [b_0, zFM_bt hi, decide_eq_false (h0 i hi)]
  · rw [pk_un e]
    exact zFM_ext (fun w hw => by rw [h1 _ (by omega)])
theorem zFM_test {pl : Nat → Int32} {p w : Nat} (hw : w < 32) : (zFM pl p &&& ((1 : Int32) <<< (nI w &&& 31))) = 0 ↔ ¬ pl (32 * p + w) = 4 := by
  constructor
  · intro e h
    have := congrArg (fun z => bt z w) e
    rw [b_and, zFM_bt hw, zf_one hw hw, b_0, decide_eq_true h, decide_eq_true rfl] at this
    exact absurd this (by decide)
  · intro h
    refine b_ext (fun i hi => ?_)
    rw [b_and, zFM_bt hi, zf_one hw hi, b_0]
    by_cases e : i = w
    · subst e; rw [decide_eq_false h, Bool.false_and]
    · rw [decide_eq_false e, Bool.and_false]
theorem zFI_set {pl : Nat → Int32} {x : Nat} (hx : ¬ pl x = 4) : upd (zFI pl) (x / 32) (zFI pl (x / 32) + 1) = zFI (upd pl x 4) := by
  funext q
  by_cases e : q = x / 32
  · subst e
    rw [pk_us]
    show nI _ + 1 = nI _
    rw [nI_1]
    refine congrArg nI (Eq.symm ?_)
    have ex : 32 * (x / 32) + x % 32 = x := by omega
    refine zcn_one (x := x % 32) ?_ ?_ (by omega) ?_
    · rw [ex]; exact hx
    · rw [ex]; exact pk_us
    · intro a ha na
      rw [pk_un (by omega)]
  · rw [pk_un e]
    exact zFI_ext (fun w hw => by rw [pk_un (zf_ne hw e)])
theorem zFI_clr {pl : Nat → Int32} {x : Nat} {v : Int32} (hv : ¬ v = 4) (hx : pl x = 4) : upd (zFI pl) (x / 32) (zFI pl (x / 32) - 1) = zFI (upd pl x v) := by
  funext q
  by_cases e : q = x / 32
  · subst e
    rw [pk_us]
    have ex : 32 * (x / 32) + x % 32 = x := by omega
    have k : zcn (fun w => pl (32 * (x / 32) + w) = 4) 32 = zcn (fun w => upd pl x v (32 * (x / 32) + w) = 4) 32 + 1 := by
      refine zcn_one (x := x % 32) ?_ ?_ (by omega) ?_
      · rw [ex, pk_us]; exact hv
      · rw [ex]; exact hx
      · intro a ha na
        rw [pk_un (by omega)]
    show nI _ - 1 = nI _
    rw [k]
    exact nI_pred _
  · rw [pk_un e]
    exact zFI_ext (fun w hw => by rw [pk_un (zf_ne hw e)])
theorem zFI_z {pl pl' : Nat → Int32} {p : Nat} (h0 : ∀ w, w < 32 → ¬ pl' (32 * p + w) = 4) (h1 : ∀ a, ¬ a / 32 = p → pl' a = pl a) : upd (zFI pl) p 0 = zFI pl' := by
  funext q
  by_cases e : q = p
  · subst e
    rw [pk_us]
    show (0 : Int32) = nI _
    rw [zcn_z (fun w hw => h0 w hw)]; rfl
  · rw [pk_un e]
    exact zFI_ext (fun w hw => by rw [h1 _ (by omega)])
theorem zFI_lt {pl : Nat → Int32} {p : Nat} : zcn (fun w => pl (32 * p + w) = 4) 32 ≤ 32 := zcn_le _ _
end
section
/-! the relation -/
def zBd (P C M D : Nat) : Prop := 1 ≤ P ∧ P ≤ 8 ∧ 1 ≤ C ∧ C ≤ 4 ∧ 1 ≤ M ∧ M ≤ 4 ∧ D ≤ 4
def zPg (P : Nat) (ow ex : Nat → Int32) : Prop := ∀ p, p < 8 → (P ≤ p → ow p = -1) ∧ (ow p = -1 ∨ ow p = -16 ∨ ∃ c, c < 4 ∧ ow p = nI c ∧ ¬ ex c = 0)
def zOb (P : Nat) (ow pl sz : Nat → Int32) : Prop := ∀ a, ¬ pl a = 0 → a < 32 * P ∧ (pl a = 1 ∨ pl a = 2 ∨ pl a = 3 ∨ pl a = 4) ∧ ∃ c, c < 4 ∧ ow (a / 32) = nI c ∧ a % 32 + (sz c).toNatClampNeg ≤ 32
def zNm (ow pl sz : Nat → Int32) : Prop := ∀ p c, p < 8 → c < 4 → ow p = nI c → zcn (fun w => ¬ pl (32 * p + w) = 0) 32 = 32 / (sz c).toNatClampNeg
def zCa (ex sz al nc ps : Nat → Int32) : Prop := ∀ c, c < 4 → ps c = nI (32 / (sz c).toNatClampNeg) ∧ (¬ ex c = 0 → ∃ s g l, sz c = nI s ∧ 2 ≤ s ∧ s ≤ 16 ∧ nc c = nI g ∧ al c = nI l ∧ l ≤ 16 ∧ g + 32 / s * s ≤ 32)
def zAt (ab ex sz al se nc lm bc rz rm fl : Nat → Int32) : Prop := ∀ c, c < 4 → ab (c * 9) = sz c ∧ ab (c * 9 + 1) = al c ∧ ab (c * 9 + 2) = se c ∧ ab (c * 9 + 3) = nc c ∧ (¬ ex c = 0 → ab (c * 9 + 4) = lm c) ∧ ab (c * 9 + 5) = bc c ∧ ab (c * 9 + 6) = rz c ∧ ab (c * 9 + 7) = rm c ∧ ab (c * 9 + 8) = fl c
def zHd (C : Nat) (pl ho hd : Nat → Int32) : Prop := ∀ a, (pl a = 1 → ho a = hd a) ∧ (pl a = 2 → ho a = hd a ∧ ∃ u, u < C ∧ hd a = nI u) ∧ (pl a = 3 → ho a = -1 ∧ hd a = -1) ∧ (pl a = 4 → ho a = -1)
def zCo (ow co cl : Nat → Int32) : Prop := ∀ p c, p < 8 → c < 4 → ow p = nI c → co p = cl p
def zQs (ow pl hd : Nat → Int32) (u c a : Nat) : Prop := pl a = 2 ∧ ow (a / 32) = nI c ∧ hd a = nI u
def zQd (ow pl : Nat → Int32) (c a : Nat) : Prop := pl a = 3 ∧ ow (a / 32) = nI c
def zSk (M : Nat) (ow pl sk sc hd po : Nat → Int32) : Prop := ∀ u c, u < 4 → c < 4 → ∃ n, sc (u * 4 + c) = nI n ∧ n ≤ 2 * M ∧ zLF sk ((u * 4 + c) * 8) n (zQs ow pl hd u c) po
def zDp (M D : Nat) (ow pl lm dp dc po : Nat → Int32) : Prop := ∀ c, c < 4 → ∃ n m, dc c = nI n ∧ lm c = nI m ∧ m ≤ n ∧ n ≤ D ∧ zLF dp (c * 16) (n * M) (zQd ow pl c) po
def zQl (ow pl : Nat → Int32) (c a : Nat) : Prop := pl a = 1 ∧ ow (a / 32) = nI c
def zLv (ow pl lv : Nat → Int32) : Prop := ∀ c, c < 4 → lv c = nI (zcn (zQl ow pl c) 256)
def zR (P C M D : Nat) (ow co pl ho ex sz al se ps nc lm bc rz rm fl lv sk sc dp dc hd po cl ab : Nat → Int32) : Prop :=
  zBd P C M D ∧ zPg P ow ex ∧ zOb P ow pl sz ∧ zNm ow pl sz ∧ zCa ex sz al nc ps ∧ zAt ab ex sz al se nc lm bc rz rm fl ∧ zHd C pl ho hd ∧ zCo ow co cl ∧ zSk M ow pl sk sc hd po ∧ zDp M D ow pl lm dp dc po ∧ zLv ow pl lv
def zS (ex : Nat → Int32) (u : SX) (v : SY) : Prop := ∃ P C M D : Nat, ∃ ow co wd pl ho sz al se ps nc lm bc rz rm fl lv sk sc dp dc hd po cl ab : Nat → Int32, u = (nI P, nI C, nI M, nI D, ow, co, (zFI pl), (zFM pl), wd, pl, ho, ex, sz, al, se, ps, nc, lm, bc, rz, rm, fl, lv, sk, sc, dp, dc) ∧ v = (nI P, nI C, nI M, nI D, wd, pl, hd, po, ow, cl, ex, ab) ∧ zR P C M D ow co pl ho ex sz al se ps nc lm bc rz rm fl lv sk sc dp dc hd po cl ab
/-- an object x of cache c has left the free map; its place isn't yet set -/
def zTk (x c : Nat) (ex : Nat → Int32) (u : SX) (v : SY) : Prop := ∃ P C M D : Nat, ∃ ow co wd pl ho sz al se ps nc lm bc rz rm fl lv sk sc dp dc hd po cl ab : Nat → Int32, u = (nI P, nI C, nI M, nI D, ow, co, (zFI (upd pl x 1)), (zFM (upd pl x 1)), wd, pl, ho, ex, sz, al, se, ps, nc, lm, bc, rz, rm, fl, lv, sk, sc, dp, dc) ∧ v = (nI P, nI C, nI M, nI D, wd, pl, hd, po, ow, cl, ex, ab) ∧ (zR P C M D ow co pl ho ex sz al se ps nc lm bc rz rm fl lv sk sc dp dc hd po cl ab ∧ pl x = 4 ∧ ow (x / 32) = nI c)
section
variable {P C M D : Nat} {ow co wd pl ho ex sz al se ps nc lm bc rz rm fl lv sk sc dp dc hd po cl ab : Nat → Int32}
theorem zS_el {Pr : SX → SY → Prop} {u : SX} {v : SY} (H : ∀ (P C M D : Nat) (ow co wd pl ho sz al se ps nc lm bc rz rm fl lv sk sc dp dc hd po cl ab : Nat → Int32), zR P C M D ow co pl ho ex sz al se ps nc lm bc rz rm fl lv sk sc dp dc hd po cl ab → Pr (nI P, nI C, nI M, nI D, ow, co, (zFI pl), (zFM pl), wd, pl, ho, ex, sz, al, se, ps, nc, lm, bc, rz, rm, fl, lv, sk, sc, dp, dc) (nI P, nI C, nI M, nI D, wd, pl, hd, po, ow, cl, ex, ab)) (I : zS ex u v) : Pr u v :=
  I.elim fun P I => I.elim fun C I => I.elim fun M I => I.elim fun D I => I.elim fun ow I => I.elim fun co I => I.elim fun wd I => I.elim fun pl I => I.elim fun ho I => I.elim fun sz I => I.elim fun al I => I.elim fun se I => I.elim fun ps I => I.elim fun nc I => I.elim fun lm I => I.elim fun bc I => I.elim fun rz I => I.elim fun rm I => I.elim fun fl I => I.elim fun lv I => I.elim fun sk I => I.elim fun sc I => I.elim fun dp I => I.elim fun dc I => I.elim fun hd I => I.elim fun po I => I.elim fun cl I => I.elim fun ab I => by
    have hu := I.1
    have hv := I.2.1
    subst hu
    subst hv
    exact H P C M D ow co wd pl ho sz al se ps nc lm bc rz rm fl lv sk sc dp dc hd po cl ab I.2.2
theorem zTk_el {x c : Nat} {Pr : SX → SY → Prop} {u : SX} {v : SY} (H : ∀ (P C M D : Nat) (ow co wd pl ho sz al se ps nc lm bc rz rm fl lv sk sc dp dc hd po cl ab : Nat → Int32), (zR P C M D ow co pl ho ex sz al se ps nc lm bc rz rm fl lv sk sc dp dc hd po cl ab ∧ pl x = 4 ∧ ow (x / 32) = nI c) → Pr (nI P, nI C, nI M, nI D, ow, co, (zFI (upd pl x 1)), (zFM (upd pl x 1)), wd, pl, ho, ex, sz, al, se, ps, nc, lm, bc, rz, rm, fl, lv, sk, sc, dp, dc) (nI P, nI C, nI M, nI D, wd, pl, hd, po, ow, cl, ex, ab)) (I : zTk x c ex u v) : Pr u v :=
  I.elim fun P I => I.elim fun C I => I.elim fun M I => I.elim fun D I => I.elim fun ow I => I.elim fun co I => I.elim fun wd I => I.elim fun pl I => I.elim fun ho I => I.elim fun sz I => I.elim fun al I => I.elim fun se I => I.elim fun ps I => I.elim fun nc I => I.elim fun lm I => I.elim fun bc I => I.elim fun rz I => I.elim fun rm I => I.elim fun fl I => I.elim fun lv I => I.elim fun sk I => I.elim fun sc I => I.elim fun dp I => I.elim fun dc I => I.elim fun hd I => I.elim fun po I => I.elim fun cl I => I.elim fun ab I => by
    have hu := I.1
    have hv := I.2.1
    subst hu
    subst hv
    exact H P C M D ow co wd pl ho sz al se ps nc lm bc rz rm fl lv sk sc dp dc hd po cl ab I.2.2
theorem zS_in (h : zR P C M D ow co pl ho ex sz al se ps nc lm bc rz rm fl lv sk sc dp dc hd po cl ab) : zS ex (nI P, nI C, nI M, nI D, ow, co, (zFI pl), (zFM pl), wd, pl, ho, ex, sz, al, se, ps, nc, lm, bc, rz, rm, fl, lv, sk, sc, dp, dc) (nI P, nI C, nI M, nI D, wd, pl, hd, po, ow, cl, ex, ab) := ⟨P, C, M, D, ow, co, wd, pl, ho, sz, al, se, ps, nc, lm, bc, rz, rm, fl, lv, sk, sc, dp, dc, hd, po, cl, ab, rfl, rfl, h⟩
theorem zTk_in {x c : Nat} (h : zR P C M D ow co pl ho ex sz al se ps nc lm bc rz rm fl lv sk sc dp dc hd po cl ab) (h1 : pl x = 4) (h2 : ow (x / 32) = nI c) : zTk x c ex (nI P, nI C, nI M, nI D, ow, co, (zFI (upd pl x 1)), (zFM (upd pl x 1)), wd, pl, ho, ex, sz, al, se, ps, nc, lm, bc, rz, rm, fl, lv, sk, sc, dp, dc) (nI P, nI C, nI M, nI D, wd, pl, hd, po, ow, cl, ex, ab) := ⟨P, C, M, D, ow, co, wd, pl, ho, sz, al, se, ps, nc, lm, bc, rz, rm, fl, lv, sk, sc, dp, dc, hd, po, cl, ab, rfl, rfl, h, h1, h2⟩

/-! what the groups give at once -/
theorem zO_lt (h : zR P C M D ow co pl ho ex sz al se ps nc lm bc rz rm fl lv sk sc dp dc hd po cl ab) {a : Nat} (ha : ¬ pl a = 0) : a < 256 := by
  have := (h.2.2.1 a ha).1
  have := h.1
  unfold zBd at this
  omega
theorem zO_ow (h : zR P C M D ow co pl ho ex sz al se ps nc lm bc rz rm fl lv sk sc dp dc hd po cl ab) {a : Nat} (ha : ¬ pl a = 0) : ∃ c, c < 4 ∧ ow (a / 32) = nI c := by
  obtain ⟨c, h1, h2, _⟩ := (h.2.2.1 a ha).2.2
  exact ⟨c, h1, h2⟩
theorem zO_ex (h : zR P C M D ow co pl ho ex sz al se ps nc lm bc rz rm fl lv sk sc dp dc hd po cl ab) {p c : Nat} (hp : p < 8) (hc : c < 4) (e : ow p = nI c) : ¬ ex c = 0 := by
  rcases (h.2.1 p hp).2 with z | z | ⟨c', h1, h2, h3⟩
  · exact absurd (e.symm.trans z) (zi_n1 (by omega))
  · exact absurd (e.symm.trans z) (zi_n16 (by omega))
  · have : c' = c := zi_inj (by omega) (by omega) (h2.symm.trans e)
    exact this ▸ h3
theorem zO_lp (h : zR P C M D ow co pl ho ex sz al se ps nc lm bc rz rm fl lv sk sc dp dc hd po cl ab) {p c : Nat} (hp : p < 8) (hc : c < 4) (e : ow p = nI c) : p < P := by
  rcases Nat.lt_or_ge p P with z | z
  · exact z
  · exact absurd (e.symm.trans ((h.2.1 p hp).1 z)) (zi_n1 (by omega))
end
end
section
/-! lists: one off, one on, the first k, without the first k -/
section
variable {arr arr' : Nat → Int32} {b n k x : Nat} {Q Q' : Nat → Prop} {po po' : Nat → Int32}
theorem zLF_pop (h : zLF arr b (n + 1) Q po) (hn : n < 900) (hx : x < 256) (e : arr (b + n) = nI x) (hQ : ∀ a, Q' a ↔ (Q a ∧ a ≠ x)) : zLF arr b n Q' po := by
  have px : Q x ∧ po x = nI n := zLF_u h (by omega) hx (by omega) e
  refine ⟨fun i hi => ?_, fun a q => ?_⟩
  · obtain ⟨a, h1, h2, h3, h4⟩ := h.1 i (by omega)
    refine ⟨a, h1, h2, (hQ a).mpr ⟨h3, fun ea => ?_⟩, h4⟩
    rw [ea] at h4
    have := zi_inj (by omega) (by omega) (h4.symm.trans px.2)
    omega
  · have q' := (hQ a).mp q
    obtain ⟨h0, i, h1, h2, h3⟩ := h.2 a q'.1
    refine ⟨h0, i, ?_, h2, h3⟩
    have : i ≠ n := fun ei => q'.2 (zi_inj (by omega) (by omega) (by rw [← h2, ei, e]))
    omega
theorem zLF_push (h : zLF arr b n Q po) (hx : x < 256) (hQ : ∀ a, Q' a ↔ (Q a ∨ a = x)) (nx : ¬ Q x) (ha : ∀ i, i < n → arr' (b + i) = arr (b + i)) (hb : arr' (b + n) = nI x) (hp : ∀ a, a ≠ x → po' a = po a) (hpx : po' x = nI n) : zLF arr' b (n + 1) Q' po' := by
  refine ⟨fun i hi => ?_, fun a q => ?_⟩
  · by_cases e : i = n
    · rw [e]; exact ⟨x, hx, hb, (hQ x).mpr (Or.inr rfl), hpx⟩
    · obtain ⟨a, h1, h2, h3, h4⟩ := h.1 i (by omega)
      have ne : a ≠ x := fun z => nx (z ▸ h3)
      exact ⟨a, h1, by rw [ha i (by omega), h2], (hQ a).mpr (Or.inl h3), by rw [hp a ne, h4]⟩
  · rcases (hQ a).mp q with q' | rfl
    · obtain ⟨h0, i, h1, h2, h3⟩ := h.2 a q'
      have ne : a ≠ x := fun z => nx (z ▸ q')
      exact ⟨h0, i, by omega, by rw [ha i h1, h2], by rw [hp a ne, h3]⟩
    · exact ⟨hx, n, by omega, hb, hpx⟩
theorem zLF_take (h : zLF arr b n Q po) (hk : k ≤ n) (hn : n < 1000) (hQ : ∀ a, Q' a ↔ (Q a ∧ ∃ i, i < k ∧ po a = nI i)) (hp : ∀ a, Q' a → po' a = po a) : zLF arr b k Q' po' := by
  refine ⟨fun i hi => ?_, fun a q => ?_⟩
  · obtain ⟨a, h1, h2, h3, h4⟩ := h.1 i (by omega)
    have q : Q' a := (hQ a).mpr ⟨h3, i, hi, h4⟩
    exact ⟨a, h1, h2, q, by rw [hp a q, h4]⟩
  · obtain ⟨q', i, hi, e⟩ := (hQ a).mp q
    exact ⟨(h.2 a q').1, i, hi, (zLF_p h hn q' (by omega) e).2, by rw [hp a q, e]⟩
theorem zLF_shift (h : zLF arr b n Q po) (hk : k ≤ n) (hn : n < 1000) (ha : ∀ i, i < n - k → arr' (b + i) = arr (b + (k + i))) (hQ : ∀ a, Q' a ↔ (Q a ∧ ∃ i, k ≤ i ∧ i < n ∧ po a = nI i)) (hp : ∀ a, Q' a → po' a = po a - nI k) : zLF arr' b (n - k) Q' po' := by
  refine ⟨fun i hi => ?_, fun a q => ?_⟩
  · obtain ⟨a, h1, h2, h3, h4⟩ := h.1 (k + i) (by omega)
    have q : Q' a := (hQ a).mpr ⟨h3, k + i, by omega, by omega, h4⟩
    exact ⟨a, h1, by rw [ha i hi, h2], q, by rw [hp a q, h4, pk_sub (by omega), Nat.add_sub_cancel_left]⟩
  · obtain ⟨q', i, hi, hi2, e⟩ := (hQ a).mp q
    refine ⟨(h.2 a q').1, i - k, by omega, ?_, by rw [hp a q, e, pk_sub hi]⟩
    rw [ha _ (by omega), show k + (i - k) = i by omega]
    exact (zLF_p h hn q' (by omega) e).2
theorem zLF_app (h : zLF arr b n Q po) (T : Nat → Nat → Prop) (hT : ∀ i, i < k → ∃ a, a < 256 ∧ T a i) (hT2 : ∀ a i, i < k → T a i → a < 256 ∧ arr' (b + (n + i)) = nI a ∧ po' a = nI (n + i)) (ha : ∀ i, i < n → arr' (b + i) = arr (b + i)) (hQ : ∀ a, Q' a ↔ (Q a ∨ ∃ i, i < k ∧ T a i)) (hp : ∀ a, Q a → po' a = po a) : zLF arr' b (n + k) Q' po' := by
  refine ⟨fun i hi => ?_, fun a q => ?_⟩
  · by_cases e : i < n
    · obtain ⟨a, h1, h2, h3, h4⟩ := h.1 i e
      exact ⟨a, h1, by rw [ha i e, h2], (hQ a).mpr (Or.inl h3), by rw [hp a h3, h4]⟩
    · obtain ⟨a, h1, h2⟩ := hT (i - n) (by omega)
      obtain ⟨_, h3, h4⟩ := hT2 a (i - n) (by omega) h2
      rw [show n + (i - n) = i by omega] at h3 h4
      exact ⟨a, h1, h3, (hQ a).mpr (Or.inr ⟨i - n, by omega, h2⟩), h4⟩
  · rcases (hQ a).mp q with q' | ⟨i, hi, t⟩
    · obtain ⟨h0, i, h1, h2, h3⟩ := h.2 a q'
      exact ⟨h0, i, by omega, by rw [ha i h1, h2], by rw [hp a q', h3]⟩
    · obtain ⟨h1, h3, h4⟩ := hT2 a i hi t
      exact ⟨h1, n + i, by omega, h3, h4⟩
end
theorem zm_le {n M : Nat} (hn : n ≤ 4) (hM : M ≤ 4) : n * M ≤ 16 := Nat.mul_le_mul hn hM
/-! the groups under a change of places -/
section
variable {P C M D : Nat} {ow pl pl' sz hd hd' lv : Nat → Int32} {x c u : Nat} {v : Int32} {Z : Nat → Prop}
theorem zu_iff {w : Int32} (hx : ¬ pl x = w) (hv : ¬ v = w) (a : Nat) : upd pl x v a = w ↔ pl a = w := by
  by_cases e : a = x
  · rw [e, pk_us]; exact ⟨fun z => absurd z hv, fun z => absurd z hx⟩
  · rw [pk_un e]
theorem zs_iff {w : Int32} (hZ : ∀ a, Z a → ¬ pl a = w) (hv : ¬ v = w) (a : Nat) : zsl Z (fun _ => v) pl a = w ↔ pl a = w := by
  by_cases e : Z a
  · rw [zsl_t e]; exact ⟨fun z => absurd z hv, fun z => absurd z (hZ a e)⟩
  · rw [zsl_f e]
theorem zOb_u (h : zOb P ow pl sz) (hx : ¬ pl x = 0) (hv : v = 1 ∨ v = 2 ∨ v = 3 ∨ v = 4) : zOb P ow (upd pl x v) sz := by
  intro a ha
  by_cases e : a = x
  · rw [e] at ha ⊢
    rw [pk_us]
    exact ⟨(h x hx).1, hv, (h x hx).2.2⟩
  · rw [pk_un e] at ha ⊢
    exact h a ha
theorem zOb_s (h : zOb P ow pl sz) (hZ : ∀ a, Z a → ¬ pl a = 0) (hv : v = 1 ∨ v = 2 ∨ v = 3 ∨ v = 4) : zOb P ow (zsl Z (fun _ => v) pl) sz := by
  intro a ha
  by_cases e : Z a
  · rw [zsl_t e]
    exact ⟨(h a (hZ a e)).1, hv, (h a (hZ a e)).2.2⟩
  · rw [zsl_f e] at ha ⊢
    exact h a ha
theorem zNm_c (h : zNm ow pl sz) (h0 : ∀ a, pl' a = 0 ↔ pl a = 0) : zNm ow pl' sz := by
  intro p c hp hc e
  rw [← h p c hp hc e]
  exact zcn_eq (fun w _ => not_congr (h0 _))
theorem zLv_c (h : zLv ow pl lv) (h0 : ∀ a, pl' a = 1 ↔ pl a = 1) : zLv ow pl' lv := by
  intro c hc
  rw [h c hc]
  exact congrArg nI (zcn_eq (fun a _ => by unfold zQl; rw [h0 a]))
theorem zLv_add (h : zLv ow pl lv) (hl : x < 256) (hx : ¬ pl x = 1) (hc : c < 4) (e : ow (x / 32) = nI c) : zLv ow (upd pl x 1) (upd lv c (lv c + 1)) := by
  intro c' hc'
  by_cases z : c' = c
  · rw [z, pk_us, h c hc, nI_1]
    refine congrArg nI (Eq.symm (zcn_one (x := x) (fun y => hx y.1) ⟨pk_us, e⟩ hl (fun a _ na => ?_)))
    unfold zQl
    rw [pk_un na]
  · rw [pk_un z, h c' hc']
    refine congrArg nI (zcn_eq (fun a _ => ?_))
    unfold zQl
    by_cases y : a = x
    · rw [y, e]
      exact ⟨fun t => absurd t.1 hx, fun t => absurd (zi_inj (by omega) (by omega) t.2).symm z⟩
    · rw [pk_un y]
theorem zLv_sub (h : zLv ow pl lv) (hl : x < 256) (hx : pl x = 1) (hv : ¬ v = 1) (hc : c < 4) (e : ow (x / 32) = nI c) : zLv ow (upd pl x v) (upd lv c (lv c - 1)) := by
  intro c' hc'
  by_cases z : c' = c
  · rw [z, pk_us, h c hc]
    have k : zcn (zQl ow pl c) 256 = zcn (zQl ow (upd pl x v) c) 256 + 1 := by
      refine zcn_one (x := x) (fun y => hv (pk_us.symm.trans y.1)) ⟨hx, e⟩ hl (fun a _ na => ?_)
      unfold zQl
      rw [pk_un na]
    rw [k]
    exact nI_pred _
  · rw [pk_un z, h c' hc']
    refine congrArg nI (zcn_eq (fun a _ => ?_))
    unfold zQl
    by_cases y : a = x
    · rw [y, e, pk_us]
      exact ⟨fun t => absurd (zi_inj (by omega) (by omega) t.2).symm z, fun t => absurd t.1 hv⟩
    · rw [pk_un y]
theorem zQs_g (hn : ∀ a, ¬ Z a → pl' a = pl a ∧ hd' a = hd a) (h1 : ∀ a, Z a → ¬ zQs ow pl hd u c a) (h2 : ∀ a, Z a → ¬ zQs ow pl' hd' u c a) (a : Nat) : zQs ow pl' hd' u c a ↔ zQs ow pl hd u c a := by
  by_cases e : Z a
  · exact ⟨fun z => absurd z (h2 a e), fun z => absurd z (h1 a e)⟩
  · unfold zQs
    rw [(hn a e).1, (hn a e).2]
theorem zQd_g (hn : ∀ a, ¬ Z a → pl' a = pl a) (h1 : ∀ a, Z a → ¬ zQd ow pl c a) (h2 : ∀ a, Z a → ¬ zQd ow pl' c a) (a : Nat) : zQd ow pl' c a ↔ zQd ow pl c a := by
  by_cases e : Z a
  · exact ⟨fun z => absurd z (h2 a e), fun z => absurd z (h1 a e)⟩
  · unfold zQd
    rw [hn a e]
end
/-! laws: one object -/
section
variable {P C M D : Nat} {ow co wd pl ho ex sz al se ps nc lm bc rz rm fl lv sk sc dp dc hd po cl ab : Nat → Int32}
variable {x c u n : Nat}
theorem zl_take (h : zR P C M D ow co pl ho ex sz al se ps nc lm bc rz rm fl lv sk sc dp dc hd po cl ab) (hc : c < 4) (hx : pl x = 4) (hw : ow (x / 32) = nI c) : zR P C M D ow co (upd pl x 1) (upd ho x (nI u)) ex sz al se ps nc lm bc rz rm fl (upd lv c (lv c + 1)) sk sc dp dc (upd hd x (nI u)) po cl ab := by
  have hl : x < 256 := zO_lt h (by rw [hx]; decide)
  obtain ⟨hBd, hPg, hOb, hNm, hCa, hAt, hHd, hCo, hSk, hDp, hLv⟩ := h
  have x0 : ¬ pl x = 0 := by rw [hx]; decide
  refine ⟨hBd, hPg, zOb_u hOb x0 (Or.inl rfl), zNm_c hNm (zu_iff x0 (by decide)), hCa, hAt, fun a => ?_, hCo, fun u' c' hu' hc' => ?_, fun c' hc' => ?_, zLv_add hLv hl (by rw [hx]; decide) hc hw⟩
  · by_cases e : a = x
    · rw [e, pk_us, pk_us, pk_us]
      exact ⟨fun _ => rfl, fun z => absurd z (by decide), fun z => absurd z (by decide), fun z => absurd z (by decide)⟩
    · rw [pk_un e, pk_un e, pk_un e]; exact hHd a
  · obtain ⟨n, h1, h2, h3⟩ := hSk u' c' hu' hc'
    refine ⟨n, h1, h2, zLF_c h3 (zQs_g (Z := fun a => a = x) (fun a e => ⟨pk_un e, pk_un e⟩) (fun a e z => ?_) (fun a e z => ?_)) (fun _ _ => rfl) (fun _ _ => rfl)⟩
    · have := z.1; rw [e, hx] at this; exact absurd this (by decide)
    · have := z.1; rw [e, pk_us] at this; exact absurd this (by decide)
  · obtain ⟨n, m, h1, h2, h3, h4, h5⟩ := hDp c' hc'
    refine ⟨n, m, h1, h2, h3, h4, zLF_c h5 (zQd_g (Z := fun a => a = x) (fun a e => pk_un e) (fun a e z => ?_) (fun a e z => ?_)) (fun _ _ => rfl) (fun _ _ => rfl)⟩
    · have := z.1; rw [e, hx] at this; exact absurd this (by decide)
    · have := z.1; rw [e, pk_us] at this; exact absurd this (by decide)
/-- the top of the stock: what it is -/
theorem zl_top (h : zR P C M D ow co pl ho ex sz al se ps nc lm bc rz rm fl lv sk sc dp dc hd po cl ab) (hu : u < 4) (hc : c < 4) (hn : sc (u * 4 + c) = nI (n + 1)) (hn8 : n < 1000) : ∃ x, x < 256 ∧ sk ((u * 4 + c) * 8 + n) = nI x ∧ zQs ow pl hd u c x ∧ po x = nI n := by
  obtain ⟨m, h1, h2, h3⟩ := h.2.2.2.2.2.2.2.2.1 u c hu hc
  have hb := h.1
  unfold zBd at hb
  have : m = n + 1 := zi_inj (by omega) (by omega) (h1.symm.trans hn)
  exact h3.1 n (by omega)
theorem zl_pop (h : zR P C M D ow co pl ho ex sz al se ps nc lm bc rz rm fl lv sk sc dp dc hd po cl ab) (hu : u < C) (hc : c < 4) (hn : sc (u * 4 + c) = nI (n + 1)) (hl : x < 256) (e : sk ((u * 4 + c) * 8 + n) = nI x) (hn8 : n < 900) : zR P C M D ow co (upd pl x 1) (upd ho x (nI u)) ex sz al se ps nc lm bc rz rm fl (upd lv c (lv c + 1)) sk (upd sc (u * 4 + c) (nI n)) dp dc (upd hd x (nI u)) po cl ab := by
  have hC : C ≤ 4 := h.1.2.2.2.1
  have hM : M ≤ 4 := h.1.2.2.2.2.2.1
  obtain ⟨m0, g1, g2, g3⟩ := h.2.2.2.2.2.2.2.2.1 u c (by omega) hc
  have em : m0 = n + 1 := zi_inj (by omega) (by omega) (g1.symm.trans hn)
  rw [em] at g3 g2
  have hq := (zLF_u g3 (by omega) hl (by omega) e).1
  obtain ⟨hBd, hPg, hOb, hNm, hCa, hAt, hHd, hCo, hSk, hDp, hLv⟩ := h
  have hx := hq.1
  have x0 : ¬ pl x = 0 := by rw [hx]; decide
  refine ⟨hBd, hPg, zOb_u hOb x0 (Or.inl rfl), zNm_c hNm (zu_iff x0 (by decide)), hCa, hAt, fun a => ?_, hCo, fun u' c' hu' hc' => ?_, fun c' hc' => ?_, zLv_add hLv hl (by rw [hx]; decide) hc hq.2.1⟩
  · by_cases e : a = x
    · rw [e, pk_us, pk_us, pk_us]
      exact ⟨fun _ => rfl, fun z => absurd z (by decide), fun z => absurd z (by decide), fun z => absurd z (by decide)⟩
    · rw [pk_un e, pk_un e, pk_un e]; exact hHd a
  · by_cases e1 : u' * 4 + c' = u * 4 + c
    · have eu : u' = u := by omega
      have ec : c' = c := by omega
      rw [eu, ec]
      refine ⟨n, pk_us, by omega, zLF_pop g3 hn8 hl e (fun a => ?_)⟩
      by_cases z : a = x
      · rw [z]
        refine ⟨fun t => ?_, fun t => absurd rfl t.2⟩
        have := t.1; rw [pk_us] at this; exact absurd this (by decide)
      · unfold zQs
        rw [pk_un z, pk_un z]
        exact ⟨fun t => ⟨t, z⟩, fun t => t.1⟩
    · obtain ⟨n', h1, h2, h3⟩ := hSk u' c' hu' hc'
      refine ⟨n', by rw [pk_un e1]; exact h1, h2, zLF_c h3 (zQs_g (Z := fun a => a = x) (fun a e => ⟨pk_un e, pk_un e⟩) (fun a e z => ?_) (fun a e z => ?_)) (fun _ _ => rfl) (fun _ _ => rfl)⟩
      · rw [e] at z
        have a1 : c = c' := zi_inj (by omega) (by omega) (hq.2.1.symm.trans z.2.1)
        have a2 : u = u' := zi_inj (by omega) (by omega) (hq.2.2.symm.trans z.2.2)
        omega
      · have := z.1; rw [e, pk_us] at this; exact absurd this (by decide)
  · obtain ⟨n, m, h1, h2, h3, h4, h5⟩ := hDp c' hc'
    refine ⟨n, m, h1, h2, h3, h4, zLF_c h5 (zQd_g (Z := fun a => a = x) (fun a e => pk_un e) (fun a e z => ?_) (fun a e z => ?_)) (fun _ _ => rfl) (fun _ _ => rfl)⟩
    · have := z.1; rw [e, hx] at this; exact absurd this (by decide)
    · have := z.1; rw [e, pk_us] at this; exact absurd this (by decide)
theorem zl_push (h : zR P C M D ow co pl ho ex sz al se ps nc lm bc rz rm fl lv sk sc dp dc hd po cl ab) (hu : u < C) (hc : c < 4) (hn : sc (u * 4 + c) = nI n) (hn2 : n < 2 * M) (hx : pl x = 1) (hw : ow (x / 32) = nI c) : zR P C M D ow co (upd pl x 2) (upd ho x (nI u)) ex sz al se ps nc lm bc rz rm fl (upd lv c (lv c - 1)) (upd sk ((u * 4 + c) * 8 + n) (nI x)) (upd sc (u * 4 + c) (nI (n + 1))) dp dc (upd hd x (nI u)) (upd po x (nI n)) cl ab := by
  have hl : x < 256 := zO_lt h (by rw [hx]; decide)
  have hC : C ≤ 4 := h.1.2.2.2.1
  have hM : M ≤ 4 := h.1.2.2.2.2.2.1
  obtain ⟨m0, g1, g2, g3⟩ := h.2.2.2.2.2.2.2.2.1 u c (by omega) hc
  have em : m0 = n := zi_inj (by omega) (by omega) (g1.symm.trans hn)
  rw [em] at g3
  obtain ⟨hBd, hPg, hOb, hNm, hCa, hAt, hHd, hCo, hSk, hDp, hLv⟩ := h
  have x0 : ¬ pl x = 0 := by rw [hx]; decide
  have x2 : ¬ pl x = 2 := by rw [hx]; decide
  have x3 : ¬ pl x = 3 := by rw [hx]; decide
  refine ⟨hBd, hPg, zOb_u hOb x0 (Or.inr (Or.inl rfl)), zNm_c hNm (zu_iff x0 (by decide)), hCa, hAt, fun a => ?_, hCo, fun u' c' hu' hc' => ?_, fun c' hc' => ?_, zLv_sub hLv hl hx (by decide) hc hw⟩
  · by_cases e : a = x
    · rw [e, pk_us, pk_us, pk_us]
      exact ⟨fun z => absurd z (by decide), fun _ => ⟨rfl, u, hu, rfl⟩, fun z => absurd z (by decide), fun z => absurd z (by decide)⟩
    · rw [pk_un e, pk_un e, pk_un e]; exact hHd a
  · by_cases e1 : u' * 4 + c' = u * 4 + c
    · have eu : u' = u := by omega
      have ec : c' = c := by omega
      rw [eu, ec]
      refine ⟨n + 1, pk_us, by omega, zLF_push g3 hl (fun a => ?_) (fun z => x2 z.1) (fun i hi => pk_un (by omega)) pk_us (fun a na => pk_un na) pk_us⟩
      by_cases z : a = x
      · rw [z]
        exact ⟨fun _ => Or.inr rfl, fun _ => ⟨pk_us, hw, pk_us⟩⟩
      · unfold zQs
        rw [pk_un z, pk_un z]
        exact ⟨fun t => Or.inl t, fun t => t.elim id (fun y => absurd y z)⟩
    · obtain ⟨n', h1, h2, h3⟩ := hSk u' c' hu' hc'
      refine ⟨n', by rw [pk_un e1]; exact h1, h2, zLF_c h3 (zQs_g (Z := fun a => a = x) (fun a e => ⟨pk_un e, pk_un e⟩) (fun a e z => ?_) (fun a e z => ?_)) (fun a z => pk_un (fun e => x2 (e ▸ z.1))) (fun i hi => pk_un (by omega))⟩
      · rw [e] at z; exact x2 z.1
      · rw [e] at z
        have a1 : c = c' := zi_inj (by omega) (by omega) (hw.symm.trans z.2.1)
        have a2 : u = u' := zi_inj (by omega) (by omega) (pk_us.symm.trans z.2.2)
        omega
  · obtain ⟨n, m, h1, h2, h3, h4, h5⟩ := hDp c' hc'
    refine ⟨n, m, h1, h2, h3, h4, zLF_c h5 (zQd_g (Z := fun a => a = x) (fun a e => pk_un e) (fun a e z => ?_) (fun a e z => ?_)) (fun a z => pk_un (fun e => x3 (e ▸ z.1))) (fun _ _ => rfl)⟩
    · rw [e] at z; exact x3 z.1
    · have := z.1; rw [e, pk_us] at this; exact absurd this (by decide)
end
end
section
/-! laws: many objects at once -/
section
variable {P C M D : Nat} {ow co wd pl ho ex sz al se ps nc lm bc rz rm fl lv sk sc dp dc hd po cl ab : Nat → Int32}
variable {c u n k m' : Nat} {Z W A B : Nat → Prop} {hd' po' sk' dp' lm' ab' : Nat → Int32}
theorem zl_hp (h : zR P C M D ow co pl ho ex sz al se ps nc lm bc rz rm fl lv sk sc dp dc hd po cl ab) (h1 : ∀ a, (pl a = 1 ∨ pl a = 2 ∨ pl a = 3) → hd' a = hd a) (h2 : ∀ a, (pl a = 2 ∨ pl a = 3) → po' a = po a) : zR P C M D ow co pl ho ex sz al se ps nc lm bc rz rm fl lv sk sc dp dc hd' po' cl ab := by
  obtain ⟨hBd, hPg, hOb, hNm, hCa, hAt, hHd, hCo, hSk, hDp, hLv⟩ := h
  refine ⟨hBd, hPg, hOb, hNm, hCa, hAt, fun a => ⟨fun z => ?_, fun z => ?_, fun z => ?_, fun z => (hHd a).2.2.2 z⟩, hCo, fun u' c' hu' hc' => ?_, fun c' hc' => ?_, hLv⟩
  · rw [h1 a (Or.inl z)]; exact (hHd a).1 z
  · rw [h1 a (Or.inr (Or.inl z))]; exact (hHd a).2.1 z
  · rw [h1 a (Or.inr (Or.inr z))]; exact (hHd a).2.2.1 z
  · obtain ⟨n, g1, g2, g3⟩ := hSk u' c' hu' hc'
    refine ⟨n, g1, g2, zLF_c g3 (fun a => ?_) (fun a q => h2 a (Or.inl q.1)) (fun _ _ => rfl)⟩
    unfold zQs
    by_cases z : pl a = 2
    · rw [h1 a (Or.inr (Or.inl z))]
    · exact ⟨fun t => absurd t.1 z, fun t => absurd t.1 z⟩
  · obtain ⟨n, m, g1, g2, g3, g4, g5⟩ := hDp c' hc'
    exact ⟨n, m, g1, g2, g3, g4, zLF_c g5 (fun a => Iff.rfl) (fun a q => h2 a (Or.inr q.1)) (fun _ _ => rfl)⟩
theorem zl_drain (h : zR P C M D ow co pl ho ex sz al se ps nc lm bc rz rm fl lv sk sc dp dc hd po cl ab) (hu : u < 4) (hc : c < 4) (hZ : ∀ a, Z a ↔ zQs ow pl hd u c a) : zR P C M D ow co (zsl Z (fun _ => 4) pl) (zsl Z (fun _ => -1) ho) ex sz al se ps nc lm bc rz rm fl lv sk (upd sc (u * 4 + c) 0) dp dc hd po cl ab := by
  have z2 : ∀ a, Z a → pl a = 2 := fun a z => ((hZ a).mp z).1
  have zn : ∀ (w : Int32), ¬ (2 : Int32) = w → ∀ a, Z a → ¬ pl a = w := fun w hw a z => by rw [z2 a z]; exact hw
  obtain ⟨hBd, hPg, hOb, hNm, hCa, hAt, hHd, hCo, hSk, hDp, hLv⟩ := h
  refine ⟨hBd, hPg, zOb_s hOb (zn 0 (by decide)) (Or.inr (Or.inr (Or.inr rfl))), zNm_c hNm (zs_iff (zn 0 (by decide)) (by decide)), hCa, hAt, fun a => ?_, hCo, fun u' c' hu' hc' => ?_, fun c' hc' => ?_, zLv_c hLv (zs_iff (zn 1 (by decide)) (by decide))⟩
  · by_cases e : Z a
    · rw [zsl_t e, zsl_t e]
      exact ⟨fun z => absurd z (by decide), fun z => absurd z (by decide), fun z => absurd z (by decide), fun _ => rfl⟩
    · rw [zsl_f e, zsl_f e]; exact hHd a
  · by_cases e1 : u' * 4 + c' = u * 4 + c
    · have eu : u' = u := by omega
      have ec : c' = c := by omega
      rw [eu, ec]
      refine ⟨0, pk_us, by omega, zLF_0 (fun a q => ?_)⟩
      by_cases e : Z a
      · have := q.1; rw [zsl_t e] at this; exact absurd this (by decide)
      · have q1 := q.1; rw [zsl_f e] at q1
        exact e ((hZ a).mpr ⟨q1, q.2⟩)
    · obtain ⟨n', h1, h2, h3⟩ := hSk u' c' hu' hc'
      refine ⟨n', by rw [pk_un e1]; exact h1, h2, zLF_c h3 (zQs_g (Z := Z) (fun a e => ⟨zsl_f e, rfl⟩) (fun a e z => ?_) (fun a e z => ?_)) (fun _ _ => rfl) (fun _ _ => rfl)⟩
      · have y := (hZ a).mp e
        have a1 : c = c' := zi_inj (by omega) (by omega) (y.2.1.symm.trans z.2.1)
        have a2 : u = u' := zi_inj (by omega) (by omega) (y.2.2.symm.trans z.2.2)
        omega
      · have := z.1; rw [zsl_t e] at this; exact absurd this (by decide)
  · obtain ⟨n, m, h1, h2, h3, h4, h5⟩ := hDp c' hc'
    refine ⟨n, m, h1, h2, h3, h4, zLF_c h5 (zQd_g (Z := Z) (fun a e => zsl_f e) (fun a e z => zn 3 (by decide) a e z.1) (fun a e z => ?_)) (fun _ _ => rfl) (fun _ _ => rfl)⟩
    have := z.1; rw [zsl_t e] at this; exact absurd this (by decide)
theorem zl_drop (h : zR P C M D ow co pl ho ex sz al se ps nc lm bc rz rm fl lv sk sc dp dc hd po cl ab) (hc : c < 4) (hn : dc c = nI n) (hn4 : n ≤ 4) (hk : k ≤ n) (hZ : ∀ a, Z a ↔ (zQd ow pl c a ∧ po a < nI (k * M))) (hW : ∀ a, W a ↔ (zQd ow pl c a ∧ ¬ po a < nI (k * M)))
    (k1 : ∀ i, i < n * M - k * M → dp' (c * 16 + i) = dp (c * 16 + (k * M + i))) (k2 : ∀ j, (j < c * 16 ∨ c * 16 + 16 ≤ j) → dp' j = dp j) (l1 : lm' c = nI m') (l2 : m' ≤ n - k) (l3 : ∀ c', c' < 4 → c' ≠ c → lm' c' = lm c') (hA : zAt ab' ex sz al se nc lm' bc rz rm fl) :
    zR P C M D ow co (zsl Z (fun _ => 4) pl) (zsl Z (fun _ => -1) ho) ex sz al se ps nc lm' bc rz rm fl lv sk sc dp' (upd dc c (nI (n - k))) hd (zsl W (fun a => po a - nI (k * M)) po) cl ab' := by
  have hM : M ≤ 4 := h.1.2.2.2.2.2.1
  have hD : D ≤ 4 := h.1.2.2.2.2.2.2
  obtain ⟨n0, m0, g1, g2, g3, g4, g5⟩ := h.2.2.2.2.2.2.2.2.2.1 c hc
  have em : n0 = n := zi_inj (by omega) (by omega) (g1.symm.trans hn)
  rw [em] at g3 g4 g5
  have nM := zm_le hn4 hM
  have kM : k * M ≤ n * M := Nat.mul_le_mul_right M hk
  have z2 : ∀ a, Z a → pl a = 3 := fun a z => ((hZ a).mp z).1.1
  have zn : ∀ (w : Int32), ¬ (3 : Int32) = w → ∀ a, Z a → ¬ pl a = w := fun w hw a z => by rw [z2 a z]; exact hw
  obtain ⟨hBd, hPg, hOb, hNm, hCa, hAt, hHd, hCo, hSk, hDp, hLv⟩ := h
  refine ⟨hBd, hPg, zOb_s hOb (zn 0 (by decide)) (Or.inr (Or.inr (Or.inr rfl))), zNm_c hNm (zs_iff (zn 0 (by decide)) (by decide)), hCa, hA, fun a => ?_, hCo, fun u' c' hu' hc' => ?_, fun c' hc' => ?_, zLv_c hLv (zs_iff (zn 1 (by decide)) (by decide))⟩
  · by_cases e : Z a
    · rw [zsl_t e, zsl_t e]
      exact ⟨fun z => absurd z (by decide), fun z => absurd z (by decide), fun z => absurd z (by decide), fun _ => rfl⟩
    · rw [zsl_f e, zsl_f e]; exact hHd a
  · obtain ⟨n', h1, h2, h3⟩ := hSk u' c' hu' hc'
    refine ⟨n', h1, h2, zLF_c h3 (zQs_g (Z := Z) (fun a e => ⟨zsl_f e, rfl⟩) (fun a e z => zn 2 (by decide) a e z.1) (fun a e z => ?_)) (fun a z => zsl_f (fun w => ?_)) (fun _ _ => rfl)⟩
    · have := z.1; rw [zsl_t e] at this; exact absurd this (by decide)
    · have := ((hW a).mp w).1.1; rw [z.1] at this; exact absurd this (by decide)
  · by_cases e1 : c' = c
    · rw [e1]
      refine ⟨n - k, m', pk_us, l1, l2, by omega, ?_⟩
      rw [Nat.sub_mul]
      have hq : ∀ a, zQd ow (zsl Z (fun _ => 4) pl) c a ↔ (zQd ow pl c a ∧ ∃ i, k * M ≤ i ∧ i < n * M ∧ po a = nI i) := by
        intro a
        by_cases e : Z a
        · refine ⟨fun q => ?_, fun q => ?_⟩
          · have := q.1; rw [zsl_t e] at this; exact absurd this (by decide)
          · obtain ⟨q1, i, i1, i2, i3⟩ := q
            have y := ((hZ a).mp e).2
            rw [i3, nI_ltI (by omega) (by omega)] at y
            omega
        · have e2 : zQd ow (zsl Z (fun _ => 4) pl) c a ↔ zQd ow pl c a := by unfold zQd; rw [zsl_f e]
          rw [e2]
          refine ⟨fun q => ⟨q, ?_⟩, fun q => q.1⟩
          obtain ⟨_, i, i1, i2, i3⟩ := g5.2 a q
          refine ⟨i, ?_, i1, i3⟩
          rcases Nat.lt_or_ge i (k * M) with y | y
          · exact absurd ((hZ a).mpr ⟨q, by rw [i3]; exact nI_lt y (by omega)⟩) e
          · exact y
      refine zLF_shift g5 kM (by omega) k1 hq (fun a q => zsl_t ((hW a).mpr ?_))
      obtain ⟨q1, i, i1, i2, i3⟩ := (hq a).mp q
      exact ⟨q1, by rw [i3]; exact nI_nlt i1 (by omega)⟩
    · obtain ⟨n', m, h1, h2, h3, h4, h5⟩ := hDp c' hc'
      have n'M : n' * M ≤ 16 := zm_le (by omega) hM
      refine ⟨n', m, by rw [pk_un e1]; exact h1, by rw [l3 c' hc' e1]; exact h2, h3, h4, zLF_c h5 (zQd_g (Z := Z) (fun a e => zsl_f e) (fun a e z => ?_) (fun a e z => ?_)) (fun a z => zsl_f (fun w => ?_)) (fun i hi => k2 _ (by omega))⟩
      · exact e1 (zi_inj (by omega) (by omega) (z.2.symm.trans ((hZ a).mp e).1.2))
      · have := z.1; rw [zsl_t e] at this; exact absurd this (by decide)
      · exact e1 (zi_inj (by omega) (by omega) (z.2.symm.trans ((hW a).mp w).1.2))
theorem zl_refill (h : zR P C M D ow co pl ho ex sz al se ps nc lm bc rz rm fl lv sk sc dp dc hd po cl ab) (hu : u < C) (hc : c < 4) (hs : sc (u * 4 + c) = nI 0) (hn : dc c = nI (n + 1)) (hn4 : n < 4) (hZ : ∀ a, Z a ↔ (zQd ow pl c a ∧ ¬ po a < nI (n * M)))
    (k1 : ∀ i, i < M → sk' ((u * 4 + c) * 8 + i) = dp (c * 16 + (n * M + i))) (k2 : ∀ j, (j < (u * 4 + c) * 8 ∨ (u * 4 + c) * 8 + 8 ≤ j) → sk' j = sk j) (l1 : lm' c = nI m') (l2 : m' ≤ n) (l3 : ∀ c', c' < 4 → c' ≠ c → lm' c' = lm c') (hA : zAt ab' ex sz al se nc lm' bc rz rm fl) :
    zR P C M D ow co (zsl Z (fun _ => 2) pl) (zsl Z (fun _ => nI u) ho) ex sz al se ps nc lm' bc rz rm fl lv sk' (upd sc (u * 4 + c) (nI M)) dp (upd dc c (nI n)) (zsl Z (fun _ => nI u) hd) (zsl Z (fun a => po a - nI (n * M)) po) cl ab' := by
  have hC : C ≤ 4 := h.1.2.2.2.1
  have hM : M ≤ 4 := h.1.2.2.2.2.2.1
  have hD : D ≤ 4 := h.1.2.2.2.2.2.2
  obtain ⟨n0, m0, g1, g2, g3, g4, g5⟩ := h.2.2.2.2.2.2.2.2.2.1 c hc
  have em : n0 = n + 1 := zi_inj (by omega) (by omega) (g1.symm.trans hn)
  rw [em] at g3 g4 g5
  obtain ⟨s0, s1, s2, s3⟩ := h.2.2.2.2.2.2.2.2.1 u c (by omega) hc
  have es : s0 = 0 := zi_inj (by omega) (by omega) (s1.symm.trans hs)
  rw [es] at s3
  have nM : n * M ≤ 16 := zm_le (by omega) hM
  have sM : (n + 1) * M = n * M + M := Nat.succ_mul n M
  have z2 : ∀ a, Z a → pl a = 3 := fun a z => ((hZ a).mp z).1.1
  have zn : ∀ (w : Int32), ¬ (3 : Int32) = w → ∀ a, Z a → ¬ pl a = w := fun w hw a z => by rw [z2 a z]; exact hw
  obtain ⟨hBd, hPg, hOb, hNm, hCa, hAt, hHd, hCo, hSk, hDp, hLv⟩ := h
  refine ⟨hBd, hPg, zOb_s hOb (zn 0 (by decide)) (Or.inr (Or.inl rfl)), zNm_c hNm (zs_iff (zn 0 (by decide)) (by decide)), hCa, hA, fun a => ?_, hCo, fun u' c' hu' hc' => ?_, fun c' hc' => ?_, zLv_c hLv (zs_iff (zn 1 (by decide)) (by decide))⟩
  · by_cases e : Z a
    · rw [zsl_t e, zsl_t e, zsl_t e]
      exact ⟨fun z => absurd z (by decide), fun _ => ⟨rfl, u, hu, rfl⟩, fun z => absurd z (by decide), fun z => absurd z (by decide)⟩
    · rw [zsl_f e, zsl_f e, zsl_f e]; exact hHd a
  · by_cases e1 : u' * 4 + c' = u * 4 + c
    · have eu : u' = u := by omega
      have ec : c' = c := by omega
      rw [eu, ec]
      refine ⟨M, pk_us, by omega, fun i hi => ?_, fun a q => ?_⟩
      · obtain ⟨a, h1, h2, h3, h4⟩ := g5.1 (n * M + i) (by omega)
        have za : Z a := (hZ a).mpr ⟨h3, by rw [h4]; exact nI_nlt (by omega) (by omega)⟩
        refine ⟨a, h1, by rw [k1 i hi, h2], ⟨zsl_t za, h3.2, zsl_t za⟩, ?_⟩
        rw [zsl_t za, h4, pk_sub (by omega), Nat.add_sub_cancel_left]
      · have za : Z a := by
          by_cases e : Z a
          · exact e
          · have q1 := q.1; rw [zsl_f e] at q1
            have q3 := q.2.2; rw [zsl_f e] at q3
            obtain ⟨_, i, i1, _⟩ := s3.2 a ⟨q1, q.2.1, q3⟩
            omega
        have y := (hZ a).mp za
        obtain ⟨h0, i, i1, i2, i3⟩ := g5.2 a y.1
        have y2 := y.2
        rw [i3, nI_ltI (by omega) (by omega)] at y2
        refine ⟨h0, i - n * M, by omega, ?_, ?_⟩
        · rw [k1 _ (by omega), show n * M + (i - n * M) = i by omega, i2]
        · rw [zsl_t za, i3, pk_sub (by omega)]
    · obtain ⟨n', h1, h2, h3⟩ := hSk u' c' hu' hc'
      refine ⟨n', by rw [pk_un e1]; exact h1, h2, zLF_c h3 (zQs_g (Z := Z) (fun a e => ⟨zsl_f e, zsl_f e⟩) (fun a e z => zn 2 (by decide) a e z.1) (fun a e z => ?_)) (fun a z => zsl_f (fun e => zn 2 (by decide) a e z.1)) (fun i hi => k2 _ (by omega))⟩
      have y := (hZ a).mp e
      have a1 : c = c' := zi_inj (by omega) (by omega) (y.1.2.symm.trans z.2.1)
      have a2 : u = u' := zi_inj (by omega) (by omega) ((zsl_t e).symm.trans z.2.2)
      omega
  · by_cases e1 : c' = c
    · rw [e1]
      refine ⟨n, m', pk_us, l1, l2, by omega, zLF_take g5 (by omega) (by omega) (fun a => ?_) (fun a q => zsl_f (fun e => ?_))⟩
      · by_cases e : Z a
        · refine ⟨fun q => ?_, fun q => ?_⟩
          · have := q.1; rw [zsl_t e] at this; exact absurd this (by decide)
          · obtain ⟨q1, i, i1, i3⟩ := q
            have y := ((hZ a).mp e).2
            rw [i3] at y
            exact absurd (nI_lt i1 (by omega)) y
        · have e2 : zQd ow (zsl Z (fun _ => 2) pl) c a ↔ zQd ow pl c a := by unfold zQd; rw [zsl_f e]
          rw [e2]
          refine ⟨fun q => ⟨q, ?_⟩, fun q => q.1⟩
          obtain ⟨_, i, i1, i2, i3⟩ := g5.2 a q
          refine ⟨i, ?_, i3⟩
          rcases Nat.lt_or_ge i (n * M) with y | y
          · exact y
          · exact absurd ((hZ a).mpr ⟨q, by rw [i3]; exact nI_nlt y (by omega)⟩) e
      · have := q.1; rw [zsl_t e] at this; exact absurd this (by decide)
    · obtain ⟨n', m, h1, h2, h3, h4, h5⟩ := hDp c' hc'
      refine ⟨n', m, by rw [pk_un e1]; exact h1, by rw [l3 c' hc' e1]; exact h2, h3, h4, zLF_c h5 (zQd_g (Z := Z) (fun a e => zsl_f e) (fun a e z => ?_) (fun a e z => ?_)) (fun a z => zsl_f (fun e => ?_)) (fun _ _ => rfl)⟩
      · exact e1 (zi_inj (by omega) (by omega) (z.2.symm.trans ((hZ a).mp e).1.2))
      · have := z.1; rw [zsl_t e] at this; exact absurd this (by decide)
      · exact e1 (zi_inj (by omega) (by omega) (z.2.symm.trans ((hZ a).mp e).1.2))
end
end
section
/-! laws: the bottom of a full stock goes to the depot, or back -/
section
variable {P C M D : Nat} {ow co wd pl ho ex sz al se ps nc lm bc rz rm fl lv sk sc dp dc hd po cl ab : Nat → Int32}
variable {c u n : Nat} {A B : Nat → Prop} {sk' dp' : Nat → Int32}
/-- the stock's own list behind an unloading: what was above stays, M lower -/
theorem zl_unl (g : zLF sk ((u * 4 + c) * 8) (2 * M) (zQs ow pl hd u c) po) (hM : M ≤ 4) {pl' hd' po' : Nat → Int32} (hA : ∀ a, A a ↔ (zQs ow pl hd u c a ∧ po a < nI M)) (hB : ∀ a, B a ↔ (zQs ow pl hd u c a ∧ ¬ po a < nI M))
    (k1 : ∀ i, i < M → sk' ((u * 4 + c) * 8 + i) = sk ((u * 4 + c) * 8 + (M + i))) (a1 : ∀ a, A a → ¬ pl' a = 2) (a2 : ∀ a, ¬ A a → pl' a = pl a ∧ hd' a = hd a) (a3 : ∀ a, B a → po' a = po a - nI M) :
    zLF sk' ((u * 4 + c) * 8) M (zQs ow pl' hd' u c) po' := by
  have hq : ∀ a, zQs ow pl' hd' u c a ↔ (zQs ow pl hd u c a ∧ ∃ i, M ≤ i ∧ i < 2 * M ∧ po a = nI i) := by
    intro a
    by_cases e : A a
    · refine ⟨fun q => absurd q.1 (a1 a e), fun q => ?_⟩
      obtain ⟨q1, i, i1, i2, i3⟩ := q
      have y := ((hA a).mp e).2
      rw [i3, nI_ltI (by omega) (by omega)] at y
      omega
    · have e2 : zQs ow pl' hd' u c a ↔ zQs ow pl hd u c a := by unfold zQs; rw [(a2 a e).1, (a2 a e).2]
      rw [e2]
      refine ⟨fun q => ⟨q, ?_⟩, fun q => q.1⟩
      obtain ⟨_, i, i1, i2, i3⟩ := g.2 a q
      refine ⟨i, ?_, i1, i3⟩
      rcases Nat.lt_or_ge i M with y | y
      · exact absurd ((hA a).mpr ⟨q, by rw [i3]; exact nI_lt y (by omega)⟩) e
      · exact y
  have r := zLF_shift (k := M) (arr' := sk') (po' := po') g (by omega) (by omega) (fun i hi => k1 i (by omega)) hq (fun a q => a3 a ((hB a).mpr ?_))
  · rw [show 2 * M - M = M by omega] at r
    exact r
  · obtain ⟨q1, i, i1, i2, i3⟩ := (hq a).mp q
    exact ⟨q1, by rw [i3]; exact nI_nlt i1 (by omega)⟩
theorem zl_unlD (h : zR P C M D ow co pl ho ex sz al se ps nc lm bc rz rm fl lv sk sc dp dc hd po cl ab) (hu : u < C) (hc : c < 4) (hs : sc (u * 4 + c) = nI (2 * M)) (hn : dc c = nI n) (hnD : n < D) (hA : ∀ a, A a ↔ (zQs ow pl hd u c a ∧ po a < nI M)) (hB : ∀ a, B a ↔ (zQs ow pl hd u c a ∧ ¬ po a < nI M))
    (k1 : ∀ i, i < M → sk' ((u * 4 + c) * 8 + i) = sk ((u * 4 + c) * 8 + (M + i))) (k2 : ∀ j, (j < (u * 4 + c) * 8 ∨ (u * 4 + c) * 8 + 8 ≤ j) → sk' j = sk j)
    (k3 : ∀ i, i < M → dp' (c * 16 + (n * M + i)) = sk ((u * 4 + c) * 8 + i)) (k4 : ∀ j, (j < c * 16 + n * M ∨ c * 16 + 16 ≤ j) → dp' j = dp j) :
    zR P C M D ow co (zsl A (fun _ => 3) pl) (zsl A (fun _ => -1) ho) ex sz al se ps nc lm bc rz rm fl lv sk' (upd sc (u * 4 + c) (nI M)) dp' (upd dc c (nI (n + 1))) (zsl A (fun _ => -1) hd) (zsl B (fun a => po a - nI M) (zsl A (fun a => po a + nI (n * M)) po)) cl ab := by
  have hC : C ≤ 4 := h.1.2.2.2.1
  have hM : M ≤ 4 := h.1.2.2.2.2.2.1
  have hD : D ≤ 4 := h.1.2.2.2.2.2.2
  obtain ⟨n0, m0, g1, g2, g3, g4, g5⟩ := h.2.2.2.2.2.2.2.2.2.1 c hc
  have em : n0 = n := zi_inj (by omega) (by omega) (g1.symm.trans hn)
  rw [em] at g3 g4 g5
  obtain ⟨s0, s1, s2, s3⟩ := h.2.2.2.2.2.2.2.2.1 u c (by omega) hc
  have es : s0 = 2 * M := zi_inj (by omega) (by omega) (s1.symm.trans hs)
  rw [es] at s3
  have nM : n * M ≤ 16 := zm_le (by omega) hM
  have sM : (n + 1) * M = n * M + M := Nat.succ_mul n M
  have sM16 : (n + 1) * M ≤ 16 := zm_le (by omega) hM
  have z2 : ∀ a, A a → pl a = 2 := fun a z => ((hA a).mp z).1.1
  have zb : ∀ a, B a → pl a = 2 := fun a z => ((hB a).mp z).1.1
  have ab0 : ∀ a, A a → ¬ B a := fun a x y => ((hB a).mp y).2 ((hA a).mp x).2
  have zn : ∀ (w : Int32), ¬ (2 : Int32) = w → ∀ a, A a → ¬ pl a = w := fun w hw a z => by rw [z2 a z]; exact hw
  obtain ⟨hBd, hPg, hOb, hNm, hCa, hAt, hHd, hCo, hSk, hDp, hLv⟩ := h
  refine ⟨hBd, hPg, zOb_s hOb (zn 0 (by decide)) (Or.inr (Or.inr (Or.inl rfl))), zNm_c hNm (zs_iff (zn 0 (by decide)) (by decide)), hCa, hAt, fun a => ?_, hCo, fun u' c' hu' hc' => ?_, fun c' hc' => ?_, zLv_c hLv (zs_iff (zn 1 (by decide)) (by decide))⟩
  · by_cases e : A a
    · rw [zsl_t e, zsl_t e, zsl_t e]
      exact ⟨fun z => absurd z (by decide), fun z => absurd z (by decide), fun _ => ⟨rfl, rfl⟩, fun z => absurd z (by decide)⟩
    · rw [zsl_f e, zsl_f e, zsl_f e]; exact hHd a
  · by_cases e1 : u' * 4 + c' = u * 4 + c
    · have eu : u' = u := by omega
      have ec : c' = c := by omega
      rw [eu, ec]
      exact ⟨M, pk_us, by omega, zl_unl s3 hM hA hB k1 (fun a e => by rw [zsl_t e]; decide) (fun a e => ⟨zsl_f e, zsl_f e⟩) (fun a e => zsl_t e)⟩
    · obtain ⟨n', h1, h2, h3⟩ := hSk u' c' hu' hc'
      have ne : ∀ a, zQs ow pl hd u c a → ¬ zQs ow pl hd u' c' a := fun a y z => by
        have a1 : c = c' := zi_inj (by omega) (by omega) (y.2.1.symm.trans z.2.1)
        have a2 : u = u' := zi_inj (by omega) (by omega) (y.2.2.symm.trans z.2.2)
        omega
      refine ⟨n', by rw [pk_un e1]; exact h1, h2, zLF_c h3 (zQs_g (Z := A) (fun a e => ⟨zsl_f e, zsl_f e⟩) (fun a e => ne a ((hA a).mp e).1) (fun a e z => ?_)) (fun a z => ?_) (fun i hi => k2 _ (by omega))⟩
      · have := z.1; rw [zsl_t e] at this; exact absurd this (by decide)
      · rw [zsl_f (fun e => ne a ((hB a).mp e).1 z), zsl_f (fun e => ne a ((hA a).mp e).1 z)]
  · by_cases e1 : c' = c
    · rw [e1]
      refine ⟨n + 1, m0, pk_us, g2, by omega, by omega, ?_⟩
      rw [sM]
      refine zLF_app g5 (fun a i => a < 256 ∧ sk ((u * 4 + c) * 8 + i) = nI a) (fun i hi => ?_) (fun a i hi t => ?_) (fun i hi => k4 _ (by omega)) (fun a => ?_) (fun a q => ?_)
      · obtain ⟨a, h1, h2, _⟩ := s3.1 i (by omega)
        exact ⟨a, h1, h1, h2⟩
      · have y := zLF_u s3 (by omega) t.1 (by omega) t.2
        have za : A a := (hA a).mpr ⟨y.1, by rw [y.2]; exact nI_lt hi (by omega)⟩
        refine ⟨t.1, by rw [k3 i hi, t.2], ?_⟩
        rw [zsl_f (ab0 a za), zsl_t za, y.2, nI_add, Nat.add_comm]
      · by_cases e : A a
        · have y := (hA a).mp e
          refine ⟨fun q => Or.inr ?_, fun q => ⟨zsl_t e, y.1.2.1⟩⟩
          obtain ⟨h0, i, i1, i2, i3⟩ := s3.2 a y.1
          have y2 := y.2
          rw [i3, nI_ltI (by omega) (by omega)] at y2
          exact ⟨i, y2, h0, i2⟩
        · have e2 : zQd ow (zsl A (fun _ => 3) pl) c a ↔ zQd ow pl c a := by unfold zQd; rw [zsl_f e]
          rw [e2]
          refine ⟨Or.inl, fun q => q.elim id (fun ⟨i, hi, t1, t2⟩ => ?_)⟩
          have y := zLF_u s3 (by omega) t1 (by omega) t2
          exact absurd ((hA a).mpr ⟨y.1, by rw [y.2]; exact nI_lt hi (by omega)⟩) e
      · rw [zsl_f (fun e => absurd (q.1.symm.trans (zb a e)) (by decide)), zsl_f (fun e => absurd (q.1.symm.trans (z2 a e)) (by decide))]
    · obtain ⟨n', m, h1, h2, h3, h4, h5⟩ := hDp c' hc'
      have n'M : n' * M ≤ 16 := zm_le (by omega) hM
      refine ⟨n', m, by rw [pk_un e1]; exact h1, h2, h3, h4, zLF_c h5 (zQd_g (Z := A) (fun a e => zsl_f e) (fun a e z => zn 3 (by decide) a e z.1) (fun a e z => ?_)) (fun a q => ?_) (fun i hi => k4 _ (by omega))⟩
      · exact e1 (zi_inj (by omega) (by omega) (z.2.symm.trans ((hA a).mp e).1.2.1))
      · rw [zsl_f (fun e => absurd (q.1.symm.trans (zb a e)) (by decide)), zsl_f (fun e => absurd (q.1.symm.trans (z2 a e)) (by decide))]
theorem zl_unlS (h : zR P C M D ow co pl ho ex sz al se ps nc lm bc rz rm fl lv sk sc dp dc hd po cl ab) (hu : u < C) (hc : c < 4) (hs : sc (u * 4 + c) = nI (2 * M)) (hA : ∀ a, A a ↔ (zQs ow pl hd u c a ∧ po a < nI M)) (hB : ∀ a, B a ↔ (zQs ow pl hd u c a ∧ ¬ po a < nI M))
    (k1 : ∀ i, i < M → sk' ((u * 4 + c) * 8 + i) = sk ((u * 4 + c) * 8 + (M + i))) (k2 : ∀ j, (j < (u * 4 + c) * 8 ∨ (u * 4 + c) * 8 + 8 ≤ j) → sk' j = sk j) :
    zR P C M D ow co (zsl A (fun _ => 4) pl) (zsl A (fun _ => -1) ho) ex sz al se ps nc lm bc rz rm fl lv sk' (upd sc (u * 4 + c) (nI M)) dp dc hd (zsl B (fun a => po a - nI M) po) cl ab := by
  have hC : C ≤ 4 := h.1.2.2.2.1
  have hM : M ≤ 4 := h.1.2.2.2.2.2.1
  have hD : D ≤ 4 := h.1.2.2.2.2.2.2
  obtain ⟨s0, s1, s2, s3⟩ := h.2.2.2.2.2.2.2.2.1 u c (by omega) hc
  have es : s0 = 2 * M := zi_inj (by omega) (by omega) (s1.symm.trans hs)
  rw [es] at s3
  have z2 : ∀ a, A a → pl a = 2 := fun a z => ((hA a).mp z).1.1
  have zb : ∀ a, B a → pl a = 2 := fun a z => ((hB a).mp z).1.1
  have zn : ∀ (w : Int32), ¬ (2 : Int32) = w → ∀ a, A a → ¬ pl a = w := fun w hw a z => by rw [z2 a z]; exact hw
  obtain ⟨hBd, hPg, hOb, hNm, hCa, hAt, hHd, hCo, hSk, hDp, hLv⟩ := h
  refine ⟨hBd, hPg, zOb_s hOb (zn 0 (by decide)) (Or.inr (Or.inr (Or.inr rfl))), zNm_c hNm (zs_iff (zn 0 (by decide)) (by decide)), hCa, hAt, fun a => ?_, hCo, fun u' c' hu' hc' => ?_, fun c' hc' => ?_, zLv_c hLv (zs_iff (zn 1 (by decide)) (by decide))⟩
  · by_cases e : A a
    · rw [zsl_t e, zsl_t e]
      exact ⟨fun z => absurd z (by decide), fun z => absurd z (by decide), fun z => absurd z (by decide), fun _ => rfl⟩
    · rw [zsl_f e, zsl_f e]; exact hHd a
  · by_cases e1 : u' * 4 + c' = u * 4 + c
    · have eu : u' = u := by omega
      have ec : c' = c := by omega
      rw [eu, ec]
      exact ⟨M, pk_us, by omega, zl_unl s3 hM hA hB k1 (fun a e => by rw [zsl_t e]; decide) (fun a e => ⟨zsl_f e, rfl⟩) (fun a e => zsl_t e)⟩
    · obtain ⟨n', h1, h2, h3⟩ := hSk u' c' hu' hc'
      have ne : ∀ a, zQs ow pl hd u c a → ¬ zQs ow pl hd u' c' a := fun a y z => by
        have a1 : c = c' := zi_inj (by omega) (by omega) (y.2.1.symm.trans z.2.1)
        have a2 : u = u' := zi_inj (by omega) (by omega) (y.2.2.symm.trans z.2.2)
        omega
      refine ⟨n', by rw [pk_un e1]; exact h1, h2, zLF_c h3 (zQs_g (Z := A) (fun a e => ⟨zsl_f e, rfl⟩) (fun a e => ne a ((hA a).mp e).1) (fun a e z => ?_)) (fun a z => ?_) (fun i hi => k2 _ (by omega))⟩
      · have := z.1; rw [zsl_t e] at this; exact absurd this (by decide)
      · rw [zsl_f (fun e => ne a ((hB a).mp e).1 z)]
  · obtain ⟨n', m, h1, h2, h3, h4, h5⟩ := hDp c' hc'
    refine ⟨n', m, h1, h2, h3, h4, zLF_c h5 (zQd_g (Z := A) (fun a e => zsl_f e) (fun a e z => zn 3 (by decide) a e z.1) (fun a e z => ?_)) (fun a q => ?_) (fun _ _ => rfl)⟩
    · have := z.1; rw [zsl_t e] at this; exact absurd this (by decide)
    · rw [zsl_f (fun e => absurd (q.1.symm.trans (zb a e)) (by decide))]
end
end
section
/-! attr against X's arrays, one store -/
section
variable {ab ex sz al se nc lm bc rz rm fl : Nat → Int32} {c : Nat}
theorem zAt_3 (h : zAt ab ex sz al se nc lm bc rz rm fl) (v : Int32) : zAt (upd ab (c * 9 + 3) v) ex sz al se (upd nc c v) lm bc rz rm fl := by
  intro d hd
  obtain ⟨h0, h1, h2, h3, h4, h5, h6, h7, h8⟩ := h d hd
  refine ⟨(pk_un (by omega)).trans h0, (pk_un (by omega)).trans h1, (pk_un (by omega)).trans h2, ?_, fun z => (pk_un (by omega)).trans (h4 z), (pk_un (by omega)).trans h5, (pk_un (by omega)).trans h6, (pk_un (by omega)).trans h7, (pk_un (by omega)).trans h8⟩
  by_cases e : d = c
  · rw [e, pk_us, pk_us]
  · rw [pk_un (by omega), pk_un e]; exact h3
theorem zAt_4 (h : zAt ab ex sz al se nc lm bc rz rm fl) (v : Int32) : zAt (upd ab (c * 9 + 4) v) ex sz al se nc (upd lm c v) bc rz rm fl := by
  intro d hd
  obtain ⟨h0, h1, h2, h3, h4, h5, h6, h7, h8⟩ := h d hd
  refine ⟨(pk_un (by omega)).trans h0, (pk_un (by omega)).trans h1, (pk_un (by omega)).trans h2, (pk_un (by omega)).trans h3, ?_, (pk_un (by omega)).trans h5, (pk_un (by omega)).trans h6, (pk_un (by omega)).trans h7, (pk_un (by omega)).trans h8⟩
  intro z
  by_cases e : d = c
  · rw [e, pk_us, pk_us]
  · rw [pk_un (by omega), pk_un e]; exact h4 z
theorem zAt_5 (h : zAt ab ex sz al se nc lm bc rz rm fl) (v : Int32) : zAt (upd ab (c * 9 + 5) v) ex sz al se nc lm (upd bc c v) rz rm fl := by
  intro d hd
  obtain ⟨h0, h1, h2, h3, h4, h5, h6, h7, h8⟩ := h d hd
  refine ⟨(pk_un (by omega)).trans h0, (pk_un (by omega)).trans h1, (pk_un (by omega)).trans h2, (pk_un (by omega)).trans h3, fun z => (pk_un (by omega)).trans (h4 z), ?_, (pk_un (by omega)).trans h6, (pk_un (by omega)).trans h7, (pk_un (by omega)).trans h8⟩
  by_cases e : d = c
  · rw [e, pk_us, pk_us]
  · rw [pk_un (by omega), pk_un e]; exact h5
theorem zAt_6 (h : zAt ab ex sz al se nc lm bc rz rm fl) (v : Int32) : zAt (upd ab (c * 9 + 6) v) ex sz al se nc lm bc (upd rz c v) rm fl := by
  intro d hd
  obtain ⟨h0, h1, h2, h3, h4, h5, h6, h7, h8⟩ := h d hd
  refine ⟨(pk_un (by omega)).trans h0, (pk_un (by omega)).trans h1, (pk_un (by omega)).trans h2, (pk_un (by omega)).trans h3, fun z => (pk_un (by omega)).trans (h4 z), (pk_un (by omega)).trans h5, ?_, (pk_un (by omega)).trans h7, (pk_un (by omega)).trans h8⟩
  by_cases e : d = c
  · rw [e, pk_us, pk_us]
  · rw [pk_un (by omega), pk_un e]; exact h6
theorem zAt_7 (h : zAt ab ex sz al se nc lm bc rz rm fl) (v : Int32) : zAt (upd ab (c * 9 + 7) v) ex sz al se nc lm bc rz (upd rm c v) fl := by
  intro d hd
  obtain ⟨h0, h1, h2, h3, h4, h5, h6, h7, h8⟩ := h d hd
  refine ⟨(pk_un (by omega)).trans h0, (pk_un (by omega)).trans h1, (pk_un (by omega)).trans h2, (pk_un (by omega)).trans h3, fun z => (pk_un (by omega)).trans (h4 z), (pk_un (by omega)).trans h5, (pk_un (by omega)).trans h6, ?_, (pk_un (by omega)).trans h8⟩
  by_cases e : d = c
  · rw [e, pk_us, pk_us]
  · rw [pk_un (by omega), pk_un e]; exact h7
theorem zAt_8 (h : zAt ab ex sz al se nc lm bc rz rm fl) (v : Int32) : zAt (upd ab (c * 9 + 8) v) ex sz al se nc lm bc rz rm (upd fl c v) := by
  intro d hd
  obtain ⟨h0, h1, h2, h3, h4, h5, h6, h7, h8⟩ := h d hd
  refine ⟨(pk_un (by omega)).trans h0, (pk_un (by omega)).trans h1, (pk_un (by omega)).trans h2, (pk_un (by omega)).trans h3, fun z => (pk_un (by omega)).trans (h4 z), (pk_un (by omega)).trans h5, (pk_un (by omega)).trans h6, (pk_un (by omega)).trans h7, ?_⟩
  by_cases e : d = c
  · rw [e, pk_us, pk_us]
  · rw [pk_un (by omega), pk_un e]; exact h8
end
/-! laws: pages and caches -/
section
variable {P C M D : Nat} {ow co wd pl ho ex sz al se ps nc lm bc rz rm fl lv sk sc dp dc hd po cl ab : Nat → Int32}
variable {x c p s g g' n : Nat} {Z : Nat → Prop} {ow' co' pl' ho' hd' po' cl' sk' sc' ab' bc' rz' rm' fl' : Nat → Int32}
theorem zQs_h {u : Nat} (hn : ∀ a, ¬ Z a → pl' a = pl a ∧ hd' a = hd a ∧ ow' (a / 32) = ow (a / 32)) (h1 : ∀ a, Z a → ¬ pl a = 2) (h2 : ∀ a, Z a → ¬ pl' a = 2) (a : Nat) : zQs ow' pl' hd' u c a ↔ zQs ow pl hd u c a := by
  by_cases e : Z a
  · exact ⟨fun z => absurd z.1 (h2 a e), fun z => absurd z.1 (h1 a e)⟩
  · unfold zQs
    rw [(hn a e).1, (hn a e).2.1, (hn a e).2.2]
theorem zQd_h (hn : ∀ a, ¬ Z a → pl' a = pl a ∧ ow' (a / 32) = ow (a / 32)) (h1 : ∀ a, Z a → ¬ pl a = 3) (h2 : ∀ a, Z a → ¬ pl' a = 3) (a : Nat) : zQd ow' pl' c a ↔ zQd ow pl c a := by
  by_cases e : Z a
  · exact ⟨fun z => absurd z.1 (h2 a e), fun z => absurd z.1 (h1 a e)⟩
  · unfold zQd
    rw [(hn a e).1, (hn a e).2]
theorem zQl_h (hn : ∀ a, ¬ Z a → pl' a = pl a ∧ ow' (a / 32) = ow (a / 32)) (h1 : ∀ a, Z a → ¬ pl a = 1) (h2 : ∀ a, Z a → ¬ pl' a = 1) (a : Nat) : zQl ow' pl' c a ↔ zQl ow pl c a := by
  by_cases e : Z a
  · exact ⟨fun z => absurd z.1 (h2 a e), fun z => absurd z.1 (h1 a e)⟩
  · unfold zQl
    rw [(hn a e).1, (hn a e).2]
theorem zl_at (h : zR P C M D ow co pl ho ex sz al se ps nc lm bc rz rm fl lv sk sc dp dc hd po cl ab) (hA : zAt ab' ex sz al se nc lm bc' rz' rm' fl') : zR P C M D ow co pl ho ex sz al se ps nc lm bc' rz' rm' fl' lv sk sc dp dc hd po cl ab' := by
  obtain ⟨hBd, hPg, hOb, hNm, hCa, hAt, hHd, hCo, hSk, hDp, hLv⟩ := h
  exact ⟨hBd, hPg, hOb, hNm, hCa, hA, hHd, hCo, hSk, hDp, hLv⟩
/-- a page without an owner among the caches holds no object -/
theorem zl_free (h : zR P C M D ow co pl ho ex sz al se ps nc lm bc rz rm fl lv sk sc dp dc hd po cl ab) (hp : ∀ c, c < 4 → ¬ ow p = nI c) {a : Nat} (ha : a / 32 = p) : pl a = 0 := by
  by_cases z : pl a = 0
  · exact z
  · obtain ⟨c, h1, h2⟩ := zO_ow h z
    rw [ha] at h2
    exact absurd h2 (hp c h1)
theorem zl_carve (h : zR P C M D ow co pl ho ex sz al se ps nc lm bc rz rm fl lv sk sc dp dc hd po cl ab) (hp : p < P) (hc : c < 4) (hw : ow p = -1) (hex : ¬ ex c = 0) (hs : sz c = nI s) (s1 : 2 ≤ s) (s2 : s ≤ 16) (hg : g + 32 / s * s ≤ 32) (hg' : g' + 32 / s * s ≤ 32)
    (hZ : ∀ a, Z a ↔ ∃ j, j < 32 / s ∧ p * 32 + g + j * s = a) (p1 : ∀ a, Z a → pl' a = 4) (p2 : ∀ a, ¬ Z a → pl' a = pl a ∧ ho' a = ho a ∧ hd' a = hd a ∧ po' a = po a) (p3 : ∀ a, Z a → ho' a = -1) (v : Int32)
    (hA : zAt ab' ex sz al se (upd nc c (nI g')) lm bc' rz rm fl) :
    zR P C M D (upd ow p (nI c)) (upd co p v) pl' ho' ex sz al se ps (upd nc c (nI g')) lm bc' rz rm fl lv sk sc dp dc hd' po' (upd cl p v) ab' := by
  have hP : P ≤ 8 := h.1.2.1
  have hfree : ∀ a, a / 32 = p → pl a = 0 := fun a ha => zl_free h (fun c' hc' e => absurd (e.symm.trans hw) (zi_n1 (by omega))) ha
  have hin : ∀ a, Z a → a / 32 = p ∧ a % 32 + s ≤ 32 := by
    intro a z
    obtain ⟨j, hj, e⟩ := (hZ a).mp z
    have : (j + 1) * s ≤ 32 / s * s := Nat.mul_le_mul_right s hj
    rw [Nat.succ_mul] at this
    omega
  have hn : ∀ a, ¬ a / 32 = p → pl' a = pl a ∧ hd' a = hd a ∧ upd ow p (nI c) (a / 32) = ow (a / 32) := fun a ha =>
    have z : ¬ Z a := fun z => ha (hin a z).1
    ⟨(p2 a z).1, (p2 a z).2.2.1, pk_un ha⟩
  have h04 : ∀ a, a / 32 = p → pl' a = 0 ∨ pl' a = 4 := fun a ha => by
    by_cases z : Z a
    · exact Or.inr (p1 a z)
    · exact Or.inl ((p2 a z).1.trans (hfree a ha))
  have hno : ∀ w : Int32, ¬ (0 : Int32) = w → ¬ (4 : Int32) = w → (∀ a, a / 32 = p → ¬ pl a = w) ∧ (∀ a, a / 32 = p → ¬ pl' a = w) := fun w w0 w4 =>
    ⟨fun a ha => by rw [hfree a ha]; exact w0, fun a ha => by
      rcases h04 a ha with e | e
      · rw [e]; exact w0
      · rw [e]; exact w4⟩
  have hcl : (sz c).toNatClampNeg = s := by rw [hs]; exact nI_clamp (by omega)
  obtain ⟨hBd, hPg, hOb, hNm, hCa, hAt, hHd, hCo, hSk, hDp, hLv⟩ := h
  refine ⟨hBd, fun q hq => ?_, fun a ha => ?_, fun q c' hq hc' e => ?_, fun c' hc' => ?_, hA, fun a => ?_, fun q c' hq hc' e => ?_, fun u c' hu hc' => ?_, fun c' hc' => ?_, fun c' hc' => ?_⟩
  · by_cases e : q = p
    · rw [e, pk_us]
      exact ⟨fun z => by omega, Or.inr (Or.inr ⟨c, hc, rfl, hex⟩)⟩
    · rw [pk_un e]; exact hPg q hq
  · by_cases z : Z a
    · have y := hin a z
      refine ⟨by omega, Or.inr (Or.inr (Or.inr (p1 a z))), c, hc, ?_, by rw [hcl]; exact y.2⟩
      rw [y.1, pk_us]
    · rw [(p2 a z).1] at ha ⊢
      have na : ¬ a / 32 = p := fun e => ha (hfree a e)
      rw [pk_un na]
      exact hOb a ha
  · by_cases z : q = p
    · rw [z, pk_us] at e
      have ec : c = c' := zi_inj (by omega) (by omega) e
      rw [z, ← ec, hcl]
      rw [zcn_eq (Q := fun w => ¬ pl' (32 * p + w) = 0) (Q' := fun w => ∃ j, j < 32 / s ∧ g + j * s = w)]
      · refine zcn_T (fun w j => g + j * s = w) 32 (32 / s) (fun j hj => ⟨g + j * s, ?_, rfl⟩) (fun w i j hi hj t1 t2 => ?_) (fun a b i hi t1 t2 => t1.symm.trans t2)
        · have : (j + 1) * s ≤ 32 / s * s := Nat.mul_le_mul_right s hj
          rw [Nat.succ_mul] at this
          omega
        · have : i * s = j * s := by omega
          exact Nat.eq_of_mul_eq_mul_right (by omega) this
      · intro w hw'
        constructor
        · intro ne
          by_cases zz : Z (32 * p + w)
          · obtain ⟨j, hj, e2⟩ := (hZ _).mp zz
            exact ⟨j, hj, by omega⟩
          · exact absurd ((p2 _ zz).1.trans (hfree _ (by omega))) ne
        · intro ⟨j, hj, e2⟩
          have zz : Z (32 * p + w) := (hZ _).mpr ⟨j, hj, by omega⟩
          rw [p1 _ zz]; decide
    · rw [pk_un z] at e
      rw [← hNm q c' hq hc' e]
      refine zcn_eq (fun w hw' => ?_)
      rw [(hn _ (by omega)).1]
  · refine ⟨(hCa c' hc').1, fun y => ?_⟩
    by_cases z : c' = c
    · obtain ⟨s', g0, l, h1, h2, h3, h4, h5, h6, h7⟩ := (hCa c' hc').2 y
      rw [z] at h1 h5 ⊢
      have es : s' = s := zi_inj (by omega) (by omega) (h1.symm.trans hs)
      exact ⟨s, g', l, hs, s1, s2, pk_us, h5, h6, hg'⟩
    · rw [pk_un z]; exact (hCa c' hc').2 y
  · by_cases z : Z a
    · rw [p1 a z]
      exact ⟨fun z => absurd z (by decide), fun z => absurd z (by decide), fun z => absurd z (by decide), fun _ => p3 a z⟩
    · rw [(p2 a z).1, (p2 a z).2.1, (p2 a z).2.2.1]; exact hHd a
  · by_cases z : q = p
    · rw [z, pk_us, pk_us]
    · rw [pk_un z] at e
      rw [pk_un z, pk_un z]; exact hCo q c' hq hc' e
  · obtain ⟨n, h1, h2, h3⟩ := hSk u c' hu hc'
    refine ⟨n, h1, h2, zLF_c h3 (zQs_h (Z := fun a => a / 32 = p) hn (hno 2 (by decide) (by decide)).1 (hno 2 (by decide) (by decide)).2) (fun a q => (p2 a (fun z => ?_)).2.2.2) (fun _ _ => rfl)⟩
    exact (hno 2 (by decide) (by decide)).1 a (hin a z).1 q.1
  · obtain ⟨n, m, h1, h2, h3, h4, h5⟩ := hDp c' hc'
    refine ⟨n, m, h1, h2, h3, h4, zLF_c h5 (zQd_h (Z := fun a => a / 32 = p) (fun a e => ⟨(hn a e).1, (hn a e).2.2⟩) (hno 3 (by decide) (by decide)).1 (hno 3 (by decide) (by decide)).2) (fun a q => (p2 a (fun z => ?_)).2.2.2) (fun _ _ => rfl)⟩
    exact (hno 3 (by decide) (by decide)).1 a (hin a z).1 q.1
  · rw [hLv c' hc']
    refine congrArg nI (zcn_eq (fun a _ => Iff.symm ?_))
    exact zQl_h (Z := fun a => a / 32 = p) (fun a e => ⟨(hn a e).1, (hn a e).2.2⟩) (hno 1 (by decide) (by decide)).1 (hno 1 (by decide) (by decide)).2 a
end
end
section
/-! laws: a page given back, a cache ended, a cache begun, whole pages, the start -/
section
variable {P C M D : Nat} {ow co wd pl ho ex sz al se ps nc lm bc rz rm fl lv sk sc dp dc hd po cl ab : Nat → Int32}
variable {c p : Nat} {Z : Nat → Prop} {ow' co' pl' ho' sz' al' se' ps' nc' sc' lm' ab' bc' rz' rm' fl' lv' : Nat → Int32}
/-- pages with G leave their cache; their objects are IN_SLAB or none -/
theorem zl_rel (h : zR P C M D ow co pl ho ex sz al se ps nc lm bc rz rm fl lv sk sc dp dc hd po cl ab) (hp : p < P) (hc : c < 4) (hw : ow p = nI c) (hall : ∀ a, a / 32 = p → pl a = 0 ∨ pl a = 4) (v : Int32) (hA : zAt ab' ex sz al se nc lm bc rz' rm fl) :
    zR P C M D (upd ow p (-1)) (upd co p v) (zsl (fun a => a / 32 = p) (fun _ => 0) pl) (zsl (fun a => a / 32 = p) (fun _ => -1) ho) ex sz al se ps nc lm bc rz' rm fl lv sk sc dp dc hd po cl ab' := by
  have hP : P ≤ 8 := h.1.2.1
  have t0 : ∀ {f : Nat → Int32} {w : Int32} {a : Nat}, a / 32 = p → zsl (fun a => a / 32 = p) (fun _ => w) f a = w := fun e => zsl_t (Q := fun a => a / 32 = p) e
  have f0 : ∀ {f : Nat → Int32} {w : Int32} {a : Nat}, ¬ a / 32 = p → zsl (fun a => a / 32 = p) (fun _ => w) f a = f a := fun e => zsl_f (Q := fun a => a / 32 = p) e
  have hno : ∀ w : Int32, ¬ (0 : Int32) = w → ¬ (4 : Int32) = w → (∀ a, a / 32 = p → ¬ pl a = w) := fun w w0 w4 a ha => by
    rcases hall a ha with e | e
    · rw [e]; exact w0
    · rw [e]; exact w4
  obtain ⟨hBd, hPg, hOb, hNm, hCa, hAt, hHd, hCo, hSk, hDp, hLv⟩ := h
  refine ⟨hBd, fun q hq => ?_, fun a ha => ?_, fun q c' hq hc' e => ?_, hCa, hA, fun a => ?_, fun q c' hq hc' e => ?_, fun u c' hu hc' => ?_, fun c' hc' => ?_, fun c' hc' => ?_⟩
  · by_cases e : q = p
    · rw [e, pk_us]; exact ⟨fun _ => rfl, Or.inl rfl⟩
    · rw [pk_un e]; exact hPg q hq
  · by_cases z : a / 32 = p
    · rw [t0 z] at ha; exact absurd rfl ha
    · rw [f0 z] at ha ⊢
      rw [pk_un z]; exact hOb a ha
  · by_cases z : q = p
    · rw [z, pk_us] at e; exact absurd e.symm (zi_n1 (by omega))
    · rw [pk_un z] at e
      rw [← hNm q c' hq hc' e]
      refine zcn_eq (fun w hw' => ?_)
      rw [f0 (by omega)]
  · by_cases z : a / 32 = p
    · rw [t0 z]
      exact ⟨fun z => absurd z (by decide), fun z => absurd z (by decide), fun z => absurd z (by decide), fun z => absurd z (by decide)⟩
    · rw [f0 z, f0 z]; exact hHd a
  · by_cases z : q = p
    · rw [z, pk_us] at e; exact absurd e.symm (zi_n1 (by omega))
    · rw [pk_un z] at e
      rw [pk_un z]; exact hCo q c' hq hc' e
  · obtain ⟨n, h1, h2, h3⟩ := hSk u c' hu hc'
    refine ⟨n, h1, h2, zLF_c h3 (zQs_h (Z := fun a => a / 32 = p) (fun a e => ⟨f0 e, rfl, pk_un e⟩) (hno 2 (by decide) (by decide)) (fun a e => ?_)) (fun a q => rfl) (fun _ _ => rfl)⟩
    rw [t0 e]; decide
  · obtain ⟨n, m, h1, h2, h3, h4, h5⟩ := hDp c' hc'
    refine ⟨n, m, h1, h2, h3, h4, zLF_c h5 (zQd_h (Z := fun a => a / 32 = p) (fun a e => ⟨f0 e, pk_un e⟩) (hno 3 (by decide) (by decide)) (fun a e => ?_)) (fun a q => rfl) (fun _ _ => rfl)⟩
    rw [t0 e]; decide
  · rw [hLv c' hc']
    refine congrArg nI (zcn_eq (fun a _ => Iff.symm ?_))
    refine zQl_h (Z := fun a => a / 32 = p) (fun a e => ⟨f0 e, pk_un e⟩) (hno 1 (by decide) (by decide)) (fun a e => ?_) a
    rw [t0 e]; decide
theorem zl_dst (h : zR P C M D ow co pl ho ex sz al se ps nc lm bc rz rm fl lv sk sc dp dc hd po cl ab) (hc : c < 4) (hlive : ∀ a, ¬ (pl a = 1 ∧ ow (a / 32) = nI c)) (hZ : ∀ a, Z a ↔ (a < 256 ∧ ow (a / 32) = nI c)) (p1 : ∀ a, Z a → pl' a = 0) (p2 : ∀ a, ¬ Z a → pl' a = pl a ∧ ho' a = ho a)
    (o1 : ∀ q, q < 8 → ow q = nI c → ow' q = -1) (o2 : ∀ q, q < 8 → ¬ ow q = nI c → ow' q = ow q ∧ co' q = co q) (v : Int32) (hv : v = 0) (c1 : ∀ u, u < 4 → sc' (u * 4 + c) = 0) (c2 : ∀ u c', u < 4 → c' < 4 → c' ≠ c → sc' (u * 4 + c') = sc (u * 4 + c')) :
    zR P C M D ow' co' pl' ho' (upd ex c v) sz al se ps nc (upd lm c 0) bc rz rm fl lv sk sc' dp (upd dc c 0) hd po cl ab := by
  have hP : P ≤ 8 := h.1.2.1
  have hlt : ∀ a, ¬ pl a = 0 → a < 256 := fun a z => zO_lt h z
  obtain ⟨hBd, hPg, hOb, hNm, hCa, hAt, hHd, hCo, hSk, hDp, hLv⟩ := h
  have o3 : ∀ q, q < 8 → ∀ c', c' < 4 → ow' q = nI c' → c' ≠ c ∧ ow q = nI c' := by
    intro q hq c' hc' e
    by_cases z : ow q = nI c
    · rw [o1 q hq z] at e; exact absurd e.symm (zi_n1 (by omega))
    · rw [(o2 q hq z).1] at e
      exact ⟨fun y => z (by rw [← y]; exact e), e⟩
  have keep : ∀ a, ¬ pl' a = 0 → ¬ Z a ∧ pl' a = pl a ∧ ho' a = ho a ∧ a < 256 ∧ ow' (a / 32) = ow (a / 32) := by
    intro a ha
    have z : ¬ Z a := fun z => ha (p1 a z)
    have e := (p2 a z).1
    have hl := hlt a (by rw [← e]; exact ha)
    exact ⟨z, e, (p2 a z).2, hl, (o2 (a / 32) (by omega) (fun y => z ((hZ a).mpr ⟨hl, y⟩))).1⟩
  have keep2 : ∀ a, ¬ pl a = 0 → ¬ ow (a / 32) = nI c → pl' a = pl a ∧ ow' (a / 32) = ow (a / 32) := by
    intro a ha y
    have hl := hlt a ha
    have z : ¬ Z a := fun z => y ((hZ a).mp z).2
    exact ⟨(p2 a z).1, (o2 (a / 32) (by omega) y).1⟩
  refine ⟨hBd, fun q hq => ?_, fun a ha => ?_, fun q c' hq hc' e => ?_, fun c' hc' => ?_, fun c' hc' => ?_, fun a => ?_, fun q c' hq hc' e => ?_, fun u c' hu hc' => ?_, fun c' hc' => ?_, fun c' hc' => ?_⟩
  · by_cases z : ow q = nI c
    · rw [o1 q hq z]; exact ⟨fun _ => rfl, Or.inl rfl⟩
    · rw [(o2 q hq z).1]
      refine ⟨(hPg q hq).1, ?_⟩
      rcases (hPg q hq).2 with y | y | ⟨c', h1, h2, h3⟩
      · exact Or.inl y
      · exact Or.inr (Or.inl y)
      · refine Or.inr (Or.inr ⟨c', h1, h2, ?_⟩)
        rw [pk_un (fun y => z (by rw [← y]; exact h2))]; exact h3
  · have k := keep a ha
    rw [k.2.1] at ha ⊢
    rw [k.2.2.2.2]
    exact hOb a ha
  · have y := o3 q hq c' hc' e
    rw [← hNm q c' hq hc' y.2]
    refine zcn_eq (fun w hw' => not_congr ?_)
    have z : ¬ Z (32 * q + w) := fun z => y.1 (zi_inj (by omega) (by omega) (by
      have := ((hZ _).mp z).2
      rw [show (32 * q + w) / 32 = q by omega] at this
      exact y.2.symm.trans this))
    rw [(p2 _ z).1]
  · refine ⟨(hCa c' hc').1, fun y => (hCa c' hc').2 ?_⟩
    by_cases z : c' = c
    · rw [z, pk_us] at y; exact absurd hv y
    · rw [pk_un z] at y; exact y
  · obtain ⟨h0, h1, h2, h3, h4, h5, h6, h7, h8⟩ := hAt c' hc'
    refine ⟨h0, h1, h2, h3, fun y => ?_, h5, h6, h7, h8⟩
    by_cases z : c' = c
    · rw [z, pk_us] at y; exact absurd hv y
    · rw [pk_un z] at y ⊢; exact h4 y
  · by_cases ha : pl' a = 0
    · rw [ha]
      exact ⟨fun z => absurd z (by decide), fun z => absurd z (by decide), fun z => absurd z (by decide), fun z => absurd z (by decide)⟩
    · have k := keep a ha
      rw [k.2.1, k.2.2.1]; exact hHd a
  · have y := o3 q hq c' hc' e
    have z : ¬ ow q = nI c := fun z => y.1 (zi_inj (by omega) (by omega) (y.2.symm.trans z))
    rw [(o2 q hq z).2]
    exact hCo q c' hq hc' y.2
  · by_cases z : c' = c
    · rw [z]
      refine ⟨0, c1 u hu, by omega, zLF_0 (fun a q => ?_)⟩
      have ha : ¬ pl' a = 0 := by rw [q.1]; decide
      have k := keep a ha
      exact (o3 (a / 32) (by omega) c hc q.2.1).1 rfl
    · obtain ⟨n, h1, h2, h3⟩ := hSk u c' hu hc'
      refine ⟨n, by rw [c2 u c' hu hc' z]; exact h1, h2, zLF_c h3 (fun a => ⟨fun q => ?_, fun q => ?_⟩) (fun a q => rfl) (fun _ _ => rfl)⟩
      · have k := keep a (by rw [q.1]; decide)
        exact ⟨k.2.1.symm.trans q.1, k.2.2.2.2.symm.trans q.2.1, q.2.2⟩
      · have k := keep2 a (by rw [q.1]; decide) (fun y => z (zi_inj (by omega) (by omega) (q.2.1.symm.trans y)))
        exact ⟨k.1.trans q.1, k.2.trans q.2.1, q.2.2⟩
  · by_cases z : c' = c
    · rw [z]
      refine ⟨0, 0, pk_us, pk_us, by omega, by omega, ?_⟩
      rw [Nat.zero_mul]
      refine zLF_0 (fun a q => ?_)
      have ha : ¬ pl' a = 0 := by rw [q.1]; decide
      have k := keep a ha
      exact (o3 (a / 32) (by omega) c hc q.2).1 rfl
    · obtain ⟨n, m, h1, h2, h3, h4, h5⟩ := hDp c' hc'
      refine ⟨n, m, by rw [pk_un z]; exact h1, by rw [pk_un z]; exact h2, h3, h4, zLF_c h5 (fun a => ⟨fun q => ?_, fun q => ?_⟩) (fun a q => rfl) (fun _ _ => rfl)⟩
      · have k := keep a (by rw [q.1]; decide)
        exact ⟨k.2.1.symm.trans q.1, k.2.2.2.2.symm.trans q.2⟩
      · have k := keep2 a (by rw [q.1]; decide) (fun y => z (zi_inj (by omega) (by omega) (q.2.symm.trans y)))
        exact ⟨k.1.trans q.1, k.2.trans q.2⟩
  · rw [hLv c' hc']
    refine congrArg nI (zcn_eq (fun a _ => ⟨fun q => ?_, fun q => ?_⟩))
    · have y : ¬ ow (a / 32) = nI c := fun y => hlive a ⟨q.1, y⟩
      have k := keep2 a (by rw [q.1]; decide) y
      exact ⟨k.1.trans q.1, k.2.trans q.2⟩
    · have k := keep a (by rw [q.1]; decide)
      exact ⟨k.2.1.symm.trans q.1, k.2.2.2.2.symm.trans q.2⟩
theorem zl_crt (h : zR P C M D ow co pl ho ex sz al se ps nc lm bc rz rm fl lv sk sc dp dc hd po cl ab) (hc : c < 4) (h0 : ex c = 0) {s l : Nat} (s1 : 2 ≤ s) (s2 : s ≤ 16) (l2 : l ≤ 16) (v q : Int32) (c1 : ∀ u, u < 4 → sc' (u * 4 + c) = 0) (c2 : ∀ u c', u < 4 → c' < 4 → c' ≠ c → sc' (u * 4 + c') = sc (u * 4 + c'))
    (hA : zAt ab' (upd ex c v) (upd sz c (nI s)) (upd al c (nI l)) (upd se c q) (upd nc c 0) (upd lm c 0) (upd bc c 0) (upd rz c 0) (upd rm c 0) (upd fl c 0)) (hv : ¬ v = 0) :
    zR P C M D ow co pl ho (upd ex c v) (upd sz c (nI s)) (upd al c (nI l)) (upd se c q) (upd ps c (nI (32 / s))) (upd nc c 0) (upd lm c 0) (upd bc c 0) (upd rz c 0) (upd rm c 0) (upd fl c 0) (upd lv c 0) sk sc' dp (upd dc c 0) hd po cl ab' := by
  have hP : P ≤ 8 := h.1.2.1
  have hlt : ∀ a, ¬ pl a = 0 → a < 256 := fun a z => zO_lt h z
  have hno : ∀ p, p < 8 → ¬ ow p = nI c := fun p hp e => zO_ex h hp hc e h0
  have hcl : (upd sz c (nI s) c).toNatClampNeg = s := by rw [pk_us]; exact nI_clamp (by omega)
  obtain ⟨hBd, hPg, hOb, hNm, hCa, hAt, hHd, hCo, hSk, hDp, hLv⟩ := h
  refine ⟨hBd, fun q hq => ⟨(hPg q hq).1, ?_⟩, fun a ha => ?_, fun q c' hq hc' e => ?_, fun c' hc' => ?_, hA, hHd, hCo, fun u c' hu hc' => ?_, fun c' hc' => ?_, fun c' hc' => ?_⟩
  · rcases (hPg q hq).2 with y | y | ⟨c', h1, h2, h3⟩
    · exact Or.inl y
    · exact Or.inr (Or.inl y)
    · refine Or.inr (Or.inr ⟨c', h1, h2, ?_⟩)
      rw [pk_un (fun y => hno q hq (by rw [← y]; exact h2))]; exact h3
  · obtain ⟨h1, h2, c', h3, h4, h5⟩ := hOb a ha
    refine ⟨h1, h2, c', h3, h4, ?_⟩
    rw [pk_un (fun y => hno (a / 32) (by omega) (by rw [← y]; exact h4))]; exact h5
  · rw [pk_un (fun y => hno q hq (by rw [← y]; exact e))]
    exact hNm q c' hq hc' e
  · by_cases z : c' = c
    · rw [z, hcl, pk_us]
      refine ⟨rfl, fun _ => ⟨s, 0, l, pk_us, s1, s2, pk_us, pk_us, l2, ?_⟩⟩
      have := Nat.div_mul_le_self 32 s
      omega
    · rw [pk_un z, pk_un z, pk_un z, pk_un z, pk_un z]; exact hCa c' hc'
  · by_cases z : c' = c
    · rw [z]
      refine ⟨0, c1 u hu, by omega, zLF_0 (fun a q => ?_)⟩
      have := hlt a (by rw [q.1]; decide)
      exact hno (a / 32) (by omega) q.2.1
    · obtain ⟨n, h1, h2, h3⟩ := hSk u c' hu hc'
      exact ⟨n, by rw [c2 u c' hu hc' z]; exact h1, h2, h3⟩
  · by_cases z : c' = c
    · rw [z]
      refine ⟨0, 0, pk_us, pk_us, by omega, by omega, ?_⟩
      rw [Nat.zero_mul]
      refine zLF_0 (fun a q => ?_)
      have := hlt a (by rw [q.1]; decide)
      exact hno (a / 32) (by omega) q.2
    · obtain ⟨n, m, h1, h2, h3, h4, h5⟩ := hDp c' hc'
      exact ⟨n, m, by rw [pk_un z]; exact h1, by rw [pk_un z]; exact h2, h3, h4, h5⟩
  · by_cases z : c' = c
    · rw [z, pk_us, zcn_z (fun a ha q => hno (a / 32) (by omega) q.2)]; rfl
    · rw [pk_un z]; exact hLv c' hc'
theorem zl_own (h : zR P C M D ow co pl ho ex sz al se ps nc lm bc rz rm fl lv sk sc dp dc hd po cl ab) (hp : p < P) {v : Int32} (h1 : ow p = -1 ∨ ow p = -16) (h2 : v = -1 ∨ v = -16) : zR P C M D (upd ow p v) co pl ho ex sz al se ps nc lm bc rz rm fl lv sk sc dp dc hd po cl ab := by
  have hP : P ≤ 8 := h.1.2.1
  have hn : ∀ c, c < 4 → ¬ ow p = nI c := fun c hc e => by
    rcases h1 with y | y
    · exact absurd (e.symm.trans y) (zi_n1 (by omega))
    · exact absurd (e.symm.trans y) (zi_n16 (by omega))
  have hv : ∀ c, c < 4 → ¬ v = nI c := fun c hc e => by
    rcases h2 with y | y
    · exact absurd (e.symm.trans y) (zi_n1 (by omega))
    · exact absurd (e.symm.trans y) (zi_n16 (by omega))
  have hfree : ∀ a, a / 32 = p → pl a = 0 := fun a ha => zl_free h hn ha
  have hl : ∀ w : Int32, ¬ (0 : Int32) = w → ∀ a, a / 32 = p → ¬ pl a = w := fun w hw a ha => by rw [hfree a ha]; exact hw
  obtain ⟨hBd, hPg, hOb, hNm, hCa, hAt, hHd, hCo, hSk, hDp, hLv⟩ := h
  refine ⟨hBd, fun q hq => ?_, fun a ha => ?_, fun q c' hq hc' e => ?_, hCa, hAt, hHd, fun q c' hq hc' e => ?_, fun u c' hu hc' => ?_, fun c' hc' => ?_, fun c' hc' => ?_⟩
  · by_cases e : q = p
    · rw [e, pk_us]
      refine ⟨fun z => by omega, ?_⟩
      rcases h2 with y | y
      · exact Or.inl y
      · exact Or.inr (Or.inl y)
    · rw [pk_un e]; exact hPg q hq
  · rw [pk_un (fun z => ha (hfree a z))]; exact hOb a ha
  · by_cases z : q = p
    · rw [z, pk_us] at e; exact absurd e (hv c' hc')
    · rw [pk_un z] at e; exact hNm q c' hq hc' e
  · by_cases z : q = p
    · rw [z, pk_us] at e; exact absurd e (hv c' hc')
    · rw [pk_un z] at e; exact hCo q c' hq hc' e
  · obtain ⟨n, g1, g2, g3⟩ := hSk u c' hu hc'
    exact ⟨n, g1, g2, zLF_c g3 (zQs_h (Z := fun a => a / 32 = p) (fun a e => ⟨rfl, rfl, pk_un e⟩) (hl 2 (by decide)) (hl 2 (by decide))) (fun a q => rfl) (fun _ _ => rfl)⟩
  · obtain ⟨n, m, g1, g2, g3, g4, g5⟩ := hDp c' hc'
    exact ⟨n, m, g1, g2, g3, g4, zLF_c g5 (zQd_h (Z := fun a => a / 32 = p) (fun a e => ⟨rfl, pk_un e⟩) (hl 3 (by decide)) (hl 3 (by decide))) (fun a q => rfl) (fun _ _ => rfl)⟩
  · rw [hLv c' hc']
    refine congrArg nI (zcn_eq (fun a _ => Iff.symm ?_))
    exact zQl_h (Z := fun a => a / 32 = p) (fun a e => ⟨rfl, pk_un e⟩) (hl 1 (by decide)) (hl 1 (by decide)) a
theorem zl_init (hb : zBd P C M D) (how : ∀ p, p < 8 → ow p = -1) : zR P C M D ow (fun _ => 0) (fun _ => 0) ho (fun _ => 0) (fun _ => 0) (fun _ => 0) (fun _ => 0) (fun _ => 0) (fun _ => 0) (fun _ => 0) (fun _ => 0) (fun _ => 0) (fun _ => 0) (fun _ => 0) (fun _ => 0) (fun _ => 0) (fun _ => 0) (fun _ => 0) (fun _ => 0) (fun _ => 0) (fun _ => 0) (fun _ => 0) (fun _ => 0) := by
  refine ⟨hb, fun q hq => ⟨fun _ => how q hq, Or.inl (how q hq)⟩, fun a ha => absurd rfl ha, fun q c' hq hc' e => ?_, fun c' hc' => ⟨?_, fun y => absurd rfl y⟩, fun c' hc' => ⟨rfl, rfl, rfl, rfl, fun _ => rfl, rfl, rfl, rfl, rfl⟩, fun a => ⟨fun z => absurd (show (0 : Int32) = 1 from z) (by decide), fun z => absurd (show (0 : Int32) = 2 from z) (by decide), fun z => absurd (show (0 : Int32) = 3 from z) (by decide), fun z => absurd (show (0 : Int32) = 4 from z) (by decide)⟩, fun q c' hq hc' e => rfl, fun u c' hu hc' => ⟨0, rfl, by omega, zLF_0 (fun a q => absurd (show (0 : Int32) = 2 from q.1) (by decide))⟩, fun c' hc' => ⟨0, 0, rfl, rfl, by omega, by omega, ?_⟩, fun c' hc' => ?_⟩
  · rw [how q hq] at e; exact absurd e.symm (zi_n1 (by omega))
  · show (0 : Int32) = nI (32 / (0 : Int32).toNatClampNeg)
    decide
  · rw [Nat.zero_mul]; exact zLF_0 (fun a q => absurd (show (0 : Int32) = 3 from q.1) (by decide))
  · show (0 : Int32) = nI _
    rw [zcn_z (fun a _ q => absurd (show (0 : Int32) = 1 from q.1) (by decide))]; rfl
end
end
section
/-! walks: checks, on both sides -/
theorem zu_id {f : Nat → Int32} {k : Nat} {v : Int32} (h : f k = v) : upd f k v = f := by
  funext j
  by_cases e : j = k
  · rw [e, pk_us, h]
  · rw [pk_un e]
theorem zu_uu {f : Nat → Int32} {k : Nat} {v w : Int32} : upd (upd f k v) k w = upd f k w := by
  funext j
  by_cases e : j = k
  · rw [e, pk_us, pk_us]
  · rw [pk_un e, pk_un e, pk_un e]
def zBc (ex : Nat → Int32) (v : Int32) : Prop := v < 0 ∨ nI 4 ≤ v ∨ ∃ c, c < 4 ∧ v = nI c ∧ ex c = 0
def zBo (P : Nat) (pl : Nat → Int32) (v : Int32) : Prop := v < 0 ∨ nI (32 * P) ≤ v ∨ ∃ a, a < 32 * P ∧ v = nI a ∧ pl a = 0
theorem zc_ca (ex : Nat → Int32) (v : Int32) : zBc ex v ∨ ∃ c, c < 4 ∧ v = nI c ∧ ¬ ex c = 0 := by
  rcases pk_ix v (n := 4) (by decide) with h | h | ⟨c, hc, e⟩
  · exact Or.inl (Or.inl h)
  · exact Or.inl (Or.inr (Or.inl h))
  · by_cases z : ex c = 0
    · exact Or.inl (Or.inr (Or.inr ⟨c, hc, e, z⟩))
    · exact Or.inr ⟨c, hc, e, z⟩
theorem zc_ob (P : Nat) (hP : P ≤ 8) (pl : Nat → Int32) (v : Int32) : zBo P pl v ∨ ∃ a, a < 32 * P ∧ v = nI a ∧ ¬ pl a = 0 := by
  rcases pk_ix v (n := 32 * P) (by omega) with h | h | ⟨c, hc, e⟩
  · exact Or.inl (Or.inl h)
  · exact Or.inl (Or.inr (Or.inl h))
  · by_cases z : pl c = 0
    · exact Or.inl (Or.inr (Or.inr ⟨c, hc, e, z⟩))
    · exact Or.inr ⟨c, hc, e, z⟩
theorem zc_ng {v : Int32} {n : Nat} (hn : n < 2 ^ 31) (h : nI n ≤ v) : ¬ v < 0 := fun z => by
  have h0 : (0 : Int32) ≤ nI n := nI_pos' hn
  exact absurd (Int32.lt_of_lt_of_le z (Int32.le_trans h0 h)) (Int32.lt_irrefl)
section
variable {P C M D : Nat} {ow co wd pl ho ex sz al se ps nc lm bc rz rm fl lv sk sc dp dc hd po cl ab : Nat → Int32}
variable {fi fm : Nat → Int32} {post : Int32 → Prop} {v : Int32} {p c u a : Nat}
theorem xw_cpu_b (h : v < 0 ∨ nI C ≤ v) (k : post 1) (hC : C ≤ 4) : wpX_noCpu post (nI P, nI C, nI M, nI D, ow, co, fi, fm, wd, pl, ho, ex, sz, al, se, ps, nc, lm, bc, rz, rm, fl, lv, sk, sc, dp, dc) v := by
  unfold wpX_noCpu
  rcases h with h | h
  · exact br_t h k
  · exact br_f (zc_ng (by omega) h) (br_f (Int32.not_lt.mpr h) k)
theorem xw_cpu_g (h : u < C) (k : post 0) (hC : C ≤ 4) : wpX_noCpu post (nI P, nI C, nI M, nI D, ow, co, fi, fm, wd, pl, ho, ex, sz, al, se, ps, nc, lm, bc, rz, rm, fl, lv, sk, sc, dp, dc) (nI u) := by
  unfold wpX_noCpu
  exact br_f (nI_pos (by omega)) (br_t (nI_lt h (by omega)) k)
theorem xw_pg_b (h : v < 0 ∨ nI P ≤ v) (k : post 1) (hP : P ≤ 8) : wpX_noPage post (nI P, nI C, nI M, nI D, ow, co, fi, fm, wd, pl, ho, ex, sz, al, se, ps, nc, lm, bc, rz, rm, fl, lv, sk, sc, dp, dc) v := by
  unfold wpX_noPage
  rcases h with h | h
  · exact br_t h k
  · exact br_f (zc_ng (by omega) h) (br_f (Int32.not_lt.mpr h) k)
theorem xw_pg_g (h : p < P) (k : post 0) (hP : P ≤ 8) : wpX_noPage post (nI P, nI C, nI M, nI D, ow, co, fi, fm, wd, pl, ho, ex, sz, al, se, ps, nc, lm, bc, rz, rm, fl, lv, sk, sc, dp, dc) (nI p) := by
  unfold wpX_noPage
  exact br_f (nI_pos (by omega)) (br_t (nI_lt h (by omega)) k)
theorem xw_ca_b (h : zBc ex v) (k : post 1) : wpX_noCache post (nI P, nI C, nI M, nI D, ow, co, fi, fm, wd, pl, ho, ex, sz, al, se, ps, nc, lm, bc, rz, rm, fl, lv, sk, sc, dp, dc) v := by
  unfold wpX_noCache
  rcases h with h | h | ⟨c, hc, e, z⟩
  · exact br_t h k
  · exact br_f (zc_ng (by decide) h) (br_t h k)
  · rw [e]
    exact br_f (nI_pos (by omega)) (br_f (nI_ge (b := 4) hc (by decide)) ⟨vp_in_nI hc (by decide), br_t (by rw [nI_clamp (by omega)]; exact z) k⟩)
theorem xw_ca_g (hc : c < 4) (z : ¬ ex c = 0) (k : post 0) : wpX_noCache post (nI P, nI C, nI M, nI D, ow, co, fi, fm, wd, pl, ho, ex, sz, al, se, ps, nc, lm, bc, rz, rm, fl, lv, sk, sc, dp, dc) (nI c) := by
  unfold wpX_noCache
  exact br_f (nI_pos (by omega)) (br_f (nI_ge (b := 4) hc (by decide)) ⟨vp_in_nI hc (by decide), br_f (by rw [nI_clamp (by omega)]; exact z) k⟩)
theorem xw_ob_b (h : zBo P pl v) (k : post 1) (hP : P ≤ 8) : wpX_noObject post (nI P, nI C, nI M, nI D, ow, co, fi, fm, wd, pl, ho, ex, sz, al, se, ps, nc, lm, bc, rz, rm, fl, lv, sk, sc, dp, dc) v := by
  unfold wpX_noObject
  rcases h with h | h | ⟨c, hc, e, z⟩
  · exact br_t h k
  · exact br_f (zc_ng (by omega) h) (br_t (by rw [zi_32l]; exact h) k)
  · rw [e]
    exact br_f (nI_pos (by omega)) (br_f (by rw [zi_32l]; exact nI_ge hc (by omega)) ⟨vp_in_nI (by omega) (by decide), br_t (by rw [nI_clamp (by omega)]; exact z) k⟩)
theorem xw_ob_g (ha : a < 32 * P) (z : ¬ pl a = 0) (k : post 0) (hP : P ≤ 8) : wpX_noObject post (nI P, nI C, nI M, nI D, ow, co, fi, fm, wd, pl, ho, ex, sz, al, se, ps, nc, lm, bc, rz, rm, fl, lv, sk, sc, dp, dc) (nI a) := by
  unfold wpX_noObject
  exact br_f (nI_pos (by omega)) (br_f (by rw [zi_32l]; exact nI_ge ha (by omega)) ⟨vp_in_nI (by omega) (by decide), br_f (by rw [nI_clamp (by omega)]; exact z) k⟩)
theorem yw_ca_b (h : zBc ex v) (k : post 0) : wpY_exists post (nI P, nI C, nI M, nI D, wd, pl, hd, po, ow, cl, ex, ab) v := by
  unfold wpY_exists
  rcases h with h | h | ⟨c, hc, e, z⟩
  · exact br_t h k
  · exact br_f (zc_ng (by decide) h) (br_t h k)
  · rw [e]
    exact br_f (nI_pos (by omega)) (br_f (nI_ge (b := 4) hc (by decide)) ⟨vp_in_nI hc (by decide), br_t (by rw [nI_clamp (by omega)]; exact z) k⟩)
theorem yw_ca_g (hc : c < 4) (z : ¬ ex c = 0) (k : post 1) : wpY_exists post (nI P, nI C, nI M, nI D, wd, pl, hd, po, ow, cl, ex, ab) (nI c) := by
  unfold wpY_exists
  exact br_f (nI_pos (by omega)) (br_f (nI_ge (b := 4) hc (by decide)) ⟨vp_in_nI hc (by decide), br_f (by rw [nI_clamp (by omega)]; exact z) k⟩)
theorem yw_ob_b (h : zBo P pl v) (k : post 0) (hP : P ≤ 8) : wpY_isObject post (nI P, nI C, nI M, nI D, wd, pl, hd, po, ow, cl, ex, ab) v := by
  unfold wpY_isObject
  rcases h with h | h | ⟨c, hc, e, z⟩
  · exact br_t h k
  · exact br_f (zc_ng (by omega) h) (br_t (by rw [zi_32l]; exact h) k)
  · rw [e]
    exact br_f (nI_pos (by omega)) (br_f (by rw [zi_32l]; exact nI_ge hc (by omega)) ⟨vp_in_nI (by omega) (by decide), br_t (by rw [nI_clamp (by omega)]; exact z) k⟩)
theorem yw_ob_g (ha : a < 32 * P) (z : ¬ pl a = 0) (k : post 1) (hP : P ≤ 8) : wpY_isObject post (nI P, nI C, nI M, nI D, wd, pl, hd, po, ow, cl, ex, ab) (nI a) := by
  unfold wpY_isObject
  exact br_f (nI_pos (by omega)) (br_f (by rw [zi_32l]; exact nI_ge ha (by omega)) ⟨vp_in_nI (by omega) (by decide), br_f (by rw [nI_clamp (by omega)]; exact z) k⟩)
/-- isIn at an address of the pages -/
theorem yw_isin {w : Int32} {cc : Int32} (ha : a < 256) (kt : pl a = w → ow (a / 32) = cc → post 1) (kf : ¬ (pl a = w ∧ ow (a / 32) = cc) → post 0) : wpY_isIn post (nI P, nI C, nI M, nI D, wd, pl, hd, po, ow, cl, ex, ab) (nI a) cc w := by
  unfold wpY_isIn
  have c1 : (nI a).toNatClampNeg = a := nI_clamp (by omega)
  have c2 : (nI a / 32).toNatClampNeg = a / 32 := by rw [zi_div (by omega), nI_clamp (by omega)]
  refine ⟨vp_in_nI ha (by decide), br_c (fun h => ⟨zi_32ne, ?_, br_c (fun h2 => ?_) (fun h2 => ?_)⟩) (fun h => ?_)⟩
  · rw [zi_div (by omega)]; exact vp_in_nI (by omega) (by decide)
  · rw [c1] at h; rw [c2] at h2; exact kt h h2
  · rw [c2] at h2; exact kf (fun z => h2 z.2)
  · rw [c1] at h; exact kf (fun z => h z.1)
end
end
section
/-! X's walks: one object to its slab, a page given back, lists forgotten, one object to a stock -/
section
variable {P C M D : Nat} {ow co wd pl ho ex sz al se ps nc lm bc rz rm fl lv sk sc dp dc hd po cl ab : Nat → Int32}
variable {fi fm : Nat → Int32} {post : SX → Prop} {x p c u n m : Nat}
theorem xw_ret (hx : x < 256) (h4 : ¬ pl x = 4) (k : post (nI P, nI C, nI M, nI D, ow, co, (zFI (upd pl x 4)), (zFM (upd pl x 4)), wd, (upd pl x 4), (upd ho x (-1)), ex, sz, al, se, ps, nc, lm, bc, rz, rm, fl, lv, sk, sc, dp, dc)) : wpX_returnObject post (nI P, nI C, nI M, nI D, ow, co, (zFI pl), (zFM pl), wd, pl, ho, ex, sz, al, se, ps, nc, lm, bc, rz, rm, fl, lv, sk, sc, dp, dc) (nI x) := by
  unfold wpX_returnObject
  have c1 : (nI x).toNatClampNeg = x := nI_clamp (by omega)
  have i1 : vp_in (nI x) 256 := vp_in_nI hx (by decide)
  have i2 : vp_in (nI (x / 32)) 8 := vp_in_nI (by omega) (by decide)
  refine nm_r (zi_shr (by omega)) ⟨i1, nm_r (e' := upd pl x 4) (by rw [c1]) ⟨i1, nm_r (e' := upd ho x (-1)) (by rw [c1]) ⟨i2, i2, nm_r (e' := zFM (upd pl x 4)) ?_ ⟨i2, i2, nm_r (e' := zFI (upd pl x 4)) ?_ k⟩⟩⟩⟩
  · rw [nI_clamp (by omega), zi_and (by omega)]; exact zFM_set
  · rw [nI_clamp (by omega)]; exact zFI_set h4
theorem xw_rel_7 (hp : p < 8) (k : post (nI P, nI C, nI M, nI D, (upd ow p (-1)), (upd co p 0), (zFI (zsl (fun a => a / 32 = p) (fun _ => 0) pl)), (zFM (zsl (fun a => a / 32 = p) (fun _ => 0) pl)), wd, (zsl (fun a => a / 32 = p) (fun _ => 0) pl), (zsl (fun a => a / 32 = p) (fun _ => -1) ho), ex, sz, al, se, ps, nc, lm, bc, rz, rm, fl, lv, sk, sc, dp, dc)) :
    ∀ d i, i + d = 32 → wX_releaseSlab_7 post (nI p) (nI (p * 32)) (nI P) (nI C) (nI M) (nI D) (d + 1) (nI i) ow co (zFI pl) (zFM pl) wd (zws pl (fun w => p * 32 + w) (fun _ => 0) i) (zws ho (fun w => p * 32 + w) (fun _ => -1) i) ex sz al se ps nc lm bc rz rm fl lv sk sc dp dc := by
  have c1 : (nI p).toNatClampNeg = p := nI_clamp (by omega)
  have i1 : vp_in (nI p) 8 := vp_in_nI hp (by decide)
  have hQ : ∀ a, a / 32 = p ↔ ∃ i, i < 32 ∧ p * 32 + i = a := fun a => ⟨fun e => ⟨a % 32, by omega, by omega⟩, fun ⟨i, hi, e⟩ => by omega⟩
  have e0 : zws pl (fun w => p * 32 + w) (fun _ => 0) 32 = zsl (fun a => a / 32 = p) (fun _ => 0) pl := zws_sl hQ
  have e1 : zws ho (fun w => p * 32 + w) (fun _ => -1) 32 = zsl (fun a => a / 32 = p) (fun _ => -1) ho := zws_sl hQ
  intro d
  induction d with
  | zero =>
    intro i hi
    have e : i = 32 := by omega
    rw [e, e0, e1]
    refine br_t (nI_le (a := 32) (by omega) (by decide)) ⟨i1, nm_r (e' := upd ow p (-1)) (by rw [c1]) ⟨i1, nm_r (e' := upd co p 0) (by rw [c1]) ⟨i1, nm_r (e' := zFI (zsl (fun a => a / 32 = p) (fun _ => 0) pl)) ?_ ⟨i1, nm_r (e' := zFM (zsl (fun a => a / 32 = p) (fun _ => 0) pl)) ?_ k⟩⟩⟩⟩
    · rw [c1]
      exact zFI_z (fun w hw => by rw [zsl_t (Q := fun a => a / 32 = p) (show (32 * p + w) / 32 = p by omega)]; decide) (fun a ha => zsl_f (Q := fun a => a / 32 = p) ha)
    · rw [c1]
      exact zFM_z (fun w hw => by rw [zsl_t (Q := fun a => a / 32 = p) (show (32 * p + w) / 32 = p by omega)]; decide) (fun a ha => zsl_f (Q := fun a => a / 32 = p) ha)
  | succ d ih =>
    intro i hi
    have a1 : nI (p * 32) + nI i = nI (p * 32 + i) := nI_add _ _
    have c2 : (nI (p * 32) + nI i).toNatClampNeg = p * 32 + i := by rw [a1]; exact nI_clamp (by omega)
    have i2 : vp_in (nI (p * 32) + nI i) 256 := by rw [a1]; exact vp_in_nI (by omega) (by decide)
    exact br_f (nI_ge (b := 32) (by omega) (by decide)) ⟨i2, nm_r (by rw [c2]; rfl) ⟨i2, nm_r (by rw [c2]; rfl) (nm_r (nI_1 i) (ih (i + 1) (by omega)))⟩⟩
theorem xw_rel (hp : p < 8) (k : post (nI P, nI C, nI M, nI D, (upd ow p (-1)), (upd co p 0), (zFI (zsl (fun a => a / 32 = p) (fun _ => 0) pl)), (zFM (zsl (fun a => a / 32 = p) (fun _ => 0) pl)), wd, (zsl (fun a => a / 32 = p) (fun _ => 0) pl), (zsl (fun a => a / 32 = p) (fun _ => -1) ho), ex, sz, al, se, ps, nc, lm, bc, rz, rm, fl, lv, sk, sc, dp, dc)) : wpX_releaseSlab post (nI P, nI C, nI M, nI D, ow, co, (zFI pl), (zFM pl), wd, pl, ho, ex, sz, al, se, ps, nc, lm, bc, rz, rm, fl, lv, sk, sc, dp, dc) (nI p) := by
  unfold wpX_releaseSlab
  exact nm_r (zi_32 p) ⟨33, xw_rel_7 hp k 32 0 rfl⟩
theorem xw_fgt_2 (hc : c < 4) (k : post (nI P, nI C, nI M, nI D, ow, co, fi, fm, wd, pl, ho, ex, sz, al, se, ps, nc, (upd lm c 0), bc, rz, rm, fl, lv, sk, (zws sc (fun i => i * 4 + c) (fun _ => 0) 4), dp, (upd dc c 0))) :
    ∀ d i, i + d = 4 → wX_forgetLists_2 post (nI c) (nI P) (nI C) (nI M) (nI D) (d + 1) (nI i) ow co fi fm wd pl ho ex sz al se ps nc lm bc rz rm fl lv sk (zws sc (fun i => i * 4 + c) (fun _ => 0) i) dp dc := by
  have c1 : (nI c).toNatClampNeg = c := nI_clamp (by omega)
  have i1 : vp_in (nI c) 4 := vp_in_nI hc (by decide)
  intro d
  induction d with
  | zero =>
    intro i hi
    have e : i = 4 := by omega
    rw [e]
    exact br_t (nI_le (a := 4) (by omega) (by decide)) ⟨i1, nm_r (e' := upd dc c 0) (by rw [c1]) ⟨i1, nm_r (e' := upd lm c 0) (by rw [c1]) k⟩⟩
  | succ d ih =>
    intro i hi
    have a1 : nI i * 4 + nI c = nI (i * 4 + c) := by rw [zi_4, nI_add]
    have c2 : (nI i * 4 + nI c).toNatClampNeg = i * 4 + c := by rw [a1]; exact nI_clamp (by omega)
    have i2 : vp_in (nI i * 4 + nI c) 16 := by rw [a1]; exact vp_in_nI (by omega) (by decide)
    exact br_f (nI_ge (b := 4) (by omega) (by decide)) ⟨i2, nm_r (by rw [c2]; rfl) (nm_r (nI_1 i) (ih (i + 1) (by omega)))⟩
theorem xw_fgt (hc : c < 4) (k : post (nI P, nI C, nI M, nI D, ow, co, fi, fm, wd, pl, ho, ex, sz, al, se, ps, nc, (upd lm c 0), bc, rz, rm, fl, lv, sk, (zws sc (fun i => i * 4 + c) (fun _ => 0) 4), dp, (upd dc c 0))) : wpX_forgetLists post (nI P, nI C, nI M, nI D, ow, co, fi, fm, wd, pl, ho, ex, sz, al, se, ps, nc, lm, bc, rz, rm, fl, lv, sk, sc, dp, dc) (nI c) := by
  unfold wpX_forgetLists
  exact ⟨5, xw_fgt_2 hc k 4 0 rfl⟩
theorem xw_push (hu : u < 4) (hc : c < 4) (hx : x < 256) (hn : sc (u * 4 + c) = nI n) (h8 : n < 8) (k : post (nI P, nI C, nI M, nI D, ow, co, fi, fm, wd, (upd pl x 2), (upd ho x (nI u)), ex, sz, al, se, ps, nc, lm, bc, rz, rm, fl, lv, (upd sk ((u * 4 + c) * 8 + n) (nI x)), (upd sc (u * 4 + c) (nI (n + 1))), dp, dc)) : wpX_pushStock post (nI P, nI C, nI M, nI D, ow, co, fi, fm, wd, pl, ho, ex, sz, al, se, ps, nc, lm, bc, rz, rm, fl, lv, sk, sc, dp, dc) (nI u) (nI c) (nI x) := by
  unfold wpX_pushStock
  have a1 : nI u * 4 + nI c = nI (u * 4 + c) := by rw [zi_4, nI_add]
  have c1 : (nI (u * 4 + c)).toNatClampNeg = u * 4 + c := nI_clamp (by omega)
  have i1 : vp_in (nI (u * 4 + c)) 16 := vp_in_nI (by omega) (by decide)
  have cx : (nI x).toNatClampNeg = x := nI_clamp (by omega)
  have ix : vp_in (nI x) 256 := vp_in_nI hx (by decide)
  have a2 : nI (u * 4 + c) * 8 + sc (nI (u * 4 + c)).toNatClampNeg = nI ((u * 4 + c) * 8 + n) := by rw [c1, hn, zi_8, nI_add]
  refine nm_r a1 ⟨i1, ?_, nm_r (e' := upd sk ((u * 4 + c) * 8 + n) (nI x)) ?_ ⟨i1, i1, nm_r (e' := upd sc (u * 4 + c) (nI (n + 1))) ?_ ⟨ix, nm_r (e' := upd pl x 2) (by rw [cx]) ⟨ix, nm_r (e' := upd ho x (nI u)) (by rw [cx]) k⟩⟩⟩⟩
  · rw [a2]; exact vp_in_nI (by omega) (by decide)
  · rw [a2, nI_clamp (by omega)]
  · rw [c1, hn, nI_1]
theorem xw_low (hc : c < 4) (hn : dc c = nI n) (hm : lm c = nI m) (h1 : n < 1000) (h2 : m < 1000) (k : post (nI P, nI C, nI M, nI D, ow, co, fi, fm, wd, pl, ho, ex, sz, al, se, ps, nc, (upd lm c (nI (min m n))), bc, rz, rm, fl, lv, sk, sc, dp, dc)) : wpX_lowerMark post (nI P, nI C, nI M, nI D, ow, co, fi, fm, wd, pl, ho, ex, sz, al, se, ps, nc, lm, bc, rz, rm, fl, lv, sk, sc, dp, dc) (nI c) := by
  unfold wpX_lowerMark
  have c1 : (nI c).toNatClampNeg = c := nI_clamp (by omega)
  have i1 : vp_in (nI c) 4 := vp_in_nI hc (by decide)
  refine ⟨i1, i1, ?_⟩
  by_cases z : m ≤ n
  · refine br_t (by rw [c1, hm, hn]; exact nI_le z (by omega)) ?_
    rw [Nat.min_eq_left z, zu_id hm] at k
    exact k
  · refine br_f (by rw [c1, hm, hn]; exact nI_ge (by omega) (by omega)) ⟨i1, i1, nm_r (e' := upd lm c (nI (min m n))) ?_ k⟩
    rw [c1, hn, Nat.min_eq_right (by omega)]
theorem xw_rf_35 {g : Nat → Nat} {b : Nat} (hM : M ≤ 4) (hu : u < 4) (hc : c < 4) (hb : b + M ≤ 64) (hg : ∀ i, i < M → dp (b + i) = nI (g i) ∧ g i < 256)
    (k : post (nI P, nI C, nI M, nI D, ow, co, fi, fm, wd, (zws pl g (fun _ => 2) M), (zws ho g (fun _ => nI u) M), ex, sz, al, se, ps, nc, lm, bc, rz, rm, fl, lv, (zws sk (fun i => (u * 4 + c) * 8 + i) (fun i => nI (g i)) M), (upd sc (u * 4 + c) (nI M)), dp, dc)) :
    ∀ d i, i + d = M → wX_refillStock_35 post (nI u) (nI c) (nI b) (d + 1) (nI i) (nI P) (nI C) (nI M) (nI D) ow co fi fm wd (zws pl g (fun _ => 2) i) (zws ho g (fun _ => nI u) i) ex sz al se ps nc lm bc rz rm fl lv (zws sk (fun i => (u * 4 + c) * 8 + i) (fun i => nI (g i)) i) (upd sc (u * 4 + c) (nI i)) dp dc := by
  intro d
  induction d with
  | zero =>
    intro i hi
    have e : i = M := by omega
    rw [e]
    exact br_t (nI_le (by omega) (by omega)) k
  | succ d ih =>
    intro i hi
    have a1 : nI b + nI i = nI (b + i) := nI_add _ _
    have c1 : dp (nI b + nI i).toNatClampNeg = nI (g i) := by rw [a1, nI_clamp (by omega)]; exact (hg i (by omega)).1
    refine br_f (nI_ge (by omega) (by omega)) ⟨by rw [a1]; exact vp_in_nI (by omega) (by decide), ?_⟩
    rw [c1]
    refine xw_push hu hc (hg i (by omega)).2 pk_us (by omega) ?_
    rw [zu_uu]
    exact nm_r (nI_1 i) (ih (i + 1) (by omega))
theorem xw_rf {g : Nat → Nat} (hM : M ≤ 4) (hu : u < 4) (hc : c < 4) (hs : sc (u * 4 + c) = nI 0) (hn : dc c = nI (n + 1)) (hn4 : n < 4) (hm : lm c = nI m) (hm4 : m < 1000) (hg : ∀ i, i < M → dp (c * 16 + n * M + i) = nI (g i) ∧ g i < 256)
    (k : post (nI P, nI C, nI M, nI D, ow, co, fi, fm, wd, (zws pl g (fun _ => 2) M), (zws ho g (fun _ => nI u) M), ex, sz, al, se, ps, nc, (upd lm c (nI (min m n))), bc, rz, rm, fl, lv, (zws sk (fun i => (u * 4 + c) * 8 + i) (fun i => nI (g i)) M), (upd sc (u * 4 + c) (nI M)), dp, (upd dc c (nI n)))) :
    wpX_refillStock post (nI P, nI C, nI M, nI D, ow, co, fi, fm, wd, pl, ho, ex, sz, al, se, ps, nc, lm, bc, rz, rm, fl, lv, sk, sc, dp, dc) (nI u) (nI c) := by
  unfold wpX_refillStock
  have c1 : (nI c).toNatClampNeg = c := nI_clamp (by omega)
  have i1 : vp_in (nI c) 4 := vp_in_nI hc (by decide)
  have nM : n * M ≤ 12 := Nat.mul_le_mul (show n ≤ 3 by omega) hM
  refine ⟨i1, i1, nm_r (e' := upd dc c (nI n)) (by rw [c1, hn, nI_pred]) (xw_low (n := n) (m := m) hc pk_us hm (by omega) hm4 ⟨i1, nm_r (e' := nI (c * 16 + n * M)) ?_ ⟨M + 1, ?_⟩⟩)⟩
  · rw [c1, pk_us, zi_16, pk_mul, nI_add]
  · have r := xw_rf_35 (fi := fi) (fm := fm) (b := c * 16 + n * M) (dc := upd dc c (nI n)) (lm := upd lm c (nI (min m n))) hM hu hc (by omega) hg k M 0 (by omega)
    rw [zu_id hs] at r
    exact r
end
end
section
/-! Y's walks: tally, find, one object to its slab, counts of a page, a page given back -/
def zTy (ow pl hd : Nat → Int32) (cc w h : Int32) (a : Nat) : Prop := pl a = w ∧ ow (a / 32) = cc ∧ (h = -1 ∨ hd a = h)
section
variable {P C M D : Nat} {ow co wd pl ho ex sz al se ps nc lm bc rz rm fl lv sk sc dp dc hd po cl ab : Nat → Int32}
variable {post : Int32 → Prop} {cc w h t : Int32} {p x : Nat}
theorem yw_tly_6 (hP : P ≤ 8) (k : post (nI (zcn (zTy ow pl hd cc w h) (32 * P)))) : ∀ d i, i + d = 32 * P → wY_tally_6 post cc w h (nI P) (nI C) (nI M) (nI D) wd pl hd po ow cl ex ab (d + 1) (nI (zcn (zTy ow pl hd cc w h) i)) (nI i) := by
  intro d
  induction d with
  | zero =>
    intro i hi
    have e : i = 32 * P := by omega
    rw [e]
    exact br_t (by rw [zi_32l]; exact nI_le (by omega) (by omega)) k
  | succ d ih =>
    intro i hi
    have n1 := ih (i + 1) (by omega)
    have c1 : (nI i).toNatClampNeg = i := nI_clamp (by omega)
    refine br_f (by rw [zi_32l]; exact nI_ge (by omega) (by omega)) (yw_isin (by omega) (fun h1 h2 => br_f (by decide) (br_c (fun h3 => ?_) (fun h3 => ⟨vp_in_nI (by omega) (by decide), br_c (fun h4 => ?_) (fun h4 => ?_)⟩))) (fun hf => br_t rfl (nm_r (nI_1 i) ?_)))
    · rw [zcn_st ⟨h1, h2, Or.inl h3⟩, ← nI_1] at n1
      exact nm_e (nm_r (nI_1 i) n1)
    · rw [c1] at h4
      rw [zcn_st ⟨h1, h2, Or.inr h4⟩, ← nI_1] at n1
      exact nm_e (nm_r (nI_1 i) n1)
    · rw [c1] at h4
      rw [zcn_sf (fun z => z.2.2.elim h3 h4)] at n1
      exact nm_r (nI_1 i) n1
    · rw [zcn_sf (fun z => hf ⟨z.1, z.2.1⟩)] at n1
      exact n1
theorem yw_tly (hP : P ≤ 8) (k : post (nI (zcn (zTy ow pl hd cc w h) (32 * P)))) : wpY_tally post (nI P, nI C, nI M, nI D, wd, pl, hd, po, ow, cl, ex, ab) cc w h := by
  unfold wpY_tally
  exact ⟨32 * P + 1, yw_tly_6 hP k (32 * P) 0 (by omega)⟩
theorem yw_fnd_3 (hP : P ≤ 8) (hx : x < 32 * P) (h1 : pl x = w) (h2 : ow (x / 32) = cc) (h3 : hd x = h) (h4 : po x = t) (un : ∀ a, a < 32 * P → pl a = w → ow (a / 32) = cc → hd a = h → po a = t → a = x) (k : post (nI x)) : ∀ d i, i + d = x → wY_find_3 post cc w h t (nI P) (nI C) (nI M) (nI D) wd pl hd po ow cl ex ab (d + 1) (nI i) := by
  intro d
  induction d with
  | zero =>
    intro i hi
    have e : i = x := by omega
    rw [e]
    have c1 : (nI x).toNatClampNeg = x := nI_clamp (by omega)
    refine br_f (by rw [zi_32l]; exact nI_ge (by omega) (by omega)) (yw_isin (by omega) (fun _ _ => br_f (by decide) ⟨vp_in_nI (by omega) (by decide), br_t (by rw [c1]; exact h3) ⟨vp_in_nI (by omega) (by decide), br_t (by rw [c1]; exact h4) k⟩⟩) (fun hf => absurd ⟨h1, h2⟩ hf))
  | succ d ih =>
    intro i hi
    have n1 := ih (i + 1) (by omega)
    have c1 : (nI i).toNatClampNeg = i := nI_clamp (by omega)
    refine br_f (by rw [zi_32l]; exact nI_ge (by omega) (by omega)) (yw_isin (by omega) (fun g1 g2 => br_f (by decide) ⟨vp_in_nI (by omega) (by decide), br_c (fun g3 => ⟨vp_in_nI (by omega) (by decide), br_c (fun g4 => ?_) (fun g4 => nm_r (nI_1 i) n1)⟩) (fun g3 => nm_r (nI_1 i) n1)⟩) (fun hf => br_t rfl (nm_r (nI_1 i) n1)))
    rw [c1] at g3 g4
    have := un i (by omega) g1 g2 g3 g4
    omega
theorem yw_fnd (hP : P ≤ 8) (hx : x < 32 * P) (h1 : pl x = w) (h2 : ow (x / 32) = cc) (h3 : hd x = h) (h4 : po x = t) (un : ∀ a, a < 32 * P → pl a = w → ow (a / 32) = cc → hd a = h → po a = t → a = x) (k : post (nI x)) : wpY_find post (nI P, nI C, nI M, nI D, wd, pl, hd, po, ow, cl, ex, ab) cc w h t := by
  unfold wpY_find
  exact ⟨x + 1, yw_fnd_3 hP hx h1 h2 h3 h4 un k x 0 (by omega)⟩
theorem yw_ins_7 (hp : p < 8) (k : post (nI (zcn (fun w => pl (32 * p + w) = 4) 32))) : ∀ d i, i + d = 32 → wY_inSlab_7 post (nI p) (nI P) (nI C) (nI M) (nI D) wd pl hd po ow cl ex ab (d + 1) (nI (zcn (fun w => pl (32 * p + w) = 4) i)) (nI (32 * p + i)) := by
  have e0 : 32 * nI p + 32 = nI (32 * p + 32) := by rw [zi_32l, zi_a32]
  intro d
  induction d with
  | zero =>
    intro i hi
    have e : i = 32 := by omega
    rw [e]
    exact br_t (by rw [e0]; exact nI_le (by omega) (by omega)) k
  | succ d ih =>
    intro i hi
    have n1 := ih (i + 1) (by omega)
    have c1 : (nI (32 * p + i)).toNatClampNeg = 32 * p + i := nI_clamp (by omega)
    refine br_f (by rw [e0]; exact nI_ge (by omega) (by omega)) ⟨vp_in_nI (by omega) (by decide), br_c (fun g => ?_) (fun g => ?_)⟩
    · rw [c1] at g
      rw [zcn_st (Q := fun w => pl (32 * p + w) = 4) g, ← nI_1] at n1
      exact nm_e (nm_r (nI_1 _) n1)
    · rw [c1] at g
      rw [zcn_sf (Q := fun w => pl (32 * p + w) = 4) g] at n1
      exact nm_r (nI_1 _) n1
theorem yw_ins (hp : p < 8) (k : post (nI (zcn (fun w => pl (32 * p + w) = 4) 32))) : wpY_inSlab post (nI P, nI C, nI M, nI D, wd, pl, hd, po, ow, cl, ex, ab) (nI p) := by
  unfold wpY_inSlab
  exact nm_r (zi_32l p) ⟨33, yw_ins_7 hp k 32 0 rfl⟩
theorem yw_obs_7 (hp : p < 8) (k : post (nI (zcn (fun w => ¬ pl (32 * p + w) = 0) 32))) : ∀ d i, i + d = 32 → wY_objects_7 post (nI p) (nI P) (nI C) (nI M) (nI D) wd pl hd po ow cl ex ab (d + 1) (nI (zcn (fun w => ¬ pl (32 * p + w) = 0) i)) (nI (32 * p + i)) := by
  have e0 : 32 * nI p + 32 = nI (32 * p + 32) := by rw [zi_32l, zi_a32]
  intro d
  induction d with
  | zero =>
    intro i hi
    have e : i = 32 := by omega
    rw [e]
    exact br_t (by rw [e0]; exact nI_le (by omega) (by omega)) k
  | succ d ih =>
    intro i hi
    have n1 := ih (i + 1) (by omega)
    have c1 : (nI (32 * p + i)).toNatClampNeg = 32 * p + i := nI_clamp (by omega)
    refine br_f (by rw [e0]; exact nI_ge (by omega) (by omega)) ⟨vp_in_nI (by omega) (by decide), br_c (fun g => ?_) (fun g => ?_)⟩
    · rw [c1] at g
      rw [zcn_sf (Q := fun w => ¬ pl (32 * p + w) = 0) (fun z => z g)] at n1
      exact nm_r (nI_1 _) n1
    · rw [c1] at g
      rw [zcn_st (Q := fun w => ¬ pl (32 * p + w) = 0) g, ← nI_1] at n1
      exact nm_e (nm_r (nI_1 _) n1)
theorem yw_obs (hp : p < 8) (k : post (nI (zcn (fun w => ¬ pl (32 * p + w) = 0) 32))) : wpY_objects post (nI P, nI C, nI M, nI D, wd, pl, hd, po, ow, cl, ex, ab) (nI p) := by
  unfold wpY_objects
  exact nm_r (zi_32l p) ⟨33, yw_obs_7 hp k 32 0 rfl⟩
/-- the kind of a slab, by its two counts -/
theorem yw_knd (hp : p < 8) (k1 : zcn (fun w => pl (32 * p + w) = 4) 32 = zcn (fun w => ¬ pl (32 * p + w) = 0) 32 → post 1) (k3 : ¬ zcn (fun w => pl (32 * p + w) = 4) 32 = zcn (fun w => ¬ pl (32 * p + w) = 0) 32 → zcn (fun w => pl (32 * p + w) = 4) 32 = 0 → post 3)
    (k2 : ¬ zcn (fun w => pl (32 * p + w) = 4) 32 = zcn (fun w => ¬ pl (32 * p + w) = 0) 32 → ¬ zcn (fun w => pl (32 * p + w) = 4) 32 = 0 → post 2) : wpY_slabKind post (nI P, nI C, nI M, nI D, wd, pl, hd, po, ow, cl, ex, ab) (nI p) := by
  unfold wpY_slabKind
  have b1 := zcn_le (fun w => pl (32 * p + w) = 4) 32
  have b2 := zcn_le (fun w => ¬ pl (32 * p + w) = 0) 32
  exact yw_ins hp (yw_obs hp (pk_eq _ _ k1 (fun z => pk_eq _ 0 (k3 z) (k2 z))))
end
section
variable {P C M D : Nat} {ow co wd pl ho ex sz al se ps nc lm bc rz rm fl lv sk sc dp dc hd po cl ab : Nat → Int32}
variable {post : SY → Prop} {p x : Nat}
theorem yw_ret (hx : x < 256) (k : post (nI P, nI C, nI M, nI D, wd, (upd pl x 4), (upd hd x (-1)), (upd po x 0), ow, cl, ex, ab)) : wpY_toSlab post (nI P, nI C, nI M, nI D, wd, pl, hd, po, ow, cl, ex, ab) (nI x) := by
  unfold wpY_toSlab
  have c1 : (nI x).toNatClampNeg = x := nI_clamp (by omega)
  have i1 : vp_in (nI x) 256 := vp_in_nI hx (by decide)
  exact ⟨i1, nm_r (e' := upd pl x 4) (by rw [c1]) ⟨i1, nm_r (e' := upd hd x (-1)) (by rw [c1]) ⟨i1, nm_r (e' := upd po x 0) (by rw [c1]) k⟩⟩⟩
theorem yw_dis_5 (hp : p < 8) (k : post (nI P, nI C, nI M, nI D, wd, (zsl (fun a => a / 32 = p) (fun _ => 0) pl), hd, po, (upd ow p (-1)), cl, ex, ab)) : ∀ d i, i + d = 32 → wY_dissolve_5 post (nI p) (nI P) (nI C) (nI M) (nI D) (d + 1) (nI (32 * p + i)) wd (zws pl (fun w => 32 * p + w) (fun _ => 0) i) hd po ow cl ex ab := by
  have e0 : 32 * nI p + 32 = nI (32 * p + 32) := by rw [zi_32l, zi_a32]
  have c1 : (nI p).toNatClampNeg = p := nI_clamp (by omega)
  have e1 : zws pl (fun w => 32 * p + w) (fun _ => 0) 32 = zsl (fun a => a / 32 = p) (fun _ => 0) pl := zws_sl (fun a => ⟨fun e => ⟨a % 32, by omega, by omega⟩, fun ⟨i, hi, e⟩ => by omega⟩)
  intro d
  induction d with
  | zero =>
    intro i hi
    have e : i = 32 := by omega
    rw [e, e1]
    exact br_t (by rw [e0]; exact nI_le (by omega) (by omega)) ⟨vp_in_nI hp (by decide), nm_r (e' := upd ow p (-1)) (by rw [c1]) k⟩
  | succ d ih =>
    intro i hi
    have c2 : (nI (32 * p + i)).toNatClampNeg = 32 * p + i := nI_clamp (by omega)
    exact br_f (by rw [e0]; exact nI_ge (by omega) (by omega)) ⟨vp_in_nI (by omega) (by decide), nm_r (by rw [c2]; rfl) (nm_r (nI_1 _) (ih (i + 1) (by omega)))⟩
theorem yw_dis (hp : p < 8) (k : post (nI P, nI C, nI M, nI D, wd, (zsl (fun a => a / 32 = p) (fun _ => 0) pl), hd, po, (upd ow p (-1)), cl, ex, ab)) : wpY_dissolve post (nI P, nI C, nI M, nI D, wd, pl, hd, po, ow, cl, ex, ab) (nI p) := by
  unfold wpY_dissolve
  exact nm_r (zi_32l p) ⟨33, yw_dis_5 hp k 32 0 rfl⟩
end
end
section
/-! both sides in step: the lowest free page, the tightest slab, the lowest free object -/
section
variable {P C M D : Nat} {ow co wd pl ho ex sz al se ps nc lm bc rz rm fl lv sk sc dp dc hd po cl ab : Nat → Int32}
variable {fi fm : Nat → Int32} {cc : Int32} {p c x : Nat}
theorem xy_fp_2 (hP : P ≤ 8) : ∀ d i, i + d = P → ∃ r : Int32, (r = -1 ∨ ∃ p, p < P ∧ r = nI p ∧ ow p = -1) ∧ (∀ post : Int32 → Prop, post r → wX_lowestFreePage_2 post (nI P) (nI C) (nI M) (nI D) ow co fi fm wd pl ho ex sz al se ps nc lm bc rz rm fl lv sk sc dp dc (d + 1) (nI i)) ∧ (∀ post : Int32 → Prop, post r → wY_firstFree_2 post (nI P) (nI C) (nI M) (nI D) wd pl hd po ow cl ex ab (d + 1) (nI i)) := by
  intro d
  induction d with
  | zero =>
    intro i hi
    exact ⟨-1, Or.inl rfl, fun _ k => br_t (nI_le (by omega) (by omega)) k, fun _ k => br_t (nI_le (by omega) (by omega)) k⟩
  | succ d ih =>
    intro i hi
    have c1 : (nI i).toNatClampNeg = i := nI_clamp (by omega)
    have i1 : vp_in (nI i) 8 := vp_in_nI (by omega) (by decide)
    by_cases z : ow i = -1
    · have z' : ow (nI i).toNatClampNeg = -1 := by rw [c1]; exact z
      exact ⟨nI i, Or.inr ⟨i, by omega, rfl, z⟩, fun _ k => br_f (nI_ge (by omega) (by omega)) ⟨i1, br_t z' k⟩, fun _ k => br_f (nI_ge (by omega) (by omega)) ⟨i1, br_t z' k⟩⟩
    · have z' : ¬ ow (nI i).toNatClampNeg = -1 := by rw [c1]; exact z
      obtain ⟨r, h1, h2, h3⟩ := ih (i + 1) (by omega)
      exact ⟨r, h1, fun post k => br_f (nI_ge (by omega) (by omega)) ⟨i1, br_f z' (nm_r (nI_1 i) (h2 post k))⟩, fun post k => br_f (nI_ge (by omega) (by omega)) ⟨i1, br_f z' (nm_r (nI_1 i) (h3 post k))⟩⟩
theorem xy_fp (hP : P ≤ 8) : ∃ r : Int32, (r = -1 ∨ ∃ p, p < P ∧ r = nI p ∧ ow p = -1) ∧ (∀ post : Int32 → Prop, post r → wpX_lowestFreePage post (nI P, nI C, nI M, nI D, ow, co, fi, fm, wd, pl, ho, ex, sz, al, se, ps, nc, lm, bc, rz, rm, fl, lv, sk, sc, dp, dc)) ∧ (∀ post : Int32 → Prop, post r → wpY_firstFree post (nI P, nI C, nI M, nI D, wd, pl, hd, po, ow, cl, ex, ab)) := by
  obtain ⟨r, h1, h2, h3⟩ := xy_fp_2 (P := P) (C := C) (M := M) (D := D) (ow := ow) (co := co) (wd := wd) (pl := pl) (ho := ho) (ex := ex) (sz := sz) (al := al) (se := se) (ps := ps) (nc := nc) (lm := lm) (bc := bc) (rz := rz) (rm := rm) (fl := fl) (lv := lv) (sk := sk) (sc := sc) (dp := dp) (dc := dc) (hd := hd) (po := po) (cl := cl) (ab := ab) (fi := fi) (fm := fm) hP P 0 (by omega)
  refine ⟨r, h1, fun post k => ?_, fun post k => ?_⟩
  · unfold wpX_lowestFreePage; exact ⟨P + 1, h2 post k⟩
  · unfold wpY_firstFree; exact ⟨P + 1, h3 post k⟩
theorem xy_ts_8 (hP : P ≤ 8) : ∀ d i (b : Int32) (l : Nat), i + d = P → l ≤ 33 → (b = -1 ∨ ∃ p, p < P ∧ b = nI p ∧ ow p = cc ∧ 0 < zcn (fun w => pl (32 * p + w) = 4) 32) →
    ∃ r : Int32, (r = -1 ∨ ∃ p, p < P ∧ r = nI p ∧ ow p = cc ∧ 0 < zcn (fun w => pl (32 * p + w) = 4) 32) ∧ (∀ post : Int32 → Prop, post r → wX_tightestSlab_8 post cc (nI P) (nI C) (nI M) (nI D) ow co (zFI pl) (zFM pl) wd pl ho ex sz al se ps nc lm bc rz rm fl lv sk sc dp dc (d + 1) b (nI l) (nI i)) ∧
      (∀ post : Int32 → Prop, ((r = -1 → post (-1)) ∧ (¬ r = -1 → ∀ y : Int32, y = 32 * r → ∃ n : Nat, wY_pick_72 post r (nI P) (nI C) (nI M) (nI D) wd pl hd po ow cl ex ab n y)) → wY_pick_8 post cc (nI P) (nI C) (nI M) (nI D) wd pl hd po ow cl ex ab (d + 1) b (nI l) (nI i)) := by
  intro d
  induction d with
  | zero =>
    intro i b l hi hl hb
    exact ⟨b, hb, fun _ k => br_t (nI_le (by omega) (by omega)) k, fun _ k => br_t (nI_le (by omega) (by omega)) k⟩
  | succ d ih =>
    intro i b l hi hl hb
    have c1 : (nI i).toNatClampNeg = i := nI_clamp (by omega)
    have i1 : vp_in (nI i) 8 := vp_in_nI (by omega) (by decide)
    have hn : ¬ nI P ≤ nI i := nI_ge (by omega) (by omega)
    have zb := zcn_le (fun w => pl (32 * i + w) = 4) 32
    by_cases z : ow i = cc
    · have z' : ow (nI i).toNatClampNeg = cc := by rw [c1]; exact z
      have hf : zFI pl (nI i).toNatClampNeg = nI (zcn (fun w => pl (32 * i + w) = 4) 32) := by rw [c1]; rfl
      by_cases z0 : zcn (fun w => pl (32 * i + w) = 4) 32 = 0
      · obtain ⟨r, h1, h2, h3⟩ := ih (i + 1) b l (by omega) hl hb
        have q : nI (zcn (fun w => pl (32 * i + w) = 4) 32) ≤ 0 := by rw [z0]; decide
        exact ⟨r, h1, fun post k => br_f hn ⟨i1, br_t z' ⟨i1, br_t (by rw [hf]; exact q) (nm_r (nI_1 i) (h2 post k))⟩⟩, fun post k => br_f hn ⟨i1, br_t z' (yw_ins (by omega) (br_t q (nm_r (nI_1 i) (h3 post k))))⟩⟩
      · have q : ¬ nI (zcn (fun w => pl (32 * i + w) = 4) 32) ≤ 0 := nI_nle (by omega) (by omega)
        by_cases zl : l ≤ zcn (fun w => pl (32 * i + w) = 4) 32
        · obtain ⟨r, h1, h2, h3⟩ := ih (i + 1) b l (by omega) hl hb
          have q2 : nI l ≤ nI (zcn (fun w => pl (32 * i + w) = 4) 32) := nI_le zl (by omega)
          exact ⟨r, h1, fun post k => br_f hn ⟨i1, br_t z' ⟨i1, br_f (by rw [hf]; exact q) ⟨i1, br_t (by rw [hf]; exact q2) (nm_r (nI_1 i) (h2 post k))⟩⟩⟩, fun post k => br_f hn ⟨i1, br_t z' (yw_ins (by omega) (br_f q (br_t q2 (nm_r (nI_1 i) (h3 post k)))))⟩⟩
        · obtain ⟨r, h1, h2, h3⟩ := ih (i + 1) (nI i) (zcn (fun w => pl (32 * i + w) = 4) 32) (by omega) (by omega) (Or.inr ⟨i, by omega, rfl, z, by omega⟩)
          have q2 : ¬ nI l ≤ nI (zcn (fun w => pl (32 * i + w) = 4) 32) := nI_ge (by omega) (by omega)
          exact ⟨r, h1, fun post k => br_f hn ⟨i1, br_t z' ⟨i1, br_f (by rw [hf]; exact q) ⟨i1, br_f (by rw [hf]; exact q2) ⟨i1, nm_r hf (nm_r (nI_1 i) (h2 post k))⟩⟩⟩⟩, fun post k => br_f hn ⟨i1, br_t z' (yw_ins (by omega) (br_f q (br_f q2 (nm_r (nI_1 i) (h3 post k)))))⟩⟩
    · have z' : ¬ ow (nI i).toNatClampNeg = cc := by rw [c1]; exact z
      obtain ⟨r, h1, h2, h3⟩ := ih (i + 1) b l (by omega) hl hb
      exact ⟨r, h1, fun post k => br_f hn ⟨i1, br_f z' (nm_r (nI_1 i) (h2 post k))⟩, fun post k => br_f hn ⟨i1, br_f z' (nm_r (nI_1 i) (h3 post k))⟩⟩
theorem xw_tfs_15 {post : Int32 → SX → Prop} {w : Nat} (hp : p < 8) (hw : w < 32) (h4 : pl (32 * p + w) = 4) (hl : ∀ i, i < w → ¬ pl (32 * p + i) = 4) (k : post (nI (32 * p + w)) (nI P, nI C, nI M, nI D, ow, co, (zFI (upd pl (32 * p + w) 1)), (zFM (upd pl (32 * p + w) 1)), wd, pl, ho, ex, sz, al, se, ps, nc, lm, bc, rz, rm, fl, lv, sk, sc, dp, dc)) :
    ∀ d i, i + d = w → wX_takeFromSlabs_15 post (nI p) (nI P) (nI C) (nI M) (nI D) ow co (zFI pl) (zFM pl) wd pl ho ex sz al se ps nc lm bc rz rm fl lv sk sc dp dc (d + 1) (nI i) := by
  have c1 : (nI p).toNatClampNeg = p := nI_clamp (by omega)
  have i1 : vp_in (nI p) 8 := vp_in_nI hp (by decide)
  have ep : (32 * p + w) / 32 = p := by omega
  have ew : (32 * p + w) % 32 = w := by omega
  intro d
  induction d with
  | zero =>
    intro i hi
    have e : i = w := by omega
    rw [e]
    refine br_f (nI_ge (b := 32) (by omega) (by decide)) (nm_e ⟨i1, br_f ?_ ⟨i1, i1, nm_r (e' := zFM (upd pl (32 * p + w) 1)) ?_ ⟨i1, i1, nm_r (e' := zFI (upd pl (32 * p + w) 1)) ?_ ?_⟩⟩⟩)
    · rw [c1, zFM_test hw]; exact fun z => z h4
    · have r := zFM_clr (pl := pl) (x := 32 * p + w) (v := 1) (by decide)
      rw [ep, ew] at r
      rw [c1]; exact r
    · have r := zFI_clr (pl := pl) (x := 32 * p + w) (v := 1) (by decide) h4
      rw [ep] at r
      rw [c1]; exact r
    · rw [zi_32, nI_add, Nat.mul_comm p 32]; exact k
  | succ d ih =>
    intro i hi
    refine br_f (nI_ge (b := 32) (by omega) (by decide)) (nm_e ⟨i1, br_t ?_ (nm_r (nI_1 i) (ih (i + 1) (by omega)))⟩)
    rw [c1, zFM_test (by omega)]; exact hl i (by omega)
theorem yw_pk_72 {post : Int32 → Prop} {w : Nat} (hp : p < 8) (hw : w < 32) (h4 : pl (32 * p + w) = 4) (hl : ∀ i, i < w → ¬ pl (32 * p + i) = 4) (k : post (nI (32 * p + w))) :
    ∀ d i, i + d = w → wY_pick_72 post (nI p) (nI P) (nI C) (nI M) (nI D) wd pl hd po ow cl ex ab (d + 1) (nI (32 * p + i)) := by
  have e0 : 32 * nI p + 32 = nI (32 * p + 32) := by rw [zi_32l, zi_a32]
  intro d
  induction d with
  | zero =>
    intro i hi
    have e : i = w := by omega
    rw [e]
    exact br_f (by rw [e0]; exact nI_ge (by omega) (by omega)) ⟨vp_in_nI (by omega) (by decide), br_t (by rw [nI_clamp (by omega)]; exact h4) k⟩
  | succ d ih =>
    intro i hi
    exact br_f (by rw [e0]; exact nI_ge (by omega) (by omega)) ⟨vp_in_nI (by omega) (by decide), br_f (by rw [nI_clamp (by omega)]; exact hl i (by omega)) (nm_r (nI_1 _) (ih (i + 1) (by omega)))⟩
/-- taking from the slabs: none, or one object x, the same on both sides -/
theorem xy_tfs (hP : P ≤ 8) : ((∀ post : Int32 → SX → Prop, post (-1) (nI P, nI C, nI M, nI D, ow, co, (zFI pl), (zFM pl), wd, pl, ho, ex, sz, al, se, ps, nc, lm, bc, rz, rm, fl, lv, sk, sc, dp, dc) → wpX_takeFromSlabs post (nI P, nI C, nI M, nI D, ow, co, (zFI pl), (zFM pl), wd, pl, ho, ex, sz, al, se, ps, nc, lm, bc, rz, rm, fl, lv, sk, sc, dp, dc) cc) ∧ (∀ post : Int32 → Prop, post (-1) → wpY_pick post (nI P, nI C, nI M, nI D, wd, pl, hd, po, ow, cl, ex, ab) cc)) ∨
    ∃ x, pl x = 4 ∧ ow (x / 32) = cc ∧ (∀ post : Int32 → SX → Prop, post (nI x) (nI P, nI C, nI M, nI D, ow, co, (zFI (upd pl x 1)), (zFM (upd pl x 1)), wd, pl, ho, ex, sz, al, se, ps, nc, lm, bc, rz, rm, fl, lv, sk, sc, dp, dc) → wpX_takeFromSlabs post (nI P, nI C, nI M, nI D, ow, co, (zFI pl), (zFM pl), wd, pl, ho, ex, sz, al, se, ps, nc, lm, bc, rz, rm, fl, lv, sk, sc, dp, dc) cc) ∧ (∀ post : Int32 → Prop, post (nI x) → wpY_pick post (nI P, nI C, nI M, nI D, wd, pl, hd, po, ow, cl, ex, ab) cc) := by
  obtain ⟨r, h1, h2, h3⟩ := xy_ts_8 (P := P) (C := C) (M := M) (D := D) (ow := ow) (co := co) (wd := wd) (pl := pl) (ho := ho) (ex := ex) (sz := sz) (al := al) (se := se) (ps := ps) (nc := nc) (lm := lm) (bc := bc) (rz := rz) (rm := rm) (fl := fl) (lv := lv) (sk := sk) (sc := sc) (dp := dp) (dc := dc) (hd := hd) (po := po) (cl := cl) (ab := ab) (cc := cc) hP P 0 (-1) 33 (by omega) (by omega) (Or.inl rfl)
  rcases h1 with h1 | ⟨p, hp, e, ho, hc⟩
  · refine Or.inl ⟨fun post k => ?_, fun post k => ?_⟩
    · unfold wpX_takeFromSlabs wpX_tightestSlab
      exact ⟨P + 1, h2 _ (br_t h1 k)⟩
    · unfold wpY_pick
      exact ⟨P + 1, h3 _ (br_t h1 k)⟩
  · obtain ⟨w0, hw0, q0⟩ := zcn_pos hc
    obtain ⟨w, q, ql⟩ := pk_least (fun w => pl (32 * p + w) = 4) ⟨w0, q0⟩
    have hw : w < 32 := by
      rcases Nat.lt_or_ge w0 w with z | z
      · exact absurd q0 (ql w0 z)
      · omega
    have ep : (32 * p + w) / 32 = p := by omega
    have ne : ¬ r = -1 := by rw [e]; exact zi_n1 (by omega)
    refine Or.inr ⟨32 * p + w, q, by rw [ep]; exact ho, fun post k => ?_, fun post k => ?_⟩
    · unfold wpX_takeFromSlabs wpX_tightestSlab
      refine ⟨P + 1, h2 _ (br_f ne ⟨w + 1, ?_⟩)⟩
      rw [e]
      exact xw_tfs_15 (by omega) hw q ql k w 0 (by omega)
    · unfold wpY_pick
      refine ⟨P + 1, h3 _ (br_f ne ?_)⟩
      rw [e]
      exact nm_r (zi_32l p) ⟨w + 1, yw_pk_72 (by omega) hw q ql k w 0 (by omega)⟩
end
end
section
/-! both sides: a page is carved -/
/-- one object built at a: its first word b, then seed + i -/
def zob (wd : Nat → Int32) (a : Nat) (b q : Int32) (s : Nat) : Nat → Int32 := zws (upd wd a b) (fun i => a + (i + 1)) (fun i => q + nI (i + 1)) (s - 1)
def zcw (wd : Nat → Int32) (b q : Int32) (f s : Nat) : Nat → Nat → Int32
  | 0 => wd
  | j + 1 => zob (zcw wd b q f s j) (f + j * s) (b + nI (j + 1)) q s
section
variable {P C M D : Nat} {ow co wd pl ho ex sz al se ps nc lm bc rz rm fl lv sk sc dp dc hd po cl ab : Nat → Int32}
variable {fi fm : Nat → Int32} {p c s f a g l : Nat}
theorem xw_bld_24 {post : SX → Prop} (hc : c < 4) (hs : sz c = nI s) (s1 : 1 ≤ s) (s2 : s ≤ 16) (ha : a + s ≤ 256) (k : post (nI P, nI C, nI M, nI D, ow, co, fi, fm, (zws wd (fun i => a + (i + 1)) (fun i => se c + nI (i + 1)) (s - 1)), pl, ho, ex, sz, al, se, ps, nc, lm, bc, rz, rm, fl, lv, sk, sc, dp, dc)) :
    ∀ d i, i + d = s - 1 → wX_build_24 post (nI c) (nI a) (nI P) (nI C) (nI M) (nI D) (d + 1) (nI (i + 1)) ow co fi fm (zws wd (fun i => a + (i + 1)) (fun i => se c + nI (i + 1)) i) pl ho ex sz al se ps nc lm bc rz rm fl lv sk sc dp dc := by
  have c1 : (nI c).toNatClampNeg = c := nI_clamp (by omega)
  have i1 : vp_in (nI c) 4 := vp_in_nI hc (by decide)
  intro d
  induction d with
  | zero =>
    intro i hi
    have e : i = s - 1 := by omega
    rw [e]
    exact ⟨i1, br_t (by rw [c1, hs]; exact nI_le (by omega) (by omega)) k⟩
  | succ d ih =>
    intro i hi
    have a1 : nI a + nI (i + 1) = nI (a + (i + 1)) := nI_add _ _
    refine ⟨i1, br_f (by rw [c1, hs]; exact nI_ge (by omega) (by omega)) ⟨i1, ?_, nm_r ?_ (nm_r (nI_1 (i + 1)) (ih (i + 1) (by omega)))⟩⟩
    · rw [a1]; exact vp_in_nI (by omega) (by decide)
    · rw [a1, nI_clamp (by omega), c1]; rfl
theorem xw_bld {post : SX → Prop} (hc : c < 4) (hs : sz c = nI s) (s1 : 1 ≤ s) (s2 : s ≤ 16) (ha : a + s ≤ 256) (k : post (nI P, nI C, nI M, nI D, ow, co, fi, fm, (zob wd a (bc c + 1) (se c) s), pl, ho, ex, sz, al, se, ps, nc, lm, (upd bc c (bc c + 1)), rz, rm, fl, lv, sk, sc, dp, dc)) : wpX_build post (nI P, nI C, nI M, nI D, ow, co, fi, fm, wd, pl, ho, ex, sz, al, se, ps, nc, lm, bc, rz, rm, fl, lv, sk, sc, dp, dc) (nI c) (nI a) := by
  unfold wpX_build
  have c1 : (nI c).toNatClampNeg = c := nI_clamp (by omega)
  have i1 : vp_in (nI c) 4 := vp_in_nI hc (by decide)
  refine ⟨i1, i1, nm_r (e' := upd bc c (bc c + 1)) (by rw [c1]) ⟨i1, vp_in_nI (by omega) (by decide), nm_r (e' := upd wd a (bc c + 1)) (by rw [c1, nI_clamp (by omega), pk_us]) ⟨s - 1 + 1, ?_⟩⟩⟩
  exact xw_bld_24 (wd := upd wd a (bc c + 1)) hc hs s1 s2 ha k (s - 1) 0 (by omega)
theorem xw_crv_98 {post : SX → Prop} (hc : c < 4) (hs : sz c = nI s) (s1 : 1 ≤ s) (s2 : s ≤ 16) {n : Nat} (hn : n ≤ 32) (hf : f + n * s ≤ 256) (h0 : ∀ j, j < n → ¬ pl (f + j * s) = 4)
    (k : post (nI P, nI C, nI M, nI D, ow, co, (zFI (zws pl (fun j => f + j * s) (fun _ => 4) n)), (zFM (zws pl (fun j => f + j * s) (fun _ => 4) n)), (zcw wd (bc c) (se c) f s n), (zws pl (fun j => f + j * s) (fun _ => 4) n), (zws ho (fun j => f + j * s) (fun _ => -1) n), ex, sz, al, se, ps, nc, lm, (upd bc c (bc c + nI n)), rz, rm, fl, lv, sk, sc, dp, dc)) :
    ∀ d j, j + d = n → wX_carve_98 post (nI c) (nI s) (nI n) (nI f) (d + 1) (nI j) (nI P) (nI C) (nI M) (nI D) ow co (zFI (zws pl (fun j => f + j * s) (fun _ => 4) j)) (zFM (zws pl (fun j => f + j * s) (fun _ => 4) j)) (zcw wd (bc c) (se c) f s j) (zws pl (fun j => f + j * s) (fun _ => 4) j) (zws ho (fun j => f + j * s) (fun _ => -1) j) ex sz al se ps nc lm (upd bc c (bc c + nI j)) rz rm fl lv sk sc dp dc := by
  intro d
  induction d with
  | zero =>
    intro j hj
    have e : j = n := by omega
    rw [e]
    exact br_t (nI_le (by omega) (by omega)) k
  | succ d ih =>
    intro j hj
    have js : (j + 1) * s ≤ n * s := Nat.mul_le_mul_right s (by omega)
    rw [Nat.succ_mul] at js
    refine br_f (nI_ge (by omega) (by omega)) (nm_r (e' := nI (f + j * s)) (by rw [pk_mul, nI_add]) (xw_bld hc hs s1 s2 (by omega) (xw_ret (by omega) ?_ (nm_r (nI_1 j) ?_))))
    · rw [zws_m (fun i hi e => ?_)]
      · exact h0 j (by omega)
      · have e2 : i * s = j * s := by omega
        have := Nat.eq_of_mul_eq_mul_right (by omega) e2
        omega
    · have r := ih (j + 1) (by omega)
      have eb : upd bc c (bc c + nI j) c + 1 = bc c + nI (j + 1) := by rw [pk_us, Int32.add_assoc, nI_1]
      rw [eb, zu_uu]
      exact r
/-- X carves -/
theorem xw_crv {post : SX → Prop} (hc : c < 4) (hp : p < 8) (hs : sz c = nI s) (s1 : 2 ≤ s) (s2 : s ≤ 16) (hps : ps c = nI (32 / s)) (hg : nc c = nI g) (hl : al c = nI l) (hl16 : l ≤ 16) (hg32 : g + 32 / s * s ≤ 32) (h0 : ∀ a, a / 32 = p → pl a = 0)
    (k : post (nI P, nI C, nI M, nI D, (upd ow p (nI c)), (upd co p (nI g)), (zFI (zws pl (fun j => p * 32 + g + j * s) (fun _ => 4) (32 / s))), (zFM (zws pl (fun j => p * 32 + g + j * s) (fun _ => 4) (32 / s))), (zcw wd (bc c) (se c) (p * 32 + g) s (32 / s)), (zws pl (fun j => p * 32 + g + j * s) (fun _ => 4) (32 / s)), (zws ho (fun j => p * 32 + g + j * s) (fun _ => -1) (32 / s)), ex, sz, al, se, ps, (upd nc c (nI (if g + l ≤ 32 - 32 / s * s then g + l else 0))), lm, (upd bc c (bc c + nI (32 / s))), rz, rm, fl, lv, sk, sc, dp, dc)) :
    wpX_carve post (nI P, nI C, nI M, nI D, ow, co, (zFI pl), (zFM pl), wd, pl, ho, ex, sz, al, se, ps, nc, lm, bc, rz, rm, fl, lv, sk, sc, dp, dc) (nI c) (nI p) := by
  unfold wpX_carve
  have c1 : (nI c).toNatClampNeg = c := nI_clamp (by omega)
  have i1 : vp_in (nI c) 4 := vp_in_nI hc (by decide)
  have c2 : (nI p).toNatClampNeg = p := nI_clamp (by omega)
  have i2 : vp_in (nI p) 8 := vp_in_nI hp (by decide)
  have hd16 : 32 / s ≤ 16 := by
    have := Nat.div_le_div_left s1 (show 0 < 2 by decide) (a := 32)
    omega
  have hsl : (32 : Int32) - nI (32 / s) * nI s = nI (32 - 32 / s * s) := by
    rw [pk_mul]
    exact pk_sub (a := 32) (by omega)
  have z0 : ∀ w, w < 32 → ¬ pl (32 * p + w) = 4 := fun w hw => by rw [h0 _ (by omega)]; decide
  have tail : wX_carve_49 post (nI c) (nI p) (nI s) (nI (32 / s)) (nI g) (nI (if g + l ≤ 32 - 32 / s * s then g + l else 0)) (nI P) (nI C) (nI M) (nI D) ow co (zFI pl) (zFM pl) wd pl ho ex sz al se ps nc lm bc rz rm fl lv sk sc dp dc := by
    unfold wX_carve_49
    refine ⟨i1, nm_r (by rw [c1]) ⟨i2, nm_r (by rw [c2]) ⟨i2, nm_r (by rw [c2]) ⟨i2, nm_r (e' := zFI pl) ?_ ⟨i2, nm_r (e' := zFM pl) ?_ (nm_r (e' := nI (p * 32 + g)) (by rw [zi_32, nI_add]) ⟨32 / s + 1, ?_⟩)⟩⟩⟩⟩⟩
    · rw [c2]; exact zFI_z z0 (fun _ _ => rfl)
    · rw [c2]; exact zFM_z z0 (fun _ _ => rfl)
    · have r := xw_crv_98 (f := p * 32 + g) (n := 32 / s) (ow := upd ow p (nI c)) (co := upd co p (nI g)) (nc := upd nc c (nI (if g + l ≤ 32 - 32 / s * s then g + l else 0))) hc hs (by omega) s2 (by omega) (by omega) (fun j hj => ?_) k (32 / s) 0 (by omega)
      · rw [zu_id (f := bc) (k := c) (v := bc c + nI 0) (by rw [nI_0, Int32.add_zero])] at r
        exact r
      · have js : (j + 1) * s ≤ 32 / s * s := Nat.mul_le_mul_right s hj
        rw [Nat.succ_mul] at js
        rw [h0 _ (by omega)]; decide
  refine ⟨i1, nm_r (e' := nI s) (by rw [c1, hs]) ⟨i1, nm_r (e' := nI (32 / s)) (by rw [c1, hps]) ⟨i1, nm_r (e' := nI g) (by rw [c1, hg]) ⟨i1, nm_r (e' := nI (g + l)) (by rw [c1, hl, nI_add]) ?_⟩⟩⟩⟩
  by_cases z : g + l ≤ 32 - 32 / s * s
  · rw [if_pos z] at tail
    exact br_t (by rw [hsl]; exact nI_le z (by omega)) tail
  · rw [if_neg z] at tail
    exact br_f (by rw [hsl]; exact nI_ge (by omega) (by omega)) tail
theorem yw_crv_181 {post : SY → Prop} {J : Int32 → Int32 → Int32 → Int32 → Int32 → (Nat → Int32) → (Nat → Int32) → (Nat → Int32) → (Nat → Int32) → (Nat → Int32) → (Nat → Int32) → (Nat → Int32) → (Nat → Int32) → Prop} {x2 x4 x6 : Int32} {j : Nat} (hc : c < 4) (s1 : 1 ≤ s) (s2 : s ≤ 16) (ha : a + s ≤ 256)
    (k : J (nI (j + 1)) (nI P) (nI C) (nI M) (nI D) (zws wd (fun i => a + (i + 1)) (fun i => ab (c * 9 + 2) + nI (i + 1)) (s - 1)) (upd pl a 4) (upd hd a (-1)) (upd po a 0) ow cl ex ab) :
    ∀ d i, i + d = s - 1 → wY_carve_181 post J (nI c) x2 (nI s) x4 x6 (nI j) (nI a) (nI P) (nI C) (nI M) (nI D) (d + 1) (nI (i + 1)) (zws wd (fun i => a + (i + 1)) (fun i => ab (c * 9 + 2) + nI (i + 1)) i) pl hd po ow cl ex ab := by
  have a2 : nI c * 9 + 2 = nI (c * 9 + 2) := by rw [zi_9, zi_a2]
  intro d
  induction d with
  | zero =>
    intro i hi
    have e : i = s - 1 := by omega
    rw [e]
    exact br_t (nI_le (by omega) (by omega)) (yw_ret (by omega) (nm_r (nI_1 j) k))
  | succ d ih =>
    intro i hi
    have a1 : nI a + nI (i + 1) = nI (a + (i + 1)) := nI_add _ _
    refine br_f (nI_ge (by omega) (by omega)) ⟨?_, ?_, nm_r ?_ (nm_r (nI_1 (i + 1)) (ih (i + 1) (by omega)))⟩
    · rw [a2]; exact vp_in_nI (by omega) (by decide)
    · rw [a1]; exact vp_in_nI (by omega) (by decide)
    · rw [a1, nI_clamp (by omega), a2, nI_clamp (by omega)]; rfl
theorem yw_crv_124 {post : SY → Prop} (hc : c < 4) (s1 : 1 ≤ s) (s2 : s ≤ 16) {n : Nat} (hn : n ≤ 32) (hp : p < 8) (hf : g + n * s ≤ 32)
    (k : post (nI P, nI C, nI M, nI D, (zcw wd (ab (c * 9 + 5)) (ab (c * 9 + 2)) (p * 32 + g) s n), (zws pl (fun j => p * 32 + g + j * s) (fun _ => 4) n), (zws hd (fun j => p * 32 + g + j * s) (fun _ => -1) n), (zws po (fun j => p * 32 + g + j * s) (fun _ => 0) n), ow, cl, ex, (upd ab (c * 9 + 5) (ab (c * 9 + 5) + nI n)))) :
    ∀ d j, j + d = n → wY_carve_124 post (nI c) (nI p) (nI s) (nI n) (nI g) (d + 1) (nI j) (nI P) (nI C) (nI M) (nI D) (zcw wd (ab (c * 9 + 5)) (ab (c * 9 + 2)) (p * 32 + g) s j) (zws pl (fun j => p * 32 + g + j * s) (fun _ => 4) j) (zws hd (fun j => p * 32 + g + j * s) (fun _ => -1) j) (zws po (fun j => p * 32 + g + j * s) (fun _ => 0) j) ow cl ex (upd ab (c * 9 + 5) (ab (c * 9 + 5) + nI j)) := by
  have a5 : nI c * 9 + 5 = nI (c * 9 + 5) := by rw [zi_9, zi_a5]
  have c5 : (nI c * 9 + 5).toNatClampNeg = c * 9 + 5 := by rw [a5]; exact nI_clamp (by omega)
  have i5 : vp_in (nI c * 9 + 5) 36 := by rw [a5]; exact vp_in_nI (by omega) (by decide)
  intro d
  induction d with
  | zero =>
    intro j hj
    have e : j = n := by omega
    rw [e]
    exact br_t (nI_le (by omega) (by omega)) k
  | succ d ih =>
    intro j hj
    have js : (j + 1) * s ≤ n * s := Nat.mul_le_mul_right s (by omega)
    rw [Nat.succ_mul] at js
    have eb : upd ab (c * 9 + 5) (ab (c * 9 + 5) + nI j) (c * 9 + 5) + 1 = ab (c * 9 + 5) + nI (j + 1) := by rw [pk_us, Int32.add_assoc, nI_1]
    refine br_f (nI_ge (by omega) (by omega)) (nm_r (e' := nI (p * 32 + g + j * s)) (by rw [zi_32l, nI_add, pk_mul, nI_add, Nat.mul_comm p 32]) ⟨i5, i5, nm_r (e' := upd ab (c * 9 + 5) (ab (c * 9 + 5) + nI (j + 1))) (by rw [c5, eb, zu_uu]) ⟨i5, vp_in_nI (by omega) (by decide), nm_r (e' := upd (zcw wd (ab (c * 9 + 5)) (ab (c * 9 + 2)) (p * 32 + g) s j) (p * 32 + g + j * s) (ab (c * 9 + 5) + nI (j + 1))) (by rw [c5, pk_us, nI_clamp (by omega)]) ⟨s - 1 + 1, ?_⟩⟩⟩)
    refine yw_crv_181 (ab := upd ab (c * 9 + 5) (ab (c * 9 + 5) + nI (j + 1))) (wd := upd (zcw wd (ab (c * 9 + 5)) (ab (c * 9 + 2)) (p * 32 + g) s j) (p * 32 + g + j * s) (ab (c * 9 + 5) + nI (j + 1))) hc s1 s2 (by omega) ?_ (s - 1) 0 (by omega)
    rw [pk_un (f := ab) (show c * 9 + 2 ≠ c * 9 + 5 by omega)]
    exact ih (j + 1) (by omega)
theorem yw_crv_18 {post : SY → Prop} (s1 : 2 ≤ s) (s2 : s ≤ 16) {x1 x2 : Int32} (k : wY_carve_45 post x1 x2 (nI s) (nI (32 / s)) (nI P) (nI C) (nI M) (nI D) wd pl hd po ow cl ex ab) : ∀ d j, j + d = 32 / s → wY_carve_18 post x1 x2 (nI s) (nI P) (nI C) (nI M) (nI D) wd pl hd po ow cl ex ab (d + 1) (nI j) (nI j) := by
  have hd16 : 32 / s ≤ 16 := by
    have := Nat.div_le_div_left s1 (show 0 < 2 by decide) (a := 32)
    omega
  intro d
  induction d with
  | zero =>
    intro j hj
    have e : j = 32 / s := by omega
    have h1 : 32 < (32 / s + 1) * s := Nat.lt_mul_of_div_lt (by omega) (by omega)
    rw [Nat.succ_mul] at h1
    have h2 : 32 / s * s ≤ 32 := Nat.div_mul_le_self 32 s
    rw [e]
    refine br_t ?_ k
    rw [pk_mul, nI_add]
    exact nI_lt (a := 32) h1 (by omega)
  | succ d ih =>
    intro j hj
    have h1 : (j + 1) * s ≤ 32 / s * s := Nat.mul_le_mul_right s (by omega)
    have h2 : 32 / s * s ≤ 32 := Nat.div_mul_le_self 32 s
    rw [Nat.succ_mul] at h1
    refine br_f ?_ (br_f (nI_ge (b := 32) (by omega) (by decide)) (nm_r (nI_1 j) (nm_r (nI_1 j) (ih (j + 1) (by omega)))))
    rw [pk_mul, nI_add]
    exact nI_nlt (a := 32) (by omega) (by decide)
/-- Y carves -/
theorem yw_crv {post : SY → Prop} (hc : c < 4) (hp : p < 8) (hs : ab (c * 9) = nI s) (s1 : 2 ≤ s) (s2 : s ≤ 16) (hg : ab (c * 9 + 3) = nI g) (hl : ab (c * 9 + 1) = nI l) (hl16 : l ≤ 16) (hg32 : g + 32 / s * s ≤ 32)
    (k : post (nI P, nI C, nI M, nI D, (zcw wd (ab (c * 9 + 5)) (ab (c * 9 + 2)) (p * 32 + g) s (32 / s)), (zws pl (fun j => p * 32 + g + j * s) (fun _ => 4) (32 / s)), (zws hd (fun j => p * 32 + g + j * s) (fun _ => -1) (32 / s)), (zws po (fun j => p * 32 + g + j * s) (fun _ => 0) (32 / s)), (upd ow p (nI c)), (upd cl p (nI g)), ex, (upd (upd ab (c * 9 + 3) (nI (if g + l ≤ 32 - 32 / s * s then g + l else 0))) (c * 9 + 5) (ab (c * 9 + 5) + nI (32 / s))))) :
    wpY_carve post (nI P, nI C, nI M, nI D, wd, pl, hd, po, ow, cl, ex, ab) (nI c) (nI p) := by
  unfold wpY_carve
  have hd16 : 32 / s ≤ 16 := by
    have := Nat.div_le_div_left s1 (show 0 < 2 by decide) (a := 32)
    omega
  have a0 : nI c * 9 + 0 = nI (c * 9) := by rw [zi_9, zi_a0]
  have a1 : nI c * 9 + 1 = nI (c * 9 + 1) := by rw [zi_9, nI_1]
  have a3 : nI c * 9 + 3 = nI (c * 9 + 3) := by rw [zi_9, zi_a3]
  have i0 : vp_in (nI c * 9 + 0) 36 := by rw [a0]; exact vp_in_nI (by omega) (by decide)
  have i1 : vp_in (nI c * 9 + 1) 36 := by rw [a1]; exact vp_in_nI (by omega) (by decide)
  have i3 : vp_in (nI c * 9 + 3) 36 := by rw [a3]; exact vp_in_nI (by omega) (by decide)
  have c0 : (nI c * 9 + 0).toNatClampNeg = c * 9 := by rw [a0]; exact nI_clamp (by omega)
  have c1 : (nI c * 9 + 1).toNatClampNeg = c * 9 + 1 := by rw [a1]; exact nI_clamp (by omega)
  have c3 : (nI c * 9 + 3).toNatClampNeg = c * 9 + 3 := by rw [a3]; exact nI_clamp (by omega)
  have cp : (nI p).toNatClampNeg = p := nI_clamp (by omega)
  have ip : vp_in (nI p) 8 := vp_in_nI hp (by decide)
  have hsl : (32 : Int32) - nI (32 / s) * nI s = nI (32 - 32 / s * s) := by
    rw [pk_mul]
    exact pk_sub (a := 32) (by omega)
  have tail : wY_carve_93 post (nI c) (nI p) (nI s) (nI (32 / s)) (nI g) (nI (if g + l ≤ 32 - 32 / s * s then g + l else 0)) (nI P) (nI C) (nI M) (nI D) wd pl hd po ow cl ex ab := by
    unfold wY_carve_93
    refine ⟨i3, nm_r (by rw [c3]) ⟨ip, nm_r (by rw [cp]) ⟨ip, nm_r (by rw [cp]) ⟨32 / s + 1, ?_⟩⟩⟩⟩
    have r := yw_crv_124 (post := post) (n := 32 / s) (ow := upd ow p (nI c)) (cl := upd cl p (nI g)) (ab := upd ab (c * 9 + 3) (nI (if g + l ≤ 32 - 32 / s * s then g + l else 0))) hc (by omega) s2 (by omega) hp hg32 (by
      rw [pk_un (f := ab) (show c * 9 + 5 ≠ c * 9 + 3 by omega), pk_un (f := ab) (show c * 9 + 2 ≠ c * 9 + 3 by omega)]
      exact k) (32 / s) 0 (by omega)
    rw [zu_id (k := c * 9 + 5) (v := upd ab (c * 9 + 3) (nI (if g + l ≤ 32 - 32 / s * s then g + l else 0)) (c * 9 + 5) + nI 0) (by rw [nI_0, Int32.add_zero])] at r
    exact r
  refine ⟨i0, nm_r (e' := nI s) (by rw [c0, hs]) ⟨32 / s + 1, yw_crv_18 s1 s2 ?_ (32 / s) 0 (by omega)⟩⟩
  unfold wY_carve_45
  refine nm_r hsl ⟨i3, nm_r (e' := nI g) (by rw [c3, hg]) ⟨i1, nm_r (e' := nI (g + l)) (by rw [c1, hl, nI_add]) ?_⟩⟩
  by_cases z : g + l ≤ 32 - 32 / s * s
  · rw [if_pos z] at tail
    exact br_t (nI_le z (by omega)) tail
  · rw [if_neg z] at tail
    exact br_f (nI_ge (by omega) (by omega)) tail
end
end
section
/-! both sides: take or carve; reap -/
theorem zcn_all {A B : Nat → Prop} {N : Nat} (h : ∀ a, a < N → A a → B a) (e : zcn A N = zcn B N) : ∀ a, a < N → B a → A a := by
  have k : zcn B N = zcn A N + zcn (fun a => B a ∧ ¬ A a) N := by
    refine zcn_or (fun a ha => ?_) (fun a _ x y => y.2 x)
    by_cases z : A a
    · exact ⟨fun _ => Or.inl z, fun _ => h a ha z⟩
    · exact ⟨fun y => Or.inr ⟨y, z⟩, fun y => y.elim (fun x => absurd x z) (fun x => x.1)⟩
  intro a ha b
  by_cases z : A a
  · exact z
  · have := zcn_gt (Q := fun a => B a ∧ ¬ A a) (a := a) ⟨b, z⟩ ha
    omega
section
variable {P C M D : Nat} {ow co wd pl ho ex sz al se ps nc lm bc rz rm fl lv sk sc dp dc hd po cl ab : Nat → Int32}
variable {p c x : Nat}
theorem xy_crv (h : zR P C M D ow co pl ho ex sz al se ps nc lm bc rz rm fl lv sk sc dp dc hd po cl ab) (hp : p < P) (hc : c < 4) (hw : ow p = -1) (hex : ¬ ex c = 0) :
    ∃ u' v', zS ex u' v' ∧ (∀ post : SX → Prop, post u' → wpX_carve post (nI P, nI C, nI M, nI D, ow, co, (zFI pl), (zFM pl), wd, pl, ho, ex, sz, al, se, ps, nc, lm, bc, rz, rm, fl, lv, sk, sc, dp, dc) (nI c) (nI p)) ∧ (∀ post : SY → Prop, post v' → wpY_carve post (nI P, nI C, nI M, nI D, wd, pl, hd, po, ow, cl, ex, ab) (nI c) (nI p)) := by
  have hP : P ≤ 8 := h.1.2.1
  have hfree : ∀ a, a / 32 = p → pl a = 0 := fun a ha => zl_free h (fun c' hc' e => absurd (e.symm.trans hw) (zi_n1 (by omega))) ha
  obtain ⟨hps, hC2⟩ := h.2.2.2.2.1 c hc
  obtain ⟨s, g, l, e1, e2, e3, e4, e5, e6, e7⟩ := hC2 hex
  obtain ⟨t0, t1, t2, t3, t4, t5, t6, t7, t8⟩ := h.2.2.2.2.2.1 c hc
  have hcl : (sz c).toNatClampNeg = s := by rw [e1]; exact nI_clamp (by omega)
  rw [hcl] at hps
  have hd16 : 32 / s ≤ 16 := by
    have := Nat.div_le_div_left e2 (show 0 < 2 by decide) (a := 32)
    omega
  have hinj : ∀ i j, p * 32 + g + i * s = p * 32 + g + j * s → i = j := fun i j e => Nat.eq_of_mul_eq_mul_right (show 0 < s by omega) (by omega)
  have hZ : ∀ a, (∃ j, j < 32 / s ∧ p * 32 + g + j * s = a) ↔ ∃ j, j < 32 / s ∧ p * 32 + g + j * s = a := fun _ => Iff.rfl
  have w1 : ∀ (f : Nat → Int32) (v : Int32) (a : Nat), (∃ j, j < 32 / s ∧ p * 32 + g + j * s = a) → zws f (fun j => p * 32 + g + j * s) (fun _ => v) (32 / s) a = v := fun f v a z => by
    rw [zws_sl (Q := fun a => ∃ j, j < 32 / s ∧ p * 32 + g + j * s = a) hZ]; exact zsl_t (Q := fun a => ∃ j, j < 32 / s ∧ p * 32 + g + j * s = a) z
  have w2 : ∀ (f : Nat → Int32) (v : Int32) (a : Nat), ¬ (∃ j, j < 32 / s ∧ p * 32 + g + j * s = a) → zws f (fun j => p * 32 + g + j * s) (fun _ => v) (32 / s) a = f a := fun f v a z => by
    rw [zws_sl (Q := fun a => ∃ j, j < 32 / s ∧ p * 32 + g + j * s = a) hZ]; exact zsl_f (Q := fun a => ∃ j, j < 32 / s ∧ p * 32 + g + j * s = a) z
  have hg' : (if g + l ≤ 32 - 32 / s * s then g + l else 0) + 32 / s * s ≤ 32 := by
    by_cases z : g + l ≤ 32 - 32 / s * s
    · rw [if_pos z]; omega
    · rw [if_neg z]; omega
  have hA := zAt_5 (zAt_3 (c := c) h.2.2.2.2.2.1 (nI (if g + l ≤ 32 - 32 / s * s then g + l else 0))) (c := c) (bc c + nI (32 / s))
  refine ⟨(nI P, nI C, nI M, nI D, (upd ow p (nI c)), (upd co p (nI g)), (zFI (zws pl (fun j => p * 32 + g + j * s) (fun _ => 4) (32 / s))), (zFM (zws pl (fun j => p * 32 + g + j * s) (fun _ => 4) (32 / s))), (zcw wd (bc c) (se c) (p * 32 + g) s (32 / s)), (zws pl (fun j => p * 32 + g + j * s) (fun _ => 4) (32 / s)), (zws ho (fun j => p * 32 + g + j * s) (fun _ => -1) (32 / s)), ex, sz, al, se, ps, (upd nc c (nI (if g + l ≤ 32 - 32 / s * s then g + l else 0))), lm, (upd bc c (bc c + nI (32 / s))), rz, rm, fl, lv, sk, sc, dp, dc),
    (nI P, nI C, nI M, nI D, (zcw wd (bc c) (se c) (p * 32 + g) s (32 / s)), (zws pl (fun j => p * 32 + g + j * s) (fun _ => 4) (32 / s)), (zws hd (fun j => p * 32 + g + j * s) (fun _ => -1) (32 / s)), (zws po (fun j => p * 32 + g + j * s) (fun _ => 0) (32 / s)), (upd ow p (nI c)), (upd cl p (nI g)), ex, (upd (upd ab (c * 9 + 3) (nI (if g + l ≤ 32 - 32 / s * s then g + l else 0))) (c * 9 + 5) (bc c + nI (32 / s)))), zS_in ?_, fun post k => xw_crv hc (by omega) e1 e2 e3 hps e4 e5 e6 e7 hfree k, fun post k => yw_crv hc (by omega) (t0.trans e1) e2 e3 (t3.trans e4) (t1.trans e5) e6 e7 ?_⟩
  · exact zl_carve h hp hc hw hex e1 e2 e3 e7 hg' hZ (w1 pl 4) (fun a z => ⟨w2 pl 4 a z, w2 ho (-1) a z, w2 hd (-1) a z, w2 po 0 a z⟩) (w1 ho (-1)) (nI g) hA
  · rw [t5, t2]; exact k
theorem xy_toc (h : zR P C M D ow co pl ho ex sz al se ps nc lm bc rz rm fl lv sk sc dp dc hd po cl ab) (hc : c < 4) (hex : ¬ ex c = 0) :
    ∃ r u' v', ((r = -1 ∧ zS ex u' v') ∨ ∃ x, x < 256 ∧ r = nI x ∧ zTk x c ex u' v') ∧ (∀ post : Int32 → SX → Prop, post r u' → wpX_takeOrCarve post (nI P, nI C, nI M, nI D, ow, co, (zFI pl), (zFM pl), wd, pl, ho, ex, sz, al, se, ps, nc, lm, bc, rz, rm, fl, lv, sk, sc, dp, dc) (nI c)) ∧ (∀ post : Int32 → SY → Prop, post r v' → wpY_pickOrCarve post (nI P, nI C, nI M, nI D, wd, pl, hd, po, ow, cl, ex, ab) (nI c)) := by
  have hP : P ≤ 8 := h.1.2.1
  rcases xy_tfs (P := P) (C := C) (M := M) (D := D) (ow := ow) (co := co) (wd := wd) (pl := pl) (ho := ho) (ex := ex) (sz := sz) (al := al) (se := se) (ps := ps) (nc := nc) (lm := lm) (bc := bc) (rz := rz) (rm := rm) (fl := fl) (lv := lv) (sk := sk) (sc := sc) (dp := dp) (dc := dc) (hd := hd) (po := po) (cl := cl) (ab := ab) (cc := nI c) hP with ⟨hx, hy⟩ | ⟨x, h4, ho', hx, hy⟩
  · obtain ⟨r, hr, fx, fy⟩ := xy_fp (P := P) (C := C) (M := M) (D := D) (ow := ow) (co := co) (wd := wd) (pl := pl) (ho := ho) (ex := ex) (sz := sz) (al := al) (se := se) (ps := ps) (nc := nc) (lm := lm) (bc := bc) (rz := rz) (rm := rm) (fl := fl) (lv := lv) (sk := sk) (sc := sc) (dp := dp) (dc := dc) (hd := hd) (po := po) (cl := cl) (ab := ab) (fi := zFI pl) (fm := zFM pl) hP
    rcases hr with e | ⟨p, hp, e, hw⟩
    · refine ⟨-1, (nI P, nI C, nI M, nI D, ow, co, (zFI pl), (zFM pl), wd, pl, ho, ex, sz, al, se, ps, nc, lm, bc, rz, rm, fl, lv, sk, sc, dp, dc), (nI P, nI C, nI M, nI D, wd, pl, hd, po, ow, cl, ex, ab), Or.inl ⟨rfl, zS_in h⟩, fun post k => ?_, fun post k => ?_⟩
      · unfold wpX_takeOrCarve
        exact hx _ (br_t rfl (fx _ (br_t e k)))
      · unfold wpY_pickOrCarve
        exact hy _ (br_t rfl (fy _ (br_t e k)))
    · obtain ⟨u1, v1, hS, cx, cy⟩ := xy_crv (wd := wd) h hp hc hw hex
      have ne : ¬ r = -1 := by rw [e]; exact zi_n1 (by omega)
      refine zS_el (Pr := fun u1 v1 => (∀ post : SX → Prop, post u1 → wpX_carve post (nI P, nI C, nI M, nI D, ow, co, (zFI pl), (zFM pl), wd, pl, ho, ex, sz, al, se, ps, nc, lm, bc, rz, rm, fl, lv, sk, sc, dp, dc) (nI c) (nI p)) → (∀ post : SY → Prop, post v1 → wpY_carve post (nI P, nI C, nI M, nI D, wd, pl, hd, po, ow, cl, ex, ab) (nI c) (nI p)) → ∃ r u' v', ((r = -1 ∧ zS ex u' v') ∨ ∃ x, x < 256 ∧ r = nI x ∧ zTk x c ex u' v') ∧ (∀ post : Int32 → SX → Prop, post r u' → wpX_takeOrCarve post (nI P, nI C, nI M, nI D, ow, co, (zFI pl), (zFM pl), wd, pl, ho, ex, sz, al, se, ps, nc, lm, bc, rz, rm, fl, lv, sk, sc, dp, dc) (nI c)) ∧ (∀ post : Int32 → SY → Prop, post r v' → wpY_pickOrCarve post (nI P, nI C, nI M, nI D, wd, pl, hd, po, ow, cl, ex, ab) (nI c))) ?_ hS cx cy
      intro P' C' M' D' ow' co' wd' pl' ho' sz' al' se' ps' nc' lm' bc' rz' rm' fl' lv' sk' sc' dp' dc' hd' po' cl' ab' h' cx cy
      rcases xy_tfs (P := P') (C := C') (M := M') (D := D') (ow := ow') (co := co') (wd := wd') (pl := pl') (ho := ho') (ex := ex) (sz := sz') (al := al') (se := se') (ps := ps') (nc := nc') (lm := lm') (bc := bc') (rz := rz') (rm := rm') (fl := fl') (lv := lv') (sk := sk') (sc := sc') (dp := dp') (dc := dc') (hd := hd') (po := po') (cl := cl') (ab := ab') (cc := nI c) h'.1.2.1 with ⟨hx2, hy2⟩ | ⟨x, h4, ho2, hx2, hy2⟩
      · refine ⟨-1, _, _, Or.inl ⟨rfl, zS_in (wd := wd') h'⟩, fun post k => ?_, fun post k => ?_⟩
        · unfold wpX_takeOrCarve
          refine hx _ (br_t rfl (fx _ (br_f ne ?_)))
          rw [e]
          exact cx _ (hx2 _ k)
        · unfold wpY_pickOrCarve
          refine hy _ (br_t rfl (fy _ (br_f ne ?_)))
          rw [e]
          exact cy _ (hy2 _ k)
      · refine ⟨nI x, _, _, Or.inr ⟨x, zO_lt h' (by rw [h4]; decide), rfl, zTk_in (wd := wd') h' h4 ho2⟩, fun post k => ?_, fun post k => ?_⟩
        · unfold wpX_takeOrCarve
          refine hx _ (br_t rfl (fx _ (br_f ne ?_)))
          rw [e]
          exact cx _ (hx2 _ k)
        · unfold wpY_pickOrCarve
          refine hy _ (br_t rfl (fy _ (br_f ne ?_)))
          rw [e]
          exact cy _ (hy2 _ k)
  · have hl : x < 256 := zO_lt h (by rw [h4]; decide)
    have ne : ¬ nI x = -1 := zi_n1 (by omega)
    refine ⟨nI x, _, _, Or.inr ⟨x, hl, rfl, zTk_in (wd := wd) h h4 ho'⟩, fun post k => ?_, fun post k => ?_⟩
    · unfold wpX_takeOrCarve
      exact hx _ (br_f ne k)
    · unfold wpY_pickOrCarve
      exact hy _ (br_f ne k)
end
section
variable {P C M D : Nat} {wd ex sz al se ps nc lm bc rm fl lv sk sc dp dc hd po cl : Nat → Int32}
theorem xy_rp_4 : ∀ d i (t : Int32) (ow co pl ho rz ab : Nat → Int32), i + d = P → zR P C M D ow co pl ho ex sz al se ps nc lm bc rz rm fl lv sk sc dp dc hd po cl ab → ∃ r u' v', zS ex u' v' ∧ (∀ post : Int32 → SX → Prop, post r u' → wX_reap_4 post (d + 1) t (nI i) (nI P) (nI C) (nI M) (nI D) ow co (zFI pl) (zFM pl) wd pl ho ex sz al se ps nc lm bc rz rm fl lv sk sc dp dc) ∧ (∀ post : Int32 → SY → Prop, post r v' → wY_stage_83 post (d + 1) t (nI i) (nI P) (nI C) (nI M) (nI D) wd pl hd po ow cl ex ab) := by
  intro d
  induction d with
  | zero =>
    intro i t ow co pl ho rz ab hi h
    have hP : P ≤ 8 := h.1.2.1
    exact ⟨t, _, _, zS_in (wd := wd) h, fun _ k => br_t (nI_le (by omega) (by omega)) k, fun _ k => br_t (nI_le (by omega) (by omega)) k⟩
  | succ d ih =>
    intro i t ow co pl ho rz ab hi h
    have hP : P ≤ 8 := h.1.2.1
    have c1 : (nI i).toNatClampNeg = i := nI_clamp (by omega)
    have i1 : vp_in (nI i) 8 := vp_in_nI (by omega) (by decide)
    have hn : ¬ nI P ≤ nI i := nI_ge (by omega) (by omega)
    have skip : ow i < 0 → ∃ r u' v', zS ex u' v' ∧ (∀ post : Int32 → SX → Prop, post r u' → wX_reap_4 post (d + 1 + 1) t (nI i) (nI P) (nI C) (nI M) (nI D) ow co (zFI pl) (zFM pl) wd pl ho ex sz al se ps nc lm bc rz rm fl lv sk sc dp dc) ∧ (∀ post : Int32 → SY → Prop, post r v' → wY_stage_83 post (d + 1 + 1) t (nI i) (nI P) (nI C) (nI M) (nI D) wd pl hd po ow cl ex ab) := by
      intro z
      obtain ⟨r, u', v', hS, hx, hy⟩ := ih (i + 1) t ow co pl ho rz ab (by omega) h
      exact ⟨r, u', v', hS, fun post k => br_f hn ⟨i1, nm_r (e' := ow i) (by rw [c1]) (br_t z (nm_r (nI_1 i) (hx post k)))⟩, fun post k => br_f hn ⟨i1, br_t (by rw [c1]; exact z) (nm_r (nI_1 i) (hy post k))⟩⟩
    rcases (h.2.1 i (by omega)).2 with z | z | ⟨c, hc, z, hex⟩
    · exact skip (by rw [z]; decide)
    · exact skip (by rw [z]; decide)
    · have ng : ¬ nI c < 0 := nI_pos (by omega)
      have cc1 : (nI c).toNatClampNeg = c := nI_clamp (by omega)
      have ic : vp_in (nI c) 4 := vp_in_nI hc (by decide)
      have hps := (h.2.2.2.2.1 c hc).1
      have hnm := h.2.2.2.1 i c (by omega) hc z
      have b1 := zcn_le (fun w => pl (32 * i + w) = 4) 32
      have b2 := zcn_le (fun w => ¬ pl (32 * i + w) = 0) 32
      have hfi : zFI pl i = nI (zcn (fun w => pl (32 * i + w) = 4) 32) := rfl
      have oc : ow (nI i).toNatClampNeg = nI c := by rw [c1]; exact z
      rw [← hnm] at hps
      by_cases q : zcn (fun w => pl (32 * i + w) = 4) 32 = zcn (fun w => ¬ pl (32 * i + w) = 0) 32
      · have hall : ∀ a, a / 32 = i → pl a = 0 ∨ pl a = 4 := by
          intro a ha
          by_cases y : pl a = 0
          · exact Or.inl y
          · refine Or.inr ?_
            have r := zcn_all (A := fun w => pl (32 * i + w) = 4) (B := fun w => ¬ pl (32 * i + w) = 0) (N := 32) (fun w _ x => by rw [x]; decide) q (a % 32) (by omega)
            rw [show 32 * i + a % 32 = a by omega] at r
            exact r y
        have hA := zAt_6 (c := c) h.2.2.2.2.2.1 (rz c + nI (zcn (fun w => ¬ pl (32 * i + w) = 0) 32))
        have h6 : ab (c * 9 + 6) = rz c := (h.2.2.2.2.2.1 c hc).2.2.2.2.2.2.1
        have h' := zl_rel h (by omega) hc z hall 0 hA
        obtain ⟨r, u', v', hS, hx, hy⟩ := ih (i + 1) (t + 1) _ _ _ _ _ _ (by omega) h'
        have a6 : nI c * 9 + 6 = nI (c * 9 + 6) := by rw [zi_9, zi_a6]
        have i6 : vp_in (nI c * 9 + 6) 36 := by rw [a6]; exact vp_in_nI (by omega) (by decide)
        have c6 : (nI c * 9 + 6).toNatClampNeg = c * 9 + 6 := by rw [a6]; exact nI_clamp (by omega)
        refine ⟨r, u', v', hS, fun post k => br_f hn ⟨i1, nm_r (e' := nI c) oc (br_f ng ⟨i1, ic, br_t ?_ ⟨ic, ic, ic, nm_r (e' := upd rz c (rz c + nI (zcn (fun w => ¬ pl (32 * i + w) = 0) 32))) ?_ (xw_rel (by omega) (nm_e (nm_r (nI_1 i) (hx post k))))⟩⟩)⟩, fun post k => br_f hn ⟨i1, br_f (by rw [oc]; exact ng) (yw_knd (by omega) (fun _ => br_t rfl (yw_obs (by omega) ⟨i1, ?_, ?_, nm_r (e' := upd ab (c * 9 + 6) (rz c + nI (zcn (fun w => ¬ pl (32 * i + w) = 0) 32))) ?_ (yw_dis (by omega) (nm_e (nm_r (nI_1 i) (hy post k))))⟩)) (fun y => absurd q y) (fun y => absurd q y))⟩⟩
        · rw [c1, cc1, hps, hfi, q]
        · rw [cc1, hps]
        · rw [oc]; exact i6
        · rw [oc]; exact i6
        · rw [oc, c6, h6]
      · obtain ⟨r, u', v', hS, hx, hy⟩ := ih (i + 1) t ow co pl ho rz ab (by omega) h
        have q' : ¬ zFI pl (nI i).toNatClampNeg = ps (nI c).toNatClampNeg := by
          rw [c1, cc1, hps, hfi, nI_eq (by omega) (by omega)]; exact q
        exact ⟨r, u', v', hS, fun post k => br_f hn ⟨i1, nm_r (e' := nI c) oc (br_f ng ⟨i1, ic, br_f q' (nm_r (nI_1 i) (hx post k))⟩)⟩, fun post k => br_f hn ⟨i1, br_f (by rw [oc]; exact ng) (yw_knd (by omega) (fun y => absurd y q) (fun _ _ => br_f (by decide) (nm_r (nI_1 i) (hy post k))) (fun _ _ => br_f (by decide) (nm_r (nI_1 i) (hy post k))))⟩⟩
end
end
section
/-! X's walks over its lists: the oldest of a depot, the stocks -/
def zg (arr : Nat → Int32) (b i : Nat) : Nat := (arr (b + i)).toNatClampNeg
section
variable {arr : Nat → Int32} {b n k : Nat} {Q : Nat → Prop} {po : Nat → Int32}
theorem zg_f (h : zLF arr b n Q po) {i : Nat} (hi : i < n) : arr (b + i) = nI (zg arr b i) ∧ zg arr b i < 256 ∧ Q (zg arr b i) ∧ po (zg arr b i) = nI i := by
  obtain ⟨a, h1, h2, h3, h4⟩ := h.1 i hi
  have e : zg arr b i = a := by unfold zg; rw [h2]; exact nI_clamp (by omega)
  rw [e]
  exact ⟨h2, h1, h3, h4⟩
theorem zg_i (h : zLF arr b n Q po) (hn : n < 1000) {i j : Nat} (hi : i < n) (hj : j < n) (e : zg arr b i = zg arr b j) : i = j := by
  have p1 := (zg_f h hi).2.2.2
  have p2 := (zg_f h hj).2.2.2
  rw [e] at p1
  exact zi_inj (by omega) (by omega) (p1.symm.trans p2)
theorem zg_e {a i : Nat} (ha : a < 256) (e : arr (b + i) = nI a) : zg arr b i = a := by unfold zg; rw [e]; exact nI_clamp (by omega)
theorem zg_q (h : zLF arr b n Q po) (a : Nat) : Q a ↔ ∃ i, i < n ∧ zg arr b i = a := by
  refine ⟨fun q => ?_, fun ⟨i, hi, e⟩ => e ▸ (zg_f h hi).2.2.1⟩
  obtain ⟨h0, i, h1, h2, _⟩ := h.2 a q
  exact ⟨i, h1, zg_e h0 h2⟩
theorem zg_lo (h : zLF arr b n Q po) (hn : n < 1000) (hk : k ≤ n) (a : Nat) : (Q a ∧ po a < nI k) ↔ ∃ i, i < k ∧ zg arr b i = a := by
  refine ⟨fun q => ?_, fun ⟨i, hi, e⟩ => ?_⟩
  · obtain ⟨h0, i, h1, h2, h3⟩ := h.2 a q.1
    have y := q.2
    rw [h3, nI_ltI (by omega) (by omega)] at y
    exact ⟨i, y, zg_e h0 h2⟩
  · have f := zg_f h (i := i) (by omega)
    rw [e] at f
    exact ⟨f.2.2.1, by rw [f.2.2.2]; exact nI_lt hi (by omega)⟩
theorem zg_hi (h : zLF arr b n Q po) (hn : n < 1000) (hk : k ≤ n) (a : Nat) : (Q a ∧ ¬ po a < nI k) ↔ ∃ i, i < n - k ∧ zg arr (b + k) i = a := by
  refine ⟨fun q => ?_, fun ⟨i, hi, e⟩ => ?_⟩
  · obtain ⟨h0, i, h1, h2, h3⟩ := h.2 a q.1
    have y := q.2
    rw [h3, nI_ltI (by omega) (by omega)] at y
    exact ⟨i - k, by omega, zg_e h0 (by rw [show b + k + (i - k) = b + i by omega]; exact h2)⟩
  · have f := zg_f h (i := k + i) (by omega)
    have e2 : zg arr b (k + i) = a := by rw [← e]; unfold zg; rw [Nat.add_assoc]
    rw [e2] at f
    exact ⟨f.2.2.1, by rw [f.2.2.2]; exact nI_nlt (by omega) (by omega)⟩
end
section
variable {P C M D : Nat} {ow co wd pl ho ex sz al se ps nc lm bc rz rm fl lv sk sc dp dc hd po cl ab : Nat → Int32}
variable {c u n k gone total : Nat} {g : Nat → Nat}
theorem xw_drp_59 {post : Int32 → SX → Prop} {fi fm : Nat → Int32} (hc : c < 4) (hn : dc c = nI n) (hk : k ≤ n) (hg : gone ≤ total) (ht : total ≤ 16)
    (kk : post (nI gone) (nI P, nI C, nI M, nI D, ow, co, fi, fm, wd, pl, ho, ex, sz, al, se, ps, nc, lm, bc, rz, rm, fl, lv, sk, sc, (zws dp (fun i => c * 16 + i) (fun i => dp (c * 16 + (gone + i))) (total - gone)), (upd dc c (nI (n - k))))) :
    ∀ d i, i + d = total - gone → wX_dropOldest_59 post (nI c) (nI k) (nI (c * 16)) (nI gone) (nI total) (nI P) (nI C) (nI M) (nI D) (d + 1) (nI (gone + i)) ow co fi fm wd pl ho ex sz al se ps nc lm bc rz rm fl lv sk sc (zws dp (fun i => c * 16 + i) (fun i => dp (c * 16 + (gone + i))) i) dc := by
  have c1 : (nI c).toNatClampNeg = c := nI_clamp (by omega)
  have i1 : vp_in (nI c) 4 := vp_in_nI hc (by decide)
  intro d
  induction d with
  | zero =>
    intro i hi
    have e : i = total - gone := by omega
    rw [e]
    exact br_t (nI_le (by omega) (by omega)) ⟨i1, i1, nm_r (e' := upd dc c (nI (n - k))) (by rw [c1, hn, pk_sub hk]) kk⟩
  | succ d ih =>
    intro i hi
    have a1 : nI (c * 16) + nI (gone + i) = nI (c * 16 + (gone + i)) := nI_add _ _
    have a2 : nI (c * 16) + nI (gone + i) - nI gone = nI (c * 16 + i) := by rw [a1, pk_sub (by omega)]; congr 1; omega
    refine br_f (nI_ge (by omega) (by omega)) ⟨?_, ?_, nm_r ?_ (nm_r (nI_1 _) (ih (i + 1) (by omega)))⟩
    · rw [a1]; exact vp_in_nI (by omega) (by decide)
    · rw [a2]; exact vp_in_nI (by omega) (by decide)
    · rw [a2, a1, nI_clamp (by omega), nI_clamp (by omega), zws_m (a := c * 16 + (gone + i)) (fun j hj => by omega)]; rfl
theorem xw_drp_29 {post : Int32 → SX → Prop} (hc : c < 4) (hn : dc c = nI n) (hk : k ≤ n) (hgt : gone ≤ total) (ht : total ≤ 16) (hg : ∀ i, i < gone → dp (c * 16 + i) = nI (g i) ∧ g i < 256 ∧ ¬ pl (g i) = 4) (inj : ∀ i j, i < j → j < gone → g i ≠ g j)
    (kk : post (nI gone) (nI P, nI C, nI M, nI D, ow, co, (zFI (zws pl g (fun _ => 4) gone)), (zFM (zws pl g (fun _ => 4) gone)), wd, (zws pl g (fun _ => 4) gone), (zws ho g (fun _ => -1) gone), ex, sz, al, se, ps, nc, lm, bc, rz, rm, fl, lv, sk, sc, (zws dp (fun i => c * 16 + i) (fun i => dp (c * 16 + (gone + i))) (total - gone)), (upd dc c (nI (n - k))))) :
    ∀ d i, i + d = gone → wX_dropOldest_29 post (nI c) (nI k) (nI (c * 16)) (nI gone) (nI total) (d + 1) (nI i) (nI P) (nI C) (nI M) (nI D) ow co (zFI (zws pl g (fun _ => 4) i)) (zFM (zws pl g (fun _ => 4) i)) wd (zws pl g (fun _ => 4) i) (zws ho g (fun _ => -1) i) ex sz al se ps nc lm bc rz rm fl lv sk sc dp dc := by
  intro d
  induction d with
  | zero =>
    intro i hi
    have e : i = gone := by omega
    rw [e]
    exact br_t (nI_le (by omega) (by omega)) ⟨total - gone + 1, xw_drp_59 hc hn hk hgt ht kk (total - gone) 0 (by omega)⟩
  | succ d ih =>
    intro i hi
    have a1 : nI (c * 16) + nI i = nI (c * 16 + i) := nI_add _ _
    have g1 := hg i (by omega)
    have e1 : dp (nI (c * 16) + nI i).toNatClampNeg = nI (g i) := by rw [a1, nI_clamp (by omega)]; exact g1.1
    refine br_f (nI_ge (by omega) (by omega)) ⟨by rw [a1]; exact vp_in_nI (by omega) (by decide), ?_⟩
    rw [e1]
    refine xw_ret g1.2.1 ?_ (nm_r (nI_1 i) (ih (i + 1) (by omega)))
    rw [zws_m (fun j hj => inj j i hj (by omega))]
    exact g1.2.2
theorem xw_drp {post : Int32 → SX → Prop} (hc : c < 4) (hn : dc c = nI n) (hn4 : n ≤ 4) (hM : M ≤ 4) (hk : k ≤ n) (hg : ∀ i, i < k * M → dp (c * 16 + i) = nI (g i) ∧ g i < 256 ∧ ¬ pl (g i) = 4) (inj : ∀ i j, i < j → j < k * M → g i ≠ g j)
    (kk : post (nI (k * M)) (nI P, nI C, nI M, nI D, ow, co, (zFI (zws pl g (fun _ => 4) (k * M))), (zFM (zws pl g (fun _ => 4) (k * M))), wd, (zws pl g (fun _ => 4) (k * M)), (zws ho g (fun _ => -1) (k * M)), ex, sz, al, se, ps, nc, lm, bc, rz, rm, fl, lv, sk, sc, (zws dp (fun i => c * 16 + i) (fun i => dp (c * 16 + (k * M + i))) (n * M - k * M)), (upd dc c (nI (n - k))))) :
    wpX_dropOldest post (nI P, nI C, nI M, nI D, ow, co, (zFI pl), (zFM pl), wd, pl, ho, ex, sz, al, se, ps, nc, lm, bc, rz, rm, fl, lv, sk, sc, dp, dc) (nI c) (nI k) := by
  unfold wpX_dropOldest
  have c1 : (nI c).toNatClampNeg = c := nI_clamp (by omega)
  have i1 : vp_in (nI c) 4 := vp_in_nI hc (by decide)
  have nM := zm_le hn4 hM
  have kM : k * M ≤ n * M := Nat.mul_le_mul_right M hk
  refine nm_r (zi_16 c) (nm_r (pk_mul k M) ⟨i1, nm_r (e' := nI (n * M)) (by rw [c1, hn, pk_mul]) ⟨k * M + 1, ?_⟩⟩)
  exact xw_drp_29 hc hn hk kM nM hg inj kk (k * M) 0 (by omega)
theorem xw_dso_19 {post : Int32 → SX → Prop} {J : _} {t : Int32} {s : Nat} (hs : s < 16) (hn : sc s = nI n) (hn8 : n ≤ 8) (hg : ∀ i, i < n → sk (s * 8 + i) = nI (g i) ∧ g i < 256 ∧ ¬ pl (g i) = 4) (inj : ∀ i j, i < j → j < n → g i ≠ g j)
    (kk : J (t + nI n) (nI (c + 1)) (nI P) (nI C) (nI M) (nI D) ow co (zFI (zws pl g (fun _ => 4) n)) (zFM (zws pl g (fun _ => 4) n)) wd (zws pl g (fun _ => 4) n) (zws ho g (fun _ => -1) n) ex sz al se ps nc lm bc rz rm fl lv sk (upd sc s 0) dp dc) :
    ∀ d i, i + d = n → wX_drainStocksOf_19 post J (nI u) t (nI c) (nI s) (d + 1) (nI i) (nI P) (nI C) (nI M) (nI D) ow co (zFI (zws pl g (fun _ => 4) i)) (zFM (zws pl g (fun _ => 4) i)) wd (zws pl g (fun _ => 4) i) (zws ho g (fun _ => -1) i) ex sz al se ps nc lm bc rz rm fl lv sk sc dp dc := by
  have c1 : (nI s).toNatClampNeg = s := nI_clamp (by omega)
  have i1 : vp_in (nI s) 16 := vp_in_nI hs (by decide)
  intro d
  induction d with
  | zero =>
    intro i hi
    have e : i = n := by omega
    rw [e]
    exact ⟨i1, br_t (by rw [c1, hn]; exact nI_le (by omega) (by omega)) ⟨i1, nm_r (e' := t + nI n) (by rw [c1, hn]) ⟨i1, nm_r (e' := upd sc s 0) (by rw [c1]) (nm_r (nI_1 c) kk)⟩⟩⟩
  | succ d ih =>
    intro i hi
    have a1 : nI s * 8 + nI i = nI (s * 8 + i) := by rw [zi_8, nI_add]
    have g1 := hg i (by omega)
    have e1 : sk (nI s * 8 + nI i).toNatClampNeg = nI (g i) := by rw [a1, nI_clamp (by omega)]; exact g1.1
    refine ⟨i1, br_f (by rw [c1, hn]; exact nI_ge (by omega) (by omega)) ⟨by rw [a1]; exact vp_in_nI (by omega) (by decide), ?_⟩⟩
    rw [e1]
    refine xw_ret g1.2.1 ?_ (nm_r (nI_1 i) (ih (i + 1) (by omega)))
    rw [zws_m (fun j hj => inj j i hj (by omega))]
    exact g1.2.2
end
section
variable {P C M D : Nat} {ow co wd ex sz al se ps nc lm bc rz rm fl lv sk dp dc hd po cl ab : Nat → Int32} {u : Nat}
theorem xw_dso_4 (hu : u < 4) : ∀ d c t (pl ho sc : Nat → Int32), c + d = 4 → (∀ c', c' < c → sc (u * 4 + c') = 0) → zR P C M D ow co pl ho ex sz al se ps nc lm bc rz rm fl lv sk sc dp dc hd po cl ab →
    ∃ pl' ho' sc', zR P C M D ow co pl' ho' ex sz al se ps nc lm bc rz rm fl lv sk sc' dp dc hd po cl ab ∧ (∀ a, pl' a = pl a ∨ (pl a = 2 ∧ hd a = nI u ∧ pl' a = 4)) ∧ (∀ c', c' < 4 → sc' (u * 4 + c') = 0) ∧ (∀ j, (j < u * 4 ∨ u * 4 + 4 ≤ j) → sc' j = sc j) ∧
      (∀ post : Int32 → SX → Prop, post (nI (t + zcn (fun a => pl a = 2 ∧ hd a = nI u) 256)) (nI P, nI C, nI M, nI D, ow, co, (zFI pl'), (zFM pl'), wd, pl', ho', ex, sz, al, se, ps, nc, lm, bc, rz, rm, fl, lv, sk, sc', dp, dc) → wX_drainStocksOf_4 post (nI u) (d + 1) (nI t) (nI c) (nI P) (nI C) (nI M) (nI D) ow co (zFI pl) (zFM pl) wd pl ho ex sz al se ps nc lm bc rz rm fl lv sk sc dp dc) := by
  intro d
  induction d with
  | zero =>
    intro c t pl ho sc hc h0 h
    have z : zcn (fun a => pl a = 2 ∧ hd a = nI u) 256 = 0 := zcn_z (fun a _ q => by
      obtain ⟨c', h1, h2⟩ := zO_ow h (a := a) (by rw [q.1]; decide)
      obtain ⟨n, g1, g2, g3⟩ := h.2.2.2.2.2.2.2.2.1 u c' hu h1
      have hM : M ≤ 4 := h.1.2.2.2.2.2.1
      have : n = 0 := zi_inj (b := 0) (by omega) (by omega) (g1.symm.trans (h0 c' (by omega)))
      obtain ⟨_, i, i1, _⟩ := g3.2 a ⟨q.1, h2, q.2⟩
      omega)
    rw [z]
    exact ⟨pl, ho, sc, h, fun a => Or.inl rfl, fun c' h' => h0 c' (by omega), fun _ _ => rfl, fun post k => br_t (nI_le (a := 4) (by omega) (by omega)) k⟩
  | succ d ih =>
    intro c t pl ho sc hc h0 h
    have hM : M ≤ 4 := h.1.2.2.2.2.2.1
    obtain ⟨n, g1, g2, g3⟩ := h.2.2.2.2.2.2.2.2.1 u c hu (by omega)
    have hR := zl_drain (Z := zQs ow pl hd u c) h hu (by omega) (fun _ => Iff.rfl)
    have e1 : zws pl (zg sk ((u * 4 + c) * 8)) (fun _ => 4) n = zsl (zQs ow pl hd u c) (fun _ => 4) pl := zws_sl (zg_q g3)
    have e2 : zws ho (zg sk ((u * 4 + c) * 8)) (fun _ => -1) n = zsl (zQs ow pl hd u c) (fun _ => -1) ho := zws_sl (zg_q g3)
    obtain ⟨pl', ho', sc', hR', f1, f2, f3, f4⟩ := ih (c + 1) (t + n) _ _ _ (by omega) (fun c' hc' => by
      by_cases e : c' = c
      · rw [e, pk_us]
      · rw [pk_un (by omega)]; exact h0 c' (by omega)) hR
    have cnt : zcn (fun a => pl a = 2 ∧ hd a = nI u) 256 = n + zcn (fun a => zsl (zQs ow pl hd u c) (fun _ => 4) pl a = 2 ∧ hd a = nI u) 256 := by
      rw [← zLF_cn g3 (by omega)]
      refine zcn_or (fun a _ => ?_) (fun a _ x y => ?_)
      · by_cases q : zQs ow pl hd u c a
        · exact ⟨fun _ => Or.inl q, fun _ => ⟨q.1, q.2.2⟩⟩
        · rw [zsl_f q]
          exact ⟨Or.inr, fun y => y.elim (fun x => absurd x q) id⟩
      · have := y.1; rw [zsl_t x] at this; exact absurd this (by decide)
    refine ⟨pl', ho', sc', hR', fun a => ?_, f2, fun j hj => ?_, fun post k => ?_⟩
    · by_cases q : zQs ow pl hd u c a
      · refine Or.inr ⟨q.1, q.2.2, ?_⟩
        rcases f1 a with y | y
        · rw [y, zsl_t q]
        · exact y.2.2
      · rcases f1 a with y | y
        · rw [zsl_f q] at y; exact Or.inl y
        · rw [zsl_f q] at y; exact Or.inr y
    · rw [f3 j hj]; exact pk_un (by omega)
    · rw [cnt, ← Nat.add_assoc] at k
      refine br_f (nI_ge (b := 4) (by omega) (by decide)) (nm_r (e' := nI (u * 4 + c)) (by rw [zi_4, nI_add]) ⟨n + 1, ?_⟩)
      refine xw_dso_19 (g := zg sk ((u * 4 + c) * 8)) (by omega) g1 (by omega) (fun i hi => ?_) (fun i j hij hj e => ?_) ?_ n 0 (by omega)
      · have y := zg_f g3 hi
        exact ⟨y.1, y.2.1, by rw [y.2.2.1.1]; decide⟩
      · have := zg_i g3 (by omega) (show i < n by omega) hj e
        omega
      · rw [e1, e2, nI_add]
        exact f4 post k
theorem xw_dso {pl ho sc : Nat → Int32} (hu : u < 4) (h : zR P C M D ow co pl ho ex sz al se ps nc lm bc rz rm fl lv sk sc dp dc hd po cl ab) : ∃ pl' ho' sc', zR P C M D ow co pl' ho' ex sz al se ps nc lm bc rz rm fl lv sk sc' dp dc hd po cl ab ∧ (∀ a, pl' a = pl a ∨ (pl a = 2 ∧ hd a = nI u ∧ pl' a = 4)) ∧ (∀ c', c' < 4 → sc' (u * 4 + c') = 0) ∧ (∀ j, (j < u * 4 ∨ u * 4 + 4 ≤ j) → sc' j = sc j) ∧
      (∀ post : Int32 → SX → Prop, post (nI (zcn (fun a => pl a = 2 ∧ hd a = nI u) 256)) (nI P, nI C, nI M, nI D, ow, co, (zFI pl'), (zFM pl'), wd, pl', ho', ex, sz, al, se, ps, nc, lm, bc, rz, rm, fl, lv, sk, sc', dp, dc) → wpX_drainStocksOf post (nI P, nI C, nI M, nI D, ow, co, (zFI pl), (zFM pl), wd, pl, ho, ex, sz, al, se, ps, nc, lm, bc, rz, rm, fl, lv, sk, sc, dp, dc) (nI u)) := by
  obtain ⟨pl', ho', sc', h1, h2, h3, h4, h5⟩ := xw_dso_4 (wd := wd) hu 4 0 0 pl ho sc (by omega) (fun c' hc' => by omega) h
  refine ⟨pl', ho', sc', h1, h2, h3, h4, fun post k => ?_⟩
  unfold wpX_drainStocksOf
  rw [Nat.zero_add] at h5
  exact ⟨5, h5 post k⟩
theorem xw_das_2 : ∀ d u (pl ho sc : Nat → Int32), u + d = C → (∀ u' c', u' < u → c' < 4 → sc (u' * 4 + c') = 0) → zR P C M D ow co pl ho ex sz al se ps nc lm bc rz rm fl lv sk sc dp dc hd po cl ab →
    ∃ pl' ho' sc', zR P C M D ow co pl' ho' ex sz al se ps nc lm bc rz rm fl lv sk sc' dp dc hd po cl ab ∧ (∀ a, pl' a = pl a ∨ (pl a = 2 ∧ pl' a = 4)) ∧ (∀ u' c', u' < C → c' < 4 → sc' (u' * 4 + c') = 0) ∧
      (∀ post : SX → Prop, post (nI P, nI C, nI M, nI D, ow, co, (zFI pl'), (zFM pl'), wd, pl', ho', ex, sz, al, se, ps, nc, lm, bc, rz, rm, fl, lv, sk, sc', dp, dc) → wX_drainAllStocks_2 post (d + 1) (nI u) (nI P) (nI C) (nI M) (nI D) ow co (zFI pl) (zFM pl) wd pl ho ex sz al se ps nc lm bc rz rm fl lv sk sc dp dc) := by
  intro d
  induction d with
  | zero =>
    intro u pl ho sc hu h0 h
    have hC : C ≤ 4 := h.1.2.2.2.1
    exact ⟨pl, ho, sc, h, fun a => Or.inl rfl, fun u' c' h1 h2 => h0 u' c' (by omega) h2, fun post k => br_t (nI_le (by omega) (by omega)) k⟩
  | succ d ih =>
    intro u pl ho sc hu h0 h
    have hC : C ≤ 4 := h.1.2.2.2.1
    obtain ⟨pl1, ho1, sc1, h1, h2, h3, h4, h5⟩ := xw_dso (wd := wd) (u := u) (by omega) h
    obtain ⟨pl', ho', sc', g1, g2, g3, g4⟩ := ih (u + 1) pl1 ho1 sc1 (by omega) (fun u' c' hu' hc' => by
      by_cases e : u' = u
      · rw [e]; exact h3 c' hc'
      · rw [h4 _ (by omega)]; exact h0 u' c' (by omega) hc') h1
    refine ⟨pl', ho', sc', g1, fun a => ?_, g3, fun post k => br_f (nI_ge (by omega) (by omega)) (h5 _ (nm_r (nI_1 u) (g4 post k)))⟩
    rcases g2 a with y | y
    · rcases h2 a with z | z
      · exact Or.inl (y.trans z)
      · exact Or.inr ⟨z.1, y.trans z.2.2⟩
    · rcases h2 a with z | z
      · exact Or.inr ⟨z.symm.trans y.1, y.2⟩
      · exact Or.inr ⟨z.1, y.2⟩
/-- all stocks emptied: no object is in a stock any more -/
theorem xw_das {pl ho sc : Nat → Int32} (h : zR P C M D ow co pl ho ex sz al se ps nc lm bc rz rm fl lv sk sc dp dc hd po cl ab) : ∃ ho' sc', zR P C M D ow co (zsl (fun a => pl a = 2) (fun _ => 4) pl) ho' ex sz al se ps nc lm bc rz rm fl lv sk sc' dp dc hd po cl ab ∧ (∀ post : SX → Prop, post (nI P, nI C, nI M, nI D, ow, co, (zFI (zsl (fun a => pl a = 2) (fun _ => 4) pl)), (zFM (zsl (fun a => pl a = 2) (fun _ => 4) pl)), wd, (zsl (fun a => pl a = 2) (fun _ => 4) pl), ho', ex, sz, al, se, ps, nc, lm, bc, rz, rm, fl, lv, sk, sc', dp, dc) → wpX_drainAllStocks post (nI P, nI C, nI M, nI D, ow, co, (zFI pl), (zFM pl), wd, pl, ho, ex, sz, al, se, ps, nc, lm, bc, rz, rm, fl, lv, sk, sc, dp, dc)) := by
  obtain ⟨pl', ho', sc', h1, h2, h3, h4⟩ := xw_das_2 (wd := wd) C 0 pl ho sc (by omega) (fun u' c' hu' => by omega) h
  have e : pl' = zsl (fun a => pl a = 2) (fun _ => 4) pl := by
    funext a
    by_cases q : pl a = 2
    · rw [zsl_t (Q := fun a => pl a = 2) q]
      rcases h2 a with y | y
      · exfalso
        have q' : pl' a = 2 := y.trans q
        obtain ⟨c', g1, g2⟩ := zO_ow h1 (a := a) (by rw [q']; decide)
        obtain ⟨_, u', g3, g4⟩ := (h1.2.2.2.2.2.2.1 a).2.1 q'
        have hC : C ≤ 4 := h.1.2.2.2.1
        have hM : M ≤ 4 := h.1.2.2.2.2.2.1
        obtain ⟨n, k1, k2, k3⟩ := h1.2.2.2.2.2.2.2.2.1 u' c' (by omega) g1
        have : n = 0 := zi_inj (b := 0) (by omega) (by omega) (k1.symm.trans (h3 u' c' g3 g1))
        obtain ⟨_, i, i1, _⟩ := k3.2 a ⟨q', g2, g4⟩
        omega
      · exact y.2
    · rw [zsl_f (Q := fun a => pl a = 2) q]
      rcases h2 a with y | y
      · exact y
      · exact absurd y.1 q
  rw [e] at h1 h4
  refine ⟨ho', sc', h1, fun post k => ?_⟩
  unfold wpX_drainAllStocks
  exact ⟨C + 1, h4 post k⟩
end
end
section
/-! the three stages on both sides -/
def zOutA (ex : Nat → Int32) (X : (Int32 → SX → Prop) → Prop) (Y : (Int32 → SY → Prop) → Prop) : Prop := ∃ r u' v', zS ex u' v' ∧ (∀ post : Int32 → SX → Prop, post r u' → X post) ∧ (∀ post : Int32 → SY → Prop, post r v' → Y post)
def zOutT (c : Nat) (ex : Nat → Int32) (X : (Int32 → SX → Prop) → Prop) (Y : (Int32 → SY → Prop) → Prop) : Prop := ∃ r u' v', ((r = -1 ∧ zS ex u' v') ∨ ∃ x, x < 256 ∧ r = nI x ∧ zTk x c ex u' v') ∧ (∀ post : Int32 → SX → Prop, post r u' → X post) ∧ (∀ post : Int32 → SY → Prop, post r v' → Y post)
def zAB (ow pl ab ab' : Nat → Int32) (i : Nat) : Prop := (∀ j, j % 9 ≠ 4 → ab' j = ab j) ∧ (∀ c, c < 4 → ab' (c * 9 + 4) = ab (c * 9 + 4) ∨ ab' (c * 9 + 4) = 0) ∧ (∀ a c, a < i → pl a = 3 → c < 4 → ow (a / 32) = nI c → ab' (c * 9 + 4) = 0)
section
variable {P C M D : Nat} {ow co wd ex sz al se ps nc bc rz rm fl lv sk sc dp hd po cl : Nat → Int32}
theorem xw_ddp_2 : ∀ d c (pl ho lm dc ab : Nat → Int32), c + d = 4 → (∀ c', c' < c → lm c' = 0 ∧ dc c' = 0) → zR P C M D ow co pl ho ex sz al se ps nc lm bc rz rm fl lv sk sc dp dc hd po cl ab →
    ∃ pl' ho' lm' dc' ab', zR P C M D ow co pl' ho' ex sz al se ps nc lm' bc rz rm fl lv sk sc dp dc' hd po cl ab' ∧ (∀ a, pl' a = pl a ∨ (pl a = 3 ∧ pl' a = 4)) ∧ (∀ c', c' < 4 → lm' c' = 0 ∧ dc' c' = 0) ∧
      (∀ post : SX → Prop, post (nI P, nI C, nI M, nI D, ow, co, (zFI pl'), (zFM pl'), wd, pl', ho', ex, sz, al, se, ps, nc, lm', bc, rz, rm, fl, lv, sk, sc, dp, dc') → wX_drainDepots_2 post (d + 1) (nI c) (nI P) (nI C) (nI M) (nI D) ow co (zFI pl) (zFM pl) wd pl ho ex sz al se ps nc lm bc rz rm fl lv sk sc dp dc) := by
  intro d
  induction d with
  | zero =>
    intro c pl ho lm dc ab hc h0 h
    exact ⟨pl, ho, lm, dc, ab, h, fun a => Or.inl rfl, fun c' h' => h0 c' (by omega), fun post k => br_t (nI_le (a := 4) (by omega) (by omega)) k⟩
  | succ d ih =>
    intro c pl ho lm dc ab hc h0 h
    have hc4 : c < 4 := by omega
    have hM : M ≤ 4 := h.1.2.2.2.2.2.1
    have hM1 : 1 ≤ M := h.1.2.2.2.2.1
    have hD : D ≤ 4 := h.1.2.2.2.2.2.2
    have hn : ¬ (4 : Int32) ≤ nI c := nI_ge (b := 4) hc4 (by decide)
    have c1 : (nI c).toNatClampNeg = c := nI_clamp (by omega)
    have i1 : vp_in (nI c) 4 := vp_in_nI hc4 (by decide)
    obtain ⟨n, m, e1, e2, e3, e4, e5⟩ := h.2.2.2.2.2.2.2.2.2.1 c hc4
    have nM : n * M ≤ 16 := zm_le (by omega) hM
    by_cases n0 : n = 0
    · have m0 : m = 0 := by omega
      rw [n0] at e1
      rw [m0] at e2
      obtain ⟨pl', ho', lm', dc', ab', k1, k2, k3, k4⟩ := ih (c + 1) pl ho lm dc ab (by omega) (fun c' hc' => by
        by_cases e : c' = c
        · rw [e]; exact ⟨e2, e1⟩
        · exact h0 c' (by omega)) h
      refine ⟨pl', ho', lm', dc', ab', k1, k2, k3, fun post k => br_f hn ⟨i1, br_c (fun _ => nm_r (nI_1 c) (k4 post k)) (fun _ => ⟨i1, br_t ?_ (nm_r (nI_1 c) (k4 post k))⟩)⟩⟩
      rw [c1, e1]; decide
    · have hex : ¬ ex c = 0 := by
        have p1 : 0 < n * M := Nat.mul_pos (by omega) (by omega)
        obtain ⟨a, h1, h2, h3, h4⟩ := e5.1 0 p1
        exact zO_ex h (p := a / 32) (by omega) hc4 h3.2
      have hZ : ∀ a, (zQd ow pl c a ∧ po a < nI (n * M)) ↔ (zQd ow pl c a ∧ po a < nI (n * M)) := fun _ => Iff.rfl
      have hW : ∀ a, ¬ (zQd ow pl c a ∧ ¬ po a < nI (n * M)) := fun a w => by
        obtain ⟨_, i, i1, i2, i3⟩ := e5.2 a w.1
        exact w.2 (by rw [i3]; exact nI_lt i1 (by omega))
      have hR := zl_drop (Z := fun a => zQd ow pl c a ∧ po a < nI (n * M)) (W := fun a => zQd ow pl c a ∧ ¬ po a < nI (n * M)) (dp' := dp) (lm' := upd lm c (nI (min m (n - n)))) (ab' := upd ab (c * 9 + 4) (nI (min m (n - n)))) (m' := min m (n - n)) (k := n) h hc4 e1 (by omega) (Nat.le_refl n) hZ (fun _ => Iff.rfl) (fun i hi => by omega) (fun _ _ => rfl) pk_us (by omega) (fun c' _ ne => pk_un ne) (zAt_4 (c := c) h.2.2.2.2.2.1 _)
      have ep : zsl (fun a => zQd ow pl c a ∧ ¬ po a < nI (n * M)) (fun a => po a - nI (n * M)) po = po := by
        funext a; exact zsl_f (hW a)
      rw [ep] at hR
      have w1 : zws pl (zg dp (c * 16)) (fun _ => 4) (n * M) = zsl (fun a => zQd ow pl c a ∧ po a < nI (n * M)) (fun _ => 4) pl := zws_sl (zg_lo e5 (by omega) (Nat.le_refl _))
      have w2 : zws ho (zg dp (c * 16)) (fun _ => -1) (n * M) = zsl (fun a => zQd ow pl c a ∧ po a < nI (n * M)) (fun _ => -1) ho := zws_sl (zg_lo e5 (by omega) (Nat.le_refl _))
      obtain ⟨pl', ho', lm', dc', ab', k1, k2, k3, k4⟩ := ih (c + 1) _ _ _ _ _ (by omega) (fun c' hc' => by
        by_cases e : c' = c
        · rw [e, pk_us, pk_us, Nat.sub_self, Nat.min_zero]; exact ⟨rfl, rfl⟩
        · rw [pk_un e, pk_un e]; exact h0 c' (by omega)) hR
      refine ⟨pl', ho', lm', dc', ab', k1, fun a => ?_, k3, fun post k => br_f hn ⟨i1, br_f (by rw [c1]; exact hex) ⟨i1, br_f ?_ ⟨i1, ?_⟩⟩⟩⟩
      · by_cases q : zQd ow pl c a ∧ po a < nI (n * M)
        · refine Or.inr ⟨q.1.1, ?_⟩
          rcases k2 a with y | y
          · rw [y]; exact zsl_t (Q := fun a => zQd ow pl c a ∧ po a < nI (n * M)) q
          · exact y.2
        · rcases k2 a with y | y
          · rw [zsl_f (Q := fun a => zQd ow pl c a ∧ po a < nI (n * M)) q] at y; exact Or.inl y
          · rw [zsl_f (Q := fun a => zQd ow pl c a ∧ po a < nI (n * M)) q] at y; exact Or.inr y
      · rw [c1, e1]; exact nI_nle (by omega) (by omega)
      · rw [c1, e1]
        refine xw_drp (g := zg dp (c * 16)) hc4 e1 (by omega) hM (Nat.le_refl n) (fun i hi => ?_) (fun i j hij hj e => ?_) ?_
        · have y := zg_f e5 hi
          exact ⟨y.1, y.2.1, by rw [y.2.2.1.1]; decide⟩
        · have := zg_i e5 (by omega) (show i < n * M by omega) hj e
          omega
        · rw [w1, w2, Nat.sub_self (n * M)]
          exact xw_low (n := n - n) (m := m) hc4 pk_us e2 (by omega) (by omega) (nm_r (nI_1 c) (k4 post k))
/-- all depots emptied -/
theorem xw_ddp {pl ho lm dc ab : Nat → Int32} (h : zR P C M D ow co pl ho ex sz al se ps nc lm bc rz rm fl lv sk sc dp dc hd po cl ab) : ∃ ho' lm' dc' ab', zR P C M D ow co (zsl (fun a => pl a = 3) (fun _ => 4) pl) ho' ex sz al se ps nc lm' bc rz rm fl lv sk sc dp dc' hd po cl ab' ∧ (∀ c', c' < 4 → lm' c' = 0) ∧
      (∀ post : SX → Prop, post (nI P, nI C, nI M, nI D, ow, co, (zFI (zsl (fun a => pl a = 3) (fun _ => 4) pl)), (zFM (zsl (fun a => pl a = 3) (fun _ => 4) pl)), wd, (zsl (fun a => pl a = 3) (fun _ => 4) pl), ho', ex, sz, al, se, ps, nc, lm', bc, rz, rm, fl, lv, sk, sc, dp, dc') → wpX_drainDepots post (nI P, nI C, nI M, nI D, ow, co, (zFI pl), (zFM pl), wd, pl, ho, ex, sz, al, se, ps, nc, lm, bc, rz, rm, fl, lv, sk, sc, dp, dc)) := by
  obtain ⟨pl', ho', lm', dc', ab', h1, h2, h3, h4⟩ := xw_ddp_2 (wd := wd) 4 0 pl ho lm dc ab (by omega) (fun c' hc' => by omega) h
  have e : pl' = zsl (fun a => pl a = 3) (fun _ => 4) pl := by
    funext a
    by_cases q : pl a = 3
    · rw [zsl_t (Q := fun a => pl a = 3) q]
      rcases h2 a with y | y
      · exfalso
        have q' : pl' a = 3 := y.trans q
        obtain ⟨c', g1, g2⟩ := zO_ow h1 (a := a) (by rw [q']; decide)
        have hM : M ≤ 4 := h.1.2.2.2.2.2.1
        have hD : D ≤ 4 := h.1.2.2.2.2.2.2
        obtain ⟨n, m, k1, k2, k3, k4, k5⟩ := h1.2.2.2.2.2.2.2.2.2.1 c' g1
        have n0 : n = 0 := zi_inj (b := 0) (by omega) (by omega) (k1.symm.trans (h3 c' g1).2)
        obtain ⟨_, i, i1, _⟩ := k5.2 a ⟨q', g2⟩
        rw [n0] at i1
        omega
      · exact y.2
    · rw [zsl_f (Q := fun a => pl a = 3) q]
      rcases h2 a with y | y
      · exact y
      · exact absurd y.1 q
  rw [e] at h1 h4
  refine ⟨ho', lm', dc', ab', h1, fun c' hc' => (h3 c' hc').1, fun post k => ?_⟩
  unfold wpX_drainDepots
  exact ⟨5, h4 post k⟩
end
section
variable {P C M D : Nat} {ow co wd pl ho ex sz al se ps nc lm bc rz rm fl lv sk sc dp dc hd po cl ab : Nat → Int32}
variable {post : Int32 → SY → Prop}
theorem yw_st1_2 (hP : P ≤ 8) (k : ∃ n : Nat, wY_stage_83 post n 0 0 (nI P) (nI C) (nI M) (nI D) wd pl hd po ow cl ex ab) : ∀ d i, i + d = 32 * P → wY_stage_2 post 1 (d + 1) (nI i) (nI P) (nI C) (nI M) (nI D) wd pl hd po ow cl ex ab := by
  intro d
  induction d with
  | zero =>
    intro i hi
    exact br_t (by rw [zi_32l]; exact nI_le (by omega) (by omega)) k
  | succ d ih =>
    intro i hi
    refine br_f (by rw [zi_32l]; exact nI_ge (by omega) (by omega)) (br_f (by decide) ?_)
    unfold wY_stage_53
    exact br_f (by decide) (nm_r (nI_1 i) (ih (i + 1) (by omega)))
theorem yw_st3_2 (hP : P ≤ 8) (hob : ∀ a, pl a = 2 → a < 32 * P) (k : ∃ n : Nat, wY_stage_83 post n 0 0 (nI P) (nI C) (nI M) (nI D) wd (zsl (fun a => pl a = 2) (fun _ => 4) pl) (zsl (fun a => pl a = 2) (fun _ => -1) hd) (zsl (fun a => pl a = 2) (fun _ => 0) po) ow cl ex ab) :
    ∀ d i, i + d = 32 * P → wY_stage_2 post 3 (d + 1) (nI i) (nI P) (nI C) (nI M) (nI D) wd (zsl (fun a => a < i ∧ pl a = 2) (fun _ => 4) pl) (zsl (fun a => a < i ∧ pl a = 2) (fun _ => -1) hd) (zsl (fun a => a < i ∧ pl a = 2) (fun _ => 0) po) ow cl ex ab := by
  intro d
  induction d with
  | zero =>
    intro i hi
    have e : ∀ a, (a < i ∧ pl a = 2) ↔ pl a = 2 := fun a => ⟨fun z => z.2, fun z => ⟨by have := hob a z; omega, z⟩⟩
    rw [zsl_c (f := pl) e, zsl_c (f := hd) e, zsl_c (f := po) e]
    exact br_t (by rw [zi_32l]; exact nI_le (by omega) (by omega)) k
  | succ d ih =>
    intro i hi
    have c1 : (nI i).toNatClampNeg = i := nI_clamp (by omega)
    have r := ih (i + 1) (by omega)
    refine br_f (by rw [zi_32l]; exact nI_ge (by omega) (by omega)) (br_f (by decide) ?_)
    unfold wY_stage_53
    refine br_t rfl ⟨vp_in_nI (by omega) (by decide), br_c (fun q => ?_) (fun q => ?_)⟩
    · rw [c1, zsl_i] at q
      rw [← zsl_st (f := pl) (g := fun _ => 4) (Q := fun a => pl a = 2) q, ← zsl_st (f := hd) (g := fun _ => -1) (Q := fun a => pl a = 2) q, ← zsl_st (f := po) (g := fun _ => 0) (Q := fun a => pl a = 2) q] at r
      exact yw_ret (by omega) (nm_r (nI_1 i) r)
    · rw [c1, zsl_i] at q
      rw [← zsl_sf (f := pl) (g := fun _ => 4) (Q := fun a => pl a = 2) q, ← zsl_sf (f := hd) (g := fun _ => -1) (Q := fun a => pl a = 2) q, ← zsl_sf (f := po) (g := fun _ => 0) (Q := fun a => pl a = 2) q] at r
      exact nm_r (nI_1 i) r
theorem yw_st2_2 (hP : P ≤ 8) (hob : ∀ a, pl a = 3 → a < 32 * P ∧ ∃ c, c < 4 ∧ ow (a / 32) = nI c) :
    ∀ d i ab', i + d = 32 * P → zAB ow pl ab ab' i → ∃ ab2, zAB ow pl ab ab2 (32 * P) ∧ ∀ post : Int32 → SY → Prop, (∃ n : Nat, wY_stage_83 post n 0 0 (nI P) (nI C) (nI M) (nI D) wd (zsl (fun a => pl a = 3) (fun _ => 4) pl) (zsl (fun a => pl a = 3) (fun _ => -1) hd) (zsl (fun a => pl a = 3) (fun _ => 0) po) ow cl ex ab2) →
      wY_stage_2 post 2 (d + 1) (nI i) (nI P) (nI C) (nI M) (nI D) wd (zsl (fun a => a < i ∧ pl a = 3) (fun _ => 4) pl) (zsl (fun a => a < i ∧ pl a = 3) (fun _ => -1) hd) (zsl (fun a => a < i ∧ pl a = 3) (fun _ => 0) po) ow cl ex ab' := by
  intro d
  induction d with
  | zero =>
    intro i ab' hi hab
    have e : ∀ a, (a < i ∧ pl a = 3) ↔ pl a = 3 := fun a => ⟨fun z => z.2, fun z => ⟨by have := (hob a z).1; omega, z⟩⟩
    rw [zsl_c (f := pl) e, zsl_c (f := hd) e, zsl_c (f := po) e]
    rw [show i = 32 * P by omega] at hab ⊢
    exact ⟨ab', hab, fun post k => br_t (by rw [zi_32l]; exact nI_le (by omega) (by omega)) k⟩
  | succ d ih =>
    intro i ab' hi hab
    have c1 : (nI i).toNatClampNeg = i := nI_clamp (by omega)
    have hn : ¬ 32 * nI P ≤ nI i := by rw [zi_32l]; exact nI_ge (by omega) (by omega)
    by_cases q : pl i = 3
    · have q' : zsl (fun a => a < i ∧ pl a = 3) (fun _ => 4) pl (nI i).toNatClampNeg = 3 := by rw [c1, zsl_i]; exact q
      obtain ⟨c, hc, ho⟩ := (hob i q).2
      have a4 : nI c * 9 + 4 = nI (c * 9 + 4) := by rw [zi_9, zi_a4]
      have od : ow (nI i / 32).toNatClampNeg = nI c := by rw [zi_div (by omega), nI_clamp (by omega)]; exact ho
      obtain ⟨ab2, g1, g2⟩ := ih (i + 1) (upd ab' (c * 9 + 4) 0) (by omega) ⟨fun j hj => by rw [pk_un (by omega)]; exact hab.1 j hj, fun c' hc' => by
        by_cases e : c' = c
        · rw [e, pk_us]; exact Or.inr rfl
        · rw [pk_un (by omega)]; exact hab.2.1 c' hc', fun a c' ha hq hc' e => by
        by_cases e2 : c' = c
        · rw [e2, pk_us]
        · rw [pk_un (by omega)]
          refine hab.2.2 a c' ?_ hq hc' e
          have : a ≠ i := fun y => e2 (zi_inj (by omega) (by omega) (e.symm.trans (by rw [y]; exact ho)))
          omega⟩
      rw [← zsl_st (f := pl) (g := fun _ => 4) (Q := fun a => pl a = 3) q, ← zsl_st (f := hd) (g := fun _ => -1) (Q := fun a => pl a = 3) q, ← zsl_st (f := po) (g := fun _ => 0) (Q := fun a => pl a = 3) q] at g2
      refine ⟨ab2, g1, fun post k => br_f hn (br_t rfl ⟨vp_in_nI (by omega) (by decide), br_t q' ⟨zi_32ne, ?_, ?_, nm_r (e' := upd ab' (c * 9 + 4) 0) ?_ (yw_ret (by omega) ?_)⟩⟩)⟩
      · rw [zi_div (by omega)]; exact vp_in_nI (by omega) (by decide)
      · rw [od, a4]; exact vp_in_nI (by omega) (by decide)
      · rw [od, a4, nI_clamp (by omega)]
      · show wY_stage_53 post _ 2 (nI i) _ _ _ _ _ _ _ _ _ _ _ _
        unfold wY_stage_53
        exact br_f (by decide) (nm_r (nI_1 i) (g2 post k))
    · have q' : ¬ zsl (fun a => a < i ∧ pl a = 3) (fun _ => 4) pl (nI i).toNatClampNeg = 3 := by rw [c1, zsl_i]; exact q
      obtain ⟨ab2, g1, g2⟩ := ih (i + 1) ab' (by omega) ⟨hab.1, hab.2.1, fun a c' ha hq hc' e => hab.2.2 a c' (by
        have : a ≠ i := fun y => q (y ▸ hq)
        omega) hq hc' e⟩
      rw [← zsl_sf (f := pl) (g := fun _ => 4) (Q := fun a => pl a = 3) q, ← zsl_sf (f := hd) (g := fun _ => -1) (Q := fun a => pl a = 3) q, ← zsl_sf (f := po) (g := fun _ => 0) (Q := fun a => pl a = 3) q] at g2
      refine ⟨ab2, g1, fun post k => br_f hn (br_t rfl ⟨vp_in_nI (by omega) (by decide), br_f q' ?_⟩)⟩
      unfold wY_stage_53
      exact br_f (by decide) (nm_r (nI_1 i) (g2 post k))
end
section
variable {P C M D : Nat} {ow co wd pl ho ex sz al se ps nc lm bc rz rm fl lv sk sc dp dc hd po cl ab : Nat → Int32}
theorem xy_st1 (h : zR P C M D ow co pl ho ex sz al se ps nc lm bc rz rm fl lv sk sc dp dc hd po cl ab) : zOutA ex (fun post => wpX_runStage post (nI P, nI C, nI M, nI D, ow, co, (zFI pl), (zFM pl), wd, pl, ho, ex, sz, al, se, ps, nc, lm, bc, rz, rm, fl, lv, sk, sc, dp, dc) 1) (fun post => wpY_stage post (nI P, nI C, nI M, nI D, wd, pl, hd, po, ow, cl, ex, ab) 1) := by
  have hP : P ≤ 8 := h.1.2.1
  obtain ⟨r, u', v', hS, hx, hy⟩ := xy_rp_4 (wd := wd) P 0 0 _ _ _ _ _ _ (by omega) h
  refine ⟨r, u', v', hS, fun post k => ?_, fun post k => ?_⟩
  · unfold wpX_runStage
    refine br_f (by decide) ?_
    unfold wX_runStage_9
    refine br_f (by decide) ?_
    unfold wX_runStage_18 wpX_reap
    exact ⟨P + 1, hx _ k⟩
  · unfold wpY_stage
    exact ⟨32 * P + 1, yw_st1_2 hP ⟨P + 1, hy _ k⟩ (32 * P) 0 (by omega)⟩
theorem xy_st2 (h : zR P C M D ow co pl ho ex sz al se ps nc lm bc rz rm fl lv sk sc dp dc hd po cl ab) : zOutA ex (fun post => wpX_runStage post (nI P, nI C, nI M, nI D, ow, co, (zFI pl), (zFM pl), wd, pl, ho, ex, sz, al, se, ps, nc, lm, bc, rz, rm, fl, lv, sk, sc, dp, dc) 2) (fun post => wpY_stage post (nI P, nI C, nI M, nI D, wd, pl, hd, po, ow, cl, ex, ab) 2) := by
  have hP : P ≤ 8 := h.1.2.1
  obtain ⟨ho', lm', dc', ab', h1, h2, h3⟩ := xw_ddp (wd := wd) h
  have hob : ∀ a, pl a = 3 → a < 32 * P ∧ ∃ c, c < 4 ∧ ow (a / 32) = nI c := fun a q => ⟨(h.2.2.1 a (by rw [q]; decide)).1, zO_ow h (by rw [q]; decide)⟩
  -- Y's attr is fixed only behind its loop: the reap is asked for any such attr
  have hR : ∀ ab2, zAB ow pl ab ab2 (32 * P) → zR P C M D ow co (zsl (fun a => pl a = 3) (fun _ => 4) pl) ho' ex sz al se ps nc lm' bc rz rm fl lv sk sc dp dc' (zsl (fun a => pl a = 3) (fun _ => -1) hd) (zsl (fun a => pl a = 3) (fun _ => 0) po) cl ab2 := by
    intro ab2 hab
    have hA : zAt ab2 ex sz al se nc lm' bc rz rm fl := by
      intro c hc
      obtain ⟨t0, t1, t2, t3, t4, t5, t6, t7, t8⟩ := h.2.2.2.2.2.1 c hc
      refine ⟨(hab.1 _ (by omega)).trans t0, (hab.1 _ (by omega)).trans t1, (hab.1 _ (by omega)).trans t2, (hab.1 _ (by omega)).trans t3, fun z => ?_, (hab.1 _ (by omega)).trans t5, (hab.1 _ (by omega)).trans t6, (hab.1 _ (by omega)).trans t7, (hab.1 _ (by omega)).trans t8⟩
      rw [h2 c hc]
      rcases hab.2.1 c hc with y | y
      · obtain ⟨n, m, e1, e2, e3, e4, e5⟩ := h.2.2.2.2.2.2.2.2.2.1 c hc
        by_cases n0 : n = 0
        · rw [y, t4 z, e2, show m = 0 by omega]; rfl
        · have p1 : 0 < n * M := Nat.mul_pos (by omega) h.1.2.2.2.2.1
          obtain ⟨a, q1, q2, q3, q4⟩ := e5.1 0 p1
          exact hab.2.2 a c (hob a q3.1).1 q3.1 hc q3.2
      · exact y
    obtain ⟨hBd, hPg, hOb, hNm, hCa, hAt, hHd, hCo, hSk, hDp, hLv⟩ := h1
    refine zl_hp (hd := hd) (po := po) (hd' := zsl (fun a => pl a = 3) (fun _ => -1) hd) (po' := zsl (fun a => pl a = 3) (fun _ => 0) po) ⟨hBd, hPg, hOb, hNm, hCa, hA, hHd, hCo, hSk, hDp, hLv⟩ (fun a q => zsl_f (fun z => ?_)) (fun a q => zsl_f (fun z => ?_))
    · rw [zsl_t (Q := fun a => pl a = 3) z] at q
      rcases q with q | q | q <;> exact absurd q (by decide)
    · rw [zsl_t (Q := fun a => pl a = 3) z] at q
      rcases q with q | q <;> exact absurd q (by decide)
  obtain ⟨ab2, hab, hy2⟩ := yw_st2_2 (P := P) (C := C) (M := M) (D := D) (wd := wd) (pl := pl) (hd := hd) (po := po) (ow := ow) (cl := cl) (ex := ex) (ab := ab) hP hob (32 * P) 0 ab (by omega) ⟨fun _ _ => rfl, fun _ _ => Or.inl rfl, fun a c ha => by omega⟩
  rw [zsl_0, zsl_0, zsl_0] at hy2
  obtain ⟨r, u', v', hS, hx, hy⟩ := xy_rp_4 (wd := wd) P 0 0 _ _ _ _ _ _ (by omega) (hR ab2 hab)
  refine ⟨r, u', v', hS, fun post k => ?_, fun post k => ?_⟩
  · unfold wpX_runStage
    refine br_t rfl (h3 _ ?_)
    show wX_runStage_9 post 2 _ _ _ _ _ _ _ _ _ _ _ _ _ _ _ _ _ _ _ _ _ _ _ _ _ _ _
    unfold wX_runStage_9
    refine br_f (by decide) ?_
    unfold wX_runStage_18 wpX_reap
    exact ⟨P + 1, hx _ k⟩
  · unfold wpY_stage
    exact ⟨32 * P + 1, hy2 _ ⟨P + 1, hy _ k⟩⟩
theorem xy_st3 (h : zR P C M D ow co pl ho ex sz al se ps nc lm bc rz rm fl lv sk sc dp dc hd po cl ab) : zOutA ex (fun post => wpX_runStage post (nI P, nI C, nI M, nI D, ow, co, (zFI pl), (zFM pl), wd, pl, ho, ex, sz, al, se, ps, nc, lm, bc, rz, rm, fl, lv, sk, sc, dp, dc) 3) (fun post => wpY_stage post (nI P, nI C, nI M, nI D, wd, pl, hd, po, ow, cl, ex, ab) 3) := by
  have hP : P ≤ 8 := h.1.2.1
  obtain ⟨ho', sc', h1, h3⟩ := xw_das (wd := wd) h
  have hob : ∀ a, pl a = 2 → a < 32 * P := fun a q => (h.2.2.1 a (by rw [q]; decide)).1
  have hR := zl_hp (hd := hd) (po := po) (hd' := zsl (fun a => pl a = 2) (fun _ => -1) hd) (po' := zsl (fun a => pl a = 2) (fun _ => 0) po) h1 (fun a q => zsl_f (fun z => by
    rw [zsl_t (Q := fun a => pl a = 2) z] at q
    rcases q with q | q | q <;> exact absurd q (by decide))) (fun a q => zsl_f (fun z => by
    rw [zsl_t (Q := fun a => pl a = 2) z] at q
    rcases q with q | q <;> exact absurd q (by decide)))
  obtain ⟨r, u', v', hS, hx, hy⟩ := xy_rp_4 (wd := wd) P 0 0 _ _ _ _ _ _ (by omega) hR
  refine ⟨r, u', v', hS, fun post k => ?_, fun post k => ?_⟩
  · unfold wpX_runStage
    refine br_f (by decide) ?_
    unfold wX_runStage_9
    refine br_t rfl (h3 _ ?_)
    show wX_runStage_18 post _ _ _ _ _ _ _ _ _ _ _ _ _ _ _ _ _ _ _ _ _ _ _ _ _ _ _
    unfold wX_runStage_18 wpX_reap
    exact ⟨P + 1, hx _ k⟩
  · unfold wpY_stage
    have r := yw_st3_2 (post := post) hP hob ⟨P + 1, hy _ k⟩ (32 * P) 0 (by omega)
    rw [zsl_0, zsl_0, zsl_0] at r
    exact ⟨32 * P + 1, r⟩
theorem xy_stg (h : zR P C M D ow co pl ho ex sz al se ps nc lm bc rz rm fl lv sk sc dp dc hd po cl ab) {s : Nat} (h1 : 1 ≤ s) (h2 : s ≤ 3) : zOutA ex (fun post => wpX_runStage post (nI P, nI C, nI M, nI D, ow, co, (zFI pl), (zFM pl), wd, pl, ho, ex, sz, al, se, ps, nc, lm, bc, rz, rm, fl, lv, sk, sc, dp, dc) (nI s)) (fun post => wpY_stage post (nI P, nI C, nI M, nI D, wd, pl, hd, po, ow, cl, ex, ab) (nI s)) := by
  rcases (show s = 1 ∨ s = 2 ∨ s = 3 by omega) with e | e | e
  · rw [e]; exact xy_st1 h
  · rw [e]; exact xy_st2 h
  · rw [e]; exact xy_st3 h
end
end
section
/-! takePage, pressure, alloc on both sides -/
section
variable {P C M D : Nat} {ow co wd pl ho ex sz al se ps nc lm bc rz rm fl lv sk sc dp dc hd po cl ab : Nat → Int32}
variable {p x c u : Nat}
theorem xy_tp_f (h : zR P C M D ow co pl ho ex sz al se ps nc lm bc rz rm fl lv sk sc dp dc hd po cl ab) (hp : p < P) (hw : ow p = -1) (d i : Nat) : zOutA ex (fun post => wX_takePage_7 post (d + 1) (nI p) (nI i) (nI P) (nI C) (nI M) (nI D) ow co (zFI pl) (zFM pl) wd pl ho ex sz al se ps nc lm bc rz rm fl lv sk sc dp dc) (fun post => wY_takePage_7 post (d + 1) (nI p) (nI i) (nI P) (nI C) (nI M) (nI D) wd pl hd po ow cl ex ab) := by
  have hP : P ≤ 8 := h.1.2.1
  have ne : ¬ nI p = -1 := zi_n1 (by omega)
  have c1 : (nI p).toNatClampNeg = p := nI_clamp (by omega)
  have i1 : vp_in (nI p) 8 := vp_in_nI (by omega) (by decide)
  refine ⟨nI p, _, _, zS_in (wd := wd) (zl_own h hp (v := -16) (Or.inl hw) (Or.inr rfl)), fun post k => ?_, fun post k => ?_⟩
  · have t : wX_takePage_34 post (nI p) (nI P) (nI C) (nI M) (nI D) ow co (zFI pl) (zFM pl) wd pl ho ex sz al se ps nc lm bc rz rm fl lv sk sc dp dc := by
      unfold wX_takePage_34
      exact br_f ne ⟨i1, nm_r (e' := upd ow p (-16)) (by rw [c1]) k⟩
    exact br_c (fun _ => t) (fun _ => br_f ne t)
  · have t : wY_takePage_34 post (nI p) (nI P) (nI C) (nI M) (nI D) wd pl hd po ow cl ex ab := by
      unfold wY_takePage_34
      exact br_t (nI_pos' (by omega)) ⟨i1, nm_r (e' := upd ow p (-16)) (by rw [c1]) k⟩
    exact br_c (fun _ => t) (fun _ => br_f ne t)
end
theorem xy_tp_7 : ∀ d i (P C M D : Nat) (ow co wd pl ho ex sz al se ps nc lm bc rz rm fl lv sk sc dp dc hd po cl ab : Nat → Int32), 1 ≤ i → i + d = 4 → zR P C M D ow co pl ho ex sz al se ps nc lm bc rz rm fl lv sk sc dp dc hd po cl ab → zOutA ex (fun post => wX_takePage_7 post (d + 1) (-1) (nI i) (nI P) (nI C) (nI M) (nI D) ow co (zFI pl) (zFM pl) wd pl ho ex sz al se ps nc lm bc rz rm fl lv sk sc dp dc) (fun post => wY_takePage_7 post (d + 1) (-1) (nI i) (nI P) (nI C) (nI M) (nI D) wd pl hd po ow cl ex ab) := by
  intro d
  induction d with
  | zero =>
    intro i P C M D ow co wd pl ho ex sz al se ps nc lm bc rz rm fl lv sk sc dp dc hd po cl ab hi hd4 h
    have e : i = 4 := by omega
    rw [e]
    refine ⟨-6, _, _, zS_in (wd := wd) h, fun post k => br_t (by decide) ?_, fun post k => br_t (by decide) ?_⟩
    · unfold wX_takePage_34; exact br_t rfl k
    · unfold wY_takePage_34; exact br_f (by decide) k
  | succ d ih =>
    intro i P C M D ow co wd pl ho ex sz al se ps nc lm bc rz rm fl lv sk sc dp dc hd po cl ab hi hd4 h
    have hn : ¬ (3 : Int32) < nI i := nI_nlt (a := 3) (by omega) (by decide)
    obtain ⟨r, u1, v1, hS, hx, hy⟩ := xy_stg (wd := wd) h (s := i) hi (by omega)
    refine zS_el (Pr := fun u1 v1 => (∀ post : Int32 → SX → Prop, post r u1 → wpX_runStage post (nI P, nI C, nI M, nI D, ow, co, (zFI pl), (zFM pl), wd, pl, ho, ex, sz, al, se, ps, nc, lm, bc, rz, rm, fl, lv, sk, sc, dp, dc) (nI i)) → (∀ post : Int32 → SY → Prop, post r v1 → wpY_stage post (nI P, nI C, nI M, nI D, wd, pl, hd, po, ow, cl, ex, ab) (nI i)) → zOutA ex (fun post => wX_takePage_7 post (d + 1 + 1) (-1) (nI i) (nI P) (nI C) (nI M) (nI D) ow co (zFI pl) (zFM pl) wd pl ho ex sz al se ps nc lm bc rz rm fl lv sk sc dp dc) (fun post => wY_takePage_7 post (d + 1 + 1) (-1) (nI i) (nI P) (nI C) (nI M) (nI D) wd pl hd po ow cl ex ab)) ?_ hS hx hy
    intro P' C' M' D' ow' co' wd' pl' ho' sz' al' se' ps' nc' lm' bc' rz' rm' fl' lv' sk' sc' dp' dc' hd' po' cl' ab' h' hx hy
    obtain ⟨r2, hr, fx, fy⟩ := xy_fp (P := P') (C := C') (M := M') (D := D') (ow := ow') (co := co') (wd := wd') (pl := pl') (ho := ho') (ex := ex) (sz := sz') (al := al') (se := se') (ps := ps') (nc := nc') (lm := lm') (bc := bc') (rz := rz') (rm := rm') (fl := fl') (lv := lv') (sk := sk') (sc := sc') (dp := dp') (dc := dc') (hd := hd') (po := po') (cl := cl') (ab := ab') (fi := zFI pl') (fm := zFM pl') h'.1.2.1
    rcases hr with e | ⟨p, hp, e, hw⟩
    · obtain ⟨r3, u3, v3, hS3, hx3, hy3⟩ := ih (i + 1) P' C' M' D' ow' co' wd' pl' ho' ex sz' al' se' ps' nc' lm' bc' rz' rm' fl' lv' sk' sc' dp' dc' hd' po' cl' ab' (by omega) (by omega) h'
      rw [e] at fx fy
      exact ⟨r3, u3, v3, hS3, fun post k => br_f hn (br_t rfl (hx _ (fx _ (nm_r (nI_1 i) (hx3 post k))))), fun post k => br_f hn (br_t rfl (hy _ (fy _ (nm_r (nI_1 i) (hy3 post k)))))⟩
    · obtain ⟨r3, u3, v3, hS3, hx3, hy3⟩ := xy_tp_f (wd := wd') h' hp hw d (i + 1)
      rw [e] at fx fy
      exact ⟨r3, u3, v3, hS3, fun post k => br_f hn (br_t rfl (hx _ (fx _ (nm_r (nI_1 i) (hx3 post k))))), fun post k => br_f hn (br_t rfl (hy _ (fy _ (nm_r (nI_1 i) (hy3 post k)))))⟩
section
variable {P C M D : Nat} {ow co wd pl ho ex sz al se ps nc lm bc rz rm fl lv sk sc dp dc hd po cl ab : Nat → Int32}
variable {p x c u : Nat}
theorem xy_takePage (h : zR P C M D ow co pl ho ex sz al se ps nc lm bc rz rm fl lv sk sc dp dc hd po cl ab) : zOutA ex (fun post => wpX_takePage post (nI P, nI C, nI M, nI D, ow, co, (zFI pl), (zFM pl), wd, pl, ho, ex, sz, al, se, ps, nc, lm, bc, rz, rm, fl, lv, sk, sc, dp, dc)) (fun post => wpY_takePage post (nI P, nI C, nI M, nI D, wd, pl, hd, po, ow, cl, ex, ab)) := by
  have hP : P ≤ 8 := h.1.2.1
  obtain ⟨r2, hr, fx, fy⟩ := xy_fp (P := P) (C := C) (M := M) (D := D) (ow := ow) (co := co) (wd := wd) (pl := pl) (ho := ho) (ex := ex) (sz := sz) (al := al) (se := se) (ps := ps) (nc := nc) (lm := lm) (bc := bc) (rz := rz) (rm := rm) (fl := fl) (lv := lv) (sk := sk) (sc := sc) (dp := dp) (dc := dc) (hd := hd) (po := po) (cl := cl) (ab := ab) (fi := zFI pl) (fm := zFM pl) hP
  rcases hr with e | ⟨p, hp, e, hw⟩
  · obtain ⟨r3, u3, v3, hS3, hx3, hy3⟩ := xy_tp_7 3 1 P C M D ow co wd pl ho ex sz al se ps nc lm bc rz rm fl lv sk sc dp dc hd po cl ab (by omega) (by omega) h
    rw [e] at fx fy
    refine ⟨r3, u3, v3, hS3, fun post k => ?_, fun post k => ?_⟩
    · unfold wpX_takePage; exact fx _ ⟨4, hx3 post k⟩
    · unfold wpY_takePage; exact fy _ ⟨4, hy3 post k⟩
  · obtain ⟨r3, u3, v3, hS3, hx3, hy3⟩ := xy_tp_f (wd := wd) h hp hw 0 1
    rw [e] at fx fy
    refine ⟨r3, u3, v3, hS3, fun post k => ?_, fun post k => ?_⟩
    · unfold wpX_takePage; exact fx _ ⟨1, hx3 post k⟩
    · unfold wpY_takePage; exact fy _ ⟨1, hy3 post k⟩
end
theorem yw_pr_17 (P C M D : Nat) (ow co wd pl ho ex sz al se ps nc lm bc rz rm fl lv sk sc dp dc hd po cl ab : Nat → Int32) {l : Nat} {t : Int32} {post : Int32 → SY → Prop} (k : post t (nI P, nI C, nI M, nI D, wd, pl, hd, po, ow, cl, ex, ab)) : ∀ d i, i + d = 4 → l < i → wY_pressure_17 post (nI l) (d + 1) t (nI i) (nI P) (nI C) (nI M) (nI D) wd pl hd po ow cl ex ab := by
  intro d
  induction d with
  | zero =>
    intro i hi hl
    exact br_t (nI_lt (a := 3) (by omega) (by omega)) k
  | succ d ih =>
    intro i hi hl
    exact br_f (nI_nlt (a := 3) (by omega) (by decide)) (br_t (nI_lt hl (by omega)) (nm_r (nI_1 i) (ih (i + 1) (by omega) (by omega))))
theorem xy_pr_17 {l : Nat} (hl : l ≤ 3) : ∀ d i (t : Int32) (P C M D : Nat) (ow co wd pl ho ex sz al se ps nc lm bc rz rm fl lv sk sc dp dc hd po cl ab : Nat → Int32), 1 ≤ i → i + d = 4 → zR P C M D ow co pl ho ex sz al se ps nc lm bc rz rm fl lv sk sc dp dc hd po cl ab → zOutA ex (fun post => wX_pressure_17 post (nI l) (d + 1) t (nI i) (nI P) (nI C) (nI M) (nI D) ow co (zFI pl) (zFM pl) wd pl ho ex sz al se ps nc lm bc rz rm fl lv sk sc dp dc) (fun post => wY_pressure_17 post (nI l) (d + 1) t (nI i) (nI P) (nI C) (nI M) (nI D) wd pl hd po ow cl ex ab) := by
  intro d
  induction d with
  | zero =>
    intro i t P C M D ow co wd pl ho ex sz al se ps nc lm bc rz rm fl lv sk sc dp dc hd po cl ab hi hd4 h
    exact ⟨t, _, _, zS_in (wd := wd) h, fun post k => br_t (nI_lt (by omega) (by omega)) k, fun post k => br_t (nI_lt (a := 3) (by omega) (by omega)) k⟩
  | succ d ih =>
    intro i t P C M D ow co wd pl ho ex sz al se ps nc lm bc rz rm fl lv sk sc dp dc hd po cl ab hi hd4 h
    by_cases z : l < i
    · exact ⟨t, _, _, zS_in (wd := wd) h, fun post k => br_t (nI_lt (by omega) (by omega)) k, fun post k => yw_pr_17 P C M D ow co wd pl ho ex sz al se ps nc lm bc rz rm fl lv sk sc dp dc hd po cl ab k (d + 1) i hd4 z⟩
    · have hn : ¬ (3 : Int32) < nI i := nI_nlt (a := 3) (by omega) (by decide)
      obtain ⟨r, u1, v1, hS, hx, hy⟩ := xy_stg (wd := wd) h (s := i) hi (by omega)
      refine zS_el (Pr := fun u1 v1 => (∀ post : Int32 → SX → Prop, post r u1 → wpX_runStage post (nI P, nI C, nI M, nI D, ow, co, (zFI pl), (zFM pl), wd, pl, ho, ex, sz, al, se, ps, nc, lm, bc, rz, rm, fl, lv, sk, sc, dp, dc) (nI i)) → (∀ post : Int32 → SY → Prop, post r v1 → wpY_stage post (nI P, nI C, nI M, nI D, wd, pl, hd, po, ow, cl, ex, ab) (nI i)) → zOutA ex (fun post => wX_pressure_17 post (nI l) (d + 1 + 1) t (nI i) (nI P) (nI C) (nI M) (nI D) ow co (zFI pl) (zFM pl) wd pl ho ex sz al se ps nc lm bc rz rm fl lv sk sc dp dc) (fun post => wY_pressure_17 post (nI l) (d + 1 + 1) t (nI i) (nI P) (nI C) (nI M) (nI D) wd pl hd po ow cl ex ab)) ?_ hS hx hy
      intro P' C' M' D' ow' co' wd' pl' ho' sz' al' se' ps' nc' lm' bc' rz' rm' fl' lv' sk' sc' dp' dc' hd' po' cl' ab' h' hx hy
      obtain ⟨r3, u3, v3, hS3, hx3, hy3⟩ := ih (i + 1) (t + r) P' C' M' D' ow' co' wd' pl' ho' ex sz' al' se' ps' nc' lm' bc' rz' rm' fl' lv' sk' sc' dp' dc' hd' po' cl' ab' (by omega) (by omega) h'
      exact ⟨r3, u3, v3, hS3, fun post k => br_f (nI_nlt (by omega) (by omega)) (hx _ (nm_e (nm_r (nI_1 i) (hx3 post k)))), fun post k => br_f hn (br_f (nI_nlt (by omega) (by omega)) (hy _ (nm_e (nm_r (nI_1 i) (hy3 post k)))))⟩
theorem xy_pressure (P C M D : Nat) (ow co wd pl ho ex sz al se ps nc lm bc rz rm fl lv sk sc dp dc hd po cl ab : Nat → Int32) (v : Int32) (h : zR P C M D ow co pl ho ex sz al se ps nc lm bc rz rm fl lv sk sc dp dc hd po cl ab) : zOutA ex (fun post => wpX_pressure post (nI P, nI C, nI M, nI D, ow, co, (zFI pl), (zFM pl), wd, pl, ho, ex, sz, al, se, ps, nc, lm, bc, rz, rm, fl, lv, sk, sc, dp, dc) v) (fun post => wpY_pressure post (nI P, nI C, nI M, nI D, wd, pl, hd, po, ow, cl, ex, ab) v) := by
  by_cases h1 : v < 1
  · refine ⟨-14, _, _, zS_in (wd := wd) h, fun post k => ?_, fun post k => ?_⟩
    · unfold wpX_pressure; exact br_t h1 k
    · unfold wpY_pressure; exact br_t h1 k
  · by_cases h3 : v ≤ 3
    · have h0 : ¬ v < 0 := fun z => h1 (Int32.lt_of_lt_of_le z (by decide))
      obtain ⟨l, hl, e⟩ := nI_of2 (x := v) (M := 3) (n := 3) (by decide) h0 h3
      obtain ⟨r3, u3, v3, hS3, hx3, hy3⟩ := xy_pr_17 hl 3 1 0 P C M D ow co wd pl ho ex sz al se ps nc lm bc rz rm fl lv sk sc dp dc hd po cl ab (by omega) (by omega) h
      refine ⟨r3, u3, v3, hS3, fun post k => ?_, fun post k => ?_⟩
      · unfold wpX_pressure; rw [e] at h1 h3 ⊢; exact br_f h1 (br_t h3 ⟨4, hx3 post k⟩)
      · unfold wpY_pressure; rw [e] at h1 h3 ⊢; exact br_f h1 (br_t h3 ⟨4, hy3 post k⟩)
    · refine ⟨-14, _, _, zS_in (wd := wd) h, fun post k => ?_, fun post k => ?_⟩
      · unfold wpX_pressure; exact br_f h1 (br_f h3 k)
      · unfold wpY_pressure; exact br_f h1 (br_f h3 k)
end
section
/-! alloc on both sides -/
theorem zFI_same {pl pl' : Nat → Int32} (h : ∀ a, pl' a = 4 ↔ pl a = 4) : zFI pl' = zFI pl := by
  funext p; exact zFI_ext (fun w _ => h _)
theorem zFM_same {pl pl' : Nat → Int32} (h : ∀ a, pl' a = 4 ↔ pl a = 4) : zFM pl' = zFM pl := by
  funext p; exact zFM_ext (fun w _ => h _)
section
variable {P C M D : Nat} {ow co wd pl ho ex sz al se ps nc lm bc rz rm fl lv sk sc dp dc hd po cl ab : Nat → Int32}
variable {x c u n k : Nat} {uu : Int32}
theorem xy_al_f (h : zR P C M D ow co pl ho ex sz al se ps nc lm bc rz rm fl lv sk sc dp dc hd po cl ab) (hc : c < 4) : zOutA ex (fun post => wX_alloc_101 post uu (nI c) (-1) (nI P) (nI C) (nI M) (nI D) ow co (zFI pl) (zFM pl) wd pl ho ex sz al se ps nc lm bc rz rm fl lv sk sc dp dc) (fun post => wY_alloc_246 post uu (nI c) (-1) (nI P) (nI C) (nI M) (nI D) wd pl hd po ow cl ex ab) := by
  have c1 : (nI c).toNatClampNeg = c := nI_clamp (by omega)
  have i1 : vp_in (nI c) 4 := vp_in_nI hc (by decide)
  have a8 : nI c * 9 + 8 = nI (c * 9 + 8) := by rw [zi_9, zi_a8]
  have c8 : (nI c * 9 + 8).toNatClampNeg = c * 9 + 8 := by rw [a8]; exact nI_clamp (by omega)
  have i8 : vp_in (nI c * 9 + 8) 36 := by rw [a8]; exact vp_in_nI (by omega) (by decide)
  have t8 : ab (c * 9 + 8) = fl c := (h.2.2.2.2.2.1 c hc).2.2.2.2.2.2.2.2
  refine ⟨-6, _, _, zS_in (wd := wd) (zl_at h (zAt_8 (c := c) h.2.2.2.2.2.1 (fl c + 1))), fun post k => ?_, fun post k => ?_⟩
  · unfold wX_alloc_101
    exact br_t rfl ⟨i1, i1, nm_r (e' := upd fl c (fl c + 1)) (by rw [c1]) k⟩
  · unfold wY_alloc_246
    exact br_f (by decide) ⟨i8, i8, nm_r (e' := upd ab (c * 9 + 8) (fl c + 1)) (by rw [c8, t8]) k⟩
theorem xw_al_e {post : Int32 → SX → Prop} {fi fm : Nat → Int32} (hx : x < 256) (hc : c < 4) (k : post (nI x) (nI P, nI C, nI M, nI D, ow, co, fi, fm, wd, (upd pl x 1), (upd ho x uu), ex, sz, al, se, ps, nc, lm, bc, rz, rm, fl, (upd lv c (lv c + 1)), sk, sc, dp, dc)) : wX_alloc_101 post uu (nI c) (nI x) (nI P) (nI C) (nI M) (nI D) ow co fi fm wd pl ho ex sz al se ps nc lm bc rz rm fl lv sk sc dp dc := by
  have c1 : (nI c).toNatClampNeg = c := nI_clamp (by omega)
  have i1 : vp_in (nI c) 4 := vp_in_nI hc (by decide)
  have cx : (nI x).toNatClampNeg = x := nI_clamp (by omega)
  have ix : vp_in (nI x) 256 := vp_in_nI hx (by decide)
  unfold wX_alloc_101
  exact br_f (zi_n1 (by omega)) ⟨ix, nm_r (e' := upd pl x 1) (by rw [cx]) ⟨ix, nm_r (e' := upd ho x uu) (by rw [cx]) ⟨i1, i1, nm_r (e' := upd lv c (lv c + 1)) (by rw [c1]) k⟩⟩⟩
theorem yw_al_e {post : Int32 → SY → Prop} {x2 : Int32} (hx : x < 256) (k : post (nI x) (nI P, nI C, nI M, nI D, wd, (upd pl x 1), (upd hd x uu), po, ow, cl, ex, ab)) : wY_alloc_246 post uu x2 (nI x) (nI P) (nI C) (nI M) (nI D) wd pl hd po ow cl ex ab := by
  have cx : (nI x).toNatClampNeg = x := nI_clamp (by omega)
  have ix : vp_in (nI x) 256 := vp_in_nI hx (by decide)
  unfold wY_alloc_246
  exact br_t (nI_pos' (by omega)) ⟨ix, nm_r (e' := upd pl x 1) (by rw [cx]) ⟨ix, nm_r (e' := upd hd x uu) (by rw [cx]) k⟩⟩
/-- the loop of stages, entered with an object in hand -/
theorem xw_al_71 {post : Int32 → SX → Prop} {fi fm : Nat → Int32} {x2 i : Int32} {d : Nat} (hx : x < 256) (k : wX_alloc_101 post uu x2 (nI x) (nI P) (nI C) (nI M) (nI D) ow co fi fm wd pl ho ex sz al se ps nc lm bc rz rm fl lv sk sc dp dc) : wX_alloc_71 post uu x2 (d + 1) (nI x) i (nI P) (nI C) (nI M) (nI D) ow co fi fm wd pl ho ex sz al se ps nc lm bc rz rm fl lv sk sc dp dc :=
  br_c (fun _ => k) (fun _ => br_f (zi_n1 (by omega)) k)
theorem yw_al_214 {post : Int32 → SY → Prop} {x2 i : Int32} {d : Nat} (hx : x < 256) (k : wY_alloc_246 post uu x2 (nI x) (nI P) (nI C) (nI M) (nI D) wd pl hd po ow cl ex ab) : wY_alloc_214 post uu x2 (d + 1) (nI x) i (nI P) (nI C) (nI M) (nI D) wd pl hd po ow cl ex ab :=
  br_c (fun _ => k) (fun _ => br_f (zi_n1 (by omega)) k)
theorem xy_al_t (h : zR P C M D ow co pl ho ex sz al se ps nc lm bc rz rm fl lv sk sc dp dc hd po cl ab) (hc : c < 4) (h4 : pl x = 4) (hw : ow (x / 32) = nI c) (d : Nat) (i : Int32) : zOutA ex (fun post => wX_alloc_71 post (nI u) (nI c) (d + 1) (nI x) i (nI P) (nI C) (nI M) (nI D) ow co (zFI (upd pl x 1)) (zFM (upd pl x 1)) wd pl ho ex sz al se ps nc lm bc rz rm fl lv sk sc dp dc) (fun post => wY_alloc_214 post (nI u) (nI c) (d + 1) (nI x) i (nI P) (nI C) (nI M) (nI D) wd pl hd po ow cl ex ab) := by
  have hl : x < 256 := zO_lt h (by rw [h4]; decide)
  exact ⟨nI x, _, _, zS_in (wd := wd) (zl_take (u := u) h hc h4 hw), fun post k => xw_al_71 hl (xw_al_e hl hc k), fun post k => yw_al_214 hl (yw_al_e hl k)⟩
end
theorem xy_al_71 {u c : Nat} (hc : c < 4) : ∀ d i (P C M D : Nat) (ow co wd pl ho ex sz al se ps nc lm bc rz rm fl lv sk sc dp dc hd po cl ab : Nat → Int32), 1 ≤ i → i + d = 4 → ¬ ex c = 0 → zR P C M D ow co pl ho ex sz al se ps nc lm bc rz rm fl lv sk sc dp dc hd po cl ab → zOutA ex (fun post => wX_alloc_71 post (nI u) (nI c) (d + 1) (-1) (nI i) (nI P) (nI C) (nI M) (nI D) ow co (zFI pl) (zFM pl) wd pl ho ex sz al se ps nc lm bc rz rm fl lv sk sc dp dc) (fun post => wY_alloc_214 post (nI u) (nI c) (d + 1) (-1) (nI i) (nI P) (nI C) (nI M) (nI D) wd pl hd po ow cl ex ab) := by
  intro d
  induction d with
  | zero =>
    intro i P C M D ow co wd pl ho ex sz al se ps nc lm bc rz rm fl lv sk sc dp dc hd po cl ab hi hd4 hex h
    obtain ⟨r, u', v', hS, hx, hy⟩ := xy_al_f (wd := wd) (uu := nI u) h hc
    have e : i = 4 := by omega
    rw [e]
    exact ⟨r, u', v', hS, fun post k => br_t (by decide) (hx post k), fun post k => br_t (by decide) (hy post k)⟩
  | succ d ih =>
    intro i P C M D ow co wd pl ho ex sz al se ps nc lm bc rz rm fl lv sk sc dp dc hd po cl ab hi hd4 hex h
    have hn : ¬ (3 : Int32) < nI i := nI_nlt (a := 3) (by omega) (by decide)
    obtain ⟨r, u1, v1, hS, hx, hy⟩ := xy_stg (wd := wd) h (s := i) hi (by omega)
    refine zS_el (Pr := fun u1 v1 => (∀ post : Int32 → SX → Prop, post r u1 → wpX_runStage post (nI P, nI C, nI M, nI D, ow, co, (zFI pl), (zFM pl), wd, pl, ho, ex, sz, al, se, ps, nc, lm, bc, rz, rm, fl, lv, sk, sc, dp, dc) (nI i)) → (∀ post : Int32 → SY → Prop, post r v1 → wpY_stage post (nI P, nI C, nI M, nI D, wd, pl, hd, po, ow, cl, ex, ab) (nI i)) → zOutA ex (fun post => wX_alloc_71 post (nI u) (nI c) (d + 1 + 1) (-1) (nI i) (nI P) (nI C) (nI M) (nI D) ow co (zFI pl) (zFM pl) wd pl ho ex sz al se ps nc lm bc rz rm fl lv sk sc dp dc) (fun post => wY_alloc_214 post (nI u) (nI c) (d + 1 + 1) (-1) (nI i) (nI P) (nI C) (nI M) (nI D) wd pl hd po ow cl ex ab)) ?_ hS hx hy
    intro P' C' M' D' ow' co' wd' pl' ho' sz' al' se' ps' nc' lm' bc' rz' rm' fl' lv' sk' sc' dp' dc' hd' po' cl' ab' h' hx hy
    obtain ⟨r2, u2, v2, hT, tx, ty⟩ := xy_toc (wd := wd') h' hc hex
    rcases hT with ⟨e, hS2⟩ | ⟨x, hx256, e, hT⟩
    · rw [e] at tx ty
      refine zS_el (Pr := fun u2 v2 => (∀ post : Int32 → SX → Prop, post (-1) u2 → wpX_takeOrCarve post (nI P', nI C', nI M', nI D', ow', co', (zFI pl'), (zFM pl'), wd', pl', ho', ex, sz', al', se', ps', nc', lm', bc', rz', rm', fl', lv', sk', sc', dp', dc') (nI c)) → (∀ post : Int32 → SY → Prop, post (-1) v2 → wpY_pickOrCarve post (nI P', nI C', nI M', nI D', wd', pl', hd', po', ow', cl', ex, ab') (nI c)) → zOutA ex (fun post => wX_alloc_71 post (nI u) (nI c) (d + 1 + 1) (-1) (nI i) (nI P) (nI C) (nI M) (nI D) ow co (zFI pl) (zFM pl) wd pl ho ex sz al se ps nc lm bc rz rm fl lv sk sc dp dc) (fun post => wY_alloc_214 post (nI u) (nI c) (d + 1 + 1) (-1) (nI i) (nI P) (nI C) (nI M) (nI D) wd pl hd po ow cl ex ab)) ?_ hS2 tx ty
      intro P'' C'' M'' D'' ow'' co'' wd'' pl'' ho'' sz'' al'' se'' ps'' nc'' lm'' bc'' rz'' rm'' fl'' lv'' sk'' sc'' dp'' dc'' hd'' po'' cl'' ab'' h2 tx ty
      obtain ⟨r3, u3, v3, hS3, hx3, hy3⟩ := ih (i + 1) P'' C'' M'' D'' ow'' co'' wd'' pl'' ho'' ex sz'' al'' se'' ps'' nc'' lm'' bc'' rz'' rm'' fl'' lv'' sk'' sc'' dp'' dc'' hd'' po'' cl'' ab'' (by omega) (by omega) hex h2
      exact ⟨r3, u3, v3, hS3, fun post k => br_f hn (br_t rfl (hx _ (tx _ (nm_r (nI_1 i) (hx3 post k))))), fun post k => br_f hn (br_t rfl (hy _ (ty _ (nm_r (nI_1 i) (hy3 post k)))))⟩
    · rw [e] at tx ty
      refine zTk_el (Pr := fun u2 v2 => (∀ post : Int32 → SX → Prop, post (nI x) u2 → wpX_takeOrCarve post (nI P', nI C', nI M', nI D', ow', co', (zFI pl'), (zFM pl'), wd', pl', ho', ex, sz', al', se', ps', nc', lm', bc', rz', rm', fl', lv', sk', sc', dp', dc') (nI c)) → (∀ post : Int32 → SY → Prop, post (nI x) v2 → wpY_pickOrCarve post (nI P', nI C', nI M', nI D', wd', pl', hd', po', ow', cl', ex, ab') (nI c)) → zOutA ex (fun post => wX_alloc_71 post (nI u) (nI c) (d + 1 + 1) (-1) (nI i) (nI P) (nI C) (nI M) (nI D) ow co (zFI pl) (zFM pl) wd pl ho ex sz al se ps nc lm bc rz rm fl lv sk sc dp dc) (fun post => wY_alloc_214 post (nI u) (nI c) (d + 1 + 1) (-1) (nI i) (nI P) (nI C) (nI M) (nI D) wd pl hd po ow cl ex ab)) ?_ hT tx ty
      intro P'' C'' M'' D'' ow'' co'' wd'' pl'' ho'' sz'' al'' se'' ps'' nc'' lm'' bc'' rz'' rm'' fl'' lv'' sk'' sc'' dp'' dc'' hd'' po'' cl'' ab'' h2 tx ty
      obtain ⟨r3, u3, v3, hS3, hx3, hy3⟩ := xy_al_t (wd := wd'') (u := u) h2.1 hc h2.2.1 h2.2.2 d (nI (i + 1))
      exact ⟨r3, u3, v3, hS3, fun post k => br_f hn (br_t rfl (hx _ (tx _ (nm_r (nI_1 i) (hx3 post k))))), fun post k => br_f hn (br_t rfl (hy _ (ty _ (nm_r (nI_1 i) (hy3 post k)))))⟩
section
variable {P C M D : Nat} {ow co wd pl ho ex sz al se ps nc lm bc rz rm fl lv sk sc dp dc hd po cl ab : Nat → Int32}
variable {x c u n k m : Nat} {uu : Int32}
/-- nothing in the stock: take or carve, then the stages -/
theorem xy_al_n (h : zR P C M D ow co pl ho ex sz al se ps nc lm bc rz rm fl lv sk sc dp dc hd po cl ab) (hu : u < C) (hc : c < 4) (hex : ¬ ex c = 0) (hs : sc (u * 4 + c) = nI 0) : zOutA ex (fun post => wX_alloc_50 post (nI u) (nI c) (nI P) (nI C) (nI M) (nI D) ow co (zFI pl) (zFM pl) wd pl ho ex sz al se ps nc lm bc rz rm fl lv sk sc dp dc) (fun post => wY_alloc_182 post (nI u) (nI c) 0 (nI P) (nI C) (nI M) (nI D) wd pl hd po ow cl ex ab) := by
  have hC : C ≤ 4 := h.1.2.2.2.1
  have a1 : nI u * 4 + nI c = nI (u * 4 + c) := by rw [zi_4, nI_add]
  have c1 : (nI (u * 4 + c)).toNatClampNeg = u * 4 + c := nI_clamp (by omega)
  have i1 : vp_in (nI (u * 4 + c)) 16 := vp_in_nI (by omega) (by decide)
  have pop : ∀ post : Int32 → SX → Prop, post (-1) (nI P, nI C, nI M, nI D, ow, co, (zFI pl), (zFM pl), wd, pl, ho, ex, sz, al, se, ps, nc, lm, bc, rz, rm, fl, lv, sk, sc, dp, dc) → wpX_popStock post (nI P, nI C, nI M, nI D, ow, co, (zFI pl), (zFM pl), wd, pl, ho, ex, sz, al, se, ps, nc, lm, bc, rz, rm, fl, lv, sk, sc, dp, dc) (nI u) (nI c) := fun post k => by
    unfold wpX_popStock
    exact nm_r a1 ⟨i1, br_t (by rw [c1]; exact hs) k⟩
  obtain ⟨r2, u2, v2, hT, tx, ty⟩ := xy_toc (wd := wd) h hc hex
  rcases hT with ⟨e, hS2⟩ | ⟨x, hx256, e, hT⟩
  · rw [e] at tx ty
    refine zS_el (Pr := fun u2 v2 => (∀ post : Int32 → SX → Prop, post (-1) u2 → wpX_takeOrCarve post (nI P, nI C, nI M, nI D, ow, co, (zFI pl), (zFM pl), wd, pl, ho, ex, sz, al, se, ps, nc, lm, bc, rz, rm, fl, lv, sk, sc, dp, dc) (nI c)) → (∀ post : Int32 → SY → Prop, post (-1) v2 → wpY_pickOrCarve post (nI P, nI C, nI M, nI D, wd, pl, hd, po, ow, cl, ex, ab) (nI c)) → zOutA ex (fun post => wX_alloc_50 post (nI u) (nI c) (nI P) (nI C) (nI M) (nI D) ow co (zFI pl) (zFM pl) wd pl ho ex sz al se ps nc lm bc rz rm fl lv sk sc dp dc) (fun post => wY_alloc_182 post (nI u) (nI c) 0 (nI P) (nI C) (nI M) (nI D) wd pl hd po ow cl ex ab)) ?_ hS2 tx ty
    intro P' C' M' D' ow' co' wd' pl' ho' sz' al' se' ps' nc' lm' bc' rz' rm' fl' lv' sk' sc' dp' dc' hd' po' cl' ab' h2 tx ty
    obtain ⟨r3, u3, v3, hS3, hx3, hy3⟩ := xy_al_71 (u := u) hc 3 1 P' C' M' D' ow' co' wd' pl' ho' ex sz' al' se' ps' nc' lm' bc' rz' rm' fl' lv' sk' sc' dp' dc' hd' po' cl' ab' (by omega) (by omega) hex h2
    refine ⟨r3, u3, v3, hS3, fun post k => ?_, fun post k => ?_⟩
    · unfold wX_alloc_50
      exact pop _ (br_t rfl (tx _ ⟨4, hx3 post k⟩))
    · unfold wY_alloc_182
      exact br_t (by decide) (ty _ ⟨4, hy3 post k⟩)
  · rw [e] at tx ty
    refine zTk_el (Pr := fun u2 v2 => (∀ post : Int32 → SX → Prop, post (nI x) u2 → wpX_takeOrCarve post (nI P, nI C, nI M, nI D, ow, co, (zFI pl), (zFM pl), wd, pl, ho, ex, sz, al, se, ps, nc, lm, bc, rz, rm, fl, lv, sk, sc, dp, dc) (nI c)) → (∀ post : Int32 → SY → Prop, post (nI x) v2 → wpY_pickOrCarve post (nI P, nI C, nI M, nI D, wd, pl, hd, po, ow, cl, ex, ab) (nI c)) → zOutA ex (fun post => wX_alloc_50 post (nI u) (nI c) (nI P) (nI C) (nI M) (nI D) ow co (zFI pl) (zFM pl) wd pl ho ex sz al se ps nc lm bc rz rm fl lv sk sc dp dc) (fun post => wY_alloc_182 post (nI u) (nI c) 0 (nI P) (nI C) (nI M) (nI D) wd pl hd po ow cl ex ab)) ?_ hT tx ty
    intro P' C' M' D' ow' co' wd' pl' ho' sz' al' se' ps' nc' lm' bc' rz' rm' fl' lv' sk' sc' dp' dc' hd' po' cl' ab' h2 tx ty
    obtain ⟨r3, u3, v3, hS3, hx3, hy3⟩ := xy_al_t (wd := wd') (u := u) h2.1 hc h2.2.1 h2.2.2 0 1
    refine ⟨r3, u3, v3, hS3, fun post k => ?_, fun post k => ?_⟩
    · unfold wX_alloc_50
      exact pop _ (br_t rfl (tx _ ⟨1, hx3 post k⟩))
    · unfold wY_alloc_182
      exact br_t (by decide) (ty _ ⟨1, hy3 post k⟩)
/-- an object in the stock: its top -/
theorem xy_al_s (h : zR P C M D ow co pl ho ex sz al se ps nc lm bc rz rm fl lv sk sc dp dc hd po cl ab) (hu : u < C) (hc : c < 4) (hs : sc (u * 4 + c) = nI (n + 1)) (hn : n < 900) : zOutA ex (fun post => wX_alloc_50 post (nI u) (nI c) (nI P) (nI C) (nI M) (nI D) ow co (zFI pl) (zFM pl) wd pl ho ex sz al se ps nc lm bc rz rm fl lv sk sc dp dc) (fun post => wY_alloc_182 post (nI u) (nI c) (nI (n + 1)) (nI P) (nI C) (nI M) (nI D) wd pl hd po ow cl ex ab) := by
  have hC : C ≤ 4 := h.1.2.2.2.1
  have hP : P ≤ 8 := h.1.2.1
  have hM : M ≤ 4 := h.1.2.2.2.2.2.1
  obtain ⟨n', g1, g2, g3⟩ := h.2.2.2.2.2.2.2.2.1 u c (by omega) hc
  have en : n' = n + 1 := zi_inj (by omega) (by omega) (g1.symm.trans hs)
  rw [en] at g2 g3
  obtain ⟨x, x1, x2, x3, x4⟩ := g3.1 n (by omega)
  have a1 : nI u * 4 + nI c = nI (u * 4 + c) := by rw [zi_4, nI_add]
  have c1 : (nI (u * 4 + c)).toNatClampNeg = u * 4 + c := nI_clamp (by omega)
  have i1 : vp_in (nI (u * 4 + c)) 16 := vp_in_nI (by omega) (by decide)
  have f4 : ∀ a, upd pl x 1 a = 4 ↔ pl a = 4 := zu_iff (by rw [x3.1]; decide) (by decide)
  have a2 : nI (u * 4 + c) * 8 + upd sc (u * 4 + c) (nI n) (nI (u * 4 + c)).toNatClampNeg = nI ((u * 4 + c) * 8 + n) := by rw [c1, pk_us, zi_8, nI_add]
  have hx32 : x < 32 * P := (h.2.2.1 x (by rw [x3.1]; decide)).1
  refine ⟨nI x, _, _, zS_in (wd := wd) (zl_pop h hu hc hs x1 x2 hn), fun post k => ?_, fun post k => ?_⟩
  · unfold wX_alloc_50 wpX_popStock
    rw [zFI_same f4, zFM_same f4] at k
    refine nm_r a1 ⟨i1, br_f (by rw [c1, hs]; exact nI_ne0 (by omega) (by omega)) ⟨i1, i1, nm_r (e' := upd sc (u * 4 + c) (nI n)) (by rw [c1, hs, nI_pred]) ⟨i1, ?_, ?_⟩⟩⟩
    · rw [a2]; exact vp_in_nI (by omega) (by decide)
    · rw [a2, nI_clamp (by omega), x2]
      exact br_f (zi_n1 (by omega)) ⟨1, xw_al_71 x1 (xw_al_e x1 hc k)⟩
  · unfold wY_alloc_182
    refine br_f (nI_nle (by omega) (by omega)) (yw_fnd (x := x) hP hx32 x3.1 x3.2.1 x3.2.2 (t := nI (n + 1) - 1) (by rw [nI_pred]; exact x4) (fun a ha q1 q2 q3 q4 => ?_) (yw_al_e x1 k))
    rw [nI_pred] at q4
    have y := zLF_p g3 (by omega) ⟨q1, q2, q3⟩ (by omega) q4
    exact zi_inj (by omega) (by omega) (y.2.symm.trans x2)
theorem yw_al_55 {post : Int32 → SY → Prop} {Z : Nat → Prop} (hP : P ≤ 8) (hM : M ≤ 4) (hM1 : 1 ≤ M) (hk : k < 4) (hc : c < 4) (hZ : ∀ a, Z a ↔ (zQd ow pl c a ∧ ¬ po a < nI (k * M))) (hob : ∀ a, Z a → a < 32 * P) (hl : ab (c * 9 + 4) = nI m) (hm : m < 1000)
    (kk : wY_alloc_182 post uu (nI c) (nI M) (nI P) (nI C) (nI M) (nI D) wd (zsl Z (fun _ => 2) pl) (zsl Z (fun _ => uu) hd) (zsl Z (fun a => po a - nI (k * M)) po) ow cl ex (upd ab (c * 9 + 4) (nI (min m k)))) :
    ∀ d i, i + d = 32 * P → wY_alloc_55 post uu (nI c) (nI ((k + 1) * M)) (nI P) (nI C) (nI M) (nI D) (d + 1) (nI i) wd (zsl (fun a => a < i ∧ Z a) (fun _ => 2) pl) (zsl (fun a => a < i ∧ Z a) (fun _ => uu) hd) (zsl (fun a => a < i ∧ Z a) (fun a => po a - nI (k * M)) po) ow cl ex ab := by
  have a4 : nI c * 9 + 4 = nI (c * 9 + 4) := by rw [zi_9, zi_a4]
  have c4 : (nI c * 9 + 4).toNatClampNeg = c * 9 + 4 := by rw [a4]; exact nI_clamp (by omega)
  have i4 : vp_in (nI c * 9 + 4) 36 := by rw [a4]; exact vp_in_nI (by omega) (by decide)
  have km : k * M ≤ 12 := Nat.mul_le_mul (show k ≤ 3 by omega) hM
  have sM : (k + 1) * M = k * M + M := Nat.succ_mul k M
  have e0 : nI ((k + 1) * M) - nI M = nI (k * M) := by rw [pk_sub (by omega), sM, Nat.add_sub_cancel]
  have e1 : (nI ((k + 1) * M) - nI M) / nI M = nI k := by rw [e0, pk_div (by omega) (by omega) (by omega), Nat.mul_div_cancel k (by omega)]
  intro d
  induction d with
  | zero =>
    intro i hi
    have e : ∀ a, (a < i ∧ Z a) ↔ Z a := fun a => ⟨fun z => z.2, fun z => ⟨by have := hob a z; omega, z⟩⟩
    rw [zsl_c (f := pl) e, zsl_c (f := hd) e, zsl_c (f := po) e]
    refine br_t (by rw [zi_32l]; exact nI_le (by omega) (by omega)) ⟨nI_ne0 (by omega) (by omega), nm_r e1 ⟨i4, ?_⟩⟩
    by_cases z : m ≤ k
    · rw [Nat.min_eq_left z, zu_id hl] at kk
      exact br_t (by rw [c4, hl]; exact nI_le z (by omega)) kk
    · rw [Nat.min_eq_right (by omega)] at kk
      exact br_f (by rw [c4, hl]; exact nI_ge (by omega) (by omega)) ⟨i4, nm_r (e' := upd ab (c * 9 + 4) (nI k)) (by rw [c4]) kk⟩
  | succ d ih =>
    intro i hi
    have c1 : (nI i).toNatClampNeg = i := nI_clamp (by omega)
    have i1 : vp_in (nI i) 256 := vp_in_nI (by omega) (by decide)
    have r := ih (i + 1) (by omega)
    refine br_f (by rw [zi_32l]; exact nI_ge (by omega) (by omega)) (yw_isin (by omega) (fun h1 h2 => br_f (by decide) ⟨i1, br_c (fun h3 => ?_) (fun h3 => ?_)⟩) (fun hf => br_t rfl ?_))
    · rw [zsl_i] at h1
      rw [c1, zsl_i, e0] at h3
      have nz : ¬ Z i := fun z => ((hZ i).mp z).2 h3
      rw [← zsl_sf (f := pl) nz, ← zsl_sf (f := hd) nz, ← zsl_sf (f := po) nz] at r
      exact nm_r (nI_1 i) r
    · rw [zsl_i] at h1
      rw [c1, zsl_i, e0] at h3
      have z : Z i := (hZ i).mpr ⟨⟨h1, h2⟩, h3⟩
      rw [← zsl_st (f := pl) z, ← zsl_st (f := hd) z, ← zsl_st (f := po) z] at r
      exact ⟨i1, nm_r (by rw [c1]) ⟨i1, nm_r (by rw [c1]) ⟨i1, i1, nm_r (by rw [c1, zsl_i, e0]) (nm_r (nI_1 i) r)⟩⟩⟩
    · rw [zsl_i] at hf
      have nz : ¬ Z i := fun z => hf ((hZ i).mp z).1
      rw [← zsl_sf (f := pl) nz, ← zsl_sf (f := hd) nz, ← zsl_sf (f := po) nz] at r
      exact nm_r (nI_1 i) r
/-- what Y's tallies of a stock and of a depot are -/
theorem zt_sk (h : zR P C M D ow co pl ho ex sz al se ps nc lm bc rz rm fl lv sk sc dp dc hd po cl ab) (hu : u < 4) (hc : c < 4) (hs : sc (u * 4 + c) = nI n) (hn : n < 1000) : zcn (zTy ow pl hd (nI c) 2 (nI u)) (32 * P) = n := by
  have hP : P ≤ 8 := h.1.2.1
  have hM : M ≤ 4 := h.1.2.2.2.2.2.1
  obtain ⟨n', g1, g2, g3⟩ := h.2.2.2.2.2.2.2.2.1 u c (by omega) hc
  have en : n' = n := zi_inj (by omega) (by omega) (g1.symm.trans hs)
  rw [en] at g3
  have e := zLF_cn g3 (by omega)
  rw [← zcn_cut (m := 32 * P) (n := 256) (by omega) (fun a q => (h.2.2.1 a (by rw [q.1]; decide)).1)]
  refine Eq.trans (zcn_eq (fun a _ => ?_)) e
  exact ⟨fun q => ⟨q.1, q.2.1, q.2.2.elim (fun z => absurd z (zi_n1 (by omega))) id⟩, fun q => ⟨q.1, q.2.1, Or.inr q.2.2⟩⟩
theorem zt_dp (h : zR P C M D ow co pl ho ex sz al se ps nc lm bc rz rm fl lv sk sc dp dc hd po cl ab) (hc : c < 4) (hs : dc c = nI n) (hn : n < 1000) : zcn (zTy ow pl hd (nI c) 3 (-1)) (32 * P) = n * M := by
  have hP : P ≤ 8 := h.1.2.1
  have hM : M ≤ 4 := h.1.2.2.2.2.2.1
  have hD : D ≤ 4 := h.1.2.2.2.2.2.2
  obtain ⟨n', m', g1, g2, g3, g4, g5⟩ := h.2.2.2.2.2.2.2.2.2.1 c hc
  have en : n' = n := zi_inj (by omega) (by omega) (g1.symm.trans hs)
  rw [en] at g4 g5
  have nM : n * M ≤ 16 := zm_le (by omega) hM
  have e := zLF_cn g5 (by omega)
  rw [← zcn_cut (m := 32 * P) (n := 256) (by omega) (fun a q => (h.2.2.1 a (by rw [q.1]; decide)).1)]
  refine Eq.trans (zcn_eq (fun a _ => ?_)) e
  exact ⟨fun q => ⟨q.1, q.2.1⟩, fun q => ⟨q.1, q.2, Or.inl rfl⟩⟩
end
end
section
/-! alloc: the whole -/
section
variable {P C M D : Nat} {ow co wd pl ho ex sz al se ps nc lm bc rz rm fl lv sk sc dp dc hd po cl ab : Nat → Int32}
theorem xy_alloc (v1 v2 : Int32) (h : zR P C M D ow co pl ho ex sz al se ps nc lm bc rz rm fl lv sk sc dp dc hd po cl ab) : zOutA ex (fun post => wpX_alloc post (nI P, nI C, nI M, nI D, ow, co, (zFI pl), (zFM pl), wd, pl, ho, ex, sz, al, se, ps, nc, lm, bc, rz, rm, fl, lv, sk, sc, dp, dc) v1 v2) (fun post => wpY_alloc post (nI P, nI C, nI M, nI D, wd, pl, hd, po, ow, cl, ex, ab) v1 v2) := by
  have hP : P ≤ 8 := h.1.2.1
  have hC : C ≤ 4 := h.1.2.2.2.1
  have hM1 : 1 ≤ M := h.1.2.2.2.2.1
  have hM : M ≤ 4 := h.1.2.2.2.2.2.1
  have hD : D ≤ 4 := h.1.2.2.2.2.2.2
  rcases pk_ix v1 (n := C) (by omega) with h1 | h1 | ⟨u, hu, e1⟩
  · refine ⟨-2, _, _, zS_in (wd := wd) h, fun post k => ?_, fun post k => ?_⟩
    · unfold wpX_alloc; exact xw_cpu_b (Or.inl h1) (br_f (by decide) k) hC
    · unfold wpY_alloc; exact br_t h1 k
  · refine ⟨-2, _, _, zS_in (wd := wd) h, fun post k => ?_, fun post k => ?_⟩
    · unfold wpX_alloc; exact xw_cpu_b (Or.inr h1) (br_f (by decide) k) hC
    · unfold wpY_alloc; exact br_f (zc_ng (by omega) h1) (br_f (Int32.not_lt.mpr h1) k)
  · rw [e1]
    have ng : ¬ nI u < 0 := nI_pos (by omega)
    have lt : nI u < nI C := nI_lt hu (by omega)
    rcases zc_ca ex v2 with h2 | ⟨c, hc, e2, hex⟩
    · refine ⟨-3, _, _, zS_in (wd := wd) h, fun post k => ?_, fun post k => ?_⟩
      · unfold wpX_alloc; exact xw_cpu_g hu (br_t rfl (xw_ca_b h2 (br_f (by decide) k))) hC
      · unfold wpY_alloc; exact br_f ng (br_t lt (yw_ca_b h2 (br_t rfl k)))
    · rw [e2]
      obtain ⟨n, s1, s2, s3⟩ := h.2.2.2.2.2.2.2.2.1 u c (by omega) hc
      obtain ⟨nd, m, d1, d2, d3, d4, d5⟩ := h.2.2.2.2.2.2.2.2.2.1 c hc
      have nM : nd * M ≤ 16 := zm_le (by omega) hM
      have t1 := zt_sk h (by omega) hc s1 (by omega)
      have t2 := zt_dp h hc d1 (by omega)
      have a1 : nI u * 4 + nI c = nI (u * 4 + c) := by rw [zi_4, nI_add]
      have c1 : (nI u * 4 + nI c).toNatClampNeg = u * 4 + c := by rw [a1]; exact nI_clamp (by omega)
      have i1 : vp_in (nI u * 4 + nI c) 16 := by rw [a1]; exact vp_in_nI (by omega) (by decide)
      have cc : (nI c).toNatClampNeg = c := nI_clamp (by omega)
      have ic : vp_in (nI c) 4 := vp_in_nI hc (by decide)
      by_cases n0 : n = 0
      · rw [n0] at s1 t1
        by_cases nd0 : nd = 0
        · rw [nd0] at d1 t2
          obtain ⟨r, u', v', hS, hx, hy⟩ := xy_al_n (wd := wd) h hu hc hex s1
          refine ⟨r, u', v', hS, fun post k => ?_, fun post k => ?_⟩
          · unfold wpX_alloc
            exact xw_cpu_g hu (br_t rfl (xw_ca_g hc hex (br_t rfl ⟨i1, br_t (by rw [c1]; exact s1) ⟨ic, br_t (by rw [cc, d1]; decide) (hx post k)⟩⟩))) hC
          · unfold wpY_alloc
            refine br_f ng (br_t lt (yw_ca_g hc hex (br_f (by decide) (yw_tly hP ?_))))
            rw [t1]
            refine yw_tly hP ?_
            rw [t2]
            exact br_t rfl (br_t (by rw [Nat.zero_mul]; decide) (hy post k))
        · obtain ⟨k, ek⟩ : ∃ k, nd = k + 1 := ⟨nd - 1, by omega⟩
          rw [ek] at d1 d3 d4 d5 t2 nM
          have sM : (k + 1) * M = k * M + M := Nat.succ_mul k M
          have hmin : min m k ≤ k := Nat.min_le_right m k
          have hgf : ∀ i, i < M → dp (c * 16 + k * M + i) = nI (zg dp (c * 16 + k * M) i) ∧ zg dp (c * 16 + k * M) i < 256 := fun i hi => by
            have y := zg_f d5 (i := k * M + i) (by omega)
            have e : zg dp (c * 16) (k * M + i) = zg dp (c * 16 + k * M) i := by unfold zg; rw [Nat.add_assoc]
            rw [e] at y
            refine ⟨?_, y.2.1⟩
            rw [Nat.add_assoc]; exact y.1
          have hq : ∀ a, (zQd ow pl c a ∧ ¬ po a < nI (k * M)) ↔ ∃ i, i < M ∧ zg dp (c * 16 + k * M) i = a := fun a => by
            have y := zg_hi d5 (k := k * M) (by omega) (by omega) a
            rw [show (k + 1) * M - k * M = M by omega] at y
            exact y
          have w1 : zws pl (zg dp (c * 16 + k * M)) (fun _ => 2) M = zsl (fun a => zQd ow pl c a ∧ ¬ po a < nI (k * M)) (fun _ => 2) pl := zws_sl hq
          have w2 : zws ho (zg dp (c * 16 + k * M)) (fun _ => nI u) M = zsl (fun a => zQd ow pl c a ∧ ¬ po a < nI (k * M)) (fun _ => nI u) ho := zws_sl hq
          have f4 : ∀ a, zsl (fun a => zQd ow pl c a ∧ ¬ po a < nI (k * M)) (fun _ => 2) pl a = 4 ↔ pl a = 4 := zs_iff (fun a z => by rw [z.1.1]; decide) (by decide)
          have hR := zl_refill (Z := fun a => zQd ow pl c a ∧ ¬ po a < nI (k * M)) (sk' := zws sk (fun i => (u * 4 + c) * 8 + i) (fun i => nI (zg dp (c * 16 + k * M) i)) M) (lm' := upd lm c (nI (min m k))) (ab' := upd ab (c * 9 + 4) (nI (min m k))) (m' := min m k) h hu hc s1 d1 (by omega) (fun _ => Iff.rfl)
            (fun i hi => by
              have e := zws_h (f := sk) (ix := fun i => (u * 4 + c) * 8 + i) (v := fun i => nI (zg dp (c * 16 + k * M) i)) hi (fun j hj _ => by omega)
              rw [← Nat.add_assoc, (hgf i hi).1]; exact e)
            (fun j hj => zws_m (fun i hi => by omega)) pk_us hmin (fun c' _ ne => pk_un ne) (zAt_4 (c := c) h.2.2.2.2.2.1 _)
          obtain ⟨r, u', v', hS, hx, hy⟩ := xy_al_s (wd := wd) (n := M - 1) hR hu hc (by rw [pk_us, show M - 1 + 1 = M by omega]) (by omega)
          rw [zFI_same f4, zFM_same f4, ← w1, ← w2] at hx
          rw [show M - 1 + 1 = M by omega] at hy
          refine ⟨r, u', v', hS, fun post kk => ?_, fun post kk => ?_⟩
          · unfold wpX_alloc
            exact xw_cpu_g hu (br_t rfl (xw_ca_g hc hex (br_t rfl ⟨i1, br_t (by rw [c1]; exact s1) ⟨ic, br_f (by rw [cc, d1]; exact nI_nle (by omega) (by omega)) (xw_rf hM (by omega) hc s1 d1 (by omega) d2 (by omega) hgf (hx post kk))⟩⟩))) hC
          · unfold wpY_alloc
            refine br_f ng (br_t lt (yw_ca_g hc hex (br_f (by decide) (yw_tly hP ?_))))
            rw [t1]
            refine yw_tly hP ?_
            rw [t2]
            have y := yw_al_55 (post := post) (uu := nI u) (Z := fun a => zQd ow pl c a ∧ ¬ po a < nI (k * M)) hP hM hM1 (by omega) hc (fun _ => Iff.rfl) (fun a z => (h.2.2.1 a (by rw [z.1.1]; decide)).1) (((h.2.2.2.2.2.1 c hc).2.2.2.2.1 hex).trans d2) (by omega) (hy post kk) (32 * P) 0 (by omega)
            rw [zsl_0, zsl_0, zsl_0] at y
            exact br_t rfl (br_f (nI_nle (by omega) (by omega)) ⟨32 * P + 1, y⟩)
      · obtain ⟨j, ej⟩ : ∃ j, n = j + 1 := ⟨n - 1, by omega⟩
        rw [ej] at s1 t1
        obtain ⟨r, u', v', hS, hx, hy⟩ := xy_al_s (wd := wd) h hu hc s1 (by omega)
        refine ⟨r, u', v', hS, fun post k => ?_, fun post k => ?_⟩
        · unfold wpX_alloc
          exact xw_cpu_g hu (br_t rfl (xw_ca_g hc hex (br_t rfl ⟨i1, br_f (by rw [c1, s1]; exact nI_ne0 (by omega) (by omega)) (hx post k)⟩))) hC
        · unfold wpY_alloc
          refine br_f ng (br_t lt (yw_ca_g hc hex (br_f (by decide) (yw_tly hP ?_))))
          rw [t1]
          refine yw_tly hP ?_
          exact br_f (nI_ne0 (by omega) (by omega)) (hy post k)
end
end
section
/-! free on both sides -/
section
variable {P C M D : Nat} {ow co wd pl ho ex sz al se ps nc lm bc rz rm fl lv sk sc dp dc hd po cl ab : Nat → Int32}
variable {a c u n k : Nat} {g : Nat → Nat}
theorem xy_fr_e (h : zR P C M D ow co pl ho ex sz al se ps nc lm bc rz rm fl lv sk sc dp dc hd po cl ab) (hu : u < C) (hc : c < 4) (hn : sc (u * 4 + c) = nI n) (hn2 : n < 2 * M) (hx : pl a = 1) (hw : ow (a / 32) = nI c) : zOutA ex (fun post => wX_free_89 post (nI u) (nI a) (nI c) (nI P) (nI C) (nI M) (nI D) ow co (zFI pl) (zFM pl) wd pl ho ex sz al se ps nc lm bc rz rm fl lv sk sc dp dc) (fun post => wY_free_235 post (nI u) (nI a) (nI n) (nI P) (nI C) (nI M) (nI D) wd pl hd po ow cl ex ab) := by
  have hC : C ≤ 4 := h.1.2.2.2.1
  have hM : M ≤ 4 := h.1.2.2.2.2.2.1
  have hl : a < 256 := zO_lt h (by rw [hx]; decide)
  have cc : (nI c).toNatClampNeg = c := nI_clamp (by omega)
  have ic : vp_in (nI c) 4 := vp_in_nI hc (by decide)
  have ca : (nI a).toNatClampNeg = a := nI_clamp (by omega)
  have ia : vp_in (nI a) 256 := vp_in_nI hl (by decide)
  have f4 : ∀ b, upd pl a 2 b = 4 ↔ pl b = 4 := zu_iff (by rw [hx]; decide) (by decide)
  refine ⟨0, _, _, zS_in (wd := wd) (zl_push h hu hc hn hn2 hx hw), fun post k => ?_, fun post k => ?_⟩
  · rw [zFI_same f4, zFM_same f4] at k
    unfold wX_free_89
    exact ⟨ic, ic, nm_r (e' := upd lv c (lv c - 1)) (by rw [cc]) (xw_push (by omega) hc hl hn (by omega) k)⟩
  · unfold wY_free_235
    exact ⟨ia, nm_r (e' := upd pl a 2) (by rw [ca]) ⟨ia, nm_r (e' := upd hd a (nI u)) (by rw [ca]) ⟨ia, nm_r (e' := upd po a (nI n)) (by rw [ca]) k⟩⟩⟩
/-- X unloads into the depot -/
theorem xw_unD_53 {post : SX → Prop} {fi fm : Nat → Int32} {s b : Nat} (hM : M ≤ 4) (hs : s < 16) (hc : c < 4) (hb : b + M ≤ 64) (hsc : sc s = nI (2 * M)) (hdc : dc c = nI k) (hg : ∀ i, i < M → sk (s * 8 + i) = nI (g i) ∧ g i < 256)
    (kk : post (nI P, nI C, nI M, nI D, ow, co, fi, fm, wd, (zws pl g (fun _ => 3) M), (zws ho g (fun _ => -1) M), ex, sz, al, se, ps, nc, lm, bc, rz, rm, fl, lv, (zws sk (fun i => s * 8 + i) (fun i => sk (s * 8 + (M + i))) M), (upd sc s (nI M)), (zws dp (fun i => b + i) (fun i => nI (g i)) M), (upd dc c (nI (k + 1))))) :
    ∀ d i, i + d = M → wX_unloadBottom_53 post (nI c) (nI s) (nI (s * 8)) 1 (nI b) (d + 1) (nI i) (nI P) (nI C) (nI M) (nI D) ow co fi fm wd (zws pl g (fun _ => 3) i) (zws ho g (fun _ => -1) i) ex sz al se ps nc lm bc rz rm fl lv (zws sk (fun i => s * 8 + i) (fun i => sk (s * 8 + (M + i))) i) sc (zws dp (fun i => b + i) (fun i => nI (g i)) i) dc := by
  have cs : (nI s).toNatClampNeg = s := nI_clamp (by omega)
  have is' : vp_in (nI s) 16 := vp_in_nI hs (by decide)
  have cc : (nI c).toNatClampNeg = c := nI_clamp (by omega)
  have ic : vp_in (nI c) 4 := vp_in_nI hc (by decide)
  intro d
  induction d with
  | zero =>
    intro i hi
    have e : i = M := by omega
    rw [e]
    exact br_t (nI_le (by omega) (by omega)) ⟨is', is', nm_r (e' := upd sc s (nI M)) (by rw [cs, hsc, pk_sub (by omega), show 2 * M - M = M by omega]) (br_f (by decide) ⟨ic, ic, nm_r (e' := upd dc c (nI (k + 1))) (by rw [cc, hdc, nI_1]) kk⟩)⟩
  | succ d ih =>
    intro i hi
    have a1 : nI (s * 8) + nI i = nI (s * 8 + i) := nI_add _ _
    have a2 : nI b + nI i = nI (b + i) := nI_add _ _
    have a3 : nI (s * 8) + nI M + nI i = nI (s * 8 + (M + i)) := by rw [nI_add, nI_add, Nat.add_assoc]
    have g1 := hg i (by omega)
    have cg : (nI (g i)).toNatClampNeg = g i := nI_clamp (by omega)
    have ig : vp_in (nI (g i)) 256 := vp_in_nI g1.2 (by decide)
    have v1 : zws sk (fun i => s * 8 + i) (fun i => sk (s * 8 + (M + i))) i (nI (s * 8) + nI i).toNatClampNeg = nI (g i) := by
      rw [a1, nI_clamp (by omega), zws_m (fun j hj => by omega)]; exact g1.1
    refine br_f (nI_ge (by omega) (by omega)) ⟨by rw [a1]; exact vp_in_nI (by omega) (by decide), nm_r v1 (br_f (by decide) ⟨by rw [a2]; exact vp_in_nI (by omega) (by decide), nm_r (e' := zws dp (fun i => b + i) (fun i => nI (g i)) (i + 1)) (by rw [a2, nI_clamp (by omega)]; rfl) ⟨ig, nm_r (e' := zws pl g (fun _ => 3) (i + 1)) (by rw [cg]; rfl) ⟨ig, nm_r (e' := zws ho g (fun _ => -1) (i + 1)) (by rw [cg]; rfl) ?_⟩⟩⟩)⟩
    unfold wX_unloadBottom_116
    refine ⟨by rw [a3]; exact vp_in_nI (by omega) (by decide), by rw [a1]; exact vp_in_nI (by omega) (by decide), nm_r (e' := zws sk (fun i => s * 8 + i) (fun i => sk (s * 8 + (M + i))) (i + 1)) ?_ (nm_r (nI_1 i) (ih (i + 1) (by omega)))⟩
    rw [a1, a3, nI_clamp (by omega), nI_clamp (by omega), zws_m (a := s * 8 + (M + i)) (fun j hj => by omega)]; rfl
/-- X unloads into the slabs -/
theorem xw_unS_53 {post : SX → Prop} {s : Nat} {b : Int32} (hM : M ≤ 4) (hs : s < 16) (hsc : sc s = nI (2 * M)) (hg : ∀ i, i < M → sk (s * 8 + i) = nI (g i) ∧ g i < 256 ∧ ¬ pl (g i) = 4) (inj : ∀ i j, i < j → j < M → g i ≠ g j)
    (kk : post (nI P, nI C, nI M, nI D, ow, co, (zFI (zws pl g (fun _ => 4) M)), (zFM (zws pl g (fun _ => 4) M)), wd, (zws pl g (fun _ => 4) M), (zws ho g (fun _ => -1) M), ex, sz, al, se, ps, nc, lm, bc, rz, rm, fl, lv, (zws sk (fun i => s * 8 + i) (fun i => sk (s * 8 + (M + i))) M), (upd sc s (nI M)), dp, dc)) :
    ∀ d i, i + d = M → wX_unloadBottom_53 post (nI c) (nI s) (nI (s * 8)) 0 b (d + 1) (nI i) (nI P) (nI C) (nI M) (nI D) ow co (zFI (zws pl g (fun _ => 4) i)) (zFM (zws pl g (fun _ => 4) i)) wd (zws pl g (fun _ => 4) i) (zws ho g (fun _ => -1) i) ex sz al se ps nc lm bc rz rm fl lv (zws sk (fun i => s * 8 + i) (fun i => sk (s * 8 + (M + i))) i) sc dp dc := by
  have cs : (nI s).toNatClampNeg = s := nI_clamp (by omega)
  have is' : vp_in (nI s) 16 := vp_in_nI hs (by decide)
  intro d
  induction d with
  | zero =>
    intro i hi
    have e : i = M := by omega
    rw [e]
    exact br_t (nI_le (by omega) (by omega)) ⟨is', is', nm_r (e' := upd sc s (nI M)) (by rw [cs, hsc, pk_sub (by omega), show 2 * M - M = M by omega]) (br_t rfl kk)⟩
  | succ d ih =>
    intro i hi
    have a1 : nI (s * 8) + nI i = nI (s * 8 + i) := nI_add _ _
    have a3 : nI (s * 8) + nI M + nI i = nI (s * 8 + (M + i)) := by rw [nI_add, nI_add, Nat.add_assoc]
    have g1 := hg i (by omega)
    have v1 : zws sk (fun i => s * 8 + i) (fun i => sk (s * 8 + (M + i))) i (nI (s * 8) + nI i).toNatClampNeg = nI (g i) := by
      rw [a1, nI_clamp (by omega), zws_m (fun j hj => by omega)]; exact g1.1
    refine br_f (nI_ge (by omega) (by omega)) ⟨by rw [a1]; exact vp_in_nI (by omega) (by decide), nm_r v1 (br_t rfl (xw_ret g1.2.1 ?_ ?_))⟩
    · rw [zws_m (fun j hj => inj j i hj (by omega))]
      exact g1.2.2
    · show wX_unloadBottom_116 post _ (nI c) (nI s) (nI (s * 8)) 0 b (nI i) _ _ _ _ _ _ _ _ _ _ _ _ _ _ _ _ _ _ _ _ _ _ _ _ _ _ _
      unfold wX_unloadBottom_116
      refine ⟨by rw [a3]; exact vp_in_nI (by omega) (by decide), by rw [a1]; exact vp_in_nI (by omega) (by decide), nm_r (e' := zws sk (fun i => s * 8 + i) (fun i => sk (s * 8 + (M + i))) (i + 1)) ?_ (nm_r (nI_1 i) (ih (i + 1) (by omega)))⟩
      rw [a1, a3, nI_clamp (by omega), nI_clamp (by omega), zws_m (a := s * 8 + (M + i)) (fun j hj => by omega)]; rfl
/-- Y's loop over the stock's objects: those below M leave (w, q), the others sink by M -/
theorem yw_fr_107 {post : Int32 → SY → Prop} {A B : Nat → Prop} {w : Int32} {q : Nat → Int32} (hP : P ≤ 8) (hM : M ≤ 4) (hD : D ≤ 4) (hk : k ≤ 4) (hA : ∀ a, A a ↔ (zQs ow pl hd u c a ∧ po a < nI M)) (hB : ∀ a, B a ↔ (zQs ow pl hd u c a ∧ ¬ po a < nI M)) (hob : ∀ a, pl a = 2 → a < 32 * P)
    (hw : (D ≤ k ∧ w = 4 ∧ q = fun _ => 0) ∨ (k < D ∧ w = 3 ∧ q = fun a => po a + nI (k * M))) (hM1 : 1 ≤ M) {xa : Int32}
    (kk : wY_free_235 post (nI u) xa (nI M) (nI P) (nI C) (nI M) (nI D) wd (zsl A (fun _ => w) pl) (zsl A (fun _ => -1) hd) (zsl B (fun a => po a - nI M) (zsl A q po)) ow cl ex ab) :
    ∀ d i, i + d = 32 * P → wY_free_107 post (nI u) xa (nI c) (nI (k * M)) (d + 1) (nI i) (nI P) (nI C) (nI M) (nI D) wd (zsl (fun a => a < i ∧ A a) (fun _ => w) pl) (zsl (fun a => a < i ∧ A a) (fun _ => -1) hd) (zsl (fun a => a < i ∧ B a) (fun a => po a - nI M) (zsl (fun a => a < i ∧ A a) q po)) ow cl ex ab := by
  have kM : k * M ≤ 16 := zm_le hk hM
  have DM : D * M ≤ 16 := zm_le hD hM
  have cmp : nI D * nI M ≤ nI (k * M) ↔ D ≤ k := by
    rw [pk_mul, nI_leI (by omega) (by omega)]
    exact ⟨fun z => Nat.le_of_mul_le_mul_right z (by omega), fun z => Nat.mul_le_mul_right M z⟩
  intro d
  induction d with
  | zero =>
    intro i hi
    have eA : ∀ a, (a < i ∧ A a) ↔ A a := fun a => ⟨fun z => z.2, fun z => ⟨by have := hob a ((hA a).mp z).1.1; omega, z⟩⟩
    have eB : ∀ a, (a < i ∧ B a) ↔ B a := fun a => ⟨fun z => z.2, fun z => ⟨by have := hob a ((hB a).mp z).1.1; omega, z⟩⟩
    rw [zsl_c (f := pl) eA, zsl_c (f := hd) eA, zsl_c (f := po) eA, zsl_c eB]
    exact br_t (by rw [zi_32l]; exact nI_le (by omega) (by omega)) kk
  | succ d ih =>
    intro i hi
    have c1 : (nI i).toNatClampNeg = i := nI_clamp (by omega)
    have i1 : vp_in (nI i) 256 := vp_in_nI (by omega) (by decide)
    have r := ih (i + 1) (by omega)
    have pi : zsl (fun a => a < i ∧ B a) (fun a => po a - nI M) (zsl (fun a => a < i ∧ A a) q po) i = po i := by rw [zsl_i, zsl_i]
    refine br_f (by rw [zi_32l]; exact nI_ge (by omega) (by omega)) (yw_isin (by omega) (fun h1 h2 => br_f (by decide) ⟨i1, br_c (fun h3 => ⟨i1, br_c (fun h4 => ?_) (fun h4 => ?_)⟩) (fun h3 => ?_)⟩) (fun hf => br_t rfl ?_))
    · rw [zsl_i] at h1
      rw [c1, zsl_i] at h3
      rw [c1, pi] at h4
      have zA : A i := (hA i).mpr ⟨⟨h1, h2, h3⟩, h4⟩
      have zB : ¬ B i := fun z => ((hB i).mp z).2 h4
      rw [← zsl_st (f := pl) zA, ← zsl_st (f := hd) zA, ← zsl_sf zB, ← zsl_st (f := po) zA] at r
      have sw : ∀ v : Int32, zsl (fun a => a < i ∧ B a) (fun a => po a - nI M) (upd (zsl (fun a => a < i ∧ A a) q po) i v) = upd (zsl (fun a => a < i ∧ B a) (fun a => po a - nI M) (zsl (fun a => a < i ∧ A a) q po)) i v := by
        intro v
        funext b
        by_cases e : b = i
        · rw [e, zsl_i, pk_us, pk_us]
        · rw [pk_un e]
          by_cases z : b < i ∧ B b
          · rw [zsl_t (Q := fun a => a < i ∧ B a) z, zsl_t (Q := fun a => a < i ∧ B a) z]
          · rw [zsl_f (Q := fun a => a < i ∧ B a) z, zsl_f (Q := fun a => a < i ∧ B a) z, pk_un e]
      rw [sw] at r
      rcases hw with ⟨w1, w2, w3⟩ | ⟨w1, w2, w3⟩
      · refine br_t (cmp.mpr w1) (yw_ret (by omega) (nm_r (nI_1 i) ?_))
        rw [w2, w3] at r ⊢
        exact r
      · refine br_f (fun z => absurd (cmp.mp z) (by omega)) ?_
        rw [w2, w3] at r ⊢
        refine ⟨i1, nm_r (by rw [c1]) ⟨i1, nm_r (by rw [c1]) ⟨i1, i1, nm_r ?_ (nm_r (nI_1 i) r)⟩⟩⟩
        rw [c1, zsl_i, zsl_i]
    · rw [zsl_i] at h1
      rw [c1, zsl_i] at h3
      rw [c1, pi] at h4
      have zA : ¬ A i := fun z => h4 ((hA i).mp z).2
      have zB : B i := (hB i).mpr ⟨⟨h1, h2, h3⟩, h4⟩
      rw [← zsl_sf (f := pl) zA, ← zsl_sf (f := hd) zA, ← zsl_sf (f := po) zA, ← zsl_st zB] at r
      exact ⟨i1, i1, nm_r (by rw [c1, pi]) (nm_r (nI_1 i) r)⟩
    · rw [c1, zsl_i] at h3
      have zA : ¬ A i := fun z => h3 ((hA i).mp z).1.2.2
      have zB : ¬ B i := fun z => h3 ((hB i).mp z).1.2.2
      rw [← zsl_sf (f := pl) zA, ← zsl_sf (f := hd) zA, ← zsl_sf (f := po) zA, ← zsl_sf zB] at r
      exact nm_r (nI_1 i) r
    · rw [zsl_i] at hf
      have zA : ¬ A i := fun z => hf ⟨((hA i).mp z).1.1, ((hA i).mp z).1.2.1⟩
      have zB : ¬ B i := fun z => hf ⟨((hB i).mp z).1.1, ((hB i).mp z).1.2.1⟩
      rw [← zsl_sf (f := pl) zA, ← zsl_sf (f := hd) zA, ← zsl_sf (f := po) zA, ← zsl_sf zB] at r
      exact nm_r (nI_1 i) r
theorem xy_fr_64 (h : zR P C M D ow co pl ho ex sz al se ps nc lm bc rz rm fl lv sk sc dp dc hd po cl ab) (hu : u < C) (hc : c < 4) (hx : pl a = 1) (hw : ow (a / 32) = nI c) : zOutA ex (fun post => wX_free_64 post (nI u) (nI a) (nI c) (nI P) (nI C) (nI M) (nI D) ow co (zFI pl) (zFM pl) wd pl ho ex sz al se ps nc lm bc rz rm fl lv sk sc dp dc) (fun post => wY_free_75 post (nI u) (nI a) (nI c) (nI P) (nI C) (nI M) (nI D) wd pl hd po ow cl ex ab) := by
  have hP : P ≤ 8 := h.1.2.1
  have hC : C ≤ 4 := h.1.2.2.2.1
  have hM1 : 1 ≤ M := h.1.2.2.2.2.1
  have hM : M ≤ 4 := h.1.2.2.2.2.2.1
  have hD : D ≤ 4 := h.1.2.2.2.2.2.2
  obtain ⟨n, s1, s2, s3⟩ := h.2.2.2.2.2.2.2.2.1 u c (by omega) hc
  obtain ⟨nd, m, d1, d2, d3, d4, d5⟩ := h.2.2.2.2.2.2.2.2.2.1 c hc
  have nM : nd * M ≤ 16 := zm_le (by omega) hM
  have t1 := zt_sk h (by omega) hc s1 (by omega)
  have t2 := zt_dp h hc d1 (by omega)
  have a1 : nI u * 4 + nI c = nI (u * 4 + c) := by rw [zi_4, nI_add]
  have c1 : (nI u * 4 + nI c).toNatClampNeg = u * 4 + c := by rw [a1]; exact nI_clamp (by omega)
  have i1 : vp_in (nI u * 4 + nI c) 16 := by rw [a1]; exact vp_in_nI (by omega) (by decide)
  have cc : (nI c).toNatClampNeg = c := nI_clamp (by omega)
  have ic : vp_in (nI c) 4 := vp_in_nI hc (by decide)
  by_cases n2 : n < 2 * M
  · obtain ⟨r, u', v', hS, hx, hy⟩ := xy_fr_e (wd := wd) h hu hc s1 n2 hx hw
    refine ⟨r, u', v', hS, fun post k => ?_, fun post k => ?_⟩
    · unfold wX_free_64
      exact ⟨i1, br_t (by rw [c1, s1, zi_2l]; exact nI_lt n2 (by omega)) (hx post k)⟩
    · unfold wY_free_75
      refine yw_tly hP ?_
      rw [t1]
      exact br_f (by rw [zi_2l, nI_eq (by omega) (by omega)]; omega) (hy post k)
  · have en : n = 2 * M := by omega
    rw [en] at s1 s3 t1
    have hlo : ∀ b, (zQs ow pl hd u c b ∧ po b < nI M) ↔ ∃ i, i < M ∧ zg sk ((u * 4 + c) * 8) i = b := zg_lo s3 (by omega) (by omega)
    have hgf : ∀ i, i < M → sk ((u * 4 + c) * 8 + i) = nI (zg sk ((u * 4 + c) * 8) i) ∧ zg sk ((u * 4 + c) * 8) i < 256 ∧ ¬ pl (zg sk ((u * 4 + c) * 8) i) = 4 := fun i hi => by
      have y := zg_f s3 (i := i) (by omega)
      exact ⟨y.1, y.2.1, by rw [y.2.2.1.1]; decide⟩
    have hob : ∀ b, pl b = 2 → b < 32 * P := fun b q => (h.2.2.1 b (by rw [q]; decide)).1
    have k1 : ∀ i, i < M → zws sk (fun i => (u * 4 + c) * 8 + i) (fun i => sk ((u * 4 + c) * 8 + (M + i))) M ((u * 4 + c) * 8 + i) = sk ((u * 4 + c) * 8 + (M + i)) := fun i hi => zws_h (f := sk) (ix := fun i => (u * 4 + c) * 8 + i) (v := fun i => sk ((u * 4 + c) * 8 + (M + i))) hi (fun j hj _ => by omega)
    have k2 : ∀ j, (j < (u * 4 + c) * 8 ∨ (u * 4 + c) * 8 + 8 ≤ j) → zws sk (fun i => (u * 4 + c) * 8 + i) (fun i => sk ((u * 4 + c) * 8 + (M + i))) M j = sk j := fun j hj => zws_m (fun i hi => by omega)
    have nA : ¬ (zQs ow pl hd u c a ∧ po a < nI M) := fun z => by
      have := z.1.1; rw [hx] at this; exact absurd this (by decide)
    by_cases rm0 : nd < D
    · have f4 : ∀ b, zsl (fun a => zQs ow pl hd u c a ∧ po a < nI M) (fun _ => 3) pl b = 4 ↔ pl b = 4 := zs_iff (fun b z => by rw [z.1.1]; decide) (by decide)
      have w1 : zws pl (zg sk ((u * 4 + c) * 8)) (fun _ => 3) M = zsl (fun a => zQs ow pl hd u c a ∧ po a < nI M) (fun _ => 3) pl := zws_sl hlo
      have w2 : zws ho (zg sk ((u * 4 + c) * 8)) (fun _ => -1) M = zsl (fun a => zQs ow pl hd u c a ∧ po a < nI M) (fun _ => -1) ho := zws_sl hlo
      have ndM : nd * M + M ≤ 16 := by
        have : (nd + 1) * M ≤ 16 := zm_le (by omega) hM
        rw [Nat.succ_mul] at this; exact this
      have hR := zl_unlD (A := fun a => zQs ow pl hd u c a ∧ po a < nI M) (B := fun a => zQs ow pl hd u c a ∧ ¬ po a < nI M) (sk' := zws sk (fun i => (u * 4 + c) * 8 + i) (fun i => sk ((u * 4 + c) * 8 + (M + i))) M) (dp' := zws dp (fun i => c * 16 + nd * M + i) (fun i => nI (zg sk ((u * 4 + c) * 8) i)) M) h hu hc s1 d1 rm0 (fun _ => Iff.rfl) (fun _ => Iff.rfl) k1 k2
        (fun i hi => by
          have e := zws_h (f := dp) (ix := fun i => c * 16 + nd * M + i) (v := fun i => nI (zg sk ((u * 4 + c) * 8) i)) hi (fun j hj _ => by omega)
          rw [← Nat.add_assoc, (hgf i hi).1]; exact e)
        (fun j hj => zws_m (fun i hi => by omega))
      obtain ⟨r, u', v', hS, hx', hy'⟩ := xy_fr_e (wd := wd) (a := a) hR hu hc pk_us (by omega) ((zsl_f (Q := fun a => zQs ow pl hd u c a ∧ po a < nI M) nA).trans hx) hw
      rw [zFI_same f4, zFM_same f4, ← w1, ← w2] at hx'
      refine ⟨r, u', v', hS, fun post k => ?_, fun post k => ?_⟩
      · unfold wX_free_64 wpX_unloadBottom
        refine ⟨i1, br_f (by rw [c1, s1, zi_2l]; exact nI_nlt (by omega) (by omega)) (nm_r a1 (nm_r (zi_8 _) ⟨ic, br_f (by rw [cc, d1]; exact nI_ge (by omega) (by omega)) ?_⟩))⟩
        unfold wX_unloadBottom_30
        refine ⟨ic, nm_r (e' := nI (c * 16 + nd * M)) (by rw [cc, d1, zi_16, pk_mul, nI_add]) ⟨M + 1, ?_⟩⟩
        exact xw_unD_53 (s := u * 4 + c) hM (by omega) hc (by omega) s1 d1 (fun i hi => ⟨(hgf i hi).1, (hgf i hi).2.1⟩) (hx' post k) M 0 (by omega)
      · unfold wY_free_75
        refine yw_tly hP ?_
        rw [t1]
        refine br_t (zi_2l M).symm (yw_tly hP ?_)
        rw [t2]
        have y := yw_fr_107 (post := post) (xa := nI a) (k := nd) (w := 3) (q := fun a => po a + nI (nd * M)) (A := fun a => zQs ow pl hd u c a ∧ po a < nI M) (B := fun a => zQs ow pl hd u c a ∧ ¬ po a < nI M) hP hM hD (by omega) (fun _ => Iff.rfl) (fun _ => Iff.rfl) hob (Or.inr ⟨rm0, rfl, rfl⟩) hM1 (hy' post k) (32 * P) 0 (by omega)
        rw [zsl_0, zsl_0, zsl_0, zsl_0] at y
        exact ⟨32 * P + 1, y⟩
    · have w1 : zws pl (zg sk ((u * 4 + c) * 8)) (fun _ => 4) M = zsl (fun a => zQs ow pl hd u c a ∧ po a < nI M) (fun _ => 4) pl := zws_sl hlo
      have w2 : zws ho (zg sk ((u * 4 + c) * 8)) (fun _ => -1) M = zsl (fun a => zQs ow pl hd u c a ∧ po a < nI M) (fun _ => -1) ho := zws_sl hlo
      have hR0 := zl_unlS (A := fun a => zQs ow pl hd u c a ∧ po a < nI M) (B := fun a => zQs ow pl hd u c a ∧ ¬ po a < nI M) (sk' := zws sk (fun i => (u * 4 + c) * 8 + i) (fun i => sk ((u * 4 + c) * 8 + (M + i))) M) h hu hc s1 (fun _ => Iff.rfl) (fun _ => Iff.rfl) k1 k2
      have hR := zl_hp (hd' := zsl (fun a => zQs ow pl hd u c a ∧ po a < nI M) (fun _ => -1) hd) (po' := zsl (fun a => zQs ow pl hd u c a ∧ ¬ po a < nI M) (fun a => po a - nI M) (zsl (fun a => zQs ow pl hd u c a ∧ po a < nI M) (fun _ => 0) po)) hR0
        (fun b q => zsl_f (fun z => by
          rw [zsl_t (Q := fun a => zQs ow pl hd u c a ∧ po a < nI M) z] at q
          rcases q with q | q | q <;> exact absurd q (by decide)))
        (fun b q => by
          by_cases z : zQs ow pl hd u c b ∧ ¬ po b < nI M
          · rw [zsl_t (Q := fun a => zQs ow pl hd u c a ∧ ¬ po a < nI M) z, zsl_t (Q := fun a => zQs ow pl hd u c a ∧ ¬ po a < nI M) z]
          · rw [zsl_f (Q := fun a => zQs ow pl hd u c a ∧ ¬ po a < nI M) z, zsl_f (Q := fun a => zQs ow pl hd u c a ∧ ¬ po a < nI M) z]
            refine zsl_f (fun z => ?_)
            rw [zsl_t (Q := fun a => zQs ow pl hd u c a ∧ po a < nI M) z] at q
            rcases q with q | q <;> exact absurd q (by decide))
      obtain ⟨r, u', v', hS, hx', hy'⟩ := xy_fr_e (wd := wd) (a := a) hR hu hc pk_us (by omega) ((zsl_f (Q := fun a => zQs ow pl hd u c a ∧ po a < nI M) nA).trans hx) hw
      rw [← w1, ← w2] at hx'
      refine ⟨r, u', v', hS, fun post k => ?_, fun post k => ?_⟩
      · unfold wX_free_64 wpX_unloadBottom
        refine ⟨i1, br_f (by rw [c1, s1, zi_2l]; exact nI_nlt (by omega) (by omega)) (nm_r a1 (nm_r (zi_8 _) ⟨ic, br_t (by rw [cc, d1]; exact nI_le (by omega) (by omega)) ?_⟩))⟩
        unfold wX_unloadBottom_30
        refine ⟨ic, nm_e ⟨M + 1, ?_⟩⟩
        exact xw_unS_53 (s := u * 4 + c) hM (by omega) s1 hgf (fun i j hij hj e => by
          have := zg_i s3 (by omega) (show i < 2 * M by omega) (by omega) e
          omega) (hx' post k) M 0 (by omega)
      · unfold wY_free_75
        refine yw_tly hP ?_
        rw [t1]
        refine br_t (zi_2l M).symm (yw_tly hP ?_)
        rw [t2]
        have y := yw_fr_107 (post := post) (xa := nI a) (k := nd) (w := 4) (q := fun _ => 0) (A := fun a => zQs ow pl hd u c a ∧ po a < nI M) (B := fun a => zQs ow pl hd u c a ∧ ¬ po a < nI M) hP hM hD (by omega) (fun _ => Iff.rfl) (fun _ => Iff.rfl) hob (Or.inl ⟨by omega, rfl, rfl⟩) hM1 (hy' post k) (32 * P) 0 (by omega)
        rw [zsl_0, zsl_0, zsl_0, zsl_0] at y
        exact ⟨32 * P + 1, y⟩
theorem xy_free (v1 v2 : Int32) (h : zR P C M D ow co pl ho ex sz al se ps nc lm bc rz rm fl lv sk sc dp dc hd po cl ab) : zOutA ex (fun post => wpX_free post (nI P, nI C, nI M, nI D, ow, co, (zFI pl), (zFM pl), wd, pl, ho, ex, sz, al, se, ps, nc, lm, bc, rz, rm, fl, lv, sk, sc, dp, dc) v1 v2) (fun post => wpY_free post (nI P, nI C, nI M, nI D, wd, pl, hd, po, ow, cl, ex, ab) v1 v2) := by
  have hP : P ≤ 8 := h.1.2.1
  have hC : C ≤ 4 := h.1.2.2.2.1
  rcases pk_ix v1 (n := C) (by omega) with h1 | h1 | ⟨u, hu, e1⟩
  · refine ⟨-2, _, _, zS_in (wd := wd) h, fun post k => ?_, fun post k => ?_⟩
    · unfold wpX_free; exact xw_cpu_b (Or.inl h1) (br_f (by decide) k) hC
    · unfold wpY_free; exact br_t h1 k
  · refine ⟨-2, _, _, zS_in (wd := wd) h, fun post k => ?_, fun post k => ?_⟩
    · unfold wpX_free; exact xw_cpu_b (Or.inr h1) (br_f (by decide) k) hC
    · unfold wpY_free; exact br_f (zc_ng (by omega) h1) (br_f (Int32.not_lt.mpr h1) k)
  · rw [e1]
    have ng : ¬ nI u < 0 := nI_pos (by omega)
    have lt : nI u < nI C := nI_lt hu (by omega)
    rcases zc_ob P hP pl v2 with h2 | ⟨a, ha, e2, hne⟩
    · refine ⟨-4, _, _, zS_in (wd := wd) h, fun post k => ?_, fun post k => ?_⟩
      · unfold wpX_free; exact xw_cpu_g hu (br_t rfl (xw_ob_b h2 (br_f (by decide) k) hP)) hC
      · unfold wpY_free; exact br_f ng (br_t lt (yw_ob_b h2 (br_t rfl k) hP))
    · rw [e2]
      have ca : (nI a).toNatClampNeg = a := nI_clamp (by omega)
      have ia : vp_in (nI a) 256 := vp_in_nI (by omega) (by decide)
      by_cases q : pl a = 1
      · obtain ⟨c, hc, hw⟩ := zO_ow h hne
        have sh : nI a >>> ((5 : Int32) &&& 31) = nI (a / 32) := zi_shr (by omega)
        have dv : nI a / 32 = nI (a / 32) := zi_div (by omega)
        have cd : (nI (a / 32)).toNatClampNeg = a / 32 := nI_clamp (by omega)
        have id' : vp_in (nI (a / 32)) 8 := vp_in_nI (by omega) (by decide)
        have cc : (nI c).toNatClampNeg = c := nI_clamp (by omega)
        have ic : vp_in (nI c) 4 := vp_in_nI hc (by decide)
        have hh : ho a = hd a := (h.2.2.2.2.2.2.1 a).1 q
        by_cases w : hd a = nI u
        · obtain ⟨r, u', v', hS, hx, hy⟩ := xy_fr_64 (wd := wd) h hu hc q hw
          refine ⟨r, u', v', hS, fun post k => ?_, fun post k => ?_⟩
          · unfold wpX_free
            exact xw_cpu_g hu (br_t rfl (xw_ob_g ha hne (br_t rfl ⟨ia, br_t (by rw [ca]; exact q) ⟨by rw [sh]; exact id', nm_r (e' := nI c) (by rw [sh, cd]; exact hw) ⟨ia, br_t (by rw [ca, hh]; exact w) (hx post k)⟩⟩⟩) hP)) hC
          · unfold wpY_free
            exact br_f ng (br_t lt (yw_ob_g ha hne (br_f (by decide) ⟨ia, br_t (by rw [ca]; exact q) ⟨zi_32ne, by rw [dv]; exact id', nm_r (e' := nI c) (by rw [dv, cd]; exact hw) ⟨ia, br_t (by rw [ca]; exact w) (hy post k)⟩⟩⟩) hP))
        · have t7 : ab (c * 9 + 7) = rm c := (h.2.2.2.2.2.1 c hc).2.2.2.2.2.2.2.1
          have a7 : nI c * 9 + 7 = nI (c * 9 + 7) := by rw [zi_9, zi_a7]
          have c7 : (nI c * 9 + 7).toNatClampNeg = c * 9 + 7 := by rw [a7]; exact nI_clamp (by omega)
          have i7 : vp_in (nI c * 9 + 7) 36 := by rw [a7]; exact vp_in_nI (by omega) (by decide)
          have hR := zl_at h (zAt_7 (c := c) h.2.2.2.2.2.1 (rm c + 1))
          obtain ⟨r, u', v', hS, hx, hy⟩ := xy_fr_64 (wd := wd) hR hu hc q hw
          refine ⟨r, u', v', hS, fun post k => ?_, fun post k => ?_⟩
          · unfold wpX_free
            exact xw_cpu_g hu (br_t rfl (xw_ob_g ha hne (br_t rfl ⟨ia, br_t (by rw [ca]; exact q) ⟨by rw [sh]; exact id', nm_r (e' := nI c) (by rw [sh, cd]; exact hw) ⟨ia, br_f (by rw [ca, hh]; exact w) ⟨ic, ic, nm_r (e' := upd rm c (rm c + 1)) (by rw [cc]) (hx post k)⟩⟩⟩⟩) hP)) hC
          · unfold wpY_free
            exact br_f ng (br_t lt (yw_ob_g ha hne (br_f (by decide) ⟨ia, br_t (by rw [ca]; exact q) ⟨zi_32ne, by rw [dv]; exact id', nm_r (e' := nI c) (by rw [dv, cd]; exact hw) ⟨ia, br_f (by rw [ca]; exact w) ⟨i7, i7, nm_r (e' := upd ab (c * 9 + 7) (rm c + 1)) (by rw [c7, t7]) (hy post k)⟩⟩⟩⟩) hP))
      · refine ⟨-5, _, _, zS_in (wd := wd) h, fun post k => ?_, fun post k => ?_⟩
        · unfold wpX_free; exact xw_cpu_g hu (br_t rfl (xw_ob_g ha hne (br_t rfl ⟨ia, br_f (by rw [ca]; exact q) k⟩) hP)) hC
        · unfold wpY_free; exact br_f ng (br_t lt (yw_ob_g ha hne (br_f (by decide) ⟨ia, br_f (by rw [ca]; exact q) k⟩) hP))
end
end
section
/-! drainCpu and tick on both sides -/
section
variable {P C M D : Nat} {ow co wd pl ho ex sz al se ps nc lm bc rz rm fl lv sk sc dp dc hd po cl ab : Nat → Int32}
variable {c u n k : Nat} {uu : Int32}
theorem yw_dr_19 {post : Int32 → SY → Prop} {Z : Nat → Prop} (hP : P ≤ 8) (hZ : ∀ a, Z a ↔ (pl a = 2 ∧ hd a = uu)) (hob : ∀ a, Z a → a < 32 * P) (kk : post (nI (zcn Z (32 * P))) (nI P, nI C, nI M, nI D, wd, (zsl Z (fun _ => 4) pl), (zsl Z (fun _ => -1) hd), (zsl Z (fun _ => 0) po), ow, cl, ex, ab)) :
    ∀ d i, i + d = 32 * P → wY_drainCpu_19 post uu (d + 1) (nI (zcn Z i)) (nI i) (nI P) (nI C) (nI M) (nI D) wd (zsl (fun a => a < i ∧ Z a) (fun _ => 4) pl) (zsl (fun a => a < i ∧ Z a) (fun _ => -1) hd) (zsl (fun a => a < i ∧ Z a) (fun _ => 0) po) ow cl ex ab := by
  intro d
  induction d with
  | zero =>
    intro i hi
    have e : ∀ a, (a < i ∧ Z a) ↔ Z a := fun a => ⟨fun z => z.2, fun z => ⟨by have := hob a z; omega, z⟩⟩
    rw [zsl_c (f := pl) e, zsl_c (f := hd) e, zsl_c (f := po) e, show i = 32 * P by omega]
    exact br_t (by rw [zi_32l]; exact nI_le (by omega) (by omega)) kk
  | succ d ih =>
    intro i hi
    have c1 : (nI i).toNatClampNeg = i := nI_clamp (by omega)
    have i1 : vp_in (nI i) 256 := vp_in_nI (by omega) (by decide)
    have r := ih (i + 1) (by omega)
    refine br_f (by rw [zi_32l]; exact nI_ge (by omega) (by omega)) ⟨i1, br_c (fun h1 => ⟨i1, br_c (fun h2 => ?_) (fun h2 => ?_)⟩) (fun h1 => ?_)⟩
    · rw [c1, zsl_i] at h1 h2
      have z : Z i := (hZ i).mpr ⟨h1, h2⟩
      rw [← zsl_st (f := pl) z, ← zsl_st (f := hd) z, ← zsl_st (f := po) z, zcn_st z, ← nI_1] at r
      exact yw_ret (by omega) (nm_e (nm_r (nI_1 i) r))
    · rw [c1, zsl_i] at h1 h2
      have z : ¬ Z i := fun z => h2 ((hZ i).mp z).2
      rw [← zsl_sf (f := pl) z, ← zsl_sf (f := hd) z, ← zsl_sf (f := po) z, zcn_sf z] at r
      exact nm_r (nI_1 i) r
    · rw [c1, zsl_i] at h1
      have z : ¬ Z i := fun z => h1 ((hZ i).mp z).1
      rw [← zsl_sf (f := pl) z, ← zsl_sf (f := hd) z, ← zsl_sf (f := po) z, zcn_sf z] at r
      exact nm_r (nI_1 i) r
theorem xy_drainCpu (v1 : Int32) (h : zR P C M D ow co pl ho ex sz al se ps nc lm bc rz rm fl lv sk sc dp dc hd po cl ab) : zOutA ex (fun post => wpX_drainCpu post (nI P, nI C, nI M, nI D, ow, co, (zFI pl), (zFM pl), wd, pl, ho, ex, sz, al, se, ps, nc, lm, bc, rz, rm, fl, lv, sk, sc, dp, dc) v1) (fun post => wpY_drainCpu post (nI P, nI C, nI M, nI D, wd, pl, hd, po, ow, cl, ex, ab) v1) := by
  have hP : P ≤ 8 := h.1.2.1
  have hC : C ≤ 4 := h.1.2.2.2.1
  have hM : M ≤ 4 := h.1.2.2.2.2.2.1
  rcases pk_ix v1 (n := C) (by omega) with h1 | h1 | ⟨u, hu, e1⟩
  · refine ⟨-2, _, _, zS_in (wd := wd) h, fun post k => ?_, fun post k => ?_⟩
    · unfold wpX_drainCpu; exact xw_cpu_b (Or.inl h1) (br_f (by decide) k) hC
    · unfold wpY_drainCpu; exact br_t h1 k
  · refine ⟨-2, _, _, zS_in (wd := wd) h, fun post k => ?_, fun post k => ?_⟩
    · unfold wpX_drainCpu; exact xw_cpu_b (Or.inr h1) (br_f (by decide) k) hC
    · unfold wpY_drainCpu; exact br_f (zc_ng (by omega) h1) (br_f (Int32.not_lt.mpr h1) k)
  · rw [e1]
    obtain ⟨pl', ho', sc', g1, g2, g3, g4, g5⟩ := xw_dso (wd := wd) (u := u) (by omega) h
    have e : pl' = zsl (fun a => pl a = 2 ∧ hd a = nI u) (fun _ => 4) pl := by
      funext a
      by_cases q : pl a = 2 ∧ hd a = nI u
      · rw [zsl_t (Q := fun a => pl a = 2 ∧ hd a = nI u) q]
        rcases g2 a with y | y
        · exfalso
          have q' : pl' a = 2 := y.trans q.1
          obtain ⟨c', k1, k2⟩ := zO_ow g1 (a := a) (by rw [q']; decide)
          obtain ⟨n, k3, k4, k5⟩ := g1.2.2.2.2.2.2.2.2.1 u c' (by omega) k1
          have : n = 0 := zi_inj (b := 0) (by omega) (by omega) (k3.symm.trans (g3 c' k1))
          obtain ⟨_, i, i1, _⟩ := k5.2 a ⟨q', k2, q.2⟩
          omega
        · exact y.2.2
      · rw [zsl_f (Q := fun a => pl a = 2 ∧ hd a = nI u) q]
        rcases g2 a with y | y
        · exact y
        · exact absurd ⟨y.1, y.2.1⟩ q
    rw [e] at g1 g5
    have hob : ∀ a, (pl a = 2 ∧ hd a = nI u) → a < 32 * P := fun a q => (h.2.2.1 a (by rw [q.1]; decide)).1
    have hR := zl_hp (hd' := zsl (fun a => pl a = 2 ∧ hd a = nI u) (fun _ => -1) hd) (po' := zsl (fun a => pl a = 2 ∧ hd a = nI u) (fun _ => 0) po) g1 (fun a q => zsl_f (fun z => by
      rw [zsl_t (Q := fun a => pl a = 2 ∧ hd a = nI u) z] at q
      rcases q with q | q | q <;> exact absurd q (by decide))) (fun a q => zsl_f (fun z => by
      rw [zsl_t (Q := fun a => pl a = 2 ∧ hd a = nI u) z] at q
      rcases q with q | q <;> exact absurd q (by decide)))
    have ct : zcn (fun a => pl a = 2 ∧ hd a = nI u) 256 = zcn (fun a => pl a = 2 ∧ hd a = nI u) (32 * P) := zcn_cut (by omega) hob
    rw [ct] at g5
    refine ⟨nI (zcn (fun a => pl a = 2 ∧ hd a = nI u) (32 * P)), _, _, zS_in (wd := wd) hR, fun post k => ?_, fun post k => ?_⟩
    · unfold wpX_drainCpu
      exact xw_cpu_g hu (br_t rfl (g5 _ k)) hC
    · unfold wpY_drainCpu
      have y := yw_dr_19 (post := post) (uu := nI u) (Z := fun a => pl a = 2 ∧ hd a = nI u) hP (fun _ => Iff.rfl) hob k (32 * P) 0 (by omega)
      rw [zsl_0, zsl_0, zsl_0] at y
      exact br_f (nI_pos (by omega)) (br_t (nI_lt hu (by omega)) ⟨32 * P + 1, y⟩)
/-- Y's tick of one cache: the oldest k * M leave, the others sink -/
theorem yw_tk_38 {post : Int32 → SY → Prop} {J : _} {Z W : Nat → Prop} {t o r : Nat} (hP : P ≤ 8) (hM : M ≤ 4) (hM1 : 1 ≤ M) (hc : c < 4) (ho : o ≤ 16) (hr : r ≤ 4) (hZ : ∀ a, Z a ↔ (zQd ow pl c a ∧ po a < nI o)) (hW : ∀ a, W a ↔ (zQd ow pl c a ∧ ¬ po a < nI o)) (hob : ∀ a, pl a = 3 → a < 32 * P)
    (ht : zcn (zTy ow (zsl Z (fun _ => 4) pl) (zsl Z (fun _ => -1) hd) (nI c) 3 (-1)) (32 * P) = r * M)
    (kk : J (nI (t + zcn Z (32 * P))) (nI (c + 1)) (nI P) (nI C) (nI M) (nI D) wd (zsl Z (fun _ => 4) pl) (zsl Z (fun _ => -1) hd) (zsl W (fun a => po a - nI o) (zsl Z (fun _ => 0) po)) ow cl ex (upd ab (c * 9 + 4) (nI r))) :
    ∀ d i, i + d = 32 * P → wY_tick_38 post J (nI c) (nI o) (d + 1) (nI (t + zcn Z i)) (nI i) (nI P) (nI C) (nI M) (nI D) wd (zsl (fun a => a < i ∧ Z a) (fun _ => 4) pl) (zsl (fun a => a < i ∧ Z a) (fun _ => -1) hd) (zsl (fun a => a < i ∧ W a) (fun a => po a - nI o) (zsl (fun a => a < i ∧ Z a) (fun _ => 0) po)) ow cl ex ab := by
  have a4 : nI c * 9 + 4 = nI (c * 9 + 4) := by rw [zi_9, zi_a4]
  have c4 : (nI c * 9 + 4).toNatClampNeg = c * 9 + 4 := by rw [a4]; exact nI_clamp (by omega)
  have i4 : vp_in (nI c * 9 + 4) 36 := by rw [a4]; exact vp_in_nI (by omega) (by decide)
  have rM : r * M ≤ 16 := zm_le hr hM
  intro d
  induction d with
  | zero =>
    intro i hi
    have eZ : ∀ a, (a < i ∧ Z a) ↔ Z a := fun a => ⟨fun z => z.2, fun z => ⟨by have := hob a ((hZ a).mp z).1.1; omega, z⟩⟩
    have eW : ∀ a, (a < i ∧ W a) ↔ W a := fun a => ⟨fun z => z.2, fun z => ⟨by have := hob a ((hW a).mp z).1.1; omega, z⟩⟩
    rw [zsl_c (f := pl) eZ, zsl_c (f := hd) eZ, zsl_c (f := po) eZ, zsl_c eW, show i = 32 * P by omega]
    refine br_t (by rw [zi_32l]; exact nI_le (by omega) (by omega)) (yw_tly hP ?_)
    rw [ht]
    exact ⟨nI_ne0 (by omega) (by omega), i4, nm_r (e' := upd ab (c * 9 + 4) (nI r)) (by rw [c4, pk_div (by omega) (by omega) (by omega), Nat.mul_div_cancel r (by omega)]) (nm_r (nI_1 c) kk)⟩
  | succ d ih =>
    intro i hi
    have c1 : (nI i).toNatClampNeg = i := nI_clamp (by omega)
    have i1 : vp_in (nI i) 256 := vp_in_nI (by omega) (by decide)
    have r := ih (i + 1) (by omega)
    have pi : zsl (fun a => a < i ∧ W a) (fun a => po a - nI o) (zsl (fun a => a < i ∧ Z a) (fun _ => 0) po) i = po i := by rw [zsl_i, zsl_i]
    refine br_f (by rw [zi_32l]; exact nI_ge (by omega) (by omega)) (yw_isin (by omega) (fun h1 h2 => br_f (by decide) ⟨i1, br_c (fun h3 => ?_) (fun h3 => ?_)⟩) (fun hf => br_t rfl ?_))
    · rw [zsl_i] at h1
      rw [c1, pi] at h3
      have nz : ¬ po i < nI o := Int32.not_lt.mpr h3
      have zZ : ¬ Z i := fun z => nz ((hZ i).mp z).2
      have zW : W i := (hW i).mpr ⟨⟨h1, h2⟩, nz⟩
      rw [← zsl_sf (f := pl) zZ, ← zsl_sf (f := hd) zZ, ← zsl_sf (f := po) zZ, ← zsl_st zW, zcn_sf zZ] at r
      exact ⟨i1, i1, nm_r (by rw [c1, pi]) (nm_r (nI_1 i) r)⟩
    · rw [zsl_i] at h1
      rw [c1, pi] at h3
      have z2 : po i < nI o := Int32.not_le.mp h3
      have zZ : Z i := (hZ i).mpr ⟨⟨h1, h2⟩, z2⟩
      have zW : ¬ W i := fun z => ((hW i).mp z).2 z2
      rw [← zsl_st (f := pl) zZ, ← zsl_st (f := hd) zZ, ← zsl_sf zW, ← zsl_st (f := po) zZ, zcn_st zZ, ← Nat.add_assoc, ← nI_1] at r
      have sw : zsl (fun a => a < i ∧ W a) (fun a => po a - nI o) (upd (zsl (fun a => a < i ∧ Z a) (fun _ => 0) po) i 0) = upd (zsl (fun a => a < i ∧ W a) (fun a => po a - nI o) (zsl (fun a => a < i ∧ Z a) (fun _ => 0) po)) i 0 := by
        funext b
        by_cases e : b = i
        · rw [e, zsl_i, pk_us, pk_us]
        · rw [pk_un e]
          by_cases z : b < i ∧ W b
          · rw [zsl_t (Q := fun a => a < i ∧ W a) z, zsl_t (Q := fun a => a < i ∧ W a) z]
          · rw [zsl_f (Q := fun a => a < i ∧ W a) z, zsl_f (Q := fun a => a < i ∧ W a) z, pk_un e]
      rw [sw] at r
      exact yw_ret (by omega) (nm_e (nm_r (nI_1 i) r))
    · rw [zsl_i] at hf
      have zZ : ¬ Z i := fun z => hf ((hZ i).mp z).1
      have zW : ¬ W i := fun z => hf ((hW i).mp z).1
      rw [← zsl_sf (f := pl) zZ, ← zsl_sf (f := hd) zZ, ← zsl_sf (f := po) zZ, ← zsl_sf zW, zcn_sf zZ] at r
      exact nm_r (nI_1 i) r
end
section
variable {P C M D : Nat} {ow co wd ex sz al se ps nc bc rz rm fl lv sk sc cl : Nat → Int32}
theorem xy_tk_4 : ∀ d c t (pl ho lm dp dc hd po ab : Nat → Int32), c + d = 4 → zR P C M D ow co pl ho ex sz al se ps nc lm bc rz rm fl lv sk sc dp dc hd po cl ab → zOutA ex (fun post => wX_tick_4 post (d + 1) (nI t) (nI c) (nI P) (nI C) (nI M) (nI D) ow co (zFI pl) (zFM pl) wd pl ho ex sz al se ps nc lm bc rz rm fl lv sk sc dp dc) (fun post => wY_tick_4 post (d + 1) (nI t) (nI c) (nI P) (nI C) (nI M) (nI D) wd pl hd po ow cl ex ab) := by
  intro d
  induction d with
  | zero =>
    intro c t pl ho lm dp dc hd po ab hc h
    exact ⟨nI t, _, _, zS_in (wd := wd) h, fun post k => br_t (nI_le (a := 4) (by omega) (by omega)) k, fun post k => br_t (nI_le (a := 4) (by omega) (by omega)) k⟩
  | succ d ih =>
    intro c t pl ho lm dp dc hd po ab hc h
    have hc4 : c < 4 := by omega
    have hP : P ≤ 8 := h.1.2.1
    have hM1 : 1 ≤ M := h.1.2.2.2.2.1
    have hM : M ≤ 4 := h.1.2.2.2.2.2.1
    have hD : D ≤ 4 := h.1.2.2.2.2.2.2
    have hn : ¬ (4 : Int32) ≤ nI c := nI_ge (b := 4) hc4 (by decide)
    have c1 : (nI c).toNatClampNeg = c := nI_clamp (by omega)
    have i1 : vp_in (nI c) 4 := vp_in_nI hc4 (by decide)
    by_cases hex : ex c = 0
    · obtain ⟨r, u', v', hS, hx, hy⟩ := ih (c + 1) t pl ho lm dp dc hd po ab (by omega) h
      exact ⟨r, u', v', hS, fun post k => br_f hn ⟨i1, br_t (by rw [c1]; exact hex) (nm_r (nI_1 c) (hx post k))⟩, fun post k => br_f hn ⟨i1, br_t (by rw [c1]; exact hex) (nm_r (nI_1 c) (hy post k))⟩⟩
    · obtain ⟨n, m, e1, e2, e3, e4, e5⟩ := h.2.2.2.2.2.2.2.2.2.1 c hc4
      have nM : n * M ≤ 16 := zm_le (by omega) hM
      have mM : m * M ≤ n * M := Nat.mul_le_mul_right M e3
      have hlo : ∀ a, (zQd ow pl c a ∧ po a < nI (m * M)) ↔ ∃ i, i < m * M ∧ zg dp (c * 16) i = a := zg_lo e5 (by omega) mM
      have hob : ∀ a, pl a = 3 → a < 32 * P := fun a q => (h.2.2.1 a (by rw [q]; decide)).1
      have w1 : zws pl (zg dp (c * 16)) (fun _ => 4) (m * M) = zsl (fun a => zQd ow pl c a ∧ po a < nI (m * M)) (fun _ => 4) pl := zws_sl hlo
      have w2 : zws ho (zg dp (c * 16)) (fun _ => -1) (m * M) = zsl (fun a => zQd ow pl c a ∧ po a < nI (m * M)) (fun _ => -1) ho := zws_sl hlo
      have hR0 := zl_drop (Z := fun a => zQd ow pl c a ∧ po a < nI (m * M)) (W := fun a => zQd ow pl c a ∧ ¬ po a < nI (m * M)) (dp' := zws dp (fun i => c * 16 + i) (fun i => dp (c * 16 + (m * M + i))) (n * M - m * M)) (lm' := upd lm c (nI (n - m))) (ab' := upd ab (c * 9 + 4) (nI (n - m))) (m' := n - m) (k := m) h hc4 e1 (by omega) e3 (fun _ => Iff.rfl) (fun _ => Iff.rfl)
        (fun i hi => zws_h (f := dp) (ix := fun i => c * 16 + i) (v := fun i => dp (c * 16 + (m * M + i))) hi (fun j hj _ => by omega)) (fun j hj => zws_m (fun i hi => by omega)) pk_us (Nat.le_refl _) (fun c' _ ne => pk_un ne) (zAt_4 (c := c) h.2.2.2.2.2.1 _)
      have hR := zl_hp (hd' := zsl (fun a => zQd ow pl c a ∧ po a < nI (m * M)) (fun _ => -1) hd) (po' := zsl (fun a => zQd ow pl c a ∧ ¬ po a < nI (m * M)) (fun a => po a - nI (m * M)) (zsl (fun a => zQd ow pl c a ∧ po a < nI (m * M)) (fun _ => 0) po)) hR0
        (fun b q => zsl_f (fun z => by
          rw [zsl_t (Q := fun a => zQd ow pl c a ∧ po a < nI (m * M)) z] at q
          rcases q with q | q | q <;> exact absurd q (by decide)))
        (fun b q => by
          by_cases z : zQd ow pl c b ∧ ¬ po b < nI (m * M)
          · rw [zsl_t (Q := fun a => zQd ow pl c a ∧ ¬ po a < nI (m * M)) z, zsl_t (Q := fun a => zQd ow pl c a ∧ ¬ po a < nI (m * M)) z]
          · rw [zsl_f (Q := fun a => zQd ow pl c a ∧ ¬ po a < nI (m * M)) z, zsl_f (Q := fun a => zQd ow pl c a ∧ ¬ po a < nI (m * M)) z]
            refine zsl_f (fun z => ?_)
            rw [zsl_t (Q := fun a => zQd ow pl c a ∧ po a < nI (m * M)) z] at q
            rcases q with q | q <;> exact absurd q (by decide))
      have ht := zt_dp hR hc4 (n := n - m) pk_us (by omega)
      have cnt : zcn (fun a => zQd ow pl c a ∧ po a < nI (m * M)) (32 * P) = m * M := by
        rw [← zcn_cut (m := 32 * P) (n := 256) (by omega) (fun a q => hob a q.1.1), zcn_eq (fun a _ => hlo a)]
        refine zcn_T (fun a i => zg dp (c * 16) i = a) 256 (m * M) (fun i hi => ⟨_, (zg_f e5 (i := i) (by omega)).2.1, rfl⟩) (fun a i j hi hj t1 t2 => ?_) (fun a b i hi t1 t2 => t1.symm.trans t2)
        exact zg_i e5 (by omega) (by omega) (by omega) (t1.trans t2.symm)
      obtain ⟨r, u', v', hS, hx, hy⟩ := ih (c + 1) (t + zcn (fun a => zQd ow pl c a ∧ po a < nI (m * M)) (32 * P)) _ _ _ _ _ _ _ _ (by omega) hR
      rw [cnt, ← w1, ← w2] at hx
      have a4 : nI c * 9 + 4 = nI (c * 9 + 4) := by rw [zi_9, zi_a4]
      have c4 : (nI c * 9 + 4).toNatClampNeg = c * 9 + 4 := by rw [a4]; exact nI_clamp (by omega)
      have i4 : vp_in (nI c * 9 + 4) 36 := by rw [a4]; exact vp_in_nI (by omega) (by decide)
      have t4 : ab (c * 9 + 4) = nI m := ((h.2.2.2.2.2.1 c hc4).2.2.2.2.1 hex).trans e2
      refine ⟨r, u', v', hS, fun post k => br_f hn ⟨i1, br_f (by rw [c1]; exact hex) ⟨i1, ?_⟩⟩, fun post k => br_f hn ⟨i1, br_f (by rw [c1]; exact hex) ⟨i4, nm_r (e' := nI (m * M)) (by rw [c4, t4, pk_mul]) ⟨32 * P + 1, ?_⟩⟩⟩⟩
      · rw [c1, e2]
        refine xw_drp (g := zg dp (c * 16)) hc4 e1 (by omega) hM e3 (fun i hi => ?_) (fun i j hij hj e => ?_) ?_
        · have y := zg_f e5 (i := i) (by omega)
          exact ⟨y.1, y.2.1, by rw [y.2.2.1.1]; decide⟩
        · have := zg_i e5 (by omega) (show i < n * M by omega) (by omega) e
          omega
        · exact nm_r (nI_add _ _) ⟨i1, i1, nm_r (e' := upd lm c (nI (n - m))) (by rw [pk_us]) (nm_r (nI_1 c) (hx post k))⟩
      · have y := yw_tk_38 (post := post) (J := wY_tick_4 post (d + 1)) (t := t) (o := m * M) (r := n - m) (Z := fun a => zQd ow pl c a ∧ po a < nI (m * M)) (W := fun a => zQd ow pl c a ∧ ¬ po a < nI (m * M)) hP hM hM1 hc4 (by omega) (by omega) (fun _ => Iff.rfl) (fun _ => Iff.rfl) hob ht (hy post k) (32 * P) 0 (by omega)
        rw [zsl_0, zsl_0, zsl_0, zsl_0] at y
        exact y
end
section
variable {P C M D : Nat} {ow co wd pl ho ex sz al se ps nc lm bc rz rm fl lv sk sc dp dc hd po cl ab : Nat → Int32}
theorem xy_tick (h : zR P C M D ow co pl ho ex sz al se ps nc lm bc rz rm fl lv sk sc dp dc hd po cl ab) : zOutA ex (fun post => wpX_tick post (nI P, nI C, nI M, nI D, ow, co, (zFI pl), (zFM pl), wd, pl, ho, ex, sz, al, se, ps, nc, lm, bc, rz, rm, fl, lv, sk, sc, dp, dc)) (fun post => wpY_tick post (nI P, nI C, nI M, nI D, wd, pl, hd, po, ow, cl, ex, ab)) := by
  obtain ⟨r, u', v', hS, hx, hy⟩ := xy_tk_4 (wd := wd) 4 0 0 _ _ _ _ _ _ _ _ (by omega) h
  refine ⟨r, u', v', hS, fun post k => ?_, fun post k => ?_⟩
  · unfold wpX_tick; exact ⟨5, hx post k⟩
  · unfold wpY_tick; exact ⟨5, hy post k⟩
end
end
section
/-! createCache, destroyCache, write, givePage on both sides -/
theorem zn_b1 : vp_nar .boolean 1 = 1 := by rfl
theorem zn_b0 : vp_nar .boolean 0 = 0 := by rfl
section
variable {P C M D : Nat} {ow co wd pl ho ex sz al se ps nc lm bc rz rm fl lv sk sc dp dc hd po cl ab : Nat → Int32}
variable {c p s l : Nat} {x1 x2 x3 : Int32}
theorem xy_cr_s : ∀ d i, i + d = 4 → ((∀ post : Int32 → Prop, post (-1) → wX_lowestUnusedId_2 post (nI P) (nI C) (nI M) (nI D) ow co (zFI pl) (zFM pl) wd pl ho ex sz al se ps nc lm bc rz rm fl lv sk sc dp dc (d + 1) (nI i)) ∧ (∀ post : Int32 → SY → Prop, post (-9) (nI P, nI C, nI M, nI D, wd, pl, hd, po, ow, cl, ex, ab) → wY_createCache_31 post x1 x2 x3 (nI P) (nI C) (nI M) (nI D) wd pl hd po ow cl ex ab (d + 1) (nI i))) ∨
    ∃ c, c < 4 ∧ ex c = 0 ∧ (∀ post : Int32 → Prop, post (nI c) → wX_lowestUnusedId_2 post (nI P) (nI C) (nI M) (nI D) ow co (zFI pl) (zFM pl) wd pl ho ex sz al se ps nc lm bc rz rm fl lv sk sc dp dc (d + 1) (nI i)) ∧ (∀ post : Int32 → SY → Prop, (∃ n : Nat, wY_createCache_58 post x1 x2 x3 (nI c) (nI P) (nI C) (nI M) (nI D) n 0 wd pl hd po ow cl (upd ex c (vp_nar .boolean 1)) ab) → wY_createCache_31 post x1 x2 x3 (nI P) (nI C) (nI M) (nI D) wd pl hd po ow cl ex ab (d + 1) (nI i)) := by
  intro d
  induction d with
  | zero =>
    intro i hi
    exact Or.inl ⟨fun post k => br_t (nI_le (a := 4) (by omega) (by omega)) k, fun post k => br_t (nI_le (a := 4) (by omega) (by omega)) k⟩
  | succ d ih =>
    intro i hi
    have hn : ¬ (4 : Int32) ≤ nI i := nI_ge (b := 4) (by omega) (by decide)
    have c1 : (nI i).toNatClampNeg = i := nI_clamp (by omega)
    have i1 : vp_in (nI i) 4 := vp_in_nI (by omega) (by decide)
    by_cases z : ex i = 0
    · have z' : ex (nI i).toNatClampNeg = 0 := by rw [c1]; exact z
      exact Or.inr ⟨i, by omega, z, fun post k => br_f hn ⟨i1, br_t z' k⟩, fun post k => br_f hn ⟨i1, br_t z' ⟨i1, nm_r (e' := upd ex i (vp_nar .boolean 1)) (by rw [c1]) k⟩⟩⟩
    · have z' : ¬ ex (nI i).toNatClampNeg = 0 := by rw [c1]; exact z
      rcases ih (i + 1) (by omega) with ⟨h1, h2⟩ | ⟨c, hc, h0, h1, h2⟩
      · exact Or.inl ⟨fun post k => br_f hn ⟨i1, br_f z' (nm_r (nI_1 i) (h1 post k))⟩, fun post k => br_f hn ⟨i1, br_f z' (nm_r (nI_1 i) (h2 post k))⟩⟩
      · exact Or.inr ⟨c, hc, h0, fun post k => br_f hn ⟨i1, br_f z' (nm_r (nI_1 i) (h1 post k))⟩, fun post k => br_f hn ⟨i1, br_f z' (nm_r (nI_1 i) (h2 post k))⟩⟩
theorem yw_cr_58 {post : Int32 → SY → Prop} (hc : c < 4) (kk : post (nI c) (nI P, nI C, nI M, nI D, wd, pl, hd, po, ow, cl, ex, (upd (upd (upd (zws ab (fun i => c * 9 + i) (fun _ => 0) 9) (c * 9) x1) (c * 9 + 1) x2) (c * 9 + 2) x3))) :
    ∀ d i, i + d = 9 → wY_createCache_58 post x1 x2 x3 (nI c) (nI P) (nI C) (nI M) (nI D) (d + 1) (nI i) wd pl hd po ow cl ex (zws ab (fun i => c * 9 + i) (fun _ => 0) i) := by
  have a0 : nI c * 9 + 0 = nI (c * 9) := by rw [zi_9, zi_a0]
  have a1 : nI c * 9 + 1 = nI (c * 9 + 1) := by rw [zi_9, nI_1]
  have a2 : nI c * 9 + 2 = nI (c * 9 + 2) := by rw [zi_9, zi_a2]
  intro d
  induction d with
  | zero =>
    intro i hi
    have e : i = 9 := by omega
    rw [e]
    refine br_t (by decide) ⟨?_, nm_r (e' := upd (zws ab (fun i => c * 9 + i) (fun _ => 0) 9) (c * 9) x1) (by rw [a0, nI_clamp (by omega)]) ⟨?_, nm_r (e' := upd (upd (zws ab (fun i => c * 9 + i) (fun _ => 0) 9) (c * 9) x1) (c * 9 + 1) x2) (by rw [a1, nI_clamp (by omega)]) ⟨?_, nm_r (by rw [a2, nI_clamp (by omega)]) kk⟩⟩⟩
    · rw [a0]; exact vp_in_nI (by omega) (by decide)
    · rw [a1]; exact vp_in_nI (by omega) (by decide)
    · rw [a2]; exact vp_in_nI (by omega) (by decide)
  | succ d ih =>
    intro i hi
    have a3 : nI c * 9 + nI i = nI (c * 9 + i) := by rw [zi_9, nI_add]
    refine br_f (nI_ge (b := 9) (by omega) (by decide)) ⟨by rw [a3]; exact vp_in_nI (by omega) (by decide), nm_r (by rw [a3, nI_clamp (by omega)]; rfl) (nm_r (nI_1 i) (ih (i + 1) (by omega)))⟩
theorem zAt_new (h : zAt ab ex sz al se nc lm bc rz rm fl) (hc : c < 4) (v : Int32) : zAt (upd (upd (upd (zws ab (fun i => c * 9 + i) (fun _ => 0) 9) (c * 9) x1) (c * 9 + 1) x2) (c * 9 + 2) x3) (upd ex c v) (upd sz c x1) (upd al c x2) (upd se c x3) (upd nc c 0) (upd lm c 0) (upd bc c 0) (upd rz c 0) (upd rm c 0) (upd fl c 0) := by
  intro d hd
  by_cases e : d = c
  · rw [e]
    have z : ∀ j, 3 ≤ j → j < 9 → upd (upd (upd (zws ab (fun i => c * 9 + i) (fun _ => 0) 9) (c * 9) x1) (c * 9 + 1) x2) (c * 9 + 2) x3 (c * 9 + j) = 0 := fun j h1 h2 => by
      rw [pk_un (by omega), pk_un (by omega), pk_un (by omega)]
      exact zws_h (f := ab) (ix := fun i => c * 9 + i) (v := fun _ => 0) h2 (fun k hk _ => by omega)
    refine ⟨?_, ?_, ?_, ?_, fun _ => ?_, ?_, ?_, ?_, ?_⟩
    · rw [pk_un (by omega), pk_un (by omega), pk_us, pk_us]
    · rw [pk_un (by omega), pk_us, pk_us]
    · rw [pk_us, pk_us]
    · rw [z 3 (by omega) (by omega), pk_us]
    · rw [z 4 (by omega) (by omega), pk_us]
    · rw [z 5 (by omega) (by omega), pk_us]
    · rw [z 6 (by omega) (by omega), pk_us]
    · rw [z 7 (by omega) (by omega), pk_us]
    · rw [z 8 (by omega) (by omega), pk_us]
  · have z : ∀ j, j < 9 → upd (upd (upd (zws ab (fun i => c * 9 + i) (fun _ => 0) 9) (c * 9) x1) (c * 9 + 1) x2) (c * 9 + 2) x3 (d * 9 + j) = ab (d * 9 + j) := fun j hj => by
      rw [pk_un (by omega), pk_un (by omega), pk_un (by omega)]
      exact zws_m (fun i hi => by omega)
    obtain ⟨h0, h1, h2, h3, h4, h5, h6, h7, h8⟩ := h d hd
    rw [pk_un e, pk_un e, pk_un e, pk_un e, pk_un e, pk_un e, pk_un e, pk_un e, pk_un e, pk_un e]
    exact ⟨(z 0 (by omega)).trans h0, (z 1 (by omega)).trans h1, (z 2 (by omega)).trans h2, (z 3 (by omega)).trans h3, fun y => (z 4 (by omega)).trans (h4 y), (z 5 (by omega)).trans h5, (z 6 (by omega)).trans h6, (z 7 (by omega)).trans h7, (z 8 (by omega)).trans h8⟩
theorem xy_createCache (v1 v2 v3 : Int32) (h : zR P C M D ow co pl ho ex sz al se ps nc lm bc rz rm fl lv sk sc dp dc hd po cl ab) : ∃ ex', zOutA ex' (fun post => wpX_createCache post (nI P, nI C, nI M, nI D, ow, co, (zFI pl), (zFM pl), wd, pl, ho, ex, sz, al, se, ps, nc, lm, bc, rz, rm, fl, lv, sk, sc, dp, dc) v1 v2 v3) (fun post => wpY_createCache post (nI P, nI C, nI M, nI D, wd, pl, hd, po, ow, cl, ex, ab) v1 v2 v3) := by
  by_cases s0 : v1 < 2
  · refine ⟨ex, -7, _, _, zS_in (wd := wd) h, fun post k => ?_, fun post k => ?_⟩
    · unfold wpX_createCache; exact br_t s0 k
    · unfold wpY_createCache; exact br_t s0 k
  by_cases s1 : v1 ≤ 16
  rotate_left
  · refine ⟨ex, -7, _, _, zS_in (wd := wd) h, fun post k => ?_, fun post k => ?_⟩
    · unfold wpX_createCache; exact br_f s0 (br_f s1 k)
    · unfold wpY_createCache; exact br_f s0 (br_f s1 k)
  by_cases l0 : v2 < 1
  · refine ⟨ex, -8, _, _, zS_in (wd := wd) h, fun post k => ?_, fun post k => ?_⟩
    · unfold wpX_createCache; exact br_f s0 (br_t s1 (br_t l0 k))
    · unfold wpY_createCache; exact br_f s0 (br_t s1 (br_t l0 k))
  by_cases l1 : v2 ≤ 16
  rotate_left
  · refine ⟨ex, -8, _, _, zS_in (wd := wd) h, fun post k => ?_, fun post k => ?_⟩
    · unfold wpX_createCache; exact br_f s0 (br_t s1 (br_f l0 (br_f l1 k)))
    · unfold wpY_createCache; exact br_f s0 (br_t s1 (br_f l0 (br_f l1 k)))
  obtain ⟨s, hs, es⟩ := nI_of2 (x := v1) (M := 16) (n := 16) (by decide) (fun z => s0 (Int32.lt_of_lt_of_le z (by decide))) s1
  obtain ⟨l, hl, el⟩ := nI_of2 (x := v2) (M := 16) (n := 16) (by decide) (fun z => l0 (Int32.lt_of_lt_of_le z (by decide))) l1
  rw [es] at s0 s1 ⊢
  rw [el] at l0 l1 ⊢
  have hs2 : 2 ≤ s := by
    rcases Nat.lt_or_ge s 2 with z | z
    · exact absurd (nI_lt (b := 2) z (by decide)) s0
    · exact z
  rcases xy_cr_s (P := P) (C := C) (M := M) (D := D) (ow := ow) (co := co) (wd := wd) (pl := pl) (ho := ho) (ex := ex) (sz := sz) (al := al) (se := se) (ps := ps) (nc := nc) (lm := lm) (bc := bc) (rz := rz) (rm := rm) (fl := fl) (lv := lv) (sk := sk) (sc := sc) (dp := dp) (dc := dc) (hd := hd) (po := po) (cl := cl) (ab := ab) (x1 := nI s) (x2 := nI l) (x3 := v3) 4 0 (by omega) with ⟨g1, g2⟩ | ⟨c, hc, h0, g1, g2⟩
  · refine ⟨ex, -9, _, _, zS_in (wd := wd) h, fun post k => ?_, fun post k => ?_⟩
    · unfold wpX_createCache wpX_lowestUnusedId
      exact br_f s0 (br_t s1 (br_f l0 (br_t l1 ⟨5, g1 _ (br_t rfl k)⟩)))
    · unfold wpY_createCache
      exact br_f s0 (br_t s1 (br_f l0 (br_t l1 ⟨5, g2 _ k⟩)))
  · have c1 : (nI c).toNatClampNeg = c := nI_clamp (by omega)
    have i1 : vp_in (nI c) 4 := vp_in_nI hc (by decide)
    have hR := zl_crt (c := c) (s := s) (l := l) (sc' := zws sc (fun i => i * 4 + c) (fun _ => 0) 4) h hc h0 hs2 hs hl (vp_nar .boolean 1) v3
      (fun u hu => zws_h (f := sc) (ix := fun i => i * 4 + c) (v := fun _ => 0) hu (fun j hj _ => by omega)) (fun u c' hu hc' ne => zws_m (fun i hi => by omega)) (zAt_new (x1 := nI s) (x2 := nI l) (x3 := v3) h.2.2.2.2.2.1 hc (vp_nar .boolean 1)) (by rw [zn_b1]; decide)
    refine ⟨upd ex c (vp_nar .boolean 1), nI c, _, _, zS_in (wd := wd) hR, fun post k => ?_, fun post k => ?_⟩
    · unfold wpX_createCache wpX_lowestUnusedId
      refine br_f s0 (br_t s1 (br_f l0 (br_t l1 ⟨5, g1 _ (br_f (zi_n1 (by omega)) ⟨i1, nm_r (by rw [c1]) ⟨i1, nm_r (by rw [c1]) ⟨i1, nm_r (by rw [c1]) ⟨i1, nm_r (by rw [c1]) ⟨nI_ne0 (by omega) (by omega), i1, nm_r (e' := upd ps c (nI (32 / s))) ?_ ⟨i1, nm_r (by rw [c1]) ⟨i1, nm_r (by rw [c1]) ⟨i1, nm_r (by rw [c1]) ⟨i1, nm_r (by rw [c1]) ⟨i1, nm_r (by rw [c1]) ⟨i1, nm_r (by rw [c1]) (xw_fgt hc k)⟩⟩⟩⟩⟩⟩⟩⟩⟩⟩⟩)⟩)))
      rw [c1]
      exact congrArg (upd ps c) (pk_div (a := 32) (by decide) (by omega) (by omega))
    · unfold wpY_createCache
      exact br_f s0 (br_t s1 (br_f l0 (br_t l1 ⟨5, g2 _ ⟨10, yw_cr_58 hc k 9 0 (by omega)⟩⟩)))
theorem zr_pl {cc : Int32} {f : Nat → Int32} {v : Int32} {i : Nat} (h : ow i = cc) : zsl (fun a => a / 32 = i) (fun _ => v) (zsl (fun a => a / 32 < i ∧ ow (a / 32) = cc) (fun _ => v) f) = zsl (fun a => a / 32 < i + 1 ∧ ow (a / 32) = cc) (fun _ => v) f := by
  funext a
  by_cases e : a / 32 = i
  · rw [zsl_t (Q := fun a => a / 32 = i) e, zsl_t (Q := fun a => a / 32 < i + 1 ∧ ow (a / 32) = cc) ⟨by omega, by rw [e]; exact h⟩]
  · rw [zsl_f (Q := fun a => a / 32 = i) e]
    by_cases z : a / 32 < i ∧ ow (a / 32) = cc
    · rw [zsl_t (Q := fun a => a / 32 < i ∧ ow (a / 32) = cc) z, zsl_t (Q := fun a => a / 32 < i + 1 ∧ ow (a / 32) = cc) ⟨by omega, z.2⟩]
    · rw [zsl_f (Q := fun a => a / 32 < i ∧ ow (a / 32) = cc) z, zsl_f (Q := fun a => a / 32 < i + 1 ∧ ow (a / 32) = cc) (fun y => z ⟨by omega, y.2⟩)]
theorem zr_pn {cc : Int32} {f : Nat → Int32} {v : Int32} {i : Nat} (h : ¬ ow i = cc) : zsl (fun a => a / 32 < i ∧ ow (a / 32) = cc) (fun _ => v) f = zsl (fun a => a / 32 < i + 1 ∧ ow (a / 32) = cc) (fun _ => v) f :=
  zsl_c (fun a => ⟨fun z => ⟨by omega, z.2⟩, fun z => ⟨by
    have : a / 32 ≠ i := fun e => h (by rw [← e]; exact z.2)
    omega, z.2⟩⟩)
theorem zr_0 {cc : Int32} {f : Nat → Int32} {v : Int32} : zsl (fun a => a / 32 < 0 ∧ ow (a / 32) = cc) (fun _ => v) f = f := by
  funext a; exact zsl_f (fun z => by omega)
theorem xw_ds_25 {post : Int32 → SX → Prop} (hP : P ≤ 8) (hc : c < 4)
    (kk : post 0 (nI P, nI C, nI M, nI D, (zsl (fun p => p < P ∧ ow p = nI c) (fun _ => -1) ow), (zsl (fun p => p < P ∧ ow p = nI c) (fun _ => 0) co), (zFI (zsl (fun a => a / 32 < P ∧ ow (a / 32) = nI c) (fun _ => 0) pl)), (zFM (zsl (fun a => a / 32 < P ∧ ow (a / 32) = nI c) (fun _ => 0) pl)), wd, (zsl (fun a => a / 32 < P ∧ ow (a / 32) = nI c) (fun _ => 0) pl), (zsl (fun a => a / 32 < P ∧ ow (a / 32) = nI c) (fun _ => -1) ho), (upd ex c (vp_nar .boolean 0)), sz, al, se, ps, nc, (upd lm c 0), bc, rz, rm, fl, lv, sk, (zws sc (fun i => i * 4 + c) (fun _ => 0) 4), dp, (upd dc c 0))) :
    ∀ d i, i + d = P → wX_destroyCache_25 post (nI c) (d + 1) (nI i) (nI P) (nI C) (nI M) (nI D) (zsl (fun p => p < i ∧ ow p = nI c) (fun _ => -1) ow) (zsl (fun p => p < i ∧ ow p = nI c) (fun _ => 0) co) (zFI (zsl (fun a => a / 32 < i ∧ ow (a / 32) = nI c) (fun _ => 0) pl)) (zFM (zsl (fun a => a / 32 < i ∧ ow (a / 32) = nI c) (fun _ => 0) pl)) wd (zsl (fun a => a / 32 < i ∧ ow (a / 32) = nI c) (fun _ => 0) pl) (zsl (fun a => a / 32 < i ∧ ow (a / 32) = nI c) (fun _ => -1) ho) ex sz al se ps nc lm bc rz rm fl lv sk sc dp dc := by
  intro d
  induction d with
  | zero =>
    intro i hi
    have e : i = P := by omega
    rw [e]
    exact br_t (nI_le (by omega) (by omega)) (xw_fgt hc ⟨vp_in_nI hc (by decide), nm_r (e' := upd ex c (vp_nar .boolean 0)) (by rw [nI_clamp (by omega)]) kk⟩)
  | succ d ih =>
    intro i hi
    have c1 : (nI i).toNatClampNeg = i := nI_clamp (by omega)
    have i1 : vp_in (nI i) 8 := vp_in_nI (by omega) (by decide)
    have r := ih (i + 1) (by omega)
    refine br_f (nI_ge (by omega) (by omega)) ⟨i1, br_c (fun q => ?_) (fun q => ?_)⟩
    · rw [c1, zsl_i] at q
      rw [← zr_pl (f := pl) q, ← zr_pl (f := ho) q, ← zsl_st (f := ow) (Q := fun p => ow p = nI c) q, ← zsl_st (f := co) (Q := fun p => ow p = nI c) q] at r
      exact xw_rel (by omega) (nm_r (nI_1 i) r)
    · rw [c1, zsl_i] at q
      rw [← zr_pn (f := pl) q, ← zr_pn (f := ho) q, ← zsl_sf (f := ow) (Q := fun p => ow p = nI c) q, ← zsl_sf (f := co) (Q := fun p => ow p = nI c) q] at r
      exact nm_r (nI_1 i) r
theorem yw_ds_26 {post : Int32 → SY → Prop} (hP : P ≤ 8) (hc : c < 4) (kk : post 0 (nI P, nI C, nI M, nI D, wd, (zsl (fun a => a / 32 < P ∧ ow (a / 32) = nI c) (fun _ => 0) pl), hd, po, (zsl (fun p => p < P ∧ ow p = nI c) (fun _ => -1) ow), cl, (upd ex c (vp_nar .boolean 0)), ab)) :
    ∀ d i, i + d = P → wY_destroyCache_26 post (nI c) (d + 1) (nI i) (nI P) (nI C) (nI M) (nI D) wd (zsl (fun a => a / 32 < i ∧ ow (a / 32) = nI c) (fun _ => 0) pl) hd po (zsl (fun p => p < i ∧ ow p = nI c) (fun _ => -1) ow) cl ex ab := by
  intro d
  induction d with
  | zero =>
    intro i hi
    have e : i = P := by omega
    rw [e]
    exact br_t (nI_le (by omega) (by omega)) ⟨vp_in_nI hc (by decide), nm_r (e' := upd ex c (vp_nar .boolean 0)) (by rw [nI_clamp (by omega)]) kk⟩
  | succ d ih =>
    intro i hi
    have c1 : (nI i).toNatClampNeg = i := nI_clamp (by omega)
    have i1 : vp_in (nI i) 8 := vp_in_nI (by omega) (by decide)
    have r := ih (i + 1) (by omega)
    refine br_f (nI_ge (by omega) (by omega)) ⟨i1, br_c (fun q => ?_) (fun q => ?_)⟩
    · rw [c1, zsl_i] at q
      rw [← zr_pl (f := pl) q, ← zsl_st (f := ow) (Q := fun p => ow p = nI c) q] at r
      exact yw_dis (by omega) (nm_r (nI_1 i) r)
    · rw [c1, zsl_i] at q
      rw [← zr_pn (f := pl) q, ← zsl_sf (f := ow) (Q := fun p => ow p = nI c) q] at r
      exact nm_r (nI_1 i) r
/-- Y's tally of the live objects of a cache -/
theorem zt_lv (h : zR P C M D ow co pl ho ex sz al se ps nc lm bc rz rm fl lv sk sc dp dc hd po cl ab) (hc : c < 4) : lv c = nI (zcn (zTy ow pl hd (nI c) 1 (-1)) (32 * P)) := by
  have hP : P ≤ 8 := h.1.2.1
  rw [h.2.2.2.2.2.2.2.2.2.2 c hc]
  refine congrArg nI ?_
  rw [← zcn_cut (m := 32 * P) (n := 256) (by omega) (fun a q => (h.2.2.1 a (by rw [q.1]; decide)).1)]
  exact zcn_eq (fun a _ => ⟨fun q => ⟨q.1, q.2, Or.inl rfl⟩, fun q => ⟨q.1, q.2.1⟩⟩)
theorem xy_destroyCache (v : Int32) (h : zR P C M D ow co pl ho ex sz al se ps nc lm bc rz rm fl lv sk sc dp dc hd po cl ab) : ∃ ex', zOutA ex' (fun post => wpX_destroyCache post (nI P, nI C, nI M, nI D, ow, co, (zFI pl), (zFM pl), wd, pl, ho, ex, sz, al, se, ps, nc, lm, bc, rz, rm, fl, lv, sk, sc, dp, dc) v) (fun post => wpY_destroyCache post (nI P, nI C, nI M, nI D, wd, pl, hd, po, ow, cl, ex, ab) v) := by
  have hP : P ≤ 8 := h.1.2.1
  rcases zc_ca ex v with h2 | ⟨c, hc, e2, hex⟩
  · refine ⟨ex, -3, _, _, zS_in (wd := wd) h, fun post k => ?_, fun post k => ?_⟩
    · unfold wpX_destroyCache; exact xw_ca_b h2 (br_f (by decide) k)
    · unfold wpY_destroyCache; exact yw_ca_b h2 (br_t rfl k)
  · rw [e2]
    have c1 : (nI c).toNatClampNeg = c := nI_clamp (by omega)
    have i1 : vp_in (nI c) 4 := vp_in_nI hc (by decide)
    have hl := zt_lv h hc
    have hb := zcn_le (zTy ow pl hd (nI c) 1 (-1)) (32 * P)
    by_cases z : zcn (zTy ow pl hd (nI c) 1 (-1)) (32 * P) = 0
    · rw [z] at hl
      have hlive : ∀ a, ¬ (pl a = 1 ∧ ow (a / 32) = nI c) := fun a q => by
        have := zcn_gt (Q := zTy ow pl hd (nI c) 1 (-1)) (a := a) ⟨q.1, q.2, Or.inl rfl⟩ (h.2.2.1 a (by rw [q.1]; decide)).1
        omega
      have hR := zl_dst (c := c) (Z := fun a => a < 256 ∧ ow (a / 32) = nI c) (ow' := zsl (fun p => p < P ∧ ow p = nI c) (fun _ => -1) ow) (co' := zsl (fun p => p < P ∧ ow p = nI c) (fun _ => 0) co) (pl' := zsl (fun a => a / 32 < P ∧ ow (a / 32) = nI c) (fun _ => 0) pl) (ho' := zsl (fun a => a / 32 < P ∧ ow (a / 32) = nI c) (fun _ => -1) ho) (sc' := zws sc (fun i => i * 4 + c) (fun _ => 0) 4) h hc hlive (fun _ => Iff.rfl)
        (fun a q => zsl_t (Q := fun a => a / 32 < P ∧ ow (a / 32) = nI c) ⟨zO_lp h (by omega) hc q.2, q.2⟩)
        (fun a q => ⟨zsl_f (Q := fun a => a / 32 < P ∧ ow (a / 32) = nI c) (fun y => q ⟨by omega, y.2⟩), zsl_f (Q := fun a => a / 32 < P ∧ ow (a / 32) = nI c) (fun y => q ⟨by omega, y.2⟩)⟩)
        (fun q hq e => zsl_t (Q := fun p => p < P ∧ ow p = nI c) ⟨zO_lp h hq hc e, e⟩)
        (fun q hq e => ⟨zsl_f (Q := fun p => p < P ∧ ow p = nI c) (fun y => e y.2), zsl_f (Q := fun p => p < P ∧ ow p = nI c) (fun y => e y.2)⟩)
        (vp_nar .boolean 0) zn_b0 (fun u hu => zws_h (f := sc) (ix := fun i => i * 4 + c) (v := fun _ => 0) hu (fun j hj _ => by omega)) (fun u c' hu hc' ne => zws_m (fun i hi => by omega))
      refine ⟨upd ex c (vp_nar .boolean 0), 0, _, _, zS_in (wd := wd) hR, fun post k => ?_, fun post k => ?_⟩
      · unfold wpX_destroyCache
        have y := xw_ds_25 (post := post) hP hc k P 0 (by omega)
        rw [zsl_0, zsl_0, zr_0, zr_0] at y
        exact xw_ca_g hc hex (br_t rfl ⟨i1, br_t (by rw [c1]; exact hl) ⟨P + 1, y⟩⟩)
      · unfold wpY_destroyCache
        have y := yw_ds_26 (post := post) hP hc k P 0 (by omega)
        rw [zsl_0, zr_0] at y
        refine yw_ca_g hc hex (br_f (by decide) (yw_tly hP ?_))
        rw [z]
        exact br_t (by decide) ⟨P + 1, y⟩
    · refine ⟨ex, -10, _, _, zS_in (wd := wd) h, fun post k => ?_, fun post k => ?_⟩
      · unfold wpX_destroyCache
        exact xw_ca_g hc hex (br_t rfl ⟨i1, br_f (by rw [c1, hl]; exact nI_ne0 (by omega) (by omega)) k⟩)
      · unfold wpY_destroyCache
        exact yw_ca_g hc hex (br_f (by decide) (yw_tly hP (br_f (nI_nle (by omega) (by omega)) k)))
theorem xy_givePage (v : Int32) (h : zR P C M D ow co pl ho ex sz al se ps nc lm bc rz rm fl lv sk sc dp dc hd po cl ab) : zOutA ex (fun post => wpX_givePage post (nI P, nI C, nI M, nI D, ow, co, (zFI pl), (zFM pl), wd, pl, ho, ex, sz, al, se, ps, nc, lm, bc, rz, rm, fl, lv, sk, sc, dp, dc) v) (fun post => wpY_givePage post (nI P, nI C, nI M, nI D, wd, pl, hd, po, ow, cl, ex, ab) v) := by
  have hP : P ≤ 8 := h.1.2.1
  rcases pk_ix v (n := P) (by omega) with h1 | h1 | ⟨p, hp, e1⟩
  · refine ⟨-12, _, _, zS_in (wd := wd) h, fun post k => ?_, fun post k => ?_⟩
    · unfold wpX_givePage; exact xw_pg_b (Or.inl h1) (br_f (by decide) k) hP
    · unfold wpY_givePage; exact br_t h1 k
  · refine ⟨-12, _, _, zS_in (wd := wd) h, fun post k => ?_, fun post k => ?_⟩
    · unfold wpX_givePage; exact xw_pg_b (Or.inr h1) (br_f (by decide) k) hP
    · unfold wpY_givePage; exact br_f (zc_ng (by omega) h1) (br_f (Int32.not_lt.mpr h1) k)
  · rw [e1]
    have c1 : (nI p).toNatClampNeg = p := nI_clamp (by omega)
    have i1 : vp_in (nI p) 8 := vp_in_nI (by omega) (by decide)
    by_cases q : ow p = -16
    · refine ⟨0, _, _, zS_in (wd := wd) (zl_own h hp (v := -1) (Or.inr q) (Or.inl rfl)), fun post k => ?_, fun post k => ?_⟩
      · unfold wpX_givePage; exact xw_pg_g hp (br_t rfl ⟨i1, br_t (by rw [c1]; exact q) ⟨i1, nm_r (e' := upd ow p (-1)) (by rw [c1]) k⟩⟩) hP
      · unfold wpY_givePage; exact br_f (nI_pos (by omega)) (br_t (nI_lt hp (by omega)) ⟨i1, br_t (by rw [c1]; exact q) ⟨i1, nm_r (e' := upd ow p (-1)) (by rw [c1]) k⟩⟩)
    · refine ⟨-13, _, _, zS_in (wd := wd) h, fun post k => ?_, fun post k => ?_⟩
      · unfold wpX_givePage; exact xw_pg_g hp (br_t rfl ⟨i1, br_f (by rw [c1]; exact q) k⟩) hP
      · unfold wpY_givePage; exact br_f (nI_pos (by omega)) (br_t (nI_lt hp (by omega)) ⟨i1, br_f (by rw [c1]; exact q) k⟩)
end
end
section
/-! write, and the calls that only look, on both sides -/
def zOutR {α : Type} (X Y : (α → Prop) → Prop) : Prop := ∃ r : α, (∀ post : α → Prop, post r → X post) ∧ (∀ post : α → Prop, post r → Y post)
section
variable {P C M D : Nat} {ow co wd pl ho ex sz al se ps nc lm bc rz rm fl lv sk sc dp dc hd po cl ab : Nat → Int32}
variable {a c j u n : Nat}
/-- an object: its cache, its size, its room -/
theorem zO_sz (h : zR P C M D ow co pl ho ex sz al se ps nc lm bc rz rm fl lv sk sc dp dc hd po cl ab) (hne : ¬ pl a = 0) : ∃ c s, c < 4 ∧ ow (a / 32) = nI c ∧ sz c = nI s ∧ s ≤ 16 ∧ ab (c * 9) = nI s ∧ a % 32 + s ≤ 32 := by
  obtain ⟨h1, h2, c, h3, h4, h5⟩ := h.2.2.1 a hne
  have hl := zO_lt h hne
  obtain ⟨s, g, l, e1, e2, e3, _⟩ := (h.2.2.2.2.1 c h3).2 (zO_ex h (by omega) h3 h4)
  rw [e1, nI_clamp (by omega)] at h5
  exact ⟨c, s, h3, h4, e1, e3, ((h.2.2.2.2.2.1 c h3).1).trans e1, h5⟩
theorem xy_write (v1 v2 v3 : Int32) (h : zR P C M D ow co pl ho ex sz al se ps nc lm bc rz rm fl lv sk sc dp dc hd po cl ab) : zOutA ex (fun post => wpX_write post (nI P, nI C, nI M, nI D, ow, co, (zFI pl), (zFM pl), wd, pl, ho, ex, sz, al, se, ps, nc, lm, bc, rz, rm, fl, lv, sk, sc, dp, dc) v1 v2 v3) (fun post => wpY_write post (nI P, nI C, nI M, nI D, wd, pl, hd, po, ow, cl, ex, ab) v1 v2 v3) := by
  have hP : P ≤ 8 := h.1.2.1
  rcases zc_ob P hP pl v1 with h2 | ⟨a, ha, e2, hne⟩
  · refine ⟨-4, _, _, zS_in (wd := wd) h, fun post k => ?_, fun post k => ?_⟩
    · unfold wpX_write; exact xw_ob_b h2 (br_f (by decide) k) hP
    · unfold wpY_write; exact yw_ob_b h2 (br_t rfl k) hP
  · rw [e2]
    have ca : (nI a).toNatClampNeg = a := nI_clamp (by omega)
    have ia : vp_in (nI a) 256 := vp_in_nI (by omega) (by decide)
    by_cases q : pl a = 1
    rotate_left
    · refine ⟨-5, _, _, zS_in (wd := wd) h, fun post k => ?_, fun post k => ?_⟩
      · unfold wpX_write; exact xw_ob_g ha hne (br_t rfl ⟨ia, br_f (by rw [ca]; exact q) k⟩) hP
      · unfold wpY_write; exact yw_ob_g ha hne (br_f (by decide) ⟨ia, br_f (by rw [ca]; exact q) k⟩) hP
    have q' : pl (nI a).toNatClampNeg = 1 := by rw [ca]; exact q
    by_cases i0 : v2 < 0
    · refine ⟨-11, _, _, zS_in (wd := wd) h, fun post k => ?_, fun post k => ?_⟩
      · unfold wpX_write; exact xw_ob_g ha hne (br_t rfl ⟨ia, br_t q' (br_t i0 k)⟩) hP
      · unfold wpY_write; exact yw_ob_g ha hne (br_f (by decide) ⟨ia, br_t q' (br_t i0 k)⟩) hP
    obtain ⟨j, hj, ej⟩ := nI_of i0
    rw [ej] at i0 ⊢
    obtain ⟨c, s, hc, hw, hs, hs16, hab, hfit⟩ := zO_sz h hne
    have sh : (nI a >>> ((5 : Int32) &&& 31)).toNatClampNeg = a / 32 := by rw [zi_shr (by omega)]; exact nI_clamp (by omega)
    have si : vp_in (nI a >>> ((5 : Int32) &&& 31)) 8 := by rw [zi_shr (by omega)]; exact vp_in_nI (by omega) (by decide)
    have dv : (nI a / 32).toNatClampNeg = a / 32 := by rw [zi_div (by omega)]; exact nI_clamp (by omega)
    have di : vp_in (nI a / 32) 8 := by rw [zi_div (by omega)]; exact vp_in_nI (by omega) (by decide)
    have cc : (nI c).toNatClampNeg = c := nI_clamp (by omega)
    have ic : vp_in (nI c) 4 := vp_in_nI hc (by decide)
    have a0 : nI c * 9 + 0 = nI (c * 9) := by rw [zi_9, zi_a0]
    have c0 : (nI c * 9 + 0).toNatClampNeg = c * 9 := by rw [a0]; exact nI_clamp (by omega)
    have i9 : vp_in (nI c * 9 + 0) 36 := by rw [a0]; exact vp_in_nI (by omega) (by decide)
    by_cases z : j < s
    · have aj : nI a + nI j = nI (a + j) := nI_add _ _
      have ij : vp_in (nI a + nI j) 256 := by rw [aj]; exact vp_in_nI (by omega) (by decide)
      have cj : (nI a + nI j).toNatClampNeg = a + j := by rw [aj]; exact nI_clamp (by omega)
      refine ⟨0, _, _, zS_in (wd := upd wd (a + j) v3) h, fun post k => ?_, fun post k => ?_⟩
      · unfold wpX_write
        exact xw_ob_g ha hne (br_t rfl ⟨ia, br_t q' (br_f i0 ⟨si, by rw [sh, hw]; exact ic, br_t (by rw [sh, hw, cc, hs]; exact nI_lt z (by omega)) ⟨ij, nm_r (e' := upd wd (a + j) v3) (by rw [cj]) k⟩⟩)⟩) hP
      · unfold wpY_write
        exact yw_ob_g ha hne (br_f (by decide) ⟨ia, br_t q' (br_f i0 ⟨zi_32ne, di, by rw [dv, hw]; exact i9, br_t (by rw [dv, hw, c0, hab]; exact nI_lt z (by omega)) ⟨ij, nm_r (e' := upd wd (a + j) v3) (by rw [cj]) k⟩⟩)⟩) hP
    · refine ⟨-11, _, _, zS_in (wd := wd) h, fun post k => ?_, fun post k => ?_⟩
      · unfold wpX_write
        exact xw_ob_g ha hne (br_t rfl ⟨ia, br_t q' (br_f i0 ⟨si, by rw [sh, hw]; exact ic, br_f (by rw [sh, hw, cc, hs]; exact nI_nlt (by omega) hj) k⟩)⟩) hP
      · unfold wpY_write
        exact yw_ob_g ha hne (br_f (by decide) ⟨ia, br_t q' (br_f i0 ⟨zi_32ne, di, by rw [dv, hw]; exact i9, br_f (by rw [dv, hw, c0, hab]; exact nI_nlt (by omega) hj) k⟩)⟩) hP
theorem xy_read (v1 v2 : Int32) (h : zR P C M D ow co pl ho ex sz al se ps nc lm bc rz rm fl lv sk sc dp dc hd po cl ab) : zOutR (fun post => wpX_read post (nI P, nI C, nI M, nI D, ow, co, (zFI pl), (zFM pl), wd, pl, ho, ex, sz, al, se, ps, nc, lm, bc, rz, rm, fl, lv, sk, sc, dp, dc) v1 v2) (fun post => wpY_read post (nI P, nI C, nI M, nI D, wd, pl, hd, po, ow, cl, ex, ab) v1 v2) := by
  have hP : P ≤ 8 := h.1.2.1
  rcases zc_ob P hP pl v1 with h2 | ⟨a, ha, e2, hne⟩
  · refine ⟨4294967296, fun post k => ?_, fun post k => ?_⟩
    · unfold wpX_read; exact xw_ob_b h2 (br_f (by decide) k) hP
    · unfold wpY_read; exact yw_ob_b h2 (br_t rfl k) hP
  · rw [e2]
    by_cases i0 : v2 < 0
    · refine ⟨4294967296, fun post k => ?_, fun post k => ?_⟩
      · unfold wpX_read; exact xw_ob_g ha hne (br_t rfl (br_t i0 k)) hP
      · unfold wpY_read; exact yw_ob_g ha hne (br_f (by decide) (br_t i0 k)) hP
    obtain ⟨j, hj, ej⟩ := nI_of i0
    rw [ej] at i0 ⊢
    obtain ⟨c, s, hc, hw, hs, hs16, hab, hfit⟩ := zO_sz h hne
    have sh : (nI a >>> ((5 : Int32) &&& 31)).toNatClampNeg = a / 32 := by rw [zi_shr (by omega)]; exact nI_clamp (by omega)
    have si : vp_in (nI a >>> ((5 : Int32) &&& 31)) 8 := by rw [zi_shr (by omega)]; exact vp_in_nI (by omega) (by decide)
    have dv : (nI a / 32).toNatClampNeg = a / 32 := by rw [zi_div (by omega)]; exact nI_clamp (by omega)
    have di : vp_in (nI a / 32) 8 := by rw [zi_div (by omega)]; exact vp_in_nI (by omega) (by decide)
    have cc : (nI c).toNatClampNeg = c := nI_clamp (by omega)
    have ic : vp_in (nI c) 4 := vp_in_nI hc (by decide)
    have a0 : nI c * 9 + 0 = nI (c * 9) := by rw [zi_9, zi_a0]
    have c0 : (nI c * 9 + 0).toNatClampNeg = c * 9 := by rw [a0]; exact nI_clamp (by omega)
    have i9 : vp_in (nI c * 9 + 0) 36 := by rw [a0]; exact vp_in_nI (by omega) (by decide)
    by_cases z : j < s
    · have aj : nI a + nI j = nI (a + j) := nI_add _ _
      have ij : vp_in (nI a + nI j) 256 := by rw [aj]; exact vp_in_nI (by omega) (by decide)
      refine ⟨(wd (nI a + nI j).toNatClampNeg).toInt64, fun post k => ?_, fun post k => ?_⟩
      · unfold wpX_read
        exact xw_ob_g ha hne (br_t rfl (br_f i0 ⟨si, by rw [sh, hw]; exact ic, br_t (by rw [sh, hw, cc, hs]; exact nI_lt z (by omega)) ⟨ij, k⟩⟩)) hP
      · unfold wpY_read
        exact yw_ob_g ha hne (br_f (by decide) (br_f i0 ⟨zi_32ne, di, by rw [dv, hw]; exact i9, br_t (by rw [dv, hw, c0, hab]; exact nI_lt z (by omega)) ⟨ij, k⟩⟩)) hP
    · refine ⟨4294967296, fun post k => ?_, fun post k => ?_⟩
      · unfold wpX_read
        exact xw_ob_g ha hne (br_t rfl (br_f i0 ⟨si, by rw [sh, hw]; exact ic, br_f (by rw [sh, hw, cc, hs]; exact nI_nlt (by omega) hj) k⟩)) hP
      · unfold wpY_read
        exact yw_ob_g ha hne (br_f (by decide) (br_f i0 ⟨zi_32ne, di, by rw [dv, hw]; exact i9, br_f (by rw [dv, hw, c0, hab]; exact nI_nlt (by omega) hj) k⟩)) hP
theorem xy_place (v : Int32) (h : zR P C M D ow co pl ho ex sz al se ps nc lm bc rz rm fl lv sk sc dp dc hd po cl ab) : zOutR (fun post => wpX_place post (nI P, nI C, nI M, nI D, ow, co, (zFI pl), (zFM pl), wd, pl, ho, ex, sz, al, se, ps, nc, lm, bc, rz, rm, fl, lv, sk, sc, dp, dc) v) (fun post => wpY_place post (nI P, nI C, nI M, nI D, wd, pl, hd, po, ow, cl, ex, ab) v) := by
  have hP : P ≤ 8 := h.1.2.1
  rcases zc_ob P hP pl v with h2 | ⟨a, ha, e2, hne⟩
  · refine ⟨0, fun post k => ?_, fun post k => ?_⟩
    · unfold wpX_place; exact xw_ob_b h2 (br_f (by decide) k) hP
    · unfold wpY_place; exact yw_ob_b h2 (br_t rfl k) hP
  · rw [e2]
    have ia : vp_in (nI a) 256 := vp_in_nI (by omega) (by decide)
    refine ⟨pl (nI a).toNatClampNeg, fun post k => ?_, fun post k => ?_⟩
    · unfold wpX_place; exact xw_ob_g ha hne (br_t rfl ⟨ia, k⟩) hP
    · unfold wpY_place; exact yw_ob_g ha hne (br_f (by decide) ⟨ia, k⟩) hP
theorem xy_holder (v : Int32) (h : zR P C M D ow co pl ho ex sz al se ps nc lm bc rz rm fl lv sk sc dp dc hd po cl ab) : zOutR (fun post => wpX_holder post (nI P, nI C, nI M, nI D, ow, co, (zFI pl), (zFM pl), wd, pl, ho, ex, sz, al, se, ps, nc, lm, bc, rz, rm, fl, lv, sk, sc, dp, dc) v) (fun post => wpY_holder post (nI P, nI C, nI M, nI D, wd, pl, hd, po, ow, cl, ex, ab) v) := by
  have hP : P ≤ 8 := h.1.2.1
  rcases zc_ob P hP pl v with h2 | ⟨a, ha, e2, hne⟩
  · refine ⟨-4, fun post k => ?_, fun post k => ?_⟩
    · unfold wpX_holder; exact xw_ob_b h2 (br_f (by decide) k) hP
    · unfold wpY_holder; exact yw_ob_b h2 (br_t rfl k) hP
  · rw [e2]
    have ca : (nI a).toNatClampNeg = a := nI_clamp (by omega)
    have ia : vp_in (nI a) 256 := vp_in_nI (by omega) (by decide)
    have hH := h.2.2.2.2.2.2.1 a
    refine ⟨ho a, fun post k => ?_, fun post k => ?_⟩
    · unfold wpX_holder; exact xw_ob_g ha hne (br_t rfl ⟨ia, by rw [ca]; exact k⟩) hP
    · unfold wpY_holder
      refine yw_ob_g ha hne (br_f (by decide) ⟨ia, br_c (fun q => ⟨ia, ?_⟩) (fun q => ⟨ia, br_c (fun q2 => ⟨ia, ?_⟩) (fun q2 => ?_)⟩)⟩) hP
      · rw [ca] at q ⊢; rw [← hH.1 q]; exact k
      · rw [ca] at q2 ⊢; rw [← (hH.2.1 q2).1]; exact k
      · rw [ca] at q q2
        have e : ho a = -1 := by
          rcases (h.2.2.1 a hne).2.1 with y | y | y | y
          · exact absurd y q
          · exact absurd y q2
          · exact (hH.2.2.1 y).1
          · exact hH.2.2.2 y
        rw [← e]; exact k
theorem xy_pageOwner (v : Int32) (h : zR P C M D ow co pl ho ex sz al se ps nc lm bc rz rm fl lv sk sc dp dc hd po cl ab) : zOutR (fun post => wpX_pageOwner post (nI P, nI C, nI M, nI D, ow, co, (zFI pl), (zFM pl), wd, pl, ho, ex, sz, al, se, ps, nc, lm, bc, rz, rm, fl, lv, sk, sc, dp, dc) v) (fun post => wpY_pageOwner post (nI P, nI C, nI M, nI D, wd, pl, hd, po, ow, cl, ex, ab) v) := by
  have hP : P ≤ 8 := h.1.2.1
  rcases pk_ix v (n := P) (by omega) with h1 | h1 | ⟨p, hp, e1⟩
  · refine ⟨-12, fun post k => ?_, fun post k => ?_⟩
    · unfold wpX_pageOwner; exact xw_pg_b (Or.inl h1) (br_f (by decide) k) hP
    · unfold wpY_pageOwner; exact br_t h1 k
  · refine ⟨-12, fun post k => ?_, fun post k => ?_⟩
    · unfold wpX_pageOwner; exact xw_pg_b (Or.inr h1) (br_f (by decide) k) hP
    · unfold wpY_pageOwner; exact br_f (zc_ng (by omega) h1) (br_f (Int32.not_lt.mpr h1) k)
  · rw [e1]
    have i1 : vp_in (nI p) 8 := vp_in_nI (by omega) (by decide)
    refine ⟨ow (nI p).toNatClampNeg, fun post k => ?_, fun post k => ?_⟩
    · unfold wpX_pageOwner; exact xw_pg_g hp (br_t rfl ⟨i1, k⟩) hP
    · unfold wpY_pageOwner; exact br_f (nI_pos (by omega)) (br_t (nI_lt hp (by omega)) ⟨i1, k⟩)
theorem xy_pageColour (v : Int32) (h : zR P C M D ow co pl ho ex sz al se ps nc lm bc rz rm fl lv sk sc dp dc hd po cl ab) : zOutR (fun post => wpX_pageColour post (nI P, nI C, nI M, nI D, ow, co, (zFI pl), (zFM pl), wd, pl, ho, ex, sz, al, se, ps, nc, lm, bc, rz, rm, fl, lv, sk, sc, dp, dc) v) (fun post => wpY_pageColour post (nI P, nI C, nI M, nI D, wd, pl, hd, po, ow, cl, ex, ab) v) := by
  have hP : P ≤ 8 := h.1.2.1
  rcases pk_ix v (n := P) (by omega) with h1 | h1 | ⟨p, hp, e1⟩
  · refine ⟨-12, fun post k => ?_, fun post k => ?_⟩
    · unfold wpX_pageColour; exact xw_pg_b (Or.inl h1) (br_f (by decide) k) hP
    · unfold wpY_pageColour; exact br_t h1 k
  · refine ⟨-12, fun post k => ?_, fun post k => ?_⟩
    · unfold wpX_pageColour; exact xw_pg_b (Or.inr h1) (br_f (by decide) k) hP
    · unfold wpY_pageColour; exact br_f (zc_ng (by omega) h1) (br_f (Int32.not_lt.mpr h1) k)
  · rw [e1]
    have c1 : (nI p).toNatClampNeg = p := nI_clamp (by omega)
    have i1 : vp_in (nI p) 8 := vp_in_nI (by omega) (by decide)
    have neg : ∀ w : Int32, ow p = w → ¬ 0 ≤ w → zOutR (fun post => wpX_pageColour post (nI P, nI C, nI M, nI D, ow, co, (zFI pl), (zFM pl), wd, pl, ho, ex, sz, al, se, ps, nc, lm, bc, rz, rm, fl, lv, sk, sc, dp, dc) (nI p)) (fun post => wpY_pageColour post (nI P, nI C, nI M, nI D, wd, pl, hd, po, ow, cl, ex, ab) (nI p)) := by
      intro w hw hn
      refine ⟨-1, fun post k => ?_, fun post k => ?_⟩
      · unfold wpX_pageColour; exact xw_pg_g hp (br_t rfl ⟨i1, br_f (by rw [c1, hw]; exact hn) k⟩) hP
      · unfold wpY_pageColour; exact br_f (nI_pos (by omega)) (br_t (nI_lt hp (by omega)) ⟨i1, br_f (by rw [c1, hw]; exact hn) k⟩)
    rcases (h.2.1 p (by omega)).2 with y | y | ⟨c, hc, y, _⟩
    · exact neg _ y (by decide)
    · exact neg _ y (by decide)
    · have e := h.2.2.2.2.2.2.2.1 p c (by omega) hc y
      refine ⟨co p, fun post k => ?_, fun post k => ?_⟩
      · unfold wpX_pageColour; exact xw_pg_g hp (br_t rfl ⟨i1, br_t (by rw [c1, y]; exact nI_pos' (by omega)) ⟨i1, by rw [c1]; exact k⟩⟩) hP
      · unfold wpY_pageColour; exact br_f (nI_pos (by omega)) (br_t (nI_lt hp (by omega)) ⟨i1, br_t (by rw [c1, y]; exact nI_pos' (by omega)) ⟨i1, by rw [c1, ← e]; exact k⟩⟩)
theorem xy_fpg_4 (hP : P ≤ 8) : ∀ d i (t : Int32), i + d = P → zOutR (fun post => wX_freePages_4 post (nI P) (nI C) (nI M) (nI D) ow co (zFI pl) (zFM pl) wd pl ho ex sz al se ps nc lm bc rz rm fl lv sk sc dp dc (d + 1) t (nI i)) (fun post => wY_freePages_4 post (nI P) (nI C) (nI M) (nI D) wd pl hd po ow cl ex ab (d + 1) t (nI i)) := by
  intro d
  induction d with
  | zero =>
    intro i t hi
    exact ⟨t, fun _ k => br_t (nI_le (by omega) (by omega)) k, fun _ k => br_t (nI_le (by omega) (by omega)) k⟩
  | succ d ih =>
    intro i t hi
    have hn : ¬ nI P ≤ nI i := nI_ge (by omega) (by omega)
    have i1 : vp_in (nI i) 8 := vp_in_nI (by omega) (by decide)
    by_cases q : ow (nI i).toNatClampNeg = -1
    · obtain ⟨r, hx, hy⟩ := ih (i + 1) (t + 1) (by omega)
      exact ⟨r, fun post k => br_f hn ⟨i1, br_t q (nm_e (nm_r (nI_1 i) (hx post k)))⟩, fun post k => br_f hn ⟨i1, br_t q (nm_e (nm_r (nI_1 i) (hy post k)))⟩⟩
    · obtain ⟨r, hx, hy⟩ := ih (i + 1) t (by omega)
      exact ⟨r, fun post k => br_f hn ⟨i1, br_f q (nm_r (nI_1 i) (hx post k))⟩, fun post k => br_f hn ⟨i1, br_f q (nm_r (nI_1 i) (hy post k))⟩⟩
theorem xy_freePages (h : zR P C M D ow co pl ho ex sz al se ps nc lm bc rz rm fl lv sk sc dp dc hd po cl ab) : zOutR (fun post => wpX_freePages post (nI P, nI C, nI M, nI D, ow, co, (zFI pl), (zFM pl), wd, pl, ho, ex, sz, al, se, ps, nc, lm, bc, rz, rm, fl, lv, sk, sc, dp, dc)) (fun post => wpY_freePages post (nI P, nI C, nI M, nI D, wd, pl, hd, po, ow, cl, ex, ab)) := by
  obtain ⟨r, hx, hy⟩ := xy_fpg_4 (P := P) (C := C) (M := M) (D := D) (ow := ow) (co := co) (wd := wd) (pl := pl) (ho := ho) (ex := ex) (sz := sz) (al := al) (se := se) (ps := ps) (nc := nc) (lm := lm) (bc := bc) (rz := rz) (rm := rm) (fl := fl) (lv := lv) (sk := sk) (sc := sc) (dp := dp) (dc := dc) (hd := hd) (po := po) (cl := cl) (ab := ab) h.1.2.1 P 0 0 (by omega)
  refine ⟨r, fun post k => ?_, fun post k => ?_⟩
  · unfold wpX_freePages; exact ⟨P + 1, hx post k⟩
  · unfold wpY_freePages; exact ⟨P + 1, hy post k⟩
theorem xy_setting (v : Int32) (h : zR P C M D ow co pl ho ex sz al se ps nc lm bc rz rm fl lv sk sc dp dc hd po cl ab) : zOutR (fun post => wpX_setting post (nI P, nI C, nI M, nI D, ow, co, (zFI pl), (zFM pl), wd, pl, ho, ex, sz, al, se, ps, nc, lm, bc, rz, rm, fl, lv, sk, sc, dp, dc) v) (fun post => wpY_setting post (nI P, nI C, nI M, nI D, wd, pl, hd, po, ow, cl, ex, ab) v) := by
  have hb := h.1
  by_cases v0 : v < 0
  · have n : ∀ w : Int32, 0 ≤ w → ¬ v = w := fun w hw e => absurd (e ▸ v0) (Int32.not_lt.mpr hw)
    refine ⟨-1, fun post k => ?_, fun post k => ?_⟩
    · unfold wpX_setting; exact br_t v0 k
    · unfold wpY_setting; exact br_f (n 0 (by decide)) (br_f (n 1 (by decide)) (br_f (n 2 (by decide)) (br_f (n 3 (by decide)) k)))
  by_cases v3 : 3 < v
  · have n : ∀ w : Int32, w ≤ 3 → ¬ v = w := fun w hw e => absurd (e ▸ v3) (Int32.not_lt.mpr hw)
    refine ⟨-1, fun post k => ?_, fun post k => ?_⟩
    · unfold wpX_setting; exact br_f v0 (br_t v3 k)
    · unfold wpY_setting; exact br_f (n 0 (by decide)) (br_f (n 1 (by decide)) (br_f (n 2 (by decide)) (br_f (n 3 (by decide)) k)))
  obtain ⟨j, hj, ej⟩ := nI_of2 (x := v) (M := 3) (n := 3) (by decide) v0 (Int32.not_lt.mp v3)
  rw [ej] at v0 v3 ⊢
  rcases (show j = 0 ∨ j = 1 ∨ j = 2 ∨ j = 3 by omega) with e | e | e | e
  · rw [e] at v0 v3 ⊢
    refine ⟨nI P, fun post k => ?_, fun post k => ?_⟩
    · unfold wpX_setting; exact br_f v0 (br_f v3 (br_t rfl k))
    · unfold wpY_setting; exact br_t rfl k
  · rw [e] at v0 v3 ⊢
    refine ⟨nI C, fun post k => ?_, fun post k => ?_⟩
    · unfold wpX_setting; exact br_f v0 (br_f v3 (br_f (by decide) (br_t rfl k)))
    · unfold wpY_setting; exact br_f (by decide) (br_t rfl k)
  · rw [e] at v0 v3 ⊢
    refine ⟨nI M, fun post k => ?_, fun post k => ?_⟩
    · unfold wpX_setting; exact br_f v0 (br_f v3 (br_f (by decide) (br_f (by decide) (br_t rfl k))))
    · unfold wpY_setting; exact br_f (by decide) (br_f (by decide) (br_t rfl k))
  · rw [e] at v0 v3 ⊢
    refine ⟨nI D, fun post k => ?_, fun post k => ?_⟩
    · unfold wpX_setting; exact br_f v0 (br_f v3 (br_f (by decide) (br_f (by decide) (br_f (by decide) (br_t rfl k)))))
    · unfold wpY_setting; exact br_f (by decide) (br_f (by decide) (br_f (by decide) (br_t rfl k)))
end
end
section
/-! count, slabs, the items, info on both sides -/
section
variable {P C M D : Nat} {ow co wd pl ho ex sz al se ps nc lm bc rz rm fl lv sk sc dp dc hd po cl ab : Nat → Int32}
variable {a c j u n : Nat}
theorem xw_cst_4 {post : Int32 → Prop} (h : zR P C M D ow co pl ho ex sz al se ps nc lm bc rz rm fl lv sk sc dp dc hd po cl ab) (hc : c < 4) (k : post (nI (zcn (fun a => pl a = 2 ∧ ow (a / 32) = nI c) 256))) :
    ∀ d i, i + d = C → wX_countInStocks_4 post (nI c) (nI P) (nI C) (nI M) (nI D) ow co (zFI pl) (zFM pl) wd pl ho ex sz al se ps nc lm bc rz rm fl lv sk sc dp dc (d + 1) (nI (zcn (fun a => (pl a = 2 ∧ ow (a / 32) = nI c) ∧ ∃ u, u < i ∧ hd a = nI u) 256)) (nI i) := by
  have hC : C ≤ 4 := h.1.2.2.2.1
  have hM : M ≤ 4 := h.1.2.2.2.2.2.1
  intro d
  induction d with
  | zero =>
    intro i hi
    have e : i = C := by omega
    refine br_t (nI_le (by omega) (by omega)) ?_
    rw [zcn_eq (Q' := fun a => pl a = 2 ∧ ow (a / 32) = nI c) (fun a _ => ⟨fun q => q.1, fun q => ⟨q, by
      obtain ⟨_, u, hu, eu⟩ := (h.2.2.2.2.2.2.1 a).2.1 q.1
      exact ⟨u, by omega, eu⟩⟩⟩)]
    exact k
  | succ d ih =>
    intro i hi
    obtain ⟨n, s1, s2, s3⟩ := h.2.2.2.2.2.2.2.2.1 i c (by omega) hc
    have a1 : nI i * 4 + nI c = nI (i * 4 + c) := by rw [zi_4, nI_add]
    have c1 : (nI i * 4 + nI c).toNatClampNeg = i * 4 + c := by rw [a1]; exact nI_clamp (by omega)
    have r := ih (i + 1) (by omega)
    have cnt : zcn (fun a => (pl a = 2 ∧ ow (a / 32) = nI c) ∧ ∃ u, u < i + 1 ∧ hd a = nI u) 256 = zcn (fun a => (pl a = 2 ∧ ow (a / 32) = nI c) ∧ ∃ u, u < i ∧ hd a = nI u) 256 + n := by
      rw [← zLF_cn s3 (by omega)]
      refine zcn_or (fun a _ => ⟨fun q => ?_, fun q => ?_⟩) (fun a _ x y => ?_)
      · obtain ⟨q1, u, hu, eu⟩ := q
        by_cases z : u = i
        · exact Or.inr ⟨q1.1, q1.2, by rw [eu, z]⟩
        · exact Or.inl ⟨q1, u, by omega, eu⟩
      · rcases q with ⟨q1, u, hu, eu⟩ | q
        · exact ⟨q1, u, by omega, eu⟩
        · exact ⟨⟨q.1, q.2.1⟩, i, by omega, q.2.2⟩
      · obtain ⟨_, u, hu, eu⟩ := x
        have := zi_inj (by omega) (by omega) (eu.symm.trans y.2.2)
        omega
    rw [cnt, ← nI_add] at r
    exact br_f (nI_ge (by omega) (by omega)) ⟨by rw [a1]; exact vp_in_nI (by omega) (by decide), nm_r (by rw [c1, s1]) (nm_r (nI_1 i) r)⟩
theorem xw_csl_4 {post : Int32 → Prop} (hP : P ≤ 8) (hc : c < 4) (k : post (nI (zcn (zTy ow pl hd (nI c) 4 (-1)) (32 * P)))) :
    ∀ d i, i + d = P → wX_countInSlabs_4 post (nI c) (nI P) (nI C) (nI M) (nI D) ow co (zFI pl) (zFM pl) wd pl ho ex sz al se ps nc lm bc rz rm fl lv sk sc dp dc (d + 1) (nI (zcn (zTy ow pl hd (nI c) 4 (-1)) (32 * i))) (nI i) := by
  intro d
  induction d with
  | zero =>
    intro i hi
    have e : i = P := by omega
    rw [e]
    exact br_t (nI_le (by omega) (by omega)) k
  | succ d ih =>
    intro i hi
    have c1 : (nI i).toNatClampNeg = i := nI_clamp (by omega)
    have i1 : vp_in (nI i) 8 := vp_in_nI (by omega) (by decide)
    have r := ih (i + 1) (by omega)
    have ap := zcn_app (Q := zTy ow pl hd (nI c) 4 (-1)) (32 * i) 32
    rw [show 32 * (i + 1) = 32 * i + 32 by omega, ap] at r
    refine br_f (nI_ge (by omega) (by omega)) ⟨i1, br_c (fun q => ⟨i1, ?_⟩) (fun q => ?_)⟩
    · rw [c1] at q
      have e : zcn (fun w => zTy ow pl hd (nI c) 4 (-1) (32 * i + w)) 32 = zcn (fun w => pl (32 * i + w) = 4) 32 := zcn_eq (fun w hw => by
        unfold zTy
        rw [show (32 * i + w) / 32 = i by omega]
        exact ⟨fun z => z.1, fun z => ⟨z, q, Or.inl rfl⟩⟩)
      rw [e, ← nI_add] at r
      exact nm_r (by rw [c1]; rfl) (nm_r (nI_1 i) r)
    · rw [c1] at q
      have e : zcn (fun w => zTy ow pl hd (nI c) 4 (-1) (32 * i + w)) 32 = 0 := zcn_z (fun w hw z => q (by
        have := z.2.1
        rw [show (32 * i + w) / 32 = i by omega] at this
        exact this))
      rw [e, Nat.add_zero] at r
      exact nm_r (nI_1 i) r
theorem xy_count (v1 v2 : Int32) (h : zR P C M D ow co pl ho ex sz al se ps nc lm bc rz rm fl lv sk sc dp dc hd po cl ab) : zOutR (fun post => wpX_count post (nI P, nI C, nI M, nI D, ow, co, (zFI pl), (zFM pl), wd, pl, ho, ex, sz, al, se, ps, nc, lm, bc, rz, rm, fl, lv, sk, sc, dp, dc) v1 v2) (fun post => wpY_count post (nI P, nI C, nI M, nI D, wd, pl, hd, po, ow, cl, ex, ab) v1 v2) := by
  have hP : P ≤ 8 := h.1.2.1
  have hM : M ≤ 4 := h.1.2.2.2.2.2.1
  have hD : D ≤ 4 := h.1.2.2.2.2.2.2
  rcases zc_ca ex v1 with h2 | ⟨c, hc, e2, hex⟩
  · refine ⟨-3, fun post k => ?_, fun post k => ?_⟩
    · unfold wpX_count; exact xw_ca_b h2 (br_f (by decide) k)
    · unfold wpY_count; exact yw_ca_b h2 (br_t rfl k)
  · rw [e2]
    have cc : (nI c).toNatClampNeg = c := nI_clamp (by omega)
    have ic : vp_in (nI c) 4 := vp_in_nI hc (by decide)
    by_cases v0 : v2 < 1
    · have n : ∀ w : Int32, 1 ≤ w → ¬ v2 = w := fun w hw e => absurd (e ▸ v0) (Int32.not_lt.mpr hw)
      refine ⟨-15, fun post k => ?_, fun post k => ?_⟩
      · unfold wpX_count; exact xw_ca_g hc hex (br_t rfl (br_f (n 1 (by decide)) (br_f (n 2 (by decide)) (br_f (n 3 (by decide)) (br_f (n 4 (by decide)) k)))))
      · unfold wpY_count; exact yw_ca_g hc hex (br_f (by decide) (br_t v0 k))
    by_cases v4 : v2 ≤ 4
    rotate_left
    · have n : ∀ w : Int32, w ≤ 4 → ¬ v2 = w := fun w hw e => v4 (e ▸ hw)
      refine ⟨-15, fun post k => ?_, fun post k => ?_⟩
      · unfold wpX_count; exact xw_ca_g hc hex (br_t rfl (br_f (n 1 (by decide)) (br_f (n 2 (by decide)) (br_f (n 3 (by decide)) (br_f (n 4 (by decide)) k)))))
      · unfold wpY_count; exact yw_ca_g hc hex (br_f (by decide) (br_f v0 (br_f v4 k)))
    obtain ⟨j, hj, ej⟩ := nI_of2 (x := v2) (M := 4) (n := 4) (by decide) (fun z => v0 (Int32.lt_of_lt_of_le z (by decide))) v4
    rw [ej] at v0 v4 ⊢
    have j1 : 1 ≤ j := by
      rcases Nat.lt_or_ge j 1 with z | z
      · exact absurd (nI_lt (b := 1) z (by decide)) v0
      · exact z
    refine ⟨nI (zcn (zTy ow pl hd (nI c) (nI j) (-1)) (32 * P)), fun post k => ?_, fun post k => ?_⟩
    · unfold wpX_count
      refine xw_ca_g hc hex (br_t rfl ?_)
      rcases (show j = 1 ∨ j = 2 ∨ j = 3 ∨ j = 4 by omega) with e | e | e | e
      · rw [e] at k ⊢
        refine br_t rfl ⟨ic, ?_⟩
        rw [cc, zt_lv h hc]; exact k
      · rw [e] at k ⊢
        refine br_f (by decide) (br_t rfl ?_)
        unfold wpX_countInStocks
        have y := xw_cst_4 (wd := wd) (post := post) h hc (by
          rw [zcn_cut (m := 32 * P) (n := 256) (by omega) (fun a q => (h.2.2.1 a (by rw [q.1]; decide)).1)]
          rw [zcn_eq (Q := fun a => pl a = 2 ∧ ow (a / 32) = nI c) (Q' := zTy ow pl hd (nI c) (nI 2) (-1)) (fun a _ => ⟨fun q => ⟨q.1, q.2, Or.inl rfl⟩, fun q => ⟨q.1, q.2.1⟩⟩)]
          exact k) C 0 (by omega)
        rw [zcn_z (fun a _ q => by obtain ⟨_, u, hu, _⟩ := q; omega)] at y
        exact ⟨C + 1, y⟩
      · rw [e] at k ⊢
        obtain ⟨nd, m, d1, d2, d3, d4, d5⟩ := h.2.2.2.2.2.2.2.2.2.1 c hc
        have t := zt_dp h hc d1 (by omega)
        refine br_f (by decide) (br_f (by decide) (br_t rfl ⟨ic, ?_⟩))
        rw [cc, d1, pk_mul, ← t]; exact k
      · rw [e] at k ⊢
        refine br_f (by decide) (br_f (by decide) (br_f (by decide) (br_t rfl ?_)))
        unfold wpX_countInSlabs
        exact ⟨P + 1, xw_csl_4 (post := post) (hd := hd) hP hc k P 0 (by omega)⟩
    · unfold wpY_count
      exact yw_ca_g hc hex (br_f (by decide) (br_f v0 (br_t v4 (yw_tly hP k))))
theorem xy_sl_34 (h : zR P C M D ow co pl ho ex sz al se ps nc lm bc rz rm fl lv sk sc dp dc hd po cl ab) (hc : c < 4) {kd : Int32} : ∀ d i (t : Int32), i + d = P → zOutR (fun post => wX_slabs_34 post (nI c) kd (nI P) (nI C) (nI M) (nI D) ow co (zFI pl) (zFM pl) wd pl ho ex sz al se ps nc lm bc rz rm fl lv sk sc dp dc (d + 1) t (nI i)) (fun post => wY_slabs_29 post (nI c) kd (nI P) (nI C) (nI M) (nI D) wd pl hd po ow cl ex ab (d + 1) t (nI i)) := by
  have hP : P ≤ 8 := h.1.2.1
  intro d
  induction d with
  | zero =>
    intro i t hi
    exact ⟨t, fun _ k => br_t (nI_le (by omega) (by omega)) k, fun _ k => br_t (nI_le (by omega) (by omega)) k⟩
  | succ d ih =>
    intro i t hi
    have hn : ¬ nI P ≤ nI i := nI_ge (by omega) (by omega)
    have c1 : (nI i).toNatClampNeg = i := nI_clamp (by omega)
    have i1 : vp_in (nI i) 8 := vp_in_nI (by omega) (by decide)
    have cc : (nI c).toNatClampNeg = c := nI_clamp (by omega)
    have ic : vp_in (nI c) 4 := vp_in_nI hc (by decide)
    by_cases q : ow i = nI c
    · have q' : ow (nI i).toNatClampNeg = nI c := by rw [c1]; exact q
      have hps := (h.2.2.2.2.1 c hc).1
      rw [← h.2.2.2.1 i c (by omega) hc q] at hps
      have b1 := zcn_le (fun w => pl (32 * i + w) = 4) 32
      have b2 := zcn_le (fun w => ¬ pl (32 * i + w) = 0) 32
      have hfi : zFI pl (nI i).toNatClampNeg = nI (zcn (fun w => pl (32 * i + w) = 4) 32) := by rw [c1]; rfl
      have hpc : ps (nI c).toNatClampNeg = nI (zcn (fun w => ¬ pl (32 * i + w) = 0) 32) := by rw [cc]; exact hps
      have key : ∀ r : Int32, (∀ post : Int32 → Prop, post r → wpX_slabKind post (nI P, nI C, nI M, nI D, ow, co, (zFI pl), (zFM pl), wd, pl, ho, ex, sz, al, se, ps, nc, lm, bc, rz, rm, fl, lv, sk, sc, dp, dc) (nI i) (nI c)) → (∀ post : Int32 → Prop, post r → wpY_slabKind post (nI P, nI C, nI M, nI D, wd, pl, hd, po, ow, cl, ex, ab) (nI i)) → zOutR (fun post => wX_slabs_34 post (nI c) kd (nI P) (nI C) (nI M) (nI D) ow co (zFI pl) (zFM pl) wd pl ho ex sz al se ps nc lm bc rz rm fl lv sk sc dp dc (d + 1 + 1) t (nI i)) (fun post => wY_slabs_29 post (nI c) kd (nI P) (nI C) (nI M) (nI D) wd pl hd po ow cl ex ab (d + 1 + 1) t (nI i)) := by
        intro r kx ky
        by_cases z : r = kd
        · obtain ⟨r', hx, hy⟩ := ih (i + 1) (t + 1) (by omega)
          exact ⟨r', fun post k => br_f hn ⟨i1, br_t q' (kx _ (br_t z (nm_e (nm_r (nI_1 i) (hx post k)))))⟩, fun post k => br_f hn ⟨i1, br_t q' (ky _ (br_t z (nm_e (nm_r (nI_1 i) (hy post k)))))⟩⟩
        · obtain ⟨r', hx, hy⟩ := ih (i + 1) t (by omega)
          exact ⟨r', fun post k => br_f hn ⟨i1, br_t q' (kx _ (br_f z (nm_r (nI_1 i) (hx post k))))⟩, fun post k => br_f hn ⟨i1, br_t q' (ky _ (br_f z (nm_r (nI_1 i) (hy post k))))⟩⟩
      by_cases z1 : zcn (fun w => pl (32 * i + w) = 4) 32 = zcn (fun w => ¬ pl (32 * i + w) = 0) 32
      · refine key 1 (fun post k => ?_) (fun post k => yw_knd (by omega) (fun _ => k) (fun y => absurd z1 y) (fun y => absurd z1 y))
        unfold wpX_slabKind
        exact ⟨i1, ic, br_t (by rw [hfi, hpc, z1]) k⟩
      · have z1' : ¬ zFI pl (nI i).toNatClampNeg = ps (nI c).toNatClampNeg := by rw [hfi, hpc, nI_eq (by omega) (by omega)]; exact z1
        by_cases z0 : zcn (fun w => pl (32 * i + w) = 4) 32 = 0
        · refine key 3 (fun post k => ?_) (fun post k => yw_knd (by omega) (fun y => absurd y z1) (fun _ _ => k) (fun _ y => absurd z0 y))
          unfold wpX_slabKind
          exact ⟨i1, ic, br_f z1' ⟨i1, br_t (by rw [hfi, z0]; rfl) k⟩⟩
        · refine key 2 (fun post k => ?_) (fun post k => yw_knd (by omega) (fun y => absurd y z1) (fun _ y => absurd y z0) (fun _ _ => k))
          unfold wpX_slabKind
          exact ⟨i1, ic, br_f z1' ⟨i1, br_f (by rw [hfi]; exact nI_ne0 (by omega) (by omega)) k⟩⟩
    · have q' : ¬ ow (nI i).toNatClampNeg = nI c := by rw [c1]; exact q
      obtain ⟨r', hx, hy⟩ := ih (i + 1) t (by omega)
      exact ⟨r', fun post k => br_f hn ⟨i1, br_f q' (nm_r (nI_1 i) (hx post k))⟩, fun post k => br_f hn ⟨i1, br_f q' (nm_r (nI_1 i) (hy post k))⟩⟩
theorem xy_slabs (v1 v2 : Int32) (h : zR P C M D ow co pl ho ex sz al se ps nc lm bc rz rm fl lv sk sc dp dc hd po cl ab) : zOutR (fun post => wpX_slabs post (nI P, nI C, nI M, nI D, ow, co, (zFI pl), (zFM pl), wd, pl, ho, ex, sz, al, se, ps, nc, lm, bc, rz, rm, fl, lv, sk, sc, dp, dc) v1 v2) (fun post => wpY_slabs post (nI P, nI C, nI M, nI D, wd, pl, hd, po, ow, cl, ex, ab) v1 v2) := by
  rcases zc_ca ex v1 with h2 | ⟨c, hc, e2, hex⟩
  · refine ⟨-3, fun post k => ?_, fun post k => ?_⟩
    · unfold wpX_slabs; exact xw_ca_b h2 (br_f (by decide) k)
    · unfold wpY_slabs; exact yw_ca_b h2 (br_t rfl k)
  · rw [e2]
    by_cases v0 : v2 < 1
    · have n : ∀ w : Int32, 1 ≤ w → ¬ v2 = w := fun w hw e => absurd (e ▸ v0) (Int32.not_lt.mpr hw)
      refine ⟨-15, fun post k => ?_, fun post k => ?_⟩
      · unfold wpX_slabs; exact xw_ca_g hc hex (br_t rfl (br_f (n 1 (by decide)) (br_f (n 2 (by decide)) (br_f (n 3 (by decide)) k))))
      · unfold wpY_slabs; exact yw_ca_g hc hex (br_f (by decide) (br_t v0 k))
    by_cases v3 : v2 ≤ 3
    rotate_left
    · have n : ∀ w : Int32, w ≤ 3 → ¬ v2 = w := fun w hw e => v3 (e ▸ hw)
      refine ⟨-15, fun post k => ?_, fun post k => ?_⟩
      · unfold wpX_slabs; exact xw_ca_g hc hex (br_t rfl (br_f (n 1 (by decide)) (br_f (n 2 (by decide)) (br_f (n 3 (by decide)) k))))
      · unfold wpY_slabs; exact yw_ca_g hc hex (br_f (by decide) (br_f v0 (br_f v3 k)))
    obtain ⟨r, hx, hy⟩ := xy_sl_34 (wd := wd) h hc (kd := v2) P 0 0 (by omega)
    obtain ⟨j, hj, ej⟩ := nI_of2 (x := v2) (M := 3) (n := 3) (by decide) (fun z => v0 (Int32.lt_of_lt_of_le z (by decide))) v3
    rw [ej] at v0 v3 hx hy ⊢
    have j1 : 1 ≤ j := by
      rcases Nat.lt_or_ge j 1 with z | z
      · exact absurd (nI_lt (b := 1) z (by decide)) v0
      · exact z
    refine ⟨r, fun post k => ?_, fun post k => ?_⟩
    · unfold wpX_slabs
      refine xw_ca_g hc hex (br_t rfl (br_c (fun _ => ⟨P + 1, hx post k⟩) (fun n1 => br_c (fun _ => ⟨P + 1, hx post k⟩) (fun n2 => br_t ?_ ⟨P + 1, hx post k⟩))))
      rcases (show j = 1 ∨ j = 2 ∨ j = 3 by omega) with e | e | e
      · rw [e] at n1; exact absurd rfl n1
      · rw [e] at n2; exact absurd rfl n2
      · rw [e]; rfl
    · unfold wpY_slabs
      exact yw_ca_g hc hex (br_f (by decide) (br_f v0 (br_t v3 ⟨P + 1, hy post k⟩)))
theorem xy_stockItem (v1 v2 v3 : Int32) (h : zR P C M D ow co pl ho ex sz al se ps nc lm bc rz rm fl lv sk sc dp dc hd po cl ab) : zOutR (fun post => wpX_stockItem post (nI P, nI C, nI M, nI D, ow, co, (zFI pl), (zFM pl), wd, pl, ho, ex, sz, al, se, ps, nc, lm, bc, rz, rm, fl, lv, sk, sc, dp, dc) v1 v2 v3) (fun post => wpY_stockItem post (nI P, nI C, nI M, nI D, wd, pl, hd, po, ow, cl, ex, ab) v1 v2 v3) := by
  have hP : P ≤ 8 := h.1.2.1
  have hC : C ≤ 4 := h.1.2.2.2.1
  have hM : M ≤ 4 := h.1.2.2.2.2.2.1
  rcases pk_ix v1 (n := C) (by omega) with h1 | h1 | ⟨u, hu, e1⟩
  · refine ⟨-2, fun post k => ?_, fun post k => ?_⟩
    · unfold wpX_stockItem; exact xw_cpu_b (Or.inl h1) (br_f (by decide) k) hC
    · unfold wpY_stockItem; exact br_t h1 k
  · refine ⟨-2, fun post k => ?_, fun post k => ?_⟩
    · unfold wpX_stockItem; exact xw_cpu_b (Or.inr h1) (br_f (by decide) k) hC
    · unfold wpY_stockItem; exact br_f (zc_ng (by omega) h1) (br_f (Int32.not_lt.mpr h1) k)
  · rw [e1]
    have ng : ¬ nI u < 0 := nI_pos (by omega)
    have lt : nI u < nI C := nI_lt hu (by omega)
    rcases zc_ca ex v2 with h2 | ⟨c, hc, e2, hex⟩
    · refine ⟨-3, fun post k => ?_, fun post k => ?_⟩
      · unfold wpX_stockItem; exact xw_cpu_g hu (br_t rfl (xw_ca_b h2 (br_f (by decide) k))) hC
      · unfold wpY_stockItem; exact br_f ng (br_t lt (yw_ca_b h2 (br_t rfl k)))
    · rw [e2]
      obtain ⟨n, s1, s2, s3⟩ := h.2.2.2.2.2.2.2.2.1 u c (by omega) hc
      have t1 := zt_sk h (by omega) hc s1 (by omega)
      have a1 : nI u * 4 + nI c = nI (u * 4 + c) := by rw [zi_4, nI_add]
      have c1 : (nI (u * 4 + c)).toNatClampNeg = u * 4 + c := nI_clamp (by omega)
      have i1 : vp_in (nI (u * 4 + c)) 16 := vp_in_nI (by omega) (by decide)
      by_cases k0 : v3 < 0
      · refine ⟨-1, fun post k => ?_, fun post k => ?_⟩
        · unfold wpX_stockItem; exact xw_cpu_g hu (br_t rfl (xw_ca_g hc hex (br_t rfl (nm_r a1 (br_t k0 k))))) hC
        · unfold wpY_stockItem; exact br_f ng (br_t lt (yw_ca_g hc hex (br_f (by decide) (yw_tly hP (br_t k0 k)))))
      obtain ⟨j, hj, ej⟩ := nI_of k0
      rw [ej] at k0 ⊢
      by_cases z : j < n
      · obtain ⟨x, x1, x2, x3, x4⟩ := s3.1 (n - 1 - j) (by omega)
        have hx32 : x < 32 * P := (h.2.2.1 x (by rw [x3.1]; decide)).1
        have a2 : nI (u * 4 + c) * 8 + sc (nI (u * 4 + c)).toNatClampNeg - 1 - nI j = nI ((u * 4 + c) * 8 + (n - 1 - j)) := by
          rw [c1, s1, zi_8, nI_add, show (1 : Int32) = nI 1 from rfl, pk_sub (by omega), pk_sub (by omega)]
          exact congrArg nI (by omega)
        have t3 : nI n - 1 - nI j = nI (n - 1 - j) := by
          rw [show (1 : Int32) = nI 1 from rfl, pk_sub (by omega), pk_sub (by omega)]
        refine ⟨nI x, fun post k => ?_, fun post k => ?_⟩
        · unfold wpX_stockItem
          refine xw_cpu_g hu (br_t rfl (xw_ca_g hc hex (br_t rfl (nm_r a1 (br_f k0 ⟨i1, br_t (by rw [c1, s1]; exact nI_lt z (by omega)) ⟨i1, ?_, ?_⟩⟩))))) hC
          · rw [a2]; exact vp_in_nI (by omega) (by decide)
          · rw [a2, nI_clamp (by omega), x2]; exact k
        · unfold wpY_stockItem
          refine br_f ng (br_t lt (yw_ca_g hc hex (br_f (by decide) (yw_tly hP ?_))))
          rw [t1]
          refine br_f k0 (br_t (nI_lt z (by omega)) (yw_fnd (x := x) hP hx32 x3.1 x3.2.1 x3.2.2 (by rw [t3]; exact x4) (fun b hb q1 q2 q3 q4 => ?_) k))
          rw [t3] at q4
          have y := zLF_p s3 (by omega) ⟨q1, q2, q3⟩ (by omega) q4
          exact zi_inj (by omega) (by omega) (y.2.symm.trans x2)
      · refine ⟨-1, fun post k => ?_, fun post k => ?_⟩
        · unfold wpX_stockItem
          exact xw_cpu_g hu (br_t rfl (xw_ca_g hc hex (br_t rfl (nm_r a1 (br_f k0 ⟨i1, br_f (by rw [c1, s1]; exact nI_nlt (by omega) hj) k⟩))))) hC
        · unfold wpY_stockItem
          refine br_f ng (br_t lt (yw_ca_g hc hex (br_f (by decide) (yw_tly hP ?_))))
          rw [t1]
          exact br_f k0 (br_f (nI_nlt (by omega) hj) k)
theorem xy_depotItem (v1 v2 : Int32) (h : zR P C M D ow co pl ho ex sz al se ps nc lm bc rz rm fl lv sk sc dp dc hd po cl ab) : zOutR (fun post => wpX_depotItem post (nI P, nI C, nI M, nI D, ow, co, (zFI pl), (zFM pl), wd, pl, ho, ex, sz, al, se, ps, nc, lm, bc, rz, rm, fl, lv, sk, sc, dp, dc) v1 v2) (fun post => wpY_depotItem post (nI P, nI C, nI M, nI D, wd, pl, hd, po, ow, cl, ex, ab) v1 v2) := by
  have hP : P ≤ 8 := h.1.2.1
  have hM : M ≤ 4 := h.1.2.2.2.2.2.1
  have hD : D ≤ 4 := h.1.2.2.2.2.2.2
  rcases zc_ca ex v1 with h2 | ⟨c, hc, e2, hex⟩
  · refine ⟨-3, fun post k => ?_, fun post k => ?_⟩
    · unfold wpX_depotItem; exact xw_ca_b h2 (br_f (by decide) k)
    · unfold wpY_depotItem; exact yw_ca_b h2 (br_t rfl k)
  · rw [e2]
    obtain ⟨nd, m, d1, d2, d3, d4, d5⟩ := h.2.2.2.2.2.2.2.2.2.1 c hc
    have t1 := zt_dp h hc d1 (by omega)
    have nM : nd * M ≤ 16 := zm_le (by omega) hM
    have cc : (nI c).toNatClampNeg = c := nI_clamp (by omega)
    have ic : vp_in (nI c) 4 := vp_in_nI hc (by decide)
    have e3 : dc (nI c).toNatClampNeg * nI M = nI (nd * M) := by rw [cc, d1, pk_mul]
    by_cases k0 : v2 < 0
    · refine ⟨-1, fun post k => ?_, fun post k => ?_⟩
      · unfold wpX_depotItem; exact xw_ca_g hc hex (br_t rfl ⟨ic, nm_r e3 (br_t k0 k)⟩)
      · unfold wpY_depotItem; exact yw_ca_g hc hex (br_f (by decide) (yw_tly hP (br_t k0 k)))
    obtain ⟨j, hj, ej⟩ := nI_of k0
    rw [ej] at k0 ⊢
    by_cases z : j < nd * M
    · obtain ⟨x, x1, x2, x3, x4⟩ := d5.1 (nd * M - 1 - j) (by omega)
      have hx32 : x < 32 * P := (h.2.2.1 x (by rw [x3.1]; decide)).1
      have a2 : nI c * 16 + nI (nd * M) - 1 - nI j = nI (c * 16 + (nd * M - 1 - j)) := by
        rw [zi_16, nI_add, show (1 : Int32) = nI 1 from rfl, pk_sub (by omega), pk_sub (by omega)]
        exact congrArg nI (by omega)
      have t3 : nI (nd * M) - 1 - nI j = nI (nd * M - 1 - j) := by
        rw [show (1 : Int32) = nI 1 from rfl, pk_sub (by omega), pk_sub (by omega)]
      refine ⟨nI x, fun post k => ?_, fun post k => ?_⟩
      · unfold wpX_depotItem
        refine xw_ca_g hc hex (br_t rfl ⟨ic, nm_r e3 (br_f k0 (br_t (nI_lt z (by omega)) ⟨?_, ?_⟩))⟩)
        · rw [a2]; exact vp_in_nI (by omega) (by decide)
        · rw [a2, nI_clamp (by omega), x2]; exact k
      · unfold wpY_depotItem
        refine yw_ca_g hc hex (br_f (by decide) (yw_tly hP ?_))
        rw [t1]
        refine br_f k0 (br_t (nI_lt z (by omega)) (yw_fnd (x := x) hP hx32 x3.1 x3.2 ((h.2.2.2.2.2.2.1 x).2.2.1 x3.1).2 (by rw [t3]; exact x4) (fun b hb q1 q2 q3 q4 => ?_) k))
        rw [t3] at q4
        have y := zLF_p d5 (by omega) ⟨q1, q2⟩ (by omega) q4
        exact zi_inj (by omega) (by omega) (y.2.symm.trans x2)
    · refine ⟨-1, fun post k => ?_, fun post k => ?_⟩
      · unfold wpX_depotItem
        exact xw_ca_g hc hex (br_t rfl ⟨ic, nm_r e3 (br_f k0 (br_f (nI_nlt (by omega) hj) k))⟩)
      · unfold wpY_depotItem
        refine yw_ca_g hc hex (br_f (by decide) (yw_tly hP ?_))
        rw [t1]
        exact br_f k0 (br_f (nI_nlt (by omega) hj) k)
theorem xy_info (v1 v2 : Int32) (h : zR P C M D ow co pl ho ex sz al se ps nc lm bc rz rm fl lv sk sc dp dc hd po cl ab) : zOutR (fun post => wpX_info post (nI P, nI C, nI M, nI D, ow, co, (zFI pl), (zFM pl), wd, pl, ho, ex, sz, al, se, ps, nc, lm, bc, rz, rm, fl, lv, sk, sc, dp, dc) v1 v2) (fun post => wpY_info post (nI P, nI C, nI M, nI D, wd, pl, hd, po, ow, cl, ex, ab) v1 v2) := by
  rcases zc_ca ex v1 with h2 | ⟨c, hc, e2, hex⟩
  · refine ⟨4294967296, fun post k => ?_, fun post k => ?_⟩
    · unfold wpX_info; exact xw_ca_b h2 (br_f (by decide) k)
    · unfold wpY_info; exact yw_ca_b h2 (br_t rfl k)
  · rw [e2]
    have cc : (nI c).toNatClampNeg = c := nI_clamp (by omega)
    have ic : vp_in (nI c) 4 := vp_in_nI hc (by decide)
    by_cases v0 : v2 < 0
    · refine ⟨4294967296, fun post k => ?_, fun post k => ?_⟩
      · unfold wpX_info; exact xw_ca_g hc hex (br_t rfl (br_t v0 k))
      · unfold wpY_info; exact yw_ca_g hc hex (br_f (by decide) (br_t v0 k))
    by_cases v8 : 8 < v2
    · refine ⟨4294967296, fun post k => ?_, fun post k => ?_⟩
      · unfold wpX_info; exact xw_ca_g hc hex (br_t rfl (br_f v0 (br_t v8 k)))
      · unfold wpY_info; exact yw_ca_g hc hex (br_f (by decide) (br_f v0 (br_f (Int32.not_le.mpr v8) k)))
    have l8 : v2 ≤ 8 := Int32.not_lt.mp v8
    obtain ⟨j, hj, ej⟩ := nI_of2 (x := v2) (M := 8) (n := 8) (by decide) v0 l8
    rw [ej] at v0 v8 l8 ⊢
    have a9 : nI c * 9 + nI j = nI (c * 9 + j) := by rw [zi_9, nI_add]
    have c9 : (nI c * 9 + nI j).toNatClampNeg = c * 9 + j := by rw [a9]; exact nI_clamp (by omega)
    have i9 : vp_in (nI c * 9 + nI j) 36 := by rw [a9]; exact vp_in_nI (by omega) (by decide)
    obtain ⟨t0, t1, t2, t3, t4, t5, t6, t7, t8⟩ := h.2.2.2.2.2.1 c hc
    have t4 := t4 hex
    refine ⟨(ab (c * 9 + j)).toInt64, fun post k => ?_, fun post k => ?_⟩
    · unfold wpX_info
      refine xw_ca_g hc hex (br_t rfl (br_f v0 (br_f v8 ?_)))
      rcases (show j = 0 ∨ j = 1 ∨ j = 2 ∨ j = 3 ∨ j = 4 ∨ j = 5 ∨ j = 6 ∨ j = 7 ∨ j = 8 by omega) with e | e | e | e | e | e | e | e | e
      · rw [e, Nat.add_zero, t0] at k
        rw [e]
        refine br_t rfl ⟨ic, ?_⟩
        rw [cc]; exact k
      · rw [e, t1] at k
        rw [e]
        refine br_f (by decide) (br_t rfl ⟨ic, ?_⟩)
        rw [cc]; exact k
      · rw [e, t2] at k
        rw [e]
        refine br_f (by decide) (br_f (by decide) (br_t rfl ⟨ic, ?_⟩))
        rw [cc]; exact k
      · rw [e, t3] at k
        rw [e]
        refine br_f (by decide) (br_f (by decide) (br_f (by decide) (br_t rfl ⟨ic, ?_⟩)))
        rw [cc]; exact k
      · rw [e, t4] at k
        rw [e]
        refine br_f (by decide) (br_f (by decide) (br_f (by decide) (br_f (by decide) (br_t rfl ⟨ic, ?_⟩))))
        rw [cc]; exact k
      · rw [e, t5] at k
        rw [e]
        refine br_f (by decide) (br_f (by decide) (br_f (by decide) (br_f (by decide) (br_f (by decide) (br_t rfl ⟨ic, ?_⟩)))))
        rw [cc]; exact k
      · rw [e, t6] at k
        rw [e]
        refine br_f (by decide) (br_f (by decide) (br_f (by decide) (br_f (by decide) (br_f (by decide) (br_f (by decide) (br_t rfl ⟨ic, ?_⟩))))))
        rw [cc]; exact k
      · rw [e, t7] at k
        rw [e]
        refine br_f (by decide) (br_f (by decide) (br_f (by decide) (br_f (by decide) (br_f (by decide) (br_f (by decide) (br_f (by decide) (br_t rfl ⟨ic, ?_⟩)))))))
        rw [cc]; exact k
      · rw [e, t8] at k
        rw [e]
        refine br_f (by decide) (br_f (by decide) (br_f (by decide) (br_f (by decide) (br_f (by decide) (br_f (by decide) (br_f (by decide) (br_f (by decide) (br_t rfl ⟨ic, ?_⟩))))))))
        rw [cc]; exact k
    · unfold wpY_info
      exact yw_ca_g hc hex (br_f (by decide) (br_f v0 (br_t l8 ⟨i9, by rw [c9]; exact k⟩)))
end
end
section
/-! the constructors -/
theorem zFI_00 : zFI (fun _ => 0) = fun _ => 0 := by
  funext p
  show nI _ = 0
  rw [zcn_z (fun w _ z => absurd (show (0 : Int32) = 4 from z) (by decide))]; rfl
theorem zFM_00 : zFM (fun _ => 0) = fun _ => 0 := by
  funext p
  refine b_ext (fun i hi => ?_)
  rw [zFM_bt hi, b_0, decide_eq_false (fun z => absurd (show (0 : Int32) = 4 from z) (by decide))]
def zCl (v : Int32) (lo hi n : Nat) : Prop := lo ≤ n ∧ n ≤ hi ∧ ((¬ nI lo ≤ v ∧ n = lo) ∨ (nI lo ≤ v ∧ v ≤ nI hi ∧ v = nI n) ∨ (nI lo ≤ v ∧ ¬ v ≤ nI hi ∧ n = hi))
theorem zCl_e (v : Int32) {lo hi : Nat} (h : lo ≤ hi) (hh : hi < 1000) : ∃ n, zCl v lo hi n := by
  by_cases a : nI lo ≤ v
  · by_cases b : v ≤ nI hi
    · obtain ⟨n, h1, h2⟩ := nI_of2 (x := v) (M := nI hi) (n := hi) (nI_toInt (by omega)) (zc_ng (by omega) a) b
      refine ⟨n, ?_, h1, Or.inr (Or.inl ⟨a, b, h2⟩)⟩
      rw [h2, nI_leI (by omega) (by omega)] at a
      exact a
    · exact ⟨hi, h, Nat.le_refl _, Or.inr (Or.inr ⟨a, b, rfl⟩)⟩
  · exact ⟨lo, Nat.le_refl _, h, Or.inl ⟨a, rfl⟩⟩
section
variable {ow co fi fm wd pl ho ex sz al se ps nc lm bc rz rm fl lv sk sc dp dc hd po cl ab : Nat → Int32} {fa fb fc fd v : Int32} {lo hi n : Nat} {post : Int32 → Prop}
theorem xw_clp (h : zCl v lo hi n) (k : post (nI n)) : wpX_clamp post (fa, fb, fc, fd, ow, co, fi, fm, wd, pl, ho, ex, sz, al, se, ps, nc, lm, bc, rz, rm, fl, lv, sk, sc, dp, dc) v (nI lo) (nI hi) := by
  unfold wpX_clamp
  rcases h.2.2 with ⟨a, e⟩ | ⟨a, b, e⟩ | ⟨a, b, e⟩
  · exact br_f a (by rw [← e]; exact k)
  · exact br_t a (br_t b (by rw [e]; exact k))
  · exact br_t a (br_f b (by rw [← e]; exact k))
theorem yw_clp (h : zCl v lo hi n) (k : post (nI n)) : wpY_clamp post (fa, fb, fc, fd, wd, pl, hd, po, ow, cl, ex, ab) v (nI lo) (nI hi) := by
  unfold wpY_clamp
  rcases h.2.2 with ⟨a, e⟩ | ⟨a, b, e⟩ | ⟨a, b, e⟩
  · exact br_f a (by rw [← e]; exact k)
  · exact br_t a (br_t b (by rw [e]; exact k))
  · exact br_t a (br_f b (by rw [← e]; exact k))
end
section
variable {P C M D : Nat} {ow : Nat → Int32}
theorem xw_in_252 {post : SX → Prop} (k : post (nI P, nI C, nI M, nI D, ow, (fun _ => 0), (fun _ => 0), (fun _ => 0), (fun _ => 0), (fun _ => 0), (zws (fun _ => 0) (fun i => i) (fun _ => -1) 256), (fun _ => 0), (fun _ => 0), (fun _ => 0), (fun _ => 0), (fun _ => 0), (fun _ => 0), (fun _ => 0), (fun _ => 0), (fun _ => 0), (fun _ => 0), (fun _ => 0), (fun _ => 0), (fun _ => 0), (fun _ => 0), (fun _ => 0), (fun _ => 0))) : ∀ d i, i + d = 256 → wX_init_252 post (nI P) (nI C) (nI M) (nI D) (d + 1) (nI i) ow (fun _ => 0) (fun _ => 0) (fun _ => 0) (fun _ => 0) (fun _ => 0) (zws (fun _ => 0) (fun i => i) (fun _ => -1) i) (fun _ => 0) (fun _ => 0) (fun _ => 0) (fun _ => 0) (fun _ => 0) (fun _ => 0) (fun _ => 0) (fun _ => 0) (fun _ => 0) (fun _ => 0) (fun _ => 0) (fun _ => 0) (fun _ => 0) (fun _ => 0) (fun _ => 0) (fun _ => 0) := by
  intro d
  induction d with
  | zero =>
    intro i hi
    rw [show i = 256 by omega]
    exact br_t (by decide) k
  | succ d ih =>
    intro i hi
    exact br_f (nI_ge (b := 256) (by omega) (by decide)) ⟨vp_in_nI (by omega) (by decide), nm_r (by rw [nI_clamp (by omega)]; rfl) (nm_r (nI_1 i) (ih (i + 1) (by omega)))⟩
theorem xw_in_228 {post : SX → Prop} (k : post (nI P, nI C, nI M, nI D, (zws (fun _ => 0) (fun i => i) (fun _ => -1) 8), (fun _ => 0), (fun _ => 0), (fun _ => 0), (fun _ => 0), (fun _ => 0), (zws (fun _ => 0) (fun i => i) (fun _ => -1) 256), (fun _ => 0), (fun _ => 0), (fun _ => 0), (fun _ => 0), (fun _ => 0), (fun _ => 0), (fun _ => 0), (fun _ => 0), (fun _ => 0), (fun _ => 0), (fun _ => 0), (fun _ => 0), (fun _ => 0), (fun _ => 0), (fun _ => 0), (fun _ => 0))) : ∀ d i, i + d = 8 → wX_init_228 post (nI P) (nI C) (nI M) (nI D) (d + 1) (nI i) (zws (fun _ => 0) (fun i => i) (fun _ => -1) i) (fun _ => 0) (fun _ => 0) (fun _ => 0) (fun _ => 0) (fun _ => 0) (fun _ => 0) (fun _ => 0) (fun _ => 0) (fun _ => 0) (fun _ => 0) (fun _ => 0) (fun _ => 0) (fun _ => 0) (fun _ => 0) (fun _ => 0) (fun _ => 0) (fun _ => 0) (fun _ => 0) (fun _ => 0) (fun _ => 0) (fun _ => 0) (fun _ => 0) := by
  intro d
  induction d with
  | zero =>
    intro i hi
    rw [show i = 8 by omega]
    exact br_t (by decide) ⟨257, xw_in_252 k 256 0 (by omega)⟩
  | succ d ih =>
    intro i hi
    exact br_f (nI_ge (b := 8) (by omega) (by decide)) ⟨vp_in_nI (by omega) (by decide), nm_r (by rw [nI_clamp (by omega)]; rfl) (nm_r (nI_1 i) (ih (i + 1) (by omega)))⟩
theorem yw_in_120 {post : SY → Prop} (k : post (nI P, nI C, nI M, nI D, (fun _ => 0), (fun _ => 0), (fun _ => 0), (fun _ => 0), (zws (fun _ => 0) (fun i => i) (fun _ => -1) 8), (fun _ => 0), (fun _ => 0), (fun _ => 0))) : ∀ d i, i + d = 8 → wY_init_120 post (nI P) (nI C) (nI M) (nI D) (d + 1) (nI i) (fun _ => 0) (fun _ => 0) (fun _ => 0) (fun _ => 0) (zws (fun _ => 0) (fun i => i) (fun _ => -1) i) (fun _ => 0) (fun _ => 0) (fun _ => 0) := by
  intro d
  induction d with
  | zero =>
    intro i hi
    rw [show i = 8 by omega]
    exact br_t (by decide) k
  | succ d ih =>
    intro i hi
    exact br_f (nI_ge (b := 8) (by omega) (by decide)) ⟨vp_in_nI (by omega) (by decide), nm_r (by rw [nI_clamp (by omega)]; rfl) (nm_r (nI_1 i) (ih (i + 1) (by omega)))⟩
end
theorem xy_init (k0 k1 k2 k3 : Int32) : ∃ u v, zS (fun _ => 0) u v ∧ (∀ post : SX → Prop, post u → wpX_init post k0 k1 k2 k3) ∧ (∀ post : SY → Prop, post v → wpY_init post k0 k1 k2 k3) := by
  obtain ⟨P, hP⟩ := zCl_e k0 (lo := 1) (hi := 8) (by decide) (by decide)
  obtain ⟨C, hC⟩ := zCl_e k1 (lo := 1) (hi := 4) (by decide) (by decide)
  obtain ⟨M, hM⟩ := zCl_e k2 (lo := 1) (hi := 4) (by decide) (by decide)
  obtain ⟨D, hD⟩ := zCl_e k3 (lo := 0) (hi := 4) (by decide) (by decide)
  have hR := zl_init (P := P) (C := C) (M := M) (D := D) (ow := zws (fun _ => 0) (fun i => i) (fun _ => -1) 8) (ho := zws (fun _ => 0) (fun i => i) (fun _ => -1) 256) ⟨hP.1, hP.2.1, hC.1, hC.2.1, hM.1, hM.2.1, hD.2.1⟩ (fun p hp => zws_h (f := fun _ => 0) (ix := fun i => i) (v := fun _ => -1) hp (fun j hj _ => by omega))
  refine ⟨_, _, zS_in (wd := fun _ => 0) hR, fun post k => ?_, fun post k => ?_⟩
  · rw [zFI_00, zFM_00] at k
    unfold wpX_init
    exact xw_clp hP (xw_clp hC (xw_clp hM (xw_clp hD ⟨9, xw_in_228 k 8 0 (by omega)⟩)))
  · unfold wpY_init
    exact yw_clp hP (yw_clp hC (yw_clp hM (yw_clp hD ⟨9, yw_in_120 k 8 0 (by omega)⟩)))
end
section
/-! what is owed -/
def i_Rel (k : Nat) (u : SX) (v : SY) : Prop := ∃ ex : Nat → Int32, zS ex u v
theorem i_up {k : Nat} {u : SX} {v : SY} (h : i_Rel k u v) : i_Rel (k + 4) u v := h
theorem i_vc0 (k0 : Int32) (k1 : Int32) (k2 : Int32) (k3 : Int32) : wpX_init (fun u => wpY_init (fun v => i_Rel 4 u v) k0 k1 k2 k3) k0 k1 k2 k3 := by
  obtain ⟨u, v, hS, hx, hy⟩ := xy_init k0 k1 k2 k3
  exact hx _ (hy _ ⟨_, hS⟩)
theorem zf_A {k : Nat} {ex' : Nat → Int32} {X : (Int32 → SX → Prop) → Prop} {Y : (Int32 → SY → Prop) → Prop} (h : zOutA ex' X Y) : X (fun r u' => Y (fun r' v' => r' = r ∧ i_Rel k u' v')) := by
  obtain ⟨r, u', v', hS, hx, hy⟩ := h
  exact hx _ (hy _ ⟨rfl, ex', hS⟩)
theorem zf_R {α : Type} {I : Prop} {X Y : (α → Prop) → Prop} (h : zOutR X Y) (i : I) : X (fun r => Y (fun r' => r' = r ∧ I)) := by
  obtain ⟨r, hx, hy⟩ := h
  exact hx _ (hy _ ⟨rfl, i⟩)
theorem i_vc_createCache {k : Nat} {u : SX} {v : SY} (I : i_Rel k u v) (hk : k + 4 ≤ 2052) (v1 : Int32) (v2 : Int32) (v3 : Int32) : wpX_createCache (fun r u' => wpY_createCache (fun r' v' => r' = r ∧ i_Rel (k + 4) u' v') v v1 v2 v3) u v1 v2 v3 := by
  obtain ⟨ex, I⟩ := I
  refine zS_el (Pr := fun u v => wpX_createCache (fun r u' => wpY_createCache (fun r' v' => r' = r ∧ i_Rel (k + 4) u' v') v v1 v2 v3) u v1 v2 v3) ?_ I
  intro P C M D ow co wd pl ho sz al se ps nc lm bc rz rm fl lv sk sc dp dc hd po cl ab h
  obtain ⟨ex', q⟩ := xy_createCache v1 v2 v3 (wd := wd) h
  exact zf_A q
theorem i_vc_destroyCache {k : Nat} {u : SX} {v : SY} (I : i_Rel k u v) (hk : k + 4 ≤ 2052) (v1 : Int32) : wpX_destroyCache (fun r u' => wpY_destroyCache (fun r' v' => r' = r ∧ i_Rel (k + 4) u' v') v v1) u v1 := by
  obtain ⟨ex, I⟩ := I
  refine zS_el (Pr := fun u v => wpX_destroyCache (fun r u' => wpY_destroyCache (fun r' v' => r' = r ∧ i_Rel (k + 4) u' v') v v1) u v1) ?_ I
  intro P C M D ow co wd pl ho sz al se ps nc lm bc rz rm fl lv sk sc dp dc hd po cl ab h
  obtain ⟨ex', q⟩ := xy_destroyCache v1 (wd := wd) h
  exact zf_A q
theorem i_vc_alloc {k : Nat} {u : SX} {v : SY} (I : i_Rel k u v) (hk : k + 4 ≤ 2052) (v1 : Int32) (v2 : Int32) : wpX_alloc (fun r u' => wpY_alloc (fun r' v' => r' = r ∧ i_Rel (k + 4) u' v') v v1 v2) u v1 v2 := by
  obtain ⟨ex, I⟩ := I
  refine zS_el (Pr := fun u v => wpX_alloc (fun r u' => wpY_alloc (fun r' v' => r' = r ∧ i_Rel (k + 4) u' v') v v1 v2) u v1 v2) ?_ I
  intro P C M D ow co wd pl ho sz al se ps nc lm bc rz rm fl lv sk sc dp dc hd po cl ab h
  exact zf_A (xy_alloc v1 v2 (wd := wd) h)
theorem i_vc_free {k : Nat} {u : SX} {v : SY} (I : i_Rel k u v) (hk : k + 4 ≤ 2052) (v1 : Int32) (v2 : Int32) : wpX_free (fun r u' => wpY_free (fun r' v' => r' = r ∧ i_Rel (k + 4) u' v') v v1 v2) u v1 v2 := by
  obtain ⟨ex, I⟩ := I
  refine zS_el (Pr := fun u v => wpX_free (fun r u' => wpY_free (fun r' v' => r' = r ∧ i_Rel (k + 4) u' v') v v1 v2) u v1 v2) ?_ I
  intro P C M D ow co wd pl ho sz al se ps nc lm bc rz rm fl lv sk sc dp dc hd po cl ab h
  exact zf_A (xy_free v1 v2 (wd := wd) h)
theorem i_vc_write {k : Nat} {u : SX} {v : SY} (I : i_Rel k u v) (hk : k + 4 ≤ 2052) (v1 : Int32) (v2 : Int32) (v3 : Int32) : wpX_write (fun r u' => wpY_write (fun r' v' => r' = r ∧ i_Rel (k + 4) u' v') v v1 v2 v3) u v1 v2 v3 := by
  obtain ⟨ex, I⟩ := I
  refine zS_el (Pr := fun u v => wpX_write (fun r u' => wpY_write (fun r' v' => r' = r ∧ i_Rel (k + 4) u' v') v v1 v2 v3) u v1 v2 v3) ?_ I
  intro P C M D ow co wd pl ho sz al se ps nc lm bc rz rm fl lv sk sc dp dc hd po cl ab h
  exact zf_A (xy_write v1 v2 v3 (wd := wd) h)
theorem i_vc_read {k : Nat} {u : SX} {v : SY} (I : i_Rel k u v) (hk : k + 4 ≤ 2052) (v1 : Int32) (v2 : Int32) : wpX_read (fun r => wpY_read (fun r' => r' = r ∧ i_Rel (k + 4) u v) v v1 v2) u v1 v2 := by
  obtain ⟨ex, I⟩ := I
  refine zS_el (Pr := fun u v => wpX_read (fun r => wpY_read (fun r' => r' = r ∧ i_Rel (k + 4) u v) v v1 v2) u v1 v2) ?_ I
  intro P C M D ow co wd pl ho sz al se ps nc lm bc rz rm fl lv sk sc dp dc hd po cl ab h
  exact zf_R (xy_read v1 v2 (wd := wd) h) ⟨ex, zS_in (wd := wd) h⟩
theorem i_vc_takePage {k : Nat} {u : SX} {v : SY} (I : i_Rel k u v) (hk : k + 4 ≤ 2052) : wpX_takePage (fun r u' => wpY_takePage (fun r' v' => r' = r ∧ i_Rel (k + 4) u' v') v) u := by
  obtain ⟨ex, I⟩ := I
  refine zS_el (Pr := fun u v => wpX_takePage (fun r u' => wpY_takePage (fun r' v' => r' = r ∧ i_Rel (k + 4) u' v') v) u) ?_ I
  intro P C M D ow co wd pl ho sz al se ps nc lm bc rz rm fl lv sk sc dp dc hd po cl ab h
  exact zf_A (xy_takePage (wd := wd) h)
theorem i_vc_givePage {k : Nat} {u : SX} {v : SY} (I : i_Rel k u v) (hk : k + 4 ≤ 2052) (v1 : Int32) : wpX_givePage (fun r u' => wpY_givePage (fun r' v' => r' = r ∧ i_Rel (k + 4) u' v') v v1) u v1 := by
  obtain ⟨ex, I⟩ := I
  refine zS_el (Pr := fun u v => wpX_givePage (fun r u' => wpY_givePage (fun r' v' => r' = r ∧ i_Rel (k + 4) u' v') v v1) u v1) ?_ I
  intro P C M D ow co wd pl ho sz al se ps nc lm bc rz rm fl lv sk sc dp dc hd po cl ab h
  exact zf_A (xy_givePage v1 (wd := wd) h)
theorem i_vc_drainCpu {k : Nat} {u : SX} {v : SY} (I : i_Rel k u v) (hk : k + 4 ≤ 2052) (v1 : Int32) : wpX_drainCpu (fun r u' => wpY_drainCpu (fun r' v' => r' = r ∧ i_Rel (k + 4) u' v') v v1) u v1 := by
  obtain ⟨ex, I⟩ := I
  refine zS_el (Pr := fun u v => wpX_drainCpu (fun r u' => wpY_drainCpu (fun r' v' => r' = r ∧ i_Rel (k + 4) u' v') v v1) u v1) ?_ I
  intro P C M D ow co wd pl ho sz al se ps nc lm bc rz rm fl lv sk sc dp dc hd po cl ab h
  exact zf_A (xy_drainCpu v1 (wd := wd) h)
theorem i_vc_tick {k : Nat} {u : SX} {v : SY} (I : i_Rel k u v) (hk : k + 4 ≤ 2052) : wpX_tick (fun r u' => wpY_tick (fun r' v' => r' = r ∧ i_Rel (k + 4) u' v') v) u := by
  obtain ⟨ex, I⟩ := I
  refine zS_el (Pr := fun u v => wpX_tick (fun r u' => wpY_tick (fun r' v' => r' = r ∧ i_Rel (k + 4) u' v') v) u) ?_ I
  intro P C M D ow co wd pl ho sz al se ps nc lm bc rz rm fl lv sk sc dp dc hd po cl ab h
  exact zf_A (xy_tick (wd := wd) h)
theorem i_vc_pressure {k : Nat} {u : SX} {v : SY} (I : i_Rel k u v) (hk : k + 4 ≤ 2052) (v1 : Int32) : wpX_pressure (fun r u' => wpY_pressure (fun r' v' => r' = r ∧ i_Rel (k + 4) u' v') v v1) u v1 := by
  obtain ⟨ex, I⟩ := I
  refine zS_el (Pr := fun u v => wpX_pressure (fun r u' => wpY_pressure (fun r' v' => r' = r ∧ i_Rel (k + 4) u' v') v v1) u v1) ?_ I
  intro P C M D ow co wd pl ho sz al se ps nc lm bc rz rm fl lv sk sc dp dc hd po cl ab h
  exact zf_A (xy_pressure P C M D ow co wd pl ho ex sz al se ps nc lm bc rz rm fl lv sk sc dp dc hd po cl ab v1 h)
theorem i_vc_place {k : Nat} {u : SX} {v : SY} (I : i_Rel k u v) (hk : k + 4 ≤ 2052) (v1 : Int32) : wpX_place (fun r => wpY_place (fun r' => r' = r ∧ i_Rel (k + 4) u v) v v1) u v1 := by
  obtain ⟨ex, I⟩ := I
  refine zS_el (Pr := fun u v => wpX_place (fun r => wpY_place (fun r' => r' = r ∧ i_Rel (k + 4) u v) v v1) u v1) ?_ I
  intro P C M D ow co wd pl ho sz al se ps nc lm bc rz rm fl lv sk sc dp dc hd po cl ab h
  exact zf_R (xy_place v1 (wd := wd) h) ⟨ex, zS_in (wd := wd) h⟩
theorem i_vc_holder {k : Nat} {u : SX} {v : SY} (I : i_Rel k u v) (hk : k + 4 ≤ 2052) (v1 : Int32) : wpX_holder (fun r => wpY_holder (fun r' => r' = r ∧ i_Rel (k + 4) u v) v v1) u v1 := by
  obtain ⟨ex, I⟩ := I
  refine zS_el (Pr := fun u v => wpX_holder (fun r => wpY_holder (fun r' => r' = r ∧ i_Rel (k + 4) u v) v v1) u v1) ?_ I
  intro P C M D ow co wd pl ho sz al se ps nc lm bc rz rm fl lv sk sc dp dc hd po cl ab h
  exact zf_R (xy_holder v1 (wd := wd) h) ⟨ex, zS_in (wd := wd) h⟩
theorem i_vc_pageOwner {k : Nat} {u : SX} {v : SY} (I : i_Rel k u v) (hk : k + 4 ≤ 2052) (v1 : Int32) : wpX_pageOwner (fun r => wpY_pageOwner (fun r' => r' = r ∧ i_Rel (k + 4) u v) v v1) u v1 := by
  obtain ⟨ex, I⟩ := I
  refine zS_el (Pr := fun u v => wpX_pageOwner (fun r => wpY_pageOwner (fun r' => r' = r ∧ i_Rel (k + 4) u v) v v1) u v1) ?_ I
  intro P C M D ow co wd pl ho sz al se ps nc lm bc rz rm fl lv sk sc dp dc hd po cl ab h
  exact zf_R (xy_pageOwner v1 (wd := wd) h) ⟨ex, zS_in (wd := wd) h⟩
theorem i_vc_pageColour {k : Nat} {u : SX} {v : SY} (I : i_Rel k u v) (hk : k + 4 ≤ 2052) (v1 : Int32) : wpX_pageColour (fun r => wpY_pageColour (fun r' => r' = r ∧ i_Rel (k + 4) u v) v v1) u v1 := by
  obtain ⟨ex, I⟩ := I
  refine zS_el (Pr := fun u v => wpX_pageColour (fun r => wpY_pageColour (fun r' => r' = r ∧ i_Rel (k + 4) u v) v v1) u v1) ?_ I
  intro P C M D ow co wd pl ho sz al se ps nc lm bc rz rm fl lv sk sc dp dc hd po cl ab h
  exact zf_R (xy_pageColour v1 (wd := wd) h) ⟨ex, zS_in (wd := wd) h⟩
theorem i_vc_freePages {k : Nat} {u : SX} {v : SY} (I : i_Rel k u v) (hk : k + 4 ≤ 2052) : wpX_freePages (fun r => wpY_freePages (fun r' => r' = r ∧ i_Rel (k + 4) u v) v) u := by
  obtain ⟨ex, I⟩ := I
  refine zS_el (Pr := fun u v => wpX_freePages (fun r => wpY_freePages (fun r' => r' = r ∧ i_Rel (k + 4) u v) v) u) ?_ I
  intro P C M D ow co wd pl ho sz al se ps nc lm bc rz rm fl lv sk sc dp dc hd po cl ab h
  exact zf_R (xy_freePages (wd := wd) h) ⟨ex, zS_in (wd := wd) h⟩
theorem i_vc_count {k : Nat} {u : SX} {v : SY} (I : i_Rel k u v) (hk : k + 4 ≤ 2052) (v1 : Int32) (v2 : Int32) : wpX_count (fun r => wpY_count (fun r' => r' = r ∧ i_Rel (k + 4) u v) v v1 v2) u v1 v2 := by
  obtain ⟨ex, I⟩ := I
  refine zS_el (Pr := fun u v => wpX_count (fun r => wpY_count (fun r' => r' = r ∧ i_Rel (k + 4) u v) v v1 v2) u v1 v2) ?_ I
  intro P C M D ow co wd pl ho sz al se ps nc lm bc rz rm fl lv sk sc dp dc hd po cl ab h
  exact zf_R (xy_count v1 v2 (wd := wd) h) ⟨ex, zS_in (wd := wd) h⟩
theorem i_vc_slabs {k : Nat} {u : SX} {v : SY} (I : i_Rel k u v) (hk : k + 4 ≤ 2052) (v1 : Int32) (v2 : Int32) : wpX_slabs (fun r => wpY_slabs (fun r' => r' = r ∧ i_Rel (k + 4) u v) v v1 v2) u v1 v2 := by
  obtain ⟨ex, I⟩ := I
  refine zS_el (Pr := fun u v => wpX_slabs (fun r => wpY_slabs (fun r' => r' = r ∧ i_Rel (k + 4) u v) v v1 v2) u v1 v2) ?_ I
  intro P C M D ow co wd pl ho sz al se ps nc lm bc rz rm fl lv sk sc dp dc hd po cl ab h
  exact zf_R (xy_slabs v1 v2 (wd := wd) h) ⟨ex, zS_in (wd := wd) h⟩
theorem i_vc_stockItem {k : Nat} {u : SX} {v : SY} (I : i_Rel k u v) (hk : k + 4 ≤ 2052) (v1 : Int32) (v2 : Int32) (v3 : Int32) : wpX_stockItem (fun r => wpY_stockItem (fun r' => r' = r ∧ i_Rel (k + 4) u v) v v1 v2 v3) u v1 v2 v3 := by
  obtain ⟨ex, I⟩ := I
  refine zS_el (Pr := fun u v => wpX_stockItem (fun r => wpY_stockItem (fun r' => r' = r ∧ i_Rel (k + 4) u v) v v1 v2 v3) u v1 v2 v3) ?_ I
  intro P C M D ow co wd pl ho sz al se ps nc lm bc rz rm fl lv sk sc dp dc hd po cl ab h
  exact zf_R (xy_stockItem v1 v2 v3 (wd := wd) h) ⟨ex, zS_in (wd := wd) h⟩
theorem i_vc_depotItem {k : Nat} {u : SX} {v : SY} (I : i_Rel k u v) (hk : k + 4 ≤ 2052) (v1 : Int32) (v2 : Int32) : wpX_depotItem (fun r => wpY_depotItem (fun r' => r' = r ∧ i_Rel (k + 4) u v) v v1 v2) u v1 v2 := by
  obtain ⟨ex, I⟩ := I
  refine zS_el (Pr := fun u v => wpX_depotItem (fun r => wpY_depotItem (fun r' => r' = r ∧ i_Rel (k + 4) u v) v v1 v2) u v1 v2) ?_ I
  intro P C M D ow co wd pl ho sz al se ps nc lm bc rz rm fl lv sk sc dp dc hd po cl ab h
  exact zf_R (xy_depotItem v1 v2 (wd := wd) h) ⟨ex, zS_in (wd := wd) h⟩
theorem i_vc_info {k : Nat} {u : SX} {v : SY} (I : i_Rel k u v) (hk : k + 4 ≤ 2052) (v1 : Int32) (v2 : Int32) : wpX_info (fun r => wpY_info (fun r' => r' = r ∧ i_Rel (k + 4) u v) v v1 v2) u v1 v2 := by
  obtain ⟨ex, I⟩ := I
  refine zS_el (Pr := fun u v => wpX_info (fun r => wpY_info (fun r' => r' = r ∧ i_Rel (k + 4) u v) v v1 v2) u v1 v2) ?_ I
  intro P C M D ow co wd pl ho sz al se ps nc lm bc rz rm fl lv sk sc dp dc hd po cl ab h
  exact zf_R (xy_info v1 v2 (wd := wd) h) ⟨ex, zS_in (wd := wd) h⟩
theorem i_vc_setting {k : Nat} {u : SX} {v : SY} (I : i_Rel k u v) (hk : k + 4 ≤ 2052) (v1 : Int32) : wpX_setting (fun r => wpY_setting (fun r' => r' = r ∧ i_Rel (k + 4) u v) v v1) u v1 := by
  obtain ⟨ex, I⟩ := I
  refine zS_el (Pr := fun u v => wpX_setting (fun r => wpY_setting (fun r' => r' = r ∧ i_Rel (k + 4) u v) v v1) u v1) ?_ I
  intro P C M D ow co wd pl ho sz al se ps nc lm bc rz rm fl lv sk sc dp dc hd po cl ab h
  exact zf_R (xy_setting v1 (wd := wd) h) ⟨ex, zS_in (wd := wd) h⟩
end
