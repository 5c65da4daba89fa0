section
theorem pk_us {f : Nat → Int32} {k : Nat} {x : Int32} : upd f k x k = x := if_pos rfl
theorem pk_un {f : Nat → Int32} {k j : Nat} {x : Int32} (h : j ≠ k) : upd f k x j = f j := if_neg h
theorem pk_sub {a b : Nat} (h : b ≤ a) : nI a - nI b = nI (a - b) := by
  obtain ⟨c, rfl⟩ : ∃ c, a = c + b := ⟨a - b, by omega⟩
  rw [← nI_add, Int32.add_sub_cancel, Nat.add_sub_cancel]
theorem pk_m1 (n : Nat) : nI (n + 1) + (-1) = nI n := by
  rw [← nI_1, Int32.add_assoc, show (1 : Int32) + (-1) = 0 from rfl, Int32.add_zero]
theorem pk_mul (a b : Nat) : nI a * nI b = nI (a * b) := (Int32.ofNat_mul a b).symm
theorem pk_ix (x : Int32) {n : Nat} (hn : n < 2 ^ 31) : x < 0 ∨ nI n ≤ x ∨ ∃ j : Nat, j < n ∧ x = nI j := by
  by_cases h : x < 0
  · exact Or.inl h
  · obtain ⟨j, hj, rfl⟩ := nI_of h
    by_cases h2 : j < n
    · exact Or.inr (Or.inr ⟨j, h2, rfl⟩)
    · exact Or.inr (Or.inl (nI_le (by omega) hj))
theorem pk_le {x y : Int32} {A B : Prop} (a b : Nat) (f : a ≤ b → A) (g : b < a → B) (hx : x = nI a := by rfl) (hy : y = nI b := by rfl) (ha : a < 2 ^ 31 := by omega) (hb : b < 2 ^ 31 := by omega) : (x ≤ y → A) ∧ (¬ x ≤ y → B) := by
  subst hx hy
  rw [nI_leI ha hb]
  exact ⟨f, fun z => g (by omega)⟩
theorem pk_lt {x y : Int32} {A B : Prop} (a b : Nat) (f : a < b → A) (g : b ≤ a → B) (hx : x = nI a := by rfl) (hy : y = nI b := by rfl) (ha : a < 2 ^ 31 := by omega) (hb : b < 2 ^ 31 := by omega) : (x < y → A) ∧ (¬ x < y → B) := by
  subst hx hy
  rw [nI_ltI ha hb]
  exact ⟨f, fun z => g (by omega)⟩
theorem pk_eq {x y : Int32} {A B : Prop} (a b : Nat) (f : a = b → A) (g : a ≠ b → B) (hx : x = nI a := by rfl) (hy : y = nI b := by rfl) (ha : a < 2 ^ 31 := by omega) (hb : b < 2 ^ 31 := by omega) : (x = y → A) ∧ (¬ x = y → B) := by
  subst hx hy
  rw [nI_eq ha hb]
  exact ⟨f, g⟩
theorem pk_in {x : Int32} (n N : Nat) (h : n < N) (hx : x = nI n := by rfl) (hN : N < 2 ^ 31 := by omega) : vp_in x N := by
  subst hx
  exact vp_in_nI h hN
theorem pk_cl {x : Int32} (n : Nat) (hx : x = nI n := by rfl) (h : n < 2 ^ 31 := by omega) : x.toNatClampNeg = n := by
  subst hx
  exact nI_clamp h
theorem pk_tn {n : Nat} (h : n < 2 ^ 32) : (nI n).toBitVec.toNat = n := Nat.mod_eq_of_lt h
theorem pk_shl (a s : Int32) (k : Nat) (hs : (s.toBitVec.smod 32).toNat = k) : (a <<< s).toBitVec.toNat = a.toBitVec.toNat * 2 ^ k % 2 ^ 32 := by
  show (a.toBitVec <<< (s.toBitVec.smod 32).toNat).toNat = _
  rw [hs, BitVec.toNat_shiftLeft, Nat.shiftLeft_eq]
theorem pk_shlN {n : Nat} (s : Int32) (k : Nat) (hs : (s.toBitVec.smod 32).toNat = k) (h : n * 2 ^ k < 2 ^ 32) : nI n <<< s = nI (n * 2 ^ k) := by
  apply Int32.toBitVec_inj.mp
  apply BitVec.eq_of_toNat_eq
  have hn : n < 2 ^ 32 := Nat.lt_of_le_of_lt (Nat.le_mul_of_pos_right n (Nat.two_pow_pos k)) h
  rw [pk_shl _ _ k hs, pk_tn hn, pk_tn h, Nat.mod_eq_of_lt h]
theorem pk_shr (a s : Int32) (k : Nat) (hs : (s.toBitVec.smod 32).toNat = k) : (a >>> s).toInt = a.toInt >>> k := by
  show (a.toBitVec.sshiftRight (s.toBitVec.smod 32).toNat).toInt = _
  rw [hs, BitVec.toInt_sshiftRight]
  rfl
theorem pk_shrN {n : Nat} (h : n < 2 ^ 31) (s : Int32) (k : Nat) (hs : (s.toBitVec.smod 32).toNat = k) : nI n >>> s = nI (n / 2 ^ k) := by
  apply Int32.toInt_inj.mp
  have h2 : n / 2 ^ k ≤ n := Nat.div_le_self _ _
  rw [pk_shr _ _ k hs, nI_toInt h, nI_toInt (by omega), Int.shiftRight_eq_div_pow]
  rfl
theorem pk_vb (z : Int32) : vp_nar .byte z.toInt8.toInt32 = z.toInt8.toInt32 := by rw [vp_nar_byte]; simp
theorem pk_vs (z : Int32) : vp_nar .short z.toInt16.toInt32 = z.toInt16.toInt32 := by rw [vp_nar_short]; simp
theorem pk_least (P : Nat → Prop) (h : ∃ k, P k) : ∃ k, P k ∧ ∀ j, j < k → ¬ P j := by
  obtain ⟨k, hk⟩ := h
  induction k using Nat.strongRecOn with
  | ind k ih =>
    by_cases e : ∃ j, j < k ∧ P j
    · obtain ⟨j, hj, pj⟩ := e
      exact ih j hj pj
    · exact ⟨k, hk, fun j hj pj => e ⟨j, hj, pj⟩⟩
theorem sb_m1 {p : Nat} (h : 0 < p) : nI p + (-1) = nI (p - 1) := by
  obtain ⟨q, rfl⟩ : ∃ q, p = q + 1 := ⟨p - 1, by omega⟩
  exact pk_m1 q
def bt (x : Int32) (i : Nat) : Bool := x.toBitVec.getLsbD i
theorem b_ext {x y : Int32} (h : ∀ i, i < 32 → bt x i = bt y i) : x = y := Int32.toBitVec_inj.mp (BitVec.eq_of_getLsbD_eq (fun i hi => h i hi))
theorem b_or (x y : Int32) (i : Nat) : bt (x ||| y) i = (bt x i || bt y i) := by unfold bt; rw [Int32.toBitVec_or, BitVec.getLsbD_or]
theorem b_and (x y : Int32) (i : Nat) : bt (x &&& y) i = (bt x i && bt y i) := by unfold bt; rw [Int32.toBitVec_and, BitVec.getLsbD_and]
theorem b_xor (x y : Int32) (i : Nat) : bt (x ^^^ y) i = (bt x i ^^ bt y i) := by unfold bt; rw [Int32.toBitVec_xor, BitVec.getLsbD_xor]
theorem b_big {x : Int32} {i : Nat} (h : 32 ≤ i) : bt x i = false := BitVec.getLsbD_of_ge _ _ h
theorem b_m1 : ∀ i, i < 32 → bt (-1) i = true := by decide +kernel
theorem b_0 (i : Nat) : bt 0 i = false := BitVec.getLsbD_zero
theorem s_l : ∀ n, n < 32 → ((nI n &&& 31).toBitVec.smod 32).toNat = n := by decide +kernel
theorem nx_and (a b : Nat) : nI a &&& nI b = nI (a &&& b) := by
  apply Int32.toBitVec_inj.1
  show BitVec.ofNat 32 a &&& BitVec.ofNat 32 b = BitVec.ofNat 32 (a &&& b)
  apply BitVec.eq_of_getLsbD_eq
  intro i hi
  simp [hi]
theorem nx_xor (a b : Nat) : nI a ^^^ nI b = nI (a ^^^ b) := by
  apply Int32.toBitVec_inj.1
  show BitVec.ofNat 32 a ^^^ BitVec.ofNat 32 b = BitVec.ofNat 32 (a ^^^ b)
  apply BitVec.eq_of_getLsbD_eq
  intro i hi
  simp [hi]
end
section
/-! how many k below n have P -/
noncomputable def fq_i (p : Prop) : Nat := @ite Nat p (Classical.propDecidable p) 1 0
theorem fq_i_t {p : Prop} (h : p) : fq_i p = 1 := by unfold fq_i; exact if_pos h
theorem fq_i_f {p : Prop} (h : ¬ p) : fq_i p = 0 := by unfold fq_i; exact if_neg h
theorem fq_i_c {p q : Prop} (h : p ↔ q) : fq_i p = fq_i q := by
  by_cases hp : p
  · rw [fq_i_t hp, fq_i_t (h.mp hp)]
  · rw [fq_i_f hp, fq_i_f (fun z => hp (h.mpr z))]
noncomputable def fq_cn (P : Nat → Prop) : Nat → Nat
  | 0 => 0
  | n + 1 => fq_cn P n + fq_i (P n)
theorem fq_cn_t {P : Nat → Prop} {n : Nat} (h : P n) : fq_cn P (n + 1) = fq_cn P n + 1 := by
  show fq_cn P n + fq_i (P n) = _
  rw [fq_i_t h]
theorem fq_cn_f {P : Nat → Prop} {n : Nat} (h : ¬ P n) : fq_cn P (n + 1) = fq_cn P n := by
  show fq_cn P n + fq_i (P n) = _
  rw [fq_i_f h, Nat.add_zero]
theorem fq_cn_congr {P Q : Nat → Prop} {n : Nat} : (∀ k, k < n → (P k ↔ Q k)) → fq_cn P n = fq_cn Q n := by
  induction n with
  | zero => intro _; rfl
  | succ n ih =>
    intro h
    have e := ih (fun k hk => h k (by omega))
    by_cases hp : P n
    · rw [fq_cn_t hp, fq_cn_t ((h n (by omega)).mp hp), e]
    · rw [fq_cn_f hp, fq_cn_f (fun q => hp ((h n (by omega)).mpr q)), e]
theorem fq_cn_le {P Q : Nat → Prop} {n : Nat} : (∀ k, k < n → P k → Q k) → fq_cn P n ≤ fq_cn Q n := by
  induction n with
  | zero => intro _; exact Nat.le_refl _
  | succ n ih =>
    intro h
    have e := ih (fun k hk => h k (by omega))
    by_cases hp : P n
    · rw [fq_cn_t hp, fq_cn_t (h n (by omega) hp)]; omega
    · rw [fq_cn_f hp]
      by_cases hq : Q n
      · rw [fq_cn_t hq]; omega
      · rw [fq_cn_f hq]; exact e
theorem fq_cn_eq {P Q : Nat → Prop} {n : Nat} : (∀ k, k < n → P k → Q k) → fq_cn P n = fq_cn Q n → ∀ k, k < n → Q k → P k := by
  induction n with
  | zero => intro _ _ k hk; omega
  | succ n ih =>
    intro h e k hk hq
    have l := fq_cn_le (P := P) (Q := Q) (n := n) (fun k hk => h k (by omega))
    by_cases hp : P n
    · rw [fq_cn_t hp, fq_cn_t (h n (by omega) hp)] at e
      rcases Nat.lt_or_ge k n with z | z
      · exact ih (fun k hk => h k (by omega)) (by omega) k z hq
      · have : k = n := by omega
        subst this; exact hp
    · rw [fq_cn_f hp] at e
      by_cases hn : Q n
      · rw [fq_cn_t hn] at e; omega
      · rw [fq_cn_f hn] at e
        rcases Nat.lt_or_ge k n with z | z
        · exact ih (fun k hk => h k (by omega)) e k z hq
        · have : k = n := by omega
          subst this; exact absurd hq hn
theorem fq_cn_add {P Q R : Nat → Prop} {n : Nat} : (∀ k, k < n → (R k ↔ P k ∨ Q k)) → (∀ k, k < n → P k → Q k → False) → fq_cn R n = fq_cn P n + fq_cn Q n := by
  induction n with
  | zero => intro _ _; rfl
  | succ n ih =>
    intro h d
    have e := ih (fun k hk => h k (by omega)) (fun k hk => d k (by omega))
    by_cases hp : P n
    · rw [fq_cn_t hp, fq_cn_f (P := Q) (fun q => d n (by omega) hp q), fq_cn_t (P := R) ((h n (by omega)).mpr (Or.inl hp))]; omega
    · by_cases hq : Q n
      · rw [fq_cn_f hp, fq_cn_t hq, fq_cn_t (P := R) ((h n (by omega)).mpr (Or.inr hq))]; omega
      · rw [fq_cn_f hp, fq_cn_f hq, fq_cn_f (P := R) (fun r => ((h n (by omega)).mp r).elim hp hq)]; omega
theorem fq_cn_n (P : Nat → Prop) : ∀ n, fq_cn P n ≤ n := by
  intro n
  induction n with
  | zero => exact Nat.le_refl _
  | succ n ih =>
    by_cases hp : P n
    · rw [fq_cn_t hp]; omega
    · rw [fq_cn_f hp]; omega
theorem fq_cn_0 {P : Nat → Prop} {n : Nat} (h : ∀ k, k < n → ¬ P k) : fq_cn P n = 0 := by
  induction n with
  | zero => rfl
  | succ n ih => rw [fq_cn_f (h n (by omega))]; exact ih (fun k hk => h k (by omega))
theorem fq_cn_all {P : Nat → Prop} {n : Nat} (h : ∀ k, k < n → P k) : fq_cn P n = n := by
  induction n with
  | zero => rfl
  | succ n ih => rw [fq_cn_t (h n (by omega)), ih (fun k hk => h k (by omega))]
theorem fq_cn_z {P : Nat → Prop} {n : Nat} (h : fq_cn P n = 0) : ∀ k, k < n → ¬ P k := by
  intro k hk hp
  have := fq_cn_eq (P := fun _ => False) (Q := P) (n := n) (fun _ _ z => z.elim) (by rw [fq_cn_0 (fun _ _ z => z), h]) k hk hp
  exact this
/-! sets as numbers below 256 -/
theorem fq_hi {s i : Nat} (hs : s < 256) (hi : 8 ≤ i) : s.testBit i = false :=
  Nat.testBit_lt_two_pow (Nat.lt_of_lt_of_le hs (Nat.pow_le_pow_right (n := 2) (i := 8) (by decide) hi))
theorem fq_ext {a b : Nat} (ha : a < 256) (hb : b < 256) (h : ∀ t, t < 8 → a.testBit t = b.testBit t) : a = b := by
  apply Nat.eq_of_testBit_eq
  intro i
  rcases Nat.lt_or_ge i 8 with z | z
  · exact h i z
  · rw [fq_hi ha z, fq_hi hb z]
theorem fq_ob (s t i : Nat) : (s ||| 2 ^ t).testBit i = (s.testBit i || decide (t = i)) := by rw [Nat.testBit_or, Nat.testBit_two_pow]
theorem fq_p8 {t : Nat} (ht : t < 8) : 2 ^ t < 256 := Nat.pow_lt_pow_right (a := 2) (by decide) (m := t) (n := 8) ht
theorem fq_ol {s t : Nat} (hs : s < 256) (ht : t < 8) : s ||| 2 ^ t < 256 := Nat.or_lt_two_pow (n := 8) hs (fq_p8 ht)
theorem fq_bt {n i : Nat} (hi : i < 32) : bt (nI n) i = n.testBit i := by
  show (BitVec.ofNat 32 n).getLsbD i = _
  rw [BitVec.getLsbD_ofNat]; simp [hi]
theorem fq_nor (a b : Nat) : nI a ||| nI b = nI (a ||| b) := by
  apply b_ext; intro i hi
  rw [b_or, fq_bt hi, fq_bt hi, fq_bt hi, Nat.testBit_or]
/-- s is a part of b -/
def fq_S (s b : Nat) : Prop := ∀ t, t < 8 → s.testBit t = true → b.testBit t = true
theorem fq_sub0 {s b : Nat} (hs : s < 256) : (nI s &&& (nI b ^^^ (-1))) = 0 ↔ fq_S s b := by
  constructor
  · intro h t ht hb
    have e : bt (nI s &&& (nI b ^^^ (-1))) t = bt 0 t := by rw [h]
    rw [b_and, b_xor, b_m1 t (by omega), b_0, fq_bt (by omega), fq_bt (by omega), hb] at e
    revert e; cases b.testBit t <;> simp
  · intro h
    apply b_ext; intro i hi
    rw [b_and, b_xor, b_m1 i hi, b_0, fq_bt hi, fq_bt hi]
    rcases Nat.lt_or_ge i 8 with h8 | h8
    · have := h i h8
      revert this; cases s.testBit i <;> cases b.testBit i <;> simp
    · rw [fq_hi hs h8]; simp
theorem fq_bit {s t : Nat} (hs : s < 256) (ht : t < 8) : (nI s >>> (nI t &&& 31)) &&& 1 = nI (s.testBit t).toNat := by
  rw [pk_shrN (by omega) _ t (s_l t (by omega)), show (1 : Int32) = nI 1 from rfl, nx_and, Nat.and_one_is_mod, Nat.toNat_testBit]
theorem fq_bit0 {s t : Nat} (hs : s < 256) (ht : t < 8) : (nI s >>> (nI t &&& 31)) &&& 1 = 0 ↔ s.testBit t = false := by
  rw [fq_bit hs ht]
  cases s.testBit t
  · exact ⟨fun _ => rfl, fun _ => rfl⟩
  · exact ⟨fun z => absurd z (by decide), fun z => nomatch z⟩
theorem fq_or {s t : Nat} (ht : t < 8) : nI s ||| ((1 : Int32) <<< (nI t &&& 31)) = nI (s ||| 2 ^ t) := by
  have := fq_p8 ht
  rw [show (1 : Int32) = nI 1 from rfl, pk_shlN _ t (s_l t (by omega)) (by omega), Nat.one_mul, fq_nor]
theorem fq_S_o {s t b : Nat} (ht : t < 8) : fq_S (s ||| 2 ^ t) b ↔ fq_S s b ∧ b.testBit t = true := by
  constructor
  · intro h
    exact ⟨fun i hi z => h i hi (by rw [fq_ob, z]; rfl), h t ht (by rw [fq_ob]; simp)⟩
  · intro h i hi z
    rw [fq_ob] at z
    by_cases e : t = i
    · subst e; exact h.2
    · exact h.1 i hi (by simpa [e] using z)
theorem fq_S_0 (b : Nat) : fq_S 0 b := by intro t _ z; rw [Nat.zero_testBit] at z; exact nomatch z
theorem fq_o_in {s t : Nat} (h : s.testBit t = true) : s ||| 2 ^ t = s := by
  apply Nat.eq_of_testBit_eq; intro i
  rw [fq_ob]
  by_cases e : t = i
  · subst e; rw [h]; rfl
  · simp [e]
theorem fq_o_ne {s t : Nat} (h : s.testBit t = false) : s ||| 2 ^ t ≠ s := by
  intro e
  have : (s ||| 2 ^ t).testBit t = s.testBit t := by rw [e]
  rw [fq_ob, h] at this
  simp at this
/-- in how many of the first n baskets s is -/
noncomputable def fq_c (B : Nat → Nat) (n s : Nat) : Nat := fq_cn (fun k => fq_S s (B k)) n
theorem fq_c_n (B : Nat → Nat) (n s : Nat) : fq_c B n s ≤ n := fq_cn_n _ n
theorem fq_c_0 (B : Nat → Nat) (n : Nat) : fq_c B n 0 = n := fq_cn_all (fun _ _ => fq_S_0 _)
theorem fq_S_tr {a b c : Nat} (h : fq_S a b) (h' : fq_S b c) : fq_S a c := fun t ht z => h' t ht (h t ht z)
theorem fq_c_le {B : Nat → Nat} {n a b : Nat} (h : fq_S a b) : fq_c B n b ≤ fq_c B n a := fq_cn_le (fun _ _ z => fq_S_tr h z)
/-! small stores -/
theorem fq_nb : ∀ n, n < 128 → (nI n).toInt8.toInt32 = nI n := by decide +kernel
theorem fq_ns : ∀ n, n < 512 → (nI n).toInt16.toInt32 = nI n := by decide +kernel
theorem fq_vb {n : Nat} (h : n < 128) : vp_nar .byte (nI n) = nI n := by rw [vp_nar_byte, fq_nb n h]
theorem fq_vs {n : Nat} (h : n < 512) : vp_nar .short (nI n) = nI n := by rw [vp_nar_short, fq_ns n h]
theorem fq_vb2 {n : Nat} (h : n < 128) : vp_nar .byte (nI n).toInt8.toInt32 = nI n := by rw [fq_nb n h, fq_vb h]
theorem fq_vs2 {n : Nat} (h : n < 512) : vp_nar .short (nI n).toInt16.toInt32 = nI n := by rw [fq_ns n h, fq_vs h]
theorem fq_ic {n : Nat} (h : n < 2000) : (nI n).toNatClampNeg = n := nI_clamp (by omega)
end
section
/-- the relation: the same baskets (values below 256), and the component's counts are right where it says 'built' -/
def i_Rel (k : Nat) (u : SX) (v : SY) : Prop := match u with
  | (f0, f1, f2, aB, aT, aR, aA, aS, aF, aO, aP, aH, aC, aW, aE, aG) => match v with
    | (g0, bY, _) => ∃ (n : Nat) (B : Nat → Nat), f0 = nI n ∧ g0 = nI n ∧ aB = bY ∧ n ≤ 20 ∧ (∀ k, aB k = nI (B k)) ∧ (∀ k, B k < 256) ∧ (f1 = 0 ∨ ∀ s, s < 256 → aC s = nI (fq_c B n s)) ∧ k = k
theorem i_up {k : Nat} {u : SX} {v : SY} (h : i_Rel k u v) : i_Rel (k + 3) u v := by
  obtain ⟨f0, f1, f2, aB, aT, aR, aA, aS, aF, aO, aP, aH, aC, aW, aE, aG⟩ := u
  obtain ⟨g0, bY, cY⟩ := v
  obtain ⟨n, B, a, b, c, d, e, f, g, _⟩ := h
  exact ⟨n, B, a, b, c, d, e, f, g, rfl⟩
theorem i_vc0 : wpX_init (fun u => wpY_init (fun v => i_Rel 0 u v)) :=
  ⟨0, fun _ => 0, rfl, rfl, rfl, by omega, fun _ => rfl, fun _ => (by decide : 0 < 256), Or.inl rfl, rfl⟩
section
variable {f0 f1 f2 : Int32} {aB aT aR aA aS aF aO aP aH aC aW aE aG : Nat → Int32} {post : Int32 → Prop}
theorem fq_setC (v : Int32) : (v < 0 ∨ 255 < v) ∨ ∃ s : Nat, s < 256 ∧ v = nI s := by
  rcases pk_ix v (n := 256) (by omega) with h | h | h
  · exact Or.inl (Or.inl h)
  · exact Or.inl (Or.inr (Int32.lt_of_lt_of_le (show (255 : Int32) < nI 256 by decide) h))
  · exact Or.inr h
theorem fq_bndC (v : Int32) : (v < 1 ∨ 20 < v) ∨ ∃ m : Nat, 1 ≤ m ∧ m ≤ 20 ∧ v = nI m := by
  rcases pk_ix v (n := 21) (by omega) with h | h | h
  · exact Or.inl (Or.inl (Int32.lt_trans h (by decide)))
  · exact Or.inl (Or.inr (Int32.lt_of_lt_of_le (show (20 : Int32) < nI 21 by decide) h))
  · obtain ⟨j, hj, rfl⟩ := h
    rcases Nat.lt_or_ge j 1 with z | z
    · exact Or.inl (Or.inl (nI_lt (b := 1) z (by decide)))
    · exact Or.inr ⟨j, z, by omega, rfl⟩
theorem fq_Xset_f {v : Int32} (h : v < 0 ∨ 255 < v) (hp : post 0) : wpX_isSet post (f0, f1, f2, aB, aT, aR, aA, aS, aF, aO, aP, aH, aC, aW, aE, aG) v := by
  by_cases h0 : v < 0
  · exact br_t h0 hp
  · exact br_f h0 (br_t (h.resolve_left h0) hp)
theorem fq_Xset_t {s : Nat} (h : s < 256) (hp : post 1) : wpX_isSet post (f0, f1, f2, aB, aT, aR, aA, aS, aF, aO, aP, aH, aC, aW, aE, aG) (nI s) :=
  br_f (nI_pos (by omega)) (br_f (nI_nlt (a := 255) (b := s) (by omega) (by decide)) hp)
theorem fq_Xbnd_f {v : Int32} (h : v < 1 ∨ 20 < v) (hp : post 0) : wpX_isBound post (f0, f1, f2, aB, aT, aR, aA, aS, aF, aO, aP, aH, aC, aW, aE, aG) v := by
  by_cases h0 : v < 1
  · exact br_t h0 hp
  · exact br_f h0 (br_t (h.resolve_left h0) hp)
theorem fq_Xbnd_t {s : Nat} (h1 : 1 ≤ s) (h : s ≤ 20) (hp : post 1) : wpX_isBound post (f0, f1, f2, aB, aT, aR, aA, aS, aF, aO, aP, aH, aC, aW, aE, aG) (nI s) :=
  br_f (nI_nlt (a := s) (b := 1) (by omega) (by omega)) (br_f (nI_nlt (a := 20) (b := s) (by omega) (by decide)) hp)
end
section
variable {g0 : Int32} {aB cY : Nat → Int32} {post : Int32 → Prop}
theorem fq_Yset_f {v : Int32} (h : v < 0 ∨ 255 < v) (hp : post 0) : wpY_isSet post (g0, aB, cY) v := by
  by_cases h0 : v < 0
  · exact br_t h0 hp
  · exact br_f h0 (br_t (h.resolve_left h0) hp)
theorem fq_Yset_t {s : Nat} (h : s < 256) (hp : post 1) : wpY_isSet post (g0, aB, cY) (nI s) :=
  br_f (nI_pos (by omega)) (br_f (nI_nlt (a := 255) (b := s) (by omega) (by decide)) hp)
theorem fq_Ybnd_f {v : Int32} (h : v < 1 ∨ 20 < v) (hp : post 0) : wpY_isLevel post (g0, aB, cY) v := by
  by_cases h0 : v < 1
  · exact br_t h0 hp
  · exact br_f h0 (br_t (h.resolve_left h0) hp)
theorem fq_Ybnd_t {s : Nat} (h1 : 1 ≤ s) (h : s ≤ 20) (hp : post 1) : wpY_isLevel post (g0, aB, cY) (nI s) :=
  br_f (nI_nlt (a := s) (b := 1) (by omega) (by omega)) (br_f (nI_nlt (a := 20) (b := s) (by omega) (by decide)) hp)
end
/-! the reference counts all -/
section
variable {aB cY : Nat → Int32} {post : SY → Prop} {n : Nat} {B : Nat → Nat}
theorem fq_Yca18 {J2 : Int32 → (Nat → Int32) → (Nat → Int32) → Prop} {s : Nat} (hs : s < 256) (hn : n ≤ 20) (hB : ∀ k, aB k = nI (B k))
    (h : ∀ c' : Nat → Int32, (∀ i, i ≠ s → c' i = cY i) → c' s = nI (fq_c B n s) → J2 (nI (s + 1)) aB c') :
    ∀ (d j : Nat) (c : Nat → Int32), j + d = n → (∀ i, i ≠ s → c i = cY i) → c s = nI (fq_c B j s) → wY_countAll_18 post J2 (nI s) (nI n) (d + 1) (nI j) aB c := by
  intro d
  induction d with
  | zero =>
    intro j c hj h1 h2
    have e : j = n := by omega
    subst e
    exact br_t (nI_le (Nat.le_refl _) (by omega)) (nm_r (nI_1 s) (h c h1 h2))
  | succ d ih =>
    intro j c hj h1 h2
    have hr : aB (nI j).toNatClampNeg = nI (B j) := by rw [fq_ic (by omega), hB]
    have hc : (nI s &&& (aB (nI j).toNatClampNeg ^^^ (-1))) = 0 ↔ fq_S s (B j) := by rw [hr]; exact fq_sub0 hs
    refine br_f (nI_ge (by omega) (by omega)) ⟨vp_in_nI (by omega) (by omega), ?_⟩
    by_cases hS : fq_S s (B j)
    · refine br_t (hc.mpr hS) ⟨vp_in_nI hs (by omega), vp_in_nI hs (by omega), nm_e (nm_r (nI_1 j) ?_)⟩
      apply ih (j + 1) _ (by omega)
      · intro i hi; rw [fq_ic (by omega), pk_un hi]; exact h1 i hi
      · rw [fq_ic (by omega), pk_us, h2, nI_1]; unfold fq_c; rw [fq_cn_t (P := fun k => fq_S s (B k)) hS]
    · refine br_f (fun z => hS (hc.mp z)) (nm_r (nI_1 j) ?_)
      apply ih (j + 1) _ (by omega) h1
      rw [h2]; unfold fq_c; rw [fq_cn_f (P := fun k => fq_S s (B k)) hS]
theorem fq_Yca2 (hn : n ≤ 20) (hB : ∀ k, aB k = nI (B k)) (h : ∀ c : Nat → Int32, (∀ i, i < 256 → c i = nI (fq_c B n i)) → post (nI n, aB, c)) :
    ∀ (d s : Nat) (c : Nat → Int32), s + d = 256 → (∀ i, i < s → c i = nI (fq_c B n i)) → wY_countAll_2 post (nI n) (d + 1) (nI s) aB c := by
  intro d
  induction d with
  | zero =>
    intro s c hs h1
    exact br_t (nI_le (a := 256) (by omega) (by omega)) (h c (fun i hi => h1 i (by omega)))
  | succ d ih =>
    intro s c hs h1
    refine br_f (nI_ge (b := 256) (by omega) (by omega)) ⟨vp_in_nI (by omega) (by omega), nm_e ⟨n + 1, ?_⟩⟩
    refine fq_Yca18 (cY := upd c (nI s).toNatClampNeg 0) (by omega) hn hB ?_ n 0 _ (by omega) (fun _ _ => rfl) ?_
    · intro c' h2 h3
      apply ih (s + 1) c' (by omega)
      intro i hi
      by_cases e : i = s
      · rw [e]; exact h3
      · rw [h2 i e, fq_ic (by omega), pk_un e]; exact h1 i (by omega)
    · rw [fq_ic (by omega), pk_us]; rfl
theorem fq_Yca (hn : n ≤ 20) (hB : ∀ k, aB k = nI (B k)) (h : ∀ c : Nat → Int32, (∀ i, i < 256 → c i = nI (fq_c B n i)) → post (nI n, aB, c)) : wpY_countAll post (nI n, aB, cY) :=
  ⟨257, fq_Yca2 hn hB h 256 0 cY (by omega) (fun i hi => by omega)⟩
end
end
section
/-! the scans over the counts, each side against a pure picture -/
theorem fq_loopC {W : Nat → Int32 → Int32 → Prop} {P : Nat → Prop}
    (hs : ∀ n j c, 1 ≤ j → j < 256 → (P j → W n (nI (c + 1)) (nI (j + 1))) → (¬ P j → W n (nI c) (nI (j + 1))) → W (n + 1) (nI c) (nI j))
    (hx : ∀ n, W (n + 1) (nI (fq_cn (fun s => 1 ≤ s ∧ P s) 256)) (nI 256)) : ∃ n, W n 0 1 := by
  have key : ∀ d j, 1 ≤ j → j + d = 256 → W (d + 1) (nI (fq_cn (fun s => 1 ≤ s ∧ P s) j)) (nI j) := by
    intro d
    induction d with
    | zero =>
      intro j h1 hj
      have e : j = 256 := by omega
      subst e
      exact hx 0
    | succ d ih =>
      intro j h1 hj
      have k := ih (j + 1) (by omega) (by omega)
      refine hs _ j _ h1 (by omega) (fun hp => ?_) (fun hp => ?_)
      · rw [fq_cn_t (P := fun s => 1 ≤ s ∧ P s) ⟨h1, hp⟩] at k; exact k
      · rw [fq_cn_f (P := fun s => 1 ≤ s ∧ P s) (fun z => hp z.2)] at k; exact k
  have k := key 255 1 (by omega) (by omega)
  rw [fq_cn_f (P := fun s => 1 ≤ s ∧ P s) (n := 0) (fun z => by omega)] at k
  exact ⟨256, k⟩
def fq_K1 (C : Nat → Nat) (s m : Nat) : Prop := m ≤ C s ∧ ∀ t, t < 8 → s.testBit t = false → C (s ||| 2 ^ t) ≠ C s
def fq_L1 (C : Nat → Nat) (s m : Nat) : Prop := m ≤ C s ∧ ∀ t, t < 8 → s.testBit t = false → C (s ||| 2 ^ t) < m
def fq_NG (C : Nat → Nat) (s q : Nat) : Prop := ∀ b, 1 ≤ b → b < 256 → b ≠ s → fq_S s b → C b < q
def fq_An (C : Nat → Nat) : Prop := ∀ a b, fq_S a b → C b ≤ C a
theorem fq_more {s b : Nat} (hs : s < 256) (hb : b < 256) (hne : b ≠ s) (h : fq_S s b) : ∃ t, t < 8 ∧ s.testBit t = false ∧ fq_S (s ||| 2 ^ t) b := by
  apply Classical.byContradiction
  intro z
  apply hne
  apply fq_ext hb hs
  intro t ht
  by_cases e : s.testBit t = true
  · rw [e, h t ht e]
  · have e' : s.testBit t = false := by simpa using e
    rw [e']
    cases hbt : b.testBit t
    · rfl
    · exact absurd ⟨t, ht, e', (fq_S_o ht).mpr ⟨h, hbt⟩⟩ z
theorem fq_S_self (s t : Nat) : fq_S s (s ||| 2 ^ t) := fun i _ z => by rw [fq_ob, z]; rfl
theorem fq_K_eq {C : Nat → Nat} (hA : fq_An C) {s m : Nat} (h1 : 1 ≤ s) (hs : s < 256) : fq_K1 C s m ↔ m ≤ C s ∧ fq_NG C s (C s) := by
  constructor
  · intro h
    refine ⟨h.1, fun b hb1 hb hne hS => ?_⟩
    obtain ⟨t, ht, hf, hb'⟩ := fq_more hs hb hne hS
    have a := hA _ _ hb'
    have b := hA _ _ (fq_S_self s t)
    have c := h.2 t ht hf
    omega
  · intro h
    refine ⟨h.1, fun t ht hf => ?_⟩
    have := h.2 (s ||| 2 ^ t) (Nat.le_trans h1 Nat.left_le_or) (fq_ol hs ht) (fq_o_ne hf) (fq_S_self s t)
    omega
theorem fq_L_eq {C : Nat → Nat} (hA : fq_An C) {s m : Nat} (h1 : 1 ≤ s) (hs : s < 256) : fq_L1 C s m ↔ m ≤ C s ∧ fq_NG C s m := by
  constructor
  · intro h
    refine ⟨h.1, fun b hb1 hb hne hS => ?_⟩
    obtain ⟨t, ht, hf, hb'⟩ := fq_more hs hb hne hS
    have a := hA _ _ hb'
    have c := h.2 t ht hf
    omega
  · intro h
    refine ⟨h.1, fun t ht hf => ?_⟩
    exact h.2 (s ||| 2 ^ t) (Nat.le_trans h1 Nat.left_le_or) (fq_ol hs ht) (fq_o_ne hf) (fq_S_self s t)
section
variable {f0 f1 f2 : Int32} {aB aT aR aA aS aF aO aP aH aC aW aE aG : Nat → Int32} {C : Nat → Nat} {m s : Nat}
theorem fq_rd {a : Nat → Int32} (hC : ∀ s, s < 256 → a s = nI (C s)) {j : Nat} (hj : j < 256) : a (nI j).toNatClampNeg = nI (C j) := by rw [fq_ic (by omega), hC j hj]
theorem fq_rdo {a : Nat → Int32} (hC : ∀ s, s < 256 → a s = nI (C s)) {j t : Nat} (hj : j < 256) (ht : t < 8) : a (nI j ||| ((1 : Int32) <<< (nI t &&& 31))).toNatClampNeg = nI (C (j ||| 2 ^ t)) := by
  rw [fq_or ht]; exact fq_rd hC (fq_ol hj ht)
theorem fq_ino {j t : Nat} (hj : j < 256) (ht : t < 8) : vp_in (nI j ||| ((1 : Int32) <<< (nI t &&& 31))) 256 := by
  rw [fq_or ht]; exact vp_in_nI (fq_ol hj ht) (by omega)
theorem fq_Xfr {post : Int32 → SX → Prop} (hC : ∀ s, s < 256 → aC s = nI (C s)) (hb : ∀ s, C s ≤ 20) (hm : m ≤ 20) (h : post (nI (fq_cn (fun s => 1 ≤ s ∧ m ≤ C s) 256)) (f0, f1, f2, aB, aT, aR, aA, aS, aF, aO, aP, aH, aC, aW, aE, aG)) : ∃ n, wX_frequent_18 post (nI m) f0 f1 f2 aB aT aR aA aS aF aO aP aH aC aW aE aG n 0 1 := by
  refine fq_loopC (P := fun s => m ≤ C s) (W := wX_frequent_18 post (nI m) f0 f1 f2 aB aT aR aA aS aF aO aP aH aC aW aE aG) ?_ ?_
  · intro n j c h1 h2 hp hn
    have hr := fq_rd hC h2
    have := hb j
    refine br_f (nI_ge (b := 256) h2 (by omega)) ⟨vp_in_nI h2 (by omega), ?_⟩
    rcases Nat.lt_or_ge (C j) m with z | z
    · exact br_t (by rw [hr]; exact nI_lt z (by omega)) (nm_r (nI_1 j) (hn (by omega)))
    · exact br_f (by rw [hr]; exact nI_nlt z (by omega)) (nm_r (nI_1 c) (nm_r (nI_1 j) (hp z)))
  · intro n
    exact br_t (nI_le (a := 256) (b := 256) (by omega) (by omega)) h
theorem fq_Xic14 {post : Int32 → Prop} (hC : ∀ s, s < 256 → aC s = nI (C s)) (hb : ∀ s, C s ≤ 20) (hs : s < 256) (hm : m ≤ C s) (h1 : fq_K1 C s m → post 1) (h0 : ¬ fq_K1 C s m → post 0) :
    ∀ d t, t + d = 8 → (∀ i, i < t → s.testBit i = false → C (s ||| 2 ^ i) ≠ C s) → wX_isClosed_14 post (nI s) f0 f1 f2 aB aT aR aA aS aF aO aP aH aC aW aE aG (d + 1) (nI t) := by
  intro d
  induction d with
  | zero =>
    intro t ht hi
    have e : t = 8 := by omega
    subst e
    exact br_t (nI_le (a := 8) (b := 8) (by omega) (by omega)) (h1 ⟨hm, hi⟩)
  | succ d ih =>
    intro t ht hi
    refine br_f (nI_ge (b := 8) (by omega) (by omega)) ?_
    cases hbt : s.testBit t
    · refine br_t ((fq_bit0 hs (by omega)).mpr hbt) ⟨fq_ino hs (by omega), vp_in_nI hs (by omega), ?_⟩
      have r1 := fq_rdo hC hs (t := t) (by omega)
      have r2 := fq_rd hC hs
      have b1 := hb s
      have b2 := hb (s ||| 2 ^ t)
      by_cases e : C (s ||| 2 ^ t) = C s
      · exact br_t (by rw [r1, r2, e]) (h0 (fun z => z.2 t (by omega) hbt e))
      · refine br_f (by rw [r1, r2, nI_eq (by omega) (by omega)]; exact e) (nm_r (nI_1 t) (ih (t + 1) (by omega) (fun i hi' hf => ?_)))
        by_cases ei : i = t
        · rw [ei]; exact e
        · exact hi i (by omega) hf
    · refine br_f (fun z => by rw [fq_bit0 hs (by omega), hbt] at z; exact nomatch z) (nm_r (nI_1 t) (ih (t + 1) (by omega) (fun i hi' hf => ?_)))
      by_cases ei : i = t
      · rw [ei, hbt] at hf; exact nomatch hf
      · exact hi i (by omega) hf
theorem fq_Xic {post : Int32 → Prop} (hC : ∀ s, s < 256 → aC s = nI (C s)) (hb : ∀ s, C s ≤ 20) (hs : s < 256) (hm : m ≤ 20) (h1 : fq_K1 C s m → post 1) (h0 : ¬ fq_K1 C s m → post 0) : wpX_isClosed post (f0, f1, f2, aB, aT, aR, aA, aS, aF, aO, aP, aH, aC, aW, aE, aG) (nI s) (nI m) := by
  have r2 := fq_rd hC hs
  have b1 := hb s
  refine And.intro (vp_in_nI hs (by omega)) ?_
  rcases Nat.lt_or_ge (C s) m with z | z
  · exact br_f (by rw [r2]; exact nI_ge z (by omega)) (h0 (fun q => by have := q.1; omega))
  · exact br_t (by rw [r2]; exact nI_le z (by omega)) ⟨9, fq_Xic14 hC hb hs z h1 h0 8 0 (by omega) (fun i hi => by omega)⟩
theorem fq_Xil14 {post : Int32 → Prop} (hC : ∀ s, s < 256 → aC s = nI (C s)) (hb : ∀ s, C s ≤ 20) (hs : s < 256) (hm20 : m ≤ 20) (hm : m ≤ C s) (h1 : fq_L1 C s m → post 1) (h0 : ¬ fq_L1 C s m → post 0) :
    ∀ d t, t + d = 8 → (∀ i, i < t → s.testBit i = false → C (s ||| 2 ^ i) < m) → wX_isLargest_14 post (nI s) (nI m) f0 f1 f2 aB aT aR aA aS aF aO aP aH aC aW aE aG (d + 1) (nI t) := by
  intro d
  induction d with
  | zero =>
    intro t ht hi
    have e : t = 8 := by omega
    subst e
    exact br_t (nI_le (a := 8) (b := 8) (by omega) (by omega)) (h1 ⟨hm, hi⟩)
  | succ d ih =>
    intro t ht hi
    refine br_f (nI_ge (b := 8) (by omega) (by omega)) ?_
    cases hbt : s.testBit t
    · refine br_t ((fq_bit0 hs (by omega)).mpr hbt) ⟨fq_ino hs (by omega), ?_⟩
      have r1 := fq_rdo hC hs (t := t) (by omega)
      have b2 := hb (s ||| 2 ^ t)
      rcases Nat.lt_or_ge (C (s ||| 2 ^ t)) m with e | e
      · refine br_t (by rw [r1]; exact nI_lt e (by omega)) (nm_r (nI_1 t) (ih (t + 1) (by omega) (fun i hi' hf => ?_)))
        by_cases ei : i = t
        · rw [ei]; exact e
        · exact hi i (by omega) hf
      · exact br_f (by rw [r1]; exact nI_nlt e (by omega)) (h0 (fun z => by have := z.2 t (by omega) hbt; omega))
    · refine br_f (fun z => by rw [fq_bit0 hs (by omega), hbt] at z; exact nomatch z) (nm_r (nI_1 t) (ih (t + 1) (by omega) (fun i hi' hf => ?_)))
      by_cases ei : i = t
      · rw [ei, hbt] at hf; exact nomatch hf
      · exact hi i (by omega) hf
theorem fq_Xil {post : Int32 → Prop} (hC : ∀ s, s < 256 → aC s = nI (C s)) (hb : ∀ s, C s ≤ 20) (hs : s < 256) (hm : m ≤ 20) (h1 : fq_L1 C s m → post 1) (h0 : ¬ fq_L1 C s m → post 0) : wpX_isLargest post (f0, f1, f2, aB, aT, aR, aA, aS, aF, aO, aP, aH, aC, aW, aE, aG) (nI s) (nI m) := by
  have r2 := fq_rd hC hs
  have b1 := hb s
  refine And.intro (vp_in_nI hs (by omega)) ?_
  rcases Nat.lt_or_ge (C s) m with z | z
  · exact br_f (by rw [r2]; exact nI_ge z (by omega)) (h0 (fun q => by have := q.1; omega))
  · exact br_t (by rw [r2]; exact nI_le z (by omega)) ⟨9, fq_Xil14 hC hb hs hm z h1 h0 8 0 (by omega) (fun i hi => by omega)⟩
theorem fq_Xcl {post : Int32 → SX → Prop} (hC : ∀ s, s < 256 → aC s = nI (C s)) (hb : ∀ s, C s ≤ 20) (hm : m ≤ 20) (h : post (nI (fq_cn (fun s => 1 ≤ s ∧ fq_K1 C s m) 256)) (f0, f1, f2, aB, aT, aR, aA, aS, aF, aO, aP, aH, aC, aW, aE, aG)) : ∃ n, wX_closed_18 post (nI m) f0 f1 f2 aB aT aR aA aS aF aO aP aH aC aW aE aG n 0 1 := by
  refine fq_loopC (P := fun s => fq_K1 C s m) (W := wX_closed_18 post (nI m) f0 f1 f2 aB aT aR aA aS aF aO aP aH aC aW aE aG) ?_ ?_
  · intro n j c h1 h2 hp hn
    refine br_f (nI_ge (b := 256) h2 (by omega)) (fq_Xic hC hb h2 hm (fun z => ?_) (fun z => ?_))
    · exact br_f (by decide) (nm_r (nI_1 c) (nm_r (nI_1 j) (hp z)))
    · exact br_t rfl (nm_r (nI_1 j) (hn z))
  · intro n
    exact br_t (nI_le (a := 256) (b := 256) (by omega) (by omega)) h
theorem fq_Xla {post : Int32 → SX → Prop} (hC : ∀ s, s < 256 → aC s = nI (C s)) (hb : ∀ s, C s ≤ 20) (hm : m ≤ 20) (h : post (nI (fq_cn (fun s => 1 ≤ s ∧ fq_L1 C s m) 256)) (f0, f1, f2, aB, aT, aR, aA, aS, aF, aO, aP, aH, aC, aW, aE, aG)) : ∃ n, wX_largest_18 post (nI m) f0 f1 f2 aB aT aR aA aS aF aO aP aH aC aW aE aG n 0 1 := by
  refine fq_loopC (P := fun s => fq_L1 C s m) (W := wX_largest_18 post (nI m) f0 f1 f2 aB aT aR aA aS aF aO aP aH aC aW aE aG) ?_ ?_
  · intro n j c h1 h2 hp hn
    refine br_f (nI_ge (b := 256) h2 (by omega)) (fq_Xil hC hb h2 hm (fun z => ?_) (fun z => ?_))
    · exact br_f (by decide) (nm_r (nI_1 c) (nm_r (nI_1 j) (hp z)))
    · exact br_t rfl (nm_r (nI_1 j) (hn z))
  · intro n
    exact br_t (nI_le (a := 256) (b := 256) (by omega) (by omega)) h
end
end
section
section
variable {g0 : Int32} {aB aC : Nat → Int32} {C : Nat → Nat} {m s : Nat}
theorem fq_Yfr {post : Int32 → SY → Prop} (hC : ∀ s, s < 256 → aC s = nI (C s)) (hb : ∀ s, C s ≤ 20) (hm : m ≤ 20) (h : post (nI (fq_cn (fun s => 1 ≤ s ∧ m ≤ C s) 256)) (g0, aB, aC)) : ∃ n, wY_frequent_18 post (nI m) g0 aB aC n 0 1 := by
  refine fq_loopC (P := fun s => m ≤ C s) (W := wY_frequent_18 post (nI m) g0 aB aC) ?_ ?_
  · intro n j c h1 h2 hp hn
    have hr := fq_rd hC h2
    have := hb j
    refine br_f (nI_ge (b := 256) h2 (by omega)) ⟨vp_in_nI h2 (by omega), ?_⟩
    rcases Nat.lt_or_ge (C j) m with z | z
    · exact br_t (by rw [hr]; exact nI_lt z (by omega)) (nm_r (nI_1 j) (hn (by omega)))
    · exact br_f (by rw [hr]; exact nI_nlt z (by omega)) (nm_r (nI_1 c) (nm_r (nI_1 j) (hp z)))
  · intro n
    exact br_t (nI_le (a := 256) (b := 256) (by omega) (by omega)) h
theorem fq_Yng2 {post : Int32 → Prop} {q : Nat} (hC : ∀ s, s < 256 → aC s = nI (C s)) (hb : ∀ s, C s ≤ 20) (hs : s < 256) (hq : q ≤ 20) (h1 : fq_NG C s q → post 1) (h0 : ¬ fq_NG C s q → post 0) :
    ∀ d b, b + d = 256 → 1 ≤ b → (∀ i, 1 ≤ i → i < b → i ≠ s → fq_S s i → C i < q) → wY_noGreater_2 post (nI s) (nI q) g0 aB aC (d + 1) (nI b) := by
  intro d
  induction d with
  | zero =>
    intro b hbd hb1 hi
    have e : b = 256 := by omega
    subst e
    exact br_t (nI_le (a := 256) (b := 256) (by omega) (by omega)) (h1 hi)
  | succ d ih =>
    intro b hbd hb1 hi
    refine br_f (nI_ge (b := 256) (by omega) (by omega)) ?_
    by_cases e : b = s
    · refine br_t (by rw [e]) (nm_r (nI_1 b) (ih (b + 1) (by omega) (by omega) (fun i i1 i2 i3 i4 => ?_)))
      exact hi i i1 (by omega) i3 i4
    · refine br_f (by rw [nI_eq (by omega) (by omega)]; exact e) ?_
      by_cases eS : fq_S s b
      · refine br_t ((fq_sub0 hs).mpr eS) ⟨vp_in_nI (by omega) (by omega), ?_⟩
        have hr := fq_rd hC (j := b) (by omega)
        have := hb b
        rcases Nat.lt_or_ge (C b) q with z | z
        · refine br_t (by rw [hr]; exact nI_lt z (by omega)) (nm_r (nI_1 b) (ih (b + 1) (by omega) (by omega) (fun i i1 i2 i3 i4 => ?_)))
          by_cases ei : i = b
          · rw [ei]; exact z
          · exact hi i i1 (by omega) i3 i4
        · exact br_f (by rw [hr]; exact nI_nlt z (by omega)) (h0 (fun k => by have := k b hb1 (by omega) e eS; omega))
      · refine br_f (fun z => eS ((fq_sub0 hs).mp z)) (nm_r (nI_1 b) (ih (b + 1) (by omega) (by omega) (fun i i1 i2 i3 i4 => ?_)))
        by_cases ei : i = b
        · rw [ei] at i4; exact absurd i4 eS
        · exact hi i i1 (by omega) i3 i4
theorem fq_Yng {post : Int32 → Prop} {q : Nat} (hC : ∀ s, s < 256 → aC s = nI (C s)) (hb : ∀ s, C s ≤ 20) (hs : s < 256) (hq : q ≤ 20) (h1 : fq_NG C s q → post 1) (h0 : ¬ fq_NG C s q → post 0) : wpY_noGreater post (g0, aB, aC) (nI s) (nI q) :=
  ⟨256, fq_Yng2 hC hb hs hq h1 h0 255 1 (by omega) (by omega) (fun i i1 i2 => by omega)⟩
theorem fq_Yic {post : Int32 → Prop} (hC : ∀ s, s < 256 → aC s = nI (C s)) (hb : ∀ s, C s ≤ 20) (hs : s < 256) (hm : m ≤ 20) (h1 : (m ≤ C s ∧ fq_NG C s (C s)) → post 1) (h0 : ¬ (m ≤ C s ∧ fq_NG C s (C s)) → post 0) : wpY_isClosed post (g0, aB, aC) (nI s) (nI m) := by
  have r2 := fq_rd hC hs
  have b1 := hb s
  refine And.intro (vp_in_nI hs (by omega)) ?_
  rcases Nat.lt_or_ge (C s) m with z | z
  · exact br_t (by rw [r2]; exact nI_lt z (by omega)) (h0 (fun q => by have := q.1; omega))
  · refine br_f (by rw [r2]; exact nI_nlt z (by omega)) ⟨vp_in_nI hs (by omega), ?_⟩
    rw [r2]
    refine fq_Yng hC hb hs b1 (fun k => ?_) (fun k => ?_)
    · exact br_f (by decide) (h1 ⟨z, k⟩)
    · exact br_t rfl (h0 (fun q => k q.2))
theorem fq_Ycl {post : Int32 → SY → Prop} (hC : ∀ s, s < 256 → aC s = nI (C s)) (hb : ∀ s, C s ≤ 20) (hA : fq_An C) (hm : m ≤ 20) (h : post (nI (fq_cn (fun s => 1 ≤ s ∧ fq_K1 C s m) 256)) (g0, aB, aC)) : ∃ n, wY_closed_18 post (nI m) g0 aB aC n 0 1 := by
  refine fq_loopC (P := fun s => fq_K1 C s m) (W := wY_closed_18 post (nI m) g0 aB aC) ?_ ?_
  · intro n j c h1 h2 hp hn
    refine br_f (nI_ge (b := 256) h2 (by omega)) (fq_Yic hC hb h2 hm (fun z => ?_) (fun z => ?_))
    · exact br_f (by decide) (nm_r (nI_1 c) (nm_r (nI_1 j) (hp ((fq_K_eq hA h1 h2).mpr z))))
    · exact br_t rfl (nm_r (nI_1 j) (hn (fun q => z ((fq_K_eq hA h1 h2).mp q))))
  · intro n
    exact br_t (nI_le (a := 256) (b := 256) (by omega) (by omega)) h
theorem fq_Yla {post : Int32 → SY → Prop} (hC : ∀ s, s < 256 → aC s = nI (C s)) (hb : ∀ s, C s ≤ 20) (hA : fq_An C) (hm : m ≤ 20) (h : post (nI (fq_cn (fun s => 1 ≤ s ∧ fq_L1 C s m) 256)) (g0, aB, aC)) : ∃ n, wY_largest_18 post (nI m) g0 aB aC n 0 1 := by
  refine fq_loopC (P := fun s => fq_L1 C s m) (W := wY_largest_18 post (nI m) g0 aB aC) ?_ ?_
  · intro n j c h1 h2 hp hn
    have r2 := fq_rd hC h2
    have b1 := hb j
    refine br_f (nI_ge (b := 256) h2 (by omega)) ⟨vp_in_nI h2 (by omega), ?_⟩
    rcases Nat.lt_or_ge (C j) m with z | z
    · exact br_t (by rw [r2]; exact nI_lt z (by omega)) (nm_r (nI_1 j) (hn (fun q => by have := q.1; omega)))
    · refine br_f (by rw [r2]; exact nI_nlt z (by omega)) (fq_Yng hC hb h2 hm (fun k => ?_) (fun k => ?_))
      · exact br_f (by decide) (nm_r (nI_1 c) (nm_r (nI_1 j) (hp ((fq_L_eq hA h1 h2).mpr ⟨z, k⟩))))
      · exact br_t rfl (nm_r (nI_1 j) (hn (fun q => k ((fq_L_eq hA h1 h2).mp q).2)))
  · intro n
    exact br_t (nI_le (a := 256) (b := 256) (by omega) (by omega)) h
end
/-! sizes, and the widest set -/
def fq_sz (s : Nat) : Nat → Nat
  | 0 => 0
  | t + 1 => fq_sz s t + (s.testBit t).toNat
theorem fq_sz_n (s : Nat) : ∀ t, fq_sz s t ≤ t := by
  intro t
  induction t with
  | zero => exact Nat.le_refl _
  | succ t ih =>
    have : (s.testBit t).toNat ≤ 1 := Bool.toNat_le _
    show fq_sz s t + (s.testBit t).toNat ≤ t + 1
    omega
def fq_wd (C : Nat → Nat) (m : Nat) : Nat → Nat
  | 0 => 0
  | j + 1 => if 1 ≤ j ∧ m ≤ C j ∧ fq_wd C m j < fq_sz j 8 then fq_sz j 8 else fq_wd C m j
theorem fq_wd_n (C : Nat → Nat) (m : Nat) : ∀ j, fq_wd C m j ≤ 8 := by
  intro j
  induction j with
  | zero => exact Nat.zero_le _
  | succ j ih =>
    show (if 1 ≤ j ∧ m ≤ C j ∧ fq_wd C m j < fq_sz j 8 then fq_sz j 8 else fq_wd C m j) ≤ 8
    have := fq_sz_n j 8
    split <;> omega
theorem fq_wd_t {C : Nat → Nat} {m j : Nat} (h1 : 1 ≤ j) (h2 : m ≤ C j) (h3 : fq_wd C m j < fq_sz j 8) : fq_wd C m (j + 1) = fq_sz j 8 := if_pos ⟨h1, h2, h3⟩
theorem fq_wd_f {C : Nat → Nat} {m j : Nat} (h : ¬ (1 ≤ j ∧ m ≤ C j ∧ fq_wd C m j < fq_sz j 8)) : fq_wd C m (j + 1) = fq_wd C m j := if_neg h
section
variable {f0 f1 f2 : Int32} {aB aT aR aA aS aF aO aP aH aC aW aE aG : Nat → Int32} {C : Nat → Nat} {m s : Nat}
theorem fq_Xsz4 {post : Int32 → Prop} (hs : s < 256) (h : post (nI (fq_sz s 8))) : ∀ d t, t + d = 8 → wX_sizeOf_4 post (nI s) f0 f1 f2 aB aT aR aA aS aF aO aP aH aC aW aE aG (d + 1) (nI (fq_sz s t)) (nI t) := by
  intro d
  induction d with
  | zero =>
    intro t ht
    have e : t = 8 := by omega
    subst e
    exact br_t (nI_le (a := 8) (b := 8) (by omega) (by omega)) h
  | succ d ih =>
    intro t ht
    refine br_f (nI_ge (b := 8) (by omega) (by omega)) (nm_r (e' := nI (fq_sz s (t + 1))) ?_ (nm_r (nI_1 t) (ih (t + 1) (by omega))))
    rw [fq_bit hs (by omega), nI_add]; rfl
theorem fq_Xsz {post : Int32 → Prop} (hs : s < 256) (h : post (nI (fq_sz s 8))) : wpX_sizeOf post (f0, f1, f2, aB, aT, aR, aA, aS, aF, aO, aP, aH, aC, aW, aE, aG) (nI s) := ⟨9, fq_Xsz4 hs h 8 0 (by omega)⟩
theorem fq_Ysz4 {g0 : Int32} {post : Int32 → Prop} (hs : s < 256) (h : post (nI (fq_sz s 8))) : ∀ d t, t + d = 8 → wY_sizeOf_4 post (nI s) g0 aB aC (d + 1) (nI (fq_sz s t)) (nI t) := by
  intro d
  induction d with
  | zero =>
    intro t ht
    have e : t = 8 := by omega
    subst e
    exact br_t (nI_le (a := 8) (b := 8) (by omega) (by omega)) h
  | succ d ih =>
    intro t ht
    refine br_f (nI_ge (b := 8) (by omega) (by omega)) (nm_r (e' := nI (fq_sz s (t + 1))) ?_ (nm_r (nI_1 t) (ih (t + 1) (by omega))))
    rw [fq_bit hs (by omega), nI_add]; rfl
theorem fq_Ysz {g0 : Int32} {post : Int32 → Prop} (hs : s < 256) (h : post (nI (fq_sz s 8))) : wpY_sizeOf post (g0, aB, aC) (nI s) := ⟨9, fq_Ysz4 hs h 8 0 (by omega)⟩
theorem fq_Xwd18 {post : Int32 → SX → Prop} (hC : ∀ s, s < 256 → aC s = nI (C s)) (hb : ∀ s, C s ≤ 20) (hm : m ≤ 20) (h : post (nI (fq_wd C m 256)) (f0, f1, f2, aB, aT, aR, aA, aS, aF, aO, aP, aH, aC, aW, aE, aG)) : ∀ d j, 1 ≤ j → j + d = 256 → wX_widest_18 post (nI m) f0 f1 f2 aB aT aR aA aS aF aO aP aH aC aW aE aG (d + 1) (nI (fq_wd C m j)) (nI j) := by
  intro d
  induction d with
  | zero =>
    intro j h1 hj
    have e : j = 256 := by omega
    subst e
    exact br_t (nI_le (a := 256) (b := 256) (by omega) (by omega)) h
  | succ d ih =>
    intro j h1 hj
    have k := ih (j + 1) (by omega) (by omega)
    have hr := fq_rd hC (j := j) (by omega)
    have := hb j
    have l1 := fq_wd_n C m j
    have l2 := fq_sz_n j 8
    refine br_f (nI_ge (b := 256) (by omega) (by omega)) (fq_Xsz (by omega) ⟨vp_in_nI (by omega) (by omega), ?_⟩)
    rcases Nat.lt_or_ge (C j) m with z | z
    · rw [fq_wd_f (fun q => by omega)] at k
      exact br_t (by rw [hr]; exact nI_lt z (by omega)) (nm_r (nI_1 j) k)
    · refine br_f (by rw [hr]; exact nI_nlt z (by omega)) ?_
      rcases Nat.lt_or_ge (fq_wd C m j) (fq_sz j 8) with y | y
      · rw [fq_wd_t h1 z y] at k
        exact br_f (nI_ge y (by omega)) (nm_r (nI_1 j) k)
      · rw [fq_wd_f (fun q => by omega)] at k
        exact br_t (nI_le y (by omega)) (nm_r (nI_1 j) k)
theorem fq_Xwd {post : Int32 → SX → Prop} (hC : ∀ s, s < 256 → aC s = nI (C s)) (hb : ∀ s, C s ≤ 20) (hm : m ≤ 20) (h : post (nI (fq_wd C m 256)) (f0, f1, f2, aB, aT, aR, aA, aS, aF, aO, aP, aH, aC, aW, aE, aG)) : ∃ n, wX_widest_18 post (nI m) f0 f1 f2 aB aT aR aA aS aF aO aP aH aC aW aE aG n 0 1 := by
  have k := fq_Xwd18 hC hb hm h 255 1 (by omega) (by omega)
  rw [fq_wd_f (j := 0) (fun q => by omega)] at k
  exact ⟨256, k⟩
theorem fq_Ywd18 {g0 : Int32} {post : Int32 → SY → Prop} (hC : ∀ s, s < 256 → aC s = nI (C s)) (hb : ∀ s, C s ≤ 20) (hm : m ≤ 20) (h : post (nI (fq_wd C m 256)) (g0, aB, aC)) : ∀ d j, 1 ≤ j → j + d = 256 → wY_widest_18 post (nI m) g0 aB aC (d + 1) (nI (fq_wd C m j)) (nI j) := by
  intro d
  induction d with
  | zero =>
    intro j h1 hj
    have e : j = 256 := by omega
    subst e
    exact br_t (nI_le (a := 256) (b := 256) (by omega) (by omega)) h
  | succ d ih =>
    intro j h1 hj
    have k := ih (j + 1) (by omega) (by omega)
    have hr := fq_rd hC (j := j) (by omega)
    have := hb j
    have l1 := fq_wd_n C m j
    have l2 := fq_sz_n j 8
    refine br_f (nI_ge (b := 256) (by omega) (by omega)) ⟨vp_in_nI (by omega) (by omega), ?_⟩
    rcases Nat.lt_or_ge (C j) m with z | z
    · rw [fq_wd_f (fun q => by omega)] at k
      exact br_t (by rw [hr]; exact nI_lt z (by omega)) (nm_r (nI_1 j) k)
    · refine br_f (by rw [hr]; exact nI_nlt z (by omega)) (fq_Ysz (by omega) ?_)
      rcases Nat.lt_or_ge (fq_wd C m j) (fq_sz j 8) with y | y
      · rw [fq_wd_t h1 z y] at k
        exact br_f (nI_ge y (by omega)) (fq_Ysz (by omega) (nm_r (nI_1 j) k))
      · rw [fq_wd_f (fun q => by omega)] at k
        exact br_t (nI_le y (by omega)) (nm_r (nI_1 j) k)
theorem fq_Ywd {g0 : Int32} {post : Int32 → SY → Prop} (hC : ∀ s, s < 256 → aC s = nI (C s)) (hb : ∀ s, C s ≤ 20) (hm : m ≤ 20) (h : post (nI (fq_wd C m 256)) (g0, aB, aC)) : ∃ n, wY_widest_18 post (nI m) g0 aB aC n 0 1 := by
  have k := fq_Ywd18 (g0 := g0) (aB := aB) hC hb hm h 255 1 (by omega) (by omega)
  rw [fq_wd_f (j := 0) (fun q => by omega)] at k
  exact ⟨256, k⟩
end
end
section
/-! closedSet, closure, companion -/
section
variable {f0 f1 f2 g0 : Int32} {aB aT aR aA aS aF aO aP aH aC aW aE aG bY cY : Nat → Int32} {C B : Nat → Nat} {m s n : Nat}
theorem fq_cs (hC : ∀ s, s < 256 → aC s = nI (C s)) (hb : ∀ s, C s ≤ 20) (hA : fq_An C) (hm : m ≤ 20) {q : Nat} (hq : q < 2 ^ 31) :
    ∀ d j c, 1 ≤ j → j + d = 256 → c ≤ q → ∃ r : Int32, (∀ post : Int32 → SX → Prop, post r (f0, f1, f2, aB, aT, aR, aA, aS, aF, aO, aP, aH, aC, aW, aE, aG) → wX_closedSet_19 post (nI m) f0 f1 f2 aB aT aR aA aS aF aO aP aH aC aW aE aG (d + 1) (nI (q - c)) (nI j)) ∧ (∀ (post : Int32 → SY → Prop) (g0 : Int32) (bY cY : Nat → Int32), (∀ s, s < 256 → cY s = nI (C s)) → post r (g0, bY, cY) → wY_closedSet_19 post (nI m) (nI q) g0 bY cY (d + 1) (nI c) (nI j)) := by
  intro d
  induction d with
  | zero =>
    intro j c h1 hj hc
    have e : j = 256 := by omega
    subst e
    exact ⟨-3, fun post h => br_t (nI_le (a := 256) (b := 256) (by omega) (by omega)) h, fun post g0 bY cY hY h => br_t (nI_le (a := 256) (b := 256) (by omega) (by omega)) h⟩
  | succ d ih =>
    intro j c h1 hj hc
    have hj2 : j < 256 := by omega
    by_cases K : fq_K1 C j m
    · have K' := (fq_K_eq hA h1 hj2).mp K
      by_cases e : c = q
      · refine ⟨nI j, fun post h => ?_, fun post g0 bY cY hY h => ?_⟩
        · refine br_f (nI_ge (b := 256) hj2 (by omega)) (br_f (nI_pos (by omega)) (fq_Xic hC hb hj2 hm (fun _ => ?_) (fun z => absurd K z)))
          exact br_f (by decide) (br_t (by rw [e, Nat.sub_self]; rfl) h)
        · refine br_f (nI_ge (b := 256) hj2 (by omega)) (fq_Yic hY hb hj2 hm (fun _ => ?_) (fun z => absurd K' z))
          exact br_f (by decide) (br_t (by rw [e]) h)
      · obtain ⟨r, hX, hYw⟩ := ih (j + 1) (c + 1) (by omega) (by omega) (by omega)
        refine ⟨r, fun post h => ?_, fun post g0 bY cY hY h => ?_⟩
        · refine br_f (nI_ge (b := 256) hj2 (by omega)) (br_f (nI_pos (by omega)) (fq_Xic hC hb hj2 hm (fun _ => ?_) (fun z => absurd K z)))
          refine br_f (by decide) (br_f (nI_ne0 (by omega) (by omega)) (nm_r (e' := nI (q - (c + 1))) ?_ (nm_r (nI_1 j) (hX post h))))
          rw [sb_m1 (by omega)]; rfl
        · refine br_f (nI_ge (b := 256) hj2 (by omega)) (fq_Yic hY hb hj2 hm (fun _ => ?_) (fun z => absurd K' z))
          exact br_f (by decide) (br_f (by rw [nI_eq (by omega) (by omega)]; exact e) (nm_r (nI_1 c) (nm_r (nI_1 j) (hYw post g0 bY cY hY h))))
    · have K' := fun z => K ((fq_K_eq hA h1 hj2).mpr z)
      obtain ⟨r, hX, hYw⟩ := ih (j + 1) c (by omega) (by omega) (by omega)
      refine ⟨r, fun post h => ?_, fun post g0 bY cY hY h => ?_⟩
      · refine br_f (nI_ge (b := 256) hj2 (by omega)) (br_f (nI_pos (by omega)) (fq_Xic hC hb hj2 hm (fun z => absurd z K) (fun _ => ?_)))
        exact br_t rfl (nm_r (nI_1 j) (hX post h))
      · refine br_f (nI_ge (b := 256) hj2 (by omega)) (fq_Yic hY hb hj2 hm (fun z => absurd z K') (fun _ => ?_))
        exact br_t rfl (nm_r (nI_1 j) (hYw post g0 bY cY hY h))
theorem fq_csN {k : Int32} (hk : k < 0) (hY : ∀ s, s < 256 → cY s = nI (C s)) (hb : ∀ s, C s ≤ 20) (hm : m ≤ 20) {post : Int32 → SY → Prop} (h : post (-3) (g0, bY, cY)) :
    ∀ d j c, c ≤ j → j + d = 256 → wY_closedSet_19 post (nI m) k g0 bY cY (d + 1) (nI c) (nI j) := by
  intro d
  induction d with
  | zero =>
    intro j c h1 hj
    have e : j = 256 := by omega
    subst e
    exact br_t (nI_le (a := 256) (b := 256) (by omega) (by omega)) h
  | succ d ih =>
    intro j c h1 hj
    have hj2 : j < 256 := by omega
    refine br_f (nI_ge (b := 256) hj2 (by omega)) (fq_Yic hY hb hj2 hm (fun _ => ?_) (fun _ => ?_))
    · refine br_f (by decide) (br_f (fun e => ?_) (nm_r (nI_1 c) (nm_r (nI_1 j) (ih (j + 1) (c + 1) (by omega) (by omega)))))
      rw [← e] at hk
      exact nI_pos (by omega) hk
    · exact br_t rfl (nm_r (nI_1 j) (ih (j + 1) c (by omega) (by omega)))
theorem fq_Xcu30 {post : Int32 → SX → Prop} (hC : ∀ s, s < 256 → aC s = nI (C s)) (hb : ∀ s, C s ≤ 20) (hs : s < 256)
    (h : ∀ w, w < 256 → (∀ i, i < 8 → (w.testBit i = true ↔ s.testBit i = true ∨ C (s ||| 2 ^ i) = C s)) → post (nI w) (f0, f1, f2, aB, aT, aR, aA, aS, aF, aO, aP, aH, aC, aW, aE, aG)) :
    ∀ d t w, t + d = 8 → w < 256 → (∀ i, i < 8 → (w.testBit i = true ↔ s.testBit i = true ∨ (i < t ∧ C (s ||| 2 ^ i) = C s))) → wX_closure_30 post (nI s) f0 f1 f2 aB aT aR aA aS aF aO aP aH aC aW aE aG (d + 1) (nI w) (nI t) := by
  intro d
  induction d with
  | zero =>
    intro t w ht hw hi
    have e : t = 8 := by omega
    subst e
    refine br_t (nI_le (a := 8) (b := 8) (by omega) (by omega)) (h w hw (fun i hi8 => ?_))
    rw [hi i hi8]
    exact ⟨fun z => z.imp id (fun y => y.2), fun z => z.imp id (fun y => ⟨hi8, y⟩)⟩
  | succ d ih =>
    intro t w ht hw hi
    have ht8 : t < 8 := by omega
    refine br_f (nI_ge (b := 8) ht8 (by omega)) ⟨fq_ino hs ht8, vp_in_nI hs (by omega), ?_⟩
    have r1 := fq_rdo hC hs ht8
    have r2 := fq_rd hC hs
    have b1 := hb s
    have b2 := hb (s ||| 2 ^ t)
    by_cases e : C (s ||| 2 ^ t) = C s
    · refine br_t (by rw [r1, r2, e]) (nm_r (fq_or ht8) (nm_r (nI_1 t) (ih (t + 1) _ (by omega) (fq_ol hw ht8) (fun i hi8 => ?_))))
      rw [fq_ob]
      by_cases et : t = i
      · subst et
        simp [e]
      · have h2 := hi i hi8
        have h3 : i < t + 1 ↔ i < t := by omega
        rw [h3]
        simpa [et] using h2
    · refine br_f (by rw [r1, r2, nI_eq (by omega) (by omega)]; exact e) (nm_r (nI_1 t) (ih (t + 1) _ (by omega) hw (fun i hi8 => ?_)))
      rw [hi i hi8]
      by_cases et : t = i
      · subst et
        exact ⟨fun z => z.imp id (fun y => by omega), fun z => z.imp id (fun y => absurd y.2 e)⟩
      · exact ⟨fun z => z.imp id (fun y => ⟨by omega, y.2⟩), fun z => z.imp id (fun y => ⟨by omega, y.2⟩)⟩
theorem fq_Ycu19 {post : Int32 → Prop} (hn : n ≤ 20) (hB : ∀ k, aB k = nI (B k)) (hs : s < 256)
    (h0 : (∀ k, k < n → ¬ fq_S s (B k)) → post (-3))
    (h1 : ∀ w, w < 256 → (∃ k, k < n ∧ fq_S s (B k)) → (∀ i, i < 8 → (w.testBit i = true ↔ ∀ k, k < n → fq_S s (B k) → (B k).testBit i = true)) → post (nI w)) :
    ∀ d j w (x3 : Int32), j + d = n → w < 256 → ((x3 = 0 ∧ ∀ k, k < j → ¬ fq_S s (B k)) ∨ (x3 = 1 ∧ ∃ k, k < j ∧ fq_S s (B k))) →
      (∀ i, i < 8 → (w.testBit i = true ↔ ∀ k, k < j → fq_S s (B k) → (B k).testBit i = true)) → wY_closure_19 post (nI s) (nI n) aB cY (d + 1) (nI w) x3 (nI j) := by
  intro d
  induction d with
  | zero =>
    intro j w x3 hj hw hx hi
    have e : j = n := by omega
    subst e
    refine br_t (nI_le (Nat.le_refl _) (by omega)) ?_
    rcases hx with ⟨e, hx⟩ | ⟨e, hx⟩
    · exact br_t e (h0 hx)
    · exact br_f (by rw [e]; decide) (h1 w hw hx hi)
  | succ d ih =>
    intro j w x3 hj hw hx hi
    have hr : aB (nI j).toNatClampNeg = nI (B j) := by rw [fq_ic (by omega), hB]
    have hc : (nI s &&& (aB (nI j).toNatClampNeg ^^^ (-1))) = 0 ↔ fq_S s (B j) := by rw [hr]; exact fq_sub0 hs
    refine br_f (nI_ge (by omega) (by omega)) ⟨vp_in_nI (by omega) (by omega), ?_⟩
    by_cases hS : fq_S s (B j)
    · refine br_t (hc.mpr hS) ⟨vp_in_nI (by omega) (by omega), nm_r (e' := nI (w &&& B j)) (by rw [hr, nx_and]) (nm_r (nI_1 j) (ih (j + 1) _ 1 (by omega) ?_ (Or.inr ⟨rfl, j, by omega, hS⟩) ?_))⟩
      · exact Nat.lt_of_le_of_lt Nat.and_le_left hw
      · intro i hi8
        rw [Nat.testBit_and, Bool.and_eq_true, hi i hi8]
        constructor
        · intro z k hk hSk
          by_cases e : k = j
          · rw [e]; exact z.2
          · exact z.1 k (by omega) hSk
        · intro z
          exact ⟨fun k hk => z k (by omega), z j (by omega) hS⟩
    · refine br_f (fun z => hS (hc.mp z)) (nm_r (nI_1 j) (ih (j + 1) _ _ (by omega) hw ?_ ?_))
      · rcases hx with ⟨e, hx⟩ | ⟨e, k, hk, hx⟩
        · refine Or.inl ⟨e, fun k hk => ?_⟩
          by_cases ek : k = j
          · rw [ek]; exact hS
          · exact hx k (by omega)
        · exact Or.inr ⟨e, k, by omega, hx⟩
      · intro i hi8
        rw [hi i hi8]
        constructor
        · intro z k hk hSk
          by_cases e : k = j
          · rw [e] at hSk; exact absurd hSk hS
          · exact z k (by omega) hSk
        · intro z k hk
          exact z k (by omega)
theorem fq_cu_eq {i : Nat} (hi : i < 8) : (s.testBit i = true ∨ fq_c B n (s ||| 2 ^ i) = fq_c B n s) ↔ ∀ k, k < n → fq_S s (B k) → (B k).testBit i = true := by
  constructor
  · intro h k hk hS
    rcases h with h | h
    · exact hS i hi h
    · exact ((fq_S_o hi).mp (fq_cn_eq (P := fun k => fq_S (s ||| 2 ^ i) (B k)) (Q := fun k => fq_S s (B k)) (fun k _ z => ((fq_S_o hi).mp z).1) h k hk hS)).2
  · intro h
    refine Or.inr (fq_cn_congr (fun k hk => ?_))
    exact ⟨fun z => ((fq_S_o hi).mp z).1, fun z => (fq_S_o hi).mpr ⟨z, h k hk z⟩⟩
theorem fq_and7 : ∀ b, b < 8 → nI b &&& 7 = nI b := by decide +kernel
theorem fq_co (hC : ∀ s, s < 256 → aC s = nI (C s)) (hb : ∀ s, C s ≤ 20) (hs : s < 255) :
    ∀ d t (xb xm yb : Int32), t + d = 8 → ((xb = -3 ∧ xm = -1 ∧ yb = -1 ∧ ∀ i, i < t → s.testBit i = true) ∨ (∃ b, b < 8 ∧ xb = nI b ∧ yb = nI b ∧ xm = nI (C (s ||| 2 ^ b)))) →
      ∃ r : Int32, (∀ post : Int32 → SX → Prop, post r (f0, f1, f2, aB, aT, aR, aA, aS, aF, aO, aP, aH, aC, aW, aE, aG) → wX_companion_45 post (nI s) f0 f1 f2 aB aT aR aA aS aF aO aP aH aC aW aE aG (d + 1) xb xm (nI t)) ∧ (∀ (post : Int32 → SY → Prop) (g0 : Int32) (bY cY : Nat → Int32), (∀ s, s < 256 → cY s = nI (C s)) → post r (g0, bY, cY) → wY_companion_41 post (nI s) g0 bY cY (d + 1) yb (nI t)) := by
  intro d
  have hs' : s < 256 := by omega
  induction d with
  | zero =>
    intro t xb xm yb ht h
    have e : t = 8 := by omega
    subst e
    rcases h with ⟨_, _, _, h⟩ | ⟨b, hb8, rfl, rfl, rfl⟩
    · exfalso
      have : s = 255 := fq_ext hs' (by omega) (fun i hi => by rw [h i hi]; exact ((by decide : ∀ i, i < 8 → true = Nat.testBit 255 i) i hi))
      omega
    · exact ⟨nI b, fun post h => br_t (nI_le (a := 8) (b := 8) (by omega) (by omega)) h, fun post g0 bY cY hY h => br_t (nI_le (a := 8) (b := 8) (by omega) (by omega)) h⟩
  | succ d ih =>
    intro t xb xm yb ht h
    have ht8 : t < 8 := by omega
    have g8 := nI_ge (b := 8) ht8 (by omega)
    cases hbt : s.testBit t
    · have c0 := (fq_bit0 hs' ht8).mpr hbt
      have r1 := fq_rdo hC hs' ht8
      have b1 := hb (s ||| 2 ^ t)
      rcases h with ⟨rfl, rfl, rfl, h⟩ | ⟨b, hb8, rfl, rfl, rfl⟩
      · obtain ⟨r, hX, hYw⟩ := ih (t + 1) (nI t) (nI (C (s ||| 2 ^ t))) (nI t) (by omega) (Or.inr ⟨t, ht8, rfl, rfl, rfl⟩)
        refine ⟨r, fun post h => ?_, fun post g0 bY cY hY h => ?_⟩
        · refine br_f g8 (br_t c0 ⟨fq_ino hs' ht8, br_t ?_ ⟨fq_ino hs' ht8, nm_r r1 (nm_r (nI_1 t) (hX post h))⟩⟩)
          rw [r1, Int32.lt_iff_toInt_lt, nI_toInt (by omega), show (-1 : Int32).toInt = -1 by decide]
          omega
        · exact br_f g8 (br_t c0 (br_f (by decide) (br_t (by decide) (nm_r (nI_1 t) (hYw post g0 bY cY hY h)))))
      · have b2 := hb (s ||| 2 ^ b)
        have a7 := fq_and7 b hb8
        rcases Nat.lt_or_ge (C (s ||| 2 ^ b)) (C (s ||| 2 ^ t)) with z | z
        · obtain ⟨r, hX, hYw⟩ := ih (t + 1) (nI t) (nI (C (s ||| 2 ^ t))) (nI t) (by omega) (Or.inr ⟨t, ht8, rfl, rfl, rfl⟩)
          refine ⟨r, fun post h => ?_, fun post g0 bY cY hY h => ?_⟩
          · exact br_f g8 (br_t c0 ⟨fq_ino hs' ht8, br_t (by rw [r1]; exact nI_lt z (by omega)) ⟨fq_ino hs' ht8, nm_r r1 (nm_r (nI_1 t) (hX post h))⟩⟩)
          · refine br_f g8 (br_t c0 (br_f (by decide) (br_f (nI_pos (by omega)) ⟨fq_ino hs' ht8, by rw [a7]; exact fq_ino hs' hb8, br_f ?_ (nm_r (nI_1 t) (hYw post g0 bY cY hY h))⟩)))
            rw [a7, fq_rdo hY hs' ht8, fq_rdo hY hs' hb8]; exact nI_ge z (by omega)
        · obtain ⟨r, hX, hYw⟩ := ih (t + 1) (nI b) (nI (C (s ||| 2 ^ b))) (nI b) (by omega) (Or.inr ⟨b, hb8, rfl, rfl, rfl⟩)
          refine ⟨r, fun post h => ?_, fun post g0 bY cY hY h => ?_⟩
          · exact br_f g8 (br_t c0 ⟨fq_ino hs' ht8, br_f (by rw [r1]; exact nI_nlt z (by omega)) (nm_r (nI_1 t) (hX post h))⟩)
          · refine br_f g8 (br_t c0 (br_f (by decide) (br_f (nI_pos (by omega)) ⟨fq_ino hs' ht8, by rw [a7]; exact fq_ino hs' hb8, br_t ?_ (nm_r (nI_1 t) (hYw post g0 bY cY hY h))⟩)))
            rw [a7, fq_rdo hY hs' ht8, fq_rdo hY hs' hb8]; exact nI_le z (by omega)
    · have c0 : ¬ (nI s >>> (nI t &&& 31)) &&& 1 = 0 := fun z => by rw [fq_bit0 hs' ht8, hbt] at z; exact nomatch z
      obtain ⟨r, hX, hYw⟩ := ih (t + 1) xb xm yb (by omega) (h.imp (fun q => ⟨q.1, q.2.1, q.2.2.1, fun i hi => by
        by_cases e : i = t
        · rw [e]; exact hbt
        · exact q.2.2.2 i (by omega)⟩) id)
      exact ⟨r, fun post h => br_f g8 (br_f c0 (nm_r (nI_1 t) (hX post h))), fun post g0 bY cY hY h => br_f g8 (br_f c0 (br_t rfl (nm_r (nI_1 t) (hYw post g0 bY cY hY h))))⟩
end
end
section
/-! sums, and the rules counted in two ways -/
def fq_sm (f : Nat → Nat) : Nat → Nat
  | 0 => 0
  | n + 1 => fq_sm f n + f n
theorem fq_sm_congr {f g : Nat → Nat} {n : Nat} : (∀ k, k < n → f k = g k) → fq_sm f n = fq_sm g n := by
  induction n with
  | zero => intro _; rfl
  | succ n ih =>
    intro h
    show fq_sm f n + f n = fq_sm g n + g n
    rw [ih (fun k hk => h k (by omega)), h n (by omega)]
theorem fq_sm_add (f g : Nat → Nat) (n : Nat) : fq_sm (fun k => f k + g k) n = fq_sm f n + fq_sm g n := by
  induction n with
  | zero => rfl
  | succ n ih =>
    show fq_sm (fun k => f k + g k) n + (f n + g n) = (fq_sm f n + f n) + (fq_sm g n + g n)
    rw [ih]; omega
theorem fq_sm_0 {f : Nat → Nat} {n : Nat} (h : ∀ k, k < n → f k = 0) : fq_sm f n = 0 := by
  induction n with
  | zero => rfl
  | succ n ih =>
    show fq_sm f n + f n = 0
    rw [ih (fun k hk => h k (by omega)), h n (by omega)]
theorem fq_sm_swap (F : Nat → Nat → Nat) (n m : Nat) : fq_sm (fun i => fq_sm (fun j => F i j) m) n = fq_sm (fun j => fq_sm (fun i => F i j) n) m := by
  induction n with
  | zero => exact (fq_sm_0 (fun _ _ => rfl)).symm
  | succ n ih =>
    show fq_sm (fun i => fq_sm (fun j => F i j) m) n + fq_sm (fun j => F n j) m = fq_sm (fun j => fq_sm (fun i => F i j) n + F n j) m
    rw [ih, fq_sm_add]
theorem fq_sm_one {f : Nat → Nat} {n a : Nat} (ha : a < n) (h : ∀ k, k < n → k ≠ a → f k = 0) : fq_sm f n = f a := by
  induction n with
  | zero => omega
  | succ n ih =>
    show fq_sm f n + f n = f a
    by_cases e : a = n
    · subst e
      rw [fq_sm_0 (fun k hk => h k (by omega) (by omega))]; omega
    · rw [ih (by omega) (fun k hk => h k (by omega)), h n (by omega) (fun z => e z.symm)]
      rfl
theorem fq_sm_re {f σ : Nat → Nat} {n : Nat} (h1 : ∀ k, k < n → σ k < n) (h2 : ∀ k, k < n → σ (σ k) = k) : fq_sm (fun k => f (σ k)) n = fq_sm f n := by
  have a : fq_sm (fun k => f (σ k)) n = fq_sm (fun k => fq_sm (fun j => if j = σ k then f j else 0) n) n := by
    apply fq_sm_congr
    intro k hk
    rw [fq_sm_one (h1 k hk) (fun j _ hne => if_neg hne), if_pos rfl]
  rw [a, fq_sm_swap]
  apply fq_sm_congr
  intro j hj
  rw [fq_sm_one (h1 j hj) (fun k hk hne => if_neg (fun e => hne (by rw [e, h2 k hk]))), if_pos (h2 j hj).symm]
theorem fq_cn_sm (P : Nat → Prop) (n : Nat) : fq_cn P n = fq_sm (fun k => fq_i (P k)) n := by
  induction n with
  | zero => rfl
  | succ n ih =>
    show fq_cn P n + _ = fq_sm _ n + _
    rw [ih]
theorem fq_cn_gap {P : Nat → Prop} {a b : Nat} (hab : a ≤ b) : (∀ k, a ≤ k → k < b → ¬ P k) → fq_cn P b = fq_cn P a := by
  induction b with
  | zero => intro _; have e : a = 0 := by omega
            rw [e]
  | succ b ih =>
    intro h
    by_cases e : a = b + 1
    · rw [e]
    · rw [fq_cn_f (h b (by omega) (by omega)), ih (by omega) (fun k h1 h2 => h k h1 (by omega))]
theorem fq_pred : ∀ (n q p s : Nat), q ≤ n → p &&& s = p → q &&& s = q → p < q → p ≤ (q - 1) &&& s := by
  intro n
  induction n with
  | zero => intro q p s hn _ _ h; omega
  | succ n ih =>
    intro q p s hn hp hq h
    have e1 : ((q - 1) &&& s) / 2 = (q - 1) / 2 &&& s / 2 := Nat.and_div_two
    have e2 : (q &&& s) / 2 = q / 2 &&& s / 2 := Nat.and_div_two
    have e3 : (p &&& s) / 2 = p / 2 &&& s / 2 := Nat.and_div_two
    rw [hq] at e2
    rw [hp] at e3
    rcases Nat.mod_two_eq_zero_or_one q with z | z
    · have e4 : (q - 1) / 2 = q / 2 - 1 := by omega
      have k := ih (q / 2) (p / 2) (s / 2) (by omega) e3.symm e2.symm (by omega)
      rw [← e4, ← e1] at k
      have m1 : p % 2 = 1 → ((q - 1) &&& s) % 2 = 1 := by
        intro y
        rw [← hp, Nat.and_mod_two_eq_one] at y
        rw [Nat.and_mod_two_eq_one]
        exact ⟨by omega, y.2⟩
      omega
    · have e4 : (q - 1) / 2 = q / 2 := by omega
      rw [e4, ← e2] at e1
      omega
theorem fq_S_and {p s : Nat} (hp : p < 256) : fq_S p s ↔ p &&& s = p := by
  constructor
  · intro h
    apply Nat.eq_of_testBit_eq; intro i
    rw [Nat.testBit_and]
    rcases Nat.lt_or_ge i 8 with z | z
    · cases e : p.testBit i
      · rfl
      · rw [h i z e]; rfl
    · rw [fq_hi hp z]; rfl
  · intro h t ht e
    rw [← h, Nat.testBit_and, Bool.and_eq_true] at e
    exact e.2
def fq_rX (C : Nat → Nat) (m pc s p : Nat) : Prop := 1 ≤ s ∧ m ≤ C s ∧ 1 ≤ p ∧ p ≠ s ∧ fq_S p s ∧ pc * C p ≤ 100 * C s
def fq_rY (C : Nat → Nat) (m pc f g : Nat) : Prop := 1 ≤ f ∧ 1 ≤ g ∧ f &&& g = 0 ∧ m ≤ C (f ||| g) ∧ pc * C f ≤ 100 * C (f ||| g)
theorem fq_xor0 {s p : Nat} (h : s ^^^ p = 0) : s = p := by
  apply Nat.eq_of_testBit_eq; intro i
  have e : (s ^^^ p).testBit i = false := by rw [h, Nat.zero_testBit]
  rw [Nat.testBit_xor] at e
  revert e; cases s.testBit i <;> cases p.testBit i <;> simp
theorem fq_rXY {C : Nat → Nat} {m pc s p : Nat} (hs : s < 256) (hp : p < 256) : fq_rX C m pc s p ↔ fq_rY C m pc p (s ^^^ p) := by
  have o : fq_S p s → p ||| (s ^^^ p) = s := by
    intro h
    apply fq_ext (Nat.or_lt_two_pow (n := 8) hp (Nat.xor_lt_two_pow (n := 8) hs hp)) hs
    intro t ht
    have := h t ht
    rw [Nat.testBit_or, Nat.testBit_xor]
    revert this; cases s.testBit t <;> cases p.testBit t <;> simp
  have a : fq_S p s → p &&& (s ^^^ p) = 0 := by
    intro h
    apply fq_ext (Nat.lt_of_le_of_lt Nat.and_le_left hp) (by omega)
    intro t ht
    have := h t ht
    rw [Nat.testBit_and, Nat.testBit_xor, Nat.zero_testBit]
    revert this; cases s.testBit t <;> cases p.testBit t <;> simp
  have a' : p &&& (s ^^^ p) = 0 → fq_S p s := by
    intro h t ht e
    have k : (p &&& (s ^^^ p)).testBit t = false := by rw [h, Nat.zero_testBit]
    rw [Nat.testBit_and, Nat.testBit_xor, e] at k
    revert k; cases s.testBit t <;> simp
  constructor
  · intro ⟨h1, h2, h3, h4, h5, h6⟩
    refine ⟨h3, ?_, a h5, by rw [o h5]; exact h2, by rw [o h5]; exact h6⟩
    rcases Nat.eq_zero_or_pos (s ^^^ p) with z | z
    · exact absurd (fq_xor0 z).symm h4
    · exact z
  · intro ⟨h1, h2, h3, h4, h5⟩
    have hS := a' h3
    rw [o hS] at h4 h5
    refine ⟨?_, h4, h1, fun e => ?_, hS, h5⟩
    · have k : p &&& s ≤ s := Nat.and_le_right
      rw [(fq_S_and hp).mp hS] at k
      omega
    · rw [e, Nat.xor_self] at h2
      omega
theorem fq_rules (C : Nat → Nat) (m pc : Nat) : fq_sm (fun s => fq_cn (fun p => fq_rX C m pc s p) 256) 256 = fq_sm (fun f => fq_cn (fun g => fq_rY C m pc f g) 256) 256 := by
  have e1 : fq_sm (fun s => fq_cn (fun p => fq_rX C m pc s p) 256) 256 = fq_sm (fun s => fq_sm (fun p => fq_i (fq_rX C m pc s p)) 256) 256 := fq_sm_congr (fun s _ => fq_cn_sm _ _)
  have e2 : fq_sm (fun f => fq_cn (fun g => fq_rY C m pc f g) 256) 256 = fq_sm (fun f => fq_sm (fun g => fq_i (fq_rY C m pc f g)) 256) 256 := fq_sm_congr (fun s _ => fq_cn_sm _ _)
  rw [e1, e2, fq_sm_swap]
  apply fq_sm_congr
  intro p hp
  rw [← fq_sm_re (f := fun g => fq_i (fq_rY C m pc p g)) (σ := fun g => g ^^^ p) (fun k hk => Nat.xor_lt_two_pow (n := 8) hk hp) (fun k _ => by rw [Nat.xor_assoc, Nat.xor_self, Nat.xor_zero])]
  apply fq_sm_congr
  intro s hs
  exact fq_i_c (fq_rXY hs hp)
section
variable {f0 f1 f2 g0 : Int32} {aB aT aR aA aS aF aO aP aH aC aW aE aG bY cY : Nat → Int32} {C : Nat → Nat} {m pc : Nat}
theorem fq_mul100 (a : Nat) : 100 * nI a = nI (100 * a) := pk_mul 100 a
theorem fq_Xru60 {post : Int32 → SX → Prop} {J : Int32 → Int32 → Prop} {s c : Nat} (hC : ∀ s, s < 256 → aC s = nI (C s)) (hb : ∀ s, C s ≤ 20) (hs : s < 256) (h1 : 1 ≤ s) (hm : m ≤ C s) (hpc : pc ≤ 100)
    (h : J (nI (c + fq_cn (fun p => fq_rX C m pc s p) 256)) (nI (s + 1))) :
    ∀ d q c', q < d → q < s → fq_S q s → c' + fq_cn (fun p => fq_rX C m pc s p) (q + 1) = c + fq_cn (fun p => fq_rX C m pc s p) 256 → wX_rules_60 post J (nI m) (nI pc) (nI s) f0 f1 f2 aB aT aR aA aS aF aO aP aH aC aW aE aG d (nI c') (nI q) := by
  intro d
  induction d with
  | zero => intro q c' h; omega
  | succ d ih =>
    intro q c' hd hq hS hc
    rcases Nat.eq_zero_or_pos q with z | z
    · subst z
      rw [fq_cn_f (P := fun p => fq_rX C m pc s p) (n := 0) (fun y => by have := y.2.2.1; omega)] at hc
      have hc0 : c' = c + fq_cn (fun p => fq_rX C m pc s p) 256 := hc
      rw [hc0]
      exact br_t (nI_le (a := 0) (b := 0) (by omega) (by omega)) (nm_r (nI_1 s) h)
    · have r1 := fq_rd hC hs
      have r2 := fq_rd hC (j := q) (by omega)
      have b1 := hb s
      have b2 := hb q
      have b3 : pc * C q ≤ 100 * 20 := Nat.mul_le_mul hpc b2
      have hq256 : q < 256 := by omega
      have qs := (fq_S_and hq256).mp hS
      have np : nI q - 1 = nI (q - 1) := by rw [show (1 : Int32) = nI 1 from rfl, pk_sub (by omega)]
      have nx : (nI q - 1) &&& nI s = nI ((q - 1) &&& s) := by rw [np, nx_and]
      have l1 : (q - 1) &&& s ≤ q - 1 := Nat.and_le_left
      have l2 : fq_S ((q - 1) &&& s) s := fun t _ e => by rw [Nat.testBit_and, Bool.and_eq_true] at e; exact e.2
      have gp : fq_cn (fun p => fq_rX C m pc s p) q = fq_cn (fun p => fq_rX C m pc s p) (((q - 1) &&& s) + 1) := by
        apply fq_cn_gap (by omega)
        intro k k1 k2 y
        have k3 := fq_pred q q k s (Nat.le_refl _) ((fq_S_and (by omega)).mp y.2.2.2.2.1) qs k2
        omega
      refine br_f (nI_ge (a := 0) z (by omega)) ⟨vp_in_nI hs (by omega), vp_in_nI hq256 (by omega), ?_⟩
      rcases Nat.lt_or_ge (100 * C s) (pc * C q) with y | y
      · refine br_t (by rw [r1, r2, fq_mul100, pk_mul]; exact nI_lt y (by omega)) (nm_r nx (ih _ _ (by omega) (by omega) l2 ?_))
        rw [fq_cn_f (P := fun p => fq_rX C m pc s p) (fun x => by have := x.2.2.2.2.2; omega)] at hc
        rw [← gp]; exact hc
      · refine br_f (by rw [r1, r2, fq_mul100, pk_mul]; exact nI_nlt y (by omega)) (nm_r (nI_1 c') (nm_r nx (ih _ _ (by omega) (by omega) l2 ?_)))
        rw [fq_cn_t (P := fun p => fq_rX C m pc s p) ⟨h1, hm, z, by omega, hS, y⟩] at hc
        rw [← gp]; omega
theorem fq_Xru29 {post : Int32 → SX → Prop} (hC : ∀ s, s < 256 → aC s = nI (C s)) (hb : ∀ s, C s ≤ 20) (hm : m ≤ 20) (hpc : pc ≤ 100) (h : post (nI (fq_sm (fun s => fq_cn (fun p => fq_rX C m pc s p) 256) 256)) (f0, f1, f2, aB, aT, aR, aA, aS, aF, aO, aP, aH, aC, aW, aE, aG)) :
    ∀ d s, 1 ≤ s → s + d = 256 → wX_rules_29 post (nI m) (nI pc) f0 f1 f2 aB aT aR aA aS aF aO aP aH aC aW aE aG (d + 1) (nI (fq_sm (fun s => fq_cn (fun p => fq_rX C m pc s p) 256) s)) (nI s) := by
  intro d
  induction d with
  | zero =>
    intro s h1 hs
    have e : s = 256 := by omega
    subst e
    exact br_t (nI_le (a := 256) (b := 256) (by omega) (by omega)) h
  | succ d ih =>
    intro s h1 hs
    have k := ih (s + 1) (by omega) (by omega)
    have hs2 : s < 256 := by omega
    have r1 := fq_rd hC hs2
    have b1 := hb s
    refine br_f (nI_ge (b := 256) hs2 (by omega)) ⟨vp_in_nI hs2 (by omega), ?_⟩
    rcases Nat.lt_or_ge (C s) m with z | z
    · refine br_f (by rw [r1]; exact nI_ge z (by omega)) (nm_r (nI_1 s) ?_)
      have e : fq_sm (fun s => fq_cn (fun p => fq_rX C m pc s p) 256) (s + 1) = fq_sm (fun s => fq_cn (fun p => fq_rX C m pc s p) 256) s := by
        show _ + fq_cn (fun p => fq_rX C m pc s p) 256 = _
        rw [fq_cn_0 (fun p _ y => by have := y.2.1; omega), Nat.add_zero]
      rw [e] at k
      exact k
    · have np : nI s - 1 = nI (s - 1) := by rw [show (1 : Int32) = nI 1 from rfl, pk_sub (by omega)]
      have nx : (nI s - 1) &&& nI s = nI ((s - 1) &&& s) := by rw [np, nx_and]
      have l1 : (s - 1) &&& s ≤ s - 1 := Nat.and_le_left
      have l2 : fq_S ((s - 1) &&& s) s := fun t _ e => by rw [Nat.testBit_and, Bool.and_eq_true] at e; exact e.2
      refine br_t (by rw [r1]; exact nI_le z (by omega)) (nm_r nx ⟨s + 1, ?_⟩)
      refine fq_Xru60 hC hb hs2 h1 z hpc k (s + 1) _ _ (by omega) (by omega) l2 ?_
      congr 1
      symm
      apply fq_cn_gap (by omega)
      intro p p1 p2 y
      have ps := (fq_S_and p2).mp y.2.2.2.2.1
      have pl : p &&& s ≤ s := Nat.and_le_right
      have pn := y.2.2.2.1
      rw [ps] at pl
      have k3 := fq_pred s s p s (Nat.le_refl _) ps (Nat.and_self s) (by omega)
      omega
theorem fq_Xru {post : Int32 → SX → Prop} (hC : ∀ s, s < 256 → aC s = nI (C s)) (hb : ∀ s, C s ≤ 20) (hm : m ≤ 20) (hpc : pc ≤ 100) (h : post (nI (fq_sm (fun s => fq_cn (fun p => fq_rX C m pc s p) 256) 256)) (f0, f1, f2, aB, aT, aR, aA, aS, aF, aO, aP, aH, aC, aW, aE, aG)) : ∃ n, wX_rules_29 post (nI m) (nI pc) f0 f1 f2 aB aT aR aA aS aF aO aP aH aC aW aE aG n 0 1 := by
  have k := fq_Xru29 hC hb hm hpc h 255 1 (by omega) (by omega)
  have e : fq_sm (fun s => fq_cn (fun p => fq_rX C m pc s p) 256) 1 = 0 := by
    show 0 + fq_cn (fun p => fq_rX C m pc 0 p) 256 = 0
    rw [fq_cn_0 (fun p _ y => by have := y.1; omega)]
  rw [e] at k
  exact ⟨256, k⟩
theorem fq_Yru40 {post : Int32 → SY → Prop} {J : Int32 → Int32 → Prop} {f c : Nat} (hY : ∀ s, s < 256 → cY s = nI (C s)) (hb : ∀ s, C s ≤ 20) (hf : f < 256) (h1 : 1 ≤ f) (hm : m ≤ 20) (hpc : pc ≤ 100)
    (h : J (nI (c + fq_cn (fun g => fq_rY C m pc f g) 256)) (nI (f + 1))) :
    ∀ d g, 1 ≤ g → g + d = 256 → wY_rules_40 post J (nI m) (nI pc) (nI f) g0 bY cY (d + 1) (nI (c + fq_cn (fun g => fq_rY C m pc f g) g)) (nI g) := by
  intro d
  induction d with
  | zero =>
    intro g hg hd
    have e : g = 256 := by omega
    subst e
    exact br_t (nI_le (a := 256) (b := 256) (by omega) (by omega)) (nm_r (nI_1 f) h)
  | succ d ih =>
    intro g hg hd
    have k := ih (g + 1) (by omega) (by omega)
    have hg2 : g < 256 := by omega
    have ol : f ||| g < 256 := Nat.or_lt_two_pow (n := 8) hf hg2
    have r1 : cY (nI f ||| nI g).toNatClampNeg = nI (C (f ||| g)) := by rw [fq_nor]; exact fq_rd hY ol
    have r2 := fq_rd hY hf
    have b1 := hb (f ||| g)
    have b2 := hb f
    have b3 : pc * C f ≤ 100 * 20 := Nat.mul_le_mul hpc b2
    have hc0 : nI f &&& nI g = 0 ↔ f &&& g = 0 := by
      have l : f &&& g ≤ f := Nat.and_le_left
      rw [nx_and, ← nI_0, nI_eq (by omega) (by omega)]
    refine br_f (nI_ge (b := 256) hg2 (by omega)) ⟨by rw [fq_nor]; exact vp_in_nI ol (by omega), nm_r r1 ?_⟩
    have skip : ¬ fq_rY C m pc f g → wY_rules_40 post J (nI m) (nI pc) (nI f) g0 bY cY (d + 1) (nI (c + fq_cn (fun g => fq_rY C m pc f g) g)) (nI (g + 1)) := by
      intro y
      rw [fq_cn_f (P := fun g => fq_rY C m pc f g) y] at k
      exact k
    by_cases z0 : f &&& g = 0
    · refine br_t (hc0.mpr z0) ?_
      rcases Nat.lt_or_ge (C (f ||| g)) m with z | z
      · exact br_t (nI_lt z (by omega)) (nm_r (nI_1 g) (skip (fun y => by have := y.2.2.2.1; omega)))
      · refine br_f (nI_nlt z (by omega)) ⟨vp_in_nI hf (by omega), ?_⟩
        rcases Nat.lt_or_ge (100 * C (f ||| g)) (pc * C f) with y | y
        · exact br_t (by rw [r2, fq_mul100, pk_mul]; exact nI_lt y (by omega)) (nm_r (nI_1 g) (skip (fun x => by have := x.2.2.2.2; omega)))
        · rw [fq_cn_t (P := fun g => fq_rY C m pc f g) ⟨h1, hg, z0, z, y⟩] at k
          exact br_f (by rw [r2, fq_mul100, pk_mul]; exact nI_nlt y (by omega)) (nm_r (nI_1 _) (nm_r (nI_1 g) k))
    · exact br_f (fun y => z0 (hc0.mp y)) (nm_r (nI_1 g) (skip (fun y => z0 y.2.2.1)))
theorem fq_Yru29 {post : Int32 → SY → Prop} (hY : ∀ s, s < 256 → cY s = nI (C s)) (hb : ∀ s, C s ≤ 20) (hm : m ≤ 20) (hpc : pc ≤ 100) (h : post (nI (fq_sm (fun f => fq_cn (fun g => fq_rY C m pc f g) 256) 256)) (g0, bY, cY)) :
    ∀ d f, 1 ≤ f → f + d = 256 → wY_rules_29 post (nI m) (nI pc) g0 bY cY (d + 1) (nI (fq_sm (fun f => fq_cn (fun g => fq_rY C m pc f g) 256) f)) (nI f) := by
  intro d
  induction d with
  | zero =>
    intro f h1 hf
    have e : f = 256 := by omega
    subst e
    exact br_t (nI_le (a := 256) (b := 256) (by omega) (by omega)) h
  | succ d ih =>
    intro f h1 hf
    have k := ih (f + 1) (by omega) (by omega)
    have hf2 : f < 256 := by omega
    have w := fq_Yru40 (g0 := g0) (bY := bY) (post := post) (c := fq_sm (fun f => fq_cn (fun g => fq_rY C m pc f g) 256) f) hY hb hf2 h1 hm hpc k 255 1 (by omega) (by omega)
    rw [fq_cn_f (P := fun g => fq_rY C m pc f g) (n := 0) (fun y => by have := y.2.1; omega)] at w
    exact br_f (nI_ge (b := 256) hf2 (by omega)) ⟨256, w⟩
theorem fq_Yru {post : Int32 → SY → Prop} (hY : ∀ s, s < 256 → cY s = nI (C s)) (hb : ∀ s, C s ≤ 20) (hm : m ≤ 20) (hpc : pc ≤ 100) (h : post (nI (fq_sm (fun f => fq_cn (fun g => fq_rY C m pc f g) 256) 256)) (g0, bY, cY)) : ∃ n, wY_rules_29 post (nI m) (nI pc) g0 bY cY n 0 1 := by
  have k := fq_Yru29 hY hb hm hpc h 255 1 (by omega) (by omega)
  have e : fq_sm (fun f => fq_cn (fun g => fq_rY C m pc f g) 256) 1 = 0 := by
    show 0 + fq_cn (fun g => fq_rY C m pc 0 g) 256 = 0
    rw [fq_cn_0 (fun p _ y => by have := y.1; omega)]
  rw [e] at k
  exact ⟨256, k⟩
end
end
section
/-! orderThings: the order is a permutation -/
def fq_Pm (t : Nat) (aO : Nat → Int32) (pl : Nat → Nat) : Prop := (∀ p, p < t → ∃ v, v < t ∧ aO p = nI v ∧ pl v = p) ∧ (∀ v, v < t → pl v < t ∧ aO (pl v) = nI v)
def fq_Ph (t a : Nat) (aO : Nat → Int32) (pl : Nat → Nat) : Prop := (∀ p, p ≤ t → p ≠ a → ∃ v, v < t ∧ aO p = nI v ∧ pl v = p) ∧ (∀ v, v < t → pl v ≤ t ∧ pl v ≠ a ∧ aO (pl v) = nI v)
theorem fq_Ph_0 {t : Nat} {aO : Nat → Int32} {pl : Nat → Nat} (h : fq_Pm t aO pl) : fq_Ph t t aO pl :=
  ⟨fun p h1 h2 => h.1 p (by omega), fun v hv => ⟨by have := (h.2 v hv).1; omega, by have := (h.2 v hv).1; omega, (h.2 v hv).2⟩⟩
theorem fq_Ph_s {t a v : Nat} {aO : Nat → Int32} {pl : Nat → Nat} (ht : t < 8) (ha : 0 < a) (hat : a ≤ t) (hv : v < t) (e1 : aO (a - 1) = nI v) (e2 : pl v = a - 1) (h : fq_Ph t a aO pl) :
    fq_Ph t (a - 1) (upd aO a (nI v)) (fun w => if w = v then a else pl w) := by
  constructor
  · intro p h1 h2
    by_cases e : p = a
    · subst e
      exact ⟨v, hv, pk_us, if_pos rfl⟩
    · obtain ⟨w, hw, f1, f2⟩ := h.1 p h1 e
      have hne : w ≠ v := fun z => by rw [z] at f2; omega
      exact ⟨w, hw, by rw [pk_un e]; exact f1, (if_neg hne).trans f2⟩
  · intro w hw
    obtain ⟨f1, f2, f3⟩ := h.2 w hw
    by_cases e : w = v
    · subst e
      dsimp only
      rw [if_pos rfl]
      exact ⟨hat, by omega, pk_us⟩
    · dsimp only
      rw [if_neg e]
      refine ⟨f1, fun z => ?_, by rw [pk_un f2]; exact f3⟩
      rw [z, e1] at f3
      rw [nI_eq (by omega) (by omega)] at f3
      exact e f3.symm
theorem fq_Ph_x {t a : Nat} {aO : Nat → Int32} {pl : Nat → Nat} (hat : a ≤ t) (h : fq_Ph t a aO pl) : fq_Pm (t + 1) (upd aO a (nI t)) (fun w => if w = t then a else pl w) := by
  constructor
  · intro p h1
    by_cases e : p = a
    · subst e
      exact ⟨t, by omega, pk_us, if_pos rfl⟩
    · obtain ⟨w, hw, f1, f2⟩ := h.1 p (by omega) e
      exact ⟨w, by omega, by rw [pk_un e]; exact f1, (if_neg (by omega : ¬ w = t)).trans f2⟩
  · intro w hw
    by_cases e : w = t
    · subst e
      dsimp only
      rw [if_pos rfl]
      exact ⟨by omega, pk_us⟩
    · obtain ⟨f1, f2, f3⟩ := h.2 w (by omega)
      dsimp only
      rw [if_neg e]
      exact ⟨by omega, by rw [pk_un f2]; exact f3⟩
def fq_Or (aO : Nat → Int32) (od pl : Nat → Nat) : Prop := (∀ p, p < 8 → aO p = nI (od p) ∧ od p < 8 ∧ pl (od p) = p) ∧ (∀ t, t < 8 → pl t < 8 ∧ od (pl t) = t)
theorem fq_Or_of {aO : Nat → Int32} {pl : Nat → Nat} (h : fq_Pm 8 aO pl) : fq_Or aO (fun p => (aO p).toNatClampNeg) pl := by
  constructor
  · intro p hp
    obtain ⟨v, hv, e1, e2⟩ := h.1 p hp
    dsimp only
    rw [e1, fq_ic (by omega)]
    exact ⟨rfl, hv, e2⟩
  · intro t ht
    obtain ⟨h1, h2⟩ := h.2 t ht
    dsimp only
    rw [h2, fq_ic (by omega)]
    exact ⟨h1, rfl⟩
section
variable {f1 f2 : Int32} {aB aT aR aA aS aF aO aP aH aC aW aE aG : Nat → Int32} {post : SX → Prop} {n t : Nat}
theorem fq_or129 (h : ∀ aP : Nat → Int32, post (nI n, f1, f2, aB, aT, aR, aA, aS, aF, aO, aP, aH, aC, aW, aE, aG)) {pl : Nat → Nat} (hO : fq_Pm 8 aO pl) : ∀ (d p : Nat) (aP : Nat → Int32), p + d = 8 → wX_orderThings_129 post (nI n) f1 f2 (d + 1) (nI p) aB aT aR aA aS aF aO aP aH aC aW aE aG := by
  intro d
  induction d with
  | zero =>
    intro p aP hp
    exact br_t (nI_le (a := 8) (by omega) (by omega)) (h aP)
  | succ d ih =>
    intro p aP hp
    obtain ⟨v, hv, e, _⟩ := hO.1 p (by omega)
    refine br_f (nI_ge (b := 8) (by omega) (by omega)) ⟨vp_in_nI (by omega) (by omega), ?_, nm_e (nm_r (nI_1 p) (ih (p + 1) _ (by omega)))⟩
    rw [fq_ic (by omega), e]
    exact vp_in_nI hv (by omega)
theorem fq_or67 {J : Int32 → (Nat → Int32) → (Nat → Int32) → (Nat → Int32) → (Nat → Int32) → (Nat → Int32) → (Nat → Int32) → (Nat → Int32) → (Nat → Int32) → (Nat → Int32) → (Nat → Int32) → (Nat → Int32) → (Nat → Int32) → (Nat → Int32) → Prop} (ht : t < 8)
    (h : ∀ (aO : Nat → Int32) (pl : Nat → Nat), fq_Pm (t + 1) aO pl → J (nI (t + 1)) aB aT aR aA aS aF aO aP aH aC aW aE aG) :
    ∀ (m a : Nat) (aO : Nat → Int32) (pl : Nat → Nat), a < m → a ≤ t → fq_Ph t a aO pl → wX_orderThings_67 post J (nI t) (nI n) f1 f2 m (nI a) aB aT aR aA aS aF aO aP aH aC aW aE aG := by
  intro m
  induction m with
  | zero => intro a aO pl h; omega
  | succ m ih =>
    intro a aO pl hm hat hP
    have fin : wX_orderThings_113 post J (nI t) (nI a) (nI n) f1 f2 aB aT aR aA aS aF aO aP aH aC aW aE aG := by
      refine And.intro (vp_in_nI (by omega) (by omega)) (nm_r (e' := upd aO a (nI t)) ?_ (nm_r (nI_1 t) (h _ _ (fq_Ph_x hat hP))))
      rw [fq_ic (by omega), fq_vb2 (by omega)]
    rcases Nat.eq_zero_or_pos a with z | z
    · subst z
      exact br_t (nI_le (a := 0) (b := 0) (by omega) (by omega)) fin
    · have np : nI a - 1 = nI (a - 1) := by rw [show (1 : Int32) = nI 1 from rfl, pk_sub (by omega)]
      have cl : (nI a - 1).toNatClampNeg = a - 1 := by rw [np, fq_ic (by omega)]
      obtain ⟨v, hv, e1, e2⟩ := hP.1 (a - 1) (by omega) (by omega)
      have i1 : vp_in (nI a - 1) 8 := by rw [np]; exact vp_in_nI (by omega) (by omega)
      refine br_f (nI_ge (a := 0) z (by omega)) ⟨i1, by rw [cl, e1]; exact vp_in_nI (by omega) (by omega), vp_in_nI (by omega) (by omega), br_c (fun _ => fin) (fun _ => ⟨i1, vp_in_nI (by omega) (by omega), ?_⟩)⟩
      refine nm_r (e' := upd aO a (nI v)) (by rw [cl, e1, fq_ic (by omega), fq_vb (by omega)]) (nm_r (e' := nI (a - 1)) (sb_m1 z) ?_)
      exact ih (a - 1) _ _ (by omega) (by omega) (fq_Ph_s ht z hat hv e1 e2 hP)
theorem fq_or59 (h : ∀ (aO aP : Nat → Int32) (pl : Nat → Nat), fq_Pm 8 aO pl → post (nI n, f1, f2, aB, aT, aR, aA, aS, aF, aO, aP, aH, aC, aW, aE, aG)) : ∀ (d t : Nat) (aO : Nat → Int32) (pl : Nat → Nat), t + d = 8 → fq_Pm t aO pl → wX_orderThings_59 post (nI n) f1 f2 (d + 1) (nI t) aB aT aR aA aS aF aO aP aH aC aW aE aG := by
  intro d
  induction d with
  | zero =>
    intro t aO pl ht hP
    have e : t = 8 := by omega
    subst e
    exact br_t (nI_le (a := 8) (b := 8) (by omega) (by omega)) ⟨9, fq_or129 (fun aP => h aO aP pl hP) hP 8 0 aP (by omega)⟩
  | succ d ih =>
    intro t aO pl ht hP
    exact br_f (nI_ge (b := 8) (by omega) (by omega)) ⟨t + 1, fq_or67 (by omega) (fun aO pl hP => ih (t + 1) aO pl (by omega) hP) (t + 1) t aO pl (by omega) (by omega) (fq_Ph_0 hP)⟩
theorem fq_or17 {J : Int32 → (Nat → Int32) → (Nat → Int32) → (Nat → Int32) → (Nat → Int32) → (Nat → Int32) → (Nat → Int32) → (Nat → Int32) → (Nat → Int32) → (Nat → Int32) → (Nat → Int32) → (Nat → Int32) → (Nat → Int32) → (Nat → Int32) → Prop} (ht : t < 8) (hn : n ≤ 20)
    (h : ∀ aH : Nat → Int32, J (nI (t + 1)) aB aT aR aA aS aF aO aP aH aC aW aE aG) : ∀ (d j : Nat) (aH : Nat → Int32), j + d = n → wX_orderThings_17 post J (nI t) (nI n) f1 f2 (d + 1) (nI j) aB aT aR aA aS aF aO aP aH aC aW aE aG := by
  intro d
  induction d with
  | zero =>
    intro j aH hj
    exact br_t (nI_le (by omega) (by omega)) (nm_r (nI_1 t) (h aH))
  | succ d ih =>
    intro j aH hj
    exact br_f (nI_ge (by omega) (by omega)) ⟨vp_in_nI ht (by omega), vp_in_nI (by omega) (by omega), vp_in_nI ht (by omega), nm_e (nm_r (nI_1 j) (ih (j + 1) _ (by omega)))⟩
theorem fq_or2 (hn : n ≤ 20) (h : ∀ aH : Nat → Int32, ∃ m, wX_orderThings_59 post (nI n) f1 f2 m 0 aB aT aR aA aS aF aO aP aH aC aW aE aG) : ∀ (d t : Nat) (aH : Nat → Int32), t + d = 8 → wX_orderThings_2 post (nI n) f1 f2 (d + 1) (nI t) aB aT aR aA aS aF aO aP aH aC aW aE aG := by
  intro d
  induction d with
  | zero =>
    intro t aH ht
    exact br_t (nI_le (a := 8) (by omega) (by omega)) (h aH)
  | succ d ih =>
    intro t aH ht
    exact br_f (nI_ge (b := 8) (by omega) (by omega)) ⟨vp_in_nI (by omega) (by omega), nm_e ⟨n + 1, fq_or17 (by omega) hn (fun aH => ih (t + 1) aH (by omega)) n 0 _ (by omega)⟩⟩
theorem fq_ord (hn : n ≤ 20) (h : ∀ (aO aP aH : Nat → Int32) (od pl : Nat → Nat), fq_Or aO od pl → post (nI n, f1, f2, aB, aT, aR, aA, aS, aF, aO, aP, aH, aC, aW, aE, aG)) : wpX_orderThings post (nI n, f1, f2, aB, aT, aR, aA, aS, aF, aO, aP, aH, aC, aW, aE, aG) := by
  refine ⟨9, fq_or2 hn (fun aH => ⟨9, ?_⟩) 8 0 aH (by omega)⟩
  exact fq_or59 (fun aO aP pl hP => h aO aP aH _ pl (fq_Or_of hP)) 8 0 aO (fun _ => 0) (by omega) ⟨fun p hp => by omega, fun v hv => by omega⟩
end
end
section
/-! the tree: ghost functions th (thing), ab (above), sm (same thing), fo (first of), and nd k p: the node of basket k after the places below p -/
def fq_u (f : Nat → Nat) (k x : Nat) : Nat → Nat := fun j => if j = k then x else f j
theorem fq_us {f : Nat → Nat} {k x : Nat} : fq_u f k x k = x := if_pos rfl
theorem fq_un {f : Nat → Nat} {k x j : Nat} (h : j ≠ k) : fq_u f k x j = f j := if_neg h
def fq_nx (nd : Nat → Nat → Nat) (b p c : Nat) : Nat → Nat → Nat := fun k q => if k = b ∧ q = p then c else nd k q
theorem fq_nxs {nd : Nat → Nat → Nat} {b p c : Nat} : fq_nx nd b p c b p = c := if_pos ⟨rfl, rfl⟩
theorem fq_nxn {nd : Nat → Nat → Nat} {b p c k q : Nat} (h : ¬ (k = b ∧ q = p)) : fq_nx nd b p c k q = nd k q := if_neg h
def fq_lv (pl th : Nat → Nat) (x : Nat) : Nat := if x = 0 then 0 else pl (th x) + 1
theorem fq_lv0 {pl th : Nat → Nat} : fq_lv pl th 0 = 0 := if_pos rfl
theorem fq_lvp {pl th : Nat → Nat} {x : Nat} (h : 0 < x) : fq_lv pl th x = pl (th x) + 1 := if_neg (by omega)
theorem fq_lvu {pl th : Nat → Nat} {N t x : Nat} (h : x ≠ N) : fq_lv pl (fq_u th N t) x = fq_lv pl th x := by unfold fq_lv; rw [fq_un h]
def fq_Tr (N : Nat) (pl th ab sm fo : Nat → Nat) : Prop :=
  (1 ≤ N ∧ N ≤ 161) ∧
  (∀ x, 0 < x → x < N → th x < 8 ∧ ab x < x ∧ fq_lv pl th (ab x) ≤ pl (th x) ∧ sm x < x ∧ (0 < sm x → th (sm x) = th x) ∧ (∀ z, sm x < z → z < x → th z ≠ th x)) ∧
  (∀ t, t < 8 → fo t < N ∧ (0 < fo t → th (fo t) = t) ∧ ∀ z, fo t < z → z < N → th z ≠ t) ∧
  (∀ x z, 0 < x → x < N → 0 < z → z < N → th x = th z → ab x = ab z → x = z)
def fq_Ar (N : Nat) (aA aS aF : Nat → Int32) (ab sm fo : Nat → Nat) : Prop := (∀ x, 0 < x → x < N → aA x = nI (ab x) ∧ aS x = nI (sm x)) ∧ (∀ t, t < 8 → aF t = nI (fo t))
def fq_St (B od : Nat → Nat) (nd : Nat → Nat → Nat) (N : Nat) (th ab : Nat → Nat) (k q : Nat) : Prop :=
  ((B k).testBit (od q) = false → nd k (q + 1) = nd k q) ∧ ((B k).testBit (od q) = true → 0 < nd k (q + 1) ∧ nd k (q + 1) < N ∧ th (nd k (q + 1)) = od q ∧ ab (nd k (q + 1)) = nd k q)
def fq_Pa (B od : Nat → Nat) (nd : Nat → Nat → Nat) (b p N : Nat) (th ab : Nat → Nat) : Prop := ∀ k, k ≤ b → nd k 0 = 0 ∧ ∀ q, q < 8 → (k < b ∨ q < p) → fq_St B od nd N th ab k q
noncomputable def fq_Th (pl : Nat → Nat) (nd : Nat → Nat → Nat) (b p : Nat) (th : Nat → Nat) (x : Nat) : Nat := fq_cn (fun k => nd k (fq_lv pl th x) = x ∧ (k < b ∨ fq_lv pl th x ≤ p)) (b + 1)
def fq_PI (B od pl : Nat → Nat) (nd : Nat → Nat → Nat) (b p N : Nat) (th ab sm fo : Nat → Nat) (aR aA aS aF : Nat → Int32) : Prop :=
  fq_Tr N pl th ab sm fo ∧ fq_Ar N aA aS aF ab sm fo ∧ fq_Pa B od nd b p N th ab ∧ (∀ x, 0 < x → x < N → aR x = nI (fq_Th pl nd b p th x))
section
variable {B od pl th ab sm fo : Nat → Nat} {nd : Nat → Nat → Nat} {b p N c k : Nat} {aO aR aA aS aF : Nat → Int32}
theorem fq_nd_lv (hO : fq_Or aO od pl) (h0 : nd k 0 = 0) (hp : p ≤ 8) (h : ∀ q, q < p → fq_St B od nd N th ab k q) : ∀ q, q ≤ p → fq_lv pl th (nd k q) ≤ q := by
  intro q
  induction q with
  | zero => intro _; rw [h0, fq_lv0]; omega
  | succ q ih =>
    intro hq
    have s := h q (by omega)
    cases e : (B k).testBit (od q)
    · rw [s.1 e]; have := ih (by omega); omega
    · obtain ⟨s1, s2, s3, s4⟩ := s.2 e
      rw [fq_lvp s1, s3, (hO.1 q (by omega)).2.2]; omega
theorem fq_nd_N (hN : 1 ≤ N) (h0 : nd k 0 = 0) (h : ∀ q, q < p → fq_St B od nd N th ab k q) : ∀ q, q ≤ p → nd k q < N := by
  intro q
  induction q with
  | zero => intro _; rw [h0]; omega
  | succ q ih =>
    intro hq
    have s := h q (by omega)
    cases e : (B k).testBit (od q)
    · rw [s.1 e]; exact ih (by omega)
    · exact (s.2 e).2.1
theorem fq_Pa_nx (h : fq_Pa B od nd b p N th ab) (hc0 : (B b).testBit (od p) = false → c = nd b p) (hc1 : (B b).testBit (od p) = true → 0 < c ∧ c < N ∧ th c = od p ∧ ab c = nd b p) : fq_Pa B od (fq_nx nd b (p + 1) c) b (p + 1) N th ab := by
  intro k hk
  refine ⟨by rw [fq_nxn (by omega)]; exact (h k hk).1, fun q hq hkq => ?_⟩
  by_cases e : k = b ∧ q = p
  · obtain ⟨rfl, rfl⟩ := e
    unfold fq_St
    rw [fq_nxs, fq_nxn (by omega)]
    exact ⟨hc0, hc1⟩
  · have s := (h k hk).2 q hq (by omega)
    unfold fq_St
    rw [fq_nxn (by omega), fq_nxn (by omega)]
    exact s
theorem fq_Th_nx {x : Nat} (hx : fq_lv pl th x = p + 1 → c ≠ x) : fq_Th pl (fq_nx nd b (p + 1) c) b (p + 1) th x = fq_Th pl nd b p th x := by
  apply fq_cn_congr
  intro k hk
  by_cases e : k = b ∧ fq_lv pl th x = p + 1
  · obtain ⟨rfl, e2⟩ := e
    rw [e2, fq_nxs]
    exact ⟨fun z => absurd z.1 (hx e2), fun z => by omega⟩
  · rw [fq_nxn e]
    exact ⟨fun z => ⟨z.1, by omega⟩, fun z => ⟨z.1, by omega⟩⟩
theorem fq_Th_go {x : Nat} (e : fq_lv pl th x = p + 1) : fq_Th pl (fq_nx nd b (p + 1) x) b (p + 1) th x = fq_Th pl nd b p th x + 1 := by
  unfold fq_Th
  rw [fq_cn_t (n := b) ⟨by rw [e, fq_nxs], Or.inr (by omega)⟩, fq_cn_f (n := b) (fun z => by omega)]
  congr 1
  apply fq_cn_congr
  intro k hk
  rw [fq_nxn (by omega)]
  exact ⟨fun z => ⟨z.1, by omega⟩, fun z => ⟨z.1, by omega⟩⟩
theorem fq_PI_skip (hO : fq_Or aO od pl) (hp : p < 8) (hb : (B b).testBit (od p) = false) (h : fq_PI B od pl nd b p N th ab sm fo aR aA aS aF) : fq_PI B od pl (fq_nx nd b (p + 1) (nd b p)) b (p + 1) N th ab sm fo aR aA aS aF := by
  obtain ⟨hT, hA, hS, hR⟩ := h
  refine ⟨hT, hA, fq_Pa_nx hS (fun _ => rfl) (fun z => by rw [hb] at z; exact nomatch z), fun x h1 h2 => ?_⟩
  rw [fq_Th_nx (fun e z => ?_)]
  · exact hR x h1 h2
  · have := fq_nd_lv (N := N) hO (hS b (by omega)).1 (p := p) (by omega) (fun q hq => (hS b (by omega)).2 q (by omega) (Or.inr hq)) p (by omega)
    rw [z, e] at this
    omega
theorem fq_Th_n (x : Nat) : fq_Th pl nd b p th x ≤ b + 1 := fq_cn_n _ _
theorem fq_PI_go (hO : fq_Or aO od pl) (hp : p < 8) (hb : (B b).testBit (od p) = true) (h : fq_PI B od pl nd b p N th ab sm fo aR aA aS aF) (c1 : 0 < c) (c2 : c < N) (c3 : th c = od p) (c4 : ab c = nd b p) :
    fq_PI B od pl (fq_nx nd b (p + 1) c) b (p + 1) N th ab sm fo (upd aR c (nI (fq_Th pl nd b p th c + 1))) aA aS aF := by
  obtain ⟨hT, hA, hS, hR⟩ := h
  refine ⟨hT, hA, fq_Pa_nx hS (fun z => by rw [hb] at z; exact nomatch z) (fun _ => ⟨c1, c2, c3, c4⟩), fun x h1 h2 => ?_⟩
  have lc : fq_lv pl th c = p + 1 := by rw [fq_lvp c1, c3, (hO.1 p hp).2.2]
  by_cases e : x = c
  · subst e
    rw [pk_us, fq_Th_go lc]
  · rw [pk_un e, fq_Th_nx (fun _ z => e z.symm)]
    exact hR x h1 h2
theorem fq_PI_new {t v : Nat} (hO : fq_Or aO od pl) (hp : p < 8) (hN : N ≤ 160) (h : fq_PI B od pl nd b p N th ab sm fo aR aA aS aF) (et : t = od p) (ev : v = nd b p) (hno : ∀ z, 0 < z → z < N → th z = t → ab z ≠ v) :
    fq_PI B od pl nd b p (N + 1) (fq_u th N t) (fq_u ab N v) (fq_u sm N (fo t)) (fq_u fo t N) (upd aR N (nI 0)) (upd aA N (nI v)) (upd aS N (nI (fo t))) (upd aF t (nI N)) := by
  obtain ⟨hT, hA, hS, hR⟩ := h
  obtain ⟨hT0, hT1, hT2, hT3⟩ := hT
  have ht : t < 8 := by rw [et]; exact (hO.1 p hp).2.1
  have hb := hS b (by omega)
  have hv : v < N := by rw [ev]; exact fq_nd_N hT0.1 hb.1 (fun q hq => hb.2 q (by omega) (Or.inr hq)) p (by omega)
  have hlv : fq_lv pl th v ≤ p := by rw [ev]; exact fq_nd_lv (N := N) hO hb.1 (p := p) (by omega) (fun q hq => hb.2 q (by omega) (Or.inr hq)) p (by omega)
  have hpl : pl t = p := by rw [et]; exact (hO.1 p hp).2.2
  refine ⟨⟨⟨by omega, by omega⟩, fun x h1 h2 => ?_, fun u hu => ?_, fun x z h1 h2 h3 h4 e1 e2 => ?_⟩, ⟨fun x h1 h2 => ?_, fun u hu => ?_⟩, fun k hk => ⟨(hS k hk).1, fun q hq hkq => ?_⟩, fun x h1 h2 => ?_⟩
  · by_cases e : x = N
    · subst e
      rw [fq_us, fq_us, fq_us, fq_lvu (by omega)]
      obtain ⟨g1, g2, g3⟩ := hT2 t ht
      refine ⟨ht, hv, by omega, g1, fun z => ?_, fun z z1 z2 => ?_⟩
      · rw [fq_un (by omega)]; exact g2 z
      · rw [fq_un (by omega)]; exact g3 z z1 z2
    · obtain ⟨g1, g2, g3, g4, g5, g6⟩ := hT1 x h1 (by omega)
      rw [fq_un e, fq_un e, fq_un e, fq_lvu (by omega)]
      refine ⟨g1, g2, g3, g4, fun z => ?_, fun z z1 z2 => ?_⟩
      · rw [fq_un (by omega)]; exact g5 z
      · rw [fq_un (by omega)]; exact g6 z z1 z2
  · by_cases e : u = t
    · subst e
      rw [fq_us, fq_us]
      exact ⟨by omega, fun _ => rfl, fun z z1 z2 => by omega⟩
    · obtain ⟨g1, g2, g3⟩ := hT2 u hu
      rw [fq_un e]
      refine ⟨by omega, fun z => ?_, fun z z1 z2 => ?_⟩
      · rw [fq_un (by omega)]; exact g2 z
      · by_cases ez : z = N
        · subst ez; rw [fq_us]; exact fun y => e y.symm
        · rw [fq_un ez]; exact g3 z z1 (by omega)
  · by_cases ex : x = N
    · by_cases ez : z = N
      · rw [ex, ez]
      · exfalso
        rw [ex, fq_us, fq_un ez] at e1
        rw [ex, fq_us, fq_un ez] at e2
        exact hno z h3 (by omega) e1.symm e2.symm
    · by_cases ez : z = N
      · exfalso
        rw [ez, fq_us, fq_un ex] at e1
        rw [ez, fq_us, fq_un ex] at e2
        exact hno x h1 (by omega) e1 e2
      · rw [fq_un ex, fq_un ez] at e1
        rw [fq_un ex, fq_un ez] at e2
        exact hT3 x z h1 (by omega) h3 (by omega) e1 e2
  · by_cases e : x = N
    · subst e
      rw [pk_us, pk_us, fq_us, fq_us]
      exact ⟨rfl, rfl⟩
    · rw [pk_un e, pk_un e, fq_un e, fq_un e]
      exact hA.1 x h1 (by omega)
  · by_cases e : u = t
    · subst e
      rw [pk_us, fq_us]
    · rw [pk_un e, fq_un e]
      exact hA.2 u hu
  · have s := (hS k hk).2 q hq hkq
    refine ⟨s.1, fun e => ?_⟩
    obtain ⟨s1, s2, s3, s4⟩ := s.2 e
    rw [fq_un (by omega), fq_un (by omega)]
    exact ⟨s1, by omega, s3, s4⟩
  · by_cases e : x = N
    · subst e
      rw [pk_us]
      unfold fq_Th
      rw [fq_cn_0 (fun k hk z => ?_)]
      obtain ⟨z1, z2⟩ := z
      rw [fq_lvp h1, fq_us, hpl] at z1 z2
      have hk1 := hS k (by omega)
      rcases z2 with z2 | z2
      · have := fq_nd_N hT0.1 hk1.1 (p := 8) (fun q hq => hk1.2 q hq (Or.inl z2)) (p + 1) (by omega)
        omega
      · omega
    · rw [pk_un e, hR x h1 (by omega)]
      unfold fq_Th
      rw [fq_lvu e]
theorem fq_PI_next (h : fq_PI B od pl nd b 8 N th ab sm fo aR aA aS aF) (hO : fq_Or aO od pl) : fq_PI B od pl (fq_nx nd (b + 1) 0 0) (b + 1) 0 N th ab sm fo aR aA aS aF := by
  obtain ⟨hT, hA, hS, hR⟩ := h
  refine ⟨hT, hA, fun k hk => ?_, fun x h1 h2 => ?_⟩
  · by_cases e : k = b + 1
    · subst e
      exact ⟨fq_nxs, fun q hq hh => by omega⟩
    · refine ⟨by rw [fq_nxn (by omega)]; exact (hS k (by omega)).1, fun q hq _ => ?_⟩
      have s := (hS k (by omega)).2 q hq (Or.inr hq)
      unfold fq_St
      rw [fq_nxn (by omega), fq_nxn (by omega)]
      exact s
  · rw [hR x h1 h2]
    unfold fq_Th
    rw [fq_cn_f (n := b + 1) (fun z => by rw [fq_lvp h1] at z; omega)]
    congr 1
    apply fq_cn_congr
    intro k hk
    have l := (hO.2 (th x) (hT.2.1 x h1 h2).1).1
    rw [fq_nxn (by omega), fq_lvp h1]
    exact ⟨fun z => ⟨z.1, by omega⟩, fun z => ⟨z.1, by omega⟩⟩
theorem fq_PI_0 (hF : ∀ t, t < 8 → aF t = nI 0) : fq_PI B od pl (fun _ _ => 0) 0 0 1 (fun _ => 0) (fun _ => 0) (fun _ => 0) (fun _ => 0) aR aA aS aF := by
  refine ⟨⟨⟨by omega, by omega⟩, fun x h1 h2 => by omega, fun t ht => ⟨(by decide : 0 < 1), fun z => absurd z (by decide : ¬ 0 < 0), fun z z1 z2 => by omega⟩, fun x z h1 h2 => by omega⟩, ⟨fun x h1 h2 => by omega, hF⟩, fun k hk => ⟨rfl, fun q hq hh => by omega⟩, fun x h1 h2 => by omega⟩
end
end
section
/-! plant, walked -/
section
variable {f0 f1 : Int32} {aB aT aR aA aS aF aO aP aH aC aW aE aG : Nat → Int32} {B od pl th ab sm fo : Nat → Nat} {nd : Nat → Nat → Nat} {b N : Nat}
theorem fq_cw7 {post : Int32 → Prop} {t v : Nat} (hT : fq_Tr N pl th ab sm fo) (hA : fq_Ar N aA aS aF ab sm fo) (hv : v < N)
    (h0 : (∀ z, 0 < z → z < N → th z = t → ab z ≠ v) → post 0) (h1 : ∀ x, 0 < x → x < N → th x = t → ab x = v → post (nI x)) :
    ∀ (m x : Nat), x < m → x < N → (0 < x → th x = t) → (∀ z, x < z → z < N → th z = t → ab z ≠ v) → wX_childWith_7 post (nI v) f0 f1 (nI N) aB aT aR aA aS aF aO aP aH aC aW aE aG m (nI x) := by
  have hN := hT.1
  intro m
  induction m with
  | zero => intro x h; omega
  | succ m ih =>
    intro x hm hx hth hz
    rcases Nat.eq_zero_or_pos x with e | e
    · subst e
      exact br_t rfl (h0 hz)
    · obtain ⟨g1, g2, g3, g4, g5, g6⟩ := hT.2.1 x e hx
      obtain ⟨a1, a2⟩ := hA.1 x e hx
      have r1 : aA (nI x).toNatClampNeg = nI (ab x) := by rw [fq_ic (by omega), a1]
      have r2 : aS (nI x).toNatClampNeg = nI (sm x) := by rw [fq_ic (by omega), a2]
      refine br_f (nI_ne0 e (by omega)) ⟨vp_in_nI (by omega) (by omega), ?_⟩
      by_cases ev : ab x = v
      · exact br_t (by rw [r1, ev]) (h1 x e hx (hth e) ev)
      · refine br_f (by rw [r1, nI_eq (by omega) (by omega)]; exact ev) ⟨vp_in_nI (by omega) (by omega), nm_r r2 (ih (sm x) (by omega) (by omega) (fun z => by rw [g5 z]; exact hth e) (fun z z1 z2 z3 => ?_))⟩
        rcases Nat.lt_trichotomy z x with y | y | y
        · exact absurd (z3.trans (hth e).symm) (g6 z z1 y)
        · rw [y]; exact ev
        · exact hz z y z2 z3
theorem fq_cw {post : Int32 → Prop} {t v : Nat} (ht : t < 8) (hT : fq_Tr N pl th ab sm fo) (hA : fq_Ar N aA aS aF ab sm fo) (hv : v < N)
    (h0 : (∀ z, 0 < z → z < N → th z = t → ab z ≠ v) → post 0) (h1 : ∀ x, 0 < x → x < N → th x = t → ab x = v → post (nI x)) : wpX_childWith post (f0, f1, nI N, aB, aT, aR, aA, aS, aF, aO, aP, aH, aC, aW, aE, aG) (nI v) (nI t) := by
  obtain ⟨g1, g2, g3⟩ := hT.2.2.1 t ht
  refine And.intro (vp_in_nI ht (by omega)) (nm_r (e' := nI (fo t)) (by rw [fq_ic (by omega), hA.2 t ht]) ⟨fo t + 1, ?_⟩)
  exact fq_cw7 hT hA hv h0 h1 (fo t + 1) (fo t) (by omega) g1 g2 (fun z z1 z2 z3 => absurd z3 (g3 z z1 z2))
theorem fq_pl111 {post : SX → Prop} {x1 : Int32} {J : Int32 → Int32 → Int32 → (Nat → Int32) → (Nat → Int32) → (Nat → Int32) → (Nat → Int32) → (Nat → Int32) → (Nat → Int32) → (Nat → Int32) → (Nat → Int32) → (Nat → Int32) → (Nat → Int32) → (Nat → Int32) → (Nat → Int32) → (Nat → Int32) → Prop} {p c : Nat}
    (hO : fq_Or aO od pl) (hb20 : b < 20) (hp : p < 8) (hb : (B b).testBit (od p) = true) (h : fq_PI B od pl nd b p N th ab sm fo aR aA aS aF) (c1 : 0 < c) (c2 : c < N) (c3 : th c = od p) (c4 : ab c = nd b p)
    (hJ : ∀ (nd' : Nat → Nat → Nat) (aR : Nat → Int32), fq_PI B od pl nd' b (p + 1) N th ab sm fo aR aA aS aF → nd' b (p + 1) = c → J (nI c) (nI (p + 1)) (nI N) aB aT aR aA aS aF aO aP aH aC aW aE aG) : wX_plant_111 post J x1 (nI p) (nI c) f0 f1 (nI N) aB aT aR aA aS aF aO aP aH aC aW aE aG := by
  have hN := h.1.1
  have r : aR (nI c).toNatClampNeg = nI (fq_Th pl nd b p th c) := by rw [fq_ic (by omega), h.2.2.2 c c1 c2]
  have l := fq_Th_n (pl := pl) (nd := nd) (b := b) (p := p) (th := th) c
  refine And.intro (vp_in_nI (by omega) (by omega)) ⟨vp_in_nI (by omega) (by omega), nm_r (e' := upd aR c (nI (fq_Th pl nd b p th c + 1))) ?_ (nm_r (nI_1 p) (hJ _ _ (fq_PI_go hO hp hb h c1 c2 c3 c4) fq_nxs))⟩
  rw [r, nI_1, fq_ic (by omega), fq_vb2 (by omega)]
theorem fq_pl4 {post : SX → Prop} (hO : fq_Or aO od pl) (hB : B b < 256) (hb20 : b < 20)
    (h : ∀ (N : Nat) (nd : Nat → Nat → Nat) (th ab sm fo : Nat → Nat) (aT aR aA aS aF : Nat → Int32), N ≤ 1 + 8 * b + 8 → fq_PI B od pl nd b 8 N th ab sm fo aR aA aS aF → post (f0, f1, nI N, aB, aT, aR, aA, aS, aF, aO, aP, aH, aC, aW, aE, aG)) :
    ∀ (d p N : Nat) (nd : Nat → Nat → Nat) (th ab sm fo : Nat → Nat) (aT aR aA aS aF : Nat → Int32), p + d = 8 → N ≤ 1 + 8 * b + p → fq_PI B od pl nd b p N th ab sm fo aR aA aS aF →
      wX_plant_4 post (nI (B b)) f0 f1 (d + 1) (nI (nd b p)) (nI p) (nI N) aB aT aR aA aS aF aO aP aH aC aW aE aG := by
  intro d
  induction d with
  | zero =>
    intro p N nd th ab sm fo aT aR aA aS aF hd hN hP
    have e : p = 8 := by omega
    subst e
    exact br_t (nI_le (a := 8) (b := 8) (by omega) (by omega)) (h N nd th ab sm fo aT aR aA aS aF hN hP)
  | succ d ih =>
    intro p N nd th ab sm fo aT aR aA aS aF hd hN hP
    have hp : p < 8 := by omega
    obtain ⟨o1, o2, o3⟩ := hO.1 p hp
    have hN0 := hP.1.1
    have hbp := hP.2.2.1 b (by omega)
    have hv : nd b p < N := fq_nd_N hN0.1 hbp.1 (fun q hq => hbp.2 q (by omega) (Or.inr hq)) p (by omega)
    refine br_f (nI_ge (b := 8) hp (by omega)) ⟨vp_in_nI hp (by omega), nm_r (e' := nI (od p)) (by rw [fq_ic (by omega), o1]) ?_⟩
    cases hbt : (B b).testBit (od p)
    · refine br_t ((fq_bit0 hB o2).mpr hbt) (nm_r (nI_1 p) ?_)
      have k := ih (p + 1) N _ th ab sm fo aT aR aA aS aF (by omega) (by omega) (fq_PI_skip hO hp hbt hP)
      rw [fq_nxs] at k
      exact k
    · refine br_f (fun z => by rw [fq_bit0 hB o2, hbt] at z; exact nomatch z) (fq_cw o2 hP.1 hP.2.1 hv (fun hno => ?_) (fun x x1 x2 x3 x4 => ?_))
      · have iN : vp_in (nI N) 161 := vp_in_nI (by omega) (by omega)
        have it : vp_in (nI (od p)) 8 := vp_in_nI o2 (by omega)
        have cN : (nI N).toNatClampNeg = N := fq_ic (by omega)
        have ct : (nI (od p)).toNatClampNeg = od p := fq_ic (by omega)
        have fl := (hP.1.2.2.1 (od p) o2).1
        refine br_t rfl (nm_r (nI_1 N) ⟨iN, nm_e ⟨iN, nm_r (e' := upd aR N (nI 0)) ?_ ⟨iN, nm_r (e' := upd aA N (nI (nd b p))) ?_ ⟨it, iN, nm_r (e' := upd aS N (nI (fo (od p)))) ?_ ⟨it, nm_r (e' := upd aF (od p) (nI N)) ?_ ?_⟩⟩⟩⟩⟩)
        · rw [cN]; exact congrArg (upd aR N) (fq_vb (n := 0) (by omega))
        · rw [cN, fq_vs2 (by omega)]
        · rw [cN, ct, hP.2.1.2 _ o2, fq_vs (by omega)]
        · rw [ct, fq_vs2 (by omega)]
        · refine fq_pl111 hO hb20 hp hbt (fq_PI_new hO hp (by omega) hP rfl rfl hno) (by omega) (by omega) fq_us fq_us (fun nd' aR' hP' e => ?_)
          have k := ih (p + 1) (N + 1) nd' _ _ _ _ (upd aT (nI N).toNatClampNeg (vp_nar .byte (nI (od p)).toInt8.toInt32)) aR' _ _ _ (by omega) (by omega) hP'
          rw [e] at k
          exact k
      · refine br_f (nI_ne0 x1 (by omega)) (fq_pl111 hO hb20 hp hbt hP x1 x2 x3 x4 (fun nd' aR' hP' e => ?_))
        have k := ih (p + 1) N nd' th ab sm fo aT aR' aA aS aF (by omega) (by omega) hP'
        rw [e] at k
        exact k
theorem fq_plant {post : SX → Prop} (hO : fq_Or aO od pl) (hB : B b < 256) (hb20 : b < 20) (hN : N ≤ 1 + 8 * b) (hP : fq_PI B od pl nd b 0 N th ab sm fo aR aA aS aF)
    (h : ∀ (N : Nat) (nd : Nat → Nat → Nat) (th ab sm fo : Nat → Nat) (aT aR aA aS aF : Nat → Int32), N ≤ 1 + 8 * (b + 1) → fq_PI B od pl nd (b + 1) 0 N th ab sm fo aR aA aS aF → post (f0, f1, nI N, aB, aT, aR, aA, aS, aF, aO, aP, aH, aC, aW, aE, aG)) : wpX_plant post (f0, f1, nI N, aB, aT, aR, aA, aS, aF, aO, aP, aH, aC, aW, aE, aG) (nI (B b)) := by
  have k := fq_pl4 (f0 := f0) (f1 := f1) (aB := aB) (aP := aP) (aH := aH) (aC := aC) (aW := aW) (aE := aE) (aG := aG) (post := post) hO hB hb20 (fun N nd th ab sm fo aT aR aA aS aF h1 h2 => h N _ th ab sm fo aT aR aA aS aF (by omega) (fq_PI_next h2 hO)) 8 0 N nd th ab sm fo aT aR aA aS aF (by omega) (by omega) hP
  rw [(hP.2.2.1 b (by omega)).1] at k
  exact ⟨9, k⟩
end
end
section
/-! the finished tree and its weights, without any program -/
def fq_Fi (B od pl : Nat → Nat) (nd : Nat → Nat → Nat) (n N : Nat) (th ab sm fo : Nat → Nat) (aO : Nat → Int32) : Prop :=
  fq_Or aO od pl ∧ fq_Tr N pl th ab sm fo ∧ ∀ k, k < n → nd k 0 = 0 ∧ ∀ q, q < 8 → fq_St B od nd N th ab k q
noncomputable def fq_wt (B pl : Nat → Nat) (nd : Nat → Nat → Nat) (n : Nat) (th : Nat → Nat) (T x : Nat) : Nat := fq_cn (fun k => fq_S T (B k) ∧ nd k (fq_lv pl th x) = x) n
def fq_On (B pl th : Nat → Nat) (nd : Nat → Nat → Nat) (T t k y : Nat) : Prop := fq_S (T ||| 2 ^ t) (B k) ∧ fq_lv pl th y ≤ pl t + 1 ∧ nd k (fq_lv pl th y) = y
def fq_Pr (B pl th ab : Nat → Nat) (nd : Nat → Nat → Nat) (N T t x y k : Nat) : Prop := fq_On B pl th nd T t k y ∧ (th y = t ∨ ∃ z, x < z ∧ z < N ∧ ab z = y ∧ fq_On B pl th nd T t k z)
section
variable {B od pl th ab sm fo : Nat → Nat} {nd : Nat → Nat → Nat} {n N T t k x y z q : Nat} {aO : Nat → Int32}
theorem fq_Fi_lv (F : fq_Fi B od pl nd n N th ab sm fo aO) (hk : k < n) (hq : q ≤ 8) : fq_lv pl th (nd k q) ≤ q :=
  fq_nd_lv F.1 (F.2.2 k hk).1 (p := 8) (by omega) (fun q h => (F.2.2 k hk).2 q h) q hq
theorem fq_Fi_id (F : fq_Fi B od pl nd n N th ab sm fo aO) (hk : k < n) : ∀ q, q ≤ 8 → nd k (fq_lv pl th (nd k q)) = nd k q := by
  intro q
  induction q with
  | zero => intro _; rw [(F.2.2 k hk).1, fq_lv0, (F.2.2 k hk).1]
  | succ q ih =>
    intro hq
    have s := (F.2.2 k hk).2 q (by omega)
    cases e : (B k).testBit (od q)
    · rw [s.1 e]; exact ih (by omega)
    · obtain ⟨s1, s2, s3, s4⟩ := s.2 e
      rw [fq_lvp s1, s3, (F.1.1 q (by omega)).2.2]
theorem fq_Fi_mo (F : fq_Fi B od pl nd n N th ab sm fo aO) (hk : k < n) : ∀ d q, q + d ≤ 8 → fq_lv pl th (nd k q) ≤ fq_lv pl th (nd k (q + d)) := by
  intro d
  induction d with
  | zero => intro q _; exact Nat.le_refl _
  | succ d ih =>
    intro q hq
    have a := ih q (by omega)
    have s := (F.2.2 k hk).2 (q + d) (by omega)
    show _ ≤ fq_lv pl th (nd k (q + d + 1))
    cases e : (B k).testBit (od (q + d))
    · rw [s.1 e]; exact a
    · obtain ⟨s1, s2, s3, s4⟩ := s.2 e
      have b := fq_Fi_lv F hk (q := q) (by omega)
      rw [fq_lvp s1, s3, (F.1.1 (q + d) (by omega)).2.2]
      omega
theorem fq_Fi_ab (F : fq_Fi B od pl nd n N th ab sm fo aO) (hk : k < n) (hx : 0 < x) (hxN : x < N) (e : nd k (fq_lv pl th x) = x) : (B k).testBit (th x) = true ∧ ab x = nd k (pl (th x)) := by
  obtain ⟨o1, o2⟩ := F.1.2 (th x) (F.2.1.2.1 x hx hxN).1
  have s := (F.2.2 k hk).2 (pl (th x)) o1
  rw [fq_lvp hx] at e
  cases eb : (B k).testBit (th x)
  · unfold fq_St at s; rw [o2] at s
    have l := fq_Fi_lv F hk (q := pl (th x)) (by omega)
    rw [← s.1 eb, e, fq_lvp hx] at l
    omega
  · rw [← o2] at eb
    obtain ⟨s1, s2, s3, s4⟩ := s.2 eb
    rw [e] at s4
    exact ⟨rfl, s4⟩
theorem fq_Fi_up (F : fq_Fi B od pl nd n N th ab sm fo aO) (hk : k < n) (hx : 0 < x) (hxN : x < N) (h : fq_On B pl th nd T t k x) : fq_On B pl th nd T t k (ab x) := by
  have e := (fq_Fi_ab F hk hx hxN h.2.2).2
  have g := F.2.1.2.1 x hx hxN
  have l := h.2.1
  rw [fq_lvp hx] at l
  refine ⟨h.1, by have := g.2.2.1; omega, ?_⟩
  rw [e]
  exact fq_Fi_id F hk _ (by have := (F.1.2 (th x) g.1).1; omega)
theorem fq_Fi_dn (F : fq_Fi B od pl nd n N th ab sm fo aO) (hk : k < n) (ht : t < 8) (hx : 0 < x) (hxN : x < N) (h : fq_On B pl th nd T t k x) (hne : th x ≠ t) : ∃ z, x < z ∧ z < N ∧ ab z = x ∧ fq_On B pl th nd T t k z := by
  obtain ⟨o1, o2⟩ := F.1.2 t ht
  have bt : (B k).testBit t = true := ((fq_S_o ht).mp h.1).2
  have g := F.2.1.2.1 x hx hxN
  have hl : fq_lv pl th x ≤ pl t := by
    have l := h.2.1
    rw [fq_lvp hx] at l ⊢
    have : pl (th x) ≠ pl t := fun e => hne (by rw [← (F.1.2 (th x) g.1).2, e, o2])
    omega
  have key : ∀ d q, q + d = pl t → nd k q = x → ∃ z, x < z ∧ z < N ∧ ab z = x ∧ fq_On B pl th nd T t k z := by
    intro d
    induction d with
    | zero =>
      intro q hq e
      have s := (F.2.2 k hk).2 q (by omega)
      have eq : q = pl t := by omega
      rw [eq] at s; unfold fq_St at s; rw [o2] at s
      obtain ⟨s1, s2, s3, s4⟩ := s.2 bt
      rw [← eq, e] at s4
      have w := F.2.1.2.1 _ s1 s2
      rw [← eq] at s1 s2 s3 w
      refine ⟨nd k (q + 1), by have := w.2.1; omega, s2, s4, h.1, ?_, ?_⟩
      · rw [fq_lvp s1, s3]; omega
      · rw [fq_lvp s1, s3, eq]
    | succ d ih =>
      intro q hq e
      have s := (F.2.2 k hk).2 q (by omega)
      cases eb : (B k).testBit (od q)
      · exact ih (q + 1) (by omega) (by rw [s.1 eb]; exact e)
      · obtain ⟨s1, s2, s3, s4⟩ := s.2 eb
        have w := F.2.1.2.1 _ s1 s2
        have oq := (F.1.1 q (by omega)).2.2
        rw [e] at s4
        refine ⟨nd k (q + 1), by have := w.2.1; omega, s2, s4, h.1, ?_, ?_⟩
        · rw [fq_lvp s1, s3, oq]; omega
        · rw [fq_lvp s1, s3, oq]
  exact key (pl t - fq_lv pl th x) (fq_lv pl th x) (by omega) h.2.2
theorem fq_Fi_un (F : fq_Fi B od pl nd n N th ab sm fo aO) (hk : k < n) (hx : 0 < x) (hxN : x < N) (hz : 0 < z) (hzN : z < N) (h : fq_On B pl th nd T t k x) (h' : fq_On B pl th nd T t k z) (e : ab x = ab z) : x = z := by
  have key : ∀ x z, 0 < x → x < N → 0 < z → z < N → fq_On B pl th nd T t k x → fq_On B pl th nd T t k z → ab x = ab z → ¬ pl (th x) < pl (th z) := by
    intro x z hx hxN hz hzN h h' e l
    have e1 := (fq_Fi_ab F hk hz hzN h'.2.2).2
    have g := F.2.1.2.1 x hx hxN
    have g' := F.2.1.2.1 z hz hzN
    have m := fq_Fi_mo F hk (pl (th z) - (pl (th x) + 1)) (pl (th x) + 1) (by have := (F.1.2 (th z) g'.1).1; omega)
    rw [show pl (th x) + 1 + (pl (th z) - (pl (th x) + 1)) = pl (th z) by omega, ← e1, ← e] at m
    have hx2 := h.2.2
    rw [fq_lvp hx] at hx2
    rw [hx2, fq_lvp hx] at m
    have := g.2.2.1
    omega
  have a := key x z hx hxN hz hzN h h' e
  have b := key z x hz hzN hx hxN h' h e.symm
  have e2 : pl (th x) = pl (th z) := by omega
  have q1 := h.2.2
  have q2 := h'.2.2
  rw [fq_lvp hx] at q1
  rw [fq_lvp hz] at q2
  rw [← q1, e2, q2]
/-- the lift's step at the node above -/
theorem fq_Pr_up (F : fq_Fi B od pl nd n N th ab sm fo aO) (ht : t < 8) (hx : 0 < x) (hxN : x < N) (hy : 0 < ab x) :
    fq_cn (fq_Pr B pl th ab nd N T t (x - 1) (ab x)) n = fq_cn (fq_Pr B pl th ab nd N T t x (ab x)) n + fq_cn (fq_Pr B pl th ab nd N T t x x) n := by
  have g := F.2.1.2.1 x hx hxN
  apply fq_cn_add
  · intro k hk
    constructor
    · intro ⟨h1, h2⟩
      rcases h2 with h2 | ⟨z, z1, z2, z3, z4⟩
      · exact Or.inl ⟨h1, Or.inl h2⟩
      · by_cases e : z = x
        · subst e
          refine Or.inr ⟨z4, ?_⟩
          by_cases et : th z = t
          · exact Or.inl et
          · exact Or.inr (fq_Fi_dn F hk ht hx hxN z4 et)
        · exact Or.inl ⟨h1, Or.inr ⟨z, by omega, z2, z3, z4⟩⟩
    · intro h
      rcases h with ⟨h1, h2⟩ | ⟨h1, h2⟩
      · refine ⟨h1, h2.imp id (fun ⟨z, z1, z2, z3, z4⟩ => ⟨z, by omega, z2, z3, z4⟩)⟩
      · exact ⟨fq_Fi_up F hk hx hxN h1, Or.inr ⟨x, by omega, hxN, rfl, h1⟩⟩
  · intro k hk h h'
    rcases h.2 with e | ⟨z, z1, z2, z3, z4⟩
    · have a := g.2.2.1
      have b := h'.1.2.1
      rw [fq_lvp hy, e] at a
      rw [fq_lvp hx] at b
      omega
    · have := fq_Fi_un F hk hx hxN (by omega) z2 h'.1 z4 z3.symm
      omega
theorem fq_Pr_ot (hne : y ≠ ab x) : fq_cn (fq_Pr B pl th ab nd N T t (x - 1) y) n = fq_cn (fq_Pr B pl th ab nd N T t x y) n := by
  apply fq_cn_congr
  intro k hk
  refine ⟨fun h => ⟨h.1, h.2.imp id (fun ⟨z, z1, z2, z3, z4⟩ => ⟨z, ?_, z2, z3, z4⟩)⟩, fun h => ⟨h.1, h.2.imp id (fun ⟨z, z1, z2, z3, z4⟩ => ⟨z, by omega, z2, z3, z4⟩)⟩⟩
  have : z ≠ x := fun e => hne (by rw [← e, z3])
  omega
theorem fq_Pr_0 (F : fq_Fi B od pl nd n N th ab sm fo aO) (ht : t < 8) (hy : 0 < y) (hyN : y < N) (hl : fq_lv pl th y ≤ pl t) : fq_cn (fq_Pr B pl th ab nd N T t 0 y) n = fq_wt B pl nd n th (T ||| 2 ^ t) y := by
  apply fq_cn_congr
  intro k hk
  refine ⟨fun h => ⟨h.1.1, h.1.2.2⟩, fun h => ?_⟩
  have o : fq_On B pl th nd T t k y := ⟨h.1, by omega, h.2⟩
  refine ⟨o, ?_⟩
  by_cases e : th y = t
  · exact Or.inl e
  · obtain ⟨z, z1, z2, z3, z4⟩ := fq_Fi_dn F hk ht hy hyN o e
    exact Or.inr ⟨z, by omega, z2, z3, z4⟩
theorem fq_Pr_i (F : fq_Fi B od pl nd n N th ab sm fo aO) (ht : t < 8) (hy : 0 < y) (hyN : y < N) : fq_cn (fq_Pr B pl th ab nd N T t (N - 1) y) n = fq_cn (fun k => (fq_S T (B k) ∧ nd k (fq_lv pl th y) = y) ∧ th y = t ∧ 0 < y) n := by
  apply fq_cn_congr
  intro k hk
  constructor
  · intro ⟨h1, h2⟩
    rcases h2 with h2 | ⟨z, z1, z2, _⟩
    · exact ⟨⟨((fq_S_o ht).mp h1.1).1, h1.2.2⟩, h2, hy⟩
    · omega
  · intro ⟨⟨h1, h2⟩, h3, _⟩
    have b := (fq_Fi_ab F hk hy hyN h2).1
    rw [h3] at b
    exact ⟨⟨(fq_S_o ht).mpr ⟨h1, b⟩, by rw [fq_lvp hy, h3]; omega, h2⟩, Or.inl h3⟩
/-- the count over a chain: what is behind x -/
noncomputable def fq_ch (B pl : Nat → Nat) (nd : Nat → Nat → Nat) (n T t x : Nat) : Nat := fq_cn (fun k => fq_S (T ||| 2 ^ t) (B k) ∧ x < nd k (pl t + 1)) n
theorem fq_ch_0 (F : fq_Fi B od pl nd n N th ab sm fo aO) (ht : t < 8) : fq_ch B pl nd n T t 0 = fq_c B n (T ||| 2 ^ t) := by
  apply fq_cn_congr
  intro k hk
  refine ⟨fun h => h.1, fun h => ⟨h, ?_⟩⟩
  obtain ⟨o1, o2⟩ := F.1.2 t ht
  have s := (F.2.2 k hk).2 (pl t) o1
  unfold fq_St at s; rw [o2] at s
  exact (s.2 ((fq_S_o ht).mp h).2).1
theorem fq_ch_f (F : fq_Fi B od pl nd n N th ab sm fo aO) (ht : t < 8) : fq_ch B pl nd n T t (fo t) = 0 := by
  apply fq_cn_0
  intro k hk h
  obtain ⟨o1, o2⟩ := F.1.2 t ht
  have s := (F.2.2 k hk).2 (pl t) o1
  unfold fq_St at s; rw [o2] at s
  obtain ⟨s1, s2, s3, s4⟩ := s.2 ((fq_S_o ht).mp h.1).2
  exact (F.2.1.2.2.1 t ht).2.2 _ h.2 s2 s3
theorem fq_ch_s (F : fq_Fi B od pl nd n N th ab sm fo aO) (ht : t < 8) (hx : 0 < x) (hxN : x < N) (e : th x = t) : fq_ch B pl nd n T t (sm x) = fq_ch B pl nd n T t x + fq_wt B pl nd n th T x := by
  have g := F.2.1.2.1 x hx hxN
  have lx : fq_lv pl th x = pl t + 1 := by rw [fq_lvp hx, e]
  obtain ⟨o1, o2⟩ := F.1.2 t ht
  apply fq_cn_add
  · intro k hk
    rw [lx]
    constructor
    · intro ⟨h1, h2⟩
      have s := (F.2.2 k hk).2 (pl t) o1
      unfold fq_St at s; rw [o2] at s
      obtain ⟨s1, s2, s3, s4⟩ := s.2 ((fq_S_o ht).mp h1).2
      rcases Nat.lt_trichotomy (nd k (pl t + 1)) x with y | y | y
      · exact absurd (s3.trans e.symm) (g.2.2.2.2.2 _ h2 y)
      · exact Or.inr ⟨((fq_S_o ht).mp h1).1, y⟩
      · exact Or.inl ⟨h1, y⟩
    · intro h
      rcases h with h | h
      · exact ⟨h.1, by have := g.2.2.2.1; omega⟩
      · have b := (fq_Fi_ab F hk hx hxN (by rw [lx]; exact h.2)).1
        rw [e] at b
        exact ⟨(fq_S_o ht).mpr ⟨h.1, b⟩, by have := g.2.2.2.1; omega⟩
  · intro k hk h h'
    rw [lx] at h'
    omega
theorem fq_wt_n : fq_wt B pl nd n th T x ≤ n := fq_cn_n _ _
end
end
section
/-! countOn and liftWeights, walked -/
theorem fq_ix (d x : Nat) : 161 * nI d + nI x = nI (161 * d + x) := by
  show nI 161 * nI d + nI x = _
  rw [pk_mul, nI_add]
section
variable {f0 f1 : Int32} {aB aT aR aA aS aF aO aP aH aC aW aE aG : Nat → Int32} {B od pl th ab sm fo : Nat → Nat} {nd : Nat → Nat → Nat} {n N T t d fr to : Nat}
theorem fq_co10 {post : Int32 → Prop} (hd : d ≤ 8) (F : fq_Fi B od pl nd n N th ab sm fo aO) (hA : fq_Ar N aA aS aF ab sm fo) (ht : t < 8)
    (hW : ∀ x, 0 < x → x < N → th x = t → aW (161 * d + x) = nI (fq_wt B pl nd n th T x)) (h : post (nI (fq_c B n (T ||| 2 ^ t)))) :
    ∀ m x, x < m → x < N → (0 < x → th x = t) → wX_countOn_10 post (nI d) f0 f1 (nI N) aB aT aR aA aS aF aO aP aH aC aW aE aG m (nI (fq_ch B pl nd n T t x)) (nI x) := by
  have hN := F.2.1.1
  intro m
  induction m with
  | zero => intro x h; omega
  | succ m ih =>
    intro x hm hx hth
    rcases Nat.eq_zero_or_pos x with e | e
    · subst e
      rw [fq_ch_0 F ht]
      exact br_t rfl h
    · obtain ⟨g1, g2, g3, g4, g5, g6⟩ := F.2.1.2.1 x e hx
      obtain ⟨a1, a2⟩ := hA.1 x e hx
      have r2 : aS (nI x).toNatClampNeg = nI (sm x) := by rw [fq_ic (by omega), a2]
      refine br_f (nI_ne0 e (by omega)) ⟨by rw [fq_ix]; exact vp_in_nI (by omega) (by omega), nm_r (e' := nI (fq_ch B pl nd n T t (sm x))) ?_ ⟨vp_in_nI (by omega) (by omega), nm_r r2 (ih (sm x) (by omega) (by omega) (fun z => by rw [g5 z]; exact hth e))⟩⟩
      rw [fq_ix, fq_ic (by omega), hW x e hx (hth e), nI_add, fq_ch_s F ht e hx (hth e)]
theorem fq_count {post : Int32 → Prop} (hd : d ≤ 8) (F : fq_Fi B od pl nd n N th ab sm fo aO) (hA : fq_Ar N aA aS aF ab sm fo) (ht : t < 8)
    (hW : ∀ x, 0 < x → x < N → th x = t → aW (161 * d + x) = nI (fq_wt B pl nd n th T x)) (h : post (nI (fq_c B n (T ||| 2 ^ t)))) : wpX_countOn post (f0, f1, nI N, aB, aT, aR, aA, aS, aF, aO, aP, aH, aC, aW, aE, aG) (nI d) (nI t) := by
  obtain ⟨g1, g2, g3⟩ := F.2.1.2.2.1 t ht
  have k := fq_co10 (f0 := f0) (f1 := f1) (aB := aB) (aT := aT) (aR := aR) (aP := aP) (aH := aH) (aC := aC) (aE := aE) (aG := aG) hd F hA ht hW h (fo t + 1) (fo t) (by omega) g1 g2
  rw [fq_ch_f F ht] at k
  exact And.intro (vp_in_nI ht (by omega)) (nm_r (e' := nI (fo t)) (by rw [fq_ic (by omega), hA.2 t ht]) ⟨fo t + 1, k⟩)
theorem fq_lw94 {post : SX → Prop} (hto : to + 161 ≤ 1449) (hn : n ≤ 20) (F : fq_Fi B od pl nd n N th ab sm fo aO) (hA : fq_Ar N aA aS aF ab sm fo) (ht : t < 8) {w0 : Nat → Int32}
    (h : ∀ aW : Nat → Int32, (∀ j, j < to → aW j = w0 j) → (∀ y, 0 < y → y < N → fq_lv pl th y ≤ pl t → aW (to + y) = nI (fq_wt B pl nd n th (T ||| 2 ^ t) y)) → post (f0, f1, nI N, aB, aT, aR, aA, aS, aF, aO, aP, aH, aC, aW, aE, aG)) :
    ∀ (x : Nat) (aW : Nat → Int32), x < N → (∀ j, j < to → aW j = w0 j) → (∀ y, 0 < y → y < N → aW (to + y) = nI (fq_cn (fq_Pr B pl th ab nd N T t x y) n)) → wX_liftWeights_94 post (nI to) f0 f1 (nI N) (x + 1) (nI x) aB aT aR aA aS aF aO aP aH aC aW aE aG := by
  have hN := F.2.1.1
  intro x
  induction x with
  | zero =>
    intro aW hx h1 h2
    refine br_t (nI_le (a := 0) (b := 0) (by omega) (by omega)) (h aW h1 (fun y y1 y2 y3 => ?_))
    rw [h2 y y1 y2, fq_Pr_0 F ht y1 y2 y3]
  | succ x ih =>
    intro aW hx h1 h2
    obtain ⟨g1, g2, g3, g4, g5, g6⟩ := F.2.1.2.1 (x + 1) (by omega) hx
    obtain ⟨a1, a2⟩ := hA.1 (x + 1) (by omega) hx
    have ix : nI to + aA (nI (x + 1)).toNatClampNeg = nI (to + ab (x + 1)) := by rw [fq_ic (by omega), a1, nI_add]
    have ia : vp_in (nI to + aA (nI (x + 1)).toNatClampNeg) 1449 := by rw [ix]; exact vp_in_nI (by omega) (by omega)
    have iy : nI to + nI (x + 1) = nI (to + (x + 1)) := nI_add _ _
    refine br_f (nI_ge (a := 0) (b := x + 1) (by omega) (by omega)) ⟨vp_in_nI (by omega) (by omega), ia, by rw [iy]; exact vp_in_nI (by omega) (by omega), ia, ?_⟩
    rw [ix, iy, fq_ic (n := to + ab (x + 1)) (by omega), fq_ic (n := to + (x + 1)) (by omega)]
    refine nm_e (nm_r (e' := nI x) (pk_m1 x) (ih _ (by omega) (fun j hj => ?_) (fun y y1 y2 => ?_)))
    · rw [pk_un (by omega)]; exact h1 j hj
    · by_cases e : y = ab (x + 1)
      · subst e
        have c1 := fq_cn_n (fq_Pr B pl th ab nd N T t (x + 1) (ab (x + 1))) n
        have c2 := fq_cn_n (fq_Pr B pl th ab nd N T t (x + 1) (x + 1)) n
        have u := fq_Pr_up (T := T) F ht (x := x + 1) (by omega) hx y1
        rw [Nat.add_sub_cancel] at u
        rw [pk_us, h2 _ y1 y2, h2 (x + 1) (by omega) hx, nI_add, fq_vb2 (by omega), u]
      · have u := fq_Pr_ot (B := B) (pl := pl) (th := th) (ab := ab) (nd := nd) (n := n) (N := N) (T := T) (t := t) (x := x + 1) e
        rw [Nat.add_sub_cancel] at u
        rw [pk_un (by omega), h2 y y1 y2, u]
theorem fq_lw50 {post : SX → Prop} (hfr : fr + 161 = to) (hto : to + 161 ≤ 1449) (hn : n ≤ 20) (F : fq_Fi B od pl nd n N th ab sm fo aO) (hA : fq_Ar N aA aS aF ab sm fo) (ht : t < 8) {w0 : Nat → Int32}
    (hW : ∀ x, 0 < x → x < N → th x = t → w0 (fr + x) = nI (fq_wt B pl nd n th T x))
    (h : ∀ aW : Nat → Int32, (∀ j, j < to → aW j = w0 j) → (∀ y, 0 < y → y < N → aW (to + y) = nI (fq_cn (fun k => (fq_S T (B k) ∧ nd k (fq_lv pl th y) = y) ∧ th y = t ∧ 0 < y) n)) → ∃ m, wX_liftWeights_94 post (nI to) f0 f1 (nI N) m (nI (N - 1)) aB aT aR aA aS aF aO aP aH aC aW aE aG) :
    ∀ (m x : Nat) (aW : Nat → Int32), x < m → x < N → (0 < x → th x = t) → (∀ j, j < to → aW j = w0 j) → (∀ y, 0 < y → y < N → aW (to + y) = nI (fq_cn (fun k => (fq_S T (B k) ∧ nd k (fq_lv pl th y) = y) ∧ th y = t ∧ x < y) n)) →
      wX_liftWeights_50 post (nI fr) (nI to) f0 f1 (nI N) m (nI x) aB aT aR aA aS aF aO aP aH aC aW aE aG := by
  have hN := F.2.1.1
  intro m
  induction m with
  | zero => intro x aW h; omega
  | succ m ih =>
    intro x aW hm hx hth h1 h2
    rcases Nat.eq_zero_or_pos x with e | e
    · subst e
      exact br_t rfl (nm_r (e' := nI (N - 1)) (pk_sub (b := 1) hN.1) (h aW h1 h2))
    · obtain ⟨g1, g2, g3, g4, g5, g6⟩ := F.2.1.2.1 x e hx
      obtain ⟨a1, a2⟩ := hA.1 x e hx
      have r2 : aS (nI x).toNatClampNeg = nI (sm x) := by rw [fq_ic (by omega), a2]
      have l := fq_wt_n (B := B) (pl := pl) (nd := nd) (n := n) (th := th) (T := T) (x := x)
      refine br_f (nI_ne0 e (by omega)) ⟨by rw [nI_add]; exact vp_in_nI (by omega) (by omega), by rw [nI_add]; exact vp_in_nI (by omega) (by omega), nm_r (e' := upd aW (to + x) (nI (fq_wt B pl nd n th T x))) ?_ ⟨vp_in_nI (by omega) (by omega), nm_r r2 (ih (sm x) _ (by omega) (by omega) (fun z => by rw [g5 z]; exact hth e) (fun j hj => ?_) (fun y y1 y2 => ?_))⟩⟩
      · rw [nI_add, nI_add, fq_ic (by omega), fq_ic (by omega), h1 _ (by omega), hW x e hx (hth e), fq_vb (by omega)]
      · rw [pk_un (by omega)]; exact h1 j hj
      · by_cases ey : y = x
        · subst ey
          rw [pk_us]
          refine congrArg nI (fq_cn_congr (fun k hk => ⟨fun z => ⟨z, hth e, g4⟩, fun z => z.1⟩))
        · rw [pk_un (by omega), h2 y y1 y2]
          refine congrArg nI (fq_cn_congr (fun k hk => ⟨fun z => ⟨z.1, z.2.1, by omega⟩, fun z => ⟨z.1, z.2.1, ?_⟩⟩))
          rcases Nat.lt_or_ge y x with q | q
          · exact absurd (z.2.1.trans (hth e).symm) (g6 y z.2.2 q)
          · omega
theorem fq_lw16 {post : SX → Prop} (hto : to + 161 ≤ 1449) (hN : N ≤ 161) (ht : t < 8) (hF : aF t = nI (fo t)) {w0 : Nat → Int32}
    (h : ∀ aW : Nat → Int32, (∀ j, j < to → aW j = w0 j) → (∀ y, y < N → aW (to + y) = nI 0) → ∃ m, wX_liftWeights_50 post (nI fr) (nI to) f0 f1 (nI N) m (nI (fo t)) aB aT aR aA aS aF aO aP aH aC aW aE aG) :
    ∀ (e x : Nat) (aW : Nat → Int32), x + e = N → (∀ j, j < to → aW j = w0 j) → (∀ y, y < x → aW (to + y) = nI 0) → wX_liftWeights_16 post (nI t) (nI fr) (nI to) f0 f1 (nI N) (e + 1) (nI x) aB aT aR aA aS aF aO aP aH aC aW aE aG := by
  intro e
  induction e with
  | zero =>
    intro x aW hx h1 h2
    exact br_t (nI_le (by omega) (by omega)) ⟨vp_in_nI ht (by omega), nm_r (e' := nI (fo t)) (by rw [fq_ic (by omega), hF]) (h aW h1 (fun y hy => h2 y (by omega)))⟩
  | succ e ih =>
    intro x aW hx h1 h2
    refine br_f (nI_ge (by omega) (by omega)) ⟨by rw [nI_add]; exact vp_in_nI (by omega) (by omega), nm_r (e' := upd aW (to + x) (nI 0)) ?_ (nm_r (nI_1 x) (ih (x + 1) _ (by omega) (fun j hj => ?_) (fun y hy => ?_)))⟩
    · rw [nI_add, fq_ic (by omega)]; exact congrArg (upd aW (to + x)) (fq_vb (n := 0) (by omega))
    · rw [pk_un (by omega)]; exact h1 j hj
    · by_cases ey : y = x
      · subst ey; rw [pk_us]
      · rw [pk_un (by omega)]; exact h2 y (by omega)
theorem fq_lift {post : SX → Prop} (hd : d ≤ 7) (hn : n ≤ 20) (F : fq_Fi B od pl nd n N th ab sm fo aO) (hA : fq_Ar N aA aS aF ab sm fo) (ht : t < 8) {w0 : Nat → Int32}
    (hW : ∀ x, 0 < x → x < N → th x = t → w0 (161 * d + x) = nI (fq_wt B pl nd n th T x))
    (h : ∀ aW : Nat → Int32, (∀ j, j < 161 * (d + 1) → aW j = w0 j) → (∀ y, 0 < y → y < N → fq_lv pl th y ≤ pl t → aW (161 * (d + 1) + y) = nI (fq_wt B pl nd n th (T ||| 2 ^ t) y)) → post (f0, f1, nI N, aB, aT, aR, aA, aS, aF, aO, aP, aH, aC, aW, aE, aG)) : wpX_liftWeights post (f0, f1, nI N, aB, aT, aR, aA, aS, aF, aO, aP, aH, aC, w0, aE, aG) (nI d) (nI t) := by
  have hN := F.2.1.1
  obtain ⟨g1, g2, g3⟩ := F.2.1.2.2.1 t ht
  refine nm_r (e' := nI (161 * d)) (pk_mul 161 d) (nm_r (e' := nI (161 * (d + 1))) (nI_add (161 * d) 161) ⟨N + 1, ?_⟩)
  refine fq_lw16 (by omega) hN.2 ht (hA.2 t ht) (w0 := w0) (fun aW h1 h2 => ⟨fo t + 1, ?_⟩) N 0 w0 (by omega) (fun _ _ => rfl) (fun y hy => by omega)
  refine fq_lw50 (by omega) (by omega) hn F hA ht hW (fun aW h1 h2 => ⟨N, ?_⟩) (fo t + 1) (fo t) aW (by omega) g1 g2 h1 (fun y y1 y2 => ?_)
  · have k := fq_lw94 (f0 := f0) (f1 := f1) (aB := aB) (aT := aT) (aR := aR) (aP := aP) (aH := aH) (aC := aC) (aE := aE) (aG := aG) (post := post) (to := 161 * (d + 1)) (by omega) hn F hA ht h (N - 1) aW (by omega) h1 (fun y y1 y2 => by rw [h2 y y1 y2, fq_Pr_i F ht y1 y2])
    rw [show N - 1 + 1 = N by omega] at k
    exact k
  · rw [h2 y y2, fq_cn_0 (fun k hk z => g3 y z.2.2 y2 z.2.1)]
end
end
section
/-! growSets -/
def fq_Rm (pl : Nat → Nat) (T G s : Nat) : Prop := s ≠ T ∧ ∀ t, t < 8 → G ≤ pl t → s.testBit t = T.testBit t
def fq_Lv (B pl : Nat → Nat) (nd : Nat → Nat → Nat) (n N : Nat) (th : Nat → Nat) (aW aE aG : Nat → Int32) (T G i : Nat) : Prop :=
  aE i = nI T ∧ T < 256 ∧ aG i = nI G - 1 ∧ G + i ≤ 8 ∧ (∀ t, t < 8 → pl t < G → T.testBit t = false) ∧ (∀ x, 0 < x → x < N → fq_lv pl th x ≤ G → aW (161 * i + x) = nI (fq_wt B pl nd n th T x))
def fq_GI (B pl : Nat → Nat) (nd : Nat → Nat → Nat) (n N : Nat) (th : Nat → Nat) (d : Nat) (T G : Nat → Nat) (aC aW aE aG : Nat → Int32) : Prop :=
  (∀ i, i < d → fq_Lv B pl nd n N th aW aE aG (T i) (G i) i) ∧ (∀ s, s < 256 → aC s = nI (fq_c B n s) ∨ (aC s = nI 0 ∧ ∃ i, i < d ∧ fq_Rm pl (T i) (G i) s))
def fq_mu (G : Nat → Nat) : Nat → Nat
  | 0 => 0
  | d + 1 => fq_mu G d + 3 ^ G d
theorem fq_mu_c {G G' : Nat → Nat} : ∀ {d : Nat}, (∀ i, i < d → G i = G' i) → fq_mu G d = fq_mu G' d := by
  intro d
  induction d with
  | zero => intro _; rfl
  | succ d ih =>
    intro h
    show fq_mu G d + 3 ^ G d = fq_mu G' d + 3 ^ G' d
    rw [ih (fun i hi => h i (by omega)), h d (by omega)]
section
variable {B od pl th ab sm fo T G : Nat → Nat} {nd : Nat → Nat → Nat} {n N e g s : Nat} {aO aC aW aE aG : Nat → Int32}
theorem fq_GI_pop (hG : G e = 0) (h : fq_GI B pl nd n N th (e + 1) T G aC aW aE aG) : fq_GI B pl nd n N th e T G aC aW aE aG := by
  refine ⟨fun i hi => h.1 i (by omega), fun s hs => (h.2 s hs).imp id (fun ⟨h1, i, i1, i2⟩ => ⟨h1, i, ?_, i2⟩)⟩
  rcases Nat.lt_or_ge i e with z | z
  · exact z
  · have ei : i = e := by omega
    subst ei
    rw [hG] at i2
    exact absurd (fq_ext hs (h.1 i (by omega)).2.1 (fun t ht => i2.2 t ht (by omega))) i2.1
theorem fq_Rm_s (hO : fq_Or aO od pl) (hg : g < 8) {T0 : Nat} (hT : T0 < 256) (hs : s < 256) (hb : ∀ t, t < 8 → pl t < g + 1 → T0.testBit t = false) (h : fq_Rm pl T0 (g + 1) s) :
    (s.testBit (od g) = false ∧ fq_Rm pl T0 g s) ∨ (fq_S (T0 ||| 2 ^ od g) s ∧ (s = T0 ||| 2 ^ od g ∨ fq_Rm pl (T0 ||| 2 ^ od g) g s)) := by
  obtain ⟨o1, o2, o3⟩ := hO.1 g hg
  have ug : ∀ t, t < 8 → pl t = g → t = od g := fun t ht e => by rw [← e, (hO.2 t ht).2]
  cases e : s.testBit (od g)
  · refine Or.inl ⟨rfl, h.1, fun t ht hp => ?_⟩
    by_cases eg : pl t = g
    · rw [ug t ht eg, e, hb (od g) o2 (by omega)]
    · exact h.2 t ht (by omega)
  · refine Or.inr ⟨fun t ht z => ?_, ?_⟩
    · rw [fq_ob] at z
      by_cases et : od g = t
      · rw [← et]; exact e
      · have z' : T0.testBit t = true := by simpa [et] using z
        rcases Nat.lt_or_ge (pl t) (g + 1) with q | q
        · rw [hb t ht q] at z'; exact nomatch z'
        · rw [h.2 t ht q]; exact z'
    · by_cases es : s = T0 ||| 2 ^ od g
      · exact Or.inl es
      · refine Or.inr ⟨es, fun t ht hp => ?_⟩
        rw [fq_ob]
        by_cases et : od g = t
        · subst et; rw [e]; simp
        · have : pl t ≠ g := fun q => et (ug t ht q).symm
          rw [h.2 t ht (by omega)]; simp [et]
theorem fq_GI_skip (hO : fq_Or aO od pl) (hg : g < 8) (hG : G e = g + 1) (hc : fq_c B n (T e ||| 2 ^ od g) = 0) (h : fq_GI B pl nd n N th (e + 1) T G aC aW aE aG) :
    fq_GI B pl nd n N th (e + 1) T (fq_u G e g) aC aW aE (upd aG e (nI g - 1)) := by
  obtain ⟨l1, l2, l3, l4, l5, l6⟩ := h.1 e (by omega)
  rw [hG] at l4 l5 l6
  refine ⟨fun i hi => ?_, fun s hs => ?_⟩
  · by_cases ei : i = e
    · subst ei
      rw [fq_us]
      exact ⟨l1, l2, pk_us, by omega, fun t ht hp => l5 t ht (by omega), fun x x1 x2 x3 => l6 x x1 x2 (by omega)⟩
    · obtain ⟨m1, m2, m3, m4, m5, m6⟩ := h.1 i hi
      rw [fq_un ei]
      exact ⟨m1, m2, by rw [pk_un ei]; exact m3, m4, m5, m6⟩
  · rcases h.2 s hs with q | ⟨q, i, i1, i2⟩
    · exact Or.inl q
    · by_cases ei : i = e
      · subst ei
        rw [hG] at i2
        rcases fq_Rm_s hO hg l2 hs l5 i2 with ⟨_, r⟩ | ⟨r, _⟩
        · exact Or.inr ⟨q, i, i1, by rw [fq_us]; exact r⟩
        · have := fq_c_le (B := B) (n := n) r
          refine Or.inl ?_
          rw [q, show fq_c B n s = 0 by omega]
      · exact Or.inr ⟨q, i, i1, by rw [fq_un ei]; exact i2⟩
theorem fq_GI_push {w : Nat → Int32} (hO : fq_Or aO od pl) (hN : N ≤ 161) (hg : g < 8) (hG : G e = g + 1) (h : fq_GI B pl nd n N th (e + 1) T G aC aW aE aG)
    (w1 : ∀ j, j < 161 * (e + 1) → w j = aW j) (w2 : ∀ y, 0 < y → y < N → fq_lv pl th y ≤ pl (od g) → w (161 * (e + 1) + y) = nI (fq_wt B pl nd n th (T e ||| 2 ^ od g) y)) :
    fq_GI B pl nd n N th (e + 2) (fq_u T (e + 1) (T e ||| 2 ^ od g)) (fq_u (fq_u G e g) (e + 1) g) (upd aC (T e ||| 2 ^ od g) (nI (fq_c B n (T e ||| 2 ^ od g)))) w (upd aE (e + 1) (nI (T e ||| 2 ^ od g))) (upd (upd aG e (nI g - 1)) (e + 1) (nI g - 1)) := by
  obtain ⟨l1, l2, l3, l4, l5, l6⟩ := h.1 e (by omega)
  obtain ⟨o1, o2, o3⟩ := hO.1 g hg
  rw [hG] at l4 l5 l6
  refine ⟨fun i hi => ?_, fun s hs => ?_⟩
  · by_cases e1 : i = e + 1
    · subst e1
      rw [fq_us, fq_us]
      refine ⟨pk_us, fq_ol l2 o2, pk_us, by omega, fun t ht hp => ?_, fun x x1 x2 x3 => w2 x x1 x2 (by omega)⟩
      have : od g ≠ t := fun z => by rw [← z, o3] at hp; omega
      rw [fq_ob, l5 t ht (by omega)]
      simp [this]
    · rw [fq_un e1, fq_un e1]
      by_cases ei : i = e
      · subst ei
        rw [fq_us]
        exact ⟨by rw [pk_un e1]; exact l1, l2, by rw [pk_un e1, pk_us], by omega, fun t ht hp => l5 t ht (by omega), fun x x1 x2 x3 => by rw [w1 _ (by omega)]; exact l6 x x1 x2 (by omega)⟩
      · obtain ⟨m1, m2, m3, m4, m5, m6⟩ := h.1 i (by omega)
        rw [fq_un ei]
        exact ⟨by rw [pk_un e1]; exact m1, m2, by rw [pk_un e1, pk_un ei]; exact m3, m4, m5, fun x x1 x2 x3 => by rw [w1 _ (by omega)]; exact m6 x x1 x2 x3⟩
  · by_cases es : s = T e ||| 2 ^ od g
    · rw [es, pk_us]; exact Or.inl rfl
    · rw [pk_un es]
      rcases h.2 s hs with q | ⟨q, i, i1, i2⟩
      · exact Or.inl q
      · refine Or.inr ⟨q, ?_⟩
        by_cases ei : i = e
        · subst ei
          rw [hG] at i2
          rcases fq_Rm_s hO hg l2 hs l5 i2 with ⟨_, r⟩ | ⟨_, r | r⟩
          · exact ⟨i, by omega, by rw [fq_un (by omega), fq_un (by omega), fq_us]; exact r⟩
          · exact absurd r es
          · exact ⟨i + 1, by omega, by rw [fq_us, fq_us]; exact r⟩
        · exact ⟨i, by omega, by rw [fq_un (by omega), fq_un (by omega), fq_un ei]; exact i2⟩
end
theorem fq_gb : ∀ g, g < 9 → ((nI g - 1).toInt8.toInt32).toInt8.toInt32 = nI g - 1 := by decide +kernel
theorem fq_gv {g : Nat} (h : g < 9) : vp_nar .byte ((nI g - 1).toInt8.toInt32) = nI g - 1 := by rw [vp_nar_byte, fq_gb g h]
section
variable {f1 : Int32} {aB aT aR aA aS aF aO aP aH aC aW aE aG : Nat → Int32} {B od pl th ab sm fo : Nat → Nat} {nd : Nat → Nat → Nat} {n N : Nat}
theorem fq_gs78 {post : SX → Prop} (hn : n ≤ 20) (F : fq_Fi B od pl nd n N th ab sm fo aO) (hA : fq_Ar N aA aS aF ab sm fo)
    (h : ∀ aC aW aE aG : Nat → Int32, (∀ s, s < 256 → aC s = nI (fq_c B n s)) → post (nI n, f1, nI N, aB, aT, aR, aA, aS, aF, aO, aP, aH, aC, aW, aE, aG)) :
    ∀ (m d : Nat) (T G : Nat → Nat) (aC aW aE aG : Nat → Int32), fq_mu G d < m → fq_GI B pl nd n N th d T G aC aW aE aG → wX_growSets_78 post m (nI d - 1) (nI n) f1 (nI N) aB aT aR aA aS aF aO aP aH aC aW aE aG := by
  have hN := F.2.1.1
  intro m
  induction m with
  | zero => intro d T G aC aW aE aG h; omega
  | succ m ih =>
    intro d T G aC aW aE aG hm hI
    rcases d with _ | e
    · refine br_t (by decide) (h aC aW aE aG (fun s hs => ?_))
      rcases hI.2 s hs with q | ⟨_, i, i1, _⟩
      · exact q
      · omega
    · obtain ⟨l1, l2, l3, l4, l5, l6⟩ := hI.1 e (by omega)
      rw [nI_pred]
      have ie : vp_in (nI e) 9 := vp_in_nI (by omega) (by omega)
      have ce : (nI e).toNatClampNeg = e := fq_ic (by omega)
      have rG : aG (nI e).toNatClampNeg = nI (G e) - 1 := by rw [ce, l3]
      have hm' : fq_mu G e + 3 ^ G e < m + 1 := hm
      refine br_f (nI_pos (by omega)) ⟨ie, nm_r rG ?_⟩
      rcases Nat.eq_zero_or_pos (G e) with z | z
      · rw [z]
        refine br_f (by decide) (nm_r (e' := nI e - 1) (Int32.sub_eq_add_neg _ _).symm (ih e T G aC aW aE aG ?_ (fq_GI_pop z hI)))
        rw [z] at hm'
        omega
      · obtain ⟨g, hg⟩ : ∃ g, G e = g + 1 := ⟨G e - 1, by omega⟩
        rw [hg] at hm'
        have hp3 : 3 ^ (g + 1) = 3 * 3 ^ g := by rw [Nat.pow_succ, Nat.mul_comm]
        have hp0 : 0 < 3 ^ g := Nat.pow_pos (by decide)
        have hg8 : g < 8 := by omega
        obtain ⟨o1, o2, o3⟩ := F.1.1 g hg8
        rw [hg, nI_pred] at rG
        rw [hg, nI_pred]
        have hW : ∀ x, 0 < x → x < N → th x = od g → aW (161 * e + x) = nI (fq_wt B pl nd n th (T e) x) := fun x x1 x2 x3 => l6 x x1 x2 (by rw [fq_lvp x1, x3, o3]; omega)
        have mu1 : fq_mu (fq_u G e g) (e + 1) = fq_mu G e + 3 ^ g := by
          show fq_mu (fq_u G e g) e + 3 ^ (fq_u G e g e) = _
          rw [fq_us, fq_mu_c (G' := G) (fun i hi => fq_un (by omega))]
        refine br_t (nI_pos' (by omega)) ⟨ie, ie, nm_r (e' := upd aG e (nI g - 1)) (by rw [rG, ce, fq_gv (by omega)]) ⟨vp_in_nI hg8 (by omega), nm_r (e' := nI (od g)) (by rw [fq_ic (by omega), o1]) ?_⟩⟩
        refine fq_count (by omega) F hA o2 hW ?_
        rcases Nat.eq_zero_or_pos (fq_c B n (T e ||| 2 ^ od g)) with c0 | c0
        · rw [c0]
          have k := ih (e + 1) T (fq_u G e g) aC aW aE (upd aG e (nI g - 1)) (by omega) (fq_GI_skip F.1 hg8 hg c0 hI)
          rw [nI_pred] at k
          exact br_t rfl k
        · have cn := fq_c_n B n (T e ||| 2 ^ od g)
          have sl := fq_ol l2 o2
          refine br_f (nI_ne0 c0 (by omega)) ⟨ie, nm_r (e' := nI (T e ||| 2 ^ od g)) (by rw [ce, l1, fq_or o2]) ⟨vp_in_nI sl (by omega), nm_r (e' := upd aC (T e ||| 2 ^ od g) (nI (fq_c B n (T e ||| 2 ^ od g)))) (by rw [fq_ic (by omega), fq_vb2 (by omega)]) ?_⟩⟩
          refine fq_lift (by omega) hn F hA o2 hW (fun w w1 w2 => ?_)
          have ie1 : vp_in (nI (e + 1)) 9 := vp_in_nI (by omega) (by omega)
          have ce1 : (nI (e + 1)).toNatClampNeg = e + 1 := fq_ic (by omega)
          refine nm_r (nI_1 e) ⟨ie1, nm_r (e' := upd aE (e + 1) (nI (T e ||| 2 ^ od g))) (by rw [ce1, fq_vs2 (by omega)]) ⟨ie1, nm_r (e' := upd (upd aG e (nI g - 1)) (e + 1) (nI g - 1)) (by rw [ce1, fq_gv (by omega)]) ?_⟩⟩
          have k := ih (e + 2) _ _ _ w _ _ ?_ (fq_GI_push F.1 hN.2 hg8 hg hI w1 w2)
          · rw [show e + 2 = e + 1 + 1 from rfl, nI_pred] at k
            exact k
          · show fq_mu (fq_u (fq_u G e g) (e + 1) g) (e + 1) + 3 ^ (fq_u (fq_u G e g) (e + 1) g (e + 1)) < m
            rw [fq_us, fq_mu_c (G' := fq_u G e g) (fun i hi => fq_un (by omega)), mu1]
            omega
end
end
section
/-! growSets and build as wholes -/
section
variable {f1 f2 : Int32} {aB aT aR aA aS aF aO aP aH aC aW aE aG : Nat → Int32} {B od pl th ab sm fo : Nat → Nat} {nd : Nat → Nat → Nat} {n N : Nat}
theorem fq_gs35 {post : SX → Prop} (hn : n ≤ 20) (F : fq_Fi B od pl nd n N th ab sm fo aO) (hA : fq_Ar N aA aS aF ab sm fo) (hR : ∀ x, 0 < x → x < N → aR x = nI (fq_wt B pl nd n th 0 x))
    (hC0 : aC 0 = nI n) (hC1 : ∀ s, 0 < s → s < 256 → aC s = nI 0)
    (h : ∀ aC aW aE aG : Nat → Int32, (∀ s, s < 256 → aC s = nI (fq_c B n s)) → post (nI n, f1, nI N, aB, aT, aR, aA, aS, aF, aO, aP, aH, aC, aW, aE, aG)) :
    ∀ (e x : Nat) (aW : Nat → Int32), x + e = N → (∀ y, 0 < y → y < x → aW y = nI (fq_wt B pl nd n th 0 y)) → wX_growSets_35 post (nI n) f1 (nI N) (e + 1) (nI x) aB aT aR aA aS aF aO aP aH aC aW aE aG := by
  have hN := F.2.1.1
  intro e
  induction e with
  | zero =>
    intro x aW hx h1
    refine br_t (nI_le (by omega) (by omega)) (nm_r (e' := upd aE 0 (nI 0)) (congrArg (upd aE 0) (fq_vs (n := 0) (by omega))) (nm_r (e' := upd aG 0 (nI 8 - 1)) (congrArg (upd aG 0) ((fq_vb (n := 7) (by omega)).trans (by decide))) ⟨fq_mu (fun _ => 8) 1 + 1, ?_⟩))
    refine fq_gs78 hn F hA h _ 1 (fun _ => 0) (fun _ => 8) aC aW _ _ (Nat.lt_succ_self _) ⟨fun i hi => ?_, fun s hs => ?_⟩
    · have ei : i = 0 := by omega
      subst ei
      refine ⟨pk_us, (by decide : 0 < 256), pk_us, (by decide : 8 + 0 ≤ 8), fun t _ _ => Nat.zero_testBit t, fun y y1 y2 _ => ?_⟩
      rw [Nat.mul_zero, Nat.zero_add]
      exact h1 y y1 (by omega)
    · rcases Nat.eq_zero_or_pos s with z | z
      · subst z
        rw [hC0, fq_c_0]
        exact Or.inl rfl
      · exact Or.inr ⟨hC1 s z hs, 0, by omega, (by omega : s ≠ 0), fun t ht (hp : 8 ≤ pl t) => by have := (F.1.2 t ht).1; omega⟩
  | succ e ih =>
    intro x aW hx h1
    refine br_f (nI_ge (by omega) (by omega)) ⟨vp_in_nI (by omega) (by omega), vp_in_nI (by omega) (by omega), nm_e (nm_r (nI_1 x) (ih (x + 1) _ (by omega) (fun y y1 y2 => ?_)))⟩
    rw [fq_ic (by omega)]
    by_cases ey : y = x
    · subst ey
      have l := fq_wt_n (B := B) (pl := pl) (nd := nd) (n := n) (th := th) (T := 0) (x := y)
      rw [pk_us, hR y y1 (by omega), fq_vb (by omega)]
    · rw [pk_un ey]
      exact h1 y y1 (by omega)
theorem fq_gs2 {post : SX → Prop} (hn : n ≤ 20) (F : fq_Fi B od pl nd n N th ab sm fo aO) (hA : fq_Ar N aA aS aF ab sm fo) (hR : ∀ x, 0 < x → x < N → aR x = nI (fq_wt B pl nd n th 0 x))
    (h : ∀ aC aW aE aG : Nat → Int32, (∀ s, s < 256 → aC s = nI (fq_c B n s)) → post (nI n, f1, nI N, aB, aT, aR, aA, aS, aF, aO, aP, aH, aC, aW, aE, aG)) :
    ∀ (e x : Nat) (aC : Nat → Int32), x + e = 256 → (∀ y, y < x → aC y = nI 0) → wX_growSets_2 post (nI n) f1 (nI N) (e + 1) (nI x) aB aT aR aA aS aF aO aP aH aC aW aE aG := by
  have hN := F.2.1.1
  intro e
  induction e with
  | zero =>
    intro x aC hx h1
    refine br_t (nI_le (a := 256) (by omega) (by omega)) (nm_r (e' := upd aC 0 (nI n)) (congrArg (upd aC 0) (fq_vb2 (n := n) (by omega))) ⟨N + 1, ?_⟩)
    exact fq_gs35 hn F hA hR pk_us (fun s s1 s2 => by rw [pk_un (by omega)]; exact h1 s (by omega)) h N 0 aW (by omega) (fun y y1 y2 => by omega)
  | succ e ih =>
    intro x aC hx h1
    refine br_f (nI_ge (b := 256) (by omega) (by omega)) ⟨vp_in_nI (by omega) (by omega), nm_e (nm_r (nI_1 x) (ih (x + 1) _ (by omega) (fun y hy => ?_)))⟩
    rw [fq_ic (by omega)]
    by_cases ey : y = x
    · subst ey
      rw [pk_us]; exact fq_vb (n := 0) (by omega)
    · rw [pk_un ey]
      exact h1 y (by omega)
theorem fq_grow {post : SX → Prop} (hn : n ≤ 20) (F : fq_Fi B od pl nd n N th ab sm fo aO) (hA : fq_Ar N aA aS aF ab sm fo) (hR : ∀ x, 0 < x → x < N → aR x = nI (fq_wt B pl nd n th 0 x))
    (h : ∀ aC aW aE aG : Nat → Int32, (∀ s, s < 256 → aC s = nI (fq_c B n s)) → post (nI n, f1, nI N, aB, aT, aR, aA, aS, aF, aO, aP, aH, aC, aW, aE, aG)) : wpX_growSets post (nI n, f1, nI N, aB, aT, aR, aA, aS, aF, aO, aP, aH, aC, aW, aE, aG) :=
  ⟨257, fq_gs2 hn F hA hR h 256 0 aC (by omega) (fun y hy => by omega)⟩
theorem fq_Th_fin {x : Nat} (hx : 0 < x) : fq_Th pl nd n 0 th x = fq_wt B pl nd n th 0 x := by
  unfold fq_Th
  rw [fq_cn_f (n := n) (fun z => by rw [fq_lvp hx] at z; omega)]
  exact fq_cn_congr (fun k hk => ⟨fun z => ⟨fq_S_0 _, z.1⟩, fun z => ⟨z.2, Or.inl hk⟩⟩)
theorem fq_bu56 {post : SX → Prop} (hn : n ≤ 20) (hO : fq_Or aO od pl) (hB : ∀ k, aB k = nI (B k)) (hl : ∀ k, B k < 256)
    (h : ∀ (f2 : Int32) (aT aR aA aS aF aC aW aE aG : Nat → Int32), (∀ s, s < 256 → aC s = nI (fq_c B n s)) → post (nI n, f1, f2, aB, aT, aR, aA, aS, aF, aO, aP, aH, aC, aW, aE, aG)) :
    ∀ (e b N : Nat) (nd : Nat → Nat → Nat) (th ab sm fo : Nat → Nat) (aT aR aA aS aF : Nat → Int32), b + e = n → N ≤ 1 + 8 * b → fq_PI B od pl nd b 0 N th ab sm fo aR aA aS aF → wX_build_56 post (e + 1) (nI b) (nI n) f1 (nI N) aB aT aR aA aS aF aO aP aH aC aW aE aG := by
  intro e
  induction e with
  | zero =>
    intro b N nd th ab sm fo aT aR aA aS aF hb hN hP
    have eb : b = n := by omega
    subst eb
    refine br_t (nI_le (Nat.le_refl _) (by omega)) ?_
    refine fq_grow (B := B) (od := od) (pl := pl) (th := th) (ab := ab) (sm := sm) (fo := fo) (nd := nd) hn ⟨hO, hP.1, fun k hk => ⟨(hP.2.2.1 k (by omega)).1, fun q hq => (hP.2.2.1 k (by omega)).2 q hq (Or.inl hk)⟩⟩ hP.2.1 (fun x x1 x2 => by rw [hP.2.2.2 x x1 x2, fq_Th_fin x1]) (fun aC aW aE aG hC => ?_)
    exact h _ aT aR aA aS aF aC aW aE aG hC
  | succ e ih =>
    intro b N nd th ab sm fo aT aR aA aS aF hb hN hP
    have rB : aB (nI b).toNatClampNeg = nI (B b) := by rw [fq_ic (by omega), hB]
    refine br_f (nI_ge (by omega) (by omega)) ⟨vp_in_nI (by omega) (by omega), ?_⟩
    rw [rB]
    refine fq_plant hO (hl b) (by omega) hN hP (fun N nd th ab sm fo aT aR aA aS aF h1 h2 => ?_)
    exact nm_r (nI_1 b) (ih (b + 1) N nd th ab sm fo aT aR aA aS aF (by omega) h1 h2)
theorem fq_bu35 {post : SX → Prop} (hn : n ≤ 20) (hO : fq_Or aO od pl) (hB : ∀ k, aB k = nI (B k)) (hl : ∀ k, B k < 256)
    (h : ∀ (f2 : Int32) (aT aR aA aS aF aC aW aE aG : Nat → Int32), (∀ s, s < 256 → aC s = nI (fq_c B n s)) → post (nI n, f1, f2, aB, aT, aR, aA, aS, aF, aO, aP, aH, aC, aW, aE, aG)) :
    ∀ (e t : Nat) (aF : Nat → Int32), t + e = 8 → (∀ u, u < t → aF u = nI 0) → wX_build_35 post (nI n) f1 (nI 1) (e + 1) (nI t) aB aT aR aA aS aF aO aP aH aC aW aE aG := by
  intro e
  induction e with
  | zero =>
    intro t aF ht h1
    exact br_t (nI_le (a := 8) (by omega) (by omega)) ⟨n + 1, fq_bu56 hn hO hB hl h n 0 1 _ _ _ _ _ aT aR aA aS aF (by omega) (by omega) (fq_PI_0 (fun u hu => h1 u (by omega)))⟩
  | succ e ih =>
    intro t aF ht h1
    refine br_f (nI_ge (b := 8) (by omega) (by omega)) ⟨vp_in_nI (by omega) (by omega), nm_e (nm_r (nI_1 t) (ih (t + 1) _ (by omega) (fun u hu => ?_)))⟩
    rw [fq_ic (by omega)]
    by_cases eu : u = t
    · subst eu
      rw [pk_us]; exact fq_vs (n := 0) (by omega)
    · rw [pk_un eu]
      exact h1 u (by omega)
theorem fq_build {post : SX → Prop} (hn : n ≤ 20) (hB : ∀ k, aB k = nI (B k)) (hl : ∀ k, B k < 256) (hc : f1 = 0 ∨ ∀ s, s < 256 → aC s = nI (fq_c B n s))
    (h : ∀ (f1 f2 : Int32) (aT aR aA aS aF aO aP aH aC aW aE aG : Nat → Int32), (∀ s, s < 256 → aC s = nI (fq_c B n s)) → post (nI n, f1, f2, aB, aT, aR, aA, aS, aF, aO, aP, aH, aC, aW, aE, aG)) : wpX_build post (nI n, f1, f2, aB, aT, aR, aA, aS, aF, aO, aP, aH, aC, aW, aE, aG) := by
  by_cases e : f1 = 0
  · refine br_t e (fq_ord hn (fun aO aP aH od pl hO => nm_e ⟨9, ?_⟩))
    exact fq_bu35 hn hO hB hl (fun f2 aT aR aA aS aF aC aW aE aG hC => h _ f2 aT aR aA aS aF aO aP aH aC aW aE aG hC) 8 0 aF (by omega) (fun u hu => by omega)
  · exact br_f e (h f1 f2 aT aR aA aS aF aO aP aH aC aW aE aG (hc.resolve_left e))
end
end
section
/-! each method at a good argument, over a general post -/
section
variable {f1 f2 : Int32} {aB aT aR aA aS aF aO aP aH aC aW aE aG cY : Nat → Int32} {B : Nat → Nat} {n m s pc k : Nat}
theorem fq_rel (hn : n ≤ 20) (hB : ∀ k, aB k = nI (B k)) (hl : ∀ k, B k < 256) (hc : f1 = 0 ∨ ∀ s, s < 256 → aC s = nI (fq_c B n s)) : i_Rel k (nI n, f1, f2, aB, aT, aR, aA, aS, aF, aO, aP, aH, aC, aW, aE, aG) (nI n, aB, cY) := ⟨n, B, rfl, rfl, rfl, hn, hB, hl, hc, rfl⟩
theorem fq_cb (hn : n ≤ 20) (s : Nat) : fq_c B n s ≤ 20 := Nat.le_trans (fq_c_n B n s) hn
theorem fq_cA : fq_An (fq_c B n) := fun _ _ h => fq_c_le h
theorem fq_Mcount {post : Int32 → SX → Prop} (hs : s < 256) (hn : n ≤ 20) (hB : ∀ k, aB k = nI (B k)) (hl : ∀ k, B k < 256) (hc : f1 = 0 ∨ ∀ s, s < 256 → aC s = nI (fq_c B n s))
    (h : ∀ (f1 f2 : Int32) (aT aR aA aS aF aO aP aH aC aW aE aG : Nat → Int32), (∀ s, s < 256 → aC s = nI (fq_c B n s)) → post (nI (fq_c B n s)) (nI n, f1, f2, aB, aT, aR, aA, aS, aF, aO, aP, aH, aC, aW, aE, aG)) : wpX_count post (nI n, f1, f2, aB, aT, aR, aA, aS, aF, aO, aP, aH, aC, aW, aE, aG) (nI s) := by
  unfold wpX_count
  refine fq_Xset_t hs (br_f (by decide) (fq_build hn hB hl hc (fun f1 f2 aT aR aA aS aF aO aP aH aC aW aE aG hC => ⟨vp_in_nI hs (by omega), ?_⟩)))
  rw [fq_rd hC hs]
  exact h f1 f2 aT aR aA aS aF aO aP aH aC aW aE aG hC
theorem fq_Ncount {post : Int32 → SY → Prop} (hs : s < 256) (hn : n ≤ 20) (hB : ∀ k, aB k = nI (B k)) (h : ∀ c : Nat → Int32, (∀ s, s < 256 → c s = nI (fq_c B n s)) → post (nI (fq_c B n s)) (nI n, aB, c)) : wpY_count post (nI n, aB, cY) (nI s) := by
  unfold wpY_count
  refine fq_Yset_t hs (br_f (by decide) (fq_Yca hn hB (fun c hC => ⟨vp_in_nI hs (by omega), ?_⟩)))
  rw [fq_rd hC hs]
  exact h c hC
theorem fq_Mfrequent {post : Int32 → SX → Prop} (h1 : 1 ≤ m) (hm : m ≤ 20) (hn : n ≤ 20) (hB : ∀ k, aB k = nI (B k)) (hl : ∀ k, B k < 256) (hc : f1 = 0 ∨ ∀ s, s < 256 → aC s = nI (fq_c B n s))
    (h : ∀ (f1 f2 : Int32) (aT aR aA aS aF aO aP aH aC aW aE aG : Nat → Int32), (∀ s, s < 256 → aC s = nI (fq_c B n s)) → post (nI (fq_cn (fun s => 1 ≤ s ∧ m ≤ fq_c B n s) 256)) (nI n, f1, f2, aB, aT, aR, aA, aS, aF, aO, aP, aH, aC, aW, aE, aG)) : wpX_frequent post (nI n, f1, f2, aB, aT, aR, aA, aS, aF, aO, aP, aH, aC, aW, aE, aG) (nI m) := by
  unfold wpX_frequent
  exact fq_Xbnd_t h1 hm (br_f (by decide) (fq_build hn hB hl hc (fun f1 f2 aT aR aA aS aF aO aP aH aC aW aE aG hC => fq_Xfr hC (fq_cb hn) hm (h f1 f2 aT aR aA aS aF aO aP aH aC aW aE aG hC))))
theorem fq_Nfrequent {post : Int32 → SY → Prop} (h1 : 1 ≤ m) (hm : m ≤ 20) (hn : n ≤ 20) (hB : ∀ k, aB k = nI (B k)) (h : ∀ c : Nat → Int32, (∀ s, s < 256 → c s = nI (fq_c B n s)) → post (nI (fq_cn (fun s => 1 ≤ s ∧ m ≤ fq_c B n s) 256)) (nI n, aB, c)) : wpY_frequent post (nI n, aB, cY) (nI m) := by
  unfold wpY_frequent
  exact fq_Ybnd_t h1 hm (br_f (by decide) (fq_Yca hn hB (fun c hC => fq_Yfr hC (fq_cb hn) hm (h c hC))))
theorem fq_Mclosed {post : Int32 → SX → Prop} (h1 : 1 ≤ m) (hm : m ≤ 20) (hn : n ≤ 20) (hB : ∀ k, aB k = nI (B k)) (hl : ∀ k, B k < 256) (hc : f1 = 0 ∨ ∀ s, s < 256 → aC s = nI (fq_c B n s))
    (h : ∀ (f1 f2 : Int32) (aT aR aA aS aF aO aP aH aC aW aE aG : Nat → Int32), (∀ s, s < 256 → aC s = nI (fq_c B n s)) → post (nI (fq_cn (fun s => 1 ≤ s ∧ fq_K1 (fq_c B n) s m) 256)) (nI n, f1, f2, aB, aT, aR, aA, aS, aF, aO, aP, aH, aC, aW, aE, aG)) : wpX_closed post (nI n, f1, f2, aB, aT, aR, aA, aS, aF, aO, aP, aH, aC, aW, aE, aG) (nI m) := by
  unfold wpX_closed
  exact fq_Xbnd_t h1 hm (br_f (by decide) (fq_build hn hB hl hc (fun f1 f2 aT aR aA aS aF aO aP aH aC aW aE aG hC => fq_Xcl hC (fq_cb hn) hm (h f1 f2 aT aR aA aS aF aO aP aH aC aW aE aG hC))))
theorem fq_Nclosed {post : Int32 → SY → Prop} (h1 : 1 ≤ m) (hm : m ≤ 20) (hn : n ≤ 20) (hB : ∀ k, aB k = nI (B k)) (h : ∀ c : Nat → Int32, (∀ s, s < 256 → c s = nI (fq_c B n s)) → post (nI (fq_cn (fun s => 1 ≤ s ∧ fq_K1 (fq_c B n) s m) 256)) (nI n, aB, c)) : wpY_closed post (nI n, aB, cY) (nI m) := by
  unfold wpY_closed
  exact fq_Ybnd_t h1 hm (br_f (by decide) (fq_Yca hn hB (fun c hC => fq_Ycl hC (fq_cb hn) fq_cA hm (h c hC))))
theorem fq_Mlargest {post : Int32 → SX → Prop} (h1 : 1 ≤ m) (hm : m ≤ 20) (hn : n ≤ 20) (hB : ∀ k, aB k = nI (B k)) (hl : ∀ k, B k < 256) (hc : f1 = 0 ∨ ∀ s, s < 256 → aC s = nI (fq_c B n s))
    (h : ∀ (f1 f2 : Int32) (aT aR aA aS aF aO aP aH aC aW aE aG : Nat → Int32), (∀ s, s < 256 → aC s = nI (fq_c B n s)) → post (nI (fq_cn (fun s => 1 ≤ s ∧ fq_L1 (fq_c B n) s m) 256)) (nI n, f1, f2, aB, aT, aR, aA, aS, aF, aO, aP, aH, aC, aW, aE, aG)) : wpX_largest post (nI n, f1, f2, aB, aT, aR, aA, aS, aF, aO, aP, aH, aC, aW, aE, aG) (nI m) := by
  unfold wpX_largest
  exact fq_Xbnd_t h1 hm (br_f (by decide) (fq_build hn hB hl hc (fun f1 f2 aT aR aA aS aF aO aP aH aC aW aE aG hC => fq_Xla hC (fq_cb hn) hm (h f1 f2 aT aR aA aS aF aO aP aH aC aW aE aG hC))))
theorem fq_Nlargest {post : Int32 → SY → Prop} (h1 : 1 ≤ m) (hm : m ≤ 20) (hn : n ≤ 20) (hB : ∀ k, aB k = nI (B k)) (h : ∀ c : Nat → Int32, (∀ s, s < 256 → c s = nI (fq_c B n s)) → post (nI (fq_cn (fun s => 1 ≤ s ∧ fq_L1 (fq_c B n) s m) 256)) (nI n, aB, c)) : wpY_largest post (nI n, aB, cY) (nI m) := by
  unfold wpY_largest
  exact fq_Ybnd_t h1 hm (br_f (by decide) (fq_Yca hn hB (fun c hC => fq_Yla hC (fq_cb hn) fq_cA hm (h c hC))))
theorem fq_Mwidest {post : Int32 → SX → Prop} (h1 : 1 ≤ m) (hm : m ≤ 20) (hn : n ≤ 20) (hB : ∀ k, aB k = nI (B k)) (hl : ∀ k, B k < 256) (hc : f1 = 0 ∨ ∀ s, s < 256 → aC s = nI (fq_c B n s))
    (h : ∀ (f1 f2 : Int32) (aT aR aA aS aF aO aP aH aC aW aE aG : Nat → Int32), (∀ s, s < 256 → aC s = nI (fq_c B n s)) → post (nI (fq_wd (fq_c B n) m 256)) (nI n, f1, f2, aB, aT, aR, aA, aS, aF, aO, aP, aH, aC, aW, aE, aG)) : wpX_widest post (nI n, f1, f2, aB, aT, aR, aA, aS, aF, aO, aP, aH, aC, aW, aE, aG) (nI m) := by
  unfold wpX_widest
  exact fq_Xbnd_t h1 hm (br_f (by decide) (fq_build hn hB hl hc (fun f1 f2 aT aR aA aS aF aO aP aH aC aW aE aG hC => fq_Xwd hC (fq_cb hn) hm (h f1 f2 aT aR aA aS aF aO aP aH aC aW aE aG hC))))
theorem fq_Nwidest {post : Int32 → SY → Prop} (h1 : 1 ≤ m) (hm : m ≤ 20) (hn : n ≤ 20) (hB : ∀ k, aB k = nI (B k)) (h : ∀ c : Nat → Int32, (∀ s, s < 256 → c s = nI (fq_c B n s)) → post (nI (fq_wd (fq_c B n) m 256)) (nI n, aB, c)) : wpY_widest post (nI n, aB, cY) (nI m) := by
  unfold wpY_widest
  exact fq_Ybnd_t h1 hm (br_f (by decide) (fq_Yca hn hB (fun c hC => fq_Ywd hC (fq_cb hn) hm (h c hC))))
theorem fq_Mrules {post : Int32 → SX → Prop} (h1 : 1 ≤ m) (hm : m ≤ 20) (hp : pc ≤ 100) (hn : n ≤ 20) (hB : ∀ k, aB k = nI (B k)) (hl : ∀ k, B k < 256) (hc : f1 = 0 ∨ ∀ s, s < 256 → aC s = nI (fq_c B n s))
    (h : ∀ (f1 f2 : Int32) (aT aR aA aS aF aO aP aH aC aW aE aG : Nat → Int32), (∀ s, s < 256 → aC s = nI (fq_c B n s)) → post (nI (fq_sm (fun s => fq_cn (fun p => fq_rX (fq_c B n) m pc s p) 256) 256)) (nI n, f1, f2, aB, aT, aR, aA, aS, aF, aO, aP, aH, aC, aW, aE, aG)) : wpX_rules post (nI n, f1, f2, aB, aT, aR, aA, aS, aF, aO, aP, aH, aC, aW, aE, aG) (nI m) (nI pc) := by
  unfold wpX_rules
  exact fq_Xbnd_t h1 hm (br_f (by decide) (br_f (nI_pos (by omega)) (br_t (nI_le (b := 100) hp (by decide)) (fq_build hn hB hl hc (fun f1 f2 aT aR aA aS aF aO aP aH aC aW aE aG hC => fq_Xru hC (fq_cb hn) hm hp (h f1 f2 aT aR aA aS aF aO aP aH aC aW aE aG hC))))))
theorem fq_Nrules {post : Int32 → SY → Prop} (h1 : 1 ≤ m) (hm : m ≤ 20) (hp : pc ≤ 100) (hn : n ≤ 20) (hB : ∀ k, aB k = nI (B k)) (h : ∀ c : Nat → Int32, (∀ s, s < 256 → c s = nI (fq_c B n s)) → post (nI (fq_sm (fun f => fq_cn (fun g => fq_rY (fq_c B n) m pc f g) 256) 256)) (nI n, aB, c)) : wpY_rules post (nI n, aB, cY) (nI m) (nI pc) := by
  unfold wpY_rules
  exact fq_Ybnd_t h1 hm (br_f (by decide) (br_f (nI_pos (by omega)) (br_t (nI_le (b := 100) hp (by decide)) (fq_Yca hn hB (fun c hC => fq_Yru hC (fq_cb hn) hm hp (h c hC))))))
theorem fq_Mclosure {post : Int32 → SX → Prop} (hs : s < 256) (hn : n ≤ 20) (hB : ∀ k, aB k = nI (B k)) (hl : ∀ k, B k < 256) (hc : f1 = 0 ∨ ∀ s, s < 256 → aC s = nI (fq_c B n s))
    (h0 : fq_c B n s = 0 → ∀ (f1 f2 : Int32) (aT aR aA aS aF aO aP aH aC aW aE aG : Nat → Int32), (∀ s, s < 256 → aC s = nI (fq_c B n s)) → post (-3) (nI n, f1, f2, aB, aT, aR, aA, aS, aF, aO, aP, aH, aC, aW, aE, aG))
    (h1 : fq_c B n s ≠ 0 → ∀ w, w < 256 → (∀ i, i < 8 → (w.testBit i = true ↔ s.testBit i = true ∨ fq_c B n (s ||| 2 ^ i) = fq_c B n s)) → ∀ (f1 f2 : Int32) (aT aR aA aS aF aO aP aH aC aW aE aG : Nat → Int32), (∀ s, s < 256 → aC s = nI (fq_c B n s)) → post (nI w) (nI n, f1, f2, aB, aT, aR, aA, aS, aF, aO, aP, aH, aC, aW, aE, aG)) : wpX_closure post (nI n, f1, f2, aB, aT, aR, aA, aS, aF, aO, aP, aH, aC, aW, aE, aG) (nI s) := by
  unfold wpX_closure
  refine fq_Xset_t hs (br_f (by decide) (fq_build hn hB hl hc (fun f1 f2 aT aR aA aS aF aO aP aH aC aW aE aG hC => ⟨vp_in_nI hs (by omega), ?_⟩)))
  have r := fq_rd hC hs
  have l := fq_cb (B := B) hn s
  rcases Nat.eq_zero_or_pos (fq_c B n s) with z | z
  · exact br_t (by rw [r, z]; rfl) (h0 z f1 f2 aT aR aA aS aF aO aP aH aC aW aE aG hC)
  · refine br_f (by rw [r]; exact nI_ne0 z (by omega)) ⟨9, fq_Xcu30 hC (fq_cb hn) hs (fun w w1 w2 => h1 (by omega) w w1 w2 f1 f2 aT aR aA aS aF aO aP aH aC aW aE aG hC) 8 0 s (by omega) hs (fun i hi => ?_)⟩
    exact ⟨fun y => Or.inl y, fun y => y.elim id (fun q => by omega)⟩
theorem fq_Nclosure {post : Int32 → Prop} (hs : s < 256) (hn : n ≤ 20) (hB : ∀ k, aB k = nI (B k)) (h0 : (∀ k, k < n → ¬ fq_S s (B k)) → post (-3))
    (h1 : ∀ w, w < 256 → (∃ k, k < n ∧ fq_S s (B k)) → (∀ i, i < 8 → (w.testBit i = true ↔ ∀ k, k < n → fq_S s (B k) → (B k).testBit i = true)) → post (nI w)) : wpY_closure post (nI n, aB, cY) (nI s) := by
  unfold wpY_closure
  refine fq_Yset_t hs (br_f (by decide) ⟨n + 1, fq_Ycu19 hn hB hs h0 h1 n 0 255 0 (by omega) (by omega) (Or.inl ⟨rfl, fun k hk => by omega⟩) (fun i hi => ⟨fun _ k hk => by omega, fun _ => ?_⟩)⟩)
  exact (by decide : ∀ i, i < 8 → Nat.testBit 255 i = true) i hi
end
end
section
/-! the owed statements -/
section
variable {f0 f1 f2 g0 : Int32} {aB aT aR aA aS aF aO aP aH aC aW aE aG bY cY : Nat → Int32}
theorem fq_Xbad_frequent {post : Int32 → SX → Prop} {v : Int32} (hv : v < 1 ∨ 20 < v) (h : post (-1) (f0, f1, f2, aB, aT, aR, aA, aS, aF, aO, aP, aH, aC, aW, aE, aG)) : wpX_frequent post (f0, f1, f2, aB, aT, aR, aA, aS, aF, aO, aP, aH, aC, aW, aE, aG) v := by
  unfold wpX_frequent
  exact fq_Xbnd_f hv (br_t rfl h)
theorem fq_Ybad_frequent {post : Int32 → SY → Prop} {v : Int32} (hv : v < 1 ∨ 20 < v) (h : post (-1) (g0, bY, cY)) : wpY_frequent post (g0, bY, cY) v := by
  unfold wpY_frequent
  exact fq_Ybnd_f hv (br_t rfl h)
theorem fq_Xbad_closed {post : Int32 → SX → Prop} {v : Int32} (hv : v < 1 ∨ 20 < v) (h : post (-1) (f0, f1, f2, aB, aT, aR, aA, aS, aF, aO, aP, aH, aC, aW, aE, aG)) : wpX_closed post (f0, f1, f2, aB, aT, aR, aA, aS, aF, aO, aP, aH, aC, aW, aE, aG) v := by
  unfold wpX_closed
  exact fq_Xbnd_f hv (br_t rfl h)
theorem fq_Ybad_closed {post : Int32 → SY → Prop} {v : Int32} (hv : v < 1 ∨ 20 < v) (h : post (-1) (g0, bY, cY)) : wpY_closed post (g0, bY, cY) v := by
  unfold wpY_closed
  exact fq_Ybnd_f hv (br_t rfl h)
theorem fq_Xbad_largest {post : Int32 → SX → Prop} {v : Int32} (hv : v < 1 ∨ 20 < v) (h : post (-1) (f0, f1, f2, aB, aT, aR, aA, aS, aF, aO, aP, aH, aC, aW, aE, aG)) : wpX_largest post (f0, f1, f2, aB, aT, aR, aA, aS, aF, aO, aP, aH, aC, aW, aE, aG) v := by
  unfold wpX_largest
  exact fq_Xbnd_f hv (br_t rfl h)
theorem fq_Ybad_largest {post : Int32 → SY → Prop} {v : Int32} (hv : v < 1 ∨ 20 < v) (h : post (-1) (g0, bY, cY)) : wpY_largest post (g0, bY, cY) v := by
  unfold wpY_largest
  exact fq_Ybnd_f hv (br_t rfl h)
theorem fq_Xbad_widest {post : Int32 → SX → Prop} {v : Int32} (hv : v < 1 ∨ 20 < v) (h : post (-1) (f0, f1, f2, aB, aT, aR, aA, aS, aF, aO, aP, aH, aC, aW, aE, aG)) : wpX_widest post (f0, f1, f2, aB, aT, aR, aA, aS, aF, aO, aP, aH, aC, aW, aE, aG) v := by
  unfold wpX_widest
  exact fq_Xbnd_f hv (br_t rfl h)
theorem fq_Ybad_widest {post : Int32 → SY → Prop} {v : Int32} (hv : v < 1 ∨ 20 < v) (h : post (-1) (g0, bY, cY)) : wpY_widest post (g0, bY, cY) v := by
  unfold wpY_widest
  exact fq_Ybnd_f hv (br_t rfl h)
theorem fq_Xbad_closedSet {post : Int32 → SX → Prop} {v : Int32} (hv : v < 1 ∨ 20 < v) (w : Int32) (h : post (-1) (f0, f1, f2, aB, aT, aR, aA, aS, aF, aO, aP, aH, aC, aW, aE, aG)) : wpX_closedSet post (f0, f1, f2, aB, aT, aR, aA, aS, aF, aO, aP, aH, aC, aW, aE, aG) v w := by
  unfold wpX_closedSet
  exact fq_Xbnd_f hv (br_t rfl h)
theorem fq_Ybad_closedSet {post : Int32 → SY → Prop} {v : Int32} (hv : v < 1 ∨ 20 < v) (w : Int32) (h : post (-1) (g0, bY, cY)) : wpY_closedSet post (g0, bY, cY) v w := by
  unfold wpY_closedSet
  exact fq_Ybnd_f hv (br_t rfl h)
theorem fq_Xbad_rules {post : Int32 → SX → Prop} {v : Int32} (hv : v < 1 ∨ 20 < v) (w : Int32) (h : post (-1) (f0, f1, f2, aB, aT, aR, aA, aS, aF, aO, aP, aH, aC, aW, aE, aG)) : wpX_rules post (f0, f1, f2, aB, aT, aR, aA, aS, aF, aO, aP, aH, aC, aW, aE, aG) v w := by
  unfold wpX_rules
  exact fq_Xbnd_f hv (br_t rfl h)
theorem fq_Ybad_rules {post : Int32 → SY → Prop} {v : Int32} (hv : v < 1 ∨ 20 < v) (w : Int32) (h : post (-1) (g0, bY, cY)) : wpY_rules post (g0, bY, cY) v w := by
  unfold wpY_rules
  exact fq_Ybnd_f hv (br_t rfl h)
theorem fq_Xbad_count {post : Int32 → SX → Prop} {v : Int32} (hv : v < 0 ∨ 255 < v) (h : post (-1) (f0, f1, f2, aB, aT, aR, aA, aS, aF, aO, aP, aH, aC, aW, aE, aG)) : wpX_count post (f0, f1, f2, aB, aT, aR, aA, aS, aF, aO, aP, aH, aC, aW, aE, aG) v := by
  unfold wpX_count
  exact fq_Xset_f hv (br_t rfl h)
theorem fq_Ybad_count {post : Int32 → SY → Prop} {v : Int32} (hv : v < 0 ∨ 255 < v) (h : post (-1) (g0, bY, cY)) : wpY_count post (g0, bY, cY) v := by
  unfold wpY_count
  exact fq_Yset_f hv (br_t rfl h)
theorem fq_Xbad_closure {post : Int32 → SX → Prop} {v : Int32} (hv : v < 0 ∨ 255 < v) (h : post (-1) (f0, f1, f2, aB, aT, aR, aA, aS, aF, aO, aP, aH, aC, aW, aE, aG)) : wpX_closure post (f0, f1, f2, aB, aT, aR, aA, aS, aF, aO, aP, aH, aC, aW, aE, aG) v := by
  unfold wpX_closure
  exact fq_Xset_f hv (br_t rfl h)
theorem fq_Ybad_closure {post : Int32 → Prop} {v : Int32} (hv : v < 0 ∨ 255 < v) (h : post (-1)) : wpY_closure post (g0, bY, cY) v := by
  unfold wpY_closure
  exact fq_Yset_f hv (br_t rfl h)
end
theorem i_vc_frequent {k : Nat} {u : SX} {v : SY} (I : i_Rel k u v) (hk : k + 3 ≤ 1536) (v1 : Int32) : wpX_frequent (fun r u' => wpY_frequent (fun r' v' => r' = r ∧ i_Rel (k + 3) u' v') v v1) u v1 := by
  obtain ⟨f0, f1, f2, aB, aT, aR, aA, aS, aF, aO, aP, aH, aC, aW, aE, aG⟩ := u
  obtain ⟨g0, bY, cY⟩ := v
  obtain ⟨n, B, rfl, rfl, rfl, hn, hB, hl, hc, _⟩ := I
  rcases fq_bndC v1 with hv | ⟨m, h1, hm, rfl⟩
  · exact fq_Xbad_frequent hv (fq_Ybad_frequent hv ⟨rfl, fq_rel hn hB hl hc⟩)
  · exact fq_Mfrequent h1 hm hn hB hl hc (fun f1 f2 aT aR aA aS aF aO aP aH aC aW aE aG hC => fq_Nfrequent h1 hm hn hB (fun c hY => ⟨rfl, fq_rel hn hB hl (Or.inr hC)⟩))
theorem i_vc_closed {k : Nat} {u : SX} {v : SY} (I : i_Rel k u v) (hk : k + 3 ≤ 1536) (v1 : Int32) : wpX_closed (fun r u' => wpY_closed (fun r' v' => r' = r ∧ i_Rel (k + 3) u' v') v v1) u v1 := by
  obtain ⟨f0, f1, f2, aB, aT, aR, aA, aS, aF, aO, aP, aH, aC, aW, aE, aG⟩ := u
  obtain ⟨g0, bY, cY⟩ := v
  obtain ⟨n, B, rfl, rfl, rfl, hn, hB, hl, hc, _⟩ := I
  rcases fq_bndC v1 with hv | ⟨m, h1, hm, rfl⟩
  · exact fq_Xbad_closed hv (fq_Ybad_closed hv ⟨rfl, fq_rel hn hB hl hc⟩)
  · exact fq_Mclosed h1 hm hn hB hl hc (fun f1 f2 aT aR aA aS aF aO aP aH aC aW aE aG hC => fq_Nclosed h1 hm hn hB (fun c hY => ⟨rfl, fq_rel hn hB hl (Or.inr hC)⟩))
theorem i_vc_largest {k : Nat} {u : SX} {v : SY} (I : i_Rel k u v) (hk : k + 3 ≤ 1536) (v1 : Int32) : wpX_largest (fun r u' => wpY_largest (fun r' v' => r' = r ∧ i_Rel (k + 3) u' v') v v1) u v1 := by
  obtain ⟨f0, f1, f2, aB, aT, aR, aA, aS, aF, aO, aP, aH, aC, aW, aE, aG⟩ := u
  obtain ⟨g0, bY, cY⟩ := v
  obtain ⟨n, B, rfl, rfl, rfl, hn, hB, hl, hc, _⟩ := I
  rcases fq_bndC v1 with hv | ⟨m, h1, hm, rfl⟩
  · exact fq_Xbad_largest hv (fq_Ybad_largest hv ⟨rfl, fq_rel hn hB hl hc⟩)
  · exact fq_Mlargest h1 hm hn hB hl hc (fun f1 f2 aT aR aA aS aF aO aP aH aC aW aE aG hC => fq_Nlargest h1 hm hn hB (fun c hY => ⟨rfl, fq_rel hn hB hl (Or.inr hC)⟩))
theorem i_vc_widest {k : Nat} {u : SX} {v : SY} (I : i_Rel k u v) (hk : k + 3 ≤ 1536) (v1 : Int32) : wpX_widest (fun r u' => wpY_widest (fun r' v' => r' = r ∧ i_Rel (k + 3) u' v') v v1) u v1 := by
  obtain ⟨f0, f1, f2, aB, aT, aR, aA, aS, aF, aO, aP, aH, aC, aW, aE, aG⟩ := u
  obtain ⟨g0, bY, cY⟩ := v
  obtain ⟨n, B, rfl, rfl, rfl, hn, hB, hl, hc, _⟩ := I
  rcases fq_bndC v1 with hv | ⟨m, h1, hm, rfl⟩
  · exact fq_Xbad_widest hv (fq_Ybad_widest hv ⟨rfl, fq_rel hn hB hl hc⟩)
  · exact fq_Mwidest h1 hm hn hB hl hc (fun f1 f2 aT aR aA aS aF aO aP aH aC aW aE aG hC => fq_Nwidest h1 hm hn hB (fun c hY => ⟨rfl, fq_rel hn hB hl (Or.inr hC)⟩))
theorem i_vc_count {k : Nat} {u : SX} {v : SY} (I : i_Rel k u v) (hk : k + 3 ≤ 1536) (v1 : Int32) : wpX_count (fun r u' => wpY_count (fun r' v' => r' = r ∧ i_Rel (k + 3) u' v') v v1) u v1 := by
  obtain ⟨f0, f1, f2, aB, aT, aR, aA, aS, aF, aO, aP, aH, aC, aW, aE, aG⟩ := u
  obtain ⟨g0, bY, cY⟩ := v
  obtain ⟨n, B, rfl, rfl, rfl, hn, hB, hl, hc, _⟩ := I
  rcases fq_setC v1 with hv | ⟨s, hs, rfl⟩
  · exact fq_Xbad_count hv (fq_Ybad_count hv ⟨rfl, fq_rel hn hB hl hc⟩)
  · exact fq_Mcount hs hn hB hl hc (fun f1 f2 aT aR aA aS aF aO aP aH aC aW aE aG hC => fq_Ncount hs hn hB (fun c hY => ⟨rfl, fq_rel hn hB hl (Or.inr hC)⟩))
theorem i_vc_closure {k : Nat} {u : SX} {v : SY} (I : i_Rel k u v) (hk : k + 3 ≤ 1536) (v1 : Int32) : wpX_closure (fun r u' => wpY_closure (fun r' => r' = r ∧ i_Rel (k + 3) u' v) v v1) u v1 := by
  obtain ⟨f0, f1, f2, aB, aT, aR, aA, aS, aF, aO, aP, aH, aC, aW, aE, aG⟩ := u
  obtain ⟨g0, bY, cY⟩ := v
  obtain ⟨n, B, rfl, rfl, rfl, hn, hB, hl, hc, _⟩ := I
  rcases fq_setC v1 with hv | ⟨s, hs, rfl⟩
  · exact fq_Xbad_closure hv (fq_Ybad_closure hv ⟨rfl, fq_rel hn hB hl hc⟩)
  · refine fq_Mclosure hs hn hB hl hc (fun z f1 f2 aT aR aA aS aF aO aP aH aC aW aE aG hC => ?_) (fun z w w1 w2 f1 f2 aT aR aA aS aF aO aP aH aC aW aE aG hC => ?_)
    · refine fq_Nclosure hs hn hB (fun _ => ⟨rfl, fq_rel hn hB hl (Or.inr hC)⟩) (fun w _ hex _ => ?_)
      obtain ⟨j, j1, j2⟩ := hex
      exact absurd j2 (fq_cn_z z j j1)
    · refine fq_Nclosure hs hn hB (fun q => absurd (fq_cn_0 q) z) (fun w' w1' _ w2' => ⟨?_, fq_rel hn hB hl (Or.inr hC)⟩)
      refine congrArg nI (fq_ext w1' w1 (fun i hi => ?_))
      have a := w2 i hi
      have b := w2' i hi
      rw [fq_cu_eq hi, ← b] at a
      exact Bool.eq_iff_iff.mpr a.symm
theorem fq_pcC (v : Int32) : v < 0 ∨ (¬ v < 0 ∧ ¬ v ≤ 100) ∨ ∃ pc : Nat, pc ≤ 100 ∧ v = nI pc := by
  by_cases h : v < 0
  · exact Or.inl h
  · by_cases h2 : v ≤ 100
    · exact Or.inr (Or.inr (nI_of2 (n := 100) (by decide) h h2))
    · exact Or.inr (Or.inl ⟨h, h2⟩)
theorem i_vc_rules {k : Nat} {u : SX} {v : SY} (I : i_Rel k u v) (hk : k + 3 ≤ 1536) (v1 : Int32) (v2 : Int32) : wpX_rules (fun r u' => wpY_rules (fun r' v' => r' = r ∧ i_Rel (k + 3) u' v') v v1 v2) u v1 v2 := by
  obtain ⟨f0, f1, f2, aB, aT, aR, aA, aS, aF, aO, aP, aH, aC, aW, aE, aG⟩ := u
  obtain ⟨g0, bY, cY⟩ := v
  obtain ⟨n, B, rfl, rfl, rfl, hn, hB, hl, hc, _⟩ := I
  rcases fq_bndC v1 with hv | ⟨m, h1, hm, rfl⟩
  · exact fq_Xbad_rules hv v2 (fq_Ybad_rules hv v2 ⟨rfl, fq_rel hn hB hl hc⟩)
  · rcases fq_pcC v2 with hp | ⟨hp, hp2⟩ | ⟨pc, hp, rfl⟩
    · unfold wpX_rules
      refine fq_Xbnd_t h1 hm (br_f (by decide) (br_t hp ?_))
      unfold wpY_rules
      exact fq_Ybnd_t h1 hm (br_f (by decide) (br_t hp ⟨rfl, fq_rel hn hB hl hc⟩))
    · unfold wpX_rules
      refine fq_Xbnd_t h1 hm (br_f (by decide) (br_f hp (br_f hp2 ?_)))
      unfold wpY_rules
      exact fq_Ybnd_t h1 hm (br_f (by decide) (br_f hp (br_f hp2 ⟨rfl, fq_rel hn hB hl hc⟩)))
    · exact fq_Mrules h1 hm hp hn hB hl hc (fun f1 f2 aT aR aA aS aF aO aP aH aC aW aE aG hC => fq_Nrules h1 hm hp hn hB (fun c hY => ⟨congrArg nI (fq_rules _ _ _).symm, fq_rel hn hB hl (Or.inr hC)⟩))
theorem i_vc_closedSet {k : Nat} {u : SX} {v : SY} (I : i_Rel k u v) (hk : k + 3 ≤ 1536) (v1 : Int32) (v2 : Int32) : wpX_closedSet (fun r u' => wpY_closedSet (fun r' v' => r' = r ∧ i_Rel (k + 3) u' v') v v1 v2) u v1 v2 := by
  obtain ⟨f0, f1, f2, aB, aT, aR, aA, aS, aF, aO, aP, aH, aC, aW, aE, aG⟩ := u
  obtain ⟨g0, bY, cY⟩ := v
  obtain ⟨n, B, rfl, rfl, rfl, hn, hB, hl, hc, _⟩ := I
  rcases fq_bndC v1 with hv | ⟨m, h1, hm, rfl⟩
  · exact fq_Xbad_closedSet hv v2 (fq_Ybad_closedSet hv v2 ⟨rfl, fq_rel hn hB hl hc⟩)
  · unfold wpX_closedSet
    refine fq_Xbnd_t h1 hm (br_f (by decide) (fq_build hn hB hl hc (fun f1 f2 aT aR aA aS aF aO aP aH aC aW aE aG hC => ?_)))
    by_cases hq : v2 < 0
    · refine ⟨1, br_f (by decide) (br_t hq ?_)⟩
      unfold wpY_closedSet
      exact fq_Ybnd_t h1 hm (br_f (by decide) (fq_Yca hn hB (fun c hY => ⟨256, fq_csN hq hY (fq_cb hn) hm ⟨rfl, fq_rel hn hB hl (Or.inr hC)⟩ 255 1 0 (by omega) (by omega)⟩)))
    · obtain ⟨q, hq31, rfl⟩ := nI_of hq
      obtain ⟨r, hX, hYw⟩ := fq_cs (f0 := nI n) (f1 := f1) (f2 := f2) (aB := aB) (aT := aT) (aR := aR) (aA := aA) (aS := aS) (aF := aF) (aO := aO) (aP := aP) (aH := aH) (aW := aW) (aE := aE) (aG := aG) hC (fq_cb hn) fq_cA hm hq31 255 1 0 (by omega) (by omega) (by omega)
      refine ⟨256, hX _ ?_⟩
      unfold wpY_closedSet
      exact fq_Ybnd_t h1 hm (br_f (by decide) (fq_Yca hn hB (fun c hY => ⟨256, hYw _ _ _ _ hY ⟨rfl, fq_rel hn hB hl (Or.inr hC)⟩⟩)))
theorem i_vc_companion {k : Nat} {u : SX} {v : SY} (I : i_Rel k u v) (hk : k + 3 ≤ 1536) (v1 : Int32) : wpX_companion (fun r u' => wpY_companion (fun r' v' => r' = r ∧ i_Rel (k + 3) u' v') v v1) u v1 := by
  obtain ⟨f0, f1, f2, aB, aT, aR, aA, aS, aF, aO, aP, aH, aC, aW, aE, aG⟩ := u
  obtain ⟨g0, bY, cY⟩ := v
  obtain ⟨n, B, rfl, rfl, rfl, hn, hB, hl, hc, _⟩ := I
  by_cases ha : v1 < 1
  · exact br_t ha (br_t ha ⟨rfl, fq_rel hn hB hl hc⟩)
  · by_cases hb : v1 ≤ 255
    · obtain ⟨s, hs, rfl⟩ := nI_of2 (n := 255) (by decide) (fun z => ha (Int32.lt_trans z (by decide))) hb
      have hs2 : s < 256 := by omega
      refine br_f ha (br_t hb (fq_build hn hB hl hc (fun f1 f2 aT aR aA aS aF aO aP aH aC aW aE aG hC => ⟨vp_in_nI hs2 (by omega), ?_⟩)))
      have rX := fq_rd hC hs2
      have l := fq_cb (B := B) hn s
      by_cases z : fq_c B n s = 0
      · refine br_t (by rw [rX, z]; rfl) (br_f ha (br_t hb (fq_Yca hn hB (fun c hY => ⟨vp_in_nI hs2 (by omega), br_t ?_ ⟨rfl, fq_rel hn hB hl (Or.inr hC)⟩⟩))))
        rw [fq_rd hY hs2, z]; rfl
      · have nX : ¬ nI (fq_c B n s) = 0 := nI_ne0 (by omega) (by omega)
        refine br_f (by rw [rX]; exact nX) ?_
        by_cases e : s = 255
        · subst e
          refine br_t rfl (br_f ha (br_t hb (fq_Yca hn hB (fun c hY => ⟨vp_in_nI hs2 (by omega), br_f ?_ (br_t rfl ⟨rfl, fq_rel hn hB hl (Or.inr hC)⟩)⟩))))
          rw [fq_rd hY hs2]; exact nX
        · have e2 : ¬ nI s = 255 := fun q => e ((nI_eq (b := 255) (by omega) (by omega)).mp q)
          obtain ⟨r, hX, hYw⟩ := fq_co (f0 := nI n) (f1 := f1) (f2 := f2) (aB := aB) (aT := aT) (aR := aR) (aA := aA) (aS := aS) (aF := aF) (aO := aO) (aP := aP) (aH := aH) (aW := aW) (aE := aE) (aG := aG) hC (fq_cb hn) (s := s) (by omega) 8 0 (-3) (-1) (-1) (by omega) (Or.inl ⟨rfl, rfl, rfl, fun i hi => by omega⟩)
          refine br_f e2 ⟨9, hX _ (br_f ha (br_t hb (fq_Yca hn hB (fun c hY => ⟨vp_in_nI hs2 (by omega), br_f ?_ (br_f e2 ⟨9, hYw _ _ _ _ hY ⟨rfl, fq_rel hn hB hl (Or.inr hC)⟩⟩)⟩))))⟩
          rw [fq_rd hY hs2]; exact nX
    · exact br_f ha (br_f hb (br_f ha (br_f hb ⟨rfl, fq_rel hn hB hl hc⟩)))
theorem i_vc_add {k : Nat} {u : SX} {v : SY} (I : i_Rel k u v) (hk : k + 3 ≤ 1536) (v1 : Int32) : wpX_add (fun r u' => wpY_add (fun r' v' => r' = r ∧ i_Rel (k + 3) u' v') v v1) u v1 := by
  obtain ⟨f0, f1, f2, aB, aT, aR, aA, aS, aF, aO, aP, aH, aC, aW, aE, aG⟩ := u
  obtain ⟨g0, bY, cY⟩ := v
  obtain ⟨n, B, rfl, rfl, rfl, hn, hB, hl, hc, _⟩ := I
  by_cases h20 : n = 20
  · subst h20
    exact br_f (by decide) (br_t rfl ⟨rfl, fq_rel hn hB hl hc⟩)
  · have e20 : ¬ nI n = 20 := fun q => h20 ((nI_eq (b := 20) (by omega) (by omega)).mp q)
    refine br_t (nI_lt (b := 20) (by omega) (by decide)) ?_
    rcases fq_setC v1 with hv | ⟨s, hs, rfl⟩
    · exact fq_Xset_f hv (br_t rfl (br_f e20 (fq_Yset_f hv (br_t rfl ⟨rfl, fq_rel hn hB hl hc⟩))))
    · have cn : (nI n).toNatClampNeg = n := fq_ic (by omega)
      have i20 : vp_in (nI n) 20 := vp_in_nI (by omega) (by omega)
      refine fq_Xset_t hs (br_f (by decide) ⟨i20, nm_r (e' := upd aB n (nI s)) (by rw [cn, fq_vs2 (by omega)]) (nm_r (nI_1 n) ?_)⟩)
      refine br_f e20 (fq_Yset_t hs (br_f (by decide) ⟨i20, nm_r (e' := upd aB n (nI s)) (by rw [cn]) (nm_r (nI_1 n) ⟨rfl, ?_⟩)⟩))
      refine fq_rel (B := fq_u B n s) (by omega) (fun j => ?_) (fun j => ?_) (Or.inl rfl)
      · by_cases e : j = n
        · subst e; rw [pk_us, fq_us]
        · rw [pk_un e, fq_un e]; exact hB j
      · by_cases e : j = n
        · subst e; rw [fq_us]; exact hs
        · rw [fq_un e]; exact hl j
def fq_sh (a : Nat → Int32) : Nat → Nat → Int32
  | 0 => a
  | j + 1 => upd (fq_sh a j) j (fq_sh a j (j + 1))
theorem fq_sh_b {a : Nat → Int32} {B : Nat → Nat} (hB : ∀ k, a k = nI (B k)) (hl : ∀ k, B k < 256) : ∀ j k, ∃ b, b < 256 ∧ fq_sh a j k = nI b := by
  intro j
  induction j with
  | zero => intro k; exact ⟨B k, hl k, hB k⟩
  | succ j ih =>
    intro k
    show ∃ b, b < 256 ∧ upd (fq_sh a j) j (fq_sh a j (j + 1)) k = nI b
    by_cases e : k = j
    · subst e; rw [pk_us]; exact ih (k + 1)
    · rw [pk_un e]; exact ih k
section
variable {f1 f2 : Int32} {aB aT aR aA aS aF aO aP aH aC aW aE aG cY : Nat → Int32} {B : Nat → Nat} {n : Nat}
theorem fq_Xdr22 {post : Int32 → SX → Prop} (hn : n < 20) (hB : ∀ k, aB k = nI (B k)) (hl : ∀ k, B k < 256) (h : post (nI n) (nI n, 0, f2, fq_sh aB n, aT, aR, aA, aS, aF, aO, aP, aH, aC, aW, aE, aG)) : ∀ d j, j + d = n → wX_drop_22 post (nI n) f1 f2 (d + 1) (nI j) (fq_sh aB j) aT aR aA aS aF aO aP aH aC aW aE aG := by
  intro d
  induction d with
  | zero =>
    intro j hj
    have e : j = n := by omega
    subst e
    exact br_t (nI_le (Nat.le_refl _) (by omega)) h
  | succ d ih =>
    intro j hj
    obtain ⟨b, b1, b2⟩ := fq_sh_b hB hl j (j + 1)
    refine br_f (nI_ge (by omega) (by omega)) ⟨by rw [nI_1]; exact vp_in_nI (by omega) (by omega), vp_in_nI (by omega) (by omega), nm_r (e' := fq_sh aB (j + 1)) ?_ (nm_r (nI_1 j) (ih (j + 1) (by omega)))⟩
    show _ = upd (fq_sh aB j) j (fq_sh aB j (j + 1))
    rw [nI_1, fq_ic (by omega), fq_ic (by omega), b2, fq_vs (by omega)]
theorem fq_Ydr12 {post : Int32 → SY → Prop} (hn : n < 20) (h : post (nI n) (nI n, fq_sh aB n, cY)) : ∀ d j, j + d = n → wY_drop_12 post (nI (n + 1)) (d + 1) (nI j) (fq_sh aB j) cY := by
  intro d
  induction d with
  | zero =>
    intro j hj
    have e : j = n := by omega
    subst e
    exact br_t (by rw [nI_pred]; exact nI_le (Nat.le_refl _) (by omega)) (nm_r (nI_pred j) h)
  | succ d ih =>
    intro j hj
    refine br_f (by rw [nI_pred]; exact nI_ge (by omega) (by omega)) ⟨by rw [nI_1]; exact vp_in_nI (by omega) (by omega), vp_in_nI (by omega) (by omega), nm_r (e' := fq_sh aB (j + 1)) ?_ (nm_r (nI_1 j) (ih (j + 1) (by omega)))⟩
    show _ = upd (fq_sh aB j) j (fq_sh aB j (j + 1))
    rw [nI_1, fq_ic (by omega), fq_ic (by omega)]
end
theorem i_vc_drop {k : Nat} {u : SX} {v : SY} (I : i_Rel k u v) (hk : k + 3 ≤ 1536) : wpX_drop (fun r u' => wpY_drop (fun r' v' => r' = r ∧ i_Rel (k + 3) u' v') v) u := by
  obtain ⟨f0, f1, f2, aB, aT, aR, aA, aS, aF, aO, aP, aH, aC, aW, aE, aG⟩ := u
  obtain ⟨g0, bY, cY⟩ := v
  obtain ⟨n, B, rfl, rfl, rfl, hn, hB, hl, hc, _⟩ := I
  rcases n with _ | n
  · exact br_t rfl (br_t rfl ⟨rfl, fq_rel hn hB hl hc⟩)
  · have e0 : ¬ nI (n + 1) = 0 := nI_ne0 (by omega) (by omega)
    refine br_f e0 (nm_r (nI_pred n) ⟨n + 1, fq_Xdr22 (by omega) hB hl ?_ n 0 (by omega)⟩)
    refine br_f e0 ⟨n + 1, fq_Ydr12 (by omega) ⟨rfl, ?_⟩ n 0 (by omega)⟩
    refine fq_rel (B := fun j => (fq_sh aB n j).toNatClampNeg) (by omega) (fun j => ?_) (fun j => ?_) (Or.inl rfl)
    · obtain ⟨b, b1, b2⟩ := fq_sh_b hB hl n j
      rw [b2, fq_ic (by omega)]
    · obtain ⟨b, b1, b2⟩ := fq_sh_b hB hl n j
      rw [b2, fq_ic (by omega)]
      exact b1
end
