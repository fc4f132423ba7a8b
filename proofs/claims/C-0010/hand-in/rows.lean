section
/-! rows of the kit's PURE-ROWS and BITS (starting texts), then bits, casts and counts of this claim -/
theorem pk_us {f : Nat → Int32} {k : Nat} {x : Int32} : upd f k x k = x := if_pos rfl
theorem pk_un {f : Nat → Int32} {k j : Nat} {x : Int32} (h : j ≠ k) : upd f k x j = f j := if_neg h
theorem pk_sub {a b : Nat} (h : b ≤ a) : nI a - nI b = nI (a - b) := by
  obtain ⟨c, rfl⟩ : ∃ c, a = c + b := ⟨a - b, by omega⟩
  rw [← nI_add, Int32.add_sub_cancel, Nat.add_sub_cancel]
theorem pk_m1 (n : Nat) : nI (n + 1) + (-1) = nI n := by
  rw [← nI_1, Int32.add_assoc, show (1 : Int32) + (-1) = 0 from rfl, Int32.add_zero]
theorem pk_ix (x : Int32) {n : Nat} (hn : n < 2 ^ 31) : x < 0 ∨ nI n ≤ x ∨ ∃ j : Nat, j < n ∧ x = nI j := by
  by_cases h : x < 0
  · exact Or.inl h
  · obtain ⟨j, hj, rfl⟩ := nI_of h
    by_cases h2 : j < n
    · exact Or.inr (Or.inr ⟨j, h2, rfl⟩)
    · exact Or.inr (Or.inl (nI_le (by omega) hj))
theorem pk_le {x y : Int32} {A B : Prop} (a b : Nat) (f : a ≤ b → A) (g : b < a → B) (hx : x = nI a := by rfl) (hy : y = nI b := by rfl) (ha : a < 2 ^ 31 := by omega) (hb : b < 2 ^ 31 := by omega) : (x ≤ y → A) ∧ (¬ x ≤ y → B) := by
  subst hx hy
  rw [nI_leI ha hb]
  exact ⟨f, fun z => g (by omega)⟩
theorem pk_lt {x y : Int32} {A B : Prop} (a b : Nat) (f : a < b → A) (g : b ≤ a → B) (hx : x = nI a := by rfl) (hy : y = nI b := by rfl) (ha : a < 2 ^ 31 := by omega) (hb : b < 2 ^ 31 := by omega) : (x < y → A) ∧ (¬ x < y → B) := by
  subst hx hy
  rw [nI_ltI ha hb]
  exact ⟨f, fun z => g (by omega)⟩
theorem pk_eq {x y : Int32} {A B : Prop} (a b : Nat) (f : a = b → A) (g : a ≠ b → B) (hx : x = nI a := by rfl) (hy : y = nI b := by rfl) (ha : a < 2 ^ 31 := by omega) (hb : b < 2 ^ 31 := by omega) : (x = y → A) ∧ (¬ x = y → B) := by
  subst hx hy
  rw [nI_eq ha hb]
  exact ⟨f, g⟩
theorem pk_in {x : Int32} (n N : Nat) (h : n < N) (hx : x = nI n := by rfl) (hN : N < 2 ^ 31 := by omega) : vp_in x N := by
  subst hx
  exact vp_in_nI h hN
theorem pk_cl {x : Int32} (n : Nat) (hx : x = nI n := by rfl) (h : n < 2 ^ 31 := by omega) : x.toNatClampNeg = n := by
  subst hx
  exact nI_clamp h
theorem pk_tn {n : Nat} (h : n < 2 ^ 32) : (nI n).toBitVec.toNat = n := Nat.mod_eq_of_lt h
theorem pk_charN {q : Nat} (hq : q < 65536) : narrow .char (.int (nI q)) = .int (nI q) ∧ fits .char (.int (nI q)) = true := by
  constructor
  · have e : (nI q).toUInt32.toUInt16.toUInt32.toInt32 = nI q := by
      apply Int32.toBitVec_inj.mp
      apply BitVec.eq_of_toNat_eq
      show (nI q).toUInt32.toUInt16.toUInt32.toNat = q % 2 ^ 32
      rw [UInt16.toNat_toUInt32, UInt32.toNat_toUInt16, show (nI q).toUInt32.toNat = q % 2 ^ 32 from rfl]
      omega
    exact congrArg Value.int e
  · have a : (0 : Int32) ≤ nI q := nI_pos' (by omega)
    have b : nI q ≤ 65535 := nI_le (b := 65535) (by omega) (by decide)
    show (decide ((0 : Int32) ≤ nI q) && decide (nI q ≤ 65535)) = true
    rw [decide_eq_true a, decide_eq_true b]
    rfl
theorem pk_char (x : Int32) : (x.toUInt32 % 65536).toInt32 = nI (x.toBitVec.toNat % 65536) := by
  apply Int32.toBitVec_inj.mp
  apply BitVec.eq_of_toNat_eq
  rw [pk_tn (by omega)]
  show (x.toUInt32 % 65536).toNat = _
  rw [UInt32.toNat_mod]
  rfl
theorem pk_nc (x : Int32) : narrow .char (.int (x.toUInt32 % 65536).toInt32) = .int (x.toUInt32 % 65536).toInt32 := by
  rw [pk_char]
  exact (pk_charN (Nat.mod_lt _ (by decide))).1
theorem pk_vc (z : Int32) : vp_nar .char (z.toUInt32 % 65536).toInt32 = (z.toUInt32 % 65536).toInt32 := Value.int.inj (pk_nc z)
theorem pk_least (P : Nat → Prop) (h : ∃ k, P k) : ∃ k, P k ∧ ∀ j, j < k → ¬ P j := by
  obtain ⟨k, hk⟩ := h
  induction k using Nat.strongRecOn with
  | ind k ih =>
    by_cases e : ∃ j, j < k ∧ P j
    · obtain ⟨j, hj, pj⟩ := e
      exact ih j hj pj
    · exact ⟨k, hk, fun j hj pj => e ⟨j, hj, pj⟩⟩
def bt (x : Int32) (i : Nat) : Bool := x.toBitVec.getLsbD i
theorem b_ext {x y : Int32} (h : ∀ i, i < 32 → bt x i = bt y i) : x = y := Int32.toBitVec_inj.mp (BitVec.eq_of_getLsbD_eq (fun i hi => h i hi))
theorem b_or (x y : Int32) (i : Nat) : bt (x ||| y) i = (bt x i || bt y i) := by unfold bt; rw [Int32.toBitVec_or, BitVec.getLsbD_or]
theorem b_and (x y : Int32) (i : Nat) : bt (x &&& y) i = (bt x i && bt y i) := by unfold bt; rw [Int32.toBitVec_and, BitVec.getLsbD_and]
theorem b_xor (x y : Int32) (i : Nat) : bt (x ^^^ y) i = (bt x i ^^ bt y i) := by unfold bt; rw [Int32.toBitVec_xor, BitVec.getLsbD_xor]
theorem b_big {x : Int32} {i : Nat} (h : 32 ≤ i) : bt x i = false := BitVec.getLsbD_of_ge _ _ h
theorem b_65535 (i : Nat) : bt 65535 i = decide (i < 16) := by
  rcases Nat.lt_or_ge i 32 with h | h
  · exact (by decide +kernel : ∀ i, i < 32 → bt 65535 i = decide (i < 16)) i h
  · rw [b_big h, decide_eq_false (by omega)]
theorem b_m1 : ∀ i, i < 32 → bt (-1) i = true := by decide +kernel
theorem b_0 (i : Nat) : bt 0 i = false := BitVec.getLsbD_zero
theorem s_l : ∀ n, n < 32 → ((nI n &&& 31).toBitVec.smod 32).toNat = n := by decide +kernel
theorem b_shl (n : Nat) (hn : n < 32) (x : Int32) {i : Nat} (hi : i < 32) : bt (x <<< (nI n &&& 31)) i = (decide (n ≤ i) && bt x (i - n)) := by
  unfold bt
  rw [Int32.toBitVec_shiftLeft]
  show (x.toBitVec <<< ((nI n &&& 31).toBitVec.smod 32).toNat).getLsbD i = _
  rw [s_l n hn, BitVec.getLsbD_shiftLeft]
  rcases Nat.lt_or_ge i n with h | h
  · simp [h, Nat.not_le.mpr h]
  · simp [hi, h, Nat.not_lt.mpr h]
theorem b_sshr (n : Nat) (hn : n < 32) (x : Int32) {i : Nat} (hi : i < 32) : bt (x >>> (nI n &&& 31)) i = if n + i < 32 then bt x (n + i) else bt x 31 := by
  unfold bt
  rw [Int32.toBitVec_shiftRight]
  show (x.toBitVec.sshiftRight ((nI n &&& 31).toBitVec.smod 32).toNat).getLsbD i = _
  rw [s_l n hn, BitVec.getLsbD_sshiftRight, BitVec.msb_eq_getLsbD_last]
  simp [hi]
noncomputable def b01 (P : Prop) : Nat := @ite Nat P (Classical.propDecidable P) 1 0
theorem b01_t {P : Prop} (h : P) : b01 P = 1 := by unfold b01; rw [if_pos h]
theorem b01_f {P : Prop} (h : ¬ P) : b01 P = 0 := by unfold b01; rw [if_neg h]
theorem b01_le (P : Prop) : b01 P ≤ 1 := by
  rcases Classical.em P with h | h
  · rw [b01_t h]; omega
  · rw [b01_f h]; omega
theorem b01_mono {P Q : Prop} (h : P → Q) : b01 P ≤ b01 Q := by
  rcases Classical.em P with hp | hp
  · rw [b01_t hp, b01_t (h hp)]; omega
  · rw [b01_f hp]; omega
noncomputable def cn (P : Nat → Prop) : Nat → Nat
  | 0 => 0
  | k + 1 => cn P k + b01 (P k)
theorem cn_mono {P Q : Nat → Prop} : ∀ {N : Nat}, (∀ k, k < N → P k → Q k) → cn P N ≤ cn Q N
  | 0, _ => Nat.le_refl _
  | N + 1, h => by
    have a := cn_mono (P := P) (Q := Q) (N := N) (fun k hk => h k (by omega))
    have b := b01_mono (h N (by omega))
    simp only [cn]; omega
theorem cn_lt {P Q : Nat → Prop} {a : Nat} (hp : ¬ P a) (hq : Q a) : ∀ {N : Nat}, (∀ k, k < N → P k → Q k) → a < N → cn P N < cn Q N
  | 0, _, h => by omega
  | N + 1, h, ha => by
    simp only [cn]
    rcases Nat.lt_or_ge a N with z | z
    · have x := cn_lt hp hq (N := N) (fun k hk => h k (by omega)) z
      have b := b01_mono (h N (by omega))
      omega
    · have e : a = N := by omega
      subst e
      have x := cn_mono (P := P) (Q := Q) (N := a) (fun k hk => h k (by omega))
      rw [b01_t hq, b01_f hp]; omega
theorem cn_le (P : Nat → Prop) : ∀ N, cn P N ≤ N
  | 0 => Nat.le_refl _
  | N + 1 => by have := cn_le P N; have := b01_le (P N); simp only [cn]; omega
theorem cn_eq {P Q : Nat → Prop} {N : Nat} (h : ∀ k, k < N → (P k ↔ Q k)) : cn P N = cn Q N :=
  Nat.le_antisymm (cn_mono fun k hk => (h k hk).mp) (cn_mono fun k hk => (h k hk).mpr)
theorem cn_add {P : Nat → Prop} {a : Nat} (hp : ¬ P a) : ∀ {N : Nat}, a < N → cn (fun k => P k ∨ k = a) N = cn P N + 1
  | 0, h => by omega
  | N + 1, h => by
    simp only [cn]
    rcases Nat.lt_or_ge a N with z | z
    · rw [cn_add hp z]
      have : b01 (P N ∨ N = a) = b01 (P N) := Nat.le_antisymm (b01_mono fun q => q.elim id (fun e => by omega)) (b01_mono Or.inl)
      omega
    · have e : a = N := by omega
      subst e
      rw [cn_eq (P := fun k => P k ∨ k = a) (Q := P) (fun k hk => ⟨fun q => q.elim id (fun e => by omega), Or.inl⟩), b01_t (Or.inr rfl), b01_f hp]

theorem b_1 : ∀ j, j < 32 → bt 1 j = decide (j = 0) := by decide +kernel
/-! the tests and sets of the code, by bits -/
theorem hb_sh (x : Int32) {i : Nat} (hi : i < 32) : ((x >>> (nI i &&& 31)) &&& 1) = if bt x i = true then 1 else 0 := by
  apply b_ext
  intro j hj
  rw [b_and, b_sshr i hi x hj, b_1 j hj]
  by_cases e : j = 0
  · subst e
    rw [if_pos (show i + 0 < 32 by omega)]
    cases h : bt x (i + 0) <;> first | rfl | decide
  · rw [decide_eq_false e, Bool.and_false]
    cases h : bt x i with
    | false => rw [if_neg (by decide)]; exact (b_0 j).symm
    | true => rw [if_pos rfl, b_1 j hj, decide_eq_false e]
theorem hb_0 (x : Int32) {i : Nat} (hi : i < 32) : ((x >>> (nI i &&& 31)) &&& 1) = 0 ↔ bt x i = false := by
  rw [hb_sh x hi]
  cases h : bt x i <;> simp
theorem hb_1 (x : Int32) {i : Nat} (hi : i < 32) : ((x >>> (nI i &&& 31)) &&& 1) = 1 ↔ bt x i = true := by
  rw [hb_sh x hi]
  cases h : bt x i <;> simp
theorem hb_one {i : Nat} (hi : i < 32) (j : Nat) : bt ((1 : Int32) <<< (nI i &&& 31)) j = decide (j = i) := by
  rcases Nat.lt_or_ge j 32 with h | h
  · rw [b_shl i hi 1 h]
    rcases Nat.lt_or_ge j i with z | z
    · rw [decide_eq_false (by omega), decide_eq_false (by omega), Bool.false_and]
    · rw [b_1 (j - i) (by omega), decide_eq_true z, Bool.true_and]
      by_cases e : j = i
      · rw [decide_eq_true e, decide_eq_true (by omega)]
      · rw [decide_eq_false e, decide_eq_false (by omega)]
  · rw [b_big h, decide_eq_false (by omega)]
theorem hb_not (x : Int32) {j : Nat} (hj : j < 32) : bt (x ^^^ (-1)) j = !bt x j := by
  rw [b_xor, b_m1 j hj]; cases bt x j <;> rfl
theorem hb_char (y : Int32) (i : Nat) : bt (vp_nar .char ((y.toUInt32 % 65536).toInt32)) i = (bt y i && decide (i < 16)) := by
  rw [pk_vc, lg_i2c_nf, lg_i2c_mask, b_and, b_65535]
theorem hb_ch {y : Int32} (h : ∀ i, bt y i = true → i < 16) : vp_nar .char ((y.toUInt32 % 65536).toInt32) = y := by
  apply b_ext
  intro i hi
  rw [hb_char]
  cases e : bt y i with
  | false => rfl
  | true => rw [decide_eq_true (h i e)]; rfl
theorem hb_ch0 : vp_nar .char 0 = 0 := by rw [vp_nar_char]; decide
theorem hb_b : ∀ k, k < 128 → (nI k).toInt8.toInt32 = nI k := by decide +kernel
theorem hb_by {k : Nat} (h : k < 128) : vp_nar .byte (nI k).toInt8.toInt32 = nI k := by rw [vp_nar_byte, hb_b k h, hb_b k h]
theorem hb_by1 {k : Nat} (h : k < 128) : vp_nar .byte (nI k) = nI k := by rw [vp_nar_byte, hb_b k h]
theorem hb_bm : vp_nar .byte (-1) = -1 := by rw [vp_nar_byte]; decide
theorem hb_b0 : vp_nar .byte 0 = 0 := by rw [vp_nar_byte]; decide
theorem hb_b16 : vp_nar .byte 16 = nI 16 := by rw [vp_nar_byte]; decide
theorem hb_neg : ¬ (0 : Int32) ≤ -1 := by decide
theorem hb_neg' : (-1 : Int32) < 0 := by decide
/-! an int names an object that is there -/
def hs_is (P p0 : Int32) : Prop := ∃ x, x < 16 ∧ p0 = nI x ∧ bt P x = true
theorem b01_iff {P Q : Prop} (h : P ↔ Q) : b01 P = b01 Q := Nat.le_antisymm (b01_mono h.mp) (b01_mono h.mpr)
/-- sums of sizes over a set of bits -/
def hs_sum (z : Nat → Nat) (m : Int32) : Nat → Nat
  | 0 => 0
  | k + 1 => hs_sum z m k + (if bt m k = true then z k else 0)
theorem hs_or {z : Nat → Nat} {a b : Int32} : ∀ k, (∀ i, i < k → bt a i = true → bt b i = true → False) → hs_sum z (a ||| b) k = hs_sum z a k + hs_sum z b k
  | 0, _ => rfl
  | k + 1, h => by
    have h1 := hs_or (z := z) (a := a) (b := b) k (fun i hi => h i (by omega))
    have h2 := h k (by omega)
    simp only [hs_sum, h1, b_or]
    cases ha : bt a k <;> cases hb : bt b k <;> simp <;> first | omega | exact absurd (h2 ha hb) id
theorem hs_one {z : Nat → Nat} {x : Nat} (hx : x < 32) : ∀ k, hs_sum z ((1 : Int32) <<< (nI x &&& 31)) k = if x < k then z x else 0
  | 0 => rfl
  | k + 1 => by
    simp only [hs_sum, hs_one hx k, hb_one hx, decide_eq_true_eq]
    by_cases e : k = x
    · subst e
      rw [if_neg (by omega), if_pos rfl, if_pos (by omega)]; omega
    · rw [if_neg e]
      by_cases e2 : x < k
      · rw [if_pos e2, if_pos (by omega)]; rfl
      · rw [if_neg e2, if_neg (by omega)]
theorem hs_zero {z : Nat → Nat} : ∀ k, hs_sum z 0 k = 0
  | 0 => rfl
  | k + 1 => by simp only [hs_sum, hs_zero k, b_0]; rfl
theorem hs_le {z : Nat → Nat} {m : Int32} (h : ∀ i, i < 16 → z i ≤ 100) : ∀ k, k ≤ 16 → hs_sum z m k ≤ 100 * k
  | 0, _ => Nat.le_refl _
  | k + 1, hk => by
    have h1 := hs_le (m := m) h k (by omega)
    have h2 := h k (by omega)
    simp only [hs_sum]
    by_cases e : bt m k = true
    · rw [if_pos e]; omega
    · rw [if_neg e]; omega
end
section
/-! trees by a parent function; the theory of semi-dominators over numbers, without paths -/
def tr_it (p : Nat → Nat) : Nat → Nat → Nat
  | 0, v => v
  | k + 1, v => tr_it p k (p v)
/-- a is v or above v -/
def tr_an (p : Nat → Nat) (a v : Nat) : Prop := ∃ k, tr_it p k v = a
def tr_T (p : Nat → Nat) (n : Nat) : Prop := p 0 = 0 ∧ ∀ v, 0 < v → v < n → p v < v
def tr_pre (p : Nat → Nat) (n : Nat) : Prop := ∀ v, 0 < v → v < n → tr_an p (p v) (v - 1)
theorem tr_rf (p : Nat → Nat) (v : Nat) : tr_an p v v := ⟨0, rfl⟩
theorem tr_up {p : Nat → Nat} {a v : Nat} (h : tr_an p a (p v)) : tr_an p a v := by
  obtain ⟨k, hk⟩ := h
  exact ⟨k + 1, hk⟩
theorem tr_cs {p : Nat → Nat} {a v : Nat} (h : tr_an p a v) : a = v ∨ tr_an p a (p v) := by
  obtain ⟨k, hk⟩ := h
  cases k with
  | zero => exact Or.inl hk.symm
  | succ k => exact Or.inr ⟨k, hk⟩
theorem tr_ind {p : Nat → Nat} {P : Nat → Prop} {a : Nat} (h0 : P a) (hs : ∀ v, P (p v) → P v) {v : Nat} (h : tr_an p a v) : P v := by
  obtain ⟨k, hk⟩ := h
  induction k generalizing v with
  | zero =>
    have e : v = a := hk
    rw [e]; exact h0
  | succ k ih => exact hs v (ih hk)
theorem tr_tr {p : Nat → Nat} {a b c : Nat} (h : tr_an p a b) (h2 : tr_an p b c) : tr_an p a c :=
  tr_ind (P := fun v => tr_an p a v) h (fun _ z => tr_up z) h2
theorem tr_ple {p : Nat → Nat} {n v : Nat} (T : tr_T p n) (hv : v < n) : p v ≤ v := by
  rcases Nat.eq_zero_or_pos v with z | z
  · subst z; rw [T.1]; exact Nat.le_refl _
  · exact Nat.le_of_lt (T.2 v z hv)
theorem tr_le {p : Nat → Nat} {n a v : Nat} (T : tr_T p n) (hv : v < n) (h : tr_an p a v) : a ≤ v := by
  obtain ⟨k, hk⟩ := h
  induction k generalizing v with
  | zero =>
    have e : v = a := hk
    omega
  | succ k ih =>
    have h1 := tr_ple T hv
    have h2 := ih (v := p v) (by omega) hk
    omega
theorem tr_lin {p : Nat → Nat} {n a b v : Nat} (T : tr_T p n) (hv : v < n) (ha : tr_an p a v) (hb : tr_an p b v) (hab : a ≤ b) : tr_an p a b := by
  obtain ⟨k, hk⟩ := hb
  induction k generalizing v with
  | zero =>
    have e : v = b := hk
    rw [← e]; exact ha
  | succ k ih =>
    have h1 := tr_ple T hv
    have hb' : tr_an p b (p v) := ⟨k, hk⟩
    have h2 := tr_le T (v := p v) (by omega) hb'
    rcases tr_cs ha with e | h
    · have e2 : a = b := by omega
      rw [e2]; exact tr_rf p b
    · exact ih (by omega) h hk
theorem tr_root {p : Nat → Nat} {n : Nat} (T : tr_T p n) : ∀ v, v < n → tr_an p 0 v := by
  intro v
  induction v using Nat.strongRecOn with
  | _ v ih =>
    intro hv
    rcases Nat.eq_zero_or_pos v with z | z
    · subst z; exact tr_rf p 0
    · have h := T.2 v z hv
      exact tr_up (ih (p v) h (by omega))
theorem tr_int {p : Nat → Nat} {n a x : Nat} (T : tr_T p n) (Q : tr_pre p n) (hax : a ≤ x) : ∀ d v, v = x + d → v < n → tr_an p a v → tr_an p a x := by
  intro d
  induction d with
  | zero => intro v e _ h; rw [← (show v = x from e)]; exact h
  | succ d ih =>
    intro v e hv h
    rcases tr_cs h with z | z
    · omega
    · exact ih (v - 1) (by omega) (by omega) (tr_tr z (Q v (by omega) hv))
theorem tr_iv {p : Nat → Nat} {n a x v : Nat} (T : tr_T p n) (Q : tr_pre p n) (h : tr_an p a v) (hax : a ≤ x) (hxv : x ≤ v) (hv : v < n) : tr_an p a x :=
  tr_int T Q hax (v - x) v (by omega) hv h
theorem tr_cg {p q : Nat → Nat} {n a v : Nat} (T : tr_T p n) (hv : v < n) (e : ∀ x, x ≤ v → p x = q x) (h : tr_an p a v) : tr_an q a v := by
  obtain ⟨k, hk⟩ := h
  induction k generalizing v with
  | zero => exact ⟨0, hk⟩
  | succ k ih =>
    have h1 := tr_ple T hv
    have h2 := ih (v := p v) (by omega) (fun x hx => e x (by omega)) hk
    rw [e v (Nat.le_refl _)] at h2
    exact tr_up h2
theorem tr_ch {p : Nat → Nat} {n q w : Nat} (T : tr_T p n) (hw : w < n) (h : tr_an p q w) (hq : q ≠ w) : ∃ c, tr_an p c w ∧ p c = q ∧ q < c := by
  obtain ⟨k, hk⟩ := h
  induction k generalizing w with
  | zero => exact absurd (show w = q from hk).symm hq
  | succ k ih =>
    have h1 := tr_ple T hw
    have h0 : 0 < w := by
      rcases Nat.eq_zero_or_pos w with z | z
      · exfalso
        subst z
        have h2 : tr_an p q (p 0) := ⟨k, hk⟩
        rw [T.1] at h2
        have h3 := tr_le T hw h2
        omega
      · exact z
    by_cases e : p w = q
    · have h4 := T.2 w h0 hw
      exact ⟨w, tr_rf p w, e, by omega⟩
    · obtain ⟨c, h5, h6, h7⟩ := ih (w := p w) (by omega) (fun z => e z.symm) hk
      exact ⟨c, tr_up h5, h6, h7⟩
theorem tr_cross {p : Nat → Nat} {n x : Nat} (T : tr_T p n) : ∀ u, u < n → x < u → ∃ c, tr_an p c u ∧ x < c ∧ p c ≤ x := by
  intro u
  induction u using Nat.strongRecOn with
  | _ u ih =>
    intro hu hx
    have h1 := T.2 u (by omega) hu
    rcases Nat.lt_or_ge x (p u) with z | z
    · obtain ⟨c, a, b, d⟩ := ih (p u) h1 (by omega) z
      exact ⟨c, tr_up a, b, d⟩
    · exact ⟨u, tr_rf p u, hx, z⟩

/-! the graph over numbers -/
def ln_G (E : Nat → Nat → Prop) (p : Nat → Nat) (n : Nat) : Prop :=
  0 < n ∧ tr_T p n ∧ tr_pre p n ∧ (∀ v, 0 < v → v < n → E (p v) v) ∧ (∀ u v, u < v → v < n → E u v → tr_an p u v)
/-- the equations of the semi-dominator of w -/
def ln_S (E : Nat → Nat → Prop) (p : Nat → Nat) (n : Nat) (s : Nat → Nat) (w : Nat) : Prop :=
  (∀ v, v < n → E v w → v < w → s w ≤ v) ∧
  (∀ v u, v < n → E v w → tr_an p u v → w < u → s w ≤ s u) ∧
  ((∃ v, v < w ∧ E v w ∧ s w = v) ∨ ∃ v u, v < n ∧ E v w ∧ tr_an p u v ∧ w < u ∧ s w = s u)
/-- reached from 0 without d -/
def ln_R (E : Nat → Nat → Prop) (n d x : Nat) : Prop :=
  ∀ S : Nat → Prop, (0 ≠ d → S 0) → (∀ u v, u < n → v < n → S u → E u v → v ≠ d → S v) → S x
/-- d dominates w, by the tree and s alone -/
def ln_D (p s : Nat → Nat) (d w : Nat) : Prop := tr_an p d w ∧ ∀ y, tr_an p y w → d < y → d ≤ s y

theorem ln_Rs {E : Nat → Nat → Prop} {n d u v : Nat} (h : ln_R E n d u) (hu : u < n) (hv : v < n) (e : E u v) (hd : v ≠ d) : ln_R E n d v :=
  fun S h0 hs => hs u v hu hv (h S h0 hs) e hd
theorem ln_R0 {E : Nat → Nat → Prop} {n d : Nat} (h : 0 ≠ d) : ln_R E n d 0 := fun _ h0 _ => h0 h

theorem ln_c1 {E : Nat → Nat → Prop} {p s : Nat → Nat} {n : Nat} (G : ln_G E p n) (hS : ∀ w, 0 < w → w < n → ln_S E p n s w) {d w : Nat} (hd : d < n) (hw : w < n) (h : ln_D p s d w) : ¬ ln_R E n d w := by
  obtain ⟨hn, T, Q, hT, hE⟩ := G
  intro hR
  have key : ∀ u x, u < n → x < n → E u x → x ≠ d → ln_D p s d x → ln_D p s d u := by
    intro u x hu hx e hxd hD
    have h1 := tr_le T hx hD.1
    have hx0 : 0 < x := by omega
    obtain ⟨s2, s3, _⟩ := hS x hx0 hx
    have h2 : d ≤ s x := hD.2 x (tr_rf p x) (by omega)
    rcases Nat.lt_or_ge u x with z | z
    · have h3 := s2 u hu e z
      have h4 := hE u x z hx e
      refine ⟨tr_lin T hx hD.1 h4 (by omega), fun y hy hdy => hD.2 y (tr_tr hy h4) hdy⟩
    · by_cases z2 : u = x
      · rw [z2]; exact hD
      · have hxu : x < u := by omega
        obtain ⟨c, c1, c2, c3⟩ := tr_cross (x := x) T u hu hxu
        have c4 := tr_le T hu c1
        have c5 : 0 < c := by omega
        have c6 : c < n := by omega
        have c7 := (hS c c5 c6).1 (p c) (by have := T.2 c c5 c6; omega) (hT c c5 c6) (T.2 c c5 c6)
        have c8 := s3 u c hu e c1 c2
        have c9 : tr_an p (p c) x := tr_iv T Q (tr_up (tr_rf p (p c))) c3 (by omega) c6
        have c10 : tr_an p d (p c) := tr_lin T hx hD.1 c9 (by omega)
        refine ⟨tr_tr (tr_up c10) c1, fun y hy hdy => ?_⟩
        rcases Nat.lt_or_ge x y with z3 | z3
        · have := s3 u y hu e hy z3
          omega
        · exact hD.2 y (tr_iv T Q hy z3 (by omega) hu) hdy
  refine hR (fun x => ¬ ln_D p s d x) ?_ ?_ h
  · intro h0 hD
    have := tr_le T hn hD.1
    omega
  · intro u v hu hv hSu e hvd hD
    exact hSu (key u v hu hv e hvd hD)

theorem ln_c2 {E : Nat → Nat → Prop} {p s : Nat → Nat} {n : Nat} (G : ln_G E p n) (hS : ∀ w, 0 < w → w < n → ln_S E p n s w) {d w : Nat} (hd : d < n) (hw : w < n) (h : ¬ ln_R E n d w) : ln_D p s d w := by
  obtain ⟨hn, T, Q, hT, hE⟩ := G
  have R1 : ∀ x, x < d → ln_R E n d x := by
    intro x
    induction x using Nat.strongRecOn with
    | _ x ih =>
      intro hx
      rcases Nat.eq_zero_or_pos x with z | z
      · subst z; exact ln_R0 (by omega)
      · have h1 := T.2 x z (by omega)
        exact ln_Rs (ih (p x) h1 (by omega)) (by omega) (by omega) (hT x z (by omega)) (by omega)
  have R2 : ∀ u, ln_R E n d u → d < u → ∀ w, w < n → tr_an p u w → ln_R E n d w := by
    intro u hu hdu w
    induction w using Nat.strongRecOn with
    | _ w ih =>
      intro hw ha
      have h1 := tr_le T hw ha
      rcases tr_cs ha with z | z
      · rw [← z]; exact hu
      · have h2 := T.2 w (by omega) hw
        exact ln_Rs (ih (p w) h2 (by omega) z) (by omega) hw (hT w (by omega) hw) (by omega)
  have R3 : ∀ k y, n - y = k → d < y → y < n → s y < d → ln_R E n d y := by
    intro k
    induction k using Nat.strongRecOn with
    | _ k ih =>
      intro y hk hdy hy hs
      obtain ⟨_, _, h3⟩ := hS y (by omega) hy
      rcases h3 with ⟨v, h4, h5, h6⟩ | ⟨v, u, h4, h5, h6, h7, h8⟩
      · exact ln_Rs (R1 v (by omega)) (by omega) hy h5 (by omega)
      · have h9 := tr_le T h4 h6
        have h10 := ih (n - u) (by omega) u rfl (by omega) (by omega) (by omega)
        exact ln_Rs (R2 u h10 (by omega) v h4 h6) h4 hy h5 (by omega)
  have R4 : ∀ w, w < n → ¬ tr_an p d w → ln_R E n d w := by
    intro w
    induction w using Nat.strongRecOn with
    | _ w ih =>
      intro hw ha
      rcases Nat.eq_zero_or_pos w with z | z
      · subst z
        refine ln_R0 (fun e => ha ?_)
        rw [← e]; exact tr_rf p 0
      · have h2 := T.2 w z hw
        refine ln_Rs (ih (p w) h2 (by omega) (fun q => ha (tr_up q))) (by omega) hw (hT w z hw) (fun e => ha ?_)
        rw [e]; exact tr_rf p d
  have ha : tr_an p d w := Classical.byContradiction fun z => h (R4 w hw z)
  refine ⟨ha, fun y hy hdy => ?_⟩
  rcases Nat.lt_or_ge (s y) d with z | z
  · have hyw := tr_le T hw hy
    exact absurd (R2 y (R3 _ y rfl hdy (by omega) z) hdy w hw hy) h
  · exact z

theorem ln_sp {E : Nat → Nat → Prop} {p s : Nat → Nat} {n : Nat} (G : ln_G E p n) {w : Nat} (h0 : 0 < w) (hw : w < n) (hS : ln_S E p n s w) : s w ≤ p w := by
  obtain ⟨hn, T, Q, hT, hE⟩ := G
  have := T.2 w h0 hw
  exact hS.1 (p w) (by omega) (hT w h0 hw) this

/-- the semi-dominator is above: downward induction (S known from w on) -/
theorem ln_sa {E : Nat → Nat → Prop} {p s : Nat → Nat} {n c : Nat} (G : ln_G E p n) (hS : ∀ w, c ≤ w → 0 < w → w < n → ln_S E p n s w) : ∀ k w, n - w = k → c ≤ w → 0 < w → w < n → tr_an p (s w) w := by
  intro k
  induction k using Nat.strongRecOn with
  | _ k ih =>
    intro w hk hc h0 hw
    have hp := ln_sp G h0 hw (hS w hc h0 hw)
    obtain ⟨hn, T, Q, hT, hE⟩ := G
    obtain ⟨_, _, h3⟩ := hS w hc h0 hw
    have h1 := T.2 w h0 hw
    rcases h3 with ⟨v, h4, h5, h6⟩ | ⟨v, u, h4, h5, h6, h7, h8⟩
    · rw [h6]; exact hE v w h4 hw h5
    · have h9 := tr_le T h4 h6
      have h10 := ih (n - u) (by omega) u rfl (by omega) (by omega) (by omega)
      rw [h8]
      exact tr_iv T Q h10 (by omega) (by omega) (by omega)

/-- what the buckets decide: h is the stand-in of w or its keeper -/
def ln_H (p s : Nat → Nat) (w h : Nat) : Prop :=
  ∃ u, tr_an p u w ∧ s w < u ∧ (∀ y, tr_an p y w → s w < y → s u ≤ s y) ∧ ((s u < s w ∧ h = u) ∨ (s w ≤ s u ∧ h = s w))
/-- m is the keeper of w -/
def ln_I (p s : Nat → Nat) (w m : Nat) : Prop := m < w ∧ ∀ d, d ≠ w → (ln_D p s d w ↔ ln_D p s d m)

theorem ln_i1 {p s : Nat → Nat} {n w : Nat} (T : tr_T p n) (hw : w < n) (hsw : s w < w) (hA : tr_an p (s w) w) (hm : ∀ y, tr_an p y w → s w < y → s w ≤ s y) : ln_I p s w (s w) := by
  refine ⟨hsw, fun d hd => ⟨fun h => ?_, fun h => ?_⟩⟩
  · have h1 := tr_le T hw h.1
    have h2 := h.2 w (tr_rf p w) (by omega)
    exact ⟨tr_lin T hw h.1 hA h2, fun y hy hdy => h.2 y (tr_tr hy hA) hdy⟩
  · have h1 := tr_le T (by omega) h.1
    refine ⟨tr_tr h.1 hA, fun y hy hdy => ?_⟩
    rcases Nat.lt_or_ge (s w) y with z | z
    · have := hm y hy z
      omega
    · exact h.2 y (tr_lin T hw hy hA z) hdy
theorem ln_i2 {p s : Nat → Nat} {n w u m : Nat} (T : tr_T p n) (hw : w < n) (hsw : s w < w) (hu : tr_an p u w) (hsu : s w < u) (hm : ∀ y, tr_an p y w → s w < y → s u ≤ s y) (hlt : s u < s w) (hI : ln_I p s u m) : ln_I p s w m := by
  have huw := tr_le T hw hu
  have hne : u ≠ w := by intro e; subst e; omega
  refine ⟨by have := hI.1; omega, fun d hd => ?_⟩
  by_cases e : d = u
  · subst e
    constructor
    · intro h
      have := h.2 w (tr_rf p w) (by omega)
      omega
    · intro h
      have h1 := tr_le T (by have := hI.1; omega) h.1
      have := hI.1
      omega
  · rw [← hI.2 d e]
    constructor
    · intro h
      have h1 := tr_le T hw h.1
      have h2 := h.2 w (tr_rf p w) (by omega)
      exact ⟨tr_lin T hw h.1 hu (by omega), fun y hy hdy => h.2 y (tr_tr hy hu) hdy⟩
    · intro h
      have h1 := tr_le T (by omega) h.1
      have h2 := h.2 u (tr_rf p u) (by omega)
      refine ⟨tr_tr h.1 hu, fun y hy hdy => ?_⟩
      rcases Nat.lt_or_ge u y with z | z
      · have := hm y hy (by omega)
        omega
      · exact h.2 y (tr_lin T hw hy hu z) hdy
end
section
/-! the small methods of both sides -/
theorem hb_up {a : Nat → Int32} {i : Nat} {v v' : Int32} (hi : i < 2 ^ 31) (e : v = v') : upd a (nI i).toNatClampNeg v = upd a i v' := by rw [nI_clamp hi, e]
theorem hb_rd {a : Nat → Int32} {i : Nat} (hi : i < 2 ^ 31) : a (nI i).toNatClampNeg = a i := by rw [nI_clamp hi]
theorem hb_f {x : Bool} (h : ¬ x = true) : x = false := by cases x <;> first | rfl | exact absurd rfl h
theorem hb_n0 {x : Int32} {i : Nat} (hi : i < 32) (h : bt x i = true) : ¬ ((x >>> (nI i &&& 31)) &&& 1) = 0 := by rw [hb_0 x hi, h]; decide
theorem hb_n1 {x : Int32} {i : Nat} (hi : i < 32) (h : ¬ bt x i = true) : ¬ ((x >>> (nI i &&& 31)) &&& 1) = 1 := by rw [hb_1 x hi]; exact h
theorem hb_z0 {x : Int32} {i : Nat} (hi : i < 32) (h : ¬ bt x i = true) : ((x >>> (nI i &&& 31)) &&& 1) = 0 := (hb_0 x hi).mpr (hb_f h)
theorem hb_z1 {x : Int32} {i : Nat} (hi : i < 32) (h : bt x i = true) : ((x >>> (nI i &&& 31)) &&& 1) = 1 := (hb_1 x hi).mpr h
/-- bits of a row after the objects of set are taken out -/
def rm_ok (set : Int32) (f f' : Nat → Int32) (a : Nat) : Prop := ∀ i, bt (f' a) i = (bt (f a) i && !(bt set i) && !(bt set a) && decide (i < 16))
theorem rm_0 {set : Int32} {f f' : Nat → Int32} {a : Nat} (h : bt set a = true) (e : f' a = 0) : rm_ok set f f' a := by
  intro i
  rw [e, b_0, h]; simp
theorem rm_c {set : Int32} {f f' : Nat → Int32} {a : Nat} (h : ¬ bt set a = true) (e : f' a = vp_nar .char (((f a &&& (set ^^^ (-1))).toUInt32 % 65536).toInt32)) : rm_ok set f f' a := by
  intro i
  rw [e, hb_char, b_and, hb_f h]
  by_cases hi : i < 16
  · rw [hb_not set (by omega)]; simp
  · rw [decide_eq_false hi]; simp
section
variable {f_capacity f_present f_roots f_known f_met : Int32} {a_sizes a_out a_in a_order a_number a_parent a_stack a_semi a_above a_label a_bucket a_path a_idom a_level a_under a_held : Nat → Int32}
theorem xs_has {post : Int32 → Prop} {c : Nat} (hc : c ≤ 16) (hP : ∀ i, bt f_present i = true → i < c) {p0 : Int32} (h1 : hs_is f_present p0 → post 1) (h0 : ¬ hs_is f_present p0 → post 0) : wpX_has post (nI c, f_present, f_roots, f_known, f_met, a_sizes, a_out, a_in, a_order, a_number, a_parent, a_stack, a_semi, a_above, a_label, a_bucket, a_path, a_idom, a_level, a_under, a_held) p0 := by
  rcases pk_ix p0 (n := c) (by omega) with h | h | ⟨j, hj, rfl⟩
  · refine br_t h (h0 ?_)
    rintro ⟨x, hx, rfl, _⟩
    exact nI_pos (by omega) h
  · refine br_f (fun z => ?_) (br_t h (h0 ?_))
    · exact nI_pos (n := c) (by omega) (Int32.lt_of_le_of_lt h z)
    · rintro ⟨x, hx, rfl, hb⟩
      exact nI_ge (hP x hb) (by omega) h
  · refine br_f (nI_pos (by omega)) (br_f (nI_ge hj (by omega)) ?_)
    by_cases hb : bt f_present j = true
    · exact br_f (hb_n0 (by omega) hb) (h1 ⟨j, by omega, rfl, hb⟩)
    · refine br_t (hb_z0 (by omega) hb) (h0 ?_)
      rintro ⟨x, hx, e, hb2⟩
      rw [nI_eq (by omega) (by omega)] at e
      subst e; exact hb hb2
theorem xs_mk {post : Int32 → SX → Prop} {c x0 s : Nat} (hc : c ≤ 16) (hs : s ≤ 100) (hP : ∀ i, bt f_present i = true → i < c) (hx0 : x0 ≤ c) (hall : ∀ j, j < x0 → bt f_present j = true) (hx : x0 < c → bt f_present x0 = false)
    (Kn : x0 = c → post (-1) (nI c, f_present, f_roots, f_known, f_met, a_sizes, a_out, a_in, a_order, a_number, a_parent, a_stack, a_semi, a_above, a_label, a_bucket, a_path, a_idom, a_level, a_under, a_held))
    (Ks : x0 < c → post (nI x0) (nI c, f_present ||| ((1 : Int32) <<< (nI x0 &&& 31)), f_roots &&& (((1 : Int32) <<< (nI x0 &&& 31)) ^^^ (-1)), 0, f_met, upd a_sizes x0 (nI s), upd a_out x0 0, upd a_in x0 0, a_order, a_number, a_parent, a_stack, a_semi, a_above, a_label, a_bucket, a_path, a_idom, a_level, a_under, a_held)) :
    ∀ d i n, i + d = x0 → d < n → wX_make_15 post (nI s) (nI c) f_present f_roots f_known f_met a_sizes a_out a_in a_order a_number a_parent a_stack a_semi a_above a_label a_bucket a_path a_idom a_level a_under a_held n (nI i) := by
  intro d
  induction d with
  | zero =>
    intro i n hi hn
    obtain ⟨n, rfl⟩ : ∃ m, n = m + 1 := ⟨n - 1, by omega⟩
    have e : i = x0 := hi
    subst e
    by_cases hc2 : i = c
    · exact br_t (nI_le (by omega) (by omega)) (Kn hc2)
    · refine br_f (nI_ge (by omega) (by omega)) (xs_has hc hP (fun h => ?_) (fun _ => ?_))
      · obtain ⟨x, _, e, hb⟩ := h
        rw [nI_eq (by omega) (by omega)] at e
        subst e
        rw [hx (by omega)] at hb
        exact absurd hb (by decide)
      · exact br_t rfl (nm_e (nm_e ⟨vp_in_nI (by omega) (by omega), nm_r (hb_up (by omega) (hb_by (by omega))) ⟨vp_in_nI (by omega) (by omega), nm_r (hb_up (by omega) hb_ch0) ⟨vp_in_nI (by omega) (by omega), nm_r (hb_up (by omega) hb_ch0) (Ks (by omega))⟩⟩⟩))
  | succ d ih =>
    intro i n hi hn
    obtain ⟨n, rfl⟩ : ∃ m, n = m + 1 := ⟨n - 1, by omega⟩
    refine br_f (nI_ge (by omega) (by omega)) (xs_has hc hP (fun _ => ?_) (fun h => ?_))
    · exact br_f (by decide) (nm_r (nI_1 i) (ih (i + 1) n (by omega) (by omega)))
    · exact absurd ⟨i, by omega, rfl, hall i (by omega)⟩ h
theorem xs_rml {post : SX → Prop} {set : Int32} {o0 q0 : Nat → Int32} (K : ∀ o q, (∀ a, a < 16 → rm_ok set o0 o a) → (∀ a, a < 16 → rm_ok set q0 q a) → post (f_capacity, f_present, f_roots, f_known, f_met, a_sizes, o, q, a_order, a_number, a_parent, a_stack, a_semi, a_above, a_label, a_bucket, a_path, a_idom, a_level, a_under, a_held)) :
    ∀ d i n o q, i + d = 16 → d < n → (∀ a, a < i → rm_ok set o0 o a) → (∀ a, a < i → rm_ok set q0 q a) → (∀ a, i ≤ a → o a = o0 a) → (∀ a, i ≤ a → q a = q0 a) → wX_remove_31 post set f_capacity f_present f_roots f_known f_met n (nI i) a_sizes o q a_order a_number a_parent a_stack a_semi a_above a_label a_bucket a_path a_idom a_level a_under a_held := by
  intro d
  induction d with
  | zero =>
    intro i n o q hi hn h1 h2 h3 h4
    obtain ⟨n, rfl⟩ : ∃ m, n = m + 1 := ⟨n - 1, by omega⟩
    have e : i = 16 := hi
    subst e
    exact br_t (nI_le (a := 16) (b := 16) (by omega) (by omega)) (K o q h1 h2)
  | succ d ih =>
    intro i n o q hi hn h1 h2 h3 h4
    obtain ⟨n, rfl⟩ : ∃ m, n = m + 1 := ⟨n - 1, by omega⟩
    have hi17 : vp_in (nI i) 17 := vp_in_nI (by omega) (by omega)
    have hi16 : vp_in (nI i) 16 := vp_in_nI (by omega) (by omega)
    have nx : ∀ v w : Int32, rm_ok set o0 (upd o i v) i → rm_ok set q0 (upd q i w) i → wX_remove_31 post set f_capacity f_present f_roots f_known f_met n (nI (i + 1)) a_sizes (upd o i v) (upd q i w) a_order a_number a_parent a_stack a_semi a_above a_label a_bucket a_path a_idom a_level a_under a_held := by
      intro v w hv hw
      refine ih (i + 1) n _ _ (by omega) (by omega) (fun a ha => ?_) (fun a ha => ?_) (fun a ha => ?_) (fun a ha => ?_)
      · by_cases e : a = i
        · subst e; exact hv
        · intro j; rw [pk_un e]; exact h1 a (by omega) j
      · by_cases e : a = i
        · subst e; exact hw
        · intro j; rw [pk_un e]; exact h2 a (by omega) j
      · rw [pk_un (by omega)]; exact h3 a (by omega)
      · rw [pk_un (by omega)]; exact h4 a (by omega)
    refine br_f (nI_ge (b := 16) (by omega) (by omega)) ?_
    by_cases hb : bt set i = true
    · exact br_f (hb_n0 (by omega) hb) ⟨hi17, nm_r (hb_up (by omega) hb_ch0) ⟨hi16, nm_r (hb_up (by omega) hb_ch0) (nm_r (nI_1 i) (nx 0 0 (rm_0 hb pk_us) (rm_0 hb pk_us)))⟩⟩
    · refine br_t (hb_z0 (by omega) hb) ⟨hi17, hi17, nm_r (hb_up (by omega) (by rw [nI_clamp (by omega), h3 i (by omega)])) ⟨hi16, hi16, nm_r (hb_up (by omega) (by rw [nI_clamp (by omega), h4 i (by omega)])) (nm_r (nI_1 i) (nx _ _ (rm_c hb pk_us) (rm_c hb pk_us)))⟩⟩
theorem xs_rm {post : SX → Prop} {set : Int32} (K : ∀ o q, (∀ a, a < 16 → rm_ok set a_out o a) → (∀ a, a < 16 → rm_ok set a_in q a) → post (f_capacity, f_present &&& (set ^^^ (-1)), f_roots &&& (set ^^^ (-1)), 0, f_met, a_sizes, o, q, a_order, a_number, a_parent, a_stack, a_semi, a_above, a_label, a_bucket, a_path, a_idom, a_level, a_under, a_held)) : wpX_remove post (f_capacity, f_present, f_roots, f_known, f_met, a_sizes, a_out, a_in, a_order, a_number, a_parent, a_stack, a_semi, a_above, a_label, a_bucket, a_path, a_idom, a_level, a_under, a_held) set := by
  refine nm_e (nm_e ⟨17, ?_⟩)
  exact xs_rml K 16 0 17 a_out a_in rfl (by omega) (fun a h => absurd h (by omega)) (fun a h => absurd h (by omega)) (fun _ _ => rfl) (fun _ _ => rfl)
end
section
variable {f_cap f_there f_roots : Int32} {a_sizes a_refs a_held : Nat → Int32}
theorem ys_is {post : Int32 → Prop} {p0 : Int32} (h1 : hs_is f_there p0 → post 1) (h0 : ¬ hs_is f_there p0 → post 0) : wpY_is post (f_cap, f_there, f_roots, a_sizes, a_refs, a_held) p0 := by
  rcases pk_ix p0 (n := 16) (by omega) with h | h | ⟨j, hj, rfl⟩
  · refine br_t h (h0 ?_)
    rintro ⟨x, hx, rfl, _⟩
    exact nI_pos (by omega) h
  · refine br_f (fun z => ?_) (br_t h (h0 ?_))
    · exact nI_pos (n := 16) (by omega) (Int32.lt_of_le_of_lt h z)
    · rintro ⟨x, hx, rfl, hb⟩
      exact nI_ge hx (by omega) h
  · refine br_f (nI_pos (by omega)) (br_f (nI_ge (b := 16) hj (by omega)) ?_)
    by_cases hb : bt f_there j = true
    · exact br_t (hb_z1 (by omega) hb) (h1 ⟨j, by omega, rfl, hb⟩)
    · refine br_f (hb_n1 (by omega) hb) (h0 ?_)
      rintro ⟨x, hx, e, hb2⟩
      rw [nI_eq (by omega) (by omega)] at e
      subst e; exact hb hb2
theorem ys_mk {post : Int32 → SY → Prop} {c x0 : Nat} {x1 : Int32} (hc : c ≤ 16) (hx0 : x0 ≤ c) (hall : ∀ j, j < x0 → bt f_there j = true) (hx : x0 < c → bt f_there x0 = false)
    (Kn : x0 = c → post (-1) (nI c, f_there, f_roots, a_sizes, a_refs, a_held))
    (Ks : x0 < c → post (nI x0) (nI c, f_there ||| ((1 : Int32) <<< (nI x0 &&& 31)), f_roots, upd a_sizes x0 x1, upd a_refs x0 0, a_held)) :
    ∀ d i n, i + d = x0 → d < n → wY_make_15 post x1 (nI c) f_there f_roots a_sizes a_refs a_held n (nI i) := by
  intro d
  induction d with
  | zero =>
    intro i n hi hn
    obtain ⟨n, rfl⟩ : ∃ m, n = m + 1 := ⟨n - 1, by omega⟩
    have e : i = x0 := hi
    subst e
    by_cases hc2 : i = c
    · exact br_t (nI_le (by omega) (by omega)) (Kn hc2)
    · refine br_f (nI_ge (by omega) (by omega)) (br_f (nI_ge (b := 16) (by omega) (by omega)) (ys_is (fun h => ?_) (fun _ => ?_)))
      · obtain ⟨x, _, e, hb⟩ := h
        rw [nI_eq (by omega) (by omega)] at e
        subst e
        rw [hx (by omega)] at hb
        exact absurd hb (by decide)
      · exact br_t rfl (nm_e ⟨vp_in_nI (by omega) (by omega), nm_r (hb_up (by omega) rfl) ⟨vp_in_nI (by omega) (by omega), nm_r (hb_up (by omega) rfl) (Ks (by omega))⟩⟩)
  | succ d ih =>
    intro i n hi hn
    obtain ⟨n, rfl⟩ : ∃ m, n = m + 1 := ⟨n - 1, by omega⟩
    refine br_f (nI_ge (by omega) (by omega)) (br_f (nI_ge (b := 16) (by omega) (by omega)) (ys_is (fun _ => ?_) (fun h => ?_)))
    · exact br_f (by decide) (nm_r (nI_1 i) (ih (i + 1) n (by omega) (by omega)))
    · exact absurd ⟨i, by omega, rfl, hall i (by omega)⟩ h
/-- bits of a row of the reference after object x is taken out -/
def ry_ok (x : Nat) (f f' : Nat → Int32) (a : Nat) : Prop := f' a = if a = x then 0 else f a &&& (((1 : Int32) <<< (nI x &&& 31)) ^^^ (-1))
theorem ys_dl {post : Int32 → SY → Prop} {x : Nat} {r0 : Nat → Int32} (hx : x < 16) (K : ∀ r, (∀ a, a < 16 → ry_ok x r0 r a) → post 1 (f_cap, f_there, f_roots, a_sizes, r, a_held)) :
    ∀ d i n r, i + d = 16 → d < n → (∀ a, a < i → ry_ok x r0 r a) → (∀ a, i ≤ a → r a = r0 a) → wY_destroy_40 post (nI x) f_cap f_there f_roots n (nI i) a_sizes r a_held := by
  intro d
  induction d with
  | zero =>
    intro i n r hi hn h1 h3
    obtain ⟨n, rfl⟩ : ∃ m, n = m + 1 := ⟨n - 1, by omega⟩
    have e : i = 16 := hi
    subst e
    exact br_t (nI_le (a := 16) (b := 16) (by omega) (by omega)) (K r h1)
  | succ d ih =>
    intro i n r hi hn h1 h3
    obtain ⟨n, rfl⟩ : ∃ m, n = m + 1 := ⟨n - 1, by omega⟩
    have hi16 : vp_in (nI i) 16 := vp_in_nI (by omega) (by omega)
    have nx : ∀ v : Int32, ry_ok x r0 (upd r i v) i → wY_destroy_40 post (nI x) f_cap f_there f_roots n (nI (i + 1)) a_sizes (upd r i v) a_held := by
      intro v hv
      refine ih (i + 1) n _ (by omega) (by omega) (fun a ha => ?_) (fun a ha => ?_)
      · by_cases e : a = i
        · subst e; exact hv
        · unfold ry_ok; rw [pk_un e]; exact h1 a (by omega)
      · rw [pk_un (by omega)]; exact h3 a (by omega)
    refine br_f (nI_ge (b := 16) (by omega) (by omega)) ?_
    by_cases e : i = x
    · refine br_t (congrArg nI e) ⟨hi16, nm_r (hb_up (by omega) rfl) (nm_r (nI_1 i) (nx _ ?_))⟩
      unfold ry_ok; rw [pk_us, if_pos e]
    · refine br_f (fun z => e ((nI_eq (by omega) (by omega)).mp z)) ⟨hi16, hi16, nm_r (hb_up (by omega) (by rw [nI_clamp (by omega), h3 i (by omega)])) (nm_r (nI_1 i) (nx _ ?_))⟩
      unfold ry_ok; rw [pk_us, if_neg e]
/-- destroy of an object that is there -/
theorem ys_d {post : Int32 → SY → Prop} {x : Nat} (hx : x < 16) (hb : bt f_there x = true) (K : ∀ r, (∀ a, a < 16 → ry_ok x a_refs r a) → post 1 (f_cap, f_there &&& (((1 : Int32) <<< (nI x &&& 31)) ^^^ (-1)), f_roots &&& (((1 : Int32) <<< (nI x &&& 31)) ^^^ (-1)), a_sizes, r, a_held)) : wpY_destroy post (f_cap, f_there, f_roots, a_sizes, a_refs, a_held) (nI x) := by
  unfold wpY_destroy
  refine ys_is (fun _ => ?_) (fun h => absurd ⟨x, hx, rfl, hb⟩ h)
  refine br_f (by decide) (nm_e (nm_e ⟨17, ?_⟩))
  exact ys_dl hx K 16 0 17 a_refs rfl (by omega) (fun a h => absurd h (by omega)) (fun _ _ => rfl)
end
end
section
/-! the walk in depth -/
def fu (f : Nat → Nat) (k v : Nat) : Nat → Nat := fun j => if j = k then v else f j
theorem fu_s {f : Nat → Nat} {k v : Nat} : fu f k v k = v := if_pos rfl
theorem fu_n {f : Nat → Nat} {k v j : Nat} (h : j ≠ k) : fu f k v j = f j := if_neg h
theorem cn_none {P : Nat → Prop} : ∀ N, (∀ k, k < N → ¬ P k) → cn P N = 0
  | 0, _ => rfl
  | N + 1, h => by
    simp only [cn, cn_none N (fun k hk => h k (by omega)), b01_f (h N (by omega))]
theorem hb_nm {v : Nat} (h : v < 2 ^ 31) : nI v ≠ -1 := fun e => nI_pos h (by rw [e]; exact hb_neg')
/-- n met, d on the stack; od the vertex of a number, pa the number of the parent, sk the numbers on the stack -/
def wk_I (o : Nat → Int32) (n d : Nat) (od pa sk : Nat → Nat) (order number parent stack : Nat → Int32) : Prop :=
  (0 < n ∧ n ≤ 17 ∧ d ≤ n) ∧
  (od 0 = 16 ∧ (∀ v, 0 < v → v < n → od v < 16)) ∧
  (∀ v, v < n → order v = nI (od v) ∧ number (od v) = nI v ∧ parent v = nI (pa v)) ∧
  (∀ x, x < 17 → number x = -1 ∨ ∃ v, v < n ∧ number x = nI v ∧ od v = x) ∧
  (cn (fun x => ∃ v, 0 < v ∧ v < n ∧ od v = x) 16 + 1 = n) ∧
  (pa 0 = 0 ∧ ∀ v, 0 < v → v < n → pa v < v ∧ bt (o (od (pa v))) (od v) = true ∧ tr_an pa (pa v) (v - 1)) ∧
  (∀ i, i < d → sk i < n ∧ stack i = nI (od (sk i)) ∧ tr_an pa (sk i) (n - 1)) ∧
  (∀ i j, i ≤ j → j < d → tr_an pa (sk i) (sk j)) ∧
  (∀ v, v < n → (∃ i, i < d ∧ sk i = v) ∨ ∀ y, y < 16 → bt (o (od v)) y = true → ∃ w, w < n ∧ od w = y) ∧
  (∀ u v, u < v → v < n → bt (o (od u)) (od v) = true → tr_an pa u v)
theorem wk_push {o : Nat → Int32} {n d : Nat} {od pa sk : Nat → Nat} {order number parent stack : Nat → Int32} (h : wk_I o n (d + 1) od pa sk order number parent stack) {x : Nat} (hx : x < 16) (hb : bt (o (od (sk d))) x = true) (hnx : number x = -1) :
    n < 17 ∧ wk_I o (n + 1) (d + 2) (fu od n x) (fu pa n (sk d)) (fu sk (d + 1) n) (upd order n (nI x)) (upd number x (nI n)) (upd parent n (nI (sk d))) (upd stack (d + 1) (nI x)) := by
  obtain ⟨⟨hn0, hn17, hdn⟩, ⟨ho0, ho⟩, hA, hN, hC, ⟨hp0, hP⟩, hS, hSS, hD, hE⟩ := h
  have T : tr_T pa n := ⟨hp0, fun v a b => (hP v a b).1⟩
  have hnew : ∀ v, v < n → od v ≠ x := by
    intro v hv e
    have h1 := (hA v hv).2.1
    rw [e, hnx] at h1
    exact hb_nm (by omega) h1.symm
  have hcn : cn (fun y => ∃ v, 0 < v ∧ v < n + 1 ∧ fu od n x v = y) 16 = cn (fun y => ∃ v, 0 < v ∧ v < n ∧ od v = y) 16 + 1 := by
    rw [← cn_add (P := fun y => ∃ v, 0 < v ∧ v < n ∧ od v = y) (a := x) (fun z => by obtain ⟨v, _, h2, h3⟩ := z; exact hnew v h2 h3) hx]
    refine cn_eq fun y hy => ⟨fun z => ?_, fun z => ?_⟩
    · obtain ⟨v, h1, h2, h3⟩ := z
      by_cases e : v = n
      · subst e; rw [fu_s] at h3; exact Or.inr h3.symm
      · rw [fu_n e] at h3; exact Or.inl ⟨v, h1, by omega, h3⟩
    · rcases z with ⟨v, h1, h2, h3⟩ | z
      · exact ⟨v, h1, by omega, by rw [fu_n (by omega)]; exact h3⟩
      · exact ⟨n, hn0, by omega, by rw [fu_s]; exact z.symm⟩
  have hle := cn_le (fun y => ∃ v, 0 < v ∧ v < n + 1 ∧ fu od n x v = y) 16
  have hsd := (hS d (by omega)).1
  have cg : ∀ a v, v < n → tr_an pa a v → tr_an (fu pa n (sk d)) a v := fun a v hv z => tr_cg T hv (fun y hy => (fu_n (by omega)).symm) z
  have hnS : ∀ i, i < d + 1 → tr_an (fu pa n (sk d)) (sk i) n := by
    intro i hi
    refine tr_up ?_
    rw [fu_s]
    exact cg _ _ hsd (hSS i d (by omega) (by omega))
  refine ⟨by omega, ⟨by omega, by omega, by omega⟩, ⟨?_, ?_⟩, ?_, ?_, by rw [hcn]; omega, ⟨?_, ?_⟩, ?_, ?_, ?_, ?_⟩
  · rw [fu_n (by omega)]; exact ho0
  · intro v h1 h2
    by_cases e : v = n
    · subst e; rw [fu_s]; exact hx
    · rw [fu_n e]; exact ho v h1 (by omega)
  · intro v hv
    by_cases e : v = n
    · subst e; rw [fu_s, fu_s, pk_us, pk_us, pk_us]; exact ⟨rfl, rfl, rfl⟩
    · have h1 := hA v (by omega)
      rw [fu_n e, fu_n e, pk_un e, pk_un e, pk_un (hnew v (by omega))]; exact h1
  · intro y hy
    by_cases e : y = x
    · subst e; exact Or.inr ⟨n, by omega, pk_us, fu_s⟩
    · rw [pk_un e]
      rcases hN y hy with z | ⟨v, h1, h2, h3⟩
      · exact Or.inl z
      · exact Or.inr ⟨v, by omega, h2, by rw [fu_n (by omega)]; exact h3⟩
  · rw [fu_n (by omega)]; exact hp0
  · intro v h1 h2
    by_cases e : v = n
    · subst e
      rw [fu_s, fu_s, fu_n (show sk d ≠ v by omega)]
      exact ⟨hsd, hb, cg _ _ (by omega) (hS d (by omega)).2.2⟩
    · obtain ⟨a, b, c⟩ := hP v h1 (by omega)
      rw [fu_n e, fu_n e, fu_n (show pa v ≠ n by omega)]
      exact ⟨a, b, cg _ _ (by omega) c⟩
  · intro i hi
    show fu sk (d + 1) n i < n + 1 ∧ _ ∧ tr_an _ _ n
    by_cases e : i = d + 1
    · subst e
      rw [fu_s, pk_us, fu_s]
      exact ⟨by omega, rfl, tr_rf _ _⟩
    · obtain ⟨a, b, c⟩ := hS i (by omega)
      rw [fu_n e, pk_un e, fu_n (show sk i ≠ n by omega)]
      exact ⟨by omega, b, hnS i (by omega)⟩
  · intro i j hij hj
    by_cases e : j = d + 1
    · subst e
      rw [fu_s]
      by_cases e2 : i = d + 1
      · subst e2; rw [fu_s]; exact tr_rf _ _
      · rw [fu_n e2]; exact hnS i (by omega)
    · rw [fu_n e, fu_n (by omega)]
      exact cg _ _ (hS j (by omega)).1 (hSS i j hij (by omega))
  · intro v hv
    by_cases e : v = n
    · subst e; exact Or.inl ⟨d + 1, by omega, fu_s⟩
    · rcases hD v (by omega) with ⟨i, h1, h2⟩ | h1
      · exact Or.inl ⟨i, by omega, by rw [fu_n (by omega)]; exact h2⟩
      · refine Or.inr fun y hy hby => ?_
        rw [fu_n e] at hby
        obtain ⟨w, h2, h3⟩ := h1 y hy hby
        exact ⟨w, by omega, by rw [fu_n (by omega)]; exact h3⟩
  · intro u v huv hv hbb
    rw [fu_n (show u ≠ n by omega)] at hbb
    by_cases e : v = n
    · subst e
      rw [fu_s] at hbb
      rcases hD u huv with ⟨i, h1, h2⟩ | h1
      · rw [← h2]; exact hnS i h1
      · obtain ⟨w, h2, h3⟩ := h1 x hx hbb
        exact absurd h3 (hnew w h2)
    · rw [fu_n e] at hbb
      exact cg _ _ (by omega) (hE u v huv (by omega) hbb)
theorem wk_pop {o : Nat → Int32} {n d : Nat} {od pa sk : Nat → Nat} {order number parent stack : Nat → Int32} (h : wk_I o n (d + 1) od pa sk order number parent stack) (hb : ∀ x, x < 16 → bt (o (od (sk d))) x = true → 0 ≤ number x) :
    wk_I o n d od pa sk order number parent stack := by
  obtain ⟨⟨hn0, hn17, hdn⟩, hO, hA, hN, hC, hP, hS, hSS, hD, hE⟩ := h
  refine ⟨⟨hn0, hn17, by omega⟩, hO, hA, hN, hC, hP, fun i hi => hS i (by omega), fun i j hij hj => hSS i j hij (by omega), fun v hv => ?_, hE⟩
  rcases hD v hv with ⟨i, h1, h2⟩ | h1
  · by_cases e : i = d
    · subst e
      refine Or.inr fun y hy hby => ?_
      rw [← h2] at hby
      have h3 := hb y hy hby
      rcases hN y (by omega) with z | ⟨w, h4, _, h5⟩
      · rw [z] at h3; exact absurd h3 hb_neg
      · exact ⟨w, h4, h5⟩
    · exact Or.inl ⟨i, by omega, h2⟩
  · exact Or.inr h1
section
variable {f_capacity f_present f_roots f_known f_met : Int32} {a_sizes a_out a_in a_order a_number a_parent a_stack a_semi a_above a_label a_bucket a_path a_idom a_level a_under a_held : Nat → Int32}
theorem xw_meet {post : SX → Prop} {m x f : Nat} {p1 : Int32} (hm : m < 17) (hx : x < 17) (hf : f < 17) (e : p1 = nI f) (K : post (f_capacity, f_present, f_roots, f_known, nI (m + 1), a_sizes, a_out, a_in, upd a_order m (nI x), upd a_number x (nI m), upd a_parent m (nI f), a_stack, a_semi, a_above, a_label, a_bucket, a_path, a_idom, a_level, a_under, a_held)) : wpX_meet post (f_capacity, f_present, f_roots, f_known, nI m, a_sizes, a_out, a_in, a_order, a_number, a_parent, a_stack, a_semi, a_above, a_label, a_bucket, a_path, a_idom, a_level, a_under, a_held) (nI x) p1 := by
  subst e
  exact And.intro (vp_in_nI hx (by omega)) (nm_r (hb_up (by omega) (hb_by (by omega))) ⟨vp_in_nI hm (by omega), nm_r (hb_up (by omega) (hb_by (by omega))) ⟨vp_in_nI hm (by omega), nm_r (hb_up (by omega) (hb_by (by omega))) (nm_r (nI_1 m) K)⟩⟩)
theorem xw_ful {post : Int32 → Prop} {set : Int32} (K1 : ∀ x, x < 16 → bt set x = true → ¬ 0 ≤ a_number x → post (nI x)) (K0 : (∀ x, x < 16 → bt set x = true → 0 ≤ a_number x) → post (-1)) :
    ∀ d i n, i + d = 16 → d < n → (∀ x, x < i → bt set x = true → 0 ≤ a_number x) → wX_firstUnmet_2 post set f_capacity f_present f_roots f_known f_met a_sizes a_out a_in a_order a_number a_parent a_stack a_semi a_above a_label a_bucket a_path a_idom a_level a_under a_held n (nI i) := by
  intro d
  induction d with
  | zero =>
    intro i n hi hn h1
    obtain ⟨n, rfl⟩ : ∃ m, n = m + 1 := ⟨n - 1, by omega⟩
    have e : i = 16 := hi
    subst e
    exact br_t (nI_le (a := 16) (b := 16) (by omega) (by omega)) (K0 h1)
  | succ d ih =>
    intro i n hi hn h1
    obtain ⟨n, rfl⟩ : ∃ m, n = m + 1 := ⟨n - 1, by omega⟩
    have nx : (bt set i = true → 0 ≤ a_number i) → wX_firstUnmet_2 post set f_capacity f_present f_roots f_known f_met a_sizes a_out a_in a_order a_number a_parent a_stack a_semi a_above a_label a_bucket a_path a_idom a_level a_under a_held n (nI (i + 1)) := by
      intro hv
      refine ih (i + 1) n (by omega) (by omega) (fun x hx => ?_)
      by_cases e : x = i
      · subst e; exact hv
      · exact h1 x (by omega)
    refine br_f (nI_ge (b := 16) (by omega) (by omega)) ?_
    by_cases hb : bt set i = true
    · refine br_f (hb_n0 (by omega) hb) ⟨vp_in_nI (by omega) (by omega), ?_⟩
      by_cases h0 : 0 ≤ a_number i
      · exact br_t (by rw [nI_clamp (by omega)]; exact h0) (nm_r (nI_1 i) (nx fun _ => h0))
      · exact br_f (by rw [nI_clamp (by omega)]; exact h0) (K1 i (by omega) hb h0)
    · exact br_t (hb_z0 (by omega) hb) (nm_r (nI_1 i) (nx fun z => absurd z hb))
theorem xw_fu {post : Int32 → Prop} {set set' : Int32} (e : set' = set) (K1 : ∀ x, x < 16 → bt set x = true → ¬ 0 ≤ a_number x → post (nI x)) (K0 : (∀ x, x < 16 → bt set x = true → 0 ≤ a_number x) → post (-1)) : wpX_firstUnmet post (f_capacity, f_present, f_roots, f_known, f_met, a_sizes, a_out, a_in, a_order, a_number, a_parent, a_stack, a_semi, a_above, a_label, a_bucket, a_path, a_idom, a_level, a_under, a_held) set' := by
  subst e
  exact Exists.intro 17 (xw_ful K1 K0 16 0 17 rfl (by omega) (fun x h => absurd h (by omega)))
theorem xw_loop {post : SX → Prop} (K : ∀ n od pa sk order number parent stack, wk_I a_out n 0 od pa sk order number parent stack → post (f_capacity, f_present, f_roots, f_known, nI n, a_sizes, a_out, a_in, order, number, parent, stack, a_semi, a_above, a_label, a_bucket, a_path, a_idom, a_level, a_under, a_held)) :
    ∀ f r n d od pa sk order number parent stack, r + d + 1 = 2 * n → 40 < f + r → wk_I a_out n d od pa sk order number parent stack → wX_walk_57 post f (nI d) (nI r) f_capacity f_present f_roots f_known (nI n) a_sizes a_out a_in order number parent stack a_semi a_above a_label a_bucket a_path a_idom a_level a_under a_held := by
  intro f
  induction f with
  | zero =>
    intro r n d od pa sk order number parent stack h1 h2 h
    have := h.1
    omega
  | succ f ih =>
    intro r n d od pa sk order number parent stack h1 h2 h
    have hn := h.1
    refine br_f (nI_ge (b := 40) (by omega) (by omega)) ?_
    cases d with
    | zero => exact br_t (nI_le (a := 0) (b := 0) (by omega) (by omega)) (K n od pa sk order number parent stack h)
    | succ d =>
      obtain ⟨s1, s2, s3⟩ := h.2.2.2.2.2.2.1 d (by omega)
      have hodk : od (sk d) < 17 := by
        rcases Nat.eq_zero_or_pos (sk d) with z | z
        · rw [z, h.2.1.1]; omega
        · have := h.2.1.2 (sk d) z s1
          omega
      refine br_f (nI_nle (by omega) (by omega)) ⟨?_, nm_r (e' := nI (od (sk d))) ?_ ⟨vp_in_nI hodk (by omega), xw_fu (set := a_out (od (sk d))) ?_ (fun x hx hb h0 => ?_) (fun hb => ?_)⟩⟩
      · rw [nI_pred]; exact vp_in_nI (by omega) (by omega)
      · rw [nI_pred, nI_clamp (by omega)]; exact s2
      · rw [nI_clamp (by omega)]
      · have hx1 : number x = -1 := by
          rcases h.2.2.2.1 x (by omega) with z | ⟨v, h4, h5, _⟩
          · exact z
          · rw [h5] at h0
            exact absurd (nI_pos' (by omega)) h0
        obtain ⟨p1, p2⟩ := wk_push h hx hb hx1
        refine br_t (nI_pos' (by omega)) ⟨vp_in_nI hodk (by omega), xw_meet (m := n) (x := x) (f := sk d) p1 (by omega) (by omega) ?_ ?_⟩
        · rw [nI_clamp (by omega)]; exact (h.2.2.1 (sk d) s1).2.1
        · exact And.intro (vp_in_nI (by omega) (by omega)) (nm_r (hb_up (by omega) (hb_by (by omega))) (nm_r (nI_1 _) (nm_r (nI_1 _) (ih (r + 1) (n + 1) (d + 2) _ _ _ _ _ _ _ (by omega) (by omega) p2))))
      · exact br_f hb_neg (nm_r (pk_m1 d) (nm_r (nI_1 r) (ih (r + 1) n d od pa sk order number parent stack (by omega) (by omega) (wk_pop h hb))))
theorem wk_0 (o order parent stack nm : Nat → Int32) (h : ∀ x, x < 17 → nm x = -1) : wk_I o 1 1 (fun _ => 16) (fun _ => 0) (fun _ => 0) (upd order 0 (nI 16)) (upd nm 16 (nI 0)) (upd parent 0 (nI 0)) (upd stack 0 (nI 16)) := by
  refine ⟨⟨by omega, by omega, by omega⟩, ⟨rfl, fun v a b => by omega⟩, fun v hv => ?_, fun x hx => ?_, ?_, ⟨rfl, fun v a b => by omega⟩, fun i hi => ?_, fun i j _ _ => tr_rf _ _, fun v hv => ?_, fun u v a b => by omega⟩
  · have e : v = 0 := by omega
    subst e
    exact ⟨pk_us, pk_us, pk_us⟩
  · by_cases e : x = 16
    · subst e; exact Or.inr ⟨0, by omega, pk_us, rfl⟩
    · rw [pk_un e]; exact Or.inl (h x hx)
  · rw [cn_none 16 (fun k _ z => by obtain ⟨v, a, b, _⟩ := z; omega)]
  · have e : i = 0 := by omega
    subst e
    exact ⟨by omega, pk_us, tr_rf _ _⟩
  · exact Or.inl ⟨0, by omega, by show 0 = v; omega⟩
theorem xw_init {post : SX → Prop} (hR : ∀ i, bt f_roots i = true → i < 16) (K : ∀ n od pa sk order number parent stack, wk_I (upd a_out 16 f_roots) n 0 od pa sk order number parent stack → post (f_capacity, f_present, f_roots, f_known, nI n, a_sizes, upd a_out 16 f_roots, a_in, order, number, parent, stack, a_semi, a_above, a_label, a_bucket, a_path, a_idom, a_level, a_under, a_held)) :
    ∀ d i f nm, i + d = 17 → d < f → (∀ x, x < i → nm x = -1) → wX_walk_2 post f_capacity f_present f_roots f_known f_met f (nI i) a_sizes a_out a_in a_order nm a_parent a_stack a_semi a_above a_label a_bucket a_path a_idom a_level a_under a_held := by
  intro d
  induction d with
  | zero =>
    intro i n nm hi hn h1
    obtain ⟨n, rfl⟩ : ∃ m, n = m + 1 := ⟨n - 1, by omega⟩
    have e : i = 17 := hi
    subst e
    refine br_t (nI_le (a := 17) (b := 17) (by omega) (by omega)) (nm_r (congrArg (upd a_out 16) (hb_ch hR)) ?_)
    refine xw_meet (m := 0) (x := 16) (f := 0) (by omega) (by omega) (by omega) rfl ?_
    refine nm_r (congrArg (upd a_stack 0) hb_b16) ⟨42, ?_⟩
    exact xw_loop K 42 0 1 1 _ _ _ _ _ _ _ rfl (by omega) (wk_0 _ _ _ _ nm h1)
  | succ d ih =>
    intro i n nm hi hn h1
    obtain ⟨n, rfl⟩ : ∃ m, n = m + 1 := ⟨n - 1, by omega⟩
    refine br_f (nI_ge (b := 17) (by omega) (by omega)) ⟨vp_in_nI (by omega) (by omega), nm_r (hb_up (by omega) hb_bm) (nm_r (nI_1 i) (ih (i + 1) n _ (by omega) (by omega) (fun x hx => ?_)))⟩
    by_cases e : x = i
    · subst e; exact pk_us
    · rw [pk_un e]; exact h1 x (by omega)
theorem xw_walk {post : SX → Prop} (hR : ∀ i, bt f_roots i = true → i < 16) (K : ∀ n od pa sk order number parent stack, wk_I (upd a_out 16 f_roots) n 0 od pa sk order number parent stack → post (f_capacity, f_present, f_roots, f_known, nI n, a_sizes, upd a_out 16 f_roots, a_in, order, number, parent, stack, a_semi, a_above, a_label, a_bucket, a_path, a_idom, a_level, a_under, a_held)) : wpX_walk post (f_capacity, f_present, f_roots, f_known, f_met, a_sizes, a_out, a_in, a_order, a_number, a_parent, a_stack, a_semi, a_above, a_label, a_bucket, a_path, a_idom, a_level, a_under, a_held) :=
  Exists.intro 18 (xw_init hR K 17 0 18 a_number rfl (by omega) (fun x h => absurd h (by omega)))
end
end
section
/-! the forest with compressed paths: numbers from c on are linked -/
def fo_I (pa sm : Nat → Nat) (n c : Nat) (ab lb : Nat → Int32) : Prop :=
  (∀ x, x < n → x < c → ab x = -1 ∧ lb x = nI x) ∧
  (∀ x, x < n → c ≤ x → ∃ a l, ab x = nI a ∧ lb x = nI l ∧ a < x ∧ tr_an pa a x ∧ a < l ∧ tr_an pa l x ∧ ∀ y, tr_an pa y x → a < y → c ≤ y ∧ sm l ≤ sm y)
/-- what eval gives -/
def ev_ok (pa sm : Nat → Nat) (c v l : Nat) : Prop := (v < c ∧ l = v) ∨ (c ≤ v ∧ c ≤ l ∧ tr_an pa l v ∧ ∀ y, tr_an pa y v → c ≤ y → sm l ≤ sm y)
def se_I (sm : Nat → Nat) (n : Nat) (semi : Nat → Int32) : Prop := ∀ x, x < n → semi x = nI (sm x) ∧ sm x ≤ x
theorem hb_neq {a b : Nat} (ha : a < 2 ^ 31) (hb : b < 2 ^ 31) (h : nI a = nI b) : a = b := (nI_eq ha hb).mp h
theorem fo_step {pa sm : Nat → Nat} {n c : Nat} {ab lb : Nat → Int32} (hn : n ≤ 17) (T : tr_T pa n) (F : fo_I pa sm n c ab lb) {w a b la lw : Nat} (hw : w < n) (hcw : c ≤ w) (ha : c ≤ a) (e1 : ab w = nI a) (e2 : ab a = nI b) (e3 : lb a = nI la) (e4 : lb w = nI lw) (haw : a < w) (hb : b < 17) (hla : la < 17) (hlw : lw < 17)
    {lb' : Nat → Int32} (hl : (sm lw ≤ sm la ∧ lb' = lb) ∨ (sm la < sm lw ∧ lb' = upd lb w (nI la))) : fo_I pa sm n c (upd ab w (nI b)) lb' := by
  obtain ⟨F1, F2⟩ := F
  obtain ⟨a', lw', w1, w2, w3, w4, w5, w6, w7⟩ := F2 w hw hcw
  have ea : a' = a := hb_neq (by omega) (by omega) (w1.symm.trans e1)
  subst ea
  have hlw' := tr_le T hw w6
  have el : lw' = lw := hb_neq (by omega) (by omega) (w2.symm.trans e4)
  subst el
  obtain ⟨b', la', a1, a2, a3, a4, a5, a6, a7⟩ := F2 a' (by omega) ha
  have eb : b' = b := hb_neq (by omega) (by omega) (a1.symm.trans e2)
  subst eb
  have hla' := tr_le T (by omega) a6
  have el2 : la' = la := hb_neq (by omega) (by omega) (a2.symm.trans e3)
  subst el2
  have hlo : ∀ x, x ≠ w → lb' x = lb x := by
    intro x hx
    rcases hl with ⟨_, e⟩ | ⟨_, e⟩
    · rw [e]
    · rw [e, pk_un hx]
  refine ⟨fun x hx hxc => ?_, fun x hx hxc => ?_⟩
  · have : x ≠ w := by omega
    rw [pk_un this, hlo x this]; exact F1 x hx hxc
  · by_cases e : x = w
    · subst e
      rw [pk_us]
      have key : ∀ y, tr_an pa y x → b' < y → c ≤ y ∧ (sm la' ≤ sm y ∨ sm lw' ≤ sm y) := by
        intro y hy hby
        rcases Nat.lt_or_ge a' y with z | z
        · have := w7 y hy z
          exact ⟨this.1, Or.inr this.2⟩
        · have := a7 y (tr_lin T hx hy w4 z) hby
          exact ⟨this.1, Or.inl this.2⟩
      rcases hl with ⟨h1, e⟩ | ⟨h1, e⟩
      · refine ⟨b', lw', rfl, by rw [e]; exact w2, by omega, tr_tr a4 w4, by omega, w6, fun y hy hby => ?_⟩
        have := key y hy hby
        exact ⟨this.1, by omega⟩
      · refine ⟨b', la', rfl, by rw [e, pk_us], by omega, tr_tr a4 w4, by omega, tr_tr a6 w4, fun y hy hby => ?_⟩
        have := key y hy hby
        exact ⟨this.1, by omega⟩
    · rw [pk_un e, hlo x e]; exact F2 x hx hxc
theorem fo_link {pa sm : Nat → Nat} {n v m : Nat} {ab lb : Nat → Int32} (T : tr_T pa n) (F : fo_I pa sm n (v + 1) ab lb) (h0 : 0 < v) (hv : v < n) : fo_I pa (fu sm v m) n v (upd ab v (nI (pa v))) lb := by
  obtain ⟨F1, F2⟩ := F
  refine ⟨fun x hx hxc => ?_, fun x hx hxc => ?_⟩
  · rw [pk_un (by omega)]; exact F1 x hx (by omega)
  · by_cases e : x = v
    · subst e
      rw [pk_us]
      refine ⟨pa x, x, rfl, (F1 x hx (by omega)).2, T.2 x h0 hx, tr_up (tr_rf _ _), T.2 x h0 hx, tr_rf _ _, fun y hy hpy => ?_⟩
      rcases tr_cs hy with z | z
      · subst z; exact ⟨Nat.le_refl _, Nat.le_refl _⟩
      · have := tr_le T (v := pa x) (by have := T.2 x h0 hx; omega) z
        omega
    · rw [pk_un e]
      obtain ⟨a, l, w1, w2, w3, w4, w5, w6, w7⟩ := F2 x hx (by omega)
      refine ⟨a, l, w1, w2, w3, w4, w5, w6, fun y hy hay => ?_⟩
      have h1 := w7 y hy hay
      have h2 := w7 l w6 w5
      rw [fu_n (by omega), fu_n (by omega)]
      exact ⟨by omega, h1.2⟩
theorem hb_m (k : Nat) : nI k + (-1) = nI k - 1 := (Int32.sub_eq_add_neg (nI k) 1).symm
theorem hb_0m : nI 0 - 1 < 0 := by decide
section
variable {f_capacity f_present f_roots f_known f_met : Int32} {a_sizes a_out a_in a_order a_number a_parent a_stack a_semi a_above a_label a_bucket a_path a_idom a_level a_under a_held : Nat → Int32}
variable {pa sm : Nat → Nat} {n c : Nat}
theorem xc_dn {post : SX → Prop} {pt : Nat → Nat} (hn : n ≤ 17) (T : tr_T pa n) (hse : se_I sm n a_semi) (K : ∀ ab lb, fo_I pa sm n c ab lb → (∃ r, r < c ∧ r < 17 ∧ ab (pt 0) = nI r) → post (f_capacity, f_present, f_roots, f_known, f_met, a_sizes, a_out, a_in, a_order, a_number, a_parent, a_stack, a_semi, ab, lb, a_bucket, a_path, a_idom, a_level, a_under, a_held)) :
    ∀ k f ab lb, k < f → k ≤ 16 → fo_I pa sm n c ab lb → (∀ j, j < k → a_path j = nI (pt j) ∧ ab (pt j) = nI (pt (j + 1))) → (∀ i j, i < j → j ≤ k → pt j < pt i) → (∀ j, j ≤ k → c ≤ pt j ∧ pt j < n) → (∃ r, r < c ∧ r < 17 ∧ ab (pt k) = nI r) → wX_compress_66 post f_capacity f_present f_roots f_known f_met f (nI k - 1) a_sizes a_out a_in a_order a_number a_parent a_stack a_semi ab lb a_bucket a_path a_idom a_level a_under a_held := by
  intro k
  induction k with
  | zero =>
    intro f ab lb hf _ F h1 h2 h3 h4
    obtain ⟨f, rfl⟩ : ∃ m, f = m + 1 := ⟨f - 1, by omega⟩
    exact br_t hb_0m (K ab lb F h4)
  | succ k ih =>
    intro f ab lb hf hk F h1 h2 h3 h4
    obtain ⟨f, rfl⟩ : ∃ m, f = m + 1 := ⟨f - 1, by omega⟩
    obtain ⟨r, r1, r2, r3⟩ := h4
    obtain ⟨p1, p2⟩ := h1 k (by omega)
    have hlt := h2 k (k + 1) (by omega) (by omega)
    obtain ⟨q1, q2⟩ := h3 k (by omega)
    obtain ⟨q3, q4⟩ := h3 (k + 1) (by omega)
    generalize ew : pt k = w at *
    generalize ea : pt (k + 1) = a at *
    obtain ⟨_, lw, _, w2, _, _, _, w6, _⟩ := F.2 w q2 q1
    obtain ⟨_, la, _, a2, _, _, _, a6, _⟩ := F.2 a q4 q3
    have hlw := tr_le T q2 w6
    have hla := tr_le T q4 a6
    have e1 : ab (nI w).toNatClampNeg = nI a := by rw [nI_clamp (by omega)]; exact p2
    have e2 : lb (nI a).toNatClampNeg = nI la := by rw [nI_clamp (by omega)]; exact a2
    have e3 : lb (nI w).toNatClampNeg = nI lw := by rw [nI_clamp (by omega)]; exact w2
    have e4 : a_semi (lb (nI a).toNatClampNeg).toNatClampNeg = nI (sm la) := by rw [e2, nI_clamp (by omega)]; exact (hse la (by omega)).1
    have e5 : a_semi (lb (nI w).toNatClampNeg).toNatClampNeg = nI (sm lw) := by rw [e3, nI_clamp (by omega)]; exact (hse lw (by omega)).1
    have e6 : ab (nI a).toNatClampNeg = nI r := by rw [nI_clamp (by omega)]; exact r3
    have s1 := (hse la (by omega)).2
    have s2 := (hse lw (by omega)).2
    have iw : vp_in (nI w) 17 := vp_in_nI (by omega) (by omega)
    have ia : vp_in (nI a) 17 := vp_in_nI (by omega) (by omega)
    have nx : ∀ lb', ((sm lw ≤ sm la ∧ lb' = lb) ∨ (sm la < sm lw ∧ lb' = upd lb w (nI la))) → wX_compress_66 post f_capacity f_present f_roots f_known f_met f (nI k - 1) a_sizes a_out a_in a_order a_number a_parent a_stack a_semi (upd ab w (nI r)) lb' a_bucket a_path a_idom a_level a_under a_held := by
      intro lb' hl
      refine ih f (upd ab w (nI r)) lb' (by omega) (by omega) (fo_step hn T F q2 q1 q3 p2 r3 a2 w2 hlt r2 (by omega) (by omega) hl) (fun j hj => ?_) (fun i j a b => h2 i j a (by omega)) (fun j hj => h3 j (by omega)) ⟨r, r1, r2, pk_us⟩
      have := h2 j k hj (by omega)
      rw [pk_un (show pt j ≠ w by omega)]
      exact h1 j (by omega)
    rw [nI_pred]
    refine br_f (nI_pos (by omega)) ⟨vp_in_nI (by omega) (by omega), nm_r (e' := nI w) (by rw [nI_clamp (by omega)]; exact p1) ⟨iw, nm_r e1 ⟨ia, by rw [e2]; exact vp_in_nI (by omega) (by omega), iw, by rw [e3]; exact vp_in_nI (by omega) (by omega), ?_⟩⟩⟩
    rcases Nat.lt_or_ge (sm la) (sm lw) with z | z
    · refine br_f (by rw [e4, e5]; exact nI_ge z (by omega)) ⟨ia, iw, nm_r (hb_up (by omega) (by rw [e2, hb_by1 (by omega)])) ?_⟩
      exact And.intro ia ⟨iw, nm_r (hb_up (by omega) (by rw [e6, hb_by1 (by omega)])) (nm_r (hb_m k) (nx _ (Or.inr ⟨z, rfl⟩)))⟩
    · refine br_t (by rw [e4, e5]; exact nI_le z (by omega)) ?_
      exact And.intro ia ⟨iw, nm_r (hb_up (by omega) (by rw [e6, hb_by1 (by omega)])) (nm_r (hb_m k) (nx _ (Or.inl ⟨z, rfl⟩)))⟩
theorem xc_up {post : SX → Prop} {v : Nat} (hn : n ≤ 17) (T : tr_T pa n) (hse : se_I sm n a_semi) (F : fo_I pa sm n c a_above a_label) (hvn : v < n) (K : ∀ ab lb pth, fo_I pa sm n c ab lb → (∃ r, r < c ∧ r < 17 ∧ ab v = nI r) → post (f_capacity, f_present, f_roots, f_known, f_met, a_sizes, a_out, a_in, a_order, a_number, a_parent, a_stack, a_semi, ab, lb, a_bucket, pth, a_idom, a_level, a_under, a_held)) :
    ∀ (f k u : Nat) (pt : Nat → Nat) (pth : Nat → Int32), u < f → k + u ≤ v → c ≤ u → pt 0 = v → pt k = u → (∀ j, j < k → pth j = nI (pt j) ∧ a_above (pt j) = nI (pt (j + 1))) → (∀ i j, i < j → j ≤ k → pt j < pt i) → (∀ j, j ≤ k → c ≤ pt j ∧ pt j < n) → wX_compress_7 post f_capacity f_present f_roots f_known f_met f (nI k) (nI u) (nI k) a_sizes a_out a_in a_order a_number a_parent a_stack a_semi a_above a_label a_bucket pth a_idom a_level a_under a_held := by
  intro f
  induction f with
  | zero => intro k u pt pth h; omega
  | succ f ih =>
    intro k u pt pth hf hku hcu hp0 hpk h1 h2 h3
    have hun : u < n := by omega
    obtain ⟨a, l, w1, w2, w3, w4, w5, w6, w7⟩ := F.2 u hun hcu
    have e1 : a_above (nI u).toNatClampNeg = nI a := by rw [nI_clamp (by omega)]; exact w1
    have iu : vp_in (nI u) 17 := vp_in_nI (by omega) (by omega)
    refine br_f (nI_ge (b := 17) (by omega) (by omega)) ⟨iu, br_f (by rw [e1]; exact nI_pos (by omega)) ⟨iu, by rw [e1]; exact vp_in_nI (by omega) (by omega), ?_⟩⟩
    rcases Nat.lt_or_ge a c with z | z
    · have e2 : a_above (a_above (nI u).toNatClampNeg).toNatClampNeg = -1 := by rw [e1, nI_clamp (by omega)]; exact (F.1 a (by omega) z).1
      refine br_t (by rw [e2]; exact hb_neg') (nm_e ⟨k + 1, ?_⟩)
      refine xc_dn (pt := pt) hn T hse (fun ab lb F' hr => ?_) k (k + 1) a_above a_label (by omega) (by omega) F h1 h2 h3 ⟨a, z, by omega, by rw [hpk]; exact w1⟩
      rw [hp0] at hr
      exact K ab lb pth F' hr
    · obtain ⟨b, _, b1, _, b3, _⟩ := F.2 a (by omega) z
      have e2 : a_above (a_above (nI u).toNatClampNeg).toNatClampNeg = nI b := by rw [e1, nI_clamp (by omega)]; exact b1
      refine br_f (by rw [e2]; exact nI_pos (by omega)) ⟨vp_in_nI (by omega) (by omega), nm_r (hb_up (by omega) (hb_by (by omega))) (nm_r (nI_1 k) ⟨iu, nm_r e1 (nm_r (nI_1 k) (ih (k + 1) a (fu pt (k + 1) a) _ (by omega) (by omega) z ?_ fu_s (fun j hj => ?_) (fun i j hij hj => ?_) (fun j hj => ?_)))⟩)⟩
      · rw [fu_n (by omega)]; exact hp0
      · by_cases e : j = k
        · subst e
          rw [fu_n (show j ≠ j + 1 by omega), fu_s, pk_us, hpk]
          exact ⟨rfl, w1⟩
        · rw [fu_n (show j ≠ k + 1 by omega), fu_n (show j + 1 ≠ k + 1 by omega), pk_un e]
          exact h1 j (by omega)
      · by_cases e : j = k + 1
        · subst e
          rw [fu_s, fu_n (by omega)]
          by_cases e2 : i = k
          · rw [e2, hpk]; exact w3
          · have := h2 i k (by omega) (by omega)
            omega
        · rw [fu_n e, fu_n (by omega)]; exact h2 i j hij (by omega)
      · by_cases e : j = k + 1
        · subst e; rw [fu_s]; exact ⟨z, by omega⟩
        · rw [fu_n e]; exact h3 j (by omega)
/-- eval of a met number -/
theorem xc_eval {post : Int32 → SX → Prop} {v : Nat} {p0 : Int32} (hn : n ≤ 17) (T : tr_T pa n) (hse : se_I sm n a_semi) (F : fo_I pa sm n c a_above a_label) (hvn : v < n) (ep : p0 = nI v) (K : ∀ l ab lb pth, fo_I pa sm n c ab lb → ev_ok pa sm c v l → l ≤ v → post (nI l) (f_capacity, f_present, f_roots, f_known, f_met, a_sizes, a_out, a_in, a_order, a_number, a_parent, a_stack, a_semi, ab, lb, a_bucket, pth, a_idom, a_level, a_under, a_held)) : wpX_eval post (f_capacity, f_present, f_roots, f_known, f_met, a_sizes, a_out, a_in, a_order, a_number, a_parent, a_stack, a_semi, a_above, a_label, a_bucket, a_path, a_idom, a_level, a_under, a_held) p0 := by
  subst ep
  have iv : vp_in (nI v) 17 := vp_in_nI (by omega) (by omega)
  refine And.intro iv ?_
  rcases Nat.lt_or_ge v c with z | z
  · have e1 : a_above (nI v).toNatClampNeg = -1 := by rw [nI_clamp (by omega)]; exact (F.1 v hvn z).1
    exact br_f (by rw [e1]; exact hb_neg) (K v a_above a_label a_path F (Or.inl ⟨z, rfl⟩) (Nat.le_refl _))
  · obtain ⟨a, _, w1, _, w3, _⟩ := F.2 v hvn z
    have e1 : a_above (nI v).toNatClampNeg = nI a := by rw [nI_clamp (by omega)]; exact w1
    refine br_t (by rw [e1]; exact nI_pos' (by omega)) (Exists.intro (v + 1) (xc_up (v := v) hn T hse F hvn (fun ab lb pth F' hr => ?_) (v + 1) 0 v (fun _ => v) a_path (by omega) (by omega) z rfl rfl (fun j hj => by omega) (fun i j a b => by omega) (fun j _ => ⟨z, hvn⟩)))
    obtain ⟨r, r1, r2, r3⟩ := hr
    obtain ⟨a', l, v1, v2, v3, v4, v5, v6, v7⟩ := F'.2 v hvn z
    have ea : a' = r := hb_neq (by omega) (by omega) (v1.symm.trans r3)
    subst ea
    have hl := tr_le T hvn v6
    refine And.intro iv ?_
    rw [nI_clamp (by omega), v2]
    exact K l ab lb pth F' (Or.inr ⟨z, (v7 l v6 v5).1, v6, fun y hy hcy => (v7 y hy (by omega)).2⟩) hl
end
end
section
/-! leastEntry, empty, the loop of find -/
/-- the least entry m of number v (object x) after the objects below y -/
def le_I (pa sm od : Nat → Nat) (R inx : Int32) (n v x y m : Nat) : Prop :=
  (bt R x = true → m = 0) ∧
  (∀ u, 0 < u → u < n → od u < y → bt inx (od u) = true → (u ≤ v → m ≤ u) ∧ (v < u → ∀ a, tr_an pa a u → v < a → m ≤ sm a)) ∧
  (m = v ∨ (m = 0 ∧ bt R x = true) ∨ ∃ u, 0 < u ∧ u < n ∧ bt inx (od u) = true ∧ ((u < v ∧ m = u) ∨ (v < u ∧ ∃ a, tr_an pa a u ∧ v < a ∧ m = sm a))) ∧ m ≤ v
/-- what the walk leaves: numbers and objects -/
def nu_I (n : Nat) (od : Nat → Nat) (order number : Nat → Int32) : Prop :=
  n ≤ 17 ∧ od 0 = 16 ∧ (∀ v, 0 < v → v < n → od v < 16) ∧ (∀ v, v < n → order v = nI (od v) ∧ number (od v) = nI v) ∧ (∀ x, x < 17 → number x = -1 ∨ ∃ v, v < n ∧ number x = nI v ∧ od v = x)
theorem le_skip {pa sm od : Nat → Nat} {R inx : Int32} {n v x y m : Nat} (h : le_I pa sm od R inx n v x y m) (hs : ∀ u, 0 < u → u < n → od u = y → bt inx (od u) = true → False) : le_I pa sm od R inx n v x (y + 1) m := by
  obtain ⟨h1, h2, h3, h4⟩ := h
  refine ⟨h1, fun u a b c d => ?_, h3, h4⟩
  by_cases e : od u = y
  · exact absurd (hs u a b e d) id
  · exact h2 u a b (by omega) d
theorem le_take {pa sm od : Nat → Nat} {R inx : Int32} {n v x y m u l m' : Nat} (h : le_I pa sm od R inx n v x y m) (h0 : 0 < u) (hu : u < n) (hy : od u = y) (hin : bt inx (od u) = true) (inj : ∀ u', 0 < u' → u' < n → od u' = y → u' = u) (hsm : ∀ z, z ≤ v → sm z = z) (hev : ev_ok pa sm (v + 1) u l)
    (hm : (m ≤ sm l ∧ m' = m) ∨ (sm l < m ∧ m' = sm l)) : le_I pa sm od R inx n v x (y + 1) m' := by
  obtain ⟨h1, h2, h3, h4⟩ := h
  have hmm : m' ≤ m ∧ m' ≤ sm l := by clear h3 hev h2; omega
  refine ⟨fun z => by have := h1 z; omega, fun u' a b c d => ?_, ?_, by omega⟩
  · by_cases e : od u' = y
    · have e2 := inj u' a b e
      subst e2
      rcases hev with ⟨g1, g2⟩ | ⟨g1, g2, g3, g4⟩
      · refine ⟨fun _ => ?_, fun z => by omega⟩
        rw [g2, hsm u' (by omega)] at hmm
        exact hmm.2
      · refine ⟨fun z => by omega, fun _ a' ha hva => ?_⟩
        have := g4 a' ha (by omega)
        omega
    · have := h2 u' a b (by omega) d
      refine ⟨fun z => by have := this.1 z; omega, fun z a' ha hva => by have := this.2 z a' ha hva; omega⟩
  · rcases hm with ⟨_, e⟩ | ⟨g, e⟩
    · rw [e]; exact h3
    · refine Or.inr (Or.inr ⟨u, h0, hu, hin, ?_⟩)
      rcases hev with ⟨g1, g2⟩ | ⟨g1, g2, g3, g4⟩
      · rw [g2, hsm u (by omega)] at e g
        exact Or.inl ⟨by omega, e⟩
      · exact Or.inr ⟨by omega, l, g3, by omega, e⟩
section
variable {f_capacity f_present f_roots f_known f_met : Int32} {a_sizes a_out a_in a_order a_number a_parent a_stack a_semi a_above a_label a_bucket a_path a_idom a_level a_under a_held : Nat → Int32}
variable {pa sm od : Nat → Nat} {n : Nat}
theorem xe_loop {post : Int32 → SX → Prop} {v x : Nat} (T : tr_T pa n) (N : nu_I n od a_order a_number) (hse : se_I sm n a_semi) (hsm : ∀ z, z ≤ v → sm z = z) (hv : v < n) (hx : x < 16) (K : ∀ m ab lb pth, fo_I pa sm n (v + 1) ab lb → le_I pa sm od f_roots (a_in x) n v x 16 m → post (nI m) (f_capacity, f_present, f_roots, f_known, f_met, a_sizes, a_out, a_in, a_order, a_number, a_parent, a_stack, a_semi, ab, lb, a_bucket, pth, a_idom, a_level, a_under, a_held)) :
    ∀ d y f m ab lb pth, y + d = 16 → d < f → fo_I pa sm n (v + 1) ab lb → le_I pa sm od f_roots (a_in x) n v x y m → wX_leastEntry_25 post (nI x) f (nI m) (nI y) f_capacity f_present f_roots f_known f_met a_sizes a_out a_in a_order a_number a_parent a_stack a_semi ab lb a_bucket pth a_idom a_level a_under a_held := by
  intro d
  induction d with
  | zero =>
    intro y f m ab lb pth hy hf F h
    obtain ⟨f, rfl⟩ : ∃ m, f = m + 1 := ⟨f - 1, by omega⟩
    have e : y = 16 := hy
    subst e
    exact br_t (nI_le (a := 16) (b := 16) (by omega) (by omega)) (K m ab lb pth F h)
  | succ d ih =>
    intro y f m ab lb pth hy hf F h
    obtain ⟨f, rfl⟩ : ∃ m, f = m + 1 := ⟨f - 1, by omega⟩
    obtain ⟨hn, ho0, ho, hA, hN⟩ := N
    have iy : vp_in (nI y) 17 := vp_in_nI (by omega) (by omega)
    have hmv := h.2.2.2
    refine br_f (nI_ge (b := 16) (by omega) (by omega)) ⟨vp_in_nI hx (by omega), ?_⟩
    by_cases hb : bt (a_in x) y = true
    · refine br_f (by rw [nI_clamp (by omega)]; exact hb_n0 (by omega) hb) (br_f (by decide) ⟨iy, ?_⟩)
      rcases hN y (by omega) with z | ⟨u, hu, z, eu⟩
      · refine br_t (by rw [nI_clamp (by omega), z]; exact hb_neg') (nm_r (nI_1 y) (ih (y + 1) f m ab lb pth (by omega) (by omega) F (le_skip h (fun u a b e _ => ?_))))
        have h5 := (hA u b).2
        rw [e, z] at h5
        exact hb_nm (by omega) h5.symm
      · have hu0 : 0 < u := by
          rcases Nat.eq_zero_or_pos u with q | q
          · rw [q, ho0] at eu; omega
          · exact q
        have inj : ∀ u', 0 < u' → u' < n → od u' = y → u' = u := by
          intro u' _ b e
          have h5 := (hA u' b).2
          rw [e, z] at h5
          exact hb_neq (by omega) (by omega) h5.symm
        refine br_f (by rw [nI_clamp (by omega), z]; exact nI_pos (by omega)) ⟨iy, xc_eval (v := u) (c := v + 1) hn T hse F hu (by rw [nI_clamp (by omega)]; exact z) (fun l ab' lb' pth' F' hev hl => ?_)⟩
        have s1 := hse l (by omega)
        have e1 : a_semi (nI l).toNatClampNeg = nI (sm l) := by rw [nI_clamp (by omega)]; exact s1.1
        have hin : bt (a_in x) (od u) = true := by rw [eu]; exact hb
        refine And.intro (vp_in_nI (by omega) (by omega)) ?_
        rcases Nat.lt_or_ge (sm l) m with z2 | z2
        · exact br_f (by rw [e1]; exact nI_ge z2 (by omega)) ⟨vp_in_nI (by omega) (by omega), nm_r e1 (nm_r (nI_1 y) (ih (y + 1) f (sm l) ab' lb' pth' (by omega) (by omega) F' (le_take h hu0 hu eu hin inj hsm hev (Or.inr ⟨z2, rfl⟩))))⟩
        · exact br_t (by rw [e1]; exact nI_le z2 (by omega)) (nm_r (nI_1 y) (ih (y + 1) f m ab' lb' pth' (by omega) (by omega) F' (le_take h hu0 hu eu hin inj hsm hev (Or.inl ⟨z2, rfl⟩))))
    · refine br_t (by rw [nI_clamp (by omega)]; exact hb_z0 (by omega) hb) (br_t rfl (nm_r (nI_1 y) (ih (y + 1) f m ab lb pth (by omega) (by omega) F (le_skip h (fun u a b e c => ?_)))))
      rw [e] at c; exact hb c
theorem xe_least {post : Int32 → SX → Prop} {v x : Nat} (T : tr_T pa n) (N : nu_I n od a_order a_number) (hse : se_I sm n a_semi) (hsm : ∀ z, z ≤ v → sm z = z) (h0 : 0 < v) (hv : v < n) (hx : od v = x) (F : fo_I pa sm n (v + 1) a_above a_label) (K : ∀ m ab lb pth, fo_I pa sm n (v + 1) ab lb → le_I pa sm od f_roots (a_in x) n v x 16 m → post (nI m) (f_capacity, f_present, f_roots, f_known, f_met, a_sizes, a_out, a_in, a_order, a_number, a_parent, a_stack, a_semi, ab, lb, a_bucket, pth, a_idom, a_level, a_under, a_held)) : wpX_leastEntry post (f_capacity, f_present, f_roots, f_known, f_met, a_sizes, a_out, a_in, a_order, a_number, a_parent, a_stack, a_semi, a_above, a_label, a_bucket, a_path, a_idom, a_level, a_under, a_held) (nI v) := by
  have hn := N.1
  have hx16 : x < 16 := by rw [← hx]; exact N.2.2.1 v h0 hv
  refine And.intro (vp_in_nI (by omega) (by omega)) (nm_r (e' := nI x) (by rw [nI_clamp (by omega), (N.2.2.2.1 v hv).1, hx]) ?_)
  by_cases hb : bt f_roots x = true
  · refine br_f (hb_n0 (by omega) hb) ⟨17, xe_loop T N hse hsm hv hx16 K 16 0 17 0 a_above a_label a_path rfl (by omega) F ⟨fun _ => rfl, fun u _ _ c => absurd c (by omega), Or.inr (Or.inl ⟨rfl, hb⟩), by omega⟩⟩
  · refine br_t (hb_z0 (by omega) hb) ⟨17, xe_loop T N hse hsm hv hx16 K 16 0 17 v a_above a_label a_path rfl (by omega) F ⟨fun z => absurd z hb, fun u _ _ c => absurd c (by omega), Or.inl rfl, Nat.le_refl _⟩⟩
/-- the loop of empty: f the stand-ins so far -/
theorem xe_emp {post : SX → Prop} {c p : Nat} {set : Int32} {i0 : Nat → Int32} (hn : n ≤ 17) (hn0 : 0 < n) (T : tr_T pa n) (hse : se_I sm n a_semi) (hp : p < 17) (hset : ∀ w, bt set w = true → c ≤ w ∧ w < n ∧ 0 < w)
    (K : ∀ ab lb pth idm, fo_I pa sm n c ab lb → (∀ w, bt set w = true → ∃ l, ev_ok pa sm c w l ∧ l ≤ w ∧ ((sm l < sm w ∧ idm w = nI l) ∨ (sm w ≤ sm l ∧ idm w = nI p))) → (∀ w, bt set w = false → idm w = i0 w) → post (f_capacity, f_present, f_roots, f_known, nI n, a_sizes, a_out, a_in, a_order, a_number, a_parent, a_stack, a_semi, ab, lb, a_bucket, pth, idm, a_level, a_under, a_held)) :
    ∀ d w f ab lb pth idm, w + d = n → d < f → 0 < w → fo_I pa sm n c ab lb → (∀ w', w' < w → bt set w' = true → ∃ l, ev_ok pa sm c w' l ∧ l ≤ w' ∧ ((sm l < sm w' ∧ idm w' = nI l) ∨ (sm w' ≤ sm l ∧ idm w' = nI p))) → (∀ w', (w ≤ w' ∨ bt set w' = false) → idm w' = i0 w') → wX_empty_16 post (nI p) set f (nI w) f_capacity f_present f_roots f_known (nI n) a_sizes a_out a_in a_order a_number a_parent a_stack a_semi ab lb a_bucket pth idm a_level a_under a_held := by
  intro d
  induction d with
  | zero =>
    intro w f ab lb pth idm hw hf h0 F h1 h2
    obtain ⟨f, rfl⟩ : ∃ m, f = m + 1 := ⟨f - 1, by omega⟩
    have e : w = n := hw
    subst e
    exact br_t (nI_le (by omega) (by omega)) (K ab lb pth idm F (fun w' hb => h1 w' (hset w' hb).2.1 hb) (fun w' hb => h2 w' (Or.inr hb)))
  | succ d ih =>
    intro w f ab lb pth idm hw hf h0 F h1 h2
    obtain ⟨f, rfl⟩ : ∃ m, f = m + 1 := ⟨f - 1, by omega⟩
    refine br_f (nI_ge (by omega) (by omega)) ?_
    have iw : vp_in (nI w) 17 := vp_in_nI (by omega) (by omega)
    by_cases hb : bt set w = true
    · have hcw := (hset w hb).1
      refine br_f (hb_n0 (by omega) hb) (xc_eval (v := w) (c := c) hn T hse F (by omega) rfl (fun l ab' lb' pth' F' hev hl => ?_))
      have s1 := hse l (by omega)
      have s2 := hse w (by omega)
      have e1 : a_semi (nI l).toNatClampNeg = nI (sm l) := by rw [nI_clamp (by omega)]; exact s1.1
      have e2 : a_semi (nI w).toNatClampNeg = nI (sm w) := by rw [nI_clamp (by omega)]; exact s2.1
      have nx : ∀ q, ((sm l < sm w ∧ q = nI l) ∨ (sm w ≤ sm l ∧ q = nI p)) → wX_empty_16 post (nI p) set f (nI (w + 1)) f_capacity f_present f_roots f_known (nI n) a_sizes a_out a_in a_order a_number a_parent a_stack a_semi ab' lb' a_bucket pth' (upd idm w q) a_level a_under a_held := by
        intro q hq
        refine ih (w + 1) f ab' lb' pth' _ (by omega) (by omega) (by omega) F' (fun w' hw' hb' => ?_) (fun w' hw' => ?_)
        · by_cases e : w' = w
          · subst e; rw [pk_us]; exact ⟨l, hev, hl, hq⟩
          · rw [pk_un e]; exact h1 w' (by omega) hb'
        · have e : w' ≠ w := by
            intro e
            subst e
            rcases hw' with z | z
            · omega
            · rw [hb] at z; exact absurd z (by decide)
          rw [pk_un e]
          exact h2 w' (hw'.elim (fun z => Or.inl (by omega)) Or.inr)
      refine And.intro (vp_in_nI (by omega) (by omega)) ⟨iw, ?_⟩
      rcases Nat.lt_or_ge (sm l) (sm w) with z | z
      · exact br_f (by rw [e1, e2]; exact nI_ge z (by omega)) ⟨iw, nm_r (hb_up (by omega) (hb_by (by omega))) (nm_r (nI_1 w) (nx _ (Or.inl ⟨z, rfl⟩)))⟩
      · exact br_t (by rw [e1, e2]; exact nI_le z (by omega)) ⟨iw, nm_r (hb_up (by omega) (hb_by (by omega))) (nm_r (nI_1 w) (nx _ (Or.inr ⟨z, rfl⟩)))⟩
    · refine br_t (hb_z0 (by omega) hb) (nm_r (nI_1 w) (ih (w + 1) f ab lb pth idm (by omega) (by omega) (by omega) F (fun w' hw' hb' => ?_) (fun w' hw' => h2 w' (hw'.elim (fun z => Or.inl (by omega)) Or.inr))))
      by_cases e : w' = w
      · subst e; exact absurd hb' hb
      · exact h1 w' (by omega) hb'
end
end
section
/-! settle and total over the tree of keepers -/
theorem ln_Dle {p s : Nat → Nat} {n a w : Nat} (T : tr_T p n) (hw : w < n) (h : ln_D p s a w) : a ≤ w := tr_le T hw h.1
theorem ln_Drf {p s : Nat → Nat} {n w : Nat} (T : tr_T p n) (hw : w < n) : ln_D p s w w := ⟨tr_rf p w, fun y hy h => by have := tr_le T hw hy; omega⟩
theorem ln_Dtr {p s : Nat → Nat} {n a b c : Nat} (T : tr_T p n) (hc : c < n) (h : ln_D p s a b) (h2 : ln_D p s b c) : ln_D p s a c := by
  have hbc := tr_le T hc h2.1
  have hab := tr_le T (by omega) h.1
  refine ⟨tr_tr h.1 h2.1, fun y hy hay => ?_⟩
  rcases Nat.lt_or_ge b y with z | z
  · have := h2.2 y hy z
    omega
  · exact h.2 y (tr_lin T hc hy h2.1 z) hay
theorem ln_Dlin {p s : Nat → Nat} {n a b w : Nat} (T : tr_T p n) (hw : w < n) (ha : ln_D p s a w) (hb : ln_D p s b w) (hab : a ≤ b) : ln_D p s a b :=
  ⟨tr_lin T hw ha.1 hb.1 hab, fun y hy hay => ha.2 y (tr_tr hy hb.1) hay⟩
theorem ln_D0 {p s : Nat → Nat} {n w : Nat} (T : tr_T p n) (hw : w < n) : ln_D p s 0 w := ⟨tr_root T w hw, fun _ _ _ => Nat.zero_le _⟩
theorem ln_Dch {p s im : Nat → Nat} {n v : Nat} (T : tr_T p n) (hI : ∀ w, 0 < w → w < n → ln_I p s w (im w)) : ∀ w, w < n → ln_D p s v w → v ≠ w → ∃ t, v < t ∧ t < n ∧ im t = v ∧ ln_D p s t w := by
  intro w
  induction w using Nat.strongRecOn with
  | _ w ih =>
    intro hw h hne
    have h1 := ln_Dle T hw h
    obtain ⟨i1, i2⟩ := hI w (by omega) hw
    by_cases e : im w = v
    · exact ⟨w, by omega, hw, e, ln_Drf T hw⟩
    · obtain ⟨t, t1, t2, t3, t4⟩ := ih (im w) i1 (by omega) ((i2 v hne).mp h) (fun z => e z.symm)
      have t5 := ln_Dle T (by omega) t4
      exact ⟨t, t1, t2, t3, (i2 t (by omega)).mpr t4⟩
def st_I (pa sm : Nat → Nat) (n v : Nat) (im lv : Nat → Nat) (idom level : Nat → Int32) : Prop :=
  (level 0 = nI 0 ∧ lv 0 = 0) ∧
  (∀ w, 0 < w → w < v → idom w = nI (im w) ∧ ln_I pa sm w (im w) ∧ level w = nI (lv w) ∧ lv w = lv (im w) + 1 ∧ lv w ≤ w) ∧
  (∀ w, v ≤ w → w < n → ∃ h, idom w = nI h ∧ h < 17 ∧ ln_H pa sm w h)
theorem st_step {pa sm : Nat → Nat} {n v : Nat} {im lv : Nat → Nat} {idom level : Nat → Int32} {k : Nat} {idom' level' : Nat → Int32} (h : st_I pa sm n v im lv idom level) (h0 : 0 < v) (hv : v < n) (hI : ln_I pa sm v k) (e1 : idom' v = nI k) (e2 : ∀ w, w ≠ v → idom' w = idom w) (e3 : level' v = nI (lv k + 1)) (e4 : ∀ w, w ≠ v → level' w = level w) : st_I pa sm n (v + 1) (fu im v k) (fu lv v (lv k + 1)) idom' level' := by
  obtain ⟨⟨a1, a2⟩, h1, h2⟩ := h
  have hk := hI.1
  refine ⟨⟨by rw [e4 0 (by omega)]; exact a1, by rw [fu_n (by omega)]; exact a2⟩, fun w hw0 hwv => ?_, fun w hw hwn => ?_⟩
  · by_cases e : w = v
    · subst e
      have hlk : lv k ≤ k := by
        rcases Nat.eq_zero_or_pos k with z | z
        · rw [z, a2]; exact Nat.le_refl _
        · exact (h1 k z hk).2.2.2.2
      rw [fu_s, fu_s, fu_n (show k ≠ w by omega)]
      exact ⟨e1, hI, e3, rfl, by omega⟩
    · obtain ⟨b1, b2, b3, b4, b5⟩ := h1 w hw0 (by omega)
      have := b2.1
      rw [fu_n e, fu_n e, fu_n (show im w ≠ v by omega), e2 w e, e4 w e]
      exact ⟨b1, b2, b3, b4, b5⟩
  · rw [e2 w (by omega)]; exact h2 w (by omega) hwn
section
variable {f_capacity f_present f_roots f_known f_met : Int32} {a_sizes a_out a_in a_order a_number a_parent a_stack a_semi a_above a_label a_bucket a_path a_idom a_level a_under a_held : Nat → Int32}
variable {pa sm od : Nat → Nat} {n : Nat}
theorem xs_setl {post : SX → Prop} (hn : n ≤ 17) (hn0 : 0 < n) (T : tr_T pa n) (hse : se_I sm n a_semi) (hsa : ∀ w, 0 < w → w < n → sm w < w ∧ tr_an pa (sm w) w) (K : ∀ im lv idm lev, st_I pa sm n n im lv idm lev → post (f_capacity, f_present, f_roots, f_known, nI n, a_sizes, a_out, a_in, a_order, a_number, a_parent, a_stack, a_semi, a_above, a_label, a_bucket, a_path, idm, lev, a_under, a_held)) :
    ∀ d v f im lv idm lev, v + d = n → d < f → 0 < v → st_I pa sm n v im lv idm lev → wX_settle_9 post f_capacity f_present f_roots f_known (nI n) f (nI v) a_sizes a_out a_in a_order a_number a_parent a_stack a_semi a_above a_label a_bucket a_path idm lev a_under a_held := by
  intro d
  induction d with
  | zero =>
    intro v f im lv idm lev hv hf h0 h
    obtain ⟨f, rfl⟩ : ∃ m, f = m + 1 := ⟨f - 1, by omega⟩
    have e : v = n := hv
    subst e
    exact br_t (nI_le (by omega) (by omega)) (K im lv idm lev h)
  | succ d ih =>
    intro v f im lv idm lev hv hf h0 h
    obtain ⟨f, rfl⟩ : ∃ m, f = m + 1 := ⟨f - 1, by omega⟩
    have iv : vp_in (nI v) 17 := vp_in_nI (by omega) (by omega)
    obtain ⟨hd, hd1, hd2, u, u1, u2, u3, u4⟩ := h.2.2 v (Nat.le_refl _) (by omega)
    have s1 := hse v (by omega)
    have e1 : idm (nI v).toNatClampNeg = nI hd := by rw [nI_clamp (by omega)]; exact hd1
    have e2 : a_semi (nI v).toNatClampNeg = nI (sm v) := by rw [nI_clamp (by omega)]; exact s1.1
    obtain ⟨g1, g2⟩ := hsa v h0 (by omega)
    have huv := tr_le T (show v < n by omega) u1
    have lvk : ∀ k, k < v → lev k = nI (lv k) ∧ lv k ≤ k := by
      intro k hk
      rcases Nat.eq_zero_or_pos k with z | z
      · rw [z]; exact ⟨by rw [h.1.1, h.1.2], by rw [h.1.2]; exact Nat.le_refl _⟩
      · have := h.2.1 k z hk
        exact ⟨this.2.2.1, this.2.2.2.2⟩
    have nx : ∀ k idm', ln_I pa sm v k → idm' v = nI k → (∀ w, w ≠ v → idm' w = idm w) → wX_settle_49 post (wX_settle_9 post f_capacity f_present f_roots f_known (nI n) f) (nI v) f_capacity f_present f_roots f_known (nI n) a_sizes a_out a_in a_order a_number a_parent a_stack a_semi a_above a_label a_bucket a_path idm' lev a_under a_held := by
      intro k idm' hI q1 q2
      have hk := hI.1
      obtain ⟨l1, l2⟩ := lvk k hk
      have e3 : idm' (nI v).toNatClampNeg = nI k := by rw [nI_clamp (by omega)]; exact q1
      have e4 : lev (idm' (nI v).toNatClampNeg).toNatClampNeg = nI (lv k) := by rw [e3, nI_clamp (by omega)]; exact l1
      refine And.intro iv ⟨by rw [e3]; exact vp_in_nI (by omega) (by omega), iv, nm_r (hb_up (v' := nI (lv k + 1)) (by omega) (by rw [e4, nI_1, hb_by (by omega)])) (nm_r (nI_1 v) (ih (v + 1) f _ _ idm' _ (by omega) (by omega) (by omega) (st_step h h0 (by omega) hI q1 q2 pk_us (fun w hw => pk_un hw))))⟩
    refine br_f (nI_ge (by omega) (by omega)) ⟨iv, iv, ?_⟩
    rcases u4 with ⟨c1, c2⟩ | ⟨c1, c2⟩
    · subst c2
      have hne : hd ≠ v := by intro e; subst e; omega
      obtain ⟨m1, m2, _⟩ := h.2.1 hd (by omega) (by omega)
      have m3 := m2.1
      refine br_f (by rw [e1, e2]; intro z; have := hb_neq (by omega) (by omega) z; omega) ⟨iv, by rw [e1]; exact vp_in_nI (by omega) (by omega), iv, nm_r (hb_up (v' := nI (im hd)) (by omega) (by rw [e1, nI_clamp (by omega), m1, hb_by1 (by omega)])) ?_⟩
      exact nx (im hd) _ (ln_i2 T (by omega) g1 u1 u2 u3 c1 m2) pk_us (fun w hw => pk_un hw)
    · subst c2
      refine br_t (by rw [e1, e2]) ?_
      exact nx (sm v) idm (ln_i1 T (by omega) g1 g2 (fun y hy hsy => Nat.le_trans c1 (u3 y hy hsy))) hd1 (fun _ _ => rfl)
theorem xs_settle {post : SX → Prop} (hn : n ≤ 17) (hn0 : 0 < n) (T : tr_T pa n) (hse : se_I sm n a_semi) (hsa : ∀ w, 0 < w → w < n → sm w < w ∧ tr_an pa (sm w) w) (hH : ∀ w, 0 < w → w < n → ∃ h, a_idom w = nI h ∧ h < 17 ∧ ln_H pa sm w h) (K : ∀ im lv idm lev, st_I pa sm n n im lv idm lev → post (f_capacity, f_present, f_roots, f_known, nI n, a_sizes, a_out, a_in, a_order, a_number, a_parent, a_stack, a_semi, a_above, a_label, a_bucket, a_path, idm, lev, a_under, a_held)) : wpX_settle post (f_capacity, f_present, f_roots, f_known, nI n, a_sizes, a_out, a_in, a_order, a_number, a_parent, a_stack, a_semi, a_above, a_label, a_bucket, a_path, a_idom, a_level, a_under, a_held) := by
  refine nm_r (congrArg (upd a_level 0) hb_b0) ⟨n + 1, ?_⟩
  exact xs_setl hn hn0 T hse hsa K (n - 1) 1 (n + 1) (fun _ => 0) (fun _ => 0) a_idom _ (by omega) (by omega) (by omega) ⟨⟨pk_us, rfl⟩, fun w a b => by omega, fun w a b => hH w (by omega) b⟩
end
end
section
/-! total: what lies under each number, and its size -/
def ut_B (pa sm im od : Nat → Nat) (n v : Nat) (under : Nat → Int32) : Prop :=
  ∀ q, q < n → ∀ x, bt (under q) x = true ↔ ∃ w t, (0 < w ∧ w < n ∧ od w = x) ∧ v < t ∧ t < n ∧ ln_D pa sm t w ∧ (t = q ∨ im t = q)
theorem ut_step {pa sm im od : Nat → Nat} {n v : Nat} {under : Nat → Int32} (T : tr_T pa n) (hI : ∀ w, 0 < w → w < n → ln_I pa sm w (im w)) (ho : ∀ w, 0 < w → w < n → od w < 16) (inj : ∀ u w, 0 < u → u < n → 0 < w → w < n → od u = od w → u = w) (h0 : 0 < v) (hv : v < n) (h : ut_B pa sm im od n v under) {U : Int32} (hU : U = under v ||| ((1 : Int32) <<< (nI (od v) &&& 31))) :
    (∀ x, bt (under v) x = true → bt ((1 : Int32) <<< (nI (od v) &&& 31)) x = true → False) ∧
    (∀ x, bt (under (im v)) x = true → bt U x = true → False) ∧
    ut_B pa sm im od n (v - 1) (upd (upd under v U) (im v) (under (im v) ||| U)) := by
  obtain ⟨k1, k2⟩ := hI v h0 hv
  have ho' := ho v h0 hv
  have hone : ∀ x, bt ((1 : Int32) <<< (nI (od v) &&& 31)) x = true ↔ x = od v := by
    intro x
    rw [hb_one (by omega), decide_eq_true_eq]
  have cA : ∀ x, bt (under v) x = true → bt ((1 : Int32) <<< (nI (od v) &&& 31)) x = true → False := by
    intro x h1 h2
    rw [hone] at h2
    obtain ⟨w, t, ⟨a, b, c⟩, d, e, f, g⟩ := (h v hv x).mp h1
    have e2 : w = v := inj w v a b h0 hv (c.trans h2)
    subst e2
    have := ln_Dle T b f
    omega
  have cB : ∀ x, bt U x = true ↔ ∃ w, (0 < w ∧ w < n ∧ od w = x) ∧ ln_D pa sm v w := by
    intro x
    rw [hU, b_or, Bool.or_eq_true, hone, h v hv x]
    constructor
    · rintro (⟨w, t, a, b, c, d, e⟩ | e)
      · refine ⟨w, a, ?_⟩
        rcases e with e | e
        · omega
        · refine ln_Dtr T a.2.1 ?_ d
          rw [(hI t (by omega) c).2 v (by omega), e]
          exact ln_Drf T hv
      · exact ⟨v, ⟨h0, hv, e.symm⟩, ln_Drf T hv⟩
    · rintro ⟨w, a, b⟩
      by_cases e : v = w
      · subst e; exact Or.inr a.2.2.symm
      · obtain ⟨t, t1, t2, t3, t4⟩ := ln_Dch T hI w a.2.1 b e
        exact Or.inl ⟨w, t, a, t1, t2, t4, Or.inr t3⟩
  have cC : ∀ x, bt (under (im v)) x = true → bt U x = true → False := by
    intro x h1 h2
    obtain ⟨w', a', b'⟩ := (cB x).mp h2
    obtain ⟨w, t, a, b, c, d, e⟩ := (h (im v) (by omega) x).mp h1
    have e2 : w' = w := inj w' w a'.1 a'.2.1 a.1 a.2.1 (a'.2.2.trans a.2.2.symm)
    subst e2
    have h3 := ln_Dlin T a.2.1 b' d (by omega)
    rcases e with e | e
    · omega
    · rw [(hI t (by omega) c).2 v (by omega), e] at h3
      have := ln_Dle T (by omega) h3
      omega
  refine ⟨cA, cC, fun q hq x => ?_⟩
  by_cases e1 : q = im v
  · subst e1
    rw [pk_us, b_or, Bool.or_eq_true, cB, h _ hq x]
    constructor
    · rintro (⟨w, t, a, b, c, d, e⟩ | ⟨w, a, b⟩)
      · exact ⟨w, t, a, by omega, c, d, e⟩
      · exact ⟨w, v, a, by omega, hv, b, Or.inr rfl⟩
    · rintro ⟨w, t, a, b, c, d, e⟩
      by_cases e2 : t = v
      · subst e2; exact Or.inr ⟨w, a, d⟩
      · exact Or.inl ⟨w, t, a, by omega, c, d, e⟩
  · rw [pk_un e1]
    by_cases e2 : q = v
    · subst e2
      rw [pk_us, cB]
      constructor
      · rintro ⟨w, a, b⟩
        exact ⟨w, q, a, by omega, hq, b, Or.inl rfl⟩
      · rintro ⟨w, t, a, b, c, d, e⟩
        refine ⟨w, a, ?_⟩
        rcases e with e | e
        · rw [← e]; exact d
        · have hlt := (hI t (by omega) c).1
          refine ln_Dtr T a.2.1 ?_ d
          rw [(hI t (by omega) c).2 q (by omega), e]
          exact ln_Drf T hv
    · rw [pk_un e2, h q hq x]
      constructor
      · rintro ⟨w, t, a, b, c, d, e⟩
        exact ⟨w, t, a, by omega, c, d, e⟩
      · rintro ⟨w, t, a, b, c, d, e⟩
        have : t ≠ v := by
          intro z
          subst z
          rcases e with e | e
          · exact e2 e.symm
          · exact e1 e.symm
        exact ⟨w, t, a, by omega, c, d, e⟩
section
variable {f_capacity f_present f_roots f_known f_met : Int32} {a_sizes a_out a_in a_order a_number a_parent a_stack a_semi a_above a_label a_bucket a_path a_idom a_level a_under a_held : Nat → Int32}
variable {pa sm im od : Nat → Nat} {n : Nat} {z : Nat → Nat}
theorem xs_totl {post : SX → Prop} (hn : n ≤ 17) (T : tr_T pa n) (hI : ∀ w, 0 < w → w < n → ln_I pa sm w (im w)) (ho : ∀ w, 0 < w → w < n → od w < 16) (inj : ∀ u w, 0 < u → u < n → 0 < w → w < n → od u = od w → u = w) (hod : ∀ w, 0 < w → w < n → a_order w = nI (od w)) (hid : ∀ w, 0 < w → w < n → a_idom w = nI (im w)) (hz : ∀ x, x < 16 → a_sizes x = nI (z x))
    (K : ∀ un he, ut_B pa sm im od n 0 un → (∀ q, q < n → he q = nI (hs_sum z (un q) 16)) → post (f_capacity, f_present, f_roots, f_known, f_met, a_sizes, a_out, a_in, a_order, a_number, a_parent, a_stack, a_semi, a_above, a_label, a_bucket, a_path, a_idom, a_level, un, he)) :
    ∀ v f un he, v < f → v < n → ut_B pa sm im od n v un → (∀ q, q < n → he q = nI (hs_sum z (un q) 16)) → wX_total_37 post f_capacity f_present f_roots f_known f_met f (nI v) a_sizes a_out a_in a_order a_number a_parent a_stack a_semi a_above a_label a_bucket a_path a_idom a_level un he := by
  intro v
  induction v with
  | zero =>
    intro f un he hf hv h1 h2
    obtain ⟨f, rfl⟩ : ∃ m, f = m + 1 := ⟨f - 1, by omega⟩
    exact br_t (nI_le (a := 0) (b := 0) (by omega) (by omega)) (K un he h1 h2)
  | succ v ih =>
    intro f un he hf hv h1 h2
    obtain ⟨f, rfl⟩ : ∃ m, f = m + 1 := ⟨f - 1, by omega⟩
    have iv : vp_in (nI (v + 1)) 17 := vp_in_nI (by omega) (by omega)
    have hx := ho (v + 1) (by omega) hv
    have e1 : a_order (nI (v + 1)).toNatClampNeg = nI (od (v + 1)) := by rw [nI_clamp (by omega)]; exact hod _ (by omega) hv
    have e2 : a_idom (nI (v + 1)).toNatClampNeg = nI (im (v + 1)) := by rw [nI_clamp (by omega)]; exact hid _ (by omega) hv
    have hk := (hI (v + 1) (by omega) hv).1
    obtain ⟨s1, s2, s3⟩ := ut_step T hI ho inj (by omega) hv h1 rfl
    generalize hU : un (v + 1) ||| ((1 : Int32) <<< (nI (od (v + 1)) &&& 31)) = U at *
    generalize hkk : im (v + 1) = k at *
    have ik : vp_in (nI k) 17 := vp_in_nI (by omega) (by omega)
    have hUs : hs_sum z U 16 = hs_sum z (un (v + 1)) 16 + z (od (v + 1)) := by
      rw [← hU, hs_or 16 (fun i _ => s1 i), hs_one (by omega), if_pos hx]
    have f1 : upd un (nI (v + 1)).toNatClampNeg ((un (nI (v + 1)).toNatClampNeg) ||| ((1 : Int32) <<< (nI (od (v + 1)) &&& 31))) = upd un (v + 1) U := by rw [nI_clamp (by omega), hU]
    have f2 : upd he (nI (v + 1)).toNatClampNeg ((he (nI (v + 1)).toNatClampNeg) + (a_sizes (nI (od (v + 1))).toNatClampNeg)) = upd he (v + 1) (nI (hs_sum z U 16)) := by
      rw [nI_clamp (by omega), nI_clamp (by omega), h2 _ hv, hz _ hx, nI_add, hUs]
    have f3 : upd (upd un (v + 1) U) (nI k).toNatClampNeg (((upd un (v + 1) U) (nI k).toNatClampNeg) ||| ((upd un (v + 1) U) (nI (v + 1)).toNatClampNeg)) = upd (upd un (v + 1) U) k (un k ||| U) := by
      rw [nI_clamp (by omega), nI_clamp (by omega), pk_us, pk_un (by omega)]
    have f4 : upd (upd he (v + 1) (nI (hs_sum z U 16))) (nI k).toNatClampNeg (((upd he (v + 1) (nI (hs_sum z U 16))) (nI k).toNatClampNeg) + ((upd he (v + 1) (nI (hs_sum z U 16))) (nI (v + 1)).toNatClampNeg)) = upd (upd he (v + 1) (nI (hs_sum z U 16))) k (nI (hs_sum z (un k ||| U) 16)) := by
      rw [nI_clamp (by omega), nI_clamp (by omega), pk_us, pk_un (by omega), h2 k (by omega), nI_add, hs_or 16 (fun i _ => s2 i)]
    refine br_f (nI_nle (by omega) (by omega)) ⟨iv, nm_r e1 ⟨iv, iv, nm_r f1 ⟨iv, vp_in_nI hx (by omega), iv, nm_r f2 ⟨iv, nm_r e2 ⟨ik, iv, ik, nm_r f3 ⟨ik, iv, ik, nm_r f4 (nm_r (pk_m1 v) (ih f _ _ (by omega) (by omega) s3 (fun q hq => ?_)))⟩⟩⟩⟩⟩⟩
    by_cases g1 : q = k
    · subst g1; rw [pk_us, pk_us]
    · rw [pk_un g1, pk_un g1]
      by_cases g2 : q = v + 1
      · subst g2; rw [pk_us, pk_us]
      · rw [pk_un g2, pk_un g2]; exact h2 q hq
theorem xs_toti {post : SX → Prop} (hn : n ≤ 17) (hn0 : 0 < n) (T : tr_T pa n) (hI : ∀ w, 0 < w → w < n → ln_I pa sm w (im w)) (ho : ∀ w, 0 < w → w < n → od w < 16) (inj : ∀ u w, 0 < u → u < n → 0 < w → w < n → od u = od w → u = w) (hod : ∀ w, 0 < w → w < n → a_order w = nI (od w)) (hid : ∀ w, 0 < w → w < n → a_idom w = nI (im w)) (hz : ∀ x, x < 16 → a_sizes x = nI (z x))
    (K : ∀ un he, ut_B pa sm im od n 0 un → (∀ q, q < n → he q = nI (hs_sum z (un q) 16)) → post (f_capacity, f_present, f_roots, f_known, nI n, a_sizes, a_out, a_in, a_order, a_number, a_parent, a_stack, a_semi, a_above, a_label, a_bucket, a_path, a_idom, a_level, un, he)) :
    ∀ d v f un he, v + d = n → d < f → (∀ q, q < v → un q = 0 ∧ he q = 0) → wX_total_2 post f_capacity f_present f_roots f_known (nI n) f (nI v) a_sizes a_out a_in a_order a_number a_parent a_stack a_semi a_above a_label a_bucket a_path a_idom a_level un he := by
  intro d
  induction d with
  | zero =>
    intro v f un he hv hf h
    obtain ⟨f, rfl⟩ : ∃ m, f = m + 1 := ⟨f - 1, by omega⟩
    have e : v = n := hv
    subst e
    refine br_t (nI_le (by omega) (by omega)) (nm_r (e' := nI (v - 1)) (pk_sub (b := 1) (by omega)) ⟨v, xs_totl hn T hI ho inj hod hid hz K (v - 1) v un he (by omega) (by omega) (fun q hq x => ?_) (fun q hq => ?_)⟩)
    · rw [(h q hq).1, b_0]
      constructor
      · intro z; exact absurd z (by decide)
      · rintro ⟨w, t, _, b, c, _⟩; omega
    · rw [(h q hq).1, (h q hq).2, hs_zero]; exact nI_0.symm
  | succ d ih =>
    intro v f un he hv hf h
    obtain ⟨f, rfl⟩ : ∃ m, f = m + 1 := ⟨f - 1, by omega⟩
    have iv : vp_in (nI v) 17 := vp_in_nI (by omega) (by omega)
    refine br_f (nI_ge (by omega) (by omega)) ⟨iv, nm_r (hb_up (by omega) rfl) ⟨iv, nm_r (hb_up (by omega) rfl) (nm_r (nI_1 v) (ih (v + 1) f _ _ (by omega) (by omega) (fun q hq => ?_)))⟩⟩
    by_cases e : q = v
    · subst e; rw [pk_us, pk_us]; exact ⟨rfl, rfl⟩
    · rw [pk_un e, pk_un e]; exact h q (by omega)
theorem xs_total {post : SX → Prop} (hn : n ≤ 17) (hn0 : 0 < n) (T : tr_T pa n) (hI : ∀ w, 0 < w → w < n → ln_I pa sm w (im w)) (ho : ∀ w, 0 < w → w < n → od w < 16) (inj : ∀ u w, 0 < u → u < n → 0 < w → w < n → od u = od w → u = w) (hod : ∀ w, 0 < w → w < n → a_order w = nI (od w)) (hid : ∀ w, 0 < w → w < n → a_idom w = nI (im w)) (hz : ∀ x, x < 16 → a_sizes x = nI (z x))
    (K : ∀ un he, ut_B pa sm im od n 0 un → (∀ q, q < n → he q = nI (hs_sum z (un q) 16)) → post (f_capacity, f_present, f_roots, f_known, nI n, a_sizes, a_out, a_in, a_order, a_number, a_parent, a_stack, a_semi, a_above, a_label, a_bucket, a_path, a_idom, a_level, un, he)) : wpX_total post (f_capacity, f_present, f_roots, f_known, nI n, a_sizes, a_out, a_in, a_order, a_number, a_parent, a_stack, a_semi, a_above, a_label, a_bucket, a_path, a_idom, a_level, a_under, a_held) :=
  Exists.intro (n + 1) (xs_toti hn hn0 T hI ho inj hod hid hz K n 0 (n + 1) a_under a_held (by omega) (by omega) (fun q h => absurd h (by omega)))
end
end
section
/-! the loops of find -/
theorem le_fin {E : Nat → Nat → Prop} {pa sm od : Nat → Nat} {R inx : Int32} {n v x m : Nat} (G : ln_G E pa n) (h0 : 0 < v) (hv : v < n) (hE0 : E 0 v ↔ bt R x = true) (hE : ∀ u, 0 < u → u < n → (E u v ↔ bt inx (od u) = true)) (ho : ∀ u, 0 < u → u < n → od u < 16) (h : le_I pa sm od R inx n v x 16 m) : ln_S E pa n (fu sm v m) v ∧ m < v := by
  obtain ⟨h1, h2, h3, h4⟩ := h
  obtain ⟨hn, T, Q, hT, hEE⟩ := G
  have s2 : ∀ u, u < n → E u v → u < v → m ≤ u := by
    intro u hu e huv
    rcases Nat.eq_zero_or_pos u with z | z
    · rw [z] at e
      rw [h1 (hE0.mp e)]
      exact Nat.zero_le _
    · exact (h2 u z hu (ho u z hu) ((hE u z hu).mp e)).1 (Nat.le_of_lt huv)
  have hp := T.2 v h0 hv
  have hmp := s2 (pa v) (by omega) (hT v h0 hv) hp
  have hmv : m < v := by omega
  refine ⟨⟨?_, ?_, ?_⟩, hmv⟩
  · intro u hu e huv
    rw [fu_s]; exact s2 u hu e huv
  · intro u a hu e ha hva
    have hau := tr_le T hu ha
    rw [fu_s, fu_n (by omega)]
    exact (h2 u (by omega) hu (ho u (by omega) hu) ((hE u (by omega) hu).mp e)).2 (by omega) a ha hva
  · rw [fu_s]
    rcases h3 with z | ⟨z, z2⟩ | ⟨u, u0, un, ub, ⟨u1, u2⟩ | ⟨u1, a, a1, a2, a3⟩⟩
    · exact absurd z (Nat.ne_of_lt hmv)
    · exact Or.inl ⟨0, h0, hE0.mpr z2, z⟩
    · exact Or.inl ⟨u, u1, (hE u u0 un).mpr ub, u2⟩
    · exact Or.inr ⟨u, a, un, (hE u u0 un).mpr ub, a1, a2, by rw [fu_n (Nat.ne_of_gt a2)]; exact a3⟩
theorem ln_Sc {E : Nat → Nat → Prop} {pa sm : Nat → Nat} {n v m w : Nat} (h : ln_S E pa n sm w) (hw : v < w) : ln_S E pa n (fu sm v m) w := by
  obtain ⟨h1, h2, h3⟩ := h
  refine ⟨?_, ?_, ?_⟩
  · intro u hu e huw
    rw [fu_n (by omega)]; exact h1 u hu e huw
  · intro u a hu e ha hwa
    rw [fu_n (by omega), fu_n (by omega)]; exact h2 u a hu e ha hwa
  · rw [fu_n (Nat.ne_of_gt hw)]
    rcases h3 with z | ⟨u, a, a1, a2, a3, a4, a5⟩
    · exact Or.inl z
    · exact Or.inr ⟨u, a, a1, a2, a3, a4, by rw [fu_n (by omega)]; exact a5⟩
/-- the buckets when the numbers above v are done -/
def bk_I (pa sm : Nat → Nat) (n v : Nat) (bk idm : Nat → Int32) : Prop :=
  (∀ q, q < n → ∀ w, bt (bk q) w = true → v < w ∧ w < n ∧ sm w = q ∧ ∀ t, v < t → t ≤ w → pa t ≠ q) ∧
  (∀ w, v < w → w < n → bt (bk (sm w)) w = true ∨ ∃ h, idm w = nI h ∧ h < 17 ∧ ln_H pa sm w h ∧ ∀ y, tr_an pa y w → sm w < y → v < y)
theorem bk_set {pa sm : Nat → Nat} {n v m p : Nat} {bk idm : Nat → Int32} (hn : n ≤ 17) (hv : v < n) (hp : p < n) (B : bk_I pa sm n v bk idm) : ∀ w, bt ((upd bk m (bk m ||| ((1 : Int32) <<< (nI v &&& 31)))) p) w = true ↔ (bt (bk p) w = true ∨ (w = v ∧ m = p)) := by
  intro w
  by_cases e : p = m
  · subst e
    rw [pk_us, b_or, Bool.or_eq_true, hb_one (by omega), decide_eq_true_eq]
    exact ⟨fun h => h.elim Or.inl (fun z => Or.inr ⟨z, rfl⟩), fun h => h.elim Or.inl (fun z => Or.inr z.1)⟩
  · rw [pk_un e]
    exact ⟨Or.inl, fun h => h.elim id (fun z => absurd z.2.symm e)⟩
theorem bk_dec {pa s : Nat → Nat} {n v w l h : Nat} (T : tr_T pa n) (Q : tr_pre pa n) (h0 : 0 < v) (hvw : v ≤ w) (hw : w < n) (hs : s w = pa v) (hev : ev_ok pa s v w l) (hl : l < 17) (hp : pa v < 17) (hh : (s l < s w ∧ h = l) ∨ (s w ≤ s l ∧ h = pa v)) : h < 17 ∧ ln_H pa s w h ∧ ∀ y, tr_an pa y w → s w < y → v - 1 < y := by
  have hpv := T.2 v h0 (by omega)
  have key : ∀ y, tr_an pa y w → s w < y → v ≤ y := by
    intro y hy hsy
    rcases Nat.lt_or_ge y v with z | z
    · rcases tr_cs (tr_iv T Q hy (by omega) hvw hw) with e | e
      · omega
      · have := tr_le T (by omega) e
        omega
    · exact z
  have hev' : v ≤ l ∧ tr_an pa l w ∧ ∀ y, tr_an pa y w → v ≤ y → s l ≤ s y := by
    rcases hev with ⟨a, _⟩ | ⟨_, b⟩
    · exact absurd a (Nat.not_lt.mpr hvw)
    · exact b
  obtain ⟨b, c, d⟩ := hev'
  refine ⟨by omega, ⟨l, c, by omega, fun y hy hsy => d y hy (key y hy hsy), ?_⟩, fun y hy hsy => by have := key y hy hsy; omega⟩
  rw [hs] at hh ⊢
  exact hh
theorem bk_step {pa sm : Nat → Nat} {n v m : Nat} {bk idm idm' : Nat → Int32} (hn : n ≤ 17) (T : tr_T pa n) (Q : tr_pre pa n) (h0 : 0 < v) (hv : v < n) (hm : m < n) (hsm : ∀ w, w < n → sm w ≤ w) (B : bk_I pa sm n v bk idm) {b1 : Nat → Int32} (eb : b1 = upd bk m (bk m ||| ((1 : Int32) <<< (nI v &&& 31))))
    (d1 : ∀ w, bt (b1 (pa v)) w = true → ∃ l, ev_ok pa (fu sm v m) v w l ∧ l ≤ w ∧ ((fu sm v m l < fu sm v m w ∧ idm' w = nI l) ∨ (fu sm v m w ≤ fu sm v m l ∧ idm' w = nI (pa v)))) (d2 : ∀ w, bt (b1 (pa v)) w = false → idm' w = idm w) :
    bk_I pa (fu sm v m) n (v - 1) (upd b1 (pa v) 0) idm' := by
  have hpv := T.2 v h0 hv
  have bs : ∀ q, q < n → ∀ w, bt (b1 q) w = true ↔ (bt (bk q) w = true ∨ (w = v ∧ m = q)) := fun q hq => by rw [eb]; exact bk_set hn hv hq B
  have hdec : ∀ w, bt (b1 (pa v)) w = true → ∃ h, idm' w = nI h ∧ h < 17 ∧ ln_H pa (fu sm v m) w h ∧ ∀ y, tr_an pa y w → fu sm v m w < y → v - 1 < y := by
    intro w hb
    have hw : v ≤ w ∧ w < n ∧ fu sm v m w = pa v := by
      rcases (bs (pa v) (by omega) w).mp hb with z | ⟨z, z2⟩
      · obtain ⟨a, b, c, _⟩ := B.1 (pa v) (by omega) w z
        exact ⟨by omega, b, by rw [fu_n (by omega)]; exact c⟩
      · subst z; exact ⟨Nat.le_refl _, hv, by rw [fu_s]; exact z2⟩
    obtain ⟨l, l1, l2, l3⟩ := d1 w hb
    rcases l3 with ⟨l3, l4⟩ | ⟨l3, l4⟩
    · exact ⟨l, l4, bk_dec T Q h0 hw.1 hw.2.1 hw.2.2 l1 (by omega) (by omega) (Or.inl ⟨l3, rfl⟩)⟩
    · exact ⟨pa v, l4, bk_dec T Q h0 hw.1 hw.2.1 hw.2.2 l1 (by omega) (by omega) (Or.inr ⟨l3, rfl⟩)⟩
  refine ⟨fun q hq w hb => ?_, fun w hw hwn => ?_⟩
  · by_cases e : q = pa v
    · subst e; rw [pk_us, b_0] at hb; exact absurd hb (by decide)
    · rw [pk_un e, bs q hq w] at hb
      rcases hb with z | ⟨z, z2⟩
      · obtain ⟨a, b, c, d⟩ := B.1 q hq w z
        refine ⟨by omega, b, by rw [fu_n (by omega)]; exact c, fun t t1 t2 => ?_⟩
        by_cases e2 : t = v
        · subst e2; exact fun z => e z.symm
        · exact d t (by omega) t2
      · subst z
        refine ⟨by omega, hv, by rw [fu_s]; exact z2, fun t t1 t2 => ?_⟩
        have e2 : t = w := by omega
        subst e2; exact fun z => e z.symm
  · by_cases hset : bt (b1 (pa v)) w = true
    · exact Or.inr (hdec w hset)
    · have hq : fu sm v m w < n → fu sm v m w ≠ pa v → bt (b1 (fu sm v m w)) w = true → bt (upd b1 (pa v) 0 (fu sm v m w)) w = true := by
        intro _ hne hb
        rw [pk_un hne]; exact hb
      by_cases e : w = v
      · subst e
        have hmp : m ≠ pa w := by
          intro z
          exact hset ((bs (pa w) (by omega) w).mpr (Or.inr ⟨rfl, z⟩))
        refine Or.inl (hq ?_ ?_ ?_) <;> rw [fu_s]
        · exact hm
        · exact hmp
        · exact (bs m hm w).mpr (Or.inr ⟨rfl, rfl⟩)
      · rcases B.2 w (by omega) hwn with z | ⟨hh, a, b, c, d⟩
        · have hsn : sm w < n := Nat.lt_of_le_of_lt (hsm w hwn) hwn
          refine Or.inl (hq ?_ ?_ ?_) <;> rw [fu_n e]
          · exact hsn
          · intro z2
            exact hset ((bs (pa v) (by omega) w).mpr (Or.inl (by rw [← z2]; exact z)))
          · exact (bs _ hsn w).mpr (Or.inl z)
        · refine Or.inr ⟨hh, ?_, b, ?_, ?_⟩
          · rw [d2 w (hb_f hset)]; exact a
          · obtain ⟨u, u1, u2, u3, u4⟩ := c
            have uv := d u u1 u2
            refine ⟨u, u1, by rw [fu_n e]; exact u2, fun y hy hsy => ?_, ?_⟩
            · rw [fu_n e] at hsy
              have yv := d y hy hsy
              rw [fu_n (by omega), fu_n (by omega)]
              exact u3 y hy hsy
            · rw [fu_n e, fu_n (by omega)]; exact u4
          · intro y hy hsy
            rw [fu_n e] at hsy
            have := d y hy hsy
            omega
section
variable {f_capacity f_present f_roots f_known f_met : Int32} {a_sizes a_out a_in a_order a_number a_parent a_stack a_semi a_above a_label a_bucket a_path a_idom a_level a_under a_held : Nat → Int32}
variable {pa sm od : Nat → Nat} {n : Nat}
theorem xe_empty {post : SX → Prop} {c p : Nat} {p0 : Int32} (ep : p0 = nI p) (hn : n ≤ 17) (hn0 : 0 < n) (T : tr_T pa n) (hse : se_I sm n a_semi) (hp : p < 17) (hset : ∀ w, bt (a_bucket p) w = true → c ≤ w ∧ w < n ∧ 0 < w) (F : fo_I pa sm n c a_above a_label)
    (K : ∀ ab lb pth idm, fo_I pa sm n c ab lb → (∀ w, bt (a_bucket p) w = true → ∃ l, ev_ok pa sm c w l ∧ l ≤ w ∧ ((sm l < sm w ∧ idm w = nI l) ∨ (sm w ≤ sm l ∧ idm w = nI p))) → (∀ w, bt (a_bucket p) w = false → idm w = a_idom w) → post (f_capacity, f_present, f_roots, f_known, nI n, a_sizes, a_out, a_in, a_order, a_number, a_parent, a_stack, a_semi, ab, lb, upd a_bucket p 0, pth, idm, a_level, a_under, a_held)) : wpX_empty post (f_capacity, f_present, f_roots, f_known, nI n, a_sizes, a_out, a_in, a_order, a_number, a_parent, a_stack, a_semi, a_above, a_label, a_bucket, a_path, a_idom, a_level, a_under, a_held) p0 := by
  subst ep
  have ip : vp_in (nI p) 17 := vp_in_nI hp (by omega)
  refine And.intro ip (nm_r (e' := a_bucket p) (by rw [nI_clamp (by omega)]) ⟨ip, nm_r (hb_up (by omega) rfl) ⟨n + 1, ?_⟩⟩)
  exact xe_emp hn hn0 T hse hp hset K (n - 1) 1 (n + 1) a_above a_label a_path a_idom (by omega) (by omega) (by omega) F (fun w' a b => by have := (hset w' b).2.2; omega) (fun _ _ => rfl)
end
end
section
section
variable {f_capacity f_present f_roots f_known f_met : Int32} {a_sizes a_out a_in a_order a_number a_parent a_stack a_semi a_above a_label a_bucket a_path a_idom a_level a_under a_held : Nat → Int32}
variable {pa od : Nat → Nat} {n : Nat} {z : Nat → Nat}
theorem xf_main {post : SX → Prop} {E : Nat → Nat → Prop} (G : ln_G E pa n) (N : nu_I n od a_order a_number) (inj : ∀ u w, 0 < u → u < n → 0 < w → w < n → od u = od w → u = w) (hpar : ∀ v, v < n → a_parent v = nI (pa v)) (hin0 : ∀ v, 0 < v → v < n → (E 0 v ↔ bt f_roots (od v) = true)) (hin : ∀ v u, 0 < v → v < n → 0 < u → u < n → (E u v ↔ bt (a_in (od v)) (od u) = true)) (hz : ∀ x, x < 16 → a_sizes x = nI (z x))
    (K : ∀ sm im lv semi ab lb bk pth idm lev un he, (∀ w, 0 < w → w < n → ln_S E pa n sm w) → st_I pa sm n n im lv idm lev → ut_B pa sm im od n 0 un → (∀ q, q < n → he q = nI (hs_sum z (un q) 16)) → post (f_capacity, f_present, f_roots, f_known, nI n, a_sizes, a_out, a_in, a_order, a_number, a_parent, a_stack, semi, ab, lb, bk, pth, idm, lev, un, he)) :
    ∀ v f sm semi ab lb bk pth idm, v < f → v < n → se_I sm n semi → (∀ x, x ≤ v → sm x = x) → (∀ w, v < w → w < n → ln_S E pa n sm w) → fo_I pa sm n (v + 1) ab lb → bk_I pa sm n v bk idm → wX_find_77 post f (nI v) f_capacity f_present f_roots f_known (nI n) a_sizes a_out a_in a_order a_number a_parent a_stack semi ab lb bk pth idm a_level a_under a_held := by
  have hn := N.1
  have T := G.2.1
  have hn0 := G.1
  have Q := G.2.2.1
  intro v
  induction v with
  | zero =>
    intro f sm semi ab lb bk pth idm hf hv hse hsm hS F B
    obtain ⟨f, rfl⟩ : ∃ m, f = m + 1 := ⟨f - 1, by omega⟩
    have hsa : ∀ w, 0 < w → w < n → sm w < w ∧ tr_an pa (sm w) w := by
      intro w h0 hw
      have h1 := ln_sp G h0 hw (hS w h0 hw)
      have h2 := T.2 w h0 hw
      exact ⟨by omega, ln_sa (c := 0) G (fun w' _ a b => hS w' a b) _ w rfl (Nat.zero_le _) h0 hw⟩
    refine br_t (nI_le (a := 0) (b := 0) (by omega) (by omega)) (xs_settle hn hn0 T hse hsa (fun w h0 hw => ?_) (fun im lv idm' lev hst => ?_))
    · rcases B.2 w h0 hw with q | ⟨h, a, b, c, _⟩
      · obtain ⟨s1, s2⟩ := hsa w h0 hw
        obtain ⟨c, c1, c2, c3⟩ := tr_ch T hw s2 (by omega)
        exact absurd c2 ((B.1 (sm w) (by omega) w q).2.2.2 c (by omega) (tr_le T hw c1))
      · exact ⟨h, a, b, c⟩
    · exact xs_total hn hn0 T (fun w a b => (hst.2.1 w a b).2.1) N.2.2.1 inj (fun w _ b => (N.2.2.2.1 w b).1) (fun w a b => (hst.2.1 w a b).1) hz (fun un he h1 h2 => K sm im lv semi ab lb bk pth idm' lev un he hS hst h1 h2)
  | succ v ih =>
    intro f sm semi ab lb bk pth idm hf hv hse hsm hS F B
    obtain ⟨f, rfl⟩ : ∃ m, f = m + 1 := ⟨f - 1, by omega⟩
    have iv : vp_in (nI (v + 1)) 17 := vp_in_nI (by omega) (by omega)
    have hpv := T.2 (v + 1) (by omega) hv
    refine br_f (nI_nle (by omega) (by omega)) (xe_least (v := v + 1) T N hse hsm (by omega) hv rfl F (fun m ab' lb' pth' F' hle => ?_))
    obtain ⟨hSv, hmv⟩ := le_fin G (by omega) hv (hin0 _ (by omega) hv) (fun u a b => hin _ u (by omega) hv a b) N.2.2.1 hle
    have ep : a_parent (nI (v + 1)).toNatClampNeg = nI (pa (v + 1)) := by rw [nI_clamp (by omega)]; exact hpar _ hv
    have es : (upd semi (v + 1) (nI m)) (nI (v + 1)).toNatClampNeg = nI m := by rw [nI_clamp (by omega), pk_us]
    have eb : upd bk ((upd semi (v + 1) (nI m)) (nI (v + 1)).toNatClampNeg).toNatClampNeg ((bk ((upd semi (v + 1) (nI m)) (nI (v + 1)).toNatClampNeg).toNatClampNeg) ||| ((1 : Int32) <<< (nI (v + 1) &&& 31))) = upd bk m (bk m ||| ((1 : Int32) <<< (nI (v + 1) &&& 31))) := by rw [es, nI_clamp (by omega)]
    have im : vp_in ((upd semi (v + 1) (nI m)) (nI (v + 1)).toNatClampNeg) 17 := by rw [es]; exact vp_in_nI (by omega) (by omega)
    have hse' : se_I (fu sm (v + 1) m) n (upd semi (v + 1) (nI m)) := by
      intro x hx
      by_cases e : x = v + 1
      · subst e; rw [fu_s, pk_us]; exact ⟨rfl, by omega⟩
      · rw [fu_n e, pk_un e]; exact hse x hx
    have hS' : ∀ w, v < w → w < n → ln_S E pa n (fu sm (v + 1) m) w := by
      intro w h1 h2
      by_cases e : w = v + 1
      · subst e; exact hSv
      · exact ln_Sc (hS w (by omega) h2) (by omega)
    refine And.intro iv (nm_r (hb_up (by omega) (hb_by (by omega))) ⟨iv, im, im, nm_r eb ⟨iv, iv, nm_r (hb_up (by omega) (by rw [ep, hb_by1 (by omega)])) ⟨iv, ?_⟩⟩⟩)
    refine xe_empty (c := v + 1) (p := pa (v + 1)) ep hn hn0 T hse' (by omega) (fun w hb => ?_) (fo_link T F' (by omega) hv) (fun ab2 lb2 pth2 idm2 F2 d1 d2 => ?_)
    · rcases (bk_set hn hv (by omega) B w).mp hb with q | ⟨q, _⟩
      · have := B.1 _ (by omega) w q
        exact ⟨by omega, this.2.1, by omega⟩
      · exact ⟨by omega, by omega, by omega⟩
    · refine nm_r (pk_m1 v) (ih f (fu sm (v + 1) m) _ ab2 lb2 _ pth2 idm2 (by omega) (by omega) hse' (fun x hx => ?_) hS' F2 ?_)
      · rw [fu_n (by omega)]; exact hsm x (by omega)
      · exact bk_step hn T Q (by omega) hv (by omega) (fun w hw => (hse w hw).2) B rfl d1 d2
theorem xf_init {post : SX → Prop} {E : Nat → Nat → Prop} (G : ln_G E pa n) (N : nu_I n od a_order a_number) (inj : ∀ u w, 0 < u → u < n → 0 < w → w < n → od u = od w → u = w) (hpar : ∀ v, v < n → a_parent v = nI (pa v)) (hin0 : ∀ v, 0 < v → v < n → (E 0 v ↔ bt f_roots (od v) = true)) (hin : ∀ v u, 0 < v → v < n → 0 < u → u < n → (E u v ↔ bt (a_in (od v)) (od u) = true)) (hz : ∀ x, x < 16 → a_sizes x = nI (z x))
    (K : ∀ sm im lv semi ab lb bk pth idm lev un he, (∀ w, 0 < w → w < n → ln_S E pa n sm w) → st_I pa sm n n im lv idm lev → ut_B pa sm im od n 0 un → (∀ q, q < n → he q = nI (hs_sum z (un q) 16)) → post (f_capacity, f_present, f_roots, f_known, nI n, a_sizes, a_out, a_in, a_order, a_number, a_parent, a_stack, semi, ab, lb, bk, pth, idm, lev, un, he)) :
    ∀ d v f semi ab lb bk idm, v + d = n → d < f → (∀ x, x < v → semi x = nI x ∧ lb x = nI x ∧ ab x = -1 ∧ bk x = 0) → wX_find_19 post f_capacity f_present f_roots f_known (nI n) f (nI v) a_sizes a_out a_in a_order a_number a_parent a_stack semi ab lb bk a_path idm a_level a_under a_held := by
  have hn := N.1
  have hn0 := G.1
  intro d
  induction d with
  | zero =>
    intro v f semi ab lb bk idm hv hf h
    obtain ⟨f, rfl⟩ : ∃ m, f = m + 1 := ⟨f - 1, by omega⟩
    have e : v = n := hv
    subst e
    refine br_t (nI_le (by omega) (by omega)) (nm_r (e' := nI (v - 1)) (pk_sub (b := 1) (by omega)) ⟨v, xf_main G N inj hpar hin0 hin hz K (v - 1) v (fun x => x) semi ab lb bk a_path idm (by omega) (by omega) (fun x hx => ⟨(h x hx).1, Nat.le_refl _⟩) (fun _ _ => rfl) (fun w a b => by omega) ⟨fun x hx _ => ⟨(h x hx).2.2.1, (h x hx).2.1⟩, fun x hx hc => by omega⟩ ⟨fun q hq w hb => ?_, fun w a b => by omega⟩⟩)
    rw [(h q hq).2.2.2, b_0] at hb
    exact absurd hb (by decide)
  | succ d ih =>
    intro v f semi ab lb bk idm hv hf h
    obtain ⟨f, rfl⟩ : ∃ m, f = m + 1 := ⟨f - 1, by omega⟩
    have iv : vp_in (nI v) 17 := vp_in_nI (by omega) (by omega)
    refine br_f (nI_ge (by omega) (by omega)) ⟨iv, nm_r (hb_up (by omega) (hb_by (by omega))) ⟨iv, nm_r (hb_up (by omega) (hb_by (by omega))) ⟨iv, nm_r (hb_up (by omega) hb_bm) ⟨iv, nm_r (hb_up (by omega) rfl) ⟨iv, nm_r (hb_up (by omega) rfl) (nm_r (nI_1 v) (ih (v + 1) f _ _ _ _ _ (by omega) (by omega) (fun x hx => ?_)))⟩⟩⟩⟩⟩
    by_cases e : x = v
    · subst e; rw [pk_us, pk_us, pk_us, pk_us]; exact ⟨rfl, rfl, rfl, rfl⟩
    · rw [pk_un e, pk_un e, pk_un e, pk_un e]; exact h x (by omega)
end
end
section
/-! objects: reached, dominates; what find leaves -/
/-- x is reached from the roots when only the objects of s are there -/
def oc_R (R : Int32) (rf : Nat → Int32) (s : Int32) (x : Nat) : Prop :=
  ∀ S : Nat → Prop, (∀ i, i < 16 → bt R i = true → bt s i = true → S i) → (∀ a b, a < 16 → b < 16 → S a → bt (rf a) b = true → bt s b = true → S b) → S x
theorem oc_lt {R : Int32} {rf : Nat → Int32} {s : Int32} {x : Nat} (h : oc_R R rf s x) : x < 16 ∧ bt s x = true :=
  h (fun x => x < 16 ∧ bt s x = true) (fun _ a _ c => ⟨a, c⟩) (fun _ _ _ b _ _ d => ⟨b, d⟩)
theorem oc_b {R : Int32} {rf : Nat → Int32} {s : Int32} {x : Nat} (hx : x < 16) (h : bt R x = true) (h2 : bt s x = true) : oc_R R rf s x := fun _ h0 _ => h0 x hx h h2
theorem oc_s {R : Int32} {rf : Nat → Int32} {s : Int32} {a x : Nat} (ha : oc_R R rf s a) (hx : x < 16) (h : bt (rf a) x = true) (h2 : bt s x = true) : oc_R R rf s x := fun S h0 hs => hs a x (oc_lt ha).1 hx (ha S h0 hs) h h2
/-- the set without a -/
def oc_mi (P : Int32) (a : Nat) : Int32 := P &&& (((1 : Int32) <<< (nI a &&& 31)) ^^^ (-1))
theorem oc_mb {P : Int32} {a i : Nat} (ha : a < 32) (hi : i < 32) : bt (oc_mi P a) i = true ↔ bt P i = true ∧ i ≠ a := by
  unfold oc_mi
  rw [b_and, hb_not _ hi, hb_one ha, Bool.and_eq_true, Bool.not_eq_true', decide_eq_false_iff_not]
def oc_D (R : Int32) (rf : Nat → Int32) (P : Int32) (a x : Nat) : Prop := oc_R R rf P a ∧ oc_R R rf P x ∧ ¬ oc_R R rf (oc_mi P a) x
/-- the heaps of both sides are one heap -/
def hv_W (c : Nat) (P R : Int32) (out inn rf szX szY : Nat → Int32) (z : Nat → Nat) : Prop :=
  (1 ≤ c ∧ c ≤ 16) ∧ (∀ i, bt P i = true → i < c) ∧ (∀ i, bt R i = true → bt P i = true) ∧ (∀ a, a < 16 → out a = rf a) ∧ (∀ a i, a < 16 → bt (rf a) i = true → bt P a = true ∧ bt P i = true) ∧ (∀ b i, b < 16 → (bt (inn b) i = true ↔ i < 16 ∧ bt (rf i) b = true)) ∧ (∀ x, x < 16 → szX x = nI (z x) ∧ szY x = nI (z x) ∧ z x ≤ 100)
def kn_I (P R : Int32) (rf : Nat → Int32) (z : Nat → Nat) (n : Nat) (od im : Nat → Nat) (order number idom level under held : Nat → Int32) : Prop :=
  (0 < n ∧ n ≤ 17 ∧ cn (oc_R R rf P) 16 + 1 = n) ∧
  (∀ x, x < 16 → (¬ oc_R R rf P x ∧ number x = -1) ∨ ∃ v, 0 < v ∧ v < n ∧ od v = x ∧ number x = nI v) ∧
  (∀ v, 0 < v → v < n → od v < 16 ∧ order v = nI (od v) ∧ oc_R R rf P (od v) ∧ number (od v) = nI v) ∧
  (∀ v, 0 < v → v < n → idom v = nI (im v) ∧ im v < v ∧ ∀ a, oc_D R rf P a (od v) ↔ a = od v ∨ (0 < im v ∧ oc_D R rf P a (od (im v)))) ∧
  (∀ v, v < n → ∀ x, bt (under v) x = true ↔ oc_R R rf P x ∧ (v = 0 ∨ oc_D R rf P (od v) x)) ∧
  (∀ v, v < n → held v = nI (hs_sum z (under v) 16)) ∧
  (∀ v, 0 < v → v < n → level v = nI (cn (fun a => oc_D R rf P a (od v)) 16))
def kn_E (P R : Int32) (rf : Nat → Int32) (z : Nat → Nat) (met : Int32) (order number idom level under held : Nat → Int32) : Prop := ∃ n od im, met = nI n ∧ kn_I P R rf z n od im order number idom level under held
section
variable {c : Nat} {P R : Int32} {out inn rf szX szY : Nat → Int32} {z : Nat → Nat} {n : Nat} {od pa sk : Nat → Nat} {order number parent stack : Nat → Int32}
theorem ob_G (h : wk_I (upd out 16 R) n 0 od pa sk order number parent stack) : ln_G (fun u v => bt ((upd out 16 R) (od u)) (od v) = true) pa n := by
  obtain ⟨⟨hn0, hn17, hdn⟩, ⟨ho0, ho⟩, hA, hN, hC, ⟨hp0, hP⟩, hS, hSS, hD, hE⟩ := h
  exact ⟨hn0, ⟨hp0, fun v a b => (hP v a b).1⟩, fun v a b => (hP v a b).2.2, fun v a b => (hP v a b).2.1, hE⟩
theorem ob_N (h : wk_I (upd out 16 R) n 0 od pa sk order number parent stack) : nu_I n od order number :=
  ⟨h.1.2.1, h.2.1.1, h.2.1.2, fun v hv => ⟨(h.2.2.1 v hv).1, (h.2.2.1 v hv).2.1⟩, h.2.2.2.1⟩
theorem ob_inj (h : wk_I (upd out 16 R) n 0 od pa sk order number parent stack) {u w : Nat} (hu : u < n) (hw : w < n) (e : od u = od w) : u = w := by
  have h1 := (h.2.2.1 u hu).2.1
  have h2 := (h.2.2.1 w hw).2.1
  have h3 := h.1.2.1
  rw [e, h2] at h1
  exact hb_neq (by omega) (by omega) h1.symm
theorem ob_cl (h : wk_I (upd out 16 R) n 0 od pa sk order number parent stack) {v y : Nat} (hv : v < n) (hy : y < 16) (hb : bt ((upd out 16 R) (od v)) y = true) : ∃ w, 0 < w ∧ w < n ∧ od w = y := by
  rcases h.2.2.2.2.2.2.2.2.1 v hv with ⟨i, hi, _⟩ | q
  · omega
  · obtain ⟨w, w1, w2⟩ := q y hy hb
    refine ⟨w, ?_, w1, w2⟩
    rcases Nat.eq_zero_or_pos w with e | e
    · rw [e, h.2.1.1] at w2; omega
    · exact e
theorem ob_e0 (h : wk_I (upd out 16 R) n 0 od pa sk order number parent stack) (y : Nat) : bt ((upd out 16 R) (od 0)) y = bt R y := by
  rw [h.2.1.1, pk_us]
theorem ob_e (W : hv_W c P R out inn rf szX szY z) (h : wk_I (upd out 16 R) n 0 od pa sk order number parent stack) {u : Nat} (h0 : 0 < u) (hu : u < n) (y : Nat) : bt ((upd out 16 R) (od u)) y = bt (rf (od u)) y := by
  have := h.2.1.2 u h0 hu
  rw [pk_un (by omega), W.2.2.2.1 _ this]
/-- live is met -/
theorem ob_L (W : hv_W c P R out inn rf szX szY z) (h : wk_I (upd out 16 R) n 0 od pa sk order number parent stack) (x : Nat) : oc_R R rf P x ↔ ∃ v, 0 < v ∧ v < n ∧ od v = x := by
  have hn := h.1
  constructor
  · intro hx
    refine hx (fun x => ∃ v, 0 < v ∧ v < n ∧ od v = x) (fun i hi hr _ => ?_) (fun a b ha hb hS hr _ => ?_)
    · exact ob_cl h (v := 0) (by omega) hi (by rw [ob_e0 h]; exact hr)
    · obtain ⟨v, v1, v2, v3⟩ := hS
      exact ob_cl h (v := v) v2 hb (by rw [ob_e W h v1 v2, v3]; exact hr)
  · rintro ⟨v, v1, v2, v3⟩
    subst v3
    induction v using Nat.strongRecOn with
    | _ v ih =>
      obtain ⟨p1, p2, _⟩ := h.2.2.2.2.2.1.2 v v1 v2
      have ho := h.2.1.2 v v1 v2
      rcases Nat.eq_zero_or_pos (pa v) with e | e
      · rw [e, ob_e0 h] at p2
        exact oc_b ho p2 (W.2.2.1 _ p2)
      · rw [ob_e W h e (by omega)] at p2
        exact oc_s (ih (pa v) p1 e (by omega)) ho p2 (W.2.2.2.2.1 _ _ (h.2.1.2 _ e (by omega)) p2).2
theorem ob_R (W : hv_W c P R out inn rf szX szY z) (h : wk_I (upd out 16 R) n 0 od pa sk order number parent stack) {d w : Nat} (d0 : 0 < d) (hd : d < n) (w0 : 0 < w) (hw : w < n) : oc_R R rf (oc_mi P (od d)) (od w) ↔ ln_R (fun u v => bt ((upd out 16 R) (od u)) (od v) = true) n d w := by
  have hn := h.1
  have hod := h.2.1.2 d d0 hd
  constructor
  · intro hx
    have key : ∃ w', 0 < w' ∧ w' < n ∧ od w' = od w ∧ ln_R (fun u v => bt ((upd out 16 R) (od u)) (od v) = true) n d w' := by
      refine hx (fun x => ∃ w', 0 < w' ∧ w' < n ∧ od w' = x ∧ ln_R (fun u v => bt ((upd out 16 R) (od u)) (od v) = true) n d w') (fun i hi hr hs => ?_) (fun a b ha hb hS hr hs => ?_)
      · rw [oc_mb (by omega) (by omega)] at hs
        obtain ⟨v, v1, v2, v3⟩ := ob_cl h (v := 0) (by omega) hi (by rw [ob_e0 h]; exact hr)
        refine ⟨v, v1, v2, v3, ln_Rs (u := 0) (ln_R0 (by omega)) (by omega) v2 ?_ ?_⟩
        · show bt ((upd out 16 R) (od 0)) (od v) = true
          rw [ob_e0 h, v3]; exact hr
        · intro e; subst e; exact hs.2 v3.symm
      · rw [oc_mb (by omega) (by omega)] at hs
        obtain ⟨u, u1, u2, u3, u4⟩ := hS
        obtain ⟨v, v1, v2, v3⟩ := ob_cl h (v := u) u2 hb (by rw [ob_e W h u1 u2, u3]; exact hr)
        refine ⟨v, v1, v2, v3, ln_Rs u4 u2 v2 ?_ ?_⟩
        · show bt ((upd out 16 R) (od u)) (od v) = true
          rw [ob_e W h u1 u2, u3, v3]; exact hr
        · intro e; subst e; exact hs.2 v3.symm
    obtain ⟨w', a1, a2, a3, a4⟩ := key
    have e := ob_inj h a2 hw a3
    subst e; exact a4
  · intro hx
    have key : w = 0 ∨ oc_R R rf (oc_mi P (od d)) (od w) := by
      refine hx (fun v => v = 0 ∨ oc_R R rf (oc_mi P (od d)) (od v)) (fun _ => Or.inl rfl) (fun u v hu hv hS he hvd => ?_)
      rcases Nat.eq_zero_or_pos v with e | v0
      · exact Or.inl e
      · right
        have hov := h.2.1.2 v v0 hv
        have hne : od v ≠ od d := fun e => hvd (ob_inj h hv hd e)
        rcases Nat.eq_zero_or_pos u with e | u0
        · subst e
          have he' : bt ((upd out 16 R) (od 0)) (od v) = true := he
          rw [ob_e0 h] at he'
          exact oc_b hov he' ((oc_mb (by omega) (by omega)).mpr ⟨W.2.2.1 _ he', hne⟩)
        · have he' : bt ((upd out 16 R) (od u)) (od v) = true := he
          rw [ob_e W h u0 hu] at he'
          rcases hS with e | hS
          · omega
          · exact oc_s hS hov he' ((oc_mb (by omega) (by omega)).mpr ⟨(W.2.2.2.2.1 _ _ (h.2.1.2 _ u0 hu) he').2, hne⟩)
    rcases key with e | e
    · omega
    · exact e
theorem ob_D (W : hv_W c P R out inn rf szX szY z) (h : wk_I (upd out 16 R) n 0 od pa sk order number parent stack) {sm : Nat → Nat} (hS : ∀ w, 0 < w → w < n → ln_S (fun u v => bt ((upd out 16 R) (od u)) (od v) = true) pa n sm w) {d w : Nat} (d0 : 0 < d) (hd : d < n) (w0 : 0 < w) (hw : w < n) : oc_D R rf P (od d) (od w) ↔ ln_D pa sm d w := by
  have G := ob_G h
  unfold oc_D
  rw [ob_R W h d0 hd w0 hw, ob_L W h, ob_L W h]
  exact ⟨fun z => ln_c2 G hS hd hw z.2.2, fun z => ⟨⟨d, d0, hd, rfl⟩, ⟨w, w0, hw, rfl⟩, ln_c1 G hS hd hw z⟩⟩
theorem ob_K (W : hv_W c P R out inn rf szX szY z) (h : wk_I (upd out 16 R) n 0 od pa sk order number parent stack) {sm im lv : Nat → Nat} {idm lev un he : Nat → Int32} (hS : ∀ w, 0 < w → w < n → ln_S (fun u v => bt ((upd out 16 R) (od u)) (od v) = true) pa n sm w) (hst : st_I pa sm n n im lv idm lev) (hu : ut_B pa sm im od n 0 un) (hh : ∀ q, q < n → he q = nI (hs_sum z (un q) 16)) : kn_I P R rf z n od im order number idm lev un he := by
  have G := ob_G h
  have T := G.2.1
  have hn := h.1
  have hI : ∀ w, 0 < w → w < n → ln_I pa sm w (im w) := fun w a b => (hst.2.1 w a b).2.1
  have k4 : ∀ v, 0 < v → v < n → ∀ a, oc_D R rf P a (od v) ↔ a = od v ∨ (0 < im v ∧ oc_D R rf P a (od (im v))) := by
    intro v v0 hv a
    obtain ⟨i1, i2⟩ := hI v v0 hv
    constructor
    · intro hD
      obtain ⟨d, d0, hd, e⟩ := (ob_L W h a).mp hD.1
      subst e
      rw [ob_D W h hS d0 hd v0 hv] at hD
      by_cases e : d = v
      · subst e; exact Or.inl rfl
      · rw [i2 d e] at hD
        have := ln_Dle T (by omega) hD
        exact Or.inr ⟨by omega, (ob_D W h hS d0 hd (by omega) (by omega)).mpr hD⟩
    · rintro (e | ⟨e, hD⟩)
      · subst e; exact (ob_D W h hS v0 hv v0 hv).mpr (ln_Drf T hv)
      · obtain ⟨d, d0, hd, e2⟩ := (ob_L W h a).mp hD.1
        subst e2
        rw [ob_D W h hS d0 hd e (by omega)] at hD
        have := ln_Dle T (by omega) hD
        rw [ob_D W h hS d0 hd v0 hv, i2 d (by omega)]
        exact hD
  have k7 : ∀ v, 0 < v → v < n → lv v = cn (fun a => oc_D R rf P a (od v)) 16 := by
    intro v
    induction v using Nat.strongRecOn with
    | _ v ih =>
      intro v0 hv
      obtain ⟨i1, i2⟩ := hI v v0 hv
      have hodv := h.2.1.2 v v0 hv
      have e1 : cn (fun a => oc_D R rf P a (od v)) 16 = cn (fun a => (0 < im v ∧ oc_D R rf P a (od (im v))) ∨ a = od v) 16 :=
        cn_eq fun a _ => by rw [k4 v v0 hv a]; exact Or.comm
      rw [e1, cn_add (P := fun a => 0 < im v ∧ oc_D R rf P a (od (im v))) (a := od v) ?_ hodv, (hst.2.1 v v0 hv).2.2.2.1]
      · congr 1
        rcases Nat.eq_zero_or_pos (im v) with e | e
        · rw [e, hst.1.2]
          exact (cn_none 16 (fun k _ q => by omega)).symm
        · rw [ih (im v) i1 e (by omega)]
          exact cn_eq fun a _ => ⟨fun q => ⟨e, q⟩, fun q => q.2⟩
      · rintro ⟨e, hD⟩
        rw [ob_D W h hS v0 hv e (by omega)] at hD
        have := ln_Dle T (by omega) hD
        omega
  refine ⟨⟨hn.1, hn.2.1, ?_⟩, fun x hx => ?_, fun v v0 hv => ?_, fun v v0 hv => ⟨(hst.2.1 v v0 hv).1, (hI v v0 hv).1, k4 v v0 hv⟩, fun v hv x => ?_, hh, fun v v0 hv => by rw [(hst.2.1 v v0 hv).2.2.1, k7 v v0 hv]⟩
  · have := h.2.2.2.2.1
    rw [← this]
    congr 1
    exact cn_eq fun x _ => ob_L W h x
  · rcases h.2.2.2.1 x (by omega) with q | ⟨v, v1, v2, v3⟩
    · refine Or.inl ⟨fun hL => ?_, q⟩
      obtain ⟨v, v0, hv, e⟩ := (ob_L W h x).mp hL
      have := (h.2.2.1 v hv).2.1
      rw [e, q] at this
      exact hb_nm (by omega) this.symm
    · refine Or.inr ⟨v, ?_, v1, v3, v2⟩
      rcases Nat.eq_zero_or_pos v with e | e
      · rw [e, h.2.1.1] at v3; omega
      · exact e
  · exact ⟨h.2.1.2 v v0 hv, (h.2.2.1 v hv).1, (ob_L W h _).mpr ⟨v, v0, hv, rfl⟩, (h.2.2.1 v hv).2.1⟩
  · rw [hu v hv x]
    constructor
    · rintro ⟨w, t, ⟨a1, a2, a3⟩, b, c, d, e⟩
      refine ⟨(ob_L W h x).mpr ⟨w, a1, a2, a3⟩, ?_⟩
      rcases Nat.eq_zero_or_pos v with q | q
      · exact Or.inl q
      · right
        rw [← a3, ob_D W h hS q hv a1 a2]
        rcases e with e | e
        · rw [← e]; exact d
        · have := (hI t b c).1
          refine ln_Dtr T a2 ?_ d
          rw [(hI t b c).2 v (by omega), e]
          exact ln_Drf T hv
    · rintro ⟨hL, hv2⟩
      obtain ⟨w, a1, a2, a3⟩ := (ob_L W h x).mp hL
      rcases Nat.eq_zero_or_pos v with q | q
      · subst q
        obtain ⟨t, t1, t2, t3, t4⟩ := ln_Dch T hI w a2 (ln_D0 T a2) (by omega)
        exact ⟨w, t, ⟨a1, a2, a3⟩, t1, t2, t4, Or.inr t3⟩
      · rcases hv2 with e | e
        · omega
        · rw [← a3, ob_D W h hS q hv a1 a2] at e
          exact ⟨w, v, ⟨a1, a2, a3⟩, q, hv, e, Or.inl rfl⟩
end
section
variable {f_capacity f_present f_roots f_known f_met : Int32} {a_sizes a_out a_in a_order a_number a_parent a_stack a_semi a_above a_label a_bucket a_path a_idom a_level a_under a_held : Nat → Int32}
variable {c : Nat} {rf szY : Nat → Int32} {z : Nat → Nat}
theorem xf_find {post : SX → Prop} (W : hv_W c f_present f_roots a_out a_in rf a_sizes szY z) (hk : f_known = 0 ∨ (f_known = 1 ∧ kn_E f_present f_roots rf z f_met a_order a_number a_idom a_level a_under a_held))
    (K : ∀ met out order number parent stack semi above label bucket path idom level under held, (∀ a, a < 16 → out a = a_out a) → kn_E f_present f_roots rf z met order number idom level under held → post (f_capacity, f_present, f_roots, 1, met, a_sizes, out, a_in, order, number, parent, stack, semi, above, label, bucket, path, idom, level, under, held)) : wpX_find post (f_capacity, f_present, f_roots, f_known, f_met, a_sizes, a_out, a_in, a_order, a_number, a_parent, a_stack, a_semi, a_above, a_label, a_bucket, a_path, a_idom, a_level, a_under, a_held) := by
  rcases hk with e | ⟨e, hk⟩
  · have hR : ∀ i, bt f_roots i = true → i < 16 := fun i hi => by
      have h1 := W.2.1 i (W.2.2.1 i hi)
      have h2 := W.1.2
      omega
    refine br_t e (xw_walk hR (fun n od pa sk order number parent stack h => ?_))
    have hn := h.1
    refine Exists.intro (n + 1) (xf_init (E := fun u v => bt ((upd a_out 16 f_roots) (od u)) (od v) = true) (pa := pa) (od := od) (z := z) (ob_G h) (ob_N h) (fun u w _ a _ b e => ob_inj h a b e) (fun v hv => (h.2.2.1 v hv).2.2) (fun v v0 hv => ?_) (fun v u v0 hv u0 hu => ?_) (fun x hx => (W.2.2.2.2.2.2 x hx).1) (fun sm im lv semi ab lb bk pth idm lev un he hS hst hu hh => ?_) n 0 (n + 1) a_semi a_above a_label a_bucket a_idom (by omega) (by omega) (fun x hx => absurd hx (by omega)))
    · show bt ((upd a_out 16 f_roots) (od 0)) (od v) = true ↔ _
      rw [ob_e0 h]
    · show bt ((upd a_out 16 f_roots) (od u)) (od v) = true ↔ _
      rw [ob_e W h u0 hu, W.2.2.2.2.2.1 (od v) (od u) (h.2.1.2 v v0 hv)]
      exact ⟨fun q => ⟨h.2.1.2 u u0 hu, q⟩, fun q => q.2⟩
    · exact K _ _ _ _ _ _ _ _ _ _ _ _ _ _ _ (fun a ha => pk_un (by omega)) ⟨n, od, im, rfl, ob_K W h hS hst hu hh⟩
  · subst e
    exact br_f (by decide) (K _ _ _ _ _ _ _ _ _ _ _ _ _ _ _ (fun _ _ => rfl) hk)
end
end
section
/-! the reference: reached, live, kept, dominates, and what rests on them -/
def hs_lv (R : Int32) (rf : Nat → Int32) (P p0 : Int32) : Prop := ∃ x, p0 = nI x ∧ oc_R R rf P x
def hs_dm (R : Int32) (rf : Nat → Int32) (P p0 p1 : Int32) : Prop := ∃ a x, p0 = nI a ∧ p1 = nI x ∧ oc_D R rf P a x
theorem hs_lvN {R : Int32} {rf : Nat → Int32} {P : Int32} {x : Nat} (hx : x < 2 ^ 31) : hs_lv R rf P (nI x) ↔ oc_R R rf P x := by
  constructor
  · rintro ⟨y, e, h⟩
    have := oc_lt h
    rw [nI_eq hx (by omega)] at e
    subst e; exact h
  · exact fun h => ⟨x, rfl, h⟩
theorem hs_dmN {R : Int32} {rf : Nat → Int32} {P : Int32} {a x : Nat} (ha : a < 2 ^ 31) (hx : x < 2 ^ 31) : hs_dm R rf P (nI a) (nI x) ↔ oc_D R rf P a x := by
  constructor
  · rintro ⟨b, y, e, e2, h⟩
    have h1 := oc_lt h.1
    have h2 := oc_lt h.2.1
    rw [nI_eq ha (by omega)] at e
    rw [nI_eq hx (by omega)] at e2
    subst e; subst e2; exact h
  · exact fun h => ⟨a, x, rfl, rfl, h⟩
/-- sums over a set given as a predicate -/
noncomputable def dn_sum (Q : Nat → Prop) (z : Nat → Nat) : Nat → Nat
  | 0 => 0
  | k + 1 => dn_sum Q z k + b01 (Q k) * z k
theorem hs_dn {Q : Nat → Prop} {z : Nat → Nat} {m : Int32} : ∀ k, (∀ i, i < k → (bt m i = true ↔ Q i)) → hs_sum z m k = dn_sum Q z k
  | 0, _ => rfl
  | k + 1, h => by
    simp only [hs_sum, dn_sum, hs_dn (Q := Q) k (fun i hi => h i (by omega))]
    by_cases e : bt m k = true
    · rw [if_pos e, b01_t ((h k (by omega)).mp e), Nat.one_mul]
    · rw [if_neg e, b01_f (fun q => e ((h k (by omega)).mpr q)), Nat.zero_mul]
theorem dn_none {Q : Nat → Prop} {z : Nat → Nat} : ∀ k, (∀ i, i < k → ¬ Q i) → dn_sum Q z k = 0
  | 0, _ => rfl
  | k + 1, h => by simp only [dn_sum, dn_none k (fun i hi => h i (by omega)), b01_f (h k (by omega)), Nat.zero_mul]
theorem dn_le {Q : Nat → Prop} {z : Nat → Nat} (h : ∀ i, i < 16 → z i ≤ 100) : ∀ k, k ≤ 16 → dn_sum Q z k ≤ 100 * k
  | 0, _ => Nat.le_refl _
  | k + 1, hk => by
    have h1 := dn_le (Q := Q) h k (by omega)
    have h2 := h k (by omega)
    simp only [dn_sum]
    rcases Classical.em (Q k) with e | e
    · rw [b01_t e]; omega
    · rw [b01_f e]; omega
section
variable {cap P R : Int32} {sz rf hd : Nat → Int32}
/-- a set that holds what its objects refer to within s -/
def yc_cl (rf : Nat → Int32) (s : Int32) (S : Nat → Prop) : Prop := ∀ a b, a < 16 → b < 16 → S a → bt (rf a) b = true → bt s b = true → S b
theorem ys_rin {post : Int32 → Prop} {J : Int32 → Int32 → Prop} {s x3 m0 : Int32} (hrf : ∀ a i, a < 16 → bt (rf a) i = true → i < 16)
    (K : ∀ m, (∀ i, bt m0 i = true → bt m i = true) → (∀ a b, a < 16 → b < 16 → bt m0 a = true → bt (rf a) b = true → bt s b = true → bt m b = true) → (∀ S : Nat → Prop, (∀ i, bt m0 i = true → S i) → yc_cl rf s S → ∀ i, bt m i = true → S i) → J m (x3 + 1)) :
    ∀ d i f m, i + d = 16 → d < f → (∀ j, bt m0 j = true → bt m j = true) → (∀ a b, a < i → b < 16 → bt m0 a = true → bt (rf a) b = true → bt s b = true → bt m b = true) → (∀ S : Nat → Prop, (∀ j, bt m0 j = true → S j) → yc_cl rf s S → ∀ j, bt m j = true → S j) → wY_reached_18 post J s x3 cap P R sz rf hd f m (nI i) := by
  intro d
  induction d with
  | zero =>
    intro i f m hi hf h1 h2 h3
    obtain ⟨f, rfl⟩ : ∃ m, f = m + 1 := ⟨f - 1, by omega⟩
    have e : i = 16 := hi
    subst e
    exact br_t (nI_le (a := 16) (b := 16) (by omega) (by omega)) (nm_e (K m h1 h2 h3))
  | succ d ih =>
    intro i f m hi hf h1 h2 h3
    obtain ⟨f, rfl⟩ : ∃ m, f = m + 1 := ⟨f - 1, by omega⟩
    refine br_f (nI_ge (b := 16) (by omega) (by omega)) ?_
    by_cases hb : bt m i = true
    · refine br_t (hb_z1 (by omega) hb) ⟨vp_in_nI (by omega) (by omega), nm_r (e' := m ||| (rf i &&& s)) (by rw [nI_clamp (by omega)]) (nm_r (nI_1 i) (ih (i + 1) f _ (by omega) (by omega) (fun j hj => ?_) (fun a b ha hb' g1 g2 g3 => ?_) (fun S S1 S2 j hj => ?_)))⟩
      · rw [b_or, h1 j hj]; rfl
      · rw [b_or, Bool.or_eq_true]
        by_cases e : a = i
        · subst e; right; rw [b_and, g2, g3]; rfl
        · left; exact h2 a b (by omega) hb' g1 g2 g3
      · rw [b_or, Bool.or_eq_true, b_and, Bool.and_eq_true] at hj
        rcases hj with q | ⟨q1, q2⟩
        · exact h3 S S1 S2 j q
        · exact S2 i j (by omega) (hrf i j (by omega) q1) (h3 S S1 S2 i hb) q1 q2
    · refine br_f (hb_n1 (by omega) hb) (nm_r (nI_1 i) (ih (i + 1) f m (by omega) (by omega) h1 (fun a b ha hb' g1 g2 g3 => ?_) h3))
      by_cases e : a = i
      · subst e; exact absurd (h1 a g1) hb
      · exact h2 a b (by omega) hb' g1 g2 g3
theorem ys_rout {post : Int32 → Prop} {s : Int32} (hrf : ∀ a i, a < 16 → bt (rf a) i = true → i < 16) (K : ∀ m, (∀ i, bt m i = true ↔ oc_R R rf s i) → post m) :
    ∀ d p f m, p + d = 16 → d < f → (∀ i, i < 16 → bt R i = true → bt s i = true → bt m i = true) → (∀ i, bt m i = true → oc_R R rf s i) → (yc_cl rf s (fun i => bt m i = true) ∨ p ≤ cn (fun i => bt m i = true) 16) → wY_reached_9 post s cap P R sz rf hd f m (nI p) := by
  intro d
  induction d with
  | zero =>
    intro p f m hi hf h1 h2 h3
    obtain ⟨f, rfl⟩ : ∃ m, f = m + 1 := ⟨f - 1, by omega⟩
    have e : p = 16 := hi
    subst e
    have hcl : yc_cl rf s (fun i => bt m i = true) := by
      rcases h3 with q | q
      · exact q
      · intro a b ha hb _ _ _
        refine Classical.byContradiction fun hn => ?_
        have := cn_lt (P := fun i => bt m i = true) (Q := fun _ => True) (a := b) hn trivial (N := 16) (fun _ _ _ => trivial) hb
        have := cn_le (fun _ => True) 16
        omega
    exact br_t (nI_le (a := 16) (b := 16) (by omega) (by omega)) (K m (fun i => ⟨h2 i, fun q => q (fun i => bt m i = true) h1 hcl⟩))
  | succ d ih =>
    intro p f m hi hf h1 h2 h3
    obtain ⟨f, rfl⟩ : ∃ m, f = m + 1 := ⟨f - 1, by omega⟩
    refine br_f (nI_ge (b := 16) (by omega) (by omega)) ⟨17, ?_⟩
    refine ys_rin (m0 := m) hrf (fun m' g1 g2 g3 => ?_) 16 0 17 m rfl (by omega) (fun _ q => q) (fun a b ha => absurd ha (by omega)) (fun S S1 _ => S1)
    rw [nI_1]
    refine ih (p + 1) f m' (by omega) (by omega) (fun i a b c => g1 i (h1 i a b c)) ?_ ?_
    · exact g3 _ h2 (fun a b ha hb q1 q2 q3 => oc_s q1 hb q2 q3)
    · rcases Classical.em (yc_cl rf s (fun i => bt m i = true)) with q | q
      · left
        have e : ∀ i, bt m' i = true ↔ bt m i = true := fun i => ⟨g3 _ (fun _ w => w) q i, g1 i⟩
        intro a b ha hb q1 q2 q3
        exact g1 b (q a b ha hb ((e a).mp q1) q2 q3)
      · right
        have h4 : p ≤ cn (fun i => bt m i = true) 16 := h3.elim (fun w => absurd w q) id
        have : ∃ b, b < 16 ∧ ¬ bt m b = true ∧ bt m' b = true := by
          refine Classical.byContradiction fun hn => q ?_
          intro a b ha hb q1 q2 q3
          exact Classical.byContradiction fun w => hn ⟨b, hb, w, g2 a b ha hb q1 q2 q3⟩
        obtain ⟨b, b1, b2, b3⟩ := this
        have := cn_lt (P := fun i => bt m i = true) (Q := fun i => bt m' i = true) (a := b) b2 b3 (N := 16) (fun i _ w => g1 i w) b1
        omega
theorem ys_reached {post : Int32 → Prop} {s : Int32} (hR : ∀ i, bt R i = true → i < 16) (hrf : ∀ a i, a < 16 → bt (rf a) i = true → i < 16) (K : ∀ m, (∀ i, bt m i = true ↔ oc_R R rf s i) → post m) : wpY_reached post (cap, P, R, sz, rf, hd) s := by
  refine nm_e ⟨17, ?_⟩
  refine ys_rout hrf K 16 0 17 _ rfl (by omega) (fun i _ a b => ?_) (fun i h => ?_) (Or.inr (Nat.zero_le _))
  · rw [b_and, a, b]; rfl
  · rw [b_and, Bool.and_eq_true] at h
    exact oc_b (hR i h.1) h.1 h.2
theorem ys_live {post : Int32 → Prop} (hR : ∀ i, bt R i = true → i < 16) (hrf : ∀ a i, a < 16 → bt (rf a) i = true → i < 16) (K : ∀ m, (∀ i, bt m i = true ↔ oc_R R rf P i) → post m) : wpY_live post (cap, P, R, sz, rf, hd) := by
  unfold wpY_live
  exact ys_reached hR hrf K
theorem ys_isLive {post : Int32 → Prop} {p0 : Int32} (hR : ∀ i, bt R i = true → i < 16) (hrf : ∀ a i, a < 16 → bt (rf a) i = true → i < 16) (h1 : hs_lv R rf P p0 → post 1) (h0 : ¬ hs_lv R rf P p0 → post 0) : wpY_isLive post (cap, P, R, sz, rf, hd) p0 := by
  unfold wpY_isLive
  refine ys_live hR hrf (fun m hm => ?_)
  refine ys_is (fun h => ?_) (fun h => ?_)
  · obtain ⟨x, hx, e, hb⟩ := h
    subst e
    refine br_f (by decide) ?_
    by_cases hl : bt m x = true
    · exact br_t (hb_z1 (by omega) hl) (h1 ⟨x, rfl, (hm x).mp hl⟩)
    · exact br_f (hb_n1 (by omega) hl) (h0 (fun q => hl ((hm x).mpr ((hs_lvN (by omega)).mp q))))
  · refine br_t rfl (h0 ?_)
    rintro ⟨x, e, hx⟩
    exact h ⟨x, (oc_lt hx).1, e, (oc_lt hx).2⟩
theorem ys_kept {post : Int32 → Prop} {p0 : Int32} (hR : ∀ i, bt R i = true → i < 16) (hrf : ∀ a i, a < 16 → bt (rf a) i = true → i < 16) (h1 : ∀ x, p0 = nI x → oc_R R rf P x → ∀ m, (∀ i, bt m i = true ↔ oc_D R rf P x i) → post m) (h0 : ¬ hs_lv R rf P p0 → post 0) : wpY_kept post (cap, P, R, sz, rf, hd) p0 := by
  unfold wpY_kept
  refine ys_isLive hR hrf (fun h => ?_) (fun h => br_t rfl (h0 h))
  obtain ⟨x, e, hx⟩ := h
  have hx16 := oc_lt hx
  subst e
  refine br_f (by decide) ?_
  refine ys_live hR hrf (fun m hm => ?_)
  refine ys_reached (s := oc_mi P x) hR hrf (fun m2 hm2 => ?_)
  refine h1 x rfl hx _ (fun i => ?_)
  by_cases hi : i < 32
  · rw [b_and, hb_not _ hi, Bool.and_eq_true, Bool.not_eq_true', hm i]
    constructor
    · rintro ⟨a, b⟩
      refine ⟨hx, a, fun q => ?_⟩
      rw [(hm2 i).mpr q] at b
      exact absurd b (by decide)
    · rintro ⟨_, a, b⟩
      exact ⟨a, hb_f (fun q => b ((hm2 i).mp q))⟩
  · rw [b_big (by omega)]
    constructor
    · intro q; exact absurd q (by decide)
    · intro q
      have := oc_lt q.2.1
      omega
theorem ys_dom {post : Int32 → Prop} {p0 p1 : Int32} (hR : ∀ i, bt R i = true → i < 16) (hrf : ∀ a i, a < 16 → bt (rf a) i = true → i < 16) (h1 : hs_dm R rf P p0 p1 → post 1) (h0 : ¬ hs_dm R rf P p0 p1 → post 0) : wpY_dominates post (cap, P, R, sz, rf, hd) p0 p1 := by
  unfold wpY_dominates
  refine ys_kept hR hrf (fun a ea ha m hm => ?_) (fun hn => ?_)
  · refine ys_is (fun h => ?_) (fun h => ?_)
    · obtain ⟨x, hx, e, hb⟩ := h
      subst e
      refine br_f (by decide) ?_
      by_cases hl : bt m x = true
      · exact br_t (hb_z1 (by omega) hl) (h1 ⟨a, x, ea, rfl, (hm x).mp hl⟩)
      · refine br_f (hb_n1 (by omega) hl) (h0 (fun q => hl ((hm x).mpr ?_)))
        rw [ea] at q
        have := oc_lt ha
        exact (hs_dmN (by omega) (by omega)).mp q
    · refine br_t rfl (h0 ?_)
      rintro ⟨b, x, _, e, hx⟩
      exact h ⟨x, (oc_lt hx.2.1).1, e, (oc_lt hx.2.1).2⟩
  · have hno : ¬ hs_dm R rf P p0 p1 := by
      rintro ⟨a, x, e, _, hx⟩
      exact hn ⟨a, e, hx.1⟩
    refine ys_is (fun h => ?_) (fun h => br_t rfl (h0 hno))
    obtain ⟨x, hx, e, hb⟩ := h
    subst e
    refine br_f (by decide) (br_f (hb_n1 (by omega) ?_) (h0 hno))
    rw [b_0]; decide
theorem ys_domN {post : Int32 → Prop} {a x : Nat} (hR : ∀ i, bt R i = true → i < 16) (hrf : ∀ a i, a < 16 → bt (rf a) i = true → i < 16) (ha : a < 16) (hx : x < 16) (h1 : oc_D R rf P a x → post 1) (h0 : ¬ oc_D R rf P a x → post 0) : wpY_dominates post (cap, P, R, sz, rf, hd) (nI a) (nI x) :=
  ys_dom hR hrf (fun h => h1 ((hs_dmN (by omega) (by omega)).mp h)) (fun h => h0 (fun q => h ((hs_dmN (by omega) (by omega)).mpr q)))
/-- all objects but skip that dominate x and y dominate k -/
def yc_ad (R : Int32) (rf : Nat → Int32) (P : Int32) (x y : Nat) (skip : Int32) (k i : Nat) : Prop := ∀ a, a < i → nI a ≠ skip → oc_D R rf P a x → oc_D R rf P a y → oc_D R rf P a k
theorem ys_adl {post : Int32 → Prop} {x y k : Nat} {skip : Int32} (hR : ∀ i, bt R i = true → i < 16) (hrf : ∀ a i, a < 16 → bt (rf a) i = true → i < 16) (hx : x < 16) (hy : y < 16) (hk : k < 16) (h1 : yc_ad R rf P x y skip k 16 → post 1) (h0 : ¬ yc_ad R rf P x y skip k 16 → post 0) :
    ∀ d i f q, i + d = 16 → d < f → ((q = 1 ∧ yc_ad R rf P x y skip k i) ∨ (q = 0 ∧ ¬ yc_ad R rf P x y skip k i)) → wY_allDominate_6 post (nI x) (nI y) skip (nI k) cap P R sz rf hd f q (nI i) := by
  intro d
  induction d with
  | zero =>
    intro i f q hi hf hq
    obtain ⟨f, rfl⟩ : ∃ m, f = m + 1 := ⟨f - 1, by omega⟩
    have e : i = 16 := hi
    subst e
    refine br_t (nI_le (a := 16) (b := 16) (by omega) (by omega)) ?_
    rcases hq with ⟨e, h⟩ | ⟨e, h⟩
    · subst e; exact ⟨rfl, h1 h⟩
    · subst e; exact ⟨rfl, h0 h⟩
  | succ d ih =>
    intro i f q hi hf hq
    obtain ⟨f, rfl⟩ : ∃ m, f = m + 1 := ⟨f - 1, by omega⟩
    have nx : ∀ q', (q' = q ∧ (nI i ≠ skip → oc_D R rf P i x → oc_D R rf P i y → oc_D R rf P i k)) ∨ (q' = 0 ∧ (q = 0 ∨ ¬ (nI i ≠ skip → oc_D R rf P i x → oc_D R rf P i y → oc_D R rf P i k))) → wY_allDominate_6 post (nI x) (nI y) skip (nI k) cap P R sz rf hd f q' (nI (i + 1)) := by
      intro q' hq'
      refine ih (i + 1) f q' (by omega) (by omega) ?_
      have ex : yc_ad R rf P x y skip k i → (nI i ≠ skip → oc_D R rf P i x → oc_D R rf P i y → oc_D R rf P i k) → yc_ad R rf P x y skip k (i + 1) := by
        intro g1 g2 a ha
        by_cases e : a = i
        · subst e; exact g2
        · exact g1 a (by omega)
      have dn : yc_ad R rf P x y skip k (i + 1) → yc_ad R rf P x y skip k i := fun g a ha => g a (by omega)
      rcases hq' with ⟨e, g⟩ | ⟨e, g⟩
      · subst e
        rcases hq with ⟨e, h⟩ | ⟨e, h⟩
        · exact Or.inl ⟨e, ex h g⟩
        · exact Or.inr ⟨e, fun w => h (dn w)⟩
      · right
        refine ⟨e, fun w => ?_⟩
        rcases g with g | g
        · rcases hq with ⟨e2, _⟩ | ⟨_, h⟩
          · rw [g] at e2; exact absurd e2 (by decide)
          · exact h (dn w)
        · exact g (w i (by omega))
    refine br_f (nI_ge (b := 16) (by omega) (by omega)) ?_
    by_cases es : nI i = skip
    · exact br_t es (nm_r (nI_1 i) (nx q (Or.inl ⟨rfl, fun w => absurd es w⟩)))
    · refine br_f es (ys_domN hR hrf (by omega) hx (fun d1 => ?_) (fun d1 => ?_))
      · refine br_f (by decide) (ys_domN hR hrf (by omega) hy (fun d2 => ?_) (fun d2 => ?_))
        · refine br_f (by decide) ?_
          by_cases e0 : q = 0
          · exact br_t e0 (nm_r (nI_1 i) (nx 0 (Or.inr ⟨rfl, Or.inl e0⟩)))
          · have e1 : q = 1 := hq.elim (fun w => w.1) (fun w => absurd w.1 e0)
            refine br_f e0 (ys_domN hR hrf (by omega) hk (fun d3 => ?_) (fun d3 => ?_))
            · exact br_f (by decide) (nm_r (nI_1 i) (nx 1 (Or.inl ⟨e1.symm, fun _ _ _ => d3⟩)))
            · exact br_t rfl (nm_r (nI_1 i) (nx 0 (Or.inr ⟨rfl, Or.inr (fun w => d3 (w es d1 d2))⟩)))
        · exact br_t rfl (nm_r (nI_1 i) (nx q (Or.inl ⟨rfl, fun _ _ w => absurd w d2⟩)))
      · exact br_t rfl (nm_r (nI_1 i) (nx q (Or.inl ⟨rfl, fun _ w => absurd w d1⟩)))
theorem ys_ad {post : Int32 → Prop} {x y k : Nat} {skip : Int32} (hR : ∀ i, bt R i = true → i < 16) (hrf : ∀ a i, a < 16 → bt (rf a) i = true → i < 16) (hx : x < 16) (hy : y < 16) (hk : k < 16) (h1 : yc_ad R rf P x y skip k 16 → post 1) (h0 : ¬ yc_ad R rf P x y skip k 16 → post 0) : wpY_allDominate post (cap, P, R, sz, rf, hd) (nI x) (nI y) skip (nI k) :=
  Exists.intro 17 (ys_adl hR hrf hx hy hk h1 h0 16 0 17 1 rfl (by omega) (Or.inl ⟨rfl, fun a h => absurd h (by omega)⟩))
theorem ys_keepl {post : Int32 → Prop} {x : Nat} (hR : ∀ i, bt R i = true → i < 16) (hrf : ∀ a i, a < 16 → bt (rf a) i = true → i < 16) (hx : x < 16) (h1 : ∀ k, k < 16 → k ≠ x → oc_D R rf P k x → yc_ad R rf P x x (nI x) k 16 → post (nI k)) (h0 : (∀ k, k < 16 → k ≠ x → oc_D R rf P k x → ¬ yc_ad R rf P x x (nI x) k 16) → post (-1)) :
    ∀ d i f, i + d = 16 → d < f → (∀ k, k < i → k ≠ x → oc_D R rf P k x → ¬ yc_ad R rf P x x (nI x) k 16) → wY_keeper_13 post (nI x) cap P R sz rf hd f (nI i) := by
  intro d
  induction d with
  | zero =>
    intro i f hi hf h
    obtain ⟨f, rfl⟩ : ∃ m, f = m + 1 := ⟨f - 1, by omega⟩
    have e : i = 16 := hi
    subst e
    exact br_t (nI_le (a := 16) (b := 16) (by omega) (by omega)) (h0 h)
  | succ d ih =>
    intro i f hi hf h
    obtain ⟨f, rfl⟩ : ∃ m, f = m + 1 := ⟨f - 1, by omega⟩
    have nx : (i ≠ x → oc_D R rf P i x → ¬ yc_ad R rf P x x (nI x) i 16) → wY_keeper_13 post (nI x) cap P R sz rf hd f (nI (i + 1)) := by
      intro g
      refine ih (i + 1) f (by omega) (by omega) (fun k hk => ?_)
      by_cases e : k = i
      · subst e; exact g
      · exact h k (by omega)
    refine br_f (nI_ge (b := 16) (by omega) (by omega)) ?_
    by_cases es : i = x
    · exact br_t (congrArg nI es) (nm_r (nI_1 i) (nx (fun w => absurd es w)))
    · refine br_f (fun w => es ((nI_eq (by omega) (by omega)).mp w)) (ys_domN hR hrf (by omega) hx (fun d1 => ?_) (fun d1 => ?_))
      · refine br_f (by decide) (ys_ad hR hrf hx hx (by omega) (fun d2 => ?_) (fun d2 => ?_))
        · exact br_f (by decide) (h1 i (by omega) es d1 d2)
        · exact br_t rfl (nm_r (nI_1 i) (nx (fun _ _ => d2)))
      · exact br_t rfl (nm_r (nI_1 i) (nx (fun _ w => absurd w d1)))
theorem ys_keeper {post : Int32 → Prop} {p0 : Int32} (hR : ∀ i, bt R i = true → i < 16) (hrf : ∀ a i, a < 16 → bt (rf a) i = true → i < 16) (hl : ∀ x, p0 = nI x → oc_R R rf P x → ((∀ k, k < 16 → k ≠ x → oc_D R rf P k x → yc_ad R rf P x x (nI x) k 16 → post (nI k)) ∧ ((∀ k, k < 16 → k ≠ x → oc_D R rf P k x → ¬ yc_ad R rf P x x (nI x) k 16) → post (-1)))) (hn : ¬ hs_lv R rf P p0 → post (-2)) : wpY_keeper post (cap, P, R, sz, rf, hd) p0 := by
  unfold wpY_keeper
  refine ys_isLive hR hrf (fun h => ?_) (fun h => br_t rfl (hn h))
  obtain ⟨x, e, hx⟩ := h
  obtain ⟨h1, h0⟩ := hl x e hx
  subst e
  exact br_f (by decide) ⟨17, ys_keepl hR hrf (oc_lt hx).1 h1 h0 16 0 17 rfl (by omega) (fun k h => absurd h (by omega))⟩
theorem ys_coml {post : Int32 → Prop} {x y : Nat} (hR : ∀ i, bt R i = true → i < 16) (hrf : ∀ a i, a < 16 → bt (rf a) i = true → i < 16) (hx : x < 16) (hy : y < 16) (h1 : ∀ k, k < 16 → oc_D R rf P k x → oc_D R rf P k y → yc_ad R rf P x y (-1) k 16 → post (nI k)) (h0 : (∀ k, k < 16 → oc_D R rf P k x → oc_D R rf P k y → ¬ yc_ad R rf P x y (-1) k 16) → post (-1)) :
    ∀ d i f, i + d = 16 → d < f → (∀ k, k < i → oc_D R rf P k x → oc_D R rf P k y → ¬ yc_ad R rf P x y (-1) k 16) → wY_common_21 post (nI x) (nI y) cap P R sz rf hd f (nI i) := by
  intro d
  induction d with
  | zero =>
    intro i f hi hf h
    obtain ⟨f, rfl⟩ : ∃ m, f = m + 1 := ⟨f - 1, by omega⟩
    have e : i = 16 := hi
    subst e
    exact br_t (nI_le (a := 16) (b := 16) (by omega) (by omega)) (h0 h)
  | succ d ih =>
    intro i f hi hf h
    obtain ⟨f, rfl⟩ : ∃ m, f = m + 1 := ⟨f - 1, by omega⟩
    have nx : (oc_D R rf P i x → oc_D R rf P i y → ¬ yc_ad R rf P x y (-1) i 16) → wY_common_21 post (nI x) (nI y) cap P R sz rf hd f (nI (i + 1)) := by
      intro g
      refine ih (i + 1) f (by omega) (by omega) (fun k hk => ?_)
      by_cases e : k = i
      · subst e; exact g
      · exact h k (by omega)
    refine br_f (nI_ge (b := 16) (by omega) (by omega)) (ys_domN hR hrf (by omega) hx (fun d1 => ?_) (fun d1 => ?_))
    · refine br_f (by decide) (ys_domN hR hrf (by omega) hy (fun d2 => ?_) (fun d2 => ?_))
      · refine br_f (by decide) (ys_ad hR hrf hx hy (by omega) (fun d3 => ?_) (fun d3 => ?_))
        · exact br_f (by decide) (h1 i (by omega) d1 d2 d3)
        · exact br_t rfl (nm_r (nI_1 i) (nx (fun _ _ => d3)))
      · exact br_t rfl (nm_r (nI_1 i) (nx (fun _ w => absurd w d2)))
    · exact br_t rfl (nm_r (nI_1 i) (nx (fun w => absurd w d1)))
theorem ys_common {post : Int32 → Prop} {p0 p1 : Int32} (hR : ∀ i, bt R i = true → i < 16) (hrf : ∀ a i, a < 16 → bt (rf a) i = true → i < 16) (hl : ∀ x y, p0 = nI x → p1 = nI y → oc_R R rf P x → oc_R R rf P y → ((∀ k, k < 16 → oc_D R rf P k x → oc_D R rf P k y → yc_ad R rf P x y (-1) k 16 → post (nI k)) ∧ ((∀ k, k < 16 → oc_D R rf P k x → oc_D R rf P k y → ¬ yc_ad R rf P x y (-1) k 16) → post (-1)))) (hn : ¬ (hs_lv R rf P p0 ∧ hs_lv R rf P p1) → post (-2)) : wpY_common post (cap, P, R, sz, rf, hd) p0 p1 := by
  unfold wpY_common
  refine ys_isLive hR hrf (fun h => ?_) (fun h => br_t rfl (hn (fun w => h w.1)))
  refine br_f (by decide) (ys_isLive hR hrf (fun h2 => ?_) (fun h2 => br_t rfl (hn (fun w => h2 w.2))))
  obtain ⟨x, e, hx⟩ := h
  obtain ⟨y, e2, hy⟩ := h2
  obtain ⟨h1, h0⟩ := hl x y e e2 hx hy
  subst e; subst e2
  exact br_f (by decide) ⟨17, ys_coml hR hrf (oc_lt hx).1 (oc_lt hy).1 h1 h0 16 0 17 rfl (by omega) (fun k h => absurd h (by omega))⟩
theorem ys_depl {post : Int32 → Prop} {x : Nat} (hR : ∀ i, bt R i = true → i < 16) (hrf : ∀ a i, a < 16 → bt (rf a) i = true → i < 16) (hx : x < 16) (h1 : post (nI (cn (fun a => a ≠ x ∧ oc_D R rf P a x) 16))) :
    ∀ d i f, i + d = 16 → d < f → wY_depth_15 post (nI x) cap P R sz rf hd f (nI (cn (fun a => a ≠ x ∧ oc_D R rf P a x) i)) (nI i) := by
  intro d
  induction d with
  | zero =>
    intro i f hi hf
    obtain ⟨f, rfl⟩ : ∃ m, f = m + 1 := ⟨f - 1, by omega⟩
    have e : i = 16 := hi
    subst e
    exact br_t (nI_le (a := 16) (b := 16) (by omega) (by omega)) h1
  | succ d ih =>
    intro i f hi hf
    obtain ⟨f, rfl⟩ : ∃ m, f = m + 1 := ⟨f - 1, by omega⟩
    have g := ih (i + 1) f (by omega) (by omega)
    have n0 : ¬ (i ≠ x ∧ oc_D R rf P i x) → nI (cn (fun a => a ≠ x ∧ oc_D R rf P a x) i) + 0 = nI (cn (fun a => a ≠ x ∧ oc_D R rf P a x) (i + 1)) := by
      intro w
      simp only [cn, b01_f w]
      rw [Int32.add_zero, Nat.add_zero]
    have n1 : (i ≠ x ∧ oc_D R rf P i x) → nI (cn (fun a => a ≠ x ∧ oc_D R rf P a x) i) + 1 = nI (cn (fun a => a ≠ x ∧ oc_D R rf P a x) (i + 1)) := by
      intro w
      simp only [cn, b01_t w]
      rw [nI_1]
    refine br_f (nI_ge (b := 16) (by omega) (by omega)) ?_
    by_cases es : i = x
    · exact br_t (congrArg nI es) (nm_r (n0 (fun w => w.1 es)) (nm_r (nI_1 i) g))
    · refine br_f (fun w => es ((nI_eq (by omega) (by omega)).mp w)) (ys_domN hR hrf (by omega) hx (fun d1 => ?_) (fun d1 => ?_))
      · exact br_f (by decide) (nm_r (n1 ⟨es, d1⟩) (nm_r (nI_1 i) g))
      · exact br_t rfl (nm_r (n0 (fun w => d1 w.2)) (nm_r (nI_1 i) g))
theorem ys_depth {post : Int32 → Prop} {p0 : Int32} (hR : ∀ i, bt R i = true → i < 16) (hrf : ∀ a i, a < 16 → bt (rf a) i = true → i < 16) (hl : ∀ x, p0 = nI x → oc_R R rf P x → post (nI (cn (fun a => a ≠ x ∧ oc_D R rf P a x) 16))) (hn : ¬ hs_lv R rf P p0 → post (-2)) : wpY_depth post (cap, P, R, sz, rf, hd) p0 := by
  unfold wpY_depth
  refine ys_isLive hR hrf (fun h => ?_) (fun h => br_t rfl (hn h))
  obtain ⟨x, e, hx⟩ := h
  have h1 := hl x e hx
  subst e
  exact br_f (by decide) ⟨17, ys_depl hR hrf (oc_lt hx).1 h1 16 0 17 rfl (by omega)⟩
theorem ys_sum {post : Int32 → Prop} {m : Int32} {z : Nat → Nat} (hz : ∀ x, x < 16 → sz x = nI (z x)) (h1 : post (nI (hs_sum z m 16))) :
    ∀ d i f, i + d = 16 → d < f → wY_retained_11 post m cap P R sz rf hd f (nI (hs_sum z m i)) (nI i) := by
  intro d
  induction d with
  | zero =>
    intro i f hi hf
    obtain ⟨f, rfl⟩ : ∃ m, f = m + 1 := ⟨f - 1, by omega⟩
    have e : i = 16 := hi
    subst e
    exact br_t (nI_le (a := 16) (b := 16) (by omega) (by omega)) h1
  | succ d ih =>
    intro i f hi hf
    obtain ⟨f, rfl⟩ : ∃ m, f = m + 1 := ⟨f - 1, by omega⟩
    have g := ih (i + 1) f (by omega) (by omega)
    refine br_f (nI_ge (b := 16) (by omega) (by omega)) ?_
    by_cases hb : bt m i = true
    · refine br_t (hb_z1 (by omega) hb) ⟨vp_in_nI (by omega) (by omega), nm_r (e' := nI (hs_sum z m (i + 1))) ?_ (nm_r (nI_1 i) g)⟩
      rw [nI_clamp (by omega), hz i (by omega), nI_add]
      simp only [hs_sum, if_pos hb]
    · refine br_f (hb_n1 (by omega) hb) (nm_r (e' := nI (hs_sum z m (i + 1))) ?_ (nm_r (nI_1 i) g))
      rw [Int32.add_zero]
      simp only [hs_sum, if_neg hb, Nat.add_zero]
theorem ys_ret {post : Int32 → Prop} {p0 : Int32} {z : Nat → Nat} (hR : ∀ i, bt R i = true → i < 16) (hrf : ∀ a i, a < 16 → bt (rf a) i = true → i < 16) (hz : ∀ x, x < 16 → sz x = nI (z x)) (h1 : ∀ x, p0 = nI x → oc_R R rf P x → post (nI (dn_sum (oc_D R rf P x) z 16))) (h0 : ¬ hs_lv R rf P p0 → post 0) : wpY_retained post (cap, P, R, sz, rf, hd) p0 := by
  unfold wpY_retained
  refine ys_kept hR hrf (fun x e hx m hm => ?_) (fun h => ?_)
  · refine ⟨17, ys_sum hz ?_ 16 0 17 rfl (by omega)⟩
    rw [hs_dn 16 (fun i _ => hm i)]
    exact h1 x e hx
  · refine ⟨17, ys_sum (m := 0) hz ?_ 16 0 17 rfl (by omega)⟩
    rw [hs_zero]
    exact h0 h
end
end
section
/-! the relation, and numberOf -/
def i_Rel (k : Nat) (u : SX) (v : SY) : Prop := match u, v with
  | (f_capacity, f_present, f_roots, f_known, f_met, a_sizes, a_out, a_in, a_order, a_number, a_parent, a_stack, a_semi, a_above, a_label, a_bucket, a_path, a_idom, a_level, a_under, a_held), (y_cap, y_there, y_roots, y_sizes, y_refs, y_held) => ∃ (c : Nat) (z : Nat → Nat), f_capacity = nI c ∧ y_cap = nI c ∧ y_there = f_present ∧ y_roots = f_roots ∧ hv_W c f_present f_roots a_out a_in y_refs a_sizes y_sizes z ∧ (f_known = 0 ∨ (f_known = 1 ∧ kn_E f_present f_roots y_refs z f_met a_order a_number a_idom a_level a_under a_held))
theorem i_up {k : Nat} {u : SX} {v : SY} (h : i_Rel k u v) : i_Rel (k + 3) u v := h
theorem hv_out {c : Nat} {P R : Int32} {out out' inn rf szX szY : Nat → Int32} {z : Nat → Nat} (W : hv_W c P R out inn rf szX szY z) (h : ∀ a, a < 16 → out' a = out a) : hv_W c P R out' inn rf szX szY z :=
  ⟨W.1, W.2.1, W.2.2.1, fun a ha => (h a ha).trans (W.2.2.2.1 a ha), W.2.2.2.2⟩
theorem hv_R {c : Nat} {P R : Int32} {out inn rf szX szY : Nat → Int32} {z : Nat → Nat} (W : hv_W c P R out inn rf szX szY z) : ∀ i, bt R i = true → i < 16 := fun i hi => by
  have h1 := W.2.1 i (W.2.2.1 i hi)
  have h2 := W.1.2
  omega
theorem hv_rf {c : Nat} {P R : Int32} {out inn rf szX szY : Nat → Int32} {z : Nat → Nat} (W : hv_W c P R out inn rf szX szY z) : ∀ a i, a < 16 → bt (rf a) i = true → i < 16 := fun a i ha hi => by
  have h1 := W.2.1 i (W.2.2.2.2.1 a i ha hi).2
  have h2 := W.1.2
  omega
section
variable {f_capacity f_present f_roots f_known f_met : Int32} {a_sizes a_out a_in a_order a_number a_parent a_stack a_semi a_above a_label a_bucket a_path a_idom a_level a_under a_held : Nat → Int32}
variable {y_sizes y_refs y_held : Nat → Int32}
theorem re_in {k c : Nat} {z : Nat → Nat} (W : hv_W c f_present f_roots a_out a_in y_refs a_sizes y_sizes z) (hk : f_known = 0 ∨ (f_known = 1 ∧ kn_E f_present f_roots y_refs z f_met a_order a_number a_idom a_level a_under a_held)) : i_Rel k (nI c, f_present, f_roots, f_known, f_met, a_sizes, a_out, a_in, a_order, a_number, a_parent, a_stack, a_semi, a_above, a_label, a_bucket, a_path, a_idom, a_level, a_under, a_held) (nI c, f_present, f_roots, y_sizes, y_refs, y_held) :=
  Exists.intro c ⟨z, rfl, rfl, rfl, rfl, W, hk⟩
end
theorem re_el {Q : SX → SY → Prop} (h : ∀ (c : Nat) (z : Nat → Nat) (f_present f_roots f_known f_met : Int32) (a_sizes a_out a_in a_order a_number a_parent a_stack a_semi a_above a_label a_bucket a_path a_idom a_level a_under a_held y_sizes y_refs y_held : Nat → Int32), hv_W c f_present f_roots a_out a_in y_refs a_sizes y_sizes z → (f_known = 0 ∨ (f_known = 1 ∧ kn_E f_present f_roots y_refs z f_met a_order a_number a_idom a_level a_under a_held)) → Q (nI c, f_present, f_roots, f_known, f_met, a_sizes, a_out, a_in, a_order, a_number, a_parent, a_stack, a_semi, a_above, a_label, a_bucket, a_path, a_idom, a_level, a_under, a_held) (nI c, f_present, f_roots, y_sizes, y_refs, y_held)) {k : Nat} {u : SX} {v : SY} (I : i_Rel k u v) : Q u v :=
  match u, v, I with
  | (f_capacity, f_present, f_roots, f_known, f_met, a_sizes, a_out, a_in, a_order, a_number, a_parent, a_stack, a_semi, a_above, a_label, a_bucket, a_path, a_idom, a_level, a_under, a_held), (y_cap, y_there, y_roots, y_sizes, y_refs, y_held), ⟨c, z, e1, e2, e3, e4, W, hk⟩ => by
    subst e1; subst e2; subst e3; subst e4
    exact h c z _ _ _ _ _ _ _ _ _ _ _ _ _ _ _ _ _ _ _ _ _ _ _ W hk
section
variable {f_capacity f_present f_roots f_known f_met : Int32} {a_sizes a_out a_in a_order a_number a_parent a_stack a_semi a_above a_label a_bucket a_path a_idom a_level a_under a_held : Nat → Int32}
variable {c : Nat} {rf szY : Nat → Int32} {z : Nat → Nat}
theorem xa_num {post : Int32 → SX → Prop} {p0 : Int32} (W : hv_W c f_present f_roots a_out a_in rf a_sizes szY z) (hk : f_known = 0 ∨ (f_known = 1 ∧ kn_E f_present f_roots rf z f_met a_order a_number a_idom a_level a_under a_held))
    (K0 : ∀ known met out order number parent stack semi above label bucket path idom level under held, (∀ a, a < 16 → out a = a_out a) → (known = 0 ∨ (known = 1 ∧ kn_E f_present f_roots rf z met order number idom level under held)) → ¬ hs_lv f_roots rf f_present p0 → post (-1) (nI c, f_present, f_roots, known, met, a_sizes, out, a_in, order, number, parent, stack, semi, above, label, bucket, path, idom, level, under, held))
    (K1 : ∀ n od im v out order number parent stack semi above label bucket path idom level under held, (∀ a, a < 16 → out a = a_out a) → kn_I f_present f_roots rf z n od im order number idom level under held → p0 = nI (od v) → 0 < v → v < n → post (nI v) (nI c, f_present, f_roots, 1, nI n, a_sizes, out, a_in, order, number, parent, stack, semi, above, label, bucket, path, idom, level, under, held)) :
    wpX_numberOf post (nI c, f_present, f_roots, f_known, f_met, a_sizes, a_out, a_in, a_order, a_number, a_parent, a_stack, a_semi, a_above, a_label, a_bucket, a_path, a_idom, a_level, a_under, a_held) p0 := by
  unfold wpX_numberOf
  refine xs_has W.1.2 W.2.1 (fun h => ?_) (fun h => ?_)
  · obtain ⟨x, hx, e, hb⟩ := h
    refine br_f (by decide) (xf_find W hk (fun met out order number parent stack semi above label bucket path idom level under held ho hkn => ?_))
    subst e
    refine And.intro (vp_in_nI (by omega) (by omega)) ?_
    obtain ⟨n, od, im, em, kn⟩ := hkn
    rcases kn.2.1 x hx with ⟨q1, q2⟩ | ⟨v, v0, hv, ev, q⟩
    · rw [nI_clamp (by omega), q2]
      exact K0 1 met out order number parent stack semi above label bucket path idom level under held ho (Or.inr ⟨rfl, n, od, im, em, kn⟩) (fun w => q1 ((hs_lvN (by omega)).mp w))
    · rw [nI_clamp (by omega), q]
      subst em
      exact K1 n od im v out order number parent stack semi above label bucket path idom level under held ho kn (by rw [ev]) v0 hv
  · refine br_t rfl (K0 _ _ _ _ _ _ _ _ _ _ _ _ _ _ _ _ (fun _ _ => rfl) hk ?_)
    rintro ⟨x, e, hx⟩
    exact h ⟨x, (oc_lt hx).1, e, (oc_lt hx).2⟩
/-- numberOf when the walk is known -/
theorem xa_num1 {post : Int32 → SX → Prop} {p0 : Int32} {n : Nat} {od im : Nat → Nat} (W : hv_W c f_present f_roots a_out a_in rf a_sizes szY z) (kn : kn_I f_present f_roots rf z n od im a_order a_number a_idom a_level a_under a_held)
    (K0 : ¬ hs_lv f_roots rf f_present p0 → post (-1) (nI c, f_present, f_roots, 1, nI n, a_sizes, a_out, a_in, a_order, a_number, a_parent, a_stack, a_semi, a_above, a_label, a_bucket, a_path, a_idom, a_level, a_under, a_held))
    (K1 : ∀ v, p0 = nI (od v) → 0 < v → v < n → post (nI v) (nI c, f_present, f_roots, 1, nI n, a_sizes, a_out, a_in, a_order, a_number, a_parent, a_stack, a_semi, a_above, a_label, a_bucket, a_path, a_idom, a_level, a_under, a_held)) :
    wpX_numberOf post (nI c, f_present, f_roots, 1, nI n, a_sizes, a_out, a_in, a_order, a_number, a_parent, a_stack, a_semi, a_above, a_label, a_bucket, a_path, a_idom, a_level, a_under, a_held) p0 := by
  unfold wpX_numberOf
  refine xs_has W.1.2 W.2.1 (fun h => ?_) (fun h => ?_)
  · obtain ⟨x, hx, e, hb⟩ := h
    refine br_f (by decide) ?_
    unfold wpX_find
    refine br_f (by decide) ?_
    subst e
    refine And.intro (vp_in_nI (by omega) (by omega)) ?_
    rcases kn.2.1 x hx with ⟨q1, q2⟩ | ⟨v, v0, hv, ev, q⟩
    · rw [nI_clamp (by omega), q2]
      exact K0 (fun w => q1 ((hs_lvN (by omega)).mp w))
    · rw [nI_clamp (by omega), q]
      exact K1 v (by rw [ev]) v0 hv
  · refine br_t rfl (K0 ?_)
    rintro ⟨x, e, hx⟩
    exact h ⟨x, (oc_lt hx).1, e, (oc_lt hx).2⟩
end
/-! facts of a known tree -/
section
variable {P R : Int32} {rf : Nat → Int32} {z : Nat → Nat} {n : Nat} {od im : Nat → Nat} {order number idom level under held : Nat → Int32}
theorem kn_inj (kn : kn_I P R rf z n od im order number idom level under held) {u w : Nat} (u0 : 0 < u) (hu : u < n) (w0 : 0 < w) (hw : w < n) (e : od u = od w) : u = w := by
  have h1 := (kn.2.2.1 u u0 hu).2.2.2
  have h2 := (kn.2.2.1 w w0 hw).2.2.2
  have h3 := kn.1.2.1
  rw [e, h2] at h1
  exact hb_neq (by omega) (by omega) h1.symm
theorem kn_v (kn : kn_I P R rf z n od im order number idom level under held) {x : Nat} (h : oc_R R rf P x) : ∃ v, 0 < v ∧ v < n ∧ od v = x := by
  rcases kn.2.1 x (oc_lt h).1 with ⟨q, _⟩ | ⟨v, a, b, e, _⟩
  · exact absurd h q
  · exact ⟨v, a, b, e⟩
theorem kn_le (kn : kn_I P R rf z n od im order number idom level under held) {d : Nat} (d0 : 0 < d) (hd : d < n) : ∀ w, 0 < w → w < n → oc_D R rf P (od d) (od w) → d ≤ w := by
  intro w
  induction w using Nat.strongRecOn with
  | _ w ih =>
    intro w0 hw h
    obtain ⟨_, i1, i2⟩ := kn.2.2.2.1 w w0 hw
    rcases (i2 _).mp h with e | ⟨e, h2⟩
    · have := kn_inj kn d0 hd w0 hw e
      omega
    · have := ih (im w) i1 e (by omega) h2
      omega
theorem kn_rf (kn : kn_I P R rf z n od im order number idom level under held) {w : Nat} (w0 : 0 < w) (hw : w < n) : oc_D R rf P (od w) (od w) := ((kn.2.2.2.1 w w0 hw).2.2 _).mpr (Or.inl rfl)
theorem kn_as (kn : kn_I P R rf z n od im order number idom level under held) {a b : Nat} (h : oc_D R rf P a b) (h2 : oc_D R rf P b a) : a = b := by
  obtain ⟨u, u0, hu, e⟩ := kn_v kn h.1
  obtain ⟨w, w0, hw, e2⟩ := kn_v kn h2.1
  subst e; subst e2
  have h3 := kn_le kn u0 hu w w0 hw h
  have h4 := kn_le kn w0 hw u u0 hu h2
  rw [show u = w by omega]
theorem kn_ub (kn : kn_I P R rf z n od im order number idom level under held) {v : Nat} (v0 : 0 < v) (hv : v < n) (x : Nat) : bt (under v) x = true ↔ oc_D R rf P (od v) x := by
  rw [kn.2.2.2.2.1 v hv x]
  exact ⟨fun h => h.2.elim (fun e => by omega) id, fun h => ⟨h.2.1, Or.inr h⟩⟩
theorem kn_m {P R : Int32} {rf : Nat → Int32} {m m' : Int32} {Q : Nat → Prop} (h : ∀ i, bt m i = true ↔ Q i) (h' : ∀ i, bt m' i = true ↔ Q i) : m = m' :=
  b_ext fun i _ => by
    have := (h i).trans (h' i).symm
    cases e : bt m i <;> cases e' : bt m' i <;> simp_all
theorem kn_held (kn : kn_I P R rf z n od im order number idom level under held) {v : Nat} (v0 : 0 < v) (hv : v < n) : held v = nI (dn_sum (oc_D R rf P (od v)) z 16) := by
  rw [kn.2.2.2.2.2.1 v hv, hs_dn 16 (fun i _ => kn_ub kn v0 hv i)]
end
end
section
/-! the methods that change the heap -/
theorem hb_an (x s : Int32) (i : Nat) : bt (x &&& (s ^^^ (-1))) i = (bt x i && !bt s i) := by
  by_cases hi : i < 32
  · rw [b_and, hb_not s hi]
  · rw [b_big (by omega), b_big (by omega)]; rfl
theorem hb_bb {a b : Bool} (h : a = true ↔ b = true) : a = b := by cases a <;> cases b <;> simp_all
theorem i_vc0 (k0 : Int32) : wpX_init (fun u => wpY_init (fun v => i_Rel 1 u v) k0) k0 := by
  have W : ∀ c, 1 ≤ c → c ≤ 16 → hv_W c 0 0 (fun _ => 0) (fun _ => 0) (fun _ => 0) (fun _ => 0) (fun _ => 0) (fun _ => 0) := by
    intro c h1 h2
    refine ⟨⟨h1, h2⟩, fun i h => ?_, fun i h => h, fun _ _ => rfl, fun a i _ h => ?_, fun b i _ => ?_, fun x _ => ⟨nI_0.symm, nI_0.symm, Nat.zero_le _⟩⟩
    · rw [b_0] at h; exact absurd h (by decide)
    · rw [b_0] at h; exact absurd h (by decide)
    · rw [b_0, b_0]; exact ⟨fun h => absurd h (by decide), fun h => absurd h.2 (by decide)⟩
  refine br_c (fun h1 => br_c (fun h16 => ?_) (fun h16 => ?_)) (fun h1 => ?_)
  · have hn : ¬ k0 < 0 := by
      rw [Int32.lt_iff_toInt_lt]
      rw [Int32.le_iff_toInt_le] at h1
      have e1 : (1 : Int32).toInt = 1 := by decide
      have e0 : (0 : Int32).toInt = 0 := by decide
      omega
    obtain ⟨c, hc, e⟩ := nI_of2 (M := 16) (n := 16) (by decide) hn h16
    subst e
    have hc1 : 1 ≤ c := by
      rcases Nat.eq_zero_or_pos c with z | z
      · subst z; exact absurd h1 (by decide)
      · exact z
    exact br_t h1 (br_t h16 (re_in (W c hc1 hc) (Or.inl rfl)))
  · exact br_t h1 (br_f h16 (re_in (c := 16) (W 16 (by omega) (by omega)) (Or.inl rfl)))
  · exact br_f h1 (re_in (c := 1) (W 1 (by omega) (by omega)) (Or.inl rfl))
theorem i_vc_objects {k : Nat} {u : SX} {v : SY} (I : i_Rel k u v) (hk : k + 3 ≤ 1537) : wpX_objects (fun r => wpY_objects (fun r' => r' = r ∧ i_Rel (k + 3) u v) v) u := by
  refine re_el (Q := fun u v => wpX_objects (fun r => wpY_objects (fun r' => r' = r ∧ i_Rel (k + 3) u v) v) u) ?_ I
  intro c z f_present f_roots f_known f_met a_sizes a_out a_in a_order a_number a_parent a_stack a_semi a_above a_label a_bucket a_path a_idom a_level a_under a_held y_sizes y_refs y_held W hkn
  exact And.intro rfl (re_in W hkn)
section
variable {c : Nat} {P R : Int32} {out inn rf szX szY : Nat → Int32} {z : Nat → Nat}
theorem hv_mk (W : hv_W c P R out inn rf szX szY z) {x s : Nat} (hx : x < c) (hb : bt P x = false) (hs : s ≤ 100) : R &&& (((1 : Int32) <<< (nI x &&& 31)) ^^^ (-1)) = R ∧ hv_W c (P ||| ((1 : Int32) <<< (nI x &&& 31))) R (upd out x 0) (upd inn x 0) (upd rf x 0) (upd szX x (nI s)) (upd szY x (nI s)) (fu z x s) := by
  obtain ⟨⟨w1, w2⟩, w3, w4, w5, w6, w7, w8⟩ := W
  have hnb : ¬ bt P x = true := by rw [hb]; decide
  have pb : ∀ i, bt (P ||| ((1 : Int32) <<< (nI x &&& 31))) i = true ↔ bt P i = true ∨ i = x := by
    intro i
    rw [b_or, Bool.or_eq_true, hb_one (by omega), decide_eq_true_eq]
  refine ⟨b_ext fun i _ => ?_, ⟨w1, w2⟩, fun i h => ?_, fun i h => (pb i).mpr (Or.inl (w4 i h)), fun a ha => ?_, fun a i ha h => ?_, fun b i hb' => ?_, fun y hy => ?_⟩
  · rw [hb_an, hb_one (by omega)]
    by_cases e : i = x
    · subst e
      cases q : bt R i with
      | false => rfl
      | true => exact absurd (w4 i q) hnb
    · rw [decide_eq_false e]; simp
  · rcases (pb i).mp h with q | q
    · exact w3 i q
    · omega
  · by_cases e : a = x
    · subst e; rw [pk_us, pk_us]
    · rw [pk_un e, pk_un e]; exact w5 a ha
  · by_cases e : a = x
    · subst e; rw [pk_us, b_0] at h; exact absurd h (by decide)
    · rw [pk_un e] at h
      have := w6 a i ha h
      exact ⟨(pb a).mpr (Or.inl this.1), (pb i).mpr (Or.inl this.2)⟩
  · by_cases e : b = x
    · subst e
      rw [pk_us, b_0]
      refine ⟨fun q => absurd q (by decide), fun q => ?_⟩
      by_cases e2 : i = b
      · subst e2; rw [pk_us, b_0] at q; exact q.2
      · rw [pk_un e2] at q
        exact absurd (w6 i b q.1 q.2).2 hnb
    · rw [pk_un e, w7 b i hb']
      by_cases e2 : i = x
      · subst e2
        rw [pk_us, b_0]
        exact ⟨fun q => absurd (w6 i b q.1 q.2).1 hnb, fun q => absurd q.2 (by decide)⟩
      · rw [pk_un e2]
  · by_cases e : y = x
    · subst e; rw [pk_us, pk_us, fu_s]; exact ⟨rfl, rfl, hs⟩
    · rw [pk_un e, pk_un e, fu_n e]; exact w8 y hy
theorem hv_rm (W : hv_W c P R out inn rf szX szY z) {set : Int32} {o q r : Nat → Int32} (ho : ∀ a, a < 16 → rm_ok set out o a) (hq : ∀ a, a < 16 → rm_ok set inn q a) (hr : ∀ a, a < 16 → ∀ i, bt (r a) i = (bt (rf a) i && !(bt set i) && !(bt set a))) : hv_W c (P &&& (set ^^^ (-1))) (R &&& (set ^^^ (-1))) o q r szX szY z := by
  have hrf := hv_rf W
  obtain ⟨w12, w3, w4, w5, w6, w7, w8⟩ := W
  have hr' : ∀ a i, a < 16 → (bt (r a) i = true ↔ bt (rf a) i = true ∧ bt set i = false ∧ bt set a = false) := by
    intro a i ha
    rw [hr a ha i, Bool.and_eq_true, Bool.and_eq_true, Bool.not_eq_true', Bool.not_eq_true']
    exact and_assoc
  have pb : ∀ X i, bt (X &&& (set ^^^ (-1))) i = true ↔ bt X i = true ∧ bt set i = false := by
    intro X i
    rw [hb_an, Bool.and_eq_true, Bool.not_eq_true']
  refine ⟨w12, fun i h => w3 i ((pb P i).mp h).1, fun i h => ?_, fun a ha => b_ext fun i _ => ?_, fun a i ha h => ?_, fun b i hb => ?_, w8⟩
  · rw [pb] at h ⊢
    exact ⟨w4 i h.1, h.2⟩
  · rw [ho a ha i, hr a ha i, w5 a ha]
    cases e : bt (rf a) i with
    | false => rfl
    | true => rw [decide_eq_true (hrf a i ha e)]; simp
  · rw [hr' a i ha] at h
    have := w6 a i ha h.1
    exact ⟨(pb P a).mpr ⟨this.1, h.2.2⟩, (pb P i).mpr ⟨this.2, h.2.1⟩⟩
  · rw [hq b hb i, Bool.and_eq_true, Bool.and_eq_true, Bool.and_eq_true, Bool.not_eq_true', Bool.not_eq_true', decide_eq_true_eq, w7 b i hb]
    constructor
    · rintro ⟨⟨⟨⟨h1, h2⟩, h3⟩, h4⟩, h5⟩
      exact ⟨h1, (hr' i b h1).mpr ⟨h2, h4, h3⟩⟩
    · rintro ⟨h1, h2⟩
      rw [hr' i b h1] at h2
      exact ⟨⟨⟨⟨h1, h2.1⟩, h2.2.2⟩, h2.2.1⟩, h1⟩
theorem ry_b {x : Nat} {r : Nat → Int32} (hx : x < 16) (h : ∀ a, a < 16 → ry_ok x rf r a) : ∀ a, a < 16 → ∀ i, bt (r a) i = (bt (rf a) i && !(bt ((1 : Int32) <<< (nI x &&& 31)) i) && !(bt ((1 : Int32) <<< (nI x &&& 31)) a)) := by
  intro a ha i
  rw [h a ha, hb_one (by omega) i, hb_one (by omega) a]
  by_cases e : a = x
  · rw [if_pos e, b_0, decide_eq_true e]; simp
  · rw [if_neg e, decide_eq_false e, hb_an, hb_one (by omega)]; simp
theorem hv_rt (W : hv_W c P R out inn rf szX szY z) {R' : Int32} (h : ∀ i, bt R' i = true → bt P i = true) : hv_W c P R' out inn rf szX szY z := ⟨W.1, W.2.1, h, W.2.2.2⟩
theorem hv_ref (W : hv_W c P R out inn rf szX szY z) {a b : Nat} (ha : a < 16) (hb : b < 16) (pa : bt P a = true) (pb : bt P b = true) :
    vp_nar .char (((out a ||| ((1 : Int32) <<< (nI b &&& 31))).toUInt32 % 65536).toInt32) = rf a ||| ((1 : Int32) <<< (nI b &&& 31)) ∧
    vp_nar .char (((inn b ||| ((1 : Int32) <<< (nI a &&& 31))).toUInt32 % 65536).toInt32) = inn b ||| ((1 : Int32) <<< (nI a &&& 31)) ∧
    hv_W c P R (upd out a (rf a ||| ((1 : Int32) <<< (nI b &&& 31)))) (upd inn b (inn b ||| ((1 : Int32) <<< (nI a &&& 31)))) (upd rf a (rf a ||| ((1 : Int32) <<< (nI b &&& 31)))) szX szY z := by
  have hrf := hv_rf W
  obtain ⟨w12, w3, w4, w5, w6, w7, w8⟩ := W
  have ob : ∀ (X : Int32) (y : Nat), y < 16 → ∀ i, bt (X ||| ((1 : Int32) <<< (nI y &&& 31))) i = true ↔ bt X i = true ∨ i = y := by
    intro X y hy i
    rw [b_or, Bool.or_eq_true, hb_one (by omega), decide_eq_true_eq]
  refine ⟨?_, ?_, w12, w3, w4, fun x hx => ?_, fun x i hx h => ?_, fun y i hy => ?_, w8⟩
  · rw [w5 a ha]
    refine hb_ch fun i h => ?_
    rcases (ob _ b hb i).mp h with q | q
    · exact hrf a i ha q
    · omega
  · refine hb_ch fun i h => ?_
    rcases (ob _ a ha i).mp h with q | q
    · exact ((w7 b i hb).mp q).1
    · omega
  · by_cases e : x = a
    · subst e; rw [pk_us, pk_us]
    · rw [pk_un e, pk_un e]; exact w5 x hx
  · by_cases e : x = a
    · subst e
      rw [pk_us] at h
      rcases (ob _ b hb i).mp h with q | q
      · exact w6 x i hx q
      · subst q; exact ⟨pa, pb⟩
    · rw [pk_un e] at h; exact w6 x i hx h
  · by_cases e : y = b
    · subst e
      rw [pk_us, ob _ a ha i, w7 y i hy]
      by_cases e2 : i = a
      · subst e2
        rw [pk_us, ob _ y hy y]
        exact ⟨fun _ => ⟨ha, Or.inr rfl⟩, fun _ => Or.inr rfl⟩
      · rw [pk_un e2]
        exact ⟨fun q => q.elim id (fun w => absurd w e2), Or.inl⟩
    · rw [pk_un e, w7 y i hy]
      by_cases e2 : i = a
      · subst e2
        rw [pk_us, ob _ b hb y]
        exact ⟨fun q => ⟨q.1, Or.inl q.2⟩, fun q => ⟨q.1, q.2.elim id (fun w => absurd w e)⟩⟩
      · rw [pk_un e2]
theorem hv_for (W : hv_W c P R out inn rf szX szY z) {a b : Nat} (ha : a < 16) (hb : b < 16) :
    vp_nar .char (((out a &&& (((1 : Int32) <<< (nI b &&& 31)) ^^^ (-1))).toUInt32 % 65536).toInt32) = rf a &&& (((1 : Int32) <<< (nI b &&& 31)) ^^^ (-1)) ∧
    vp_nar .char (((inn b &&& (((1 : Int32) <<< (nI a &&& 31)) ^^^ (-1))).toUInt32 % 65536).toInt32) = inn b &&& (((1 : Int32) <<< (nI a &&& 31)) ^^^ (-1)) ∧
    hv_W c P R (upd out a (rf a &&& (((1 : Int32) <<< (nI b &&& 31)) ^^^ (-1)))) (upd inn b (inn b &&& (((1 : Int32) <<< (nI a &&& 31)) ^^^ (-1)))) (upd rf a (rf a &&& (((1 : Int32) <<< (nI b &&& 31)) ^^^ (-1)))) szX szY z := by
  have hrf := hv_rf W
  obtain ⟨w12, w3, w4, w5, w6, w7, w8⟩ := W
  have ob : ∀ (X : Int32) (y : Nat), y < 16 → ∀ i, bt (X &&& (((1 : Int32) <<< (nI y &&& 31)) ^^^ (-1))) i = true ↔ bt X i = true ∧ i ≠ y := by
    intro X y hy i
    rw [hb_an, Bool.and_eq_true, Bool.not_eq_true', hb_one (by omega), decide_eq_false_iff_not]
  refine ⟨?_, ?_, w12, w3, w4, fun x hx => ?_, fun x i hx h => ?_, fun y i hy => ?_, w8⟩
  · rw [w5 a ha]
    exact hb_ch fun i h => hrf a i ha ((ob _ b hb i).mp h).1
  · exact hb_ch fun i h => ((w7 b i hb).mp ((ob _ a ha i).mp h).1).1
  · by_cases e : x = a
    · subst e; rw [pk_us, pk_us]
    · rw [pk_un e, pk_un e]; exact w5 x hx
  · by_cases e : x = a
    · subst e
      rw [pk_us] at h
      exact w6 x i hx ((ob _ b hb i).mp h).1
    · rw [pk_un e] at h; exact w6 x i hx h
  · by_cases e : y = b
    · subst e
      rw [pk_us, ob _ a ha i, w7 y i hy]
      by_cases e2 : i = a
      · subst e2
        rw [pk_us, ob _ y hy y]
        exact ⟨fun q => absurd rfl q.2, fun q => absurd rfl q.2.2⟩
      · rw [pk_un e2]
        exact ⟨fun q => q.1, fun q => ⟨q, e2⟩⟩
    · rw [pk_un e, w7 y i hy]
      by_cases e2 : i = a
      · subst e2
        rw [pk_us, ob _ b hb y]
        exact ⟨fun q => ⟨q.1, q.2, e⟩, fun q => ⟨q.1, q.2.1⟩⟩
      · rw [pk_un e2]
end
end
section
/-! the owed statements of the methods that change the heap -/
theorem i_vc_make {k : Nat} {u : SX} {v : SY} (I : i_Rel k u v) (hk : k + 3 ≤ 1537) (v1 : Int32) : wpX_make (fun r u' => wpY_make (fun r' v' => r' = r ∧ i_Rel (k + 3) u' v') v v1) u v1 := by
  refine re_el (Q := fun u v => wpX_make (fun r u' => wpY_make (fun r' v' => r' = r ∧ i_Rel (k + 3) u' v') v v1) u v1) ?_ I
  intro c z f_present f_roots f_known f_met a_sizes a_out a_in a_order a_number a_parent a_stack a_semi a_above a_label a_bucket a_path a_idom a_level a_under a_held y_sizes y_refs y_held W hkn
  by_cases h1 : v1 < 1
  · exact br_t h1 (br_t h1 ⟨rfl, re_in W hkn⟩)
  · by_cases h100 : v1 ≤ 100
    · have hn : ¬ v1 < 0 := by
        rw [Int32.lt_iff_toInt_lt] at h1 ⊢
        have e1 : (1 : Int32).toInt = 1 := by decide
        have e0 : (0 : Int32).toInt = 0 := by decide
        omega
      obtain ⟨s, hs, e⟩ := nI_of2 (M := 100) (n := 100) (by decide) hn h100
      subst e
      obtain ⟨x, hx1, hx2⟩ := pk_least (fun j => j = c ∨ bt f_present j = false) ⟨c, Or.inl rfl⟩
      have hxc : x ≤ c := Nat.le_of_not_lt fun q => hx2 c q (Or.inl rfl)
      have hall : ∀ j, j < x → bt f_present j = true := by
        intro j hj
        have := hx2 j hj
        cases q : bt f_present j with
        | false => exact absurd (Or.inr q) this
        | true => rfl
      have hxb : x < c → bt f_present x = false := fun q => hx1.elim (fun w => absurd w (Nat.ne_of_lt q)) id
      have hc := W.1.2
      refine br_f h1 (br_t h100 ⟨x + 1, xs_mk hc hs W.2.1 hxc hall hxb (fun e => ?_) (fun e => ?_) x 0 (x + 1) (by omega) (by omega)⟩)
      · exact br_f h1 (br_t h100 ⟨x + 1, ys_mk hc hxc hall hxb (fun _ => ⟨rfl, re_in W hkn⟩) (fun q => absurd e (Nat.ne_of_lt q)) x 0 (x + 1) (by omega) (by omega)⟩)
      · obtain ⟨eR, W'⟩ := hv_mk W e (hxb e) hs
        rw [eR]
        exact br_f h1 (br_t h100 ⟨x + 1, ys_mk hc hxc hall hxb (fun q => absurd q (Nat.ne_of_lt e)) (fun _ => ⟨rfl, re_in W' (Or.inl rfl)⟩) x 0 (x + 1) (by omega) (by omega)⟩)
    · exact br_f h1 (br_f h100 (br_f h1 (br_f h100 ⟨rfl, re_in W hkn⟩)))
theorem i_vc_destroy {k : Nat} {u : SX} {v : SY} (I : i_Rel k u v) (hk : k + 3 ≤ 1537) (v1 : Int32) : wpX_destroy (fun r u' => wpY_destroy (fun r' v' => r' = r ∧ i_Rel (k + 3) u' v') v v1) u v1 := by
  refine re_el (Q := fun u v => wpX_destroy (fun r u' => wpY_destroy (fun r' v' => r' = r ∧ i_Rel (k + 3) u' v') v v1) u v1) ?_ I
  intro c z f_present f_roots f_known f_met a_sizes a_out a_in a_order a_number a_parent a_stack a_semi a_above a_label a_bucket a_path a_idom a_level a_under a_held y_sizes y_refs y_held W hkn
  unfold wpX_destroy
  refine xs_has W.1.2 W.2.1 (fun h => ?_) (fun h => ?_)
  · obtain ⟨x, hx, e, hb⟩ := h
    subst e
    refine br_f (by decide) (xs_rm (fun o q ho hq => ?_))
    exact ys_d hx hb (fun r hr => ⟨rfl, re_in (hv_rm W ho hq (ry_b hx hr)) (Or.inl rfl)⟩)
  · refine br_t rfl ?_
    unfold wpY_destroy
    exact ys_is (fun q => absurd q h) (fun _ => br_t rfl ⟨rfl, re_in W hkn⟩)
theorem i_vc_setRoot {k : Nat} {u : SX} {v : SY} (I : i_Rel k u v) (hk : k + 3 ≤ 1537) (v1 : Int32) (v2 : Int32) : wpX_setRoot (fun r u' => wpY_setRoot (fun r' v' => r' = r ∧ i_Rel (k + 3) u' v') v v1 (lw_bz v2)) u v1 (lw_bz v2) := by
  refine re_el (Q := fun u v => wpX_setRoot (fun r u' => wpY_setRoot (fun r' v' => r' = r ∧ i_Rel (k + 3) u' v') v v1 (lw_bz v2)) u v1 (lw_bz v2)) ?_ I
  intro c z f_present f_roots f_known f_met a_sizes a_out a_in a_order a_number a_parent a_stack a_semi a_above a_label a_bucket a_path a_idom a_level a_under a_held y_sizes y_refs y_held W hkn
  unfold wpX_setRoot
  refine xs_has W.1.2 W.2.1 (fun h => ?_) (fun h => ?_)
  · have h' := h
    obtain ⟨x, hx, e, hb⟩ := h'
    refine br_f (by decide) ?_
    by_cases e0 : lw_bz v2 = 0
    · refine br_t e0 (nm_e ?_)
      unfold wpY_setRoot
      refine ys_is (fun _ => br_f (by decide) (br_t e0 (nm_e ⟨rfl, re_in (hv_rt W (fun i q => ?_)) (Or.inl rfl)⟩))) (fun q => absurd h q)
      rw [hb_an, Bool.and_eq_true] at q
      exact W.2.2.1 i q.1
    · refine br_f e0 (nm_e ?_)
      unfold wpY_setRoot
      refine ys_is (fun _ => br_f (by decide) (br_f e0 (nm_e ⟨rfl, re_in (hv_rt W (fun i q => ?_)) (Or.inl rfl)⟩))) (fun q => absurd h q)
      subst e
      rw [b_or, Bool.or_eq_true, hb_one (by omega), decide_eq_true_eq] at q
      rcases q with q | q
      · exact W.2.2.1 i q
      · rw [q]; exact hb
  · refine br_t rfl ?_
    unfold wpY_setRoot
    exact ys_is (fun q => absurd q h) (fun _ => br_t rfl ⟨rfl, re_in W hkn⟩)
theorem i_vc_refer {k : Nat} {u : SX} {v : SY} (I : i_Rel k u v) (hk : k + 3 ≤ 1537) (v1 : Int32) (v2 : Int32) : wpX_refer (fun r u' => wpY_refer (fun r' v' => r' = r ∧ i_Rel (k + 3) u' v') v v1 v2) u v1 v2 := by
  refine re_el (Q := fun u v => wpX_refer (fun r u' => wpY_refer (fun r' v' => r' = r ∧ i_Rel (k + 3) u' v') v v1 v2) u v1 v2) ?_ I
  intro c z f_present f_roots f_known f_met a_sizes a_out a_in a_order a_number a_parent a_stack a_semi a_above a_label a_bucket a_path a_idom a_level a_under a_held y_sizes y_refs y_held W hkn
  unfold wpX_refer
  refine xs_has W.1.2 W.2.1 (fun h => ?_) (fun h => ?_)
  · refine br_f (by decide) (xs_has W.1.2 W.2.1 (fun h2 => ?_) (fun h2 => ?_))
    · have h' := h
      have h2' := h2
      obtain ⟨a, ha, e, hab⟩ := h'
      obtain ⟨b, hb, e2, hbb⟩ := h2'
      obtain ⟨g1, g2, W'⟩ := hv_ref W ha hb hab hbb
      refine br_f (by decide) ?_
      subst e; subst e2
      have i1 : vp_in (nI a) 17 := vp_in_nI (by omega) (by omega)
      have i2 : vp_in (nI b) 16 := vp_in_nI (by omega) (by omega)
      have i3 : vp_in (nI a) 16 := vp_in_nI (by omega) (by omega)
      refine ⟨i1, i1, nm_r (hb_up (by omega) (Eq.trans (by rw [nI_clamp (by omega)]) g1)) ⟨i2, i2, nm_r (hb_up (by omega) (Eq.trans (by rw [nI_clamp (by omega)]) g2)) ?_⟩⟩
      unfold wpY_refer
      refine ys_is (fun _ => br_f (by decide) ?_) (fun q => absurd h q)
      refine ys_is (fun _ => br_f (by decide) ?_) (fun q => absurd h2 q)
      exact ⟨i3, i3, nm_r (hb_up (by omega) (by rw [nI_clamp (by omega)])) ⟨rfl, re_in W' (Or.inl rfl)⟩⟩
    · refine br_t rfl ?_
      unfold wpY_refer
      refine ys_is (fun _ => br_f (by decide) ?_) (fun q => absurd h q)
      exact ys_is (fun q => absurd q h2) (fun _ => br_t rfl ⟨rfl, re_in W hkn⟩)
  · refine br_t rfl ?_
    unfold wpY_refer
    exact ys_is (fun q => absurd q h) (fun _ => br_t rfl ⟨rfl, re_in W hkn⟩)
theorem i_vc_forget {k : Nat} {u : SX} {v : SY} (I : i_Rel k u v) (hk : k + 3 ≤ 1537) (v1 : Int32) (v2 : Int32) : wpX_forget (fun r u' => wpY_forget (fun r' v' => r' = r ∧ i_Rel (k + 3) u' v') v v1 v2) u v1 v2 := by
  refine re_el (Q := fun u v => wpX_forget (fun r u' => wpY_forget (fun r' v' => r' = r ∧ i_Rel (k + 3) u' v') v v1 v2) u v1 v2) ?_ I
  intro c z f_present f_roots f_known f_met a_sizes a_out a_in a_order a_number a_parent a_stack a_semi a_above a_label a_bucket a_path a_idom a_level a_under a_held y_sizes y_refs y_held W hkn
  unfold wpX_forget
  refine xs_has W.1.2 W.2.1 (fun h => ?_) (fun h => ?_)
  · refine br_f (by decide) (xs_has W.1.2 W.2.1 (fun h2 => ?_) (fun h2 => ?_))
    · have h' := h
      have h2' := h2
      obtain ⟨a, ha, e, hab⟩ := h'
      obtain ⟨b, hb, e2, hbb⟩ := h2'
      obtain ⟨g1, g2, W'⟩ := hv_for W ha hb
      have ho := W.2.2.2.1 a ha
      refine br_f (by decide) ?_
      subst e; subst e2
      have i1 : vp_in (nI a) 17 := vp_in_nI (by omega) (by omega)
      have i2 : vp_in (nI b) 16 := vp_in_nI (by omega) (by omega)
      have i3 : vp_in (nI a) 16 := vp_in_nI (by omega) (by omega)
      refine ⟨i1, ?_⟩
      by_cases hbit : bt (y_refs a) b = true
      · refine br_f (by rw [nI_clamp (by omega), ho]; exact hb_n0 (by omega) hbit) ⟨i1, i1, nm_r (hb_up (by omega) (Eq.trans (by rw [nI_clamp (by omega)]) g1)) ⟨i2, i2, nm_r (hb_up (by omega) (Eq.trans (by rw [nI_clamp (by omega)]) g2)) ?_⟩⟩
        unfold wpY_forget
        refine ys_is (fun _ => br_f (by decide) ?_) (fun q => absurd h q)
        refine ys_is (fun _ => br_f (by decide) ?_) (fun q => absurd h2 q)
        exact ⟨i3, br_f (by rw [nI_clamp (by omega)]; exact hb_n0 (by omega) hbit) ⟨i3, i3, nm_r (hb_up (by omega) (by rw [nI_clamp (by omega)])) ⟨rfl, re_in W' (Or.inl rfl)⟩⟩⟩
      · refine br_t (by rw [nI_clamp (by omega), ho]; exact hb_z0 (by omega) hbit) ?_
        unfold wpY_forget
        refine ys_is (fun _ => br_f (by decide) ?_) (fun q => absurd h q)
        refine ys_is (fun _ => br_f (by decide) ?_) (fun q => absurd h2 q)
        exact ⟨i3, br_t (by rw [nI_clamp (by omega)]; exact hb_z0 (by omega) hbit) ⟨rfl, re_in W hkn⟩⟩
    · refine br_t rfl ?_
      unfold wpY_forget
      refine ys_is (fun _ => br_f (by decide) ?_) (fun q => absurd h q)
      exact ys_is (fun q => absurd q h2) (fun _ => br_t rfl ⟨rfl, re_in W hkn⟩)
  · refine br_t rfl ?_
    unfold wpY_forget
    exact ys_is (fun q => absurd q h) (fun _ => br_t rfl ⟨rfl, re_in W hkn⟩)
end
section
/-! the owed statements of the questions -/
section
variable {f_capacity f_present f_roots f_known f_met : Int32} {a_sizes a_out a_in a_order a_number a_parent a_stack a_semi a_above a_label a_bucket a_path a_idom a_level a_under a_held : Nat → Int32}
theorem xa_obj {post : Int32 → Prop} {v : Nat} {p0 : Int32} (e : p0 = nI v) (hv : v < 17) (h0 : v = 0 → post (-1)) (h1 : 0 < v → post (a_order v)) : wpX_objectOf post (f_capacity, f_present, f_roots, f_known, f_met, a_sizes, a_out, a_in, a_order, a_number, a_parent, a_stack, a_semi, a_above, a_label, a_bucket, a_path, a_idom, a_level, a_under, a_held) p0 := by
  subst e
  rcases Nat.eq_zero_or_pos v with q | q
  · exact br_t (by rw [q]; exact nI_0) (h0 q)
  · refine br_f (nI_ne0 q (by omega)) ⟨vp_in_nI hv (by omega), ?_⟩
    rw [nI_clamp (by omega)]
    exact h1 q
/-- the climb of common: the common dominators stay the same -/
theorem xa_com {post : Int32 → SX → Prop} {rf : Nat → Int32} {z : Nat → Nat} {n x y : Nat} {od im : Nat → Nat} (kn : kn_I f_present f_roots rf z n od im a_order a_number a_idom a_level a_under a_held)
    (K0 : (∀ a, ¬ (oc_D f_roots rf f_present a x ∧ oc_D f_roots rf f_present a y)) → post (-1) (f_capacity, f_present, f_roots, f_known, f_met, a_sizes, a_out, a_in, a_order, a_number, a_parent, a_stack, a_semi, a_above, a_label, a_bucket, a_path, a_idom, a_level, a_under, a_held)) (K1 : ∀ t, 0 < t → t < n → (∀ a, (oc_D f_roots rf f_present a x ∧ oc_D f_roots rf f_present a y) ↔ oc_D f_roots rf f_present a (od t)) → post (nI (od t)) (f_capacity, f_present, f_roots, f_known, f_met, a_sizes, a_out, a_in, a_order, a_number, a_parent, a_stack, a_semi, a_above, a_label, a_bucket, a_path, a_idom, a_level, a_under, a_held)) :
    ∀ f r v w, r + v + w ≤ 32 → 34 < f + r → v < n → w < n → (∀ a, (oc_D f_roots rf f_present a x ∧ oc_D f_roots rf f_present a y) ↔ ((0 < v ∧ oc_D f_roots rf f_present a (od v)) ∧ (0 < w ∧ oc_D f_roots rf f_present a (od w)))) → wX_common_28 post f_capacity f_present f_roots f_known f_met a_sizes a_out a_in a_order a_number a_parent a_stack a_semi a_above a_label a_bucket a_path a_idom a_level a_under a_held f (nI v) (nI w) (nI r) := by
  have hn := kn.1.2.1
  intro f
  induction f with
  | zero => intro r v w h1 h2; omega
  | succ f ih =>
    intro r v w h1 h2 hv hw h
    have up : ∀ v w, 0 < v → v < n → w < v → ∀ a, ((0 < v ∧ oc_D f_roots rf f_present a (od v)) ∧ (0 < w ∧ oc_D f_roots rf f_present a (od w))) ↔ ((0 < im v ∧ oc_D f_roots rf f_present a (od (im v))) ∧ (0 < w ∧ oc_D f_roots rf f_present a (od w))) := by
      intro v w v0 hv hwv a
      rw [(kn.2.2.2.1 v v0 hv).2.2 a]
      constructor
      · rintro ⟨⟨_, q | q⟩, w0, q2⟩
        · subst q
          have := kn_le kn v0 hv w w0 (by omega) q2
          omega
        · exact ⟨q, w0, q2⟩
      · rintro ⟨q, q2⟩
        exact ⟨⟨v0, Or.inr q⟩, q2⟩
    refine br_f (nI_ge (b := 34) (by omega) (by omega)) ?_
    by_cases e : v = w
    · refine br_t (congrArg nI e) ?_
      subst e
      refine xa_obj rfl (by omega) (fun q => K0 (fun a w => ?_)) (fun q => ?_)
      · have := (h a).mp w
        omega
      · rw [(kn.2.2.1 v q hv).2.1]
        refine K1 v q hv (fun a => ?_)
        rw [h a]
        exact ⟨fun w => w.1.2, fun w => ⟨⟨q, w⟩, q, w⟩⟩
    · refine br_f (fun q => e ((nI_eq (by omega) (by omega)).mp q)) ?_
      rcases Nat.lt_or_ge w v with q | q
      · obtain ⟨i1, i2, _⟩ := kn.2.2.2.1 v (by omega) hv
        exact br_f (nI_ge q (by omega)) ⟨vp_in_nI (by omega) (by omega), nm_r (e' := nI (im v)) (by rw [nI_clamp (by omega)]; exact i1) (nm_r (nI_1 r) (ih (r + 1) (im v) w (by omega) (by omega) (by omega) hw (fun a => (h a).trans (up v w (by omega) hv q a))))⟩
      · obtain ⟨i1, i2, _⟩ := kn.2.2.2.1 w (by omega) hw
        exact br_t (nI_le q (by omega)) ⟨vp_in_nI (by omega) (by omega), nm_r (e' := nI (im w)) (by rw [nI_clamp (by omega)]; exact i1) (nm_r (nI_1 r) (ih (r + 1) v (im w) (by omega) (by omega) hv (by omega) (fun a => (h a).trans (and_comm.trans ((up w v (by omega) hw (by omega) a).trans and_comm)))))⟩
end
theorem i_vc_live {k : Nat} {u : SX} {v : SY} (I : i_Rel k u v) (hk : k + 3 ≤ 1537) : wpX_live (fun r u' => wpY_live (fun r' => r' = r ∧ i_Rel (k + 3) u' v) v) u := by
  refine re_el (Q := fun u v => wpX_live (fun r u' => wpY_live (fun r' => r' = r ∧ i_Rel (k + 3) u' v) v) u) ?_ I
  intro c z f_present f_roots f_known f_met a_sizes a_out a_in a_order a_number a_parent a_stack a_semi a_above a_label a_bucket a_path a_idom a_level a_under a_held y_sizes y_refs y_held W hkn
  unfold wpX_live
  refine xf_find W hkn (fun met out order number parent stack semi above label bucket path idom level under held ho hk' => ?_)
  have hk2 := hk'
  obtain ⟨n, od, im, em, kn⟩ := hk2
  refine ys_live (hv_R W) (hv_rf W) (fun m hm => ⟨?_, re_in (hv_out W ho) (Or.inr ⟨rfl, hk'⟩)⟩)
  refine kn_m (P := 0) (R := 0) (rf := y_refs) hm (fun i => ?_)
  rw [kn.2.2.2.2.1 0 kn.1.1 i]
  exact ⟨fun q => q.1, fun q => ⟨q, Or.inl rfl⟩⟩
theorem i_vc_keeper {k : Nat} {u : SX} {v : SY} (I : i_Rel k u v) (hk : k + 3 ≤ 1537) (v1 : Int32) : wpX_keeper (fun r u' => wpY_keeper (fun r' => r' = r ∧ i_Rel (k + 3) u' v) v v1) u v1 := by
  refine re_el (Q := fun u v => wpX_keeper (fun r u' => wpY_keeper (fun r' => r' = r ∧ i_Rel (k + 3) u' v) v v1) u v1) ?_ I
  intro c z f_present f_roots f_known f_met a_sizes a_out a_in a_order a_number a_parent a_stack a_semi a_above a_label a_bucket a_path a_idom a_level a_under a_held y_sizes y_refs y_held W hkn
  unfold wpX_keeper
  refine xa_num W hkn (fun known met out order number parent stack semi above label bucket path idom level under held ho hk' hn => ?_) (fun n od im v out order number parent stack semi above label bucket path idom level under held ho kn e v0 hv => ?_)
  · refine br_f hb_neg (ys_keeper (hv_R W) (hv_rf W) (fun x e hx => absurd ⟨x, e, hx⟩ hn) (fun _ => ⟨rfl, re_in (hv_out W ho) hk'⟩))
  · have hn17 := kn.1.2.1
    obtain ⟨o1, o2, o3, o4⟩ := kn.2.2.1 v v0 hv
    have RE : i_Rel (k + 3) (nI c, f_present, f_roots, 1, nI n, a_sizes, out, a_in, order, number, parent, stack, semi, above, label, bucket, path, idom, level, under, held) (nI c, f_present, f_roots, y_sizes, y_refs, y_held) := re_in (hv_out W ho) (Or.inr ⟨rfl, n, od, im, rfl, kn⟩)
    have sx : ∀ x, v1 = nI x → oc_R f_roots y_refs f_present x → x = od v := fun x ex hx => hb_neq (by have := oc_lt hx; omega) (by omega) (ex.symm.trans e)
    have lv : hs_lv f_roots y_refs f_present v1 := ⟨od v, e, o3⟩
    obtain ⟨i1, i2, i3⟩ := kn.2.2.2.1 v v0 hv
    refine br_t (nI_pos' (by omega)) ⟨vp_in_nI (by omega) (by omega), xa_obj (v := im v) (by rw [nI_clamp (by omega)]; exact i1) (by omega) (fun q => ?_) (fun q => ?_)⟩
    · refine ys_keeper (hv_R W) (hv_rf W) (fun x ex hx => ?_) (fun w => absurd lv w)
      have e2 := sx x ex hx
      subst e2
      refine ⟨fun j j1 j2 j3 _ => ?_, fun _ => ⟨rfl, RE⟩⟩
      rcases (i3 j).mp j3 with w | w
      · exact absurd w j2
      · omega
    · obtain ⟨p1, p2, p3, p4⟩ := kn.2.2.1 (im v) q (by omega)
      have qne : od (im v) ≠ od v := fun w => by
        have := kn_inj kn q (by omega) v0 hv w
        omega
      have qd : oc_D f_roots y_refs f_present (od (im v)) (od v) := (i3 _).mpr (Or.inr ⟨q, kn_rf kn q (by omega)⟩)
      have qa : ∀ a, a ≠ od v → oc_D f_roots y_refs f_present a (od v) → oc_D f_roots y_refs f_present a (od (im v)) := fun a ha h => ((i3 a).mp h).elim (fun w => absurd w ha) (fun w => w.2)
      rw [p2]
      refine ys_keeper (hv_R W) (hv_rf W) (fun x ex hx => ?_) (fun w => absurd lv w)
      have e2 := sx x ex hx
      subst e2
      refine ⟨fun j j1 j2 j3 j4 => ⟨?_, RE⟩, fun w => ?_⟩
      · refine congrArg nI (kn_as kn (qa j j2 j3) (j4 _ p1 (fun w => qne (hb_neq (by omega) (by omega) w)) qd qd))
      · refine absurd (fun a ha hne h _ => qa a (fun w2 => hne (congrArg nI w2)) h) (w _ p1 qne qd)
theorem i_vc_kept {k : Nat} {u : SX} {v : SY} (I : i_Rel k u v) (hk : k + 3 ≤ 1537) (v1 : Int32) : wpX_kept (fun r u' => wpY_kept (fun r' => r' = r ∧ i_Rel (k + 3) u' v) v v1) u v1 := by
  refine re_el (Q := fun u v => wpX_kept (fun r u' => wpY_kept (fun r' => r' = r ∧ i_Rel (k + 3) u' v) v v1) u v1) ?_ I
  intro c z f_present f_roots f_known f_met a_sizes a_out a_in a_order a_number a_parent a_stack a_semi a_above a_label a_bucket a_path a_idom a_level a_under a_held y_sizes y_refs y_held W hkn
  unfold wpX_kept
  refine xa_num W hkn (fun known met out order number parent stack semi above label bucket path idom level under held ho hk' hn => ?_) (fun n od im v out order number parent stack semi above label bucket path idom level under held ho kn e v0 hv => ?_)
  · refine br_f hb_neg (ys_kept (hv_R W) (hv_rf W) (fun x e hx => absurd ⟨x, e, hx⟩ hn) (fun _ => ⟨rfl, re_in (hv_out W ho) hk'⟩))
  · have hn17 := kn.1.2.1
    obtain ⟨o1, o2, o3, o4⟩ := kn.2.2.1 v v0 hv
    have RE : i_Rel (k + 3) (nI c, f_present, f_roots, 1, nI n, a_sizes, out, a_in, order, number, parent, stack, semi, above, label, bucket, path, idom, level, under, held) (nI c, f_present, f_roots, y_sizes, y_refs, y_held) := re_in (hv_out W ho) (Or.inr ⟨rfl, n, od, im, rfl, kn⟩)
    have sx : ∀ x, v1 = nI x → oc_R f_roots y_refs f_present x → x = od v := fun x ex hx => hb_neq (by have := oc_lt hx; omega) (by omega) (ex.symm.trans e)
    have lv : hs_lv f_roots y_refs f_present v1 := ⟨od v, e, o3⟩
    refine br_t (nI_pos' (by omega)) ⟨vp_in_nI (by omega) (by omega), ?_⟩
    rw [nI_clamp (by omega)]
    refine ys_kept (hv_R W) (hv_rf W) (fun x ex hx m hm => ⟨?_, RE⟩) (fun w => absurd lv w)
    have e2 := sx x ex hx
    subst e2
    exact kn_m (P := 0) (R := 0) (rf := y_refs) hm (kn_ub kn v0 hv)
theorem i_vc_retained {k : Nat} {u : SX} {v : SY} (I : i_Rel k u v) (hk : k + 3 ≤ 1537) (v1 : Int32) : wpX_retained (fun r u' => wpY_retained (fun r' => r' = r ∧ i_Rel (k + 3) u' v) v v1) u v1 := by
  refine re_el (Q := fun u v => wpX_retained (fun r u' => wpY_retained (fun r' => r' = r ∧ i_Rel (k + 3) u' v) v v1) u v1) ?_ I
  intro c z f_present f_roots f_known f_met a_sizes a_out a_in a_order a_number a_parent a_stack a_semi a_above a_label a_bucket a_path a_idom a_level a_under a_held y_sizes y_refs y_held W hkn
  unfold wpX_retained
  refine xa_num W hkn (fun known met out order number parent stack semi above label bucket path idom level under held ho hk' hn => ?_) (fun n od im v out order number parent stack semi above label bucket path idom level under held ho kn e v0 hv => ?_)
  · refine br_f hb_neg (ys_ret (hv_R W) (hv_rf W) (fun x hx => (W.2.2.2.2.2.2 x hx).2.1) (fun x e hx => absurd ⟨x, e, hx⟩ hn) (fun _ => ⟨rfl, re_in (hv_out W ho) hk'⟩))
  · have hn17 := kn.1.2.1
    obtain ⟨o1, o2, o3, o4⟩ := kn.2.2.1 v v0 hv
    have RE : i_Rel (k + 3) (nI c, f_present, f_roots, 1, nI n, a_sizes, out, a_in, order, number, parent, stack, semi, above, label, bucket, path, idom, level, under, held) (nI c, f_present, f_roots, y_sizes, y_refs, y_held) := re_in (hv_out W ho) (Or.inr ⟨rfl, n, od, im, rfl, kn⟩)
    have sx : ∀ x, v1 = nI x → oc_R f_roots y_refs f_present x → x = od v := fun x ex hx => hb_neq (by have := oc_lt hx; omega) (by omega) (ex.symm.trans e)
    have lv : hs_lv f_roots y_refs f_present v1 := ⟨od v, e, o3⟩
    refine br_t (nI_pos' (by omega)) ⟨vp_in_nI (by omega) (by omega), ?_⟩
    rw [nI_clamp (by omega)]
    refine ys_ret (hv_R W) (hv_rf W) (fun x hx => (W.2.2.2.2.2.2 x hx).2.1) (fun x ex hx => ⟨?_, RE⟩) (fun w => absurd lv w)
    have e2 := sx x ex hx
    subst e2
    exact (kn_held kn v0 hv).symm
theorem i_vc_depth {k : Nat} {u : SX} {v : SY} (I : i_Rel k u v) (hk : k + 3 ≤ 1537) (v1 : Int32) : wpX_depth (fun r u' => wpY_depth (fun r' => r' = r ∧ i_Rel (k + 3) u' v) v v1) u v1 := by
  refine re_el (Q := fun u v => wpX_depth (fun r u' => wpY_depth (fun r' => r' = r ∧ i_Rel (k + 3) u' v) v v1) u v1) ?_ I
  intro c z f_present f_roots f_known f_met a_sizes a_out a_in a_order a_number a_parent a_stack a_semi a_above a_label a_bucket a_path a_idom a_level a_under a_held y_sizes y_refs y_held W hkn
  unfold wpX_depth
  refine xa_num W hkn (fun known met out order number parent stack semi above label bucket path idom level under held ho hk' hn => ?_) (fun n od im v out order number parent stack semi above label bucket path idom level under held ho kn e v0 hv => ?_)
  · refine br_f hb_neg (ys_depth (hv_R W) (hv_rf W) (fun x e hx => absurd ⟨x, e, hx⟩ hn) (fun _ => ⟨rfl, re_in (hv_out W ho) hk'⟩))
  · have hn17 := kn.1.2.1
    obtain ⟨o1, o2, o3, o4⟩ := kn.2.2.1 v v0 hv
    have RE : i_Rel (k + 3) (nI c, f_present, f_roots, 1, nI n, a_sizes, out, a_in, order, number, parent, stack, semi, above, label, bucket, path, idom, level, under, held) (nI c, f_present, f_roots, y_sizes, y_refs, y_held) := re_in (hv_out W ho) (Or.inr ⟨rfl, n, od, im, rfl, kn⟩)
    have sx : ∀ x, v1 = nI x → oc_R f_roots y_refs f_present x → x = od v := fun x ex hx => hb_neq (by have := oc_lt hx; omega) (by omega) (ex.symm.trans e)
    have lv : hs_lv f_roots y_refs f_present v1 := ⟨od v, e, o3⟩
    refine br_t (nI_pos' (by omega)) ⟨vp_in_nI (by omega) (by omega), ?_⟩
    rw [nI_clamp (by omega)]
    refine ys_depth (hv_R W) (hv_rf W) (fun x ex hx => ⟨?_, RE⟩) (fun w => absurd lv w)
    have e2 := sx x ex hx
    subst e2
    have e3 : cn (fun a => oc_D f_roots y_refs f_present a (od v)) 16 = cn (fun a => a ≠ od v ∧ oc_D f_roots y_refs f_present a (od v)) 16 + 1 := by
      rw [← cn_add (P := fun a => a ≠ od v ∧ oc_D f_roots y_refs f_present a (od v)) (a := od v) (fun w => w.1 rfl) o1]
      refine cn_eq fun a _ => ⟨fun h => ?_, fun h => ?_⟩
      · by_cases w : a = od v
        · exact Or.inr w
        · exact Or.inl ⟨w, h⟩
      · rcases h with h | h
        · exact h.2
        · rw [h]; exact kn_rf kn v0 hv
    rw [kn.2.2.2.2.2.2 v v0 hv, e3, nI_pred]
theorem i_vc_dominates {k : Nat} {u : SX} {v : SY} (I : i_Rel k u v) (hk : k + 3 ≤ 1537) (v1 : Int32) (v2 : Int32) : wpX_dominates (fun r u' => wpY_dominates (fun r' => r' = r ∧ i_Rel (k + 3) u' v) v v1 v2) u v1 v2 := by
  refine re_el (Q := fun u v => wpX_dominates (fun r u' => wpY_dominates (fun r' => r' = r ∧ i_Rel (k + 3) u' v) v v1 v2) u v1 v2) ?_ I
  intro c z f_present f_roots f_known f_met a_sizes a_out a_in a_order a_number a_parent a_stack a_semi a_above a_label a_bucket a_path a_idom a_level a_under a_held y_sizes y_refs y_held W hkn
  unfold wpX_dominates
  refine xa_num W hkn (fun known met out order number parent stack semi above label bucket path idom level under held ho hk' hn => ?_) (fun n od im v out order number parent stack semi above label bucket path idom level under held ho kn e v0 hv => ?_)
  · refine xa_num (hv_out W ho) hk' (fun known met out order number parent stack semi above label bucket path idom level under held ho2 hk2 hn2 => ?_) (fun n od im v out order number parent stack semi above label bucket path idom level under held ho2 kn e v0 hv => ?_)
    · refine br_t hb_neg' (ys_dom (hv_R W) (hv_rf W) (fun w => ?_) (fun _ => ⟨rfl, re_in (hv_out (hv_out W ho) ho2) hk2⟩))
      obtain ⟨a, x, e, _, h⟩ := w
      exact absurd ⟨a, e, h.1⟩ hn
    · refine br_t hb_neg' (ys_dom (hv_R W) (hv_rf W) (fun w => ?_) (fun _ => ⟨rfl, re_in (hv_out (hv_out W ho) ho2) (Or.inr ⟨rfl, n, od, im, rfl, kn⟩)⟩))
      obtain ⟨a, x, e, _, h⟩ := w
      exact absurd ⟨a, e, h.1⟩ hn
  · have hn17 := kn.1.2.1
    obtain ⟨o1, o2, o3, o4⟩ := kn.2.2.1 v v0 hv
    have RE : i_Rel (k + 3) (nI c, f_present, f_roots, 1, nI n, a_sizes, out, a_in, order, number, parent, stack, semi, above, label, bucket, path, idom, level, under, held) (nI c, f_present, f_roots, y_sizes, y_refs, y_held) := re_in (hv_out W ho) (Or.inr ⟨rfl, n, od, im, rfl, kn⟩)
    have sx : ∀ x, v1 = nI x → oc_R f_roots y_refs f_present x → x = od v := fun x ex hx => hb_neq (by have := oc_lt hx; omega) (by omega) (ex.symm.trans e)
    have lv : hs_lv f_roots y_refs f_present v1 := ⟨od v, e, o3⟩
    refine xa_num1 (hv_out W ho) kn (fun hn2 => ?_) (fun w ew w0 hw => ?_)
    · refine br_f (nI_pos (by omega)) (br_t hb_neg' (ys_dom (hv_R W) (hv_rf W) (fun w => ?_) (fun _ => ⟨rfl, RE⟩)))
      obtain ⟨a, x, _, e, h⟩ := w
      exact absurd ⟨x, e, h.2.1⟩ hn2
    · obtain ⟨p1, p2, p3, p4⟩ := kn.2.2.1 w w0 hw
      refine br_f (nI_pos (by omega)) (br_f (nI_pos (by omega)) ⟨vp_in_nI (by omega) (by omega), ?_⟩)
      have dm : hs_dm f_roots y_refs f_present v1 v2 ↔ bt (under v) (od w) = true := by
        rw [e, ew, hs_dmN (by omega) (by omega), kn_ub kn v0 hv]
      by_cases hb : bt (under v) (od w) = true
      · refine br_f (by rw [nI_clamp (by omega), ew]; exact hb_n0 (by omega) hb) (ys_dom (hv_R W) (hv_rf W) (fun _ => ⟨rfl, RE⟩) (fun q => absurd (dm.mpr hb) q))
      · refine br_t (by rw [nI_clamp (by omega), ew]; exact hb_z0 (by omega) hb) (ys_dom (hv_R W) (hv_rf W) (fun q => absurd (dm.mp q) hb) (fun _ => ⟨rfl, RE⟩))
theorem i_vc_common {k : Nat} {u : SX} {v : SY} (I : i_Rel k u v) (hk : k + 3 ≤ 1537) (v1 : Int32) (v2 : Int32) : wpX_common (fun r u' => wpY_common (fun r' => r' = r ∧ i_Rel (k + 3) u' v) v v1 v2) u v1 v2 := by
  refine re_el (Q := fun u v => wpX_common (fun r u' => wpY_common (fun r' => r' = r ∧ i_Rel (k + 3) u' v) v v1 v2) u v1 v2) ?_ I
  intro c z f_present f_roots f_known f_met a_sizes a_out a_in a_order a_number a_parent a_stack a_semi a_above a_label a_bucket a_path a_idom a_level a_under a_held y_sizes y_refs y_held W hkn
  unfold wpX_common
  refine xa_num W hkn (fun known met out order number parent stack semi above label bucket path idom level under held ho hk' hn => ?_) (fun n od im v out order number parent stack semi above label bucket path idom level under held ho kn e v0 hv => ?_)
  · refine xa_num (hv_out W ho) hk' (fun known met out order number parent stack semi above label bucket path idom level under held ho2 hk2 hn2 => ?_) (fun n od im v out order number parent stack semi above label bucket path idom level under held ho2 kn e v0 hv => ?_)
    · exact br_t hb_neg' (ys_common (hv_R W) (hv_rf W) (fun x y e _ hx _ => absurd ⟨x, e, hx⟩ hn) (fun _ => ⟨rfl, re_in (hv_out (hv_out W ho) ho2) hk2⟩))
    · exact br_t hb_neg' (ys_common (hv_R W) (hv_rf W) (fun x y e _ hx _ => absurd ⟨x, e, hx⟩ hn) (fun _ => ⟨rfl, re_in (hv_out (hv_out W ho) ho2) (Or.inr ⟨rfl, n, od, im, rfl, kn⟩)⟩))
  · have hn17 := kn.1.2.1
    obtain ⟨o1, o2, o3, o4⟩ := kn.2.2.1 v v0 hv
    have RE : i_Rel (k + 3) (nI c, f_present, f_roots, 1, nI n, a_sizes, out, a_in, order, number, parent, stack, semi, above, label, bucket, path, idom, level, under, held) (nI c, f_present, f_roots, y_sizes, y_refs, y_held) := re_in (hv_out W ho) (Or.inr ⟨rfl, n, od, im, rfl, kn⟩)
    have sx : ∀ x, v1 = nI x → oc_R f_roots y_refs f_present x → x = od v := fun x ex hx => hb_neq (by have := oc_lt hx; omega) (by omega) (ex.symm.trans e)
    have lv : hs_lv f_roots y_refs f_present v1 := ⟨od v, e, o3⟩
    refine xa_num1 (hv_out W ho) kn (fun hn2 => ?_) (fun w ew w0 hw => ?_)
    · exact br_f (nI_pos (by omega)) (br_f hb_neg (ys_common (hv_R W) (hv_rf W) (fun x y _ e2 _ hy => absurd ⟨y, e2, hy⟩ hn2) (fun _ => ⟨rfl, RE⟩)))
    · obtain ⟨p1, p2, p3, p4⟩ := kn.2.2.1 w w0 hw
      have sy : ∀ x, v2 = nI x → oc_R f_roots y_refs f_present x → x = od w := fun x ex hx => hb_neq (by have := oc_lt hx; omega) (by omega) (ex.symm.trans ew)
      have lw : hs_lv f_roots y_refs f_present v2 := ⟨od w, ew, p3⟩
      refine br_f (nI_pos (by omega)) (br_t (nI_pos' (by omega)) ⟨35, xa_com (x := od v) (y := od w) kn (fun hno => ?_) (fun t t0 ht hall => ?_) 35 0 v w (by omega) (by omega) hv hw (fun a => ⟨fun h => ⟨⟨v0, h.1⟩, w0, h.2⟩, fun h => ⟨h.1.2, h.2.2⟩⟩)⟩)
      · refine ys_common (hv_R W) (hv_rf W) (fun x y ex ey hx hy => ?_) (fun q => absurd ⟨lv, lw⟩ q)
        have e2 := sx x ex hx
        have e3 := sy y ey hy
        subst e2; subst e3
        exact ⟨fun j _ j1 j2 _ => absurd ⟨j1, j2⟩ (hno j), fun _ => ⟨rfl, RE⟩⟩
      · obtain ⟨t1, t2, t3, t4⟩ := kn.2.2.1 t t0 ht
        have td := (hall (od t)).mpr (kn_rf kn t0 ht)
        refine ys_common (hv_R W) (hv_rf W) (fun x y ex ey hx hy => ?_) (fun q => absurd ⟨lv, lw⟩ q)
        have e2 := sx x ex hx
        have e3 := sy y ey hy
        subst e2; subst e3
        refine ⟨fun j j0 j1 j2 j3 => ⟨?_, RE⟩, fun q => ?_⟩
        · exact congrArg nI (kn_as kn ((hall j).mp ⟨j1, j2⟩) (j3 _ t1 (hb_nm (by omega)) td.1 td.2))
        · exact absurd (fun a _ _ h1 h2 => (hall a).mp ⟨h1, h2⟩) (q _ t1 td.1 td.2)
end
section
/-! suspect -/
/-- z stands before y -/
def bf (H : Nat → Nat) (a y : Nat) : Prop := H y < H a ∨ (H a = H y ∧ a < y)
theorem bf_tr {H : Nat → Nat} {a b c : Nat} (h : bf H a b) (h2 : bf H b c) : bf H a c := by unfold bf at *; omega
theorem bf_as {H : Nat → Nat} {a b : Nat} (h : bf H a b) (h2 : bf H b a) : False := by unfold bf at *; omega
theorem bf_to {H : Nat → Nat} {a b : Nat} (h : a ≠ b) : bf H a b ∨ bf H b a := by unfold bf; omega
/-- the count tells the object -/
theorem bf_u {H : Nat → Nat} {L : Nat → Prop} {a b : Nat} (ha : L a) (hb : L b) (ha16 : a < 16) (hb16 : b < 16) (h : cn (fun x => L x ∧ bf H x a) 16 = cn (fun x => L x ∧ bf H x b) 16) : a = b := by
  refine Classical.byContradiction fun hne => ?_
  rcases bf_to (H := H) hne with q | q
  · have := cn_lt (P := fun x => L x ∧ bf H x a) (Q := fun x => L x ∧ bf H x b) (a := a) (fun w => bf_as w.2 w.2) ⟨ha, q⟩ (N := 16) (fun k _ w => ⟨w.1, bf_tr w.2 q⟩) ha16
    omega
  · have := cn_lt (P := fun x => L x ∧ bf H x b) (Q := fun x => L x ∧ bf H x a) (a := b) (fun w => bf_as w.2 w.2) ⟨hb, q⟩ (N := 16) (fun k _ w => ⟨w.1, bf_tr w.2 q⟩) hb16
    omega
section
variable {cap P R : Int32} {sz rf hd : Nat → Int32} {H : Nat → Nat}
theorem ys_94 {post : Int32 → SY → Prop} {J32 : Int32 → Prop} {J44 : Int32 → Int32 → Prop} {x1 m x3 z0 : Int32} {L : Nat → Prop} {B : Nat → Prop} {i : Nat} (hi : i < 16) (hm : bt m i = true ↔ L i) (hz : (z0 = 0 ∧ ¬ B i) ∨ (z0 = 1 ∧ B i)) (K : J44 (nI (cn (fun a => L a ∧ B a) (i + 1))) (nI (i + 1))) : wY_suspect_94 post J32 J44 x1 m x3 (nI (cn (fun a => L a ∧ B a) i)) (nI i) z0 cap P R sz rf hd := by
  have n0 : ¬ (L i ∧ B i) → nI (cn (fun a => L a ∧ B a) i) + 0 = nI (cn (fun a => L a ∧ B a) (i + 1)) := by
    intro w
    simp only [cn, b01_f w]
    rw [Int32.add_zero, Nat.add_zero]
  have n1 : (L i ∧ B i) → nI (cn (fun a => L a ∧ B a) i) + 1 = nI (cn (fun a => L a ∧ B a) (i + 1)) := by
    intro w
    simp only [cn, b01_t w]
    rw [nI_1]
  by_cases hb : bt m i = true
  · refine br_t (hb_z1 (by omega) hb) ?_
    rcases hz with ⟨e, h⟩ | ⟨e, h⟩
    · exact br_t e (nm_r (n0 (fun w => h w.2)) (nm_r (nI_1 i) K))
    · exact br_f (by rw [e]; decide) (nm_r (n1 ⟨hm.mp hb, h⟩) (nm_r (nI_1 i) K))
  · exact br_f (hb_n1 (by omega) hb) (nm_r (n0 (fun w => hb (hm.mpr w.1))) (nm_r (nI_1 i) K))
theorem ys_44 {post : Int32 → SY → Prop} {J32 : Int32 → Prop} {x1 m : Int32} {y : Nat} {L : Nat → Prop} (hy : y < 16) (hm : ∀ i, bt m i = true ↔ L i) (hh : ∀ j, j < 16 → hd j = nI (H j)) (hb : ∀ j, j < 16 → H j < 2 ^ 31)
    (K1 : L y → nI (cn (fun a => L a ∧ bf H a y) 16) = x1 → post (nI y) (cap, P, R, sz, rf, hd)) (K0 : (L y → nI (cn (fun a => L a ∧ bf H a y) 16) ≠ x1) → J32 (nI (y + 1))) :
    ∀ d i f, i + d = 16 → d < f → wY_suspect_44 post J32 x1 m (nI y) cap P R sz rf hd f (nI (cn (fun a => L a ∧ bf H a y) i)) (nI i) := by
  intro d
  induction d with
  | zero =>
    intro i f hi hf
    obtain ⟨f, rfl⟩ : ∃ m, f = m + 1 := ⟨f - 1, by omega⟩
    have e : i = 16 := hi
    subst e
    refine br_t (nI_le (a := 16) (b := 16) (by omega) (by omega)) ?_
    by_cases hbit : bt m y = true
    · refine br_t (hb_z1 (by omega) hbit) ?_
      by_cases e : nI (cn (fun a => L a ∧ bf H a y) 16) = x1
      · exact br_t e (K1 ((hm y).mp hbit) e)
      · exact br_f e (nm_r (nI_1 y) (K0 (fun _ => e)))
    · exact br_f (hb_n1 (by omega) hbit) (nm_r (nI_1 y) (K0 (fun w => absurd ((hm y).mpr w) hbit)))
  | succ d ih =>
    intro i f hi hf
    obtain ⟨f, rfl⟩ : ∃ m, f = m + 1 := ⟨f - 1, by omega⟩
    have g := ih (i + 1) f (by omega) (by omega)
    have ii : vp_in (nI i) 16 := vp_in_nI (by omega) (by omega)
    have iy : vp_in (nI y) 16 := vp_in_nI (by omega) (by omega)
    have e1 : hd (nI i).toNatClampNeg = nI (H i) := by rw [nI_clamp (by omega)]; exact hh i (by omega)
    have e2 : hd (nI y).toNatClampNeg = nI (H y) := by rw [nI_clamp (by omega)]; exact hh y hy
    have b1 := hb i (by omega)
    have b2 := hb y hy
    refine br_f (nI_ge (b := 16) (by omega) (by omega)) ⟨ii, iy, ?_⟩
    rw [e1, e2]
    rcases Nat.lt_or_ge (H y) (H i) with q | q
    · refine br_t (nI_lt q b1) ?_
      exact ys_94 (B := fun a => bf H a y) (by omega) (hm i) (Or.inr ⟨rfl, Or.inl q⟩) g
    · refine br_f (nI_nlt q b2) ⟨ii, iy, ?_⟩
      by_cases e : H i = H y
      · refine br_t (congrArg nI e) ?_
        rcases Nat.lt_or_ge i y with q2 | q2
        · refine br_f (nI_ge q2 (by omega)) ?_
          exact ys_94 (B := fun a => bf H a y) (by omega) (hm i) (Or.inr ⟨rfl, Or.inr ⟨e, q2⟩⟩) g
        · refine br_t (nI_le q2 (by omega)) ?_
          exact ys_94 (B := fun a => bf H a y) (by omega) (hm i) (Or.inl ⟨rfl, fun w => by unfold bf at w; omega⟩) g
      · refine br_f (fun w => e (hb_neq b1 b2 w)) ?_
        exact ys_94 (B := fun a => bf H a y) (by omega) (hm i) (Or.inl ⟨rfl, fun w => by unfold bf at w; omega⟩) g
theorem ys_32 {post : Int32 → SY → Prop} {x1 m : Int32} {L : Nat → Prop} (hm : ∀ i, bt m i = true ↔ L i) (hL : ∀ i, L i → i < 16) (hh : ∀ j, j < 16 → hd j = nI (H j)) (hb : ∀ j, j < 16 → H j < 2 ^ 31)
    (K1 : ∀ y, L y → nI (cn (fun a => L a ∧ bf H a y) 16) = x1 → post (nI y) (cap, P, R, sz, rf, hd)) (K0 : (∀ y, L y → nI (cn (fun a => L a ∧ bf H a y) 16) ≠ x1) → post (-1) (cap, P, R, sz, rf, hd)) :
    ∀ d y f, y + d = 16 → d < f → (∀ j, j < y → L j → nI (cn (fun a => L a ∧ bf H a j) 16) ≠ x1) → wY_suspect_32 post x1 m cap P R sz rf hd f (nI y) := by
  intro d
  induction d with
  | zero =>
    intro y f hy hf h
    obtain ⟨f, rfl⟩ : ∃ m, f = m + 1 := ⟨f - 1, by omega⟩
    have e : y = 16 := hy
    subst e
    exact br_t (nI_le (a := 16) (b := 16) (by omega) (by omega)) (K0 (fun j hj => h j (hL j hj) hj))
  | succ d ih =>
    intro y f hy hf h
    obtain ⟨f, rfl⟩ : ∃ m, f = m + 1 := ⟨f - 1, by omega⟩
    refine br_f (nI_ge (b := 16) (by omega) (by omega)) ⟨17, ys_44 (H := H) (L := L) (by omega) hm hh hb (K1 y) (fun q => ?_) 16 0 17 rfl (by omega)⟩
    refine ih (y + 1) f (by omega) (by omega) (fun j hj => ?_)
    by_cases e : j = y
    · subst e; exact q
    · exact h j (by omega)
theorem ys_7 {post : Int32 → SY → Prop} {x1 m : Int32} {z : Nat → Nat} (hR : ∀ i, bt R i = true → i < 16) (hrf : ∀ a i, a < 16 → bt (rf a) i = true → i < 16) (hz : ∀ x, x < 16 → sz x = nI (z x)) (hH : ∀ y, H y = dn_sum (oc_D R rf P y) z 16) (K : ∀ hd', (∀ j, j < 16 → hd' j = nI (H j)) → ∃ n32 : Nat, wY_suspect_32 post x1 m cap P R sz rf hd' n32 0) :
    ∀ d y f hd', y + d = 16 → d < f → (∀ j, j < y → hd' j = nI (H j)) → wY_suspect_7 post x1 m cap P R f (nI y) sz rf hd' := by
  intro d
  induction d with
  | zero =>
    intro y f hd' hy hf h
    obtain ⟨f, rfl⟩ : ∃ m, f = m + 1 := ⟨f - 1, by omega⟩
    have e : y = 16 := hy
    subst e
    exact br_t (nI_le (a := 16) (b := 16) (by omega) (by omega)) (K hd' h)
  | succ d ih =>
    intro y f hd' hy hf h
    obtain ⟨f, rfl⟩ : ∃ m, f = m + 1 := ⟨f - 1, by omega⟩
    have nx : ∀ r, r = nI (H y) → vp_in (nI y) 16 ∧ ∀ a : Nat → Int32, a = upd hd' (nI y).toNatClampNeg r → ∀ x : Int32, x = nI y + 1 → wY_suspect_7 post x1 m cap P R f x sz rf a := by
      intro r hr
      refine ⟨vp_in_nI (by omega) (by omega), nm_r (hb_up (by omega) hr) (nm_r (nI_1 y) (ih (y + 1) f _ (by omega) (by omega) (fun j hj => ?_)))⟩
      by_cases e : j = y
      · subst e; exact pk_us
      · rw [pk_un e]; exact h j (by omega)
    refine br_f (nI_ge (b := 16) (by omega) (by omega)) (ys_ret hR hrf hz (fun x ex hx => ?_) (fun hn => ?_))
    · refine nx _ ?_
      have := oc_lt hx
      rw [hH y, hb_neq (by omega) (by omega) ex]
    · refine nx _ ?_
      rw [hH y, dn_none 16 (fun i _ w => hn ⟨y, rfl, w.1⟩)]
      exact nI_0.symm
theorem ys_sus {post : Int32 → SY → Prop} {x1 : Int32} {z : Nat → Nat} (hR : ∀ i, bt R i = true → i < 16) (hrf : ∀ a i, a < 16 → bt (rf a) i = true → i < 16) (hz : ∀ x, x < 16 → sz x = nI (z x)) (hH : ∀ y, H y = dn_sum (oc_D R rf P y) z 16) (hb : ∀ j, j < 16 → H j < 2 ^ 31)
    (K1 : ∀ y hd', oc_R R rf P y → nI (cn (fun a => oc_R R rf P a ∧ bf H a y) 16) = x1 → post (nI y) (cap, P, R, sz, rf, hd')) (K0 : ∀ hd', (∀ y, oc_R R rf P y → nI (cn (fun a => oc_R R rf P a ∧ bf H a y) 16) ≠ x1) → post (-1) (cap, P, R, sz, rf, hd')) : wpY_suspect post (cap, P, R, sz, rf, hd) x1 := by
  unfold wpY_suspect
  refine ys_live hR hrf (fun m hm => ?_)
  refine ⟨17, ys_7 hR hrf hz hH (fun hd' hh => ?_) 16 0 17 hd rfl (by omega) (fun j h => absurd h (by omega))⟩
  exact ⟨17, ys_32 (H := H) hm (fun i h => (oc_lt h).1) hh hb (fun y => K1 y hd') (K0 hd') 16 0 17 rfl (by omega) (fun j h => absurd h (by omega))⟩
end
section
variable {f_capacity f_present f_roots f_known f_met : Int32} {a_sizes a_out a_in a_order a_number a_parent a_stack a_semi a_above a_label a_bucket a_path a_idom a_level a_under a_held : Nat → Int32}
variable {rf : Nat → Int32} {z : Nat → Nat} {n : Nat} {od im : Nat → Nat} {H : Nat → Nat}
theorem xg_loop {post : Int32 → Prop} {tk : Int32} (kn : kn_I f_present f_roots rf z n od im a_order a_number a_idom a_level a_under a_held) (hH : ∀ y, H y = dn_sum (oc_D f_roots rf f_present y) z 16) (hb : ∀ j, j < 16 → H j < 2 ^ 31)
    (K : ∀ q, (∃ b, q = nI b ∧ b < 16 ∧ oc_R f_roots rf f_present b ∧ bt tk b = false ∧ ∀ y, y < 16 → oc_R f_roots rf f_present y → bt tk y = false → y ≠ b → bf H b y) ∨ (∀ y, y < 16 → oc_R f_roots rf f_present y → bt tk y = true) → post q) :
    ∀ d i f q s, i + d = 16 → d < f → ((∃ b, q = nI b ∧ s = nI (H b) ∧ b < i ∧ oc_R f_roots rf f_present b ∧ bt tk b = false ∧ ∀ y, y < i → oc_R f_roots rf f_present y → bt tk y = false → y ≠ b → bf H b y) ∨ (s = -1 ∧ ∀ y, y < i → oc_R f_roots rf f_present y → bt tk y = true)) → wX_greatestBut_7 post tk f_capacity f_present f_roots f_known f_met a_sizes a_out a_in a_order a_number a_parent a_stack a_semi a_above a_label a_bucket a_path a_idom a_level a_under a_held f q s (nI i) := by
  have hn := kn.1.2.1
  intro d
  induction d with
  | zero =>
    intro i f q s hi hf h
    obtain ⟨f, rfl⟩ : ∃ m, f = m + 1 := ⟨f - 1, by omega⟩
    have e : i = 16 := hi
    subst e
    refine br_t (nI_le (a := 16) (b := 16) (by omega) (by omega)) (K q ?_)
    rcases h with ⟨b, b1, _, b3, b4, b5, b6⟩ | ⟨_, h⟩
    · exact Or.inl ⟨b, b1, b3, b4, b5, b6⟩
    · exact Or.inr h
  | succ d ih =>
    intro i f q s hi hf h
    obtain ⟨f, rfl⟩ : ∃ m, f = m + 1 := ⟨f - 1, by omega⟩
    have bits : bt (a_under 0 &&& (tk ^^^ (-1))) i = true ↔ oc_R f_roots rf f_present i ∧ bt tk i = false := by
      rw [hb_an, Bool.and_eq_true, Bool.not_eq_true', kn.2.2.2.2.1 0 kn.1.1 i]
      exact ⟨fun w => ⟨w.1.1, w.2⟩, fun w => ⟨⟨w.1, Or.inl rfl⟩, w.2⟩⟩
    have keep : ¬ (oc_R f_roots rf f_present i ∧ bt tk i = false) → wX_greatestBut_7 post tk f_capacity f_present f_roots f_known f_met a_sizes a_out a_in a_order a_number a_parent a_stack a_semi a_above a_label a_bucket a_path a_idom a_level a_under a_held f q s (nI (i + 1)) := by
      intro hno
      refine ih (i + 1) f q s (by omega) (by omega) ?_
      rcases h with ⟨b, b1, b2, b3, b4, b5, b6⟩ | ⟨e, h⟩
      · refine Or.inl ⟨b, b1, b2, by omega, b4, b5, fun y hy y1 y2 y3 => ?_⟩
        by_cases e : y = i
        · subst e; exact absurd ⟨y1, y2⟩ hno
        · exact b6 y (by omega) y1 y2 y3
      · refine Or.inr ⟨e, fun y hy y1 => ?_⟩
        by_cases e : y = i
        · subst e
          cases w : bt tk y with
          | true => rfl
          | false => exact absurd ⟨y1, w⟩ hno
        · exact h y (by omega) y1
    refine br_f (nI_ge (b := 16) (by omega) (by omega)) ?_
    by_cases hbit : bt (a_under 0 &&& (tk ^^^ (-1))) i = true
    · obtain ⟨l1, l2⟩ := bits.mp hbit
      obtain ⟨v, v0, hv, ev⟩ := kn_v kn l1
      have hnum : a_number (nI i).toNatClampNeg = nI v := by
        rw [nI_clamp (by omega), ← ev]; exact (kn.2.2.1 v v0 hv).2.2.2
      have hheld : a_held (a_number (nI i).toNatClampNeg).toNatClampNeg = nI (H i) := by
        rw [hnum, nI_clamp (by omega), kn_held kn v0 hv, ev, hH i]
      have i17 : vp_in (nI i) 17 := vp_in_nI (by omega) (by omega)
      have n17 : vp_in (a_number (nI i).toNatClampNeg) 17 := by rw [hnum]; exact vp_in_nI (by omega) (by omega)
      have bi := hb i (by omega)
      refine br_f (hb_n0 (by omega) hbit) (br_f (by decide) ⟨i17, n17, ?_⟩)
      rcases h with ⟨b, b1, b2, b3, b4, b5, b6⟩ | ⟨e, h⟩
      · have bb := hb b (by omega)
        rcases Nat.lt_or_ge (H b) (H i) with w | w
        · refine br_f (by rw [hheld, b2]; exact nI_ge w (by omega)) ⟨i17, n17, nm_r hheld (nm_r (nI_1 i) (ih (i + 1) f (nI i) (nI (H i)) (by omega) (by omega) (Or.inl ⟨i, rfl, rfl, by omega, l1, l2, fun y hy y1 y2 y3 => ?_⟩)))⟩
          by_cases e : y = b
          · subst e; exact Or.inl w
          · have := b6 y (by omega) y1 y2 e
            unfold bf at this ⊢; omega
        · refine br_t (by rw [hheld, b2]; exact nI_le w (by omega)) (nm_r (nI_1 i) (ih (i + 1) f q s (by omega) (by omega) (Or.inl ⟨b, b1, b2, by omega, b4, b5, fun y hy y1 y2 y3 => ?_⟩)))
          by_cases e : y = i
          · subst e; unfold bf; omega
          · exact b6 y (by omega) y1 y2 y3
      · refine br_f (by rw [hheld, e]; exact fun w => nI_pos bi (Int32.lt_of_le_of_lt w hb_neg')) ⟨i17, n17, nm_r hheld (nm_r (nI_1 i) (ih (i + 1) f (nI i) (nI (H i)) (by omega) (by omega) (Or.inl ⟨i, rfl, rfl, by omega, l1, l2, fun y hy y1 y2 y3 => ?_⟩)))⟩
        have := h y (by omega) y1
        rw [y2] at this
        exact absurd this (by decide)
    · exact br_t (hb_z0 (by omega) hbit) (br_t rfl (nm_r (nI_1 i) (keep (fun w => hbit (bits.mpr w)))))
theorem xg_sus {post : Int32 → SX → Prop} {k : Nat} (kn : kn_I f_present f_roots rf z n od im a_order a_number a_idom a_level a_under a_held) (hH : ∀ y, H y = dn_sum (oc_D f_roots rf f_present y) z 16) (hb : ∀ j, j < 16 → H j < 2 ^ 31) (hk : k + 1 < n)
    (K : ∀ y, oc_R f_roots rf f_present y → cn (fun a => oc_R f_roots rf f_present a ∧ bf H a y) 16 = k → post (nI y) (f_capacity, f_present, f_roots, f_known, f_met, a_sizes, a_out, a_in, a_order, a_number, a_parent, a_stack, a_semi, a_above, a_label, a_bucket, a_path, a_idom, a_level, a_under, a_held)) :
    ∀ d r f tk q, r + d = k + 1 → d < f → (∀ x, bt tk x = true → oc_R f_roots rf f_present x) → cn (fun x => bt tk x = true) 16 = r → (∀ x y, bt tk x = true → oc_R f_roots rf f_present y → bt tk y = false → bf H x y) → (0 < r → ∃ b, q = nI b ∧ bt tk b = true ∧ ∀ x, bt tk x = true → x ≠ b → bf H x b) → wX_suspect_27 post (nI k) f_capacity f_present f_roots f_known f_met a_sizes a_out a_in a_order a_number a_parent a_stack a_semi a_above a_label a_bucket a_path a_idom a_level a_under a_held f tk q (nI r) := by
  have hn := kn.1.2.1
  have hc := kn.1.2.2
  intro d
  induction d with
  | zero =>
    intro r f tk q hr hf h1 h2 h3 h4
    obtain ⟨f, rfl⟩ : ∃ m, f = m + 1 := ⟨f - 1, by omega⟩
    obtain ⟨b, b1, b2, b3⟩ := h4 (by omega)
    have hL := h1 b b2
    refine br_t (nI_lt (by omega) (by omega)) ?_
    rw [b1]
    refine K b hL ?_
    have e1 : cn (fun x => bt tk x = true) 16 = cn (fun a => oc_R f_roots rf f_present a ∧ bf H a b) 16 + 1 := by
      rw [← cn_add (P := fun a => oc_R f_roots rf f_present a ∧ bf H a b) (a := b) (fun w => bf_as w.2 w.2) (oc_lt hL).1]
      refine cn_eq fun a _ => ⟨fun w => ?_, fun w => ?_⟩
      · by_cases e : a = b
        · exact Or.inr e
        · exact Or.inl ⟨h1 a w, b3 a w e⟩
      · rcases w with ⟨w1, w2⟩ | w
        · cases e : bt tk a with
          | true => rfl
          | false => exact absurd (h3 b a b2 w1 e) (fun q => bf_as q w2)
        · rw [w]; exact b2
    omega
  | succ d ih =>
    intro r f tk q hr hf h1 h2 h3 h4
    obtain ⟨f, rfl⟩ : ∃ m, f = m + 1 := ⟨f - 1, by omega⟩
    refine br_f (nI_nlt (by omega) (by omega)) (Exists.intro 17 (xg_loop kn hH hb (fun q' hq' => ?_) 16 0 17 0 (-1) rfl (by omega) (Or.inr ⟨rfl, fun y h => absurd h (by omega)⟩)))
    rcases hq' with ⟨b, b1, b2, b3, b4, b5⟩ | hall
    · subst b1
      have tb : ∀ x, bt (tk ||| ((1 : Int32) <<< (nI b &&& 31))) x = true ↔ bt tk x = true ∨ x = b := by
        intro x
        rw [b_or, Bool.or_eq_true, hb_one (by omega), decide_eq_true_eq]
      refine nm_e (nm_r (nI_1 r) (ih (r + 1) f _ (nI b) (by omega) (by omega) (fun x hx => ?_) ?_ (fun x y hx hy hty => ?_) (fun _ => ⟨b, rfl, (tb b).mpr (Or.inr rfl), fun x hx hne => ?_⟩)))
      · rcases (tb x).mp hx with w | w
        · exact h1 x w
        · rw [w]; exact b3
      · rw [cn_eq (Q := fun x => bt tk x = true ∨ x = b) (fun x _ => tb x), cn_add (P := fun x => bt tk x = true) (a := b) (by rw [b4]; decide) b2, h2]
      · have hty' : bt tk y = false ∧ y ≠ b := by
          refine ⟨hb_f (fun w => ?_), fun w => ?_⟩
          · rw [(tb y).mpr (Or.inl w)] at hty; exact absurd hty (by decide)
          · rw [(tb y).mpr (Or.inr w)] at hty; exact absurd hty (by decide)
        rcases (tb x).mp hx with w | w
        · exact h3 x y w hy hty'.1
        · rw [w]; exact b5 y (oc_lt hy).1 hy hty'.1 hty'.2
      · rcases (tb x).mp hx with w | w
        · exact h3 x b w b3 b4
        · exact absurd w hne
    · exfalso
      have := cn_mono (P := oc_R f_roots rf f_present) (Q := fun x => bt tk x = true) (N := 16) (fun x hx w => hall x hx w)
      omega
end
theorem i_vc_suspect {k : Nat} {u : SX} {v : SY} (I : i_Rel k u v) (hk : k + 3 ≤ 1537) (v1 : Int32) : wpX_suspect (fun r u' => wpY_suspect (fun r' v' => r' = r ∧ i_Rel (k + 3) u' v') v v1) u v1 := by
  refine re_el (Q := fun u v => wpX_suspect (fun r u' => wpY_suspect (fun r' v' => r' = r ∧ i_Rel (k + 3) u' v') v v1) u v1) ?_ I
  intro c z f_present f_roots f_known f_met a_sizes a_out a_in a_order a_number a_parent a_stack a_semi a_above a_label a_bucket a_path a_idom a_level a_under a_held y_sizes y_refs y_held W hkn
  unfold wpX_suspect
  refine xf_find W hkn (fun met out order number parent stack semi above label bucket path idom level under held ho hk' => ?_)
  have hk2 := hk'
  obtain ⟨n, od, im, em, kn⟩ := hk2
  subst em
  have hn := kn.1.2.1
  have hn0 := kn.1.1
  have hc := kn.1.2.2
  have hz : ∀ x, x < 16 → y_sizes x = nI (z x) := fun x hx => (W.2.2.2.2.2.2 x hx).2.1
  have hHb : ∀ j, j < 16 → (fun y => dn_sum (oc_D f_roots y_refs f_present y) z 16) j < 2 ^ 31 := by
    intro j _
    have := dn_le (Q := oc_D f_roots y_refs f_present j) (z := z) (fun i hi => (W.2.2.2.2.2.2 i hi).2.2) 16 (by omega)
    show dn_sum (oc_D f_roots y_refs f_present j) z 16 < 2 ^ 31
    omega
  have RE : ∀ hd', i_Rel (k + 3) (nI c, f_present, f_roots, 1, nI n, a_sizes, out, a_in, order, number, parent, stack, semi, above, label, bucket, path, idom, level, under, held) (nI c, f_present, f_roots, y_sizes, y_refs, hd') := fun hd' => re_in (hv_out W ho) (Or.inr ⟨rfl, hk'⟩)
  have lt : ∀ y, oc_R f_roots y_refs f_present y → cn (fun a => oc_R f_roots y_refs f_present a ∧ bf (fun y => dn_sum (oc_D f_roots y_refs f_present y) z 16) a y) 16 < n - 1 := by
    intro y hy
    have := cn_lt (P := fun a => oc_R f_roots y_refs f_present a ∧ bf (fun y => dn_sum (oc_D f_roots y_refs f_present y) z 16) a y) (Q := oc_R f_roots y_refs f_present) (a := y) (fun w => bf_as w.2 w.2) hy (N := 16) (fun _ _ w => w.1) (oc_lt hy).1
    omega
  by_cases h0 : v1 < 0
  · refine br_t h0 (ys_sus (H := fun y => dn_sum (oc_D f_roots y_refs f_present y) z 16) (hv_R W) (hv_rf W) hz (fun _ => rfl) hHb (fun y hd' hy e => ?_) (fun hd' _ => ⟨rfl, RE hd'⟩))
    rw [← e] at h0
    have := lt y hy
    exact absurd h0 (nI_pos (by omega))
  · obtain ⟨j, hj, e⟩ := nI_of h0
    subst e
    have em1 : nI n - 1 = nI (n - 1) := pk_sub (b := 1) (by omega)
    rcases Nat.lt_or_ge j (n - 1) with w | w
    · refine br_f h0 (br_t (by rw [em1]; exact nI_lt w (by omega)) ⟨j + 2, xg_sus (k := j) (H := fun y => dn_sum (oc_D f_roots y_refs f_present y) z 16) kn (fun _ => rfl) hHb (by omega) (fun y hy hcy => ?_) (j + 1) 0 (j + 2) 0 (-1) (by omega) (by omega) (fun x h => ?_) ?_ (fun x y h => ?_) (fun h => absurd h (by omega))⟩)
      · refine ys_sus (H := fun y => dn_sum (oc_D f_roots y_refs f_present y) z 16) (hv_R W) (hv_rf W) hz (fun _ => rfl) hHb (fun y' hd' hy' e => ⟨?_, RE hd'⟩) (fun hd' hno => absurd (congrArg nI hcy) (hno y hy))
        have l1 := lt y' hy'
        have e2 := hb_neq (by omega) (by omega) e
        exact congrArg nI (bf_u (L := oc_R f_roots y_refs f_present) hy' hy (oc_lt hy').1 (oc_lt hy).1 (e2.trans hcy.symm))
      · rw [b_0] at h; exact absurd h (by decide)
      · exact cn_none 16 (fun x _ h => by rw [b_0] at h; exact absurd h (by decide))
      · rw [b_0] at h; exact absurd h (by decide)
    · refine br_f h0 (br_f (by rw [em1]; exact nI_nlt w (by omega)) (ys_sus (H := fun y => dn_sum (oc_D f_roots y_refs f_present y) z 16) (hv_R W) (hv_rf W) hz (fun _ => rfl) hHb (fun y hd' hy e => ?_) (fun hd' _ => ⟨rfl, RE hd'⟩)))
      have l1 := lt y hy
      have e2 := hb_neq (by omega) (by omega) e
      omega
end
section
/-! sweep -/
theorem sw_n {g : Bool} {i j : Nat} (h : j = i → g = false) : (g && decide (j < i + 1)) = (g && decide (j < i)) := by
  by_cases e : j = i
  · rw [h e]; rfl
  · congr 1
    exact decide_eq_decide.mpr (by omega)
theorem sw_y {g : Bool} {i j : Nat} (h : j = i → g = true) : (!(g && decide (j < i)) && !decide (j = i)) = !(g && decide (j < i + 1)) := by
  by_cases e : j = i
  · rw [h e, decide_eq_true e, decide_eq_true (show j < i + 1 by omega)]; simp
  · have e2 : decide (j < i + 1) = decide (j < i) := decide_eq_decide.mpr (by omega)
    rw [decide_eq_false e, e2]; simp
section
variable {cap P R : Int32} {sz rf hd : Nat → Int32}
theorem ys_swl {post : Int32 → SY → Prop} {g : Int32} (hg : ∀ i, bt g i = true → i < 16 ∧ bt P i = true)
    (K : ∀ P' R' r', (∀ j, bt P' j = (bt P j && !bt g j)) → (∀ j, bt R' j = (bt R j && !bt g j)) → (∀ a, a < 16 → ∀ j, bt (r' a) j = (bt (rf a) j && !bt g j && !bt g a)) → post (nI (cn (fun i => bt g i = true) 16)) (cap, P', R', sz, r', hd)) :
    ∀ d i f P' R' r', i + d = 16 → d < f → (∀ j, bt P' j = (bt P j && !(bt g j && decide (j < i)))) → (∀ j, bt R' j = (bt R j && !(bt g j && decide (j < i)))) → (∀ a, a < 16 → ∀ j, bt (r' a) j = (bt (rf a) j && !(bt g j && decide (j < i)) && !(bt g a && decide (a < i)))) → wY_sweep_16 post g f (nI (cn (fun i => bt g i = true) i)) (nI i) cap P' R' sz r' hd := by
  intro d
  induction d with
  | zero =>
    intro i f P' R' r' hi hf h1 h2 h3
    obtain ⟨f, rfl⟩ : ∃ m, f = m + 1 := ⟨f - 1, by omega⟩
    have e : i = 16 := hi
    subst e
    have hgd : ∀ j, (bt g j && decide (j < 16)) = bt g j := by
      intro j
      cases q : bt g j with
      | false => rfl
      | true => rw [decide_eq_true (hg j q).1]; rfl
    refine br_t (nI_le (a := 16) (b := 16) (by omega) (by omega)) (K P' R' r' (fun j => ?_) (fun j => ?_) (fun a ha j => ?_))
    · rw [h1 j, hgd]
    · rw [h2 j, hgd]
    · rw [h3 a ha j, hgd, hgd]
  | succ d ih =>
    intro i f P' R' r' hi hf h1 h2 h3
    obtain ⟨f, rfl⟩ : ∃ m, f = m + 1 := ⟨f - 1, by omega⟩
    refine br_f (nI_ge (b := 16) (by omega) (by omega)) ?_
    by_cases hb : bt g i = true
    · have hP' : bt P' i = true := by
        rw [h1 i, (hg i hb).2, decide_eq_false (Nat.lt_irrefl i)]; simp
      have e1 : nI (cn (fun i => bt g i = true) i) + 1 = nI (cn (fun i => bt g i = true) (i + 1)) := by
        simp only [cn, b01_t hb]
        rw [nI_1]
      have hgi : ∀ j, j = i → bt g j = true := fun j e => by rw [e]; exact hb
      refine br_t (hb_z1 (by omega) hb) (ys_d (x := i) (by omega) hP' (fun r hr => ?_))
      refine nm_r e1 (nm_r (nI_1 i) (ih (i + 1) f _ _ r (by omega) (by omega) (fun j => ?_) (fun j => ?_) (fun a ha j => ?_)))
      · rw [hb_an, h1 j, hb_one (by omega), Bool.and_assoc, sw_y (hgi j)]
      · rw [hb_an, h2 j, hb_one (by omega), Bool.and_assoc, sw_y (hgi j)]
      · rw [ry_b (by omega) hr a ha j, h3 a ha j, hb_one (by omega), hb_one (by omega), ← sw_y (hgi j), ← sw_y (hgi a)]
        cases bt (rf a) j <;> cases (!(bt g j && decide (j < i))) <;> cases (!(bt g a && decide (a < i))) <;> simp
    · have e0 : cn (fun i => bt g i = true) (i + 1) = cn (fun i => bt g i = true) i := by
        simp only [cn, b01_f hb, Nat.add_zero]
      have hgi : ∀ j, j = i → bt g j = false := fun j e => by rw [e]; exact hb_f hb
      refine br_f (hb_n1 (by omega) hb) (nm_r (nI_1 i) ?_)
      rw [← e0]
      refine ih (i + 1) f P' R' r' (by omega) (by omega) (fun j => ?_) (fun j => ?_) (fun a ha j => ?_)
      · rw [sw_n (hgi j)]; exact h1 j
      · rw [sw_n (hgi j)]; exact h2 j
      · rw [sw_n (hgi j), sw_n (hgi a)]; exact h3 a ha j
theorem ys_sweep {post : Int32 → SY → Prop} (hR : ∀ i, bt R i = true → i < 16) (hrf : ∀ a i, a < 16 → bt (rf a) i = true → i < 16) (hP : ∀ i, bt P i = true → i < 16)
    (K : ∀ m, (∀ i, bt m i = true ↔ oc_R R rf P i) → ∀ r', (∀ a, a < 16 → ∀ j, bt (r' a) j = (bt (rf a) j && !bt (P &&& (m ^^^ (-1))) j && !bt (P &&& (m ^^^ (-1))) a)) → post (nI (cn (fun i => bt (P &&& (m ^^^ (-1))) i = true) 16)) (cap, P &&& ((P &&& (m ^^^ (-1))) ^^^ (-1)), R &&& ((P &&& (m ^^^ (-1))) ^^^ (-1)), sz, r', hd)) : wpY_sweep post (cap, P, R, sz, rf, hd) := by
  unfold wpY_sweep
  refine ys_live hR hrf (fun m hm => nm_e ⟨17, ?_⟩)
  refine ys_swl (P := P) (R := R) (rf := rf) (fun i h => ?_) (fun P' R' r' h1 h2 h3 => ?_) 16 0 17 P R rf rfl (by omega) (fun j => ?_) (fun j => ?_) (fun a _ j => ?_)
  · rw [hb_an, Bool.and_eq_true] at h
    exact ⟨hP i h.1, h.1⟩
  · have e1 : P' = P &&& ((P &&& (m ^^^ (-1))) ^^^ (-1)) := b_ext fun j _ => by rw [hb_an, h1 j]
    have e2 : R' = R &&& ((P &&& (m ^^^ (-1))) ^^^ (-1)) := b_ext fun j _ => by rw [hb_an, h2 j]
    rw [e1, e2]
    exact K m hm r' h3
  · simp
  · simp
  · simp
end
section
variable {f_capacity f_present f_roots f_known f_met : Int32} {a_sizes a_out a_in a_order a_number a_parent a_stack a_semi a_above a_label a_bucket a_path a_idom a_level a_under a_held : Nat → Int32}
theorem xs_swl {post : Int32 → SX → Prop} {g : Int32} (K : ∀ o q, (∀ a, a < 16 → rm_ok g a_out o a) → (∀ a, a < 16 → rm_ok g a_in q a) → post (nI (cn (fun i => bt g i = true) 16)) (f_capacity, f_present &&& (g ^^^ (-1)), f_roots &&& (g ^^^ (-1)), 0, f_met, a_sizes, o, q, a_order, a_number, a_parent, a_stack, a_semi, a_above, a_label, a_bucket, a_path, a_idom, a_level, a_under, a_held)) :
    ∀ d i f, i + d = 16 → d < f → wX_sweep_22 post g f_capacity f_present f_roots f_known f_met a_sizes a_out a_in a_order a_number a_parent a_stack a_semi a_above a_label a_bucket a_path a_idom a_level a_under a_held f (nI (cn (fun i => bt g i = true) i)) (nI i) := by
  intro d
  induction d with
  | zero =>
    intro i f hi hf
    obtain ⟨f, rfl⟩ : ∃ m, f = m + 1 := ⟨f - 1, by omega⟩
    have e : i = 16 := hi
    subst e
    exact br_t (nI_le (a := 16) (b := 16) (by omega) (by omega)) (xs_rm K)
  | succ d ih =>
    intro i f hi hf
    obtain ⟨f, rfl⟩ : ∃ m, f = m + 1 := ⟨f - 1, by omega⟩
    refine br_f (nI_ge (b := 16) (by omega) (by omega)) (nm_r (e' := nI (cn (fun i => bt g i = true) (i + 1))) ?_ (nm_r (nI_1 i) (ih (i + 1) f (by omega) (by omega))))
    rw [hb_sh g (by omega)]
    by_cases hb : bt g i = true
    · simp only [cn, b01_t hb]
      rw [if_pos hb, nI_1]
    · simp only [cn, b01_f hb, Nat.add_zero]
      rw [if_neg hb, Int32.add_zero]
end
theorem i_vc_sweep {k : Nat} {u : SX} {v : SY} (I : i_Rel k u v) (hk : k + 3 ≤ 1537) : wpX_sweep (fun r u' => wpY_sweep (fun r' v' => r' = r ∧ i_Rel (k + 3) u' v') v) u := by
  refine re_el (Q := fun u v => wpX_sweep (fun r u' => wpY_sweep (fun r' v' => r' = r ∧ i_Rel (k + 3) u' v') v) u) ?_ I
  intro c z f_present f_roots f_known f_met a_sizes a_out a_in a_order a_number a_parent a_stack a_semi a_above a_label a_bucket a_path a_idom a_level a_under a_held y_sizes y_refs y_held W hkn
  unfold wpX_sweep
  refine xf_find W hkn (fun met out order number parent stack semi above label bucket path idom level under held ho hk' => ?_)
  obtain ⟨n, od, im, em, kn⟩ := hk'
  refine nm_e ⟨17, xs_swl (fun o q hro hrq => ?_) 16 0 17 rfl (by omega)⟩
  refine ys_sweep (hv_R W) (hv_rf W) (fun i h => by have := W.2.1 i h; have := W.1.2; omega) (fun m hm r' hr' => ?_)
  have em2 : m = under 0 := by
    refine kn_m (P := 0) (R := 0) (rf := y_refs) hm (fun i => ?_)
    rw [kn.2.2.2.2.1 0 kn.1.1 i]
    exact ⟨fun q => q.1, fun q => ⟨q, Or.inl rfl⟩⟩
  subst em2
  exact ⟨rfl, re_in (hv_rm (hv_out W ho) hro hrq hr') (Or.inl rfl)⟩
end
